/-! rows over a picture of the heap -/
/-- a field's link for an object's class -/
def gFd (own : String) (i : Nat) (T : u_T) (k : Nat) : Prop := ∃ ref, gFw own i ref (T k).2.1 (T k).2.2.1 ∧ gSame ref (T k).1 (T k).2.1 (T k).2.2.1
theorem gTy_ref : ∀ ci, ci < 15 → ∀ k, k < (gFs ci).length → gIsRef (gFn ci k) = true → (gTy ci k).isReference = true := by decide +kernel
theorem rf_nar {ty : FieldType} (h : ty.isReference = true) (v : Option Nat) : narrow ty (va_rf v) = va_rf v ∧ fits ty (va_rf v) = true := by
  cases ty <;> cases v <;> first | exact ⟨rfl, rfl⟩ | (simp [FieldType.isReference] at h)
section PROWS
variable {τ : Type} {X : gCx} {l : Launch} {Ab : gG → τ → Prop} {M : gMd} {d : Nat} {Po : Option Value → τ → Prop} {K : Nat → List (Nat × Value) → List Value → τ → Nat → Nat → Prop} {pc kc ks : Nat} {lv : List (Nat × Value)} {st : List Value} {s s' : τ} {C : String} {T : u_T} {N ci k f i a : Nat}
theorem p_getI (hK : Good X l (HoldP X Ab) M d Po K) (hd : decode M.2.1 pc = .ok (.getfield i, 3)) (hC : gCl ci C T N) (hfd : gFd M.1.cls i T k) (hk : k < N) (hf : gFn ci k = f) (hr : gIsRef f = false) {v : Int32} (hg : ∀ g, Ab g s → gk g a = ci + 1 ∧ gi g f a = v) (kk : K (pc + 3) lv (.int v :: st) s kc ks) : K pc lv (.ref a :: st) s kc ks := by
  obtain ⟨p, e, R, s0, m, args, below, meth, c, Q, ⟨hx, hb, hml, hown, hts⟩, ⟨hT, hA⟩, ⟨hfr, hlo⟩, hnm, hret, rfl⟩ := hK
  intro H locs ls cells slots hH hS hl h1 h2
  obtain ⟨g, hG, hAb⟩ := id hH
  obtain ⟨hkd, hv⟩ := hg g hAb
  obtain ⟨ref, hw, hsm⟩ := hfd
  refine o_get hx hb hts hT hown hC (hG.obj hC hkd) k hk hw hsm hd ?_
  have e1 : gV g ci a k = .int v := by unfold gV; rw [hf, hr, if_neg (by decide), hv]
  rw [e1]
  exact kk H locs ls cells slots hH hS hl h1 h2
theorem p_getR (hK : Good X l (HoldP X Ab) M d Po K) (hd : decode M.2.1 pc = .ok (.getfield i, 3)) (hC : gCl ci C T N) (hfd : gFd M.1.cls i T k) (hk : k < N) (hf : gFn ci k = f) (hr : gIsRef f = true) {v : Option Nat} (hg : ∀ g, Ab g s → gk g a = ci + 1 ∧ gr g f a = v) (kk : K (pc + 3) lv (va_rf v :: st) s kc ks) : K pc lv (.ref a :: st) s kc ks := by
  obtain ⟨p, e, R, s0, m, args, below, meth, c, Q, ⟨hx, hb, hml, hown, hts⟩, ⟨hT, hA⟩, ⟨hfr, hlo⟩, hnm, hret, rfl⟩ := hK
  intro H locs ls cells slots hH hS hl h1 h2
  obtain ⟨g, hG, hAb⟩ := id hH
  obtain ⟨hkd, hv⟩ := hg g hAb
  obtain ⟨ref, hw, hsm⟩ := hfd
  refine o_get hx hb hts hT hown hC (hG.obj hC hkd) k hk hw hsm hd ?_
  have e1 : gV g ci a k = va_rf v := by unfold gV; rw [hf, hr, if_pos rfl, hv]
  rw [e1]
  exact kk H locs ls cells slots hH hS hl h1 h2
theorem p_putI (hK : Good X l (HoldP X Ab) M d Po K) (hd : decode M.2.1 pc = .ok (.putfield i, 3)) (hC : gCl ci C T N) (hfd : gFd M.1.cls i T k) (hk : k < N) (hf : gFn ci k = f) (hr : gIsRef f = false) (hfin : (T k).2.2.2 = false) {v : Int32} (hn : narrow (gTy ci k) (.int v) = .int v) (hfit : fits (gTy ci k) (.int v) = true) (hg : ∀ g, Ab g s → gk g a = ci + 1 ∧ Ab (gSetI g f a v) s') (kk : K (pc + 3) lv st s' kc ks) : K pc lv (.int v :: .ref a :: st) s kc ks := by
  obtain ⟨p, e, R, s0, m, args, below, meth, c, Q, ⟨hx, hb, hml, hown, hts⟩, ⟨hT, hA⟩, ⟨hfr, hlo⟩, hnm, hret, rfl⟩ := hK
  intro H locs ls cells slots hH hS hl h1 h2
  obtain ⟨g, hG, hAb⟩ := hH
  obtain ⟨hkd, hv⟩ := hg g hAb
  obtain ⟨ref, hw, hsm⟩ := hfd
  refine o_put hx hb hts hT hown hC (hG.obj hC hkd) k hk hw hsm hfin hn hfit hd (fun H1 z e1 z1 oq => ?_)
  exact kk H1 _ ls cells slots ⟨_, hG.setI hC hkd hk hf hr e1 z1 oq, hv⟩ (hS.put z1 oq (hG.2.1 a (by rw [hkd]; omega)).1) hl h1 h2
theorem p_putR (hK : Good X l (HoldP X Ab) M d Po K) (hd : decode M.2.1 pc = .ok (.putfield i, 3)) (hC : gCl ci C T N) (hfd : gFd M.1.cls i T k) (hk : k < N) (hf : gFn ci k = f) (hr : gIsRef f = true) (hfin : (T k).2.2.2 = false) {v : Option Nat} (hg : ∀ g, Ab g s → gk g a = ci + 1 ∧ Ab (gSetR g f a v) s') (kk : K (pc + 3) lv st s' kc ks) : K pc lv (va_rf v :: .ref a :: st) s kc ks := by
  obtain ⟨p, e, R, s0, m, args, below, meth, c, Q, ⟨hx, hb, hml, hown, hts⟩, ⟨hT, hA⟩, ⟨hfr, hlo⟩, hnm, hret, rfl⟩ := hK
  intro H locs ls cells slots hH hS hl h1 h2
  obtain ⟨g, hG, hAb⟩ := hH
  obtain ⟨hkd, hv⟩ := hg g hAb
  obtain ⟨ref, hw, hsm⟩ := hfd
  have hlt := gCi_lt hC.1
  have hty := rf_nar (gTy_ref ci hlt k (by rw [gFs_len ci hlt _ hC.1]; exact hk) (by rw [hf]; exact hr)) v
  refine o_put hx hb hts hT hown hC (hG.obj hC hkd) k hk hw hsm hfin hty.1 hty.2 hd (fun H1 z e1 z1 oq => ?_)
  exact kk H1 _ ls cells slots ⟨_, hG.setR hC hkd hk hf hr e1 z1 oq, hv⟩ (hS.put z1 oq (hG.2.1 a (by rw [hkd]; omega)).1) hl h1 h2
theorem p_putFI (hK : Good X l (HoldP X Ab) M d Po K) (hd : decode M.2.1 pc = .ok (.putfield i, 3)) (hC : gCl ci C T N) (hfd : Cond.fieldLink M.1.cls i M.1.cls (T k).2.1 (T k).2.2.1 ∈ gtbl) (hdc : (T k).1 = M.1.cls) (hini : M.1.name = "<init>") (hk : k < N) (hf : gFn ci k = f) (hr : gIsRef f = false) (hfin : (T k).2.2.2 = true) {v : Int32} (hn : narrow (gTy ci k) (.int v) = .int v) (hfit : fits (gTy ci k) (.int v) = true) (hg : ∀ g, Ab g s → gk g a = ci + 1 ∧ Ab (gSetI g f a v) s') (kk : K (pc + 3) lv st s' kc ks) : K pc lv (.int v :: .ref a :: st) s kc ks := by
  obtain ⟨p, e, R, s0, m, args, below, meth, c, Q, ⟨hx, hb, hml, hown, hts⟩, ⟨hT, hA⟩, ⟨hfr, hlo⟩, hnm, hret, rfl⟩ := hK
  intro H locs ls cells slots hH hS hl h1 h2
  obtain ⟨g, hG, hAb⟩ := hH
  obtain ⟨hkd, hv⟩ := hg g hAb
  refine o_putF hx hb hts hT hown hC (hG.obj hC hkd) k hk hfd hfin (hnm.trans hini) hdc hn hfit hd (fun H1 z e1 z1 oq => ?_)
  exact kk H1 _ ls cells slots ⟨_, hG.setI hC hkd hk hf hr e1 z1 oq, hv⟩ (hS.put z1 oq (hG.2.1 a (by rw [hkd]; omega)).1) hl h1 h2
theorem p_putFR (hK : Good X l (HoldP X Ab) M d Po K) (hd : decode M.2.1 pc = .ok (.putfield i, 3)) (hC : gCl ci C T N) (hfd : Cond.fieldLink M.1.cls i M.1.cls (T k).2.1 (T k).2.2.1 ∈ gtbl) (hdc : (T k).1 = M.1.cls) (hini : M.1.name = "<init>") (hk : k < N) (hf : gFn ci k = f) (hr : gIsRef f = true) (hfin : (T k).2.2.2 = true) {v : Option Nat} (hg : ∀ g, Ab g s → gk g a = ci + 1 ∧ Ab (gSetR g f a v) s') (kk : K (pc + 3) lv st s' kc ks) : K pc lv (va_rf v :: .ref a :: st) s kc ks := by
  obtain ⟨p, e, R, s0, m, args, below, meth, c, Q, ⟨hx, hb, hml, hown, hts⟩, ⟨hT, hA⟩, ⟨hfr, hlo⟩, hnm, hret, rfl⟩ := hK
  intro H locs ls cells slots hH hS hl h1 h2
  obtain ⟨g, hG, hAb⟩ := hH
  obtain ⟨hkd, hv⟩ := hg g hAb
  have hlt := gCi_lt hC.1
  have hty := rf_nar (gTy_ref ci hlt k (by rw [gFs_len ci hlt _ hC.1]; exact hk) (by rw [hf]; exact hr)) v
  refine o_putF hx hb hts hT hown hC (hG.obj hC hkd) k hk hfd hfin (hnm.trans hini) hdc hty.1 hty.2 hd (fun H1 z e1 z1 oq => ?_)
  exact kk H1 _ ls cells slots ⟨_, hG.setR hC hkd hk hf hr e1 z1 oq, hv⟩ (hS.put z1 oq (hG.2.1 a (by rw [hkd]; omega)).1) hl h1 h2
theorem p_new (hK : Good X l (HoldP X Ab) M d Po K) (hd : decode M.2.1 pc = .ok (.new i, 3)) (hC : gCl ci C T N) (hcl : Cond.classLink M.1.cls i C ∈ gtbl) (hin : Cond.instantiable C N ∈ gtbl) (hii : Cond.initialized C ∈ gtbl) (hg : ∀ g, Ab g s → gx g = a ∧ Ab (gNew g ci) s') (kk : K (pc + 3) lv (.ref a :: st) s' kc ks) : K pc lv st s (kc + 1) (ks + N) := by
  obtain ⟨p, e, R, s0, m, args, below, meth, c, Q, ⟨hx, hb, hml, hown, hts⟩, ⟨hT, hA⟩, ⟨hfr, hlo⟩, hnm, hret, rfl⟩ := hK
  intro H locs ls cells slots hH hS hl h1 h2
  obtain ⟨g, hG, hAb⟩ := hH
  obtain ⟨hxa, hv⟩ := hg g hAb
  have hsz : H.size = a := hG.1.trans hxa
  refine o_new hx hb hts hT hown hC hcl hin hii (by omega) (by omega) hd (fun H1 e1 z1 oq => ?_)
  have hAa : cxA X H.size := hA _ hS.1
  rw [show (Value.ref H.size) = .ref a by rw [hsz]]
  exact kk H1 locs ls _ _ ⟨_, hG.new hC hAa e1 z1 oq, hv⟩ ⟨Nat.le_trans hS.1 (by omega), fun q h3 h4 => (oq q (Nat.lt_of_lt_of_le h3 hS.1)).trans (hS.2.1 q h3 h4), hS.2.2⟩ hl (by omega) (by omega)
theorem p_newi (hK : Good X l (HoldP X Ab) M d Po K) {at' : ArrayType} {t n : Nat} {j : Int32} (hd : decode M.2.1 pc = .ok (.newarray at', 2)) (ht : t < 2) (hat : newarray.typeOf at' = gAty t) (hw : Cond.arrayClass (gAty t) ∈ gtbl) (hj : j = nI n) (hn : n < 1000) (hg : ∀ g, Ab g s → gx g = a ∧ Ab (gNewA g t n) s') (kk : K (pc + 2) lv (.ref a :: st) s' kc ks) : K pc lv (.int j :: st) s (kc + 1) (ks + n) := by
  obtain ⟨p, e, R, s0, m, args, below, meth, c, Q, ⟨hx, hb, hml, hown, hts⟩, ⟨hT, hA⟩, ⟨hfr, hlo⟩, hnm, hret, rfl⟩ := hK
  intro H locs ls cells slots hH hS hl h1 h2
  obtain ⟨g, hG, hAb⟩ := hH
  obtain ⟨hxa, hv⟩ := hg g hAb
  have hsz : H.size = a := hG.1.trans hxa
  refine a_newi hx hb hts hT ht hat hw n hj hn (by omega) (by omega) hd (fun H1 e1 z1 oq => ?_)
  have hAa : cxA X H.size := hA _ hS.1
  rw [show (Value.ref H.size) = .ref a by rw [hsz]]
  exact kk H1 locs ls _ _ ⟨_, hG.newA (by omega) hn (by rw [if_pos ht]) hAa e1 z1 oq, hv⟩ ⟨Nat.le_trans hS.1 (by omega), fun q h3 h4 => (oq q (Nat.lt_of_lt_of_le h3 hS.1)).trans (hS.2.1 q h3 h4), hS.2.2⟩ hl (by omega) (by omega)
theorem p_newq (hK : Good X l (HoldP X Ab) M d Po K) {t n : Nat} {j : Int32} (hd : decode M.2.1 pc = .ok (.anewarray i, 3)) (ht : t < 5) (ht2 : 2 ≤ t) (hCt : gAty t = .object C) (hAO : ∀ U, gT X U → va_AO C U) (hw : Cond.classLink M.1.cls i C ∈ gtbl) (hj : j = nI n) (hn : n < 1000) (hg : ∀ g, Ab g s → gx g = a ∧ Ab (gNewA g t n) s') (kk : K (pc + 3) lv (.ref a :: st) s' kc ks) : K pc lv (.int j :: st) s (kc + 1) (ks + n) := by
  obtain ⟨p, e, R, s0, m, args, below, meth, c, Q, ⟨hx, hb, hml, hown, hts⟩, ⟨hT, hA⟩, ⟨hfr, hlo⟩, hnm, hret, rfl⟩ := hK
  intro H locs ls cells slots hH hS hl h1 h2
  obtain ⟨g, hG, hAb⟩ := hH
  obtain ⟨hxa, hv⟩ := hg g hAb
  have hsz : H.size = a := hG.1.trans hxa
  refine a_newa hx hb hts hT hown ht hCt (hAO _ hT) hw n hj hn (by omega) (by omega) hd (fun H1 e1 z1 oq => ?_)
  have hAa : cxA X H.size := hA _ hS.1
  rw [show (Value.ref H.size) = .ref a by rw [hsz]]
  exact kk H1 locs ls _ _ ⟨_, hG.newA ht hn (by rw [if_neg (by omega)]) hAa e1 z1 oq, hv⟩ ⟨Nat.le_trans hS.1 (by omega), fun q h3 h4 => (oq q (Nat.lt_of_lt_of_le h3 hS.1)).trans (hS.2.1 q h3 h4), hS.2.2⟩ hl (by omega) (by omega)
theorem p_iald (hK : Good X l (HoldP X Ab) M d Po K) {v : Int32} {q : Int32} (j L : Nat) (hd : decode M.2.1 pc = .ok (.iaload, 1)) (hq : q = nI j) (hj : j < L) (hg : ∀ g, Ab g s → gk g a = 100 ∧ gl g a = L ∧ ga g a j = v) (kk : K (pc + 1) lv (.int v :: st) s kc ks) : K pc lv (.int q :: .ref a :: st) s kc ks := by
  obtain ⟨p, e, R, s0, m, args, below, meth, c, Q, ⟨hx, hb, hml, hown, hts⟩, ⟨hT, hA⟩, ⟨hfr, hlo⟩, hnm, hret, rfl⟩ := hK
  intro H locs ls cells slots hH hS hl h1 h2
  obtain ⟨g, hG, hAb⟩ := id hH
  obtain ⟨hkd, hL, hv⟩ := hg g hAb
  obtain ⟨e1, e2⟩ := hG.2.2.2 a 0 (by decide) hkd
  refine a_iald hx hb hT e1 j hq (by rw [hL]; exact hj) (by omega) hd ?_
  rw [show gW g 0 a j = .int v by unfold gW; rw [if_pos (by decide), hv]]
  exact kk H locs ls cells slots hH hS hl h1 h2
theorem p_zald (hK : Good X l (HoldP X Ab) M d Po K) {v : Int32} {q : Int32} (j L : Nat) (hd : decode M.2.1 pc = .ok (.baload, 1)) (hq : q = nI j) (hj : j < L) (hg : ∀ g, Ab g s → gk g a = 101 ∧ gl g a = L ∧ ga g a j = v) (kk : K (pc + 1) lv (.int v :: st) s kc ks) : K pc lv (.int q :: .ref a :: st) s kc ks := by
  obtain ⟨p, e, R, s0, m, args, below, meth, c, Q, ⟨hx, hb, hml, hown, hts⟩, ⟨hT, hA⟩, ⟨hfr, hlo⟩, hnm, hret, rfl⟩ := hK
  intro H locs ls cells slots hH hS hl h1 h2
  obtain ⟨g, hG, hAb⟩ := id hH
  obtain ⟨hkd, hL, hv⟩ := hg g hAb
  obtain ⟨e1, e2⟩ := hG.2.2.2 a 1 (by decide) hkd
  refine a_zald hx hb hT e1 j hq (by rw [hL]; exact hj) (by omega) hd ?_
  rw [show gW g 1 a j = .int v by unfold gW; rw [if_pos (by decide), hv]]
  exact kk H locs ls cells slots hH hS hl h1 h2
theorem p_aald (hK : Good X l (HoldP X Ab) M d Po K) {t : Nat} {v : Option Nat} {q : Int32} (j L : Nat) (hd : decode M.2.1 pc = .ok (.aaload, 1)) (ht : t < 5) (ht2 : 2 ≤ t) (hCt : gAty t = .object C) (hq : q = nI j) (hj : j < L) (hg : ∀ g, Ab g s → gk g a = 100 + t ∧ gl g a = L ∧ gb g a j = v) (kk : K (pc + 1) lv (va_rf v :: st) s kc ks) : K pc lv (.int q :: .ref a :: st) s kc ks := by
  obtain ⟨p, e, R, s0, m, args, below, meth, c, Q, ⟨hx, hb, hml, hown, hts⟩, ⟨hT, hA⟩, ⟨hfr, hlo⟩, hnm, hret, rfl⟩ := hK
  intro H locs ls cells slots hH hS hl h1 h2
  obtain ⟨g, hG, hAb⟩ := id hH
  obtain ⟨hkd, hL, hv⟩ := hg g hAb
  obtain ⟨e1, e2⟩ := hG.2.2.2 a t ht hkd
  refine a_aald hx hb hT ht hCt e1 j hq (by rw [hL]; exact hj) (by omega) hd ?_
  rw [show gW g t a j = va_rf v by unfold gW; rw [if_neg (by omega), hv]]
  exact kk H locs ls cells slots hH hS hl h1 h2
theorem p_alen (hK : Good X l (HoldP X Ab) M d Po K) {t L : Nat} (hd : decode M.2.1 pc = .ok (.arraylength, 1)) (ht : t < 5) (hg : ∀ g, Ab g s → gk g a = 100 + t ∧ gl g a = L) (kk : K (pc + 1) lv (.int (nI L) :: st) s kc ks) : K pc lv (.ref a :: st) s kc ks := by
  obtain ⟨p, e, R, s0, m, args, below, meth, c, Q, ⟨hx, hb, hml, hown, hts⟩, ⟨hT, hA⟩, ⟨hfr, hlo⟩, hnm, hret, rfl⟩ := hK
  intro H locs ls cells slots hH hS hl h1 h2
  obtain ⟨g, hG, hAb⟩ := id hH
  obtain ⟨hkd, hL⟩ := hg g hAb
  obtain ⟨e1, e2⟩ := hG.2.2.2 a t ht hkd
  refine a_alen hx hb hT ht e1 hd ?_
  rw [hL]
  exact kk H locs ls cells slots hH hS hl h1 h2
theorem p_iast (hK : Good X l (HoldP X Ab) M d Po K) {v : Int32} {q : Int32} (j L : Nat) (hd : decode M.2.1 pc = .ok (.iastore, 1)) (hq : q = nI j) (hj : j < L) (hg : ∀ g, Ab g s → gk g a = 100 ∧ gl g a = L ∧ Ab (gSetA g a j v) s') (kk : K (pc + 1) lv st s' kc ks) : K pc lv (.int v :: .int q :: .ref a :: st) s kc ks := by
  obtain ⟨p, e, R, s0, m, args, below, meth, c, Q, ⟨hx, hb, hml, hown, hts⟩, ⟨hT, hA⟩, ⟨hfr, hlo⟩, hnm, hret, rfl⟩ := hK
  intro H locs ls cells slots hH hS hl h1 h2
  obtain ⟨g, hG, hAb⟩ := hH
  obtain ⟨hkd, hL, hv⟩ := hg g hAb
  obtain ⟨e1, e2⟩ := hG.2.2.2 a 0 (by decide) hkd
  refine a_iast hx hb hT e1 j hq (by rw [hL]; exact hj) (by omega) hd (fun H1 z e3 z1 oq => ?_)
  exact kk H1 _ ls cells slots ⟨_, hG.setA (t := 0) (by decide) hkd e3 z1 oq, hv⟩ (hS.put z1 oq (hG.2.1 a (by rw [hkd]; omega)).1) hl h1 h2
theorem p_zast (hK : Good X l (HoldP X Ab) M d Po K) {v : Int32} {q : Int32} (j L : Nat) (hn : narrow .boolean (.int v) = .int v) (hd : decode M.2.1 pc = .ok (.bastore, 1)) (hq : q = nI j) (hj : j < L) (hg : ∀ g, Ab g s → gk g a = 101 ∧ gl g a = L ∧ Ab (gSetA g a j v) s') (kk : K (pc + 1) lv st s' kc ks) : K pc lv (.int v :: .int q :: .ref a :: st) s kc ks := by
  obtain ⟨p, e, R, s0, m, args, below, meth, c, Q, ⟨hx, hb, hml, hown, hts⟩, ⟨hT, hA⟩, ⟨hfr, hlo⟩, hnm, hret, rfl⟩ := hK
  intro H locs ls cells slots hH hS hl h1 h2
  obtain ⟨g, hG, hAb⟩ := hH
  obtain ⟨hkd, hL, hv⟩ := hg g hAb
  obtain ⟨e1, e2⟩ := hG.2.2.2 a 1 (by decide) hkd
  refine a_zast hx hb hT e1 hn j hq (by rw [hL]; exact hj) (by omega) hd (fun H1 z e3 z1 oq => ?_)
  exact kk H1 _ ls cells slots ⟨_, hG.setA (t := 1) (by decide) hkd e3 z1 oq, hv⟩ (hS.put z1 oq (hG.2.1 a (by rw [hkd]; omega)).1) hl h1 h2
theorem p_recv (hC : gCl ci C T N) (hg : ∀ g, Ab g s → gk g a = ci + 1) : gRecv X (HoldP X Ab) s a C := by
  intro s0 H locs hT hS hH
  obtain ⟨g, hG, hAb⟩ := hH
  obtain ⟨cell, q1, q2, q3, -⟩ := hG.obj hC (hg g hAb)
  exact ⟨cell, q1, by rw [q3]; rfl, by rw [q2]; exact (hT.1.1 ci _ hC.1).2.1⟩
theorem p_aast (hK : Good X l (HoldP X Ab) M d Po K) {t : Nat} {b : Nat} {q : Int32} (j L : Nat) (hd : decode M.2.1 pc = .ok (.aastore, 1)) (ht : t < 5) (ht2 : 2 ≤ t) {C' : String} (hCt : gAty t = .object C') (hq : q = nI j) (hj : j < L) (hrv : gRecv X (HoldP X Ab) s b C) (hasg : C = C' ∨ Cond.castable C C' ∈ lw_tbl) (hg : ∀ g, Ab g s → gk g a = 100 + t ∧ gl g a = L ∧ Ab (gSetB g a j (some b)) s') (kk : K (pc + 1) lv st s' kc ks) : K pc lv (.ref b :: .int q :: .ref a :: st) s kc ks := by
  obtain ⟨p, e, R, s0, m, args, below, meth, c, Q, ⟨hx, hb, hml, hown, hts⟩, ⟨hT, hA⟩, ⟨hfr, hlo⟩, hnm, hret, rfl⟩ := hK
  intro H locs ls cells slots hH hS hl h1 h2
  have hr := hrv s0 H locs hT hS hH
  obtain ⟨g, hG, hAb⟩ := hH
  obtain ⟨hkd, hL, hv⟩ := hg g hAb
  obtain ⟨e1, e2⟩ := hG.2.2.2 a t ht hkd
  refine a_aast hx hb hT ht hCt e1 j hq (by rw [hL]; exact hj) (by omega) hr hasg hd (fun H1 z e3 z1 oq => ?_)
  exact kk H1 _ ls cells slots ⟨_, hG.setB ht ht2 hkd e3 z1 oq, hv⟩ (hS.put z1 oq (hG.2.1 a (by rw [hkd]; omega)).1) hl h1 h2
end PROWS
section CROWS
variable {σ : Type} {X : gCx} {l : Launch} {Hd : σ → Heap → Prop} {M : gMd} {d : Nat} {Po : Option Value → σ → Prop} {K : Nat → List (Nat × Value) → List Value → σ → Nat → Nat → Prop} {pc kc ks i a : Nat} {lv : List (Nat × Value)} {st : List Value} {x : σ} {C : String}
theorem p_cast (hK : Good X l Hd M d Po K) {nm : String} (hd : decode M.2.1 pc = .ok (.checkcast i, 3)) (hw : Cond.classLink M.1.cls i nm ∈ gtbl) (hc : Cond.castable C nm ∈ lw_tbl) (hrv : gRecv X Hd x a C) (kk : K (pc + 3) lv (.ref a :: st) x kc ks) : K pc lv (.ref a :: st) x kc ks := by
  obtain ⟨p, e, R, s, m, args, below, meth, c, Q, ⟨hx, hb, hml, hown, hts⟩, ⟨hT, hA⟩, ⟨hfr, hlo⟩, hnm, hret, rfl⟩ := hK
  intro H locs ls cells slots hH hS hl h1 h2
  exact va_castY hx hb hown (hts _ hw) (hT.2.1 _ hc rfl) (hrv s H locs hT hS hH) hd (kk H locs ls cells slots hH hS hl h1 h2)
theorem p_castN (hK : Good X l Hd M d Po K) (hd : decode M.2.1 pc = .ok (.checkcast i, 3)) (kk : K (pc + 3) lv (.null :: st) x kc ks) : K pc lv (.null :: st) x kc ks := by
  obtain ⟨p, e, R, s, m, args, below, meth, c, Q, ⟨hx, hb, hml, hown, hts⟩, ⟨hT, hA⟩, ⟨hfr, hlo⟩, hnm, hret, rfl⟩ := hK
  intro H locs ls cells slots hH hS hl h1 h2
  exact lv_castN hx hb hd (kk H locs ls cells slots hH hS hl h1 h2)
theorem p_castI (hK : Good X l Hd M d Po K) {j : Nat} (hd : decode M.2.1 pc = .ok (.checkcast i, 3)) (hw : Cond.classLink M.1.cls i "java/lang/Integer" ∈ gtbl) (hw2 : Cond.instantiable "java/lang/Integer" 1 ∈ gtbl) (hj : j < 256) (kk : K (pc + 3) lv (.ref (cxI X j) :: st) x kc ks) : K pc lv (.ref (cxI X j) :: st) x kc ks := by
  obtain ⟨p, e, R, s, m, args, below, meth, c, Q, ⟨hx, hb, hml, hown, hts⟩, ⟨hT, hA⟩, ⟨hfr, hlo⟩, hnm, hret, rfl⟩ := hK
  intro H locs ls cells slots hH hS hl h1 h2
  obtain ⟨cC, hcC⟩ := classAt_of (hts _ hw2)
  obtain ⟨cell, q1, q2, q3, -⟩ := (hT.2.2.2.2.2.1.1 j hj).kept hS.2.1
  exact va_castS hx hb hown (hts _ hw) hcC ⟨cell, q1, q2, q3⟩ hd (kk H locs ls cells slots hH hS hl h1 h2)
theorem p_instY (hK : Good X l Hd M d Po K) {nm : String} (hd : decode M.2.1 pc = .ok (.instanceof i, 3)) (hw : Cond.classLink M.1.cls i nm ∈ gtbl) (hc : Cond.castable C nm ∈ lw_tbl) (hrv : gRecv X Hd x a C) (kk : K (pc + 3) lv (.int 1 :: st) x kc ks) : K pc lv (.ref a :: st) x kc ks := by
  obtain ⟨p, e, R, s, m, args, below, meth, c, Q, ⟨hx, hb, hml, hown, hts⟩, ⟨hT, hA⟩, ⟨hfr, hlo⟩, hnm, hret, rfl⟩ := hK
  intro H locs ls cells slots hH hS hl h1 h2
  exact va_instY hx hb hown (hts _ hw) (hT.2.1 _ hc rfl) (hrv s H locs hT hS hH) hd (kk H locs ls cells slots hH hS hl h1 h2)
theorem p_instN (hK : Good X l Hd M d Po K) {nm : String} (hd : decode M.2.1 pc = .ok (.instanceof i, 3)) (hw : Cond.classLink M.1.cls i nm ∈ gtbl) (hc : ∀ U, gT X U → va_Nc C nm U) (hrv : gRecv X Hd x a C) (kk : K (pc + 3) lv (.int 0 :: st) x kc ks) : K pc lv (.ref a :: st) x kc ks := by
  obtain ⟨p, e, R, s, m, args, below, meth, c, Q, ⟨hx, hb, hml, hown, hts⟩, ⟨hT, hA⟩, ⟨hfr, hlo⟩, hnm, hret, rfl⟩ := hK
  intro H locs ls cells slots hH hS hl h1 h2
  exact va_instNo hx hb hown (hts _ hw) (hc s hT) (hrv s H locs hT hS hH) hd (kk H locs ls cells slots hH hS hl h1 h2)
/-- an enum constant -/
theorem p_phase (hK : Good X l Hd M d Po K) {e0 : Nat} {nm : String} (hd : decode M.2.1 pc = .ok (.getstatic i, 3)) (he : gPhases[e0]? = some nm) (hw : Cond.fieldLink M.1.cls i "FourWayKernel$Phase" nm "LFourWayKernel$Phase;" ∈ gtbl) (kk : K (pc + 3) lv (.ref (cxE X e0) :: st) x kc ks) : K pc lv st x kc ks := by
  obtain ⟨p, e, R, s, m, args, below, meth, c, Q, ⟨hx, hb, hml, hown, hts⟩, ⟨hT, hA⟩, ⟨hfr, hlo⟩, hnm, hret, rfl⟩ := hK
  intro H locs ls cells slots hH hS hl h1 h2
  have hlt : e0 < gPhases.length := (List.getElem?_eq_some_iff.mp he).1
  have hZ := (hT.2.2.2.2.1.1 e0 hlt).1
  have hn : gPhases.getD e0 "" = nm := by rw [List.getD_eq_getElem?_getD, he]; rfl
  rw [hn] at hZ
  exact va_gets hx hb hZ hS hown (hts _ hw) (fun _ h => h) hd (kk H locs ls cells slots hH hS hl h1 h2)
theorem p_ordinal (hK : Good X l Hd M d Po K) {e0 : Nat} {v : Int32} (hd : decode M.2.1 pc = .ok (.getfield i, 3)) (he : e0 < 12) (hv : ([0, 1, 2, 3, 4, 5, 6, 7, 8, 9, 10, 11] : List Int32).getD e0 0 = v) (hw : Cond.fieldLink M.1.cls i "java/lang/Enum" "ordinal" "I" ∈ gtbl) (kk : K (pc + 3) lv (.int v :: st) x kc ks) : K pc lv (.ref (cxE X e0) :: st) x kc ks := by
  obtain ⟨p, e, R, s, m, args, below, meth, c, Q, ⟨hx, hb, hml, hown, hts⟩, ⟨hT, hA⟩, ⟨hfr, hlo⟩, hnm, hret, rfl⟩ := hK
  intro H locs ls cells slots hH hS hl h1 h2
  subst hv
  exact va_getE (q := ("java/lang/Enum", "ordinal", "I", [0, 1, 2, 3, 4, 5, 6, 7, 8, 9, 10, 11])) hx hb hT.2.2.2.2.1 he hS hown List.mem_cons_self (hts _ hw) (fun _ h => h) hd (kk H locs ls cells slots hH hS hl h1 h2)
theorem p_code (hK : Good X l Hd M d Po K) {e0 : Nat} {v : Int32} (hd : decode M.2.1 pc = .ok (.getfield i, 3)) (he : e0 < 12) (hv : ([4, 5, 6, 7, 8, 9, 10, 11, 12, 13, 14, 15] : List Int32).getD e0 0 = v) (hw : Cond.fieldLink M.1.cls i "FourWayKernel$Phase" "code" "I" ∈ gtbl) (kk : K (pc + 3) lv (.int v :: st) x kc ks) : K pc lv (.ref (cxE X e0) :: st) x kc ks := by
  obtain ⟨p, e, R, s, m, args, below, meth, c, Q, ⟨hx, hb, hml, hown, hts⟩, ⟨hT, hA⟩, ⟨hfr, hlo⟩, hnm, hret, rfl⟩ := hK
  intro H locs ls cells slots hH hS hl h1 h2
  subst hv
  exact va_getE (q := ("FourWayKernel$Phase", "code", "I", [4, 5, 6, 7, 8, 9, 10, 11, 12, 13, 14, 15])) hx hb hT.2.2.2.2.1 he hS hown (List.mem_cons_of_mem _ List.mem_cons_self) (hts _ hw) (fun _ h => h) hd (kk H locs ls cells slots hH hS hl h1 h2)
theorem p_recvE {e0 : Nat} (he : e0 < 12) : gRecv X Hd x (cxE X e0) "FourWayKernel$Phase" := by
  intro s H locs hT hS hH
  exact va_recvE hT.2.2.2.2.1 he hS
theorem p_recvI {j : Nat} (hj : j < 256) : gRecv X Hd x (cxI X j) "java/lang/Integer" := by
  intro s H locs hT hS hH
  obtain ⟨cell, q1, q2, q3, -⟩ := (hT.2.2.2.2.2.1.1 j hj).kept hS.2.1
  exact ⟨cell, q1, q2, q3⟩
theorem p_high (hK : Good X l Hd M d Po K) (hd : decode M.2.1 pc = .ok (.getstatic i, 3)) (hw : Cond.fieldLink M.1.cls i "java/lang/Integer$IntegerCache" "high" "I" ∈ gtbl) (kk : K (pc + 3) lv (.int 127 :: st) x kc ks) : K pc lv st x kc ks := by
  obtain ⟨p, e, R, s, m, args, below, meth, c, Q, ⟨hx, hb, hml, hown, hts⟩, ⟨hT, hA⟩, ⟨hfr, hlo⟩, hnm, hret, rfl⟩ := hK
  intro H locs ls cells slots hH hS hl h1 h2
  exact va_gets hx hb hT.2.2.2.2.2.2.1 hS hown (hts _ hw) (fun _ h => h) hd (kk H locs ls cells slots hH hS hl h1 h2)
theorem p_cache (hK : Good X l Hd M d Po K) (hd : decode M.2.1 pc = .ok (.getstatic i, 3)) (hw : Cond.fieldLink M.1.cls i "java/lang/Integer$IntegerCache" "cache" "[Ljava/lang/Integer;" ∈ gtbl) (kk : K (pc + 3) lv (.ref (cxC X) :: st) x kc ks) : K pc lv st x kc ks := by
  obtain ⟨p, e, R, s, m, args, below, meth, c, Q, ⟨hx, hb, hml, hown, hts⟩, ⟨hT, hA⟩, ⟨hfr, hlo⟩, hnm, hret, rfl⟩ := hK
  intro H locs ls cells slots hH hS hl h1 h2
  exact va_gets hx hb hT.2.2.2.2.2.2.2.1 hS hown (hts _ hw) (fun _ h => h) hd (kk H locs ls cells slots hH hS hl h1 h2)
theorem p_cached (hK : Good X l Hd M d Po K) {q : Int32} (j : Nat) (hd : decode M.2.1 pc = .ok (.aaload, 1)) (hq : q = nI j) (hj : j < 256) (kk : K (pc + 1) lv (.ref (cxI X j) :: st) x kc ks) : K pc lv (.int q :: .ref (cxC X) :: st) x kc ks := by
  obtain ⟨p, e, R, s, m, args, below, meth, c, Q, ⟨hx, hb, hml, hown, hts⟩, ⟨hT, hA⟩, ⟨hfr, hlo⟩, hnm, hret, rfl⟩ := hK
  intro H locs ls cells slots hH hS hl h1 h2
  have hcl : q.toNatClampNeg = j := by rw [hq]; exact nI_clamp (by omega)
  exact vb_tq (v := .ref (cxI X j)) hx hb hT.2.2.2.2.2.2.2.2.1 hS (arr_in hq hj (by decide)) (by rw [hcl]) hd (kk H locs ls cells slots hH hS hl h1 h2)
theorem p_ival (hK : Good X l Hd M d Po K) {j : Nat} (hd : decode M.2.1 pc = .ok (.getfield i, 3)) (hj : j < 256) (hw : Cond.fieldLink M.1.cls i "java/lang/Integer" "value" "I" ∈ gtbl) (kk : K (pc + 3) lv (.int (vb_c j) :: st) x kc ks) : K pc lv (.ref (cxI X j) :: st) x kc ks := by
  obtain ⟨p, e, R, s, m, args, below, meth, c, Q, ⟨hx, hb, hml, hown, hts⟩, ⟨hT, hA⟩, ⟨hfr, hlo⟩, hnm, hret, rfl⟩ := hK
  intro H locs ls cells slots hH hS hl h1 h2
  exact va_getX (v := fun k => .int (vb_c k)) hx hb hT.2.2.2.2.2.1.2 hj hS hown (hts _ hw) (fun _ h => h) hd (kk H locs ls cells slots hH hS hl h1 h2)
theorem p_empty (hK : Good X l Hd M d Po K) (hd : decode M.2.1 pc = .ok (.getstatic i, 3)) (hw : Cond.fieldLink M.1.cls i "java/util/ArrayList" "DEFAULTCAPACITY_EMPTY_ELEMENTDATA" "[Ljava/lang/Object;" ∈ gtbl) (kk : K (pc + 3) lv (.ref (cxZ X) :: st) x kc ks) : K pc lv st x kc ks := by
  obtain ⟨p, e, R, s, m, args, below, meth, c, Q, ⟨hx, hb, hml, hown, hts⟩, ⟨hT, hA⟩, ⟨hfr, hlo⟩, hnm, hret, rfl⟩ := hK
  intro H locs ls cells slots hH hS hl h1 h2
  exact va_gets hx hb hT.2.2.2.2.2.2.2.2.2.1 hS hown (hts _ hw) (fun _ h => h) hd (kk H locs ls cells slots hH hS hl h1 h2)
theorem p_elen (hK : Good X l Hd M d Po K) (hd : decode M.2.1 pc = .ok (.arraylength, 1)) (kk : K (pc + 1) lv (.int (nI 0) :: st) x kc ks) : K pc lv (.ref (cxZ X) :: st) x kc ks := by
  obtain ⟨p, e, R, s, m, args, below, meth, c, Q, ⟨hx, hb, hml, hown, hts⟩, ⟨hT, hA⟩, ⟨hfr, hlo⟩, hnm, hret, rfl⟩ := hK
  intro H locs ls cells slots hH hS hl h1 h2
  exact va_tlen hx hb hT.2.2.2.2.2.2.2.2.2.2 hS rfl hd (kk H locs ls cells slots hH hS hl h1 h2)
end CROWS
/-- a contract over one picture out of contracts over another -/
theorem gM_conv {σ τ : Type} {X : gCx} {l : Launch} {Hd : σ → Heap → Prop} {Hd' : τ → Heap → Prop} {M : gMd} {d mc ms : Nat} {av : List Value} {x : σ} {Po : Option Value → σ → Prop}
    (h : ∀ H, Hd x H → ∃ (y : τ) (Po' : Option Value → τ → Prop), Hd' y H ∧ gM X l Hd' M d mc ms av y Po' ∧ ∀ (r : Option Value) (y' : τ) (H' : Heap), Po' r y' → Hd' y' H' → ∃ x', Po r x' ∧ Hd x' H') : gM X l Hd M d mc ms av x Po := by
  intro p e ha hc hk s m args below hf happ hP hK
  obtain ⟨hav, hH, hT, hA⟩ := hP
  obtain ⟨y, Po', hy, hM, hback⟩ := h _ hH
  obtain ⟨n, o, g1, g2, g3, ⟨⟨⟨r, y', e1, e2, e3⟩, e4⟩, e5⟩⟩ := hM p e ha hc hk s m args below hf happ ⟨hav, hy, hT, hA⟩ hK
  obtain ⟨x', f1, f2⟩ := hback r y' _ e2 e3
  exact ⟨n, o, g1, g2, g3, ⟨⟨⟨r, x', e1, f1, f2⟩, e4⟩, e5⟩⟩
/-- a weaker end -/
theorem gM_mono {σ : Type} {X : gCx} {l : Launch} {Hd : σ → Heap → Prop} {M : gMd} {d mc ms : Nat} {av : List Value} {x : σ} {Po Po' : Option Value → σ → Prop} (hM : gM X l Hd M d mc ms av x Po') (h : ∀ r y, Po' r y → Po r y) : gM X l Hd M d mc ms av x Po :=
  gM_conv (fun H hH => ⟨x, Po', hH, hM, fun r y _ h1 h2 => ⟨y, h r y h1, h2⟩⟩)
