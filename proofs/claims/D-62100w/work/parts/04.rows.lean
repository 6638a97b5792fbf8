section ROWS
variable {σ : Type} {X : gCx} {l : Launch} {Hd : σ → Heap → Prop} {M : gMd} {d : Nat} {Po : Option Value → σ → Prop} {K : Nat → List (Nat × Value) → List Value → σ → Nat → Nat → Prop} {pc kc ks : Nat} {lv : List (Nat × Value)} {st : List Value} {x : σ}
theorem r_iconst (hK : Good X l Hd M d Po K) {n : Int} {v : Int32} (hd : decode M.2.1 pc = .ok (.iconst n, 1)) (hv : Int32.ofInt n = v) (k : K (pc + 1) lv (.int v :: st) x kc ks) : K pc lv (st) x kc ks := by
  obtain ⟨p, e, R, s, m, args, below, meth, c, Q, ⟨hx, hb, hml, hown, hts⟩, ⟨hT, hA⟩, ⟨hfr, hlo⟩, hnm, hret, rfl⟩ := hK
  intro H locs ls cells slots hH hS hl h1 h2
  exact lv_iconst hx hb hd hv (k H locs ls cells slots hH hS hl h1 h2)
theorem r_bipush (hK : Good X l Hd M d Po K) {n : Int} {v : Int32} (hd : decode M.2.1 pc = .ok (.bipush n, 2)) (hv : (Int8.ofInt n).toInt32 = v) (k : K (pc + 2) lv (.int v :: st) x kc ks) : K pc lv (st) x kc ks := by
  obtain ⟨p, e, R, s, m, args, below, meth, c, Q, ⟨hx, hb, hml, hown, hts⟩, ⟨hT, hA⟩, ⟨hfr, hlo⟩, hnm, hret, rfl⟩ := hK
  intro H locs ls cells slots hH hS hl h1 h2
  exact lv_bipush hx hb hd hv (k H locs ls cells slots hH hS hl h1 h2)
theorem r_sipush (hK : Good X l Hd M d Po K) {n : Int} {v : Int32} (hd : decode M.2.1 pc = .ok (.sipush n, 3)) (hv : (Int16.ofInt n).toInt32 = v) (k : K (pc + 3) lv (.int v :: st) x kc ks) : K pc lv (st) x kc ks := by
  obtain ⟨p, e, R, s, m, args, below, meth, c, Q, ⟨hx, hb, hml, hown, hts⟩, ⟨hT, hA⟩, ⟨hfr, hlo⟩, hnm, hret, rfl⟩ := hK
  intro H locs ls cells slots hH hS hl h1 h2
  exact lv_sipush hx hb hd hv (k H locs ls cells slots hH hS hl h1 h2)
theorem r_null (hK : Good X l Hd M d Po K) (hd : decode M.2.1 pc = .ok (.aconst_null, 1)) (k : K (pc + 1) lv (.null :: st) x kc ks) : K pc lv (st) x kc ks := by
  obtain ⟨p, e, R, s, m, args, below, meth, c, Q, ⟨hx, hb, hml, hown, hts⟩, ⟨hT, hA⟩, ⟨hfr, hlo⟩, hnm, hret, rfl⟩ := hK
  intro H locs ls cells slots hH hS hl h1 h2
  exact lv_null hx hb hd (k H locs ls cells slots hH hS hl h1 h2)
theorem r_iload_n (hK : Good X l Hd M d Po K) {q : Fin 4} {i : Nat} {v : Int32} (hd : decode M.2.1 pc = .ok (.iload_n q, 1)) (hi : (q : Nat) = i) (j : Nat) (hj : lv[j]? = some (i, .int v)) (k : K (pc + 1) lv (.int v :: st) x kc ks) : K pc lv (st) x kc ks := by
  obtain ⟨p, e, R, s, m, args, below, meth, c, Q, ⟨hx, hb, hml, hown, hts⟩, ⟨hT, hA⟩, ⟨hfr, hlo⟩, hnm, hret, rfl⟩ := hK
  intro H locs ls cells slots hH hS hl h1 h2
  exact lv_iload_n hx hb hd hi (lv_at hl j hj) (k H locs ls cells slots hH hS hl h1 h2)
theorem r_iload (hK : Good X l Hd M d Po K) {i : Nat} {v : Int32} (hd : decode M.2.1 pc = .ok (.iload i, 2)) (j : Nat) (hj : lv[j]? = some (i, .int v)) (k : K (pc + 2) lv (.int v :: st) x kc ks) : K pc lv (st) x kc ks := by
  obtain ⟨p, e, R, s, m, args, below, meth, c, Q, ⟨hx, hb, hml, hown, hts⟩, ⟨hT, hA⟩, ⟨hfr, hlo⟩, hnm, hret, rfl⟩ := hK
  intro H locs ls cells slots hH hS hl h1 h2
  exact lv_iload hx hb hd (lv_at hl j hj) (k H locs ls cells slots hH hS hl h1 h2)
theorem r_aload_n (hK : Good X l Hd M d Po K) {q : Fin 4} {i : Nat} {v : Nat} (hd : decode M.2.1 pc = .ok (.aload_n q, 1)) (hi : (q : Nat) = i) (j : Nat) (hj : lv[j]? = some (i, .ref v)) (k : K (pc + 1) lv (.ref v :: st) x kc ks) : K pc lv (st) x kc ks := by
  obtain ⟨p, e, R, s, m, args, below, meth, c, Q, ⟨hx, hb, hml, hown, hts⟩, ⟨hT, hA⟩, ⟨hfr, hlo⟩, hnm, hret, rfl⟩ := hK
  intro H locs ls cells slots hH hS hl h1 h2
  exact lv_aload_n hx hb hd hi (lv_at hl j hj) (k H locs ls cells slots hH hS hl h1 h2)
theorem r_aload (hK : Good X l Hd M d Po K) {i : Nat} {v : Nat} (hd : decode M.2.1 pc = .ok (.aload i, 2)) (j : Nat) (hj : lv[j]? = some (i, .ref v)) (k : K (pc + 2) lv (.ref v :: st) x kc ks) : K pc lv (st) x kc ks := by
  obtain ⟨p, e, R, s, m, args, below, meth, c, Q, ⟨hx, hb, hml, hown, hts⟩, ⟨hT, hA⟩, ⟨hfr, hlo⟩, hnm, hret, rfl⟩ := hK
  intro H locs ls cells slots hH hS hl h1 h2
  exact lv_aload hx hb hd (lv_at hl j hj) (k H locs ls cells slots hH hS hl h1 h2)
theorem r_aload_nN (hK : Good X l Hd M d Po K) {q : Fin 4} {i : Nat} (hd : decode M.2.1 pc = .ok (.aload_n q, 1)) (hi : (q : Nat) = i) (j : Nat) (hj : lv[j]? = some (i, .null)) (k : K (pc + 1) lv (.null :: st) x kc ks) : K pc lv (st) x kc ks := by
  obtain ⟨p, e, R, s, m, args, below, meth, c, Q, ⟨hx, hb, hml, hown, hts⟩, ⟨hT, hA⟩, ⟨hfr, hlo⟩, hnm, hret, rfl⟩ := hK
  intro H locs ls cells slots hH hS hl h1 h2
  exact lv_aload_nN hx hb hd hi (lv_at hl j hj) (k H locs ls cells slots hH hS hl h1 h2)
theorem r_aloadN (hK : Good X l Hd M d Po K) {i : Nat} (hd : decode M.2.1 pc = .ok (.aload i, 2)) (j : Nat) (hj : lv[j]? = some (i, .null)) (k : K (pc + 2) lv (.null :: st) x kc ks) : K pc lv (st) x kc ks := by
  obtain ⟨p, e, R, s, m, args, below, meth, c, Q, ⟨hx, hb, hml, hown, hts⟩, ⟨hT, hA⟩, ⟨hfr, hlo⟩, hnm, hret, rfl⟩ := hK
  intro H locs ls cells slots hH hS hl h1 h2
  exact lv_aloadN hx hb hd (lv_at hl j hj) (k H locs ls cells slots hH hS hl h1 h2)
theorem r_aload_nQ (hK : Good X l Hd M d Po K) {q : Fin 4} {i : Nat} {v : Option Nat} (hd : decode M.2.1 pc = .ok (.aload_n q, 1)) (hi : (q : Nat) = i) (j : Nat) (hj : lv[j]? = some (i, va_rf v)) (k : K (pc + 1) lv (va_rf v :: st) x kc ks) : K pc lv st x kc ks := by
  cases v with
  | none => exact r_aload_nN hK hd hi j hj k
  | some v => exact r_aload_n hK hd hi j hj k
theorem r_aloadQ (hK : Good X l Hd M d Po K) {i : Nat} {v : Option Nat} (hd : decode M.2.1 pc = .ok (.aload i, 2)) (j : Nat) (hj : lv[j]? = some (i, va_rf v)) (k : K (pc + 2) lv (va_rf v :: st) x kc ks) : K pc lv st x kc ks := by
  cases v with
  | none => exact r_aloadN hK hd j hj k
  | some v => exact r_aload hK hd j hj k
theorem r_istore_n (hK : Good X l Hd M d Po K) {q : Fin 4} {i : Nat} {v : Int32} {lv' : List (Nat × Value)} (hd : decode M.2.1 pc = .ok (.istore_n q, 1)) (hi : (q : Nat) = i) (hn : i < M.2.2.1) (hl' : (i, Value.int v) :: lv.filter (fun q => !(q.1 == i) && !(q.1 + 1 == i && q.2.category == 2)) = lv') (k : K (pc + 1) lv' st x kc ks) : K pc lv (.int v :: st) x kc ks := by
  obtain ⟨p, e, R, s, m, args, below, meth, c, Q, ⟨hx, hb, hml, hown, hts⟩, ⟨hT, hA⟩, ⟨hfr, hlo⟩, hnm, hret, rfl⟩ := hK
  intro H locs ls cells slots hH hS hl h1 h2
  exact lv_istore_n hx hb hd hi hl hn hl' (fun ls' hl2 => k H locs ls' cells slots hH hS hl2 h1 h2)
theorem r_istore (hK : Good X l Hd M d Po K) {i : Nat} {v : Int32} {lv' : List (Nat × Value)} (hd : decode M.2.1 pc = .ok (.istore i, 2)) (hn : i < M.2.2.1) (hl' : (i, Value.int v) :: lv.filter (fun q => !(q.1 == i) && !(q.1 + 1 == i && q.2.category == 2)) = lv') (k : K (pc + 2) lv' st x kc ks) : K pc lv (.int v :: st) x kc ks := by
  obtain ⟨p, e, R, s, m, args, below, meth, c, Q, ⟨hx, hb, hml, hown, hts⟩, ⟨hT, hA⟩, ⟨hfr, hlo⟩, hnm, hret, rfl⟩ := hK
  intro H locs ls cells slots hH hS hl h1 h2
  exact lv_istore hx hb hd hl hn hl' (fun ls' hl2 => k H locs ls' cells slots hH hS hl2 h1 h2)
theorem r_astore_n (hK : Good X l Hd M d Po K) {q : Fin 4} {i : Nat} {v : Nat} {lv' : List (Nat × Value)} (hd : decode M.2.1 pc = .ok (.astore_n q, 1)) (hi : (q : Nat) = i) (hn : i < M.2.2.1) (hl' : (i, Value.ref v) :: lv.filter (fun q => !(q.1 == i) && !(q.1 + 1 == i && q.2.category == 2)) = lv') (k : K (pc + 1) lv' st x kc ks) : K pc lv (.ref v :: st) x kc ks := by
  obtain ⟨p, e, R, s, m, args, below, meth, c, Q, ⟨hx, hb, hml, hown, hts⟩, ⟨hT, hA⟩, ⟨hfr, hlo⟩, hnm, hret, rfl⟩ := hK
  intro H locs ls cells slots hH hS hl h1 h2
  exact lv_astore_n hx hb hd hi hl hn hl' (fun ls' hl2 => k H locs ls' cells slots hH hS hl2 h1 h2)
theorem r_astore (hK : Good X l Hd M d Po K) {i : Nat} {v : Nat} {lv' : List (Nat × Value)} (hd : decode M.2.1 pc = .ok (.astore i, 2)) (hn : i < M.2.2.1) (hl' : (i, Value.ref v) :: lv.filter (fun q => !(q.1 == i) && !(q.1 + 1 == i && q.2.category == 2)) = lv') (k : K (pc + 2) lv' st x kc ks) : K pc lv (.ref v :: st) x kc ks := by
  obtain ⟨p, e, R, s, m, args, below, meth, c, Q, ⟨hx, hb, hml, hown, hts⟩, ⟨hT, hA⟩, ⟨hfr, hlo⟩, hnm, hret, rfl⟩ := hK
  intro H locs ls cells slots hH hS hl h1 h2
  exact lv_astore hx hb hd hl hn hl' (fun ls' hl2 => k H locs ls' cells slots hH hS hl2 h1 h2)
theorem r_astore_nN (hK : Good X l Hd M d Po K) {q : Fin 4} {i : Nat} {lv' : List (Nat × Value)} (hd : decode M.2.1 pc = .ok (.astore_n q, 1)) (hi : (q : Nat) = i) (hn : i < M.2.2.1) (hl' : (i, Value.null) :: lv.filter (fun q => !(q.1 == i) && !(q.1 + 1 == i && q.2.category == 2)) = lv') (k : K (pc + 1) lv' st x kc ks) : K pc lv (.null :: st) x kc ks := by
  obtain ⟨p, e, R, s, m, args, below, meth, c, Q, ⟨hx, hb, hml, hown, hts⟩, ⟨hT, hA⟩, ⟨hfr, hlo⟩, hnm, hret, rfl⟩ := hK
  intro H locs ls cells slots hH hS hl h1 h2
  exact lv_astore_nN hx hb hd hi hl hn hl' (fun ls' hl2 => k H locs ls' cells slots hH hS hl2 h1 h2)
theorem r_astoreN (hK : Good X l Hd M d Po K) {i : Nat} {lv' : List (Nat × Value)} (hd : decode M.2.1 pc = .ok (.astore i, 2)) (hn : i < M.2.2.1) (hl' : (i, Value.null) :: lv.filter (fun q => !(q.1 == i) && !(q.1 + 1 == i && q.2.category == 2)) = lv') (k : K (pc + 2) lv' st x kc ks) : K pc lv (.null :: st) x kc ks := by
  obtain ⟨p, e, R, s, m, args, below, meth, c, Q, ⟨hx, hb, hml, hown, hts⟩, ⟨hT, hA⟩, ⟨hfr, hlo⟩, hnm, hret, rfl⟩ := hK
  intro H locs ls cells slots hH hS hl h1 h2
  exact lv_astoreN hx hb hd hl hn hl' (fun ls' hl2 => k H locs ls' cells slots hH hS hl2 h1 h2)
theorem r_astore_nQ (hK : Good X l Hd M d Po K) {q : Fin 4} {i : Nat} {v : Option Nat} {lv' : List (Nat × Value)} (hd : decode M.2.1 pc = .ok (.astore_n q, 1)) (hi : (q : Nat) = i) (hn : i < M.2.2.1) (hl' : (i, va_rf v) :: lv.filter (fun q => !(q.1 == i) && !(q.1 + 1 == i && q.2.category == 2)) = lv') (k : K (pc + 1) lv' st x kc ks) : K pc lv (va_rf v :: st) x kc ks := by
  cases v with
  | none => exact r_astore_nN hK hd hi hn hl' k
  | some v => exact r_astore_n hK hd hi hn hl' k
theorem r_astoreQ (hK : Good X l Hd M d Po K) {i : Nat} {v : Option Nat} {lv' : List (Nat × Value)} (hd : decode M.2.1 pc = .ok (.astore i, 2)) (hn : i < M.2.2.1) (hl' : (i, va_rf v) :: lv.filter (fun q => !(q.1 == i) && !(q.1 + 1 == i && q.2.category == 2)) = lv') (k : K (pc + 2) lv' st x kc ks) : K pc lv (va_rf v :: st) x kc ks := by
  cases v with
  | none => exact r_astoreN hK hd hn hl' k
  | some v => exact r_astore hK hd hn hl' k
theorem r_iinc (hK : Good X l Hd M d Po K) {i : Nat} {n : Int} {v w : Int32} {lv' : List (Nat × Value)} (hd : decode M.2.1 pc = .ok (.iinc i n, 3)) (j : Nat) (hj : lv[j]? = some (i, .int v)) (hv : v + Int32.ofInt n = w) (hn : i < M.2.2.1) (hl' : (i, Value.int w) :: lv.filter (fun q => !(q.1 == i) && !(q.1 + 1 == i && q.2.category == 2)) = lv') (k : K (pc + 3) lv' st x kc ks) : K pc lv st x kc ks := by
  obtain ⟨p, e, R, s, m, args, below, meth, c, Q, ⟨hx, hb, hml, hown, hts⟩, ⟨hT, hA⟩, ⟨hfr, hlo⟩, hnm, hret, rfl⟩ := hK
  intro H locs ls cells slots hH hS hl h1 h2
  exact lv_iinc hx hb hd hl hj hv hn hl' (fun ls' hl2 => k H locs ls' cells slots hH hS hl2 h1 h2)
theorem r_iadd (hK : Good X l Hd M d Po K) {a b : Int32} (hd : decode M.2.1 pc = .ok (.iadd, 1)) (k : K (pc + 1) lv (.int (a + b) :: st) x kc ks) : K pc lv (.int b :: .int a :: st) x kc ks := by
  obtain ⟨p, e, R, s, m, args, below, meth, c, Q, ⟨hx, hb, hml, hown, hts⟩, ⟨hT, hA⟩, ⟨hfr, hlo⟩, hnm, hret, rfl⟩ := hK
  intro H locs ls cells slots hH hS hl h1 h2
  exact lv_iadd hx hb hd (k H locs ls cells slots hH hS hl h1 h2)
theorem r_isub (hK : Good X l Hd M d Po K) {a b : Int32} (hd : decode M.2.1 pc = .ok (.isub, 1)) (k : K (pc + 1) lv (.int (a - b) :: st) x kc ks) : K pc lv (.int b :: .int a :: st) x kc ks := by
  obtain ⟨p, e, R, s, m, args, below, meth, c, Q, ⟨hx, hb, hml, hown, hts⟩, ⟨hT, hA⟩, ⟨hfr, hlo⟩, hnm, hret, rfl⟩ := hK
  intro H locs ls cells slots hH hS hl h1 h2
  exact lv_isub hx hb hd (k H locs ls cells slots hH hS hl h1 h2)
theorem r_imul (hK : Good X l Hd M d Po K) {a b : Int32} (hd : decode M.2.1 pc = .ok (.imul, 1)) (k : K (pc + 1) lv (.int (a * b) :: st) x kc ks) : K pc lv (.int b :: .int a :: st) x kc ks := by
  obtain ⟨p, e, R, s, m, args, below, meth, c, Q, ⟨hx, hb, hml, hown, hts⟩, ⟨hT, hA⟩, ⟨hfr, hlo⟩, hnm, hret, rfl⟩ := hK
  intro H locs ls cells slots hH hS hl h1 h2
  exact lv_imul hx hb hd (k H locs ls cells slots hH hS hl h1 h2)
theorem r_iand (hK : Good X l Hd M d Po K) {a b : Int32} (hd : decode M.2.1 pc = .ok (.iand, 1)) (k : K (pc + 1) lv (.int (a &&& b) :: st) x kc ks) : K pc lv (.int b :: .int a :: st) x kc ks := by
  obtain ⟨p, e, R, s, m, args, below, meth, c, Q, ⟨hx, hb, hml, hown, hts⟩, ⟨hT, hA⟩, ⟨hfr, hlo⟩, hnm, hret, rfl⟩ := hK
  intro H locs ls cells slots hH hS hl h1 h2
  exact lv_iand hx hb hd (k H locs ls cells slots hH hS hl h1 h2)
theorem r_ishr (hK : Good X l Hd M d Po K) {a b : Int32} (hd : decode M.2.1 pc = .ok (.ishr, 1)) (k : K (pc + 1) lv (.int (a >>> (b &&& 31)) :: st) x kc ks) : K pc lv (.int b :: .int a :: st) x kc ks := by
  obtain ⟨p, e, R, s, m, args, below, meth, c, Q, ⟨hx, hb, hml, hown, hts⟩, ⟨hT, hA⟩, ⟨hfr, hlo⟩, hnm, hret, rfl⟩ := hK
  intro H locs ls cells slots hH hS hl h1 h2
  exact lv_ishr hx hb hd (k H locs ls cells slots hH hS hl h1 h2)
theorem r_idiv (hK : Good X l Hd M d Po K) {a b : Int32} (hd : decode M.2.1 pc = .ok (.idiv, 1)) (hne : ¬ b = 0) (k : K (pc + 1) lv (.int (a / b) :: st) x kc ks) : K pc lv (.int b :: .int a :: st) x kc ks := by
  obtain ⟨p, e, R, s, m, args, below, meth, c, Q, ⟨hx, hb, hml, hown, hts⟩, ⟨hT, hA⟩, ⟨hfr, hlo⟩, hnm, hret, rfl⟩ := hK
  intro H locs ls cells slots hH hS hl h1 h2
  exact lv_idiv hx hb hd hne (k H locs ls cells slots hH hS hl h1 h2)
theorem r_iushr (hK : Good X l Hd M d Po K) {a b v : Int32} (hd : decode M.2.1 pc = .ok (.iushr, 1)) (hv : (a.toUInt32 >>> (b.toUInt32 &&& Int32.toUInt32 31)).toInt32 = v) (k : K (pc + 1) lv (.int v :: st) x kc ks) : K pc lv (.int b :: .int a :: st) x kc ks := by
  obtain ⟨p, e, R, s, m, args, below, meth, c, Q, ⟨hx, hb, hml, hown, hts⟩, ⟨hT, hA⟩, ⟨hfr, hlo⟩, hnm, hret, rfl⟩ := hK
  intro H locs ls cells slots hH hS hl h1 h2
  exact lv_iushr hx hb hd hv (k H locs ls cells slots hH hS hl h1 h2)
theorem r_dup (hK : Good X l Hd M d Po K) {va : Value} (hd : decode M.2.1 pc = .ok (.dup, 1)) (hva : va.category = 1) (k : K (pc + 1) lv (va :: va :: st) x kc ks) : K pc lv (va :: st) x kc ks := by
  obtain ⟨p, e, R, s, m, args, below, meth, c, Q, ⟨hx, hb, hml, hown, hts⟩, ⟨hT, hA⟩, ⟨hfr, hlo⟩, hnm, hret, rfl⟩ := hK
  intro H locs ls cells slots hH hS hl h1 h2
  exact lv_dup hx hb hd hva (k H locs ls cells slots hH hS hl h1 h2)
theorem r_pop (hK : Good X l Hd M d Po K) {va : Value} (hd : decode M.2.1 pc = .ok (.pop, 1)) (hva : va.category = 1) (k : K (pc + 1) lv (st) x kc ks) : K pc lv (va :: st) x kc ks := by
  obtain ⟨p, e, R, s, m, args, below, meth, c, Q, ⟨hx, hb, hml, hown, hts⟩, ⟨hT, hA⟩, ⟨hfr, hlo⟩, hnm, hret, rfl⟩ := hK
  intro H locs ls cells slots hH hS hl h1 h2
  exact lv_pop hx hb hd hva (k H locs ls cells slots hH hS hl h1 h2)
theorem r_dup_x1 (hK : Good X l Hd M d Po K) {va vb : Value} (hd : decode M.2.1 pc = .ok (.dup_x1, 1)) (hva : va.category = 1) (hvb : vb.category = 1) (k : K (pc + 1) lv (va :: vb :: va :: st) x kc ks) : K pc lv (va :: vb :: st) x kc ks := by
  obtain ⟨p, e, R, s, m, args, below, meth, c, Q, ⟨hx, hb, hml, hown, hts⟩, ⟨hT, hA⟩, ⟨hfr, hlo⟩, hnm, hret, rfl⟩ := hK
  intro H locs ls cells slots hH hS hl h1 h2
  exact lv_dup_x1 hx hb hd hva hvb (k H locs ls cells slots hH hS hl h1 h2)
theorem r_dup2 (hK : Good X l Hd M d Po K) {va vb : Value} (hd : decode M.2.1 pc = .ok (.dup2, 1)) (hva : va.category = 1) (hvb : vb.category = 1) (k : K (pc + 1) lv (va :: vb :: va :: vb :: st) x kc ks) : K pc lv (va :: vb :: st) x kc ks := by
  obtain ⟨p, e, R, s, m, args, below, meth, c, Q, ⟨hx, hb, hml, hown, hts⟩, ⟨hT, hA⟩, ⟨hfr, hlo⟩, hnm, hret, rfl⟩ := hK
  intro H locs ls cells slots hH hS hl h1 h2
  exact lv_dup2_11 hx hb hd hva hvb (k H locs ls cells slots hH hS hl h1 h2)
theorem r_if_eq (hK : Good X l Hd M d Po K) {a : Int32} {off : Int} {tgt : Nat} (hd : decode M.2.1 pc = .ok (.ifCond .eq off, 3)) (ht : (pc : Int) + off = (tgt : Int)) (kt : a = 0 → K tgt lv st x kc ks) (kf : ¬ a = 0 → K (pc + 3) lv st x kc ks) : K pc lv (.int a :: st) x kc ks := by
  obtain ⟨p, e, R, s, m, args, below, meth, c, Q, ⟨hx, hb, hml, hown, hts⟩, ⟨hT, hA⟩, ⟨hfr, hlo⟩, hnm, hret, rfl⟩ := hK
  intro H locs ls cells slots hH hS hl h1 h2
  exact lv_if_eq hx hb hd ht (fun q => kt q H locs ls cells slots hH hS hl h1 h2) (fun q => kf q H locs ls cells slots hH hS hl h1 h2)
theorem r_icmp_eq (hK : Good X l Hd M d Po K) {a b : Int32} {off : Int} {tgt : Nat} (hd : decode M.2.1 pc = .ok (.if_icmp .eq off, 3)) (ht : (pc : Int) + off = (tgt : Int)) (kt : a = b → K tgt lv st x kc ks) (kf : ¬ a = b → K (pc + 3) lv st x kc ks) : K pc lv (.int b :: .int a :: st) x kc ks := by
  obtain ⟨p, e, R, s, m, args, below, meth, c, Q, ⟨hx, hb, hml, hown, hts⟩, ⟨hT, hA⟩, ⟨hfr, hlo⟩, hnm, hret, rfl⟩ := hK
  intro H locs ls cells slots hH hS hl h1 h2
  exact lv_icmp_eq hx hb hd ht (fun q => kt q H locs ls cells slots hH hS hl h1 h2) (fun q => kf q H locs ls cells slots hH hS hl h1 h2)
theorem r_if_ne (hK : Good X l Hd M d Po K) {a : Int32} {off : Int} {tgt : Nat} (hd : decode M.2.1 pc = .ok (.ifCond .ne off, 3)) (ht : (pc : Int) + off = (tgt : Int)) (kt : ¬ a = 0 → K tgt lv st x kc ks) (kf : a = 0 → K (pc + 3) lv st x kc ks) : K pc lv (.int a :: st) x kc ks := by
  obtain ⟨p, e, R, s, m, args, below, meth, c, Q, ⟨hx, hb, hml, hown, hts⟩, ⟨hT, hA⟩, ⟨hfr, hlo⟩, hnm, hret, rfl⟩ := hK
  intro H locs ls cells slots hH hS hl h1 h2
  exact lv_if_ne hx hb hd ht (fun q => kt q H locs ls cells slots hH hS hl h1 h2) (fun q => kf q H locs ls cells slots hH hS hl h1 h2)
theorem r_icmp_ne (hK : Good X l Hd M d Po K) {a b : Int32} {off : Int} {tgt : Nat} (hd : decode M.2.1 pc = .ok (.if_icmp .ne off, 3)) (ht : (pc : Int) + off = (tgt : Int)) (kt : ¬ a = b → K tgt lv st x kc ks) (kf : a = b → K (pc + 3) lv st x kc ks) : K pc lv (.int b :: .int a :: st) x kc ks := by
  obtain ⟨p, e, R, s, m, args, below, meth, c, Q, ⟨hx, hb, hml, hown, hts⟩, ⟨hT, hA⟩, ⟨hfr, hlo⟩, hnm, hret, rfl⟩ := hK
  intro H locs ls cells slots hH hS hl h1 h2
  exact lv_icmp_ne hx hb hd ht (fun q => kt q H locs ls cells slots hH hS hl h1 h2) (fun q => kf q H locs ls cells slots hH hS hl h1 h2)
theorem r_if_lt (hK : Good X l Hd M d Po K) {a : Int32} {off : Int} {tgt : Nat} (hd : decode M.2.1 pc = .ok (.ifCond .lt off, 3)) (ht : (pc : Int) + off = (tgt : Int)) (kt : a < 0 → K tgt lv st x kc ks) (kf : ¬ a < 0 → K (pc + 3) lv st x kc ks) : K pc lv (.int a :: st) x kc ks := by
  obtain ⟨p, e, R, s, m, args, below, meth, c, Q, ⟨hx, hb, hml, hown, hts⟩, ⟨hT, hA⟩, ⟨hfr, hlo⟩, hnm, hret, rfl⟩ := hK
  intro H locs ls cells slots hH hS hl h1 h2
  exact lv_if_lt hx hb hd ht (fun q => kt q H locs ls cells slots hH hS hl h1 h2) (fun q => kf q H locs ls cells slots hH hS hl h1 h2)
theorem r_icmp_lt (hK : Good X l Hd M d Po K) {a b : Int32} {off : Int} {tgt : Nat} (hd : decode M.2.1 pc = .ok (.if_icmp .lt off, 3)) (ht : (pc : Int) + off = (tgt : Int)) (kt : a < b → K tgt lv st x kc ks) (kf : ¬ a < b → K (pc + 3) lv st x kc ks) : K pc lv (.int b :: .int a :: st) x kc ks := by
  obtain ⟨p, e, R, s, m, args, below, meth, c, Q, ⟨hx, hb, hml, hown, hts⟩, ⟨hT, hA⟩, ⟨hfr, hlo⟩, hnm, hret, rfl⟩ := hK
  intro H locs ls cells slots hH hS hl h1 h2
  exact lv_icmp_lt hx hb hd ht (fun q => kt q H locs ls cells slots hH hS hl h1 h2) (fun q => kf q H locs ls cells slots hH hS hl h1 h2)
theorem r_if_ge (hK : Good X l Hd M d Po K) {a : Int32} {off : Int} {tgt : Nat} (hd : decode M.2.1 pc = .ok (.ifCond .ge off, 3)) (ht : (pc : Int) + off = (tgt : Int)) (kt : 0 ≤ a → K tgt lv st x kc ks) (kf : ¬ 0 ≤ a → K (pc + 3) lv st x kc ks) : K pc lv (.int a :: st) x kc ks := by
  obtain ⟨p, e, R, s, m, args, below, meth, c, Q, ⟨hx, hb, hml, hown, hts⟩, ⟨hT, hA⟩, ⟨hfr, hlo⟩, hnm, hret, rfl⟩ := hK
  intro H locs ls cells slots hH hS hl h1 h2
  exact lv_if_ge hx hb hd ht (fun q => kt q H locs ls cells slots hH hS hl h1 h2) (fun q => kf q H locs ls cells slots hH hS hl h1 h2)
theorem r_icmp_ge (hK : Good X l Hd M d Po K) {a b : Int32} {off : Int} {tgt : Nat} (hd : decode M.2.1 pc = .ok (.if_icmp .ge off, 3)) (ht : (pc : Int) + off = (tgt : Int)) (kt : b ≤ a → K tgt lv st x kc ks) (kf : ¬ b ≤ a → K (pc + 3) lv st x kc ks) : K pc lv (.int b :: .int a :: st) x kc ks := by
  obtain ⟨p, e, R, s, m, args, below, meth, c, Q, ⟨hx, hb, hml, hown, hts⟩, ⟨hT, hA⟩, ⟨hfr, hlo⟩, hnm, hret, rfl⟩ := hK
  intro H locs ls cells slots hH hS hl h1 h2
  exact lv_icmp_ge hx hb hd ht (fun q => kt q H locs ls cells slots hH hS hl h1 h2) (fun q => kf q H locs ls cells slots hH hS hl h1 h2)
theorem r_if_gt (hK : Good X l Hd M d Po K) {a : Int32} {off : Int} {tgt : Nat} (hd : decode M.2.1 pc = .ok (.ifCond .gt off, 3)) (ht : (pc : Int) + off = (tgt : Int)) (kt : 0 < a → K tgt lv st x kc ks) (kf : ¬ 0 < a → K (pc + 3) lv st x kc ks) : K pc lv (.int a :: st) x kc ks := by
  obtain ⟨p, e, R, s, m, args, below, meth, c, Q, ⟨hx, hb, hml, hown, hts⟩, ⟨hT, hA⟩, ⟨hfr, hlo⟩, hnm, hret, rfl⟩ := hK
  intro H locs ls cells slots hH hS hl h1 h2
  exact lv_if_gt hx hb hd ht (fun q => kt q H locs ls cells slots hH hS hl h1 h2) (fun q => kf q H locs ls cells slots hH hS hl h1 h2)
theorem r_icmp_gt (hK : Good X l Hd M d Po K) {a b : Int32} {off : Int} {tgt : Nat} (hd : decode M.2.1 pc = .ok (.if_icmp .gt off, 3)) (ht : (pc : Int) + off = (tgt : Int)) (kt : b < a → K tgt lv st x kc ks) (kf : ¬ b < a → K (pc + 3) lv st x kc ks) : K pc lv (.int b :: .int a :: st) x kc ks := by
  obtain ⟨p, e, R, s, m, args, below, meth, c, Q, ⟨hx, hb, hml, hown, hts⟩, ⟨hT, hA⟩, ⟨hfr, hlo⟩, hnm, hret, rfl⟩ := hK
  intro H locs ls cells slots hH hS hl h1 h2
  exact lv_icmp_gt hx hb hd ht (fun q => kt q H locs ls cells slots hH hS hl h1 h2) (fun q => kf q H locs ls cells slots hH hS hl h1 h2)
theorem r_if_le (hK : Good X l Hd M d Po K) {a : Int32} {off : Int} {tgt : Nat} (hd : decode M.2.1 pc = .ok (.ifCond .le off, 3)) (ht : (pc : Int) + off = (tgt : Int)) (kt : a ≤ 0 → K tgt lv st x kc ks) (kf : ¬ a ≤ 0 → K (pc + 3) lv st x kc ks) : K pc lv (.int a :: st) x kc ks := by
  obtain ⟨p, e, R, s, m, args, below, meth, c, Q, ⟨hx, hb, hml, hown, hts⟩, ⟨hT, hA⟩, ⟨hfr, hlo⟩, hnm, hret, rfl⟩ := hK
  intro H locs ls cells slots hH hS hl h1 h2
  exact lv_if_le hx hb hd ht (fun q => kt q H locs ls cells slots hH hS hl h1 h2) (fun q => kf q H locs ls cells slots hH hS hl h1 h2)
theorem r_icmp_le (hK : Good X l Hd M d Po K) {a b : Int32} {off : Int} {tgt : Nat} (hd : decode M.2.1 pc = .ok (.if_icmp .le off, 3)) (ht : (pc : Int) + off = (tgt : Int)) (kt : a ≤ b → K tgt lv st x kc ks) (kf : ¬ a ≤ b → K (pc + 3) lv st x kc ks) : K pc lv (.int b :: .int a :: st) x kc ks := by
  obtain ⟨p, e, R, s, m, args, below, meth, c, Q, ⟨hx, hb, hml, hown, hts⟩, ⟨hT, hA⟩, ⟨hfr, hlo⟩, hnm, hret, rfl⟩ := hK
  intro H locs ls cells slots hH hS hl h1 h2
  exact lv_icmp_le hx hb hd ht (fun q => kt q H locs ls cells slots hH hS hl h1 h2) (fun q => kf q H locs ls cells slots hH hS hl h1 h2)
theorem r_acmp_eq (hK : Good X l Hd M d Po K) {a b : Option Nat} {off : Int} {tgt : Nat} (hd : decode M.2.1 pc = .ok (.if_acmp .eq off, 3)) (ht : (pc : Int) + off = (tgt : Int)) (kt : a = b → K tgt lv st x kc ks) (kf : ¬ a = b → K (pc + 3) lv st x kc ks) : K pc lv (va_rf b :: va_rf a :: st) x kc ks := by
  obtain ⟨p, e, R, s, m, args, below, meth, c, Q, ⟨hx, hb, hml, hown, hts⟩, ⟨hT, hA⟩, ⟨hfr, hlo⟩, hnm, hret, rfl⟩ := hK
  intro H locs ls cells slots hH hS hl h1 h2
  exact lv_acmp_eq hx hb hd ht (fun q => kt q H locs ls cells slots hH hS hl h1 h2) (fun q => kf q H locs ls cells slots hH hS hl h1 h2)
theorem r_acmp_ne (hK : Good X l Hd M d Po K) {a b : Option Nat} {off : Int} {tgt : Nat} (hd : decode M.2.1 pc = .ok (.if_acmp .ne off, 3)) (ht : (pc : Int) + off = (tgt : Int)) (kt : ¬ a = b → K tgt lv st x kc ks) (kf : a = b → K (pc + 3) lv st x kc ks) : K pc lv (va_rf b :: va_rf a :: st) x kc ks := by
  obtain ⟨p, e, R, s, m, args, below, meth, c, Q, ⟨hx, hb, hml, hown, hts⟩, ⟨hT, hA⟩, ⟨hfr, hlo⟩, hnm, hret, rfl⟩ := hK
  intro H locs ls cells slots hH hS hl h1 h2
  exact lv_acmp_ne hx hb hd ht (fun q => kt q H locs ls cells slots hH hS hl h1 h2) (fun q => kf q H locs ls cells slots hH hS hl h1 h2)
theorem r_goto (hK : Good X l Hd M d Po K) {off : Int} {tgt : Nat} (hd : decode M.2.1 pc = .ok (.goto off, 3)) (ht : (pc : Int) + off = (tgt : Int)) (k : K tgt lv st x kc ks) : K pc lv st x kc ks := by
  obtain ⟨p, e, R, s, m, args, below, meth, c, Q, ⟨hx, hb, hml, hown, hts⟩, ⟨hT, hA⟩, ⟨hfr, hlo⟩, hnm, hret, rfl⟩ := hK
  intro H locs ls cells slots hH hS hl h1 h2
  exact lv_goto hx hb hd ht (k H locs ls cells slots hH hS hl h1 h2)
theorem r_ifnull (hK : Good X l Hd M d Po K) {v : Option Nat} {off : Int} {tgt : Nat} (hd : decode M.2.1 pc = .ok (.ifnull off, 3)) (ht : (pc : Int) + off = (tgt : Int)) (kt : v = none → K tgt lv st x kc ks) (kf : ∀ a, v = some a → K (pc + 3) lv st x kc ks) : K pc lv (va_rf v :: st) x kc ks := by
  obtain ⟨p, e, R, s, m, args, below, meth, c, Q, ⟨hx, hb, hml, hown, hts⟩, ⟨hT, hA⟩, ⟨hfr, hlo⟩, hnm, hret, rfl⟩ := hK
  intro H locs ls cells slots hH hS hl h1 h2
  cases v with
  | none => exact lv_ifnullN hx hb hd ht (kt rfl H locs ls cells slots hH hS hl h1 h2)
  | some a => exact lv_ifnull hx hb hd (kf a rfl H locs ls cells slots hH hS hl h1 h2)
theorem r_ifnonnull (hK : Good X l Hd M d Po K) {v : Option Nat} {off : Int} {tgt : Nat} (hd : decode M.2.1 pc = .ok (.ifnonnull off, 3)) (ht : (pc : Int) + off = (tgt : Int)) (kt : ∀ a, v = some a → K tgt lv st x kc ks) (kf : v = none → K (pc + 3) lv st x kc ks) : K pc lv (va_rf v :: st) x kc ks := by
  obtain ⟨p, e, R, s, m, args, below, meth, c, Q, ⟨hx, hb, hml, hown, hts⟩, ⟨hT, hA⟩, ⟨hfr, hlo⟩, hnm, hret, rfl⟩ := hK
  intro H locs ls cells slots hH hS hl h1 h2
  cases v with
  | none => exact lv_ifnonnullN hx hb hd (kf rfl H locs ls cells slots hH hS hl h1 h2)
  | some a => exact lv_ifnonnull hx hb hd ht (kt a rfl H locs ls cells slots hH hS hl h1 h2)
theorem r_lookup (hK : Good X l Hd M d Po K) {dflt : Int} {ps : Array (Int × Int)} {len : Nat} {a : Int32} {off : Int} {tgt : Nat} (hd : decode M.2.1 pc = .ok (.lookupswitch dflt ps, len)) (hp : (ps.toList.zip (ps.toList.drop 1)).all (fun (a, next) => a.1 < next.1) = true) (ho : Op.lookupswitch.offset ps.toList dflt a.toInt = off) (ht : (pc : Int) + off = (tgt : Int)) (k : K tgt lv st x kc ks) : K pc lv (.int a :: st) x kc ks := by
  obtain ⟨p, e, R, s, m, args, below, meth, c, Q, ⟨hx, hb, hml, hown, hts⟩, ⟨hT, hA⟩, ⟨hfr, hlo⟩, hnm, hret, rfl⟩ := hK
  intro H locs ls cells slots hH hS hl h1 h2
  exact lv_lookup hx hb hd hp ho ht (k H locs ls cells slots hH hS hl h1 h2)
theorem r_tableOut (hK : Good X l Hd M d Po K) {dflt lo hi : Int} {offs : Array Int} {len : Nat} {a : Int32} {tgt : Nat} (hd : decode M.2.1 pc = .ok (.tableswitch dflt lo hi offs, len)) (h : a.toInt < lo ∨ hi < a.toInt) (ht : (pc : Int) + dflt = (tgt : Int)) (k : K tgt lv st x kc ks) : K pc lv (.int a :: st) x kc ks := by
  obtain ⟨p, e, R, s, m, args, below, meth, c, Q, ⟨hx, hb, hml, hown, hts⟩, ⟨hT, hA⟩, ⟨hfr, hlo⟩, hnm, hret, rfl⟩ := hK
  intro H locs ls cells slots hH hS hl h1 h2
  exact lv_tableOut hx hb hd h ht (k H locs ls cells slots hH hS hl h1 h2)
theorem r_tableIn (hK : Good X l Hd M d Po K) {dflt lo hi : Int} {offs : Array Int} {len : Nat} {a : Int32} {off : Int} {tgt : Nat} (hd : decode M.2.1 pc = .ok (.tableswitch dflt lo hi offs, len)) (h3 : ¬ a.toInt < lo) (h4 : ¬ hi < a.toInt) (ho : offs[(a.toInt - lo).toNat]? = some off) (ht : (pc : Int) + off = (tgt : Int)) (k : K tgt lv st x kc ks) : K pc lv (.int a :: st) x kc ks := by
  obtain ⟨p, e, R, s, m, args, below, meth, c, Q, ⟨hx, hb, hml, hown, hts⟩, ⟨hT, hA⟩, ⟨hfr, hlo⟩, hnm, hret, rfl⟩ := hK
  intro H locs ls cells slots hH hS hl h1 h2
  exact lv_tableIn hx hb hd h3 h4 ho ht (k H locs ls cells slots hH hS hl h1 h2)
theorem r_iret (hK : Good X l Hd M d Po K) {v : Int32} {ty : FieldType} (hd : decode M.2.1 pc = .ok (.ireturn, 1)) (ht : M.2.2.2 = some ty) (hn : narrow ty (.int v) = .int v) (k : Po (some (.int v)) x) : K pc lv [.int v] x kc ks := by
  obtain ⟨p, e, R, s, m, args, below, meth, c, Q, ⟨hx, hb, hml, hown, hts⟩, ⟨hT, hA⟩, ⟨hfr, hlo⟩, hnm, hret, rfl⟩ := hK
  intro H locs ls cells slots hH hS hl h1 h2
  exact hret pc _ _ x H locs ls cells slots (Or.inl ⟨hd, v, ty, ht, hn, rfl, rfl⟩) k hH hS (by omega) (by omega)
theorem r_aret (hK : Good X l Hd M d Po K) {v : Option Nat} {ty : FieldType} (hd : decode M.2.1 pc = .ok (.areturn, 1)) (ht : M.2.2.2 = some ty) (hy : (∃ n, ty = .object n) ∨ ∃ t, ty = .array t) (k : Po (some (va_rf v)) x) : K pc lv [va_rf v] x kc ks := by
  obtain ⟨p, e, R, s, m, args, below, meth, c, Q, ⟨hx, hb, hml, hown, hts⟩, ⟨hT, hA⟩, ⟨hfr, hlo⟩, hnm, hret, rfl⟩ := hK
  intro H locs ls cells slots hH hS hl h1 h2
  exact hret pc _ _ x H locs ls cells slots (Or.inr (Or.inl ⟨hd, va_rf v, ty, ht, hy, va_rf_or v, rfl, rfl⟩)) k hH hS (by omega) (by omega)
theorem r_vret (hK : Good X l Hd M d Po K) (hd : decode M.2.1 pc = .ok (.return_, 1)) (ht : M.2.2.2 = none) (k : Po none x) : K pc lv [] x kc ks := by
  obtain ⟨p, e, R, s, m, args, below, meth, c, Q, ⟨hx, hb, hml, hown, hts⟩, ⟨hT, hA⟩, ⟨hfr, hlo⟩, hnm, hret, rfl⟩ := hK
  intro H locs ls cells slots hH hS hl h1 h2
  exact hret pc _ _ x H locs ls cells slots (Or.inr (Or.inr ⟨hd, ht, rfl, rfl⟩)) k hH hS (by omega) (by omega)
theorem r_room (hK : Good X l Hd M d Po K) {kc' ks' : Nat} (hc : kc' ≤ kc) (hs : ks' ≤ ks) (k : K pc lv st x kc' ks') : K pc lv st x kc ks := by
  obtain ⟨p, e, R, s, m, args, below, meth, c, Q, ⟨hx, hb, hml, hown, hts⟩, ⟨hT, hA⟩, ⟨hfr, hlo⟩, hnm, hret, rfl⟩ := hK
  intro H locs ls cells slots hH hS hl h1 h2
  exact k H locs ls cells slots hH hS hl (by omega) (by omega)
theorem r_loc (hK : Good X l Hd M d Po K) {lv' : List (Nat × Value)} (is : List Nat) (h : lv_pick lv is = lv') (k : K pc lv' st x kc ks) : K pc lv st x kc ks := by
  obtain ⟨p, e, R, s, m, args, below, meth, c, Q, ⟨hx, hb, hml, hown, hts⟩, ⟨hT, hA⟩, ⟨hfr, hlo⟩, hnm, hret, rfl⟩ := hK
  intro H locs ls cells slots hH hS hl h1 h2
  exact k H locs ls cells slots hH hS (lv_sub hl is h) h1 h2
theorem r_objInit (hK : Good X l Hd M d Po K) {i a : Nat} (hd : decode M.2.1 pc = .ok (.invokespecial i, 3)) (hw : Cond.methodLink M.1.cls i objectInit ∈ gtbl) (hw2 : Cond.instanceMethod objectInit ∈ gtbl) (hw3 : Cond.code objectInit ⟨#[0xb1]⟩ 1 none ∈ gtbl) (hdd : 1 ≤ d) (hst : (st.map fun v => v.category).sum ≤ 8) (k : K (pc + 3) lv st x kc ks) : K pc lv (.ref a :: st) x kc ks := by
  obtain ⟨p, e, R, s, m, args, below, meth, c, Q, ⟨hx, hb, hml, hown, hts⟩, ⟨hT, hA⟩, ⟨hfr, hlo⟩, hnm, hret, rfl⟩ := hK
  intro H locs ls cells slots hH hS hl h1 h2
  refine W.objInit hx hb hown (hts _ hw) (hts _ hw2) (hts _ hw3) rfl (hl.1.trans hml.symm) rfl hd (by omega) ?_ (k H locs ls cells slots hH hS hl h1 h2)
  show 2 * 0 + _ + 12 ≤ _
  omega
end ROWS
