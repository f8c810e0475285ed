/-! one cell is the same in two memories -/
def z_sme (a : Nat) (h h' : z_M) : Prop := h'.1 a = h.1 a ∧ h'.2.1 a = h.2.1 a ∧ h'.2.2.1 a = h.2.2.1 a ∧ h'.2.2.2.1 a = h.2.2.2.1 a
theorem sm_rfl (a : Nat) (h : z_M) : z_sme a h h := ⟨rfl, rfl, rfl, rfl⟩
theorem sm_tr {a : Nat} {h h1 h2 : z_M} (p : z_sme a h h1) (q : z_sme a h1 h2) : z_sme a h h2 := ⟨q.1.trans p.1, q.2.1.trans p.2.1, q.2.2.1.trans p.2.2.1, q.2.2.2.trans p.2.2.2⟩
theorem sm_sI {a b i : Nat} {v : Int} {h : z_M} (q : a ≠ b) : z_sme a h (sI h b i v) := ⟨rfl, funext fun j => if_neg fun w => q w.1, rfl, rfl⟩
theorem sm_sL {a b i : Nat} {v : Int} {h : z_M} (q : a ≠ b) : z_sme a h (sL h b i v) := ⟨rfl, rfl, funext fun j => if_neg fun w => q w.1, rfl⟩
theorem sm_sP {a b i : Nat} {v : Nat} {h : z_M} (q : a ≠ b) : z_sme a h (sP h b i v) := ⟨rfl, rfl, rfl, funext fun j => if_neg fun w => q w.1⟩
theorem sm_sN {a k n : Nat} {h : z_M} (q : a ≠ hZ h + 1) : z_sme a h (sN h k n) := ⟨if_neg q, funext fun j => if_neg q, funext fun j => if_neg q, funext fun j => if_neg q⟩
theorem sm_cpy {a s sp t dp n : Nat} {h : z_M} (q : a ≠ t) : z_sme a h (z_cpy h s sp t dp n) := ⟨rfl, funext fun j => if_neg fun w => q w.1, funext fun j => if_neg fun w => q w.1, funext fun j => if_neg fun w => q w.1⟩
theorem sm_cln {a c e n : Nat} {h : z_M} (q : a ≠ hZ h + 1) : z_sme a h (z_cln h c e n) := ⟨if_neg q, funext fun j => if_neg q, funext fun j => if_neg q, funext fun j => if_neg q⟩
theorem sm_K {a : Nat} {h h' : z_M} (q : z_sme a h h') : hK h' a = hK h a := congrArg Prod.fst q.1
theorem sm_N {a : Nat} {h h' : z_M} (q : z_sme a h h') : hN h' a = hN h a := congrArg Prod.snd q.1
theorem sm_I {a : Nat} {h h' : z_M} (q : z_sme a h h') (i : Nat) : hI h' a i = hI h a i := congrFun q.2.1 i
theorem sm_L {a : Nat} {h h' : z_M} (q : z_sme a h h') (i : Nat) : hL h' a i = hL h a i := congrFun q.2.2.1 i
theorem sm_P {a : Nat} {h h' : z_M} (q : z_sme a h h') (i : Nat) : hP h' a i = hP h a i := congrFun q.2.2.2 i
