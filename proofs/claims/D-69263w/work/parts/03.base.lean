/-! plain rows over AM -/
theorem z_g_t {p : Prop} {x : z_Z} (h : p) : z_g p x = x := by
  unfold z_g; cases Classical.propDecidable p with
  | isTrue _ => rfl
  | isFalse w => exact absurd h w
theorem z_if_t {p : Prop} {x y : z_Z} (h : p) : z_if p x y = x := by
  unfold z_if; cases Classical.propDecidable p with
  | isTrue _ => rfl
  | isFalse w => exact absurd h w
theorem z_if_f {p : Prop} {x y : z_Z} (h : ¬ p) : z_if p x y = y := by
  unfold z_if; cases Classical.propDecidable p with
  | isTrue w => exact absurd w h
  | isFalse _ => rfl
theorem z_if_not {p : Prop} {x y : z_Z} : z_if (¬ p) x y = z_if p y x := by
  by_cases h : p
  · rw [z_if_t h, z_if_f (fun w => w h)]
  · rw [z_if_f h, z_if_t h]
theorem z_kv_rv {h : z_M} {f : z_M → z_Z} {g : Nat → z_M → z_Z} : z_kv (z_rv h) f g = f h := rfl
theorem z_ki_ri {v : Int} {h : z_M} {f : Int → z_M → z_Z} {g : Nat → z_M → z_Z} : z_ki (z_ri v h) f g = f v h := rfl
theorem z_kj_rl {v : Int} {h : z_M} {f : Int → z_M → z_Z} {g : Nat → z_M → z_Z} : z_kj (z_rl v h) f g = f v h := rfl
theorem z_kr_rr {v : Nat} {h : z_M} {f : Nat → z_M → z_Z} {g : Nat → z_M → z_Z} : z_kr (z_rr v h) f g = f v h := rfl
theorem z_kv_ex {a : Nat} {h : z_M} {f : z_M → z_Z} {g : Nat → z_M → z_Z} : z_kv (z_ex a h) f g = g a h := rfl
theorem z_ki_ex {a : Nat} {h : z_M} {f : Int → z_M → z_Z} {g : Nat → z_M → z_Z} : z_ki (z_ex a h) f g = g a h := rfl
theorem z_kj_ex {a : Nat} {h : z_M} {f : Int → z_M → z_Z} {g : Nat → z_M → z_Z} : z_kj (z_ex a h) f g = g a h := rfl
theorem z_kr_ex {a : Nat} {h : z_M} {f : Nat → z_M → z_Z} {g : Nat → z_M → z_Z} : z_kr (z_ex a h) f g = g a h := rfl
theorem z_w_id {x : Int} (a : -2147483648 ≤ x) (b : x < 2147483648) : z_w x = x := by
  unfold z_w; rw [Int.bmod_def]; split <;> omega
theorem z_w_rng (x : Int) : -2147483648 ≤ z_w x ∧ z_w x < 2147483648 := by
  unfold z_w; rw [Int.bmod_def]; split <;> omega
theorem z_wl_id {x : Int} (a : -9223372036854775808 ≤ x) (b : x < 9223372036854775808) : z_wl x = x := by
  unfold z_wl; rw [Int.bmod_def]; split <;> omega
theorem z_i8_id {x : Int} (a : -128 ≤ x) (b : x < 128) : z_i8 x = x := by
  unfold z_i8; rw [Int.bmod_def]; split <;> omega
theorem z_i16_id {x : Int} (a : -32768 ≤ x) (b : x < 32768) : z_i16 x = x := by
  unfold z_i16; rw [Int.bmod_def]; split <;> omega
/-! memory -/
theorem hI_sI {h : z_M} {a i b j : Nat} {v : Int} : hI (sI h a i v) b j = if b = a ∧ j = i then v else hI h b j := rfl
theorem hI_sL {h : z_M} {a i b j : Nat} {v : Int} : hI (sL h a i v) b j = hI h b j := rfl
theorem hI_sP {h : z_M} {a i b j : Nat} {v : Nat} : hI (sP h a i v) b j = hI h b j := rfl
theorem hI_sN {h : z_M} {k n b j : Nat} : hI (sN h k n) b j = if b = hZ h + 1 then 0 else hI h b j := rfl
theorem hI_sG {h : z_M} {g b j : Nat} : hI (sG h g) b j = hI h b j := rfl
theorem hI_sW {h : z_M} {b j : Nat} : hI (sW h) b j = hI h b j := rfl
theorem hL_sI {h : z_M} {a i b j : Nat} {v : Int} : hL (sI h a i v) b j = hL h b j := rfl
theorem hL_sL {h : z_M} {a i b j : Nat} {v : Int} : hL (sL h a i v) b j = if b = a ∧ j = i then v else hL h b j := rfl
theorem hL_sP {h : z_M} {a i b j : Nat} {v : Nat} : hL (sP h a i v) b j = hL h b j := rfl
theorem hL_sN {h : z_M} {k n b j : Nat} : hL (sN h k n) b j = if b = hZ h + 1 then 0 else hL h b j := rfl
theorem hL_sG {h : z_M} {g b j : Nat} : hL (sG h g) b j = hL h b j := rfl
theorem hL_sW {h : z_M} {b j : Nat} : hL (sW h) b j = hL h b j := rfl
theorem hP_sI {h : z_M} {a i b j : Nat} {v : Int} : hP (sI h a i v) b j = hP h b j := rfl
theorem hP_sL {h : z_M} {a i b j : Nat} {v : Int} : hP (sL h a i v) b j = hP h b j := rfl
theorem hP_sP {h : z_M} {a i b j : Nat} {v : Nat} : hP (sP h a i v) b j = if b = a ∧ j = i then v else hP h b j := rfl
theorem hP_sN {h : z_M} {k n b j : Nat} : hP (sN h k n) b j = if b = hZ h + 1 then 0 else hP h b j := rfl
theorem hP_sG {h : z_M} {g b j : Nat} : hP (sG h g) b j = hP h b j := rfl
theorem hP_sW {h : z_M} {b j : Nat} : hP (sW h) b j = hP h b j := rfl
theorem hK_sI {h : z_M} {a i b : Nat} {v : Int} : hK (sI h a i v) b = hK h b := rfl
theorem hK_sL {h : z_M} {a i b : Nat} {v : Int} : hK (sL h a i v) b = hK h b := rfl
theorem hK_sP {h : z_M} {a i b : Nat} {v : Nat} : hK (sP h a i v) b = hK h b := rfl
theorem hK_sN {h : z_M} {k n b : Nat} : hK (sN h k n) b = if b = hZ h + 1 then k else hK h b := by
  show (if b = hZ h + 1 then (k, n) else h.1 b).1 = _
  split <;> rfl
theorem hK_sG {h : z_M} {g b : Nat} : hK (sG h g) b = hK h b := rfl
theorem hK_sW {h : z_M} {b : Nat} : hK (sW h) b = hK h b := rfl
theorem hN_sI {h : z_M} {a i b : Nat} {v : Int} : hN (sI h a i v) b = hN h b := rfl
theorem hN_sL {h : z_M} {a i b : Nat} {v : Int} : hN (sL h a i v) b = hN h b := rfl
theorem hN_sP {h : z_M} {a i b : Nat} {v : Nat} : hN (sP h a i v) b = hN h b := rfl
theorem hN_sN {h : z_M} {k n b : Nat} : hN (sN h k n) b = if b = hZ h + 1 then n else hN h b := by
  show (if b = hZ h + 1 then (k, n) else h.1 b).2 = _
  split <;> rfl
theorem hN_sG {h : z_M} {g b : Nat} : hN (sG h g) b = hN h b := rfl
theorem hN_sW {h : z_M} {b : Nat} : hN (sW h) b = hN h b := rfl
theorem hZ_sI {h : z_M} {a i : Nat} {v : Int} : hZ (sI h a i v) = hZ h := rfl
theorem hZ_sL {h : z_M} {a i : Nat} {v : Int} : hZ (sL h a i v) = hZ h := rfl
theorem hZ_sP {h : z_M} {a i : Nat} {v : Nat} : hZ (sP h a i v) = hZ h := rfl
theorem hZ_sN {h : z_M} {k n : Nat} : hZ (sN h k n) = hZ h + 1 := rfl
theorem hZ_sG {h : z_M} {g : Nat} : hZ (sG h g) = hZ h := rfl
theorem hZ_sW {h : z_M} : hZ (sW h) = hZ h := rfl
theorem hS_sI {h : z_M} {a i : Nat} {v : Int} : hS (sI h a i v) = hS h := rfl
theorem hS_sL {h : z_M} {a i : Nat} {v : Int} : hS (sL h a i v) = hS h := rfl
theorem hS_sP {h : z_M} {a i : Nat} {v : Nat} : hS (sP h a i v) = hS h := rfl
theorem hS_sN {h : z_M} {k n : Nat} : hS (sN h k n) = hS h + n := rfl
theorem hS_sG {h : z_M} {g : Nat} : hS (sG h g) = hS h := rfl
theorem hS_sW {h : z_M} : hS (sW h) = hS h := rfl
theorem hX_sI {h : z_M} {a i : Nat} {v : Int} : hX (sI h a i v) = hX h := rfl
theorem hX_sL {h : z_M} {a i : Nat} {v : Int} : hX (sL h a i v) = hX h := rfl
theorem hX_sP {h : z_M} {a i : Nat} {v : Nat} : hX (sP h a i v) = hX h := rfl
theorem hX_sN {h : z_M} {k n : Nat} : hX (sN h k n) = hX h := rfl
theorem hX_sG {h : z_M} {g : Nat} : hX (sG h g) = hX h := rfl
theorem hX_sW {h : z_M} : hX (sW h) = hX h := rfl
theorem hG_sI {h : z_M} {a i : Nat} {v : Int} : hG (sI h a i v) = hG h := rfl
theorem hG_sL {h : z_M} {a i : Nat} {v : Int} : hG (sL h a i v) = hG h := rfl
theorem hG_sP {h : z_M} {a i : Nat} {v : Nat} : hG (sP h a i v) = hG h := rfl
theorem hG_sN {h : z_M} {k n : Nat} : hG (sN h k n) = hG h := rfl
theorem hG_sG {h : z_M} {g : Nat} : hG (sG h g) = g := rfl
theorem hG_sW {h : z_M} : hG (sW h) = hG h := rfl
theorem hW_sI {h : z_M} {a i : Nat} {v : Int} : hW (sI h a i v) = hW h := rfl
theorem hW_sL {h : z_M} {a i : Nat} {v : Int} : hW (sL h a i v) = hW h := rfl
theorem hW_sP {h : z_M} {a i : Nat} {v : Nat} : hW (sP h a i v) = hW h := rfl
theorem hW_sN {h : z_M} {k n : Nat} : hW (sN h k n) = hW h := rfl
theorem hW_sG {h : z_M} {g : Nat} : hW (sG h g) = hW h := rfl
theorem hW_sW {h : z_M} : hW (sW h) = true := rfl
/-! answers: `z_wi x V`: x answers an int v with memory h so that V v h; z_wv nothing, z_wj a long, z_wr a reference, z_we throws -/
def z_wv (x : z_Z) (V : z_M → Prop) : Prop := ∃ h, x = z_rv h ∧ V h
def z_wi (x : z_Z) (V : Int → z_M → Prop) : Prop := ∃ v h, x = z_ri v h ∧ V v h
def z_wj (x : z_Z) (V : Int → z_M → Prop) : Prop := ∃ v h, x = z_rl v h ∧ V v h
def z_wr (x : z_Z) (V : Nat → z_M → Prop) : Prop := ∃ v h, x = z_rr v h ∧ V v h
def z_we (x : z_Z) (V : Nat → z_M → Prop) : Prop := ∃ v h, x = z_ex v h ∧ V v h
theorem z_wv_if {p : Prop} {x y : z_Z} {V : z_M → Prop} (a : p → z_wv x V) (b : ¬ p → z_wv y V) : z_wv (z_if p x y) V := by
  by_cases h : p
  · rw [z_if_t h]; exact a h
  · rw [z_if_f h]; exact b h
theorem z_wv_g {p : Prop} {x : z_Z} {V : z_M → Prop} (h : p) (a : z_wv x V) : z_wv (z_g p x) V := by
  rw [z_g_t h]; exact a
theorem z_wv_o {h : z_M} {V : z_M → Prop} (a : V h) : z_wv (z_rv h) V := ⟨h, rfl, a⟩
theorem z_wv_imp {x : z_Z} {U V : z_M → Prop} (a : z_wv x U) (b : ∀ h, U h → V h) : z_wv x V := by
  obtain ⟨h, e, u⟩ := a; exact ⟨h, e, b h u⟩
theorem z_wv_kv {x : z_Z} {f : z_M → z_Z} {g : Nat → z_M → z_Z} {U : z_M → Prop} {V : z_M → Prop} (a : z_wv x U) (b : ∀ h, U h → z_wv (f h) V) : z_wv (z_kv x f g) V := by
  obtain ⟨h, e, u⟩ := a; subst e; exact b h u
theorem z_wv_kve {x : z_Z} {f : z_M → z_Z} {g : Nat → z_M → z_Z} {U : Nat → z_M → Prop} {V : z_M → Prop} (a : z_we x U) (b : ∀ v h, U v h → z_wv (g v h) V) : z_wv (z_kv x f g) V := by
  obtain ⟨v, h, e, u⟩ := a; subst e; exact b v h u
theorem z_wv_ki {x : z_Z} {f : Int → z_M → z_Z} {g : Nat → z_M → z_Z} {U : Int → z_M → Prop} {V : z_M → Prop} (a : z_wi x U) (b : ∀ v h, U v h → z_wv (f v h) V) : z_wv (z_ki x f g) V := by
  obtain ⟨v, h, e, u⟩ := a; subst e; exact b v h u
theorem z_wv_kie {x : z_Z} {f : Int → z_M → z_Z} {g : Nat → z_M → z_Z} {U : Nat → z_M → Prop} {V : z_M → Prop} (a : z_we x U) (b : ∀ v h, U v h → z_wv (g v h) V) : z_wv (z_ki x f g) V := by
  obtain ⟨v, h, e, u⟩ := a; subst e; exact b v h u
theorem z_wv_kj {x : z_Z} {f : Int → z_M → z_Z} {g : Nat → z_M → z_Z} {U : Int → z_M → Prop} {V : z_M → Prop} (a : z_wj x U) (b : ∀ v h, U v h → z_wv (f v h) V) : z_wv (z_kj x f g) V := by
  obtain ⟨v, h, e, u⟩ := a; subst e; exact b v h u
theorem z_wv_kje {x : z_Z} {f : Int → z_M → z_Z} {g : Nat → z_M → z_Z} {U : Nat → z_M → Prop} {V : z_M → Prop} (a : z_we x U) (b : ∀ v h, U v h → z_wv (g v h) V) : z_wv (z_kj x f g) V := by
  obtain ⟨v, h, e, u⟩ := a; subst e; exact b v h u
theorem z_wv_kr {x : z_Z} {f : Nat → z_M → z_Z} {g : Nat → z_M → z_Z} {U : Nat → z_M → Prop} {V : z_M → Prop} (a : z_wr x U) (b : ∀ v h, U v h → z_wv (f v h) V) : z_wv (z_kr x f g) V := by
  obtain ⟨v, h, e, u⟩ := a; subst e; exact b v h u
theorem z_wv_kre {x : z_Z} {f : Nat → z_M → z_Z} {g : Nat → z_M → z_Z} {U : Nat → z_M → Prop} {V : z_M → Prop} (a : z_we x U) (b : ∀ v h, U v h → z_wv (g v h) V) : z_wv (z_kr x f g) V := by
  obtain ⟨v, h, e, u⟩ := a; subst e; exact b v h u
theorem z_wi_if {p : Prop} {x y : z_Z} {V : Int → z_M → Prop} (a : p → z_wi x V) (b : ¬ p → z_wi y V) : z_wi (z_if p x y) V := by
  by_cases h : p
  · rw [z_if_t h]; exact a h
  · rw [z_if_f h]; exact b h
theorem z_wi_g {p : Prop} {x : z_Z} {V : Int → z_M → Prop} (h : p) (a : z_wi x V) : z_wi (z_g p x) V := by
  rw [z_g_t h]; exact a
theorem z_wi_o {v : Int} {h : z_M} {V : Int → z_M → Prop} (a : V v h) : z_wi (z_ri v h) V := ⟨v, h, rfl, a⟩
theorem z_wi_imp {x : z_Z} {U V : Int → z_M → Prop} (a : z_wi x U) (b : ∀ v h, U v h → V v h) : z_wi x V := by
  obtain ⟨v, h, e, u⟩ := a; exact ⟨v, h, e, b v h u⟩
theorem z_wi_kv {x : z_Z} {f : z_M → z_Z} {g : Nat → z_M → z_Z} {U : z_M → Prop} {V : Int → z_M → Prop} (a : z_wv x U) (b : ∀ h, U h → z_wi (f h) V) : z_wi (z_kv x f g) V := by
  obtain ⟨h, e, u⟩ := a; subst e; exact b h u
theorem z_wi_kve {x : z_Z} {f : z_M → z_Z} {g : Nat → z_M → z_Z} {U : Nat → z_M → Prop} {V : Int → z_M → Prop} (a : z_we x U) (b : ∀ v h, U v h → z_wi (g v h) V) : z_wi (z_kv x f g) V := by
  obtain ⟨v, h, e, u⟩ := a; subst e; exact b v h u
theorem z_wi_ki {x : z_Z} {f : Int → z_M → z_Z} {g : Nat → z_M → z_Z} {U : Int → z_M → Prop} {V : Int → z_M → Prop} (a : z_wi x U) (b : ∀ v h, U v h → z_wi (f v h) V) : z_wi (z_ki x f g) V := by
  obtain ⟨v, h, e, u⟩ := a; subst e; exact b v h u
theorem z_wi_kie {x : z_Z} {f : Int → z_M → z_Z} {g : Nat → z_M → z_Z} {U : Nat → z_M → Prop} {V : Int → z_M → Prop} (a : z_we x U) (b : ∀ v h, U v h → z_wi (g v h) V) : z_wi (z_ki x f g) V := by
  obtain ⟨v, h, e, u⟩ := a; subst e; exact b v h u
theorem z_wi_kj {x : z_Z} {f : Int → z_M → z_Z} {g : Nat → z_M → z_Z} {U : Int → z_M → Prop} {V : Int → z_M → Prop} (a : z_wj x U) (b : ∀ v h, U v h → z_wi (f v h) V) : z_wi (z_kj x f g) V := by
  obtain ⟨v, h, e, u⟩ := a; subst e; exact b v h u
theorem z_wi_kje {x : z_Z} {f : Int → z_M → z_Z} {g : Nat → z_M → z_Z} {U : Nat → z_M → Prop} {V : Int → z_M → Prop} (a : z_we x U) (b : ∀ v h, U v h → z_wi (g v h) V) : z_wi (z_kj x f g) V := by
  obtain ⟨v, h, e, u⟩ := a; subst e; exact b v h u
theorem z_wi_kr {x : z_Z} {f : Nat → z_M → z_Z} {g : Nat → z_M → z_Z} {U : Nat → z_M → Prop} {V : Int → z_M → Prop} (a : z_wr x U) (b : ∀ v h, U v h → z_wi (f v h) V) : z_wi (z_kr x f g) V := by
  obtain ⟨v, h, e, u⟩ := a; subst e; exact b v h u
theorem z_wi_kre {x : z_Z} {f : Nat → z_M → z_Z} {g : Nat → z_M → z_Z} {U : Nat → z_M → Prop} {V : Int → z_M → Prop} (a : z_we x U) (b : ∀ v h, U v h → z_wi (g v h) V) : z_wi (z_kr x f g) V := by
  obtain ⟨v, h, e, u⟩ := a; subst e; exact b v h u
theorem z_wj_if {p : Prop} {x y : z_Z} {V : Int → z_M → Prop} (a : p → z_wj x V) (b : ¬ p → z_wj y V) : z_wj (z_if p x y) V := by
  by_cases h : p
  · rw [z_if_t h]; exact a h
  · rw [z_if_f h]; exact b h
theorem z_wj_g {p : Prop} {x : z_Z} {V : Int → z_M → Prop} (h : p) (a : z_wj x V) : z_wj (z_g p x) V := by
  rw [z_g_t h]; exact a
theorem z_wj_o {v : Int} {h : z_M} {V : Int → z_M → Prop} (a : V v h) : z_wj (z_rl v h) V := ⟨v, h, rfl, a⟩
theorem z_wj_imp {x : z_Z} {U V : Int → z_M → Prop} (a : z_wj x U) (b : ∀ v h, U v h → V v h) : z_wj x V := by
  obtain ⟨v, h, e, u⟩ := a; exact ⟨v, h, e, b v h u⟩
theorem z_wj_kv {x : z_Z} {f : z_M → z_Z} {g : Nat → z_M → z_Z} {U : z_M → Prop} {V : Int → z_M → Prop} (a : z_wv x U) (b : ∀ h, U h → z_wj (f h) V) : z_wj (z_kv x f g) V := by
  obtain ⟨h, e, u⟩ := a; subst e; exact b h u
theorem z_wj_kve {x : z_Z} {f : z_M → z_Z} {g : Nat → z_M → z_Z} {U : Nat → z_M → Prop} {V : Int → z_M → Prop} (a : z_we x U) (b : ∀ v h, U v h → z_wj (g v h) V) : z_wj (z_kv x f g) V := by
  obtain ⟨v, h, e, u⟩ := a; subst e; exact b v h u
theorem z_wj_ki {x : z_Z} {f : Int → z_M → z_Z} {g : Nat → z_M → z_Z} {U : Int → z_M → Prop} {V : Int → z_M → Prop} (a : z_wi x U) (b : ∀ v h, U v h → z_wj (f v h) V) : z_wj (z_ki x f g) V := by
  obtain ⟨v, h, e, u⟩ := a; subst e; exact b v h u
theorem z_wj_kie {x : z_Z} {f : Int → z_M → z_Z} {g : Nat → z_M → z_Z} {U : Nat → z_M → Prop} {V : Int → z_M → Prop} (a : z_we x U) (b : ∀ v h, U v h → z_wj (g v h) V) : z_wj (z_ki x f g) V := by
  obtain ⟨v, h, e, u⟩ := a; subst e; exact b v h u
theorem z_wj_kj {x : z_Z} {f : Int → z_M → z_Z} {g : Nat → z_M → z_Z} {U : Int → z_M → Prop} {V : Int → z_M → Prop} (a : z_wj x U) (b : ∀ v h, U v h → z_wj (f v h) V) : z_wj (z_kj x f g) V := by
  obtain ⟨v, h, e, u⟩ := a; subst e; exact b v h u
theorem z_wj_kje {x : z_Z} {f : Int → z_M → z_Z} {g : Nat → z_M → z_Z} {U : Nat → z_M → Prop} {V : Int → z_M → Prop} (a : z_we x U) (b : ∀ v h, U v h → z_wj (g v h) V) : z_wj (z_kj x f g) V := by
  obtain ⟨v, h, e, u⟩ := a; subst e; exact b v h u
theorem z_wj_kr {x : z_Z} {f : Nat → z_M → z_Z} {g : Nat → z_M → z_Z} {U : Nat → z_M → Prop} {V : Int → z_M → Prop} (a : z_wr x U) (b : ∀ v h, U v h → z_wj (f v h) V) : z_wj (z_kr x f g) V := by
  obtain ⟨v, h, e, u⟩ := a; subst e; exact b v h u
theorem z_wj_kre {x : z_Z} {f : Nat → z_M → z_Z} {g : Nat → z_M → z_Z} {U : Nat → z_M → Prop} {V : Int → z_M → Prop} (a : z_we x U) (b : ∀ v h, U v h → z_wj (g v h) V) : z_wj (z_kr x f g) V := by
  obtain ⟨v, h, e, u⟩ := a; subst e; exact b v h u
theorem z_wr_if {p : Prop} {x y : z_Z} {V : Nat → z_M → Prop} (a : p → z_wr x V) (b : ¬ p → z_wr y V) : z_wr (z_if p x y) V := by
  by_cases h : p
  · rw [z_if_t h]; exact a h
  · rw [z_if_f h]; exact b h
theorem z_wr_g {p : Prop} {x : z_Z} {V : Nat → z_M → Prop} (h : p) (a : z_wr x V) : z_wr (z_g p x) V := by
  rw [z_g_t h]; exact a
theorem z_wr_o {v : Nat} {h : z_M} {V : Nat → z_M → Prop} (a : V v h) : z_wr (z_rr v h) V := ⟨v, h, rfl, a⟩
theorem z_wr_imp {x : z_Z} {U V : Nat → z_M → Prop} (a : z_wr x U) (b : ∀ v h, U v h → V v h) : z_wr x V := by
  obtain ⟨v, h, e, u⟩ := a; exact ⟨v, h, e, b v h u⟩
theorem z_wr_kv {x : z_Z} {f : z_M → z_Z} {g : Nat → z_M → z_Z} {U : z_M → Prop} {V : Nat → z_M → Prop} (a : z_wv x U) (b : ∀ h, U h → z_wr (f h) V) : z_wr (z_kv x f g) V := by
  obtain ⟨h, e, u⟩ := a; subst e; exact b h u
theorem z_wr_kve {x : z_Z} {f : z_M → z_Z} {g : Nat → z_M → z_Z} {U : Nat → z_M → Prop} {V : Nat → z_M → Prop} (a : z_we x U) (b : ∀ v h, U v h → z_wr (g v h) V) : z_wr (z_kv x f g) V := by
  obtain ⟨v, h, e, u⟩ := a; subst e; exact b v h u
theorem z_wr_ki {x : z_Z} {f : Int → z_M → z_Z} {g : Nat → z_M → z_Z} {U : Int → z_M → Prop} {V : Nat → z_M → Prop} (a : z_wi x U) (b : ∀ v h, U v h → z_wr (f v h) V) : z_wr (z_ki x f g) V := by
  obtain ⟨v, h, e, u⟩ := a; subst e; exact b v h u
theorem z_wr_kie {x : z_Z} {f : Int → z_M → z_Z} {g : Nat → z_M → z_Z} {U : Nat → z_M → Prop} {V : Nat → z_M → Prop} (a : z_we x U) (b : ∀ v h, U v h → z_wr (g v h) V) : z_wr (z_ki x f g) V := by
  obtain ⟨v, h, e, u⟩ := a; subst e; exact b v h u
theorem z_wr_kj {x : z_Z} {f : Int → z_M → z_Z} {g : Nat → z_M → z_Z} {U : Int → z_M → Prop} {V : Nat → z_M → Prop} (a : z_wj x U) (b : ∀ v h, U v h → z_wr (f v h) V) : z_wr (z_kj x f g) V := by
  obtain ⟨v, h, e, u⟩ := a; subst e; exact b v h u
theorem z_wr_kje {x : z_Z} {f : Int → z_M → z_Z} {g : Nat → z_M → z_Z} {U : Nat → z_M → Prop} {V : Nat → z_M → Prop} (a : z_we x U) (b : ∀ v h, U v h → z_wr (g v h) V) : z_wr (z_kj x f g) V := by
  obtain ⟨v, h, e, u⟩ := a; subst e; exact b v h u
theorem z_wr_kr {x : z_Z} {f : Nat → z_M → z_Z} {g : Nat → z_M → z_Z} {U : Nat → z_M → Prop} {V : Nat → z_M → Prop} (a : z_wr x U) (b : ∀ v h, U v h → z_wr (f v h) V) : z_wr (z_kr x f g) V := by
  obtain ⟨v, h, e, u⟩ := a; subst e; exact b v h u
theorem z_wr_kre {x : z_Z} {f : Nat → z_M → z_Z} {g : Nat → z_M → z_Z} {U : Nat → z_M → Prop} {V : Nat → z_M → Prop} (a : z_we x U) (b : ∀ v h, U v h → z_wr (g v h) V) : z_wr (z_kr x f g) V := by
  obtain ⟨v, h, e, u⟩ := a; subst e; exact b v h u
theorem z_we_if {p : Prop} {x y : z_Z} {V : Nat → z_M → Prop} (a : p → z_we x V) (b : ¬ p → z_we y V) : z_we (z_if p x y) V := by
  by_cases h : p
  · rw [z_if_t h]; exact a h
  · rw [z_if_f h]; exact b h
theorem z_we_g {p : Prop} {x : z_Z} {V : Nat → z_M → Prop} (h : p) (a : z_we x V) : z_we (z_g p x) V := by
  rw [z_g_t h]; exact a
theorem z_we_o {v : Nat} {h : z_M} {V : Nat → z_M → Prop} (a : V v h) : z_we (z_ex v h) V := ⟨v, h, rfl, a⟩
theorem z_we_imp {x : z_Z} {U V : Nat → z_M → Prop} (a : z_we x U) (b : ∀ v h, U v h → V v h) : z_we x V := by
  obtain ⟨v, h, e, u⟩ := a; exact ⟨v, h, e, b v h u⟩
theorem z_we_kv {x : z_Z} {f : z_M → z_Z} {g : Nat → z_M → z_Z} {U : z_M → Prop} {V : Nat → z_M → Prop} (a : z_wv x U) (b : ∀ h, U h → z_we (f h) V) : z_we (z_kv x f g) V := by
  obtain ⟨h, e, u⟩ := a; subst e; exact b h u
theorem z_we_kve {x : z_Z} {f : z_M → z_Z} {g : Nat → z_M → z_Z} {U : Nat → z_M → Prop} {V : Nat → z_M → Prop} (a : z_we x U) (b : ∀ v h, U v h → z_we (g v h) V) : z_we (z_kv x f g) V := by
  obtain ⟨v, h, e, u⟩ := a; subst e; exact b v h u
theorem z_we_ki {x : z_Z} {f : Int → z_M → z_Z} {g : Nat → z_M → z_Z} {U : Int → z_M → Prop} {V : Nat → z_M → Prop} (a : z_wi x U) (b : ∀ v h, U v h → z_we (f v h) V) : z_we (z_ki x f g) V := by
  obtain ⟨v, h, e, u⟩ := a; subst e; exact b v h u
theorem z_we_kie {x : z_Z} {f : Int → z_M → z_Z} {g : Nat → z_M → z_Z} {U : Nat → z_M → Prop} {V : Nat → z_M → Prop} (a : z_we x U) (b : ∀ v h, U v h → z_we (g v h) V) : z_we (z_ki x f g) V := by
  obtain ⟨v, h, e, u⟩ := a; subst e; exact b v h u
theorem z_we_kj {x : z_Z} {f : Int → z_M → z_Z} {g : Nat → z_M → z_Z} {U : Int → z_M → Prop} {V : Nat → z_M → Prop} (a : z_wj x U) (b : ∀ v h, U v h → z_we (f v h) V) : z_we (z_kj x f g) V := by
  obtain ⟨v, h, e, u⟩ := a; subst e; exact b v h u
theorem z_we_kje {x : z_Z} {f : Int → z_M → z_Z} {g : Nat → z_M → z_Z} {U : Nat → z_M → Prop} {V : Nat → z_M → Prop} (a : z_we x U) (b : ∀ v h, U v h → z_we (g v h) V) : z_we (z_kj x f g) V := by
  obtain ⟨v, h, e, u⟩ := a; subst e; exact b v h u
theorem z_we_kr {x : z_Z} {f : Nat → z_M → z_Z} {g : Nat → z_M → z_Z} {U : Nat → z_M → Prop} {V : Nat → z_M → Prop} (a : z_wr x U) (b : ∀ v h, U v h → z_we (f v h) V) : z_we (z_kr x f g) V := by
  obtain ⟨v, h, e, u⟩ := a; subst e; exact b v h u
theorem z_we_kre {x : z_Z} {f : Nat → z_M → z_Z} {g : Nat → z_M → z_Z} {U : Nat → z_M → Prop} {V : Nat → z_M → Prop} (a : z_we x U) (b : ∀ v h, U v h → z_we (g v h) V) : z_we (z_kr x f g) V := by
  obtain ⟨v, h, e, u⟩ := a; subst e; exact b v h u
theorem z_if_q {p : Prop} {x y r : z_Z} (a : p → x = r) (b : ¬ p → y = r) : z_if p x y = r := by
  by_cases h : p
  · rw [z_if_t h]; exact a h
  · rw [z_if_f h]; exact b h
theorem z_g_q {p : Prop} {x r : z_Z} (h : p) (a : x = r) : z_g p x = r := (z_g_t h).trans a
