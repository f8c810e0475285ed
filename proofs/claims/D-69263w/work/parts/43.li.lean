set_option maxRecDepth 100000
set_option linter.unusedVariables false
set_option maxHeartbeats 200000
/-! LISTS -/
theorem elc_11 {k : Nat} (h : k ≤ 81) : z_has (z_elc 1100) k = true := sorry
def z_li (m : z_M) (l : Nat) (xs : List Nat) : Prop := hK m l = 0 ∧ hI m l 2 = (xs.length : Int) ∧ (∀ x, x ∈ xs → hK m x ≤ 81 ∧ x ≤ hZ m) ∧ ((hP m l 1 = 4294969296 ∧ xs = []) ∨ ∃ e, hP m l 1 = e ∧ hK m e = 1100 ∧ (1064 ≤ e ∧ e ≤ hZ m) ∧ (xs.length ≤ hN m e ∧ 1 ≤ hN m e ∧ hN m e ≤ 1000) ∧ ∀ i (hi : i < xs.length), hP m e i = xs[i])
def z_le (m : z_M) : Prop := hK m 4294969296 = 1100 ∧ hN m 4294969296 = 0
/-- what adding to a list leaves -/
def z_la (l : Nat) (m m' : z_M) : Prop := (∀ a, (a ≤ hZ m ∨ 4294967296 ≤ a) → m'.1 a = m.1 a ∧ (∀ i, hL m' a i = hL m a i) ∧ (∀ i, ¬ (a = l ∧ (i = 0 ∨ i = 2)) → hI m' a i = hI m a i) ∧ ∀ i, ¬ (a = l ∧ i = 1) → ¬ (a = hP m l 1 ∧ a < 4294967296) → hP m' a i = hP m a i) ∧ (hZ m ≤ hZ m' ∧ hZ m' ≤ hZ m + 1) ∧ hS m' ≤ hS m + 1000 ∧ m'.2.2.2.2.2.2 = m.2.2.2.2.2.2
theorem li_size {m : z_M} {l : Nat} {xs : List Nat} (L : z_li m l xs) : f18_0 l m = z_ri (xs.length : Int) m := sorry
theorem li_empty {m : z_M} {l : Nat} {xs : List Nat} (L : z_li m l xs) : f15_0 l m = z_ri (if xs.length = 0 then 1 else 0) m := sorry
theorem li_get {m : z_M} {l : Nat} {xs : List Nat} (L : z_li m l xs) {i : Nat} (hi : i < xs.length) : f11_0 l (i : Int) m = z_rr xs[i] m := sorry
theorem li_put {m : z_M} {l v e : Nat} {n : Nat} (k : hK m l = 0) (ke : hK m e = 1100) (he : e < 4294967296) (hn : n < hN m e) (hv : hK m v ≤ 81) (hb : n < 1000) : f7_11 l v e (n : Int) m = z_rv (sI (sP m e n v) l 2 ((n + 1 : Nat) : Int)) := sorry
/-- the list behind a put -/
theorem li_new {m : z_M} {l v e : Nat} {xs : List Nat} (k : hK m l = 0) (hx : ∀ x, x ∈ xs → hK m x ≤ 81 ∧ x ≤ hZ m) (p : hP m l 1 = e) (ke : hK m e = 1100) (he : 1064 ≤ e ∧ e ≤ hZ m) (hl : ¬ l = e) (hn : xs.length < hN m e ∧ hN m e ≤ 1000) (hv : hK m v ≤ 81 ∧ v ≤ hZ m) (el : ∀ i (hi : i < xs.length), hP m e i = xs[i]) : z_li (sI (sP m e xs.length v) l 2 ((xs.length + 1 : Nat) : Int)) l (xs ++ [v]) := sorry
theorem li_add {m : z_M} {l v : Nat} {xs : List Nat} (L : z_li m l xs) (O : z_le m) (hl : l ≤ hZ m) (hz : 1272 ≤ hZ m ∧ hZ m < 4000000000) (hx : xs.length < 600) (hv : hK m v ≤ 81 ∧ v ≤ hZ m) :
    ∃ m', f6_0 l v m = z_ri 1 m' ∧ z_li m' l (xs ++ [v]) ∧ (hP m' l 1 = hP m l 1 ∨ hP m' l 1 = hZ m + 1) ∧ z_la l m m' := sorry
/-- a list is emptied -/
theorem li_clr {m : z_M} {e : Nat} {n : Nat} (ke : hK m e = 1100) (he : e < 4294967296) (hn : n ≤ hN m e) (hb : n ≤ 1000) : ∀ (d i : Nat), i + d = n → ∃ m', f8_27 e (n : Int) (i : Int) m = z_rv m' ∧ m'.1 = m.1 ∧ m'.2.1 = m.2.1 ∧ m'.2.2.1 = m.2.2.1 ∧ m'.2.2.2.2 = m.2.2.2.2 ∧ ∀ a j, ¬ a = e → hP m' a j = hP m a j := sorry
theorem li_clear {m : z_M} {l : Nat} {xs : List Nat} (L : z_li m l xs) (hz : 1272 ≤ hZ m ∧ hZ m < 4000000000) : ∃ m', f8_0 l m = z_rv m' ∧ z_li m' l [] ∧ (hP m' l 1 = hP m l 1 ∨ hP m' l 1 = hZ m + 1) ∧ z_la l m m' := sorry
