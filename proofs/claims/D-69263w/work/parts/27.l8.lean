set_option maxRecDepth 100000
set_option linter.unusedVariables false
set_option maxHeartbeats 200000
/-! PLAIN, LINES: rows, and a whole scan -/
theorem rem_nn {x y : Int} (a : 0 ≤ x) (c : 1 ≤ y) (d : y ≤ 1000) : z_rem x y = x % y := sorry
theorem dr {n x j w : Int} (hn : n = 1 ∨ n = 2 ∨ n = 3 ∨ n = 4) (hj : 0 ≤ j ∧ j < n) (hx : 0 ≤ x ∧ x < w) (hw : w ≤ 12) : z_rem (x * n + j) n = j ∧ z_div (x * n + j) n = x ∧ (¬ w * n ≤ x * n + j) ∧ z_w (w * n) = w * n ∧ z_w (x * n + j + 1) = x * n + (j + 1) ∧ z_w (x + 1) = x + 1 := sorry
theorem wn {n w : Int} (hn : n = 1 ∨ n = 2 ∨ n = 3 ∨ n = 4) (hw : 0 ≤ w ∧ w ≤ 12) : z_w (w * n) = w * n := sorry
theorem cs {c d : Nat} (h : c < 100000) (e : d = c + 1) : z_w ((c : Int) + 1) = (d : Int) := sorry
theorem cfj {f j d : Nat} (h : f + j < 100000) (e : d = f + j) : z_w ((f : Int) + (j : Int)) = (d : Int) := sorry
theorem wgl {w g : Int} (a : 0 ≤ w ∧ w ≤ 12) (b : 0 ≤ g ∧ g ≤ 12) : z_w (w * g) = w * g := sorry
theorem wbl {a b : Int} (h : a % 256 = b) : z_and a 255 = b := sorry
theorem st_le {t k f n e : Nat} {nr y N N' : Int} {X X' : Nat → Int} {hc ht : z_M} (Z : z_st t k f n e nr y X N hc ht) (hX : ∀ c, c < n → X' c ≤ X c) (hN : N ≤ N') : z_st t k f n e nr y X' N' hc ht := sorry
theorem st_row {t k f n e : Nat} {nr y N w : Int} {hc ht : z_M} (Z : z_st t k f n e nr y (fun _ => w) N hc ht) (hw : hI ht 1064 45 = w) : z_st t k f n e nr (y + 1) (fun _ => 0) N hc ht := sorry
theorem rx {t k f n e j : Nat} {nr y m w H a1 a2 a3 a4 : Int} (he : f + n ≤ e ∧ e ≤ 4) (hj : j < n) (hm : m = ((f + j : Nat) : Int)) (hy : 0 ≤ y ∧ y < H) : ∀ (q : Nat) (x N : Int) (X : Nat → Int) (hc ht : z_M), z_st t k f n e nr y X N hc ht → hI ht 1064 45 = w → hI ht 1064 46 = H → x + q = w → 0 ≤ x → X j = x → 8 ≤ N → N + 33 * q ≤ 30000 →
    ∃ hc' ht', f1058_75 t y m x hc = f1058_99 t y m hc' ∧ f914_103 a1 a2 a3 a4 y m x ht = f914_128 a1 a2 a3 a4 y m ht' ∧ z_st t k f n e nr y (fun c => if c = j then w else X c) (N + 33 * q) hc' ht' ∧ z_ix (z_gc t k) hc hc' ∧ z_ix z_gt ht ht' := sorry
def R_f (t f n : Nat) (tr : Int) (h : z_M) : Prop := hI h t 4 = ((f : Nat) : Int) ∧ hI h t 5 = ((n : Nat) : Int) ∧ hI h t 6 = tr
theorem R_f_ix {t k f n : Nat} {tr : Int} {hc hc' : z_M} (p : z_ix (z_gc t k) hc hc') (h0 : 1272 < t) (hk : k ≤ 2) (R : R_f t f n tr hc) : R_f t f n tr hc' := sorry
theorem rc {t k f n e : Nat} {nr y w H tr a3 a4 : Int} (he : f + n ≤ e ∧ e ≤ 4) (hy : 0 ≤ y ∧ y < H) : ∀ (q j : Nat) (N : Int) (X : Nat → Int) (hc ht : z_M), z_st t k f n e nr y X N hc ht → R_f t f n tr hc → hI ht 1064 45 = w → hI ht 1064 46 = H → j + q = n → (∀ c, c < n → (c < j → X c = w) ∧ (j ≤ c → X c = 0)) → 8 ≤ N → N + 396 * q ≤ 30000 →
    ∃ hc' ht', f1058_60 t y ((f + j : Nat) : Int) hc = z_rv hc' ∧ f914_94 ((f : Nat) : Int) ((f + n : Nat) : Int) a3 a4 y ((f + j : Nat) : Int) ht = f914_134 ((f : Nat) : Int) ((f + n : Nat) : Int) a3 a4 y ht' ∧ z_st t k f n e nr y (fun _ => w) (N + 396 * q) hc' ht' ∧ z_ix (z_gc t k) hc hc' ∧ z_ix z_gt ht ht' := sorry
/-! samples in turn -/
theorem rz {t k f n e : Nat} {nr y w H tr x a3 a4 : Int} (he : f + n ≤ e ∧ e ≤ 4) (hn : 1 ≤ n) (hy : 0 ≤ y ∧ y < H) (hx : 0 ≤ x ∧ x < w) : ∀ (q j : Nat) (N : Int) (X : Nat → Int) (hc ht : z_M), z_st t k f n e nr y X N hc ht → R_f t f n tr hc → hI ht 1064 45 = w → hI ht 1064 46 = H → j + q = n → (∀ c, c < n → (c < j → X c = x + 1) ∧ (j ≤ c → X c = x)) → 8 ≤ N → N + 33 * q ≤ 30000 →
    ∃ hc' ht', f1058_10 t y (x * (n : Int) + (j : Int)) hc = f1058_10 t y (x * (n : Int) + (n : Int)) hc' ∧ f914_60 ((f : Nat) : Int) ((f + n : Nat) : Int) a3 a4 y x ((f + j : Nat) : Int) ht = f914_82 ((f : Nat) : Int) ((f + n : Nat) : Int) a3 a4 y x ht' ∧ z_st t k f n e nr y (fun _ => x + 1) (N + 33 * q) hc' ht' ∧ z_ix (z_gc t k) hc hc' ∧ z_ix z_gt ht ht' := sorry
theorem rw2 {t k f n e : Nat} {nr y w H tr a3 a4 : Int} (he : f + n ≤ e ∧ e ≤ 4) (hn : 1 ≤ n) (hy : 0 ≤ y ∧ y < H) : ∀ (q : Nat) (x N : Int) (hc ht : z_M), z_st t k f n e nr y (fun _ => x) N hc ht → R_f t f n tr hc → hI ht 1064 45 = w → hI ht 1064 46 = H → x + q = w → 0 ≤ x → 8 ≤ N → N + 132 * q ≤ 30000 →
    ∃ hc' ht', f1058_10 t y (x * (n : Int)) hc = z_rv hc' ∧ f914_48 ((f : Nat) : Int) ((f + n : Nat) : Int) a3 a4 y x ht = f914_134 ((f : Nat) : Int) ((f + n : Nat) : Int) a3 a4 y ht' ∧ z_st t k f n e nr y (fun _ => w) (N + 132 * q) hc' ht' ∧ z_ix (z_gc t k) hc hc' ∧ z_ix z_gt ht ht' := sorry
theorem p_row {t k f n e : Nat} {nr y w H tr N a4 B : Int} {hc ht : z_M} (hB1 : 396 * (n : Int) ≤ B) (hB2 : tr = 2 → 1584 ≤ B) (he : f + n ≤ e ∧ e ≤ 4) (hn : 1 ≤ n) (hy : 0 ≤ y ∧ y < H) (Z : z_st t k f n e nr y (fun _ => 0) N hc ht) (F : R_f t f n tr hc) (hw : hI ht 1064 45 = w) (hH : hI ht 1064 46 = H) (hN : 8 ≤ N ∧ N + B ≤ 30000) :
    ∃ hc' ht', f1058_0 t y hc = z_rv hc' ∧ f914_31 ((f : Nat) : Int) ((f + n : Nat) : Int) tr a4 y ht = f914_134 ((f : Nat) : Int) ((f + n : Nat) : Int) tr a4 y ht' ∧ z_st t k f n e nr y (fun _ => w) (N + B) hc' ht' ∧ z_ix (z_gc t k) hc hc' ∧ z_ix z_gt ht ht' := sorry
