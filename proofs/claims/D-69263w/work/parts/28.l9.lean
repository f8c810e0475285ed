set_option maxRecDepth 100000
set_option linter.unusedVariables false
set_option maxHeartbeats 200000
/-! PLAIN, LINES: a whole scan -/
theorem t_begin {row v : Int} (ht : z_M) : ∃ ht', f908_0 row v ht = z_rv ht' ∧ hI ht' 1064 99 = row ∧ (∀ c, c < 4 → hI ht' 1111 c = v ∧ hI ht' 1112 c = 1) ∧ z_ix (fun a i => (a = 1064 ∧ i = 99) ∨ a = 1111 ∨ a = 1112) ht ht' := sorry
theorem c_begin1 {hc : z_M} {c P : Nat} {y s : Int} (kc : hK hc c = 53) (kP : hK hc P = 40) (d : ¬ P = c) (e : hI hc P 8 = s) : f1068_0 c y P hc = z_rv (sI (sI (sI hc c 1 y) c 2 s) c 3 1) := sorry
/-- the contexts begin -/
theorem c_begins {t k f n : Nat} {y s tr num an : Int} (hy : ¬ an = 0 ∨ y = 0) : ∀ (q j : Nat) (hc : z_M), S_sc t k f n hc → R_f t f n tr hc → hI hc (658 + 62 * k) 8 = s → j + q = n →
    ∃ hc', f1057_69 t num y an ((f + j : Nat) : Int) hc = f1057_112 t num y hc' ∧ (∀ c, j ≤ c → c < n → hI hc' (t + 2 + 2 * c) 1 = y ∧ hI hc' (t + 2 + 2 * c) 2 = s ∧ hI hc' (t + 2 + 2 * c) 3 = 1) ∧ z_ix (fun a _ => t + 2 + 2 * j ≤ a ∧ a ≤ t + 9) hc hc' := sorry
/-- after a beginning -/
theorem V_new {t f n : Nat} {y N : Int} {hc ht : z_M} (hn : f + n ≤ 4) (hN : 8 ≤ N) (h0 : 0 ≤ y) (a : ∀ c, c < n → hI hc (t + 2 + 2 * c) 1 = y ∧ hI hc (t + 2 + 2 * c) 2 = 4 ∧ hI hc (t + 2 + 2 * c) 3 = 1) (b : hI ht 1064 99 = y) (c : ∀ c, c < 4 → hI ht 1111 c = 4 ∧ hI ht 1112 c = 1) : R_v t f n y (fun _ => 0) N hc ht := sorry
theorem rst_b {num : Int} (hn : 0 ≤ num ∧ num ≤ 100) : z_w (208 + z_rem num 8) % 256 = z_w (208 + z_rem num 8) := sorry
theorem w1p {y : Int} (a : 0 ≤ y) (b : y ≤ 1000) : z_w (y + 1) = y + 1 := sorry
/-- a mark between rows -/
theorem p_rst {hc ht : z_M} {t F W : Nat} {num : Int} (L : z_LS t F W hc ht) (w : z_wh ht) (r : z_PH ht ≤ 41900) (hn : 0 ≤ num ∧ num ≤ 100) :
    ∃ hc' g1 g2, f1065_0 t num hc = z_rv hc' ∧ f931_0 255 ht = z_rv g1 ∧ f931_0 (z_w (208 + z_rem num 8)) g1 = z_rv g2 ∧ z_LS t F W hc' g2 ∧ z_wh g2 ∧ z_ix (z_wlc t F W) hc hc' ∧ z_ix z_lt1 ht g2 ∧ z_PH g2 ≤ z_PH ht + 14 := sorry
theorem fin_t {ht gm : z_M} {a1 a2 a3 num y H : Int} (hH : hI ht 1064 46 = H) (hy : y + 1 = H) (hr : 0 ≤ hI ht 1064 54) (hb : 0 ≤ y ∧ y ≤ 100) (E : f915_0 ht = z_rv gm) : f914_134 a1 a2 a3 num y ht = z_rv gm := sorry
theorem p_data {t k f n e : Nat} {nr w H tr B B4 T : Int} (hB1 : 396 * (n : Int) ≤ B) (hB2 : tr = 2 → 1584 ≤ B) (hB4 : B4 = B + 40) (hT : T ≤ 29000) (he : f + n ≤ e ∧ e ≤ 4) (hn : 1 ≤ n) : ∀ (q : Nat) (y num N : Int) (hc ht : z_M), z_st t k f n e nr y (fun _ => 0) N hc ht → R_f t f n tr hc → hI ht 1064 45 = w → hI ht 1064 46 = H → y + (q + 1) = H → (0 ≤ num ∧ num ≤ y) → 8 ≤ N → N + B4 * ((q : Int) + 1) ≤ T →
    ∃ hc' ht', f1057_112 t num y hc = z_rv hc' ∧ f914_31 ((f : Nat) : Int) ((f + n : Nat) : Int) tr num y ht = z_rv ht' ∧ z_LS t (657 + 62 * k) (680 + 62 * k) hc' ht' ∧ z_wh ht' ∧ z_ix (z_gc t k) hc hc' ∧ z_ix z_gt ht ht' ∧ z_PH ht' ≤ T := sorry
theorem p_all {t k f n e : Nat} {nr tr B : Int} {hc ht : z_M} (hB1 : 396 * (n : Int) ≤ B) (hB2 : tr = 2 → 1584 ≤ B) (he : f + n ≤ e ∧ e ≤ 4) (hn : 1 ≤ n) (S : S_sc t k f n hc) (K : R_k t k e nr hc ht) (F : R_f t f n tr hc) (Rw : R_wr (657 + 62 * k) (680 + 62 * k) hc ht) (a9 : hI hc t 9 = 0) (a10 : hI hc t 10 = 8) (a11 : hI hc t 11 = 0) (b : 7 * hI ht 1064 60 + 12 * B + 488 ≤ 29000) :
    ∃ hc' ht', f1057_0 t hc = z_rv hc' ∧ f914_0 ((f : Nat) : Int) ((f + n : Nat) : Int) tr ht = z_rv ht' ∧ R_wr (657 + 62 * k) (680 + 62 * k) hc' ht' ∧ z_ix (z_gc t k) hc hc' ∧ z_ix z_gt ht ht' ∧ 7 * hI ht' 1064 60 ≤ 7 * hI ht 1064 60 + 12 * B + 488 := sorry
