set_option maxRecDepth 100000
set_option linter.unusedVariables false
set_option maxHeartbeats 200000
/-! PLAIN, LINES: many bits; how many bits a number gets; what is learnt -/
def S_tel (t F W : Nat) (h : z_M) : Prop := (hK h t = 52 ∧ hP h t 12 = F) ∧ (hK h F = 39 ∧ hP h F 5 = W) ∧ (hK h W = 1002 ∧ hN h W = 6000) ∧ W < 4294967296 ∧ ¬ F = t ∧ ¬ W = t ∧ ¬ W = F
theorem S_tel_ix {V : Nat → Nat → Prop} {t F W : Nat} {h h' : z_M} (p : z_ix V h h') (S : S_tel t F W h) : S_tel t F W h' := sorry
def z_LS (t F W : Nat) (hc ht : z_M) : Prop := S_tel t F W hc ∧ R_wr F W hc ht ∧ R_bt t hc ht
def z_PH (ht : z_M) : Int := 7 * hI ht 1064 60 + hI ht 1064 101
/-- so many bits are told -/
def z_ebt (t F W : Nat) (n : Int) (hc ht hc' ht' : z_M) : Prop := z_LS t F W hc' ht' ∧ z_ix (z_wlc t F W) hc hc' ∧ z_ix z_lt1 ht ht' ∧ z_PH ht' ≤ z_PH ht + n
theorem eb_0 {t F W : Nat} {hc ht : z_M} (L : z_LS t F W hc ht) : z_ebt t F W 0 hc ht hc ht := sorry
theorem eb_tr {t F W : Nat} {n m : Int} {hc ht h1 g1 h2 g2 : z_M} (p : z_ebt t F W n hc ht h1 g1) (q : z_ebt t F W m h1 g1 h2 g2) : z_ebt t F W (n + m) hc ht h2 g2 := sorry
theorem e_bit {t F W : Nat} {b : Int} {hc ht : z_M} (hb : b = 0 ∨ b = 1) (L : z_LS t F W hc ht) (r : z_PH ht ≤ 41990) :
    ∃ hc' ht', f1067_0 t b hc = z_rv hc' ∧ f909_0 b ht = z_rv ht' ∧ z_ebt t F W 1 hc ht hc' ht' := sorry
theorem e_low {t F W : Nat} {v : Int} : ∀ (n : Nat) (hc ht : z_M), n ≤ 100 → z_LS t F W hc ht → z_PH ht + n ≤ 41990 →
    ∃ hc' ht', f1066_4 t v ((n : Int) - 1) hc = z_rv hc' ∧ f934_4 v ((n : Int) - 1) ht = z_rv ht' ∧ z_ebt t F W n hc ht hc' ht' := sorry
theorem e_zer {t F W : Nat} {m e s k Z : Int} (hZ : Z ≤ 100) : ∀ (n : Nat) (z : Int) (hc ht : z_M), n ≤ 100 → 0 ≤ z → z + n = Z → z_LS t F W hc ht → z_PH ht + n ≤ 41990 →
    ∃ hc' ht', f1066_4 t 0 ((n : Int) - 1) hc = z_rv hc' ∧ f942_190 m e s k Z z ht = f942_208 m e s k Z ht' ∧ z_ebt t F W n hc ht hc' ht' := sorry
/-! how many bits -/
theorem p_bits_l {hc ht : z_M} {c : Nat} {m : Int} (kc : hK hc c = 53) (hm : 0 ≤ m ∧ m ≤ 3) (e1 : hI hc c 2 = hI ht 1111 (Int.toNat m)) (e2 : hI hc c 3 = hI ht 1112 (Int.toNat m)) : ∀ (n : Nat) (x : Int), 0 ≤ x → x + n = 12 →
    ∃ k, f1069_2 c x hc = z_ri k hc ∧ f933_2 m x ht = z_ri k ht ∧ 0 ≤ k ∧ k ≤ 12 := sorry
theorem p_bits {hc ht : z_M} {c : Nat} {m : Int} (kc : hK hc c = 53) (hm : 0 ≤ m ∧ m ≤ 3) (e1 : hI hc c 2 = hI ht 1111 (Int.toNat m)) (e2 : hI hc c 3 = hI ht 1112 (Int.toNat m)) :
    ∃ k, f1069_0 c hc = z_ri k hc ∧ f933_0 m ht = z_ri k ht ∧ 0 ≤ k ∧ k ≤ 12 := sorry
/-! what is learnt -/
theorem shr_1 (x : Int) : z_shr x 1 = x / 2 := sorry
theorem div_2 {x : Int} (a : 0 ≤ x) (b : x ≤ 2147483647) : z_div x 2 = x / 2 := sorry
/-- the sum and the number of a context, and the twin's -/
def R_cx (c : Nat) (m : Int) (hc ht : z_M) : Prop := hI hc c 2 = hI ht 1111 (Int.toNat m) ∧ hI hc c 3 = hI ht 1112 (Int.toNat m)
theorem p_learn {hc ht : z_M} {c : Nat} {m e s : Int} (kc : hK hc c = 53) (hm : 0 ≤ m ∧ m ≤ 3) (R : R_cx c m hc ht) (he : -1000 ≤ e ∧ e ≤ 1000) (b1 : 0 ≤ hI ht 1111 (Int.toNat m) ∧ hI ht 1111 (Int.toNat m) ≤ 1000000) (b2 : 0 ≤ hI ht 1112 (Int.toNat m) ∧ hI ht 1112 (Int.toNat m) ≤ 1000000) :
    ∃ A B, f1072_0 c e s hc = z_rv (sI (sI hc c 2 A) c 3 B) ∧ f913_0 m e s ht = z_rv (sI (sI ht 1111 (Int.toNat m) A) 1112 (Int.toNat m) B) ∧ (0 ≤ A ∧ A ≤ hI ht 1111 (Int.toNat m) + 1000) ∧ (0 ≤ B ∧ B ≤ hI ht 1112 (Int.toNat m) + 1) := sorry
