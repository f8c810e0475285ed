set_option maxRecDepth 100000
set_option linter.unusedVariables false
set_option maxHeartbeats 200000
/-! PLAIN, LINES: bytes and bits are written -/
def R_wr (F W : Nat) (hc ht : z_M) : Prop := hI hc F 6 = hI ht 1064 60 ∧ 0 ≤ hI ht 1064 60 ∧ ∀ i : Nat, (i : Int) < hI ht 1064 60 → hI hc W i % 256 = hI ht 1094 i
def R_bt (t : Nat) (hc ht : z_M) : Prop := hI hc t 9 = hI ht 1064 100 * 2 ^ (hI ht 1064 102 - hI ht 1064 101).toNat ∧ hI hc t 10 = hI ht 1064 102 - hI ht 1064 101 ∧ (hI ht 1064 102 = 7 ∨ hI ht 1064 102 = 8) ∧ (0 ≤ hI ht 1064 101 ∧ hI ht 1064 101 < hI ht 1064 102) ∧ (0 ≤ hI ht 1064 100 ∧ hI ht 1064 100 < 2 ^ (hI ht 1064 101).toNat) ∧ hI hc t 11 = if hI ht 1064 101 = 0 then 0 else 1
/-- what is written of the component's and of the twin's ints, when bits are told -/
def z_wlc (t F W a i : Nat) : Prop := (a = t ∧ 9 ≤ i ∧ i ≤ 11) ∨ (a = F ∧ i = 6) ∨ a = W
def z_lt1 (a i : Nat) : Prop := (a = 1064 ∧ (i = 60 ∨ (100 ≤ i ∧ i ≤ 102))) ∨ a = 1094
theorem pw (k : Nat) : ∃ P : Nat, 2 ^ k = P ∧ (2 : Int) ^ k = (P : Int) := sorry
theorem tv_g {n b : Int} {k : Nat} (hk : k ≤ 7) (h0 : 0 ≤ n) (h1 : n < 128) (hb : b = 0 ∨ b = 1) : z_or (n * 2 ^ (k + 1)) (z_shl b (k : Int)) = (2 * n + b) * 2 ^ k := sorry
theorem tv_0 {t : Nat} {hc ht : z_M} {b : Int} (b1 : hI hc t 9 = hI ht 1064 100 * 2 ^ (hI ht 1064 102 - hI ht 1064 101).toNat) (b3 : hI ht 1064 102 = 7 ∨ hI ht 1064 102 = 8) (b4 : 0 ≤ hI ht 1064 101 ∧ hI ht 1064 101 < hI ht 1064 102) (b5 : 0 ≤ hI ht 1064 100 ∧ hI ht 1064 100 < 2 ^ (hI ht 1064 101).toNat) (hb : b = 0 ∨ b = 1) :
    z_or (hI hc t 9) (z_shl b ((hI ht 1064 102 - hI ht 1064 101) - 1)) = (2 * hI ht 1064 100 + b) * 2 ^ ((hI ht 1064 102 - hI ht 1064 101) - 1).toNat := sorry
theorem p_tell {hc ht : z_M} {t F W : Nat} {b : Int} (kt : hK hc t = 52) (pF : hP hc t 12 = F) (kF : hK hc F = 39) (pW : hP hc F 5 = W) (kW : hK hc W = 1002) (nW : hN hc W = 6000) (lW : W < 4294967296) (dFt : ¬ F = t) (dWt : ¬ W = t) (dWF : ¬ W = F) (hb : b = 0 ∨ b = 1)
    (rm : hI ht 1064 60 < 6000) (Rw : R_wr F W hc ht) (Rb : R_bt t hc ht) :
    ∃ hc' ht', f1067_0 t b hc = z_rv hc' ∧ f909_0 b ht = z_rv ht' ∧ R_wr F W hc' ht' ∧ R_bt t hc' ht' ∧ z_ix (z_wlc t F W) hc hc' ∧ z_ix z_lt1 ht ht' ∧ 7 * hI ht' 1064 60 + hI ht' 1064 101 ≤ 7 * hI ht 1064 60 + hI ht 1064 101 + 1 := sorry
