set_option maxRecDepth 100000
set_option linter.unusedVariables false
set_option maxHeartbeats 200000
/-! PLAIN: the call `lines` -/
/-- as z_fp, but cells of C are free (their kinds stay) -/
def z_fq (C : Nat → Prop) (V R : Nat → Nat → Prop) (z s : Nat) (h h' : z_M) : Prop := (∀ a, (a ≤ hZ h ∨ 4294967296 ≤ a) → h'.1 a = h.1 a ∧ (¬ C a → h'.2.2.1 a = h.2.2.1 a ∧ (∀ i, ¬ V a i → hI h' a i = hI h a i) ∧ ∀ i, ¬ R a i → hP h' a i = hP h a i)) ∧ (hX h' = hX h ∧ hG h' = hG h ∧ hW h' = hW h) ∧ hZ h ≤ hZ h' ∧ hZ h' ≤ hZ h + z ∧ hS h' ≤ hS h + s
theorem fq_tr {C : Nat → Prop} {V R : Nat → Nat → Prop} {z z' s s' : Nat} {h h1 h2 : z_M} (p : z_fq C V R z s h h1) (q : z_fq C V R z' s' h1 h2) : z_fq C V R (z + z') (s + s') h h2 := sorry
theorem fq_fp {C : Nat → Prop} {V R : Nat → Nat → Prop} {z s : Nat} {h h' : z_M} (p : z_fp V R z s h h') : z_fq C V R z s h h' := sorry
theorem fq_sI {C : Nat → Prop} {V R : Nat → Nat → Prop} {h : z_M} {a i : Nat} {v : Int} (c : C a) : z_fq C V R 0 0 h (sI h a i v) := sorry
theorem fq_sL {C : Nat → Prop} {V R : Nat → Nat → Prop} {h : z_M} {a i : Nat} {v : Int} (c : C a) : z_fq C V R 0 0 h (sL h a i v) := sorry
theorem fq_cpy {C : Nat → Prop} {V R : Nat → Nat → Prop} {h : z_M} {s sp t dp n : Nat} (c : C t) : z_fq C V R 0 0 h (z_cpy h s sp t dp n) := sorry
theorem fq_rfl {C : Nat → Prop} {V R : Nat → Nat → Prop} {h : z_M} : z_fq C V R 0 0 h h := sorry
theorem fq_le {C : Nat → Prop} {V R : Nat → Nat → Prop} {z z' s s' : Nat} {h h' : z_M} (p : z_fq C V R z s h h') (hz : z ≤ z') (hs : s ≤ s') : z_fq C V R z' s' h h' := sorry
theorem al_co {k n i v : Int} {ht : z_M} : z_al k n (sI ht 1064 0 v) i ↔ z_al k n ht i := sorry
theorem t_alk {k n v : Int} {ht : z_M} (hk : 0 ≤ k ∧ k ≤ 7) (hn : 1 ≤ n ∧ n ≤ 3) : f691_0 k n (sI ht 1064 0 v) = z_ri (z_bi (z_al k n ht k)) (sI ht 1064 0 v) := sorry
theorem c_al0 {k n tr nr rs : Int} {r8 : Nat} {hc ht : z_M} (S : z_shp hc) (R : R_pic hc ht) (hk : 0 ≤ k ∧ k + n ≤ 8) (hn : 1 ≤ n ∧ n ≤ 3) : f151_46 1 k n tr nr rs (103 + 3 * (Int.toNat k)) r8 0 hc = z_if (z_al k n ht k) (f151_98 1 k n tr nr rs r8 hc) (z_ex (hZ hc + 1) (sN hc 6 6)) := sorry
theorem c_wantWork {h : z_M} {W : Int} (k1 : hK h 1 = 10) (e : hI h 1 7 = W) (hW : 0 ≤ W ∧ W ≤ 300) : f197_0 1 h = z_if (300 ≤ W) (z_ex (hZ h + 1) (sN h 7 6)) (z_rv (sI h 1 7 (W + 1))) := sorry
def z_lC (a : Nat) : Prop := (135 ≤ a ∧ a ≤ 158) ∨ a = 1272
def z_lV2 (a i : Nat) : Prop := (657 ≤ a ∧ a ≤ 842) ∨ (a = 1 ∧ (i = 4 ∨ i = 7)) ∨ a = 5
def z_lR2 (a i : Nat) : Prop := (657 ≤ a ∧ a ≤ 842) ∧ i = 1
def z_lT2 (a i : Nat) : Prop := z_lT a i ∨ (a = 1064 ∧ (i = 0 ∨ i = 1)) ∨ a = 1073 ∨ a = 1072
/-- what lines leave -/
def z_lch (hc ht hc' ht' : z_M) : Prop := R_fil hc' ht' ∧ R_num hc' ht' ∧ z_fq z_lC z_lV2 z_lR2 14 600 hc hc' ∧ z_ix z_lT2 ht ht'
def R_dim (ht : z_M) : Prop := ∀ k, k < 8 → 0 < hI ht 1065 k → 0 < hI ht 1066 k
theorem call_lines {hc ht : z_M} (Sp : z_shp hc) (Sf : z_shf hc) (O : z_out hc) (R : R_pic hc ht) (Rf : R_fil hc ht) (Rn : R_num hc ht) (D : R_dim ht) (Sl : ∀ k, k ≤ 2 → S_hl k hc ∧ hI hc (657 + 62 * k) 0 = ((k : Nat) : Int)) (hz : hZ hc < 2999999000) (k : Int) (n : Int) (turn : Int) (near : Int) (restart : Int) (f : Int) (hn : n ≤ 2147483000) : z_ci (f79_0 1 k n turn near restart f 1272 hc) (f907_0 k n turn near restart f ht) (z_q (z_lch hc ht) hc ht) := sorry
