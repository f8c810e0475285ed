set_option maxRecDepth 100000
set_option linter.unusedVariables false
set_option maxHeartbeats 200000
/-! GREYS: made ready -/
def R_g0 (w : Int) (q : Int) (sd : Int) (X0 : Nat → Nat → Int) (X : Nat → Nat → Int) : Prop := (X 35 5 = w) ∧ (X 35 6 = q) ∧ (X 35 15 = 0) ∧ (X 36 3 = (sd * sd) + 1) ∧ (X 36 1 = sd ∧ X 36 2 = sd) ∧ (X 35 7 = 0 ∧ X 35 8 = 0) ∧ (X 35 9 = 256 * sd ∧ X 35 10 = 0) ∧ (X 35 14 = 0) ∧ (X 35 22 = 0) ∧ (X 35 0 = 24 ∧ X 35 1 = 24) ∧ (∀ i : Nat, i < 256 → X 42 i = 0) ∧ (z_iw z_Wh X0 X)
def R_c_mk (x : Int) (L0 : Nat → Nat → Int) (L : Nat → Nat → Int) : Prop := (∀ i : Nat, (i : Int) < x → L 37 i = 0) ∧ (z_iw (fun a _ => a = 37) L0 L)
def Q_c_mk_l (h g : z_M) (L0 : Nat → Nat → Int) (X : Nat → Nat → Int) (x_ : z_Z) : Prop := (∃ (L1 : Nat → Nat → Int), (x_ = z_rv (sQ h X L1)) ∧ (R_c_mk 64 L0 L1))
set_option maxHeartbeats 4000000 in
theorem c_mk_l {h g : z_M} {L0 : Nat → Nat → Int} {X : Nat → Nat → Int} (S : S0 h) : ∀ (nu : Nat) (x : Int) (L : Nat → Nat → Int), (64 - x).toNat = nu → (0 ≤ x ∧ x ≤ 64) → R_c_mk x L0 L → Q_c_mk_l h g L0 X (f321_18 36 x (sQ h X L)) := sorry
def Q_c_mk (h g : z_M) (X : Nat → Nat → Int) (L : Nat → Nat → Int) (x_ : z_Z) : Prop := (∃ (L1 : Nat → Nat → Int), (x_ = z_rv (sQ h X L1)) ∧ (∀ i : Nat, ((i : Int) < 64) → L1 37 i = 0) ∧ (∀ a i : Nat, ¬ (a = 37) → L1 a i = L a i))
theorem c_mk {h g : z_M} {X : Nat → Nat → Int} {L : Nat → Nat → Int} (S : S0 h) : Q_c_mk h g X L (f321_18 36 0 (sQ h X L)) := sorry
def z_W37 (a : Nat) : Prop := a = 37
theorem W37 {a : Nat} (h : z_ia a = true) : ¬ z_W37 a := sorry
theorem lw_q {h : z_M} {X L : Nat → Nat → Int} (f : ∀ a i : Nat, ¬ (a = 37) → L a i = hL h a i) : z_lw z_W37 h (sQ h X L) := sorry
def z_ptn (sd : Int) (L : Nat → Nat → Int) : Prop := L 37 0 = 0 ∧ L 37 1 = 1 ∧ (sd = 2 → L 37 2 = 513 ∧ L 37 3 = 515 ∧ L 37 4 = 771)
theorem c_key00 {m : z_M} : f320_0 0 0 m = z_ri 0 m := sorry
theorem c_key10 {m : z_M} : f320_0 1 0 m = z_ri 32 m := sorry
theorem c_key01 {m : z_M} : f320_0 0 1 m = z_ri 48 m := sorry
theorem c_key11 {m : z_M} : f320_0 1 1 m = z_ri 16 m := sorry
theorem c_mk0 {h g : z_M} {X L : Nat → Nat → Int} {a b c : Int} (S : S0 h) : ∃ L1 : Nat → Nat → Int, f321_0 36 a b c (sQ h X L) = z_rv (sQ h (z_up (z_up (z_up X 36 1 a) 36 2 b) 36 3 c) L1) ∧ (∀ i : Nat, (i : Int) < 64 → L1 37 i = 0) ∧ ∀ a i : Nat, ¬ (a = 37) → L1 a i = L a i := sorry
def Q_o1_s (h g : z_M) (k : Int) (x : Int) (X : Nat → Nat → Int) (L : Nat → Nat → Int) (x_ : z_Z) : Prop := ((x_ = f322_15 36 1 k (x + 1) (sQ h X L)))
set_option maxHeartbeats 4000000 in
theorem o1_s {h g : z_M} {k : Int} {x : Int} {X : Nat → Nat → Int} {L : Nat → Nat → Int} (S : S0 h) (hx : 0 < x ∧ x < 64) : Q_o1_s h g k x X L (f322_15 36 1 k x (sQ h X L)) := sorry
def Q_o1_h (h g : z_M) (X : Nat → Nat → Int) (L : Nat → Nat → Int) (x_ : z_Z) : Prop := ((x_ = f322_15 36 1 1 1 (sL (sL (sQ h X L) 37 1 (L 37 0)) 37 1 (z_lor (L 37 0) 1))))
set_option maxHeartbeats 4000000 in
theorem o1_h {h g : z_M} {X : Nat → Nat → Int} {L : Nat → Nat → Int} (S : S0 h) : Q_o1_h h g X L (f322_15 36 1 0 0 (sQ h X L)) := sorry
def Q_o2_s0 (h g : z_M) (k : Int) (x : Int) (X : Nat → Nat → Int) (L : Nat → Nat → Int) (x_ : z_Z) : Prop := ((x_ = f322_15 36 2 k (x + 1) (sQ h X L)))
set_option maxHeartbeats 4000000 in
theorem o2_s0 {h g : z_M} {k : Int} {x : Int} {X : Nat → Nat → Int} {L : Nat → Nat → Int} (S : S0 h) (hx : 0 < x ∧ x < 16) : Q_o2_s0 h g k x X L (f322_15 36 2 k x (sQ h X L)) := sorry
def Q_o2_h0 (h g : z_M) (X : Nat → Nat → Int) (L : Nat → Nat → Int) (x_ : z_Z) : Prop := ((x_ = f322_15 36 2 1 1 (sL (sL (sQ h X L) 37 1 (L 37 0)) 37 1 (z_lor (L 37 0) 1))))
set_option maxHeartbeats 4000000 in
theorem o2_h0 {h g : z_M} {X : Nat → Nat → Int} {L : Nat → Nat → Int} (S : S0 h) : Q_o2_h0 h g X L (f322_15 36 2 0 0 (sQ h X L)) := sorry
def Q_o2_s1 (h g : z_M) (k : Int) (x : Int) (X : Nat → Nat → Int) (L : Nat → Nat → Int) (x_ : z_Z) : Prop := ((x_ = f322_15 36 2 k (x + 1) (sQ h X L)))
set_option maxHeartbeats 4000000 in
theorem o2_s1 {h g : z_M} {k : Int} {x : Int} {X : Nat → Nat → Int} {L : Nat → Nat → Int} (S : S0 h) (hx : 16 < x ∧ x < 32) : Q_o2_s1 h g k x X L (f322_15 36 2 k x (sQ h X L)) := sorry
def Q_o2_h1 (h g : z_M) (X : Nat → Nat → Int) (L : Nat → Nat → Int) (x_ : z_Z) : Prop := ((x_ = f322_15 36 2 2 17 (sL (sL (sQ h X L) 37 2 (L 37 1)) 37 2 (z_lor (L 37 1) 512))))
set_option maxHeartbeats 4000000 in
theorem o2_h1 {h g : z_M} {X : Nat → Nat → Int} {L : Nat → Nat → Int} (S : S0 h) : Q_o2_h1 h g X L (f322_15 36 2 1 16 (sQ h X L)) := sorry
def Q_o2_s2 (h g : z_M) (k : Int) (x : Int) (X : Nat → Nat → Int) (L : Nat → Nat → Int) (x_ : z_Z) : Prop := ((x_ = f322_15 36 2 k (x + 1) (sQ h X L)))
set_option maxHeartbeats 4000000 in
theorem o2_s2 {h g : z_M} {k : Int} {x : Int} {X : Nat → Nat → Int} {L : Nat → Nat → Int} (S : S0 h) (hx : 32 < x ∧ x < 48) : Q_o2_s2 h g k x X L (f322_15 36 2 k x (sQ h X L)) := sorry
def Q_o2_h2 (h g : z_M) (X : Nat → Nat → Int) (L : Nat → Nat → Int) (x_ : z_Z) : Prop := ((x_ = f322_15 36 2 3 33 (sL (sL (sQ h X L) 37 3 (L 37 2)) 37 3 (z_lor (L 37 2) 2))))
set_option maxHeartbeats 4000000 in
theorem o2_h2 {h g : z_M} {X : Nat → Nat → Int} {L : Nat → Nat → Int} (S : S0 h) : Q_o2_h2 h g X L (f322_15 36 2 2 32 (sQ h X L)) := sorry
def Q_o2_s3 (h g : z_M) (k : Int) (x : Int) (X : Nat → Nat → Int) (L : Nat → Nat → Int) (x_ : z_Z) : Prop := ((x_ = f322_15 36 2 k (x + 1) (sQ h X L)))
set_option maxHeartbeats 4000000 in
theorem o2_s3 {h g : z_M} {k : Int} {x : Int} {X : Nat → Nat → Int} {L : Nat → Nat → Int} (S : S0 h) (hx : 48 < x ∧ x < 64) : Q_o2_s3 h g k x X L (f322_15 36 2 k x (sQ h X L)) := sorry
def Q_o2_h3 (h g : z_M) (X : Nat → Nat → Int) (L : Nat → Nat → Int) (x_ : z_Z) : Prop := ((x_ = f322_15 36 2 4 49 (sL (sL (sQ h X L) 37 4 (L 37 3)) 37 4 (z_lor (L 37 3) 256))))
set_option maxHeartbeats 4000000 in
theorem o2_h3 {h g : z_M} {X : Nat → Nat → Int} {L : Nat → Nat → Int} (S : S0 h) : Q_o2_h3 h g X L (f322_15 36 2 3 48 (sQ h X L)) := sorry
theorem o1_k {h : z_M} {X L : Nat → Nat → Int} {k : Int} (S : S0 h) (n : Nat) (hn : n ≤ 63) : f322_15 36 1 k 1 (sQ h X L) = f322_15 36 1 k (1 + (n : Int)) (sQ h X L) := sorry
theorem o2_k0 {h : z_M} {X L : Nat → Nat → Int} {k : Int} (S : S0 h) (n : Nat) (hn : n ≤ 15) : f322_15 36 2 k 1 (sQ h X L) = f322_15 36 2 k (1 + (n : Int)) (sQ h X L) := sorry
theorem o2_k1 {h : z_M} {X L : Nat → Nat → Int} {k : Int} (S : S0 h) (n : Nat) (hn : n ≤ 15) : f322_15 36 2 k 17 (sQ h X L) = f322_15 36 2 k (17 + (n : Int)) (sQ h X L) := sorry
theorem o2_k2 {h : z_M} {X L : Nat → Nat → Int} {k : Int} (S : S0 h) (n : Nat) (hn : n ≤ 15) : f322_15 36 2 k 33 (sQ h X L) = f322_15 36 2 k (33 + (n : Int)) (sQ h X L) := sorry
theorem o2_k3 {h : z_M} {X L : Nat → Nat → Int} {k : Int} (S : S0 h) (n : Nat) (hn : n ≤ 15) : f322_15 36 2 k 49 (sQ h X L) = f322_15 36 2 k (49 + (n : Int)) (sQ h X L) := sorry
theorem hit_q {h : z_M} {X L : Nat → Nat → Int} {k : Nat} {v w : Int} : sL (sL (sQ h X L) 37 k v) 37 k w = sQ h X (z_up (z_up L 37 k v) 37 k w) := sorry
theorem c_o1 {h : z_M} {X L : Nat → Nat → Int} (S : S0 h) : f322_15 36 1 0 0 (sQ h X L) = z_rv (sQ h X (z_up (z_up L 37 1 (L 37 0)) 37 1 (z_lor (L 37 0) 1))) := sorry
theorem c_o2 {h : z_M} {X L : Nat → Nat → Int} (S : S0 h) : ∃ L1 : Nat → Nat → Int, f322_15 36 2 0 0 (sQ h X L) = z_rv (sQ h X L1) ∧ (L 37 0 = 0 → L1 37 0 = 0 ∧ L1 37 1 = 1 ∧ L1 37 2 = 513 ∧ L1 37 3 = 515 ∧ L1 37 4 = 771) ∧ ∀ a i : Nat, ¬ (a = 37) → L1 a i = L a i := sorry
theorem c_ord {h : z_M} {X L : Nat → Nat → Int} {sd : Int} (S : S0 h) (hs : sd = 1 ∨ sd = 2) : ∃ L1 : Nat → Nat → Int, f322_0 36 sd (sQ h X L) = z_rv (sQ h (z_up (z_up (z_up X 36 1 sd) 36 2 sd) 36 3 ((sd * sd) + 1)) L1) ∧ z_ptn sd L1 ∧ ∀ a i : Nat, ¬ (a = 37) → L1 a i = L a i := sorry
def Q_c_mkb (h g : z_M) (a : Int) (b : Int) (c : Int) (X : Nat → Nat → Int) (x_ : z_Z) : Prop := (∃ (h1 : z_M), (x_ = z_rv (sZ h1 (z_up (z_up (z_up X 36 1 a) 36 2 b) 36 3 c))) ∧ (S0 h1) ∧ (z_lw z_W37 h h1))
theorem c_mkb {h g : z_M} {a : Int} {b : Int} {c : Int} {X : Nat → Nat → Int} (S : S0 h) : Q_c_mkb h g a b c X (f321_0 36 a b c (sZ h X)) := sorry
def Q_c_orb (h g : z_M) (sd : Int) (X : Nat → Nat → Int) (x_ : z_Z) : Prop := (∃ (h1 : z_M), (x_ = z_rv (sZ h1 (z_up (z_up (z_up X 36 1 sd) 36 2 sd) 36 3 ((sd * sd) + 1)))) ∧ (S0 h1) ∧ (z_lw z_W37 h h1) ∧ (z_ptn sd (hL h1)))
theorem c_orb {h g : z_M} {sd : Int} {X : Nat → Nat → Int} (S : S0 h) (hs : sd = 1 ∨ sd = 2) : Q_c_orb h g sd X (f322_0 36 sd (sZ h X)) := sorry
def Q_c_bc (h g : z_M) (a : Int) (X : Nat → Nat → Int) (x_ : z_Z) : Prop := (∃ (v : Int), (x_ = z_ri v (sZ h X)))
theorem c_bc {h g : z_M} {a : Int} {X : Nat → Nat → Int} : Q_c_bc h g a X (f31_0 a (sZ h X)) := sorry
def R_c_fg (x : Int) (X0 : Nat → Nat → Int) (X : Nat → Nat → Int) : Prop := (∀ i : Nat, (i : Int) < x → X 42 i = 0) ∧ (z_iw (fun a _ => a = 42) X0 X)
def Q_c_fg_l (h g : z_M) (X0 : Nat → Nat → Int) (x_ : z_Z) : Prop := (∃ (X1 : Nat → Nat → Int), (x_ = z_rv (sZ h X1)) ∧ (R_c_fg 256 X0 X1))
set_option maxHeartbeats 4000000 in
theorem c_fg_l {h g : z_M} {X0 : Nat → Nat → Int} (S : S0 h) : ∀ (nu : Nat) (x : Int) (X : Nat → Nat → Int), (256 - x).toNat = nu → (0 ≤ x ∧ x ≤ 256) → R_c_fg x X0 X → Q_c_fg_l h g X0 (f300_2 35 x (sZ h X)) := sorry
def Q_c_fg (h g : z_M) (X : Nat → Nat → Int) (x_ : z_Z) : Prop := (∃ (X1 : Nat → Nat → Int), (x_ = z_rv (sZ h X1)) ∧ (∀ i : Nat, ((i : Int) < 256) → X1 42 i = 0) ∧ (∀ a i : Nat, ¬ (a = 42) → X1 a i = X a i))
theorem c_fg {h g : z_M} {X : Nat → Nat → Int} (S : S0 h) : Q_c_fg h g X (f300_2 35 0 (sZ h X)) := sorry
def R_c_un (x : Int) (X0 : Nat → Nat → Int) (X : Nat → Nat → Int) : Prop := (∀ i : Nat, (i : Int) < x → X 45 i = -1) ∧ (∀ i : Nat, (i : Int) < x → X 46 i = 0) ∧ (z_iw (fun a _ => a = 45 ∨ a = 46) X0 X)
def Q_c_un_l (h g : z_M) (X0 : Nat → Nat → Int) (x_ : z_Z) : Prop := (∃ (X1 : Nat → Nat → Int), (x_ = f312_28 35 (sZ h X1)) ∧ (R_c_un 64 X0 X1))
set_option maxHeartbeats 4000000 in
theorem c_un_l {h g : z_M} {X0 : Nat → Nat → Int} (S : S0 h) : ∀ (nu : Nat) (x : Int) (X : Nat → Nat → Int), (64 - x).toNat = nu → (0 ≤ x ∧ x ≤ 64) → R_c_un x X0 X → Q_c_un_l h g X0 (f312_2 35 x (sZ h X)) := sorry
def Q_c_un (h g : z_M) (X : Nat → Nat → Int) (x_ : z_Z) : Prop := (∃ (X1 : Nat → Nat → Int), (x_ = f312_28 35 (sZ h X1)) ∧ (∀ i : Nat, ((i : Int) < 64) → X1 45 i = -1) ∧ (∀ i : Nat, ((i : Int) < 64) → X1 46 i = 0) ∧ (∀ a i : Nat, ¬ (a = 45 ∨ a = 46) → X1 a i = X a i))
theorem c_un {h g : z_M} {X : Nat → Nat → Int} (S : S0 h) : Q_c_un h g X (f312_2 35 0 (sZ h X)) := sorry
def R_c_rw (x : Int) (X0 : Nat → Nat → Int) (X : Nat → Nat → Int) : Prop := (∀ i : Nat, (i : Int) < x → X 39 i = 0) ∧ (∀ i : Nat, (i : Int) < x → X 41 i = 0) ∧ (z_iw (fun a _ => a = 39 ∨ a = 41) X0 X) ∧ (X 35 1 = 24)
def Q_c_rw_l (h g : z_M) (X0 : Nat → Nat → Int) (x_ : z_Z) : Prop := (∃ (X1 : Nat → Nat → Int), (x_ = f295_58 35 (sZ h X1)) ∧ (R_c_rw 24 X0 X1))
set_option maxHeartbeats 4000000 in
theorem c_rw_l {h g : z_M} {X0 : Nat → Nat → Int} (S : S0 h) : ∀ (nu : Nat) (x : Int) (X : Nat → Nat → Int), (24 - x).toNat = nu → (0 ≤ x ∧ x ≤ 24) → R_c_rw x X0 X → Q_c_rw_l h g X0 (f295_24 35 x (sZ h X)) := sorry
def Q_c_rw (h g : z_M) (X : Nat → Nat → Int) (x_ : z_Z) : Prop := (∃ (X1 : Nat → Nat → Int), (x_ = f295_58 35 (sZ h X1)) ∧ (∀ i : Nat, ((i : Int) < 24) → X1 39 i = 0) ∧ (∀ i : Nat, ((i : Int) < 24) → X1 41 i = 0) ∧ (∀ a i : Nat, ¬ (a = 39 ∨ a = 41) → X1 a i = X a i))
theorem c_rw {h g : z_M} {X : Nat → Nat → Int} (S : S0 h) (kh : X 35 1 = 24) : Q_c_rw h g X (f295_24 35 0 (sZ h X)) := sorry
def Q_c_cl (h g : z_M) (X : Nat → Nat → Int) (x_ : z_Z) : Prop := (∃ (h1 : z_M) (X1 : Nat → Nat → Int), (x_ = z_rv (sZ h1 X1)) ∧ (S0 h1) ∧ (z_lw z_W37 h h1) ∧ (X1 35 14 = 0 ∧ X1 35 15 = 0) ∧ (X1 35 22 = 0) ∧ (X1 35 0 = 24 ∧ X1 35 1 = 24) ∧ (∀ a i : Nat, ¬ (a = 35 ∨ a = 36 ∨ a = 39 ∨ a = 41 ∨ a = 42 ∨ a = 44 ∨ a = 45 ∨ a = 46) → X1 a i = X a i))
set_option maxHeartbeats 4000000 in
theorem c_cl {h g : z_M} {X : Nat → Nat → Int} (S : S0 h) (k7 : X 35 0 = 24 ∧ X 35 1 = 24) : Q_c_cl h g X (f295_0 35 (sZ h X)) := sorry
def Q_c_gc (h g : z_M) (w : Int) (q : Int) (wq : Int) (X : Nat → Nat → Int) (x_ : z_Z) : Prop := (∃ (v : Int), (x_ = f303_155 v (sZ h X)))
set_option maxHeartbeats 4000000 in
theorem c_gc {h g : z_M} {w : Int} {q : Int} {wq : Int} {X : Nat → Nat → Int} (S : S0 h) (hwq : w * q = wq) (hw : 1 ≤ w ∧ w ≤ 12) (hb : 1 ≤ wq ∧ wq ≤ 144) : ∀ (nu : Nat) (x : Int) (y : Int), (wq - x).toNat = nu → (0 ≤ x ∧ x ≤ wq) → Q_c_gc h g w q wq X (f303_116 35 w q y x (sZ h X)) := sorry
def Q_c_gof (h g : z_M) (w : Int) (q : Int) (wq : Int) (sd : Int) (X : Nat → Nat → Int) (x_ : z_Z) : Prop := (∃ (h1 : z_M) (X1 : Nat → Nat → Int), (x_ = z_rv (sZ h1 X1)) ∧ (S0 h1) ∧ (z_lw z_W37 h h1) ∧ (z_ptn sd (hL h1)) ∧ (∀ a i : Nat, ¬ (a = 35 ∨ a = 36 ∨ a = 39 ∨ a = 41 ∨ a = 42 ∨ a = 44 ∨ a = 45 ∨ a = 46) → X1 a i = X a i) ∧ (R_g0 w q sd X X1))
set_option maxHeartbeats 4000000 in
theorem c_gof {h g : z_M} {w : Int} {q : Int} {wq : Int} {sd : Int} {X : Nat → Nat → Int} (S : S0 h) (hwq : w * q = wq) (hw : 1 ≤ w ∧ w ≤ 12) (hq : 1 ≤ q ∧ q ≤ 12) (hb : 1 ≤ wq ∧ wq ≤ 144) (hs : sd = 1 ∨ sd = 2) (hs2 : 1 ≤ sd ∧ sd ≤ 2) (k7 : X 35 0 = 24 ∧ X 35 1 = 24) : Q_c_gof h g w q wq sd X (f135_0 1 sd w q (sZ h X)) := sorry
