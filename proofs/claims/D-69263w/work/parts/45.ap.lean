set_option maxRecDepth 100000
set_option linter.unusedVariables false
set_option maxHeartbeats 200000
/-! THE CALL apart -/
def Q_c_ap_s (h g : z_M) (r5 : Nat) (r6 : Nat) (r10 : Nat) (r11 : Nat) (q : Int) (x : Int) (c : Int) (X : Nat → Nat → Int) (x_ : z_Z) : Prop := (∃ (v : Int), (x_ = f113_66 r5 r10 v (x + 1) (sZ h X)) ∧ (v = c + z_xb (X r6 (Int.toNat x)) (X r11 (Int.toNat x))) ∧ (0 ≤ v - c ∧ v - c ≤ 24))
set_option maxHeartbeats 4000000 in
theorem c_ap_s {h g : z_M} {r5 : Nat} {r6 : Nat} {r10 : Nat} {r11 : Nat} {q : Int} {x : Int} {c : Int} {X : Nat → Nat → Int} (kr5 : hK h r5 = 28) (kr6 : hK h r6 = 1000 ∧ hN h r6 = 24) (pr5 : hP h r5 2 = r6) (kr10 : hK h r10 = 28) (kr11 : hK h r11 = 1000 ∧ hN h r11 = 24) (pr10 : hP h r10 2 = r11) (hn_ : 0 ≤ q ∧ q ≤ 24) (hx : 0 ≤ x ∧ x < q) (hc : 0 ≤ c ∧ c ≤ 24 * x) (x1 : X r5 1 = q) (ba : 0 ≤ X r6 (Int.toNat x) ∧ X r6 (Int.toNat x) < 16777216) (bb : 0 ≤ X r11 (Int.toNat x) ∧ X r11 (Int.toNat x) < 16777216) : Q_c_ap_s h g r5 r6 r10 r11 q x c X (f113_66 r5 r10 c x (sZ h X)) := sorry
def Q_c_ap_e (h g : z_M) (r5 : Nat) (r6 : Nat) (r10 : Nat) (r11 : Nat) (q : Int) (c : Int) (X : Nat → Nat → Int) (x_ : z_Z) : Prop := ((x_ = z_ri c (sZ h X)))
set_option maxHeartbeats 4000000 in
theorem c_ap_e {h g : z_M} {r5 : Nat} {r6 : Nat} {r10 : Nat} {r11 : Nat} {q : Int} {c : Int} {X : Nat → Nat → Int} (kr5 : hK h r5 = 28) (kr6 : hK h r6 = 1000 ∧ hN h r6 = 24) (pr5 : hP h r5 2 = r6) (kr10 : hK h r10 = 28) (kr11 : hK h r11 = 1000 ∧ hN h r11 = 24) (pr10 : hP h r10 2 = r11) (hn_ : 0 ≤ q ∧ q ≤ 24) (x1 : X r5 1 = q) : Q_c_ap_e h g r5 r6 r10 r11 q c X (f113_66 r5 r10 c q (sZ h X)) := sorry
def Q_c_ap (h g : z_M) (r5 : Nat) (r6 : Nat) (r10 : Nat) (r11 : Nat) (q : Int) (X : Nat → Nat → Int) (x_ : z_Z) : Prop := (∃ (v : Int), (x_ = z_ri v (sZ h X)) ∧ (v = (z_sm (fun i => z_xb (X r6 i) (X r11 i)) (Int.toNat q))) ∧ (0 ≤ v ∧ v ≤ 24 * q))
theorem c_ap {h g : z_M} {r5 : Nat} {r6 : Nat} {r10 : Nat} {r11 : Nat} {q : Int} {X : Nat → Nat → Int} (kr5 : hK h r5 = 28) (kr6 : hK h r6 = 1000 ∧ hN h r6 = 24) (pr5 : hP h r5 2 = r6) (kr10 : hK h r10 = 28) (kr11 : hK h r11 = 1000 ∧ hN h r11 = 24) (pr10 : hP h r10 2 = r11) (hn_ : 0 ≤ q ∧ q ≤ 24) (x1 : X r5 1 = q) (ba : ∀ i : Nat, (i : Int) < q → 0 ≤ X r6 i ∧ X r6 i < 16777216) (bb : ∀ i : Nat, (i : Int) < q → 0 ≤ X r11 i ∧ X r11 i < 16777216) : Q_c_ap h g r5 r6 r10 r11 q X (f113_66 r5 r10 0 0 (sZ h X)) := sorry
def Q_t_ap_s (h g : z_M) (s : Int) (t : Int) (x : Int) (c : Int) (Y : Nat → Nat → Int) (y_ : z_Z) : Prop := (∃ (v : Int), (y_ = f690_97 s t v (x + 1) (sZ g Y)) ∧ (v = c + (if Y 1071 (Int.toNat (576 * s) + (Int.toNat x)) = Y 1071 (Int.toNat (576 * t) + (Int.toNat x)) then (0 : Int) else 1)) ∧ (0 ≤ v - c ∧ v - c ≤ 1))
set_option maxHeartbeats 4000000 in
theorem t_ap_s {h g : z_M} {s : Int} {t : Int} {x : Int} {c : Int} {Y : Nat → Nat → Int} (hx : 0 ≤ x ∧ x < 576) (hc : 0 ≤ c ∧ c ≤ 1 * x) (hs : 0 ≤ s ∧ s ≤ 3) (ht : 0 ≤ t ∧ t ≤ 3) : Q_t_ap_s h g s t x c Y (f690_97 s t c x (sZ g Y)) := sorry
def Q_t_ap_e (h g : z_M) (s : Int) (t : Int) (c : Int) (Y : Nat → Nat → Int) (y_ : z_Z) : Prop := ((y_ = z_ri c (sZ g Y)))
set_option maxHeartbeats 4000000 in
theorem t_ap_e {h g : z_M} {s : Int} {t : Int} {c : Int} {Y : Nat → Nat → Int} (hs : 0 ≤ s ∧ s ≤ 3) (ht : 0 ≤ t ∧ t ≤ 3) : Q_t_ap_e h g s t c Y (f690_97 s t c 576 (sZ g Y)) := sorry
def Q_t_ap (h g : z_M) (s : Int) (t : Int) (Y : Nat → Nat → Int) (y_ : z_Z) : Prop := (∃ (v : Int), (y_ = z_ri v (sZ g Y)) ∧ (v = (z_sm (fun i => (if Y 1071 (Int.toNat (576 * s) + i) = Y 1071 (Int.toNat (576 * t) + i) then (0 : Int) else 1)) (Int.toNat 576))) ∧ (0 ≤ v ∧ v ≤ 1 * 576))
theorem t_ap {h g : z_M} {s : Int} {t : Int} {Y : Nat → Nat → Int} (hs : 0 ≤ s ∧ s ≤ 3) (ht : 0 ≤ t ∧ t ≤ 3) : Q_t_ap h g s t Y (f690_97 s t 0 0 (sZ g Y)) := sorry
theorem ap_eq {A B : Nat → Int} {C : Nat → Int} {s t w q : Int} (hs : 0 ≤ s) (ht : 0 ≤ t) (hq : 0 ≤ q ∧ q ≤ 24)
    (ya : ∀ y, y < 24 → (0 ≤ A y ∧ A y < 16777216) ∧ ∀ x, x < 24 → A y / 2 ^ x % 2 = C (576 * Int.toNat s + 24 * y + x)) (yb : ∀ y, y < 24 → (0 ≤ B y ∧ B y < 16777216) ∧ ∀ x, x < 24 → B y / 2 ^ x % 2 = C (576 * Int.toNat t + 24 * y + x))
    (za : ∀ y x : Nat, y < 24 → x < 24 → (w ≤ (x : Int) ∨ q ≤ (y : Int)) → C (576 * Int.toNat s + 24 * y + x) = 0) (zb : ∀ y x : Nat, y < 24 → x < 24 → (w ≤ (x : Int) ∨ q ≤ (y : Int)) → C (576 * Int.toNat t + 24 * y + x) = 0) :
    z_sm (fun i => z_xb (A i) (B i)) (Int.toNat q) = z_sm (fun i => if C (Int.toNat (576 * s) + i) = C (Int.toNat (576 * t) + i) then (0 : Int) else 1) 576 := sorry
def Q_k_apart (h g : z_M) (s : Int) (t : Int) (X : Nat → Nat → Int) (Y : Nat → Nat → Int) (x_ y_ : z_Z) : Prop := (∃ (v : Int), (x_ = z_ri 0 (sL (sZ h X) 1272 0 v)) ∧ (y_ = z_ri v (sI (sZ g Y) 1064 0 0))) ∨ (∃ (c : Int) (K : Nat), (x_ = z_ri c (sN (sZ h X) K 6)) ∧ (y_ = z_ri 0 (sI (sZ g Y) 1064 0 c)) ∧ (1 ≤ c))
set_option maxHeartbeats 4000000 in
theorem k_apart {h g : z_M} {s : Int} {t : Int} {X : Nat → Nat → Int} {Y : Nat → Nat → Int} (S : S0 h) (ou : hK h 1272 = 1003 ∧ hN h 1272 = 1) (hz : 1272 ≤ hZ h) (Rs : R_sh (sZ h X) (sZ g Y)) (Rsd : R_sdm (sZ g Y)) : Q_k_apart h g s t X Y (f58_0 1 s t 1272 (sZ h X)) (f690_0 s t (sZ g Y)) := sorry
