set_option maxRecDepth 100000
set_option linter.unusedVariables false
set_option maxHeartbeats 200000
/-! THE CALL apart -/
def Q_c_ap_s (h g : z_M) (r5 : Nat) (r6 : Nat) (r10 : Nat) (r11 : Nat) (q : Int) (x : Int) (c : Int) (X : Nat → Nat → Int) (x_ : z_Z) : Prop := (∃ (v : Int), (x_ = f113_66 r5 r10 v (x + 1) (sZ h X)) ∧ (v = c + z_xb (X r6 (Int.toNat x)) (X r11 (Int.toNat x))) ∧ (0 ≤ v - c ∧ v - c ≤ 24))
set_option maxHeartbeats 4000000 in
theorem c_ap_s {h g : z_M} {r5 : Nat} {r6 : Nat} {r10 : Nat} {r11 : Nat} {q : Int} {x : Int} {c : Int} {X : Nat → Nat → Int} (kr5 : hK h r5 = 28) (kr6 : hK h r6 = 1000 ∧ hN h r6 = 24) (pr5 : hP h r5 2 = r6) (kr10 : hK h r10 = 28) (kr11 : hK h r11 = 1000 ∧ hN h r11 = 24) (pr10 : hP h r10 2 = r11) (hn_ : 0 ≤ q ∧ q ≤ 24) (hx : 0 ≤ x ∧ x < q) (hc : 0 ≤ c ∧ c ≤ 24 * x) (x1 : X r5 1 = q) (ba : 0 ≤ X r6 (Int.toNat x) ∧ X r6 (Int.toNat x) < 16777216) (bb : 0 ≤ X r11 (Int.toNat x) ∧ X r11 (Int.toNat x) < 16777216) : Q_c_ap_s h g r5 r6 r10 r11 q x c X (f113_66 r5 r10 c x (sZ h X)) := by
  rw [e113_66, gk1 (by exact kr5), show hI (sZ h X) r5 1 = X r5 1 from rfl, show X r5 1 = q from x1, z_if_f (by omega), gk1 (by exact kr5), show hP (sZ h X) r5 2 = r6 from pr5, gia_n (n := 24) (by exact kr6.1) (by exact kr6.2) (by omega) (by omega), gk1 (by exact kr10), show hP (sZ h X) r10 2 = r11 from pr10, gia_n (n := 24) (by exact kr11.1) (by exact kr11.2) (by omega) (by omega), show hI (sZ h X) r6 (Int.toNat x) = X r6 (Int.toNat x) from rfl, show hI (sZ h X) r11 (Int.toNat x) = X r11 (Int.toNat x) from rfl]
  have b1 := xb_b (a := X r6 (Int.toNat x)) (b := X r11 (Int.toNat x))
  rw [xb_e (by omega) (by omega), z_ki_ri, show z_w (c + (z_xb (X r6 (Int.toNat x)) (X r11 (Int.toNat x)))) = c + (z_xb (X r6 (Int.toNat x)) (X r11 (Int.toNat x))) from w_id (by omega) (by omega), show z_w (x + 1) = x + 1 from w_id (by omega) (by omega)]
  exact ⟨(c + (z_xb (X r6 (Int.toNat x)) (X r11 (Int.toNat x)))), rfl, (by first | rfl | omega), (by omega)⟩
def Q_c_ap_e (h g : z_M) (r5 : Nat) (r6 : Nat) (r10 : Nat) (r11 : Nat) (q : Int) (c : Int) (X : Nat → Nat → Int) (x_ : z_Z) : Prop := ((x_ = z_ri c (sZ h X)))
set_option maxHeartbeats 4000000 in
theorem c_ap_e {h g : z_M} {r5 : Nat} {r6 : Nat} {r10 : Nat} {r11 : Nat} {q : Int} {c : Int} {X : Nat → Nat → Int} (kr5 : hK h r5 = 28) (kr6 : hK h r6 = 1000 ∧ hN h r6 = 24) (pr5 : hP h r5 2 = r6) (kr10 : hK h r10 = 28) (kr11 : hK h r11 = 1000 ∧ hN h r11 = 24) (pr10 : hP h r10 2 = r11) (hn_ : 0 ≤ q ∧ q ≤ 24) (x1 : X r5 1 = q) : Q_c_ap_e h g r5 r6 r10 r11 q c X (f113_66 r5 r10 c q (sZ h X)) := by
  rw [e113_66, gk1 (by exact kr5), show hI (sZ h X) r5 1 = X r5 1 from rfl, show X r5 1 = q from x1, z_if_t (by omega), e113_105]
  exact rfl
def Q_c_ap (h g : z_M) (r5 : Nat) (r6 : Nat) (r10 : Nat) (r11 : Nat) (q : Int) (X : Nat → Nat → Int) (x_ : z_Z) : Prop := (∃ (v : Int), (x_ = z_ri v (sZ h X)) ∧ (v = (z_sm (fun i => z_xb (X r6 i) (X r11 i)) (Int.toNat q))) ∧ (0 ≤ v ∧ v ≤ 24 * q))
theorem c_ap {h g : z_M} {r5 : Nat} {r6 : Nat} {r10 : Nat} {r11 : Nat} {q : Int} {X : Nat → Nat → Int} (kr5 : hK h r5 = 28) (kr6 : hK h r6 = 1000 ∧ hN h r6 = 24) (pr5 : hP h r5 2 = r6) (kr10 : hK h r10 = 28) (kr11 : hK h r11 = 1000 ∧ hN h r11 = 24) (pr10 : hP h r10 2 = r11) (hn_ : 0 ≤ q ∧ q ≤ 24) (x1 : X r5 1 = q) (ba : ∀ i : Nat, (i : Int) < q → 0 ≤ X r6 i ∧ X r6 i < 16777216) (bb : ∀ i : Nat, (i : Int) < q → 0 ≤ X r11 i ∧ X r11 i < 16777216) : Q_c_ap h g r5 r6 r10 r11 q X (f113_66 r5 r10 0 0 (sZ h X)) := by
  obtain ⟨N, hN_⟩ : ∃ N : Nat, (N : Int) = q := ⟨Int.toNat q, by omega⟩
  have hNN : Int.toNat q = N := by omega
  have stp : ∀ (c : Int) (i : Nat), i < N → 0 ≤ c ∧ c ≤ 24 * (i : Int) → (f113_66 r5 r10 c (i : Int) (sZ h X)) = (f113_66 r5 r10 (c + (fun i => z_xb (X r6 i) (X r11 i)) i) ((i + 1 : Nat) : Int) (sZ h X)) ∧ 0 ≤ (fun i => z_xb (X r6 i) (X r11 i)) i ∧ (fun i => z_xb (X r6 i) (X r11 i)) i ≤ 24 := fun c i hi hc => by
    obtain ⟨v, e_, u, w_⟩ := c_ap_s (h := h) (g := g) (r5 := r5) (r6 := r6) (r10 := r10) (r11 := r11) (q := q) (X := X) (x := (i : Int)) (c := c) kr5 kr6 pr5 kr10 kr11 pr10 hn_ (by omega) hc  x1 (by have q_ := ba i (by omega); (try simp only [Int.toNat_natCast]); exact q_) (by have q_ := bb i (by omega); (try simp only [Int.toNat_natCast]); exact q_)
    (try simp only [Int.toNat_natCast] at u)
    subst u
    exact ⟨e_, (show 0 ≤ z_xb (X r6 i) (X r11 i) ∧ z_xb (X r6 i) (X r11 i) ≤ 24 by omega)⟩
  obtain ⟨e, b⟩ := acc_sum (F := fun cc_ xx_ => f113_66 r5 r10 cc_ xx_ (sZ h X)) (v := fun i => z_xb (X r6 i) (X r11 i)) (n := N) (m := 24) stp
  have x_ : f113_66 r5 r10 (z_sm (fun i => z_xb (X r6 i) (X r11 i)) N) q (sZ h X) = z_ri (z_sm (fun i => z_xb (X r6 i) (X r11 i)) N) (sZ h X) := c_ap_e (h := h) (g := g) (r5 := r5) (r6 := r6) (r10 := r10) (r11 := r11) (q := q) (X := X) (c := z_sm (fun i => z_xb (X r6 i) (X r11 i)) N) kr5 kr6 pr5 kr10 kr11 pr10 hn_  x1
  rw [hN_] at e
  exact ⟨z_sm (fun i => z_xb (X r6 i) (X r11 i)) N, e.trans x_, by rw [hNN], by omega⟩
def Q_t_ap_s (h g : z_M) (s : Int) (t : Int) (x : Int) (c : Int) (Y : Nat → Nat → Int) (y_ : z_Z) : Prop := (∃ (v : Int), (y_ = f690_97 s t v (x + 1) (sZ g Y)) ∧ (v = c + (if Y 1071 (Int.toNat (576 * s) + (Int.toNat x)) = Y 1071 (Int.toNat (576 * t) + (Int.toNat x)) then (0 : Int) else 1)) ∧ (0 ≤ v - c ∧ v - c ≤ 1))
set_option maxHeartbeats 4000000 in
theorem t_ap_s {h g : z_M} {s : Int} {t : Int} {x : Int} {c : Int} {Y : Nat → Nat → Int} (hx : 0 ≤ x ∧ x < 576) (hc : 0 ≤ c ∧ c ≤ 1 * x) (hs : 0 ≤ s ∧ s ≤ 3) (ht : 0 ≤ t ∧ t ≤ 3) : Q_t_ap_s h g s t x c Y (f690_97 s t c x (sZ g Y)) := by
  rw [e690_97, z_if_f (by omega), show z_w (576 * s) = 576 * s from w_id (by omega) (by omega), show z_w ((576 * s) + x) = (576 * s) + x from w_id (by omega) (by omega), gin (by omega) (by omega), show z_w (576 * t) = 576 * t from w_id (by omega) (by omega), show z_w ((576 * t) + x) = (576 * t) + x from w_id (by omega) (by omega), gin (by omega) (by omega), show hI (sZ g Y) 1071 (Int.toNat ((576 * s) + x)) = Y 1071 (Int.toNat ((576 * s) + x)) from rfl, show hI (sZ g Y) 1071 (Int.toNat ((576 * t) + x)) = Y 1071 (Int.toNat ((576 * t) + x)) from rfl]
  by_cases q1 : ¬ ((Y 1071 (Int.toNat ((576 * s) + x))) = (Y 1071 (Int.toNat ((576 * t) + x))))
  · rw [z_if_t q1, e690_140, e690_141, show z_w (c + 1) = c + 1 from w_id (by omega) (by omega), show z_w (x + 1) = x + 1 from w_id (by omega) (by omega)]
    exact ⟨(c + 1), rfl, (by have e1_ : Int.toNat (576 * s) + Int.toNat x = Int.toNat ((576 * s) + x) := (by omega); have e2_ : Int.toNat (576 * t) + Int.toNat x = Int.toNat ((576 * t) + x) := (by omega); rw [e1_, e2_]; first | (rw [if_pos (by omega)] <;> omega) | (rw [if_neg (by omega)] <;> omega)), (by omega)⟩
  · rw [z_if_f q1, e690_141, show z_w (c + 0) = c + 0 from w_id (by omega) (by omega), show z_w (x + 1) = x + 1 from w_id (by omega) (by omega)]
    exact ⟨(c + 0), rfl, (by have e1_ : Int.toNat (576 * s) + Int.toNat x = Int.toNat ((576 * s) + x) := (by omega); have e2_ : Int.toNat (576 * t) + Int.toNat x = Int.toNat ((576 * t) + x) := (by omega); rw [e1_, e2_]; first | (rw [if_pos (by omega)] <;> omega) | (rw [if_neg (by omega)] <;> omega)), (by omega)⟩
def Q_t_ap_e (h g : z_M) (s : Int) (t : Int) (c : Int) (Y : Nat → Nat → Int) (y_ : z_Z) : Prop := ((y_ = z_ri c (sZ g Y)))
set_option maxHeartbeats 4000000 in
theorem t_ap_e {h g : z_M} {s : Int} {t : Int} {c : Int} {Y : Nat → Nat → Int} (hs : 0 ≤ s ∧ s ≤ 3) (ht : 0 ≤ t ∧ t ≤ 3) : Q_t_ap_e h g s t c Y (f690_97 s t c 576 (sZ g Y)) := by
  rw [e690_97, z_if_t (by decide), e690_150]
  exact rfl
def Q_t_ap (h g : z_M) (s : Int) (t : Int) (Y : Nat → Nat → Int) (y_ : z_Z) : Prop := (∃ (v : Int), (y_ = z_ri v (sZ g Y)) ∧ (v = (z_sm (fun i => (if Y 1071 (Int.toNat (576 * s) + i) = Y 1071 (Int.toNat (576 * t) + i) then (0 : Int) else 1)) (Int.toNat 576))) ∧ (0 ≤ v ∧ v ≤ 1 * 576))
theorem t_ap {h g : z_M} {s : Int} {t : Int} {Y : Nat → Nat → Int} (hs : 0 ≤ s ∧ s ≤ 3) (ht : 0 ≤ t ∧ t ≤ 3) : Q_t_ap h g s t Y (f690_97 s t 0 0 (sZ g Y)) := by
  obtain ⟨N, hN_⟩ : ∃ N : Nat, (N : Int) = 576 := ⟨Int.toNat 576, by omega⟩
  have hNN : Int.toNat 576 = N := by omega
  have stp : ∀ (c : Int) (i : Nat), i < N → 0 ≤ c ∧ c ≤ 1 * (i : Int) → (f690_97 s t c (i : Int) (sZ g Y)) = (f690_97 s t (c + (fun i => (if Y 1071 (Int.toNat (576 * s) + i) = Y 1071 (Int.toNat (576 * t) + i) then (0 : Int) else 1)) i) ((i + 1 : Nat) : Int) (sZ g Y)) ∧ 0 ≤ (fun i => (if Y 1071 (Int.toNat (576 * s) + i) = Y 1071 (Int.toNat (576 * t) + i) then (0 : Int) else 1)) i ∧ (fun i => (if Y 1071 (Int.toNat (576 * s) + i) = Y 1071 (Int.toNat (576 * t) + i) then (0 : Int) else 1)) i ≤ 1 := fun c i hi hc => by
    obtain ⟨v, e_, u, w_⟩ := t_ap_s (h := h) (g := g) (s := s) (t := t) (Y := Y) (x := (i : Int)) (c := c)   (by omega) hc hs ht  
    (try simp only [Int.toNat_natCast] at u)
    subst u
    exact ⟨e_, (show 0 ≤ (if Y 1071 (Int.toNat (576 * s) + i) = Y 1071 (Int.toNat (576 * t) + i) then (0 : Int) else 1) ∧ (if Y 1071 (Int.toNat (576 * s) + i) = Y 1071 (Int.toNat (576 * t) + i) then (0 : Int) else 1) ≤ 1 by omega)⟩
  obtain ⟨e, b⟩ := acc_sum (F := fun cc_ xx_ => f690_97 s t cc_ xx_ (sZ g Y)) (v := fun i => (if Y 1071 (Int.toNat (576 * s) + i) = Y 1071 (Int.toNat (576 * t) + i) then (0 : Int) else 1)) (n := N) (m := 1) stp
  have x_ : f690_97 s t (z_sm (fun i => (if Y 1071 (Int.toNat (576 * s) + i) = Y 1071 (Int.toNat (576 * t) + i) then (0 : Int) else 1)) N) 576 (sZ g Y) = z_ri (z_sm (fun i => (if Y 1071 (Int.toNat (576 * s) + i) = Y 1071 (Int.toNat (576 * t) + i) then (0 : Int) else 1)) N) (sZ g Y) := t_ap_e (h := h) (g := g) (s := s) (t := t) (Y := Y) (c := z_sm (fun i => (if Y 1071 (Int.toNat (576 * s) + i) = Y 1071 (Int.toNat (576 * t) + i) then (0 : Int) else 1)) N)   hs ht 
  rw [hN_] at e
  exact ⟨z_sm (fun i => (if Y 1071 (Int.toNat (576 * s) + i) = Y 1071 (Int.toNat (576 * t) + i) then (0 : Int) else 1)) N, e.trans x_, by rw [hNN], by omega⟩
theorem ap_eq {A B : Nat → Int} {C : Nat → Int} {s t w q : Int} (hs : 0 ≤ s) (ht : 0 ≤ t) (hq : 0 ≤ q ∧ q ≤ 24)
    (ya : ∀ y, y < 24 → (0 ≤ A y ∧ A y < 16777216) ∧ ∀ x, x < 24 → A y / 2 ^ x % 2 = C (576 * Int.toNat s + 24 * y + x)) (yb : ∀ y, y < 24 → (0 ≤ B y ∧ B y < 16777216) ∧ ∀ x, x < 24 → B y / 2 ^ x % 2 = C (576 * Int.toNat t + 24 * y + x))
    (za : ∀ y x : Nat, y < 24 → x < 24 → (w ≤ (x : Int) ∨ q ≤ (y : Int)) → C (576 * Int.toNat s + 24 * y + x) = 0) (zb : ∀ y x : Nat, y < 24 → x < 24 → (w ≤ (x : Int) ∨ q ≤ (y : Int)) → C (576 * Int.toNat t + 24 * y + x) = 0) :
    z_sm (fun i => z_xb (A i) (B i)) (Int.toNat q) = z_sm (fun i => if C (Int.toNat (576 * s) + i) = C (Int.toNat (576 * t) + i) then (0 : Int) else 1) 576 := by
  rw [show (576 : Nat) = 24 * 24 from rfl, sm_rw]
  have e : ∀ y, y < 24 → z_xb (A y) (B y) = z_sm (fun x => if C (Int.toNat (576 * s) + (24 * y + x)) = C (Int.toNat (576 * t) + (24 * y + x)) then (0 : Int) else 1) 24 := fun y hy => by
    unfold z_xb
    refine sm_cg fun x hx => ?_
    rw [(ya y hy).2 x hx, (yb y hy).2 x hx, show 576 * Int.toNat s + 24 * y + x = Int.toNat (576 * s) + (24 * y + x) by omega, show 576 * Int.toNat t + 24 * y + x = Int.toNat (576 * t) + (24 * y + x) by omega]
  rw [sm_cg (n := Int.toNat q) (fun y hy => e y (by omega))]
  obtain ⟨n, hn⟩ : ∃ n : Nat, Int.toNat q + n = 24 := ⟨24 - Int.toNat q, by omega⟩
  have z := sm_z (f := fun y => z_sm (fun x => if C (Int.toNat (576 * s) + (24 * y + x)) = C (Int.toNat (576 * t) + (24 * y + x)) then (0 : Int) else 1) 24) (n := Int.toNat q) (m := n) (fun y a b => by
    show z_sm _ 24 = 0
    rw [sm_cg (g := fun _ => 0) (fun x hx => by
      have u := za y x (by omega) hx (.inr (by omega))
      have v := zb y x (by omega) hx (.inr (by omega))
      rw [show 576 * Int.toNat s + 24 * y + x = Int.toNat (576 * s) + (24 * y + x) by omega] at u
      rw [show 576 * Int.toNat t + 24 * y + x = Int.toNat (576 * t) + (24 * y + x) by omega] at v
      rw [u, v, if_pos rfl])]
    rfl)
  rw [hn] at z
  exact z.symm
def Q_k_apart (h g : z_M) (s : Int) (t : Int) (X : Nat → Nat → Int) (Y : Nat → Nat → Int) (x_ y_ : z_Z) : Prop := (∃ (v : Int), (x_ = z_ri 0 (sL (sZ h X) 1272 0 v)) ∧ (y_ = z_ri v (sI (sZ g Y) 1064 0 0))) ∨ (∃ (c : Int) (K : Nat), (x_ = z_ri c (sN (sZ h X) K 6)) ∧ (y_ = z_ri 0 (sI (sZ g Y) 1064 0 c)) ∧ (1 ≤ c))
set_option maxHeartbeats 4000000 in
theorem k_apart {h g : z_M} {s : Int} {t : Int} {X : Nat → Nat → Int} {Y : Nat → Nat → Int} (S : S0 h) (ou : hK h 1272 = 1003 ∧ hN h 1272 = 1) (hz : 1272 ≤ hZ h) (Rs : R_sh (sZ h X) (sZ g Y)) (Rsd : R_sdm (sZ g Y)) : Q_k_apart h g s t X Y (f58_0 1 s t 1272 (sZ h X)) (f690_0 s t (sZ g Y)) := by
  obtain ⟨r5, er5⟩ : ∃ r : Nat, r = 127 + 2 * Int.toNat s := ⟨_, rfl⟩
  obtain ⟨r6, er6⟩ : ∃ r : Nat, r = 128 + 2 * Int.toNat s := ⟨_, rfl⟩
  obtain ⟨r10, er10⟩ : ∃ r : Nat, r = 127 + 2 * Int.toNat t := ⟨_, rfl⟩
  obtain ⟨r11, er11⟩ : ∃ r : Nat, r = 128 + 2 * Int.toNat t := ⟨_, rfl⟩
  rw [e58_0, gk1 (by exact (sk S 1)), e113_0, gk1 (by exact (sk S 1)), show f167_0 1 s (sZ h X) = z_if (0 ≤ s ∧ s ≤ 3) (z_rr r5 (sZ h X)) (z_ex (hZ (sZ h X) + 1) (sN (sZ h X) 2 6)) from c_shct S er5]
  by_cases q1 : (0 ≤ s) ∧ (s ≤ 3)
  · obtain ⟨kr5, kr6, pr5⟩ := s_she S er5 er6 (show 0 ≤ s ∧ s ≤ 3 by omega)
    have hrr5 : 127 ≤ r5 ∧ r6 ≤ 134 ∧ r6 = r5 + 1 := by omega
    obtain ⟨⟨y0r5, y1r5⟩, ybr5, yor5, ycr5⟩ : (X r5 0 = Y 1069 (Int.toNat s) ∧ X r5 1 = Y 1070 (Int.toNat s)) ∧ (0 ≤ Y 1069 (Int.toNat s) ∧ Y 1069 (Int.toNat s) ≤ 24 ∧ 0 ≤ Y 1070 (Int.toNat s) ∧ Y 1070 (Int.toNat s) ≤ 24) ∧ (∀ y x : Nat, y < 24 → x < 24 → (Y 1069 (Int.toNat s) ≤ (x : Int) ∨ Y 1070 (Int.toNat s) ≤ (y : Int)) → Y 1071 (576 * Int.toNat s + 24 * y + x) = 0) ∧ (0 < Y 1069 (Int.toNat s) → ∀ y, y < 24 → (0 ≤ X r6 y ∧ X r6 y < 16777216) ∧ ∀ x, x < 24 → X r6 y / 2 ^ x % 2 = Y 1071 (576 * Int.toNat s + 24 * y + x)) := by rw [er5, er6]; exact Rs (Int.toNat s) (by omega)
    obtain ⟨wr5, hwr5⟩ : ∃ w, Y 1069 (Int.toNat s) = w := ⟨_, rfl⟩
    obtain ⟨qr5, hqr5⟩ : ∃ w, Y 1070 (Int.toNat s) = w := ⟨_, rfl⟩
    rw [hwr5, hqr5] at ybr5
    rw [hwr5] at y0r5
    rw [hqr5] at y1r5
    rw [z_if_t q1, z_kr_rr, gk1 (by exact (sk S 1)), show f167_0 1 t (sZ h X) = z_if (0 ≤ t ∧ t ≤ 3) (z_rr r10 (sZ h X)) (z_ex (hZ (sZ h X) + 1) (sN (sZ h X) 2 6)) from c_shct S er10]
    by_cases q2 : (0 ≤ t) ∧ (t ≤ 3)
    · obtain ⟨kr10, kr11, pr10⟩ := s_she S er10 er11 (show 0 ≤ t ∧ t ≤ 3 by omega)
      have hrr10 : 127 ≤ r10 ∧ r11 ≤ 134 ∧ r11 = r10 + 1 := by omega
      obtain ⟨⟨y0r10, y1r10⟩, ybr10, yor10, ycr10⟩ : (X r10 0 = Y 1069 (Int.toNat t) ∧ X r10 1 = Y 1070 (Int.toNat t)) ∧ (0 ≤ Y 1069 (Int.toNat t) ∧ Y 1069 (Int.toNat t) ≤ 24 ∧ 0 ≤ Y 1070 (Int.toNat t) ∧ Y 1070 (Int.toNat t) ≤ 24) ∧ (∀ y x : Nat, y < 24 → x < 24 → (Y 1069 (Int.toNat t) ≤ (x : Int) ∨ Y 1070 (Int.toNat t) ≤ (y : Int)) → Y 1071 (576 * Int.toNat t + 24 * y + x) = 0) ∧ (0 < Y 1069 (Int.toNat t) → ∀ y, y < 24 → (0 ≤ X r11 y ∧ X r11 y < 16777216) ∧ ∀ x, x < 24 → X r11 y / 2 ^ x % 2 = Y 1071 (576 * Int.toNat t + 24 * y + x)) := by rw [er10, er11]; exact Rs (Int.toNat t) (by omega)
      obtain ⟨wr10, hwr10⟩ : ∃ w, Y 1069 (Int.toNat t) = w := ⟨_, rfl⟩
      obtain ⟨qr10, hqr10⟩ : ∃ w, Y 1070 (Int.toNat t) = w := ⟨_, rfl⟩
      rw [hwr10, hqr10] at ybr10
      rw [hwr10] at y0r10
      rw [hqr10] at y1r10
      rw [z_if_t q2, z_kr_rr, gk1 (by exact kr5), e433_0, gk1 (by exact kr5), show hI (sZ h X) r5 0 = X r5 0 from rfl, show X r5 0 = wr5 from y0r5]
      by_cases q3 : wr5 ≤ 0
      · rw [z_if_t q3, e433_11, e433_12, gb_0, z_ki_ri, z_if_t (by decide), e113_56, e113_57, c_allow0, z_kv_ex, z_ki_ex, nq0 rfl, nq1 rfl, e58_17, e690_0, t_isSheet, z_ki_ri, if_bi, z_if_t q1, t_isSheet, z_ki_ri, if_bi, z_if_t q2, e690_19, z_if_f (by decide), e891_0, t_isSheet, z_ki_ri, if_bi, z_if_t q1, gin (by omega) (by omega), show hI (sZ g Y) 1069 (Int.toNat s) = Y 1069 (Int.toNat s) from rfl, show Y 1069 (Int.toNat s) = wr5 from hwr5, z_if_t q3, e891_20, e891_21, gb_0, z_ki_ri, z_if_t (by decide), e690_74, e690_75, e954_0, z_if_t (by decide), e954_9, z_if_f (by decide), e954_35, show hI (sI (sZ g Y) 1064 0 2) 1064 0 = 2 from hI_s1, z_if_t (by decide), e954_49, e954_50, gb_0, z_ki_ri, z_if_f (by decide)]
        exact .inr (⟨2, 6, rfl, rfl, (by omega)⟩)
      · have ysr5 := ycr5 (by rw [hwr5]; omega)
        have hdr5 : 1 ≤ qr5 := by have q_ := Rsd (Int.toNat s) (by omega) (by show 0 < Y 1069 (Int.toNat s); rw [hwr5]; omega); have q2_ : 0 < Y 1070 (Int.toNat s) := q_; rw [hqr5] at q2_; omega
        rw [z_if_f q3, e433_12, gb_1, z_ki_ri, z_if_f (by decide), gk1 (by exact kr10), e433_0, gk1 (by exact kr10), show hI (sZ h X) r10 0 = X r10 0 from rfl, show X r10 0 = wr10 from y0r10]
        by_cases q4 : wr10 ≤ 0
        · rw [z_if_t q4, e433_11, e433_12, gb_0, z_ki_ri, z_if_t (by decide), e113_56, e113_57, c_allow0, z_kv_ex, z_ki_ex, nq0 rfl, nq1 rfl, e58_17, e690_0, t_isSheet, z_ki_ri, if_bi, z_if_t q1, t_isSheet, z_ki_ri, if_bi, z_if_t q2, e690_19, z_if_f (by decide), e891_0, t_isSheet, z_ki_ri, if_bi, z_if_t q1, gin (by omega) (by omega), show hI (sZ g Y) 1069 (Int.toNat s) = Y 1069 (Int.toNat s) from rfl, show Y 1069 (Int.toNat s) = wr5 from hwr5, z_if_f q3, e891_21, gb_1, z_ki_ri, z_if_f (by decide), e891_0, t_isSheet, z_ki_ri, if_bi, z_if_t q2, gin (by omega) (by omega), show hI (sZ g Y) 1069 (Int.toNat t) = Y 1069 (Int.toNat t) from rfl, show Y 1069 (Int.toNat t) = wr10 from hwr10, z_if_t q4, e891_20, e891_21, gb_0, z_ki_ri, z_if_t (by decide), e690_74, e690_75, e954_0, z_if_t (by decide), e954_9, z_if_f (by decide), e954_35, show hI (sI (sZ g Y) 1064 0 2) 1064 0 = 2 from hI_s1, z_if_t (by decide), e954_49, e954_50, gb_0, z_ki_ri, z_if_f (by decide)]
          exact .inr (⟨2, 6, rfl, rfl, (by omega)⟩)
        · have ysr10 := ycr10 (by rw [hwr10]; omega)
          have hdr10 : 1 ≤ qr10 := by have q_ := Rsd (Int.toNat t) (by omega) (by show 0 < Y 1069 (Int.toNat t); rw [hwr10]; omega); have q2_ : 0 < Y 1070 (Int.toNat t) := q_; rw [hqr10] at q2_; omega
          rw [z_if_f q4, e433_12, gb_1, z_ki_ri, z_if_f (by decide), gk1 (by exact kr5), gk1 (by exact kr10), show hI (sZ h X) r5 0 = X r5 0 from rfl, show X r5 0 = wr5 from y0r5, show hI (sZ h X) r10 0 = X r10 0 from rfl, show X r10 0 = wr10 from y0r10]
          by_cases q5 : ¬ (wr5 = wr10)
          · rw [z_if_t q5, e113_56, e113_57, c_allow0, z_kv_ex, z_ki_ex, nq0 rfl, nq1 rfl, e58_17, e690_0, t_isSheet, z_ki_ri, if_bi, z_if_t q1, t_isSheet, z_ki_ri, if_bi, z_if_t q2, e690_19, z_if_f (by decide), e891_0, t_isSheet, z_ki_ri, if_bi, z_if_t q1, gin (by omega) (by omega), show hI (sZ g Y) 1069 (Int.toNat s) = Y 1069 (Int.toNat s) from rfl, show Y 1069 (Int.toNat s) = wr5 from hwr5, z_if_f q3, e891_21, gb_1, z_ki_ri, z_if_f (by decide), e891_0, t_isSheet, z_ki_ri, if_bi, z_if_t q2, gin (by omega) (by omega), show hI (sZ g Y) 1069 (Int.toNat t) = Y 1069 (Int.toNat t) from rfl, show Y 1069 (Int.toNat t) = wr10 from hwr10, z_if_f q4, e891_21, gb_1, z_ki_ri, z_if_f (by decide), gin (by omega) (by omega), gin (by omega) (by omega), show hI (sZ g Y) 1069 (Int.toNat s) = Y 1069 (Int.toNat s) from rfl, show Y 1069 (Int.toNat s) = wr5 from hwr5, show hI (sZ g Y) 1069 (Int.toNat t) = Y 1069 (Int.toNat t) from rfl, show Y 1069 (Int.toNat t) = wr10 from hwr10, z_if_t q5, e690_74, e690_75, e954_0, z_if_t (by decide), e954_9, z_if_f (by decide), e954_35, show hI (sI (sZ g Y) 1064 0 2) 1064 0 = 2 from hI_s1, z_if_t (by decide), e954_49, e954_50, gb_0, z_ki_ri, z_if_f (by decide)]
            exact .inr (⟨2, 6, rfl, rfl, (by omega)⟩)
          · rw [z_if_f q5, gk1 (by exact kr5), gk1 (by exact kr10), show hI (sZ h X) r5 1 = X r5 1 from rfl, show X r5 1 = qr5 from y1r5, show hI (sZ h X) r10 1 = X r10 1 from rfl, show X r10 1 = qr10 from y1r10]
            by_cases q6 : ¬ (qr5 = qr10)
            · rw [z_if_t q6, e113_56, e113_57, c_allow0, z_kv_ex, z_ki_ex, nq0 rfl, nq1 rfl, e58_17, e690_0, t_isSheet, z_ki_ri, if_bi, z_if_t q1, t_isSheet, z_ki_ri, if_bi, z_if_t q2, e690_19, z_if_f (by decide), e891_0, t_isSheet, z_ki_ri, if_bi, z_if_t q1, gin (by omega) (by omega), show hI (sZ g Y) 1069 (Int.toNat s) = Y 1069 (Int.toNat s) from rfl, show Y 1069 (Int.toNat s) = wr5 from hwr5, z_if_f q3, e891_21, gb_1, z_ki_ri, z_if_f (by decide), e891_0, t_isSheet, z_ki_ri, if_bi, z_if_t q2, gin (by omega) (by omega), show hI (sZ g Y) 1069 (Int.toNat t) = Y 1069 (Int.toNat t) from rfl, show Y 1069 (Int.toNat t) = wr10 from hwr10, z_if_f q4, e891_21, gb_1, z_ki_ri, z_if_f (by decide), gin (by omega) (by omega), gin (by omega) (by omega), show hI (sZ g Y) 1069 (Int.toNat s) = Y 1069 (Int.toNat s) from rfl, show Y 1069 (Int.toNat s) = wr5 from hwr5, show hI (sZ g Y) 1069 (Int.toNat t) = Y 1069 (Int.toNat t) from rfl, show Y 1069 (Int.toNat t) = wr10 from hwr10, z_if_f q5, gin (by omega) (by omega), gin (by omega) (by omega), show hI (sZ g Y) 1070 (Int.toNat s) = Y 1070 (Int.toNat s) from rfl, show Y 1070 (Int.toNat s) = qr5 from hqr5, show hI (sZ g Y) 1070 (Int.toNat t) = Y 1070 (Int.toNat t) from rfl, show Y 1070 (Int.toNat t) = qr10 from hqr10, z_if_t q6, e690_74, e690_75, e954_0, z_if_t (by decide), e954_9, z_if_f (by decide), e954_35, show hI (sI (sZ g Y) 1064 0 2) 1064 0 = 2 from hI_s1, z_if_t (by decide), e954_49, e954_50, gb_0, z_ki_ri, z_if_f (by decide)]
              exact .inr (⟨2, 6, rfl, rfl, (by omega)⟩)
            · rw [z_if_f q6, e113_57, c_allow1, z_kv_rv, e690_0, t_isSheet, z_ki_ri, if_bi, z_if_t q1, t_isSheet, z_ki_ri, if_bi, z_if_t q2, e690_19, z_if_f (by decide), e891_0, t_isSheet, z_ki_ri, if_bi, z_if_t q1, gin (by omega) (by omega), show hI (sZ g Y) 1069 (Int.toNat s) = Y 1069 (Int.toNat s) from rfl, show Y 1069 (Int.toNat s) = wr5 from hwr5, z_if_f q3, e891_21, gb_1, z_ki_ri, z_if_f (by decide), e891_0, t_isSheet, z_ki_ri, if_bi, z_if_t q2, gin (by omega) (by omega), show hI (sZ g Y) 1069 (Int.toNat t) = Y 1069 (Int.toNat t) from rfl, show Y 1069 (Int.toNat t) = wr10 from hwr10, z_if_f q4, e891_21, gb_1, z_ki_ri, z_if_f (by decide), gin (by omega) (by omega), gin (by omega) (by omega), show hI (sZ g Y) 1069 (Int.toNat s) = Y 1069 (Int.toNat s) from rfl, show Y 1069 (Int.toNat s) = wr5 from hwr5, show hI (sZ g Y) 1069 (Int.toNat t) = Y 1069 (Int.toNat t) from rfl, show Y 1069 (Int.toNat t) = wr10 from hwr10, z_if_f q5, gin (by omega) (by omega), gin (by omega) (by omega), show hI (sZ g Y) 1070 (Int.toNat s) = Y 1070 (Int.toNat s) from rfl, show Y 1070 (Int.toNat s) = qr5 from hqr5, show hI (sZ g Y) 1070 (Int.toNat t) = Y 1070 (Int.toNat t) from rfl, show Y 1070 (Int.toNat t) = qr10 from hqr10, z_if_f q6, e690_75, e954_0, z_if_t (by decide), e954_9, z_if_t (by decide), e954_17, z_if_t (by decide), e954_25, z_if_t (by decide), e954_34, e954_35, show hI (sI (sZ g Y) 1064 0 0) 1064 0 = 0 from hI_s1, z_if_f (by decide), e954_50, gb_1, z_ki_ri, z_if_t (by decide), e690_91]
              obtain ⟨v_1, C1, hv_1, hb_1⟩ := c_ap (h := h) (g := g) (r5 := r5) (r6 := r6) (r10 := r10) (r11 := r11) (q := qr5) (X := X) kr5 kr6 pr5 kr10 kr11 pr10 (by omega) y1r5 ((fun i hi => (ysr5 i (by omega)).1)) ((fun i hi => (ysr10 i (by omega)).1))
              rw [C1]
              rw [z_ki_ri, gian_n (n := 1) (by exact ou.1) (by exact ou.2) (by omega) (by omega) (by omega), show Int.toNat 0 = 0 from rfl, e58_10, e58_21]
              obtain ⟨v_2, D2, hv_2, hb_2⟩ := t_ap (h := h) (g := g) (s := s) (t := t) (Y := z_up Y 1064 0 0) q1 q2
              have ev_ : v_1 = v_2 := by rw [hv_1, hv_2]; simp (disch := decide) only [up_a]; exact ap_eq (w := wr5) (by omega) (by omega) (by omega) ysr5 ysr10 (fun y x a b c => yor5 y x a b (by rw [hwr5, hqr5]; exact c)) (fun y x a b c => yor10 y x a b (by rw [hwr10, hqr10]; omega))
              rw [show f690_97 s t 0 0 (sI (sZ g Y) 1064 0 0) = z_ri v_2 (sI (sZ g Y) 1064 0 0) from D2]
              rw [show v_2 = v_1 by omega]
              exact .inl ⟨v_1, rfl, rfl⟩
    · rw [z_if_f q2, z_kr_ex, z_ki_ex, nq1 rfl, e58_13, e690_0, t_isSheet, z_ki_ri, if_bi, z_if_t q1, t_isSheet, z_ki_ri, if_bi, z_if_f q2, e690_18, e690_19, z_if_t (by decide), e690_74, e690_75, e954_0, z_if_f (by decide), e954_35, show hI (sI (sZ g Y) 1064 0 1) 1064 0 = 1 from hI_s1, z_if_t (by decide), e954_49, e954_50, gb_0, z_ki_ri, z_if_f (by decide)]
      exact .inr (⟨1, 2, rfl, rfl, (by omega)⟩)
  · rw [z_if_f q1, z_kr_ex, z_ki_ex, nq1 rfl, e58_13, e690_0, t_isSheet, z_ki_ri, if_bi, z_if_f q1, e690_18, e690_19, z_if_t (by decide), e690_74, e690_75, e954_0, z_if_f (by decide), e954_35, show hI (sI (sZ g Y) 1064 0 1) 1064 0 = 1 from hI_s1, z_if_t (by decide), e954_49, e954_50, gb_0, z_ki_ri, z_if_f (by decide)]
    exact .inr (⟨1, 2, rfl, rfl, (by omega)⟩)
