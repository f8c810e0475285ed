set_option maxRecDepth 100000
set_option linter.unusedVariables false
set_option maxHeartbeats 200000
/-! THE CALL size -/
theorem s_pik {h : z_M} {k : Int} {r1 : Nat} (S : S0 h) (hz : 1272 ≤ hZ h) (e1 : r1 = 103 + 3 * Int.toNat k) (hk : 0 ≤ k ∧ k ≤ 7) : hP h 2 (Int.toNat k) = r1 := by
  subst e1; exact ((shp_S (X := h.2.1) S (by omega)).2.2.2 (Int.toNat k) (by omega)).1
theorem s_fik {h : z_M} {k : Int} {r1 : Nat} (S : S0 h) (e1 : r1 = 135 + 2 * Int.toNat k) (hk : 0 ≤ k ∧ k ≤ 11) : hP h 4 (Int.toNat k) = r1 := by
  subst e1; exact ((shf_S (X := h.2.1) S).2.2.2 (Int.toNat k) (by omega)).1
theorem s_sik {h : z_M} {k : Int} {r1 : Nat} (S : S0 h) (e1 : r1 = 127 + 2 * Int.toNat k) (hk : 0 ≤ k ∧ k ≤ 3) : hP h 3 (Int.toNat k) = r1 := by
  subst e1; exact ((shs_S (X := h.2.1) S).2.2.2 (Int.toNat k) (by omega)).1
theorem dm_ex {w q wq x : Int} (hw : 1 ≤ w) (hwq : w * q = wq) (hx : 0 ≤ x ∧ x < wq) : ∃ J K : Int, x = J * w + K ∧ (0 ≤ K ∧ K < w) ∧ 0 ≤ J ∧ J < q := by
  have e := Int.mul_ediv_add_emod x w
  refine ⟨x / w, x % w, by rw [Int.mul_comm (x / w)]; omega, ⟨Int.emod_nonneg _ (by omega), Int.emod_lt_of_pos _ (by omega)⟩, Int.ediv_nonneg hx.1 (by omega), Int.ediv_lt_of_lt_mul (by omega) (by rw [Int.mul_comm]; omega)⟩
def z_iv (A : Nat → Int) (w : Int) (i : Nat) : Int := A (12 * (i / Int.toNat w) + i % Int.toNat w)
theorem iv_e {A : Nat → Int} {w x J K : Int} (e : x = J * w + K) (hK : 0 ≤ K ∧ K < w) (hJ : 0 ≤ J) : z_iv A w (Int.toNat x) = A (Int.toNat ((12 * J) + K)) := by
  obtain ⟨j, rfl⟩ : ∃ n : Nat, J = (n : Int) := ⟨J.toNat, by omega⟩
  obtain ⟨i, rfl⟩ : ∃ n : Nat, K = (n : Int) := ⟨K.toNat, by omega⟩
  obtain ⟨n, rfl⟩ : ∃ n : Nat, w = (n : Int) := ⟨w.toNat, by omega⟩
  have q : x = ((j * n + i : Nat) : Int) := by rw [e, Int.natCast_add, Int.natCast_mul]
  obtain ⟨u, v⟩ := dmw (W := n) (i := i) (j := j) (n := j * n + i) (by omega) rfl
  unfold z_iv
  rw [q, show (((j * n + i : Nat) : Int)).toNat = j * n + i from rfl, show ((n : Nat) : Int).toNat = n from rfl, u, v]
  exact congrArg A (by omega)
theorem sm_0 (n : Nat) : z_sm (fun _ => 0) n = 0 := by
  induction n with
  | zero => rfl
  | succ n ih => show z_sm (fun _ => 0) n + 0 = 0; rw [ih]; rfl
def z_db (a : Int) : Int := z_sm (fun x => a / 2 ^ x % 2) 24
theorem db_e {a : Int} {h : z_M} (ha : 0 ≤ a ∧ a < 16777216) : f31_0 a h = z_ri (z_db a) h := by
  obtain ⟨n, rfl⟩ : ∃ n : Nat, a = (n : Int) := ⟨a.toNat, by omega⟩
  rw [bcI (by omega)]
  refine congrArg (fun v => z_ri v h) (sm_cg fun x _ => ?_)
  rw [show (2 : Int) ^ x = ((2 ^ x : Nat) : Int) from (Int.natCast_pow 2 x).symm]; omega
theorem sm_b {f : Nat → Int} {n : Nat} (hf : ∀ i, 0 ≤ f i ∧ f i ≤ 1) : 0 ≤ z_sm f n ∧ z_sm f n ≤ (n : Int) := by
  induction n with
  | zero => exact ⟨by show (0 : Int) ≤ 0; omega, by show (0 : Int) ≤ 0; omega⟩
  | succ n ih => have := hf n; exact ⟨by show 0 ≤ z_sm f n + f n; omega, by show z_sm f n + f n ≤ ((n + 1 : Nat) : Int); omega⟩
theorem db_b {a : Int} : 0 ≤ z_db a ∧ z_db a ≤ 24 := sm_b (n := 24) (fun i => by show 0 ≤ a / 2 ^ i % 2 ∧ a / 2 ^ i % 2 ≤ 1; omega)
def Q_c_im_s (h g : z_M) (r1 : Nat) (r2 : Nat) (r3 : Nat) (w : Int) (q : Int) (wq : Int) (x : Int) (c : Int) (X : Nat → Nat → Int) (x_ : z_Z) : Prop := (∃ (v : Int), (x_ = f209_4 r1 v (x + 1) (sZ h X)) ∧ (v = c + z_iv (X r3) w (Int.toNat x)) ∧ (0 ≤ v - c ∧ v - c ≤ 1))
set_option maxHeartbeats 4000000 in
theorem c_im_s {h g : z_M} {r1 : Nat} {r2 : Nat} {r3 : Nat} {w : Int} {q : Int} {wq : Int} {x : Int} {c : Int} {X : Nat → Nat → Int} (kr1 : hK h r1 = 11) (kr2 : hK h r2 = 1000 ∧ hN h r2 = 144) (kr3 : hK h r3 = 1001 ∧ hN h r3 = 144) (pr1 : hP h r1 2 = r2 ∧ hP h r1 3 = r3) (hn_ : 0 ≤ wq ∧ wq ≤ 144) (hx : 0 ≤ x ∧ x < wq) (hc : 0 ≤ c ∧ c ≤ 1 * x) (hwq : w * q = wq) (hw : 1 ≤ w ∧ w ≤ 12) (hq : 1 ≤ q ∧ q ≤ 12) (hb3 : ∀ i : Nat, i < 144 → X r3 i = 0 ∨ X r3 i = 1) (x1 : X r1 0 = w) (x2 : X r1 1 = q) : Q_c_im_s h g r1 r2 r3 w q wq x c X (f209_4 r1 c x (sZ h X)) := by
  obtain ⟨J, K, hJK, hK, hJ⟩ := dm_ex (x := x) hw.1 hwq hx
  have hd1 := dm_w (x := x) (j := J) (i := K) (w := w) hJK hK hJ.1 (by omega)
  have b3 : 0 ≤ X r3 (Int.toNat ((12 * J) + K)) ∧ X r3 (Int.toNat ((12 * J) + K)) ≤ 1 := by have := hb3 (Int.toNat ((12 * J) + K)) (by omega); omega
  rw [e209_4, gk1 (by exact kr1), gk1 (by exact kr1), show hI (sZ h X) r1 0 = X r1 0 from rfl, show X r1 0 = w from x1, show hI (sZ h X) r1 1 = X r1 1 from rfl, show X r1 1 = q from x2, show w * q = wq from hwq, show z_w wq = wq from w_id (by omega) (by omega), z_if_f (by omega), gk1 (by exact kr1), z_g_t (by first | decide | omega), gk1 (by exact kr1), z_g_t (by first | decide | omega), gk1 (by exact kr1), show z_rem x w = K from hd1.1, show z_div x w = J from hd1.2, e210_0, gk1 (by exact kr1), show hP (sZ h X) r1 3 = r3 from pr1.2, show z_w (12 * J) = 12 * J from w_id (by omega) (by omega), show z_w ((12 * J) + K) = (12 * J) + K from w_id (by omega) (by omega), giz_n (n := 144) (by exact .inl kr3.1) (by exact kr3.2) (by omega) (by omega), show hI (sZ h X) r3 (Int.toNat ((12 * J) + K)) = X r3 (Int.toNat ((12 * J) + K)) from rfl, g01 (by omega), z_ki_ri]
  by_cases q1 : (X r3 (Int.toNat ((12 * J) + K))) = 0
  · rw [z_if_t q1, e209_41, e209_42, show z_w (c + 0) = c + 0 from w_id (by omega) (by omega), show z_w (x + 1) = x + 1 from w_id (by omega) (by omega)]
    exact ⟨(c + 0), rfl, (by rw [iv_e hJK hK hJ.1]; omega), (by omega)⟩
  · rw [z_if_f q1, e209_42, show z_w (c + 1) = c + 1 from w_id (by omega) (by omega), show z_w (x + 1) = x + 1 from w_id (by omega) (by omega)]
    exact ⟨(c + 1), rfl, (by rw [iv_e hJK hK hJ.1]; omega), (by omega)⟩
def Q_c_im_e (h g : z_M) (r1 : Nat) (r2 : Nat) (r3 : Nat) (w : Int) (q : Int) (wq : Int) (c : Int) (X : Nat → Nat → Int) (x_ : z_Z) : Prop := ((x_ = z_ri c (sZ h X)))
set_option maxHeartbeats 4000000 in
theorem c_im_e {h g : z_M} {r1 : Nat} {r2 : Nat} {r3 : Nat} {w : Int} {q : Int} {wq : Int} {c : Int} {X : Nat → Nat → Int} (kr1 : hK h r1 = 11) (kr2 : hK h r2 = 1000 ∧ hN h r2 = 144) (kr3 : hK h r3 = 1001 ∧ hN h r3 = 144) (pr1 : hP h r1 2 = r2 ∧ hP h r1 3 = r3) (hn_ : 0 ≤ wq ∧ wq ≤ 144) (hwq : w * q = wq) (hw : 1 ≤ w ∧ w ≤ 12) (hq : 1 ≤ q ∧ q ≤ 12) (hb3 : ∀ i : Nat, i < 144 → X r3 i = 0 ∨ X r3 i = 1) (x1 : X r1 0 = w) (x2 : X r1 1 = q) : Q_c_im_e h g r1 r2 r3 w q wq c X (f209_4 r1 c wq (sZ h X)) := by
  rw [e209_4, gk1 (by exact kr1), gk1 (by exact kr1), show hI (sZ h X) r1 0 = X r1 0 from rfl, show X r1 0 = w from x1, show hI (sZ h X) r1 1 = X r1 1 from rfl, show X r1 1 = q from x2, show w * q = wq from hwq, show z_w wq = wq from w_id (by omega) (by omega), z_if_t (by omega), e209_50]
  exact rfl
def Q_c_im (h g : z_M) (r1 : Nat) (r2 : Nat) (r3 : Nat) (w : Int) (q : Int) (wq : Int) (X : Nat → Nat → Int) (x_ : z_Z) : Prop := (∃ (v : Int), (x_ = z_ri v (sZ h X)) ∧ (v = (z_sm (fun i => z_iv (X r3) w i) (Int.toNat wq))) ∧ (0 ≤ v ∧ v ≤ 1 * wq))
theorem c_im {h g : z_M} {r1 : Nat} {r2 : Nat} {r3 : Nat} {w : Int} {q : Int} {wq : Int} {X : Nat → Nat → Int} (kr1 : hK h r1 = 11) (kr2 : hK h r2 = 1000 ∧ hN h r2 = 144) (kr3 : hK h r3 = 1001 ∧ hN h r3 = 144) (pr1 : hP h r1 2 = r2 ∧ hP h r1 3 = r3) (hn_ : 0 ≤ wq ∧ wq ≤ 144) (hwq : w * q = wq) (hw : 1 ≤ w ∧ w ≤ 12) (hq : 1 ≤ q ∧ q ≤ 12) (hb3 : ∀ i : Nat, i < 144 → X r3 i = 0 ∨ X r3 i = 1) (x1 : X r1 0 = w) (x2 : X r1 1 = q) : Q_c_im h g r1 r2 r3 w q wq X (f209_4 r1 0 0 (sZ h X)) := by
  obtain ⟨N, hN_⟩ : ∃ N : Nat, (N : Int) = wq := ⟨Int.toNat wq, by omega⟩
  have hNN : Int.toNat wq = N := by omega
  have stp : ∀ (c : Int) (i : Nat), i < N → 0 ≤ c ∧ c ≤ 1 * (i : Int) → (f209_4 r1 c (i : Int) (sZ h X)) = (f209_4 r1 (c + (fun i => z_iv (X r3) w i) i) ((i + 1 : Nat) : Int) (sZ h X)) ∧ 0 ≤ (fun i => z_iv (X r3) w i) i ∧ (fun i => z_iv (X r3) w i) i ≤ 1 := fun c i hi hc => by
    obtain ⟨v, e_, u, w_⟩ := c_im_s (h := h) (g := g) (r1 := r1) (r2 := r2) (r3 := r3) (w := w) (q := q) (wq := wq) (X := X) (x := (i : Int)) (c := c) kr1 kr2 kr3 pr1 hn_ (by omega) hc hwq hw hq hb3 x1 x2 
    (try simp only [Int.toNat_natCast] at u)
    subst u
    exact ⟨e_, (show 0 ≤ z_iv (X r3) w i ∧ z_iv (X r3) w i ≤ 1 by omega)⟩
  obtain ⟨e, b⟩ := acc_sum (F := fun cc_ xx_ => f209_4 r1 cc_ xx_ (sZ h X)) (v := fun i => z_iv (X r3) w i) (n := N) (m := 1) stp
  have x_ : f209_4 r1 (z_sm (fun i => z_iv (X r3) w i) N) wq (sZ h X) = z_ri (z_sm (fun i => z_iv (X r3) w i) N) (sZ h X) := c_im_e (h := h) (g := g) (r1 := r1) (r2 := r2) (r3 := r3) (w := w) (q := q) (wq := wq) (X := X) (c := z_sm (fun i => z_iv (X r3) w i) N) kr1 kr2 kr3 pr1 hn_ hwq hw hq hb3 x1 x2
  rw [hN_] at e
  exact ⟨z_sm (fun i => z_iv (X r3) w i) N, e.trans x_, by rw [hNN], by omega⟩
def Q_t_im_s (h g : z_M) (k : Int) (w : Int) (q : Int) (x : Int) (c : Int) (Y : Nat → Nat → Int) (y_ : z_Z) : Prop := (∃ (v : Int), (y_ = f808_5 0 k v (x + 1) (sZ g Y)) ∧ (v = c + (if (((Int.toNat x) % 12 : Nat) : Int) < w ∧ (((Int.toNat x) / 12 : Nat) : Int) < q then Y 1068 (Int.toNat (144 * k) + (Int.toNat x)) else (0 : Int))) ∧ (0 ≤ v - c ∧ v - c ≤ 1))
set_option maxHeartbeats 4000000 in
theorem t_im_s {h g : z_M} {k : Int} {w : Int} {q : Int} {x : Int} {c : Int} {Y : Nat → Nat → Int} (hx : 0 ≤ x ∧ x < 144) (hc : 0 ≤ c ∧ c ≤ 1 * x) (hk : 0 ≤ k ∧ k ≤ 7) (hw : 1 ≤ w ∧ w ≤ 12) (hq : 1 ≤ q ∧ q ≤ 12) (hb8 : ∀ i : Nat, i < 144 → Y 1068 (144 * Int.toNat k + i) = 0 ∨ Y 1068 (144 * Int.toNat k + i) = 1) (y1 : Y 1065 (Int.toNat k) = w) (y2 : Y 1066 (Int.toNat k) = q) : Q_t_im_s h g k w q x c Y (f808_5 0 k c x (sZ g Y)) := by
  have b8 : 0 ≤ Y 1068 (Int.toNat ((144 * k) + x)) ∧ Y 1068 (Int.toNat ((144 * k) + x)) ≤ 1 := by have q_ := hb8 (Int.toNat x) (by omega); rw [show 144 * Int.toNat k + Int.toNat x = Int.toNat ((144 * k) + x) by omega] at q_; omega
  rw [e808_5, z_if_f (by omega), z_if_f (by decide), gin (by omega) (by omega), show hI (sZ g Y) 1065 (Int.toNat k) = Y 1065 (Int.toNat k) from rfl, show Y 1065 (Int.toNat k) = w from y1, z_if_f (by omega), z_g_t (by first | decide | omega), z_g_t (by first | decide | omega), show z_rem x 12 = x % 12 from rm_n (by omega), show z_div x 12 = x / 12 from dv_n (by omega) (by omega) (by omega), e889_0, gin (by omega) (by omega), show hI (sZ g Y) 1065 (Int.toNat k) = Y 1065 (Int.toNat k) from rfl, show Y 1065 (Int.toNat k) = w from y1, show z_w (w - 1) = w - 1 from w_id (by omega) (by omega), e885_0, z_if_f (by omega)]
  by_cases q1 : (w - 1) < (x % 12)
  · rw [z_if_t q1, e885_14, e885_15, gb_0, z_ki_ri, z_if_t (by decide), e889_36, e889_37, gb_0, z_ki_ri, z_if_t (by decide), e808_65, e808_66, show z_w (c + 0) = c + 0 from w_id (by omega) (by omega), show z_w (x + 1) = x + 1 from w_id (by omega) (by omega)]
    exact ⟨(c + 0), rfl, (by have e1_ : Int.toNat (144 * k) + Int.toNat x = Int.toNat ((144 * k) + x) := (by omega); rw [e1_]; first | (rw [if_pos (by omega)] <;> omega) | (rw [if_neg (by omega)] <;> omega)), (by omega)⟩
  · rw [z_if_f q1, e885_15, gb_1, z_ki_ri, z_if_f (by decide), gin (by omega) (by omega), show hI (sZ g Y) 1066 (Int.toNat k) = Y 1066 (Int.toNat k) from rfl, show Y 1066 (Int.toNat k) = q from y2, show z_w (q - 1) = q - 1 from w_id (by omega) (by omega), e885_0, z_if_f (by omega)]
    by_cases q2 : (q - 1) < (x / 12)
    · rw [z_if_t q2, e885_14, e885_15, gb_0, z_ki_ri, z_if_t (by decide), e889_36, e889_37, gb_0, z_ki_ri, z_if_t (by decide), e808_65, e808_66, show z_w (c + 0) = c + 0 from w_id (by omega) (by omega), show z_w (x + 1) = x + 1 from w_id (by omega) (by omega)]
      exact ⟨(c + 0), rfl, (by have e1_ : Int.toNat (144 * k) + Int.toNat x = Int.toNat ((144 * k) + x) := (by omega); rw [e1_]; first | (rw [if_pos (by omega)] <;> omega) | (rw [if_neg (by omega)] <;> omega)), (by omega)⟩
    · rw [z_if_f q2, e885_15, gb_1, z_ki_ri, z_if_f (by decide), e889_37, gb_1, z_ki_ri, z_if_f (by decide), show z_w (144 * k) = 144 * k from w_id (by omega) (by omega), show z_w ((144 * k) + x) = (144 * k) + x from w_id (by omega) (by omega), gin (by omega) (by omega), show hI (sZ g Y) 1068 (Int.toNat ((144 * k) + x)) = Y 1068 (Int.toNat ((144 * k) + x)) from rfl]
      by_cases q3 : (Y 1068 (Int.toNat ((144 * k) + x))) = 0
      · rw [z_if_t q3, e808_65, e808_66, show z_w (c + 0) = c + 0 from w_id (by omega) (by omega), show z_w (x + 1) = x + 1 from w_id (by omega) (by omega)]
        exact ⟨(c + 0), rfl, (by have e1_ : Int.toNat (144 * k) + Int.toNat x = Int.toNat ((144 * k) + x) := (by omega); rw [e1_]; first | (rw [if_pos (by omega)] <;> omega) | (rw [if_neg (by omega)] <;> omega)), (by omega)⟩
      · rw [z_if_f q3, e808_66, show z_w (c + 1) = c + 1 from w_id (by omega) (by omega), show z_w (x + 1) = x + 1 from w_id (by omega) (by omega)]
        exact ⟨(c + 1), rfl, (by have e1_ : Int.toNat (144 * k) + Int.toNat x = Int.toNat ((144 * k) + x) := (by omega); rw [e1_]; first | (rw [if_pos (by omega)] <;> omega) | (rw [if_neg (by omega)] <;> omega)), (by omega)⟩
def Q_t_im_e (h g : z_M) (k : Int) (w : Int) (q : Int) (c : Int) (Y : Nat → Nat → Int) (y_ : z_Z) : Prop := ((y_ = z_ri c (sZ g Y)))
set_option maxHeartbeats 4000000 in
theorem t_im_e {h g : z_M} {k : Int} {w : Int} {q : Int} {c : Int} {Y : Nat → Nat → Int} (hk : 0 ≤ k ∧ k ≤ 7) (hw : 1 ≤ w ∧ w ≤ 12) (hq : 1 ≤ q ∧ q ≤ 12) (hb8 : ∀ i : Nat, i < 144 → Y 1068 (144 * Int.toNat k + i) = 0 ∨ Y 1068 (144 * Int.toNat k + i) = 1) (y1 : Y 1065 (Int.toNat k) = w) (y2 : Y 1066 (Int.toNat k) = q) : Q_t_im_e h g k w q c Y (f808_5 0 k c 144 (sZ g Y)) := by
  rw [e808_5, z_if_t (by decide), e808_74, e808_77, z_if_f (by decide), z_if_t (by decide), e808_120]
  exact rfl
def Q_t_im (h g : z_M) (k : Int) (w : Int) (q : Int) (Y : Nat → Nat → Int) (y_ : z_Z) : Prop := (∃ (v : Int), (y_ = z_ri v (sZ g Y)) ∧ (v = (z_sm (fun i => (if ((i % 12 : Nat) : Int) < w ∧ ((i / 12 : Nat) : Int) < q then Y 1068 (Int.toNat (144 * k) + i) else (0 : Int))) (Int.toNat 144))) ∧ (0 ≤ v ∧ v ≤ 1 * 144))
theorem t_im {h g : z_M} {k : Int} {w : Int} {q : Int} {Y : Nat → Nat → Int} (hk : 0 ≤ k ∧ k ≤ 7) (hw : 1 ≤ w ∧ w ≤ 12) (hq : 1 ≤ q ∧ q ≤ 12) (hb8 : ∀ i : Nat, i < 144 → Y 1068 (144 * Int.toNat k + i) = 0 ∨ Y 1068 (144 * Int.toNat k + i) = 1) (y1 : Y 1065 (Int.toNat k) = w) (y2 : Y 1066 (Int.toNat k) = q) : Q_t_im h g k w q Y (f808_5 0 k 0 0 (sZ g Y)) := by
  obtain ⟨N, hN_⟩ : ∃ N : Nat, (N : Int) = 144 := ⟨Int.toNat 144, by omega⟩
  have hNN : Int.toNat 144 = N := by omega
  have stp : ∀ (c : Int) (i : Nat), i < N → 0 ≤ c ∧ c ≤ 1 * (i : Int) → (f808_5 0 k c (i : Int) (sZ g Y)) = (f808_5 0 k (c + (fun i => (if ((i % 12 : Nat) : Int) < w ∧ ((i / 12 : Nat) : Int) < q then Y 1068 (Int.toNat (144 * k) + i) else (0 : Int))) i) ((i + 1 : Nat) : Int) (sZ g Y)) ∧ 0 ≤ (fun i => (if ((i % 12 : Nat) : Int) < w ∧ ((i / 12 : Nat) : Int) < q then Y 1068 (Int.toNat (144 * k) + i) else (0 : Int))) i ∧ (fun i => (if ((i % 12 : Nat) : Int) < w ∧ ((i / 12 : Nat) : Int) < q then Y 1068 (Int.toNat (144 * k) + i) else (0 : Int))) i ≤ 1 := fun c i hi hc => by
    obtain ⟨v, e_, u, w_⟩ := t_im_s (h := h) (g := g) (k := k) (w := w) (q := q) (Y := Y) (x := (i : Int)) (c := c)   (by omega) hc hk hw hq hb8 y1 y2 
    (try simp only [Int.toNat_natCast] at u)
    subst u
    exact ⟨e_, (show 0 ≤ (if ((i % 12 : Nat) : Int) < w ∧ ((i / 12 : Nat) : Int) < q then Y 1068 (Int.toNat (144 * k) + i) else (0 : Int)) ∧ (if ((i % 12 : Nat) : Int) < w ∧ ((i / 12 : Nat) : Int) < q then Y 1068 (Int.toNat (144 * k) + i) else (0 : Int)) ≤ 1 by omega)⟩
  obtain ⟨e, b⟩ := acc_sum (F := fun cc_ xx_ => f808_5 0 k cc_ xx_ (sZ g Y)) (v := fun i => (if ((i % 12 : Nat) : Int) < w ∧ ((i / 12 : Nat) : Int) < q then Y 1068 (Int.toNat (144 * k) + i) else (0 : Int))) (n := N) (m := 1) stp
  have x_ : f808_5 0 k (z_sm (fun i => (if ((i % 12 : Nat) : Int) < w ∧ ((i / 12 : Nat) : Int) < q then Y 1068 (Int.toNat (144 * k) + i) else (0 : Int))) N) 144 (sZ g Y) = z_ri (z_sm (fun i => (if ((i % 12 : Nat) : Int) < w ∧ ((i / 12 : Nat) : Int) < q then Y 1068 (Int.toNat (144 * k) + i) else (0 : Int))) N) (sZ g Y) := t_im_e (h := h) (g := g) (k := k) (w := w) (q := q) (Y := Y) (c := z_sm (fun i => (if ((i % 12 : Nat) : Int) < w ∧ ((i / 12 : Nat) : Int) < q then Y 1068 (Int.toNat (144 * k) + i) else (0 : Int))) N)   hk hw hq hb8 y1 y2
  rw [hN_] at e
  exact ⟨z_sm (fun i => (if ((i % 12 : Nat) : Int) < w ∧ ((i / 12 : Nat) : Int) < q then Y 1068 (Int.toNat (144 * k) + i) else (0 : Int))) N, e.trans x_, by rw [hNN], by omega⟩
def Q_c_dk_s (h g : z_M) (r5 : Nat) (r6 : Nat) (q : Int) (x : Int) (c : Int) (X : Nat → Nat → Int) (x_ : z_Z) : Prop := (∃ (v : Int), (x_ = f428_4 r5 v (x + 1) (sZ h X)) ∧ (v = c + z_db (X r6 (Int.toNat x))) ∧ (0 ≤ v - c ∧ v - c ≤ 24))
set_option maxHeartbeats 4000000 in
theorem c_dk_s {h g : z_M} {r5 : Nat} {r6 : Nat} {q : Int} {x : Int} {c : Int} {X : Nat → Nat → Int} (kr5 : hK h r5 = 28) (kr6 : hK h r6 = 1000 ∧ hN h r6 = 24) (pr5 : hP h r5 2 = r6) (hn_ : 0 ≤ q ∧ q ≤ 24) (hx : 0 ≤ x ∧ x < q) (hc : 0 ≤ c ∧ c ≤ 24 * x) (x1 : X r5 1 = q) (ba : 0 ≤ X r6 (Int.toNat x) ∧ X r6 (Int.toNat x) < 16777216) : Q_c_dk_s h g r5 r6 q x c X (f428_4 r5 c x (sZ h X)) := by
  rw [e428_4, gk1 (by exact kr5), show hI (sZ h X) r5 1 = X r5 1 from rfl, show X r5 1 = q from x1, z_if_f (by omega), gk1 (by exact kr5), show hP (sZ h X) r5 2 = r6 from pr5, gia_n (n := 24) (by exact kr6.1) (by exact kr6.2) (by omega) (by omega), show hI (sZ h X) r6 (Int.toNat x) = X r6 (Int.toNat x) from rfl]
  have b1 := db_b (a := X r6 (Int.toNat x))
  rw [db_e (by omega), z_ki_ri, show z_w (c + (z_db (X r6 (Int.toNat x)))) = c + (z_db (X r6 (Int.toNat x))) from w_id (by omega) (by omega), show z_w (x + 1) = x + 1 from w_id (by omega) (by omega)]
  exact ⟨(c + (z_db (X r6 (Int.toNat x)))), rfl, (by first | rfl | omega), (by omega)⟩
def Q_c_dk_e (h g : z_M) (r5 : Nat) (r6 : Nat) (q : Int) (c : Int) (X : Nat → Nat → Int) (x_ : z_Z) : Prop := ((x_ = z_ri c (sZ h X)))
set_option maxHeartbeats 4000000 in
theorem c_dk_e {h g : z_M} {r5 : Nat} {r6 : Nat} {q : Int} {c : Int} {X : Nat → Nat → Int} (kr5 : hK h r5 = 28) (kr6 : hK h r6 = 1000 ∧ hN h r6 = 24) (pr5 : hP h r5 2 = r6) (hn_ : 0 ≤ q ∧ q ≤ 24) (x1 : X r5 1 = q) : Q_c_dk_e h g r5 r6 q c X (f428_4 r5 c q (sZ h X)) := by
  rw [e428_4, gk1 (by exact kr5), show hI (sZ h X) r5 1 = X r5 1 from rfl, show X r5 1 = q from x1, z_if_t (by omega), e428_30]
  exact rfl
def Q_c_dk (h g : z_M) (r5 : Nat) (r6 : Nat) (q : Int) (X : Nat → Nat → Int) (x_ : z_Z) : Prop := (∃ (v : Int), (x_ = z_ri v (sZ h X)) ∧ (v = (z_sm (fun i => z_db (X r6 i)) (Int.toNat q))) ∧ (0 ≤ v ∧ v ≤ 24 * q))
theorem c_dk {h g : z_M} {r5 : Nat} {r6 : Nat} {q : Int} {X : Nat → Nat → Int} (kr5 : hK h r5 = 28) (kr6 : hK h r6 = 1000 ∧ hN h r6 = 24) (pr5 : hP h r5 2 = r6) (hn_ : 0 ≤ q ∧ q ≤ 24) (x1 : X r5 1 = q) (ba : ∀ i : Nat, (i : Int) < q → 0 ≤ X r6 i ∧ X r6 i < 16777216) : Q_c_dk h g r5 r6 q X (f428_4 r5 0 0 (sZ h X)) := by
  obtain ⟨N, hN_⟩ : ∃ N : Nat, (N : Int) = q := ⟨Int.toNat q, by omega⟩
  have hNN : Int.toNat q = N := by omega
  have stp : ∀ (c : Int) (i : Nat), i < N → 0 ≤ c ∧ c ≤ 24 * (i : Int) → (f428_4 r5 c (i : Int) (sZ h X)) = (f428_4 r5 (c + (fun i => z_db (X r6 i)) i) ((i + 1 : Nat) : Int) (sZ h X)) ∧ 0 ≤ (fun i => z_db (X r6 i)) i ∧ (fun i => z_db (X r6 i)) i ≤ 24 := fun c i hi hc => by
    obtain ⟨v, e_, u, w_⟩ := c_dk_s (h := h) (g := g) (r5 := r5) (r6 := r6) (q := q) (X := X) (x := (i : Int)) (c := c) kr5 kr6 pr5 hn_ (by omega) hc  x1 (by have q_ := ba i (by omega); (try simp only [Int.toNat_natCast]); exact q_)
    (try simp only [Int.toNat_natCast] at u)
    subst u
    exact ⟨e_, (show 0 ≤ z_db (X r6 i) ∧ z_db (X r6 i) ≤ 24 by omega)⟩
  obtain ⟨e, b⟩ := acc_sum (F := fun cc_ xx_ => f428_4 r5 cc_ xx_ (sZ h X)) (v := fun i => z_db (X r6 i)) (n := N) (m := 24) stp
  have x_ : f428_4 r5 (z_sm (fun i => z_db (X r6 i)) N) q (sZ h X) = z_ri (z_sm (fun i => z_db (X r6 i)) N) (sZ h X) := c_dk_e (h := h) (g := g) (r5 := r5) (r6 := r6) (q := q) (X := X) (c := z_sm (fun i => z_db (X r6 i)) N) kr5 kr6 pr5 hn_  x1
  rw [hN_] at e
  exact ⟨z_sm (fun i => z_db (X r6 i)) N, e.trans x_, by rw [hNN], by omega⟩
def Q_t_dk_s (h g : z_M) (k : Int) (x : Int) (c : Int) (Y : Nat → Nat → Int) (y_ : z_Z) : Prop := (∃ (v : Int), (y_ = f808_77 1 k v (x + 1) (sZ g Y)) ∧ (v = c + Y 1071 (Int.toNat (576 * k) + (Int.toNat x))) ∧ (0 ≤ v - c ∧ v - c ≤ 1))
set_option maxHeartbeats 4000000 in
theorem t_dk_s {h g : z_M} {k : Int} {x : Int} {c : Int} {Y : Nat → Nat → Int} (hx : 0 ≤ x ∧ x < 576) (hc : 0 ≤ c ∧ c ≤ 1 * x) (hk : 0 ≤ k ∧ k ≤ 3) (hb8 : ∀ i : Nat, i < 576 → 0 ≤ Y 1071 (576 * Int.toNat k + i) ∧ Y 1071 (576 * Int.toNat k + i) ≤ 1) : Q_t_dk_s h g k x c Y (f808_77 1 k c x (sZ g Y)) := by
  have b8 : 0 ≤ Y 1071 (Int.toNat ((576 * k) + x)) ∧ Y 1071 (Int.toNat ((576 * k) + x)) ≤ 1 := by have q_ := hb8 (Int.toNat x) (by omega); rw [show 576 * Int.toNat k + Int.toNat x = Int.toNat ((576 * k) + x) by omega] at q_; exact q_
  rw [e808_77, z_if_f (by omega), z_if_f (by decide), show z_w (576 * k) = 576 * k from w_id (by omega) (by omega), show z_w ((576 * k) + x) = (576 * k) + x from w_id (by omega) (by omega), gin (by omega) (by omega), show hI (sZ g Y) 1071 (Int.toNat ((576 * k) + x)) = Y 1071 (Int.toNat ((576 * k) + x)) from rfl]
  by_cases q1 : (Y 1071 (Int.toNat ((576 * k) + x))) = 0
  · rw [z_if_t q1, e808_111, e808_112, show z_w (c + 0) = c + 0 from w_id (by omega) (by omega), show z_w (x + 1) = x + 1 from w_id (by omega) (by omega)]
    exact ⟨(c + 0), rfl, (by have e1_ : Int.toNat (576 * k) + Int.toNat x = Int.toNat ((576 * k) + x) := (by omega); rw [e1_]; omega), (by omega)⟩
  · rw [z_if_f q1, e808_112, show z_w (c + 1) = c + 1 from w_id (by omega) (by omega), show z_w (x + 1) = x + 1 from w_id (by omega) (by omega)]
    exact ⟨(c + 1), rfl, (by have e1_ : Int.toNat (576 * k) + Int.toNat x = Int.toNat ((576 * k) + x) := (by omega); rw [e1_]; omega), (by omega)⟩
def Q_t_dk_e (h g : z_M) (k : Int) (c : Int) (Y : Nat → Nat → Int) (y_ : z_Z) : Prop := ((y_ = z_ri c (sZ g Y)))
set_option maxHeartbeats 4000000 in
theorem t_dk_e {h g : z_M} {k : Int} {c : Int} {Y : Nat → Nat → Int} (hk : 0 ≤ k ∧ k ≤ 3) (hb8 : ∀ i : Nat, i < 576 → 0 ≤ Y 1071 (576 * Int.toNat k + i) ∧ Y 1071 (576 * Int.toNat k + i) ≤ 1) : Q_t_dk_e h g k c Y (f808_77 1 k c 576 (sZ g Y)) := by
  rw [e808_77, z_if_t (by decide), e808_120]
  exact rfl
def Q_t_dk (h g : z_M) (k : Int) (Y : Nat → Nat → Int) (y_ : z_Z) : Prop := (∃ (v : Int), (y_ = z_ri v (sZ g Y)) ∧ (v = (z_sm (fun i => Y 1071 (Int.toNat (576 * k) + i)) (Int.toNat 576))) ∧ (0 ≤ v ∧ v ≤ 1 * 576))
theorem t_dk {h g : z_M} {k : Int} {Y : Nat → Nat → Int} (hk : 0 ≤ k ∧ k ≤ 3) (hb8 : ∀ i : Nat, i < 576 → 0 ≤ Y 1071 (576 * Int.toNat k + i) ∧ Y 1071 (576 * Int.toNat k + i) ≤ 1) : Q_t_dk h g k Y (f808_77 1 k 0 0 (sZ g Y)) := by
  obtain ⟨N, hN_⟩ : ∃ N : Nat, (N : Int) = 576 := ⟨Int.toNat 576, by omega⟩
  have hNN : Int.toNat 576 = N := by omega
  have stp : ∀ (c : Int) (i : Nat), i < N → 0 ≤ c ∧ c ≤ 1 * (i : Int) → (f808_77 1 k c (i : Int) (sZ g Y)) = (f808_77 1 k (c + (fun i => Y 1071 (Int.toNat (576 * k) + i)) i) ((i + 1 : Nat) : Int) (sZ g Y)) ∧ 0 ≤ (fun i => Y 1071 (Int.toNat (576 * k) + i)) i ∧ (fun i => Y 1071 (Int.toNat (576 * k) + i)) i ≤ 1 := fun c i hi hc => by
    obtain ⟨v, e_, u, w_⟩ := t_dk_s (h := h) (g := g) (k := k) (Y := Y) (x := (i : Int)) (c := c)   (by omega) hc hk hb8  
    (try simp only [Int.toNat_natCast] at u)
    subst u
    exact ⟨e_, (show 0 ≤ Y 1071 (Int.toNat (576 * k) + i) ∧ Y 1071 (Int.toNat (576 * k) + i) ≤ 1 by omega)⟩
  obtain ⟨e, b⟩ := acc_sum (F := fun cc_ xx_ => f808_77 1 k cc_ xx_ (sZ g Y)) (v := fun i => Y 1071 (Int.toNat (576 * k) + i)) (n := N) (m := 1) stp
  have x_ : f808_77 1 k (z_sm (fun i => Y 1071 (Int.toNat (576 * k) + i)) N) 576 (sZ g Y) = z_ri (z_sm (fun i => Y 1071 (Int.toNat (576 * k) + i)) N) (sZ g Y) := t_dk_e (h := h) (g := g) (k := k) (Y := Y) (c := z_sm (fun i => Y 1071 (Int.toNat (576 * k) + i)) N)   hk hb8 
  rw [hN_] at e
  exact ⟨z_sm (fun i => Y 1071 (Int.toNat (576 * k) + i)) N, e.trans x_, by rw [hNN], by omega⟩
theorem im_eq {A B : Nat → Int} {k w q wq : Int} (hk : 0 ≤ k) (hwq : w * q = wq) (hw : 1 ≤ w ∧ w ≤ 12) (hq : 1 ≤ q ∧ q ≤ 12) (ab : ∀ i, i < 144 → A i = B (144 * Int.toNat k + i)) :
    z_sm (fun i => z_iv A w i) (Int.toNat wq) = z_sm (fun i => if ((i % 12 : Nat) : Int) < w ∧ ((i / 12 : Nat) : Int) < q then B (Int.toNat (144 * k) + i) else (0 : Int)) 144 := by
  obtain ⟨W, rfl⟩ : ∃ n : Nat, w = (n : Int) := ⟨w.toNat, by omega⟩
  obtain ⟨Q, rfl⟩ : ∃ n : Nat, q = (n : Int) := ⟨q.toNat, by omega⟩
  have e : Int.toNat wq = W * Q := by rw [← hwq, ← Int.natCast_mul]; rfl
  rw [e, sm_rw, show (144 : Nat) = 12 * 12 from rfl, sm_rw]
  obtain ⟨n, hn⟩ : ∃ n : Nat, Q + n = 12 := ⟨12 - Q, by omega⟩
  obtain ⟨m, hm⟩ : ∃ n : Nat, W + n = 12 := ⟨12 - W, by omega⟩
  have z := sm_z (f := fun y => z_sm (fun x => if (((12 * y + x) % 12 : Nat) : Int) < (W : Int) ∧ (((12 * y + x) / 12 : Nat) : Int) < (Q : Int) then B (Int.toNat (144 * k) + (12 * y + x)) else (0 : Int)) 12) (n := Q) (m := n) (fun y a b => by
    show z_sm _ 12 = 0
    rw [sm_cg (g := fun _ => 0) (fun x hx => if_neg (by omega))]; rfl)
  rw [hn] at z
  rw [z]
  refine sm_cg fun y hy => ?_
  have z2 := sm_z (f := fun x => if (((12 * y + x) % 12 : Nat) : Int) < (W : Int) ∧ (((12 * y + x) / 12 : Nat) : Int) < (Q : Int) then B (Int.toNat (144 * k) + (12 * y + x)) else (0 : Int)) (n := W) (m := m) (fun x a b => if_neg (by omega))
  rw [hm] at z2
  rw [z2]
  refine sm_cg fun x hx => ?_
  unfold z_iv
  obtain ⟨u, v⟩ := dmw (W := W) (i := x) (j := y) (n := W * y + x) hx (by rw [Nat.mul_comm])
  rw [show ((W : Nat) : Int).toNat = W from rfl, u, v, if_pos (by omega), ab _ (by omega)]
  exact congrArg B (by omega)
theorem dk_eq {A C : Nat → Int} {k w q : Int} (hk : 0 ≤ k) (hq : 0 ≤ q ∧ q ≤ 24) (ya : ∀ y, y < 24 → (0 ≤ A y ∧ A y < 16777216) ∧ ∀ x, x < 24 → A y / 2 ^ x % 2 = C (576 * Int.toNat k + 24 * y + x)) (za : ∀ y x : Nat, y < 24 → x < 24 → (w ≤ (x : Int) ∨ q ≤ (y : Int)) → C (576 * Int.toNat k + 24 * y + x) = 0) :
    z_sm (fun i => z_db (A i)) (Int.toNat q) = z_sm (fun i => C (Int.toNat (576 * k) + i)) 576 := by
  rw [show (576 : Nat) = 24 * 24 from rfl, sm_rw]
  have e : ∀ y, y < 24 → z_db (A y) = z_sm (fun x => C (Int.toNat (576 * k) + (24 * y + x))) 24 := fun y hy => by
    unfold z_db
    refine sm_cg fun x hx => ?_
    rw [(ya y hy).2 x hx]; exact congrArg C (by omega)
  rw [sm_cg (n := Int.toNat q) (fun y hy => e y (by omega))]
  obtain ⟨n, hn⟩ : ∃ n : Nat, Int.toNat q + n = 24 := ⟨24 - Int.toNat q, by omega⟩
  have z := sm_z (f := fun y => z_sm (fun x => C (Int.toNat (576 * k) + (24 * y + x))) 24) (n := Int.toNat q) (m := n) (fun y a b => by
    show z_sm _ 24 = 0
    rw [sm_cg (g := fun _ => 0) (fun x hx => by
      have u := za y x (by omega) hx (.inr (by omega))
      rw [show 576 * Int.toNat k + 24 * y + x = Int.toNat (576 * k) + (24 * y + x) by omega] at u
      exact u)]
    rfl)
  rw [hn] at z
  exact z.symm
def Q_k_size (h g : z_M) (t : Int) (k : Int) (u : Int) (X : Nat → Nat → Int) (Y : Nat → Nat → Int) (x_ y_ : z_Z) : Prop := (∃ (v : Int), (x_ = z_ri 0 (sL (sZ h X) 1272 0 v)) ∧ (y_ = z_ri v (sI (sZ g Y) 1064 0 0))) ∨ (∃ (c : Int) (K : Nat), (x_ = z_ri c (sN (sZ h X) K 6)) ∧ (y_ = z_ri 0 (sI (sZ g Y) 1064 0 c)) ∧ (1 ≤ c))
set_option maxHeartbeats 4000000 in
theorem k_size {h g : z_M} {t : Int} {k : Int} {u : Int} {X : Nat → Nat → Int} {Y : Nat → Nat → Int} (S : S0 h) (ou : hK h 1272 = 1003 ∧ hN h 1272 = 1) (hz : 1272 ≤ hZ h) (Rp : R_pic (sZ h X) (sZ g Y)) (Rf : R_fil (sZ h X) (sZ g Y)) (Rs : R_sh (sZ h X) (sZ g Y)) (Rd : R_dim (sZ g Y)) (Rsd : R_sdm (sZ g Y)) : Q_k_size h g t k u X Y (f92_0 1 t k u 1272 (sZ h X)) (f974_0 t k u (sZ g Y)) := by
  obtain ⟨r1, er1⟩ : ∃ r : Nat, r = 103 + 3 * Int.toNat k := ⟨_, rfl⟩
  obtain ⟨r2, er2⟩ : ∃ r : Nat, r = 104 + 3 * Int.toNat k := ⟨_, rfl⟩
  obtain ⟨r3, er3⟩ : ∃ r : Nat, r = 105 + 3 * Int.toNat k := ⟨_, rfl⟩
  obtain ⟨r8, er8⟩ : ∃ r : Nat, r = 135 + 2 * Int.toNat k := ⟨_, rfl⟩
  obtain ⟨r9, er9⟩ : ∃ r : Nat, r = 136 + 2 * Int.toNat k := ⟨_, rfl⟩
  obtain ⟨r5, er5⟩ : ∃ r : Nat, r = 127 + 2 * Int.toNat k := ⟨_, rfl⟩
  obtain ⟨r6, er6⟩ : ∃ r : Nat, r = 128 + 2 * Int.toNat k := ⟨_, rfl⟩
  rw [e92_0, gk1 (by exact (sk S 1)), e171_0, c_within, z_ki_ri, c_want]
  by_cases q1 : (0 ≤ t) ∧ (t ≤ 2)
  · rw [z_if_t q1, z_kv_rv]
    by_cases q2 : ¬ (t = 0)
    · rw [z_if_t q2, e171_25]
      by_cases q3 : ¬ (t = 1)
      · rw [z_if_t q3, e171_36, e171_39, c_within, z_ki_ri, c_wantIndex]
        by_cases q4 : (0 ≤ k) ∧ (k ≤ 11)
        · obtain ⟨kr8, kr9, pr8⟩ := s_fil S er8 er9 (show 0 ≤ k ∧ k ≤ 11 by omega)
          have hrr8 : 135 ≤ r8 ∧ r9 ≤ 158 ∧ r9 = r8 + 1 := by omega
          obtain ⟨y0r8, ybr8, ysr8⟩ : X r8 1 = Y 1072 (Int.toNat k) ∧ (0 ≤ Y 1072 (Int.toNat k) ∧ Y 1072 (Int.toNat k) ≤ 1500) ∧ ∀ i, i < 1500 → X r9 i % 256 = Y 1073 (1500 * Int.toNat k + i) := by rw [er8, er9]; exact Rf (Int.toNat k) (by omega)
          obtain ⟨zr8, hzr8⟩ : ∃ w, Y 1072 (Int.toNat k) = w := ⟨_, rfl⟩
          rw [hzr8] at y0r8 ybr8
          have ik8 := s_fik S er8 (show 0 ≤ k ∧ k ≤ 11 by omega)
          rw [z_if_t q4, z_kv_rv, z_if_f (fun z => z (by omega)), e171_60, c_within, z_ki_ri, c_want]
          by_cases q5 : (0 ≤ u) ∧ (u ≤ 0)
          · rw [z_if_t q5, z_kv_rv, z_if_t q2, e171_84, z_if_t q3, e171_103, gk1 (by exact (sk S 1)), show hP (sZ h X) 1 2 = 4 from sp S 1 2 4, gir_n (k := 1104) (n := 12) (by exact (sk S 4)) (by exact (sn S 4)) (by omega) (by omega) (by omega), show hP (sZ h X) 4 (Int.toNat k) = r8 from ik8, gk1 (by exact kr8), show hI (sZ h X) r8 1 = X r8 1 from rfl, show X r8 1 = zr8 from y0r8, e171_112, z_ki_ri, gian_n (n := 1) (by exact ou.1) (by exact ou.2) (by omega) (by omega) (by omega), show Int.toNat 0 = 0 from rfl, e92_12, e92_23, e974_0, t_isIn, z_ki_ri, if_bi, z_if_t q1, z_if_t q2, e974_27, z_if_t q3, e974_42, t_isFile, z_ki_ri, if_bi, z_if_t q4, e974_49, e974_54, if_bi, z_if_t q1, z_if_f (fun z => z (by omega)), e974_76, t_isIn, z_ki_ri, if_bi, z_if_t q5, e974_87, e954_0, z_if_t (by decide), e954_9, z_if_t (by decide), e954_17, z_if_t (by decide), e954_25, z_if_t (by decide), e954_34, e954_35, show hI (sI (sZ g Y) 1064 0 0) 1064 0 = 0 from hI_s1, z_if_f (by decide), e954_50, gb_1, z_ki_ri, z_if_t (by decide), e974_97, z_if_f (fun z => z (by omega)), gin (by omega) (by omega), show hI (sI (sZ g Y) 1064 0 0) 1072 (Int.toNat k) = hI (sZ g Y) 1072 (Int.toNat k) from hI_s0 (fun z => absurd z.1 (by decide)), show hI (sZ g Y) 1072 (Int.toNat k) = Y 1072 (Int.toNat k) from rfl, show Y 1072 (Int.toNat k) = zr8 from hzr8]
            exact .inl ⟨zr8, rfl, rfl⟩
          · rw [z_if_f q5, z_kv_ex, z_ki_ex, nq0 rfl, nq1 rfl, e92_19, e974_0, t_isIn, z_ki_ri, if_bi, z_if_t q1, z_if_t q2, e974_27, z_if_t q3, e974_42, t_isFile, z_ki_ri, if_bi, z_if_t q4, e974_49, e974_54, if_bi, z_if_t q1, z_if_f (fun z => z (by omega)), e974_76, t_isIn, z_ki_ri, if_bi, z_if_f q5, e974_86, e974_87, e954_0, z_if_t (by decide), e954_9, z_if_f (by decide), e954_35, show hI (sI (sZ g Y) 1064 0 2) 1064 0 = 2 from hI_s1, z_if_t (by decide), e954_49, e954_50, gb_0, z_ki_ri, z_if_f (by decide)]
            exact .inr (⟨2, 5, rfl, rfl, (by omega)⟩)
        · rw [z_if_f q4, z_kv_ex, z_ki_ex, nq1 rfl, e92_15, e974_0, t_isIn, z_ki_ri, if_bi, z_if_t q1, z_if_t q2, e974_27, z_if_t q3, e974_42, t_isFile, z_ki_ri, if_bi, z_if_f q4, e974_53, e974_54, if_bi, z_if_t q1, z_if_f (fun z => z (by omega)), e974_76, t_isIn, z_ki_ri, if_bi]
          by_cases q5 : (0 ≤ u) ∧ (u ≤ 0)
          · rw [z_if_t q5, e974_87, e954_0, z_if_f (by decide), e954_35, show hI (sI (sZ g Y) 1064 0 1) 1064 0 = 1 from hI_s1, z_if_t (by decide), e954_49, e954_50, gb_0, z_ki_ri, z_if_f (by decide)]
            exact .inr (⟨1, 2, rfl, rfl, (by omega)⟩)
          · rw [z_if_f q5, e974_86, e974_87, e954_0, z_if_f (by decide), e954_35, show hI (sI (sZ g Y) 1064 0 1) 1064 0 = 1 from hI_s1, z_if_t (by decide), e954_49, e954_50, gb_0, z_ki_ri, z_if_f (by decide)]
            exact .inr (⟨1, 2, rfl, rfl, (by omega)⟩)
      · rw [z_if_f q3, e171_39, c_within, z_ki_ri, c_wantIndex]
        by_cases q4 : (0 ≤ k) ∧ (k ≤ 3)
        · obtain ⟨kr5, kr6, pr5⟩ := s_she S er5 er6 (show 0 ≤ k ∧ k ≤ 3 by omega)
          have hrr5 : 127 ≤ r5 ∧ r6 ≤ 134 ∧ r6 = r5 + 1 := by omega
          obtain ⟨⟨y0r5, y1r5⟩, ybr5, yor5, ycr5⟩ : (X r5 0 = Y 1069 (Int.toNat k) ∧ X r5 1 = Y 1070 (Int.toNat k)) ∧ (0 ≤ Y 1069 (Int.toNat k) ∧ Y 1069 (Int.toNat k) ≤ 24 ∧ 0 ≤ Y 1070 (Int.toNat k) ∧ Y 1070 (Int.toNat k) ≤ 24) ∧ (∀ y x : Nat, y < 24 → x < 24 → (Y 1069 (Int.toNat k) ≤ (x : Int) ∨ Y 1070 (Int.toNat k) ≤ (y : Int)) → Y 1071 (576 * Int.toNat k + 24 * y + x) = 0) ∧ (0 < Y 1069 (Int.toNat k) → ∀ y, y < 24 → (0 ≤ X r6 y ∧ X r6 y < 16777216) ∧ ∀ x, x < 24 → X r6 y / 2 ^ x % 2 = Y 1071 (576 * Int.toNat k + 24 * y + x)) := by rw [er5, er6]; exact Rs (Int.toNat k) (by omega)
          obtain ⟨wr5, hwr5⟩ : ∃ w, Y 1069 (Int.toNat k) = w := ⟨_, rfl⟩
          obtain ⟨qr5, hqr5⟩ : ∃ w, Y 1070 (Int.toNat k) = w := ⟨_, rfl⟩
          rw [hwr5, hqr5] at ybr5
          rw [hwr5] at y0r5
          rw [hqr5] at y1r5
          have ik5 := s_sik S er5 (show 0 ≤ k ∧ k ≤ 3 by omega)
          rw [z_if_t q4, z_kv_rv, z_if_t (by omega), e171_57, e171_60, c_within, z_ki_ri, c_want]
          by_cases q5 : (0 ≤ u) ∧ (u ≤ 2)
          · rw [z_if_t q5, z_kv_rv, z_if_t q2, e171_84, z_if_f q3, gk1 (by exact (sk S 1)), show hP (sZ h X) 1 1 = 3 from sp S 1 1 3, gir_n (k := 1113) (n := 4) (by exact (sk S 3)) (by exact (sn S 3)) (by omega) (by omega) (by omega), gk1 (by exact (sk S 1)), show hP (sZ h X) 3 (Int.toNat k) = r5 from ik5, e173_0, gk1 (by exact kr5), e433_0, gk1 (by exact kr5), show hI (sZ h X) r5 0 = X r5 0 from rfl, show X r5 0 = wr5 from y0r5]
            by_cases q6 : wr5 ≤ 0
            · rw [z_if_t q6, e433_11, e433_12, gb_0, z_ki_ri, z_if_f (by decide)]
              by_cases q7 : 2 ≤ u
              · rw [z_if_t q7, e173_16, e173_47, z_ki_ri, e171_112, z_ki_ri, gian_n (n := 1) (by exact ou.1) (by exact ou.2) (by omega) (by omega) (by omega), show Int.toNat 0 = 0 from rfl, e92_12, e92_23, e974_0, t_isIn, z_ki_ri, if_bi, z_if_t q1, z_if_t q2, e974_27, z_if_f q3, t_isSheet, z_ki_ri, if_bi, z_if_t q4, e974_49, e974_54, if_bi, z_if_t q1, z_if_t (by omega), e974_75, e974_76, t_isIn, z_ki_ri, if_bi, z_if_t q5, e974_87, e954_0, z_if_t (by decide), e954_9, z_if_t (by decide), e954_17, z_if_t (by decide), e954_25, z_if_t (by decide), e954_34, e954_35, show hI (sI (sZ g Y) 1064 0 0) 1064 0 = 0 from hI_s1, z_if_f (by decide), e954_50, gb_1, z_ki_ri, z_if_t (by decide), e974_97, z_if_t (by omega), e974_109, z_if_t q2, e974_122, gin (by omega) (by omega), show hI (sI (sZ g Y) 1064 0 0) 1069 (Int.toNat k) = hI (sZ g Y) 1069 (Int.toNat k) from hI_s0 (fun z => absurd z.1 (by decide)), show hI (sZ g Y) 1069 (Int.toNat k) = Y 1069 (Int.toNat k) from rfl, show Y 1069 (Int.toNat k) = wr5 from hwr5, e974_128, z_if_t q2, e974_143, gin (by omega) (by omega), show hI (sI (sZ g Y) 1064 0 0) 1070 (Int.toNat k) = hI (sZ g Y) 1070 (Int.toNat k) from hI_s0 (fun z => absurd z.1 (by decide)), show hI (sZ g Y) 1070 (Int.toNat k) = Y 1070 (Int.toNat k) from rfl, show Y 1070 (Int.toNat k) = qr5 from hqr5, e974_149, z_if_f (fun z => z (by omega)), e808_0]
                rw [e808_5, z_if_f (by decide), z_if_t q2, e808_74]
                rw [show t = 1 by omega]
                obtain ⟨v_1, D1, hv_1, hb_1⟩ := t_dk (h := h) (g := g) (k := k) (Y := z_up Y 1064 0 0) q4 ((fun i hi => by rw [up_a (by decide)]; have q_ := yor5 (i / 24) (i % 24) (by omega) (by omega) (.inl (by rw [hwr5]; omega)); rw [show 576 * Int.toNat k + 24 * (i / 24) + i % 24 = 576 * Int.toNat k + i by omega] at q_; omega))
                have ev_ : v_1 = 0 := by rw [hv_1, sm_cg (g := fun _ => 0) (fun i hi => by rw [up_a (by decide)]; have q_ := yor5 (i / 24) (i % 24) (by omega) (by omega) (.inl (by rw [hwr5]; omega)); rw [show 576 * Int.toNat k + 24 * (i / 24) + i % 24 = Int.toNat (576 * k) + i by omega] at q_; exact q_)]; exact sm_0 _
                rw [show f808_77 1 k 0 0 (sI (sZ g Y) 1064 0 0) = z_ri v_1 (sI (sZ g Y) 1064 0 0) from D1]
                rw [z_ki_ri, e974_185]
                rw [show v_1 = 0 by omega]
                exact .inl ⟨0, rfl, rfl⟩
              · rw [z_if_f q7, e173_47, z_ki_ri, e171_112, z_ki_ri, gian_n (n := 1) (by exact ou.1) (by exact ou.2) (by omega) (by omega) (by omega), show Int.toNat 0 = 0 from rfl, e92_12, e92_23, e974_0, t_isIn, z_ki_ri, if_bi, z_if_t q1, z_if_t q2, e974_27, z_if_f q3, t_isSheet, z_ki_ri, if_bi, z_if_t q4, e974_49, e974_54, if_bi, z_if_t q1, z_if_t (by omega), e974_75, e974_76, t_isIn, z_ki_ri, if_bi, z_if_t q5, e974_87, e954_0, z_if_t (by decide), e954_9, z_if_t (by decide), e954_17, z_if_t (by decide), e954_25, z_if_t (by decide), e954_34, e954_35, show hI (sI (sZ g Y) 1064 0 0) 1064 0 = 0 from hI_s1, z_if_f (by decide), e954_50, gb_1, z_ki_ri, z_if_t (by decide), e974_97, z_if_t (by omega), e974_109, z_if_t q2, e974_122, gin (by omega) (by omega), show hI (sI (sZ g Y) 1064 0 0) 1069 (Int.toNat k) = hI (sZ g Y) 1069 (Int.toNat k) from hI_s0 (fun z => absurd z.1 (by decide)), show hI (sZ g Y) 1069 (Int.toNat k) = Y 1069 (Int.toNat k) from rfl, show Y 1069 (Int.toNat k) = wr5 from hwr5, e974_128, z_if_t q2, e974_143, gin (by omega) (by omega), show hI (sI (sZ g Y) 1064 0 0) 1070 (Int.toNat k) = hI (sZ g Y) 1070 (Int.toNat k) from hI_s0 (fun z => absurd z.1 (by decide)), show hI (sZ g Y) 1070 (Int.toNat k) = Y 1070 (Int.toNat k) from rfl, show Y 1070 (Int.toNat k) = qr5 from hqr5, e974_149, z_if_t (by omega), e974_165, z_if_f (fun z => z (by omega)), e974_185]
                exact .inl ⟨(-1), rfl, rfl⟩
            · have ysr5 := ycr5 (by rw [hwr5]; omega)
              have hdr5 : 1 ≤ qr5 := by have q_ := Rsd (Int.toNat k) (by omega) (by show 0 < Y 1069 (Int.toNat k); rw [hwr5]; omega); have q2_ : 0 < Y 1070 (Int.toNat k) := q_; rw [hqr5] at q2_; omega
              rw [z_if_f q6, e433_12, gb_1, z_ki_ri, z_if_t (by decide), e173_20]
              by_cases q7 : ¬ (u = 0)
              · rw [z_if_t q7, e173_31]
                by_cases q8 : ¬ (u = 1)
                · rw [z_if_t q8, e173_43, gk1 (by exact kr5), e428_0, e974_0, t_isIn, z_ki_ri, if_bi, z_if_t q1, z_if_t q2, e974_27, z_if_f q3, t_isSheet, z_ki_ri, if_bi, z_if_t q4, e974_49, e974_54, if_bi, z_if_t q1, z_if_t (by omega), e974_75, e974_76, t_isIn, z_ki_ri, if_bi, z_if_t q5, e974_87, e954_0, z_if_t (by decide), e954_9, z_if_t (by decide), e954_17, z_if_t (by decide), e954_25, z_if_t (by decide), e954_34, e954_35, show hI (sI (sZ g Y) 1064 0 0) 1064 0 = 0 from hI_s1, z_if_f (by decide), e954_50, gb_1, z_ki_ri, z_if_t (by decide), e974_97, z_if_t (by omega), e974_109, z_if_t q2, e974_122, gin (by omega) (by omega), show hI (sI (sZ g Y) 1064 0 0) 1069 (Int.toNat k) = hI (sZ g Y) 1069 (Int.toNat k) from hI_s0 (fun z => absurd z.1 (by decide)), show hI (sZ g Y) 1069 (Int.toNat k) = Y 1069 (Int.toNat k) from rfl, show Y 1069 (Int.toNat k) = wr5 from hwr5, e974_128, z_if_t q2, e974_143, gin (by omega) (by omega), show hI (sI (sZ g Y) 1064 0 0) 1070 (Int.toNat k) = hI (sZ g Y) 1070 (Int.toNat k) from hI_s0 (fun z => absurd z.1 (by decide)), show hI (sZ g Y) 1070 (Int.toNat k) = Y 1070 (Int.toNat k) from rfl, show Y 1070 (Int.toNat k) = qr5 from hqr5, e974_149, z_if_f (fun z => z (by omega)), e808_0]
                  obtain ⟨v_1, C1, hv_1, hb_1⟩ := c_dk (h := h) (g := g) (r5 := r5) (r6 := r6) (q := qr5) (X := X) kr5 kr6 pr5 (by omega) y1r5 ((fun i hi => (ysr5 i (by omega)).1))
                  rw [C1]
                  rw [z_ki_ri, e173_47, z_ki_ri, e171_112, z_ki_ri, gian_n (n := 1) (by exact ou.1) (by exact ou.2) (by omega) (by omega) (by omega), show Int.toNat 0 = 0 from rfl, e92_12, e92_23]
                  rw [e808_5, z_if_f (by decide), z_if_t q2, e808_74]
                  rw [show t = 1 by omega]
                  obtain ⟨v_2, D2, hv_2, hb_2⟩ := t_dk (h := h) (g := g) (k := k) (Y := z_up Y 1064 0 0) q4 ((fun i hi => by rw [up_a (by decide)]; have q_ := (ysr5 (i / 24) (by omega)).2 (i % 24) (by omega); rw [show 576 * Int.toNat k + 24 * (i / 24) + i % 24 = 576 * Int.toNat k + i by omega] at q_; rw [← q_]; omega))
                  have ev_ : v_1 = v_2 := by rw [hv_1, hv_2]; (try simp (disch := decide) only [up_a]); exact dk_eq (w := wr5) (by omega) (by omega) ysr5 (fun y x a b c => yor5 y x a b (by rw [hwr5, hqr5]; exact c))
                  rw [show f808_77 1 k 0 0 (sI (sZ g Y) 1064 0 0) = z_ri v_2 (sI (sZ g Y) 1064 0 0) from D2]
                  rw [z_ki_ri, e974_185]
                  rw [show v_2 = v_1 by omega]
                  exact .inl ⟨v_1, rfl, rfl⟩
                · rw [z_if_f q8, gk1 (by exact kr5), show hI (sZ h X) r5 1 = X r5 1 from rfl, show X r5 1 = qr5 from y1r5, e173_47, z_ki_ri, e171_112, z_ki_ri, gian_n (n := 1) (by exact ou.1) (by exact ou.2) (by omega) (by omega) (by omega), show Int.toNat 0 = 0 from rfl, e92_12, e92_23, e974_0, t_isIn, z_ki_ri, if_bi, z_if_t q1, z_if_t q2, e974_27, z_if_f q3, t_isSheet, z_ki_ri, if_bi, z_if_t q4, e974_49, e974_54, if_bi, z_if_t q1, z_if_t (by omega), e974_75, e974_76, t_isIn, z_ki_ri, if_bi, z_if_t q5, e974_87, e954_0, z_if_t (by decide), e954_9, z_if_t (by decide), e954_17, z_if_t (by decide), e954_25, z_if_t (by decide), e954_34, e954_35, show hI (sI (sZ g Y) 1064 0 0) 1064 0 = 0 from hI_s1, z_if_f (by decide), e954_50, gb_1, z_ki_ri, z_if_t (by decide), e974_97, z_if_t (by omega), e974_109, z_if_t q2, e974_122, gin (by omega) (by omega), show hI (sI (sZ g Y) 1064 0 0) 1069 (Int.toNat k) = hI (sZ g Y) 1069 (Int.toNat k) from hI_s0 (fun z => absurd z.1 (by decide)), show hI (sZ g Y) 1069 (Int.toNat k) = Y 1069 (Int.toNat k) from rfl, show Y 1069 (Int.toNat k) = wr5 from hwr5, e974_128, z_if_t q2, e974_143, gin (by omega) (by omega), show hI (sI (sZ g Y) 1064 0 0) 1070 (Int.toNat k) = hI (sZ g Y) 1070 (Int.toNat k) from hI_s0 (fun z => absurd z.1 (by decide)), show hI (sZ g Y) 1070 (Int.toNat k) = Y 1070 (Int.toNat k) from rfl, show Y 1070 (Int.toNat k) = qr5 from hqr5, e974_149, z_if_t (by omega), e974_165, z_if_t (by omega), e974_174, z_if_t q7, e974_183, e974_185]
                  exact .inl ⟨qr5, rfl, rfl⟩
              · rw [z_if_f q7, gk1 (by exact kr5), show hI (sZ h X) r5 0 = X r5 0 from rfl, show X r5 0 = wr5 from y0r5, e173_47, z_ki_ri, e171_112, z_ki_ri, gian_n (n := 1) (by exact ou.1) (by exact ou.2) (by omega) (by omega) (by omega), show Int.toNat 0 = 0 from rfl, e92_12, e92_23, e974_0, t_isIn, z_ki_ri, if_bi, z_if_t q1, z_if_t q2, e974_27, z_if_f q3, t_isSheet, z_ki_ri, if_bi, z_if_t q4, e974_49, e974_54, if_bi, z_if_t q1, z_if_t (by omega), e974_75, e974_76, t_isIn, z_ki_ri, if_bi, z_if_t q5, e974_87, e954_0, z_if_t (by decide), e954_9, z_if_t (by decide), e954_17, z_if_t (by decide), e954_25, z_if_t (by decide), e954_34, e954_35, show hI (sI (sZ g Y) 1064 0 0) 1064 0 = 0 from hI_s1, z_if_f (by decide), e954_50, gb_1, z_ki_ri, z_if_t (by decide), e974_97, z_if_t (by omega), e974_109, z_if_t q2, e974_122, gin (by omega) (by omega), show hI (sI (sZ g Y) 1064 0 0) 1069 (Int.toNat k) = hI (sZ g Y) 1069 (Int.toNat k) from hI_s0 (fun z => absurd z.1 (by decide)), show hI (sZ g Y) 1069 (Int.toNat k) = Y 1069 (Int.toNat k) from rfl, show Y 1069 (Int.toNat k) = wr5 from hwr5, e974_128, z_if_t q2, e974_143, gin (by omega) (by omega), show hI (sI (sZ g Y) 1064 0 0) 1070 (Int.toNat k) = hI (sZ g Y) 1070 (Int.toNat k) from hI_s0 (fun z => absurd z.1 (by decide)), show hI (sZ g Y) 1070 (Int.toNat k) = Y 1070 (Int.toNat k) from rfl, show Y 1070 (Int.toNat k) = qr5 from hqr5, e974_149, z_if_t (by omega), e974_165, z_if_t (by omega), e974_174, z_if_f q7, e974_185]
                exact .inl ⟨wr5, rfl, rfl⟩
          · rw [z_if_f q5, z_kv_ex, z_ki_ex, nq0 rfl, nq1 rfl, e92_19, e974_0, t_isIn, z_ki_ri, if_bi, z_if_t q1, z_if_t q2, e974_27, z_if_f q3, t_isSheet, z_ki_ri, if_bi, z_if_t q4, e974_49, e974_54, if_bi, z_if_t q1, z_if_t (by omega), e974_75, e974_76, t_isIn, z_ki_ri, if_bi, z_if_f q5, e974_86, e974_87, e954_0, z_if_t (by decide), e954_9, z_if_f (by decide), e954_35, show hI (sI (sZ g Y) 1064 0 2) 1064 0 = 2 from hI_s1, z_if_t (by decide), e954_49, e954_50, gb_0, z_ki_ri, z_if_f (by decide)]
            exact .inr (⟨2, 5, rfl, rfl, (by omega)⟩)
        · rw [z_if_f q4, z_kv_ex, z_ki_ex, nq1 rfl, e92_15, e974_0, t_isIn, z_ki_ri, if_bi, z_if_t q1, z_if_t q2, e974_27, z_if_f q3, t_isSheet, z_ki_ri, if_bi, z_if_f q4, e974_53, e974_54, if_bi, z_if_t q1, z_if_t (by omega), e974_75, e974_76, t_isIn, z_ki_ri, if_bi]
          by_cases q5 : (0 ≤ u) ∧ (u ≤ 2)
          · rw [z_if_t q5, e974_87, e954_0, z_if_f (by decide), e954_35, show hI (sI (sZ g Y) 1064 0 1) 1064 0 = 1 from hI_s1, z_if_t (by decide), e954_49, e954_50, gb_0, z_ki_ri, z_if_f (by decide)]
            exact .inr (⟨1, 2, rfl, rfl, (by omega)⟩)
          · rw [z_if_f q5, e974_86, e974_87, e954_0, z_if_f (by decide), e954_35, show hI (sI (sZ g Y) 1064 0 1) 1064 0 = 1 from hI_s1, z_if_t (by decide), e954_49, e954_50, gb_0, z_ki_ri, z_if_f (by decide)]
            exact .inr (⟨1, 2, rfl, rfl, (by omega)⟩)
    · rw [z_if_f q2, e171_39, c_within, z_ki_ri, c_wantIndex]
      by_cases q3 : (0 ≤ k) ∧ (k ≤ 7)
      · obtain ⟨kr1, kr2, kr3, pr1⟩ := s_pic S hz er1 er2 er3 (show 0 ≤ k ∧ k ≤ 7 by omega)
        have hrr1 : 103 ≤ r1 ∧ r3 ≤ 126 ∧ r2 = r1 + 1 ∧ r3 = r1 + 2 := by omega
        obtain ⟨⟨x0r1, x1r1⟩, xbr1, xsr1⟩ : (X r1 0 = Y 1065 (Int.toNat k) ∧ X r1 1 = Y 1066 (Int.toNat k)) ∧ (0 ≤ Y 1065 (Int.toNat k) ∧ Y 1065 (Int.toNat k) ≤ 12 ∧ 0 ≤ Y 1066 (Int.toNat k) ∧ Y 1066 (Int.toNat k) ≤ 12) ∧ ∀ i, i < 144 → (X r2 i = Y 1067 (144 * Int.toNat k + i) ∧ X r3 i = Y 1068 (144 * Int.toNat k + i)) ∧ (0 ≤ Y 1067 (144 * Int.toNat k + i) ∧ Y 1067 (144 * Int.toNat k + i) ≤ 255) ∧ (Y 1068 (144 * Int.toNat k + i) = 0 ∨ Y 1068 (144 * Int.toNat k + i) = 1) := by rw [er1, er2, er3]; exact Rp (Int.toNat k) (by omega)
        obtain ⟨wr1, hwr1⟩ : ∃ w, Y 1065 (Int.toNat k) = w := ⟨_, rfl⟩
        obtain ⟨qr1, hqr1⟩ : ∃ w, Y 1066 (Int.toNat k) = w := ⟨_, rfl⟩
        rw [hwr1, hqr1] at xbr1
        rw [hwr1] at x0r1
        rw [hqr1] at x1r1
        have ik1 := s_pik S hz er1 (show 0 ≤ k ∧ k ≤ 7 by omega)
        rw [z_if_t q3, z_kv_rv, z_if_t (by omega), e171_57, e171_60, c_within, z_ki_ri, c_want]
        by_cases q4 : (0 ≤ u) ∧ (u ≤ 2)
        · rw [z_if_t q4, z_kv_rv, z_if_f q2, gk1 (by exact (sk S 1)), show hP (sZ h X) 1 0 = 2 from sp S 1 0 2, gir_n (k := 1112) (n := 8) (by exact (sk S 2)) (by exact (sn S 2)) (by omega) (by omega) (by omega), gk1 (by exact (sk S 1)), show hP (sZ h X) 2 (Int.toNat k) = r1 from ik1, e172_0, gk1 (by exact kr1), e212_0, gk1 (by exact kr1), show hI (sZ h X) r1 0 = X r1 0 from rfl, show X r1 0 = wr1 from x0r1]
          by_cases q5 : wr1 ≤ 0
          · rw [z_if_t q5, e212_11, e212_12, gb_0, z_ki_ri, z_if_f (by decide)]
            by_cases q6 : 2 ≤ u
            · rw [z_if_t q6, e172_16, e172_47, z_ki_ri, e171_112, z_ki_ri, gian_n (n := 1) (by exact ou.1) (by exact ou.2) (by omega) (by omega) (by omega), show Int.toNat 0 = 0 from rfl, e92_12, e92_23, e974_0, t_isIn, z_ki_ri, if_bi, z_if_t q1, z_if_f q2, t_isPicture, z_ki_ri, if_bi, z_if_t q3, e974_49, e974_54, if_bi, z_if_t q1, z_if_t (by omega), e974_75, e974_76, t_isIn, z_ki_ri, if_bi, z_if_t q4, e974_87, e954_0, z_if_t (by decide), e954_9, z_if_t (by decide), e954_17, z_if_t (by decide), e954_25, z_if_t (by decide), e954_34, e954_35, show hI (sI (sZ g Y) 1064 0 0) 1064 0 = 0 from hI_s1, z_if_f (by decide), e954_50, gb_1, z_ki_ri, z_if_t (by decide), e974_97, z_if_t (by omega), e974_109, z_if_f q2, gin (by omega) (by omega), show hI (sI (sZ g Y) 1064 0 0) 1065 (Int.toNat k) = hI (sZ g Y) 1065 (Int.toNat k) from hI_s0 (fun z => absurd z.1 (by decide)), show hI (sZ g Y) 1065 (Int.toNat k) = Y 1065 (Int.toNat k) from rfl, show Y 1065 (Int.toNat k) = wr1 from hwr1, e974_128, z_if_f q2, gin (by omega) (by omega), show hI (sI (sZ g Y) 1064 0 0) 1066 (Int.toNat k) = hI (sZ g Y) 1066 (Int.toNat k) from hI_s0 (fun z => absurd z.1 (by decide)), show hI (sZ g Y) 1066 (Int.toNat k) = Y 1066 (Int.toNat k) from rfl, show Y 1066 (Int.toNat k) = qr1 from hqr1, e974_149, z_if_f (fun z => z (by omega)), e808_0]
              rw [e808_5, z_if_f (by decide), z_if_f q2, gin (by omega) (by omega), show hI (sI (sZ g Y) 1064 0 0) 1065 (Int.toNat k) = hI (sZ g Y) 1065 (Int.toNat k) from hI_s0 (fun z => absurd z.1 (by decide)), show hI (sZ g Y) 1065 (Int.toNat k) = Y 1065 (Int.toNat k) from rfl, show Y 1065 (Int.toNat k) = wr1 from hwr1, z_if_t q5, e808_74]
              rw [e808_77, z_if_f (by decide), z_if_t (by omega), e808_120, z_ki_ri, e974_185]
              exact .inl ⟨0, rfl, rfl⟩
            · rw [z_if_f q6, e172_47, z_ki_ri, e171_112, z_ki_ri, gian_n (n := 1) (by exact ou.1) (by exact ou.2) (by omega) (by omega) (by omega), show Int.toNat 0 = 0 from rfl, e92_12, e92_23, e974_0, t_isIn, z_ki_ri, if_bi, z_if_t q1, z_if_f q2, t_isPicture, z_ki_ri, if_bi, z_if_t q3, e974_49, e974_54, if_bi, z_if_t q1, z_if_t (by omega), e974_75, e974_76, t_isIn, z_ki_ri, if_bi, z_if_t q4, e974_87, e954_0, z_if_t (by decide), e954_9, z_if_t (by decide), e954_17, z_if_t (by decide), e954_25, z_if_t (by decide), e954_34, e954_35, show hI (sI (sZ g Y) 1064 0 0) 1064 0 = 0 from hI_s1, z_if_f (by decide), e954_50, gb_1, z_ki_ri, z_if_t (by decide), e974_97, z_if_t (by omega), e974_109, z_if_f q2, gin (by omega) (by omega), show hI (sI (sZ g Y) 1064 0 0) 1065 (Int.toNat k) = hI (sZ g Y) 1065 (Int.toNat k) from hI_s0 (fun z => absurd z.1 (by decide)), show hI (sZ g Y) 1065 (Int.toNat k) = Y 1065 (Int.toNat k) from rfl, show Y 1065 (Int.toNat k) = wr1 from hwr1, e974_128, z_if_f q2, gin (by omega) (by omega), show hI (sI (sZ g Y) 1064 0 0) 1066 (Int.toNat k) = hI (sZ g Y) 1066 (Int.toNat k) from hI_s0 (fun z => absurd z.1 (by decide)), show hI (sZ g Y) 1066 (Int.toNat k) = Y 1066 (Int.toNat k) from rfl, show Y 1066 (Int.toNat k) = qr1 from hqr1, e974_149, z_if_t (by omega), e974_165, z_if_f (fun z => z (by omega)), e974_185]
              exact .inl ⟨(-1), rfl, rfl⟩
          · have hdr1 : 1 ≤ qr1 := by have q_ := Rd (Int.toNat k) (by omega) (by show 0 < Y 1065 (Int.toNat k); rw [hwr1]; omega); have q2_ : 0 < Y 1066 (Int.toNat k) := q_; rw [hqr1] at q2_; omega
            obtain ⟨wq, hwq⟩ : ∃ z, wr1 * qr1 = z := ⟨_, rfl⟩
            have hwb : 1 ≤ wq ∧ wq ≤ 144 := ⟨mu_5 hwq (by omega) (by omega), mu_g (a := 12) (b := 12) hwq (by omega) (by omega)⟩
            rw [z_if_f q5, e212_12, gb_1, z_ki_ri, z_if_t (by decide), e172_20]
            by_cases q6 : ¬ (u = 0)
            · rw [z_if_t q6, e172_31]
              by_cases q7 : ¬ (u = 1)
              · rw [z_if_t q7, e172_43, gk1 (by exact kr1), e209_0, e974_0, t_isIn, z_ki_ri, if_bi, z_if_t q1, z_if_f q2, t_isPicture, z_ki_ri, if_bi, z_if_t q3, e974_49, e974_54, if_bi, z_if_t q1, z_if_t (by omega), e974_75, e974_76, t_isIn, z_ki_ri, if_bi, z_if_t q4, e974_87, e954_0, z_if_t (by decide), e954_9, z_if_t (by decide), e954_17, z_if_t (by decide), e954_25, z_if_t (by decide), e954_34, e954_35, show hI (sI (sZ g Y) 1064 0 0) 1064 0 = 0 from hI_s1, z_if_f (by decide), e954_50, gb_1, z_ki_ri, z_if_t (by decide), e974_97, z_if_t (by omega), e974_109, z_if_f q2, gin (by omega) (by omega), show hI (sI (sZ g Y) 1064 0 0) 1065 (Int.toNat k) = hI (sZ g Y) 1065 (Int.toNat k) from hI_s0 (fun z => absurd z.1 (by decide)), show hI (sZ g Y) 1065 (Int.toNat k) = Y 1065 (Int.toNat k) from rfl, show Y 1065 (Int.toNat k) = wr1 from hwr1, e974_128, z_if_f q2, gin (by omega) (by omega), show hI (sI (sZ g Y) 1064 0 0) 1066 (Int.toNat k) = hI (sZ g Y) 1066 (Int.toNat k) from hI_s0 (fun z => absurd z.1 (by decide)), show hI (sZ g Y) 1066 (Int.toNat k) = Y 1066 (Int.toNat k) from rfl, show Y 1066 (Int.toNat k) = qr1 from hqr1, e974_149, z_if_f (fun z => z (by omega)), e808_0]
                obtain ⟨v_1, C1, hv_1, hb_1⟩ := c_im (h := h) (g := g) (r1 := r1) (r2 := r2) (r3 := r3) (w := wr1) (q := qr1) (wq := wq) (X := X) kr1 kr2 kr3 pr1 (by omega) hwq (by omega) (by omega) ((fun i hi => by rw [(xsr1 i hi).1.2]; exact (xsr1 i hi).2.2)) x0r1 x1r1
                rw [C1]
                rw [z_ki_ri, e172_47, z_ki_ri, e171_112, z_ki_ri, gian_n (n := 1) (by exact ou.1) (by exact ou.2) (by omega) (by omega) (by omega), show Int.toNat 0 = 0 from rfl, e92_12, e92_23]
                rw [show t = 0 by omega]
                obtain ⟨v_2, D2, hv_2, hb_2⟩ := t_im (h := h) (g := g) (k := k) (w := wr1) (q := qr1) (Y := z_up Y 1064 0 0) q3 (by omega) (by omega) ((fun i hi => by rw [up_a (by decide)]; exact (xsr1 i hi).2.2)) (by simp (disch := first | decide | omega) only [true_and, and_true, or_true, true_or, up_a, up_i, up_1]; first | done | omega) (by simp (disch := first | decide | omega) only [true_and, and_true, or_true, true_or, up_a, up_i, up_1]; first | done | omega)
                have ev_ : v_1 = v_2 := by rw [hv_1, hv_2]; (try simp (disch := decide) only [up_a]); exact im_eq (by omega) hwq (by omega) (by omega) (fun i hi => (xsr1 i hi).1.2)
                rw [show f808_5 0 k 0 0 (sI (sZ g Y) 1064 0 0) = z_ri v_2 (sI (sZ g Y) 1064 0 0) from D2]
                rw [z_ki_ri, e974_185]
                rw [show v_2 = v_1 by omega]
                exact .inl ⟨v_1, rfl, rfl⟩
              · rw [z_if_f q7, gk1 (by exact kr1), show hI (sZ h X) r1 1 = X r1 1 from rfl, show X r1 1 = qr1 from x1r1, e172_47, z_ki_ri, e171_112, z_ki_ri, gian_n (n := 1) (by exact ou.1) (by exact ou.2) (by omega) (by omega) (by omega), show Int.toNat 0 = 0 from rfl, e92_12, e92_23, e974_0, t_isIn, z_ki_ri, if_bi, z_if_t q1, z_if_f q2, t_isPicture, z_ki_ri, if_bi, z_if_t q3, e974_49, e974_54, if_bi, z_if_t q1, z_if_t (by omega), e974_75, e974_76, t_isIn, z_ki_ri, if_bi, z_if_t q4, e974_87, e954_0, z_if_t (by decide), e954_9, z_if_t (by decide), e954_17, z_if_t (by decide), e954_25, z_if_t (by decide), e954_34, e954_35, show hI (sI (sZ g Y) 1064 0 0) 1064 0 = 0 from hI_s1, z_if_f (by decide), e954_50, gb_1, z_ki_ri, z_if_t (by decide), e974_97, z_if_t (by omega), e974_109, z_if_f q2, gin (by omega) (by omega), show hI (sI (sZ g Y) 1064 0 0) 1065 (Int.toNat k) = hI (sZ g Y) 1065 (Int.toNat k) from hI_s0 (fun z => absurd z.1 (by decide)), show hI (sZ g Y) 1065 (Int.toNat k) = Y 1065 (Int.toNat k) from rfl, show Y 1065 (Int.toNat k) = wr1 from hwr1, e974_128, z_if_f q2, gin (by omega) (by omega), show hI (sI (sZ g Y) 1064 0 0) 1066 (Int.toNat k) = hI (sZ g Y) 1066 (Int.toNat k) from hI_s0 (fun z => absurd z.1 (by decide)), show hI (sZ g Y) 1066 (Int.toNat k) = Y 1066 (Int.toNat k) from rfl, show Y 1066 (Int.toNat k) = qr1 from hqr1, e974_149, z_if_t (by omega), e974_165, z_if_t (by omega), e974_174, z_if_t q6, e974_183, e974_185]
                exact .inl ⟨qr1, rfl, rfl⟩
            · rw [z_if_f q6, gk1 (by exact kr1), show hI (sZ h X) r1 0 = X r1 0 from rfl, show X r1 0 = wr1 from x0r1, e172_47, z_ki_ri, e171_112, z_ki_ri, gian_n (n := 1) (by exact ou.1) (by exact ou.2) (by omega) (by omega) (by omega), show Int.toNat 0 = 0 from rfl, e92_12, e92_23, e974_0, t_isIn, z_ki_ri, if_bi, z_if_t q1, z_if_f q2, t_isPicture, z_ki_ri, if_bi, z_if_t q3, e974_49, e974_54, if_bi, z_if_t q1, z_if_t (by omega), e974_75, e974_76, t_isIn, z_ki_ri, if_bi, z_if_t q4, e974_87, e954_0, z_if_t (by decide), e954_9, z_if_t (by decide), e954_17, z_if_t (by decide), e954_25, z_if_t (by decide), e954_34, e954_35, show hI (sI (sZ g Y) 1064 0 0) 1064 0 = 0 from hI_s1, z_if_f (by decide), e954_50, gb_1, z_ki_ri, z_if_t (by decide), e974_97, z_if_t (by omega), e974_109, z_if_f q2, gin (by omega) (by omega), show hI (sI (sZ g Y) 1064 0 0) 1065 (Int.toNat k) = hI (sZ g Y) 1065 (Int.toNat k) from hI_s0 (fun z => absurd z.1 (by decide)), show hI (sZ g Y) 1065 (Int.toNat k) = Y 1065 (Int.toNat k) from rfl, show Y 1065 (Int.toNat k) = wr1 from hwr1, e974_128, z_if_f q2, gin (by omega) (by omega), show hI (sI (sZ g Y) 1064 0 0) 1066 (Int.toNat k) = hI (sZ g Y) 1066 (Int.toNat k) from hI_s0 (fun z => absurd z.1 (by decide)), show hI (sZ g Y) 1066 (Int.toNat k) = Y 1066 (Int.toNat k) from rfl, show Y 1066 (Int.toNat k) = qr1 from hqr1, e974_149, z_if_t (by omega), e974_165, z_if_t (by omega), e974_174, z_if_f q6, e974_185]
              exact .inl ⟨wr1, rfl, rfl⟩
        · rw [z_if_f q4, z_kv_ex, z_ki_ex, nq0 rfl, nq1 rfl, e92_19, e974_0, t_isIn, z_ki_ri, if_bi, z_if_t q1, z_if_f q2, t_isPicture, z_ki_ri, if_bi, z_if_t q3, e974_49, e974_54, if_bi, z_if_t q1, z_if_t (by omega), e974_75, e974_76, t_isIn, z_ki_ri, if_bi, z_if_f q4, e974_86, e974_87, e954_0, z_if_t (by decide), e954_9, z_if_f (by decide), e954_35, show hI (sI (sZ g Y) 1064 0 2) 1064 0 = 2 from hI_s1, z_if_t (by decide), e954_49, e954_50, gb_0, z_ki_ri, z_if_f (by decide)]
          exact .inr (⟨2, 5, rfl, rfl, (by omega)⟩)
      · rw [z_if_f q3, z_kv_ex, z_ki_ex, nq1 rfl, e92_15, e974_0, t_isIn, z_ki_ri, if_bi, z_if_t q1, z_if_f q2, t_isPicture, z_ki_ri, if_bi, z_if_f q3, e974_53, e974_54, if_bi, z_if_t q1, z_if_t (by omega), e974_75, e974_76, t_isIn, z_ki_ri, if_bi]
        by_cases q4 : (0 ≤ u) ∧ (u ≤ 2)
        · rw [z_if_t q4, e974_87, e954_0, z_if_f (by decide), e954_35, show hI (sI (sZ g Y) 1064 0 1) 1064 0 = 1 from hI_s1, z_if_t (by decide), e954_49, e954_50, gb_0, z_ki_ri, z_if_f (by decide)]
          exact .inr (⟨1, 2, rfl, rfl, (by omega)⟩)
        · rw [z_if_f q4, e974_86, e974_87, e954_0, z_if_f (by decide), e954_35, show hI (sI (sZ g Y) 1064 0 1) 1064 0 = 1 from hI_s1, z_if_t (by decide), e954_49, e954_50, gb_0, z_ki_ri, z_if_f (by decide)]
          exact .inr (⟨1, 2, rfl, rfl, (by omega)⟩)
  · rw [z_if_f q1, z_kv_ex, z_ki_ex, nq0 rfl, nq1 rfl, e92_19, e974_0, t_isIn, z_ki_ri, if_bi, z_if_f q1, e974_49, e974_54, if_bi, z_if_f q1, e974_86, e974_87, e954_0, z_if_t (by decide), e954_9, z_if_f (by decide), e954_35, show hI (sI (sZ g Y) 1064 0 2) 1064 0 = 2 from hI_s1, z_if_t (by decide), e954_49, e954_50, gb_0, z_ki_ri, z_if_f (by decide)]
    exact .inr (⟨2, 5, rfl, rfl, (by omega)⟩)
