set_option maxRecDepth 100000
set_option linter.unusedVariables false
set_option maxHeartbeats 200000
/-! SHARES: lists -/
/-- a list behind a change of another one -/
theorem li_fr {m m' : z_M} {l l' : Nat} {xs ys : List Nat} (L1 : z_li m l ys) (L : z_li m l' xs) (A : z_la l m m') (n : ¬ l' = l) (hl : l' ≤ hZ m) (hz : hZ m < 4294967296) (d : hP m l' 1 = hP m l 1 → hP m l' 1 = 4294969296) : z_li m' l' xs ∧ hP m' l' 1 = hP m l' 1 := by
  obtain ⟨k, s, ex, c⟩ := L
  have K : ∀ a, a ≤ hZ m → hK m' a = hK m a := fun a ha => congrArg Prod.fst (A.1 a (.inl ha)).1
  have KN : ∀ a, a ≤ hZ m → hN m' a = hN m a := fun a ha => congrArg Prod.snd (A.1 a (.inl ha)).1
  have zz := A.2.1
  have na : ¬ (l' = hP m l 1 ∧ l' < 4294967296) := fun z => by
    rcases L1.2.2.2 with ⟨c1, _⟩ | ⟨e, c1, c2, _⟩
    · have q := z.1.trans c1; omega
    · rw [← z.1.trans c1, k] at c2; exact absurd c2 (by decide)
  have p : hP m' l' 1 = hP m l' 1 := (A.1 l' (.inl hl)).2.2.2 1 (fun z => n z.1) na
  refine ⟨⟨(K l' hl).trans k, ?_, fun x hx => ?_, ?_⟩, p⟩
  · exact ((A.1 l' (.inl hl)).2.2.1 2 (fun z => n z.1)).trans s
  · obtain ⟨u, v⟩ := ex x hx; exact ⟨by rw [K x v]; exact u, by omega⟩
  · rcases c with ⟨c1, c2⟩ | ⟨e, c1, c2, c3, c4, c5⟩
    · exact .inl ⟨p.trans c1, c2⟩
    · refine .inr ⟨e, p.trans c1, (K e c3.2).trans c2, ⟨c3.1, by omega⟩, by rw [KN e c3.2]; exact c4, fun i hi => ?_⟩
      refine ((A.1 e (.inl c3.2)).2.2.2 i (fun z => ?_) (fun z => ?_)).trans (c5 i hi)
      · rw [z.1, L1.1] at c2; exact absurd c2 (by decide)
      · have q := d (c1.trans z.1); rw [c1] at q; omega
/-- a need; a failing -/
def z_nd (hc ht : z_M) (n j : Nat) : Prop := (hK hc n = 78 ∧ n ≤ hZ hc) ∧ hI hc n 0 = hI ht 1255 j ∧ hI hc n 2 = hI ht 1257 j ∧ hP hc n 1 = 71 + 4 * (hI ht 1256 j).toNat ∧ (0 ≤ hI ht 1255 j ∧ hI ht 1255 j ≤ 19) ∧ (1 ≤ hI ht 1257 j ∧ hI ht 1257 j ≤ 20) ∧ (0 ≤ hI ht 1256 j ∧ hI ht 1256 j ≤ 7)
def z_fl (hc ht : z_M) (n j : Nat) : Prop := (hK hc n = 79 ∧ n ≤ hZ hc) ∧ hI hc n 0 = hI ht 1258 j ∧ hI hc n 1 = hI ht 1259 j ∧ hI hc n 2 = hI ht 1260 j ∧ hI hc n 3 = hI ht 1261 j ∧ (0 ≤ hI ht 1258 j ∧ hI ht 1258 j ≤ 15) ∧ (0 ≤ hI ht 1259 j ∧ hI ht 1259 j ≤ 7) ∧ (0 ≤ hI ht 1260 j ∧ hI ht 1260 j ≤ 19) ∧ (1 ≤ hI ht 1261 j ∧ hI ht 1261 j ≤ 9)
def z_bl (ns : Nat → List Nat) (fs : List Nat) (hc ht : z_M) : Prop := (∀ k, k < 8 → z_li hc (72 + 4 * k) (ns k) ∧ (ns k).length ≤ 6 ∧ hI ht 1254 k = ((ns k).length : Int) ∧ ∀ i (hi : i < (ns k).length), z_nd hc ht (ns k)[i] (6 * k + i)) ∧ (z_li hc 69 fs ∧ fs.length ≤ 8 ∧ hI ht 1064 355 = (fs.length : Int) ∧ ∀ i (hi : i < fs.length), z_fl hc ht fs[i] i) ∧
  (∀ k, k < 8 → hP hc (72 + 4 * k) 1 = hP hc 69 1 → hP hc 69 1 = 4294969296) ∧ ∀ k j, k < 8 → j < 8 → ¬ k = j → hP hc (72 + 4 * k) 1 = hP hc (72 + 4 * j) 1 → hP hc (72 + 4 * j) 1 = 4294969296
def R_bl (hc ht : z_M) : Prop := ∃ ns fs, z_bl ns fs hc ht
theorem li_pb {m : z_M} {l : Nat} {xs : List Nat} (L : z_li m l xs) : hP m l 1 ≤ hZ m ∨ hP m l 1 = 4294969296 := by
  rcases L.2.2.2 with ⟨c, _⟩ | ⟨e, c1, _, c3, _⟩
  · exact .inr c
  · exact .inl (by rw [c1]; exact c3.2)
theorem nd_fr {hc hc' ht ht' : z_M} {l n j : Nat} {ys : List Nat} (L1 : z_li hc l ys) (A : z_la l hc hc') (N : z_nd hc ht n j) (y : hI ht' 1255 j = hI ht 1255 j ∧ hI ht' 1256 j = hI ht 1256 j ∧ hI ht' 1257 j = hI ht 1257 j) : z_nd hc' ht' n j := by
  obtain ⟨⟨a1, a2⟩, a3, a4, a5, a6⟩ := N
  have nl : ¬ n = l := fun z => by rw [z, L1.1] at a1; exact absurd a1 (by decide)
  have q := A.1 n (.inl a2)
  have ne : ¬ (n = hP hc l 1 ∧ n < 4294967296) := fun z => by
    rcases L1.2.2.2 with ⟨c1, _⟩ | ⟨e, c1, c2, _⟩
    · have u := z.1.trans c1; omega
    · rw [← z.1.trans c1, a1] at c2; exact absurd c2 (by decide)
  unfold z_nd
  rw [y.1, y.2.1, y.2.2]
  exact ⟨⟨(congrArg Prod.fst q.1).trans a1, by have := A.2.1; omega⟩, (q.2.2.1 0 (fun z => nl z.1)).trans a3, (q.2.2.1 2 (fun z => nl z.1)).trans a4, (q.2.2.2 1 (fun z => nl z.1) ne).trans a5, a6⟩
theorem fl_fr {hc hc' ht ht' : z_M} {l n j : Nat} {ys : List Nat} (L1 : z_li hc l ys) (A : z_la l hc hc') (N : z_fl hc ht n j) (y : hI ht' 1258 j = hI ht 1258 j ∧ hI ht' 1259 j = hI ht 1259 j ∧ hI ht' 1260 j = hI ht 1260 j ∧ hI ht' 1261 j = hI ht 1261 j) : z_fl hc' ht' n j := by
  obtain ⟨⟨a1, a2⟩, a3, a4, a5, a6, a7⟩ := N
  have nl : ¬ n = l := fun z => by rw [z, L1.1] at a1; exact absurd a1 (by decide)
  have q := A.1 n (.inl a2)
  unfold z_fl
  rw [y.1, y.2.1, y.2.2.1, y.2.2.2]
  exact ⟨⟨(congrArg Prod.fst q.1).trans a1, by have := A.2.1; omega⟩, (q.2.2.1 0 (fun z => nl z.1)).trans a3, (q.2.2.1 1 (fun z => nl z.1)).trans a4, (q.2.2.1 2 (fun z => nl z.1)).trans a5, (q.2.2.1 3 (fun z => nl z.1)).trans a6, a7⟩
/-- the needs of one share are gone -/
theorem bl_clear {hc hc' ht ht' : z_M} {k : Nat} {ns : Nat → List Nat} {fs : List Nat} (hk : k < 8) (R : z_bl ns fs hc ht) (hz : 1272 ≤ hZ hc ∧ hZ hc < 4000000000) (L : z_li hc' (72 + 4 * k) []) (p : hP hc' (72 + 4 * k) 1 = hP hc (72 + 4 * k) 1 ∨ hP hc' (72 + 4 * k) 1 = hZ hc + 1) (A : z_la (72 + 4 * k) hc hc') (y1 : hI ht' 1254 k = 0) (fy : ∀ a i, ¬ (a = 1254 ∧ i = k) → ¬ (a = 1064 ∧ (i = 0 ∨ i = 342)) → hI ht' a i = hI ht a i) : R_bl hc' ht' := by
  obtain ⟨R1, R2, R3, R4⟩ := R
  obtain ⟨Lk, _⟩ := R1 k hk
  have o : ∀ j, j < 8 → ¬ j = k → z_li hc' (72 + 4 * j) (ns j) ∧ hP hc' (72 + 4 * j) 1 = hP hc (72 + 4 * j) 1 := fun j hj n =>
    li_fr Lk (R1 j hj).1 A (by omega) (by omega) (by omega) (fun e => by rw [e]; exact R4 j k hj hk n e)
  have o9 : z_li hc' 69 fs ∧ hP hc' 69 1 = hP hc 69 1 := li_fr Lk R2.1 A (by omega) (by omega) (by omega) (fun e => R3 k hk e.symm)
  refine ⟨fun j => if j = k then [] else ns j, fs, fun j hj => ?_, ⟨o9.1, R2.2.1, ?_, fun i hi => fl_fr Lk A (R2.2.2.2 i hi) ⟨fy _ _ (by omega) (by omega), fy _ _ (by omega) (by omega), fy _ _ (by omega) (by omega), fy _ _ (by omega) (by omega)⟩⟩, fun j hj e => ?_, fun j i hj hi n e => ?_⟩
  · have key : ∀ ys : List Nat, ys = (if j = k then [] else ns j) → z_li hc' (72 + 4 * j) ys ∧ ys.length ≤ 6 ∧ hI ht' 1254 j = (ys.length : Int) ∧ ∀ i (hi : i < ys.length), z_nd hc' ht' ys[i] (6 * j + i) := fun ys e => by
      by_cases z : j = k
      · subst z
        rw [if_pos rfl] at e
        subst e
        exact ⟨L, by decide, y1, fun i hi => absurd hi (by simp)⟩
      · rw [if_neg z] at e
        subst e
        obtain ⟨u1, u2, u3, u4⟩ := R1 j hj
        exact ⟨(o j hj z).1, u2, (fy _ _ (by omega) (by omega)).trans u3, fun i hi => nd_fr Lk A (u4 i hi) ⟨fy _ _ (by omega) (by omega), fy _ _ (by omega) (by omega), fy _ _ (by omega) (by omega)⟩⟩
    exact key _ rfl
  · exact (fy _ _ (by omega) (by omega)).trans R2.2.2.1
  · rw [o9.2] at e ⊢
    by_cases z : j = k
    · subst z
      rcases p with p | p
      · exact R3 j hj (p.symm.trans e)
      · have b := li_pb R2.1; rw [p] at e; omega
    · rw [(o j hj z).2] at e; exact R3 j hj e
  · by_cases z : i = k
    · subst z
      rw [(o j hj (fun q => n q)).2] at e
      rcases p with p | p
      · rw [p] at e ⊢; exact R4 j i hj hi n e
      · have b := li_pb (R1 j hj).1; rw [p] at e; omega
    · rw [(o i hi z).2] at e ⊢
      by_cases z2 : j = k
      · subst z2
        rcases p with p | p
        · rw [p] at e; exact R4 j i hj hi n e
        · have b := li_pb (R1 i hi).1; rw [p] at e; omega
      · rw [(o j hj z2).2] at e; exact R4 j i hj hi n e
def Q_k_free (h g : z_M) (k : Int) (X : Nat → Nat → Int) (Y : Nat → Nat → Int) (x_ y_ : z_Z) : Prop := (∃ (v : Int) (m1 : z_M) (r : Nat) (Y1 : Nat → Nat → Int), (x_ = z_ri 0 (sL m1 1272 0 v)) ∧ (y_ = z_ri v (sZ g Y1)) ∧ (Y1 1064 0 = 0) ∧ (R_bl m1 (sZ g Y1)) ∧ (∃ j : Nat, j < 8 ∧ r = 72 + 4 * j) ∧ (z_la r (sZ h X) m1) ∧ (∀ a i : Nat, ¬ ((a = 1064 ∧ i = 0) ∨ (a = 1064 ∧ i = 342) ∨ a = 1254) → Y1 a i = Y a i)) ∨ (∃ (c : Int) (K : Nat), (x_ = z_ri c (sN (sZ h X) K 6)) ∧ (y_ = z_ri 0 (sI (sI (sZ g Y) 1064 342 c) 1064 0 c)) ∧ (1 ≤ c))
set_option maxHeartbeats 4000000 in
theorem k_free {h g : z_M} {k : Int} {X : Nat → Nat → Int} {Y : Nat → Nat → Int} (S : S0 h) (ou : hK h 1272 = 1003 ∧ hN h 1272 = 1) (hz : 1272 ≤ hZ h ∧ hZ h < 4000000000) (Rl : R_bl (sZ h X) (sZ g Y)) : Q_k_free h g k X Y (f72_0 1 k 1272 (sZ h X)) (f870_0 k (sZ g Y)) := by
  obtain ⟨r71, er71⟩ : ∃ r : Nat, r = 71 + 4 * Int.toNat k := ⟨_, rfl⟩
  obtain ⟨r72, er72⟩ : ∃ r : Nat, r = 72 + 4 * Int.toNat k := ⟨_, rfl⟩
  rw [e72_0, gk1 (by exact (sk S 1)), e131_0, gk1 (by exact (sk S 1)), show hP (sZ h X) 1 18 = 68 from sp S 1 18 68, gk1 (by exact (sk S 68)), e406_0, gk1 (by exact (sk S 68)), show f413_0 68 k (sZ h X) = z_if (0 ≤ k ∧ k ≤ 7) (z_rr r71 (sZ h X)) (z_ex (hZ (sZ h X) + 1) (sN (sZ h X) 2 6)) from c_shar S er71]
  by_cases q1 : (0 ≤ k) ∧ (k ≤ 7)
  · obtain ⟨kr71, kr72, pr71⟩ := s_shr S er71 er72 (show 0 ≤ k ∧ k ≤ 7 by omega)
    have hrr71 : 71 ≤ r71 ∧ r72 ≤ 100 ∧ r72 = r71 + 1 := by omega
    obtain ⟨ns, fs, Rl2⟩ := id Rl
    have Lk := (Rl2.1 (Int.toNat k) (by omega)).1
    rw [← er72] at Lk
    obtain ⟨n, hn⟩ : ∃ n : Int, ((ns (Int.toNat k)).length : Int) = n := ⟨_, rfl⟩
    have ckv : Y 1254 (Int.toNat k) = n := by rw [← hn]; exact (Rl2.1 (Int.toNat k) (by omega)).2.2.1
    obtain ⟨m8, C8, L8, P8, A8⟩ := li_clear Lk hz
    have ou_m8 : hK m8 1272 = 1003 ∧ hN m8 1272 = 1 := by have q_ := (A8.1 1272 (.inl (show 1272 ≤ hZ h by omega))).1; exact ⟨(congrArg Prod.fst q_).trans ou.1, (congrArg Prod.snd q_).trans ou.2⟩
    have kr71_m8 : hK m8 r71 = 27 := (congrArg Prod.fst (A8.1 r71 (.inl (show r71 ≤ hZ h by omega))).1).trans kr71
    rw [z_if_t q1, z_kr_rr, gk1 (by exact kr71), show hP (sZ h X) r71 1 = r72 from pr71, gk1 (by exact kr72), show f18_0 r72 (sZ h X) = z_ri n (sZ h X) from by rw [li_size Lk, hn], z_ki_ri, gk1 (by exact kr71), show hP (sZ h X) r71 1 = r72 from pr71, gk1 (by exact kr72), C8, z_kv_rv, z_ki_ri, z_ki_ri, gian_n (n := 1) (by exact ou_m8.1) (by exact ou_m8.2) (by omega) (by omega) (by omega), show Int.toNat 0 = 0 from rfl, e72_9, e72_15, e870_0, e749_0, t_isShare _ _, z_ki_ri, if_bi, z_if_t q1, e749_14, show hI (sI (sZ g Y) 1064 342 0) 1064 342 = 0 from hI_s1, z_if_t (by decide), e749_26, gin (by omega) (by omega), gin (by omega) (by omega), z_ki_ri, show hI (sI (sZ g Y) 1064 342 0) 1254 (Int.toNat k) = hI (sZ g Y) 1254 (Int.toNat k) from hI_s0 (fun z => absurd z.1 (by decide)), show hI (sZ g Y) 1254 (Int.toNat k) = Y 1254 (Int.toNat k) from rfl, show Y 1254 (Int.toNat k) = n from ckv, show hI (sI (sI (sZ g Y) 1064 342 0) 1254 (Int.toNat k) 0) 1064 342 = hI (sI (sZ g Y) 1064 342 0) 1064 342 from hI_s0 (fun z => absurd z.1 (by decide)), show hI (sI (sZ g Y) 1064 342 0) 1064 342 = 0 from hI_s1]
    exact .inl ⟨n, m8, r72, (z_up (z_up (z_up Y 1064 342 0) 1254 (Int.toNat k) 0) 1064 0 0), rfl, rfl, (by simp (disch := first | decide | omega) only [true_and, and_true, or_true, true_or, up_a, up_i, up_1]; first | done | omega), (by subst er72; exact bl_clear (k := Int.toNat k) (by omega) Rl2 hz L8 P8 A8 (show (z_up (z_up (z_up Y 1064 342 0) 1254 (Int.toNat k) 0) 1064 0 0) 1254 (Int.toNat k) = 0 by simp (disch := first | decide | omega) only [up_a, up_i, up_1]) (fun a i u w => (show (z_up (z_up (z_up Y 1064 342 0) 1254 (Int.toNat k) 0) 1064 0 0) a i = Y a i by rw [up_n (fun z => w ⟨z.1, .inl z.2⟩), up_n u, up_n (fun z => w ⟨z.1, .inr z.2⟩)]))), (⟨Int.toNat k, by omega, er72⟩), (A8), (fun a i w => by simp (disch := omega) only [up_n])⟩
  · rw [z_if_f q1, z_kr_ex, z_ki_ex, z_ki_ex, nq1 rfl, e72_12, e870_0, e749_0, t_isShare _ _, z_ki_ri, if_bi, z_if_f q1, e749_13, e749_14, show hI (sI (sZ g Y) 1064 342 1) 1064 342 = 1 from hI_s1, z_if_f (by decide), z_ki_ri, show hI (sI (sZ g Y) 1064 342 1) 1064 342 = 1 from hI_s1]
    exact .inr (⟨1, 2, rfl, rfl, (by omega)⟩)
