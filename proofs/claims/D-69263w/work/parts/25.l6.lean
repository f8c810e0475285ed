set_option maxRecDepth 100000
set_option linter.unusedVariables false
set_option maxHeartbeats 200000
/-! PLAIN, LINES: one sample is told -/
theorem LS_ixc {V : Nat → Nat → Prop} {t F W : Nat} {hc hc' ht : z_M} (p : z_ix V hc hc') (d : ∀ a i, z_wlc t F W a i → ¬ V a i) (L : z_LS t F W hc ht) : z_LS t F W hc' ht := sorry
theorem LS_ixt {V : Nat → Nat → Prop} {t F W : Nat} {hc ht ht' : z_M} (p : z_ix V ht ht') (d : ∀ a i, z_lt1 a i → ¬ V a i) (L : z_LS t F W hc ht) : z_LS t F W hc ht' ∧ z_PH ht' = z_PH ht := sorry
/-- the twin's ints when an error is told -/
def z_lt2 (n a i : Nat) : Prop := z_lt1 a i ∨ (a = 1110 ∧ i = n)
theorem mm_nn (e : Int) : 0 ≤ z_mm e := sorry
theorem p_err {hc ht : z_M} {t F W co cx sm : Nat} {m x y v s nr st rg : Int} (kc : hK hc cx = 53) (hm : 0 ≤ m ∧ m ≤ 3) (hx : 0 ≤ x ∧ x ≤ 11) (hy : 0 ≤ y ∧ y ≤ 11) (kco : hK hc co = 41) (psm : hP hc co 0 = sm) (ksm : hK hc sm = 1000) (nsm : hN hc sm = 144)
    (L : z_LS t F W hc ht) (Rc : R_cx cx m hc ht) (n1 : hI hc t 1 = nr) (n2 : hI hc t 2 = st) (n3 : hI hc t 3 = rg) (hn : 0 ≤ nr ∧ nr ≤ 3) (hst : st = 2 * nr + 1) (hrg : rg = (255 + 2 * nr) / (2 * nr + 1) + 1) (t97 : hI ht 1064 97 = nr) (t98 : hI ht 1064 98 = 255)
    (E2 : f916_0 m x y ht = z_ri v ht) (hv : 0 ≤ v ∧ v ≤ 255) (rs : hI hc sm (Int.toNat ((12 * y) + x)) = s) (ts : hI ht 1088 (Int.toNat (((144 * m) + (12 * y)) + x)) = s) (hs : 0 ≤ s ∧ s ≤ 255) (r : z_PH ht + 40 ≤ 41990) :
    ∃ e TL hm' gm, f1062_0 t co ((12 * y) + x) v cx hc = z_ri e hm' ∧ f942_0 m x y ht = f942_239 m e gm ∧ ((-300 ≤ e ∧ e ≤ 300) ∧ (-600 ≤ st * e ∧ st * e ≤ 600) ∧ st * rg ≤ 300 ∧ 0 ≤ st * rg) ∧ (0 ≤ TL ∧ TL ≤ 255) ∧
      max 0 (min 255 ((v + st * e) + (if -nr ≤ v + st * e then (if v + st * e ≤ 255 + nr then 0 else -(st * rg)) else st * rg))) = TL ∧ z_LS t F W hm' gm ∧ z_ix (z_wlc t F W) hc hm' ∧ z_ix (z_lt2 (Int.toNat (((144 * m) + (12 * y)) + x))) ht gm ∧ z_PH gm ≤ z_PH ht + 33 ∧ hI gm 1110 (Int.toNat (((144 * m) + (12 * y)) + x)) = TL := sorry
theorem c_go {hc hm : z_M} {t P AL CX co sm cx d F W : Nat} {m x y v e nr st rg TL A B : Int} (kt : hK hc t = 52) (pP : hP hc t 0 = P) (kP : hK hc P = 40) (pAL : hP hc P 0 = AL) (kAL : hK hc AL = 1109) (nAL : hN hc AL = 4) (pCX : hP hc t 7 = CX) (kCX : hK hc CX = 1110) (nCX : hN hc CX = 4)
    (pco : hP hc AL (Int.toNat m) = co) (pcx : hP hc CX (Int.toNat m) = cx) (kcx : hK hc cx = 53) (pd : hP hc cx 0 = d) (kd : hK hc d = 1000) (nd : hN hc d = 144) (hm0 : 0 ≤ m ∧ m ≤ 3) (hx : 0 ≤ x ∧ x ≤ 11) (hy : 0 ≤ y ∧ y ≤ 11) (dd : (¬ P = t ∧ ¬ P = W ∧ ¬ t = W) ∧ ¬ P = d ∧ d < 4294967296)
    (n1 : hI hc t 1 = nr) (n2 : hI hc t 2 = st) (n3 : hI hc t 3 = rg) (n4 : hI hc P 4 = 8) (n7 : hI hc P 7 = 64) (hn : 0 ≤ nr ∧ nr ≤ 3) (hst : 0 ≤ st ∧ st ≤ 7) (he : (-300 ≤ e ∧ e ≤ 300) ∧ (-600 ≤ st * e ∧ st * e ≤ 600) ∧ st * rg ≤ 300 ∧ 0 ≤ st * rg) (hv : 0 ≤ v ∧ v ≤ 255)
    (E1 : f1070_0 cx x y hc = z_ri v hc) (B1 : f1062_0 t co ((12 * y) + x) v cx hc = z_ri e hm) (Q1 : z_ix (z_wlc t F W) hc hm)
    (TQ : max 0 (min 255 ((v + st * e) + (if -nr ≤ v + st * e then (if v + st * e ≤ 255 + nr then 0 else -(st * rg)) else st * rg))) = TL)
    (G1 : f1072_0 cx e 64 (sI hm d (Int.toNat ((12 * y) + x)) TL) = z_rv (sI (sI (sI hm d (Int.toNat ((12 * y) + x)) TL) cx 2 A) cx 3 B)) :
    f1056_0 t m x y hc = z_rv (sI (sI (sI hm d (Int.toNat ((12 * y) + x)) TL) cx 2 A) cx 3 B) := sorry
/-! a scan -/
def S_sc (t k f n : Nat) (h : z_M) : Prop := S_tel t (657 + 62 * k) (680 + 62 * k) h ∧ (hP h t 0 = 658 + 62 * k ∧ hK h (658 + 62 * k) = 40 ∧ hP h (658 + 62 * k) 0 = 659 + 62 * k ∧ hK h (659 + 62 * k) = 1109 ∧ hN h (659 + 62 * k) = 4) ∧ (hP h t 7 = t + 1 ∧ hK h (t + 1) = 1110 ∧ hN h (t + 1) = 4) ∧
  (∀ c, c < 4 → hP h (659 + 62 * k) c = 661 + 62 * k + 2 * c ∧ hK h (661 + 62 * k + 2 * c) = 41 ∧ hP h (661 + 62 * k + 2 * c) 0 = 662 + 62 * k + 2 * c ∧ hK h (662 + 62 * k + 2 * c) = 1000 ∧ hN h (662 + 62 * k + 2 * c) = 144) ∧
  (∀ c, c < n → hP h (t + 1) (f + c) = t + 2 + 2 * c ∧ hK h (t + 2 + 2 * c) = 53 ∧ hP h (t + 2 + 2 * c) 0 = t + 3 + 2 * c ∧ hK h (t + 3 + 2 * c) = 1000 ∧ hN h (t + 3 + 2 * c) = 144) ∧ (k ≤ 2 ∧ 1272 < t ∧ t + 20 < 4294967296 ∧ f + n ≤ 4)
theorem S_sc_ix {V : Nat → Nat → Prop} {t k f n : Nat} {h h' : z_M} (p : z_ix V h h') (S : S_sc t k f n h) : S_sc t k f n h' := sorry
def R_k (t k e : Nat) (nr : Int) (hc ht : z_M) : Prop := (hI hc t 1 = nr ∧ hI hc t 2 = 2 * nr + 1 ∧ hI hc t 3 = (255 + 2 * nr) / (2 * nr + 1) + 1) ∧ (0 ≤ nr ∧ nr ≤ 3) ∧ (hI ht 1064 97 = nr ∧ hI ht 1064 98 = 255) ∧
  (hI hc (658 + 62 * k) 2 = hI ht 1064 45 ∧ 1 ≤ hI ht 1064 45 ∧ hI ht 1064 45 ≤ 12) ∧ (hI hc (658 + 62 * k) 3 = hI ht 1064 46 ∧ 1 ≤ hI ht 1064 46 ∧ hI ht 1064 46 ≤ 12) ∧
  hI hc (658 + 62 * k) 4 = 8 ∧ (hI hc (658 + 62 * k) 7 = 64 ∧ hI ht 1064 52 = 64) ∧ (hI hc (658 + 62 * k) 8 = 4 ∧ hI ht 1064 53 = 4) ∧ (hI hc (658 + 62 * k) 9 = hI ht 1064 54 ∧ 0 ≤ hI ht 1064 54 ∧ hI ht 1064 54 ≤ 12) ∧
  ∀ (c : Nat) (x y m : Int), c < e → m = (c : Int) → (0 ≤ x ∧ x < hI ht 1064 45) → (0 ≤ y ∧ y < hI ht 1064 46) → hI hc (662 + 62 * k + 2 * c) (Int.toNat ((12 * y) + x)) = hI ht 1088 (Int.toNat (((144 * m) + (12 * y)) + x)) ∧ 0 ≤ hI ht 1088 (Int.toNat (((144 * m) + (12 * y)) + x)) ∧ hI ht 1088 (Int.toNat (((144 * m) + (12 * y)) + x)) ≤ 255
def z_gc (t k a i : Nat) : Prop := (a = t ∧ 9 ≤ i ∧ i ≤ 11) ∨ (a = 657 + 62 * k ∧ i = 6) ∨ a = 680 + 62 * k ∨ (t + 2 ≤ a ∧ a ≤ t + 9)
def z_gt (a i : Nat) : Prop := (a = 1064 ∧ (i = 60 ∨ (100 ≤ i ∧ i ≤ 102) ∨ i = 99)) ∨ a = 1094 ∨ a = 1110 ∨ a = 1111 ∨ a = 1112
theorem R_k_ix {t k e : Nat} {nr : Int} {hc ht hc' ht' : z_M} (p : z_ix (z_gc t k) hc hc') (q : z_ix z_gt ht ht') (h0 : 1272 < t) (hk : k ≤ 2) (he : e ≤ 4) (R : R_k t k e nr hc ht) : R_k t k e nr hc' ht' := sorry
def R_v (t f n : Nat) (y : Int) (X : Nat → Int) (N : Int) (hc ht : z_M) : Prop := (0 ≤ hI ht 1064 99 ∧ hI ht 1064 99 ≤ y) ∧ ∀ c, c < n → (hI hc (t + 2 + 2 * c) 1 = hI ht 1064 99 ∧ (hI hc (t + 2 + 2 * c) 2 = hI ht 1111 (f + c) ∧ hI hc (t + 2 + 2 * c) 3 = hI ht 1112 (f + c)) ∧ (0 ≤ hI ht 1111 (f + c) ∧ hI ht 1111 (f + c) ≤ 31 * N) ∧ (0 ≤ hI ht 1112 (f + c) ∧ hI ht 1112 (f + c) ≤ N)) ∧ R_td (t + 3 + 2 * c) ((f + c : Nat) : Int) (hI ht 1064 99) y (X c) (hI ht 1064 45) hc ht
def z_st (t k f n e : Nat) (nr y : Int) (X : Nat → Int) (N : Int) (hc ht : z_M) : Prop := S_sc t k f n hc ∧ R_k t k e nr hc ht ∧ R_v t f n y X N hc ht ∧ z_LS t (657 + 62 * k) (680 + 62 * k) hc ht ∧ z_PH ht ≤ N
theorem p_go {hc ht : z_M} {t k f n e j : Nat} {m x y nr N : Int} {X : Nat → Int} (Z : z_st t k f n e nr y X N hc ht) (he : f + n ≤ e ∧ e ≤ 4) (hj : j < n) (hm : m = ((f + j : Nat) : Int)) (hx : 0 ≤ x ∧ x < hI ht 1064 45) (hy : 0 ≤ y ∧ y < hI ht 1064 46) (hX : X j = x) (hN : 8 ≤ N ∧ N ≤ 30000) :
    ∃ hc' ht', f1056_0 t m x y hc = z_rv hc' ∧ f942_0 m x y ht = z_rv ht' ∧ z_st t k f n e nr y (fun c => if c = j then x + 1 else X c) (N + 33) hc' ht' ∧ z_ix (z_gc t k) hc hc' ∧ z_ix z_gt ht ht' := sorry
