/-! AM, second form: ints and longs are integers in their range; a reference is 0 (null), the number (from 1 on) of a cell made since the law's entry, or from 4294967296 on something old -/
abbrev z_v : Type := Int ⊕ Int ⊕ Nat
/-- memory: kind and length of a cell; its ints, longs, references; cells made, slots made, the script's length, frames left for recursion, whether the twin is made -/
abbrev z_M : Type := (Nat → Nat × Nat) × (Nat → Nat → Int) × (Nat → Nat → Int) × (Nat → Nat → Nat) × Nat × Nat × Nat × Nat × Bool
def hK (h : z_M) (a : Nat) : Nat := (h.1 a).1
def hN (h : z_M) (a : Nat) : Nat := (h.1 a).2
def hI (h : z_M) (a i : Nat) : Int := h.2.1 a i
def hL (h : z_M) (a i : Nat) : Int := h.2.2.1 a i
def hP (h : z_M) (a i : Nat) : Nat := h.2.2.2.1 a i
def hZ (h : z_M) : Nat := h.2.2.2.2.1
def hS (h : z_M) : Nat := h.2.2.2.2.2.1
def hX (h : z_M) : Nat := h.2.2.2.2.2.2.1
def hG (h : z_M) : Nat := h.2.2.2.2.2.2.2.1
def hW (h : z_M) : Bool := h.2.2.2.2.2.2.2.2
def z_up {α : Type} (f : Nat → Nat → α) (a i : Nat) (v : α) : Nat → Nat → α := fun x j => if x = a ∧ j = i then v else f x j
def z_uz {α : Type} (f : Nat → Nat → α) (a : Nat) (v : α) : Nat → Nat → α := fun x j => if x = a then v else f x j
def sI (h : z_M) (a i : Nat) (v : Int) : z_M := (h.1, z_up h.2.1 a i v, h.2.2)
def sL (h : z_M) (a i : Nat) (v : Int) : z_M := (h.1, h.2.1, z_up h.2.2.1 a i v, h.2.2.2)
def sP (h : z_M) (a i : Nat) (v : Nat) : z_M := (h.1, h.2.1, h.2.2.1, z_up h.2.2.2.1 a i v, h.2.2.2.2)
/-- a new cell of kind k with n slots, all of them zero: its number is hZ h + 1 -/
def sN (h : z_M) (k n : Nat) : z_M := (fun x => if x = hZ h + 1 then (k, n) else h.1 x, z_uz h.2.1 (hZ h + 1) 0, z_uz h.2.2.1 (hZ h + 1) 0, z_uz h.2.2.2.1 (hZ h + 1) 0, hZ h + 1, hS h + n, h.2.2.2.2.2.2)
def sG (h : z_M) (g : Nat) : z_M := (h.1, h.2.1, h.2.2.1, h.2.2.2.1, h.2.2.2.2.1, h.2.2.2.2.2.1, h.2.2.2.2.2.2.1, g, h.2.2.2.2.2.2.2.2)
def sW (h : z_M) : z_M := (h.1, h.2.1, h.2.2.1, h.2.2.2.1, h.2.2.2.2.1, h.2.2.2.2.2.1, h.2.2.2.2.2.2.1, h.2.2.2.2.2.2.2.1, true)
abbrev z_O : Type := Option z_v ⊕ Nat
abbrev z_Z : Type := Option (z_O × z_M)
abbrev z_ls : Type := List (Option z_v)
abbrev z_S : Type := z_ls → List z_v → z_M → z_Z
abbrev z_J : Type := Nat → z_S
/-- handlers: kinds, row, mask -/
abbrev z_Hs : Type := List (List Nat × Nat × Nat)
abbrev z_op : Type := z_Hs → z_J → z_S → z_S
noncomputable section
def z_w (x : Int) : Int := Int.bmod x 4294967296
def z_wl (x : Int) : Int := Int.bmod x 18446744073709551616
def z_and (x y : Int) : Int := (Int32.ofInt x &&& Int32.ofInt y).toInt
def z_or (x y : Int) : Int := (Int32.ofInt x ||| Int32.ofInt y).toInt
def z_xor (x y : Int) : Int := (Int32.ofInt x ^^^ Int32.ofInt y).toInt
def z_shl (x y : Int) : Int := z_w (x * 2 ^ (y % 32).toNat)
def z_shr (x y : Int) : Int := x / 2 ^ (y % 32).toNat
def z_ushr (x y : Int) : Int := z_w (x % 4294967296 / 2 ^ (y % 32).toNat)
def z_div (x y : Int) : Int := z_w (Int.tdiv x y)
def z_rem (x y : Int) : Int := Int.tmod x y
def z_i8 (x : Int) : Int := Int.bmod x 256
def z_i16 (x : Int) : Int := Int.bmod x 65536
def z_land (x y : Int) : Int := (Int64.ofInt x &&& Int64.ofInt y).toInt
def z_lor (x y : Int) : Int := (Int64.ofInt x ||| Int64.ofInt y).toInt
def z_lxor (x y : Int) : Int := (Int64.ofInt x ^^^ Int64.ofInt y).toInt
def z_lshl (x y : Int) : Int := z_wl (x * 2 ^ (y % 64).toNat)
def z_lshr (x y : Int) : Int := x / 2 ^ (y % 64).toNat
def z_lushr (x y : Int) : Int := z_wl (x % 18446744073709551616 / 2 ^ (y % 64).toNat)
def z_ldiv (x y : Int) : Int := z_wl (Int.tdiv x y)
def z_lcmp (x y : Int) : Int := if y < x then 1 else if x = y then 0 else -1
def z_has : List Nat → Nat → Bool
  | [], _ => false
  | a :: l, t => Nat.beq a t || z_has l t
def z_nth : z_ls → Nat → Option z_v
  | [], _ => none
  | x :: _, 0 => x
  | _ :: r, i + 1 => z_nth r i
/-- a long whose second place is written is gone -/
def z_kl (i : Nat) (v : Option z_v) : Option z_v := match i, v with
  | 0, some (.inr (.inl _)) => none
  | _, v => v
def z_set : z_ls → Nat → Option z_v → z_ls
  | [], _, _ => []
  | _ :: r, 0, v => v :: r
  | y :: r, i + 1, v => z_kl i y :: z_set r i v
/-- what is dead is forgotten -/
def z_bit (m : Nat) (v : Option z_v) : Option z_v := match m % 2 with
  | 0 => none
  | _ => v
def z_msk : Nat → z_ls → z_ls
  | _, [] => []
  | m, v :: l => z_bit m v :: z_msk (m / 2) l
/-- it is of one of these kinds; an array of kind t with a place i -/
def z_isk (r : Nat) (h : z_M) (cs : List Nat) : Prop := z_has cs (hK h r) = true
def z_isa (r : Nat) (h : z_M) (t : Nat) (i : Int) : Prop := hK h r = t ∧ 0 ≤ i ∧ i < (hN h r : Int)
def z_isz (r : Nat) (h : z_M) (i : Int) : Prop := (hK h r = 1001 ∨ hK h r = 1002) ∧ 0 ≤ i ∧ i < (hN h r : Int)
def z_isr (r : Nat) (h : z_M) (i : Int) : Prop := 1100 ≤ hK h r ∧ 0 ≤ i ∧ i < (hN h r : Int)
def z_inb (i n : Int) : Prop := 0 ≤ i ∧ i < n
def z_01 (v : Int) : Prop := v = 0 ∨ v = 1
def z_sz (n : Int) : Prop := 0 ≤ n ∧ n ≤ 65536
/-- a cell made since, or null; one whose sameness is known -/
def z_new (r : Nat) : Prop := r < 4294967296
/-- one of n old constants from b on -/
def z_enr (b n r : Nat) : Prop := b ≤ r ∧ r < b + n
def z_cok (r : Nat) : Prop := r < 4294967296 ∨ z_enr 4294968296 5 r ∨ z_enr 4294968396 8 r ∨ z_enr 4294968496 10 r ∨ r = 4294969296
def z_g (p : Prop) (x : z_Z) : z_Z := match Classical.propDecidable p with
  | .isTrue _ => x
  | .isFalse _ => none
/-- behind a call: by the sort of its answer; what is thrown -/
def z_kv (x : z_Z) (f : z_M → z_Z) (g : Nat → z_M → z_Z) : z_Z := match x with
  | some (.inl none, h) => f h
  | some (.inr a, h) => g a h
  | _ => none
def z_ki (x : z_Z) (f : Int → z_M → z_Z) (g : Nat → z_M → z_Z) : z_Z := match x with
  | some (.inl (some (.inl v)), h) => f v h
  | some (.inr a, h) => g a h
  | _ => none
def z_kj (x : z_Z) (f : Int → z_M → z_Z) (g : Nat → z_M → z_Z) : z_Z := match x with
  | some (.inl (some (.inr (.inl v))), h) => f v h
  | some (.inr a, h) => g a h
  | _ => none
def z_kr (x : z_Z) (f : Nat → z_M → z_Z) (g : Nat → z_M → z_Z) : z_Z := match x with
  | some (.inl (some (.inr (.inr v))), h) => f v h
  | some (.inr a, h) => g a h
  | _ => none
def z_ex (a : Nat) (h : z_M) : z_Z := some (.inr a, h)
def z_rv (h : z_M) : z_Z := some (.inl none, h)
def z_ri (v : Int) (h : z_M) : z_Z := some (.inl (some (.inl v)), h)
def z_rl (v : Int) (h : z_M) : z_Z := some (.inl (some (.inr (.inl v))), h)
def z_rr (v : Nat) (h : z_M) : z_Z := some (.inl (some (.inr (.inr v))), h)
def z_if (p : Prop) (x y : z_Z) : z_Z := match Classical.propDecidable p with
  | .isTrue _ => x
  | .isFalse _ => y
/-- what is thrown: to the handler; out where there is none -/
def z_tx (J : z_J) (ls : z_ls) (a : Nat) (h : z_M) : z_Hs → z_Z
  | [] => none
  | (cs, t, m) :: r => z_if (z_isk a h cs) (J t (z_msk m ls) [.inr (.inr a)] h) (z_tx J ls a h r)
def z_th (J : z_J) (ls : z_ls) (a : Nat) (h : z_M) : z_Hs → z_Z
  | [] => z_ex a h
  | (cs, t, m) :: r => z_if (z_isk a h cs) (J t (z_msk m ls) [.inr (.inr a)] h) (z_tx J ls a h r)
/-! the instructions -/
def o_no : z_op := fun _ _ _ _ _ _ => none
def o_ic (v : Int) : z_op := fun _ _ k ls st h => k ls (.inl v :: st) h
def o_lc (v : Int) : z_op := fun _ _ k ls st h => k ls (.inr (.inl v) :: st) h
def o_rc (r : Nat) : z_op := fun _ _ k ls st h => k ls (.inr (.inr r) :: st) h
def o_ild (i : Nat) : z_op := fun _ _ k ls st h => match z_nth ls i with
  | some (.inl x) => k ls (.inl x :: st) h
  | _ => none
def o_lld (i : Nat) : z_op := fun _ _ k ls st h => match z_nth ls i with
  | some (.inr (.inl x)) => k ls (.inr (.inl x) :: st) h
  | _ => none
def o_rld (i : Nat) : z_op := fun _ _ k ls st h => match z_nth ls i with
  | some (.inr (.inr r)) => k ls (.inr (.inr r) :: st) h
  | _ => none
def o_ist (i : Nat) : z_op := fun _ _ k ls st h => match st with
  | .inl x :: st => k (z_set ls i (some (.inl x))) st h
  | _ => none
def o_lst (i : Nat) : z_op := fun _ _ k ls st h => match st with
  | .inr (.inl x) :: st => k (z_set (z_set ls (i + 1) none) i (some (.inr (.inl x)))) st h
  | _ => none
def o_rst (i : Nat) : z_op := fun _ _ k ls st h => match st with
  | .inr (.inr r) :: st => k (z_set ls i (some (.inr (.inr r)))) st h
  | _ => none
def o_inc (i : Nat) (c : Int) : z_op := fun _ _ k ls st h => match z_nth ls i with
  | some (.inl x) => k (z_set ls i (some (.inl (z_w (x + c))))) st h
  | _ => none
def o_b (f : Int → Int → Int) : z_op := fun _ _ k ls st h => match st with
  | .inl y :: .inl x :: st => k ls (.inl (f x y) :: st) h
  | _ => none
def o_u (f : Int → Int) : z_op := fun _ _ k ls st h => match st with
  | .inl x :: st => k ls (.inl (f x) :: st) h
  | _ => none
def o_bz (f : Int → Int → Int) : z_op := fun _ _ k ls st h => match st with
  | .inl y :: .inl x :: st => z_g (¬ y = 0) (k ls (.inl (f x y) :: st) h)
  | _ => none
def o_lb (f : Int → Int → Int) : z_op := fun _ _ k ls st h => match st with
  | .inr (.inl y) :: .inr (.inl x) :: st => k ls (.inr (.inl (f x y)) :: st) h
  | _ => none
def o_lbz (f : Int → Int → Int) : z_op := fun _ _ k ls st h => match st with
  | .inr (.inl y) :: .inr (.inl x) :: st => z_g (¬ y = 0) (k ls (.inr (.inl (f x y)) :: st) h)
  | _ => none
def o_lsh (f : Int → Int → Int) : z_op := fun _ _ k ls st h => match st with
  | .inl y :: .inr (.inl x) :: st => k ls (.inr (.inl (f x y)) :: st) h
  | _ => none
def o_i2l : z_op := fun _ _ k ls st h => match st with
  | .inl x :: st => k ls (.inr (.inl x) :: st) h
  | _ => none
def o_l2i : z_op := fun _ _ k ls st h => match st with
  | .inr (.inl x) :: st => k ls (.inl (z_w x) :: st) h
  | _ => none
def o_lcmp : z_op := fun _ _ k ls st h => match st with
  | .inr (.inl y) :: .inr (.inl x) :: st => k ls (.inl (z_lcmp x y) :: st) h
  | _ => none
/-- a value of one word -/
def z_1 (v : z_v) (x : z_Z) : z_Z := match v with
  | .inr (.inl _) => none
  | .inl _ => x
  | .inr (.inr _) => x
def o_dup : z_op := fun _ _ k ls st h => match st with
  | v :: st => z_1 v (k ls (v :: v :: st) h)
  | _ => none
def o_pop : z_op := fun _ _ k ls st h => match st with
  | v :: st => z_1 v (k ls st h)
  | _ => none
def o_pop2 : z_op := fun _ _ k ls st h => match st with
  | .inr (.inl _) :: st => k ls st h
  | _ => none
def o_dx1 : z_op := fun _ _ k ls st h => match st with
  | v :: w :: st => z_1 v (z_1 w (k ls (v :: w :: v :: st) h))
  | _ => none
def o_dx2 : z_op := fun _ _ k ls st h => match st with
  | v :: w :: u :: st => z_1 v (z_1 w (z_1 u (k ls (v :: w :: u :: v :: st) h)))
  | _ => none
def o_d2 : z_op := fun _ _ k ls st h => match st with
  | .inr (.inl x) :: st => k ls (.inr (.inl x) :: .inr (.inl x) :: st) h
  | v :: w :: st => z_1 v (z_1 w (k ls (v :: w :: v :: w :: st) h))
  | _ => none
/-- jumps: row and mask -/
def o_go (t m : Nat) : z_op := fun _ J _ ls st h => J t (z_msk m ls) st h
def o_if (c : Int → Prop) (t m : Nat) : z_op := fun _ J k ls st h => match st with
  | .inl x :: st => z_if (c x) (J t (z_msk m ls) st h) (k ls st h)
  | _ => none
def o_ii (c : Int → Int → Prop) (t m : Nat) : z_op := fun _ J k ls st h => match st with
  | .inl y :: .inl x :: st => z_if (c x y) (J t (z_msk m ls) st h) (k ls st h)
  | _ => none
def o_aa (c : Nat → Nat → Prop) (t m : Nat) : z_op := fun _ J k ls st h => match st with
  | .inr (.inr q) :: .inr (.inr r) :: st => z_g (z_cok q ∧ z_cok r) (z_if (c r q) (J t (z_msk m ls) st h) (k ls st h))
  | _ => none
def o_nl (c : Nat → Prop) (t m : Nat) : z_op := fun _ J k ls st h => match st with
  | .inr (.inr r) :: st => z_if (c r) (J t (z_msk m ls) st h) (k ls st h)
  | _ => none
/-- a switch: number, row, mask -/
def z_sw (J : z_J) (x : Int) (d m : Nat) (ls : z_ls) (st : List z_v) (h : z_M) : List (Int × Nat × Nat) → z_Z
  | (c, t, n) :: r => z_if (x = c) (J t (z_msk n ls) st h) (z_sw J x d m ls st h r)
  | [] => J d (z_msk m ls) st h
def o_sw (d m : Nat) (l : List (Int × Nat × Nat)) : z_op := fun _ J _ ls st h => match st with
  | .inl x :: st => z_sw J x d m ls st h l
  | _ => none
def o_gi (f : Nat) (cs : List Nat) : z_op := fun _ _ k ls st h => match st with
  | .inr (.inr r) :: st => z_g (z_isk r h cs) (k ls (.inl (hI h r f) :: st) h)
  | _ => none
def o_gl (f : Nat) (cs : List Nat) : z_op := fun _ _ k ls st h => match st with
  | .inr (.inr r) :: st => z_g (z_isk r h cs) (k ls (.inr (.inl (hL h r f)) :: st) h)
  | _ => none
def o_gp (f : Nat) (cs : List Nat) : z_op := fun _ _ k ls st h => match st with
  | .inr (.inr r) :: st => z_g (z_isk r h cs) (k ls (.inr (.inr (hP h r f)) :: st) h)
  | _ => none
def o_pi (f : Nat) (cs : List Nat) : z_op := fun _ _ k ls st h => match st with
  | .inl v :: .inr (.inr r) :: st => z_g (z_isk r h cs) (k ls st (sI h r f v))
  | _ => none
def o_pz (f : Nat) (cs : List Nat) : z_op := fun _ _ k ls st h => match st with
  | .inl v :: .inr (.inr r) :: st => z_g (z_isk r h cs ∧ z_01 v) (k ls st (sI h r f v))
  | _ => none
def o_pl (f : Nat) (cs : List Nat) : z_op := fun _ _ k ls st h => match st with
  | .inr (.inl v) :: .inr (.inr r) :: st => z_g (z_isk r h cs) (k ls st (sL h r f v))
  | _ => none
def o_pp (f : Nat) (cs : List Nat) : z_op := fun _ _ k ls st h => match st with
  | .inr (.inr v) :: .inr (.inr r) :: st => z_g (z_isk r h cs) (k ls st (sP h r f v))
  | _ => none
/-- a reference into the twin while it is being made -/
def o_pq (f : Nat) (cs : List Nat) : z_op := fun _ _ k ls st h => match st with
  | .inr (.inr v) :: .inr (.inr r) :: st => z_g (z_isk r h cs ∧ hW h = false) (k ls st (sP h r f v))
  | _ => none
/-- the twin, whose number is t: its ints; its arrays, by their numbers -/
def z_eqn (a b : Nat) (x : z_Z) : z_Z := match Nat.beq a b with
  | true => x
  | false => none
def o_ti (t f : Nat) : z_op := fun _ _ k ls st h => match st with
  | .inr (.inr r) :: st => z_eqn r t (k ls (.inl (hI h t f) :: st) h)
  | _ => none
def o_tp (t n : Nat) : z_op := fun _ _ k ls st h => match st with
  | .inr (.inr r) :: st => z_eqn r t (k ls (.inr (.inr n) :: st) h)
  | _ => none
def o_tw (t f : Nat) : z_op := fun _ _ k ls st h => match st with
  | .inl v :: .inr (.inr r) :: st => z_eqn r t (k ls st (sI h t f v))
  | _ => none
def o_tz (t f : Nat) : z_op := fun _ _ k ls st h => match st with
  | .inl v :: .inr (.inr r) :: st => z_eqn r t (z_g (z_01 v) (k ls st (sI h t f v)))
  | _ => none
def o_tal (n : Nat) (ln : Int) : z_op := fun _ _ k ls st h => match st with
  | .inl i :: .inr (.inr r) :: st => z_eqn r n (z_g (z_inb i ln) (k ls (.inl (hI h n i.toNat) :: st) h))
  | _ => none
def o_tll (n : Nat) (ln : Int) : z_op := fun _ _ k ls st h => match st with
  | .inl i :: .inr (.inr r) :: st => z_eqn r n (z_g (z_inb i ln) (k ls (.inr (.inl (hL h n i.toNat)) :: st) h))
  | _ => none
def o_tas (n : Nat) (ln : Int) : z_op := fun _ _ k ls st h => match st with
  | .inl v :: .inl i :: .inr (.inr r) :: st => z_eqn r n (z_g (z_inb i ln) (k ls st (sI h n i.toNat v)))
  | _ => none
def o_tzs (n : Nat) (ln : Int) : z_op := fun _ _ k ls st h => match st with
  | .inl v :: .inl i :: .inr (.inr r) :: st => z_eqn r n (z_g (z_inb i ln) (z_g (z_01 v) (k ls st (sI h n i.toNat v))))
  | _ => none
def o_tbs (n : Nat) (ln : Int) : z_op := fun _ _ k ls st h => match st with
  | .inl v :: .inl i :: .inr (.inr r) :: st => z_eqn r n (z_g (z_inb i ln) (k ls st (sI h n i.toNat (z_i8 v))))
  | _ => none
def o_tss (n : Nat) (ln : Int) : z_op := fun _ _ k ls st h => match st with
  | .inl v :: .inl i :: .inr (.inr r) :: st => z_eqn r n (z_g (z_inb i ln) (k ls st (sI h n i.toNat (z_i16 v))))
  | _ => none
def o_tls (n : Nat) (ln : Int) : z_op := fun _ _ k ls st h => match st with
  | .inr (.inl v) :: .inl i :: .inr (.inr r) :: st => z_eqn r n (z_g (z_inb i ln) (k ls st (sL h n i.toNat v)))
  | _ => none
def o_tln (n : Nat) (ln : Int) : z_op := fun _ _ k ls st h => match st with
  | .inr (.inr r) :: st => z_eqn r n (k ls (.inl ln :: st) h)
  | _ => none
/-- the script -/
def o_xal (n : Nat) : z_op := fun _ _ k ls st h => match st with
  | .inl i :: .inr (.inr r) :: st => z_eqn r n (z_g (z_inb i (hX h : Int)) (k ls (.inl (hI h n i.toNat) :: st) h))
  | _ => none
def o_xln (n : Nat) : z_op := fun _ _ k ls st h => match st with
  | .inr (.inr r) :: st => z_eqn r n (k ls (.inl (hX h : Int) :: st) h)
  | _ => none
/-- old arrays by their lists, when known -/
def o_cal (n : Nat) (l : List Int) : z_op := fun _ _ k ls st h => match st with
  | .inl i :: .inr (.inr r) :: st => z_eqn r n (z_g (z_inb i (l.length : Int)) (k ls (.inl (l.getD i.toNat 0) :: st) h))
  | _ => none
def o_cln (n : Nat) (ln : Int) : z_op := fun _ _ k ls st h => match st with
  | .inr (.inr r) :: st => z_eqn r n (k ls (.inl ln :: st) h)
  | _ => none
def o_ial (t : Nat) : z_op := fun _ _ k ls st h => match st with
  | .inl i :: .inr (.inr r) :: st => z_g (z_isa r h t i) (k ls (.inl (hI h r i.toNat) :: st) h)
  | _ => none
def o_bal : z_op := fun _ _ k ls st h => match st with
  | .inl i :: .inr (.inr r) :: st => z_g (z_isz r h i) (k ls (.inl (hI h r i.toNat) :: st) h)
  | _ => none
def o_lal : z_op := fun _ _ k ls st h => match st with
  | .inl i :: .inr (.inr r) :: st => z_g (z_isa r h 1003 i) (k ls (.inr (.inl (hL h r i.toNat)) :: st) h)
  | _ => none
def o_ral : z_op := fun _ _ k ls st h => match st with
  | .inl i :: .inr (.inr r) :: st => z_g (z_isr r h i) (k ls (.inr (.inr (hP h r i.toNat)) :: st) h)
  | _ => none
def o_ias : z_op := fun _ _ k ls st h => match st with
  | .inl v :: .inl i :: .inr (.inr r) :: st => z_g (z_isa r h 1000 i ∧ z_new r) (k ls st (sI h r i.toNat v))
  | _ => none
def o_sas : z_op := fun _ _ k ls st h => match st with
  | .inl v :: .inl i :: .inr (.inr r) :: st => z_g (z_isa r h 1004 i ∧ z_new r) (k ls st (sI h r i.toNat (z_i16 v)))
  | _ => none
/-- into booleans 0 or 1 alone; into bytes the low eight -/
def o_bas : z_op := fun _ _ k ls st h => match st with
  | .inl v :: .inl i :: .inr (.inr r) :: st => z_g (z_isz r h i ∧ z_new r ∧ (hK h r = 1002 ∨ z_01 v)) (k ls st (sI h r i.toNat (z_i8 v)))
  | _ => none
def o_las : z_op := fun _ _ k ls st h => match st with
  | .inr (.inl v) :: .inl i :: .inr (.inr r) :: st => z_g (z_isa r h 1003 i ∧ z_new r) (k ls st (sL h r i.toNat v))
  | _ => none
def o_ras (elc : Nat → List Nat) : z_op := fun _ _ k ls st h => match st with
  | .inr (.inr v) :: .inl i :: .inr (.inr r) :: st => z_g (z_isr r h i ∧ z_new r ∧ (v = 0 ∨ z_isk v h (elc (hK h r)))) (k ls st (sP h r i.toNat v))
  | _ => none
def o_len : z_op := fun _ _ k ls st h => match st with
  | .inr (.inr r) :: st => z_g (1000 ≤ hK h r) (k ls (.inl (hN h r : Int) :: st) h)
  | _ => none
def o_new (c n : Nat) : z_op := fun _ _ k ls st h => k ls (.inr (.inr (hZ h + 1)) :: st) (sN h c n)
def o_nar (c : Nat) : z_op := fun _ _ k ls st h => match st with
  | .inl n :: st => z_g (z_sz n) (k ls (.inr (.inr (hZ h + 1)) :: st) (sN h c n.toNat))
  | _ => none
def o_cc (cs : List Nat) : z_op := fun _ _ k ls st h => match st with
  | .inr (.inr r) :: st => z_g (r = 0 ∨ z_isk r h cs) (k ls (.inr (.inr r) :: st) h)
  | _ => none
def z_rep (n : Nat) : z_ls := match n with
  | 0 => []
  | n + 1 => none :: z_rep n
/-- values off the stack, as locals: sorts from the last to the first (1 int, 2 long, 3 reference) -/
def z_pop : List Nat → z_ls → List z_v → Option (z_ls × List z_v)
  | [], a, st => some (a, st)
  | 1 :: l, a, .inl v :: st => z_pop l (some (.inl v) :: a) st
  | 2 :: l, a, .inr (.inl v) :: st => z_pop l (some (.inr (.inl v)) :: none :: a) st
  | 3 :: l, a, .inr (.inr v) :: st => z_pop l (some (.inr (.inr v)) :: a) st
  | _, _, _ => none
/-- no more than eight values lie below -/
def z_l8 (st : List z_v) (x : z_Z) : z_Z := match Nat.ble (List.length st) 8 with
  | true => x
  | false => none
/-- behind a call: its answer (0 none, 1 int, 2 long, 3 reference) -/
def z_ret (rt : Nat) (x : z_Z) (H : z_Hs) (J : z_J) (k : z_S) (ls : z_ls) (st : List z_v) : z_Z := z_l8 st <| match rt with
  | 0 => z_kv x (fun h => k ls st h) (fun a h => z_th J ls a h H)
  | 1 => z_ki x (fun v h => k ls (.inl v :: st) h) (fun a h => z_th J ls a h H)
  | 2 => z_kj x (fun v h => k ls (.inr (.inl v) :: st) h) (fun a h => z_th J ls a h H)
  | _ => z_kr x (fun v h => k ls (.inr (.inr v) :: st) h) (fun a h => z_th J ls a h H)
/-- a call of row e, more locals p; static -/
def o_cs (e p rt : Nat) (l : List Nat) : z_op := fun H J k ls st h => match z_pop l (z_rep p) st with
  | some (a, st) => z_ret rt (J e a [] h) H J k ls st
  | none => none
/-- of a cell of one of these kinds -/
def o_cv (e p rt : Nat) (l cs : List Nat) : z_op := fun H J k ls st h => match z_pop l (z_rep p) st with
  | some (a, .inr (.inr r) :: st) => z_g (z_isk r h cs) (z_ret rt (J e (some (.inr (.inr r)) :: a) [] h) H J k ls st)
  | _ => none
/-- of the twin -/
def o_ct (t e p rt : Nat) (l : List Nat) : z_op := fun H J k ls st h => match z_pop l (z_rep p) st with
  | some (a, .inr (.inr r) :: st) => z_eqn r t (z_ret rt (J e (some (.inr (.inr t)) :: a) [] h) H J k ls st)
  | _ => none
/-- of what turns out to be the twin -/
def o_cw (t e p rt : Nat) (l : List Nat) : z_op := fun H J k ls st h => match z_pop l (z_rep p) st with
  | some (a, .inr (.inr r) :: st) => z_g (r = t ∧ hW h = true) (z_ret rt (J e (some (.inr (.inr t)) :: a) [] h) H J k ls st)
  | _ => none
/-- by the cell's kind: kind, row, locals -/
def z_dis (rt : Nat) (a : Nat → z_ls) (r : Nat) (H : z_Hs) (J : z_J) (k : z_S) (ls : z_ls) (st : List z_v) (h : z_M) : List (Nat × Nat × Nat) → z_Z
  | (c, e, p) :: l => z_if (hK h r = c) (z_ret rt (J e (some (.inr (.inr r)) :: a p) [] h) H J k ls st) (z_dis rt a r H J k ls st h l)
  | [] => none
def z_app (a : z_ls) (p : Nat) : z_ls := match a with
  | [] => z_rep p
  | x :: a => x :: z_app a p
def o_cd (rt : Nat) (l : List Nat) (ks : List (Nat × Nat × Nat)) : z_op := fun H J k ls st h => match z_pop l [] st with
  | some (a, .inr (.inr r) :: st) => z_dis rt (z_app a) r H J k ls st h ks
  | _ => none
/-- the one that calls itself: frames -/
def o_cr (e p : Nat) (l cs : List Nat) : z_op := fun H J k ls st h => match z_pop l (z_rep p) st with
  | some (a, .inr (.inr r) :: st) => z_l8 st <| z_g (z_isk r h cs ∧ 0 < hG h) (z_kv (J e (some (.inr (.inr r)) :: a) [] (sG h (hG h - 1))) (fun h' => k ls st (sG h' (hG h))) (fun a h' => z_th J ls a (sG h' (hG h)) H))
  | _ => none
/-- Object's constructor; a Throwable's own -/
def o_ob : z_op := fun _ _ k ls st h => match st with
  | .inr (.inr r) :: st => z_l8 st <| z_g (0 < r ∧ z_new r) (k ls st h)
  | _ => none
def o_tc (l cs : List Nat) : z_op := fun _ _ k ls st h => match z_pop l [] st with
  | some (_, .inr (.inr r) :: st) => z_l8 st <| z_g (z_isk r h cs ∧ hP h r 4 = 0) (k ls st h)
  | _ => none
/-- System.arraycopy of cells -/
def z_cpf {α : Type} (f : Nat → Nat → α) (s sp t dp n : Nat) : Nat → Nat → α := fun x j => if x = t ∧ dp ≤ j ∧ j < dp + n then f s (sp + (j - dp)) else f x j
def z_cpy (h : z_M) (s sp t dp n : Nat) : z_M := (h.1, z_cpf h.2.1 s sp t dp n, z_cpf h.2.2.1 s sp t dp n, z_cpf h.2.2.2.1 s sp t dp n, h.2.2.2.2)
def z_cpo (elc : Nat → List Nat) (h : z_M) (q r : Nat) (sp dp n : Int) : Prop := (1100 ≤ hK h q → ∀ i, i < n.toNat → hP h q (sp.toNat + i) = 0 ∨ z_isk (hP h q (sp.toNat + i)) h (elc (hK h r))) ∧ (z_new r ∧ z_new q) ∧ hK h q = hK h r ∧ (1000 ≤ hK h q ∧ ¬ hK h q = 1004) ∧ 0 ≤ sp ∧ 0 ≤ dp ∧ 0 ≤ n ∧ sp + n ≤ (hN h q : Int) ∧ dp + n ≤ (hN h r : Int)
def o_cpy (elc : Nat → List Nat) : z_op := fun _ _ k ls st h => match st with
  | .inl n :: .inl dp :: .inr (.inr r) :: .inl sp :: .inr (.inr q) :: st => z_l8 st <| z_g (z_cpo elc h q r sp dp n) (k ls st (z_cpy h q sp.toNat r dp.toNat n.toNat))
  | _ => none
/-- an enum's array, copied: kind, first constant, how many -/
def z_ef (h : z_M) (e n : Nat) : Nat → Nat → Nat := fun x i => if x = hZ h + 1 then (if i < n then e + i else 0) else hP h x i
def z_cln (h : z_M) (c e n : Nat) : z_M := (fun x => if x = hZ h + 1 then (c, n) else h.1 x, z_uz h.2.1 (hZ h + 1) 0, z_uz h.2.2.1 (hZ h + 1) 0, z_ef h e n, hZ h + 1, hS h + n, h.2.2.2.2.2.2)
def o_cl (v c e n : Nat) : z_op := fun _ _ k ls st h => match st with
  | .inr (.inr r) :: st => z_eqn r v (z_l8 st <| k ls (.inr (.inr (hZ h + 1)) :: st) (z_cln h c e n))
  | _ => none
/-- Arrays.copyOf of an array of references -/
def z_cf (h : z_M) (s m n : Nat) : Nat → Nat → Nat := fun x i => if x = hZ h + 1 then (if i < n ∧ i < m then hP h s i else 0) else hP h x i
def z_cpn (h : z_M) (s m n : Nat) : z_M := (fun x => if x = hZ h + 1 then (1100, n) else h.1 x, z_uz h.2.1 (hZ h + 1) 0, z_uz h.2.2.1 (hZ h + 1) 0, z_cf h s m n, hZ h + 1, hS h + n, h.2.2.2.2.2.2)
def o_cn : z_op := fun _ _ k ls st h => match st with
  | .inl n :: .inr (.inr r) :: st => z_l8 st <| z_g (z_isk r h [1100] ∧ z_sz n) (k ls (.inr (.inr (hZ h + 1)) :: st) (z_cpn h r (hN h r) n.toNat))
  | _ => none
/-- old constants, n of them from b on: numbers in them -/
def z_enl (b : Nat) (l : List Int) (r : Nat) : Int := l.getD (r - b) 0
def o_en (b n : Nat) (l : List Int) : z_op := fun _ _ k ls st h => match st with
  | .inr (.inr r) :: st => z_g (z_enr b n r) (k ls (.inl (z_enl b l r) :: st) h)
  | _ => none
/-- a call of one of n old constants from b on -/
def o_ce (b n e p rt : Nat) (l : List Nat) : z_op := fun H J k ls st h => match z_pop l (z_rep p) st with
  | some (a, .inr (.inr r) :: st) => z_g (z_enr b n r) (z_ret rt (J e (some (.inr (.inr r)) :: a) [] h) H J k ls st)
  | _ => none
/-- getClass of an array of objects: one number stands for its class object; that object as a constant, compared with what is there -/
def o_gc : z_op := fun _ _ k ls st h => match st with
  | .inr (.inr r) :: st => z_l8 st <| z_g (z_isk r h [1100]) (k ls (.inr (.inr 4294969297) :: st) h)
  | _ => none
def o_lm : z_op := fun _ _ k ls st h => match st with
  | .inr (.inr r) :: st => z_g (r = 4294969297) (k ls st h)
  | _ => none
/-- a Throwable's own fields are left free -/
def o_gt (cs : List Nat) : z_op := fun _ _ k ls st h => match st with
  | .inr (.inr r) :: st => z_g (z_isk r h cs) (k ls st h)
  | _ => none
def o_px (cs : List Nat) : z_op := fun _ _ k ls st h => match st with
  | .inr (.inr _) :: .inr (.inr r) :: st => z_g (z_isk r h cs) (k ls st h)
  | _ => none
/-- the place of an enum's constant in its list -/
def z_een (r : Nat) : Prop := z_enr 4294968396 8 r ∨ z_enr 4294968496 10 r
def z_eo (r : Nat) : Int := if r < 4294968496 then ((r - 4294968396 : Nat) : Int) else ((r - 4294968496 : Nat) : Int)
def o_eo : z_op := fun _ _ k ls st h => match st with
  | .inr (.inr r) :: st => z_g (z_een r) (k ls (.inl (z_eo r) :: st) h)
  | _ => none
/-- the twin is made: its arrays are where they should be -/
def z_ok (h : z_M) (t : Nat) : List (Nat × Nat × Nat × Nat) → Prop
  | (f, a, c, n) :: l => (hP h t f = a ∧ hK h a = c ∧ hN h a = n) ∧ z_ok h t l
  | [] => True
def o_mk (t c e p : Nat) (q : List (Nat × Nat × Nat × Nat)) : z_op := fun H J k ls st h => match st with
  | .inr (.inr r) :: st => z_g (r = t ∧ hK h t = c ∧ z_ok h t q) (z_ret 0 (J e (some (.inr (.inr t)) :: z_rep p) [] (sW h)) H J k ls st)
  | _ => none
def o_ir : z_op := fun _ _ _ _ st h => match st with
  | [.inl v] => z_ri v h
  | _ => none
def o_zr : z_op := fun _ _ _ _ st h => match st with
  | [.inl v] => z_g (z_01 v) (z_ri v h)
  | _ => none
def o_lr : z_op := fun _ _ _ _ st h => match st with
  | [.inr (.inl v)] => z_rl v h
  | _ => none
def o_rr : z_op := fun _ _ _ _ st h => match st with
  | [.inr (.inr v)] => z_rr v h
  | _ => none
def o_vr : z_op := fun _ _ _ _ st h => match st with
  | [] => z_rv h
  | _ => none
/-- what is thrown is of one of these kinds -/
def o_at (cs : List Nat) : z_op := fun H J _ ls st h => match st with
  | .inr (.inr a) :: _ => z_g (0 < a ∧ z_isk a h cs) (z_th J ls a h H)
  | _ => none
/-- a row of them -/
def z_blk (H : z_Hs) (J : z_J) : List z_op → z_S
  | [] => fun _ _ _ => none
  | f :: l => f H J (z_blk H J l)
end
