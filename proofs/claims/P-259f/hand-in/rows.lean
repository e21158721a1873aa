section
/-! rows taken from kit/rows (a starting text): stores, branches by naturals, casts, bits, unsigned longs -/
theorem pk_us {f : Nat → Int32} {k : Nat} {x : Int32} : upd f k x k = x := if_pos rfl
theorem pk_un {f : Nat → Int32} {k j : Nat} {x : Int32} (h : j ≠ k) : upd f k x j = f j := if_neg h
theorem pk_uLs {f : Nat → Int64} {k : Nat} {x : Int64} : vp_updL f k x k = x := if_pos rfl
theorem pk_uLn {f : Nat → Int64} {k j : Nat} {x : Int64} (h : j ≠ k) : vp_updL f k x j = f j := if_neg h
theorem pk_mul (a b : Nat) : nI a * nI b = nI (a * b) := (Int32.ofNat_mul a b).symm
theorem pk_ix (x : Int32) {n : Nat} (hn : n < 2 ^ 31) : x < 0 ∨ nI n ≤ x ∨ ∃ j : Nat, j < n ∧ x = nI j := by
  by_cases h : x < 0
  · exact Or.inl h
  · obtain ⟨j, hj, rfl⟩ := nI_of h
    by_cases h2 : j < n
    · exact Or.inr (Or.inr ⟨j, h2, rfl⟩)
    · exact Or.inr (Or.inl (nI_le (by omega) hj))
theorem pk_le {x y : Int32} {A B : Prop} (a b : Nat) (f : a ≤ b → A) (g : b < a → B) (hx : x = nI a := by rfl) (hy : y = nI b := by rfl) (ha : a < 2 ^ 31 := by omega) (hb : b < 2 ^ 31 := by omega) : (x ≤ y → A) ∧ (¬ x ≤ y → B) := by
  subst hx hy
  rw [nI_leI ha hb]
  exact ⟨f, fun z => g (by omega)⟩
theorem pk_lt {x y : Int32} {A B : Prop} (a b : Nat) (f : a < b → A) (g : b ≤ a → B) (hx : x = nI a := by rfl) (hy : y = nI b := by rfl) (ha : a < 2 ^ 31 := by omega) (hb : b < 2 ^ 31 := by omega) : (x < y → A) ∧ (¬ x < y → B) := by
  subst hx hy
  rw [nI_ltI ha hb]
  exact ⟨f, fun z => g (by omega)⟩
theorem pk_eq {x y : Int32} {A B : Prop} (a b : Nat) (f : a = b → A) (g : a ≠ b → B) (hx : x = nI a := by rfl) (hy : y = nI b := by rfl) (ha : a < 2 ^ 31 := by omega) (hb : b < 2 ^ 31 := by omega) : (x = y → A) ∧ (¬ x = y → B) := by
  subst hx hy
  rw [nI_eq ha hb]
  exact ⟨f, g⟩
theorem pk_in {x : Int32} (n N : Nat) (h : n < N) (hx : x = nI n := by rfl) (hN : N < 2 ^ 31 := by omega) : vp_in x N := by
  subst hx
  exact vp_in_nI h hN
theorem pk_cl {x : Int32} (n : Nat) (hx : x = nI n := by rfl) (h : n < 2 ^ 31 := by omega) : x.toNatClampNeg = n := by
  subst hx
  exact nI_clamp h
theorem pk_tn {n : Nat} (h : n < 2 ^ 32) : (nI n).toBitVec.toNat = n := Nat.mod_eq_of_lt h
theorem pk_charN {q : Nat} (hq : q < 65536) : narrow .char (.int (nI q)) = .int (nI q) ∧ fits .char (.int (nI q)) = true := by
  constructor
  · have e : (nI q).toUInt32.toUInt16.toUInt32.toInt32 = nI q := by
      apply Int32.toBitVec_inj.mp
      apply BitVec.eq_of_toNat_eq
      show (nI q).toUInt32.toUInt16.toUInt32.toNat = q % 2 ^ 32
      rw [UInt16.toNat_toUInt32, UInt32.toNat_toUInt16, show (nI q).toUInt32.toNat = q % 2 ^ 32 from rfl]
      omega
    exact congrArg Value.int e
  · have a : (0 : Int32) ≤ nI q := nI_pos' (by omega)
    have b : nI q ≤ 65535 := nI_le (b := 65535) (by omega) (by decide)
    show (decide ((0 : Int32) ≤ nI q) && decide (nI q ≤ 65535)) = true
    rw [decide_eq_true a, decide_eq_true b]
    rfl
theorem pk_char (x : Int32) : (x.toUInt32 % 65536).toInt32 = nI (x.toBitVec.toNat % 65536) := by
  apply Int32.toBitVec_inj.mp
  apply BitVec.eq_of_toNat_eq
  rw [pk_tn (by omega)]
  show (x.toUInt32 % 65536).toNat = _
  rw [UInt32.toNat_mod]
  rfl
theorem pk_nc (x : Int32) : narrow .char (.int (x.toUInt32 % 65536).toInt32) = .int (x.toUInt32 % 65536).toInt32 := by
  rw [pk_char]
  exact (pk_charN (Nat.mod_lt _ (by decide))).1
theorem pk_vb (z : Int32) : vp_nar .byte z.toInt8.toInt32 = z.toInt8.toInt32 := by rw [vp_nar_byte]; simp
theorem pk_vs (z : Int32) : vp_nar .short z.toInt16.toInt32 = z.toInt16.toInt32 := by rw [vp_nar_short]; simp
theorem pk_vc (z : Int32) : vp_nar .char (z.toUInt32 % 65536).toInt32 = (z.toUInt32 % 65536).toInt32 := Value.int.inj (pk_nc z)
theorem em_w (v : Int32) : ∃ w : Nat, w < 65536 ∧ (v.toUInt32 % 65536).toInt32 = nI w ∧ v &&& 65535 = nI w := by
  have hr := lw_u16_r v
  have h0 : (0 : Int32).toInt = 0 := by decide
  obtain ⟨w, h1, h2⟩ := nI_of (x := lw_u16 v) (by rw [Int32.lt_iff_toInt_lt]; omega)
  have h3 : (v.toUInt32 % 65536).toInt32 = nI w := h2
  rw [h2, nI_toInt h1] at hr
  exact ⟨w, by omega, h3, by rw [← lg_i2c_mask, ← lg_i2c_nf, h3]⟩
def bt (x : Int32) (i : Nat) : Bool := x.toBitVec.getLsbD i
theorem b_ext {x y : Int32} (h : ∀ i, i < 32 → bt x i = bt y i) : x = y := Int32.toBitVec_inj.mp (BitVec.eq_of_getLsbD_eq (fun i hi => h i hi))
theorem b_or (x y : Int32) (i : Nat) : bt (x ||| y) i = (bt x i || bt y i) := by unfold bt; rw [Int32.toBitVec_or, BitVec.getLsbD_or]
theorem b_and (x y : Int32) (i : Nat) : bt (x &&& y) i = (bt x i && bt y i) := by unfold bt; rw [Int32.toBitVec_and, BitVec.getLsbD_and]
def uN (x : Int64) : Nat := x.toUInt64.toNat
theorem uN_lt (x : Int64) : uN x < 18446744073709551616 := x.toUInt64.toNat_lt
theorem uN_inj {x y : Int64} (h : uN x = uN y) : x = y := congrArg UInt64.toInt64 (UInt64.toNat_inj.mp h)
theorem uN_add (x y : Int64) : uN (x + y) = (uN x + uN y) % 18446744073709551616 := by
  show (x.toUInt64 + y.toUInt64).toNat = _
  exact UInt64.toNat_add _ _
theorem uN_mul (x y : Int64) : uN (x * y) = (uN x * uN y) % 18446744073709551616 := by
  show (x.toUInt64 * y.toUInt64).toNat = _
  exact UInt64.toNat_mul _ _
theorem uN_shr (x : Int64) (s : UInt64) : uN (x.toUInt64 >>> s).toInt64 = uN x / 2 ^ (s.toNat % 64) := by
  show (x.toUInt64 >>> s).toNat = _
  rw [UInt64.toNat_shiftRight, Nat.shiftRight_eq_div_pow]
  rfl
theorem uN_s32 (x : Int64) : uN (x.toUInt64 >>> ((32 : Int32).toInt64.toUInt64 &&& Int64.toUInt64 63)).toInt64 = uN x / 4294967296 := by
  have h : ((32 : Int32).toInt64.toUInt64 &&& Int64.toUInt64 63).toNat % 64 = 32 := by decide
  rw [uN_shr, h]
theorem uN_lo (x : Int64) : uN (x &&& 4294967295) = uN x % 4294967296 := by
  show (x.toUInt64 &&& Int64.toUInt64 4294967295).toNat = _
  rw [UInt64.toNat_and]
  exact Nat.and_two_pow_sub_one_eq_mod _ 32
theorem uN_int (x : Int64) : x.toInt = if 2 * uN x < 18446744073709551616 then (uN x : Int) else (uN x : Int) - 18446744073709551616 := BitVec.toInt_eq_toNat_cond _
end
section
/-! numbers: the package key two ways, the masks, the short's sign bit -/
theorem mp_uNi (b : Int32) : (uN b.toInt64 : Int) = if b.toInt < 0 then b.toInt + 18446744073709551616 else b.toInt := by
  have h := uN_int b.toInt64
  rw [Int32.toInt_toInt64] at h
  have h2 := uN_lt b.toInt64
  have h3 := b.le_toInt
  have h4 := b.toInt_lt
  split at h <;> split <;> omega
theorem mp_shl32 (x : Int64) : uN (x <<< ((32 : Int32).toInt64 &&& 63)) = (uN x * 4294967296) % 18446744073709551616 := by
  have h : (((32 : Int32).toInt64 &&& 63).toBitVec.smod 64).toNat = 32 := by decide
  show (x.toBitVec <<< (((32 : Int32).toInt64 &&& 63).toBitVec.smod 64).toNat).toNat = _
  rw [h, BitVec.toNat_shiftLeft, Nat.shiftLeft_eq]
  rfl
theorem mp_or (x y : Int64) : uN (x ||| y) = uN x ||| uN y := by
  show (x.toUInt64 ||| y.toUInt64).toNat = _
  exact UInt64.toNat_or _ _
theorem mp_orN {a b : Nat} (hb : b < 4294967296) : (a * 4294967296) % 18446744073709551616 ||| b = (a * 4294967296) % 18446744073709551616 + b := by
  have e : (a * 4294967296) % 18446744073709551616 = (a % 4294967296) <<< 32 := by
    rw [Nat.shiftLeft_eq]; omega
  rw [e]
  exact (Nat.shiftLeft_add_eq_or_of_lt (show b < 2 ^ 32 by omega) _).symm
theorem mp_pkgX (a b : Int32) : uN ((a.toInt64 <<< ((32 : Int32).toInt64 &&& 63)) ||| (b.toInt64 &&& 4294967295)) = (uN a.toInt64 * 4294967296) % 18446744073709551616 + uN b.toInt64 % 4294967296 := by
  rw [mp_or, mp_shl32, uN_lo, mp_orN (Nat.mod_lt _ (by decide))]
theorem mp_pkgY (a : Int32) (x : Int64) (h : uN x < 4294967296) : uN (a.toInt64 * 4294967296 + x) = (uN a.toInt64 * 4294967296) % 18446744073709551616 + uN x := by
  rw [uN_add, uN_mul, show uN 4294967296 = 4294967296 from by decide]
  generalize uN a.toInt64 = A
  generalize uN x = B at *
  omega
theorem mp_low1 (b : Int32) (h : 0 ≤ b) : uN b.toInt64 = uN b.toInt64 % 4294967296 := by
  have e := mp_uNi b
  have h4 := b.toInt_lt
  rw [Int32.le_iff_toInt_le, show (0 : Int32).toInt = 0 from by decide] at h
  rw [if_neg (by omega)] at e
  omega
theorem mp_low2 (b : Int32) (h : ¬ 0 ≤ b) : uN (b.toInt64 + 4294967296) = uN b.toInt64 % 4294967296 := by
  have e := mp_uNi b
  have h4 := b.le_toInt
  rw [Int32.le_iff_toInt_le, show (0 : Int32).toInt = 0 from by decide] at h
  rw [if_pos (by omega)] at e
  rw [uN_add, show uN 4294967296 = 4294967296 from by decide]
  omega
theorem mp_pkg1 (a b : Int32) (h : 0 ≤ b) : a.toInt64 * 4294967296 + b.toInt64 = (a.toInt64 <<< ((32 : Int32).toInt64 &&& 63)) ||| (b.toInt64 &&& 4294967295) := by
  have e := mp_low1 b h
  apply uN_inj
  rw [mp_pkgX, mp_pkgY _ _ (by rw [e]; exact Nat.mod_lt _ (by decide)), ← e]
theorem mp_pkg2 (a b : Int32) (h : ¬ 0 ≤ b) : a.toInt64 * 4294967296 + (b.toInt64 + 4294967296) = (a.toInt64 <<< ((32 : Int32).toInt64 &&& 63)) ||| (b.toInt64 &&& 4294967295) := by
  have e := mp_low2 b h
  apply uN_inj
  rw [mp_pkgX, mp_pkgY _ _ (by rw [e]; exact Nat.mod_lt _ (by decide)), e]
theorem mp_lowT (z : Int64) : z.toInt32.toBitVec.toNat = uN z % 4294967296 := by
  rw [Int64.toBitVec_toInt32, BitVec.signExtend_eq_setWidth_of_le _ (by decide), BitVec.toNat_setWidth]
  rfl
theorem mp_lowI (x y : Int64) : x.toInt32 = y.toInt32 ↔ uN x % 4294967296 = uN y % 4294967296 := by
  constructor
  · intro h
    rw [← mp_lowT, ← mp_lowT, h]
  · intro h
    apply Int32.toBitVec_inj.mp
    apply BitVec.eq_of_toNat_eq
    rw [mp_lowT, mp_lowT, h]
theorem mp_key {x y : Int64} (h1 : ((x.toUInt64 >>> ((32 : Int32).toInt64.toUInt64 &&& Int64.toUInt64 63)).toInt64).toInt32 = ((y.toUInt64 >>> ((32 : Int32).toInt64.toUInt64 &&& Int64.toUInt64 63)).toInt64).toInt32) (h2 : x.toInt32 = y.toInt32) : x = y := by
  rw [mp_lowI] at h1 h2
  rw [uN_s32, uN_s32] at h1
  apply uN_inj
  have h3 := uN_lt x
  have h4 := uN_lt y
  omega
theorem mp_msk (a b c : Int32) (e : c = a ||| b) (w : Int32) : w &&& c = 0 ↔ w &&& a = 0 ∧ w &&& b = 0 := by
  have e2 : w &&& c = (w &&& a) ||| (w &&& b) := by
    apply b_ext
    intro i hi
    rw [e, b_or, b_and, b_and, b_and, b_or]
    exact Bool.and_or_distrib_left _ _ _
  rw [e2, Int32.or_eq_zero_iff]
theorem mp_1032 (w : Int32) : w &&& 1032 = 0 ↔ w &&& 8 = 0 ∧ w &&& 1024 = 0 := mp_msk 8 1024 1032 (by decide) w
theorem mp_5 (w : Int32) : w &&& 5 = 0 ↔ w &&& 1 = 0 ∧ w &&& 4 = 0 := mp_msk 1 4 5 (by decide) w
theorem mp_or64 (w : Int32) : ¬ (w ||| 64) &&& 64 = 0 := by
  have e : (w ||| 64) &&& 64 = 64 := by
    apply b_ext
    intro i hi
    rw [b_and, b_or]
    cases bt w i <;> cases bt 64 i <;> rfl
  rw [e]
  decide
/-- a short, widened: its bit 15 is its sign -/
def mp_S (w : Int32) : Prop := w &&& 32768 = 0 ↔ 0 ≤ w
theorem mp_b15 (w : Int32) : w &&& 32768 = 0 ↔ bt w 15 = false := by
  have hd : ∀ i, i < 32 → bt 32768 i = decide (i = 15) := by decide +kernel
  constructor
  · intro h
    have h1 : bt (w &&& 32768) 15 = bt 0 15 := by rw [h]
    rw [b_and, hd 15 (by decide)] at h1
    revert h1
    cases bt w 15
    · intro _; rfl
    · intro z; exact absurd z (by decide)
  · intro h
    apply b_ext
    intro i hi
    have h0 : bt 0 i = false := by unfold bt; simp
    rw [b_and, hd i hi, h0]
    by_cases z : i = 15
    · subst z; rw [h]; rfl
    · rw [decide_eq_false z]; exact Bool.and_false _
theorem mp_b31 (w : Int32) : 0 ≤ w ↔ bt w 31 = false := by
  have e : bt w 31 = decide (w.toInt < 0) := by
    have h := BitVec.msb_eq_toInt (x := w.toBitVec)
    rw [BitVec.msb_eq_getLsbD_last] at h
    exact h
  rw [e, Int32.le_iff_toInt_le, show (0 : Int32).toInt = 0 from by decide]
  simp
theorem mp_S16 (x : Int32) : mp_S x.toInt16.toInt32 := by
  unfold mp_S
  rw [mp_b15, mp_b31]
  have e : bt x.toInt16.toInt32 15 = bt x.toInt16.toInt32 31 := by
    unfold bt
    rw [Int16.toBitVec_toInt32, BitVec.getLsbD_signExtend, BitVec.getLsbD_signExtend, if_pos (by decide), if_neg (by decide), BitVec.msb_eq_getLsbD_last]
    rfl
  rw [e]
theorem mp_S0 : mp_S 0 := ⟨fun _ => by decide, fun _ => by decide⟩
theorem mp_vs0 : vp_nar .short 0 = 0 := by rw [vp_nar_short]; decide
theorem mp_upd {f : Nat → Int32} {k : Nat} {x : Int32} (h : f k = x) : upd f k x = f := by
  funext j
  unfold upd
  split
  · rename_i z; rw [z, h]
  · rfl
end
section
/-! chains: a node k is coded k + 1, none is coded 0; q k is the code of k's parent, q k ≤ k -/
def mp_c : Nat → Int32
  | 0 => -1
  | k + 1 => nI k
/-- is node d met within f steps from code m? -/
def mp_ab (q : Nat → Nat) (d : Nat) : Nat → Nat → Bool
  | 0, _ => false
  | _ + 1, 0 => false
  | f + 1, k + 1 => if k = d then true else mp_ab q d f (q k)
/-- the first node with P within f steps from code m, as a code -/
def mp_fd (q : Nat → Nat) (P : Nat → Bool) : Nat → Nat → Nat
  | 0, _ => 0
  | _ + 1, 0 => 0
  | f + 1, k + 1 => if P k = true then k + 1 else mp_fd q P f (q k)
/-- the last a below e with S, as a code -/
def mp_sc (S : Nat → Bool) : Nat → Nat
  | 0 => 0
  | a + 1 => if S a = true then a + 1 else mp_sc S a
/-- is there an a below e with S? -/
def mp_an (S : Nat → Bool) : Nat → Bool
  | 0 => false
  | a + 1 => mp_an S a || S a
def mp_b : Bool → Int32
  | true => 64
  | false => 0
def mp_i : Bool → Int32
  | true => 1
  | false => 0
/-- bit 64 of node p's word, from the code of p -/
def mp_sw (words : Nat → Int32) : Nat → Bool
  | 0 => false
  | p + 1 => !decide (words p &&& 64 = 0)
def mp_s (raw : Nat → Int32) (d : Nat) : Bool := !decide (raw d &&& 64 = 0)
section
variable {q : Nat → Nat}
theorem mp_ab_0 (d f : Nat) : mp_ab q d f 0 = false := by cases f <;> rfl
theorem mp_fd_0 (P : Nat → Bool) (f : Nat) : mp_fd q P f 0 = 0 := by cases f <;> rfl
theorem mp_ab_f (hq : ∀ k, q k ≤ k) (d : Nat) : ∀ f g m, m ≤ f → m ≤ g → mp_ab q d f m = mp_ab q d g m := by
  intro f
  induction f with
  | zero =>
    intro g m h1 h2
    obtain rfl : m = 0 := by omega
    rw [mp_ab_0, mp_ab_0]
  | succ f ih =>
    intro g m h1 h2
    cases m with
    | zero => rw [mp_ab_0, mp_ab_0]
    | succ k =>
      cases g with
      | zero => omega
      | succ g =>
        have hk := hq k
        show (if k = d then true else mp_ab q d f (q k)) = (if k = d then true else mp_ab q d g (q k))
        rw [ih g (q k) (by omega) (by omega)]
theorem mp_ab_lt (hq : ∀ k, q k ≤ k) (d : Nat) : ∀ f m, mp_ab q d f m = true → d < m := by
  intro f
  induction f with
  | zero => intro m h; exact absurd h (by show ¬ false = true; decide)
  | succ f ih =>
    intro m h
    cases m with
    | zero => rw [mp_ab_0] at h; exact absurd h (by decide)
    | succ k =>
      have hk := hq k
      by_cases z : k = d
      · omega
      · have h' : (if k = d then true else mp_ab q d f (q k)) = true := h
        rw [if_neg z] at h'
        have := ih _ h'
        omega
theorem mp_ab_ge (hq : ∀ k, q k ≤ k) {d f m : Nat} (h : m ≤ d) : mp_ab q d f m = false := by
  cases e : mp_ab q d f m with
  | false => rfl
  | true => have := mp_ab_lt hq d f m e; omega
theorem mp_ab_self (k f : Nat) : mp_ab q k (f + 1) (k + 1) = true := if_pos rfl
theorem mp_ab_step (hq : ∀ k, q k ≤ k) {d k : Nat} (hd : d < k) (hk : k < 8) : mp_ab q d 8 (k + 1) = mp_ab q d 8 (q k) := by
  have hqk := hq k
  show (if k = d then true else mp_ab q d 7 (q k)) = _
  rw [if_neg (by omega)]
  exact mp_ab_f hq d 7 8 (q k) (by omega) (by omega)
theorem mp_sc_congr {S T : Nat → Bool} : ∀ e, (∀ a, a < e → S a = T a) → mp_sc S e = mp_sc T e := by
  intro e
  induction e with
  | zero => intro _; rfl
  | succ e ih =>
    intro h
    show (if S e = true then e + 1 else mp_sc S e) = (if T e = true then e + 1 else mp_sc T e)
    rw [h e (by omega), ih (fun a ha => h a (by omega))]
theorem mp_sc_cut {S : Nat → Bool} {m : Nat} : ∀ e, m ≤ e → (∀ a, m ≤ a → a < e → S a = false) → mp_sc S e = mp_sc S m := by
  intro e
  induction e with
  | zero =>
    intro h _
    obtain rfl : m = 0 := by omega
    rfl
  | succ e ih =>
    intro h hS
    by_cases z : m = e + 1
    · rw [z]
    · show (if S e = true then e + 1 else mp_sc S e) = _
      rw [hS e (by omega) (by omega), if_neg (by decide)]
      exact ih (by omega) (fun a h1 h2 => hS a h1 (by omega))
theorem mp_an_congr {S T : Nat → Bool} : ∀ e, (∀ a, a < e → S a = T a) → mp_an S e = mp_an T e := by
  intro e
  induction e with
  | zero => intro _; rfl
  | succ e ih =>
    intro h
    show (mp_an S e || S e) = (mp_an T e || T e)
    rw [h e (by omega), ih (fun a ha => h a (by omega))]
theorem mp_an_cut {S : Nat → Bool} {m : Nat} : ∀ e, m ≤ e → (∀ a, m ≤ a → a < e → S a = false) → mp_an S e = mp_an S m := by
  intro e
  induction e with
  | zero =>
    intro h _
    obtain rfl : m = 0 := by omega
    rfl
  | succ e ih =>
    intro h hS
    by_cases z : m = e + 1
    · rw [z]
    · show (mp_an S e || S e) = _
      rw [hS e (by omega) (by omega), Bool.or_false]
      exact ih (by omega) (fun a h1 h2 => hS a h1 (by omega))
/-- the reference's scan from below finds what the component's climb finds -/
theorem mp_sc_fd (hq : ∀ k, q k ≤ k) (P : Nat → Bool) : ∀ f m e, m ≤ f → m ≤ 8 → m ≤ e → mp_sc (fun a => mp_ab q a 8 m && P a) e = mp_fd q P f m := by
  intro f
  induction f with
  | zero =>
    intro m e h1 h2 h3
    obtain rfl : m = 0 := by omega
    rw [mp_sc_cut (m := 0) e (by omega) (fun a _ _ => by show (mp_ab q a 8 0 && P a) = false; rw [mp_ab_0]; rfl), mp_fd_0]
    rfl
  | succ f ih =>
    intro m e h1 h2 h3
    cases m with
    | zero =>
      rw [mp_sc_cut (m := 0) e (by omega) (fun a _ _ => by show (mp_ab q a 8 0 && P a) = false; rw [mp_ab_0]; rfl), mp_fd_0]
      rfl
    | succ k =>
      have hk := hq k
      rw [mp_sc_cut (m := k + 1) e h3 (fun a h _ => by show (mp_ab q a 8 (k + 1) && P a) = false; rw [mp_ab_ge hq h]; rfl)]
      show (if (mp_ab q k 8 (k + 1) && P k) = true then k + 1 else mp_sc (fun a => mp_ab q a 8 (k + 1) && P a) k) = (if P k = true then k + 1 else mp_fd q P f (q k))
      rw [mp_ab_self, Bool.true_and, mp_sc_congr (T := fun a => mp_ab q a 8 (q k) && P a) k (fun a ha => by show (mp_ab q a 8 (k + 1) && P a) = (mp_ab q a 8 (q k) && P a); rw [mp_ab_step hq ha (by omega)]), ih (q k) k (by omega) (by omega) (by omega)]
theorem mp_sc_up (hq : ∀ k, q k ≤ k) (P : Nat → Bool) {k : Nat} (hk : k < 8) : mp_sc (fun a => mp_ab q a 8 (k + 1) && P a) k = mp_fd q P 8 (q k) := by
  have h := hq k
  rw [mp_sc_congr (T := fun a => mp_ab q a 8 (q k) && P a) k (fun a ha => by show (mp_ab q a 8 (k + 1) && P a) = (mp_ab q a 8 (q k) && P a); rw [mp_ab_step hq ha hk])]
  exact mp_sc_fd hq P 8 (q k) k (by omega) (by omega) (by omega)
theorem mp_fd_le (hq : ∀ k, q k ≤ k) (P : Nat → Bool) : ∀ f m, mp_fd q P f m ≤ m := by
  intro f
  induction f with
  | zero => intro m; exact Nat.zero_le m
  | succ f ih =>
    intro m
    cases m with
    | zero => rw [mp_fd_0]; exact Nat.le_refl 0
    | succ k =>
      show (if P k = true then k + 1 else mp_fd q P f (q k)) ≤ k + 1
      split
      · exact Nat.le_refl _
      · have := ih (q k)
        have := hq k
        omega
/-- the component's words hold the reference's inherited bit -/
theorem mp_words (hq : ∀ k, q k ≤ k) {n : Nat} {words raw : Nat → Int32} (hn : n ≤ 8) (hw : ∀ k, k < n → words k = raw k ||| mp_b (mp_sw words (q k))) : ∀ N k, k < N → k < n → mp_an (fun d => mp_ab q d 8 (k + 1) && mp_s raw d) k = mp_sw words (q k) := by
  intro N
  induction N with
  | zero => intro k h _; omega
  | succ N ih =>
    intro k hN hk
    have hqk := hq k
    rw [mp_an_congr (T := fun d => mp_ab q d 8 (q k) && mp_s raw d) k (fun d hd => by show (mp_ab q d 8 (k + 1) && mp_s raw d) = (mp_ab q d 8 (q k) && mp_s raw d); rw [mp_ab_step hq hd (by omega)])]
    generalize hm : q k = m at hqk ⊢
    cases m with
    | zero =>
      rw [mp_an_cut (m := 0) k (by omega) (fun a _ _ => by show (mp_ab q a 8 0 && mp_s raw a) = false; rw [mp_ab_0]; rfl)]
      rfl
    | succ p =>
      rw [mp_an_cut (m := p + 1) k hqk (fun a h _ => by show (mp_ab q a 8 (p + 1) && mp_s raw a) = false; rw [mp_ab_ge hq h]; rfl)]
      show (mp_an (fun d => mp_ab q d 8 (p + 1) && mp_s raw d) p || (mp_ab q p 8 (p + 1) && mp_s raw p)) = !decide (words p &&& 64 = 0)
      rw [ih p (by omega) (by omega), mp_ab_self, Bool.true_and, hw p (by omega)]
      cases mp_sw words (q p) with
      | true =>
        show (true || mp_s raw p) = !decide ((raw p ||| 64) &&& 64 = 0)
        rw [decide_eq_false (mp_or64 _)]
        rfl
      | false =>
        show (false || mp_s raw p) = !decide ((raw p ||| 0) &&& 64 = 0)
        rw [Int32.or_zero, Bool.false_or]
        rfl
end
theorem mp_byte : ∀ m, m < 9 → (mp_c m).toInt8.toInt32 = mp_c m := by decide +kernel
theorem mp_sw_upd {words : Nat → Int32} {n m : Nat} {x : Int32} (h : m ≤ n) : mp_sw (upd words n x) m = mp_sw words m := by
  cases m with
  | zero => rfl
  | succ p =>
    show (!decide (upd words n x p &&& 64 = 0)) = !decide (words p &&& 64 = 0)
    rw [pk_un (by omega)]
theorem mp_c_of {x : Int32} {n : Nat} (hn : n ≤ 8) (h1 : ¬ x < -1) (h2 : x < nI n) : ∃ m, m ≤ n ∧ x = mp_c m := by
  by_cases h0 : x < 0
  · refine ⟨0, by omega, ?_⟩
    rw [Int32.lt_iff_toInt_lt, show (-1 : Int32).toInt = -1 from by decide] at h1
    rw [Int32.lt_iff_toInt_lt, show (0 : Int32).toInt = 0 from by decide] at h0
    apply Int32.toInt_inj.mp
    show x.toInt = (-1 : Int32).toInt
    rw [show (-1 : Int32).toInt = -1 from by decide]
    omega
  · obtain ⟨j, hj, rfl⟩ := nI_of h0
    rw [nI_ltI hj (by omega)] at h2
    exact ⟨j + 1, by omega, rfl⟩
end
section
/-! the loops of both sides against the chain functions -/
theorem mp_ix (k w : Nat) : nI k * 6 + nI w = nI (k * 6 + w) := by
  rw [show (6 : Int32) = nI 6 from rfl, pk_mul, nI_add]
theorem mp_cl {k w : Nat} (hk : k < 8) (hw : w ≤ 5) : (nI k * 6 + nI w).toNatClampNeg = k * 6 + w := by
  rw [mp_ix, nI_clamp (by omega)]
theorem mp_in {k w : Nat} (hk : k < 8) (hw : w ≤ 5) : vp_in (nI k * 6 + nI w) 48 := by
  rw [mp_ix]
  exact vp_in_nI (by omega) (by omega)
theorem mp_n8 {f : Nat} (h : f < 8) : ¬ (8 : Int32) ≤ nI (8 - (f + 1)) := nI_ge (b := 8) (by omega) (by decide)
theorem mp_nx {f : Nat} (h : f < 8) : nI (8 - (f + 1)) + 1 = nI (8 - f) := by
  rw [nI_1, show 8 - (f + 1) + 1 = 8 - f from by omega]
theorem mp_cs (k : Nat) : mp_c (k + 1) = nI k := rfl
theorem mp_m1a : ¬ (0 : Int32) ≤ -1 := by decide
theorem mp_m1b : (-1 : Int32) < 0 := by decide
section
variable {post : Int32 → Prop} {x1 : Int32} {w cnt : Nat} {f_cap : Int32} {f_current : Int64} {a_sup : Nat → Int32} {a_pkg : Nat → Int64} {a_words a_mem a_raw : Nat → Int32} {q : Nat → Nat}
theorem mp_xi_stay {k : Nat} (hk : k < 8) (T : ∀ n x4, wX_inheritedHook_58 post x1 (nI w) f_cap (nI cnt) f_current a_sup a_pkg a_words a_mem (n + 1) x4 (nI k) (nI 8)) : ∀ f, f ≤ 8 → ∀ n x4, f < n → wX_inheritedHook_58 post x1 (nI w) f_cap (nI cnt) f_current a_sup a_pkg a_words a_mem n x4 (nI k) (nI (8 - f)) := by
  intro f
  induction f with
  | zero =>
    intro _ n x4 hn
    obtain ⟨n, rfl⟩ : ∃ n', n = n' + 1 := ⟨n - 1, by omega⟩
    exact T n x4
  | succ f ih =>
    intro hf n x4 hn
    obtain ⟨n, rfl⟩ : ∃ n', n = n' + 1 := ⟨n - 1, by omega⟩
    exact br_f (mp_n8 (by omega)) (br_t (nI_pos' (by omega)) (nm_r (mp_nx (by omega)) (ih (by omega) n x4 (by omega))))
theorem mp_xi_find (hc : cnt ≤ 8) (hw : w ≤ 5) (hq : ∀ k, q k ≤ k) (hs : ∀ k, k < cnt → a_sup k = mp_c (q k)) : ∀ f, f ≤ 8 → ∀ m n, m ≤ cnt → f < n → (∀ n x4, wX_inheritedHook_58 post x1 (nI w) f_cap (nI cnt) f_current a_sup a_pkg a_words a_mem (n + 1) x4 (mp_c (mp_fd q (fun k => !decide (a_mem (k * 6 + w) = 0)) f m)) (nI 8)) → wX_inheritedHook_58 post x1 (nI w) f_cap (nI cnt) f_current a_sup a_pkg a_words a_mem n (mp_c m) (-1) (nI (8 - f)) := by
  intro f
  induction f with
  | zero =>
    intro _ m n hm hn T
    obtain ⟨n, rfl⟩ : ∃ n', n = n' + 1 := ⟨n - 1, by omega⟩
    exact T n (mp_c m)
  | succ f ih =>
    intro hf m n hm hn T
    obtain ⟨n, rfl⟩ : ∃ n', n = n' + 1 := ⟨n - 1, by omega⟩
    cases m with
    | zero =>
      rw [mp_fd_0] at T
      exact br_f (mp_n8 (by omega)) (br_f mp_m1a (br_t mp_m1b (nm_r (mp_nx (by omega)) (ih (by omega) 0 n (by omega) (by omega) (by rw [mp_fd_0]; exact T)))))
    | succ k =>
      have hqk := hq k
      rw [mp_cs]
      have e : mp_fd q (fun k => !decide (a_mem (k * 6 + w) = 0)) (f + 1) (k + 1) = if (!decide (a_mem (k * 6 + w) = 0)) = true then k + 1 else mp_fd q (fun k => !decide (a_mem (k * 6 + w) = 0)) f (q k) := rfl
      rw [e] at T
      refine br_f (mp_n8 (by omega)) (br_f mp_m1a (br_f (nI_pos (by omega)) (br_f (nI_ge (by omega) (by omega)) ⟨mp_in (by omega) hw, ?_⟩)))
      by_cases z : a_mem (k * 6 + w) = 0
      · rw [if_neg (by rw [decide_eq_true z]; decide)] at T
        refine br_t (by rw [mp_cl (by omega) hw]; exact z) ⟨vp_in_nI (by omega) (by omega), nm_r (e' := mp_c (q k)) (by rw [nI_clamp (by omega)]; exact hs k (by omega)) (nm_r (mp_nx (by omega)) ?_)⟩
        exact ih (by omega) (q k) n (by omega) (by omega) T
      · rw [if_pos (by rw [decide_eq_false z]; rfl)] at T
        refine br_f (by rw [mp_cl (by omega) hw]; exact z) (nm_r (mp_nx (by omega)) ?_)
        exact mp_xi_stay (by omega) T f (by omega) n (nI k) (by omega)
theorem mp_xc_stay {k : Nat} (hk : k < 8) (T : ∀ n x4, wX_ctorClass_61 post x1 f_cap (nI cnt) f_current a_sup a_pkg a_words a_mem (n + 1) x4 (nI k) (nI 8)) : ∀ f, f ≤ 8 → ∀ n x4, f < n → wX_ctorClass_61 post x1 f_cap (nI cnt) f_current a_sup a_pkg a_words a_mem n x4 (nI k) (nI (8 - f)) := by
  intro f
  induction f with
  | zero =>
    intro _ n x4 hn
    obtain ⟨n, rfl⟩ : ∃ n', n = n' + 1 := ⟨n - 1, by omega⟩
    exact T n x4
  | succ f ih =>
    intro hf n x4 hn
    obtain ⟨n, rfl⟩ : ∃ n', n = n' + 1 := ⟨n - 1, by omega⟩
    exact br_f (mp_n8 (by omega)) (br_t (nI_pos' (by omega)) (nm_r (mp_nx (by omega)) (ih (by omega) n x4 (by omega))))
theorem mp_xc_find (hc : cnt ≤ 8) (hq : ∀ k, q k ≤ k) (hs : ∀ k, k < cnt → a_sup k = mp_c (q k)) : ∀ f, f ≤ 8 → ∀ m n, m ≤ cnt → f < n → (∀ n x4, wX_ctorClass_61 post x1 f_cap (nI cnt) f_current a_sup a_pkg a_words a_mem (n + 1) x4 (mp_c (mp_fd q (fun k => decide (a_words k &&& 64 = 0)) f m)) (nI 8)) → wX_ctorClass_61 post x1 f_cap (nI cnt) f_current a_sup a_pkg a_words a_mem n (mp_c m) (-1) (nI (8 - f)) := by
  intro f
  induction f with
  | zero =>
    intro _ m n hm hn T
    obtain ⟨n, rfl⟩ : ∃ n', n = n' + 1 := ⟨n - 1, by omega⟩
    exact T n (mp_c m)
  | succ f ih =>
    intro hf m n hm hn T
    obtain ⟨n, rfl⟩ : ∃ n', n = n' + 1 := ⟨n - 1, by omega⟩
    cases m with
    | zero =>
      rw [mp_fd_0] at T
      exact br_f (mp_n8 (by omega)) (br_f mp_m1a (br_t mp_m1b (nm_r (mp_nx (by omega)) (ih (by omega) 0 n (by omega) (by omega) (by rw [mp_fd_0]; exact T)))))
    | succ k =>
      have hqk := hq k
      rw [mp_cs]
      have e : mp_fd q (fun k => decide (a_words k &&& 64 = 0)) (f + 1) (k + 1) = if (decide (a_words k &&& 64 = 0)) = true then k + 1 else mp_fd q (fun k => decide (a_words k &&& 64 = 0)) f (q k) := rfl
      rw [e] at T
      have ec : (nI k).toNatClampNeg = k := nI_clamp (by omega)
      refine br_f (mp_n8 (by omega)) (br_f mp_m1a (br_f (nI_pos (by omega)) (br_f (nI_ge (by omega) (by omega)) ⟨vp_in_nI (by omega) (by omega), ?_⟩)))
      by_cases z : a_words k &&& 64 = 0
      · rw [if_pos (decide_eq_true z)] at T
        refine br_t (by rw [ec]; exact z) (nm_r (mp_nx (by omega)) ?_)
        exact mp_xc_stay (by omega) T f (by omega) n (nI k) (by omega)
      · rw [if_neg (by rw [decide_eq_false z]; decide)] at T
        refine br_f (by rw [ec]; exact z) ⟨vp_in_nI (by omega) (by omega), nm_r (e' := mp_c (q k)) (by rw [ec]; exact hs k (by omega)) (nm_r (mp_nx (by omega)) ?_)⟩
        exact ih (by omega) (q k) n (by omega) (by omega) T
/-- the reference: is d met on the way up from m? -/
theorem mp_ya_loop (hc : cnt ≤ 8) (hq : ∀ k, q k ≤ k) (hs : ∀ k, k < cnt → a_sup k = mp_c (q k)) {d : Nat} (hd : d < 8) : ∀ f, f ≤ 8 → ∀ m n, m ≤ cnt → f < n → post (mp_i (mp_ab q d f m)) → wY_above_5 post (nI d) f_cap (nI cnt) f_current a_sup a_raw a_pkg a_mem n (mp_c m) (nI (8 - f)) := by
  intro f
  induction f with
  | zero =>
    intro _ m n hm hn hp
    obtain ⟨n, rfl⟩ : ∃ n', n = n' + 1 := ⟨n - 1, by omega⟩
    exact br_t (show (8 : Int32) ≤ nI 8 by decide) hp
  | succ f ih =>
    intro hf m n hm hn hp
    obtain ⟨n, rfl⟩ : ∃ n', n = n' + 1 := ⟨n - 1, by omega⟩
    cases m with
    | zero => exact br_f (mp_n8 (by omega)) (br_t mp_m1b hp)
    | succ k =>
      have hqk := hq k
      rw [mp_cs]
      have e : mp_ab q d (f + 1) (k + 1) = if k = d then true else mp_ab q d f (q k) := rfl
      rw [e] at hp
      refine br_f (mp_n8 (by omega)) (br_f (nI_pos (by omega)) ?_)
      by_cases z : k = d
      · rw [if_pos z] at hp
        exact br_t (congrArg nI z) hp
      · rw [if_neg z] at hp
        refine br_f (fun y => z ((nI_eq (by omega) (by omega)).mp y)) ⟨vp_in_nI (by omega) (by omega), nm_r (e' := mp_c (q k)) (by rw [nI_clamp (by omega)]; exact hs k (by omega)) (nm_r (mp_nx (by omega)) ?_)⟩
        exact ih (by omega) (q k) n (by omega) (by omega) hp
theorem mp_yabove (hc : cnt ≤ 8) (hq : ∀ k, q k ≤ k) (hs : ∀ k, k < cnt → a_sup k = mp_c (q k)) {d k : Nat} (hd : d < 8) (hk : k < cnt) (hp : post (mp_i (mp_ab q d 8 (k + 1)))) : wpY_above post (f_cap, nI cnt, f_current, a_sup, a_raw, a_pkg, a_mem) (nI d) (nI k) :=
  ⟨9, mp_ya_loop (m := k + 1) (f := 8) hc hq hs hd (by omega) 9 (by omega) (by omega) hp⟩
theorem mp_yc_loop (hc : cnt ≤ 8) (hq : ∀ k, q k ≤ k) (hs : ∀ k, k < cnt → a_sup k = mp_c (q k)) {k : Nat} (hk : k < cnt) {r0 : Int32} (hp : post (r0 ||| mp_b (mp_an (fun d => mp_ab q d 8 (k + 1) && mp_s a_raw d) k))) : ∀ e j n, j + e = k → e < n → wY_classWord_23 post (nI k) f_cap (nI cnt) f_current a_sup a_raw a_pkg a_mem n (r0 ||| mp_b (mp_an (fun d => mp_ab q d 8 (k + 1) && mp_s a_raw d) j)) (nI j) := by
  intro e
  induction e with
  | zero =>
    intro j n hj hn
    obtain ⟨n, rfl⟩ : ∃ n', n = n' + 1 := ⟨n - 1, by omega⟩
    obtain rfl : j = k := by omega
    exact br_t (nI_le (by omega) (by omega)) hp
  | succ e ih =>
    intro j n hj hn
    obtain ⟨n, rfl⟩ : ∃ n', n = n' + 1 := ⟨n - 1, by omega⟩
    have I := ih (j + 1) n (by omega) (by omega)
    have ea : mp_an (fun d => mp_ab q d 8 (k + 1) && mp_s a_raw d) (j + 1) = (mp_an (fun d => mp_ab q d 8 (k + 1) && mp_s a_raw d) j || (mp_ab q j 8 (k + 1) && mp_s a_raw j)) := rfl
    rw [ea] at I
    generalize mp_an (fun d => mp_ab q d 8 (k + 1) && mp_s a_raw d) j = B at I ⊢
    refine br_f (nI_ge (by omega) (by omega)) (mp_yabove hc hq hs (by omega) hk ?_)
    cases hab : mp_ab q j 8 (k + 1) with
    | false =>
      rw [hab, Bool.false_and, Bool.or_false] at I
      exact br_t rfl (nm_r (nI_1 j) I)
    | true =>
      rw [hab, Bool.true_and] at I
      refine br_f (by decide) ⟨vp_in_nI (by omega) (by omega), ?_⟩
      have ec : (nI j).toNatClampNeg = j := nI_clamp (by omega)
      by_cases z : a_raw j &&& 64 = 0
      · rw [show mp_s a_raw j = false from by unfold mp_s; rw [decide_eq_true z]; rfl, Bool.or_false] at I
        exact br_t (by rw [ec]; exact z) (nm_r (nI_1 j) I)
      · rw [show mp_s a_raw j = true from by unfold mp_s; rw [decide_eq_false z]; rfl, Bool.or_true] at I
        refine br_f (by rw [ec]; exact z) (nm_r (e' := r0 ||| mp_b true) ?_ (nm_r (nI_1 j) I))
        cases B
        · show (r0 ||| 0) ||| 64 = r0 ||| 64
          rw [Int32.or_zero]
        · show (r0 ||| 64) ||| 64 = r0 ||| 64
          rw [Int32.or_assoc, Int32.or_self]
end
end
section
/-! the relation's facts, the helpers of the reference, the package test, the two answers behind the searches -/
def mp_OK (n : Nat) (q : Nat → Nat) (sup words raw mem : Nat → Int32) : Prop :=
  (∀ k, q k ≤ k) ∧ (∀ k, k < n → sup k = mp_c (q k)) ∧ (∀ k, k < n → words k = raw k ||| mp_b (mp_sw words (q k))) ∧ (∀ j, mp_S (mem j)) ∧ (∀ j, n * 6 ≤ j → mem j = 0)
def mp_so (w : Int32) : Int32 := if w &&& 64 = 0 then 0 else if w &&& 16384 = 0 then (if w &&& 128 = 0 then 3 else 2) else 1
/-- inheritedHook's answer at the found node d -/
def mp_AI (w : Int32) (pkg : Nat → Int64) (k d : Nat) : Int32 :=
  if w &&& 16384 = 0 then -1 else if w &&& 8 = 0 then (if w &&& 1024 = 0 then (if w &&& 1 = 0 then (if w &&& 4 = 0 then (if w &&& 2 = 0 then (if pkg k = pkg d then nI d else -1) else (if d = k then nI d else -1)) else nI d) else nI d) else -1) else -1
/-- ctorClass's answer at the found node d -/
def mp_AC (w : Int32) (pkg : Nat → Int64) (k d : Nat) : Int32 :=
  if w = 0 then -1 else if w &&& 2 = 0 then (if w &&& 1 = 0 then (if w &&& 4 = 0 then (if pkg k = pkg d then nI d else -1) else nI d) else nI d) else -1
def mp_RI (w : Nat) (mem : Nat → Int32) (pkg : Nat → Int64) (k : Nat) : Nat → Int32
  | 0 => -1
  | d + 1 => mp_AI (mem (d * 6 + w)) pkg k d
def mp_RC (mem : Nat → Int32) (pkg : Nat → Int64) (k : Nat) : Nat → Int32
  | 0 => -1
  | d + 1 => mp_AC (mem (d * 6 + 5)) pkg k d
section
variable {post : Int32 → Prop} {w n : Nat} {cap : Int32} {cur : Int64} {sup : Nat → Int32} {pkg : Nat → Int64} {words mem raw : Nat → Int32} {q : Nat → Nat}
theorem mp_yclass (hn : n ≤ 8) (O : mp_OK n q sup words raw mem) {k : Nat} (hk : k < n) (hp : post (words k)) : wpY_classWord post (cap, nI n, cur, sup, raw, pkg, mem) (nI k) := by
  obtain ⟨hq, hs, hw, _, _⟩ := O
  have e := mp_words hq hn hw (k + 1) k (by omega) hk
  have e2 : raw k ||| mp_b (mp_an (fun d => mp_ab q d 8 (k + 1) && mp_s raw d) k) = words k := by rw [e]; exact (hw k hk).symm
  refine br_f (nI_pos (by omega)) (br_t (nI_lt hk (by omega)) ⟨vp_in_nI (by omega) (by omega), nm_r (e' := raw k ||| mp_b (mp_an (fun d => mp_ab q d 8 (k + 1) && mp_s raw d) 0)) ?_ ⟨k + 1, ?_⟩⟩)
  · rw [nI_clamp (by omega)]
    show raw k = raw k ||| 0
    rw [Int32.or_zero]
  · exact mp_yc_loop hn hq hs hk (by rw [e2]; exact hp) k 0 (k + 1) (by omega) (by omega)
theorem mp_ysort (hn : n ≤ 8) (O : mp_OK n q sup words raw mem) {k : Nat} (hk : k < n) (hp : post (mp_so (words k))) : wpY_sort post (cap, nI n, cur, sup, raw, pkg, mem) (nI k) := by
  unfold wpY_sort
  dsimp only
  refine mp_yclass hn O hk ?_
  unfold mp_so at hp
  by_cases h1 : words k &&& 64 = 0
  · rw [if_pos h1] at hp
    exact br_t h1 hp
  · rw [if_neg h1] at hp
    refine br_f h1 ?_
    by_cases h2 : words k &&& 16384 = 0
    · rw [if_pos h2] at hp
      refine br_t h2 ?_
      by_cases h3 : words k &&& 128 = 0
      · rw [if_pos h3] at hp
        exact br_t h3 hp
      · rw [if_neg h3] at hp
        exact br_f h3 hp
    · rw [if_neg h2] at hp
      exact br_f h2 hp
theorem mp_xsame (hn : n ≤ 8) {a b : Nat} (ha : a < n) (hb : b < n) (h1 : pkg a = pkg b → post 1) (h0 : ¬ pkg a = pkg b → post 0) : wpX_samePackage post (cap, nI n, cur, sup, pkg, words, mem) (nI a) (nI b) := by
  have ea : (nI a).toNatClampNeg = a := nI_clamp (by omega)
  have eb : (nI b).toNatClampNeg = b := nI_clamp (by omega)
  refine br_f (nI_pos (by omega)) (br_f (nI_ge ha (by omega)) (br_f (nI_pos (by omega)) (br_t (nI_lt hb (by omega)) ⟨vp_in_nI (by omega) (by omega), vp_in_nI (by omega) (by omega), ?_⟩)))
  rw [ea, eb]
  exact br_c h1 h0
theorem mp_ysame (hn : n ≤ 8) {a b : Nat} (ha : a < n) (hb : b < n) (h1 : pkg a = pkg b → post 1) (h0 : ¬ pkg a = pkg b → post 0) : wpY_samePackage post (cap, nI n, cur, sup, raw, pkg, mem) (nI a) (nI b) := by
  have ea : (nI a).toNatClampNeg = a := nI_clamp (by omega)
  have eb : (nI b).toNatClampNeg = b := nI_clamp (by omega)
  have ia : vp_in (nI a) 8 := vp_in_nI (by omega) (by omega)
  have ib : vp_in (nI b) 8 := vp_in_nI (by omega) (by omega)
  refine br_f (nI_pos (by omega)) (br_f (nI_ge ha (by omega)) (br_f (nI_pos (by omega)) (br_t (nI_lt hb (by omega)) ⟨ia, ib, ?_⟩)))
  rw [ea, eb]
  refine br_c (fun z1 => ⟨ia, ib, br_c (fun z2 => h1 (mp_key z1 z2)) (fun z2 => h0 (fun y => z2 (by rw [y])))⟩) (fun z1 => h0 (fun y => z1 (by rw [y])))
theorem mp_xi_tail (hn : n ≤ 8) (hw : w ≤ 5) {k m : Nat} (hk : k < n) (hm : m ≤ n) (hp : post (mp_RI w mem pkg k m)) : ∀ f x4, wX_inheritedHook_58 post (nI k) (nI w) cap (nI n) cur sup pkg words mem (f + 1) x4 (mp_c m) (nI 8) := by
  intro f x4
  refine br_t (show (8 : Int32) ≤ nI 8 by decide) ?_
  cases m with
  | zero => exact br_f mp_m1a hp
  | succ d =>
    rw [mp_cs]
    have hp2 : post (mp_AI (mem (d * 6 + w)) pkg k d) := hp
    unfold mp_AI at hp2
    refine br_t (nI_pos' (by omega)) ⟨mp_in (by omega) hw, nm_r (e' := mem (d * 6 + w)) (by show mem (nI d * 6 + nI w).toNatClampNeg = _; rw [mp_cl (by omega) hw]) ?_⟩
    generalize mem (d * 6 + w) = v at hp2 ⊢
    by_cases h1 : v &&& 16384 = 0
    · rw [if_pos h1] at hp2
      exact br_t h1 hp2
    rw [if_neg h1] at hp2
    refine br_f h1 ?_
    by_cases h2 : v &&& 8 = 0
    · rw [if_pos h2] at hp2
      by_cases h3 : v &&& 1024 = 0
      · rw [if_pos h3] at hp2
        refine br_t ((mp_1032 v).mpr ⟨h2, h3⟩) ?_
        by_cases h4 : v &&& 1 = 0
        · rw [if_pos h4] at hp2
          by_cases h5 : v &&& 4 = 0
          · rw [if_pos h5] at hp2
            refine br_t ((mp_5 v).mpr ⟨h4, h5⟩) ?_
            by_cases h6 : v &&& 2 = 0
            · rw [if_pos h6] at hp2
              refine br_t h6 (mp_xsame hn hk (by omega) (fun z => ?_) (fun z => ?_))
              · rw [if_pos z] at hp2
                exact br_f (by decide) hp2
              · rw [if_neg z] at hp2
                exact br_t rfl hp2
            · rw [if_neg h6] at hp2
              refine br_f h6 ?_
              by_cases z : d = k
              · rw [if_pos z] at hp2
                exact br_t (congrArg nI z) hp2
              · rw [if_neg z] at hp2
                exact br_f (fun y => z ((nI_eq (by omega) (by omega)).mp y)) hp2
          · rw [if_neg h5] at hp2
            exact br_f (fun z => h5 ((mp_5 v).mp z).2) hp2
        · rw [if_neg h4] at hp2
          exact br_f (fun z => h4 ((mp_5 v).mp z).1) hp2
      · rw [if_neg h3] at hp2
        exact br_f (fun z => h3 ((mp_1032 v).mp z).2) hp2
    · rw [if_neg h2] at hp2
      exact br_f (fun z => h2 ((mp_1032 v).mp z).1) hp2
theorem mp_yi_tail (hn : n ≤ 8) (hw : w ≤ 5) {k m : Nat} (hk : k < n) (hm : m ≤ n) (hp : post (mp_RI w mem pkg k m)) : ∀ f, wY_inheritedHook_41 post (nI k) (nI w) cap (nI n) cur sup raw pkg mem (f + 1) (mp_c m) (nI (k + 1)) := by
  intro f
  refine br_t (nI_lt (by omega) (by omega)) ?_
  cases m with
  | zero => exact br_f mp_m1a hp
  | succ d =>
    rw [mp_cs]
    have hp2 : post (mp_AI (mem (d * 6 + w)) pkg k d) := hp
    unfold mp_AI at hp2
    refine br_t (nI_pos' (by omega)) ⟨mp_in (by omega) hw, nm_r (e' := mem (d * 6 + w)) (by show mem (nI d * 6 + nI w).toNatClampNeg = _; rw [mp_cl (by omega) hw]) ?_⟩
    generalize mem (d * 6 + w) = v at hp2 ⊢
    by_cases h1 : v &&& 16384 = 0
    · rw [if_pos h1] at hp2
      exact br_t h1 hp2
    rw [if_neg h1] at hp2
    refine br_f h1 ?_
    by_cases h2 : v &&& 8 = 0
    · rw [if_pos h2] at hp2
      refine br_t h2 ?_
      by_cases h3 : v &&& 1024 = 0
      · rw [if_pos h3] at hp2
        refine br_t h3 ?_
        by_cases h4 : v &&& 1 = 0
        · rw [if_pos h4] at hp2
          refine br_t h4 ?_
          by_cases h5 : v &&& 4 = 0
          · rw [if_pos h5] at hp2
            refine br_t h5 ?_
            by_cases h6 : v &&& 2 = 0
            · rw [if_pos h6] at hp2
              refine br_t h6 (mp_ysame hn hk (by omega) (fun z => ?_) (fun z => ?_))
              · rw [if_pos z] at hp2
                exact br_f (by decide) hp2
              · rw [if_neg z] at hp2
                exact br_t rfl hp2
            · rw [if_neg h6] at hp2
              refine br_f h6 ?_
              by_cases z : d = k
              · rw [if_pos z] at hp2
                exact br_t (congrArg nI z) hp2
              · rw [if_neg z] at hp2
                exact br_f (fun y => z ((nI_eq (by omega) (by omega)).mp y)) hp2
          · rw [if_neg h5] at hp2
            exact br_f h5 hp2
        · rw [if_neg h4] at hp2
          exact br_f h4 hp2
      · rw [if_neg h3] at hp2
        exact br_f h3 hp2
    · rw [if_neg h2] at hp2
      exact br_f h2 hp2
theorem mp_xc_tail (hn : n ≤ 8) {k m : Nat} (hk : k < n) (hm : m ≤ n) (hp : post (mp_RC mem pkg k m)) : ∀ f x4, wX_ctorClass_61 post (nI k) cap (nI n) cur sup pkg words mem (f + 1) x4 (mp_c m) (nI 8) := by
  intro f x4
  refine br_t (show (8 : Int32) ≤ nI 8 by decide) ?_
  cases m with
  | zero => exact br_f mp_m1a hp
  | succ d =>
    rw [mp_cs]
    have hp2 : post (mp_AC (mem (d * 6 + 5)) pkg k d) := hp
    unfold mp_AC at hp2
    refine br_t (nI_pos' (by omega)) ⟨mp_in (w := 5) (by omega) (by omega), nm_r (e' := mem (d * 6 + 5)) (by show mem (nI d * 6 + nI 5).toNatClampNeg = _; rw [mp_cl (by omega) (by omega)]) ?_⟩
    generalize mem (d * 6 + 5) = v at hp2 ⊢
    by_cases h1 : v = 0
    · rw [if_pos h1] at hp2
      exact br_t h1 hp2
    rw [if_neg h1] at hp2
    refine br_f h1 ?_
    by_cases h2 : v &&& 2 = 0
    · rw [if_pos h2] at hp2
      refine br_t h2 ?_
      by_cases h4 : v &&& 1 = 0
      · rw [if_pos h4] at hp2
        by_cases h5 : v &&& 4 = 0
        · rw [if_pos h5] at hp2
          refine br_t ((mp_5 v).mpr ⟨h4, h5⟩) (mp_xsame hn hk (by omega) (fun z => ?_) (fun z => ?_))
          · rw [if_pos z] at hp2
            exact br_f (by decide) hp2
          · rw [if_neg z] at hp2
            exact br_t rfl hp2
        · rw [if_neg h5] at hp2
          exact br_f (fun z => h5 ((mp_5 v).mp z).2) hp2
      · rw [if_neg h4] at hp2
        exact br_f (fun z => h4 ((mp_5 v).mp z).1) hp2
    · rw [if_neg h2] at hp2
      exact br_f h2 hp2
theorem mp_yct_tail (hn : n ≤ 8) {k m : Nat} (hk : k < n) (hm : m ≤ n) (hp : post (mp_RC mem pkg k m)) : ∀ f, wY_ctorClass_31 post (nI k) cap (nI n) cur sup raw pkg mem (f + 1) (mp_c m) (nI k) := by
  intro f
  refine br_t (nI_le (by omega) (by omega)) ?_
  cases m with
  | zero => exact br_f mp_m1a hp
  | succ d =>
    rw [mp_cs]
    have hp2 : post (mp_AC (mem (d * 6 + 5)) pkg k d) := hp
    unfold mp_AC at hp2
    refine br_t (nI_pos' (by omega)) ⟨mp_in (w := 5) (by omega) (by omega), nm_r (e' := mem (d * 6 + 5)) (by show mem (nI d * 6 + nI 5).toNatClampNeg = _; rw [mp_cl (by omega) (by omega)]) ?_⟩
    generalize mem (d * 6 + 5) = v at hp2 ⊢
    by_cases h1 : v = 0
    · rw [if_pos h1] at hp2
      exact br_t h1 hp2
    rw [if_neg h1] at hp2
    refine br_f h1 ?_
    by_cases h2 : v &&& 2 = 0
    · rw [if_pos h2] at hp2
      refine br_t h2 ?_
      by_cases h4 : v &&& 1 = 0
      · rw [if_pos h4] at hp2
        refine br_t h4 ?_
        by_cases h5 : v &&& 4 = 0
        · rw [if_pos h5] at hp2
          refine br_t h5 (mp_ysame hn hk (by omega) (fun z => ?_) (fun z => ?_))
          · rw [if_pos z] at hp2
            exact br_f (by decide) hp2
          · rw [if_neg z] at hp2
            exact br_t rfl hp2
        · rw [if_neg h5] at hp2
          exact br_f h5 hp2
      · rw [if_neg h4] at hp2
        exact br_f h4 hp2
    · rw [if_neg h2] at hp2
      exact br_f h2 hp2
end
end
section
/-! the reference's scans, and both searches whole -/
section
variable {post : Int32 → Prop} {w n : Nat} {cap : Int32} {cur : Int64} {sup : Nat → Int32} {pkg : Nat → Int64} {words mem raw : Nat → Int32} {q : Nat → Nat}
theorem mp_yi_scan (hn : n ≤ 8) (hw : w ≤ 5) (hq : ∀ k, q k ≤ k) (hs : ∀ k, k < n → sup k = mp_c (q k)) {k : Nat} (hk : k < n) (T : ∀ f, wY_inheritedHook_41 post (nI k) (nI w) cap (nI n) cur sup raw pkg mem (f + 1) (mp_c (mp_sc (fun a => mp_ab q a 8 (k + 1) && !decide (mem (a * 6 + w) = 0)) (k + 1))) (nI (k + 1))) : ∀ e j f, j + e = k + 1 → e < f → wY_inheritedHook_41 post (nI k) (nI w) cap (nI n) cur sup raw pkg mem f (mp_c (mp_sc (fun a => mp_ab q a 8 (k + 1) && !decide (mem (a * 6 + w) = 0)) j)) (nI j) := by
  intro e
  induction e with
  | zero =>
    intro j f hj hf
    obtain ⟨f, rfl⟩ : ∃ f', f = f' + 1 := ⟨f - 1, by omega⟩
    obtain rfl : j = k + 1 := by omega
    exact T f
  | succ e ih =>
    intro j f hj hf
    obtain ⟨f, rfl⟩ : ∃ f', f = f' + 1 := ⟨f - 1, by omega⟩
    have I := ih (j + 1) f (by omega) (by omega)
    have ea : mp_sc (fun a => mp_ab q a 8 (k + 1) && !decide (mem (a * 6 + w) = 0)) (j + 1) = (if (mp_ab q j 8 (k + 1) && !decide (mem (j * 6 + w) = 0)) = true then j + 1 else mp_sc (fun a => mp_ab q a 8 (k + 1) && !decide (mem (a * 6 + w) = 0)) j) := rfl
    rw [ea] at I
    generalize mp_sc (fun a => mp_ab q a 8 (k + 1) && !decide (mem (a * 6 + w) = 0)) j = B at I ⊢
    refine br_f (nI_nlt (by omega) (by omega)) (mp_yabove hn hq hs (by omega) hk ?_)
    cases hab : mp_ab q j 8 (k + 1) with
    | false =>
      rw [hab, Bool.false_and, if_neg (by decide)] at I
      exact br_t rfl (nm_r (nI_1 j) I)
    | true =>
      rw [hab, Bool.true_and] at I
      refine br_f (by decide) ⟨mp_in (by omega) hw, ?_⟩
      by_cases z : mem (j * 6 + w) = 0
      · rw [if_neg (by rw [decide_eq_true z]; decide)] at I
        exact br_t (by rw [mp_cl (by omega) hw]; exact z) (nm_r (nI_1 j) I)
      · rw [if_pos (by rw [decide_eq_false z]; rfl)] at I
        exact br_f (by rw [mp_cl (by omega) hw]; exact z) (nm_r (nI_1 j) I)
theorem mp_yct_scan (hn : n ≤ 8) (O : mp_OK n q sup words raw mem) {k : Nat} (hk : k < n) (T : ∀ f, wY_ctorClass_31 post (nI k) cap (nI n) cur sup raw pkg mem (f + 1) (mp_c (mp_sc (fun a => mp_ab q a 8 (k + 1) && decide (words a &&& 64 = 0)) k)) (nI k)) : ∀ e j f, j + e = k → e < f → wY_ctorClass_31 post (nI k) cap (nI n) cur sup raw pkg mem f (mp_c (mp_sc (fun a => mp_ab q a 8 (k + 1) && decide (words a &&& 64 = 0)) j)) (nI j) := by
  intro e
  induction e with
  | zero =>
    intro j f hj hf
    obtain ⟨f, rfl⟩ : ∃ f', f = f' + 1 := ⟨f - 1, by omega⟩
    obtain rfl : j = k := by omega
    exact T f
  | succ e ih =>
    intro j f hj hf
    obtain ⟨f, rfl⟩ : ∃ f', f = f' + 1 := ⟨f - 1, by omega⟩
    have I := ih (j + 1) f (by omega) (by omega)
    have ea : mp_sc (fun a => mp_ab q a 8 (k + 1) && decide (words a &&& 64 = 0)) (j + 1) = (if (mp_ab q j 8 (k + 1) && decide (words j &&& 64 = 0)) = true then j + 1 else mp_sc (fun a => mp_ab q a 8 (k + 1) && decide (words a &&& 64 = 0)) j) := rfl
    rw [ea] at I
    generalize mp_sc (fun a => mp_ab q a 8 (k + 1) && decide (words a &&& 64 = 0)) j = B at I ⊢
    refine br_f (nI_ge (by omega) (by omega)) (mp_yabove hn O.1 O.2.1 (by omega) hk ?_)
    cases hab : mp_ab q j 8 (k + 1) with
    | false =>
      rw [hab, Bool.false_and, if_neg (by decide)] at I
      exact br_t rfl (nm_r (nI_1 j) I)
    | true =>
      rw [hab, Bool.true_and] at I
      refine br_f (by decide) (mp_yclass hn O (by omega) ?_)
      by_cases z : words j &&& 64 = 0
      · rw [if_pos (decide_eq_true z)] at I
        exact br_t z (nm_r (nI_1 j) I)
      · rw [if_neg (by rw [decide_eq_false z]; decide)] at I
        exact br_f z (nm_r (nI_1 j) I)
/-- inheritedHook's search: the found node -/
def mp_hI (q : Nat → Nat) (mem : Nat → Int32) (w k : Nat) : Nat := mp_fd q (fun a => !decide (mem (a * 6 + w) = 0)) 8 (k + 1)
def mp_hC (q : Nat → Nat) (words : Nat → Int32) (k : Nat) : Nat := mp_fd q (fun a => decide (words a &&& 64 = 0)) 8 (q k)
theorem mp_xI (hn : n ≤ 8) (hw : w ≤ 5) (O : mp_OK n q sup words raw mem) {k : Nat} (hk : k < n) (hp : post (mp_RI w mem pkg k (mp_hI q mem w k))) : ∃ f, wX_inheritedHook_58 post (nI k) (nI w) cap (nI n) cur sup pkg words mem f (nI k) (-1) 0 := by
  obtain ⟨hq, hs, _⟩ := O
  have hl := mp_fd_le hq (fun a => !decide (mem (a * 6 + w) = 0)) 8 (k + 1)
  exact ⟨9, mp_xi_find hn hw hq hs 8 (by omega) (k + 1) 9 (by omega) (by omega) (mp_xi_tail hn hw hk (Nat.le_trans hl (by omega)) hp)⟩
theorem mp_yI (hn : n ≤ 8) (hw : w ≤ 5) (O : mp_OK n q sup words raw mem) {k : Nat} (hk : k < n) (hp : post (mp_RI w mem pkg k (mp_hI q mem w k))) : ∃ f, wY_inheritedHook_41 post (nI k) (nI w) cap (nI n) cur sup raw pkg mem f (-1) 0 := by
  obtain ⟨hq, hs, _⟩ := O
  have hl := mp_fd_le hq (fun a => !decide (mem (a * 6 + w) = 0)) 8 (k + 1)
  refine ⟨k + 2, mp_yi_scan hn hw hq hs hk ?_ (k + 1) 0 (k + 2) (by omega) (by omega)⟩
  rw [mp_sc_fd hq (fun a => !decide (mem (a * 6 + w) = 0)) 8 (k + 1) (k + 1) (by omega) (by omega) (by omega)]
  exact mp_yi_tail hn hw hk (Nat.le_trans hl (by omega)) hp
theorem mp_xC (hn : n ≤ 8) (O : mp_OK n q sup words raw mem) {k : Nat} (hk : k < n) (hp : post (mp_RC mem pkg k (mp_hC q words k))) : ∃ f, wX_ctorClass_61 post (nI k) cap (nI n) cur sup pkg words mem f (mp_c (q k)) (-1) 0 := by
  obtain ⟨hq, hs, _⟩ := O
  have hl := mp_fd_le hq (fun a => decide (words a &&& 64 = 0)) 8 (q k)
  have hk2 := hq k
  exact ⟨9, mp_xc_find hn hq hs 8 (by omega) (q k) 9 (by omega) (by omega) (mp_xc_tail hn hk (Nat.le_trans hl (by omega)) hp)⟩
theorem mp_yC (hn : n ≤ 8) (O : mp_OK n q sup words raw mem) {k : Nat} (hk : k < n) (hp : post (mp_RC mem pkg k (mp_hC q words k))) : ∃ f, wY_ctorClass_31 post (nI k) cap (nI n) cur sup raw pkg mem f (-1) 0 := by
  have hl := mp_fd_le O.1 (fun a => decide (words a &&& 64 = 0)) 8 (q k)
  have hk2 := O.1 k
  refine ⟨k + 1, mp_yct_scan hn O hk ?_ k 0 (k + 1) (by omega) (by omega)⟩
  rw [mp_sc_up O.1 (fun a => decide (words a &&& 64 = 0)) (by omega)]
  exact mp_yct_tail hn hk (Nat.le_trans hl (by omega)) hp
end
end
section
/-! the relation and the owed statements -/
/-- one count, one parent array, one key array, one member array; the words and the raw words by the inherited bit -/
def i_Rel (_ : Nat) (u : SX) (v : SY) : Prop := ∃ (c n : Nat) (cur : Int64) (sup : Nat → Int32) (pkg : Nat → Int64) (words raw mem : Nat → Int32) (q : Nat → Nat), u = (nI c, nI n, cur, sup, pkg, words, mem) ∧ v = (nI c, nI n, cur, sup, raw, pkg, mem) ∧ n ≤ c ∧ c ≤ 8 ∧ mp_OK n q sup words raw mem
theorem i_up {k : Nat} {u : SX} {v : SY} (h : i_Rel k u v) : i_Rel (k + 4) u v := h
theorem mp_rel0 {c : Nat} (hc : c ≤ 8) : i_Rel 1 (nI c, 0, 0, (fun _ => 0), (fun _ => 0), (fun _ => 0), (fun _ => 0)) (nI c, 0, 0, (fun _ => 0), (fun _ => 0), (fun _ => 0), (fun _ => 0)) :=
  ⟨c, 0, 0, (fun _ => 0), (fun _ => 0), (fun _ => 0), (fun _ => 0), (fun _ => 0), (fun _ => 0), rfl, rfl, Nat.zero_le c, hc, fun k => Nat.zero_le k, fun k hk => absurd hk (Nat.not_lt_zero k), fun k hk => absurd hk (Nat.not_lt_zero k), fun _ => mp_S0, fun _ _ => rfl⟩
theorem mp_y26 {c : Nat} (hc : c ≤ 8) : wY_init_26 (fun v => i_Rel 1 (nI c, 0, 0, (fun _ => 0), (fun _ => 0), (fun _ => 0), (fun _ => 0)) v) (nI c) 0 0 0 := by
  unfold wY_init_26 wpY_enterPackage
  dsimp only
  refine br_t (by decide) ?_
  unfold wY_enterPackage_13
  exact nm_r (e' := 0) (by decide) (mp_rel0 hc)
theorem i_vc0 (k0 : Int32) : wpX_init (fun u => wpY_init (fun v => i_Rel 1 u v) k0) k0 := by
  by_cases h1 : 1 ≤ k0
  · refine br_t h1 ?_
    by_cases h8 : k0 ≤ 8
    · refine br_t h8 (br_t h1 (br_t h8 ?_))
      have h0 : ¬ k0 < 0 := Int32.not_lt.mpr (Int32.le_trans (by decide) h1)
      obtain ⟨j, hj, rfl⟩ := nI_of2 (M := 8) (n := 8) (by decide) h0 h8
      exact mp_y26 hj
    · exact br_f h8 (br_t h1 (br_f h8 (mp_y26 (c := 8) (by omega))))
  · exact br_f h1 (br_t (by decide) (br_f h1 (mp_y26 (c := 1) (by omega))))
theorem i_vc_enterPackage {k : Nat} {u : SX} {v : SY} (I : i_Rel k u v) (hk : k + 4 ≤ 2049) (v1 : Int32) (v2 : Int32) : wpX_enterPackage (fun r u' => wpY_enterPackage (fun r' v' => r' = r ∧ i_Rel (k + 4) u' v') v v1 v2) u v1 v2 := by
  obtain ⟨c, n, cur, sup, pkg, words, raw, mem, q, rfl, rfl, hn, hc, O⟩ := I
  intro x ex
  by_cases h : 0 ≤ v2
  · exact br_t h (nm_r (e' := x) ((mp_pkg1 v1 v2 h).trans ex.symm) ⟨(mp_pkg1 v1 v2 h).trans ex.symm, ⟨c, n, x, sup, pkg, words, raw, mem, q, rfl, rfl, hn, hc, O⟩⟩)
  · refine br_f h (nm_e (nm_r (e' := x) ((mp_pkg2 v1 v2 h).trans ex.symm) ⟨(mp_pkg2 v1 v2 h).trans ex.symm, ⟨c, n, x, sup, pkg, words, raw, mem, q, rfl, rfl, hn, hc, O⟩⟩))
theorem mp_OKdef {n : Nat} {q : Nat → Nat} {sup words raw mem : Nat → Int32} (O : mp_OK n q sup words raw mem) {m : Nat} (hm : m ≤ n) (w : Int32) : mp_OK (n + 1) (fun j => if j = n then m else q j) (upd sup n (mp_c m)) (upd words n (w ||| mp_b (mp_sw words m))) (upd raw n w) mem := by
  obtain ⟨hq, hs, hw, hS, hz⟩ := O
  refine ⟨fun k => ?_, fun k hk => ?_, fun k hk => ?_, hS, fun j hj => hz j (by omega)⟩
  · dsimp only
    split
    · omega
    · exact hq k
  · dsimp only
    by_cases z : k = n
    · rw [if_pos z, z, pk_us]
    · rw [if_neg z, pk_un z]
      exact hs k (by omega)
  · dsimp only
    have hqk := hq k
    by_cases z : k = n
    · rw [if_pos z, z, pk_us, pk_us, mp_sw_upd hm]
    · rw [if_neg z, pk_un z, pk_un z, mp_sw_upd (by omega)]
      exact hw k (by omega)
theorem mp_x92 {post : Int32 → SX → Prop} {n : Nat} {cap : Int32} {cur : Int64} {sup : Nat → Int32} {pkg : Nat → Int64} {words mem : Nat → Int32} (hn : n < 8) (hz : ∀ j, n * 6 ≤ j → mem j = 0) (hp : post (nI n) (cap, nI (n + 1), cur, sup, pkg, words, mem)) : ∀ e j f, j + e = 6 → e < f → wX_define_92 post (nI n) cap (nI n) cur f (nI j) sup pkg words mem := by
  intro e
  induction e with
  | zero =>
    intro j f hj hf
    obtain ⟨f, rfl⟩ : ∃ f', f = f' + 1 := ⟨f - 1, by omega⟩
    obtain rfl : j = 6 := by omega
    exact br_t (by decide) (nm_r (nI_1 n) hp)
  | succ e ih =>
    intro j f hj hf
    obtain ⟨f, rfl⟩ : ∃ f', f = f' + 1 := ⟨f - 1, by omega⟩
    refine br_f (nI_ge (b := 6) (by omega) (by decide)) ⟨mp_in hn (by omega), nm_r (e' := mem) ?_ (nm_r (nI_1 j) (ih (j + 1) f (by omega) (by omega)))⟩
    rw [mp_cl hn (by omega), mp_vs0]
    exact mp_upd (hz _ (by omega))
theorem mp_x56 {post : Int32 → SX → Prop} {n m : Nat} {cap : Int32} {cur : Int64} {sup : Nat → Int32} {pkg : Nat → Int64} {words mem : Nat → Int32} {x : Int32} (hn : n < 8) (hz : ∀ j, n * 6 ≤ j → mem j = 0) (hp : post (nI n) (cap, nI (n + 1), cur, upd sup n (mp_c m), vp_updL pkg n cur, upd words n x, mem)) : wX_define_56 post (mp_c m) x cap (nI n) cur sup pkg words mem := by
  have i8 : vp_in (nI n) 8 := vp_in_nI hn (by omega)
  have en : (nI n).toNatClampNeg = n := nI_clamp (by omega)
  unfold wX_define_56
  rw [en]
  refine ⟨i8, nm_e ⟨i8, nm_e ⟨i8, nm_e ⟨7, ?_⟩⟩⟩⟩
  exact mp_x92 hn hz hp 6 0 7 (by omega) (by omega)
theorem i_vc_define {k : Nat} {u : SX} {v : SY} (I : i_Rel k u v) (hk : k + 4 ≤ 2049) (v1 : Int32) (v2 : Int32) : wpX_define (fun r u' => wpY_define (fun r' v' => r' = r ∧ i_Rel (k + 4) u' v') v v1 v2) u v1 v2 := by
  obtain ⟨c, n, cur, sup, pkg, words, raw, mem, q, rfl, rfl, hn, hc, O⟩ := I
  have J : i_Rel (k + 4) (nI c, nI n, cur, sup, pkg, words, mem) (nI c, nI n, cur, sup, raw, pkg, mem) := ⟨c, n, cur, sup, pkg, words, raw, mem, q, rfl, rfl, hn, hc, O⟩
  by_cases h1 : n < c
  · have h1' : nI n < nI c := nI_lt h1 (by omega)
    by_cases h2 : v1 < -1
    · exact br_t h1' (br_t h2 (br_t h1' (br_t h2 ⟨rfl, J⟩)))
    by_cases h3 : v1 < nI n
    · obtain ⟨m, hm, rfl⟩ := mp_c_of (by omega) h2 h3
      obtain ⟨w, _, hw1, hw2⟩ := em_w v2
      have i8 : vp_in (nI n) 8 := vp_in_nI (by omega) (by omega)
      have en : (nI n).toNatClampNeg = n := nI_clamp (by omega)
      have Y : ∀ x, x = nI w ||| mp_b (mp_sw words m) → wpY_define (fun r' v' => r' = nI n ∧ i_Rel (k + 4) (nI c, nI (n + 1), cur, upd sup n (mp_c m), vp_updL pkg n cur, upd words n x, mem) v') (nI c, nI n, cur, sup, raw, pkg, mem) (mp_c m) v2 := by
        intro x ex
        refine br_t h1' (br_f h2 (br_t h3 (nm_r (nI_1 n) ⟨i8, nm_r (e' := upd sup n (mp_c m)) ?_ ⟨i8, nm_r (e' := upd raw n (nI w)) ?_ ⟨i8, nm_r (e' := vp_updL pkg n cur) ?_ ?_⟩⟩⟩)))
        · rw [en, pk_vb, mp_byte m (by omega)]
        · rw [en, pk_vc, hw1]
        · rw [en]
        · refine ⟨rfl, ⟨c, n + 1, cur, upd sup n (mp_c m), vp_updL pkg n cur, upd words n x, upd raw n (nI w), mem, fun j => if j = n then m else q j, rfl, rfl, by omega, hc, ?_⟩⟩
          rw [ex]
          exact mp_OKdef O hm (nI w)
      have hz := O.2.2.2.2
      refine br_t h1' (br_f h2 (br_t h3 (nm_r hw2 ?_)))
      cases m with
      | zero =>
        refine br_t mp_m1b (mp_x56 (m := 0) (by omega) hz (Y _ ?_))
        show nI w = nI w ||| 0
        rw [Int32.or_zero]
      | succ p =>
        rw [mp_cs] at h2 h3 ⊢
        have ep : (nI p).toNatClampNeg = p := nI_clamp (by omega)
        refine br_f (nI_pos (by omega)) ⟨vp_in_nI (by omega) (by omega), ?_⟩
        by_cases z : words p &&& 64 = 0
        · refine br_t (by rw [ep]; exact z) (mp_x56 (m := p + 1) (by omega) hz (Y _ ?_))
          show nI w = nI w ||| mp_b (!decide (words p &&& 64 = 0))
          rw [decide_eq_true z]
          show nI w = nI w ||| 0
          rw [Int32.or_zero]
        · refine br_f (by rw [ep]; exact z) (nm_e (mp_x56 (m := p + 1) (by omega) hz (Y _ ?_)))
          show nI w ||| 64 = nI w ||| mp_b (!decide (words p &&& 64 = 0))
          rw [decide_eq_false z]
          rfl
    · exact br_t h1' (br_f h2 (br_f h3 (br_t h1' (br_f h2 (br_f h3 ⟨rfl, J⟩)))))
  · have h1' : ¬ nI n < nI c := nI_nlt (by omega) (by omega)
    exact br_f h1' (br_f h1' ⟨rfl, J⟩)
theorem mp_ge0 {n : Nat} {x : Int32} (hn : n ≤ 8) (h : nI n ≤ x) : ¬ x < 0 := Int32.not_lt.mpr (Int32.le_trans (nI_pos' (by omega)) h)
theorem mp_OKset {n : Nat} {q : Nat → Nat} {sup words raw mem : Nat → Int32} (O : mp_OK n q sup words raw mem) {j w : Nat} (hj : j < n) (hw : w ≤ 5) {s : Int32} (hs : mp_S s) : mp_OK n q sup words raw (upd mem (j * 6 + w) s) := by
  obtain ⟨hq, hs', hw', hS, hz⟩ := O
  refine ⟨hq, hs', hw', fun i => ?_, fun i hi => ?_⟩
  · by_cases z : i = j * 6 + w
    · rw [z, pk_us]; exact hs
    · rw [pk_un z]; exact hS i
  · rw [pk_un (by omega)]
    exact hz i hi
theorem i_vc_setMember {k : Nat} {u : SX} {v : SY} (I : i_Rel k u v) (hk : k + 4 ≤ 2049) (v1 : Int32) (v2 : Int32) (v3 : Int32) : wpX_setMember (fun r u' => wpY_setMember (fun r' v' => r' = r ∧ i_Rel (k + 4) u' v') v v1 v2 v3) u v1 v2 v3 := by
  obtain ⟨c, n, cur, sup, pkg, words, raw, mem, q, rfl, rfl, hn, hc, O⟩ := I
  have J : i_Rel (k + 4) (nI c, nI n, cur, sup, pkg, words, mem) (nI c, nI n, cur, sup, raw, pkg, mem) := ⟨c, n, cur, sup, pkg, words, raw, mem, q, rfl, rfl, hn, hc, O⟩
  rcases pk_ix v1 (n := n) (by omega) with h0 | h1 | ⟨j, hj, rfl⟩
  · exact br_t h0 (br_t h0 ⟨rfl, J⟩)
  · have h0 := mp_ge0 (by omega) h1
    have h2 : ¬ v1 < nI n := Int32.not_lt.mpr h1
    exact br_f h0 (br_f h2 (br_f h0 (br_f h2 ⟨rfl, J⟩)))
  · have a0 : ¬ nI j < 0 := nI_pos (by omega)
    have a1 : nI j < nI n := nI_lt hj (by omega)
    by_cases b0 : v2 < 0
    · exact br_f a0 (br_t a1 (br_t b0 (br_f a0 (br_t a1 (br_t b0 ⟨rfl, J⟩)))))
    by_cases b1 : v2 ≤ 5
    · obtain ⟨w, hw, rfl⟩ := nI_of2 (M := 5) (n := 5) (by decide) b0 b1
      have Y : ∀ s : Int32, mp_S s → vp_nar .short s = s → i_Rel (k + 4) (nI c, nI n, cur, sup, pkg, words, upd mem (j * 6 + w) s) (nI c, nI n, cur, sup, raw, pkg, upd mem (j * 6 + w) s) := fun s hs _ => ⟨c, n, cur, sup, pkg, words, raw, upd mem (j * 6 + w) s, q, rfl, rfl, hn, hc, mp_OKset O hj hw hs⟩
      have i48 := mp_in (k := j) (w := w) (by omega) hw
      have ec := mp_cl (k := j) (w := w) (by omega) hw
      refine br_f a0 (br_t a1 (br_f b0 (br_t b1 ?_)))
      by_cases c0 : v3.toInt16.toInt32 < 0
      · have c1 : v3.toInt16.toInt32 ≤ 0 := Int32.le_of_lt c0
        have e := pk_vs v3
        refine br_t c0 ⟨i48, nm_r (e' := upd mem (j * 6 + w) v3.toInt16.toInt32) (by rw [ec, e]) (br_f a0 (br_t a1 (br_f b0 (br_t b1 (br_t c1 ⟨i48, nm_r (e' := upd mem (j * 6 + w) v3.toInt16.toInt32) (by rw [ec, e]) ⟨rfl, Y _ (mp_S16 v3) e⟩⟩)))))⟩
      · refine br_f c0 ⟨i48, nm_r (e' := upd mem (j * 6 + w) 0) (by rw [ec, mp_vs0]) (br_f a0 (br_t a1 (br_f b0 (br_t b1 ?_))))⟩
        by_cases c1 : v3.toInt16.toInt32 ≤ 0
        · have c2 : v3.toInt16.toInt32 = 0 := Int32.le_antisymm c1 (Int32.not_lt.mp c0)
          refine br_t c1 ?_
          rw [c2]
          exact ⟨i48, nm_r (e' := upd mem (j * 6 + w) 0) (by rw [ec, mp_vs0]) ⟨rfl, Y 0 mp_S0 mp_vs0⟩⟩
        · exact br_f c1 ⟨i48, nm_r (e' := upd mem (j * 6 + w) 0) (by rw [ec, mp_vs0]) ⟨rfl, Y 0 mp_S0 mp_vs0⟩⟩
    · exact br_f a0 (br_t a1 (br_f b0 (br_f b1 (br_f a0 (br_t a1 (br_f b0 (br_f b1 ⟨rfl, J⟩)))))))
end
section
/-! the owed statements of the methods that only read -/
theorem mp_S3 (w : Int32) : mp_so w = 3 ↔ ¬ w &&& 64 = 0 ∧ w &&& 16384 = 0 ∧ w &&& 128 = 0 := by
  unfold mp_so
  by_cases h1 : w &&& 64 = 0
  · rw [if_pos h1]
    exact ⟨fun z => absurd z (by decide), fun z => absurd h1 z.1⟩
  rw [if_neg h1]
  by_cases h2 : w &&& 16384 = 0
  · rw [if_pos h2]
    by_cases h3 : w &&& 128 = 0
    · rw [if_pos h3]
      exact ⟨fun _ => ⟨h1, h2, h3⟩, fun _ => rfl⟩
    · rw [if_neg h3]
      exact ⟨fun z => absurd z (by decide), fun z => absurd z.2.2 h3⟩
  · rw [if_neg h2]
    exact ⟨fun z => absurd z (by decide), fun z => absurd z.2.1 h2⟩
theorem mp_S2 (w : Int32) : 2 ≤ mp_so w ↔ ¬ w &&& 64 = 0 ∧ w &&& 16384 = 0 := by
  unfold mp_so
  by_cases h1 : w &&& 64 = 0
  · rw [if_pos h1]
    exact ⟨fun z => absurd z (by decide), fun z => absurd h1 z.1⟩
  rw [if_neg h1]
  by_cases h2 : w &&& 16384 = 0
  · rw [if_pos h2]
    by_cases h3 : w &&& 128 = 0
    · rw [if_pos h3]
      exact ⟨fun _ => ⟨h1, h2⟩, fun _ => by decide⟩
    · rw [if_neg h3]
      exact ⟨fun _ => ⟨h1, h2⟩, fun _ => by decide⟩
  · rw [if_neg h2]
    exact ⟨fun z => absurd z (by decide), fun z => absurd z.2 h2⟩
theorem i_vc_privateHook {k : Nat} {u : SX} {v : SY} (I : i_Rel k u v) (hk : k + 4 ≤ 2049) (v1 : Int32) (v2 : Int32) : wpX_privateHook (fun r => wpY_privateHook (fun r' => r' = r ∧ i_Rel (k + 4) u v) v v1 v2) u v1 v2 := by
  have J := i_up I
  obtain ⟨c, n, cur, sup, pkg, words, raw, mem, q, rfl, rfl, hn, hc, O⟩ := I
  rcases pk_ix v1 (n := n) (by omega) with h0 | h1 | ⟨j, hj, rfl⟩
  · exact br_t h0 (br_t h0 ⟨rfl, J⟩)
  · have h0 := mp_ge0 (by omega) h1
    have h2 : ¬ v1 < nI n := Int32.not_lt.mpr h1
    exact br_f h0 (br_f h2 (br_f h0 (br_t h1 ⟨rfl, J⟩)))
  have a0 : ¬ nI j < 0 := nI_pos (by omega)
  have a1 : nI j < nI n := nI_lt hj (by omega)
  have a2 : ¬ nI n ≤ nI j := nI_ge hj (by omega)
  by_cases b0 : v2 < 0
  · exact br_f a0 (br_t a1 (br_t b0 (br_f a0 (br_f a2 (br_t b0 ⟨rfl, J⟩)))))
  by_cases b1 : v2 ≤ 2
  · obtain ⟨w, hw, rfl⟩ := nI_of2 (M := 2) (n := 2) (by decide) b0 b1
    have i48 := mp_in (k := j) (w := w) (by omega) (by omega)
    have ec := mp_cl (k := j) (w := w) (by omega) (by omega)
    refine br_f a0 (br_t a1 (br_f b0 (br_t b1 ⟨vp_in_nI (by omega) (by omega), nm_r (e' := words j) (by rw [nI_clamp (by omega)]) ?_⟩)))
    have Y0 : ¬ mp_so (words j) = 3 → wpY_privateHook (fun r' => r' = 0 ∧ i_Rel (k + 4) (nI c, nI n, cur, sup, pkg, words, mem) (nI c, nI n, cur, sup, raw, pkg, mem)) (nI c, nI n, cur, sup, raw, pkg, mem) (nI j) (nI w) := by
      intro z
      exact br_f a0 (br_f a2 (br_f b0 (br_t b1 (mp_ysort (by omega) O hj (br_f z ⟨rfl, J⟩)))))
    by_cases c1 : words j &&& 64 = 0
    · exact br_t c1 (Y0 (fun z => ((mp_S3 _).mp z).1 c1))
    refine br_f c1 ?_
    by_cases c2 : words j &&& 16384 = 0
    · refine br_t c2 ?_
      by_cases c3 : words j &&& 128 = 0
      · refine br_t c3 ⟨i48, nm_r (e' := mem (j * 6 + w)) (by rw [ec]) ?_⟩
        have hS := O.2.2.2.1 (j * 6 + w)
        have Y1 : ∀ r : Int32, ((0 ≤ mem (j * 6 + w) → r = 0) ∧ (¬ 0 ≤ mem (j * 6 + w) → ((mem (j * 6 + w) &&& 16384 = 0 → r = 0) ∧ (¬ mem (j * 6 + w) &&& 16384 = 0 → ((mem (j * 6 + w) &&& 2 = 0 → r = 0) ∧ (¬ mem (j * 6 + w) &&& 2 = 0 → ((mem (j * 6 + w) &&& 8 = 0 → r = 1) ∧ (¬ mem (j * 6 + w) &&& 8 = 0 → r = 0)))))))) → wpY_privateHook (fun r' => r' = r ∧ i_Rel (k + 4) (nI c, nI n, cur, sup, pkg, words, mem) (nI c, nI n, cur, sup, raw, pkg, mem)) (nI c, nI n, cur, sup, raw, pkg, mem) (nI j) (nI w) := by
          intro r H
          refine br_f a0 (br_f a2 (br_f b0 (br_t b1 (mp_ysort (by omega) O hj (br_t ((mp_S3 _).mpr ⟨c1, c2, c3⟩) ⟨i48, nm_r (e' := mem (j * 6 + w)) (by rw [ec]) ?_⟩)))))
          exact br_c (fun z => ⟨(H.1 z).symm, J⟩) (fun z => br_c (fun y => ⟨((H.2 z).1 y).symm, J⟩) (fun y => br_c (fun x => ⟨(((H.2 z).2 y).1 x).symm, J⟩) (fun x => br_c (fun t => ⟨((((H.2 z).2 y).2 x).1 t).symm, J⟩) (fun t => ⟨((((H.2 z).2 y).2 x).2 t).symm, J⟩))))
        generalize mem (j * 6 + w) = m at hS Y1 ⊢
        by_cases d1 : m &&& 32768 = 0
        · exact br_t d1 (Y1 0 (br_t (hS.mp d1) rfl))
        have d1' : ¬ 0 ≤ m := fun z => d1 (hS.mpr z)
        refine br_f d1 ?_
        by_cases d2 : m &&& 16384 = 0
        · exact br_t d2 (Y1 0 (br_f d1' (br_t d2 rfl)))
        refine br_f d2 ?_
        by_cases d3 : m &&& 2 = 0
        · exact br_t d3 (Y1 0 (br_f d1' (br_f d2 (br_t d3 rfl))))
        refine br_f d3 ?_
        by_cases d4 : m &&& 8 = 0
        · exact br_t d4 (Y1 1 (br_f d1' (br_f d2 (br_f d3 (br_t d4 rfl)))))
        · exact br_f d4 (Y1 0 (br_f d1' (br_f d2 (br_f d3 (br_f d4 rfl)))))
      · exact br_f c3 (Y0 (fun z => c3 ((mp_S3 _).mp z).2.2))
    · exact br_f c2 (Y0 (fun z => c2 ((mp_S3 _).mp z).2.1))
  · exact br_f a0 (br_t a1 (br_f b0 (br_f b1 (br_f a0 (br_f a2 (br_f b0 (br_f b1 ⟨rfl, J⟩)))))))
theorem i_vc_inheritedHook {k : Nat} {u : SX} {v : SY} (I : i_Rel k u v) (hk : k + 4 ≤ 2049) (v1 : Int32) (v2 : Int32) : wpX_inheritedHook (fun r => wpY_inheritedHook (fun r' => r' = r ∧ i_Rel (k + 4) u v) v v1 v2) u v1 v2 := by
  have J := i_up I
  obtain ⟨c, n, cur, sup, pkg, words, raw, mem, q, rfl, rfl, hn, hc, O⟩ := I
  rcases pk_ix v1 (n := n) (by omega) with h0 | h1 | ⟨j, hj, rfl⟩
  · exact br_t h0 (br_t h0 ⟨rfl, J⟩)
  · have h0 := mp_ge0 (by omega) h1
    exact br_f h0 (br_t h1 (br_f h0 (br_t h1 ⟨rfl, J⟩)))
  have a0 : ¬ nI j < 0 := nI_pos (by omega)
  have a2 : ¬ nI n ≤ nI j := nI_ge hj (by omega)
  by_cases b0 : v2 < 3
  · exact br_f a0 (br_f a2 (br_t b0 (br_f a0 (br_f a2 (br_t b0 ⟨rfl, J⟩)))))
  by_cases b1 : v2 ≤ 4
  · have b2 : ¬ v2 < 0 := fun z => b0 (Int32.lt_trans z (by decide))
    obtain ⟨w, hw, rfl⟩ := nI_of2 (M := 4) (n := 4) (by decide) b2 b1
    refine br_f a0 (br_f a2 (br_f b0 (br_t b1 ⟨vp_in_nI (by omega) (by omega), nm_r (e' := words j) (by rw [nI_clamp (by omega)]) ?_⟩)))
    have Y0 : ¬ 2 ≤ mp_so (words j) → wpY_inheritedHook (fun r' => r' = -1 ∧ i_Rel (k + 4) (nI c, nI n, cur, sup, pkg, words, mem) (nI c, nI n, cur, sup, raw, pkg, mem)) (nI c, nI n, cur, sup, raw, pkg, mem) (nI j) (nI w) := by
      intro z
      exact br_f a0 (br_f a2 (br_f b0 (br_t b1 (mp_ysort (by omega) O hj (br_f z ⟨rfl, J⟩)))))
    by_cases c1 : words j &&& 64 = 0
    · exact br_t c1 (Y0 (fun z => ((mp_S2 _).mp z).1 c1))
    refine br_f c1 ?_
    by_cases c2 : words j &&& 16384 = 0
    · refine br_t c2 (mp_xI (by omega) (by omega) O hj ?_)
      exact br_f a0 (br_f a2 (br_f b0 (br_t b1 (mp_ysort (by omega) O hj (br_t ((mp_S2 _).mpr ⟨c1, c2⟩) (mp_yI (by omega) (by omega) O hj ⟨rfl, J⟩))))))
    · exact br_f c2 (Y0 (fun z => c2 ((mp_S2 _).mp z).2))
  · exact br_f a0 (br_f a2 (br_f b0 (br_f b1 (br_f a0 (br_f a2 (br_f b0 (br_f b1 ⟨rfl, J⟩)))))))
theorem i_vc_ctorClass {k : Nat} {u : SX} {v : SY} (I : i_Rel k u v) (hk : k + 4 ≤ 2049) (v1 : Int32) : wpX_ctorClass (fun r => wpY_ctorClass (fun r' => r' = r ∧ i_Rel (k + 4) u v) v v1) u v1 := by
  have J := i_up I
  obtain ⟨c, n, cur, sup, pkg, words, raw, mem, q, rfl, rfl, hn, hc, O⟩ := I
  rcases pk_ix v1 (n := n) (by omega) with h0 | h1 | ⟨j, hj, rfl⟩
  · exact br_t h0 (br_t h0 ⟨rfl, J⟩)
  · have h0 := mp_ge0 (by omega) h1
    have h2 : ¬ v1 < nI n := Int32.not_lt.mpr h1
    exact br_f h0 (br_f h2 (br_f h0 (br_f h2 ⟨rfl, J⟩)))
  have a0 : ¬ nI j < 0 := nI_pos (by omega)
  have a1 : nI j < nI n := nI_lt hj (by omega)
  have ej : (nI j).toNatClampNeg = j := nI_clamp (by omega)
  refine br_f a0 (br_t a1 ⟨vp_in_nI (by omega) (by omega), nm_r (e' := words j) (by rw [ej]) ?_⟩)
  have Y0 : ¬ mp_so (words j) = 3 → wpY_ctorClass (fun r' => r' = -3 ∧ i_Rel (k + 4) (nI c, nI n, cur, sup, pkg, words, mem) (nI c, nI n, cur, sup, raw, pkg, mem)) (nI c, nI n, cur, sup, raw, pkg, mem) (nI j) := by
    intro z
    exact br_f a0 (br_t a1 (mp_ysort (by omega) O hj (br_f z ⟨rfl, J⟩)))
  by_cases c1 : words j &&& 64 = 0
  · exact br_t c1 (Y0 (fun z => ((mp_S3 _).mp z).1 c1))
  refine br_f c1 ?_
  by_cases c2 : words j &&& 16384 = 0
  · refine br_t c2 ?_
    by_cases c3 : words j &&& 128 = 0
    · refine br_t c3 ⟨vp_in_nI (by omega) (by omega), nm_r (e' := mp_c (q j)) (by rw [ej]; exact O.2.1 j hj) (mp_xC (by omega) O hj ?_)⟩
      exact br_f a0 (br_t a1 (mp_ysort (by omega) O hj (br_t ((mp_S3 _).mpr ⟨c1, c2, c3⟩) (mp_yC (by omega) O hj ⟨rfl, J⟩))))
    · exact br_f c3 (Y0 (fun z => c3 ((mp_S3 _).mp z).2.2))
  · exact br_f c2 (Y0 (fun z => c2 ((mp_S3 _).mp z).2.1))
theorem i_vc_samePackage {k : Nat} {u : SX} {v : SY} (I : i_Rel k u v) (hk : k + 4 ≤ 2049) (v1 : Int32) (v2 : Int32) : wpX_samePackage (fun r => wpY_samePackage (fun r' => r' = r ∧ i_Rel (k + 4) u v) v v1 v2) u v1 v2 := by
  have J := i_up I
  obtain ⟨c, n, cur, sup, pkg, words, raw, mem, q, rfl, rfl, hn, hc, O⟩ := I
  rcases pk_ix v1 (n := n) (by omega) with h0 | h1 | ⟨j, hj, rfl⟩
  · exact br_t h0 (br_t h0 ⟨rfl, J⟩)
  · have h0 := mp_ge0 (by omega) h1
    exact br_f h0 (br_t h1 (br_f h0 (br_t h1 ⟨rfl, J⟩)))
  have a0 : ¬ nI j < 0 := nI_pos (by omega)
  have a2 : ¬ nI n ≤ nI j := nI_ge hj (by omega)
  rcases pk_ix v2 (n := n) (by omega) with h0 | h1 | ⟨i, hi, rfl⟩
  · exact br_f a0 (br_f a2 (br_t h0 (br_f a0 (br_f a2 (br_t h0 ⟨rfl, J⟩)))))
  · have h0 := mp_ge0 (by omega) h1
    have h2 : ¬ v2 < nI n := Int32.not_lt.mpr h1
    exact br_f a0 (br_f a2 (br_f h0 (br_f h2 (br_f a0 (br_f a2 (br_f h0 (br_f h2 ⟨rfl, J⟩)))))))
  exact mp_xsame (by omega) hj hi (fun z => mp_ysame (by omega) hj hi (fun _ => ⟨rfl, J⟩) (fun y => absurd z y)) (fun z => mp_ysame (by omega) hj hi (fun y => absurd y z) (fun _ => ⟨rfl, J⟩))
theorem i_vc_classWord {k : Nat} {u : SX} {v : SY} (I : i_Rel k u v) (hk : k + 4 ≤ 2049) (v1 : Int32) : wpX_classWord (fun r => wpY_classWord (fun r' => r' = r ∧ i_Rel (k + 4) u v) v v1) u v1 := by
  have J := i_up I
  obtain ⟨c, n, cur, sup, pkg, words, raw, mem, q, rfl, rfl, hn, hc, O⟩ := I
  rcases pk_ix v1 (n := n) (by omega) with h0 | h1 | ⟨j, hj, rfl⟩
  · exact br_t h0 (br_t h0 ⟨rfl, J⟩)
  · have h0 := mp_ge0 (by omega) h1
    have h2 : ¬ v1 < nI n := Int32.not_lt.mpr h1
    exact br_f h0 (br_f h2 (br_f h0 (br_f h2 ⟨rfl, J⟩)))
  have ej : (nI j).toNatClampNeg = j := nI_clamp (by omega)
  refine br_f (nI_pos (by omega)) (br_t (nI_lt hj (by omega)) ⟨vp_in_nI (by omega) (by omega), ?_⟩)
  rw [ej]
  exact mp_yclass (by omega) O hj ⟨rfl, J⟩
theorem i_vc_packageOf {k : Nat} {u : SX} {v : SY} (I : i_Rel k u v) (hk : k + 4 ≤ 2049) (v1 : Int32) : wpX_packageOf (fun r => wpY_packageOf (fun r' => r' = r ∧ i_Rel (k + 4) u v) v v1) u v1 := by
  have J := i_up I
  obtain ⟨c, n, cur, sup, pkg, words, raw, mem, q, rfl, rfl, hn, hc, O⟩ := I
  rcases pk_ix v1 (n := n) (by omega) with h0 | h1 | ⟨j, hj, rfl⟩
  · exact br_t h0 (br_t h0 ⟨rfl, J⟩)
  · have h0 := mp_ge0 (by omega) h1
    have h2 : ¬ v1 < nI n := Int32.not_lt.mpr h1
    exact br_f h0 (br_f h2 (br_f h0 (br_f h2 ⟨rfl, J⟩)))
  have a0 : ¬ nI j < 0 := nI_pos (by omega)
  have a1 : nI j < nI n := nI_lt hj (by omega)
  have i8 : vp_in (nI j) 8 := vp_in_nI (by omega) (by omega)
  exact br_f a0 (br_t a1 ⟨i8, br_f a0 (br_t a1 ⟨i8, rfl, J⟩)⟩)
theorem i_vc_member {k : Nat} {u : SX} {v : SY} (I : i_Rel k u v) (hk : k + 4 ≤ 2049) (v1 : Int32) (v2 : Int32) : wpX_member (fun r => wpY_member (fun r' => r' = r ∧ i_Rel (k + 4) u v) v v1 v2) u v1 v2 := by
  have J := i_up I
  obtain ⟨c, n, cur, sup, pkg, words, raw, mem, q, rfl, rfl, hn, hc, O⟩ := I
  rcases pk_ix v1 (n := n) (by omega) with h0 | h1 | ⟨j, hj, rfl⟩
  · exact br_t h0 (br_t h0 ⟨rfl, J⟩)
  · have h0 := mp_ge0 (by omega) h1
    have h2 : ¬ v1 < nI n := Int32.not_lt.mpr h1
    exact br_f h0 (br_f h2 (br_f h0 (br_f h2 ⟨rfl, J⟩)))
  have a0 : ¬ nI j < 0 := nI_pos (by omega)
  have a1 : nI j < nI n := nI_lt hj (by omega)
  by_cases b0 : v2 < 0
  · exact br_f a0 (br_t a1 (br_t b0 (br_f a0 (br_t a1 (br_t b0 ⟨rfl, J⟩)))))
  by_cases b1 : v2 ≤ 5
  · obtain ⟨w, hw, rfl⟩ := nI_of2 (M := 5) (n := 5) (by decide) b0 b1
    have i48 := mp_in (k := j) (w := w) (by omega) hw
    exact br_f a0 (br_t a1 (br_f b0 (br_t b1 ⟨i48, br_f a0 (br_t a1 (br_f b0 (br_t b1 ⟨i48, rfl, J⟩)))⟩)))
  · exact br_f a0 (br_t a1 (br_f b0 (br_f b1 (br_f a0 (br_t a1 (br_f b0 (br_f b1 ⟨rfl, J⟩)))))))
end
