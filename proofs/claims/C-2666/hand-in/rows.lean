section
theorem pk_us {f : Nat → Int32} {k : Nat} {x : Int32} : upd f k x k = x := if_pos rfl
theorem pk_un {f : Nat → Int32} {k j : Nat} {x : Int32} (h : j ≠ k) : upd f k x j = f j := if_neg h
theorem pk_sub {a b : Nat} (h : b ≤ a) : nI a - nI b = nI (a - b) := by
  obtain ⟨c, rfl⟩ : ∃ c, a = c + b := ⟨a - b, by omega⟩
  rw [← nI_add, Int32.add_sub_cancel, Nat.add_sub_cancel]
theorem pk_mul (a b : Nat) : nI a * nI b = nI (a * b) := (Int32.ofNat_mul a b).symm
theorem pk_div {a d : Nat} (ha : a < 2 ^ 31) (h0 : 0 < d) (hd : d < 2 ^ 31) : nI a / nI d = nI (a / d) := by
  apply Int32.toInt_inj.mp
  rw [lg_idiv_nonneg (by rw [nI_toInt ha]; omega) (by rw [nI_toInt hd]; omega), nI_toInt ha, nI_toInt hd, nI_toInt (Nat.lt_of_le_of_lt (Nat.div_le_self a d) ha)]
  first | rfl | exact (Int.natCast_ediv _ _).symm
theorem pk_rem {a d : Nat} (ha : a < 2 ^ 31) (h0 : 0 < d) (hd : d < 2 ^ 31) : nI a - nI a / nI d * nI d = nI (a % d) := by
  rw [pk_div ha h0 hd, pk_mul, pk_sub (Nat.div_mul_le_self a d)]
  exact congrArg nI (by have := Nat.div_add_mod' a d; omega)
theorem pk_ix (x : Int32) {n : Nat} (hn : n < 2 ^ 31) : x < 0 ∨ nI n ≤ x ∨ ∃ j : Nat, j < n ∧ x = nI j := by
  by_cases h : x < 0
  · exact Or.inl h
  · obtain ⟨j, hj, rfl⟩ := nI_of h
    by_cases h2 : j < n
    · exact Or.inr (Or.inr ⟨j, h2, rfl⟩)
    · exact Or.inr (Or.inl (nI_le (by omega) hj))
theorem pk_le {x y : Int32} {A B : Prop} (a b : Nat) (f : a ≤ b → A) (g : b < a → B) (hx : x = nI a := by rfl) (hy : y = nI b := by rfl) (ha : a < 2 ^ 31 := by omega) (hb : b < 2 ^ 31 := by omega) : (x ≤ y → A) ∧ (¬ x ≤ y → B) := by
  subst hx hy
  rw [nI_leI ha hb]
  exact ⟨f, fun z => g (by omega)⟩
theorem pk_lt {x y : Int32} {A B : Prop} (a b : Nat) (f : a < b → A) (g : b ≤ a → B) (hx : x = nI a := by rfl) (hy : y = nI b := by rfl) (ha : a < 2 ^ 31 := by omega) (hb : b < 2 ^ 31 := by omega) : (x < y → A) ∧ (¬ x < y → B) := by
  subst hx hy
  rw [nI_ltI ha hb]
  exact ⟨f, fun z => g (by omega)⟩
theorem pk_eq {x y : Int32} {A B : Prop} (a b : Nat) (f : a = b → A) (g : a ≠ b → B) (hx : x = nI a := by rfl) (hy : y = nI b := by rfl) (ha : a < 2 ^ 31 := by omega) (hb : b < 2 ^ 31 := by omega) : (x = y → A) ∧ (¬ x = y → B) := by
  subst hx hy
  rw [nI_eq ha hb]
  exact ⟨f, g⟩
theorem pk_in {x : Int32} (n N : Nat) (h : n < N) (hx : x = nI n := by rfl) (hN : N < 2 ^ 31 := by omega) : vp_in x N := by
  subst hx
  exact vp_in_nI h hN
theorem pk_cl {x : Int32} (n : Nat) (hx : x = nI n := by rfl) (h : n < 2 ^ 31 := by omega) : x.toNatClampNeg = n := by
  subst hx
  exact nI_clamp h
theorem pk_tn {n : Nat} (h : n < 2 ^ 32) : (nI n).toBitVec.toNat = n := Nat.mod_eq_of_lt h
theorem pk_shl (a s : Int32) (k : Nat) (hs : (s.toBitVec.smod 32).toNat = k) : (a <<< s).toBitVec.toNat = a.toBitVec.toNat * 2 ^ k % 2 ^ 32 := by
  show (a.toBitVec <<< (s.toBitVec.smod 32).toNat).toNat = _
  rw [hs, BitVec.toNat_shiftLeft, Nat.shiftLeft_eq]
theorem pk_shr (a s : Int32) (k : Nat) (hs : (s.toBitVec.smod 32).toNat = k) : (a >>> s).toInt = a.toInt >>> k := by
  show (a.toBitVec.sshiftRight (s.toBitVec.smod 32).toNat).toInt = _
  rw [hs, BitVec.toInt_sshiftRight]
  rfl
theorem pk_shrN {n : Nat} (h : n < 2 ^ 31) (s : Int32) (k : Nat) (hs : (s.toBitVec.smod 32).toNat = k) : nI n >>> s = nI (n / 2 ^ k) := by
  apply Int32.toInt_inj.mp
  have h2 : n / 2 ^ k ≤ n := Nat.div_le_self _ _
  rw [pk_shr _ _ k hs, nI_toInt h, nI_toInt (by omega), Int.shiftRight_eq_div_pow]
  rfl
theorem pk_vs (z : Int32) : vp_nar .short z.toInt16.toInt32 = z.toInt16.toInt32 := by rw [vp_nar_short]; simp
theorem s_l : ∀ n, n < 32 → ((nI n &&& 31).toBitVec.smod 32).toNat = n := by decide +kernel
theorem nx_and (a b : Nat) : nI a &&& nI b = nI (a &&& b) := by
  apply Int32.toBitVec_inj.1
  show BitVec.ofNat 32 a &&& BitVec.ofNat 32 b = BitVec.ofNat 32 (a &&& b)
  apply BitVec.eq_of_getLsbD_eq
  intro i hi
  simp [hi]
theorem nx_xor (a b : Nat) : nI a ^^^ nI b = nI (a ^^^ b) := by
  apply Int32.toBitVec_inj.1
  show BitVec.ofNat 32 a ^^^ BitVec.ofNat 32 b = BitVec.ofNat 32 (a ^^^ b)
  apply BitVec.eq_of_getLsbD_eq
  intro i hi
  simp [hi]
end
section
/-! ===== Int32 over naturals: or, shifts, one bit, the short store ===== -/
theorem zc_or (a b : Nat) : nI a ||| nI b = nI (a ||| b) := by
  apply Int32.toBitVec_inj.1
  show BitVec.ofNat 32 a ||| BitVec.ofNat 32 b = BitVec.ofNat 32 (a ||| b)
  apply BitVec.eq_of_getLsbD_eq
  intro i hi
  simp [hi]
theorem zc_shl (n : Nat) {k : Nat} (hk : k < 32) : nI n <<< (nI k &&& 31) = nI (n * 2 ^ k) := by
  apply Int32.toBitVec_inj.mp
  apply BitVec.eq_of_toNat_eq
  rw [pk_shl _ _ k (s_l k hk)]
  show n % 2 ^ 32 * 2 ^ k % 2 ^ 32 = n * 2 ^ k % 2 ^ 32
  rw [Nat.mul_mod, Nat.mod_mod, ← Nat.mul_mod]
theorem zc_shl1 {k : Nat} (hk : k < 32) : (1 : Int32) <<< (nI k &&& 31) = nI (2 ^ k) := by
  have h := zc_shl 1 hk
  rw [Nat.one_mul] at h
  exact h
/-- bit i of n -/
def zc_bb (n i : Nat) : Nat := n / 2 ^ i % 2
theorem zc_bb01 (n i : Nat) : zc_bb n i = 0 ∨ zc_bb n i = 1 := by
  unfold zc_bb
  generalize n / 2 ^ i = z
  omega
theorem zc_bit {n k : Nat} (hn : n < 2 ^ 31) (hk : k < 32) : (nI n >>> (nI k &&& 31)) &&& 1 = nI (zc_bb n k) := by
  rw [pk_shrN hn _ k (s_l k hk)]
  show nI (n / 2 ^ k) &&& nI 1 = _
  rw [nx_and, Nat.and_one_is_mod]
  rfl
theorem zc_bbx (a b i : Nat) : zc_bb (a ^^^ b) i = if zc_bb a i = zc_bb b i then 0 else 1 := by
  unfold zc_bb
  rw [← Nat.toNat_testBit, ← Nat.toNat_testBit, ← Nat.toNat_testBit, Nat.testBit_xor]
  cases a.testBit i <;> cases b.testBit i <;> rfl
theorem zc_short {n : Nat} (h : n < 32768) : vp_nar .short (nI n).toInt16.toInt32 = nI n := by
  have e := nI_toInt (n := n) (by omega)
  rw [pk_vs, lg_i2s_small (by omega) (by omega)]

/-! ===== what the loops reckon, over naturals ===== -/
/-- the checks: the xor of the numbers of the bits that are one -/
def zc_ck (n : Nat) : Nat → Nat → Nat → Nat
  | 0, _, c => c
  | d + 1, i, c => zc_ck n d (i + 1) (c ^^^ (i * zc_bb n i))
/-- the number of ones -/
def zc_on (n : Nat) : Nat → Nat → Nat → Nat
  | 0, _, c => c
  | d + 1, i, c => zc_on n d (i + 1) (c + zc_bb n i)
/-- the byte's bits spread over a word -/
def zc_sp (v : Nat) : Nat → Nat → Nat → Nat → Nat
  | 0, _, _, w => w
  | d + 1, i, k, w => if i &&& (i - 1) = 0 then zc_sp v d (i + 1) k w else zc_sp v d (i + 1) (k + 1) (w ||| zc_bb v k * 2 ^ i)
/-- the byte in a word -/
def zc_by (n : Nat) : Nat → Nat → Nat → Nat → Nat
  | 0, _, _, v => v
  | d + 1, i, k, v => if i &&& (i - 1) = 0 then zc_by n d (i + 1) k v else zc_by n d (i + 1) (k + 1) (v ||| zc_bb n i * 2 ^ k)
def zc_es (c w x : Nat) : Nat := if c &&& x = 0 then w else w ||| 2 ^ x
def zc_C (n : Nat) : Nat := zc_ck n 12 1 0
def zc_P (n : Nat) : Nat := zc_on n 13 0 0
def zc_O (n : Nat) : Nat := zc_P n % 2
def zc_S (v : Nat) : Nat := zc_sp v 10 3 0 0
def zc_B (n : Nat) : Nat := zc_by n 10 3 0 0
def zc_E4 (c w : Nat) : Nat := zc_es c (zc_es c (zc_es c (zc_es c w 1) 2) 4) 8
def zc_E1 (w : Nat) : Nat := if zc_O w = 0 then w else w ||| 1
/-- the code word of a byte -/
def zc_K (v : Nat) : Nat := zc_E1 (zc_E4 (zc_C (zc_S v)) (zc_S v))
/-- the wrong bit: 13 for none, 14 for a broken word -/
def zc_W (n : Nat) : Nat := if zc_O n = 0 then (if zc_C n = 0 then 13 else 14) else (if zc_C n ≤ 12 then zc_C n else 14)
def zc_M (n : Nat) : Nat := if zc_W n = 13 then n else n ^^^ 2 ^ zc_W n
/-- the reference: the place of the byte's bit k, the parity under a mask, the code word -/
def zc_pl (k : Nat) : Nat → Nat → Nat → Nat
  | 0, _, _ => 0
  | d + 1, m, i => if i = 1 ∨ i = 2 ∨ i = 4 ∨ i = 8 then zc_pl k d m (i + 1) else if m = k then i else zc_pl k d (m + 1) (i + 1)
def zc_ev (n w : Nat) : Nat → Nat → Nat → Nat
  | 0, _, c => c
  | d + 1, i, c => zc_ev n w d (i + 1) (if w = 0 ∨ i &&& w ≠ 0 then c + zc_bb n i else c)
def zc_L (k : Nat) : Nat := zc_pl k 12 0 1
def zc_cl (v : Nat) : Nat → Nat → Nat → Nat
  | 0, _, w => w
  | d + 1, k, w => zc_cl v d (k + 1) (w ||| zc_bb v k * 2 ^ zc_L k)
def zc_ad (w m b : Nat) : Nat := if zc_ev w m 13 0 0 % 2 = 0 then w else w ||| b
def zc_Y (v : Nat) : Nat := zc_ad (zc_ad (zc_ad (zc_ad (zc_ad (zc_cl v 8 0 0) 1 2) 2 4) 4 16) 8 256) 0 1
/-- couples and triples of bits that make up the checks -/
def zc_t2 (c : Nat) : Nat → Nat → Nat → Nat
  | 0, _, n => n
  | d + 1, a, n => zc_t2 c d (a + 1) (if a < (a ^^^ c) ∧ (a ^^^ c) < 13 then n + 1 else n)
def zc_t3i (c a : Nat) : Nat → Nat → Nat → Nat
  | 0, _, n => n
  | d + 1, b, n => zc_t3i c a d (b + 1) (if b < ((a ^^^ b) ^^^ c) ∧ ((a ^^^ b) ^^^ c) < 13 then n + 1 else n)
def zc_t3 (c : Nat) : Nat → Nat → Nat → Nat
  | 0, _, n => n
  | d + 1, a, n => zc_t3 c d (a + 1) (zc_t3i c a d (a + 1) n)
def zc_T2 (c : Nat) : Nat := zc_t2 c 13 0 0
def zc_T3 (c : Nat) : Nat := zc_t3 c 13 0 0
end
section
/-! ===== sweeps by halves ===== -/
def zc_al (f : Nat → Bool) : Nat → Nat → Bool
  | 0, b => f b
  | k + 1, b => zc_al f k b && zc_al f k (b + 2 ^ k)
theorem zc_all {f : Nat → Bool} : ∀ k b : Nat, zc_al f k b = true → ∀ j, j < 2 ^ k → f (b + j) = true := by
  intro k
  induction k with
  | zero =>
    intro b h j hj
    have e : j = 0 := by simpa using hj
    rw [e]
    exact h
  | succ k ih =>
    intro b h j hj
    have h' : (zc_al f k b && zc_al f k (b + 2 ^ k)) = true := h
    rw [Bool.and_eq_true] at h'
    rcases Nat.lt_or_ge j (2 ^ k) with z | z
    · exact ih b h'.1 j z
    · have hj2 : j - 2 ^ k < 2 ^ k := by rw [Nat.pow_succ] at hj; omega
      have r := ih (b + 2 ^ k) h'.2 (j - 2 ^ k) hj2
      have e : b + 2 ^ k + (j - 2 ^ k) = b + j := by omega
      rw [e] at r
      exact r
theorem zc_all0 {f : Nat → Bool} (k : Nat) (h : zc_al f k 0 = true) {j : Nat} (hj : j < 2 ^ k) : f j = true := by
  have r := zc_all k 0 h j hj
  rw [Nat.zero_add] at r
  exact r

/-! ===== the tables ===== -/
def zc_q1 (v : Nat) : Bool := Nat.blt (zc_S v) 8192 && (Nat.blt (zc_C (zc_S v)) 16 && (Nat.blt (zc_E4 (zc_C (zc_S v)) (zc_S v)) 8192 && Nat.beq (zc_Y v) (zc_K v)))
def zc_q2 (v : Nat) : Bool := Nat.blt (zc_K v) 8192 && (Nat.beq (zc_C (zc_K v)) 0 && (Nat.beq (zc_O (zc_K v)) 0 && Nat.beq (zc_B (zc_K v)) v))
def zc_q3 (d : Nat) : Bool := Nat.blt 1 (zc_P d) || (Nat.beq d 0 || Nat.beq d (2 ^ Nat.log2 d))
def zc_q4 (m : Nat) : Bool := !(Nat.beq (zc_C m) 0 && Nat.beq (zc_O m) 0) || (Nat.blt (zc_B m) 256 && Nat.beq (zc_K (zc_B m)) m)
theorem zc_d1 : zc_al zc_q1 8 0 = true := by decide +kernel
theorem zc_d2 : zc_al zc_q2 8 0 = true := by decide +kernel
theorem zc_d3 : zc_al zc_q3 13 0 = true := by decide +kernel
theorem zc_d4 : zc_al zc_q4 13 0 = true := by decide +kernel
theorem zc_bnd {v : Nat} (hv : v < 256) : zc_S v < 8192 ∧ zc_C (zc_S v) < 16 ∧ zc_E4 (zc_C (zc_S v)) (zc_S v) < 8192 ∧ zc_Y v = zc_K v := by
  have h := zc_all0 8 zc_d1 (j := v) hv
  unfold zc_q1 at h
  simp only [Bool.and_eq_true, Nat.blt_eq, Nat.beq_eq] at h
  exact h
theorem zc_cod {v : Nat} (hv : v < 256) : zc_K v < 8192 ∧ zc_C (zc_K v) = 0 ∧ zc_O (zc_K v) = 0 ∧ zc_B (zc_K v) = v := by
  have h := zc_all0 8 zc_d2 (j := v) hv
  unfold zc_q2 at h
  simp only [Bool.and_eq_true, Nat.blt_eq, Nat.beq_eq] at h
  exact h
theorem zc_one {d : Nat} (hd : d < 8192) (h1 : zc_P d ≤ 1) : d = 0 ∨ ∃ i, i < 13 ∧ d = 2 ^ i := by
  have h := zc_all0 13 zc_d3 (j := d) hd
  unfold zc_q3 at h
  simp only [Bool.or_eq_true, Nat.blt_eq, Nat.beq_eq] at h
  rcases h with h | h | h
  · omega
  · exact Or.inl h
  · by_cases z : d = 0
    · exact Or.inl z
    · exact Or.inr ⟨Nat.log2 d, (Nat.log2_lt z).mpr hd, h⟩
theorem zc_char {m : Nat} (hm : m < 8192) (h1 : zc_C m = 0) (h2 : zc_O m = 0) : zc_B m < 256 ∧ zc_K (zc_B m) = m := by
  have h := zc_all0 13 zc_d4 (j := m) hm
  unfold zc_q4 at h
  rw [h1, h2] at h
  have h' : (Nat.blt (zc_B m) 256 && Nat.beq (zc_K (zc_B m)) m) = true := h
  simp only [Bool.and_eq_true, Nat.blt_eq, Nat.beq_eq] at h'
  exact h'
theorem zc_pw : ∀ i, i < 13 → zc_C (2 ^ i) = i ∧ zc_O (2 ^ i) = 1 ∧ zc_P (2 ^ i) = 1 ∧ 2 ^ i < 8192 := by decide +kernel
theorem zc_P0 : zc_P 0 = 0 := by decide +kernel
theorem zc_K0 : zc_K 0 = 0 := by decide +kernel

/-! ===== the checks and the parity are linear ===== -/
theorem zc_ix (i a b : Nat) : ∀ k, i * zc_bb (a ^^^ b) k = (i * zc_bb a k) ^^^ (i * zc_bb b k) := by
  intro k
  rw [zc_bbx]
  rcases zc_bb01 a k with ha | ha <;> rcases zc_bb01 b k with hb | hb <;> rw [ha, hb] <;> simp
theorem zc_x4 (c e x y : Nat) : (c ^^^ e) ^^^ (x ^^^ y) = (c ^^^ x) ^^^ (e ^^^ y) := by ac_rfl
theorem zc_ck_x (a b : Nat) : ∀ d i c e, zc_ck (a ^^^ b) d i (c ^^^ e) = zc_ck a d i c ^^^ zc_ck b d i e := by
  intro d
  induction d with
  | zero => intro i c e; rfl
  | succ d ih =>
    intro i c e
    show zc_ck (a ^^^ b) d (i + 1) ((c ^^^ e) ^^^ (i * zc_bb (a ^^^ b) i)) = zc_ck a d (i + 1) (c ^^^ (i * zc_bb a i)) ^^^ zc_ck b d (i + 1) (e ^^^ (i * zc_bb b i))
    rw [← ih, zc_ix, zc_x4]
theorem zc_Cx (a b : Nat) : zc_C (a ^^^ b) = zc_C a ^^^ zc_C b := zc_ck_x a b 12 1 0 0
theorem zc_on_x (a b : Nat) : ∀ d i c x y, c % 2 = (x + y) % 2 → zc_on (a ^^^ b) d i c % 2 = (zc_on a d i x + zc_on b d i y) % 2 := by
  intro d
  induction d with
  | zero => intro i c x y h; exact h
  | succ d ih =>
    intro i c x y h
    refine ih (i + 1) (c + zc_bb (a ^^^ b) i) (x + zc_bb a i) (y + zc_bb b i) ?_
    rw [zc_bbx]
    rcases zc_bb01 a i with ha | ha <;> rcases zc_bb01 b i with hb | hb <;> rw [ha, hb] <;> simp <;> omega
theorem zc_Ox (a b : Nat) : zc_O (a ^^^ b) = (zc_O a + zc_O b) % 2 := by
  have h := zc_on_x a b 13 0 0 0 0 rfl
  unfold zc_O zc_P
  omega
theorem zc_O2 (n : Nat) : zc_O n < 2 := Nat.mod_lt _ (by decide)
theorem zc_ck16 (n : Nat) : ∀ d i c, i + d ≤ 13 → c < 16 → zc_ck n d i c < 16 := by
  intro d
  induction d with
  | zero => intro i c _ h; exact h
  | succ d ih =>
    intro i c hi hc
    have hb : i * zc_bb n i < 16 := by rcases zc_bb01 n i with h | h <;> rw [h] <;> omega
    exact ih (i + 1) _ (by omega) (Nat.xor_lt_two_pow (n := 4) hc hb)
theorem zc_C16 (n : Nat) : zc_C n < 16 := zc_ck16 n 12 1 0 (by omega) (by omega)
theorem zc_on13 (n : Nat) : ∀ d i c, zc_on n d i c ≤ c + d := by
  intro d
  induction d with
  | zero => intro i c; exact Nat.le_refl _
  | succ d ih =>
    intro i c
    have h := ih (i + 1) (c + zc_bb n i)
    have e : zc_on n (d + 1) i c = zc_on n d (i + 1) (c + zc_bb n i) := rfl
    rcases zc_bb01 n i with z | z <;> omega
theorem zc_P13 (n : Nat) : zc_P n ≤ 13 := by
  have h := zc_on13 n 13 0 0
  unfold zc_P
  omega

/-! ===== the wrong bit and the mended word ===== -/
theorem zc_Wc (w : Nat) : (zc_W w = 13 ∧ zc_O w = 0 ∧ zc_C w = 0) ∨ zc_W w = 14 ∨ (zc_W w ≤ 12 ∧ zc_O w = 1 ∧ zc_C w = zc_W w) := by
  have h2 := zc_O2 w
  by_cases h : zc_O w = 0
  · by_cases c : zc_C w = 0
    · exact Or.inl ⟨by unfold zc_W; rw [if_pos h, if_pos c], h, c⟩
    · exact Or.inr (Or.inl (by unfold zc_W; rw [if_pos h, if_neg c]))
  · by_cases c : zc_C w ≤ 12
    · have e : zc_W w = zc_C w := by unfold zc_W; rw [if_neg h, if_pos c]
      exact Or.inr (Or.inr ⟨by omega, by omega, e.symm⟩)
    · exact Or.inr (Or.inl (by unfold zc_W; rw [if_neg h, if_neg c]))
theorem zc_Wle (w : Nat) : zc_W w ≤ 14 := by
  rcases zc_Wc w with h | h | h <;> omega
/-- the difference of a word that isn't broken and its mended word -/
def zc_D (w : Nat) : Nat := if zc_W w = 13 then 0 else 2 ^ zc_W w
theorem zc_MD (w : Nat) : zc_M w = w ^^^ zc_D w := by
  unfold zc_M zc_D
  by_cases h : zc_W w = 13
  · rw [if_pos h, if_pos h, Nat.xor_zero]
  · rw [if_neg h, if_neg h]
theorem zc_xx (a b : Nat) : a ^^^ (a ^^^ b) = b := by rw [← Nat.xor_assoc, Nat.xor_self, Nat.zero_xor]
theorem zc_wM (w : Nat) : w ^^^ zc_M w = zc_D w := by rw [zc_MD, zc_xx]
theorem zc_Dok {w : Nat} (h : zc_W w ≠ 14) : zc_D w < 8192 ∧ zc_C (zc_D w) = zc_C w ∧ zc_O (zc_D w) = zc_O w ∧ zc_P (zc_D w) ≤ 1 := by
  unfold zc_D
  rcases zc_Wc w with ⟨a, b, c⟩ | a | ⟨a, b, c⟩
  · rw [if_pos a, b, c]
    decide +kernel
  · exact absurd a h
  · obtain ⟨p, q, r, s⟩ := zc_pw (zc_W w) (by omega)
    rw [if_neg (by omega), p, q, r, b, c]
    exact ⟨s, rfl, rfl, Nat.le_refl _⟩
theorem zc_M8 {w : Nat} (hw : w < 8192) (h : zc_W w ≠ 14) : zc_M w < 8192 := by
  rw [zc_MD]
  exact Nat.xor_lt_two_pow (n := 13) hw (zc_Dok h).1
theorem zc_Mok {w : Nat} (hw : w < 8192) (h : zc_W w ≠ 14) : zc_B (zc_M w) < 256 ∧ zc_K (zc_B (zc_M w)) = zc_M w := by
  obtain ⟨a, b, c, d⟩ := zc_Dok h
  have h2 := zc_O2 w
  refine zc_char (zc_M8 hw h) ?_ ?_
  · rw [zc_MD, zc_Cx, b, Nat.xor_self]
  · rw [zc_MD, zc_Ox, c]
    omega
theorem zc_near1 {w : Nat} (hw : w < 8192) (h : zc_W w ≠ 14) : zc_P (w ^^^ zc_K (zc_B (zc_M w))) ≤ 1 := by
  rw [(zc_Mok hw h).2, zc_wM]
  exact (zc_Dok h).2.2.2
theorem zc_uniq {w b : Nat} (hw : w < 8192) (hb : b < 256) (h : zc_P (w ^^^ zc_K b) ≤ 1) : zc_W w ≠ 14 ∧ zc_B (zc_M w) = b := by
  obtain ⟨k1, k2, k3, k4⟩ := zc_cod hb
  have hx : w ^^^ zc_K b < 8192 := Nat.xor_lt_two_pow (n := 13) hw k1
  have e : w = zc_K b ^^^ (w ^^^ zc_K b) := by rw [Nat.xor_comm w, zc_xx]
  rcases zc_one hx h with z | ⟨i, hi, z⟩
  · rw [z, Nat.xor_zero] at e
    have w13 : zc_W w = 13 := by unfold zc_W; rw [e, k2, k3]; rfl
    refine ⟨by omega, ?_⟩
    unfold zc_M
    rw [if_pos w13, e, k4]
  · rw [z] at e
    obtain ⟨p, q, r, s⟩ := zc_pw i hi
    have c : zc_C w = i := by rw [e, zc_Cx, k2, p, Nat.zero_xor]
    have o : zc_O w = 1 := by rw [e, zc_Ox, k3, q]
    have wi : zc_W w = i := by
      unfold zc_W
      rw [c, o, if_neg (by decide), if_pos (by omega)]
    refine ⟨by omega, ?_⟩
    have m : zc_M w = zc_K b := by
      unfold zc_M
      rw [wi, if_neg (by omega)]
      have e2 : w ^^^ 2 ^ i = zc_K b := by rw [← z, zc_xx]
      exact e2
    rw [m, k4]

/-! ===== the weights of a coset ===== -/
def zc_sum (f : Nat → Nat) : Nat → Nat
  | 0 => 0
  | n + 1 => zc_sum f n + f n
theorem zc_sum_add (f : Nat → Nat) (a : Nat) : ∀ b, zc_sum f (a + b) = zc_sum f a + zc_sum (fun j => f (a + j)) b := by
  intro b
  induction b with
  | zero => rfl
  | succ b ih =>
    show zc_sum f (a + b) + f (a + b) = zc_sum f a + (zc_sum (fun j => f (a + j)) b + f (a + b))
    rw [ih, Nat.add_assoc]
theorem zc_sum_ext {f g : Nat → Nat} : ∀ n, (∀ j, j < n → f j = g j) → zc_sum f n = zc_sum g n := by
  intro n
  induction n with
  | zero => intro _; rfl
  | succ n ih =>
    intro h
    show zc_sum f n + f n = zc_sum g n + g n
    rw [ih (fun j hj => h j (by omega)), h n (by omega)]
theorem zc_sum_ge (f : Nat → Nat) : ∀ n b, b < n → f b ≤ zc_sum f n := by
  intro n
  induction n with
  | zero => intro b hb; omega
  | succ n ih =>
    intro b hb
    show f b ≤ zc_sum f n + f n
    by_cases z : b = n
    · rw [z]; omega
    · have := ih b (by omega)
      omega
theorem zc_sum_pos (f : Nat → Nat) : ∀ n, 0 < zc_sum f n → ∃ b, b < n ∧ 0 < f b := by
  intro n
  induction n with
  | zero => intro h; exact absurd h (Nat.lt_irrefl 0)
  | succ n ih =>
    intro h
    have h' : 0 < zc_sum f n + f n := h
    by_cases z : 0 < f n
    · exact ⟨n, by omega, z⟩
    · obtain ⟨b, h1, h2⟩ := ih (by omega)
      exact ⟨b, by omega, h2⟩
def zc_T (f : Nat → Nat) : Nat → Nat → Nat
  | 0, w => f w
  | k + 1, w => zc_T f k w + zc_T f k (w ^^^ zc_K (2 ^ k))
theorem zc_Kadd : ∀ k, k < 8 → ∀ b, b < 2 ^ k → zc_K (2 ^ k + b) = zc_K (2 ^ k) ^^^ zc_K b := by decide +kernel
theorem zc_xrc (a b c : Nat) : (a ^^^ b) ^^^ c = (a ^^^ c) ^^^ b := by ac_rfl
theorem zc_T_inv (f : Nat → Nat) (j : Nat) : ∀ k, j < k → ∀ w, zc_T f k (w ^^^ zc_K (2 ^ j)) = zc_T f k w := by
  intro k
  induction k with
  | zero => intro h; omega
  | succ k ih =>
    intro h w
    show zc_T f k (w ^^^ zc_K (2 ^ j)) + zc_T f k ((w ^^^ zc_K (2 ^ j)) ^^^ zc_K (2 ^ k)) = zc_T f k w + zc_T f k (w ^^^ zc_K (2 ^ k))
    by_cases z : j = k
    · rw [z, Nat.xor_assoc, Nat.xor_self, Nat.xor_zero, Nat.add_comm]
    · rw [zc_xrc, ih (by omega), ih (by omega)]
theorem zc_T_sum (f : Nat → Nat) : ∀ k, k ≤ 8 → ∀ w, zc_T f k w = zc_sum (fun b => f (w ^^^ zc_K b)) (2 ^ k) := by
  intro k
  induction k with
  | zero =>
    intro _ w
    show f w = 0 + f (w ^^^ zc_K 0)
    rw [zc_K0, Nat.xor_zero, Nat.zero_add]
  | succ k ih =>
    intro h w
    show zc_T f k w + zc_T f k (w ^^^ zc_K (2 ^ k)) = _
    rw [ih (by omega), ih (by omega), Nat.pow_succ, Nat.mul_two, zc_sum_add]
    refine congrArg (zc_sum (fun b => f (w ^^^ zc_K b)) (2 ^ k) + ·) (zc_sum_ext _ fun j hj => ?_)
    show f ((w ^^^ zc_K (2 ^ k)) ^^^ zc_K j) = f (w ^^^ zc_K (2 ^ k + j))
    rw [zc_Kadd k (by omega) j hj, Nat.xor_assoc]
theorem zc_T_K (f : Nat → Nat) : ∀ k, k ≤ 8 → ∀ b, b < 2 ^ k → ∀ w, zc_T f 8 (w ^^^ zc_K b) = zc_T f 8 w := by
  intro k
  induction k with
  | zero =>
    intro _ b hb w
    have e : b = 0 := by simpa using hb
    rw [e, zc_K0, Nat.xor_zero]
  | succ k ih =>
    intro h b hb w
    rcases Nat.lt_or_ge b (2 ^ k) with z | z
    · exact ih (by omega) b z w
    · obtain ⟨c, rfl⟩ : ∃ c, b = 2 ^ k + c := ⟨b - 2 ^ k, by omega⟩
      have hc : c < 2 ^ k := by rw [Nat.pow_succ] at hb; omega
      rw [zc_Kadd k (by omega) c hc, ← Nat.xor_assoc, ih (by omega) c hc, zc_T_inv f k 8 (by omega)]
theorem zc_shift (f : Nat → Nat) (w : Nat) {b : Nat} (hb : b < 256) : zc_sum (fun j => f ((w ^^^ zc_K b) ^^^ zc_K j)) 256 = zc_sum (fun j => f (w ^^^ zc_K j)) 256 := by
  have h1 := zc_T_sum f 8 (Nat.le_refl _) (w ^^^ zc_K b)
  have h2 := zc_T_sum f 8 (Nat.le_refl _) w
  have h3 := zc_T_K f 8 (Nat.le_refl _) b hb w
  exact h1.symm.trans (h3.trans h2)

/-! ===== the nearest code words ===== -/
def zc_R0 (c : Nat) : Nat := 2 * (c % 2) + 4 * (c / 2 % 2) + 16 * (c / 4 % 2) + 256 * (c / 8 % 2)
def zc_R (c o : Nat) : Nat := zc_R0 c + (zc_O (zc_R0 c) + o) % 2
theorem zc_Rok : ∀ o, o < 2 → ∀ c, c < 16 → zc_R c o < 8192 ∧ zc_C (zc_R c o) = c ∧ zc_O (zc_R c o) = o := by decide +kernel
theorem zc_coset {w : Nat} (hw : w < 8192) : ∃ b, b < 256 ∧ w = zc_R (zc_C w) (zc_O w) ^^^ zc_K b := by
  obtain ⟨r1, r2, r3⟩ := zc_Rok (zc_O w) (zc_O2 w) (zc_C w) (zc_C16 w)
  have h2 := zc_O2 w
  have hx : zc_R (zc_C w) (zc_O w) ^^^ w < 8192 := Nat.xor_lt_two_pow (n := 13) r1 hw
  obtain ⟨k1, k2⟩ := zc_char hx (by rw [zc_Cx, r2, Nat.xor_self]) (by rw [zc_Ox, r3]; omega)
  exact ⟨_, k1, by rw [k2, zc_xx]⟩
def zc_f (m x : Nat) : Nat := if zc_P x < m then 1000 else if zc_P x = m then 1 else 0
def zc_m (c o : Nat) : Nat := if o = 0 then (if c = 0 then 0 else 2) else (if c ≤ 12 then 1 else 3)
def zc_n (c o : Nat) : Nat := if o = 0 then (if c = 0 then 1 else zc_T2 c) else (if c ≤ 12 then 1 else zc_T3 c)
theorem zc_near32 : ∀ o, o < 2 → ∀ c, c < 16 → zc_sum (fun b => zc_f (zc_m c o) (zc_R c o ^^^ zc_K b)) 256 = zc_n c o ∧ 0 < zc_n c o ∧ zc_n c o < 1000 ∧ zc_m c o ≤ 3 := by decide +kernel
theorem zc_near {w : Nat} (hw : w < 8192) : zc_sum (fun b => zc_f (zc_m (zc_C w) (zc_O w)) (w ^^^ zc_K b)) 256 = zc_n (zc_C w) (zc_O w) := by
  obtain ⟨b, hb, e⟩ := zc_coset hw
  have h := (zc_near32 (zc_O w) (zc_O2 w) (zc_C w) (zc_C16 w)).1
  have s := zc_shift (zc_f (zc_m (zc_C w) (zc_O w))) (zc_R (zc_C w) (zc_O w)) hb
  rw [← e] at s
  exact s.trans h
/-- the reference's count of the distance l among the first i code words -/
def zc_cnt (w l i : Nat) : Nat := zc_sum (fun b => if zc_P (w ^^^ zc_K b) = l then 1 else 0) i
theorem zc_least {w l c : Nat} (hw : w < 8192) (hA : ∀ b, b < 256 → l ≤ zc_P (w ^^^ zc_K b)) (hB : c = zc_cnt w l 256) (hC : l = 13 ∨ ∃ b, b < 256 ∧ zc_P (w ^^^ zc_K b) = l) : l = zc_m (zc_C w) (zc_O w) ∧ c = zc_n (zc_C w) (zc_O w) := by
  obtain ⟨_, n1, n2, n3⟩ := zc_near32 (zc_O w) (zc_O2 w) (zc_C w) (zc_C16 w)
  have hs := zc_near hw
  have hm : ∀ b, b < 256 → zc_m (zc_C w) (zc_O w) ≤ zc_P (w ^^^ zc_K b) := by
    intro b hb
    rcases Nat.lt_or_ge (zc_P (w ^^^ zc_K b)) (zc_m (zc_C w) (zc_O w)) with z | z
    · have g := zc_sum_ge (fun b => zc_f (zc_m (zc_C w) (zc_O w)) (w ^^^ zc_K b)) 256 b hb
      have e : zc_f (zc_m (zc_C w) (zc_O w)) (w ^^^ zc_K b) = 1000 := if_pos z
      omega
    · exact z
  have hc : zc_cnt w (zc_m (zc_C w) (zc_O w)) 256 = zc_n (zc_C w) (zc_O w) := by
    rw [← hs]
    refine zc_sum_ext _ fun j hj => ?_
    have q := hm j hj
    have e : zc_f (zc_m (zc_C w) (zc_O w)) (w ^^^ zc_K j) = if zc_P (w ^^^ zc_K j) = zc_m (zc_C w) (zc_O w) then 1 else 0 := if_neg (by omega)
    exact e.symm
  have hl : l = zc_m (zc_C w) (zc_O w) := by
    obtain ⟨b, hb, p⟩ := zc_sum_pos _ _ (by unfold zc_cnt at hc; rw [hc]; exact n1)
    have hlm : l ≤ zc_m (zc_C w) (zc_O w) := by
      have a := hA b hb
      by_cases z : zc_P (w ^^^ zc_K b) = zc_m (zc_C w) (zc_O w)
      · omega
      · rw [if_neg z] at p
        omega
    rcases hC with z | ⟨d, hd, z⟩
    · omega
    · have := hm d hd
      omega
  exact ⟨hl, by rw [hB, hl, hc]⟩
end
section
/-! ===== the component's private methods ===== -/
theorem zc_neg2 : ∀ {n : Nat}, n < 2 ^ 31 → ¬ nI n = -2 := by
  intro n h e
  have p := nI_pos h
  rw [e] at p
  exact p (by decide)
theorem zc_Xiw {post : Int32 → Prop} {u : SX} {j : Nat} (hj : j < 16) (hp : post 1) : wpX_isWord post u (nI j) := by
  obtain ⟨f, a⟩ := u
  exact br_f (nI_pos (by omega)) (pk_lt 15 j (fun h => absurd h (by omega)) (fun _ => hp))
theorem zc_Yiw {post : Int32 → Prop} {v : SY} {j : Nat} (hj : j < 16) (hp : post 1) : wpY_isWord post v (nI j) := by
  obtain ⟨f, a, c⟩ := v
  exact br_f (nI_pos (by omega)) (pk_lt 15 j (fun h => absurd h (by omega)) (fun _ => hp))
/-- a number is a word's, or both sides refuse it -/
theorem zc_iw (x : Int32) : (∃ j : Nat, j < 16 ∧ x = nI j) ∨ ((∀ (post : Int32 → Prop) (u : SX), post 0 → wpX_isWord post u x) ∧ (∀ (post : Int32 → Prop) (v : SY), post 0 → wpY_isWord post v x)) := by
  rcases pk_ix x (n := 16) (by decide) with h | h | h
  · refine Or.inr ⟨fun post u hp => ?_, fun post v hp => ?_⟩
    · obtain ⟨f, a⟩ := u
      exact br_t h hp
    · obtain ⟨f, a, c⟩ := v
      exact br_t h hp
  · have h15 : (15 : Int32) < x := by
      have e : (nI 16).toInt = 16 := nI_toInt (by decide)
      have e2 : (15 : Int32).toInt = 15 := by decide
      rw [Int32.le_iff_toInt_le, e] at h
      rw [Int32.lt_iff_toInt_lt, e2]
      omega
    refine Or.inr ⟨fun post u hp => ?_, fun post v hp => ?_⟩
    · obtain ⟨f, a⟩ := u
      exact br_c (fun _ => hp) (fun _ => br_t h15 hp)
    · obtain ⟨f, a, c⟩ := v
      exact br_c (fun _ => hp) (fun _ => br_t h15 hp)
  · exact Or.inl h
theorem zc_Xck {post : Int32 → Prop} {f : Int32} {a : Nat → Int32} {n : Nat} (hn : n < 2 ^ 31) : ∀ d i c : Nat, i + d = 13 → post (nI (zc_ck n d i c)) → wX_checksOf_4 post (nI n) f a (d + 1) (nI c) (nI i) := by
  intro d
  induction d with
  | zero => intro i c hi hp; exact pk_le 13 i (fun _ => hp) (fun h => absurd h (by omega))
  | succ d ih =>
    intro i c hi hp
    have hp' : post (nI (zc_ck n d (i + 1) (c ^^^ (i * zc_bb n i)))) := hp
    have hb := zc_bb01 n i
    refine pk_le 13 i (fun h => absurd h (by omega)) (fun _ => ?_)
    rw [zc_bit hn (by omega)]
    refine pk_eq (zc_bb n i) 0 (fun h => nm_r (nI_1 i) (ih (i + 1) c (by omega) ?_)) (fun h => nm_r (nx_xor c i) (nm_r (nI_1 i) (ih (i + 1) (c ^^^ i) (by omega) ?_)))
    · rw [h, Nat.mul_zero, Nat.xor_zero] at hp'
      exact hp'
    · have h1 : zc_bb n i = 1 := by omega
      rw [h1, Nat.mul_one] at hp'
      exact hp'
theorem zc_XC {post : Int32 → Prop} {u : SX} {n : Nat} (hn : n < 2 ^ 31) (hp : post (nI (zc_C n))) : wpX_checksOf post u (nI n) := by
  obtain ⟨f, a⟩ := u
  show ∃ n4 : Nat, wX_checksOf_4 post (nI n) f a n4 0 1
  exact ⟨12 + 1, zc_Xck hn 12 1 0 (by omega) hp⟩
theorem zc_Xon {post : Int32 → Prop} {f : Int32} {a : Nat → Int32} {n : Nat} (hn : n < 2 ^ 31) : ∀ d i c : Nat, i + d = 13 → post (nI (zc_on n d i c)) → wX_onesIn_4 post (nI n) f a (d + 1) (nI c) (nI i) := by
  intro d
  induction d with
  | zero => intro i c hi hp; exact pk_le 13 i (fun _ => hp) (fun h => absurd h (by omega))
  | succ d ih =>
    intro i c hi hp
    refine pk_le 13 i (fun h => absurd h (by omega)) (fun _ => nm_r (e' := nI (c + zc_bb n i)) ?_ (nm_r (nI_1 i) (ih (i + 1) (c + zc_bb n i) (by omega) hp)))
    rw [zc_bit hn (by omega), nI_add]
theorem zc_XP {post : Int32 → Prop} {u : SX} {n : Nat} (hn : n < 2 ^ 31) (hp : post (nI (zc_P n))) : wpX_onesIn post u (nI n) := by
  obtain ⟨f, a⟩ := u
  show ∃ n4 : Nat, wX_onesIn_4 post (nI n) f a n4 0 0
  exact ⟨13 + 1, zc_Xon hn 13 0 0 (by omega) hp⟩
theorem zc_XO {post : Int32 → Prop} {u : SX} {n : Nat} (hn : n < 2 ^ 31) (hp : post (nI (zc_O n))) : wpX_isOdd post u (nI n) := by
  obtain ⟨f, a⟩ := u
  have h2 := zc_O2 n
  have e : nI (zc_P n) &&& 1 = nI (zc_O n) := by
    show nI (zc_P n) &&& nI 1 = _
    rw [nx_and, Nat.and_one_is_mod]
    rfl
  unfold wpX_isOdd
  refine zc_XP hn ?_
  show ((nI (zc_P n) &&& 1) = 0 → post 0) ∧ (¬ (nI (zc_P n) &&& 1) = 0 → post 1)
  rw [e]
  refine pk_eq (zc_O n) 0 (fun h => ?_) (fun h => ?_)
  · rw [h] at hp; exact hp
  · have h1 : zc_O n = 1 := by omega
    rw [h1] at hp; exact hp
theorem zc_ii {i : Nat} (hi : 1 ≤ i) : nI i &&& (nI i - 1) = nI (i &&& (i - 1)) := by
  show nI i &&& (nI i - nI 1) = _
  rw [pk_sub hi, nx_and]
theorem zc_Xsp {post : Int32 → Prop} {f : Int32} {a : Nat → Int32} {v : Nat} (hv : v < 2 ^ 31) : ∀ d i k w : Nat, i + d = 13 → 1 ≤ i → k ≤ i → post (nI (zc_sp v d i k w)) → wX_spread_7 post (nI v) f a (d + 1) (nI w) (nI k) (nI i) := by
  intro d
  induction d with
  | zero => intro i k w hi h1 hk hp; exact pk_le 13 i (fun _ => hp) (fun h => absurd h (by omega))
  | succ d ih =>
    intro i k w hi h1 hk hp
    have hl : i &&& (i - 1) ≤ i := Nat.and_le_left
    have hp' : post (nI (if i &&& (i - 1) = 0 then zc_sp v d (i + 1) k w else zc_sp v d (i + 1) (k + 1) (w ||| zc_bb v k * 2 ^ i))) := hp
    refine pk_le 13 i (fun h => absurd h (by omega)) (fun _ => ?_)
    rw [zc_ii h1, zc_bit hv (by omega), zc_shl _ (by omega), zc_or]
    refine pk_eq (i &&& (i - 1)) 0 (fun h => nm_r (nI_1 i) (ih (i + 1) k w (by omega) (by omega) (by omega) ?_)) (fun h => nm_e (nm_r (nI_1 k) (nm_r (nI_1 i) (ih (i + 1) (k + 1) _ (by omega) (by omega) (by omega) ?_))))
    · rw [if_pos h] at hp'; exact hp'
    · rw [if_neg h] at hp'; exact hp'
theorem zc_XS {post : Int32 → Prop} {u : SX} {v : Nat} (hv : v < 2 ^ 31) (hp : post (nI (zc_S v))) : wpX_spread post u (nI v) := by
  obtain ⟨f, a⟩ := u
  show ∃ n7 : Nat, wX_spread_7 post (nI v) f a n7 0 0 3
  exact ⟨10 + 1, zc_Xsp hv 10 3 0 0 (by omega) (by omega) (by omega) hp⟩
theorem zc_Xby {post : Int32 → Prop} {f : Int32} {a : Nat → Int32} {n : Nat} (hn : n < 2 ^ 31) : ∀ d i k v : Nat, i + d = 13 → 1 ≤ i → k ≤ i → post (nI (zc_by n d i k v)) → wX_byteIn_7 post (nI n) f a (d + 1) (nI v) (nI k) (nI i) := by
  intro d
  induction d with
  | zero => intro i k w hi h1 hk hp; exact pk_le 13 i (fun _ => hp) (fun h => absurd h (by omega))
  | succ d ih =>
    intro i k v hi h1 hk hp
    have hl : i &&& (i - 1) ≤ i := Nat.and_le_left
    have hp' : post (nI (if i &&& (i - 1) = 0 then zc_by n d (i + 1) k v else zc_by n d (i + 1) (k + 1) (v ||| zc_bb n i * 2 ^ k))) := hp
    refine pk_le 13 i (fun h => absurd h (by omega)) (fun _ => ?_)
    rw [zc_ii h1, zc_bit hn (by omega), zc_shl _ (by omega), zc_or]
    refine pk_eq (i &&& (i - 1)) 0 (fun h => nm_r (nI_1 i) (ih (i + 1) k v (by omega) (by omega) (by omega) ?_)) (fun h => nm_e (nm_r (nI_1 k) (nm_r (nI_1 i) (ih (i + 1) (k + 1) _ (by omega) (by omega) (by omega) ?_))))
    · rw [if_pos h] at hp'; exact hp'
    · rw [if_neg h] at hp'; exact hp'
theorem zc_XB {post : Int32 → Prop} {u : SX} {n : Nat} (hn : n < 2 ^ 31) (hp : post (nI (zc_B n))) : wpX_byteIn post u (nI n) := by
  obtain ⟨f, a⟩ := u
  show ∃ n7 : Nat, wX_byteIn_7 post (nI n) f a n7 0 0 3
  exact ⟨10 + 1, zc_Xby hn 10 3 0 0 (by omega) (by omega) (by omega) hp⟩
theorem zc_Xes {post : Int32 → Prop} {f : Int32} {a : Nat → Int32} {c w n x : Nat} (hc : c < 16) (hx : x ≤ 8) (h : wX_encoded_15 post (nI c) f a n (nI (zc_es c w x)) (nI (x * 2))) : wX_encoded_15 post (nI c) f a (n + 1) (nI w) (nI x) := by
  have hl : c &&& x ≤ c := Nat.and_le_left
  have e2 : nI x * 2 = nI (x * 2) := pk_mul x 2
  refine pk_lt 8 x (fun h => absurd h (by omega)) (fun _ => ?_)
  rw [nx_and, zc_shl1 (by omega), zc_or, e2]
  refine pk_eq (c &&& x) 0 (fun z => nm_e ?_) (fun z => nm_e (nm_e ?_))
  · unfold zc_es at h; rw [if_pos z] at h; exact h
  · unfold zc_es at h; rw [if_neg z] at h; exact h
theorem zc_Xe1 {post : Int32 → Prop} {f : Int32} {a : Nat → Int32} {c w n : Nat} (hw : w < 2 ^ 31) (hp : post (nI (zc_E1 w))) : wX_encoded_15 post (nI c) f a (n + 1) (nI w) (nI 16) := by
  refine pk_lt 8 16 (fun _ => zc_XO hw ?_) (fun h => absurd h (by omega))
  have h2 := zc_O2 w
  refine pk_eq (zc_O w) 0 (fun h => ?_) (fun h => ?_)
  · unfold zc_E1 at hp; rw [if_pos h] at hp; exact hp
  · unfold zc_E1 at hp; rw [if_neg h] at hp
    have e : nI w ||| 1 = nI (w ||| 1) := zc_or w 1
    rw [e]; exact hp
theorem zc_XK {post : Int32 → Prop} {u : SX} {v : Nat} (hv : v < 256) (hp : post (nI (zc_K v))) : wpX_encoded post u (nI v) := by
  obtain ⟨f, a⟩ := u
  obtain ⟨b1, b2, b3, _⟩ := zc_bnd hv
  unfold wpX_encoded
  refine zc_XS (by omega) (zc_XC (by omega) ?_)
  show ∃ n15 : Nat, wX_encoded_15 post (nI (zc_C (zc_S v))) f a n15 (nI (zc_S v)) 1
  refine ⟨0 + 1 + 1 + 1 + 1 + 1, zc_Xes (x := 1) b2 (by omega) (zc_Xes (x := 2) b2 (by omega) (zc_Xes (x := 4) b2 (by omega) (zc_Xes (x := 8) b2 (by omega) (zc_Xe1 ?_ hp))))⟩
  have h : zc_es (zc_C (zc_S v)) (zc_es (zc_C (zc_S v)) (zc_es (zc_C (zc_S v)) (zc_es (zc_C (zc_S v)) (zc_S v) 1) 2) 4) 8 < 8192 := b3
  omega
/-- the wrong bit as the component answers it -/
def zc_wi (n : Nat) : Int32 := if zc_W n = 14 then -2 else nI (zc_W n)
theorem zc_wi1 {n : Nat} (h : zc_W n = 14) : zc_wi n = -2 := if_pos h
theorem zc_wi2 {n : Nat} (h : zc_W n ≠ 14) : zc_wi n = nI (zc_W n) := if_neg h
theorem zc_Xwb {post : Int32 → Prop} {u : SX} {n : Nat} (hn : n < 8192) (hp : post (zc_wi n)) : wpX_wrongBit post u (nI n) := by
  obtain ⟨f, a⟩ := u
  have h2 := zc_O2 n
  have h16 := zc_C16 n
  unfold wpX_wrongBit
  refine zc_XC (by omega) (zc_XO (by omega) ?_)
  refine pk_eq (zc_O n) 0 (fun ho => pk_eq (zc_C n) 0 (fun hc => ?_) (fun hc => ?_)) (fun ho => pk_lt 12 (zc_C n) (fun hc => ?_) (fun hc => ?_))
  · have e : zc_W n = 13 := by unfold zc_W; rw [if_pos ho, if_pos hc]
    rw [zc_wi2 (by omega), e] at hp
    exact hp
  · have e : zc_W n = 14 := by unfold zc_W; rw [if_pos ho, if_neg hc]
    rw [zc_wi1 e] at hp
    exact hp
  · have e : zc_W n = 14 := by unfold zc_W; rw [if_neg ho, if_neg (by omega)]
    rw [zc_wi1 e] at hp
    exact hp
  · have e : zc_W n = zc_C n := by unfold zc_W; rw [if_neg ho, if_pos hc]
    rw [zc_wi2 (by omega), e] at hp
    exact hp
theorem zc_XM {post : Int32 → Prop} {u : SX} {n : Nat} (h : zc_W n ≠ 14) (hp : post (nI (zc_M n))) : wpX_mended post u (nI n) (nI (zc_W n)) := by
  obtain ⟨f, a⟩ := u
  have hl := zc_Wle n
  refine pk_eq (zc_W n) 13 (fun z => ?_) (fun z => ?_)
  · unfold zc_M at hp; rw [if_pos z] at hp; exact hp
  · unfold zc_M at hp; rw [if_neg z] at hp
    rw [zc_shl1 (by omega), nx_xor]
    exact hp
theorem zc_Xt2 {post : Int32 → Prop} {f : Int32} {a : Nat → Int32} {c : Nat} (hc : c < 16) : ∀ d i n : Nat, i + d = 13 → post (nI (zc_t2 c d i n)) → wX_waysOfTwo_4 post (nI c) f a (d + 1) (nI n) (nI i) := by
  intro d
  induction d with
  | zero => intro i n hi hp; exact pk_le 13 i (fun _ => hp) (fun h => absurd h (by omega))
  | succ d ih =>
    intro i n hi hp
    have hx : i ^^^ c < 16 := Nat.xor_lt_two_pow (n := 4) (by omega) hc
    have hp' : post (nI (zc_t2 c d (i + 1) (if i < (i ^^^ c) ∧ (i ^^^ c) < 13 then n + 1 else n))) := hp
    refine pk_le 13 i (fun h => absurd h (by omega)) (fun _ => nm_r (nx_xor i c) ?_)
    refine pk_le (i ^^^ c) i (fun h => nm_r (nI_1 i) (ih (i + 1) n (by omega) ?_)) (fun h => pk_le 13 (i ^^^ c) (fun h2 => nm_r (nI_1 i) (ih (i + 1) n (by omega) ?_)) (fun h2 => nm_r (nI_1 n) (nm_r (nI_1 i) (ih (i + 1) (n + 1) (by omega) ?_))))
    · rw [if_neg (by omega)] at hp'; exact hp'
    · rw [if_neg (by omega)] at hp'; exact hp'
    · rw [if_pos ⟨h, h2⟩] at hp'; exact hp'
theorem zc_XT2 {post : Int32 → Prop} {u : SX} {c : Nat} (hc : c < 16) (hp : post (nI (zc_T2 c))) : wpX_waysOfTwo post u (nI c) := by
  obtain ⟨f, a⟩ := u
  show ∃ n4 : Nat, wX_waysOfTwo_4 post (nI c) f a n4 0 0
  exact ⟨13 + 1, zc_Xt2 hc 13 0 0 (by omega) hp⟩
theorem zc_Xt3i {post : Int32 → Prop} {J : Int32 → Int32 → Prop} {f : Int32} {a : Nat → Int32} {c e : Nat} (hc : c < 16) (he : e < 13) : ∀ d i n : Nat, i + d = 13 → J (nI (zc_t3i c e d i n)) (nI (e + 1)) → wX_waysOfThree_15 post J (nI c) (nI e) f a (d + 1) (nI n) (nI i) := by
  intro d
  induction d with
  | zero => intro i n hi hp; exact pk_le 13 i (fun _ => nm_r (nI_1 e) hp) (fun h => absurd h (by omega))
  | succ d ih =>
    intro i n hi hp
    have hx : (e ^^^ i) ^^^ c < 16 := Nat.xor_lt_two_pow (n := 4) (Nat.xor_lt_two_pow (n := 4) (by omega) (by omega)) hc
    have hp' : J (nI (zc_t3i c e d (i + 1) (if i < ((e ^^^ i) ^^^ c) ∧ ((e ^^^ i) ^^^ c) < 13 then n + 1 else n))) (nI (e + 1)) := hp
    have ex : (nI e ^^^ nI i) ^^^ nI c = nI ((e ^^^ i) ^^^ c) := by rw [nx_xor, nx_xor]
    refine pk_le 13 i (fun h => absurd h (by omega)) (fun _ => nm_r ex ?_)
    refine pk_le ((e ^^^ i) ^^^ c) i (fun h => nm_r (nI_1 i) (ih (i + 1) n (by omega) ?_)) (fun h => pk_le 13 ((e ^^^ i) ^^^ c) (fun h2 => nm_r (nI_1 i) (ih (i + 1) n (by omega) ?_)) (fun h2 => nm_r (nI_1 n) (nm_r (nI_1 i) (ih (i + 1) (n + 1) (by omega) ?_))))
    · rw [if_neg (by omega)] at hp'; exact hp'
    · rw [if_neg (by omega)] at hp'; exact hp'
    · rw [if_pos ⟨h, h2⟩] at hp'; exact hp'
theorem zc_Xt3 {post : Int32 → Prop} {f : Int32} {a : Nat → Int32} {c : Nat} (hc : c < 16) : ∀ d e n : Nat, e + d = 13 → post (nI (zc_t3 c d e n)) → wX_waysOfThree_4 post (nI c) f a (d + 1) (nI n) (nI e) := by
  intro d
  induction d with
  | zero => intro e n hi hp; exact pk_le 13 e (fun _ => hp) (fun h => absurd h (by omega))
  | succ d ih =>
    intro e n hi hp
    exact pk_le 13 e (fun h => absurd h (by omega)) (fun _ => nm_r (nI_1 e) ⟨d + 1, zc_Xt3i hc (by omega) d (e + 1) n (by omega) (ih (e + 1) (zc_t3i c e d (e + 1) n) (by omega) hp)⟩)
theorem zc_XT3 {post : Int32 → Prop} {u : SX} {c : Nat} (hc : c < 16) (hp : post (nI (zc_T3 c))) : wpX_waysOfThree post u (nI c) := by
  obtain ⟨f, a⟩ := u
  show ∃ n4 : Nat, wX_waysOfThree_4 post (nI c) f a n4 0 0
  exact ⟨13 + 1, zc_Xt3 hc 13 0 0 (by omega) hp⟩
end
section
/-! ===== the reference's private methods ===== -/
theorem zc_Ypl {post : Int32 → Prop} {f : Int32} {a b : Nat → Int32} {k : Nat} (hk : k < 8) : ∀ d m i : Nat, i + d = 13 → m ≤ i → post (nI (zc_pl k d m i)) → wY_placeOf_4 post (nI k) f a b (d + 1) (nI m) (nI i) := by
  intro d
  induction d with
  | zero => intro m i hi hm hp; exact pk_lt 12 i (fun _ => hp) (fun h => absurd h (by omega))
  | succ d ih =>
    intro m i hi hm hp
    have hp' : post (nI (if i = 1 ∨ i = 2 ∨ i = 4 ∨ i = 8 then zc_pl k d m (i + 1) else if m = k then i else zc_pl k d (m + 1) (i + 1))) := hp
    have S : (i = 1 ∨ i = 2 ∨ i = 4 ∨ i = 8) → ∀ x : Int32, x = nI i + 1 → wY_placeOf_4 post (nI k) f a b (d + 1) (nI m) x := fun h => nm_r (nI_1 i) (ih m (i + 1) (by omega) (by omega) (by rw [if_pos h] at hp'; exact hp'))
    refine pk_lt 12 i (fun h => absurd h (by omega)) (fun _ => ?_)
    refine pk_eq i 1 (fun h => S (Or.inl h)) (fun h1 => pk_eq i 2 (fun h => S (Or.inr (Or.inl h))) (fun h2 => pk_eq i 4 (fun h => S (Or.inr (Or.inr (Or.inl h)))) (fun h4 => pk_eq i 8 (fun h => S (Or.inr (Or.inr (Or.inr h)))) (fun h8 => ?_))))
    rw [if_neg (by omega)] at hp'
    refine pk_eq m k (fun h => ?_) (fun h => nm_r (nI_1 m) (nm_r (nI_1 i) (ih (m + 1) (i + 1) (by omega) (by omega) ?_)))
    · rw [if_pos h] at hp'; exact hp'
    · rw [if_neg h] at hp'; exact hp'
theorem zc_YL {post : Int32 → Prop} {v : SY} {k : Nat} (hk : k < 8) (hp : post (nI (zc_L k))) : wpY_placeOf post v (nI k) := by
  obtain ⟨f, a, b⟩ := v
  show ∃ n4 : Nat, wY_placeOf_4 post (nI k) f a b n4 0 1
  exact ⟨12 + 1, zc_Ypl hk 12 0 1 (by omega) (by omega) hp⟩
theorem zc_Yev {post : Int32 → Prop} {f : Int32} {a b : Nat → Int32} {n w : Nat} (hn : n < 2 ^ 31) (hw : w < 16) : ∀ d i c : Nat, i + d = 13 → c ≤ i → post (if zc_ev n w d i c % 2 = 0 then 1 else 0) → wY_even_5 post (nI n) (nI w) f a b (d + 1) (nI c) (nI i) := by
  intro d
  induction d with
  | zero =>
    intro i c hi hc hp
    have hp' : post (if c % 2 = 0 then 1 else 0) := hp
    have e : nI c - nI c / 2 * 2 = nI (c % 2) := pk_rem (d := 2) (by omega) (by decide) (by decide)
    refine pk_lt 12 i (fun _ => And.intro (by decide) ?_) (fun h => absurd h (by omega))
    rw [e]
    refine pk_eq (c % 2) 0 (fun h => ?_) (fun h => ?_)
    · rw [if_pos h] at hp'; exact hp'
    · rw [if_neg h] at hp'; exact hp'
  | succ d ih =>
    intro i c hi hc hp
    have hl : i &&& w ≤ i := Nat.and_le_left
    have hb := zc_bb01 n i
    have hp' : post (if zc_ev n w d (i + 1) (if w = 0 ∨ i &&& w ≠ 0 then c + zc_bb n i else c) % 2 = 0 then 1 else 0) := hp
    have J : (w = 0 ∨ i &&& w ≠ 0) → wY_even_23 post (wY_even_5 post (nI n) (nI w) f a b (d + 1)) (nI n) (nI w) (nI c) (nI i) f a b := by
      intro z
      rw [if_pos z] at hp'
      show ∀ x3 : Int32, x3 = nI c + ((nI n >>> (nI i &&& 31)) &&& 1) → ∀ x4 : Int32, x4 = nI i + 1 → wY_even_5 post (nI n) (nI w) f a b (d + 1) x3 x4
      rw [zc_bit hn (by omega)]
      exact nm_r (nI_add c _) (nm_r (nI_1 i) (ih (i + 1) (c + zc_bb n i) (by omega) (by omega) hp'))
    refine pk_lt 12 i (fun h => absurd h (by omega)) (fun _ => ?_)
    refine pk_eq w 0 (fun h => J (Or.inl h)) (fun h => ?_)
    rw [nx_and]
    refine pk_eq (i &&& w) 0 (fun z => nm_r (nI_1 i) (ih (i + 1) c (by omega) (by omega) ?_)) (fun z => J (Or.inr z))
    have nz : ¬ (w = 0 ∨ i &&& w ≠ 0) := fun q => q.elim h (fun y => y z)
    rw [if_neg nz] at hp'
    exact hp'
theorem zc_YE {post : Int32 → Prop} {v : SY} {n w : Nat} (hn : n < 2 ^ 31) (hw : w < 16) (hp : post (if zc_ev n w 13 0 0 % 2 = 0 then 1 else 0)) : wpY_even post v (nI n) (nI w) := by
  obtain ⟨f, a, b⟩ := v
  show ∃ n5 : Nat, wY_even_5 post (nI n) (nI w) f a b n5 0 0
  exact ⟨13 + 1, zc_Yev hn hw 13 0 0 (by omega) (by omega) hp⟩
/-- one step of the check bits: the parity asked, the bit put where it is odd -/
theorem zc_Yad {post Q : Int32 → Prop} {v : SY} {n w x : Nat} (hn : n < 2 ^ 31) (hw : w < 16) (h0 : ∀ r : Int32, r = 0 → Q (nI (n ||| x)) → post r) (h1 : ∀ r : Int32, ¬ r = 0 → Q (nI n) → post r) (hp : Q (nI (zc_ad n w x))) : wpY_even post v (nI n) (nI w) := by
  refine zc_YE hn hw ?_
  unfold zc_ad at hp
  by_cases h : zc_ev n w 13 0 0 % 2 = 0
  · rw [if_pos h] at hp
    rw [if_pos h]
    exact h1 1 (by decide) hp
  · rw [if_neg h] at hp
    rw [if_neg h]
    exact h0 0 rfl hp
theorem zc_ad8 {n w x : Nat} (hn : n < 8192) (hx : x < 8192) : zc_ad n w x < 8192 := by
  unfold zc_ad
  split
  · exact hn
  · exact Nat.or_lt_two_pow (n := 13) hn hx
theorem zc_Y91 {post : Int32 → Prop} {f : Int32} {a b : Nat → Int32} {n : Nat} (hn : n < 8192) (hp : post (nI (zc_ad n 0 1))) : wY_codeOf_91 post (nI n) f a b := by
  refine zc_Yad (Q := post) (x := 1) (w := 0) (by omega) (by omega) (fun r hr q => br_t hr ?_) (fun r hr q => br_f hr q) hp
  have e : nI n ||| 1 = nI (n ||| 1) := zc_or n 1
  rw [e]; exact q
theorem zc_Y75 {post : Int32 → Prop} {f : Int32} {a b : Nat → Int32} {n : Nat} (hn : n < 8192) (hp : post (nI (zc_ad (zc_ad n 8 256) 0 1))) : wY_codeOf_75 post (nI n) f a b :=
  zc_Yad (Q := fun r => wY_codeOf_91 post r f a b) (x := 256) (w := 8) (by omega) (by omega) (fun _ hr q => br_t hr (nm_r (zc_or n 256) q)) (fun _ hr q => br_f hr q) (zc_Y91 (zc_ad8 hn (by omega)) hp)
theorem zc_Y61 {post : Int32 → Prop} {f : Int32} {a b : Nat → Int32} {n : Nat} (hn : n < 8192) (hp : post (nI (zc_ad (zc_ad (zc_ad n 4 16) 8 256) 0 1))) : wY_codeOf_61 post (nI n) f a b :=
  zc_Yad (Q := fun r => wY_codeOf_75 post r f a b) (x := 16) (w := 4) (by omega) (by omega) (fun _ hr q => br_t hr (nm_r (zc_or n 16) q)) (fun _ hr q => br_f hr q) (zc_Y75 (zc_ad8 hn (by omega)) hp)
theorem zc_Y48 {post : Int32 → Prop} {f : Int32} {a b : Nat → Int32} {n : Nat} (hn : n < 8192) (hp : post (nI (zc_ad (zc_ad (zc_ad (zc_ad n 2 4) 4 16) 8 256) 0 1))) : wY_codeOf_48 post (nI n) f a b :=
  zc_Yad (Q := fun r => wY_codeOf_61 post r f a b) (x := 4) (w := 2) (by omega) (by omega) (fun _ hr q => br_t hr (nm_r (zc_or n 4) q)) (fun _ hr q => br_f hr q) (zc_Y61 (zc_ad8 hn (by omega)) hp)
theorem zc_L13 : ∀ k, k < 8 → zc_L k < 13 := by decide +kernel
theorem zc_Ycl {post : Int32 → Prop} {f : Int32} {a b : Nat → Int32} {v : Nat} (hv : v < 2 ^ 31) : ∀ d k w : Nat, k + d = 8 → w < 8192 → post (nI (zc_ad (zc_ad (zc_ad (zc_ad (zc_ad (zc_cl v d k w) 1 2) 2 4) 4 16) 8 256) 0 1)) → wY_codeOf_4 post (nI v) f a b (d + 1) (nI w) (nI k) := by
  intro d
  induction d with
  | zero =>
    intro k w hk hw hp
    refine pk_le 8 k (fun _ => ?_) (fun h => absurd h (by omega))
    exact zc_Yad (Q := fun r => wY_codeOf_48 post r f a b) (x := 2) (w := 1) (by omega) (by omega) (fun _ hr q => br_t hr (nm_r (zc_or w 2) q)) (fun _ hr q => br_f hr q) (zc_Y48 (zc_ad8 hw (by omega)) hp)
  | succ d ih =>
    intro k w hk hw hp
    have hL := zc_L13 k (by omega)
    have hb : zc_bb v k * 2 ^ zc_L k < 8192 := by
      have h1 := (zc_pw (zc_L k) hL).2.2.2
      rcases zc_bb01 v k with z | z <;> rw [z] <;> omega
    refine pk_le 8 k (fun h => absurd h (by omega)) (fun _ => zc_YL (by omega) ?_)
    show ∀ x2 : Int32, x2 = nI w ||| (((nI v >>> (nI k &&& 31)) &&& 1) <<< (nI (zc_L k) &&& 31)) → ∀ x3 : Int32, x3 = nI k + 1 → wY_codeOf_4 post (nI v) f a b (d + 1) x2 x3
    rw [zc_bit hv (by omega), zc_shl _ (by omega), zc_or]
    exact nm_e (nm_r (nI_1 k) (ih (k + 1) _ (by omega) (Nat.or_lt_two_pow (n := 13) hw hb) hp))
theorem zc_YK {post : Int32 → Prop} {u : SY} {v : Nat} (hv : v < 256) (hp : post (nI (zc_K v))) : wpY_codeOf post u (nI v) := by
  obtain ⟨f, a, b⟩ := u
  rw [← (zc_bnd hv).2.2.2] at hp
  show ∃ n4 : Nat, wY_codeOf_4 post (nI v) f a b n4 0 0
  exact ⟨8 + 1, zc_Ycl (by omega) 8 0 0 (by omega) (by omega) hp⟩
theorem zc_Yap {post : Int32 → Prop} {f : Int32} {a b : Nat → Int32} {x y : Nat} (hx : x < 2 ^ 31) (hy : y < 2 ^ 31) : ∀ d i c : Nat, i + d = 13 → post (nI (zc_on (x ^^^ y) d i c)) → wY_apart_5 post (nI x) (nI y) f a b (d + 1) (nI c) (nI i) := by
  intro d
  induction d with
  | zero => intro i c hi hp; exact pk_lt 12 i (fun _ => hp) (fun h => absurd h (by omega))
  | succ d ih =>
    intro i c hi hp
    have hbx := zc_bb01 x i
    have hby := zc_bb01 y i
    have hp' : post (nI (zc_on (x ^^^ y) d (i + 1) (c + zc_bb (x ^^^ y) i))) := hp
    rw [zc_bbx] at hp'
    refine pk_lt 12 i (fun h => absurd h (by omega)) (fun _ => ?_)
    show ((nI x >>> (nI i &&& 31)) &&& 1 = (nI y >>> (nI i &&& 31)) &&& 1 → ∀ x4 : Int32, x4 = nI i + 1 → wY_apart_5 post (nI x) (nI y) f a b (d + 1) (nI c) x4) ∧ (¬ (nI x >>> (nI i &&& 31)) &&& 1 = (nI y >>> (nI i &&& 31)) &&& 1 → ∀ x3 : Int32, x3 = nI c + 1 → ∀ x4 : Int32, x4 = nI i + 1 → wY_apart_5 post (nI x) (nI y) f a b (d + 1) x3 x4)
    rw [zc_bit hx (by omega), zc_bit hy (by omega)]
    refine pk_eq (zc_bb x i) (zc_bb y i) (fun h => nm_r (nI_1 i) (ih (i + 1) c (by omega) ?_)) (fun h => nm_r (nI_1 c) (nm_r (nI_1 i) (ih (i + 1) (c + 1) (by omega) ?_)))
    · rw [if_pos h] at hp'; exact hp'
    · rw [if_neg h] at hp'; exact hp'
theorem zc_YP {post : Int32 → Prop} {v : SY} {x y : Nat} (hx : x < 2 ^ 31) (hy : y < 2 ^ 31) (hp : post (nI (zc_P (x ^^^ y)))) : wpY_apart post v (nI x) (nI y) := by
  obtain ⟨f, a, b⟩ := v
  show ∃ n5 : Nat, wY_apart_5 post (nI x) (nI y) f a b n5 0 0
  exact ⟨13 + 1, zc_Yap hx hy 13 0 0 (by omega) hp⟩
end
section
/-! ===== reading, mending, counting: each side against the naturals ===== -/
/-- words with x at k -/
def zc_up (w : Nat → Nat) (k x : Nat) : Nat → Nat := fun j => if j = k then x else w j
theorem zc_upd (w : Nat → Nat) (k x : Nat) : upd (fun j => nI (w j)) k (nI x) = fun j => nI (zc_up w k x j) := by
  funext j
  show (if j = k then nI x else nI (w j)) = nI (if j = k then x else w j)
  split <;> rfl
theorem zc_up8 {w : Nat → Nat} {k x : Nat} (hw : ∀ j, w j < 8192) (hx : x < 8192) : ∀ j, zc_up w k x j < 8192 := by
  intro j
  unfold zc_up
  split
  · exact hx
  · exact hw j
theorem zc_ups (w : Nat → Nat) (k x : Nat) : zc_up w k x k = x := if_pos rfl
/-- a word's byte as both sides answer it -/
def zc_rd (n : Nat) : Int32 := if zc_W n = 14 then -2 else nI (zc_B (zc_M n))
theorem zc_rd1 {n : Nat} (h : zc_W n = 14) : zc_rd n = -2 := if_pos h
theorem zc_rd2 {n : Nat} (h : zc_W n ≠ 14) : zc_rd n = nI (zc_B (zc_M n)) := if_neg h
theorem zc_Xread {post : Int32 → Prop} {f : Int32} {w : Nat → Nat} {j : Nat} (hw : ∀ j, w j < 8192) (hj : j < 16) (hp : post (zc_rd (w j))) : wpX_read post (f, fun j => nI (w j)) (nI j) := by
  have hi : vp_in (nI j) 16 := vp_in_nI hj (by decide)
  unfold wpX_read
  refine zc_Xiw hj (br_f (by decide) (And.intro hi ?_))
  rw [nI_clamp (show j < 2 ^ 31 by omega)]
  refine zc_Xwb (hw j) ?_
  by_cases h : zc_W (w j) = 14
  · rw [zc_rd1 h] at hp
    exact br_t (zc_wi1 h) hp
  · rw [zc_rd2 h] at hp
    have hl := zc_Wle (w j)
    have hm := zc_M8 (hw j) h
    rw [zc_wi2 h]
    exact br_f (zc_neg2 (by omega)) (And.intro hi (zc_XM h (zc_XB (by omega) hp)))
theorem zc_Yrl {post : Int32 → Prop} {f : Int32} {w : Nat → Nat} {C : Nat → Int32} (hw : ∀ j, w j < 8192) (hC : ∀ b, b < 256 → C b = nI (zc_K b)) {j : Nat} (hj : j < 16) (hp : post (zc_rd (w j))) : ∀ d b : Nat, b + d = 256 → (∀ e, e < b → 1 < zc_P (w j ^^^ zc_K e)) → wY_read_12 post (nI j) f (fun j => nI (w j)) C (d + 1) (nI b) := by
  intro d
  have h8 := hw j
  induction d with
  | zero =>
    intro b hb h
    refine pk_le 256 b (fun _ => ?_) (fun h => absurd h (by omega))
    by_cases z : zc_W (w j) = 14
    · rw [zc_rd1 z] at hp; exact hp
    · have h1 := zc_near1 h8 z
      have h2 := h (zc_B (zc_M (w j))) (by have := (zc_Mok h8 z).1; omega)
      omega
  | succ d ih =>
    intro b hb h
    have hk := (zc_cod (v := b) (by omega)).1
    have h13 := zc_P13 (w j ^^^ zc_K b)
    refine pk_le 256 b (fun h => absurd h (by omega)) (fun _ => And.intro (vp_in_nI hj (by decide)) (And.intro (vp_in_nI (by omega) (by decide)) ?_))
    rw [nI_clamp (show j < 2 ^ 31 by omega), nI_clamp (show b < 2 ^ 31 by omega), hC b (by omega)]
    refine zc_YP (by omega) (by omega) ?_
    refine pk_lt 1 (zc_P (w j ^^^ zc_K b)) (fun z => nm_r (nI_1 b) (ih (b + 1) (by omega) ?_)) (fun z => ?_)
    · intro e he
      by_cases q : e = b
      · rw [q]; exact z
      · exact h e (by omega)
    · obtain ⟨u1, u2⟩ := zc_uniq h8 (by omega) z
      rw [zc_rd2 u1, u2] at hp
      exact hp
theorem zc_Yread {post : Int32 → Prop} {f : Int32} {w : Nat → Nat} {C : Nat → Int32} {j : Nat} (hw : ∀ j, w j < 8192) (hC : ∀ b, b < 256 → C b = nI (zc_K b)) (hj : j < 16) (hp : post (zc_rd (w j))) : wpY_read post (f, (fun j => nI (w j)), C) (nI j) := by
  unfold wpY_read
  refine zc_Yiw hj (br_f (by decide) ?_)
  exact ⟨256 + 1, zc_Yrl hw hC hj hp 256 0 (by omega) (fun e he => absurd he (by omega))⟩
/-- the words behind a repair of word j -/
def zc_rw (w : Nat → Nat) (j : Nat) : Nat → Nat := if zc_W (w j) = 14 then w else zc_up w j (zc_M (w j))
theorem zc_rw1 {w : Nat → Nat} {j : Nat} (h : zc_W (w j) = 14) : zc_rw w j = w := if_pos h
theorem zc_rw2 {w : Nat → Nat} {j : Nat} (h : zc_W (w j) ≠ 14) : zc_rw w j = zc_up w j (zc_M (w j)) := if_neg h
theorem zc_rw8 {w : Nat → Nat} (hw : ∀ j, w j < 8192) (k : Nat) : ∀ j, zc_rw w k j < 8192 := by
  by_cases h : zc_W (w k) = 14
  · rw [zc_rw1 h]; exact hw
  · rw [zc_rw2 h]; exact zc_up8 hw (zc_M8 (hw k) h)
theorem zc_Xrep {post : Int32 → SX → Prop} {f : Int32} {w : Nat → Nat} {j : Nat} (hw : ∀ j, w j < 8192) (hj : j < 16) (hp : post (zc_wi (w j)) (f, fun i => nI (zc_rw w j i))) : wpX_repair post (f, fun j => nI (w j)) (nI j) := by
  have hi : vp_in (nI j) 16 := vp_in_nI hj (by decide)
  unfold wpX_repair
  refine zc_Xiw hj (br_f (by decide) (And.intro hi ?_))
  rw [nI_clamp (show j < 2 ^ 31 by omega)]
  refine zc_Xwb (hw j) ?_
  by_cases h : zc_W (w j) = 14
  · rw [zc_rw1 h, zc_wi1 h] at hp
    rw [zc_wi1 h]
    exact br_t (by decide) hp
  · rw [zc_rw2 h, zc_wi2 h, ← zc_upd] at hp
    have hl := zc_Wle (w j)
    have hm := zc_M8 (hw j) h
    rw [zc_wi2 h]
    refine br_f (nI_pos (by omega)) (And.intro hi (zc_XM h (And.intro hi (nm_r ?_ hp))))
    rw [zc_short (by omega)]
theorem zc_Yrp {post : Int32 → SY → Prop} {f : Int32} {a C : Nat → Int32} {j x y r : Nat} (hj : j < 16) (hx : x < 8192) (hy : y < 8192) (ha : a j = nI y) (hr : ∀ i, i < 13 → zc_bb (x ^^^ y) i = if i = r then 1 else 0) (h13 : r ≤ 13) (hp : post (nI r) (f, a, C)) : ∀ d i : Nat, i + d = 13 → i ≤ r → wY_repair_34 post (nI j) (nI x) f a C (d + 1) (nI i) := by
  intro d
  induction d with
  | zero =>
    intro i hi hir
    have e : r = 13 := by omega
    rw [e] at hp
    exact pk_lt 12 i (fun _ => hp) (fun h => absurd h (by omega))
  | succ d ih =>
    intro i hi hir
    have hbx := zc_bb01 x i
    have hby := zc_bb01 y i
    have hb := hr i (by omega)
    rw [zc_bbx] at hb
    refine pk_lt 12 i (fun h => absurd h (by omega)) (fun _ => ?_)
    show vp_in (nI j) 16 ∧ ((nI x >>> (nI i &&& 31)) &&& 1 = (a (nI j).toNatClampNeg >>> (nI i &&& 31)) &&& 1 → ∀ x4 : Int32, x4 = nI i + 1 → wY_repair_34 post (nI j) (nI x) f a C (d + 1) x4) ∧ (¬ (nI x >>> (nI i &&& 31)) &&& 1 = (a (nI j).toNatClampNeg >>> (nI i &&& 31)) &&& 1 → post (nI i) (f, a, C))
    rw [nI_clamp (show j < 2 ^ 31 by omega), ha, zc_bit (by omega) (by omega), zc_bit (by omega) (by omega)]
    refine And.intro (vp_in_nI hj (by decide)) (pk_eq (zc_bb x i) (zc_bb y i) (fun h => nm_r (nI_1 i) (ih (i + 1) (by omega) ?_)) (fun h => ?_))
    · rw [if_pos h] at hb
      by_cases q : i = r
      · rw [if_pos q] at hb; omega
      · omega
    · rw [if_neg h] at hb
      by_cases q : i = r
      · rw [q]; exact hp
      · rw [if_neg q] at hb; omega
theorem zc_pwb : ∀ r, r < 13 → ∀ i, i < 13 → zc_bb (2 ^ r) i = if i = r then 1 else 0 := by decide +kernel
theorem zc_Dbit {w : Nat} (h : zc_W w ≠ 14) : ∀ i, i < 13 → zc_bb (w ^^^ zc_M w) i = if i = zc_W w then 1 else 0 := by
  intro i hi
  have hl := zc_Wle w
  rw [zc_wM]
  unfold zc_D
  by_cases z : zc_W w = 13
  · rw [if_pos z, if_neg (by omega)]
    unfold zc_bb
    rw [Nat.zero_div]
  · rw [if_neg z]
    exact zc_pwb _ (by omega) i hi
theorem zc_Yrep {post : Int32 → SY → Prop} {f : Int32} {w : Nat → Nat} {C : Nat → Int32} {j : Nat} (hw : ∀ j, w j < 8192) (hC : ∀ b, b < 256 → C b = nI (zc_K b)) (hj : j < 16) (hp : post (zc_wi (w j)) (f, (fun i => nI (zc_rw w j i)), C)) : wpY_repair post (f, (fun j => nI (w j)), C) (nI j) := by
  have hi : vp_in (nI j) 16 := vp_in_nI hj (by decide)
  unfold wpY_repair
  refine zc_Yread hw hC hj ?_
  by_cases h : zc_W (w j) = 14
  · rw [zc_rw1 h, zc_wi1 h] at hp
    rw [zc_rd1 h]
    exact br_f (by decide) hp
  · rw [zc_rw2 h, zc_wi2 h] at hp
    have hl := zc_Wle (w j)
    have hm := zc_M8 (hw j) h
    obtain ⟨k1, k2⟩ := zc_Mok (hw j) h
    rw [zc_rd2 h, nI_clamp (show j < 2 ^ 31 by omega), nI_clamp (show zc_B (zc_M (w j)) < 2 ^ 31 by omega), hC _ k1, k2]
    refine br_t (nI_pos' (by omega)) (And.intro hi (nm_e (And.intro (vp_in_nI k1 (by decide)) (And.intro hi (nm_r (zc_upd w j (zc_M (w j))) ?_)))))
    refine ⟨13 + 1, zc_Yrp (x := w j) (y := zc_M (w j)) (r := zc_W (w j)) hj (hw j) hm ?_ (zc_Dbit h) (by omega) hp 13 0 (by omega) (by omega)⟩
    show nI (zc_up w j (zc_M (w j)) j) = _
    rw [zc_ups]
/-- turns of the scrubber: one for a word with one wrong bit -/
def zc_tn (x : Nat) : Nat := if zc_W x < 13 then 1 else 0
def zc_st : Nat → Nat → Nat → (Nat → Nat) → Nat
  | 0, t, _, _ => t
  | d + 1, t, h, w => zc_st d (t + zc_tn (w h)) ((h + 1) % 16) (zc_rw w h)
def zc_sh : Nat → Nat → Nat
  | 0, h => h
  | d + 1, h => zc_sh d ((h + 1) % 16)
def zc_sw : Nat → Nat → (Nat → Nat) → (Nat → Nat)
  | 0, _, w => w
  | d + 1, h, w => zc_sw d ((h + 1) % 16) (zc_rw w h)
theorem zc_sh16 : ∀ d h, h < 16 → zc_sh d h < 16 := by
  intro d
  induction d with
  | zero => intro h hh; exact hh
  | succ d ih => intro h hh; exact ih _ (by omega)
theorem zc_sw8 : ∀ d h (w : Nat → Nat), (∀ j, w j < 8192) → ∀ j, zc_sw d h w j < 8192 := by
  intro d
  induction d with
  | zero => intro h w hw; exact hw
  | succ d ih => intro h w hw; exact ih _ _ (zc_rw8 hw h)
/-- a repair's answer, by cases: broken, whole, one bit -/
theorem zc_wi3 (x : Nat) : (zc_wi x = -2 ∧ zc_tn x = 0 ∧ zc_W x = 14) ∨ (zc_wi x = 13 ∧ zc_tn x = 0 ∧ zc_W x = 13) ∨ (∃ r : Nat, r < 13 ∧ zc_wi x = nI r ∧ zc_tn x = 1 ∧ zc_W x = r) := by
  have hl := zc_Wle x
  by_cases a : zc_W x = 14
  · exact Or.inl ⟨zc_wi1 a, if_neg (by omega), a⟩
  · by_cases b : zc_W x = 13
    · exact Or.inr (Or.inl ⟨by rw [zc_wi2 a, b]; rfl, if_neg (by omega), b⟩)
    · exact Or.inr (Or.inr ⟨zc_W x, by omega, zc_wi2 a, if_pos (by omega), rfl⟩)
theorem zc_hX (h : Nat) : (nI h + 1) &&& 15 = nI ((h + 1) % 16) := by
  rw [nI_1]
  show nI (h + 1) &&& nI 15 = _
  rw [nx_and, show (15 : Nat) = 2 ^ 4 - 1 from rfl, Nat.and_two_pow_sub_one_eq_mod]
theorem zc_hY {h : Nat} (hh : h < 16) : (nI h + 1) - (nI h + 1) / 16 * 16 = nI ((h + 1) % 16) := by
  rw [nI_1]
  exact pk_rem (d := 16) (by omega) (by decide) (by decide)
theorem zc_Xscl {post : Int32 → SX → Prop} {n : Nat} (hn : n ≤ 32) : ∀ d k t h (w : Nat → Nat), k + d = n → h < 16 → (∀ j, w j < 8192) → post (nI (zc_st d t h w)) (nI (zc_sh d h), fun j => nI (zc_sw d h w j)) → wX_scrub_26 post (nI n) (d + 1) (nI t) (nI k) (nI h) (fun j => nI (w j)) := by
  intro d
  induction d with
  | zero => intro k t h w hk hh hw hp; exact pk_le n k (fun _ => hp) (fun z => absurd z (by omega))
  | succ d ih =>
    intro k t h w hk hh hw hp
    have N : ∀ t', t' = t + zc_tn (w h) → wX_scrub_57 post (wX_scrub_26 post (nI n) (d + 1)) (nI n) (nI t') (nI k) (nI h) (fun i => nI (zc_rw w h i)) := by
      intro t' e
      refine nm_r (zc_hX h) (nm_r (nI_1 k) (ih (k + 1) t' ((h + 1) % 16) (zc_rw w h) (by omega) (by omega) (zc_rw8 hw h) ?_))
      rw [e]
      exact hp
    refine pk_le n k (fun z => absurd z (by omega)) (fun _ => zc_Xrep hw hh ?_)
    rcases zc_wi3 (w h) with ⟨e1, e2, _⟩ | ⟨e1, e2, _⟩ | ⟨r, hr, e1, e2, _⟩
    · rw [e1]
      exact br_t (by decide) (N t (by omega))
    · rw [e1]
      exact br_f (by decide) (br_t (by decide) (N t (by omega)))
    · rw [e1]
      exact br_f (nI_pos (by omega)) (pk_le 13 r (fun z => absurd z (by omega)) (fun _ => nm_r (nI_1 t) (N (t + 1) (by omega))))
theorem zc_Yscl {post : Int32 → SY → Prop} {n : Nat} {C : Nat → Int32} (hC : ∀ b, b < 256 → C b = nI (zc_K b)) (hn : n ≤ 32) : ∀ d k t h (w : Nat → Nat), k + d = n → h < 16 → (∀ j, w j < 8192) → post (nI (zc_st d t h w)) (nI (zc_sh d h), (fun j => nI (zc_sw d h w j)), C) → wY_scrub_26 post (nI n) (d + 1) (nI t) (nI k) (nI h) (fun j => nI (w j)) C := by
  intro d
  induction d with
  | zero => intro k t h w hk hh hw hp; exact pk_le n k (fun _ => hp) (fun z => absurd z (by omega))
  | succ d ih =>
    intro k t h w hk hh hw hp
    have N : ∀ t', t' = t + zc_tn (w h) → wY_scrub_57 post (wY_scrub_26 post (nI n) (d + 1)) (nI n) (nI t') (nI k) (nI h) (fun i => nI (zc_rw w h i)) C := by
      intro t' e
      refine And.intro (by decide) (nm_r (zc_hY hh) (nm_r (nI_1 k) (ih (k + 1) t' ((h + 1) % 16) (zc_rw w h) (by omega) (by omega) (zc_rw8 hw h) ?_)))
      rw [e]
      exact hp
    refine pk_le n k (fun z => absurd z (by omega)) (fun _ => zc_Yrep hw hC hh ?_)
    rcases zc_wi3 (w h) with ⟨e1, e2, _⟩ | ⟨e1, e2, _⟩ | ⟨r, hr, e1, e2, _⟩
    · rw [e1]
      exact br_t (by decide) (N t (by omega))
    · rw [e1]
      exact br_f (by decide) (br_t (by decide) (N t (by omega)))
    · rw [e1]
      exact br_f (nI_pos (by omega)) (pk_lt 12 r (fun z => absurd z (by omega)) (fun _ => nm_r (nI_1 t) (N (t + 1) (by omega))))
/-- counts over the words -/
def zc_bn (x : Nat) : Nat := if zc_W x = 14 then 1 else 0
def zc_ct (g : Nat → Nat) (w : Nat → Nat) : Nat → Nat → Nat → Nat
  | 0, _, c => c
  | d + 1, k, c => zc_ct g w d (k + 1) (c + g (w k))
theorem zc_wi4 (x : Nat) : (zc_wi x = -2 ∧ zc_bn x = 1 ∧ zc_W x = 14) ∨ (∃ r : Nat, r < 14 ∧ zc_wi x = nI r ∧ zc_bn x = 0 ∧ zc_W x ≠ 14) := by
  have hl := zc_Wle x
  by_cases a : zc_W x = 14
  · exact Or.inl ⟨zc_wi1 a, if_pos a, a⟩
  · exact Or.inr ⟨zc_W x, by omega, zc_wi2 a, if_neg a, a⟩
theorem zc_Xbr {post : Int32 → Prop} {f : Int32} {w : Nat → Nat} (hw : ∀ j, w j < 8192) : ∀ d k c : Nat, k + d = 16 → post (nI (zc_ct zc_bn w d k c)) → wX_broken_4 post f (fun j => nI (w j)) (d + 1) (nI c) (nI k) := by
  intro d
  induction d with
  | zero => intro k c hk hp; exact pk_le 16 k (fun _ => hp) (fun z => absurd z (by omega))
  | succ d ih =>
    intro k c hk hp
    have N : ∀ c', c' = c + zc_bn (w k) → wX_broken_4 post f (fun j => nI (w j)) (d + 1) (nI c') (nI (k + 1)) := fun c' e => ih (k + 1) c' (by omega) (by rw [e]; exact hp)
    refine pk_le 16 k (fun z => absurd z (by omega)) (fun _ => And.intro (vp_in_nI (by omega) (by decide)) ?_)
    rw [nI_clamp (show k < 2 ^ 31 by omega)]
    refine zc_Xwb (hw k) ?_
    rcases zc_wi4 (w k) with ⟨e1, e2, _⟩ | ⟨r, hr, e1, e2, _⟩
    · exact br_t e1 (nm_r (nI_1 c) (nm_r (nI_1 k) (N (c + 1) (by omega))))
    · rw [e1]
      exact br_f (zc_neg2 (by omega)) (nm_r (nI_1 k) (N c (by omega)))
theorem zc_Ybr {post : Int32 → Prop} {f : Int32} {w : Nat → Nat} {C : Nat → Int32} (hw : ∀ j, w j < 8192) (hC : ∀ b, b < 256 → C b = nI (zc_K b)) : ∀ d k c : Nat, k + d = 16 → post (nI (zc_ct zc_bn w d k c)) → wY_broken_4 post f (fun j => nI (w j)) C (d + 1) (nI c) (nI k) := by
  intro d
  induction d with
  | zero => intro k c hk hp; exact pk_le 16 k (fun _ => hp) (fun z => absurd z (by omega))
  | succ d ih =>
    intro k c hk hp
    have N : ∀ c', c' = c + zc_bn (w k) → wY_broken_4 post f (fun j => nI (w j)) C (d + 1) (nI c') (nI (k + 1)) := fun c' e => ih (k + 1) c' (by omega) (by rw [e]; exact hp)
    refine pk_le 16 k (fun z => absurd z (by omega)) (fun _ => zc_Yread hw hC (by omega) ?_)
    rcases zc_wi4 (w k) with ⟨e1, e2, e3⟩ | ⟨r, hr, e1, e2, e3⟩
    · exact br_t (zc_rd1 e3) (nm_r (nI_1 c) (nm_r (nI_1 k) (N (c + 1) (by omega))))
    · have k1 := (zc_Mok (hw k) e3).1
      rw [zc_rd2 e3]
      exact br_f (zc_neg2 (by omega)) (nm_r (nI_1 k) (N c (by omega)))
theorem zc_Xma {post : Int32 → Prop} {f : Int32} {w : Nat → Nat} (hw : ∀ j, w j < 8192) : ∀ d k c : Nat, k + d = 16 → post (nI (zc_ct zc_tn w d k c)) → wX_marred_4 post f (fun j => nI (w j)) (d + 1) (nI c) (nI k) := by
  intro d
  induction d with
  | zero => intro k c hk hp; exact pk_le 16 k (fun _ => hp) (fun z => absurd z (by omega))
  | succ d ih =>
    intro k c hk hp
    have N : ∀ c', c' = c + zc_tn (w k) → wX_marred_4 post f (fun j => nI (w j)) (d + 1) (nI c') (nI (k + 1)) := fun c' e => ih (k + 1) c' (by omega) (by rw [e]; exact hp)
    refine pk_le 16 k (fun z => absurd z (by omega)) (fun _ => And.intro (vp_in_nI (by omega) (by decide)) ?_)
    rw [nI_clamp (show k < 2 ^ 31 by omega)]
    refine zc_Xwb (hw k) ?_
    rcases zc_wi3 (w k) with ⟨e1, e2, _⟩ | ⟨e1, e2, _⟩ | ⟨r, hr, e1, e2, _⟩
    · rw [e1]
      exact br_t (by decide) (nm_r (nI_1 k) (N c (by omega)))
    · rw [e1]
      exact br_f (by decide) (br_t (by decide) (nm_r (nI_1 k) (N c (by omega))))
    · rw [e1]
      exact br_f (nI_pos (by omega)) (pk_le 13 r (fun z => absurd z (by omega)) (fun _ => nm_r (nI_1 c) (nm_r (nI_1 k) (N (c + 1) (by omega)))))
theorem zc_Mne {w : Nat} (h : zc_W w < 13) : w ≠ zc_M w := by
  intro e
  have h1 := zc_wM w
  have h2 : zc_D w = 2 ^ zc_W w := if_neg (by omega)
  have h3 := Nat.two_pow_pos (zc_W w)
  rw [← e, Nat.xor_self] at h1
  omega
theorem zc_Yma {post : Int32 → Prop} {f : Int32} {w : Nat → Nat} {C : Nat → Int32} (hw : ∀ j, w j < 8192) (hC : ∀ b, b < 256 → C b = nI (zc_K b)) : ∀ d k c : Nat, k + d = 16 → post (nI (zc_ct zc_tn w d k c)) → wY_marred_4 post f (fun j => nI (w j)) C (d + 1) (nI c) (nI k) := by
  intro d
  induction d with
  | zero => intro k c hk hp; exact pk_le 16 k (fun _ => hp) (fun z => absurd z (by omega))
  | succ d ih =>
    intro k c hk hp
    have N : ∀ c', c' = c + zc_tn (w k) → wY_marred_4 post f (fun j => nI (w j)) C (d + 1) (nI c') (nI (k + 1)) := fun c' e => ih (k + 1) c' (by omega) (by rw [e]; exact hp)
    have h8 := hw k
    refine pk_le 16 k (fun z => absurd z (by omega)) (fun _ => zc_Yread hw hC (by omega) ?_)
    by_cases h : zc_W (w k) = 14
    · have e2 : zc_tn (w k) = 0 := if_neg (by omega)
      rw [zc_rd1 h]
      exact br_t (by decide) (nm_r (nI_1 k) (N c (by omega)))
    · obtain ⟨k1, k2⟩ := zc_Mok h8 h
      have hm := zc_M8 h8 h
      have hl := zc_Wle (w k)
      rw [zc_rd2 h, nI_clamp (show k < 2 ^ 31 by omega), nI_clamp (show zc_B (zc_M (w k)) < 2 ^ 31 by omega), hC _ k1, k2]
      refine br_f (nI_pos (by omega)) (And.intro (vp_in_nI (by omega) (by decide)) (And.intro (vp_in_nI k1 (by decide)) ?_))
      refine pk_eq (w k) (zc_M (w k)) (fun z => nm_r (nI_1 k) (N c ?_)) (fun z => nm_r (nI_1 c) (nm_r (nI_1 k) (N (c + 1) ?_)))
      · have e2 : zc_tn (w k) = 0 := if_neg (fun q => zc_Mne q z)
        omega
      · have e2 : zc_tn (w k) = 1 := if_pos (by
          rcases Nat.lt_or_ge (zc_W (w k)) 13 with q | q
          · exact q
          · have q13 : zc_W (w k) = 13 := by omega
            exact absurd (by unfold zc_M; rw [if_pos q13]) z)
        omega
/-- the nearest code words: the component's answer, the reference's scan -/
theorem zc_Yne {post : Int32 → Prop} {f : Int32} {w : Nat → Nat} {C : Nat → Int32} (hw : ∀ j, w j < 8192) (hC : ∀ b, b < 256 → C b = nI (zc_K b)) {j : Nat} (hj : j < 16) (hp : post (nI (1000 * zc_m (zc_C (w j)) (zc_O (w j)) + zc_n (zc_C (w j)) (zc_O (w j))))) : ∀ d b l c : Nat, b + d = 256 → l ≤ 13 → (∀ e, e < b → l ≤ zc_P (w j ^^^ zc_K e)) → c = zc_cnt (w j) l b → (l = 13 ∨ ∃ e, e < b ∧ zc_P (w j ^^^ zc_K e) = l) → wY_nearest_18 post (nI j) f (fun j => nI (w j)) C (d + 1) (nI l) (nI c) (nI b) := by
  have h8 := hw j
  intro d
  induction d with
  | zero =>
    intro b l c hb hl hA hB hD
    have e : b = 256 := by omega
    rw [e] at hA hB hD
    obtain ⟨e1, e2⟩ := zc_least h8 hA hB hD
    rw [← e1, ← e2] at hp
    have er : (1000 * nI l) + nI c = nI (1000 * l + c) := by
      show nI 1000 * nI l + nI c = _
      rw [pk_mul, nI_add]
    refine pk_le 256 b (fun _ => ?_) (fun z => absurd z (by omega))
    rw [er]
    exact hp
  | succ d ih =>
    intro b l c hb hl hA hB hD
    have hk := (zc_cod (v := b) (by omega)).1
    have h13 := zc_P13 (w j ^^^ zc_K b)
    have hstep : ∀ q, zc_cnt (w j) q (b + 1) = zc_cnt (w j) q b + (if zc_P (w j ^^^ zc_K b) = q then 1 else 0) := fun q => rfl
    refine pk_le 256 b (fun z => absurd z (by omega)) (fun _ => And.intro (vp_in_nI hj (by decide)) (And.intro (vp_in_nI (by omega) (by decide)) ?_))
    rw [nI_clamp (show j < 2 ^ 31 by omega), nI_clamp (show b < 2 ^ 31 by omega), hC b (by omega)]
    refine zc_YP (by omega) (by omega) ?_
    refine pk_le l (zc_P (w j ^^^ zc_K b)) (fun z => ?_) (fun z => ?_)
    · refine pk_eq (zc_P (w j ^^^ zc_K b)) l (fun q => nm_r (nI_1 c) (nm_r (nI_1 b) (ih (b + 1) l (c + 1) (by omega) hl ?_ ?_ ?_))) (fun q => nm_r (nI_1 b) (ih (b + 1) l c (by omega) hl ?_ ?_ ?_))
      · intro e he
        by_cases y : e = b
        · rw [y]; exact z
        · exact hA e (by omega)
      · rw [hstep, if_pos q, ← hB]
      · exact Or.inr ⟨b, by omega, q⟩
      · intro e he
        by_cases y : e = b
        · rw [y]; exact z
        · exact hA e (by omega)
      · rw [hstep, if_neg q, ← hB, Nat.add_zero]
      · rcases hD with y | ⟨e, he, y⟩
        · exact Or.inl y
        · exact Or.inr ⟨e, by omega, y⟩
    · have hz : zc_cnt (w j) (zc_P (w j ^^^ zc_K b)) b = 0 := by
        rcases Nat.eq_zero_or_pos (zc_cnt (w j) (zc_P (w j ^^^ zc_K b)) b) with y | y
        · exact y
        · obtain ⟨e, he, p⟩ := zc_sum_pos _ _ y
          have a := hA e he
          rw [if_neg (by omega)] at p
          omega
      have e0 : (0 : Int32) + 1 = nI 1 := rfl
      refine br_t rfl (nm_r e0 (nm_r (nI_1 b) (ih (b + 1) (zc_P (w j ^^^ zc_K b)) 1 (by omega) h13 ?_ ?_ ?_)))
      · intro e he
        by_cases y : e = b
        · rw [y]; exact Nat.le_refl _
        · have := hA e (by omega)
          omega
      · rw [hstep, if_pos rfl, hz]
      · exact Or.inr ⟨b, by omega, rfl⟩
theorem zc_Ynear {post : Int32 → Prop} {f : Int32} {w : Nat → Nat} {C : Nat → Int32} {j : Nat} (hw : ∀ j, w j < 8192) (hC : ∀ b, b < 256 → C b = nI (zc_K b)) (hj : j < 16) (hp : post (nI (1000 * zc_m (zc_C (w j)) (zc_O (w j)) + zc_n (zc_C (w j)) (zc_O (w j))))) : wpY_nearest post (f, (fun j => nI (w j)), C) (nI j) := by
  unfold wpY_nearest
  refine zc_Yiw hj (br_f (by decide) ?_)
  exact ⟨256 + 1, zc_Yne hw hC hj hp 256 0 13 0 (by omega) (by omega) (fun e he => absurd he (by omega)) rfl (Or.inl rfl)⟩
theorem zc_Xnear {post : Int32 → Prop} {f : Int32} {w : Nat → Nat} {j : Nat} (hw : ∀ j, w j < 8192) (hj : j < 16) (hp : post (nI (1000 * zc_m (zc_C (w j)) (zc_O (w j)) + zc_n (zc_C (w j)) (zc_O (w j))))) : wpX_nearest post (f, fun j => nI (w j)) (nI j) := by
  have h8 := hw j
  have h2 := zc_O2 (w j)
  have h16 := zc_C16 (w j)
  have hi : vp_in (nI j) 16 := vp_in_nI hj (by decide)
  unfold wpX_nearest
  refine zc_Xiw hj (br_f (by decide) (And.intro hi ?_))
  rw [nI_clamp (show j < 2 ^ 31 by omega)]
  refine nm_e (zc_Xwb h8 ?_)
  rcases zc_Wc (w j) with ⟨a, b, c⟩ | a | ⟨a, b, c⟩
  · rw [zc_wi2 (by omega), a]
    have em : zc_m (zc_C (w j)) (zc_O (w j)) = 0 := by unfold zc_m; rw [if_pos b, if_pos c]
    have en : zc_n (zc_C (w j)) (zc_O (w j)) = 1 := by unfold zc_n; rw [if_pos b, if_pos c]
    rw [em, en] at hp
    exact br_t rfl hp
  · rw [zc_wi1 a]
    refine br_f (by decide) (br_t (by decide) (zc_XC (by omega) (zc_XO (by omega) ?_)))
    refine pk_eq (zc_O (w j)) 0 (fun o => zc_XT2 h16 ?_) (fun o => zc_XT3 h16 ?_)
    · have c : ¬ zc_C (w j) = 0 := by
        intro c
        unfold zc_W at a
        rw [if_pos o, if_pos c] at a
        omega
      have em : zc_m (zc_C (w j)) (zc_O (w j)) = 2 := by unfold zc_m; rw [if_pos o, if_neg c]
      have en : zc_n (zc_C (w j)) (zc_O (w j)) = zc_T2 (zc_C (w j)) := by unfold zc_n; rw [if_pos o, if_neg c]
      rw [em, en, ← nI_add] at hp
      exact hp
    · have c : ¬ zc_C (w j) ≤ 12 := by
        intro c
        unfold zc_W at a
        rw [if_neg o, if_pos c] at a
        omega
      have em : zc_m (zc_C (w j)) (zc_O (w j)) = 3 := by unfold zc_m; rw [if_neg o, if_neg c]
      have en : zc_n (zc_C (w j)) (zc_O (w j)) = zc_T3 (zc_C (w j)) := by unfold zc_n; rw [if_neg o, if_neg c]
      rw [em, en, ← nI_add] at hp
      exact hp
  · have o : ¬ zc_O (w j) = 0 := by omega
    have em : zc_m (zc_C (w j)) (zc_O (w j)) = 1 := by unfold zc_m; rw [if_neg o, if_pos (by omega)]
    have en : zc_n (zc_C (w j)) (zc_O (w j)) = 1 := by unfold zc_n; rw [if_neg o, if_pos (by omega)]
    rw [em, en] at hp
    rw [zc_wi2 (by omega)]
    exact pk_eq (zc_W (w j)) 13 (fun z => absurd z (by omega)) (fun _ => br_f (nI_pos (by omega)) hp)
end
section
/-! ===== the relation and the calls ===== -/
/-- one hand, one array of words of thirteen bits; the reference's table holds the code words -/
def i_Rel (_ : Nat) (u : SX) (v : SY) : Prop := ∃ (h : Nat) (w : Nat → Nat) (C : Nat → Int32), h < 16 ∧ (∀ j, w j < 8192) ∧ (∀ b, b < 256 → C b = nI (zc_K b)) ∧ u = (nI h, fun j => nI (w j)) ∧ v = (nI h, (fun j => nI (w j)), C)
theorem zc_rel {k h : Nat} {w : Nat → Nat} {C : Nat → Int32} (hh : h < 16) (hw : ∀ j, w j < 8192) (hC : ∀ b, b < 256 → C b = nI (zc_K b)) : i_Rel k (nI h, fun j => nI (w j)) (nI h, (fun j => nI (w j)), C) := ⟨h, w, C, hh, hw, hC, rfl, rfl⟩
theorem i_up {k : Nat} {u : SX} {v : SY} (h : i_Rel k u v) : i_Rel (k + 3) u v := h
theorem zc_rg (x : Int32) {M : Nat} (hM : M < 2 ^ 31) : x < 0 ∨ (¬ x < 0 ∧ ¬ x ≤ nI M) ∨ ∃ j : Nat, j ≤ M ∧ x = nI j := by
  by_cases h : x < 0
  · exact Or.inl h
  · obtain ⟨j, hj, rfl⟩ := nI_of h
    rcases Nat.lt_or_ge M j with z | z
    · exact Or.inr (Or.inl ⟨h, nI_ge z hj⟩)
    · exact Or.inr (Or.inr ⟨j, z, rfl⟩)
theorem zc_Yw {post : SY → Prop} {C : Nat → Int32} (h0 : C 0 = 0) (hp : post (0, (fun _ => 0), C)) : ∀ d k : Nat, k + d = 16 → wY_init_54 post 0 (d + 1) (nI k) (fun _ => 0) C := by
  intro d
  induction d with
  | zero => intro k hk; exact pk_le 16 k (fun _ => hp) (fun z => absurd z (by omega))
  | succ d ih =>
    intro k hk
    refine pk_le 16 k (fun z => absurd z (by omega)) (fun _ => And.intro (vp_in_nI (by omega) (by decide)) (nm_r (e' := fun _ => 0) ?_ (nm_r (nI_1 k) (ih (k + 1) (by omega)))))
    funext i
    show (if i = (nI k).toNatClampNeg then C 0 else 0) = 0
    rw [h0]
    split <;> rfl
theorem zc_Yc {post : SY → Prop} (hp : ∀ C : Nat → Int32, (∀ b, b < 256 → C b = nI (zc_K b)) → post (0, (fun _ => 0), C)) : ∀ d k (C : Nat → Int32), k + d = 256 → (∀ b, b < k → C b = nI (zc_K b)) → wY_init_28 post 0 (d + 1) (nI k) (fun _ => 0) C := by
  intro d
  induction d with
  | zero =>
    intro k C hk hC
    have h0 : C 0 = 0 := by
      rw [hC 0 (by omega), zc_K0]
      rfl
    exact pk_le 256 k (fun _ => ⟨16 + 1, zc_Yw h0 (hp C (fun b hb => hC b (by omega))) 16 0 (by omega)⟩) (fun z => absurd z (by omega))
  | succ d ih =>
    intro k C hk hC
    refine pk_le 256 k (fun z => absurd z (by omega)) (fun _ => zc_YK (by omega) (And.intro (vp_in_nI (by omega) (by decide)) (nm_e (nm_r (nI_1 k) (ih (k + 1) _ (by omega) ?_)))))
    intro b hb
    rw [nI_clamp (show k < 2 ^ 31 by omega)]
    by_cases z : b = k
    · rw [z, pk_us]
    · rw [pk_un z]
      exact hC b (by omega)
theorem i_vc0 : wpX_init (fun u => wpY_init (fun v => i_Rel 0 u v)) := by
  unfold wpX_init wpY_init
  exact ⟨256 + 1, zc_Yc (fun C hC => ⟨0, fun _ => 0, C, by decide, fun _ => (by decide : (0 : Nat) < 8192), hC, rfl, rfl⟩) 256 0 (fun _ => 0) (by omega) (fun b hb => absurd hb (by omega))⟩
theorem i_vc_write {k : Nat} {u : SX} {v : SY} (I : i_Rel k u v) (hk : k + 3 ≤ 1536) (v1 : Int32) (v2 : Int32) : wpX_write (fun r u' => wpY_write (fun r' v' => r' = r ∧ i_Rel (k + 3) u' v') v v1 v2) u v1 v2 := by
  obtain ⟨h, w, C, hh, hw, hC, rfl, rfl⟩ := I
  unfold wpX_write wpY_write
  dsimp only
  rcases zc_iw v1 with ⟨j, hj, rfl⟩ | ⟨rx, ry⟩
  · have hi : vp_in (nI j) 16 := vp_in_nI hj (by decide)
    rw [nI_clamp (show j < 2 ^ 31 by omega)]
    refine zc_Xiw hj (br_f (by decide) ?_)
    rcases zc_rg v2 (M := 255) (by decide) with n | ⟨n, m⟩ | ⟨q, hq, rfl⟩
    · exact br_t n (zc_Yiw hj (br_f (by decide) (br_t n ⟨rfl, zc_rel hh hw hC⟩)))
    · exact br_f n (br_f m (zc_Yiw hj (br_f (by decide) (br_f n (br_f m ⟨rfl, zc_rel hh hw hC⟩)))))
    · have hk8 := (zc_cod (v := q) (by omega)).1
      have n : ¬ nI q < 0 := nI_pos (by omega)
      have m : nI q ≤ 255 := nI_le (b := 255) hq (by decide)
      rw [nI_clamp (show q < 2 ^ 31 by omega), hC q (by omega)]
      refine br_f n (br_t m (zc_XK (by omega) (And.intro hi (nm_r (e' := fun i => nI (zc_up w j (zc_K q) i)) ?_ (And.intro hi ?_)))))
      · rw [zc_short (by omega), zc_upd]
      · exact zc_Yiw hj (br_f (by decide) (br_f n (br_t m (And.intro (vp_in_nI (by omega) (by decide)) (And.intro hi (nm_r (zc_upd w j (zc_K q)) (And.intro hi ⟨rfl, zc_rel hh (zc_up8 hw hk8) hC⟩)))))))
  · exact rx _ _ (br_t rfl (ry _ _ (br_t rfl ⟨rfl, zc_rel hh hw hC⟩)))
theorem i_vc_flip {k : Nat} {u : SX} {v : SY} (I : i_Rel k u v) (hk : k + 3 ≤ 1536) (v1 : Int32) (v2 : Int32) : wpX_flip (fun r u' => wpY_flip (fun r' v' => r' = r ∧ i_Rel (k + 3) u' v') v v1 v2) u v1 v2 := by
  obtain ⟨h, w, C, hh, hw, hC, rfl, rfl⟩ := I
  unfold wpX_flip wpY_flip
  dsimp only
  rcases zc_iw v1 with ⟨j, hj, rfl⟩ | ⟨rx, ry⟩
  · have hi : vp_in (nI j) 16 := vp_in_nI hj (by decide)
    rw [nI_clamp (show j < 2 ^ 31 by omega)]
    refine zc_Xiw hj (br_f (by decide) ?_)
    rcases zc_rg v2 (M := 12) (by decide) with n | ⟨n, m⟩ | ⟨q, hq, rfl⟩
    · exact br_t n (zc_Yiw hj (br_f (by decide) (br_t n ⟨rfl, zc_rel hh hw hC⟩)))
    · exact br_f n (br_f m (zc_Yiw hj (br_f (by decide) (br_f n (br_f m ⟨rfl, zc_rel hh hw hC⟩)))))
    · have h8 : w j ^^^ 2 ^ q < 8192 := Nat.xor_lt_two_pow (n := 13) (hw j) (zc_pw q (by omega)).2.2.2
      have n : ¬ nI q < 0 := nI_pos (by omega)
      have m : nI q ≤ 12 := nI_le (b := 12) hq (by decide)
      have e : nI (w j) ^^^ ((1 : Int32) <<< (nI q &&& 31)) = nI (w j ^^^ 2 ^ q) := by rw [zc_shl1 (by omega), nx_xor]
      rw [e]
      refine br_f n (br_t m (And.intro hi (And.intro hi (nm_r (e' := fun i => nI (zc_up w j (w j ^^^ 2 ^ q) i)) ?_ (And.intro hi ?_)))))
      · rw [zc_short (by omega), zc_upd]
      · exact zc_Yiw hj (br_f (by decide) (br_f n (br_t m (And.intro hi (And.intro hi (nm_r (zc_upd w j (w j ^^^ 2 ^ q)) (And.intro hi ⟨rfl, zc_rel hh (zc_up8 hw h8) hC⟩)))))))
  · exact rx _ _ (br_t rfl (ry _ _ (br_t rfl ⟨rfl, zc_rel hh hw hC⟩)))
theorem i_vc_read {k : Nat} {u : SX} {v : SY} (I : i_Rel k u v) (hk : k + 3 ≤ 1536) (v1 : Int32) : wpX_read (fun r => wpY_read (fun r' => r' = r ∧ i_Rel (k + 3) u v) v v1) u v1 := by
  obtain ⟨h, w, C, hh, hw, hC, rfl, rfl⟩ := I
  rcases zc_iw v1 with ⟨j, hj, rfl⟩ | ⟨rx, ry⟩
  · exact zc_Xread hw hj (zc_Yread hw hC hj ⟨rfl, zc_rel hh hw hC⟩)
  · unfold wpX_read wpY_read
    dsimp only
    exact rx _ _ (br_t rfl (ry _ _ (br_t rfl ⟨rfl, zc_rel hh hw hC⟩)))
theorem i_vc_repair {k : Nat} {u : SX} {v : SY} (I : i_Rel k u v) (hk : k + 3 ≤ 1536) (v1 : Int32) : wpX_repair (fun r u' => wpY_repair (fun r' v' => r' = r ∧ i_Rel (k + 3) u' v') v v1) u v1 := by
  obtain ⟨h, w, C, hh, hw, hC, rfl, rfl⟩ := I
  rcases zc_iw v1 with ⟨j, hj, rfl⟩ | ⟨rx, ry⟩
  · exact zc_Xrep hw hj (zc_Yrep hw hC hj ⟨rfl, zc_rel hh (zc_rw8 hw j) hC⟩)
  · unfold wpX_repair wpY_repair wpY_read
    dsimp only
    exact rx _ _ (br_t rfl (ry _ _ (br_t rfl (br_f (by decide) ⟨rfl, zc_rel hh hw hC⟩))))
theorem zc_Xsc {post : Int32 → SX → Prop} {n h : Nat} {w : Nat → Nat} (hn : n ≤ 32) (hh : h < 16) (hw : ∀ j, w j < 8192) (hp : post (nI (zc_st n 0 h w)) (nI (zc_sh n h), fun j => nI (zc_sw n h w j))) : ∃ m : Nat, wX_scrub_26 post (nI n) m 0 0 (nI h) (fun j => nI (w j)) := ⟨n + 1, zc_Xscl hn n 0 0 h w (by omega) hh hw hp⟩
theorem zc_Ysc {post : Int32 → SY → Prop} {n h : Nat} {w : Nat → Nat} {C : Nat → Int32} (hn : n ≤ 32) (hh : h < 16) (hw : ∀ j, w j < 8192) (hC : ∀ b, b < 256 → C b = nI (zc_K b)) (hp : post (nI (zc_st n 0 h w)) (nI (zc_sh n h), (fun j => nI (zc_sw n h w j)), C)) : ∃ m : Nat, wY_scrub_26 post (nI n) m 0 0 (nI h) (fun j => nI (w j)) C := ⟨n + 1, zc_Yscl hC hn n 0 0 h w (by omega) hh hw hp⟩
theorem i_vc_scrub {k : Nat} {u : SX} {v : SY} (I : i_Rel k u v) (hk : k + 3 ≤ 1536) (v1 : Int32) : wpX_scrub (fun r u' => wpY_scrub (fun r' v' => r' = r ∧ i_Rel (k + 3) u' v') v v1) u v1 := by
  obtain ⟨h, w, C, hh, hw, hC, rfl, rfl⟩ := I
  unfold wpX_scrub wpY_scrub
  dsimp only
  rcases zc_rg v1 (M := 32) (by decide) with n | ⟨n, m⟩ | ⟨q, hq, rfl⟩
  · have n' : ¬ 0 ≤ v1 := Int32.not_le.mpr n
    exact br_f n' (zc_Xsc (n := 0) (by decide) hh hw (br_f n' (zc_Ysc (n := 0) (by decide) hh hw hC ⟨rfl, zc_rel (zc_sh16 _ _ hh) (zc_sw8 _ _ _ hw) hC⟩)))
  · have n' : 0 ≤ v1 := Int32.not_lt.mp n
    exact br_t n' (br_f m (zc_Xsc (n := 32) (by decide) hh hw (br_t n' (br_f m (zc_Ysc (n := 32) (by decide) hh hw hC ⟨rfl, zc_rel (zc_sh16 _ _ hh) (zc_sw8 _ _ _ hw) hC⟩)))))
  · have n' : 0 ≤ nI q := nI_pos' (by omega)
    have m : nI q ≤ 32 := nI_le (b := 32) hq (by decide)
    exact br_t n' (br_t m (zc_Xsc hq hh hw (br_t n' (br_t m (zc_Ysc hq hh hw hC ⟨rfl, zc_rel (zc_sh16 _ _ hh) (zc_sw8 _ _ _ hw) hC⟩)))))
theorem i_vc_hand {k : Nat} {u : SX} {v : SY} (I : i_Rel k u v) (hk : k + 3 ≤ 1536) : wpX_hand (fun r => wpY_hand (fun r' => r' = r ∧ i_Rel (k + 3) u v) v) u := by
  obtain ⟨h, w, C, hh, hw, hC, rfl, rfl⟩ := I
  unfold wpX_hand wpY_hand
  dsimp only
  exact ⟨rfl, zc_rel hh hw hC⟩
theorem i_vc_broken {k : Nat} {u : SX} {v : SY} (I : i_Rel k u v) (hk : k + 3 ≤ 1536) : wpX_broken (fun r => wpY_broken (fun r' => r' = r ∧ i_Rel (k + 3) u v) v) u := by
  obtain ⟨h, w, C, hh, hw, hC, rfl, rfl⟩ := I
  unfold wpX_broken wpY_broken
  dsimp only
  exact ⟨16 + 1, zc_Xbr hw 16 0 0 (by omega) ⟨16 + 1, zc_Ybr hw hC 16 0 0 (by omega) ⟨rfl, zc_rel hh hw hC⟩⟩⟩
theorem i_vc_marred {k : Nat} {u : SX} {v : SY} (I : i_Rel k u v) (hk : k + 3 ≤ 1536) : wpX_marred (fun r => wpY_marred (fun r' => r' = r ∧ i_Rel (k + 3) u v) v) u := by
  obtain ⟨h, w, C, hh, hw, hC, rfl, rfl⟩ := I
  unfold wpX_marred wpY_marred
  dsimp only
  exact ⟨16 + 1, zc_Xma hw 16 0 0 (by omega) ⟨16 + 1, zc_Yma hw hC 16 0 0 (by omega) ⟨rfl, zc_rel hh hw hC⟩⟩⟩
theorem i_vc_raw {k : Nat} {u : SX} {v : SY} (I : i_Rel k u v) (hk : k + 3 ≤ 1536) (v1 : Int32) : wpX_raw (fun r => wpY_raw (fun r' => r' = r ∧ i_Rel (k + 3) u v) v v1) u v1 := by
  obtain ⟨h, w, C, hh, hw, hC, rfl, rfl⟩ := I
  unfold wpX_raw wpY_raw
  dsimp only
  rcases zc_iw v1 with ⟨j, hj, rfl⟩ | ⟨rx, ry⟩
  · have hi : vp_in (nI j) 16 := vp_in_nI hj (by decide)
    exact zc_Xiw hj (br_f (by decide) (And.intro hi (zc_Yiw hj (br_f (by decide) (And.intro hi ⟨rfl, zc_rel hh hw hC⟩)))))
  · exact rx _ _ (br_t rfl (ry _ _ (br_t rfl ⟨rfl, zc_rel hh hw hC⟩)))
theorem i_vc_distance {k : Nat} {u : SX} {v : SY} (I : i_Rel k u v) (hk : k + 3 ≤ 1536) (v1 : Int32) (v2 : Int32) : wpX_distance (fun r => wpY_distance (fun r' => r' = r ∧ i_Rel (k + 3) u v) v v1 v2) u v1 v2 := by
  obtain ⟨h, w, C, hh, hw, hC, rfl, rfl⟩ := I
  unfold wpX_distance wpY_distance
  dsimp only
  rcases zc_iw v1 with ⟨j, hj, rfl⟩ | ⟨rx, ry⟩
  · have hi : vp_in (nI j) 16 := vp_in_nI hj (by decide)
    rw [nI_clamp (show j < 2 ^ 31 by omega)]
    refine zc_Xiw hj (br_f (by decide) ?_)
    rcases zc_rg v2 (M := 255) (by decide) with n | ⟨n, m⟩ | ⟨q, hq, rfl⟩
    · exact br_t n (zc_Yiw hj (br_f (by decide) (br_t n ⟨rfl, zc_rel hh hw hC⟩)))
    · exact br_f n (br_f m (zc_Yiw hj (br_f (by decide) (br_f n (br_f m ⟨rfl, zc_rel hh hw hC⟩)))))
    · have hk8 := (zc_cod (v := q) (by omega)).1
      have h8 := hw j
      have hx : w j ^^^ zc_K q < 8192 := Nat.xor_lt_two_pow (n := 13) h8 hk8
      have n : ¬ nI q < 0 := nI_pos (by omega)
      have m : nI q ≤ 255 := nI_le (b := 255) hq (by decide)
      rw [nI_clamp (show q < 2 ^ 31 by omega), hC q (by omega)]
      refine br_f n (br_t m (zc_XK (by omega) (And.intro hi ?_)))
      rw [nx_xor]
      exact zc_XP (by omega) (zc_Yiw hj (br_f (by decide) (br_f n (br_t m (And.intro hi (And.intro (vp_in_nI (by omega) (by decide)) (zc_YP (by omega) (by omega) ⟨rfl, zc_rel hh hw hC⟩)))))))
  · exact rx _ _ (br_t rfl (ry _ _ (br_t rfl ⟨rfl, zc_rel hh hw hC⟩)))
theorem i_vc_nearest {k : Nat} {u : SX} {v : SY} (I : i_Rel k u v) (hk : k + 3 ≤ 1536) (v1 : Int32) : wpX_nearest (fun r => wpY_nearest (fun r' => r' = r ∧ i_Rel (k + 3) u v) v v1) u v1 := by
  obtain ⟨h, w, C, hh, hw, hC, rfl, rfl⟩ := I
  rcases zc_iw v1 with ⟨j, hj, rfl⟩ | ⟨rx, ry⟩
  · exact zc_Xnear hw hj (zc_Ynear hw hC hj ⟨rfl, zc_rel hh hw hC⟩)
  · unfold wpX_nearest wpY_nearest
    dsimp only
    exact rx _ _ (br_t rfl (ry _ _ (br_t rfl ⟨rfl, zc_rel hh hw hC⟩)))
theorem i_vc_mix {k : Nat} {u : SX} {v : SY} (I : i_Rel k u v) (hk : k + 3 ≤ 1536) (v1 : Int32) (v2 : Int32) : wpX_mix (fun r u' => wpY_mix (fun r' v' => r' = r ∧ i_Rel (k + 3) u' v') v v1 v2) u v1 v2 := by
  obtain ⟨h, w, C, hh, hw, hC, rfl, rfl⟩ := I
  unfold wpX_mix wpY_mix
  dsimp only
  rcases zc_iw v1 with ⟨i, hi, rfl⟩ | ⟨rx, ry⟩
  · refine zc_Xiw hi (br_f (by decide) ?_)
    rcases zc_iw v2 with ⟨j, hj, rfl⟩ | ⟨rx, ry⟩
    · have hv : vp_in (nI j) 16 := vp_in_nI hj (by decide)
      refine zc_Xiw hj (br_f (by decide) (zc_Xread hw hi (zc_Xread hw hj ?_)))
      by_cases a : zc_W (w i) = 14
      · refine br_t (zc_rd1 a) (zc_Yiw hi (br_f (by decide) (zc_Yiw hj (br_f (by decide) (zc_Yread hw hC hi (zc_Yread hw hC hj ?_))))))
        rw [zc_rd1 a]
        exact br_t (by decide) ⟨rfl, zc_rel hh hw hC⟩
      · obtain ⟨a1, a2⟩ := zc_Mok (hw i) a
        by_cases b : zc_W (w j) = 14
        · rw [zc_rd2 a]
          refine br_f (zc_neg2 (by omega)) (br_t (zc_rd1 b) (zc_Yiw hi (br_f (by decide) (zc_Yiw hj (br_f (by decide) (zc_Yread hw hC hi (zc_Yread hw hC hj ?_)))))))
          rw [zc_rd2 a, zc_rd1 b]
          exact br_f (nI_pos (by omega)) (br_f (by decide) ⟨rfl, zc_rel hh hw hC⟩)
        · obtain ⟨b1, b2⟩ := zc_Mok (hw j) b
          have hx : zc_B (zc_M (w i)) ^^^ zc_B (zc_M (w j)) < 256 := Nat.xor_lt_two_pow (n := 8) a1 b1
          have hk8 := (zc_cod hx).1
          rw [zc_rd2 a, zc_rd2 b]
          refine br_f (zc_neg2 (by omega)) (br_f (zc_neg2 (by omega)) (nm_r (nx_xor _ _) (zc_XK hx (And.intro hv (nm_r (e' := fun e => nI (zc_up w j (zc_K (zc_B (zc_M (w i)) ^^^ zc_B (zc_M (w j)))) e)) ?_ (zc_Yiw hi (br_f (by decide) (zc_Yiw hj (br_f (by decide) (zc_Yread hw hC hi (zc_Yread hw hC hj ?_)))))))))))
          · rw [zc_short (by omega), nI_clamp (show j < 2 ^ 31 by omega), zc_upd]
          · have e : (nI (zc_B (zc_M (w i))) ^^^ nI (zc_B (zc_M (w j)))) &&& 255 = nI (zc_B (zc_M (w i)) ^^^ zc_B (zc_M (w j))) := by
              rw [nx_xor]
              show nI (zc_B (zc_M (w i)) ^^^ zc_B (zc_M (w j))) &&& nI 255 = _
              rw [nx_and, show (255 : Nat) = 2 ^ 8 - 1 from rfl, Nat.and_two_pow_sub_one_eq_mod, Nat.mod_eq_of_lt hx]
            rw [zc_rd2 a, zc_rd2 b, e, nI_clamp (show j < 2 ^ 31 by omega), nI_clamp (show zc_B (zc_M (w i)) ^^^ zc_B (zc_M (w j)) < 2 ^ 31 by omega), hC _ hx]
            exact br_f (nI_pos (by omega)) (br_t (nI_pos' (by omega)) (And.intro (vp_in_nI hx (by decide)) (And.intro hv (nm_r (zc_upd w j _) ⟨nx_xor _ _, zc_rel hh (zc_up8 hw hk8) hC⟩))))
    · exact rx _ _ (br_t rfl (zc_Yiw hi (br_f (by decide) (ry _ _ (br_t rfl ⟨rfl, zc_rel hh hw hC⟩)))))
  · exact rx _ _ (br_t rfl (ry _ _ (br_t rfl ⟨rfl, zc_rel hh hw hC⟩)))
end
