section
/-! rows taken from kit/rows (starting texts) -/
theorem pk_us {f : Nat → Int32} {k : Nat} {x : Int32} : upd f k x k = x := if_pos rfl
theorem pk_un {f : Nat → Int32} {k j : Nat} {x : Int32} (h : j ≠ k) : upd f k x j = f j := if_neg h
theorem pk_sub {a b : Nat} (h : b ≤ a) : nI a - nI b = nI (a - b) := by
  obtain ⟨c, rfl⟩ : ∃ c, a = c + b := ⟨a - b, by omega⟩
  rw [← nI_add, Int32.add_sub_cancel, Nat.add_sub_cancel]
theorem pk_m1 (n : Nat) : nI (n + 1) + (-1) = nI n := by
  rw [← nI_1, Int32.add_assoc, show (1 : Int32) + (-1) = 0 from rfl, Int32.add_zero]
theorem pk_mul (a b : Nat) : nI a * nI b = nI (a * b) := (Int32.ofNat_mul a b).symm
theorem pk_div {a d : Nat} (ha : a < 2 ^ 31) (h0 : 0 < d) (hd : d < 2 ^ 31) : nI a / nI d = nI (a / d) := by
  apply Int32.toInt_inj.mp
  rw [lg_idiv_nonneg (by rw [nI_toInt ha]; omega) (by rw [nI_toInt hd]; omega), nI_toInt ha, nI_toInt hd, nI_toInt (Nat.lt_of_le_of_lt (Nat.div_le_self a d) ha)]
  first | rfl | exact (Int.natCast_ediv _ _).symm
theorem pk_rem {a d : Nat} (ha : a < 2 ^ 31) (h0 : 0 < d) (hd : d < 2 ^ 31) : nI a - nI a / nI d * nI d = nI (a % d) := by
  rw [pk_div ha h0 hd, pk_mul, pk_sub (Nat.div_mul_le_self a d)]
  exact congrArg nI (by have := Nat.div_add_mod' a d; omega)
theorem pk_sub_toInt {a b : Nat} (ha : a < 2 ^ 30) (hb : b < 2 ^ 30) : (nI a - nI b).toInt = (a : Int) - b := by
  rw [Int32.toInt_sub, nI_toInt (by omega), nI_toInt (by omega)]
  exact Int.bmod_eq_of_le (by omega) (by omega)
theorem pk_le {x y : Int32} {A B : Prop} (a b : Nat) (f : a ≤ b → A) (g : b < a → B) (hx : x = nI a := by rfl) (hy : y = nI b := by rfl) (ha : a < 2 ^ 31 := by omega) (hb : b < 2 ^ 31 := by omega) : (x ≤ y → A) ∧ (¬ x ≤ y → B) := by
  subst hx hy
  rw [nI_leI ha hb]
  exact ⟨f, fun z => g (by omega)⟩
theorem pk_lt {x y : Int32} {A B : Prop} (a b : Nat) (f : a < b → A) (g : b ≤ a → B) (hx : x = nI a := by rfl) (hy : y = nI b := by rfl) (ha : a < 2 ^ 31 := by omega) (hb : b < 2 ^ 31 := by omega) : (x < y → A) ∧ (¬ x < y → B) := by
  subst hx hy
  rw [nI_ltI ha hb]
  exact ⟨f, fun z => g (by omega)⟩
theorem pk_eq {x y : Int32} {A B : Prop} (a b : Nat) (f : a = b → A) (g : a ≠ b → B) (hx : x = nI a := by rfl) (hy : y = nI b := by rfl) (ha : a < 2 ^ 31 := by omega) (hb : b < 2 ^ 31 := by omega) : (x = y → A) ∧ (¬ x = y → B) := by
  subst hx hy
  rw [nI_eq ha hb]
  exact ⟨f, g⟩
theorem pk_in {x : Int32} (n N : Nat) (h : n < N) (hx : x = nI n := by rfl) (hN : N < 2 ^ 31 := by omega) : vp_in x N := by
  subst hx
  exact vp_in_nI h hN
theorem pk_cl {x : Int32} (n : Nat) (hx : x = nI n := by rfl) (h : n < 2 ^ 31 := by omega) : x.toNatClampNeg = n := by
  subst hx
  exact nI_clamp h
theorem pk_tn {n : Nat} (h : n < 2 ^ 32) : (nI n).toBitVec.toNat = n := Nat.mod_eq_of_lt h
theorem pk_and (x : Int32) {m : Int32} (k : Nat) (hm : m.toBitVec.toNat = 2 ^ k - 1) : x &&& m = nI (x.toBitVec.toNat % 2 ^ k) := by
  apply Int32.toBitVec_inj.mp
  apply BitVec.eq_of_toNat_eq
  rw [Int32.toBitVec_and, BitVec.toNat_and, hm, Nat.and_two_pow_sub_one_eq_mod]
  show _ = (BitVec.ofNat 32 _).toNat
  rw [BitVec.toNat_ofNat]
  exact (Nat.mod_eq_of_lt (Nat.lt_of_le_of_lt (Nat.mod_le _ _) x.toBitVec.isLt)).symm
theorem pk_andN {n : Nat} (h : n < 2 ^ 32) {m : Int32} (k : Nat) (hm : m.toBitVec.toNat = 2 ^ k - 1) : nI n &&& m = nI (n % 2 ^ k) := by
  rw [pk_and _ k hm, pk_tn h]
theorem pk_shl (a s : Int32) (k : Nat) (hs : (s.toBitVec.smod 32).toNat = k) : (a <<< s).toBitVec.toNat = a.toBitVec.toNat * 2 ^ k % 2 ^ 32 := by
  show (a.toBitVec <<< (s.toBitVec.smod 32).toNat).toNat = _
  rw [hs, BitVec.toNat_shiftLeft, Nat.shiftLeft_eq]
theorem pk_shlN {n : Nat} (s : Int32) (k : Nat) (hs : (s.toBitVec.smod 32).toNat = k) (h : n * 2 ^ k < 2 ^ 32) : nI n <<< s = nI (n * 2 ^ k) := by
  apply Int32.toBitVec_inj.mp
  apply BitVec.eq_of_toNat_eq
  have hn : n < 2 ^ 32 := Nat.lt_of_le_of_lt (Nat.le_mul_of_pos_right n (Nat.two_pow_pos k)) h
  rw [pk_shl _ _ k hs, pk_tn hn, pk_tn h, Nat.mod_eq_of_lt h]
theorem pk_shr (a s : Int32) (k : Nat) (hs : (s.toBitVec.smod 32).toNat = k) : (a >>> s).toInt = a.toInt >>> k := by
  show (a.toBitVec.sshiftRight (s.toBitVec.smod 32).toNat).toInt = _
  rw [hs, BitVec.toInt_sshiftRight]
  rfl
theorem pk_shrN {n : Nat} (h : n < 2 ^ 31) (s : Int32) (k : Nat) (hs : (s.toBitVec.smod 32).toNat = k) : nI n >>> s = nI (n / 2 ^ k) := by
  apply Int32.toInt_inj.mp
  have h2 : n / 2 ^ k ≤ n := Nat.div_le_self _ _
  rw [pk_shr _ _ k hs, nI_toInt h, nI_toInt (by omega), Int.shiftRight_eq_div_pow]
  rfl
theorem pk_ushr (x s : Int32) (k : Nat) (hs : ((s.toUInt32 &&& Int32.toUInt32 31).toBitVec % 32).toNat = k) : (x.toUInt32 >>> (s.toUInt32 &&& Int32.toUInt32 31)).toInt32.toBitVec.toNat = x.toBitVec.toNat / 2 ^ k := by
  have e : (x.toUInt32 >>> (s.toUInt32 &&& Int32.toUInt32 31)).toInt32.toBitVec = x.toBitVec >>> k := by
    rw [← hs]
    exact UInt32.toBitVec_shiftRight _ _
  rw [e, BitVec.toNat_ushiftRight, Nat.shiftRight_eq_div_pow]
theorem pk_ushrN {n : Nat} (hn : n < 2 ^ 32) (s : Int32) (k : Nat) (hs : ((s.toUInt32 &&& Int32.toUInt32 31).toBitVec % 32).toNat = k) : ((nI n).toUInt32 >>> (s.toUInt32 &&& Int32.toUInt32 31)).toInt32 = nI (n / 2 ^ k) := by
  apply Int32.toBitVec_inj.mp
  apply BitVec.eq_of_toNat_eq
  rw [pk_ushr _ s k hs, pk_tn hn, pk_tn (Nat.lt_of_le_of_lt (Nat.div_le_self _ _) hn)]
theorem s_l : ∀ n, n < 32 → ((nI n &&& 31).toBitVec.smod 32).toNat = n := by decide +kernel
theorem s_u : ∀ n, n < 32 → (((nI n).toUInt32 &&& Int32.toUInt32 31).toBitVec % 32).toNat = n := by decide +kernel
theorem nx_and (a b : Nat) : nI a &&& nI b = nI (a &&& b) := by
  apply Int32.toBitVec_inj.1
  show BitVec.ofNat 32 a &&& BitVec.ofNat 32 b = BitVec.ofNat 32 (a &&& b)
  apply BitVec.eq_of_getLsbD_eq
  intro i hi
  simp [hi]
theorem nx_xor (a b : Nat) : nI a ^^^ nI b = nI (a ^^^ b) := by
  apply Int32.toBitVec_inj.1
  show BitVec.ofNat 32 a ^^^ BitVec.ofNat 32 b = BitVec.ofNat 32 (a ^^^ b)
  apply BitVec.eq_of_getLsbD_eq
  intro i hi
  simp [hi]
end
section
/-! the plain laws of the four bit searches, over naturals: k counts the bits still to be looked at -/
theorem tr_pp (k : Nat) : 0 < 2 ^ k := Nat.two_pow_pos k
theorem tr_dd (x k : Nat) : x / 2 ^ (k + 1) = x / 2 ^ k / 2 := by rw [Nat.pow_succ, Nat.div_div_eq_div_mul]
theorem tr_dm {P u v : Nat} (hq : u / P = v / P) (hm : u % P ≤ v % P) : u ≤ v := by
  have h1 := Nat.div_add_mod u P
  have h2 := Nat.div_add_mod v P
  rw [hq] at h1
  omega
theorem tr_dm' {P u v : Nat} (hq : u / P = v / P) (h : u ≤ v) : u % P ≤ v % P := by
  have h1 := Nat.div_add_mod u P
  have h2 := Nat.div_add_mod v P
  rw [hq] at h1
  omega
/-- the number with the bit k set and nothing below it -/
def tr_up (a k : Nat) : Nat := (a / 2 ^ k + 1) * 2 ^ k
/-- the number without the bit k, everything below it set -/
def tr_dn (b k : Nat) : Nat := b / 2 ^ k * 2 ^ k - 1
theorem tr_up_d (a k : Nat) : tr_up a k / 2 ^ k = a / 2 ^ k + 1 := Nat.mul_div_cancel _ (tr_pp k)
theorem tr_up_m (a k : Nat) : tr_up a k % 2 ^ k = 0 := Nat.mul_mod_left _ _
theorem tr_up_lt (a k : Nat) : a < tr_up a k := (Nat.div_lt_iff_lt_mul (tr_pp k)).mp (Nat.lt_succ_self _)
theorem tr_up_le {a x k : Nat} (h : a / 2 ^ k < x / 2 ^ k) : tr_up a k ≤ x := (Nat.le_div_iff_mul_le (tr_pp k)).mp h
theorem tr_up_gt {a x k : Nat} (h : x < tr_up a k) : x / 2 ^ k ≤ a / 2 ^ k := Nat.lt_succ_iff.mp ((Nat.div_lt_iff_lt_mul (tr_pp k)).mpr h)
theorem tr_dn_e {b k : Nat} (h : b / 2 ^ k % 2 = 1) : tr_dn b k = 2 ^ k * (b / 2 ^ k - 1) + (2 ^ k - 1) := by
  have hp := tr_pp k
  unfold tr_dn
  generalize b / 2 ^ k = B at h
  generalize 2 ^ k = P at hp
  obtain ⟨C, rfl⟩ : ∃ C, B = C + 1 := ⟨B - 1, by omega⟩
  rw [Nat.add_sub_cancel, Nat.add_mul, Nat.one_mul, Nat.mul_comm]
  omega
theorem tr_dn_d {b k : Nat} (h : b / 2 ^ k % 2 = 1) : tr_dn b k / 2 ^ k = b / 2 ^ k - 1 := by
  have hp := tr_pp k
  rw [tr_dn_e h, Nat.mul_add_div hp, Nat.div_eq_of_lt (show 2 ^ k - 1 < 2 ^ k by omega), Nat.add_zero]
theorem tr_dn_m {b k : Nat} (h : b / 2 ^ k % 2 = 1) : tr_dn b k % 2 ^ k = 2 ^ k - 1 := by
  have hp := tr_pp k
  rw [tr_dn_e h, Nat.mul_add_mod, Nat.mod_eq_of_lt (by omega)]
theorem tr_dn_le (b k : Nat) : tr_dn b k ≤ b := by
  have h : b / 2 ^ k * 2 ^ k ≤ b := Nat.div_mul_le_self _ _
  unfold tr_dn
  omega
theorem tr_dn_ge {b x k : Nat} (h : x / 2 ^ k < b / 2 ^ k) : x ≤ tr_dn b k := by
  have h2 : x < b / 2 ^ k * 2 ^ k := (Nat.div_lt_iff_lt_mul (tr_pp k)).mp h
  unfold tr_dn
  omega
theorem tr_dn_lt {b x k : Nat} (h : tr_dn b k < x) : b / 2 ^ k ≤ x / 2 ^ k := by
  apply (Nat.le_div_iff_mul_le (tr_pp k)).mpr
  unfold tr_dn at h
  omega
/-- the step of or, and of xor, at one bit -/
theorem tr_orE {A C X Y : Nat} (hx : X / 2 = A / 2) (hy : Y / 2 = C / 2) : (X ||| Y) / 2 = (A ||| C) / 2 := by rw [Nat.or_div_two, Nat.or_div_two, hx, hy]
theorem tr_xoE {A C X Y : Nat} (hx : X / 2 = A / 2) (hy : Y / 2 = C / 2) : (X ^^^ Y) / 2 = (A ^^^ C) / 2 := by rw [Nat.xor_div_two, Nat.xor_div_two, hx, hy]
theorem tr_orM (A C : Nat) : (A ||| C) % 2 = 1 ↔ A % 2 = 1 ∨ C % 2 = 1 := Nat.or_mod_two_eq_one
theorem tr_xoM (A C : Nat) : (A ^^^ C) % 2 = 1 ↔ ¬ (A % 2 = 1 ↔ C % 2 = 1) := Nat.xor_mod_two_eq_one

theorem tr_evn {A : Nat} (h : A % 2 = 0) : (A + 1) / 2 = A / 2 := by omega
theorem tr_odd {A : Nat} (h : A % 2 = 1) : (A - 1) / 2 = A / 2 := by omega

/-! ===== least or ===== -/
def tr_LO (k a b c d r : Nat) : Prop :=
  (∃ x y, a ≤ x ∧ x ≤ b ∧ c ≤ y ∧ y ≤ d ∧ r = x ||| y) ∧ r / 2 ^ k = a / 2 ^ k ||| c / 2 ^ k ∧
  ∀ x y, a ≤ x → x ≤ b → c ≤ y → y ≤ d → x / 2 ^ k = a / 2 ^ k → y / 2 ^ k = c / 2 ^ k → r ≤ x ||| y
theorem tr_LO_sw {k a b c d r : Nat} (h : tr_LO k a b c d r) : tr_LO k c d a b r := by
  obtain ⟨⟨x, y, h1, h2, h3, h4, e⟩, q, m⟩ := h
  refine ⟨⟨y, x, h3, h4, h1, h2, by rw [e, Nat.or_comm]⟩, by rw [q, Nat.or_comm], ?_⟩
  intro x y g1 g2 g3 g4 gx gy
  rw [Nat.or_comm]
  exact m y x g3 g4 g1 g2 gy gx
theorem tr_LO_0 {a b c d : Nat} (hab : a ≤ b) (hcd : c ≤ d) : tr_LO 0 a b c d (a ||| c) := by
  refine ⟨⟨a, c, Nat.le_refl _, hab, Nat.le_refl _, hcd, rfl⟩, ?_, ?_⟩
  · rw [Nat.pow_zero, Nat.div_one, Nat.div_one, Nat.div_one]
  · intro x y _ _ _ _ hx hy
    rw [Nat.pow_zero, Nat.div_one, Nat.div_one] at hx hy
    rw [hx, hy]
    exact Nat.le_refl _
theorem tr_LO_go {k a b c d r : Nat} (h : tr_LO k a b c d r)
    (hc : a / 2 ^ k % 2 = c / 2 ^ k % 2 ∨ (c / 2 ^ k % 2 = 1 ∧ b < tr_up a k) ∨ (a / 2 ^ k % 2 = 1 ∧ d < tr_up c k)) : tr_LO (k + 1) a b c d r := by
  obtain ⟨e, q, m⟩ := h
  refine ⟨e, ?_, ?_⟩
  · rw [tr_dd r, q, Nat.or_div_two, ← tr_dd, ← tr_dd]
  · intro x y h1 h2 h3 h4 hx hy
    rw [tr_dd, tr_dd] at hx hy
    by_cases cx : x / 2 ^ k = a / 2 ^ k ∧ y / 2 ^ k = c / 2 ^ k
    · exact m x y h1 h2 h3 h4 cx.1 cx.2
    · apply Nat.le_of_lt
      apply Nat.lt_of_div_lt_div (c := 2 ^ k)
      rw [q, Nat.or_div_two_pow]
      have gx : a / 2 ^ k ≤ x / 2 ^ k := Nat.div_le_div_right h1
      have gy : c / 2 ^ k ≤ y / 2 ^ k := Nat.div_le_div_right h3
      have hc' : a / 2 ^ k % 2 = c / 2 ^ k % 2 ∨ (c / 2 ^ k % 2 = 1 ∧ x / 2 ^ k ≤ a / 2 ^ k) ∨ (a / 2 ^ k % 2 = 1 ∧ y / 2 ^ k ≤ c / 2 ^ k) := by
        rcases hc with z | ⟨z, z2⟩ | ⟨z, z2⟩
        · exact Or.inl z
        · exact Or.inr (Or.inl ⟨z, tr_up_gt (Nat.lt_of_le_of_lt h2 z2)⟩)
        · exact Or.inr (Or.inr ⟨z, tr_up_gt (Nat.lt_of_le_of_lt h4 z2)⟩)
      have o1 := tr_orM (a / 2 ^ k) (c / 2 ^ k)
      have o2 := tr_orM (x / 2 ^ k) (y / 2 ^ k)
      have o3 := tr_orE hx hy
      clear q m h1 h2 h3 h4 hc e
      generalize a / 2 ^ k = A at *
      generalize c / 2 ^ k = C at *
      generalize x / 2 ^ k = X at *
      generalize y / 2 ^ k = Y at *
      generalize A ||| C = U at *
      generalize X ||| Y = V at *
      omega
theorem tr_LO_rt {k a b c d : Nat} (hA : a / 2 ^ k % 2 = 0) (hC : c / 2 ^ k % 2 = 1) (hb : tr_up a k ≤ b) (hcd : c ≤ d) : tr_LO (k + 1) a b c d (tr_up a k ||| c) := by
  refine ⟨⟨tr_up a k, c, Nat.le_of_lt (tr_up_lt a k), hb, Nat.le_refl _, hcd, rfl⟩, ?_, ?_⟩
  · rw [Nat.or_div_two_pow, tr_dd a, tr_dd c, tr_dd (tr_up a k), tr_up_d, tr_evn hA]
  · intro x y h1 h2 h3 h4 hx hy
    rw [tr_dd, tr_dd] at hx hy
    have gx : a / 2 ^ k ≤ x / 2 ^ k := Nat.div_le_div_right h1
    have gy : c / 2 ^ k ≤ y / 2 ^ k := Nat.div_le_div_right h3
    have ey : c / 2 ^ k = y / 2 ^ k := by
      clear hx gx
      generalize c / 2 ^ k = C at *
      generalize y / 2 ^ k = Y at *
      omega
    apply tr_dm (P := 2 ^ k)
    · rw [Nat.or_div_two_pow, Nat.or_div_two_pow, tr_up_d]
      have o1 := tr_orM (a / 2 ^ k + 1) (c / 2 ^ k)
      have o2 := tr_orM (x / 2 ^ k) (y / 2 ^ k)
      have o3 := tr_orE (A := a / 2 ^ k + 1) (C := c / 2 ^ k) (X := x / 2 ^ k) (Y := y / 2 ^ k) (hx.trans (tr_evn hA).symm) hy
      clear h1 h2 h3 h4 hb hcd
      generalize a / 2 ^ k = A at *
      generalize c / 2 ^ k = C at *
      generalize x / 2 ^ k = X at *
      generalize y / 2 ^ k = Y at *
      generalize A + 1 ||| C = U at *
      generalize X ||| Y = V at *
      omega
    · rw [Nat.or_mod_two_pow, Nat.or_mod_two_pow, tr_up_m, Nat.zero_or]
      exact Nat.le_trans (tr_dm' ey h3) Nat.right_le_or
end
section
/-! ===== greatest or ===== -/
def tr_GO (k a b c d r : Nat) : Prop :=
  (∃ x y, a ≤ x ∧ x ≤ b ∧ c ≤ y ∧ y ≤ d ∧ r = x ||| y) ∧ r / 2 ^ k = b / 2 ^ k ||| d / 2 ^ k ∧
  ∀ x y, a ≤ x → x ≤ b → c ≤ y → y ≤ d → x / 2 ^ k = b / 2 ^ k → y / 2 ^ k = d / 2 ^ k → x ||| y ≤ r
theorem tr_GO_sw {k a b c d r : Nat} (h : tr_GO k a b c d r) : tr_GO k c d a b r := by
  obtain ⟨⟨x, y, h1, h2, h3, h4, e⟩, q, m⟩ := h
  refine ⟨⟨y, x, h3, h4, h1, h2, by rw [e, Nat.or_comm]⟩, by rw [q, Nat.or_comm], ?_⟩
  intro x y g1 g2 g3 g4 gx gy
  rw [Nat.or_comm]
  exact m y x g3 g4 g1 g2 gy gx
theorem tr_GO_0 {a b c d : Nat} (hab : a ≤ b) (hcd : c ≤ d) : tr_GO 0 a b c d (b ||| d) := by
  refine ⟨⟨b, d, hab, Nat.le_refl _, hcd, Nat.le_refl _, rfl⟩, ?_, ?_⟩
  · rw [Nat.pow_zero, Nat.div_one, Nat.div_one, Nat.div_one]
  · intro x y _ _ _ _ hx hy
    rw [Nat.pow_zero, Nat.div_one, Nat.div_one] at hx hy
    rw [hx, hy]
    exact Nat.le_refl _
theorem tr_GO_go {k a b c d r : Nat} (h : tr_GO k a b c d r)
    (hc : (b / 2 ^ k % 2 = 0 ∨ d / 2 ^ k % 2 = 0) ∨ (tr_dn b k < a ∧ tr_dn d k < c)) : tr_GO (k + 1) a b c d r := by
  obtain ⟨e, q, m⟩ := h
  refine ⟨e, ?_, ?_⟩
  · rw [tr_dd r, q, Nat.or_div_two, ← tr_dd, ← tr_dd]
  · intro x y h1 h2 h3 h4 hx hy
    rw [tr_dd, tr_dd] at hx hy
    by_cases cx : x / 2 ^ k = b / 2 ^ k ∧ y / 2 ^ k = d / 2 ^ k
    · exact m x y h1 h2 h3 h4 cx.1 cx.2
    · apply Nat.le_of_lt
      apply Nat.lt_of_div_lt_div (c := 2 ^ k)
      rw [q, Nat.or_div_two_pow]
      have gx : x / 2 ^ k ≤ b / 2 ^ k := Nat.div_le_div_right h2
      have gy : y / 2 ^ k ≤ d / 2 ^ k := Nat.div_le_div_right h4
      have hc' : (b / 2 ^ k % 2 = 0 ∨ d / 2 ^ k % 2 = 0) ∨ (b / 2 ^ k ≤ x / 2 ^ k ∧ d / 2 ^ k ≤ y / 2 ^ k) := by
        rcases hc with z | ⟨z, z2⟩
        · exact Or.inl z
        · exact Or.inr ⟨tr_dn_lt (Nat.lt_of_lt_of_le z h1), tr_dn_lt (Nat.lt_of_lt_of_le z2 h3)⟩
      have o1 := tr_orM (b / 2 ^ k) (d / 2 ^ k)
      have o2 := tr_orM (x / 2 ^ k) (y / 2 ^ k)
      have o3 := tr_orE hx hy
      clear q m h1 h2 h3 h4 hc e
      generalize b / 2 ^ k = A at *
      generalize d / 2 ^ k = C at *
      generalize x / 2 ^ k = X at *
      generalize y / 2 ^ k = Y at *
      generalize A ||| C = U at *
      generalize X ||| Y = V at *
      omega
theorem tr_GO_rt {k a b c d : Nat} (hB : b / 2 ^ k % 2 = 1) (hD : d / 2 ^ k % 2 = 1) (ha : a ≤ tr_dn b k) (hcd : c ≤ d) : tr_GO (k + 1) a b c d (tr_dn b k ||| d) := by
  refine ⟨⟨tr_dn b k, d, ha, tr_dn_le b k, hcd, Nat.le_refl _, rfl⟩, ?_, ?_⟩
  · rw [Nat.or_div_two_pow, tr_dd b, tr_dd d, tr_dd (tr_dn b k), tr_dn_d hB, tr_odd hB]
  · intro x y h1 h2 h3 h4 hx hy
    rw [tr_dd, tr_dd] at hx hy
    have hq : (x ||| y) / 2 ^ k ≤ (tr_dn b k ||| d) / 2 ^ k := by
      rw [Nat.or_div_two_pow, Nat.or_div_two_pow, tr_dn_d hB]
      have o1 := tr_orM (b / 2 ^ k - 1) (d / 2 ^ k)
      have o3 := tr_orE (A := b / 2 ^ k - 1) (C := d / 2 ^ k) (X := x / 2 ^ k) (Y := y / 2 ^ k) (hx.trans (tr_odd hB).symm) hy
      clear h1 h2 h3 h4 hcd ha
      generalize b / 2 ^ k = A at *
      generalize d / 2 ^ k = C at *
      generalize x / 2 ^ k = X at *
      generalize y / 2 ^ k = Y at *
      generalize A - 1 ||| C = U at *
      generalize X ||| Y = V at *
      omega
    rcases Nat.lt_or_eq_of_le hq with z | z
    · exact Nat.le_of_lt (Nat.lt_of_div_lt_div z)
    · apply tr_dm z
      rw [Nat.or_mod_two_pow (a := tr_dn b k), tr_dn_m hB]
      have h5 : (x ||| y) % 2 ^ k < 2 ^ k := Nat.mod_lt _ (tr_pp k)
      have h6 : 2 ^ k - 1 ≤ (2 ^ k - 1) ||| d % 2 ^ k := Nat.left_le_or
      generalize (2 ^ k - 1) ||| d % 2 ^ k = Z at *
      omega
/-! ===== least xor ===== -/
def tr_LX (k b d a c r : Nat) : Prop :=
  (∃ x y, a ≤ x ∧ x ≤ b ∧ c ≤ y ∧ y ≤ d ∧ r = x ^^^ y) ∧ r / 2 ^ k = a / 2 ^ k ^^^ c / 2 ^ k ∧
  ∀ x y, a ≤ x → x ≤ b → c ≤ y → y ≤ d → x / 2 ^ k = a / 2 ^ k → y / 2 ^ k = c / 2 ^ k → r ≤ x ^^^ y
theorem tr_LX_sw {k a b c d r : Nat} (h : tr_LX k b d a c r) : tr_LX k d b c a r := by
  obtain ⟨⟨x, y, h1, h2, h3, h4, e⟩, q, m⟩ := h
  refine ⟨⟨y, x, h3, h4, h1, h2, by rw [e, Nat.xor_comm]⟩, by rw [q, Nat.xor_comm], ?_⟩
  intro x y g1 g2 g3 g4 gx gy
  rw [Nat.xor_comm]
  exact m y x g3 g4 g1 g2 gy gx
theorem tr_LX_0 {a b c d : Nat} (hab : a ≤ b) (hcd : c ≤ d) : tr_LX 0 b d a c (a ^^^ c) := by
  refine ⟨⟨a, c, Nat.le_refl _, hab, Nat.le_refl _, hcd, rfl⟩, ?_, ?_⟩
  · rw [Nat.pow_zero, Nat.div_one, Nat.div_one, Nat.div_one]
  · intro x y _ _ _ _ hx hy
    rw [Nat.pow_zero, Nat.div_one, Nat.div_one] at hx hy
    rw [hx, hy]
    exact Nat.le_refl _
theorem tr_LX_go {k a b c d r : Nat} (h : tr_LX k b d a c r)
    (hc : a / 2 ^ k % 2 = c / 2 ^ k % 2 ∨ (c / 2 ^ k % 2 = 1 ∧ b < tr_up a k) ∨ (a / 2 ^ k % 2 = 1 ∧ d < tr_up c k)) : tr_LX (k + 1) b d a c r := by
  obtain ⟨e, q, m⟩ := h
  refine ⟨e, ?_, ?_⟩
  · rw [tr_dd r, q, Nat.xor_div_two, ← tr_dd, ← tr_dd]
  · intro x y h1 h2 h3 h4 hx hy
    rw [tr_dd, tr_dd] at hx hy
    have gx : a / 2 ^ k ≤ x / 2 ^ k := Nat.div_le_div_right h1
    have gy : c / 2 ^ k ≤ y / 2 ^ k := Nat.div_le_div_right h3
    have hc' : a / 2 ^ k % 2 = c / 2 ^ k % 2 ∨ (c / 2 ^ k % 2 = 1 ∧ x / 2 ^ k ≤ a / 2 ^ k) ∨ (a / 2 ^ k % 2 = 1 ∧ y / 2 ^ k ≤ c / 2 ^ k) := by
      rcases hc with z | ⟨z, z2⟩ | ⟨z, z2⟩
      · exact Or.inl z
      · exact Or.inr (Or.inl ⟨z, tr_up_gt (Nat.lt_of_le_of_lt h2 z2)⟩)
      · exact Or.inr (Or.inr ⟨z, tr_up_gt (Nat.lt_of_le_of_lt h4 z2)⟩)
    by_cases cx : x / 2 ^ k = a / 2 ^ k ∧ y / 2 ^ k = c / 2 ^ k
    · exact m x y h1 h2 h3 h4 cx.1 cx.2
    · by_cases cy : a / 2 ^ k < x / 2 ^ k ∧ c / 2 ^ k < y / 2 ^ k
      · have u1 := tr_up_le cy.1
        have u2 := tr_up_le cy.2
        have p := tr_pp k
        have v1 := tr_up_lt a k
        have v2 := tr_up_lt c k
        have w1 : tr_up a k = a / 2 ^ k * 2 ^ k + 2 ^ k := Nat.succ_mul _ _
        have w2 : tr_up c k = c / 2 ^ k * 2 ^ k + 2 ^ k := Nat.succ_mul _ _
        have f1 : (tr_up a k - 1) = 2 ^ k * (a / 2 ^ k) + (2 ^ k - 1) := by rw [w1, Nat.mul_comm]; omega
        have f2 : (tr_up c k - 1) = 2 ^ k * (c / 2 ^ k) + (2 ^ k - 1) := by rw [w2, Nat.mul_comm]; omega
        have d1 : (tr_up a k - 1) / 2 ^ k = a / 2 ^ k := by rw [f1, Nat.mul_add_div p, Nat.div_eq_of_lt (show 2 ^ k - 1 < 2 ^ k by omega), Nat.add_zero]
        have d2 : (tr_up c k - 1) / 2 ^ k = c / 2 ^ k := by rw [f2, Nat.mul_add_div p, Nat.div_eq_of_lt (show 2 ^ k - 1 < 2 ^ k by omega), Nat.add_zero]
        have m1 : (tr_up a k - 1) % 2 ^ k = 2 ^ k - 1 := by rw [f1, Nat.mul_add_mod, Nat.mod_eq_of_lt (by omega)]
        have m2 : (tr_up c k - 1) % 2 ^ k = 2 ^ k - 1 := by rw [f2, Nat.mul_add_mod, Nat.mod_eq_of_lt (by omega)]
        have g := m (tr_up a k - 1) (tr_up c k - 1) (by omega) (by omega) (by omega) (by omega) d1 d2
        apply Nat.le_trans g
        apply tr_dm (P := 2 ^ k)
        · rw [Nat.xor_div_two_pow, Nat.xor_div_two_pow, d1, d2]
          have o1 := tr_xoM (a / 2 ^ k) (c / 2 ^ k)
          have o2 := tr_xoM (x / 2 ^ k) (y / 2 ^ k)
          have o3 := tr_xoE hx hy
          clear q m h1 h2 h3 h4 hc e g d1 d2 m1 m2 f1 f2 w1 w2 v1 v2 u1 u2 p
          generalize a / 2 ^ k = A at *
          generalize c / 2 ^ k = C at *
          generalize x / 2 ^ k = X at *
          generalize y / 2 ^ k = Y at *
          generalize A ^^^ C = U at *
          generalize X ^^^ Y = V at *
          omega
        · rw [Nat.xor_mod_two_pow, m1, m2, Nat.xor_self]
          exact Nat.zero_le _
      · apply Nat.le_of_lt
        apply Nat.lt_of_div_lt_div (c := 2 ^ k)
        rw [q, Nat.xor_div_two_pow]
        have o1 := tr_xoM (a / 2 ^ k) (c / 2 ^ k)
        have o2 := tr_xoM (x / 2 ^ k) (y / 2 ^ k)
        have o3 := tr_xoE hx hy
        clear q m h1 h2 h3 h4 hc e
        generalize a / 2 ^ k = A at *
        generalize c / 2 ^ k = C at *
        generalize x / 2 ^ k = X at *
        generalize y / 2 ^ k = Y at *
        generalize A ^^^ C = U at *
        generalize X ^^^ Y = V at *
        omega
theorem tr_LX_up {k a b c d r : Nat} (h : tr_LX k b d (tr_up a k) c r) (hA : a / 2 ^ k % 2 = 0) (hC : c / 2 ^ k % 2 = 1) : tr_LX (k + 1) b d a c r := by
  obtain ⟨⟨x, y, h1, h2, h3, h4, e⟩, q, m⟩ := h
  rw [tr_up_d] at q m
  refine ⟨⟨x, y, Nat.le_trans (Nat.le_of_lt (tr_up_lt a k)) h1, h2, h3, h4, e⟩, ?_, ?_⟩
  · rw [tr_dd r, q, Nat.xor_div_two, tr_dd a, tr_dd c, tr_evn hA]
  · clear h1 h2 h3 h4 e
    intro x y h1 h2 h3 h4 hx hy
    rw [tr_dd, tr_dd] at hx hy
    have gx : a / 2 ^ k ≤ x / 2 ^ k := Nat.div_le_div_right h1
    have gy : c / 2 ^ k ≤ y / 2 ^ k := Nat.div_le_div_right h3
    have ey : y / 2 ^ k = c / 2 ^ k := by
      clear q m hx gx
      generalize c / 2 ^ k = C at *
      generalize y / 2 ^ k = Y at *
      omega
    by_cases cx : a / 2 ^ k < x / 2 ^ k
    · refine m x y (tr_up_le cx) h2 h3 h4 ?_ ey
      clear q m
      generalize a / 2 ^ k = A at *
      generalize x / 2 ^ k = X at *
      omega
    · apply Nat.le_of_lt
      apply Nat.lt_of_div_lt_div (c := 2 ^ k)
      rw [q, Nat.xor_div_two_pow]
      have o1 := tr_xoM (a / 2 ^ k + 1) (c / 2 ^ k)
      have o2 := tr_xoM (x / 2 ^ k) (y / 2 ^ k)
      have o3 := tr_xoE (A := a / 2 ^ k + 1) (C := c / 2 ^ k) (X := x / 2 ^ k) (Y := y / 2 ^ k) (hx.trans (tr_evn hA).symm) hy
      clear q m h1 h2 h3 h4
      generalize a / 2 ^ k = A at *
      generalize c / 2 ^ k = C at *
      generalize x / 2 ^ k = X at *
      generalize y / 2 ^ k = Y at *
      generalize A + 1 ^^^ C = U at *
      generalize X ^^^ Y = V at *
      omega
end
section
/-! ===== greatest xor ===== -/
def tr_GX (k a c b d r : Nat) : Prop :=
  (∃ x y, a ≤ x ∧ x ≤ b ∧ c ≤ y ∧ y ≤ d ∧ r = x ^^^ y) ∧ r / 2 ^ k = b / 2 ^ k ^^^ d / 2 ^ k ∧
  ∀ x y, a ≤ x → x ≤ b → c ≤ y → y ≤ d → x / 2 ^ k = b / 2 ^ k → y / 2 ^ k = d / 2 ^ k → x ^^^ y ≤ r
theorem tr_GX_0 {a b c d : Nat} (hab : a ≤ b) (hcd : c ≤ d) : tr_GX 0 a c b d (b ^^^ d) := by
  refine ⟨⟨b, d, hab, Nat.le_refl _, hcd, Nat.le_refl _, rfl⟩, ?_, ?_⟩
  · rw [Nat.pow_zero, Nat.div_one, Nat.div_one, Nat.div_one]
  · intro x y _ _ _ _ hx hy
    rw [Nat.pow_zero, Nat.div_one, Nat.div_one] at hx hy
    rw [hx, hy]
    exact Nat.le_refl _
theorem tr_GX_go {k a b c d r : Nat} (h : tr_GX k a c b d r)
    (hc : (b / 2 ^ k % 2 = 0 ∨ d / 2 ^ k % 2 = 0) ∨ (tr_dn b k < a ∧ tr_dn d k < c)) : tr_GX (k + 1) a c b d r := by
  obtain ⟨e, q, m⟩ := h
  refine ⟨e, ?_, ?_⟩
  · rw [tr_dd r, q, Nat.xor_div_two, ← tr_dd, ← tr_dd]
  · intro x y h1 h2 h3 h4 hx hy
    rw [tr_dd, tr_dd] at hx hy
    by_cases cx : x / 2 ^ k = b / 2 ^ k ∧ y / 2 ^ k = d / 2 ^ k
    · exact m x y h1 h2 h3 h4 cx.1 cx.2
    · apply Nat.le_of_lt
      apply Nat.lt_of_div_lt_div (c := 2 ^ k)
      rw [q, Nat.xor_div_two_pow]
      have gx : x / 2 ^ k ≤ b / 2 ^ k := Nat.div_le_div_right h2
      have gy : y / 2 ^ k ≤ d / 2 ^ k := Nat.div_le_div_right h4
      have hc' : (b / 2 ^ k % 2 = 0 ∨ d / 2 ^ k % 2 = 0) ∨ (b / 2 ^ k ≤ x / 2 ^ k ∧ d / 2 ^ k ≤ y / 2 ^ k) := by
        rcases hc with z | ⟨z, z2⟩
        · exact Or.inl z
        · exact Or.inr ⟨tr_dn_lt (Nat.lt_of_lt_of_le z h1), tr_dn_lt (Nat.lt_of_lt_of_le z2 h3)⟩
      have o1 := tr_xoM (b / 2 ^ k) (d / 2 ^ k)
      have o2 := tr_xoM (x / 2 ^ k) (y / 2 ^ k)
      have o3 := tr_xoE hx hy
      clear q m h1 h2 h3 h4 hc e
      generalize b / 2 ^ k = A at *
      generalize d / 2 ^ k = C at *
      generalize x / 2 ^ k = X at *
      generalize y / 2 ^ k = Y at *
      generalize A ^^^ C = U at *
      generalize X ^^^ Y = V at *
      omega
/-- the first upper end is lowered -/
theorem tr_GX_d1 {k a b c d r : Nat} (h : tr_GX k a c (tr_dn b k) d r) (hB : b / 2 ^ k % 2 = 1) (hD : d / 2 ^ k % 2 = 1) (ha : a ≤ tr_dn b k) : tr_GX (k + 1) a c b d r := by
  obtain ⟨⟨x, y, h1, h2, h3, h4, e⟩, q, m⟩ := h
  rw [tr_dn_d hB] at q m
  refine ⟨⟨x, y, h1, Nat.le_trans h2 (tr_dn_le b k), h3, h4, e⟩, ?_, ?_⟩
  · rw [tr_dd r, q, Nat.xor_div_two, tr_dd b, tr_dd d, tr_odd hB]
  · clear h1 h2 h3 h4 e
    intro x y h1 h2 h3 h4 hx hy
    rw [tr_dd, tr_dd] at hx hy
    have gx : x / 2 ^ k ≤ b / 2 ^ k := Nat.div_le_div_right h2
    have gy : y / 2 ^ k ≤ d / 2 ^ k := Nat.div_le_div_right h4
    have o1 := tr_xoM (b / 2 ^ k - 1) (d / 2 ^ k)
    have o2 := tr_xoM (x / 2 ^ k) (y / 2 ^ k)
    have o3 := tr_xoE (A := b / 2 ^ k - 1) (C := d / 2 ^ k) (X := x / 2 ^ k) (Y := y / 2 ^ k) (hx.trans (tr_odd hB).symm) hy
    by_cases cx : x / 2 ^ k < b / 2 ^ k ∧ y / 2 ^ k = d / 2 ^ k
    · refine m x y h1 (tr_dn_ge cx.1) h3 h4 ?_ cx.2
      clear q m o1 o2 o3
      generalize b / 2 ^ k = B at *
      generalize x / 2 ^ k = X at *
      omega
    · by_cases cy : x / 2 ^ k = b / 2 ^ k ∧ y / 2 ^ k < d / 2 ^ k
      · have p := tr_pp k
        have e1 : c ≤ d / 2 ^ k * 2 ^ k := Nat.le_trans h3 (Nat.le_of_lt ((Nat.div_lt_iff_lt_mul p).mp cy.2))
        have e2 : d / 2 ^ k * 2 ^ k ≤ d := Nat.div_mul_le_self _ _
        have e3 : d / 2 ^ k * 2 ^ k / 2 ^ k = d / 2 ^ k := Nat.mul_div_cancel _ p
        have e4 : d / 2 ^ k * 2 ^ k % 2 ^ k = 0 := Nat.mul_mod_left _ _
        have g := m (tr_dn b k) (d / 2 ^ k * 2 ^ k) ha (Nat.le_refl _) e1 e2 (tr_dn_d hB) e3
        apply Nat.le_trans _ g
        apply tr_dm (P := 2 ^ k)
        · rw [Nat.xor_div_two_pow, Nat.xor_div_two_pow, tr_dn_d hB, e3]
          clear q m h1 h2 h3 h4 g e1 e2 e3 e4 p ha cx
          generalize b / 2 ^ k = A at *
          generalize d / 2 ^ k = C at *
          generalize x / 2 ^ k = X at *
          generalize y / 2 ^ k = Y at *
          generalize A - 1 ^^^ C = U at *
          generalize X ^^^ Y = V at *
          omega
        · rw [Nat.xor_mod_two_pow (a := tr_dn b k), tr_dn_m hB, e4, Nat.xor_zero]
          have := Nat.mod_lt (x ^^^ y) p
          omega
      · apply Nat.le_of_lt
        apply Nat.lt_of_div_lt_div (c := 2 ^ k)
        rw [q, Nat.xor_div_two_pow]
        clear q m h1 h2 h3 h4 ha
        generalize b / 2 ^ k = A at *
        generalize d / 2 ^ k = C at *
        generalize x / 2 ^ k = X at *
        generalize y / 2 ^ k = Y at *
        generalize A - 1 ^^^ C = U at *
        generalize X ^^^ Y = V at *
        omega
/-- the second upper end is lowered, the first can't be -/
theorem tr_GX_d2 {k a b c d r : Nat} (h : tr_GX k a c b (tr_dn d k) r) (hB : b / 2 ^ k % 2 = 1) (hD : d / 2 ^ k % 2 = 1) (ha : tr_dn b k < a) : tr_GX (k + 1) a c b d r := by
  obtain ⟨⟨x, y, h1, h2, h3, h4, e⟩, q, m⟩ := h
  rw [tr_dn_d hD] at q m
  refine ⟨⟨x, y, h1, h2, h3, Nat.le_trans h4 (tr_dn_le d k), e⟩, ?_, ?_⟩
  · rw [tr_dd r, q, Nat.xor_div_two, tr_dd b, tr_dd d, tr_odd hD]
  · clear h1 h2 h3 h4 e
    intro x y h1 h2 h3 h4 hx hy
    rw [tr_dd, tr_dd] at hx hy
    have gx : x / 2 ^ k ≤ b / 2 ^ k := Nat.div_le_div_right h2
    have gx2 : b / 2 ^ k ≤ x / 2 ^ k := tr_dn_lt (Nat.lt_of_lt_of_le ha h1)
    have gy : y / 2 ^ k ≤ d / 2 ^ k := Nat.div_le_div_right h4
    have o1 := tr_xoM (b / 2 ^ k) (d / 2 ^ k - 1)
    have o2 := tr_xoM (x / 2 ^ k) (y / 2 ^ k)
    have o3 := tr_xoE (A := b / 2 ^ k) (C := d / 2 ^ k - 1) (X := x / 2 ^ k) (Y := y / 2 ^ k) hx (hy.trans (tr_odd hD).symm)
    by_cases cx : y / 2 ^ k < d / 2 ^ k
    · refine m x y h1 h2 h3 (tr_dn_ge cx) (Nat.le_antisymm gx gx2) ?_
      clear q m o1 o2 o3
      generalize d / 2 ^ k = B at *
      generalize y / 2 ^ k = X at *
      omega
    · apply Nat.le_of_lt
      apply Nat.lt_of_div_lt_div (c := 2 ^ k)
      rw [q, Nat.xor_div_two_pow]
      clear q m h1 h2 h3 h4 ha
      generalize b / 2 ^ k = A at *
      generalize d / 2 ^ k = C at *
      generalize x / 2 ^ k = X at *
      generalize y / 2 ^ k = Y at *
      generalize A ^^^ C - 1 = U at *
      generalize X ^^^ Y = V at *
      omega
end
section
/-! the walks of the four bit searches -/
theorem tr_orN (a b : Nat) : nI a ||| nI b = nI (a ||| b) := by
  apply Int32.toBitVec_inj.1
  show BitVec.ofNat 32 a ||| BitVec.ofNat 32 b = BitVec.ofNat 32 (a ||| b)
  apply BitVec.eq_of_getLsbD_eq
  intro i hi
  simp [hi]
theorem tr_and3 (x y b : Int32) : (x &&& y) &&& b = (x &&& b) &&& (y &&& b) := by
  apply Int32.toBitVec_inj.1
  apply BitVec.eq_of_getLsbD_eq
  intro i hi
  simp only [Int32.toBitVec_and, BitVec.getLsbD_and]
  cases x.toBitVec.getLsbD i <;> cases y.toBitVec.getLsbD i <;> cases b.toBitVec.getLsbD i <;> rfl
theorem tr_tN : ∀ k, k < 7 → ∀ a, a < 128 → (nI a ^^^ (-1)) &&& nI (2 ^ k) = if a / 2 ^ k % 2 = 0 then nI (2 ^ k) else 0 := by decide +kernel
theorem tr_tP : ∀ k, k < 7 → ∀ a, a < 128 → nI a &&& nI (2 ^ k) = if a / 2 ^ k % 2 = 1 then nI (2 ^ k) else 0 := by decide +kernel
theorem tr_rs : ∀ k, k < 7 → ∀ a, a < 128 → a / 2 ^ k % 2 = 0 → (nI a ||| nI (2 ^ k)) &&& (-nI (2 ^ k)) = nI (tr_up a k) := by decide +kernel
theorem tr_lw : ∀ k, k < 7 → ∀ a, a < 128 → a / 2 ^ k % 2 = 1 → (nI a - nI (2 ^ k)) ||| (nI (2 ^ k) - 1) = nI (tr_dn a k) := by decide +kernel
theorem tr_p7 {k : Nat} (hk : k < 7) : 2 ^ k < 128 := Nat.pow_lt_pow_right (a := 2) (by omega) hk
theorem tr_pn {k : Nat} (hk : k < 7) : ¬ nI (2 ^ k) = 0 := nI_ne0 (tr_pp k) (by have := tr_p7 hk; omega)
theorem tr_upB : ∀ k, k < 7 → ∀ a, a < 128 → a / 2 ^ k % 2 = 0 → tr_up a k < 128 := by decide +kernel
theorem tr_z1 {k a c : Nat} (hk : k < 7) (ha : a < 128) (hc : c < 128) (h : a / 2 ^ k % 2 = 1 ∨ c / 2 ^ k % 2 = 0) : ((nI a ^^^ (-1)) &&& nI c) &&& nI (2 ^ k) = 0 := by
  rw [tr_and3, tr_tN k hk a ha, tr_tP k hk c hc]
  rcases h with h | h
  · rw [if_neg (by omega), Int32.zero_and]
  · rw [if_neg (c := c / 2 ^ k % 2 = 1) (by omega), Int32.and_zero]
theorem tr_n1 {k a c : Nat} (hk : k < 7) (ha : a < 128) (hc : c < 128) (h1 : a / 2 ^ k % 2 = 0) (h2 : c / 2 ^ k % 2 = 1) : ¬ ((nI a ^^^ (-1)) &&& nI c) &&& nI (2 ^ k) = 0 := by
  rw [tr_and3, tr_tN k hk a ha, tr_tP k hk c hc, if_pos h1, if_pos h2, Int32.and_self]
  exact tr_pn hk
theorem tr_z2 {k a c : Nat} (hk : k < 7) (ha : a < 128) (hc : c < 128) (h : c / 2 ^ k % 2 = 1 ∨ a / 2 ^ k % 2 = 0) : (nI a &&& (nI c ^^^ (-1))) &&& nI (2 ^ k) = 0 := by
  rw [Int32.and_comm (nI a)]
  exact tr_z1 hk hc ha h
theorem tr_n2 {k a c : Nat} (hk : k < 7) (ha : a < 128) (hc : c < 128) (h1 : a / 2 ^ k % 2 = 1) (h2 : c / 2 ^ k % 2 = 0) : ¬ (nI a &&& (nI c ^^^ (-1))) &&& nI (2 ^ k) = 0 := by
  rw [Int32.and_comm (nI a)]
  exact tr_n1 hk hc ha h2 h1
theorem tr_z3 {k a c : Nat} (hk : k < 7) (ha : a < 128) (hc : c < 128) (h : a / 2 ^ k % 2 = 0 ∨ c / 2 ^ k % 2 = 0) : (nI a &&& nI c) &&& nI (2 ^ k) = 0 := by
  rw [tr_and3, tr_tP k hk a ha, tr_tP k hk c hc]
  rcases h with h | h
  · rw [if_neg (c := a / 2 ^ k % 2 = 1) (by omega), Int32.zero_and]
  · rw [if_neg (c := c / 2 ^ k % 2 = 1) (by omega), Int32.and_zero]
theorem tr_n3 {k a c : Nat} (hk : k < 7) (ha : a < 128) (hc : c < 128) (h1 : a / 2 ^ k % 2 = 1) (h2 : c / 2 ^ k % 2 = 1) : ¬ (nI a &&& nI c) &&& nI (2 ^ k) = 0 := by
  rw [tr_and3, tr_tP k hk a ha, tr_tP k hk c hc, if_pos h1, if_pos h2, Int32.and_self]
  exact tr_pn hk
theorem tr_z4 {k a : Nat} (hk : k < 7) (ha : a < 128) (h : a / 2 ^ k % 2 = 0) : nI a &&& nI (2 ^ k) = 0 := by
  rw [tr_tP k hk a ha, if_neg (by omega)]
theorem tr_n4 {k a : Nat} (hk : k < 7) (ha : a < 128) (h : a / 2 ^ k % 2 = 1) : ¬ nI a &&& nI (2 ^ k) = 0 := by
  rw [tr_tP k hk a ha, if_pos h]
  exact tr_pn hk
/-- the bit that is looked at when k bits are left -/
def tr_b : Nat → Nat
  | 0 => 0
  | k + 1 => 2 ^ k
theorem tr_half : ∀ k, k < 7 → nI (2 ^ k) / 2 = nI (tr_b k) := by decide +kernel
theorem tr_b0 : nI (tr_b 0) ≤ 0 := by decide
theorem tr_bp {k : Nat} (hk : k < 7) : ¬ nI (2 ^ k) ≤ 0 := nI_nle (tr_pp k) (by have := tr_p7 hk; omega)
theorem tr_two : ¬ (2 : Int32) = 0 := by decide
theorem tr_wR {post : Int32 → Prop} {k a : Nat} (hk : k < 7) (ha : a < 128) (h : a / 2 ^ k % 2 = 0) (hp : post (nI (tr_up a k))) : wpX_raised post (nI a) (nI (2 ^ k)) := by
  unfold wpX_raised
  rw [tr_rs k hk a ha h]
  exact hp
theorem tr_wL {post : Int32 → Prop} {k a : Nat} (hk : k < 7) (ha : a < 128) (h : a / 2 ^ k % 2 = 1) (hp : post (nI (tr_dn a k))) : wpX_lowered post (nI a) (nI (2 ^ k)) := by
  unfold wpX_lowered
  rw [tr_lw k hk a ha h]
  exact hp
theorem tr_bit (x : Nat) : x % 2 = 0 ∨ x % 2 = 1 := by omega
theorem tr_S1 {n k : Nat} (h : k < n) : ∃ m, n = m + 1 := ⟨n - 1, by omega⟩

theorem tr_wLO {post : Int32 → Prop} {a b c d : Nat} (hab : a ≤ b) (hcd : c ≤ d) (hb : b < 128) (hd : d < 128) : ∀ k, k ≤ 7 → ∀ n, k < n → (∀ r, tr_LO k a b c d r → post (nI r)) → wX_leastOr_4 post (nI a) (nI b) (nI c) (nI d) n (nI (tr_b k)) := by
  have ha : a < 128 := by omega
  have hc : c < 128 := by omega
  intro k
  induction k with
  | zero =>
    intro _ n hn hp
    obtain ⟨m, rfl⟩ := tr_S1 hn
    exact br_t tr_b0 (by rw [tr_orN]; exact hp _ (tr_LO_0 hab hcd))
  | succ k ih =>
    intro hk n hn hp
    obtain ⟨m, rfl⟩ := tr_S1 hn
    have hk' : k < 7 := by omega
    have hh := tr_half k hk'
    have GO := ih (by omega) m (by omega)
    refine br_f (tr_bp hk') ?_
    rcases tr_bit (a / 2 ^ k) with hA | hA <;> rcases tr_bit (c / 2 ^ k) with hC | hC
    · exact br_t (tr_z1 hk' ha hc (Or.inr hC)) (br_t (tr_z2 hk' ha hc (Or.inr hA)) ⟨tr_two, nm_r hh (GO fun r hr => hp r (tr_LO_go hr (Or.inl (hA.trans hC.symm))))⟩)
    · refine br_f (tr_n1 hk' ha hc hA hC) (tr_wR hk' ha hA ?_)
      have hu := tr_upB k hk' a ha hA
      by_cases g : tr_up a k ≤ b
      · exact br_f (nI_nlt g (by omega)) (by rw [tr_orN]; exact hp _ (tr_LO_rt hA hC g hcd))
      · exact br_t (nI_lt (by omega) (by omega)) ⟨tr_two, nm_r hh (GO fun r hr => hp r (tr_LO_go hr (Or.inr (Or.inl ⟨hC, by omega⟩))))⟩
    · refine br_t (tr_z1 hk' ha hc (Or.inr hC)) (br_f (tr_n2 hk' ha hc hA hC) (tr_wR hk' hc hC ?_))
      have hu := tr_upB k hk' c hc hC
      by_cases g : tr_up c k ≤ d
      · exact br_f (nI_nlt g (by omega)) (by rw [tr_orN, Nat.or_comm]; exact hp _ (tr_LO_sw (tr_LO_rt hC hA g hab)))
      · exact br_t (nI_lt (by omega) (by omega)) ⟨tr_two, nm_r hh (GO fun r hr => hp r (tr_LO_go hr (Or.inr (Or.inr ⟨hA, by omega⟩))))⟩
    · exact br_t (tr_z1 hk' ha hc (Or.inl hA)) (br_t (tr_z2 hk' ha hc (Or.inl hC)) ⟨tr_two, nm_r hh (GO fun r hr => hp r (tr_LO_go hr (Or.inl (hA.trans hC.symm))))⟩)
theorem tr_wGO {post : Int32 → Prop} {a b c d : Nat} (hab : a ≤ b) (hcd : c ≤ d) (hb : b < 128) (hd : d < 128) : ∀ k, k ≤ 7 → ∀ n, k < n → (∀ r, tr_GO k a b c d r → post (nI r)) → wX_greatestOr_4 post (nI a) (nI b) (nI c) (nI d) n (nI (tr_b k)) := by
  intro k
  induction k with
  | zero =>
    intro _ n hn hp
    obtain ⟨m, rfl⟩ := tr_S1 hn
    exact br_t tr_b0 (by rw [tr_orN]; exact hp _ (tr_GO_0 hab hcd))
  | succ k ih =>
    intro hk n hn hp
    obtain ⟨m, rfl⟩ := tr_S1 hn
    have hk' : k < 7 := by omega
    have hh := tr_half k hk'
    have GO := ih (by omega) m (by omega)
    refine br_f (tr_bp hk') ?_
    by_cases hc : b / 2 ^ k % 2 = 0 ∨ d / 2 ^ k % 2 = 0
    · exact br_t (tr_z3 hk' hb hd hc) ⟨tr_two, nm_r hh (GO fun r hr => hp r (tr_GO_go hr (Or.inl hc)))⟩
    · have hB : b / 2 ^ k % 2 = 1 := by omega
      have hD : d / 2 ^ k % 2 = 1 := by omega
      have l1 := tr_dn_le b k
      have l2 := tr_dn_le d k
      refine br_f (tr_n3 hk' hb hd hB hD) (tr_wL hk' hb hB (tr_wL hk' hd hD ?_))
      by_cases g : a ≤ tr_dn b k
      · exact br_f (nI_nlt g (by omega)) (by rw [tr_orN]; exact hp _ (tr_GO_rt hB hD g hcd))
      · refine br_t (nI_lt (by omega) (by omega)) ?_
        by_cases g2 : c ≤ tr_dn d k
        · exact br_f (nI_nlt g2 (by omega)) (by rw [tr_orN, Nat.or_comm]; exact hp _ (tr_GO_sw (tr_GO_rt hD hB g2 hab)))
        · exact br_t (nI_lt (by omega) (by omega)) ⟨tr_two, nm_r hh (GO fun r hr => hp r (tr_GO_go hr (Or.inr ⟨by omega, by omega⟩)))⟩
theorem tr_wLX {post : Int32 → Prop} {b d : Nat} (hb : b < 128) (hd : d < 128) : ∀ k, k ≤ 7 → ∀ n, k < n → ∀ a c, a ≤ b → c ≤ d → (∀ r, tr_LX k b d a c r → post (nI r)) → wX_leastXor_10 post (nI b) (nI d) n (nI a) (nI c) (nI (tr_b k)) := by
  intro k
  induction k with
  | zero =>
    intro _ n hn a c hab hcd hp
    obtain ⟨m, rfl⟩ := tr_S1 hn
    exact br_t tr_b0 (by rw [nx_xor]; exact hp _ (tr_LX_0 hab hcd))
  | succ k ih =>
    intro hk n hn a c hab hcd hp
    obtain ⟨m, rfl⟩ := tr_S1 hn
    have ha : a < 128 := by omega
    have hc : c < 128 := by omega
    have hk' : k < 7 := by omega
    have hh := tr_half k hk'
    have GO := ih (by omega) m (by omega)
    refine br_f (tr_bp hk') ?_
    rcases tr_bit (a / 2 ^ k) with hA | hA <;> rcases tr_bit (c / 2 ^ k) with hC | hC
    · exact br_t (tr_z1 hk' ha hc (Or.inr hC)) (br_t (tr_z2 hk' ha hc (Or.inr hA)) ⟨tr_two, nm_r hh (GO a c hab hcd fun r hr => hp r (tr_LX_go hr (Or.inl (hA.trans hC.symm))))⟩)
    · refine br_f (tr_n1 hk' ha hc hA hC) (tr_wR hk' ha hA ?_)
      have hu := tr_upB k hk' a ha hA
      by_cases g : tr_up a k ≤ b
      · exact br_f (nI_nlt g (by omega)) ⟨tr_two, nm_r hh (GO _ c g hcd fun r hr => hp r (tr_LX_up hr hA hC))⟩
      · exact br_t (nI_lt (by omega) (by omega)) ⟨tr_two, nm_r hh (GO a c hab hcd fun r hr => hp r (tr_LX_go hr (Or.inr (Or.inl ⟨hC, by omega⟩))))⟩
    · refine br_t (tr_z1 hk' ha hc (Or.inr hC)) (br_f (tr_n2 hk' ha hc hA hC) (tr_wR hk' hc hC ?_))
      have hu := tr_upB k hk' c hc hC
      by_cases g : tr_up c k ≤ d
      · exact br_f (nI_nlt g (by omega)) ⟨tr_two, nm_r hh (GO a _ hab g fun r hr => hp r (tr_LX_sw (tr_LX_up (tr_LX_sw hr) hC hA)))⟩
      · exact br_t (nI_lt (by omega) (by omega)) ⟨tr_two, nm_r hh (GO a c hab hcd fun r hr => hp r (tr_LX_go hr (Or.inr (Or.inr ⟨hA, by omega⟩))))⟩
    · exact br_t (tr_z1 hk' ha hc (Or.inl hA)) (br_t (tr_z2 hk' ha hc (Or.inl hC)) ⟨tr_two, nm_r hh (GO a c hab hcd fun r hr => hp r (tr_LX_go hr (Or.inl (hA.trans hC.symm))))⟩)
theorem tr_wGX {post : Int32 → Prop} {a c : Nat} : ∀ k, k ≤ 7 → ∀ n, k < n → ∀ b d, b < 128 → d < 128 → a ≤ b → c ≤ d → (∀ r, tr_GX k a c b d r → post (nI r)) → wX_greatestXor_10 post (nI a) (nI c) n (nI b) (nI d) (nI (tr_b k)) := by
  intro k
  induction k with
  | zero =>
    intro _ n hn b d hb hd hab hcd hp
    obtain ⟨m, rfl⟩ := tr_S1 hn
    exact br_t tr_b0 (by rw [nx_xor]; exact hp _ (tr_GX_0 hab hcd))
  | succ k ih =>
    intro hk n hn b d hb hd hab hcd hp
    obtain ⟨m, rfl⟩ := tr_S1 hn
    have hk' : k < 7 := by omega
    have hh := tr_half k hk'
    have GO := ih (by omega) m (by omega)
    refine br_f (tr_bp hk') ?_
    by_cases hc : b / 2 ^ k % 2 = 0 ∨ d / 2 ^ k % 2 = 0
    · exact br_t (tr_z3 hk' hb hd hc) ⟨tr_two, nm_r hh (GO b d hb hd hab hcd fun r hr => hp r (tr_GX_go hr (Or.inl hc)))⟩
    · have hB : b / 2 ^ k % 2 = 1 := by omega
      have hD : d / 2 ^ k % 2 = 1 := by omega
      have l1 := tr_dn_le b k
      have l2 := tr_dn_le d k
      refine br_f (tr_n3 hk' hb hd hB hD) (tr_wL hk' hb hB (tr_wL hk' hd hD ?_))
      by_cases g : a ≤ tr_dn b k
      · exact br_f (nI_nlt g (by omega)) ⟨tr_two, nm_r hh (GO _ d (by omega) hd g hcd fun r hr => hp r (tr_GX_d1 hr hB hD g))⟩
      · refine br_t (nI_lt (by omega) (by omega)) ?_
        by_cases g2 : c ≤ tr_dn d k
        · exact br_f (nI_nlt g2 (by omega)) ⟨tr_two, nm_r hh (GO b _ hb (by omega) hab g2 fun r hr => hp r (tr_GX_d2 hr hB hD (by omega)))⟩
        · exact br_t (nI_lt (by omega) (by omega)) ⟨tr_two, nm_r hh (GO b d hb hd hab hcd fun r hr => hp r (tr_GX_go hr (Or.inr ⟨by omega, by omega⟩)))⟩
end
section
/-! sets of results, their least and greatest, and how the reference gathers them -/
theorem tr_v {P : Int32 → Prop} {a b : Int32} (e : a = b) (h : P b) : P a := by rw [e]; exact h
/-- p is the least and q the greatest of the set -/
def tr_out (S : Nat → Prop) (p q : Nat) : Prop := S p ∧ S q ∧ ∀ r, S r → p ≤ r ∧ r ≤ q
/-- what the reference has gathered of a set of results -/
def tr_acc (S : Nat → Prop) (l m : Int32) : Prop := (l = 128 ∧ m = -1 ∧ ∀ r, ¬ S r) ∨ ∃ p q, q < 128 ∧ l = nI p ∧ m = nI q ∧ tr_out S p q
/-- what the component gives for a set of results -/
def tr_xr (S : Nat → Prop) (l m : Int32) : Prop := (m < l ∧ ∀ r, ¬ S r) ∨ ∃ p q, q < 128 ∧ l = nI p ∧ m = nI q ∧ tr_out S p q
theorem tr_out_eq {S : Nat → Prop} {p q p' q' : Nat} (h : tr_out S p q) (h' : tr_out S p' q') : p' = p ∧ q' = q := by
  obtain ⟨h1, h2, h3⟩ := h
  obtain ⟨g1, g2, g3⟩ := h'
  have := h3 p' g1
  have := h3 q' g2
  have := g3 p h1
  have := g3 q h2
  omega
theorem tr_out_le {S : Nat → Prop} {p q : Nat} (h : tr_out S p q) : p ≤ q := (h.2.2 q h.2.1).1
theorem tr_acc_iff {S S' : Nat → Prop} {l m : Int32} (e : ∀ r, S r ↔ S' r) (h : tr_acc S l m) : tr_acc S' l m := by
  have : S = S' := funext fun r => propext (e r)
  rw [← this]
  exact h
theorem tr_neg1 {v : Nat} (hv : v < 128) : ¬ nI v ≤ -1 := by
  rw [Int32.le_iff_toInt_le, nI_toInt (by omega), show (-1 : Int32).toInt = -1 from by decide]
  omega
theorem tr_res {post : SY → Prop} {S S' : Nat → Prop} {l m : Int32} {al ah : Nat → Int32} {v : Nat} (h : tr_acc S l m) (hv : v < 128) (e : ∀ r, S' r ↔ S r ∨ r = v)
    (hp : ∀ l' m', tr_acc S' l' m' → post (l', m', al, ah)) : wpY_result post (l, m, al, ah) (nI v) := by
  have ev : S' v := (e v).mpr (Or.inr rfl)
  rcases h with ⟨rfl, rfl, h⟩ | ⟨p, q, hq, rfl, rfl, hp1, hq1, hb⟩
  · refine br_f (nI_ge (a := v) (b := 128) hv (by decide)) (br_f (tr_neg1 hv) (hp _ _ (Or.inr ⟨v, v, hv, rfl, rfl, ev, ev, ?_⟩)))
    intro r hr
    rcases (e r).mp hr with z | z
    · exact absurd z (h r)
    · omega
  · have hpq : p ≤ q := (hb q hq1).1
    have ep : S' p := (e p).mpr (Or.inl hp1)
    have eq : S' q := (e q).mpr (Or.inl hq1)
    refine pk_le p v (fun h1 => pk_le v q (fun h2 => ?_) (fun h2 => ?_)) (fun h1 => pk_le v q (fun h2 => ?_) (fun h2 => ?_))
    · refine hp _ _ (Or.inr ⟨p, q, hq, rfl, rfl, ep, eq, fun r hr => ?_⟩)
      rcases (e r).mp hr with z | z
      · exact hb r z
      · omega
    · refine hp _ _ (Or.inr ⟨p, v, hv, rfl, rfl, ep, ev, fun r hr => ?_⟩)
      rcases (e r).mp hr with z | z
      · have := hb r z
        omega
      · omega
    · refine hp _ _ (Or.inr ⟨v, q, hq, rfl, rfl, ev, eq, fun r hr => ?_⟩)
      rcases (e r).mp hr with z | z
      · have := hb r z
        omega
      · omega
    · omega
/-- the reference keeps what it has gathered -/
theorem tr_yK {post : Int32 → SY → Prop} {S : Nat → Prop} {l m : Int32} {al ah : Nat → Int32} {t : Nat} (ht : t < 6) (h : tr_acc S l m)
    (hE : (∀ r, ¬ S r) → post (-2) (128, -1, al, ah))
    (hO : ∀ p q, q < 128 → tr_out S p q → post 0 (nI p, nI q, upd al t (nI p), upd ah t (nI q))) : wpY_keep post (l, m, al, ah) (nI t) := by
  have hi : vp_in (nI t) 6 := vp_in_nI ht (by decide)
  have hc : (nI t).toNatClampNeg = t := nI_clamp (by omega)
  rcases h with ⟨rfl, rfl, h⟩ | ⟨p, q, hq, rfl, rfl, ho⟩
  · exact br_f (show ¬ (128 : Int32) ≤ -1 from by decide) (hE h)
  · have hpq := tr_out_le ho
    refine br_t (nI_le hpq (by omega)) ⟨hi, nm_r (e' := upd al t (nI p)) (by rw [hc]) ⟨hi, nm_r (e' := upd ah t (nI q)) (by rw [hc]) (hO p q hq ho)⟩⟩
theorem tr_x130 {post : Int32 → SX → Prop} {S : Nat → Prop} {l m : Int32} {al ah : Nat → Int32} {t : Nat} (ht : t < 6) (h : tr_xr S l m)
    (hE : (∀ r, ¬ S r) → post (-2) (l, m, al, ah))
    (hO : ∀ p q, q < 128 → tr_out S p q → post 0 (nI p, nI q, upd al t (nI p), upd ah t (nI q))) : wX_combine_130 post (nI t) l m al ah := by
  have hi : vp_in (nI t) 6 := vp_in_nI ht (by decide)
  have hc : (nI t).toNatClampNeg = t := nI_clamp (by omega)
  rcases h with ⟨h0, h⟩ | ⟨p, q, hq, rfl, rfl, ho⟩
  · exact br_f (Int32.not_le.mpr h0) (hE h)
  · have hpq := tr_out_le ho
    refine br_t (nI_le hpq (by omega)) ⟨hi, nm_r (e' := upd al t (nI p)) (by rw [hc]) ⟨hi, nm_r (e' := upd ah t (nI q)) (by rw [hc]) (hO p q hq ho)⟩⟩
theorem tr_x152 {post : Int32 → SX → Prop} {al ah : Nat → Int32} {t p q : Nat} (ht : t < 6)
    (hO : post 0 (nI p, nI q, upd al t (nI p), upd ah t (nI q))) : wX_apply_152 post (nI t) (nI p) (nI q) al ah := by
  have hi : vp_in (nI t) 6 := vp_in_nI ht (by decide)
  have hc : (nI t).toNatClampNeg = t := nI_clamp (by omega)
  exact ⟨hi, nm_r (e' := upd al t (nI p)) (by rw [hc]) ⟨hi, nm_r (e' := upd ah t (nI q)) (by rw [hc]) hO⟩⟩

/-! ===== the results of combine ===== -/
def tr_w : Nat → Nat → Nat → Nat
  | 0, x, y => (x + y) % 128
  | 1, x, y => (x + 128 - y) % 128
  | 2, x, y => x &&& y
  | 3, x, y => x ||| y
  | 4, x, y => x ^^^ y
  | 5, x, y => x * y / 128
  | 6, x, y => if y = 0 then 127 else x / y
  | 7, x, y => max x y
  | _, x, y => (x - y) + (y - x)
def tr_R (k x y r : Nat) : Prop := if k = 9 then (r = x ∨ r = y) else if k = 10 then (x = y ∧ r = x) else r = tr_w k x y
def tr_set (k a b c d r : Nat) : Prop := ∃ x, a ≤ x ∧ x < b + 1 ∧ ∃ y, c ≤ y ∧ y < d + 1 ∧ tr_R k x y r
theorem tr_R8 {k x y r : Nat} (hk : k ≤ 8) : tr_R k x y r ↔ r = tr_w k x y := by
  unfold tr_R
  rw [if_neg (by omega), if_neg (by omega)]
theorem tr_c9 {k : Nat} (hk : k ≤ 8) : k = 0 ∨ k = 1 ∨ k = 2 ∨ k = 3 ∨ k = 4 ∨ k = 5 ∨ k = 6 ∨ k = 7 ∨ k = 8 := by omega
theorem tr_wB {k x y : Nat} (hk : k ≤ 8) (hx : x < 128) (hy : y < 128) : tr_w k x y < 128 := by
  rcases tr_c9 hk with rfl | rfl | rfl | rfl | rfl | rfl | rfl | rfl | rfl
  · exact Nat.mod_lt _ (by decide)
  · exact Nat.mod_lt _ (by decide)
  · exact Nat.lt_of_le_of_lt Nat.and_le_right hy
  · exact Nat.or_lt_two_pow (n := 7) hx hy
  · exact Nat.xor_lt_two_pow (n := 7) hx hy
  · apply Nat.div_lt_of_lt_mul
    exact Nat.mul_lt_mul'' hx hy
  · show (if y = 0 then 127 else x / y) < 128
    by_cases h : y = 0
    · rw [if_pos h]
      decide
    · rw [if_neg h]
      exact Nat.lt_of_le_of_lt (Nat.div_le_self _ _) hx
  · show max x y < 128
    omega
  · show (x - y) + (y - x) < 128
    omega
theorem tr_s128 {x y : Nat} (hy : y < 128) : nI x - nI y + 128 = nI (x + 128 - y) := by
  rw [← pk_sub (a := x + 128) (b := y) (by omega), ← nI_add]
  show nI x - nI y + nI 128 = nI x + nI 128 - nI y
  grind
theorem tr_wk {post : Int32 → Prop} {k x y : Nat} (hk : k ≤ 8) (hx : x < 128) (hy : y < 128) (hp : post (nI (tr_w k x y))) : wpY_worked post (nI k) (nI x) (nI y) := by
  have hn : ¬ (128 : Int32) = 0 := by decide
  have hxy : x * y < 128 * 128 := Nat.mul_lt_mul'' hx hy
  rcases tr_c9 hk with rfl | rfl | rfl | rfl | rfl | rfl | rfl | rfl | rfl
  · refine br_t (by decide) ⟨hn, tr_v ?_ hp⟩
    rw [nI_add]
    exact pk_rem (d := 128) (by omega) (by decide) (by decide)
  · refine br_f (by decide) (br_t (by decide) ⟨hn, tr_v ?_ hp⟩)
    rw [tr_s128 hy]
    exact pk_rem (d := 128) (by omega) (by decide) (by decide)
  · exact br_f (by decide) (br_f (by decide) (br_t (by decide) (tr_v (nx_and x y) hp)))
  · exact br_f (by decide) (br_f (by decide) (br_f (by decide) (br_t (by decide) (tr_v (tr_orN x y) hp))))
  · exact br_f (by decide) (br_f (by decide) (br_f (by decide) (br_f (by decide) (br_t (by decide) (tr_v (nx_xor x y) hp)))))
  · refine br_f (by decide) (br_f (by decide) (br_f (by decide) (br_f (by decide) (br_f (by decide) (br_t (by decide) ⟨hn, tr_v ?_ hp⟩)))))
    rw [pk_mul]
    exact pk_div (d := 128) (by omega) (by decide) (by decide)
  · refine br_f (by decide) (br_f (by decide) (br_f (by decide) (br_f (by decide) (br_f (by decide) (br_f (by decide) (br_t (by decide) ?_))))))
    by_cases h : y = 0
    · subst h
      exact br_t (by decide) hp
    · have hp' : post (nI (x / y)) := by
        have e : tr_w 6 x y = x / y := if_neg h
        rw [e] at hp
        exact hp
      have h0 : ¬ nI y = 0 := nI_ne0 (by omega) (by omega)
      exact br_f h0 ⟨h0, tr_v (pk_div (by omega) (by omega) (by omega)) hp'⟩
  · refine br_f (by decide) (br_f (by decide) (br_f (by decide) (br_f (by decide) (br_f (by decide) (br_f (by decide) (br_f (by decide) (br_t (by decide) ?_)))))))
    have e : tr_w 7 x y = max x y := rfl
    rw [e] at hp
    refine pk_le x y (fun h => ?_) (fun h => ?_)
    · rw [Nat.max_eq_right h] at hp
      exact hp
    · rw [Nat.max_eq_left (by omega)] at hp
      exact hp
  · refine br_f (by decide) (br_f (by decide) (br_f (by decide) (br_f (by decide) (br_f (by decide) (br_f (by decide) (br_f (by decide) (br_f (by decide) ?_)))))))
    have e : tr_w 8 x y = (x - y) + (y - x) := rfl
    rw [e] at hp
    refine pk_le x y (fun h => ?_) (fun h => ?_)
    · rw [show x - y + (y - x) = y - x from by omega] at hp
      exact tr_v (pk_sub h) hp
    · rw [show x - y + (y - x) = x - y from by omega] at hp
      exact tr_v (pk_sub (by omega)) hp
theorem tr_pair {post : SY → Prop} {S : Nat → Prop} {l m : Int32} {al ah : Nat → Int32} {k x y : Nat} (hk : k ≤ 10) (hx : x < 128) (hy : y < 128) (h : tr_acc S l m)
    (hp : ∀ l' m', tr_acc (fun r => S r ∨ tr_R k x y r) l' m' → post (l', m', al, ah)) : wpY_pair post (l, m, al, ah) (nI k) (nI x) (nI y) := by
  by_cases h8 : k ≤ 8
  · refine br_f (nI_nlt (a := 8) (b := k) h8 (by decide)) (tr_wk h8 hx hy ?_)
    exact tr_res (S' := fun r => S r ∨ tr_R k x y r) h (tr_wB h8 hx hy) (fun r => by show _ ∨ _ ↔ _; rw [tr_R8 h8]) (fun l' m' h' => hp l' m' h')
  · have hk2 : k = 9 ∨ k = 10 := by omega
    rcases hk2 with rfl | rfl
    · refine br_t (by decide) (br_t (by decide) ?_)
      refine tr_res (S' := fun r => S r ∨ r = x) h hx (fun r => Iff.rfl) (fun l' m' h' => ?_)
      refine tr_res (S' := fun r => S r ∨ tr_R 9 x y r) h' hy (fun r => ?_) (fun l'' m'' h'' => hp l'' m'' h'')
      have e : tr_R 9 x y r = (r = x ∨ r = y) := rfl
      show S r ∨ tr_R 9 x y r ↔ (S r ∨ r = x) ∨ r = y
      rw [e, or_assoc]
    · refine br_t (by decide) (br_f (by decide) ?_)
      have e : ∀ r, tr_R 10 x y r = (x = y ∧ r = x) := fun r => rfl
      refine pk_eq x y (fun he => ?_) (fun he => ?_)
      · refine tr_res (S' := fun r => S r ∨ tr_R 10 x y r) h hx (fun r => ?_) (fun l'' m'' h'' => hp l'' m'' h'')
        show S r ∨ tr_R 10 x y r ↔ S r ∨ r = x
        rw [e]
        exact ⟨fun z => z.imp_right And.right, fun z => z.imp_right fun w => ⟨he, w⟩⟩
      · refine hp l m (tr_acc_iff (fun r => ?_) h)
        show S r ↔ S r ∨ tr_R 10 x y r
        rw [e]
        exact ⟨Or.inl, fun z => z.elim id (fun w => absurd w.1 he)⟩
end
section
/-! the reference's combine -/
/-- the registers: a range each -/
def tr_ok (al ah : Nat → Int32) : Prop := ∀ j, j < 6 → ∃ p q : Nat, p ≤ q ∧ q < 128 ∧ al j = nI p ∧ ah j = nI q
def tr_bad (x : Int32) : Prop := x < 0 ∨ (¬ x < 0 ∧ 5 < x)
theorem tr_rg (x : Int32) : (∃ j, j < 6 ∧ x = nI j) ∨ tr_bad x := by
  by_cases h : x < 0
  · exact Or.inr (Or.inl h)
  · by_cases h5 : 5 < x
    · exact Or.inr (Or.inr ⟨h, h5⟩)
    · obtain ⟨j, hj, rfl⟩ := nI_of2 (M := 5) (n := 5) (by decide) h (Int32.not_lt.mp h5)
      exact Or.inl ⟨j, by omega, rfl⟩
theorem tr_isR {post : Int32 → Prop} {j : Nat} (h : j < 6) (hp : post 1) : wpX_isRegister post (nI j) := br_f (nI_pos (by omega)) (br_f (nI_nlt (a := 5) (b := j) (by omega) (by decide)) hp)
theorem tr_isN {post : Int32 → Prop} {x : Int32} (h : tr_bad x) (hp : post 0) : wpX_isRegister post x := h.elim (fun z => br_t z hp) (fun z => br_f z.1 (br_t z.2 hp))
theorem tr_bdR {post : Int32 → Prop} {j : Nat} (h : j < 6) (hp : post 0) : wpY_bad post (nI j) := br_f (nI_pos (by omega)) (br_t (nI_le (a := j) (b := 5) (by omega) (by decide)) hp)
theorem tr_bdN {post : Int32 → Prop} {x : Int32} (h : tr_bad x) (hp : post 1) : wpY_bad post x := h.elim (fun z => br_t z hp) (fun z => br_f z.1 (br_f (Int32.not_le.mpr z.2) hp))
theorem tr_1n0 : ¬ (1 : Int32) = 0 := by decide
theorem tr_cl6 {j : Nat} (h : j < 6) : (nI j).toNatClampNeg = j := nI_clamp (by omega)
theorem tr_in6 {j : Nat} (h : j < 6) : vp_in (nI j) 6 := vp_in_nI h (by decide)

theorem tr_y74 {post : Int32 → SY → Prop} {J : Int32 → Int32 → Int32 → (Nat → Int32) → (Nat → Int32) → Prop} {x1 x3 : Int32} {k j x c d : Nat} {al ah : Nat → Int32} {S0 : Nat → Prop}
    (hk : k ≤ 10) (hj : j < 6) (hx : x < 128) (hd : d < 128) (eh : ah j = nI d)
    (hJ : ∀ l m, tr_acc (fun r => S0 r ∨ ∃ y, c ≤ y ∧ y < d + 1 ∧ tr_R k x y r) l m → J (nI (x + 1)) l m al ah) :
    ∀ e y n l m, y + e = d + 1 → e < n → c ≤ y → tr_acc (fun r => S0 r ∨ ∃ y', c ≤ y' ∧ y' < y ∧ tr_R k x y' r) l m →
      wY_combine_74 post J x1 (nI k) x3 (nI j) (nI x) n (nI y) l m al ah := by
  have eh' : ah (nI j).toNatClampNeg = nI d := by rw [tr_cl6 hj]; exact eh
  intro e
  induction e with
  | zero =>
    intro y n l m hy hn hc h
    obtain ⟨n, rfl⟩ := tr_S1 hn
    obtain rfl : y = d + 1 := by omega
    exact ⟨tr_in6 hj, br_t (by rw [eh']; exact nI_lt (by omega) (by omega)) (nm_r (nI_1 x) (hJ l m h))⟩
  | succ e ih =>
    intro y n l m hy hn hc h
    obtain ⟨n, rfl⟩ := tr_S1 hn
    refine ⟨tr_in6 hj, br_f (by rw [eh']; exact nI_nlt (by omega) (by omega)) (tr_pair hk hx (by omega) h fun l' m' h' => ?_)⟩
    refine nm_r (nI_1 y) (ih (y + 1) n l' m' (by omega) (by omega) (by omega) (tr_acc_iff (fun r => ?_) h'))
    constructor
    · rintro ((z | ⟨y', z1, z2, z3⟩) | z)
      · exact Or.inl z
      · exact Or.inr ⟨y', z1, by omega, z3⟩
      · exact Or.inr ⟨y, hc, by omega, z⟩
    · rintro (z | ⟨y', z1, z2, z3⟩)
      · exact Or.inl (Or.inl z)
      · by_cases hyy : y' = y
        · subst hyy
          exact Or.inr z3
        · exact Or.inl (Or.inr ⟨y', z1, by omega, z3⟩)
theorem tr_y54 {post : Int32 → SY → Prop} {k i j a b c d t : Nat} {al ah : Nat → Int32}
    (hk : k ≤ 10) (ht : t < 6) (hi : i < 6) (hj : j < 6) (hb : b < 128) (hd : d < 128) (hcd : c ≤ d) (ei : ah i = nI b) (el : al j = nI c) (eh : ah j = nI d)
    (hE : (∀ r, ¬ tr_set k a b c d r) → post (-2) (128, -1, al, ah))
    (hO : ∀ p q, q < 128 → tr_out (tr_set k a b c d) p q → post 0 (nI p, nI q, upd al t (nI p), upd ah t (nI q))) :
    ∀ e x n l m, x + e = b + 1 → e < n → a ≤ x → tr_acc (fun r => ∃ x', a ≤ x' ∧ x' < x ∧ ∃ y, c ≤ y ∧ y < d + 1 ∧ tr_R k x' y r) l m →
      wY_combine_54 post (nI t) (nI k) (nI i) (nI j) n (nI x) l m al ah := by
  have ei' : ah (nI i).toNatClampNeg = nI b := by rw [tr_cl6 hi]; exact ei
  have el' : al (nI j).toNatClampNeg = nI c := by rw [tr_cl6 hj]; exact el
  intro e
  induction e with
  | zero =>
    intro x n l m hx hn ha h
    obtain ⟨n, rfl⟩ := tr_S1 hn
    obtain rfl : x = b + 1 := by omega
    refine ⟨tr_in6 hi, br_t (by rw [ei']; exact nI_lt (by omega) (by omega)) ?_⟩
    exact tr_yK (S := tr_set k a b c d) ht h hE hO
  | succ e ih =>
    intro x n l m hx hn ha h
    obtain ⟨n, rfl⟩ := tr_S1 hn
    refine ⟨tr_in6 hi, br_f (by rw [ei']; exact nI_nlt (by omega) (by omega)) ⟨tr_in6 hj, nm_r el' ⟨d + 1 - c + 1, ?_⟩⟩⟩
    refine tr_y74 (S0 := fun r => ∃ x', a ≤ x' ∧ x' < x ∧ ∃ y, c ≤ y ∧ y < d + 1 ∧ tr_R k x' y r) (c := c) hk hj (by omega) hd eh (fun l' m' h' => ?_) (d + 1 - c) c _ l m (by omega) (by omega) (Nat.le_refl _) ?_
    · refine ih (x + 1) n l' m' (by omega) (by omega) (by omega) (tr_acc_iff (fun r => ?_) h')
      constructor
      · rintro (⟨x', z1, z2, z3⟩ | z)
        · exact ⟨x', z1, by omega, z3⟩
        · exact ⟨x, ha, by omega, z⟩
      · rintro ⟨x', z1, z2, z3⟩
        by_cases hxx : x' = x
        · subst hxx
          exact Or.inr z3
        · exact Or.inl ⟨x', z1, by omega, z3⟩
    · refine tr_acc_iff (fun r => ?_) h
      constructor
      · exact Or.inl
      · rintro (z | ⟨y', z1, z2, z3⟩)
        · exact z
        · omega
theorem tr_yC {post : Int32 → SY → Prop} {k i j a b c d t : Nat} {s s' : Int32} {al ah : Nat → Int32}
    (hk : k ≤ 10) (ht : t < 6) (hi : i < 6) (hj : j < 6) (hab : a ≤ b) (hb : b < 128) (hcd : c ≤ d) (hd : d < 128) (e1 : al i = nI a) (e2 : ah i = nI b) (e3 : al j = nI c) (e4 : ah j = nI d)
    (hE : (∀ r, ¬ tr_set k a b c d r) → post (-2) (128, -1, al, ah))
    (hO : ∀ p q, q < 128 → tr_out (tr_set k a b c d) p q → post 0 (nI p, nI q, upd al t (nI p), upd ah t (nI q))) :
    wpY_combine post (s, s', al, ah) (nI t) (nI k) (nI i) (nI j) := by
  have e1' : al (nI i).toNatClampNeg = nI a := by rw [tr_cl6 hi]; exact e1
  unfold wpY_combine
  dsimp only
  refine tr_bdR ht ?_
  refine br_t rfl ?_
  refine tr_bdR hi ?_
  refine br_t rfl ?_
  refine tr_bdR hj ?_
  refine br_t rfl (br_f (nI_pos (by omega)) (br_t (nI_le (a := k) (b := 10) hk (by decide)) ⟨tr_in6 hi, nm_r e1' ⟨b + 1 - a + 1, ?_⟩⟩))
  refine tr_y54 (a := a) hk ht hi hj hb hd hcd e2 e3 e4 hE hO (b + 1 - a) a _ _ _ (by omega) (by omega) (Nat.le_refl _) (Or.inl ⟨rfl, rfl, ?_⟩)
  rintro r ⟨x', z1, z2, z3⟩
  omega
end
section
/-! least and greatest results of combine, in plain numbers -/
theorem tr_outW {k a b c d p q : Nat} (hk : k ≤ 8) (hp : ∃ x y, a ≤ x ∧ x ≤ b ∧ c ≤ y ∧ y ≤ d ∧ p = tr_w k x y) (hq : ∃ x y, a ≤ x ∧ x ≤ b ∧ c ≤ y ∧ y ≤ d ∧ q = tr_w k x y)
    (hb : ∀ x y, a ≤ x → x ≤ b → c ≤ y → y ≤ d → p ≤ tr_w k x y ∧ tr_w k x y ≤ q) : tr_out (tr_set k a b c d) p q := by
  obtain ⟨x, y, h1, h2, h3, h4, h5⟩ := hp
  obtain ⟨x', y', g1, g2, g3, g4, g5⟩ := hq
  refine ⟨⟨x, h1, by omega, y, h3, by omega, (tr_R8 hk).mpr h5⟩, ⟨x', g1, by omega, y', g3, by omega, (tr_R8 hk).mpr g5⟩, ?_⟩
  rintro r ⟨x, z1, z2, y, z3, z4, z5⟩
  rw [(tr_R8 hk).mp z5]
  exact hb x y z1 (by omega) z3 (by omega)
theorem tr_mid {a b c d t : Nat} (hab : a ≤ b) (hcd : c ≤ d) (h1 : a + c ≤ t) (h2 : t ≤ b + d) : ∃ x y, a ≤ x ∧ x ≤ b ∧ c ≤ y ∧ y ≤ d ∧ x + y = t := by
  by_cases h : t ≤ b + c
  · exact ⟨t - c, c, by omega, by omega, by omega, by omega, by omega⟩
  · exact ⟨b, t - b, by omega, by omega, by omega, by omega, by omega⟩
theorem tr_mid2 {a b c d t : Nat} (hab : a ≤ b) (hcd : c ≤ d) (hd : d < 128) (h1 : a + 128 - d ≤ t) (h2 : t ≤ b + 128 - c) : ∃ x y, a ≤ x ∧ x ≤ b ∧ c ≤ y ∧ y ≤ d ∧ x + 128 - y = t := by
  by_cases h : 128 + a ≤ t + c
  · exact ⟨t + c - 128, c, by omega, by omega, by omega, by omega, by omega⟩
  · exact ⟨a, a + 128 - t, by omega, by omega, by omega, by omega, by omega⟩
section
variable {a b c d : Nat}
theorem tr_o0a (hab : a ≤ b) (hcd : c ≤ d) (h : b + d < 128) : tr_out (tr_set 0 a b c d) (a + c) (b + d) := by
  refine tr_outW (by decide) ⟨a, c, by omega, hab, by omega, hcd, ?_⟩ ⟨b, d, hab, by omega, hcd, by omega, ?_⟩ (fun x y h1 h2 h3 h4 => ?_)
  · show _ = (a + c) % 128
    omega
  · show _ = (b + d) % 128
    omega
  · show _ ≤ (x + y) % 128 ∧ (x + y) % 128 ≤ _
    omega
theorem tr_o0b (hab : a ≤ b) (hcd : c ≤ d) (hb : b < 128) (hd : d < 128) (h : 128 ≤ a + c) : tr_out (tr_set 0 a b c d) (a + c - 128) (b + d - 128) := by
  refine tr_outW (by decide) ⟨a, c, by omega, hab, by omega, hcd, ?_⟩ ⟨b, d, hab, by omega, hcd, by omega, ?_⟩ (fun x y h1 h2 h3 h4 => ?_)
  · show _ = (a + c) % 128
    omega
  · show _ = (b + d) % 128
    omega
  · show _ ≤ (x + y) % 128 ∧ (x + y) % 128 ≤ _
    omega
theorem tr_o0c (hab : a ≤ b) (hcd : c ≤ d) (h : a + c < 128) (h' : 128 ≤ b + d) : tr_out (tr_set 0 a b c d) 0 127 := by
  obtain ⟨x, y, h1, h2, h3, h4, h5⟩ := tr_mid (t := 128) hab hcd (by omega) h'
  obtain ⟨x', y', g1, g2, g3, g4, g5⟩ := tr_mid (t := 127) hab hcd (by omega) (by omega)
  refine tr_outW (by decide) ⟨x, y, h1, h2, h3, h4, ?_⟩ ⟨x', y', g1, g2, g3, g4, ?_⟩ (fun x y h1 h2 h3 h4 => ?_)
  · show _ = (x + y) % 128
    omega
  · show _ = (x' + y') % 128
    omega
  · show _ ≤ (x + y) % 128 ∧ (x + y) % 128 ≤ _
    omega
theorem tr_o1a (hab : a ≤ b) (hcd : c ≤ d) (hd : d < 128) (h : b + 128 - c < 128) : tr_out (tr_set 1 a b c d) (a + 128 - d) (b + 128 - c) := by
  refine tr_outW (by decide) ⟨a, d, by omega, hab, hcd, by omega, ?_⟩ ⟨b, c, hab, by omega, by omega, hcd, ?_⟩ (fun x y h1 h2 h3 h4 => ?_)
  · show _ = (a + 128 - d) % 128
    omega
  · show _ = (b + 128 - c) % 128
    omega
  · show _ ≤ (x + 128 - y) % 128 ∧ (x + 128 - y) % 128 ≤ _
    omega
theorem tr_o1b (hab : a ≤ b) (hcd : c ≤ d) (hb : b < 128) (hd : d < 128) (h : 128 ≤ a + 128 - d) : tr_out (tr_set 1 a b c d) (a + 128 - d - 128) (b + 128 - c - 128) := by
  refine tr_outW (by decide) ⟨a, d, by omega, hab, hcd, by omega, ?_⟩ ⟨b, c, hab, by omega, by omega, hcd, ?_⟩ (fun x y h1 h2 h3 h4 => ?_)
  · show _ = (a + 128 - d) % 128
    omega
  · show _ = (b + 128 - c) % 128
    omega
  · show _ ≤ (x + 128 - y) % 128 ∧ (x + 128 - y) % 128 ≤ _
    omega
theorem tr_o1c (hab : a ≤ b) (hcd : c ≤ d) (hd : d < 128) (h : a + 128 - d < 128) (h' : 128 ≤ b + 128 - c) : tr_out (tr_set 1 a b c d) 0 127 := by
  obtain ⟨x, y, h1, h2, h3, h4, h5⟩ := tr_mid2 (t := 128) hab hcd hd (by omega) h'
  obtain ⟨x', y', g1, g2, g3, g4, g5⟩ := tr_mid2 (t := 127) hab hcd hd (by omega) (by omega)
  refine tr_outW (by decide) ⟨x, y, h1, h2, h3, h4, ?_⟩ ⟨x', y', g1, g2, g3, g4, ?_⟩ (fun x y h1 h2 h3 h4 => ?_)
  · show _ = (x + 128 - y) % 128
    omega
  · show _ = (x' + 128 - y') % 128
    omega
  · show _ ≤ (x + 128 - y) % 128 ∧ (x + 128 - y) % 128 ≤ _
    omega
theorem tr_o5 (hab : a ≤ b) (hcd : c ≤ d) : tr_out (tr_set 5 a b c d) (a * c / 128) (b * d / 128) := by
  refine tr_outW (by decide) ⟨a, c, by omega, hab, by omega, hcd, rfl⟩ ⟨b, d, hab, by omega, hcd, by omega, rfl⟩ (fun x y h1 h2 h3 h4 => ?_)
  exact ⟨Nat.div_le_div_right (Nat.mul_le_mul h1 h3), Nat.div_le_div_right (Nat.mul_le_mul h2 h4)⟩
theorem tr_o6a (hab : a ≤ b) : tr_out (tr_set 6 a b 0 0) 127 127 := by
  refine tr_outW (by decide) ⟨a, 0, by omega, hab, by omega, by omega, rfl⟩ ⟨a, 0, by omega, hab, by omega, by omega, rfl⟩ (fun x y h1 h2 h3 h4 => ?_)
  obtain rfl : y = 0 := by omega
  exact ⟨Nat.le_refl _, Nat.le_refl _⟩
theorem tr_o6b (hab : a ≤ b) (hb : b < 128) (hd : 0 < d) : tr_out (tr_set 6 a b 0 d) (a / d) 127 := by
  have e0 : ∀ x, tr_w 6 x 0 = 127 := fun x => rfl
  have e1 : ∀ x y, y ≠ 0 → tr_w 6 x y = x / y := fun x y h => if_neg h
  refine tr_outW (by decide) ⟨a, d, by omega, hab, by omega, by omega, (e1 a d (by omega)).symm⟩ ⟨a, 0, by omega, hab, by omega, by omega, (e0 a).symm⟩ (fun x y h1 h2 h3 h4 => ?_)
  by_cases h : y = 0
  · subst h
    rw [e0]
    have := Nat.div_le_self a d
    omega
  · rw [e1 x y h]
    have := Nat.div_le_self x y
    exact ⟨Nat.div_le_div h1 h4 h, by omega⟩
theorem tr_o6c (hab : a ≤ b) (hcd : c ≤ d) (hc : 0 < c) : tr_out (tr_set 6 a b c d) (a / d) (b / c) := by
  have e1 : ∀ x y, y ≠ 0 → tr_w 6 x y = x / y := fun x y h => if_neg h
  refine tr_outW (by decide) ⟨a, d, by omega, hab, by omega, by omega, (e1 a d (by omega)).symm⟩ ⟨b, c, by omega, by omega, by omega, by omega, (e1 b c (by omega)).symm⟩ (fun x y h1 h2 h3 h4 => ?_)
  rw [e1 x y (by omega)]
  exact ⟨Nat.div_le_div h1 h4 (by omega), Nat.div_le_div h2 h3 (by omega)⟩
theorem tr_o7 (hab : a ≤ b) (hcd : c ≤ d) : tr_out (tr_set 7 a b c d) (max a c) (max b d) := by
  refine tr_outW (by decide) ⟨a, c, by omega, hab, by omega, hcd, rfl⟩ ⟨b, d, hab, by omega, hcd, by omega, rfl⟩ (fun x y h1 h2 h3 h4 => ?_)
  show _ ≤ max x y ∧ max x y ≤ _
  omega
theorem tr_o8 (hab : a ≤ b) (hcd : c ≤ d) : tr_out (tr_set 8 a b c d) ((a - d) + (c - b)) (max (b - c) (d - a)) := by
  refine tr_outW (by decide) ?_ ?_ (fun x y h1 h2 h3 h4 => ?_)
  · by_cases h : d < a
    · refine ⟨a, d, by omega, by omega, by omega, by omega, ?_⟩
      show _ = (a - d) + (d - a)
      omega
    · by_cases h' : b < c
      · refine ⟨b, c, by omega, by omega, by omega, by omega, ?_⟩
        show _ = (b - c) + (c - b)
        omega
      · refine ⟨max a c, max a c, by omega, by omega, by omega, by omega, ?_⟩
        show _ = (max a c - max a c) + (max a c - max a c)
        omega
  · by_cases h : d - a ≤ b - c
    · refine ⟨b, c, by omega, by omega, by omega, by omega, ?_⟩
      show _ = (b - c) + (c - b)
      omega
    · refine ⟨a, d, by omega, by omega, by omega, by omega, ?_⟩
      show _ = (a - d) + (d - a)
      omega
  · show _ ≤ (x - y) + (y - x) ∧ (x - y) + (y - x) ≤ _
    omega
theorem tr_o9 (hab : a ≤ b) (hcd : c ≤ d) : tr_out (tr_set 9 a b c d) (min a c) (max b d) := by
  refine ⟨⟨a, by omega, by omega, c, by omega, by omega, ?_⟩, ⟨b, by omega, by omega, d, by omega, by omega, ?_⟩, ?_⟩
  · show min a c = a ∨ min a c = c
    omega
  · show max b d = b ∨ max b d = d
    omega
  · rintro r ⟨x, z1, z2, y, z3, z4, z5⟩
    have z : r = x ∨ r = y := z5
    omega
theorem tr_o10 (h : max a c ≤ min b d) : tr_out (tr_set 10 a b c d) (max a c) (min b d) := by
  refine ⟨⟨max a c, by omega, by omega, max a c, by omega, by omega, ?_⟩, ⟨min b d, by omega, by omega, min b d, by omega, by omega, ?_⟩, ?_⟩
  · exact (⟨rfl, rfl⟩ : max a c = max a c ∧ max a c = max a c)
  · exact (⟨rfl, rfl⟩ : min b d = min b d ∧ min b d = min b d)
  · rintro r ⟨x, z1, z2, y, z3, z4, z5⟩
    have z : x = y ∧ r = x := z5
    omega
theorem tr_o10n (h : min b d < max a c) : ∀ r, ¬ tr_set 10 a b c d r := by
  rintro r ⟨x, z1, z2, y, z3, z4, z5⟩
  have z : x = y ∧ r = x := z5
  omega
/-! ===== logic ===== -/
theorem tr_o3 {p q : Nat} (hb : b < 128) (hd : d < 128) (h : tr_LO 7 a b c d p) (g : tr_GO 7 a b c d q) : tr_out (tr_set 3 a b c d) p q := by
  have z : ∀ x, x < 128 → x / 2 ^ 7 = 0 := fun x hx => Nat.div_eq_of_lt hx
  obtain ⟨e, _, m⟩ := h
  obtain ⟨e', _, m'⟩ := g
  refine tr_outW (by decide) e e' (fun x y h1 h2 h3 h4 => ?_)
  exact ⟨m x y h1 h2 h3 h4 (by rw [z x (by omega), z a (by omega)]) (by rw [z y (by omega), z c (by omega)]), m' x y h1 h2 h3 h4 (by rw [z x (by omega), z b (by omega)]) (by rw [z y (by omega), z d (by omega)])⟩
theorem tr_o4 {p q : Nat} (hb : b < 128) (hd : d < 128) (h : tr_LX 7 b d a c p) (g : tr_GX 7 a c b d q) : tr_out (tr_set 4 a b c d) p q := by
  have z : ∀ x, x < 128 → x / 2 ^ 7 = 0 := fun x hx => Nat.div_eq_of_lt hx
  obtain ⟨e, _, m⟩ := h
  obtain ⟨e', _, m'⟩ := g
  refine tr_outW (by decide) e e' (fun x y h1 h2 h3 h4 => ?_)
  exact ⟨m x y h1 h2 h3 h4 (by rw [z x (by omega), z a (by omega)]) (by rw [z y (by omega), z c (by omega)]), m' x y h1 h2 h3 h4 (by rw [z x (by omega), z b (by omega)]) (by rw [z y (by omega), z d (by omega)])⟩
end
theorem tr_dmT : ∀ x, x < 128 → ∀ y, y < 128 → x &&& y = 127 - ((127 - x) ||| (127 - y)) := by decide +kernel
theorem tr_o2 {a b c d p q : Nat} (hab : a ≤ b) (hcd : c ≤ d) (hb : b < 128) (hd : d < 128) (h : tr_out (tr_set 3 (127 - b) (127 - a) (127 - d) (127 - c)) p q) : tr_out (tr_set 2 a b c d) (127 - q) (127 - p) := by
  obtain ⟨⟨x, h1, h2, y, h3, h4, h5⟩, ⟨x', g1, g2, y', g3, g4, g5⟩, m⟩ := h
  have e5 : p = x ||| y := (tr_R8 (by decide)).mp h5
  have f5 : q = x' ||| y' := (tr_R8 (by decide)).mp g5
  refine tr_outW (by decide) ⟨127 - x', 127 - y', by omega, by omega, by omega, by omega, ?_⟩ ⟨127 - x, 127 - y, by omega, by omega, by omega, by omega, ?_⟩ (fun u v h1 h2 h3 h4 => ?_)
  · show _ = (127 - x') &&& (127 - y')
    rw [tr_dmT _ (by omega) _ (by omega), f5, show 127 - (127 - x') = x' from by omega, show 127 - (127 - y') = y' from by omega]
  · show _ = (127 - x) &&& (127 - y)
    rw [tr_dmT _ (by omega) _ (by omega), e5, show 127 - (127 - x) = x from by omega, show 127 - (127 - y) = y from by omega]
  · show _ ≤ u &&& v ∧ u &&& v ≤ _
    rw [tr_dmT _ (by omega) _ (by omega)]
    have := m ((127 - u) ||| (127 - v)) ⟨127 - u, by omega, by omega, 127 - v, by omega, by omega, (tr_R8 (by decide)).mpr rfl⟩
    generalize (127 - u) ||| (127 - v) = Z at *
    omega
end
section
/-! the component's combine -/
section
variable {post : SX → Prop} {a b c d i j : Nat} {s s' : Int32} {al ah : Nat → Int32}
theorem tr_xA0 (hi : i < 6) (hj : j < 6) (hab : a ≤ b) (hb : b < 128) (hcd : c ≤ d) (hd : d < 128) (e1 : al i = nI a) (e2 : ah i = nI b) (e3 : al j = nI c) (e4 : ah j = nI d)
    (hp : ∀ p q, q < 128 → tr_out (tr_set 0 a b c d) p q → post (nI p, nI q, al, ah)) : wpX_addOrSubtract post (s, s', al, ah) (nI 0) (nI i) (nI j) := by
  simp only [wpX_addOrSubtract, wX_addOrSubtract_37, wX_addOrSubtract_76, wpX_keep, tr_cl6 hi, tr_cl6 hj, e1, e2, e3, e4, nI_add]
  refine br_t rfl ⟨tr_in6 hi, tr_in6 hj, br_t rfl ⟨tr_in6 hi, tr_in6 hj, ?_⟩⟩
  refine pk_le 128 (b + d) (fun h => pk_lt (a + c) 128 (fun h2 => ?_) (fun h2 => ?_)) (fun h => ?_)
  · exact hp 0 127 (by omega) (tr_o0c hab hcd h2 h)
  · have g := hp (a + c - 128) (b + d - 128) (by omega) (tr_o0b hab hcd hb hd h2)
    rw [← pk_sub h2, ← pk_sub h] at g
    exact g
  · exact hp _ _ h (tr_o0a hab hcd h)
theorem tr_xA1 (hi : i < 6) (hj : j < 6) (hab : a ≤ b) (hb : b < 128) (hcd : c ≤ d) (hd : d < 128) (e1 : al i = nI a) (e2 : ah i = nI b) (e3 : al j = nI c) (e4 : ah j = nI d)
    (hp : ∀ p q, q < 128 → tr_out (tr_set 1 a b c d) p q → post (nI p, nI q, al, ah)) : wpX_addOrSubtract post (s, s', al, ah) (nI 1) (nI i) (nI j) := by
  have hc : c < 128 := by omega
  simp only [wpX_addOrSubtract, wX_addOrSubtract_37, wX_addOrSubtract_76, wpX_keep, tr_cl6 hi, tr_cl6 hj, e1, e2, e3, e4, tr_s128 hd, tr_s128 hc]
  refine br_f (by decide) ⟨tr_in6 hi, tr_in6 hj, br_f (by decide) ⟨tr_in6 hi, tr_in6 hj, ?_⟩⟩
  refine pk_le 128 (b + 128 - c) (fun h => pk_lt (a + 128 - d) 128 (fun h2 => ?_) (fun h2 => ?_)) (fun h => ?_)
  · exact hp 0 127 (by omega) (tr_o1c hab hcd hd h2 h)
  · have g := hp (a + 128 - d - 128) (b + 128 - c - 128) (by omega) (tr_o1b hab hcd hb hd h2)
    rw [← pk_sub h2, ← pk_sub h] at g
    exact g
  · exact hp _ _ h (tr_o1a hab hcd hd h)
theorem tr_xM5 (hi : i < 6) (hj : j < 6) (hab : a ≤ b) (hb : b < 128) (hcd : c ≤ d) (hd : d < 128) (e1 : al i = nI a) (e2 : ah i = nI b) (e3 : al j = nI c) (e4 : ah j = nI d)
    (hp : ∀ p q, q < 128 → tr_out (tr_set 5 a b c d) p q → post (nI p, nI q, al, ah)) : wpX_multiplyOrDivide post (s, s', al, ah) (nI 5) (nI i) (nI j) := by
  have h1 : a * c < 128 * 128 := Nat.mul_lt_mul'' (by omega) (by omega)
  have h2 : b * d < 128 * 128 := Nat.mul_lt_mul'' hb hd
  have f1 := pk_shrN (n := a * c) (by omega) ((7 : Int32) &&& 31) 7 (by decide)
  have f2 := pk_shrN (n := b * d) (by omega) ((7 : Int32) &&& 31) 7 (by decide)
  simp only [wpX_multiplyOrDivide, wpX_keep, tr_cl6 hi, tr_cl6 hj, e1, e2, e3, e4, pk_mul, f1, f2]
  exact br_t rfl ⟨tr_in6 hi, tr_in6 hj, tr_in6 hi, tr_in6 hj, hp (a * c / 2 ^ 7) (b * d / 2 ^ 7) (by omega) (tr_o5 hab hcd)⟩
theorem tr_xM6 (hi : i < 6) (hj : j < 6) (hab : a ≤ b) (hb : b < 128) (hcd : c ≤ d) (hd : d < 128) (e1 : al i = nI a) (e2 : ah i = nI b) (e3 : al j = nI c) (e4 : ah j = nI d)
    (hp : ∀ p q, q < 128 → tr_out (tr_set 6 a b c d) p q → post (nI p, nI q, al, ah)) : wpX_multiplyOrDivide post (s, s', al, ah) (nI 6) (nI i) (nI j) := by
  simp only [wpX_multiplyOrDivide, wX_multiplyOrDivide_109, wpX_keep, tr_cl6 hi, tr_cl6 hj, e1, e2, e3, e4]
  refine br_f (by decide) ⟨tr_in6 hj, ?_⟩
  by_cases h0 : d = 0
  · subst h0
    obtain rfl : c = 0 := by omega
    exact br_t rfl (hp 127 127 (by omega) (tr_o6a hab))
  · have hn : ¬ nI d = 0 := nI_ne0 (by omega) (by omega)
    have q1 : nI a / nI d = nI (a / d) := pk_div (by omega) (by omega) (by omega)
    refine br_f hn ⟨tr_in6 hj, nm_e ⟨tr_in6 hj, nm_e ⟨tr_in6 hi, hn, ?_⟩⟩⟩
    by_cases hc : c = 0
    · subst hc
      have g := hp (a / d) 127 (by omega) (tr_o6b hab hb (by omega))
      rw [← q1] at g
      exact br_t (by decide) g
    · have hcn : ¬ nI c = 0 := nI_ne0 (by omega) (by omega)
      have q2 : nI b / nI c = nI (b / c) := pk_div (by omega) (by omega) (by omega)
      have g := hp (a / d) (b / c) (Nat.lt_of_le_of_lt (Nat.div_le_self _ _) hb) (tr_o6c hab hcd (by omega))
      rw [← q1, ← q2] at g
      exact br_f (nI_nle (by omega) (by omega)) ⟨tr_in6 hi, hcn, g⟩
theorem tr_gr {post : Int32 → Prop} {a c : Nat} (ha : a < 128) (hc : c < 128) (hp : post (nI (max a c))) : wpX_greater post (nI a) (nI c) := by
  refine pk_le a c (fun h => ?_) (fun h => ?_)
  · rw [Nat.max_eq_right h] at hp
    exact hp
  · rw [Nat.max_eq_left (by omega)] at hp
    exact hp
theorem tr_ls {post : Int32 → Prop} {a c : Nat} (ha : a < 128) (hc : c < 128) (hp : post (nI (min a c))) : wpX_lesser post (nI a) (nI c) := by
  refine pk_le c a (fun h => ?_) (fun h => ?_)
  · rw [Nat.min_eq_right h] at hp
    exact hp
  · rw [Nat.min_eq_left (by omega)] at hp
    exact hp
theorem tr_grI {post : Int32 → Prop} {x y : Int32} (hp : ∀ r : Int32, r.toInt = max x.toInt y.toInt → post r) : wpX_greater post x y := by
  refine br_c (fun h => hp y ?_) (fun h => hp x ?_)
  · rw [Int32.le_iff_toInt_le] at h
    omega
  · rw [Int32.le_iff_toInt_le] at h
    omega
theorem tr_toN {r : Int32} {p : Nat} (hp : p < 2 ^ 31) (h : r.toInt = (p : Int)) : r = nI p := by
  apply Int32.toInt_inj.mp
  rw [h, nI_toInt hp]
theorem tr_xD (hi : i < 6) (hj : j < 6) (hab : a ≤ b) (hb : b < 128) (hcd : c ≤ d) (hd : d < 128) (e1 : al i = nI a) (e2 : ah i = nI b) (e3 : al j = nI c) (e4 : ah j = nI d)
    (hp : ∀ p q, q < 128 → tr_out (tr_set 8 a b c d) p q → post (nI p, nI q, al, ah)) : wpX_distance post (s, s', al, ah) (nI i) (nI j) := by
  simp only [wpX_distance, wpX_keep, tr_cl6 hi, tr_cl6 hj, e1, e2, e3, e4]
  have i1 := tr_in6 hi
  have i2 := tr_in6 hj
  refine ⟨i1, i2, i2, i1, tr_grI fun r1 h1 => ⟨i1, i2, i2, i1, tr_grI fun r2 h2 => tr_grI fun r3 h3 => ?_⟩⟩
  rw [pk_sub_toInt (by omega) (by omega), pk_sub_toInt (by omega) (by omega)] at h1 h2
  rw [h1, show (0 : Int32).toInt = 0 from by decide] at h3
  have g3 : r3 = nI ((a - d) + (c - b)) := tr_toN (by omega) (by omega)
  have g2 : r2 = nI (max (b - c) (d - a)) := tr_toN (by omega) (by omega)
  rw [g3, g2]
  exact hp _ _ (by omega) (tr_o8 hab hcd)
theorem tr_xE7 (hi : i < 6) (hj : j < 6) (hab : a ≤ b) (hb : b < 128) (hcd : c ≤ d) (hd : d < 128) (e1 : al i = nI a) (e2 : ah i = nI b) (e3 : al j = nI c) (e4 : ah j = nI d)
    (hp : ∀ p q, q < 128 → tr_out (tr_set 7 a b c d) p q → post (nI p, nI q, al, ah)) : wpX_compareEnds post (s, s', al, ah) (nI 7) (nI i) (nI j) := by
  simp only [wpX_compareEnds, wpX_keep, tr_cl6 hi, tr_cl6 hj, e1, e2, e3, e4]
  have i1 := tr_in6 hi
  have i2 := tr_in6 hj
  refine br_f (by decide) (br_f (by decide) ⟨i1, i2, tr_gr (by omega) (by omega) ⟨i1, i2, tr_gr (by omega) (by omega) ?_⟩⟩)
  exact hp _ _ (by omega) (tr_o7 hab hcd)
theorem tr_xE9 (hi : i < 6) (hj : j < 6) (hab : a ≤ b) (hb : b < 128) (hcd : c ≤ d) (hd : d < 128) (e1 : al i = nI a) (e2 : ah i = nI b) (e3 : al j = nI c) (e4 : ah j = nI d)
    (hp : ∀ p q, q < 128 → tr_out (tr_set 9 a b c d) p q → post (nI p, nI q, al, ah)) : wpX_compareEnds post (s, s', al, ah) (nI 9) (nI i) (nI j) := by
  simp only [wpX_compareEnds, wpX_keep, tr_cl6 hi, tr_cl6 hj, e1, e2, e3, e4]
  have i1 := tr_in6 hi
  have i2 := tr_in6 hj
  refine br_t (by decide) ⟨i1, i2, tr_ls (by omega) (by omega) ⟨i1, i2, tr_gr (by omega) (by omega) ?_⟩⟩
  exact hp _ _ (by omega) (tr_o9 hab hcd)
theorem tr_xE10 (hi : i < 6) (hj : j < 6) (hab : a ≤ b) (hb : b < 128) (hcd : c ≤ d) (hd : d < 128) (e1 : al i = nI a) (e2 : ah i = nI b) (e3 : al j = nI c) (e4 : ah j = nI d)
    (hp : ∀ l m, tr_xr (tr_set 10 a b c d) l m → post (l, m, al, ah)) : wpX_compareEnds post (s, s', al, ah) (nI 10) (nI i) (nI j) := by
  simp only [wpX_compareEnds, wpX_keep, tr_cl6 hi, tr_cl6 hj, e1, e2, e3, e4]
  have i1 := tr_in6 hi
  have i2 := tr_in6 hj
  refine br_f (by decide) (br_t (by decide) ⟨i1, i2, tr_gr (by omega) (by omega) ⟨i1, i2, tr_ls (by omega) (by omega) (hp _ _ ?_)⟩⟩)
  by_cases h : max a c ≤ min b d
  · exact Or.inr ⟨_, _, by omega, rfl, rfl, tr_o10 h⟩
  · exact Or.inl ⟨nI_lt (by omega) (by omega), tr_o10n (by omega)⟩
theorem tr_127 {a : Nat} (h : a < 128) : (127 : Int32) - nI a = nI (127 - a) := pk_sub (a := 127) (by omega)
theorem tr_64 : nI (tr_b 7) = 64 := by decide
theorem tr_fLO {post : Int32 → Prop} (hab : a ≤ b) (hcd : c ≤ d) (hb : b < 128) (hd : d < 128) (hp : ∀ r, tr_LO 7 a b c d r → post (nI r)) : wpX_leastOr post (nI a) (nI b) (nI c) (nI d) := by
  have g := tr_wLO hab hcd hb hd 7 (Nat.le_refl _) 8 (by omega) hp
  rw [tr_64] at g
  exact ⟨8, g⟩
theorem tr_fGO {post : Int32 → Prop} (hab : a ≤ b) (hcd : c ≤ d) (hb : b < 128) (hd : d < 128) (hp : ∀ r, tr_GO 7 a b c d r → post (nI r)) : wpX_greatestOr post (nI a) (nI b) (nI c) (nI d) := by
  have g := tr_wGO hab hcd hb hd 7 (Nat.le_refl _) 8 (by omega) hp
  rw [tr_64] at g
  exact ⟨8, g⟩
theorem tr_fLX {post : Int32 → Prop} (hab : a ≤ b) (hcd : c ≤ d) (hb : b < 128) (hd : d < 128) (hp : ∀ r, tr_LX 7 b d a c r → post (nI r)) : wpX_leastXor post (nI a) (nI b) (nI c) (nI d) := by
  have g := tr_wLX hb hd 7 (Nat.le_refl _) 8 (by omega) a c hab hcd hp
  rw [tr_64] at g
  exact ⟨8, g⟩
theorem tr_fGX {post : Int32 → Prop} (hab : a ≤ b) (hcd : c ≤ d) (hb : b < 128) (hd : d < 128) (hp : ∀ r, tr_GX 7 a c b d r → post (nI r)) : wpX_greatestXor post (nI a) (nI b) (nI c) (nI d) := by
  have g := tr_wGX 7 (Nat.le_refl _) 8 (by omega) b d hb hd hab hcd hp
  rw [tr_64] at g
  exact ⟨8, g⟩
theorem tr_xB3 (hab : a ≤ b) (hb : b < 128) (hcd : c ≤ d) (hd : d < 128)
    (hp : ∀ p q, q < 128 → tr_out (tr_set 3 a b c d) p q → post (nI p, nI q, al, ah)) : wpX_bitwise post (s, s', al, ah) (nI 3) (nI a) (nI b) (nI c) (nI d) := by
  refine br_t rfl (tr_fLO hab hcd hb hd fun p h1 => tr_fGO hab hcd hb hd fun q h2 => ?_)
  obtain ⟨x, y, _, g1, _, g2, e⟩ := h2.1
  exact hp p q (by rw [e]; exact Nat.or_lt_two_pow (n := 7) (Nat.lt_of_le_of_lt g1 hb) (Nat.lt_of_le_of_lt g2 hd)) (tr_o3 hb hd h1 h2)
theorem tr_xB4 (hab : a ≤ b) (hb : b < 128) (hcd : c ≤ d) (hd : d < 128)
    (hp : ∀ p q, q < 128 → tr_out (tr_set 4 a b c d) p q → post (nI p, nI q, al, ah)) : wpX_bitwise post (s, s', al, ah) (nI 4) (nI a) (nI b) (nI c) (nI d) := by
  refine br_f (by decide) (br_f (by decide) (tr_fLX hab hcd hb hd fun p h1 => tr_fGX hab hcd hb hd fun q h2 => ?_))
  obtain ⟨x, y, _, g1, _, g2, e⟩ := h2.1
  exact hp p q (by rw [e]; exact Nat.xor_lt_two_pow (n := 7) (Nat.lt_of_le_of_lt g1 hb) (Nat.lt_of_le_of_lt g2 hd)) (tr_o4 hb hd h1 h2)
theorem tr_xB2 (hab : a ≤ b) (hb : b < 128) (hcd : c ≤ d) (hd : d < 128)
    (hp : ∀ p q, q < 128 → tr_out (tr_set 2 a b c d) p q → post (nI p, nI q, al, ah)) : wpX_bitwise post (s, s', al, ah) (nI 2) (nI a) (nI b) (nI c) (nI d) := by
  have ha : a < 128 := by omega
  have hc : c < 128 := by omega
  simp only [wpX_bitwise, tr_127 ha, tr_127 hb, tr_127 hc, tr_127 hd]
  refine br_f (by decide) (br_t rfl (tr_fLO (by omega) (by omega) (by omega) (by omega) fun p h1 => tr_fGO (by omega) (by omega) (by omega) (by omega) fun q h2 => ?_))
  have ho := tr_o3 (by omega) (by omega) h1 h2
  obtain ⟨x, y, _, g1, _, g2, e⟩ := h2.1
  have hq : q < 128 := by rw [e]; exact Nat.or_lt_two_pow (n := 7) (by omega) (by omega)
  have hpq := tr_out_le ho
  have g := hp (127 - q) (127 - p) (by omega) (tr_o2 hab hcd hb hd ho)
  rw [← tr_127 hq, ← tr_127 (a := p) (by omega)] at g
  exact g
end
theorem tr_xC {post : Int32 → SX → Prop} {k i j a b c d t : Nat} {s s' : Int32} {al ah : Nat → Int32}
    (hk : k ≤ 10) (ht : t < 6) (hi : i < 6) (hj : j < 6) (hab : a ≤ b) (hb : b < 128) (hcd : c ≤ d) (hd : d < 128) (e1 : al i = nI a) (e2 : ah i = nI b) (e3 : al j = nI c) (e4 : ah j = nI d)
    (hp : ∀ l m, tr_xr (tr_set k a b c d) l m → wX_combine_130 post (nI t) l m al ah) :
    wpX_combine post (s, s', al, ah) (nI t) (nI k) (nI i) (nI j) := by
  have e1' : al (nI i).toNatClampNeg = nI a := by rw [tr_cl6 hi]; exact e1
  have e2' : ah (nI i).toNatClampNeg = nI b := by rw [tr_cl6 hi]; exact e2
  have e3' : al (nI j).toNatClampNeg = nI c := by rw [tr_cl6 hj]; exact e3
  have e4' : ah (nI j).toNatClampNeg = nI d := by rw [tr_cl6 hj]; exact e4
  have hp' : ∀ p q, q < 128 → tr_out (tr_set k a b c d) p q → wX_combine_130 post (nI t) (nI p) (nI q) al ah := fun p q h1 h2 => hp _ _ (Or.inr ⟨p, q, h1, rfl, rfl, h2⟩)
  unfold wpX_combine
  dsimp only
  refine tr_isR ht ?_
  refine br_f tr_1n0 ?_
  refine tr_isR hi ?_
  refine br_f tr_1n0 ?_
  refine tr_isR hj ?_
  refine br_f tr_1n0 (br_f (nI_pos (by omega)) (br_t (nI_le (a := k) (b := 10) hk (by decide)) ?_))
  have hc : k = 0 ∨ k = 1 ∨ k = 2 ∨ k = 3 ∨ k = 4 ∨ k = 5 ∨ k = 6 ∨ k = 7 ∨ k = 8 ∨ k = 9 ∨ k = 10 := by omega
  rcases hc with rfl | rfl | rfl | rfl | rfl | rfl | rfl | rfl | rfl | rfl | rfl
  · exact br_f (by decide) (tr_xA0 hi hj hab hb hcd hd e1 e2 e3 e4 hp')
  · exact br_f (by decide) (tr_xA1 hi hj hab hb hcd hd e1 e2 e3 e4 hp')
  · refine br_t (by decide) (br_f (by decide) ⟨tr_in6 hi, tr_in6 hi, tr_in6 hj, tr_in6 hj, ?_⟩)
    rw [e1', e2', e3', e4']
    exact tr_xB2 hab hb hcd hd hp'
  · refine br_t (by decide) (br_f (by decide) ⟨tr_in6 hi, tr_in6 hi, tr_in6 hj, tr_in6 hj, ?_⟩)
    rw [e1', e2', e3', e4']
    exact tr_xB3 hab hb hcd hd hp'
  · refine br_t (by decide) (br_f (by decide) ⟨tr_in6 hi, tr_in6 hi, tr_in6 hj, tr_in6 hj, ?_⟩)
    rw [e1', e2', e3', e4']
    exact tr_xB4 hab hb hcd hd hp'
  · exact br_t (by decide) (br_t (by decide) (br_f (by decide) (tr_xM5 hi hj hab hb hcd hd e1 e2 e3 e4 hp')))
  · exact br_t (by decide) (br_t (by decide) (br_f (by decide) (tr_xM6 hi hj hab hb hcd hd e1 e2 e3 e4 hp')))
  · exact br_t (by decide) (br_t (by decide) (br_t (by decide) (br_f (by decide) (tr_xE7 hi hj hab hb hcd hd e1 e2 e3 e4 hp'))))
  · exact br_t (by decide) (br_t (by decide) (br_t (by decide) (br_t (by decide) (tr_xD hi hj hab hb hcd hd e1 e2 e3 e4 hp'))))
  · exact br_t (by decide) (br_t (by decide) (br_t (by decide) (br_f (by decide) (tr_xE9 hi hj hab hb hcd hd e1 e2 e3 e4 hp'))))
  · exact br_t (by decide) (br_t (by decide) (br_t (by decide) (br_f (by decide) (tr_xE10 hi hj hab hb hcd hd e1 e2 e3 e4 hp))))
end
section
/-! the one-number workings: plain functions, tables, and their walks on both sides -/
def tr_on (x : Nat) : Nat → Nat
  | 0 => 0
  | j + 1 => tr_on x j + x / 2 ^ j % 2
def tr_rv (x : Nat) : Nat → Nat
  | 0 => 0
  | j + 1 => tr_rv x j ||| (x / 2 ^ j % 2) * 2 ^ (6 - j)
def tr_rt (x : Nat) : Nat → Nat
  | 0 => 0
  | j + 1 => if (j + 1) * (j + 1) ≤ x then j + 1 else tr_rt x j
def tr_s : Nat → Nat → Nat
  | 0, x => 127 - x
  | 1, x => tr_on x 7
  | 2, x => tr_rv x 7
  | 3, x => tr_rt x 11
  | _, x => 2 * x % 128
def tr_set1 (k a b r : Nat) : Prop := ∃ x, a ≤ x ∧ x < b + 1 ∧ r = tr_s k x
theorem tr_on8 (x : Nat) : ∀ j, tr_on x j ≤ j := by
  intro j
  induction j with
  | zero => exact Nat.le_refl _
  | succ j ih =>
    show tr_on x j + x / 2 ^ j % 2 ≤ j + 1
    have := Nat.mod_lt (x / 2 ^ j) (show 0 < 2 by decide)
    omega
theorem tr_rt_le (x : Nat) : ∀ j, tr_rt x j ≤ j := by
  intro j
  induction j with
  | zero => exact Nat.le_refl _
  | succ j ih =>
    show (if (j + 1) * (j + 1) ≤ x then j + 1 else tr_rt x j) ≤ j + 1
    by_cases h : (j + 1) * (j + 1) ≤ x
    · rw [if_pos h]
      exact Nat.le_refl _
    · rw [if_neg h]
      omega
theorem tr_rt_mono {x y : Nat} (h : x ≤ y) : ∀ j, tr_rt x j ≤ tr_rt y j := by
  intro j
  induction j with
  | zero => exact Nat.le_refl _
  | succ j ih =>
    show (if (j + 1) * (j + 1) ≤ x then j + 1 else tr_rt x j) ≤ (if (j + 1) * (j + 1) ≤ y then j + 1 else tr_rt y j)
    have h2 := tr_rt_le x j
    by_cases h1 : (j + 1) * (j + 1) ≤ x
    · rw [if_pos h1, if_pos (Nat.le_trans h1 h)]
      exact Nat.le_refl _
    · rw [if_neg h1]
      by_cases h3 : (j + 1) * (j + 1) ≤ y
      · rw [if_pos h3]
        omega
      · rw [if_neg h3]
        exact ih
theorem tr_rvB : ∀ x, x < 128 → tr_rv x 7 < 128 := by decide +kernel
theorem tr_rtU : ∀ x, x < 128 → ∀ r, r < 12 → r * r ≤ x → x < (r + 1) * (r + 1) → tr_rt x 11 = r := by decide +kernel
theorem tr_rtQ : ∀ r, r < 128 → r * r < 128 → r < 12 := by decide +kernel
theorem tr_sB {k x : Nat} (hk : k ≤ 4) (hx : x < 128) : tr_s k x < 128 := by
  have hc : k = 0 ∨ k = 1 ∨ k = 2 ∨ k = 3 ∨ k = 4 := by omega
  rcases hc with rfl | rfl | rfl | rfl | rfl
  · show 127 - x < 128
    omega
  · have := tr_on8 x 7
    show tr_on x 7 < 128
    omega
  · exact tr_rvB x hx
  · have := tr_rt_le x 11
    show tr_rt x 11 < 128
    omega
  · exact Nat.mod_lt _ (by decide)
theorem tr_a1 (n : Nat) : nI n &&& 1 = nI (n % 2) := by
  show nI n &&& nI 1 = _
  rw [nx_and, Nat.and_one_is_mod]
theorem tr_sh {x j : Nat} (hx : x < 128) (hj : j < 7) : nI x >>> (nI j &&& 31) = nI (x / 2 ^ j) := pk_shrN (by omega) _ j (s_l j (by omega))
theorem tr_ush {x j : Nat} (hx : x < 128) (hj : j < 7) : ((nI x).toUInt32 >>> ((nI j).toUInt32 &&& Int32.toUInt32 31)).toInt32 = nI (x / 2 ^ j) := pk_ushrN (by omega) _ j (s_u j (by omega))
theorem tr_yon4 {post : Int32 → Prop} {x : Nat} (hx : x < 128) (hp : post (nI (tr_on x 7))) : ∀ e j n, j + e = 7 → e < n → wY_ones_4 post (nI x) n (nI (tr_on x j)) (nI j) := by
  intro e
  induction e with
  | zero =>
    intro j n hj hn
    obtain ⟨n, rfl⟩ := tr_S1 hn
    obtain rfl : j = 7 := by omega
    exact br_t (by decide) hp
  | succ e ih =>
    intro j n hj hn
    obtain ⟨n, rfl⟩ := tr_S1 hn
    refine br_f (nI_ge (a := j) (b := 7) (by omega) (by decide)) (nm_r (e' := nI (tr_on x (j + 1))) ?_ (nm_r (nI_1 j) (ih (j + 1) n (by omega) (by omega))))
    rw [tr_sh hx (by omega), tr_a1, nI_add]
    rfl
theorem tr_xon4 {post : Int32 → Prop} {x : Nat} (hx : x < 128) (hp : post (nI (tr_on x 7))) : ∀ e j n, j + e = 7 → e < n → wX_ones_4 post (nI x) n (nI (tr_on x j)) (nI j) := by
  intro e
  induction e with
  | zero =>
    intro j n hj hn
    obtain ⟨n, rfl⟩ := tr_S1 hn
    obtain rfl : j = 7 := by omega
    exact br_t (by decide) hp
  | succ e ih =>
    intro j n hj hn
    obtain ⟨n, rfl⟩ := tr_S1 hn
    refine br_f (nI_ge (a := j) (b := 7) (by omega) (by decide)) (nm_r (e' := nI (tr_on x (j + 1))) ?_ (nm_r (nI_1 j) (ih (j + 1) n (by omega) (by omega))))
    rw [tr_ush hx (by omega), tr_a1, nI_add]
    rfl
theorem tr_yon {post : Int32 → Prop} {x : Nat} (hx : x < 128) (hp : post (nI (tr_on x 7))) : wpY_ones post (nI x) := ⟨8, tr_yon4 hx hp 7 0 8 (by omega) (by omega)⟩
theorem tr_xon {post : Int32 → Prop} {x : Nat} (hx : x < 128) (hp : post (nI (tr_on x 7))) : wpX_ones post (nI x) := ⟨8, tr_xon4 hx hp 7 0 8 (by omega) (by omega)⟩
theorem tr_bm (n : Nat) : n % 2 ≤ 1 := by omega
theorem tr_yrv4 {post : Int32 → Prop} {x : Nat} (hx : x < 128) (hp : post (nI (tr_rv x 7))) : ∀ e j n, j + e = 7 → e < n → wY_reversed_4 post (nI x) n (nI (tr_rv x j)) (nI j) := by
  intro e
  induction e with
  | zero =>
    intro j n hj hn
    obtain ⟨n, rfl⟩ := tr_S1 hn
    obtain rfl : j = 7 := by omega
    exact br_t (by decide) hp
  | succ e ih =>
    intro j n hj hn
    obtain ⟨n, rfl⟩ := tr_S1 hn
    refine br_f (nI_ge (a := j) (b := 7) (by omega) (by decide)) (nm_r (e' := nI (tr_rv x (j + 1))) ?_ (nm_r (nI_1 j) (ih (j + 1) n (by omega) (by omega))))
    have h6 : (6 : Int32) - nI j = nI (6 - j) := pk_sub (a := 6) (by omega)
    have hs := pk_shlN (n := x / 2 ^ j % 2) (nI (6 - j) &&& 31) (6 - j) (s_l _ (by omega)) (by
      have h1 := tr_bm (x / 2 ^ j)
      have h2 : 2 ^ (6 - j) < 128 := tr_p7 (by omega)
      have h3 : x / 2 ^ j % 2 * 2 ^ (6 - j) ≤ 1 * 2 ^ (6 - j) := Nat.mul_le_mul_right _ h1
      omega)
    rw [tr_sh hx (by omega), tr_a1, h6, hs, tr_orN]
    rfl
theorem tr_yrv {post : Int32 → Prop} {x : Nat} (hx : x < 128) (hp : post (nI (tr_rv x 7))) : wpY_reversed post (nI x) := ⟨8, tr_yrv4 hx hp 7 0 8 (by omega) (by omega)⟩
theorem tr_yrt2 {post : Int32 → Prop} {x : Nat} (hx : x < 128) (hp : post (nI (tr_rt x 11))) : ∀ e r n, r + e = 12 → e < n → r * r ≤ x → wY_root_2 post (nI x) n (nI r) := by
  intro e
  induction e with
  | zero =>
    intro r n hr hn hq
    obtain rfl : r = 12 := by omega
    omega
  | succ e ih =>
    intro r n hr hn hq
    obtain ⟨n, rfl⟩ := tr_S1 hn
    have hsq : (r + 1) * (r + 1) ≤ 12 * 12 := Nat.mul_le_mul (by omega) (by omega)
    have e1 : (nI r + 1) * (nI r + 1) = nI ((r + 1) * (r + 1)) := by rw [nI_1, pk_mul]
    refine pk_lt x ((r + 1) * (r + 1)) (fun h => ?_) (fun h => ?_) rfl e1
    · rw [tr_rtU x hx r (by omega) hq h] at hp
      exact hp
    · have : ¬ r = 11 := by
        intro z
        subst z
        omega
      exact br_f (nI_ge (a := r) (b := 12) (by omega) (by decide)) (nm_r (nI_1 r) (ih (r + 1) n (by omega) (by omega) h))
theorem tr_yrt {post : Int32 → Prop} {x : Nat} (hx : x < 128) (hp : post (nI (tr_rt x 11))) : wpY_root post (nI x) := ⟨13, tr_yrt2 hx hp 12 0 13 (by omega) (by omega) (by omega)⟩
theorem tr_xrt4 {post : Int32 → Prop} {x : Nat} (hx : x < 128) (hp : post (nI (tr_rt x 11))) : ∀ e j n, j + e = 11 → e < n → wX_rootOf_4 post (nI x) n (nI (tr_rt x j)) (nI (j + 1)) := by
  intro e
  induction e with
  | zero =>
    intro j n hj hn
    obtain ⟨n, rfl⟩ := tr_S1 hn
    obtain rfl : j = 11 := by omega
    exact br_t (by decide) hp
  | succ e ih =>
    intro j n hj hn
    obtain ⟨n, rfl⟩ := tr_S1 hn
    have hsq : (j + 1) * (j + 1) ≤ 12 * 12 := Nat.mul_le_mul (by omega) (by omega)
    have g := ih (j + 1) n (by omega) (by omega)
    have e0 : tr_rt x (j + 1) = if (j + 1) * (j + 1) ≤ x then j + 1 else tr_rt x j := rfl
    refine br_f (nI_ge (a := j + 1) (b := 12) (by omega) (by decide)) (pk_lt x ((j + 1) * (j + 1)) (fun h => nm_r (nI_1 (j + 1)) ?_) (fun h => nm_r (nI_1 (j + 1)) ?_) rfl (pk_mul _ _))
    · rw [e0, if_neg (by omega)] at g
      exact g
    · rw [e0, if_pos h] at g
      exact g
theorem tr_xrt {post : Int32 → Prop} {x : Nat} (hx : x < 128) (hp : post (nI (tr_rt x 11))) : wpX_rootOf post (nI x) := ⟨12, tr_xrt4 hx hp 11 0 12 (by omega) (by omega)⟩
theorem tr_sg {post : Int32 → Prop} {k x : Nat} (hk : k ≤ 4) (hx : x < 128) (hp : post (nI (tr_s k x))) : wpY_single post (nI k) (nI x) := by
  have hc : k = 0 ∨ k = 1 ∨ k = 2 ∨ k = 3 ∨ k = 4 := by omega
  rcases hc with rfl | rfl | rfl | rfl | rfl
  · exact br_t rfl (tr_v (tr_127 hx) hp)
  · exact br_f (by decide) (br_t (by decide) (tr_yon hx hp))
  · exact br_f (by decide) (br_f (by decide) (br_t (by decide) (tr_yrv hx hp)))
  · exact br_f (by decide) (br_f (by decide) (br_f (by decide) (br_t (by decide) (tr_yrt hx hp))))
  · refine br_f (by decide) (br_f (by decide) (br_f (by decide) (br_f (by decide) ⟨by decide, tr_v ?_ hp⟩)))
    have e : (2 : Int32) * nI x = nI (2 * x) := pk_mul 2 x
    rw [e]
    exact pk_rem (d := 128) (by omega) (by decide) (by decide)
/-! ===== the reference's apply ===== -/
theorem tr_y45 {post : Int32 → SY → Prop} {k i a b t : Nat} {al ah : Nat → Int32}
    (hk : k ≤ 4) (ht : t < 6) (hi : i < 6) (hb : b < 128) (ei : ah i = nI b)
    (hE : (∀ r, ¬ tr_set1 k a b r) → post (-2) (128, -1, al, ah))
    (hO : ∀ p q, q < 128 → tr_out (tr_set1 k a b) p q → post 0 (nI p, nI q, upd al t (nI p), upd ah t (nI q))) :
    ∀ e x n l m, x + e = b + 1 → e < n → a ≤ x → tr_acc (fun r => ∃ x', a ≤ x' ∧ x' < x ∧ r = tr_s k x') l m →
      wY_apply_45 post (nI t) (nI k) (nI i) n (nI x) l m al ah := by
  have ei' : ah (nI i).toNatClampNeg = nI b := by rw [tr_cl6 hi]; exact ei
  intro e
  induction e with
  | zero =>
    intro x n l m hx hn ha h
    obtain ⟨n, rfl⟩ := tr_S1 hn
    obtain rfl : x = b + 1 := by omega
    refine ⟨tr_in6 hi, br_t (by rw [ei']; exact nI_lt (by omega) (by omega)) ?_⟩
    exact tr_yK (S := tr_set1 k a b) ht h hE hO
  | succ e ih =>
    intro x n l m hx hn ha h
    obtain ⟨n, rfl⟩ := tr_S1 hn
    refine ⟨tr_in6 hi, br_f (by rw [ei']; exact nI_nlt (by omega) (by omega)) (tr_sg hk (by omega) ?_)⟩
    refine tr_res (S' := fun r => ∃ x', a ≤ x' ∧ x' < x + 1 ∧ r = tr_s k x') h (tr_sB hk (by omega)) (fun r => ?_) (fun l' m' h' => nm_r (nI_1 x) (ih (x + 1) n l' m' (by omega) (by omega) (by omega) h'))
    constructor
    · rintro ⟨x', z1, z2, z3⟩
      by_cases hxx : x' = x
      · subst hxx
        exact Or.inr z3
      · exact Or.inl ⟨x', z1, by omega, z3⟩
    · rintro (⟨x', z1, z2, z3⟩ | z)
      · exact ⟨x', z1, by omega, z3⟩
      · exact ⟨x, ha, by omega, z⟩
theorem tr_yP {post : Int32 → SY → Prop} {k i a b t : Nat} {s s' : Int32} {al ah : Nat → Int32}
    (hk : k ≤ 4) (ht : t < 6) (hi : i < 6) (hab : a ≤ b) (hb : b < 128) (e1 : al i = nI a) (e2 : ah i = nI b)
    (hO : ∀ p q, q < 128 → tr_out (tr_set1 k a b) p q → post 0 (nI p, nI q, upd al t (nI p), upd ah t (nI q))) :
    wpY_apply post (s, s', al, ah) (nI t) (nI k) (nI i) := by
  have e1' : al (nI i).toNatClampNeg = nI a := by rw [tr_cl6 hi]; exact e1
  unfold wpY_apply
  dsimp only
  refine tr_bdR ht ?_
  refine br_t rfl ?_
  refine tr_bdR hi ?_
  refine br_t rfl (br_f (nI_pos (by omega)) (br_t (nI_le (a := k) (b := 4) hk (by decide)) ⟨tr_in6 hi, nm_r e1' ⟨b + 1 - a + 1, ?_⟩⟩))
  refine tr_y45 (a := a) hk ht hi hb e2 (fun z => absurd ⟨a, Nat.le_refl _, by omega, rfl⟩ (z (tr_s k a))) hO (b + 1 - a) a _ _ _ (by omega) (by omega) (Nat.le_refl _) (Or.inl ⟨rfl, rfl, ?_⟩)
  rintro r ⟨x', z1, z2, z3⟩
  omega
end
section
/-! tables: the fewest and most ones, the least and greatest reversed number of a range -/
def tr_cm (a b : Nat) : Nat → Nat → Nat
  | 0, l => l
  | k + 1, l => tr_cm a b k (if a / 2 ^ k % 2 = 0 ∧ tr_up a k ≤ b then min l (tr_on (tr_up a k) 7) else l)
def tr_cx (a b : Nat) : Nat → Nat → Nat
  | 0, m => m
  | k + 1, m => tr_cx a b k (if b / 2 ^ k % 2 = 1 ∧ a ≤ tr_dn b k then max m (tr_on (tr_dn b k) 7) else m)
def tr_rf (a w j bits : Nat) : Nat := a + ((bits ||| w * 2 ^ j) + 128 - a) % 2 ^ (j + 1)
def tr_rx (a b w : Nat) : Nat → Nat → Nat → Nat → Nat
  | 0, _, _, out => out
  | e + 1, j, bits, out => tr_rx a b w e (j + 1) (bits ||| (if tr_rf a w j bits ≤ b then w else 1 - w) * 2 ^ j) (2 * out + (if tr_rf a w j bits ≤ b then w else 1 - w))
theorem tr_mnL {f : Nat → Nat} {g : Nat → Nat → Nat} (h0 : ∀ a, a < 128 → g a a = f a) (h1 : ∀ a, a < 128 → ∀ b, b < 127 → a ≤ b → g a (b + 1) = min (g a b) (f (b + 1))) {a : Nat} :
    ∀ b, a ≤ b → b < 128 → (∃ x, a ≤ x ∧ x ≤ b ∧ g a b = f x) ∧ ∀ x, a ≤ x → x ≤ b → g a b ≤ f x := by
  intro b
  induction b with
  | zero =>
    intro h hb
    obtain rfl : a = 0 := by omega
    refine ⟨⟨0, by omega, by omega, h0 0 (by omega)⟩, fun x _ hx => ?_⟩
    obtain rfl : x = 0 := by omega
    rw [h0 0 (by omega)]
    exact Nat.le_refl _
  | succ b ih =>
    intro h hb
    by_cases e : a = b + 1
    · subst e
      refine ⟨⟨b + 1, by omega, by omega, h0 _ hb⟩, fun x hx hx2 => ?_⟩
      obtain rfl : x = b + 1 := by omega
      rw [h0 _ hb]
      exact Nat.le_refl _
    · obtain ⟨⟨x, g1, g2, g3⟩, m⟩ := ih (by omega) (by omega)
      have q := h1 a (by omega) b (by omega) (by omega)
      refine ⟨?_, fun y hy hy2 => ?_⟩
      · by_cases c : g a b ≤ f (b + 1)
        · exact ⟨x, g1, by omega, by rw [q, ← g3]; omega⟩
        · exact ⟨b + 1, by omega, by omega, by rw [q]; omega⟩
      · by_cases c : y = b + 1
        · subst c
          omega
        · have := m y hy (by omega)
          omega
theorem tr_mxL {f : Nat → Nat} {g : Nat → Nat → Nat} (h0 : ∀ a, a < 128 → g a a = f a) (h1 : ∀ a, a < 128 → ∀ b, b < 127 → a ≤ b → g a (b + 1) = max (g a b) (f (b + 1))) {a : Nat} :
    ∀ b, a ≤ b → b < 128 → (∃ x, a ≤ x ∧ x ≤ b ∧ g a b = f x) ∧ ∀ x, a ≤ x → x ≤ b → f x ≤ g a b := by
  intro b
  induction b with
  | zero =>
    intro h hb
    obtain rfl : a = 0 := by omega
    refine ⟨⟨0, by omega, by omega, h0 0 (by omega)⟩, fun x _ hx => ?_⟩
    obtain rfl : x = 0 := by omega
    rw [h0 0 (by omega)]
    exact Nat.le_refl _
  | succ b ih =>
    intro h hb
    by_cases e : a = b + 1
    · subst e
      refine ⟨⟨b + 1, by omega, by omega, h0 _ hb⟩, fun x hx hx2 => ?_⟩
      obtain rfl : x = b + 1 := by omega
      rw [h0 _ hb]
      exact Nat.le_refl _
    · obtain ⟨⟨x, g1, g2, g3⟩, m⟩ := ih (by omega) (by omega)
      have q := h1 a (by omega) b (by omega) (by omega)
      refine ⟨?_, fun y hy hy2 => ?_⟩
      · by_cases c : f (b + 1) ≤ g a b
        · exact ⟨x, g1, by omega, by rw [q, ← g3]; omega⟩
        · exact ⟨b + 1, by omega, by omega, by rw [q]; omega⟩
      · by_cases c : y = b + 1
        · subst c
          omega
        · have := m y hy (by omega)
          omega
theorem tr_T1a : ∀ a, a < 128 → tr_cm a a 7 (tr_on a 7) = tr_on a 7 := by decide +kernel
theorem tr_T1b : ∀ a, a < 128 → ∀ b, b < 127 → a ≤ b → tr_cm a (b + 1) 7 (tr_on a 7) = min (tr_cm a b 7 (tr_on a 7)) (tr_on (b + 1) 7) := by decide +kernel
theorem tr_T2a : ∀ a, a < 128 → tr_cx a a 7 (tr_on a 7) = tr_on a 7 := by decide +kernel
theorem tr_T2b : ∀ a, a < 128 → ∀ b, b < 127 → a ≤ b → tr_cx a (b + 1) 7 (tr_on (b + 1) 7) = max (tr_cx a b 7 (tr_on b 7)) (tr_on (b + 1) 7) := by decide +kernel
theorem tr_T3a : ∀ a, a < 128 → tr_rx a a 0 7 0 0 0 = tr_rv a 7 := by decide +kernel
theorem tr_T3b : ∀ a, a < 128 → ∀ b, b < 127 → a ≤ b → tr_rx a (b + 1) 0 7 0 0 0 = min (tr_rx a b 0 7 0 0 0) (tr_rv (b + 1) 7) := by decide +kernel
theorem tr_T4a : ∀ a, a < 128 → tr_rx a a 1 7 0 0 0 = tr_rv a 7 := by decide +kernel
theorem tr_T4b : ∀ a, a < 128 → ∀ b, b < 127 → a ≤ b → tr_rx a (b + 1) 1 7 0 0 0 = max (tr_rx a b 1 7 0 0 0) (tr_rv (b + 1) 7) := by decide +kernel
theorem tr_outS {k a b p q : Nat} (hp : ∃ x, a ≤ x ∧ x ≤ b ∧ p = tr_s k x) (hq : ∃ x, a ≤ x ∧ x ≤ b ∧ q = tr_s k x) (h1 : ∀ x, a ≤ x → x ≤ b → p ≤ tr_s k x) (h2 : ∀ x, a ≤ x → x ≤ b → tr_s k x ≤ q) : tr_out (tr_set1 k a b) p q := by
  obtain ⟨x, z1, z2, z3⟩ := hp
  obtain ⟨y, y1, y2, y3⟩ := hq
  refine ⟨⟨x, z1, by omega, z3⟩, ⟨y, y1, by omega, y3⟩, ?_⟩
  rintro r ⟨w, w1, w2, rfl⟩
  exact ⟨h1 w w1 (by omega), h2 w w1 (by omega)⟩
theorem tr_q1 {a b : Nat} (hab : a ≤ b) (hb : b < 128) : tr_out (tr_set1 1 a b) (tr_cm a b 7 (tr_on a 7)) (tr_cx a b 7 (tr_on b 7)) := by
  have m := tr_mnL (f := fun x => tr_on x 7) (g := fun a b => tr_cm a b 7 (tr_on a 7)) tr_T1a tr_T1b b hab hb
  have x := tr_mxL (f := fun x => tr_on x 7) (g := fun a b => tr_cx a b 7 (tr_on b 7)) tr_T2a tr_T2b b hab hb
  exact tr_outS m.1 x.1 m.2 x.2
theorem tr_q2 {a b : Nat} (hab : a ≤ b) (hb : b < 128) : tr_out (tr_set1 2 a b) (tr_rx a b 0 7 0 0 0) (tr_rx a b 1 7 0 0 0) := by
  have m := tr_mnL (f := fun x => tr_rv x 7) (g := fun a b => tr_rx a b 0 7 0 0 0) tr_T3a tr_T3b b hab hb
  have x := tr_mxL (f := fun x => tr_rv x 7) (g := fun a b => tr_rx a b 1 7 0 0 0) tr_T4a tr_T4b b hab hb
  exact tr_outS m.1 x.1 m.2 x.2
theorem tr_q0 {a b : Nat} (hab : a ≤ b) : tr_out (tr_set1 0 a b) (127 - b) (127 - a) := by
  refine tr_outS ⟨b, hab, by omega, rfl⟩ ⟨a, by omega, hab, rfl⟩ (fun x h1 h2 => ?_) (fun x h1 h2 => ?_)
  · show _ ≤ 127 - x
    omega
  · show 127 - x ≤ _
    omega
theorem tr_q3 {a b : Nat} (hab : a ≤ b) : tr_out (tr_set1 3 a b) (tr_rt a 11) (tr_rt b 11) := by
  exact tr_outS ⟨a, by omega, hab, rfl⟩ ⟨b, hab, by omega, rfl⟩ (fun x h1 h2 => tr_rt_mono h1 11) (fun x h1 h2 => tr_rt_mono h2 11)
theorem tr_q4a {a b : Nat} (hab : a ≤ b) (h : b < 64) : tr_out (tr_set1 4 a b) (2 * a) (2 * b) := by
  refine tr_outS ⟨a, by omega, hab, ?_⟩ ⟨b, hab, by omega, ?_⟩ (fun x h1 h2 => ?_) (fun x h1 h2 => ?_)
  · show _ = 2 * a % 128
    omega
  · show _ = 2 * b % 128
    omega
  · show _ ≤ 2 * x % 128
    omega
  · show 2 * x % 128 ≤ _
    omega
theorem tr_q4b {a b : Nat} (hab : a ≤ b) (hb : b < 128) (h : 64 ≤ a) : tr_out (tr_set1 4 a b) (2 * a - 128) (2 * b - 128) := by
  refine tr_outS ⟨a, by omega, hab, ?_⟩ ⟨b, hab, by omega, ?_⟩ (fun x h1 h2 => ?_) (fun x h1 h2 => ?_)
  · show _ = 2 * a % 128
    omega
  · show _ = 2 * b % 128
    omega
  · show _ ≤ 2 * x % 128
    omega
  · show 2 * x % 128 ≤ _
    omega
theorem tr_q4c {a b : Nat} (h : a < 64) (h' : 64 ≤ b) : tr_out (tr_set1 4 a b) 0 126 := by
  refine tr_outS ⟨64, by omega, by omega, ?_⟩ ⟨63, by omega, by omega, ?_⟩ (fun x h1 h2 => ?_) (fun x h1 h2 => ?_)
  · rfl
  · rfl
  · exact Nat.zero_le _
  · show 2 * x % 128 ≤ _
    omega
end
section
/-! the component's apply -/
theorem tr_wRa {post : Int32 → Prop} {k a : Nat} (hk : k < 7) (ha : a < 128) (hp : ∀ r, (a / 2 ^ k % 2 = 0 → r = nI (tr_up a k)) → post r) : wpX_raised post (nI a) (nI (2 ^ k)) := hp _ (fun h => tr_rs k hk a ha h)
theorem tr_wLa {post : Int32 → Prop} {k a : Nat} (hk : k < 7) (ha : a < 128) (hp : ∀ r, (a / 2 ^ k % 2 = 1 → r = nI (tr_dn a k)) → post r) : wpX_lowered post (nI a) (nI (2 ^ k)) := hp _ (fun h => tr_lw k hk a ha h)
section
variable {post : SX → Prop} {a b : Nat} {s s' : Int32} {al ah : Nat → Int32}
theorem tr_c63 {J : Int32 → Int32 → Int32 → Prop} {k l m : Nat} {r10 : Int32} (hk : k < 7) (ha : a < 128) (hb : b < 128) (hm : m < 128) (h10 : b / 2 ^ k % 2 = 1 → r10 = nI (tr_dn b k))
    (hJ : J (nI l) (nI (if b / 2 ^ k % 2 = 1 ∧ a ≤ tr_dn b k then max m (tr_on (tr_dn b k) 7) else m)) (nI (tr_b k))) :
    wX_countOnes_63 post J (nI a) (nI b) (nI l) (nI m) (nI (2 ^ k)) r10 s s' al ah := by
  have hh := tr_half k hk
  rcases tr_bit (b / 2 ^ k) with hB | hB
  · rw [if_neg (by omega)] at hJ
    exact br_t (tr_z4 hk hb hB) ⟨tr_two, nm_r hh hJ⟩
  · have e := h10 hB
    subst e
    have hd := tr_dn_le b k
    refine br_f (tr_n4 hk hb hB) ?_
    by_cases g : a ≤ tr_dn b k
    · rw [if_pos ⟨hB, g⟩] at hJ
      have ho := tr_on8 (tr_dn b k) 7
      exact br_f (nI_nlt g (by omega)) (tr_xon (by omega) (tr_gr hm (by omega) ⟨tr_two, nm_r hh hJ⟩))
    · rw [if_neg (fun z => g z.2)] at hJ
      exact br_t (nI_lt (by omega) (by omega)) ⟨tr_two, nm_r hh hJ⟩
theorem tr_wCO (ha : a < 128) (hb : b < 128) : ∀ k, k ≤ 7 → ∀ n, k < n → ∀ l m, l < 128 → m < 128 → post (nI (tr_cm a b k l), nI (tr_cx a b k m), al, ah) →
    wX_countOnes_15 post (nI a) (nI b) s s' al ah n (nI l) (nI m) (nI (tr_b k)) := by
  intro k
  induction k with
  | zero =>
    intro _ n hn l m hl hm hp
    obtain ⟨n, rfl⟩ := tr_S1 hn
    exact br_t tr_b0 hp
  | succ k ih =>
    intro hk n hn l m hl hm hp
    obtain ⟨n, rfl⟩ := tr_S1 hn
    have hk' : k < 7 := by omega
    refine br_f (tr_bp hk') (tr_wRa hk' ha fun r9 h9 => tr_wLa hk' hb fun r10 h10 => ?_)
    have ho := tr_on8 (tr_dn b k) 7
    have ho' := tr_on8 (tr_up a k) 7
    have HM : (if b / 2 ^ k % 2 = 1 ∧ a ≤ tr_dn b k then max m (tr_on (tr_dn b k) 7) else m) < 128 := by
      by_cases z : b / 2 ^ k % 2 = 1 ∧ a ≤ tr_dn b k
      · rw [if_pos z]
        omega
      · rw [if_neg z]
        exact hm
    have C : ∀ L, L < 128 → (if a / 2 ^ k % 2 = 0 ∧ tr_up a k ≤ b then min l (tr_on (tr_up a k) 7) else l) = L →
        wX_countOnes_63 post (wX_countOnes_15 post (nI a) (nI b) s s' al ah n) (nI a) (nI b) (nI L) (nI m) (nI (2 ^ k)) r10 s s' al ah := by
      intro L hL e
      refine tr_c63 hk' ha hb hm h10 (ih (by omega) n (by omega) L _ hL HM ?_)
      rw [← e]
      exact hp
    rcases tr_bit (a / 2 ^ k) with hA | hA
    · have e9 := h9 hA
      subst e9
      have hu := tr_upB k hk' a ha hA
      refine br_t (tr_z4 hk' ha hA) ?_
      by_cases g : tr_up a k ≤ b
      · exact br_f (nI_nlt g (by omega)) (tr_xon hu (tr_ls hl (by omega) (C _ (by omega) (if_pos ⟨hA, g⟩))))
      · exact br_t (nI_lt (by omega) (by omega)) (C l hl (if_neg (fun z => g z.2)))
    · exact br_f (tr_n4 hk' ha hA) (C l hl (if_neg (fun z => by omega)))
theorem tr_xCO (ha : a < 128) (hb : b < 128) (hp : post (nI (tr_cm a b 7 (tr_on a 7)), nI (tr_cx a b 7 (tr_on b 7)), al, ah)) : wpX_countOnes post (s, s', al, ah) (nI a) (nI b) := by
  have h1 := tr_on8 a 7
  have h2 := tr_on8 b 7
  unfold wpX_countOnes
  dsimp only
  refine tr_xon ha ?_
  refine tr_xon hb ?_
  have g := tr_wCO (post := post) (s := s) (s' := s') (al := al) (ah := ah) ha hb 7 (Nat.le_refl _) 8 (by omega) (tr_on a 7) (tr_on b 7) (by omega) (by omega) hp
  rw [tr_64] at g
  exact ⟨8, g⟩
end
theorem tr_i32 {t a : Nat} (ha : a < 4294967296) : nI t - nI a = nI (t + 4294967296 - a) := by
  rw [← pk_sub (a := t + 4294967296) (b := a) (by omega), ← nI_add, show nI 4294967296 = 0 from by decide, Int32.add_zero]
theorem tr_m32 {t a j : Nat} (ha : a < 128) (hj : j < 7) : (t + 4294967296 - a) % 2 ^ (j + 1) = (t + 128 - a) % 2 ^ (j + 1) := by
  have hc : j = 0 ∨ j = 1 ∨ j = 2 ∨ j = 3 ∨ j = 4 ∨ j = 5 ∨ j = 6 := by omega
  rcases hc with rfl | rfl | rfl | rfl | rfl | rfl | rfl
  · show (t + 4294967296 - a) % 2 = (t + 128 - a) % 2
    omega
  · show (t + 4294967296 - a) % 4 = (t + 128 - a) % 4
    omega
  · show (t + 4294967296 - a) % 8 = (t + 128 - a) % 8
    omega
  · show (t + 4294967296 - a) % 16 = (t + 128 - a) % 16
    omega
  · show (t + 4294967296 - a) % 32 = (t + 128 - a) % 32
    omega
  · show (t + 4294967296 - a) % 64 = (t + 128 - a) % 64
    omega
  · show (t + 4294967296 - a) % 128 = (t + 128 - a) % 128
    omega
theorem tr_first {a w j bits : Nat} (ha : a < 128) (hj : j < 7) (hw : w ≤ 1) : nI a + (((nI bits ||| (nI w <<< (nI j &&& 31))) - nI a) &&& (((2 : Int32) <<< (nI j &&& 31)) - 1)) = nI (tr_rf a w j bits) := by
  have hp := tr_p7 hj
  have h1 : w * 2 ^ j ≤ 1 * 2 ^ j := Nat.mul_le_mul_right _ hw
  have s1 : nI w <<< (nI j &&& 31) = nI (w * 2 ^ j) := pk_shlN _ j (s_l j (by omega)) (by omega)
  have s2 : (2 : Int32) <<< (nI j &&& 31) = nI (2 * 2 ^ j) := pk_shlN (n := 2) _ j (s_l j (by omega)) (by omega)
  have s3 : nI (2 * 2 ^ j) - 1 = nI (2 * 2 ^ j - 1) := pk_sub (b := 1) (by have := tr_pp j; omega)
  have s4 : 2 * 2 ^ j = 2 ^ (j + 1) := by rw [Nat.pow_succ, Nat.mul_comm]
  rw [s1, s2, s3, tr_orN, tr_i32 (by omega), nx_and, s4, Nat.and_two_pow_sub_one_eq_mod, tr_m32 ha hj, nI_add]
  rfl
theorem tr_zb {z j : Nat} (hj : j < 7) (hz : z ≤ 1) : z * 2 ^ j < 2 ^ 7 := by
  have hp := tr_p7 hj
  have h1 : z * 2 ^ j ≤ 1 * 2 ^ j := Nat.mul_le_mul_right _ hz
  show _ < 128
  omega
theorem tr_rfB {a w j bits : Nat} (ha : a < 128) (hj : j < 7) : tr_rf a w j bits < 256 := by
  have h1 : ((bits ||| w * 2 ^ j) + 128 - a) % 2 ^ (j + 1) < 2 ^ (j + 1) := Nat.mod_lt _ (tr_pp _)
  have h2 : 2 ^ (j + 1) ≤ 2 ^ 7 := Nat.pow_le_pow_right (by decide) (by omega)
  unfold tr_rf
  have h3 : (2 : Nat) ^ 7 = 128 := rfl
  generalize ((bits ||| w * 2 ^ j) + 128 - a) % 2 ^ (j + 1) = M at *
  omega
theorem tr_r55 {post : Int32 → Prop} {J : Int32 → Int32 → Int32 → Prop} {x0 x1 x2 : Int32} {j bits out z : Nat} (hj : j < 7) (hz : z ≤ 1) (hJ : J (nI (bits ||| z * 2 ^ j)) (nI (2 * out + z)) (nI (j + 1))) :
    wX_reversed_55 post J x0 x1 x2 (nI bits) (nI out) (nI j) (nI z) := by
  have s1 : nI z <<< (nI j &&& 31) = nI (z * 2 ^ j) := pk_shlN _ j (s_l j (by omega)) (by have := tr_zb hj hz; omega)
  have e1 : nI bits ||| (nI z <<< (nI j &&& 31)) = nI (bits ||| z * 2 ^ j) := by rw [s1, tr_orN]
  have e2 : (2 : Int32) * nI out + nI z = nI (2 * out + z) := by
    show nI 2 * nI out + nI z = _
    rw [pk_mul, nI_add]
  exact nm_r e1 (nm_r e2 (nm_r (nI_1 j) hJ))
theorem tr_rxS (a b w e j bits out : Nat) : tr_rx a b w (e + 1) j bits out = tr_rx a b w e (j + 1) (bits ||| (if tr_rf a w j bits ≤ b then w else 1 - w) * 2 ^ j) (2 * out + (if tr_rf a w j bits ≤ b then w else 1 - w)) := by rw [tr_rx]
theorem tr_wRV {post : Int32 → Prop} {a b w : Nat} (ha : a < 128) (hb : b < 128) (hw : w ≤ 1) : ∀ e j bits out n, j + e = 7 → e < n → post (nI (tr_rx a b w e j bits out)) →
    wX_reversed_8 post (nI a) (nI b) (nI w) n (nI bits) (nI out) (nI j) := by
  intro e
  induction e with
  | zero =>
    intro j bits out n hj hn hp
    obtain ⟨n, rfl⟩ := tr_S1 hn
    obtain rfl : j = 7 := by omega
    exact br_t (by decide) hp
  | succ e ih =>
    intro j bits out n hj hn hp
    obtain ⟨n, rfl⟩ := tr_S1 hn
    have hf := tr_first (bits := bits) ha (show j < 7 by omega) hw
    have hB := tr_rfB (w := w) (bits := bits) ha (show j < 7 by omega)
    rw [tr_rxS] at hp
    generalize tr_rf a w j bits = F at *
    refine br_f (nI_ge (a := j) (b := 7) (by omega) (by decide)) (nm_e (nm_e (nm_r hf ?_)))
    refine pk_lt b F (fun h => ?_) (fun h => ?_)
    · rw [if_neg (by omega)] at hp
      rw [show (1 : Int32) - nI w = nI (1 - w) from pk_sub (a := 1) hw]
      exact tr_r55 (by omega) (by omega) (ih (j + 1) _ _ n (by omega) (by omega) hp)
    · rw [if_pos h] at hp
      exact tr_r55 (by omega) hw (ih (j + 1) _ _ n (by omega) (by omega) hp)
theorem tr_xRV {post : Int32 → Prop} {a b w : Nat} (ha : a < 128) (hb : b < 128) (hw : w ≤ 1) (hp : post (nI (tr_rx a b w 7 0 0 0))) : wpX_reversed post (nI a) (nI b) (nI w) := ⟨8, tr_wRV ha hb hw 7 0 0 0 8 (by omega) (by omega) hp⟩
theorem tr_xDb {post : SX → Prop} {a b : Nat} {s s' : Int32} {al ah : Nat → Int32} (hab : a ≤ b) (hb : b < 128)
    (hp : ∀ p q, q < 128 → tr_out (tr_set1 4 a b) p q → post (nI p, nI q, al, ah)) : wpX_doubled post (s, s', al, ah) (nI a) (nI b) := by
  have m1 : (2 : Int32) * nI a = nI (2 * a) := pk_mul 2 a
  have m2 : (2 : Int32) * nI b = nI (2 * b) := pk_mul 2 b
  simp only [wpX_doubled, wpX_keep, m1, m2]
  refine pk_le 64 b (fun h => pk_lt a 64 (fun h2 => ?_) (fun h2 => ?_)) (fun h => ?_)
  · exact hp 0 126 (by omega) (tr_q4c h2 h)
  · have g := hp (2 * a - 128) (2 * b - 128) (by omega) (tr_q4b hab hb h2)
    rw [← pk_sub (a := 2 * a) (b := 128) (by omega), ← pk_sub (a := 2 * b) (b := 128) (by omega)] at g
    exact g
  · exact hp _ _ (by omega) (tr_q4a hab h)
theorem tr_s4 {k a b p q : Nat} (hk : k ≤ 4) (hb : b < 128) (h : tr_out (tr_set1 k a b) p q) : q < 128 := by
  obtain ⟨x, z1, z2, z3⟩ := h.2.1
  rw [z3]
  exact tr_sB hk (by omega)
theorem tr_xP {post : Int32 → SX → Prop} {k i a b t : Nat} {s s' : Int32} {al ah : Nat → Int32}
    (hk : k ≤ 4) (ht : t < 6) (hi : i < 6) (hab : a ≤ b) (hb : b < 128) (e1 : al i = nI a) (e2 : ah i = nI b)
    (hO : ∀ p q, q < 128 → tr_out (tr_set1 k a b) p q → post 0 (nI p, nI q, upd al t (nI p), upd ah t (nI q))) :
    wpX_apply post (s, s', al, ah) (nI t) (nI k) (nI i) := by
  have e1' : al (nI i).toNatClampNeg = nI a := by rw [tr_cl6 hi]; exact e1
  have e2' : ah (nI i).toNatClampNeg = nI b := by rw [tr_cl6 hi]; exact e2
  have ha : a < 128 := by omega
  have hp : ∀ p q, tr_out (tr_set1 k a b) p q → wX_apply_152 post (nI t) (nI p) (nI q) al ah := fun p q h => tr_x152 ht (hO p q (tr_s4 hk hb h) h)
  unfold wpX_apply
  dsimp only
  refine tr_isR ht ?_
  refine br_f tr_1n0 ?_
  refine tr_isR hi ?_
  refine br_f tr_1n0 (br_f (nI_pos (by omega)) (br_t (nI_le (a := k) (b := 4) hk (by decide)) ⟨tr_in6 hi, nm_r e1' ⟨tr_in6 hi, nm_r e2' ?_⟩⟩))
  have hc : k = 0 ∨ k = 1 ∨ k = 2 ∨ k = 3 ∨ k = 4 := by omega
  rcases hc with rfl | rfl | rfl | rfl | rfl
  · refine br_t rfl ?_
    rw [tr_127 ha, tr_127 hb]
    exact hp _ _ (tr_q0 hab)
  · exact br_f (by decide) (br_t (by decide) (tr_xCO ha hb (hp _ _ (tr_q1 hab hb))))
  · refine br_f (by decide) (br_f (by decide) (br_t (by decide) ?_))
    refine tr_xRV (w := 0) ha hb (by omega) ?_
    refine tr_xRV (w := 1) ha hb (by omega) ?_
    exact hp _ _ (tr_q2 hab hb)
  · refine br_f (by decide) (br_f (by decide) (br_f (by decide) (br_t (by decide) ?_)))
    refine tr_xrt ha ?_
    refine tr_xrt hb ?_
    exact hp _ _ (tr_q3 hab)
  · refine br_f (by decide) (br_f (by decide) (br_f (by decide) (br_f (by decide) ?_)))
    exact tr_xDb hab hb (fun p q _ h => hp p q h)
end
section
/-! pairs without a common bit: the count by digits, and both walks -/
def tr_e (x y : Nat) : Nat := if x &&& y = 0 then 1 else 0
def tr_row (x : Nat) : Nat → Nat
  | 0 => 0
  | y + 1 => tr_row x y + tr_e x y
/-- the pairs (i, j) with i below x, j below y -/
def tr_cnt (y : Nat) : Nat → Nat
  | 0 => 0
  | x + 1 => tr_cnt y x + tr_row x y
def tr_ap (x y : Nat) : Nat → Nat → Nat → Nat → Nat → Nat
  | 0, b, u, v, f => b + u + v + f
  | j + 1, b, u, v, f => tr_ap x y j (if x / 2 ^ j % 2 * (y / 2 ^ j % 2) = 1 then 0 else b) ((if x / 2 ^ j % 2 = 1 then u else 2 * u) + y / 2 ^ j % 2 * b)
      ((if y / 2 ^ j % 2 = 1 then v else 2 * v) + x / 2 ^ j % 2 * b) (3 * f + 2 * (x / 2 ^ j % 2) * u + 2 * (y / 2 ^ j % 2) * v + x / 2 ^ j % 2 * (y / 2 ^ j % 2) * b)
theorem tr_eC (x y : Nat) : tr_e x y = tr_e y x := by
  unfold tr_e
  rw [Nat.and_comm]
theorem tr_andz {A C X Y : Nat} (hx : A / 2 = X) (hy : C / 2 = Y) : A &&& C = 0 ↔ X &&& Y = 0 ∧ ¬ (A % 2 = 1 ∧ C % 2 = 1) := by
  have h1 : (A &&& C) / 2 = X &&& Y := by rw [Nat.and_div_two, hx, hy]
  have h2 : (A &&& C) % 2 = 1 ↔ A % 2 = 1 ∧ C % 2 = 1 := Nat.and_mod_two_eq_one
  generalize A &&& C = U at *
  generalize X &&& Y = V at *
  omega
theorem tr_e00 (X Y : Nat) : tr_e (2 * X) (2 * Y) = tr_e X Y := by
  have h := tr_andz (A := 2 * X) (C := 2 * Y) (X := X) (Y := Y) (by omega) (by omega)
  have h2 : ¬ (2 * X % 2 = 1 ∧ 2 * Y % 2 = 1) := by omega
  unfold tr_e
  simp only [h, h2, not_false_eq_true, and_true]
theorem tr_e01 (X Y : Nat) : tr_e (2 * X) (2 * Y + 1) = tr_e X Y := by
  have h := tr_andz (A := 2 * X) (C := 2 * Y + 1) (X := X) (Y := Y) (by omega) (by omega)
  have h2 : ¬ (2 * X % 2 = 1 ∧ (2 * Y + 1) % 2 = 1) := by omega
  unfold tr_e
  simp only [h, h2, not_false_eq_true, and_true]
theorem tr_e10 (X Y : Nat) : tr_e (2 * X + 1) (2 * Y) = tr_e X Y := by rw [tr_eC, tr_e01, tr_eC]
theorem tr_e11 (X Y : Nat) : tr_e (2 * X + 1) (2 * Y + 1) = 0 := by
  have h := tr_andz (A := 2 * X + 1) (C := 2 * Y + 1) (X := X) (Y := Y) (by omega) (by omega)
  unfold tr_e
  rw [if_neg]
  intro z
  have := (h.mp z).2
  omega
theorem tr_r0 (X : Nat) : ∀ Y, tr_row (2 * X) (2 * Y) = 2 * tr_row X Y := by
  intro Y
  induction Y with
  | zero => rfl
  | succ Y ih =>
    show tr_row (2 * X) (2 * Y) + tr_e (2 * X) (2 * Y) + tr_e (2 * X) (2 * Y + 1) = 2 * (tr_row X Y + tr_e X Y)
    rw [ih, tr_e00, tr_e01]
    omega
theorem tr_r1 (X : Nat) : ∀ Y, tr_row (2 * X + 1) (2 * Y) = tr_row X Y := by
  intro Y
  induction Y with
  | zero => rfl
  | succ Y ih =>
    show tr_row (2 * X + 1) (2 * Y) + tr_e (2 * X + 1) (2 * Y) + tr_e (2 * X + 1) (2 * Y + 1) = tr_row X Y + tr_e X Y
    rw [ih, tr_e10, tr_e11]
    omega
theorem tr_r01 (X Y : Nat) : tr_row (2 * X) (2 * Y + 1) = 2 * tr_row X Y + tr_e X Y := by
  show tr_row (2 * X) (2 * Y) + tr_e (2 * X) (2 * Y) = _
  rw [tr_r0, tr_e00]
theorem tr_r11 (X Y : Nat) : tr_row (2 * X + 1) (2 * Y + 1) = tr_row X Y + tr_e X Y := by
  show tr_row (2 * X + 1) (2 * Y) + tr_e (2 * X + 1) (2 * Y) = _
  rw [tr_r1, tr_e10]
theorem tr_c0 (Y : Nat) : ∀ X, tr_cnt (2 * Y) (2 * X) = 3 * tr_cnt Y X := by
  intro X
  induction X with
  | zero => rfl
  | succ X ih =>
    show tr_cnt (2 * Y) (2 * X) + tr_row (2 * X) (2 * Y) + tr_row (2 * X + 1) (2 * Y) = 3 * (tr_cnt Y X + tr_row X Y)
    rw [ih, tr_r0, tr_r1]
    omega
theorem tr_c1 (Y : Nat) : ∀ X, tr_cnt (2 * Y + 1) (2 * X) = 3 * tr_cnt Y X + 2 * tr_row Y X := by
  intro X
  induction X with
  | zero => rfl
  | succ X ih =>
    show tr_cnt (2 * Y + 1) (2 * X) + tr_row (2 * X) (2 * Y + 1) + tr_row (2 * X + 1) (2 * Y + 1) = 3 * (tr_cnt Y X + tr_row X Y) + 2 * (tr_row Y X + tr_e Y X)
    rw [ih, tr_r01, tr_r11, tr_eC Y X]
    omega
theorem tr_cS (y : Nat) : ∀ x, tr_cnt (y + 1) x = tr_cnt y x + tr_row y x := by
  intro x
  induction x with
  | zero => rfl
  | succ x ih =>
    show tr_cnt (y + 1) x + (tr_row x y + tr_e x y) = tr_cnt y x + tr_row x y + (tr_row y x + tr_e y x)
    rw [ih, tr_eC y x]
    omega
theorem tr_cZ : ∀ x, tr_cnt 0 x = 0 := by
  intro x
  induction x with
  | zero => rfl
  | succ x ih =>
    show tr_cnt 0 x + 0 = 0
    rw [ih]
/-- one digit more -/
theorem tr_dig (A C : Nat) :
    (if A % 2 * (C % 2) = 1 then 0 else tr_e (A / 2) (C / 2)) = tr_e A C ∧
    (if A % 2 = 1 then tr_row (A / 2) (C / 2) else 2 * tr_row (A / 2) (C / 2)) + C % 2 * tr_e (A / 2) (C / 2) = tr_row A C ∧
    (if C % 2 = 1 then tr_row (C / 2) (A / 2) else 2 * tr_row (C / 2) (A / 2)) + A % 2 * tr_e (A / 2) (C / 2) = tr_row C A ∧
    3 * tr_cnt (C / 2) (A / 2) + 2 * (A % 2) * tr_row (A / 2) (C / 2) + 2 * (C % 2) * tr_row (C / 2) (A / 2) + A % 2 * (C % 2) * tr_e (A / 2) (C / 2) = tr_cnt C A := by
  obtain ⟨X, hX⟩ : ∃ X, A = 2 * X ∨ A = 2 * X + 1 := ⟨A / 2, by omega⟩
  obtain ⟨Y, hY⟩ : ∃ Y, C = 2 * Y ∨ C = 2 * Y + 1 := ⟨C / 2, by omega⟩
  have x0 : 2 * X % 2 = 0 := by omega
  have x1 : (2 * X + 1) % 2 = 1 := by omega
  have x2 : 2 * X / 2 = X := by omega
  have x3 : (2 * X + 1) / 2 = X := by omega
  have y0 : 2 * Y % 2 = 0 := by omega
  have y1 : (2 * Y + 1) % 2 = 1 := by omega
  have y2 : 2 * Y / 2 = Y := by omega
  have y3 : (2 * Y + 1) / 2 = Y := by omega
  have n01 : ¬ (0 : Nat) = 1 := by decide
  rcases hX with rfl | rfl <;> rcases hY with rfl | rfl
  · rw [x0, x2, y0, y2, if_neg (by decide), if_neg n01, if_neg n01, tr_e00, tr_r0, tr_r0, tr_c0]
    refine ⟨rfl, ?_, ?_, ?_⟩ <;> omega
  · rw [x0, x2, y1, y3, if_neg (by decide), if_neg n01, if_pos rfl, tr_e01, tr_r01, tr_r1, tr_c1]
    refine ⟨rfl, ?_, ?_, ?_⟩ <;> omega
  · have e : tr_cnt (2 * Y) (2 * X + 1) = tr_cnt (2 * Y) (2 * X) + tr_row (2 * X) (2 * Y) := rfl
    rw [x1, x3, y0, y2, if_neg (by decide), if_pos rfl, if_neg n01, tr_e10, tr_r1, tr_r01, e, tr_c0, tr_r0, tr_eC Y X]
    refine ⟨rfl, ?_, ?_, ?_⟩ <;> omega
  · have e : tr_cnt (2 * Y + 1) (2 * X + 1) = tr_cnt (2 * Y + 1) (2 * X) + tr_row (2 * X) (2 * Y + 1) := rfl
    rw [x1, x3, y1, y3, if_pos rfl, if_pos rfl, if_pos rfl, tr_e11, tr_r11, tr_r11, e, tr_c1, tr_r01, tr_eC Y X]
    refine ⟨rfl, ?_, ?_, ?_⟩ <;> omega
theorem tr_apL (x y : Nat) : ∀ j, tr_ap x y j (tr_e (x / 2 ^ j) (y / 2 ^ j)) (tr_row (x / 2 ^ j) (y / 2 ^ j)) (tr_row (y / 2 ^ j) (x / 2 ^ j)) (tr_cnt (y / 2 ^ j) (x / 2 ^ j)) = tr_cnt (y + 1) (x + 1) := by
  intro j
  induction j with
  | zero =>
    rw [Nat.pow_zero, Nat.div_one, Nat.div_one]
    show tr_e x y + tr_row x y + tr_row y x + tr_cnt y x = tr_cnt (y + 1) x + (tr_row x y + tr_e x y)
    rw [tr_cS]
    omega
  | succ j ih =>
    obtain ⟨d1, d2, d3, d4⟩ := tr_dig (x / 2 ^ j) (y / 2 ^ j)
    rw [tr_dd, tr_dd]
    show tr_ap x y j _ _ _ _ = _
    rw [d1, d2, d3, d4]
    exact ih
theorem tr_ap7 {x y : Nat} (hx : x < 128) (hy : y < 128) : tr_ap x y 7 1 0 0 0 = tr_cnt (y + 1) (x + 1) := by
  have h := tr_apL x y 7
  rw [Nat.div_eq_of_lt (show x < 2 ^ 7 from hx), Nat.div_eq_of_lt (show y < 2 ^ 7 from hy)] at h
  exact h
end
section
/-! the walks of apart -/
theorem tr_108 {post : Int32 → Prop} {J : Int32 → Int32 → Int32 → Int32 → Int32 → Prop} {x0 x1 x3 x5 x6 : Int32} {b p q z : Nat} (hp1 : p ≤ 1) (hq1 : q ≤ 1)
    (hJ : J (nI (if p * q = 1 then 0 else b)) x3 (nI (z + p * b)) x5 (x6 + (-1))) : wX_apartUpTo_108 post J x0 x1 (nI b) x3 x5 x6 (nI p) (nI q) (nI z) := by
  have h1 : p * q ≤ 1 * 1 := Nat.mul_le_mul hp1 hq1
  have e1 : nI z + nI p * nI b = nI (z + p * b) := by rw [pk_mul, nI_add]
  refine nm_r e1 (pk_eq (p * q) 1 (fun h => ?_) (fun h => ?_) (pk_mul p q))
  · rw [if_pos h] at hJ
    exact nm_e hJ
  · rw [if_neg h] at hJ
    exact nm_e hJ
theorem tr_87 {post : Int32 → Prop} {J : Int32 → Int32 → Int32 → Int32 → Int32 → Prop} {x0 x1 x5 x6 : Int32} {b p q v z : Nat} (hp1 : p ≤ 1) (hq1 : q ≤ 1)
    (hJ : J (nI (if p * q = 1 then 0 else b)) (nI (z + q * b)) (nI ((if q = 1 then v else 2 * v) + p * b)) x5 (x6 + (-1))) : wX_apartUpTo_87 post J x0 x1 (nI b) (nI v) x5 x6 (nI p) (nI q) (nI z) := by
  have e1 : nI z + nI q * nI b = nI (z + q * b) := by rw [pk_mul, nI_add]
  have e2 : (2 : Int32) * nI v = nI (2 * v) := pk_mul 2 v
  refine nm_r e1 (pk_eq q 1 (fun h => ?_) (fun h => ?_))
  · rw [if_pos h] at hJ
    exact tr_108 hp1 hq1 hJ
  · rw [if_neg h] at hJ
    rw [e2]
    exact tr_108 hp1 hq1 hJ
theorem tr_w24 {post : Int32 → Prop} {x y : Nat} (hx : x < 128) (hy : y < 128) : ∀ j, j ≤ 7 → ∀ n, j < n → ∀ b u v f, post (nI (tr_ap x y j b u v f)) →
    wX_apartUpTo_24 post (nI x) (nI y) n (nI b) (nI u) (nI v) (nI f) (nI j + (-1)) := by
  intro j
  induction j with
  | zero =>
    intro _ n hn b u v f hp
    obtain ⟨n, rfl⟩ := tr_S1 hn
    refine br_t (by decide) ?_
    rw [nI_add, nI_add, nI_add]
    exact hp
  | succ j ih =>
    intro hj n hn b u v f hp
    obtain ⟨n, rfl⟩ := tr_S1 hn
    rw [pk_m1]
    have hp1 := tr_bm (x / 2 ^ j)
    have hq1 := tr_bm (y / 2 ^ j)
    have ex : ((nI x).toUInt32 >>> ((nI j).toUInt32 &&& Int32.toUInt32 31)).toInt32 &&& 1 = nI (x / 2 ^ j % 2) := by rw [tr_ush hx (by omega), tr_a1]
    have ey : ((nI y).toUInt32 >>> ((nI j).toUInt32 &&& Int32.toUInt32 31)).toInt32 &&& 1 = nI (y / 2 ^ j % 2) := by rw [tr_ush hy (by omega), tr_a1]
    have g := ih (by omega) n (by omega) _ _ _ _ hp
    generalize x / 2 ^ j % 2 = p at *
    generalize y / 2 ^ j % 2 = q at *
    have ef : ((3 * nI f + (2 * nI p) * nI u) + (2 * nI q) * nI v) + (nI p * nI q) * nI b = nI (3 * f + 2 * p * u + 2 * q * v + p * q * b) := by
      show ((nI 3 * nI f + (nI 2 * nI p) * nI u) + (nI 2 * nI q) * nI v) + (nI p * nI q) * nI b = _
      simp only [pk_mul, nI_add]
    have e2 : (2 : Int32) * nI u = nI (2 * u) := pk_mul 2 u
    refine br_f (nI_pos (by omega)) (nm_r ex (nm_r ey (nm_r ef (pk_eq p 1 (fun h => ?_) (fun h => ?_)))))
    · rw [if_pos h] at g
      exact tr_87 hp1 hq1 g
    · rw [if_neg h] at g
      rw [e2]
      exact tr_87 hp1 hq1 g
theorem tr_up2 {post : Int32 → Prop} {x y : Nat} (hx : x ≤ 128) (hy : y ≤ 128) (hp : post (nI (tr_cnt y x))) : wpX_apartUpTo post (nI x - 1) (nI y - 1) := by
  have n1 : nI 0 - 1 < 0 := by decide
  have n2 : ¬ 0 ≤ nI 0 - 1 := by decide
  rcases Nat.eq_zero_or_pos x with h | h
  · subst h
    exact br_t n1 hp
  · obtain ⟨x, rfl⟩ : ∃ z, x = z + 1 := ⟨x - 1, by omega⟩
    rw [nI_pred]
    refine br_f (nI_pos (by omega)) ?_
    rcases Nat.eq_zero_or_pos y with h2 | h2
    · subst h2
      rw [tr_cZ] at hp
      exact br_f n2 hp
    · obtain ⟨y, rfl⟩ : ∃ z, y = z + 1 := ⟨y - 1, by omega⟩
      rw [nI_pred]
      refine br_t (nI_pos' (by omega)) ⟨8, ?_⟩
      rw [← tr_ap7 (by omega) (by omega)] at hp
      exact tr_w24 (by omega) (by omega) 7 (Nat.le_refl _) 8 (by omega) 1 0 0 0 hp
theorem tr_xT {post : Int32 → Prop} {i j a b c d : Nat} {s s' : Int32} {al ah : Nat → Int32} (hi : i < 6) (hj : j < 6) (hab : a ≤ b) (hb : b < 128) (hcd : c ≤ d) (hd : d < 128)
    (e1 : al i = nI a) (e2 : ah i = nI b) (e3 : al j = nI c) (e4 : ah j = nI d)
    (hp : post (nI (tr_cnt (d + 1) (b + 1)) + nI (tr_cnt c a) - nI (tr_cnt (d + 1) a) - nI (tr_cnt c (b + 1)))) : wpX_apart post (s, s', al, ah) (nI i) (nI j) := by
  unfold wpX_apart
  dsimp only
  rw [tr_cl6 hi, tr_cl6 hj, e1, e2, e3, e4, ← nI_pred b, ← nI_pred d]
  have i1 := tr_in6 hi
  have i2 := tr_in6 hj
  refine tr_isR hi ?_
  refine br_f tr_1n0 ?_
  refine tr_isR hj ?_
  refine br_f tr_1n0 ⟨i1, i2, ?_⟩
  refine tr_up2 (by omega) (by omega) ⟨i1, i2, ?_⟩
  refine tr_up2 (by omega) (by omega) (nm_e ⟨i1, i2, ?_⟩)
  refine tr_up2 (by omega) (by omega) ⟨i1, i2, ?_⟩
  exact tr_up2 (by omega) (by omega) hp
section
variable {post : Int32 → Prop} {i j a b c d : Nat} {s s' : Int32} {al ah : Nat → Int32}
theorem tr_y45a {J : Int32 → Int32 → Prop} {x1 : Int32} {x : Nat} (hj : j < 6) (hx : x < 128) (hd : d < 128) (eh : ah j = nI d) :
    ∀ e y n N, y + e = d + 1 → e < n → (∀ N', N' + tr_row x y = N + tr_row x (d + 1) → J (nI N') (nI (x + 1))) → wY_apart_45 post J x1 (nI j) (nI x) s s' al ah n (nI N) (nI y) := by
  have eh' : ah (nI j).toNatClampNeg = nI d := by rw [tr_cl6 hj]; exact eh
  intro e
  induction e with
  | zero =>
    intro y n N hy hn hJ
    obtain ⟨n, rfl⟩ := tr_S1 hn
    obtain rfl : y = d + 1 := by omega
    exact ⟨tr_in6 hj, br_t (by rw [eh']; exact nI_lt (by omega) (by omega)) (nm_r (nI_1 x) (hJ N rfl))⟩
  | succ e ih =>
    intro y n N hy hn hJ
    obtain ⟨n, rfl⟩ := tr_S1 hn
    have hl : x &&& y ≤ x := Nat.and_le_left
    have er : tr_row x (y + 1) = tr_row x y + tr_e x y := rfl
    refine ⟨tr_in6 hj, br_f (by rw [eh']; exact nI_nlt (by omega) (by omega)) (pk_eq (x &&& y) 0 (fun h => ?_) (fun h => ?_) (nx_and x y))⟩
    · have ee : tr_e x y = 1 := if_pos h
      refine nm_r (nI_1 N) (nm_r (nI_1 y) (ih (y + 1) n (N + 1) (by omega) (by omega) (fun N' hN => hJ N' ?_)))
      omega
    · have ee : tr_e x y = 0 := if_neg h
      refine nm_r (nI_1 y) (ih (y + 1) n N (by omega) (by omega) (fun N' hN => hJ N' ?_))
      omega
theorem tr_y26 (hi : i < 6) (hj : j < 6) (hb : b < 128) (hcd : c ≤ d) (hd : d < 128) (ei : ah i = nI b) (el : al j = nI c) (eh : ah j = nI d)
    (hp : ∀ N, N + tr_cnt c (b + 1) + tr_cnt (d + 1) a = tr_cnt (d + 1) (b + 1) + tr_cnt c a → post (nI N)) :
    ∀ e x n N, x + e = b + 1 → e < n → N + tr_cnt c x + tr_cnt (d + 1) a = tr_cnt (d + 1) x + tr_cnt c a → wY_apart_26 post (nI i) (nI j) s s' al ah n (nI N) (nI x) := by
  have ei' : ah (nI i).toNatClampNeg = nI b := by rw [tr_cl6 hi]; exact ei
  have el' : al (nI j).toNatClampNeg = nI c := by rw [tr_cl6 hj]; exact el
  intro e
  induction e with
  | zero =>
    intro x n N hx hn h
    obtain ⟨n, rfl⟩ := tr_S1 hn
    obtain rfl : x = b + 1 := by omega
    exact ⟨tr_in6 hi, br_t (by rw [ei']; exact nI_lt (by omega) (by omega)) (hp N h)⟩
  | succ e ih =>
    intro x n N hx hn h
    obtain ⟨n, rfl⟩ := tr_S1 hn
    refine ⟨tr_in6 hi, br_f (by rw [ei']; exact nI_nlt (by omega) (by omega)) ⟨tr_in6 hj, nm_r el' ⟨d + 1 - c + 1, ?_⟩⟩⟩
    refine tr_y45a hj (by omega) hd eh (d + 1 - c) c _ N (by omega) (by omega) (fun N' hN => ih (x + 1) n N' (by omega) (by omega) ?_)
    have q1 : tr_cnt c (x + 1) = tr_cnt c x + tr_row x c := rfl
    have q2 : tr_cnt (d + 1) (x + 1) = tr_cnt (d + 1) x + tr_row x (d + 1) := rfl
    omega
theorem tr_yT (hi : i < 6) (hj : j < 6) (hab : a ≤ b) (hb : b < 128) (hcd : c ≤ d) (hd : d < 128) (e1 : al i = nI a) (e2 : ah i = nI b) (e3 : al j = nI c) (e4 : ah j = nI d)
    (hp : ∀ N, N + tr_cnt c (b + 1) + tr_cnt (d + 1) a = tr_cnt (d + 1) (b + 1) + tr_cnt c a → post (nI N)) : wpY_apart post (s, s', al, ah) (nI i) (nI j) := by
  have e1' : al (nI i).toNatClampNeg = nI a := by rw [tr_cl6 hi]; exact e1
  unfold wpY_apart
  dsimp only
  refine tr_bdR hi ?_
  refine br_t rfl ?_
  refine tr_bdR hj ?_
  refine br_t rfl ⟨tr_in6 hi, nm_r e1' ⟨b + 1 - a + 1, ?_⟩⟩
  exact tr_y26 (a := a) hi hj hb hcd hd e2 e3 e4 hp (b + 1 - a) a _ 0 (by omega) (by omega) (by omega)
end
end
section
/-! less on both sides -/
def tr_lsI (V : Nat → Nat → Prop) (f g : Int32) : Prop :=
  ((f = 1 ∧ ∀ x y, V x y → x < y) ∨ (f = 0 ∧ ∃ x y, V x y ∧ y ≤ x)) ∧ ((g = 0 ∧ ∀ x y, V x y → y ≤ x) ∨ (g = 1 ∧ ∃ x y, V x y ∧ x < y))
theorem tr_lsA {V V' : Nat → Nat → Prop} {f g : Int32} {x y : Nat} (h : tr_lsI V f g) (e : ∀ x' y', V' x' y' ↔ V x' y' ∨ (x' = x ∧ y' = y)) (hxy : y ≤ x) : tr_lsI V' 0 g := by
  refine ⟨Or.inr ⟨rfl, x, y, (e x y).mpr (Or.inr ⟨rfl, rfl⟩), hxy⟩, ?_⟩
  rcases h.2 with ⟨h1, h2⟩ | ⟨h1, x', y', h2, h3⟩
  · refine Or.inl ⟨h1, fun x' y' z => ?_⟩
    rcases (e x' y').mp z with z | ⟨rfl, rfl⟩
    · exact h2 x' y' z
    · exact hxy
  · exact Or.inr ⟨h1, x', y', (e x' y').mpr (Or.inl h2), h3⟩
theorem tr_lsB {V V' : Nat → Nat → Prop} {f g : Int32} {x y : Nat} (h : tr_lsI V f g) (e : ∀ x' y', V' x' y' ↔ V x' y' ∨ (x' = x ∧ y' = y)) (hxy : x < y) : tr_lsI V' f 1 := by
  refine ⟨?_, Or.inr ⟨rfl, x, y, (e x y).mpr (Or.inr ⟨rfl, rfl⟩), hxy⟩⟩
  rcases h.1 with ⟨h1, h2⟩ | ⟨h1, x', y', h2, h3⟩
  · refine Or.inl ⟨h1, fun x' y' z => ?_⟩
    rcases (e x' y').mp z with z | ⟨rfl, rfl⟩
    · exact h2 x' y' z
    · exact hxy
  · exact Or.inr ⟨h1, x', y', (e x' y').mpr (Or.inl h2), h3⟩
theorem tr_lsC {V V' : Nat → Nat → Prop} {f g : Int32} (e : ∀ x' y', V x' y' ↔ V' x' y') (h : tr_lsI V f g) : tr_lsI V' f g := by
  have : V = V' := funext fun x => funext fun y => propext (e x y)
  rw [← this]
  exact h
def tr_lr (a b c d : Nat) : Int32 := if b < c then 1 else if a < d then 2 else 0
section
variable {post : Int32 → Prop} {i j a b c d : Nat} {s s' : Int32} {al ah : Nat → Int32}
theorem tr_y48 {J : Int32 → Int32 → Int32 → Prop} {V0 : Nat → Nat → Prop} {x1 : Int32} {x : Nat} (hj : j < 6) (hx : x < 128) (hd : d < 128) (eh : ah j = nI d)
    (hJ : ∀ f g, tr_lsI (fun x' y => V0 x' y ∨ (x' = x ∧ c ≤ y ∧ y < d + 1)) f g → J f g (nI (x + 1))) :
    ∀ e y n f g, y + e = d + 1 → e < n → c ≤ y → tr_lsI (fun x' y' => V0 x' y' ∨ (x' = x ∧ c ≤ y' ∧ y' < y)) f g → wY_less_48 post J x1 (nI j) (nI x) s s' al ah n f g (nI y) := by
  have eh' : ah (nI j).toNatClampNeg = nI d := by rw [tr_cl6 hj]; exact eh
  intro e
  induction e with
  | zero =>
    intro y n f g hy hn hc h
    obtain ⟨n, rfl⟩ := tr_S1 hn
    obtain rfl : y = d + 1 := by omega
    exact ⟨tr_in6 hj, br_t (by rw [eh']; exact nI_lt (by omega) (by omega)) (nm_r (nI_1 x) (hJ f g h))⟩
  | succ e ih =>
    intro y n f g hy hn hc h
    obtain ⟨n, rfl⟩ := tr_S1 hn
    have ee : ∀ x' y', (V0 x' y' ∨ (x' = x ∧ c ≤ y' ∧ y' < y + 1)) ↔ (V0 x' y' ∨ (x' = x ∧ c ≤ y' ∧ y' < y)) ∨ (x' = x ∧ y' = y) := by
      intro x' y'
      constructor
      · rintro (z | ⟨z1, z2, z3⟩)
        · exact Or.inl (Or.inl z)
        · by_cases q : y' = y
          · exact Or.inr ⟨z1, q⟩
          · exact Or.inl (Or.inr ⟨z1, z2, by omega⟩)
      · rintro ((z | ⟨z1, z2, z3⟩) | ⟨z1, z2⟩)
        · exact Or.inl z
        · exact Or.inr ⟨z1, z2, by omega⟩
        · exact Or.inr ⟨z1, by omega, by omega⟩
    refine ⟨tr_in6 hj, br_f (by rw [eh']; exact nI_nlt (by omega) (by omega)) (pk_le y x (fun hyx => ?_) (fun hyx => ?_))⟩
    · exact nm_r (nI_1 y) (ih (y + 1) n 0 g (by omega) (by omega) (by omega) (tr_lsA h ee hyx))
    · exact nm_r (nI_1 y) (ih (y + 1) n f 1 (by omega) (by omega) (by omega) (tr_lsB h ee hyx))
theorem tr_y29 (hi : i < 6) (hj : j < 6) (hab : a ≤ b) (hb : b < 128) (hcd : c ≤ d) (hd : d < 128) (ei : ah i = nI b) (el : al j = nI c) (eh : ah j = nI d)
    (hp : post (tr_lr a b c d)) :
    ∀ e x n f g, x + e = b + 1 → e < n → a ≤ x → tr_lsI (fun x' y => (a ≤ x' ∧ x' < x) ∧ c ≤ y ∧ y < d + 1) f g → wY_less_29 post (nI i) (nI j) s s' al ah n f g (nI x) := by
  have ei' : ah (nI i).toNatClampNeg = nI b := by rw [tr_cl6 hi]; exact ei
  have el' : al (nI j).toNatClampNeg = nI c := by rw [tr_cl6 hj]; exact el
  intro e
  induction e with
  | zero =>
    intro x n f g hx hn ha h
    obtain ⟨n, rfl⟩ := tr_S1 hn
    obtain rfl : x = b + 1 := by omega
    refine ⟨tr_in6 hi, br_t (by rw [ei']; exact nI_lt (by omega) (by omega)) ?_⟩
    obtain ⟨h1, h2⟩ := h
    unfold tr_lr at hp
    by_cases hbc : b < c
    · rw [if_pos hbc] at hp
      rcases h1 with ⟨rfl, h1⟩ | ⟨_, x, y, ⟨⟨z1, z2⟩, z3, z4⟩, z5⟩
      · exact br_f tr_1n0 hp
      · omega
    · rw [if_neg hbc] at hp
      have q1 : f = 0 := by
        rcases h1 with ⟨_, h1⟩ | ⟨h1, _⟩
        · have := h1 b c ⟨⟨by omega, by omega⟩, by omega, by omega⟩
          omega
        · exact h1
      refine br_t q1 ?_
      by_cases had : a < d
      · rw [if_pos had] at hp
        rcases h2 with ⟨_, h2⟩ | ⟨h2, _⟩
        · have := h2 a d ⟨⟨by omega, by omega⟩, by omega, by omega⟩
          omega
        · subst h2
          exact br_f tr_1n0 hp
      · rw [if_neg had] at hp
        rcases h2 with ⟨h2, _⟩ | ⟨_, x, y, ⟨⟨z1, z2⟩, z3, z4⟩, z5⟩
        · exact br_t h2 hp
        · omega
  | succ e ih =>
    intro x n f g hx hn ha h
    obtain ⟨n, rfl⟩ := tr_S1 hn
    refine ⟨tr_in6 hi, br_f (by rw [ei']; exact nI_nlt (by omega) (by omega)) ⟨tr_in6 hj, nm_r el' ⟨d + 1 - c + 1, ?_⟩⟩⟩
    refine tr_y48 (V0 := fun x' y => (a ≤ x' ∧ x' < x) ∧ c ≤ y ∧ y < d + 1) (c := c) hj (by omega) hd eh (fun f' g' h' => ?_) (d + 1 - c) c _ f g (by omega) (by omega) (Nat.le_refl _) ?_
    · refine ih (x + 1) n f' g' (by omega) (by omega) (by omega) (tr_lsC (fun x' y' => ?_) h')
      omega
    · refine tr_lsC (fun x' y' => ?_) h
      omega
theorem tr_yS (hi : i < 6) (hj : j < 6) (hab : a ≤ b) (hb : b < 128) (hcd : c ≤ d) (hd : d < 128) (e1 : al i = nI a) (e2 : ah i = nI b) (e3 : al j = nI c) (e4 : ah j = nI d)
    (hp : post (tr_lr a b c d)) : wpY_less post (s, s', al, ah) (nI i) (nI j) := by
  have e1' : al (nI i).toNatClampNeg = nI a := by rw [tr_cl6 hi]; exact e1
  unfold wpY_less
  dsimp only
  refine tr_bdR hi ?_
  refine br_t rfl ?_
  refine tr_bdR hj ?_
  refine br_t rfl ⟨tr_in6 hi, nm_r e1' ⟨b + 1 - a + 1, ?_⟩⟩
  refine tr_y29 (a := a) hi hj hab hb hcd hd e2 e3 e4 hp (b + 1 - a) a _ 1 0 (by omega) (by omega) (Nat.le_refl _) ⟨Or.inl ⟨rfl, ?_⟩, Or.inl ⟨rfl, ?_⟩⟩
  · rintro x y ⟨⟨z1, z2⟩, z3, z4⟩
    omega
  · rintro x y ⟨⟨z1, z2⟩, z3, z4⟩
    omega
theorem tr_xS (hi : i < 6) (hj : j < 6) (hab : a ≤ b) (hb : b < 128) (hcd : c ≤ d) (hd : d < 128) (e1 : al i = nI a) (e2 : ah i = nI b) (e3 : al j = nI c) (e4 : ah j = nI d)
    (hp : post (tr_lr a b c d)) : wpX_less post (s, s', al, ah) (nI i) (nI j) := by
  unfold wpX_less
  dsimp only
  rw [tr_cl6 hi, tr_cl6 hj, e1, e2, e3, e4]
  unfold tr_lr at hp
  refine tr_isR hi ?_
  refine br_f tr_1n0 ?_
  refine tr_isR hj ?_
  refine br_f tr_1n0 ⟨tr_in6 hi, tr_in6 hj, pk_le c b (fun h => ⟨tr_in6 hi, tr_in6 hj, pk_lt a d (fun h2 => ?_) (fun h2 => ?_)⟩) (fun h => ?_)⟩
  · rw [if_neg (by omega), if_pos h2] at hp
    exact hp
  · rw [if_neg (by omega), if_neg (by omega)] at hp
    exact hp
  · rw [if_pos h] at hp
    exact hp
end
end
section
/-! refused calls, and the constructors -/
theorem tr_nb {j : Nat} (h : j < 6) : ¬ tr_bad (nI j) := by
  rintro (z | ⟨_, z⟩)
  · exact nI_pos (by omega) z
  · exact nI_nlt (a := 5) (b := j) (by omega) (by decide) z
section
variable {s s' : Int32} {al ah : Nat → Int32} {p0 p1 p2 p3 : Int32}
theorem tr_xCn {post : Int32 → SX → Prop} (h : tr_bad p0 ∨ tr_bad p2 ∨ tr_bad p3 ∨ p1 < 0 ∨ ¬ p1 ≤ 10) (hp : post (-1) (s, s', al, ah)) : wpX_combine post (s, s', al, ah) p0 p1 p2 p3 := by
  unfold wpX_combine
  dsimp only
  rcases tr_rg p0 with ⟨i, hi, rfl⟩ | hb
  · refine tr_isR hi ?_
    refine br_f tr_1n0 ?_
    rcases tr_rg p2 with ⟨j, hj, rfl⟩ | hb
    · refine tr_isR hj ?_
      refine br_f tr_1n0 ?_
      rcases tr_rg p3 with ⟨l, hl, rfl⟩ | hb
      · refine tr_isR hl ?_
        refine br_f tr_1n0 ?_
        by_cases h0 : p1 < 0
        · exact br_t h0 hp
        · refine br_f h0 ?_
          rcases h with h | h | h | h | h
          · exact absurd h (tr_nb hi)
          · exact absurd h (tr_nb hj)
          · exact absurd h (tr_nb hl)
          · exact absurd h h0
          · exact br_f h hp
      · refine tr_isN hb ?_
        exact br_t rfl hp
    · refine tr_isN hb ?_
      exact br_t rfl hp
  · refine tr_isN hb ?_
    exact br_t rfl hp
theorem tr_yCn {post : Int32 → SY → Prop} (h : tr_bad p0 ∨ tr_bad p2 ∨ tr_bad p3 ∨ p1 < 0 ∨ ¬ p1 ≤ 10) (hp : post (-1) (s, s', al, ah)) : wpY_combine post (s, s', al, ah) p0 p1 p2 p3 := by
  unfold wpY_combine
  dsimp only
  rcases tr_rg p0 with ⟨i, hi, rfl⟩ | hb
  · refine tr_bdR hi ?_
    refine br_t rfl ?_
    rcases tr_rg p2 with ⟨j, hj, rfl⟩ | hb
    · refine tr_bdR hj ?_
      refine br_t rfl ?_
      rcases tr_rg p3 with ⟨l, hl, rfl⟩ | hb
      · refine tr_bdR hl ?_
        refine br_t rfl ?_
        by_cases h0 : p1 < 0
        · exact br_t h0 hp
        · refine br_f h0 ?_
          rcases h with h | h | h | h | h
          · exact absurd h (tr_nb hi)
          · exact absurd h (tr_nb hj)
          · exact absurd h (tr_nb hl)
          · exact absurd h h0
          · exact br_f h hp
      · refine tr_bdN hb ?_
        exact br_f tr_1n0 hp
    · refine tr_bdN hb ?_
      exact br_f tr_1n0 hp
  · refine tr_bdN hb ?_
    exact br_f tr_1n0 hp
theorem tr_xPn {post : Int32 → SX → Prop} (h : tr_bad p0 ∨ tr_bad p2 ∨ p1 < 0 ∨ ¬ p1 ≤ 4) (hp : post (-1) (s, s', al, ah)) : wpX_apply post (s, s', al, ah) p0 p1 p2 := by
  unfold wpX_apply
  dsimp only
  rcases tr_rg p0 with ⟨i, hi, rfl⟩ | hb
  · refine tr_isR hi ?_
    refine br_f tr_1n0 ?_
    rcases tr_rg p2 with ⟨j, hj, rfl⟩ | hb
    · refine tr_isR hj ?_
      refine br_f tr_1n0 ?_
      by_cases h0 : p1 < 0
      · exact br_t h0 hp
      · refine br_f h0 ?_
        rcases h with h | h | h | h
        · exact absurd h (tr_nb hi)
        · exact absurd h (tr_nb hj)
        · exact absurd h h0
        · exact br_f h hp
    · refine tr_isN hb ?_
      exact br_t rfl hp
  · refine tr_isN hb ?_
    exact br_t rfl hp
theorem tr_yPn {post : Int32 → SY → Prop} (h : tr_bad p0 ∨ tr_bad p2 ∨ p1 < 0 ∨ ¬ p1 ≤ 4) (hp : post (-1) (s, s', al, ah)) : wpY_apply post (s, s', al, ah) p0 p1 p2 := by
  unfold wpY_apply
  dsimp only
  rcases tr_rg p0 with ⟨i, hi, rfl⟩ | hb
  · refine tr_bdR hi ?_
    refine br_t rfl ?_
    rcases tr_rg p2 with ⟨j, hj, rfl⟩ | hb
    · refine tr_bdR hj ?_
      refine br_t rfl ?_
      by_cases h0 : p1 < 0
      · exact br_t h0 hp
      · refine br_f h0 ?_
        rcases h with h | h | h | h
        · exact absurd h (tr_nb hi)
        · exact absurd h (tr_nb hj)
        · exact absurd h h0
        · exact br_f h hp
    · refine tr_bdN hb ?_
      exact br_f tr_1n0 hp
  · refine tr_bdN hb ?_
    exact br_f tr_1n0 hp
theorem tr_xSn {post : Int32 → Prop} (h : tr_bad p0 ∨ tr_bad p1) (hp : post (-1)) : wpX_less post (s, s', al, ah) p0 p1 := by
  unfold wpX_less
  dsimp only
  rcases tr_rg p0 with ⟨i, hi, rfl⟩ | hb
  · refine tr_isR hi ?_
    refine br_f tr_1n0 ?_
    refine tr_isN (h.resolve_left (tr_nb hi)) ?_
    exact br_t rfl hp
  · refine tr_isN hb ?_
    exact br_t rfl hp
theorem tr_ySn {post : Int32 → Prop} (h : tr_bad p0 ∨ tr_bad p1) (hp : post (-1)) : wpY_less post (s, s', al, ah) p0 p1 := by
  unfold wpY_less
  dsimp only
  rcases tr_rg p0 with ⟨i, hi, rfl⟩ | hb
  · refine tr_bdR hi ?_
    refine br_t rfl ?_
    refine tr_bdN (h.resolve_left (tr_nb hi)) ?_
    exact br_f tr_1n0 hp
  · refine tr_bdN hb ?_
    exact br_f tr_1n0 hp
theorem tr_xTn {post : Int32 → Prop} (h : tr_bad p0 ∨ tr_bad p1) (hp : post (-1)) : wpX_apart post (s, s', al, ah) p0 p1 := by
  unfold wpX_apart
  dsimp only
  rcases tr_rg p0 with ⟨i, hi, rfl⟩ | hb
  · refine tr_isR hi ?_
    refine br_f tr_1n0 ?_
    refine tr_isN (h.resolve_left (tr_nb hi)) ?_
    exact br_t rfl hp
  · refine tr_isN hb ?_
    exact br_t rfl hp
theorem tr_yTn {post : Int32 → Prop} (h : tr_bad p0 ∨ tr_bad p1) (hp : post (-1)) : wpY_apart post (s, s', al, ah) p0 p1 := by
  unfold wpY_apart
  dsimp only
  rcases tr_rg p0 with ⟨i, hi, rfl⟩ | hb
  · refine tr_bdR hi ?_
    refine br_t rfl ?_
    refine tr_bdN (h.resolve_left (tr_nb hi)) ?_
    exact br_f tr_1n0 hp
  · refine tr_bdN hb ?_
    exact br_f tr_1n0 hp
end
def tr_fl : Nat → Nat → (Nat → Int32) → Nat → Int32
  | 0, _, f => f
  | e + 1, j, f => tr_fl e (j + 1) (upd f j 127)
theorem tr_xI {post : SX → Prop} {s s' : Int32} {al : Nat → Int32} : ∀ e j n ah, j + e = 6 → e < n → post (s, s', al, tr_fl e j ah) → wX_init_22 post s s' n (nI j) al ah := by
  intro e
  induction e with
  | zero =>
    intro j n ah hj hn hp
    obtain ⟨n, rfl⟩ := tr_S1 hn
    obtain rfl : j = 6 := by omega
    exact br_t (by decide) hp
  | succ e ih =>
    intro j n ah hj hn hp
    obtain ⟨n, rfl⟩ := tr_S1 hn
    exact br_f (nI_ge (a := j) (b := 6) (by omega) (by decide)) ⟨tr_in6 (by omega), nm_r (e' := upd ah j 127) (by rw [tr_cl6 (by omega)]) (nm_r (nI_1 j) (ih (j + 1) n _ (by omega) (by omega) hp))⟩
theorem tr_yI {post : SY → Prop} {s s' : Int32} {al : Nat → Int32} : ∀ e j n ah, j + e = 6 → e < n → post (s, s', al, tr_fl e j ah) → wY_init_22 post s s' n (nI j) al ah := by
  intro e
  induction e with
  | zero =>
    intro j n ah hj hn hp
    obtain ⟨n, rfl⟩ := tr_S1 hn
    obtain rfl : j = 6 := by omega
    exact br_t (by decide) hp
  | succ e ih =>
    intro j n ah hj hn hp
    obtain ⟨n, rfl⟩ := tr_S1 hn
    exact br_f (nI_ge (a := j) (b := 6) (by omega) (by decide)) ⟨tr_in6 (by omega), nm_r (e' := upd ah j 127) (by rw [tr_cl6 (by omega)]) (nm_r (nI_1 j) (ih (j + 1) n _ (by omega) (by omega) hp))⟩
theorem tr_fl6 : ∀ j, j < 6 → tr_fl 6 0 (fun _ => 0) j = nI 127 := by decide +kernel
theorem tr_ok0 : tr_ok (fun _ => 0) (tr_fl 6 0 (fun _ => 0)) := fun j hj => ⟨0, 127, by omega, by omega, rfl, tr_fl6 j hj⟩
theorem tr_okU {al ah : Nat → Int32} {t p q : Nat} (h : tr_ok al ah) (hpq : p ≤ q) (hq : q < 128) : tr_ok (upd al t (nI p)) (upd ah t (nI q)) := by
  intro j hj
  by_cases e : j = t
  · subst e
    exact ⟨p, q, hpq, hq, pk_us, pk_us⟩
  · rw [pk_un e, pk_un e]
    exact h j hj
end
section
/-! what is owed -/
/-- the two objects hold the same ranges; the last working's results may differ -/
def i_Rel (_ : Nat) (u : SX) (v : SY) : Prop := ∃ (al ah : Nat → Int32) (s t s' t' : Int32), tr_ok al ah ∧ u = (s, t, al, ah) ∧ v = (s', t', al, ah)
theorem i_up {k : Nat} {u : SX} {v : SY} (h : i_Rel k u v) : i_Rel (k + 5) u v := h
theorem tr_rel {k : Nat} {al ah : Nat → Int32} {s t s' t' : Int32} (h : tr_ok al ah) : i_Rel k (s, t, al, ah) (s', t', al, ah) := ⟨al, ah, s, t, s', t', h, rfl, rfl⟩
theorem i_vc0 : wpX_init (fun u => wpY_init (fun v => i_Rel 0 u v)) := by
  refine ⟨7, tr_xI 6 0 7 _ (by omega) (by omega) ⟨7, tr_yI 6 0 7 _ (by omega) (by omega) ?_⟩⟩
  exact tr_rel tr_ok0
theorem i_vc_set {k : Nat} {u : SX} {v : SY} (I : i_Rel k u v) (hk : k + 5 ≤ 2560) (v1 : Int32) (v2 : Int32) (v3 : Int32) : wpX_set (fun r u' => wpY_set (fun r' v' => r' = r ∧ i_Rel (k + 5) u' v') v v1 v2 v3) u v1 v2 v3 := by
  obtain ⟨al, ah, s, t, s', t', ok, rfl, rfl⟩ := I
  unfold wpX_set wpY_set
  dsimp only
  rcases tr_rg v1 with ⟨j, hj, rfl⟩ | hb
  · refine tr_isR hj ?_
    refine br_f tr_1n0 ?_
    by_cases h0 : v2 < 0
    · refine br_t h0 ?_
      refine tr_bdR hj ?_
      exact br_t rfl (br_t h0 ⟨rfl, tr_rel ok⟩)
    · refine br_f h0 ?_
      by_cases h1 : v3 < v2
      · refine br_t h1 ?_
        refine tr_bdR hj ?_
        exact br_t rfl (br_f h0 (br_t h1 ⟨rfl, tr_rel ok⟩))
      · refine br_f h1 ?_
        by_cases h2 : v3 ≤ 127
        · have h3 : v2 ≤ v3 := Int32.not_lt.mp h1
          obtain ⟨p, hp, rfl⟩ := nI_of h0
          obtain ⟨q, hq, rfl⟩ := nI_of2 (x := v3) (M := 127) (n := 127) (by decide) (fun z => h0 (Int32.lt_of_le_of_lt h3 z)) h2
          have hpq : p ≤ q := (nI_leI hp (by omega)).mp h3
          refine br_t h2 ⟨tr_in6 hj, nm_e ⟨tr_in6 hj, nm_e ?_⟩⟩
          refine tr_bdR hj ?_
          refine br_t rfl (br_f h0 (br_f h1 (br_t h2 ⟨tr_in6 hj, nm_e ⟨tr_in6 hj, nm_e ⟨rfl, ?_⟩⟩⟩)))
          rw [tr_cl6 hj]
          exact tr_rel (tr_okU ok hpq (by omega))
        · refine br_f h2 ?_
          refine tr_bdR hj ?_
          exact br_t rfl (br_f h0 (br_f h1 (br_f h2 ⟨rfl, tr_rel ok⟩)))
  · refine tr_isN hb ?_
    refine br_t rfl ?_
    refine tr_bdN hb ?_
    exact br_f tr_1n0 ⟨rfl, tr_rel ok⟩
theorem i_vc_combine {k : Nat} {u : SX} {v : SY} (I : i_Rel k u v) (hk : k + 5 ≤ 2560) (v1 : Int32) (v2 : Int32) (v3 : Int32) (v4 : Int32) : wpX_combine (fun r u' => wpY_combine (fun r' v' => r' = r ∧ i_Rel (k + 5) u' v') v v1 v2 v3 v4) u v1 v2 v3 v4 := by
  obtain ⟨al, ah, s, t, s', t', ok, rfl, rfl⟩ := I
  by_cases hn : tr_bad v1 ∨ tr_bad v3 ∨ tr_bad v4 ∨ v2 < 0 ∨ ¬ v2 ≤ 10
  · exact tr_xCn hn (tr_yCn hn ⟨rfl, tr_rel ok⟩)
  · obtain ⟨w, hw, rfl⟩ := (tr_rg v1).resolve_right (fun z => hn (Or.inl z))
    obtain ⟨i, hi, rfl⟩ := (tr_rg v3).resolve_right (fun z => hn (Or.inr (Or.inl z)))
    obtain ⟨j, hj, rfl⟩ := (tr_rg v4).resolve_right (fun z => hn (Or.inr (Or.inr (Or.inl z))))
    obtain ⟨m, hm, rfl⟩ := nI_of2 (x := v2) (M := 10) (n := 10) (by decide) (fun z => hn (Or.inr (Or.inr (Or.inr (Or.inl z))))) (Classical.byContradiction fun z => hn (Or.inr (Or.inr (Or.inr (Or.inr z)))))
    obtain ⟨a, b, hab, hb, e1, e2⟩ := ok i hi
    obtain ⟨c, d, hcd, hd, e3, e4⟩ := ok j hj
    refine tr_xC hm hw hi hj hab hb hcd hd e1 e2 e3 e4 (fun l m' hx => tr_x130 hw hx (fun hE => ?_) (fun p q hq ho => ?_))
    · exact tr_yC hm hw hi hj hab hb hcd hd e1 e2 e3 e4 (fun _ => ⟨rfl, tr_rel ok⟩) (fun p q _ ho => absurd ho.1 (hE p))
    · refine tr_yC hm hw hi hj hab hb hcd hd e1 e2 e3 e4 (fun hE => absurd ho.1 (hE p)) (fun p' q' _ ho' => ?_)
      obtain ⟨rfl, rfl⟩ := tr_out_eq ho ho'
      exact ⟨rfl, tr_rel (tr_okU ok (tr_out_le ho) hq)⟩
theorem i_vc_apply {k : Nat} {u : SX} {v : SY} (I : i_Rel k u v) (hk : k + 5 ≤ 2560) (v1 : Int32) (v2 : Int32) (v3 : Int32) : wpX_apply (fun r u' => wpY_apply (fun r' v' => r' = r ∧ i_Rel (k + 5) u' v') v v1 v2 v3) u v1 v2 v3 := by
  obtain ⟨al, ah, s, t, s', t', ok, rfl, rfl⟩ := I
  by_cases hn : tr_bad v1 ∨ tr_bad v3 ∨ v2 < 0 ∨ ¬ v2 ≤ 4
  · exact tr_xPn hn (tr_yPn hn ⟨rfl, tr_rel ok⟩)
  · obtain ⟨w, hw, rfl⟩ := (tr_rg v1).resolve_right (fun z => hn (Or.inl z))
    obtain ⟨i, hi, rfl⟩ := (tr_rg v3).resolve_right (fun z => hn (Or.inr (Or.inl z)))
    obtain ⟨m, hm, rfl⟩ := nI_of2 (x := v2) (M := 4) (n := 4) (by decide) (fun z => hn (Or.inr (Or.inr (Or.inl z)))) (Classical.byContradiction fun z => hn (Or.inr (Or.inr (Or.inr z))))
    obtain ⟨a, b, hab, hb, e1, e2⟩ := ok i hi
    refine tr_xP hm hw hi hab hb e1 e2 (fun p q hq ho => ?_)
    refine tr_yP hm hw hi hab hb e1 e2 (fun p' q' _ ho' => ?_)
    obtain ⟨rfl, rfl⟩ := tr_out_eq ho ho'
    exact ⟨rfl, tr_rel (tr_okU ok (tr_out_le ho) hq)⟩
theorem i_vc_low {k : Nat} {u : SX} {v : SY} (I : i_Rel k u v) (hk : k + 5 ≤ 2560) (v1 : Int32) : wpX_low (fun r => wpY_low (fun r' => r' = r ∧ i_Rel (k + 5) u v) v v1) u v1 := by
  obtain ⟨al, ah, s, t, s', t', ok, rfl, rfl⟩ := I
  unfold wpX_low wpY_low
  dsimp only
  rcases tr_rg v1 with ⟨j, hj, rfl⟩ | hb
  · refine tr_isR hj ?_
    refine br_f tr_1n0 ⟨tr_in6 hj, ?_⟩
    refine tr_bdR hj ?_
    exact br_t rfl ⟨tr_in6 hj, rfl, tr_rel ok⟩
  · refine tr_isN hb ?_
    refine br_t rfl ?_
    refine tr_bdN hb ?_
    exact br_f tr_1n0 ⟨rfl, tr_rel ok⟩
theorem i_vc_high {k : Nat} {u : SX} {v : SY} (I : i_Rel k u v) (hk : k + 5 ≤ 2560) (v1 : Int32) : wpX_high (fun r => wpY_high (fun r' => r' = r ∧ i_Rel (k + 5) u v) v v1) u v1 := by
  obtain ⟨al, ah, s, t, s', t', ok, rfl, rfl⟩ := I
  unfold wpX_high wpY_high
  dsimp only
  rcases tr_rg v1 with ⟨j, hj, rfl⟩ | hb
  · refine tr_isR hj ?_
    refine br_f tr_1n0 ⟨tr_in6 hj, ?_⟩
    refine tr_bdR hj ?_
    exact br_t rfl ⟨tr_in6 hj, rfl, tr_rel ok⟩
  · refine tr_isN hb ?_
    refine br_t rfl ?_
    refine tr_bdN hb ?_
    exact br_f tr_1n0 ⟨rfl, tr_rel ok⟩
theorem i_vc_less {k : Nat} {u : SX} {v : SY} (I : i_Rel k u v) (hk : k + 5 ≤ 2560) (v1 : Int32) (v2 : Int32) : wpX_less (fun r => wpY_less (fun r' => r' = r ∧ i_Rel (k + 5) u v) v v1 v2) u v1 v2 := by
  obtain ⟨al, ah, s, t, s', t', ok, rfl, rfl⟩ := I
  by_cases hn : tr_bad v1 ∨ tr_bad v2
  · exact tr_xSn hn (tr_ySn hn ⟨rfl, tr_rel ok⟩)
  · obtain ⟨i, hi, rfl⟩ := (tr_rg v1).resolve_right (fun z => hn (Or.inl z))
    obtain ⟨j, hj, rfl⟩ := (tr_rg v2).resolve_right (fun z => hn (Or.inr z))
    obtain ⟨a, b, hab, hb, e1, e2⟩ := ok i hi
    obtain ⟨c, d, hcd, hd, e3, e4⟩ := ok j hj
    exact tr_xS hi hj hab hb hcd hd e1 e2 e3 e4 (tr_yS hi hj hab hb hcd hd e1 e2 e3 e4 ⟨rfl, tr_rel ok⟩)
theorem tr_ie {A B C D N : Nat} (h : N + D + C = A + B) : nI N = nI A + nI B - nI C - nI D := by
  rw [nI_add, ← h, ← nI_add (N + D) C, Int32.add_sub_cancel, ← nI_add N D, Int32.add_sub_cancel]
theorem i_vc_apart {k : Nat} {u : SX} {v : SY} (I : i_Rel k u v) (hk : k + 5 ≤ 2560) (v1 : Int32) (v2 : Int32) : wpX_apart (fun r => wpY_apart (fun r' => r' = r ∧ i_Rel (k + 5) u v) v v1 v2) u v1 v2 := by
  obtain ⟨al, ah, s, t, s', t', ok, rfl, rfl⟩ := I
  by_cases hn : tr_bad v1 ∨ tr_bad v2
  · exact tr_xTn hn (tr_yTn hn ⟨rfl, tr_rel ok⟩)
  · obtain ⟨i, hi, rfl⟩ := (tr_rg v1).resolve_right (fun z => hn (Or.inl z))
    obtain ⟨j, hj, rfl⟩ := (tr_rg v2).resolve_right (fun z => hn (Or.inr z))
    obtain ⟨a, b, hab, hb, e1, e2⟩ := ok i hi
    obtain ⟨c, d, hcd, hd, e3, e4⟩ := ok j hj
    exact tr_xT hi hj hab hb hcd hd e1 e2 e3 e4 (tr_yT hi hj hab hb hcd hd e1 e2 e3 e4 (fun N hN => ⟨tr_ie (by omega), tr_rel ok⟩))
end
