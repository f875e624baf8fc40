section
theorem pk_us {f : Nat → Int32} {k : Nat} {x : Int32} : upd f k x k = x := if_pos rfl
theorem pk_un {f : Nat → Int32} {k j : Nat} {x : Int32} (h : j ≠ k) : upd f k x j = f j := if_neg h
theorem pk_sub {a b : Nat} (h : b ≤ a) : nI a - nI b = nI (a - b) := by
  obtain ⟨c, rfl⟩ : ∃ c, a = c + b := ⟨a - b, by omega⟩
  rw [← nI_add, Int32.add_sub_cancel, Nat.add_sub_cancel]
theorem pk_m1 (n : Nat) : nI (n + 1) + (-1) = nI n := by
  rw [← nI_1, Int32.add_assoc, show (1 : Int32) + (-1) = 0 from rfl, Int32.add_zero]
theorem pk_mul (a b : Nat) : nI a * nI b = nI (a * b) := (Int32.ofNat_mul a b).symm
theorem pk_div {a d : Nat} (ha : a < 2 ^ 31) (h0 : 0 < d) (hd : d < 2 ^ 31) : nI a / nI d = nI (a / d) := by
  apply Int32.toInt_inj.mp
  rw [lg_idiv_nonneg (by rw [nI_toInt ha]; omega) (by rw [nI_toInt hd]; omega), nI_toInt ha, nI_toInt hd, nI_toInt (Nat.lt_of_le_of_lt (Nat.div_le_self a d) ha)]
  first | rfl | exact (Int.natCast_ediv _ _).symm
theorem pk_rem {a d : Nat} (ha : a < 2 ^ 31) (h0 : 0 < d) (hd : d < 2 ^ 31) : nI a - nI a / nI d * nI d = nI (a % d) := by
  rw [pk_div ha h0 hd, pk_mul, pk_sub (Nat.div_mul_le_self a d)]
  exact congrArg nI (by have := Nat.div_add_mod' a d; omega)
theorem pk_sub_toInt {a b : Nat} (ha : a < 2 ^ 30) (hb : b < 2 ^ 30) : (nI a - nI b).toInt = (a : Int) - b := by
  rw [Int32.toInt_sub, nI_toInt (by omega), nI_toInt (by omega)]
  exact Int.bmod_eq_of_le (by omega) (by omega)
theorem pk_sneg {a b : Nat} (hb : b < 2 ^ 30) (h : a < b) : nI a - nI b < 0 := by
  rw [Int32.lt_iff_toInt_lt, pk_sub_toInt (by omega) hb, show (0 : Int32).toInt = 0 from by decide]
  omega
theorem pk_ix (x : Int32) {n : Nat} (hn : n < 2 ^ 31) : x < 0 ∨ nI n ≤ x ∨ ∃ j : Nat, j < n ∧ x = nI j := by
  by_cases h : x < 0
  · exact Or.inl h
  · obtain ⟨j, hj, rfl⟩ := nI_of h
    by_cases h2 : j < n
    · exact Or.inr (Or.inr ⟨j, h2, rfl⟩)
    · exact Or.inr (Or.inl (nI_le (by omega) hj))
theorem pk_le {x y : Int32} {A B : Prop} (a b : Nat) (f : a ≤ b → A) (g : b < a → B) (hx : x = nI a := by rfl) (hy : y = nI b := by rfl) (ha : a < 2 ^ 31 := by omega) (hb : b < 2 ^ 31 := by omega) : (x ≤ y → A) ∧ (¬ x ≤ y → B) := by
  subst hx hy
  rw [nI_leI ha hb]
  exact ⟨f, fun z => g (by omega)⟩
theorem pk_lt {x y : Int32} {A B : Prop} (a b : Nat) (f : a < b → A) (g : b ≤ a → B) (hx : x = nI a := by rfl) (hy : y = nI b := by rfl) (ha : a < 2 ^ 31 := by omega) (hb : b < 2 ^ 31 := by omega) : (x < y → A) ∧ (¬ x < y → B) := by
  subst hx hy
  rw [nI_ltI ha hb]
  exact ⟨f, fun z => g (by omega)⟩
theorem pk_eq {x y : Int32} {A B : Prop} (a b : Nat) (f : a = b → A) (g : a ≠ b → B) (hx : x = nI a := by rfl) (hy : y = nI b := by rfl) (ha : a < 2 ^ 31 := by omega) (hb : b < 2 ^ 31 := by omega) : (x = y → A) ∧ (¬ x = y → B) := by
  subst hx hy
  rw [nI_eq ha hb]
  exact ⟨f, g⟩
theorem pk_in {x : Int32} (n N : Nat) (h : n < N) (hx : x = nI n := by rfl) (hN : N < 2 ^ 31 := by omega) : vp_in x N := by
  subst hx
  exact vp_in_nI h hN
theorem pk_cl {x : Int32} (n : Nat) (hx : x = nI n := by rfl) (h : n < 2 ^ 31 := by omega) : x.toNatClampNeg = n := by
  subst hx
  exact nI_clamp h
theorem pk_tn {n : Nat} (h : n < 2 ^ 32) : (nI n).toBitVec.toNat = n := Nat.mod_eq_of_lt h
theorem pk_and (x : Int32) {m : Int32} (k : Nat) (hm : m.toBitVec.toNat = 2 ^ k - 1) : x &&& m = nI (x.toBitVec.toNat % 2 ^ k) := by
  apply Int32.toBitVec_inj.mp
  apply BitVec.eq_of_toNat_eq
  rw [Int32.toBitVec_and, BitVec.toNat_and, hm, Nat.and_two_pow_sub_one_eq_mod]
  show _ = (BitVec.ofNat 32 _).toNat
  rw [BitVec.toNat_ofNat]
  exact (Nat.mod_eq_of_lt (Nat.lt_of_le_of_lt (Nat.mod_le _ _) x.toBitVec.isLt)).symm
theorem pk_andN {n : Nat} (h : n < 2 ^ 32) {m : Int32} (k : Nat) (hm : m.toBitVec.toNat = 2 ^ k - 1) : nI n &&& m = nI (n % 2 ^ k) := by
  rw [pk_and _ k hm, pk_tn h]
theorem pk_shl (a s : Int32) (k : Nat) (hs : (s.toBitVec.smod 32).toNat = k) : (a <<< s).toBitVec.toNat = a.toBitVec.toNat * 2 ^ k % 2 ^ 32 := by
  show (a.toBitVec <<< (s.toBitVec.smod 32).toNat).toNat = _
  rw [hs, BitVec.toNat_shiftLeft, Nat.shiftLeft_eq]
theorem pk_shlN {n : Nat} (s : Int32) (k : Nat) (hs : (s.toBitVec.smod 32).toNat = k) (h : n * 2 ^ k < 2 ^ 32) : nI n <<< s = nI (n * 2 ^ k) := by
  apply Int32.toBitVec_inj.mp
  apply BitVec.eq_of_toNat_eq
  have hn : n < 2 ^ 32 := Nat.lt_of_le_of_lt (Nat.le_mul_of_pos_right n (Nat.two_pow_pos k)) h
  rw [pk_shl _ _ k hs, pk_tn hn, pk_tn h, Nat.mod_eq_of_lt h]
theorem pk_shr (a s : Int32) (k : Nat) (hs : (s.toBitVec.smod 32).toNat = k) : (a >>> s).toInt = a.toInt >>> k := by
  show (a.toBitVec.sshiftRight (s.toBitVec.smod 32).toNat).toInt = _
  rw [hs, BitVec.toInt_sshiftRight]
  rfl
theorem pk_shrN {n : Nat} (h : n < 2 ^ 31) (s : Int32) (k : Nat) (hs : (s.toBitVec.smod 32).toNat = k) : nI n >>> s = nI (n / 2 ^ k) := by
  apply Int32.toInt_inj.mp
  have h2 : n / 2 ^ k ≤ n := Nat.div_le_self _ _
  rw [pk_shr _ _ k hs, nI_toInt h, nI_toInt (by omega), Int.shiftRight_eq_div_pow]
  rfl
theorem pk_lT {n : Nat} (h : n < 2 ^ 63) : (lN n).toInt = (n : Int) := lg_ofNat_toInt h
theorem pk_lLT {a b : Nat} (ha : a < 2 ^ 63) (hb : b < 2 ^ 63) : lN a < lN b ↔ a < b := by
  rw [Int64.lt_iff_toInt_lt, pk_lT ha, pk_lT hb]; omega
theorem pk_lLE {a b : Nat} (ha : a < 2 ^ 63) (hb : b < 2 ^ 63) : lN a ≤ lN b ↔ a ≤ b := by
  rw [Int64.le_iff_toInt_le, pk_lT ha, pk_lT hb]; omega
theorem pk_lEQ {a b : Nat} (ha : a < 2 ^ 63) (hb : b < 2 ^ 63) : lN a = lN b ↔ a = b := by
  rw [← Int64.toInt_inj, pk_lT ha, pk_lT hb]; omega
theorem pk_lOf {x : Int64} (h : ¬ x < 0) : ∃ k : Nat, k < 2 ^ 63 ∧ x = lN k := by
  rw [Int64.lt_iff_toInt_lt] at h
  have h0 : (0 : Int64).toInt = 0 := by decide
  have hx := Int64.toInt_lt x
  refine ⟨x.toInt.toNat, by omega, Int64.toInt_inj.mp ?_⟩
  rw [pk_lT (by omega)]
  omega
theorem pk_lDiv {a b : Nat} (ha : a < 2 ^ 63) (h0 : 0 < b) (hb : b < 2 ^ 63) : lN a / lN b = lN (a / b) := by
  apply Int64.toInt_inj.mp
  rw [lg_ldiv_nonneg (by rw [pk_lT ha]; omega) (by rw [pk_lT hb]; omega), pk_lT ha, pk_lT hb, pk_lT (Nat.lt_of_le_of_lt (Nat.div_le_self a b) ha)]
  rfl
theorem pk_lRem {a b : Nat} (ha : a < 2 ^ 63) (h0 : 0 < b) (hb : b < 2 ^ 63) : lN a - lN a / lN b * lN b = lN (a % b) := by
  rw [pk_lDiv ha h0 hb, lN_mul, lN_sub (Nat.div_mul_le_self a b)]
  exact congrArg lN (by have := Nat.div_add_mod' a b; omega)
theorem sb_negT {w : Nat} (h : w < 2 ^ 31) : (-nI w).toInt = -(w : Int) := by
  rw [Int32.toInt_neg, nI_toInt h]
  exact Int.bmod_eq_of_le (by omega) (by omega)
theorem sb_nle {a b : Nat} (ha : a < 2 ^ 31) (hb : b < 2 ^ 31) : -nI a ≤ -nI b ↔ b ≤ a := by
  rw [Int32.le_iff_toInt_le, sb_negT ha, sb_negT hb]
  omega
theorem sb_nlt {a b : Nat} (ha : a < 2 ^ 31) (hb : b < 2 ^ 31) : -nI a < -nI b ↔ b < a := by
  rw [Int32.lt_iff_toInt_lt, sb_negT ha, sb_negT hb]
  omega
theorem s_l : ∀ n, n < 32 → ((nI n &&& 31).toBitVec.smod 32).toNat = n := by decide +kernel
theorem wb_tb (n : Nat) : (lN n).toBitVec = BitVec.ofNat 64 n := rfl
theorem wb_inj {a b : Int64} (h : a.toBitVec = b.toBitVec) : a = b := Int64.toBitVec_inj.mp h
theorem wb_tn {n : Nat} (h : n < 2 ^ 64) : (lN n).toBitVec.toNat = n := by rw [wb_tb, BitVec.toNat_ofNat, Nat.mod_eq_of_lt h]
theorem wb_lt2 {a b : Nat} (h : a < b) : 2 ^ a < 2 ^ b := Nat.pow_lt_pow_right (by decide) h
theorem wb_and {a b : Nat} (ha : a < 2 ^ 64) (hb : b < 2 ^ 64) : lN a &&& lN b = lN (a &&& b) := by
  apply wb_inj
  rw [Int64.toBitVec_and, wb_tb, wb_tb, wb_tb]
  apply BitVec.eq_of_toNat_eq
  rw [BitVec.toNat_and, BitVec.toNat_ofNat, BitVec.toNat_ofNat, BitVec.toNat_ofNat, Nat.mod_eq_of_lt ha, Nat.mod_eq_of_lt hb, Nat.mod_eq_of_lt (Nat.and_lt_two_pow _ hb)]
theorem wb_mask {n k : Nat} (hn : n < 2 ^ 64) (hk : k < 64) : lN n &&& lN (2 ^ k - 1) = lN (n % 2 ^ k) := by
  rw [wb_and hn (by have := wb_lt2 hk; omega), Nat.and_two_pow_sub_one_eq_mod]
theorem wb_a1 {n : Nat} (hn : n < 2 ^ 64) : lN n &&& 1 = lN (n % 2) := wb_mask (k := 1) hn (by decide)
theorem pf_lI {a : Nat} (h : a < 2 ^ 63) : (lN a).toInt = (a : Int) := lg_ofNat_toInt h
theorem pf_shr {a d : Nat} {D : Int64} (hD : (D.toBitVec.smod 64).toNat = d) (h : a < 2 ^ 62) : lN a >>> D = lN (a / 2 ^ d) := by
  have hd : a / 2 ^ d ≤ a := Nat.div_le_self _ _
  apply Int64.toInt_inj.mp
  have e : (lN a >>> D).toInt = (lN a).toInt >>> d := by
    rw [← hD]
    exact BitVec.toInt_sshiftRight ..
  rw [e, Int.shiftRight_eq_div_pow, pf_lI (by omega), pf_lI (by omega)]
  rfl
end
section
/-! numbers: branches over longs, transport, the scale q = Q - 12 -/
theorem zd_lle {x y : Int64} {A B : Prop} (a b : Nat) (f : a ≤ b → A) (g : b < a → B) (hx : x = lN a := by rfl) (hy : y = lN b := by rfl) (ha : a < 2 ^ 63 := by omega) (hb : b < 2 ^ 63 := by omega) : (x ≤ y → A) ∧ (¬ x ≤ y → B) := by
  subst hx hy
  rw [pk_lLE ha hb]
  exact ⟨f, fun z => g (by omega)⟩
theorem zd_llt {x y : Int64} {A B : Prop} (a b : Nat) (f : a < b → A) (g : b ≤ a → B) (hx : x = lN a := by rfl) (hy : y = lN b := by rfl) (ha : a < 2 ^ 63 := by omega) (hb : b < 2 ^ 63 := by omega) : (x < y → A) ∧ (¬ x < y → B) := by
  subst hx hy
  rw [pk_lLT ha hb]
  exact ⟨f, fun z => g (by omega)⟩
theorem zd_leq {x y : Int64} {A B : Prop} (a b : Nat) (f : a = b → A) (g : a ≠ b → B) (hx : x = lN a := by rfl) (hy : y = lN b := by rfl) (ha : a < 2 ^ 63 := by omega) (hb : b < 2 ^ 63 := by omega) : (x = y → A) ∧ (¬ x = y → B) := by
  subst hx hy
  rw [pk_lEQ ha hb]
  exact ⟨f, g⟩
theorem zd_at {α : Type} {P : α → Prop} {x y : α} (e : x = y) (h : P y) : P x := by rw [e]; exact h
theorem zd_lne {a : Nat} (h0 : 0 < a) (ha : a < 2 ^ 63) : ¬ lN a = 0 := by
  show ¬ lN a = lN 0
  rw [pk_lEQ ha (by omega)]
  omega
theorem zd_ii {a : Nat} {x : Int32} (hx : x = nI a) (h : a < 2 ^ 31) : x.toInt64 = lN a := by rw [hx]; exact nI_l h
/-- the scale q = Q - 12 -/
theorem zd_q1 : ∀ Q, Q < 19 → ((nI Q - 12 < 0 ↔ Q < 12) ∧ (0 ≤ nI Q - 12 ↔ 12 ≤ Q)) := by decide +kernel
theorem zd_q2 : ∀ Q, Q < 19 → (12 + (nI Q - 12) = nI Q ∧ (nI Q - 12) + 12 = nI Q) := by decide +kernel
theorem zd_q3 : ∀ Q, Q < 19 → ((Q < 12 → -(nI Q - 12) = nI (12 - Q)) ∧ (12 ≤ Q → nI Q - 12 = nI (Q - 12))) := by decide +kernel
theorem zd_q4 : ∀ m, m < 13 → -nI m = nI (12 - m) - 12 := by decide +kernel
theorem zd_t12 : (-12 : Int32).toInt = -12 := by decide
theorem zd_t6 : (6 : Int32).toInt = 6 := by decide
theorem zd_qof {q : Int32} (h1 : ¬ q < -12) (h2 : q ≤ 6) : ∃ Q, Q < 19 ∧ q = nI Q - 12 := by
  rw [Int32.lt_iff_toInt_lt, zd_t12] at h1
  rw [Int32.le_iff_toInt_le, zd_t6] at h2
  refine ⟨(q.toInt + 12).toNat, by omega, ?_⟩
  apply Int32.toInt_inj.mp
  show _ = (nI _ - nI 12).toInt
  rw [pk_sub_toInt (by omega) (by omega)]
  omega
/-- powers of ten -/
theorem zd_p0 (m : Nat) : 0 < 10 ^ m := Nat.pow_pos (by decide)
theorem zd_ple {m n : Nat} (h : m ≤ n) : 10 ^ m ≤ 10 ^ n := Nat.pow_le_pow_right (by decide) h
theorem zd_p18 {m : Nat} (h : m ≤ 18) : 10 ^ m ≤ 1000000000000000000 := zd_ple (n := 18) h
theorem zd_p12 {m : Nat} (h : m ≤ 12) : 10 ^ m ≤ 1000000000000 := zd_ple (n := 12) h
theorem zd_p6 {m : Nat} (h : m ≤ 6) : 10 ^ m ≤ 1000000 := zd_ple (n := 6) h
theorem zd_p5 {m : Nat} (h : m ≤ 5) : 10 ^ m ≤ 100000 := zd_ple (n := 5) h
theorem zd_padd {m n k : Nat} (h : m + n = k) : 10 ^ m * 10 ^ n = 10 ^ k := by rw [← Nat.pow_add, h]
/-- the distance of two naturals -/
def zd_ds (a b : Nat) : Nat := (a - b) + (b - a)
theorem zd_subT {a b : Nat} (ha : a < 2 ^ 63) (hb : b < 2 ^ 63) : (lN a - lN b).toInt = (a : Int) - b := by
  rw [Int64.toInt_sub, pk_lT ha, pk_lT hb]
  exact Int.bmod_eq_of_le (by omega) (by omega)
theorem zd_size {A B : Prop} {a b : Nat} {x : Int64} (hx : x = lN a - lN b) (ha : a < 2 ^ 63) (hb : b < 2 ^ 63) (f : x = lN (zd_ds a b) → A) (g : -x = lN (zd_ds a b) → B) : (0 ≤ x → A) ∧ (¬ 0 ≤ x → B) := by
  subst hx
  have h0 : (0 : Int64).toInt = 0 := by decide
  have hs := zd_subT ha hb
  rw [Int64.le_iff_toInt_le, h0, hs]
  constructor
  · intro h
    apply f
    rw [lN_sub (by omega)]
    exact congrArg lN (by unfold zd_ds; omega)
  · intro h
    apply g
    apply Int64.toInt_inj.mp
    rw [Int64.toInt_neg, hs, pk_lT (by unfold zd_ds; omega), Int.bmod_eq_of_le (by omega) (by omega)]
    unfold zd_ds
    omega
end
section
/-! codes, borders, readings, names: pure -/
def zd_U (c : Nat) : Nat := if c < 64 then c else (64 + c % 64) * 2 ^ (c / 64 - 1)
def zd_B (c : Nat) : Nat := (zd_U c + zd_U (c + 1)) * 1000000000000
def zd_T (D Q : Nat) : Nat := D * (1024 * 10 ^ Q)
theorem zd_Ub0 : ∀ c, c < 1025 → zd_U c ≤ 2097152 := by decide +kernel
theorem zd_Um0 : ∀ c, c < 1024 → zd_U c < zd_U (c + 1) := by decide +kernel
theorem zd_Ub1 : ∀ c, c < 1024 → zd_U c ≤ 2080768 := by decide +kernel
theorem zd_Bl : zd_B 1023 = 4177920000000000000 := by decide +kernel
theorem zd_Bm1 {c : Nat} (h : c < 1023) : zd_B c < zd_B (c + 1) := by
  have h1 := zd_Um0 c (by omega)
  have h2 := zd_Um0 (c + 1) (by omega)
  unfold zd_B
  omega
theorem zd_Bm (d : Nat) : ∀ c, c + d ≤ 1023 → zd_B c ≤ zd_B (c + d) := by
  induction d with
  | zero => exact fun c _ => Nat.le_refl _
  | succ d ih => exact fun c h => Nat.le_trans (ih c (by omega)) (Nat.le_of_lt (zd_Bm1 (c := c + d) (by omega)))
theorem zd_Ble {i j : Nat} (h : i ≤ j) (hj : j ≤ 1023) : zd_B i ≤ zd_B j := by
  have := zd_Bm (j - i) i (by omega)
  rwa [show i + (j - i) = j by omega] at this
theorem zd_Blt {i j : Nat} (h : i < j) (hj : j ≤ 1023) : zd_B i < zd_B j :=
  Nat.lt_of_lt_of_le (zd_Bm1 (by omega)) (zd_Ble (i := i + 1) h hj)
theorem zd_Bb {c : Nat} (h : c ≤ 1023) : zd_B c ≤ 4177920000000000000 := by
  have := zd_Ble h (Nat.le_refl _)
  rw [zd_Bl] at this
  exact this
theorem zd_Bp {c : Nat} (h : c ≤ 1023) : 1000000000000 ≤ zd_B c := by
  have := zd_Um0 c (by omega)
  unfold zd_B
  omega
/-- so many steps lie above border j -/
def zd_ab (T j : Nat) : Prop := zd_B j < T ∨ (T = zd_B j ∧ j % 2 = 1)
theorem zd_abm {T i j : Nat} (h : i ≤ j) (hj : j ≤ 1023) (a : zd_ab T j) : zd_ab T i := by
  by_cases e : i = j
  · rw [e]; exact a
  · have := zd_Blt (i := i) (j := j) (by omega) hj
    unfold zd_ab at *
    omega
def zd_Rd (T r : Nat) : Prop := r ≤ 1023 ∧ (∀ j, j < r → zd_ab T j) ∧ (r < 1023 → ¬ zd_ab T r)
theorem zd_Rd1 {T r s : Nat} (h : zd_Rd T r) (k : zd_Rd T s) : r = s := by
  obtain ⟨h1, h2, h3⟩ := h
  obtain ⟨k1, k2, k3⟩ := k
  by_cases a : r < s
  · exact absurd (k2 r a) (h3 (by omega))
  · by_cases b : s < r
    · exact absurd (h2 s b) (k3 (by omega))
    · omega
def zd_Nm (c T : Nat) : Prop := (c = 0 ∨ zd_ab T (c - 1)) ∧ ¬ zd_ab T c
theorem zd_NmT {c T : Nat} (hc : c ≤ 1023) (h : zd_Nm c T) : T ≤ 4177920000000000000 := by
  have h2 := h.2
  have := zd_Bb hc
  unfold zd_ab at h2
  omega
theorem zd_NmRd {c T r : Nat} (hc : c ≤ 1023) (hr : zd_Rd T r) : zd_Nm c T ↔ (T < 4177920000000000000 ∧ r = c) := by
  constructor
  · intro h
    have hR : zd_Rd T c := by
      refine ⟨hc, fun j hj => ?_, fun _ => h.2⟩
      rcases h.1 with h1 | h1
      · omega
      · exact zd_abm (j := c - 1) (by omega) (by omega) h1
    refine ⟨?_, zd_Rd1 hr hR⟩
    have h2 := h.2
    by_cases e : c = 1023
    · subst e
      unfold zd_ab at h2
      rw [zd_Bl] at h2
      omega
    · have := zd_Blt (i := c) (j := 1023) (by omega) (Nat.le_refl _)
      rw [zd_Bl] at this
      unfold zd_ab at h2
      omega
  · intro ⟨h, e⟩
    subst e
    obtain ⟨h1, h2, h3⟩ := hr
    constructor
    · by_cases z : r = 0
      · exact Or.inl z
      · exact Or.inr (h2 (r - 1) (by omega))
    · by_cases z : r < 1023
      · exact h3 z
      · have e : r = 1023 := by omega
        rw [e]
        unfold zd_ab
        rw [zd_Bl]
        omega
/-- what stepsOf gives: the steps, or a number beyond all borders if they are beyond all borders -/
def zd_St (T N : Nat) : Prop := (N = T ∧ T < 8200000000000000000) ∨ (N = 9000000000000000000 ∧ 8192000000000000000 < T)
theorem zd_StN {T N : Nat} (h : zd_St T N) : N < 2 ^ 63 := by unfold zd_St at h; omega
theorem zd_StLt {T N b : Nat} (h : zd_St T N) (hb : b ≤ 8192000000000000000) : (b < N ↔ b < T) ∧ (N = b ↔ T = b) ∧ (N < b ↔ T < b) := by unfold zd_St at h; omega
theorem zd_StAb {T N j : Nat} (h : zd_St T N) (hj : j ≤ 1023) : zd_ab N j ↔ zd_ab T j := by
  have hb := zd_Bb hj
  obtain ⟨h1, h2, -⟩ := zd_StLt h (b := zd_B j) (by omega)
  unfold zd_ab
  rw [h1, h2]
theorem zd_StRd {T N r : Nat} (h : zd_St T N) (hr : zd_Rd N r) : zd_Rd T r := by
  obtain ⟨h1, h2, h3⟩ := hr
  exact ⟨h1, fun j hj => (zd_StAb h (by omega)).mp (h2 j hj), fun z a => h3 z ((zd_StAb h (by omega)).mpr a)⟩
theorem zd_st1 {D m Q : Nat} (h : m + Q = 12) (hd : D / 10 ^ m ≤ 8000) : zd_St (zd_T D Q) (D * (1024 * 10 ^ Q)) := by
  left
  refine ⟨rfl, ?_⟩
  have h1 : D < 8001 * 10 ^ m := (Nat.div_lt_iff_lt_mul (zd_p0 m)).mp (by omega)
  have h2 : D * 10 ^ Q < 8001 * 10 ^ m * 10 ^ Q := Nat.mul_lt_mul_of_pos_right h1 (zd_p0 Q)
  have h3 : 8001 * 10 ^ m * 10 ^ Q = 8001 * 1000000000000 := by rw [Nat.mul_assoc, zd_padd h]
  have h4 : zd_T D Q = 1024 * (D * 10 ^ Q) := by unfold zd_T; rw [Nat.mul_left_comm]
  omega
theorem zd_st2 {D m Q : Nat} (h : m + Q = 12) (hd : 8000 < D / 10 ^ m) : zd_St (zd_T D Q) 9000000000000000000 := by
  right
  refine ⟨rfl, ?_⟩
  have h1 : 8001 * 10 ^ m ≤ D := (Nat.le_div_iff_mul_le (zd_p0 m)).mp hd
  have h2 : 8001 * 10 ^ m * 10 ^ Q ≤ D * 10 ^ Q := Nat.mul_le_mul_right _ h1
  have h3 : 8001 * 10 ^ m * 10 ^ Q = 8001 * 1000000000000 := by rw [Nat.mul_assoc, zd_padd h]
  have h4 : zd_T D Q = 1024 * (D * 10 ^ Q) := by unfold zd_T; rw [Nat.mul_left_comm]
  omega
theorem zd_st3e {D m Q : Nat} (h : m + 12 = Q) : zd_T D Q = D * 10 ^ m * 1024 * 1000000000000 := by
  unfold zd_T
  rw [← zd_padd h]
  have : (10 : Nat) ^ 12 = 1000000000000 := by decide
  rw [this]
  generalize (10 : Nat) ^ m = p
  rw [Nat.mul_assoc, Nat.mul_assoc]
  congr 1
  rw [Nat.mul_left_comm]
theorem zd_st3 {D m Q : Nat} (h : m + 12 = Q) (hd : D * 10 ^ m ≤ 8000) : zd_St (zd_T D Q) (D * 10 ^ m * 1024 * 1000000000000) := by
  left
  rw [zd_st3e h]
  omega
theorem zd_st4 {D m Q : Nat} (h : m + 12 = Q) (hd : 8000 < D * 10 ^ m) : zd_St (zd_T D Q) 9000000000000000000 := by
  right
  rw [zd_st3e h]
  omega
/-- the sign of a difference -/
def zd_sg (a b : Nat) : Int32 := if a < b then -1 else if b < a then 1 else 0
theorem zd_sgm {a b k : Nat} (hk : 0 < k) : zd_sg (a * k) (b * k) = zd_sg a b := by
  unfold zd_sg
  simp only [Nat.mul_lt_mul_right hk]
theorem zd_sgl {a b : Nat} (h : a < b) : zd_sg a b = -1 := if_pos h
theorem zd_sgg {a b : Nat} (h : b < a) : zd_sg a b = 1 := by unfold zd_sg; rw [if_neg (by omega), if_pos h]
theorem zd_sge {a b : Nat} (h : a = b) : zd_sg a b = 0 := by unfold zd_sg; rw [if_neg (by omega), if_neg (by omega)]
end
section
/-! the component: powers, units, borders, steps, nearest -/
section
variable {t s1 s2 : Int32} {a : Nat → Int32}
theorem zd_xten5 (post : Int64 → Prop) (m : Nat) (hm : m < 2 ^ 31) (h : post (lN (10 ^ m))) : ∀ d i, i + d = m → wX_tenTo_5 post (nI m) t s1 s2 a (d + 1) (lN (10 ^ i)) (nI i) := by
  intro d
  induction d with
  | zero =>
    intro i hi
    have e : i = m := by omega
    subst e
    exact br_t (nI_le (Nat.le_refl _) hm) h
  | succ d ih =>
    intro i hi
    refine br_f (nI_ge (by omega) hm) (nm_r (e' := lN (10 ^ (i + 1))) ?_ (nm_r (nI_1 i) (ih (i + 1) (by omega))))
    rw [Nat.pow_succ]
    exact lN_mul _ 10
theorem zd_xten {post : Int64 → Prop} (m : Nat) (hm : m < 2 ^ 31) {x : Int32} (hx : x = nI m) (h : post (lN (10 ^ m))) : wpX_tenTo post (t, s1, s2, a) x := by
  subst hx
  exact ⟨m + 1, zd_xten5 post m hm h m 0 (by omega)⟩
theorem zd_xunits {post : Int32 → Prop} (c : Nat) (hc : c < 1025) {x : Int32} (hx : x = nI c) (h : post (nI (zd_U c))) : wpX_unitsOf post (t, s1, s2, a) x := by
  subst hx
  have hb := zd_Ub0 c hc
  refine nm_r (e' := nI (c / 64)) (pk_shrN (by omega) _ 6 (by decide)) (nm_r (e' := nI (c % 64)) (pk_andN (by omega) 6 (by decide)) ?_)
  refine pk_eq (c / 64) 0 (fun z => ?_) (fun z => ?_)
  · have e : zd_U c = c % 64 := by unfold zd_U; rw [if_pos (by omega)]; omega
    rw [e] at h
    exact h
  · have e : zd_U c = (64 + c % 64) * 2 ^ (c / 64 - 1) := by unfold zd_U; rw [if_neg (by omega)]
    have e1 : nI (c / 64) - 1 = nI (c / 64 - 1) := pk_sub (b := 1) (by omega)
    have e2 : (64 : Int32) + nI (c % 64) = nI (64 + c % 64) := nI_add 64 _
    refine zd_at (P := post) ?_ h
    rw [e1, e2, e]
    exact pk_shlN _ _ (s_l _ (by omega)) (by rw [← e]; omega)
theorem zd_xsteps {post : Int64 → Prop} (c : Nat) (hc : c < 1025) (h : post (lN (zd_U c * 2000000000000))) : wpX_steps post (t, s1, s2, a) (nI c) := by
  have hb := zd_Ub0 c hc
  unfold wpX_steps
  dsimp only
  refine zd_xunits c hc rfl ?_
  refine zd_at (P := post) ?_ h
  rw [nI_l (by omega)]
  exact lN_mul _ 2000000000000
theorem zd_xborder {post : Int64 → Prop} (c : Nat) (hc : c < 1024) {x : Int32} (hx : x = nI c) (h : post (lN (zd_B c))) : wpX_borderAbove post (t, s1, s2, a) x := by
  have hb := zd_Ub0 c (by omega)
  have hb1 := zd_Ub0 (c + 1) (by omega)
  unfold wpX_borderAbove
  dsimp only
  refine zd_xunits c (by omega) hx ?_
  refine zd_xunits (c + 1) (by omega) (by rw [hx]; exact nI_1 c) ?_
  refine zd_at (P := post) ?_ h
  rw [nI_add, nI_l (by omega)]
  exact lN_mul _ 1000000000000
theorem zd_xstepsOf {post : Int64 → Prop} (D Q : Nat) (hD : D < 100000000) (hQ : Q < 19) {x y : Int32} (hx : x = nI D) (hy : y = nI Q - 12) (h : ∀ N, zd_St (zd_T D Q) N → post (lN N)) : wpX_stepsOf post (t, s1, s2, a) x y := by
  subst hx hy
  obtain ⟨q1, -⟩ := zd_q1 Q hQ
  obtain ⟨q2, -⟩ := zd_q2 Q hQ
  obtain ⟨q3, q4⟩ := zd_q3 Q hQ
  have eD : (nI D).toInt64 = lN D := nI_l (by omega)
  by_cases hq : Q < 12
  · refine br_t (q1.mpr hq) ?_
    have hp := zd_p12 (m := 12 - Q) (by omega)
    have hp0 := zd_p0 (12 - Q)
    refine zd_xten (12 - Q) (by omega) (q3 hq) ?_
    refine ⟨zd_lne hp0 (by omega), ?_⟩
    have hdl : D / 10 ^ (12 - Q) ≤ D := Nat.div_le_self _ _
    refine zd_lle (D / 10 ^ (12 - Q)) 8000 (fun z => ?_) (fun z => ?_) ?_ rfl (by omega) (by omega)
    · refine zd_xten Q (by omega) q2 ?_
      refine zd_at (P := post) ?_ (h _ (zd_st1 (m := 12 - Q) (by omega) z))
      rw [eD, show (1024 : Int64) = lN 1024 from rfl, lN_mul, lN_mul]
    · exact h _ (zd_st2 (m := 12 - Q) (by omega) z)
    · rw [eD]
      exact pk_lDiv (by omega) hp0 (by omega)
  · refine br_f (fun z => hq (q1.mp z)) ?_
    have hp := zd_p6 (m := Q - 12) (by omega)
    have hb : D * 10 ^ (Q - 12) ≤ 100000000 * 1000000 := Nat.mul_le_mul (by omega) hp
    refine zd_xten (Q - 12) (by omega) (q4 (by omega)) ?_
    refine nm_r (e' := lN (D * 10 ^ (Q - 12))) (by rw [eD]; exact lN_mul _ _) ?_
    refine zd_lle (D * 10 ^ (Q - 12)) 8000 (fun z => ?_) (fun z => ?_) rfl rfl (by omega) (by omega)
    · refine zd_at (P := post) ?_ (h _ (zd_st3 (m := Q - 12) (by omega) z))
      rw [show (1024 : Int64) = lN 1024 from rfl, show (1000000000000 : Int64) = lN 1000000000000 from rfl, lN_mul, lN_mul]
    · exact h _ (zd_st4 (m := Q - 12) (by omega) z)
theorem zd_w66 {post : Int32 → Prop} {J : Int32 → Int32 → Int32 → Prop} {x1 : Int64} (lo hi i mid : Nat) (h : J (nI lo) (nI mid) (nI (i + 1))) : wX_nearest_65 post J x1 (nI lo) (nI hi) (nI i) (nI mid) t s1 s2 a :=
  br_t (c := (0 : Int32) = 0) rfl (nm_r (nI_1 i) h)
theorem zd_w61 {post : Int32 → Prop} {J : Int32 → Int32 → Int32 → Prop} {x1 : Int64} (lo hi i mid : Nat) (h : J (nI (mid + 1)) (nI hi) (nI (i + 1))) : wX_nearest_61 post J x1 (nI lo) (nI hi) (nI i) (nI mid) t s1 s2 a :=
  br_f (c := (1 : Int32) = 0) (by decide) (nm_r (nI_1 mid) (nm_r (nI_1 i) h))
theorem zd_xnear10 (post : Int32 → Prop) (N : Nat) (hN : N < 2 ^ 63) (h : ∀ r, zd_Rd N r → post (nI r)) : ∀ d i lo hi, i + d = 10 → lo ≤ hi → hi ≤ 1023 → hi - lo < 2 ^ d → (∀ j, j < lo → zd_ab N j) → (hi < 1023 → ¬ zd_ab N hi) → wX_nearest_10 post (lN N) t s1 s2 a (d + 1) (nI lo) (nI hi) (nI i) := by
  intro d
  induction d with
  | zero =>
    intro i lo hi hi1 hl hh hw ha hb
    have e : hi = lo := by simp at hw; omega
    subst e
    refine br_f (nI_ge (b := 11) (by omega) (by decide)) (br_t (nI_le (Nat.le_refl _) (by omega)) (h _ ⟨hh, ha, hb⟩))
  | succ d ih =>
    intro i lo hi hi1 hl hh hw ha hb
    refine br_f (nI_ge (b := 11) (by omega) (by decide)) ?_
    refine pk_le hi lo (fun z => ?_) (fun z => ?_)
    · have e : hi = lo := by omega
      subst e
      exact h _ ⟨hh, ha, hb⟩
    · have ew : 2 ^ (d + 1) = 2 * 2 ^ d := by rw [Nat.pow_succ]; omega
      refine nm_r (e' := nI ((lo + hi) / 2)) (by rw [nI_add]; exact pk_shrN (by omega) _ 1 (by decide)) ?_
      generalize hm : (lo + hi) / 2 = mid
      have hB := zd_Bb (c := mid) (by omega)
      have up : zd_ab N mid → wX_nearest_61 post (wX_nearest_10 post (lN N) t s1 s2 a (d + 1)) (lN N) (nI lo) (nI hi) (nI i) (nI mid) t s1 s2 a := fun z =>
        zd_w61 lo hi i mid (ih (i + 1) (mid + 1) hi (by omega) (by omega) hh (by omega) (fun j hj => zd_abm (j := mid) (by omega) (by omega) z) hb)
      have dn : ¬ zd_ab N mid → wX_nearest_65 post (wX_nearest_10 post (lN N) t s1 s2 a (d + 1)) (lN N) (nI lo) (nI hi) (nI i) (nI mid) t s1 s2 a := fun z =>
        zd_w66 lo hi i mid (ih (i + 1) lo mid (by omega) (by omega) (by omega) (by omega) ha (fun _ => z))
      refine zd_xborder mid (by omega) rfl ?_
      refine zd_llt (zd_B mid) N (fun z => up (Or.inl z)) (fun z => ?_) rfl rfl (by omega) hN
      refine zd_leq N (zd_B mid) (fun y => ?_) (fun y => dn (by unfold zd_ab; omega)) rfl rfl hN (by omega)
      refine pk_eq (mid % 2) 1 (fun w => up (Or.inr ⟨y, w⟩)) (fun w => dn (by unfold zd_ab; omega)) (pk_andN (by omega) 1 (by decide))
theorem zd_xnear {post : Int32 → Prop} (N : Nat) (hN : N < 2 ^ 63) (h : ∀ r, zd_Rd N r → post (nI r)) : wpX_nearest post (t, s1, s2, a) (lN N) :=
  ⟨11, zd_xnear10 post N hN h 10 0 0 1023 rfl (by decide) (by decide) (by decide) (fun j hj => absurd hj (Nat.not_lt_zero j)) (fun z => absurd z (by decide))⟩
theorem zd_xrd {post : Int32 → Prop} (D Q : Nat) (hD : D < 100000000) (hQ : Q < 19) {x y : Int32} (hx : x = nI D) (hy : y = nI Q - 12) (h : ∀ r, zd_Rd (zd_T D Q) r → post (nI r)) : wpX_stepsOf (fun r_7 => wpX_nearest (fun r_12 => post r_12) (t, s1, s2, a) r_7) (t, s1, s2, a) x y :=
  zd_xstepsOf D Q hD hQ hx hy (fun N hN => zd_xnear N (zd_StN hN) (fun r hr => h r (zd_StRd hN hr)))
theorem zd_xnamed {post : Int32 → Prop} (c T N : Nat) (hc : c ≤ 1023) (hN : zd_St T N) (h1 : zd_Nm c T → post 1) (h0 : ¬ zd_Nm c T → post 0) : wpX_named post (t, s1, s2, a) (nI c) (lN N) := by
  have hn := zd_StN hN
  obtain ⟨-, -, e⟩ := zd_StLt hN (b := 4177920000000000000) (by decide)
  refine zd_lle 4177920000000000000 N (fun z => h0 (fun k => ?_)) (fun z => ?_) rfl rfl (by decide) hn
  · have hT := zd_NmT hc k
    have h2 := k.2
    have hr : zd_ab T c ∨ T < 4177920000000000000 := by
      by_cases w : T < 4177920000000000000
      · exact Or.inr w
      · left
        by_cases e : c = 1023
        · subst e
          unfold zd_ab
          rw [zd_Bl]
          omega
        · have := zd_Blt (i := c) (j := 1023) (by omega) (Nat.le_refl _)
          rw [zd_Bl] at this
          unfold zd_ab
          omega
    rcases hr with w | w
    · exact h2 w
    · omega
  · refine zd_xnear N hn (fun r hr => ?_)
    have hr' := zd_StRd hN hr
    have hi := zd_NmRd hc hr'
    have hb := hr.1
    refine pk_eq r c (fun w => h1 (hi.mpr ⟨e.mp z, w⟩)) (fun w => h0 (fun k => w (hi.mp k).2))
def zd_dec (x y : Int32) : Prop := ¬ x < 0 ∧ ¬ 99999999 < x ∧ ¬ y < (-12) ∧ y ≤ 6
def zd_cod (x : Int32) : Prop := ¬ x < 0 ∧ x < 1024
theorem zd_decE {x y : Int32} (h : zd_dec x y) : ∃ D Q, D < 100000000 ∧ Q < 19 ∧ x = nI D ∧ y = nI Q - 12 := by
  obtain ⟨h1, h2, h3, h4⟩ := h
  obtain ⟨D, hD, e⟩ := nI_of2 (M := 99999999) (n := 99999999) (by decide) h1 (Int32.not_lt.mp h2)
  obtain ⟨Q, hQ, e2⟩ := zd_qof h3 h4
  exact ⟨D, Q, by omega, hQ, e, e2⟩
theorem zd_codE {x : Int32} (h : zd_cod x) : ∃ c, c ≤ 1023 ∧ x = nI c := by
  obtain ⟨h1, h2⟩ := h
  obtain ⟨c, hc, e⟩ := nI_of h1
  subst e
  have h3 := (nI_ltI (b := 1024) hc (by decide)).mp h2
  exact ⟨c, by omega, rfl⟩
theorem zd_xdecT {post : Int32 → Prop} {x y : Int32} (h : zd_dec x y) (hp : post 0) : wpX_badDecimal post (t, s1, s2, a) x y :=
  br_f h.1 (br_f h.2.1 (br_f h.2.2.1 (br_t h.2.2.2 hp)))
theorem zd_xdecF {post : Int32 → Prop} {x y : Int32} (h : ¬ zd_dec x y) (hp : post 1) : wpX_badDecimal post (t, s1, s2, a) x y :=
  br_c (fun _ => hp) (fun h1 => br_c (fun _ => hp) (fun h2 => br_c (fun _ => hp) (fun h3 => br_c (fun h4 => absurd ⟨h1, h2, h3, h4⟩ h) (fun _ => hp))))
theorem zd_xcodT {post : Int32 → Prop} {x : Int32} (h : zd_cod x) (hp : post 0) : wpX_badCode post (t, s1, s2, a) x :=
  br_f h.1 (br_t h.2 hp)
theorem zd_xcodF {post : Int32 → Prop} {x : Int32} (h : ¬ zd_cod x) (hp : post 1) : wpX_badCode post (t, s1, s2, a) x :=
  br_c (fun _ => hp) (fun h1 => br_c (fun h2 => absurd ⟨h1, h2⟩ h) (fun _ => hp))
end
end
section
/-! the reference: powers, signs, read, names -/
section
variable {t b1 b2 : Int32} {va a : Nat → Int32}
theorem zd_ydecT {post : Int32 → Prop} {x y : Int32} (h : zd_dec x y) (hp : post 1) : wpY_isDecimal post (t, b1, b2, va, a) x y :=
  br_f h.1 (br_f h.2.1 (br_f h.2.2.1 (br_f (Int32.not_lt.mpr h.2.2.2) hp)))
theorem zd_ydecF {post : Int32 → Prop} {x y : Int32} (h : ¬ zd_dec x y) (hp : post 0) : wpY_isDecimal post (t, b1, b2, va, a) x y :=
  br_c (fun _ => hp) (fun h1 => br_c (fun _ => hp) (fun h2 => br_c (fun _ => hp) (fun h3 => br_c (fun _ => hp) (fun h4 => absurd ⟨h1, h2, h3, Int32.not_lt.mp h4⟩ h))))
theorem zd_c1023 {x : Int32} : x < 1024 ↔ ¬ 1023 < x := by
  have h1 : (1024 : Int32).toInt = 1024 := by decide
  have h2 : (1023 : Int32).toInt = 1023 := by decide
  rw [Int32.lt_iff_toInt_lt, Int32.lt_iff_toInt_lt, h1, h2]
  omega
theorem zd_ycodT {post : Int32 → Prop} {x : Int32} (h : zd_cod x) (hp : post 1) : wpY_isCode post (t, b1, b2, va, a) x :=
  br_f h.1 (br_f (zd_c1023.mp h.2) hp)
theorem zd_ycodF {post : Int32 → Prop} {x : Int32} (h : ¬ zd_cod x) (hp : post 0) : wpY_isCode post (t, b1, b2, va, a) x :=
  br_c (fun _ => hp) (fun h1 => br_c (fun _ => hp) (fun h2 => absurd ⟨h1, zd_c1023.mpr h2⟩ h))
theorem zd_ypow5 (post : Int64 → Prop) (m : Nat) (hm : m < 2 ^ 31) (h : post (lN (10 ^ m))) : ∀ d i, i + d = m → wY_power_5 post (nI m) t b1 b2 va a (d + 1) (lN (10 ^ i)) (nI i) := by
  intro d
  induction d with
  | zero =>
    intro i hi
    have e : i = m := by omega
    subst e
    exact br_t (nI_le (Nat.le_refl _) hm) h
  | succ d ih =>
    intro i hi
    refine br_f (nI_ge (by omega) hm) (nm_r (e' := lN (10 ^ (i + 1))) ?_ (nm_r (nI_1 i) (ih (i + 1) (by omega))))
    rw [Nat.pow_succ, Nat.mul_comm]
    exact lN_mul 10 _
theorem zd_ypow {post : Int64 → Prop} (m : Nat) (hm : m < 2 ^ 31) {x : Int32} (hx : x = nI m) (h : post (lN (10 ^ m))) : wpY_power post (t, b1, b2, va, a) x := by
  subst hx
  exact ⟨m + 1, zd_ypow5 post m hm h m 0 (by omega)⟩
theorem zd_y47 {post : Int32 → Prop} {x z : Int64} (L R : Nat) (hx : x = lN L) (hz : z = lN R) (hL : L < 2 ^ 63) (hR : R < 2 ^ 63) (h : post (zd_sg L R)) : wY_sign_47 post x z t b1 b2 va a := by
  refine zd_lle R L (fun w => ?_) (fun w => ?_) hz hx hR hL
  · refine zd_lle L R (fun v => ?_) (fun v => ?_) hx hz hL hR
    · rw [zd_sge (by omega)] at h
      exact h
    · rw [zd_sgg v] at h
      exact h
  · rw [zd_sgl w] at h
    exact h
theorem zd_ysign {post : Int32 → Prop} (H D Q : Nat) (hH : H ≤ 8388608) (hD : D < 100000000) (hQ : Q < 19) {z : Int64} {x y : Int32} (hz : z = lN H) (hx : x = nI D) (hy : y = nI Q - 12) (h : post (zd_sg (H * 1000000000000) (zd_T D Q))) : wpY_sign post (t, b1, b2, va, a) z x y := by
  subst hx hy hz
  obtain ⟨-, q1⟩ := zd_q1 Q hQ
  obtain ⟨q3, q4⟩ := zd_q3 Q hQ
  have eD : (1024 : Int64) * (nI D).toInt64 = lN (1024 * D) := by rw [nI_l (by omega)]; exact lN_mul 1024 D
  by_cases hq : Q < 12
  · have hn : ¬ 0 ≤ nI Q - 12 := fun w => by have := q1.mp w; omega
    refine br_f hn (zd_ypow (12 - Q) (by omega) (q3 hq) ?_)
    refine br_f hn ?_
    have hp := zd_p12 (m := 12 - Q) (by omega)
    have hb : H * 10 ^ (12 - Q) ≤ 8388608 * 1000000000000 := Nat.mul_le_mul hH hp
    refine zd_y47 (H * 10 ^ (12 - Q)) (1024 * D) (lN_mul _ _) eD (by omega) (by omega) ?_
    have e1 : H * 1000000000000 = H * 10 ^ (12 - Q) * 10 ^ Q := by rw [Nat.mul_assoc, zd_padd (k := 12) (by omega)]
    have e2 : zd_T D Q = 1024 * D * 10 ^ Q := by unfold zd_T; rw [Nat.mul_comm 1024 D, Nat.mul_assoc]
    rw [e1, e2, zd_sgm (zd_p0 Q)] at h
    exact h
  · have hn : 0 ≤ nI Q - 12 := q1.mpr (by omega)
    refine br_t hn ?_
    refine br_t hn (zd_ypow (Q - 12) (by omega) (q4 (by omega)) ?_)
    have hp := zd_p6 (m := Q - 12) (by omega)
    have hb : 1024 * D * 10 ^ (Q - 12) ≤ 1024 * 100000000 * 1000000 := Nat.mul_le_mul (by omega) hp
    refine zd_y47 H (1024 * D * 10 ^ (Q - 12)) rfl ?_ (by omega) (by omega) ?_
    · rw [eD]
      exact lN_mul _ _
    · have e2 : zd_T D Q = 1024 * D * 10 ^ (Q - 12) * 1000000000000 := by
        rw [zd_st3e (m := Q - 12) (by omega)]
        rw [Nat.mul_assoc D, Nat.mul_comm (10 ^ (Q - 12)), ← Nat.mul_assoc, Nat.mul_comm D]
      rw [e2, zd_sgm (by decide)] at h
      exact h
/-- the table of values -/
def zd_V (va : Nat → Int32) : Prop := ∀ c, c < 1025 → va c = nI (zd_U c)
theorem zd_hv (hV : zd_V va) {c d : Nat} (hc : c < 1025) (hd : d < 1025) {x y : Int32} (hx : x = nI c) (hy : y = nI d) : (va x.toNatClampNeg + va y.toNatClampNeg).toInt64 = lN (zd_U c + zd_U d) := by
  have h1 := zd_Ub0 c hc
  have h2 := zd_Ub0 d hd
  rw [pk_cl c hx, pk_cl d hy, hV c hc, hV d hd, nI_add, nI_l (by omega)]
theorem zd_ybord {post : Int32 → Prop} (hV : zd_V va) (c D Q : Nat) (hc : c < 1024) (hD : D < 100000000) (hQ : Q < 19) {i j x y : Int32} (hi : i = nI c) (hj : j = nI (c + 1)) (hx : x = nI D) (hy : y = nI Q - 12) (h : post (zd_sg (zd_B c) (zd_T D Q))) : wpY_sign post (t, b1, b2, va, a) ((va i.toNatClampNeg + va j.toNatClampNeg).toInt64) x y := by
  have h1 := zd_Ub0 c (by omega)
  have h2 := zd_Ub0 (c + 1) (by omega)
  exact zd_ysign (zd_U c + zd_U (c + 1)) D Q (by omega) hD hQ (zd_hv hV (by omega) (by omega) hi hj) hx hy h
theorem zd_yread13 (post : Int32 → Prop) (hV : zd_V va) (D Q : Nat) (hD : D < 100000000) (hQ : Q < 19) (h : ∀ r, zd_Rd (zd_T D Q) r → post (nI r)) : ∀ d c, c + d = 1023 → (∀ j, j < c → zd_ab (zd_T D Q) j) → wY_read_13 post (nI D) (nI Q - 12) t b1 b2 va a (d + 1) (nI c) := by
  intro d
  induction d with
  | zero =>
    intro c hc hj
    have e : c = 1023 := by omega
    subst e
    exact br_t (nI_le (a := 1023) (Nat.le_refl _) (by decide)) (h 1023 ⟨Nat.le_refl _, hj, fun z => absurd z (by decide)⟩)
  | succ d ih =>
    intro c hc hj
    refine br_f (nI_ge (b := 1023) (by omega) (by decide)) ⟨vp_in_nI (by omega) (by decide), pk_in (c + 1) 1025 (by omega) (nI_1 c), ?_⟩
    refine zd_ybord hV c D Q (by omega) hD hQ rfl (nI_1 c) rfl rfl ?_
    have nx : zd_ab (zd_T D Q) c → ∀ x, x = nI c + 1 → wY_read_13 post (nI D) (nI Q - 12) t b1 b2 va a (d + 1) x := fun z =>
      nm_r (nI_1 c) (ih (c + 1) (by omega) (fun j hj' => by
        by_cases e : j = c
        · rw [e]; exact z
        · exact hj j (by omega)))
    have st : ¬ zd_ab (zd_T D Q) c → post (nI c) := fun z => h c ⟨by omega, hj, fun _ => z⟩
    rcases Nat.lt_trichotomy (zd_B c) (zd_T D Q) with z | z | z
    · rw [zd_sgl z]
      exact br_f (by decide) (br_f (by decide) (nx (Or.inl z)))
    · rw [zd_sge z]
      refine br_f (by decide) (br_t rfl ⟨by decide, ?_⟩)
      refine pk_eq (c % 2) 0 (fun w => st (by unfold zd_ab; omega)) (fun w => nx (Or.inr ⟨z.symm, by omega⟩)) (pk_rem (d := 2) (by omega) (by decide) (by decide))
    · rw [zd_sgg z]
      exact br_t (by decide) (st (by unfold zd_ab; omega))
theorem zd_yrd {post : Int32 → Prop} (hV : zd_V va) (D Q : Nat) (hD : D < 100000000) (hQ : Q < 19) {x y : Int32} (hx : x = nI D) (hy : y = nI Q - 12) (h : ∀ r, zd_Rd (zd_T D Q) r → post (nI r)) : ∃ n13 : Nat, wY_read_13 post x y t b1 b2 va a n13 0 := by
  subst hx hy
  exact ⟨1024, zd_yread13 post hV D Q hD hQ h 1023 0 rfl (fun j hj => absurd hj (Nat.not_lt_zero j))⟩
theorem zd_w54 {post : Int32 → Prop} (c : Nat) (hc : c ≤ 1023) (A Z : Int32) (hA : A = -1 ∨ A = 0 ∨ A = 1) (hZ : Z = -1 ∨ Z = 0 ∨ Z = 1) (h1 : ((Z = -1 ∨ (Z = 0 ∧ c % 2 = 0)) ∧ (A = 1 ∨ (A = 0 ∧ c % 2 = 0))) → post 1) (h0 : ¬ ((Z = -1 ∨ (Z = 0 ∧ c % 2 = 0)) ∧ (A = 1 ∨ (A = 0 ∧ c % 2 = 0))) → post 0) : wY_isName_54 post (nI c) A Z t b1 b2 va a := by
  refine And.intro (by decide) ?_
  refine pk_eq (c % 2) 0 (fun w => ?_) (fun w => ?_) (pk_rem (d := 2) (by omega) (by decide) (by decide))
  · simp only [w, eq_self, and_true] at h1 h0
    rcases hA with rfl | rfl | rfl <;> rcases hZ with rfl | rfl | rfl <;>
      (repeat (first | refine br_t (by decide) ?_ | refine br_f (by decide) ?_)) <;>
      (first | exact h1 (by decide) | exact h0 (by decide))
  · simp only [w, and_false, or_false] at h1 h0
    rcases hA with rfl | rfl | rfl <;> rcases hZ with rfl | rfl | rfl <;>
      (repeat (first | refine br_t (by decide) ?_ | refine br_f (by decide) ?_)) <;>
      (first | exact h1 (by decide) | exact h0 (by decide))
theorem zd_sg3 (p q : Nat) : zd_sg p q = -1 ∨ zd_sg p q = 0 ∨ zd_sg p q = 1 := by
  unfold zd_sg
  split
  · exact Or.inl rfl
  · split
    · exact Or.inr (Or.inr rfl)
    · exact Or.inr (Or.inl rfl)
theorem zd_sgm1 {p q : Nat} : zd_sg p q = -1 ↔ p < q := by
  rcases Nat.lt_trichotomy p q with z | z | z
  · rw [zd_sgl z]; exact ⟨fun _ => z, fun _ => rfl⟩
  · rw [zd_sge z]; exact ⟨fun w => absurd w (by decide), fun w => by omega⟩
  · rw [zd_sgg z]; exact ⟨fun w => absurd w (by decide), fun w => by omega⟩
theorem zd_sg0 {p q : Nat} : zd_sg p q = 0 ↔ p = q := by
  rcases Nat.lt_trichotomy p q with z | z | z
  · rw [zd_sgl z]; exact ⟨fun w => absurd w (by decide), fun w => by omega⟩
  · rw [zd_sge z]; exact ⟨fun _ => z, fun _ => rfl⟩
  · rw [zd_sgg z]; exact ⟨fun w => absurd w (by decide), fun w => by omega⟩
theorem zd_sgp1 {p q : Nat} : zd_sg p q = 1 ↔ q < p := by
  rcases Nat.lt_trichotomy p q with z | z | z
  · rw [zd_sgl z]; exact ⟨fun w => absurd w (by decide), fun w => by omega⟩
  · rw [zd_sge z]; exact ⟨fun w => absurd w (by decide), fun w => by omega⟩
  · rw [zd_sgg z]; exact ⟨fun _ => z, fun _ => rfl⟩
theorem zd_yname {post : Int32 → Prop} (hV : zd_V va) (c D Q : Nat) (hc : c ≤ 1023) (hD : D < 100000000) (hQ : Q < 19) {x y : Int32} (hx : x = nI D) (hy : y = nI Q - 12) (h1 : zd_Nm c (zd_T D Q) → post 1) (h0 : ¬ zd_Nm c (zd_T D Q) → post 0) : wpY_isName post (t, b1, b2, va, a) (nI c) x y := by
  refine And.intro (vp_in_nI (by omega) (by decide)) (And.intro (pk_in (c + 1) 1025 (by omega) (nI_1 c)) ?_)
  refine zd_ybord hV c D Q (by omega) hD hQ rfl (nI_1 c) hx hy ?_
  refine pk_eq c 0 (fun w => ?_) (fun w => ?_)
  · refine zd_w54 c hc _ _ (zd_sg3 _ _) (Or.inl rfl) (fun k => h1 ?_) (fun k => h0 (fun n => k ?_))
    · rw [zd_sgp1, zd_sg0] at k
      refine ⟨Or.inl w, ?_⟩
      unfold zd_ab
      omega
    · rw [zd_sgp1, zd_sg0]
      refine ⟨Or.inl rfl, ?_⟩
      have := n.2
      unfold zd_ab at this
      omega
  · obtain ⟨p, rfl⟩ : ∃ p, c = p + 1 := ⟨c - 1, by omega⟩
    refine And.intro (pk_in p 1025 (by omega) (nI_pred p)) (And.intro (vp_in_nI (by omega) (by decide)) ?_)
    refine zd_ybord hV p D Q (by omega) hD hQ (nI_pred p) rfl hx hy ?_
    refine zd_w54 (p + 1) hc _ _ (zd_sg3 _ _) (zd_sg3 _ _) (fun k => h1 ?_) (fun k => h0 (fun n => k ?_))
    · rw [zd_sgm1, zd_sg0, zd_sgp1, zd_sg0] at k
      unfold zd_Nm zd_ab
      rw [Nat.add_sub_cancel]
      omega
    · rw [zd_sgm1, zd_sg0, zd_sgp1, zd_sg0]
      unfold zd_Nm zd_ab at n
      rw [Nat.add_sub_cancel] at n
      omega
end
end
section
/-! written, places -/
def zd_wr (c p : Nat) : Nat := if 256 < zd_U c * 10 ^ p % 512 ∨ (zd_U c * 10 ^ p % 512 = 256 ∧ zd_U c * 10 ^ p / 512 % 2 = 1) then zd_U c * 10 ^ p / 512 + 1 else zd_U c * 10 ^ p / 512
theorem zd_wrb {c p : Nat} (hc : c ≤ 1023) (hp : p ≤ 4) : zd_wr c p < 100000000 := by
  have h1 := zd_Ub1 c (by omega)
  have h2 : 10 ^ p ≤ 10000 := zd_ple (n := 4) hp
  have h3 : zd_U c * 10 ^ p ≤ 2080768 * 10000 := Nat.mul_le_mul h1 h2
  unfold zd_wr
  split <;> omega
section
variable {t s1 s2 : Int32} {a : Nat → Int32}
theorem zd_xw57 {post : Int32 → Prop} (k : Nat) (h : post (nI k)) : wX_writtenWith_57 post (lN k) t s1 s2 a :=
  br_t (c := (0 : Int32) = 0) rfl (zd_at (P := post) (lN_i k) h)
theorem zd_xw53 {post : Int32 → Prop} (k : Nat) (h : post (nI (k + 1))) : wX_writtenWith_53 post (lN k) t s1 s2 a :=
  br_f (c := (1 : Int32) = 0) (by decide) (zd_at (P := post) (by rw [lN_1]; exact lN_i (k + 1)) h)
theorem zd_xwr {post : Int32 → Prop} (c p : Nat) (hc : c ≤ 1023) (hp : p ≤ 5) {x : Int32} (hx : x = nI p) (h : post (nI (zd_wr c p))) : wpX_writtenWith post (t, s1, s2, a) (nI c) x := by
  have h1 := zd_Ub1 c (by omega)
  have h2 := zd_p5 hp
  have h3 : zd_U c * 10 ^ p ≤ 2080768 * 100000 := Nat.mul_le_mul h1 h2
  unfold wpX_writtenWith
  dsimp only
  refine zd_xunits c (by omega) rfl ?_
  refine zd_xten p (by omega) hx ?_
  refine nm_r (e' := lN (zd_U c * 10 ^ p)) (by rw [nI_l (by omega)]; exact lN_mul _ _) ?_
  unfold zd_wr at h
  generalize zd_U c * 10 ^ p = n at *
  refine nm_r (e' := lN (n / 512)) (pf_shr (d := 9) (by decide) (by omega)) ?_
  refine nm_r (e' := lN (n % 512)) (wb_mask (k := 9) (by omega) (by decide)) ?_
  refine zd_llt 256 (n % 512) (fun z => ?_) (fun z => ?_)
  · rw [if_pos (Or.inl z)] at h
    exact zd_xw53 _ h
  · refine zd_leq (n % 512) 256 (fun y => ?_) (fun y => ?_)
    · refine zd_leq (n / 512 % 2) 1 (fun w => ?_) (fun w => ?_) (wb_a1 (by omega))
      · rw [if_pos (Or.inr ⟨y, w⟩)] at h
        exact zd_xw53 _ h
      · rw [if_neg (by omega)] at h
        exact zd_xw57 _ h
    · rw [if_neg (by omega)] at h
      exact zd_xw57 _ h
end
section
variable {t b1 b2 : Int32} {va a : Nat → Int32}
theorem zd_yw61 {post : Int32 → Prop} (k : Nat) (h : post (nI k)) : wY_write_61 post (lN k) t b1 b2 va a :=
  br_t (c := (0 : Int32) = 0) rfl (zd_at (P := post) (lN_i k) h)
theorem zd_yw57 {post : Int32 → Prop} (k : Nat) (h : post (nI (k + 1))) : wY_write_57 post (lN k) t b1 b2 va a :=
  br_f (c := (1 : Int32) = 0) (by decide) (zd_at (P := post) (by rw [lN_1]; exact lN_i (k + 1)) h)
theorem zd_yv (hV : zd_V va) {c : Nat} (hc : c ≤ 1023) : (va (nI c).toNatClampNeg).toInt64 = lN (zd_U c) := by
  have h1 := zd_Ub1 c (by omega)
  rw [nI_clamp (by omega), hV c (by omega), nI_l (by omega)]
theorem zd_ywr {post : Int32 → Prop} (hV : zd_V va) (c p : Nat) (hc : c ≤ 1023) (hp : p ≤ 5) {x : Int32} (hx : x = nI p) (h : post (nI (zd_wr c p))) : wpY_write post (t, b1, b2, va, a) (nI c) x := by
  have h1 := zd_Ub1 c (by omega)
  have h2 := zd_p5 hp
  have h3 : zd_U c * 10 ^ p ≤ 2080768 * 100000 := Nat.mul_le_mul h1 h2
  refine And.intro (vp_in_nI (by omega) (by decide)) ?_
  refine zd_ypow p (by omega) hx ?_
  refine nm_r (e' := lN (zd_U c * 10 ^ p)) (by rw [zd_yv hV hc]; exact lN_mul _ _) ?_
  unfold zd_wr at h
  generalize zd_U c * 10 ^ p = n at *
  refine And.intro (by decide) (nm_r (e' := lN (n / 512)) (pk_lDiv (b := 512) (by omega) (by decide) (by decide)) ?_)
  refine And.intro (by decide) (nm_r (e' := lN (n % 512)) (pk_lRem (b := 512) (by omega) (by decide) (by decide)) ?_)
  refine zd_llt 256 (n % 512) (fun z => ?_) (fun z => ?_)
  · rw [if_pos (Or.inl z)] at h
    exact zd_yw57 _ h
  · refine zd_leq (n % 512) 256 (fun y => ?_) (fun y => ?_)
    · refine And.intro (by decide) ?_
      refine zd_leq (n / 512 % 2) 1 (fun w => ?_) (fun w => ?_) (pk_lRem (b := 2) (by omega) (by decide) (by decide))
      · rw [if_pos (Or.inr ⟨y, w⟩)] at h
        exact zd_yw57 _ h
      · rw [if_neg (by omega)] at h
        exact zd_yw61 _ h
    · rw [if_neg (by omega)] at h
      exact zd_yw61 _ h
end
/-- both places loops have one outcome -/
theorem zd_places {t s1 s2 : Int32} {a : Nat → Int32} {u b1 b2 : Int32} {va b : Nat → Int32} (hV : zd_V va) (c : Nat) (hc : c ≤ 1023) : ∀ d p, p + d = 5 → ∃ r : Int32, (∀ post : Int32 → Prop, post r → wX_places_12 post (nI c) t s1 s2 a (d + 1) (nI p)) ∧ (∀ post : Int32 → Prop, post r → wY_places_12 post (nI c) u b1 b2 va b (d + 1) (nI p)) := by
  intro d
  induction d with
  | zero =>
    intro p hp
    have e : p = 5 := by omega
    subst e
    exact ⟨5, fun post h => br_t (nI_le (a := 5) (Nat.le_refl _) (by decide)) h, fun post h => br_t (nI_le (a := 5) (Nat.le_refl _) (by decide)) h⟩
  | succ d ih =>
    intro p hp
    obtain ⟨r, hX, hY⟩ := ih (p + 1) (by omega)
    have h5 : ¬ (5 : Int32) ≤ nI p := nI_ge (b := 5) (by omega) (by decide)
    have hw := zd_wrb hc (p := p) (by omega)
    have hQ : 12 - p < 19 := by omega
    have eq := zd_q4 p (by omega)
    have hn : ¬ (99999999 : Int32) < nI (zd_wr c p) := nI_nlt (b := zd_wr c p) (a := 99999999) (by omega) (by decide)
    by_cases k : zd_Nm c (zd_T (zd_wr c p) (12 - p))
    · refine ⟨nI p, fun post h => ?_, fun post h => ?_⟩
      · refine br_f h5 (zd_xwr c p hc (by omega) rfl ?_)
        refine zd_xstepsOf (zd_wr c p) (12 - p) hw hQ rfl eq (fun N hN => ?_)
        exact zd_xnamed c _ N hc hN (fun _ => br_f (by decide) h) (fun z => absurd k z)
      · refine br_f h5 (zd_ywr hV c p hc (by omega) rfl ?_)
        refine br_f hn ?_
        exact zd_yname hV c (zd_wr c p) (12 - p) hc hw hQ rfl eq (fun _ => br_f (by decide) h) (fun z => absurd k z)
    · refine ⟨r, fun post h => ?_, fun post h => ?_⟩
      · refine br_f h5 (zd_xwr c p hc (by omega) rfl ?_)
        refine zd_xstepsOf (zd_wr c p) (12 - p) hw hQ rfl eq (fun N hN => ?_)
        exact zd_xnamed c _ N hc hN (fun z => absurd z k) (fun _ => br_t rfl (nm_r (nI_1 p) (hX post h)))
      · refine br_f h5 (zd_ywr hV c p hc (by omega) rfl ?_)
        refine br_f hn ?_
        exact zd_yname hV c (zd_wr c p) (12 - p) hc hw hQ rfl eq (fun z => absurd z k) (fun _ => br_t rfl (nm_r (nI_1 p) (hY post h)))
end
section
/-! typing: pure functions of the first n keys, and the loops over them -/
def zd_nd (a : Nat → Int32) : Nat → Nat
  | 0 => 0
  | n + 1 => if a n = 10 then zd_nd a n else zd_nd a n + 1
def zd_hp (a : Nat → Int32) : Nat → Nat
  | 0 => 0
  | n + 1 => if a n = 10 then 1 else zd_hp a n
def zd_nb (a : Nat → Int32) : Nat → Nat
  | 0 => 0
  | n + 1 => if a n = 10 then zd_nb a n else if zd_hp a n = 0 then zd_nb a n else zd_nb a n + 1
def zd_td (a : Nat → Int32) : Nat → Nat
  | 0 => 0
  | n + 1 => if a n = 10 then zd_td a n else zd_td a n * 10 + (a n).toNatClampNeg
/-- the keys below n are digits or points -/
def zd_K (a : Nat → Int32) (n : Nat) : Prop := ∀ j, j < n → a j = 10 ∨ ∃ m, m < 10 ∧ a j = nI m
theorem zd_ndp {a : Nat → Int32} {n : Nat} (h : a n = 10) : zd_nd a (n + 1) = zd_nd a n := if_pos h
theorem zd_ndn {a : Nat → Int32} {n : Nat} (h : ¬ a n = 10) : zd_nd a (n + 1) = zd_nd a n + 1 := if_neg h
theorem zd_hpp {a : Nat → Int32} {n : Nat} (h : a n = 10) : zd_hp a (n + 1) = 1 := if_pos h
theorem zd_hpn {a : Nat → Int32} {n : Nat} (h : ¬ a n = 10) : zd_hp a (n + 1) = zd_hp a n := if_neg h
theorem zd_nbp {a : Nat → Int32} {n : Nat} (h : a n = 10) : zd_nb a (n + 1) = zd_nb a n := if_pos h
theorem zd_nbn {a : Nat → Int32} {n : Nat} (h : ¬ a n = 10) (z : zd_hp a n = 0) : zd_nb a (n + 1) = zd_nb a n := by
  show (if a n = 10 then _ else _) = _
  rw [if_neg h, if_pos z]
theorem zd_nbs {a : Nat → Int32} {n : Nat} (h : ¬ a n = 10) (z : ¬ zd_hp a n = 0) : zd_nb a (n + 1) = zd_nb a n + 1 := by
  show (if a n = 10 then _ else _) = _
  rw [if_neg h, if_neg z]
theorem zd_tdp {a : Nat → Int32} {n : Nat} (h : a n = 10) : zd_td a (n + 1) = zd_td a n := if_pos h
theorem zd_tdn {a : Nat → Int32} {n : Nat} (h : ¬ a n = 10) : zd_td a (n + 1) = zd_td a n * 10 + (a n).toNatClampNeg := if_neg h
theorem zd_ndle (a : Nat → Int32) : ∀ n, zd_nd a n ≤ n ∧ zd_nd a n ≤ zd_nd a (n + 1) ∧ zd_nd a (n + 1) ≤ zd_nd a n + 1 ∧ zd_nb a n ≤ zd_nd a n ∧ zd_hp a n ≤ 1 := by
  intro n
  have hstep : ∀ m, zd_nd a m ≤ zd_nd a (m + 1) ∧ zd_nd a (m + 1) ≤ zd_nd a m + 1 := by
    intro m
    by_cases h : a m = 10
    · rw [zd_ndp h]; omega
    · rw [zd_ndn h]; omega
  induction n with
  | zero => exact ⟨Nat.le_refl _, (hstep 0).1, (hstep 0).2, Nat.le_refl _, Nat.zero_le _⟩
  | succ n ih =>
    obtain ⟨i1, i2, i3, i4, i5⟩ := ih
    refine ⟨by omega, (hstep _).1, (hstep _).2, ?_, ?_⟩
    · by_cases h : a n = 10
      · rw [zd_ndp h, zd_nbp h]; omega
      · rw [zd_ndn h]
        by_cases z : zd_hp a n = 0
        · rw [zd_nbn h z]; omega
        · rw [zd_nbs h z]; omega
    · by_cases h : a n = 10
      · rw [zd_hpp h]; omega
      · rw [zd_hpn h]; omega
theorem zd_key {a : Nat → Int32} {n j : Nat} (hK : zd_K a n) (hj : j < n) (h : ¬ a j = 10) : (a j).toNatClampNeg < 10 ∧ a j = nI (a j).toNatClampNeg := by
  rcases hK j hj with e | ⟨m, hm, e⟩
  · exact absurd e h
  · rw [e, nI_clamp (by omega)]
    exact ⟨hm, rfl⟩
theorem zd_tdb {a : Nat → Int32} : ∀ n, zd_K a n → zd_td a n < 10 ^ zd_nd a n := by
  intro n
  induction n with
  | zero => exact fun _ => by show 0 < 10 ^ 0; decide
  | succ n ih =>
    intro hK
    have h1 := ih (fun j hj => hK j (by omega))
    by_cases h : a n = 10
    · rw [zd_ndp h, zd_tdp h]; exact h1
    · obtain ⟨h2, -⟩ := zd_key hK (by omega) h
      rw [zd_ndn h, zd_tdn h, Nat.pow_succ]
      omega
theorem zd_tdb8 {a : Nat → Int32} {n : Nat} (hK : zd_K a n) (h : zd_nd a n ≤ 8) : zd_td a n < 100000000 := by
  have h1 := zd_tdb n hK
  have h2 : 10 ^ zd_nd a n ≤ 100000000 := zd_ple (n := 8) h
  omega
/-- a store behind the first n keeps them -/
theorem zd_ndu {a : Nat → Int32} {k : Nat} {x : Int32} : ∀ n, n ≤ k → zd_nd (upd a k x) n = zd_nd a n := by
  intro n
  induction n with
  | zero => exact fun _ => rfl
  | succ n ih =>
    intro hn
    show (if upd a k x n = 10 then _ else _) = (if a n = 10 then _ else _)
    rw [pk_un (by omega), ih (by omega)]
section
variable {s1 s2 : Int32} {a : Nat → Int32}
theorem zd_xnd {post : Int32 → Prop} (T : Nat) (hT : T ≤ 9) (h : post (nI (zd_nd a T))) : wpX_digitsTyped post (nI T, s1, s2, a) := by
  have L : ∀ d i, i + d = T → wX_digitsTyped_4 post (nI T) s1 s2 a (d + 1) (nI (zd_nd a i)) (nI i) := by
    intro d
    induction d with
    | zero =>
      intro i hi
      have e : i = T := by omega
      subst e
      exact br_t (nI_le (Nat.le_refl _) (by omega)) h
    | succ d ih =>
      intro i hi
      have e : (nI i).toNatClampNeg = i := nI_clamp (by omega)
      have g := ih (i + 1) (by omega)
      refine br_f (nI_ge (by omega) (by omega)) ⟨vp_in_nI (by omega) (by decide), ?_⟩
      rw [e]
      by_cases z : a i = 10
      · rw [zd_ndp z] at g
        exact br_t z (nm_r (nI_1 i) g)
      · rw [zd_ndn z] at g
        exact br_f z (nm_r (nI_1 _) (nm_r (nI_1 i) g))
  exact ⟨T + 1, L T 0 (by omega)⟩
theorem zd_xtd {post : Int32 → Prop} (T : Nat) (hT : T ≤ 9) (hK : zd_K a T) (h : post (nI (zd_td a T))) : wpX_textDigits post (nI T, s1, s2, a) := by
  have L : ∀ d i, i + d = T → wX_textDigits_4 post (nI T) s1 s2 a (d + 1) (nI (zd_td a i)) (nI i) := by
    intro d
    induction d with
    | zero =>
      intro i hi
      have e : i = T := by omega
      subst e
      exact br_t (nI_le (Nat.le_refl _) (by omega)) h
    | succ d ih =>
      intro i hi
      have e : (nI i).toNatClampNeg = i := nI_clamp (by omega)
      have g := ih (i + 1) (by omega)
      refine br_f (nI_ge (by omega) (by omega)) ⟨vp_in_nI (by omega) (by decide), ?_⟩
      rw [e]
      by_cases z : a i = 10
      · rw [zd_tdp z] at g
        exact br_t z (nm_r (nI_1 i) g)
      · obtain ⟨-, k⟩ := zd_key hK (show i < T by omega) z
        rw [zd_tdn z] at g
        refine br_f z ⟨vp_in_nI (by omega) (by decide), nm_r (e' := nI (zd_td a i * 10 + (a i).toNatClampNeg)) ?_ (nm_r (nI_1 i) g)⟩
        rw [← nI_add, ← k]
        exact congrArg (· + a i) (pk_mul _ 10)
  exact ⟨T + 1, L T 0 (by omega)⟩
theorem zd_xts {post : Int32 → Prop} (T : Nat) (hT : T ≤ 9) (h : post (-nI (zd_nb a T))) : wpX_textScale post (nI T, s1, s2, a) := by
  have L : ∀ d i, i + d = T → wX_textScale_6 post (nI T) s1 s2 a (d + 1) (-nI (zd_nb a i)) (nI (zd_hp a i)) (nI i) := by
    intro d
    induction d with
    | zero =>
      intro i hi
      have e : i = T := by omega
      subst e
      exact br_t (nI_le (Nat.le_refl _) (by omega)) h
    | succ d ih =>
      intro i hi
      have e : (nI i).toNatClampNeg = i := nI_clamp (by omega)
      have g := ih (i + 1) (by omega)
      have hh := (zd_ndle a i).2.2.2.2
      refine br_f (nI_ge (by omega) (by omega)) ⟨vp_in_nI (by omega) (by decide), ?_⟩
      rw [e]
      by_cases z : a i = 10
      · rw [zd_nbp z, zd_hpp z] at g
        exact br_t z (nm_r (nI_1 i) g)
      · refine br_f z ?_
        rw [zd_hpn z] at g
        refine pk_eq (zd_hp a i) 0 (fun w => ?_) (fun w => ?_)
        · rw [zd_nbn z w] at g
          exact nm_r (nI_1 i) g
        · rw [zd_nbs z w] at g
          refine nm_r (e' := -nI (zd_nb a i + 1)) ?_ (nm_r (nI_1 i) g)
          rw [← nI_1, Int32.neg_add]
          exact (Int32.sub_eq_add_neg _ _).symm
  have g := L T 0 (by omega)
  have e0 : -nI (zd_nb a 0) = 0 := (show -nI 0 = 0 by decide)
  rw [e0] at g
  exact ⟨T + 1, g⟩
theorem zd_xreading {post : Int32 → Prop} (T D : Nat) (hT : T ≤ 9) (hn : zd_nd a T ≤ 8) (hD : D < 100000000) {x : Int32} (hx : x = nI D) (h : ∀ r, zd_Rd (zd_T D (12 - zd_nb a T)) r → post (nI r)) : wpX_reading post (nI T, s1, s2, a) x := by
  have hb := (zd_ndle a T).2.2.2.1
  unfold wpX_reading
  dsimp only
  refine zd_xts T hT ?_
  exact zd_xrd D (12 - zd_nb a T) hD (by omega) hx (zd_q4 _ (by omega)) h
end
section
variable {b1 b2 : Int32} {va a : Nat → Int32}
theorem zd_w37 {post : Int32 → Prop} {J : Int32 → Int32 → Int32 → Prop} {T : Int32} (i : Nat) (hi : i < 9) (x1 x2 z0 : Int32) (h1 : a i = 10 → J x2 z0 (nI (i + 1))) (h2 : ¬ a i = 10 → z0 = 0 → ¬ x1 = 0 → J x2 z0 (nI (i + 1))) (h3 : ¬ a i = 10 → (z0 = 0 → x1 = 0) → J (x2 + 1) z0 (nI (i + 1))) : wY_countDigits_37 post J x1 x2 (nI i) z0 T b1 b2 va a := by
  have e : (nI i).toNatClampNeg = i := nI_clamp (by omega)
  refine And.intro (vp_in_nI hi (by decide)) ?_
  rw [e]
  refine br_c (fun z => nm_r (nI_1 i) (h1 z)) (fun z => br_c (fun w => br_c (fun v => nm_e (nm_r (nI_1 i) (h3 z (fun _ => v)))) (fun v => nm_r (nI_1 i) (h2 z w v))) (fun w => nm_e (nm_r (nI_1 i) (h3 z (fun q => absurd q w)))))
theorem zd_ycd {post : Int32 → Prop} (T : Nat) (hT : T ≤ 9) (x1 : Int32) (F : Nat → Nat) (F0 : F 0 = 0) (F1 : ∀ i, a i = 10 → F (i + 1) = F i) (F2 : ∀ i, ¬ a i = 10 → zd_hp a i = 0 → ¬ x1 = 0 → F (i + 1) = F i) (F3 : ∀ i, ¬ a i = 10 → (zd_hp a i = 0 → x1 = 0) → F (i + 1) = F i + 1) (h : post (nI (F T))) : wpY_countDigits post (nI T, b1, b2, va, a) x1 := by
  have L : ∀ d i, i + d = T → wY_countDigits_7 post x1 (nI T) b1 b2 va a (d + 1) (nI (F i)) (nI (zd_hp a i)) (nI i) := by
    intro d
    induction d with
    | zero =>
      intro i hi
      have e : i = T := by omega
      subst e
      exact br_t (nI_le (Nat.le_refl _) (by omega)) h
    | succ d ih =>
      intro i hi
      have e : (nI i).toNatClampNeg = i := nI_clamp (by omega)
      have g := ih (i + 1) (by omega)
      have hh := (zd_ndle a i).2.2.2.2
      have g10 : a i = 10 → wY_countDigits_32 post (wY_countDigits_7 post x1 (nI T) b1 b2 va a (d + 1)) x1 (nI (F i)) (nI i) (nI T) b1 b2 va a := by
        intro z
        refine zd_w37 i (by omega) x1 _ 1 (fun _ => ?_) (fun w => absurd z w) (fun w => absurd z w)
        rw [F1 i z, zd_hpp z] at g
        exact g
      refine br_f (nI_ge (by omega) (by omega)) ?_
      refine pk_eq (zd_hp a i) 0 (fun w => ?_) (fun w => ?_)
      · refine And.intro (vp_in_nI (by omega) (by decide)) ?_
        rw [e]
        refine br_c g10 (fun z => ?_)
        rw [zd_hpn z, w] at g
        refine zd_w37 i (by omega) x1 _ 0 (fun y => absurd y z) (fun _ _ v => ?_) (fun _ v => ?_)
        · rw [F2 i z w v] at g
          exact g
        · rw [F3 i z (fun _ => v rfl)] at g
          exact (nI_1 (F i)).symm ▸ g
      · have w1 : zd_hp a i = 1 := by omega
        refine zd_w37 i (by omega) x1 _ 1 (fun z => ?_) (fun _ y => absurd y (by decide)) (fun z _ => ?_)
        · rw [F1 i z, zd_hpp z] at g
          exact g
        · rw [F3 i z (fun y => absurd y w), zd_hpn z, w1] at g
          exact (nI_1 (F i)).symm ▸ g
  have := L T 0 (by omega)
  rw [F0] at this
  exact ⟨T + 1, this⟩
theorem zd_ynd {post : Int32 → Prop} (T : Nat) (hT : T ≤ 9) (h : post (nI (zd_nd a T))) : wpY_countDigits post (nI T, b1, b2, va, a) 0 :=
  zd_ycd T hT 0 (zd_nd a) rfl (fun _ z => zd_ndp z) (fun _ _ _ w => absurd rfl w) (fun _ z _ => zd_ndn z) h
theorem zd_ynb {post : Int32 → Prop} (T : Nat) (hT : T ≤ 9) (h : post (nI (zd_nb a T))) : wpY_countDigits post (nI T, b1, b2, va, a) 1 :=
  zd_ycd T hT 1 (zd_nb a) rfl (fun _ z => zd_nbp z) (fun _ z w _ => zd_nbn z w) (fun _ z w => zd_nbs z (fun y => absurd (w y) (by decide))) h
theorem zd_ytd {post : Int32 → Prop} (T : Nat) (hT : T ≤ 9) (hK : zd_K a T) (h : post (nI (zd_td a T))) : wpY_typedDigits post (nI T, b1, b2, va, a) := by
  have L : ∀ d i, i + d = T → wY_typedDigits_4 post (nI T) b1 b2 va a (d + 1) (nI (zd_td a i)) (nI i) := by
    intro d
    induction d with
    | zero =>
      intro i hi
      have e : i = T := by omega
      subst e
      exact br_t (nI_le (Nat.le_refl _) (by omega)) h
    | succ d ih =>
      intro i hi
      have e : (nI i).toNatClampNeg = i := nI_clamp (by omega)
      have g := ih (i + 1) (by omega)
      refine br_f (nI_ge (by omega) (by omega)) ⟨vp_in_nI (by omega) (by decide), ?_⟩
      rw [e]
      by_cases z : a i = 10
      · rw [zd_tdp z] at g
        exact br_t z (nm_r (nI_1 i) g)
      · obtain ⟨-, k⟩ := zd_key hK (show i < T by omega) z
        rw [zd_tdn z] at g
        refine br_f z ⟨vp_in_nI (by omega) (by decide), nm_r (e' := nI (zd_td a i * 10 + (a i).toNatClampNeg)) ?_ (nm_r (nI_1 i) g)⟩
        rw [← nI_add, ← k, Nat.mul_comm]
        exact congrArg (· + a i) (pk_mul 10 _)
  exact ⟨T + 1, L T 0 (by omega)⟩
/-- the reference's read, of a good decimal -/
theorem zd_yread {post : Int32 → Prop} {T : Int32} (hV : zd_V va) (D Q : Nat) (hD : D < 100000000) (hQ : Q < 19) (hd : zd_dec (nI D) (nI Q - 12)) {x y : Int32} (hx : x = nI D) (hy : y = nI Q - 12) (h : ∀ r, zd_Rd (zd_T D Q) r → post (nI r)) : wpY_read post (T, b1, b2, va, a) x y := by
  subst hx hy
  unfold wpY_read
  dsimp only
  exact zd_ydecT hd (br_f (by decide) (zd_yrd hV D Q hD hQ rfl rfl h))
end
theorem zd_q5 : ∀ Q, Q < 19 → ¬ nI Q - 12 < -12 ∧ nI Q - 12 ≤ 6 := by decide +kernel
theorem zd_decI {D Q : Nat} (hD : D < 100000000) (hQ : Q < 19) : zd_dec (nI D) (nI Q - 12) :=
  ⟨nI_pos (by omega), nI_nlt (b := D) (a := 99999999) (by omega) (by decide), (zd_q5 Q hQ).1, (zd_q5 Q hQ).2⟩
end
section
/-! the short decimals: pure functions of both sides, and their equality code by code -/
def zd_pw (Q : Nat) : Nat := 1024 * 10 ^ Q
def zd_Wc (c : Nat) : Nat := zd_U c * 2000000000000
def zd_lk (c pw : Nat) : Nat := (zd_B (c - 1) + pw - 1) / pw
def zd_lm (c pw : Nat) : Nat := if zd_lk c pw * pw = zd_B (c - 1) ∧ c % 2 = 1 then zd_lk c pw + 1 else zd_lk c pw
def zd_gm (c pw : Nat) : Nat := if zd_B c / pw * pw = zd_B c ∧ c % 2 = 1 then zd_B c / pw - 1 else zd_B c / pw
def zd_mn (m z : Nat) : Nat := if z ≤ m then z else m
def zd_cl (l m k : Nat) : Nat := zd_mn m (if l ≤ k then k else l)
def zd_nr (v pw l m : Nat) : Nat := zd_cl l m (if 2 * (v - v / pw * pw) ≤ pw then v / pw else v / pw + 1)
def zd_ll : Nat → Nat → Nat
  | 0, _ => 0
  | f + 1, l => if l = 0 then 0 else zd_ll f (l / 10) + 1
def zd_dl (d : Nat) : Nat := 1 + zd_ll 18 (d / 10)
/-- what improve makes of k at Q, with the next lesser power -/
def zd_im (c Q k : Nat) : Nat × Nat :=
  if zd_mn (10 ^ zd_dl k - 1) (zd_gm c (zd_pw Q)) < zd_lm c (zd_pw Q) then (k, Q + 1)
  else if zd_ds (zd_nr (zd_Wc c) (zd_pw Q) (zd_lm c (zd_pw Q)) (zd_mn (10 ^ zd_dl k - 1) (zd_gm c (zd_pw Q))) * zd_pw Q) (zd_Wc c) < zd_ds (k * zd_pw (Q + 1)) (zd_Wc c)
      ∨ (zd_ds (zd_nr (zd_Wc c) (zd_pw Q) (zd_lm c (zd_pw Q)) (zd_mn (10 ^ zd_dl k - 1) (zd_gm c (zd_pw Q))) * zd_pw Q) (zd_Wc c) = zd_ds (k * zd_pw (Q + 1)) (zd_Wc c)
        ∧ zd_nr (zd_Wc c) (zd_pw Q) (zd_lm c (zd_pw Q)) (zd_mn (10 ^ zd_dl k - 1) (zd_gm c (zd_pw Q))) < k)
    then (zd_nr (zd_Wc c) (zd_pw Q) (zd_lm c (zd_pw Q)) (zd_mn (10 ^ zd_dl k - 1) (zd_gm c (zd_pw Q))), Q)
    else (k, Q + 1)
def zd_ix (c k : Nat) : Nat → Nat × Nat
  | 0 => (k, 0)
  | Q + 1 => zd_im c Q k
def zd_kx (c Q : Nat) : Nat := zd_nr (zd_Wc c) (zd_pw Q) (zd_lm c (zd_pw Q)) (zd_gm c (zd_pw Q))
def zd_xl (c : Nat) : Nat → Nat × Nat
  | 0 => (0, 12)
  | Q + 1 => if zd_gm c (zd_pw Q) < zd_lm c (zd_pw Q) then zd_xl c Q else zd_ix c (zd_kx c Q) Q
def zd_xc (c : Nat) : Nat → Bool
  | 0 => true
  | Q + 1 => if zd_gm c (zd_pw Q) < zd_lm c (zd_pw Q) then zd_xc c Q else Nat.blt (zd_kx c Q) 2147483648
/-- the reference's side -/
def zd_abB (T j : Nat) : Bool := Nat.blt (zd_B j) T || (Nat.beq T (zd_B j) && Nat.beq (j % 2) 1)
def zd_NmB (c T : Nat) : Bool := (Nat.beq c 0 || zd_abB T (c - 1)) && !zd_abB T c
def zd_ok (c Q pl d : Nat) : Bool := Nat.ble pl d && (Nat.blt d (pl * 10) && (Nat.ble d 99999999 && (!Nat.beq (d % 10) 0 && zd_NmB c (zd_T d Q))))
def zd_gp (c d Q : Nat) : Nat := zd_ds (512 * d * 10 ^ Q) (zd_U c * 1000000000000)
def zd_z0 (c own : Nat) (b : Nat × Nat) : Nat := if b.1 = 0 then own + 1 else zd_gp c b.1 b.2
def zd_bt (c Q d : Nat) (b : Nat × Nat) : Nat × Nat := if zd_gp c d Q < zd_z0 c (zd_gp c d Q) b ∨ (zd_gp c d Q = zd_z0 c (zd_gp c d Q) b ∧ d < b.1) then (d, Q) else b
def zd_sp (c Q pl d : Nat) (b : Nat × Nat) : Nat × Nat := cond (zd_ok c Q pl d) (zd_bt c Q d b) b
def zd_ts (c Q pl : Nat) : Nat → Nat → Nat × Nat → Nat × Nat
  | 0, _, b => b
  | k + 1, d, b => zd_ts c Q pl k (d + 1) (zd_sp c Q pl d b)
def zd_fl (c Q : Nat) : Nat := if Q < 12 then zd_U c * 10 ^ (12 - Q) / 512 else zd_U c / (512 * 10 ^ (Q - 12))
def zd_tf (c Q pl f : Nat) (b : Nat × Nat) : Nat × Nat := if f ≤ 100000001 then (if f = 0 then zd_ts c Q pl 3 0 b else zd_ts c Q pl 4 (f - 1) b) else b
def zd_tn (c Q pl : Nat) (b : Nat × Nat) : Nat × Nat := zd_tf c Q pl (zd_fl c Q) b
def zd_yq (c pl : Nat) : Nat → Nat × Nat
  | 0 => (0, 12)
  | Q + 1 => zd_tn c Q pl (zd_yq c pl Q)
def zd_yl (c : Nat) : Nat → Nat → Nat × Nat
  | 0, _ => (0, 12)
  | k + 1, m => if (zd_yq c (10 ^ m) 19).1 = 0 then zd_yl c k (m + 1) else zd_yq c (10 ^ m) 19
def zd_eqB (x y : Nat × Nat) : Bool := Nat.beq x.1 y.1 && Nat.beq x.2 y.2
def zd_chk (c : Nat) : Bool := zd_xc c 16 && zd_eqB (zd_xl c 16) (zd_yl c 8 0)
end
section
/-! the component's findShort -/
theorem zd_pwb {Q : Nat} (h : Q ≤ 15) : 0 < zd_pw Q ∧ zd_pw Q ≤ 1024000000000000000 := by
  have h1 := zd_p0 Q
  have h2 : 10 ^ Q ≤ 1000000000000000 := zd_ple (n := 15) h
  unfold zd_pw
  omega
theorem zd_Wb {c : Nat} (hc : c ≤ 1023) : zd_Wc c ≤ 4161536000000000000 := by
  have h1 := zd_Ub1 c (by omega)
  unfold zd_Wc
  omega
theorem zd_lkb {c pw : Nat} (h : 0 < pw) : zd_lk c pw ≤ zd_B (c - 1) + pw - 1 ∧ zd_lk c pw * pw ≤ zd_B (c - 1) + pw - 1 :=
  ⟨Nat.div_le_self _ _, Nat.div_mul_le_self _ _⟩
theorem zd_lmb {c pw : Nat} (hc : c ≤ 1023) (h : 0 < pw) (h2 : pw ≤ 1024000000000000000) : zd_lm c pw < 2 ^ 63 := by
  have h1 := (zd_lkb (c := c) h).1
  have h3 := zd_Bb (c := c - 1) (by omega)
  unfold zd_lm
  split <;> omega
theorem zd_gmb {c pw : Nat} (hc : c ≤ 1023) (h : 0 < pw) : zd_gm c pw ≤ zd_B c ∧ zd_gm c pw * pw ≤ zd_B c := by
  have h1 : zd_B c / pw ≤ zd_B c := Nat.div_le_self _ _
  have h2 : zd_B c / pw * pw ≤ zd_B c := Nat.div_mul_le_self _ _
  unfold zd_gm
  split
  · refine ⟨by omega, Nat.le_trans (Nat.mul_le_mul_right _ (Nat.sub_le _ _)) h2⟩
  · exact ⟨h1, h2⟩
theorem zd_mnb (m z : Nat) : zd_mn m z ≤ m ∧ zd_mn m z ≤ z := by unfold zd_mn; split <;> omega
theorem zd_nrb (v pw l m : Nat) : zd_nr v pw l m ≤ m := (zd_mnb _ _).1
/-- the number of digits -/
theorem zd_llb : ∀ f l, l < 10 ^ f → l < 10 ^ zd_ll f l ∧ (0 < l → 10 ^ zd_ll f l ≤ 10 * l) ∧ zd_ll f l ≤ f := by
  intro f
  induction f with
  | zero =>
    intro l h
    simp only [Nat.pow_zero] at h
    have e : l = 0 := by omega
    subst e
    exact ⟨by show 0 < 10 ^ 0; decide, fun z => absurd z (by decide), Nat.le_refl _⟩
  | succ f ih =>
    intro l h
    by_cases z : l = 0
    · subst z
      exact ⟨by show 0 < 10 ^ 0; decide, fun z => absurd z (by decide), Nat.zero_le _⟩
    · have e : zd_ll (f + 1) l = zd_ll f (l / 10) + 1 := if_neg z
      rw [Nat.pow_succ] at h
      obtain ⟨h1, h2, h3⟩ := ih (l / 10) (by omega)
      rw [e, Nat.pow_succ]
      refine ⟨by omega, fun _ => ?_, by omega⟩
      by_cases y : l / 10 = 0
      · have e2 : zd_ll f (l / 10) = 0 := by
          rw [y]
          cases f with
          | zero => rfl
          | succ f => exact if_pos rfl
        rw [e2]
        omega
      · have := h2 (by omega)
        omega
theorem zd_dlb {d : Nat} (h : d < 2 ^ 31) : zd_dl d ≤ 10 ∧ 1 ≤ zd_dl d ∧ d < 10 ^ zd_dl d ∧ (0 < d → 10 ^ (zd_dl d - 1) ≤ d) := by
  obtain ⟨h1, h2, h3⟩ := zd_llb 18 (d / 10) (by have : (10 : Nat) ^ 18 = 1000000000000000000 := by decide
                                                omega)
  have e : 10 ^ zd_dl d = 10 ^ zd_ll 18 (d / 10) * 10 := by unfold zd_dl; rw [Nat.add_comm, Nat.pow_succ]
  have e2 : zd_dl d - 1 = zd_ll 18 (d / 10) := by unfold zd_dl; omega
  have lo : 0 < d → 10 ^ (zd_dl d - 1) ≤ d := by
    intro z
    rw [e2]
    by_cases y : d / 10 = 0
    · have e3 : zd_ll 18 (d / 10) = 0 := by rw [y]; exact if_pos rfl
      rw [e3]
      omega
    · have := h2 (by omega)
      omega
  refine ⟨?_, by unfold zd_dl; omega, by omega, lo⟩
  by_cases z : d = 0
  · subst z
    decide
  · have l1 := lo (by omega)
    have l2 : zd_dl d - 1 < 10 := by
      apply Nat.lt_of_not_le
      intro w
      have : 10 ^ 10 ≤ 10 ^ (zd_dl d - 1) := zd_ple w
      have e10 : (10 : Nat) ^ 10 = 10000000000 := by decide
      omega
    omega
theorem zd_dli {d m : Nat} (h : d < 2 ^ 31) (hd : 0 < d) : zd_dl d = m + 1 ↔ (10 ^ m ≤ d ∧ d < 10 ^ m * 10) := by
  obtain ⟨h1, h2, h3, h4⟩ := zd_dlb h
  have h5 := h4 hd
  constructor
  · intro e
    rw [e] at h3 h5
    rw [Nat.add_sub_cancel] at h5
    rw [Nat.pow_succ] at h3
    exact ⟨h5, h3⟩
  · intro ⟨k1, k2⟩
    rw [← Nat.pow_succ] at k2
    have a1 : ¬ zd_dl d ≤ m := fun w => by
      have := zd_ple w
      omega
    have a2 : ¬ m + 1 ≤ zd_dl d - 1 := fun w => by
      have : 10 ^ (m + 1) ≤ 10 ^ (zd_dl d - 1) := zd_ple w
      omega
    omega
section
variable {t s1 s2 : Int32} {a : Nat → Int32}
theorem zd_xlm {post : Int64 → Prop} (c pw : Nat) (h1 : 1 ≤ c) (hc : c ≤ 1023) (hp : 0 < pw) (hp2 : pw ≤ 1024000000000000000) (h : post (lN (zd_lm c pw))) : wpX_leastMultiple post (t, s1, s2, a) (nI c) (lN pw) := by
  have hB := zd_Bb (c := c - 1) (by omega)
  have hk := zd_lkb (c := c) hp
  unfold wpX_leastMultiple
  dsimp only
  refine zd_xborder (c - 1) (by omega) (pk_sub (b := 1) h1) ?_
  refine And.intro (zd_lne hp (by omega)) (nm_r (e' := lN (zd_lk c pw)) ?_ ?_)
  · rw [lN_add]
    show (lN (zd_B (c - 1) + pw) - lN 1) / lN pw = _
    rw [lN_sub (by omega), pk_lDiv (by omega) hp (by omega)]
    rfl
  · have h0 : ¬ (zd_lk c pw * pw = zd_B (c - 1) ∧ c % 2 = 1) → wX_leastMultiple_40 post (lN (zd_lk c pw)) t s1 s2 a := by
      intro z
      unfold zd_lm at h
      rw [if_neg z] at h
      exact br_t (c := (0 : Int32) = 0) rfl h
    refine zd_leq (zd_lk c pw * pw) (zd_B (c - 1)) (fun z => ?_) (fun z => h0 (fun w => z w.1)) (lN_mul _ _) rfl (by omega) (by omega)
    refine pk_eq (c % 2) 1 (fun w => ?_) (fun w => h0 (fun y => w y.2)) (pk_andN (by omega) 1 (by decide))
    unfold zd_lm at h
    rw [if_pos ⟨z, w⟩] at h
    exact br_f (c := (1 : Int32) = 0) (by decide) (zd_at (P := post) (lN_1 _) h)
theorem zd_xgm {post : Int64 → Prop} (c pw : Nat) (hc : c ≤ 1023) (hp : 0 < pw) (hp2 : pw ≤ 1024000000000000000) (h : post (lN (zd_gm c pw))) : wpX_greatestMultiple post (t, s1, s2, a) (nI c) (lN pw) := by
  have hB := zd_Bb hc
  have hB1 := zd_Bp hc
  have hk : zd_B c / pw * pw ≤ zd_B c := Nat.div_mul_le_self _ _
  unfold wpX_greatestMultiple
  dsimp only
  refine zd_xborder c (by omega) rfl ?_
  refine And.intro (zd_lne hp (by omega)) (nm_r (e' := lN (zd_B c / pw)) (pk_lDiv (by omega) hp (by omega)) ?_)
  have h0 : ¬ (zd_B c / pw * pw = zd_B c ∧ c % 2 = 1) → wX_greatestMultiple_34 post (lN (zd_B c / pw)) t s1 s2 a := by
    intro z
    unfold zd_gm at h
    rw [if_neg z] at h
    exact br_t (c := (0 : Int32) = 0) rfl h
  refine zd_leq (zd_B c / pw * pw) (zd_B c) (fun z => ?_) (fun z => h0 (fun w => z w.1)) (lN_mul _ _) rfl (by omega) (by omega)
  refine pk_eq (c % 2) 1 (fun w => ?_) (fun w => h0 (fun y => w y.2)) (pk_andN (by omega) 1 (by decide))
  unfold zd_gm at h
  rw [if_pos ⟨z, w⟩] at h
  have hpos : 1 ≤ zd_B c / pw := by
    apply Nat.succ_le_of_lt
    apply Nat.pos_of_ne_zero
    intro e
    rw [e] at z
    omega
  exact br_f (c := (1 : Int32) = 0) (by decide) (zd_at (P := post) (lN_sub (b := 1) hpos) h)
theorem zd_xn41 {post : Int64 → Prop} (m z : Nat) (hm : m < 2 ^ 63) (hz : z < 2 ^ 63) (h : post (lN (zd_mn m z))) : wX_nearestMultiple_41 post (lN m) (lN z) t s1 s2 a := by
  unfold zd_mn at h
  refine zd_lle z m (fun w => ?_) (fun w => ?_) rfl rfl hz hm
  · rw [if_pos w] at h
    exact h
  · rw [if_neg (by omega)] at h
    exact h
theorem zd_xn26 {post : Int64 → Prop} (l m k : Nat) (hl : l < 2 ^ 63) (hm : m < 2 ^ 63) (hk : k < 2 ^ 63) (h : post (lN (zd_cl l m k))) : wX_nearestMultiple_26 post (lN l) (lN m) (lN k) t s1 s2 a := by
  unfold zd_cl at h
  refine zd_lle l k (fun w => ?_) (fun w => ?_) rfl rfl hl hk
  · rw [if_pos w] at h
    exact zd_xn41 m k hm hk h
  · rw [if_neg (by omega)] at h
    exact zd_xn41 m l hm hl h
theorem zd_xnr {post : Int64 → Prop} (v pw l m : Nat) (hv : v ≤ 4161536000000000000) (hp : 0 < pw) (hp2 : pw ≤ 1024000000000000000) (hl : l < 2 ^ 63) (hm : m < 2 ^ 63) (h : post (lN (zd_nr v pw l m))) : wpX_nearestMultiple post (t, s1, s2, a) (lN v) (lN pw) (lN l) (lN m) := by
  have h1 : v / pw ≤ v := Nat.div_le_self _ _
  have h2 : v / pw * pw ≤ v := Nat.div_mul_le_self _ _
  refine And.intro (zd_lne hp (by omega)) (nm_r (e' := lN (v / pw)) (pk_lDiv (by omega) hp (by omega)) ?_)
  unfold zd_nr at h
  refine zd_lle (2 * (v - v / pw * pw)) pw (fun w => ?_) (fun w => ?_) ?_ rfl (by omega) (by omega)
  · rw [if_pos w] at h
    exact zd_xn26 l m _ hl hm (by omega) h
  · rw [if_neg (by omega)] at h
    exact nm_r (lN_1 _) (zd_xn26 l m _ hl hm (by omega) h)
  · rw [lN_mul, lN_sub h2]
    exact lN_mul 2 _
theorem zd_xsz {post : Int64 → Prop} (p q : Nat) (hp : p < 2 ^ 63) (hq : q < 2 ^ 63) {x : Int64} (hx : x = lN p - lN q) (h : post (lN (zd_ds p q))) : wpX_size post (t, s1, s2, a) x :=
  zd_size hx hp hq (fun e => zd_at (P := post) e h) (fun e => zd_at (P := post) e h)
theorem zd_xlen {post : Int32 → Prop} (d : Nat) (hd : d < 2 ^ 31) {x : Int64} (hx : x = lN d) (h : post (nI (zd_dl d))) : wpX_lengthOf post (t, s1, s2, a) x := by
  subst hx
  have L : ∀ f m l i, i + f = 18 → l < 2 ^ 31 → post (nI (m + zd_ll f l)) → wX_lengthOf_12 post t s1 s2 a (f + 1) (nI m) (lN l) (nI i) := by
    intro f
    induction f with
    | zero =>
      intro m l i hi hl h
      have e : i = 18 := by omega
      subst e
      exact br_t (nI_le (a := 18) (Nat.le_refl _) (by decide)) h
    | succ f ih =>
      intro m l i hi hl h
      refine br_f (nI_ge (b := 18) (by omega) (by decide)) ?_
      refine zd_lle l 0 (fun w => ?_) (fun w => ?_)
      · have e : zd_ll (f + 1) l = 0 := if_pos (by omega)
        rw [e] at h
        exact h
      · have e : zd_ll (f + 1) l = zd_ll f (l / 10) + 1 := if_neg (by omega)
        rw [e] at h
        refine nm_r (nI_1 m) (And.intro (by decide) (nm_r (e' := lN (l / 10)) (pk_lDiv (b := 10) (by omega) (by decide) (by decide)) (nm_r (nI_1 i) (ih (m + 1) (l / 10) (i + 1) (by omega) (by omega) ?_))))
        rw [show m + 1 + zd_ll f (l / 10) = m + (zd_ll f (l / 10) + 1) by omega]
        exact h
  exact And.intro (by decide) (nm_r (e' := lN (d / 10)) (pk_lDiv (b := 10) (by omega) (by decide) (by decide)) ⟨19, L 18 1 (d / 10) 0 rfl (by omega) h⟩)
end
end
section
/-! the component's findShort: improve, and the loop -/
section
variable {t : Int32} {a : Nat → Int32}
theorem zd_r1 : ∀ Q, Q < 16 → (-12) ≤ nI Q - 12 := by decide +kernel
theorem zd_r2 : ∀ m, m < 16 → ¬ nI (m + 1) - 13 < (-12) ∧ 12 + (nI (m + 1) - 13) = nI m ∧ nI (m + 1) - 13 + (-1) = nI m - 13 ∧ nI (m + 1) - 13 - 1 = nI m - 13 := by decide +kernel
theorem zd_r3 : ∀ m, m < 16 → nI (m + 1) - 13 = nI m - 12 := by decide +kernel
theorem zd_x140 {post : SX → Prop} (k Q : Nat) {s1 s2 x4 : Int32} (h4 : x4 = nI Q - 12) (h : post (t, nI k, nI Q - 12, a)) : wX_improve_140 post x4 (lN k) t s1 s2 a := by
  subst h4
  show post (t, (lN k).toInt32, nI Q - 12, a)
  rw [lN_i]
  exact h
theorem zd_x68 {post : SX → Prop} (c Q k mo : Nat) (h1 : 1 ≤ c) (hc : c ≤ 1023) (hQ : Q < 15) (hk : k < 2 ^ 31) (hkp : k * zd_pw (Q + 1) < 2 ^ 63) (hm : mo ≤ zd_gm c (zd_pw Q)) (emo : mo = zd_mn (10 ^ zd_dl k - 1) (zd_gm c (zd_pw Q))) {x4 : Int32} (h4 : x4 = nI Q - 12)
    (h : post (t, nI (zd_im c Q k).1, nI (zd_im c Q k).2 - 12, a)) : wX_improve_68 post (nI c) (lN (zd_Wc c)) x4 (lN (zd_ds (k * zd_pw (Q + 1)) (zd_Wc c))) (lN (zd_pw Q)) (lN mo) t (nI k) (nI (Q + 1) - 12) a := by
  obtain ⟨hp, hp2⟩ := zd_pwb (Q := Q) (by omega)
  have hW := zd_Wb hc
  have hl := zd_lmb hc hp hp2
  obtain ⟨hg, hg2⟩ := zd_gmb hc hp
  have hB := zd_Bb hc
  have hn := zd_nrb (zd_Wc c) (zd_pw Q) (zd_lm c (zd_pw Q)) mo
  have hnp : zd_nr (zd_Wc c) (zd_pw Q) (zd_lm c (zd_pw Q)) mo * zd_pw Q ≤ zd_gm c (zd_pw Q) * zd_pw Q := Nat.mul_le_mul_right _ (by omega)
  unfold zd_im at h
  rw [← emo] at h
  clear emo
  unfold wX_improve_68
  refine zd_xlm c (zd_pw Q) h1 hc hp hp2 ?_
  generalize zd_lm c (zd_pw Q) = l at *
  refine zd_llt mo l (fun z => ?_) (fun z => ?_) rfl rfl (by omega) hl
  · rw [if_pos z] at h
    exact h
  · rw [if_neg (by omega)] at h
    refine zd_xnr (zd_Wc c) (zd_pw Q) l mo hW hp hp2 hl (by omega) ?_
    generalize zd_nr (zd_Wc c) (zd_pw Q) l mo = k2 at *
    refine zd_xsz (k2 * zd_pw Q) (zd_Wc c) (by omega) (by omega) (by rw [lN_mul]) ?_
    have d1 : zd_ds (k2 * zd_pw Q) (zd_Wc c) < 2 ^ 63 := by unfold zd_ds; omega
    have d2 : zd_ds (k * zd_pw (Q + 1)) (zd_Wc c) < 2 ^ 63 := by unfold zd_ds; omega
    generalize zd_ds (k2 * zd_pw Q) (zd_Wc c) = g2 at *
    generalize zd_ds (k * zd_pw (Q + 1)) (zd_Wc c) = g1 at *
    have yes : (g2 < g1 ∨ (g2 = g1 ∧ k2 < k)) → wX_improve_140 post x4 (lN k2) t (nI k) (nI (Q + 1) - 12) a := by
      intro w
      rw [if_pos w] at h
      exact zd_x140 k2 Q h4 h
    have no : ¬ (g2 < g1 ∨ (g2 = g1 ∧ k2 < k)) → post (t, nI k, nI (Q + 1) - 12, a) := by
      intro w
      rw [if_neg w] at h
      exact h
    refine zd_llt g2 g1 (fun w => yes (Or.inl w)) (fun w => ?_) rfl rfl d1 d2
    refine zd_leq g2 g1 (fun y => ?_) (fun y => no (by omega)) rfl rfl d1 d2
    refine zd_lle k k2 (fun v => no (by omega)) (fun v => yes (Or.inr ⟨y, v⟩)) (nI_l hk) rfl (by omega) (by omega)
theorem zd_ximp {post : SX → Prop} (c Q k : Nat) (h1 : 1 ≤ c) (hc : c ≤ 1023) (hQ : Q < 15) (hk : k < 2 ^ 31) (hkp : k * zd_pw (Q + 1) < 2 ^ 63) {x4 s1 s2 : Int32} (h4 : x4 = nI Q - 12) (hs1 : s1 = nI k) (hs2 : s2 = nI (Q + 1) - 12)
    (h : post (t, nI (zd_im c Q k).1, nI (zd_im c Q k).2 - 12, a)) : wpX_improve post (t, s1, s2, a) (nI c) (lN (zd_Wc c)) x4 (lN (zd_ds (k * zd_pw (Q + 1)) (zd_Wc c))) := by
  subst hs1 hs2
  obtain ⟨hp, hp2⟩ := zd_pwb (Q := Q) (by omega)
  obtain ⟨hd, hd1, -, -⟩ := zd_dlb hk
  have hg := (zd_gmb (c := c) hc hp).1
  have hB := zd_Bb hc
  have ht : 10 ^ zd_dl k ≤ 1000000000000 := zd_p12 (by omega)
  have ht0 := zd_p0 (zd_dl k)
  refine br_t (by rw [h4]; exact zd_r1 Q (by omega)) ?_
  refine zd_xten Q (by omega) (by rw [h4]; exact (zd_q2 Q (by omega)).1) ?_
  refine nm_r (e' := lN (zd_pw Q)) (lN_mul 1024 _) ?_
  refine zd_xlen k hk (nI_l hk) ?_
  refine zd_xgm c (zd_pw Q) hc hp hp2 ?_
  refine zd_xten (zd_dl k) (by omega) rfl ?_
  refine nm_r (e' := lN (10 ^ zd_dl k - 1)) (lN_sub (b := 1) ht0) ?_
  refine zd_lle (zd_gm c (zd_pw Q)) (10 ^ zd_dl k - 1) (fun z => ?_) (fun z => ?_) rfl rfl (by omega) (by omega)
  · exact zd_x68 c Q k _ h1 hc hQ hk hkp (Nat.le_refl _) (by unfold zd_mn; rw [if_pos z]) h4 h
  · exact zd_x68 c Q k _ h1 hc hQ hk hkp (by omega) (by unfold zd_mn; rw [if_neg (by omega)]) h4 h
theorem zd_xfs {post : SX → Prop} (c : Nat) (h1 : 1 ≤ c) (hc : c ≤ 1023) : ∀ m, m ≤ 16 → zd_xc c m = true → post (t, nI (zd_xl c m).1, nI (zd_xl c m).2 - 12, a) → wX_findShort_27 post (nI c) (lN (zd_Wc c)) (m + 2) 0 (nI m - 13) t 0 0 a := by
  intro m
  induction m with
  | zero =>
    intro _ _ h
    have e : nI (zd_xl c 0).2 - 12 = 0 := (show nI 12 - 12 = 0 by decide)
    rw [e] at h
    exact br_t (by decide) h
  | succ m ih =>
    intro hm hx h
    obtain ⟨r1, r2, r3, r4⟩ := zd_r2 m (by omega)
    have r5 := zd_r3 m (by omega)
    obtain ⟨hp, hp2⟩ := zd_pwb (Q := m) (by omega)
    have hW := zd_Wb hc
    have hl := zd_lmb hc hp hp2
    obtain ⟨hg, hg2⟩ := zd_gmb hc hp
    have hB := zd_Bb hc
    refine br_f r1 (br_t rfl ?_)
    refine zd_xten m (by omega) r2 ?_
    refine nm_r (e' := lN (zd_pw m)) (lN_mul 1024 _) ?_
    refine zd_xlm c (zd_pw m) h1 hc hp hp2 ?_
    refine zd_xgm c (zd_pw m) hc hp hp2 ?_
    refine zd_llt (zd_gm c (zd_pw m)) (zd_lm c (zd_pw m)) (fun z => ?_) (fun z => ?_) rfl rfl (by omega) hl
    · have e1 : zd_xl c (m + 1) = zd_xl c m := if_pos z
      have e2 : zd_xc c (m + 1) = zd_xc c m := if_pos z
      rw [e1] at h
      rw [e2] at hx
      exact nm_r r3 (ih (by omega) hx h)
    · have z' : ¬ zd_gm c (zd_pw m) < zd_lm c (zd_pw m) := by omega
      have e1 : zd_xl c (m + 1) = zd_ix c (zd_kx c m) m := if_neg z'
      have e2 : zd_xc c (m + 1) = Nat.blt (zd_kx c m) 2147483648 := if_neg z'
      rw [e1] at h
      rw [e2] at hx
      have hk : zd_kx c m < 2 ^ 31 := Nat.le_of_ble_eq_true hx
      refine zd_xnr (zd_Wc c) (zd_pw m) (zd_lm c (zd_pw m)) (zd_gm c (zd_pw m)) hW hp hp2 hl (by omega) ?_
      have hn : zd_kx c m ≤ zd_gm c (zd_pw m) := zd_nrb _ _ _ _
      have hnp : zd_kx c m * zd_pw m ≤ zd_gm c (zd_pw m) * zd_pw m := Nat.mul_le_mul_right _ hn
      refine zd_xsz (zd_kx c m * zd_pw m) (zd_Wc c) (by omega) (by omega) (by rw [lN_mul]; rfl) ?_
      have fin : ∀ (g2 g3 x : Int32), post (t, g2, g3, a) → wX_findShort_27 post (nI c) (lN (zd_Wc c)) (m + 2) 1 x t g2 g3 a := fun g2 g3 x hp =>
        br_c (fun _ => hp) (fun _ => br_f (by decide) hp)
      cases m with
      | zero =>
        refine br_f (by decide) (fun x _ => fin _ _ x ?_)
        refine zd_at (P := fun z => post (t, z, nI (0 + 1) - 13, a)) (lN_i _) ?_
        exact zd_at (P := fun z => post (t, nI (zd_kx c 0), z, a)) r5 h
      | succ Q =>
        exact zd_ximp c Q (zd_kx c (Q + 1)) h1 hc (by omega) hk (by omega) (r4.trans (zd_r3 Q (by omega))) (lN_i _) r5 (fun x _ => fin _ _ x h)
theorem zd_xfind {post : SX → Prop} {s1 s2 : Int32} (c : Nat) (hc : c ≤ 1023) (hx : c ≠ 0 → zd_xc c 16 = true) (h0 : c = 0 → post (t, 0, 0, a)) (h : c ≠ 0 → post (t, nI (zd_xl c 16).1, nI (zd_xl c 16).2 - 12, a)) : wpX_findShort post (t, s1, s2, a) (nI c) := by
  refine pk_eq c 0 (fun z => h0 z) (fun z => ?_)
  refine zd_xsteps c (by omega) ?_
  exact ⟨18, zd_xfs c (by omega) hc 16 (Nat.le_refl _) (hx z) (h z)⟩
end
end
section
/-! the reference's findShort -/
theorem zd_blt {p q : Nat} : Nat.blt p q = true ↔ p < q := ⟨Nat.le_of_ble_eq_true, Nat.ble_eq_true_of_le⟩
theorem zd_ble {p q : Nat} : Nat.ble p q = true ↔ p ≤ q := ⟨Nat.le_of_ble_eq_true, Nat.ble_eq_true_of_le⟩
theorem zd_beq {p q : Nat} : Nat.beq p q = true ↔ p = q := by rw [Nat.beq_eq]
theorem zd_abI {T j : Nat} : zd_abB T j = true ↔ zd_ab T j := by
  unfold zd_abB zd_ab
  rw [Bool.or_eq_true, Bool.and_eq_true, zd_blt, zd_beq, zd_beq]
theorem zd_NmI {c T : Nat} : zd_NmB c T = true ↔ zd_Nm c T := by
  unfold zd_NmB zd_Nm
  rw [Bool.and_eq_true, Bool.or_eq_true, zd_beq, zd_abI, Bool.not_eq_true', ← Bool.not_eq_true, zd_abI]
theorem zd_okI {c Q pl d : Nat} : zd_ok c Q pl d = true ↔ (pl ≤ d ∧ d < pl * 10 ∧ d ≤ 99999999 ∧ ¬ d % 10 = 0 ∧ zd_Nm c (zd_T d Q)) := by
  unfold zd_ok
  rw [Bool.and_eq_true, Bool.and_eq_true, Bool.and_eq_true, Bool.and_eq_true, zd_ble, zd_blt, zd_ble, zd_NmI, Bool.not_eq_true', ← Bool.not_eq_true, zd_beq]
theorem zd_cdT {α : Type} {b : Bool} {x y : α} (h : b = true) : cond b x y = x := by rw [h]; rfl
theorem zd_cdF {α : Type} {b : Bool} {x y : α} (h : b = false) : cond b x y = y := by rw [h]; rfl
theorem zd_spF {c Q pl d : Nat} {b : Nat × Nat} (h : ¬ (pl ≤ d ∧ d < pl * 10 ∧ d ≤ 99999999 ∧ ¬ d % 10 = 0 ∧ zd_Nm c (zd_T d Q))) : zd_sp c Q pl d b = b := by
  have e : zd_ok c Q pl d = false := by
    rw [← Bool.not_eq_true, zd_okI]
    exact h
  unfold zd_sp
  exact zd_cdF e
theorem zd_spT {c Q pl d : Nat} {b : Nat × Nat} (h : pl ≤ d ∧ d < pl * 10 ∧ d ≤ 99999999 ∧ ¬ d % 10 = 0 ∧ zd_Nm c (zd_T d Q)) : zd_sp c Q pl d b = zd_bt c Q d b := by
  unfold zd_sp
  exact zd_cdT (zd_okI.mpr h)
/-- the best so far: none, or a name of the code -/
def zd_Bi (c : Nat) (b : Nat × Nat) : Prop := b.1 < 100000000 ∧ b.2 < 19 ∧ (b = (0, 12) ∨ (b.1 ≠ 0 ∧ zd_Nm c (zd_T b.1 b.2)))
theorem zd_Bi0 (c : Nat) : zd_Bi c (0, 12) := ⟨by decide, by decide, Or.inl rfl⟩
theorem zd_Bib {c Q d : Nat} {b : Nat × Nat} (hb : zd_Bi c b) (hd : 0 < d) (h9 : d ≤ 99999999) (hQ : Q < 19) (hn : zd_Nm c (zd_T d Q)) : zd_Bi c (zd_bt c Q d b) := by
  unfold zd_bt
  split
  · exact ⟨by show d < _; omega, hQ, Or.inr ⟨by show d ≠ 0; omega, hn⟩⟩
  · exact hb
theorem zd_Bis {c Q m d : Nat} {b : Nat × Nat} (hb : zd_Bi c b) (hQ : Q < 19) : zd_Bi c (zd_sp c Q (10 ^ m) d b) := by
  by_cases h : 10 ^ m ≤ d ∧ d < 10 ^ m * 10 ∧ d ≤ 99999999 ∧ ¬ d % 10 = 0 ∧ zd_Nm c (zd_T d Q)
  · rw [zd_spT h]
    have := zd_p0 m
    exact zd_Bib hb (by omega) h.2.2.1 hQ h.2.2.2.2
  · rw [zd_spF h]
    exact hb
theorem zd_Bit {c Q m : Nat} (hQ : Q < 19) : ∀ k d b, zd_Bi c b → zd_Bi c (zd_ts c Q (10 ^ m) k d b) := by
  intro k
  induction k with
  | zero => exact fun _ _ h => h
  | succ k ih => exact fun d b h => ih (d + 1) _ (zd_Bis h hQ)
theorem zd_Bin {c Q m : Nat} {b : Nat × Nat} (hQ : Q < 19) (hb : zd_Bi c b) : zd_Bi c (zd_tn c Q (10 ^ m) b) := by
  unfold zd_tn zd_tf
  split
  · split
    · exact zd_Bit hQ _ _ _ hb
    · exact zd_Bit hQ _ _ _ hb
  · exact hb
theorem zd_Biq {c m : Nat} : ∀ Q, Q ≤ 19 → zd_Bi c (zd_yq c (10 ^ m) Q) := by
  intro Q
  induction Q with
  | zero => exact fun _ => zd_Bi0 c
  | succ Q ih => exact fun h => zd_Bin (by omega) (ih (by omega))
theorem zd_gpb {c d Q : Nat} (hc : c ≤ 1023) (h : zd_Nm c (zd_T d Q)) : 512 * d * 10 ^ Q < 2 ^ 62 ∧ zd_U c * 1000000000000 < 2 ^ 62 ∧ zd_gp c d Q < 2 ^ 62 := by
  have h1 := zd_NmT hc h
  have h2 := zd_Ub1 c (by omega)
  have e : zd_T d Q = 2 * (512 * d * 10 ^ Q) := by
    unfold zd_T
    generalize 10 ^ Q = p
    rw [Nat.mul_comm 512 d, Nat.mul_assoc, Nat.mul_left_comm 2, ← Nat.mul_assoc 2]
  unfold zd_gp zd_ds
  omega
section
variable {t b1 b2 : Int32} {va a : Nat → Int32}
theorem zd_ylen {post : Int32 → Prop} (d : Nat) (hd : d < 2 ^ 31) (h : post (nI (zd_dl d))) : wpY_digitsOf post (t, b1, b2, va, a) (nI d) := by
  have L : ∀ f m l, l < 2 ^ 31 → l < 10 ^ f → post (nI (m + zd_ll f l)) → wY_digitsOf_7 post t b1 b2 va a (f + 1) (nI m) (nI l) := by
    intro f
    induction f with
    | zero =>
      intro m l hl hf h
      simp only [Nat.pow_zero] at hf
      have e : l = 0 := by omega
      subst e
      exact br_t (by decide) h
    | succ f ih =>
      intro m l hl hf h
      refine pk_le l 0 (fun w => ?_) (fun w => ?_)
      · have e : zd_ll (f + 1) l = 0 := if_pos (by omega)
        rw [e] at h
        exact h
      · have e : zd_ll (f + 1) l = zd_ll f (l / 10) + 1 := if_neg (by omega)
        rw [e] at h
        rw [Nat.pow_succ] at hf
        refine nm_r (nI_1 m) (And.intro (by decide) (nm_r (e' := nI (l / 10)) (pk_div (d := 10) (by omega) (by decide) (by decide)) (ih (m + 1) (l / 10) (by omega) (by omega) ?_)))
        rw [show m + 1 + zd_ll f (l / 10) = m + (zd_ll f (l / 10) + 1) by omega]
        exact h
  have e18 : (10 : Nat) ^ 18 = 1000000000000000000 := by decide
  exact And.intro (by decide) (nm_r (e' := nI (d / 10)) (pk_div (d := 10) (by omega) (by decide) (by decide)) ⟨19, L 18 1 (d / 10) (by omega) (by omega) h⟩)
theorem zd_ygap {post : Int64 → Prop} (hV : zd_V va) (c d Q : Nat) (hc : c ≤ 1023) (hd : d < 100000000) (hQ : Q < 19) (hn : zd_Nm c (zd_T d Q)) (h : post (lN (zd_gp c d Q))) : wpY_gap post (t, b1, b2, va, a) (nI c) (nI d) (nI Q - 12) := by
  obtain ⟨h1, h2, -⟩ := zd_gpb hc hn
  unfold wpY_gap
  dsimp only
  refine zd_ypow Q (by omega) (zd_q2 Q hQ).2 ?_
  refine And.intro (vp_in_nI (by omega) (by decide)) ?_
  refine zd_ypow 12 (by decide) rfl ?_
  refine nm_r (e' := lN (512 * d * 10 ^ Q) - lN (zd_U c * 1000000000000)) ?_ ?_
  · rw [zd_yv hV hc, nI_l (by omega), lN_mul, show (512 : Int64) = lN 512 from rfl, lN_mul, lN_mul]
  · exact zd_size rfl (by omega) (by omega) (fun e => zd_at (P := post) e h) (fun e => zd_at (P := post) e h)
theorem zd_y152 {post : SY → Prop} {J : Int32 → Int32 → Int32 → Prop} {x1 x2 x3 : Int32} {x4 : Int64} (d own z p1 : Nat) {B2 : Int32} (hd : d < 2 ^ 31) (hp : p1 < 2 ^ 31) (ho : own < 2 ^ 63) (hz : z < 2 ^ 63) (h1 : (own < z ∨ (own = z ∧ d < p1)) → J (nI (d + 1)) (nI d) x3) (h0 : ¬ (own < z ∨ (own = z ∧ d < p1)) → J (nI (d + 1)) (nI p1) B2) : wY_tryNear_152 post J x1 x2 x3 x4 (nI d) (lN own) (lN z) t (nI p1) B2 va a := by
  refine zd_llt own z (fun w => nm_r (nI_1 d) (h1 (Or.inl w))) (fun w => ?_) rfl rfl ho hz
  refine zd_leq own z (fun y => ?_) (fun y => nm_r (nI_1 d) (h0 (by omega))) rfl rfl ho hz
  exact pk_le p1 d (fun v => nm_r (nI_1 d) (h0 (by omega))) (fun v => nm_r (nI_1 d) (h1 (Or.inr ⟨y, v⟩)))
theorem zd_y61 {post : SY → Prop} (hV : zd_V va) (c Q m f : Nat) (hc : c ≤ 1023) (hQ : Q < 19) (hm : m < 8) (hf : f ≤ 100000001) : ∀ k d b, d + k = f + 3 → zd_Bi c b → post (t, nI (zd_ts c Q (10 ^ m) k d b).1, nI (zd_ts c Q (10 ^ m) k d b).2 - 12, va, a) → wY_tryNear_61 post (nI c) (nI (m + 1)) (nI Q - 12) (lN f) t va a (k + 1) (nI d) (nI b.1) (nI b.2 - 12) := by
  intro k
  induction k with
  | zero =>
    intro d b hd hb h
    refine zd_lle (f + 3) d (fun _ => h) (fun w => absurd w (by omega)) (lN_add f 3) (nI_l (by omega)) (by omega) (by omega)
  | succ k ih =>
    intro d b hd hb h
    have hb' := zd_Bis (m := m) (d := d) hb hQ
    have g := ih (d + 1) (zd_sp c Q (10 ^ m) d b) (by omega) hb' h
    have hp0 := zd_p0 m
    have bad : ¬ (10 ^ m ≤ d ∧ d < 10 ^ m * 10 ∧ d ≤ 99999999 ∧ ¬ d % 10 = 0 ∧ zd_Nm c (zd_T d Q)) → ∀ x, x = nI d + 1 → wY_tryNear_61 post (nI c) (nI (m + 1)) (nI Q - 12) (lN f) t va a (k + 1) x (nI b.1) (nI b.2 - 12) := by
      intro w
      rw [zd_spF w] at g
      exact nm_r (nI_1 d) g
    refine zd_lle (f + 3) d (fun w => absurd w (by omega)) (fun _ => ?_) (lN_add f 3) (nI_l (by omega)) (by omega) (by omega)
    refine pk_le d 0 (fun w => bad (by omega)) (fun w0 => ?_)
    refine pk_lt 99999999 d (fun w => bad (by omega)) (fun w1 => ?_)
    refine And.intro (by decide) ?_
    refine pk_eq (d % 10) 0 (fun w => bad (fun q => q.2.2.2.1 w)) (fun w2 => ?_) (pk_rem (d := 10) (by omega) (by decide) (by decide))
    refine zd_ylen d (by omega) ?_
    have hdl := zd_dlb (d := d) (by omega)
    refine pk_eq (zd_dl d) (m + 1) (fun w3 => ?_) (fun w => bad (fun q => w ((zd_dli (by omega) w0).mpr ⟨q.1, q.2.1⟩))) rfl rfl (by omega) (by omega)
    obtain ⟨e1, e2⟩ := (zd_dli (by omega) w0).mp w3
    refine zd_yname hV c d Q hc (by omega) hQ rfl rfl (fun w4 => ?_) (fun w => br_t rfl (bad (fun q => w q.2.2.2.2)))
    refine br_f (by decide) ?_
    have hT : 10 ^ m ≤ d ∧ d < 10 ^ m * 10 ∧ d ≤ 99999999 ∧ ¬ d % 10 = 0 ∧ zd_Nm c (zd_T d Q) := ⟨e1, e2, w1, w2, w4⟩
    obtain ⟨-, -, ho⟩ := zd_gpb hc w4
    rw [zd_spT hT] at g
    refine zd_ygap hV c d Q hc (by omega) hQ w4 ?_
    have hz : zd_z0 c (zd_gp c d Q) b < 2 ^ 63 ∧ (b.1 ≠ 0 → zd_z0 c (zd_gp c d Q) b = zd_gp c b.1 b.2) := by
      unfold zd_z0
      obtain ⟨-, -, hb3⟩ := hb
      by_cases q0 : b.1 = 0
      · rw [if_pos q0]
        exact ⟨by omega, fun q => absurd q0 q⟩
      · rw [if_neg q0]
        rcases hb3 with q | q
        · exact absurd (by rw [q]) q0
        · exact ⟨by have := (zd_gpb hc q.2).2.2; omega, fun _ => rfl⟩
    have fin : wY_tryNear_152 post (wY_tryNear_61 post (nI c) (nI (m + 1)) (nI Q - 12) (lN f) t va a (k + 1)) (nI c) (nI (m + 1)) (nI Q - 12) (lN f) (nI d) (lN (zd_gp c d Q)) (lN (zd_z0 c (zd_gp c d Q) b)) t (nI b.1) (nI b.2 - 12) va a := by
      unfold zd_bt at g
      have hb1 := hb.1
      refine zd_y152 d _ _ b.1 (by omega) (by omega) (by omega) hz.1 (fun q => ?_) (fun q => ?_)
      · rw [if_pos q] at g
        exact g
      · rw [if_neg q] at g
        exact g
    have hb1 := hb.1
    refine pk_eq b.1 0 (fun q => ?_) (fun q => ?_)
    · have e : zd_z0 c (zd_gp c d Q) b = zd_gp c d Q + 1 := if_pos q
      rw [e] at fin
      exact (lN_1 (zd_gp c d Q)).symm ▸ fin
    · rw [hz.2 q] at fin
      have hb3 : zd_Nm c (zd_T b.1 b.2) := by
        rcases hb.2.2 with r | r
        · rw [r] at q
          exact absurd rfl q
        · exact r.2
      exact zd_ygap hV c b.1 b.2 hc hb.1 hb.2.1 hb3 fin
theorem zd_y42 {post : SY → Prop} (hV : zd_V va) (c Q m f : Nat) (hc : c ≤ 1023) (hQ : Q < 19) (hm : m < 8) (hf : f < 2 ^ 63) (b : Nat × Nat) (hb : zd_Bi c b) (h : post (t, nI (zd_tf c Q (10 ^ m) f b).1, nI (zd_tf c Q (10 ^ m) f b).2 - 12, va, a)) : wY_tryNear_42 post (nI c) (nI (m + 1)) (nI Q - 12) (lN f) t (nI b.1) (nI b.2 - 12) va a := by
  unfold zd_tf at h
  refine zd_lle f 100000001 (fun w => ?_) (fun w => ?_) rfl rfl hf (by decide)
  · rw [if_pos w] at h
    by_cases z : f = 0
    · subst z
      rw [if_pos rfl] at h
      refine nm_r (e' := (-1 : Int32)) (by decide) ⟨5, ?_⟩
      exact br_f (by decide) (br_t (by decide) (nm_r (e' := nI 0) (by decide) (zd_y61 hV c Q m 0 hc hQ hm (by decide) 3 0 b rfl hb h)))
    · rw [if_neg z] at h
      refine nm_r (e' := nI (f - 1)) (by rw [lN_i]; exact pk_sub (b := 1) (by omega)) ⟨5, ?_⟩
      exact zd_y61 hV c Q m f hc hQ hm w 4 (f - 1) b (by omega) hb h
  · rw [if_neg (by omega)] at h
    exact h
theorem zd_ytn {post : SY → Prop} (hV : zd_V va) (c Q m : Nat) (hc : c ≤ 1023) (hQ : Q < 19) (hm : m < 8) (b : Nat × Nat) (hb : zd_Bi c b) (h : post (t, nI (zd_tn c Q (10 ^ m) b).1, nI (zd_tn c Q (10 ^ m) b).2 - 12, va, a)) : wpY_tryNear post (t, nI b.1, nI b.2 - 12, va, a) (nI c) (nI (m + 1)) (nI Q - 12) := by
  obtain ⟨-, q1⟩ := zd_q1 Q hQ
  obtain ⟨q3, q4⟩ := zd_q3 Q hQ
  have hU := zd_Ub1 c (by omega)
  unfold zd_tn zd_fl at h
  by_cases hq : Q < 12
  · rw [if_pos hq] at h
    have hp := zd_p12 (m := 12 - Q) (by omega)
    have hbd : zd_U c * 10 ^ (12 - Q) ≤ 2080768 * 1000000000000 := Nat.mul_le_mul hU hp
    refine br_f (fun w => by have := q1.mp w; omega) (And.intro (vp_in_nI (by omega) (by decide)) ?_)
    refine zd_ypow (12 - Q) (by omega) (q3 hq) (And.intro (by decide) ?_)
    have e : (va (nI c).toNatClampNeg).toInt64 * lN (10 ^ (12 - Q)) / 512 = lN (zd_U c * 10 ^ (12 - Q) / 512) := by
      rw [zd_yv hV hc, lN_mul]
      exact pk_lDiv (b := 512) (by omega) (by decide) (by decide)
    rw [e]
    exact zd_y42 hV c Q m _ hc hQ hm (by omega) b hb h
  · rw [if_neg hq] at h
    have hp := zd_p6 (m := Q - 12) (by omega)
    have hp0 := zd_p0 (Q - 12)
    refine br_t (q1.mpr (by omega)) (And.intro (vp_in_nI (by omega) (by decide)) ?_)
    have e0 : (512 : Int64) * lN (10 ^ (Q - 12)) = lN (512 * 10 ^ (Q - 12)) := lN_mul 512 _
    have hdv : zd_U c / (512 * 10 ^ (Q - 12)) ≤ zd_U c := Nat.div_le_self _ _
    refine zd_ypow (Q - 12) (by omega) (q4 (by omega)) ?_
    rw [e0, zd_yv hV hc, pk_lDiv (by omega) (by omega) (by omega)]
    exact And.intro (zd_lne (by omega) (by omega)) (zd_y42 hV c Q m _ hc hQ hm (by omega) b hb h)
theorem zd_s1 : ∀ Q, Q < 19 → ¬ (7 : Int32) ≤ nI Q - 12 ∧ nI Q - 12 + 1 = nI (Q + 1) - 12 := by decide +kernel
theorem zd_y32 {post : SY → Prop} {J : Int32 → Int32 → Int32 → Int32 → (Nat → Int32) → (Nat → Int32) → Prop} (hV : zd_V va) (c m : Nat) (hc : c ≤ 1023) (hm : m < 8) (h : J (nI (m + 2)) t (nI (zd_yq c (10 ^ m) 19).1) (nI (zd_yq c (10 ^ m) 19).2 - 12) va a) : ∀ k Q, Q + k = 19 → wY_findShort_32 post J (nI c) (nI (m + 1)) (k + 1) (nI Q - 12) t (nI (zd_yq c (10 ^ m) Q).1) (nI (zd_yq c (10 ^ m) Q).2 - 12) va a := by
  intro k
  induction k with
  | zero =>
    intro Q hQ
    have e : Q = 19 := by omega
    subst e
    exact br_t (by decide) (nm_r (nI_1 (m + 1)) h)
  | succ k ih =>
    intro Q hQ
    obtain ⟨s1, s2⟩ := zd_s1 Q (by omega)
    refine br_f s1 ?_
    exact zd_ytn hV c Q m hc (by omega) hm _ (zd_Biq Q (by omega)) (nm_r s2 (ih (Q + 1) (by omega)))
theorem zd_y12 {post : SY → Prop} (hV : zd_V va) (c : Nat) (h1 : 1 ≤ c) (hc : c ≤ 1023) : ∀ k m, m + k = 8 → post (t, nI (zd_yl c k m).1, nI (zd_yl c k m).2 - 12, va, a) → wY_findShort_12 post (nI c) (k + 1) (nI (m + 1)) t 0 0 va a := by
  intro k
  induction k with
  | zero =>
    intro m hm h
    have e : m = 8 := by omega
    subst e
    have e : nI (zd_yl c 0 8).2 - 12 = 0 := (show nI 12 - 12 = 0 by decide)
    rw [e] at h
    exact br_t (by decide) h
  | succ k ih =>
    intro m hm h
    refine br_f (nI_ge (b := 9) (by omega) (by decide)) (br_t rfl (br_f (nI_nle (by omega) (by omega)) ⟨20, ?_⟩))
    have e1 : nI 0 - 12 = -12 := by decide
    have e2 : nI (zd_yq c (10 ^ m) 0).2 - 12 = 0 := (show nI 12 - 12 = 0 by decide)
    have g := fun J => zd_y32 (post := post) (t := t) (a := a) (J := wY_findShort_12 post (nI c) (k + 1)) hV c m hc (by omega) J 19 0 rfl
    rw [e1, e2] at g
    refine g ?_
    have hb := zd_Biq (c := c) (m := m) 19 (Nat.le_refl _)
    by_cases z : (zd_yq c (10 ^ m) 19).1 = 0
    · have e : zd_yl c (k + 1) m = zd_yl c k (m + 1) := if_pos z
      have e2 : zd_yq c (10 ^ m) 19 = (0, 12) := by
        rcases hb.2.2 with q | q
        · exact q
        · exact absurd z q.1
      rw [e] at h
      rw [e2]
      exact ih (m + 1) (by omega) h
    · have e : zd_yl c (k + 1) m = zd_yq c (10 ^ m) 19 := if_neg z
      rw [e] at h
      have hb1 := hb.1
      exact br_c (fun _ => h) (fun _ => br_f (nI_ne0 (by omega) (by omega)) h)
theorem zd_yfind {post : SY → Prop} (hV : zd_V va) (c : Nat) (hc : c ≤ 1023) (h0 : c = 0 → post (t, 0, 0, va, a)) (h : c ≠ 0 → post (t, nI (zd_yl c 8 0).1, nI (zd_yl c 8 0).2 - 12, va, a)) : wpY_findShort post (t, b1, b2, va, a) (nI c) := by
  by_cases z : c = 0
  · refine ⟨1, br_f (by decide) (br_t rfl (br_t ?_ (h0 z)))⟩
    rw [z]
    decide
  · exact ⟨9, zd_y12 hV c (by omega) hc 8 0 rfl (h z)⟩
end
theorem zd_Biyl (c : Nat) : ∀ k m, m + k = 8 → zd_Bi c (zd_yl c k m) := by
  intro k
  induction k with
  | zero => exact fun _ _ => zd_Bi0 c
  | succ k ih =>
    intro m hm
    by_cases z : (zd_yq c (10 ^ m) 19).1 = 0
    · have e : zd_yl c (k + 1) m = zd_yl c k (m + 1) := if_pos z
      rw [e]
      exact ih (m + 1) (by omega)
    · have e : zd_yl c (k + 1) m = zd_yq c (10 ^ m) 19 := if_neg z
      rw [e]
      exact zd_Biq 19 (Nat.le_refl _)
end
section
/-! the check, code by code -/
set_option maxRecDepth 100000 in
theorem zd_ck0 : ∀ i, i < 128 → zd_chk (1 + i) = true := by decide +kernel
set_option maxRecDepth 100000 in
theorem zd_ck1 : ∀ i, i < 128 → zd_chk (129 + i) = true := by decide +kernel
set_option maxRecDepth 100000 in
theorem zd_ck2 : ∀ i, i < 128 → zd_chk (257 + i) = true := by decide +kernel
set_option maxRecDepth 100000 in
theorem zd_ck3 : ∀ i, i < 128 → zd_chk (385 + i) = true := by decide +kernel
set_option maxRecDepth 100000 in
theorem zd_ck4 : ∀ i, i < 128 → zd_chk (513 + i) = true := by decide +kernel
set_option maxRecDepth 100000 in
theorem zd_ck5 : ∀ i, i < 128 → zd_chk (641 + i) = true := by decide +kernel
set_option maxRecDepth 100000 in
theorem zd_ck6 : ∀ i, i < 128 → zd_chk (769 + i) = true := by decide +kernel
set_option maxRecDepth 100000 in
theorem zd_ck7 : ∀ i, i < 127 → zd_chk (897 + i) = true := by decide +kernel
theorem zd_ck {c : Nat} (h0 : c ≠ 0) (hc : c ≤ 1023) : zd_chk c = true := by
  have hs : c - 1 < 1023 := by omega
  rcases (show c < 129 ∨ (129 ≤ c ∧ c < 257) ∨ (257 ≤ c ∧ c < 385) ∨ (385 ≤ c ∧ c < 513) ∨ (513 ≤ c ∧ c < 641) ∨ (641 ≤ c ∧ c < 769) ∨ (769 ≤ c ∧ c < 897) ∨ 897 ≤ c by omega) with h | h | h | h | h | h | h | h
  · have := zd_ck0 (c - 1) (by omega)
    rwa [show 1 + (c - 1) = c by omega] at this
  · have := zd_ck1 (c - 129) (by omega)
    rwa [show 129 + (c - 129) = c by omega] at this
  · have := zd_ck2 (c - 257) (by omega)
    rwa [show 257 + (c - 257) = c by omega] at this
  · have := zd_ck3 (c - 385) (by omega)
    rwa [show 385 + (c - 385) = c by omega] at this
  · have := zd_ck4 (c - 513) (by omega)
    rwa [show 513 + (c - 513) = c by omega] at this
  · have := zd_ck5 (c - 641) (by omega)
    rwa [show 641 + (c - 641) = c by omega] at this
  · have := zd_ck6 (c - 769) (by omega)
    rwa [show 769 + (c - 769) = c by omega] at this
  · have := zd_ck7 (c - 897) (by omega)
    rwa [show 897 + (c - 897) = c by omega] at this
theorem zd_short {c : Nat} (h0 : c ≠ 0) (hc : c ≤ 1023) : zd_xc c 16 = true ∧ zd_xl c 16 = zd_yl c 8 0 := by
  have h := zd_ck h0 hc
  unfold zd_chk zd_eqB at h
  rw [Bool.and_eq_true, Bool.and_eq_true, Nat.beq_eq, Nat.beq_eq] at h
  exact ⟨h.1, Prod.ext h.2.1 h.2.2⟩
end
section
/-! the relation, and what the owed statements need -/
def zd_R (T : Nat) (va a : Nat → Int32) : Prop := zd_V va ∧ T ≤ 9 ∧ zd_K a T ∧ zd_nd a T ≤ 8 ∧ T ≤ zd_nd a T + 1
theorem zd_RdEx (T : Nat) : ∃ r, zd_Rd T r := by
  have L : ∀ d c, c + d = 1023 → (∀ j, j < c → zd_ab T j) → ∃ r, zd_Rd T r := by
    intro d
    induction d with
    | zero => exact fun c hc h => ⟨c, by omega, h, fun z => by omega⟩
    | succ d ih =>
      intro c hc h
      by_cases z : zd_ab T c
      · refine ih (c + 1) (by omega) (fun j hj => ?_)
        by_cases e : j = c
        · rw [e]; exact z
        · exact h j (by omega)
      · exact ⟨c, by omega, h, fun _ => z⟩
  exact L 1023 0 rfl (fun j hj => absurd hj (Nat.not_lt_zero j))
theorem zd_Rdp {T R : Nat} {P : Nat → Prop} (hR : zd_Rd T R) (h : P R) : ∀ r, zd_Rd T r → P r := by
  intro r hr
  rw [zd_Rd1 hr hR]
  exact h
theorem zd_Uv {c : Nat} (h : 64 ≤ c) (hc : c < 1025) : (64 + (nI c - nI c / 64 * 64)) <<< (((nI c / 64) - 1) &&& 31) = nI (zd_U c) := by
  have hb := zd_Ub0 c hc
  have e : zd_U c = (64 + c % 64) * 2 ^ (c / 64 - 1) := by unfold zd_U; rw [if_neg (by omega)]
  have e1 : nI c - nI c / 64 * 64 = nI (c % 64) := pk_rem (d := 64) (by omega) (by decide) (by decide)
  have e2 : nI c / 64 = nI (c / 64) := pk_div (d := 64) (by omega) (by decide) (by decide)
  have e3 : nI (c / 64) - 1 = nI (c / 64 - 1) := pk_sub (b := 1) (by omega)
  have e4 : (64 : Int32) + nI (c % 64) = nI (64 + c % 64) := nI_add 64 _
  rw [e1, e2, e3, e4, e]
  exact pk_shlN _ _ (s_l _ (by omega)) (by rw [← e]; omega)
theorem zd_yinit {post : SY → Prop} (h : ∀ va, zd_V va → post (0, 0, 0, va, fun _ => 0)) : wpY_init post := by
  have L : ∀ d c va, c + d = 1025 → (∀ j, j < c → va j = nI (zd_U j)) → wY_init_23 post 0 0 0 (d + 1) (nI c) va (fun _ => 0) := by
    intro d
    induction d with
    | zero =>
      intro c va hc hv
      have e : c = 1025 := by omega
      subst e
      exact br_t (nI_le (a := 1025) (Nat.le_refl _) (by decide)) (h va hv)
    | succ d ih =>
      intro c va hc hv
      have st : ∀ y, y = nI (zd_U c) → ∀ j, j < c + 1 → upd va c y j = nI (zd_U j) := by
        intro y ey j hj
        by_cases e : j = c
        · subst e
          rw [pk_us, ey]
        · rw [pk_un e]
          exact hv j (by omega)
      refine br_f (nI_ge (b := 1025) (by omega) (by decide)) ?_
      refine pk_le 64 c (fun w => ?_) (fun w => ?_)
      · refine And.intro (by decide) (And.intro (by decide) (And.intro (vp_in_nI (by omega) (by decide)) ?_))
        rw [nI_clamp (by omega)]
        exact nm_e (nm_r (nI_1 c) (ih (c + 1) _ (by omega) (st _ (zd_Uv w (by omega)))))
      · refine And.intro (vp_in_nI (by omega) (by decide)) ?_
        rw [nI_clamp (by omega)]
        refine nm_e (nm_r (nI_1 c) (ih (c + 1) _ (by omega) (st _ ?_)))
        unfold zd_U
        rw [if_pos w]
  exact ⟨1026, L 1025 0 (fun _ => 0) rfl (fun j hj => absurd hj (Nat.not_lt_zero j))⟩
theorem zd_spare {s1 s2 b1 b2 : Int32} {va a : Nat → Int32} (T D R : Nat) (hR : zd_R T va a) (hD : D < 100000000) : ∀ d j (best : Int32), j + d = zd_nd a T → ∃ r : Int32, (∀ post : Int32 → Prop, post r → wX_spare_25 post (nI D) (nI R) (nI (zd_nd a T)) (nI T) s1 s2 a (d + 1) best (nI (10 ^ j)) (nI (j + 1))) ∧ (∀ post : Int32 → Prop, post r → wY_spare_35 post (nI D) (-nI (zd_nb a T)) (nI R) (nI (zd_nd a T)) (nI T) b1 b2 va a (d + 1) (nI (10 ^ j)) best (nI (j + 1))) := by
  obtain ⟨hV, hT, hK, h8, hp⟩ := hR
  have hnb := (zd_ndle a T).2.2.2.1
  intro d
  induction d with
  | zero =>
    intro j best hj
    have e : j = zd_nd a T := by omega
    subst e
    exact ⟨best, fun post h => br_t (nI_lt (by omega) (by omega)) h, fun post h => br_t (nI_lt (by omega) (by omega)) h⟩
  | succ d ih =>
    intro j best hj
    have hp8 : 10 ^ (j + 1) ≤ 100000000 := zd_ple (n := 8) (by omega)
    have hp0 := zd_p0 (j + 1)
    have ep : (10 : Nat) ^ (j + 1) = 10 ^ j * 10 := Nat.pow_succ ..
    have hcut : D / 10 ^ (j + 1) * 10 ^ (j + 1) ≤ D := Nat.div_mul_le_self _ _
    obtain ⟨S, hS⟩ := zd_RdEx (zd_T (D / 10 ^ (j + 1) * 10 ^ (j + 1)) (12 - zd_nb a T))
    have hS1 := hS.1
    have hn : ¬ nI (zd_nd a T) < nI (j + 1) := nI_nlt (by omega) (by omega)
    have ex : nI (10 ^ j) * 10 = nI (10 ^ (j + 1)) := by rw [ep]; exact pk_mul _ 10
    have ey : 10 * nI (10 ^ j) = nI (10 ^ (j + 1)) := by rw [ep, Nat.mul_comm]; exact pk_mul 10 _
    have ne : ¬ nI (10 ^ (j + 1)) = 0 := nI_ne0 hp0 (by omega)
    have cx : nI D / nI (10 ^ (j + 1)) * nI (10 ^ (j + 1)) = nI (D / 10 ^ (j + 1) * 10 ^ (j + 1)) := by
      rw [pk_div (by omega) hp0 (by omega), pk_mul]
    have cy : nI D - (nI D - nI D / nI (10 ^ (j + 1)) * nI (10 ^ (j + 1))) = nI (D / 10 ^ (j + 1) * 10 ^ (j + 1)) := by
      rw [cx, pk_sub hcut, pk_sub (Nat.sub_le _ _)]
      exact congrArg nI (by omega)
    have hQ : 12 - zd_nb a T < 19 := by omega
    by_cases z : nI S = nI R
    · obtain ⟨r, hX, hY⟩ := ih (j + 1) (nI (j + 1)) (by omega)
      refine ⟨r, fun post h => ?_, fun post h => ?_⟩
      · refine br_f hn (nm_r ex (And.intro ne (nm_r cx ?_)))
        exact zd_xreading T _ hT h8 (by omega) rfl (zd_Rdp hS (br_t z (nm_r (nI_1 _) (hX post h))))
      · refine br_f hn (nm_r ey (And.intro ne ?_))
        exact zd_yread hV _ _ (by omega) hQ (zd_decI (by omega) hQ) cy (zd_q4 _ (by omega)) (zd_Rdp hS (br_t z (nm_r (nI_1 _) (hY post h))))
    · obtain ⟨r, hX, hY⟩ := ih (j + 1) best (by omega)
      refine ⟨r, fun post h => ?_, fun post h => ?_⟩
      · refine br_f hn (nm_r ex (And.intro ne (nm_r cx ?_)))
        exact zd_xreading T _ hT h8 (by omega) rfl (zd_Rdp hS (br_f z (nm_r (nI_1 _) (hX post h))))
      · refine br_f hn (nm_r ey (And.intro ne ?_))
        exact zd_yread hV _ _ (by omega) hQ (zd_decI (by omega) hQ) cy (zd_q4 _ (by omega)) (zd_Rdp hS (br_f z (nm_r (nI_1 _) (hY post h))))
/-- a key is put behind the others -/
theorem zd_put {T m : Nat} {va a : Nat → Int32} (hR : zd_R T va a) (hm : m ≤ 10) (h : if m = 10 then T ≤ zd_nd a T else zd_nd a T ≠ 8) : T < 9 ∧ zd_R (T + 1) va (upd a T (nI m)) ∧ zd_nd (upd a T (nI m)) (T + 1) = (if m = 10 then zd_nd a T else zd_nd a T + 1) := by
  obtain ⟨hV, hT, hK, h8, hp⟩ := hR
  have hle := (zd_ndle a T).1
  have hu : zd_nd (upd a T (nI m)) T = zd_nd a T := zd_ndu T (Nat.le_refl _)
  have hK' : zd_K (upd a T (nI m)) (T + 1) := by
    intro j hj
    by_cases e : j = T
    · subst e
      rw [pk_us]
      by_cases z : m = 10
      · left
        rw [z]
        rfl
      · exact Or.inr ⟨m, by omega, rfl⟩
    · rw [pk_un e]
      exact hK j (by omega)
  by_cases z : m = 10
  · rw [if_pos z] at h
    have e : zd_nd (upd a T (nI m)) (T + 1) = zd_nd a T := by
      rw [zd_ndp (by rw [pk_us, z]; rfl), hu]
    rw [if_pos z]
    exact ⟨by omega, ⟨hV, by omega, hK', by omega, by omega⟩, e⟩
  · rw [if_neg z] at h
    have ne : ¬ upd a T (nI m) T = 10 := by
      rw [pk_us]
      exact fun q => z ((nI_eq (b := 10) (by omega) (by decide)).mp q)
    have e : zd_nd (upd a T (nI m)) (T + 1) = zd_nd a T + 1 := by
      rw [zd_ndn ne, hu]
    rw [if_neg z]
    exact ⟨by omega, ⟨hV, by omega, hK', by omega, by omega⟩, e⟩
end
section
/-! what is owed -/
def i_Rel (_ : Nat) (u : SX) (v : SY) : Prop := ∃ (T : Nat) (s1 s2 b1 b2 : Int32) (va a : Nat → Int32), u = (nI T, s1, s2, a) ∧ v = (nI T, b1, b2, va, a) ∧ zd_R T va a
theorem i_up {k : Nat} {u : SX} {v : SY} (h : i_Rel k u v) : i_Rel (k + 4) u v := h
theorem zd_rel {k T : Nat} {s1 s2 b1 b2 : Int32} {va a : Nat → Int32} (h : zd_R T va a) : i_Rel k (nI T, s1, s2, a) (nI T, b1, b2, va, a) := ⟨T, s1, s2, b1, b2, va, a, rfl, rfl, h⟩
theorem i_vc0 : wpX_init (fun u => wpY_init (fun v => i_Rel 0 u v)) :=
  zd_yinit (fun va hV => zd_rel (T := 0) ⟨hV, by decide, fun j hj => absurd hj (Nat.not_lt_zero j), by show 0 ≤ 8; decide, by decide⟩)
theorem i_vc_units {k : Nat} {u : SX} {v : SY} (I : i_Rel k u v) (hk : k + 4 ≤ 2048) (v1 : Int32) : wpX_units (fun r => wpY_units (fun r' => r' = r ∧ i_Rel (k + 4) u v) v v1) u v1 := by
  obtain ⟨T, s1, s2, b1, b2, va, a, rfl, rfl, hR⟩ := I
  unfold wpX_units wpY_units
  dsimp only
  by_cases hc : zd_cod v1
  · obtain ⟨c, hc1, rfl⟩ := zd_codE hc
    refine zd_xcodT hc (br_t rfl (zd_xunits c (by omega) rfl ?_))
    refine zd_ycodT hc (br_f (by decide) (And.intro (vp_in_nI (by omega) (by decide)) ?_))
    refine ⟨?_, zd_rel hR⟩
    rw [nI_clamp (by omega), hR.1 c (by omega)]
  · exact zd_xcodF hc (br_f (by decide) (zd_ycodF hc (br_t rfl ⟨rfl, zd_rel hR⟩)))
theorem i_vc_read {k : Nat} {u : SX} {v : SY} (I : i_Rel k u v) (hk : k + 4 ≤ 2048) (v1 : Int32) (v2 : Int32) : wpX_read (fun r => wpY_read (fun r' => r' = r ∧ i_Rel (k + 4) u v) v v1 v2) u v1 v2 := by
  obtain ⟨T, s1, s2, b1, b2, va, a, rfl, rfl, hR⟩ := I
  unfold wpX_read
  dsimp only
  by_cases hd : zd_dec v1 v2
  · obtain ⟨D, Q, hD, hQ, rfl, rfl⟩ := zd_decE hd
    refine zd_xdecT hd (br_t rfl (zd_xrd D Q hD hQ rfl rfl (fun r hr => ?_)))
    exact zd_yread hR.1 D Q hD hQ hd rfl rfl (zd_Rdp hr ⟨rfl, zd_rel hR⟩)
  · refine zd_xdecF hd (br_f (by decide) ?_)
    unfold wpY_read
    dsimp only
    exact zd_ydecF hd (br_t rfl ⟨rfl, zd_rel hR⟩)
theorem i_vc_names {k : Nat} {u : SX} {v : SY} (I : i_Rel k u v) (hk : k + 4 ≤ 2048) (v1 : Int32) (v2 : Int32) (v3 : Int32) : wpX_names (fun r => wpY_names (fun r' => r' = r ∧ i_Rel (k + 4) u v) v v1 v2 v3) u v1 v2 v3 := by
  obtain ⟨T, s1, s2, b1, b2, va, a, rfl, rfl, hR⟩ := I
  unfold wpX_names wpY_names
  dsimp only
  by_cases hc : zd_cod v1
  · by_cases hd : zd_dec v2 v3
    · obtain ⟨c, hc1, rfl⟩ := zd_codE hc
      obtain ⟨D, Q, hD, hQ, rfl, rfl⟩ := zd_decE hd
      refine zd_xcodT hc (br_t rfl (zd_xdecT hd (br_t rfl (zd_xstepsOf D Q hD hQ rfl rfl (fun N hN => ?_)))))
      refine zd_xnamed c _ N hc1 hN (fun w => And.intro narrow_b1 ?_) (fun w => And.intro narrow_b0 ?_)
      · exact zd_ydecT hd (br_f (by decide) (zd_ycodT hc (br_f (by decide) (zd_yname hR.1 c D Q hc1 hD hQ rfl rfl (fun _ => br_f (by decide) ⟨rfl, zd_rel hR⟩) (fun z => absurd w z)))))
      · exact zd_ydecT hd (br_f (by decide) (zd_ycodT hc (br_f (by decide) (zd_yname hR.1 c D Q hc1 hD hQ rfl rfl (fun z => absurd z w) (fun _ => br_t rfl ⟨rfl, zd_rel hR⟩)))))
    · exact zd_xcodT hc (br_t rfl (zd_xdecF hd (br_f (by decide) (zd_ydecF hd (br_t rfl ⟨rfl, zd_rel hR⟩)))))
  · refine zd_xcodF hc (br_f (by decide) ?_)
    by_cases hd : zd_dec v2 v3
    · exact zd_ydecT hd (br_f (by decide) (zd_ycodF hc (br_t rfl ⟨rfl, zd_rel hR⟩)))
    · exact zd_ydecF hd (br_t rfl ⟨rfl, zd_rel hR⟩)
theorem zd_xstV {t s1 s2 : Int32} {a : Nat → Int32} {post : Int64 → Prop} (c V : Nat) (hc : c < 1025) (hV : V = zd_U c * 2000000000000) (h : post (lN V)) : wpX_steps post (t, s1, s2, a) (nI c) := by
  subst hV
  exact zd_xsteps c hc h
theorem i_vc_compare {k : Nat} {u : SX} {v : SY} (I : i_Rel k u v) (hk : k + 4 ≤ 2048) (v1 : Int32) (v2 : Int32) (v3 : Int32) : wpX_compare (fun r => wpY_compare (fun r' => r' = r ∧ i_Rel (k + 4) u v) v v1 v2 v3) u v1 v2 v3 := by
  obtain ⟨T, s1, s2, b1, b2, va, a, rfl, rfl, hR⟩ := I
  unfold wpX_compare
  dsimp only
  by_cases hc : zd_cod v1
  · by_cases hd : zd_dec v2 v3
    · obtain ⟨c, hc1, rfl⟩ := zd_codE hc
      obtain ⟨D, Q, hD, hQ, rfl, rfl⟩ := zd_decE hd
      have hU := zd_Ub1 c (by omega)
      obtain ⟨V, hV⟩ : ∃ V, V = zd_U c * 2000000000000 := ⟨_, rfl⟩
      refine zd_xcodT hc (br_t rfl (zd_xdecT hd (br_t rfl (zd_xstV c V (by omega) hV (zd_xstepsOf D Q hD hQ rfl rfl (fun N hN => ?_))))))
      have hn := zd_StN hN
      obtain ⟨g1, g2, g3⟩ := zd_StLt hN (b := V) (by omega)
      have fin : ∀ r : Int32, zd_sg (2 * zd_U c * 1000000000000) (zd_T D Q) = r → wpY_compare (fun r' => r' = r ∧ i_Rel (k + 4) (nI T, s1, s2, a) (nI T, b1, b2, va, a)) (nI T, b1, b2, va, a) (nI c) (nI D) (nI Q - 12) := by
        intro r hr
        unfold wpY_compare
        dsimp only
        refine zd_ydecT hd (br_f (by decide) (zd_ycodT hc (br_f (by decide) (And.intro (vp_in_nI (by omega) (by decide)) ?_))))
        refine zd_ysign (2 * zd_U c) D Q (by omega) hD hQ ?_ rfl rfl ⟨hr, zd_rel hR⟩
        rw [zd_yv hR.1 hc1]
        exact lN_mul 2 _
      have gE : 2 * zd_U c * 1000000000000 = V := by omega
      have f0 : N = V → zd_sg (2 * zd_U c * 1000000000000) (zd_T D Q) = 0 := fun w => zd_sge (gE.trans (g2.mp w).symm)
      have f1 : N < V → zd_sg (2 * zd_U c * 1000000000000) (zd_T D Q) = 1 := fun w => zd_sgg (by rw [gE]; exact g3.mp w)
      have f2 : V < N → zd_sg (2 * zd_U c * 1000000000000) (zd_T D Q) = -1 := fun w => zd_sgl (by rw [gE]; exact g1.mp w)
      have hb : V < 2 ^ 63 := by omega
      refine zd_leq V N (fun w => fin 0 (f0 w.symm)) (fun w => ?_) rfl rfl hb hn
      exact zd_lle N V (fun y => fin 1 (f1 (Nat.lt_of_le_of_ne y (fun q => w q.symm)))) (fun y => fin (-1) (f2 y)) rfl rfl hn hb
    · refine zd_xcodT hc (br_t rfl (zd_xdecF hd (br_f (by decide) ?_)))
      unfold wpY_compare
      dsimp only
      exact zd_ydecF hd (br_t rfl ⟨rfl, zd_rel hR⟩)
  · refine zd_xcodF hc (br_f (by decide) ?_)
    unfold wpY_compare
    dsimp only
    by_cases hd : zd_dec v2 v3
    · exact zd_ydecT hd (br_f (by decide) (zd_ycodF hc (br_t rfl ⟨rfl, zd_rel hR⟩)))
    · exact zd_ydecF hd (br_t rfl ⟨rfl, zd_rel hR⟩)
theorem i_vc_digits {k : Nat} {u : SX} {v : SY} (I : i_Rel k u v) (hk : k + 4 ≤ 2048) (v1 : Int32) : wpX_digits (fun r u' => wpY_digits (fun r' v' => r' = r ∧ i_Rel (k + 4) u' v') v v1) u v1 := by
  obtain ⟨T, s1, s2, b1, b2, va, a, rfl, rfl, hR⟩ := I
  unfold wpX_digits wpY_digits
  dsimp only
  by_cases hc : zd_cod v1
  · obtain ⟨c, hc1, rfl⟩ := zd_codE hc
    refine zd_xcodT hc (br_t rfl (zd_xfind c hc1 (fun z => (zd_short z hc1).1) (fun z => ?_) (fun z => ?_)))
    · exact zd_ycodT hc (br_f (by decide) (zd_yfind hR.1 c hc1 (fun _ => ⟨rfl, zd_rel hR⟩) (fun y => absurd z y)))
    · refine zd_ycodT hc (br_f (by decide) (zd_yfind hR.1 c hc1 (fun y => absurd y z) (fun _ => ?_)))
      exact ⟨by rw [(zd_short z hc1).2], zd_rel hR⟩
  · exact zd_xcodF hc (br_f (by decide) (zd_ycodF hc (br_t rfl ⟨rfl, zd_rel hR⟩)))
theorem i_vc_scale {k : Nat} {u : SX} {v : SY} (I : i_Rel k u v) (hk : k + 4 ≤ 2048) (v1 : Int32) : wpX_scale (fun r u' => wpY_scale (fun r' v' => r' = r ∧ i_Rel (k + 4) u' v') v v1) u v1 := by
  obtain ⟨T, s1, s2, b1, b2, va, a, rfl, rfl, hR⟩ := I
  unfold wpX_scale wpY_scale
  dsimp only
  by_cases hc : zd_cod v1
  · obtain ⟨c, hc1, rfl⟩ := zd_codE hc
    refine zd_xcodT hc (br_t rfl (zd_xfind c hc1 (fun z => (zd_short z hc1).1) (fun z => ?_) (fun z => ?_)))
    · exact zd_ycodT hc (br_f (by decide) (zd_yfind hR.1 c hc1 (fun _ => ⟨rfl, zd_rel hR⟩) (fun y => absurd z y)))
    · refine zd_ycodT hc (br_f (by decide) (zd_yfind hR.1 c hc1 (fun y => absurd y z) (fun _ => ?_)))
      exact ⟨by rw [(zd_short z hc1).2], zd_rel hR⟩
  · exact zd_xcodF hc (br_f (by decide) (zd_ycodF hc (br_t rfl ⟨rfl, zd_rel hR⟩)))
theorem i_vc_length {k : Nat} {u : SX} {v : SY} (I : i_Rel k u v) (hk : k + 4 ≤ 2048) (v1 : Int32) : wpX_length (fun r u' => wpY_length (fun r' v' => r' = r ∧ i_Rel (k + 4) u' v') v v1) u v1 := by
  obtain ⟨T, s1, s2, b1, b2, va, a, rfl, rfl, hR⟩ := I
  unfold wpX_length wpY_length
  dsimp only
  by_cases hc : zd_cod v1
  · obtain ⟨c, hc1, rfl⟩ := zd_codE hc
    refine zd_xcodT hc (br_t rfl (zd_xfind c hc1 (fun z => (zd_short z hc1).1) (fun z => ?_) (fun z => ?_)))
    · refine zd_xlen 0 (by decide) rfl ?_
      exact zd_ycodT hc (br_f (by decide) (zd_yfind hR.1 c hc1 (fun _ => zd_ylen 0 (by decide) ⟨rfl, zd_rel hR⟩) (fun y => absurd z y)))
    · have hb := (zd_Biyl c 8 0 rfl).1
      have e := (zd_short z hc1).2
      refine zd_xlen (zd_xl c 16).1 (by rw [e]; omega) (nI_l (by rw [e]; omega)) ?_
      refine zd_ycodT hc (br_f (by decide) (zd_yfind hR.1 c hc1 (fun y => absurd y z) (fun _ => ?_)))
      exact zd_ylen (zd_yl c 8 0).1 (by omega) ⟨by rw [e], zd_rel hR⟩
  · exact zd_xcodF hc (br_f (by decide) (zd_ycodF hc (br_t rfl ⟨rfl, zd_rel hR⟩)))
theorem i_vc_written {k : Nat} {u : SX} {v : SY} (I : i_Rel k u v) (hk : k + 4 ≤ 2048) (v1 : Int32) (v2 : Int32) : wpX_written (fun r => wpY_written (fun r' => r' = r ∧ i_Rel (k + 4) u v) v v1 v2) u v1 v2 := by
  obtain ⟨T, s1, s2, b1, b2, va, a, rfl, rfl, hR⟩ := I
  unfold wpX_written wpY_written
  dsimp only
  by_cases hc : zd_cod v1
  · obtain ⟨c, hc1, rfl⟩ := zd_codE hc
    refine zd_xcodT hc (br_t rfl (br_c (fun h1 => ?_) (fun h1 => br_c (fun h2 => ?_) (fun h2 => ?_))))
    · exact zd_ycodT hc (br_f (by decide) (br_t h1 ⟨rfl, zd_rel hR⟩))
    · obtain ⟨p, hp, rfl⟩ := nI_of2 (M := 5) (n := 5) (by decide) h1 h2
      refine zd_xwr c p hc1 hp rfl ?_
      exact zd_ycodT hc (br_f (by decide) (br_f h1 (br_f (Int32.not_lt.mpr h2) (zd_ywr hR.1 c p hc1 hp rfl ⟨rfl, zd_rel hR⟩))))
    · exact zd_ycodT hc (br_f (by decide) (br_f h1 (br_t (Int32.not_le.mp h2) ⟨rfl, zd_rel hR⟩)))
  · exact zd_xcodF hc (br_f (by decide) (zd_ycodF hc (br_t rfl ⟨rfl, zd_rel hR⟩)))
theorem i_vc_places {k : Nat} {u : SX} {v : SY} (I : i_Rel k u v) (hk : k + 4 ≤ 2048) (v1 : Int32) : wpX_places (fun r => wpY_places (fun r' => r' = r ∧ i_Rel (k + 4) u v) v v1) u v1 := by
  obtain ⟨T, s1, s2, b1, b2, va, a, rfl, rfl, hR⟩ := I
  unfold wpX_places wpY_places
  dsimp only
  by_cases hc : zd_cod v1
  · obtain ⟨c, hc1, rfl⟩ := zd_codE hc
    obtain ⟨r, hX, hY⟩ := zd_places (t := nI T) (s1 := s1) (s2 := s2) (a := a) (u := nI T) (b1 := b1) (b2 := b2) (b := a) hR.1 c hc1 5 0 rfl
    exact zd_xcodT hc (br_t rfl ⟨6, hX _ (zd_ycodT hc (br_f (by decide) ⟨6, hY _ ⟨rfl, zd_rel hR⟩⟩))⟩)
  · exact zd_xcodF hc (br_f (by decide) (zd_ycodF hc (br_t rfl ⟨rfl, zd_rel hR⟩)))
theorem i_vc_type {k : Nat} {u : SX} {v : SY} (I : i_Rel k u v) (hk : k + 4 ≤ 2048) (v1 : Int32) : wpX_type (fun r u' => wpY_type (fun r' v' => r' = r ∧ i_Rel (k + 4) u' v') v v1) u v1 := by
  obtain ⟨T, s1, s2, b1, b2, va, a, rfl, rfl, hR⟩ := I
  have hT := hR.2.1
  have h8 := hR.2.2.2.1
  have hle := (zd_ndle a T).1
  refine br_c (fun h1 => br_t h1 ⟨rfl, zd_rel hR⟩) (fun h1 => br_c (fun h2 => ?_) (fun h2 => br_f h1 (br_f h2 ⟨rfl, zd_rel hR⟩)))
  obtain ⟨m, hm, rfl⟩ := nI_of2 (M := 10) (n := 10) (by decide) h1 h2
  have eT : (nI T).toNatClampNeg = T := nI_clamp (by omega)
  by_cases g : (if m = 10 then T ≤ zd_nd a T else zd_nd a T ≠ 8)
  · obtain ⟨p1, p2, p3⟩ := zd_put hR hm g
    have hin : vp_in (nI T) 9 := vp_in_nI p1 (by decide)
    have Y : ∀ r, r = nI (zd_nd (upd a T (nI m)) (T + 1)) → wpY_type (fun r' v' => r' = r ∧ i_Rel (k + 4) (nI (T + 1), s1, s2, upd a T (nI m)) v') (nI T, b1, b2, va, a) (nI m) := by
      intro r hr
      have Y44 : wY_type_44 (fun r' v' => r' = r ∧ i_Rel (k + 4) (nI (T + 1), s1, s2, upd a T (nI m)) v') (nI m) (nI T) b1 b2 va a := by
        refine And.intro hin ?_
        rw [eT]
        refine nm_e (nm_r (nI_1 T) (zd_ynd (T + 1) (by omega) ⟨hr.symm, zd_rel p2⟩))
      refine br_f h1 (br_t h2 (zd_ynd T hT ?_))
      refine pk_eq m 10 (fun w => ?_) (fun w => ?_)
      · rw [if_pos w] at g
        exact br_t (nI_le g (by omega)) Y44
      · rw [if_neg w] at g
        exact pk_eq (zd_nd a T) 8 (fun y => absurd y g) (fun _ => Y44)
    have X53 : wX_type_53 (fun r u' => wpY_type (fun r' v' => r' = r ∧ i_Rel (k + 4) u' v') (nI T, b1, b2, va, a) (nI m)) (nI m) (nI (zd_nd a T)) (nI T) s1 s2 a := by
      refine And.intro hin ?_
      rw [eT]
      refine nm_e (nm_r (nI_1 T) (pk_eq m 10 (fun w => Y _ ?_) (fun w => Y _ ?_)))
      · rw [p3, if_pos w]
      · rw [p3, if_neg w]
        exact nI_1 _
    refine zd_xnd T hT ?_
    by_cases w : m = 10
    · rw [if_pos w] at g
      exact br_t (nI_le g (by omega)) (pk_eq m 10 (fun _ => br_t rfl X53) (fun y => absurd w y))
    · rw [if_neg w] at g
      have n8 : ¬ nI (zd_nd a T) = 8 := fun y => g ((nI_eq (b := 8) (by omega) (by decide)).mp y)
      exact br_c (fun _ => pk_eq m 10 (fun y => absurd y w) (fun _ => br_f n8 X53)) (fun _ => pk_eq m 10 (fun y => absurd y w) (fun _ => br_f n8 X53))
  · refine zd_xnd T hT ?_
    by_cases w : m = 10
    · rw [if_pos w] at g
      have hn : ¬ nI T ≤ nI (zd_nd a T) := nI_ge (by omega) (by omega)
      exact br_f hn (pk_eq m 10 (fun _ => br_f (by decide) (br_f h1 (br_t h2 (zd_ynd T hT (pk_eq m 10 (fun _ => br_f hn ⟨rfl, zd_rel hR⟩) (fun y => absurd w y)))))) (fun y => absurd w y))
    · rw [if_neg w] at g
      have e8 : nI (zd_nd a T) = 8 := congrArg nI (show zd_nd a T = 8 by omega)
      have Y : wpY_type (fun r' v' => r' = -2 ∧ i_Rel (k + 4) (nI T, s1, s2, a) v') (nI T, b1, b2, va, a) (nI m) :=
        br_f h1 (br_t h2 (zd_ynd T hT (pk_eq m 10 (fun y => absurd y w) (fun _ => br_t e8 ⟨rfl, zd_rel hR⟩))))
      exact br_c (fun _ => pk_eq m 10 (fun y => absurd y w) (fun _ => br_t e8 Y)) (fun _ => pk_eq m 10 (fun y => absurd y w) (fun _ => br_t e8 Y))
theorem i_vc_back {k : Nat} {u : SX} {v : SY} (I : i_Rel k u v) (hk : k + 4 ≤ 2048) : wpX_back (fun r u' => wpY_back (fun r' v' => r' = r ∧ i_Rel (k + 4) u' v') v) u := by
  obtain ⟨T, s1, s2, b1, b2, va, a, rfl, rfl, hR⟩ := I
  have hT := hR.2.1
  refine pk_eq T 0 (fun z => ?_) (fun z => ?_)
  · exact pk_eq T 0 (fun _ => ⟨rfl, zd_rel hR⟩) (fun y => absurd z y)
  · obtain ⟨p, rfl⟩ : ∃ p, T = p + 1 := ⟨T - 1, by omega⟩
    obtain ⟨hV, -, hK, h8, hp⟩ := hR
    obtain ⟨l1, l2, l3, -, -⟩ := zd_ndle a p
    have hR' : zd_R p va a := ⟨hV, by omega, fun j hj => hK j (by omega), by omega, by omega⟩
    refine nm_r (nI_pred p) (And.intro (vp_in_nI (by omega) (by decide)) ?_)
    refine pk_eq (p + 1) 0 (fun y => absurd y z) (fun _ => ?_)
    exact nm_r (nI_pred p) (And.intro (vp_in_nI (by omega) (by decide)) ⟨rfl, zd_rel hR'⟩)
theorem i_vc_clear {k : Nat} {u : SX} {v : SY} (I : i_Rel k u v) (hk : k + 4 ≤ 2048) : wpX_clear (fun u' => wpY_clear (fun v' => i_Rel (k + 4) u' v') v) u := by
  obtain ⟨T, s1, s2, b1, b2, va, a, rfl, rfl, hR⟩ := I
  exact zd_rel (k := k + 4) (T := 0) ⟨hR.1, by decide, fun j hj => absurd hj (Nat.not_lt_zero j), by show 0 ≤ 8; decide, by show 0 ≤ 0 + 1; decide⟩
theorem i_vc_typed {k : Nat} {u : SX} {v : SY} (I : i_Rel k u v) (hk : k + 4 ≤ 2048) : wpX_typed (fun r => wpY_typed (fun r' => r' = r ∧ i_Rel (k + 4) u v) v) u := by
  obtain ⟨T, s1, s2, b1, b2, va, a, rfl, rfl, hR⟩ := I
  unfold wpX_typed wpY_typed
  dsimp only
  have hR2 := hR
  obtain ⟨hV, hT, hK, h8, hp⟩ := hR2
  have hD := zd_tdb8 hK h8
  have hnb := (zd_ndle a T).2.2.2.1
  have hQ : 12 - zd_nb a T < 19 := by omega
  refine zd_xtd T hT hK (zd_xreading T _ hT h8 hD rfl (fun r hr => ?_))
  refine zd_ytd T hT hK (zd_ynb T hT ?_)
  exact zd_yread hV _ _ hD hQ (zd_decI hD hQ) rfl (zd_q4 _ (by omega)) (zd_Rdp hr ⟨rfl, zd_rel hR⟩)
theorem i_vc_typedDigits {k : Nat} {u : SX} {v : SY} (I : i_Rel k u v) (hk : k + 4 ≤ 2048) : wpX_typedDigits (fun r => wpY_typedDigits (fun r' => r' = r ∧ i_Rel (k + 4) u v) v) u := by
  obtain ⟨T, s1, s2, b1, b2, va, a, rfl, rfl, hR⟩ := I
  unfold wpX_typedDigits wpY_typedDigits
  dsimp only
  have hR2 := hR
  obtain ⟨hV, hT, hK, h8, hp⟩ := hR2
  exact zd_xtd T hT hK (zd_ytd T hT hK ⟨rfl, zd_rel hR⟩)
theorem i_vc_spare {k : Nat} {u : SX} {v : SY} (I : i_Rel k u v) (hk : k + 4 ≤ 2048) : wpX_spare (fun r => wpY_spare (fun r' => r' = r ∧ i_Rel (k + 4) u v) v) u := by
  obtain ⟨T, s1, s2, b1, b2, va, a, rfl, rfl, hR⟩ := I
  unfold wpX_spare wpY_spare
  dsimp only
  have hR2 := hR
  obtain ⟨hV, hT, hK, h8, hp⟩ := hR2
  have hD := zd_tdb8 hK h8
  have hnb := (zd_ndle a T).2.2.2.1
  have hQ : 12 - zd_nb a T < 19 := by omega
  refine zd_xtd T hT hK (zd_xreading T _ hT h8 hD rfl (fun R hr => zd_xnd T hT ?_))
  obtain ⟨r, hX, hY⟩ := zd_spare (s1 := s1) (s2 := s2) (b1 := b1) (b2 := b2) T (zd_td a T) R hR hD (zd_nd a T) 0 0 (by omega)
  refine ⟨zd_nd a T + 1, hX _ ?_⟩
  refine zd_ytd T hT hK (zd_ynb T hT (nm_e ?_))
  refine zd_yread hV _ _ hD hQ (zd_decI hD hQ) rfl (zd_q4 _ (by omega)) (zd_Rdp hr (zd_ynd T hT ?_))
  exact ⟨zd_nd a T + 1, hY _ ⟨rfl, zd_rel hR⟩⟩
end
