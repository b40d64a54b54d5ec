section
theorem pk_us {f : Nat → Int32} {k : Nat} {x : Int32} : upd f k x k = x := if_pos rfl
theorem pk_un {f : Nat → Int32} {k j : Nat} {x : Int32} (h : j ≠ k) : upd f k x j = f j := if_neg h
theorem pk_sub {a b : Nat} (h : b ≤ a) : nI a - nI b = nI (a - b) := by
  obtain ⟨c, rfl⟩ : ∃ c, a = c + b := ⟨a - b, by omega⟩
  rw [← nI_add, Int32.add_sub_cancel, Nat.add_sub_cancel]
theorem pk_m1 (n : Nat) : nI (n + 1) + (-1) = nI n := by
  rw [← nI_1, Int32.add_assoc, show (1 : Int32) + (-1) = 0 from rfl, Int32.add_zero]
theorem pk_mul (a b : Nat) : nI a * nI b = nI (a * b) := (Int32.ofNat_mul a b).symm
theorem pk_div {a d : Nat} (ha : a < 2 ^ 31) (h0 : 0 < d) (hd : d < 2 ^ 31) : nI a / nI d = nI (a / d) := by
  apply Int32.toInt_inj.mp
  rw [lg_idiv_nonneg (by rw [nI_toInt ha]; omega) (by rw [nI_toInt hd]; omega), nI_toInt ha, nI_toInt hd, nI_toInt (Nat.lt_of_le_of_lt (Nat.div_le_self a d) ha)]
  first | rfl | exact (Int.natCast_ediv _ _).symm
theorem pk_rem {a d : Nat} (ha : a < 2 ^ 31) (h0 : 0 < d) (hd : d < 2 ^ 31) : nI a - nI a / nI d * nI d = nI (a % d) := by
  rw [pk_div ha h0 hd, pk_mul, pk_sub (Nat.div_mul_le_self a d)]
  exact congrArg nI (by have := Nat.div_add_mod' a d; omega)
theorem pk_sub_toInt {a b : Nat} (ha : a < 2 ^ 30) (hb : b < 2 ^ 30) : (nI a - nI b).toInt = (a : Int) - b := by
  rw [Int32.toInt_sub, nI_toInt (by omega), nI_toInt (by omega)]
  exact Int.bmod_eq_of_le (by omega) (by omega)
theorem pk_le {x y : Int32} {A B : Prop} (a b : Nat) (f : a ≤ b → A) (g : b < a → B) (hx : x = nI a := by rfl) (hy : y = nI b := by rfl) (ha : a < 2 ^ 31 := by omega) (hb : b < 2 ^ 31 := by omega) : (x ≤ y → A) ∧ (¬ x ≤ y → B) := by
  subst hx hy
  rw [nI_leI ha hb]
  exact ⟨f, fun z => g (by omega)⟩
theorem pk_lt {x y : Int32} {A B : Prop} (a b : Nat) (f : a < b → A) (g : b ≤ a → B) (hx : x = nI a := by rfl) (hy : y = nI b := by rfl) (ha : a < 2 ^ 31 := by omega) (hb : b < 2 ^ 31 := by omega) : (x < y → A) ∧ (¬ x < y → B) := by
  subst hx hy
  rw [nI_ltI ha hb]
  exact ⟨f, fun z => g (by omega)⟩
theorem pk_eq {x y : Int32} {A B : Prop} (a b : Nat) (f : a = b → A) (g : a ≠ b → B) (hx : x = nI a := by rfl) (hy : y = nI b := by rfl) (ha : a < 2 ^ 31 := by omega) (hb : b < 2 ^ 31 := by omega) : (x = y → A) ∧ (¬ x = y → B) := by
  subst hx hy
  rw [nI_eq ha hb]
  exact ⟨f, g⟩
theorem pk_in {x : Int32} (n N : Nat) (h : n < N) (hx : x = nI n := by rfl) (hN : N < 2 ^ 31 := by omega) : vp_in x N := by
  subst hx
  exact vp_in_nI h hN
theorem pk_cl {x : Int32} (n : Nat) (hx : x = nI n := by rfl) (h : n < 2 ^ 31 := by omega) : x.toNatClampNeg = n := by
  subst hx
  exact nI_clamp h
theorem pk_tn {n : Nat} (h : n < 2 ^ 32) : (nI n).toBitVec.toNat = n := Nat.mod_eq_of_lt h
theorem pk_and (x : Int32) {m : Int32} (k : Nat) (hm : m.toBitVec.toNat = 2 ^ k - 1) : x &&& m = nI (x.toBitVec.toNat % 2 ^ k) := by
  apply Int32.toBitVec_inj.mp
  apply BitVec.eq_of_toNat_eq
  rw [Int32.toBitVec_and, BitVec.toNat_and, hm, Nat.and_two_pow_sub_one_eq_mod]
  show _ = (BitVec.ofNat 32 _).toNat
  rw [BitVec.toNat_ofNat]
  exact (Nat.mod_eq_of_lt (Nat.lt_of_le_of_lt (Nat.mod_le _ _) x.toBitVec.isLt)).symm
theorem pk_andN {n : Nat} (h : n < 2 ^ 32) {m : Int32} (k : Nat) (hm : m.toBitVec.toNat = 2 ^ k - 1) : nI n &&& m = nI (n % 2 ^ k) := by
  rw [pk_and _ k hm, pk_tn h]
theorem pk_shl (a s : Int32) (k : Nat) (hs : (s.toBitVec.smod 32).toNat = k) : (a <<< s).toBitVec.toNat = a.toBitVec.toNat * 2 ^ k % 2 ^ 32 := by
  show (a.toBitVec <<< (s.toBitVec.smod 32).toNat).toNat = _
  rw [hs, BitVec.toNat_shiftLeft, Nat.shiftLeft_eq]
theorem pk_shlN {n : Nat} (s : Int32) (k : Nat) (hs : (s.toBitVec.smod 32).toNat = k) (h : n * 2 ^ k < 2 ^ 32) : nI n <<< s = nI (n * 2 ^ k) := by
  apply Int32.toBitVec_inj.mp
  apply BitVec.eq_of_toNat_eq
  have hn : n < 2 ^ 32 := Nat.lt_of_le_of_lt (Nat.le_mul_of_pos_right n (Nat.two_pow_pos k)) h
  rw [pk_shl _ _ k hs, pk_tn hn, pk_tn h, Nat.mod_eq_of_lt h]
theorem pk_shr (a s : Int32) (k : Nat) (hs : (s.toBitVec.smod 32).toNat = k) : (a >>> s).toInt = a.toInt >>> k := by
  show (a.toBitVec.sshiftRight (s.toBitVec.smod 32).toNat).toInt = _
  rw [hs, BitVec.toInt_sshiftRight]
  rfl
theorem pk_shrN {n : Nat} (h : n < 2 ^ 31) (s : Int32) (k : Nat) (hs : (s.toBitVec.smod 32).toNat = k) : nI n >>> s = nI (n / 2 ^ k) := by
  apply Int32.toInt_inj.mp
  have h2 : n / 2 ^ k ≤ n := Nat.div_le_self _ _
  rw [pk_shr _ _ k hs, nI_toInt h, nI_toInt (by omega), Int.shiftRight_eq_div_pow]
  rfl
theorem pk_lT {n : Nat} (h : n < 2 ^ 63) : (lN n).toInt = (n : Int) := lg_ofNat_toInt h
theorem pk_lLT {a b : Nat} (ha : a < 2 ^ 63) (hb : b < 2 ^ 63) : lN a < lN b ↔ a < b := by
  rw [Int64.lt_iff_toInt_lt, pk_lT ha, pk_lT hb]; omega
theorem pk_lLE {a b : Nat} (ha : a < 2 ^ 63) (hb : b < 2 ^ 63) : lN a ≤ lN b ↔ a ≤ b := by
  rw [Int64.le_iff_toInt_le, pk_lT ha, pk_lT hb]; omega
theorem pk_lEQ {a b : Nat} (ha : a < 2 ^ 63) (hb : b < 2 ^ 63) : lN a = lN b ↔ a = b := by
  rw [← Int64.toInt_inj, pk_lT ha, pk_lT hb]; omega
theorem pk_lOf {x : Int64} (h : ¬ x < 0) : ∃ k : Nat, k < 2 ^ 63 ∧ x = lN k := by
  rw [Int64.lt_iff_toInt_lt] at h
  have h0 : (0 : Int64).toInt = 0 := by decide
  have hx := Int64.toInt_lt x
  refine ⟨x.toInt.toNat, by omega, Int64.toInt_inj.mp ?_⟩
  rw [pk_lT (by omega)]
  omega
theorem pk_lDiv {a b : Nat} (ha : a < 2 ^ 63) (h0 : 0 < b) (hb : b < 2 ^ 63) : lN a / lN b = lN (a / b) := by
  apply Int64.toInt_inj.mp
  rw [lg_ldiv_nonneg (by rw [pk_lT ha]; omega) (by rw [pk_lT hb]; omega), pk_lT ha, pk_lT hb, pk_lT (Nat.lt_of_le_of_lt (Nat.div_le_self a b) ha)]
  rfl
theorem pk_lRem {a b : Nat} (ha : a < 2 ^ 63) (h0 : 0 < b) (hb : b < 2 ^ 63) : lN a - lN a / lN b * lN b = lN (a % b) := by
  rw [pk_lDiv ha h0 hb, lN_mul, lN_sub (Nat.div_mul_le_self a b)]
  exact congrArg lN (by have := Nat.div_add_mod' a b; omega)
theorem sb_negT {w : Nat} (h : w < 2 ^ 31) : (-nI w).toInt = -(w : Int) := by
  rw [Int32.toInt_neg, nI_toInt h]
  exact Int.bmod_eq_of_le (by omega) (by omega)
theorem nx_and (a b : Nat) : nI a &&& nI b = nI (a &&& b) := by
  apply Int32.toBitVec_inj.1
  show BitVec.ofNat 32 a &&& BitVec.ofNat 32 b = BitVec.ofNat 32 (a &&& b)
  apply BitVec.eq_of_getLsbD_eq
  intro i hi
  simp [hi]
theorem nx_xor (a b : Nat) : nI a ^^^ nI b = nI (a ^^^ b) := by
  apply Int32.toBitVec_inj.1
  show BitVec.ofNat 32 a ^^^ BitVec.ofNat 32 b = BitVec.ofNat 32 (a ^^^ b)
  apply BitVec.eq_of_getLsbD_eq
  intro i hi
  simp [hi]
theorem wb_tb (n : Nat) : (lN n).toBitVec = BitVec.ofNat 64 n := rfl
theorem wb_inj {a b : Int64} (h : a.toBitVec = b.toBitVec) : a = b := Int64.toBitVec_inj.mp h
theorem wb_tn {n : Nat} (h : n < 2 ^ 64) : (lN n).toBitVec.toNat = n := by rw [wb_tb, BitVec.toNat_ofNat, Nat.mod_eq_of_lt h]
theorem wb_c : ∀ k, k < 64 → ((nI k).toInt64 &&& 63) = lN k := by decide +kernel
theorem wb_cu : ∀ k, k < 64 → ((nI k).toInt64.toUInt64 &&& Int64.toUInt64 63) = UInt64.ofNat k := by decide +kernel
theorem wb_sm : ∀ k, k < 64 → (BitVec.ofNat 64 k).smod 64 = BitVec.ofNat 64 k := by decide +kernel
theorem wb_pw {a b : Nat} (h : a ≤ b) : 2 ^ b = 2 ^ a * 2 ^ (b - a) := by rw [← Nat.pow_add]; congr 1; omega
theorem wb_lt2 {a b : Nat} (h : a < b) : 2 ^ a < 2 ^ b := Nat.pow_lt_pow_right (by decide) h
theorem wb_shr {n k : Nat} (hn : n < 2 ^ 64) (hk : k < 64) : ((lN n).toUInt64 >>> ((nI k).toInt64.toUInt64 &&& Int64.toUInt64 63)).toInt64 = lN (n / 2 ^ k) := by
  rw [wb_cu k hk]
  apply wb_inj
  apply BitVec.eq_of_toNat_eq
  show ((lN n).toUInt64 >>> UInt64.ofNat k).toNat = (BitVec.ofNat 64 _).toNat
  have h1 : (UInt64.ofNat k).toNat = k := by
    show (BitVec.ofNat 64 k).toNat = k
    rw [BitVec.toNat_ofNat, Nat.mod_eq_of_lt (by omega)]
  have h2 : (lN n).toUInt64.toNat = n := wb_tn hn
  rw [UInt64.toNat_shiftRight, h1, h2, Nat.mod_eq_of_lt hk, Nat.shiftRight_eq_div_pow, BitVec.toNat_ofNat, Nat.mod_eq_of_lt (Nat.lt_of_le_of_lt (Nat.div_le_self _ _) hn)]
theorem wb_shl (n : Nat) {k : Nat} (hk : k < 64) : lN n <<< ((nI k).toInt64 &&& 63) = lN (n * 2 ^ k) := by
  rw [wb_c k hk]
  apply wb_inj
  rw [Int64.toBitVec_shiftLeft, wb_tb, wb_tb, wb_tb, wb_sm k hk]
  apply BitVec.eq_of_toNat_eq
  rw [BitVec.shiftLeft_eq', BitVec.toNat_shiftLeft, BitVec.toNat_ofNat, BitVec.toNat_ofNat, BitVec.toNat_ofNat, Nat.mod_eq_of_lt (show k < 2 ^ 64 by omega), Nat.shiftLeft_eq, Nat.mul_mod, Nat.mod_mod, ← Nat.mul_mod]
theorem wb_and {a b : Nat} (ha : a < 2 ^ 64) (hb : b < 2 ^ 64) : lN a &&& lN b = lN (a &&& b) := by
  apply wb_inj
  rw [Int64.toBitVec_and, wb_tb, wb_tb, wb_tb]
  apply BitVec.eq_of_toNat_eq
  rw [BitVec.toNat_and, BitVec.toNat_ofNat, BitVec.toNat_ofNat, BitVec.toNat_ofNat, Nat.mod_eq_of_lt ha, Nat.mod_eq_of_lt hb, Nat.mod_eq_of_lt (Nat.and_lt_two_pow _ hb)]
theorem wb_or {a b : Nat} (ha : a < 2 ^ 64) (hb : b < 2 ^ 64) : lN a ||| lN b = lN (a ||| b) := by
  apply wb_inj
  rw [Int64.toBitVec_or, wb_tb, wb_tb, wb_tb]
  apply BitVec.eq_of_toNat_eq
  rw [BitVec.toNat_or, BitVec.toNat_ofNat, BitVec.toNat_ofNat, BitVec.toNat_ofNat, Nat.mod_eq_of_lt ha, Nat.mod_eq_of_lt hb, Nat.mod_eq_of_lt (Nat.or_lt_two_pow ha hb)]
theorem wb_mask {n k : Nat} (hn : n < 2 ^ 64) (hk : k < 64) : lN n &&& lN (2 ^ k - 1) = lN (n % 2 ^ k) := by
  rw [wb_and hn (by have := wb_lt2 hk; omega), Nat.and_two_pow_sub_one_eq_mod]
theorem wb_a1 {n : Nat} (hn : n < 2 ^ 64) : lN n &&& 1 = lN (n % 2) := wb_mask (k := 1) hn (by decide)
theorem wb_bit {n k : Nat} (hn : n < 2 ^ 64) (hk : k < 64) : ((lN n).toUInt64 >>> ((nI k).toInt64.toUInt64 &&& Int64.toUInt64 63)).toInt64 &&& 1 = lN (n / 2 ^ k % 2) := by
  rw [wb_shr hn hk, wb_a1 (Nat.lt_of_le_of_lt (Nat.div_le_self _ _) hn)]
theorem u_tn {n : Nat} (h : n < 2 ^ 64) : (UInt64.ofNat n).toNat = n := Nat.mod_eq_of_lt h
theorem g_or {k p a b : Nat} (hp : 2 ^ k = p) (ha : a < p) (h : b * p + a < 2 ^ 64) : lN (b * p) ||| lN a = lN (b * p + a) := by
  subst hp
  have h1 : b * 2 ^ k ||| a = b * 2 ^ k + a := by rw [← Nat.shiftLeft_eq, Nat.shiftLeft_add_eq_or_of_lt ha]
  have h3 : UInt64.ofNat (b * 2 ^ k) ||| UInt64.ofNat a = UInt64.ofNat (b * 2 ^ k + a) := UInt64.toNat_inj.mp (by rw [UInt64.toNat_or, u_tn (by omega), u_tn (by omega), u_tn h, h1])
  have h2 := congrArg UInt64.toInt64 h3
  exact h2
end
section
/-! sizes of the codes, the place of a number between two codes -/
def tf_size (c : Nat) : Nat := if c < 8 then c else (8 + c % 8) * 2 ^ (c / 8 - 1)
theorem tf_at : ∀ p, p < 14 → ∀ k, k < 16 → (8 ≤ k ∨ p = 0) → tf_size (8 * p + k) = k * 2 ^ p ∧ tf_size (8 * p + k + 1) = (k + 1) * 2 ^ p := by decide +kernel
theorem tf_up1 : ∀ c, c < 120 → tf_size c < tf_size (c + 1) := by decide +kernel
theorem tf_up {a b : Nat} (h : a < b) (hb : b ≤ 120) : tf_size a < tf_size b := by
  induction b with
  | zero => omega
  | succ b ih =>
    have h1 := tf_up1 b (by omega)
    by_cases e : a = b
    · subst e; exact h1
    · have := ih (by omega) (by omega); omega
theorem tf_upE {a b : Nat} (h : a ≤ b) (hb : b ≤ 120) : tf_size a ≤ tf_size b := by
  by_cases e : a = b
  · subst e; exact Nat.le_refl _
  · exact Nat.le_of_lt (tf_up (by omega) hb)
theorem tf_120 : tf_size 120 = 131072 := by decide +kernel
theorem tf_119 : tf_size 119 = 122880 := by decide +kernel
theorem tf_max {c : Nat} (h : c < 121) : tf_size c ≤ 131072 := by
  have := tf_upE (a := c) (b := 120) (by omega) (by omega)
  rw [tf_120] at this; exact this
/-- fraction and exponent of a code -/
def tf_fr (j : Nat) : Nat := if j / 8 % 16 = 0 then j % 8 else 8 + j % 8
def tf_ex (j : Nat) : Nat := j / 8 % 16 - 1
theorem tf_unp : ∀ j, j < 256 → j % 128 < 120 → tf_size (j % 128) = tf_fr j * 2 ^ tf_ex j ∧ tf_ex j ≤ 13 ∧ tf_fr j ≤ 15 ∧ (tf_fr j = 0 ↔ j % 128 = 0) := by decide +kernel
/-- an increasing function -/
def tf_Mono (g : Nat → Nat) : Prop := ∀ a b, a < b → g a < g b
theorem tf_Mle {g : Nat → Nat} (hg : tf_Mono g) {a b : Nat} (h : a ≤ b) : g a ≤ g b := by
  by_cases e : a = b
  · subst e; exact Nat.le_refl _
  · exact Nat.le_of_lt (hg a b (by omega))
def tf_or (r h : Nat) : Nat := if r = 0 ∧ h = 0 then 0 else 1
/-- the number (whose g is W) lies at k, a half more if h is 1, something more if r is 1, in places of 2^P -/
def tf_Inv (g : Nat → Nat) (W k h r P : Nat) : Prop :=
  (r = 0 → g ((2 * k + h) * 2 ^ P) = W) ∧ (r = 1 → g ((2 * k + h) * 2 ^ P) < W ∧ W < g ((2 * k + 2) * 2 ^ P) ∧ (k ≤ 15 → W < g ((2 * k + h + 1) * 2 ^ P)))
theorem tf_Inv_s {g : Nat → Nat} {W k h r P : Nat} (hg : tf_Mono g) (hh : h ≤ 1) (hr : r ≤ 1) (I : tf_Inv g W k h r P) :
    tf_Inv g W (k / 2) (k % 2) (tf_or r h) (P + 1) := by
  have e1 : (2 * (k / 2) + k % 2) * 2 ^ (P + 1) = 2 * k * 2 ^ P := by
    rw [show 2 * (k / 2) + k % 2 = k by omega, Nat.pow_succ, Nat.mul_comm (2 ^ P) 2, ← Nat.mul_assoc, Nat.mul_comm k 2]
  have e2 : (2 * (k / 2) + k % 2 + 1) * 2 ^ (P + 1) = (2 * k + 2) * 2 ^ P := by
    rw [show 2 * (k / 2) + k % 2 + 1 = k + 1 by omega, Nat.pow_succ, Nat.mul_comm (2 ^ P) 2, ← Nat.mul_assoc, show (k + 1) * 2 = 2 * k + 2 by omega]
  have e3 : (2 * k + 2) * 2 ^ P ≤ (2 * (k / 2) + 2) * 2 ^ (P + 1) := by
    rw [← e2]; exact Nat.mul_le_mul_right _ (by omega)
  have hp : 0 < 2 ^ P := Nat.two_pow_pos P
  unfold tf_or
  by_cases z : r = 0 ∧ h = 0
  · rw [if_pos z]
    obtain ⟨rfl, rfl⟩ := z
    refine ⟨fun _ => ?_, fun z => absurd z (by decide)⟩
    rw [e1]; exact I.1 rfl
  · rw [if_neg z]
    refine ⟨fun z => absurd z (by decide), fun _ => ?_⟩
    have lo : g (2 * k * 2 ^ P) < W ∧ W < g ((2 * k + 2) * 2 ^ P) := by
      rcases (show r = 0 ∨ r = 1 by omega) with rfl | rfl
      · obtain rfl : h = 1 := by omega
        have := I.1 rfl
        rw [← this]
        exact ⟨hg _ _ (Nat.mul_lt_mul_of_pos_right (by omega) hp), hg _ _ (Nat.mul_lt_mul_of_pos_right (by omega) hp)⟩
      · have := I.2 rfl
        exact ⟨Nat.lt_of_le_of_lt (tf_Mle hg (Nat.mul_le_mul_right _ (by omega))) this.1, this.2.1⟩
    rw [e1, e2]
    exact ⟨lo.1, Nat.lt_of_lt_of_le lo.2 (tf_Mle hg e3), fun _ => lo.2⟩
theorem tf_Inv_d {g : Nat → Nat} {W k P : Nat} (I : tf_Inv g W k 0 0 (P + 1)) : tf_Inv g W (k * 2) 0 0 P := by
  refine ⟨fun _ => ?_, fun z => absurd z (by decide)⟩
  have := I.1 rfl
  rw [← this]
  have e : (2 * (k * 2) + 0) * 2 ^ P = (2 * k + 0) * 2 ^ (P + 1) := by
    rw [Nat.pow_succ, show 2 * (k * 2) + 0 = (2 * k + 0) * 2 by omega, Nat.mul_assoc, Nat.mul_comm 2 (2 ^ P)]
  rw [e]
/-- what the search for a code among the sizes meets: c below, h and r as above, gt: beyond all -/
def tf_Yf (g : Nat → Nat) (W c h r gt : Nat) : Prop :=
  c ≤ 119 ∧ h ≤ 1 ∧ r ≤ 1 ∧ (h = 0 ∧ r = 0 → gt = 0) ∧ gt ≤ 1 ∧ (∀ i, i ≤ c → g (2 * tf_size i * 65536) ≤ W) ∧ (c = 119 ∨ W < g (2 * tf_size (c + 1) * 65536)) ∧
  (h = 0 ∧ r = 0 → g (2 * tf_size c * 65536) = W) ∧ (¬ (h = 0 ∧ r = 0) → g (2 * tf_size c * 65536) < W) ∧
  (h = 0 → W < g ((tf_size c + tf_size (c + 1)) * 65536)) ∧ (h = 1 → r = 0 → g ((tf_size c + tf_size (c + 1)) * 65536) = W) ∧
  (h = 1 → r = 1 → g ((tf_size c + tf_size (c + 1)) * 65536) < W) ∧ (gt = 0 → W < g (2 * 131072 * 65536)) ∧ (gt = 1 → g (2 * 131072 * 65536) ≤ W)
theorem tf_Yf_lo {g : Nat → Nat} {W k h r p : Nat} (hg : tf_Mono g) (hh : h ≤ 1) (hr : r ≤ 1) (hk : k ≤ 15) (hp : p ≤ 13) (hkp : 8 ≤ k ∨ p = 0)
    (I : tf_Inv g W k h r (16 + p)) : tf_Yf g W (8 * p + k) h r 0 := by
  obtain ⟨z1, z2⟩ := tf_at p (by omega) k (by omega) hkp
  have hc : 8 * p + k ≤ 119 := by omega
  have q0 : 0 < 2 ^ p := Nat.two_pow_pos p
  have eP : ∀ x, x * 2 ^ (16 + p) = x * 2 ^ p * 65536 := by
    intro x
    rw [Nat.pow_add, Nat.mul_comm (2 ^ 16), ← Nat.mul_assoc]
  have e2 : (k + 1) * 2 ^ p = k * 2 ^ p + 2 ^ p := by rw [Nat.add_mul, Nat.one_mul]
  have e0 : 2 * k * 2 ^ p = 2 * (k * 2 ^ p) := Nat.mul_assoc _ _ _
  have e3 : (2 * k + 1) * 2 ^ p = 2 * (k * 2 ^ p) + 2 ^ p := by rw [Nat.add_mul, Nat.one_mul, e0]
  have e4 : (2 * k + 2) * 2 ^ p = 2 * (k * 2 ^ p) + 2 * 2 ^ p := by rw [Nat.add_mul, e0]
  unfold tf_Inv at I
  simp only [eP] at I
  have hlow : ∀ i, i ≤ 8 * p + k → tf_size i ≤ k * 2 ^ p := by
    intro i hi
    rw [← z1]; exact tf_upE hi (by omega)
  have hmx : tf_size (8 * p + k + 1) ≤ 131072 := tf_max (by omega)
  rw [z2] at hmx
  have hgm : ∀ {a b : Nat}, a ≤ b → g (a * 65536) ≤ g (b * 65536) := fun h => tf_Mle hg (Nat.mul_le_mul_right _ h)
  have hgs : ∀ {a b : Nat}, a < b → g (a * 65536) < g (b * 65536) := fun h => hg _ _ (Nat.mul_lt_mul_of_pos_right h (by decide))
  unfold tf_Yf
  rw [z1, z2]
  generalize k * 2 ^ p = x at *
  generalize 2 ^ p = q at *
  have main : g (2 * x * 65536) ≤ W ∧ W < g (2 * ((k + 1) * q) * 65536) ∧ (h = 0 ∧ r = 0 → g (2 * x * 65536) = W) ∧ (¬ (h = 0 ∧ r = 0) → g (2 * x * 65536) < W) ∧
      (h = 0 → W < g ((x + (k + 1) * q) * 65536)) ∧ (h = 1 → r = 0 → g ((x + (k + 1) * q) * 65536) = W) ∧ (h = 1 → r = 1 → g ((x + (k + 1) * q) * 65536) < W) := by
    rw [e2, show 2 * (x + q) = 2 * x + 2 * q by omega, show x + (x + q) = 2 * x + q by omega]
    rcases (show h = 0 ∨ h = 1 by omega) with rfl | rfl <;> rcases (show r = 0 ∨ r = 1 by omega) with rfl | rfl
    · have := I.1 rfl
      rw [Nat.add_zero, e0] at this
      have a1 := hgs (show 2 * x < 2 * x + 2 * q by omega)
      have a2 := hgs (show 2 * x < 2 * x + q by omega)
      rw [this] at a1 a2
      refine ⟨Nat.le_of_eq this, a1, fun _ => this, fun z => absurd ⟨rfl, rfl⟩ z, fun _ => a2, fun z => absurd z (by decide), fun z => absurd z (by decide)⟩
    · have := I.2 rfl
      rw [Nat.add_zero, e0, e3, e4] at this
      have t3 := this.2.2 hk
      refine ⟨Nat.le_of_lt this.1, this.2.1, fun z => absurd z.2 (by decide), fun _ => this.1, fun _ => t3, fun z => absurd z (by decide), fun z => absurd z (by decide)⟩
    · have := I.1 rfl
      rw [e3] at this
      have a1 := hgs (show 2 * x < 2 * x + q by omega)
      have a2 := hgs (show 2 * x + q < 2 * x + 2 * q by omega)
      rw [this] at a1 a2
      refine ⟨Nat.le_of_lt a1, a2, fun z => absurd z.1 (by decide), fun _ => a1, fun z => absurd z (by decide), fun _ _ => this, fun _ z => absurd z (by decide)⟩
    · have := I.2 rfl
      rw [e3, e4] at this
      have a1 := hgs (show 2 * x < 2 * x + q by omega)
      refine ⟨Nat.le_of_lt (Nat.lt_trans a1 this.1), this.2.1, fun z => absurd z.1 (by decide), fun _ => Nat.lt_trans a1 this.1, fun z => absurd z (by decide), fun _ z => absurd z (by decide), fun _ _ => this.1⟩
  refine ⟨hc, hh, hr, fun _ => rfl, by decide, fun i hi => ?_, Or.inr main.2.1, main.2.2.1, main.2.2.2.1, main.2.2.2.2.1, main.2.2.2.2.2.1, main.2.2.2.2.2.2, fun _ => ?_, fun z => absurd z (by decide)⟩
  · exact Nat.le_trans (hgm (Nat.mul_le_mul_left 2 (hlow i hi))) main.1
  · exact Nat.lt_of_lt_of_le main.2.1 (hgm (Nat.mul_le_mul_left 2 hmx))
theorem tf_Yf_hi {g : Nat → Nat} {W k h r p : Nat} (hg : tf_Mono g) (hr : r ≤ 1) (hk : 8 ≤ k) (hp : 14 ≤ p)
    (I : tf_Inv g W k h r (16 + p)) : tf_Yf g W 119 1 1 1 := by
  have hW : g (2 * 131072 * 65536) ≤ W := by
    have h1 : 2 * 131072 * 65536 ≤ (2 * k + h) * 2 ^ (16 + p) := by
      have a : (2 : Nat) ^ 30 ≤ 2 ^ (16 + p) := Nat.pow_le_pow_right (by decide) (by omega)
      have b : 16 * 2 ^ 30 ≤ (2 * k + h) * 2 ^ (16 + p) := Nat.mul_le_mul (by omega) a
      omega
    have h2 := tf_Mle hg h1
    rcases (show r = 0 ∨ r = 1 by omega) with rfl | rfl
    · have := I.1 rfl; omega
    · have := (I.2 rfl).1; omega
  have hgs : ∀ {a b : Nat}, a < b → g (a * 65536) < g (b * 65536) := fun h => hg _ _ (Nat.mul_lt_mul_of_pos_right h (by decide))
  have hm : ∀ i, i ≤ 119 → g (2 * tf_size i * 65536) < W := by
    intro i hi
    have := tf_up (a := i) (b := 120) (by omega) (by omega)
    rw [tf_120] at this
    exact Nat.lt_of_lt_of_le (hgs (by omega)) hW
  have hmid : g ((tf_size 119 + tf_size (119 + 1)) * 65536) < W := by
    refine Nat.lt_of_lt_of_le (hgs ?_) hW
    rw [tf_119, tf_120]; decide
  refine ⟨by decide, by decide, by decide, fun z => absurd z.1 (by decide), by decide, fun i hi => Nat.le_of_lt (hm i hi), Or.inl rfl, fun z => absurd z.1 (by decide), fun _ => hm 119 (by decide), fun z => absurd z (by decide), fun _ z => absurd z (by decide), fun _ _ => hmid, fun z => absurd z (by decide), fun _ => hW⟩
/-- the outcome of a rounding: the code without sign, and the notes that are added -/
def tf_code (md s c h r : Nat) : Nat := if (md = 0 ∧ h = 1 ∧ (r = 1 ∨ c % 2 = 1)) ∨ ((h = 1 ∨ r = 1) ∧ ((md = 2 ∧ s = 0) ∨ (md = 3 ∧ s = 1))) then c + 1 else c
def tf_bits (md s c h r gt : Nat) : Nat := if h = 0 ∧ r = 0 then 0 else if tf_code md s c h r = 120 ∨ gt = 1 then 3 else 1
theorem tf_code_le {md s c h r : Nat} (hc : c ≤ 119) : tf_code md s c h r ≤ 120 := by
  unfold tf_code; split <;> omega
end
section
/-! the component's rounding -/
theorem tf_n1 : nI 1 = 1 := by decide
theorem tf_n2 : nI 2 = 2 := by decide
theorem tf_n3 : nI 3 = 3 := by decide
theorem tf_c10 : ¬ (1 : Int32) = 0 := by decide
theorem tf_c01 : ¬ (0 : Int32) = 1 := by decide
theorem tf_o0 (n : Int32) : n ||| nI 0 = n := by
  rw [nI_0]; exact Int32.or_zero
theorem tf_o3 (n : Int32) : (n ||| 1) ||| 2 = n ||| nI 3 := by
  rw [Int32.or_assoc]; rfl
theorem tf_o31 (n : Int32) : ((n ||| 1) ||| 1) ||| 2 = n ||| nI 3 := by
  rw [Int32.or_assoc, Int32.or_assoc]; rfl
theorem tf_lb {a b : Nat} (e : a = b) : nI a = nI b := congrArg nI e
/-- the component's power, 16 above -/
def tf_pw (P : Nat) : Int32 := nI P - 16
theorem tf_pw_s (P : Nat) : tf_pw P + 1 = tf_pw (P + 1) := by
  unfold tf_pw
  rw [← nI_1]
  grind
theorem tf_pw_p (P : Nat) : tf_pw (P + 1) + (-1) = tf_pw P := by
  unfold tf_pw
  rw [← nI_1]
  grind
theorem tf_pw_n (p : Nat) : tf_pw (16 + p) = nI p := by
  have h := pk_sub (a := 16 + p) (b := 16) (by omega)
  rw [show 16 + p - 16 = p by omega] at h
  exact h
theorem tf_pw_i {P : Nat} (h : P < 2 ^ 30) : (tf_pw P).toInt = (P : Int) - 16 := pk_sub_toInt (b := 16) h (by decide)
theorem tf_pw_0 {P : Nat} (h : P < 2 ^ 30) : 0 ≤ tf_pw P ↔ 16 ≤ P := by
  rw [Int32.le_iff_toInt_le, tf_pw_i h, show (0 : Int32).toInt = 0 from by decide]; omega
theorem tf_pw_0' {P : Nat} (h : P < 2 ^ 30) : tf_pw P ≤ 0 ↔ P ≤ 16 := by
  rw [Int32.le_iff_toInt_le, tf_pw_i h, show (0 : Int32).toInt = 0 from by decide]; omega
theorem tf_e1 {s p k : Nat} (hk : 8 ≤ k) : (((nI s * 128) + (8 * (nI p + 1))) + (lN k).toInt32) - 8 = nI (128 * s + (8 * p + k)) := by
  rw [lN_i, nI_1]
  have h : nI s * nI 128 + nI 8 * nI (p + 1) + nI k - nI 8 = nI (128 * s + (8 * p + k)) := by
    rw [pk_mul, pk_mul, nI_add, nI_add, pk_sub (by omega)]
    exact tf_lb (by omega)
  exact h
theorem tf_e2 {s k : Nat} : (nI s * 128) + (lN k).toInt32 = nI (128 * s + (8 * 0 + k)) := by
  rw [lN_i]
  have h : nI s * nI 128 + nI k = nI (128 * s + (8 * 0 + k)) := by
    rw [pk_mul, nI_add]
    exact tf_lb (by omega)
  exact h
theorem tf_e3 (s : Nat) : nI s * 128 + 119 = nI (128 * s + 119) := by
  have h : nI s * nI 128 + nI 119 = nI (128 * s + 119) := by
    rw [pk_mul, nI_add]
    exact tf_lb (by omega)
  exact h
theorem tf_e4 (s : Nat) : nI s * 128 + 120 = nI (128 * s + 120) := by
  have h : nI s * nI 128 + nI 120 = nI (128 * s + 120) := by
    rw [pk_mul, nI_add]
    exact tf_lb (by omega)
  exact h
theorem tf_e5 (s : Nat) : nI s * 128 = nI (128 * s) := by
  have h : nI s * nI 128 = nI (128 * s) := by
    rw [pk_mul]
    exact tf_lb (by omega)
  exact h
theorem tf_i0 {a : Nat} (h : a < 2 ^ 31) : nI a = 0 ↔ a = 0 := nI_eq (b := 0) h (by decide)
theorem tf_i1 {a : Nat} (h : a < 2 ^ 31) : nI a = 1 ↔ a = 1 := nI_eq (b := 1) h (by decide)
theorem tf_i2 {a : Nat} (h : a < 2 ^ 31) : nI a = 2 ↔ a = 2 := nI_eq (b := 2) h (by decide)
theorem tf_i3 {a : Nat} (h : a < 2 ^ 31) : nI a = 3 ↔ a = 3 := nI_eq (b := 3) h (by decide)
theorem tf_upw {post : Int32 → Prop} {md s k h r : Nat} {nn st sg : Int32} {fr : Int64} {ex : Int32} (hmd : md ≤ 3) (hs : s ≤ 1) (hk : k < 2 ^ 40) (hh : h ≤ 1) (hr : r ≤ 1)
    (H : post (if (md = 0 ∧ h = 1 ∧ (r = 1 ∨ k % 2 = 1)) ∨ ((h = 1 ∨ r = 1) ∧ ((md = 2 ∧ s = 0) ∨ (md = 3 ∧ s = 1))) then 1 else 0)) :
    wpX_upward post (nI md, nn, st, sg, fr, ex) (nI s) (lN k) (nI h) (nI r) := by
  have hk1 : (lN k &&& 1 = 1) ↔ k % 2 = 1 := by
    rw [wb_a1 (by omega)]; exact pk_lEQ (b := 1) (by omega) (by decide)
  simp only [wpX_upward, wX_upward_51, wX_upward_56, wX_upward_76, wX_upward_85, hk1, tf_i0 (show md < 2 ^ 31 by omega), tf_i1 (show md < 2 ^ 31 by omega), tf_i2 (show md < 2 ^ 31 by omega), tf_i0 (show s < 2 ^ 31 by omega), tf_i0 (show h < 2 ^ 31 by omega), tf_i0 (show r < 2 ^ 31 by omega)]
  by_cases hk2 : k % 2 = 1 <;>
  rcases (show md = 0 ∨ md = 1 ∨ md = 2 ∨ md = 3 by omega) with rfl | rfl | rfl | rfl <;>
  rcases (show s = 0 ∨ s = 1 by omega) with rfl | rfl <;>
  rcases (show h = 0 ∨ h = 1 by omega) with rfl | rfl <;>
  rcases (show r = 0 ∨ r = 1 by omega) with rfl | rfl <;>
  simpa [hk2, tf_c10, tf_c01] using H
theorem tf_packA {post : Int32 → SX → Prop} {s k p : Nat} {m nn st sg : Int32} {fr : Int64} {ex : Int32} (hk : k ≤ 15) (hp : p ≤ 13) (hkp : 8 ≤ k ∨ p = 0)
    (H : post (nI (128 * s + (8 * p + k))) (m, nn, st, sg, fr, ex)) : wpX_pack post (m, nn, st, sg, fr, ex) (nI s) (lN k) (nI p) := by
  by_cases h8 : 8 ≤ k
  · refine br_t ((pk_lLE (a := 8) (by decide) (by omega)).mpr h8) (br_t (nI_le (b := 13) hp (by decide)) ?_)
    rw [tf_e1 h8]; exact H
  · refine br_f (fun z => h8 ((pk_lLE (a := 8) (by decide) (by omega)).mp z)) ?_
    obtain rfl : p = 0 := by omega
    rw [tf_e2]; exact H
theorem tf_packB {post : Int32 → SX → Prop} {md s k p : Nat} {nn st sg : Int32} {fr : Int64} {ex : Int32} (hmd : md ≤ 3) (hs : s ≤ 1) (hk : 8 ≤ k) (hk2 : k < 2 ^ 40) (hp : 14 ≤ p) (hp2 : p ≤ 1000)
    (H : post (nI (128 * s + if md = 0 ∨ (md = 2 ∧ s = 0) ∨ (md = 3 ∧ s = 1) then 120 else 119)) (nI md, (nn ||| 1) ||| 2, st, sg, fr, ex)) : wpX_pack post (nI md, nn, st, sg, fr, ex) (nI s) (lN k) (nI p) := by
  refine br_t ((pk_lLE (a := 8) (by decide) (by omega)).mpr hk) (br_f (nI_ge (a := 13) (by omega) (by omega)) (nm_e ?_))
  simp only [wX_pack_64, wX_pack_73, wX_pack_76, wX_pack_80, wX_pack_81, tf_e3, tf_e4, tf_i0 (show md < 2 ^ 31 by omega), tf_i1 (show md < 2 ^ 31 by omega), tf_i2 (show md < 2 ^ 31 by omega), tf_i0 (show s < 2 ^ 31 by omega)]
  rcases (show md = 0 ∨ md = 1 ∨ md = 2 ∨ md = 3 by omega) with rfl | rfl | rfl | rfl <;>
  rcases (show s = 0 ∨ s = 1 by omega) with rfl | rfl <;>
  simpa [tf_c10, tf_c01] using H
theorem tf_X169a {post : Int32 → SX → Prop} {s k p : Nat} {m nn st sg : Int32} {fr : Int64} {ex : Int32} (hk : k ≤ 16) (hc : 8 * p + k ≤ 119) (hkp : 8 ≤ k ∨ p = 0)
    (H : post (nI (128 * s + (8 * p + k))) (m, nn, st, sg, fr, ex)) : wX_round_169 post (nI s) (lN k) (nI p) m nn st sg fr ex := by
  by_cases h : k ≤ 15
  · refine br_t ((pk_lLE (b := 15) (by omega) (by decide)).mpr h) ?_
    exact tf_packA (post := fun r u => post r u) h (by omega) hkp H
  · obtain rfl : k = 16 := by omega
    refine br_f (fun z => h ((pk_lLE (b := 15) (by decide) (by decide)).mp z)) (nm_r (e' := lN 8) (wb_shr (n := 16) (k := 1) (by decide) (by decide)) (nm_r (nI_1 p) ?_))
    refine tf_packA (post := fun r u => post r u) (k := 8) (by decide) (by omega) (Or.inl (by decide)) ?_
    rw [show 128 * s + (8 * (p + 1) + 8) = 128 * s + (8 * p + 16) by omega]
    exact H
theorem tf_X169b {post : Int32 → SX → Prop} {md s k p : Nat} {nn st sg : Int32} {fr : Int64} {ex : Int32} (hmd : md ≤ 3) (hs : s ≤ 1) (hk : 8 ≤ k) (hk2 : k ≤ 16) (hc : 120 ≤ 8 * p + k) (hp : p ≤ 500)
    (H : post (nI (128 * s + if md = 0 ∨ (md = 2 ∧ s = 0) ∨ (md = 3 ∧ s = 1) then 120 else 119)) (nI md, (nn ||| 1) ||| 2, st, sg, fr, ex)) : wX_round_169 post (nI s) (lN k) (nI p) (nI md) nn st sg fr ex := by
  by_cases h : k ≤ 15
  · refine br_t ((pk_lLE (b := 15) (by omega) (by decide)).mpr h) ?_
    exact tf_packB (post := fun r u => post r u) hmd hs hk (by omega) (by omega) (by omega) H
  · obtain rfl : k = 16 := by omega
    refine br_f (fun z => h ((pk_lLE (b := 15) (by decide) (by decide)).mp z)) (nm_r (e' := lN 8) (wb_shr (n := 16) (k := 1) (by decide) (by decide)) (nm_r (nI_1 p) ?_))
    exact tf_packB (post := fun r u => post r u) (k := 8) hmd hs (by decide) (by decide) (by omega) (by omega) H
theorem tf_X125n {post : Int32 → SX → Prop} {h r : Nat} {x1 x8 m nn st sg : Int32} {x6 fr : Int64} {ex : Int32} (hh : h ≤ 1) (hr : r ≤ 1)
    (H : wX_round_145 post x1 x6 x8 (nI h) (nI r) m (if h = 0 ∧ r = 0 then nn else nn ||| 1) st sg fr ex) : wX_round_125 post x1 x6 x8 (nI h) (nI r) m nn st sg fr ex := by
  rcases (show h = 0 ∨ h = 1 by omega) with rfl | rfl
  · rcases (show r = 0 ∨ r = 1 by omega) with rfl | rfl
    · exact br_t rfl (br_t rfl H)
    · exact br_t rfl (br_f tf_c10 (nm_e H))
  · refine br_f tf_c10 (nm_e ?_)
    rw [if_neg (by omega)] at H
    exact H
theorem tf_X125a {post : Int32 → SX → Prop} {md s k p h r : Nat} {nn st sg : Int32} {fr : Int64} {ex : Int32} (hmd : md ≤ 3) (hs : s ≤ 1) (hk : k ≤ 15) (hp : p ≤ 13) (hkp : 8 ≤ k ∨ p = 0) (hh : h ≤ 1) (hr : r ≤ 1)
    (H : post (nI (128 * s + tf_code md s (8 * p + k) h r)) (nI md, nn ||| nI (tf_bits md s (8 * p + k) h r 0), st, sg, fr, ex)) : wX_round_125 post (nI s) (lN k) (nI p) (nI h) (nI r) (nI md) nn st sg fr ex := by
  refine tf_X125n hh hr ?_
  unfold wX_round_145
  refine tf_upw hmd hs (by omega) hh hr ?_
  have hpar : (8 * p + k) % 2 = k % 2 := by omega
  unfold tf_bits at H
  unfold tf_code at H
  rw [hpar] at H
  by_cases up : (md = 0 ∧ h = 1 ∧ (r = 1 ∨ k % 2 = 1)) ∨ ((h = 1 ∨ r = 1) ∧ ((md = 2 ∧ s = 0) ∨ (md = 3 ∧ s = 1)))
  · have hz : ¬ (h = 0 ∧ r = 0) := by omega
    rw [if_pos up]
    rw [if_pos up, if_neg hz] at H
    rw [if_neg hz]
    refine br_f tf_c10 (nm_r (lN_1 k) ?_)
    by_cases hc : 8 * p + k + 1 ≤ 119
    · rw [if_neg (by omega)] at H
      refine tf_X169a (by omega) (by omega) (by omega) ?_
      exact H
    · rw [if_pos (by omega)] at H
      refine tf_X169b hmd hs (by omega) (by omega) (by omega) (by omega) ?_
      rw [if_pos (by omega), tf_o31]
      rw [show 8 * p + k + 1 = 120 by omega] at H
      exact H
  · rw [if_neg up]
    rw [if_neg up] at H
    refine br_t rfl (tf_X169a (by omega) (by omega) hkp ?_)
    by_cases hz : h = 0 ∧ r = 0
    · rw [if_pos hz, tf_o0] at H
      rw [if_pos hz]
      exact H
    · rw [if_neg hz, if_neg (by omega)] at H
      rw [if_neg hz]
      exact H
theorem tf_X125b {post : Int32 → SX → Prop} {md s k p h r : Nat} {nn st sg : Int32} {fr : Int64} {ex : Int32} (hmd : md ≤ 3) (hs : s ≤ 1) (hk : k ≤ 15) (hk2 : 8 ≤ k) (hp : 14 ≤ p) (hp2 : p ≤ 400) (hh : h ≤ 1) (hr : r ≤ 1)
    (H : post (nI (128 * s + tf_code md s 119 1 1)) (nI md, nn ||| nI (tf_bits md s 119 1 1 1), st, sg, fr, ex)) : wX_round_125 post (nI s) (lN k) (nI p) (nI h) (nI r) (nI md) nn st sg fr ex := by
  refine tf_X125n hh hr ?_
  unfold wX_round_145
  refine tf_upw hmd hs (by omega) hh hr ?_
  have hcode : tf_code md s 119 1 1 = if md = 0 ∨ (md = 2 ∧ s = 0) ∨ (md = 3 ∧ s = 1) then 120 else 119 := by
    unfold tf_code
    by_cases z : md = 0 ∨ (md = 2 ∧ s = 0) ∨ (md = 3 ∧ s = 1)
    · rw [if_pos z, if_pos (by omega)]
    · rw [if_neg z, if_neg (by omega)]
  have hbits : tf_bits md s 119 1 1 1 = 3 := by
    unfold tf_bits
    rw [if_neg (by omega), if_pos (Or.inr rfl)]
  rw [hcode, hbits] at H
  have fin : ∀ k', 8 ≤ k' → k' ≤ 16 → wX_round_169 post (nI s) (lN k') (nI p) (nI md) (if h = 0 ∧ r = 0 then nn else nn ||| 1) st sg fr ex := by
    intro k' a b
    refine tf_X169b hmd hs a b (by omega) (by omega) ?_
    by_cases hz : h = 0 ∧ r = 0
    · rw [if_pos hz, tf_o3]; exact H
    · rw [if_neg hz, tf_o31]; exact H
  split
  · exact br_f tf_c10 (nm_r (lN_1 k) (fin (k + 1) (by omega) (by omega)))
  · exact br_t rfl (fin k hk2 (by omega))
end
section
/-! the two loops of the component's rounding -/
theorem tf_X38 {post : Int32 → SX → Prop} {J : Int64 → Int32 → Int32 → Int32 → Int32 → Prop} {x1 m nn st sg : Int32} {fr : Int64} {ex : Int32} {k h r P i : Nat} (hk : k < 2 ^ 40) (hh : h ≤ 1) (hr : r ≤ 1)
    (H : J (lN (k / 2)) (tf_pw (P + 1)) (nI (k % 2)) (nI (tf_or r h)) (nI (i + 1))) :
    wX_round_38 post J x1 (lN k) (tf_pw P) (nI h) (nI r) (nI i) m nn st sg fr ex := by
  have hk1 : (lN k &&& 1 = 1) ↔ k % 2 = 1 := by
    rw [wb_a1 (by omega)]; exact pk_lEQ (b := 1) (by omega) (by decide)
  have e : ((lN k).toUInt64 >>> ((1 : Int32).toInt64.toUInt64 &&& Int64.toUInt64 63)).toInt64 = lN (k / 2) := wb_shr (k := 1) (by omega) (by decide)
  have s69 : ∀ z0, z0 ≤ 1 → tf_or r h = z0 → wX_round_53 post J x1 (lN k) (tf_pw P) (nI i) (nI z0) m nn st sg fr ex := by
    intro z0 _ hz
    rw [hz] at H
    by_cases hb : k % 2 = 1
    · rw [hb] at H
      exact br_t (hk1.mpr hb) (nm_r e (nm_r (tf_pw_s P) (nm_r (nI_1 i) H)))
    · rw [show k % 2 = 0 by omega] at H
      exact br_f (fun z => hb (hk1.mp z)) (nm_r e (nm_r (tf_pw_s P) (nm_r (nI_1 i) H)))
  rcases (show r = 0 ∨ r = 1 by omega) with rfl | rfl
  · rcases (show h = 0 ∨ h = 1 by omega) with rfl | rfl
    · exact br_t rfl (br_t rfl (s69 0 (by decide) rfl))
    · exact br_t rfl (br_f tf_c10 (s69 1 (by decide) rfl))
  · refine br_f tf_c10 (s69 1 (by decide) ?_)
    unfold tf_or; rw [if_neg (by omega)]
/-- what holds between the two loops -/
def tf_Q (k h r P : Nat) : Prop := 16 < P → 1 ≤ k ∧ (k < 8 → h = 0 ∧ r = 0)
theorem tf_X17 {g : Nat → Nat} {W : Nat} (hg : tf_Mono g) : ∀ d i k h r P : Nat, i + d = 64 → k * 2 ^ i < 2 ^ 40 → i ≤ P → P ≤ 40 + i → h ≤ 1 → r ≤ 1 → tf_Q k h r P → tf_Inv g W k h r P →
    ∃ k' h' r' P' : Nat, k' ≤ 15 ∧ h' ≤ 1 ∧ r' ≤ 1 ∧ 16 ≤ P' ∧ P' ≤ 104 ∧ tf_Q k' h' r' P' ∧ tf_Inv g W k' h' r' P' ∧
      ∀ (post : Int32 → SX → Prop) (x1 m nn st sg : Int32) (fr : Int64) (ex : Int32), (∃ n, wX_round_89 post x1 (nI h') (nI r') m nn st sg fr ex n (lN k') (tf_pw P') 0) →
        wX_round_17 post x1 m nn st sg fr ex (d + 1) (lN k) (tf_pw P) (nI h) (nI r) (nI i) := by
  intro d
  induction d with
  | zero =>
    intro i k h r P hi hk hiP hP hh hr hQ I
    exfalso
    have h1 := (hQ (by omega)).1
    obtain rfl : i = 64 := by omega
    omega
  | succ d ih =>
    intro i k h r P hi hk hiP hP hh hr hQ I
    have hk40 : k < 2 ^ 40 := Nat.lt_of_le_of_lt (Nat.le_mul_of_pos_right k (Nat.two_pow_pos i)) hk
    have hi64 : ¬ (64 : Int32) ≤ nI i := nI_ge (b := 64) (by omega) (by decide)
    by_cases go : 15 < k ∨ P < 16
    · have hk2 : k / 2 * 2 ^ (i + 1) < 2 ^ 40 := by
        rw [Nat.pow_succ, Nat.mul_comm (2 ^ i) 2, ← Nat.mul_assoc]
        exact Nat.lt_of_le_of_lt (Nat.mul_le_mul_right _ (Nat.div_mul_le_self k 2)) hk
      have hor : tf_or r h ≤ 1 := by unfold tf_or; split <;> omega
      obtain ⟨k', h', r', P', a1, a2, a3, a4, a5, a6, a7, H⟩ := ih (i + 1) (k / 2) (k % 2) (tf_or r h) (P + 1) (by omega) hk2 (by omega) (by omega) (by omega) hor (fun z => by
        have : 15 < k := by omega
        exact ⟨by omega, fun z => by omega⟩) (tf_Inv_s hg hh hr I)
      refine ⟨k', h', r', P', a1, a2, a3, a4, a5, a6, a7, fun post x1 m nn st sg fr ex K => ?_⟩
      have S := tf_X38 (post := post) (x1 := x1) (m := m) (nn := nn) (st := st) (sg := sg) (fr := fr) (ex := ex) hk40 hh hr (H post x1 m nn st sg fr ex K)
      by_cases h15 : 15 < k
      · exact br_f hi64 (br_t ((pk_lLT (a := 15) (by decide) (by omega)).mpr h15) S)
      · exact br_f hi64 (br_f (fun z => h15 ((pk_lLT (a := 15) (by decide) (by omega)).mp z)) (br_f (fun z => by have := (tf_pw_0 (by omega)).mp z; omega) S))
    · refine ⟨k, h, r, P, by omega, hh, hr, by omega, by omega, hQ, I, fun post x1 m nn st sg fr ex K => ?_⟩
      exact br_f hi64 (br_f (fun z => go (Or.inl ((pk_lLT (a := 15) (by decide) (by omega)).mp z))) (br_t ((tf_pw_0 (by omega)).mpr (by omega)) K))
theorem tf_X89 {g : Nat → Nat} {W h r : Nat} : ∀ d i k P : Nat, i + d = 3 → k ≤ 15 → 16 ≤ P → P ≤ 104 → (16 < P → 2 ^ i ≤ k ∧ (k < 8 → h = 0 ∧ r = 0)) → tf_Inv g W k h r P →
    ∃ k' P' : Nat, k' ≤ 15 ∧ 16 ≤ P' ∧ P' ≤ 104 ∧ (8 ≤ k' ∨ P' = 16) ∧ tf_Inv g W k' h r P' ∧
      ∀ (post : Int32 → SX → Prop) (x1 m nn st sg : Int32) (fr : Int64) (ex : Int32), wX_round_125 post x1 (lN k') (tf_pw P') (nI h) (nI r) m nn st sg fr ex →
        wX_round_89 post x1 (nI h) (nI r) m nn st sg fr ex (d + 1) (lN k) (tf_pw P) (nI i) := by
  intro d
  induction d with
  | zero =>
    intro i k P hi hk hP hP2 hQ I
    have hi64 : ¬ (64 : Int32) ≤ nI i := nI_ge (b := 64) (by omega) (by decide)
    obtain rfl : i = 3 := by omega
    by_cases h8 : 8 ≤ k
    · exact ⟨k, P, hk, hP, hP2, Or.inl h8, I, fun post x1 m nn st sg fr ex K => br_f hi64 (br_t ((pk_lLE (a := 8) (by decide) (by omega)).mpr h8) K)⟩
    · have h16 : P ≤ 16 := by
        apply Nat.le_of_not_lt
        intro z
        have := (hQ z).1
        omega
      exact ⟨k, P, hk, hP, hP2, Or.inr (by omega), I, fun post x1 m nn st sg fr ex K => br_f hi64 (br_f (fun z => h8 ((pk_lLE (a := 8) (by decide) (by omega)).mp z)) (br_t ((tf_pw_0' (by omega)).mpr h16) K))⟩
  | succ d ih =>
    intro i k P hi hk hP hP2 hQ I
    have hi64 : ¬ (64 : Int32) ≤ nI i := nI_ge (b := 64) (by omega) (by decide)
    by_cases h8 : 8 ≤ k
    · exact ⟨k, P, hk, hP, hP2, Or.inl h8, I, fun post x1 m nn st sg fr ex K => br_f hi64 (br_t ((pk_lLE (a := 8) (by decide) (by omega)).mpr h8) K)⟩
    · by_cases h16 : P ≤ 16
      · exact ⟨k, P, hk, hP, hP2, Or.inr (by omega), I, fun post x1 m nn st sg fr ex K => br_f hi64 (br_f (fun z => h8 ((pk_lLE (a := 8) (by decide) (by omega)).mp z)) (br_t ((tf_pw_0' (by omega)).mpr h16) K))⟩
      · obtain ⟨q1, q2⟩ := hQ (by omega)
        obtain ⟨rfl, rfl⟩ := q2 (by omega)
        obtain ⟨P, rfl⟩ : ∃ p, P = p + 1 := ⟨P - 1, by omega⟩
        have hpw : 2 ^ (i + 1) ≤ k * 2 := by rw [Nat.pow_succ]; omega
        obtain ⟨k', P', a1, a2, a3, a4, a5, H⟩ := ih (i + 1) (k * 2) P (by omega) (by omega) (by omega) (by omega) (fun _ => ⟨hpw, fun _ => ⟨rfl, rfl⟩⟩) (tf_Inv_d I)
        refine ⟨k', P', a1, a2, a3, a4, a5, fun post x1 m nn st sg fr ex K => ?_⟩
        exact br_f hi64 (br_f (fun z => h8 ((pk_lLE (a := 8) (by decide) (by omega)).mp z)) (br_f (fun z => h16 ((tf_pw_0' (by omega)).mp z)) (nm_r (wb_shl k (k := 1) (by decide)) (nm_r (tf_pw_p P) (nm_r (nI_1 i) (H post x1 m nn st sg fr ex K))))))
/-- the component's rounding: an outcome that the number alone fixes -/
theorem tf_Xround {g : Nat → Nat} {W f sk P : Nat} (hg : tf_Mono g) (hf : f < 2 ^ 40) (hP : P ≤ 40) (hsk : sk ≤ 1) (hQ : 16 < P → 1 ≤ f ∧ (f < 8 → sk = 0)) (I : tf_Inv g W f 0 sk P) :
    ∃ c h r gt : Nat, tf_Yf g W c h r gt ∧ ∀ (post : Int32 → SX → Prop) (md s : Nat) (nn st sg : Int32) (fr : Int64) (ex : Int32), md ≤ 3 → s ≤ 1 →
      post (nI (128 * s + tf_code md s c h r)) (nI md, nn ||| nI (tf_bits md s c h r gt), st, sg, fr, ex) → wpX_round post (nI md, nn, st, sg, fr, ex) (nI s) (lN f) (tf_pw P) (nI sk) := by
  obtain ⟨k1, h, r, P1, a1, hh, hr, a4, a5, a6, a7, H1⟩ := tf_X17 hg 64 0 f 0 sk P (by decide) (by omega) (by omega) (by omega) (by decide) hsk (fun z => ⟨(hQ z).1, fun z2 => ⟨rfl, (hQ z).2 z2⟩⟩) I
  obtain ⟨k, P2, b1, b2, b3, b4, b5, H2⟩ := tf_X89 3 0 k1 P1 (by decide) a1 a4 a5 a6 a7
  obtain ⟨p, rfl⟩ : ∃ p, P2 = 16 + p := ⟨P2 - 16, by omega⟩
  have H : ∀ (post : Int32 → SX → Prop) (x1 m nn st sg : Int32) (fr : Int64) (ex : Int32), wX_round_125 post x1 (lN k) (nI p) (nI h) (nI r) m nn st sg fr ex → wpX_round post (m, nn, st, sg, fr, ex) x1 (lN f) (tf_pw P) (nI sk) := by
    intro post x1 m nn st sg fr ex K
    rw [← tf_pw_n p] at K
    exact ⟨_, H1 post x1 m nn st sg fr ex ⟨_, H2 post x1 m nn st sg fr ex K⟩⟩
  by_cases hp : p ≤ 13
  · refine ⟨8 * p + k, h, r, 0, tf_Yf_lo hg hh hr b1 hp (by omega) b5, fun post md s nn st sg fr ex hmd hs K => H post _ _ _ _ _ _ _ (tf_X125a hmd hs b1 hp (by omega) hh hr K)⟩
  · refine ⟨119, 1, 1, 1, tf_Yf_hi hg hr (by omega) (by omega) b5, fun post md s nn st sg fr ex hmd hs K => H post _ _ _ _ _ _ _ (tf_X125b hmd hs b1 (by omega) (by omega) (by omega) hh hr K)⟩
end
section
/-! the reference's rounding -/
theorem tf_Y99 {post : Int32 → SY → Prop} {s c : Nat} {m nn st : Int32} {a : Nat → Int32} (hs : s ≤ 1) (H : post (nI (128 * s + c)) (m, nn, st, a)) : wY_choose_99 post (nI s) (nI c) m nn st a := by
  rcases (show s = 0 ∨ s = 1 by omega) with rfl | rfl
  · rw [show 128 * 0 + c = c by omega] at H
    exact br_t rfl H
  · refine br_f tf_c10 ?_
    rw [← nI_add] at H
    exact H
theorem tf_Y77 {post : Int32 → SY → Prop} {s c gt : Nat} {m nn st : Int32} {a : Nat → Int32} (hs : s ≤ 1) (hc : c ≤ 120) (hg : gt ≤ 1) (H : post (nI (128 * s + c)) (m, if c = 120 ∨ gt = 1 then nn ||| 2 else nn, st, a)) : wY_choose_77 post (nI gt) (nI s) (nI c) m nn st a := by
  have e : nI c = 120 ↔ c = 120 := nI_eq (b := 120) (by omega) (by decide)
  by_cases h : c = 120
  · rw [if_pos (Or.inl h)] at H
    exact br_t (e.mpr h) (nm_e (tf_Y99 hs H))
  · rcases (show gt = 0 ∨ gt = 1 by omega) with rfl | rfl
    · rw [if_neg (by omega)] at H
      exact br_f (fun z => h (e.mp z)) (br_t rfl (tf_Y99 hs H))
    · rw [if_pos (Or.inr rfl)] at H
      exact br_f (fun z => h (e.mp z)) (br_f tf_c10 (nm_e (tf_Y99 hs H)))
theorem tf_Y54 {post : Int32 → SY → Prop} {s c gt : Nat} {m nn st : Int32} {a : Nat → Int32} (hs : s ≤ 1) (hc : c ≤ 120) (hg : gt ≤ 1) (H : post (nI (128 * s + c)) (m, nn ||| nI (if c = 120 ∨ gt = 1 then 3 else 1), st, a)) : wY_choose_54 post (nI 0) (nI gt) (nI s) (nI c) m nn st a := by
  refine br_t rfl (nm_e (tf_Y77 hs hc hg ?_))
  by_cases h : c = 120 ∨ gt = 1
  · rw [if_pos h] at H
    rw [if_pos h, tf_o3]
    exact H
  · rw [if_neg h] at H
    rw [if_neg h]
    exact H
theorem tf_Y54e {post : Int32 → SY → Prop} {s c : Nat} {m nn st : Int32} {a : Nat → Int32} (hs : s ≤ 1) (hc : c ≤ 119) (H : post (nI (128 * s + c)) (m, nn, st, a)) : wY_choose_54 post (nI 1) (nI 0) (nI s) (nI c) m nn st a := by
  have e : ¬ nI c = 120 := fun z => by
    have := (nI_eq (b := 120) (by omega) (by decide)).mp z
    omega
  refine br_f tf_c10 (br_f e (tf_Y77 hs (by omega) (by decide) ?_))
  rw [if_neg (by omega)]
  exact H
theorem tf_goesUp {post : Int32 → Prop} {md s : Nat} {nn st : Int32} {a : Nat → Int32} (hmd : md ≤ 3) (hs : s ≤ 1) (H : post (if (md = 2 ∧ s = 0) ∨ (md = 3 ∧ s = 1) then 1 else 0)) : wpY_goesUp post (nI md, nn, st, a) (nI s) := by
  simp only [wpY_goesUp, wY_goesUp_12, tf_i2 (show md < 2 ^ 31 by omega), tf_i3 (show md < 2 ^ 31 by omega), tf_i0 (show s < 2 ^ 31 by omega)]
  rcases (show md = 0 ∨ md = 1 ∨ md = 2 ∨ md = 3 by omega) with rfl | rfl | rfl | rfl <;>
  rcases (show s = 0 ∨ s = 1 by omega) with rfl | rfl <;>
  simpa using H
def tf_more (h r : Nat) : Int32 := if h = 0 then -1 else if r = 0 then 0 else 1
theorem tf_choose {post : Int32 → SY → Prop} {md s c h r gt : Nat} {nn st : Int32} {a : Nat → Int32} (hmd : md ≤ 3) (hs : s ≤ 1) (hc : c ≤ 119) (hh : h ≤ 1) (hr : r ≤ 1) (hgt : gt ≤ 1) (hz : h = 0 ∧ r = 0 → gt = 0)
    (H : post (nI (128 * s + tf_code md s c h r)) (nI md, nn ||| nI (tf_bits md s c h r gt), st, a)) :
    wpY_choose post (nI md, nn, st, a) (nI c) (tf_more h r) (nI (if h = 0 ∧ r = 0 then 1 else 0)) (nI gt) (nI s) := by
  have h36 : ∀ z0 : Nat, z0 ≤ 1 → (¬ (h = 0 ∧ r = 0) → (z0 = 1 ↔ ((md = 0 ∧ h = 1 ∧ (r = 1 ∨ c % 2 = 1)) ∨ ((h = 1 ∨ r = 1) ∧ ((md = 2 ∧ s = 0) ∨ (md = 3 ∧ s = 1)))))) →
      wY_choose_36 post (nI c) (nI (if h = 0 ∧ r = 0 then 1 else 0)) (nI gt) (nI s) (nI z0) (nI md) nn st a := by
    intro z0 hz0 hup
    unfold tf_bits at H
    by_cases ee : h = 0 ∧ r = 0
    · obtain rfl := hz ee
      obtain ⟨rfl, rfl⟩ := ee
      rw [if_pos ⟨rfl, rfl⟩, tf_o0] at H
      have hcode : tf_code md s c 0 0 = c := by
        unfold tf_code; rw [if_neg (by omega)]
      rw [hcode] at H
      have K : wY_choose_54 post (nI 1) (nI 0) (nI s) (nI c) (nI md) nn st a := tf_Y54e hs hc H
      rcases (show z0 = 0 ∨ z0 = 1 by omega) with rfl | rfl
      · exact br_t rfl K
      · exact br_f tf_c10 (br_f tf_c10 K)
    · rw [if_neg ee] at H
      rw [if_neg ee]
      have hu := hup ee
      rcases (show z0 = 0 ∨ z0 = 1 by omega) with rfl | rfl
      · have hcode : tf_code md s c h r = c := by
          unfold tf_code; rw [if_neg (by omega)]
        rw [hcode] at H
        exact br_t rfl (tf_Y54 hs (by omega) hgt H)
      · have hcode : tf_code md s c h r = c + 1 := by
          unfold tf_code; rw [if_pos (hu.mp rfl)]
        rw [hcode] at H
        refine br_f tf_c10 (br_t rfl ?_)
        rw [nI_1]
        exact tf_Y54 hs (by omega) hgt H
  by_cases hm : md = 0
  · subst hm
    refine br_t rfl ?_
    unfold tf_more
    have hpar : nI c - nI c / 2 * 2 = 1 ↔ c % 2 = 1 := by
      have e : nI c - nI c / 2 * 2 = nI (c % 2) := pk_rem (d := 2) (by omega) (by decide) (by decide)
      rw [e]; exact tf_i1 (by omega)
    rcases (show h = 0 ∨ h = 1 by omega) with rfl | rfl
    · rw [if_pos rfl]
      refine br_f (by decide) (br_f (by decide) (h36 0 (by decide) (fun _ => by omega)))
    · rw [if_neg (by decide)]
      rcases (show r = 0 ∨ r = 1 by omega) with rfl | rfl
      · rw [if_pos rfl]
        refine br_f (by decide) (br_t rfl ⟨by decide, ?_⟩)
        by_cases hp : c % 2 = 1
        · exact br_t (hpar.mpr hp) (h36 1 (by decide) (fun _ => by omega))
        · exact br_f (fun z => hp (hpar.mp z)) (h36 0 (by decide) (fun _ => by omega))
      · rw [if_neg (by decide)]
        exact br_t (by decide) (h36 1 (by decide) (fun _ => by omega))
  · refine br_f (fun z => hm ((tf_i0 (by omega)).mp z)) (tf_goesUp hmd hs ?_)
    by_cases hu : (md = 2 ∧ s = 0) ∨ (md = 3 ∧ s = 1)
    · rw [if_pos hu]
      exact h36 1 (by decide) (fun _ => by omega)
    · rw [if_neg hu]
      exact h36 0 (by decide) (fun _ => by omega)
theorem tf_sign {post : Int32 → Prop} {v : SY} {X Y : Nat} (hX : X < 2 ^ 62) (hY : Y < 2 ^ 62) (h1 : Y < X → post 1) (h0 : X = Y → post 0) (hm : X < Y → post (-1)) : wpY_sign post v (lN X - lN Y) := by
  have e : (lN X - lN Y).toInt = (X : Int) - Y := by
    rw [Int64.toInt_sub, pk_lT (by omega), pk_lT (by omega)]
    exact Int.bmod_eq_of_le (by omega) (by omega)
  have z : (0 : Int64).toInt = 0 := by decide
  obtain ⟨m, nn, st, a⟩ := v
  refine br_c (fun p => br_c (fun q => h0 ?_) (fun q => h1 ?_)) (fun p => hm ?_)
  · rw [Int64.le_iff_toInt_le, e, z] at p q; omega
  · rw [Int64.le_iff_toInt_le, e, z] at p q; omega
  · rw [Int64.le_iff_toInt_le, e, z] at p; omega
theorem tf_signM {post : Int32 → Prop} {v : SY} {X Y h r : Nat} (hX : X < 2 ^ 62) (hY : Y < 2 ^ 62) (hh : h ≤ 1) (hr : r ≤ 1) (h0 : h = 0 → X < Y) (h1 : h = 1 → r = 0 → Y = X) (h2 : h = 1 → r = 1 → Y < X)
    (H : post (tf_more h r)) : wpY_sign post v (lN X - lN Y) := by
  unfold tf_more at H
  refine tf_sign hX hY (fun z => ?_) (fun z => ?_) (fun z => ?_)
  · have a : ¬ h = 0 := fun q => by have := h0 q; omega
    have b : ¬ r = 0 := fun q => by have := h1 (by omega) q; omega
    rw [if_neg a, if_neg b] at H; exact H
  · have a : ¬ h = 0 := fun q => by have := h0 q; omega
    have b : r = 0 := by
      rcases (show r = 0 ∨ r = 1 by omega) with q | q
      · exact q
      · have := h2 (by omega) q; omega
    rw [if_neg a, if_pos b] at H; exact H
  · have a : h = 0 := by
      rcases (show h = 0 ∨ h = 1 by omega) with q | q
      · exact q
      · rcases (show r = 0 ∨ r = 1 by omega) with q' | q'
        · have := h1 q q'; omega
        · have := h2 q q'; omega
    rw [if_pos a] at H; exact H
/-- the table of the sizes -/
def tf_Tab (a : Nat → Int32) : Prop := ∀ c, c < 121 → a c = nI (tf_size c)
theorem tf_tb {a : Nat → Int32} (ha : tf_Tab a) {c : Nat} (hc : c < 121) : (a (nI c).toNatClampNeg) = nI (tf_size c) := by
  rw [nI_clamp (by omega), ha c hc]
theorem tf_sz31 {c : Nat} (hc : c < 121) : tf_size c < 2 ^ 31 := by
  have := tf_max hc; omega
theorem tf_tbl {a : Nat → Int32} (ha : tf_Tab a) {c : Nat} (hc : c < 121) : (a (nI c).toNatClampNeg).toInt64 = lN (tf_size c) := by
  rw [tf_tb ha hc, nI_l (tf_sz31 hc)]
theorem tf_mulB {z B : Nat} (hz : z ≤ 262144) (hB : B ≤ 1048576) : z * B ≤ 274877906944 := Nat.mul_le_mul hz hB
theorem tf_Y33 {post : Int32 → SY → Prop} {A B md s c h r gt : Nat} {nn st : Int32} {a : Nat → Int32} (ha : tf_Tab a) (hA : A < 2 ^ 40) (hB : B ≤ 1048576) (hmd : md ≤ 3) (hs : s ≤ 1) (hc : c ≤ 119) (hh : h ≤ 1) (hr : r ≤ 1) (hgt : gt ≤ 1) (hz : h = 0 ∧ r = 0 → gt = 0)
    (e1 : h = 0 ∧ r = 0 → tf_size c * B = A) (e2 : ¬ (h = 0 ∧ r = 0) → tf_size c * B < A)
    (m0 : h = 0 → 2 * A < (tf_size c + tf_size (c + 1)) * B) (m1 : h = 1 → r = 0 → (tf_size c + tf_size (c + 1)) * B = 2 * A) (m2 : h = 1 → r = 1 → (tf_size c + tf_size (c + 1)) * B < 2 * A)
    (g0 : gt = 0 → A < 131072 * B) (g1 : gt = 1 → 131072 * B ≤ A)
    (H : post (nI (128 * s + tf_code md s c h r)) (nI md, nn ||| nI (tf_bits md s c h r gt), st, a)) : wY_round_33 post (lN A) (lN B) (nI s) (nI c) (nI md) nn st a := by
  have t0 := tf_max (c := c) (by omega)
  have t1 := tf_max (c := c + 1) (by omega)
  have b1 := tf_mulB (z := tf_size c) (by omega) hB
  have b2 := tf_mulB (z := tf_size c + tf_size (c + 1)) (by omega) hB
  have b3 := tf_mulB (z := 131072) (by omega) hB
  have E1 : (2 * lN A) - (((a (nI c).toNatClampNeg + a (nI c + 1).toNatClampNeg).toInt64) * lN B) = lN (2 * A) - lN ((tf_size c + tf_size (c + 1)) * B) := by
    rw [nI_1, tf_tb ha (by omega), tf_tb ha (by omega), nI_add, nI_l (by omega), lN_mul, show (2 : Int64) = lN 2 from rfl, lN_mul]
  have E2 : (a (nI c).toNatClampNeg).toInt64 * lN B = lN (tf_size c * B) := by
    rw [tf_tbl ha (by omega), lN_mul]
  have E3 : (a 120).toInt64 * lN B = lN (131072 * B) := by
    rw [ha 120 (by decide), tf_120, nI_l (by decide), lN_mul]
  have i1 : vp_in (nI c) 121 := vp_in_nI (by omega) (by decide)
  have i2 : vp_in (nI c + 1) 121 := by rw [nI_1]; exact vp_in_nI (by omega) (by decide)
  refine ⟨i1, i2, ?_⟩
  rw [E1]
  refine tf_signM (by omega) (by omega) hh hr m0 m1 m2 ⟨i1, ?_⟩
  rw [E2]
  have K : wY_round_85 post (lN A) (lN B) (nI s) (nI c) (tf_more h r) (nI (if h = 0 ∧ r = 0 then 1 else 0)) (nI md) nn st a := by
    unfold wY_round_85
    rw [E3]
    have C := tf_choose (post := post) hmd hs hc hh hr hgt hz H
    rcases (show gt = 0 ∨ gt = 1 by omega) with rfl | rfl
    · exact br_t ((pk_lLT (by omega) (by omega)).mpr (g0 rfl)) C
    · exact br_f (fun z => by have := (pk_lLT (by omega) (by omega)).mp z; have := g1 rfl; omega) C
  by_cases ee : h = 0 ∧ r = 0
  · rw [if_pos ee] at K
    exact br_t ((pk_lEQ (by omega) (by omega)).mpr (e1 ee)) K
  · rw [if_neg ee] at K
    exact br_f (fun z => by have := (pk_lEQ (by omega) (by omega)).mp z; have := e2 ee; omega) K
theorem tf_Y3 {post : Int32 → SY → Prop} {A B c : Nat} {s m nn st : Int32} {a : Nat → Int32} (ha : tf_Tab a) (hA : A < 2 ^ 40) (hB : B ≤ 1048576) (hc : c ≤ 119)
    (h1 : ∀ i, i ≤ c → tf_size i * B ≤ A) (h2 : c = 119 ∨ A < tf_size (c + 1) * B) (H : wY_round_33 post (lN A) (lN B) s (nI c) m nn st a) :
    ∀ d i, i + d = c → wY_round_3 post (lN A) (lN B) s m nn st a (d + 1) (nI i) := by
  intro d
  induction d with
  | zero =>
    intro i hi
    obtain rfl : i = c := by omega
    by_cases h : i = 119
    · subst h
      exact br_t (by decide) H
    · have E : (a (nI i + 1).toNatClampNeg).toInt64 * lN B = lN (tf_size (i + 1) * B) := by
        rw [nI_1, tf_tbl ha (by omega), lN_mul]
      have b1 := tf_mulB (z := tf_size (i + 1)) (by have := tf_max (c := i + 1) (by omega); omega) hB
      refine br_f (nI_ge (b := 119) (by omega) (by decide)) ⟨by rw [nI_1]; exact vp_in_nI (by omega) (by decide), br_t ?_ H⟩
      rw [E]
      exact (pk_lLT (by omega) (by omega)).mpr (by omega)
  | succ d ih =>
    intro i hi
    have E : (a (nI i + 1).toNatClampNeg).toInt64 * lN B = lN (tf_size (i + 1) * B) := by
      rw [nI_1, tf_tbl ha (by omega), lN_mul]
    have b1 := tf_mulB (z := tf_size (i + 1)) (by have := tf_max (c := i + 1) (by omega); omega) hB
    refine br_f (nI_ge (b := 119) (by omega) (by decide)) ⟨by rw [nI_1]; exact vp_in_nI (by omega) (by decide), br_f ?_ (nm_r (nI_1 i) (ih (i + 1) (by omega)))⟩
    rw [E, pk_lLT (by omega) (by omega)]
    have := h1 (i + 1) (by omega)
    omega
theorem tf_Yround {post : Int32 → SY → Prop} {A B md s c h r gt : Nat} {nn st : Int32} {a : Nat → Int32} (ha : tf_Tab a) (hA : A < 2 ^ 40) (hB : B ≤ 1048576) (hmd : md ≤ 3) (hs : s ≤ 1) (Y : tf_Yf (fun m => m * B) (131072 * A) c h r gt)
    (H : post (nI (128 * s + tf_code md s c h r)) (nI md, nn ||| nI (tf_bits md s c h r gt), st, a)) : wpY_round post (nI md, nn, st, a) (lN A) (lN B) (nI s) := by
  have q1 : ∀ z, 2 * z * 65536 * B = 131072 * (z * B) := fun z => by rw [show 2 * z * 65536 = 131072 * z by omega, Nat.mul_assoc]
  have q2 : ∀ z, z * 65536 * B = 65536 * (z * B) := fun z => by rw [Nat.mul_comm z, Nat.mul_assoc]
  unfold tf_Yf at Y
  simp only [q1] at Y
  simp only [q2] at Y
  obtain ⟨hc, hh, hr, hz, hgt, a1, a2, e1, e2, m0, m1, m2, g0, g1⟩ := Y
  refine ⟨_, tf_Y3 ha hA hB hc (fun i hi => by have := a1 i hi; omega) (by omega) (tf_Y33 ha hA hB hmd hs hc hh hr hgt hz (fun z => by have := e1 z; omega) (fun z => by have := e2 z; omega) (fun z => by have := m0 z; omega) (fun z z' => by have := m1 z z'; omega) (fun z z' => by have := m2 z z'; omega) (fun z => by have := g0 z; omega) (fun z => by have := g1 z; omega) H) c 0 (by omega)⟩
end
section
/-! roots -/
theorem tf_Mul {B : Nat} (hB : 0 < B) : tf_Mono (fun m => m * B) := fun _ _ h => Nat.mul_lt_mul_of_pos_right h hB
theorem tf_Sq : tf_Mono (fun m => m * m) := fun _ _ h => Nat.mul_self_lt_mul_self h
theorem tf_Y104 {post : Int32 → SY → Prop} {S md c h r : Nat} {nn st : Int32} {a : Nat → Int32} (ha : tf_Tab a) (hS : S < 2 ^ 40) (hmd : md ≤ 3) (hc : c ≤ 119) (hh : h ≤ 1) (hr : r ≤ 1)
    (e1 : h = 0 ∧ r = 0 → tf_size c * tf_size c = S) (e2 : ¬ (h = 0 ∧ r = 0) → tf_size c * tf_size c < S)
    (m0 : h = 0 → 4 * S < (tf_size c + tf_size (c + 1)) * (tf_size c + tf_size (c + 1))) (m1 : h = 1 → r = 0 → (tf_size c + tf_size (c + 1)) * (tf_size c + tf_size (c + 1)) = 4 * S) (m2 : h = 1 → r = 1 → (tf_size c + tf_size (c + 1)) * (tf_size c + tf_size (c + 1)) < 4 * S)
    (H : post (nI (128 * 0 + tf_code md 0 c h r)) (nI md, nn ||| nI (tf_bits md 0 c h r 0), st, a)) : wY_root_104 post (lN S) (nI c) (nI md) nn st a := by
  have t0 := tf_max (c := c) (by omega)
  have t1 := tf_max (c := c + 1) (by omega)
  have b1 := tf_mulB (z := tf_size c) (B := tf_size c) (by omega) (by omega)
  have b2 := tf_mulB (z := tf_size c + tf_size (c + 1)) (B := tf_size c + tf_size (c + 1)) (by omega) (by omega)
  have E0 : (a (nI c).toNatClampNeg + a (nI c + 1).toNatClampNeg).toInt64 = lN (tf_size c + tf_size (c + 1)) := by
    rw [nI_1, tf_tb ha (by omega), tf_tb ha (by omega), nI_add, nI_l (by omega)]
  have E1 : (4 * lN S) - (lN (tf_size c + tf_size (c + 1)) * lN (tf_size c + tf_size (c + 1))) = lN (4 * S) - lN ((tf_size c + tf_size (c + 1)) * (tf_size c + tf_size (c + 1))) := by
    rw [lN_mul, show (4 : Int64) = lN 4 from rfl, lN_mul]
  have E2 : (a (nI c).toNatClampNeg).toInt64 * (a (nI c).toNatClampNeg).toInt64 = lN (tf_size c * tf_size c) := by
    rw [tf_tbl ha (by omega), lN_mul]
  have i1 : vp_in (nI c) 121 := vp_in_nI (by omega) (by decide)
  have i2 : vp_in (nI c + 1) 121 := by rw [nI_1]; exact vp_in_nI (by omega) (by decide)
  refine ⟨i1, i2, nm_r E0 ?_⟩
  rw [E1]
  refine tf_signM (by omega) (by omega) hh hr m0 m1 m2 ⟨i1, i1, ?_⟩
  rw [E2]
  have C := tf_choose (post := post) hmd (s := 0) (by decide) hc hh hr (gt := 0) (by decide) (fun _ => rfl) H
  by_cases ee : h = 0 ∧ r = 0
  · rw [if_pos ee] at C
    exact br_t ((pk_lEQ (by omega) (by omega)).mpr (e1 ee)) C
  · rw [if_neg ee] at C
    exact br_f (fun z => by have := (pk_lEQ (by omega) (by omega)).mp z; have := e2 ee; omega) C
theorem tf_Y65 {post : Int32 → SY → Prop} {S c : Nat} {m nn st : Int32} {a : Nat → Int32} (ha : tf_Tab a) (hS : S < 2 ^ 40) (hc : c ≤ 119)
    (h1 : ∀ i, i ≤ c → tf_size i * tf_size i ≤ S) (h2 : c = 119 ∨ S < tf_size (c + 1) * tf_size (c + 1)) (H : wY_root_104 post (lN S) (nI c) m nn st a) :
    ∀ d i, i + d = c → wY_root_65 post (lN S) m nn st a (d + 1) (nI i) := by
  intro d
  induction d with
  | zero =>
    intro i hi
    obtain rfl : i = c := by omega
    by_cases h : i = 119
    · subst h
      exact br_t (by decide) H
    · have E : (a (nI i + 1).toNatClampNeg).toInt64 * (a (nI i + 1).toNatClampNeg).toInt64 = lN (tf_size (i + 1) * tf_size (i + 1)) := by
        rw [nI_1, tf_tbl ha (by omega), lN_mul]
      have b0 := tf_max (c := i + 1) (by omega)
      have b1 := tf_mulB (z := tf_size (i + 1)) (B := tf_size (i + 1)) (by omega) (by omega)
      have i2 : vp_in (nI i + 1) 121 := by rw [nI_1]; exact vp_in_nI (by omega) (by decide)
      refine br_f (nI_ge (b := 119) (by omega) (by decide)) ⟨i2, i2, br_t ?_ H⟩
      rw [E]
      exact (pk_lLT (by omega) (by omega)).mpr (by omega)
  | succ d ih =>
    intro i hi
    have E : (a (nI i + 1).toNatClampNeg).toInt64 * (a (nI i + 1).toNatClampNeg).toInt64 = lN (tf_size (i + 1) * tf_size (i + 1)) := by
      rw [nI_1, tf_tbl ha (by omega), lN_mul]
    have b0 := tf_max (c := i + 1) (by omega)
    have b1 := tf_mulB (z := tf_size (i + 1)) (B := tf_size (i + 1)) (by omega) (by omega)
    have i2 : vp_in (nI i + 1) 121 := by rw [nI_1]; exact vp_in_nI (by omega) (by decide)
    refine br_f (nI_ge (b := 119) (by omega) (by decide)) ⟨i2, i2, br_f ?_ (nm_r (nI_1 i) (ih (i + 1) (by omega)))⟩
    rw [E, pk_lLT (by omega) (by omega)]
    have := h1 (i + 1) (by omega)
    omega
theorem tf_sq1 (z : Nat) : 2 * z * 65536 * (2 * z * 65536) = 17179869184 * (z * z) := by grind
theorem tf_sq2 (z : Nat) : z * 65536 * (z * 65536) = 4294967296 * (z * z) := by grind
theorem tf_Yroot {post : Int32 → SY → Prop} {S md c h r gt : Nat} {nn st : Int32} {a : Nat → Int32} (ha : tf_Tab a) (hS : S < 2 ^ 28) (hmd : md ≤ 3) (Y : tf_Yf (fun m => m * m) (17179869184 * S) c h r gt)
    (H : post (nI (128 * 0 + tf_code md 0 c h r)) (nI md, nn ||| nI (tf_bits md 0 c h r gt), st, a)) : ∃ n, wY_root_65 post (lN S) (nI md) nn st a n 0 := by
  unfold tf_Yf at Y
  simp only [tf_sq1] at Y
  simp only [tf_sq2] at Y
  obtain ⟨hc, hh, hr, hz, hgt, a1, a2, e1, e2, m0, m1, m2, g0, g1⟩ := Y
  obtain rfl : gt = 0 := by
    rcases (show gt = 0 ∨ gt = 1 by omega) with q | q
    · exact q
    · have := g1 q; omega
  exact ⟨_, tf_Y65 ha (by omega) hc (fun i hi => by have := a1 i hi; omega) (by omega) (tf_Y104 ha (by omega) hmd hc hh hr (fun z => by have := e1 z; omega) (fun z => by have := e2 z; omega) (fun z => by have := m0 z; omega) (fun z z' => by have := m1 z z'; omega) (fun z z' => by have := m2 z z'; omega) H) c 0 (by omega)⟩
theorem tf_sqlt {a b : Nat} (h : a * a < b * b) : a < b := by
  apply Nat.lt_of_not_le
  intro z
  have := Nat.mul_le_mul z z
  omega
theorem tf_X100 {F : Nat} (hF : F < 2 ^ 22) : ∀ j b : Nat, j ≤ 13 → (b * 2 ^ j) * (b * 2 ^ j) ≤ F → F < (b * 2 ^ j + 2 ^ j) * (b * 2 ^ j + 2 ^ j) →
    ∃ R : Nat, R * R ≤ F ∧ F < (R + 1) * (R + 1) ∧ ∀ (post : Int32 → SX → Prop) (x2 m nn st sg : Int32) (fr : Int64) (ex : Int32), wX_root_156 post (nI (if R * R = F then 0 else 1)) (x2 / 2) (lN R) 0 m nn st sg fr ex →
      wX_root_100 post x2 (lN F) m nn st sg fr ex (j + 1) (lN (b * 2 ^ j)) (nI j + (-1)) := by
  intro j
  induction j with
  | zero =>
    intro b _ h1 h2
    rw [Nat.pow_zero, Nat.mul_one] at h1 h2
    refine ⟨b, h1, h2, fun post x2 m nn st sg fr ex K => ?_⟩
    rw [Nat.pow_zero, Nat.mul_one]
    refine br_t (by decide) ⟨by decide, ?_⟩
    rw [lN_mul]
    by_cases e : b * b = F
    · rw [if_pos e] at K
      exact br_t (by rw [e]) K
    · rw [if_neg e] at K
      exact br_f (fun z => e ((pk_lEQ (by omega) (by omega)).mp z)) K
  | succ j ih =>
    intro b hj h1 h2
    have hp : 2 ^ (j + 1) = 2 * 2 ^ j := by rw [Nat.pow_succ, Nat.mul_comm]
    have hq : 2 ^ j ≤ 2 ^ 12 := Nat.pow_le_pow_right (by decide) (by omega)
    have hq0 : 0 < 2 ^ j := Nat.two_pow_pos j
    have hr : b * 2 ^ (j + 1) < 2048 := tf_sqlt (by omega)
    have eb : b * 2 ^ (j + 1) = b * 2 * 2 ^ j := by rw [hp, Nat.mul_assoc]
    have et : b * 2 ^ (j + 1) + 2 ^ j = (b * 2 + 1) * 2 ^ j := by rw [eb, Nat.add_mul, Nat.one_mul]
    have eor : lN (b * 2 ^ (j + 1)) ||| ((1 : Int64) <<< ((nI j).toInt64 &&& 63)) = lN ((b * 2 + 1) * 2 ^ j) := by
      have s1 : (1 : Int64) <<< ((nI j).toInt64 &&& 63) = lN (1 * 2 ^ j) := wb_shl 1 (by omega)
      rw [s1, Nat.one_mul, ← et]
      exact g_or (k := j + 1) rfl (by omega) (by omega)
    have hnn : ¬ nI j < 0 := nI_pos (by omega)
    by_cases ht : F < (b * 2 + 1) * 2 ^ j * ((b * 2 + 1) * 2 ^ j)
    · rw [eb] at h1
      obtain ⟨R, c1, c2, K⟩ := ih (b * 2) (by omega) h1 (by rw [← eb, et]; exact ht)
      refine ⟨R, c1, c2, fun post x2 m nn st sg fr ex L => ?_⟩
      rw [pk_m1]
      refine br_f hnn (nm_r eor (br_t ?_ (nm_e ?_)))
      · rw [lN_mul]
        refine (pk_lLT (by omega) ?_).mpr ht
        rw [← et]
        have := Nat.mul_le_mul (show b * 2 ^ (j + 1) + 2 ^ j ≤ 10000 by omega) (show b * 2 ^ (j + 1) + 2 ^ j ≤ 10000 by omega)
        omega
      · rw [eb]
        exact K post x2 m nn st sg fr ex L
    · obtain ⟨R, c1, c2, K⟩ := ih (b * 2 + 1) (by omega) (by omega) (by
        rw [← et, Nat.add_assoc, show 2 ^ j + 2 ^ j = 2 ^ (j + 1) by omega]
        exact h2)
      refine ⟨R, c1, c2, fun post x2 m nn st sg fr ex L => ?_⟩
      rw [pk_m1]
      refine br_f hnn (nm_r eor (br_f ?_ (nm_e ?_)))
      · rw [lN_mul, pk_lLT (by omega) ?_]
        · exact ht
        · rw [← et]
          have := Nat.mul_le_mul (show b * 2 ^ (j + 1) + 2 ^ j ≤ 10000 by omega) (show b * 2 ^ (j + 1) + 2 ^ j ≤ 10000 by omega)
          omega
      · exact K post x2 m nn st sg fr ex L
theorem tf_InvR {R F P W : Nat} (h1 : R * R ≤ F) (h2 : F < (R + 1) * (R + 1)) (h15 : 15 < R) (hW : W = F * (4 * (2 ^ P * 2 ^ P))) : tf_Inv (fun m => m * m) W R 0 (if R * R = F then 0 else 1) P := by
  have M0 : 0 < 4 * (2 ^ P * 2 ^ P) := Nat.mul_pos (by decide) (Nat.mul_pos (Nat.two_pow_pos P) (Nat.two_pow_pos P))
  have e1 : (2 * R + 0) * 2 ^ P * ((2 * R + 0) * 2 ^ P) = R * R * (4 * (2 ^ P * 2 ^ P)) := by grind
  have e2 : (2 * R + 2) * 2 ^ P * ((2 * R + 2) * 2 ^ P) = (R + 1) * (R + 1) * (4 * (2 ^ P * 2 ^ P)) := by grind
  unfold tf_Inv
  dsimp only
  rw [e1, e2, hW]
  by_cases e : R * R = F
  · rw [if_pos e]
    exact ⟨fun _ => by rw [e], fun z => absurd z (by decide)⟩
  · rw [if_neg e]
    exact ⟨fun z => absurd z (by decide), fun _ => ⟨Nat.mul_lt_mul_of_pos_right (by omega) M0, Nat.mul_lt_mul_of_pos_right h2 M0, fun z => by omega⟩⟩
end
section
/-! codes and their classes; the operand taken apart -/
theorem tf_brt {c A B : Prop} (h : c) : ((c → A) ∧ (¬ c → B)) ↔ A := ⟨fun z => z.1 h, fun a => br_t h a⟩
theorem tf_brf {c A B : Prop} (h : ¬ c) : ((c → A) ∧ (¬ c → B)) ↔ B := ⟨fun z => z.2 h, fun a => br_f h a⟩
/-- an int that is a code -/
def tf_cd (p : Int32) : Prop := ¬ p < 0 ∧ p ≤ 255
theorem tf_cd_ex {p : Int32} (h : tf_cd p) : ∃ j : Nat, j ≤ 255 ∧ p = nI j := nI_of2 (M := 255) (n := 255) (by decide) h.1 h.2
theorem tf_cd_nI {j : Nat} (h : j ≤ 255) : tf_cd (nI j) := ⟨nI_pos (by omega), nI_le (b := 255) h (by decide)⟩
theorem tf_Xbad_f {post : Int32 → Prop} {u : SX} {p : Int32} (h : tf_cd p) : wpX_bad post u p ↔ post 0 := by
  obtain ⟨m, nn, st, sg, fr, ex⟩ := u
  exact (tf_brf h.1).trans (tf_brt h.2)
theorem tf_Xbad_t {post : Int32 → Prop} {u : SX} {p : Int32} (h : ¬ tf_cd p) : wpX_bad post u p ↔ post 1 := by
  obtain ⟨m, nn, st, sg, fr, ex⟩ := u
  by_cases h0 : p < 0
  · exact tf_brt h0
  · exact (tf_brf h0).trans (tf_brf (fun z => h ⟨h0, z⟩))
theorem tf_Ycode_t {post : Int32 → Prop} {v : SY} {p : Int32} (h : tf_cd p) : wpY_isCode post v p ↔ post 1 := by
  obtain ⟨m, nn, st, a⟩ := v
  exact (tf_brf h.1).trans (tf_brf (Int32.not_lt.mpr h.2))
theorem tf_Ycode_f {post : Int32 → Prop} {v : SY} {p : Int32} (h : ¬ tf_cd p) : wpY_isCode post v p ↔ post 0 := by
  obtain ⟨m, nn, st, a⟩ := v
  by_cases h0 : p < 0
  · exact tf_brt h0
  · exact (tf_brf h0).trans (tf_brt (Int32.not_le.mp (fun z => h ⟨h0, z⟩)))
theorem tf_m127 {j : Nat} (hj : j ≤ 255) : nI j &&& 127 = nI (j % 128) := pk_andN (m := 127) (by omega) 7 (by decide)
theorem tf_r128 {j : Nat} (hj : j ≤ 255) : nI j - nI j / 128 * 128 = nI (j % 128) := pk_rem (d := 128) (by omega) (by decide) (by decide)
theorem tf_le120 (j : Nat) : nI (j % 128) ≤ 120 ↔ j % 128 ≤ 120 := nI_leI (b := 120) (by omega) (by decide)
theorem tf_eq120 (j : Nat) : nI (j % 128) = 120 ↔ j % 128 = 120 := nI_eq (b := 120) (by omega) (by decide)
theorem tf_eq0 (j : Nat) : nI (j % 128) = 0 ↔ j % 128 = 0 := nI_eq (b := 0) (by omega) (by decide)
theorem tf_Xnone {post : Int32 → Prop} {u : SX} {j : Nat} (hj : j ≤ 255) : wpX_isNone post u (nI j) ↔ post (if 120 < j % 128 then 1 else 0) := by
  obtain ⟨m, nn, st, sg, fr, ex⟩ := u
  unfold wpX_isNone
  rw [tf_m127 hj, tf_le120]
  by_cases h : 120 < j % 128
  · rw [if_pos h]; exact tf_brf (by omega)
  · rw [if_neg h]; exact tf_brt (by omega)
theorem tf_Xinf {post : Int32 → Prop} {u : SX} {j : Nat} (hj : j ≤ 255) : wpX_isInfinite post u (nI j) ↔ post (if j % 128 = 120 then 1 else 0) := by
  obtain ⟨m, nn, st, sg, fr, ex⟩ := u
  unfold wpX_isInfinite
  rw [tf_m127 hj, tf_eq120]
  by_cases h : j % 128 = 120
  · rw [if_pos h]; exact tf_brt h
  · rw [if_neg h]; exact tf_brf h
theorem tf_Xzero {post : Int32 → Prop} {u : SX} {j : Nat} (hj : j ≤ 255) : wpX_isZero post u (nI j) ↔ post (if j % 128 = 0 then 1 else 0) := by
  obtain ⟨m, nn, st, sg, fr, ex⟩ := u
  unfold wpX_isZero
  rw [tf_m127 hj, tf_eq0]
  by_cases h : j % 128 = 0
  · rw [if_pos h]; exact tf_brt h
  · rw [if_neg h]; exact tf_brf h
theorem tf_c128 : ¬ (128 : Int32) = 0 := by decide
theorem tf_and128 {A : Prop} : (¬ (128 : Int32) = 0 ∧ A) ↔ A := ⟨fun z => z.2, fun z => ⟨tf_c128, z⟩⟩
theorem tf_Ynone {post : Int32 → Prop} {v : SY} {j : Nat} (hj : j ≤ 255) : wpY_isNone post v (nI j) ↔ post (if 120 < j % 128 then 1 else 0) := by
  obtain ⟨m, nn, st, a⟩ := v
  unfold wpY_isNone
  dsimp only
  rw [tf_and128, tf_r128 hj, tf_le120]
  by_cases h : 120 < j % 128
  · rw [if_pos h]; exact tf_brf (by omega)
  · rw [if_neg h]; exact tf_brt (by omega)
theorem tf_Yinf {post : Int32 → Prop} {v : SY} {j : Nat} (hj : j ≤ 255) : wpY_isInfinite post v (nI j) ↔ post (if j % 128 = 120 then 1 else 0) := by
  obtain ⟨m, nn, st, a⟩ := v
  unfold wpY_isInfinite
  dsimp only
  rw [tf_and128, tf_r128 hj, tf_eq120]
  by_cases h : j % 128 = 120
  · rw [if_pos h]; exact tf_brt h
  · rw [if_neg h]; exact tf_brf h
theorem tf_Yzero {post : Int32 → Prop} {v : SY} {j : Nat} (hj : j ≤ 255) : wpY_isZero post v (nI j) ↔ post (if j % 128 = 0 then 1 else 0) := by
  obtain ⟨m, nn, st, a⟩ := v
  unfold wpY_isZero
  dsimp only
  rw [tf_and128, tf_r128 hj, tf_eq0]
  by_cases h : j % 128 = 0
  · rw [if_pos h]; exact tf_brt h
  · rw [if_neg h]; exact tf_brf h
theorem tf_Yneg {post : Int32 → Prop} {v : SY} {j : Nat} (hj : j ≤ 255) : wpY_isNegative post v (nI j) ↔ post (nI (j / 128)) := by
  obtain ⟨m, nn, st, a⟩ := v
  have e : nI j ≤ 127 ↔ j ≤ 127 := nI_leI (b := 127) (by omega) (by decide)
  unfold wpY_isNegative
  rw [e]
  by_cases h : j ≤ 127
  · rw [show j / 128 = 0 by omega]; exact tf_brt h
  · rw [show j / 128 = 1 by omega]; exact tf_brf h
theorem tf_Ysigned {post : Int32 → Prop} {v : SY} {s : Nat} (hs : s ≤ 1) : wpY_signed post v 120 (nI s) ↔ post (nI (128 * s + 120)) := by
  obtain ⟨m, nn, st, a⟩ := v
  rcases (show s = 0 ∨ s = 1 by omega) with rfl | rfl
  · exact tf_brt rfl
  · exact tf_brf tf_c10
theorem tf_Yzer {post : Int32 → Prop} {v : SY} {s : Nat} (hs : s ≤ 1) : wpY_zero post v (nI s) ↔ post (nI (128 * s)) := by
  obtain ⟨m, nn, st, a⟩ := v
  rcases (show s = 0 ∨ s = 1 by omega) with rfl | rfl
  · exact tf_brt rfl
  · exact tf_brf tf_c10
def tf_sI (s x : Nat) : Int32 := if s = 0 then nI x else -nI x
def tf_sL (s x : Nat) : Int64 := if s = 0 then lN x else -lN x
theorem tf_Yval {post : Int32 → Prop} {m nn st : Int32} {a : Nat → Int32} (ha : tf_Tab a) {j : Nat} (hj : j ≤ 255) (hf : j % 128 ≤ 120) : wpY_valueOf post (m, nn, st, a) (nI j) ↔ post (tf_sI (j / 128) (tf_size (j % 128))) := by
  have hi : vp_in (nI (j % 128)) 121 := vp_in_nI (by omega) (by decide)
  have e := tf_tb ha (c := j % 128) (by omega)
  unfold wpY_valueOf
  dsimp only
  rw [tf_Yneg hj, tf_r128 hj, tf_and128, tf_and128, e]
  unfold tf_sI
  rcases (show j / 128 = 0 ∨ j / 128 = 1 by omega) with h | h
  · rw [h, if_pos rfl]
    exact (tf_brt rfl).trans ⟨fun z => z.2, fun z => ⟨hi, z⟩⟩
  · rw [h, if_neg (by decide)]
    exact (tf_brf tf_c10).trans ⟨fun z => z.2, fun z => ⟨hi, z⟩⟩
theorem tf_u1 : ∀ j, j < 256 → (nI j >>> ((3 : Int32) &&& 31)) &&& 15 = nI (j / 8 % 16) ∧ nI j &&& 7 = nI (j % 8) ∧ nI j >>> ((7 : Int32) &&& 31) = nI (j / 128) := by decide +kernel
theorem tf_Xunp {post : SX → Prop} {m nn st sg : Int32} {fr : Int64} {ex : Int32} {j : Nat} (hj : j ≤ 255) : wpX_unpack post (m, nn, st, sg, fr, ex) (nI j) ↔ post (m, nn, st, nI (j / 128), lN (tf_fr j), nI (tf_ex j)) := by
  obtain ⟨e1, e2, e3⟩ := tf_u1 j (by omega)
  have e4 : (nI (j % 8)).toInt64 = lN (j % 8) := nI_l (by omega)
  have e5 : (8 + nI (j % 8)).toInt64 = lN (8 + j % 8) := by
    rw [show (8 : Int32) = nI 8 from rfl, nI_add]; exact nI_l (by omega)
  unfold wpX_unpack
  dsimp only
  rw [e1, e2, e3]
  simp only [forall_eq, wX_unpack_35]
  rw [e4, e5]
  unfold tf_fr tf_ex
  by_cases h : j / 8 % 16 = 0
  · rw [if_pos h, h]
    exact (tf_brt rfl).trans (tf_brt rfl)
  · have h2 : ¬ nI (j / 8 % 16) = 0 := fun z => h ((tf_i0 (by omega)).mp z)
    have e6 : nI (j / 8 % 16) - 1 = nI (j / 8 % 16 - 1) := pk_sub (b := 1) (by omega)
    rw [if_neg h, e6]
    exact (tf_brf h2).trans (tf_brf h2)
/-- the sign of a product -/
def tf_sx (i j : Nat) : Nat := if i / 128 = j / 128 then 0 else 1
theorem tf_sx_le (i j : Nat) : tf_sx i j ≤ 1 := by unfold tf_sx; split <;> omega
theorem tf_xor7 {i j : Nat} (hi : i ≤ 255) (hj : j ≤ 255) : (nI i ^^^ nI j) >>> ((7 : Int32) &&& 31) = nI (tf_sx i j) := by
  have hlt : i ^^^ j < 2 ^ 8 := Nat.xor_lt_two_pow (by omega) (by omega)
  rw [nx_xor, (tf_u1 (i ^^^ j) (by omega)).2.2]
  have e : (i ^^^ j) / 128 = (i / 128) ^^^ (j / 128) := by
    have := Nat.shiftRight_xor_distrib (a := i) (b := j) (i := 7)
    rw [Nat.shiftRight_eq_div_pow, Nat.shiftRight_eq_div_pow, Nat.shiftRight_eq_div_pow] at this
    exact this
  rw [e]
  unfold tf_sx
  rcases (show i / 128 = 0 ∨ i / 128 = 1 by omega) with h | h <;> rcases (show j / 128 = 0 ∨ j / 128 = 1 by omega) with h' | h' <;> rw [h, h'] <;> rfl
end
section
/-! the joint outcome of a call on both sides; sums -/
def tf_J (md : Nat) (st : Int32) (a : Nat → Int32) (WX : (Int32 → SX → Prop) → Prop) (WY : (Int32 → SY → Prop) → Prop) : Prop :=
  ∃ (c : Nat) (nn sg : Int32) (fr : Int64) (ex : Int32), c ≤ 255 ∧ (∀ post : Int32 → SX → Prop, post (nI c) (nI md, nn, st, sg, fr, ex) → WX post) ∧ (∀ post : Int32 → SY → Prop, post (nI c) (nI md, nn, st, a) → WY post)
theorem tf_Jm {md : Nat} {st : Int32} {a : Nat → Int32} {WX WX' : (Int32 → SX → Prop) → Prop} {WY WY' : (Int32 → SY → Prop) → Prop} (h : tf_J md st a WX WY) (hX : ∀ post, WX post → WX' post) (hY : ∀ post, WY post → WY' post) : tf_J md st a WX' WY' := by
  obtain ⟨c, nn, sg, fr, ex, hc, x, y⟩ := h
  exact ⟨c, nn, sg, fr, ex, hc, fun post K => hX post (x post K), fun post K => hY post (y post K)⟩
theorem tf_Jround {A B f sk P md s : Nat} {nn st sg : Int32} {fr : Int64} {ex : Int32} {a : Nat → Int32} (ha : tf_Tab a) (hA : A < 2 ^ 40) (hB0 : 0 < B) (hB : B ≤ 1048576) (hmd : md ≤ 3) (hs : s ≤ 1)
    (hf : f < 2 ^ 40) (hP : P ≤ 40) (hsk : sk ≤ 1) (hQ : 16 < P → 1 ≤ f ∧ (f < 8 → sk = 0)) (I : tf_Inv (fun m => m * B) (131072 * A) f 0 sk P) :
    tf_J md st a (fun post => wpX_round post (nI md, nn, st, sg, fr, ex) (nI s) (lN f) (tf_pw P) (nI sk)) (fun post => wpY_round post (nI md, nn, st, a) (lN A) (lN B) (nI s)) := by
  obtain ⟨c, h, r, gt, Y, H⟩ := tf_Xround (tf_Mul hB0) hf hP hsk hQ I
  have hc := tf_code_le (md := md) (s := s) (h := h) (r := r) Y.1
  exact ⟨128 * s + tf_code md s c h r, _, sg, fr, ex, by omega, fun post K => H post md s nn st sg fr ex hmd hs K, fun post K => tf_Yround ha hA hB hmd hs Y K⟩
theorem tf_Inv0 {F L B A : Nat} (h : F * 2 ^ L * B = 65536 * A) : tf_Inv (fun m => m * B) (131072 * A) F 0 0 L := by
  refine ⟨fun _ => ?_, fun z => absurd z (by decide)⟩
  show (2 * F + 0) * 2 ^ L * B = 131072 * A
  rw [Nat.add_zero, Nat.mul_assoc 2, Nat.mul_assoc 2, h]
  omega
/-- signed longs -/
theorem tf_sL0 (s : Nat) {x : Nat} (hx : x < 2 ^ 62) : (tf_sL s x).toInt = if s = 0 then (x : Int) else -(x : Int) := by
  unfold tf_sL
  by_cases h : s = 0
  · rw [if_pos h, if_pos h]; exact pk_lT (by omega)
  · rw [if_neg h, if_neg h, Int64.toInt_neg, pk_lT (by omega)]
    exact Int.bmod_eq_of_le (by omega) (by omega)
theorem tf_sLz (s : Nat) {x : Nat} (hx : x < 2 ^ 62) : tf_sL s x = 0 ↔ x = 0 := by
  rw [← Int64.toInt_inj, tf_sL0 s hx, show (0 : Int64).toInt = 0 from by decide]
  split <;> omega
theorem tf_sLge (s : Nat) {x : Nat} (hx : x < 2 ^ 62) (h0 : x ≠ 0) : 0 ≤ tf_sL s x ↔ s = 0 := by
  rw [Int64.le_iff_toInt_le, tf_sL0 s hx, show (0 : Int64).toInt = 0 from by decide]
  split <;> omega
theorem tf_sLle (s : Nat) {x : Nat} (hx : x < 2 ^ 62) (h0 : x ≠ 0) : tf_sL s x ≤ 0 ↔ ¬ s = 0 := by
  rw [Int64.le_iff_toInt_le, tf_sL0 s hx, show (0 : Int64).toInt = 0 from by decide]
  split <;> omega
theorem tf_sLn (x : Nat) : -(tf_sL 1 x) = lN x := by
  unfold tf_sL; rw [if_neg (by decide)]; exact Int64.neg_neg
theorem tf_sLp (x : Nat) : tf_sL 0 x = lN x := rfl
theorem tf_sI64 (s : Nat) {x : Nat} (hx : x < 2 ^ 31) : (tf_sI s x).toInt64 = tf_sL s x := by
  apply Int64.toInt_inj.mp
  rw [tf_sL0 s (by omega), Int32.toInt_toInt64]
  unfold tf_sI
  by_cases h : s = 0
  · rw [if_pos h, if_pos h]; exact nI_toInt hx
  · rw [if_neg h, if_neg h]; exact sb_negT hx
theorem tf_sLm (s x B : Nat) : tf_sL s x * lN B = tf_sL s (x * B) := by
  unfold tf_sL
  by_cases h : s = 0
  · rw [if_pos h, if_pos h, lN_mul]
  · rw [if_neg h, if_neg h, ← lN_mul]; grind
def tf_ss (s1 s2 x y : Nat) : Nat := if s1 = s2 then s1 else if y ≤ x then s1 else s2
def tf_sF (s1 s2 x y : Nat) : Nat := if s1 = s2 then x + y else if y ≤ x then x - y else y - x
theorem tf_sgn {s1 s2 : Nat} (x y : Nat) (h1 : s1 ≤ 1) (h2 : s2 ≤ 1) : tf_sL s1 x + tf_sL s2 y = tf_sL (tf_ss s1 s2 x y) (tf_sF s1 s2 x y) := by
  unfold tf_ss tf_sF
  by_cases e : s1 = s2
  · subst e
    rw [if_pos rfl, if_pos rfl]
    unfold tf_sL
    by_cases h : s1 = 0
    · rw [if_pos h, if_pos h, if_pos h, lN_add]
    · rw [if_neg h, if_neg h, if_neg h, ← lN_add]; grind
  · rw [if_neg e, if_neg e]
    by_cases hyx : y ≤ x
    · rw [if_pos hyx, if_pos hyx]
      unfold tf_sL
      rw [← lN_sub hyx]
      rcases (show s1 = 0 ∨ s1 = 1 by omega) with rfl | rfl
      · obtain rfl : s2 = 1 := by omega
        rw [if_pos rfl, if_neg (by decide), if_pos rfl]; grind
      · obtain rfl : s2 = 0 := by omega
        rw [if_pos rfl, if_neg (by decide), if_neg (by decide)]; grind
    · rw [if_neg hyx, if_neg hyx]
      unfold tf_sL
      rw [← lN_sub (show x ≤ y by omega)]
      rcases (show s1 = 0 ∨ s1 = 1 by omega) with rfl | rfl
      · obtain rfl : s2 = 1 := by omega
        rw [if_pos rfl, if_neg (by decide), if_neg (by decide)]; grind
      · obtain rfl : s2 = 0 := by omega
        rw [if_pos rfl, if_neg (by decide), if_pos rfl]; grind
theorem tf_ss_le {s1 s2 x y : Nat} (h1 : s1 ≤ 1) (h2 : s2 ≤ 1) : tf_ss s1 s2 x y ≤ 1 := by
  unfold tf_ss; split
  · exact h1
  · split <;> assumption
theorem tf_sF_le (s1 s2 x y : Nat) : tf_sF s1 s2 x y ≤ x + y := by
  unfold tf_sF; split
  · omega
  · split <;> omega
theorem tf_pwsub {E L : Nat} (h : L ≤ E) : tf_pw E - tf_pw L = nI (E - L) := by
  have e := pk_sub h
  unfold tf_pw
  rw [← e]; grind
/-- the component's sum of two numbers that are not 0 -/
theorem tf_X60 {post : Int32 → SX → Prop} {md s1 s2 f g x y : Nat} {x9 nn st sg : Int32} {fr : Int64} {ex : Int32} (hmd : md ≤ 3) (h1 : s1 ≤ 1) (h2 : s2 ≤ 1) (hf : f ≠ 0) (hf2 : f < 2 ^ 40) (hx : x < 2 ^ 40) (hy : y < 2 ^ 40)
    (H0 : tf_sF s1 s2 x y = 0 → post (nI (if md = 3 then 128 else 0)) (nI md, nn, st, sg, fr, ex))
    (H1 : tf_sF s1 s2 x y ≠ 0 → wpX_round post (nI md, nn, st, sg, fr, ex) (nI (tf_ss s1 s2 x y)) (lN (tf_sF s1 s2 x y)) x9 0) :
    wX_sumOf_60 post (nI s1) (lN f) (nI s2) (lN g) x9 (tf_sL s2 y) (tf_sL s1 x) (nI md) nn st sg fr ex := by
  have hb := tf_sF_le s1 s2 x y
  have hsl := tf_ss_le (x := x) (y := y) h1 h2
  refine nm_r (tf_sgn x y h1 h2) ?_
  generalize tf_sF s1 s2 x y = F at *
  generalize tf_ss s1 s2 x y = s at *
  by_cases hF : F = 0
  · refine br_t ((tf_sLz s (by omega)).mpr hF) (br_f (fun z => hf ((pk_lEQ (b := 0) (by omega) (by decide)).mp z)) ?_)
    have hne : ¬ nI s1 = 1 - nI s1 := by
      rcases (show s1 = 0 ∨ s1 = 1 by omega) with rfl | rfl <;> decide
    refine br_f hne ?_
    have K := H0 hF
    by_cases hm : md = 3
    · rw [if_pos hm] at K
      exact br_t ((tf_i3 (by omega)).mpr hm) K
    · rw [if_neg hm] at K
      exact br_f (fun z => hm ((tf_i3 (by omega)).mp z)) K
  · have K := H1 hF
    refine br_f (fun z => hF ((tf_sLz s (by omega)).mp z)) ?_
    rcases (show s = 0 ∨ s = 1 by omega) with rfl | rfl
    · exact br_f (fun z => (tf_sLle 0 (by omega) hF).mp z rfl) K
    · refine br_t ((tf_sLle 1 (by omega) hF).mpr (by decide)) ?_
      rw [tf_sLn]
      exact K
theorem tf_X14 {post : Int32 → SX → Prop} {md s1 s2 f g E D L : Nat} {nn st sg : Int32} {fr : Int64} {ex : Int32} (hmd : md ≤ 3) (h1 : s1 ≤ 1) (h2 : s2 ≤ 1) (hf : f ≠ 0) (hf2 : f < 2 ^ 40) (hLE : L ≤ E) (hLD : L ≤ D) (hE : E < 64) (hD : D < 64)
    (hx : f * 2 ^ (E - L) < 2 ^ 40) (hy : g * 2 ^ (D - L) < 2 ^ 40)
    (H0 : tf_sF s1 s2 (f * 2 ^ (E - L)) (g * 2 ^ (D - L)) = 0 → post (nI (if md = 3 then 128 else 0)) (nI md, nn, st, sg, fr, ex))
    (H1 : tf_sF s1 s2 (f * 2 ^ (E - L)) (g * 2 ^ (D - L)) ≠ 0 → wpX_round post (nI md, nn, st, sg, fr, ex) (nI (tf_ss s1 s2 (f * 2 ^ (E - L)) (g * 2 ^ (D - L)))) (lN (tf_sF s1 s2 (f * 2 ^ (E - L)) (g * 2 ^ (D - L)))) (tf_pw L) 0) :
    wX_sumOf_14 post (nI s1) (lN f) (tf_pw E) (nI s2) (lN g) (tf_pw D) (tf_pw L) (nI md) nn st sg fr ex := by
  have K := tf_X60 (post := post) (g := g) (x9 := tf_pw L) hmd h1 h2 hf hf2 hx hy H0 H1
  have eX : lN f <<< ((tf_pw E - tf_pw L).toInt64 &&& 63) = lN (f * 2 ^ (E - L)) := by
    rw [tf_pwsub hLE]; exact wb_shl f (by omega)
  have eY : lN g <<< ((tf_pw D - tf_pw L).toInt64 &&& 63) = lN (g * 2 ^ (D - L)) := by
    rw [tf_pwsub hLD]; exact wb_shl g (by omega)
  refine nm_r eX (nm_r eY ?_)
  generalize f * 2 ^ (E - L) = x at *
  generalize g * 2 ^ (D - L) = y at *
  have K47 : wX_sumOf_47 post (nI s1) (lN f) (nI s2) (lN g) (tf_pw L) (lN y) (tf_sL s1 x) (nI md) nn st sg fr ex := by
    rcases (show s2 = 0 ∨ s2 = 1 by omega) with rfl | rfl
    · exact br_t rfl K
    · exact br_f tf_c10 K
  rcases (show s1 = 0 ∨ s1 = 1 by omega) with rfl | rfl
  · exact br_t rfl K47
  · exact br_f tf_c10 K47
theorem tf_XsumOf {post : Int32 → SX → Prop} {md s1 s2 f g E D L : Nat} {nn st sg : Int32} {fr : Int64} {ex : Int32} (hL : L = if D ≤ E then D else E) (hmd : md ≤ 3) (h1 : s1 ≤ 1) (h2 : s2 ≤ 1) (hf : f ≠ 0) (hf2 : f < 2 ^ 40) (hE : E < 64) (hD : D < 64)
    (hx : f * 2 ^ (E - L) < 2 ^ 40) (hy : g * 2 ^ (D - L) < 2 ^ 40)
    (H0 : tf_sF s1 s2 (f * 2 ^ (E - L)) (g * 2 ^ (D - L)) = 0 → post (nI (if md = 3 then 128 else 0)) (nI md, nn, st, sg, fr, ex))
    (H1 : tf_sF s1 s2 (f * 2 ^ (E - L)) (g * 2 ^ (D - L)) ≠ 0 → wpX_round post (nI md, nn, st, sg, fr, ex) (nI (tf_ss s1 s2 (f * 2 ^ (E - L)) (g * 2 ^ (D - L)))) (lN (tf_sF s1 s2 (f * 2 ^ (E - L)) (g * 2 ^ (D - L)))) (tf_pw L) 0) :
    wpX_sumOf post (nI md, nn, st, sg, fr, ex) (nI s1) (lN f) (tf_pw E) (nI s2) (lN g) (tf_pw D) := by
  have hle : tf_pw D ≤ tf_pw E ↔ D ≤ E := by
    rw [Int32.le_iff_toInt_le, tf_pw_i (by omega), tf_pw_i (by omega)]; omega
  by_cases h : D ≤ E
  · rw [if_pos h] at hL
    subst hL
    exact br_t (hle.mpr h) (tf_X14 hmd h1 h2 hf hf2 h (Nat.le_refl _) hE hD hx hy H0 H1)
  · rw [if_neg h] at hL
    subst hL
    exact br_f (fun z => h (hle.mp z)) (tf_X14 hmd h1 h2 hf hf2 (Nat.le_refl _) (by omega) hE hD hx hy H0 H1)
end
section
/-! the reference's sum, and both sides' sums together -/
theorem tf_Y89 {post : Int32 → SY → Prop} {s : Nat} {m nn st : Int32} {a : Nat → Int32} (hs : s ≤ 1) (H : post (nI (128 * s)) (m, nn, st, a)) : wY_finiteSum_89 post (nI s) m nn st a := (tf_Yzer hs).mpr H
theorem tf_Y63 {post : Int32 → SY → Prop} {md : Nat} {x5 nn st : Int32} {a : Nat → Int32} (hmd : md ≤ 3) (H : post (nI (if md = 3 then 128 else 0)) (nI md, nn, st, a)) : wY_finiteSum_63 post x5 0 (nI md) nn st a := by
  refine br_t rfl ?_
  by_cases hm : md = 3
  · rw [if_pos hm] at H
    exact br_t ((tf_i3 (by omega)).mpr hm) (tf_Y89 (s := 1) (by decide) H)
  · rw [if_neg hm] at H
    exact br_f (fun z => hm ((tf_i3 (by omega)).mp z)) (tf_Y89 (s := 0) (by decide) H)
section
variable {post : Int32 → SY → Prop} {md s1 A1 B c : Nat} {nn st : Int32} {a : Nat → Int32}
theorem tf_Yfv (ha : tf_Tab a) (h1 : s1 ≤ 1) (hc : c ≤ 255) (hf : c % 128 ≤ 120) {Q : Int64 → Prop} (post' : Int32 → Prop) (hp : ∀ r, post' r ↔ Q (tf_sL s1 A1 + r.toInt64 * lN B))
    (H : Q (tf_sL (tf_ss s1 (c / 128) A1 (tf_size (c % 128) * B)) (tf_sF s1 (c / 128) A1 (tf_size (c % 128) * B)))) : wpY_valueOf post' (nI md, nn, st, a) (nI c) := by
  refine (tf_Yval ha hc hf).mpr ((hp _).mpr ?_)
  rw [tf_sI64 _ (tf_sz31 (by omega)), tf_sLm, tf_sgn _ _ h1 (by omega)]
  exact H
theorem tf_Yfs1 (ha : tf_Tab a) (h1 : s1 ≤ 1) (hc : c ≤ 255) (hf : c % 128 ≤ 120) (hA : A1 < 2 ^ 40) (hB : B ≤ 1048576) (hF : tf_sF s1 (c / 128) A1 (tf_size (c % 128) * B) ≠ 0)
    (H : wpY_round post (nI md, nn, st, a) (lN (tf_sF s1 (c / 128) A1 (tf_size (c % 128) * B))) (lN B) (nI (tf_ss s1 (c / 128) A1 (tf_size (c % 128) * B)))) :
    wpY_finiteSum post (nI md, nn, st, a) (tf_sL s1 A1) (lN B) (nI s1) (nI c) := by
  have b1 := tf_mulB (z := tf_size (c % 128)) (B := B) (by have := tf_max (c := c % 128) (by omega); omega) hB
  have b2 := tf_sF_le s1 (c / 128) A1 (tf_size (c % 128) * B)
  have b3 := tf_ss_le (s1 := s1) (s2 := c / 128) (x := A1) (y := tf_size (c % 128) * B) h1 (by omega)
  unfold wpY_finiteSum
  dsimp only
  refine (tf_Yval ha hc hf).mpr (nm_r (e' := tf_sL (tf_ss s1 (c / 128) A1 (tf_size (c % 128) * B)) (tf_sF s1 (c / 128) A1 (tf_size (c % 128) * B))) ?_ ?_)
  · rw [tf_sI64 _ (tf_sz31 (by omega)), tf_sLm, tf_sgn _ _ h1 (by omega)]
  generalize tf_sF s1 (c / 128) A1 (tf_size (c % 128) * B) = F at *
  generalize tf_ss s1 (c / 128) A1 (tf_size (c % 128) * B) = s at *
  refine br_f (fun z => hF ((tf_sLz s (by omega)).mp z)) ?_
  rcases (show s = 0 ∨ s = 1 by omega) with rfl | rfl
  · have g := (tf_sLge 0 (by omega) hF).mpr rfl
    exact br_t g (br_t g H)
  · have g : ¬ 0 ≤ tf_sL 1 F := fun z => absurd ((tf_sLge 1 (by omega) hF).mp z) (by decide)
    refine br_f g (br_f g ?_)
    rw [tf_sLn]
    exact H
theorem tf_Yfs0 (ha : tf_Tab a) (hmd : md ≤ 3) (h1 : s1 ≤ 1) (hc : c ≤ 255) (hf : c % 128 ≤ 120) (hA : A1 < 2 ^ 40) (hB : B ≤ 1048576) (hF : tf_sF s1 (c / 128) A1 (tf_size (c % 128) * B) = 0) (hA0 : A1 ≠ 0)
    (H : post (nI (if md = 3 then 128 else 0)) (nI md, nn, st, a)) :
    wpY_finiteSum post (nI md, nn, st, a) (tf_sL s1 A1) (lN B) (nI s1) (nI c) := by
  unfold wpY_finiteSum
  dsimp only
  refine (tf_Yval ha hc hf).mpr (nm_r (e' := tf_sL (tf_ss s1 (c / 128) A1 (tf_size (c % 128) * B)) (tf_sF s1 (c / 128) A1 (tf_size (c % 128) * B))) ?_ ?_)
  · rw [tf_sI64 _ (tf_sz31 (by omega)), tf_sLm, tf_sgn _ _ h1 (by omega)]
  rw [hF]
  refine br_t ((tf_sLz _ (by decide)).mpr rfl) (br_f (fun z => hA0 ((tf_sLz s1 (by omega)).mp z)) ?_)
  exact br_t rfl (tf_Y63 hmd H)
theorem tf_Yfsz (ha : tf_Tab a) (hmd : md ≤ 3) (h1 : s1 ≤ 1) (hc : c ≤ 255) (hf : c % 128 = 0) (hA : A1 = 0)
    (H : post (nI (if s1 = c / 128 then 128 * s1 else if md = 3 then 128 else 0)) (nI md, nn, st, a)) :
    wpY_finiteSum post (nI md, nn, st, a) (tf_sL s1 A1) (lN B) (nI s1) (nI c) := by
  subst hA
  unfold wpY_finiteSum
  dsimp only
  have ez : tf_size (c % 128) = 0 := by rw [hf]; decide
  have e0 : ∀ s, tf_sL s 0 = 0 := fun s => (tf_sLz s (by decide)).mpr rfl
  refine (tf_Yval ha hc (by omega)).mpr (nm_r (e' := 0) ?_ ?_)
  · rw [tf_sI64 _ (tf_sz31 (by omega)), tf_sLm, ez, Nat.zero_mul, e0, e0]; decide
  refine br_t rfl (br_t (e0 s1) ?_)
  rw [tf_Yzero hc, if_pos hf]
  refine br_f tf_c10 (br_f tf_c10 ?_)
  rw [tf_Yneg hc]
  have eq : nI s1 = nI (c / 128) ↔ s1 = c / 128 := nI_eq (by omega) (by omega)
  by_cases h : s1 = c / 128
  · rw [if_pos h] at H
    exact br_t (eq.mpr h) (br_f tf_c10 (tf_Y89 h1 H))
  · rw [if_neg h] at H
    exact br_f (fun z => h (eq.mp z)) (tf_Y63 hmd H)
end
theorem tf_cmpM {x y A C M : Nat} (hM : 0 < M) (h1 : x * M = 65536 * A) (h2 : y * M = 65536 * C) : y ≤ x ↔ C ≤ A := by
  constructor
  · intro h
    have := Nat.mul_le_mul_right M h
    omega
  · intro h
    exact Nat.le_of_mul_le_mul_right (by omega) hM
theorem tf_ssM {s1 s2 x y A C M : Nat} (hM : 0 < M) (h1 : x * M = 65536 * A) (h2 : y * M = 65536 * C) : tf_ss s1 s2 x y = tf_ss s1 s2 A C ∧ tf_sF s1 s2 x y * M = 65536 * tf_sF s1 s2 A C := by
  have e := tf_cmpM hM h1 h2
  unfold tf_ss tf_sF
  by_cases hs : s1 = s2
  · rw [if_pos hs, if_pos hs, if_pos hs, if_pos hs]
    exact ⟨rfl, by rw [Nat.add_mul, h1, h2]; omega⟩
  · rw [if_neg hs, if_neg hs, if_neg hs, if_neg hs]
    by_cases h : y ≤ x
    · rw [if_pos h, if_pos h, if_pos (e.mp h), if_pos (e.mp h)]
      exact ⟨rfl, by rw [Nat.sub_mul, h1, h2]; omega⟩
    · have h' : ¬ C ≤ A := fun z => h (e.mpr z)
      rw [if_neg h, if_neg h, if_neg h', if_neg h']
      exact ⟨rfl, by rw [Nat.sub_mul, h1, h2]; omega⟩
theorem tf_JaddUp {f E A1 B s1 md c : Nat} {nn st : Int32} {a : Nat → Int32} (ha : tf_Tab a) (hmd : md ≤ 3) (h1 : s1 ≤ 1) (hc : c ≤ 255) (hcf : c % 128 < 120) (hf : f ≤ 225) (hE7 : 7 ≤ E) (hE : E ≤ 33) (hB0 : 0 < B) (hB : B ≤ 512) (hA : A1 < 2 ^ 39)
    (hfE : f * 2 ^ E * B = 65536 * A1) (hnz : ¬ (f = 0 ∧ c % 128 = 0)) :
    tf_J md st a (fun post => wpX_addUp post (nI md, nn, st, nI (c / 128), lN (tf_fr c), nI (tf_ex c)) (nI s1) (lN f) (tf_pw E)) (fun post => wpY_finiteSum post (nI md, nn, st, a) (tf_sL s1 A1) (lN B) (nI s1) (nI c)) := by
  obtain ⟨u1, u2, u3, u4⟩ := tf_unp c (by omega) hcf
  have b0 := tf_max (c := c % 128) (by omega)
  have b1 : tf_size (c % 128) * B ≤ 131072 * 512 := Nat.mul_le_mul b0 hB
  have eP : nI (tf_ex c) = tf_pw (16 + tf_ex c) := (tf_pw_n _).symm
  have hgD : tf_fr c * 2 ^ (16 + tf_ex c) * B = 65536 * (tf_size (c % 128) * B) := by
    rw [u1, Nat.pow_add, ← Nat.mul_assoc, Nat.mul_comm (tf_fr c) (2 ^ 16)]
    rw [Nat.mul_assoc, Nat.mul_assoc, ← Nat.mul_assoc (tf_fr c)]
  have hs2 : c / 128 ≤ 1 := by omega
  by_cases hf0 : f = 0
  · subst hf0
    have hA0 : A1 = 0 := by omega
    have hg0 : tf_fr c ≠ 0 := fun z => hnz ⟨rfl, u4.mp z⟩
    have hzB : tf_size (c % 128) * B ≠ 0 := by
      have q : tf_size (c % 128) ≠ 0 := by
        rw [u1]; exact Nat.mul_ne_zero hg0 (Nat.ne_of_gt (Nat.two_pow_pos _))
      exact Nat.mul_ne_zero q (by omega)
    have es : tf_ss s1 (c / 128) A1 (tf_size (c % 128) * B) = c / 128 := by
      unfold tf_ss
      by_cases h : s1 = c / 128
      · rw [if_pos h]; exact h
      · rw [if_neg h, if_neg (by omega)]
    have eF : tf_sF s1 (c / 128) A1 (tf_size (c % 128) * B) = tf_size (c % 128) * B := by
      unfold tf_sF
      by_cases h : s1 = c / 128
      · rw [if_pos h]; omega
      · rw [if_neg h, if_neg (by omega)]; omega
    refine tf_Jm (tf_Jround (A := tf_size (c % 128) * B) (B := B) (f := tf_fr c) (sk := 0) (P := 16 + tf_ex c) (s := c / 128) (nn := nn) (sg := nI (c / 128)) (fr := lN (tf_fr c)) (ex := nI (tf_ex c)) ha (by omega) hB0 (by omega) hmd hs2 (by omega) (by omega) (by decide) (fun _ => ⟨by omega, fun _ => rfl⟩) (tf_Inv0 hgD)) (fun post K => ?_) (fun post K => ?_)
    · rw [← eP] at K
      exact br_t rfl (br_t rfl (br_t rfl (br_t rfl K)))
    · refine tf_Yfs1 ha h1 hc (by omega) (by omega) (by omega) (by rw [eF]; exact hzB) ?_
      rw [es, eF]
      exact K
  · have hfl : ¬ lN f = 0 := fun z => hf0 ((pk_lEQ (b := 0) (by omega) (by decide)).mp z)
    have hA0 : A1 ≠ 0 := by
      intro z
      have : f * 2 ^ E * B ≠ 0 := Nat.mul_ne_zero (Nat.mul_ne_zero hf0 (Nat.ne_of_gt (Nat.two_pow_pos _))) (by omega)
      omega
    by_cases hg0 : tf_fr c = 0
    · have hz0 : tf_size (c % 128) * B = 0 := by
        rw [u1, hg0, Nat.zero_mul, Nat.zero_mul]
      have es : tf_ss s1 (c / 128) A1 (tf_size (c % 128) * B) = s1 := by
        unfold tf_ss
        by_cases h : s1 = c / 128
        · rw [if_pos h]
        · rw [if_neg h, if_pos (by omega)]
      have eF : tf_sF s1 (c / 128) A1 (tf_size (c % 128) * B) = A1 := by
        unfold tf_sF
        by_cases h : s1 = c / 128
        · rw [if_pos h]; omega
        · rw [if_neg h, if_pos (by omega)]; omega
      refine tf_Jm (tf_Jround (A := A1) (B := B) (f := f) (sk := 0) (P := E) (s := s1) (nn := nn) (sg := nI (c / 128)) (fr := lN (tf_fr c)) (ex := nI (tf_ex c)) ha (by omega) hB0 (by omega) hmd h1 (by omega) (by omega) (by decide) (fun _ => ⟨by omega, fun _ => rfl⟩) (tf_Inv0 hfE)) (fun post K => ?_) (fun post K => ?_)
      · refine br_f hfl (br_t (by rw [hg0]; rfl) (br_f hfl (br_f hfl (br_f hfl K))))
      · refine tf_Yfs1 ha h1 hc (by omega) (by omega) (by omega) (by rw [eF]; exact hA0) ?_
        rw [es, eF]
        exact K
    · have hgl : ¬ lN (tf_fr c) = 0 := fun z => hg0 ((pk_lEQ (b := 0) (by omega) (by decide)).mp z)
      obtain ⟨L, hL⟩ : ∃ L, L = if 16 + tf_ex c ≤ E then 16 + tf_ex c else E := ⟨_, rfl⟩
      have hLE : L ≤ E := by rw [hL]; split <;> omega
      have hLD : L ≤ 16 + tf_ex c := by rw [hL]; split <;> omega
      have hL7 : 7 ≤ L := by rw [hL]; split <;> omega
      have x0 : f * 2 ^ (E - L) < 2 ^ 38 := by
        have : 2 ^ (E - L) ≤ 2 ^ 26 := Nat.pow_le_pow_right (by decide) (by omega)
        have := Nat.mul_le_mul hf this
        omega
      have y0 : tf_fr c * 2 ^ (16 + tf_ex c - L) < 2 ^ 38 := by
        have : 2 ^ (16 + tf_ex c - L) ≤ 2 ^ 26 := Nat.pow_le_pow_right (by decide) (by omega)
        have := Nat.mul_le_mul u3 this
        omega
      have x1 : f * 2 ^ (E - L) < 2 ^ 40 := by omega
      have y1 : tf_fr c * 2 ^ (16 + tf_ex c - L) < 2 ^ 40 := by omega
      have M0 : 0 < 2 ^ L * B := Nat.mul_pos (Nat.two_pow_pos _) hB0
      have xM : f * 2 ^ (E - L) * (2 ^ L * B) = 65536 * A1 := by
        rw [← hfE, ← Nat.mul_assoc, Nat.mul_assoc f, ← Nat.pow_add, Nat.sub_add_cancel hLE]
      have yM : tf_fr c * 2 ^ (16 + tf_ex c - L) * (2 ^ L * B) = 65536 * (tf_size (c % 128) * B) := by
        rw [← hgD, ← Nat.mul_assoc, Nat.mul_assoc (tf_fr c), ← Nat.pow_add, Nat.sub_add_cancel hLD]
      obtain ⟨es, eF⟩ := tf_ssM (s1 := s1) (s2 := c / 128) M0 xM yM
      have bF := tf_sF_le s1 (c / 128) A1 (tf_size (c % 128) * B)
      have bf := tf_sF_le s1 (c / 128) (f * 2 ^ (E - L)) (tf_fr c * 2 ^ (16 + tf_ex c - L))
      have hss := tf_ss_le (x := A1) (y := tf_size (c % 128) * B) h1 hs2
      have hX : ∀ post : Int32 → SX → Prop, wpX_sumOf post (nI md, nn, st, nI (c / 128), lN (tf_fr c), nI (tf_ex c)) (nI s1) (lN f) (tf_pw E) (nI (c / 128)) (lN (tf_fr c)) (tf_pw (16 + tf_ex c)) → wpX_addUp post (nI md, nn, st, nI (c / 128), lN (tf_fr c), nI (tf_ex c)) (nI s1) (lN f) (tf_pw E) := by
        intro post K
        rw [tf_pw_n] at K
        exact br_f hfl (br_f hgl K)
      by_cases hF : tf_sF s1 (c / 128) A1 (tf_size (c % 128) * B) = 0
      · have hF' : tf_sF s1 (c / 128) (f * 2 ^ (E - L)) (tf_fr c * 2 ^ (16 + tf_ex c - L)) = 0 := by
          rw [hF] at eF
          rcases Nat.mul_eq_zero.mp eF with z | z
          · exact z
          · omega
        refine ⟨if md = 3 then 128 else 0, nn, nI (c / 128), lN (tf_fr c), nI (tf_ex c), by split <;> omega, fun post K => hX post ?_, fun post K => tf_Yfs0 ha hmd h1 hc (by omega) (by omega) (by omega) hF hA0 K⟩
        exact tf_XsumOf hL hmd h1 hs2 hf0 (by omega) (by omega) (by omega) x1 y1 (fun _ => K) (fun z => absurd hF' z)
      · have hF' : tf_sF s1 (c / 128) (f * 2 ^ (E - L)) (tf_fr c * 2 ^ (16 + tf_ex c - L)) ≠ 0 := by
          intro z
          rw [z] at eF
          omega
        refine tf_Jm (tf_Jround (A := tf_sF s1 (c / 128) A1 (tf_size (c % 128) * B)) (B := B) (f := tf_sF s1 (c / 128) (f * 2 ^ (E - L)) (tf_fr c * 2 ^ (16 + tf_ex c - L))) (sk := 0) (P := L) (s := tf_ss s1 (c / 128) A1 (tf_size (c % 128) * B)) (nn := nn) (sg := nI (c / 128)) (fr := lN (tf_fr c)) (ex := nI (tf_ex c)) ha (by omega) hB0 (by omega) hmd hss (by omega) (by omega) (by decide) (fun _ => ⟨by omega, fun _ => rfl⟩) (tf_Inv0 (by rw [Nat.mul_assoc]; exact eF))) (fun post K => hX post ?_) (fun post K => ?_)
        · refine tf_XsumOf hL hmd h1 hs2 hf0 (by omega) (by omega) (by omega) x1 y1 (fun z => absurd z hF') (fun _ => ?_)
          rw [es]
          exact K
        · exact tf_Yfs1 ha h1 hc (by omega) (by omega) (by omega) hF K
end
section
/-! sums of codes on both sides -/
theorem tf_Jsum {md i j : Nat} {nn st sg : Int32} {fr : Int64} {ex : Int32} {a : Nat → Int32} (ha : tf_Tab a) (hmd : md ≤ 3) (hi : i ≤ 255) (hj : j ≤ 255) :
    tf_J md st a (fun post => wpX_sum post (nI md, nn, st, sg, fr, ex) (nI i) (nI j)) (fun post => wpY_add post (nI md, nn, st, a) (nI i) (nI j)) := by
  have ci := tf_cd_nI hi
  have cj := tf_cd_nI hj
  by_cases ni : 120 < i % 128
  · refine ⟨124, nn, sg, fr, ex, by decide, fun post K => ?_, fun post K => ?_⟩
    · simp only [wpX_sum, tf_Xnone hi, if_pos ni, tf_c10, eq_self, true_imp_iff, false_imp_iff, not_true_eq_false, not_false_eq_true, true_and, and_true, forall_eq]
      exact K
    · simp only [wpY_add, tf_Ycode_t ci, tf_Ycode_t cj, tf_Ynone hi, if_pos ni, tf_c10, eq_self, true_imp_iff, false_imp_iff, not_true_eq_false, not_false_eq_true, true_and, and_true, forall_eq]
      exact K
  by_cases nj : 120 < j % 128
  · refine ⟨124, nn, sg, fr, ex, by decide, fun post K => ?_, fun post K => ?_⟩
    · simp only [wpX_sum, tf_Xnone hi, tf_Xnone hj, if_neg ni, if_pos nj, tf_c10, eq_self, true_imp_iff, false_imp_iff, not_true_eq_false, not_false_eq_true, true_and, and_true, forall_eq]
      exact K
    · simp only [wpY_add, tf_Ycode_t ci, tf_Ycode_t cj, tf_Ynone hi, tf_Ynone hj, if_neg ni, if_pos nj, tf_c10, eq_self, true_imp_iff, false_imp_iff, not_true_eq_false, not_false_eq_true, true_and, and_true, forall_eq]
      exact K
  have eij : nI i = nI j ↔ i = j := nI_eq (by omega) (by omega)
  by_cases fi : i % 128 = 120
  · by_cases fj : j % 128 = 120
    · by_cases e : i = j
      · subst e
        refine ⟨i, nn, sg, fr, ex, hi, fun post K => ?_, fun post K => ?_⟩
        · simp only [wpX_sum, wX_sum_35, wX_sum_61, tf_Xnone hi, tf_Xinf hi, if_neg ni, if_pos fi, tf_c10, eq_self, true_imp_iff, false_imp_iff, not_true_eq_false, not_false_eq_true, true_and, and_true, forall_eq]
          exact K
        · simp only [wpY_add, tf_Ycode_t ci, tf_Ynone hi, tf_Yinf hi, if_neg ni, if_pos fi, tf_c10, eq_self, true_imp_iff, false_imp_iff, not_true_eq_false, not_false_eq_true, true_and, and_true, forall_eq]
          exact K
      · refine ⟨124, nn ||| 4, sg, fr, ex, by decide, fun post K => ?_, fun post K => ?_⟩
        · simp only [wpX_sum, wX_sum_35, wX_sum_61, wpX_senseless, tf_Xnone hi, tf_Xinf hi, tf_Xnone hj, tf_Xinf hj, if_neg ni, if_neg nj, if_pos fi, if_pos fj, eij, e, tf_c10, eq_self, true_imp_iff, false_imp_iff, not_true_eq_false, not_false_eq_true, true_and, and_true, forall_eq]
          exact K
        · simp only [wpY_add, wpY_senseless, tf_Ycode_t ci, tf_Ycode_t cj, tf_Ynone hi, tf_Yinf hi, tf_Ynone hj, tf_Yinf hj, if_neg ni, if_neg nj, if_pos fi, if_pos fj, eij, e, tf_c10, eq_self, true_imp_iff, false_imp_iff, not_true_eq_false, not_false_eq_true, true_and, and_true, forall_eq]
          exact K
    · refine ⟨i, nn, sg, fr, ex, hi, fun post K => ?_, fun post K => ?_⟩
      · simp only [wpX_sum, wX_sum_35, wX_sum_61, tf_Xnone hi, tf_Xinf hi, tf_Xnone hj, tf_Xinf hj, if_neg ni, if_neg nj, if_pos fi, if_neg fj, tf_c10, eq_self, true_imp_iff, false_imp_iff, not_true_eq_false, not_false_eq_true, true_and, and_true, forall_eq]
        exact K
      · simp only [wpY_add, tf_Ycode_t ci, tf_Ycode_t cj, tf_Ynone hi, tf_Yinf hi, tf_Ynone hj, tf_Yinf hj, if_neg ni, if_neg nj, if_pos fi, if_neg fj, tf_c10, eq_self, true_imp_iff, false_imp_iff, not_true_eq_false, not_false_eq_true, true_and, and_true, forall_eq]
        exact K
  by_cases fj : j % 128 = 120
  · refine ⟨j, nn, sg, fr, ex, hj, fun post K => ?_, fun post K => ?_⟩
    · simp only [wpX_sum, wX_sum_35, wX_sum_61, tf_Xnone hi, tf_Xinf hi, tf_Xnone hj, tf_Xinf hj, if_neg ni, if_neg nj, if_neg fi, if_pos fj, tf_c10, eq_self, true_imp_iff, false_imp_iff, not_true_eq_false, not_false_eq_true, true_and, and_true, forall_eq]
      exact K
    · simp only [wpY_add, tf_Ycode_t ci, tf_Ycode_t cj, tf_Ynone hi, tf_Yinf hi, tf_Ynone hj, tf_Yinf hj, if_neg ni, if_neg nj, if_neg fi, if_pos fj, tf_c10, eq_self, true_imp_iff, false_imp_iff, not_true_eq_false, not_false_eq_true, true_and, and_true, forall_eq]
      exact K
  obtain ⟨u1, u2, u3, u4⟩ := tf_unp i (by omega) (by omega)
  obtain ⟨v1, v2, v3, v4⟩ := tf_unp j (by omega) (by omega)
  have hXi : lN (tf_fr i) = 0 ↔ i % 128 = 0 := (pk_lEQ (b := 0) (by omega) (by decide)).trans u4
  have hXj : lN (tf_fr j) = 0 ↔ j % 128 = 0 := (pk_lEQ (b := 0) (by omega) (by decide)).trans v4
  have hY : ∀ post : Int32 → SY → Prop, wpY_finiteSum post (nI md, nn, st, a) (tf_sL (i / 128) (tf_size (i % 128))) (lN 1) (nI (i / 128)) (nI j) → wpY_add post (nI md, nn, st, a) (nI i) (nI j) := by
    intro post K
    simp only [wpY_add, tf_Ycode_t ci, tf_Ycode_t cj, tf_Ynone hi, tf_Yinf hi, tf_Ynone hj, tf_Yinf hj, if_neg ni, if_neg nj, if_neg fi, if_neg fj, tf_Yval ha hi (by omega), tf_Yneg hi, tf_sI64 (i / 128) (tf_sz31 (c := i % 128) (by omega)), tf_c10, eq_self, true_imp_iff, false_imp_iff, not_true_eq_false, not_false_eq_true, true_and, and_true, forall_eq]
    exact K
  by_cases z : i % 128 = 0 ∧ j % 128 = 0
  · have hb : (if i / 128 = j / 128 then 128 * (i / 128) else if md = 3 then 128 else 0) ≤ 255 := by
      split
      · omega
      · split <;> omega
    refine ⟨if i / 128 = j / 128 then 128 * (i / 128) else if md = 3 then 128 else 0, nn, nI (j / 128), lN (tf_fr j), nI (tf_ex j), hb, fun post K => ?_, fun post K => hY post ?_⟩
    · have es : nI (i / 128) = nI (j / 128) ↔ i / 128 = j / 128 := nI_eq (by omega) (by omega)
      simp only [wpX_sum, wpX_zeroSum, tf_Xnone hi, tf_Xinf hi, tf_Xnone hj, tf_Xinf hj, if_neg ni, if_neg nj, if_neg fi, if_neg fj, tf_Xunp hi, tf_Xunp hj, eq_true (hXi.mpr z.1), eq_true (hXj.mpr z.2), tf_i3 (show md < 2 ^ 31 by omega), es, tf_e5, tf_c10, eq_self, true_imp_iff, false_imp_iff, not_true_eq_false, not_false_eq_true, true_and, and_true, forall_eq]
      by_cases e : i / 128 = j / 128
      · rw [if_pos e] at K
        exact br_t e K
      · rw [if_neg e] at K
        refine br_f e ?_
        by_cases m : md = 3
        · rw [if_pos m] at K
          exact br_t m K
        · rw [if_neg m] at K
          exact br_f m K
    · exact tf_Yfsz ha hmd (by omega) hj z.2 (by rw [z.1]; decide) K
  · refine tf_Jm (tf_JaddUp (f := tf_fr i) (E := 16 + tf_ex i) (A1 := tf_size (i % 128)) (B := 1) (s1 := i / 128) (c := j) (nn := nn) ha hmd (by omega) hj (by omega) (by omega) (by omega) (by omega) (by decide) (by decide) ?_ ?_ (fun q => z ⟨u4.mp q.1, q.2⟩)) (fun post K => ?_) (fun post K => hY post K)
    · have := tf_max (c := i % 128) (by omega); omega
    · rw [u1, Nat.pow_add, Nat.mul_one, ← Nat.mul_assoc, Nat.mul_comm (tf_fr i) (2 ^ 16), Nat.mul_assoc]
    · rw [tf_pw_n] at K
      simp only [wpX_sum, wX_sum_128, tf_Xnone hi, tf_Xinf hi, tf_Xnone hj, tf_Xinf hj, if_neg ni, if_neg nj, if_neg fi, if_neg fj, tf_Xunp hi, tf_Xunp hj, hXi, hXj, tf_c10, eq_self, true_imp_iff, false_imp_iff, not_true_eq_false, not_false_eq_true, true_and, and_true, forall_eq]
      by_cases zi : i % 128 = 0
      · exact br_t zi (br_f (fun q => z ⟨zi, q⟩) K)
      · exact br_f zi K
end
section
/-! products, products with a sum -/
theorem tf_pw9 (ea eb : Nat) : (nI ea + nI eb) - 9 = tf_pw (ea + eb + 7) := by
  unfold tf_pw
  rw [← nI_add (ea + eb) 7, ← nI_add ea eb, show nI 7 = (7 : Int32) from rfl]
  grind
theorem tf_prod {fa ea fb eb B A : Nat} (hB : B = 512) (hA : A = fa * 2 ^ ea * (fb * 2 ^ eb)) : fa * fb * 2 ^ (ea + eb + 7) * B = 65536 * A := by
  subst hB hA
  rw [Nat.pow_add, Nat.pow_add]
  generalize 2 ^ ea = x
  generalize 2 ^ eb = y
  grind
theorem tf_zs_le {s1 s2 md : Nat} (h : s1 ≤ 1) : (if s1 = s2 then 128 * s1 else if md = 3 then 128 else 0) ≤ 255 := by
  split
  · omega
  · split <;> omega
theorem tf_Jprod {md i j k : Nat} {nn st sg : Int32} {fr : Int64} {ex : Int32} {a : Nat → Int32} (ha : tf_Tab a) (hmd : md ≤ 3) (hi : i ≤ 255) (hj : j ≤ 255) (hk : k ≤ 255) :
    tf_J md st a (fun post => wpX_productSum post (nI md, nn, st, sg, fr, ex) (nI i) (nI j) (nI k)) (fun post => wpY_together post (nI md, nn, st, a) (nI i) (nI j) (nI k)) := by
  have ci := tf_cd_nI hi
  have cj := tf_cd_nI hj
  have ck := tf_cd_nI hk
  by_cases ni : 120 < i % 128
  · refine ⟨124, nn, sg, fr, ex, by decide, fun post K => ?_, fun post K => ?_⟩
    · simp only [wpX_productSum, tf_Xnone hi, tf_Xinf hi, tf_Xzero hi, if_pos ni, tf_c10, eq_self, true_imp_iff, false_imp_iff, not_true_eq_false, not_false_eq_true, true_and, and_true, forall_eq]
      exact K
    · simp only [wpY_together, tf_Ycode_t ci, tf_Ynone hi, tf_Yinf hi, tf_Yzero hi, tf_Ycode_t cj, tf_Ynone hj, tf_Yinf hj, tf_Yzero hj, tf_Ycode_t ck, tf_Ynone hk, tf_Yinf hk, tf_Yzero hk, if_pos ni, tf_c10, eq_self, true_imp_iff, false_imp_iff, not_true_eq_false, not_false_eq_true, true_and, and_true, forall_eq]
      exact K
  by_cases nj : 120 < j % 128
  · refine ⟨124, nn, sg, fr, ex, by decide, fun post K => ?_, fun post K => ?_⟩
    · simp only [wpX_productSum, tf_Xnone hi, tf_Xinf hi, tf_Xzero hi, tf_Xnone hj, tf_Xinf hj, tf_Xzero hj, if_neg ni, if_pos nj, tf_c10, eq_self, true_imp_iff, false_imp_iff, not_true_eq_false, not_false_eq_true, true_and, and_true, forall_eq]
      exact K
    · simp only [wpY_together, tf_Ycode_t ci, tf_Ynone hi, tf_Yinf hi, tf_Yzero hi, tf_Ycode_t cj, tf_Ynone hj, tf_Yinf hj, tf_Yzero hj, tf_Ycode_t ck, tf_Ynone hk, tf_Yinf hk, tf_Yzero hk, if_neg ni, if_pos nj, tf_c10, eq_self, true_imp_iff, false_imp_iff, not_true_eq_false, not_false_eq_true, true_and, and_true, forall_eq]
      exact K
  by_cases nk : 120 < k % 128
  · refine ⟨124, nn, sg, fr, ex, by decide, fun post K => ?_, fun post K => ?_⟩
    · simp only [wpX_productSum, tf_Xnone hi, tf_Xinf hi, tf_Xzero hi, tf_Xnone hj, tf_Xinf hj, tf_Xzero hj, tf_Xnone hk, tf_Xinf hk, tf_Xzero hk, if_neg ni, if_neg nj, if_pos nk, tf_c10, eq_self, true_imp_iff, false_imp_iff, not_true_eq_false, not_false_eq_true, true_and, and_true, forall_eq]
      exact K
    · simp only [wpY_together, tf_Ycode_t ci, tf_Ynone hi, tf_Yinf hi, tf_Yzero hi, tf_Ycode_t cj, tf_Ynone hj, tf_Yinf hj, tf_Yzero hj, tf_Ycode_t ck, tf_Ynone hk, tf_Yinf hk, tf_Yzero hk, if_neg ni, if_neg nj, if_pos nk, tf_c10, eq_self, true_imp_iff, false_imp_iff, not_true_eq_false, not_false_eq_true, true_and, and_true, forall_eq]
      exact K
  have eneg : nI (i / 128) = nI (j / 128) ↔ i / 128 = j / 128 := nI_eq (by omega) (by omega)
  have hsx := tf_sx_le i j
  have hY : ∀ post : Int32 → SY → Prop, wY_together_71 post (nI i) (nI j) (nI k) (nI (tf_sx i j)) (nI md) nn st a → wpY_together post (nI md, nn, st, a) (nI i) (nI j) (nI k) := by
    intro post K
    simp only [wpY_together, tf_Ycode_t ci, tf_Ynone hi, tf_Yinf hi, tf_Yzero hi, tf_Ycode_t cj, tf_Ynone hj, tf_Yinf hj, tf_Yzero hj, tf_Ycode_t ck, tf_Ynone hk, tf_Yinf hk, tf_Yzero hk, if_neg ni, if_neg nj, if_neg nk, tf_Yneg hi, tf_Yneg hj, eneg, tf_c10, eq_self, true_imp_iff, false_imp_iff, not_true_eq_false, not_false_eq_true, true_and, and_true, forall_eq]
    unfold tf_sx at K
    by_cases e : i / 128 = j / 128
    · rw [if_pos e] at K
      exact br_t e K
    · rw [if_neg e] at K
      exact br_f e K
  have hx7 := tf_xor7 hi hj
  by_cases fin : i % 128 = 120 ∨ j % 128 = 120
  · have eX : nI k >>> ((7 : Int32) &&& 31) = nI (tf_sx i j) ↔ k / 128 = tf_sx i j := by
      rw [(tf_u1 k (by omega)).2.2]; exact nI_eq (by omega) (by omega)
    have eY : nI k = nI (128 * tf_sx i j + 120) ↔ k = 128 * tf_sx i j + 120 := nI_eq (by omega) (by omega)
    have hX51 : ∀ post : Int32 → SX → Prop, wX_productSum_51 post (nI i) (nI j) (nI k) (nI (tf_sx i j)) (nI md) nn st sg fr ex → wpX_productSum post (nI md, nn, st, sg, fr, ex) (nI i) (nI j) (nI k) := by
      intro post K
      by_cases fi : i % 128 = 120
      · simp only [wpX_productSum, tf_Xnone hi, tf_Xinf hi, tf_Xzero hi, tf_Xnone hj, tf_Xinf hj, tf_Xzero hj, tf_Xnone hk, tf_Xinf hk, tf_Xzero hk, if_neg ni, if_neg nj, if_neg nk, if_pos fi, hx7, tf_c10, eq_self, true_imp_iff, false_imp_iff, not_true_eq_false, not_false_eq_true, true_and, and_true, forall_eq]
        exact K
      · have fj : j % 128 = 120 := by omega
        simp only [wpX_productSum, tf_Xnone hi, tf_Xinf hi, tf_Xzero hi, tf_Xnone hj, tf_Xinf hj, tf_Xzero hj, tf_Xnone hk, tf_Xinf hk, tf_Xzero hk, if_neg ni, if_neg nj, if_neg nk, if_neg fi, if_pos fj, hx7, tf_c10, eq_self, true_imp_iff, false_imp_iff, not_true_eq_false, not_false_eq_true, true_and, and_true, forall_eq]
        exact K
    have hY89 : ∀ post : Int32 → SY → Prop, wY_together_89 post (nI i) (nI j) (nI k) (nI (tf_sx i j)) (nI md) nn st a → wpY_together post (nI md, nn, st, a) (nI i) (nI j) (nI k) := by
      intro post K
      refine hY post ?_
      by_cases fi : i % 128 = 120
      · simp only [wY_together_71, tf_Ycode_t ci, tf_Ynone hi, tf_Yinf hi, tf_Yzero hi, tf_Ycode_t cj, tf_Ynone hj, tf_Yinf hj, tf_Yzero hj, tf_Ycode_t ck, tf_Ynone hk, tf_Yinf hk, tf_Yzero hk, if_pos fi, tf_c10, eq_self, true_imp_iff, false_imp_iff, not_true_eq_false, not_false_eq_true, true_and, and_true, forall_eq]
        exact K
      · have fj : j % 128 = 120 := by omega
        simp only [wY_together_71, tf_Ycode_t ci, tf_Ynone hi, tf_Yinf hi, tf_Yzero hi, tf_Ycode_t cj, tf_Ynone hj, tf_Yinf hj, tf_Yzero hj, tf_Ycode_t ck, tf_Ynone hk, tf_Yinf hk, tf_Yzero hk, if_neg fi, if_pos fj, tf_c10, eq_self, true_imp_iff, false_imp_iff, not_true_eq_false, not_false_eq_true, true_and, and_true, forall_eq]
        exact K
    by_cases bad : (i % 128 = 0 ∨ j % 128 = 0) ∨ (k % 128 = 120 ∧ ¬ k / 128 = tf_sx i j)
    · refine ⟨124, nn ||| 4, sg, fr, ex, by decide, fun post K => hX51 post ?_, fun post K => hY89 post ?_⟩
      · by_cases zi : i % 128 = 0
        · simp only [wX_productSum_51, wX_productSum_84, wpX_senseless, tf_Xnone hi, tf_Xinf hi, tf_Xzero hi, tf_Xnone hj, tf_Xinf hj, tf_Xzero hj, tf_Xnone hk, tf_Xinf hk, tf_Xzero hk, if_pos zi, tf_c10, eq_self, true_imp_iff, false_imp_iff, not_true_eq_false, not_false_eq_true, true_and, and_true, forall_eq]
          exact K
        by_cases zj : j % 128 = 0
        · simp only [wX_productSum_51, wX_productSum_84, wpX_senseless, tf_Xnone hi, tf_Xinf hi, tf_Xzero hi, tf_Xnone hj, tf_Xinf hj, tf_Xzero hj, tf_Xnone hk, tf_Xinf hk, tf_Xzero hk, if_neg zi, if_pos zj, tf_c10, eq_self, true_imp_iff, false_imp_iff, not_true_eq_false, not_false_eq_true, true_and, and_true, forall_eq]
          exact K
        have fk : k % 128 = 120 ∧ ¬ k / 128 = tf_sx i j := by omega
        simp only [wX_productSum_51, wX_productSum_84, wpX_senseless, tf_Xnone hi, tf_Xinf hi, tf_Xzero hi, tf_Xnone hj, tf_Xinf hj, tf_Xzero hj, tf_Xnone hk, tf_Xinf hk, tf_Xzero hk, if_neg zi, if_neg zj, if_pos fk.1, eX, fk.2, tf_c10, eq_self, true_imp_iff, false_imp_iff, not_true_eq_false, not_false_eq_true, true_and, and_true, forall_eq]
        exact K
      · have hsens : ∀ z0 : Int32, ((i % 128 = 0 ∨ j % 128 = 0) ∨ z0 = 1) → wY_together_118 post (nI i) (nI j) (nI (128 * tf_sx i j + 120)) z0 (nI md) nn st a := by
          intro z0 hz
          by_cases zi : i % 128 = 0
          · simp only [wY_together_118, wY_together_141, wpY_senseless, tf_Ycode_t ci, tf_Ynone hi, tf_Yinf hi, tf_Yzero hi, tf_Ycode_t cj, tf_Ynone hj, tf_Yinf hj, tf_Yzero hj, tf_Ycode_t ck, tf_Ynone hk, tf_Yinf hk, tf_Yzero hk, if_pos zi, tf_c10, eq_self, true_imp_iff, false_imp_iff, not_true_eq_false, not_false_eq_true, true_and, and_true, forall_eq]
            exact K
          by_cases zj : j % 128 = 0
          · simp only [wY_together_118, wY_together_141, wpY_senseless, tf_Ycode_t ci, tf_Ynone hi, tf_Yinf hi, tf_Yzero hi, tf_Ycode_t cj, tf_Ynone hj, tf_Yinf hj, tf_Yzero hj, tf_Ycode_t ck, tf_Ynone hk, tf_Yinf hk, tf_Yzero hk, if_neg zi, if_pos zj, tf_c10, eq_self, true_imp_iff, false_imp_iff, not_true_eq_false, not_false_eq_true, true_and, and_true, forall_eq]
            exact K
          have hz1 : z0 = 1 := by
            rcases hz with (z | z) | z
            · exact absurd z zi
            · exact absurd z zj
            · exact z
          subst hz1
          simp only [wY_together_118, wY_together_141, wpY_senseless, tf_Ycode_t ci, tf_Ynone hi, tf_Yinf hi, tf_Yzero hi, tf_Ycode_t cj, tf_Ynone hj, tf_Yinf hj, tf_Yzero hj, tf_Ycode_t ck, tf_Ynone hk, tf_Yinf hk, tf_Yzero hk, if_neg zi, if_neg zj, tf_c10, eq_self, true_imp_iff, false_imp_iff, not_true_eq_false, not_false_eq_true, true_and, and_true, forall_eq]
          exact K
        simp only [wY_together_89, wY_together_117, tf_Ysigned hsx, tf_Yinf hk, eY]
        by_cases fk : k % 128 = 120
        · simp only [if_pos fk, tf_c10, eq_self, true_imp_iff, false_imp_iff, not_true_eq_false, not_false_eq_true, true_and, and_true, forall_eq]
          by_cases e : k = 128 * tf_sx i j + 120
          · refine br_t e (hsens 0 (Or.inl ?_))
            omega
          · exact br_f e (hsens 1 (Or.inr rfl))
        · simp only [if_neg fk, tf_c10, eq_self, true_imp_iff, false_imp_iff, not_true_eq_false, not_false_eq_true, true_and, and_true, forall_eq]
          exact hsens 0 (Or.inl (by omega))
    · have zi : ¬ i % 128 = 0 := by omega
      have zj : ¬ j % 128 = 0 := by omega
      refine ⟨128 * tf_sx i j + 120, nn, sg, fr, ex, by omega, fun post K => hX51 post ?_, fun post K => hY89 post ?_⟩
      · by_cases fk : k % 128 = 120
        · have e : k / 128 = tf_sx i j := by omega
          simp only [wX_productSum_51, tf_Xnone hi, tf_Xinf hi, tf_Xzero hi, tf_Xnone hj, tf_Xinf hj, tf_Xzero hj, tf_Xnone hk, tf_Xinf hk, tf_Xzero hk, if_neg zi, if_neg zj, if_pos fk, eX, eq_true e, tf_e4, tf_c10, eq_self, true_imp_iff, false_imp_iff, not_true_eq_false, not_false_eq_true, true_and, and_true, forall_eq]
          exact K
        · simp only [wX_productSum_51, tf_Xnone hi, tf_Xinf hi, tf_Xzero hi, tf_Xnone hj, tf_Xinf hj, tf_Xzero hj, tf_Xnone hk, tf_Xinf hk, tf_Xzero hk, if_neg zi, if_neg zj, if_neg fk, tf_e4, tf_c10, eq_self, true_imp_iff, false_imp_iff, not_true_eq_false, not_false_eq_true, true_and, and_true, forall_eq]
          exact K
      · by_cases fk : k % 128 = 120
        · have e : k = 128 * tf_sx i j + 120 := by omega
          simp only [wY_together_89, wY_together_117, wY_together_118, tf_Ysigned hsx, tf_Ycode_t ci, tf_Ynone hi, tf_Yinf hi, tf_Yzero hi, tf_Ycode_t cj, tf_Ynone hj, tf_Yinf hj, tf_Yzero hj, tf_Ycode_t ck, tf_Ynone hk, tf_Yinf hk, tf_Yzero hk, eY, if_neg zi, if_neg zj, if_pos fk, eq_true e, tf_c10, eq_self, true_imp_iff, false_imp_iff, not_true_eq_false, not_false_eq_true, true_and, and_true, forall_eq]
          exact K
        · simp only [wY_together_89, wY_together_117, wY_together_118, tf_Ysigned hsx, tf_Ycode_t ci, tf_Ynone hi, tf_Yinf hi, tf_Yzero hi, tf_Ycode_t cj, tf_Ynone hj, tf_Yinf hj, tf_Yzero hj, tf_Ycode_t ck, tf_Ynone hk, tf_Yinf hk, tf_Yzero hk, if_neg zi, if_neg zj, if_neg fk, tf_c10, eq_self, true_imp_iff, false_imp_iff, not_true_eq_false, not_false_eq_true, true_and, and_true, forall_eq]
          exact K
  have fi : ¬ i % 128 = 120 := fun z => fin (Or.inl z)
  have fj : ¬ j % 128 = 120 := fun z => fin (Or.inr z)
  by_cases fk : k % 128 = 120
  · refine ⟨k, nn, sg, fr, ex, hk, fun post K => ?_, fun post K => hY post ?_⟩
    · simp only [wpX_productSum, tf_Xnone hi, tf_Xinf hi, tf_Xzero hi, tf_Xnone hj, tf_Xinf hj, tf_Xzero hj, tf_Xnone hk, tf_Xinf hk, tf_Xzero hk, if_neg ni, if_neg nj, if_neg nk, if_neg fi, if_neg fj, if_pos fk, tf_c10, eq_self, true_imp_iff, false_imp_iff, not_true_eq_false, not_false_eq_true, true_and, and_true, forall_eq]
      exact K
    · simp only [wY_together_71, tf_Ycode_t ci, tf_Ynone hi, tf_Yinf hi, tf_Yzero hi, tf_Ycode_t cj, tf_Ynone hj, tf_Yinf hj, tf_Yzero hj, tf_Ycode_t ck, tf_Ynone hk, tf_Yinf hk, tf_Yzero hk, if_neg fi, if_neg fj, if_pos fk, tf_c10, eq_self, true_imp_iff, false_imp_iff, not_true_eq_false, not_false_eq_true, true_and, and_true, forall_eq]
      exact K
  obtain ⟨u1, u2, u3, u4⟩ := tf_unp i (by omega) (by omega)
  obtain ⟨v1, v2, v3, v4⟩ := tf_unp j (by omega) (by omega)
  obtain ⟨w1, w2, w3, w4⟩ := tf_unp k (by omega) (by omega)
  have bi := tf_max (c := i % 128) (by omega)
  have bj := tf_max (c := j % 128) (by omega)
  have bf : tf_fr i * tf_fr j ≤ 15 * 15 := Nat.mul_le_mul u3 v3
  have bA : tf_size (i % 128) * tf_size (j % 128) ≤ 131072 * 131072 := Nat.mul_le_mul bi bj
  have hf0 : lN (tf_fr i * tf_fr j) = 0 ↔ tf_fr i * tf_fr j = 0 := pk_lEQ (b := 0) (by omega) (by decide)
  have hk0 : lN (tf_fr k) = 0 ↔ k % 128 = 0 := (pk_lEQ (b := 0) (by omega) (by decide)).trans w4
  have hYf : ∀ post : Int32 → SY → Prop, wpY_finiteSum post (nI md, nn, st, a) (tf_sL (tf_sx i j) (tf_size (i % 128) * tf_size (j % 128))) (lN 512) (nI (tf_sx i j)) (nI k) → wpY_together post (nI md, nn, st, a) (nI i) (nI j) (nI k) := by
    intro post K
    refine hY post ?_
    have ii : vp_in (nI (i % 128)) 121 := vp_in_nI (by omega) (by decide)
    have ij : vp_in (nI (j % 128)) 121 := vp_in_nI (by omega) (by decide)
    simp only [wY_together_71, wY_together_200, tf_Ycode_t ci, tf_Ynone hi, tf_Yinf hi, tf_Yzero hi, tf_Ycode_t cj, tf_Ynone hj, tf_Yinf hj, tf_Yzero hj, tf_Ycode_t ck, tf_Ynone hk, tf_Yinf hk, tf_Yzero hk, if_neg fi, if_neg fj, if_neg fk, tf_r128 hi, tf_r128 hj, tf_tbl ha (c := i % 128) (by omega), tf_tbl ha (c := j % 128) (by omega), lN_mul, tf_c128, ii, ij, tf_c10, eq_self, true_imp_iff, false_imp_iff, not_true_eq_false, not_false_eq_true, true_and, and_true, forall_eq]
    rcases (show tf_sx i j = 0 ∨ tf_sx i j = 1 by omega) with e | e
    · rw [e] at K ⊢
      exact br_t rfl K
    · rw [e] at K ⊢
      exact br_f tf_c10 K
  have hfE := tf_prod (B := 512) rfl (show tf_size (i % 128) * tf_size (j % 128) = tf_fr i * 2 ^ tf_ex i * (tf_fr j * 2 ^ tf_ex j) by rw [u1, v1])
  by_cases z : tf_fr i * tf_fr j = 0 ∧ k % 128 = 0
  · refine ⟨if tf_sx i j = k / 128 then 128 * tf_sx i j else if md = 3 then 128 else 0, nn, nI (k / 128), lN (tf_fr k), nI (tf_ex k), tf_zs_le hsx, fun post K => ?_, fun post K => hYf post ?_⟩
    · have es : nI (tf_sx i j) = nI (k / 128) ↔ tf_sx i j = k / 128 := nI_eq (by omega) (by omega)
      simp only [wpX_productSum, wpX_zeroSum, tf_Xnone hi, tf_Xinf hi, tf_Xzero hi, tf_Xnone hj, tf_Xinf hj, tf_Xzero hj, tf_Xnone hk, tf_Xinf hk, tf_Xzero hk, if_neg ni, if_neg nj, if_neg nk, if_neg fi, if_neg fj, if_neg fk, tf_Xunp hi, tf_Xunp hj, tf_Xunp hk, hx7, lN_mul, eq_true (hf0.mpr z.1), eq_true (hk0.mpr z.2), tf_i3 (show md < 2 ^ 31 by omega), es, tf_e5, tf_c10, eq_self, true_imp_iff, false_imp_iff, not_true_eq_false, not_false_eq_true, true_and, and_true, forall_eq]
      by_cases e : tf_sx i j = k / 128
      · rw [if_pos e] at K
        exact br_t e K
      · rw [if_neg e] at K
        refine br_f e ?_
        by_cases m : md = 3
        · rw [if_pos m] at K
          exact br_t m K
        · rw [if_neg m] at K
          exact br_f m K
    · refine tf_Yfsz ha hmd hsx hk z.2 ?_ K
      have : tf_fr i * tf_fr j * 2 ^ (tf_ex i + tf_ex j + 7) * 512 = 0 := by rw [z.1, Nat.zero_mul, Nat.zero_mul]
      omega
  · refine tf_Jm (tf_JaddUp (f := tf_fr i * tf_fr j) (E := tf_ex i + tf_ex j + 7) (A1 := tf_size (i % 128) * tf_size (j % 128)) (B := 512) (s1 := tf_sx i j) (c := k) (nn := nn) ha hmd hsx hk (by omega) (by omega) (by omega) (by omega) (by decide) (by decide) (by omega) hfE z) (fun post K => ?_) (fun post K => hYf post K)
    simp only [wpX_productSum, wX_productSum_184, tf_Xnone hi, tf_Xinf hi, tf_Xzero hi, tf_Xnone hj, tf_Xinf hj, tf_Xzero hj, tf_Xnone hk, tf_Xinf hk, tf_Xzero hk, if_neg ni, if_neg nj, if_neg nk, if_neg fi, if_neg fj, if_neg fk, tf_Xunp hi, tf_Xunp hj, tf_Xunp hk, hx7, lN_mul, hf0, hk0, tf_pw9, tf_c10, eq_self, true_imp_iff, false_imp_iff, not_true_eq_false, not_false_eq_true, true_and, and_true, forall_eq]
    by_cases zf : tf_fr i * tf_fr j = 0
    · exact br_t zf (br_f (fun q => z ⟨zf, q⟩) K)
    · exact br_f zf K
end
section
/-! products, quotients -/
theorem tf_Jmul {md i j : Nat} {nn st sg : Int32} {fr : Int64} {ex : Int32} {a : Nat → Int32} (ha : tf_Tab a) (hmd : md ≤ 3) (hi : i ≤ 255) (hj : j ≤ 255) :
    tf_J md st a (fun post => wpX_multiply post (nI md, nn, st, sg, fr, ex) (nI i) (nI j)) (fun post => wpY_multiply post (nI md, nn, st, a) (nI i) (nI j)) := by
  have ci := tf_cd_nI hi
  have cj := tf_cd_nI hj
  by_cases ni : 120 < i % 128
  · refine ⟨124, nn, sg, fr, ex, by decide, fun post K => ?_, fun post K => ?_⟩
    · simp only [wpX_multiply, tf_Xbad_f ci, tf_Xbad_f cj, tf_Xnone hi, tf_Xinf hi, tf_Xzero hi, if_pos ni, tf_c10, eq_self, true_imp_iff, false_imp_iff, not_true_eq_false, not_false_eq_true, true_and, and_true, forall_eq]
      exact K
    · simp only [wpY_multiply, tf_Ycode_t ci, tf_Ynone hi, tf_Yinf hi, tf_Yzero hi, tf_Ycode_t cj, tf_Ynone hj, tf_Yinf hj, tf_Yzero hj, if_pos ni, tf_c10, eq_self, true_imp_iff, false_imp_iff, not_true_eq_false, not_false_eq_true, true_and, and_true, forall_eq]
      exact K
  by_cases nj : 120 < j % 128
  · refine ⟨124, nn, sg, fr, ex, by decide, fun post K => ?_, fun post K => ?_⟩
    · simp only [wpX_multiply, tf_Xbad_f ci, tf_Xbad_f cj, tf_Xnone hi, tf_Xinf hi, tf_Xzero hi, tf_Xnone hj, tf_Xinf hj, tf_Xzero hj, if_neg ni, if_pos nj, tf_c10, eq_self, true_imp_iff, false_imp_iff, not_true_eq_false, not_false_eq_true, true_and, and_true, forall_eq]
      exact K
    · simp only [wpY_multiply, tf_Ycode_t ci, tf_Ynone hi, tf_Yinf hi, tf_Yzero hi, tf_Ycode_t cj, tf_Ynone hj, tf_Yinf hj, tf_Yzero hj, if_neg ni, if_pos nj, tf_c10, eq_self, true_imp_iff, false_imp_iff, not_true_eq_false, not_false_eq_true, true_and, and_true, forall_eq]
      exact K
  have eneg : nI (i / 128) = nI (j / 128) ↔ i / 128 = j / 128 := nI_eq (by omega) (by omega)
  have hsx := tf_sx_le i j
  have hY : ∀ post : Int32 → SY → Prop, wY_multiply_55 post (nI i) (nI j) (nI (tf_sx i j)) (nI md) nn st a → wpY_multiply post (nI md, nn, st, a) (nI i) (nI j) := by
    intro post K
    simp only [wpY_multiply, tf_Ycode_t ci, tf_Ynone hi, tf_Yinf hi, tf_Yzero hi, tf_Ycode_t cj, tf_Ynone hj, tf_Yinf hj, tf_Yzero hj, if_neg ni, if_neg nj, tf_Yneg hi, tf_Yneg hj, eneg, tf_c10, eq_self, true_imp_iff, false_imp_iff, not_true_eq_false, not_false_eq_true, true_and, and_true, forall_eq]
    unfold tf_sx at K
    by_cases e : i / 128 = j / 128
    · rw [if_pos e] at K
      exact br_t e K
    · rw [if_neg e] at K
      exact br_f e K
  have hx7 := tf_xor7 hi hj
  by_cases fin : i % 128 = 120 ∨ j % 128 = 120
  · have hX60 : ∀ post : Int32 → SX → Prop, wX_multiply_60 post (nI i) (nI j) (nI (tf_sx i j)) (nI md) nn st sg fr ex → wpX_multiply post (nI md, nn, st, sg, fr, ex) (nI i) (nI j) := by
      intro post K
      by_cases fi : i % 128 = 120
      · simp only [wpX_multiply, tf_Xbad_f ci, tf_Xbad_f cj, tf_Xnone hi, tf_Xinf hi, tf_Xzero hi, tf_Xnone hj, tf_Xinf hj, tf_Xzero hj, if_neg ni, if_neg nj, if_pos fi, hx7, tf_c10, eq_self, true_imp_iff, false_imp_iff, not_true_eq_false, not_false_eq_true, true_and, and_true, forall_eq]
        exact K
      · have fj : j % 128 = 120 := by omega
        simp only [wpX_multiply, tf_Xbad_f ci, tf_Xbad_f cj, tf_Xnone hi, tf_Xinf hi, tf_Xzero hi, tf_Xnone hj, tf_Xinf hj, tf_Xzero hj, if_neg ni, if_neg nj, if_neg fi, if_pos fj, hx7, tf_c10, eq_self, true_imp_iff, false_imp_iff, not_true_eq_false, not_false_eq_true, true_and, and_true, forall_eq]
        exact K
    have hY72 : ∀ post : Int32 → SY → Prop, wY_multiply_72 post (nI i) (nI j) (nI (tf_sx i j)) (nI md) nn st a → wpY_multiply post (nI md, nn, st, a) (nI i) (nI j) := by
      intro post K
      refine hY post ?_
      by_cases fi : i % 128 = 120
      · simp only [wY_multiply_55, tf_Ycode_t ci, tf_Ynone hi, tf_Yinf hi, tf_Yzero hi, tf_Ycode_t cj, tf_Ynone hj, tf_Yinf hj, tf_Yzero hj, if_pos fi, tf_c10, eq_self, true_imp_iff, false_imp_iff, not_true_eq_false, not_false_eq_true, true_and, and_true, forall_eq]
        exact K
      · have fj : j % 128 = 120 := by omega
        simp only [wY_multiply_55, tf_Ycode_t ci, tf_Ynone hi, tf_Yinf hi, tf_Yzero hi, tf_Ycode_t cj, tf_Ynone hj, tf_Yinf hj, tf_Yzero hj, if_neg fi, if_pos fj, tf_c10, eq_self, true_imp_iff, false_imp_iff, not_true_eq_false, not_false_eq_true, true_and, and_true, forall_eq]
        exact K
    by_cases zi : i % 128 = 0
    · refine ⟨124, nn ||| 4, sg, fr, ex, by decide, fun post K => hX60 post ?_, fun post K => hY72 post ?_⟩
      · simp only [wX_multiply_60, wX_multiply_76, wpX_senseless, tf_Xnone hi, tf_Xinf hi, tf_Xzero hi, tf_Xnone hj, tf_Xinf hj, tf_Xzero hj, if_pos zi, tf_c10, eq_self, true_imp_iff, false_imp_iff, not_true_eq_false, not_false_eq_true, true_and, and_true, forall_eq]
        exact K
      · simp only [wY_multiply_72, wY_multiply_88, wpY_senseless, tf_Ycode_t ci, tf_Ynone hi, tf_Yinf hi, tf_Yzero hi, tf_Ycode_t cj, tf_Ynone hj, tf_Yinf hj, tf_Yzero hj, if_pos zi, tf_c10, eq_self, true_imp_iff, false_imp_iff, not_true_eq_false, not_false_eq_true, true_and, and_true, forall_eq]
        exact K
    by_cases zj : j % 128 = 0
    · refine ⟨124, nn ||| 4, sg, fr, ex, by decide, fun post K => hX60 post ?_, fun post K => hY72 post ?_⟩
      · simp only [wX_multiply_60, wX_multiply_76, wpX_senseless, tf_Xnone hi, tf_Xinf hi, tf_Xzero hi, tf_Xnone hj, tf_Xinf hj, tf_Xzero hj, if_neg zi, if_pos zj, tf_c10, eq_self, true_imp_iff, false_imp_iff, not_true_eq_false, not_false_eq_true, true_and, and_true, forall_eq]
        exact K
      · simp only [wY_multiply_72, wY_multiply_88, wpY_senseless, tf_Ycode_t ci, tf_Ynone hi, tf_Yinf hi, tf_Yzero hi, tf_Ycode_t cj, tf_Ynone hj, tf_Yinf hj, tf_Yzero hj, if_neg zi, if_pos zj, tf_c10, eq_self, true_imp_iff, false_imp_iff, not_true_eq_false, not_false_eq_true, true_and, and_true, forall_eq]
        exact K
    · refine ⟨128 * tf_sx i j + 120, nn, sg, fr, ex, by omega, fun post K => hX60 post ?_, fun post K => hY72 post ?_⟩
      · simp only [wX_multiply_60, tf_Xnone hi, tf_Xinf hi, tf_Xzero hi, tf_Xnone hj, tf_Xinf hj, tf_Xzero hj, if_neg zi, if_neg zj, tf_e4, tf_c10, eq_self, true_imp_iff, false_imp_iff, not_true_eq_false, not_false_eq_true, true_and, and_true, forall_eq]
        exact K
      · simp only [wY_multiply_72, tf_Ysigned hsx, tf_Ycode_t ci, tf_Ynone hi, tf_Yinf hi, tf_Yzero hi, tf_Ycode_t cj, tf_Ynone hj, tf_Yinf hj, tf_Yzero hj, if_neg zi, if_neg zj, tf_c10, eq_self, true_imp_iff, false_imp_iff, not_true_eq_false, not_false_eq_true, true_and, and_true, forall_eq]
        exact K
  have fi : ¬ i % 128 = 120 := fun z => fin (Or.inl z)
  have fj : ¬ j % 128 = 120 := fun z => fin (Or.inr z)
  obtain ⟨u1, u2, u3, u4⟩ := tf_unp i (by omega) (by omega)
  obtain ⟨v1, v2, v3, v4⟩ := tf_unp j (by omega) (by omega)
  have bi := tf_max (c := i % 128) (by omega)
  have bj := tf_max (c := j % 128) (by omega)
  have bf : tf_fr i * tf_fr j ≤ 15 * 15 := Nat.mul_le_mul u3 v3
  have bA : tf_size (i % 128) * tf_size (j % 128) ≤ 131072 * 131072 := Nat.mul_le_mul bi bj
  have hfE := tf_prod (B := 512) rfl (show tf_size (i % 128) * tf_size (j % 128) = tf_fr i * 2 ^ tf_ex i * (tf_fr j * 2 ^ tf_ex j) by rw [u1, v1])
  have ii : vp_in (nI (i % 128)) 121 := vp_in_nI (by omega) (by decide)
  have ij : vp_in (nI (j % 128)) 121 := vp_in_nI (by omega) (by decide)
  have hA0 : lN (tf_size (i % 128) * tf_size (j % 128)) = 0 ↔ tf_size (i % 128) * tf_size (j % 128) = 0 := pk_lEQ (b := 0) (by omega) (by decide)
  have hAf : tf_size (i % 128) * tf_size (j % 128) = 0 ↔ tf_fr i * tf_fr j = 0 := by
    have p0 : 0 < 2 ^ (tf_ex i + tf_ex j + 7) := Nat.two_pow_pos _
    constructor
    · intro z
      rw [z] at hfE
      rcases Nat.mul_eq_zero.mp hfE with q | q
      · rcases Nat.mul_eq_zero.mp q with q | q
        · exact q
        · omega
      · omega
    · intro z
      rw [z, Nat.zero_mul, Nat.zero_mul] at hfE
      omega
  by_cases z : i % 128 = 0 ∨ j % 128 = 0
  · have hz : tf_fr i * tf_fr j = 0 := by
      rcases z with z | z
      · rw [u4.mpr z, Nat.zero_mul]
      · rw [v4.mpr z, Nat.mul_zero]
    refine ⟨128 * tf_sx i j, nn, sg, fr, ex, by omega, fun post K => ?_, fun post K => hY post ?_⟩
    · by_cases zi : i % 128 = 0
      · simp only [wpX_multiply, tf_Xbad_f ci, tf_Xbad_f cj, tf_Xnone hi, tf_Xinf hi, tf_Xzero hi, tf_Xnone hj, tf_Xinf hj, tf_Xzero hj, if_neg ni, if_neg nj, if_neg fi, if_neg fj, if_pos zi, hx7, tf_e5, tf_c10, eq_self, true_imp_iff, false_imp_iff, not_true_eq_false, not_false_eq_true, true_and, and_true, forall_eq]
        exact K
      · have zj : j % 128 = 0 := by omega
        simp only [wpX_multiply, tf_Xbad_f ci, tf_Xbad_f cj, tf_Xnone hi, tf_Xinf hi, tf_Xzero hi, tf_Xnone hj, tf_Xinf hj, tf_Xzero hj, if_neg ni, if_neg nj, if_neg fi, if_neg fj, if_neg zi, if_pos zj, hx7, tf_e5, tf_c10, eq_self, true_imp_iff, false_imp_iff, not_true_eq_false, not_false_eq_true, true_and, and_true, forall_eq]
        exact K
    · simp only [wY_multiply_55, tf_Ycode_t ci, tf_Ynone hi, tf_Yinf hi, tf_Yzero hi, tf_Ycode_t cj, tf_Ynone hj, tf_Yinf hj, tf_Yzero hj, if_neg fi, if_neg fj, tf_r128 hi, tf_r128 hj, tf_tbl ha (c := i % 128) (by omega), tf_tbl ha (c := j % 128) (by omega), lN_mul, tf_c128, ii, ij, eq_true (hA0.mpr (hAf.mpr hz)), tf_Yzer hsx, tf_c10, eq_self, true_imp_iff, false_imp_iff, not_true_eq_false, not_false_eq_true, true_and, and_true, forall_eq]
      exact K
  · have zi : ¬ i % 128 = 0 := fun q => z (Or.inl q)
    have zj : ¬ j % 128 = 0 := fun q => z (Or.inr q)
    have hf1 : tf_fr i * tf_fr j ≠ 0 := Nat.mul_ne_zero (fun q => zi (u4.mp q)) (fun q => zj (v4.mp q))
    have hA1 : ¬ lN (tf_size (i % 128) * tf_size (j % 128)) = 0 := fun q => hf1 (hAf.mp (hA0.mp q))
    refine tf_Jm (tf_Jround (A := tf_size (i % 128) * tf_size (j % 128)) (B := 512) (f := tf_fr i * tf_fr j) (sk := 0) (P := tf_ex i + tf_ex j + 7) (s := tf_sx i j) (nn := nn) (sg := nI (j / 128)) (fr := lN (tf_fr j)) (ex := nI (tf_ex j)) ha (by omega) (by decide) (by decide) hmd hsx (by omega) (by omega) (by decide) (fun _ => ⟨by omega, fun _ => rfl⟩) (tf_Inv0 hfE)) (fun post K => ?_) (fun post K => hY post ?_)
    · simp only [wpX_multiply, tf_Xbad_f ci, tf_Xbad_f cj, tf_Xnone hi, tf_Xinf hi, tf_Xzero hi, tf_Xnone hj, tf_Xinf hj, tf_Xzero hj, if_neg ni, if_neg nj, if_neg fi, if_neg fj, if_neg zi, if_neg zj, hx7, tf_Xunp hi, tf_Xunp hj, lN_mul, tf_pw9, tf_c10, eq_self, true_imp_iff, false_imp_iff, not_true_eq_false, not_false_eq_true, true_and, and_true, forall_eq]
      exact K
    · simp only [wY_multiply_55, tf_Ycode_t ci, tf_Ynone hi, tf_Yinf hi, tf_Yzero hi, tf_Ycode_t cj, tf_Ynone hj, tf_Yinf hj, tf_Yzero hj, if_neg fi, if_neg fj, tf_r128 hi, tf_r128 hj, tf_tbl ha (c := i % 128) (by omega), tf_tbl ha (c := j % 128) (by omega), lN_mul, tf_c128, ii, ij, hA1, tf_c10, eq_self, true_imp_iff, false_imp_iff, not_true_eq_false, not_false_eq_true, true_and, and_true, forall_eq]
      exact K
theorem tf_pwd {ea eb : Nat} (h : eb ≤ ea + 13) : (nI ea - 12 - nI eb) + 9 = tf_pw (ea + 13 - eb) := by
  unfold tf_pw
  rw [← pk_sub h, ← nI_add ea 13, show nI 13 = (13 : Int32) from rfl]
  grind
theorem tf_InvD {fa ea G eb W : Nat} (hG : 0 < G) (hG2 : G ≤ 15) (hfa : 1 ≤ fa) (he : eb ≤ ea + 13) (hW : W = 131072 * (512 * (fa * 2 ^ ea))) :
    tf_Inv (fun m => m * (G * 2 ^ eb)) W (fa * 2 ^ 12 / G) 0 (if fa * 2 ^ 12 % G = 0 then 0 else 1) (ea + 13 - eb) := by
  have dm := Nat.div_add_mod (fa * 2 ^ 12) G
  have ml := Nat.mod_lt (fa * 2 ^ 12) hG
  have hq : 15 < fa * 2 ^ 12 / G := by
    have : 16 ≤ fa * 2 ^ 12 / G := (Nat.le_div_iff_mul_le hG).mpr (by omega)
    omega
  have hN : 2 ^ (ea + 13 - eb) * 2 ^ eb = 8192 * 2 ^ ea := by
    rw [← Nat.pow_add, Nat.sub_add_cancel he, Nat.pow_add, Nat.mul_comm]
  have n0 : 0 < 2 * (8192 * 2 ^ ea) := by have := Nat.two_pow_pos ea; omega
  have e1 : ∀ x, 2 * x * 2 ^ (ea + 13 - eb) * (G * 2 ^ eb) = G * x * (2 * (8192 * 2 ^ ea)) := by
    intro x
    rw [← hN]
    generalize 2 ^ (ea + 13 - eb) = p
    generalize 2 ^ eb = y
    grind
  have eW : W = fa * 2 ^ 12 * (2 * (8192 * 2 ^ ea)) := by
    rw [hW]
    generalize 2 ^ ea = x
    grind
  have es : G * (fa * 2 ^ 12 / G + 1) = G * (fa * 2 ^ 12 / G) + G := by rw [Nat.mul_add, Nat.mul_one]
  unfold tf_Inv
  dsimp only
  rw [Nat.add_zero, show 2 * (fa * 2 ^ 12 / G) + 2 = 2 * (fa * 2 ^ 12 / G + 1) by omega, e1, e1, eW]
  generalize 2 * (8192 * 2 ^ ea) = N at *
  by_cases h : fa * 2 ^ 12 % G = 0
  · rw [if_pos h]
    refine ⟨fun _ => ?_, fun z => absurd z (by decide)⟩
    rw [show G * (fa * 2 ^ 12 / G) = fa * 2 ^ 12 by omega]
  · rw [if_neg h]
    refine ⟨fun z => absurd z (by decide), fun _ => ⟨Nat.mul_lt_mul_of_pos_right (by omega) n0, Nat.mul_lt_mul_of_pos_right (by omega) n0, fun z => by omega⟩⟩
theorem tf_Jdiv {md i j : Nat} {nn st sg : Int32} {fr : Int64} {ex : Int32} {a : Nat → Int32} (ha : tf_Tab a) (hmd : md ≤ 3) (hi : i ≤ 255) (hj : j ≤ 255) :
    tf_J md st a (fun post => wpX_divide post (nI md, nn, st, sg, fr, ex) (nI i) (nI j)) (fun post => wpY_divide post (nI md, nn, st, a) (nI i) (nI j)) := by
  have ci := tf_cd_nI hi
  have cj := tf_cd_nI hj
  by_cases ni : 120 < i % 128
  · refine ⟨124, nn, sg, fr, ex, by decide, fun post K => ?_, fun post K => ?_⟩
    · simp only [wpX_divide, tf_Xbad_f ci, tf_Xbad_f cj, tf_Xnone hi, tf_Xinf hi, tf_Xzero hi, if_pos ni, tf_c10, eq_self, true_imp_iff, false_imp_iff, not_true_eq_false, not_false_eq_true, true_and, and_true, forall_eq]
      exact K
    · simp only [wpY_divide, tf_Ycode_t ci, tf_Ynone hi, tf_Yinf hi, tf_Yzero hi, tf_Ycode_t cj, tf_Ynone hj, tf_Yinf hj, tf_Yzero hj, if_pos ni, tf_c10, eq_self, true_imp_iff, false_imp_iff, not_true_eq_false, not_false_eq_true, true_and, and_true, forall_eq]
      exact K
  by_cases nj : 120 < j % 128
  · refine ⟨124, nn, sg, fr, ex, by decide, fun post K => ?_, fun post K => ?_⟩
    · simp only [wpX_divide, tf_Xbad_f ci, tf_Xbad_f cj, tf_Xnone hi, tf_Xinf hi, tf_Xzero hi, tf_Xnone hj, tf_Xinf hj, tf_Xzero hj, if_neg ni, if_pos nj, tf_c10, eq_self, true_imp_iff, false_imp_iff, not_true_eq_false, not_false_eq_true, true_and, and_true, forall_eq]
      exact K
    · simp only [wpY_divide, tf_Ycode_t ci, tf_Ynone hi, tf_Yinf hi, tf_Yzero hi, tf_Ycode_t cj, tf_Ynone hj, tf_Yinf hj, tf_Yzero hj, if_neg ni, if_pos nj, tf_c10, eq_self, true_imp_iff, false_imp_iff, not_true_eq_false, not_false_eq_true, true_and, and_true, forall_eq]
      exact K
  have eneg : nI (i / 128) = nI (j / 128) ↔ i / 128 = j / 128 := nI_eq (by omega) (by omega)
  have hsx := tf_sx_le i j
  have hY : ∀ post : Int32 → SY → Prop, wY_divide_55 post (nI i) (nI j) (nI (tf_sx i j)) (nI md) nn st a → wpY_divide post (nI md, nn, st, a) (nI i) (nI j) := by
    intro post K
    simp only [wpY_divide, tf_Ycode_t ci, tf_Ynone hi, tf_Yinf hi, tf_Yzero hi, tf_Ycode_t cj, tf_Ynone hj, tf_Yinf hj, tf_Yzero hj, if_neg ni, if_neg nj, tf_Yneg hi, tf_Yneg hj, eneg, tf_c10, eq_self, true_imp_iff, false_imp_iff, not_true_eq_false, not_false_eq_true, true_and, and_true, forall_eq]
    unfold tf_sx at K
    by_cases e : i / 128 = j / 128
    · rw [if_pos e] at K
      exact br_t e K
    · rw [if_neg e] at K
      exact br_f e K
  have hx7 := tf_xor7 hi hj
  by_cases zz : i % 128 = 0 ∧ j % 128 = 0
  · refine ⟨124, nn ||| 4, sg, fr, ex, by decide, fun post K => ?_, fun post K => hY post ?_⟩
    · simp only [wpX_divide, wX_divide_76, wpX_senseless, tf_Xbad_f ci, tf_Xbad_f cj, tf_Xnone hi, tf_Xinf hi, tf_Xzero hi, tf_Xnone hj, tf_Xinf hj, tf_Xzero hj, if_neg ni, if_neg nj, if_pos zz.1, if_pos zz.2, hx7, tf_c10, eq_self, true_imp_iff, false_imp_iff, not_true_eq_false, not_false_eq_true, true_and, and_true, forall_eq]
      exact K
    · simp only [wY_divide_55, wY_divide_88, wpY_senseless, tf_Ycode_t ci, tf_Ynone hi, tf_Yinf hi, tf_Yzero hi, tf_Ycode_t cj, tf_Ynone hj, tf_Yinf hj, tf_Yzero hj, if_pos zz.1, if_pos zz.2, tf_c10, eq_self, true_imp_iff, false_imp_iff, not_true_eq_false, not_false_eq_true, true_and, and_true, forall_eq]
      exact K
  have hX60 : ∀ post : Int32 → SX → Prop, wX_divide_60 post (nI i) (nI j) (nI (tf_sx i j)) (nI md) nn st sg fr ex → wpX_divide post (nI md, nn, st, sg, fr, ex) (nI i) (nI j) := by
    intro post K
    by_cases zi : i % 128 = 0
    · have zj : ¬ j % 128 = 0 := fun q => zz ⟨zi, q⟩
      simp only [wpX_divide, tf_Xbad_f ci, tf_Xbad_f cj, tf_Xnone hi, tf_Xinf hi, tf_Xzero hi, tf_Xnone hj, tf_Xinf hj, tf_Xzero hj, if_neg ni, if_neg nj, if_pos zi, if_neg zj, hx7, tf_c10, eq_self, true_imp_iff, false_imp_iff, not_true_eq_false, not_false_eq_true, true_and, and_true, forall_eq]
      exact K
    · simp only [wpX_divide, tf_Xbad_f ci, tf_Xbad_f cj, tf_Xnone hi, tf_Xinf hi, tf_Xzero hi, tf_Xnone hj, tf_Xinf hj, tf_Xzero hj, if_neg ni, if_neg nj, if_neg zi, hx7, tf_c10, eq_self, true_imp_iff, false_imp_iff, not_true_eq_false, not_false_eq_true, true_and, and_true, forall_eq]
      exact K
  have hY72 : ∀ post : Int32 → SY → Prop, wY_divide_72 post (nI i) (nI j) (nI (tf_sx i j)) (nI md) nn st a → wpY_divide post (nI md, nn, st, a) (nI i) (nI j) := by
    intro post K
    refine hY post ?_
    by_cases zi : i % 128 = 0
    · have zj : ¬ j % 128 = 0 := fun q => zz ⟨zi, q⟩
      simp only [wY_divide_55, tf_Ycode_t ci, tf_Ynone hi, tf_Yinf hi, tf_Yzero hi, tf_Ycode_t cj, tf_Ynone hj, tf_Yinf hj, tf_Yzero hj, if_pos zi, if_neg zj, tf_c10, eq_self, true_imp_iff, false_imp_iff, not_true_eq_false, not_false_eq_true, true_and, and_true, forall_eq]
      exact K
    · simp only [wY_divide_55, tf_Ycode_t ci, tf_Ynone hi, tf_Yinf hi, tf_Yzero hi, tf_Ycode_t cj, tf_Ynone hj, tf_Yinf hj, tf_Yzero hj, if_neg zi, tf_c10, eq_self, true_imp_iff, false_imp_iff, not_true_eq_false, not_false_eq_true, true_and, and_true, forall_eq]
      exact K
  by_cases ff : i % 128 = 120 ∧ j % 128 = 120
  · refine ⟨124, nn ||| 4, sg, fr, ex, by decide, fun post K => hX60 post ?_, fun post K => hY72 post ?_⟩
    · simp only [wX_divide_60, wX_divide_76, wpX_senseless, tf_Xnone hi, tf_Xinf hi, tf_Xzero hi, tf_Xnone hj, tf_Xinf hj, tf_Xzero hj, if_pos ff.1, if_pos ff.2, tf_c10, eq_self, true_imp_iff, false_imp_iff, not_true_eq_false, not_false_eq_true, true_and, and_true, forall_eq]
      exact K
    · simp only [wY_divide_72, wY_divide_88, wpY_senseless, tf_Ycode_t ci, tf_Ynone hi, tf_Yinf hi, tf_Yzero hi, tf_Ycode_t cj, tf_Ynone hj, tf_Yinf hj, tf_Yzero hj, if_pos ff.1, if_pos ff.2, tf_c10, eq_self, true_imp_iff, false_imp_iff, not_true_eq_false, not_false_eq_true, true_and, and_true, forall_eq]
      exact K
  by_cases fi : i % 128 = 120
  · have fj : ¬ j % 128 = 120 := fun q => ff ⟨fi, q⟩
    refine ⟨128 * tf_sx i j + 120, nn, sg, fr, ex, by omega, fun post K => hX60 post ?_, fun post K => hY72 post ?_⟩
    · simp only [wX_divide_60, wX_divide_81, tf_Xnone hi, tf_Xinf hi, tf_Xzero hi, tf_Xnone hj, tf_Xinf hj, tf_Xzero hj, if_pos fi, if_neg fj, tf_e4, tf_c10, eq_self, true_imp_iff, false_imp_iff, not_true_eq_false, not_false_eq_true, true_and, and_true, forall_eq]
      exact K
    · simp only [wY_divide_72, wY_divide_93, tf_Ysigned hsx, tf_Ycode_t ci, tf_Ynone hi, tf_Yinf hi, tf_Yzero hi, tf_Ycode_t cj, tf_Ynone hj, tf_Yinf hj, tf_Yzero hj, if_pos fi, if_neg fj, tf_c10, eq_self, true_imp_iff, false_imp_iff, not_true_eq_false, not_false_eq_true, true_and, and_true, forall_eq]
      exact K
  by_cases zf : i % 128 = 0 ∨ j % 128 = 120
  · refine ⟨128 * tf_sx i j, nn, sg, fr, ex, by omega, fun post K => hX60 post ?_, fun post K => hY72 post ?_⟩
    · by_cases zi : i % 128 = 0
      · simp only [wX_divide_60, wX_divide_81, tf_Xnone hi, tf_Xinf hi, tf_Xzero hi, tf_Xnone hj, tf_Xinf hj, tf_Xzero hj, if_neg fi, if_pos zi, tf_e5, tf_c10, eq_self, true_imp_iff, false_imp_iff, not_true_eq_false, not_false_eq_true, true_and, and_true, forall_eq]
        exact K
      · have fj : j % 128 = 120 := by omega
        simp only [wX_divide_60, wX_divide_81, tf_Xnone hi, tf_Xinf hi, tf_Xzero hi, tf_Xnone hj, tf_Xinf hj, tf_Xzero hj, if_neg fi, if_neg zi, if_pos fj, tf_e5, tf_c10, eq_self, true_imp_iff, false_imp_iff, not_true_eq_false, not_false_eq_true, true_and, and_true, forall_eq]
        exact K
    · by_cases fj : j % 128 = 120
      · simp only [wY_divide_72, wY_divide_93, wY_divide_125, tf_Yzer hsx, tf_Ycode_t ci, tf_Ynone hi, tf_Yinf hi, tf_Yzero hi, tf_Ycode_t cj, tf_Ynone hj, tf_Yinf hj, tf_Yzero hj, if_neg fi, if_pos fj, tf_c10, eq_self, true_imp_iff, false_imp_iff, not_true_eq_false, not_false_eq_true, true_and, and_true, forall_eq]
        exact K
      · have zi : i % 128 = 0 := by omega
        simp only [wY_divide_72, wY_divide_93, wY_divide_125, tf_Yzer hsx, tf_Ycode_t ci, tf_Ynone hi, tf_Yinf hi, tf_Yzero hi, tf_Ycode_t cj, tf_Ynone hj, tf_Yinf hj, tf_Yzero hj, if_neg fi, if_neg fj, if_pos zi, tf_c10, eq_self, true_imp_iff, false_imp_iff, not_true_eq_false, not_false_eq_true, true_and, and_true, forall_eq]
        exact K
  have zi : ¬ i % 128 = 0 := fun q => zf (Or.inl q)
  have fj : ¬ j % 128 = 120 := fun q => zf (Or.inr q)
  by_cases zj : j % 128 = 0
  · refine ⟨128 * tf_sx i j + 120, nn ||| 8, sg, fr, ex, by omega, fun post K => hX60 post ?_, fun post K => hY72 post ?_⟩
    · simp only [wX_divide_60, wX_divide_81, tf_Xnone hi, tf_Xinf hi, tf_Xzero hi, tf_Xnone hj, tf_Xinf hj, tf_Xzero hj, if_neg fi, if_neg zi, if_neg fj, if_pos zj, tf_e4, tf_c10, eq_self, true_imp_iff, false_imp_iff, not_true_eq_false, not_false_eq_true, true_and, and_true, forall_eq]
      exact K
    · simp only [wY_divide_72, wY_divide_93, tf_Ysigned hsx, tf_Ycode_t ci, tf_Ynone hi, tf_Yinf hi, tf_Yzero hi, tf_Ycode_t cj, tf_Ynone hj, tf_Yinf hj, tf_Yzero hj, if_neg fi, if_neg fj, if_neg zi, if_pos zj, tf_c10, eq_self, true_imp_iff, false_imp_iff, not_true_eq_false, not_false_eq_true, true_and, and_true, forall_eq]
      exact K
  obtain ⟨u1, u2, u3, u4⟩ := tf_unp i (by omega) (by omega)
  obtain ⟨v1, v2, v3, v4⟩ := tf_unp j (by omega) (by omega)
  have bi := tf_max (c := i % 128) (by omega)
  have bj := tf_max (c := j % 128) (by omega)
  have ii : vp_in (nI (i % 128)) 121 := vp_in_nI (by omega) (by decide)
  have ij : vp_in (nI (j % 128)) 121 := vp_in_nI (by omega) (by decide)
  have hfi : 1 ≤ tf_fr i := by
    have : ¬ tf_fr i = 0 := fun q => zi (u4.mp q)
    omega
  have hfj : 1 ≤ tf_fr j := by
    have : ¬ tf_fr j = 0 := fun q => zj (v4.mp q)
    omega
  have hB0 : 0 < tf_size (j % 128) := by rw [v1]; exact Nat.mul_pos hfj (Nat.two_pow_pos _)
  have hq : tf_fr i * 2 ^ 12 / tf_fr j ≤ tf_fr i * 2 ^ 12 := Nat.div_le_self _ _
  have I := tf_InvD (ea := tf_ex i) (eb := tf_ex j) hfj v3 hfi (by omega) (show 131072 * (512 * tf_size (i % 128)) = 131072 * (512 * (tf_fr i * 2 ^ tf_ex i)) by rw [u1])
  rw [← v1] at I
  have hq8 : 15 < tf_fr i * 2 ^ 12 / tf_fr j := by
    have : 16 ≤ tf_fr i * 2 ^ 12 / tf_fr j := (Nat.le_div_iff_mul_le hfj).mpr (by omega)
    omega
  refine tf_Jm (tf_Jround (A := 512 * tf_size (i % 128)) (B := tf_size (j % 128)) (P := tf_ex i + 13 - tf_ex j) (s := tf_sx i j) (nn := nn) (sg := nI (j / 128)) (fr := lN (tf_fr j)) (ex := nI (tf_ex j)) ha (by omega) hB0 (by omega) hmd hsx (by omega) (by omega) (by split <;> omega) (fun _ => ⟨by omega, fun _ => by omega⟩) I) (fun post K => hX60 post ?_) (fun post K => hY72 post ?_)
  · have e12 : lN (tf_fr i) <<< ((12 : Int32).toInt64 &&& 63) = lN (tf_fr i * 2 ^ 12) := wb_shl (tf_fr i) (k := 12) (by decide)
    have p0 : ¬ lN (tf_fr j) ≤ 0 := fun q => by have := (pk_lLE (b := 0) (by omega) (by decide)).mp q; omega
    have p1 : ¬ lN (tf_fr j) = 0 := fun q => by have := (pk_lEQ (b := 0) (by omega) (by decide)).mp q; omega
    have e13 : lN (tf_fr i * 2 ^ 12) / lN (tf_fr j) = lN (tf_fr i * 2 ^ 12 / tf_fr j) := pk_lDiv (by omega) hfj (by omega)
    have e14 : lN (tf_fr i * 2 ^ 12) - lN (tf_fr i * 2 ^ 12) / lN (tf_fr j) * lN (tf_fr j) = lN (tf_fr i * 2 ^ 12 % tf_fr j) := pk_lRem (by omega) hfj (by omega)
    rw [e13] at e14
    have ml := Nat.mod_lt (tf_fr i * 2 ^ 12) hfj
    have e15 : lN (tf_fr i * 2 ^ 12 % tf_fr j) = 0 ↔ tf_fr i * 2 ^ 12 % tf_fr j = 0 := pk_lEQ (b := 0) (by omega) (by decide)
    simp only [wX_divide_60, wX_divide_81, wX_divide_196, wX_divide_223, wX_divide_224, tf_Xnone hi, tf_Xinf hi, tf_Xzero hi, tf_Xnone hj, tf_Xinf hj, tf_Xzero hj, if_neg fi, if_neg zi, if_neg fj, if_neg zj, tf_Xunp hi, tf_Xunp hj, e12, p0, p1, e14, e13, e15, tf_pwd (show tf_ex j ≤ tf_ex i + 13 by omega), tf_c10, eq_self, true_imp_iff, false_imp_iff, not_true_eq_false, not_false_eq_true, true_and, and_true, forall_eq]
    by_cases h : tf_fr i * 2 ^ 12 % tf_fr j = 0
    · rw [if_pos h] at K
      exact br_t h K
    · rw [if_neg h] at K
      exact br_f h K
  · have e5 : (512 : Int64) * lN (tf_size (i % 128)) = lN (512 * tf_size (i % 128)) := lN_mul 512 _
    simp only [wY_divide_72, wY_divide_93, tf_Ycode_t ci, tf_Ynone hi, tf_Yinf hi, tf_Yzero hi, tf_Ycode_t cj, tf_Ynone hj, tf_Yinf hj, tf_Yzero hj, if_neg fi, if_neg fj, if_neg zi, if_neg zj, tf_r128 hi, tf_r128 hj, tf_tbl ha (c := i % 128) (by omega), tf_tbl ha (c := j % 128) (by omega), e5, tf_c128, ii, ij, tf_c10, eq_self, true_imp_iff, false_imp_iff, not_true_eq_false, not_false_eq_true, true_and, and_true, forall_eq]
    exact K
end
section
/-! roots, whole numbers -/
theorem tf_rt : ∀ e, e < 14 → (e % 2 = 0 → ((nI e + 9 - 16) &&& 1) = 1 ∧ (nI e + 9 - 16 + (-1)) / 2 = tf_pw (12 + e / 2)) ∧ (e % 2 = 1 → ¬ ((nI e + 9 - 16) &&& 1) = 1 ∧ (nI e + 9 - 16) / 2 = tf_pw (13 + e / 2)) := by decide +kernel
theorem tf_pw2 (y : Nat) : 2 ^ (y + y) = 2 ^ y * 2 ^ y := Nat.pow_add 2 y y
theorem tf_Jroot {md i : Nat} {nn st sg : Int32} {fr : Int64} {ex : Int32} {a : Nat → Int32} (ha : tf_Tab a) (hmd : md ≤ 3) (hi : i ≤ 255) :
    tf_J md st a (fun post => wpX_root post (nI md, nn, st, sg, fr, ex) (nI i)) (fun post => wpY_root post (nI md, nn, st, a) (nI i)) := by
  have ci := tf_cd_nI hi
  by_cases ni : 120 < i % 128
  · refine ⟨124, nn, sg, fr, ex, by decide, fun post K => ?_, fun post K => ?_⟩
    · simp only [wpX_root, tf_Xbad_f ci, tf_Xnone hi, tf_Xinf hi, tf_Xzero hi, if_pos ni, tf_c10, eq_self, true_imp_iff, false_imp_iff, not_true_eq_false, not_false_eq_true, true_and, and_true, forall_eq]
      exact K
    · simp only [wpY_root, tf_Ycode_t ci, tf_Ynone hi, tf_Yinf hi, tf_Yzero hi, if_pos ni, tf_c10, eq_self, true_imp_iff, false_imp_iff, not_true_eq_false, not_false_eq_true, true_and, and_true, forall_eq]
      exact K
  by_cases zi : i % 128 = 0
  · refine ⟨i, nn, sg, fr, ex, hi, fun post K => ?_, fun post K => ?_⟩
    · simp only [wpX_root, tf_Xbad_f ci, tf_Xnone hi, tf_Xinf hi, tf_Xzero hi, if_neg ni, if_pos zi, tf_c10, eq_self, true_imp_iff, false_imp_iff, not_true_eq_false, not_false_eq_true, true_and, and_true, forall_eq]
      exact K
    · simp only [wpY_root, tf_Ycode_t ci, tf_Ynone hi, tf_Yinf hi, tf_Yzero hi, if_neg ni, if_pos zi, tf_c10, eq_self, true_imp_iff, false_imp_iff, not_true_eq_false, not_false_eq_true, true_and, and_true, forall_eq]
      exact K
  have e128 : nI i < 128 ↔ i < 128 := nI_ltI (b := 128) (by omega) (by decide)
  have e120 : nI i = 120 ↔ i = 120 := nI_eq (b := 120) (by omega) (by decide)
  have en : nI (i / 128) = 0 ↔ i / 128 = 0 := nI_eq (b := 0) (by omega) (by decide)
  by_cases hn : i < 128
  · by_cases fi : i % 128 = 120
    · refine ⟨i, nn, sg, fr, ex, hi, fun post K => ?_, fun post K => ?_⟩
      · simp only [wpX_root, tf_Xbad_f ci, tf_Xnone hi, tf_Xinf hi, tf_Xzero hi, if_neg ni, if_neg zi, if_pos fi, e128, eq_true hn, tf_c10, eq_self, true_imp_iff, false_imp_iff, not_true_eq_false, not_false_eq_true, true_and, and_true, forall_eq]
        exact K
      · simp only [wpY_root, tf_Ycode_t ci, tf_Ynone hi, tf_Yinf hi, tf_Yzero hi, if_neg ni, if_neg zi, e120, eq_true (show i = 120 by omega), tf_c10, eq_self, true_imp_iff, false_imp_iff, not_true_eq_false, not_false_eq_true, true_and, and_true, forall_eq]
        exact K
    obtain ⟨u1, u2, u3, u4⟩ := tf_unp i (by omega) (by omega)
    have bi := tf_max (c := i % 128) (by omega)
    have hfi : 1 ≤ tf_fr i := by
      have : ¬ tf_fr i = 0 := fun q => zi (u4.mp q)
      omega
    have hY : ∀ post : Int32 → SY → Prop, (∃ n, wY_root_65 post (lN (512 * tf_size (i % 128))) (nI md) nn st a n 0) → wpY_root post (nI md, nn, st, a) (nI i) := by
      intro post K
      have ii : vp_in (nI i) 121 := vp_in_nI (by omega) (by decide)
      have em : i % 128 = i := by omega
      have e5 : (512 : Int64) * lN (tf_size i) = lN (512 * tf_size i) := lN_mul 512 _
      rw [em] at K
      simp only [wpY_root, tf_Ycode_t ci, tf_Ynone hi, tf_Yinf hi, tf_Yzero hi, if_neg ni, if_neg zi, e120, eq_false (show ¬ i = 120 by omega), tf_Yneg hi, en, eq_true (show i / 128 = 0 by omega), ii, tf_tbl ha (c := i) (by omega), e5, tf_c10, eq_self, true_imp_iff, false_imp_iff, not_true_eq_false, not_false_eq_true, true_and, and_true, forall_eq]
      exact K
    have fin : ∀ (F P : Nat) (x2 : Int32), F < 2 ^ 22 → 2 ^ 16 ≤ F → P ≤ 40 → 17179869184 * (512 * tf_size (i % 128)) = F * (4 * (2 ^ P * 2 ^ P)) →
        (∀ post : Int32 → SX → Prop, (∃ n, wX_root_100 post x2 (lN F) (nI md) nn st (nI (i / 128)) (lN (tf_fr i)) (nI (tf_ex i)) n 0 12) → wpX_root post (nI md, nn, st, sg, fr, ex) (nI i)) → x2 / 2 = tf_pw P →
        tf_J md st a (fun post => wpX_root post (nI md, nn, st, sg, fr, ex) (nI i)) (fun post => wpY_root post (nI md, nn, st, a) (nI i)) := by
      intro F P x2 hF hF2 hP hW hX hx2
      obtain ⟨R, r1, r2, HR⟩ := tf_X100 hF 13 0 (by decide) (by omega) (by omega)
      have h15 : 15 < R := by
        apply Nat.lt_of_not_le
        intro q
        have := Nat.mul_le_mul (show R + 1 ≤ 16 by omega) (show R + 1 ≤ 16 by omega)
        omega
      have hRF : R < 2048 := tf_sqlt (by omega)
      obtain ⟨c, h, r, gt, Y, H⟩ := tf_Xround tf_Sq (f := R) (sk := if R * R = F then 0 else 1) (P := P) (by omega) hP (by split <;> omega) (fun _ => ⟨by omega, fun _ => by omega⟩) (tf_InvR r1 r2 h15 hW)
      have hc := tf_code_le (md := md) (s := 0) (h := h) (r := r) Y.1
      refine ⟨128 * 0 + tf_code md 0 c h r, _, nI (i / 128), lN (tf_fr i), nI (tf_ex i), by omega, fun post K => hX post ⟨14, ?_⟩, fun post K => hY post (tf_Yroot ha (by omega) hmd Y K)⟩
      have L := HR post x2 (nI md) nn st (nI (i / 128)) (lN (tf_fr i)) (nI (tf_ex i)) (by
        unfold wX_root_156
        rw [hx2]
        exact H post md 0 nn st _ _ _ hmd (by decide) K)
      rw [show lN (0 * 2 ^ 13) = 0 from rfl, show nI 13 + (-1) = 12 from by decide] at L
      exact L
    obtain ⟨t0, t1⟩ := tf_rt (tf_ex i) (by omega)
    have e16 : lN (tf_fr i) <<< ((16 : Int32).toInt64 &&& 63) = lN (tf_fr i * 2 ^ 16) := wb_shl (tf_fr i) (k := 16) (by decide)
    have e17 : lN (tf_fr i * 2 ^ 16) <<< ((1 : Int32).toInt64 &&& 63) = lN (tf_fr i * 2 ^ 16 * 2 ^ 1) := wb_shl (tf_fr i * 2 ^ 16) (k := 1) (by decide)
    by_cases par : tf_ex i % 2 = 0
    · obtain ⟨t2, t3⟩ := t0 par
      refine fin (tf_fr i * 2 ^ 16 * 2 ^ 1) (12 + tf_ex i / 2) (nI (tf_ex i) + 9 - 16 + (-1)) (by omega) (by omega) (by omega) ?_ (fun post K => ?_) t3
      · obtain ⟨y, hy⟩ : ∃ y, tf_ex i = y + y := ⟨tf_ex i / 2, by omega⟩
        rw [u1, hy, show (y + y) / 2 = y by omega, tf_pw2, Nat.pow_add 2 12 y]
        generalize 2 ^ y = q
        grind
      · simp only [wpX_root, tf_Xbad_f ci, tf_Xnone hi, tf_Xinf hi, tf_Xzero hi, if_neg ni, if_neg zi, if_neg fi, e128, eq_true hn, tf_Xunp hi, e16, e17, eq_true t2, tf_c10, eq_self, true_imp_iff, false_imp_iff, not_true_eq_false, not_false_eq_true, true_and, and_true, forall_eq]
        exact K
    · obtain ⟨t2, t3⟩ := t1 (by omega)
      refine fin (tf_fr i * 2 ^ 16) (13 + tf_ex i / 2) (nI (tf_ex i) + 9 - 16) (by omega) (by omega) (by omega) ?_ (fun post K => ?_) t3
      · obtain ⟨y, hy⟩ : ∃ y, tf_ex i = y + y + 1 := ⟨tf_ex i / 2, by omega⟩
        rw [u1, hy, show (y + y + 1) / 2 = y by omega, Nat.pow_add 2 (y + y) 1, tf_pw2, Nat.pow_add 2 13 y]
        generalize 2 ^ y = q
        grind
      · simp only [wpX_root, tf_Xbad_f ci, tf_Xnone hi, tf_Xinf hi, tf_Xzero hi, if_neg ni, if_neg zi, if_neg fi, e128, eq_true hn, tf_Xunp hi, e16, eq_false t2, tf_c10, eq_self, true_imp_iff, false_imp_iff, not_true_eq_false, not_false_eq_true, true_and, and_true, forall_eq]
        exact K
  · refine ⟨124, nn ||| 4, sg, fr, ex, by decide, fun post K => ?_, fun post K => ?_⟩
    · simp only [wpX_root, wpX_senseless, tf_Xbad_f ci, tf_Xnone hi, tf_Xinf hi, tf_Xzero hi, if_neg ni, if_neg zi, e128, eq_false hn, tf_c10, eq_self, true_imp_iff, false_imp_iff, not_true_eq_false, not_false_eq_true, true_and, and_true, forall_eq]
      exact K
    · simp only [wpY_root, wpY_senseless, tf_Ycode_t ci, tf_Ynone hi, tf_Yinf hi, tf_Yzero hi, if_neg ni, if_neg zi, e120, eq_false (show ¬ i = 120 by omega), tf_Yneg hi, en, eq_false (show ¬ i / 128 = 0 by omega), tf_c10, eq_self, true_imp_iff, false_imp_iff, not_true_eq_false, not_false_eq_true, true_and, and_true, forall_eq]
      exact K
theorem tf_negE {p : Int32} (h : ¬ p < (-1000000)) (h0 : p < 0) : ∃ x : Nat, 1 ≤ x ∧ x ≤ 1000000 ∧ p = -nI x := by
  have a := h
  rw [Int32.lt_iff_toInt_lt, show ((-1000000 : Int32)).toInt = -1000000 from by decide] at a
  rw [Int32.lt_iff_toInt_lt, show ((0 : Int32)).toInt = 0 from by decide] at h0
  refine ⟨(-p.toInt).toNat, by omega, by omega, ?_⟩
  apply Int32.toInt_inj.mp
  rw [sb_negT (by omega)]
  omega
theorem tf_Jfrom {md : Nat} {p nn st sg : Int32} {fr : Int64} {ex : Int32} {a : Nat → Int32} (ha : tf_Tab a) (hmd : md ≤ 3) (hp : ¬ p < (-1000000)) (hp2 : p ≤ 1000000) :
    tf_J md st a (fun post => wpX_from post (nI md, nn, st, sg, fr, ex) p) (fun post => wpY_from post (nI md, nn, st, a) p) := by
  have main : ∀ s x : Nat, s ≤ 1 → 1 ≤ x → x ≤ 1000000 → tf_J md st a (fun post => wpX_round post (nI md, nn, st, sg, fr, ex) (nI s) (lN x) 9 0) (fun post => wpY_round post (nI md, nn, st, a) (512 * lN x) 1 (nI s)) := by
    intro s x hs h1 h2
    have J := tf_Jround (A := 512 * x) (B := 1) (f := x) (sk := 0) (P := 25) (s := s) (nn := nn) (sg := sg) (fr := fr) (ex := ex) (md := md) (st := st) ha (by omega) (by decide) (by decide) hmd hs (by omega) (by decide) (by decide) (fun _ => ⟨h1, fun _ => rfl⟩) (tf_Inv0 (by omega))
    rw [show tf_pw 25 = 9 from by decide, ← lN_mul] at J
    exact J
  by_cases h0 : p < 0
  · obtain ⟨x, h1, h2, rfl⟩ := tf_negE hp h0
    have e0 : ¬ -nI x = 0 := fun z => by
      have := congrArg Int32.toInt z
      rw [sb_negT (by omega), show (0 : Int32).toInt = 0 from by decide] at this
      omega
    have en : (-(-nI x)).toInt64 = lN x := by rw [Int32.neg_neg]; exact nI_l (by omega)
    have ege : ¬ 0 ≤ -nI x := Int32.not_le.mpr h0
    have ele : -nI x ≤ 0 := Int32.le_of_lt h0
    refine tf_Jm (main 1 x (by decide) h1 h2) (fun post K => ?_) (fun post K => ?_)
    · refine br_f hp (br_t hp2 (br_f e0 (br_t ele ?_)))
      rw [en]
      exact K
    · refine br_f hp (br_t hp2 (br_f ege (br_f e0 (br_f ege ?_))))
      rw [en]
      exact K
  · obtain ⟨x, hx, rfl⟩ := nI_of h0
    have hx2 : x ≤ 1000000 := (nI_leI (b := 1000000) hx (by decide)).mp hp2
    have ege : 0 ≤ nI x := nI_pos' hx
    by_cases z : x = 0
    · subst z
      refine ⟨0, nn, sg, fr, ex, by decide, fun post K => ?_, fun post K => ?_⟩
      · exact br_f hp (br_t hp2 (br_t rfl K))
      · exact br_f hp (br_t hp2 (br_t ege (br_t rfl K)))
    · have e0 : ¬ nI x = 0 := fun q => z ((tf_i0 hx).mp q)
      have ele : ¬ nI x ≤ 0 := nI_nle (by omega) hx
      refine tf_Jm (main 0 x (by decide) (by omega) hx2) (fun post K => ?_) (fun post K => ?_)
      · refine br_f hp (br_t hp2 (br_f e0 (br_f ele ?_)))
        rw [nI_l hx]
        exact K
      · refine br_f hp (br_t hp2 (br_t ege (br_f e0 (br_t ege ?_))))
        rw [nI_l hx]
        exact K
end
section
/-! comparing; whole numbers -/
theorem tf_Xrank {post : Int32 → Prop} {u : SX} {j : Nat} (hj : j ≤ 255) : wpX_rank post u (nI j) ↔ post (tf_sI (j / 128) (j % 128)) := by
  obtain ⟨m, nn, st, sg, fr, ex⟩ := u
  have e : nI j < 128 ↔ j < 128 := nI_ltI (b := 128) (by omega) (by decide)
  simp only [wpX_rank, forall_eq, tf_m127 hj, e]
  unfold tf_sI
  by_cases h : j < 128
  · rw [if_pos (show j / 128 = 0 by omega)]; exact tf_brt h
  · rw [if_neg (show ¬ j / 128 = 0 by omega)]; exact tf_brf h
theorem tf_sIt (s : Nat) {x : Nat} (hx : x < 2 ^ 31) : (tf_sI s x).toInt = if s = 0 then (x : Int) else -(x : Int) := by
  unfold tf_sI
  by_cases h : s = 0
  · rw [if_pos h, if_pos h]; exact nI_toInt hx
  · rw [if_neg h, if_neg h]; exact sb_negT hx
theorem tf_szle {x y : Nat} (hx : x ≤ 120) (hy : y ≤ 120) : tf_size x ≤ tf_size y ↔ x ≤ y := by
  constructor
  · intro h
    apply Nat.le_of_not_lt
    intro z
    have := tf_up z hx
    omega
  · intro h
    exact tf_upE h hy
theorem tf_cmpI {s t x y : Nat} (hx : x ≤ 120) (hy : y ≤ 120) :
    ((if s = 0 then (x : Int) else -(x : Int)) ≤ (if t = 0 then (y : Int) else -(y : Int)) ↔ (if s = 0 then (tf_size x : Int) else -(tf_size x : Int)) ≤ (if t = 0 then (tf_size y : Int) else -(tf_size y : Int))) := by
  have a := tf_szle hx hy
  have b := tf_szle hy hx
  have c := tf_szle hx (show 0 ≤ 120 by decide)
  have d := tf_szle hy (show 0 ≤ 120 by decide)
  have z : tf_size 0 = 0 := by decide
  rw [z] at c d
  by_cases hs : s = 0 <;> by_cases ht : t = 0 <;> simp only [hs, ht, if_true, if_false] <;> omega
theorem tf_sgnI {post : Int32 → Prop} {v : SY} {d : Int32} (h1 : 0 < d.toInt → post 1) (h0 : d.toInt = 0 → post 0) (hm : d.toInt < 0 → post (-1)) : wpY_sign post v d.toInt64 := by
  have e : d.toInt64.toInt = d.toInt := Int32.toInt_toInt64 d
  have z : (0 : Int64).toInt = 0 := by decide
  obtain ⟨m, nn, st, a⟩ := v
  refine br_c (fun p => br_c (fun q => h0 ?_) (fun q => h1 ?_)) (fun p => hm ?_)
  · rw [Int64.le_iff_toInt_le, e, z] at p q; omega
  · rw [Int64.le_iff_toInt_le, e, z] at p q; omega
  · rw [Int64.le_iff_toInt_le, e, z] at p; omega
theorem tf_Jcmp {i j : Nat} {u : SX} {m nn st : Int32} {a : Nat → Int32} (ha : tf_Tab a) (hi : i ≤ 255) (hj : j ≤ 255) :
    ∃ r : Int32, (∀ post : Int32 → Prop, post r → wpX_compare post u (nI i) (nI j)) ∧ (∀ post : Int32 → Prop, post r → wpY_compare post (m, nn, st, a) (nI i) (nI j)) := by
  obtain ⟨m', nn', st', sg, fr, ex⟩ := u
  have ci := tf_cd_nI hi
  have cj := tf_cd_nI hj
  by_cases ni : 120 < i % 128
  · refine ⟨2, fun post K => ?_, fun post K => ?_⟩
    · simp only [wpX_compare, tf_Xbad_f ci, tf_Xbad_f cj, tf_Xnone hi, tf_Xinf hi, tf_Xzero hi, if_pos ni, tf_c10, eq_self, true_imp_iff, false_imp_iff, not_true_eq_false, not_false_eq_true, true_and, and_true, forall_eq]
      exact K
    · simp only [wpY_compare, tf_Ycode_t ci, tf_Ynone hi, tf_Yinf hi, tf_Yzero hi, tf_Ycode_t cj, tf_Ynone hj, tf_Yinf hj, tf_Yzero hj, if_pos ni, tf_c10, eq_self, true_imp_iff, false_imp_iff, not_true_eq_false, not_false_eq_true, true_and, and_true, forall_eq]
      exact K
  by_cases nj : 120 < j % 128
  · refine ⟨2, fun post K => ?_, fun post K => ?_⟩
    · simp only [wpX_compare, tf_Xbad_f ci, tf_Xbad_f cj, tf_Xnone hi, tf_Xinf hi, tf_Xzero hi, tf_Xnone hj, tf_Xinf hj, tf_Xzero hj, if_neg ni, if_pos nj, tf_c10, eq_self, true_imp_iff, false_imp_iff, not_true_eq_false, not_false_eq_true, true_and, and_true, forall_eq]
      exact K
    · simp only [wpY_compare, tf_Ycode_t ci, tf_Ynone hi, tf_Yinf hi, tf_Yzero hi, tf_Ycode_t cj, tf_Ynone hj, tf_Yinf hj, tf_Yzero hj, if_neg ni, if_pos nj, tf_c10, eq_self, true_imp_iff, false_imp_iff, not_true_eq_false, not_false_eq_true, true_and, and_true, forall_eq]
      exact K
  have bi := tf_max (c := i % 128) (by omega)
  have bj := tf_max (c := j % 128) (by omega)
  have A1 := tf_sIt (i / 128) (x := i % 128) (by omega)
  have A2 := tf_sIt (j / 128) (x := j % 128) (by omega)
  have B1 := tf_sIt (i / 128) (x := tf_size (i % 128)) (by omega)
  have B2 := tf_sIt (j / 128) (x := tf_size (j % 128)) (by omega)
  have C1 := tf_cmpI (s := i / 128) (t := j / 128) (x := i % 128) (y := j % 128) (by omega) (by omega)
  have C2 := tf_cmpI (s := j / 128) (t := i / 128) (x := j % 128) (y := i % 128) (by omega) (by omega)
  rw [← A1, ← A2, ← B1, ← B2] at C1 C2
  have hd : (tf_sI (i / 128) (tf_size (i % 128)) - tf_sI (j / 128) (tf_size (j % 128))).toInt = (tf_sI (i / 128) (tf_size (i % 128))).toInt - (tf_sI (j / 128) (tf_size (j % 128))).toInt := by
    have r1 : -131072 ≤ (tf_sI (i / 128) (tf_size (i % 128))).toInt ∧ (tf_sI (i / 128) (tf_size (i % 128))).toInt ≤ 131072 := by rw [B1]; split <;> omega
    have r2 : -131072 ≤ (tf_sI (j / 128) (tf_size (j % 128))).toInt ∧ (tf_sI (j / 128) (tf_size (j % 128))).toInt ≤ 131072 := by rw [B2]; split <;> omega
    rw [Int32.toInt_sub]
    exact Int.bmod_eq_of_le (by omega) (by omega)
  have hX : ∀ post : Int32 → Prop, ((tf_sI (i / 128) (i % 128) = tf_sI (j / 128) (j % 128) → post 0) ∧ (¬ tf_sI (i / 128) (i % 128) = tf_sI (j / 128) (j % 128) → ((tf_sI (j / 128) (j % 128) ≤ tf_sI (i / 128) (i % 128) → post 1) ∧ (¬ tf_sI (j / 128) (j % 128) ≤ tf_sI (i / 128) (i % 128) → post (-1))))) → wpX_compare post (m', nn', st', sg, fr, ex) (nI i) (nI j) := by
    intro post K
    simp only [wpX_compare, tf_Xbad_f ci, tf_Xbad_f cj, tf_Xnone hi, tf_Xinf hi, tf_Xzero hi, tf_Xnone hj, tf_Xinf hj, tf_Xzero hj, if_neg ni, if_neg nj, tf_Xrank hi, tf_Xrank hj, tf_c10, eq_self, true_imp_iff, false_imp_iff, not_true_eq_false, not_false_eq_true, true_and, and_true, forall_eq]
    exact K
  have hY : ∀ post : Int32 → Prop, wpY_sign post (m, nn, st, a) (tf_sI (i / 128) (tf_size (i % 128)) - tf_sI (j / 128) (tf_size (j % 128))).toInt64 → wpY_compare post (m, nn, st, a) (nI i) (nI j) := by
    intro post K
    simp only [wpY_compare, tf_Ycode_t ci, tf_Ynone hi, tf_Yinf hi, tf_Yzero hi, tf_Ycode_t cj, tf_Ynone hj, tf_Yinf hj, tf_Yzero hj, if_neg ni, if_neg nj, tf_Yval ha hi (by omega), tf_Yval ha hj (by omega), tf_c10, eq_self, true_imp_iff, false_imp_iff, not_true_eq_false, not_false_eq_true, true_and, and_true, forall_eq]
    exact K
  generalize tf_sI (i / 128) (i % 128) = ra at *
  generalize tf_sI (j / 128) (j % 128) = rb at *
  generalize tf_sI (i / 128) (tf_size (i % 128)) = va at *
  generalize tf_sI (j / 128) (tf_size (j % 128)) = vb at *
  clear A1 A2 B1 B2
  by_cases e : ra = rb
  · have e' : ra.toInt = rb.toInt := by rw [e]
    refine ⟨0, fun post K => hX post (br_t e K), fun post K => hY post (tf_sgnI (fun z => ?_) (fun _ => K) (fun z => ?_))⟩
    · exfalso; rw [hd] at z; omega
    · exfalso; rw [hd] at z; omega
  · have e' : ¬ ra.toInt = rb.toInt := fun z => e (Int32.toInt_inj.mp z)
    by_cases l : rb ≤ ra
    · have l' := Int32.le_iff_toInt_le.mp l
      refine ⟨1, fun post K => hX post (br_f e (br_t l K)), fun post K => hY post (tf_sgnI (fun _ => K) (fun z => ?_) (fun z => ?_))⟩
      · exfalso; rw [hd] at z; omega
      · exfalso; rw [hd] at z; omega
    · have l' : ¬ rb.toInt ≤ ra.toInt := fun z => l (Int32.le_iff_toInt_le.mpr z)
      refine ⟨-1, fun post K => hX post (br_f e (br_f l K)), fun post K => hY post (tf_sgnI (fun z => ?_) (fun z => ?_) (fun _ => K))⟩
      · exfalso; rw [hd] at z; omega
      · exfalso; rw [hd] at z; omega
theorem tf_Y144 {post : Int32 → Prop} {i d : Nat} {m nn st : Int32} {a : Nat → Int32} (hi : i ≤ 255) (H : post (tf_sI (i / 128) d)) : wY_whole_144 post (nI i) (nI d) m nn st a := by
  unfold wY_whole_144
  rw [tf_Yneg hi]
  unfold tf_sI at H
  rcases (show i / 128 = 0 ∨ i / 128 = 1 by omega) with e | e
  · rw [e] at H ⊢
    exact br_t rfl H
  · rw [e] at H ⊢
    exact br_f tf_c10 H
theorem tf_Y130 {post : Int32 → Prop} {i d : Nat} {m nn st : Int32} {a : Nat → Int32} (up : Prop) (hi : i ≤ 255) (z0 : Int32) (h0 : z0 = 0 → ¬ up) (h1 : z0 = 0 ∨ up) (H0 : ¬ up → post (tf_sI (i / 128) d)) (H1 : up → post (tf_sI (i / 128) (d + 1))) : wY_whole_130 post (nI i) (nI d) z0 m nn st a := by
  by_cases z : z0 = 0
  · exact br_t z (tf_Y144 hi (H0 (h0 z)))
  · refine br_f z ?_
    rw [nI_1]
    exact tf_Y144 hi (H1 (h1.resolve_left z))
theorem tf_Jwhole {md i : Nat} {nn st sg : Int32} {fr : Int64} {ex : Int32} {a : Nat → Int32} (ha : tf_Tab a) (hmd : md ≤ 3) (hi : i ≤ 255) :
    ∃ (r sg' : Int32) (fr' : Int64) (ex' : Int32), (∀ post : Int32 → SX → Prop, post r (nI md, nn, st, sg', fr', ex') → wpX_whole post (nI md, nn, st, sg, fr, ex) (nI i)) ∧ (∀ post : Int32 → Prop, post r → wpY_whole post (nI md, nn, st, a) (nI i)) := by
  have ci := tf_cd_nI hi
  by_cases ni : 120 < i % 128
  · refine ⟨9999, sg, fr, ex, fun post K => ?_, fun post K => ?_⟩
    · simp only [wpX_whole, tf_Xbad_f ci, tf_Xnone hi, tf_Xinf hi, tf_Xzero hi, if_pos ni, tf_c10, eq_self, true_imp_iff, false_imp_iff, not_true_eq_false, not_false_eq_true, true_and, and_true, forall_eq]
      exact K
    · simp only [wpY_whole, tf_Ycode_t ci, tf_Ynone hi, tf_Yinf hi, tf_Yzero hi, if_pos ni, tf_c10, eq_self, true_imp_iff, false_imp_iff, not_true_eq_false, not_false_eq_true, true_and, and_true, forall_eq]
      exact K
  by_cases fi : i % 128 = 120
  · have e : 128 ≤ nI i ↔ 128 ≤ i := nI_leI (a := 128) (by decide) (by omega)
    by_cases h : 128 ≤ i
    · refine ⟨-1000, sg, fr, ex, fun post K => ?_, fun post K => ?_⟩
      · simp only [wpX_whole, tf_Xbad_f ci, tf_Xnone hi, tf_Xinf hi, tf_Xzero hi, if_neg ni, if_pos fi, e, eq_true h, tf_c10, eq_self, true_imp_iff, false_imp_iff, not_true_eq_false, not_false_eq_true, true_and, and_true, forall_eq]
        exact K
      · simp only [wpY_whole, tf_Ycode_t ci, tf_Ynone hi, tf_Yinf hi, tf_Yzero hi, if_neg ni, if_pos fi, tf_Yneg hi, show i / 128 = 1 by omega, tf_n1, tf_c10, eq_self, true_imp_iff, false_imp_iff, not_true_eq_false, not_false_eq_true, true_and, and_true, forall_eq]
        exact K
    · refine ⟨1000, sg, fr, ex, fun post K => ?_, fun post K => ?_⟩
      · simp only [wpX_whole, tf_Xbad_f ci, tf_Xnone hi, tf_Xinf hi, tf_Xzero hi, if_neg ni, if_pos fi, e, eq_false h, tf_c10, eq_self, true_imp_iff, false_imp_iff, not_true_eq_false, not_false_eq_true, true_and, and_true, forall_eq]
        exact K
      · simp only [wpY_whole, tf_Ycode_t ci, tf_Ynone hi, tf_Yinf hi, tf_Yzero hi, if_neg ni, if_pos fi, tf_Yneg hi, show i / 128 = 0 by omega, nI_0, tf_c10, eq_self, true_imp_iff, false_imp_iff, not_true_eq_false, not_false_eq_true, true_and, and_true, forall_eq]
        exact K
  obtain ⟨u1, u2, u3, u4⟩ := tf_unp i (by omega) (by omega)
  have bi := tf_max (c := i % 128) (by omega)
  have ii : vp_in (nI (i % 128)) 121 := vp_in_nI (by omega) (by decide)
  have s1 : i / 128 ≤ 1 := by omega
  have eU : lN (tf_fr i) <<< ((nI (tf_ex i)).toInt64 &&& 63) = lN (tf_size (i % 128)) := by
    rw [u1]; exact wb_shl (tf_fr i) (by omega)
  have eT := tf_tb ha (c := i % 128) (by omega)
  obtain ⟨sz, hsz⟩ : ∃ sz, sz = tf_size (i % 128) := ⟨_, rfl⟩
  rw [← hsz] at eU eT bi
  obtain ⟨h, hh⟩ : ∃ h, h = sz / 256 % 2 := ⟨_, rfl⟩
  obtain ⟨r, hr⟩ : ∃ r, r = if sz % 256 = 0 then 0 else 1 := ⟨_, rfl⟩
  have hr1 : r ≤ 1 := by rw [hr]; split <;> omega
  have hr0 : r = 0 ↔ sz % 256 = 0 := by rw [hr]; split <;> omega
  have hdec : Decidable ((md = 0 ∧ h = 1 ∧ (r = 1 ∨ sz / 512 % 2 = 1)) ∨ ((h = 1 ∨ r = 1) ∧ ((md = 2 ∧ i / 128 = 0) ∨ (md = 3 ∧ i / 128 = 1)))) := inferInstance
  refine ⟨if (md = 0 ∧ h = 1 ∧ (r = 1 ∨ sz / 512 % 2 = 1)) ∨ ((h = 1 ∨ r = 1) ∧ ((md = 2 ∧ i / 128 = 0) ∨ (md = 3 ∧ i / 128 = 1))) then tf_sI (i / 128) (sz / 512 + 1) else tf_sI (i / 128) (sz / 512), nI (i / 128), lN (tf_fr i), nI (tf_ex i), fun post K => ?_, fun post K => ?_⟩
  · have e9 : ((lN sz).toUInt64 >>> ((9 : Int32).toInt64.toUInt64 &&& Int64.toUInt64 63)).toInt64 = lN (sz / 512) := wb_shr (k := 9) (by omega) (by decide)
    have e8 : (((lN sz).toUInt64 >>> ((8 : Int32).toInt64.toUInt64 &&& Int64.toUInt64 63)).toInt64 &&& 1 = 1) ↔ h = 1 := by
      have q : ((lN sz).toUInt64 >>> ((8 : Int32).toInt64.toUInt64 &&& Int64.toUInt64 63)).toInt64 &&& 1 = lN (sz / 256 % 2) := wb_bit (k := 8) (by omega) (by decide)
      rw [q, ← hh]
      exact pk_lEQ (b := 1) (by omega) (by decide)
    have e255 : (lN sz &&& 255 = 0) ↔ r = 0 := by
      have q : lN sz &&& 255 = lN (sz % 256) := wb_mask (k := 8) (by omega) (by decide)
      rw [q, hr0]
      exact pk_lEQ (b := 0) (by omega) (by decide)
    have K130 : ∀ z : Nat, post (tf_sI (i / 128) (sz / 512 + z)) (nI md, nn, st, nI (i / 128), lN (tf_fr i), nI (tf_ex i)) → wX_whole_130 post (nI z) (lN (sz / 512)).toInt32 (nI md) nn st (nI (i / 128)) (lN (tf_fr i)) (nI (tf_ex i)) := by
      intro z L
      rw [lN_i]
      refine nm_r (nI_add _ _) ?_
      unfold tf_sI at L
      rcases (show i / 128 = 0 ∨ i / 128 = 1 by omega) with e | e
      · rw [e] at L ⊢
        exact br_t rfl L
      · rw [e] at L ⊢
        exact br_f tf_c10 L
    have K99 : wX_whole_99 post (lN (sz / 512)) (nI h) (nI r) (nI md) nn st (nI (i / 128)) (lN (tf_fr i)) (nI (tf_ex i)) := by
      refine tf_upw hmd s1 (by omega) (by omega) hr1 ?_
      by_cases up : (md = 0 ∧ h = 1 ∧ (r = 1 ∨ sz / 512 % 2 = 1)) ∨ ((h = 1 ∨ r = 1) ∧ ((md = 2 ∧ i / 128 = 0) ∨ (md = 3 ∧ i / 128 = 1)))
      · rw [if_pos up] at K ⊢
        exact br_f tf_c10 (K130 1 K)
      · rw [if_neg up] at K ⊢
        exact br_t rfl (K130 0 K)
    have K82 : wX_whole_82 post (lN sz) (lN (sz / 512)) (nI h) (nI md) nn st (nI (i / 128)) (lN (tf_fr i)) (nI (tf_ex i)) := by
      unfold wX_whole_82
      rw [e255]
      rcases (show r = 0 ∨ r = 1 by omega) with q | q
      · rw [q] at K99
        exact br_t q K99
      · rw [q] at K99
        exact br_f (by omega) K99
    simp only [wpX_whole, tf_Xbad_f ci, tf_Xnone hi, tf_Xinf hi, tf_Xzero hi, if_neg ni, if_neg fi, tf_Xunp hi, eU, e9, e8, tf_c10, eq_self, true_imp_iff, false_imp_iff, not_true_eq_false, not_false_eq_true, true_and, and_true, forall_eq]
    rcases (show h = 0 ∨ h = 1 by omega) with q | q
    · rw [q] at K82
      exact br_f (by omega) K82
    · rw [q] at K82
      exact br_t q K82
  · have d512 : nI sz / 512 = nI (sz / 512) := pk_div (d := 512) (by omega) (by decide) (by decide)
    have m512 : nI sz - nI (sz / 512) * 512 = nI (sz % 512) := by
      rw [← d512]; exact pk_rem (d := 512) (by omega) (by decide) (by decide)
    have e2 : nI (sz / 512) - nI (sz / 512) / 2 * 2 = 1 ↔ sz / 512 % 2 = 1 := by
      have q : nI (sz / 512) - nI (sz / 512) / 2 * 2 = nI (sz / 512 % 2) := pk_rem (d := 2) (by omega) (by decide) (by decide)
      rw [q]; exact tf_i1 (by omega)
    have l1 : 256 < nI (sz % 512) ↔ 256 < sz % 512 := nI_ltI (a := 256) (by decide) (by omega)
    have l2 : nI (sz % 512) = 256 ↔ sz % 512 = 256 := nI_eq (b := 256) (by omega) (by decide)
    have l3 : nI (sz % 512) ≤ 0 ↔ sz % 512 ≤ 0 := nI_leI (b := 0) (by omega) (by decide)
    have c512 : ¬ (512 : Int32) = 0 := by decide
    have c2 : ¬ (2 : Int32) = 0 := by decide
    have K130 : ∀ z0 : Int32, (z0 = 0 ∨ z0 = 1) → (z0 = 1 ↔ ((md = 0 ∧ h = 1 ∧ (r = 1 ∨ sz / 512 % 2 = 1)) ∨ ((h = 1 ∨ r = 1) ∧ ((md = 2 ∧ i / 128 = 0) ∨ (md = 3 ∧ i / 128 = 1))))) → wY_whole_130 post (nI i) (nI (sz / 512)) z0 (nI md) nn st a := by
      intro z0 hz hup
      by_cases up : (md = 0 ∧ h = 1 ∧ (r = 1 ∨ sz / 512 % 2 = 1)) ∨ ((h = 1 ∨ r = 1) ∧ ((md = 2 ∧ i / 128 = 0) ∨ (md = 3 ∧ i / 128 = 1)))
      · rw [if_pos up] at K
        obtain rfl := hup.mpr up
        exact tf_Y130 True hi 1 (fun z => absurd z tf_c10) (Or.inr trivial) (fun z => absurd trivial z) (fun _ => K)
      · rw [if_neg up] at K
        have z : z0 = 0 := hz.resolve_right (fun q => up (hup.mp q))
        subst z
        exact tf_Y130 False hi 0 (fun _ z => z) (Or.inl rfl) (fun _ => K) (fun z => z.elim)
    simp only [wpY_whole, tf_Ycode_t ci, tf_Ynone hi, tf_Yinf hi, tf_Yzero hi, if_neg ni, if_neg fi, tf_r128 hi, eT, d512, m512, e2, l1, l2, l3, c512, c2, tf_c128, ii, tf_Yneg hi, tf_i0 (show md < 2 ^ 31 by omega), wY_whole_100, wY_whole_104, wY_whole_129, tf_c10, eq_self, true_imp_iff, false_imp_iff, not_true_eq_false, not_false_eq_true, true_and, and_true, forall_eq]
    by_cases hm : md = 0
    · refine br_t hm ?_
      by_cases g1 : 256 < sz % 512
      · exact br_t g1 (K130 1 (Or.inr rfl) ⟨fun _ => by omega, fun _ => rfl⟩)
      · refine br_f g1 ?_
        by_cases g2 : sz % 512 = 256
        · refine br_t g2 ?_
          by_cases g3 : sz / 512 % 2 = 1
          · exact br_t g3 (K130 1 (Or.inr rfl) ⟨fun _ => by omega, fun _ => rfl⟩)
          · exact br_f g3 (K130 0 (Or.inl rfl) ⟨fun z => absurd z tf_c01, fun z => by omega⟩)
        · exact br_f g2 (K130 0 (Or.inl rfl) ⟨fun z => absurd z tf_c01, fun z => by omega⟩)
    · refine br_f hm ?_
      by_cases g1 : sz % 512 ≤ 0
      · exact br_t g1 (K130 0 (Or.inl rfl) ⟨fun z => absurd z tf_c01, fun z => by omega⟩)
      · refine br_f g1 (tf_goesUp hmd s1 ?_)
        by_cases up : (md = 2 ∧ i / 128 = 0) ∨ (md = 3 ∧ i / 128 = 1)
        · rw [if_pos up]
          exact br_f tf_c10 (K130 1 (Or.inr rfl) ⟨fun _ => by omega, fun _ => rfl⟩)
        · rw [if_neg up]
          exact br_t rfl (K130 0 (Or.inl rfl) ⟨fun z => absurd z tf_c01, fun z => by omega⟩)
end
section
/-! what is owed -/
/-- the same mode, notes and store; the reference's table holds the sizes -/
def i_Rel (_ : Nat) (u : SX) (v : SY) : Prop :=
  ∃ (md c : Nat) (nn sg : Int32) (fr : Int64) (ex : Int32) (a : Nat → Int32), md ≤ 3 ∧ c ≤ 255 ∧ tf_Tab a ∧ u = (nI md, nn, nI c, sg, fr, ex) ∧ v = (nI md, nn, nI c, a)
theorem i_up {k : Nat} {u : SX} {v : SY} (h : i_Rel k u v) : i_Rel (k + 4) u v := h
theorem tf_ini : ∀ i, i < 121 → 8 ≤ i → (8 + (nI i - nI i / 8 * 8)) <<< (((nI i / 8) - 1) &&& 31) = nI (tf_size i) := by decide +kernel
theorem tf_tabs {a : Nat → Int32} {i : Nat} {x : Int32} (h : ∀ c, c < i → a c = nI (tf_size c)) (hx : x = nI (tf_size i)) : ∀ c, c < i + 1 → upd a i x c = nI (tf_size c) := by
  intro c hc
  by_cases e : c = i
  · subst e; rw [pk_us]; exact hx
  · rw [pk_un e]; exact h c (by omega)
theorem tf_Y14 {post : SY → Prop} {m nn st : Int32} (H : ∀ a, tf_Tab a → post (m, nn, st, a)) : ∀ d i (a : Nat → Int32), i + d = 121 → (∀ c, c < i → a c = nI (tf_size c)) → wY_init_14 post m nn st (d + 1) (nI i) a := by
  intro d
  induction d with
  | zero =>
    intro i a hi h
    obtain rfl : i = 121 := by omega
    exact br_t (by decide) (H a h)
  | succ d ih =>
    intro i a hi h
    have hin : vp_in (nI i) 121 := vp_in_nI (by omega) (by decide)
    refine br_f (nI_ge (b := 121) (by omega) (by decide)) ?_
    by_cases h8 : 8 ≤ i
    · refine br_t (nI_le (a := 8) h8 (by omega)) ⟨by decide, by decide, hin, nm_e (nm_r (nI_1 i) (ih (i + 1) _ (by omega) ?_))⟩
      rw [nI_clamp (by omega)]
      exact tf_tabs h (tf_ini i (by omega) h8)
    · refine br_f (nI_ge (b := 8) (by omega) (by decide)) ⟨hin, nm_e (nm_r (nI_1 i) (ih (i + 1) _ (by omega) ?_))⟩
      rw [nI_clamp (by omega)]
      refine tf_tabs h ?_
      unfold tf_size
      rw [if_pos (by omega)]
theorem i_vc0 : wpX_init (fun u => wpY_init (fun v => i_Rel 0 u v)) :=
  ⟨_, tf_Y14 (fun a ha => ⟨0, 0, 0, 0, 0, 0, a, by decide, by decide, ha, rfl, rfl⟩) 121 0 _ rfl (fun _ h => absurd h (Nat.not_lt_zero _))⟩
theorem tf_use {k md c : Nat} {a : Nat → Int32} {WX : (Int32 → SX → Prop) → Prop} {WY : (Int32 → SY → Prop) → Prop} (hmd : md ≤ 3) (hc : c ≤ 255) (ha : tf_Tab a) (J : tf_J md (nI c) a WX WY) : WX (fun r u' => WY (fun r' v' => r' = r ∧ i_Rel k u' v')) := by
  obtain ⟨x, nn, sg, fr, ex, hx, X, Y⟩ := J
  exact X _ (Y _ ⟨rfl, md, c, nn, sg, fr, ex, a, hmd, hc, ha, rfl, rfl⟩)
theorem tf_keep {k md c : Nat} {nn sg : Int32} {fr : Int64} {ex : Int32} {a : Nat → Int32} {WX : (Int32 → SX → Prop) → Prop} {WY : (Int32 → SY → Prop) → Prop} (hmd : md ≤ 3) (hc : c ≤ 255) (ha : tf_Tab a) (r : Int32)
    (X : ∀ post : Int32 → SX → Prop, post r (nI md, nn, nI c, sg, fr, ex) → WX post) (Y : ∀ post : Int32 → SY → Prop, post r (nI md, nn, nI c, a) → WY post) : WX (fun r u' => WY (fun r' v' => r' = r ∧ i_Rel k u' v')) :=
  X _ (Y _ ⟨rfl, md, c, nn, sg, fr, ex, a, hmd, hc, ha, rfl, rfl⟩)
theorem i_vc_mode {k : Nat} {u : SX} {v : SY} (I : i_Rel k u v) (hk : k + 4 ≤ 2048) (v1 : Int32) : wpX_mode (fun r u' => wpY_mode (fun r' v' => r' = r ∧ i_Rel (k + 4) u' v') v v1) u v1 := by
  obtain ⟨md, c, nn, sg, fr, ex, a, hmd, hc, ha, rfl, rfl⟩ := I
  by_cases h0 : v1 < 0
  · exact br_t h0 (br_t h0 ⟨rfl, md, c, nn, sg, fr, ex, a, hmd, hc, ha, rfl, rfl⟩)
  · by_cases h3 : v1 ≤ 3
    · obtain ⟨j, hj, rfl⟩ := nI_of2 (M := 3) (n := 3) (by decide) h0 h3
      exact br_f h0 (br_t h3 (br_f h0 (br_t h3 ⟨rfl, j, c, nn, sg, fr, ex, a, hj, hc, ha, rfl, rfl⟩)))
    · exact br_f h0 (br_f h3 (br_f h0 (br_f h3 ⟨rfl, md, c, nn, sg, fr, ex, a, hmd, hc, ha, rfl, rfl⟩)))
theorem i_vc_notes {k : Nat} {u : SX} {v : SY} (I : i_Rel k u v) (hk : k + 4 ≤ 2048) : wpX_notes (fun r => wpY_notes (fun r' => r' = r ∧ i_Rel (k + 4) u v) v) u := by
  obtain ⟨md, c, nn, sg, fr, ex, a, hmd, hc, ha, rfl, rfl⟩ := I
  exact ⟨rfl, md, c, nn, sg, fr, ex, a, hmd, hc, ha, rfl, rfl⟩
theorem i_vc_clear {k : Nat} {u : SX} {v : SY} (I : i_Rel k u v) (hk : k + 4 ≤ 2048) : wpX_clear (fun r u' => wpY_clear (fun r' v' => r' = r ∧ i_Rel (k + 4) u' v') v) u := by
  obtain ⟨md, c, nn, sg, fr, ex, a, hmd, hc, ha, rfl, rfl⟩ := I
  exact ⟨rfl, md, c, 0, sg, fr, ex, a, hmd, hc, ha, rfl, rfl⟩
theorem i_vc_add {k : Nat} {u : SX} {v : SY} (I : i_Rel k u v) (hk : k + 4 ≤ 2048) (v1 : Int32) (v2 : Int32) : wpX_add (fun r u' => wpY_add (fun r' v' => r' = r ∧ i_Rel (k + 4) u' v') v v1 v2) u v1 v2 := by
  obtain ⟨md, c, nn, sg, fr, ex, a, hmd, hc, ha, rfl, rfl⟩ := I
  by_cases c1 : tf_cd v1
  · by_cases c2 : tf_cd v2
    · obtain ⟨i, hi, rfl⟩ := tf_cd_ex c1
      obtain ⟨j, hj, rfl⟩ := tf_cd_ex c2
      refine tf_use (WX := fun post => wpX_add post (nI md, nn, nI c, sg, fr, ex) (nI i) (nI j)) (WY := fun post => wpY_add post (nI md, nn, nI c, a) (nI i) (nI j)) hmd hc ha (tf_Jm (tf_Jsum (nn := nn) (st := nI c) (sg := sg) (fr := fr) (ex := ex) ha hmd hi hj) (fun post K => ?_) (fun post K => K))
      · simp only [wpX_add, tf_Xbad_f c1, tf_Xbad_f c2, tf_c10, eq_self, true_imp_iff, false_imp_iff, not_true_eq_false, not_false_eq_true, true_and, and_true, forall_eq]
        exact K
    · refine tf_keep (nn := nn) (sg := sg) (fr := fr) (ex := ex) (WX := fun post => wpX_add post (nI md, nn, nI c, sg, fr, ex) v1 v2) (WY := fun post => wpY_add post (nI md, nn, nI c, a) v1 v2) hmd hc ha (-1) (fun post K => ?_) (fun post K => ?_)
      · simp only [wpX_add, tf_Xbad_f c1, tf_Xbad_t c2, tf_c10, eq_self, true_imp_iff, false_imp_iff, not_true_eq_false, not_false_eq_true, true_and, and_true, forall_eq]
        exact K
      · simp only [wpY_add, tf_Ycode_t c1, tf_Ycode_f c2, tf_c10, eq_self, true_imp_iff, false_imp_iff, not_true_eq_false, not_false_eq_true, true_and, and_true, forall_eq]
        exact K
  · refine tf_keep (nn := nn) (sg := sg) (fr := fr) (ex := ex) (WX := fun post => wpX_add post (nI md, nn, nI c, sg, fr, ex) v1 v2) (WY := fun post => wpY_add post (nI md, nn, nI c, a) v1 v2) hmd hc ha (-1) (fun post K => ?_) (fun post K => ?_)
    · simp only [wpX_add, tf_Xbad_t c1, tf_c10, eq_self, true_imp_iff, false_imp_iff, not_true_eq_false, not_false_eq_true, true_and, and_true, forall_eq]
      exact K
    · simp only [wpY_add, tf_Ycode_f c1, tf_c10, eq_self, true_imp_iff, false_imp_iff, not_true_eq_false, not_false_eq_true, true_and, and_true, forall_eq]
      exact K
theorem tf_x128 : ∀ j, j < 256 → nI j ^^^ 128 = nI ((j + 128) % 256) := by decide +kernel
theorem i_vc_subtract {k : Nat} {u : SX} {v : SY} (I : i_Rel k u v) (hk : k + 4 ≤ 2048) (v1 : Int32) (v2 : Int32) : wpX_subtract (fun r u' => wpY_subtract (fun r' v' => r' = r ∧ i_Rel (k + 4) u' v') v v1 v2) u v1 v2 := by
  obtain ⟨md, c, nn, sg, fr, ex, a, hmd, hc, ha, rfl, rfl⟩ := I
  by_cases c2 : tf_cd v2
  · obtain ⟨j, hj, rfl⟩ := tf_cd_ex c2
    have ej := tf_x128 j (by omega)
    by_cases c1 : tf_cd v1
    · obtain ⟨i, hi, rfl⟩ := tf_cd_ex c1
      by_cases nj : 120 < j % 128
      · refine tf_use (WX := fun post => wpX_subtract post (nI md, nn, nI c, sg, fr, ex) (nI i) (nI j)) (WY := fun post => wpY_subtract post (nI md, nn, nI c, a) (nI i) (nI j)) hmd hc ha (tf_Jm (tf_Jsum (nn := nn) (st := nI c) (sg := sg) (fr := fr) (ex := ex) ha hmd hi hj) (fun post K => ?_) (fun post K => ?_))
        · simp only [wpX_subtract, wX_subtract_35, tf_Xbad_f c1, tf_Xbad_f c2, tf_Xnone hj, if_pos nj, tf_c10, eq_self, true_imp_iff, false_imp_iff, not_true_eq_false, not_false_eq_true, true_and, and_true, forall_eq]
          exact K
        · simp only [wpY_subtract, wY_subtract_27, tf_Ycode_t c2, tf_Ynone hj, if_pos nj, tf_c10, eq_self, true_imp_iff, false_imp_iff, not_true_eq_false, not_false_eq_true, true_and, and_true, forall_eq]
          exact K
      · refine tf_use (WX := fun post => wpX_subtract post (nI md, nn, nI c, sg, fr, ex) (nI i) (nI j)) (WY := fun post => wpY_subtract post (nI md, nn, nI c, a) (nI i) (nI j)) hmd hc ha (tf_Jm (tf_Jsum (nn := nn) (st := nI c) (sg := sg) (fr := fr) (ex := ex) (j := (j + 128) % 256) ha hmd hi (by omega)) (fun post K => ?_) (fun post K => ?_))
        · simp only [wpX_subtract, wX_subtract_35, tf_Xbad_f c1, tf_Xbad_f c2, tf_Xnone hj, if_neg nj, ej, tf_c10, eq_self, true_imp_iff, false_imp_iff, not_true_eq_false, not_false_eq_true, true_and, and_true, forall_eq]
          exact K
        · simp only [wpY_subtract, wY_subtract_27, tf_Ycode_t c2, tf_Ynone hj, if_neg nj, ej, tf_c10, eq_self, true_imp_iff, false_imp_iff, not_true_eq_false, not_false_eq_true, true_and, and_true, forall_eq]
          exact K
    · refine tf_keep (nn := nn) (sg := sg) (fr := fr) (ex := ex) (WX := fun post => wpX_subtract post (nI md, nn, nI c, sg, fr, ex) v1 (nI j)) (WY := fun post => wpY_subtract post (nI md, nn, nI c, a) v1 (nI j)) hmd hc ha (-1) (fun post K => ?_) (fun post K => ?_)
      · simp only [wpX_subtract, tf_Xbad_t c1, tf_c10, eq_self, true_imp_iff, false_imp_iff, not_true_eq_false, not_false_eq_true, true_and, and_true, forall_eq]
        exact K
      · by_cases nj : 120 < j % 128
        · simp only [wpY_subtract, wY_subtract_27, wpY_add, tf_Ycode_t c2, tf_Ycode_f c1, tf_Ynone hj, if_pos nj, tf_c10, eq_self, true_imp_iff, false_imp_iff, not_true_eq_false, not_false_eq_true, true_and, and_true, forall_eq]
          exact K
        · simp only [wpY_subtract, wY_subtract_27, wpY_add, tf_Ycode_t c2, tf_Ycode_f c1, tf_Ynone hj, if_neg nj, tf_c10, eq_self, true_imp_iff, false_imp_iff, not_true_eq_false, not_false_eq_true, true_and, and_true, forall_eq]
          exact K
  · refine tf_keep (nn := nn) (sg := sg) (fr := fr) (ex := ex) (WX := fun post => wpX_subtract post (nI md, nn, nI c, sg, fr, ex) v1 v2) (WY := fun post => wpY_subtract post (nI md, nn, nI c, a) v1 v2) hmd hc ha (-1) (fun post K => ?_) (fun post K => ?_)
    · by_cases c1 : tf_cd v1
      · simp only [wpX_subtract, tf_Xbad_f c1, tf_Xbad_t c2, tf_c10, eq_self, true_imp_iff, false_imp_iff, not_true_eq_false, not_false_eq_true, true_and, and_true, forall_eq]
        exact K
      · simp only [wpX_subtract, tf_Xbad_t c1, tf_c10, eq_self, true_imp_iff, false_imp_iff, not_true_eq_false, not_false_eq_true, true_and, and_true, forall_eq]
        exact K
    · simp only [wpY_subtract, tf_Ycode_f c2, tf_c10, eq_self, true_imp_iff, false_imp_iff, not_true_eq_false, not_false_eq_true, true_and, and_true, forall_eq]
      exact K
theorem i_vc_multiply {k : Nat} {u : SX} {v : SY} (I : i_Rel k u v) (hk : k + 4 ≤ 2048) (v1 : Int32) (v2 : Int32) : wpX_multiply (fun r u' => wpY_multiply (fun r' v' => r' = r ∧ i_Rel (k + 4) u' v') v v1 v2) u v1 v2 := by
  obtain ⟨md, c, nn, sg, fr, ex, a, hmd, hc, ha, rfl, rfl⟩ := I
  by_cases c1 : tf_cd v1
  · by_cases c2 : tf_cd v2
    · obtain ⟨i, hi, rfl⟩ := tf_cd_ex c1
      obtain ⟨j, hj, rfl⟩ := tf_cd_ex c2
      exact tf_use (WX := fun post => wpX_multiply post (nI md, nn, nI c, sg, fr, ex) (nI i) (nI j)) (WY := fun post => wpY_multiply post (nI md, nn, nI c, a) (nI i) (nI j)) hmd hc ha (tf_Jmul (nn := nn) (st := nI c) (sg := sg) (fr := fr) (ex := ex) ha hmd hi hj)
    · refine tf_keep (nn := nn) (sg := sg) (fr := fr) (ex := ex) (WX := fun post => wpX_multiply post (nI md, nn, nI c, sg, fr, ex) v1 v2) (WY := fun post => wpY_multiply post (nI md, nn, nI c, a) v1 v2) hmd hc ha (-1) (fun post K => ?_) (fun post K => ?_)
      · simp only [wpX_multiply, tf_Xbad_f c1, tf_Xbad_t c2, tf_c10, eq_self, true_imp_iff, false_imp_iff, not_true_eq_false, not_false_eq_true, true_and, and_true, forall_eq]
        exact K
      · simp only [wpY_multiply, tf_Ycode_t c1, tf_Ycode_f c2, tf_c10, eq_self, true_imp_iff, false_imp_iff, not_true_eq_false, not_false_eq_true, true_and, and_true, forall_eq]
        exact K
  · refine tf_keep (nn := nn) (sg := sg) (fr := fr) (ex := ex) (WX := fun post => wpX_multiply post (nI md, nn, nI c, sg, fr, ex) v1 v2) (WY := fun post => wpY_multiply post (nI md, nn, nI c, a) v1 v2) hmd hc ha (-1) (fun post K => ?_) (fun post K => ?_)
    · simp only [wpX_multiply, tf_Xbad_t c1, tf_c10, eq_self, true_imp_iff, false_imp_iff, not_true_eq_false, not_false_eq_true, true_and, and_true, forall_eq]
      exact K
    · simp only [wpY_multiply, tf_Ycode_f c1, tf_c10, eq_self, true_imp_iff, false_imp_iff, not_true_eq_false, not_false_eq_true, true_and, and_true, forall_eq]
      exact K
theorem i_vc_divide {k : Nat} {u : SX} {v : SY} (I : i_Rel k u v) (hk : k + 4 ≤ 2048) (v1 : Int32) (v2 : Int32) : wpX_divide (fun r u' => wpY_divide (fun r' v' => r' = r ∧ i_Rel (k + 4) u' v') v v1 v2) u v1 v2 := by
  obtain ⟨md, c, nn, sg, fr, ex, a, hmd, hc, ha, rfl, rfl⟩ := I
  by_cases c1 : tf_cd v1
  · by_cases c2 : tf_cd v2
    · obtain ⟨i, hi, rfl⟩ := tf_cd_ex c1
      obtain ⟨j, hj, rfl⟩ := tf_cd_ex c2
      exact tf_use (WX := fun post => wpX_divide post (nI md, nn, nI c, sg, fr, ex) (nI i) (nI j)) (WY := fun post => wpY_divide post (nI md, nn, nI c, a) (nI i) (nI j)) hmd hc ha (tf_Jdiv (nn := nn) (st := nI c) (sg := sg) (fr := fr) (ex := ex) ha hmd hi hj)
    · refine tf_keep (nn := nn) (sg := sg) (fr := fr) (ex := ex) (WX := fun post => wpX_divide post (nI md, nn, nI c, sg, fr, ex) v1 v2) (WY := fun post => wpY_divide post (nI md, nn, nI c, a) v1 v2) hmd hc ha (-1) (fun post K => ?_) (fun post K => ?_)
      · simp only [wpX_divide, tf_Xbad_f c1, tf_Xbad_t c2, tf_c10, eq_self, true_imp_iff, false_imp_iff, not_true_eq_false, not_false_eq_true, true_and, and_true, forall_eq]
        exact K
      · simp only [wpY_divide, tf_Ycode_t c1, tf_Ycode_f c2, tf_c10, eq_self, true_imp_iff, false_imp_iff, not_true_eq_false, not_false_eq_true, true_and, and_true, forall_eq]
        exact K
  · refine tf_keep (nn := nn) (sg := sg) (fr := fr) (ex := ex) (WX := fun post => wpX_divide post (nI md, nn, nI c, sg, fr, ex) v1 v2) (WY := fun post => wpY_divide post (nI md, nn, nI c, a) v1 v2) hmd hc ha (-1) (fun post K => ?_) (fun post K => ?_)
    · simp only [wpX_divide, tf_Xbad_t c1, tf_c10, eq_self, true_imp_iff, false_imp_iff, not_true_eq_false, not_false_eq_true, true_and, and_true, forall_eq]
      exact K
    · simp only [wpY_divide, tf_Ycode_f c1, tf_c10, eq_self, true_imp_iff, false_imp_iff, not_true_eq_false, not_false_eq_true, true_and, and_true, forall_eq]
      exact K
theorem i_vc_root {k : Nat} {u : SX} {v : SY} (I : i_Rel k u v) (hk : k + 4 ≤ 2048) (v1 : Int32) : wpX_root (fun r u' => wpY_root (fun r' v' => r' = r ∧ i_Rel (k + 4) u' v') v v1) u v1 := by
  obtain ⟨md, c, nn, sg, fr, ex, a, hmd, hc, ha, rfl, rfl⟩ := I
  by_cases c1 : tf_cd v1
  · obtain ⟨i, hi, rfl⟩ := tf_cd_ex c1
    exact tf_use (WX := fun post => wpX_root post (nI md, nn, nI c, sg, fr, ex) (nI i)) (WY := fun post => wpY_root post (nI md, nn, nI c, a) (nI i)) hmd hc ha (tf_Jroot (nn := nn) (st := nI c) (sg := sg) (fr := fr) (ex := ex) ha hmd hi)
  · refine tf_keep (nn := nn) (sg := sg) (fr := fr) (ex := ex) (WX := fun post => wpX_root post (nI md, nn, nI c, sg, fr, ex) v1) (WY := fun post => wpY_root post (nI md, nn, nI c, a) v1) hmd hc ha (-1) (fun post K => ?_) (fun post K => ?_)
    · simp only [wpX_root, tf_Xbad_t c1, tf_c10, eq_self, true_imp_iff, false_imp_iff, not_true_eq_false, not_false_eq_true, true_and, and_true, forall_eq]
      exact K
    · simp only [wpY_root, tf_Ycode_f c1, tf_c10, eq_self, true_imp_iff, false_imp_iff, not_true_eq_false, not_false_eq_true, true_and, and_true, forall_eq]
      exact K
theorem i_vc_together {k : Nat} {u : SX} {v : SY} (I : i_Rel k u v) (hk : k + 4 ≤ 2048) (v1 : Int32) (v2 : Int32) (v3 : Int32) : wpX_together (fun r u' => wpY_together (fun r' v' => r' = r ∧ i_Rel (k + 4) u' v') v v1 v2 v3) u v1 v2 v3 := by
  obtain ⟨md, c, nn, sg, fr, ex, a, hmd, hc, ha, rfl, rfl⟩ := I
  by_cases c1 : tf_cd v1
  · by_cases c2 : tf_cd v2
    · by_cases c3 : tf_cd v3
      · obtain ⟨i, hi, rfl⟩ := tf_cd_ex c1
        obtain ⟨j, hj, rfl⟩ := tf_cd_ex c2
        obtain ⟨l, hl, rfl⟩ := tf_cd_ex c3
        refine tf_use (WX := fun post => wpX_together post (nI md, nn, nI c, sg, fr, ex) (nI i) (nI j) (nI l)) (WY := fun post => wpY_together post (nI md, nn, nI c, a) (nI i) (nI j) (nI l)) hmd hc ha (tf_Jm (tf_Jprod (nn := nn) (st := nI c) (sg := sg) (fr := fr) (ex := ex) ha hmd hi hj hl) (fun post K => ?_) (fun post K => K))
        · simp only [wpX_together, tf_Xbad_f c1, tf_Xbad_f c2, tf_Xbad_f c3, tf_c10, eq_self, true_imp_iff, false_imp_iff, not_true_eq_false, not_false_eq_true, true_and, and_true, forall_eq]
          exact K
      · refine tf_keep (nn := nn) (sg := sg) (fr := fr) (ex := ex) (WX := fun post => wpX_together post (nI md, nn, nI c, sg, fr, ex) v1 v2 v3) (WY := fun post => wpY_together post (nI md, nn, nI c, a) v1 v2 v3) hmd hc ha (-1) (fun post K => ?_) (fun post K => ?_)
        · simp only [wpX_together, tf_Xbad_f c1, tf_Xbad_f c2, tf_Xbad_t c3, tf_c10, eq_self, true_imp_iff, false_imp_iff, not_true_eq_false, not_false_eq_true, true_and, and_true, forall_eq]
          exact K
        · simp only [wpY_together, tf_Ycode_t c1, tf_Ycode_t c2, tf_Ycode_f c3, tf_c10, eq_self, true_imp_iff, false_imp_iff, not_true_eq_false, not_false_eq_true, true_and, and_true, forall_eq]
          exact K
    · refine tf_keep (nn := nn) (sg := sg) (fr := fr) (ex := ex) (WX := fun post => wpX_together post (nI md, nn, nI c, sg, fr, ex) v1 v2 v3) (WY := fun post => wpY_together post (nI md, nn, nI c, a) v1 v2 v3) hmd hc ha (-1) (fun post K => ?_) (fun post K => ?_)
      · simp only [wpX_together, tf_Xbad_f c1, tf_Xbad_t c2, tf_c10, eq_self, true_imp_iff, false_imp_iff, not_true_eq_false, not_false_eq_true, true_and, and_true, forall_eq]
        exact K
      · simp only [wpY_together, tf_Ycode_t c1, tf_Ycode_f c2, tf_c10, eq_self, true_imp_iff, false_imp_iff, not_true_eq_false, not_false_eq_true, true_and, and_true, forall_eq]
        exact K
  · refine tf_keep (nn := nn) (sg := sg) (fr := fr) (ex := ex) (WX := fun post => wpX_together post (nI md, nn, nI c, sg, fr, ex) v1 v2 v3) (WY := fun post => wpY_together post (nI md, nn, nI c, a) v1 v2 v3) hmd hc ha (-1) (fun post K => ?_) (fun post K => ?_)
    · simp only [wpX_together, tf_Xbad_t c1, tf_c10, eq_self, true_imp_iff, false_imp_iff, not_true_eq_false, not_false_eq_true, true_and, and_true, forall_eq]
      exact K
    · simp only [wpY_together, tf_Ycode_f c1, tf_c10, eq_self, true_imp_iff, false_imp_iff, not_true_eq_false, not_false_eq_true, true_and, and_true, forall_eq]
      exact K
theorem i_vc_compare {k : Nat} {u : SX} {v : SY} (I : i_Rel k u v) (hk : k + 4 ≤ 2048) (v1 : Int32) (v2 : Int32) : wpX_compare (fun r => wpY_compare (fun r' => r' = r ∧ i_Rel (k + 4) u v) v v1 v2) u v1 v2 := by
  have I' : i_Rel (k + 4) u v := I
  obtain ⟨md, c, nn, sg, fr, ex, a, hmd, hc, ha, rfl, rfl⟩ := I
  have fin : ∀ (r : Int32), (∀ post : Int32 → Prop, post r → wpX_compare post (nI md, nn, nI c, sg, fr, ex) v1 v2) → (∀ post : Int32 → Prop, post r → wpY_compare post (nI md, nn, nI c, a) v1 v2) →
      wpX_compare (fun r => wpY_compare (fun r' => r' = r ∧ i_Rel (k + 4) (nI md, nn, nI c, sg, fr, ex) (nI md, nn, nI c, a)) (nI md, nn, nI c, a) v1 v2) (nI md, nn, nI c, sg, fr, ex) v1 v2 := fun r X Y => X _ (Y _ ⟨rfl, I'⟩)
  by_cases c1 : tf_cd v1
  · by_cases c2 : tf_cd v2
    · obtain ⟨i, hi, rfl⟩ := tf_cd_ex c1
      obtain ⟨j, hj, rfl⟩ := tf_cd_ex c2
      obtain ⟨r, X, Y⟩ := tf_Jcmp (u := (nI md, nn, nI c, sg, fr, ex)) (m := nI md) (nn := nn) (st := nI c) ha hi hj
      exact fin r X Y
    · refine fin (-1) (fun post K => ?_) (fun post K => ?_)
      · simp only [wpX_compare, tf_Xbad_f c1, tf_Xbad_t c2, tf_c10, eq_self, true_imp_iff, false_imp_iff, not_true_eq_false, not_false_eq_true, true_and, and_true, forall_eq]
        exact K
      · simp only [wpY_compare, tf_Ycode_t c1, tf_Ycode_f c2, tf_c10, eq_self, true_imp_iff, false_imp_iff, not_true_eq_false, not_false_eq_true, true_and, and_true, forall_eq]
        exact K
  · refine fin (-1) (fun post K => ?_) (fun post K => ?_)
    · simp only [wpX_compare, tf_Xbad_t c1, tf_c10, eq_self, true_imp_iff, false_imp_iff, not_true_eq_false, not_false_eq_true, true_and, and_true, forall_eq]
      exact K
    · simp only [wpY_compare, tf_Ycode_f c1, tf_c10, eq_self, true_imp_iff, false_imp_iff, not_true_eq_false, not_false_eq_true, true_and, and_true, forall_eq]
      exact K
theorem i_vc_from {k : Nat} {u : SX} {v : SY} (I : i_Rel k u v) (hk : k + 4 ≤ 2048) (v1 : Int32) : wpX_from (fun r u' => wpY_from (fun r' v' => r' = r ∧ i_Rel (k + 4) u' v') v v1) u v1 := by
  obtain ⟨md, c, nn, sg, fr, ex, a, hmd, hc, ha, rfl, rfl⟩ := I
  by_cases h0 : v1 < (-1000000)
  · exact br_t h0 (br_t h0 ⟨rfl, md, c, nn, sg, fr, ex, a, hmd, hc, ha, rfl, rfl⟩)
  · by_cases h1 : v1 ≤ 1000000
    · exact tf_use (WX := fun post => wpX_from post (nI md, nn, nI c, sg, fr, ex) v1) (WY := fun post => wpY_from post (nI md, nn, nI c, a) v1) hmd hc ha (tf_Jfrom (nn := nn) (st := nI c) (sg := sg) (fr := fr) (ex := ex) ha hmd h0 h1)
    · exact br_f h0 (br_f h1 (br_f h0 (br_f h1 ⟨rfl, md, c, nn, sg, fr, ex, a, hmd, hc, ha, rfl, rfl⟩)))
theorem i_vc_whole {k : Nat} {u : SX} {v : SY} (I : i_Rel k u v) (hk : k + 4 ≤ 2048) (v1 : Int32) : wpX_whole (fun r u' => wpY_whole (fun r' => r' = r ∧ i_Rel (k + 4) u' v) v v1) u v1 := by
  obtain ⟨md, c, nn, sg, fr, ex, a, hmd, hc, ha, rfl, rfl⟩ := I
  have fin : ∀ (r sg' : Int32) (fr' : Int64) (ex' : Int32), (∀ post : Int32 → SX → Prop, post r (nI md, nn, nI c, sg', fr', ex') → wpX_whole post (nI md, nn, nI c, sg, fr, ex) v1) → (∀ post : Int32 → Prop, post r → wpY_whole post (nI md, nn, nI c, a) v1) →
      wpX_whole (fun r u' => wpY_whole (fun r' => r' = r ∧ i_Rel (k + 4) u' (nI md, nn, nI c, a)) (nI md, nn, nI c, a) v1) (nI md, nn, nI c, sg, fr, ex) v1 := fun r sg' fr' ex' X Y => X _ (Y _ ⟨rfl, md, c, nn, sg', fr', ex', a, hmd, hc, ha, rfl, rfl⟩)
  by_cases c1 : tf_cd v1
  · obtain ⟨i, hi, rfl⟩ := tf_cd_ex c1
    obtain ⟨r, sg', fr', ex', X, Y⟩ := tf_Jwhole (nn := nn) (st := nI c) (sg := sg) (fr := fr) (ex := ex) ha hmd hi
    exact fin r sg' fr' ex' X Y
  · refine fin 9999 sg fr ex (fun post K => ?_) (fun post K => ?_)
    · simp only [wpX_whole, tf_Xbad_t c1, tf_c10, eq_self, true_imp_iff, false_imp_iff, not_true_eq_false, not_false_eq_true, true_and, and_true, forall_eq]
      exact K
    · simp only [wpY_whole, tf_Ycode_f c1, tf_c10, eq_self, true_imp_iff, false_imp_iff, not_true_eq_false, not_false_eq_true, true_and, and_true, forall_eq]
      exact K
theorem tf_Xpile {post : Int32 → SX → Prop} {m nn st sg p : Int32} {fr : Int64} {ex : Int32} (h : tf_cd p) (K : wpX_sum (fun r u => post r (u.1, u.2.1, r, u.2.2.2.1, u.2.2.2.2.1, u.2.2.2.2.2)) (m, nn, st, sg, fr, ex) st p) : wpX_pile post (m, nn, st, sg, fr, ex) p := by
  simp only [wpX_pile, tf_Xbad_f h, tf_c10, eq_self, true_imp_iff, false_imp_iff, not_true_eq_false, not_false_eq_true, true_and, and_true, forall_eq]
  exact K
theorem tf_Ypile {post : Int32 → SY → Prop} {m nn st p : Int32} {a : Nat → Int32} (h : tf_cd p) (K : wpY_add (fun r v => post r (v.1, v.2.1, r, v.2.2.2)) (m, nn, st, a) st p) : wpY_pile post (m, nn, st, a) p := by
  simp only [wpY_pile, tf_Ycode_t h, tf_c10, eq_self, true_imp_iff, false_imp_iff, not_true_eq_false, not_false_eq_true, true_and, and_true, forall_eq]
  exact K
theorem i_vc_pile {k : Nat} {u : SX} {v : SY} (I : i_Rel k u v) (hk : k + 4 ≤ 2048) (v1 : Int32) : wpX_pile (fun r u' => wpY_pile (fun r' v' => r' = r ∧ i_Rel (k + 4) u' v') v v1) u v1 := by
  obtain ⟨md, c, nn, sg, fr, ex, a, hmd, hc, ha, rfl, rfl⟩ := I
  by_cases c1 : tf_cd v1
  · obtain ⟨i, hi, rfl⟩ := tf_cd_ex c1
    obtain ⟨x, nn', sg', fr', ex', hx, X, Y⟩ := tf_Jsum (nn := nn) (st := nI c) (sg := sg) (fr := fr) (ex := ex) ha hmd hc hi
    exact tf_Xpile c1 (X _ (tf_Ypile c1 (Y _ ⟨rfl, md, x, nn', sg', fr', ex', a, hmd, hx, ha, rfl, rfl⟩)))
  · refine tf_keep (nn := nn) (sg := sg) (fr := fr) (ex := ex) (WX := fun post => wpX_pile post (nI md, nn, nI c, sg, fr, ex) v1) (WY := fun post => wpY_pile post (nI md, nn, nI c, a) v1) hmd hc ha (-1) (fun post K => ?_) (fun post K => ?_)
    · simp only [wpX_pile, tf_Xbad_t c1, tf_c10, eq_self, true_imp_iff, false_imp_iff, not_true_eq_false, not_false_eq_true, true_and, and_true, forall_eq]
      exact K
    · simp only [wpY_pile, tf_Ycode_f c1, tf_c10, eq_self, true_imp_iff, false_imp_iff, not_true_eq_false, not_false_eq_true, true_and, and_true, forall_eq]
      exact K
theorem tf_XpileP {post : Int32 → SX → Prop} {m nn st sg p q : Int32} {fr : Int64} {ex : Int32} (h : tf_cd p) (h' : tf_cd q) (K : wpX_productSum (fun r u => post r (u.1, u.2.1, r, u.2.2.2.1, u.2.2.2.2.1, u.2.2.2.2.2)) (m, nn, st, sg, fr, ex) p q st) : wpX_pileProduct post (m, nn, st, sg, fr, ex) p q := by
  simp only [wpX_pileProduct, tf_Xbad_f h, tf_Xbad_f h', tf_c10, eq_self, true_imp_iff, false_imp_iff, not_true_eq_false, not_false_eq_true, true_and, and_true, forall_eq]
  exact K
theorem tf_YpileP {post : Int32 → SY → Prop} {m nn st p q : Int32} {a : Nat → Int32} (h : tf_cd p) (h' : tf_cd q) (K : wpY_together (fun r v => post r (v.1, v.2.1, r, v.2.2.2)) (m, nn, st, a) p q st) : wpY_pileProduct post (m, nn, st, a) p q := by
  simp only [wpY_pileProduct, tf_Ycode_t h, tf_Ycode_t h', tf_c10, eq_self, true_imp_iff, false_imp_iff, not_true_eq_false, not_false_eq_true, true_and, and_true, forall_eq]
  exact K
theorem i_vc_pileProduct {k : Nat} {u : SX} {v : SY} (I : i_Rel k u v) (hk : k + 4 ≤ 2048) (v1 : Int32) (v2 : Int32) : wpX_pileProduct (fun r u' => wpY_pileProduct (fun r' v' => r' = r ∧ i_Rel (k + 4) u' v') v v1 v2) u v1 v2 := by
  obtain ⟨md, c, nn, sg, fr, ex, a, hmd, hc, ha, rfl, rfl⟩ := I
  by_cases c1 : tf_cd v1
  · by_cases c2 : tf_cd v2
    · obtain ⟨i, hi, rfl⟩ := tf_cd_ex c1
      obtain ⟨j, hj, rfl⟩ := tf_cd_ex c2
      obtain ⟨x, nn', sg', fr', ex', hx, X, Y⟩ := tf_Jprod (nn := nn) (st := nI c) (sg := sg) (fr := fr) (ex := ex) ha hmd hi hj hc
      exact tf_XpileP c1 c2 (X _ (tf_YpileP c1 c2 (Y _ ⟨rfl, md, x, nn', sg', fr', ex', a, hmd, hx, ha, rfl, rfl⟩)))
    · refine tf_keep (nn := nn) (sg := sg) (fr := fr) (ex := ex) (WX := fun post => wpX_pileProduct post (nI md, nn, nI c, sg, fr, ex) v1 v2) (WY := fun post => wpY_pileProduct post (nI md, nn, nI c, a) v1 v2) hmd hc ha (-1) (fun post K => ?_) (fun post K => ?_)
      · simp only [wpX_pileProduct, tf_Xbad_f c1, tf_Xbad_t c2, tf_c10, eq_self, true_imp_iff, false_imp_iff, not_true_eq_false, not_false_eq_true, true_and, and_true, forall_eq]
        exact K
      · simp only [wpY_pileProduct, tf_Ycode_t c1, tf_Ycode_f c2, tf_c10, eq_self, true_imp_iff, false_imp_iff, not_true_eq_false, not_false_eq_true, true_and, and_true, forall_eq]
        exact K
  · refine tf_keep (nn := nn) (sg := sg) (fr := fr) (ex := ex) (WX := fun post => wpX_pileProduct post (nI md, nn, nI c, sg, fr, ex) v1 v2) (WY := fun post => wpY_pileProduct post (nI md, nn, nI c, a) v1 v2) hmd hc ha (-1) (fun post K => ?_) (fun post K => ?_)
    · simp only [wpX_pileProduct, tf_Xbad_t c1, tf_c10, eq_self, true_imp_iff, false_imp_iff, not_true_eq_false, not_false_eq_true, true_and, and_true, forall_eq]
      exact K
    · simp only [wpY_pileProduct, tf_Ycode_f c1, tf_c10, eq_self, true_imp_iff, false_imp_iff, not_true_eq_false, not_false_eq_true, true_and, and_true, forall_eq]
      exact K
theorem i_vc_store {k : Nat} {u : SX} {v : SY} (I : i_Rel k u v) (hk : k + 4 ≤ 2048) (v1 : Int32) : wpX_store (fun r u' => wpY_store (fun r' v' => r' = r ∧ i_Rel (k + 4) u' v') v v1) u v1 := by
  obtain ⟨md, c, nn, sg, fr, ex, a, hmd, hc, ha, rfl, rfl⟩ := I
  by_cases c1 : tf_cd v1
  · obtain ⟨i, hi, rfl⟩ := tf_cd_ex c1
    simp only [wpX_store, wpY_store, tf_Xbad_f c1, tf_Ycode_t c1, tf_c10, eq_self, true_imp_iff, false_imp_iff, not_true_eq_false, not_false_eq_true, true_and, and_true, forall_eq]
    exact ⟨md, i, nn, sg, fr, ex, a, hmd, hi, ha, rfl, rfl⟩
  · simp only [wpX_store, wpY_store, tf_Xbad_t c1, tf_Ycode_f c1, tf_c10, eq_self, true_imp_iff, false_imp_iff, not_true_eq_false, not_false_eq_true, true_and, and_true, forall_eq]
    exact ⟨md, c, nn, sg, fr, ex, a, hmd, hc, ha, rfl, rfl⟩
end
