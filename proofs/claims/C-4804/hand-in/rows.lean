section
/-! STARTING TEXT: rows of kit/rows, pasted by mk01.py -/
theorem pk_sub {a b : Nat} (h : b ≤ a) : nI a - nI b = nI (a - b) := by
  obtain ⟨c, rfl⟩ : ∃ c, a = c + b := ⟨a - b, by omega⟩
  rw [← nI_add, Int32.add_sub_cancel, Nat.add_sub_cancel]
theorem pk_m1 (n : Nat) : nI (n + 1) + (-1) = nI n := by
  rw [← nI_1, Int32.add_assoc, show (1 : Int32) + (-1) = 0 from rfl, Int32.add_zero]
theorem pk_mul (a b : Nat) : nI a * nI b = nI (a * b) := (Int32.ofNat_mul a b).symm
theorem pk_div {a d : Nat} (ha : a < 2 ^ 31) (h0 : 0 < d) (hd : d < 2 ^ 31) : nI a / nI d = nI (a / d) := by
  apply Int32.toInt_inj.mp
  rw [lg_idiv_nonneg (by rw [nI_toInt ha]; omega) (by rw [nI_toInt hd]; omega), nI_toInt ha, nI_toInt hd, nI_toInt (Nat.lt_of_le_of_lt (Nat.div_le_self a d) ha)]
  first | rfl | exact (Int.natCast_ediv _ _).symm
theorem pk_rem {a d : Nat} (ha : a < 2 ^ 31) (h0 : 0 < d) (hd : d < 2 ^ 31) : nI a - nI a / nI d * nI d = nI (a % d) := by
  rw [pk_div ha h0 hd, pk_mul, pk_sub (Nat.div_mul_le_self a d)]
  exact congrArg nI (by have := Nat.div_add_mod' a d; omega)
theorem pk_sub_toInt {a b : Nat} (ha : a < 2 ^ 30) (hb : b < 2 ^ 30) : (nI a - nI b).toInt = (a : Int) - b := by
  rw [Int32.toInt_sub, nI_toInt (by omega), nI_toInt (by omega)]
  exact Int.bmod_eq_of_le (by omega) (by omega)
theorem pk_sneg {a b : Nat} (hb : b < 2 ^ 30) (h : a < b) : nI a - nI b < 0 := by
  rw [Int32.lt_iff_toInt_lt, pk_sub_toInt (by omega) hb, show (0 : Int32).toInt = 0 from by decide]
  omega
theorem pk_ix (x : Int32) {n : Nat} (hn : n < 2 ^ 31) : x < 0 ∨ nI n ≤ x ∨ ∃ j : Nat, j < n ∧ x = nI j := by
  by_cases h : x < 0
  · exact Or.inl h
  · obtain ⟨j, hj, rfl⟩ := nI_of h
    by_cases h2 : j < n
    · exact Or.inr (Or.inr ⟨j, h2, rfl⟩)
    · exact Or.inr (Or.inl (nI_le (by omega) hj))
theorem pk_le {x y : Int32} {A B : Prop} (a b : Nat) (f : a ≤ b → A) (g : b < a → B) (hx : x = nI a := by rfl) (hy : y = nI b := by rfl) (ha : a < 2 ^ 31 := by omega) (hb : b < 2 ^ 31 := by omega) : (x ≤ y → A) ∧ (¬ x ≤ y → B) := by
  subst hx hy
  rw [nI_leI ha hb]
  exact ⟨f, fun z => g (by omega)⟩
theorem pk_lt {x y : Int32} {A B : Prop} (a b : Nat) (f : a < b → A) (g : b ≤ a → B) (hx : x = nI a := by rfl) (hy : y = nI b := by rfl) (ha : a < 2 ^ 31 := by omega) (hb : b < 2 ^ 31 := by omega) : (x < y → A) ∧ (¬ x < y → B) := by
  subst hx hy
  rw [nI_ltI ha hb]
  exact ⟨f, fun z => g (by omega)⟩
theorem pk_eq {x y : Int32} {A B : Prop} (a b : Nat) (f : a = b → A) (g : a ≠ b → B) (hx : x = nI a := by rfl) (hy : y = nI b := by rfl) (ha : a < 2 ^ 31 := by omega) (hb : b < 2 ^ 31 := by omega) : (x = y → A) ∧ (¬ x = y → B) := by
  subst hx hy
  rw [nI_eq ha hb]
  exact ⟨f, g⟩
theorem pk_tn {n : Nat} (h : n < 2 ^ 32) : (nI n).toBitVec.toNat = n := Nat.mod_eq_of_lt h
theorem pk_and (x : Int32) {m : Int32} (k : Nat) (hm : m.toBitVec.toNat = 2 ^ k - 1) : x &&& m = nI (x.toBitVec.toNat % 2 ^ k) := by
  apply Int32.toBitVec_inj.mp
  apply BitVec.eq_of_toNat_eq
  rw [Int32.toBitVec_and, BitVec.toNat_and, hm, Nat.and_two_pow_sub_one_eq_mod]
  show _ = (BitVec.ofNat 32 _).toNat
  rw [BitVec.toNat_ofNat]
  exact (Nat.mod_eq_of_lt (Nat.lt_of_le_of_lt (Nat.mod_le _ _) x.toBitVec.isLt)).symm
theorem pk_andN {n : Nat} (h : n < 2 ^ 32) {m : Int32} (k : Nat) (hm : m.toBitVec.toNat = 2 ^ k - 1) : nI n &&& m = nI (n % 2 ^ k) := by
  rw [pk_and _ k hm, pk_tn h]
theorem pk_shl (a s : Int32) (k : Nat) (hs : (s.toBitVec.smod 32).toNat = k) : (a <<< s).toBitVec.toNat = a.toBitVec.toNat * 2 ^ k % 2 ^ 32 := by
  show (a.toBitVec <<< (s.toBitVec.smod 32).toNat).toNat = _
  rw [hs, BitVec.toNat_shiftLeft, Nat.shiftLeft_eq]
theorem pk_shlN {n : Nat} (s : Int32) (k : Nat) (hs : (s.toBitVec.smod 32).toNat = k) (h : n * 2 ^ k < 2 ^ 32) : nI n <<< s = nI (n * 2 ^ k) := by
  apply Int32.toBitVec_inj.mp
  apply BitVec.eq_of_toNat_eq
  have hn : n < 2 ^ 32 := Nat.lt_of_le_of_lt (Nat.le_mul_of_pos_right n (Nat.two_pow_pos k)) h
  rw [pk_shl _ _ k hs, pk_tn hn, pk_tn h, Nat.mod_eq_of_lt h]
theorem pk_shr (a s : Int32) (k : Nat) (hs : (s.toBitVec.smod 32).toNat = k) : (a >>> s).toInt = a.toInt >>> k := by
  show (a.toBitVec.sshiftRight (s.toBitVec.smod 32).toNat).toInt = _
  rw [hs, BitVec.toInt_sshiftRight]
  rfl
theorem pk_shrN {n : Nat} (h : n < 2 ^ 31) (s : Int32) (k : Nat) (hs : (s.toBitVec.smod 32).toNat = k) : nI n >>> s = nI (n / 2 ^ k) := by
  apply Int32.toInt_inj.mp
  have h2 : n / 2 ^ k ≤ n := Nat.div_le_self _ _
  rw [pk_shr _ _ k hs, nI_toInt h, nI_toInt (by omega), Int.shiftRight_eq_div_pow]
  rfl
theorem pk_ushr (x s : Int32) (k : Nat) (hs : ((s.toUInt32 &&& Int32.toUInt32 31).toBitVec % 32).toNat = k) : (x.toUInt32 >>> (s.toUInt32 &&& Int32.toUInt32 31)).toInt32.toBitVec.toNat = x.toBitVec.toNat / 2 ^ k := by
  have e : (x.toUInt32 >>> (s.toUInt32 &&& Int32.toUInt32 31)).toInt32.toBitVec = x.toBitVec >>> k := by
    rw [← hs]
    exact UInt32.toBitVec_shiftRight _ _
  rw [e, BitVec.toNat_ushiftRight, Nat.shiftRight_eq_div_pow]
theorem pk_ushrN {n : Nat} (hn : n < 2 ^ 32) (s : Int32) (k : Nat) (hs : ((s.toUInt32 &&& Int32.toUInt32 31).toBitVec % 32).toNat = k) : ((nI n).toUInt32 >>> (s.toUInt32 &&& Int32.toUInt32 31)).toInt32 = nI (n / 2 ^ k) := by
  apply Int32.toBitVec_inj.mp
  apply BitVec.eq_of_toNat_eq
  rw [pk_ushr _ s k hs, pk_tn hn, pk_tn (Nat.lt_of_le_of_lt (Nat.div_le_self _ _) hn)]
theorem pk_lT {n : Nat} (h : n < 2 ^ 63) : (lN n).toInt = (n : Int) := lg_ofNat_toInt h
theorem pk_lLT {a b : Nat} (ha : a < 2 ^ 63) (hb : b < 2 ^ 63) : lN a < lN b ↔ a < b := by
  rw [Int64.lt_iff_toInt_lt, pk_lT ha, pk_lT hb]; omega
theorem pk_lLE {a b : Nat} (ha : a < 2 ^ 63) (hb : b < 2 ^ 63) : lN a ≤ lN b ↔ a ≤ b := by
  rw [Int64.le_iff_toInt_le, pk_lT ha, pk_lT hb]; omega
theorem pk_lEQ {a b : Nat} (ha : a < 2 ^ 63) (hb : b < 2 ^ 63) : lN a = lN b ↔ a = b := by
  rw [← Int64.toInt_inj, pk_lT ha, pk_lT hb]; omega
theorem pk_lOf {x : Int64} (h : ¬ x < 0) : ∃ k : Nat, k < 2 ^ 63 ∧ x = lN k := by
  rw [Int64.lt_iff_toInt_lt] at h
  have h0 : (0 : Int64).toInt = 0 := by decide
  have hx := Int64.toInt_lt x
  refine ⟨x.toInt.toNat, by omega, Int64.toInt_inj.mp ?_⟩
  rw [pk_lT (by omega)]
  omega
theorem pk_lDiv {a b : Nat} (ha : a < 2 ^ 63) (h0 : 0 < b) (hb : b < 2 ^ 63) : lN a / lN b = lN (a / b) := by
  apply Int64.toInt_inj.mp
  rw [lg_ldiv_nonneg (by rw [pk_lT ha]; omega) (by rw [pk_lT hb]; omega), pk_lT ha, pk_lT hb, pk_lT (Nat.lt_of_le_of_lt (Nat.div_le_self a b) ha)]
  rfl
theorem pk_lRem {a b : Nat} (ha : a < 2 ^ 63) (h0 : 0 < b) (hb : b < 2 ^ 63) : lN a - lN a / lN b * lN b = lN (a % b) := by
  rw [pk_lDiv ha h0 hb, lN_mul, lN_sub (Nat.div_mul_le_self a b)]
  exact congrArg lN (by have := Nat.div_add_mod' a b; omega)
theorem pk_least (P : Nat → Prop) (h : ∃ k, P k) : ∃ k, P k ∧ ∀ j, j < k → ¬ P j := by
  obtain ⟨k, hk⟩ := h
  induction k using Nat.strongRecOn with
  | ind k ih =>
    by_cases e : ∃ j, j < k ∧ P j
    · obtain ⟨j, hj, pj⟩ := e
      exact ih j hj pj
    · exact ⟨k, hk, fun j hj pj => e ⟨j, hj, pj⟩⟩
theorem nx_and (a b : Nat) : nI a &&& nI b = nI (a &&& b) := by
  apply Int32.toBitVec_inj.1
  show BitVec.ofNat 32 a &&& BitVec.ofNat 32 b = BitVec.ofNat 32 (a &&& b)
  apply BitVec.eq_of_getLsbD_eq
  intro i hi
  simp [hi]
theorem wb_tb (n : Nat) : (lN n).toBitVec = BitVec.ofNat 64 n := rfl
theorem wb_inj {a b : Int64} (h : a.toBitVec = b.toBitVec) : a = b := Int64.toBitVec_inj.mp h
theorem wb_tn {n : Nat} (h : n < 2 ^ 64) : (lN n).toBitVec.toNat = n := by rw [wb_tb, BitVec.toNat_ofNat, Nat.mod_eq_of_lt h]
theorem wb_c : ∀ k, k < 64 → ((nI k).toInt64 &&& 63) = lN k := by decide +kernel
theorem wb_sm : ∀ k, k < 64 → (BitVec.ofNat 64 k).smod 64 = BitVec.ofNat 64 k := by decide +kernel
theorem wb_pw {a b : Nat} (h : a ≤ b) : 2 ^ b = 2 ^ a * 2 ^ (b - a) := by rw [← Nat.pow_add]; congr 1; omega
theorem wb_lt2 {a b : Nat} (h : a < b) : 2 ^ a < 2 ^ b := Nat.pow_lt_pow_right (by decide) h
theorem wb_shl (n : Nat) {k : Nat} (hk : k < 64) : lN n <<< ((nI k).toInt64 &&& 63) = lN (n * 2 ^ k) := by
  rw [wb_c k hk]
  apply wb_inj
  rw [Int64.toBitVec_shiftLeft, wb_tb, wb_tb, wb_tb, wb_sm k hk]
  apply BitVec.eq_of_toNat_eq
  rw [BitVec.shiftLeft_eq', BitVec.toNat_shiftLeft, BitVec.toNat_ofNat, BitVec.toNat_ofNat, BitVec.toNat_ofNat, Nat.mod_eq_of_lt (show k < 2 ^ 64 by omega), Nat.shiftLeft_eq, Nat.mul_mod, Nat.mod_mod, ← Nat.mul_mod]
theorem wb_and {a b : Nat} (ha : a < 2 ^ 64) (hb : b < 2 ^ 64) : lN a &&& lN b = lN (a &&& b) := by
  apply wb_inj
  rw [Int64.toBitVec_and, wb_tb, wb_tb, wb_tb]
  apply BitVec.eq_of_toNat_eq
  rw [BitVec.toNat_and, BitVec.toNat_ofNat, BitVec.toNat_ofNat, BitVec.toNat_ofNat, Nat.mod_eq_of_lt ha, Nat.mod_eq_of_lt hb, Nat.mod_eq_of_lt (Nat.and_lt_two_pow _ hb)]
theorem wb_mask {n k : Nat} (hn : n < 2 ^ 64) (hk : k < 64) : lN n &&& lN (2 ^ k - 1) = lN (n % 2 ^ k) := by
  rw [wb_and hn (by have := wb_lt2 hk; omega), Nat.and_two_pow_sub_one_eq_mod]
theorem wb_a1 {n : Nat} (hn : n < 2 ^ 64) : lN n &&& 1 = lN (n % 2) := wb_mask (k := 1) hn (by decide)
theorem pf_lI {a : Nat} (h : a < 2 ^ 63) : (lN a).toInt = (a : Int) := lg_ofNat_toInt h
theorem pf_shr {a d : Nat} {D : Int64} (hD : (D.toBitVec.smod 64).toNat = d) (h : a < 2 ^ 62) : lN a >>> D = lN (a / 2 ^ d) := by
  have hd : a / 2 ^ d ≤ a := Nat.div_le_self _ _
  apply Int64.toInt_inj.mp
  have e : (lN a >>> D).toInt = (lN a).toInt >>> d := by
    rw [← hD]
    exact BitVec.toInt_sshiftRight ..
  rw [e, Int.shiftRight_eq_div_pow, pf_lI (by omega), pf_lI (by omega)]
  rfl
end
section
/-! the pure picture: patterns, amounts, middles, the nearest pattern -/
def hf_dg (a : Nat) : Nat := if a / 1024 % 32 = 0 then a % 1024 else 1024 + a % 1024
def hf_pl (a : Nat) : Nat := a / 1024 % 32 - 1
def hf_am (a : Nat) : Nat := hf_dg a * 2 ^ hf_pl a
def hf_md (a : Nat) : Nat := hf_am a + hf_am (a + 1)
theorem hf_dgm (a : Nat) : hf_dg (a % 32768) = hf_dg a := by
  unfold hf_dg
  rw [show a % 32768 / 1024 % 32 = a / 1024 % 32 by omega, show a % 32768 % 1024 = a % 1024 by omega]
theorem hf_plm (a : Nat) : hf_pl (a % 32768) = hf_pl a := by
  unfold hf_pl
  rw [show a % 32768 / 1024 % 32 = a / 1024 % 32 by omega]
theorem hf_amm (a : Nat) : hf_am (a % 32768) = hf_am a := by unfold hf_am; rw [hf_dgm, hf_plm]
theorem hf_dg_lt (a : Nat) : hf_dg a < 2048 := by unfold hf_dg; split <;> omega
theorem hf_pl_le (a : Nat) : hf_pl a ≤ 30 := by unfold hf_pl; omega
theorem hf_pl_29 {a : Nat} (h : a / 1024 % 32 ≠ 31) : hf_pl a ≤ 29 := by unfold hf_pl; omega
theorem hf_dg_ge {a : Nat} (h : hf_pl a ≠ 0) : 1024 ≤ hf_dg a := by
  unfold hf_pl at h
  unfold hf_dg
  rw [if_neg (by omega)]
  omega
theorem hf_or (a : Nat) : hf_pl a = 0 ∨ 1024 ≤ hf_dg a := by
  by_cases z : hf_pl a = 0
  · exact Or.inl z
  · exact Or.inr (hf_dg_ge z)
theorem hf_eq {a : Nat} (h : a < 32768) : a = hf_pl a * 1024 + hf_dg a := by
  unfold hf_pl hf_dg
  split <;> omega
theorem hf_dec {K q : Nat} (hK : K ≤ 30) (hq : q < 2048) (h : K = 0 ∨ 1024 ≤ q) : hf_dg (K * 1024 + q) = q ∧ hf_pl (K * 1024 + q) = K := by
  unfold hf_dg hf_pl
  constructor
  · split <;> omega
  · omega
theorem hf_am_Kq {K q : Nat} (hK : K ≤ 30) (hq : q < 2048) (h : K = 0 ∨ 1024 ≤ q) : hf_am (K * 1024 + q) = q * 2 ^ K := by
  obtain ⟨a, b⟩ := hf_dec hK hq h
  unfold hf_am
  rw [a, b]
theorem hf_am_s0 {K q : Nat} (hK : K ≤ 29) (hq : q < 2048) (h : K = 0 ∨ 1024 ≤ q) : hf_am (K * 1024 + q + 1) = q * 2 ^ K + 2 ^ K := by
  by_cases z : q + 1 < 2048
  · rw [Nat.add_assoc, hf_am_Kq (by omega) z (by omega), Nat.succ_mul]
  · rw [show K * 1024 + q + 1 = (K + 1) * 1024 + 1024 by omega, hf_am_Kq (by omega) (by omega) (by omega), show q = 2047 by omega, Nat.pow_succ]
    omega
theorem hf_am_s {p : Nat} (h : p < 31744) : hf_am (p + 1) = hf_am p + 2 ^ hf_pl p := by
  have e := hf_eq (a := p) (by omega)
  have hK : hf_pl p ≤ 29 := by unfold hf_pl; omega
  have r := hf_am_s0 hK (hf_dg_lt p) (hf_or p)
  rw [← e] at r
  exact r
theorem hf_am_lt {a b : Nat} (h : a < b) (hb : b ≤ 31744) : hf_am a < hf_am b := by
  induction b with
  | zero => omega
  | succ b ih =>
    rw [hf_am_s (by omega)]
    have hp := Nat.two_pow_pos (hf_pl b)
    by_cases z : a = b
    · subst z; omega
    · have := ih (by omega) (by omega); omega
theorem hf_am_le {a b : Nat} (h : a ≤ b) (hb : b ≤ 31744) : hf_am a ≤ hf_am b := by
  by_cases z : a = b
  · rw [z]; exact Nat.le_refl _
  · exact Nat.le_of_lt (hf_am_lt (by omega) hb)
theorem hf_md_eq {p : Nat} (h : p < 31744) : hf_md p = 2 * hf_am p + 2 ^ hf_pl p := by
  unfold hf_md
  rw [hf_am_s h]
  omega
theorem hf_md_lt {a b : Nat} (h : a < b) (hb : b < 31744) : hf_md a < hf_md b := by
  unfold hf_md
  have h1 := hf_am_lt h (by omega)
  have h2 := hf_am_lt (a := a + 1) (b := b + 1) (by omega) (by omega)
  omega
theorem hf_top : hf_am 31744 = 1099511627776 := by decide +kernel
theorem hf_am_b {p : Nat} (h : p < 31744) : hf_am p < 1099511627776 := by
  rw [← hf_top]
  exact hf_am_lt h (by omega)
/-- the pattern r is the nearest to u / l units, of two the even one -/
def hf_NR (u l r : Nat) : Prop := r ≤ 31744 ∧ (∀ p, p + 1 = r → hf_md p * l < 2 * u ∨ (hf_md p * l = 2 * u ∧ r % 2 = 0)) ∧ (r < 31744 → 2 * u < hf_md r * l ∨ (2 * u = hf_md r * l ∧ r % 2 = 0))
theorem hf_NR_n {u l r s : Nat} (hl : 0 < l) (h : hf_NR u l r) (g : hf_NR u l s) : ¬ r < s := by
  intro hrs
  have hs : s ≤ 31744 := g.1
  have a := h.2.2 (by omega)
  have b := g.2.1 (s - 1) (by omega)
  by_cases z : r = s - 1
  · rw [← z] at b
    omega
  · have d : hf_md r < hf_md (s - 1) := hf_md_lt (by omega) (by omega)
    have d2 : hf_md r * l < hf_md (s - 1) * l := Nat.mul_lt_mul_of_pos_right d hl
    omega
theorem hf_NR_u {u l r s : Nat} (hl : 0 < l) (h : hf_NR u l r) (g : hf_NR u l s) : r = s := by
  have a := hf_NR_n hl h g
  have b := hf_NR_n hl g h
  omega
theorem hf_sc1 {a b c : Nat} (hc : 0 < c) : a * c < b * c ↔ a < b := ⟨fun h => Nat.lt_of_mul_lt_mul_right h, fun h => Nat.mul_lt_mul_of_pos_right h hc⟩
theorem hf_sc2 {a b c : Nat} (hc : 0 < c) : a * c = b * c ↔ a = b := ⟨fun h => Nat.eq_of_mul_eq_mul_right hc h, fun h => by rw [h]⟩
theorem hf_NR_m {u l r c : Nat} (hc : 0 < c) : hf_NR (u * c) (l * c) r ↔ hf_NR u l r := by
  unfold hf_NR
  have e1 : ∀ x, x * (l * c) < 2 * (u * c) ↔ x * l < 2 * u := fun x => by
    rw [← Nat.mul_assoc, ← Nat.mul_assoc]; exact hf_sc1 hc
  have e2 : ∀ x, x * (l * c) = 2 * (u * c) ↔ x * l = 2 * u := fun x => by
    rw [← Nat.mul_assoc, ← Nat.mul_assoc]; exact hf_sc2 hc
  have e3 : ∀ x, 2 * (u * c) < x * (l * c) ↔ 2 * u < x * l := fun x => by
    rw [← Nat.mul_assoc, ← Nat.mul_assoc]; exact hf_sc1 hc
  have e4 : ∀ x, 2 * (u * c) = x * (l * c) ↔ 2 * u = x * l := fun x => by
    rw [← Nat.mul_assoc, ← Nat.mul_assoc]; exact hf_sc2 hc
  simp only [e1, e2, e3, e4]
theorem hf_NR_f {u l p r : Nat} (hl : 0 < l) (hp : p ≤ 31743) (h1 : hf_am p * l ≤ u) (h2 : u < hf_am (p + 1) * l)
    (hr : (r = p ∧ (2 * u < hf_md p * l ∨ (2 * u = hf_md p * l ∧ p % 2 = 0))) ∨ (r = p + 1 ∧ (hf_md p * l < 2 * u ∨ (hf_md p * l = 2 * u ∧ p % 2 = 1)))) : hf_NR u l r := by
  rcases hr with ⟨e, c⟩ | ⟨e, c⟩
  · subst e
    refine ⟨by omega, fun q hq => Or.inl ?_, fun _ => c⟩
    have d : hf_md q < 2 * hf_am r := by
      subst hq
      unfold hf_md
      have := hf_am_lt (a := q) (b := q + 1) (by omega) (by omega)
      omega
    have d2 := Nat.mul_lt_mul_of_pos_right d hl
    rw [Nat.mul_assoc] at d2
    omega
  · subst e
    refine ⟨by omega, fun q hq => ?_, fun hlt => Or.inl ?_⟩
    · obtain rfl : q = p := by omega
      rcases c with c | ⟨c, c'⟩
      · exact Or.inl c
      · exact Or.inr ⟨c, by omega⟩
    · have d : 2 * hf_am (p + 1) < hf_md (p + 1) := by
        unfold hf_md
        have := hf_am_lt (a := p + 1) (b := p + 1 + 1) (by omega) (by omega)
        omega
      have d2 := Nat.mul_lt_mul_of_pos_right d hl
      rw [Nat.mul_assoc] at d2
      omega
theorem hf_NR_t {u l : Nat} (hl : 0 < l) (h : hf_am 31744 * l ≤ u) : hf_NR u l 31744 := by
  refine ⟨Nat.le_refl _, fun q hq => Or.inl ?_, fun hlt => absurd hlt (Nat.lt_irrefl _)⟩
  obtain rfl : q = 31743 := by omega
  have d : hf_md 31743 < 2 * hf_am 31744 := by
    have := hf_am_lt (a := 31743) (b := 31744) (by omega) (by omega)
    show hf_am 31743 + hf_am 31744 < _
    omega
  have d2 := Nat.mul_lt_mul_of_pos_right d hl
  rw [Nat.mul_assoc] at d2
  omega
/-- K is how far X's round shifts beyond 4 -/
def hf_K (U K : Nat) : Prop := U / 2 ^ (4 + K) ≤ 2047 ∧ ∀ j, j < K → 2047 < U / 2 ^ (4 + j)
theorem hf_K_q {U K : Nat} (h : hf_K U K) : U / 2 ^ (4 + K) < 2048 ∧ (K = 0 ∨ 1024 ≤ U / 2 ^ (4 + K)) := by
  refine ⟨by have := h.1; omega, ?_⟩
  by_cases z : K = 0
  · exact Or.inl z
  · refine Or.inr ?_
    have a := h.2 (K - 1) (by omega)
    rw [show 4 + K = (4 + (K - 1)) + 1 by omega, Nat.pow_succ, ← Nat.div_div_eq_div_mul]
    omega
theorem hf_lin {q P l Z Y : Nat} (hP : P = 8 * Z) (hY : Y = q * (Z * l)) : (2 * q) * P * l = 16 * Y ∧ (2 * q + 1) * P * l = 16 * Y + 8 * (Z * l) ∧ (2 * q + 2) * P * l = 16 * Y + 16 * (Z * l) ∧ q * Z * l = Y ∧ (q * Z + Z) * l = Y + Z * l ∧ (q * Z + (q * Z + Z)) * l = 2 * Y + Z * l := by
  subst hP hY
  refine ⟨by grind, by grind, by grind, by grind, by grind, by grind⟩
theorem hf_NR_X0 {U b u l K t r q P lo : Nat} (hl : 0 < l) (hP : P = 8 * 2 ^ K) (hU : U = q * (2 * P) + lo) (hlo : lo < 2 * P) (hq : q < 2048) (ho : K = 0 ∨ 1024 ≤ q)
    (H1 : ∀ c, c * P * l ≤ 16 * u ↔ c * P ≤ U) (H2 : ∀ c, c * P * l = 16 * u ↔ (c * P = U ∧ b = 0))
    (ht : (t = 1 ∧ (P < lo ∨ (lo = P ∧ (b ≠ 0 ∨ q % 2 = 1)))) ∨ (t = 0 ∧ (lo < P ∨ (lo = P ∧ b = 0 ∧ q % 2 = 0))))
    (hr : (K * 1024 + q + t ≤ 31744 ∧ r = K * 1024 + q + t) ∨ (31744 < K * 1024 + q + t ∧ r = 31744)) : hf_NR u l r := by
  have a1 := H1 (2 * q)
  have a2 := H1 (2 * q + 1)
  have a3 := H1 (2 * q + 2)
  have a4 := H2 (2 * q + 1)
  obtain ⟨l1, l2, l3, l4, l5, l6⟩ := hf_lin (q := q) (P := P) (l := l) (Z := 2 ^ K) (Y := q * (2 ^ K * l)) hP rfl
  have m1 : 2 * q * P = q * (2 * P) := by rw [Nat.mul_comm 2 q, Nat.mul_assoc]
  have m2 : (2 * q + 1) * P = q * (2 * P) + P := by rw [Nat.add_mul, m1, Nat.one_mul]
  have m3 : (2 * q + 2) * P = q * (2 * P) + 2 * P := by rw [Nat.add_mul, m1]
  rw [l1, m1] at a1
  rw [l2, m2] at a2 a4
  rw [l3, m3] at a3
  clear H1 H2 l1 l2 l3 m1 m2 m3
  by_cases hK9 : K ≤ 29
  · have am1 : hf_am (K * 1024 + q) * l = q * (2 ^ K * l) := by rw [hf_am_Kq (by omega) hq ho, l4]
    have am2 : hf_am (K * 1024 + q + 1) * l = q * (2 ^ K * l) + 2 ^ K * l := by rw [hf_am_s0 hK9 hq ho, l5]
    have am3 : hf_md (K * 1024 + q) * l = 2 * (q * (2 ^ K * l)) + 2 ^ K * l := by
      unfold hf_md
      rw [hf_am_Kq (by omega) hq ho, hf_am_s0 hK9 hq ho, l6]
    clear l4 l5 l6
    generalize q * (2 * P) = QP at *
    generalize q * (2 ^ K * l) = Y at *
    generalize 2 ^ K * l = Zl at *
    clear hP
    have hr' : r = K * 1024 + q + t := by omega
    refine hf_NR_f hl (p := K * 1024 + q) (by omega) (by omega) (by omega) ?_
    rw [am3]
    rcases ht with ⟨e, h⟩ | ⟨e, h⟩
    · refine Or.inr ⟨by omega, ?_⟩
      omega
    · refine Or.inl ⟨by omega, ?_⟩
      omega
  · have e : r = 31744 := by omega
    subst e
    refine hf_NR_t hl ?_
    rw [hf_top]
    have b1 : 1024 ≤ q := by omega
    have b2 : 2 ^ 30 ≤ 2 ^ K := Nat.pow_le_pow_right (by decide) (by omega)
    have b3 : 1024 * 2 ^ 30 ≤ q * 2 ^ K := Nat.mul_le_mul b1 b2
    have b4 := Nat.mul_le_mul_right l b3
    rw [l4] at b4
    have b5 : q * (2 ^ K * l) ≤ u := by omega
    refine Nat.le_trans ?_ b5
    exact b4
theorem hf_NR_X {U b u l K t r : Nat} (hl : 0 < l) (hK : hf_K U K)
    (H1 : ∀ c, c * 2 ^ (3 + K) * l ≤ 16 * u ↔ c * 2 ^ (3 + K) ≤ U)
    (H2 : ∀ c, c * 2 ^ (3 + K) * l = 16 * u ↔ (c * 2 ^ (3 + K) = U ∧ b = 0))
    (ht : (t = 1 ∧ (2 ^ (3 + K) < U - U / 2 ^ (4 + K) * 2 ^ (4 + K) ∨ (U - U / 2 ^ (4 + K) * 2 ^ (4 + K) = 2 ^ (3 + K) ∧ (b ≠ 0 ∨ U / 2 ^ (4 + K) % 2 = 1)))) ∨
      (t = 0 ∧ (U - U / 2 ^ (4 + K) * 2 ^ (4 + K) < 2 ^ (3 + K) ∨ (U - U / 2 ^ (4 + K) * 2 ^ (4 + K) = 2 ^ (3 + K) ∧ b = 0 ∧ U / 2 ^ (4 + K) % 2 = 0))))
    (hr : (K * 1024 + U / 2 ^ (4 + K) + t ≤ 31744 ∧ r = K * 1024 + U / 2 ^ (4 + K) + t) ∨ (31744 < K * 1024 + U / 2 ^ (4 + K) + t ∧ r = 31744)) : hf_NR u l r := by
  obtain ⟨hq, ho⟩ := hf_K_q hK
  have eP : 2 ^ (4 + K) = 2 * 2 ^ (3 + K) := by rw [show 4 + K = (3 + K) + 1 by omega, Nat.pow_succ, Nat.mul_comm]
  have eZ : 2 ^ (3 + K) = 8 * 2 ^ K := by rw [Nat.pow_add]
  have hm := Nat.div_add_mod' U (2 ^ (4 + K))
  have hlt := Nat.mod_lt U (Nat.two_pow_pos (4 + K))
  refine hf_NR_X0 (q := U / 2 ^ (4 + K)) (lo := U - U / 2 ^ (4 + K) * 2 ^ (4 + K)) hl eZ ?_ ?_ hq ho H1 H2 ht hr
  · rw [← eP]; omega
  · rw [← eP]; omega
end
section
/-! numbers, and the walks of the small methods -/
theorem hf_shr {a k : Nat} (hk : k < 64) (h : a < 2 ^ 62) : lN a >>> ((nI k).toInt64 &&& 63) = lN (a / 2 ^ k) := by
  refine pf_shr ?_ h
  rw [wb_c k hk, wb_tb, wb_sm k hk, BitVec.toNat_ofNat]
  exact Nat.mod_eq_of_lt (by omega)
theorem hf_bLE {x y : Int64} {A B : Prop} (a b : Nat) (f : a ≤ b → A) (g : b < a → B) (hx : x = lN a := by rfl) (hy : y = lN b := by rfl) (ha : a < 2 ^ 63 := by omega) (hb : b < 2 ^ 63 := by omega) : (x ≤ y → A) ∧ (¬ x ≤ y → B) := by
  subst hx hy
  rw [pk_lLE ha hb]
  exact ⟨f, fun z => g (by omega)⟩
theorem hf_bLT {x y : Int64} {A B : Prop} (a b : Nat) (f : a < b → A) (g : b ≤ a → B) (hx : x = lN a := by rfl) (hy : y = lN b := by rfl) (ha : a < 2 ^ 63 := by omega) (hb : b < 2 ^ 63 := by omega) : (x < y → A) ∧ (¬ x < y → B) := by
  subst hx hy
  rw [pk_lLT ha hb]
  exact ⟨f, fun z => g (by omega)⟩
theorem hf_bEQ {x y : Int64} {A B : Prop} (a b : Nat) (f : a = b → A) (g : a ≠ b → B) (hx : x = lN a := by rfl) (hy : y = lN b := by rfl) (ha : a < 2 ^ 63 := by omega) (hb : b < 2 ^ 63 := by omega) : (x = y → A) ∧ (¬ x = y → B) := by
  subst hx hy
  rw [pk_lEQ ha hb]
  exact ⟨f, g⟩
theorem hf_and5 (n : Nat) : n &&& 31744 = n / 1024 % 32 * 1024 := by
  apply Nat.eq_of_testBit_eq
  intro i
  rw [Nat.testBit_and, show 31744 = (2 ^ 5 - 1) * 2 ^ 10 from rfl, show n / 1024 % 32 * 1024 = (n / 2 ^ 10 % 2 ^ 5) * 2 ^ 10 from rfl, Nat.testBit_mul_two_pow, Nat.testBit_mul_two_pow, Nat.testBit_two_pow_sub_one, Nat.testBit_mod_two_pow, Nat.testBit_div_two_pow]
  by_cases h : 10 ≤ i
  · rw [show i - 10 + 10 = i by omega]
    by_cases h2 : i - 10 < 5 <;> simp [h, h2]
  · simp [h]
theorem hf_m5 {n : Nat} (hn : n < 65536) : (nI n &&& 31744 = 31744) ↔ n / 1024 % 32 = 31 := by
  have e : nI n &&& 31744 = nI (n / 1024 % 32 * 1024) := by
    rw [← hf_and5]
    exact nx_and n 31744
  rw [e]
  show nI _ = nI 31744 ↔ _
  rw [nI_eq (by omega) (by omega)]
  omega
theorem hf_eY {n : Nat} (hn : n < 65536) : (nI n / 1024) - (nI n / 1024) / 32 * 32 = nI (n / 1024 % 32) := by
  rw [show (nI n / 1024 : Int32) = nI (n / 1024) from pk_div (d := 1024) (by omega) (by decide) (by decide)]
  exact pk_rem (d := 32) (by omega) (by decide) (by decide)
theorem hf_mY {n : Nat} (hn : n < 65536) : nI n - nI n / 1024 * 1024 = nI (n % 1024) := pk_rem (d := 1024) (by omega) (by decide) (by decide)
theorem hf_num (v : Int32) : (∃ n, n < 65536 ∧ n / 1024 % 32 ≠ 31 ∧ v = nI n ∧ (∀ post : Int32 → Prop, post 1 → wpX_isNumber post v) ∧ (∀ post : Int32 → Prop, post 0 → wpY_bad post v)) ∨ ((∀ post : Int32 → Prop, post 0 → wpX_isNumber post v) ∧ (∀ post : Int32 → Prop, post 1 → wpY_bad post v)) := by
  by_cases h0 : v < 0
  · exact Or.inr ⟨fun post h => br_t h0 h, fun post h => br_t h0 h⟩
  · obtain ⟨j, hj, rfl⟩ := nI_of h0
    by_cases h1 : (65535 : Int32) < nI j
    · exact Or.inr ⟨fun post h => br_f h0 (br_t h1 h), fun post h => br_f h0 (br_t h1 h)⟩
    · have hj2 : j < 65536 := by
        have h2 : ¬ nI 65535 < nI j := h1
        rw [nI_ltI (by decide) hj] at h2
        omega
      have eX := hf_m5 hj2
      have eY := hf_eY hj2
      by_cases h2 : j / 1024 % 32 = 31
      · refine Or.inr ⟨fun post h => br_f h0 (br_f h1 (br_t (eX.mpr h2) h)), fun post h => ?_⟩
        unfold wpY_bad
        rw [eY]
        exact br_f h0 (br_f h1 ⟨by decide, by decide, br_t (by rw [h2]; rfl) h⟩)
      · refine Or.inl ⟨j, hj2, h2, rfl, fun post h => br_f h0 (br_f h1 (br_f (fun z => h2 (eX.mp z)) h)), fun post h => ?_⟩
        unfold wpY_bad
        rw [eY]
        refine br_f h0 (br_f h1 ⟨by decide, by decide, br_f ?_ h⟩)
        show ¬ nI _ = nI 31
        rw [nI_eq (by omega) (by omega)]
        exact h2
theorem hf_e10 {n : Nat} (hn : n < 65536) : (((nI n).toUInt32 >>> ((10 : Int32).toUInt32 &&& Int32.toUInt32 31)).toInt32) &&& 31 = nI (n / 1024 % 32) := by
  rw [pk_ushrN (by omega) 10 10 (by decide)]
  exact pk_andN (n := n / 2 ^ 10) (by omega) 5 (by decide)
theorem hf_dgX {n : Nat} (hn : n < 65536) {post : Int32 → Prop} (h : post (nI (hf_dg n))) : wpX_digitsOf post (nI n) := by
  refine nm_r (e' := nI (n % 1024)) (pk_andN (by omega) 10 (by decide)) ?_
  rw [hf_e10 hn]
  unfold hf_dg at h
  by_cases z : n / 1024 % 32 = 0
  · rw [if_pos z] at h
    exact br_t (by rw [z]; rfl) h
  · rw [if_neg z] at h
    refine br_f (nI_ne0 (by omega) (by omega)) ?_
    rw [show (1024 : Int32) + nI (n % 1024) = nI (1024 + n % 1024) from nI_add 1024 (n % 1024)]
    exact h
theorem hf_plX {n : Nat} (hn : n < 65536) {post : Int32 → Prop} (h : post (nI (hf_pl n))) : wpX_placeOf post (nI n) := by
  refine nm_r (hf_e10 hn) ?_
  unfold hf_pl at h
  by_cases z : n / 1024 % 32 = 0
  · rw [z] at h
    exact br_t (by rw [z]; rfl) h
  · refine br_f (nI_ne0 (by omega) (by omega)) ?_
    rw [show nI (n / 1024 % 32) - 1 = nI (n / 1024 % 32 - 1) from pk_sub (b := 1) (by omega)]
    exact h
theorem hf_dgY {n : Nat} (hn : n < 65536) {post : Int64 → Prop} (h : post (lN (hf_dg n))) : wpY_digitsOf post (nI n) := by
  unfold wpY_digitsOf
  rw [hf_eY hn, hf_mY hn]
  refine ⟨by decide, by decide, ?_⟩
  unfold hf_dg at h
  by_cases z : n / 1024 % 32 = 0
  · rw [if_pos z] at h
    refine br_t (by rw [z]; rfl) ⟨by decide, ?_⟩
    rw [nI_l (by omega)]
    exact h
  · rw [if_neg z] at h
    refine br_f (nI_ne0 (by omega) (by omega)) ⟨by decide, ?_⟩
    rw [show (1024 : Int32) + nI (n % 1024) = nI (1024 + n % 1024) from nI_add 1024 (n % 1024), nI_l (by omega)]
    exact h
theorem hf_plY {n : Nat} (hn : n < 65536) {post : Int32 → Prop} (h : post (nI (hf_pl n))) : wpY_shiftOf post (nI n) := by
  refine And.intro (by decide) (And.intro (by decide) (nm_r (hf_eY hn) ?_))
  unfold hf_pl at h
  by_cases z : n / 1024 % 32 = 0
  · rw [z] at h
    exact br_t (by rw [z]; rfl) h
  · refine br_f (nI_ne0 (by omega) (by omega)) ?_
    rw [show nI (n / 1024 % 32) - 1 = nI (n / 1024 % 32 - 1) from pk_sub (b := 1) (by omega)]
    exact h
theorem hf_amY {n : Nat} (hn : n < 65536) {post : Int64 → Prop} (h : post (lN (hf_am n))) : wpY_amount post (nI n) := by
  refine nm_r (e' := nI (n % 32768)) (pk_andN (by omega) 15 (by decide)) ?_
  by_cases z : n % 32768 = 31744
  · refine br_t (by rw [z]; rfl) ?_
    rw [← hf_amm, z, hf_top] at h
    exact h
  · refine br_f ?_ ?_
    · show ¬ nI _ = nI 31744
      rw [nI_eq (by omega) (by omega)]
      exact z
    · have hm : n % 32768 < 65536 := by omega
      refine hf_dgY hm (hf_plY hm ?_)
      rw [wb_shl _ (by have := hf_pl_le (n % 32768); omega), hf_dgm, hf_plm]
      exact h
/-! signed amounts -/
def hf_lZ (z : Int) : Int64 := Int64.ofInt z
def hf_sg (n : Nat) : Int := if n < 32768 then (hf_am n : Int) else -(hf_am n : Int)
theorem hf_lZ_n (n : Nat) : hf_lZ n = lN n := Int64.ofInt_eq_ofNat
theorem hf_lZ_t {z : Int} (h1 : -4611686018427387904 ≤ z) (h2 : z < 4611686018427387904) : (hf_lZ z).toInt = z := Int64.toInt_ofInt_of_le (by omega) (by omega)
theorem hf_lZ_add (a b : Int) : hf_lZ a + hf_lZ b = hf_lZ (a + b) := (Int64.ofInt_add a b).symm
theorem hf_lZ_sub (a b : Int) : hf_lZ a - hf_lZ b = hf_lZ (a - b) := (Int64.ofInt_sub a b).symm
theorem hf_lZ_neg (a : Int) : -hf_lZ a = hf_lZ (-a) := (Int64.ofInt_neg a).symm
theorem hf_sgb {n : Nat} (hn : n < 65536) (he : n / 1024 % 32 ≠ 31) : -1099511627776 < hf_sg n ∧ hf_sg n < 1099511627776 := by
  have h := hf_am_b (p := n % 32768) (by omega)
  rw [hf_amm] at h
  unfold hf_sg
  split <;> omega
theorem hf_sX {n : Nat} (hn : n < 65536) {post : Int64 → Prop} (h : post (hf_lZ (16 * hf_sg n))) : wpX_signed post (nI n) := by
  unfold wpX_signed
  have hp := hf_pl_le n
  have hd := hf_dg_lt n
  refine hf_dgX hn (hf_plX hn (nm_r (e' := lN (hf_am n * 16)) ?_ ?_))
  · rw [nI_l (by omega), show nI (hf_pl n) + 4 = nI (hf_pl n + 4) from nI_add _ 4, wb_shl _ (by omega), Nat.pow_add, ← Nat.mul_assoc]
    rfl
  · unfold hf_sg at h
    refine pk_lt n 32768 (fun z => ?_) (fun z => ?_)
    · rw [if_pos z, show (16 * (hf_am n : Int)) = ((hf_am n * 16 : Nat) : Int) by omega, hf_lZ_n] at h
      exact h
    · rw [if_neg (by omega), show (16 * -(hf_am n : Int)) = -((hf_am n * 16 : Nat) : Int) by omega, ← hf_lZ_neg, hf_lZ_n] at h
      exact h
theorem hf_sY {n : Nat} (hn : n < 65536) {post : Int64 → Prop} (h : post (hf_lZ (hf_sg n))) : wpY_signed post (nI n) := by
  unfold wpY_signed
  unfold hf_sg at h
  refine pk_lt n 32768 (fun z => ?_) (fun z => ?_)
  · rw [if_pos z, hf_lZ_n] at h
    exact hf_amY hn h
  · rw [if_neg (by omega), ← hf_lZ_neg, hf_lZ_n] at h
    exact hf_amY hn h
theorem hf_lZ_ge {z : Int} (h1 : -4611686018427387904 ≤ z) (h2 : z < 4611686018427387904) : (0 : Int64) ≤ hf_lZ z ↔ 0 ≤ z := by
  rw [Int64.le_iff_toInt_le, hf_lZ_t h1 h2]
  exact Iff.rfl
theorem hf_lZ_le {y z : Int} (h1 : -4611686018427387904 ≤ z) (h2 : z < 4611686018427387904) (h3 : -4611686018427387904 ≤ y) (h4 : y < 4611686018427387904) : hf_lZ y ≤ hf_lZ z ↔ y ≤ z := by
  rw [Int64.le_iff_toInt_le, hf_lZ_t h1 h2, hf_lZ_t h3 h4]
theorem hf_lZ_eq {y z : Int} (h1 : -4611686018427387904 ≤ z) (h2 : z < 4611686018427387904) (h3 : -4611686018427387904 ≤ y) (h4 : y < 4611686018427387904) : hf_lZ y = hf_lZ z ↔ y = z := by
  rw [← Int64.toInt_inj, hf_lZ_t h1 h2, hf_lZ_t h3 h4]
theorem hf_lZ_shr {z : Int} {D : Int64} {d : Nat} (hD : (D.toBitVec.smod 64).toNat = d) (h1 : -4611686018427387904 ≤ z) (h2 : z < 4611686018427387904) : (hf_lZ z >>> D).toInt = z / 2 ^ d := by
  have e : (hf_lZ z >>> D).toInt = (hf_lZ z).toInt >>> d := by
    rw [← hD]
    exact BitVec.toInt_sshiftRight ..
  rw [e, Int.shiftRight_eq_div_pow, hf_lZ_t h1 h2]
  rfl
/-! X's round -/
def hf_T (U b K t : Nat) : Prop := (t = 1 ∧ (2 ^ (3 + K) < U - U / 2 ^ (4 + K) * 2 ^ (4 + K) ∨ (U - U / 2 ^ (4 + K) * 2 ^ (4 + K) = 2 ^ (3 + K) ∧ (b ≠ 0 ∨ U / 2 ^ (4 + K) % 2 = 1)))) ∨
      (t = 0 ∧ (U - U / 2 ^ (4 + K) * 2 ^ (4 + K) < 2 ^ (3 + K) ∨ (U - U / 2 ^ (4 + K) * 2 ^ (4 + K) = 2 ^ (3 + K) ∧ b = 0 ∧ U / 2 ^ (4 + K) % 2 = 0)))
def hf_R (U K t r : Nat) : Prop := (K * 1024 + U / 2 ^ (4 + K) + t ≤ 31744 ∧ r = K * 1024 + U / 2 ^ (4 + K) + t) ∨ (31744 < K * 1024 + U / 2 ^ (4 + K) + t ∧ r = 31744)
theorem hf_r107 {U K t r : Nat} {post : Int32 → Prop} (hK : K ≤ 49) (hq : U / 2 ^ (4 + K) < 2048) (ht : t < 2) (hr : hf_R U K t r) (h : post (nI r)) : wX_round_107 post (nI t) ((((nI (4 + K) - 4) <<< ((10 : Int32) &&& 31)).toInt64) + lN (U / 2 ^ (4 + K))) := by
  unfold hf_R at hr
  generalize U / 2 ^ (4 + K) = q at *
  refine nm_r (e' := lN (K * 1024 + q + t)) ?_ ?_
  · rw [show nI (4 + K) - 4 = nI K by rw [show nI (4 + K) - 4 = nI (4 + K - 4) from pk_sub (b := 4) (by omega), Nat.add_sub_cancel_left], pk_shlN _ 10 (by decide) (by omega), nI_l (by omega), nI_l (by omega), lN_add, lN_add]
  · refine hf_bLE (K * 1024 + q + t) 31744 (fun z => ?_) (fun z => ?_)
    · rw [lN_i, show K * 1024 + q + t = r by omega]
      exact h
    · obtain rfl : r = 31744 := by omega
      exact h
theorem hf_r85 {U K t r : Nat} {post : Int32 → Prop} (hK : K ≤ 49) (hq : U / 2 ^ (4 + K) < 2048) (ht : t < 2) (hr : hf_R U K t r) (h : post (nI r)) : wX_round_85 post (nI (4 + K)) (lN (U / 2 ^ (4 + K))) (nI t) := by
  have a := hf_r107 hK hq ht hr h
  by_cases z : t = 0
  · subst z
    exact br_t rfl a
  · obtain rfl : t = 1 := by omega
    exact br_f (by decide) a
theorem hf_r31 {U b K : Nat} (hU : U < 2 ^ 62) (hb : b < 2) (hK : K ≤ 49) (hq : U / 2 ^ (4 + K) < 2048) : ∃ t r, hf_T U b K t ∧ hf_R U K t r ∧ ∀ post : Int32 → Prop, post (nI r) → wX_round_31 post (lN U) (nI b) (nI (4 + K)) := by
  have hR : ∀ t, ∃ r, hf_R U K t r := fun t => by
    unfold hf_R
    by_cases z : K * 1024 + U / 2 ^ (4 + K) + t ≤ 31744
    · exact ⟨_, Or.inl ⟨z, rfl⟩⟩
    · exact ⟨_, Or.inr ⟨by omega, rfl⟩⟩
  have e1 : lN U >>> ((nI (4 + K)).toInt64 &&& 63) = lN (U / 2 ^ (4 + K)) := hf_shr (by omega) hU
  have hle := Nat.div_mul_le_self U (2 ^ (4 + K))
  have e2 : lN U - (lN (U / 2 ^ (4 + K)) <<< ((nI (4 + K)).toInt64 &&& 63)) = lN (U - U / 2 ^ (4 + K) * 2 ^ (4 + K)) := by
    rw [wb_shl _ (by omega), lN_sub hle]
  have e3 : (1 : Int64) <<< ((nI (4 + K) - 1).toInt64 &&& 63) = lN (2 ^ (3 + K)) := by
    rw [show nI (4 + K) - 1 = nI (4 + K - 1) from pk_sub (b := 1) (by omega), show (1 : Int64) = lN 1 from rfl, wb_shl _ (by omega), show 4 + K - 1 = 3 + K by omega, Nat.one_mul]
  have hp : 2 ^ (3 + K) < 2 ^ 63 := wb_lt2 (by omega)
  have e4 : lN (U / 2 ^ (4 + K)) &&& 1 = lN (U / 2 ^ (4 + K) % 2) := wb_a1 (by omega)
  have key : ∀ t r, t < 2 → hf_R U K t r → hf_T U b K t → ∀ post : Int32 → Prop, post (nI r) → wX_round_31 post (lN U) (nI b) (nI (4 + K)) := by
    intro t r ht hr hT post h
    have f : wX_round_85 post (nI (4 + K)) (lN (U / 2 ^ (4 + K))) (nI t) := hf_r85 hK hq ht hr h
    refine nm_r e1 (nm_r e2 (nm_r e3 ?_))
    rw [e4]
    unfold hf_T at hT
    generalize hLo : U - U / 2 ^ (4 + K) * 2 ^ (4 + K) = lo at *
    generalize 2 ^ (3 + K) = hf at *
    generalize U / 2 ^ (4 + K) = q at *
    refine hf_bLT hf lo (fun z => ?_) (fun z => hf_bEQ lo hf (fun y => ?_) (fun y => ?_))
    · obtain rfl : t = 1 := by omega
      exact f
    · refine pk_eq b 0 (fun w => hf_bEQ (q % 2) 0 (fun x => ?_) (fun x => ?_)) (fun w => ?_)
      · obtain rfl : t = 0 := by omega
        exact f
      · obtain rfl : t = 1 := by omega
        exact f
      · obtain rfl : t = 1 := by omega
        exact f
    · obtain rfl : t = 0 := by omega
      exact f
  have fin : ∀ t, t < 2 → hf_T U b K t → ∃ t r, hf_T U b K t ∧ hf_R U K t r ∧ ∀ post : Int32 → Prop, post (nI r) → wX_round_31 post (lN U) (nI b) (nI (4 + K)) := by
    intro t ht hT
    obtain ⟨r, hr⟩ := hR t
    exact ⟨t, r, hT, hr, key t r ht hr hT⟩
  have dec : hf_T U b K 1 ∨ hf_T U b K 0 := by
    unfold hf_T
    generalize U - U / 2 ^ (4 + K) * 2 ^ (4 + K) = lo at *
    generalize 2 ^ (3 + K) = hf at *
    generalize U / 2 ^ (4 + K) = q at *
    omega
  rcases dec with d | d
  · exact fin 1 (by omega) d
  · exact fin 0 (by omega) d
theorem hf_rl {U b K : Nat} {post : Int32 → Prop} (hU : U < 2 ^ 62) (hK : hf_K U K) (hK9 : K ≤ 49) (h : wX_round_31 post (lN U) (nI b) (nI (4 + K))) : ∀ m k, k + m = K → wX_round_5 post (lN U) (nI b) (m + 1) (nI (4 + k)) (nI k) := by
  intro m
  induction m with
  | zero =>
    intro k hk
    obtain rfl : k = K := by omega
    refine br_f (nI_ge (b := 50) (by omega) (by decide)) (br_t ?_ h)
    rw [hf_shr (by omega) hU]
    exact (pk_lLE (b := 2047) (Nat.lt_of_le_of_lt (Nat.div_le_self _ _) (by omega)) (by decide)).mpr hK.1
  | succ m ih =>
    intro k hk
    refine br_f (nI_ge (b := 50) (by omega) (by decide)) (br_f ?_ (nm_r (nI_1 (4 + k)) (nm_r (nI_1 k) (ih (k + 1) (by omega)))))
    rw [hf_shr (by omega) hU]
    intro z
    have z2 := (pk_lLE (b := 2047) (Nat.lt_of_le_of_lt (Nat.div_le_self _ _) (by omega)) (by decide)).mp z
    have := hK.2 k (by omega)
    omega
theorem hf_K_ex {U : Nat} (hU : U < 2 ^ 62) : ∃ K, K ≤ 49 ∧ hf_K U K := by
  have h49 : U / 2 ^ (4 + 49) ≤ 2047 := by
    have : U / 2 ^ (4 + 49) < 2048 := Nat.div_lt_of_lt_mul (by omega)
    omega
  obtain ⟨K, h1, h2⟩ := pk_least (fun K => U / 2 ^ (4 + K) ≤ 2047) ⟨49, h49⟩
  refine ⟨K, ?_, h1, fun j hj => ?_⟩
  · apply Nat.le_of_not_lt
    intro z
    exact h2 49 z h49
  · have := h2 j hj
    omega
theorem hf_rX {U b u l : Nat} (hU : U < 2 ^ 62) (hb : b < 2) (hl : 0 < l)
    (H : ∀ K, hf_K U K → ∀ c, (c * 2 ^ (3 + K) * l ≤ 16 * u ↔ c * 2 ^ (3 + K) ≤ U) ∧ (c * 2 ^ (3 + K) * l = 16 * u ↔ (c * 2 ^ (3 + K) = U ∧ b = 0))) :
    ∃ r, hf_NR u l r ∧ ∀ post : Int32 → Prop, post (nI r) → wpX_round post (lN U) (nI b) := by
  obtain ⟨K, hK9, hK⟩ := hf_K_ex hU
  obtain ⟨t, r, hT, hR, hW⟩ := hf_r31 (b := b) hU hb hK9 (hf_K_q hK).1
  refine ⟨r, hf_NR_X hl hK (fun c => (H K hK c).1) (fun c => (H K hK c).2) hT hR, fun post h => ?_⟩
  exact ⟨K + 1, hf_rl hU hK hK9 (hW post h) K 0 (by omega)⟩
theorem hf_H {u l U b : Nat} (hl : 0 < l) (hU : U = 16 * u / l) (hb : b = 0 ↔ 16 * u % l = 0) (c : Nat) : (c * l ≤ 16 * u ↔ c ≤ U) ∧ (c * l = 16 * u ↔ (c = U ∧ b = 0)) := by
  subst hU
  refine ⟨(Nat.le_div_iff_mul_le hl).symm, ?_⟩
  rw [hb]
  constructor
  · intro h
    rw [← h]
    exact ⟨(Nat.mul_div_cancel c hl).symm, Nat.mul_mod_left c l⟩
  · rintro ⟨h1, h2⟩
    have := Nat.div_add_mod' (16 * u) l
    rw [← h1, h2] at this
    omega
theorem hf_rX' {U b u l : Nat} (hU : U < 2 ^ 62) (hb : b < 2) (hl : 0 < l) (e : U = 16 * u / l) (hb0 : b = 0 ↔ 16 * u % l = 0) :
    ∃ r, hf_NR u l r ∧ ∀ post : Int32 → Prop, post (nI r) → wpX_round post (lN U) (nI b) :=
  hf_rX hU hb hl (fun _ _ c => hf_H hl e hb0 (c * 2 ^ (3 + _)))
/-! Y's nearest -/
theorem hf_floor {w : Nat} (h : w < 1099511627776) : ∃ p, p ≤ 31743 ∧ hf_am p ≤ w ∧ w < hf_am (p + 1) := by
  obtain ⟨k, h1, h2⟩ := pk_least (fun k => w < hf_am k) ⟨31744, by rw [hf_top]; exact h⟩
  have hk : k ≤ 31744 := by
    apply Nat.le_of_not_lt
    intro z
    exact h2 31744 z (by rw [hf_top]; exact h)
  have h0 : k ≠ 0 := by
    intro z
    subst z
    have : hf_am 0 = 0 := by decide +kernel
    omega
  refine ⟨k - 1, by omega, ?_, ?_⟩
  · have := h2 (k - 1) (by omega)
    omega
  · rw [show k - 1 + 1 = k by omega]
    exact h1
theorem hf_n54e {w l s u p : Nat} (hp : p ≤ 31743) (h1 : hf_am p ≤ w) (h2 : w < hf_am (p + 1)) (hu : u = w * l + s) (hs : s < l) (hl : l < 2 ^ 61) (hu2 : u < 2 ^ 62) :
    ∃ r, hf_NR u l r ∧ ∀ (post : Int32 → Prop) (n : Nat), post (nI r) → wY_nearest_54 post (lN l) (lN w) (lN s) (n + 1) (nI p) (nI p) := by
  have hg : hf_am (p + 1) - hf_am p = 2 ^ hf_pl p := by rw [hf_am_s (by omega)]; exact Nat.add_sub_cancel_left _ _
  have hG : 2 ^ hf_pl p * l < 2 ^ 61 := by
    rcases hf_or p with z | z
    · rw [z]; omega
    · have a : 1024 * (2 ^ hf_pl p * l) ≤ hf_am p * l := by
        unfold hf_am
        rw [Nat.mul_assoc]
        exact Nat.mul_le_mul_right _ z
      have b : hf_am p * l ≤ w * l := Nat.mul_le_mul_right l h1
      omega
  obtain ⟨x, hx⟩ : ∃ x, w = hf_am p + x := ⟨w - hf_am p, by omega⟩
  have hxg : x + 1 ≤ 2 ^ hf_pl p := by omega
  have hxl : (x + 1) * l ≤ 2 ^ hf_pl p * l := Nat.mul_le_mul_right l hxg
  rw [Nat.succ_mul] at hxl
  have eu : u = hf_am p * l + x * l + s := by rw [hu, hx, Nat.add_mul]
  have em : hf_md p * l = 2 * (hf_am p * l) + 2 ^ hf_pl p * l := by rw [hf_md_eq (by omega), Nat.add_mul, Nat.mul_assoc]
  have ea : hf_am (p + 1) * l = hf_am p * l + 2 ^ hf_pl p * l := by rw [hf_am_s (by omega), Nat.add_mul]
  have fX : ((2 * (lN w - lN (hf_am p))) * lN l) + 2 * lN s = lN (2 * (x * l) + 2 * s) := by
    rw [lN_sub h1, show w - hf_am p = x by omega, show (2 : Int64) = lN 2 from rfl, lN_mul, lN_mul, lN_mul, lN_add, Nat.mul_assoc]
  have fG : lN (hf_am (p + 1)) - lN (hf_am p) = lN (2 ^ hf_pl p) := by rw [lN_sub (by omega), hg]
  have f2 : nI p - nI p / 2 * 2 = nI (p % 2) := pk_rem (d := 2) (by omega) (by decide) (by decide)
  have key : ∀ r, r = p ∧ (2 * u < hf_md p * l ∨ (2 * u = hf_md p * l ∧ p % 2 = 0)) ∨ r = p + 1 ∧ (hf_md p * l < 2 * u ∨ (hf_md p * l = 2 * u ∧ p % 2 = 1)) → ∀ (post : Int32 → Prop) (n : Nat), post (nI r) → wY_nearest_54 post (lN l) (lN w) (lN s) (n + 1) (nI p) (nI p) := by
    intro r hr post n h
    refine br_t (nI_le (Nat.le_refl _) (by omega)) ?_
    rw [nI_1]
    refine hf_amY (by omega) (hf_amY (by omega) (nm_r fG (hf_amY (by omega) (nm_r fX ?_))))
    rw [f2, lN_mul]
    refine hf_bEQ (2 * (x * l) + 2 * s) (2 ^ hf_pl p * l) (fun z => ⟨by decide, pk_eq (p % 2) 0 (fun y => ?_) (fun y => ?_)⟩) (fun z => hf_bLE (2 * (x * l) + 2 * s) (2 ^ hf_pl p * l) (fun y => ?_) (fun y => ?_))
    · obtain rfl : r = p := by omega
      exact h
    · obtain rfl : r = p + 1 := by omega
      exact h
    · obtain rfl : r = p := by omega
      exact h
    · obtain rfl : r = p + 1 := by omega
      exact h
  have fin : ∀ r, r = p ∧ (2 * u < hf_md p * l ∨ (2 * u = hf_md p * l ∧ p % 2 = 0)) ∨ r = p + 1 ∧ (hf_md p * l < 2 * u ∨ (hf_md p * l = 2 * u ∧ p % 2 = 1)) → ∃ r, hf_NR u l r ∧ ∀ (post : Int32 → Prop) (n : Nat), post (nI r) → wY_nearest_54 post (lN l) (lN w) (lN s) (n + 1) (nI p) (nI p) := by
    intro r hr
    exact ⟨r, hf_NR_f (by omega) hp (by omega) (by omega) hr, key r hr⟩
  by_cases z : 2 * u < hf_md p * l ∨ (2 * u = hf_md p * l ∧ p % 2 = 0)
  · exact fin p (Or.inl ⟨rfl, z⟩)
  · exact fin (p + 1) (Or.inr ⟨rfl, by omega⟩)
theorem hf_n54 {post : Int32 → Prop} {l s : Int64} {w p : Nat} (hw : w < 2 ^ 62) (h1 : hf_am p ≤ w) (h2 : w < hf_am (p + 1)) (F : ∀ n, wY_nearest_54 post l (lN w) s (n + 1) (nI p) (nI p)) :
    ∀ m lo hi, lo ≤ p → p ≤ hi → hi ≤ 31743 → hi - lo < m → wY_nearest_54 post l (lN w) s m (nI lo) (nI hi) := by
  intro m
  induction m with
  | zero => intro lo hi a b c d; omega
  | succ m ih =>
    intro lo hi a b c d
    by_cases z : lo = hi
    · obtain rfl : lo = p := by omega
      subst z
      exact F m
    · have eM : (nI lo + nI hi + 1) / 2 = nI ((lo + hi + 1) / 2) := by
        rw [nI_add, nI_1]
        exact pk_div (d := 2) (by omega) (by decide) (by decide)
      have hM : lo < (lo + hi + 1) / 2 ∧ (lo + hi + 1) / 2 ≤ hi := by omega
      refine br_f (nI_ge (by omega) (by omega)) ⟨by decide, nm_r eM ?_⟩
      generalize (lo + hi + 1) / 2 = M at *
      have hb := hf_am_le (a := M) (b := 31744) (by omega) (by omega)
      rw [hf_top] at hb
      refine hf_amY (by omega) (hf_bLT w (hf_am M) (fun y => ?_) (fun y => ?_))
      · refine nm_r (e' := nI (M - 1)) (pk_sub (b := 1) (by omega)) (ih lo (M - 1) a ?_ (by omega) (by omega))
        apply Nat.le_of_not_lt
        intro x
        have := hf_am_le (a := M) (b := p) (by omega) (by omega)
        omega
      · refine ih M hi ?_ b c (by omega)
        apply Nat.le_of_not_lt
        intro x
        have := hf_am_le (a := p + 1) (b := M) (by omega) (by omega)
        omega
theorem hf_nY {u l : Nat} (hu : u < 2 ^ 62) (hl0 : 0 < l) (hl : l < 2 ^ 61) : ∃ r, hf_NR u l r ∧ ∀ post : Int32 → Prop, post (nI r) → wpY_nearest post (lN u) (lN l) := by
  have hw : u / l ≤ u := Nat.div_le_self _ _
  have n0 : ¬ lN l ≤ 0 := by
    show ¬ lN l ≤ lN 0
    rw [pk_lLE (by omega) (by omega)]
    omega
  have n1 : ¬ lN l = 0 := by
    show ¬ lN l = lN 0
    rw [pk_lEQ (by omega) (by omega)]
    omega
  have ed : lN u / lN l = lN (u / l) := pk_lDiv (by omega) hl0 (by omega)
  have er : lN u - lN u / lN l * lN l = lN (u % l) := pk_lRem (by omega) hl0 (by omega)
  have start : ∀ post : Int32 → Prop, wY_nearest_28 post (lN l) (lN (u / l)) (lN (u % l)) → wpY_nearest post (lN u) (lN l) := by
    intro post h
    refine br_f n0 ⟨n1, br_f n0 ⟨n1, ?_⟩⟩
    rw [er, ed]
    exact h
  by_cases hb : u / l < 1099511627776
  · obtain ⟨p, hp, h1, h2⟩ := hf_floor hb
    obtain ⟨r, hr, hW⟩ := hf_n54e hp h1 h2 (Nat.div_add_mod' u l).symm (Nat.mod_lt u hl0) hl hu
    refine ⟨r, hr, fun post h => start post ?_⟩
    refine hf_amY (n := 31744) (by omega) ?_
    rw [hf_top]
    refine hf_bLT (u / l) 1099511627776 (fun _ => ⟨31744, ?_⟩) (fun z => absurd hb (by omega))
    exact hf_n54 (by omega) h1 h2 (fun n => hW post n h) 31744 0 31743 (by omega) hp (by omega) (by omega)
  · refine ⟨31744, hf_NR_t hl0 ?_, fun post h => start post ?_⟩
    · rw [hf_top]
      exact (Nat.le_div_iff_mul_le hl0).mp (by omega)
    · refine hf_amY (n := 31744) (by omega) ?_
      rw [hf_top]
      exact hf_bLT (u / l) 1099511627776 (fun z => absurd z hb) (fun _ => h)
end
section
/-! signs; add, compare, floor -/
def hf_ng (r : Nat) : Nat := if r = 0 then 0 else r + 32768
theorem hf_ngX {r : Nat} (hr : r ≤ 31744) {post : Int32 → Prop} (h : post (nI (hf_ng r))) : wpX_negative post (nI r) := by
  unfold hf_ng at h
  refine pk_eq r 0 (fun z => ?_) (fun z => ?_)
  · rw [if_pos z] at h
    exact h
  · rw [if_neg z] at h
    rw [show nI r + 32768 = nI (r + 32768) from nI_add r 32768]
    exact h
theorem hf_wsY {r s : Nat} (hr : r ≤ 31744) (hs : s < 2) {post : Int32 → Prop} (h : post (nI (if s = 0 then r else hf_ng r))) : wpY_withSign post (nI r) (nI s) := by
  refine pk_eq s 0 (fun z => ?_) (fun z => ?_)
  · rw [if_pos z] at h
    exact h
  · rw [if_neg z] at h
    unfold hf_ng at h
    refine pk_le r 0 (fun y => ?_) (fun y => ?_)
    · rw [if_pos (by omega)] at h
      obtain rfl : r = 0 := by omega
      exact h
    · rw [if_neg (by omega)] at h
      rw [show nI r + 32768 = nI (r + 32768) from nI_add r 32768]
      exact h
theorem hf_add (u : SX) (v : SY) (a b : Int32) : ∃ r, (∀ post : Int32 → Prop, post r → wpX_add post u a b) ∧ (∀ post : Int32 → Prop, post r → wpY_add post v a b) := by
  obtain ⟨f1, f2, f3, f4, f5, f6, f7, f8, f9⟩ := u
  obtain ⟨g1, g2⟩ := v
  rcases hf_num a with ⟨n, hn, he, rfl, hX, hY⟩ | ⟨hX, hY⟩
  · rcases hf_num b with ⟨m, hm, hf, rfl, kX, kY⟩ | ⟨kX, kY⟩
    · have b1 := hf_sgb hn he
      have b2 := hf_sgb hm hf
      have startX : ∀ post : Int32 → Prop, ((0 ≤ hf_lZ (16 * (hf_sg n + hf_sg m)) → (wX_add_38 post (hf_lZ (16 * (hf_sg n + hf_sg m))) (hf_lZ (16 * (hf_sg n + hf_sg m))) f1 f2 f3 f4 f5 f6 f7 f8 f9)) ∧ (¬ 0 ≤ hf_lZ (16 * (hf_sg n + hf_sg m)) → (wX_add_38 post (hf_lZ (16 * (hf_sg n + hf_sg m))) (-hf_lZ (16 * (hf_sg n + hf_sg m))) f1 f2 f3 f4 f5 f6 f7 f8 f9))) → wpX_add post (f1, f2, f3, f4, f5, f6, f7, f8, f9) (nI n) (nI m) := by
        intro post h
        unfold wpX_add
        dsimp only
        refine hX _ (br_f (by decide) (kX _ (br_f (by decide) (hf_sX hn (hf_sX hm (nm_r ?_ h))))))
        rw [hf_lZ_add, Int.mul_add]
      have startY : ∀ post : Int32 → Prop, ((0 ≤ hf_lZ (hf_sg n + hf_sg m) → (wY_add_38 post (hf_lZ (hf_sg n + hf_sg m)) (hf_lZ (hf_sg n + hf_sg m)) g1 g2)) ∧ (¬ 0 ≤ hf_lZ (hf_sg n + hf_sg m) → (wY_add_38 post (hf_lZ (hf_sg n + hf_sg m)) (-hf_lZ (hf_sg n + hf_sg m)) g1 g2))) → wpY_add post (g1, g2) (nI n) (nI m) := by
        intro post h
        unfold wpY_add
        dsimp only
        exact hY _ (br_t rfl (kY _ (br_t rfl (hf_sY hn (hf_sY hm (nm_r (hf_lZ_add _ _) h))))))
      have bz : -2199023255552 < hf_sg n + hf_sg m ∧ hf_sg n + hf_sg m < 2199023255552 := by omega
      generalize hf_sg n + hf_sg m = z at *
      have cX := hf_lZ_ge (z := 16 * z) (by omega) (by omega)
      have cY := hf_lZ_ge (z := z) (by omega) (by omega)
      obtain ⟨k, hk⟩ : ∃ k : Nat, k = z.natAbs := ⟨_, rfl⟩
      have hk2 : k < 2 ^ 45 := by omega
      obtain ⟨r, hr, wX⟩ := hf_rX' (U := 16 * k) (b := 0) (u := k) (l := 1) (by omega) (by omega) (by omega) (by omega) (by omega)
      obtain ⟨s, hs, wY⟩ := hf_nY (u := k) (l := 1) (by omega) (by omega) (by omega)
      obtain rfl := hf_NR_u (by omega) hr hs
      have hr4 : r ≤ 31744 := hr.1
      by_cases hz : 0 ≤ z
      · refine ⟨nI r, fun post h => startX post (br_t (cX.mpr (by omega)) ?_), fun post h => startY post (br_t (cY.mpr hz) ?_)⟩
        · unfold wX_add_38
          have e : hf_lZ (16 * z) = lN (16 * k) := by
            rw [← hf_lZ_n]
            congr 1
            omega
          rw [e] at cX ⊢
          exact wX _ (br_t (cX.mpr (by omega)) h)
        · unfold wY_add_38
          have e : hf_lZ z = lN k := by
            rw [← hf_lZ_n]
            congr 1
            omega
          rw [e] at cY ⊢
          exact wY _ (br_t (cY.mpr hz) (hf_wsY (s := 0) hr4 (by omega) h))
      · have d1 : ¬ (0 : Int64) ≤ hf_lZ (16 * z) := fun y => hz (by have := cX.mp y; omega)
        have d2 : ¬ (0 : Int64) ≤ hf_lZ z := fun y => hz (cY.mp y)
        refine ⟨nI (hf_ng r), fun post h => startX post (br_f d1 ?_), fun post h => startY post (br_f d2 ?_)⟩
        · unfold wX_add_38
          have e : -hf_lZ (16 * z) = lN (16 * k) := by
            rw [← hf_lZ_n, hf_lZ_neg]
            congr 1
            omega
          rw [e]
          exact wX _ (br_f d1 (hf_ngX hr4 h))
        · unfold wY_add_38
          have e : -hf_lZ z = lN k := by
            rw [← hf_lZ_n, hf_lZ_neg]
            congr 1
            omega
          rw [e]
          exact wY _ (br_f d2 (hf_wsY (s := 1) hr4 (by omega) h))
    · exact ⟨-1, fun post h => by unfold wpX_add; dsimp only; exact hX _ (br_f (by decide) (kX _ (br_t rfl h))), fun post h => by unfold wpY_add; dsimp only; exact hY _ (br_t rfl (kY _ (br_f (by decide) h)))⟩
  · exact ⟨-1, fun post h => by unfold wpX_add; dsimp only; exact hX _ (br_t rfl h), fun post h => by unfold wpY_add; dsimp only; exact hY _ (br_f (by decide) h)⟩
theorem hf_compare (u : SX) (v : SY) (a b : Int32) : ∃ r, (∀ post : Int32 → Prop, post r → wpX_compare post u a b) ∧ (∀ post : Int32 → Prop, post r → wpY_compare post v a b) := by
  obtain ⟨f1, f2, f3, f4, f5, f6, f7, f8, f9⟩ := u
  obtain ⟨g1, g2⟩ := v
  rcases hf_num a with ⟨n, hn, he, rfl, hX, hY⟩ | ⟨hX, hY⟩
  · rcases hf_num b with ⟨m, hm, hf, rfl, kX, kY⟩ | ⟨kX, kY⟩
    · have b1 := hf_sgb hn he
      have b2 := hf_sgb hm hf
      have startX : ∀ post : Int32 → Prop, (((0 ≤ hf_lZ (16 * (hf_sg n - hf_sg m)) → (((hf_lZ (16 * (hf_sg n - hf_sg m)) = 0 → (post 2)) ∧ (¬ hf_lZ (16 * (hf_sg n - hf_sg m)) = 0 → (post 3))))) ∧ (¬ 0 ≤ hf_lZ (16 * (hf_sg n - hf_sg m)) → (post 1)))) → wpX_compare post (f1, f2, f3, f4, f5, f6, f7, f8, f9) (nI n) (nI m) := by
        intro post h
        unfold wpX_compare
        dsimp only
        refine hX _ (br_f (by decide) (kX _ (br_f (by decide) (hf_sX hn (hf_sX hm (nm_r ?_ h))))))
        rw [hf_lZ_sub, Int.mul_sub]
      have startY : ∀ post : Int32 → Prop, (((hf_lZ (hf_sg m) ≤ hf_lZ (hf_sg n) → (((hf_lZ (hf_sg n) = hf_lZ (hf_sg m) → (post 2)) ∧ (¬ hf_lZ (hf_sg n) = hf_lZ (hf_sg m) → (post 3))))) ∧ (¬ hf_lZ (hf_sg m) ≤ hf_lZ (hf_sg n) → (post 1)))) → wpY_compare post (g1, g2) (nI n) (nI m) := by
        intro post h
        unfold wpY_compare
        dsimp only
        exact hY _ (br_t rfl (kY _ (br_t rfl (hf_sY hn (hf_sY hm h)))))
      have c1 := hf_lZ_ge (z := 16 * (hf_sg n - hf_sg m)) (by omega) (by omega)
      have c2 := hf_lZ_eq (y := 16 * (hf_sg n - hf_sg m)) (z := 0) (by omega) (by omega) (by omega) (by omega)
      have c3 := hf_lZ_le (y := hf_sg m) (z := hf_sg n) (by omega) (by omega) (by omega) (by omega)
      have c4 := hf_lZ_eq (y := hf_sg n) (z := hf_sg m) (by omega) (by omega) (by omega) (by omega)
      rw [show hf_lZ 0 = 0 from rfl] at c2
      by_cases z1 : hf_sg m ≤ hf_sg n
      · by_cases z2 : hf_sg n = hf_sg m
        · exact ⟨2, fun post h => startX post (br_t (c1.mpr (by omega)) (br_t (c2.mpr (by omega)) h)), fun post h => startY post (br_t (c3.mpr z1) (br_t (c4.mpr z2) h))⟩
        · exact ⟨3, fun post h => startX post (br_t (c1.mpr (by omega)) (br_f (fun y => z2 (by have := c2.mp y; omega)) h)), fun post h => startY post (br_t (c3.mpr z1) (br_f (fun y => z2 (c4.mp y)) h))⟩
      · exact ⟨1, fun post h => startX post (br_f (fun y => z1 (by have := c1.mp y; omega)) h), fun post h => startY post (br_f (fun y => z1 (c3.mp y)) h)⟩
    · exact ⟨-1, fun post h => by unfold wpX_compare; dsimp only; exact hX _ (br_f (by decide) (kX _ (br_t rfl h))), fun post h => by unfold wpY_compare; dsimp only; exact hY _ (br_t rfl (kY _ (br_f (by decide) h)))⟩
  · exact ⟨-1, fun post h => by unfold wpX_compare; dsimp only; exact hX _ (br_t rfl h), fun post h => by unfold wpY_compare; dsimp only; exact hY _ (br_f (by decide) h)⟩
theorem hf_floorM (u : SX) (v : SY) (a : Int32) : ∃ r, (∀ post : Int32 → Prop, post r → wpX_floor post u a) ∧ (∀ post : Int32 → Prop, post r → wpY_floor post v a) := by
  obtain ⟨f1, f2, f3, f4, f5, f6, f7, f8, f9⟩ := u
  obtain ⟨g1, g2⟩ := v
  rcases hf_num a with ⟨n, hn, he, rfl, hX, hY⟩ | ⟨hX, hY⟩
  · have b1 := hf_sgb hn he
    have e : hf_lZ (16 * hf_sg n) >>> ((28 : Int32).toInt64 &&& 63) = hf_lZ (hf_sg n) >>> ((24 : Int32).toInt64 &&& 63) := by
      apply Int64.toInt_inj.mp
      rw [hf_lZ_shr (d := 28) (by decide) (by omega) (by omega), hf_lZ_shr (d := 24) (by decide) (by omega) (by omega)]
      omega
    refine ⟨(hf_lZ (hf_sg n) >>> ((24 : Int32).toInt64 &&& 63)).toInt32, fun post h => ?_, fun post h => ?_⟩
    · unfold wpX_floor
      dsimp only
      refine hX _ (br_f (by decide) (hf_sX hn ?_))
      rw [e]
      exact h
    · unfold wpY_floor
      dsimp only
      exact hY _ (br_t rfl (hf_sY hn h))
  · exact ⟨100000, fun post h => by unfold wpX_floor; dsimp only; exact hX _ (br_t rfl h), fun post h => by unfold wpY_floor; dsimp only; exact hY _ (br_f (by decide) h)⟩
/-! multiply, divide -/
def hf_sn (a b r : Nat) : Nat := if (a < 32768 ↔ b < 32768) then r else hf_ng r
theorem hf_93 {a b r : Nat} (ha : a < 65536) (hb : b < 65536) (hr : r ≤ 31744) {post : Int32 → Prop} (h : post (nI (hf_sn a b r))) : wX_withSign_93 post (nI a) (nI b) (nI r) := by
  unfold hf_sn at h
  refine pk_lt a 32768 (fun x => pk_lt b 32768 (fun y => ?_) (fun y => ?_)) (fun x => pk_lt b 32768 (fun y => ?_) (fun y => ?_))
  · rw [if_pos (by omega)] at h
    exact br_t rfl h
  · rw [if_neg (by omega)] at h
    exact br_f (by decide) (hf_ngX hr h)
  · rw [if_neg (by omega)] at h
    exact br_f (by decide) (hf_ngX hr h)
  · rw [if_pos (by omega)] at h
    exact br_t rfl h
theorem hf_HM {A y e m : Nat} (hy : 0 < y) : (m * 2 ^ e * y ≤ A * 2 ^ e ↔ m * 2 ^ e ≤ A / y * 2 ^ e) ∧ (m * 2 ^ e * y = A * 2 ^ e ↔ (m * 2 ^ e = A / y * 2 ^ e ∧ A % y = 0)) := by
  have hp := Nat.two_pow_pos e
  rw [Nat.mul_right_comm, Nat.mul_le_mul_right_iff hp, Nat.mul_le_mul_right_iff hp, hf_sc2 hp, hf_sc2 hp]
  refine ⟨(Nat.le_div_iff_mul_le hy).symm, ?_⟩
  constructor
  · intro h
    rw [← h]
    exact ⟨(Nat.mul_div_cancel m hy).symm, Nat.mul_mod_left m y⟩
  · rintro ⟨h1, h2⟩
    have := Nat.div_add_mod' A y
    rw [← h1, h2] at this
    omega
theorem hf_WS {a b A y s t b0 : Nat} (ha : a < 65536) (hb : b < 65536) (hy : 0 < y) (hb0 : b0 < 2) (hb1 : b0 = 0 ↔ A % y = 0) (hN : A / y < 2 ^ 60) (hs : s ≤ 60) (ht : t ≤ 60) (hp : t ≤ s → (y = 1 ∨ s - t ≤ 3 ∨ 2048 ≤ A / y)) :
    ∃ r, hf_NR (A * 2 ^ s) (16 * y * 2 ^ t) r ∧ ∀ post : Int32 → Prop, post (nI (hf_sn a b r)) → wpX_withSign post (nI a) (nI b) (lN (A / y)) (nI s - nI t) (nI b0) := by
  have hl : 0 < 16 * y * 2 ^ t := Nat.mul_pos (by omega) (Nat.two_pow_pos t)
  by_cases hst : t ≤ s
  · obtain ⟨e, rfl⟩ : ∃ e, s = t + e := ⟨s - t, by omega⟩
    have ex : nI (t + e) - nI t = nI e := by rw [pk_sub (by omega), Nat.add_sub_cancel_left]
    have hx : ¬ nI e < 0 := nI_pos (by omega)
    have e6 : (60 : Int32) - nI e = nI (60 - e) := pk_sub (a := 60) (by omega)
    have e7 : lN (A / y) >>> (((60 : Int32) - nI e).toInt64 &&& 63) = lN (A / y / 2 ^ (60 - e)) := by rw [e6, hf_shr (by omega) (by omega)]
    have h60 : 2 ^ 60 = 2 ^ (60 - e) * 2 ^ e := by rw [← Nat.pow_add]; congr 1; omega
    have hd : A / y / 2 ^ (60 - e) ≤ A / y := Nat.div_le_self _ _
    have eL : 16 * y * 2 ^ t = y * (16 * 2 ^ t) := by rw [Nat.mul_comm 16 y, Nat.mul_assoc]
    have eU : 16 * (A * 2 ^ (t + e)) = A * 2 ^ e * (16 * 2 ^ t) := by
      rw [Nat.pow_add]
      grind
    rw [ex]
    by_cases big : A / y ≠ 0 ∧ A / y / 2 ^ (60 - e) ≠ 0
    · obtain ⟨g1, g2⟩ := big
      refine ⟨31744, hf_NR_t hl ?_, fun post h => ?_⟩
      · rw [hf_top]
        have c1 : 2 ^ (60 - e) ≤ A / y := by
          apply Nat.le_of_not_lt
          intro z
          exact g2 (Nat.div_eq_of_lt z)
        have c2 : 2 ^ (60 - e) * y ≤ A := (Nat.le_div_iff_mul_le hy).mp c1
        have c3 := Nat.mul_le_mul_right (2 ^ e * 2 ^ t) c2
        have c4 : 2 ^ (60 - e) * y * (2 ^ e * 2 ^ t) = 2 ^ 60 * (y * 2 ^ t) := by
          rw [h60]
          grind
        have c5 : A * (2 ^ e * 2 ^ t) = A * 2 ^ (t + e) := by rw [Nat.pow_add, Nat.mul_comm (2 ^ e)]
        rw [c4, c5] at c3
        rw [Nat.mul_assoc 16 y]
        omega
      · refine br_f hx (hf_bEQ (A / y) 0 (fun z => absurd z g1) (fun _ => ?_))
        rw [e7]
        refine hf_bEQ (A / y / 2 ^ (60 - e)) 0 (fun z => absurd z g2) (fun _ => ?_)
        exact br_f (by decide) (hf_93 ha hb (Nat.le_refl _) h)
    · have hU : A / y * 2 ^ e < 2 ^ 60 := by
        by_cases z : A / y = 0
        · rw [z]; omega
        · have z2 : A / y / 2 ^ (60 - e) = 0 := by
            apply Classical.byContradiction
            intro z3
            exact big ⟨z, z3⟩
          have z4 : A / y < 2 ^ (60 - e) := by
            apply Nat.lt_of_not_le
            intro z5
            have := Nat.div_pos z5 (Nat.two_pow_pos (60 - e))
            omega
          rw [h60]
          exact Nat.mul_lt_mul_of_pos_right z4 (Nat.two_pow_pos e)
      obtain ⟨r, hr, hW⟩ := hf_rX (U := A / y * 2 ^ e) (b := b0) (u := A * 2 ^ (t + e)) (l := 16 * y * 2 ^ t) (by omega) hb0 hl (by
        intro K hK c
        rw [eL, eU, ← Nat.mul_assoc, Nat.mul_le_mul_right_iff (by have := Nat.two_pow_pos t; omega), hf_sc2 (by have := Nat.two_pow_pos t; omega), hb1]
        by_cases y1 : y = 1
        · subst y1
          rw [Nat.div_one, Nat.mul_one, Nat.mod_one]
          exact ⟨Iff.rfl, by simp⟩
        · have he : e ≤ 3 + K := by
            apply Nat.le_of_not_lt
            intro z
            have z2 : 2048 ≤ A / y := by
              rcases hp (by omega) with q | q | q
              · exact absurd q y1
              · omega
              · exact q
            have z3 := hK.1
            rw [show e = (e - (4 + K)) + (4 + K) by omega, Nat.pow_add, ← Nat.mul_assoc, Nat.mul_div_cancel _ (Nat.two_pow_pos (4 + K))] at z3
            have z4 := Nat.mul_le_mul_left (A / y) (Nat.two_pow_pos (e - (4 + K)))
            omega
          rw [show c * 2 ^ (3 + K) = c * 2 ^ (3 + K - e) * 2 ^ e by rw [Nat.mul_assoc, ← Nat.pow_add]; congr 2; omega]
          exact hf_HM hy)
      refine ⟨r, hr, fun post h => ?_⟩
      have fin : wX_withSign_27 post (nI a) (nI b) (lN (A / y)) (nI e) (nI b0) := by
        refine br_t rfl ?_
        rw [wb_shl _ (by omega)]
        exact hW _ (hf_93 ha hb hr.1 h)
      refine br_f hx (hf_bEQ (A / y) 0 (fun _ => fin) (fun z => ?_))
      rw [e7]
      refine hf_bEQ (A / y / 2 ^ (60 - e)) 0 (fun _ => fin) (fun z2 => absurd ⟨z, z2⟩ big)
  · obtain ⟨e, rfl⟩ : ∃ e, t = s + e := ⟨t - s, by omega⟩
    have he : 0 < e := by omega
    have hx : nI s - nI (s + e) < 0 := pk_sneg (by omega) (by omega)
    have ex : -(nI s - nI (s + e)) = nI e := by rw [Int32.neg_sub, pk_sub (by omega), Nat.add_sub_cancel_left]
    have hpe : 2 ^ e < 2 ^ 62 := wb_lt2 (by omega)
    have e1 : lN (A / y) &&& (((1 : Int64) <<< ((nI e).toInt64 &&& 63)) - 1) = lN (A / y % 2 ^ e) := by
      rw [show (1 : Int64) = lN 1 from rfl, wb_shl _ (by omega), Nat.one_mul, lN_sub (Nat.two_pow_pos e), wb_mask (by omega) (by omega)]
    have e2 : lN (A / y) >>> ((nI e).toInt64 &&& 63) = lN (A / y / 2 ^ e) := hf_shr (by omega) (by omega)
    have hd : A / y / 2 ^ e ≤ A / y := Nat.div_le_self _ _
    have hmod : A / y % 2 ^ e ≤ A / y := Nat.mod_le _ _
    have eL : 16 * y * 2 ^ (s + e) = (y * 2 ^ e) * (16 * 2 ^ s) := by
      rw [Nat.pow_add]
      grind
    have eU : 16 * (A * 2 ^ s) = A * (16 * 2 ^ s) := by rw [Nat.mul_left_comm]
    have h16 : 0 < 16 * 2 ^ s := by have := Nat.two_pow_pos s; omega
    obtain ⟨b1, hb2, hb3⟩ : ∃ b1, b1 < 2 ∧ (b1 = 0 ↔ (b0 = 0 ∧ A / y % 2 ^ e = 0)) := by
      by_cases z : b0 = 0 ∧ A / y % 2 ^ e = 0
      · exact ⟨0, by omega, fun _ => z, fun _ => rfl⟩
      · exact ⟨1, by omega, fun q => absurd q (by omega), fun q => absurd q z⟩
    obtain ⟨r, hr, hW⟩ := hf_rX' (U := A / y / 2 ^ e) (b := b1) (u := A * 2 ^ s) (l := 16 * y * 2 ^ (s + e)) (by omega) hb2 hl
      (by rw [eL, eU, Nat.mul_div_mul_right _ _ h16, Nat.div_div_eq_div_mul])
      (by
        rw [eL, eU, Nat.mul_mod_mul_right, hb3, hb1, Nat.mod_mul]
        constructor
        · rintro ⟨q1, q2⟩
          rw [q1, q2]
          simp
        · intro q
          have q1 : A % y + y * (A / y % 2 ^ e) = 0 := by
            rcases Nat.mul_eq_zero.mp q with q2 | q2
            · exact q2
            · omega
          have q3 : y * (A / y % 2 ^ e) = 0 := by omega
          rcases Nat.mul_eq_zero.mp q3 with q4 | q4
          · omega
          · exact ⟨by omega, q4⟩)
    refine ⟨r, hr, fun post h => ?_⟩
    unfold wpX_withSign
    rw [ex]
    refine br_t hx (nm_r e1 ?_)
    rw [e2]
    have w93 : wX_withSign_93 post (nI a) (nI b) (nI r) := hf_93 ha hb hr.1 h
    refine pk_eq b0 0 (fun z => hf_bEQ (A / y % 2 ^ e) 0 (fun z2 => ?_) (fun z2 => ?_)) (fun z => ?_)
    · obtain rfl : b1 = 0 := hb3.mpr ⟨z, z2⟩
      exact hW _ w93
    · have q : b1 ≠ 0 := fun q => z2 (hb3.mp q).2
      obtain rfl : b1 = 1 := by omega
      exact hW _ w93
    · have q : b1 ≠ 0 := fun q => z (hb3.mp q).1
      obtain rfl : b1 = 1 := by omega
      exact hW _ w93
theorem hf_m65 {a b r : Nat} {g1 g2 : Int32} (ha : a < 65536) (hb : b < 65536) (hr : r ≤ 31744) {post : Int32 → Prop} (h : post (nI (hf_sn a b r))) : wY_multiply_65 post (nI a) (nI b) (nI r) g1 g2 := by
  unfold hf_sn at h
  refine pk_lt a 32768 (fun x => pk_lt b 32768 (fun y => ?_) (fun y => ?_)) (fun x => pk_lt b 32768 (fun y => ?_) (fun y => ?_))
  · rw [if_pos (by omega)] at h
    exact br_t rfl (hf_wsY (s := 0) hr (by omega) h)
  · rw [if_neg (by omega)] at h
    exact br_f (by decide) (hf_wsY (s := 1) hr (by omega) h)
  · rw [if_neg (by omega)] at h
    exact br_f (by decide) (hf_wsY (s := 1) hr (by omega) h)
  · rw [if_pos (by omega)] at h
    exact br_t rfl (hf_wsY (s := 0) hr (by omega) h)
theorem hf_multiply (u : SX) (v : SY) (a b : Int32) : ∃ r, (∀ post : Int32 → Prop, post r → wpX_multiply post u a b) ∧ (∀ post : Int32 → Prop, post r → wpY_multiply post v a b) := by
  obtain ⟨f1, f2, f3, f4, f5, f6, f7, f8, f9⟩ := u
  obtain ⟨g1, g2⟩ := v
  rcases hf_num a with ⟨n, hn, he, rfl, hX, hY⟩ | ⟨hX, hY⟩
  · rcases hf_num b with ⟨m, hm, hf, rfl, kX, kY⟩ | ⟨kX, kY⟩
    · have p1 := hf_pl_29 he
      have p2 := hf_pl_29 hf
      have d1 := hf_dg_lt n
      have d2 := hf_dg_lt m
      have hP : hf_dg n * hf_dg m < 2 ^ 22 := by
        have := Nat.mul_le_mul (show hf_dg n ≤ 2047 by omega) (show hf_dg m ≤ 2047 by omega)
        omega
      obtain ⟨r, hr, hW⟩ := hf_WS (a := n) (b := m) (A := hf_dg n * hf_dg m) (y := 1) (s := hf_pl n + hf_pl m) (t := 20) (b0 := 0) hn hm (by omega) (by omega) (by omega) (by omega) (by omega) (by omega) (fun _ => Or.inl rfl)
      rw [Nat.div_one] at hW
      have startX : ∀ post : Int32 → Prop, post (nI (hf_sn n m r)) → wpX_multiply post (f1, f2, f3, f4, f5, f6, f7, f8, f9) (nI n) (nI m) := by
        intro post h
        unfold wpX_multiply
        dsimp only
        refine hX _ (br_f (by decide) (kX _ (br_f (by decide) (hf_dgX hn (hf_dgX hm (nm_r (e' := lN (hf_dg n * hf_dg m)) ?_ (hf_plX hn (hf_plX hm (nm_r (e' := nI (hf_pl n + hf_pl m) - nI 20) ?_ ?_)))))))))
        · rw [nI_l (by omega), nI_l (by omega), lN_mul]
        · rw [nI_add]
          rfl
        · exact hW _ h
      have startY : ∀ post : Int32 → Prop, (((nI (hf_pl n + hf_pl m) - nI 24 < 0 → (wpY_nearest (fun r_12 => (wY_multiply_65 post (nI n) (nI m) r_12 g1 g2)) (lN (hf_dg n * hf_dg m)) ((1 : Int64) <<< ((-(nI (hf_pl n + hf_pl m) - nI 24)).toInt64 &&& 63)))) ∧ (¬ nI (hf_pl n + hf_pl m) - nI 24 < 0 → (wpY_nearest (fun r_17 => (wY_multiply_65 post (nI n) (nI m) r_17 g1 g2)) (lN (hf_dg n * hf_dg m) <<< ((nI (hf_pl n + hf_pl m) - nI 24).toInt64 &&& 63)) 1)))) → wpY_multiply post (g1, g2) (nI n) (nI m) := by
        intro post h
        unfold wpY_multiply
        dsimp only
        refine hY _ (br_t rfl (kY _ (br_t rfl (hf_dgY hn (hf_dgY hm (nm_r (e' := lN (hf_dg n * hf_dg m)) ?_ (hf_plY hn (hf_plY hm (nm_r (e' := nI (hf_pl n + hf_pl m) - nI 24) ?_ h)))))))))
        · rw [lN_mul]
        · rw [nI_add]
          rfl
      refine ⟨nI (hf_sn n m r), startX, fun post h => startY post ?_⟩
      have hS58 : hf_pl n + hf_pl m ≤ 58 := by omega
      generalize hf_pl n + hf_pl m = S at *
      generalize hf_dg n * hf_dg m = P at *
      by_cases hS : S < 24
      · have e : -(nI S - nI 24) = nI (24 - S) := by rw [Int32.neg_sub, pk_sub (by omega)]
        have hp24 : 2 ^ (24 - S) ≤ 2 ^ 24 := Nat.pow_le_pow_right (by decide) (by omega)
        obtain ⟨s, hs, wY⟩ := hf_nY (u := P) (l := 2 ^ (24 - S)) (by omega) (Nat.two_pow_pos _) (by omega)
        have hs2 : hf_NR (P * 2 ^ S) (16 * 1 * 2 ^ 20) s := by
          rw [show 16 * 1 * 2 ^ 20 = 2 ^ (24 - S) * 2 ^ S by rw [← Nat.pow_add, show 24 - S + S = 24 by omega]]
          exact (hf_NR_m (Nat.two_pow_pos S)).mpr hs
        obtain rfl := hf_NR_u (by omega) hr hs2
        rw [e, show (1 : Int64) = lN 1 from rfl, wb_shl 1 (k := 24 - S) (by omega), Nat.one_mul]
        exact br_t (pk_sneg (by omega) hS) (wY _ (hf_m65 hn hm hr.1 h))
      · have e : nI S - nI 24 = nI (S - 24) := pk_sub (by omega)
        have hp24 : 2 ^ (S - 24) ≤ 2 ^ 34 := Nat.pow_le_pow_right (by decide) (by omega)
        have hpb : P * 2 ^ (S - 24) ≤ 2 ^ 22 * 2 ^ 34 := Nat.mul_le_mul (by omega) hp24
        obtain ⟨s, hs, wY⟩ := hf_nY (u := P * 2 ^ (S - 24)) (l := 1) (by omega) (by omega) (by omega)
        have hs2 : hf_NR (P * 2 ^ S) (16 * 1 * 2 ^ 20) s := by
          rw [show P * 2 ^ S = P * 2 ^ (S - 24) * 2 ^ 24 by rw [Nat.mul_assoc, ← Nat.pow_add, show S - 24 + 24 = S by omega], show 16 * 1 * 2 ^ 20 = 1 * 2 ^ 24 from rfl]
          exact (hf_NR_m (Nat.two_pow_pos 24)).mpr hs
        obtain rfl := hf_NR_u (by omega) hr hs2
        rw [e, wb_shl _ (k := S - 24) (by omega)]
        exact br_f (nI_pos (by omega)) (wY _ (hf_m65 hn hm hr.1 h))
    · exact ⟨-1, fun post h => by unfold wpX_multiply; dsimp only; exact hX _ (br_f (by decide) (kX _ (br_t rfl h))), fun post h => by unfold wpY_multiply; dsimp only; exact hY _ (br_t rfl (kY _ (br_f (by decide) h)))⟩
  · exact ⟨-1, fun post h => by unfold wpX_multiply; dsimp only; exact hX _ (br_t rfl h), fun post h => by unfold wpY_multiply; dsimp only; exact hY _ (br_f (by decide) h)⟩
end
section
/-! divide -/
theorem hf_NR_0 {l : Nat} (hl : 0 < l) : hf_NR 0 l 0 := by
  refine ⟨by omega, fun p hp => by omega, fun _ => Or.inl ?_⟩
  have e : hf_md 0 = 1 := by decide +kernel
  rw [e]
  omega
theorem hf_d49 {a b : Nat} {x3 g1 g2 : Int32} {post : Int32 → Prop} (ha : a < 65536) (hb : b < 65536) (h : ∀ sg, sg < 2 → (sg = 0 ↔ (a < 32768 ↔ b < 32768)) → wY_divide_68 post (nI a) (nI b) x3 (nI sg) g1 g2) :
    ((nI a < 32768 → (wY_divide_49 post (nI a) (nI b) x3 0 g1 g2)) ∧ (¬ nI a < 32768 → (wY_divide_49 post (nI a) (nI b) x3 1 g1 g2))) := by
  refine pk_lt a 32768 (fun x => pk_lt b 32768 (fun y => ?_) (fun y => ?_)) (fun x => pk_lt b 32768 (fun y => ?_) (fun y => ?_))
  · exact br_t rfl (h 0 (by omega) (by omega))
  · exact br_f (by decide) (h 1 (by omega) (by omega))
  · exact br_f (by decide) (h 1 (by omega) (by omega))
  · exact br_t rfl (h 0 (by omega) (by omega))
theorem hf_d134 {a b r sg : Nat} {g1 g2 : Int32} {post : Int32 → Prop} (hr : r ≤ 31744) (hs : sg < 2) (hs2 : sg = 0 ↔ (a < 32768 ↔ b < 32768)) (h : post (nI (hf_sn a b r))) : wY_divide_134 post (nI sg) (nI r) g1 g2 := by
  refine hf_wsY hr hs ?_
  unfold hf_sn at h
  by_cases z : sg = 0
  · rw [if_pos z]
    rw [if_pos (hs2.mp z)] at h
    exact h
  · rw [if_neg z]
    rw [if_neg (fun q => z (hs2.mpr q))] at h
    exact h
theorem hf_i32c (x y z : Int32) : x - y + z = x + z - y := by grind
theorem hf_divide (u : SX) (v : SY) (a b : Int32) : ∃ r, (∀ post : Int32 → Prop, post r → wpX_divide post u a b) ∧ (∀ post : Int32 → Prop, post r → wpY_divide post v a b) := by
  obtain ⟨f1, f2, f3, f4, f5, f6, f7, f8, f9⟩ := u
  obtain ⟨g1, g2⟩ := v
  rcases hf_num a with ⟨n, hn, he, rfl, hX, hY⟩ | ⟨hX, hY⟩
  · rcases hf_num b with ⟨m, hm, hf, rfl, kX, kY⟩ | ⟨kX, kY⟩
    · have p1 := hf_pl_29 he
      have p2 := hf_pl_29 hf
      have d1 := hf_dg_lt n
      have d2 := hf_dg_lt m
      by_cases hz : hf_dg m = 0
      · refine ⟨-1, fun post h => ?_, fun post h => ?_⟩
        · unfold wpX_divide
          dsimp only
          refine hX _ (br_f (by decide) (kX _ (br_f (by decide) (hf_dgX hm ?_))))
          rw [hz]; exact br_t rfl h
        · unfold wpY_divide
          dsimp only
          refine hY _ (br_t rfl (kY _ (br_t rfl (hf_dgY hm ?_))))
          rw [hz]; exact br_t rfl h
      · have ho := hf_or n
        have hnx : ¬ nI (hf_dg m) = 0 := nI_ne0 (by omega) (by omega)
        have hl0 : ¬ lN (hf_dg m) = 0 := by
          show ¬ lN (hf_dg m) = lN 0
          rw [pk_lEQ (by omega) (by omega)]
          exact hz
        have hA : hf_dg n * 2 ^ 26 / hf_dg m ≤ hf_dg n * 2 ^ 26 := Nat.div_le_self _ _
        obtain ⟨b0, hb0, hb1⟩ : ∃ b0, b0 < 2 ∧ (b0 = 0 ↔ hf_dg n * 2 ^ 26 % hf_dg m = 0) := by
          by_cases z : hf_dg n * 2 ^ 26 % hf_dg m = 0
          · exact ⟨0, by omega, fun _ => z, fun _ => rfl⟩
          · exact ⟨1, by omega, fun q => absurd q (by omega), fun q => absurd q z⟩
        obtain ⟨r, hr, hW⟩ := hf_WS (a := n) (b := m) (A := hf_dg n * 2 ^ 26) (y := hf_dg m) (s := hf_pl n + 2) (t := hf_pl m) (b0 := b0) hn hm (by omega) hb0 hb1 (by omega) (by omega) (by omega) (by
          intro _
          rcases ho with z | z
          · exact Or.inr (Or.inl (by omega))
          · refine Or.inr (Or.inr ?_)
            rw [Nat.le_div_iff_mul_le (by omega)]
            have := Nat.mul_le_mul_left 2048 (show hf_dg m ≤ 2047 by omega)
            omega)
        have startX : ∀ post : Int32 → Prop, post (nI (hf_sn n m r)) → wpX_divide post (f1, f2, f3, f4, f5, f6, f7, f8, f9) (nI n) (nI m) := by
          intro post h
          have eA : (nI (hf_dg n)).toInt64 <<< ((26 : Int32).toInt64 &&& 63) = lN (hf_dg n * 2 ^ 26) := by
            rw [nI_l (by omega)]
            exact wb_shl _ (k := 26) (by omega)
          have fin : wX_divide_58 post (nI n) (nI m) (lN (hf_dg n * 2 ^ 26 / hf_dg m)) (nI b0) f1 f2 f3 f4 f5 f6 f7 f8 f9 := by
            refine hf_plX hn (hf_plX hm (nm_r (e' := nI (hf_pl n + 2) - nI (hf_pl m)) ?_ (hW _ h)))
            rw [hf_i32c]
            rw [show nI (hf_pl n) + 2 = nI (hf_pl n + 2) from nI_add _ 2]
          unfold wpX_divide
          dsimp only
          refine hX _ (br_f (by decide) (kX _ (br_f (by decide) (hf_dgX hm (br_f hnx (hf_dgX hn (nm_r eA (hf_dgX hm ?_))))))))
          rw [nI_l (n := hf_dg m) (by omega)]
          refine ⟨hl0, nm_r (pk_lDiv (by omega) (by omega) (by omega)) (hf_dgX hm ?_)⟩
          rw [nI_l (n := hf_dg m) (by omega)]
          refine ⟨hl0, ?_⟩
          rw [pk_lRem (by omega) (by omega) (by omega)]
          have hmo : hf_dg n * 2 ^ 26 % hf_dg m < hf_dg m := Nat.mod_lt _ (by omega)
          refine hf_bEQ (hf_dg n * 2 ^ 26 % hf_dg m) 0 (fun z => ?_) (fun z => ?_)
          · obtain rfl : b0 = 0 := hb1.mpr z
            exact fin
          · have q : b0 ≠ 0 := fun q => z (hb1.mp q)
            obtain rfl : b0 = 1 := by omega
            exact fin
        refine ⟨nI (hf_sn n m r), startX, fun post h => ?_⟩
        have eU : hf_dg n * 2 ^ 26 * 2 ^ (hf_pl n + 2) = hf_dg n * (2 ^ (hf_pl n + 24) * 16) := by
          rw [Nat.pow_add, Nat.pow_add]
          grind
        have eL : 16 * hf_dg m * 2 ^ hf_pl m = hf_dg m * 2 ^ hf_pl m * 16 := by grind
        have hl : 0 < 16 * hf_dg m * 2 ^ hf_pl m := Nat.mul_pos (by omega) (Nat.two_pow_pos _)
        unfold wpY_divide
        dsimp only
        refine hY _ (br_t rfl (kY _ (br_t rfl (hf_dgY hm (br_f hl0 (hf_plY hn (hf_plY hm (nm_r (e' := nI (hf_pl n + 24) - nI (hf_pl m)) ?_ (hf_d49 hn hm ?_)))))))))
        · rw [hf_i32c]
          rw [show nI (hf_pl n) + 24 = nI (hf_pl n + 24) from nI_add _ 24]
        · intro sg hs hs2
          refine hf_dgY hn (hf_dgY hm ?_)
          refine hf_bEQ (hf_dg n) 0 (fun z => ?_) (fun z => ?_)
          · have : r = 0 := by
              rw [eU, z, Nat.zero_mul] at hr
              exact hf_NR_u hl hr (hf_NR_0 hl)
            subst this
            exact hf_d134 (r := 0) (by decide) hs hs2 h
          · by_cases hneg : hf_pl n + 24 < hf_pl m
            · have hx := pk_sneg (a := hf_pl n + 24) (b := hf_pl m) (by omega) hneg
              have hx45 : ¬ (45 : Int32) < nI (hf_pl n + 24) - nI (hf_pl m) := by
                rw [Int32.lt_iff_toInt_lt, pk_sub_toInt (by omega) (by omega), show (45 : Int32).toInt = 45 from by decide]
                omega
              have e : -(nI (hf_pl n + 24) - nI (hf_pl m)) = nI (hf_pl m - (hf_pl n + 24)) := by rw [Int32.neg_sub, pk_sub (by omega)]
              have hpe : 2 ^ (hf_pl m - (hf_pl n + 24)) ≤ 2 ^ 5 := Nat.pow_le_pow_right (by decide) (by omega)
              have hpb := Nat.mul_le_mul (show hf_dg m ≤ 2047 by omega) hpe
              obtain ⟨s, hs3, wY⟩ := hf_nY (u := hf_dg n) (l := hf_dg m * 2 ^ (hf_pl m - (hf_pl n + 24))) (by omega) (Nat.mul_pos (by omega) (Nat.two_pow_pos _)) (by omega)
              have hs4 : r = s := by
                refine hf_NR_u hl hr ?_
                rw [eU, eL, show hf_dg m * 2 ^ hf_pl m * 16 = hf_dg m * 2 ^ (hf_pl m - (hf_pl n + 24)) * (2 ^ (hf_pl n + 24) * 16) by
                  rw [Nat.mul_assoc, Nat.mul_assoc, ← Nat.mul_assoc (2 ^ (hf_pl m - (hf_pl n + 24))), ← Nat.pow_add, show hf_pl m - (hf_pl n + 24) + (hf_pl n + 24) = hf_pl m by omega]]
                exact (hf_NR_m (by have := Nat.two_pow_pos (hf_pl n + 24); omega)).mpr hs3
              subst hs4
              rw [e, wb_shl _ (k := hf_pl m - (hf_pl n + 24)) (by omega)]
              exact br_f hx45 (br_t hx (wY _ (hf_d134 hr.1 hs hs2 h)))
            · have e : nI (hf_pl n + 24) - nI (hf_pl m) = nI (hf_pl n + 24 - hf_pl m) := pk_sub (by omega)
              rw [e]
              refine pk_lt 45 (hf_pl n + 24 - hf_pl m) (fun w => ?_) (fun w => ?_)
              · have hs4 : r = 31744 := by
                  refine hf_NR_u hl hr (hf_NR_t hl ?_)
                  have ho2 : 1024 ≤ hf_dg n := by omega
                  have q1 : 2 ^ (46 + hf_pl m) ≤ 2 ^ (hf_pl n + 24) := Nat.pow_le_pow_right (by decide) (by omega)
                  rw [Nat.pow_add] at q1
                  have q2 := Nat.mul_le_mul ho2 q1
                  have q3 := Nat.mul_le_mul_right (2 ^ hf_pl m) (show hf_dg m ≤ 2048 by omega)
                  rw [eU, eL, hf_top, ← Nat.mul_assoc (hf_dg n)]
                  generalize hf_dg m * 2 ^ hf_pl m = M at *
                  generalize hf_dg n * 2 ^ (hf_pl n + 24) = N at *
                  generalize 2 ^ hf_pl m = Z at *
                  omega
                subst hs4
                exact hf_d134 (r := 31744) (by decide) hs hs2 h
              · have hpe : 2 ^ (hf_pl n + 24 - hf_pl m) ≤ 2 ^ 45 := Nat.pow_le_pow_right (by decide) (by omega)
                have hpb := Nat.mul_le_mul (show hf_dg n ≤ 2047 by omega) hpe
                obtain ⟨s, hs3, wY⟩ := hf_nY (u := hf_dg n * 2 ^ (hf_pl n + 24 - hf_pl m)) (l := hf_dg m) (by omega) (by omega) (by omega)
                have hs4 : r = s := by
                  refine hf_NR_u hl hr ?_
                  rw [eU, eL, Nat.mul_assoc (hf_dg m), show hf_dg n * (2 ^ (hf_pl n + 24) * 16) = hf_dg n * 2 ^ (hf_pl n + 24 - hf_pl m) * (2 ^ hf_pl m * 16) by
                    rw [Nat.mul_assoc, ← Nat.mul_assoc (2 ^ (hf_pl n + 24 - hf_pl m)), ← Nat.pow_add, show hf_pl n + 24 - hf_pl m + hf_pl m = hf_pl n + 24 by omega]]
                  exact (hf_NR_m (by have := Nat.two_pow_pos (hf_pl m); omega)).mpr hs3
                subst hs4
                rw [wb_shl _ (k := hf_pl n + 24 - hf_pl m) (by omega)]
                exact br_f (nI_pos (by omega)) (wY _ (hf_d134 hr.1 hs hs2 h))
    · exact ⟨-1, fun post h => by unfold wpX_divide; dsimp only; exact hX _ (br_f (by decide) (kX _ (br_t rfl h))), fun post h => by unfold wpY_divide; dsimp only; exact hY _ (br_t rfl (kY _ (br_f (by decide) h)))⟩
  · exact ⟨-1, fun post h => by unfold wpX_divide; dsimp only; exact hX _ (br_t rfl h), fun post h => by unfold wpY_divide; dsimp only; exact hY _ (br_f (by decide) h)⟩
/-! root -/
theorem hf_rtX6 {x : Nat} (hx : x < 2 ^ 44) : ∀ k r, k ≤ 22 → r * r ≤ x → x < (r + 2 ^ k) * (r + 2 ^ k) → r + 2 ^ k ≤ 2 ^ 22 →
    ∃ R, R < 2 ^ 22 ∧ R * R ≤ x ∧ x < (R + 1) * (R + 1) ∧ ∀ post : Int64 → Prop, post (lN R) → wX_rootOf_6 post (lN x) (k + 1) (lN r) (nI k + (-1)) := by
  intro k
  induction k with
  | zero =>
    intro r _ h1 h2 h3
    exact ⟨r, by omega, h1, h2, fun post h => br_t (by decide) h⟩
  | succ k ih =>
    intro r hk h1 h2 h3
    rw [Nat.pow_succ] at h2 h3
    have hp : (1 : Int64) <<< ((nI k).toInt64 &&& 63) = lN (2 ^ k) := by
      rw [show (1 : Int64) = lN 1 from rfl, wb_shl _ (by omega), Nat.one_mul]
    have ht := Nat.mul_le_mul (show r + 2 ^ k ≤ 2 ^ 22 by omega) (show r + 2 ^ k ≤ 2 ^ 22 by omega)
    have hp2 : lN r + (1 : Int64) <<< ((nI k).toInt64 &&& 63) = lN (r + 2 ^ k) := by rw [hp, lN_add]
    by_cases z : x < (r + 2 ^ k) * (r + 2 ^ k)
    · obtain ⟨R, a1, a2, a3, a4⟩ := ih r (by omega) h1 z (by omega)
      refine ⟨R, a1, a2, a3, fun post h => ?_⟩
      rw [pk_m1]
      refine br_f (nI_pos (by omega)) (nm_r hp2 ?_)
      rw [lN_mul]
      exact br_t ((pk_lLT (by omega) (by omega)).mpr z) (nm_e (a4 post h))
    · obtain ⟨R, a1, a2, a3, a4⟩ := ih (r + 2 ^ k) (by omega) (by omega) (by rw [show r + 2 ^ k + 2 ^ k = r + 2 ^ k * 2 by omega]; exact h2) (by omega)
      refine ⟨R, a1, a2, a3, fun post h => ?_⟩
      rw [pk_m1]
      refine br_f (nI_pos (by omega)) (nm_r hp2 ?_)
      rw [lN_mul]
      exact br_f (fun q => z ((pk_lLT (by omega) (by omega)).mp q)) (nm_e (a4 post h))
theorem hf_rtX {x : Nat} (hx : x < 2 ^ 44) : ∃ R, R < 2 ^ 22 ∧ R * R ≤ x ∧ x < (R + 1) * (R + 1) ∧ ∀ post : Int64 → Prop, post (lN R) → wpX_rootOf post (lN x) := by
  obtain ⟨R, a1, a2, a3, a4⟩ := hf_rtX6 hx 22 0 (by omega) (by omega) (by omega) (by omega)
  refine ⟨R, a1, a2, a3, fun post h => ⟨23, ?_⟩⟩
  have b := a4 post h
  rw [pk_m1 21] at b
  exact b
theorem hf_rtY7 {x : Nat} (hx : x < 2 ^ 62) : ∀ m lo hi, hi - lo < 2 ^ m → lo ≤ hi → hi ≤ 2 ^ 31 → lo * lo ≤ x → x < (hi + 1) * (hi + 1) →
    ∃ R, R ≤ 2 ^ 31 ∧ R * R ≤ x ∧ x < (R + 1) * (R + 1) ∧ ∀ post : Int64 → Prop, post (lN R) → wY_rootOf_7 post (lN x) (m + 1) (lN lo) (lN hi) := by
  intro m
  induction m with
  | zero =>
    intro lo hi h1 h2 h3 h4 h5
    obtain rfl : lo = hi := by omega
    exact ⟨lo, h3, h4, h5, fun post h => br_t ((pk_lLE (by omega) (by omega)).mpr (Nat.le_refl _)) h⟩
  | succ m ih =>
    intro lo hi h1 h2 h3 h4 h5
    by_cases z : lo = hi
    · subst z
      exact ⟨lo, h3, h4, h5, fun post h => br_t ((pk_lLE (by omega) (by omega)).mpr (Nat.le_refl _)) h⟩
    · rw [Nat.pow_succ] at h1
      have eM : (lN lo + lN hi + 1) / 2 = lN ((lo + hi + 1) / 2) := by
        rw [lN_add, lN_1]
        exact pk_lDiv (b := 2) (by omega) (by omega) (by omega)
      have hM : lo < (lo + hi + 1) / 2 ∧ (lo + hi + 1) / 2 ≤ hi ∧ hi - (lo + hi + 1) / 2 < 2 ^ m ∧ (lo + hi + 1) / 2 - 1 - lo < 2 ^ m := by
        generalize 2 ^ m = Z at *
        omega
      generalize (lo + hi + 1) / 2 = M at *
      have hq := Nat.mul_le_mul (show M ≤ 2 ^ 31 by omega) (show M ≤ 2 ^ 31 by omega)
      have hc : ¬ lN hi ≤ lN lo := fun q => by
        have := (pk_lLE (by omega) (by omega)).mp q
        omega
      by_cases y : x < M * M
      · obtain ⟨R, a1, a2, a3, a4⟩ := ih lo (M - 1) hM.2.2.2 (by omega) (by omega) h4 (by rw [show M - 1 + 1 = M by omega]; exact y)
        refine ⟨R, a1, a2, a3, fun post h => br_f hc ⟨by decide, nm_r eM ?_⟩⟩
        rw [lN_mul]
        exact br_t ((pk_lLT (by omega) (by omega)).mpr y) (nm_r (lN_sub (b := 1) (by omega)) (a4 post h))
      · obtain ⟨R, a1, a2, a3, a4⟩ := ih M hi hM.2.2.1 (by omega) h3 (by omega) h5
        refine ⟨R, a1, a2, a3, fun post h => br_f hc ⟨by decide, nm_r eM ?_⟩⟩
        rw [lN_mul]
        exact br_f (fun q => y ((pk_lLT (by omega) (by omega)).mp q)) (a4 post h)
theorem hf_rtY {x : Nat} (hx : x < 2 ^ 62) : ∃ R, R ≤ 2 ^ 31 ∧ R * R ≤ x ∧ x < (R + 1) * (R + 1) ∧ ∀ post : Int64 → Prop, post (lN R) → wpY_rootOf post (lN x) := by
  obtain ⟨R, a1, a2, a3, a4⟩ := hf_rtY7 hx 32 0 (2 ^ 31) (by omega) (by omega) (by omega) (by omega) (by omega)
  exact ⟨R, a1, a2, a3, fun post h => ⟨33, a4 post h⟩⟩
theorem hf_sqlt {a b : Nat} (h : a * a < b * b) : a < b := by
  apply Nat.lt_of_not_le
  intro z
  have := Nat.mul_le_mul z z
  omega
theorem hf_rt4 {F R s : Nat} (r1 : R * R ≤ 4 * F) (r2 : 4 * F < (R + 1) * (R + 1)) (s1 : s * s ≤ F) (s2 : F < (s + 1) * (s + 1)) : 2 * s ≤ R ∧ R ≤ 2 * s + 1 ∧ (R * R = 4 * F ↔ s * s = F) ∧ (R * R = 4 * F → R = 2 * s) := by
  have e1 : (2 * s) * (2 * s) = 4 * (s * s) := by grind
  have e2 : (2 * s + 2) * (2 * s + 2) = 4 * ((s + 1) * (s + 1)) := by grind
  have a : 2 * s < R + 1 := hf_sqlt (by omega)
  have b : R < 2 * s + 2 := hf_sqlt (by omega)
  have e3 : (2 * s + 1) * (2 * s + 1) = 4 * (s * s) + 4 * s + 1 := by grind
  refine ⟨by omega, by omega, ?_, ?_⟩
  · constructor
    · intro h
      by_cases z : R = 2 * s
      · subst z; omega
      · obtain rfl : R = 2 * s + 1 := by omega
        omega
    · intro h
      by_cases z : R = 2 * s
      · subst z; omega
      · obtain rfl : R = 2 * s + 1 := by omega
        omega
  · intro h
    by_cases z : R = 2 * s
    · exact z
    · obtain rfl : R = 2 * s + 1 := by omega
      omega
end
section
/-! root, the two sides; powers; parse -/
theorem hf_rootX {n s z : Nat} (hn : n < 65536) (he : n / 1024 % 32 ≠ 31) (f1 f2 f3 : Int64) (f4 f5 f6 f7 : Int32) (f8 f9 : Int64)
    (s1 : s * s ≤ hf_dg n * 2 ^ (hf_pl n % 2) * 2 ^ 28) (s2 : hf_dg n * 2 ^ (hf_pl n % 2) * 2 ^ 28 < (s + 1) * (s + 1)) (hz : z < 2) (hz2 : z = 0 ↔ s * s = hf_dg n * 2 ^ (hf_pl n % 2) * 2 ^ 28) :
    ∃ r, hf_NR ((2 * s + z) * 2 ^ ((hf_pl n + 24) / 2)) (2 ^ 15) r ∧ ∀ post : Int32 → Prop, post (nI r) → wX_root_22 post (nI n) f1 f2 f3 f4 f5 f6 f7 f8 f9 := by
  have hp := hf_pl_29 he
  have hd := hf_dg_lt n
  have ho := hf_or n
  obtain ⟨e, hee⟩ : ∃ e, e = (hf_pl n + 32 - (30 + hf_pl n % 2)) / 2 := ⟨_, rfl⟩
  have eg : (hf_pl n + 24) / 2 = e + 11 := by omega
  have ew : hf_dg n * 2 ^ (30 + hf_pl n % 2) = 4 * (hf_dg n * 2 ^ (hf_pl n % 2) * 2 ^ 28) := by
    rw [Nat.pow_add]
    grind
  have hw : 2 ^ (30 + hf_pl n % 2) ≤ 2 ^ 31 := Nat.pow_le_pow_right (by decide) (by omega)
  have hw0 : 2 ^ 30 ≤ 2 ^ (30 + hf_pl n % 2) := Nat.pow_le_pow_right (by decide) (by omega)
  have hx := Nat.mul_le_mul (show hf_dg n ≤ 2047 by omega) hw
  obtain ⟨R, a1, a2, a3, a4⟩ := hf_rtX (x := hf_dg n * 2 ^ (30 + hf_pl n % 2)) (by omega)
  obtain ⟨c1, c2, c3, c4⟩ := hf_rt4 (by rw [← ew]; exact a2) (by rw [← ew]; exact a3) s1 s2
  rw [← hz2] at c3
  have hR : hf_pl n ≠ 0 → 4096 ≤ R := by
    intro q
    have q1 : 1024 ≤ hf_dg n := by omega
    have q2 := Nat.mul_le_mul q1 hw0
    have q3 : 4095 < R := by
      apply Nat.lt_of_not_le
      intro q4
      have := Nat.mul_le_mul (show R + 1 ≤ 4096 by omega) (show R + 1 ≤ 4096 by omega)
      omega
    omega
  have he15 : e ≤ 15 := by omega
  have hZ : 2 ^ e ≤ 2 ^ 15 := Nat.pow_le_pow_right (by decide) he15
  have hU := Nat.mul_le_mul (show R ≤ 2 ^ 22 by omega) hZ
  obtain ⟨r, hr, hW⟩ := hf_rX (U := R * 2 ^ e) (b := z) (u := (2 * s + z) * 2 ^ ((hf_pl n + 24) / 2)) (l := 2 ^ 15) (by omega) hz (by decide) (by
    intro K hK c
    have he3 : e + 1 ≤ 3 + K := by
      apply Nat.le_of_not_lt
      intro q
      have q1 := hR (by omega)
      have q2 : 2 ^ (3 + K) ≤ 2 ^ e := Nat.pow_le_pow_right (by decide) (by omega)
      have q3 := hK.1
      have q4 : 2048 ≤ R * 2 ^ e / 2 ^ (4 + K) := by
        rw [Nat.le_div_iff_mul_le (Nat.two_pow_pos _), show 4 + K = (3 + K) + 1 by omega, Nat.pow_succ]
        have := Nat.mul_le_mul q1 (Nat.le_refl (2 ^ e))
        omega
      omega
    rw [show c * 2 ^ (3 + K) = c * 2 ^ (3 + K - (e + 1)) * 2 ^ (e + 1) by rw [Nat.mul_assoc, ← Nat.pow_add]; congr 2; omega, eg]
    generalize c * 2 ^ (3 + K - (e + 1)) = m
    have hZp := Nat.two_pow_pos e
    have l1 : m * 2 ^ (e + 1) * 2 ^ 15 = (2 * m) * (2 ^ e * 32768) := by
      rw [Nat.pow_succ]
      grind
    have l2 : 16 * ((2 * s + z) * 2 ^ (e + 11)) = (2 * s + z) * (2 ^ e * 32768) := by
      rw [Nat.pow_add]
      grind
    have l3 : m * 2 ^ (e + 1) = (2 * m) * 2 ^ e := by
      rw [Nat.pow_succ]
      grind
    rw [l1, l2, l3, Nat.mul_le_mul_right_iff (by omega), Nat.mul_le_mul_right_iff hZp, hf_sc2 (by omega), hf_sc2 hZp]
    refine ⟨by omega, ?_⟩
    by_cases q : z = 0
    · have := c4 (c3.mpr q)
      omega
    · omega)
  refine ⟨r, hr, fun post h => ?_⟩
  have e38 : ∀ w, w = 30 + hf_pl n % 2 → wX_root_38 post (nI n) (nI w) f1 f2 f3 f4 f5 f6 f7 f8 f9 := by
    intro w hw2
    refine hf_dgX hn (nm_r (e' := lN (hf_dg n * 2 ^ (30 + hf_pl n % 2))) ?_ (a4 _ (hf_plX hn ⟨by decide, nm_r (e' := nI e) ?_ ?_⟩)))
    · rw [nI_l (by omega), wb_shl _ (by omega), hw2]
    · rw [show nI (hf_pl n) + 32 = nI (hf_pl n + 32) from nI_add _ 32, pk_sub (by omega), hee, ← hw2]
      exact pk_div (d := 2) (by omega) (by decide) (by decide)
    · have hRR := Nat.mul_le_mul (show R ≤ 2 ^ 22 by omega) (show R ≤ 2 ^ 22 by omega)
      rw [lN_mul, wb_shl _ (k := e) (by omega)]
      refine hf_bEQ (R * R) (hf_dg n * 2 ^ (30 + hf_pl n % 2)) (fun q => ?_) (fun q => ?_)
      · obtain rfl : z = 0 := c3.mp (by omega)
        exact hW _ h
      · have q2 : z ≠ 0 := fun q3 => q (by have := c3.mpr q3; omega)
        obtain rfl : z = 1 := by omega
        exact hW _ h
  refine hf_plX hn ?_
  rw [show nI (hf_pl n) &&& 1 = nI (hf_pl n % 2) from pk_andN (by omega) 1 (by decide)]
  exact pk_eq (hf_pl n % 2) 0 (fun q => e38 30 (by omega)) (fun q => e38 31 (by omega))
theorem hf_rootY80 {s z S : Nat} {g1 g2 : Int32} (hs : s ≤ 2 ^ 31) (hz : z < 2) (hS : 24 ≤ S) (hS2 : S ≤ 53) :
    ∃ r, hf_NR ((2 * s + z) * 2 ^ (S / 2)) (2 ^ 15) r ∧ ∀ post : Int32 → Prop, post (nI r) → wY_root_80 post (nI S) (nI z) (lN (2 * s)) g1 g2 := by
  have e9 : lN (2 * s) + (nI z).toInt64 = lN (2 * s + z) := by rw [nI_l (by omega), lN_add]
  have e11 : nI S / 2 - 15 = nI (S / 2) - nI 15 := by
    rw [show nI S / 2 = nI (S / 2) from pk_div (d := 2) (by omega) (by decide) (by decide)]
    rfl
  by_cases h15 : S / 2 < 15
  · have hp : 2 ^ (15 - S / 2) ≤ 2 ^ 15 := Nat.pow_le_pow_right (by decide) (by omega)
    obtain ⟨r, hr, wY⟩ := hf_nY (u := 2 * s + z) (l := 2 ^ (15 - S / 2)) (by omega) (Nat.two_pow_pos _) (by omega)
    refine ⟨r, ?_, fun post h => nm_r e9 ⟨by decide, nm_r e11 ?_⟩⟩
    · rw [show 2 ^ 15 = 2 ^ (15 - S / 2) * 2 ^ (S / 2) by rw [← Nat.pow_add, show 15 - S / 2 + S / 2 = 15 by omega]]
      exact (hf_NR_m (Nat.two_pow_pos _)).mpr hr
    · rw [Int32.neg_sub, pk_sub (a := 15) (b := S / 2) (by omega), show (1 : Int64) = lN 1 from rfl, wb_shl 1 (k := 15 - S / 2) (by omega), Nat.one_mul]
      exact br_t (pk_sneg (by omega) h15) (wY _ h)
  · have hp : 2 ^ (S / 2 - 15) ≤ 2 ^ 11 := Nat.pow_le_pow_right (by decide) (by omega)
    have hb := Nat.mul_le_mul (show 2 * s + z ≤ 2 ^ 33 by omega) hp
    obtain ⟨r, hr, wY⟩ := hf_nY (u := (2 * s + z) * 2 ^ (S / 2 - 15)) (l := 1) (by omega) (by omega) (by omega)
    refine ⟨r, ?_, fun post h => nm_r e9 ⟨by decide, nm_r e11 ?_⟩⟩
    · rw [show (2 * s + z) * 2 ^ (S / 2) = (2 * s + z) * 2 ^ (S / 2 - 15) * 2 ^ 15 by rw [Nat.mul_assoc, ← Nat.pow_add, show S / 2 - 15 + 15 = S / 2 by omega]]
      have := (hf_NR_m (u := (2 * s + z) * 2 ^ (S / 2 - 15)) (l := 1) (r := r) (c := 2 ^ 15) (Nat.two_pow_pos 15)).mpr hr
      rw [Nat.one_mul] at this
      exact this
    · rw [pk_sub (by omega), wb_shl _ (k := S / 2 - 15) (by omega)]
      exact br_f (nI_pos (by omega)) (wY _ h)
theorem hf_root (u : SX) (v : SY) (a : Int32) : ∃ r, (∀ post : Int32 → Prop, post r → wpX_root post u a) ∧ (∀ post : Int32 → Prop, post r → wpY_root post v a) := by
  obtain ⟨f1, f2, f3, f4, f5, f6, f7, f8, f9⟩ := u
  obtain ⟨g1, g2⟩ := v
  rcases hf_num a with ⟨n, hn, he, rfl, hX, hY⟩ | ⟨hX, hY⟩
  · by_cases h8 : n ≤ 32768
    · have hp := hf_pl_29 he
      have hd := hf_dg_lt n
      have hp2 : 2 ^ (hf_pl n % 2) ≤ 2 ^ 1 := Nat.pow_le_pow_right (by decide) (by omega)
      have hF := Nat.mul_le_mul (show hf_dg n ≤ 2047 by omega) hp2
      obtain ⟨s, b1, b2, b3, b4⟩ := hf_rtY (x := hf_dg n * 2 ^ (hf_pl n % 2) * 2 ^ 28) (by omega)
      obtain ⟨z, hz, hz2⟩ : ∃ z, z < 2 ∧ (z = 0 ↔ s * s = hf_dg n * 2 ^ (hf_pl n % 2) * 2 ^ 28) := by
        by_cases q : s * s = hf_dg n * 2 ^ (hf_pl n % 2) * 2 ^ 28
        · exact ⟨0, by omega, fun _ => q, fun _ => rfl⟩
        · exact ⟨1, by omega, fun q2 => absurd q2 (by omega), fun q2 => absurd q2 q⟩
      obtain ⟨r, hr, wX⟩ := hf_rootX hn he f1 f2 f3 f4 f5 f6 f7 f8 f9 b2 b3 hz hz2
      obtain ⟨r', hr', wY⟩ := hf_rootY80 (s := s) (z := z) (S := hf_pl n + 24) (g1 := g1) (g2 := g2) b1 hz (by omega) (by omega)
      obtain rfl := hf_NR_u (by decide) hr hr'
      refine ⟨nI r, fun post h => ?_, fun post h => ?_⟩
      · unfold wpX_root
        dsimp only
        refine hX _ (br_f (by decide) ?_)
        refine pk_lt n 32768 (fun _ => wX _ h) (fun q => hf_dgX hn (br_t ?_ (wX _ h)))
        obtain rfl : n = 32768 := by omega
        decide
      · unfold wpY_root
        dsimp only
        refine hY _ (br_t rfl (br_t (nI_le (b := 32768) h8 (by decide)) ?_))
        have fin : ∀ D, D = hf_dg n * 2 ^ (hf_pl n % 2) → wY_root_44 post (nI (hf_pl n + 24)) (lN D) g1 g2 := by
          intro D hD
          have hss := Nat.mul_le_mul b1 b1
          refine nm_r (e' := lN (hf_dg n * 2 ^ (hf_pl n % 2) * 2 ^ 28)) ?_ (b4 _ ?_)
          · rw [← hD]
            exact wb_shl _ (k := 28) (by omega)
          · rw [lN_mul, show (2 : Int64) * lN s = lN (2 * s) from lN_mul 2 s]
            refine hf_bEQ (s * s) (hf_dg n * 2 ^ (hf_pl n % 2) * 2 ^ 28) (fun q => ?_) (fun q => ?_)
            · obtain rfl : z = 0 := hz2.mpr q
              exact wY _ h
            · have q2 : z ≠ 0 := fun q3 => q (hz2.mp q3)
              obtain rfl : z = 1 := by omega
              exact wY _ h
        refine hf_plY hn (nm_r (e' := nI (hf_pl n + 24)) (nI_add _ 24) ⟨by decide, ?_⟩)
        rw [show nI (hf_pl n + 24) - nI (hf_pl n + 24) / 2 * 2 = nI ((hf_pl n + 24) % 2) from pk_rem (d := 2) (by omega) (by decide) (by decide)]
        refine pk_eq ((hf_pl n + 24) % 2) 0 (fun q => hf_dgY hn (fin _ ?_)) (fun q => hf_dgY hn ?_)
        · rw [show hf_pl n % 2 = 0 by omega]
          omega
        · rw [show (2 : Int64) * lN (hf_dg n) = lN (2 * hf_dg n) from lN_mul 2 _]
          refine fin _ ?_
          rw [show hf_pl n % 2 = 1 by omega]
          omega
    · have hdn : hf_dg n ≠ 0 := by
        unfold hf_dg
        split <;> omega
      have hd := hf_dg_lt n
      refine ⟨-1, fun post h => by unfold wpX_root; dsimp only; exact hX _ (br_f (by decide) (br_f (nI_nlt (b := 32768) (by omega) (by omega)) (hf_dgX hn (br_f (nI_ne0 (by omega) (by omega)) h)))), fun post h => by unfold wpY_root; dsimp only; exact hY _ (br_t rfl (br_f (nI_ge (a := 32768) (by omega) (by omega)) h))⟩
  · exact ⟨-1, fun post h => by unfold wpX_root; dsimp only; exact hX _ (br_t rfl h), fun post h => by unfold wpY_root; dsimp only; exact hY _ (br_f (by decide) h)⟩
/-! powers of ten -/
theorem hf_pX4 {x : Nat} {post : Int64 → Prop} (hx : x ≤ 12) (h : post (lN (10 ^ x))) : ∀ m k, k + m = x → wX_power_4 post (nI x) (m + 1) (lN (10 ^ k)) (nI k) := by
  intro m
  induction m with
  | zero =>
    intro k hk
    obtain rfl : k = x := by omega
    exact br_t (nI_le (Nat.le_refl _) (by omega)) h
  | succ m ih =>
    intro k hk
    refine br_f (nI_ge (by omega) (by omega)) (br_f (nI_ge (b := 12) (by omega) (by decide)) (nm_r (e' := lN (10 ^ (k + 1))) ?_ (nm_r (nI_1 k) (ih (k + 1) (by omega)))))
    rw [Nat.pow_succ]
    exact lN_mul (10 ^ k) 10
theorem hf_pX {x : Nat} {post : Int64 → Prop} (hx : x ≤ 12) (h : post (lN (10 ^ x))) : wpX_power post (nI x) := ⟨x + 1, hf_pX4 hx h x 0 (by omega)⟩
theorem hf_pY4 {x : Nat} {post : Int64 → Prop} (hx : x < 1000) (h : post (lN (10 ^ x))) : ∀ m k, k + m = x → wY_power_4 post (nI x) (m + 1) (lN (10 ^ k)) (nI k) := by
  intro m
  induction m with
  | zero =>
    intro k hk
    obtain rfl : k = x := by omega
    exact br_t (nI_le (Nat.le_refl _) (by omega)) h
  | succ m ih =>
    intro k hk
    refine br_f (nI_ge (by omega) (by omega)) (nm_r (e' := lN (10 ^ (k + 1))) ?_ (nm_r (nI_1 k) (ih (k + 1) (by omega))))
    rw [Nat.pow_succ, Nat.mul_comm]
    exact lN_mul 10 (10 ^ k)
theorem hf_pY {x : Nat} {post : Int64 → Prop} (hx : x < 1000) (h : post (lN (10 ^ x))) : wpY_power post (nI x) := ⟨x + 1, hf_pY4 hx h x 0 (by omega)⟩
theorem hf_10pos (x : Nat) : 0 < 10 ^ x := Nat.pow_pos (by decide)
theorem hf_10le {x y : Nat} (h : x ≤ y) : 10 ^ x ≤ 10 ^ y := Nat.pow_le_pow_right (by decide) h
theorem hf_nn {x : Nat} (h0 : 0 < x) (h : x ≤ 12) : ¬ (0 : Int32) ≤ -nI x := by
  have : ∀ x, x < 13 → 0 < x → ¬ (0 : Int32) ≤ -nI x := by decide +kernel
  exact this x (by omega) h0
/-! Y's parsed -/
theorem hf_pdN {e x : Nat} (he : e ≤ 1000000) (h0 : 0 < x) (hx : x ≤ 12) : ∃ r, hf_NR (e * 2 ^ 24) (10 ^ x) r ∧ ∀ post : Int32 → Prop, post (nI r) → wpY_parsed post (lN e) (-nI x) := by
  have hp := hf_10le hx
  obtain ⟨r, hr, wY⟩ := hf_nY (u := e * 2 ^ 24) (l := 10 ^ x) (by omega) (hf_10pos x) (by omega)
  refine ⟨r, hr, fun post h => br_f (hf_nn h0 hx) ?_⟩
  rw [Int32.neg_neg, show lN e <<< ((24 : Int32).toInt64 &&& 63) = lN (e * 2 ^ 24) from wb_shl _ (k := 24) (by omega)]
  exact hf_pY (by omega) (wY _ h)
theorem hf_pd24 {e x : Nat} {post : Int32 → Prop} (hx : x ≤ 12)
    (F : ∀ w, w ≤ 1000000 → ((e * 10 ^ x < 100000 ∧ w = e * 10 ^ x) ∨ (100000 ≤ e * 10 ^ x ∧ 100000 ≤ w)) → wY_parsed_50 post (lN w)) :
    ∀ m k, k + m = x → e * 10 ^ k ≤ 1000000 → wY_parsed_24 post (nI x) (m + 1) (lN (e * 10 ^ k)) (nI k) := by
  intro m
  induction m with
  | zero =>
    intro k hk hb
    obtain rfl : k = x := by omega
    exact br_t (nI_le (Nat.le_refl _) (by omega)) (F _ hb (by omega))
  | succ m ih =>
    intro k hk hb
    have hle := Nat.mul_le_mul_left e (hf_10le (show k ≤ x by omega))
    refine br_f (nI_ge (by omega) (by omega)) (hf_bLE 100000 (e * 10 ^ k) (fun z => F _ hb (by omega)) (fun z => ?_))
    have e1 : e * 10 ^ (k + 1) = 10 * (e * 10 ^ k) := by rw [Nat.pow_succ]; grind
    refine nm_r (e' := lN (e * 10 ^ (k + 1))) ?_ (nm_r (nI_1 k) (ih (k + 1) (by omega) (by omega)))
    rw [e1]
    exact lN_mul 10 _
theorem hf_pdP {e x : Nat} (he : e ≤ 1000000) (hx : x ≤ 12) : ∃ r, hf_NR (e * 10 ^ x * 2 ^ 24) 1 r ∧ ∀ post : Int32 → Prop, post (nI r) → wpY_parsed post (lN e) (nI x) := by
  by_cases hs : e * 10 ^ x < 100000
  · obtain ⟨r, hr, wY⟩ := hf_nY (u := e * 10 ^ x * 2 ^ 24) (l := 1) (by omega) (by omega) (by omega)
    refine ⟨r, hr, fun post h => br_t (nI_pos' (by omega)) ⟨x + 1, ?_⟩⟩
    have := hf_pd24 (e := e) (x := x) (post := post) hx (fun w hw q => by
      obtain rfl : w = e * 10 ^ x := by omega
      refine hf_bLE 100000 (e * 10 ^ x) (fun z => absurd z (by omega)) (fun z => ?_)
      rw [show lN (e * 10 ^ x) <<< ((24 : Int32).toInt64 &&& 63) = lN (e * 10 ^ x * 2 ^ 24) from wb_shl _ (k := 24) (by omega)]
      exact wY _ h) x 0 (by omega) (by omega)
    rw [Nat.pow_zero, Nat.mul_one] at this
    exact this
  · obtain ⟨r, hr, wY⟩ := hf_nY (u := 1099511627776) (l := 1) (by omega) (by omega) (by omega)
    obtain rfl := hf_NR_u (by omega) hr (hf_NR_t (by omega) (by rw [hf_top]; omega))
    refine ⟨31744, hf_NR_t (by omega) (by rw [hf_top]; omega), fun post h => br_t (nI_pos' (by omega)) ⟨x + 1, ?_⟩⟩
    have := hf_pd24 (e := e) (x := x) (post := post) hx (fun w hw q => by
      refine hf_bLE 100000 w (fun z => wY _ h) (fun z => ?_)
      omega) x 0 (by omega) (by omega)
    rw [Nat.pow_zero, Nat.mul_one] at this
    exact this
theorem hf_i12 {b : Int32} (h1 : ¬ b < (-12)) (h2 : ¬ 0 ≤ b) : ∃ x, 0 < x ∧ x ≤ 12 ∧ b = -nI x := by
  rw [Int32.lt_iff_toInt_lt, show (-12 : Int32).toInt = -12 from by decide] at h1
  rw [Int32.le_iff_toInt_le, show (0 : Int32).toInt = 0 from by decide] at h2
  refine ⟨b.toInt.natAbs, by omega, by omega, ?_⟩
  show b = -Int32.ofNat _
  rw [Int32.neg_ofNat, show (-(b.toInt.natAbs : Int)) = b.toInt by omega, Int32.ofInt_toInt]
theorem hf_parse (u : SX) (v : SY) (a b : Int32) : ∃ r, (∀ post : Int32 → Prop, post r → wpX_parse post u a b) ∧ (∀ post : Int32 → Prop, post r → wpY_parse post v a b) := by
  obtain ⟨f1, f2, f3, f4, f5, f6, f7, f8, f9⟩ := u
  obtain ⟨g1, g2⟩ := v
  by_cases h1 : a < 0
  · exact ⟨-1, fun post h => br_t h1 h, fun post h => br_t h1 h⟩
  by_cases h2 : 999999 < a
  · exact ⟨-1, fun post h => br_f h1 (br_t h2 h), fun post h => br_f h1 (br_t h2 h)⟩
  by_cases h3 : b < (-12)
  · exact ⟨-1, fun post h => br_f h1 (br_f h2 (br_t h3 h)), fun post h => br_f h1 (br_f h2 (br_t h3 h))⟩
  by_cases h4 : b ≤ 12
  · obtain ⟨d, hd, rfl⟩ := nI_of2 (x := a) (M := 999999) (n := 999999) (by decide) h1 (Int32.not_lt.mp h2)
    by_cases h5 : 0 ≤ b
    · obtain ⟨x, hx, rfl⟩ := nI_of2 (x := b) (M := 12) (n := 12) (by decide) (Int32.not_lt.mpr h5) h4
      obtain ⟨r, hr, wY⟩ := hf_pdP (e := d) (x := x) (by omega) hx
      have hp := Nat.mul_le_mul hd (hf_10le hx)
      have e1 : (nI d).toInt64 * lN (10 ^ x) = lN (d * 10 ^ x) := by rw [nI_l (by omega), lN_mul]
      refine ⟨nI r, fun post h => br_f h1 (br_f h2 (br_f h3 (br_t h4 (br_t h5 (hf_pX hx (nm_r e1 ?_)))))), fun post h => br_f h1 (br_f h2 (br_f h3 (br_t h4 ?_)))⟩
      · refine hf_bLT (d * 10 ^ x) 65520 (fun z => ?_) (fun z => ?_)
        · obtain ⟨r', hr', wX⟩ := hf_rX' (U := d * 10 ^ x * 2 ^ 28) (b := 0) (u := d * 10 ^ x * 2 ^ 24) (l := 1) (by omega) (by omega) (by omega) (by omega) (by omega)
          obtain rfl := hf_NR_u (by omega) hr hr'
          rw [show lN (d * 10 ^ x) <<< ((28 : Int32).toInt64 &&& 63) = lN (d * 10 ^ x * 2 ^ 28) from wb_shl _ (k := 28) (by omega)]
          exact wX _ h
        · have : r = 31744 := by
            refine hf_NR_u (by omega) hr ⟨Nat.le_refl _, fun q hq => ?_, fun q => absurd q (Nat.lt_irrefl _)⟩
            obtain rfl : q = 31743 := by omega
            have e : hf_md 31743 = 2198486384640 := by decide +kernel
            rw [e]
            omega
          subst this
          exact h
      · rw [nI_l (by omega)]
        exact wY _ h
    · obtain ⟨x, hx0, hx, rfl⟩ := hf_i12 h3 h5
      obtain ⟨r, hr, wY⟩ := hf_pdN (e := d) (x := x) (by omega) hx0 hx
      have hp := hf_10le hx
      have hp0 := hf_10pos x
      have e5 : (nI d).toInt64 <<< ((28 : Int32).toInt64 &&& 63) = lN (d * 2 ^ 28) := by
        rw [nI_l (by omega)]
        exact wb_shl _ (k := 28) (by omega)
      have n0 : ¬ lN (10 ^ x) = 0 := by
        show ¬ lN _ = lN 0
        rw [pk_lEQ (by omega) (by omega)]
        omega
      refine ⟨nI r, fun post h => br_f h1 (br_f h2 (br_f h3 (br_t h4 (br_f h5 ?_)))), fun post h => br_f h1 (br_f h2 (br_f h3 (br_t h4 ?_)))⟩
      · rw [Int32.neg_neg]
        refine hf_pX hx (nm_r e5 ⟨n0, n0, ?_⟩)
        rw [pk_lRem (by omega) hp0 (by omega), pk_lDiv (by omega) hp0 (by omega)]
        have hdl : d * 2 ^ 28 / 10 ^ x ≤ d * 2 ^ 28 := Nat.div_le_self _ _
        have hml : d * 2 ^ 28 % 10 ^ x < 10 ^ x := Nat.mod_lt _ hp0
        have e16 : 16 * (d * 2 ^ 24) = d * 2 ^ 28 := by omega
        refine hf_bEQ (d * 2 ^ 28 % 10 ^ x) 0 (fun z => ?_) (fun z => ?_)
        · obtain ⟨r', hr', wX⟩ := hf_rX' (U := d * 2 ^ 28 / 10 ^ x) (b := 0) (u := d * 2 ^ 24) (l := 10 ^ x) (by omega) (by omega) hp0 (by rw [e16]) (by rw [e16, z])
          obtain rfl := hf_NR_u hp0 hr hr'
          exact wX _ h
        · obtain ⟨r', hr', wX⟩ := hf_rX' (U := d * 2 ^ 28 / 10 ^ x) (b := 1) (u := d * 2 ^ 24) (l := 10 ^ x) (by omega) (by omega) hp0 (by rw [e16]) (by rw [e16]; constructor <;> intro q <;> omega)
          obtain rfl := hf_NR_u hp0 hr hr'
          exact wX _ h
      · rw [nI_l (by omega)]
        exact wY _ h
  · exact ⟨-1, fun post h => br_f h1 (br_f h2 (br_f h3 (br_f h4 h))), fun post h => br_f h1 (br_f h2 (br_f h3 (br_f h4 h)))⟩
end
section
/-! the shortest writing: the pure law. Index i stands for the exponent 4 - i -/
def hf_W (d i : Nat) : Nat := d * 10 ^ (16 - i) * 2 ^ 24
def hf_f (p i : Nat) : Nat := hf_am p * 10 ^ 12 / (10 ^ (16 - i) * 2 ^ 24)
def hf_C (p d i : Nat) : Prop := i ≤ 16 ∧ (d = hf_f p i ∨ d = hf_f p i + 1) ∧ 1 ≤ d ∧ hf_f p i < 999999 ∧ d % 10 ≠ 0 ∧ hf_NR (hf_W d i) (10 ^ 12) p
def hf_G (p d i : Nat) : Nat := (hf_W d i - hf_am p * 10 ^ 12) + (hf_am p * 10 ^ 12 - hf_W d i)
def hf_ln (d : Nat) : Nat := if d < 10 then 1 else if d < 100 then 2 else if d < 1000 then 3 else if d < 10000 then 4 else if d < 100000 then 5 else 6
/-- (e, j) is nearer than (d, i), or as near and less -/
def hf_B (p e j d i : Nat) : Prop := hf_G p e j < hf_G p d i ∨ (hf_G p e j = hf_G p d i ∧ hf_W e j < hf_W d i)
def hf_Bst (p d i : Nat) : Prop := hf_C p d i ∧ ∀ e j, hf_C p e j → hf_ln d ≤ hf_ln e ∧ (hf_ln e = hf_ln d → ¬ hf_B p e j d i)
theorem hf_W_inj0 {d i e j : Nat} (h : hf_W d i = hf_W e j) (hij : i ≤ j) (hj : j ≤ 16) (he : e % 10 ≠ 0) : d = e ∧ i = j := by
  unfold hf_W at h
  have h2 := Nat.eq_of_mul_eq_mul_right (Nat.two_pow_pos 24) h
  rw [show 16 - i = (j - i) + (16 - j) by omega, Nat.pow_add, ← Nat.mul_assoc] at h2
  have h3 := Nat.eq_of_mul_eq_mul_right (hf_10pos (16 - j)) h2
  by_cases z : i = j
  · subst z
    rw [Nat.sub_self, Nat.pow_zero, Nat.mul_one] at h3
    exact ⟨h3, rfl⟩
  · exfalso
    apply he
    rw [← h3, show j - i = (j - i - 1) + 1 by omega, Nat.pow_succ, ← Nat.mul_assoc]
    exact Nat.mul_mod_left _ _
theorem hf_Bst_u {p d i e j : Nat} (h : hf_Bst p d i) (g : hf_Bst p e j) : d = e ∧ i = j := by
  obtain ⟨h1, h2⟩ := h
  obtain ⟨g1, g2⟩ := g
  have a := h2 e j g1
  have b := g2 d i h1
  have a2 := a.2 (by omega)
  have b2 := b.2 (by omega)
  unfold hf_B at a2 b2
  have eW : hf_W d i = hf_W e j := by omega
  by_cases z : i ≤ j
  · exact hf_W_inj0 eW z g1.1 g1.2.2.2.2.1
  · have := hf_W_inj0 eW.symm (by omega) h1.1 h1.2.2.2.2.1
    exact ⟨this.1.symm, this.2.symm⟩
/-! powers -/
theorem hf_P1 {i : Nat} (h : i ≤ 16) : 10 ^ (i - 4) * 10 ^ (12 - (i - 4)) = 10 ^ 12 := by rw [← Nat.pow_add]; congr 1; omega
theorem hf_P2 {i : Nat} (h : i ≤ 16) : 10 ^ (4 - i) * 10 ^ (12 - (i - 4)) = 10 ^ (16 - i) := by rw [← Nat.pow_add]; congr 1; omega
theorem hf_P3 {i j : Nat} (h : j ≤ i) : 10 ^ (j - 4) * 10 ^ ((i - 4) - (j - 4)) = 10 ^ (i - 4) := by rw [← Nat.pow_add]; congr 1; omega
theorem hf_P4 {i j : Nat} (h : j ≤ i) (hi : i ≤ 16) : 10 ^ ((i - 4) - (j - 4)) * 10 ^ (12 - (i - 4)) = 10 ^ (12 - (j - 4)) := by rw [← Nat.pow_add]; congr 1; omega
theorem hf_P5 {i j : Nat} (h : j ≤ i) (hi : i ≤ 16) : 10 ^ (i - j) * 10 ^ (16 - i) = 10 ^ (16 - j) := by rw [← Nat.pow_add]; congr 1; omega
theorem hf_P6 {i j : Nat} (h : j ≤ i) : 10 ^ (4 - j) * 10 ^ ((i - 4) - (j - 4)) = 10 ^ (i - j) * 10 ^ (4 - i) := by rw [← Nat.pow_add, ← Nat.pow_add]; congr 1; omega
/-! unscaled forms -/
def hf_g (p d i : Nat) : Nat := (d * 10 ^ (4 - i) * 2 ^ 24 - hf_am p * 10 ^ (i - 4)) + (hf_am p * 10 ^ (i - 4) - d * 10 ^ (4 - i) * 2 ^ 24)
theorem hf_Wu {d i : Nat} (hi : i ≤ 16) : hf_W d i = d * 10 ^ (4 - i) * 2 ^ 24 * 10 ^ (12 - (i - 4)) := by
  unfold hf_W
  rw [← hf_P2 hi]
  generalize 10 ^ (12 - (i - 4)) = s
  generalize 10 ^ (4 - i) = u
  grind
theorem hf_Eu {p i : Nat} (hi : i ≤ 16) : hf_am p * 10 ^ 12 = hf_am p * 10 ^ (i - 4) * 10 ^ (12 - (i - 4)) := by
  rw [Nat.mul_assoc, hf_P1 hi]
theorem hf_gG {p d i : Nat} (hi : i ≤ 16) : hf_g p d i * 10 ^ (12 - (i - 4)) = hf_G p d i := by
  unfold hf_g hf_G
  rw [hf_Wu hi, hf_Eu hi, Nat.add_mul, Nat.sub_mul, Nat.sub_mul]
theorem hf_fu {p i : Nat} (hi : i ≤ 16) : hf_f p i = hf_am p * 10 ^ (i - 4) / (10 ^ (4 - i) * 2 ^ 24) := by
  unfold hf_f
  rw [hf_Eu hi, ← hf_P2 hi, show 10 ^ (4 - i) * 10 ^ (12 - (i - 4)) * 2 ^ 24 = 10 ^ (4 - i) * 2 ^ 24 * 10 ^ (12 - (i - 4)) by rw [Nat.mul_right_comm], Nat.mul_div_mul_right _ _ (hf_10pos _)]
theorem hf_NRu {p d i : Nat} (hi : i ≤ 16) : hf_NR (hf_W d i) (10 ^ 12) p ↔ hf_NR (d * 10 ^ (4 - i) * 2 ^ 24) (10 ^ (i - 4)) p := by
  rw [hf_Wu hi, ← hf_P1 hi]
  exact hf_NR_m (hf_10pos _)
/-- inside, as X asks it -/
theorem hf_in {p d i : Nat} (hi : i ≤ 16) (h1 : 1 ≤ p) (h2 : p ≤ 31743) : hf_NR (hf_W d i) (10 ^ 12) p ↔
    ((2 * hf_md (p - 1) * 10 ^ (i - 4) < d * 10 ^ (4 - i) * 2 ^ 26 ∨ (2 * hf_md (p - 1) * 10 ^ (i - 4) = d * 10 ^ (4 - i) * 2 ^ 26 ∧ p % 2 = 0)) ∧
     (d * 10 ^ (4 - i) * 2 ^ 26 < 2 * hf_md p * 10 ^ (i - 4) ∨ (d * 10 ^ (4 - i) * 2 ^ 26 = 2 * hf_md p * 10 ^ (i - 4) ∧ p % 2 = 0))) := by
  rw [hf_NRu hi]
  unfold hf_NR
  rw [Nat.mul_assoc 2, Nat.mul_assoc 2]
  generalize d * 10 ^ (4 - i) = A
  generalize 10 ^ (i - 4) = l
  constructor
  · rintro ⟨_, a, b⟩
    have a2 := a (p - 1) (by omega)
    have b2 := b (by omega)
    generalize hf_md (p - 1) * l = x at *
    generalize hf_md p * l = y at *
    omega
  · rintro ⟨a, b⟩
    refine ⟨by omega, fun q hq => ?_, fun _ => ?_⟩
    · obtain rfl : q = p - 1 := by omega
      generalize hf_md (p - 1) * l = x at *
      omega
    · generalize hf_md p * l = y at *
      omega
theorem hf_am1 {p : Nat} (h1 : 1 ≤ p) (h2 : p ≤ 31743) : 2 ^ hf_pl p ≤ hf_am p := by
  have hd : 1 ≤ hf_dg p := by unfold hf_dg; split <;> omega
  have := Nat.mul_le_mul_right (2 ^ hf_pl p) hd
  unfold hf_am
  omega
theorem hf_am_pred {p : Nat} (h1 : 1 ≤ p) (h2 : p ≤ 31743) : hf_md (p - 1) = 2 * hf_am p - 2 ^ hf_pl (p - 1) ∧ 2 ^ hf_pl (p - 1) ≤ hf_am p ∧ hf_am p ≤ 2048 * 2 ^ hf_pl (p - 1) := by
  have e := hf_am_s (p := p - 1) (by omega)
  rw [show p - 1 + 1 = p by omega] at e
  have e2 := hf_md_eq (p := p - 1) (by omega)
  have hd := hf_dg_lt (p - 1)
  have e3 : hf_am (p - 1) ≤ 2047 * 2 ^ hf_pl (p - 1) := by
    unfold hf_am
    exact Nat.mul_le_mul_right _ (by omega)
  generalize 2 ^ hf_pl (p - 1) = Z at *
  omega
/-- what lies inside is at most twice the amount, and the amount at most twice it -/
theorem hf_in2 {p d i : Nat} (h1 : 1 ≤ p) (h2 : p ≤ 31743) (h : hf_NR (hf_W d i) (10 ^ 12) p) : hf_W d i ≤ 2 * (hf_am p * 10 ^ 12) ∧ hf_am p * 10 ^ 12 ≤ 2 * hf_W d i := by
  obtain ⟨_, a, b⟩ := h
  have a2 := a (p - 1) (by omega)
  have b2 := b (by omega)
  obtain ⟨c1, c2, c3⟩ := hf_am_pred h1 h2
  have d1 := hf_am1 h1 h2
  have d2 := hf_md_eq (p := p) (by omega)
  rw [c1] at a2
  rw [d2] at b2
  generalize 2 ^ hf_pl (p - 1) = Z at *
  generalize 2 ^ hf_pl p = Y at *
  omega
/-- all nines, clipped from a greater number: a single digit is nearer -/
theorem hf_dom {p k i : Nat} (h1 : 1 ≤ p) (h2 : p ≤ 31743) (hk : 1 ≤ k) (hi : i ≤ 16) (hf : 10 ^ k ≤ hf_f p i) (h : hf_NR (hf_W (10 ^ k - 1) i) (10 ^ 12) p) :
    k ≤ i ∧ hf_C p 1 (i - k) ∧ hf_G p 1 (i - k) < hf_G p (10 ^ k - 1) i := by
  have hv := hf_am_b (p := p) (by omega)
  have hp0 := Nat.two_pow_pos 24
  have hu : 0 < 10 ^ (16 - i) * 2 ^ 24 := Nat.mul_pos (hf_10pos _) hp0
  have q1 : 10 ^ k * (10 ^ (16 - i) * 2 ^ 24) ≤ hf_am p * 10 ^ 12 := (Nat.le_div_iff_mul_le hu).mp hf
  have hki : k ≤ i := by
    apply Nat.le_of_not_lt
    intro z
    have q2 : 10 ^ 17 ≤ 10 ^ k * 10 ^ (16 - i) := by
      rw [← Nat.pow_add]
      exact hf_10le (by omega)
    have q3 := Nat.mul_le_mul_right (2 ^ 24) q2
    rw [Nat.mul_assoc] at q3
    omega
  have eW1 : hf_W 1 (i - k) = 10 ^ k * (10 ^ (16 - i) * 2 ^ 24) := by
    unfold hf_W
    rw [Nat.one_mul, show 16 - (i - k) = k + (16 - i) by omega, Nat.pow_add, Nat.mul_assoc]
  have eWk : hf_W (10 ^ k - 1) i = 10 ^ k * (10 ^ (16 - i) * 2 ^ 24) - 10 ^ (16 - i) * 2 ^ 24 := by
    unfold hf_W
    rw [Nat.mul_assoc, Nat.sub_mul, Nat.one_mul]
  have hk1 := hf_10pos k
  have hk2 : 10 ^ (16 - i) * 2 ^ 24 ≤ 10 ^ k * (10 ^ (16 - i) * 2 ^ 24) := Nat.le_mul_of_pos_left _ hk1
  have hlt : hf_W (10 ^ k - 1) i < hf_W 1 (i - k) := by omega
  have hle : hf_W 1 (i - k) ≤ hf_am p * 10 ^ 12 := by omega
  have hb := (hf_in2 h1 h2 h).2
  obtain ⟨_, n1, n2⟩ := h
  have n3 := n1 (p - 1) (by omega)
  have d1 := hf_md_eq (p := p) (by omega)
  have d2 := Nat.two_pow_pos (hf_pl p)
  have ef : hf_f p (i - k) = 1 := by
    unfold hf_f
    have e1 : 10 ^ (16 - (i - k)) * 2 ^ 24 = hf_W 1 (i - k) := by unfold hf_W; rw [Nat.one_mul]
    rw [e1]
    apply Nat.div_eq_of_lt_le
    · omega
    · omega
  refine ⟨hki, ⟨by omega, Or.inl ef.symm, by omega, by omega, by omega, by omega, fun q hq => ?_, fun _ => Or.inl ?_⟩, ?_⟩
  · obtain rfl : q = p - 1 := by omega
    omega
  · rw [d1]
    generalize 2 ^ hf_pl p = Z at *
    omega
  · unfold hf_G
    omega
theorem hf_exl0 {V F D w X : Nat} (q1 : F ≤ V) (q2 : V < F + D) (q3 : 10000 * D ≤ F) (e : w = F ∨ w = F + D) (c3 : V ≤ 2048 * X) : 2 * V - X < 2 * w ∧ 2 * w < 2 * V + X := by omega
theorem hf_exl1 {v F D w Z E : Nat} (q1 : F ≤ v * E) (q2 : v * E < F + D) (q3 : 10000 * D ≤ F) (e : w = F ∨ w = F + D) (c3 : v ≤ 2048 * Z) : (2 * v - Z) * E < 2 * w ∧ 2 * w < (2 * v + Z) * E := by
  have c := Nat.mul_le_mul_right E c3
  rw [Nat.mul_assoc] at c
  rw [Nat.sub_mul, Nat.add_mul, Nat.mul_assoc]
  exact hf_exl0 q1 q2 q3 e c
/-- every number has a writing of at most five digits -/
theorem hf_ex {p : Nat} (h1 : 1 ≤ p) (h2 : p ≤ 31743) : ∃ d i, hf_C p d i ∧ hf_ln d ≤ 5 := by
  have hv := hf_am_b (p := p) (by omega)
  have hv1 : 1 ≤ hf_am p := by
    have := hf_am1 h1 h2
    have := Nat.two_pow_pos (hf_pl p)
    omega
  have step : ∀ i, i < 16 → hf_f p i = hf_f p (i + 1) / 10 := by
    intro i hi
    unfold hf_f
    rw [Nat.div_div_eq_div_mul, Nat.mul_right_comm, ← Nat.pow_succ, show (16 - (i + 1)).succ = 16 - i by omega]
  have f16 : 10000 ≤ hf_f p 16 := by
    unfold hf_f
    rw [Nat.le_div_iff_mul_le (by decide)]
    omega
  have f4 : hf_f p 4 < 100000 := by
    unfold hf_f
    rw [Nat.div_lt_iff_lt_mul (by decide)]
    omega
  have find : ∀ m i, i + m = 16 → hf_f p i < 100000 → ∃ i, i ≤ 16 ∧ 10000 ≤ hf_f p i ∧ hf_f p i < 100000 := by
    intro m
    induction m with
    | zero =>
      intro i hi hf
      obtain rfl : i = 16 := by omega
      exact ⟨16, by omega, f16, hf⟩
    | succ m ih =>
      intro i hi hf
      by_cases z : hf_f p (i + 1) < 100000
      · exact ih (i + 1) (by omega) z
      · have := step i (by omega)
        exact ⟨i, by omega, by omega, hf⟩
  obtain ⟨i, hi, a, b⟩ := find 12 4 (by omega) f4
  have hu : 0 < 10 ^ (16 - i) * 2 ^ 24 := Nat.mul_pos (hf_10pos _) (by decide)
  have q1 : hf_f p i * (10 ^ (16 - i) * 2 ^ 24) ≤ hf_am p * 10 ^ 12 := Nat.div_mul_le_self _ _
  have q2 : hf_am p * 10 ^ 12 < (hf_f p i + 1) * (10 ^ (16 - i) * 2 ^ 24) := (Nat.div_lt_iff_lt_mul hu).mp (Nat.lt_succ_self _)
  have q3 := Nat.mul_le_mul_right (10 ^ (16 - i) * 2 ^ 24) a
  obtain ⟨c1, c2, c3⟩ := hf_am_pred h1 h2
  have d1 := hf_md_eq (p := p) (by omega)
  have d2 : hf_am p ≤ 2047 * 2 ^ hf_pl p := by
    have := hf_dg_lt p
    unfold hf_am
    exact Nat.mul_le_mul_right _ (by omega)
  have key : ∀ d, d = hf_f p i ∨ d = hf_f p i + 1 → hf_NR (hf_W d i) (10 ^ 12) p := by
    intro d hd
    have e : hf_W d i = d * (10 ^ (16 - i) * 2 ^ 24) := by unfold hf_W; rw [Nat.mul_assoc]
    have e1 : (hf_f p i + 1) * (10 ^ (16 - i) * 2 ^ 24) = hf_f p i * (10 ^ (16 - i) * 2 ^ 24) + 10 ^ (16 - i) * 2 ^ 24 := by rw [Nat.succ_mul]
    rw [e1] at q2
    have e2 : hf_W d i = hf_f p i * (10 ^ (16 - i) * 2 ^ 24) ∨ hf_W d i = hf_f p i * (10 ^ (16 - i) * 2 ^ 24) + 10 ^ (16 - i) * 2 ^ 24 := by
      rcases hd with z | z
      · left; rw [e, z]
      · right; rw [e, z, e1]
    generalize hf_f p i * (10 ^ (16 - i) * 2 ^ 24) = F at *
    refine ⟨by omega, fun q hq => Or.inl ?_, fun _ => Or.inl ?_⟩
    · obtain rfl : q = p - 1 := by omega
      rw [c1]
      exact (hf_exl1 q1 q2 q3 e2 c3).1
    · rw [d1]
      exact (hf_exl1 q1 q2 q3 e2 (by omega)).2
  by_cases z : hf_f p i % 10 = 0
  · refine ⟨hf_f p i + 1, i, ⟨hi, Or.inr rfl, by omega, by omega, by omega, key _ (Or.inr rfl)⟩, ?_⟩
    unfold hf_ln
    rw [if_neg (by omega), if_neg (by omega), if_neg (by omega), if_neg (by omega), if_pos (by omega)]
    omega
  · refine ⟨hf_f p i, i, ⟨hi, Or.inl rfl, by omega, by omega, z, key _ (Or.inl rfl)⟩, ?_⟩
    unfold hf_ln
    rw [if_neg (by omega), if_neg (by omega), if_neg (by omega), if_neg (by omega), if_pos (by omega)]
    omega
theorem hf_lnP {d : Nat} (h0 : 1 ≤ d) (h : d < 1000000) : 1 ≤ hf_ln d ∧ hf_ln d ≤ 6 ∧ d < 10 ^ hf_ln d ∧ 10 ^ (hf_ln d - 1) ≤ d := by
  unfold hf_ln
  by_cases a : d < 10
  · rw [if_pos a]; omega
  rw [if_neg a]
  by_cases b : d < 100
  · rw [if_pos b]; omega
  rw [if_neg b]
  by_cases c : d < 1000
  · rw [if_pos c]; omega
  rw [if_neg c]
  by_cases e : d < 10000
  · rw [if_pos e]; omega
  rw [if_neg e]
  by_cases f : d < 100000
  · rw [if_pos f]; omega
  rw [if_neg f]
  omega
theorem hf_ln_eq {d k : Nat} (hk : 1 ≤ k) (hk6 : k ≤ 6) (h1 : 10 ^ (k - 1) ≤ d) (h2 : d < 10 ^ k) : hf_ln d = k := by
  have h3 := hf_10le hk6
  have h4 := hf_10pos (k - 1)
  obtain ⟨a, b, c, e⟩ := hf_lnP (d := d) (by omega) (by omega)
  by_cases z : hf_ln d < k
  · have := hf_10le (show hf_ln d ≤ k - 1 by omega)
    omega
  · by_cases y : k < hf_ln d
    · have := hf_10le (show k ≤ hf_ln d - 1 by omega)
      omega
    · omega
end
section
/-! exponents as Int32, and 'nearer' on both sides -/
def hf_x (i : Nat) : Int32 := nI 4 - nI i
theorem hf_xs (i : Nat) : hf_x i + (-1) = hf_x (i + 1) := by
  unfold hf_x
  rw [← nI_1 i]
  grind
theorem hf_x12 : ∀ i, i < 18 → (hf_x i < (-12) ↔ 17 ≤ i) := by decide +kernel
theorem hf_xle0 : ∀ i, i < 17 → (hf_x i ≤ 0 ↔ 4 ≤ i) := by decide +kernel
theorem hf_xge0 : ∀ i, i < 17 → (0 ≤ hf_x i ↔ i ≤ 4) := by decide +kernel
theorem hf_xlt0 : ∀ i, i < 17 → (hf_x i < 0 ↔ 4 < i) := by decide +kernel
theorem hf_xp : ∀ i, i < 17 → i ≤ 4 → hf_x i = nI (4 - i) := by decide +kernel
theorem hf_xn : ∀ i, i < 17 → 4 ≤ i → -hf_x i = nI (i - 4) := by decide +kernel
theorem hf_xn' : ∀ i, i < 17 → 4 ≤ i → hf_x i = -nI (i - 4) := by decide +kernel
theorem hf_xlt : ∀ i, i < 17 → ∀ j, j < 17 → (hf_x i < hf_x j ↔ j < i) := by decide +kernel
theorem hf_xle : ∀ i, i < 17 → ∀ j, j < 17 → (hf_x i ≤ hf_x j ↔ j ≤ i) := by decide +kernel
theorem hf_xsub {i j : Nat} (h : j ≤ i) : hf_x j - hf_x i = nI (i - j) := by
  rw [← pk_sub h]
  unfold hf_x
  grind
/-- x + less, y + less of Y's nearer -/
theorem hf_xl : ∀ i, i < 17 → ∀ j, j < 17 → j ≤ i → hf_x j + nI (i - 4) = nI (4 + (i - 4) - j) := by decide +kernel
theorem hf_cmp {p d i e j : Nat} (h : j ≤ i) (hi : i ≤ 16) :
    (hf_g p d i < hf_g p e j * 10 ^ ((i - 4) - (j - 4)) ↔ hf_G p d i < hf_G p e j) ∧ (hf_g p d i = hf_g p e j * 10 ^ ((i - 4) - (j - 4)) ↔ hf_G p d i = hf_G p e j) ∧ (d < e * 10 ^ (i - j) ↔ hf_W d i < hf_W e j) := by
  rw [← hf_gG hi, ← hf_gG (show j ≤ 16 by omega), ← hf_P4 h hi, ← Nat.mul_assoc, hf_sc1 (hf_10pos _), hf_sc2 (hf_10pos _)]
  refine ⟨Iff.rfl, Iff.rfl, ?_⟩
  unfold hf_W
  rw [hf_sc1 (Nat.two_pow_pos 24), ← hf_P5 h hi, ← Nat.mul_assoc, hf_sc1 (hf_10pos _)]
theorem hf_bd {p i e j : Nat} (h1 : 1 ≤ p) (h2 : p ≤ 31743) (h : j ≤ i) (hi : i ≤ 16) (hin : hf_NR (hf_W e j) (10 ^ 12) p) (Gd : hf_am p * 10 ^ (i - 4) ≤ 16777216000000) :
    e * 10 ^ (4 - j) * 10 ^ ((i - 4) - (j - 4)) * 2 ^ 24 ≤ 2 * (hf_am p * 10 ^ (i - 4)) ∧ e * 10 ^ (i - j) ≤ 2000000 ∧ hf_g p e j * 10 ^ ((i - 4) - (j - 4)) ≤ 2 * (hf_am p * 10 ^ (i - 4)) := by
  have a := (hf_in2 h1 h2 hin).1
  rw [hf_Wu (show j ≤ 16 by omega), hf_Eu hi, ← hf_P4 h hi, ← Nat.mul_assoc, ← Nat.mul_assoc, Nat.mul_le_mul_right_iff (hf_10pos _)] at a
  have e1 : e * 10 ^ (4 - j) * 2 ^ 24 * 10 ^ ((i - 4) - (j - 4)) = e * 10 ^ (4 - j) * 10 ^ ((i - 4) - (j - 4)) * 2 ^ 24 := Nat.mul_right_comm _ _ _
  have e2 : e * 10 ^ (4 - j) * 10 ^ ((i - 4) - (j - 4)) = e * 10 ^ (i - j) * 10 ^ (4 - i) := by rw [Nat.mul_assoc, hf_P6 h, Nat.mul_assoc]
  have e3 : e * 10 ^ (i - j) ≤ e * 10 ^ (i - j) * 10 ^ (4 - i) := Nat.le_mul_of_pos_right _ (hf_10pos _)
  have e4 : hf_g p e j * 10 ^ ((i - 4) - (j - 4)) = (e * 10 ^ (4 - j) * 2 ^ 24 * 10 ^ ((i - 4) - (j - 4)) - hf_am p * 10 ^ (i - 4)) + (hf_am p * 10 ^ (i - 4) - e * 10 ^ (4 - j) * 2 ^ 24 * 10 ^ ((i - 4) - (j - 4))) := by
    unfold hf_g
    rw [Nat.add_mul, Nat.sub_mul, Nat.sub_mul, Nat.mul_assoc (hf_am p), hf_P3 h]
  rw [e4, e1]
  rw [e1] at a
  rw [e2] at a ⊢
  generalize e * 10 ^ (i - j) * 10 ^ (4 - i) = X at *
  generalize e * 10 ^ (i - j) = Y at *
  generalize hf_am p * 10 ^ (i - 4) = Z at *
  clear e1 e2 e4 hin
  omega
theorem hf_gb {p d i : Nat} (hd : d ≤ 1000000) (Gd : hf_am p * 10 ^ (i - 4) ≤ 16777216000000) : hf_g p d i ≤ 200000000000000000 ∧ d * 10 ^ (4 - i) * 2 ^ 24 ≤ 167772160000000000 := by
  have a : 10 ^ (4 - i) ≤ 10 ^ 4 := hf_10le (by omega)
  have b := Nat.mul_le_mul hd a
  have c : d * 10 ^ (4 - i) * 2 ^ 24 ≤ 167772160000000000 := by omega
  refine ⟨?_, c⟩
  unfold hf_g
  generalize hf_am p * 10 ^ (i - 4) = Z at *
  generalize d * 10 ^ (4 - i) * 2 ^ 24 = X at *
  omega
section
variable {p d i e j : Nat} {O L H : Int64} {cl sm : Int32} {post : Int32 → Prop}
theorem hf_lsX (h : j ≤ i) (hi : i ≤ 16) (hd : d ≤ 1000000) (he : e ≤ 1000000) (hb : e * 10 ^ (i - j) ≤ 2000000) (he1 : 1 ≤ e) (h0 : ¬ hf_W d i < hf_W e j → post 0) (h1 : hf_W d i < hf_W e j → post 1) : wpX_isLess post (lN d) (hf_x i) (lN e) (hf_x j) := by
  have hc := (hf_cmp (p := 0) (d := d) (e := e) h hi).2.2
  have h12 : i - j ≤ 12 := by
    apply Nat.le_of_not_lt
    intro z
    have z2 := hf_10le (show 13 ≤ i - j by omega)
    have z3 := Nat.mul_le_mul he1 z2
    omega
  by_cases z : j < i
  · refine br_t ((hf_xlt i (by omega) j (by omega)).mpr z) ?_
    rw [hf_xsub h]
    refine hf_pX h12 ?_
    rw [lN_mul]
    refine hf_bLE (e * 10 ^ (i - j)) d (fun y => h0 (fun q => ?_)) (fun y => h1 (hc.mp y))
    have := hc.mpr q
    omega
  · obtain rfl : i = j := by omega
    refine br_f (fun q => z ((hf_xlt i (by omega) i (by omega)).mp q)) ?_
    rw [hf_xsub h]
    refine hf_pX (by omega) ?_
    rw [lN_mul]
    rw [Nat.sub_self, Nat.pow_zero, Nat.mul_one] at *
    refine hf_bLE e d (fun y => h0 (fun q => ?_)) (fun y => h1 (hc.mp y))
    have := hc.mpr q
    omega
theorem hf_nX (p1 : 1 ≤ p) (p2 : p ≤ 31743) (h : j ≤ i) (hi : i ≤ 16) (hd : d ≤ 1000000) (he : e ≤ 1000000) (he1 : 1 ≤ e) (hin : hf_NR (hf_W e j) (10 ^ 12) p) (Gd : hf_am p * 10 ^ (i - 4) ≤ 16777216000000)
    (h0 : ¬ hf_B p d i e j → post 0) (h1 : hf_B p d i e j → post 1) :
    wpX_nearer post (O, L, H, cl, sm, nI e, hf_x j, lN (4 * hf_g p e j), lN (10 ^ (j - 4))) (lN (4 * hf_g p d i)) (lN (10 ^ (i - 4))) (lN d) (hf_x i) := by
  obtain ⟨b1, b2, b3⟩ := hf_bd p1 p2 h hi hin Gd
  obtain ⟨g1, _⟩ := hf_gb (p := p) hd Gd
  obtain ⟨c1, c2, c3⟩ := hf_cmp (p := p) (d := d) (e := e) h hi
  have hP := hf_P3 h
  have t1 : 10 ^ (j - 4) ≤ 10 ^ (i - 4) := hf_10le (by omega)
  have t2 : 10 ^ (i - 4) ≤ 10 ^ 12 := hf_10le (by omega)
  have t3 := hf_10pos (j - 4)
  have t4 := hf_10pos ((i - 4) - (j - 4))
  have K50 : wX_nearer_50 post (lN d) (hf_x i) (lN (4 * hf_g p d i)) (lN (4 * (hf_g p e j * 10 ^ ((i - 4) - (j - 4))))) O L H cl sm (nI e) (hf_x j) (lN (4 * hf_g p e j)) (lN (10 ^ (j - 4))) := by
    refine hf_bEQ (4 * hf_g p d i) (4 * (hf_g p e j * 10 ^ ((i - 4) - (j - 4)))) (fun z => ?_) (fun z => ?_)
    · have zG := c2.mp (by omega)
      rw [nI_l (by omega)]
      refine hf_lsX h hi hd he b2 he1 (fun q => ⟨narrow_b0, h0 (fun q2 => ?_)⟩) (fun q => ⟨narrow_b1, h1 (Or.inr ⟨zG, q⟩)⟩)
      unfold hf_B at q2
      omega
    · refine hf_bLE (4 * (hf_g p e j * 10 ^ ((i - 4) - (j - 4)))) (4 * hf_g p d i) (fun y => h0 (fun q => ?_)) (fun y => h1 (Or.inl (c1.mp (by omega))))
      unfold hf_B at q
      rcases q with q | ⟨q, _⟩
      · have := c1.mpr q
        omega
      · have := c2.mpr q
        omega
  unfold wpX_nearer
  dsimp only
  refine br_t ((pk_lLE (by omega) (by omega)).mpr t1) (hf_bLE (10 ^ (i - 4)) (10 ^ (j - 4)) (fun z => ?_) (fun z => ?_))
  · have r1 : 10 ^ ((i - 4) - (j - 4)) = 1 := by
      have : 10 ^ (j - 4) * 10 ^ ((i - 4) - (j - 4)) ≤ 10 ^ (j - 4) * 1 := by omega
      have := Nat.le_of_mul_le_mul_left this t3
      omega
    rw [r1, Nat.mul_one] at K50
    exact K50
  · refine ⟨?_, ?_⟩
    · show ¬ lN _ = lN 0
      rw [pk_lEQ (by omega) (by omega)]
      omega
    · rw [pk_lDiv (by omega) t3 (by omega), ← hP, Nat.mul_div_cancel_left _ t3, lN_mul, Nat.mul_assoc]
      exact K50
end
/-! Y's -/
theorem hf_faY {d e1 e2 v : Nat} {x y : Int32} {post : Int64 → Prop} (hx : x + y = nI e1) (hy : y = nI e2) (h1 : e1 < 1000) (h2 : e2 < 1000) (b1 : d * 10 ^ e1 * 2 ^ 24 < 2 ^ 62) (b2 : v * 10 ^ e2 < 2 ^ 62)
    (h : post (lN ((d * 10 ^ e1 * 2 ^ 24 - v * 10 ^ e2) + (v * 10 ^ e2 - d * 10 ^ e1 * 2 ^ 24)))) : wpY_far post (lN d) x y (lN v) := by
  unfold wpY_far
  rw [hx, hy]
  refine hf_pY h1 (hf_pY h2 ?_)
  rw [lN_mul, lN_mul, show lN (d * 10 ^ e1) <<< ((24 : Int32).toInt64 &&& 63) = lN (d * 10 ^ e1 * 2 ^ 24) from wb_shl _ (k := 24) (by omega)]
  generalize d * 10 ^ e1 * 2 ^ 24 = A at *
  generalize v * 10 ^ e2 = B at *
  rw [← hf_lZ_n, ← hf_lZ_n, hf_lZ_sub]
  refine nm_e ?_
  have c := hf_lZ_ge (z := (A : Int) - (B : Int)) (by omega) (by omega)
  by_cases z : B ≤ A
  · refine br_t (c.mpr (by omega)) ?_
    rw [show (A : Int) - (B : Int) = ((A - B + (B - A) : Nat) : Int) by omega, hf_lZ_n]
    exact h
  · refine br_f (fun q => ?_) ?_
    · have := c.mp q
      omega
    · rw [hf_lZ_neg, show -((A : Int) - (B : Int)) = ((A - B + (B - A) : Nat) : Int) by omega, hf_lZ_n]
      exact h
theorem hf_nY2 {p d i e j : Nat} {post : Int32 → Prop} (p1 : 1 ≤ p) (p2 : p ≤ 31743) (h : j ≤ i) (hi : i ≤ 16) (hd : d ≤ 1000000) (he : e ≤ 1000000) (hin : hf_NR (hf_W e j) (10 ^ 12) p) (Gd : hf_am p * 10 ^ (i - 4) ≤ 16777216000000)
    (h0 : ¬ hf_B p d i e j → post 0) (h1 : hf_B p d i e j → post 1) :
    wpY_nearer post (lN d) (hf_x i) (lN e) (hf_x j) (lN (hf_am p)) := by
  obtain ⟨b1, b2, b3⟩ := hf_bd p1 p2 h hi hin Gd
  obtain ⟨g1, g2⟩ := hf_gb (p := p) hd Gd
  obtain ⟨c1, c2, c3⟩ := hf_cmp (p := p) (d := d) (e := e) h hi
  have eI := hf_xl i (by omega) i (by omega) (Nat.le_refl _)
  have eJ := hf_xl i (by omega) j (by omega) h
  rw [show 4 + (i - 4) - i = 4 - i by omega] at eI
  have ePow : 10 ^ (4 + (i - 4) - j) = 10 ^ (4 - j) * 10 ^ ((i - 4) - (j - 4)) := by rw [← Nat.pow_add]; congr 1; omega
  have K26 : wY_nearer_26 post (lN d) (hf_x i) (lN e) (hf_x j) (lN (hf_am p)) (nI (i - 4)) := by
    have gE : (e * 10 ^ (4 + (i - 4) - j) * 2 ^ 24 - hf_am p * 10 ^ (i - 4)) + (hf_am p * 10 ^ (i - 4) - e * 10 ^ (4 + (i - 4) - j) * 2 ^ 24) = hf_g p e j * 10 ^ ((i - 4) - (j - 4)) := by
      unfold hf_g
      rw [Nat.add_mul, Nat.sub_mul, Nat.sub_mul, Nat.mul_assoc (hf_am p), hf_P3 h, ePow, ← Nat.mul_assoc, Nat.mul_right_comm _ _ (2 ^ 24)]
    have bE : e * 10 ^ (4 + (i - 4) - j) * 2 ^ 24 ≤ 2 * (hf_am p * 10 ^ (i - 4)) := by
      rw [ePow, ← Nat.mul_assoc]
      exact b1
    unfold wY_nearer_26
    refine hf_faY (e1 := 4 - i) (e2 := i - 4) eI rfl (by omega) (by omega) (by omega) (by omega) ?_
    refine hf_faY (e1 := 4 + (i - 4) - j) (e2 := i - 4) eJ rfl (by omega) (by omega) (by omega) (by omega) ?_
    rw [gE, show (d * 10 ^ (4 - i) * 2 ^ 24 - hf_am p * 10 ^ (i - 4)) + (hf_am p * 10 ^ (i - 4) - d * 10 ^ (4 - i) * 2 ^ 24) = hf_g p d i from rfl]
    refine hf_bEQ (hf_g p d i) (hf_g p e j * 10 ^ ((i - 4) - (j - 4))) (fun z => ?_) (fun z => ?_)
    · have zG := c2.mp z
      rw [eI, eJ]
      refine hf_pY (by omega) (hf_pY (by omega) ?_)
      rw [lN_mul, lN_mul]
      have eq1 : e * 10 ^ (4 + (i - 4) - j) = e * 10 ^ (i - j) * 10 ^ (4 - i) := by rw [ePow, hf_P6 h, Nat.mul_assoc]
      have c4 : d * 10 ^ (4 - i) < e * 10 ^ (4 + (i - 4) - j) ↔ hf_W d i < hf_W e j := by rw [eq1, hf_sc1 (hf_10pos _), c3]
      refine hf_bLE (e * 10 ^ (4 + (i - 4) - j)) (d * 10 ^ (4 - i)) (fun y => h0 (fun q => ?_)) (fun y => h1 (Or.inr ⟨zG, c4.mp y⟩))
      unfold hf_B at q
      have q2 : hf_W d i < hf_W e j := by omega
      have := c4.mpr q2
      omega
    · refine hf_bLE (hf_g p e j * 10 ^ ((i - 4) - (j - 4))) (hf_g p d i) (fun y => h0 (fun q => ?_)) (fun y => h1 (Or.inl (c1.mp y)))
      unfold hf_B at q
      rcases q with q | ⟨q, _⟩
      · have := c1.mpr q
        omega
      · have := c2.mpr q
        omega
  have K12 : wY_nearer_12 post (lN d) (hf_x i) (lN e) (hf_x j) (lN (hf_am p)) (hf_x i) := by
    by_cases z : i ≤ 4
    · refine br_t ((hf_xge0 i (by omega)).mpr z) ?_
      rw [show i - 4 = 0 by omega] at K26
      exact K26
    · refine br_f (fun q => z ((hf_xge0 i (by omega)).mp q)) ?_
      rw [hf_xn i (by omega) (by omega)]
      exact K26
  unfold wpY_nearer
  by_cases z : j = i
  · subst z
    exact br_t ((hf_xle j (by omega) j (by omega)).mpr (Nat.le_refl _)) K12
  · refine br_f (fun q => ?_) K12
    have := (hf_xle j (by omega) i (by omega)).mp q
    omega
end
section
/-! X's search for the writing -/
def hf_XI (p k : Nat) (S : Nat → Nat → Prop) (sm bd be : Int32) (bg bs : Int64) : Prop :=
  (sm = 0 ∧ ∀ e j, S e j → hf_C p e j → hf_ln e ≠ k) ∨
  (sm = 1 ∧ ∃ d j, S d j ∧ hf_C p d j ∧ hf_ln d = k ∧ bd = nI d ∧ be = hf_x j ∧ bg = lN (4 * hf_g p d j) ∧ bs = lN (10 ^ (j - 4)) ∧ ∀ e j', S e j' → hf_C p e j' → hf_ln e = k → ¬ hf_B p e j' d j)
theorem hf_B_irr (p d i : Nat) : ¬ hf_B p d i d i := by unfold hf_B; omega
theorem hf_C_b {p d i : Nat} (h : hf_C p d i) : 1 ≤ d ∧ d ≤ 999999 := by
  obtain ⟨_, a, b, c, _⟩ := h
  omega
section
variable {p k c i : Nat} {S S' : Nat → Nat → Prop} {sm bd be : Int32} {bg bs : Int64}
theorem hf_XIk (hI : hf_XI p k S sm bd be bg bs) (hn : ¬ hf_C p c i) : hf_XI p k (fun e j => S e j ∨ (e = c ∧ j = i)) sm bd be bg bs := by
  rcases hI with ⟨a, b⟩ | ⟨a, d, j, b1, b2, b3, b4, b5, b6, b7, b8⟩
  · refine Or.inl ⟨a, fun e j hs hc => ?_⟩
    rcases hs with hs | ⟨rfl, rfl⟩
    · exact b e j hs hc
    · exact absurd hc hn
  · refine Or.inr ⟨a, d, j, Or.inl b1, b2, b3, b4, b5, b6, b7, fun e j' hs hc hl => ?_⟩
    rcases hs with hs | ⟨rfl, rfl⟩
    · exact b8 e j' hs hc hl
    · exact absurd hc hn
theorem hf_XIm (hI : hf_XI p k S sm bd be bg bs) (h1 : ∀ e j, S e j → S' e j) (h2 : ∀ e j, S' e j → hf_C p e j → hf_ln e = k → S e j) : hf_XI p k S' sm bd be bg bs := by
  rcases hI with ⟨a, b⟩ | ⟨a, d, j, b1, b2, b3, b4, b5, b6, b7, b8⟩
  · exact Or.inl ⟨a, fun e j hs hc hl => b e j (h2 e j hs hc hl) hc hl⟩
  · exact Or.inr ⟨a, d, j, h1 d j b1, b2, b3, b4, b5, b6, b7, fun e j' hs hc hl => b8 e j' (h2 e j' hs hc hl) hc hl⟩
theorem hf_of {post : SX → Prop} (p1 : 1 ≤ p) (p2 : p ≤ 31743) (hi : i ≤ 16) (hc : c ≤ 1000000) (Gd : hf_am p * 10 ^ (i - 4) ≤ 16777216000000) (hS : ∀ e j, S e j → j ≤ i) (hI : hf_XI p k S sm bd be bg bs)
    (hcl : c % 10 ≠ 0 → hf_NR (hf_W c i) (10 ^ 12) p → (hf_C p c i ∧ hf_ln c = k) ∨ (¬ hf_C p c i ∧ ∃ e j, S e j ∧ hf_C p e j ∧ hf_ln e = k ∧ hf_G p e j < hf_G p c i))
    (h : ∀ sm' bd' be' bg' bs', hf_XI p k (fun e j => S e j ∨ (e = c ∧ j = i)) sm' bd' be' bg' bs' → post (lN (4 * hf_am p), lN (2 * hf_md (p - 1)), lN (2 * hf_md p), nI (1 - p % 2), sm', bd', be', bg', bs')) :
    wpX_offer post (lN (4 * hf_am p), lN (2 * hf_md (p - 1)), lN (2 * hf_md p), nI (1 - p % 2), sm, bd, be, bg, bs) (lN c) (hf_x i) (lN (10 ^ (4 - i))) (lN (10 ^ (i - 4))) := by
  have keep : ¬ hf_C p c i → post (lN (4 * hf_am p), lN (2 * hf_md (p - 1)), lN (2 * hf_md p), nI (1 - p % 2), sm, bd, be, bg, bs) := fun nC => h _ _ _ _ _ (hf_XIk hI nC)
  obtain ⟨g1, g2⟩ := hf_gb (p := p) hc Gd
  have hin := hf_in (d := c) hi p1 p2
  have am1 := hf_am1 p1 p2
  have md1 := hf_md_eq (p := p) (by omega)
  have md2 := hf_md_lt (a := p - 1) (b := p) (by omega) (by omega)
  have dn0 := hf_10pos (i - 4)
  have hi1 : 2 * hf_md p * 10 ^ (i - 4) ≤ 6 * (hf_am p * 10 ^ (i - 4)) := by
    rw [← Nat.mul_assoc]
    refine Nat.mul_le_mul_right _ ?_
    generalize 2 ^ hf_pl p = Z at *
    omega
  have hi2 : 2 * hf_md (p - 1) * 10 ^ (i - 4) < 2 * hf_md p * 10 ^ (i - 4) := Nat.mul_lt_mul_of_pos_right (by omega) dn0
  have eY : 4 * hf_am p * 10 ^ (i - 4) = 4 * (hf_am p * 10 ^ (i - 4)) := Nat.mul_assoc _ _ _
  clear am1 md1 md2
  unfold wpX_offer
  dsimp only
  refine ⟨by decide, ?_⟩
  rw [show lN c - lN c / 10 * 10 = lN (c % 10) from pk_lRem (b := 10) (by omega) (by omega) (by omega)]
  refine hf_bEQ (c % 10) 0 (fun z => keep (fun q => q.2.2.2.2.1 z)) (fun z => ?_)
  refine nm_r (e' := lN (c * 10 ^ (4 - i) * 2 ^ 26)) ?_ (nm_r (lN_mul _ _) (nm_r (lN_mul _ _) ?_))
  · rw [lN_mul]
    exact wb_shl _ (k := 26) (by omega)
  have K81 : ¬ hf_NR (hf_W c i) (10 ^ 12) p → wX_offer_81 post (lN c) (hf_x i) (lN (10 ^ (i - 4))) (lN (c * 10 ^ (4 - i) * 2 ^ 26)) (lN (4 * hf_am p)) (lN (2 * hf_md (p - 1))) (lN (2 * hf_md p)) (nI (1 - p % 2)) sm bd be bg bs := fun q => br_t rfl (keep (fun q2 => q q2.2.2.2.2.2))
  have K77 : hf_NR (hf_W c i) (10 ^ 12) p → wX_offer_77 post (lN c) (hf_x i) (lN (10 ^ (i - 4))) (lN (c * 10 ^ (4 - i) * 2 ^ 26)) (lN (4 * hf_am p)) (lN (2 * hf_md (p - 1))) (lN (2 * hf_md p)) (nI (1 - p % 2)) sm bd be bg bs := by
    intro hN
    have hcl2 := hcl z hN
    have K126 : wX_offer_126 post (lN c) (hf_x i) (lN (10 ^ (i - 4))) (lN (4 * hf_g p c i)) (lN (4 * hf_am p)) (lN (2 * hf_md (p - 1))) (lN (2 * hf_md p)) (nI (1 - p % 2)) sm bd be bg bs := by
      rcases hI with ⟨rfl, hno⟩ | ⟨rfl, e, j, hSe, hCe, hle, rfl, rfl, rfl, rfl, hb⟩
      · refine br_t rfl ?_
        unfold wX_offer_148
        rw [lN_i]
        rcases hcl2 with ⟨q1, q2⟩ | ⟨_, e, j, q1, q2, q3, _⟩
        · refine h _ _ _ _ _ (Or.inr ⟨rfl, c, i, Or.inr ⟨rfl, rfl⟩, q1, q2, rfl, rfl, rfl, rfl, fun e j' hs hC hl => ?_⟩)
          rcases hs with hs | ⟨rfl, rfl⟩
          · exact absurd hl (hno e j' hs hC)
          · exact hf_B_irr _ _ _
        · exact absurd q3 (hno e j q1 q2)
      · have eb := hf_C_b hCe
        refine br_f (by decide) (hf_nX p1 p2 (hS e j hSe) hi hc (by omega) eb.1 hCe.2.2.2.2.2 Gd (fun nB => br_t rfl ?_) (fun yB => br_f (by decide) ?_))
        · refine h _ _ _ _ _ (Or.inr ⟨rfl, e, j, Or.inl hSe, hCe, hle, rfl, rfl, rfl, rfl, fun e' j' hs hC hl => ?_⟩)
          rcases hs with hs | ⟨rfl, rfl⟩
          · exact hb e' j' hs hC hl
          · exact nB
        · unfold wX_offer_148
          rw [lN_i]
          rcases hcl2 with ⟨q1, q2⟩ | ⟨_, e', j', q1, q2, q3, q4⟩
          · refine h _ _ _ _ _ (Or.inr ⟨rfl, c, i, Or.inr ⟨rfl, rfl⟩, q1, q2, rfl, rfl, rfl, rfl, fun e' j' hs hC hl => ?_⟩)
            rcases hs with hs | ⟨rfl, rfl⟩
            · have t := hb e' j' hs hC hl
              unfold hf_B at t yB ⊢
              omega
            · exact hf_B_irr _ _ _
          · exfalso
            have t := hb e' j' q1 q2 q3
            unfold hf_B at t yB
            omega
    refine br_f (by decide) ?_
    rw [lN_mul]
    refine hf_bLE (c * 10 ^ (4 - i) * 2 ^ 26) (4 * hf_am p * 10 ^ (i - 4)) (fun y => ?_) (fun y => ?_)
    · rw [lN_sub y, show 4 * hf_am p * 10 ^ (i - 4) - c * 10 ^ (4 - i) * 2 ^ 26 = 4 * hf_g p c i by unfold hf_g; omega]
      exact K126
    · rw [lN_sub (by omega), show c * 10 ^ (4 - i) * 2 ^ 26 - 4 * hf_am p * 10 ^ (i - 4) = 4 * hf_g p c i by unfold hf_g; omega]
      exact K126
  have K54 : c * 10 ^ (4 - i) * 2 ^ 26 ≤ 2 * hf_md (p - 1) * 10 ^ (i - 4) ∨ 2 * hf_md p * 10 ^ (i - 4) ≤ c * 10 ^ (4 - i) * 2 ^ 26 → wX_offer_54 post (lN c) (hf_x i) (lN (10 ^ (i - 4))) (lN (c * 10 ^ (4 - i) * 2 ^ 26)) (lN (2 * hf_md (p - 1) * 10 ^ (i - 4))) (lN (2 * hf_md p * 10 ^ (i - 4))) (lN (4 * hf_am p)) (lN (2 * hf_md (p - 1))) (lN (2 * hf_md p)) (nI (1 - p % 2)) sm bd be bg bs := by
    intro q
    refine pk_eq (1 - p % 2) 0 (fun z3 => K81 (fun r => ?_)) (fun z3 => hf_bEQ (c * 10 ^ (4 - i) * 2 ^ 26) (2 * hf_md (p - 1) * 10 ^ (i - 4)) (fun z4 => K77 (hin.mpr ?_)) (fun z4 => hf_bEQ (c * 10 ^ (4 - i) * 2 ^ 26) (2 * hf_md p * 10 ^ (i - 4)) (fun z5 => K77 (hin.mpr ?_)) (fun z5 => K81 (fun r => ?_))))
    · have := hin.mp r
      omega
    · omega
    · omega
    · have := hin.mp r
      omega
  exact hf_bLE (c * 10 ^ (4 - i) * 2 ^ 26) (2 * hf_md (p - 1) * 10 ^ (i - 4)) (fun q => K54 (Or.inl q)) (fun q => hf_bLT (c * 10 ^ (4 - i) * 2 ^ 26) (2 * hf_md p * 10 ^ (i - 4)) (fun q2 => K77 (hin.mpr ⟨Or.inl q, Or.inl q2⟩)) (fun q2 => K54 (Or.inr q2)))
end
/-! tryPower -/
def hf_cl (k d : Nat) : Nat := if d < 10 ^ (k - 1) then 10 ^ (k - 1) else if 10 ^ k - 1 < d then 10 ^ k - 1 else d
theorem hf_ln1 : hf_ln 1 = 1 := by decide
theorem hf_clC {p k d i : Nat} {S : Nat → Nat → Prop} (p1 : 1 ≤ p) (p2 : p ≤ 31743) (hk : 1 ≤ k) (hk5 : k ≤ 5) (hi : i ≤ 16) (hd : d = hf_f p i ∨ d = hf_f p i + 1) (hno : ∀ e j, hf_C p e j → k ≤ hf_ln e) (hS : ∀ e j, j < i → S e j)
    (hm : hf_cl k d % 10 ≠ 0) (hN : hf_NR (hf_W (hf_cl k d) i) (10 ^ 12) p) :
    (hf_C p (hf_cl k d) i ∧ hf_ln (hf_cl k d) = k) ∨ (¬ hf_C p (hf_cl k d) i ∧ ∃ e j, S e j ∧ hf_C p e j ∧ hf_ln e = k ∧ hf_G p e j < hf_G p (hf_cl k d) i) := by
  have t1 : 10 ^ k = 10 ^ (k - 1) * 10 := by rw [← Nat.pow_succ, show (k - 1).succ = k by omega]
  have t2 := hf_10pos (k - 1)
  have t3 : 10 ^ k ≤ 100000 := hf_10le hk5
  unfold hf_cl at *
  by_cases a : d < 10 ^ (k - 1)
  · rw [if_pos a] at *
    by_cases z : k = 1
    · subst z
      rw [show 10 ^ (1 - 1) = 1 from rfl] at *
      exact Or.inl ⟨⟨hi, by omega, by omega, by omega, by omega, hN⟩, hf_ln1⟩
    · exfalso
      apply hm
      rw [show k - 1 = (k - 2) + 1 by omega, Nat.pow_succ]
      exact Nat.mul_mod_left _ _
  · rw [if_neg a] at *
    by_cases b : 10 ^ k - 1 < d
    · rw [if_pos b] at *
      by_cases z : hf_f p i = 10 ^ k - 1
      · exact Or.inl ⟨⟨hi, Or.inl z.symm, by omega, by omega, hm, hN⟩, hf_ln_eq hk (by omega) (by omega) (by omega)⟩
      · obtain ⟨q1, q2, q3⟩ := hf_dom p1 p2 hk hi (by omega) hN
        have q4 := hno _ _ q2
        rw [hf_ln1] at q4
        obtain rfl : k = 1 := by omega
        refine Or.inr ⟨fun q => ?_, 1, i - 1, hS _ _ (by omega), q2, hf_ln1, q3⟩
        have := q.2.1
        omega
    · rw [if_neg b] at *
      exact Or.inl ⟨⟨hi, hd, by omega, by omega, hm, hN⟩, hf_ln_eq hk (by omega) (by omega) (by omega)⟩
section
variable {p k i : Nat} {sm bd be : Int32} {bg bs : Int64} {post : SX → Prop}
theorem hf_t79 {n d f : Nat} {x : Int32} {up dn O L H : Int64} {cl : Int32} (hk : 1 ≤ k) (hk5 : k ≤ 5) (hf : f ≤ 2000000) (hd : d ≤ f + 1)
    (h : wX_tryPower_117 post (wX_tryPower_79 post x up dn (lN f) (lN (10 ^ (k - 1))) (lN (10 ^ k - 1)) n) x up dn (lN f) (lN (10 ^ (k - 1))) (lN (10 ^ k - 1)) (lN d) (lN (hf_cl k d)) O L H cl sm bd be bg bs) :
    wX_tryPower_79 post x up dn (lN f) (lN (10 ^ (k - 1))) (lN (10 ^ k - 1)) (n + 1) (lN d) O L H cl sm bd be bg bs := by
  have t3 : 10 ^ k ≤ 100000 := hf_10le hk5
  have t4 : 10 ^ (k - 1) ≤ 100000 := hf_10le (show k - 1 ≤ 5 by omega)
  unfold hf_cl at h
  refine hf_bLT (f + 1) d (fun z => absurd z (by omega)) (fun _ => hf_bLE (10 ^ (k - 1)) d (fun a => ?_) (fun a => ?_)) (lN_1 f)
  · rw [if_neg (by omega)] at h
    refine hf_bLE d (10 ^ k - 1) (fun b => ?_) (fun b => ?_)
    · rw [if_neg (by omega)] at h
      exact h
    · rw [if_pos b] at h
      exact h
  · rw [if_pos a] at h
    exact h
theorem hf_tp (p1 : 1 ≤ p) (p2 : p ≤ 31743) (hk : 1 ≤ k) (hk5 : k ≤ 5) (hi : i ≤ 16) (hno : ∀ e j, hf_C p e j → k ≤ hf_ln e) (hI : hf_XI p k (fun _ j => j < i) sm bd be bg bs)
    (h : ∀ sm' bd' be' bg' bs', hf_XI p k (fun _ j => j < i + 1) sm' bd' be' bg' bs' → post (lN (4 * hf_am p), lN (2 * hf_md (p - 1)), lN (2 * hf_md p), nI (1 - p % 2), sm', bd', be', bg', bs')) :
    wpX_tryPower post (lN (4 * hf_am p), lN (2 * hf_md (p - 1)), lN (2 * hf_md p), nI (1 - p % 2), sm, bd, be, bg, bs) (nI k) (hf_x i) := by
  have hv := hf_am_b (p := p) (by omega)
  have u0 := hf_10pos (4 - i)
  have u1 : 10 ^ (4 - i) ≤ 10 ^ 4 := hf_10le (by omega)
  have d0 := hf_10pos (i - 4)
  have d1 : 10 ^ (i - 4) ≤ 10 ^ 12 := hf_10le (by omega)
  have t3 : 10 ^ k ≤ 100000 := hf_10le hk5
  have t2 := hf_10pos k
  have nu : ¬ lN (10 ^ (4 - i)) = 0 := by
    show ¬ lN _ = lN 0
    rw [pk_lEQ (by omega) (by omega)]
    omega
  have nd : ¬ lN (10 ^ (i - 4)) = 0 := by
    show ¬ lN _ = lN 0
    rw [pk_lEQ (by omega) (by omega)]
    omega
  have hfu := hf_fu (p := p) hi
  have K26 : wX_tryPower_26 post (nI k) (hf_x i) (lN (10 ^ (4 - i))) (lN (10 ^ (i - 4))) (lN (4 * hf_am p)) (lN (2 * hf_md (p - 1))) (lN (2 * hf_md p)) (nI (1 - p % 2)) sm bd be bg bs := by
    refine And.intro nu (And.intro nd ?_)
    have q1 : 4 * hf_am p / 10 ^ (4 - i) ≤ 4 * hf_am p := Nat.div_le_self _ _
    have q2 : 67108864000000 / 10 ^ (i - 4) ≤ 67108864000000 := Nat.div_le_self _ _
    refine hf_bLE (4 * hf_am p / 10 ^ (4 - i)) (67108864000000 / 10 ^ (i - 4)) (fun z => ?_) (fun z => ?_) (pk_lDiv (by omega) u0 (by omega)) (pk_lDiv (a := 67108864000000) (by omega) d0 (by omega))
    · have Gd : hf_am p * 10 ^ (i - 4) ≤ 16777216000000 := by
        by_cases y : i ≤ 4
        · rw [show i - 4 = 0 by omega, Nat.pow_zero]
          omega
        · rw [show 4 - i = 0 by omega, Nat.pow_zero, Nat.div_one, Nat.le_div_iff_mul_le d0, Nat.mul_assoc] at z
          omega
      have hf6 : hf_f p i ≤ 1000000 := by
        rw [hfu]
        have w1 : hf_am p * 10 ^ (i - 4) / (10 ^ (4 - i) * 2 ^ 24) ≤ 16777216000000 / (10 ^ (4 - i) * 2 ^ 24) := Nat.div_le_div_right Gd
        have w2 : 16777216000000 / (10 ^ (4 - i) * 2 ^ 24) ≤ 16777216000000 / 2 ^ 24 := Nat.div_le_div_left (by omega) (by decide)
        exact Nat.le_trans w1 (Nat.le_trans w2 (by decide))
      have e26 : lN (10 ^ (4 - i)) <<< ((26 : Int32).toInt64 &&& 63) = lN (10 ^ (4 - i) * 2 ^ 26) := wb_shl _ (k := 26) (by omega)
      rw [e26]
      refine ⟨?_, nm_r (e' := lN (hf_f p i)) ?_ ?_⟩
      · show ¬ lN _ = lN 0
        rw [pk_lEQ (by omega) (by omega)]
        omega
      · rw [lN_mul, pk_lDiv (by rw [Nat.mul_assoc]; omega) (by omega) (by omega), hfu]
        have e4 : 4 * hf_am p * 10 ^ (i - 4) = hf_am p * 10 ^ (i - 4) * 4 := by grind
        have e5 : 10 ^ (4 - i) * 2 ^ 26 = 10 ^ (4 - i) * 2 ^ 24 * 4 := by omega
        rw [e4, e5, Nat.mul_div_mul_right _ _ (by decide)]
      · rw [show nI k - 1 = nI (k - 1) from pk_sub (b := 1) hk]
        refine hf_pX (by omega) (hf_pX (by omega) (nm_r (e' := lN (10 ^ k - 1)) (lN_sub (b := 1) t2) ⟨3, ?_⟩))
        have cb : ∀ d, hf_cl k d ≤ 1000000 := by
          intro d
          have t4 : 10 ^ (k - 1) ≤ 100000 := hf_10le (show k - 1 ≤ 5 by omega)
          unfold hf_cl
          split
          · omega
          · split <;> omega
        refine hf_t79 hk hk5 (by omega) (by omega) ?_
        refine hf_of p1 p2 hi (cb _) Gd (fun e j q => by omega) hI (fun hm hN => hf_clC p1 p2 hk hk5 hi (Or.inl rfl) hno (fun e j q => q) hm hN) ?_
        intro sm1 bd1 be1 bg1 bs1 hI1
        refine nm_r (lN_1 _) ?_
        refine hf_t79 hk hk5 (by omega) (by omega) ?_
        refine hf_of p1 p2 hi (cb _) Gd (fun e j q => by omega) hI1 (fun hm hN => hf_clC p1 p2 hk hk5 hi (Or.inr rfl) hno (fun e j q => Or.inl q) hm hN) ?_
        intro sm2 bd2 be2 bg2 bs2 hI2
        refine nm_r (lN_1 _) ?_
        refine hf_bLT (hf_f p i + 1) (hf_f p i + 1 + 1) (fun _ => ?_) (fun y => absurd y (by omega)) (lN_1 _)
        refine h _ _ _ _ _ (hf_XIm hI2 (fun e j q => by omega) (fun e j q hC hl => ?_))
        by_cases y : j < i
        · exact Or.inl (Or.inl y)
        · obtain rfl : j = i := by omega
          obtain ⟨b1, b2⟩ := hf_C_b hC
          obtain ⟨_, _, l1, l2⟩ := hf_lnP b1 (by omega)
          rw [hl] at l1 l2
          have ec : hf_cl k e = e := by
            unfold hf_cl
            rw [if_neg (by omega), if_neg (by omega)]
          rcases hC.2.1 with w | w
          · refine Or.inl (Or.inr ⟨?_, rfl⟩)
            rw [← w, ec]
          · refine Or.inr ⟨?_, rfl⟩
            rw [← w, ec]
    · refine h _ _ _ _ _ (hf_XIm hI (fun e j q => by omega) (fun e j q hC hl => ?_))
      by_cases y : j < i
      · exact y
      · obtain rfl : j = i := by omega
        exfalso
        have hC4 := hC.2.2.2.1
        rw [hfu] at hC4
        by_cases y4 : j ≤ 4
        · rw [show j - 4 = 0 by omega, Nat.pow_zero, Nat.div_one] at z
          omega
        · rw [show 4 - j = 0 by omega, Nat.pow_zero, Nat.div_one, Nat.div_lt_iff_lt_mul d0, Nat.mul_assoc] at z
          rw [show 4 - j = 0 by omega, Nat.pow_zero, Nat.one_mul, Nat.div_lt_iff_lt_mul (by decide)] at hC4
          omega
  have K12 : wX_tryPower_12 post (nI k) (hf_x i) (lN (10 ^ (4 - i))) (lN (4 * hf_am p)) (lN (2 * hf_md (p - 1))) (lN (2 * hf_md p)) (nI (1 - p % 2)) sm bd be bg bs := by
    by_cases y : i ≤ 4
    · refine br_t ((hf_xge0 i (by omega)).mpr y) ?_
      rw [show i - 4 = 0 by omega, Nat.pow_zero] at K26
      exact K26
    · refine br_f (fun q => y ((hf_xge0 i (by omega)).mp q)) ?_
      rw [hf_xn i (by omega) (by omega)]
      exact hf_pX (by omega) K26
  unfold wpX_tryPower
  dsimp only
  by_cases y : 4 ≤ i
  · refine br_t ((hf_xle0 i (by omega)).mpr y) ?_
    rw [show 4 - i = 0 by omega, Nat.pow_zero] at K12
    exact K12
  · refine br_f (fun q => y ((hf_xle0 i (by omega)).mp q)) ?_
    rw [show wpX_power (fun r_26 => wX_tryPower_12 post (nI k) (hf_x i) r_26 (lN (4 * hf_am p)) (lN (2 * hf_md (p - 1))) (lN (2 * hf_md p)) (nI (1 - p % 2)) sm bd be bg bs) (hf_x i) = wpX_power (fun r_26 => wX_tryPower_12 post (nI k) (hf_x i) r_26 (lN (4 * hf_am p)) (lN (2 * hf_md (p - 1))) (lN (2 * hf_md p)) (nI (1 - p % 2)) sm bd be bg bs) (nI (4 - i)) from congrArg _ (hf_xp i (by omega) (by omega))]
    exact hf_pX (by omega) K12
end
end
section
/-! X's findWriting -/
section
variable {p : Nat} {post : SX → Prop}
theorem hf_126 {k : Nat} {J : Int32 → Int64 → Int64 → Int64 → Int32 → Int32 → Int32 → Int32 → Int64 → Int64 → Prop} (p1 : 1 ≤ p) (p2 : p ≤ 31743) (hk : 1 ≤ k) (hk5 : k ≤ 5) (hno : ∀ e j, hf_C p e j → k ≤ hf_ln e)
    (hJ : ∀ sm' bd' be' bg' bs', hf_XI p k (fun _ j => j < 17) sm' bd' be' bg' bs' → J (nI (k + 1)) (lN (4 * hf_am p)) (lN (2 * hf_md (p - 1))) (lN (2 * hf_md p)) (nI (1 - p % 2)) sm' bd' be' bg' bs') :
    ∀ m i sm bd be bg bs, i + m = 17 → hf_XI p k (fun _ j => j < i) sm bd be bg bs → wX_findWriting_126 post J (nI k) (m + 1) (hf_x i) (lN (4 * hf_am p)) (lN (2 * hf_md (p - 1))) (lN (2 * hf_md p)) (nI (1 - p % 2)) sm bd be bg bs := by
  intro m
  induction m with
  | zero =>
    intro i sm bd be bg bs hi hI
    obtain rfl : i = 17 := by omega
    exact br_t ((hf_x12 17 (by omega)).mpr (by omega)) (nm_r (nI_1 k) (hJ _ _ _ _ _ hI))
  | succ m ih =>
    intro i sm bd be bg bs hi hI
    refine br_f (fun q => ?_) ?_
    · have := (hf_x12 i (by omega)).mp q
      omega
    · refine hf_tp p1 p2 hk hk5 (by omega) hno hI (fun sm' bd' be' bg' bs' hI' => ?_)
      exact nm_r (hf_xs i) (ih (i + 1) sm' bd' be' bg' bs' (by omega) hI')
theorem hf_109 (p1 : 1 ≤ p) (p2 : p ≤ 31743)
    (h : ∀ d i bg bs, hf_Bst p d i → post (lN (4 * hf_am p), lN (2 * hf_md (p - 1)), lN (2 * hf_md p), nI (1 - p % 2), 1, nI d, hf_x i, bg, bs)) :
    ∀ m k bd be bg bs, k + m = 7 → 1 ≤ k → (∀ e j, hf_C p e j → k ≤ hf_ln e) → wX_findWriting_109 post (m + 1) (nI k) (lN (4 * hf_am p)) (lN (2 * hf_md (p - 1))) (lN (2 * hf_md p)) (nI (1 - p % 2)) 0 bd be bg bs := by
  intro m
  obtain ⟨de, ie, hce, hle⟩ := hf_ex p1 p2
  induction m with
  | zero =>
    intro k bd be bg bs hk hk1 hno
    have := hno _ _ hce
    omega
  | succ m ih =>
    intro k bd be bg bs hk hk1 hno
    have hk5 : k ≤ 5 := by
      have := hno _ _ hce
      omega
    refine br_f (nI_nlt (a := 6) (by omega) (by decide)) (br_t rfl ⟨18, ?_⟩)
    refine hf_126 p1 p2 hk1 hk5 hno ?_ 17 0 0 bd be bg bs (by omega) (Or.inl ⟨rfl, fun e j q => absurd q (by omega)⟩)
    intro sm' bd' be' bg' bs' hI
    rcases hI with ⟨rfl, hn⟩ | ⟨rfl, d, j, _, hC, hl, rfl, rfl, rfl, rfl, hb⟩
    · refine ih (k + 1) bd' be' bg' bs' (by omega) (by omega) (fun e j hC => ?_)
      have a := hno e j hC
      have b := hn e j (by have := hC.1; omega) hC
      omega
    · have fin : post (lN (4 * hf_am p), lN (2 * hf_md (p - 1)), lN (2 * hf_md p), nI (1 - p % 2), 1, nI d, hf_x j, lN (4 * hf_g p d j), lN (10 ^ (j - 4))) := by
        refine h d j _ _ ⟨hC, fun e j' hC' => ⟨?_, fun hl' => ?_⟩⟩
        · rw [hl]
          exact hno e j' hC'
        · exact hb e j' (by have := hC'.1; omega) hC' (by omega)
      exact br_c (fun _ => fin) (fun _ => br_f (by decide) fin)
theorem hf_72 {x3 s : Nat} {o l hh : Int64} {c sm bd be : Int32} {bg bs : Int64} (p1 : 1 ≤ p) (p2 : p ≤ 31743)
    (h : ∀ d i bg bs, hf_Bst p d i → post (lN (4 * hf_am p), lN (2 * hf_md (p - 1)), lN (2 * hf_md p), nI (1 - p % 2), 1, nI d, hf_x i, bg, bs))
    (e1 : lN (4 * hf_am p) - lN s = lN (2 * hf_md (p - 1))) (e2 : lN (4 * hf_am p) + lN x3 = lN (2 * hf_md p)) :
    wX_findWriting_72 post (nI p) (lN x3) (lN s) (lN (4 * hf_am p)) (lN (4 * hf_am p)) l hh c sm bd be bg bs := by
  refine nm_r e1 (nm_r e2 ?_)
  have hno : ∀ e j, hf_C p e j → 1 ≤ hf_ln e := by
    intro e j hC
    obtain ⟨b1, b2⟩ := hf_C_b hC
    exact (hf_lnP b1 (by omega)).1
  have K := hf_109 p1 p2 h 6 1 bd be bg bs (by omega) (by omega) hno
  rw [show nI p &&& 1 = nI (p % 2) from pk_andN (by omega) 1 (by decide)]
  refine pk_eq (p % 2) 0 (fun z => ⟨7, ?_⟩) (fun z => ⟨7, ?_⟩)
  · rw [show 1 - p % 2 = 1 by omega] at K
    exact K
  · rw [show 1 - p % 2 = 0 by omega] at K
    exact K
theorem hf_fw {n : Nat} {u : SX} (hn : n < 65536) (p1 : 1 ≤ n % 32768) (p2 : n % 32768 ≤ 31743)
    (h : ∀ o l hh c d i bg bs, hf_Bst (n % 32768) d i → post (o, l, hh, c, 1, nI d, hf_x i, bg, bs)) :
    wpX_findWriting post u (nI n) := by
  obtain ⟨f1, f2, f3, f4, f5, f6, f7, f8, f9⟩ := u
  unfold wpX_findWriting
  dsimp only
  refine nm_r (e' := nI (n % 32768)) (pk_andN (by omega) 15 (by decide)) ?_
  have hP : n % 32768 < 65536 := by omega
  generalize n % 32768 = p at *
  have hd := hf_dg_lt p
  have hp := hf_pl_le p
  have hm := hf_md_eq (p := p) (by omega)
  obtain ⟨m1, m2, _⟩ := hf_am_pred p1 p2
  have e2 : lN (4 * hf_am p) + lN (2 * 2 ^ hf_pl p) = lN (2 * hf_md p) := by
    rw [lN_add, hm]
    congr 1
    omega
  have e1 : ∀ s, s = 2 * 2 ^ hf_pl (p - 1) → lN (4 * hf_am p) - lN s = lN (2 * hf_md (p - 1)) := by
    intro s hs
    rw [lN_sub (by omega), m1]
    congr 1
    generalize 2 ^ hf_pl (p - 1) = Z at *
    omega
  have K50 : hf_pl (p - 1) = hf_pl p → wX_findWriting_50 post (nI p) (lN (2 * 2 ^ hf_pl p)) (lN (4 * hf_am p)) f2 f3 f4 f5 f6 f7 f8 f9 := by
    intro hq
    refine br_t rfl ?_
    exact hf_72 (o := 0) p1 p2 (fun d i bg bs hB => h _ _ _ _ _ _ _ _ hB) (e1 _ (by rw [hq])) e2
  refine hf_dgX hP (hf_plX hP (nm_r (e' := lN (4 * hf_am p)) ?_ (hf_plX hP (nm_r (e' := lN (2 * 2 ^ hf_pl p)) ?_ ?_))))
  · rw [nI_l (by omega), show nI (hf_pl p) + 2 = nI (hf_pl p + 2) from nI_add _ 2, wb_shl _ (by omega), Nat.pow_add]
    congr 1
    unfold hf_am
    grind
  · exact wb_shl 2 (by omega)
  · rw [show nI p &&& 1023 = nI (p % 1024) from pk_andN (by omega) 10 (by decide)]
    refine pk_eq (p % 1024) 0 (fun z => pk_le p 1024 (fun y => K50 ?_) (fun y => ?_)) (fun z => K50 ?_)
    · unfold hf_pl
      omega
    · have hq : hf_pl p = hf_pl (p - 1) + 1 := by
        unfold hf_pl
        omega
      refine br_f (by decide) ⟨by decide, ?_⟩
      rw [show lN (2 * 2 ^ hf_pl p) / 2 = lN (2 * 2 ^ hf_pl p / 2) from pk_lDiv (b := 2) (by have := wb_lt2 (show hf_pl p < 31 by omega); omega) (by omega) (by omega)]
      exact hf_72 (o := 0) p1 p2 (fun d i bg bs hB => h _ _ _ _ _ _ _ _ hB) (e1 _ (by rw [hq, Nat.pow_succ]; omega)) e2
    · unfold hf_pl
      omega
end
end
section
/-! Y's write -/
theorem hf_lenL {d : Nat} {post : Int32 → Prop} (h1 : 1 ≤ d) (h : d < 1000000) (hp : post (nI (hf_ln d))) : ∀ m k, k + m = hf_ln d → 1 ≤ k → wY_length_2 post (lN d) (m + 1) (nI k) := by
  obtain ⟨l1, l2, l3, l4⟩ := hf_lnP h1 h
  intro m
  induction m with
  | zero =>
    intro k hk hk1
    obtain rfl : k = hf_ln d := by omega
    have := hf_10le l2
    exact br_f (nI_ge (b := 18) (by omega) (by decide)) (hf_pY (by omega) (br_t ((pk_lLT (by omega) (by omega)).mpr l3) hp))
  | succ m ih =>
    intro k hk hk1
    have a := hf_10le (show k ≤ hf_ln d - 1 by omega)
    refine br_f (nI_ge (b := 18) (by omega) (by decide)) (hf_pY (by omega) (br_f (fun q => ?_) (nm_r (nI_1 k) (ih (k + 1) (by omega) (by omega)))))
    have := (pk_lLT (by omega) (by omega)).mp q
    omega
theorem hf_len {d : Nat} {post : Int32 → Prop} (h1 : 1 ≤ d) (h : d < 1000000) (hp : post (nI (hf_ln d))) : wpY_length post (lN d) := by
  have l := (hf_lnP h1 h).1
  exact ⟨hf_ln d - 1 + 1, hf_lenL h1 h hp (hf_ln d - 1) 1 (by omega) (by omega)⟩
def hf_YI (p : Nat) (S : Nat → Nat → Prop) (bd be : Int32) : Prop :=
  (bd = 0 ∧ ∀ e j, S e j → ¬ hf_C p e j) ∨
  (∃ d j, S d j ∧ hf_C p d j ∧ bd = nI d ∧ be = hf_x j ∧ ∀ e j', S e j' → hf_C p e j' → hf_ln d ≤ hf_ln e ∧ (hf_ln e = hf_ln d → ¬ hf_B p e j' d j))
theorem hf_Gd {p d i : Nat} (p2 : p ≤ 31743) (hC : hf_C p d i) : hf_am p * 10 ^ (i - 4) ≤ 16777216000000 := by
  have hv := hf_am_b (p := p) (by omega)
  have hi := hC.1
  have hf := hC.2.2.2.1
  rw [hf_fu hi] at hf
  by_cases z : i ≤ 4
  · rw [show i - 4 = 0 by omega, Nat.pow_zero]
    omega
  · rw [show 4 - i = 0 by omega, Nat.pow_zero, Nat.one_mul, Nat.div_lt_iff_lt_mul (by decide)] at hf
    omega
section
variable {p d i : Nat} {S S' : Nat → Nat → Prop} {bd be : Int32}
theorem hf_YIm (hI : hf_YI p S bd be) (h1 : ∀ e j, S e j → S' e j) (h2 : ∀ e j, S' e j → hf_C p e j → S e j) : hf_YI p S' bd be := by
  rcases hI with ⟨a, b⟩ | ⟨d, j, b1, b2, b3, b4, b5⟩
  · exact Or.inl ⟨a, fun e j hs hC => b e j (h2 e j hs hC) hC⟩
  · exact Or.inr ⟨d, j, h1 d j b1, b2, b3, b4, fun e j' hs hC => b5 e j' (h2 e j' hs hC) hC⟩
theorem hf_tk {post : SY → Prop} (p1 : 1 ≤ p) (p2 : p ≤ 31743) (hC : hf_C p d i) (hS : ∀ e j, S e j → j ≤ i) (hI : hf_YI p S bd be)
    (h : ∀ bd' be', hf_YI p (fun e j => S e j ∨ (e = d ∧ j = i)) bd' be' → post (bd', be')) : wpY_take post (bd, be) (lN d) (hf_x i) (lN (hf_am p)) := by
  have Gd := hf_Gd p2 hC
  obtain ⟨d1, d2⟩ := hf_C_b hC
  obtain ⟨l1, l2, _, _⟩ := hf_lnP d1 (by omega)
  unfold wpY_take
  dsimp only
  refine hf_len d1 (by omega) ?_
  rcases hI with ⟨rfl, hn⟩ | ⟨e, j, b1, b2, rfl, rfl, b5⟩
  · refine br_t rfl (br_t (nI_lt (b := 100) (by omega) (by decide)) ?_)
    unfold wY_take_61
    rw [lN_i]
    refine h _ _ (Or.inr ⟨d, i, Or.inr ⟨rfl, rfl⟩, hC, rfl, rfl, fun e j' hs hC' => ?_⟩)
    rcases hs with hs | ⟨rfl, rfl⟩
    · exact absurd hC' (hn e j' hs)
    · exact ⟨Nat.le_refl _, fun _ => hf_B_irr _ _ _⟩
  · obtain ⟨e1, e2⟩ := hf_C_b b2
    obtain ⟨k1, k2, _, _⟩ := hf_lnP e1 (by omega)
    refine br_f (nI_ne0 (by omega) (by omega)) ?_
    rw [nI_l (by omega)]
    refine hf_len e1 (by omega) ?_
    have keep : (hf_ln e ≤ hf_ln d ∧ (hf_ln d = hf_ln e → ¬ hf_B p d i e j)) → post (nI e, hf_x j) := by
      intro hk
      refine h _ _ (Or.inr ⟨e, j, Or.inl b1, b2, rfl, rfl, fun e' j' hs hC' => ?_⟩)
      rcases hs with hs | ⟨rfl, rfl⟩
      · exact b5 e' j' hs hC'
      · exact hk
    have new : (hf_ln d < hf_ln e ∨ (hf_ln d = hf_ln e ∧ hf_B p d i e j)) → wY_take_61 post (lN d) (hf_x i) (nI e) (hf_x j) := by
      intro hk
      unfold wY_take_61
      rw [lN_i]
      refine h _ _ (Or.inr ⟨d, i, Or.inr ⟨rfl, rfl⟩, hC, rfl, rfl, fun e' j' hs hC' => ?_⟩)
      rcases hs with hs | ⟨rfl, rfl⟩
      · obtain ⟨q1, q2⟩ := b5 e' j' hs hC'
        refine ⟨by omega, fun q3 q4 => ?_⟩
        rcases hk with hk | ⟨hk, hB⟩
        · omega
        · have q5 := q2 (by omega)
          unfold hf_B at q4 q5 hB
          omega
      · exact ⟨Nat.le_refl _, fun _ => hf_B_irr _ _ _⟩
    refine pk_lt (hf_ln d) (hf_ln e) (fun z => new (Or.inl z)) (fun z => pk_eq (hf_ln d) (hf_ln e) (fun y => ?_) (fun y => keep ⟨z, fun q => absurd q y⟩))
    rw [nI_l (by omega)]
    exact hf_nY2 p1 p2 (hS e j b1) hC.1 (by omega) (by omega) b2.2.2.2.2.2 Gd (fun nB => br_t rfl (keep ⟨z, fun _ => nB⟩)) (fun yB => br_f (by decide) (new (Or.inr ⟨y, yB⟩)))
end
theorem hf_pd {e i : Nat} (he : e ≤ 1000000) (hi : i ≤ 16) : ∃ r, hf_NR (hf_W e i) (10 ^ 12) r ∧ ∀ post : Int32 → Prop, post (nI r) → wpY_parsed post (lN e) (hf_x i) := by
  by_cases z : i ≤ 4
  · obtain ⟨r, hr, wY⟩ := hf_pdP (e := e) (x := 4 - i) he (by omega)
    refine ⟨r, ?_, fun post h => ?_⟩
    · rw [hf_NRu hi, show i - 4 = 0 by omega, Nat.pow_zero]
      exact hr
    · rw [hf_xp i (by omega) z]
      exact wY post h
  · obtain ⟨r, hr, wY⟩ := hf_pdN (e := e) (x := i - 4) he (by omega) (by omega)
    refine ⟨r, ?_, fun post h => ?_⟩
    · rw [hf_NRu hi, show 4 - i = 0 by omega, Nat.pow_zero, Nat.mul_one]
      exact hr
    · rw [hf_xn' i (by omega) (by omega)]
      exact wY post h
theorem hf_shr63 {a k : Nat} (hk : k < 64) (h : a < 2 ^ 63) : lN a >>> ((nI k).toInt64 &&& 63) = lN (a / 2 ^ k) := by
  have hD : (((nI k).toInt64 &&& 63).toBitVec.smod 64).toNat = k := by
    rw [wb_c k hk, wb_tb, wb_sm k hk, BitVec.toNat_ofNat]
    exact Nat.mod_eq_of_lt (by omega)
  have hd : a / 2 ^ k ≤ a := Nat.div_le_self _ _
  apply Int64.toInt_inj.mp
  have e : (lN a >>> ((nI k).toInt64 &&& 63)).toInt = (lN a).toInt >>> (((nI k).toInt64 &&& 63).toBitVec.smod 64).toNat := BitVec.toInt_sshiftRight ..
  rw [e, hD, Int.shiftRight_eq_div_pow, pf_lI (by omega), pf_lI (by omega)]
  rfl
section
variable {n p i : Nat} {bd be : Int32} {post : SY → Prop} {J : Int32 → Int32 → Int32 → Prop}
theorem hf_y100s {e m : Nat} {S : Nat → Nat → Prop} (hn : n < 65536) (hp : p = n % 32768) (p1 : 1 ≤ p) (p2 : p ≤ 31743) (hi : i ≤ 16) (hf : hf_f p i < 999999) (he : e = hf_f p i ∨ e = hf_f p i + 1) (hS : ∀ e j, S e j → j ≤ i) (hI : hf_YI p S bd be)
    (h : ∀ bd' be', hf_YI p (fun e' j => S e' j ∨ (e' = e ∧ j = i)) bd' be' → wY_write_100 post J (nI n) (lN (hf_am p)) (hf_x i) (lN (hf_f p i)) m (lN (e + 1)) bd' be') :
    wY_write_100 post J (nI n) (lN (hf_am p)) (hf_x i) (lN (hf_f p i)) (m + 1) (lN e) bd be := by
  have keep : ¬ hf_C p e i → wY_write_100 post J (nI n) (lN (hf_am p)) (hf_x i) (lN (hf_f p i)) m (lN (e + 1)) bd be := by
    intro hnC
    refine h _ _ (hf_YIm hI (fun e j q => Or.inl q) (fun e' j q hC => ?_))
    rcases q with q | ⟨rfl, rfl⟩
    · exact q
    · exact absurd hC hnC
  refine hf_bLT (hf_f p i + 1) e (fun z => absurd z (by omega)) (fun _ => hf_bLE 999999 (hf_f p i) (fun z => absurd z (by omega)) (fun _ => hf_bLT e 1 (fun z => ?_) (fun z => ⟨by decide, ?_⟩))) (lN_1 _)
  · refine nm_r (lN_1 e) (keep (fun q => ?_))
    have := q.2.2.1
    omega
  · rw [show lN e - lN e / 10 * 10 = lN (e % 10) from pk_lRem (b := 10) (by omega) (by omega) (by omega)]
    refine hf_bEQ (e % 10) 0 (fun y => nm_r (lN_1 e) (keep (fun q => q.2.2.2.2.1 y))) (fun y => ?_)
    obtain ⟨r, hr, wY⟩ := hf_pd (e := e) (i := i) (by omega) hi
    have hr4 : r ≤ 31744 := hr.1
    refine wY _ ?_
    rw [show nI n &&& 32767 = nI p by rw [hp]; exact pk_andN (by omega) 15 (by decide)]
    refine pk_eq r p (fun x => ?_) (fun x => nm_r (lN_1 e) (keep (fun q => x (hf_NR_u (by decide) hr q.2.2.2.2.2))))
    subst x
    exact hf_tk p1 p2 ⟨hi, he, z, hf, y, hr⟩ hS hI (fun bd' be' hI' => nm_r (lN_1 e) (h bd' be' hI'))
theorem hf_y100b {F m : Nat} (hF : 999999 ≤ F) (hF2 : F < 2 ^ 62) (hf : 999999 ≤ hf_f p i) (hI : hf_YI p (fun _ j => j < i) bd be) (hJ : ∀ bd' be', hf_YI p (fun _ j => j < i + 1) bd' be' → J (hf_x (i + 1)) bd' be') :
    wY_write_100 post J (nI n) (lN (hf_am p)) (hf_x i) (lN F) (m + 1) (lN F) bd be := by
  refine hf_bLT (F + 1) F (fun z => absurd z (by omega)) (fun _ => hf_bLE 999999 F (fun z => nm_r (hf_xs i) (hJ _ _ (hf_YIm hI (fun e j q => by omega) (fun e j q hC => ?_)))) (fun z => absurd z (by omega))) (lN_1 _)
  by_cases y : j < i
  · exact y
  · obtain rfl : j = i := by omega
    have := hC.2.2.2.1
    omega
theorem hf_y100 (hn : n < 65536) (hp : p = n % 32768) (p1 : 1 ≤ p) (p2 : p ≤ 31743) (hi : i ≤ 16) (hf62 : hf_f p i < 2 ^ 62) (hI : hf_YI p (fun _ j => j < i) bd be) (hJ : ∀ bd' be', hf_YI p (fun _ j => j < i + 1) bd' be' → J (hf_x (i + 1)) bd' be') :
    ∃ n100, wY_write_100 post J (nI n) (lN (hf_am p)) (hf_x i) (lN (hf_f p i)) n100 (lN (hf_f p i)) bd be := by
  by_cases hf : hf_f p i < 999999
  · refine ⟨3, hf_y100s hn hp p1 p2 hi hf (Or.inl rfl) (fun e j q => by omega) hI (fun bd1 be1 hI1 => hf_y100s hn hp p1 p2 hi hf (Or.inr rfl) (fun e j q => by omega) hI1 (fun bd2 be2 hI2 => ?_))⟩
    refine hf_bLT (hf_f p i + 1) (hf_f p i + 1 + 1) (fun _ => nm_r (hf_xs i) (hJ _ _ (hf_YIm hI2 (fun e j q => by omega) (fun e j q hC => ?_)))) (fun z => absurd z (by omega)) (lN_1 _)
    by_cases y : j < i
    · exact Or.inl (Or.inl y)
    · obtain rfl : j = i := by omega
      rcases hC.2.1 with w | w
      · exact Or.inl (Or.inr ⟨w, rfl⟩)
      · exact Or.inr ⟨w, rfl⟩
  · exact ⟨1, hf_y100b (by omega) hf62 (by omega) hI hJ⟩
theorem hf_yi (hn : n < 65536) (hp : p = n % 32768) (p1 : 1 ≤ p) (p2 : p ≤ 31743) (hi : i ≤ 16) (hI : hf_YI p (fun _ j => j < i) bd be) (hJ : ∀ bd' be', hf_YI p (fun _ j => j < i + 1) bd' be' → J (hf_x (i + 1)) bd' be') :
    ((0 ≤ hf_x i → (wY_write_33 post J (nI n) (lN (hf_am p)) (hf_x i) (hf_x i) bd be)) ∧ (¬ 0 ≤ hf_x i → (wY_write_33 post J (nI n) (lN (hf_am p)) (hf_x i) (-hf_x i) bd be))) := by
  have hv := hf_am_b (p := p) (by omega)
  have hfu := hf_fu (p := p) hi
  by_cases z : i ≤ 4
  · have c := (hf_xge0 i (by omega)).mpr z
    have u0 := hf_10pos (4 - i)
    have u1 : 10 ^ (4 - i) ≤ 10 ^ 4 := hf_10le (by omega)
    have K : ∀ z0, z0 = nI (4 - i) → wY_write_33 post J (nI n) (lN (hf_am p)) (hf_x i) z0 bd be := by
      intro z0 hz
      subst hz
      refine hf_pY (by omega) (br_t c (br_f (by decide) (br_f (fun q => ?_) ⟨?_, nm_r (e' := lN (hf_f p i)) ?_ ?_⟩)))
      · have := (hf_xlt0 i (by omega)).mp q
        omega
      · show ¬ lN _ = lN 0
        rw [pk_lEQ (by omega) (by omega)]
        omega
      · have hd : hf_am p / 2 ^ 24 ≤ hf_am p := Nat.div_le_self _ _
        rw [show lN (hf_am p) >>> ((24 : Int32).toInt64 &&& 63) = lN (hf_am p / 2 ^ 24) from hf_shr (k := 24) (by omega) (by omega), pk_lDiv (by omega) u0 (by omega), hfu, Nat.div_div_eq_div_mul, show i - 4 = 0 by omega, Nat.pow_zero, Nat.mul_one, Nat.mul_comm (2 ^ 24)]
      · refine hf_y100 hn hp p1 p2 hi ?_ hI hJ
        rw [hfu, show i - 4 = 0 by omega, Nat.pow_zero, Nat.mul_one]
        exact Nat.lt_of_le_of_lt (Nat.div_le_self _ _) (by omega)
    exact br_t c (K _ (hf_xp i (by omega) z))
  · have c : ¬ 0 ≤ hf_x i := fun q => z ((hf_xge0 i (by omega)).mp q)
    have d0 := hf_10pos (i - 4)
    have d1 : 10 ^ (i - 4) ≤ 10 ^ 12 := hf_10le (by omega)
    refine br_f c ?_
    unfold wY_write_33
    rw [hf_xn i (by omega) (by omega)]
    rw [show 4 - i = 0 by omega, Nat.pow_zero, Nat.one_mul] at hfu
    have hq : 9000000000000000000 / 10 ^ (i - 4) ≤ 9000000000000000000 := Nat.div_le_self _ _
    refine hf_pY (by omega) (br_f c ⟨?_, hf_bLE (9000000000000000000 / 10 ^ (i - 4)) (hf_am p) (fun y => ?_) (fun y => ?_) (pk_lDiv (a := 9000000000000000000) (by omega) d0 (by omega))⟩)
    · show ¬ lN _ = lN 0
      rw [pk_lEQ (by omega) (by omega)]
      omega
    · refine br_t rfl ⟨1, ?_⟩
      refine hf_y100b (F := 1000000) (by omega) (by omega) ?_ hI hJ
      rw [hfu, Nat.le_div_iff_mul_le (by decide)]
      have w1 := Nat.mul_le_mul_right (10 ^ (i - 4)) y
      have w2 := Nat.div_add_mod' 9000000000000000000 (10 ^ (i - 4))
      have w3 := Nat.mod_lt 9000000000000000000 d0
      omega
    · have w := (Nat.le_div_iff_mul_le d0).mp (Nat.le_of_lt y)
      refine br_f (by decide) (br_t ((hf_xlt0 i (by omega)).mpr (by omega)) (nm_r (e' := lN (hf_f p i)) ?_ ?_))
      · rw [lN_mul, hfu]
        exact hf_shr63 (k := 24) (by omega) (by omega)
      · refine hf_y100 hn hp p1 p2 hi ?_ hI hJ
        rw [hfu]
        omega
end
theorem hf_yw {n : Nat} {v : SY} {post : SY → Prop} (hn : n < 65536) (p1 : 1 ≤ n % 32768) (p2 : n % 32768 ≤ 31743)
    (h : ∀ d i, hf_Bst (n % 32768) d i → post (nI d, hf_x i)) : wpY_write post v (nI n) := by
  obtain ⟨g1, g2⟩ := v
  unfold wpY_write
  dsimp only
  refine hf_amY hn ?_
  rw [← hf_amm]
  have L : ∀ m i bd be, i + m = 17 → hf_YI (n % 32768) (fun _ j => j < i) bd be → wY_write_13 post (nI n) (lN (hf_am (n % 32768))) (m + 1) (hf_x i) bd be := by
    intro m
    induction m with
    | zero =>
      intro i bd be hi hI
      obtain rfl : i = 17 := by omega
      refine br_t ((hf_x12 17 (by omega)).mpr (by omega)) ?_
      rcases hI with ⟨_, hno⟩ | ⟨d, j, _, b2, rfl, rfl, b5⟩
      · obtain ⟨d, i, hC, _⟩ := hf_ex p1 p2
        exact absurd hC (hno d i (by have := hC.1; omega))
      · exact h d j ⟨b2, fun e j' hC => b5 e j' (by have := hC.1; omega) hC⟩
    | succ m ih =>
      intro i bd be hi hI
      refine br_f (fun q => ?_) (hf_yi hn rfl p1 p2 (by omega) hI (fun bd' be' hI' => ih (i + 1) bd' be' (by omega) hI'))
      have := (hf_x12 i (by omega)).mp q
      omega
  exact ⟨18, L 17 0 0 g2 (by omega) (Or.inl ⟨rfl, fun e j q => absurd q (by omega)⟩)⟩
end
section
/-! what is owed -/
/-- no answer depends on either state: each call writes before it reads -/
def i_Rel (_ : Nat) (_ : SX) (_ : SY) : Prop := True
theorem i_up {k : Nat} {u : SX} {v : SY} (h : i_Rel k u v) : i_Rel (k + 3) u v := h
theorem i_vc0 : wpX_init (fun u => wpY_init (fun v => i_Rel 0 u v)) := True.intro
theorem i_vc_add {k : Nat} {u : SX} {v : SY} (I : i_Rel k u v) (hk : k + 3 ≤ 1536) (v1 : Int32) (v2 : Int32) : wpX_add (fun r => wpY_add (fun r' => r' = r ∧ i_Rel (k + 3) u v) v v1 v2) u v1 v2 := by
  obtain ⟨r, hX, hY⟩ := hf_add u v v1 v2
  exact hX _ (hY _ ⟨rfl, True.intro⟩)
theorem i_vc_multiply {k : Nat} {u : SX} {v : SY} (I : i_Rel k u v) (hk : k + 3 ≤ 1536) (v1 : Int32) (v2 : Int32) : wpX_multiply (fun r => wpY_multiply (fun r' => r' = r ∧ i_Rel (k + 3) u v) v v1 v2) u v1 v2 := by
  obtain ⟨r, hX, hY⟩ := hf_multiply u v v1 v2
  exact hX _ (hY _ ⟨rfl, True.intro⟩)
theorem i_vc_divide {k : Nat} {u : SX} {v : SY} (I : i_Rel k u v) (hk : k + 3 ≤ 1536) (v1 : Int32) (v2 : Int32) : wpX_divide (fun r => wpY_divide (fun r' => r' = r ∧ i_Rel (k + 3) u v) v v1 v2) u v1 v2 := by
  obtain ⟨r, hX, hY⟩ := hf_divide u v v1 v2
  exact hX _ (hY _ ⟨rfl, True.intro⟩)
theorem i_vc_root {k : Nat} {u : SX} {v : SY} (I : i_Rel k u v) (hk : k + 3 ≤ 1536) (v1 : Int32) : wpX_root (fun r => wpY_root (fun r' => r' = r ∧ i_Rel (k + 3) u v) v v1) u v1 := by
  obtain ⟨r, hX, hY⟩ := hf_root u v v1
  exact hX _ (hY _ ⟨rfl, True.intro⟩)
theorem i_vc_parse {k : Nat} {u : SX} {v : SY} (I : i_Rel k u v) (hk : k + 3 ≤ 1536) (v1 : Int32) (v2 : Int32) : wpX_parse (fun r => wpY_parse (fun r' => r' = r ∧ i_Rel (k + 3) u v) v v1 v2) u v1 v2 := by
  obtain ⟨r, hX, hY⟩ := hf_parse u v v1 v2
  exact hX _ (hY _ ⟨rfl, True.intro⟩)
theorem hf_p12 {n : Nat} (hn : n < 65536) (he : n / 1024 % 32 ≠ 31) (hd : hf_dg n ≠ 0) : 1 ≤ n % 32768 ∧ n % 32768 ≤ 31743 := by
  refine ⟨?_, by omega⟩
  apply Nat.le_of_not_lt
  intro z
  apply hd
  unfold hf_dg
  rw [if_pos (by omega)]
  omega
theorem hf_l0 {n : Nat} (h : n < 2048) (h0 : n ≠ 0) : ¬ lN n = 0 := by
  show ¬ lN n = lN 0
  rw [pk_lEQ (by omega) (by omega)]
  exact h0
theorem i_vc_digits {k : Nat} {u : SX} {v : SY} (I : i_Rel k u v) (hk : k + 3 ≤ 1536) (v1 : Int32) : wpX_digits (fun r u' => wpY_digits (fun r' v' => r' = r ∧ i_Rel (k + 3) u' v') v v1) u v1 := by
  obtain ⟨f1, f2, f3, f4, f5, f6, f7, f8, f9⟩ := u
  obtain ⟨g1, g2⟩ := v
  rcases hf_num v1 with ⟨n, hn, he, rfl, hX, hY⟩ | ⟨hX, hY⟩
  · have hd := hf_dg_lt n
    by_cases z : hf_dg n = 0
    · unfold wpX_digits
      dsimp only
      refine hX _ (br_f (by decide) (hf_dgX hn ?_))
      rw [z]
      refine br_t rfl ?_
      unfold wpY_digits
      dsimp only
      refine hY _ (br_t rfl (hf_dgY hn ?_))
      rw [z]
      exact br_t rfl ⟨rfl, True.intro⟩
    · obtain ⟨p1, p2⟩ := hf_p12 hn he z
      unfold wpX_digits
      dsimp only
      refine hX _ (br_f (by decide) (hf_dgX hn (br_f (nI_ne0 (by omega) (by omega)) (hf_fw hn p1 p2 (fun o l hh c d i bg bs hB => ?_)))))
      show wpY_digits _ _ _
      unfold wpY_digits
      dsimp only
      refine hY _ (br_t rfl (hf_dgY hn (br_f (hf_l0 hd z) (hf_yw hn p1 p2 (fun d' i' hB' => ?_)))))
      obtain ⟨rfl, rfl⟩ := hf_Bst_u hB hB'
      exact ⟨rfl, True.intro⟩
  · unfold wpX_digits
    dsimp only
    refine hX _ (br_t rfl ?_)
    unfold wpY_digits
    dsimp only
    exact hY _ (br_f (by decide) ⟨rfl, True.intro⟩)
theorem i_vc_exponent {k : Nat} {u : SX} {v : SY} (I : i_Rel k u v) (hk : k + 3 ≤ 1536) (v1 : Int32) : wpX_exponent (fun r u' => wpY_exponent (fun r' v' => r' = r ∧ i_Rel (k + 3) u' v') v v1) u v1 := by
  obtain ⟨f1, f2, f3, f4, f5, f6, f7, f8, f9⟩ := u
  obtain ⟨g1, g2⟩ := v
  rcases hf_num v1 with ⟨n, hn, he, rfl, hX, hY⟩ | ⟨hX, hY⟩
  · have hd := hf_dg_lt n
    by_cases z : hf_dg n = 0
    · unfold wpX_exponent
      dsimp only
      refine hX _ (br_f (by decide) (hf_dgX hn ?_))
      rw [z]
      refine br_t rfl ?_
      unfold wpY_exponent
      dsimp only
      refine hY _ (br_t rfl (hf_dgY hn ?_))
      rw [z]
      exact br_t rfl ⟨rfl, True.intro⟩
    · obtain ⟨p1, p2⟩ := hf_p12 hn he z
      unfold wpX_exponent
      dsimp only
      refine hX _ (br_f (by decide) (hf_dgX hn (br_f (nI_ne0 (by omega) (by omega)) (hf_fw hn p1 p2 (fun o l hh c d i bg bs hB => ?_)))))
      show wpY_exponent _ _ _
      unfold wpY_exponent
      dsimp only
      refine hY _ (br_t rfl (hf_dgY hn (br_f (hf_l0 hd z) (hf_yw hn p1 p2 (fun d' i' hB' => ?_)))))
      obtain ⟨rfl, rfl⟩ := hf_Bst_u hB hB'
      exact ⟨rfl, True.intro⟩
  · unfold wpX_exponent
    dsimp only
    refine hX _ (br_t rfl ?_)
    unfold wpY_exponent
    dsimp only
    exact hY _ (br_f (by decide) ⟨rfl, True.intro⟩)
theorem i_vc_compare {k : Nat} {u : SX} {v : SY} (I : i_Rel k u v) (hk : k + 3 ≤ 1536) (v1 : Int32) (v2 : Int32) : wpX_compare (fun r => wpY_compare (fun r' => r' = r ∧ i_Rel (k + 3) u v) v v1 v2) u v1 v2 := by
  obtain ⟨r, hX, hY⟩ := hf_compare u v v1 v2
  exact hX _ (hY _ ⟨rfl, True.intro⟩)
theorem i_vc_floor {k : Nat} {u : SX} {v : SY} (I : i_Rel k u v) (hk : k + 3 ≤ 1536) (v1 : Int32) : wpX_floor (fun r => wpY_floor (fun r' => r' = r ∧ i_Rel (k + 3) u v) v v1) u v1 := by
  obtain ⟨r, hX, hY⟩ := hf_floorM u v v1
  exact hX _ (hY _ ⟨rfl, True.intro⟩)
end
