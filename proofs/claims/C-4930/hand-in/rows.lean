section
theorem pk_us {f : Nat → Int32} {k : Nat} {x : Int32} : upd f k x k = x := if_pos rfl
theorem pk_un {f : Nat → Int32} {k j : Nat} {x : Int32} (h : j ≠ k) : upd f k x j = f j := if_neg h
theorem pk_uLs {f : Nat → Int64} {k : Nat} {x : Int64} : vp_updL f k x k = x := if_pos rfl
theorem pk_uLn {f : Nat → Int64} {k j : Nat} {x : Int64} (h : j ≠ k) : vp_updL f k x j = f j := if_neg h
theorem pk_sub {a b : Nat} (h : b ≤ a) : nI a - nI b = nI (a - b) := by
  obtain ⟨c, rfl⟩ : ∃ c, a = c + b := ⟨a - b, by omega⟩
  rw [← nI_add, Int32.add_sub_cancel, Nat.add_sub_cancel]
theorem pk_mul (a b : Nat) : nI a * nI b = nI (a * b) := (Int32.ofNat_mul a b).symm
theorem pk_div {a d : Nat} (ha : a < 2 ^ 31) (h0 : 0 < d) (hd : d < 2 ^ 31) : nI a / nI d = nI (a / d) := by
  apply Int32.toInt_inj.mp
  rw [lg_idiv_nonneg (by rw [nI_toInt ha]; omega) (by rw [nI_toInt hd]; omega), nI_toInt ha, nI_toInt hd, nI_toInt (Nat.lt_of_le_of_lt (Nat.div_le_self a d) ha)]
  first | rfl | exact (Int.natCast_ediv _ _).symm
theorem pk_rem {a d : Nat} (ha : a < 2 ^ 31) (h0 : 0 < d) (hd : d < 2 ^ 31) : nI a - nI a / nI d * nI d = nI (a % d) := by
  rw [pk_div ha h0 hd, pk_mul, pk_sub (Nat.div_mul_le_self a d)]
  exact congrArg nI (by have := Nat.div_add_mod' a d; omega)
theorem pk_ix (x : Int32) {n : Nat} (hn : n < 2 ^ 31) : x < 0 ∨ nI n ≤ x ∨ ∃ j : Nat, j < n ∧ x = nI j := by
  by_cases h : x < 0
  · exact Or.inl h
  · obtain ⟨j, hj, rfl⟩ := nI_of h
    by_cases h2 : j < n
    · exact Or.inr (Or.inr ⟨j, h2, rfl⟩)
    · exact Or.inr (Or.inl (nI_le (by omega) hj))
theorem pk_le {x y : Int32} {A B : Prop} (a b : Nat) (f : a ≤ b → A) (g : b < a → B) (hx : x = nI a := by rfl) (hy : y = nI b := by rfl) (ha : a < 2 ^ 31 := by omega) (hb : b < 2 ^ 31 := by omega) : (x ≤ y → A) ∧ (¬ x ≤ y → B) := by
  subst hx hy
  rw [nI_leI ha hb]
  exact ⟨f, fun z => g (by omega)⟩
theorem pk_lt {x y : Int32} {A B : Prop} (a b : Nat) (f : a < b → A) (g : b ≤ a → B) (hx : x = nI a := by rfl) (hy : y = nI b := by rfl) (ha : a < 2 ^ 31 := by omega) (hb : b < 2 ^ 31 := by omega) : (x < y → A) ∧ (¬ x < y → B) := by
  subst hx hy
  rw [nI_ltI ha hb]
  exact ⟨f, fun z => g (by omega)⟩
theorem pk_eq {x y : Int32} {A B : Prop} (a b : Nat) (f : a = b → A) (g : a ≠ b → B) (hx : x = nI a := by rfl) (hy : y = nI b := by rfl) (ha : a < 2 ^ 31 := by omega) (hb : b < 2 ^ 31 := by omega) : (x = y → A) ∧ (¬ x = y → B) := by
  subst hx hy
  rw [nI_eq ha hb]
  exact ⟨f, g⟩
theorem pk_in {x : Int32} (n N : Nat) (h : n < N) (hx : x = nI n := by rfl) (hN : N < 2 ^ 31 := by omega) : vp_in x N := by
  subst hx
  exact vp_in_nI h hN
theorem pk_cl {x : Int32} (n : Nat) (hx : x = nI n := by rfl) (h : n < 2 ^ 31 := by omega) : x.toNatClampNeg = n := by
  subst hx
  exact nI_clamp h
theorem pk_tn {n : Nat} (h : n < 2 ^ 32) : (nI n).toBitVec.toNat = n := Nat.mod_eq_of_lt h
theorem pk_and (x : Int32) {m : Int32} (k : Nat) (hm : m.toBitVec.toNat = 2 ^ k - 1) : x &&& m = nI (x.toBitVec.toNat % 2 ^ k) := by
  apply Int32.toBitVec_inj.mp
  apply BitVec.eq_of_toNat_eq
  rw [Int32.toBitVec_and, BitVec.toNat_and, hm, Nat.and_two_pow_sub_one_eq_mod]
  show _ = (BitVec.ofNat 32 _).toNat
  rw [BitVec.toNat_ofNat]
  exact (Nat.mod_eq_of_lt (Nat.lt_of_le_of_lt (Nat.mod_le _ _) x.toBitVec.isLt)).symm
theorem pk_andN {n : Nat} (h : n < 2 ^ 32) {m : Int32} (k : Nat) (hm : m.toBitVec.toNat = 2 ^ k - 1) : nI n &&& m = nI (n % 2 ^ k) := by
  rw [pk_and _ k hm, pk_tn h]
theorem pk_shl (a s : Int32) (k : Nat) (hs : (s.toBitVec.smod 32).toNat = k) : (a <<< s).toBitVec.toNat = a.toBitVec.toNat * 2 ^ k % 2 ^ 32 := by
  show (a.toBitVec <<< (s.toBitVec.smod 32).toNat).toNat = _
  rw [hs, BitVec.toNat_shiftLeft, Nat.shiftLeft_eq]
theorem pk_shlN {n : Nat} (s : Int32) (k : Nat) (hs : (s.toBitVec.smod 32).toNat = k) (h : n * 2 ^ k < 2 ^ 32) : nI n <<< s = nI (n * 2 ^ k) := by
  apply Int32.toBitVec_inj.mp
  apply BitVec.eq_of_toNat_eq
  have hn : n < 2 ^ 32 := Nat.lt_of_le_of_lt (Nat.le_mul_of_pos_right n (Nat.two_pow_pos k)) h
  rw [pk_shl _ _ k hs, pk_tn hn, pk_tn h, Nat.mod_eq_of_lt h]
theorem pk_shr (a s : Int32) (k : Nat) (hs : (s.toBitVec.smod 32).toNat = k) : (a >>> s).toInt = a.toInt >>> k := by
  show (a.toBitVec.sshiftRight (s.toBitVec.smod 32).toNat).toInt = _
  rw [hs, BitVec.toInt_sshiftRight]
  rfl
theorem pk_shrN {n : Nat} (h : n < 2 ^ 31) (s : Int32) (k : Nat) (hs : (s.toBitVec.smod 32).toNat = k) : nI n >>> s = nI (n / 2 ^ k) := by
  apply Int32.toInt_inj.mp
  have h2 : n / 2 ^ k ≤ n := Nat.div_le_self _ _
  rw [pk_shr _ _ k hs, nI_toInt h, nI_toInt (by omega), Int.shiftRight_eq_div_pow]
  rfl
theorem pk_ushr (x s : Int32) (k : Nat) (hs : ((s.toUInt32 &&& Int32.toUInt32 31).toBitVec % 32).toNat = k) : (x.toUInt32 >>> (s.toUInt32 &&& Int32.toUInt32 31)).toInt32.toBitVec.toNat = x.toBitVec.toNat / 2 ^ k := by
  have e : (x.toUInt32 >>> (s.toUInt32 &&& Int32.toUInt32 31)).toInt32.toBitVec = x.toBitVec >>> k := by
    rw [← hs]
    exact UInt32.toBitVec_shiftRight _ _
  rw [e, BitVec.toNat_ushiftRight, Nat.shiftRight_eq_div_pow]
theorem pk_ushrN {n : Nat} (hn : n < 2 ^ 32) (s : Int32) (k : Nat) (hs : ((s.toUInt32 &&& Int32.toUInt32 31).toBitVec % 32).toNat = k) : ((nI n).toUInt32 >>> (s.toUInt32 &&& Int32.toUInt32 31)).toInt32 = nI (n / 2 ^ k) := by
  apply Int32.toBitVec_inj.mp
  apply BitVec.eq_of_toNat_eq
  rw [pk_ushr _ s k hs, pk_tn hn, pk_tn (Nat.lt_of_le_of_lt (Nat.div_le_self _ _) hn)]
theorem pk_lT {n : Nat} (h : n < 2 ^ 63) : (lN n).toInt = (n : Int) := lg_ofNat_toInt h
theorem pk_lLT {a b : Nat} (ha : a < 2 ^ 63) (hb : b < 2 ^ 63) : lN a < lN b ↔ a < b := by
  rw [Int64.lt_iff_toInt_lt, pk_lT ha, pk_lT hb]; omega
theorem pk_lLE {a b : Nat} (ha : a < 2 ^ 63) (hb : b < 2 ^ 63) : lN a ≤ lN b ↔ a ≤ b := by
  rw [Int64.le_iff_toInt_le, pk_lT ha, pk_lT hb]; omega
theorem pk_lEQ {a b : Nat} (ha : a < 2 ^ 63) (hb : b < 2 ^ 63) : lN a = lN b ↔ a = b := by
  rw [← Int64.toInt_inj, pk_lT ha, pk_lT hb]; omega
theorem pk_lDiv {a b : Nat} (ha : a < 2 ^ 63) (h0 : 0 < b) (hb : b < 2 ^ 63) : lN a / lN b = lN (a / b) := by
  apply Int64.toInt_inj.mp
  rw [lg_ldiv_nonneg (by rw [pk_lT ha]; omega) (by rw [pk_lT hb]; omega), pk_lT ha, pk_lT hb, pk_lT (Nat.lt_of_le_of_lt (Nat.div_le_self a b) ha)]
  rfl
theorem pk_lRem {a b : Nat} (ha : a < 2 ^ 63) (h0 : 0 < b) (hb : b < 2 ^ 63) : lN a - lN a / lN b * lN b = lN (a % b) := by
  rw [pk_lDiv ha h0 hb, lN_mul, lN_sub (Nat.div_mul_le_self a b)]
  exact congrArg lN (by have := Nat.div_add_mod' a b; omega)
theorem pk_m1 (n : Nat) : nI (n + 1) + (-1) = nI n := by
  rw [← nI_1, Int32.add_assoc, show (1 : Int32) + (-1) = 0 from rfl, Int32.add_zero]
theorem s_l : ∀ n, n < 32 → ((nI n &&& 31).toBitVec.smod 32).toNat = n := by decide +kernel
theorem s_u : ∀ n, n < 32 → (((nI n).toUInt32 &&& Int32.toUInt32 31).toBitVec % 32).toNat = n := by decide +kernel
theorem nx_and (a b : Nat) : nI a &&& nI b = nI (a &&& b) := by
  apply Int32.toBitVec_inj.1
  show BitVec.ofNat 32 a &&& BitVec.ofNat 32 b = BitVec.ofNat 32 (a &&& b)
  apply BitVec.eq_of_getLsbD_eq
  intro i hi
  simp [hi]
theorem nx_cnt : ∀ j : Fin 32, (UInt32.ofNat j.val &&& Int32.toUInt32 31).toNat % 32 = j.val := by decide +kernel
theorem nx_ush {k j : Nat} (hk : k < 65536) (hj : j < 32) : ((nI k).toUInt32 >>> ((nI j).toUInt32 &&& Int32.toUInt32 31)).toInt32 = nI (k >>> j) := by
  have hs : k >>> j ≤ k := by
    rw [Nat.shiftRight_eq_div_pow]
    exact Nat.div_le_self _ _
  have e2 : UInt32.ofNat k >>> (UInt32.ofNat j &&& Int32.toUInt32 31) = UInt32.ofNat (k >>> j) := by
    apply UInt32.toNat_inj.1
    have h1 : (UInt32.ofNat k).toNat = k := Nat.mod_eq_of_lt (by omega)
    have h2 : (UInt32.ofNat (k >>> j)).toNat = k >>> j := Nat.mod_eq_of_lt (by omega)
    rw [UInt32.toNat_shiftRight, nx_cnt ⟨j, hj⟩, h1, h2]
  show (UInt32.ofNat k >>> (UInt32.ofNat j &&& Int32.toUInt32 31)).toInt32 = _
  rw [e2]
  rfl
theorem nx_bit {k j : Nat} (hk : k < 65536) (hj : j < 16) : (((nI k).toUInt32 >>> ((nI j).toUInt32 &&& Int32.toUInt32 31)).toInt32 &&& 1) = 0 ↔ k.testBit j = false := by
  rw [nx_ush hk (by omega)]
  show nI (k >>> j) &&& nI 1 = 0 ↔ _
  rw [nx_and, Nat.and_one_is_mod, ← nI_0, nI_eq (by omega) (by omega), Nat.testBit_eq_decide_div_mod_eq, Nat.shiftRight_eq_div_pow, decide_eq_false_iff_not]
  generalize k / 2 ^ j = z
  omega
/-! numbers -/
theorem zn_pred {n : Nat} (h : 0 < n) : nI n - 1 = nI (n - 1) := by
  obtain ⟨m, rfl⟩ : ∃ m, n = m + 1 := ⟨n - 1, by omega⟩
  exact nI_pred m
theorem zn_pm {n : Nat} (h : 0 < n) : nI n + (-1) = nI (n - 1) := by
  obtain ⟨m, rfl⟩ : ∃ m, n = m + 1 := ⟨n - 1, by omega⟩
  exact pk_m1 m
theorem zn_eq0 {a : Nat} (h : a < 2 ^ 31) : nI a = 0 ↔ a = 0 := by
  rw [← nI_0, nI_eq h (by omega)]
theorem zn_ladd {x y : Int64} (h1 : -4611686018427387904 ≤ x.toInt + y.toInt) (h2 : x.toInt + y.toInt < 4611686018427387904) : (x + y).toInt = x.toInt + y.toInt := by
  rw [Int64.toInt_add]
  exact Int.bmod_eq_of_le (by omega) (by omega)
theorem zn_lsub {x y : Int64} (h1 : -4611686018427387904 ≤ x.toInt - y.toInt) (h2 : x.toInt - y.toInt < 4611686018427387904) : (x - y).toInt = x.toInt - y.toInt := by
  rw [Int64.toInt_sub]
  exact Int.bmod_eq_of_le (by omega) (by omega)
theorem zn_lle {x y : Int64} : x ≤ y ↔ x.toInt ≤ y.toInt := Int64.le_iff_toInt_le
theorem zn_llt {x y : Int64} : x < y ↔ x.toInt < y.toInt := Int64.lt_iff_toInt_lt
theorem zn_vb0 : vp_nar .boolean 0 = 0 := by decide
theorem zn_vb1 : vp_nar .boolean 1 = 1 := by decide
theorem zn_or (a b : Nat) : nI a ||| nI b = nI (a ||| b) := by
  apply Int32.toBitVec_inj.mp
  rw [Int32.toBitVec_or]
  show BitVec.ofNat 32 a ||| BitVec.ofNat 32 b = BitVec.ofNat 32 (a ||| b)
  apply BitVec.eq_of_toNat_eq
  rw [BitVec.toNat_or, BitVec.toNat_ofNat, BitVec.toNat_ofNat, BitVec.toNat_ofNat, Nat.or_mod_two_pow]
theorem zn_sh1 : ∀ t, t < 5 → (1 : Int32) <<< (nI t &&& 31) = nI (2 ^ t) := by decide +kernel
theorem zn_ch5 {P : Nat → Prop} (h0 : P 0) (h1 : P 1) (h2 : P 2) (h3 : P 3) (h4 : P 4) : ∀ w, w < 5 → P w := by
  intro w hw
  have : w = 0 ∨ w = 1 ∨ w = 2 ∨ w = 3 ∨ w = 4 := by omega
  rcases this with rfl | rfl | rfl | rfl | rfl <;> assumption
theorem zn_sr {k j : Nat} (hk : k < 32) (hj : j < 5) : ((nI k >>> (nI j &&& 31)) &&& 1) = 1 ↔ k.testBit j = true := by
  rw [pk_shrN (by omega) _ j (s_l j (by omega))]
  have h1 : k / 2 ^ j ≤ k := Nat.div_le_self _ _
  show nI (k / 2 ^ j) &&& nI 1 = nI 1 ↔ _
  rw [nx_and, Nat.and_one_is_mod, nI_eq (by omega) (by omega), Nat.testBit_eq_decide_div_mod_eq, decide_eq_true_iff]
end
section
/-! plans: digits, values, feasible numbers -/
def zd_dg (n w : Nat) : Nat := n / 5 ^ (4 - w) % 5
theorem zd_lt (n w : Nat) : zd_dg n w < 5 := Nat.mod_lt _ (by decide)
theorem zd_d0 (n : Nat) : zd_dg n 0 = n / 625 % 5 := rfl
theorem zd_d1 (n : Nat) : zd_dg n 1 = n / 125 % 5 := rfl
theorem zd_d2 (n : Nat) : zd_dg n 2 = n / 25 % 5 := rfl
theorem zd_d3 (n : Nat) : zd_dg n 3 = n / 5 % 5 := rfl
theorem zd_d4 (n : Nat) : zd_dg n 4 = n % 5 := by
  show n / 1 % 5 = n % 5
  rw [Nat.div_one]
theorem zd_sum {n : Nat} (h : n < 3125) : n = zd_dg n 0 * 625 + zd_dg n 1 * 125 + zd_dg n 2 * 25 + zd_dg n 3 * 5 + zd_dg n 4 := by
  rw [zd_d0, zd_d1, zd_d2, zd_d3, zd_d4]
  omega
theorem zd_ext {n m : Nat} (hn : n < 3125) (hm : m < 3125) (h : ∀ w, w < 5 → zd_dg n w = zd_dg m w) : n = m := by
  have a := zd_sum hn
  have b := zd_sum hm
  rw [h 0 (by omega), h 1 (by omega), h 2 (by omega), h 3 (by omega), h 4 (by omega)] at a
  omega
theorem zd_mk {a b c d e : Nat} (ha : a < 5) (hb : b < 5) (hc : c < 5) (hd : d < 5) (he : e < 5) :
    ∃ n, n < 3125 ∧ zd_dg n 0 = a ∧ zd_dg n 1 = b ∧ zd_dg n 2 = c ∧ zd_dg n 3 = d ∧ zd_dg n 4 = e := by
  refine ⟨a * 625 + b * 125 + c * 25 + d * 5 + e, by omega, ?_, ?_, ?_, ?_, ?_⟩
  · rw [zd_d0]; omega
  · rw [zd_d1]; omega
  · rw [zd_d2]; omega
  · rw [zd_d3]; omega
  · rw [zd_d4]; omega
def zd_sm (g : Nat → Nat) (n : Nat) : Nat → Nat
  | 0 => 0
  | w + 1 => zd_sm g n w + g (5 * w + zd_dg n w)
def zd_vl (g : Nat → Nat) (n : Nat) : Nat := 3125 * zd_sm g n 5 + n
def zd_inj (n : Nat) : Prop := ∀ w w', w < 5 → w' < 5 → zd_dg n w = zd_dg n w' → w = w'
def zd_fe (g : Nat → Nat) (n : Nat) : Prop := n < 3125 ∧ zd_inj n ∧ ∀ w, w < 5 → g (5 * w + zd_dg n w) ≤ 99
theorem zd_sm5 (g : Nat → Nat) (n : Nat) : zd_sm g n 5 = g (5 * 0 + zd_dg n 0) + g (5 * 1 + zd_dg n 1) + g (5 * 2 + zd_dg n 2) + g (5 * 3 + zd_dg n 3) + g (5 * 4 + zd_dg n 4) := by
  show 0 + _ + _ + _ + _ + _ = _
  rw [Nat.zero_add]
theorem zd_smle {g : Nat → Nat} {n : Nat} : ∀ w, (∀ j, j < w → g (5 * j + zd_dg n j) ≤ 99) → zd_sm g n w ≤ 99 * w := by
  intro w
  induction w with
  | zero => intro _; exact Nat.le_refl _
  | succ w ih =>
    intro h
    have a := ih (fun j hj => h j (by omega))
    have b := h w (by omega)
    show zd_sm g n w + g (5 * w + zd_dg n w) ≤ _
    omega
theorem zd_fe5 {g : Nat → Nat} {n : Nat} (h : zd_fe g n) : zd_sm g n 5 ≤ 495 := zd_smle 5 h.2.2
theorem zd_vmod {g : Nat → Nat} {n : Nat} (h : n < 3125) : zd_vl g n % 3125 = n := by
  unfold zd_vl; omega
theorem zd_vdiv {g : Nat → Nat} {n : Nat} (h : n < 3125) : zd_vl g n / 3125 = zd_sm g n 5 := by
  unfold zd_vl; omega
theorem zd_vinj {g : Nat → Nat} {n m : Nat} (hn : n < 3125) (hm : m < 3125) (h : zd_vl g n = zd_vl g m) : n = m := by
  rw [← zd_vmod (g := g) hn, h, zd_vmod hm]
theorem zd_vlt {g : Nat → Nat} {n : Nat} (h : zd_fe g n) : zd_vl g n < 1600000 := by
  have a := zd_fe5 h
  have b := h.1
  unfold zd_vl; omega
/-! five different numbers below five -/
theorem zd_surj {q : Nat → Nat} (hq : ∀ t, t < 5 → q t < 5) (hi : ∀ s t, s < 5 → t < 5 → q s = q t → s = t) : ∀ w, w < 5 → ∃ t, t < 5 ∧ q t = w := by
  have ne : ∀ s t, s < 5 → t < 5 → s ≠ t → ¬ q s = q t := fun s t hs ht h e => h (hi s t hs ht e)
  have hn : [q 0, q 1, q 2, q 3, q 4].Nodup := by
    simp [ne 0 1 (by decide) (by decide) (by decide), ne 0 2 (by decide) (by decide) (by decide), ne 0 3 (by decide) (by decide) (by decide), ne 0 4 (by decide) (by decide) (by decide), ne 1 2 (by decide) (by decide) (by decide), ne 1 3 (by decide) (by decide) (by decide), ne 1 4 (by decide) (by decide) (by decide), ne 2 3 (by decide) (by decide) (by decide), ne 2 4 (by decide) (by decide) (by decide), ne 3 4 (by decide) (by decide) (by decide)]
  intro w hw
  have hm : ∀ x, x ∈ [q 0, q 1, q 2, q 3, q 4] → x < 5 := by
    intro x hx
    simp only [List.mem_cons, List.not_mem_nil, or_false] at hx
    rcases hx with rfl | rfl | rfl | rfl | rfl
    · exact hq 0 (by decide)
    · exact hq 1 (by decide)
    · exact hq 2 (by decide)
    · exact hq 3 (by decide)
    · exact hq 4 (by decide)
  have h := covers_all 5 _ hn hm rfl w hw
  simp only [List.mem_cons, List.not_mem_nil, or_false] at h
  rcases h with h | h | h | h | h
  · exact ⟨0, by decide, h.symm⟩
  · exact ⟨1, by decide, h.symm⟩
  · exact ⟨2, by decide, h.symm⟩
  · exact ⟨3, by decide, h.symm⟩
  · exact ⟨4, by decide, h.symm⟩
theorem zd_perm {q : Nat → Nat} (hq : ∀ t, t < 5 → q t < 5) (hi : ∀ s t, s < 5 → t < 5 → q s = q t → s = t) (f : Nat → Int) :
    f (q 0) + f (q 1) + f (q 2) + f (q 3) + f (q 4) = f 0 + f 1 + f 2 + f 3 + f 4 := by
  have hs := zd_surj hq hi
  have e : ∃ e : Nat → Nat → Int, (∀ w t, q t = w → e w t = f w) ∧ (∀ w t, ¬ q t = w → e w t = 0) :=
    ⟨fun w t => if q t = w then f w else 0, fun w t h => if_pos h, fun w t h => if_neg h⟩
  obtain ⟨e, ey, en⟩ := e
  have h1 : ∀ t, t < 5 → f (q t) = e 0 t + e 1 t + e 2 t + e 3 t + e 4 t := by
    intro t ht
    have hb := hq t ht
    generalize hz : q t = z at hb
    have : z = 0 ∨ z = 1 ∨ z = 2 ∨ z = 3 ∨ z = 4 := by omega
    rcases this with rfl | rfl | rfl | rfl | rfl
    · rw [ey 0 t hz, en 1 t (by omega), en 2 t (by omega), en 3 t (by omega), en 4 t (by omega)]; omega
    · rw [ey 1 t hz, en 0 t (by omega), en 2 t (by omega), en 3 t (by omega), en 4 t (by omega)]; omega
    · rw [ey 2 t hz, en 1 t (by omega), en 0 t (by omega), en 3 t (by omega), en 4 t (by omega)]; omega
    · rw [ey 3 t hz, en 1 t (by omega), en 2 t (by omega), en 0 t (by omega), en 4 t (by omega)]; omega
    · rw [ey 4 t hz, en 1 t (by omega), en 2 t (by omega), en 3 t (by omega), en 0 t (by omega)]; omega
  have h2 : ∀ w, w < 5 → e w 0 + e w 1 + e w 2 + e w 3 + e w 4 = f w := by
    intro w hw
    obtain ⟨t, ht, hz⟩ := hs w hw
    have no : ∀ s, s < 5 → s ≠ t → e w s = 0 := fun s hs' h => en w s (fun z => h (hi s t hs' ht (z.trans hz.symm)))
    have ye := ey w t hz
    have : t = 0 ∨ t = 1 ∨ t = 2 ∨ t = 3 ∨ t = 4 := by omega
    rcases this with rfl | rfl | rfl | rfl | rfl
    · rw [ye, no 1 (by decide) (by decide), no 2 (by decide) (by decide), no 3 (by decide) (by decide), no 4 (by decide) (by decide)]; omega
    · rw [ye, no 0 (by decide) (by decide), no 2 (by decide) (by decide), no 3 (by decide) (by decide), no 4 (by decide) (by decide)]; omega
    · rw [ye, no 1 (by decide) (by decide), no 0 (by decide) (by decide), no 3 (by decide) (by decide), no 4 (by decide) (by decide)]; omega
    · rw [ye, no 1 (by decide) (by decide), no 2 (by decide) (by decide), no 0 (by decide) (by decide), no 4 (by decide) (by decide)]; omega
    · rw [ye, no 1 (by decide) (by decide), no 2 (by decide) (by decide), no 3 (by decide) (by decide), no 0 (by decide) (by decide)]; omega
  rw [h1 0 (by decide), h1 1 (by decide), h1 2 (by decide), h1 3 (by decide), h1 4 (by decide), ← h2 0 (by decide), ← h2 1 (by decide), ← h2 2 (by decide), ← h2 3 (by decide), ← h2 4 (by decide)]
  omega
/-! the pairs' values, and what the least sum of them says -/
def zd_C (g : Nat → Nat) (op : Nat → Nat → Bool) (w t : Nat) : Nat := if g (5 * w + t) ≤ 99 ∧ op w t = true then 3125 * g (5 * w + t) + t * 5 ^ (4 - w) else 1000000000
theorem zd_Cp {g : Nat → Nat} {op : Nat → Nat → Bool} {w t : Nat} (h : g (5 * w + t) ≤ 99) (h2 : op w t = true) : zd_C g op w t = 3125 * g (5 * w + t) + t * 5 ^ (4 - w) := if_pos ⟨h, h2⟩
theorem zd_Cn {g : Nat → Nat} {op : Nat → Nat → Bool} {w t : Nat} (h : ¬ (g (5 * w + t) ≤ 99 ∧ op w t = true)) : zd_C g op w t = 1000000000 := if_neg h
theorem zd_Cle {g : Nat → Nat} {op : Nat → Nat → Bool} {w t : Nat} (ht : t < 5) : zd_C g op w t ≤ 1000000000 := by
  by_cases h : g (5 * w + t) ≤ 99 ∧ op w t = true
  · rw [zd_Cp h.1 h.2]
    have a : 5 ^ (4 - w) ≤ 5 ^ 4 := Nat.pow_le_pow_right (by decide) (by omega)
    have b : t * 5 ^ (4 - w) ≤ 4 * 5 ^ 4 := Nat.mul_le_mul (by omega) a
    have c := h.1
    omega
  · rw [zd_Cn h]; omega
theorem zd_Clt {g : Nat → Nat} {op : Nat → Nat → Bool} {w t : Nat} (h : zd_C g op w t < 1000000000) : g (5 * w + t) ≤ 99 ∧ op w t = true := by
  by_cases z : g (5 * w + t) ≤ 99 ∧ op w t = true
  · exact z
  · rw [zd_Cn z] at h; omega
def zd_Res (g : Nat → Nat) (Inn : Nat → Prop) (T : Nat) : Prop :=
  (T < 1000000000 ∧ ∃ m, zd_fe g m ∧ Inn m ∧ T = zd_vl g m ∧ ∀ n, zd_fe g n → Inn n → zd_vl g m ≤ zd_vl g n) ∨ (1000000000 ≤ T ∧ T ≤ 5000000000 ∧ ∀ n, zd_fe g n → ¬ Inn n)
theorem zd_Csum {g : Nat → Nat} {op : Nat → Nat → Bool} {n : Nat} (h : zd_fe g n) (hn : ∀ w, w < 5 → op w (zd_dg n w) = true) :
    zd_C g op 0 (zd_dg n 0) + zd_C g op 1 (zd_dg n 1) + zd_C g op 2 (zd_dg n 2) + zd_C g op 3 (zd_dg n 3) + zd_C g op 4 (zd_dg n 4) = zd_vl g n := by
  rw [zd_Cp (h.2.2 0 (by decide)) (hn 0 (by decide)), zd_Cp (h.2.2 1 (by decide)) (hn 1 (by decide)), zd_Cp (h.2.2 2 (by decide)) (hn 2 (by decide)), zd_Cp (h.2.2 3 (by decide)) (hn 3 (by decide)), zd_Cp (h.2.2 4 (by decide)) (hn 4 (by decide))]
  have s := zd_sum h.1
  have e0 : (5 : Nat) ^ (4 - 0) = 625 := by decide
  have e1 : (5 : Nat) ^ (4 - 1) = 125 := by decide
  have e2 : (5 : Nat) ^ (4 - 2) = 25 := by decide
  have e3 : (5 : Nat) ^ (4 - 3) = 5 := by decide
  have e4 : (5 : Nat) ^ (4 - 4) = 1 := by decide
  rw [e0, e1, e2, e3, e4]
  unfold zd_vl
  rw [zd_sm5]
  omega
theorem zd_res {g : Nat → Nat} {op : Nat → Nat → Bool} {q : Nat → Nat} {T : Nat} (hq : ∀ t, t < 5 → q t < 5) (hi : ∀ s t, s < 5 → t < 5 → q s = q t → s = t)
    (hT : T = zd_C g op (q 0) 0 + zd_C g op (q 1) 1 + zd_C g op (q 2) 2 + zd_C g op (q 3) 3 + zd_C g op (q 4) 4)
    (ho : ∀ d : Nat → Nat, (∀ w, w < 5 → d w < 5) → (∀ s t, s < 5 → t < 5 → d s = d t → s = t) → T ≤ zd_C g op 0 (d 0) + zd_C g op 1 (d 1) + zd_C g op 2 (d 2) + zd_C g op 3 (d 3) + zd_C g op 4 (d 4)) :
    zd_Res g (fun n => ∀ w, w < 5 → op w (zd_dg n w) = true) T := by
  have hA : ∀ n, zd_fe g n → (∀ w, w < 5 → op w (zd_dg n w) = true) → T ≤ zd_vl g n := by
    intro n hn hw
    rw [← zd_Csum hn hw]
    exact ho (zd_dg n) (fun w _ => zd_lt n w) hn.2.1
  by_cases hz : T < 1000000000
  · left
    refine ⟨hz, ?_⟩
    have hs := zd_surj hq hi
    obtain ⟨t0, b0, e0⟩ := hs 0 (by decide)
    obtain ⟨t1, b1, e1⟩ := hs 1 (by decide)
    obtain ⟨t2, b2, e2⟩ := hs 2 (by decide)
    obtain ⟨t3, b3, e3⟩ := hs 3 (by decide)
    obtain ⟨t4, b4, e4⟩ := hs 4 (by decide)
    obtain ⟨m, hm, m0, m1, m2, m3, m4⟩ := zd_mk b0 b1 b2 b3 b4
    have hd : ∀ w, w < 5 → q (zd_dg m w) = w := zn_ch5 (P := fun w => q (zd_dg m w) = w) (by rw [m0]; exact e0) (by rw [m1]; exact e1) (by rw [m2]; exact e2) (by rw [m3]; exact e3) (by rw [m4]; exact e4)
    have hop : ∀ t, t < 5 → zd_C g op (q t) t < 1000000000 := zn_ch5 (P := fun t => zd_C g op (q t) t < 1000000000) (by omega) (by omega) (by omega) (by omega) (by omega)
    have hop2 : ∀ w, w < 5 → g (5 * w + zd_dg m w) ≤ 99 ∧ op w (zd_dg m w) = true := by
      intro w hw
      have h := hop (zd_dg m w) (zd_lt m w)
      rw [hd w hw] at h
      exact zd_Clt h
    have hin : zd_inj m := by
      intro w w' hw hw' h
      rw [← hd w hw, h, hd w' hw']
    have hfe : zd_fe g m := ⟨hm, hin, fun w hw => (hop2 w hw).1⟩
    have hin2 : ∀ w, w < 5 → op w (zd_dg m w) = true := fun w hw => (hop2 w hw).2
    have hback : ∀ t, t < 5 → zd_dg m (q t) = t := fun t ht => hi _ _ (zd_lt m _) ht (hd (q t) (hq t ht))
    have hv : T = zd_vl g m := by
      have hp := zd_perm hq hi (fun w => ((zd_C g op w (zd_dg m w) : Nat) : Int))
      rw [hback 0 (by decide), hback 1 (by decide), hback 2 (by decide), hback 3 (by decide), hback 4 (by decide)] at hp
      have hc := zd_Csum hfe hin2
      omega
    exact ⟨m, hfe, hin2, hv, fun n hn hw => by rw [← hv]; exact hA n hn hw⟩
  · right
    refine ⟨by omega, ?_, ?_⟩
    · have c0 := zd_Cle (g := g) (op := op) (w := q 0) (t := 0) (by decide)
      have c1 := zd_Cle (g := g) (op := op) (w := q 1) (t := 1) (by decide)
      have c2 := zd_Cle (g := g) (op := op) (w := q 2) (t := 2) (by decide)
      have c3 := zd_Cle (g := g) (op := op) (w := q 3) (t := 3) (by decide)
      have c4 := zd_Cle (g := g) (op := op) (w := q 4) (t := 4) (by decide)
      omega
    · intro n hn hw
      have a := hA n hn hw
      have b := zd_vlt hn
      omega
end
section
/-! at most 120 numbers have five different digits -/
def zd_ib5 (a b c d e : Nat) : Bool := a != b && a != c && a != d && a != e && b != c && b != d && b != e && c != d && c != e && d != e
def zd_ib (n : Nat) : Bool := zd_ib5 (n / 625 % 5) (n / 125 % 5) (n / 25 % 5) (n / 5 % 5) (n % 5)
def zd_cn : Nat → Nat
  | 0 => 0
  | m + 1 => zd_cn m + (zd_ib m).toNat
def zd_bl (s : Nat) : Nat → Nat
  | 0 => 0
  | l + 1 => zd_bl s l + (zd_ib (s + l)).toNat
theorem zd_cnbl (s : Nat) : ∀ l, zd_cn (s + l) = zd_cn s + zd_bl s l := by
  intro l
  induction l with
  | zero => rfl
  | succ l ih =>
    show zd_cn (s + l) + (zd_ib (s + l)).toNat = zd_cn s + (zd_bl s l + (zd_ib (s + l)).toNat)
    omega
theorem zd_b0 : zd_bl 0 625 = 24 := by decide +kernel
theorem zd_b1 : zd_bl 625 625 = 24 := by decide +kernel
theorem zd_b2 : zd_bl 1250 625 = 24 := by decide +kernel
theorem zd_b3 : zd_bl 1875 625 = 24 := by decide +kernel
theorem zd_b4 : zd_bl 2500 625 = 24 := by decide +kernel
theorem zd_cn120 : zd_cn 3125 = 120 := by
  have e0 : zd_cn 625 = zd_cn 0 + zd_bl 0 625 := by have h := zd_cnbl 0 625; rwa [Nat.zero_add] at h
  have e1 : zd_cn 1250 = zd_cn 625 + zd_bl 625 625 := zd_cnbl 625 625
  have e2 : zd_cn 1875 = zd_cn 1250 + zd_bl 1250 625 := zd_cnbl 1250 625
  have e3 : zd_cn 2500 = zd_cn 1875 + zd_bl 1875 625 := zd_cnbl 1875 625
  have e4 : zd_cn 3125 = zd_cn 2500 + zd_bl 2500 625 := zd_cnbl 2500 625
  have z : zd_cn 0 = 0 := rfl
  rw [e4, e3, e2, e1, e0, zd_b0, zd_b1, zd_b2, zd_b3, zd_b4, z]
theorem zd_cnle {m : Nat} (h : m ≤ 3125) : zd_cn m ≤ 120 := by
  have e := zd_cnbl m (3125 - m)
  rw [show m + (3125 - m) = 3125 from by omega, zd_cn120] at e
  omega
theorem zd_ibt {n : Nat} (h : zd_inj n) : zd_ib n = true := by
  have ne : ∀ s t, s < 5 → t < 5 → s ≠ t → zd_dg n s ≠ zd_dg n t := fun s t hs ht hn e => hn (h s t hs ht e)
  have e : zd_ib n = zd_ib5 (zd_dg n 0) (zd_dg n 1) (zd_dg n 2) (zd_dg n 3) (zd_dg n 4) := by
    rw [zd_d4]; rfl
  rw [e]
  simp only [zd_ib5, Bool.and_eq_true, bne_iff_ne]
  exact ⟨⟨⟨⟨⟨⟨⟨⟨⟨ne 0 1 (by decide) (by decide) (by decide), ne 0 2 (by decide) (by decide) (by decide)⟩, ne 0 3 (by decide) (by decide) (by decide)⟩, ne 0 4 (by decide) (by decide) (by decide)⟩, ne 1 2 (by decide) (by decide) (by decide)⟩, ne 1 3 (by decide) (by decide) (by decide)⟩, ne 1 4 (by decide) (by decide) (by decide)⟩, ne 2 3 (by decide) (by decide) (by decide)⟩, ne 2 4 (by decide) (by decide) (by decide)⟩, ne 3 4 (by decide) (by decide) (by decide)⟩
theorem zd_cnS {m : Nat} (h : zd_inj m) : zd_cn (m + 1) = zd_cn m + 1 := by
  show zd_cn m + (zd_ib m).toNat = _
  rw [zd_ibt h]; rfl
theorem zd_cnM (m : Nat) : zd_cn m ≤ zd_cn (m + 1) := Nat.le_add_right _ _
/-! the feasible numbers below m in the order of their values -/
def zd_En (g : Nat → Nat) (m : Nat) (A : Nat → Nat) (K : Nat) : Prop :=
  K ≤ zd_cn m ∧ (∀ i j, i < j → j < K → A i < A j) ∧ (∀ i, i < K → ∃ n, n < m ∧ zd_fe g n ∧ A i = zd_vl g n) ∧ (∀ n, n < m → zd_fe g n → ∃ i, i < K ∧ A i = zd_vl g n)
theorem zd_En0 (g : Nat → Nat) (A : Nat → Nat) : zd_En g 0 A 0 :=
  ⟨Nat.zero_le _, fun _ _ _ h => absurd h (by omega), fun _ h => absurd h (by omega), fun _ h => absurd h (by omega)⟩
theorem zd_EnS {g : Nat → Nat} {m : Nat} {A : Nat → Nat} {K : Nat} (h : zd_En g m A K) (hn : ¬ zd_fe g m) : zd_En g (m + 1) A K := by
  refine ⟨Nat.le_trans h.1 (zd_cnM m), h.2.1, ?_, ?_⟩
  · intro i hi
    obtain ⟨n, a, b, c⟩ := h.2.2.1 i hi
    exact ⟨n, by omega, b, c⟩
  · intro n a b
    by_cases e : n = m
    · subst e; exact absurd b hn
    · exact h.2.2.2 n (by omega) b
def zd_ins (A : Nat → Nat) (p x : Nat) : Nat → Nat := fun i => if i < p then A i else if i = p then x else A (i - 1)
theorem zd_i1 {A : Nat → Nat} {p x i : Nat} (h : i < p) : zd_ins A p x i = A i := if_pos h
theorem zd_i2 {A : Nat → Nat} {p x : Nat} : zd_ins A p x p = x := by
  unfold zd_ins
  rw [if_neg (by omega), if_pos rfl]
theorem zd_i3 {A : Nat → Nat} {p x i : Nat} (h : p < i) : zd_ins A p x i = A (i - 1) := by
  unfold zd_ins
  rw [if_neg (by omega), if_neg (by omega)]
theorem zd_EnI {g : Nat → Nat} {m : Nat} {A : Nat → Nat} {K p : Nat} (h : zd_En g m A K) (hf : zd_fe g m) (hp : p ≤ K)
    (h1 : ∀ i, i < p → A i < zd_vl g m) (h2 : ∀ i, p ≤ i → i < K → zd_vl g m < A i) : zd_En g (m + 1) (zd_ins A p (zd_vl g m)) (K + 1) := by
  refine ⟨by rw [zd_cnS hf.2.1]; exact Nat.succ_le_succ h.1, ?_, ?_, ?_⟩
  · intro i j hij hj
    rcases Nat.lt_trichotomy j p with a | a | a
    · rw [zd_i1 a, zd_i1 (by omega)]
      exact h.2.1 i j hij (by omega)
    · subst a
      rw [zd_i2, zd_i1 hij]
      exact h1 i hij
    · rw [zd_i3 a]
      rcases Nat.lt_trichotomy i p with b | b | b
      · rw [zd_i1 b]
        exact h.2.1 i (j - 1) (by omega) (by omega)
      · subst b
        rw [zd_i2]
        exact h2 (j - 1) (by omega) (by omega)
      · rw [zd_i3 b]
        exact h.2.1 (i - 1) (j - 1) (by omega) (by omega)
  · intro i hi
    rcases Nat.lt_trichotomy i p with b | b | b
    · rw [zd_i1 b]
      obtain ⟨n, a, c, e⟩ := h.2.2.1 i (by omega)
      exact ⟨n, by omega, c, e⟩
    · subst b
      exact ⟨m, by omega, hf, zd_i2⟩
    · rw [zd_i3 b]
      obtain ⟨n, a, c, e⟩ := h.2.2.1 (i - 1) (by omega)
      exact ⟨n, by omega, c, e⟩
  · intro n hn hf'
    by_cases e : n = m
    · subst e
      exact ⟨p, by omega, zd_i2⟩
    · obtain ⟨i, hi, e2⟩ := h.2.2.2 n (by omega) hf'
      by_cases z : i < p
      · exact ⟨i, by omega, by rw [zd_i1 z]; exact e2⟩
      · exact ⟨i + 1, by omega, by rw [zd_i3 (by omega)]; exact e2⟩
theorem zd_pos {A : Nat → Nat} {x : Nat} : ∀ K, (∀ i j, i < j → j < K → A i < A j) → (∀ i, i < K → A i ≠ x) → ∃ p, p ≤ K ∧ (∀ i, i < p → A i < x) ∧ (∀ i, p ≤ i → i < K → x < A i) := by
  intro K
  induction K with
  | zero => intro _ _; exact ⟨0, by omega, fun _ h => absurd h (by omega), fun _ _ h => absurd h (by omega)⟩
  | succ K ih =>
    intro hs hn
    by_cases z : A K < x
    · refine ⟨K + 1, by omega, ?_, fun _ _ _ => by omega⟩
      intro i hi
      by_cases e : i = K
      · subst e; exact z
      · exact Nat.lt_trans (hs i K (by omega) (by omega)) z
    · obtain ⟨p, hp, a, b⟩ := ih (fun i j hij hj => hs i j hij (by omega)) (fun i hi => hn i (by omega))
      refine ⟨p, by omega, a, ?_⟩
      intro i hi hk
      by_cases e : i = K
      · subst e
        have := hn i (by omega)
        omega
      · exact b i hi (by omega)
theorem zd_EnU {g : Nat → Nat} {m : Nat} {A A' : Nat → Nat} {K K' : Nat} (h : zd_En g m A K) (h' : zd_En g m A' K') : ∀ i, i < K → i < K' ∧ A i = A' i := by
  intro i
  induction i using Nat.strongRecOn with
  | ind i ih =>
    intro hi
    obtain ⟨n, hn, hf, e⟩ := h.2.2.1 i hi
    obtain ⟨k, hk, ek⟩ := h'.2.2.2 n hn hf
    have k1 : i ≤ k := by
      by_cases z : k < i
      · have a := (ih k z (by omega)).2
        have b := h.2.1 k i z hi
        omega
      · omega
    have iK : i < K' := by omega
    refine ⟨iK, ?_⟩
    have c1 : A' i ≤ A' k := by
      by_cases z : i = k
      · subst z; exact Nat.le_refl _
      · exact Nat.le_of_lt (h'.2.1 i k (by omega) hk)
    obtain ⟨n2, hn2, hf2, e2⟩ := h'.2.2.1 i iK
    obtain ⟨l, hl, el⟩ := h.2.2.2 n2 hn2 hf2
    have l1 : i ≤ l := by
      by_cases z : l < i
      · have a := (ih l z hl).2
        have b := h'.2.1 l i z iK
        omega
      · omega
    have c2 : A i ≤ A l := by
      by_cases z : i = l
      · subst z; exact Nat.le_refl _
      · exact Nat.le_of_lt (h.2.1 i l (by omega) hl)
    omega
theorem zd_EnK {g : Nat → Nat} {m : Nat} {A A' : Nat → Nat} {K K' : Nat} (h : zd_En g m A K) (h' : zd_En g m A' K') : K = K' := by
  have a : K ≤ K' := by
    by_cases z : K ≤ K'
    · exact z
    · have := (zd_EnU h h' K' (by omega)).1
      omega
  have b : K' ≤ K := by
    by_cases z : K' ≤ K
    · exact z
    · have := (zd_EnU h' h K (by omega)).1
      omega
  omega
theorem zd_Enb {g : Nat → Nat} {m : Nat} {A : Nat → Nat} {K i : Nat} (h : zd_En g m A K) (hi : i < K) : A i < 1600000 := by
  obtain ⟨n, _, hf, e⟩ := h.2.2.1 i hi
  rw [e]; exact zd_vlt hf
end
section
/-! the reference's walks -/
theorem zy_rem5 {a : Nat} (h : a < 2 ^ 31) : nI a - nI a / 5 * 5 = nI (a % 5) := pk_rem h (by decide) (by decide)
theorem zy_dg4 {post : Int32 → Prop} {n : Nat} (hn : n < 2 ^ 31) : ∀ d k u, k + d = 4 → 0 < u → u * 5 ^ d < 2 ^ 31 → post (nI (n / (u * 5 ^ d) % 5)) → wY_digit_4 post (nI n) (d + 1) (nI u) (nI k) := by
  intro d
  induction d with
  | zero =>
    intro k u hk hu hb hp
    obtain rfl : k = 4 := by omega
    rw [Nat.pow_zero, Nat.mul_one] at hp hb
    refine br_t (by decide) (br_f (nI_nle hu hb) ⟨nI_ne0 hu hb, by decide, ?_⟩)
    rw [pk_div hn hu hb, zy_rem5 (Nat.lt_of_le_of_lt (Nat.div_le_self _ _) hn)]
    exact hp
  | succ d ih =>
    intro k u hk hu hb hp
    refine pk_le 4 k (fun h => absurd h (by omega)) (fun _ => ?_)
    have e : u * 5 ^ (d + 1) = (5 * u) * 5 ^ d := by
      rw [Nat.pow_succ, Nat.mul_comm (5 ^ d) 5, ← Nat.mul_assoc, Nat.mul_comm u 5]
    rw [e] at hp hb
    exact nm_r (pk_mul 5 u) (nm_r (nI_1 k) (ih (k + 1) (5 * u) (by omega) (by omega) hb hp))
theorem zy_dg {post : Int32 → Prop} {n w : Nat} (hn : n < 2 ^ 31) (hw : w < 5) (hp : post (nI (zd_dg n w))) : wpY_digit post (nI n) (nI w) := by
  have hb : 1 * 5 ^ (4 - w) < 2 ^ 31 := by
    have a : 5 ^ (4 - w) ≤ 5 ^ 4 := Nat.pow_le_pow_right (by decide) (by omega)
    omega
  refine ⟨4 - w + 1, zy_dg4 hn (4 - w) w 1 (by omega) (by decide) hb ?_⟩
  rw [Nat.one_mul]
  exact hp
def zy_Ps (g : Nat → Nat) (ps : Nat → Int32) : Prop := ∀ j, j < 25 → (g j ≤ 99 → ps j = nI (g j)) ∧ (¬ g j ≤ 99 → ps j = -1)
theorem zy_ix (w t : Nat) : (5 : Int32) * nI w + nI t = nI (5 * w + t) := by
  rw [show (5 : Int32) * nI w = nI (5 * w) from pk_mul 5 w, nI_add]
theorem zy_co7 {g : Nat → Nat} {ct : Int32} {ps nu co : Nat → Int32} (hps : zy_Ps g ps) {post : Int32 → Prop} {n : Nat} (hn : n < 3125)
    (hy : zd_fe g n → post (nI (zd_sm g n 5))) (hno : ¬ zd_fe g n → post (-1)) :
    ∀ d w sn, w + d = 5 → sn < 32 → (∀ t, t < 5 → (sn.testBit t = true ↔ ∃ j, j < w ∧ zd_dg n j = t)) → (∀ j, j < w → g (5 * j + zd_dg n j) ≤ 99) →
    (∀ i j, i < w → j < w → zd_dg n i = zd_dg n j → i = j) → wY_costOf_7 post (nI n) ct ps nu co (d + 1) (nI sn) (nI (zd_sm g n w)) (nI w) := by
  intro d
  induction d with
  | zero =>
    intro w sn hw hs hb hg hi
    obtain rfl : w = 5 := by omega
    exact br_t (by decide) (hy ⟨hn, hi, hg⟩)
  | succ d ih =>
    intro w sn hw hs hb hg hi
    refine pk_le 5 w (fun h => absurd h (by omega)) (fun _ => ?_)
    refine zy_dg (by omega) (by omega) ?_
    have ht := zd_lt n w
    have hix : 5 * w + zd_dg n w < 25 := by omega
    by_cases z : sn.testBit (zd_dg n w) = true
    · refine br_t ((zn_sr hs ht).mpr z) (hno ?_)
      intro hf
      obtain ⟨j, hj, e⟩ := (hb _ ht).mp z
      have := hf.2.1 j w (by omega) (by omega) e
      omega
    · refine br_f (fun h => z ((zn_sr hs ht).mp h)) ?_
      rw [zy_ix, nI_clamp (n := 5 * w + zd_dg n w) (by omega)]
      have hv : vp_in (nI (5 * w + zd_dg n w)) 25 := vp_in_nI hix (by omega)
      refine ⟨hv, ?_⟩
      by_cases hgz : g (5 * w + zd_dg n w) ≤ 99
      · rw [(hps _ hix).1 hgz]
        refine br_t (nI_pos' (by omega)) ?_
        refine nm_r (e' := nI (sn ||| 2 ^ zd_dg n w)) (by rw [zn_sh1 _ ht, zn_or]) ⟨hv, ?_⟩
        refine nm_r (e' := nI (zd_sm g n (w + 1))) (nI_add _ _) (nm_r (nI_1 w) ?_)
        refine ih (w + 1) (sn ||| 2 ^ zd_dg n w) (by omega) ?_ ?_ ?_ ?_
        · exact Nat.or_lt_two_pow (n := 5) hs (Nat.pow_lt_pow_right (by decide) ht)
        · intro t h5
          rw [Nat.testBit_or, Bool.or_eq_true, hb t h5, Nat.testBit_two_pow, decide_eq_true_iff]
          constructor
          · rintro (⟨j, hj, e⟩ | e)
            · exact ⟨j, by omega, e⟩
            · exact ⟨w, by omega, e⟩
          · rintro ⟨j, hj, e⟩
            by_cases q : j = w
            · subst q; exact Or.inr e
            · exact Or.inl ⟨j, by omega, e⟩
        · intro j hj
          by_cases q : j = w
          · subst q; exact hgz
          · exact hg j (by omega)
        · intro i j hi' hj e
          have no : ∀ k, k < w → zd_dg n k = zd_dg n w → False := fun k hk e => z ((hb _ ht).mpr ⟨k, hk, e⟩)
          by_cases q : i = w
          · subst q
            by_cases q2 : j = i
            · exact q2.symm
            · exact (no j (by omega) e.symm).elim
          · by_cases q2 : j = w
            · subst q2
              exact (no i (by omega) e).elim
            · exact hi i j (by omega) (by omega) e
      · rw [(hps _ hix).2 hgz]
        exact br_f (by decide) (hno (fun hf => hgz (hf.2.2 w (by omega))))
theorem zy_co {g : Nat → Nat} {ct : Int32} {ps nu co : Nat → Int32} (hps : zy_Ps g ps) {post : Int32 → Prop} {n : Nat} (hn : n < 3125)
    (hy : zd_fe g n → post (nI (zd_sm g n 5))) (hno : ¬ zd_fe g n → post (-1)) : wpY_costOf post (ct, ps, nu, co) (nI n) := by
  refine ⟨6, zy_co7 hps hn hy hno 5 0 0 rfl (by decide) ?_ ?_ ?_⟩
  · intro t _
    rw [Nat.zero_testBit]
    constructor
    · intro h; cases h
    · rintro ⟨j, hj, _⟩; omega
  · intro j hj; omega
  · intro i j hi; omega
def zy_Mt (A : Nat → Nat) (K : Nat) (nu co : Nat → Int32) : Prop := ∀ i, i < K → nu i = nI (A i % 3125) ∧ co i = nI (A i / 3125)
theorem zy_79 {post : SY → Prop} {J7 : Int32 → Int32 → (Nat → Int32) → (Nat → Int32) → (Nat → Int32) → Prop} {m c K a : Nat} {ps nu co : Nat → Int32} (ha : a < 120)
    (h : J7 (nI (m + 1)) (nI (K + 1)) ps (upd nu a (nI m)) (upd co a (nI c))) : wY_list_79 post J7 (nI m) (nI c) (nI a) (nI K) ps nu co := by
  have hv : vp_in (nI a) 120 := vp_in_nI ha (by omega)
  unfold wY_list_79
  rw [nI_clamp (n := a) (by omega)]
  exact ⟨hv, nm_e ⟨hv, nm_e (nm_r (nI_1 K) (nm_r (nI_1 m) h))⟩⟩
theorem zy_29 {g : Nat → Nat} {post : SY → Prop} {J7 : Int32 → Int32 → (Nat → Int32) → (Nat → Int32) → (Nat → Int32) → Prop} {m K p : Nat} {A : Nat → Nat} {ps : Nat → Int32}
    (hm : m < 3125) (hf : zd_fe g m) (hE : zd_En g m A K) (hK : K < 120) (h1 : ∀ i, i < p → A i < zd_vl g m) (h2 : ∀ i, p ≤ i → i < K → zd_vl g m < A i)
    (h : ∀ nu co, zy_Mt (zd_ins A p (zd_vl g m)) (K + 1) nu co → J7 (nI (m + 1)) (nI (K + 1)) ps nu co) :
    ∀ a nu co, p ≤ a → a ≤ K → (∀ i, i < a → nu i = nI (A i % 3125) ∧ co i = nI (A i / 3125)) → (∀ i, a < i → i ≤ K → nu i = nI (A (i - 1) % 3125) ∧ co i = nI (A (i - 1) / 3125)) →
    wY_list_29 post J7 (nI m) (nI (zd_sm g m 5)) (nI K) (a + 1) (nI a) ps nu co := by
  have hs := zd_fe5 hf
  have hvl : zd_vl g m = 3125 * zd_sm g m 5 + m := rfl
  have hcmp : ∀ i, i < K → A i < 1600000 ∧ (A i < zd_vl g m → A i / 3125 ≤ zd_sm g m 5) ∧ (zd_vl g m < A i → zd_sm g m 5 < A i / 3125) := by
    intro i hi
    obtain ⟨n, hn, hfn, e⟩ := hE.2.2.1 i hi
    have hb := zd_vlt hfn
    have e2 : zd_vl g n = 3125 * zd_sm g n 5 + n := rfl
    rw [e]
    refine ⟨hb, ?_, ?_⟩ <;> intro hh <;> rw [zd_vdiv (by omega)] <;> omega
  have hfin : ∀ a nu co, p ≤ a → a ≤ p → a ≤ K → (∀ i, i < a → nu i = nI (A i % 3125) ∧ co i = nI (A i / 3125)) → (∀ i, a < i → i ≤ K → nu i = nI (A (i - 1) % 3125) ∧ co i = nI (A (i - 1) / 3125)) →
      wY_list_79 post J7 (nI m) (nI (zd_sm g m 5)) (nI a) (nI K) ps nu co := by
    intro a nu co hpa hap haK hlo hhi
    obtain rfl : a = p := by omega
    refine zy_79 (by omega) (h _ _ ?_)
    intro i hi
    rcases Nat.lt_trichotomy i a with b | b | b
    · rw [pk_un (by omega), pk_un (by omega), zd_i1 b]
      exact hlo i b
    · subst b
      rw [pk_us, pk_us, zd_i2, zd_vmod hm, zd_vdiv hm]
      exact ⟨rfl, rfl⟩
    · rw [pk_un (by omega), pk_un (by omega), zd_i3 b]
      exact hhi i b (by omega)
  intro a
  induction a with
  | zero =>
    intro nu co hpa haK hlo hhi
    exact br_t (by decide) (hfin 0 nu co hpa (by omega) haK hlo hhi)
  | succ a ih =>
    intro nu co hpa haK hlo hhi
    refine br_f (nI_nle (by omega) (by omega)) ?_
    rw [nI_pred a, nI_clamp (n := a) (by omega), nI_clamp (n := a + 1) (by omega)]
    have hv : vp_in (nI a) 120 := vp_in_nI (by omega) (by omega)
    have hv1 : vp_in (nI (a + 1)) 120 := vp_in_nI (by omega) (by omega)
    obtain ⟨e1, e2⟩ := hlo a (by omega)
    obtain ⟨c0, c1, c2⟩ := hcmp a (by omega)
    refine ⟨hv, ?_⟩
    by_cases z : p = a + 1
    · rw [e2]
      refine br_t ((nI_leI (by omega) (by omega)).mpr (c1 (h1 a (by omega)))) ?_
      exact hfin (a + 1) nu co hpa (by omega) haK hlo hhi
    · have c3 := c2 (h2 a (by omega) (by omega))
      rw [e2, e1]
      refine br_f (fun hh => absurd ((nI_leI (by omega) (by omega)).mp hh) (by omega)) ?_
      refine ⟨hv, hv1, nm_e ⟨hv, hv1, nm_e (nm_r (pk_m1 a) ?_)⟩⟩
      refine ih _ _ (by omega) (by omega) ?_ ?_
      · intro i hi
        rw [pk_un (by omega), pk_un (by omega)]
        exact hlo i (by omega)
      · intro i hi hk
        by_cases q : i = a + 1
        · subst q
          rw [pk_us, pk_us]
          exact ⟨rfl, rfl⟩
        · rw [pk_un q, pk_un q]
          exact hhi i (by omega) hk
theorem zy_l7 {g : Nat → Nat} {ps : Nat → Int32} (hps : zy_Ps g ps) : ∀ m, m ≤ 3125 → ∃ A K, zd_En g m A K ∧ ∀ (post : SY → Prop) (nu co : Nat → Int32) (d : Nat),
    (∀ nu' co', zy_Mt A K nu' co' → wY_list_7 post d (nI m) (nI K) ps nu' co') → wY_list_7 post (d + m) 0 0 ps nu co := by
  intro m
  induction m with
  | zero =>
    intro _
    exact ⟨fun _ => 0, 0, zd_En0 g _, fun post nu co d h => h nu co (fun i hi => absurd hi (by omega))⟩
  | succ m ih =>
    intro hm
    obtain ⟨A, K, hE, hW⟩ := ih (by omega)
    by_cases hf : zd_fe g m
    · have hne : ∀ i, i < K → A i ≠ zd_vl g m := by
        intro i hi e
        obtain ⟨n, hn, hfn, e2⟩ := hE.2.2.1 i hi
        have := zd_vinj hfn.1 hf.1 (e2.symm.trans e)
        omega
      obtain ⟨p, hp, h1, h2⟩ := zd_pos K hE.2.1 hne
      have hE' := zd_EnI hE hf hp h1 h2
      have hK : K < 120 := by
        have a := hE'.1
        have b := zd_cnle hm
        omega
      refine ⟨_, _, hE', ?_⟩
      intro post nu co d h
      rw [show d + (m + 1) = (d + 1) + m from by omega]
      refine hW post nu co (d + 1) ?_
      intro nu1 co1 hM
      refine pk_le 3125 m (fun z => absurd z (by omega)) (fun _ => ?_)
      refine zy_co hps (by omega) (fun _ => ?_) (fun z => absurd hf z)
      refine br_f (nI_pos (by have := zd_fe5 hf; omega)) ⟨K + 1, ?_⟩
      refine zy_29 (by omega) hf hE hK h1 h2 (fun nu2 co2 hM2 => h nu2 co2 hM2) K nu1 co1 hp (Nat.le_refl _) hM ?_
      intro i hi hk
      omega
    · refine ⟨A, K, zd_EnS hE hf, ?_⟩
      intro post nu co d h
      rw [show d + (m + 1) = (d + 1) + m from by omega]
      refine hW post nu co (d + 1) ?_
      intro nu1 co1 hM
      refine pk_le 3125 m (fun z => absurd z (by omega)) (fun _ => ?_)
      refine zy_co hps (by omega) (fun z => absurd z hf) (fun _ => ?_)
      exact br_t (by decide) (nm_r (nI_1 m) (h nu1 co1 hM))
theorem zy_list0 {g : Nat → Nat} {ps : Nat → Int32} (hps : zy_Ps g ps) : ∃ A K, zd_En g 3125 A K ∧ ∀ (post : SY → Prop) (ct : Int32) (nu co : Nat → Int32),
    (∀ nu' co', zy_Mt A K nu' co' → post (nI K, ps, nu', co')) → wpY_list post (ct, ps, nu, co) := by
  obtain ⟨A, K, hE, hW⟩ := zy_l7 hps 3125 (Nat.le_refl _)
  refine ⟨A, K, hE, ?_⟩
  intro post ct nu co h
  refine ⟨1 + 3125, hW post nu co 1 ?_⟩
  intro nu1 co1 hM
  exact br_t (by decide) (h nu1 co1 hM)
theorem zd_ex (g : Nat → Nat) : ∃ A : Nat → Nat, ∃ K, zd_En g 3125 A K := by
  have hps : zy_Ps g (fun j => if g j ≤ 99 then nI (g j) else -1) := fun j _ => ⟨fun h => if_pos h, fun h => if_neg h⟩
  obtain ⟨A, K, hE, _⟩ := zy_list0 hps
  exact ⟨A, K, hE⟩
noncomputable def zd_A (g : Nat → Nat) : Nat → Nat := Classical.choose (zd_ex g)
noncomputable def zd_K (g : Nat → Nat) : Nat := Classical.choose (Classical.choose_spec (zd_ex g))
theorem zd_AK (g : Nat → Nat) : zd_En g 3125 (zd_A g) (zd_K g) := Classical.choose_spec (Classical.choose_spec (zd_ex g))
theorem zd_K120 (g : Nat → Nat) : zd_K g ≤ 120 := by
  have h := (zd_AK g).1
  rw [zd_cn120] at h
  exact h
theorem zy_list {g : Nat → Nat} {ct : Int32} {ps nu co : Nat → Int32} (hps : zy_Ps g ps) {post : SY → Prop}
    (h : ∀ nu' co', zy_Mt (zd_A g) (zd_K g) nu' co' → post (nI (zd_K g), ps, nu', co')) : wpY_list post (ct, ps, nu, co) := by
  obtain ⟨A, K, hE, hW⟩ := zy_list0 hps
  refine hW post ct nu co ?_
  intro nu1 co1 hM
  rw [zd_EnK hE (zd_AK g)]
  refine h nu1 co1 ?_
  intro i hi
  obtain ⟨a, b⟩ := zd_EnU (zd_AK g) hE i hi
  rw [b]
  exact hM i a
end
section
/-! the component's helpers: weight, digit, valueOf -/
theorem zx_wt4 {post : Int32 → Prop} : ∀ d k u, k + d = 4 → post (nI (u * 5 ^ d)) → wX_weight_4 post (d + 1) (nI u) (nI k) := by
  intro d
  induction d with
  | zero =>
    intro k u hk hp
    obtain rfl : k = 4 := by omega
    rw [Nat.pow_zero, Nat.mul_one] at hp
    exact br_t (by decide) hp
  | succ d ih =>
    intro k u hk hp
    refine pk_le 4 k (fun h => absurd h (by omega)) (fun _ => ?_)
    have e : u * 5 ^ (d + 1) = (u * 5) * 5 ^ d := by
      rw [Nat.pow_succ, Nat.mul_comm (5 ^ d) 5, ← Nat.mul_assoc]
    rw [e] at hp
    exact nm_r (pk_mul u 5) (nm_r (nI_1 k) (ih (k + 1) (u * 5) (by omega) hp))
theorem zx_wt {post : Int32 → Prop} {w : Nat} (hw : w < 5) (hp : post (nI (5 ^ (4 - w)))) : wpX_weight post (nI w) := by
  refine ⟨4 - w + 1, zx_wt4 (4 - w) w 1 (by omega) ?_⟩
  rw [Nat.one_mul]
  exact hp
theorem zx_dg {post : Int32 → Prop} {n w : Nat} (hn : n < 2 ^ 31) (hw : w < 5) (hp : post (nI (zd_dg n w))) : wpX_digit post (nI n) (nI w) := by
  have a : 5 ^ (4 - w) ≤ 5 ^ 4 := Nat.pow_le_pow_right (by decide) (by omega)
  have b : 0 < 5 ^ (4 - w) := Nat.pow_pos (by decide)
  refine zx_wt hw ⟨nI_ne0 b (by omega), by decide, ?_⟩
  rw [pk_div hn b (by omega), zy_rem5 (Nat.lt_of_le_of_lt (Nat.div_le_self _ _) hn)]
  exact hp
def zx_Px (g : Nat → Nat) (pr ba : Nat → Int32) : Prop := ∀ j, j < 25 → (g j ≤ 99 → ba j = 0 ∧ pr j = nI (g j)) ∧ (¬ g j ≤ 99 → ¬ ba j = 0)
def zx_Pin (pw pt : Int32) (pin : Nat → Nat → Bool) : Prop := (pw = -1 ∧ ∀ w t, pin w t = true) ∨ ∃ w0 t0 : Nat, w0 < 5 ∧ t0 < 5 ∧ pw = nI w0 ∧ pt = nI t0 ∧ ∀ w t, pin w t = decide (w = w0 → t = t0)
def zx_op (m x s : Nat) (pin : Nat → Nat → Bool) (w t : Nat) : Bool := decide ((w < x → zd_dg m w = t) ∧ (w = x → s.testBit t = false)) && pin w t
theorem zx_op1 {m x s : Nat} {pin : Nat → Nat → Bool} {w t : Nat} (h1 : w < x → zd_dg m w = t) (h2 : w = x → s.testBit t = false) : zx_op m x s pin w t = pin w t := by
  unfold zx_op
  rw [decide_eq_true ⟨h1, h2⟩, Bool.true_and]
theorem zx_op0 {m x s : Nat} {pin : Nat → Nat → Bool} {w t : Nat} (h : ¬ ((w < x → zd_dg m w = t) ∧ (w = x → s.testBit t = false))) : zx_op m x s pin w t = false := by
  unfold zx_op
  rw [decide_eq_false h, Bool.false_and]
section
variable {post : Int64 → Prop} {w t : Nat} {st en fo pa fw wo fp pw pt : Int32} {pr ba : Nat → Int32} {pv : Nat → Int64} {wa fx wi : Nat → Int32} {ch : Nat → Int64} {wp tp : Nat → Int64} {ho be : Nat → Int32} {sl : Nat → Int64} {se : Nat → Int32}
theorem zx_v107t {q : Nat} (hw : w < 5) (ht : t < 5) (hq : q ≤ 99) (hpr : pr (5 * w + t) = nI q) (h : post (lN (3125 * q + t * 5 ^ (4 - w)))) : wX_valueOf_107 post (nI w) (nI t) 1 st en fo pa fw wo fp pw pt pr ba pv wa fx wi ch wp tp ho be sl se := by
  refine br_f (by decide) ?_
  rw [zy_ix, nI_clamp (n := 5 * w + t) (by omega), hpr]
  refine ⟨vp_in_nI (by omega) (by omega), zx_wt hw ?_⟩
  have a : 5 ^ (4 - w) ≤ 5 ^ 4 := Nat.pow_le_pow_right (by decide) (by omega)
  have b : t * 5 ^ (4 - w) ≤ 4 * 5 ^ 4 := Nat.mul_le_mul (by omega) a
  rw [pk_mul, nI_l (n := q) (by omega), nI_l (n := t * 5 ^ (4 - w)) (by omega)]
  rw [show (3125 : Int64) * lN q = lN (3125 * q) from lN_mul 3125 q, lN_add]
  exact h
theorem zx_v107f (h : post (lN 1000000000)) : wX_valueOf_107 post (nI w) (nI t) 0 st en fo pa fw wo fp pw pt pr ba pv wa fx wi ch wp tp ho be sl se := br_t rfl h
theorem zx_v105 (h : post (lN 1000000000)) : wX_valueOf_105 post (nI w) (nI t) st en fo pa fw wo fp pw pt pr ba pv wa fx wi ch wp tp ho be sl se := by
  unfold wX_valueOf_105 wX_valueOf_106
  exact zx_v107f h
theorem zx_v81f (h : post (lN 1000000000)) : wX_valueOf_81 post (nI w) (nI t) 0 st en fo pa fw wo fp pw pt pr ba pv wa fx wi ch wp tp ho be sl se :=
  br_c (fun _ => br_t rfl (zx_v105 h)) (fun _ => zx_v107f h)
theorem zx_v79 (h : post (lN 1000000000)) : wX_valueOf_79 post (nI w) (nI t) st en fo pa fw wo fp pw pt pr ba pv wa fx wi ch wp tp ho be sl se := by
  unfold wX_valueOf_79 wX_valueOf_80
  exact zx_v81f h
theorem zx_v47 (h : post (lN 1000000000)) : wX_valueOf_47 post (nI w) (nI t) st en fo pa fw wo fp pw pt pr ba pv wa fx wi ch wp tp ho be sl se := by
  unfold wX_valueOf_47 wX_valueOf_48
  exact zx_v81f h
theorem zx_v81t {q : Nat} {pin : Nat → Nat → Bool} (hw : w < 5) (ht : t < 5) (hq : q ≤ 99) (hpr : pr (5 * w + t) = nI q) (hpin : zx_Pin pw pt pin)
    (h1 : pin w t = true → post (lN (3125 * q + t * 5 ^ (4 - w)))) (h0 : pin w t = false → post (lN 1000000000)) : wX_valueOf_81 post (nI w) (nI t) 1 st en fo pa fw wo fp pw pt pr ba pv wa fx wi ch wp tp ho be sl se := by
  rcases hpin with ⟨e, hp⟩ | ⟨w0, t0, b1, b2, e1, e2, hp⟩
  · subst e
    refine br_f (fun z => ?_) (zx_v107t hw ht hq hpr (h1 (hp w t)))
    have := nI_pos (n := w) (by omega)
    rw [z] at this
    exact this (by decide)
  · subst e1 e2
    refine pk_eq w w0 (fun e => br_f (by decide) ?_) (fun e => ?_)
    · refine pk_eq t t0 (fun e' => ?_) (fun e' => ?_)
      · unfold wX_valueOf_106
        exact zx_v107t hw ht hq hpr (h1 (by rw [hp]; exact decide_eq_true (fun _ => e')))
      · exact zx_v105 (h0 (by rw [hp]; exact decide_eq_false (fun z => e' (z e))))
    · exact zx_v107t hw ht hq hpr (h1 (by rw [hp]; exact decide_eq_true (fun z => absurd z e)))
theorem zx_v18f {x s m : Nat} (hw : w < 5) (hx : x < 5) (hm : m < 3125) (hfw : fw = nI x) (h : post (lN 1000000000)) : wX_valueOf_18 post (nI w) (nI t) 0 st en fo pa fw wo fp pw pt pr ba pv wa fx wi ch wp tp ho be sl se := by
  subst hfw
  exact br_c (fun _ => br_c (fun _ => br_t rfl (zx_v79 h)) (fun _ => zx_v81f h)) (fun _ => br_t rfl (zx_v47 h))
theorem zx_v18t {q : Nat} {x s m : Nat} {pin : Nat → Nat → Bool} (hw : w < 5) (ht : t < 5) (hq : q ≤ 99) (hpr : pr (5 * w + t) = nI q) (hpin : zx_Pin pw pt pin)
    (hx : x < 5) (hs : s < 32) (hm : m < 3125) (hfw : fw = nI x) (hwo : wo = nI s) (hfp : fp = nI m)
    (h1 : zx_op m x s pin w t = true → post (lN (3125 * q + t * 5 ^ (4 - w)))) (h0 : zx_op m x s pin w t = false → post (lN 1000000000)) : wX_valueOf_18 post (nI w) (nI t) 1 st en fo pa fw wo fp pw pt pr ba pv wa fx wi ch wp tp ho be sl se := by
  subst hfw hwo hfp
  refine pk_le x w (fun hxw => ?_) (fun hxw => ?_)
  · refine pk_eq w x (fun e => br_f (by decide) ?_) (fun e => ?_)
    · by_cases z : s.testBit t = false
      · have e2 := zx_op1 (m := m) (x := x) (s := s) (pin := pin) (w := w) (t := t) (fun hh => absurd hh (by omega)) (fun _ => z)
        rw [e2] at h1 h0
        refine br_t ((nx_bit (by omega) (by omega)).mpr z) ?_
        unfold wX_valueOf_80
        exact zx_v81t hw ht hq hpr hpin h1 h0
      · have e2 := zx_op0 (m := m) (x := x) (s := s) (pin := pin) (w := w) (t := t) (fun hh => z (hh.2 e))
        exact br_f (fun hh => z ((nx_bit (by omega) (by omega)).mp hh)) (zx_v79 (h0 e2))
    · have e2 := zx_op1 (m := m) (x := x) (s := s) (pin := pin) (w := w) (t := t) (fun hh => absurd hh (by omega)) (fun hh => absurd hh e)
      rw [e2] at h1 h0
      exact zx_v81t hw ht hq hpr hpin h1 h0
  · refine br_f (by decide) (zx_dg (by omega) hw ?_)
    have hd := zd_lt m w
    refine pk_eq (zd_dg m w) t (fun e => ?_) (fun e => ?_)
    · have e2 := zx_op1 (m := m) (x := x) (s := s) (pin := pin) (w := w) (t := t) (fun _ => e) (fun hh => absurd hh (by omega))
      rw [e2] at h1 h0
      unfold wX_valueOf_48
      exact zx_v81t hw ht hq hpr hpin h1 h0
    · have e2 := zx_op0 (m := m) (x := x) (s := s) (pin := pin) (w := w) (t := t) (fun hh => e (hh.1 hxw))
      exact zx_v47 (h0 e2)
theorem zx_val {g : Nat → Nat} {x s m : Nat} {pin : Nat → Nat → Bool} (hP : zx_Px g pr ba) (hpin : zx_Pin pw pt pin) (hx : x < 5) (hs : s < 32) (hm : m < 3125) (hfw : fw = nI x) (hwo : wo = nI s) (hfp : fp = nI m)
    (hw : w < 5) (ht : t < 5) (h : post (lN (zd_C g (zx_op m x s pin) w t))) : wpX_valueOf post (st, en, fo, pa, fw, wo, fp, pw, pt, pr, ba, pv, wa, fx, wi, ch, wp, tp, ho, be, sl, se) (nI w) (nI t) := by
  have hix : 5 * w + t < 25 := by omega
  have hb := hP _ hix
  unfold wpX_valueOf
  dsimp only
  rw [zy_ix, nI_clamp (n := 5 * w + t) (by omega)]
  refine ⟨vp_in_nI hix (by omega), ?_⟩
  by_cases hg : g (5 * w + t) ≤ 99
  · obtain ⟨b1, b2⟩ := hb.1 hg
    refine br_t b1 (zx_v18t hw ht hg b2 hpin hx hs hm hfw hwo hfp (fun e => ?_) (fun e => ?_))
    · rw [zd_Cp hg e] at h; exact h
    · rw [zd_Cn (fun z => by rw [e] at z; exact absurd z.2 (by decide))] at h; exact h
  · refine br_f (hb.2 hg) (zx_v18f (s := s) hw hx hm hfw ?_)
    rw [zd_Cn (fun z => hg z.1)] at h; exact h
end
def zx_HV (C : Nat → Nat → Nat) (st en fo pa fw wo fp pw pt : Int32) (pr ba : Nat → Int32) (pv : Nat → Int64) (wa fx wi : Nat → Int32) (ch : Nat → Int64) : Prop := ∀ (wp tp : Nat → Int64) (ho be : Nat → Int32) (sl : Nat → Int64) (se : Nat → Int32) (post : Int64 → Prop) (w t : Nat), w < 5 → t < 5 → post (lN (C w t)) → wpX_valueOf post (st, en, fo, pa, fw, wo, fp, pw, pt, pr, ba, pv, wa, fx, wi, ch, wp, tp, ho, be, sl, se) (nI w) (nI t)
theorem zx_HVof {g : Nat → Nat} {x s m : Nat} {pin : Nat → Nat → Bool} {st en fo pa fw wo fp pw pt : Int32} {pr ba : Nat → Int32} {pv : Nat → Int64} {wa fx wi : Nat → Int32} {ch : Nat → Int64} (hP : zx_Px g pr ba) (hpin : zx_Pin pw pt pin) (hx : x < 5) (hs : s < 32) (hm : m < 3125) (hfw : fw = nI x) (hwo : wo = nI s) (hfp : fp = nI m) :
    zx_HV (zd_C g (zx_op m x s pin)) st en fo pa fw wo fp pw pt pr ba pv wa fx wi ch := by
  intro wp tp ho be sl se post w t hw ht h
  exact zx_val hP hpin hx hs hm hfw hwo hfp hw ht h
end
section
/-! the Hungarian method, pure: potentials u of workers, v of tasks (1 to 5), p the holder of a task (0: nobody) -/
def zh_P (D : Nat → Nat → Int) (p : Nat → Nat) (u v : Nat → Int) : Prop :=
  (∀ w t, 1 ≤ w → w ≤ 5 → 1 ≤ t → t ≤ 5 → u w + v t ≤ D w t) ∧
  (∀ t, 1 ≤ t → t ≤ 5 → p t ≠ 0 → u (p t) + v t = D (p t) t) ∧
  (∀ w, 1 ≤ w → w ≤ 5 → 0 ≤ u w) ∧
  (∀ t, 1 ≤ t → t ≤ 5 → v t ≤ 0) ∧
  (∀ t, 1 ≤ t → t ≤ 5 → p t = 0 → v t = 0)
def zh_DB (D : Nat → Nat → Int) : Prop := ∀ w t, 1 ≤ w → w ≤ 5 → 1 ≤ t → t ≤ 5 → 0 ≤ D w t ∧ D w t ≤ 1000000000
theorem zh_bd {D : Nat → Nat → Int} {p : Nat → Nat} {u v : Nat → Int} (hD : zh_DB D) (hp : ∀ t, t < 6 → p t ≤ 5) (h : zh_P D p u v) (hf : ∃ f, 1 ≤ f ∧ f ≤ 5 ∧ p f = 0) :
    (∀ w, 1 ≤ w → w ≤ 5 → 0 ≤ u w ∧ u w ≤ 1000000000) ∧ (∀ t, 1 ≤ t → t ≤ 5 → -1000000000 ≤ v t ∧ v t ≤ 0) := by
  obtain ⟨P1, P2, P3, P4, P5⟩ := h
  obtain ⟨f, f1, f5, f0⟩ := hf
  have hu : ∀ w, 1 ≤ w → w ≤ 5 → 0 ≤ u w ∧ u w ≤ 1000000000 := by
    intro w w1 w5
    have a := P1 w f w1 w5 f1 f5
    have b := P5 f f1 f5 f0
    have c := hD w f w1 w5 f1 f5
    have d := P3 w w1 w5
    omega
  refine ⟨hu, ?_⟩
  intro t t1 t5
  refine ⟨?_, P4 t t1 t5⟩
  by_cases z : p t = 0
  · have := P5 t t1 t5 z; omega
  · have a := P2 t t1 t5 z
    have h5 := hp t (by omega)
    have b := hu (p t) (by omega) h5
    have c := hD (p t) t (by omega) h5 t1 t5
    omega
/-- the search, k tasks settled, a the next one -/
def zh_I (D : Nat → Nat → Int) (p : Nat → Nat) (u v sl : Nat → Int) (b : Nat → Nat) (S : Nat → Prop) (rk : Nat → Nat) (k a : Nat) : Prop :=
  zh_P D p u v ∧ a < 6 ∧ ¬ S a ∧
  (∀ s, s < 6 → S s → p s ≠ 0 ∧ rk s < k) ∧
  (∀ s, s < 6 → S s → s ≠ 0 → b s < 6 ∧ S (b s) ∧ rk (b s) < rk s ∧ u (p (b s)) + v s = D (p (b s)) s) ∧
  (∀ t, 1 ≤ t → t ≤ 5 → ¬ S t → (∀ s, s < 6 → S s → sl t ≤ D (p s) t - u (p s) - v t) ∧
    ((k = 0 ∧ sl t = 100000000000) ∨ (b t < 6 ∧ S (b t) ∧ sl t = D (p (b t)) t - u (p (b t)) - v t))) ∧
  ((k = 0 ∧ a = 0 ∧ ∀ s, s < 6 → ¬ S s) ∨ (a ≠ 0 ∧ sl a = 0 ∧ S 0 ∧ 0 < k))
section
variable {D : Nat → Nat → Int} {p : Nat → Nat} {u v sl : Nat → Int} {b : Nat → Nat} {S : Nat → Prop} {rk : Nat → Nat} {k a : Nat}
theorem zh_slb (hD : zh_DB D) (hp : ∀ t, t < 6 → p t ≤ 5) (I : zh_I D p u v sl b S rk k a) (hf : ∃ f, 1 ≤ f ∧ f ≤ 5 ∧ p f = 0) :
    ∀ t, 1 ≤ t → t ≤ 5 → ¬ S t → 0 ≤ sl t ∧ sl t ≤ 100000000000 := by
  obtain ⟨hP, ha6, hSa, h4, h5, h6, h7⟩ := I
  obtain ⟨hu, hv⟩ := zh_bd hD hp hP hf
  intro t t1 t5 ht
  obtain ⟨_, g2⟩ := h6 t t1 t5 ht
  rcases g2 with ⟨_, z⟩ | ⟨z1, z2, z3⟩
  · omega
  · have q0 := (h4 _ z1 z2).1
    have q5 := hp _ z1
    have a1 := hP.1 (p (b t)) t (by omega) q5 t1 t5
    have a2 := hu (p (b t)) (by omega) q5
    have a3 := hv t t1 t5
    have a4 := hD (p (b t)) t (by omega) q5 t1 t5
    omega
theorem zh_red (hD : zh_DB D) (hp : ∀ t, t < 6 → p t ≤ 5) (I : zh_I D p u v sl b S rk k a) (hf : ∃ f, 1 ≤ f ∧ f ≤ 5 ∧ p f = 0) (ha : p a ≠ 0) :
    ∀ t, 1 ≤ t → t ≤ 5 → 0 ≤ D (p a) t - u (p a) - v t ∧ D (p a) t - u (p a) - v t ≤ 3000000000 := by
  obtain ⟨hP, ha6, hSa, h4, h5, h6, h7⟩ := I
  obtain ⟨hu, hv⟩ := zh_bd hD hp hP hf
  intro t t1 t5
  have q5 := hp a ha6
  have a1 := hP.1 (p a) t (by omega) q5 t1 t5
  have a2 := hu (p a) (by omega) q5
  have a3 := hv t t1 t5
  have a4 := hD (p a) t (by omega) q5 t1 t5
  omega
theorem zh_step {s1 u' v' s2 : Nat → Int} {b1 : Nat → Nat} {S' : Nat → Prop} {m : Nat} (hD : zh_DB D) (hp : ∀ t, t < 6 → p t ≤ 5)
    (hi : ∀ s t, s < 6 → t < 6 → p s = p t → p s ≠ 0 → s = t) (I : zh_I D p u v sl b S rk k a) (hf : ∃ f, 1 ≤ f ∧ f ≤ 5 ∧ p f = 0) (ha : p a ≠ 0)
    (hS : ∀ s, s < 6 → (S' s ↔ S s ∨ s = a))
    (n1 : ∀ t, 1 ≤ t → t ≤ 5 → ¬ S' t → (D (p a) t - u (p a) - v t < sl t ∧ s1 t = D (p a) t - u (p a) - v t ∧ b1 t = a) ∨ (sl t ≤ D (p a) t - u (p a) - v t ∧ s1 t = sl t ∧ b1 t = b t))
    (n1' : ∀ t, t < 6 → S' t → b1 t = b t)
    (m1 : 1 ≤ m) (m5 : m ≤ 5) (mS : ¬ S' m) (n2 : ∀ t, 1 ≤ t → t ≤ 5 → ¬ S' t → s1 m ≤ s1 t)
    (n3 : ∀ t, 1 ≤ t → t ≤ 5 → ¬ S' t → s2 t = s1 t - s1 m ∧ v' t = v t) (n3' : ∀ t, 1 ≤ t → t ≤ 5 → S' t → v' t = v t - s1 m)
    (n4 : ∀ w, 1 ≤ w → w ≤ 5 → (∃ s, s < 6 ∧ S' s ∧ p s = w) → u' w = u w + s1 m) (n4' : ∀ w, 1 ≤ w → w ≤ 5 → (¬ ∃ s, s < 6 ∧ S' s ∧ p s = w) → u' w = u w) :
    zh_I D p u' v' s2 b1 S' (fun x => if x = a then k else rk x) (k + 1) m := by
  have hrd := zh_red hD hp I hf ha
  obtain ⟨hP, ha6, hSa, h4, h5, h6, h7⟩ := I
  obtain ⟨P1, P2, P3, P4, P5⟩ := hP
  have hpS : ∀ s, s < 6 → S' s → 1 ≤ p s ∧ p s ≤ 5 := by
    intro s hs hs'
    have q5 := hp s hs
    rcases (hS s hs).mp hs' with z | z
    · have := (h4 s hs z).1; omega
    · subst z; omega
  have F : ∀ t, 1 ≤ t → t ≤ 5 → ¬ S' t → b1 t < 6 ∧ S' (b1 t) ∧ s1 t = D (p (b1 t)) t - u (p (b1 t)) - v t ∧ ∀ s, s < 6 → S' s → s1 t ≤ D (p s) t - u (p s) - v t := by
    intro t t1 t5 ht
    have hnS : ¬ S t := fun h => ht ((hS t (by omega)).mpr (Or.inl h))
    obtain ⟨g1, g2⟩ := h6 t t1 t5 hnS
    have hr := hrd t t1 t5
    rcases n1 t t1 t5 ht with ⟨x1, x2, x3⟩ | ⟨x1, x2, x3⟩
    · rw [x3, x2]
      refine ⟨ha6, (hS a ha6).mpr (Or.inr rfl), rfl, ?_⟩
      intro s hs hs'
      rcases (hS s hs).mp hs' with z | z
      · have := g1 s hs z; omega
      · subst z; exact Int.le_refl _
    · rcases g2 with ⟨_, z⟩ | ⟨z1, z2, z3⟩
      · exfalso; omega
      · rw [x3, x2]
        refine ⟨z1, (hS _ z1).mpr (Or.inl z2), z3, ?_⟩
        intro s hs hs'
        rcases (hS s hs).mp hs' with z | z
        · exact g1 s hs z
        · subst z; exact x1
  have dl0 : 0 ≤ s1 m := by
    obtain ⟨f1, f2, f3, _⟩ := F m m1 m5 mS
    obtain ⟨q1, q5⟩ := hpS _ f1 f2
    have := P1 (p (b1 m)) m q1 q5 m1 m5
    omega
  have uS : ∀ s, s < 6 → S' s → u' (p s) = u (p s) + s1 m := fun s hs hs' => n4 (p s) (hpS s hs hs').1 (hpS s hs hs').2 ⟨s, hs, hs', rfl⟩
  have uN : ∀ t, t < 6 → ¬ S' t → p t ≠ 0 → u' (p t) = u (p t) := by
    intro t ht htS h0
    have q5 := hp t ht
    refine n4' (p t) (by omega) q5 ?_
    rintro ⟨s, hs, hs', e⟩
    have e2 := hi s t hs ht e (by omega)
    subst e2
    exact htS hs'
  have S0 : S' 0 := by
    rcases h7 with ⟨_, z, _⟩ | ⟨_, _, z, _⟩
    · exact (hS 0 (by omega)).mpr (Or.inr z.symm)
    · exact (hS 0 (by omega)).mpr (Or.inl z)
  refine ⟨⟨?_, ?_, ?_, ?_, ?_⟩, by omega, mS, ?_, ?_, ?_, Or.inr ⟨by omega, by rw [(n3 m m1 m5 mS).1]; omega, S0, by omega⟩⟩
  · intro w t w1 w5 t1 t5
    have h1 := P1 w t w1 w5 t1 t5
    by_cases hw : ∃ s, s < 6 ∧ S' s ∧ p s = w
    · have e1 := n4 w w1 w5 hw
      by_cases ht : S' t
      · have e2 := n3' t t1 t5 ht
        omega
      · have e2 := (n3 t t1 t5 ht).2
        obtain ⟨s, hs, hs', e⟩ := hw
        have e3 := (F t t1 t5 ht).2.2.2 s hs hs'
        have e4 := n2 t t1 t5 ht
        rw [e] at e3
        omega
    · have e1 := n4' w w1 w5 hw
      by_cases ht : S' t
      · have e2 := n3' t t1 t5 ht
        omega
      · have e2 := (n3 t t1 t5 ht).2
        omega
  · intro t t1 t5 h0
    have h1 := P2 t t1 t5 h0
    by_cases ht : S' t
    · have e1 := uS t (by omega) ht
      have e2 := n3' t t1 t5 ht
      omega
    · have e1 := uN t (by omega) ht h0
      have e2 := (n3 t t1 t5 ht).2
      omega
  · intro w w1 w5
    have h1 := P3 w w1 w5
    by_cases hw : ∃ s, s < 6 ∧ S' s ∧ p s = w
    · have e1 := n4 w w1 w5 hw; omega
    · have e1 := n4' w w1 w5 hw; omega
  · intro t t1 t5
    have h1 := P4 t t1 t5
    by_cases ht : S' t
    · have e2 := n3' t t1 t5 ht; omega
    · have e2 := (n3 t t1 t5 ht).2; omega
  · intro t t1 t5 h0
    have h1 := P5 t t1 t5 h0
    by_cases ht : S' t
    · have := (hpS t (by omega) ht).1; omega
    · have e2 := (n3 t t1 t5 ht).2; omega
  · intro s hs hs'
    have q := (hpS s hs hs').1
    refine ⟨by omega, ?_⟩
    dsimp only
    by_cases z : s = a
    · rw [if_pos z]; omega
    · rw [if_neg z]
      rcases (hS s hs).mp hs' with y | y
      · have := (h4 s hs y).2; omega
      · exact absurd y z
  · intro s hs hs' h0
    rw [n1' s hs hs']
    have e2 := n3' s (by omega) (by omega) hs'
    dsimp only
    rcases (hS s hs).mp hs' with y | y
    · obtain ⟨q1, q2, q3, q4⟩ := h5 s hs y h0
      have q2' := (hS _ q1).mpr (Or.inl q2)
      have e1 := uS _ q1 q2'
      have na : ¬ s = a := fun z => hSa (z ▸ y)
      have nb : ¬ b s = a := fun z => hSa (z ▸ q2)
      rw [if_neg na, if_neg nb]
      exact ⟨q1, q2', q3, by omega⟩
    · rcases h7 with ⟨_, z, _⟩ | ⟨z0, z1, z2, z3⟩
      · omega
      · subst y
        obtain ⟨_, g2⟩ := h6 s (by omega) (by omega) hSa
        rcases g2 with ⟨z, _⟩ | ⟨q1, q2, q3⟩
        · omega
        · have q2' := (hS _ q1).mpr (Or.inl q2)
          have e1 := uS _ q1 q2'
          have nb : ¬ b s = s := fun z => hSa (by rw [z] at q2; exact q2)
          have rr := (h4 _ q1 q2).2
          rw [if_pos rfl, if_neg nb]
          exact ⟨q1, q2', rr, by omega⟩
  · intro t t1 t5 ht
    obtain ⟨f1, f2, f3, f4⟩ := F t t1 t5 ht
    obtain ⟨e1, e2⟩ := n3 t t1 t5 ht
    refine ⟨?_, Or.inr ⟨f1, f2, ?_⟩⟩
    · intro s hs hs'
      have a1 := f4 s hs hs'
      have a2 := uS s hs hs'
      omega
    · have a2 := uS _ f1 f2
      omega
end
/-! the way back -/
def zh_up (p : Nat → Nat) (k x : Nat) : Nat → Nat := fun j => if j = k then x else p j
theorem zh_us {p : Nat → Nat} {k x : Nat} : zh_up p k x k = x := if_pos rfl
theorem zh_un {p : Nat → Nat} {k x j : Nat} (h : j ≠ k) : zh_up p k x j = p j := if_neg h
def zh_n (p : Nat → Nat) (t x : Nat) : Nat := if x = t then 0 else if p x = 0 then 0 else 1
theorem zh_n0 {p : Nat → Nat} {t : Nat} : zh_n p t t = 0 := if_pos rfl
theorem zh_nz {p : Nat → Nat} {t x : Nat} (h : p x = 0) : zh_n p t x = 0 := by
  unfold zh_n
  rw [if_pos h]
  exact ite_self 0
theorem zh_n1 {p : Nat → Nat} {t x : Nat} (h : x ≠ t) (h0 : p x ≠ 0) : zh_n p t x = 1 := by
  unfold zh_n
  rw [if_neg h, if_neg h0]
theorem zh_ne {p p' : Nat → Nat} {t t' x : Nat} (h : x ≠ t) (h' : x ≠ t') (e : p x = p' x) : zh_n p t x = zh_n p' t' x := by
  unfold zh_n
  rw [if_neg h, if_neg h', e]
def zh_s6 (f : Nat → Nat) : Nat := f 0 + f 1 + f 2 + f 3 + f 4 + f 5
def zh_c (p : Nat → Nat) (t : Nat) : Nat := zh_s6 (zh_n p t)
theorem zh_6 {s : Nat} (h : s < 6) : s = 0 ∨ s = 1 ∨ s = 2 ∨ s = 3 ∨ s = 4 ∨ s = 5 := by omega
theorem zh_sw {f h : Nat → Nat} {s t : Nat} (hs : s < 6) (ht : t < 6) (hn : s ≠ t) (hx : ∀ x, x ≠ s → x ≠ t → f x = h x) (e1 : f s = h t) (e2 : f t = h s) : zh_s6 f = zh_s6 h := by
  unfold zh_s6
  have x0 := hx 0
  have x1 := hx 1
  have x2 := hx 2
  have x3 := hx 3
  have x4 := hx 4
  have x5 := hx 5
  clear hx
  rcases zh_6 hs with rfl | rfl | rfl | rfl | rfl | rfl <;> rcases zh_6 ht with rfl | rfl | rfl | rfl | rfl | rfl <;> omega
theorem zh_mv {p : Nat → Nat} {s t : Nat} (hs : s < 6) (ht : t < 6) (hn : s ≠ t) : zh_c (zh_up p t (p s)) s = zh_c p t := by
  refine zh_sw hs ht hn ?_ ?_ ?_
  · intro x h1 h2
    exact zh_ne h1 h2 (zh_un h2)
  · rw [zh_n0, zh_n0]
  · unfold zh_n
    rw [if_neg (fun e => hn e.symm), zh_us, if_neg hn]
theorem zh_add1 {f h : Nat → Nat} {s : Nat} (hs : s < 6) (hx : ∀ x, x ≠ s → f x = h x) (e : f s = h s + 1) : zh_s6 f = zh_s6 h + 1 := by
  unfold zh_s6
  have x0 := hx 0
  have x1 := hx 1
  have x2 := hx 2
  have x3 := hx 3
  have x4 := hx 4
  have x5 := hx 5
  clear hx
  rcases zh_6 hs with rfl | rfl | rfl | rfl | rfl | rfl <;> omega
theorem zh_ca {p : Nat → Nat} {a : Nat} (ha : a < 6) (h0 : p 0 ≠ 0) (hz : p a = 0) : zh_c p a = zh_c p 0 + 1 := by
  have hn : 0 ≠ a := fun e => h0 (by rw [← e] at hz; exact hz)
  refine zh_add1 (s := 0) (by decide) ?_ ?_
  · intro x hx
    by_cases z : x = a
    · rw [zh_nz (by rw [z]; exact hz), zh_nz (by rw [z]; exact hz)]
    · exact zh_ne z hx rfl
  · rw [zh_n1 hn h0, zh_n0]
theorem zh_c0 {p : Nat → Nat} {y : Nat} : zh_c (zh_up p 0 y) 0 = zh_c p 0 := by
  have e : ∀ x, zh_n (zh_up p 0 y) 0 x = zh_n p 0 x := by
    intro x
    by_cases z : x = 0
    · subst z; rw [zh_n0, zh_n0]
    · exact zh_ne z z (zh_un z)
  unfold zh_c zh_s6
  rw [e, e, e, e, e, e]
theorem zh_le1 (p : Nat → Nat) (t x : Nat) : zh_n p t x ≤ 1 := by
  unfold zh_n
  by_cases z : x = t
  · rw [if_pos z]; omega
  · rw [if_neg z]
    by_cases y : p x = 0
    · rw [if_pos y]; omega
    · rw [if_neg y]; omega
theorem zh_free {p : Nat → Nat} {i : Nat} (h : zh_c p 0 = i) (hi : i < 5) : ∃ f, 1 ≤ f ∧ f ≤ 5 ∧ p f = 0 := by
  by_cases z1 : p 1 = 0
  · exact ⟨1, by omega, by omega, z1⟩
  by_cases z2 : p 2 = 0
  · exact ⟨2, by omega, by omega, z2⟩
  by_cases z3 : p 3 = 0
  · exact ⟨3, by omega, by omega, z3⟩
  by_cases z4 : p 4 = 0
  · exact ⟨4, by omega, by omega, z4⟩
  by_cases z5 : p 5 = 0
  · exact ⟨5, by omega, by omega, z5⟩
  unfold zh_c zh_s6 at h
  rw [zh_n0, zh_n1 (by decide) z1, zh_n1 (by decide) z2, zh_n1 (by decide) z3, zh_n1 (by decide) z4, zh_n1 (by decide) z5] at h
  omega
theorem zh_full {p : Nat → Nat} (h : zh_c p 0 = 5) : ∀ t, 1 ≤ t → t ≤ 5 → p t ≠ 0 := by
  intro t t1 t5 z
  have e := zh_nz (t := 0) z
  have l1 := zh_le1 p 0 1
  have l2 := zh_le1 p 0 2
  have l3 := zh_le1 p 0 3
  have l4 := zh_le1 p 0 4
  have l5 := zh_le1 p 0 5
  have l0 : zh_n p 0 0 = 0 := zh_n0
  unfold zh_c zh_s6 at h
  have : t = 1 ∨ t = 2 ∨ t = 3 ∨ t = 4 ∨ t = 5 := by omega
  rcases this with rfl | rfl | rfl | rfl | rfl <;> omega
/-- after i workers are in -/
def zh_O (D : Nat → Nat → Int) (i : Nat) (p : Nat → Nat) (u v : Nat → Int) : Prop :=
  (∀ t, 1 ≤ t → t ≤ 5 → p t ≤ i) ∧ (∀ x y, 1 ≤ x → x ≤ 5 → 1 ≤ y → y ≤ 5 → p x = p y → p x ≠ 0 → x = y) ∧ zh_c p 0 = i ∧ zh_P D p u v
/-- the way: each task of the way but 0 has a settled one ahead -/
def zh_W (D : Nat → Nat → Int) (p : Nat → Nat) (u v : Nat → Int) (b : Nat → Nat) (S : Nat → Prop) (rk : Nat → Nat) (a : Nat) : Prop :=
  ∀ t, t < 6 → (S t ∨ t = a) → t ≠ 0 → b t < 6 ∧ S (b t) ∧ p (b t) ≠ 0 ∧ rk (b t) < rk t ∧ u (p (b t)) + v t = D (p (b t)) t
theorem zh_way {D : Nat → Nat → Int} {p : Nat → Nat} {u v sl : Nat → Int} {b : Nat → Nat} {S : Nat → Prop} {rk : Nat → Nat} {k a : Nat} (I : zh_I D p u v sl b S rk k a) (h0 : p 0 ≠ 0) (hz : p a = 0) :
    zh_W D p u v b S (fun x => if x = a then k else rk x) a := by
  obtain ⟨hP, ha6, hSa, h4, h5, h6, h7⟩ := I
  intro t ht hT h1
  dsimp only
  rcases hT with y | y
  · obtain ⟨q1, q2, q3, q4⟩ := h5 t ht y h1
    have na : ¬ t = a := fun z => hSa (z ▸ y)
    have nb : ¬ b t = a := fun z => hSa (z ▸ q2)
    rw [if_neg na, if_neg nb]
    exact ⟨q1, q2, (h4 _ q1 q2).1, q3, q4⟩
  · subst y
    rcases h7 with ⟨_, z, _⟩ | ⟨z0, z1, z2, z3⟩
    · exact absurd z h1
    · obtain ⟨_, g2⟩ := h6 t (by omega) (by omega) hSa
      rcases g2 with ⟨z, _⟩ | ⟨q1, q2, q3⟩
      · omega
      · have nb : ¬ b t = t := fun z => hSa (by rw [z] at q2; exact q2)
        rw [if_pos rfl, if_neg nb]
        exact ⟨q1, q2, (h4 _ q1 q2).1, (h4 _ q1 q2).2, by omega⟩
def zh_G (D : Nat → Nat → Int) (p0 : Nat → Nat) (u v : Nat → Int) (S : Nat → Prop) (rk : Nat → Nat) (i a t : Nat) (p : Nat → Nat) : Prop :=
  t < 6 ∧ (S t ∨ t = a) ∧ (∀ x, x < 6 → (S x ∨ x = a) → rk x ≤ rk t → p x = p0 x) ∧ (∀ x, x < 6 → p x ≤ i) ∧
  (∀ x y, x < 6 → y < 6 → x ≠ t → y ≠ t → p x = p y → p x ≠ 0 → x = y) ∧
  (∀ x, 1 ≤ x → x ≤ 5 → x ≠ t → p x ≠ 0 → u (p x) + v x = D (p x) x) ∧ (∀ x, 1 ≤ x → x ≤ 5 → x ≠ t → p x = 0 → v x = 0) ∧ zh_c p t = i
theorem zh_Gs {D : Nat → Nat → Int} {p0 p : Nat → Nat} {u v : Nat → Int} {b : Nat → Nat} {S : Nat → Prop} {rk : Nat → Nat} {i a t : Nat} (hW : zh_W D p0 u v b S rk a)
    (hG : zh_G D p0 u v S rk i a t p) (ht : t ≠ 0) : b t < 6 ∧ rk (b t) < rk t ∧ zh_G D p0 u v S rk i a (b t) (zh_up p t (p (b t))) := by
  obtain ⟨g1, g2, g3, g4, g5, g6, g7, g8⟩ := hG
  obtain ⟨w1, w2, w3, w4, w5⟩ := hW t g1 g2 ht
  have hn : b t ≠ t := fun e => by rw [e] at w4; omega
  have e0 : p (b t) = p0 (b t) := g3 _ w1 (Or.inl w2) (by omega)
  refine ⟨w1, w4, w1, Or.inl w2, ?_, ?_, ?_, ?_, ?_, ?_⟩
  · intro x hx hT hr
    have hxt : x ≠ t := fun e => by subst e; omega
    rw [zh_un hxt]
    exact g3 x hx hT (by omega)
  · intro x hx
    by_cases z : x = t
    · subst z; rw [zh_us]; exact g4 _ w1
    · rw [zh_un z]; exact g4 x hx
  · intro x y hx hy hxb hyb
    by_cases z : x = t
    · subst z
      rw [zh_us]
      by_cases z2 : y = x
      · intro _ _; exact z2.symm
      · rw [zh_un z2]
        intro e h0
        exact absurd (g5 (b x) y w1 hy hn z2 e h0).symm hyb
    · rw [zh_un z]
      by_cases z2 : y = t
      · subst z2
        rw [zh_us]
        intro e h0
        exact absurd (g5 x (b y) hx w1 z hn e h0) hxb
      · rw [zh_un z2]
        exact g5 x y hx hy z z2
  · intro x x1 x5 hxb
    by_cases z : x = t
    · subst z
      rw [zh_us, e0]
      intro _; exact w5
    · rw [zh_un z]
      exact g6 x x1 x5 z
  · intro x x1 x5 hxb
    by_cases z : x = t
    · subst z
      rw [zh_us, e0]
      intro h; exact absurd h w3
    · rw [zh_un z]
      exact g7 x x1 x5 z
  · rw [zh_mv w1 g1 hn]; exact g8
theorem zh_Ge {D : Nat → Nat → Int} {p0 p : Nat → Nat} {u v : Nat → Int} {S : Nat → Prop} {rk : Nat → Nat} {i a : Nat} (hP : zh_P D p0 u v)
    (hG : zh_G D p0 u v S rk i a 0 p) : zh_O D i p u v := by
  obtain ⟨g1, g2, g3, g4, g5, g6, g7, g8⟩ := hG
  obtain ⟨P1, P2, P3, P4, P5⟩ := hP
  refine ⟨fun t t1 t5 => g4 t (by omega), fun x y x1 x5 y1 y5 => g5 x y (by omega) (by omega) (by omega) (by omega), g8, P1, ?_, P3, P4, ?_⟩
  · intro t t1 t5 h; exact g6 t t1 t5 (by omega) h
  · intro t t1 t5 h; exact g7 t t1 t5 (by omega) h
theorem zh_G0 {D : Nat → Nat → Int} {p : Nat → Nat} {u v : Nat → Int} {S : Nat → Prop} {rk : Nat → Nat} {i a : Nat} (hP : zh_P D p u v) (ha : a < 6) (hp : ∀ t, t < 6 → p t ≤ i)
    (hi : ∀ s t, s < 6 → t < 6 → p s = p t → p s ≠ 0 → s = t) (h0 : p 0 ≠ 0) (hz : p a = 0) (hc : zh_c p 0 + 1 = i) : zh_G D p u v S rk i a a p := by
  obtain ⟨P1, P2, P3, P4, P5⟩ := hP
  exact ⟨ha, Or.inr rfl, fun _ _ _ _ => rfl, hp, fun x y hx hy _ _ => hi x y hx hy, fun x x1 x5 _ => P2 x x1 x5, fun x x1 x5 _ => P5 x x1 x5, by rw [zh_ca ha h0 hz]; exact hc⟩
/-! five workers in: the sum is least -/
theorem zh_fin {C : Nat → Nat → Nat} {p : Nat → Nat} {u v : Nat → Int} (h : zh_O (fun w t => (C (w - 1) (t - 1) : Int)) 5 p u v) :
    (∀ t, t < 5 → p (t + 1) - 1 < 5) ∧ (∀ s t, s < 5 → t < 5 → p (s + 1) - 1 = p (t + 1) - 1 → s = t) ∧ (∀ t, t < 5 → p (t + 1) ≠ 0) ∧
    ∀ d : Nat → Nat, (∀ w, w < 5 → d w < 5) → (∀ s t, s < 5 → t < 5 → d s = d t → s = t) →
      C (p 1 - 1) 0 + C (p 2 - 1) 1 + C (p 3 - 1) 2 + C (p 4 - 1) 3 + C (p 5 - 1) 4 ≤ C 0 (d 0) + C 1 (d 1) + C 2 (d 2) + C 3 (d 3) + C 4 (d 4) := by
  obtain ⟨o1, o2, o3, P1, P2, P3, P4, P5⟩ := h
  have hf := zh_full o3
  have hq : ∀ t, t < 5 → p (t + 1) - 1 < 5 := by
    intro t ht
    have := o1 (t + 1) (by omega) (by omega)
    have := hf (t + 1) (by omega) (by omega)
    omega
  have hi : ∀ s t, s < 5 → t < 5 → p (s + 1) - 1 = p (t + 1) - 1 → s = t := by
    intro s t hs ht e
    have a := hf (s + 1) (by omega) (by omega)
    have b := hf (t + 1) (by omega) (by omega)
    have := o2 (s + 1) (t + 1) (by omega) (by omega) (by omega) (by omega) (by omega) a
    omega
  refine ⟨hq, hi, fun t ht => hf (t + 1) (by omega) (by omega), ?_⟩
  intro d hd hdi
  have e1 : u (p 1 - 1 + 1) + u (p 2 - 1 + 1) + u (p 3 - 1 + 1) + u (p 4 - 1 + 1) + u (p 5 - 1 + 1) = u 1 + u 2 + u 3 + u 4 + u 5 := zd_perm hq hi (fun w => u (w + 1))
  have e2 : v (d 0 + 1) + v (d 1 + 1) + v (d 2 + 1) + v (d 3 + 1) + v (d 4 + 1) = v 1 + v 2 + v 3 + v 4 + v 5 := zd_perm hd hdi (fun t => v (t + 1))
  have tg : ∀ t, t < 5 → u (p (t + 1) - 1 + 1) + v (t + 1) = (C (p (t + 1) - 1) t : Int) := by
    intro t ht
    have a := hf (t + 1) (by omega) (by omega)
    have b := P2 (t + 1) (by omega) (by omega) a
    dsimp only at b
    rw [show p (t + 1) - 1 + 1 = p (t + 1) from by omega]
    exact b
  have lo : ∀ w, w < 5 → u (w + 1) + v (d w + 1) ≤ (C w (d w) : Int) := by
    intro w hw
    have a := hd w hw
    exact P1 (w + 1) (d w + 1) (by omega) (by omega) (by omega) (by omega)
  have t0 : u (p 1 - 1 + 1) + v 1 = (C (p 1 - 1) 0 : Int) := tg 0 (by decide)
  have t1 : u (p 2 - 1 + 1) + v 2 = (C (p 2 - 1) 1 : Int) := tg 1 (by decide)
  have t2 : u (p 3 - 1 + 1) + v 3 = (C (p 3 - 1) 2 : Int) := tg 2 (by decide)
  have t3 : u (p 4 - 1 + 1) + v 4 = (C (p 4 - 1) 3 : Int) := tg 3 (by decide)
  have t4 : u (p 5 - 1 + 1) + v 5 = (C (p 5 - 1) 4 : Int) := tg 4 (by decide)
  have l0 : u 1 + v (d 0 + 1) ≤ (C 0 (d 0) : Int) := lo 0 (by decide)
  have l1 : u 2 + v (d 1 + 1) ≤ (C 1 (d 1) : Int) := lo 1 (by decide)
  have l2 : u 3 + v (d 2 + 1) ≤ (C 2 (d 2) : Int) := lo 2 (by decide)
  have l3 : u 4 + v (d 3 + 1) ≤ (C 3 (d 3) : Int) := lo 3 (by decide)
  have l4 : u 5 + v (d 4 + 1) ≤ (C 4 (d 4) : Int) := lo 4 (by decide)
  omega
end
section
/-! nextTask -/
def zx_ov (C : Nat → Nat → Nat) (wp tp : Nat → Int64) (o t : Nat) : Int64 := lN (C o (t - 1)) - wp (o + 1) - tp t
def zx_Q9 (C : Nat → Nat → Nat) (wp tp : Nat → Int64) (se : Nat → Int32) (a o i : Nat) (be : Nat → Int32) (sl : Nat → Int64) (be' : Nat → Int32) (sl' : Nat → Int64) : Prop :=
  ∀ t, t < 6 → ((t < i ∨ ¬ se t = 0) → be' t = be t ∧ sl' t = sl t) ∧
    (i ≤ t → se t = 0 → (¬ sl t ≤ zx_ov C wp tp o t ∧ be' t = nI a ∧ sl' t = zx_ov C wp tp o t) ∨ (sl t ≤ zx_ov C wp tp o t ∧ be' t = be t ∧ sl' t = sl t))
theorem zx_nt9 {st en fo pa fw wo fp pw pt : Int32} {pr ba : Nat → Int32} {pv : Nat → Int64} {wa fx wi : Nat → Int32} {ch : Nat → Int64} {wp tp : Nat → Int64} {ho se : Nat → Int32} {C : Nat → Nat → Nat} (HV : zx_HV C st en fo pa fw wo fp pw pt pr ba pv wa fx wi ch) {post : Int32 → SX → Prop} {a o : Nat} (ho5 : o < 5) :
    ∀ (d i : Nat) (be : Nat → Int32) (sl : Nat → Int64), 1 ≤ i → i + d = 6 →
      (∀ be' sl', zx_Q9 C wp tp se a o i be sl be' sl' → ∃ n88, wX_nextTask_88 post st en fo pa fw wo fp pw pt pr ba pv wa fx wi ch wp tp ho be' sl' se n88 0 1) →
      wX_nextTask_9 post (nI a) (nI (o + 1)) st en fo pa fw wo fp pw pt (d + 1) (nI i) pr ba pv wa fx wi ch wp tp ho be sl se := by
  intro d
  induction d with
  | zero =>
    intro i be sl h1 hi K
    obtain rfl : i = 6 := by omega
    refine br_t (by decide) (K be sl ?_)
    intro t ht
    exact ⟨fun _ => ⟨rfl, rfl⟩, fun h => absurd h (by omega)⟩
  | succ d ih =>
    intro i be sl h1 hi K
    refine pk_le 6 i (fun h => absurd h (by omega)) (fun _ => ?_)
    have hv : vp_in (nI i) 6 := vp_in_nI (by omega) (by omega)
    refine ⟨hv, ?_⟩
    rw [nI_clamp (n := i) (by omega)]
    refine br_c (fun hz => ?_) (fun hz => ?_)
    · rw [nI_clamp (n := o + 1) (by omega), nI_pred o, zn_pred (n := i) (by omega)]
      refine HV _ _ _ _ _ _ _ _ _ ho5 (by omega) ?_
      refine ⟨vp_in_nI (by omega) (by omega), hv, nm_r (e' := zx_ov C wp tp o i) rfl ⟨hv, ?_⟩⟩
      refine br_c (fun hl => nm_r (nI_1 i) ?_) (fun hl => ⟨hv, nm_e ⟨hv, nm_e (nm_r (nI_1 i) ?_)⟩⟩)
      · refine ih (i + 1) be sl (by omega) (by omega) (fun be' sl' Q => K be' sl' ?_)
        intro t ht
        obtain ⟨q1, q2⟩ := Q t ht
        refine ⟨fun h => q1 (h.imp (fun z => by omega) id), fun h h0 => ?_⟩
        by_cases e : t = i
        · subst e
          obtain ⟨x1, x2⟩ := q1 (Or.inl (by omega))
          exact Or.inr ⟨hl, x1, x2⟩
        · exact q2 (by omega) h0
      · refine ih (i + 1) _ _ (by omega) (by omega) (fun be' sl' Q => K be' sl' ?_)
        intro t ht
        obtain ⟨q1, q2⟩ := Q t ht
        by_cases e : t = i
        · subst e
          obtain ⟨x1, x2⟩ := q1 (Or.inl (by omega))
          rw [pk_us] at x1
          rw [pk_uLs] at x2
          exact ⟨fun h => by rcases h with h | h; exact absurd h (by omega); exact absurd hz h, fun _ _ => Or.inl ⟨hl, x1, x2⟩⟩
        · rw [pk_un e, pk_uLn e] at q1 q2
          exact ⟨fun h => q1 (h.imp (fun z => by omega) id), fun h h0 => q2 (by omega) h0⟩
    · refine nm_r (nI_1 i) (ih (i + 1) be sl (by omega) (by omega) (fun be' sl' Q => K be' sl' ?_))
      intro t ht
      obtain ⟨q1, q2⟩ := Q t ht
      refine ⟨fun h => q1 (h.imp (fun z => by omega) id), fun h h0 => ?_⟩
      by_cases e : t = i
      · subst e; exact absurd h0 hz
      · exact q2 (by omega) h0
def zx_B (se : Nat → Int32) (sl : Nat → Int64) (i m : Nat) : Prop :=
  (m = 0 ∧ ∀ t, 1 ≤ t → t < i → ¬ se t = 0) ∨ (1 ≤ m ∧ m < i ∧ se m = 0 ∧ ∀ t, 1 ≤ t → t < i → se t = 0 → sl m ≤ sl t)
theorem zx_nt88 {st en fo pa fw wo fp pw pt : Int32} {pr ba : Nat → Int32} {pv : Nat → Int64} {wa fx wi : Nat → Int32} {ch : Nat → Int64} {wp tp : Nat → Int64} {ho be : Nat → Int32} {sl : Nat → Int64} {se : Nat → Int32} {post : Int32 → SX → Prop}
    (K : ∀ m, zx_B se sl 6 m → ∃ n150, wX_nextTask_150 post (nI m) (sl m) st en fo pa fw wo fp pw pt n150 0 pr ba pv wa fx wi ch wp tp ho be sl se) :
    ∀ (d i m : Nat), 1 ≤ i → i + d = 6 → zx_B se sl i m → wX_nextTask_88 post st en fo pa fw wo fp pw pt pr ba pv wa fx wi ch wp tp ho be sl se (d + 1) (nI m) (nI i) := by
  intro d
  induction d with
  | zero =>
    intro i m h1 hi hB
    obtain rfl : i = 6 := by omega
    have hm : m < 6 := by
      rcases hB with ⟨h, _⟩ | ⟨_, h, _⟩ <;> omega
    refine br_t (by decide) ⟨vp_in_nI hm (by omega), ?_⟩
    rw [nI_clamp (n := m) (by omega)]
    exact nm_e (K m hB)
  | succ d ih =>
    intro i m h1 hi hB
    have hm : m < 6 := by
      rcases hB with ⟨h, _⟩ | ⟨_, h, _⟩ <;> omega
    refine pk_le 6 i (fun h => absurd h (by omega)) (fun _ => ?_)
    have hv : vp_in (nI i) 6 := vp_in_nI (by omega) (by omega)
    have hvm : vp_in (nI m) 6 := vp_in_nI (by omega) (by omega)
    refine ⟨hv, ?_⟩
    rw [nI_clamp (n := i) (by omega), nI_clamp (n := m) (by omega)]
    refine br_c (fun hz => ?_) (fun hz => ?_)
    · refine pk_eq m 0 (fun e => nm_r (nI_1 i) (ih (i + 1) i (by omega) (by omega) ?_)) (fun e => ⟨hv, hvm, br_c (fun hl => nm_r (nI_1 i) (ih (i + 1) m (by omega) (by omega) ?_)) (fun hl => nm_r (nI_1 i) (ih (i + 1) i (by omega) (by omega) ?_))⟩)
      · rcases hB with ⟨_, h⟩ | ⟨h, _⟩
        · refine Or.inr ⟨h1, by omega, hz, ?_⟩
          intro t t1 ti h0
          by_cases q : t = i
          · subst q; exact Int64.le_refl _
          · exact absurd h0 (h t t1 (by omega))
        · omega
      · rcases hB with ⟨h, _⟩ | ⟨x1, x2, x3, x4⟩
        · exact absurd h e
        · refine Or.inr ⟨x1, by omega, x3, ?_⟩
          intro t t1 ti h0
          by_cases q : t = i
          · subst q; exact hl
          · exact x4 t t1 (by omega) h0
      · rcases hB with ⟨h, _⟩ | ⟨x1, x2, x3, x4⟩
        · exact absurd h e
        · refine Or.inr ⟨h1, by omega, hz, ?_⟩
          intro t t1 ti h0
          by_cases q : t = i
          · subst q; exact Int64.le_refl _
          · have a1 := x4 t t1 (by omega) h0
            rw [zn_lle] at a1 hl ⊢
            omega
    · refine nm_r (nI_1 i) (ih (i + 1) m (by omega) (by omega) ?_)
      rcases hB with ⟨h, h2⟩ | ⟨x1, x2, x3, x4⟩
      · refine Or.inl ⟨h, ?_⟩
        intro t t1 ti
        by_cases q : t = i
        · subst q; exact hz
        · exact h2 t t1 (by omega)
      · refine Or.inr ⟨x1, by omega, x3, ?_⟩
        intro t t1 ti h0
        by_cases q : t = i
        · subst q; exact absurd h0 hz
        · exact x4 t t1 (by omega) h0
def zx_R (p : Nat → Nat) (se : Nat → Int32) (dl : Int64) (wp0 tp0 sl0 : Nat → Int64) (i : Nat) (wp tp sl : Nat → Int64) : Prop :=
  (∀ t, t < 6 → (t < i → se t = 0 → sl t = sl0 t - dl) ∧ (i ≤ t → sl t = sl0 t) ∧ (t < i → ¬ se t = 0 → tp t = tp0 t - dl) ∧ ((i ≤ t ∨ se t = 0) → tp t = tp0 t)) ∧
  (∀ w, (∃ s, s < i ∧ ¬ se s = 0 ∧ p s = w) → wp w = wp0 w + dl) ∧ (∀ w, (¬ ∃ s, s < i ∧ ¬ se s = 0 ∧ p s = w) → wp w = wp0 w)
theorem zx_nt150 {st en fo pa fw wo fp pw pt : Int32} {pr ba : Nat → Int32} {pv : Nat → Int64} {wa fx wi : Nat → Int32} {ch : Nat → Int64} {ho be se : Nat → Int32} {post : Int32 → SX → Prop} {p : Nat → Nat} {m : Nat} {dl : Int64} {wp0 tp0 sl0 : Nat → Int64}
    (hho : ∀ t, t < 6 → ho t = nI (p t)) (hp : ∀ t, t < 6 → p t ≤ 5) (hi : ∀ s t, s < 6 → t < 6 → ¬ se s = 0 → ¬ se t = 0 → p s = p t → s = t)
    (K : ∀ wp tp sl, zx_R p se dl wp0 tp0 sl0 6 wp tp sl → post (nI m) (st, en, fo, pa, fw, wo, fp, pw, pt, pr, ba, pv, wa, fx, wi, ch, wp, tp, ho, be, sl, se)) :
    ∀ (d i : Nat) (wp tp sl : Nat → Int64), i + d = 6 → zx_R p se dl wp0 tp0 sl0 i wp tp sl → wX_nextTask_150 post (nI m) dl st en fo pa fw wo fp pw pt (d + 1) (nI i) pr ba pv wa fx wi ch wp tp ho be sl se := by
  intro d
  induction d with
  | zero =>
    intro i wp tp sl h6 hR
    obtain rfl : i = 6 := by omega
    exact br_t (by decide) (K wp tp sl hR)
  | succ d ih =>
    intro i wp tp sl h6 hR
    obtain ⟨r1, r2, r3⟩ := hR
    refine pk_le 6 i (fun h => absurd h (by omega)) (fun _ => ?_)
    have hv : vp_in (nI i) 6 := vp_in_nI (by omega) (by omega)
    refine ⟨hv, ?_⟩
    have p5 := hp i (by omega)
    rw [nI_clamp (n := i) (by omega), hho i (by omega), nI_clamp (n := p i) (by omega)]
    have hvp : vp_in (nI (p i)) 6 := vp_in_nI (by omega) (by omega)
    refine br_c (fun hz => ⟨hv, hv, nm_e (nm_r (nI_1 i) (ih (i + 1) _ _ _ (by omega) ?_))⟩) (fun hz => ⟨hv, hvp, hvp, nm_e ⟨hv, hv, nm_e (nm_r (nI_1 i) (ih (i + 1) _ _ _ (by omega) ?_))⟩⟩)
    · refine ⟨?_, ?_, ?_⟩
      · intro t ht
        obtain ⟨a1, a2, a3, a4⟩ := r1 t ht
        by_cases e : t = i
        · subst e
          rw [pk_uLs, a2 (Nat.le_refl _)]
          exact ⟨fun _ _ => rfl, fun h => absurd h (by omega), fun _ h => absurd hz h, fun _ => a4 (Or.inr hz)⟩
        · rw [pk_uLn e]
          exact ⟨fun h => a1 (by omega), fun h => a2 (by omega), fun h => a3 (by omega), fun h => a4 (by rcases h with h | h; exact Or.inl (by omega); exact Or.inr h)⟩
      · rintro w ⟨s, s1, s2, s3⟩
        by_cases e : s = i
        · subst e; exact absurd hz s2
        · exact r2 w ⟨s, by omega, s2, s3⟩
      · intro w hn
        exact r3 w (fun ⟨s, s1, s2, s3⟩ => hn ⟨s, by omega, s2, s3⟩)
    · have hno : ¬ ∃ s, s < i ∧ ¬ se s = 0 ∧ p s = p i := by
        rintro ⟨s, s1, s2, s3⟩
        have := hi s i (by omega) (by omega) s2 hz s3
        omega
      refine ⟨?_, ?_, ?_⟩
      · intro t ht
        obtain ⟨a1, a2, a3, a4⟩ := r1 t ht
        by_cases e : t = i
        · subst e
          rw [pk_uLs, a4 (Or.inl (Nat.le_refl _))]
          exact ⟨fun _ h => absurd h hz, fun h => absurd h (by omega), fun _ _ => rfl, fun h => by rcases h with h | h; exact absurd h (by omega); exact absurd h hz⟩
        · rw [pk_uLn e]
          exact ⟨fun h => a1 (by omega), fun h => a2 (by omega), fun h => a3 (by omega), fun h => a4 (by rcases h with h | h; exact Or.inl (by omega); exact Or.inr h)⟩
      · rintro w ⟨s, s1, s2, s3⟩
        by_cases e : w = p i
        · subst e
          rw [pk_uLs, r3 _ hno]
        · rw [pk_uLn e]
          have e2 : s ≠ i := fun z => e (by rw [← s3, z])
          exact r2 w ⟨s, by omega, s2, s3⟩
      · intro w hn
        have e : w ≠ p i := fun z => hn ⟨i, by omega, hz, z.symm⟩
        rw [pk_uLn e]
        exact r3 w (fun ⟨s, s1, s2, s3⟩ => hn ⟨s, by omega, s2, s3⟩)
def zx_NT (C : Nat → Nat → Nat) (p : Nat → Nat) (se : Nat → Int32) (a : Nat) (wp tp : Nat → Int64) (be : Nat → Int32) (sl : Nat → Int64) (m : Nat) (wp' tp' : Nat → Int64) (be' : Nat → Int32) (sl' : Nat → Int64) : Prop :=
  ∃ sl1, zx_Q9 C wp tp se a (p a - 1) 1 be sl be' sl1 ∧ zx_B se sl1 6 m ∧ zx_R p se (sl1 m) wp tp sl1 6 wp' tp' sl'
theorem zx_next {st en fo pa fw wo fp pw pt : Int32} {pr ba : Nat → Int32} {pv : Nat → Int64} {wa fx wi : Nat → Int32} {ch : Nat → Int64} {wp tp : Nat → Int64} {ho be : Nat → Int32} {sl : Nat → Int64} {se : Nat → Int32} {C : Nat → Nat → Nat} (HV : zx_HV C st en fo pa fw wo fp pw pt pr ba pv wa fx wi ch) {post : Int32 → SX → Prop} {p : Nat → Nat} {a : Nat} (ha : a < 6) (ha0 : p a ≠ 0)
    (hho : ∀ t, t < 6 → ho t = nI (p t)) (hp : ∀ t, t < 6 → p t ≤ 5) (hi : ∀ s t, s < 6 → t < 6 → ¬ se s = 0 → ¬ se t = 0 → p s = p t → s = t)
    (K : ∀ m wp' tp' be' sl', zx_NT C p se a wp tp be sl m wp' tp' be' sl' → post (nI m) (st, en, fo, pa, fw, wo, fp, pw, pt, pr, ba, pv, wa, fx, wi, ch, wp', tp', ho, be', sl', se)) : wpX_nextTask post (st, en, fo, pa, fw, wo, fp, pw, pt, pr, ba, pv, wa, fx, wi, ch, wp, tp, ho, be, sl, se) (nI a) := by
  have p5 := hp a ha
  unfold wpX_nextTask
  dsimp only
  rw [nI_clamp (n := a) (by omega), hho a ha]
  refine ⟨vp_in_nI ha (by omega), nm_r (e' := nI (p a - 1 + 1)) (by rw [show p a - 1 + 1 = p a from by omega]) ⟨6, ?_⟩⟩
  refine zx_nt9 HV (by omega) 5 1 be sl (by decide) rfl ?_
  intro be' sl1 hQ
  refine ⟨6, zx_nt88 ?_ 5 1 0 (by decide) rfl (Or.inl ⟨rfl, fun t t1 t2 => absurd t2 (by omega)⟩)⟩
  intro m hB
  refine ⟨7, zx_nt150 (wp0 := wp) (tp0 := tp) (sl0 := sl1) hho hp hi ?_ 6 0 wp tp sl1 rfl ?_⟩
  · intro wp' tp' sl' hR
    exact K m wp' tp' be' sl' ⟨sl1, hQ, hB, hR⟩
  · refine ⟨fun t _ => ⟨fun h => absurd h (by omega), fun _ => rfl, fun h => absurd h (by omega), fun _ => rfl⟩, ?_, fun _ _ => rfl⟩
    rintro w ⟨s, s1, _⟩
    omega
/-! in integers -/
def zx_i (a : Nat → Int64) : Nat → Int := fun t => (a t).toInt
theorem zx_dj {C : Nat → Nat → Nat} {p : Nat → Nat} {wp tp wp' tp' : Nat → Int64} {be be' : Nat → Int32} {sl sl' : Nat → Int64} {se : Nat → Int32} {b rk : Nat → Nat} {k a m : Nat}
    (hC : ∀ w t, w < 5 → t < 5 → C w t ≤ 1000000000) (hp : ∀ t, t < 6 → p t ≤ 5) (hi : ∀ s t, s < 6 → t < 6 → p s = p t → p s ≠ 0 → s = t) (hf : ∃ f, 1 ≤ f ∧ f ≤ 5 ∧ p f = 0)
    (I : zh_I (fun w t => (C (w - 1) (t - 1) : Int)) p (zx_i wp) (zx_i tp) (zx_i sl) b (fun t => ¬ se t = 0) rk k a) (ha0 : p a ≠ 0) (hbe : ∀ t, t < 6 → be t = nI (b t) ∧ b t < 6)
    (N : zx_NT C p (upd se a 1) a wp tp be sl m wp' tp' be' sl') :
    ∃ b' rk', zh_I (fun w t => (C (w - 1) (t - 1) : Int)) p (zx_i wp') (zx_i tp') (zx_i sl') b' (fun t => ¬ upd se a 1 t = 0) rk' (k + 1) m ∧ ∀ t, t < 6 → be' t = nI (b' t) ∧ b' t < 6 := by
  obtain ⟨sl1, q9, qb, q1, q2, q3⟩ := N
  have hD : zh_DB (fun w t => (C (w - 1) (t - 1) : Int)) := by
    intro w t w1 w5 t1 t5
    have := hC (w - 1) (t - 1) (by omega) (by omega)
    dsimp only
    omega
  obtain ⟨hu, hv⟩ := zh_bd hD hp I.1 hf
  have hsl := zh_slb hD hp I hf
  have hrd := zh_red hD hp I hf ha0
  have ha6 : a < 6 := I.2.1
  have p5 := hp a ha6
  have hS : ∀ s, s < 6 → ((¬ upd se a 1 s = 0) ↔ (¬ se s = 0) ∨ s = a) := by
    intro s hs
    by_cases e : s = a
    · subst e
      rw [pk_us]
      exact ⟨fun _ => Or.inr rfl, fun _ => by decide⟩
    · rw [pk_un e]
      exact ⟨fun h => Or.inl h, fun h => by rcases h with h | h; exact h; exact absurd h e⟩
  have hov : ∀ t, 1 ≤ t → t ≤ 5 → (zx_ov C wp tp (p a - 1) t).toInt = (C (p a - 1) (t - 1) : Int) - zx_i wp (p a) - zx_i tp t := by
    intro t t1 t5
    have c := hC (p a - 1) (t - 1) (by omega) (by omega)
    obtain ⟨u1, u2⟩ := hu (p a) (by omega) p5
    obtain ⟨v1, v2⟩ := hv t t1 t5
    unfold zx_ov
    unfold zx_i at u1 u2 v1 v2 ⊢
    rw [show p a - 1 + 1 = p a from by omega]
    have l : (lN (C (p a - 1) (t - 1))).toInt = (C (p a - 1) (t - 1) : Int) := pk_lT (by omega)
    have s1 : (lN (C (p a - 1) (t - 1)) - wp (p a)).toInt = (C (p a - 1) (t - 1) : Int) - (wp (p a)).toInt := by
      rw [zn_lsub (by omega) (by omega), l]
    rw [zn_lsub (by omega) (by omega), s1]
  have hb1 : ∀ t, t < 6 → be' t = nI a ∨ be' t = be t := by
    intro t ht
    obtain ⟨x1, x2⟩ := q9 t ht
    by_cases z : upd se a 1 t = 0
    · by_cases y : 1 ≤ t
      · rcases x2 y z with h | h
        · exact Or.inl h.2.1
        · exact Or.inr h.2.1
      · exact Or.inr (x1 (Or.inl (by omega))).1
    · exact Or.inr (x1 (Or.inr z)).1
  have n1 : ∀ t, 1 ≤ t → t ≤ 5 → ¬ ¬ upd se a 1 t = 0 → ((C (p a - 1) (t - 1) : Int) - zx_i wp (p a) - zx_i tp t < zx_i sl t ∧ zx_i sl1 t = (C (p a - 1) (t - 1) : Int) - zx_i wp (p a) - zx_i tp t ∧ (be' t).toNatClampNeg = a) ∨
      (zx_i sl t ≤ (C (p a - 1) (t - 1) : Int) - zx_i wp (p a) - zx_i tp t ∧ zx_i sl1 t = zx_i sl t ∧ (be' t).toNatClampNeg = b t) := by
    intro t t1 t5 hz
    have e := hov t t1 t5
    rcases (q9 t (by omega)).2 t1 (Classical.not_not.mp hz) with ⟨x1, x2, x3⟩ | ⟨x1, x2, x3⟩
    · left
      rw [zn_lle] at x1
      refine ⟨?_, ?_, ?_⟩
      · unfold zx_i at e ⊢; omega
      · rw [← e]; unfold zx_i; rw [x3]
      · rw [x2]; exact nI_clamp (by omega)
    · right
      rw [zn_lle] at x1
      refine ⟨?_, ?_, ?_⟩
      · unfold zx_i at e ⊢; omega
      · unfold zx_i; rw [x3]
      · rw [x2, (hbe t (by omega)).1]; exact nI_clamp (by have := (hbe t (by omega)).2; omega)
  have hnS : ∀ t, t < 6 → ¬ ¬ upd se a 1 t = 0 → ¬ ¬ se t = 0 := fun t ht h h2 => h ((hS t ht).mpr (Or.inl h2))
  have hs1 : ∀ t, 1 ≤ t → t ≤ 5 → ¬ ¬ upd se a 1 t = 0 → 0 ≤ zx_i sl1 t ∧ zx_i sl1 t ≤ 100000000000 := by
    intro t t1 t5 hz
    have a1 := hsl t t1 t5 (hnS t (by omega) hz)
    have a2 := hrd t t1 t5
    rcases n1 t t1 t5 hz with h | h <;> omega
  obtain ⟨f, f1, f5, f0⟩ := hf
  have hfS : upd se a 1 f = 0 := by
    by_cases z : upd se a 1 f = 0
    · exact z
    · exfalso
      rcases (hS f (by omega)).mp z with h | h
      · exact (I.2.2.2.1 f (by omega) h).1 f0
      · subst h; exact ha0 f0
  have hm : 1 ≤ m ∧ m < 6 ∧ upd se a 1 m = 0 ∧ ∀ t, 1 ≤ t → t < 6 → upd se a 1 t = 0 → sl1 m ≤ sl1 t := by
    rcases qb with ⟨_, h⟩ | h
    · exact absurd hfS (h f f1 (by omega))
    · exact h
  obtain ⟨m1, m6, mS, mm⟩ := hm
  have hdl := hs1 m m1 (by omega) (fun h => h mS)
  unfold zx_i at hdl
  refine ⟨fun t => (be' t).toNatClampNeg, _, zh_step (s1 := zx_i sl1) (b1 := fun t => (be' t).toNatClampNeg) (S' := fun t => ¬ upd se a 1 t = 0) hD hp hi I ⟨f, f1, f5, f0⟩ ha0 hS n1 ?_ m1 (by omega) (fun h => h mS) ?_ ?_ ?_ ?_ ?_, ?_⟩
  · intro t ht hz
    rw [((q9 t ht).1 (Or.inr hz)).1, (hbe t ht).1]
    exact nI_clamp (by have := (hbe t ht).2; omega)
  · intro t t1 t5 hz
    have := mm t t1 (by omega) (Classical.not_not.mp hz)
    rw [zn_lle] at this
    exact this
  · intro t t1 t5 hz
    have e := Classical.not_not.mp hz
    obtain ⟨r1, r2, r3, r4⟩ := q1 t (by omega)
    have b1 := hs1 t t1 t5 hz
    unfold zx_i at b1 ⊢
    rw [r1 (by omega) e, r4 (Or.inr e), zn_lsub (by omega) (by omega)]
    exact ⟨rfl, rfl⟩
  · intro t t1 t5 hz
    obtain ⟨r1, r2, r3, r4⟩ := q1 t (by omega)
    have b1 := hv t t1 t5
    unfold zx_i at b1 ⊢
    rw [r3 (by omega) hz, zn_lsub (by omega) (by omega)]
  · intro w w1 w5 hw
    have b1 := hu w w1 w5
    unfold zx_i at b1 ⊢
    rw [q2 w hw, zn_ladd (by omega) (by omega)]
  · intro w w1 w5 hw
    unfold zx_i
    rw [q3 w hw]
  · intro t ht
    dsimp only
    have := (hbe t ht).2
    rcases hb1 t ht with h | h
    · rw [h, nI_clamp (by omega)]; exact ⟨rfl, ha6⟩
    · rw [h, (hbe t ht).1, nI_clamp (by omega)]; exact ⟨rfl, this⟩
end
section
/-! bringIn -/
def zx_ct (se : Nat → Int32) : Nat := zh_s6 (fun t => if se t = 0 then 0 else 1)
theorem zx_ctu {se : Nat → Int32} {a : Nat} (ha : a < 6) (h : se a = 0) : zx_ct (upd se a 1) = zx_ct se + 1 := by
  refine zh_add1 ha ?_ ?_
  · intro x hx
    rw [pk_un hx]
  · rw [pk_us, if_neg (by decide), if_pos h]
theorem zx_l5 {f : Nat → Nat} {s : Nat} (h1 : ∀ x, f x ≤ 1) (hs : s < 6) (h0 : f s = 0) : zh_s6 f ≤ 5 := by
  have a0 := h1 0
  have a1 := h1 1
  have a2 := h1 2
  have a3 := h1 3
  have a4 := h1 4
  have a5 := h1 5
  unfold zh_s6
  rcases zh_6 hs with rfl | rfl | rfl | rfl | rfl | rfl <;> omega
theorem zx_ctl {se : Nat → Int32} {f : Nat} (hf : f < 6) (h : se f = 0) : zx_ct se ≤ 5 := by
  refine zx_l5 ?_ hf (if_pos h)
  intro x
  by_cases z : se x = 0
  · rw [if_pos z]; omega
  · rw [if_neg z]; omega
theorem zx_ct0 {se : Nat → Int32} (h : ∀ t, t < 6 → se t = 0) : zx_ct se = 0 := by
  unfold zx_ct zh_s6
  dsimp only
  rw [h 0 (by decide), h 1 (by decide), h 2 (by decide), h 3 (by decide), h 4 (by decide), h 5 (by decide), if_pos rfl]
theorem zx_b9 {st en fo pa fw wo fp pw pt : Int32} {pr ba : Nat → Int32} {pv : Nat → Int64} {wa fx wi : Nat → Int32} {ch : Nat → Int64} {wp tp : Nat → Int64} {ho : Nat → Int32} {post : SX → Prop}
    (K : ∀ be sl se, (∀ t, t < 6 → be t = 0 ∧ sl t = 100000000000 ∧ se t = 0) → ∃ n48, wX_bringIn_48 post n48 0 0 st en fo pa fw wo fp pw pt pr ba pv wa fx wi ch wp tp ho be sl se) :
    ∀ (d i : Nat) (be : Nat → Int32) (sl : Nat → Int64) (se : Nat → Int32), i + d = 6 → (∀ t, t < i → be t = 0 ∧ sl t = 100000000000 ∧ se t = 0) → wX_bringIn_9 post st en fo pa fw wo fp pw pt (d + 1) (nI i) pr ba pv wa fx wi ch wp tp ho be sl se := by
  intro d
  induction d with
  | zero =>
    intro i be sl se h6 h
    obtain rfl : i = 6 := by omega
    exact br_t (by decide) (K be sl se h)
  | succ d ih =>
    intro i be sl se h6 h
    refine pk_le 6 i (fun h => absurd h (by omega)) (fun _ => ?_)
    have hv : vp_in (nI i) 6 := vp_in_nI (by omega) (by omega)
    rw [nI_clamp (n := i) (by omega), zn_vb0]
    refine ⟨hv, nm_e ⟨hv, nm_e ⟨hv, nm_e (nm_r (nI_1 i) (ih (i + 1) _ _ _ (by omega) ?_))⟩⟩⟩
    intro t ht
    by_cases e : t = i
    · subst e
      rw [pk_us, pk_uLs, pk_us]
      exact ⟨rfl, rfl, rfl⟩
    · rw [pk_un e, pk_uLn e, pk_un e]
      exact h t (by omega)
theorem zx_b48 {st en fo pa fw wo fp pw pt : Int32} {pr ba : Nat → Int32} {pv : Nat → Int64} {wa fx wi : Nat → Int32} {ch : Nat → Int64} {ho : Nat → Int32} {C : Nat → Nat → Nat} {p : Nat → Nat} {post : SX → Prop} (HV : zx_HV C st en fo pa fw wo fp pw pt pr ba pv wa fx wi ch)
    (hC : ∀ w t, w < 5 → t < 5 → C w t ≤ 1000000000) (hho : ∀ t, t < 6 → ho t = nI (p t)) (hp : ∀ t, t < 6 → p t ≤ 5) (hi : ∀ s t, s < 6 → t < 6 → p s = p t → p s ≠ 0 → s = t) (hf : ∃ f, 1 ≤ f ∧ f ≤ 5 ∧ p f = 0)
    (K : ∀ (a k : Nat) (wp tp : Nat → Int64) (be : Nat → Int32) (sl : Nat → Int64) (se : Nat → Int32) (b rk : Nat → Nat), k ≤ 5 →
      zh_I (fun w t => (C (w - 1) (t - 1) : Int)) p (zx_i wp) (zx_i tp) (zx_i sl) b (fun t => ¬ se t = 0) rk k a → p a = 0 → (∀ t, t < 6 → be t = nI (b t) ∧ b t < 6) →
      ∃ n84, wX_bringIn_84 post st en fo pa fw wo fp pw pt n84 (nI a) 0 pr ba pv wa fx wi ch wp tp ho be sl se) :
    ∀ (d k a : Nat) (wp tp : Nat → Int64) (be : Nat → Int32) (sl : Nat → Int64) (se : Nat → Int32) (b rk : Nat → Nat), k + d = 6 →
      zh_I (fun w t => (C (w - 1) (t - 1) : Int)) p (zx_i wp) (zx_i tp) (zx_i sl) b (fun t => ¬ se t = 0) rk k a → (∀ t, t < 6 → be t = nI (b t) ∧ b t < 6) → zx_ct se = k →
      wX_bringIn_48 post (d + 1) (nI a) (nI k) st en fo pa fw wo fp pw pt pr ba pv wa fx wi ch wp tp ho be sl se := by
  have hfs : ∀ {wp tp : Nat → Int64} {sl : Nat → Int64} {se : Nat → Int32} {b rk : Nat → Nat} {k a : Nat}, zh_I (fun w t => (C (w - 1) (t - 1) : Int)) p (zx_i wp) (zx_i tp) (zx_i sl) b (fun t => ¬ se t = 0) rk k a → zx_ct se ≤ 5 := by
    intro wp tp sl se b rk k a I
    obtain ⟨f, f1, f5, f0⟩ := hf
    refine zx_ctl (f := f) (by omega) ?_
    by_cases z : se f = 0
    · exact z
    · exact absurd f0 (I.2.2.2.1 f (by omega) z).1
  intro d
  induction d with
  | zero =>
    intro k a wp tp be sl se b rk hk I hb hc
    have := hfs I
    omega
  | succ d ih =>
    intro k a wp tp be sl se b rk hk I hb hc
    have ha6 : a < 6 := I.2.1
    have hk5 := hfs I
    refine pk_le 6 k (fun h => absurd h (by omega)) (fun _ => ?_)
    have hva : vp_in (nI a) 6 := vp_in_nI ha6 (by omega)
    have p5 := hp a ha6
    refine ⟨hva, ?_⟩
    rw [nI_clamp (n := a) (by omega), hho a ha6, zn_vb1]
    refine pk_eq (p a) 0 (fun e => K a k wp tp be sl se b rk (by omega) I e hb) (fun e => ⟨hva, nm_e ?_⟩)
    have hsa : se a = 0 := Classical.not_not.mp I.2.2.1
    refine zx_next HV ha6 e hho hp ?_ ?_
    · intro s t hs ht s1 s2 e2
      refine hi s t hs ht e2 ?_
      by_cases z : s = a
      · subst z; exact e
      · rw [pk_un z] at s1
        exact (I.2.2.2.1 s hs s1).1
    · intro m wp' tp' be' sl' N
      obtain ⟨b', rk', I', hb'⟩ := zx_dj hC hp hi hf I e hb N
      intro y ey
      rw [ey, nI_1]
      exact ih (k + 1) m wp' tp' be' sl' (upd se a 1) b' rk' (by omega) I' hb' (by rw [zx_ctu ha6 hsa, hc])
theorem zx_b84 {st en fo pa fw wo fp pw pt : Int32} {pr ba : Nat → Int32} {pv : Nat → Int64} {wa fx wi : Nat → Int32} {ch : Nat → Int64} {wp tp : Nat → Int64} {be : Nat → Int32} {sl : Nat → Int64} {se : Nat → Int32} {D : Nat → Nat → Int} {p0 : Nat → Nat} {u v : Nat → Int} {b : Nat → Nat} {S : Nat → Prop} {rk : Nat → Nat} {i a : Nat} {post : SX → Prop}
    (hW : zh_W D p0 u v b S rk a) (hbe : ∀ t, t < 6 → be t = nI (b t) ∧ b t < 6)
    (K : ∀ (ho : Nat → Int32) (p : Nat → Nat), (∀ x, x < 6 → ho x = nI (p x)) → zh_G D p0 u v S rk i a 0 p → post (st, en, fo, pa, fw, wo, fp, pw, pt, pr, ba, pv, wa, fx, wi, ch, wp, tp, ho, be, sl, se)) :
    ∀ (d c t : Nat) (ho : Nat → Int32) (p : Nat → Nat), c + d = 6 → zh_G D p0 u v S rk i a t p → rk t + c ≤ 5 → (∀ x, x < 6 → ho x = nI (p x)) → wX_bringIn_84 post st en fo pa fw wo fp pw pt (d + 1) (nI t) (nI c) pr ba pv wa fx wi ch wp tp ho be sl se := by
  intro d
  induction d with
  | zero => intro c t ho p hc hG hr hho; omega
  | succ d ih =>
    intro c t ho p hc hG hr hho
    have ht : t < 6 := hG.1
    refine pk_le 6 c (fun h => absurd h (by omega)) (fun _ => ?_)
    refine pk_eq t 0 (fun e => ?_) (fun e => ?_)
    · subst e
      exact K ho p hho hG
    · obtain ⟨g1, g2, g3⟩ := zh_Gs hW hG e
      have hvt : vp_in (nI t) 6 := vp_in_nI ht (by omega)
      refine ⟨hvt, ?_⟩
      rw [nI_clamp (n := t) (by omega)]
      refine nm_r (hbe t ht).1 ⟨vp_in_nI g1 (by omega), hvt, ?_⟩
      rw [nI_clamp (n := b t) (by omega)]
      refine nm_e (nm_r (nI_1 c) (ih (c + 1) (b t) _ (zh_up p t (p (b t))) (by omega) g3 (by omega) ?_))
      intro x hx
      by_cases z : x = t
      · subst z; rw [pk_us, zh_us]; exact hho _ g1
      · rw [pk_un z, zh_un z]; exact hho x hx
theorem zx_bring {st en fo pa fw wo fp pw pt : Int32} {pr ba : Nat → Int32} {pv : Nat → Int64} {wa fx wi : Nat → Int32} {ch : Nat → Int64} {wp tp : Nat → Int64} {ho be : Nat → Int32} {sl : Nat → Int64} {se : Nat → Int32} {C : Nat → Nat → Nat} {p : Nat → Nat} {post : SX → Prop} {i : Nat} (HV : zx_HV C st en fo pa fw wo fp pw pt pr ba pv wa fx wi ch)
    (hC : ∀ w t, w < 5 → t < 5 → C w t ≤ 1000000000) (hi : i < 5) (hho : ∀ t, t < 6 → ho t = nI (p t)) (hO : zh_O (fun w t => (C (w - 1) (t - 1) : Int)) i p (zx_i wp) (zx_i tp))
    (K : ∀ (wp tp : Nat → Int64) (ho be : Nat → Int32) (sl : Nat → Int64) (se : Nat → Int32) (p : Nat → Nat), (∀ t, t < 6 → ho t = nI (p t)) → zh_O (fun w t => (C (w - 1) (t - 1) : Int)) (i + 1) p (zx_i wp) (zx_i tp) → post (st, en, fo, pa, fw, wo, fp, pw, pt, pr, ba, pv, wa, fx, wi, ch, wp, tp, ho, be, sl, se)) : wpX_bringIn post (st, en, fo, pa, fw, wo, fp, pw, pt, pr, ba, pv, wa, fx, wi, ch, wp, tp, ho, be, sl, se) (nI (i + 1)) := by
  obtain ⟨o1, o2, o3, P1, P2, P3, P4, P5⟩ := hO
  have hp1 : ∀ t, t < 6 → zh_up p 0 (i + 1) t ≤ i + 1 := by
    intro t ht
    by_cases z : t = 0
    · subst z; rw [zh_us]; omega
    · rw [zh_un z]
      have := o1 t (by omega) (by omega)
      omega
  have hinj : ∀ s t, s < 6 → t < 6 → zh_up p 0 (i + 1) s = zh_up p 0 (i + 1) t → zh_up p 0 (i + 1) s ≠ 0 → s = t := by
    intro s t hs ht
    by_cases z : s = 0
    · subst z
      by_cases y : t = 0
      · intro _ _; exact y.symm
      · rw [zh_us, zh_un y]
        intro e _
        have := o1 t (by omega) (by omega)
        omega
    · by_cases y : t = 0
      · subst y
        rw [zh_us, zh_un z]
        intro e _
        have := o1 s (by omega) (by omega)
        omega
      · rw [zh_un z, zh_un y]
        exact o2 s t (by omega) (by omega) (by omega) (by omega)
  have hP : zh_P (fun w t => (C (w - 1) (t - 1) : Int)) (zh_up p 0 (i + 1)) (zx_i wp) (zx_i tp) := by
    refine ⟨P1, ?_, P3, P4, ?_⟩
    · intro t t1 t5
      rw [zh_un (by omega)]
      exact P2 t t1 t5
    · intro t t1 t5
      rw [zh_un (by omega)]
      exact P5 t t1 t5
  have hfr : ∃ f, 1 ≤ f ∧ f ≤ 5 ∧ zh_up p 0 (i + 1) f = 0 := zh_free (p := zh_up p 0 (i + 1)) (by rw [zh_c0]; exact o3) hi
  have h00 : zh_up p 0 (i + 1) 0 ≠ 0 := by rw [zh_us]; omega
  have hho1 : ∀ t, t < 6 → upd ho 0 (nI (i + 1)) t = nI (zh_up p 0 (i + 1) t) := by
    intro t ht
    by_cases z : t = 0
    · subst z; rw [pk_us, zh_us]
    · rw [pk_un z, zh_un z]; exact hho t ht
  have hp5 : ∀ t, t < 6 → zh_up p 0 (i + 1) t ≤ 5 := fun t ht => Nat.le_trans (hp1 t ht) (by omega)
  unfold wpX_bringIn
  dsimp only
  refine nm_e ⟨7, zx_b9 ?_ 6 0 be sl se rfl (fun t ht => absurd ht (by omega))⟩
  intro be1 sl1 se1 h1
  refine ⟨7, zx_b48 HV hC hho1 hp5 hinj hfr ?_ 6 0 0 wp tp be1 sl1 se1 (fun _ => 0) (fun _ => 0) rfl ?_ ?_ ?_⟩
  · intro a k wp2 tp2 be2 sl2 se2 b2 rk2 hk I hz hb
    have hW := zh_way I h00 hz
    refine ⟨7, zx_b84 hW hb ?_ 6 0 a _ (zh_up p 0 (i + 1)) rfl (zh_G0 I.1 I.2.1 hp1 hinj h00 hz (by rw [zh_c0, o3])) ?_ hho1⟩
    · intro ho3 p3 hh hG
      exact K wp2 tp2 ho3 be2 sl2 se2 p3 hh (zh_Ge I.1 hG)
    · rw [if_pos rfl]
      omega
  · have hS : ∀ s, s < 6 → ¬ ¬ se1 s = 0 := fun s hs h => h (h1 s hs).2.2
    refine ⟨hP, by omega, hS 0 (by omega), fun s hs h => absurd h (hS s hs), fun s hs h => absurd h (hS s hs), ?_, Or.inl ⟨rfl, rfl, hS⟩⟩
    intro t t1 t5 _
    refine ⟨fun s hs h => absurd h (hS s hs), Or.inl ⟨rfl, ?_⟩⟩
    unfold zx_i
    rw [(h1 t (by omega)).2.1]
    decide
  · intro t ht
    exact ⟨(h1 t ht).1, by decide⟩
  · exact zx_ct0 (fun t ht => (h1 t ht).2.2)
end
section
/-! solve -/
theorem zx_s2 {st en fo pa fw wo fp pw pt : Int32} {pr ba : Nat → Int32} {pv : Nat → Int64} {wa fx wi : Nat → Int32} {ch : Nat → Int64} {be : Nat → Int32} {sl : Nat → Int64} {se : Nat → Int32} {post : Int64 → SX → Prop}
    (K : ∀ (wp tp : Nat → Int64) (ho : Nat → Int32), (∀ t, t < 6 → wp t = 0 ∧ tp t = 0 ∧ ho t = 0) → ∃ n37, wX_solve_37 post n37 1 st en fo pa fw wo fp pw pt pr ba pv wa fx wi ch wp tp ho be sl se) :
    ∀ (d i : Nat) (wp tp : Nat → Int64) (ho : Nat → Int32), i + d = 6 → (∀ t, t < i → wp t = 0 ∧ tp t = 0 ∧ ho t = 0) → wX_solve_2 post st en fo pa fw wo fp pw pt (d + 1) (nI i) pr ba pv wa fx wi ch wp tp ho be sl se := by
  intro d
  induction d with
  | zero =>
    intro i wp tp ho h6 h
    obtain rfl : i = 6 := by omega
    exact br_t (by decide) (K wp tp ho h)
  | succ d ih =>
    intro i wp tp ho h6 h
    refine pk_le 6 i (fun h => absurd h (by omega)) (fun _ => ?_)
    have hv : vp_in (nI i) 6 := vp_in_nI (by omega) (by omega)
    rw [nI_clamp (n := i) (by omega)]
    refine ⟨hv, nm_e ⟨hv, nm_e ⟨hv, nm_e (nm_r (nI_1 i) (ih (i + 1) _ _ _ (by omega) ?_))⟩⟩⟩
    intro t ht
    by_cases e : t = i
    · subst e
      rw [pk_uLs, pk_uLs, pk_us]
      exact ⟨rfl, rfl, rfl⟩
    · rw [pk_uLn e, pk_uLn e, pk_un e]
      exact h t (by omega)
def zx_T (C : Nat → Nat → Nat) (p : Nat → Nat) : Nat → Nat
  | 0 => 0
  | i + 1 => zx_T C p i + C (p (i + 1) - 1) i
theorem zx_s57 {st en fo pa fw wo fp pw pt : Int32} {pr ba : Nat → Int32} {pv : Nat → Int64} {wa fx wi : Nat → Int32} {ch : Nat → Int64} {wp tp : Nat → Int64} {ho be : Nat → Int32} {sl : Nat → Int64} {se : Nat → Int32} {C : Nat → Nat → Nat} {p : Nat → Nat} {post : Int64 → SX → Prop} (HV : zx_HV C st en fo pa fw wo fp pw pt pr ba pv wa fx wi ch) (hho : ∀ t, t < 6 → ho t = nI (p t)) (hp : ∀ t, t < 5 → p (t + 1) - 1 < 5) (hp0 : ∀ t, t < 5 → p (t + 1) ≠ 0)
    (K : post (lN (zx_T C p 5)) (st, en, fo, pa, fw, wo, fp, pw, pt, pr, ba, pv, wa, fx, wi, ch, wp, tp, ho, be, sl, se)) : ∀ d i, i + d = 5 → wX_solve_57 post st en fo pa fw wo fp pw pt pr ba pv wa fx wi ch wp tp ho be sl se (d + 1) (lN (zx_T C p i)) (nI (i + 1)) := by
  intro d
  induction d with
  | zero =>
    intro i hi
    obtain rfl : i = 5 := by omega
    exact br_t (by decide) K
  | succ d ih =>
    intro i hi
    have a1 := hp i (by omega)
    have a0 := hp0 i (by omega)
    refine pk_lt 5 (i + 1) (fun h => absurd h (by omega)) (fun _ => ⟨vp_in_nI (by omega) (by omega), ?_⟩)
    rw [nI_clamp (n := i + 1) (by omega), hho (i + 1) (by omega), zn_pred (n := p (i + 1)) (by omega), nI_pred i]
    refine HV _ _ _ _ _ _ _ _ _ a1 (by omega) ?_
    exact nm_r (e' := lN (zx_T C p (i + 1))) (lN_add _ _) (nm_r (nI_1 (i + 1)) (ih (i + 1) (by omega)))
theorem zx_s37 {st en fo pa fw wo fp pw pt : Int32} {pr ba : Nat → Int32} {pv : Nat → Int64} {wa fx wi : Nat → Int32} {ch : Nat → Int64} {C : Nat → Nat → Nat} {post : Int64 → SX → Prop} (HV : zx_HV C st en fo pa fw wo fp pw pt pr ba pv wa fx wi ch) (hC : ∀ w t, w < 5 → t < 5 → C w t ≤ 1000000000)
    (K : ∀ (wp tp : Nat → Int64) (ho be : Nat → Int32) (sl : Nat → Int64) (se : Nat → Int32) (p : Nat → Nat), (∀ t, t < 6 → ho t = nI (p t)) → zh_O (fun w t => (C (w - 1) (t - 1) : Int)) 5 p (zx_i wp) (zx_i tp) → ∃ n57, wX_solve_57 post st en fo pa fw wo fp pw pt pr ba pv wa fx wi ch wp tp ho be sl se n57 0 1) :
    ∀ (d i : Nat) (wp tp : Nat → Int64) (ho be : Nat → Int32) (sl : Nat → Int64) (se : Nat → Int32) (p : Nat → Nat), i + d = 5 → (∀ t, t < 6 → ho t = nI (p t)) → zh_O (fun w t => (C (w - 1) (t - 1) : Int)) i p (zx_i wp) (zx_i tp) → wX_solve_37 post (d + 1) (nI (i + 1)) st en fo pa fw wo fp pw pt pr ba pv wa fx wi ch wp tp ho be sl se := by
  intro d
  induction d with
  | zero =>
    intro i wp tp ho be sl se p hi hho hO
    obtain rfl : i = 5 := by omega
    exact br_t (by decide) (K wp tp ho be sl se p hho hO)
  | succ d ih =>
    intro i wp tp ho be sl se p hi hho hO
    refine pk_lt 5 (i + 1) (fun h => absurd h (by omega)) (fun _ => ?_)
    refine zx_bring HV hC (by omega) hho hO ?_
    intro wp' tp' ho' be' sl' se' p' hho' hO'
    intro y ey
    rw [ey, nI_1]
    exact ih (i + 1) wp' tp' ho' be' sl' se' p' (by omega) hho' hO'
theorem zx_solve {st en fo pa fw wo fp pw pt : Int32} {pr ba : Nat → Int32} {pv : Nat → Int64} {wa fx wi : Nat → Int32} {ch : Nat → Int64} {wp tp : Nat → Int64} {ho be : Nat → Int32} {sl : Nat → Int64} {se : Nat → Int32} {g : Nat → Nat} {op : Nat → Nat → Bool} {post : Int64 → SX → Prop} (HV : zx_HV (zd_C g op) st en fo pa fw wo fp pw pt pr ba pv wa fx wi ch)
    (K : ∀ (wp tp : Nat → Int64) (ho be : Nat → Int32) (sl : Nat → Int64) (se : Nat → Int32) (T : Nat), zd_Res g (fun n => ∀ w, w < 5 → op w (zd_dg n w) = true) T → post (lN T) (st, en, fo, pa, fw, wo, fp, pw, pt, pr, ba, pv, wa, fx, wi, ch, wp, tp, ho, be, sl, se)) : wpX_solve post (st, en, fo, pa, fw, wo, fp, pw, pt, pr, ba, pv, wa, fx, wi, ch, wp, tp, ho, be, sl, se) := by
  have hC : ∀ w t, w < 5 → t < 5 → zd_C g op w t ≤ 1000000000 := fun w t _ ht => zd_Cle ht
  unfold wpX_solve
  dsimp only
  refine ⟨7, zx_s2 ?_ 6 0 wp tp ho rfl (fun t ht => absurd ht (by omega))⟩
  intro wp1 tp1 ho1 h1
  refine ⟨6, zx_s37 HV hC ?_ 5 0 wp1 tp1 ho1 be sl se (fun _ => 0) rfl (fun t ht => (h1 t ht).2.2) ?_⟩
  · intro wp2 tp2 ho2 be2 sl2 se2 p hho hO
    obtain ⟨f1, f2, f3, f4⟩ := zh_fin hO
    refine ⟨6, zx_s57 HV hho f1 f3 ?_ 5 0 rfl⟩
    refine K wp2 tp2 ho2 be2 sl2 se2 _ ?_
    have e : zx_T (zd_C g op) p 5 = zd_C g op (p 1 - 1) 0 + zd_C g op (p 2 - 1) 1 + zd_C g op (p 3 - 1) 2 + zd_C g op (p 4 - 1) 3 + zd_C g op (p 5 - 1) 4 := by
      show 0 + _ + _ + _ + _ + _ = _
      rw [Nat.zero_add]
    rw [e]
    exact zd_res (q := fun t => p (t + 1) - 1) f1 f2 rfl f4
  · have z : ∀ t, t < 6 → zx_i wp1 t = 0 ∧ zx_i tp1 t = 0 := by
      intro t ht
      unfold zx_i
      rw [(h1 t ht).1, (h1 t ht).2.1]
      exact ⟨by decide, by decide⟩
    refine ⟨fun _ _ _ => Nat.le_refl _, fun x y _ _ _ _ _ h => absurd rfl h, rfl, ?_, fun t _ _ h => absurd rfl h, ?_, ?_, ?_⟩
    · intro w t w1 w5 t1 t5
      rw [(z w (by omega)).1, (z t (by omega)).2]
      dsimp only
      omega
    · intro w w1 w5; rw [(z w (by omega)).1]; exact Int.le_refl _
    · intro t t1 t5; rw [(z t (by omega)).2]; exact Int.le_refl _
    · intro t t1 t5 _; exact (z t (by omega)).2
end
section
/-! the parts, pure: f plans found, q parts, R what is still to be laid -/
def zf_in (m x s n : Nat) : Prop := (∀ j, j < x → zd_dg n j = zd_dg m j) ∧ s.testBit (zd_dg n x) = false
def zf_F (g : Nat → Nat) (f q : Nat) (wa : Nat → Int32) (X Sx M : Nat → Nat) (R : Nat → Prop) : Prop :=
  (∀ k, k < q → ¬ wa k = 0 → X k < 5 ∧ Sx k < 32 ∧ zd_fe g (M k) ∧ zf_in (M k) (X k) (Sx k) (M k) ∧ ∀ n, zd_fe g n → zf_in (M k) (X k) (Sx k) n → zd_vl g (M k) ≤ zd_vl g n) ∧
  (∀ n, zd_fe g n → (∀ r, r < f → zd_A g r ≠ zd_vl g n) → R n ∨ ∃ k, k < q ∧ ¬ wa k = 0 ∧ zf_in (M k) (X k) (Sx k) n) ∧
  (∀ n k, zd_fe g n → k < q → ¬ wa k = 0 → zf_in (M k) (X k) (Sx k) n → (∀ r, r < f → zd_A g r ≠ zd_vl g n) ∧ ¬ R n ∧ ∀ k', k' < q → ¬ wa k' = 0 → zf_in (M k') (X k') (Sx k') n → k' = k) ∧
  (∀ n, zd_fe g n → R n → ∀ r, r < f → zd_A g r ≠ zd_vl g n)
theorem zf_R {g : Nat → Nat} {f q : Nat} {wa : Nat → Int32} {X Sx M : Nat → Nat} {R R' : Nat → Prop} (h : zf_F g f q wa X Sx M R) (hR : ∀ n, zd_fe g n → (R n ↔ R' n)) : zf_F g f q wa X Sx M R' := by
  obtain ⟨h1, h2, h3, h4⟩ := h
  refine ⟨h1, ?_, ?_, ?_⟩
  · intro n hn hr
    rcases h2 n hn hr with z | z
    · exact Or.inl ((hR n hn).mp z)
    · exact Or.inr z
  · intro n k hn hk hw hz
    obtain ⟨a, b, c⟩ := h3 n k hn hk hw hz
    exact ⟨a, fun z => b ((hR n hn).mpr z), c⟩
  · intro n hn hz
    exact h4 n hn ((hR n hn).mpr hz)
theorem zf_inc {m m' x s n : Nat} (h : zf_in m x s m') : zf_in m' x s n ↔ zf_in m x s n := by
  constructor
  · rintro ⟨a, b⟩
    exact ⟨fun j hj => (a j hj).trans (h.1 j hj), b⟩
  · rintro ⟨a, b⟩
    exact ⟨fun j hj => (a j hj).trans (h.1 j hj).symm, b⟩
theorem zf_add {g : Nat → Nat} {f q : Nat} {wa : Nat → Int32} {X Sx M : Nat → Nat} {R : Nat → Prop} {m m' w s : Nat} (h : zf_F g f q wa X Sx M R) (hsub : ∀ n, zd_fe g n → zf_in m w s n → R n)
    (hw : w < 5) (hs : s < 32) (hm : zd_fe g m') (hin : zf_in m w s m') (hmin : ∀ n, zd_fe g n → zf_in m w s n → zd_vl g m' ≤ zd_vl g n) :
    zf_F g f (q + 1) (upd wa q 1) (zh_up X q w) (zh_up Sx q s) (zh_up M q m') (fun n => R n ∧ ¬ zf_in m w s n) := by
  obtain ⟨h1, h2, h3, h4⟩ := h
  have lo : ∀ k, k < q + 1 → k ≠ q → k < q := fun k a b => by omega
  refine ⟨?_, ?_, ?_, ?_⟩
  · intro k hk
    by_cases e : k = q
    · subst e
      rw [zh_us, zh_us, zh_us]
      intro _
      exact ⟨hw, hs, hm, (zf_inc hin).mpr hin, fun n hn hz => hmin n hn ((zf_inc hin).mp hz)⟩
    · rw [zh_un e, zh_un e, zh_un e, pk_un e]
      exact h1 k (lo k hk e)
  · intro n hn hr
    rcases h2 n hn hr with z | ⟨k, k1, k2, k3⟩
    · by_cases y : zf_in m w s n
      · refine Or.inr ⟨q, by omega, ?_, ?_⟩
        · rw [pk_us]; decide
        · rw [zh_us, zh_us, zh_us]; exact (zf_inc hin).mpr y
      · exact Or.inl ⟨z, y⟩
    · refine Or.inr ⟨k, by omega, ?_, ?_⟩
      · rw [pk_un (by omega)]; exact k2
      · rw [zh_un (by omega), zh_un (by omega), zh_un (by omega)]; exact k3
  · intro n k hn hk
    by_cases e : k = q
    · subst e
      rw [zh_us, zh_us, zh_us, pk_us]
      intro _ hz
      have hz' := (zf_inc hin).mp hz
      have hR := hsub n hn hz'
      refine ⟨h4 n hn hR, fun z => z.2 hz', ?_⟩
      intro k' hk'
      by_cases e' : k' = k
      · intro _ _; exact e'
      · rw [zh_un e', zh_un e', zh_un e', pk_un e']
        intro a b
        exact absurd hR (h3 n k' hn (lo k' hk' e') a b).2.1
    · rw [zh_un e, zh_un e, zh_un e, pk_un e]
      intro a b
      obtain ⟨c1, c2, c3⟩ := h3 n k hn (lo k hk e) a b
      refine ⟨c1, fun z => c2 z.1, ?_⟩
      intro k' hk'
      by_cases e' : k' = q
      · subst e'
        rw [zh_us, zh_us, zh_us, pk_us]
        intro _ hz
        exact absurd (hsub n hn ((zf_inc hin).mp hz)) c2
      · rw [zh_un e', zh_un e', zh_un e', pk_un e']
        exact c3 k' (lo k' hk' e')
  · intro n hn hz
    exact h4 n hn hz.1
theorem zd_Asort (g : Nat → Nat) {i j : Nat} (h : i < j) (hj : j < zd_K g) : zd_A g i < zd_A g j := (zd_AK g).2.1 i j h hj
theorem zd_Aof (g : Nat → Nat) {i : Nat} (h : i < zd_K g) : ∃ n, zd_fe g n ∧ zd_A g i = zd_vl g n := by
  obtain ⟨n, _, a, b⟩ := (zd_AK g).2.2.1 i h
  exact ⟨n, a, b⟩
theorem zd_Ain (g : Nat → Nat) {n : Nat} (h : zd_fe g n) : ∃ i, i < zd_K g ∧ zd_A g i = zd_vl g n := (zd_AK g).2.2.2 n h.1 h
theorem zf_none {g : Nat → Nat} {f q : Nat} {wa : Nat → Int32} {X Sx M : Nat → Nat} (h : zf_F g f q wa X Sx M (fun _ => False)) (hf : f ≤ zd_K g) (hw : ∀ k, k < q → wa k = 0) : f = zd_K g := by
  by_cases z : f < zd_K g
  · exfalso
    obtain ⟨n, hn, e⟩ := zd_Aof g z
    rcases h.2.1 n hn (fun r hr e2 => by have := zd_Asort g hr z; omega) with y | ⟨k, k1, k2, _⟩
    · exact y
    · exact k2 (hw k k1)
  · omega
theorem zf_take {g : Nat → Nat} {f q k0 : Nat} {wa : Nat → Int32} {X Sx M : Nat → Nat} (h : zf_F g f q wa X Sx M (fun _ => False)) (hf : f ≤ zd_K g) (hk : k0 < q) (hw : ¬ wa k0 = 0)
    (hmin : ∀ k, k < q → ¬ wa k = 0 → zd_vl g (M k0) ≤ zd_vl g (M k)) :
    f < zd_K g ∧ zd_A g f = zd_vl g (M k0) ∧ zf_F g (f + 1) q (upd wa k0 0) X Sx M (fun n => zf_in (M k0) (X k0) (Sx k0) n ∧ n ≠ M k0) := by
  obtain ⟨h1, h2, h3, h4⟩ := h
  obtain ⟨a1, a2, a3, a4, a5⟩ := h1 k0 hk hw
  obtain ⟨r, hr, er⟩ := zd_Ain g a3
  have hnf := (h3 (M k0) k0 a3 hk hw a4).1
  have fr : f ≤ r := by
    by_cases z : r < f
    · exact absurd er (hnf r z)
    · omega
  have fK : f < zd_K g := by omega
  have hAf : zd_A g f = zd_vl g (M k0) := by
    obtain ⟨n, hn, e⟩ := zd_Aof g fK
    have nf : ∀ r, r < f → zd_A g r ≠ zd_vl g n := fun r hr e2 => by have := zd_Asort g hr fK; omega
    rcases h2 n hn nf with y | ⟨k, k1, k2, k3⟩
    · exact y.elim
    · have b1 := hmin k k1 k2
      have b2 := (h1 k k1 k2).2.2.2.2 n hn k3
      have b3 : zd_A g f ≤ zd_A g r := by
        by_cases z : f = r
        · subst z; exact Nat.le_refl _
        · exact Nat.le_of_lt (zd_Asort g (by omega) hr)
      omega
  have wk : ∀ k, ¬ upd wa k0 0 k = 0 → k ≠ k0 ∧ ¬ wa k = 0 := by
    intro k hz
    by_cases e : k = k0
    · subst e; rw [pk_us] at hz; exact absurd rfl hz
    · rw [pk_un e] at hz; exact ⟨e, hz⟩
  refine ⟨fK, hAf, ?_, ?_, ?_, ?_⟩
  · intro k k1 k2
    exact h1 k k1 (wk k k2).2
  · intro n hn hr
    rcases h2 n hn (fun r hr' => hr r (by omega)) with y | ⟨k, k1, k2, k3⟩
    · exact y.elim
    · by_cases e : k = k0
      · subst e
        refine Or.inl ⟨k3, fun e2 => ?_⟩
        subst e2
        exact hr f (by omega) hAf
      · exact Or.inr ⟨k, k1, by rw [pk_un e]; exact k2, k3⟩
  · intro n k hn k1 k2 k3
    obtain ⟨e, k2'⟩ := wk k k2
    obtain ⟨c1, c2, c3⟩ := h3 n k hn k1 k2' k3
    refine ⟨?_, ?_, ?_⟩
    · intro r hr e2
      by_cases z : r = f
      · subst z
        have e3 := zd_vinj a3.1 hn.1 (hAf.symm.trans e2)
        subst e3
        exact e (c3 k0 hk hw a4).symm
      · exact c1 r (by omega) e2
    · rintro ⟨z, _⟩
      exact e (c3 k0 hk hw z).symm
    · intro k' x1 x2 x3
      exact c3 k' x1 (wk k' x2).2 x3
  · rintro n hn ⟨z1, z2⟩ r hr e2
    by_cases z : r = f
    · subst z
      exact z2 (zd_vinj hn.1 a3.1 (e2.symm.trans hAf))
    · exact (h3 n k0 hn hk hw z1).1 r (by omega) e2
/-! dividing a part -/
def zf_Rw (m x s w n : Nat) : Prop := (∀ j, j < w → zd_dg n j = zd_dg m j) ∧ n ≠ m ∧ (w = x → s.testBit (zd_dg n x) = false)
theorem zf_bit {s d t : Nat} : (s ||| 2 ^ d).testBit t = false ↔ s.testBit t = false ∧ d ≠ t := by
  rw [Nat.testBit_or, Nat.testBit_two_pow, Bool.or_eq_false_iff, decide_eq_false_iff_not]
theorem zf_R0 {m x s n : Nat} : (zf_in m x s n ∧ n ≠ m) ↔ zf_Rw m x s x n :=
  ⟨fun h => ⟨h.1.1, h.2, fun _ => h.1.2⟩, fun h => ⟨⟨h.1, h.2.2 rfl⟩, h.2.1⟩⟩
theorem zf_Rs {m x s w s' n : Nat} (hs : s' = if w = x then s else 0) (h : zf_in m w (s' ||| 2 ^ zd_dg m w) n) : zf_Rw m x s w n := by
  obtain ⟨a, b⟩ := h
  rw [zf_bit] at b
  refine ⟨a, ?_, ?_⟩
  · intro e; subst e; exact b.2 rfl
  · intro e; subst e; rw [if_pos rfl] at hs; subst hs; exact b.1
theorem zf_Rn {m x s w s' n : Nat} (hs : s' = if w = x then s else 0) (hx : x ≤ w) (hm : s.testBit (zd_dg m x) = false) : (zf_Rw m x s w n ∧ ¬ zf_in m w (s' ||| 2 ^ zd_dg m w) n) ↔ zf_Rw m x s (w + 1) n := by
  constructor
  · rintro ⟨⟨a, b, c⟩, d⟩
    refine ⟨?_, b, fun e => by omega⟩
    intro j hj
    by_cases e : j = w
    · subst e
      by_cases z : zd_dg n j = zd_dg m j
      · exact z
      · exfalso
        refine d ⟨a, ?_⟩
        rw [zf_bit]
        refine ⟨?_, fun e => z e.symm⟩
        by_cases y : j = x
        · subst y; rw [if_pos rfl] at hs; subst hs; exact c rfl
        · rw [if_neg y] at hs; subst hs; exact Nat.zero_testBit _
    · exact a j (by omega)
  · rintro ⟨a, b, c⟩
    refine ⟨⟨fun j hj => a j (by omega), b, ?_⟩, ?_⟩
    · intro e; subst e; rw [a w (by omega)]; exact hm
    · rintro ⟨_, d⟩
      rw [zf_bit] at d
      exact d.2 (a w (by omega)).symm
theorem zf_R5 {g : Nat → Nat} {m x s n : Nat} (hm : m < 3125) (hn : zd_fe g n) : ¬ zf_Rw m x s 5 n := by
  rintro ⟨a, b, _⟩
  exact b (zd_ext hn.1 hm a)
theorem zf_inop {m x s n : Nat} (hx : x < 5) : (∀ w, w < 5 → zx_op m x s (fun _ _ => true) w (zd_dg n w) = true) ↔ zf_in m x s n := by
  unfold zx_op
  constructor
  · intro h
    have h' : ∀ w, w < 5 → (w < x → zd_dg m w = zd_dg n w) ∧ (w = x → s.testBit (zd_dg n w) = false) := by
      intro w hw
      have := h w hw
      rw [Bool.and_true, decide_eq_true_iff] at this
      exact this
    exact ⟨fun j hj => ((h' j (by omega)).1 hj).symm, (h' x hx).2 rfl⟩
  · rintro ⟨a, b⟩ w hw
    rw [Bool.and_true, decide_eq_true_iff]
    exact ⟨fun h => (a w h).symm, fun e => by subst e; exact b⟩
def zf_S (g : Nat → Nat) (f q : Nat) (pv : Nat → Int64) (fx wi : Nat → Int32) (ch : Nat → Int64) (X Sx M : Nat → Nat) : Prop :=
  f ≤ zd_K g ∧ (∀ r, r < f → pv r = lN (zd_A g r)) ∧ (∀ k, k < q → fx k = nI (X k) ∧ wi k = nI (Sx k) ∧ ch k = lN (zd_vl g (M k)))
end
section
/-! addPart, divide, findUpTo -/
theorem zf_addw {st en fo pa fw wo fp pw pt : Int32} {pr ba : Nat → Int32} {pv : Nat → Int64} {wa fx wi : Nat → Int32} {ch : Nat → Int64} {wp tp : Nat → Int64} {ho be : Nat → Int32} {sl : Nat → Int64} {se : Nat → Int32} {g : Nat → Nat} (hP : zx_Px g pr ba) (hpw : pw = -1) {w s m q f : Nat} {X Sx M : Nat → Nat} {R : Nat → Prop} (hw : w < 5) (hs : s < 32) (hm : m < 3125) (hpa : pa = nI q) (hq : q < 640)
    (hS : zf_S g f q pv fx wi ch X Sx M) (hF : zf_F g f q wa X Sx M R) (hsub : ∀ n, zd_fe g n → zf_in m w s n → R n) {post : SX → Prop}
    (K : ∀ (pa : Int32) (wa fx' wi' : Nat → Int32) (ch : Nat → Int64) (wp tp : Nat → Int64) (ho be : Nat → Int32) (sl : Nat → Int64) (se : Nat → Int32) (q' : Nat) (X Sx M : Nat → Nat), pa = nI q' → q ≤ q' → q' ≤ q + 1 → zf_S g f q' pv fx' wi' ch X Sx M →
      zf_F g f q' wa X Sx M (fun n => R n ∧ ¬ zf_in m w s n) → (∀ k, k < q → fx' k = fx k ∧ wi' k = wi k) → post (st, en, fo, pa, nI w, nI s, nI m, pw, pt, pr, ba, pv, wa, fx', wi', ch, wp, tp, ho, be, sl, se)) : wpX_addPart post (st, en, fo, pa, fw, wo, fp, pw, pt, pr, ba, pv, wa, fx, wi, ch, wp, tp, ho, be, sl, se) (nI w) (nI s) (nI m) := by
  subst hpa
  have HV := zx_HVof (st := st) (en := en) (fo := fo) (pa := nI q) (pt := pt) (pv := pv) (wa := wa) (fx := fx) (wi := wi) (ch := ch) (pin := fun _ _ => true) hP (Or.inl ⟨hpw, fun _ _ => rfl⟩) hw hs hm rfl rfl rfl
  unfold wpX_addPart wpX_setPart
  dsimp only
  refine zx_solve HV ?_
  intro wp' tp' ho' be' sl' se' T hT
  dsimp only
  have hv : vp_in (nI q) 640 := vp_in_nI hq (by omega)
  rcases hT with ⟨t1, m', m1, m2, m3, m4⟩ | ⟨t1, t2, t3⟩
  · have m2' := (zf_inop hw).mp m2
    refine br_f (fun h => absurd ((pk_lLE (a := 1000000000) (b := T) (by omega) (by omega)).mp h) (by omega)) ?_
    rw [nI_clamp (n := q) (by omega), zn_vb1]
    refine ⟨hv, nm_e ⟨hv, nm_e ⟨hv, nm_e ⟨hv, nm_e (nm_r (nI_1 q) ?_)⟩⟩⟩⟩
    refine K _ _ _ _ _ _ _ _ _ _ _ (q + 1) (zh_up X q w) (zh_up Sx q s) (zh_up M q m') rfl (by omega) (by omega) ⟨hS.1, hS.2.1, ?_⟩ (zf_add hF hsub hw hs m1 m2' (fun n hn hz => m4 n hn ((zf_inop hw).mpr hz))) ?_
    · intro k hk
      by_cases e : k = q
      · subst e
        rw [pk_us, pk_us, pk_uLs, zh_us, zh_us, zh_us, m3]
        exact ⟨rfl, rfl, rfl⟩
      · rw [pk_un e, pk_un e, pk_uLn e, zh_un e, zh_un e, zh_un e]
        exact hS.2.2 k (by omega)
    · intro k hk
      rw [pk_un (by omega), pk_un (by omega)]
      exact ⟨rfl, rfl⟩
  · refine br_t ((pk_lLE (a := 1000000000) (b := T) (by omega) (by omega)).mpr t1) ?_
    refine K _ _ _ _ _ _ _ _ _ _ _ q X Sx M rfl (by omega) (by omega) hS (zf_R hF ?_) (fun _ _ => ⟨rfl, rfl⟩)
    intro n hn
    exact ⟨fun h => ⟨h, fun z => t3 n hn ((zf_inop hw).mpr z)⟩, fun h => h.1⟩
theorem zf_d19 {st en fo pw pt : Int32} {pr ba : Nat → Int32} {pv : Nat → Int64} {g : Nat → Nat} (hP : zx_Px g pr ba) (hpw : pw = -1) {f k0 x s m q0 : Nat} {post : SX → Prop} (hk : k0 < q0) (hq0 : q0 ≤ 600) (hx : x < 5) (hs : s < 32) (hm : m < 3125) (hms : s.testBit (zd_dg m x) = false)
    (K : ∀ (pa fw wo fp : Int32) (wa fx wi : Nat → Int32) (ch wp tp : Nat → Int64) (ho be : Nat → Int32) (sl : Nat → Int64) (se : Nat → Int32) (q : Nat) (X Sx M : Nat → Nat), pa = nI q → q ≤ q0 + 5 → zf_S g f q pv fx wi ch X Sx M → zf_F g f q wa X Sx M (fun _ => False) → post (st, en, fo, pa, fw, wo, fp, pw, pt, pr, ba, pv, wa, fx, wi, ch, wp, tp, ho, be, sl, se)) :
    ∀ (d w : Nat) (pa fw wo fp : Int32) (wa fx wi : Nat → Int32) (ch wp tp : Nat → Int64) (ho be : Nat → Int32) (sl : Nat → Int64) (se : Nat → Int32) (q : Nat) (X Sx M : Nat → Nat), w + d = 5 → x ≤ w → pa = nI q → q0 ≤ q → q ≤ q0 + w → fx k0 = nI x → wi k0 = nI s → zf_S g f q pv fx wi ch X Sx M → zf_F g f q wa X Sx M (zf_Rw m x s w) →
      wX_divide_19 post (nI k0) (nI m) (d + 1) (nI w) st en fo pa fw wo fp pw pt pr ba pv wa fx wi ch wp tp ho be sl se := by
  intro d
  induction d with
  | zero =>
    intro w pa fw wo fp wa fx wi ch wp tp ho be sl se q X Sx M hd hxw hpa hq hq' hfx hwi hS hF
    obtain rfl : w = 5 := by omega
    refine br_t (by decide) (K pa fw wo fp wa fx wi ch wp tp ho be sl se q X Sx M hpa hq' hS (zf_R hF ?_))
    intro n hn
    exact ⟨fun h => absurd h (zf_R5 hm hn), fun h => h.elim⟩
  | succ d ih =>
    intro w pa fw wo fp wa fx wi ch wp tp ho be sl se q X Sx M hd hxw hpa hq hq' hfx hwi hS hF
    refine pk_le 5 w (fun h => absurd h (by omega)) (fun _ => ?_)
    have hv : vp_in (nI k0) 640 := vp_in_nI (by omega) (by omega)
    have hdg := zd_lt m w
    refine ⟨hv, ?_⟩
    rw [nI_clamp (n := k0) (by omega), hfx, hwi]
    have core : ∀ s', s' = (if w = x then s else 0) → wX_divide_44 post (wX_divide_19 post (nI k0) (nI m) (d + 1)) (nI k0) (nI m) (nI w) (nI s') st en fo pa fw wo fp pw pt pr ba pv wa fx wi ch wp tp ho be sl se := by
      intro s' e'
      have hs' : s' < 32 := by
        subst e'
        by_cases z : w = x
        · rw [if_pos z]; exact hs
        · rw [if_neg z]; omega
      unfold wX_divide_44
      refine zx_dg (by omega) (by omega) ?_
      rw [zn_sh1 _ hdg, zn_or]
      refine zf_addw hP hpw (by omega) (Nat.or_lt_two_pow (n := 5) hs' (Nat.pow_lt_pow_right (by decide) hdg)) hm hpa (by omega) hS hF (fun n _ h => zf_Rs e' h) ?_
      intro pa1 wa1 fx1 wi1 ch1 wp1 tp1 ho1 be1 sl1 se1 q1 X1 Sx1 M1 hpa1 hq1 hq2 hS1 hF1 hfw
      intro y ey
      rw [ey, nI_1]
      exact ih (w + 1) pa1 _ _ _ wa1 fx1 wi1 ch1 wp1 tp1 ho1 be1 sl1 se1 q1 X1 Sx1 M1 (by omega) (by omega) hpa1 (by omega) (by omega)
        ((hfw k0 (by omega)).1.trans hfx) ((hfw k0 (by omega)).2.trans hwi) hS1 (zf_R hF1 (fun n _ => zf_Rn e' hxw hms))
    refine pk_eq w x (fun e => ⟨hv, core s (by rw [if_pos e])⟩) (fun e => core 0 (by rw [if_neg e]))
theorem zf_div {st en fo pa fw wo fp pw pt : Int32} {pr ba : Nat → Int32} {pv : Nat → Int64} {wa fx wi : Nat → Int32} {ch : Nat → Int64} {wp tp : Nat → Int64} {ho be : Nat → Int32} {sl : Nat → Int64} {se : Nat → Int32} {g : Nat → Nat} (hP : zx_Px g pr ba) (hpw : pw = -1) {f k0 q : Nat} {X Sx M : Nat → Nat} {post : SX → Prop} (hk : k0 < q) (hq : q ≤ 600) (hpa : pa = nI q)
    (hx : X k0 < 5) (hs : Sx k0 < 32) (hm : zd_fe g (M k0)) (hms : (Sx k0).testBit (zd_dg (M k0) (X k0)) = false) (hS : zf_S g f q pv fx wi ch X Sx M)
    (hF : zf_F g f q wa X Sx M (fun n => zf_in (M k0) (X k0) (Sx k0) n ∧ n ≠ M k0))
    (K : ∀ (pa fw wo fp : Int32) (wa fx wi : Nat → Int32) (ch wp tp : Nat → Int64) (ho be : Nat → Int32) (sl : Nat → Int64) (se : Nat → Int32) (q' : Nat) (X Sx M : Nat → Nat), pa = nI q' → q' ≤ q + 5 → zf_S g f q' pv fx wi ch X Sx M → zf_F g f q' wa X Sx M (fun _ => False) → post (st, en, fo, pa, fw, wo, fp, pw, pt, pr, ba, pv, wa, fx, wi, ch, wp, tp, ho, be, sl, se)) : wpX_divide post (st, en, fo, pa, fw, wo, fp, pw, pt, pr, ba, pv, wa, fx, wi, ch, wp, tp, ho, be, sl, se) (nI k0) := by
  have hv : vp_in (nI k0) 640 := vp_in_nI (by omega) (by omega)
  obtain ⟨e1, e2, e3⟩ := hS.2.2 k0 hk
  have hvl := zd_vlt hm
  unfold wpX_divide
  dsimp only
  rw [nI_clamp (n := k0) (by omega), e1, e3]
  refine ⟨hv, by decide, nm_r (e' := nI (M k0)) ?_ ⟨hv, nm_e ⟨5 - X k0 + 1, ?_⟩⟩⟩
  · have r : lN (zd_vl g (M k0)) - lN (zd_vl g (M k0)) / 3125 * 3125 = lN (zd_vl g (M k0) % 3125) := pk_lRem (b := 3125) (by omega) (by decide) (by decide)
    rw [r, lN_i, zd_vmod hm.1]
  · refine zf_d19 hP hpw hk hq hx hs hm.1 hms K (5 - X k0) (X k0) pa fw wo fp wa fx wi ch wp tp ho be sl se q X Sx M (by omega) (Nat.le_refl _) hpa (Nat.le_refl _) (by omega) e1 e2 hS (zf_R hF (fun n _ => zf_R0))
def zf_Bs (wa : Nat → Int32) (ch : Nat → Int64) (i : Nat) (bb : Int32) : Prop :=
  (bb = -1 ∧ ∀ k, k < i → wa k = 0) ∨ (∃ k, k < i ∧ bb = nI k ∧ ¬ wa k = 0 ∧ ∀ j, j < i → ¬ wa j = 0 → ch k ≤ ch j)
theorem zf_62 {st en fo pa fw wo fp pw pt : Int32} {pr ba : Nat → Int32} {pv : Nat → Int64} {wa fx wi : Nat → Int32} {ch : Nat → Int64} {wp tp : Nat → Int64} {ho be : Nat → Int32} {sl : Nat → Int64} {se : Nat → Int32} {q : Nat} {x1 x2 : Int32} {post : SX → Prop} {J : Int32 → Int32 → Int32 → Int32 → Int32 → Int32 → Int32 → Int32 → Int32 → Int32 → (Nat → Int32) → (Nat → Int32) → (Nat → Int64) → (Nat → Int32) → (Nat → Int32) → (Nat → Int32) → (Nat → Int64) → (Nat → Int64) → (Nat → Int64) → (Nat → Int32) → (Nat → Int32) → (Nat → Int64) → (Nat → Int32) → Prop}
    (hpa : pa = nI q) (hq : q ≤ 640)
    (K1 : (∀ k, k < q → wa k = 0) → wX_findUpTo_125 post J x1 x2 (-1) 1 st en fo pa fw wo fp pw pt pr ba pv wa fx wi ch wp tp ho be sl se)
    (K2 : ∀ k, k < q → ¬ wa k = 0 → (∀ j, j < q → ¬ wa j = 0 → ch k ≤ ch j) → wX_findUpTo_125 post J x1 x2 (nI k) 0 st en fo pa fw wo fp pw pt pr ba pv wa fx wi ch wp tp ho be sl se) :
    ∀ (d i : Nat) (bb : Int32), i + d = q → zf_Bs wa ch i bb → wX_findUpTo_62 post J x1 x2 st en fo pa fw wo fp pw pt pr ba pv wa fx wi ch wp tp ho be sl se (d + 1) bb (nI i) := by
  subst hpa
  intro d
  induction d with
  | zero =>
    intro i bb hi hB
    obtain rfl : i = q := by omega
    refine br_t (nI_le (Nat.le_refl _) (by omega)) ?_
    rcases hB with ⟨e, h⟩ | ⟨k, k1, e, k2, k3⟩
    · subst e
      exact br_f (by decide) (K1 h)
    · subst e
      exact br_t (nI_pos' (by omega)) (K2 k k1 k2 k3)
  | succ d ih =>
    intro i bb hi hB
    refine pk_le q i (fun h => absurd h (by omega)) (fun _ => ?_)
    have hv : vp_in (nI i) 640 := vp_in_nI (by omega) (by omega)
    refine ⟨hv, ?_⟩
    rw [nI_clamp (n := i) (by omega)]
    refine br_c (fun hz => nm_r (nI_1 i) (ih (i + 1) bb (by omega) ?_)) (fun hz => ?_)
    · rcases hB with ⟨e, h⟩ | ⟨k, k1, e, k2, k3⟩
      · refine Or.inl ⟨e, fun k hk => ?_⟩
        by_cases y : k = i
        · subst y; exact hz
        · exact h k (by omega)
      · refine Or.inr ⟨k, by omega, e, k2, fun j hj hw => ?_⟩
        by_cases y : j = i
        · subst y; exact absurd hz hw
        · exact k3 j (by omega) hw
    · rcases hB with ⟨e, h⟩ | ⟨k, k1, e, k2, k3⟩
      · subst e
        refine br_t (by decide) (nm_r (nI_1 i) (ih (i + 1) (nI i) (by omega) (Or.inr ⟨i, by omega, rfl, hz, fun j hj hw => ?_⟩)))
        by_cases y : j = i
        · subst y; exact Int64.le_refl _
        · exact absurd (h j (by omega)) hw
      · subst e
        refine br_f (nI_pos (by omega)) ⟨hv, vp_in_nI (by omega) (by omega), ?_⟩
        rw [nI_clamp (n := k) (by omega)]
        refine br_c (fun hl => nm_r (nI_1 i) (ih (i + 1) (nI k) (by omega) (Or.inr ⟨k, by omega, rfl, k2, fun j hj hw => ?_⟩))) (fun hl => nm_r (nI_1 i) (ih (i + 1) (nI i) (by omega) (Or.inr ⟨i, by omega, rfl, hz, fun j hj hw => ?_⟩)))
        · by_cases y : j = i
          · subst y; exact hl
          · exact k3 j (by omega) hw
        · by_cases y : j = i
          · subst y; exact Int64.le_refl _
          · have a1 := k3 j (by omega) hw
            rw [zn_lle] at a1 hl ⊢
            omega
def zf_I (g : Nat → Nat) (f : Nat) (en fo pa : Int32) (pv : Nat → Int64) (wa fx wi : Nat → Int32) (ch : Nat → Int64) : Prop :=
  ∃ (q : Nat) (X Sx M : Nat → Nat), fo = nI f ∧ pa = nI q ∧ q ≤ 1 + 5 * f ∧ (en = 0 ∨ (en = 1 ∧ f = zd_K g)) ∧ zf_S g f q pv fx wi ch X Sx M ∧ zf_F g f q wa X Sx M (fun _ => False)
theorem zf_36 {st pw pt : Int32} {pr ba : Nat → Int32} {g : Nat → Nat} (hP : zx_Px g pr ba) (hpw : pw = -1) {c : Nat} {post : SX → Prop} (hc : c ≤ 120)
    (K : ∀ (en fo pa fw wo fp : Int32) (pv : Nat → Int64) (wa fx wi : Nat → Int32) (ch wp tp : Nat → Int64) (ho be : Nat → Int32) (sl : Nat → Int64) (se : Nat → Int32) (f : Nat), zf_I g f en fo pa pv wa fx wi ch → (c ≤ f ∨ f = zd_K g) → post (st, en, fo, pa, fw, wo, fp, pw, pt, pr, ba, pv, wa, fx, wi, ch, wp, tp, ho, be, sl, se)) :
    ∀ (d i f : Nat) (en fo pa fw wo fp : Int32) (pv : Nat → Int64) (wa fx wi : Nat → Int32) (ch wp tp : Nat → Int64) (ho be : Nat → Int32) (sl : Nat → Int64) (se : Nat → Int32), i + d = 120 → (i ≤ f ∨ f = zd_K g) → zf_I g f en fo pa pv wa fx wi ch → wX_findUpTo_36 post (nI c) (d + 1) (nI i) st en fo pa fw wo fp pw pt pr ba pv wa fx wi ch wp tp ho be sl se := by
  intro d
  induction d with
  | zero =>
    intro i f en fo pa fw wo fp pv wa fx wi ch wp tp ho be sl se hd hif I
    obtain rfl : i = 120 := by omega
    exact br_t (by decide) (K en fo pa fw wo fp pv wa fx wi ch wp tp ho be sl se f I (hif.imp (fun z => by omega) id))
  | succ d ih =>
    intro i f en fo pa fw wo fp pv wa fx wi ch wp tp ho be sl se hd hif I
    have I0 := I
    obtain ⟨q, X, Sx, M, rfl, rfl, hq, hen, hS, hF⟩ := I
    have hK := zd_K120 g
    have hfK := hS.1
    refine pk_le 120 i (fun h => absurd h (by omega)) (fun _ => ?_)
    refine pk_le c f (fun h => K en (nI f) (nI q) fw wo fp pv wa fx wi ch wp tp ho be sl se f I0 (Or.inl h)) (fun hcf => ?_)
    rcases hen with e | ⟨e, hf⟩
    · subst e
      refine br_t rfl ⟨q + 1, zf_62 rfl (by omega) ?_ ?_ q 0 (-1) (by omega) (Or.inl ⟨rfl, fun k hk => absurd hk (by omega)⟩)⟩
      · intro hno
        have hfe := zf_none hF hS.1 hno
        unfold wX_findUpTo_125
        refine ⟨rfl, rfl, br_f (by decide) (nm_r (nI_1 i) ?_)⟩
        exact ih (i + 1) f 1 (nI f) (nI q) fw wo fp pv wa fx wi ch wp tp ho be sl se (by omega) (Or.inr hfe) ⟨q, X, Sx, M, rfl, rfl, hq, Or.inr ⟨rfl, hfe⟩, hS, hF⟩
      · intro k0 hk hwk hmin
        have hvs : ∀ k, k < q → ¬ wa k = 0 → zd_vl g (M k) < 1600000 := fun k hk hw => zd_vlt (hF.1 k hk hw).2.2.1
        obtain ⟨t1, t2, t3⟩ := zf_take hF hS.1 hk hwk (by
          intro k hk' hw
          have a := hmin k hk' hw
          rw [(hS.2.2 k0 hk).2.2, (hS.2.2 k hk').2.2] at a
          exact (pk_lLE (by have := hvs k0 hk hwk; omega) (by have := hvs k hk' hw; omega)).mp a)
        obtain ⟨a1, a2, a3, a4, _⟩ := hF.1 k0 hk hwk
        have hv : vp_in (nI k0) 640 := vp_in_nI (by omega) (by omega)
        unfold wX_findUpTo_125
        refine ⟨rfl, rfl, br_t rfl ⟨hv, vp_in_nI (by omega) (by omega), ?_⟩⟩
        rw [nI_clamp (n := k0) (by omega), nI_clamp (n := f) (by omega), (hS.2.2 k0 hk).2.2, zn_vb0]
        refine nm_e (nm_r (nI_1 f) ⟨hv, nm_e ?_⟩)
        refine zf_div (f := f + 1) (X := X) (Sx := Sx) (M := M) hP hpw hk (by omega) rfl a1 a2 a3 a4.2 ⟨by omega, ?_, hS.2.2⟩ t3 ?_
        · intro r hr
          by_cases y : r = f
          · subst y; rw [pk_uLs, t2]
          · rw [pk_uLn y]; exact hS.2.1 r (by omega)
        · intro pa1 fw1 wo1 fp1 wa1 fx1 wi1 ch1 wp1 tp1 ho1 be1 sl1 se1 q1 X1 Sx1 M1 hpa1 hq1 hS1 hF1
          intro y ey
          rw [ey, nI_1]
          exact ih (i + 1) (f + 1) 0 (nI (f + 1)) pa1 fw1 wo1 fp1 _ wa1 fx1 wi1 ch1 wp1 tp1 ho1 be1 sl1 se1 (by omega) (by rcases hif with z | z; exact Or.inl (by omega); omega) ⟨q1, X1, Sx1, M1, rfl, hpa1, by omega, Or.inl rfl, hS1, hF1⟩
    · subst e
      exact br_f (by decide) (K 1 (nI f) (nI q) fw wo fp pv wa fx wi ch wp tp ho be sl se f I0 (Or.inr hf))
end
section
/-! the component's state against g -/
def zr_X (g : Nat → Nat) (st en fo pa pw : Int32) (pr ba : Nat → Int32) (pv : Nat → Int64) (wa fx wi : Nat → Int32) (ch : Nat → Int64) : Prop :=
  zx_Px g pr ba ∧ pw = -1 ∧ (st = 0 ∨ (st = 1 ∧ ∃ f, zf_I g f en fo pa pv wa fx wi ch))
theorem zr_find {st en fo pa fw wo fp pw pt : Int32} {pr ba : Nat → Int32} {pv : Nat → Int64} {wa fx wi : Nat → Int32} {ch : Nat → Int64} {wp tp : Nat → Int64} {ho be : Nat → Int32} {sl : Nat → Int64} {se : Nat → Int32} {g : Nat → Nat} {c : Nat} {post : SX → Prop} (hX : zr_X g st en fo pa pw pr ba pv wa fx wi ch) (hc : c ≤ 120)
    (K : ∀ (en fo pa fw wo fp : Int32) (pv : Nat → Int64) (wa fx wi : Nat → Int32) (ch wp tp : Nat → Int64) (ho be : Nat → Int32) (sl : Nat → Int64) (se : Nat → Int32) (f : Nat), fo = nI f → f ≤ zd_K g → (∀ r, r < f → pv r = lN (zd_A g r)) → (c ≤ f ∨ f = zd_K g) → zr_X g 1 en fo pa pw pr ba pv wa fx wi ch → post (1, en, fo, pa, fw, wo, fp, pw, pt, pr, ba, pv, wa, fx, wi, ch, wp, tp, ho, be, sl, se)) : wpX_findUpTo post (st, en, fo, pa, fw, wo, fp, pw, pt, pr, ba, pv, wa, fx, wi, ch, wp, tp, ho, be, sl, se) (nI c) := by
  obtain ⟨hP, hpw, hst⟩ := hX
  have K36 : ∀ (en fo pa fw wo fp : Int32) (pv : Nat → Int64) (wa fx wi : Nat → Int32) (ch wp tp : Nat → Int64) (ho be : Nat → Int32) (sl : Nat → Int64) (se : Nat → Int32) (f : Nat), zf_I g f en fo pa pv wa fx wi ch → (c ≤ f ∨ f = zd_K g) → post (1, en, fo, pa, fw, wo, fp, pw, pt, pr, ba, pv, wa, fx, wi, ch, wp, tp, ho, be, sl, se) := by
    intro en fo pa fw wo fp pv wa fx wi ch wp tp ho be sl se f I h
    have I0 := I
    obtain ⟨q, X, Sx, M, e1, e2, e3, e4, hS, hF⟩ := I
    exact K en fo pa fw wo fp pv wa fx wi ch wp tp ho be sl se f e1 hS.1 hS.2.1 h ⟨hP, hpw, Or.inr ⟨rfl, f, I0⟩⟩
  unfold wpX_findUpTo
  dsimp only
  rcases hst with e | ⟨e, f, I⟩
  · subst e
    refine br_t rfl ?_
    refine zf_addw (st := 1) (en := 0) (fo := 0) (w := 0) (s := 0) (m := 0) (q := 0) (f := 0) (X := fun _ => 0) (Sx := fun _ => 0) (M := fun _ => 0) (R := fun _ => True) hP hpw (by decide) (by decide) (by decide) rfl (by decide) ⟨Nat.zero_le _, fun r hr => absurd hr (by omega), fun k hk => absurd hk (by omega)⟩ ?_ (fun _ _ _ => trivial) ?_
    · exact ⟨fun k hk => absurd hk (by omega), fun n _ _ => Or.inl trivial, fun n k _ hk => absurd hk (by omega), fun n _ _ r hr => absurd hr (by omega)⟩
    · intro pa1 wa1 fx1 wi1 ch1 wp1 tp1 ho1 be1 sl1 se1 q1 X1 Sx1 M1 hpa1 hq1 hq2 hS1 hF1 hfw
      refine ⟨121, zf_36 hP hpw hc K36 120 0 0 0 0 pa1 _ _ _ pv wa1 fx1 wi1 ch1 wp1 tp1 ho1 be1 sl1 se1 rfl (Or.inl (Nat.le_refl _)) ⟨q1, X1, Sx1, M1, rfl, hpa1, by omega, Or.inl rfl, hS1, zf_R hF1 ?_⟩⟩
      intro n hn
      exact ⟨fun h => h.2 ⟨fun j hj => absurd hj (by omega), Nat.zero_testBit _⟩, fun h => h.elim⟩
  · subst e
    exact br_f (by decide) ⟨121, zf_36 hP hpw hc K36 120 0 f en fo pa fw wo fp pv wa fx wi ch wp tp ho be sl se rfl (Or.inl (Nat.zero_le _)) I⟩
theorem zr_has {st en fo pa fw wo fp pw pt : Int32} {pr ba : Nat → Int32} {pv : Nat → Int64} {wa fx wi : Nat → Int32} {ch : Nat → Int64} {wp tp : Nat → Int64} {ho be : Nat → Int32} {sl : Nat → Int64} {se : Nat → Int32} {g : Nat → Nat} {j : Nat} {post : Int32 → SX → Prop} (hX : zr_X g st en fo pa pw pr ba pv wa fx wi ch) (hj : j < 120)
    (K1 : ∀ (en fo pa fw wo fp : Int32) (pv : Nat → Int64) (wa fx wi : Nat → Int32) (ch wp tp : Nat → Int64) (ho be : Nat → Int32) (sl : Nat → Int64) (se : Nat → Int32), j < zd_K g → pv j = lN (zd_A g j) → zr_X g 1 en fo pa pw pr ba pv wa fx wi ch → post 1 (1, en, fo, pa, fw, wo, fp, pw, pt, pr, ba, pv, wa, fx, wi, ch, wp, tp, ho, be, sl, se))
    (K0 : ∀ (en fo pa fw wo fp : Int32) (pv : Nat → Int64) (wa fx wi : Nat → Int32) (ch wp tp : Nat → Int64) (ho be : Nat → Int32) (sl : Nat → Int64) (se : Nat → Int32), zd_K g ≤ j → zr_X g 1 en fo pa pw pr ba pv wa fx wi ch → post 0 (1, en, fo, pa, fw, wo, fp, pw, pt, pr, ba, pv, wa, fx, wi, ch, wp, tp, ho, be, sl, se)) : wpX_hasRank post (st, en, fo, pa, fw, wo, fp, pw, pt, pr, ba, pv, wa, fx, wi, ch, wp, tp, ho, be, sl, se) (nI j) := by
  unfold wpX_hasRank
  dsimp only
  refine br_f (nI_pos (by omega)) (pk_le j 119 (fun _ => ?_) (fun h => absurd h (by omega)))
  rw [nI_1]
  refine zr_find hX (by omega) ?_
  intro en fo pa fw wo fp pv wa fx wi ch wp tp ho be sl se f hfo hfK hpv hcf hX'
  have hK := zd_K120 g
  subst hfo
  refine pk_le f j (fun h => K0 _ _ _ _ _ _ _ _ _ _ _ _ _ _ _ _ _ (by omega) hX') (fun h => K1 _ _ _ _ _ _ _ _ _ _ _ _ _ _ _ _ _ (by omega) (hpv j h) hX')
theorem zr_rk (r : Int32) : (r < 0 ∨ nI 120 ≤ r) ∨ ∃ j, j < 120 ∧ r = nI j := by
  rcases pk_ix r (n := 120) (by decide) with h | h | h
  · exact Or.inl (Or.inl h)
  · exact Or.inl (Or.inr h)
  · exact Or.inr h
theorem zr_hasn {st en fo pa fw wo fp pw pt : Int32} {pr ba : Nat → Int32} {pv : Nat → Int64} {wa fx wi : Nat → Int32} {ch : Nat → Int64} {wp tp : Nat → Int64} {ho be : Nat → Int32} {sl : Nat → Int64} {se : Nat → Int32} {r : Int32} {post : Int32 → SX → Prop} (h : r < 0 ∨ nI 120 ≤ r) (K : post 0 (st, en, fo, pa, fw, wo, fp, pw, pt, pr, ba, pv, wa, fx, wi, ch, wp, tp, ho, be, sl, se)) : wpX_hasRank post (st, en, fo, pa, fw, wo, fp, pw, pt, pr, ba, pv, wa, fx, wi, ch, wp, tp, ho, be, sl, se) r := by
  unfold wpX_hasRank
  dsimp only
  by_cases z : r < 0
  · exact br_t z K
  · have h2 : nI 120 ≤ r := by
      rcases h with y | y
      · exact absurd y z
      · exact y
    refine br_f z (br_f (fun y => ?_) K)
    rw [Int32.le_iff_toInt_le] at h2 y
    have a : (nI 120).toInt = 120 := by decide
    have b : (119 : Int32).toInt = 119 := by decide
    omega
theorem zx_in1 {post : Int32 → Prop} {j : Nat} (hj : j < 5) (h : post 1) : wpX_inRange post (nI j) :=
  br_f (nI_pos (by omega)) (pk_lt 4 j (fun z => absurd z (by omega)) (fun _ => h))
theorem zx_in0 {post : Int32 → Prop} {x : Int32} (hx : x < 0 ∨ 4 < x) (h : post 0) : wpX_inRange post x := by
  refine br_c (fun _ => h) (fun z => br_t ?_ h)
  rcases hx with y | y
  · exact absurd y z
  · exact y
theorem zy_bad0 {post : Int32 → Prop} {j : Nat} (hj : j < 5) (h : post 0) : wpY_bad post (nI j) :=
  br_f (nI_pos (by omega)) (pk_le j 4 (fun _ => h) (fun z => absurd z (by omega)))
theorem zy_bad1 {post : Int32 → Prop} {x : Int32} (hx : x < 0 ∨ 4 < x) (h : post 1) : wpY_bad post x := by
  refine br_c (fun _ => h) (fun z => br_f (fun y => ?_) h)
  rcases hx with q | q
  · exact z q
  · rw [Int32.lt_iff_toInt_lt] at q
    rw [Int32.le_iff_toInt_le] at y
    omega
theorem zr_in (x : Int32) : (x < 0 ∨ 4 < x) ∨ ∃ j, j < 5 ∧ x = nI j := by
  rcases pk_ix x (n := 5) (by decide) with h | h | h
  · exact Or.inl (Or.inl h)
  · refine Or.inl (Or.inr ?_)
    rw [Int32.le_iff_toInt_le] at h
    rw [Int32.lt_iff_toInt_lt]
    have a : (nI 5).toInt = 5 := by decide
    have b : (4 : Int32).toInt = 4 := by decide
    omega
  · exact Or.inr h
theorem zr_Ab (g : Nat → Nat) {i : Nat} (h : i < zd_K g) : zd_A g i < 1600000 := zd_Enb (zd_AK g) h
theorem zr_div {a : Nat} (h : a < 1600000) : (lN a / 3125).toInt32 = nI (a / 3125) := by
  have r : lN a / 3125 = lN (a / 3125) := pk_lDiv (b := 3125) (by omega) (by decide) (by decide)
  rw [r, lN_i]
theorem zr_mod {a : Nat} (h : a < 1600000) : lN a - lN a / 3125 * 3125 = lN (a % 3125) := pk_lRem (b := 3125) (by omega) (by decide) (by decide)
/-! the reference's questions by rank -/
theorem zy_rk {g : Nat → Nat} {r : Int32} (h : ¬ r < 0) (h2 : r < nI (zd_K g)) : ∃ j, j < zd_K g ∧ r = nI j := by
  obtain ⟨j, hj, rfl⟩ := nI_of h
  have := zd_K120 g
  exact ⟨j, (nI_ltI hj (by omega)).mp h2, rfl⟩
theorem zy_out {g : Nat → Nat} {r : Int32} (h : r < 0 ∨ nI 120 ≤ r) : r < 0 ∨ ¬ r < nI (zd_K g) := by
  rcases h with h | h
  · exact Or.inl h
  · refine Or.inr (fun z => ?_)
    have := zd_K120 g
    rw [Int32.le_iff_toInt_le] at h
    rw [Int32.lt_iff_toInt_lt, nI_toInt (by omega)] at z
    have a : (nI 120).toInt = 120 := by decide
    omega
theorem zy_cost {g : Nat → Nat} {ct : Int32} {ps nu co : Nat → Int32} {post : Int32 → SY → Prop} (hY : zy_Ps g ps) (r : Int32) (Kn : (r < 0 ∨ ¬ r < nI (zd_K g)) → ∀ (ct : Int32) (nu co : Nat → Int32), post (-1) (ct, ps, nu, co))
    (Ky : ∀ j, j < zd_K g → r = nI j → ∀ (ct : Int32) (nu co : Nat → Int32), post (nI (zd_A g j / 3125)) (ct, ps, nu, co)) : wpY_cost post (ct, ps, nu, co) r := by
  have hK := zd_K120 g
  unfold wpY_cost
  dsimp only
  refine zy_list hY ?_
  intro nu1 co1 hM
  dsimp only
  refine br_c (fun h => Kn (Or.inl h) _ _ _) (fun h => br_c (fun h2 => ?_) (fun h2 => Kn (Or.inr h2) _ _ _))
  obtain ⟨j, hj, rfl⟩ := zy_rk h h2
  rw [nI_clamp (n := j) (by omega), (hM j hj).2]
  exact ⟨vp_in_nI (by omega) (by omega), Ky j hj rfl _ _ _⟩
theorem zy_plan {g : Nat → Nat} {ct : Int32} {ps nu co : Nat → Int32} {post : Int32 → SY → Prop} (hY : zy_Ps g ps) (r : Int32) (Kn : (r < 0 ∨ ¬ r < nI (zd_K g)) → ∀ (ct : Int32) (nu co : Nat → Int32), post (-1) (ct, ps, nu, co))
    (Ky : ∀ j, j < zd_K g → r = nI j → ∀ (ct : Int32) (nu co : Nat → Int32), post (nI (zd_A g j % 3125)) (ct, ps, nu, co)) : wpY_plan post (ct, ps, nu, co) r := by
  have hK := zd_K120 g
  unfold wpY_plan
  dsimp only
  refine zy_list hY ?_
  intro nu1 co1 hM
  dsimp only
  refine br_c (fun h => Kn (Or.inl h) _ _ _) (fun h => br_c (fun h2 => ?_) (fun h2 => Kn (Or.inr h2) _ _ _))
  obtain ⟨j, hj, rfl⟩ := zy_rk h h2
  rw [nI_clamp (n := j) (by omega), (hM j hj).1]
  exact ⟨vp_in_nI (by omega) (by omega), Ky j hj rfl _ _ _⟩
theorem zy_task {g : Nat → Nat} {ct : Int32} {ps nu co : Nat → Int32} {post : Int32 → SY → Prop} (hY : zy_Ps g ps) (r : Int32) {w : Nat} (hw : w < 5) (Kn : (r < 0 ∨ ¬ r < nI (zd_K g)) → ∀ (ct : Int32) (nu co : Nat → Int32), post (-1) (ct, ps, nu, co))
    (Ky : ∀ j, j < zd_K g → r = nI j → ∀ (ct : Int32) (nu co : Nat → Int32), post (nI (zd_dg (zd_A g j % 3125) w)) (ct, ps, nu, co)) : wpY_task post (ct, ps, nu, co) r (nI w) := by
  have hK := zd_K120 g
  unfold wpY_task
  dsimp only
  refine zy_list hY ?_
  intro nu1 co1 hM
  dsimp only
  refine zy_bad0 hw (br_t rfl ?_)
  refine br_c (fun h => Kn (Or.inl h) _ _ _) (fun h => br_c (fun h2 => ?_) (fun h2 => Kn (Or.inr h2) _ _ _))
  obtain ⟨j, hj, rfl⟩ := zy_rk h h2
  rw [nI_clamp (n := j) (by omega), (hM j hj).1]
  exact ⟨vp_in_nI (by omega) (by omega), zy_dg (by omega) hw (Ky j hj rfl _ _ _)⟩
theorem zy_task0 {g : Nat → Nat} {ct : Int32} {ps nu co : Nat → Int32} {post : Int32 → SY → Prop} (hY : zy_Ps g ps) (r w : Int32) (hw : w < 0 ∨ 4 < w) (Kn : ∀ (ct : Int32) (nu co : Nat → Int32), post (-1) (ct, ps, nu, co)) : wpY_task post (ct, ps, nu, co) r w := by
  unfold wpY_task
  dsimp only
  refine zy_list hY ?_
  intro nu1 co1 hM
  dsimp only
  exact zy_bad1 hw (br_f (by decide) (Kn _ _ _))
/-! rank -/
theorem zr_eqI {a : Nat} (ha : a < 2 ^ 31) (x : Int32) : lN a = x.toInt64 ↔ nI a = x := by
  rw [← Int64.toInt_inj, ← Int32.toInt_inj, pk_lT (by omega), nI_toInt ha, Int32.toInt_toInt64]
theorem zr_leI {a : Nat} (ha : a < 2 ^ 31) (x : Int32) : lN a ≤ x.toInt64 ↔ (a : Int) ≤ x.toInt := by
  rw [Int64.le_iff_toInt_le, pk_lT (by omega), Int32.toInt_toInt64]
theorem zr_ltI {a : Nat} (ha : a < 2 ^ 31) (x : Int32) : x < nI a ↔ x.toInt < (a : Int) := by
  rw [Int32.lt_iff_toInt_lt, nI_toInt ha]
theorem zr_rank {g : Nat → Nat} {x : Int32} : ∀ d i, i + d = zd_K g → ∃ ans : Int32,
    (∀ (post : Int32 → SX → Prop) (st en fo pa fw wo fp pw pt : Int32) (pr ba : Nat → Int32) (pv : Nat → Int64) (wa fx wi : Nat → Int32) (ch : Nat → Int64) (wp tp : Nat → Int64) (ho be : Nat → Int32) (sl : Nat → Int64) (se : Nat → Int32), fo = nI (zd_K g) → (∀ r, r < zd_K g → pv r = lN (zd_A g r)) → post ans (st, en, fo, pa, fw, wo, fp, pw, pt, pr, ba, pv, wa, fx, wi, ch, wp, tp, ho, be, sl, se) → wX_rank_8 post x st en fo pa fw wo fp pw pt pr ba pv wa fx wi ch wp tp ho be sl se (d + 1) (nI i)) ∧
    (∀ (post : Int32 → SY → Prop) (ct : Int32) (ps nu co : Nat → Int32), ct = nI (zd_K g) → zy_Mt (zd_A g) (zd_K g) nu co → post ans (ct, ps, nu, co) → wY_rank_6 post x ct ps nu co (d + 1) (nI i)) := by
  have hK := zd_K120 g
  intro d
  induction d with
  | zero =>
    intro i hi
    obtain rfl : i = zd_K g := by omega
    refine ⟨-1, ?_, ?_⟩
    · intro post st en fo pa fw wo fp pw pt pr ba pv wa fx wi ch wp tp ho be sl se e h hp
      subst e
      exact br_t (nI_le (Nat.le_refl _) (by omega)) hp
    · intro post ct ps nu co e h hp
      subst e
      exact br_t (nI_le (Nat.le_refl _) (by omega)) hp
  | succ d ih =>
    intro i hi
    have hA := zr_Ab g (i := i) (by omega)
    obtain ⟨ans, hx, hy⟩ := ih (i + 1) (by omega)
    by_cases z : nI (zd_A g i % 3125) = x
    · refine ⟨nI i, ?_, ?_⟩
      · intro post st en fo pa fw wo fp pw pt pr ba pv wa fx wi ch wp tp ho be sl se e h hp
        subst e
        refine pk_le (zd_K g) i (fun q => absurd q (by omega)) (fun _ => ⟨vp_in_nI (by omega) (by omega), by decide, ?_⟩)
        rw [nI_clamp (n := i) (by omega), h i (by omega), zr_mod hA]
        exact br_t ((zr_eqI (by omega) x).mpr z) hp
      · intro post ct ps nu co e h hp
        subst e
        refine pk_le (zd_K g) i (fun q => absurd q (by omega)) (fun _ => ⟨vp_in_nI (by omega) (by omega), ?_⟩)
        rw [nI_clamp (n := i) (by omega), (h i (by omega)).1]
        exact br_t z hp
    · refine ⟨ans, ?_, ?_⟩
      · intro post st en fo pa fw wo fp pw pt pr ba pv wa fx wi ch wp tp ho be sl se e h hp
        have e0 := e
        subst e
        refine pk_le (zd_K g) i (fun q => absurd q (by omega)) (fun _ => ⟨vp_in_nI (by omega) (by omega), by decide, ?_⟩)
        rw [nI_clamp (n := i) (by omega), h i (by omega), zr_mod hA]
        exact br_f (fun q => z ((zr_eqI (by omega) x).mp q)) (nm_r (nI_1 i) (hx post _ _ _ _ _ _ _ _ _ _ _ _ _ _ _ _ _ _ _ _ _ _ e0 h hp))
      · intro post ct ps nu co e h hp
        have e0 := e
        subst e
        refine pk_le (zd_K g) i (fun q => absurd q (by omega)) (fun _ => ⟨vp_in_nI (by omega) (by omega), ?_⟩)
        rw [nI_clamp (n := i) (by omega), (h i (by omega)).1]
        exact br_f z (nm_r (nI_1 i) (hy post _ _ _ _ e0 h hp))
/-! within -/
theorem zr_cut (g : Nat → Nat) (L : Int) : ∃ c, c ≤ zd_K g ∧ (∀ r, r < c → ((zd_A g r / 3125 : Nat) : Int) ≤ L) ∧ (c < zd_K g → L < ((zd_A g c / 3125 : Nat) : Int)) := by
  have H : ∀ n, n ≤ zd_K g → ∃ c, c ≤ n ∧ (∀ r, r < c → ((zd_A g r / 3125 : Nat) : Int) ≤ L) ∧ (c < n → L < ((zd_A g c / 3125 : Nat) : Int)) := by
    intro n
    induction n with
    | zero => intro _; exact ⟨0, Nat.le_refl _, fun r hr => absurd hr (by omega), fun h => absurd h (by omega)⟩
    | succ n ih =>
      intro hn
      obtain ⟨c, c1, c2, c3⟩ := ih (by omega)
      by_cases z : c < n
      · exact ⟨c, by omega, c2, fun _ => c3 z⟩
      · obtain rfl : c = n := by omega
        by_cases y : ((zd_A g c / 3125 : Nat) : Int) ≤ L
        · refine ⟨c + 1, Nat.le_refl _, ?_, fun h => absurd h (by omega)⟩
          intro r hr
          by_cases e : r = c
          · subst e; exact y
          · exact c2 r (by omega)
        · exact ⟨c, by omega, c2, fun _ => by omega⟩
  exact H _ (Nat.le_refl _)
theorem zr_w4 {pw pt : Int32} {pr ba : Nat → Int32} {g : Nat → Nat} {x : Int32} {c : Nat} {post : Int32 → SX → Prop} (c1 : c ≤ zd_K g) (c2 : ∀ r, r < c → ((zd_A g r / 3125 : Nat) : Int) ≤ x.toInt) (c3 : c < zd_K g → x.toInt < ((zd_A g c / 3125 : Nat) : Int))
    (K : ∀ (st : Int32) (en fo pa fw wo fp : Int32) (pv : Nat → Int64) (wa fx wi : Nat → Int32) (ch wp tp : Nat → Int64) (ho be : Nat → Int32) (sl : Nat → Int64) (se : Nat → Int32), zr_X g st en fo pa pw pr ba pv wa fx wi ch → post (nI c) (st, en, fo, pa, fw, wo, fp, pw, pt, pr, ba, pv, wa, fx, wi, ch, wp, tp, ho, be, sl, se)) :
    ∀ (d i : Nat) (st : Int32) (en fo pa fw wo fp : Int32) (pv : Nat → Int64) (wa fx wi : Nat → Int32) (ch wp tp : Nat → Int64) (ho be : Nat → Int32) (sl : Nat → Int64) (se : Nat → Int32), i + d = 120 → i ≤ c → zr_X g st en fo pa pw pr ba pv wa fx wi ch → wX_within_4 post x (d + 1) (nI i) (nI i) st en fo pa fw wo fp pw pt pr ba pv wa fx wi ch wp tp ho be sl se := by
  have hK := zd_K120 g
  intro d
  induction d with
  | zero =>
    intro i st en fo pa fw wo fp pv wa fx wi ch wp tp ho be sl se hd hi hX
    obtain rfl : i = 120 := by omega
    obtain rfl : c = 120 := by omega
    exact br_t (by decide) (K st en fo pa fw wo fp pv wa fx wi ch wp tp ho be sl se hX)
  | succ d ih =>
    intro i st en fo pa fw wo fp pv wa fx wi ch wp tp ho be sl se hd hi hX
    refine pk_le 120 i (fun h => absurd h (by omega)) (fun _ => ?_)
    refine zr_has hX (by omega) ?_ ?_
    · intro en fo pa fw wo fp pv wa fx wi ch wp tp ho be sl se hiK hpv hX'
      have hA := zr_Ab g hiK
      refine br_f (by decide) ⟨vp_in_nI (by omega) (by omega), by decide, ?_⟩
      rw [nI_clamp (n := i) (by omega), hpv, show lN (zd_A g i) / 3125 = lN (zd_A g i / 3125) from pk_lDiv (b := 3125) (by omega) (by decide) (by decide)]
      by_cases z : i < c
      · exact br_t ((zr_leI (by omega) x).mpr (c2 i z)) (nm_r (nI_1 i) (nm_r (nI_1 i) (ih (i + 1) 1 en fo pa fw wo fp pv wa fx wi ch wp tp ho be sl se (by omega) (by omega) hX')))
      · obtain rfl : i = c := by omega
        refine br_f (fun q => ?_) (K 1 en fo pa fw wo fp pv wa fx wi ch wp tp ho be sl se hX')
        have a1 := (zr_leI (by omega) x).mp q
        have a2 := c3 hiK
        omega
    · intro en fo pa fw wo fp pv wa fx wi ch wp tp ho be sl se hiK hX'
      obtain rfl : i = c := by omega
      exact br_t rfl (K 1 en fo pa fw wo fp pv wa fx wi ch wp tp ho be sl se hX')
theorem zy_w8 {g : Nat → Nat} {x : Int32} {c : Nat} {ct : Int32} {ps nu co : Nat → Int32} {post : Int32 → SY → Prop} (c1 : c ≤ zd_K g) (c2 : ∀ r, r < c → ((zd_A g r / 3125 : Nat) : Int) ≤ x.toInt) (c3 : c < zd_K g → x.toInt < ((zd_A g c / 3125 : Nat) : Int))
    (hct : ct = nI (zd_K g)) (hM : zy_Mt (zd_A g) (zd_K g) nu co) (K : post (nI c) (ct, ps, nu, co)) : ∀ d i, i + d = zd_K g → wY_within_8 post x ct ps nu co (d + 1) (nI (if i ≤ c then i else c)) (nI i) := by
  have hK := zd_K120 g
  subst hct
  intro d
  induction d with
  | zero =>
    intro i hi
    obtain rfl : i = zd_K g := by omega
    refine br_t (nI_le (Nat.le_refl _) (by omega)) ?_
    have e : (if zd_K g ≤ c then zd_K g else c) = c := by
      by_cases z : zd_K g ≤ c
      · rw [if_pos z]; omega
      · rw [if_neg z]
    rw [e]
    exact K
  | succ d ih =>
    intro i hi
    have hA := zr_Ab g (i := i) (by omega)
    refine pk_le (zd_K g) i (fun q => absurd q (by omega)) (fun _ => ⟨vp_in_nI (by omega) (by omega), ?_⟩)
    rw [nI_clamp (n := i) (by omega), (hM i (by omega)).2]
    have IH := ih (i + 1) (by omega)
    by_cases z : i < c
    · rw [if_pos (by omega)] at IH ⊢
      refine br_f (fun q => ?_) (nm_r (nI_1 i) (nm_r (nI_1 i) IH))
      have a1 := (zr_ltI (by omega) x).mp q
      have a2 := c2 i z
      omega
    · have e : (if i ≤ c then i else c) = c := by
        by_cases y : i ≤ c
        · rw [if_pos y]; omega
        · rw [if_neg y]
      rw [if_neg (by omega)] at IH
      rw [e]
      refine br_t ((zr_ltI (by omega) x).mpr ?_) (nm_r (nI_1 i) IH)
      have a2 := c3 (by omega)
      have a3 : zd_A g c ≤ zd_A g i := by
        by_cases y : c = i
        · subst y; exact Nat.le_refl _
        · exact Nat.le_of_lt (zd_Asort g (by omega) (by omega))
      omega
/-! cheapestWith -/
theorem zy_c22 {g : Nat → Nat} {w t r : Nat} {ct : Int32} {ps nu co : Nat → Int32} {post : Int32 → SY → Prop} (hw : w < 5) (ht : t < 5) (hct : ct = nI (zd_K g)) (hM : zy_Mt (zd_A g) (zd_K g) nu co) (hr : r ≤ zd_K g)
    (hno : ∀ i, i < r → zd_dg (zd_A g i % 3125) w ≠ t) (hyes : r < zd_K g → zd_dg (zd_A g r % 3125) w = t)
    (K1 : r < zd_K g → post (nI (zd_A g r / 3125)) (ct, ps, nu, co)) (K0 : r = zd_K g → post (-1) (ct, ps, nu, co)) : ∀ d i, i + d = r → wY_cheapestWith_22 post (nI w) (nI t) ct ps nu co (d + 1) (nI i) := by
  have hK := zd_K120 g
  subst hct
  intro d
  induction d with
  | zero =>
    intro i hi
    obtain rfl : i = r := by omega
    refine pk_le (zd_K g) i (fun q => K0 (by omega)) (fun q => ⟨vp_in_nI (by omega) (by omega), ?_⟩)
    rw [nI_clamp (n := i) (by omega), (hM i q).1, (hM i q).2]
    refine zy_dg (by omega) hw ?_
    rw [hyes q]
    exact br_t rfl ⟨vp_in_nI (by omega) (by omega), K1 q⟩
  | succ d ih =>
    intro i hi
    refine pk_le (zd_K g) i (fun q => absurd q (by omega)) (fun q => ⟨vp_in_nI (by omega) (by omega), ?_⟩)
    rw [nI_clamp (n := i) (by omega), (hM i q).1]
    refine zy_dg (by omega) hw ?_
    have hd := zd_lt (zd_A g i % 3125) w
    exact pk_eq (zd_dg (zd_A g i % 3125) w) t (fun e => absurd e (hno i (by omega))) (fun _ => nm_r (nI_1 i) (ih (i + 1) (by omega)))
theorem zr_pin {n w0 t0 : Nat} (hw : w0 < 5) : (∀ w, w < 5 → zx_op 0 0 0 (fun w t => decide (w = w0 → t = t0)) w (zd_dg n w) = true) ↔ zd_dg n w0 = t0 := by
  have e : ∀ w t, zx_op 0 0 0 (fun w t => decide (w = w0 → t = t0)) w t = decide (w = w0 → t = t0) := fun w t => zx_op1 (fun h => absurd h (by omega)) (fun _ => Nat.zero_testBit _)
  constructor
  · intro h
    have h1 := h w0 hw
    rw [e, decide_eq_true_iff] at h1
    exact h1 rfl
  · intro h w _
    rw [e, decide_eq_true_iff]
    intro z
    subst z
    exact h
end
section
/-- one price table g (above 99: barred) for both; the component's list not begun, or a first piece of the sorted plans with the parts that hold the rest -/
def i_Rel (k : Nat) (u : SX) (v : SY) : Prop := match u, v with
  | (st, en, fo, pa, fw, wo, fp, pw, pt, pr, ba, pv, wa, fx, wi, ch, wp, tp, ho, be, sl, se), (ct, ps, nu, co) => ∃ g : Nat → Nat, zr_X g st en fo pa pw pr ba pv wa fx wi ch ∧ zy_Ps g ps
theorem zr_mk {k : Nat} {g : Nat → Nat} {st en fo pa fw wo fp pw pt : Int32} {pr ba : Nat → Int32} {pv : Nat → Int64} {wa fx wi : Nat → Int32} {ch : Nat → Int64} {wp tp : Nat → Int64} {ho be : Nat → Int32} {sl : Nat → Int64} {se : Nat → Int32} {ct : Int32} {ps nu co : Nat → Int32} (hX : zr_X g st en fo pa pw pr ba pv wa fx wi ch) (hY : zy_Ps g ps) : i_Rel k (st, en, fo, pa, fw, wo, fp, pw, pt, pr, ba, pv, wa, fx, wi, ch, wp, tp, ho, be, sl, se) (ct, ps, nu, co) := by
  unfold i_Rel
  exact ⟨g, hX, hY⟩
theorem zr_el {k : Nat} {P : SX → SY → Prop} (h : ∀ (g : Nat → Nat) (st en fo pa fw wo fp pw pt : Int32) (pr ba : Nat → Int32) (pv : Nat → Int64) (wa fx wi : Nat → Int32) (ch : Nat → Int64) (wp tp : Nat → Int64) (ho be : Nat → Int32) (sl : Nat → Int64) (se : Nat → Int32) (ct : Int32) (ps nu co : Nat → Int32), zr_X g st en fo pa pw pr ba pv wa fx wi ch → zy_Ps g ps → P (st, en, fo, pa, fw, wo, fp, pw, pt, pr, ba, pv, wa, fx, wi, ch, wp, tp, ho, be, sl, se) (ct, ps, nu, co)) {u : SX} {v : SY} (I : i_Rel k u v) : P u v := by
  obtain ⟨st, en, fo, pa, fw, wo, fp, pw, pt, pr, ba, pv, wa, fx, wi, ch, wp, tp, ho, be, sl, se⟩ := u
  obtain ⟨ct, ps, nu, co⟩ := v
  unfold i_Rel at I
  obtain ⟨g, hX, hY⟩ := I
  exact h g st en fo pa fw wo fp pw pt pr ba pv wa fx wi ch wp tp ho be sl se ct ps nu co hX hY
theorem i_up {k : Nat} {u : SX} {v : SY} (h : i_Rel k u v) : i_Rel (k + 4) u v := by
  refine zr_el (P := fun u v => i_Rel (k + 4) u v) ?_ h
  intro g st en fo pa fw wo fp pw pt pr ba pv wa fx wi ch wp tp ho be sl se ct ps nu co hX hY
  exact zr_mk hX hY
theorem i_vc0 : wpX_init (fun u => wpY_init (fun v => i_Rel 0 u v)) := by
  unfold wpX_init wpY_init
  refine zr_mk (g := fun _ => 0) ⟨?_, rfl, Or.inl rfl⟩ ?_
  · intro j hj
    exact ⟨fun _ => ⟨rfl, rfl⟩, fun h => absurd (Nat.zero_le _) h⟩
  · intro j hj
    exact ⟨fun _ => rfl, fun h => absurd (Nat.zero_le _) h⟩
theorem i_vc_price {k : Nat} {u : SX} {v : SY} (I : i_Rel k u v) (hk : k + 4 ≤ 2048) (v1 : Int32) (v2 : Int32) (v3 : Int32) : wpX_price (fun r u' => wpY_price (fun r' v' => r' = r ∧ i_Rel (k + 4) u' v') v v1 v2 v3) u v1 v2 v3 := by
  refine zr_el (P := fun u v => wpX_price (fun r u' => wpY_price (fun r' v' => r' = r ∧ i_Rel (k + 4) u' v') v v1 v2 v3) u v1 v2 v3) ?_ I
  intro g st en fo pa fw wo fp pw pt pr ba pv wa fx wi ch wp tp ho be sl se ct ps nu co hX hY
  unfold wpX_price wpY_price
  dsimp only
  rcases zr_in v1 with h1 | ⟨w, hw, rfl⟩
  · exact zx_in0 h1 (br_t rfl (zy_bad1 h1 (br_f (by decide) ⟨rfl, zr_mk hX hY⟩)))
  refine zx_in1 hw (br_f (by decide) ?_)
  rcases zr_in v2 with h2 | ⟨t, ht, rfl⟩
  · exact zx_in0 h2 (br_t rfl (zy_bad0 hw (br_t rfl (zy_bad1 h2 (br_f (by decide) ⟨rfl, zr_mk hX hY⟩)))))
  refine zx_in1 ht (br_f (by decide) ?_)
  by_cases h3 : v3 < 0
  · exact br_t h3 (zy_bad0 hw (br_t rfl (zy_bad0 ht (br_t rfl (br_t h3 ⟨rfl, zr_mk hX hY⟩)))))
  refine br_f h3 ?_
  by_cases h4 : v3 ≤ 99
  · obtain ⟨q, hq, rfl⟩ := nI_of2 (M := 99) (n := 99) (by decide) h3 h4
    have hv : vp_in (nI (5 * w + t)) 25 := vp_in_nI (by omega) (by omega)
    rw [zy_ix, nI_clamp (n := 5 * w + t) (by omega), zn_vb0]
    refine br_t h4 ⟨hv, nm_e ⟨hv, nm_e ?_⟩⟩
    refine zy_bad0 hw (br_t rfl (zy_bad0 ht (br_t rfl (br_f h3 (br_t h4 ⟨hv, nm_e ⟨rfl, ?_⟩⟩)))))
    obtain ⟨hP, hpw, _⟩ := hX
    refine zr_mk (g := zh_up g (5 * w + t) q) ⟨?_, hpw, Or.inl rfl⟩ ?_
    · intro j hj
      by_cases e : j = 5 * w + t
      · subst e
        rw [zh_us, pk_us, pk_us]
        exact ⟨fun _ => ⟨rfl, rfl⟩, fun h => absurd hq h⟩
      · rw [zh_un e, pk_un e, pk_un e]
        exact hP j hj
    · intro j hj
      by_cases e : j = 5 * w + t
      · subst e
        rw [zh_us, pk_us]
        exact ⟨fun _ => rfl, fun h => absurd hq h⟩
      · rw [zh_un e, pk_un e]
        exact hY j hj
  · exact br_f h4 (zy_bad0 hw (br_t rfl (zy_bad0 ht (br_t rfl (br_f h3 (br_f h4 ⟨rfl, zr_mk hX hY⟩))))))
theorem i_vc_bar {k : Nat} {u : SX} {v : SY} (I : i_Rel k u v) (hk : k + 4 ≤ 2048) (v1 : Int32) (v2 : Int32) : wpX_bar (fun r u' => wpY_bar (fun r' v' => r' = r ∧ i_Rel (k + 4) u' v') v v1 v2) u v1 v2 := by
  refine zr_el (P := fun u v => wpX_bar (fun r u' => wpY_bar (fun r' v' => r' = r ∧ i_Rel (k + 4) u' v') v v1 v2) u v1 v2) ?_ I
  intro g st en fo pa fw wo fp pw pt pr ba pv wa fx wi ch wp tp ho be sl se ct ps nu co hX hY
  unfold wpX_bar wpY_bar
  dsimp only
  rcases zr_in v1 with h1 | ⟨w, hw, rfl⟩
  · exact zx_in0 h1 (br_t rfl (zy_bad1 h1 (br_f (by decide) ⟨rfl, zr_mk hX hY⟩)))
  refine zx_in1 hw (br_f (by decide) ?_)
  rcases zr_in v2 with h2 | ⟨t, ht, rfl⟩
  · exact zx_in0 h2 (br_t rfl (zy_bad0 hw (br_t rfl (zy_bad1 h2 (br_f (by decide) ⟨rfl, zr_mk hX hY⟩)))))
  refine zx_in1 ht (br_f (by decide) ?_)
  have hv : vp_in (nI (5 * w + t)) 25 := vp_in_nI (by omega) (by omega)
  rw [zy_ix, nI_clamp (n := 5 * w + t) (by omega), zn_vb1]
  refine ⟨hv, nm_e ?_⟩
  refine zy_bad0 hw (br_t rfl (zy_bad0 ht (br_t rfl ⟨hv, nm_e ⟨rfl, ?_⟩⟩)))
  obtain ⟨hP, hpw, _⟩ := hX
  refine zr_mk (g := zh_up g (5 * w + t) 100) ⟨?_, hpw, Or.inl rfl⟩ ?_
  · intro j hj
    by_cases e : j = 5 * w + t
    · subst e
      rw [zh_us, pk_us]
      exact ⟨fun h => absurd h (by decide), fun _ => by decide⟩
    · rw [zh_un e, pk_un e]
      exact hP j hj
  · intro j hj
    by_cases e : j = 5 * w + t
    · subst e
      rw [zh_us, pk_us]
      exact ⟨fun h => absurd h (by decide), fun _ => rfl⟩
    · rw [zh_un e, pk_un e]
      exact hY j hj
theorem i_vc_plans {k : Nat} {u : SX} {v : SY} (I : i_Rel k u v) (hk : k + 4 ≤ 2048) : wpX_plans (fun r u' => wpY_plans (fun r' v' => r' = r ∧ i_Rel (k + 4) u' v') v) u := by
  refine zr_el (P := fun u v => wpX_plans (fun r u' => wpY_plans (fun r' v' => r' = r ∧ i_Rel (k + 4) u' v') v) u) ?_ I
  intro g st en fo pa fw wo fp pw pt pr ba pv wa fx wi ch wp tp ho be sl se ct ps nu co hX hY
  have hK := zd_K120 g
  unfold wpX_plans
  dsimp only
  refine zr_find (c := 120) hX (by decide) ?_
  intro en fo pa fw wo fp pv wa fx wi ch wp tp ho be sl se f hfo hfK hpv hcf hX'
  dsimp only
  unfold wpY_plans
  dsimp only
  refine zy_list hY ?_
  intro nu1 co1 hM
  dsimp only
  refine ⟨?_, zr_mk hX' hY⟩
  rw [hfo, show f = zd_K g from by omega]
theorem i_vc_cost {k : Nat} {u : SX} {v : SY} (I : i_Rel k u v) (hk : k + 4 ≤ 2048) (v1 : Int32) : wpX_cost (fun r u' => wpY_cost (fun r' v' => r' = r ∧ i_Rel (k + 4) u' v') v v1) u v1 := by
  refine zr_el (P := fun u v => wpX_cost (fun r u' => wpY_cost (fun r' v' => r' = r ∧ i_Rel (k + 4) u' v') v v1) u v1) ?_ I
  intro g st en fo pa fw wo fp pw pt pr ba pv wa fx wi ch wp tp ho be sl se ct ps nu co hX hY
  have hK := zd_K120 g
  unfold wpX_cost
  dsimp only
  rcases zr_rk v1 with h | ⟨j, hj, rfl⟩
  · refine zr_hasn h (br_t rfl ?_)
    refine zy_cost hY v1 (fun _ _ _ _ => ⟨rfl, zr_mk hX hY⟩) ?_
    intro j hj e
    subst e
    rcases zy_out (g := g) h with z | z
    · exact absurd z (nI_pos (by omega))
    · exact absurd (nI_lt hj (by omega)) z
  · refine zr_has hX hj ?_ ?_
    · intro en fo pa fw wo fp pv wa fx wi ch wp tp ho be sl se hjK hpv hX'
      refine br_f (by decide) ⟨vp_in_nI (by omega) (by omega), by decide, ?_⟩
      dsimp only
      rw [nI_clamp (n := j) (by omega), hpv, zr_div (zr_Ab g hjK)]
      refine zy_cost hY (nI j) ?_ ?_
      · rintro (z | z)
        · exact absurd z (nI_pos (by omega))
        · exact absurd (nI_lt hjK (by omega)) z
      · intro i hi e _ _ _
        rw [(nI_eq (by omega) (by omega)).mp e]
        exact ⟨rfl, zr_mk hX' hY⟩
    · intro en fo pa fw wo fp pv wa fx wi ch wp tp ho be sl se hjK hX'
      refine br_t rfl ?_
      refine zy_cost hY (nI j) (fun _ _ _ _ => ⟨rfl, zr_mk hX' hY⟩) ?_
      intro i hi e
      have := (nI_eq (by omega) (by omega)).mp e
      omega
theorem i_vc_plan {k : Nat} {u : SX} {v : SY} (I : i_Rel k u v) (hk : k + 4 ≤ 2048) (v1 : Int32) : wpX_plan (fun r u' => wpY_plan (fun r' v' => r' = r ∧ i_Rel (k + 4) u' v') v v1) u v1 := by
  refine zr_el (P := fun u v => wpX_plan (fun r u' => wpY_plan (fun r' v' => r' = r ∧ i_Rel (k + 4) u' v') v v1) u v1) ?_ I
  intro g st en fo pa fw wo fp pw pt pr ba pv wa fx wi ch wp tp ho be sl se ct ps nu co hX hY
  have hK := zd_K120 g
  unfold wpX_plan
  dsimp only
  rcases zr_rk v1 with h | ⟨j, hj, rfl⟩
  · refine zr_hasn h (br_t rfl ?_)
    refine zy_plan hY v1 (fun _ _ _ _ => ⟨rfl, zr_mk hX hY⟩) ?_
    intro j hj e
    subst e
    rcases zy_out (g := g) h with z | z
    · exact absurd z (nI_pos (by omega))
    · exact absurd (nI_lt hj (by omega)) z
  · refine zr_has hX hj ?_ ?_
    · intro en fo pa fw wo fp pv wa fx wi ch wp tp ho be sl se hjK hpv hX'
      refine br_f (by decide) ⟨vp_in_nI (by omega) (by omega), by decide, ?_⟩
      dsimp only
      rw [nI_clamp (n := j) (by omega), hpv, zr_mod (zr_Ab g hjK), lN_i]
      refine zy_plan hY (nI j) ?_ ?_
      · rintro (z | z)
        · exact absurd z (nI_pos (by omega))
        · exact absurd (nI_lt hjK (by omega)) z
      · intro i hi e _ _ _
        rw [(nI_eq (by omega) (by omega)).mp e]
        exact ⟨rfl, zr_mk hX' hY⟩
    · intro en fo pa fw wo fp pv wa fx wi ch wp tp ho be sl se hjK hX'
      refine br_t rfl ?_
      refine zy_plan hY (nI j) (fun _ _ _ _ => ⟨rfl, zr_mk hX' hY⟩) ?_
      intro i hi e
      have := (nI_eq (by omega) (by omega)).mp e
      omega
theorem i_vc_task {k : Nat} {u : SX} {v : SY} (I : i_Rel k u v) (hk : k + 4 ≤ 2048) (v1 : Int32) (v2 : Int32) : wpX_task (fun r u' => wpY_task (fun r' v' => r' = r ∧ i_Rel (k + 4) u' v') v v1 v2) u v1 v2 := by
  refine zr_el (P := fun u v => wpX_task (fun r u' => wpY_task (fun r' v' => r' = r ∧ i_Rel (k + 4) u' v') v v1 v2) u v1 v2) ?_ I
  intro g st en fo pa fw wo fp pw pt pr ba pv wa fx wi ch wp tp ho be sl se ct ps nu co hX hY
  have hK := zd_K120 g
  unfold wpX_task
  dsimp only
  rcases zr_in v2 with h2 | ⟨w, hw, rfl⟩
  · exact zx_in0 h2 (br_t rfl (zy_task0 hY v1 v2 h2 (fun _ _ _ => ⟨rfl, zr_mk hX hY⟩)))
  refine zx_in1 hw (br_f (by decide) ?_)
  rcases zr_rk v1 with h | ⟨j, hj, rfl⟩
  · refine zr_hasn h (br_t rfl ?_)
    refine zy_task hY v1 hw (fun _ _ _ _ => ⟨rfl, zr_mk hX hY⟩) ?_
    intro j hj e
    subst e
    rcases zy_out (g := g) h with z | z
    · exact absurd z (nI_pos (by omega))
    · exact absurd (nI_lt hj (by omega)) z
  · refine zr_has hX hj ?_ ?_
    · intro en fo pa fw wo fp pv wa fx wi ch wp tp ho be sl se hjK hpv hX'
      have hA := zr_Ab g hjK
      refine br_f (by decide) ⟨vp_in_nI (by omega) (by omega), by decide, ?_⟩
      dsimp only
      rw [nI_clamp (n := j) (by omega), hpv, zr_mod hA, lN_i]
      refine nm_e (zx_dg (by omega) hw ?_)
      refine zy_task hY (nI j) hw ?_ ?_
      · rintro (z | z)
        · exact absurd z (nI_pos (by omega))
        · exact absurd (nI_lt hjK (by omega)) z
      · intro i hi e _ _ _
        rw [(nI_eq (by omega) (by omega)).mp e]
        exact ⟨rfl, zr_mk hX' hY⟩
    · intro en fo pa fw wo fp pv wa fx wi ch wp tp ho be sl se hjK hX'
      refine br_t rfl ?_
      refine zy_task hY (nI j) hw (fun _ _ _ _ => ⟨rfl, zr_mk hX' hY⟩) ?_
      intro i hi e
      have := (nI_eq (by omega) (by omega)).mp e
      omega
theorem i_vc_within {k : Nat} {u : SX} {v : SY} (I : i_Rel k u v) (hk : k + 4 ≤ 2048) (v1 : Int32) : wpX_within (fun r u' => wpY_within (fun r' v' => r' = r ∧ i_Rel (k + 4) u' v') v v1) u v1 := by
  refine zr_el (P := fun u v => wpX_within (fun r u' => wpY_within (fun r' v' => r' = r ∧ i_Rel (k + 4) u' v') v v1) u v1) ?_ I
  intro g st en fo pa fw wo fp pw pt pr ba pv wa fx wi ch wp tp ho be sl se ct ps nu co hX hY
  obtain ⟨c, c1, c2, c3⟩ := zr_cut g v1.toInt
  unfold wpX_within
  dsimp only
  refine ⟨121, zr_w4 c1 c2 c3 ?_ 120 0 st en fo pa fw wo fp pv wa fx wi ch wp tp ho be sl se rfl (Nat.zero_le _) hX⟩
  intro st en fo pa fw wo fp pv wa fx wi ch wp tp ho be sl se hX'
  unfold wpY_within
  dsimp only
  refine zy_list hY ?_
  intro nu1 co1 hM
  dsimp only
  have h := zy_w8 (ps := ps) (post := fun r' v' => r' = nI c ∧ i_Rel (k + 4) (st, en, fo, pa, fw, wo, fp, pw, pt, pr, ba, pv, wa, fx, wi, ch, wp, tp, ho, be, sl, se) v') c1 c2 c3 rfl hM ⟨rfl, zr_mk hX' hY⟩ (zd_K g) 0 (by omega)
  rw [if_pos (Nat.zero_le _)] at h
  exact ⟨_, h⟩
theorem i_vc_rank {k : Nat} {u : SX} {v : SY} (I : i_Rel k u v) (hk : k + 4 ≤ 2048) (v1 : Int32) : wpX_rank (fun r u' => wpY_rank (fun r' v' => r' = r ∧ i_Rel (k + 4) u' v') v v1) u v1 := by
  refine zr_el (P := fun u v => wpX_rank (fun r u' => wpY_rank (fun r' v' => r' = r ∧ i_Rel (k + 4) u' v') v v1) u v1) ?_ I
  intro g st en fo pa fw wo fp pw pt pr ba pv wa fx wi ch wp tp ho be sl se ct ps nu co hX hY
  have hK := zd_K120 g
  obtain ⟨ans, hx, hy⟩ := zr_rank (g := g) (x := v1) (zd_K g) 0 (by omega)
  unfold wpX_rank
  dsimp only
  refine zr_find (c := 120) hX (by decide) ?_
  intro en fo pa fw wo fp pv wa fx wi ch wp tp ho be sl se f hfo hfK hpv hcf hX'
  obtain rfl : f = zd_K g := by omega
  dsimp only
  refine ⟨_, hx _ _ _ _ _ _ _ _ _ _ _ _ _ _ _ _ _ _ _ _ _ _ _ hfo hpv ?_⟩
  unfold wpY_rank
  dsimp only
  refine zy_list hY ?_
  intro nu1 co1 hM
  dsimp only
  exact ⟨_, hy _ _ _ _ _ rfl hM ⟨rfl, zr_mk hX' hY⟩⟩
theorem i_vc_cheapestWith {k : Nat} {u : SX} {v : SY} (I : i_Rel k u v) (hk : k + 4 ≤ 2048) (v1 : Int32) (v2 : Int32) : wpX_cheapestWith (fun r u' => wpY_cheapestWith (fun r' v' => r' = r ∧ i_Rel (k + 4) u' v') v v1 v2) u v1 v2 := by
  refine zr_el (P := fun u v => wpX_cheapestWith (fun r u' => wpY_cheapestWith (fun r' v' => r' = r ∧ i_Rel (k + 4) u' v') v v1 v2) u v1 v2) ?_ I
  intro g st en fo pa fw wo fp pw pt pr ba pv wa fx wi ch wp tp ho be sl se ct ps nu co hX hY
  have hK := zd_K120 g
  unfold wpX_cheapestWith wpY_cheapestWith
  dsimp only
  rcases zr_in v1 with h1 | ⟨w, hw, rfl⟩
  · exact zx_in0 h1 (br_t rfl (zy_bad1 h1 (br_f (by decide) ⟨rfl, zr_mk hX hY⟩)))
  refine zx_in1 hw (br_f (by decide) ?_)
  rcases zr_in v2 with h2 | ⟨t, ht, rfl⟩
  · exact zx_in0 h2 (br_t rfl (zy_bad0 hw (br_t rfl (zy_bad1 h2 (br_f (by decide) ⟨rfl, zr_mk hX hY⟩)))))
  refine zx_in1 ht (br_f (by decide) ?_)
  unfold wpX_setPart
  dsimp only
  obtain ⟨hP, hpw, hst⟩ := hX
  have HV := zx_HVof (st := st) (en := en) (fo := fo) (pa := pa) (fw := 0) (wo := 0) (fp := 0) (pw := nI w) (pt := nI t) (pv := pv) (wa := wa) (fx := fx) (wi := wi) (ch := ch) (x := 0) (s := 0) (m := 0) (pin := fun w' t' => decide (w' = w → t' = t)) hP (Or.inr ⟨w, t, hw, ht, rfl, rfl, fun _ _ => rfl⟩) (by decide) (by decide) (by decide) rfl rfl rfl
  refine zx_solve HV ?_
  intro wp' tp' ho' be' sl' se' T hT
  dsimp only
  have hX' : zr_X g st en fo pa (-1) pr ba pv wa fx wi ch := ⟨hP, rfl, hst⟩
  have hmod : ∀ i n, zd_fe g n → zd_A g i = zd_vl g n → zd_A g i % 3125 = n := fun i n hn e => by rw [e, zd_vmod hn.1]
  rcases hT with ⟨t1, m, m1, m2, m3, m4⟩ | ⟨t1, t2, t3⟩
  · have m2' := (zr_pin hw).mp m2
    obtain ⟨r, hr, er⟩ := zd_Ain g m1
    refine br_t ((pk_lLT (a := T) (b := 1000000000) (by omega) (by omega)).mpr t1) ⟨by decide, ?_⟩
    have hTv : T < 1600000 := by rw [m3]; exact zd_vlt m1
    rw [zr_div hTv]
    refine zy_bad0 hw (br_t rfl (zy_bad0 ht (br_t rfl ?_)))
    refine zy_list hY ?_
    intro nu1 co1 hM
    dsimp only
    refine ⟨_, zy_c22 (r := r) hw ht rfl hM (by omega) ?_ (fun _ => by rw [hmod r m m1 er]; exact m2') (fun _ => ⟨by rw [er, m3], zr_mk hX' hY⟩) (fun z => absurd z (by omega)) r 0 (by omega)⟩
    intro i hi z
    obtain ⟨n, hn, e⟩ := zd_Aof g (i := i) (by omega)
    rw [hmod i n hn e] at z
    have a1 := m4 n hn ((zr_pin hw).mpr z)
    have a2 := zd_Asort g hi hr
    omega
  · refine br_f (fun z => absurd ((pk_lLT (a := T) (b := 1000000000) (by omega) (by omega)).mp z) (by omega)) ?_
    refine zy_bad0 hw (br_t rfl (zy_bad0 ht (br_t rfl ?_)))
    refine zy_list hY ?_
    intro nu1 co1 hM
    dsimp only
    refine ⟨_, zy_c22 (r := zd_K g) hw ht rfl hM (Nat.le_refl _) ?_ (fun z => absurd z (by omega)) (fun z => absurd z (by omega)) (fun _ => ⟨rfl, zr_mk hX' hY⟩) (zd_K g) 0 (by omega)⟩
    intro i hi z
    obtain ⟨n, hn, e⟩ := zd_Aof g hi
    rw [hmod i n hn e] at z
    exact t3 n hn ((zr_pin hw).mpr z)
end
