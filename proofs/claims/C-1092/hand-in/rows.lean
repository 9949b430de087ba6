section
theorem pk_us {f : Nat → Int32} {k : Nat} {x : Int32} : upd f k x k = x := if_pos rfl
theorem pk_un {f : Nat → Int32} {k j : Nat} {x : Int32} (h : j ≠ k) : upd f k x j = f j := if_neg h
theorem pk_uLs {f : Nat → Int64} {k : Nat} {x : Int64} : vp_updL f k x k = x := if_pos rfl
theorem pk_uLn {f : Nat → Int64} {k j : Nat} {x : Int64} (h : j ≠ k) : vp_updL f k x j = f j := if_neg h
theorem pk_sub {a b : Nat} (h : b ≤ a) : nI a - nI b = nI (a - b) := by
  obtain ⟨c, rfl⟩ : ∃ c, a = c + b := ⟨a - b, by omega⟩
  rw [← nI_add, Int32.add_sub_cancel, Nat.add_sub_cancel]
theorem pk_m1 (n : Nat) : nI (n + 1) + (-1) = nI n := by
  rw [← nI_1, Int32.add_assoc, show (1 : Int32) + (-1) = 0 from rfl, Int32.add_zero]
theorem pk_mul (a b : Nat) : nI a * nI b = nI (a * b) := (Int32.ofNat_mul a b).symm
theorem pk_div {a d : Nat} (ha : a < 2 ^ 31) (h0 : 0 < d) (hd : d < 2 ^ 31) : nI a / nI d = nI (a / d) := by
  apply Int32.toInt_inj.mp
  rw [lg_idiv_nonneg (by rw [nI_toInt ha]; omega) (by rw [nI_toInt hd]; omega), nI_toInt ha, nI_toInt hd, nI_toInt (Nat.lt_of_le_of_lt (Nat.div_le_self a d) ha)]
  first | rfl | exact (Int.natCast_ediv _ _).symm
theorem pk_rem {a d : Nat} (ha : a < 2 ^ 31) (h0 : 0 < d) (hd : d < 2 ^ 31) : nI a - nI a / nI d * nI d = nI (a % d) := by
  rw [pk_div ha h0 hd, pk_mul, pk_sub (Nat.div_mul_le_self a d)]
  exact congrArg nI (by have := Nat.div_add_mod' a d; omega)
theorem pk_sub_toInt {a b : Nat} (ha : a < 2 ^ 30) (hb : b < 2 ^ 30) : (nI a - nI b).toInt = (a : Int) - b := by
  rw [Int32.toInt_sub, nI_toInt (by omega), nI_toInt (by omega)]
  exact Int.bmod_eq_of_le (by omega) (by omega)
theorem pk_sneg {a b : Nat} (hb : b < 2 ^ 30) (h : a < b) : nI a - nI b < 0 := by
  rw [Int32.lt_iff_toInt_lt, pk_sub_toInt (by omega) hb, show (0 : Int32).toInt = 0 from by decide]
  omega
theorem pk_ix (x : Int32) {n : Nat} (hn : n < 2 ^ 31) : x < 0 ∨ nI n ≤ x ∨ ∃ j : Nat, j < n ∧ x = nI j := by
  by_cases h : x < 0
  · exact Or.inl h
  · obtain ⟨j, hj, rfl⟩ := nI_of h
    by_cases h2 : j < n
    · exact Or.inr (Or.inr ⟨j, h2, rfl⟩)
    · exact Or.inr (Or.inl (nI_le (by omega) hj))
theorem pk_le {x y : Int32} {A B : Prop} (a b : Nat) (f : a ≤ b → A) (g : b < a → B) (hx : x = nI a := by rfl) (hy : y = nI b := by rfl) (ha : a < 2 ^ 31 := by omega) (hb : b < 2 ^ 31 := by omega) : (x ≤ y → A) ∧ (¬ x ≤ y → B) := by
  subst hx hy
  rw [nI_leI ha hb]
  exact ⟨f, fun z => g (by omega)⟩
theorem pk_lt {x y : Int32} {A B : Prop} (a b : Nat) (f : a < b → A) (g : b ≤ a → B) (hx : x = nI a := by rfl) (hy : y = nI b := by rfl) (ha : a < 2 ^ 31 := by omega) (hb : b < 2 ^ 31 := by omega) : (x < y → A) ∧ (¬ x < y → B) := by
  subst hx hy
  rw [nI_ltI ha hb]
  exact ⟨f, fun z => g (by omega)⟩
theorem pk_eq {x y : Int32} {A B : Prop} (a b : Nat) (f : a = b → A) (g : a ≠ b → B) (hx : x = nI a := by rfl) (hy : y = nI b := by rfl) (ha : a < 2 ^ 31 := by omega) (hb : b < 2 ^ 31 := by omega) : (x = y → A) ∧ (¬ x = y → B) := by
  subst hx hy
  rw [nI_eq ha hb]
  exact ⟨f, g⟩
theorem pk_in {x : Int32} (n N : Nat) (h : n < N) (hx : x = nI n := by rfl) (hN : N < 2 ^ 31 := by omega) : vp_in x N := by
  subst hx
  exact vp_in_nI h hN
theorem pk_cl {x : Int32} (n : Nat) (hx : x = nI n := by rfl) (h : n < 2 ^ 31 := by omega) : x.toNatClampNeg = n := by
  subst hx
  exact nI_clamp h
theorem pk_tn {n : Nat} (h : n < 2 ^ 32) : (nI n).toBitVec.toNat = n := Nat.mod_eq_of_lt h
theorem pk_and (x : Int32) {m : Int32} (k : Nat) (hm : m.toBitVec.toNat = 2 ^ k - 1) : x &&& m = nI (x.toBitVec.toNat % 2 ^ k) := by
  apply Int32.toBitVec_inj.mp
  apply BitVec.eq_of_toNat_eq
  rw [Int32.toBitVec_and, BitVec.toNat_and, hm, Nat.and_two_pow_sub_one_eq_mod]
  show _ = (BitVec.ofNat 32 _).toNat
  rw [BitVec.toNat_ofNat]
  exact (Nat.mod_eq_of_lt (Nat.lt_of_le_of_lt (Nat.mod_le _ _) x.toBitVec.isLt)).symm
theorem pk_andN {n : Nat} (h : n < 2 ^ 32) {m : Int32} (k : Nat) (hm : m.toBitVec.toNat = 2 ^ k - 1) : nI n &&& m = nI (n % 2 ^ k) := by
  rw [pk_and _ k hm, pk_tn h]
theorem pk_andE (x : Int32) {m : Int32} (k : Nat) (hm : m.toBitVec.toNat = 2 ^ k - 1) : ∃ j : Nat, j < 2 ^ k ∧ x &&& m = nI j := ⟨_, Nat.mod_lt _ (Nat.two_pow_pos k), pk_and x k hm⟩
theorem pk_andIn (x : Int32) {m : Int32} (k : Nat) (hm : m.toBitVec.toNat = 2 ^ k - 1) (hk : k ≤ 30) : vp_in (x &&& m) (2 ^ k) := by
  obtain ⟨j, hj, e⟩ := pk_andE x k hm
  rw [e]
  exact vp_in_nI hj (Nat.lt_of_le_of_lt (Nat.pow_le_pow_right (by decide) hk) (by decide))
theorem pk_shl (a s : Int32) (k : Nat) (hs : (s.toBitVec.smod 32).toNat = k) : (a <<< s).toBitVec.toNat = a.toBitVec.toNat * 2 ^ k % 2 ^ 32 := by
  show (a.toBitVec <<< (s.toBitVec.smod 32).toNat).toNat = _
  rw [hs, BitVec.toNat_shiftLeft, Nat.shiftLeft_eq]
theorem pk_shlN {n : Nat} (s : Int32) (k : Nat) (hs : (s.toBitVec.smod 32).toNat = k) (h : n * 2 ^ k < 2 ^ 32) : nI n <<< s = nI (n * 2 ^ k) := by
  apply Int32.toBitVec_inj.mp
  apply BitVec.eq_of_toNat_eq
  have hn : n < 2 ^ 32 := Nat.lt_of_le_of_lt (Nat.le_mul_of_pos_right n (Nat.two_pow_pos k)) h
  rw [pk_shl _ _ k hs, pk_tn hn, pk_tn h, Nat.mod_eq_of_lt h]
theorem pk_shr (a s : Int32) (k : Nat) (hs : (s.toBitVec.smod 32).toNat = k) : (a >>> s).toInt = a.toInt >>> k := by
  show (a.toBitVec.sshiftRight (s.toBitVec.smod 32).toNat).toInt = _
  rw [hs, BitVec.toInt_sshiftRight]
  rfl
theorem pk_shrN {n : Nat} (h : n < 2 ^ 31) (s : Int32) (k : Nat) (hs : (s.toBitVec.smod 32).toNat = k) : nI n >>> s = nI (n / 2 ^ k) := by
  apply Int32.toInt_inj.mp
  have h2 : n / 2 ^ k ≤ n := Nat.div_le_self _ _
  rw [pk_shr _ _ k hs, nI_toInt h, nI_toInt (by omega), Int.shiftRight_eq_div_pow]
  rfl
theorem pk_ushr (x s : Int32) (k : Nat) (hs : ((s.toUInt32 &&& Int32.toUInt32 31).toBitVec % 32).toNat = k) : (x.toUInt32 >>> (s.toUInt32 &&& Int32.toUInt32 31)).toInt32.toBitVec.toNat = x.toBitVec.toNat / 2 ^ k := by
  have e : (x.toUInt32 >>> (s.toUInt32 &&& Int32.toUInt32 31)).toInt32.toBitVec = x.toBitVec >>> k := by
    rw [← hs]
    exact UInt32.toBitVec_shiftRight _ _
  rw [e, BitVec.toNat_ushiftRight, Nat.shiftRight_eq_div_pow]
theorem pk_ushrN {n : Nat} (hn : n < 2 ^ 32) (s : Int32) (k : Nat) (hs : ((s.toUInt32 &&& Int32.toUInt32 31).toBitVec % 32).toNat = k) : ((nI n).toUInt32 >>> (s.toUInt32 &&& Int32.toUInt32 31)).toInt32 = nI (n / 2 ^ k) := by
  apply Int32.toBitVec_inj.mp
  apply BitVec.eq_of_toNat_eq
  rw [pk_ushr _ s k hs, pk_tn hn, pk_tn (Nat.lt_of_le_of_lt (Nat.div_le_self _ _) hn)]
theorem pk_nb (z : Int32) : narrow .byte (.int z.toInt8.toInt32) = .int z.toInt8.toInt32 := congrArg Value.int (by simp)
theorem pk_ns (z : Int32) : narrow .short (.int z.toInt16.toInt32) = .int z.toInt16.toInt32 := congrArg Value.int (by simp)
theorem pk_fb (r : Int32) : fits .byte (.int r.toInt8.toInt32) = true := by
  have ⟨a, b⟩ := lg_i2b_range r
  have h1 : (-128 : Int32).toInt = -128 := by decide
  have h2 : (127 : Int32).toInt = 127 := by decide
  simp only [fits, Bool.and_eq_true, decide_eq_true_eq, Int32.le_iff_toInt_le, h1, h2]
  omega
theorem pk_fs (r : Int32) : fits .short (.int r.toInt16.toInt32) = true := by
  have ⟨a, b⟩ := lg_i2s_range r
  have h1 : (-32768 : Int32).toInt = -32768 := by decide
  have h2 : (32767 : Int32).toInt = 32767 := by decide
  simp only [fits, Bool.and_eq_true, decide_eq_true_eq, Int32.le_iff_toInt_le, h1, h2]
  omega
theorem pk_charN {q : Nat} (hq : q < 65536) : narrow .char (.int (nI q)) = .int (nI q) ∧ fits .char (.int (nI q)) = true := by
  constructor
  · have e : (nI q).toUInt32.toUInt16.toUInt32.toInt32 = nI q := by
      apply Int32.toBitVec_inj.mp
      apply BitVec.eq_of_toNat_eq
      show (nI q).toUInt32.toUInt16.toUInt32.toNat = q % 2 ^ 32
      rw [UInt16.toNat_toUInt32, UInt32.toNat_toUInt16, show (nI q).toUInt32.toNat = q % 2 ^ 32 from rfl]
      omega
    exact congrArg Value.int e
  · have a : (0 : Int32) ≤ nI q := nI_pos' (by omega)
    have b : nI q ≤ 65535 := nI_le (b := 65535) (by omega) (by decide)
    show (decide ((0 : Int32) ≤ nI q) && decide (nI q ≤ 65535)) = true
    rw [decide_eq_true a, decide_eq_true b]
    rfl
theorem pk_char (x : Int32) : (x.toUInt32 % 65536).toInt32 = nI (x.toBitVec.toNat % 65536) := by
  apply Int32.toBitVec_inj.mp
  apply BitVec.eq_of_toNat_eq
  rw [pk_tn (by omega)]
  show (x.toUInt32 % 65536).toNat = _
  rw [UInt32.toNat_mod]
  rfl
theorem pk_nc (x : Int32) : narrow .char (.int (x.toUInt32 % 65536).toInt32) = .int (x.toUInt32 % 65536).toInt32 := by
  rw [pk_char]
  exact (pk_charN (Nat.mod_lt _ (by decide))).1
theorem pk_fc (x : Int32) : fits .char (.int (x.toUInt32 % 65536).toInt32) = true := by
  rw [pk_char]
  exact (pk_charN (Nat.mod_lt _ (by decide))).2
theorem pk_vb (z : Int32) : vp_nar .byte z.toInt8.toInt32 = z.toInt8.toInt32 := by rw [vp_nar_byte]; simp
theorem pk_vs (z : Int32) : vp_nar .short z.toInt16.toInt32 = z.toInt16.toInt32 := by rw [vp_nar_short]; simp
theorem pk_vc (z : Int32) : vp_nar .char (z.toUInt32 % 65536).toInt32 = (z.toUInt32 % 65536).toInt32 := Value.int.inj (pk_nc z)
theorem pk_lT {n : Nat} (h : n < 2 ^ 63) : (lN n).toInt = (n : Int) := lg_ofNat_toInt h
theorem pk_lLT {a b : Nat} (ha : a < 2 ^ 63) (hb : b < 2 ^ 63) : lN a < lN b ↔ a < b := by
  rw [Int64.lt_iff_toInt_lt, pk_lT ha, pk_lT hb]; omega
theorem pk_lLE {a b : Nat} (ha : a < 2 ^ 63) (hb : b < 2 ^ 63) : lN a ≤ lN b ↔ a ≤ b := by
  rw [Int64.le_iff_toInt_le, pk_lT ha, pk_lT hb]; omega
theorem pk_lEQ {a b : Nat} (ha : a < 2 ^ 63) (hb : b < 2 ^ 63) : lN a = lN b ↔ a = b := by
  rw [← Int64.toInt_inj, pk_lT ha, pk_lT hb]; omega
theorem pk_lOf {x : Int64} (h : ¬ x < 0) : ∃ k : Nat, k < 2 ^ 63 ∧ x = lN k := by
  rw [Int64.lt_iff_toInt_lt] at h
  have h0 : (0 : Int64).toInt = 0 := by decide
  have hx := Int64.toInt_lt x
  refine ⟨x.toInt.toNat, by omega, Int64.toInt_inj.mp ?_⟩
  rw [pk_lT (by omega)]
  omega
theorem pk_lDiv {a b : Nat} (ha : a < 2 ^ 63) (h0 : 0 < b) (hb : b < 2 ^ 63) : lN a / lN b = lN (a / b) := by
  apply Int64.toInt_inj.mp
  rw [lg_ldiv_nonneg (by rw [pk_lT ha]; omega) (by rw [pk_lT hb]; omega), pk_lT ha, pk_lT hb, pk_lT (Nat.lt_of_le_of_lt (Nat.div_le_self a b) ha)]
  rfl
theorem pk_lRem {a b : Nat} (ha : a < 2 ^ 63) (h0 : 0 < b) (hb : b < 2 ^ 63) : lN a - lN a / lN b * lN b = lN (a % b) := by
  rw [pk_lDiv ha h0 hb, lN_mul, lN_sub (Nat.div_mul_le_self a b)]
  exact congrArg lN (by have := Nat.div_add_mod' a b; omega)
theorem pk_least (P : Nat → Prop) (h : ∃ k, P k) : ∃ k, P k ∧ ∀ j, j < k → ¬ P j := by
  obtain ⟨k, hk⟩ := h
  induction k using Nat.strongRecOn with
  | ind k ih =>
    by_cases e : ∃ j, j < k ∧ P j
    · obtain ⟨j, hj, pj⟩ := e
      exact ih j hj pj
    · exact ⟨k, hk, fun j hj pj => e ⟨j, hj, pj⟩⟩
end
section
/-! pure: counting, maxima, the log, numbers -/
section ES02
def es_cn (p : Nat → Bool) : Nat → Nat
  | 0 => 0
  | n + 1 => es_cn p n + (if p n = true then 1 else 0)
theorem es_cn_t {p : Nat → Bool} {n : Nat} (h : p n = true) : es_cn p (n + 1) = es_cn p n + 1 := by
  show es_cn p n + (if p n = true then 1 else 0) = _
  rw [if_pos h]
theorem es_cn_f {p : Nat → Bool} {n : Nat} (h : p n = false) : es_cn p (n + 1) = es_cn p n := by
  show es_cn p n + (if p n = true then 1 else 0) = _
  rw [h]; rfl
theorem es_cn_cg {p q : Nat → Bool} : ∀ n, (∀ i, i < n → p i = q i) → es_cn p n = es_cn q n
  | 0, _ => rfl
  | n + 1, h => by
    show es_cn p n + (if p n = true then 1 else 0) = es_cn q n + (if q n = true then 1 else 0)
    rw [es_cn_cg n (fun i hi => h i (by omega)), h n (by omega)]
theorem es_cn_s (p : Nat → Bool) (n : Nat) : es_cn p n ≤ es_cn p (n + 1) ∧ es_cn p (n + 1) ≤ es_cn p n + 1 := by
  cases h : p n
  · rw [es_cn_f h]; omega
  · rw [es_cn_t h]; omega
theorem es_cn_le (p : Nat → Bool) : ∀ n, es_cn p n ≤ n
  | 0 => Nat.le_refl _
  | n + 1 => by have := es_cn_le p n; have := (es_cn_s p n).2; omega
theorem es_cn_mono (p : Nat → Bool) {i : Nat} : ∀ j, i ≤ j → es_cn p i ≤ es_cn p j
  | 0, h => by rw [show i = 0 by omega]; exact Nat.le_refl _
  | j + 1, h => by
    by_cases e : i = j + 1
    · rw [e]; exact Nat.le_refl _
    · have := es_cn_mono p j (by omega : i ≤ j); have := (es_cn_s p j).1; omega
theorem es_cn_lt {p : Nat → Bool} {i j : Nat} (h : i < j) (hp : p i = true) : es_cn p i < es_cn p j := by
  have := es_cn_mono p j (show i + 1 ≤ j from h)
  rw [es_cn_t hp] at this
  omega
theorem es_cn_all {p : Nat → Bool} {i : Nat} : ∀ d, (∀ j, i ≤ j → j < i + d → p j = true) → es_cn p (i + d) = es_cn p i + d
  | 0, _ => rfl
  | d + 1, h => by
    show es_cn p ((i + d) + 1) = _
    rw [es_cn_t (h (i + d) (by omega) (by omega)), es_cn_all d (fun j a b => h j a (by omega))]
    rfl
def es_mx (p : Nat → Bool) (w : Nat → Nat) : Nat → Nat
  | 0 => 0
  | n + 1 => if p n = true then (if es_mx p w n < w n then w n else es_mx p w n) else es_mx p w n
theorem es_mx_t {p : Nat → Bool} {w : Nat → Nat} {n : Nat} (h : p n = true) : es_mx p w (n + 1) = if es_mx p w n < w n then w n else es_mx p w n := by
  show (if p n = true then (if es_mx p w n < w n then w n else es_mx p w n) else es_mx p w n) = _
  rw [if_pos h]
theorem es_mx_f {p : Nat → Bool} {w : Nat → Nat} {n : Nat} (h : p n = false) : es_mx p w (n + 1) = es_mx p w n := by
  show (if p n = true then (if es_mx p w n < w n then w n else es_mx p w n) else es_mx p w n) = _
  rw [h]; rfl
theorem es_mx_lt {p : Nat → Bool} {w : Nat → Nat} {v : Nat} : ∀ n, v < es_mx p w n ↔ ∃ i, i < n ∧ p i = true ∧ v < w i
  | 0 => ⟨fun h => absurd h (Nat.not_lt_zero _), fun ⟨i, h, _⟩ => absurd h (Nat.not_lt_zero _)⟩
  | n + 1 => by
    have ih := es_mx_lt (p := p) (w := w) (v := v) n
    constructor
    · intro h
      cases hp : p n
      · rw [es_mx_f hp, ih] at h
        obtain ⟨i, a, b⟩ := h
        exact ⟨i, by omega, b⟩
      · rw [es_mx_t hp] at h
        by_cases hw : es_mx p w n < w n
        · rw [if_pos hw] at h
          exact ⟨n, Nat.lt_succ_self _, hp, h⟩
        · rw [if_neg hw, ih] at h
          obtain ⟨i, a, b⟩ := h
          exact ⟨i, by omega, b⟩
    · rintro ⟨i, a, b, c⟩
      by_cases e : i = n
      · subst e
        rw [es_mx_t b]
        by_cases hw : es_mx p w i < w i
        · rw [if_pos hw]; exact c
        · rw [if_neg hw]; omega
      · have h2 : v < es_mx p w n := ih.mpr ⟨i, by omega, b, c⟩
        cases hp : p n
        · rw [es_mx_f hp]; exact h2
        · rw [es_mx_t hp]
          by_cases hw : es_mx p w n < w n
          · rw [if_pos hw]; omega
          · rw [if_neg hw]; exact h2
theorem es_ext {a b : Nat} (h : ∀ v, v < a ↔ v < b) : a = b := by
  have h1 := h a
  have h2 := h b
  omega
theorem es_mx_cg {p q : Nat → Bool} {w z : Nat → Nat} {n : Nat} (h : ∀ i, i < n → p i = q i ∧ w i = z i) : es_mx p w n = es_mx q z n := by
  apply es_ext
  intro v
  rw [es_mx_lt, es_mx_lt]
  constructor
  · rintro ⟨i, a, b, c⟩
    exact ⟨i, a, by rw [← (h i a).1]; exact b, by rw [← (h i a).2]; exact c⟩
  · rintro ⟨i, a, b, c⟩
    exact ⟨i, a, by rw [(h i a).1]; exact b, by rw [(h i a).2]; exact c⟩
theorem es_mx_le {p : Nat → Bool} {w : Nat → Nat} {n B : Nat} (h : ∀ i, i < n → p i = true → w i ≤ B) : es_mx p w n ≤ B := by
  apply Nat.le_of_not_lt
  intro z
  obtain ⟨i, a, b, c⟩ := (es_mx_lt n).mp z
  have := h i a b
  omega
theorem es_mx_mono {p : Nat → Bool} {w : Nat → Nat} {n m : Nat} (h : n ≤ m) : es_mx p w n ≤ es_mx p w m := by
  apply Nat.le_of_not_lt
  intro z
  obtain ⟨i, a, b, c⟩ := (es_mx_lt n).mp z
  exact absurd ((es_mx_lt m).mpr ⟨i, Nat.lt_of_lt_of_le a h, b, c⟩) (Nat.lt_irrefl _)

/-! the log: cut?, stream, type, value, version, origin, call -/
abbrev es_Ev : Type := Bool × Nat × Nat × Int32 × Nat × Option (Nat × Nat × Nat) × Nat
abbrev es_c (e : es_Ev) : Bool := e.1
abbrev es_s (e : es_Ev) : Nat := e.2.1
abbrev es_t (e : es_Ev) : Nat := e.2.2.1
abbrev es_v (e : es_Ev) : Int32 := e.2.2.2.1
abbrev es_n (e : es_Ev) : Nat := e.2.2.2.2.1
abbrev es_o (e : es_Ev) : Option (Nat × Nat × Nat) := e.2.2.2.2.2.1
abbrev es_k (e : es_Ev) : Nat := e.2.2.2.2.2.2
def es_w (e : es_Ev) : Nat := (es_v e).toNatClampNeg
def es_up (L : Nat → es_Ev) (N : Nat) (e : es_Ev) : Nat → es_Ev := fun i => if i = N then e else L i
theorem es_up_s {L : Nat → es_Ev} {N : Nat} {e : es_Ev} : es_up L N e N = e := if_pos rfl
theorem es_up_n {L : Nat → es_Ev} {N i : Nat} {e : es_Ev} (h : i ≠ N) : es_up L N e i = L i := if_neg h
def es_E (L : Nat → es_Ev) (s n : Nat) : Nat := es_cn (fun i => !es_c (L i) && (es_s (L i) == s)) n
def es_Q (rm : Nat → Bool) (n : Nat) : Nat := es_cn (fun i => !rm i) n
def es_M (L : Nat → es_Ev) (s n : Nat) : Nat := es_mx (fun i => es_c (L i) && (es_s (L i) == s)) (fun i => es_w (L i)) n
def es_G (L : Nat → es_Ev) (rm : Nat → Bool) (s n : Nat) : Nat := es_mx (fun i => rm i && (es_c (L i) && (es_s (L i) == s))) (fun i => es_w (L i)) n
def es_op (L : Nat → es_Ev) (N i : Nat) : Bool := !es_c (L i) && decide (es_M L (es_s (L i)) N ≤ es_n (L i))

theorem es_E_0 {L : Nat → es_Ev} {s : Nat} : es_E L s 0 = 0 := rfl
theorem es_E_t {L : Nat → es_Ev} {s n : Nat} (h : es_c (L n) = false) (hs : es_s (L n) = s) : es_E L s (n + 1) = es_E L s n + 1 := es_cn_t (by simp [h, hs])
theorem es_E_f {L : Nat → es_Ev} {s n : Nat} (h : es_c (L n) = true ∨ es_s (L n) ≠ s) : es_E L s (n + 1) = es_E L s n := es_cn_f (by rcases h with h | h <;> simp [h])
theorem es_E_le (L : Nat → es_Ev) (s n : Nat) : es_E L s n ≤ n := es_cn_le _ n
theorem es_E_lt {L : Nat → es_Ev} {s i j : Nat} (hij : i < j) (h : es_c (L i) = false) (hs : es_s (L i) = s) : es_E L s i < es_E L s j := es_cn_lt hij (by simp [h, hs])
theorem es_E_cg {L L' : Nat → es_Ev} {s n : Nat} (h : ∀ i, i < n → L i = L' i) : es_E L s n = es_E L' s n := es_cn_cg n (fun i hi => by rw [h i hi])
theorem es_M_cg {L L' : Nat → es_Ev} {s n : Nat} (h : ∀ i, i < n → L i = L' i) : es_M L s n = es_M L' s n := es_mx_cg (fun i hi => by rw [h i hi]; exact ⟨rfl, rfl⟩)
theorem es_G_cg {L L' : Nat → es_Ev} {rm : Nat → Bool} {s n : Nat} (h : ∀ i, i < n → L i = L' i) : es_G L rm s n = es_G L' rm s n := es_mx_cg (fun i hi => by rw [h i hi]; exact ⟨rfl, rfl⟩)
theorem es_M_lt {L : Nat → es_Ev} {s n v : Nat} : v < es_M L s n ↔ ∃ i, i < n ∧ es_c (L i) = true ∧ es_s (L i) = s ∧ v < es_w (L i) := by
  unfold es_M
  rw [es_mx_lt]
  constructor
  · rintro ⟨i, a, b, c⟩
    simp at b
    exact ⟨i, a, b.1, b.2, c⟩
  · rintro ⟨i, a, b, b', c⟩
    exact ⟨i, a, by simp [b, b'], c⟩
theorem es_G_lt {L : Nat → es_Ev} {rm : Nat → Bool} {s n v : Nat} : v < es_G L rm s n ↔ ∃ i, i < n ∧ rm i = true ∧ es_c (L i) = true ∧ es_s (L i) = s ∧ v < es_w (L i) := by
  unfold es_G
  rw [es_mx_lt]
  constructor
  · rintro ⟨i, a, b, c⟩
    simp at b
    exact ⟨i, a, b.1, b.2.1, b.2.2, c⟩
  · rintro ⟨i, a, b, b', b'', c⟩
    exact ⟨i, a, by simp [b, b', b''], c⟩
theorem es_M_mono {L : Nat → es_Ev} {s n m : Nat} (h : n ≤ m) : es_M L s n ≤ es_M L s m := es_mx_mono h
theorem es_M_t {L : Nat → es_Ev} {s n : Nat} (h : es_c (L n) = true) (hs : es_s (L n) = s) : es_M L s (n + 1) = if es_M L s n < es_w (L n) then es_w (L n) else es_M L s n := es_mx_t (by simp [h, hs])
theorem es_M_f {L : Nat → es_Ev} {s n : Nat} (h : es_c (L n) = false ∨ es_s (L n) ≠ s) : es_M L s (n + 1) = es_M L s n := es_mx_f (by rcases h with h | h <;> simp [h])
theorem es_Q_0 {rm : Nat → Bool} : es_Q rm 0 = 0 := rfl
theorem es_Q_t {rm : Nat → Bool} {n : Nat} (h : rm n = true) : es_Q rm (n + 1) = es_Q rm n := es_cn_f (by simp [h])
theorem es_Q_f {rm : Nat → Bool} {n : Nat} (h : rm n = false) : es_Q rm (n + 1) = es_Q rm n + 1 := es_cn_t (by simp [h])
theorem es_Q_mono (rm : Nat → Bool) {i j : Nat} (h : i ≤ j) : es_Q rm i ≤ es_Q rm j := es_cn_mono _ j h
theorem es_Q_lt {rm : Nat → Bool} {i j : Nat} (h : i < j) (hp : rm i = false) : es_Q rm i < es_Q rm j := es_cn_lt h (by simp [hp])
theorem es_Q_le (rm : Nat → Bool) (n : Nat) : es_Q rm n ≤ n := es_cn_le _ n
theorem es_Q_cg {rm rm' : Nat → Bool} {n : Nat} (h : ∀ i, i < n → rm i = rm' i) : es_Q rm n = es_Q rm' n := es_cn_cg n (fun i hi => by rw [h i hi])
theorem es_Q_inj {rm : Nat → Bool} {i j : Nat} (hi : rm i = false) (hj : rm j = false) (h : es_Q rm i = es_Q rm j) : i = j := by
  rcases Nat.lt_trichotomy i j with z | z | z
  · have := es_Q_lt z hi; omega
  · exact z
  · have := es_Q_lt z hj; omega
theorem es_Q_all {rm : Nat → Bool} {i j : Nat} (hij : i ≤ j) (h : ∀ k, i ≤ k → k < j → rm k = false) : es_Q rm j = es_Q rm i + (j - i) := by
  have := es_cn_all (p := fun i => !rm i) (i := i) (j - i) (fun k a b => by simp [h k a (by omega)])
  rw [show i + (j - i) = j by omega] at this
  exact this

/-! numbers -/
theorem es_i8 : ∀ t, t < 128 → (nI t).toInt8.toInt32 = nI t := by decide +kernel
theorem es_b8 {t : Nat} (h : t < 128) : vp_nar .byte (nI t).toInt8.toInt32 = nI t := by rw [pk_vb, es_i8 t h]
theorem es_nb {t : Nat} (h : t < 128) : vp_nar .byte (nI t) = nI t := by rw [vp_nar_byte, es_i8 t h]
theorem es_nb0 : vp_nar .byte 0 = 0 := by rw [vp_nar_byte]; decide
theorem es_nbm : vp_nar .byte (-1) = -1 := by rw [vp_nar_byte]; decide
theorem es_nbm8 : vp_nar .byte (-1 : Int32).toInt8.toInt32 = -1 := by rw [vp_nar_byte]; decide
theorem es_z0 : vp_nar .boolean 0 = 0 := by decide
theorem es_z1 : vp_nar .boolean 1 = 1 := by decide
theorem es_m1 {n : Nat} (h : 0 < n) : nI n - 1 = nI (n - 1) := by
  obtain ⟨m, rfl⟩ : ∃ m, n = m + 1 := ⟨n - 1, by omega⟩
  exact nI_pred m
theorem es_d1 {n : Nat} (h : 0 < n) : nI n + (-1) = nI (n - 1) := by
  obtain ⟨m, rfl⟩ : ∃ m, n = m + 1 := ⟨n - 1, by omega⟩
  exact pk_m1 m
theorem es_10 : ¬ (1 : Int32) = 0 := by decide
theorem es_neg1 : (-1 : Int32) < 0 := by decide
theorem es_n0 : ¬ (0 : Int32) ≤ -1 := by decide
theorem es_nm {n : Nat} (h : n < 2 ^ 31) : ¬ nI n = -1 := by
  intro e
  have := nI_pos (n := n) h
  rw [e] at this
  exact this es_neg1
theorem es_ck {n : Nat} (h : n < 2 ^ 31) : (nI n).toNatClampNeg = n := nI_clamp h
theorem es_inj {a b : Nat} (h : nI a = nI b) (ha : a < 2 ^ 31) (hb : b < 2 ^ 31) : a = b := (nI_eq ha hb).mp h
theorem es_mul (a b : Nat) : nI a * nI b = nI (a * b) := pk_mul a b
def es_b (b : Bool) : Int32 := if b = true then 1 else 0
theorem es_b_t : es_b true = 1 := rfl
theorem es_b_f : es_b false = 0 := rfl
theorem es_b_0 {b : Bool} : es_b b = 0 ↔ b = false := by cases b <;> decide
theorem es_b_n (b : Bool) : vp_nar .boolean (es_b b) = es_b b := by cases b <;> decide
/-- a branch on a flag -/
theorem es_bc {b : Bool} {A B : Prop} (f : b = false → A) (g : b = true → B) : (es_b b = 0 → A) ∧ (¬ es_b b = 0 → B) := by
  cases b
  · exact br_t rfl (f rfl)
  · exact br_f es_10 (g rfl)
end ES02
end
section
/-! the core relation; hashing, pure -/
section ES03
def es_OR (o : Option (Nat × Nat × Nat)) (fr on bb : Int32) : Prop := match o with
  | none => fr = -1 ∧ on = -1
  | some (p, q, b) => fr = nI p ∧ on = nI q ∧ bb = nI b
def es_YR (e : es_Ev) (r : Bool) (cu rm st ty fr bb va ve on ca : Int32) : Prop :=
  cu = es_b (es_c e) ∧ rm = es_b r ∧ st = nI (es_s e) ∧ ty = nI (es_t e) ∧ va = es_v e ∧ ve = nI (es_n e) ∧ ca = nI (es_k e) ∧ es_OR (es_o e) fr on bb
def es_CY (N F C : Nat) (L : Nat → es_Ev) (rm : Nat → Bool) (g_count g_flushed g_calls : Int32) (b_isCut b_removed b_stream b_type b_from b_by b_value b_version b_on b_call : Nat → Int32) : Prop :=
  g_count = nI N ∧ g_flushed = nI F ∧ g_calls = nI C ∧ ∀ i, i < N → es_YR (L i) (rm i) (b_isCut i) (b_removed i) (b_stream i) (b_type i) (b_from i) (b_by i) (b_value i) (b_version i) (b_on i) (b_call i)
/-- the row of X's table that holds position i -/
def es_XR (i : Nat) (e : es_Ev) (at_ ve va oa st ty ob oc : Int32) : Prop :=
  at_ = nI i ∧ st = nI (es_s e) ∧ (es_c e = true → ty = -1 ∧ ve = es_v e) ∧ (es_c e = false → ty = nI (es_t e) ∧ ve = nI (es_n e) ∧ va = es_v e ∧ es_OR (es_o e) ob oa oc)
def es_XT (N : Nat) (L : Nat → es_Ev) (rm : Nat → Bool) (a_at a_version a_value a_originAt a_stream a_type a_originBy a_originCode : Nat → Int32) : Prop :=
  ∀ i, i < N → rm i = false → es_XR i (L i) (a_at (es_Q rm i)) (a_version (es_Q rm i)) (a_value (es_Q rm i)) (a_originAt (es_Q rm i)) (a_stream (es_Q rm i)) (a_type (es_Q rm i)) (a_originBy (es_Q rm i)) (a_originCode (es_Q rm i))
def es_GO (N F : Nat) (L : Nat → es_Ev) (rm : Nat → Bool) (pd : Prop) (a_goesOn : Nat → Int32) : Prop :=
  ∀ i, F ≤ i → i < N → (a_goesOn (es_Q rm i) = 0 ∨ a_goesOn (es_Q rm i) = 1) ∧ (a_goesOn (es_Q rm i) = 0 ↔ ¬ ((i + 1 < N ∧ es_k (L i) = es_k (L (i + 1))) ∨ (i + 1 = N ∧ pd)))
def es_AG (N F : Nat) (L : Nat → es_Ev) (rm : Nat → Bool) (a_events a_cuts a_firm a_cutsGone : Nat → Int32) : Prop :=
  ∀ s, s < 5 → a_events s = nI (es_E L s N) ∧ a_cuts s = nI (es_M L s N) ∧ a_firm s = nI (es_M L s F) ∧ a_cutsGone s = nI (es_G L rm s N)
/-- pure facts of the log -/
def es_WL (N F C : Nat) (L : Nat → es_Ev) (rm : Nat → Bool) : Prop :=
  N ≤ 2000 ∧ F ≤ N ∧ es_Q rm N ≤ 40 ∧ (∀ i, rm i = true → i < F ∧ (es_c (L i) = true ∨ es_n (L i) < es_M L (es_s (L i)) F)) ∧
  ∀ i, i < N → es_s (L i) < 5 ∧ es_t (L i) < 8 ∧ es_n (L i) = es_E L (es_s (L i)) i ∧ (es_c (L i) = true → ∃ w, w ≤ 2000 ∧ es_v (L i) = nI w) ∧ (∀ p o b, es_o (L i) = some (p, o, b) → p < 3 ∧ o < i ∧ b < 14) ∧ es_k (L i) ≤ C
/-! hashing -/
def es_FD (hv : Nat → Int32) (s : Nat) (x : Int32) : Prop := ∃ d, d < 128 ∧ hv ((s + d) % 128) = x ∧ ∀ e, e < d → hv ((s + e) % 128) ≠ 0
def es_HS (N : Nat) (rm : Nat → Bool) (lv : Nat → Prop) (K : Nat → Nat) (hv : Nat → Int32) : Prop :=
  (∀ h, h < 128 → hv h ≠ 0 → ∃ i, i < N ∧ rm i = false ∧ lv i ∧ hv h = nI (es_Q rm i + 1)) ∧
  (∀ h h', h < 128 → h' < 128 → hv h ≠ 0 → hv h = hv h' → h = h') ∧
  (∀ i, i < N → rm i = false → lv i → es_FD hv (K i) (nI (es_Q rm i + 1)))
def es_sp (a b : Int32) : Nat := (((a * 31) + b) * (-1640531535)).toBitVec.toNat / 2 ^ 25
def es_ko (o : Option (Nat × Nat × Nat)) : Nat := match o with
  | none => 0
  | some (p, q, b) => es_sp (nI p * 14 + nI b) (nI q)
def es_HV (N : Nat) (L : Nat → es_Ev) (rm : Nat → Bool) (hv : Nat → Int32) : Prop := es_HS N rm (fun i => es_c (L i) = false) (fun i => es_sp (nI (es_s (L i))) (nI (es_n (L i)))) hv
def es_HO (N : Nat) (L : Nat → es_Ev) (rm : Nat → Bool) (ho : Nat → Int32) : Prop := es_HS N rm (fun i => es_c (L i) = false ∧ es_o (L i) ≠ none) (fun i => es_ko (es_o (L i))) ho
def es_ct (L : Nat → es_Ev) (N t i : Nat) : Bool := es_op L N i && (t == 8 || es_t (L i) == t)
def es_SM (N : Nat) (L : Nat → es_Ev) (rm : Nat → Bool) (f_summed : Int32) (a_upTo : Nat → Int64) : Prop :=
  f_summed = 0 ∨ (¬ f_summed = 0 ∧ ∀ t, t < 9 → ∀ i, i < N → rm i = false → a_upTo (41 * t + es_Q rm i + 1) = a_upTo (41 * t + es_Q rm i) + (if es_ct L N t i = true then (es_v (L i)).toInt64 else 0))
def es_CX (N F : Nat) (L : Nat → es_Ev) (rm : Nat → Bool) (pd : Prop) (f_held f_records f_flushed f_summed : Int32) (a_at a_version a_value a_originAt a_stream a_type a_originBy a_originCode a_goesOn a_events a_cuts a_firm a_cutsGone a_byVersion a_byOrigin : Nat → Int32) (a_upTo : Nat → Int64) : Prop :=
  f_held = nI (es_Q rm N) ∧ f_records = nI N ∧ f_flushed = nI F ∧ es_XT N L rm a_at a_version a_value a_originAt a_stream a_type a_originBy a_originCode ∧ es_AG N F L rm a_events a_cuts a_firm a_cutsGone ∧ es_GO N F L rm pd a_goesOn ∧ es_HV N L rm a_byVersion ∧ es_HO N L rm a_byOrigin ∧ es_SM N L rm f_summed a_upTo

theorem es_sp_lt (a b : Int32) : es_sp a b < 128 := by
  unfold es_sp
  have := (((a * 31) + b) * (-1640531535)).toBitVec.isLt
  omega
theorem es_ko_lt (o : Option (Nat × Nat × Nat)) : es_ko o < 128 := by
  unfold es_ko
  split
  · omega
  · exact es_sp_lt _ _
theorem es_ph : ∀ (n m : Nat) (f : Nat → Nat), (∀ h, h < m → f h < n) → (∀ h h', h < m → h' < m → f h = f h' → h = h') → m ≤ n := by
  intro n
  induction n with
  | zero =>
    intro m f h _
    apply Nat.le_of_not_lt
    intro z
    exact absurd (h 0 z) (Nat.not_lt_zero _)
  | succ n ih =>
    intro m f h hi
    cases m with
    | zero => omega
    | succ m =>
      have := ih m (fun x => if f x = n then f m else f x) (fun x hx => ?_) (fun x y hx hy => ?_)
      · omega
      · show (if f x = n then f m else f x) < n
        have h1 := h x (by omega)
        have h2 := h m (by omega)
        by_cases e : f x = n
        · rw [if_pos e]
          have : f m ≠ n := fun e' => by have := hi x m (by omega) (by omega) (by omega); omega
          omega
        · rw [if_neg e]; omega
      · show (if f x = n then f m else f x) = (if f y = n then f m else f y) → x = y
        intro q
        by_cases e : f x = n
        · by_cases e' : f y = n
          · exact hi x y (by omega) (by omega) (by omega)
          · rw [if_pos e, if_neg e'] at q
            have := hi m y (by omega) (by omega) q
            omega
        · by_cases e' : f y = n
          · rw [if_neg e, if_pos e'] at q
            have := hi x m (by omega) (by omega) q
            omega
          · rw [if_neg e, if_neg e'] at q
            exact hi x y (by omega) (by omega) q
theorem es_HS_z {N : Nat} {rm : Nat → Bool} {lv : Nat → Prop} {K : Nat → Nat} {hv : Nat → Int32} (h : es_HS N rm lv K hv) (hq : es_Q rm N ≤ 40) : ∃ x, x < 128 ∧ hv x = 0 := by
  apply Classical.byContradiction
  intro c
  have ha : ∀ x, x < 128 → hv x ≠ 0 := fun x hx e => c ⟨x, hx, e⟩
  have hb : ∀ x, x < 128 → ∃ j, j < 40 ∧ hv x = nI (j + 1) := fun x hx => by
    obtain ⟨i, a, b, _, d⟩ := h.1 x hx (ha x hx)
    have := es_Q_lt a b
    exact ⟨es_Q rm i, by omega, d⟩
  have := es_ph 40 128 (fun x => (hv x).toNatClampNeg - 1) (fun x hx => ?_) (fun x y hx hy e => ?_)
  · omega
  · obtain ⟨j, hj, e⟩ := hb x hx
    show (hv x).toNatClampNeg - 1 < 40
    rw [e, nI_clamp (by omega)]
    omega
  · obtain ⟨j, hj, e1⟩ := hb x hx
    obtain ⟨j', hj', e2⟩ := hb y hy
    have e3 : (hv x).toNatClampNeg - 1 = (hv y).toNatClampNeg - 1 := e
    rw [e1, e2, nI_clamp (by omega), nI_clamp (by omega)] at e3
    exact h.2.1 x y hx hy (ha x hx) (by rw [e1, e2, show j = j' by omega])
/-- from any start there is a first empty cell -/
theorem es_HS_p {N : Nat} {rm : Nat → Bool} {lv : Nat → Prop} {K : Nat → Nat} {hv : Nat → Int32} (h : es_HS N rm lv K hv) (hq : es_Q rm N ≤ 40) {s : Nat} (hs : s < 128) : ∃ d, d < 128 ∧ hv ((s + d) % 128) = 0 ∧ ∀ e, e < d → hv ((s + e) % 128) ≠ 0 := by
  obtain ⟨x, hx, e⟩ := es_HS_z h hq
  obtain ⟨d, hd, hl⟩ := pk_least (fun d => hv ((s + d) % 128) = 0) ⟨(x + 128 - s) % 128, by
    show hv ((s + (x + 128 - s) % 128) % 128) = 0
    rw [show (s + (x + 128 - s) % 128) % 128 = x by omega]
    exact e⟩
  refine ⟨d, ?_, hd, hl⟩
  apply Nat.lt_of_not_le
  intro z
  have := hl (d % 128) (by omega)
  rw [show (s + d % 128) % 128 = (s + d) % 128 by omega] at this
  exact this hd
theorem es_HS_0 {rm : Nat → Bool} {lv : Nat → Prop} {K : Nat → Nat} {hv : Nat → Int32} (h : ∀ x, x < 128 → hv x = 0) : es_HS 0 rm lv K hv :=
  ⟨fun x hx e => absurd (h x hx) e, fun x _ hx _ e => absurd (h x hx) e, fun _ h => absurd h (Nat.not_lt_zero _)⟩
theorem es_HS_skip {N : Nat} {rm : Nat → Bool} {lv : Nat → Prop} {K : Nat → Nat} {hv : Nat → Int32} (h : es_HS N rm lv K hv) (hn : rm N = true ∨ ¬ lv N) : es_HS (N + 1) rm lv K hv := by
  refine ⟨fun x hx e => ?_, h.2.1, fun i hi hr hl => ?_⟩
  · obtain ⟨i, a, b⟩ := h.1 x hx e
    exact ⟨i, by omega, b⟩
  · by_cases e : i = N
    · subst e
      rcases hn with z | z
      · rw [hr] at z; cases z
      · exact absurd hl z
    · exact h.2.2 i (by omega) hr hl
theorem es_HS_add {N : Nat} {rm : Nat → Bool} {lv : Nat → Prop} {K : Nat → Nat} {hv : Nat → Int32} (h : es_HS N rm lv K hv) (hr : rm N = false) (hl : lv N) (hq : es_Q rm N < 2000) {d : Nat} (hd : d < 128) (hz : hv ((K N + d) % 128) = 0) (hb : ∀ e, e < d → hv ((K N + e) % 128) ≠ 0) :
    es_HS (N + 1) rm lv K (upd hv ((K N + d) % 128) (nI (es_Q rm N + 1))) := by
  have hp : (K N + d) % 128 < 128 := Nat.mod_lt _ (by decide)
  have hne : nI (es_Q rm N + 1) ≠ 0 := nI_ne0 (by omega) (by omega)
  have hnz : ∀ x, hv x ≠ 0 → upd hv ((K N + d) % 128) (nI (es_Q rm N + 1)) x ≠ 0 := fun x e => by
    by_cases c : x = (K N + d) % 128
    · rw [c, pk_us]; exact hne
    · rw [pk_un c]; exact e
  refine ⟨fun x hx e => ?_, fun x y hx hy e q => ?_, fun i hi hri hli => ?_⟩
  · by_cases c : x = (K N + d) % 128
    · subst c
      exact ⟨N, Nat.lt_succ_self _, hr, hl, pk_us⟩
    · rw [pk_un c] at e
      obtain ⟨i, a, b, b', c'⟩ := h.1 x hx e
      exact ⟨i, by omega, b, b', by rw [pk_un c]; exact c'⟩
  · have key : ∀ x, x < 128 → hv x ≠ 0 → hv x ≠ nI (es_Q rm N + 1) := fun x hx e q => by
      obtain ⟨i, a, b, _, c'⟩ := h.1 x hx e
      have h1 := es_Q_lt a b
      rw [c'] at q
      have := es_inj q (by omega) (by omega)
      omega
    by_cases c : x = (K N + d) % 128
    · by_cases c' : y = (K N + d) % 128
      · rw [c, c']
      · rw [c, pk_us, pk_un c'] at q
        by_cases e' : hv y = 0
        · rw [e'] at q; exact absurd q hne
        · exact absurd q.symm (key y hy e')
    · rw [pk_un c] at e q
      by_cases c' : y = (K N + d) % 128
      · rw [c', pk_us] at q
        exact absurd q (key x hx e)
      · rw [pk_un c'] at q
        exact h.2.1 x y hx hy e q
  · by_cases c : i = N
    · subst c
      exact ⟨d, hd, pk_us, fun e he => hnz _ (hb e he)⟩
    · have hi' : i < N := by omega
      obtain ⟨d', a, b, c'⟩ := h.2.2 i hi' hri hli
      have h1 := es_Q_lt hi' hri
      refine ⟨d', a, ?_, fun e he => hnz _ (c' e he)⟩
      rw [pk_un, b]
      intro q
      rw [q, hz] at b
      exact absurd b.symm (nI_ne0 (by omega) (by omega))
theorem es_HS_cg {N : Nat} {rm rm' : Nat → Bool} {lv lv' : Nat → Prop} {K K' : Nat → Nat} {hv : Nat → Int32} (h : es_HS N rm lv K hv) (hr : ∀ i, i < N → rm i = rm' i) (hl : ∀ i, i < N → (lv i ↔ lv' i)) (hk : ∀ i, i < N → lv i → K i = K' i) : es_HS N rm' lv' K' hv := by
  have hq : ∀ i, i < N → es_Q rm i = es_Q rm' i := fun i hi => es_Q_cg (fun j hj => hr j (by omega))
  refine ⟨fun x hx e => ?_, h.2.1, fun i hi hri hli => ?_⟩
  · obtain ⟨i, a, b, c, d⟩ := h.1 x hx e
    exact ⟨i, a, by rw [← hr i a]; exact b, (hl i a).mp c, by rw [← hq i a]; exact d⟩
  · have hl' := (hl i hi).mpr hli
    rw [← hq i hi, ← hk i hi hl']
    exact h.2.2 i hi (by rw [hr i hi]; exact hri) hl'
theorem es_HV_cg {N : Nat} {L L' : Nat → es_Ev} {rm : Nat → Bool} {hv : Nat → Int32} (h : es_HV N L rm hv) (hL : ∀ i, i < N → L i = L' i) : es_HV N L' rm hv :=
  es_HS_cg h (fun _ _ => rfl) (fun i hi => by rw [hL i hi]) (fun i hi _ => by rw [hL i hi])
theorem es_HO_cg {N : Nat} {L L' : Nat → es_Ev} {rm : Nat → Bool} {hv : Nat → Int32} (h : es_HO N L rm hv) (hL : ∀ i, i < N → L i = L' i) : es_HO N L' rm hv :=
  es_HS_cg h (fun _ _ => rfl) (fun i hi => by rw [hL i hi]) (fun i hi _ => by rw [hL i hi])
end ES03
end
section
/-! Y: the log read and added to -/
section ES04
theorem es_uc {f : Nat → Int32} {N : Nat} {x : Int32} (h : N < 2 ^ 31) : upd f (nI N).toNatClampNeg x = upd f N x := by rw [nI_clamp h]
theorem es_out1 {post : Int32 → Prop} {x : Int32} {n : Nat} (h : x < 0 ∨ nI n ≤ x) (hp : post 1) : wpY_out post x (nI n) := by
  unfold wpY_out
  by_cases c : x < 0
  · exact br_t c hp
  · exact br_f c (br_f (Int32.not_lt.mpr (h.resolve_left c)) hp)
theorem es_out0 {post : Int32 → Prop} {j n : Nat} (h : j < n) (hn : n < 2 ^ 31) (hp : post 0) : wpY_out post (nI j) (nI n) := by
  unfold wpY_out
  exact br_f (nI_pos (by omega)) (br_t (nI_lt h hn) hp)
theorem es_am0 {post : Int32 → Prop} {x : Int32} {n : Nat} (h : x < 0 ∨ nI n ≤ x) (hp : post 0) : wpX_among post x (nI n) := by
  unfold wpX_among
  by_cases c : x < 0
  · exact br_t c hp
  · exact br_f c (br_t (h.resolve_left c) hp)
theorem es_am1 {post : Int32 → Prop} {j n : Nat} (h : j < n) (hn : n < 2 ^ 31) (hp : post 1) : wpX_among post (nI j) (nI n) := by
  unfold wpX_among
  exact br_f (nI_pos (by omega)) (br_f (nI_ge h hn) hp)
variable {g_count g_flushed g_calls g_drafted g_top g_time : Int32} {b_isCut b_removed b_stream b_type b_from b_by b_value b_version b_on b_call b_draftType b_draftValue b_op b_with b_length b_height b_torn b_stack b_position b_cells b_noted b_wanted b_formed b_cursor b_parked b_where b_often b_due b_many b_found : Nat → Int32} {N F C : Nat} {L : Nat → es_Ev} {rm : Nat → Bool}
theorem es_y_there4 (hN : N ≤ 2000) (h : ∀ i, i < N → b_removed i = es_b (rm i)) {post : Int32 → Prop} (hp : post (nI (es_Q rm N))) :
    ∀ d i, i + d = N → wY_there_4 post (nI N) g_flushed g_calls g_drafted g_top g_time b_isCut b_removed b_stream b_type b_from b_by b_value b_version b_on b_call b_draftType b_draftValue b_op b_with b_length b_height b_torn b_stack b_position b_cells b_noted b_wanted b_formed b_cursor b_parked b_where b_often b_due b_many b_found (d + 1) (nI (es_Q rm i)) (nI i) := by
  intro d
  induction d with
  | zero =>
    intro i hi
    have e : i = N := by omega
    subst e
    exact br_t (nI_le (Nat.le_refl _) (by omega)) hp
  | succ d ih =>
    intro i hi
    have hin : i < N := by omega
    have e : b_removed (nI i).toNatClampNeg = es_b (rm i) := by rw [nI_clamp (by omega)]; exact h i hin
    have ih' := ih (i + 1) (by omega)
    refine br_f (nI_ge hin (by omega)) ⟨vp_in_nI (by omega) (by decide), ?_⟩
    cases hr : rm i
    · rw [es_Q_f hr] at ih'
      exact br_t (by rw [e, hr]; rfl) (nm_r (nI_1 _) (nm_r (nI_1 _) ih'))
    · rw [es_Q_t hr] at ih'
      exact br_f (by rw [e, hr]; exact es_10) (nm_r (nI_1 _) ih')
theorem es_y_there (h : es_CY N F C L rm g_count g_flushed g_calls b_isCut b_removed b_stream b_type b_from b_by b_value b_version b_on b_call) (hN : N ≤ 2000) {post : Int32 → Prop} (hp : post (nI (es_Q rm N))) : wpY_there post (g_count, g_flushed, g_calls, g_drafted, g_top, g_time, b_isCut, b_removed, b_stream, b_type, b_from, b_by, b_value, b_version, b_on, b_call, b_draftType, b_draftValue, b_op, b_with, b_length, b_height, b_torn, b_stack, b_position, b_cells, b_noted, b_wanted, b_formed, b_cursor, b_parked, b_where, b_often, b_due, b_many, b_found) := by
  obtain ⟨rfl, rfl, rfl, hr⟩ := h
  have := es_y_there4 (g_flushed := nI F) (g_calls := nI C) (g_drafted := g_drafted) (g_top := g_top) (g_time := g_time) (b_isCut := b_isCut) (b_removed := b_removed) (b_stream := b_stream) (b_type := b_type) (b_from := b_from) (b_by := b_by) (b_value := b_value) (b_version := b_version) (b_on := b_on) (b_call := b_call) (b_draftType := b_draftType) (b_draftValue := b_draftValue) (b_op := b_op) (b_with := b_with) (b_length := b_length) (b_height := b_height) (b_torn := b_torn) (b_stack := b_stack) (b_position := b_position) (b_cells := b_cells) (b_noted := b_noted) (b_wanted := b_wanted) (b_formed := b_formed) (b_cursor := b_cursor) (b_parked := b_parked) (b_where := b_where) (b_often := b_often) (b_due := b_due) (b_many := b_many) (b_found := b_found) hN (fun i hi => (hr i hi).2.1) hp N 0 (by omega)
  rw [es_Q_0, nI_0] at this
  exact ⟨N + 1, this⟩
theorem es_y_events5 {s n : Nat} (hs : s < 5) (hn : n ≤ 2000) (h : ∀ i, i < n → es_s (L i) < 5 ∧ b_isCut i = es_b (es_c (L i)) ∧ b_stream i = nI (es_s (L i))) {post : Int32 → Prop} (hp : post (nI (es_E L s n))) :
    ∀ d i, i + d = n → wY_events_5 post (nI s) (nI n) g_count g_flushed g_calls g_drafted g_top g_time b_isCut b_removed b_stream b_type b_from b_by b_value b_version b_on b_call b_draftType b_draftValue b_op b_with b_length b_height b_torn b_stack b_position b_cells b_noted b_wanted b_formed b_cursor b_parked b_where b_often b_due b_many b_found (d + 1) (nI (es_E L s i)) (nI i) := by
  intro d
  induction d with
  | zero =>
    intro i hi
    have e : i = n := by omega
    subst e
    exact br_t (nI_le (Nat.le_refl _) (by omega)) hp
  | succ d ih =>
    intro i hi
    have hin : i < n := by omega
    obtain ⟨h1, h2, h3⟩ := h i hin
    have ec : (nI i).toNatClampNeg = i := nI_clamp (by omega)
    have ih' := ih (i + 1) (by omega)
    refine br_f (nI_ge hin (by omega)) ⟨vp_in_nI (by omega) (by decide), ?_⟩
    cases hc : es_c (L i)
    · refine br_t (by rw [ec, h2, hc]; rfl) ⟨vp_in_nI (by omega) (by decide), ?_⟩
      by_cases q : es_s (L i) = s
      · rw [es_E_t hc q] at ih'
        exact br_t (by rw [ec, h3, q]) (nm_r (nI_1 _) (nm_r (nI_1 _) ih'))
      · rw [es_E_f (Or.inr q)] at ih'
        exact br_f (by rw [ec, h3]; exact fun z => q (es_inj z (by omega) (by omega))) (nm_r (nI_1 _) ih')
    · rw [es_E_f (Or.inl hc)] at ih'
      exact br_f (by rw [ec, h2, hc]; exact es_10) (nm_r (nI_1 _) ih')
theorem es_y_events' {s n : Nat} (hs : s < 5) (hn : n ≤ 2000) (h : ∀ i, i < n → es_s (L i) < 5 ∧ b_isCut i = es_b (es_c (L i)) ∧ b_stream i = nI (es_s (L i))) {post : Int32 → Prop} (hp : post (nI (es_E L s n))) : wpY_events post (g_count, g_flushed, g_calls, g_drafted, g_top, g_time, b_isCut, b_removed, b_stream, b_type, b_from, b_by, b_value, b_version, b_on, b_call, b_draftType, b_draftValue, b_op, b_with, b_length, b_height, b_torn, b_stack, b_position, b_cells, b_noted, b_wanted, b_formed, b_cursor, b_parked, b_where, b_often, b_due, b_many, b_found) (nI s) (nI n) := by
  have := es_y_events5 (g_count := g_count) (g_flushed := g_flushed) (g_calls := g_calls) (g_drafted := g_drafted) (g_top := g_top) (g_time := g_time) (b_isCut := b_isCut) (b_removed := b_removed) (b_stream := b_stream) (b_type := b_type) (b_from := b_from) (b_by := b_by) (b_value := b_value) (b_version := b_version) (b_on := b_on) (b_call := b_call) (b_draftType := b_draftType) (b_draftValue := b_draftValue) (b_op := b_op) (b_with := b_with) (b_length := b_length) (b_height := b_height) (b_torn := b_torn) (b_stack := b_stack) (b_position := b_position) (b_cells := b_cells) (b_noted := b_noted) (b_wanted := b_wanted) (b_formed := b_formed) (b_cursor := b_cursor) (b_parked := b_parked) (b_where := b_where) (b_often := b_often) (b_due := b_due) (b_many := b_many) (b_found := b_found) hs hn h hp n 0 (by omega)
  rw [es_E_0, nI_0] at this
  exact ⟨n + 1, this⟩
theorem es_y_events (h : es_CY N F C L rm g_count g_flushed g_calls b_isCut b_removed b_stream b_type b_from b_by b_value b_version b_on b_call) (W : es_WL N F C L rm) {s n : Nat} (hs : s < 5) (hn : n ≤ N) {post : Int32 → Prop} (hp : post (nI (es_E L s n))) : wpY_events post (g_count, g_flushed, g_calls, g_drafted, g_top, g_time, b_isCut, b_removed, b_stream, b_type, b_from, b_by, b_value, b_version, b_on, b_call, b_draftType, b_draftValue, b_op, b_with, b_length, b_height, b_torn, b_stack, b_position, b_cells, b_noted, b_wanted, b_formed, b_cursor, b_parked, b_where, b_often, b_due, b_many, b_found) (nI s) (nI n) :=
  es_y_events' hs (Nat.le_trans hn W.1) (fun i hi => ⟨(W.2.2.2.2 i (by omega)).1, (h.2.2.2 i (by omega)).1, (h.2.2.2 i (by omega)).2.2.1⟩) hp
theorem es_wn {W : es_WL N F C L rm} {i : Nat} (hi : i < N) : es_n (L i) < 2000 := by
  have h1 := (W.2.2.2.2 i hi).2.2.1
  have h2 := es_E_le L (es_s (L i)) i
  have h3 := W.1
  omega
theorem es_ww (W : es_WL N F C L rm) {i : Nat} (hi : i < N) (hc : es_c (L i) = true) : es_w (L i) ≤ 2000 ∧ es_v (L i) = nI (es_w (L i)) := by
  obtain ⟨w, hw, e⟩ := (W.2.2.2.2 i hi).2.2.2.1 hc
  have : es_w (L i) = w := by unfold es_w; rw [e]; exact nI_clamp (by omega)
  rw [this]
  exact ⟨hw, e⟩
theorem es_y_hidden2 (W : es_WL N F C L rm) (h : ∀ i, i < N → es_YR (L i) (rm i) (b_isCut i) (b_removed i) (b_stream i) (b_type i) (b_from i) (b_by i) (b_value i) (b_version i) (b_on i) (b_call i)) {i n : Nat} (hi : i < N) (hn : n ≤ N) {post : Int32 → Prop} (h1 : es_n (L i) < es_M L (es_s (L i)) n → post 1) (h0 : es_M L (es_s (L i)) n ≤ es_n (L i) → post 0) :
    ∀ d k, k + d = n → es_M L (es_s (L i)) k ≤ es_n (L i) → wY_hidden_2 post (nI i) (nI n) g_count g_flushed g_calls g_drafted g_top g_time b_isCut b_removed b_stream b_type b_from b_by b_value b_version b_on b_call b_draftType b_draftValue b_op b_with b_length b_height b_torn b_stack b_position b_cells b_noted b_wanted b_formed b_cursor b_parked b_where b_often b_due b_many b_found (d + 1) (nI k) := by
  have hN := W.1
  intro d
  induction d with
  | zero =>
    intro k hk hm
    have e : k = n := by omega
    subst e
    exact br_t (nI_le (Nat.le_refl _) (by omega)) (h0 hm)
  | succ d ih =>
    intro k hk hm
    have hkn : k < n := by omega
    have ih' := ih (k + 1) (by omega)
    have ec : (nI k).toNatClampNeg = k := nI_clamp (by omega)
    have ei : (nI i).toNatClampNeg = i := nI_clamp (by omega)
    have hvk : vp_in (nI k) 2000 := vp_in_nI (by omega) (by decide)
    have hvi : vp_in (nI i) 2000 := vp_in_nI (by omega) (by decide)
    have rk := h k (by omega)
    have ri := h i hi
    have sk := (W.2.2.2.2 k (by omega)).1
    have si := (W.2.2.2.2 i hi).1
    refine br_f (nI_ge hkn (by omega)) ⟨hvk, ?_⟩
    cases hc : es_c (L k)
    · rw [es_M_f (Or.inl hc)] at ih'
      exact br_t (by rw [ec, rk.1, hc]; rfl) (nm_r (nI_1 _) (ih' hm))
    · refine br_f (by rw [ec, rk.1, hc]; exact es_10) ⟨hvk, hvi, ?_⟩
      by_cases q : es_s (L k) = es_s (L i)
      · refine br_t (by rw [ec, ei, rk.2.2.1, ri.2.2.1, q]) ⟨hvi, hvk, ?_⟩
        obtain ⟨w1, w2⟩ := es_ww W (show k < N by omega) hc
        have nv := es_wn (W := W) hi
        have e1 : b_value (nI k).toNatClampNeg = nI (es_w (L k)) := by rw [ec, rk.2.2.2.2.1, w2]
        have e2 : b_version (nI i).toNatClampNeg = nI (es_n (L i)) := by rw [ei, ri.2.2.2.2.2.1]
        rw [es_M_t hc q] at ih'
        refine pk_le (es_w (L k)) (es_n (L i)) (fun z => nm_r (nI_1 _) (ih' ?_)) (fun z => h1 ?_) e1 e2
        · by_cases y : es_M L (es_s (L i)) k < es_w (L k)
          · rw [if_pos y]; exact z
          · rw [if_neg y]; exact hm
        · exact Nat.lt_of_lt_of_le ((es_M_lt).mpr ⟨k, Nat.lt_succ_self k, hc, q, z⟩) (es_M_mono (by omega))
      · rw [es_M_f (Or.inr q)] at ih'
        exact br_f (by rw [ec, ei, rk.2.2.1, ri.2.2.1]; exact fun z => q (es_inj z (by omega) (by omega))) (nm_r (nI_1 _) (ih' hm))
theorem es_y_hidden (h : es_CY N F C L rm g_count g_flushed g_calls b_isCut b_removed b_stream b_type b_from b_by b_value b_version b_on b_call) (W : es_WL N F C L rm) {i n : Nat} (hi : i < N) (hn : n ≤ N) {post : Int32 → Prop} (h1 : es_n (L i) < es_M L (es_s (L i)) n → post 1) (h0 : es_M L (es_s (L i)) n ≤ es_n (L i) → post 0) : wpY_hidden post (g_count, g_flushed, g_calls, g_drafted, g_top, g_time, b_isCut, b_removed, b_stream, b_type, b_from, b_by, b_value, b_version, b_on, b_call, b_draftType, b_draftValue, b_op, b_with, b_length, b_height, b_torn, b_stack, b_position, b_cells, b_noted, b_wanted, b_formed, b_cursor, b_parked, b_where, b_often, b_due, b_many, b_found) (nI i) (nI n) := by
  have := es_y_hidden2 (g_count := g_count) (g_flushed := g_flushed) (g_calls := g_calls) (g_drafted := g_drafted) (g_top := g_top) (g_time := g_time) (b_isCut := b_isCut) (b_removed := b_removed) (b_stream := b_stream) (b_type := b_type) (b_from := b_from) (b_by := b_by) (b_value := b_value) (b_version := b_version) (b_on := b_on) (b_call := b_call) (b_draftType := b_draftType) (b_draftValue := b_draftValue) (b_op := b_op) (b_with := b_with) (b_length := b_length) (b_height := b_height) (b_torn := b_torn) (b_stack := b_stack) (b_position := b_position) (b_cells := b_cells) (b_noted := b_noted) (b_wanted := b_wanted) (b_formed := b_formed) (b_cursor := b_cursor) (b_parked := b_parked) (b_where := b_where) (b_often := b_often) (b_due := b_due) (b_many := b_many) (b_found := b_found) W h.2.2.2 hi hn h1 h0 n 0 (by omega) (Nat.zero_le _)
  rw [nI_0] at this
  exact ⟨n + 1, this⟩
theorem es_y_shown (h : es_CY N F C L rm g_count g_flushed g_calls b_isCut b_removed b_stream b_type b_from b_by b_value b_version b_on b_call) (W : es_WL N F C L rm) {i : Nat} (hi : i < N) {post : Int32 → Prop} (hp : post (es_b (es_op L N i))) : wpY_shown post (g_count, g_flushed, g_calls, g_drafted, g_top, g_time, b_isCut, b_removed, b_stream, b_type, b_from, b_by, b_value, b_version, b_on, b_call, b_draftType, b_draftValue, b_op, b_with, b_length, b_height, b_torn, b_stack, b_position, b_cells, b_noted, b_wanted, b_formed, b_cursor, b_parked, b_where, b_often, b_due, b_many, b_found) (nI i) := by
  have hN := W.1
  have h' := h
  obtain ⟨rfl, rfl, rfl, hr⟩ := h
  have ei : (nI i).toNatClampNeg = i := nI_clamp (by omega)
  unfold wpY_shown
  refine ⟨vp_in_nI (by omega) (by decide), ?_⟩
  cases hc : es_c (L i)
  · refine br_t (by rw [ei, (hr i hi).1, hc]; rfl) (es_y_hidden h' W hi (Nat.le_refl N) (fun z => br_f es_10 ?_) (fun z => br_t rfl ?_))
    · rw [show es_op L N i = false by unfold es_op; rw [hc]; simp; exact z] at hp
      exact hp
    · rw [show es_op L N i = true by unfold es_op; rw [hc]; simp; exact z] at hp
      exact hp
  · rw [show es_op L N i = false by unfold es_op; rw [hc]; rfl] at hp
    exact br_f (by rw [ei, (hr i hi).1, hc]; exact es_10) hp
theorem es_rmN (W : es_WL N F C L rm) {i : Nat} (h : F ≤ i) : rm i = false := by
  cases e : rm i
  · rfl
  · have := (W.2.2.2.1 i e).1; omega
theorem es_y_add (h : es_CY N F C L rm g_count g_flushed g_calls b_isCut b_removed b_stream b_type b_from b_by b_value b_version b_on b_call) (W : es_WL N F C L rm) (hN : N < 2000) {c : Bool} {s t : Nat} {v : Int32} (hs : s < 5) (ht : t < 128) {post : Int32 → SY → Prop}
    (hp : ∀ (b_isCut' b_removed' b_stream' b_type' b_from' b_value' b_version' b_on' b_call' : Nat → Int32), es_CY (N + 1) F C (es_up L N (c, s, t, v, es_E L s N, none, C)) rm (nI (N + 1)) g_flushed g_calls b_isCut' b_removed' b_stream' b_type' b_from' b_by b_value' b_version' b_on' b_call' → post (nI N) (nI (N + 1), g_flushed, g_calls, g_drafted, g_top, g_time, b_isCut', b_removed', b_stream', b_type', b_from', b_by, b_value', b_version', b_on', b_call', b_draftType, b_draftValue, b_op, b_with, b_length, b_height, b_torn, b_stack, b_position, b_cells, b_noted, b_wanted, b_formed, b_cursor, b_parked, b_where, b_often, b_due, b_many, b_found)) :
    wpY_add post (g_count, g_flushed, g_calls, g_drafted, g_top, g_time, b_isCut, b_removed, b_stream, b_type, b_from, b_by, b_value, b_version, b_on, b_call, b_draftType, b_draftValue, b_op, b_with, b_length, b_height, b_torn, b_stack, b_position, b_cells, b_noted, b_wanted, b_formed, b_cursor, b_parked, b_where, b_often, b_due, b_many, b_found) (es_b c) (nI s) (nI t) v := by
  obtain ⟨rfl, rfl, rfl, hr⟩ := h
  have hv : vp_in (nI N) 2000 := vp_in_nI hN (by decide)
  have hb : N < 2 ^ 31 := by omega
  have hrn := es_rmN W W.2.1
  unfold wpY_add
  refine ⟨hv, nm_e ⟨hv, nm_e ⟨hv, nm_e ⟨hv, nm_e ⟨hv, nm_e (es_y_events' (L := L) hs (by omega) (fun i hi => ?_) ⟨hv, nm_e ⟨hv, nm_e ⟨hv, nm_e ⟨hv, nm_e (nm_r (nI_1 N) (hp _ _ _ _ _ _ _ _ _ ⟨rfl, rfl, rfl, fun i hi => ?_⟩))⟩⟩⟩⟩)⟩⟩⟩⟩⟩
  · rw [es_uc hb, es_uc hb, pk_un (by omega), pk_un (by omega)]
    exact ⟨(W.2.2.2.2 i hi).1, (hr i hi).1, (hr i hi).2.2.1⟩
  · simp only [nI_clamp hb]
    by_cases e : i = N
    · subst e
      simp only [pk_us, es_up_s]
      exact ⟨es_b_n c, by rw [es_z0, hrn]; rfl, es_b8 (by omega), es_b8 ht, rfl, rfl, rfl, es_nbm, rfl⟩
    · simp only [pk_un e, es_up_n e]
      exact hr i (by omega)
end ES04
end
section
/-! X: the table, found by halving; hashing -/
section ES05
theorem es_Q_ex {rm : Nat → Bool} {j : Nat} : ∀ n, j < es_Q rm n → ∃ i, i < n ∧ rm i = false ∧ es_Q rm i = j
  | 0, h => absurd h (Nat.not_lt_zero _)
  | n + 1, h => by
    cases hr : rm n
    · rw [es_Q_f hr] at h
      by_cases e : j = es_Q rm n
      · exact ⟨n, Nat.lt_succ_self _, hr, e.symm⟩
      · obtain ⟨i, a, b⟩ := es_Q_ex n (by omega : j < es_Q rm n)
        exact ⟨i, by omega, b⟩
    · rw [es_Q_t hr] at h
      obtain ⟨i, a, b⟩ := es_Q_ex n h
      exact ⟨i, by omega, b⟩
def es_cl (x : Int32) (N : Nat) : Nat := if x.toNatClampNeg < N then x.toNatClampNeg else N
theorem es_cl_le (x : Int32) (N : Nat) : es_cl x N ≤ N := by
  unfold es_cl
  by_cases h : x.toNatClampNeg < N
  · rw [if_pos h]; omega
  · rw [if_neg h]; omega
theorem es_cl_nI {j N : Nat} (h : j ≤ N) (hN : N < 2 ^ 31) : es_cl (nI j) N = j := by
  unfold es_cl
  rw [nI_clamp (by omega)]
  by_cases e : j < N
  · rw [if_pos e]
  · rw [if_neg e]; omega
theorem es_cl_neg {x : Int32} {N : Nat} (h : x < 0) : es_cl x N = 0 := by
  have : x.toNatClampNeg = 0 := by
    have h1 : x.toInt < 0 := by rw [Int32.lt_iff_toInt_lt] at h; exact h
    show x.toInt.toNat = 0
    omega
  unfold es_cl
  rw [this]
  by_cases e : 0 < N
  · rw [if_pos e]
  · rw [if_neg e]; omega
theorem es_cl_big {x : Int32} {N : Nat} (hN : N < 2 ^ 31) (h : nI N ≤ x) : es_cl x N = N := by
  obtain ⟨j, hj, rfl⟩ := nI_of (x := x) (by
    intro z
    exact absurd (Int32.lt_of_le_of_lt h z) (nI_pos hN))
  rw [nI_leI hN hj] at h
  unfold es_cl
  rw [nI_clamp hj, if_neg (by omega)]
theorem es_cl_iff {x : Int32} {N i : Nat} (hN : N < 2 ^ 31) (hi : i < N) : x ≤ nI i ↔ es_cl x N ≤ i := by
  rcases pk_ix x (n := N) hN with h | h | ⟨j, hj, rfl⟩
  · rw [es_cl_neg h]
    exact ⟨fun _ => Nat.zero_le _, fun _ => Int32.le_of_lt (Int32.lt_of_lt_of_le h (nI_pos' (by omega)))⟩
  · rw [es_cl_big hN h]
    constructor
    · intro z
      have := Int32.le_trans h z
      rw [nI_leI hN (by omega)] at this
      omega
    · intro z; omega
  · rw [es_cl_nI (by omega) hN]
    exact nI_leI (by omega) (by omega)
theorem es_h1 {h : Nat} (hh : h < 128) : (nI h + 1) &&& 127 = nI ((h + 1) % 128) := by
  rw [nI_1]
  exact pk_andN (by omega) 7 (by decide)
theorem es_spE (a b : Int32) : ((((a * 31) + b) * (-1640531535)).toUInt32 >>> ((25 : Int32).toUInt32 &&& Int32.toUInt32 31)).toInt32 = nI (es_sp a b) := by
  have := es_sp_lt a b
  apply Int32.toBitVec_inj.mp
  apply BitVec.eq_of_toNat_eq
  rw [pk_ushr _ 25 25 (by decide), pk_tn (by omega)]
  rfl
theorem es_x_spot {a b : Int32} {post : Int32 → Prop} (hp : post (nI (es_sp a b))) : wpX_spot post a b := by
  unfold wpX_spot
  try dsimp only
  rw [es_spE]
  exact hp
/-- a walk along the cells up to the first empty one -/
theorem es_free {hv : Nat → Int32} {s d : Nat} (hs : s < 128) (hb : ∀ e, e < d → hv ((s + e) % 128) ≠ 0) (W : Nat → Nat → Prop) (h0 : ∀ n, W (n + 1) ((s + d) % 128)) (h1 : ∀ n h, h < 128 → hv h ≠ 0 → W n ((h + 1) % 128) → W (n + 1) h) : ∃ n, W n s := by
  have key : ∀ k e, e + k = d → W (k + 1) ((s + e) % 128) := by
    intro k
    induction k with
    | zero => intro e he; rw [show e = d by omega]; exact h0 0
    | succ k ih =>
      intro e he
      have := ih (e + 1) (by omega)
      rw [show (s + (e + 1)) % 128 = ((s + e) % 128 + 1) % 128 by omega] at this
      exact h1 _ _ (Nat.mod_lt _ (by decide)) (hb e (by omega)) this
  have := key d 0 (by omega)
  rw [show (s + 0) % 128 = s by omega] at this
  exact ⟨_, this⟩
/-- a search: mt says which position is wanted -/
theorem es_scan {N : Nat} {rm : Nat → Bool} {lv : Nat → Prop} {K : Nat → Nat} {hv : Nat → Int32} (h : es_HS N rm lv K hv) (hq : es_Q rm N ≤ 40) {s : Nat} (hs : s < 128) (mt : Nat → Prop) (hm : ∀ i, i < N → rm i = false → mt i → lv i ∧ K i = s) (W : Nat → Nat → Prop)
    (h0 : ∀ n x, x < 128 → hv x = 0 → (∀ i, i < N → rm i = false → ¬ mt i) → W (n + 1) x)
    (h1 : ∀ n x i, x < 128 → i < N → rm i = false → lv i → hv x = nI (es_Q rm i + 1) → mt i → W (n + 1) x)
    (h2 : ∀ n x i, x < 128 → i < N → rm i = false → lv i → hv x = nI (es_Q rm i + 1) → ¬ mt i → W n ((x + 1) % 128) → W (n + 1) x) : ∃ n, W n s := by
  obtain ⟨d, hd, hz, hb⟩ := es_HS_p h hq hs
  have key : ∀ k e, e + k = d → (∀ e', e' < e → ∀ i, i < N → rm i = false → hv ((s + e') % 128) = nI (es_Q rm i + 1) → ¬ mt i) → W (k + 1) ((s + e) % 128) := by
    intro k
    induction k with
    | zero =>
      intro e he hn
      have e' : e = d := by omega
      subst e'
      refine h0 0 _ (Nat.mod_lt _ (by decide)) hz (fun i hi hr hmi => ?_)
      obtain ⟨hl, hk⟩ := hm i hi hr hmi
      obtain ⟨d1, a, b, c⟩ := h.2.2 i hi hr hl
      have hqi := es_Q_lt hi hr
      rw [hk] at b c
      rcases Nat.lt_trichotomy d1 e with z | z | z
      · exact hn d1 z i hi hr b hmi
      · rw [z, hz] at b
        exact absurd b.symm (nI_ne0 (by omega) (by omega))
      · exact c e z hz
    | succ k ih =>
      intro e he hn
      have hx : (s + e) % 128 < 128 := Nat.mod_lt _ (by decide)
      obtain ⟨i, a, b, b', c⟩ := h.1 _ hx (hb e (by omega))
      by_cases q : mt i
      · exact h1 _ _ i hx a b b' c q
      · refine h2 _ _ i hx a b b' c q ?_
        have := ih (e + 1) (by omega) (fun e' he' j hj hrj hvj => ?_)
        · rw [show (s + (e + 1)) % 128 = ((s + e) % 128 + 1) % 128 by omega] at this
          exact this
        · by_cases z : e' = e
          · subst z
            have h3 := es_Q_lt a b
            have h4 := es_Q_lt hj hrj
            rw [c] at hvj
            have := es_inj hvj (by omega) (by omega)
            have := es_Q_inj b hrj (by omega)
            rw [← this]
            exact q
          · exact hn e' (by omega) j hj hrj hvj
  have := key d 0 (by omega) (fun _ h => absurd h (Nat.not_lt_zero _))
  rw [show (s + 0) % 128 = s by omega] at this
  exact ⟨_, this⟩
variable {f_held f_records f_flushed f_summed f_draft f_drafted f_seen f_time f_taken : Int32} {a_at a_version a_value a_originAt a_stream a_type a_originBy a_originCode a_goesOn a_events a_cuts a_firm a_cutsGone a_byVersion a_byOrigin a_draftType a_draftValue a_dOp a_dC a_height a_clash a_pOp a_pSize a_pC a_position a_cell a_noted a_stack a_before a_shown a_gType a_gTaken a_gWaiting a_kCount a_gCursor a_gParked a_kCursor a_tAt a_tDue a_wAt a_kAt a_tTimes a_wTimes a_kTimes : Nat → Int32} {a_upTo : Nat → Int64} {N F C : Nat} {L : Nat → es_Ev} {rm : Nat → Bool} {pd : Prop}
theorem es_x_find7 (hN : N ≤ 2000) (hq : es_Q rm N ≤ 40) (T : ∀ i, i < N → rm i = false → a_at (es_Q rm i) = nI i) {x : Int32} {post : Int32 → Prop} (hp : post (nI (es_Q rm (es_cl x N)))) :
    ∀ d a b, b - a < d → a ≤ es_Q rm (es_cl x N) → es_Q rm (es_cl x N) ≤ b → b ≤ es_Q rm N → wX_find_7 post x f_held f_records f_flushed f_summed f_draft f_drafted f_seen f_time f_taken a_at a_version a_value a_originAt a_stream a_type a_originBy a_originCode a_goesOn a_events a_cuts a_firm a_cutsGone a_byVersion a_byOrigin a_upTo a_draftType a_draftValue a_dOp a_dC a_height a_clash a_pOp a_pSize a_pC a_position a_cell a_noted a_stack a_before a_shown a_gType a_gTaken a_gWaiting a_kCount a_gCursor a_gParked a_kCursor a_tAt a_tDue a_wAt a_kAt a_tTimes a_wTimes a_kTimes d (nI a) (nI b) := by
  intro d
  induction d with
  | zero => intro a b h; omega
  | succ d ih =>
    intro a b hd ha hb hbN
    by_cases c : b ≤ a
    · rw [show es_Q rm (es_cl x N) = a by omega] at hp
      exact br_t (nI_le c (by omega)) hp
    · have em : (nI a + nI b) / 2 = nI ((a + b) / 2) := by rw [nI_add]; exact pk_div (d := 2) (by omega) (by decide) (by decide)
      obtain ⟨i, hi, hr, hQ⟩ := es_Q_ex (rm := rm) (j := (a + b) / 2) N (by omega)
      have ea : a_at (nI ((a + b) / 2)).toNatClampNeg = nI i := by rw [nI_clamp (by omega), ← hQ]; exact T i hi hr
      refine br_f (nI_ge (by omega) (by omega)) ⟨by decide, nm_r em ⟨vp_in_nI (by omega) (by decide), ?_⟩⟩
      rw [ea]
      by_cases z : es_cl x N ≤ i
      · have := es_Q_mono rm z
        exact br_t ((es_cl_iff (by omega) hi).mpr z) (ih _ _ (by omega) ha (by omega) (by omega))
      · have := es_Q_lt (show i < es_cl x N by omega) hr
        exact br_f (fun y => z ((es_cl_iff (by omega) hi).mp y)) (nm_r (nI_1 _) (ih _ _ (by omega) (by omega) hb hbN))
theorem es_x_find (h : es_CX N F L rm pd f_held f_records f_flushed f_summed a_at a_version a_value a_originAt a_stream a_type a_originBy a_originCode a_goesOn a_events a_cuts a_firm a_cutsGone a_byVersion a_byOrigin a_upTo) (W : es_WL N F C L rm) {x : Int32} {post : Int32 → Prop} (hp : post (nI (es_Q rm (es_cl x N)))) : wpX_find post (f_held, f_records, f_flushed, f_summed, f_draft, f_drafted, f_seen, f_time, f_taken, a_at, a_version, a_value, a_originAt, a_stream, a_type, a_originBy, a_originCode, a_goesOn, a_events, a_cuts, a_firm, a_cutsGone, a_byVersion, a_byOrigin, a_upTo, a_draftType, a_draftValue, a_dOp, a_dC, a_height, a_clash, a_pOp, a_pSize, a_pC, a_position, a_cell, a_noted, a_stack, a_before, a_shown, a_gType, a_gTaken, a_gWaiting, a_kCount, a_gCursor, a_gParked, a_kCursor, a_tAt, a_tDue, a_wAt, a_kAt, a_tTimes, a_wTimes, a_kTimes) x := by
  obtain ⟨rfl, rfl, rfl, T, -⟩ := h
  have h1 := es_Q_mono rm (es_cl_le x N)
  have := es_x_find7 (f_held := nI (es_Q rm N)) (f_records := nI N) (f_flushed := nI F) (f_summed := f_summed) (f_draft := f_draft) (f_drafted := f_drafted) (f_seen := f_seen) (f_time := f_time) (f_taken := f_taken) (a_at := a_at) (a_version := a_version) (a_value := a_value) (a_originAt := a_originAt) (a_stream := a_stream) (a_type := a_type) (a_originBy := a_originBy) (a_originCode := a_originCode) (a_goesOn := a_goesOn) (a_events := a_events) (a_cuts := a_cuts) (a_firm := a_firm) (a_cutsGone := a_cutsGone) (a_byVersion := a_byVersion) (a_byOrigin := a_byOrigin) (a_upTo := a_upTo) (a_draftType := a_draftType) (a_draftValue := a_draftValue) (a_dOp := a_dOp) (a_dC := a_dC) (a_height := a_height) (a_clash := a_clash) (a_pOp := a_pOp) (a_pSize := a_pSize) (a_pC := a_pC) (a_position := a_position) (a_cell := a_cell) (a_noted := a_noted) (a_stack := a_stack) (a_before := a_before) (a_shown := a_shown) (a_gType := a_gType) (a_gTaken := a_gTaken) (a_gWaiting := a_gWaiting) (a_kCount := a_kCount) (a_gCursor := a_gCursor) (a_gParked := a_gParked) (a_kCursor := a_kCursor) (a_tAt := a_tAt) (a_tDue := a_tDue) (a_wAt := a_wAt) (a_kAt := a_kAt) (a_tTimes := a_tTimes) (a_wTimes := a_wTimes) (a_kTimes := a_kTimes) W.1 W.2.2.1 (fun i hi hr => (T i hi hr).1) hp (es_Q rm N + 1) 0 (es_Q rm N) (by omega) (Nat.zero_le _) h1 (Nat.le_refl _)
  rw [nI_0] at this
  exact ⟨_, this⟩
theorem es_x_open (h : es_CX N F L rm pd f_held f_records f_flushed f_summed a_at a_version a_value a_originAt a_stream a_type a_originBy a_originCode a_goesOn a_events a_cuts a_firm a_cutsGone a_byVersion a_byOrigin a_upTo) (W : es_WL N F C L rm) {i : Nat} (hi : i < N) (hr : rm i = false) {post : Int32 → Prop} (hp : post (es_b (es_op L N i))) : wpX_open post (f_held, f_records, f_flushed, f_summed, f_draft, f_drafted, f_seen, f_time, f_taken, a_at, a_version, a_value, a_originAt, a_stream, a_type, a_originBy, a_originCode, a_goesOn, a_events, a_cuts, a_firm, a_cutsGone, a_byVersion, a_byOrigin, a_upTo, a_draftType, a_draftValue, a_dOp, a_dC, a_height, a_clash, a_pOp, a_pSize, a_pC, a_position, a_cell, a_noted, a_stack, a_before, a_shown, a_gType, a_gTaken, a_gWaiting, a_kCount, a_gCursor, a_gParked, a_kCursor, a_tAt, a_tDue, a_wAt, a_kAt, a_tTimes, a_wTimes, a_kTimes) (nI (es_Q rm i)) := by
  obtain ⟨rfl, rfl, rfl, T, A, -⟩ := h
  have hq := es_Q_lt hi hr
  have hq' := W.2.2.1
  have hN := W.1
  obtain ⟨r1, r2, r3, r4⟩ := T i hi hr
  have hv : vp_in (nI (es_Q rm i)) 40 := vp_in_nI (by omega) (by decide)
  have ec : (nI (es_Q rm i)).toNatClampNeg = es_Q rm i := nI_clamp (by omega)
  have sl := (W.2.2.2.2 i hi).1
  have tl := (W.2.2.2.2 i hi).2.1
  have nl := es_wn (W := W) hi
  unfold wpX_open
  refine ⟨hv, ?_⟩
  rw [ec]
  cases hc : es_c (L i)
  · obtain ⟨q1, q2, -⟩ := r4 hc
    rw [q1, q2, r2, nI_clamp (by omega), (A _ sl).2.1]
    refine br_f (nI_pos (by omega)) ⟨hv, hv, vp_in_nI sl (by decide), ?_⟩
    have hm : es_M L (es_s (L i)) N ≤ 2000 := es_mx_le (fun j hj hp => by
      simp at hp
      exact (es_ww W hj hp.1).1)
    refine pk_lt (es_n (L i)) (es_M L (es_s (L i)) N) (fun z => ?_) (fun z => ?_)
    · rw [show es_op L N i = false by unfold es_op; rw [hc]; simp; exact z] at hp
      exact hp
    · rw [show es_op L N i = true by unfold es_op; rw [hc]; simp; exact z] at hp
      exact hp
  · rw [(r3 hc).1]
    rw [show es_op L N i = false by unfold es_op; rw [hc]; rfl] at hp
    exact br_t es_neg1 hp
theorem es_x_put {H M : Nat} (hH : H < 40) {p0 p1 p2 p3 : Int32} {post : SX → Prop} (hp : post (nI (H + 1), nI (M + 1), f_flushed, 0, f_draft, f_drafted, f_seen, f_time, f_taken, upd a_at H (nI M), upd a_version H p1, upd a_value H p3, upd a_originAt H (-1), upd a_stream H (vp_nar .byte p0.toInt8.toInt32), upd a_type H (vp_nar .byte p2.toInt8.toInt32), upd a_originBy H (-1), upd a_originCode H 0, upd a_goesOn H 0, a_events, a_cuts, a_firm, a_cutsGone, a_byVersion, a_byOrigin, a_upTo, a_draftType, a_draftValue, a_dOp, a_dC, a_height, a_clash, a_pOp, a_pSize, a_pC, a_position, a_cell, a_noted, a_stack, a_before, a_shown, a_gType, a_gTaken, a_gWaiting, a_kCount, a_gCursor, a_gParked, a_kCursor, a_tAt, a_tDue, a_wAt, a_kAt, a_tTimes, a_wTimes, a_kTimes)) : wpX_put post (nI H, nI M, f_flushed, f_summed, f_draft, f_drafted, f_seen, f_time, f_taken, a_at, a_version, a_value, a_originAt, a_stream, a_type, a_originBy, a_originCode, a_goesOn, a_events, a_cuts, a_firm, a_cutsGone, a_byVersion, a_byOrigin, a_upTo, a_draftType, a_draftValue, a_dOp, a_dC, a_height, a_clash, a_pOp, a_pSize, a_pC, a_position, a_cell, a_noted, a_stack, a_before, a_shown, a_gType, a_gTaken, a_gWaiting, a_kCount, a_gCursor, a_gParked, a_kCursor, a_tAt, a_tDue, a_wAt, a_kAt, a_tTimes, a_wTimes, a_kTimes) p0 p1 p2 p3 := by
  have hv : vp_in (nI H) 40 := vp_in_nI hH (by decide)
  have ec : (nI H).toNatClampNeg = H := nI_clamp (by omega)
  unfold wpX_put
  try dsimp only
  rw [ec, es_nbm, es_nb0, es_z0]
  exact nm_r (nI_1 M) ⟨hv, nm_e ⟨hv, nm_e ⟨hv, nm_e ⟨hv, nm_e ⟨hv, nm_e ⟨hv, nm_e ⟨hv, nm_e ⟨hv, nm_e ⟨hv, nm_e (nm_r (nI_1 H) hp)⟩⟩⟩⟩⟩⟩⟩⟩⟩
theorem es_x_index91 {s d j : Nat} (hs : s < 128) (hj : j < 40) (hz : a_byOrigin ((s + d) % 128) = 0) (hb : ∀ e, e < d → a_byOrigin ((s + e) % 128) ≠ 0) {post : SX → Prop} (hp : post (f_held, f_records, f_flushed, f_summed, f_draft, f_drafted, f_seen, f_time, f_taken, a_at, a_version, a_value, a_originAt, a_stream, a_type, a_originBy, a_originCode, a_goesOn, a_events, a_cuts, a_firm, a_cutsGone, a_byVersion, upd a_byOrigin ((s + d) % 128) (nI (j + 1)), a_upTo, a_draftType, a_draftValue, a_dOp, a_dC, a_height, a_clash, a_pOp, a_pSize, a_pC, a_position, a_cell, a_noted, a_stack, a_before, a_shown, a_gType, a_gTaken, a_gWaiting, a_kCount, a_gCursor, a_gParked, a_kCursor, a_tAt, a_tDue, a_wAt, a_kAt, a_tTimes, a_wTimes, a_kTimes)) : ∃ n, wX_index_91 post (nI j) f_held f_records f_flushed f_summed f_draft f_drafted f_seen f_time f_taken a_at a_version a_value a_originAt a_stream a_type a_originBy a_originCode a_goesOn a_events a_cuts a_firm a_cutsGone a_byVersion a_byOrigin a_upTo a_draftType a_draftValue a_dOp a_dC a_height a_clash a_pOp a_pSize a_pC a_position a_cell a_noted a_stack a_before a_shown a_gType a_gTaken a_gWaiting a_kCount a_gCursor a_gParked a_kCursor a_tAt a_tDue a_wAt a_kAt a_tTimes a_wTimes a_kTimes n (nI s) := by
  refine es_free hs hb (fun n h => wX_index_91 post (nI j) f_held f_records f_flushed f_summed f_draft f_drafted f_seen f_time f_taken a_at a_version a_value a_originAt a_stream a_type a_originBy a_originCode a_goesOn a_events a_cuts a_firm a_cutsGone a_byVersion a_byOrigin a_upTo a_draftType a_draftValue a_dOp a_dC a_height a_clash a_pOp a_pSize a_pC a_position a_cell a_noted a_stack a_before a_shown a_gType a_gTaken a_gWaiting a_kCount a_gCursor a_gParked a_kCursor a_tAt a_tDue a_wAt a_kAt a_tTimes a_wTimes a_kTimes n (nI h)) (fun n => ?_) (fun n h hh hne ih => ?_)
  · have hl : (s + d) % 128 < 128 := Nat.mod_lt _ (by decide)
    have ec : (nI ((s + d) % 128)).toNatClampNeg = (s + d) % 128 := nI_clamp (by omega)
    refine ⟨vp_in_nI hl (by decide), ?_⟩
    rw [ec, nI_1, es_b8 (by omega)]
    exact br_t hz ⟨vp_in_nI hl (by decide), nm_e hp⟩
  · have ec : (nI h).toNatClampNeg = h := nI_clamp (by omega)
    refine ⟨vp_in_nI hh (by decide), br_f ?_ (nm_r (es_h1 hh) ih)⟩
    rw [ec]
    exact hne
theorem es_x_index26 {s d j : Nat} (hs : s < 128) (hj : j < 40) (hz : a_byVersion ((s + d) % 128) = 0) (hb : ∀ e, e < d → a_byVersion ((s + e) % 128) ≠ 0) {post : SX → Prop} (h0 : ¬ 0 ≤ a_originBy j → post (f_held, f_records, f_flushed, f_summed, f_draft, f_drafted, f_seen, f_time, f_taken, a_at, a_version, a_value, a_originAt, a_stream, a_type, a_originBy, a_originCode, a_goesOn, a_events, a_cuts, a_firm, a_cutsGone, upd a_byVersion ((s + d) % 128) (nI (j + 1)), a_byOrigin, a_upTo, a_draftType, a_draftValue, a_dOp, a_dC, a_height, a_clash, a_pOp, a_pSize, a_pC, a_position, a_cell, a_noted, a_stack, a_before, a_shown, a_gType, a_gTaken, a_gWaiting, a_kCount, a_gCursor, a_gParked, a_kCursor, a_tAt, a_tDue, a_wAt, a_kAt, a_tTimes, a_wTimes, a_kTimes))
    (h1 : 0 ≤ a_originBy j → ∃ n, wX_index_91 post (nI j) f_held f_records f_flushed f_summed f_draft f_drafted f_seen f_time f_taken a_at a_version a_value a_originAt a_stream a_type a_originBy a_originCode a_goesOn a_events a_cuts a_firm a_cutsGone (upd a_byVersion ((s + d) % 128) (nI (j + 1))) a_byOrigin a_upTo a_draftType a_draftValue a_dOp a_dC a_height a_clash a_pOp a_pSize a_pC a_position a_cell a_noted a_stack a_before a_shown a_gType a_gTaken a_gWaiting a_kCount a_gCursor a_gParked a_kCursor a_tAt a_tDue a_wAt a_kAt a_tTimes a_wTimes a_kTimes n (nI (es_sp (a_originBy j * 14 + a_originCode j) (a_originAt j)))) : ∃ n, wX_index_26 post (nI j) f_held f_records f_flushed f_summed f_draft f_drafted f_seen f_time f_taken a_at a_version a_value a_originAt a_stream a_type a_originBy a_originCode a_goesOn a_events a_cuts a_firm a_cutsGone a_byVersion a_byOrigin a_upTo a_draftType a_draftValue a_dOp a_dC a_height a_clash a_pOp a_pSize a_pC a_position a_cell a_noted a_stack a_before a_shown a_gType a_gTaken a_gWaiting a_kCount a_gCursor a_gParked a_kCursor a_tAt a_tDue a_wAt a_kAt a_tTimes a_wTimes a_kTimes n (nI s) := by
  refine es_free hs hb (fun n h => wX_index_26 post (nI j) f_held f_records f_flushed f_summed f_draft f_drafted f_seen f_time f_taken a_at a_version a_value a_originAt a_stream a_type a_originBy a_originCode a_goesOn a_events a_cuts a_firm a_cutsGone a_byVersion a_byOrigin a_upTo a_draftType a_draftValue a_dOp a_dC a_height a_clash a_pOp a_pSize a_pC a_position a_cell a_noted a_stack a_before a_shown a_gType a_gTaken a_gWaiting a_kCount a_gCursor a_gParked a_kCursor a_tAt a_tDue a_wAt a_kAt a_tTimes a_wTimes a_kTimes n (nI h)) (fun n => ?_) (fun n h hh hne ih => ?_)
  · have hl : (s + d) % 128 < 128 := Nat.mod_lt _ (by decide)
    have ec : (nI ((s + d) % 128)).toNatClampNeg = (s + d) % 128 := nI_clamp (by omega)
    have ej : (nI j).toNatClampNeg = j := nI_clamp (by omega)
    have hv : vp_in (nI j) 40 := vp_in_nI hj (by decide)
    refine ⟨vp_in_nI hl (by decide), ?_⟩
    rw [ec, nI_1, es_b8 (by omega), ej]
    exact br_t hz ⟨vp_in_nI hl (by decide), nm_e ⟨hv, br_c (fun z => ⟨hv, hv, hv, es_x_spot (h1 z)⟩) h0⟩⟩
  · have ec : (nI h).toNatClampNeg = h := nI_clamp (by omega)
    refine ⟨vp_in_nI hh (by decide), br_f ?_ (nm_r (es_h1 hh) ih)⟩
    rw [ec]
    exact hne
theorem es_x_index {i : Nat} (hq : es_Q rm i < 40) (hr : rm i = false) (ht : es_t (L i) < 8) (ho : ∀ p o b, es_o (L i) = some (p, o, b) → p < 3) (R : es_XR i (L i) (a_at (es_Q rm i)) (a_version (es_Q rm i)) (a_value (es_Q rm i)) (a_originAt (es_Q rm i)) (a_stream (es_Q rm i)) (a_type (es_Q rm i)) (a_originBy (es_Q rm i)) (a_originCode (es_Q rm i)))
    (HV : es_HV i L rm a_byVersion) (HO : es_HO i L rm a_byOrigin) {post : SX → Prop} (hp : ∀ hv hx, es_HV (i + 1) L rm hv → es_HO (i + 1) L rm hx → post (f_held, f_records, f_flushed, f_summed, f_draft, f_drafted, f_seen, f_time, f_taken, a_at, a_version, a_value, a_originAt, a_stream, a_type, a_originBy, a_originCode, a_goesOn, a_events, a_cuts, a_firm, a_cutsGone, hv, hx, a_upTo, a_draftType, a_draftValue, a_dOp, a_dC, a_height, a_clash, a_pOp, a_pSize, a_pC, a_position, a_cell, a_noted, a_stack, a_before, a_shown, a_gType, a_gTaken, a_gWaiting, a_kCount, a_gCursor, a_gParked, a_kCursor, a_tAt, a_tDue, a_wAt, a_kAt, a_tTimes, a_wTimes, a_kTimes)) : wpX_index post (f_held, f_records, f_flushed, f_summed, f_draft, f_drafted, f_seen, f_time, f_taken, a_at, a_version, a_value, a_originAt, a_stream, a_type, a_originBy, a_originCode, a_goesOn, a_events, a_cuts, a_firm, a_cutsGone, a_byVersion, a_byOrigin, a_upTo, a_draftType, a_draftValue, a_dOp, a_dC, a_height, a_clash, a_pOp, a_pSize, a_pC, a_position, a_cell, a_noted, a_stack, a_before, a_shown, a_gType, a_gTaken, a_gWaiting, a_kCount, a_gCursor, a_gParked, a_kCursor, a_tAt, a_tDue, a_wAt, a_kAt, a_tTimes, a_wTimes, a_kTimes) (nI (es_Q rm i)) := by
  have hv : vp_in (nI (es_Q rm i)) 40 := vp_in_nI hq (by decide)
  have ej : (nI (es_Q rm i)).toNatClampNeg = es_Q rm i := nI_clamp (by omega)
  obtain ⟨r1, r2, r3, r4⟩ := R
  unfold wpX_index
  refine ⟨hv, ?_⟩
  rw [ej]
  cases hc : es_c (L i)
  · obtain ⟨q1, q2, q3, q4⟩ := r4 hc
    rw [q1, q2, r2]
    obtain ⟨d, hd, hz, hb⟩ := es_HS_p HV (by omega) (es_sp_lt (nI (es_s (L i))) (nI (es_n (L i))))
    have HV' := es_HS_add HV hr hc (by omega) hd hz hb
    refine br_t (nI_pos' (by omega)) ⟨hv, hv, es_x_spot (es_x_index26 (es_sp_lt _ _) hq hz hb (fun z => ?_) (fun z => ?_))⟩
    · refine hp _ _ HV' (es_HS_skip HO (Or.inr (fun w => ?_)))
      cases hO : es_o (L i) with
      | none => exact w.2 hO
      | some k =>
        obtain ⟨p, q, b⟩ := k
        rw [hO] at q4
        have := ho p q b hO
        rw [q4.1] at z
        exact z (nI_pos' (by omega))
    · cases hO : es_o (L i) with
      | none =>
        rw [hO] at q4
        rw [q4.1] at z
        exact absurd z es_n0
      | some k =>
        obtain ⟨p, q, b⟩ := k
        rw [hO] at q4
        obtain ⟨d', hd', hz', hb'⟩ := es_HS_p HO (by omega) (es_ko_lt (es_o (L i)))
        have HO' := es_HS_add HO hr ⟨hc, by rw [hO]; exact fun z => nomatch z⟩ (by omega) hd' hz' hb'
        have ek : es_ko (es_o (L i)) = es_sp (a_originBy (es_Q rm i) * 14 + a_originCode (es_Q rm i)) (a_originAt (es_Q rm i)) := by rw [hO, q4.1, q4.2.1, q4.2.2]; rfl
        rw [← ek]
        exact es_x_index91 (es_ko_lt _) hq hz' hb' (hp _ _ HV' HO')
  · rw [(r3 hc).1]
    exact br_f es_n0 (hp _ _ (es_HS_skip HV (Or.inr (by rw [hc]; decide))) (es_HS_skip HO (Or.inr (by rw [hc]; exact fun z => nomatch z.1))))
end ES05
end
section
/-! X: reindex, placeOf, emitted -/
section ES06
variable {f_held f_records f_flushed f_summed f_draft f_drafted f_seen f_time f_taken : Int32} {a_at a_version a_value a_originAt a_stream a_type a_originBy a_originCode a_goesOn a_events a_cuts a_firm a_cutsGone a_byVersion a_byOrigin a_draftType a_draftValue a_dOp a_dC a_height a_clash a_pOp a_pSize a_pC a_position a_cell a_noted a_stack a_before a_shown a_gType a_gTaken a_gWaiting a_kCount a_gCursor a_gParked a_kCursor a_tAt a_tDue a_wAt a_kAt a_tTimes a_wTimes a_kTimes : Nat → Int32} {a_upTo : Nat → Int64} {N F C : Nat} {L : Nat → es_Ev} {rm : Nat → Bool} {pd : Prop}
theorem es_x_reindex31 (W : es_WL N F C L rm) (T : es_XT N L rm a_at a_version a_value a_originAt a_stream a_type a_originBy a_originCode) {post : SX → Prop} (hp : ∀ hv hx, es_HV N L rm hv → es_HO N L rm hx → post (nI (es_Q rm N), f_records, f_flushed, 0, f_draft, f_drafted, f_seen, f_time, f_taken, a_at, a_version, a_value, a_originAt, a_stream, a_type, a_originBy, a_originCode, a_goesOn, a_events, a_cuts, a_firm, a_cutsGone, hv, hx, a_upTo, a_draftType, a_draftValue, a_dOp, a_dC, a_height, a_clash, a_pOp, a_pSize, a_pC, a_position, a_cell, a_noted, a_stack, a_before, a_shown, a_gType, a_gTaken, a_gWaiting, a_kCount, a_gCursor, a_gParked, a_kCursor, a_tAt, a_tDue, a_wAt, a_kAt, a_tTimes, a_wTimes, a_kTimes)) :
    ∀ d i, i + d = N → ∀ n, d < n → ∀ hv hx, es_HV i L rm hv → es_HO i L rm hx → wX_reindex_31 post n (nI (es_Q rm i)) (nI (es_Q rm N)) f_records f_flushed f_summed f_draft f_drafted f_seen f_time f_taken a_at a_version a_value a_originAt a_stream a_type a_originBy a_originCode a_goesOn a_events a_cuts a_firm a_cutsGone hv hx a_upTo a_draftType a_draftValue a_dOp a_dC a_height a_clash a_pOp a_pSize a_pC a_position a_cell a_noted a_stack a_before a_shown a_gType a_gTaken a_gWaiting a_kCount a_gCursor a_gParked a_kCursor a_tAt a_tDue a_wAt a_kAt a_tTimes a_wTimes a_kTimes := by
  have hq := W.2.2.1
  intro d
  induction d with
  | zero =>
    intro i hi n hn hv hx h1 h2
    have e : i = N := by omega
    subst e
    obtain ⟨m, rfl⟩ : ∃ m, n = m + 1 := ⟨n - 1, by omega⟩
    exact br_t (nI_le (Nat.le_refl _) (by omega)) (hp hv hx h1 h2)
  | succ d ih =>
    intro i hi n hn hv hx h1 h2
    have hin : i < N := by omega
    cases hr : rm i
    · obtain ⟨m, rfl⟩ : ∃ m, n = m + 1 := ⟨n - 1, by omega⟩
      have hl := es_Q_lt hin hr
      have w := W.2.2.2.2 i hin
      refine br_f (nI_ge hl (by omega)) (es_x_index (by omega) hr w.2.1 (fun p o b z => (w.2.2.2.2.1 p o b z).1) (T i hin hr) h1 h2 (fun hv' hx' k1 k2 => nm_r (nI_1 _) ?_))
      have := ih (i + 1) (by omega) m (by omega) hv' hx' k1 k2
      rw [es_Q_f hr] at this
      exact this
    · have := ih (i + 1) (by omega) n (by omega) hv hx (es_HS_skip h1 (Or.inl hr)) (es_HS_skip h2 (Or.inl hr))
      rw [es_Q_t hr] at this
      exact this
theorem es_x_reindex2 (W : es_WL N F C L rm) (T : es_XT N L rm a_at a_version a_value a_originAt a_stream a_type a_originBy a_originCode) {post : SX → Prop} (hp : ∀ hv hx, es_HV N L rm hv → es_HO N L rm hx → post (nI (es_Q rm N), f_records, f_flushed, 0, f_draft, f_drafted, f_seen, f_time, f_taken, a_at, a_version, a_value, a_originAt, a_stream, a_type, a_originBy, a_originCode, a_goesOn, a_events, a_cuts, a_firm, a_cutsGone, hv, hx, a_upTo, a_draftType, a_draftValue, a_dOp, a_dC, a_height, a_clash, a_pOp, a_pSize, a_pC, a_position, a_cell, a_noted, a_stack, a_before, a_shown, a_gType, a_gTaken, a_gWaiting, a_kCount, a_gCursor, a_gParked, a_kCursor, a_tAt, a_tDue, a_wAt, a_kAt, a_tTimes, a_wTimes, a_kTimes)) :
    ∀ d x, x + d = 128 → ∀ hv hx, (∀ y, y < x → hv y = 0) → (∀ y, y < x → hx y = 0) → wX_reindex_2 post (nI (es_Q rm N)) f_records f_flushed f_summed f_draft f_drafted f_seen f_time f_taken (d + 1) (nI x) a_at a_version a_value a_originAt a_stream a_type a_originBy a_originCode a_goesOn a_events a_cuts a_firm a_cutsGone hv hx a_upTo a_draftType a_draftValue a_dOp a_dC a_height a_clash a_pOp a_pSize a_pC a_position a_cell a_noted a_stack a_before a_shown a_gType a_gTaken a_gWaiting a_kCount a_gCursor a_gParked a_kCursor a_tAt a_tDue a_wAt a_kAt a_tTimes a_wTimes a_kTimes := by
  intro d
  induction d with
  | zero =>
    intro x hx0 hv hx h1 h2
    have e : x = 128 := by omega
    subst e
    have := es_x_reindex31 (f_records := f_records) (f_flushed := f_flushed) (f_summed := f_summed) (f_draft := f_draft) (f_drafted := f_drafted) (f_seen := f_seen) (f_time := f_time) (f_taken := f_taken) (a_at := a_at) (a_version := a_version) (a_value := a_value) (a_originAt := a_originAt) (a_stream := a_stream) (a_type := a_type) (a_originBy := a_originBy) (a_originCode := a_originCode) (a_goesOn := a_goesOn) (a_events := a_events) (a_cuts := a_cuts) (a_firm := a_firm) (a_cutsGone := a_cutsGone) (a_upTo := a_upTo) (a_draftType := a_draftType) (a_draftValue := a_draftValue) (a_dOp := a_dOp) (a_dC := a_dC) (a_height := a_height) (a_clash := a_clash) (a_pOp := a_pOp) (a_pSize := a_pSize) (a_pC := a_pC) (a_position := a_position) (a_cell := a_cell) (a_noted := a_noted) (a_stack := a_stack) (a_before := a_before) (a_shown := a_shown) (a_gType := a_gType) (a_gTaken := a_gTaken) (a_gWaiting := a_gWaiting) (a_kCount := a_kCount) (a_gCursor := a_gCursor) (a_gParked := a_gParked) (a_kCursor := a_kCursor) (a_tAt := a_tAt) (a_tDue := a_tDue) (a_wAt := a_wAt) (a_kAt := a_kAt) (a_tTimes := a_tTimes) (a_wTimes := a_wTimes) (a_kTimes := a_kTimes) W T hp N 0 (by omega) (N + 1) (by omega) hv hx (es_HS_0 h1) (es_HS_0 h2)
    rw [es_Q_0, nI_0] at this
    exact br_t (nI_le (a := 128) (b := 128) (by omega) (by decide)) ⟨N + 1, this⟩
  | succ d ih =>
    intro x hx0 hv hx h1 h2
    have ex : (nI x).toNatClampNeg = x := nI_clamp (by omega)
    have hvi : vp_in (nI x) 128 := vp_in_nI (by omega) (by decide)
    refine br_f (nI_ge (b := 128) (by omega) (by decide)) ⟨hvi, nm_e ⟨hvi, nm_e (nm_r (nI_1 _) (ih (x + 1) (by omega) _ _ (fun y hy => ?_) (fun y hy => ?_)))⟩⟩
    · rw [ex, es_nb0]
      by_cases e : y = x
      · rw [e, pk_us]
      · rw [pk_un e]; exact h1 y (by omega)
    · rw [ex, es_nb0]
      by_cases e : y = x
      · rw [e, pk_us]
      · rw [pk_un e]; exact h2 y (by omega)
theorem es_x_reindex (W : es_WL N F C L rm) (T : es_XT N L rm a_at a_version a_value a_originAt a_stream a_type a_originBy a_originCode) {post : SX → Prop} (hp : ∀ hv hx, es_HV N L rm hv → es_HO N L rm hx → post (nI (es_Q rm N), f_records, f_flushed, 0, f_draft, f_drafted, f_seen, f_time, f_taken, a_at, a_version, a_value, a_originAt, a_stream, a_type, a_originBy, a_originCode, a_goesOn, a_events, a_cuts, a_firm, a_cutsGone, hv, hx, a_upTo, a_draftType, a_draftValue, a_dOp, a_dC, a_height, a_clash, a_pOp, a_pSize, a_pC, a_position, a_cell, a_noted, a_stack, a_before, a_shown, a_gType, a_gTaken, a_gWaiting, a_kCount, a_gCursor, a_gParked, a_kCursor, a_tAt, a_tDue, a_wAt, a_kAt, a_tTimes, a_wTimes, a_kTimes)) : wpX_reindex post (nI (es_Q rm N), f_records, f_flushed, f_summed, f_draft, f_drafted, f_seen, f_time, f_taken, a_at, a_version, a_value, a_originAt, a_stream, a_type, a_originBy, a_originCode, a_goesOn, a_events, a_cuts, a_firm, a_cutsGone, a_byVersion, a_byOrigin, a_upTo, a_draftType, a_draftValue, a_dOp, a_dC, a_height, a_clash, a_pOp, a_pSize, a_pC, a_position, a_cell, a_noted, a_stack, a_before, a_shown, a_gType, a_gTaken, a_gWaiting, a_kCount, a_gCursor, a_gParked, a_kCursor, a_tAt, a_tDue, a_wAt, a_kAt, a_tTimes, a_wTimes, a_kTimes) := by
  have := es_x_reindex2 (f_records := f_records) (f_flushed := f_flushed) (f_summed := f_summed) (f_draft := f_draft) (f_drafted := f_drafted) (f_seen := f_seen) (f_time := f_time) (f_taken := f_taken) (a_at := a_at) (a_version := a_version) (a_value := a_value) (a_originAt := a_originAt) (a_stream := a_stream) (a_type := a_type) (a_originBy := a_originBy) (a_originCode := a_originCode) (a_goesOn := a_goesOn) (a_events := a_events) (a_cuts := a_cuts) (a_firm := a_firm) (a_cutsGone := a_cutsGone) (a_upTo := a_upTo) (a_draftType := a_draftType) (a_draftValue := a_draftValue) (a_dOp := a_dOp) (a_dC := a_dC) (a_height := a_height) (a_clash := a_clash) (a_pOp := a_pOp) (a_pSize := a_pSize) (a_pC := a_pC) (a_position := a_position) (a_cell := a_cell) (a_noted := a_noted) (a_stack := a_stack) (a_before := a_before) (a_shown := a_shown) (a_gType := a_gType) (a_gTaken := a_gTaken) (a_gWaiting := a_gWaiting) (a_kCount := a_kCount) (a_gCursor := a_gCursor) (a_gParked := a_gParked) (a_kCursor := a_kCursor) (a_tAt := a_tAt) (a_tDue := a_tDue) (a_wAt := a_wAt) (a_kAt := a_kAt) (a_tTimes := a_tTimes) (a_wTimes := a_wTimes) (a_kTimes := a_kTimes) W T hp 128 0 (by omega) a_byVersion a_byOrigin (fun y h => absurd h (Nat.not_lt_zero _)) (fun y h => absurd h (Nat.not_lt_zero _))
  rw [nI_0] at this
  exact ⟨_, this⟩
theorem es_x_place (h : es_CX N F L rm pd f_held f_records f_flushed f_summed a_at a_version a_value a_originAt a_stream a_type a_originBy a_originCode a_goesOn a_events a_cuts a_firm a_cutsGone a_byVersion a_byOrigin a_upTo) (W : es_WL N F C L rm) {s : Nat} (hs : s < 5) {x : Int32} {post : Int32 → Prop} (h1 : ∀ i, i < N → rm i = false → es_c (L i) = false → es_s (L i) = s → nI (es_n (L i)) = x → post (nI (es_Q rm i)))
    (h0 : (∀ i, i < N → rm i = false → es_c (L i) = false → es_s (L i) = s → ¬ nI (es_n (L i)) = x) → post (-1)) : wpX_placeOf post (f_held, f_records, f_flushed, f_summed, f_draft, f_drafted, f_seen, f_time, f_taken, a_at, a_version, a_value, a_originAt, a_stream, a_type, a_originBy, a_originCode, a_goesOn, a_events, a_cuts, a_firm, a_cutsGone, a_byVersion, a_byOrigin, a_upTo, a_draftType, a_draftValue, a_dOp, a_dC, a_height, a_clash, a_pOp, a_pSize, a_pC, a_position, a_cell, a_noted, a_stack, a_before, a_shown, a_gType, a_gTaken, a_gWaiting, a_kCount, a_gCursor, a_gParked, a_kCursor, a_tAt, a_tDue, a_wAt, a_kAt, a_tTimes, a_wTimes, a_kTimes) (nI s) x := by
  obtain ⟨rfl, rfl, rfl, T, A, G, HV, HO, S⟩ := h
  have hq := W.2.2.1
  unfold wpX_placeOf
  refine es_x_spot (es_scan HV hq (es_sp_lt (nI s) x) (fun i => es_c (L i) = false ∧ es_s (L i) = s ∧ nI (es_n (L i)) = x) (fun i _ _ hm => ⟨hm.1, by rw [hm.2.1, hm.2.2]⟩) (fun n y => wX_placeOf_6 post (nI s) x (nI (es_Q rm N)) (nI N) (nI F) f_summed f_draft f_drafted f_seen f_time f_taken a_at a_version a_value a_originAt a_stream a_type a_originBy a_originCode a_goesOn a_events a_cuts a_firm a_cutsGone a_byVersion a_byOrigin a_upTo a_draftType a_draftValue a_dOp a_dC a_height a_clash a_pOp a_pSize a_pC a_position a_cell a_noted a_stack a_before a_shown a_gType a_gTaken a_gWaiting a_kCount a_gCursor a_gParked a_kCursor a_tAt a_tDue a_wAt a_kAt a_tTimes a_wTimes a_kTimes n (nI y)) (fun n y hy hz hno => ?_) (fun n y i hy hi hr hl hvy hm => ?_) (fun n y i hy hi hr hl hvy hm ih => ?_))
  · have ey : (nI y).toNatClampNeg = y := nI_clamp (by omega)
    exact ⟨vp_in_nI hy (by decide), br_t (by rw [ey]; exact hz) (h0 (fun i hi hr hc hs' he => hno i hi hr ⟨hc, hs', he⟩))⟩
  · have ey : (nI y).toNatClampNeg = y := nI_clamp (by omega)
    have hl' := es_Q_lt hi hr
    have ei : (nI (es_Q rm i)).toNatClampNeg = es_Q rm i := nI_clamp (by omega)
    have hv : vp_in (nI y) 128 := vp_in_nI hy (by decide)
    have hv' : vp_in (nI (es_Q rm i)) 40 := vp_in_nI (by omega) (by decide)
    obtain ⟨r1, r2, r3, r4⟩ := T i hi hr
    refine ⟨hv, ?_⟩
    rw [ey, hvy]
    refine br_f (nI_ne0 (by omega) (by omega)) ⟨hv, nm_r (nI_pred _) ⟨hv', ?_⟩⟩
    rw [ei, r2, (r4 hm.1).2.1, hm.2.1, hm.2.2]
    exact br_t rfl ⟨hv', br_t rfl (h1 i hi hr hm.1 hm.2.1 hm.2.2)⟩
  · have ey : (nI y).toNatClampNeg = y := nI_clamp (by omega)
    have hl' := es_Q_lt hi hr
    have ei : (nI (es_Q rm i)).toNatClampNeg = es_Q rm i := nI_clamp (by omega)
    have hv : vp_in (nI y) 128 := vp_in_nI hy (by decide)
    have hv' : vp_in (nI (es_Q rm i)) 40 := vp_in_nI (by omega) (by decide)
    have sl := (W.2.2.2.2 i hi).1
    obtain ⟨r1, r2, r3, r4⟩ := T i hi hr
    refine ⟨hv, ?_⟩
    rw [ey, hvy]
    refine br_f (nI_ne0 (by omega) (by omega)) ⟨hv, nm_r (nI_pred _) ⟨hv', ?_⟩⟩
    rw [ei, r2, (r4 hl).2.1]
    by_cases q : es_s (L i) = s
    · rw [q]
      exact br_t rfl ⟨hv', br_f (fun z => hm ⟨hl, q, z⟩) (nm_r (es_h1 hy) ih)⟩
    · exact br_f (fun z => q (es_inj z (by omega) (by omega))) (nm_r (es_h1 hy) ih)
theorem es_x_emitted (h : es_CX N F L rm pd f_held f_records f_flushed f_summed a_at a_version a_value a_originAt a_stream a_type a_originBy a_originCode a_goesOn a_events a_cuts a_firm a_cutsGone a_byVersion a_byOrigin a_upTo) (W : es_WL N F C L rm) {p q b : Nat} (hp3 : p < 3) (hq2 : q < 2000) (hb14 : b < 14) {post : Int32 → Prop} (h1 : (∃ i, i < N ∧ rm i = false ∧ es_c (L i) = false ∧ es_o (L i) = some (p, q, b)) → post 1)
    (h0 : (∀ i, i < N → rm i = false → ¬ (es_c (L i) = false ∧ es_o (L i) = some (p, q, b))) → post 0) : wpX_emitted post (f_held, f_records, f_flushed, f_summed, f_draft, f_drafted, f_seen, f_time, f_taken, a_at, a_version, a_value, a_originAt, a_stream, a_type, a_originBy, a_originCode, a_goesOn, a_events, a_cuts, a_firm, a_cutsGone, a_byVersion, a_byOrigin, a_upTo, a_draftType, a_draftValue, a_dOp, a_dC, a_height, a_clash, a_pOp, a_pSize, a_pC, a_position, a_cell, a_noted, a_stack, a_before, a_shown, a_gType, a_gTaken, a_gWaiting, a_kCount, a_gCursor, a_gParked, a_kCursor, a_tAt, a_tDue, a_wAt, a_kAt, a_tTimes, a_wTimes, a_kTimes) (nI p) (nI q) (nI b) := by
  obtain ⟨rfl, rfl, rfl, T, A, G, HV, HO, S⟩ := h
  have hq := W.2.2.1
  have hN := W.1
  unfold wpX_emitted
  refine es_x_spot (es_scan HO hq (es_sp_lt (nI p * 14 + nI b) (nI q)) (fun i => es_c (L i) = false ∧ es_o (L i) = some (p, q, b)) (fun i _ _ hm => ⟨⟨hm.1, by rw [hm.2]; exact fun z => nomatch z⟩, by rw [hm.2]; rfl⟩) (fun n y => wX_emitted_12 post (nI p) (nI q) (nI b) (nI (es_Q rm N)) (nI N) (nI F) f_summed f_draft f_drafted f_seen f_time f_taken a_at a_version a_value a_originAt a_stream a_type a_originBy a_originCode a_goesOn a_events a_cuts a_firm a_cutsGone a_byVersion a_byOrigin a_upTo a_draftType a_draftValue a_dOp a_dC a_height a_clash a_pOp a_pSize a_pC a_position a_cell a_noted a_stack a_before a_shown a_gType a_gTaken a_gWaiting a_kCount a_gCursor a_gParked a_kCursor a_tAt a_tDue a_wAt a_kAt a_tTimes a_wTimes a_kTimes n (nI y)) (fun n y hy hz hno => ?_) (fun n y i hy hi hr hl hvy hm => ?_) (fun n y i hy hi hr hl hvy hm ih => ?_))
  · have ey : (nI y).toNatClampNeg = y := nI_clamp (by omega)
    exact ⟨vp_in_nI hy (by decide), br_t (by rw [ey]; exact hz) (h0 hno)⟩
  · have ey : (nI y).toNatClampNeg = y := nI_clamp (by omega)
    have hl' := es_Q_lt hi hr
    have ei : (nI (es_Q rm i)).toNatClampNeg = es_Q rm i := nI_clamp (by omega)
    have hv : vp_in (nI y) 128 := vp_in_nI hy (by decide)
    have hv' : vp_in (nI (es_Q rm i)) 40 := vp_in_nI (by omega) (by decide)
    obtain ⟨r1, r2, r3, r4⟩ := T i hi hr
    have r5 := (r4 hm.1).2.2.2
    rw [hm.2] at r5
    refine ⟨hv, ?_⟩
    rw [ey, hvy]
    refine br_f (nI_ne0 (by omega) (by omega)) ⟨hv, nm_r (nI_pred _) ⟨hv', ?_⟩⟩
    rw [ei, r5.1, r5.2.1, r5.2.2]
    exact br_t rfl ⟨hv', br_t rfl ⟨hv', br_t rfl (h1 ⟨i, hi, hr, hm⟩)⟩⟩
  · have ey : (nI y).toNatClampNeg = y := nI_clamp (by omega)
    have hl' := es_Q_lt hi hr
    have ei : (nI (es_Q rm i)).toNatClampNeg = es_Q rm i := nI_clamp (by omega)
    have hv : vp_in (nI y) 128 := vp_in_nI hy (by decide)
    have hv' : vp_in (nI (es_Q rm i)) 40 := vp_in_nI (by omega) (by decide)
    obtain ⟨r1, r2, r3, r4⟩ := T i hi hr
    have r5 := (r4 hl.1).2.2.2
    cases hO : es_o (L i) with
    | none => exact absurd hO hl.2
    | some k =>
      obtain ⟨p', q', b'⟩ := k
      rw [hO] at r5
      have w := (W.2.2.2.2 i hi).2.2.2.2.1 p' q' b' hO
      refine ⟨hv, ?_⟩
      rw [ey, hvy]
      refine br_f (nI_ne0 (by omega) (by omega)) ⟨hv, nm_r (nI_pred _) ⟨hv', ?_⟩⟩
      rw [ei, r5.1, r5.2.1, r5.2.2]
      by_cases c1 : p' = p
      · rw [c1]
        refine br_t rfl ⟨hv', ?_⟩
        by_cases c2 : q' = q
        · rw [c2]
          refine br_t rfl ⟨hv', br_f (fun z => ?_) (nm_r (es_h1 hy) ih)⟩
          have c3 := es_inj z (by omega) (by omega)
          rw [c1, c2, c3] at hO
          exact hm ⟨hl.1, hO⟩
        · exact br_f (fun z => c2 (es_inj z (by omega) (by omega))) (nm_r (es_h1 hy) ih)
      · exact br_f (fun z => c1 (es_inj z (by omega) (by omega))) (nm_r (es_h1 hy) ih)
/-! one record more, pure -/
theorem es_up_lt {e : es_Ev} : ∀ i, i < N → es_up L N e i = L i := fun i hi => es_up_n (by omega)
theorem es_up_E {e : es_Ev} {s n : Nat} (h : n ≤ N) : es_E (es_up L N e) s n = es_E L s n := es_E_cg (fun i hi => es_up_n (by omega))
theorem es_up_M {e : es_Ev} {s n : Nat} (h : n ≤ N) : es_M (es_up L N e) s n = es_M L s n := es_M_cg (fun i hi => es_up_n (by omega))
theorem es_up_G {e : es_Ev} {s : Nat} (hr : rm N = false) : es_G (es_up L N e) rm s (N + 1) = es_G L rm s N := by
  have : es_G (es_up L N e) rm s (N + 1) = es_G (es_up L N e) rm s N := es_mx_f (by simp [hr])
  rw [this]
  exact es_G_cg (fun i hi => es_up_n (by omega))
theorem es_XT_add (a_at' a_version' a_value' a_originAt' a_stream' a_type' a_originBy' a_originCode' : Nat → Int32) {e : es_Ev} (T : es_XT N L rm a_at a_version a_value a_originAt a_stream a_type a_originBy a_originCode) (hr : rm N = false)
    (hj : ∀ j, j ≠ es_Q rm N → a_at' j = a_at j ∧ a_version' j = a_version j ∧ a_value' j = a_value j ∧ a_originAt' j = a_originAt j ∧ a_stream' j = a_stream j ∧ a_type' j = a_type j ∧ a_originBy' j = a_originBy j ∧ a_originCode' j = a_originCode j)
    (R : es_XR N e (a_at' (es_Q rm N)) (a_version' (es_Q rm N)) (a_value' (es_Q rm N)) (a_originAt' (es_Q rm N)) (a_stream' (es_Q rm N)) (a_type' (es_Q rm N)) (a_originBy' (es_Q rm N)) (a_originCode' (es_Q rm N))) :
    es_XT (N + 1) (es_up L N e) rm a_at' a_version' a_value' a_originAt' a_stream' a_type' a_originBy' a_originCode' := by
  intro i hi hri
  by_cases c : i = N
  · subst c
    rw [es_up_s]
    exact R
  · have := es_Q_lt (show i < N by omega) hri
    obtain ⟨q1, q2, q3, q4, q5, q6, q7, q8⟩ := hj (es_Q rm i) (by omega)
    rw [es_up_n c, q1, q2, q3, q4, q5, q6, q7, q8]
    exact T i (by omega) hri
theorem es_AG_ev {e : es_Ev} {s : Nat} (hF : F ≤ N) (hr : rm N = false) (hc : es_c e = false) (hs : es_s e = s) (A : es_AG N F L rm a_events a_cuts a_firm a_cutsGone) : es_AG (N + 1) F (es_up L N e) rm (upd a_events s (nI (es_E L s N + 1))) a_cuts a_firm a_cutsGone := by
  intro s' hs'
  obtain ⟨h1, h2, h3, h4⟩ := A s' hs'
  have hM : es_M (es_up L N e) s' (N + 1) = es_M L s' N := by
    rw [es_M_f (by rw [es_up_s]; exact Or.inl hc), es_up_M (Nat.le_refl _)]
  rw [hM, es_up_M hF, es_up_G hr]
  refine ⟨?_, h2, h3, h4⟩
  by_cases c : s' = s
  · subst c
    rw [pk_us, es_E_t (by rw [es_up_s]; exact hc) (by rw [es_up_s]; exact hs), es_up_E (Nat.le_refl _)]
  · rw [pk_un c, h1, es_E_f (by rw [es_up_s, hs]; exact Or.inr (fun z => c z.symm)), es_up_E (Nat.le_refl _)]
theorem es_AG_cut {e : es_Ev} {s w : Nat} (hw : w ≤ 2000) (hF : F ≤ N) (hr : rm N = false) (hc : es_c e = true) (hs : es_s e = s) (hv : es_v e = nI w) (A : es_AG N F L rm a_events a_cuts a_firm a_cutsGone) {a_cuts' : Nat → Int32} (h0 : w ≤ es_M L s N → a_cuts' = a_cuts) (h1 : es_M L s N < w → a_cuts' = upd a_cuts s (nI w)) : es_AG (N + 1) F (es_up L N e) rm a_events a_cuts' a_firm a_cutsGone := by
  have ew : es_w (es_up L N e N) = w := by rw [es_up_s]; unfold es_w; rw [hv]; exact nI_clamp (by omega)
  intro s' hs'
  obtain ⟨g1, g2, g3, g4⟩ := A s' hs'
  rw [es_up_M hF, es_up_G hr, es_E_f (by rw [es_up_s]; exact Or.inl hc), es_up_E (Nat.le_refl _)]
  refine ⟨g1, ?_, g3, g4⟩
  by_cases c : s' = s
  · subst c
    rw [es_M_t (by rw [es_up_s]; exact hc) (by rw [es_up_s]; exact hs), ew, es_up_M (Nat.le_refl _)]
    by_cases z : es_M L s' N < w
    · rw [if_pos z, h1 z, pk_us]
    · rw [if_neg z, h0 (by omega), g2]
  · rw [es_M_f (by rw [es_up_s, hs]; exact Or.inr (fun z => c z.symm)), es_up_M (Nat.le_refl _), ← g2]
    by_cases z : es_M L s N < w
    · rw [h1 z, pk_un c]
    · rw [h0 (by omega)]
theorem es_GO_add {e : es_Ev} {pd' : Prop} {z : Int32} (W : es_WL N F C L rm) (G : es_GO N F L rm pd a_goesOn) (hl : F < N → (es_k (L (N - 1)) = es_k e ↔ pd)) (hz1 : z = 0 ∨ z = 1) (hz : z = 0 ↔ ¬ pd') {a_goesOn' : Nat → Int32} (hg : a_goesOn' (es_Q rm N) = z) (hj : ∀ j, j ≠ es_Q rm N → a_goesOn' j = a_goesOn j) : es_GO (N + 1) F (es_up L N e) rm pd' a_goesOn' := by
  intro i hF hi
  by_cases c : i = N
  · subst c
    rw [hg]
    refine ⟨hz1, ?_⟩
    rw [hz]
    constructor
    · rintro h (⟨a, -⟩ | ⟨-, b⟩)
      · omega
      · exact h b
    · exact fun h b => h (Or.inr ⟨rfl, b⟩)
  · have hiN : i < N := by omega
    have := es_Q_lt hiN (es_rmN W hF)
    rw [hj _ (by omega)]
    refine ⟨(G i hF hiN).1, ?_⟩
    rw [(G i hF hiN).2]
    apply not_congr
    by_cases c2 : i + 1 = N
    · have hl' := hl (by omega)
      have e1 : N - 1 = i := by omega
      rw [e1] at hl'
      rw [es_up_n c, c2, es_up_s, hl']
      constructor
      · rintro (⟨a, -⟩ | ⟨-, b⟩)
        · omega
        · exact Or.inl ⟨by omega, b⟩
      · rintro (⟨-, b⟩ | ⟨a, -⟩)
        · exact Or.inr ⟨rfl, b⟩
        · omega
    · rw [es_up_n c, es_up_n c2]
      constructor
      · rintro (⟨a, b⟩ | ⟨a, -⟩)
        · exact Or.inl ⟨by omega, b⟩
        · omega
      · rintro (⟨-, b⟩ | ⟨a, -⟩)
        · exact Or.inl ⟨by omega, b⟩
        · omega
theorem es_WL_add {e : es_Ev} {C' : Nat} (W : es_WL N F C L rm) (hN : N < 2000) (hq : es_Q rm N < 40) (hC : C ≤ C') (h1 : es_s e < 5) (h2 : es_t e < 8) (h3 : es_n e = es_E L (es_s e) N) (h4 : es_c e = true → ∃ w, w ≤ 2000 ∧ es_v e = nI w) (h5 : ∀ p o b, es_o e = some (p, o, b) → p < 3 ∧ o < N ∧ b < 14) (h6 : es_k e ≤ C') : es_WL (N + 1) F C' (es_up L N e) rm := by
  obtain ⟨w1, w2, w3, w4, w5⟩ := W
  have hr : rm N = false := es_rmN ⟨w1, w2, w3, w4, w5⟩ w2
  refine ⟨by omega, by omega, by rw [es_Q_f hr]; omega, fun i hi => ?_, fun i hi => ?_⟩
  · obtain ⟨a, b⟩ := w4 i hi
    rw [es_up_n (by omega), es_up_M w2]
    exact ⟨a, b⟩
  · by_cases c : i = N
    · subst c
      rw [es_up_s, es_up_E (Nat.le_refl _)]
      exact ⟨h1, h2, h3, h4, h5, h6⟩
    · obtain ⟨a1, a2, a3, a4, a5, a6⟩ := w5 i (by omega)
      rw [es_up_n c, es_up_E (by omega)]
      exact ⟨a1, a2, a3, a4, a5, by omega⟩
end ES06
end
section
/-! the relation -/
section ES10
def es_tk (o : Nat) : Nat := if o = 4 ∨ o = 5 ∨ o = 6 ∨ o = 7 then 2 else if o = 8 ∨ o = 9 ∨ o = 10 ∨ o = 12 then 1 else 0
def es_gv (o : Nat) : Nat := if o < 8 then 1 else if o = 8 then 2 else 0
def es_af (o h : Nat) : Nat := h - es_tk o + es_gv o
/-- an instruction's operand fits -/
def es_ft (o i n : Nat) (c : Int32) : Prop := (o = 3 ∨ o = 9 → ∃ q, q < 2 ∧ c = nI q) ∧ (o = 12 → ∃ q, q < 40 ∧ c = nI q) ∧ (o = 10 ∨ o = 11 → ∃ q, i < q ∧ q ≤ n ∧ c = nI q)
/-- where the run goes on behind an instruction -/
def es_su (o i : Nat) (c : Int32) (j : Nat) : Prop := (o = 10 ∨ o = 11) ∧ c = nI j ∨ o ≠ 11 ∧ o ≠ 13 ∧ j = i + 1
def es_IN (op wi : Nat → Int32) (b n : Nat) (ht : Nat → Int32) (i : Nat) : Prop :=
  ∃ o h : Nat, o < 14 ∧ h ≤ 4 ∧ op (b + i) = nI o ∧ ht i = nI h ∧ es_tk o ≤ h ∧ es_af o h ≤ 4 ∧ es_ft o i n (wi (b + i)) ∧ ∀ j, j < n → es_su o i (wi (b + i)) j → ht j = nI (es_af o h)
/-- a program that the check lets through -/
def es_WT (op wi : Nat → Int32) (b n : Nat) : Prop := ∃ ht : Nat → Int32, ht 0 = 0 ∧ ∀ i, i < n → ht i ≠ -1 → es_IN op wi b n ht i
def es_DR (f_draft g_drafted : Int32) (a_draftType a_draftValue b_draftType b_draftValue : Nat → Int32) : Prop :=
  ∃ d, d ≤ 4 ∧ f_draft = nI d ∧ g_drafted = nI d ∧ a_draftType = b_draftType ∧ a_draftValue = b_draftValue ∧ ∀ i, i < d → ∃ t, t < 8 ∧ a_draftType i = nI t
def es_PG (f_drafted : Int32) (a_dOp a_dC a_pOp a_pSize a_pC b_op b_with b_length : Nat → Int32) : Prop :=
  (∃ D, D ≤ 14 ∧ f_drafted = nI D ∧ b_length 3 = nI D) ∧ (∀ i, i < 14 → b_op (42 + i) = a_dOp i ∧ b_with (42 + i) = a_dC i ∧ ∃ o, o < 14 ∧ a_dOp i = nI o) ∧
  (∀ j, j < 42 → b_op j = a_pOp j ∧ b_with j = a_pC j) ∧ ∀ p, p < 3 → ∃ n, n ≤ 14 ∧ a_pSize p = nI n ∧ b_length p = nI n ∧ es_WT a_pOp a_pC (14 * p) n
def es_PJ (N F : Nat) (rm : Nat → Bool) (a_pSize a_position a_cell a_noted b_position b_cells b_noted : Nat → Int32) : Prop :=
  ∀ p, p < 3 → a_pSize p ≠ 0 → b_noted p = a_noted p ∧ ∃ P K, a_position p = nI P ∧ b_position p = nI P ∧ P ≤ N ∧ a_position (3 + p) = nI K ∧ b_position (3 + p) = nI K ∧ K ≤ P ∧ K ≤ F ∧ (∀ i, rm i = true → i < K) ∧
    (∀ k, k < 10 → b_cells (10 * p + k) = a_cell (10 * p + k) ∧ b_cells (10 * (3 + p) + k) = a_cell (10 * (3 + p) + k)) ∧
    (a_noted p ≠ 0 → ∃ T, a_position (6 + p) = nI T ∧ b_position (6 + p) = nI T ∧ K ≤ T ∧ T ≤ P ∧ ∀ k, k < 10 → b_cells (10 * (6 + p) + k) = a_cell (10 * (6 + p) + k))
/-- a position that a group holds: below N, and kept or not below the kept cursor -/
def es_PS (N kc nk : Nat) (kA : Nat → Int32) (x : Int32) : Prop := ∃ a, a < N ∧ x = nI a ∧ (kc ≤ a ∨ ∃ j, j < nk ∧ kA j = nI a)
def es_GR (N F : Nat) (rm : Nat → Bool) (a_gType a_gTaken a_gWaiting a_kCount a_gCursor a_gParked a_kCursor a_tAt a_tDue a_wAt a_kAt a_tTimes a_wTimes a_kTimes b_wanted b_formed b_cursor b_parked b_where b_often b_due b_many : Nat → Int32) (g : Nat) : Prop :=
  ∃ nt nw nk c kc : Nat, (a_gTaken g = nI nt ∧ b_many g = nI nt ∧ a_gWaiting g = nI nw ∧ b_many (2 + g) = nI nw ∧ a_kCount g = nI nk ∧ b_many (4 + g) = nI nk ∧ nt + nw ≤ 6 ∧ nk ≤ 6) ∧
    (a_gCursor g = nI c ∧ b_cursor g = nI c ∧ c ≤ N ∧ a_kCursor g = nI kc ∧ b_cursor (2 + g) = nI kc ∧ kc ≤ c ∧ kc ≤ F) ∧ b_parked g = a_gParked g ∧
    ((a_gType g = -1 ∧ b_formed g = 0 ∧ nt = 0 ∧ nw = 0 ∧ nk = 0) ∨ (∃ t, t < 9 ∧ a_gType g = nI t ∧ b_wanted g = nI t ∧ b_formed g = 1 ∧ ∀ i, rm i = true → i < kc ∧ ∀ j, j < nk → nI i < a_kAt (6 * g + j))) ∧
    (∀ j, j < nt → b_where (8 * g + j) = a_tAt (6 * g + j) ∧ b_often (8 * g + j) = a_tTimes (6 * g + j) ∧ b_due (8 * g + j) = a_tDue (6 * g + j) ∧ es_PS N kc nk (fun j => a_kAt (6 * g + j)) (a_tAt (6 * g + j))) ∧
    (∀ j, j < nw → b_where (16 + 8 * g + j) = a_wAt (6 * g + j) ∧ b_often (16 + 8 * g + j) = a_wTimes (6 * g + j) ∧ es_PS N kc nk (fun j => a_kAt (6 * g + j)) (a_wAt (6 * g + j))) ∧
    (∀ j, j < nk → b_where (32 + 8 * g + j) = a_kAt (6 * g + j) ∧ b_often (32 + 8 * g + j) = a_kTimes (6 * g + j) ∧ ∃ a, a < F ∧ a_kAt (6 * g + j) = nI a) ∧
    (∀ j, j + 1 < nk → a_kAt (6 * g + j) ≤ a_kAt (6 * g + (j + 1)))
def es_SH (f_seen : Int32) (a_shown b_found : Nat → Int32) : Prop := (f_seen < 0 ∧ ∀ j, j < 6 → b_found j = 0) ∨ (¬ f_seen < 0 ∧ ∀ j, j < 6 → b_found j = a_shown j)
/-- the relation at the head of a turn whose first cell is k -/
def i_Rel (k : Nat) (u : SX) (v : SY) : Prop := match u with
  | (f_held, f_records, f_flushed, f_summed, f_draft, f_drafted, f_seen, f_time, f_taken, a_at, a_version, a_value, a_originAt, a_stream, a_type, a_originBy, a_originCode, a_goesOn, a_events, a_cuts, a_firm, a_cutsGone, a_byVersion, a_byOrigin, a_upTo, a_draftType, a_draftValue, a_dOp, a_dC, a_height, a_clash, a_pOp, a_pSize, a_pC, a_position, a_cell, a_noted, a_stack, a_before, a_shown, a_gType, a_gTaken, a_gWaiting, a_kCount, a_gCursor, a_gParked, a_kCursor, a_tAt, a_tDue, a_wAt, a_kAt, a_tTimes, a_wTimes, a_kTimes) => match v with
    | (g_count, g_flushed, g_calls, g_drafted, g_top, g_time, b_isCut, b_removed, b_stream, b_type, b_from, b_by, b_value, b_version, b_on, b_call, b_draftType, b_draftValue, b_op, b_with, b_length, b_height, b_torn, b_stack, b_position, b_cells, b_noted, b_wanted, b_formed, b_cursor, b_parked, b_where, b_often, b_due, b_many, b_found) => ∃ (N F C : Nat) (L : Nat → es_Ev) (rm : Nat → Bool), es_CX N F L rm False f_held f_records f_flushed f_summed a_at a_version a_value a_originAt a_stream a_type a_originBy a_originCode a_goesOn a_events a_cuts a_firm a_cutsGone a_byVersion a_byOrigin a_upTo ∧ es_CY N F C L rm g_count g_flushed g_calls b_isCut b_removed b_stream b_type b_from b_by b_value b_version b_on b_call ∧ es_WL N F C L rm ∧ C ≤ 10 * k ∧ es_DR f_draft g_drafted a_draftType a_draftValue b_draftType b_draftValue ∧ es_PG f_drafted a_dOp a_dC a_pOp a_pSize a_pC b_op b_with b_length ∧
      es_PJ N F rm a_pSize a_position a_cell a_noted b_position b_cells b_noted ∧ (∀ g, g < 2 → es_GR N F rm a_gType a_gTaken a_gWaiting a_kCount a_gCursor a_gParked a_kCursor a_tAt a_tDue a_wAt a_kAt a_tTimes a_wTimes a_kTimes b_wanted b_formed b_cursor b_parked b_where b_often b_due b_many g) ∧ es_SH f_seen a_shown b_found ∧ f_time = g_time
theorem es_mk {f_held f_records f_flushed f_summed f_draft f_drafted f_seen f_time f_taken : Int32} {a_at a_version a_value a_originAt a_stream a_type a_originBy a_originCode a_goesOn a_events a_cuts a_firm a_cutsGone a_byVersion a_byOrigin a_draftType a_draftValue a_dOp a_dC a_height a_clash a_pOp a_pSize a_pC a_position a_cell a_noted a_stack a_before a_shown a_gType a_gTaken a_gWaiting a_kCount a_gCursor a_gParked a_kCursor a_tAt a_tDue a_wAt a_kAt a_tTimes a_wTimes a_kTimes : Nat → Int32} {a_upTo : Nat → Int64} {g_count g_flushed g_calls g_drafted g_top g_time : Int32} {b_isCut b_removed b_stream b_type b_from b_by b_value b_version b_on b_call b_draftType b_draftValue b_op b_with b_length b_height b_torn b_stack b_position b_cells b_noted b_wanted b_formed b_cursor b_parked b_where b_often b_due b_many b_found : Nat → Int32} {k N F C : Nat} {L : Nat → es_Ev} {rm : Nat → Bool} (h1 : es_CX N F L rm False f_held f_records f_flushed f_summed a_at a_version a_value a_originAt a_stream a_type a_originBy a_originCode a_goesOn a_events a_cuts a_firm a_cutsGone a_byVersion a_byOrigin a_upTo) (h2 : es_CY N F C L rm g_count g_flushed g_calls b_isCut b_removed b_stream b_type b_from b_by b_value b_version b_on b_call) (h3 : es_WL N F C L rm) (h4 : C ≤ 10 * k) (h5 : es_DR f_draft g_drafted a_draftType a_draftValue b_draftType b_draftValue) (h6 : es_PG f_drafted a_dOp a_dC a_pOp a_pSize a_pC b_op b_with b_length)
    (h7 : es_PJ N F rm a_pSize a_position a_cell a_noted b_position b_cells b_noted) (h8 : ∀ g, g < 2 → es_GR N F rm a_gType a_gTaken a_gWaiting a_kCount a_gCursor a_gParked a_kCursor a_tAt a_tDue a_wAt a_kAt a_tTimes a_wTimes a_kTimes b_wanted b_formed b_cursor b_parked b_where b_often b_due b_many g) (h9 : es_SH f_seen a_shown b_found) (h10 : f_time = g_time) : i_Rel k (f_held, f_records, f_flushed, f_summed, f_draft, f_drafted, f_seen, f_time, f_taken, a_at, a_version, a_value, a_originAt, a_stream, a_type, a_originBy, a_originCode, a_goesOn, a_events, a_cuts, a_firm, a_cutsGone, a_byVersion, a_byOrigin, a_upTo, a_draftType, a_draftValue, a_dOp, a_dC, a_height, a_clash, a_pOp, a_pSize, a_pC, a_position, a_cell, a_noted, a_stack, a_before, a_shown, a_gType, a_gTaken, a_gWaiting, a_kCount, a_gCursor, a_gParked, a_kCursor, a_tAt, a_tDue, a_wAt, a_kAt, a_tTimes, a_wTimes, a_kTimes) (g_count, g_flushed, g_calls, g_drafted, g_top, g_time, b_isCut, b_removed, b_stream, b_type, b_from, b_by, b_value, b_version, b_on, b_call, b_draftType, b_draftValue, b_op, b_with, b_length, b_height, b_torn, b_stack, b_position, b_cells, b_noted, b_wanted, b_formed, b_cursor, b_parked, b_where, b_often, b_due, b_many, b_found) :=
  ⟨N, F, C, L, rm, h1, h2, h3, h4, h5, h6, h7, h8, h9, h10⟩
theorem es_el {P : SX → SY → Prop} {k : Nat} (h : ∀ (f_held f_records f_flushed f_summed f_draft f_drafted f_seen f_time f_taken : Int32) (a_at a_version a_value a_originAt a_stream a_type a_originBy a_originCode a_goesOn a_events a_cuts a_firm a_cutsGone a_byVersion a_byOrigin a_draftType a_draftValue a_dOp a_dC a_height a_clash a_pOp a_pSize a_pC a_position a_cell a_noted a_stack a_before a_shown a_gType a_gTaken a_gWaiting a_kCount a_gCursor a_gParked a_kCursor a_tAt a_tDue a_wAt a_kAt a_tTimes a_wTimes a_kTimes : Nat → Int32) (a_upTo : Nat → Int64) (g_count g_flushed g_calls g_drafted g_top g_time : Int32) (b_isCut b_removed b_stream b_type b_from b_by b_value b_version b_on b_call b_draftType b_draftValue b_op b_with b_length b_height b_torn b_stack b_position b_cells b_noted b_wanted b_formed b_cursor b_parked b_where b_often b_due b_many b_found : Nat → Int32) (N F C : Nat) (L : Nat → es_Ev) (rm : Nat → Bool), es_CX N F L rm False f_held f_records f_flushed f_summed a_at a_version a_value a_originAt a_stream a_type a_originBy a_originCode a_goesOn a_events a_cuts a_firm a_cutsGone a_byVersion a_byOrigin a_upTo → es_CY N F C L rm g_count g_flushed g_calls b_isCut b_removed b_stream b_type b_from b_by b_value b_version b_on b_call → es_WL N F C L rm → C ≤ 10 * k → es_DR f_draft g_drafted a_draftType a_draftValue b_draftType b_draftValue → es_PG f_drafted a_dOp a_dC a_pOp a_pSize a_pC b_op b_with b_length →
      es_PJ N F rm a_pSize a_position a_cell a_noted b_position b_cells b_noted → (∀ g, g < 2 → es_GR N F rm a_gType a_gTaken a_gWaiting a_kCount a_gCursor a_gParked a_kCursor a_tAt a_tDue a_wAt a_kAt a_tTimes a_wTimes a_kTimes b_wanted b_formed b_cursor b_parked b_where b_often b_due b_many g) → es_SH f_seen a_shown b_found → f_time = g_time → P (f_held, f_records, f_flushed, f_summed, f_draft, f_drafted, f_seen, f_time, f_taken, a_at, a_version, a_value, a_originAt, a_stream, a_type, a_originBy, a_originCode, a_goesOn, a_events, a_cuts, a_firm, a_cutsGone, a_byVersion, a_byOrigin, a_upTo, a_draftType, a_draftValue, a_dOp, a_dC, a_height, a_clash, a_pOp, a_pSize, a_pC, a_position, a_cell, a_noted, a_stack, a_before, a_shown, a_gType, a_gTaken, a_gWaiting, a_kCount, a_gCursor, a_gParked, a_kCursor, a_tAt, a_tDue, a_wAt, a_kAt, a_tTimes, a_wTimes, a_kTimes) (g_count, g_flushed, g_calls, g_drafted, g_top, g_time, b_isCut, b_removed, b_stream, b_type, b_from, b_by, b_value, b_version, b_on, b_call, b_draftType, b_draftValue, b_op, b_with, b_length, b_height, b_torn, b_stack, b_position, b_cells, b_noted, b_wanted, b_formed, b_cursor, b_parked, b_where, b_often, b_due, b_many, b_found)) :
    ∀ (u : SX) (v : SY), i_Rel k u v → P u v
  | (f_held, f_records, f_flushed, f_summed, f_draft, f_drafted, f_seen, f_time, f_taken, a_at, a_version, a_value, a_originAt, a_stream, a_type, a_originBy, a_originCode, a_goesOn, a_events, a_cuts, a_firm, a_cutsGone, a_byVersion, a_byOrigin, a_upTo, a_draftType, a_draftValue, a_dOp, a_dC, a_height, a_clash, a_pOp, a_pSize, a_pC, a_position, a_cell, a_noted, a_stack, a_before, a_shown, a_gType, a_gTaken, a_gWaiting, a_kCount, a_gCursor, a_gParked, a_kCursor, a_tAt, a_tDue, a_wAt, a_kAt, a_tTimes, a_wTimes, a_kTimes), (g_count, g_flushed, g_calls, g_drafted, g_top, g_time, b_isCut, b_removed, b_stream, b_type, b_from, b_by, b_value, b_version, b_on, b_call, b_draftType, b_draftValue, b_op, b_with, b_length, b_height, b_torn, b_stack, b_position, b_cells, b_noted, b_wanted, b_formed, b_cursor, b_parked, b_where, b_often, b_due, b_many, b_found), ⟨N, F, C, L, rm, h1, h2, h3, h4, h5, h6, h7, h8, h9, h10⟩ => h f_held f_records f_flushed f_summed f_draft f_drafted f_seen f_time f_taken a_at a_version a_value a_originAt a_stream a_type a_originBy a_originCode a_goesOn a_events a_cuts a_firm a_cutsGone a_byVersion a_byOrigin a_draftType a_draftValue a_dOp a_dC a_height a_clash a_pOp a_pSize a_pC a_position a_cell a_noted a_stack a_before a_shown a_gType a_gTaken a_gWaiting a_kCount a_gCursor a_gParked a_kCursor a_tAt a_tDue a_wAt a_kAt a_tTimes a_wTimes a_kTimes a_upTo g_count g_flushed g_calls g_drafted g_top g_time b_isCut b_removed b_stream b_type b_from b_by b_value b_version b_on b_call b_draftType b_draftValue b_op b_with b_length b_height b_torn b_stack b_position b_cells b_noted b_wanted b_formed b_cursor b_parked b_where b_often b_due b_many b_found N F C L rm h1 h2 h3 h4 h5 h6 h7 h8 h9 h10
theorem i_up {k : Nat} {u : SX} {v : SY} (h : i_Rel k u v) : i_Rel (k + 4) u v := by
  refine es_el (P := fun u v => i_Rel (k + 4) u v) ?_ u v h
  intro f_held f_records f_flushed f_summed f_draft f_drafted f_seen f_time f_taken a_at a_version a_value a_originAt a_stream a_type a_originBy a_originCode a_goesOn a_events a_cuts a_firm a_cutsGone a_byVersion a_byOrigin a_draftType a_draftValue a_dOp a_dC a_height a_clash a_pOp a_pSize a_pC a_position a_cell a_noted a_stack a_before a_shown a_gType a_gTaken a_gWaiting a_kCount a_gCursor a_gParked a_kCursor a_tAt a_tDue a_wAt a_kAt a_tTimes a_wTimes a_kTimes a_upTo g_count g_flushed g_calls g_drafted g_top g_time b_isCut b_removed b_stream b_type b_from b_by b_value b_version b_on b_call b_draftType b_draftValue b_op b_with b_length b_height b_torn b_stack b_position b_cells b_noted b_wanted b_formed b_cursor b_parked b_where b_often b_due b_many b_found N F C L rm h1 h2 h3 h4 h5 h6 h7 h8 h9 h10
  exact es_mk h1 h2 h3 (by omega) h5 h6 h7 h8 h9 h10
end ES10
end
section
/-! event, code, drop and the plain reads -/
section ES11
theorem i_vc_event {k : Nat} {u : SX} {v : SY} (I : i_Rel k u v) (hk : k + 4 ≤ 2048) (v1 : Int32) (v2 : Int32) : wpX_event (fun r u' => wpY_event (fun r' v' => r' = r ∧ i_Rel (k + 4) u' v') v v1 v2) u v1 v2 := by
  refine es_el (P := fun u v => wpX_event (fun r u' => wpY_event (fun r' v' => r' = r ∧ i_Rel (k + 4) u' v') v v1 v2) u v1 v2) ?_ u v I
  intro f_held f_records f_flushed f_summed f_draft f_drafted f_seen f_time f_taken a_at a_version a_value a_originAt a_stream a_type a_originBy a_originCode a_goesOn a_events a_cuts a_firm a_cutsGone a_byVersion a_byOrigin a_draftType a_draftValue a_dOp a_dC a_height a_clash a_pOp a_pSize a_pC a_position a_cell a_noted a_stack a_before a_shown a_gType a_gTaken a_gWaiting a_kCount a_gCursor a_gParked a_kCursor a_tAt a_tDue a_wAt a_kAt a_tTimes a_wTimes a_kTimes a_upTo g_count g_flushed g_calls g_drafted g_top g_time b_isCut b_removed b_stream b_type b_from b_by b_value b_version b_on b_call b_draftType b_draftValue b_op b_with b_length b_height b_torn b_stack b_position b_cells b_noted b_wanted b_formed b_cursor b_parked b_where b_often b_due b_many b_found N F C L rm h1 h2 h3 h4 h5 h6 h7 h8 h9 h10
  show wpX_event (fun r u' => wpY_event (fun r' v' => r' = r ∧ i_Rel (k + 4) u' v') (g_count, g_flushed, g_calls, g_drafted, g_top, g_time, b_isCut, b_removed, b_stream, b_type, b_from, b_by, b_value, b_version, b_on, b_call, b_draftType, b_draftValue, b_op, b_with, b_length, b_height, b_torn, b_stack, b_position, b_cells, b_noted, b_wanted, b_formed, b_cursor, b_parked, b_where, b_often, b_due, b_many, b_found) v1 v2) (f_held, f_records, f_flushed, f_summed, f_draft, f_drafted, f_seen, f_time, f_taken, a_at, a_version, a_value, a_originAt, a_stream, a_type, a_originBy, a_originCode, a_goesOn, a_events, a_cuts, a_firm, a_cutsGone, a_byVersion, a_byOrigin, a_upTo, a_draftType, a_draftValue, a_dOp, a_dC, a_height, a_clash, a_pOp, a_pSize, a_pC, a_position, a_cell, a_noted, a_stack, a_before, a_shown, a_gType, a_gTaken, a_gWaiting, a_kCount, a_gCursor, a_gParked, a_kCursor, a_tAt, a_tDue, a_wAt, a_kAt, a_tTimes, a_wTimes, a_kTimes) v1 v2
  obtain ⟨d, hd, rfl, rfl, rfl, rfl, ht⟩ := h5
  have keep : i_Rel (k + 4) (f_held, f_records, f_flushed, f_summed, nI d, f_drafted, f_seen, f_time, f_taken, a_at, a_version, a_value, a_originAt, a_stream, a_type, a_originBy, a_originCode, a_goesOn, a_events, a_cuts, a_firm, a_cutsGone, a_byVersion, a_byOrigin, a_upTo, a_draftType, a_draftValue, a_dOp, a_dC, a_height, a_clash, a_pOp, a_pSize, a_pC, a_position, a_cell, a_noted, a_stack, a_before, a_shown, a_gType, a_gTaken, a_gWaiting, a_kCount, a_gCursor, a_gParked, a_kCursor, a_tAt, a_tDue, a_wAt, a_kAt, a_tTimes, a_wTimes, a_kTimes) (g_count, g_flushed, g_calls, nI d, g_top, g_time, b_isCut, b_removed, b_stream, b_type, b_from, b_by, b_value, b_version, b_on, b_call, a_draftType, a_draftValue, b_op, b_with, b_length, b_height, b_torn, b_stack, b_position, b_cells, b_noted, b_wanted, b_formed, b_cursor, b_parked, b_where, b_often, b_due, b_many, b_found) := es_mk h1 h2 h3 (by omega) ⟨d, hd, rfl, rfl, rfl, rfl, ht⟩ h6 h7 h8 h9 h10
  have out : (v1 < 0 ∨ nI 8 ≤ v1) → wpX_event (fun r u' => wpY_event (fun r' v' => r' = r ∧ i_Rel (k + 4) u' v') (g_count, g_flushed, g_calls, nI d, g_top, g_time, b_isCut, b_removed, b_stream, b_type, b_from, b_by, b_value, b_version, b_on, b_call, a_draftType, a_draftValue, b_op, b_with, b_length, b_height, b_torn, b_stack, b_position, b_cells, b_noted, b_wanted, b_formed, b_cursor, b_parked, b_where, b_often, b_due, b_many, b_found) v1 v2) (f_held, f_records, f_flushed, f_summed, nI d, f_drafted, f_seen, f_time, f_taken, a_at, a_version, a_value, a_originAt, a_stream, a_type, a_originBy, a_originCode, a_goesOn, a_events, a_cuts, a_firm, a_cutsGone, a_byVersion, a_byOrigin, a_upTo, a_draftType, a_draftValue, a_dOp, a_dC, a_height, a_clash, a_pOp, a_pSize, a_pC, a_position, a_cell, a_noted, a_stack, a_before, a_shown, a_gType, a_gTaken, a_gWaiting, a_kCount, a_gCursor, a_gParked, a_kCursor, a_tAt, a_tDue, a_wAt, a_kAt, a_tTimes, a_wTimes, a_kTimes) v1 v2 := fun c => by
    unfold wpX_event
    refine es_am0 (n := 8) c (br_t rfl ?_)
    unfold wpY_event
    exact es_out1 (n := 8) c (br_f es_10 ⟨rfl, keep⟩)
  rcases pk_ix v1 (n := 8) (by decide) with c | c | ⟨j, hj, rfl⟩
  · exact out (Or.inl c)
  · exact out (Or.inr c)
  · unfold wpX_event
    refine es_am1 (n := 8) hj (by decide) (br_f es_10 ?_)
    by_cases c4 : d = 4
    · subst c4
      refine br_t rfl ?_
      unfold wpY_event
      exact es_out0 (n := 8) hj (by decide) (br_t rfl (br_t rfl ⟨rfl, keep⟩))
    · have n4 : ¬ nI d = 4 := fun z => c4 (es_inj (b := 4) z (by omega) (by decide))
      have hv : vp_in (nI d) 4 := vp_in_nI (by omega) (by decide)
      refine br_f n4 ⟨hv, nm_e (nm_r (nI_1 d) ⟨hv, nm_e ?_⟩)⟩
      unfold wpY_event
      refine es_out0 (n := 8) hj (by decide) (br_t rfl (br_f n4 ⟨hv, nm_e (nm_r (nI_1 d) ⟨hv, nm_e ⟨rfl, ?_⟩⟩)⟩))
      refine es_mk h1 h2 h3 (by omega) ⟨d + 1, by omega, rfl, rfl, rfl, rfl, fun i hi => ?_⟩ h6 h7 h8 h9 h10
      rw [nI_clamp (by omega), es_b8 (by omega)]
      by_cases e : i = d
      · rw [e, pk_us]; exact ⟨j, hj, rfl⟩
      · rw [pk_un e]; exact ht i (by omega)
theorem i_vc_code {k : Nat} {u : SX} {v : SY} (I : i_Rel k u v) (hk : k + 4 ≤ 2048) (v1 : Int32) (v2 : Int32) : wpX_code (fun r u' => wpY_code (fun r' v' => r' = r ∧ i_Rel (k + 4) u' v') v v1 v2) u v1 v2 := by
  refine es_el (P := fun u v => wpX_code (fun r u' => wpY_code (fun r' v' => r' = r ∧ i_Rel (k + 4) u' v') v v1 v2) u v1 v2) ?_ u v I
  intro f_held f_records f_flushed f_summed f_draft f_drafted f_seen f_time f_taken a_at a_version a_value a_originAt a_stream a_type a_originBy a_originCode a_goesOn a_events a_cuts a_firm a_cutsGone a_byVersion a_byOrigin a_draftType a_draftValue a_dOp a_dC a_height a_clash a_pOp a_pSize a_pC a_position a_cell a_noted a_stack a_before a_shown a_gType a_gTaken a_gWaiting a_kCount a_gCursor a_gParked a_kCursor a_tAt a_tDue a_wAt a_kAt a_tTimes a_wTimes a_kTimes a_upTo g_count g_flushed g_calls g_drafted g_top g_time b_isCut b_removed b_stream b_type b_from b_by b_value b_version b_on b_call b_draftType b_draftValue b_op b_with b_length b_height b_torn b_stack b_position b_cells b_noted b_wanted b_formed b_cursor b_parked b_where b_often b_due b_many b_found N F C L rm h1 h2 h3 h4 h5 h6 h7 h8 h9 h10
  show wpX_code (fun r u' => wpY_code (fun r' v' => r' = r ∧ i_Rel (k + 4) u' v') (g_count, g_flushed, g_calls, g_drafted, g_top, g_time, b_isCut, b_removed, b_stream, b_type, b_from, b_by, b_value, b_version, b_on, b_call, b_draftType, b_draftValue, b_op, b_with, b_length, b_height, b_torn, b_stack, b_position, b_cells, b_noted, b_wanted, b_formed, b_cursor, b_parked, b_where, b_often, b_due, b_many, b_found) v1 v2) (f_held, f_records, f_flushed, f_summed, f_draft, f_drafted, f_seen, f_time, f_taken, a_at, a_version, a_value, a_originAt, a_stream, a_type, a_originBy, a_originCode, a_goesOn, a_events, a_cuts, a_firm, a_cutsGone, a_byVersion, a_byOrigin, a_upTo, a_draftType, a_draftValue, a_dOp, a_dC, a_height, a_clash, a_pOp, a_pSize, a_pC, a_position, a_cell, a_noted, a_stack, a_before, a_shown, a_gType, a_gTaken, a_gWaiting, a_kCount, a_gCursor, a_gParked, a_kCursor, a_tAt, a_tDue, a_wAt, a_kAt, a_tTimes, a_wTimes, a_kTimes) v1 v2
  obtain ⟨⟨D, hD, rfl, eD⟩, p2, p3, p4⟩ := h6
  have keep : i_Rel (k + 4) (f_held, f_records, f_flushed, f_summed, f_draft, nI D, f_seen, f_time, f_taken, a_at, a_version, a_value, a_originAt, a_stream, a_type, a_originBy, a_originCode, a_goesOn, a_events, a_cuts, a_firm, a_cutsGone, a_byVersion, a_byOrigin, a_upTo, a_draftType, a_draftValue, a_dOp, a_dC, a_height, a_clash, a_pOp, a_pSize, a_pC, a_position, a_cell, a_noted, a_stack, a_before, a_shown, a_gType, a_gTaken, a_gWaiting, a_kCount, a_gCursor, a_gParked, a_kCursor, a_tAt, a_tDue, a_wAt, a_kAt, a_tTimes, a_wTimes, a_kTimes) (g_count, g_flushed, g_calls, g_drafted, g_top, g_time, b_isCut, b_removed, b_stream, b_type, b_from, b_by, b_value, b_version, b_on, b_call, b_draftType, b_draftValue, b_op, b_with, b_length, b_height, b_torn, b_stack, b_position, b_cells, b_noted, b_wanted, b_formed, b_cursor, b_parked, b_where, b_often, b_due, b_many, b_found) := es_mk h1 h2 h3 (by omega) h5 ⟨⟨D, hD, rfl, eD⟩, p2, p3, p4⟩ h7 h8 h9 h10
  have out : (v1 < 0 ∨ nI 14 ≤ v1) → wpX_code (fun r u' => wpY_code (fun r' v' => r' = r ∧ i_Rel (k + 4) u' v') (g_count, g_flushed, g_calls, g_drafted, g_top, g_time, b_isCut, b_removed, b_stream, b_type, b_from, b_by, b_value, b_version, b_on, b_call, b_draftType, b_draftValue, b_op, b_with, b_length, b_height, b_torn, b_stack, b_position, b_cells, b_noted, b_wanted, b_formed, b_cursor, b_parked, b_where, b_often, b_due, b_many, b_found) v1 v2) (f_held, f_records, f_flushed, f_summed, f_draft, nI D, f_seen, f_time, f_taken, a_at, a_version, a_value, a_originAt, a_stream, a_type, a_originBy, a_originCode, a_goesOn, a_events, a_cuts, a_firm, a_cutsGone, a_byVersion, a_byOrigin, a_upTo, a_draftType, a_draftValue, a_dOp, a_dC, a_height, a_clash, a_pOp, a_pSize, a_pC, a_position, a_cell, a_noted, a_stack, a_before, a_shown, a_gType, a_gTaken, a_gWaiting, a_kCount, a_gCursor, a_gParked, a_kCursor, a_tAt, a_tDue, a_wAt, a_kAt, a_tTimes, a_wTimes, a_kTimes) v1 v2 := fun c => by
    unfold wpX_code
    refine es_am0 (n := 14) c (br_t rfl ?_)
    unfold wpY_code
    exact es_out1 (n := 14) c (br_f es_10 ⟨rfl, keep⟩)
  rcases pk_ix v1 (n := 14) (by decide) with c | c | ⟨j, hj, rfl⟩
  · exact out (Or.inl c)
  · exact out (Or.inr c)
  · unfold wpX_code
    refine es_am1 (n := 14) hj (by decide) (br_f es_10 ?_)
    by_cases c4 : D = 14
    · subst c4
      refine br_t rfl ?_
      unfold wpY_code
      exact es_out0 (n := 14) hj (by decide) (br_t rfl (br_t eD ⟨rfl, keep⟩))
    · have n4 : ¬ nI D = 14 := fun z => c4 (es_inj (b := 14) z (by omega) (by decide))
      have hv : vp_in (nI D) 14 := vp_in_nI (by omega) (by decide)
      refine br_f n4 ⟨hv, nm_e (nm_r (nI_1 D) ⟨hv, nm_e ?_⟩)⟩
      unfold wpY_code
      dsimp only
      have e42 : 42 + nI D = nI (42 + D) := nI_add 42 D
      have hv2 : vp_in (nI (42 + D)) 56 := vp_in_nI (by omega) (by decide)
      rw [eD, e42, nI_1, es_b8 (show D + 1 < 128 by omega), nI_clamp (show 42 + D < 2 ^ 31 by omega), nI_clamp (show D < 2 ^ 31 by omega), es_b8 (show j < 128 by omega)]
      refine es_out0 (n := 14) hj (by decide) (br_t rfl (br_f n4 ⟨hv2, nm_e (nm_e ⟨hv2, nm_e ⟨rfl, ?_⟩⟩)⟩))
      refine es_mk h1 h2 h3 (by omega) h5 ⟨⟨D + 1, by omega, rfl, pk_us⟩, fun i hi => ?_, fun i hi => ?_, fun p hp => ?_⟩ h7 h8 h9 h10
      · by_cases e : i = D
        · rw [e, pk_us, pk_us, pk_us, pk_us]
          exact ⟨rfl, rfl, j, hj, rfl⟩
        · rw [pk_un e, pk_un e, pk_un (by omega), pk_un (by omega)]
          exact p2 i hi
      · rw [pk_un (by omega), pk_un (by omega)]
        exact p3 i hi
      · rw [pk_un (by omega)]
        exact p4 p hp
theorem es_y_wo {x : Int32} {g_count g_flushed g_calls g_drafted g_top g_time : Int32} {b_isCut b_removed b_stream b_type b_from b_by b_value b_version b_on b_call b_draftType b_draftValue b_op b_with b_length b_height b_torn b_stack b_position b_cells b_noted b_wanted b_formed b_cursor b_parked b_where b_often b_due b_many b_found : Nat → Int32} (h : x < 0 ∨ nI 3 ≤ x) {post : Int32 → Prop} (hp : post (-1)) : wpY_without post (g_count, g_flushed, g_calls, g_drafted, g_top, g_time, b_isCut, b_removed, b_stream, b_type, b_from, b_by, b_value, b_version, b_on, b_call, b_draftType, b_draftValue, b_op, b_with, b_length, b_height, b_torn, b_stack, b_position, b_cells, b_noted, b_wanted, b_formed, b_cursor, b_parked, b_where, b_often, b_due, b_many, b_found) x := by
  unfold wpY_without
  exact es_out1 (n := 3) h (br_f es_10 hp)
theorem es_y_w0 {p : Nat} {g_count g_flushed g_calls g_drafted g_top g_time : Int32} {b_isCut b_removed b_stream b_type b_from b_by b_value b_version b_on b_call b_draftType b_draftValue b_op b_with b_length b_height b_torn b_stack b_position b_cells b_noted b_wanted b_formed b_cursor b_parked b_where b_often b_due b_many b_found : Nat → Int32} (h : p < 3) (e : b_length p = 0) {post : Int32 → Prop} (hp : post (-4)) : wpY_without post (g_count, g_flushed, g_calls, g_drafted, g_top, g_time, b_isCut, b_removed, b_stream, b_type, b_from, b_by, b_value, b_version, b_on, b_call, b_draftType, b_draftValue, b_op, b_with, b_length, b_height, b_torn, b_stack, b_position, b_cells, b_noted, b_wanted, b_formed, b_cursor, b_parked, b_where, b_often, b_due, b_many, b_found) (nI p) := by
  unfold wpY_without
  refine es_out0 (n := 3) h (by decide) (br_t rfl ⟨vp_in_nI (by omega) (by decide), ?_⟩)
  rw [nI_clamp (by omega)]
  exact br_t e hp
theorem es_y_w1 {p : Nat} {g_count g_flushed g_calls g_drafted g_top g_time : Int32} {b_isCut b_removed b_stream b_type b_from b_by b_value b_version b_on b_call b_draftType b_draftValue b_op b_with b_length b_height b_torn b_stack b_position b_cells b_noted b_wanted b_formed b_cursor b_parked b_where b_often b_due b_many b_found : Nat → Int32} (h : p < 3) (e : ¬ b_length p = 0) {post : Int32 → Prop} (hp : post 0) : wpY_without post (g_count, g_flushed, g_calls, g_drafted, g_top, g_time, b_isCut, b_removed, b_stream, b_type, b_from, b_by, b_value, b_version, b_on, b_call, b_draftType, b_draftValue, b_op, b_with, b_length, b_height, b_torn, b_stack, b_position, b_cells, b_noted, b_wanted, b_formed, b_cursor, b_parked, b_where, b_often, b_due, b_many, b_found) (nI p) := by
  unfold wpY_without
  refine es_out0 (n := 3) h (by decide) (br_t rfl ⟨vp_in_nI (by omega) (by decide), ?_⟩)
  rw [nI_clamp (by omega)]
  exact br_f e hp
theorem i_vc_drop {k : Nat} {u : SX} {v : SY} (I : i_Rel k u v) (hk : k + 4 ≤ 2048) (v1 : Int32) : wpX_drop (fun r u' => wpY_drop (fun r' v' => r' = r ∧ i_Rel (k + 4) u' v') v v1) u v1 := by
  refine es_el (P := fun u v => wpX_drop (fun r u' => wpY_drop (fun r' v' => r' = r ∧ i_Rel (k + 4) u' v') v v1) u v1) ?_ u v I
  intro f_held f_records f_flushed f_summed f_draft f_drafted f_seen f_time f_taken a_at a_version a_value a_originAt a_stream a_type a_originBy a_originCode a_goesOn a_events a_cuts a_firm a_cutsGone a_byVersion a_byOrigin a_draftType a_draftValue a_dOp a_dC a_height a_clash a_pOp a_pSize a_pC a_position a_cell a_noted a_stack a_before a_shown a_gType a_gTaken a_gWaiting a_kCount a_gCursor a_gParked a_kCursor a_tAt a_tDue a_wAt a_kAt a_tTimes a_wTimes a_kTimes a_upTo g_count g_flushed g_calls g_drafted g_top g_time b_isCut b_removed b_stream b_type b_from b_by b_value b_version b_on b_call b_draftType b_draftValue b_op b_with b_length b_height b_torn b_stack b_position b_cells b_noted b_wanted b_formed b_cursor b_parked b_where b_often b_due b_many b_found N F C L rm h1 h2 h3 h4 h5 h6 h7 h8 h9 h10
  show wpX_drop (fun r u' => wpY_drop (fun r' v' => r' = r ∧ i_Rel (k + 4) u' v') (g_count, g_flushed, g_calls, g_drafted, g_top, g_time, b_isCut, b_removed, b_stream, b_type, b_from, b_by, b_value, b_version, b_on, b_call, b_draftType, b_draftValue, b_op, b_with, b_length, b_height, b_torn, b_stack, b_position, b_cells, b_noted, b_wanted, b_formed, b_cursor, b_parked, b_where, b_often, b_due, b_many, b_found) v1) (f_held, f_records, f_flushed, f_summed, f_draft, f_drafted, f_seen, f_time, f_taken, a_at, a_version, a_value, a_originAt, a_stream, a_type, a_originBy, a_originCode, a_goesOn, a_events, a_cuts, a_firm, a_cutsGone, a_byVersion, a_byOrigin, a_upTo, a_draftType, a_draftValue, a_dOp, a_dC, a_height, a_clash, a_pOp, a_pSize, a_pC, a_position, a_cell, a_noted, a_stack, a_before, a_shown, a_gType, a_gTaken, a_gWaiting, a_kCount, a_gCursor, a_gParked, a_kCursor, a_tAt, a_tDue, a_wAt, a_kAt, a_tTimes, a_wTimes, a_kTimes) v1
  have keep : i_Rel (k + 4) (f_held, f_records, f_flushed, f_summed, f_draft, f_drafted, f_seen, f_time, f_taken, a_at, a_version, a_value, a_originAt, a_stream, a_type, a_originBy, a_originCode, a_goesOn, a_events, a_cuts, a_firm, a_cutsGone, a_byVersion, a_byOrigin, a_upTo, a_draftType, a_draftValue, a_dOp, a_dC, a_height, a_clash, a_pOp, a_pSize, a_pC, a_position, a_cell, a_noted, a_stack, a_before, a_shown, a_gType, a_gTaken, a_gWaiting, a_kCount, a_gCursor, a_gParked, a_kCursor, a_tAt, a_tDue, a_wAt, a_kAt, a_tTimes, a_wTimes, a_kTimes) (g_count, g_flushed, g_calls, g_drafted, g_top, g_time, b_isCut, b_removed, b_stream, b_type, b_from, b_by, b_value, b_version, b_on, b_call, b_draftType, b_draftValue, b_op, b_with, b_length, b_height, b_torn, b_stack, b_position, b_cells, b_noted, b_wanted, b_formed, b_cursor, b_parked, b_where, b_often, b_due, b_many, b_found) := es_mk h1 h2 h3 (by omega) h5 h6 h7 h8 h9 h10
  have out : (v1 < 0 ∨ nI 3 ≤ v1) → wpX_drop (fun r u' => wpY_drop (fun r' v' => r' = r ∧ i_Rel (k + 4) u' v') (g_count, g_flushed, g_calls, g_drafted, g_top, g_time, b_isCut, b_removed, b_stream, b_type, b_from, b_by, b_value, b_version, b_on, b_call, b_draftType, b_draftValue, b_op, b_with, b_length, b_height, b_torn, b_stack, b_position, b_cells, b_noted, b_wanted, b_formed, b_cursor, b_parked, b_where, b_often, b_due, b_many, b_found) v1) (f_held, f_records, f_flushed, f_summed, f_draft, f_drafted, f_seen, f_time, f_taken, a_at, a_version, a_value, a_originAt, a_stream, a_type, a_originBy, a_originCode, a_goesOn, a_events, a_cuts, a_firm, a_cutsGone, a_byVersion, a_byOrigin, a_upTo, a_draftType, a_draftValue, a_dOp, a_dC, a_height, a_clash, a_pOp, a_pSize, a_pC, a_position, a_cell, a_noted, a_stack, a_before, a_shown, a_gType, a_gTaken, a_gWaiting, a_kCount, a_gCursor, a_gParked, a_kCursor, a_tAt, a_tDue, a_wAt, a_kAt, a_tTimes, a_wTimes, a_kTimes) v1 := fun c => by
    unfold wpX_drop
    refine es_am0 (n := 3) c (br_t rfl ?_)
    unfold wpY_drop
    exact es_y_wo c (br_f (by decide) ⟨rfl, keep⟩)
  rcases pk_ix v1 (n := 3) (by decide) with c | c | ⟨p, hp, rfl⟩
  · exact out (Or.inl c)
  · exact out (Or.inr c)
  · obtain ⟨q1, q2, q3, q4⟩ := h6
    obtain ⟨n, hn, e1, e2, hw⟩ := q4 p hp
    have hv : vp_in (nI p) 3 := vp_in_nI hp (by decide)
    unfold wpX_drop
    refine es_am1 (n := 3) hp (by decide) (br_f es_10 ⟨hv, ?_⟩)
    rw [nI_clamp (show p < 2 ^ 31 by omega)]
    by_cases c : n = 0
    · subst c
      refine br_t e1 ?_
      unfold wpY_drop
      exact es_y_w0 hp e2 (br_f (by decide) ⟨rfl, keep⟩)
    · have nz : ¬ nI n = 0 := nI_ne0 (by omega) (by omega)
      refine br_f (by rw [e1]; exact nz) ⟨hv, nm_e ⟨hv, nm_e ?_⟩⟩
      unfold wpY_drop
      refine es_y_w1 hp (by rw [e2]; exact nz) (br_t rfl ⟨vp_in_nI (by omega) (by decide), nm_e ⟨rfl, ?_⟩⟩)
      rw [nI_clamp (show p < 2 ^ 31 by omega), es_nb0, es_z0]
      refine es_mk h1 h2 h3 (by omega) h5 ⟨?_, q2, q3, fun p' hp' => ?_⟩ (fun p' hp' hz => ?_) h8 h9 h10
      · rw [pk_un (by omega)]; exact q1
      · by_cases c2 : p' = p
        · rw [c2, pk_us, pk_us]
          exact ⟨0, by omega, rfl, rfl, fun _ => 0, rfl, fun i h => absurd h (Nat.not_lt_zero _)⟩
        · rw [pk_un c2, pk_un c2]; exact q4 p' hp'
      · by_cases c2 : p' = p
        · rw [c2, pk_us] at hz; exact absurd rfl hz
        · rw [pk_un c2] at hz ⊢
          exact h7 p' hp' hz
theorem i_vc_position {k : Nat} {u : SX} {v : SY} (I : i_Rel k u v) (hk : k + 4 ≤ 2048) (v1 : Int32) : wpX_position (fun r => wpY_position (fun r' => r' = r ∧ i_Rel (k + 4) u v) v v1) u v1 := by
  refine es_el (P := fun u v => wpX_position (fun r => wpY_position (fun r' => r' = r ∧ i_Rel (k + 4) u v) v v1) u v1) ?_ u v I
  intro f_held f_records f_flushed f_summed f_draft f_drafted f_seen f_time f_taken a_at a_version a_value a_originAt a_stream a_type a_originBy a_originCode a_goesOn a_events a_cuts a_firm a_cutsGone a_byVersion a_byOrigin a_draftType a_draftValue a_dOp a_dC a_height a_clash a_pOp a_pSize a_pC a_position a_cell a_noted a_stack a_before a_shown a_gType a_gTaken a_gWaiting a_kCount a_gCursor a_gParked a_kCursor a_tAt a_tDue a_wAt a_kAt a_tTimes a_wTimes a_kTimes a_upTo g_count g_flushed g_calls g_drafted g_top g_time b_isCut b_removed b_stream b_type b_from b_by b_value b_version b_on b_call b_draftType b_draftValue b_op b_with b_length b_height b_torn b_stack b_position b_cells b_noted b_wanted b_formed b_cursor b_parked b_where b_often b_due b_many b_found N F C L rm h1 h2 h3 h4 h5 h6 h7 h8 h9 h10
  show wpX_position (fun r => wpY_position (fun r' => r' = r ∧ i_Rel (k + 4) (f_held, f_records, f_flushed, f_summed, f_draft, f_drafted, f_seen, f_time, f_taken, a_at, a_version, a_value, a_originAt, a_stream, a_type, a_originBy, a_originCode, a_goesOn, a_events, a_cuts, a_firm, a_cutsGone, a_byVersion, a_byOrigin, a_upTo, a_draftType, a_draftValue, a_dOp, a_dC, a_height, a_clash, a_pOp, a_pSize, a_pC, a_position, a_cell, a_noted, a_stack, a_before, a_shown, a_gType, a_gTaken, a_gWaiting, a_kCount, a_gCursor, a_gParked, a_kCursor, a_tAt, a_tDue, a_wAt, a_kAt, a_tTimes, a_wTimes, a_kTimes) (g_count, g_flushed, g_calls, g_drafted, g_top, g_time, b_isCut, b_removed, b_stream, b_type, b_from, b_by, b_value, b_version, b_on, b_call, b_draftType, b_draftValue, b_op, b_with, b_length, b_height, b_torn, b_stack, b_position, b_cells, b_noted, b_wanted, b_formed, b_cursor, b_parked, b_where, b_often, b_due, b_many, b_found)) (g_count, g_flushed, g_calls, g_drafted, g_top, g_time, b_isCut, b_removed, b_stream, b_type, b_from, b_by, b_value, b_version, b_on, b_call, b_draftType, b_draftValue, b_op, b_with, b_length, b_height, b_torn, b_stack, b_position, b_cells, b_noted, b_wanted, b_formed, b_cursor, b_parked, b_where, b_often, b_due, b_many, b_found) v1) (f_held, f_records, f_flushed, f_summed, f_draft, f_drafted, f_seen, f_time, f_taken, a_at, a_version, a_value, a_originAt, a_stream, a_type, a_originBy, a_originCode, a_goesOn, a_events, a_cuts, a_firm, a_cutsGone, a_byVersion, a_byOrigin, a_upTo, a_draftType, a_draftValue, a_dOp, a_dC, a_height, a_clash, a_pOp, a_pSize, a_pC, a_position, a_cell, a_noted, a_stack, a_before, a_shown, a_gType, a_gTaken, a_gWaiting, a_kCount, a_gCursor, a_gParked, a_kCursor, a_tAt, a_tDue, a_wAt, a_kAt, a_tTimes, a_wTimes, a_kTimes) v1
  have keep : i_Rel (k + 4) (f_held, f_records, f_flushed, f_summed, f_draft, f_drafted, f_seen, f_time, f_taken, a_at, a_version, a_value, a_originAt, a_stream, a_type, a_originBy, a_originCode, a_goesOn, a_events, a_cuts, a_firm, a_cutsGone, a_byVersion, a_byOrigin, a_upTo, a_draftType, a_draftValue, a_dOp, a_dC, a_height, a_clash, a_pOp, a_pSize, a_pC, a_position, a_cell, a_noted, a_stack, a_before, a_shown, a_gType, a_gTaken, a_gWaiting, a_kCount, a_gCursor, a_gParked, a_kCursor, a_tAt, a_tDue, a_wAt, a_kAt, a_tTimes, a_wTimes, a_kTimes) (g_count, g_flushed, g_calls, g_drafted, g_top, g_time, b_isCut, b_removed, b_stream, b_type, b_from, b_by, b_value, b_version, b_on, b_call, b_draftType, b_draftValue, b_op, b_with, b_length, b_height, b_torn, b_stack, b_position, b_cells, b_noted, b_wanted, b_formed, b_cursor, b_parked, b_where, b_often, b_due, b_many, b_found) := es_mk h1 h2 h3 (by omega) h5 h6 h7 h8 h9 h10
  have out : (v1 < 0 ∨ nI 3 ≤ v1) → wpX_position (fun r => wpY_position (fun r' => r' = r ∧ i_Rel (k + 4) (f_held, f_records, f_flushed, f_summed, f_draft, f_drafted, f_seen, f_time, f_taken, a_at, a_version, a_value, a_originAt, a_stream, a_type, a_originBy, a_originCode, a_goesOn, a_events, a_cuts, a_firm, a_cutsGone, a_byVersion, a_byOrigin, a_upTo, a_draftType, a_draftValue, a_dOp, a_dC, a_height, a_clash, a_pOp, a_pSize, a_pC, a_position, a_cell, a_noted, a_stack, a_before, a_shown, a_gType, a_gTaken, a_gWaiting, a_kCount, a_gCursor, a_gParked, a_kCursor, a_tAt, a_tDue, a_wAt, a_kAt, a_tTimes, a_wTimes, a_kTimes) (g_count, g_flushed, g_calls, g_drafted, g_top, g_time, b_isCut, b_removed, b_stream, b_type, b_from, b_by, b_value, b_version, b_on, b_call, b_draftType, b_draftValue, b_op, b_with, b_length, b_height, b_torn, b_stack, b_position, b_cells, b_noted, b_wanted, b_formed, b_cursor, b_parked, b_where, b_often, b_due, b_many, b_found)) (g_count, g_flushed, g_calls, g_drafted, g_top, g_time, b_isCut, b_removed, b_stream, b_type, b_from, b_by, b_value, b_version, b_on, b_call, b_draftType, b_draftValue, b_op, b_with, b_length, b_height, b_torn, b_stack, b_position, b_cells, b_noted, b_wanted, b_formed, b_cursor, b_parked, b_where, b_often, b_due, b_many, b_found) v1) (f_held, f_records, f_flushed, f_summed, f_draft, f_drafted, f_seen, f_time, f_taken, a_at, a_version, a_value, a_originAt, a_stream, a_type, a_originBy, a_originCode, a_goesOn, a_events, a_cuts, a_firm, a_cutsGone, a_byVersion, a_byOrigin, a_upTo, a_draftType, a_draftValue, a_dOp, a_dC, a_height, a_clash, a_pOp, a_pSize, a_pC, a_position, a_cell, a_noted, a_stack, a_before, a_shown, a_gType, a_gTaken, a_gWaiting, a_kCount, a_gCursor, a_gParked, a_kCursor, a_tAt, a_tDue, a_wAt, a_kAt, a_tTimes, a_wTimes, a_kTimes) v1 := fun c => by
    unfold wpX_position
    refine es_am0 (n := 3) c (br_t rfl ?_)
    unfold wpY_position
    exact es_y_wo c (br_f (by decide) ⟨rfl, keep⟩)
  rcases pk_ix v1 (n := 3) (by decide) with c | c | ⟨p, hp, rfl⟩
  · exact out (Or.inl c)
  · exact out (Or.inr c)
  · obtain ⟨q1, q2, q3, q4⟩ := h6
    obtain ⟨n, hn, e1, e2, hw⟩ := q4 p hp
    unfold wpX_position
    refine es_am1 (n := 3) hp (by decide) (br_f es_10 ⟨vp_in_nI hp (by decide), ?_⟩)
    rw [nI_clamp (show p < 2 ^ 31 by omega)]
    by_cases c : n = 0
    · subst c
      refine br_t e1 ?_
      unfold wpY_position
      exact es_y_w0 hp e2 (br_f (by decide) ⟨rfl, keep⟩)
    · have nz : ¬ nI n = 0 := nI_ne0 (by omega) (by omega)
      have nz' : ¬ a_pSize p = 0 := by rw [e1]; exact nz
      obtain ⟨-, P, K, g1, g2, -⟩ := h7 p hp nz'
      refine br_f nz' ⟨vp_in_nI (by omega) (by decide), ?_⟩
      unfold wpY_position
      refine es_y_w1 hp (by rw [e2]; exact nz) (br_t rfl ⟨vp_in_nI (by omega) (by decide), ?_⟩)
      rw [nI_clamp (show p < 2 ^ 31 by omega), g1, g2]
      exact ⟨rfl, keep⟩
theorem i_vc_cell {k : Nat} {u : SX} {v : SY} (I : i_Rel k u v) (hk : k + 4 ≤ 2048) (v1 : Int32) (v2 : Int32) (v3 : Int32) : wpX_cell (fun r => wpY_cell (fun r' => r' = r ∧ i_Rel (k + 4) u v) v v1 v2 v3) u v1 v2 v3 := by
  refine es_el (P := fun u v => wpX_cell (fun r => wpY_cell (fun r' => r' = r ∧ i_Rel (k + 4) u v) v v1 v2 v3) u v1 v2 v3) ?_ u v I
  intro f_held f_records f_flushed f_summed f_draft f_drafted f_seen f_time f_taken a_at a_version a_value a_originAt a_stream a_type a_originBy a_originCode a_goesOn a_events a_cuts a_firm a_cutsGone a_byVersion a_byOrigin a_draftType a_draftValue a_dOp a_dC a_height a_clash a_pOp a_pSize a_pC a_position a_cell a_noted a_stack a_before a_shown a_gType a_gTaken a_gWaiting a_kCount a_gCursor a_gParked a_kCursor a_tAt a_tDue a_wAt a_kAt a_tTimes a_wTimes a_kTimes a_upTo g_count g_flushed g_calls g_drafted g_top g_time b_isCut b_removed b_stream b_type b_from b_by b_value b_version b_on b_call b_draftType b_draftValue b_op b_with b_length b_height b_torn b_stack b_position b_cells b_noted b_wanted b_formed b_cursor b_parked b_where b_often b_due b_many b_found N F C L rm h1 h2 h3 h4 h5 h6 h7 h8 h9 h10
  show wpX_cell (fun r => wpY_cell (fun r' => r' = r ∧ i_Rel (k + 4) (f_held, f_records, f_flushed, f_summed, f_draft, f_drafted, f_seen, f_time, f_taken, a_at, a_version, a_value, a_originAt, a_stream, a_type, a_originBy, a_originCode, a_goesOn, a_events, a_cuts, a_firm, a_cutsGone, a_byVersion, a_byOrigin, a_upTo, a_draftType, a_draftValue, a_dOp, a_dC, a_height, a_clash, a_pOp, a_pSize, a_pC, a_position, a_cell, a_noted, a_stack, a_before, a_shown, a_gType, a_gTaken, a_gWaiting, a_kCount, a_gCursor, a_gParked, a_kCursor, a_tAt, a_tDue, a_wAt, a_kAt, a_tTimes, a_wTimes, a_kTimes) (g_count, g_flushed, g_calls, g_drafted, g_top, g_time, b_isCut, b_removed, b_stream, b_type, b_from, b_by, b_value, b_version, b_on, b_call, b_draftType, b_draftValue, b_op, b_with, b_length, b_height, b_torn, b_stack, b_position, b_cells, b_noted, b_wanted, b_formed, b_cursor, b_parked, b_where, b_often, b_due, b_many, b_found)) (g_count, g_flushed, g_calls, g_drafted, g_top, g_time, b_isCut, b_removed, b_stream, b_type, b_from, b_by, b_value, b_version, b_on, b_call, b_draftType, b_draftValue, b_op, b_with, b_length, b_height, b_torn, b_stack, b_position, b_cells, b_noted, b_wanted, b_formed, b_cursor, b_parked, b_where, b_often, b_due, b_many, b_found) v1 v2 v3) (f_held, f_records, f_flushed, f_summed, f_draft, f_drafted, f_seen, f_time, f_taken, a_at, a_version, a_value, a_originAt, a_stream, a_type, a_originBy, a_originCode, a_goesOn, a_events, a_cuts, a_firm, a_cutsGone, a_byVersion, a_byOrigin, a_upTo, a_draftType, a_draftValue, a_dOp, a_dC, a_height, a_clash, a_pOp, a_pSize, a_pC, a_position, a_cell, a_noted, a_stack, a_before, a_shown, a_gType, a_gTaken, a_gWaiting, a_kCount, a_gCursor, a_gParked, a_kCursor, a_tAt, a_tDue, a_wAt, a_kAt, a_tTimes, a_wTimes, a_kTimes) v1 v2 v3
  have keep : i_Rel (k + 4) (f_held, f_records, f_flushed, f_summed, f_draft, f_drafted, f_seen, f_time, f_taken, a_at, a_version, a_value, a_originAt, a_stream, a_type, a_originBy, a_originCode, a_goesOn, a_events, a_cuts, a_firm, a_cutsGone, a_byVersion, a_byOrigin, a_upTo, a_draftType, a_draftValue, a_dOp, a_dC, a_height, a_clash, a_pOp, a_pSize, a_pC, a_position, a_cell, a_noted, a_stack, a_before, a_shown, a_gType, a_gTaken, a_gWaiting, a_kCount, a_gCursor, a_gParked, a_kCursor, a_tAt, a_tDue, a_wAt, a_kAt, a_tTimes, a_wTimes, a_kTimes) (g_count, g_flushed, g_calls, g_drafted, g_top, g_time, b_isCut, b_removed, b_stream, b_type, b_from, b_by, b_value, b_version, b_on, b_call, b_draftType, b_draftValue, b_op, b_with, b_length, b_height, b_torn, b_stack, b_position, b_cells, b_noted, b_wanted, b_formed, b_cursor, b_parked, b_where, b_often, b_due, b_many, b_found) := es_mk h1 h2 h3 (by omega) h5 h6 h7 h8 h9 h10
  have am : ∀ {x : Int32} {n : Nat} {post : Int32 → Prop}, (x < 0 ∨ nI n ≤ x) → post 0 → wpX_among post x (nI n) := es_am0
  unfold wpX_cell
  have hY0 : (v1 < 0 ∨ nI 3 ≤ v1) ∨ (v2 < 0 ∨ nI 5 ≤ v2) ∨ (v3 < 0 ∨ nI 2 ≤ v3) → wpY_cell (fun r' => r' = 0 ∧ i_Rel (k + 4) (f_held, f_records, f_flushed, f_summed, f_draft, f_drafted, f_seen, f_time, f_taken, a_at, a_version, a_value, a_originAt, a_stream, a_type, a_originBy, a_originCode, a_goesOn, a_events, a_cuts, a_firm, a_cutsGone, a_byVersion, a_byOrigin, a_upTo, a_draftType, a_draftValue, a_dOp, a_dC, a_height, a_clash, a_pOp, a_pSize, a_pC, a_position, a_cell, a_noted, a_stack, a_before, a_shown, a_gType, a_gTaken, a_gWaiting, a_kCount, a_gCursor, a_gParked, a_kCursor, a_tAt, a_tDue, a_wAt, a_kAt, a_tTimes, a_wTimes, a_kTimes) (g_count, g_flushed, g_calls, g_drafted, g_top, g_time, b_isCut, b_removed, b_stream, b_type, b_from, b_by, b_value, b_version, b_on, b_call, b_draftType, b_draftValue, b_op, b_with, b_length, b_height, b_torn, b_stack, b_position, b_cells, b_noted, b_wanted, b_formed, b_cursor, b_parked, b_where, b_often, b_due, b_many, b_found)) (g_count, g_flushed, g_calls, g_drafted, g_top, g_time, b_isCut, b_removed, b_stream, b_type, b_from, b_by, b_value, b_version, b_on, b_call, b_draftType, b_draftValue, b_op, b_with, b_length, b_height, b_torn, b_stack, b_position, b_cells, b_noted, b_wanted, b_formed, b_cursor, b_parked, b_where, b_often, b_due, b_many, b_found) v1 v2 v3 := fun h => by
    unfold wpY_cell
    rcases pk_ix v1 (n := 3) (by decide) with c | c | ⟨p, hp, rfl⟩
    · exact es_y_wo (Or.inl c) (br_f (by decide) ⟨rfl, keep⟩)
    · exact es_y_wo (Or.inr c) (br_f (by decide) ⟨rfl, keep⟩)
    · have h := h.resolve_left (fun z => by
        rcases z with z | z
        · exact nI_pos (show p < 2 ^ 31 by omega) z
        · exact nI_ge hp (by decide) z)
      obtain ⟨q1, q2, q3, q4⟩ := h6
      obtain ⟨n, hn, e1, e2, hw⟩ := q4 p hp
      by_cases c : n = 0
      · subst c
        exact es_y_w0 hp e2 (br_f (by decide) ⟨rfl, keep⟩)
      · refine es_y_w1 hp (by rw [e2]; exact nI_ne0 (by omega) (by omega)) (br_t rfl ?_)
        rcases pk_ix v2 (n := 5) (by decide) with c | c | ⟨s, hs, rfl⟩
        · exact es_out1 (n := 5) (Or.inl c) (br_f es_10 ⟨rfl, keep⟩)
        · exact es_out1 (n := 5) (Or.inr c) (br_f es_10 ⟨rfl, keep⟩)
        · have h := h.resolve_left (fun z => by
            rcases z with z | z
            · exact nI_pos (show s < 2 ^ 31 by omega) z
            · exact nI_ge hs (by decide) z)
          exact es_out0 (n := 5) hs (by decide) (br_t rfl (es_out1 (n := 2) h (br_f es_10 ⟨rfl, keep⟩)))
  rcases pk_ix v1 (n := 3) (by decide) with c | c | ⟨p, hp, rfl⟩
  · exact es_am0 (n := 3) (Or.inl c) (br_t rfl (hY0 (Or.inl (Or.inl c))))
  · exact es_am0 (n := 3) (Or.inr c) (br_t rfl (hY0 (Or.inl (Or.inr c))))
  refine es_am1 (n := 3) hp (by decide) (br_f es_10 ?_)
  rcases pk_ix v2 (n := 5) (by decide) with c | c | ⟨s, hs, rfl⟩
  · exact es_am0 (n := 5) (Or.inl c) (br_t rfl (hY0 (Or.inr (Or.inl (Or.inl c)))))
  · exact es_am0 (n := 5) (Or.inr c) (br_t rfl (hY0 (Or.inr (Or.inl (Or.inr c)))))
  refine es_am1 (n := 5) hs (by decide) (br_f es_10 ?_)
  rcases pk_ix v3 (n := 2) (by decide) with c | c | ⟨d, hd, rfl⟩
  · exact es_am0 (n := 2) (Or.inl c) (br_t rfl (hY0 (Or.inr (Or.inr (Or.inl c)))))
  · exact es_am0 (n := 2) (Or.inr c) (br_t rfl (hY0 (Or.inr (Or.inr (Or.inr c)))))
  refine es_am1 (n := 2) hd (by decide) (br_f es_10 ⟨vp_in_nI hp (by decide), ?_⟩)
  obtain ⟨q1, q2, q3, q4⟩ := h6
  obtain ⟨n, hn, e1, e2, hw⟩ := q4 p hp
  have ei : 10 * nI p + 2 * nI s + nI d = nI (10 * p + (2 * s + d)) := by
    rw [show (10 : Int32) * nI p = nI (10 * p) from pk_mul 10 p, show (2 : Int32) * nI s = nI (2 * s) from pk_mul 2 s, nI_add, nI_add, Nat.add_assoc]
  rw [ei, nI_clamp (show p < 2 ^ 31 by omega), nI_clamp (show 10 * p + (2 * s + d) < 2 ^ 31 by omega)]
  by_cases c : n = 0
  · subst c
    refine br_t e1 ?_
    unfold wpY_cell
    exact es_y_w0 hp e2 (br_f (by decide) ⟨rfl, keep⟩)
  · have nz : ¬ nI n = 0 := nI_ne0 (by omega) (by omega)
    have nz' : ¬ a_pSize p = 0 := by rw [e1]; exact nz
    obtain ⟨-, P, K, -, -, -, -, -, -, -, -, g, -⟩ := h7 p hp nz'
    refine br_f nz' ⟨vp_in_nI (by omega) (by decide), ?_⟩
    unfold wpY_cell
    refine es_y_w1 hp (by rw [e2]; exact nz) (br_t rfl (es_out0 (n := 5) hs (by decide) (br_t rfl (es_out0 (n := 2) hd (by decide) (br_t rfl ?_)))))
    rw [ei, nI_clamp (show 10 * p + (2 * s + d) < 2 ^ 31 by omega)]
    exact ⟨vp_in_nI (by omega) (by decide), (g (2 * s + d) (by omega)).1, keep⟩
theorem i_vc_found {k : Nat} {u : SX} {v : SY} (I : i_Rel k u v) (hk : k + 4 ≤ 2048) (v1 : Int32) : wpX_found (fun r => wpY_found (fun r' => r' = r ∧ i_Rel (k + 4) u v) v v1) u v1 := by
  refine es_el (P := fun u v => wpX_found (fun r => wpY_found (fun r' => r' = r ∧ i_Rel (k + 4) u v) v v1) u v1) ?_ u v I
  intro f_held f_records f_flushed f_summed f_draft f_drafted f_seen f_time f_taken a_at a_version a_value a_originAt a_stream a_type a_originBy a_originCode a_goesOn a_events a_cuts a_firm a_cutsGone a_byVersion a_byOrigin a_draftType a_draftValue a_dOp a_dC a_height a_clash a_pOp a_pSize a_pC a_position a_cell a_noted a_stack a_before a_shown a_gType a_gTaken a_gWaiting a_kCount a_gCursor a_gParked a_kCursor a_tAt a_tDue a_wAt a_kAt a_tTimes a_wTimes a_kTimes a_upTo g_count g_flushed g_calls g_drafted g_top g_time b_isCut b_removed b_stream b_type b_from b_by b_value b_version b_on b_call b_draftType b_draftValue b_op b_with b_length b_height b_torn b_stack b_position b_cells b_noted b_wanted b_formed b_cursor b_parked b_where b_often b_due b_many b_found N F C L rm h1 h2 h3 h4 h5 h6 h7 h8 h9 h10
  show wpX_found (fun r => wpY_found (fun r' => r' = r ∧ i_Rel (k + 4) (f_held, f_records, f_flushed, f_summed, f_draft, f_drafted, f_seen, f_time, f_taken, a_at, a_version, a_value, a_originAt, a_stream, a_type, a_originBy, a_originCode, a_goesOn, a_events, a_cuts, a_firm, a_cutsGone, a_byVersion, a_byOrigin, a_upTo, a_draftType, a_draftValue, a_dOp, a_dC, a_height, a_clash, a_pOp, a_pSize, a_pC, a_position, a_cell, a_noted, a_stack, a_before, a_shown, a_gType, a_gTaken, a_gWaiting, a_kCount, a_gCursor, a_gParked, a_kCursor, a_tAt, a_tDue, a_wAt, a_kAt, a_tTimes, a_wTimes, a_kTimes) (g_count, g_flushed, g_calls, g_drafted, g_top, g_time, b_isCut, b_removed, b_stream, b_type, b_from, b_by, b_value, b_version, b_on, b_call, b_draftType, b_draftValue, b_op, b_with, b_length, b_height, b_torn, b_stack, b_position, b_cells, b_noted, b_wanted, b_formed, b_cursor, b_parked, b_where, b_often, b_due, b_many, b_found)) (g_count, g_flushed, g_calls, g_drafted, g_top, g_time, b_isCut, b_removed, b_stream, b_type, b_from, b_by, b_value, b_version, b_on, b_call, b_draftType, b_draftValue, b_op, b_with, b_length, b_height, b_torn, b_stack, b_position, b_cells, b_noted, b_wanted, b_formed, b_cursor, b_parked, b_where, b_often, b_due, b_many, b_found) v1) (f_held, f_records, f_flushed, f_summed, f_draft, f_drafted, f_seen, f_time, f_taken, a_at, a_version, a_value, a_originAt, a_stream, a_type, a_originBy, a_originCode, a_goesOn, a_events, a_cuts, a_firm, a_cutsGone, a_byVersion, a_byOrigin, a_upTo, a_draftType, a_draftValue, a_dOp, a_dC, a_height, a_clash, a_pOp, a_pSize, a_pC, a_position, a_cell, a_noted, a_stack, a_before, a_shown, a_gType, a_gTaken, a_gWaiting, a_kCount, a_gCursor, a_gParked, a_kCursor, a_tAt, a_tDue, a_wAt, a_kAt, a_tTimes, a_wTimes, a_kTimes) v1
  have keep : i_Rel (k + 4) (f_held, f_records, f_flushed, f_summed, f_draft, f_drafted, f_seen, f_time, f_taken, a_at, a_version, a_value, a_originAt, a_stream, a_type, a_originBy, a_originCode, a_goesOn, a_events, a_cuts, a_firm, a_cutsGone, a_byVersion, a_byOrigin, a_upTo, a_draftType, a_draftValue, a_dOp, a_dC, a_height, a_clash, a_pOp, a_pSize, a_pC, a_position, a_cell, a_noted, a_stack, a_before, a_shown, a_gType, a_gTaken, a_gWaiting, a_kCount, a_gCursor, a_gParked, a_kCursor, a_tAt, a_tDue, a_wAt, a_kAt, a_tTimes, a_wTimes, a_kTimes) (g_count, g_flushed, g_calls, g_drafted, g_top, g_time, b_isCut, b_removed, b_stream, b_type, b_from, b_by, b_value, b_version, b_on, b_call, b_draftType, b_draftValue, b_op, b_with, b_length, b_height, b_torn, b_stack, b_position, b_cells, b_noted, b_wanted, b_formed, b_cursor, b_parked, b_where, b_often, b_due, b_many, b_found) := es_mk h1 h2 h3 (by omega) h5 h6 h7 h8 h9 h10
  have out : (v1 < 0 ∨ nI 6 ≤ v1) → wpY_found (fun r' => r' = 0 ∧ i_Rel (k + 4) (f_held, f_records, f_flushed, f_summed, f_draft, f_drafted, f_seen, f_time, f_taken, a_at, a_version, a_value, a_originAt, a_stream, a_type, a_originBy, a_originCode, a_goesOn, a_events, a_cuts, a_firm, a_cutsGone, a_byVersion, a_byOrigin, a_upTo, a_draftType, a_draftValue, a_dOp, a_dC, a_height, a_clash, a_pOp, a_pSize, a_pC, a_position, a_cell, a_noted, a_stack, a_before, a_shown, a_gType, a_gTaken, a_gWaiting, a_kCount, a_gCursor, a_gParked, a_kCursor, a_tAt, a_tDue, a_wAt, a_kAt, a_tTimes, a_wTimes, a_kTimes) (g_count, g_flushed, g_calls, g_drafted, g_top, g_time, b_isCut, b_removed, b_stream, b_type, b_from, b_by, b_value, b_version, b_on, b_call, b_draftType, b_draftValue, b_op, b_with, b_length, b_height, b_torn, b_stack, b_position, b_cells, b_noted, b_wanted, b_formed, b_cursor, b_parked, b_where, b_often, b_due, b_many, b_found)) (g_count, g_flushed, g_calls, g_drafted, g_top, g_time, b_isCut, b_removed, b_stream, b_type, b_from, b_by, b_value, b_version, b_on, b_call, b_draftType, b_draftValue, b_op, b_with, b_length, b_height, b_torn, b_stack, b_position, b_cells, b_noted, b_wanted, b_formed, b_cursor, b_parked, b_where, b_often, b_due, b_many, b_found) v1 := fun c => by
    unfold wpY_found
    exact es_out1 (n := 6) c (br_f es_10 ⟨rfl, keep⟩)
  unfold wpX_found
  rcases h9 with ⟨hs, hf⟩ | ⟨hs, hf⟩
  · refine br_t hs ?_
    rcases pk_ix v1 (n := 6) (by decide) with c | c | ⟨j, hj, rfl⟩
    · exact out (Or.inl c)
    · exact out (Or.inr c)
    · unfold wpY_found
      refine es_out0 (n := 6) hj (by decide) (br_t rfl ⟨vp_in_nI hj (by decide), ?_⟩)
      rw [nI_clamp (show j < 2 ^ 31 by omega)]
      exact ⟨hf j hj, keep⟩
  · refine br_f hs ?_
    rcases pk_ix v1 (n := 6) (by decide) with c | c | ⟨j, hj, rfl⟩
    · exact es_am0 (n := 6) (Or.inl c) (br_t rfl (out (Or.inl c)))
    · exact es_am0 (n := 6) (Or.inr c) (br_t rfl (out (Or.inr c)))
    · refine es_am1 (n := 6) hj (by decide) (br_f es_10 ⟨vp_in_nI hj (by decide), ?_⟩)
      unfold wpY_found
      refine es_out0 (n := 6) hj (by decide) (br_t rfl ⟨vp_in_nI hj (by decide), ?_⟩)
      rw [nI_clamp (show j < 2 ^ 31 by omega)]
      exact ⟨hf j hj, keep⟩
theorem i_vc_version {k : Nat} {u : SX} {v : SY} (I : i_Rel k u v) (hk : k + 4 ≤ 2048) (v1 : Int32) : wpX_version (fun r => wpY_version (fun r' => r' = r ∧ i_Rel (k + 4) u v) v v1) u v1 := by
  refine es_el (P := fun u v => wpX_version (fun r => wpY_version (fun r' => r' = r ∧ i_Rel (k + 4) u v) v v1) u v1) ?_ u v I
  intro f_held f_records f_flushed f_summed f_draft f_drafted f_seen f_time f_taken a_at a_version a_value a_originAt a_stream a_type a_originBy a_originCode a_goesOn a_events a_cuts a_firm a_cutsGone a_byVersion a_byOrigin a_draftType a_draftValue a_dOp a_dC a_height a_clash a_pOp a_pSize a_pC a_position a_cell a_noted a_stack a_before a_shown a_gType a_gTaken a_gWaiting a_kCount a_gCursor a_gParked a_kCursor a_tAt a_tDue a_wAt a_kAt a_tTimes a_wTimes a_kTimes a_upTo g_count g_flushed g_calls g_drafted g_top g_time b_isCut b_removed b_stream b_type b_from b_by b_value b_version b_on b_call b_draftType b_draftValue b_op b_with b_length b_height b_torn b_stack b_position b_cells b_noted b_wanted b_formed b_cursor b_parked b_where b_often b_due b_many b_found N F C L rm h1 h2 h3 h4 h5 h6 h7 h8 h9 h10
  show wpX_version (fun r => wpY_version (fun r' => r' = r ∧ i_Rel (k + 4) (f_held, f_records, f_flushed, f_summed, f_draft, f_drafted, f_seen, f_time, f_taken, a_at, a_version, a_value, a_originAt, a_stream, a_type, a_originBy, a_originCode, a_goesOn, a_events, a_cuts, a_firm, a_cutsGone, a_byVersion, a_byOrigin, a_upTo, a_draftType, a_draftValue, a_dOp, a_dC, a_height, a_clash, a_pOp, a_pSize, a_pC, a_position, a_cell, a_noted, a_stack, a_before, a_shown, a_gType, a_gTaken, a_gWaiting, a_kCount, a_gCursor, a_gParked, a_kCursor, a_tAt, a_tDue, a_wAt, a_kAt, a_tTimes, a_wTimes, a_kTimes) (g_count, g_flushed, g_calls, g_drafted, g_top, g_time, b_isCut, b_removed, b_stream, b_type, b_from, b_by, b_value, b_version, b_on, b_call, b_draftType, b_draftValue, b_op, b_with, b_length, b_height, b_torn, b_stack, b_position, b_cells, b_noted, b_wanted, b_formed, b_cursor, b_parked, b_where, b_often, b_due, b_many, b_found)) (g_count, g_flushed, g_calls, g_drafted, g_top, g_time, b_isCut, b_removed, b_stream, b_type, b_from, b_by, b_value, b_version, b_on, b_call, b_draftType, b_draftValue, b_op, b_with, b_length, b_height, b_torn, b_stack, b_position, b_cells, b_noted, b_wanted, b_formed, b_cursor, b_parked, b_where, b_often, b_due, b_many, b_found) v1) (f_held, f_records, f_flushed, f_summed, f_draft, f_drafted, f_seen, f_time, f_taken, a_at, a_version, a_value, a_originAt, a_stream, a_type, a_originBy, a_originCode, a_goesOn, a_events, a_cuts, a_firm, a_cutsGone, a_byVersion, a_byOrigin, a_upTo, a_draftType, a_draftValue, a_dOp, a_dC, a_height, a_clash, a_pOp, a_pSize, a_pC, a_position, a_cell, a_noted, a_stack, a_before, a_shown, a_gType, a_gTaken, a_gWaiting, a_kCount, a_gCursor, a_gParked, a_kCursor, a_tAt, a_tDue, a_wAt, a_kAt, a_tTimes, a_wTimes, a_kTimes) v1
  have keep : i_Rel (k + 4) (f_held, f_records, f_flushed, f_summed, f_draft, f_drafted, f_seen, f_time, f_taken, a_at, a_version, a_value, a_originAt, a_stream, a_type, a_originBy, a_originCode, a_goesOn, a_events, a_cuts, a_firm, a_cutsGone, a_byVersion, a_byOrigin, a_upTo, a_draftType, a_draftValue, a_dOp, a_dC, a_height, a_clash, a_pOp, a_pSize, a_pC, a_position, a_cell, a_noted, a_stack, a_before, a_shown, a_gType, a_gTaken, a_gWaiting, a_kCount, a_gCursor, a_gParked, a_kCursor, a_tAt, a_tDue, a_wAt, a_kAt, a_tTimes, a_wTimes, a_kTimes) (g_count, g_flushed, g_calls, g_drafted, g_top, g_time, b_isCut, b_removed, b_stream, b_type, b_from, b_by, b_value, b_version, b_on, b_call, b_draftType, b_draftValue, b_op, b_with, b_length, b_height, b_torn, b_stack, b_position, b_cells, b_noted, b_wanted, b_formed, b_cursor, b_parked, b_where, b_often, b_due, b_many, b_found) := es_mk h1 h2 h3 (by omega) h5 h6 h7 h8 h9 h10
  have out : (v1 < 0 ∨ nI 5 ≤ v1) → wpX_version (fun r => wpY_version (fun r' => r' = r ∧ i_Rel (k + 4) (f_held, f_records, f_flushed, f_summed, f_draft, f_drafted, f_seen, f_time, f_taken, a_at, a_version, a_value, a_originAt, a_stream, a_type, a_originBy, a_originCode, a_goesOn, a_events, a_cuts, a_firm, a_cutsGone, a_byVersion, a_byOrigin, a_upTo, a_draftType, a_draftValue, a_dOp, a_dC, a_height, a_clash, a_pOp, a_pSize, a_pC, a_position, a_cell, a_noted, a_stack, a_before, a_shown, a_gType, a_gTaken, a_gWaiting, a_kCount, a_gCursor, a_gParked, a_kCursor, a_tAt, a_tDue, a_wAt, a_kAt, a_tTimes, a_wTimes, a_kTimes) (g_count, g_flushed, g_calls, g_drafted, g_top, g_time, b_isCut, b_removed, b_stream, b_type, b_from, b_by, b_value, b_version, b_on, b_call, b_draftType, b_draftValue, b_op, b_with, b_length, b_height, b_torn, b_stack, b_position, b_cells, b_noted, b_wanted, b_formed, b_cursor, b_parked, b_where, b_often, b_due, b_many, b_found)) (g_count, g_flushed, g_calls, g_drafted, g_top, g_time, b_isCut, b_removed, b_stream, b_type, b_from, b_by, b_value, b_version, b_on, b_call, b_draftType, b_draftValue, b_op, b_with, b_length, b_height, b_torn, b_stack, b_position, b_cells, b_noted, b_wanted, b_formed, b_cursor, b_parked, b_where, b_often, b_due, b_many, b_found) v1) (f_held, f_records, f_flushed, f_summed, f_draft, f_drafted, f_seen, f_time, f_taken, a_at, a_version, a_value, a_originAt, a_stream, a_type, a_originBy, a_originCode, a_goesOn, a_events, a_cuts, a_firm, a_cutsGone, a_byVersion, a_byOrigin, a_upTo, a_draftType, a_draftValue, a_dOp, a_dC, a_height, a_clash, a_pOp, a_pSize, a_pC, a_position, a_cell, a_noted, a_stack, a_before, a_shown, a_gType, a_gTaken, a_gWaiting, a_kCount, a_gCursor, a_gParked, a_kCursor, a_tAt, a_tDue, a_wAt, a_kAt, a_tTimes, a_wTimes, a_kTimes) v1 := fun c => by
    unfold wpX_version
    refine es_am0 (n := 5) c (br_t rfl ?_)
    unfold wpY_version
    exact es_out1 (n := 5) c (br_f es_10 ⟨rfl, keep⟩)
  rcases pk_ix v1 (n := 5) (by decide) with c | c | ⟨s, hs, rfl⟩
  · exact out (Or.inl c)
  · exact out (Or.inr c)
  · unfold wpX_version
    refine es_am1 (n := 5) hs (by decide) (br_f es_10 ⟨vp_in_nI hs (by decide), ?_⟩)
    obtain ⟨-, -, -, -, A, -⟩ := h1
    unfold wpY_version
    try dsimp only
    rw [nI_clamp (show s < 2 ^ 31 by omega), (A s hs).1]
    have h2' := h2
    obtain ⟨rfl, rfl, rfl, hr⟩ := h2
    exact es_out0 (n := 5) hs (by decide) (br_t rfl (es_y_events h2' h3 hs (Nat.le_refl N) ⟨rfl, keep⟩))
end ES11
end
section
/-! rows of the projections: copyState; note -/
section ES12
def es_mv (f : Nat → Int32) (a b k : Nat) : Nat → Int32 := fun j => if b ≤ j ∧ j < b + k then f (a + (j - b)) else f j
theorem es_mv_0 (f : Nat → Int32) (a b : Nat) : es_mv f a b 0 = f := by
  funext j
  unfold es_mv
  rw [if_neg (by omega)]
theorem es_mv_s {f : Nat → Int32} {a b k : Nat} (h : a + k < b ∨ b + k ≤ a) : upd (es_mv f a b k) (b + k) (es_mv f a b k (a + k)) = es_mv f a b (k + 1) := by
  have e : es_mv f a b k (a + k) = f (a + k) := by unfold es_mv; rw [if_neg (by omega)]
  rw [e]
  funext j
  by_cases c : j = b + k
  · subst c
    rw [pk_us]
    unfold es_mv
    rw [if_pos (by omega)]
    congr 1
    omega
  · rw [pk_un c]
    unfold es_mv
    by_cases c2 : b ≤ j ∧ j < b + k
    · rw [if_pos c2, if_pos (by omega)]
    · rw [if_neg c2, if_neg (by omega)]
theorem es_mv_i {f : Nat → Int32} {a b n k : Nat} (h : k < n) : es_mv f a b n (b + k) = f (a + k) := by
  unfold es_mv
  rw [if_pos (by omega)]
  congr 1
  omega
theorem es_mv_o {f : Nat → Int32} {a b n j : Nat} (h : j < b ∨ b + n ≤ j) : es_mv f a b n j = f j := by
  unfold es_mv
  rw [if_neg (by omega)]
/-- row r now is row f r of before -/
def es_RW (pos cell pos' cell' : Nat → Int32) (f : Nat → Nat) : Prop := ∀ r, r < 9 → pos' r = pos (f r) ∧ ∀ k, k < 10 → cell' (10 * r + k) = cell (10 * f r + k)
theorem es_RW_id (pos cell : Nat → Int32) : es_RW pos cell pos cell (fun r => r) := fun _ _ => ⟨rfl, fun _ _ => rfl⟩
theorem es_RW_cg {pos cell pos' cell' : Nat → Int32} {f f' : Nat → Nat} (h : es_RW pos cell pos' cell' f) (e : ∀ r, r < 9 → f r = f' r) : es_RW pos cell pos' cell' f' := fun r hr => by
  rw [← e r hr]
  exact h r hr
theorem es_RW_at {pos cell pos' cell' : Nat → Int32} {f : Nat → Nat} (h : es_RW pos cell pos' cell' f) {r : Nat} (q : Nat) (hr : r < 9) (e : f r = q) : pos' r = pos q ∧ ∀ k, k < 10 → cell' (10 * r + k) = cell (10 * q + k) := by
  rw [← e]
  exact h r hr
theorem es_RW_cp {pos cell pos' cell' : Nat → Int32} {f : Nat → Nat} (h : es_RW pos cell pos' cell' f) {a b : Nat} (ha : a < 9) (hb : b < 9) : es_RW pos cell (upd pos' b (pos' a)) (es_mv cell' (10 * a) (10 * b) 10) (fun r => if r = b then f a else f r) := fun r hr => by
  dsimp only
  by_cases c : r = b
  · rw [if_pos c, c, pk_us]
    refine ⟨(h a ha).1, fun k hk => ?_⟩
    rw [es_mv_i hk]
    exact (h a ha).2 k hk
  · rw [if_neg c, pk_un c]
    refine ⟨(h r hr).1, fun k hk => ?_⟩
    rw [es_mv_o (by omega)]
    exact (h r hr).2 k hk
section X
variable {f_held f_records f_flushed f_summed f_draft f_drafted f_seen f_time f_taken : Int32} {a_at a_version a_value a_originAt a_stream a_type a_originBy a_originCode a_goesOn a_events a_cuts a_firm a_cutsGone a_byVersion a_byOrigin a_draftType a_draftValue a_dOp a_dC a_height a_clash a_pOp a_pSize a_pC a_position a_cell a_noted a_stack a_before a_shown a_gType a_gTaken a_gWaiting a_kCount a_gCursor a_gParked a_kCursor a_tAt a_tDue a_wAt a_kAt a_tTimes a_wTimes a_kTimes : Nat → Int32} {a_upTo : Nat → Int64}
theorem es_x_cs14 {a b : Nat} (ha : a < 9) (hb : b < 9) (hab : a ≠ b) (c0 : Nat → Int32) {post : SX → Prop} (hp : post (f_held, f_records, f_flushed, f_summed, f_draft, f_drafted, f_seen, f_time, f_taken, a_at, a_version, a_value, a_originAt, a_stream, a_type, a_originBy, a_originCode, a_goesOn, a_events, a_cuts, a_firm, a_cutsGone, a_byVersion, a_byOrigin, a_upTo, a_draftType, a_draftValue, a_dOp, a_dC, a_height, a_clash, a_pOp, a_pSize, a_pC, a_position, es_mv c0 (10 * a) (10 * b) 10, a_noted, a_stack, a_before, a_shown, a_gType, a_gTaken, a_gWaiting, a_kCount, a_gCursor, a_gParked, a_kCursor, a_tAt, a_tDue, a_wAt, a_kAt, a_tTimes, a_wTimes, a_kTimes)) :
    ∀ d k, k + d = 10 → wX_copyState_14 post (nI a) (nI b) f_held f_records f_flushed f_summed f_draft f_drafted f_seen f_time f_taken (d + 1) (nI k) a_at a_version a_value a_originAt a_stream a_type a_originBy a_originCode a_goesOn a_events a_cuts a_firm a_cutsGone a_byVersion a_byOrigin a_upTo a_draftType a_draftValue a_dOp a_dC a_height a_clash a_pOp a_pSize a_pC a_position (es_mv c0 (10 * a) (10 * b) k) a_noted a_stack a_before a_shown a_gType a_gTaken a_gWaiting a_kCount a_gCursor a_gParked a_kCursor a_tAt a_tDue a_wAt a_kAt a_tTimes a_wTimes a_kTimes := by
  intro d
  induction d with
  | zero =>
    intro k hk
    have e : k = 10 := by omega
    subst e
    exact br_t (nI_le (a := 10) (b := 10) (by omega) (by decide)) hp
  | succ d ih =>
    intro k hk
    have e1 : 10 * nI a + nI k = nI (10 * a + k) := by rw [show (10 : Int32) * nI a = nI (10 * a) from pk_mul 10 a, nI_add]
    have e2 : 10 * nI b + nI k = nI (10 * b + k) := by rw [show (10 : Int32) * nI b = nI (10 * b) from pk_mul 10 b, nI_add]
    have c1 : (nI (10 * a + k)).toNatClampNeg = 10 * a + k := nI_clamp (by omega)
    have c2 : (nI (10 * b + k)).toNatClampNeg = 10 * b + k := nI_clamp (by omega)
    have := ih (k + 1) (by omega)
    refine br_f (nI_ge (b := 10) (by omega) (by decide)) ?_
    rw [e1, e2, c1, c2, es_mv_s (by omega)]
    exact ⟨vp_in_nI (by omega) (by decide), vp_in_nI (by omega) (by decide), nm_e (nm_r (nI_1 k) this)⟩
theorem es_x_copy {a b : Nat} (ha : a < 9) (hb : b < 9) (hab : a ≠ b) {post : SX → Prop} (hp : post (f_held, f_records, f_flushed, f_summed, f_draft, f_drafted, f_seen, f_time, f_taken, a_at, a_version, a_value, a_originAt, a_stream, a_type, a_originBy, a_originCode, a_goesOn, a_events, a_cuts, a_firm, a_cutsGone, a_byVersion, a_byOrigin, a_upTo, a_draftType, a_draftValue, a_dOp, a_dC, a_height, a_clash, a_pOp, a_pSize, a_pC, upd a_position b (a_position a), es_mv a_cell (10 * a) (10 * b) 10, a_noted, a_stack, a_before, a_shown, a_gType, a_gTaken, a_gWaiting, a_kCount, a_gCursor, a_gParked, a_kCursor, a_tAt, a_tDue, a_wAt, a_kAt, a_tTimes, a_wTimes, a_kTimes)) : wpX_copyState post (f_held, f_records, f_flushed, f_summed, f_draft, f_drafted, f_seen, f_time, f_taken, a_at, a_version, a_value, a_originAt, a_stream, a_type, a_originBy, a_originCode, a_goesOn, a_events, a_cuts, a_firm, a_cutsGone, a_byVersion, a_byOrigin, a_upTo, a_draftType, a_draftValue, a_dOp, a_dC, a_height, a_clash, a_pOp, a_pSize, a_pC, a_position, a_cell, a_noted, a_stack, a_before, a_shown, a_gType, a_gTaken, a_gWaiting, a_kCount, a_gCursor, a_gParked, a_kCursor, a_tAt, a_tDue, a_wAt, a_kAt, a_tTimes, a_wTimes, a_kTimes) (nI a) (nI b) := by
  have := es_x_cs14 (f_held := f_held) (f_records := f_records) (f_flushed := f_flushed) (f_summed := f_summed) (f_draft := f_draft) (f_drafted := f_drafted) (f_seen := f_seen) (f_time := f_time) (f_taken := f_taken) (a_at := a_at) (a_version := a_version) (a_value := a_value) (a_originAt := a_originAt) (a_stream := a_stream) (a_type := a_type) (a_originBy := a_originBy) (a_originCode := a_originCode) (a_goesOn := a_goesOn) (a_events := a_events) (a_cuts := a_cuts) (a_firm := a_firm) (a_cutsGone := a_cutsGone) (a_byVersion := a_byVersion) (a_byOrigin := a_byOrigin) (a_upTo := a_upTo) (a_draftType := a_draftType) (a_draftValue := a_draftValue) (a_dOp := a_dOp) (a_dC := a_dC) (a_height := a_height) (a_clash := a_clash) (a_pOp := a_pOp) (a_pSize := a_pSize) (a_pC := a_pC) (a_position := upd a_position b (a_position a)) (a_noted := a_noted) (a_stack := a_stack) (a_before := a_before) (a_shown := a_shown) (a_gType := a_gType) (a_gTaken := a_gTaken) (a_gWaiting := a_gWaiting) (a_kCount := a_kCount) (a_gCursor := a_gCursor) (a_gParked := a_gParked) (a_kCursor := a_kCursor) (a_tAt := a_tAt) (a_tDue := a_tDue) (a_wAt := a_wAt) (a_kAt := a_kAt) (a_tTimes := a_tTimes) (a_wTimes := a_wTimes) (a_kTimes := a_kTimes) ha hb hab a_cell hp 10 0 (by omega)
  rw [es_mv_0, nI_0] at this
  unfold wpX_copyState
  try dsimp only
  rw [nI_clamp (show a < 2 ^ 31 by omega), nI_clamp (show b < 2 ^ 31 by omega)]
  exact ⟨vp_in_nI ha (by decide), vp_in_nI hb (by decide), nm_e ⟨_, this⟩⟩
theorem es_x_copyR {a b : Nat} (ha : a < 9) (hb : b < 9) (hab : a ≠ b) {pos cell : Nat → Int32} {f : Nat → Nat} (R : es_RW pos cell a_position a_cell f) {post : SX → Prop} (hp : ∀ pos' cell', es_RW pos cell pos' cell' (fun r => if r = b then f a else f r) → post (f_held, f_records, f_flushed, f_summed, f_draft, f_drafted, f_seen, f_time, f_taken, a_at, a_version, a_value, a_originAt, a_stream, a_type, a_originBy, a_originCode, a_goesOn, a_events, a_cuts, a_firm, a_cutsGone, a_byVersion, a_byOrigin, a_upTo, a_draftType, a_draftValue, a_dOp, a_dC, a_height, a_clash, a_pOp, a_pSize, a_pC, pos', cell', a_noted, a_stack, a_before, a_shown, a_gType, a_gTaken, a_gWaiting, a_kCount, a_gCursor, a_gParked, a_kCursor, a_tAt, a_tDue, a_wAt, a_kAt, a_tTimes, a_wTimes, a_kTimes)) : wpX_copyState post (f_held, f_records, f_flushed, f_summed, f_draft, f_drafted, f_seen, f_time, f_taken, a_at, a_version, a_value, a_originAt, a_stream, a_type, a_originBy, a_originCode, a_goesOn, a_events, a_cuts, a_firm, a_cutsGone, a_byVersion, a_byOrigin, a_upTo, a_draftType, a_draftValue, a_dOp, a_dC, a_height, a_clash, a_pOp, a_pSize, a_pC, a_position, a_cell, a_noted, a_stack, a_before, a_shown, a_gType, a_gTaken, a_gWaiting, a_kCount, a_gCursor, a_gParked, a_kCursor, a_tAt, a_tDue, a_wAt, a_kAt, a_tTimes, a_wTimes, a_kTimes) (nI a) (nI b) :=
  es_x_copy ha hb hab (hp _ _ (es_RW_cp R ha hb))
end X
section Y
variable {g_count g_flushed g_calls g_drafted g_top g_time : Int32} {b_isCut b_removed b_stream b_type b_from b_by b_value b_version b_on b_call b_draftType b_draftValue b_op b_with b_length b_height b_torn b_stack b_position b_cells b_noted b_wanted b_formed b_cursor b_parked b_where b_often b_due b_many b_found : Nat → Int32}
theorem es_y_cs14 {a b : Nat} (ha : a < 9) (hb : b < 9) (hab : a ≠ b) (c0 : Nat → Int32) {post : SY → Prop} (hp : post (g_count, g_flushed, g_calls, g_drafted, g_top, g_time, b_isCut, b_removed, b_stream, b_type, b_from, b_by, b_value, b_version, b_on, b_call, b_draftType, b_draftValue, b_op, b_with, b_length, b_height, b_torn, b_stack, b_position, es_mv c0 (10 * a) (10 * b) 10, b_noted, b_wanted, b_formed, b_cursor, b_parked, b_where, b_often, b_due, b_many, b_found)) :
    ∀ d k, k + d = 10 → wY_copyState_14 post (nI a) (nI b) g_count g_flushed g_calls g_drafted g_top g_time (d + 1) (nI k) b_isCut b_removed b_stream b_type b_from b_by b_value b_version b_on b_call b_draftType b_draftValue b_op b_with b_length b_height b_torn b_stack b_position (es_mv c0 (10 * a) (10 * b) k) b_noted b_wanted b_formed b_cursor b_parked b_where b_often b_due b_many b_found := by
  intro d
  induction d with
  | zero =>
    intro k hk
    have e : k = 10 := by omega
    subst e
    exact br_t (nI_le (a := 10) (b := 10) (by omega) (by decide)) hp
  | succ d ih =>
    intro k hk
    have e1 : 10 * nI a + nI k = nI (10 * a + k) := by rw [show (10 : Int32) * nI a = nI (10 * a) from pk_mul 10 a, nI_add]
    have e2 : 10 * nI b + nI k = nI (10 * b + k) := by rw [show (10 : Int32) * nI b = nI (10 * b) from pk_mul 10 b, nI_add]
    have c1 : (nI (10 * a + k)).toNatClampNeg = 10 * a + k := nI_clamp (by omega)
    have c2 : (nI (10 * b + k)).toNatClampNeg = 10 * b + k := nI_clamp (by omega)
    have := ih (k + 1) (by omega)
    refine br_f (nI_ge (b := 10) (by omega) (by decide)) ?_
    rw [e1, e2, c1, c2, es_mv_s (by omega)]
    exact ⟨vp_in_nI (by omega) (by decide), vp_in_nI (by omega) (by decide), nm_e (nm_r (nI_1 k) this)⟩
theorem es_y_copy {a b : Nat} (ha : a < 9) (hb : b < 9) (hab : a ≠ b) {post : SY → Prop} (hp : post (g_count, g_flushed, g_calls, g_drafted, g_top, g_time, b_isCut, b_removed, b_stream, b_type, b_from, b_by, b_value, b_version, b_on, b_call, b_draftType, b_draftValue, b_op, b_with, b_length, b_height, b_torn, b_stack, upd b_position b (b_position a), es_mv b_cells (10 * a) (10 * b) 10, b_noted, b_wanted, b_formed, b_cursor, b_parked, b_where, b_often, b_due, b_many, b_found)) : wpY_copyState post (g_count, g_flushed, g_calls, g_drafted, g_top, g_time, b_isCut, b_removed, b_stream, b_type, b_from, b_by, b_value, b_version, b_on, b_call, b_draftType, b_draftValue, b_op, b_with, b_length, b_height, b_torn, b_stack, b_position, b_cells, b_noted, b_wanted, b_formed, b_cursor, b_parked, b_where, b_often, b_due, b_many, b_found) (nI a) (nI b) := by
  have := es_y_cs14 (g_count := g_count) (g_flushed := g_flushed) (g_calls := g_calls) (g_drafted := g_drafted) (g_top := g_top) (g_time := g_time) (b_isCut := b_isCut) (b_removed := b_removed) (b_stream := b_stream) (b_type := b_type) (b_from := b_from) (b_by := b_by) (b_value := b_value) (b_version := b_version) (b_on := b_on) (b_call := b_call) (b_draftType := b_draftType) (b_draftValue := b_draftValue) (b_op := b_op) (b_with := b_with) (b_length := b_length) (b_height := b_height) (b_torn := b_torn) (b_stack := b_stack) (b_position := upd b_position b (b_position a)) (b_noted := b_noted) (b_wanted := b_wanted) (b_formed := b_formed) (b_cursor := b_cursor) (b_parked := b_parked) (b_where := b_where) (b_often := b_often) (b_due := b_due) (b_many := b_many) (b_found := b_found) ha hb hab b_cells hp 10 0 (by omega)
  rw [es_mv_0, nI_0] at this
  unfold wpY_copyState
  try dsimp only
  rw [nI_clamp (show a < 2 ^ 31 by omega), nI_clamp (show b < 2 ^ 31 by omega)]
  exact ⟨vp_in_nI ha (by decide), vp_in_nI hb (by decide), nm_e ⟨_, this⟩⟩
theorem es_y_copyR {a b : Nat} (ha : a < 9) (hb : b < 9) (hab : a ≠ b) {pos cell : Nat → Int32} {f : Nat → Nat} (R : es_RW pos cell b_position b_cells f) {post : SY → Prop} (hp : ∀ pos' cell', es_RW pos cell pos' cell' (fun r => if r = b then f a else f r) → post (g_count, g_flushed, g_calls, g_drafted, g_top, g_time, b_isCut, b_removed, b_stream, b_type, b_from, b_by, b_value, b_version, b_on, b_call, b_draftType, b_draftValue, b_op, b_with, b_length, b_height, b_torn, b_stack, pos', cell', b_noted, b_wanted, b_formed, b_cursor, b_parked, b_where, b_often, b_due, b_many, b_found)) : wpY_copyState post (g_count, g_flushed, g_calls, g_drafted, g_top, g_time, b_isCut, b_removed, b_stream, b_type, b_from, b_by, b_value, b_version, b_on, b_call, b_draftType, b_draftValue, b_op, b_with, b_length, b_height, b_torn, b_stack, b_position, b_cells, b_noted, b_wanted, b_formed, b_cursor, b_parked, b_where, b_often, b_due, b_many, b_found) (nI a) (nI b) :=
  es_y_copy ha hb hab (hp _ _ (es_RW_cp R ha hb))
end Y
theorem i_vc_note {k : Nat} {u : SX} {v : SY} (I : i_Rel k u v) (hk : k + 4 ≤ 2048) (v1 : Int32) : wpX_note (fun r u' => wpY_note (fun r' v' => r' = r ∧ i_Rel (k + 4) u' v') v v1) u v1 := by
  refine es_el (P := fun u v => wpX_note (fun r u' => wpY_note (fun r' v' => r' = r ∧ i_Rel (k + 4) u' v') v v1) u v1) ?_ u v I
  intro f_held f_records f_flushed f_summed f_draft f_drafted f_seen f_time f_taken a_at a_version a_value a_originAt a_stream a_type a_originBy a_originCode a_goesOn a_events a_cuts a_firm a_cutsGone a_byVersion a_byOrigin a_draftType a_draftValue a_dOp a_dC a_height a_clash a_pOp a_pSize a_pC a_position a_cell a_noted a_stack a_before a_shown a_gType a_gTaken a_gWaiting a_kCount a_gCursor a_gParked a_kCursor a_tAt a_tDue a_wAt a_kAt a_tTimes a_wTimes a_kTimes a_upTo g_count g_flushed g_calls g_drafted g_top g_time b_isCut b_removed b_stream b_type b_from b_by b_value b_version b_on b_call b_draftType b_draftValue b_op b_with b_length b_height b_torn b_stack b_position b_cells b_noted b_wanted b_formed b_cursor b_parked b_where b_often b_due b_many b_found N F C L rm h1 h2 h3 h4 h5 h6 h7 h8 h9 h10
  show wpX_note (fun r u' => wpY_note (fun r' v' => r' = r ∧ i_Rel (k + 4) u' v') (g_count, g_flushed, g_calls, g_drafted, g_top, g_time, b_isCut, b_removed, b_stream, b_type, b_from, b_by, b_value, b_version, b_on, b_call, b_draftType, b_draftValue, b_op, b_with, b_length, b_height, b_torn, b_stack, b_position, b_cells, b_noted, b_wanted, b_formed, b_cursor, b_parked, b_where, b_often, b_due, b_many, b_found) v1) (f_held, f_records, f_flushed, f_summed, f_draft, f_drafted, f_seen, f_time, f_taken, a_at, a_version, a_value, a_originAt, a_stream, a_type, a_originBy, a_originCode, a_goesOn, a_events, a_cuts, a_firm, a_cutsGone, a_byVersion, a_byOrigin, a_upTo, a_draftType, a_draftValue, a_dOp, a_dC, a_height, a_clash, a_pOp, a_pSize, a_pC, a_position, a_cell, a_noted, a_stack, a_before, a_shown, a_gType, a_gTaken, a_gWaiting, a_kCount, a_gCursor, a_gParked, a_kCursor, a_tAt, a_tDue, a_wAt, a_kAt, a_tTimes, a_wTimes, a_kTimes) v1
  have keep : i_Rel (k + 4) (f_held, f_records, f_flushed, f_summed, f_draft, f_drafted, f_seen, f_time, f_taken, a_at, a_version, a_value, a_originAt, a_stream, a_type, a_originBy, a_originCode, a_goesOn, a_events, a_cuts, a_firm, a_cutsGone, a_byVersion, a_byOrigin, a_upTo, a_draftType, a_draftValue, a_dOp, a_dC, a_height, a_clash, a_pOp, a_pSize, a_pC, a_position, a_cell, a_noted, a_stack, a_before, a_shown, a_gType, a_gTaken, a_gWaiting, a_kCount, a_gCursor, a_gParked, a_kCursor, a_tAt, a_tDue, a_wAt, a_kAt, a_tTimes, a_wTimes, a_kTimes) (g_count, g_flushed, g_calls, g_drafted, g_top, g_time, b_isCut, b_removed, b_stream, b_type, b_from, b_by, b_value, b_version, b_on, b_call, b_draftType, b_draftValue, b_op, b_with, b_length, b_height, b_torn, b_stack, b_position, b_cells, b_noted, b_wanted, b_formed, b_cursor, b_parked, b_where, b_often, b_due, b_many, b_found) := es_mk h1 h2 h3 (by omega) h5 h6 h7 h8 h9 h10
  have out : (v1 < 0 ∨ nI 3 ≤ v1) → wpX_note (fun r u' => wpY_note (fun r' v' => r' = r ∧ i_Rel (k + 4) u' v') (g_count, g_flushed, g_calls, g_drafted, g_top, g_time, b_isCut, b_removed, b_stream, b_type, b_from, b_by, b_value, b_version, b_on, b_call, b_draftType, b_draftValue, b_op, b_with, b_length, b_height, b_torn, b_stack, b_position, b_cells, b_noted, b_wanted, b_formed, b_cursor, b_parked, b_where, b_often, b_due, b_many, b_found) v1) (f_held, f_records, f_flushed, f_summed, f_draft, f_drafted, f_seen, f_time, f_taken, a_at, a_version, a_value, a_originAt, a_stream, a_type, a_originBy, a_originCode, a_goesOn, a_events, a_cuts, a_firm, a_cutsGone, a_byVersion, a_byOrigin, a_upTo, a_draftType, a_draftValue, a_dOp, a_dC, a_height, a_clash, a_pOp, a_pSize, a_pC, a_position, a_cell, a_noted, a_stack, a_before, a_shown, a_gType, a_gTaken, a_gWaiting, a_kCount, a_gCursor, a_gParked, a_kCursor, a_tAt, a_tDue, a_wAt, a_kAt, a_tTimes, a_wTimes, a_kTimes) v1 := fun c => by
    unfold wpX_note
    refine es_am0 (n := 3) c (br_t rfl ?_)
    unfold wpY_note
    exact es_y_wo c (br_f (by decide) ⟨rfl, keep⟩)
  rcases pk_ix v1 (n := 3) (by decide) with c | c | ⟨p, hp, rfl⟩
  · exact out (Or.inl c)
  · exact out (Or.inr c)
  · obtain ⟨q1, q2, q3, q4⟩ := h6
    obtain ⟨n, hn, e1, e2, hw⟩ := q4 p hp
    have hv : vp_in (nI p) 3 := vp_in_nI hp (by decide)
    have cp : (nI p).toNatClampNeg = p := nI_clamp (by omega)
    unfold wpX_note
    refine es_am1 (n := 3) hp (by decide) (br_f es_10 ⟨hv, ?_⟩)
    rw [cp]
    by_cases c : n = 0
    · subst c
      refine br_t e1 ?_
      unfold wpY_note
      exact es_y_w0 hp e2 (br_f (by decide) ⟨rfl, keep⟩)
    · have nz : ¬ nI n = 0 := nI_ne0 (by omega) (by omega)
      have nz' : ¬ a_pSize p = 0 := by rw [e1]; exact nz
      have e6 : 6 + nI p = nI (6 + p) := nI_add 6 p
      rw [e6]
      refine br_f nz' ⟨hv, nm_e (es_x_copyR (by omega) (by omega) (by omega) (es_RW_id a_position a_cell) (fun pos cell R => ⟨vp_in_nI (by omega) (by decide), ?_⟩))⟩
      unfold wpY_note
      try dsimp only
      rw [e6, cp]
      refine es_y_w1 hp (by rw [e2]; exact nz) (br_t rfl (es_y_copyR (by omega) (by omega) (by omega) (es_RW_id b_position b_cells) (fun pos' cell' R' => ⟨hv, nm_e ⟨vp_in_nI (by omega) (by decide), ?_, ?_⟩⟩)))
      · dsimp only
        have r1 := (es_RW_at R p (by omega) (if_neg (by omega))).1
        have r2 := (es_RW_at R' p (by omega) (if_neg (by omega))).1
        obtain ⟨-, P, K, g1, g2, -⟩ := h7 p hp nz'
        rw [r1, r2, g1, g2]
      · dsimp only
        refine es_mk h1 h2 h3 (by omega) h5 ⟨q1, q2, q3, q4⟩ (fun p' hp' hz => ?_) h8 h9 h10
        obtain ⟨f1, P, K, g1, g2, g3, g4, g5, g6, g7, g8, g9, g10⟩ := h7 p' hp' hz
        have ra := es_RW_at R p' (by omega) (if_neg (by omega))
        have rb := es_RW_at R (3 + p') (by omega) (if_neg (by omega))
        have ra' := es_RW_at R' p' (by omega) (if_neg (by omega))
        have rb' := es_RW_at R' (3 + p') (by omega) (if_neg (by omega))
        rw [ra.1, ra'.1, rb.1, rb'.1, es_z1]
        refine ⟨?_, P, K, g1, g2, g3, g4, g5, g6, g7, g8, fun k hk => ?_, fun hz' => ?_⟩
        · by_cases c2 : p' = p
          · rw [c2, pk_us, pk_us]
          · rw [pk_un c2, pk_un c2]; exact f1
        · rw [ra.2 k hk, ra'.2 k hk, rb.2 k hk, rb'.2 k hk]
          exact g9 k hk
        · by_cases c2 : p' = p
          · subst c2
            have rc := es_RW_at R p' (show 6 + p' < 9 by omega) (if_pos rfl)
            have rc' := es_RW_at R' p' (show 6 + p' < 9 by omega) (if_pos rfl)
            rw [rc.1, rc'.1]
            refine ⟨P, g1, g2, g6, Nat.le_refl _, fun k hk => ?_⟩
            rw [rc.2 k hk, rc'.2 k hk]
            exact (g9 k hk).1
          · rw [pk_un c2] at hz'
            have rc := es_RW_at R (6 + p') (by omega) (if_neg (by omega))
            have rc' := es_RW_at R' (6 + p') (by omega) (if_neg (by omega))
            obtain ⟨T, t1, t2, t3, t4, t5⟩ := g10 hz'
            rw [rc.1, rc'.1]
            refine ⟨T, t1, t2, t3, t4, fun k hk => ?_⟩
            rw [rc.2 k hk, rc'.2 k hk]
            exact t5 k hk
end ES12
end
section
/-! low, size, group -/
section ES13
def es_LG (a_gType a_kCursor a_kCount a_kAt : Nat → Int32) (lo g : Nat) : Prop := a_gType g = -1 ∨ (nI lo ≤ a_kCursor g ∧ ∀ j nk, nk ≤ 6 → a_kCount g = nI nk → j < nk → nI lo ≤ a_kAt (6 * g + j))
def es_LP (a_pSize a_position : Nat → Int32) (lo p : Nat) : Prop := a_pSize p = 0 ∨ nI lo ≤ a_position (3 + p)
def es_m2 (nk k0 a : Nat) : Nat := if nk = 0 then a else if a ≤ k0 then a else k0
theorem es_m2_le (nk k0 a : Nat) : es_m2 nk k0 a ≤ a := by
  unfold es_m2
  by_cases c : nk = 0
  · rw [if_pos c]; omega
  · rw [if_neg c]
    by_cases c2 : a ≤ k0
    · rw [if_pos c2]; omega
    · rw [if_neg c2]; omega
theorem es_m2_k {nk k0 a : Nat} (h : nk ≠ 0) : es_m2 nk k0 a ≤ k0 := by
  unfold es_m2
  rw [if_neg h]
  by_cases c2 : a ≤ k0
  · rw [if_pos c2]; omega
  · rw [if_neg c2]; omega
theorem es_srt {kA : Nat → Int32} {b nk : Nat} (h : ∀ j, j + 1 < nk → kA (b + j) ≤ kA (b + (j + 1))) : ∀ j, j < nk → kA b ≤ kA (b + j)
  | 0, _ => Int32.le_refl _
  | j + 1, hj => Int32.le_trans (es_srt h j (by omega)) (h j hj)
theorem es_6g (g : Nat) : 6 * nI g = nI (6 * g) := pk_mul 6 g
theorem es_8g (g : Nat) : 8 * nI g = nI (8 * g) := pk_mul 8 g
variable {f_held f_records f_flushed f_summed f_draft f_drafted f_seen f_time f_taken : Int32} {a_at a_version a_value a_originAt a_stream a_type a_originBy a_originCode a_goesOn a_events a_cuts a_firm a_cutsGone a_byVersion a_byOrigin a_draftType a_draftValue a_dOp a_dC a_height a_clash a_pOp a_pSize a_pC a_position a_cell a_noted a_stack a_before a_shown a_gType a_gTaken a_gWaiting a_kCount a_gCursor a_gParked a_kCursor a_tAt a_tDue a_wAt a_kAt a_tTimes a_wTimes a_kTimes : Nat → Int32} {a_upTo : Nat → Int64} {g_count g_flushed g_calls g_drafted g_top g_time : Int32} {b_isCut b_removed b_stream b_type b_from b_by b_value b_version b_on b_call b_draftType b_draftValue b_op b_with b_length b_height b_torn b_stack b_position b_cells b_noted b_wanted b_formed b_cursor b_parked b_where b_often b_due b_many b_found : Nat → Int32} {N F C : Nat} {L : Nat → es_Ev} {rm : Nat → Bool}
theorem es_x_low84 {g nk k0 a : Nat} (hg : g < 2) (hn : nk ≤ 6) (hk : k0 < 2 ^ 31) (ha : a < 2 ^ 31) (e1 : a_kCount g = nI nk) (e2 : nk ≠ 0 → a_kAt (6 * g) = nI k0) {post : Int32 → Prop} {J : Int32 → Int32 → Prop} (hJ : J (nI (es_m2 nk k0 a)) (nI (g + 1))) : wX_low_84 post J (nI a) (nI g) f_held f_records f_flushed f_summed f_draft f_drafted f_seen f_time f_taken a_at a_version a_value a_originAt a_stream a_type a_originBy a_originCode a_goesOn a_events a_cuts a_firm a_cutsGone a_byVersion a_byOrigin a_upTo a_draftType a_draftValue a_dOp a_dC a_height a_clash a_pOp a_pSize a_pC a_position a_cell a_noted a_stack a_before a_shown a_gType a_gTaken a_gWaiting a_kCount a_gCursor a_gParked a_kCursor a_tAt a_tDue a_wAt a_kAt a_tTimes a_wTimes a_kTimes := by
  have hv : vp_in (nI g) 2 := vp_in_nI hg (by decide)
  have hv6 : vp_in (nI (6 * g)) 12 := vp_in_nI (by omega) (by decide)
  unfold wX_low_84
  try dsimp only
  rw [es_6g, nI_clamp (show g < 2 ^ 31 by omega), nI_clamp (show 6 * g < 2 ^ 31 by omega), e1]
  refine ⟨hv, ?_⟩
  by_cases c : nk = 0
  · unfold es_m2 at hJ
    rw [if_pos c] at hJ
    subst c
    exact br_t (nI_le (a := 0) (b := 0) (by omega) (by decide)) (nm_r (nI_1 g) hJ)
  · unfold es_m2 at hJ
    rw [if_neg c] at hJ
    refine br_f (nI_nle (by omega) (by omega)) ⟨hv6, ?_⟩
    rw [e2 c]
    refine pk_le a k0 (fun z => ?_) (fun z => ⟨hv6, nm_e ?_⟩)
    · rw [if_pos z] at hJ
      exact nm_r (nI_1 g) hJ
    · rw [if_neg (by omega)] at hJ
      exact nm_r (nI_1 g) hJ
theorem es_y_low88 {g nk k0 a : Nat} (hg : g < 2) (hn : nk ≤ 6) (hk : k0 < 2 ^ 31) (ha : a < 2 ^ 31) (e1 : b_many (4 + g) = nI nk) (e2 : nk ≠ 0 → b_where (32 + 8 * g) = nI k0) {post : Int32 → Prop} {J : Int32 → Int32 → Prop} (hJ : J (nI (es_m2 nk k0 a)) (nI (g + 1))) : wY_low_88 post J (nI a) (nI g) g_count g_flushed g_calls g_drafted g_top g_time b_isCut b_removed b_stream b_type b_from b_by b_value b_version b_on b_call b_draftType b_draftValue b_op b_with b_length b_height b_torn b_stack b_position b_cells b_noted b_wanted b_formed b_cursor b_parked b_where b_often b_due b_many b_found := by
  have h4 : 4 + nI g = nI (4 + g) := nI_add 4 g
  have h32 : 32 + nI (8 * g) = nI (32 + 8 * g) := nI_add 32 (8 * g)
  have hv : vp_in (nI (4 + g)) 6 := vp_in_nI (by omega) (by decide)
  have hv6 : vp_in (nI (32 + 8 * g)) 64 := vp_in_nI (by omega) (by decide)
  unfold wY_low_88
  try dsimp only
  rw [es_8g, h4, h32, nI_clamp (show 4 + g < 2 ^ 31 by omega), nI_clamp (show 32 + 8 * g < 2 ^ 31 by omega), e1]
  refine ⟨hv, ?_⟩
  by_cases c : nk = 0
  · unfold es_m2 at hJ
    rw [if_pos c] at hJ
    subst c
    exact br_t (nI_le (a := 0) (b := 0) (by omega) (by decide)) (nm_r (nI_1 g) hJ)
  · unfold es_m2 at hJ
    rw [if_neg c] at hJ
    refine br_f (nI_nle (by omega) (by omega)) ⟨hv6, ?_⟩
    rw [e2 c]
    refine pk_le a k0 (fun z => ?_) (fun z => ⟨hv6, nm_e ?_⟩)
    · rw [if_pos z] at hJ
      exact nm_r (nI_1 g) hJ
    · rw [if_neg (by omega)] at hJ
      exact nm_r (nI_1 g) hJ
theorem es_low50 (hF : F ≤ 2000) (hR : ∀ g, g < 2 → es_GR N F rm a_gType a_gTaken a_gWaiting a_kCount a_gCursor a_gParked a_kCursor a_tAt a_tDue a_wAt a_kAt a_tTimes a_wTimes a_kTimes b_wanted b_formed b_cursor b_parked b_where b_often b_due b_many g) :
    ∀ d g, g + d = 2 → ∀ a, a ≤ 2000 → ∃ lo, lo ≤ a ∧ (∀ g', g ≤ g' → g' < 2 → es_LG a_gType a_kCursor a_kCount a_kAt lo g') ∧ (∀ post : Int32 → Prop, post (nI lo) → wX_low_50 post f_held f_records f_flushed f_summed f_draft f_drafted f_seen f_time f_taken a_at a_version a_value a_originAt a_stream a_type a_originBy a_originCode a_goesOn a_events a_cuts a_firm a_cutsGone a_byVersion a_byOrigin a_upTo a_draftType a_draftValue a_dOp a_dC a_height a_clash a_pOp a_pSize a_pC a_position a_cell a_noted a_stack a_before a_shown a_gType a_gTaken a_gWaiting a_kCount a_gCursor a_gParked a_kCursor a_tAt a_tDue a_wAt a_kAt a_tTimes a_wTimes a_kTimes (d + 1) (nI a) (nI g)) ∧ (∀ post : Int32 → Prop, post (nI lo) → wY_low_50 post g_count g_flushed g_calls g_drafted g_top g_time b_isCut b_removed b_stream b_type b_from b_by b_value b_version b_on b_call b_draftType b_draftValue b_op b_with b_length b_height b_torn b_stack b_position b_cells b_noted b_wanted b_formed b_cursor b_parked b_where b_often b_due b_many b_found (d + 1) (nI a) (nI g)) := by
  intro d
  induction d with
  | zero =>
    intro g hg a ha
    have e : g = 2 := by omega
    subst e
    exact ⟨a, Nat.le_refl _, fun g' h h' => absurd h' (by omega), fun post hp => br_t (nI_le (a := 2) (b := 2) (by omega) (by decide)) hp, fun post hp => br_t (nI_le (a := 2) (b := 2) (by omega) (by decide)) hp⟩
  | succ d ih =>
    intro g hg a ha
    have hg2 : g < 2 := by omega
    obtain ⟨nt, nw, nk, c, kc, ⟨a1, a2, a3, a4, a5, a6, a7, a8⟩, ⟨b1, b2, b3, b4, b5, b6, b7⟩, e3, hf, -, -, hkk, hss⟩ := hR g hg2
    have hv : vp_in (nI g) 2 := vp_in_nI hg2 (by decide)
    have cg : (nI g).toNatClampNeg = g := nI_clamp (by omega)
    have n2 : ¬ (2 : Int32) ≤ nI g := nI_ge (b := 2) (by omega) (by decide)
    rcases hf with ⟨f1, f2, -⟩ | ⟨t, ht, f1, f2, f3, f4⟩
    · obtain ⟨lo, l1, l2, l3, l4⟩ := ih (g + 1) (by omega) a ha
      refine ⟨lo, l1, fun g' h h' => ?_, fun post hp => ?_, fun post hp => ?_⟩
      · by_cases c : g' = g
        · rw [c]; exact Or.inl f1
        · exact l2 g' (by omega) h'
      · refine br_f n2 ⟨hv, ?_⟩
        rw [cg, f1]
        exact br_f es_n0 (nm_r (nI_1 g) (l3 post hp))
      · refine br_f n2 ⟨hv, ?_⟩
        rw [cg, f2]
        exact br_t rfl (nm_r (nI_1 g) (l4 post hp))
    · have hk0 : ∃ k0, k0 ≤ 2000 ∧ (nk ≠ 0 → a_kAt (6 * g) = nI k0 ∧ b_where (32 + 8 * g) = nI k0) := by
        by_cases c : nk = 0
        · exact ⟨0, by omega, fun z => absurd c z⟩
        · obtain ⟨q1, -, k0, q2, q3⟩ := hkk 0 (by omega)
          exact ⟨k0, by omega, fun _ => ⟨q3, q1.trans q3⟩⟩
      obtain ⟨k0, hk1, hk2⟩ := hk0
      have key : ∀ a', a' ≤ 2000 → a' ≤ kc → a' ≤ a → ∃ lo, lo ≤ a ∧ (∀ g', g ≤ g' → g' < 2 → es_LG a_gType a_kCursor a_kCount a_kAt lo g') ∧ (∀ post : Int32 → Prop, post (nI lo) → wX_low_84 post (wX_low_50 post f_held f_records f_flushed f_summed f_draft f_drafted f_seen f_time f_taken a_at a_version a_value a_originAt a_stream a_type a_originBy a_originCode a_goesOn a_events a_cuts a_firm a_cutsGone a_byVersion a_byOrigin a_upTo a_draftType a_draftValue a_dOp a_dC a_height a_clash a_pOp a_pSize a_pC a_position a_cell a_noted a_stack a_before a_shown a_gType a_gTaken a_gWaiting a_kCount a_gCursor a_gParked a_kCursor a_tAt a_tDue a_wAt a_kAt a_tTimes a_wTimes a_kTimes (d + 1)) (nI a') (nI g) f_held f_records f_flushed f_summed f_draft f_drafted f_seen f_time f_taken a_at a_version a_value a_originAt a_stream a_type a_originBy a_originCode a_goesOn a_events a_cuts a_firm a_cutsGone a_byVersion a_byOrigin a_upTo a_draftType a_draftValue a_dOp a_dC a_height a_clash a_pOp a_pSize a_pC a_position a_cell a_noted a_stack a_before a_shown a_gType a_gTaken a_gWaiting a_kCount a_gCursor a_gParked a_kCursor a_tAt a_tDue a_wAt a_kAt a_tTimes a_wTimes a_kTimes) ∧ (∀ post : Int32 → Prop, post (nI lo) → wY_low_88 post (wY_low_50 post g_count g_flushed g_calls g_drafted g_top g_time b_isCut b_removed b_stream b_type b_from b_by b_value b_version b_on b_call b_draftType b_draftValue b_op b_with b_length b_height b_torn b_stack b_position b_cells b_noted b_wanted b_formed b_cursor b_parked b_where b_often b_due b_many b_found (d + 1)) (nI a') (nI g) g_count g_flushed g_calls g_drafted g_top g_time b_isCut b_removed b_stream b_type b_from b_by b_value b_version b_on b_call b_draftType b_draftValue b_op b_with b_length b_height b_torn b_stack b_position b_cells b_noted b_wanted b_formed b_cursor b_parked b_where b_often b_due b_many b_found) := fun a' h1 h2 h3 => by
        have hm := es_m2_le nk k0 a'
        obtain ⟨lo, l1, l2, l3, l4⟩ := ih (g + 1) (by omega) (es_m2 nk k0 a') (by omega)
        refine ⟨lo, by omega, fun g' h h' => ?_, fun post hp => ?_, fun post hp => ?_⟩
        · by_cases c : g' = g
          · rw [c]
            refine Or.inr ⟨by rw [b4]; exact nI_le (by omega) (by omega), fun j nk' hn' en' hj => ?_⟩
            rw [a5] at en'
            have e9 := es_inj en' (by omega) (by omega)
            have hnk : nk ≠ 0 := by omega
            have hm2 := es_m2_k (k0 := k0) (a := a') hnk
            refine Int32.le_trans ?_ (es_srt hss j (by omega))
            rw [(hk2 hnk).1]
            exact nI_le (by omega) (by omega)
          · exact l2 g' (by omega) h'
        · exact es_x_low84 hg2 a8 (by omega) (by omega) a5 (fun z => (hk2 z).1) (l3 post hp)
        · exact es_y_low88 hg2 a8 (by omega) (by omega) a6 (fun z => (hk2 z).2) (l4 post hp)
      have hv4 : vp_in (nI (2 + g)) 4 := vp_in_nI (by omega) (by decide)
      have h2g : 2 + nI g = nI (2 + g) := nI_add 2 g
      have c2g : (nI (2 + g)).toNatClampNeg = 2 + g := nI_clamp (by omega)
      by_cases c : a ≤ kc
      · obtain ⟨lo, l1, l2, l3, l4⟩ := key a ha c (Nat.le_refl _)
        refine ⟨lo, l1, l2, fun post hp => ?_, fun post hp => ?_⟩
        · refine br_f n2 ⟨hv, ?_⟩
          rw [cg, f1, b4]
          exact br_t (nI_pos' (by omega)) ⟨hv, br_t (nI_le c (by omega)) (l3 post hp)⟩
        · refine br_f n2 ⟨hv, ?_⟩
          rw [cg, f3, h2g, c2g, b5]
          exact br_f es_10 ⟨hv4, br_t (nI_le c (by omega)) (l4 post hp)⟩
      · obtain ⟨lo, l1, l2, l3, l4⟩ := key kc (by omega) (Nat.le_refl _) (by omega)
        refine ⟨lo, l1, l2, fun post hp => ?_, fun post hp => ?_⟩
        · refine br_f n2 ⟨hv, ?_⟩
          rw [cg, f1, b4]
          exact br_t (nI_pos' (by omega)) ⟨hv, br_f (nI_ge (by omega) (by omega)) ⟨hv, nm_e (l3 post hp)⟩⟩
        · refine br_f n2 ⟨hv, ?_⟩
          rw [cg, f3, h2g, c2g, b5]
          exact br_f es_10 ⟨hv4, br_f (nI_ge (by omega) (by omega)) ⟨hv4, nm_e (l4 post hp)⟩⟩
theorem es_low7 (hF : F ≤ 2000) (hR : ∀ g, g < 2 → es_GR N F rm a_gType a_gTaken a_gWaiting a_kCount a_gCursor a_gParked a_kCursor a_tAt a_tDue a_wAt a_kAt a_tTimes a_wTimes a_kTimes b_wanted b_formed b_cursor b_parked b_where b_often b_due b_many g)
    (hG : es_PG f_drafted a_dOp a_dC a_pOp a_pSize a_pC b_op b_with b_length) (hJ : es_PJ N F rm a_pSize a_position a_cell a_noted b_position b_cells b_noted) :
    ∀ d p, p + d = 3 → ∀ a, a ≤ 2000 → ∃ lo, lo ≤ a ∧ (∀ p', p ≤ p' → p' < 3 → es_LP a_pSize a_position lo p') ∧ (∀ g', g' < 2 → es_LG a_gType a_kCursor a_kCount a_kAt lo g') ∧ (∀ post : Int32 → Prop, post (nI lo) → wX_low_7 post f_held f_records f_flushed f_summed f_draft f_drafted f_seen f_time f_taken a_at a_version a_value a_originAt a_stream a_type a_originBy a_originCode a_goesOn a_events a_cuts a_firm a_cutsGone a_byVersion a_byOrigin a_upTo a_draftType a_draftValue a_dOp a_dC a_height a_clash a_pOp a_pSize a_pC a_position a_cell a_noted a_stack a_before a_shown a_gType a_gTaken a_gWaiting a_kCount a_gCursor a_gParked a_kCursor a_tAt a_tDue a_wAt a_kAt a_tTimes a_wTimes a_kTimes (d + 1) (nI a) (nI p)) ∧ (∀ post : Int32 → Prop, post (nI lo) → wY_low_7 post g_count g_flushed g_calls g_drafted g_top g_time b_isCut b_removed b_stream b_type b_from b_by b_value b_version b_on b_call b_draftType b_draftValue b_op b_with b_length b_height b_torn b_stack b_position b_cells b_noted b_wanted b_formed b_cursor b_parked b_where b_often b_due b_many b_found (d + 1) (nI a) (nI p)) := by
  intro d
  induction d with
  | zero =>
    intro p hp a ha
    have e : p = 3 := by omega
    subst e
    obtain ⟨lo, l1, l2, l3, l4⟩ := es_low50 (f_held := f_held) (f_records := f_records) (f_flushed := f_flushed) (f_summed := f_summed) (f_draft := f_draft) (f_drafted := f_drafted) (f_seen := f_seen) (f_time := f_time) (f_taken := f_taken) (a_at := a_at) (a_version := a_version) (a_value := a_value) (a_originAt := a_originAt) (a_stream := a_stream) (a_type := a_type) (a_originBy := a_originBy) (a_originCode := a_originCode) (a_goesOn := a_goesOn) (a_events := a_events) (a_cuts := a_cuts) (a_firm := a_firm) (a_cutsGone := a_cutsGone) (a_byVersion := a_byVersion) (a_byOrigin := a_byOrigin) (a_upTo := a_upTo) (a_draftType := a_draftType) (a_draftValue := a_draftValue) (a_dOp := a_dOp) (a_dC := a_dC) (a_height := a_height) (a_clash := a_clash) (a_pOp := a_pOp) (a_pSize := a_pSize) (a_pC := a_pC) (a_position := a_position) (a_cell := a_cell) (a_noted := a_noted) (a_stack := a_stack) (a_before := a_before) (a_shown := a_shown) (a_gType := a_gType) (a_gTaken := a_gTaken) (a_gWaiting := a_gWaiting) (a_kCount := a_kCount) (a_gCursor := a_gCursor) (a_gParked := a_gParked) (a_kCursor := a_kCursor) (a_tAt := a_tAt) (a_tDue := a_tDue) (a_wAt := a_wAt) (a_kAt := a_kAt) (a_tTimes := a_tTimes) (a_wTimes := a_wTimes) (a_kTimes := a_kTimes) (g_count := g_count) (g_flushed := g_flushed) (g_calls := g_calls) (g_drafted := g_drafted) (g_top := g_top) (g_time := g_time) (b_isCut := b_isCut) (b_removed := b_removed) (b_stream := b_stream) (b_type := b_type) (b_from := b_from) (b_by := b_by) (b_value := b_value) (b_version := b_version) (b_on := b_on) (b_call := b_call) (b_draftType := b_draftType) (b_draftValue := b_draftValue) (b_op := b_op) (b_with := b_with) (b_length := b_length) (b_height := b_height) (b_torn := b_torn) (b_stack := b_stack) (b_position := b_position) (b_cells := b_cells) (b_noted := b_noted) (b_wanted := b_wanted) (b_formed := b_formed) (b_cursor := b_cursor) (b_parked := b_parked) (b_where := b_where) (b_often := b_often) (b_due := b_due) (b_many := b_many) (b_found := b_found) hF hR 2 0 (by omega) a ha
    rw [nI_0] at l3 l4
    exact ⟨lo, l1, fun p' h h' => absurd h' (by omega), fun g' h => l2 g' (Nat.zero_le _) h, fun post hp => br_t (nI_le (a := 3) (b := 3) (by omega) (by decide)) ⟨_, l3 post hp⟩, fun post hp => br_t (nI_le (a := 3) (b := 3) (by omega) (by decide)) ⟨_, l4 post hp⟩⟩
  | succ d ih =>
    intro p hp a ha
    have hp3 : p < 3 := by omega
    obtain ⟨n, hn, e1, e2, -⟩ := hG.2.2.2 p hp3
    have n3 : ¬ (3 : Int32) ≤ nI p := nI_ge (b := 3) (by omega) (by decide)
    have cp : (nI p).toNatClampNeg = p := nI_clamp (by omega)
    have hv3 : vp_in (nI p) 3 := vp_in_nI hp3 (by decide)
    have hv4 : vp_in (nI p) 4 := vp_in_nI (by omega) (by decide)
    have h3p : 3 + nI p = nI (3 + p) := nI_add 3 p
    have c3p : (nI (3 + p)).toNatClampNeg = 3 + p := nI_clamp (by omega)
    have hv9 : vp_in (nI (3 + p)) 9 := vp_in_nI (by omega) (by decide)
    by_cases c : n = 0
    · subst c
      obtain ⟨lo, l1, l2, l5, l3, l4⟩ := ih (p + 1) (by omega) a ha
      refine ⟨lo, l1, fun p' h h' => ?_, l5, fun post hq => ?_, fun post hq => ?_⟩
      · by_cases c : p' = p
        · rw [c]; exact Or.inl e1
        · exact l2 p' (by omega) h'
      · refine br_f n3 ⟨hv3, ?_⟩
        rw [cp, e1]
        exact br_t (nI_le (a := 0) (b := 0) (by omega) (by decide)) (nm_r (nI_1 p) (l3 post hq))
      · refine br_f n3 ⟨hv4, ?_⟩
        rw [cp, e2]
        exact br_t (nI_le (a := 0) (b := 0) (by omega) (by decide)) (nm_r (nI_1 p) (l4 post hq))
    · have nz : ¬ a_pSize p = 0 := by rw [e1]; exact nI_ne0 (by omega) (by omega)
      obtain ⟨-, P, K, -, -, -, g4, g5, -, g7, -⟩ := hJ p hp3 nz
      have fin : ∀ a', a' ≤ 2000 → a' ≤ K → a' ≤ a → ∃ lo, lo ≤ a ∧ (∀ p', p ≤ p' → p' < 3 → es_LP a_pSize a_position lo p') ∧ (∀ g', g' < 2 → es_LG a_gType a_kCursor a_kCount a_kAt lo g') ∧ (∀ post : Int32 → Prop, post (nI lo) → wX_low_7 post f_held f_records f_flushed f_summed f_draft f_drafted f_seen f_time f_taken a_at a_version a_value a_originAt a_stream a_type a_originBy a_originCode a_goesOn a_events a_cuts a_firm a_cutsGone a_byVersion a_byOrigin a_upTo a_draftType a_draftValue a_dOp a_dC a_height a_clash a_pOp a_pSize a_pC a_position a_cell a_noted a_stack a_before a_shown a_gType a_gTaken a_gWaiting a_kCount a_gCursor a_gParked a_kCursor a_tAt a_tDue a_wAt a_kAt a_tTimes a_wTimes a_kTimes (d + 1) (nI a') (nI (p + 1))) ∧ (∀ post : Int32 → Prop, post (nI lo) → wY_low_7 post g_count g_flushed g_calls g_drafted g_top g_time b_isCut b_removed b_stream b_type b_from b_by b_value b_version b_on b_call b_draftType b_draftValue b_op b_with b_length b_height b_torn b_stack b_position b_cells b_noted b_wanted b_formed b_cursor b_parked b_where b_often b_due b_many b_found (d + 1) (nI a') (nI (p + 1))) := fun a' h1 h2 h3 => by
        obtain ⟨lo, l1, l2, l5, l3, l4⟩ := ih (p + 1) (by omega) a' h1
        refine ⟨lo, by omega, fun p' h h' => ?_, l5, l3, l4⟩
        by_cases c : p' = p
        · rw [c]
          refine Or.inr ?_
          rw [g4]
          exact nI_le (by omega) (by omega)
        · exact l2 p' (by omega) h'
      by_cases c2 : a ≤ K
      · obtain ⟨lo, l1, l2, l5, l3, l4⟩ := fin a ha c2 (Nat.le_refl _)
        refine ⟨lo, l1, l2, l5, fun post hq => ?_, fun post hq => ?_⟩
        · refine br_f n3 ⟨hv3, ?_⟩
          rw [cp, e1, h3p, c3p, g4]
          exact br_f (nI_nle (by omega) (by omega)) ⟨hv9, br_t (nI_le c2 (by omega)) (nm_r (nI_1 p) (l3 post hq))⟩
        · refine br_f n3 ⟨hv4, ?_⟩
          rw [cp, e2, h3p, c3p, g5]
          exact br_f (nI_nle (by omega) (by omega)) ⟨hv9, br_t (nI_le c2 (by omega)) (nm_r (nI_1 p) (l4 post hq))⟩
      · obtain ⟨lo, l1, l2, l5, l3, l4⟩ := fin K (by omega) (Nat.le_refl _) (by omega)
        refine ⟨lo, l1, l2, l5, fun post hq => ?_, fun post hq => ?_⟩
        · refine br_f n3 ⟨hv3, ?_⟩
          rw [cp, e1, h3p, c3p, g4]
          exact br_f (nI_nle (by omega) (by omega)) ⟨hv9, br_f (nI_ge (by omega) (by omega)) ⟨hv9, nm_e (nm_r (nI_1 p) (l3 post hq))⟩⟩
        · refine br_f n3 ⟨hv4, ?_⟩
          rw [cp, e2, h3p, c3p, g5]
          exact br_f (nI_nle (by omega) (by omega)) ⟨hv9, br_f (nI_ge (by omega) (by omega)) ⟨hv9, nm_e (nm_r (nI_1 p) (l4 post hq))⟩⟩
theorem es_low (hF : F ≤ 2000) (hR : ∀ g, g < 2 → es_GR N F rm a_gType a_gTaken a_gWaiting a_kCount a_gCursor a_gParked a_kCursor a_tAt a_tDue a_wAt a_kAt a_tTimes a_wTimes a_kTimes b_wanted b_formed b_cursor b_parked b_where b_often b_due b_many g)
    (hG : es_PG f_drafted a_dOp a_dC a_pOp a_pSize a_pC b_op b_with b_length) (hJ : es_PJ N F rm a_pSize a_position a_cell a_noted b_position b_cells b_noted) (e1 : f_flushed = nI F) (e2 : g_flushed = nI F) :
    ∃ lo, lo ≤ F ∧ (∀ p', p' < 3 → es_LP a_pSize a_position lo p') ∧ (∀ g', g' < 2 → es_LG a_gType a_kCursor a_kCount a_kAt lo g') ∧ (∀ post : Int32 → Prop, post (nI lo) → wpX_low post (f_held, f_records, f_flushed, f_summed, f_draft, f_drafted, f_seen, f_time, f_taken, a_at, a_version, a_value, a_originAt, a_stream, a_type, a_originBy, a_originCode, a_goesOn, a_events, a_cuts, a_firm, a_cutsGone, a_byVersion, a_byOrigin, a_upTo, a_draftType, a_draftValue, a_dOp, a_dC, a_height, a_clash, a_pOp, a_pSize, a_pC, a_position, a_cell, a_noted, a_stack, a_before, a_shown, a_gType, a_gTaken, a_gWaiting, a_kCount, a_gCursor, a_gParked, a_kCursor, a_tAt, a_tDue, a_wAt, a_kAt, a_tTimes, a_wTimes, a_kTimes)) ∧ (∀ post : Int32 → Prop, post (nI lo) → wpY_low post (g_count, g_flushed, g_calls, g_drafted, g_top, g_time, b_isCut, b_removed, b_stream, b_type, b_from, b_by, b_value, b_version, b_on, b_call, b_draftType, b_draftValue, b_op, b_with, b_length, b_height, b_torn, b_stack, b_position, b_cells, b_noted, b_wanted, b_formed, b_cursor, b_parked, b_where, b_often, b_due, b_many, b_found)) := by
  subst e1 e2
  obtain ⟨lo, l1, l2, l5, l3, l4⟩ := es_low7 (f_held := f_held) (f_records := f_records) (f_flushed := nI F) (f_summed := f_summed) (f_draft := f_draft) (f_drafted := f_drafted) (f_seen := f_seen) (f_time := f_time) (f_taken := f_taken) (a_at := a_at) (a_version := a_version) (a_value := a_value) (a_originAt := a_originAt) (a_stream := a_stream) (a_type := a_type) (a_originBy := a_originBy) (a_originCode := a_originCode) (a_goesOn := a_goesOn) (a_events := a_events) (a_cuts := a_cuts) (a_firm := a_firm) (a_cutsGone := a_cutsGone) (a_byVersion := a_byVersion) (a_byOrigin := a_byOrigin) (a_upTo := a_upTo) (a_draftType := a_draftType) (a_draftValue := a_draftValue) (a_dOp := a_dOp) (a_dC := a_dC) (a_height := a_height) (a_clash := a_clash) (a_pOp := a_pOp) (a_pSize := a_pSize) (a_pC := a_pC) (a_position := a_position) (a_cell := a_cell) (a_noted := a_noted) (a_stack := a_stack) (a_before := a_before) (a_shown := a_shown) (a_gType := a_gType) (a_gTaken := a_gTaken) (a_gWaiting := a_gWaiting) (a_kCount := a_kCount) (a_gCursor := a_gCursor) (a_gParked := a_gParked) (a_kCursor := a_kCursor) (a_tAt := a_tAt) (a_tDue := a_tDue) (a_wAt := a_wAt) (a_kAt := a_kAt) (a_tTimes := a_tTimes) (a_wTimes := a_wTimes) (a_kTimes := a_kTimes) (g_count := g_count) (g_flushed := nI F) (g_calls := g_calls) (g_drafted := g_drafted) (g_top := g_top) (g_time := g_time) (b_isCut := b_isCut) (b_removed := b_removed) (b_stream := b_stream) (b_type := b_type) (b_from := b_from) (b_by := b_by) (b_value := b_value) (b_version := b_version) (b_on := b_on) (b_call := b_call) (b_draftType := b_draftType) (b_draftValue := b_draftValue) (b_op := b_op) (b_with := b_with) (b_length := b_length) (b_height := b_height) (b_torn := b_torn) (b_stack := b_stack) (b_position := b_position) (b_cells := b_cells) (b_noted := b_noted) (b_wanted := b_wanted) (b_formed := b_formed) (b_cursor := b_cursor) (b_parked := b_parked) (b_where := b_where) (b_often := b_often) (b_due := b_due) (b_many := b_many) (b_found := b_found) hF hR hG hJ 3 0 (by omega) F hF
  rw [nI_0] at l3 l4
  exact ⟨lo, l1, fun p' h => l2 p' (Nat.zero_le _) h, l5, fun post hp => ⟨_, l3 post hp⟩, fun post hp => ⟨_, l4 post hp⟩⟩
end ES13
section ES13b
theorem i_vc_size {k : Nat} {u : SX} {v : SY} (I : i_Rel k u v) (hk : k + 4 ≤ 2048) (v1 : Int32) : wpX_size (fun r => wpY_size (fun r' => r' = r ∧ i_Rel (k + 4) u v) v v1) u v1 := by
  refine es_el (P := fun u v => wpX_size (fun r => wpY_size (fun r' => r' = r ∧ i_Rel (k + 4) u v) v v1) u v1) ?_ u v I
  intro f_held f_records f_flushed f_summed f_draft f_drafted f_seen f_time f_taken a_at a_version a_value a_originAt a_stream a_type a_originBy a_originCode a_goesOn a_events a_cuts a_firm a_cutsGone a_byVersion a_byOrigin a_draftType a_draftValue a_dOp a_dC a_height a_clash a_pOp a_pSize a_pC a_position a_cell a_noted a_stack a_before a_shown a_gType a_gTaken a_gWaiting a_kCount a_gCursor a_gParked a_kCursor a_tAt a_tDue a_wAt a_kAt a_tTimes a_wTimes a_kTimes a_upTo g_count g_flushed g_calls g_drafted g_top g_time b_isCut b_removed b_stream b_type b_from b_by b_value b_version b_on b_call b_draftType b_draftValue b_op b_with b_length b_height b_torn b_stack b_position b_cells b_noted b_wanted b_formed b_cursor b_parked b_where b_often b_due b_many b_found N F C L rm h1 h2 h3 h4 h5 h6 h7 h8 h9 h10
  show wpX_size (fun r => wpY_size (fun r' => r' = r ∧ i_Rel (k + 4) (f_held, f_records, f_flushed, f_summed, f_draft, f_drafted, f_seen, f_time, f_taken, a_at, a_version, a_value, a_originAt, a_stream, a_type, a_originBy, a_originCode, a_goesOn, a_events, a_cuts, a_firm, a_cutsGone, a_byVersion, a_byOrigin, a_upTo, a_draftType, a_draftValue, a_dOp, a_dC, a_height, a_clash, a_pOp, a_pSize, a_pC, a_position, a_cell, a_noted, a_stack, a_before, a_shown, a_gType, a_gTaken, a_gWaiting, a_kCount, a_gCursor, a_gParked, a_kCursor, a_tAt, a_tDue, a_wAt, a_kAt, a_tTimes, a_wTimes, a_kTimes) (g_count, g_flushed, g_calls, g_drafted, g_top, g_time, b_isCut, b_removed, b_stream, b_type, b_from, b_by, b_value, b_version, b_on, b_call, b_draftType, b_draftValue, b_op, b_with, b_length, b_height, b_torn, b_stack, b_position, b_cells, b_noted, b_wanted, b_formed, b_cursor, b_parked, b_where, b_often, b_due, b_many, b_found)) (g_count, g_flushed, g_calls, g_drafted, g_top, g_time, b_isCut, b_removed, b_stream, b_type, b_from, b_by, b_value, b_version, b_on, b_call, b_draftType, b_draftValue, b_op, b_with, b_length, b_height, b_torn, b_stack, b_position, b_cells, b_noted, b_wanted, b_formed, b_cursor, b_parked, b_where, b_often, b_due, b_many, b_found) v1) (f_held, f_records, f_flushed, f_summed, f_draft, f_drafted, f_seen, f_time, f_taken, a_at, a_version, a_value, a_originAt, a_stream, a_type, a_originBy, a_originCode, a_goesOn, a_events, a_cuts, a_firm, a_cutsGone, a_byVersion, a_byOrigin, a_upTo, a_draftType, a_draftValue, a_dOp, a_dC, a_height, a_clash, a_pOp, a_pSize, a_pC, a_position, a_cell, a_noted, a_stack, a_before, a_shown, a_gType, a_gTaken, a_gWaiting, a_kCount, a_gCursor, a_gParked, a_kCursor, a_tAt, a_tDue, a_wAt, a_kAt, a_tTimes, a_wTimes, a_kTimes) v1
  have keep : i_Rel (k + 4) (f_held, f_records, f_flushed, f_summed, f_draft, f_drafted, f_seen, f_time, f_taken, a_at, a_version, a_value, a_originAt, a_stream, a_type, a_originBy, a_originCode, a_goesOn, a_events, a_cuts, a_firm, a_cutsGone, a_byVersion, a_byOrigin, a_upTo, a_draftType, a_draftValue, a_dOp, a_dC, a_height, a_clash, a_pOp, a_pSize, a_pC, a_position, a_cell, a_noted, a_stack, a_before, a_shown, a_gType, a_gTaken, a_gWaiting, a_kCount, a_gCursor, a_gParked, a_kCursor, a_tAt, a_tDue, a_wAt, a_kAt, a_tTimes, a_wTimes, a_kTimes) (g_count, g_flushed, g_calls, g_drafted, g_top, g_time, b_isCut, b_removed, b_stream, b_type, b_from, b_by, b_value, b_version, b_on, b_call, b_draftType, b_draftValue, b_op, b_with, b_length, b_height, b_torn, b_stack, b_position, b_cells, b_noted, b_wanted, b_formed, b_cursor, b_parked, b_where, b_often, b_due, b_many, b_found) := es_mk h1 h2 h3 (by omega) h5 h6 h7 h8 h9 h10
  have e1 := h1.1
  have e2 := h1.2.1
  have e3 := h1.2.2.1
  have e4 := h2.1
  have e5 := h2.2.1
  unfold wpX_size
  by_cases c : v1 < 0
  · refine br_t c ?_
    unfold wpY_size
    exact br_t c ⟨rfl, keep⟩
  refine br_f c ?_
  by_cases d : 3 < v1
  · refine br_t d ?_
    unfold wpY_size
    exact br_f c (br_t d ⟨rfl, keep⟩)
  refine br_f d (br_c (fun q => ?_) (fun q => br_c (fun q1 => ?_) (fun q1 => br_c (fun q2 => ?_) (fun q2 => br_c (fun q3 => ?_) (fun q3 => trivial)))))
  · unfold wpY_size
    exact br_f c (br_f d (br_t q ⟨e4.trans e2.symm, keep⟩))
  · unfold wpY_size
    exact br_f c (br_f d (br_f q (br_t q1 ⟨e5.trans e3.symm, keep⟩)))
  · unfold wpY_size
    exact br_f c (br_f d (br_f q (br_f q1 (br_t q2 (es_y_there h2 h3.1 ⟨e1.symm, keep⟩)))))
  · obtain ⟨lo, -, -, -, l3, l4⟩ := es_low (f_held := f_held) (f_records := f_records) (f_flushed := f_flushed) (f_summed := f_summed) (f_draft := f_draft) (f_drafted := f_drafted) (f_seen := f_seen) (f_time := f_time) (f_taken := f_taken) (a_at := a_at) (a_version := a_version) (a_value := a_value) (a_originAt := a_originAt) (a_stream := a_stream) (a_type := a_type) (a_originBy := a_originBy) (a_originCode := a_originCode) (a_goesOn := a_goesOn) (a_events := a_events) (a_cuts := a_cuts) (a_firm := a_firm) (a_cutsGone := a_cutsGone) (a_byVersion := a_byVersion) (a_byOrigin := a_byOrigin) (a_upTo := a_upTo) (a_draftType := a_draftType) (a_draftValue := a_draftValue) (a_dOp := a_dOp) (a_dC := a_dC) (a_height := a_height) (a_clash := a_clash) (a_pOp := a_pOp) (a_pSize := a_pSize) (a_pC := a_pC) (a_position := a_position) (a_cell := a_cell) (a_noted := a_noted) (a_stack := a_stack) (a_before := a_before) (a_shown := a_shown) (a_gType := a_gType) (a_gTaken := a_gTaken) (a_gWaiting := a_gWaiting) (a_kCount := a_kCount) (a_gCursor := a_gCursor) (a_gParked := a_gParked) (a_kCursor := a_kCursor) (a_tAt := a_tAt) (a_tDue := a_tDue) (a_wAt := a_wAt) (a_kAt := a_kAt) (a_tTimes := a_tTimes) (a_wTimes := a_wTimes) (a_kTimes := a_kTimes) (g_count := g_count) (g_flushed := g_flushed) (g_calls := g_calls) (g_drafted := g_drafted) (g_top := g_top) (g_time := g_time) (b_isCut := b_isCut) (b_removed := b_removed) (b_stream := b_stream) (b_type := b_type) (b_from := b_from) (b_by := b_by) (b_value := b_value) (b_version := b_version) (b_on := b_on) (b_call := b_call) (b_draftType := b_draftType) (b_draftValue := b_draftValue) (b_op := b_op) (b_with := b_with) (b_length := b_length) (b_height := b_height) (b_torn := b_torn) (b_stack := b_stack) (b_position := b_position) (b_cells := b_cells) (b_noted := b_noted) (b_wanted := b_wanted) (b_formed := b_formed) (b_cursor := b_cursor) (b_parked := b_parked) (b_where := b_where) (b_often := b_often) (b_due := b_due) (b_many := b_many) (b_found := b_found) (Nat.le_trans h3.2.1 h3.1) h8 h6 h7 e3 e5
    refine l3 _ ?_
    unfold wpY_size
    exact br_f c (br_f d (br_f q (br_f q1 (br_f q2 (br_t q3 (l4 _ ⟨rfl, keep⟩))))))
theorem i_vc_group {k : Nat} {u : SX} {v : SY} (I : i_Rel k u v) (hk : k + 4 ≤ 2048) (v1 : Int32) (v2 : Int32) : wpX_group (fun r => wpY_group (fun r' => r' = r ∧ i_Rel (k + 4) u v) v v1 v2) u v1 v2 := by
  refine es_el (P := fun u v => wpX_group (fun r => wpY_group (fun r' => r' = r ∧ i_Rel (k + 4) u v) v v1 v2) u v1 v2) ?_ u v I
  intro f_held f_records f_flushed f_summed f_draft f_drafted f_seen f_time f_taken a_at a_version a_value a_originAt a_stream a_type a_originBy a_originCode a_goesOn a_events a_cuts a_firm a_cutsGone a_byVersion a_byOrigin a_draftType a_draftValue a_dOp a_dC a_height a_clash a_pOp a_pSize a_pC a_position a_cell a_noted a_stack a_before a_shown a_gType a_gTaken a_gWaiting a_kCount a_gCursor a_gParked a_kCursor a_tAt a_tDue a_wAt a_kAt a_tTimes a_wTimes a_kTimes a_upTo g_count g_flushed g_calls g_drafted g_top g_time b_isCut b_removed b_stream b_type b_from b_by b_value b_version b_on b_call b_draftType b_draftValue b_op b_with b_length b_height b_torn b_stack b_position b_cells b_noted b_wanted b_formed b_cursor b_parked b_where b_often b_due b_many b_found N F C L rm h1 h2 h3 h4 h5 h6 h7 h8 h9 h10
  show wpX_group (fun r => wpY_group (fun r' => r' = r ∧ i_Rel (k + 4) (f_held, f_records, f_flushed, f_summed, f_draft, f_drafted, f_seen, f_time, f_taken, a_at, a_version, a_value, a_originAt, a_stream, a_type, a_originBy, a_originCode, a_goesOn, a_events, a_cuts, a_firm, a_cutsGone, a_byVersion, a_byOrigin, a_upTo, a_draftType, a_draftValue, a_dOp, a_dC, a_height, a_clash, a_pOp, a_pSize, a_pC, a_position, a_cell, a_noted, a_stack, a_before, a_shown, a_gType, a_gTaken, a_gWaiting, a_kCount, a_gCursor, a_gParked, a_kCursor, a_tAt, a_tDue, a_wAt, a_kAt, a_tTimes, a_wTimes, a_kTimes) (g_count, g_flushed, g_calls, g_drafted, g_top, g_time, b_isCut, b_removed, b_stream, b_type, b_from, b_by, b_value, b_version, b_on, b_call, b_draftType, b_draftValue, b_op, b_with, b_length, b_height, b_torn, b_stack, b_position, b_cells, b_noted, b_wanted, b_formed, b_cursor, b_parked, b_where, b_often, b_due, b_many, b_found)) (g_count, g_flushed, g_calls, g_drafted, g_top, g_time, b_isCut, b_removed, b_stream, b_type, b_from, b_by, b_value, b_version, b_on, b_call, b_draftType, b_draftValue, b_op, b_with, b_length, b_height, b_torn, b_stack, b_position, b_cells, b_noted, b_wanted, b_formed, b_cursor, b_parked, b_where, b_often, b_due, b_many, b_found) v1 v2) (f_held, f_records, f_flushed, f_summed, f_draft, f_drafted, f_seen, f_time, f_taken, a_at, a_version, a_value, a_originAt, a_stream, a_type, a_originBy, a_originCode, a_goesOn, a_events, a_cuts, a_firm, a_cutsGone, a_byVersion, a_byOrigin, a_upTo, a_draftType, a_draftValue, a_dOp, a_dC, a_height, a_clash, a_pOp, a_pSize, a_pC, a_position, a_cell, a_noted, a_stack, a_before, a_shown, a_gType, a_gTaken, a_gWaiting, a_kCount, a_gCursor, a_gParked, a_kCursor, a_tAt, a_tDue, a_wAt, a_kAt, a_tTimes, a_wTimes, a_kTimes) v1 v2
  have keep : i_Rel (k + 4) (f_held, f_records, f_flushed, f_summed, f_draft, f_drafted, f_seen, f_time, f_taken, a_at, a_version, a_value, a_originAt, a_stream, a_type, a_originBy, a_originCode, a_goesOn, a_events, a_cuts, a_firm, a_cutsGone, a_byVersion, a_byOrigin, a_upTo, a_draftType, a_draftValue, a_dOp, a_dC, a_height, a_clash, a_pOp, a_pSize, a_pC, a_position, a_cell, a_noted, a_stack, a_before, a_shown, a_gType, a_gTaken, a_gWaiting, a_kCount, a_gCursor, a_gParked, a_kCursor, a_tAt, a_tDue, a_wAt, a_kAt, a_tTimes, a_wTimes, a_kTimes) (g_count, g_flushed, g_calls, g_drafted, g_top, g_time, b_isCut, b_removed, b_stream, b_type, b_from, b_by, b_value, b_version, b_on, b_call, b_draftType, b_draftValue, b_op, b_with, b_length, b_height, b_torn, b_stack, b_position, b_cells, b_noted, b_wanted, b_formed, b_cursor, b_parked, b_where, b_often, b_due, b_many, b_found) := es_mk h1 h2 h3 (by omega) h5 h6 h7 h8 h9 h10
  have out : (v1 < 0 ∨ nI 2 ≤ v1) → wpX_group (fun r => wpY_group (fun r' => r' = r ∧ i_Rel (k + 4) (f_held, f_records, f_flushed, f_summed, f_draft, f_drafted, f_seen, f_time, f_taken, a_at, a_version, a_value, a_originAt, a_stream, a_type, a_originBy, a_originCode, a_goesOn, a_events, a_cuts, a_firm, a_cutsGone, a_byVersion, a_byOrigin, a_upTo, a_draftType, a_draftValue, a_dOp, a_dC, a_height, a_clash, a_pOp, a_pSize, a_pC, a_position, a_cell, a_noted, a_stack, a_before, a_shown, a_gType, a_gTaken, a_gWaiting, a_kCount, a_gCursor, a_gParked, a_kCursor, a_tAt, a_tDue, a_wAt, a_kAt, a_tTimes, a_wTimes, a_kTimes) (g_count, g_flushed, g_calls, g_drafted, g_top, g_time, b_isCut, b_removed, b_stream, b_type, b_from, b_by, b_value, b_version, b_on, b_call, b_draftType, b_draftValue, b_op, b_with, b_length, b_height, b_torn, b_stack, b_position, b_cells, b_noted, b_wanted, b_formed, b_cursor, b_parked, b_where, b_often, b_due, b_many, b_found)) (g_count, g_flushed, g_calls, g_drafted, g_top, g_time, b_isCut, b_removed, b_stream, b_type, b_from, b_by, b_value, b_version, b_on, b_call, b_draftType, b_draftValue, b_op, b_with, b_length, b_height, b_torn, b_stack, b_position, b_cells, b_noted, b_wanted, b_formed, b_cursor, b_parked, b_where, b_often, b_due, b_many, b_found) v1 v2) (f_held, f_records, f_flushed, f_summed, f_draft, f_drafted, f_seen, f_time, f_taken, a_at, a_version, a_value, a_originAt, a_stream, a_type, a_originBy, a_originCode, a_goesOn, a_events, a_cuts, a_firm, a_cutsGone, a_byVersion, a_byOrigin, a_upTo, a_draftType, a_draftValue, a_dOp, a_dC, a_height, a_clash, a_pOp, a_pSize, a_pC, a_position, a_cell, a_noted, a_stack, a_before, a_shown, a_gType, a_gTaken, a_gWaiting, a_kCount, a_gCursor, a_gParked, a_kCursor, a_tAt, a_tDue, a_wAt, a_kAt, a_tTimes, a_wTimes, a_kTimes) v1 v2 := fun c => by
    unfold wpX_group
    refine es_am0 (n := 2) c (br_t rfl ?_)
    unfold wpY_group
    exact es_out1 (n := 2) c (br_f es_10 ⟨rfl, keep⟩)
  rcases pk_ix v1 (n := 2) (by decide) with c | c | ⟨g, hg, rfl⟩
  · exact out (Or.inl c)
  · exact out (Or.inr c)
  · obtain ⟨nt, nw, nk, c, kc, ⟨a1, a2, a3, a4, a5, a6, a7, a8⟩, ⟨b1, b2, b3, b4, b5, b6, b7⟩, e3, hf, -⟩ := h8 g hg
    have hv : vp_in (nI g) 2 := vp_in_nI hg (by decide)
    have cg : (nI g).toNatClampNeg = g := nI_clamp (by omega)
    have h2g : 2 + nI g = nI (2 + g) := nI_add 2 g
    have c2g : (nI (2 + g)).toNatClampNeg = 2 + g := nI_clamp (by omega)
    have hv6 : vp_in (nI (2 + g)) 6 := vp_in_nI (by omega) (by decide)
    unfold wpX_group
    refine es_am1 (n := 2) hg (by decide) (br_f es_10 ⟨hv, ?_⟩)
    rw [cg]
    rcases hf with ⟨f1, f2, -⟩ | ⟨t, ht, f1, f2, f3, f4⟩
    · rw [f1]
      refine br_f es_n0 ?_
      unfold wpY_group
      refine es_out0 (n := 2) hg (by decide) (br_t rfl ⟨hv, ?_⟩)
      rw [cg, f2]
      exact br_t rfl ⟨rfl, keep⟩
    · rw [f1]
      refine br_t (nI_pos' (by omega)) ?_
      have hY : ∀ r : Int32, (v2 < 0 ∨ nI 4 ≤ v2 → r = -1) → (∀ j, j < 4 → v2 = nI j → r = (if j = 0 then nI c else if j = 1 then nI nt else if j = 2 then nI nw else a_gParked g)) → wpY_group (fun r' => r' = r ∧ i_Rel (k + 4) (f_held, f_records, f_flushed, f_summed, f_draft, f_drafted, f_seen, f_time, f_taken, a_at, a_version, a_value, a_originAt, a_stream, a_type, a_originBy, a_originCode, a_goesOn, a_events, a_cuts, a_firm, a_cutsGone, a_byVersion, a_byOrigin, a_upTo, a_draftType, a_draftValue, a_dOp, a_dC, a_height, a_clash, a_pOp, a_pSize, a_pC, a_position, a_cell, a_noted, a_stack, a_before, a_shown, a_gType, a_gTaken, a_gWaiting, a_kCount, a_gCursor, a_gParked, a_kCursor, a_tAt, a_tDue, a_wAt, a_kAt, a_tTimes, a_wTimes, a_kTimes) (g_count, g_flushed, g_calls, g_drafted, g_top, g_time, b_isCut, b_removed, b_stream, b_type, b_from, b_by, b_value, b_version, b_on, b_call, b_draftType, b_draftValue, b_op, b_with, b_length, b_height, b_torn, b_stack, b_position, b_cells, b_noted, b_wanted, b_formed, b_cursor, b_parked, b_where, b_often, b_due, b_many, b_found)) (g_count, g_flushed, g_calls, g_drafted, g_top, g_time, b_isCut, b_removed, b_stream, b_type, b_from, b_by, b_value, b_version, b_on, b_call, b_draftType, b_draftValue, b_op, b_with, b_length, b_height, b_torn, b_stack, b_position, b_cells, b_noted, b_wanted, b_formed, b_cursor, b_parked, b_where, b_often, b_due, b_many, b_found) (nI g) v2 := fun r ho hi => by
        unfold wpY_group
        refine es_out0 (n := 2) hg (by decide) (br_t rfl ⟨hv, ?_⟩)
        rw [cg, f3]
        refine br_f es_10 ?_
        rcases pk_ix v2 (n := 4) (by decide) with z | z | ⟨j, hj, rfl⟩
        · exact es_out1 (n := 4) (Or.inl z) (br_f es_10 ⟨(ho (Or.inl z)).symm, keep⟩)
        · exact es_out1 (n := 4) (Or.inr z) (br_f es_10 ⟨(ho (Or.inr z)).symm, keep⟩)
        · have hr := hi j hj rfl
          refine es_out0 (n := 4) hj (by decide) (br_t rfl ?_)
          rw [h2g, c2g, b2, a2, a4, e3]
          refine pk_eq j 0 (fun z => ?_) (fun z => pk_eq j 1 (fun z1 => ?_) (fun z1 => pk_eq j 2 (fun z2 => ?_) (fun z2 => ?_)))
          · rw [if_pos z] at hr
            exact ⟨vp_in_nI (by omega) (by decide), hr.symm, keep⟩
          · rw [if_neg z, if_pos z1] at hr
            exact ⟨vp_in_nI (by omega) (by decide), hr.symm, keep⟩
          · rw [if_neg z, if_neg z1, if_pos z2] at hr
            exact ⟨hv6, hr.symm, keep⟩
          · rw [if_neg z, if_neg z1, if_neg z2] at hr
            exact ⟨hv, hr.symm, keep⟩
      rw [b1, a1, a3]
      rcases pk_ix v2 (n := 4) (by decide) with z | z | ⟨j, hj, rfl⟩
      · exact br_t z (hY _ (fun _ => rfl) (fun j hj e => by rw [e] at z; exact absurd z (nI_pos (by omega))))
      · have z0 : ¬ v2 < 0 := fun w => nI_pos (n := 4) (by decide) (Int32.lt_of_le_of_lt z w)
        have z3 : 3 < v2 := Int32.lt_of_lt_of_le (show (3 : Int32) < nI 4 by decide) z
        exact br_f z0 (br_t z3 (hY _ (fun _ => rfl) (fun j hj e => by rw [e] at z; exact absurd z (nI_ge hj (by decide)))))
      · have no : ¬ (nI j < 0 ∨ nI 4 ≤ nI j) := fun w => w.elim (nI_pos (by omega)) (nI_ge hj (by decide))
        refine br_f (nI_pos (by omega)) (br_f (nI_nlt (a := 3) (b := j) (by omega) (by decide)) ?_)
        refine pk_eq j 0 (fun z => ⟨hv, ?_⟩) (fun z => pk_eq j 1 (fun z1 => ⟨hv, ?_⟩) (fun z1 => pk_eq j 2 (fun z2 => ⟨hv, ?_⟩) (fun z2 => pk_eq j 3 (fun z3 => ⟨hv, ?_⟩) (fun z3 => trivial))))
        · refine hY _ (fun w => absurd w no) (fun j' hj' e => ?_)
          have := es_inj e (by omega) (by omega)
          rw [if_pos (by omega)]
        · refine hY _ (fun w => absurd w no) (fun j' hj' e => ?_)
          have := es_inj e (by omega) (by omega)
          rw [if_neg (by omega), if_pos (by omega)]
        · refine hY _ (fun w => absurd w no) (fun j' hj' e => ?_)
          have := es_inj e (by omega) (by omega)
          rw [if_neg (by omega), if_neg (by omega), if_pos (by omega)]
        · refine hY _ (fun w => absurd w no) (fun j' hj' e => ?_)
          have := es_inj e (by omega) (by omega)
          rw [if_neg (by omega), if_neg (by omega), if_neg (by omega)]
end ES13b
end
section
/-! cut, append -/
section ES14
variable {f_held f_records f_flushed f_summed f_draft f_drafted f_seen f_time f_taken : Int32} {a_at a_version a_value a_originAt a_stream a_type a_originBy a_originCode a_goesOn a_events a_cuts a_firm a_cutsGone a_byVersion a_byOrigin a_draftType a_draftValue a_dOp a_dC a_height a_clash a_pOp a_pSize a_pC a_position a_cell a_noted a_stack a_before a_shown a_gType a_gTaken a_gWaiting a_kCount a_gCursor a_gParked a_kCursor a_tAt a_tDue a_wAt a_kAt a_tTimes a_wTimes a_kTimes : Nat → Int32} {a_upTo : Nat → Int64} {g_count g_flushed g_calls g_drafted g_top g_time : Int32} {b_isCut b_removed b_stream b_type b_from b_by b_value b_version b_on b_call b_draftType b_draftValue b_op b_with b_length b_height b_torn b_stack b_position b_cells b_noted b_wanted b_formed b_cursor b_parked b_where b_often b_due b_many b_found : Nat → Int32} {N F C : Nat} {L : Nat → es_Ev} {rm : Nat → Bool} {pd : Prop}
theorem es_WL_C {C' : Nat} (W : es_WL N F C L rm) (h : C ≤ C') : es_WL N F C' L rm :=
  ⟨W.1, W.2.1, W.2.2.1, W.2.2.2.1, fun i hi => by
    obtain ⟨a1, a2, a3, a4, a5, a6⟩ := W.2.2.2.2 i hi
    exact ⟨a1, a2, a3, a4, a5, by omega⟩⟩
theorem es_PJ_N {M : Nat} (h : N ≤ M) (hJ : es_PJ N F rm a_pSize a_position a_cell a_noted b_position b_cells b_noted) : es_PJ M F rm a_pSize a_position a_cell a_noted b_position b_cells b_noted := fun p hp hz => by
  obtain ⟨f1, P, K, g1, g2, g3, g4⟩ := hJ p hp hz
  exact ⟨f1, P, K, g1, g2, by omega, g4⟩
theorem es_PS_N {M kc nk : Nat} {kA : Nat → Int32} {x : Int32} (h : N ≤ M) (hp : es_PS N kc nk kA x) : es_PS M kc nk kA x := by
  obtain ⟨a, h1, h2⟩ := hp
  exact ⟨a, by omega, h2⟩
theorem es_GR_N {M g : Nat} (h : N ≤ M) (hR : es_GR N F rm a_gType a_gTaken a_gWaiting a_kCount a_gCursor a_gParked a_kCursor a_tAt a_tDue a_wAt a_kAt a_tTimes a_wTimes a_kTimes b_wanted b_formed b_cursor b_parked b_where b_often b_due b_many g) : es_GR M F rm a_gType a_gTaken a_gWaiting a_kCount a_gCursor a_gParked a_kCursor a_tAt a_tDue a_wAt a_kAt a_tTimes a_wTimes a_kTimes b_wanted b_formed b_cursor b_parked b_where b_often b_due b_many g := by
  obtain ⟨nt, nw, nk, c, kc, h1, ⟨b1, b2, b3, b4⟩, h3, h4, h5, h6, h7⟩ := hR
  exact ⟨nt, nw, nk, c, kc, h1, ⟨b1, b2, by omega, b4⟩, h3, h4, fun j hj => ⟨(h5 j hj).1, (h5 j hj).2.1, (h5 j hj).2.2.1, es_PS_N h (h5 j hj).2.2.2⟩, fun j hj => ⟨(h6 j hj).1, (h6 j hj).2.1, es_PS_N h (h6 j hj).2.2⟩, h7⟩
/-- a record's table after a put -/
theorem es_put_T {e : es_Ev} {p0 p2 p3 p1 : Int32} (T : es_XT N L rm a_at a_version a_value a_originAt a_stream a_type a_originBy a_originCode) (hr : rm N = false) {ob oa oc : Int32} (R : es_XR N e (nI N) p1 p3 oa p0 p2 ob oc) :
    es_XT (N + 1) (es_up L N e) rm (upd a_at (es_Q rm N) (nI N)) (upd a_version (es_Q rm N) p1) (upd a_value (es_Q rm N) p3) (upd a_originAt (es_Q rm N) oa) (upd a_stream (es_Q rm N) p0) (upd a_type (es_Q rm N) p2) (upd a_originBy (es_Q rm N) ob) (upd a_originCode (es_Q rm N) oc) :=
  es_XT_add _ _ _ _ _ _ _ _ T hr (fun j hj => ⟨pk_un hj, pk_un hj, pk_un hj, pk_un hj, pk_un hj, pk_un hj, pk_un hj, pk_un hj⟩) (by rw [pk_us, pk_us, pk_us, pk_us, pk_us, pk_us, pk_us, pk_us]; exact R)
theorem es_lk (W : es_WL N F C L rm) {e : es_Ev} (he : C < es_k e) : F < N → (es_k (L (N - 1)) = es_k e ↔ False) := fun h => by
  have := (W.2.2.2.2 (N - 1) (by omega)).2.2.2.2.2
  exact ⟨fun z => by omega, fun z => z.elim⟩
end ES14
section ES14a
theorem i_vc_cut {k : Nat} {u : SX} {v : SY} (I : i_Rel k u v) (hk : k + 4 ≤ 2048) (v1 : Int32) (v2 : Int32) : wpX_cut (fun r u' => wpY_cut (fun r' v' => r' = r ∧ i_Rel (k + 4) u' v') v v1 v2) u v1 v2 := by
  refine es_el (P := fun u v => wpX_cut (fun r u' => wpY_cut (fun r' v' => r' = r ∧ i_Rel (k + 4) u' v') v v1 v2) u v1 v2) ?_ u v I
  intro f_held f_records f_flushed f_summed f_draft f_drafted f_seen f_time f_taken a_at a_version a_value a_originAt a_stream a_type a_originBy a_originCode a_goesOn a_events a_cuts a_firm a_cutsGone a_byVersion a_byOrigin a_draftType a_draftValue a_dOp a_dC a_height a_clash a_pOp a_pSize a_pC a_position a_cell a_noted a_stack a_before a_shown a_gType a_gTaken a_gWaiting a_kCount a_gCursor a_gParked a_kCursor a_tAt a_tDue a_wAt a_kAt a_tTimes a_wTimes a_kTimes a_upTo g_count g_flushed g_calls g_drafted g_top g_time b_isCut b_removed b_stream b_type b_from b_by b_value b_version b_on b_call b_draftType b_draftValue b_op b_with b_length b_height b_torn b_stack b_position b_cells b_noted b_wanted b_formed b_cursor b_parked b_where b_often b_due b_many b_found N F C L rm h1 h2 h3 h4 h5 h6 h7 h8 h9 h10
  show wpX_cut (fun r u' => wpY_cut (fun r' v' => r' = r ∧ i_Rel (k + 4) u' v') (g_count, g_flushed, g_calls, g_drafted, g_top, g_time, b_isCut, b_removed, b_stream, b_type, b_from, b_by, b_value, b_version, b_on, b_call, b_draftType, b_draftValue, b_op, b_with, b_length, b_height, b_torn, b_stack, b_position, b_cells, b_noted, b_wanted, b_formed, b_cursor, b_parked, b_where, b_often, b_due, b_many, b_found) v1 v2) (f_held, f_records, f_flushed, f_summed, f_draft, f_drafted, f_seen, f_time, f_taken, a_at, a_version, a_value, a_originAt, a_stream, a_type, a_originBy, a_originCode, a_goesOn, a_events, a_cuts, a_firm, a_cutsGone, a_byVersion, a_byOrigin, a_upTo, a_draftType, a_draftValue, a_dOp, a_dC, a_height, a_clash, a_pOp, a_pSize, a_pC, a_position, a_cell, a_noted, a_stack, a_before, a_shown, a_gType, a_gTaken, a_gWaiting, a_kCount, a_gCursor, a_gParked, a_kCursor, a_tAt, a_tDue, a_wAt, a_kAt, a_tTimes, a_wTimes, a_kTimes) v1 v2
  have keep : i_Rel (k + 4) (f_held, f_records, f_flushed, f_summed, f_draft, f_drafted, f_seen, f_time, f_taken, a_at, a_version, a_value, a_originAt, a_stream, a_type, a_originBy, a_originCode, a_goesOn, a_events, a_cuts, a_firm, a_cutsGone, a_byVersion, a_byOrigin, a_upTo, a_draftType, a_draftValue, a_dOp, a_dC, a_height, a_clash, a_pOp, a_pSize, a_pC, a_position, a_cell, a_noted, a_stack, a_before, a_shown, a_gType, a_gTaken, a_gWaiting, a_kCount, a_gCursor, a_gParked, a_kCursor, a_tAt, a_tDue, a_wAt, a_kAt, a_tTimes, a_wTimes, a_kTimes) (g_count, g_flushed, g_calls, g_drafted, g_top, g_time, b_isCut, b_removed, b_stream, b_type, b_from, b_by, b_value, b_version, b_on, b_call, b_draftType, b_draftValue, b_op, b_with, b_length, b_height, b_torn, b_stack, b_position, b_cells, b_noted, b_wanted, b_formed, b_cursor, b_parked, b_where, b_often, b_due, b_many, b_found) := es_mk h1 h2 h3 (by omega) h5 h6 h7 h8 h9 h10
  have out : (v1 < 0 ∨ nI 5 ≤ v1) → wpX_cut (fun r u' => wpY_cut (fun r' v' => r' = r ∧ i_Rel (k + 4) u' v') (g_count, g_flushed, g_calls, g_drafted, g_top, g_time, b_isCut, b_removed, b_stream, b_type, b_from, b_by, b_value, b_version, b_on, b_call, b_draftType, b_draftValue, b_op, b_with, b_length, b_height, b_torn, b_stack, b_position, b_cells, b_noted, b_wanted, b_formed, b_cursor, b_parked, b_where, b_often, b_due, b_many, b_found) v1 v2) (f_held, f_records, f_flushed, f_summed, f_draft, f_drafted, f_seen, f_time, f_taken, a_at, a_version, a_value, a_originAt, a_stream, a_type, a_originBy, a_originCode, a_goesOn, a_events, a_cuts, a_firm, a_cutsGone, a_byVersion, a_byOrigin, a_upTo, a_draftType, a_draftValue, a_dOp, a_dC, a_height, a_clash, a_pOp, a_pSize, a_pC, a_position, a_cell, a_noted, a_stack, a_before, a_shown, a_gType, a_gTaken, a_gWaiting, a_kCount, a_gCursor, a_gParked, a_kCursor, a_tAt, a_tDue, a_wAt, a_kAt, a_tTimes, a_wTimes, a_kTimes) v1 v2 := fun c => by
    unfold wpX_cut
    refine es_am0 (n := 5) c (br_t rfl ?_)
    unfold wpY_cut
    exact es_out1 (n := 5) c (br_f es_10 ⟨rfl, keep⟩)
  rcases pk_ix v1 (n := 5) (by decide) with c | c | ⟨s, hs, rfl⟩
  · exact out (Or.inl c)
  · exact out (Or.inr c)
  clear out
  have h1' := h1
  have h2' := h2
  obtain ⟨rfl, rfl, rfl, T, A, G, HV, HO, S⟩ := h1
  obtain ⟨rfl, rfl, rfl, hr⟩ := h2
  have hv : vp_in (nI s) 5 := vp_in_nI hs (by decide)
  have cs : (nI s).toNatClampNeg = s := nI_clamp (by omega)
  have hN := h3.1
  have hq := h3.2.2.1
  have hE := es_E_le L s N
  unfold wpX_cut
  refine es_am1 (n := 5) hs (by decide) (br_f es_10 ?_)
  by_cases c0 : v2 < 0
  · refine br_t c0 ?_
    unfold wpY_cut
    exact es_out0 (n := 5) hs (by decide) (br_t rfl (br_t c0 ⟨rfl, keep⟩))
  obtain ⟨w, hw, rfl⟩ := nI_of c0
  refine br_f c0 ⟨hv, ?_⟩
  rw [cs, (A s hs).1]
  by_cases c1 : w ≤ es_E L s N
  rotate_left
  · refine br_f (fun z => c1 ((nI_leI hw (by omega)).mp z)) ?_
    unfold wpY_cut
    exact es_out0 (n := 5) hs (by decide) (br_t rfl (br_f c0 (es_y_events h2' h3 hs (Nat.le_refl N) (br_f (fun z => c1 ((nI_leI hw (by omega)).mp z)) ⟨rfl, keep⟩))))
  have c1' : nI w ≤ nI (es_E L s N) := nI_le c1 (by omega)
  refine br_t c1' ?_
  by_cases c2 : es_Q rm N = 40
  · rw [c2]
    refine br_t rfl ?_
    rw [← c2]
    unfold wpY_cut
    exact es_out0 (n := 5) hs (by decide) (br_t rfl (br_f c0 (es_y_events h2' h3 hs (Nat.le_refl N) (br_t c1' (es_y_there h2' hN (br_t (by rw [c2]; rfl) ⟨rfl, keep⟩))))))
  have c2' : ¬ nI (es_Q rm N) = 40 := fun z => c2 (es_inj (b := 40) z (by omega) (by decide))
  refine br_f c2' ?_
  by_cases c3 : N = 2000
  · refine br_t (by rw [c3]; rfl) ?_
    unfold wpY_cut
    exact es_out0 (n := 5) hs (by decide) (br_t rfl (br_f c0 (es_y_events h2' h3 hs (Nat.le_refl N) (br_t c1' (es_y_there h2' hN (br_f c2' (br_t (by rw [c3]; rfl) ⟨rfl, keep⟩)))))))
  have c3' : ¬ nI N = 2000 := fun z => c3 (es_inj (b := 2000) z (by omega) (by decide))
  refine br_f c3' ?_
  have hrN := es_rmN h3 h3.2.1
  have W' : es_WL N F (C + 1) L rm := es_WL_C h3 (by omega)
  have W2 : es_WL (N + 1) F (C + 1) (es_up L N (true, s, 0, nI w, es_E L s N, none, C + 1)) rm := es_WL_add h3 (by omega) (by omega) (by omega) hs (by show 0 < 8; omega) rfl (fun _ => ⟨w, by omega, rfl⟩) (fun _ _ _ z => nomatch z) (Nat.le_refl _)
  have hY : ∀ {X' : SX}, (∀ (b_isCut' b_removed' b_stream' b_type' b_from' b_value' b_version' b_on' b_call' : Nat → Int32), es_CY (N + 1) F (C + 1) (es_up L N (true, s, 0, nI w, es_E L s N, none, C + 1)) rm (nI (N + 1)) (nI F) (nI (C + 1)) b_isCut' b_removed' b_stream' b_type' b_from' b_by b_value' b_version' b_on' b_call' → i_Rel (k + 4) X' (nI (N + 1), nI F, nI (C + 1), g_drafted, g_top, g_time, b_isCut', b_removed', b_stream', b_type', b_from', b_by, b_value', b_version', b_on', b_call', b_draftType, b_draftValue, b_op, b_with, b_length, b_height, b_torn, b_stack, b_position, b_cells, b_noted, b_wanted, b_formed, b_cursor, b_parked, b_where, b_often, b_due, b_many, b_found)) →
      wpY_cut (fun r' v' => r' = nI N ∧ i_Rel (k + 4) X' v') (nI N, nI F, nI C, g_drafted, g_top, g_time, b_isCut, b_removed, b_stream, b_type, b_from, b_by, b_value, b_version, b_on, b_call, b_draftType, b_draftValue, b_op, b_with, b_length, b_height, b_torn, b_stack, b_position, b_cells, b_noted, b_wanted, b_formed, b_cursor, b_parked, b_where, b_often, b_due, b_many, b_found) (nI s) (nI w) := fun {X'} hq' => by
    unfold wpY_cut
    refine es_out0 (n := 5) hs (by decide) (br_t rfl (br_f c0 (es_y_events h2' h3 hs (Nat.le_refl N) (br_t c1' (es_y_there h2' hN (br_f c2' (br_f c3' (nm_r (nI_1 C) ?_))))))))
    exact es_y_add (c := true) (t := 0) (C := C + 1) ⟨rfl, rfl, rfl, hr⟩ W' (by omega) hs (by omega) (fun b1 b2 b3 b4 b5 b6 b7 b8 b9 hcy => ⟨rfl, hq' _ _ _ _ _ _ _ _ _ hcy⟩)
  have T' := es_put_T (p0 := nI s) (p1 := nI w) (p2 := -1) (p3 := 0) (oa := -1) (ob := -1) (oc := 0) (e := (true, s, 0, nI w, es_E L s N, none, C + 1)) T hrN ⟨rfl, rfl, fun _ => ⟨rfl, rfl⟩, fun z => nomatch z⟩
  have G' := es_GO_add (e := (true, s, 0, nI w, es_E L s N, none, C + 1)) (pd' := False) (z := 0) h3 G (es_lk h3 (Nat.lt_succ_self C)) (Or.inl rfl) ⟨fun _ => id, fun _ => rfl⟩ (a_goesOn' := upd a_goesOn (es_Q rm N) 0) pk_us (fun j hj => pk_un hj)
  have HV' : es_HV (N + 1) (es_up L N (true, s, 0, nI w, es_E L s N, none, C + 1)) rm a_byVersion := es_HS_skip (es_HV_cg HV (fun i hi => (es_up_lt i hi).symm)) (Or.inr (by rw [es_up_s]; exact fun z => nomatch z))
  have HO' : es_HO (N + 1) (es_up L N (true, s, 0, nI w, es_E L s N, none, C + 1)) rm a_byOrigin := es_HS_skip (es_HO_cg HO (fun i hi => (es_up_lt i hi).symm)) (Or.inr (by rw [es_up_s]; exact fun z => nomatch z.1))
  have hJ' := es_PJ_N (M := N + 1) (by omega) h7
  have hR' := fun g hg => es_GR_N (M := N + 1) (by omega) (h8 g hg)
  have hm : es_M L s N ≤ 2000 := es_mx_le (fun j hj hp => by
    simp at hp
    exact (es_ww h3 hj hp.1).1)
  refine es_x_put (H := es_Q rm N) (M := N) (by omega) ⟨hv, ?_⟩
  rw [nI_pred, (A s hs).2.1, es_b8 (show s < 128 by omega), es_nbm8]
  refine pk_le w (es_M L s N) (fun z => hY ?_) (fun z => ⟨hv, nm_e (hY ?_)⟩)
  · intro b1 b2 b3 b4 b5 b6 b7 b8 b9 hcy
    exact es_mk ⟨by rw [es_Q_f hrN], rfl, rfl, T', es_AG_cut (s := s) (w := w) (by omega) h3.2.1 hrN rfl rfl rfl A (fun _ => rfl) (fun z' => absurd z (by omega)), G', HV', HO', Or.inl rfl⟩ hcy W2 (by omega) h5 h6 hJ' hR' h9 h10
  · intro b1 b2 b3 b4 b5 b6 b7 b8 b9 hcy
    exact es_mk ⟨by rw [es_Q_f hrN], rfl, rfl, T', es_AG_cut (s := s) (w := w) (by omega) h3.2.1 hrN rfl rfl rfl A (fun z' => absurd z (by omega)) (fun _ => rfl), G', HV', HO', Or.inl rfl⟩ hcy W2 (by omega) h5 h6 hJ' hR' h9 h10
end ES14a
end
section
/-! append -/
section ES15
def es_ap (L : Nat → es_Ev) (N s C : Nat) (dT dV : Nat → Int32) : Nat → Nat → es_Ev
  | 0 => L
  | k + 1 => es_up (es_ap L N s C dT dV k) (N + k) (false, s, (dT k).toNatClampNeg, dV k, es_E (es_ap L N s C dT dV k) s (N + k), none, C)
variable {f_held f_records f_flushed f_summed f_draft f_drafted f_seen f_time f_taken : Int32} {a_at a_version a_value a_originAt a_stream a_type a_originBy a_originCode a_goesOn a_events a_cuts a_firm a_cutsGone a_byVersion a_byOrigin a_draftType a_draftValue a_dOp a_dC a_height a_clash a_pOp a_pSize a_pC a_position a_cell a_noted a_stack a_before a_shown a_gType a_gTaken a_gWaiting a_kCount a_gCursor a_gParked a_kCursor a_tAt a_tDue a_wAt a_kAt a_tTimes a_wTimes a_kTimes : Nat → Int32} {a_upTo : Nat → Int64} {g_count g_flushed g_calls g_drafted g_top g_time : Int32} {b_isCut b_removed b_stream b_type b_from b_by b_value b_version b_on b_call b_draftType b_draftValue b_op b_with b_length b_height b_torn b_stack b_position b_cells b_noted b_wanted b_formed b_cursor b_parked b_where b_often b_due b_many b_found : Nat → Int32} {N F C : Nat} {L : Nat → es_Ev} {rm : Nat → Bool} {pd : Prop}
theorem es_Qk (W : es_WL N F C L rm) (k : Nat) : es_Q rm (N + k) = es_Q rm N + k := by
  have := es_Q_all (rm := rm) (i := N) (j := N + k) (by omega) (fun j hj _ => es_rmN W (by have := W.2.1; omega))
  rw [this]
  omega
theorem es_ap_W {s d : Nat} {dT dV : Nat → Int32} (W : es_WL N F C L rm) (hs : s < 5) (hd : ∀ i, i < d → ∃ t, t < 8 ∧ dT i = nI t) (hN : N + d ≤ 2000) (hq : es_Q rm N + d ≤ 40) : ∀ k, k ≤ d → es_WL (N + k) F (C + 1) (es_ap L N s (C + 1) dT dV k) rm
  | 0, _ => es_WL_C W (by omega)
  | k + 1, h => by
    have ih := es_ap_W (dV := dV) W hs hd hN hq k (by omega)
    have hk := es_Qk W k
    obtain ⟨t, ht, e⟩ := hd k (by omega)
    refine es_WL_add (N := N + k) ih (by omega) (by omega) (Nat.le_refl _) hs ?_ rfl (fun z => nomatch z) (fun _ _ _ z => nomatch z) (Nat.le_refl _)
    show (dT k).toNatClampNeg < 8
    rw [e, nI_clamp (by omega)]
    exact ht
theorem es_ap_l {s k : Nat} {dT dV : Nat → Int32} : es_k (es_ap L N s C dT dV (k + 1) (N + k)) = C := by
  show es_k (es_up _ (N + k) _ (N + k)) = C
  rw [es_up_s]
theorem es_y_ap91 {s d : Nat} (W : es_WL N F C L rm) (hs : s < 5) (hd : ∀ i, i < d → ∃ t, t < 8 ∧ b_draftType i = nI t) (hd4 : d ≤ 4) (hN : N + d ≤ 2000) (hq : es_Q rm N + d ≤ 40) {post : Int32 → SY → Prop}
    (hp : ∀ (g_count' g_calls' : Int32) (b_isCut' b_removed' b_stream' b_type' b_from' b_by' b_value' b_version' b_on' b_call' : Nat → Int32), es_CY (N + d) F (C + 1) (es_ap L N s (C + 1) b_draftType b_draftValue d) rm g_count' g_flushed g_calls' b_isCut' b_removed' b_stream' b_type' b_from' b_by' b_value' b_version' b_on' b_call' → post (nI N) (g_count', g_flushed, g_calls', 0, g_top, g_time, b_isCut', b_removed', b_stream', b_type', b_from', b_by', b_value', b_version', b_on', b_call', b_draftType, b_draftValue, b_op, b_with, b_length, b_height, b_torn, b_stack, b_position, b_cells, b_noted, b_wanted, b_formed, b_cursor, b_parked, b_where, b_often, b_due, b_many, b_found)) :
    ∀ j k, k + j = d → ∀ (g_count' g_calls' : Int32) (b_isCut' b_removed' b_stream' b_type' b_from' b_by' b_value' b_version' b_on' b_call' : Nat → Int32), es_CY (N + k) F (C + 1) (es_ap L N s (C + 1) b_draftType b_draftValue k) rm g_count' g_flushed g_calls' b_isCut' b_removed' b_stream' b_type' b_from' b_by' b_value' b_version' b_on' b_call' → wY_append_91 post (nI s) (nI N) (j + 1) (nI k) g_count' g_flushed g_calls' (nI d) g_top g_time b_isCut' b_removed' b_stream' b_type' b_from' b_by' b_value' b_version' b_on' b_call' b_draftType b_draftValue b_op b_with b_length b_height b_torn b_stack b_position b_cells b_noted b_wanted b_formed b_cursor b_parked b_where b_often b_due b_many b_found := by
  intro j
  induction j with
  | zero =>
    intro k hk g_count' g_calls' b_isCut' b_removed' b_stream' b_type' b_from' b_by' b_value' b_version' b_on' b_call' h
    have e : k = d := by omega
    subst e
    exact br_t (nI_le (Nat.le_refl _) (by omega)) (hp g_count' g_calls' b_isCut' b_removed' b_stream' b_type' b_from' b_by' b_value' b_version' b_on' b_call' h)
  | succ j ih =>
    intro k hk g_count' g_calls' b_isCut' b_removed' b_stream' b_type' b_from' b_by' b_value' b_version' b_on' b_call' h
    obtain ⟨t, ht, e⟩ := hd k (by omega)
    have hv : vp_in (nI k) 4 := vp_in_nI (by omega) (by decide)
    refine br_f (nI_ge (by omega) (by omega)) ⟨hv, hv, ?_⟩
    rw [nI_clamp (show k < 2 ^ 31 by omega), e]
    refine es_y_add (c := false) h (es_ap_W W hs hd hN hq k (by omega)) (by omega) hs (by omega) (fun b1 b2 b3 b4 b5 b6 b7 b8 b9 hcy => nm_r (nI_1 k) ?_)
    have h0 := h.2.2.1
    refine ih (k + 1) (by omega) _ _ _ _ _ _ _ _ _ _ _ _ ?_
    have e2 : es_ap L N s (C + 1) b_draftType b_draftValue (k + 1) = es_up (es_ap L N s (C + 1) b_draftType b_draftValue k) (N + k) (false, s, t, b_draftValue k, es_E (es_ap L N s (C + 1) b_draftType b_draftValue k) s (N + k), none, C + 1) := by
      show es_up _ _ (false, s, (b_draftType k).toNatClampNeg, _, _, _, _) = _
      rw [e, nI_clamp (by omega)]
    rw [e2]
    exact hcy
theorem es_x_ap78 {s d : Nat} (W : es_WL N F C L rm) (hs : s < 5) (hd : ∀ i, i < d → ∃ t, t < 8 ∧ a_draftType i = nI t) (hd4 : d ≤ 4) (hN : N + d ≤ 2000) (hq : es_Q rm N + d ≤ 40) {post : Int32 → SX → Prop}
    (hp : ∀ (f_held' f_records' f_summed' : Int32) (a_at' a_version' a_value' a_originAt' a_stream' a_type' a_originBy' a_originCode' a_goesOn' a_events' a_byVersion' a_byOrigin' : Nat → Int32), es_CX (N + d) F (es_ap L N s (C + 1) a_draftType a_draftValue d) rm (0 < d ∧ d < d) f_held' f_records' f_flushed f_summed' a_at' a_version' a_value' a_originAt' a_stream' a_type' a_originBy' a_originCode' a_goesOn' a_events' a_cuts a_firm a_cutsGone a_byVersion' a_byOrigin' a_upTo → post (nI N) (f_held', f_records', f_flushed, f_summed', 0, f_drafted, f_seen, f_time, f_taken, a_at', a_version', a_value', a_originAt', a_stream', a_type', a_originBy', a_originCode', a_goesOn', a_events', a_cuts, a_firm, a_cutsGone, a_byVersion', a_byOrigin', a_upTo, a_draftType, a_draftValue, a_dOp, a_dC, a_height, a_clash, a_pOp, a_pSize, a_pC, a_position, a_cell, a_noted, a_stack, a_before, a_shown, a_gType, a_gTaken, a_gWaiting, a_kCount, a_gCursor, a_gParked, a_kCursor, a_tAt, a_tDue, a_wAt, a_kAt, a_tTimes, a_wTimes, a_kTimes)) :
    ∀ j k, k + j = d → ∀ (f_held' f_records' f_summed' : Int32) (a_at' a_version' a_value' a_originAt' a_stream' a_type' a_originBy' a_originCode' a_goesOn' a_events' a_byVersion' a_byOrigin' : Nat → Int32), es_CX (N + k) F (es_ap L N s (C + 1) a_draftType a_draftValue k) rm (0 < k ∧ k < d) f_held' f_records' f_flushed f_summed' a_at' a_version' a_value' a_originAt' a_stream' a_type' a_originBy' a_originCode' a_goesOn' a_events' a_cuts a_firm a_cutsGone a_byVersion' a_byOrigin' a_upTo → wX_append_78 post (nI s) (nI N) (j + 1) (nI k) f_held' f_records' f_flushed f_summed' (nI d) f_drafted f_seen f_time f_taken a_at' a_version' a_value' a_originAt' a_stream' a_type' a_originBy' a_originCode' a_goesOn' a_events' a_cuts a_firm a_cutsGone a_byVersion' a_byOrigin' a_upTo a_draftType a_draftValue a_dOp a_dC a_height a_clash a_pOp a_pSize a_pC a_position a_cell a_noted a_stack a_before a_shown a_gType a_gTaken a_gWaiting a_kCount a_gCursor a_gParked a_kCursor a_tAt a_tDue a_wAt a_kAt a_tTimes a_wTimes a_kTimes := by
  intro j
  induction j with
  | zero =>
    intro k hk f_held' f_records' f_summed' a_at' a_version' a_value' a_originAt' a_stream' a_type' a_originBy' a_originCode' a_goesOn' a_events' a_byVersion' a_byOrigin' h
    have e : k = d := by omega
    subst e
    exact br_t (nI_le (Nat.le_refl _) (by omega)) (hp f_held' f_records' f_summed' a_at' a_version' a_value' a_originAt' a_stream' a_type' a_originBy' a_originCode' a_goesOn' a_events' a_byVersion' a_byOrigin' h)
  | succ j ih =>
    intro k hk f_held' f_records' f_summed' a_at' a_version' a_value' a_originAt' a_stream' a_type' a_originBy' a_originCode' a_goesOn' a_events' a_byVersion' a_byOrigin' h
    obtain ⟨t, ht, e⟩ := hd k (by omega)
    have hv : vp_in (nI k) 4 := vp_in_nI (by omega) (by decide)
    have hv5 : vp_in (nI s) 5 := vp_in_nI hs (by decide)
    have Wk := es_ap_W (dV := a_draftValue) W hs hd hN hq k (by omega)
    have Wk1 := es_ap_W (dV := a_draftValue) W hs hd hN hq (k + 1) (by omega)
    have hQk := es_Qk W k
    have hrN := es_rmN W (show F ≤ N + k by have := W.2.1; omega)
    have e2 : es_ap L N s (C + 1) a_draftType a_draftValue (k + 1) = es_up (es_ap L N s (C + 1) a_draftType a_draftValue k) (N + k) (false, s, t, a_draftValue k, es_E (es_ap L N s (C + 1) a_draftType a_draftValue k) s (N + k), none, C + 1) := by
      show es_up _ _ (false, s, (a_draftType k).toNatClampNeg, _, _, _, _) = _
      rw [e, nI_clamp (by omega)]
    have lk : F < N + k → (es_k (es_ap L N s (C + 1) a_draftType a_draftValue k (N + k - 1)) = C + 1 ↔ (0 < k ∧ k < d)) := fun hF => by
      cases k with
      | zero =>
        have := (W.2.2.2.2 (N + 0 - 1) (by omega)).2.2.2.2.2
        constructor
        · intro z
          have z' : es_k (L (N + 0 - 1)) = C + 1 := z
          omega
        · intro z; omega
      | succ k =>
        rw [show N + (k + 1) - 1 = N + k by omega, es_ap_l]
        exact ⟨fun _ => ⟨by omega, by omega⟩, fun _ => rfl⟩
    obtain ⟨rfl, rfl, e9, T, A, G, HV, HO, S⟩ := h
    have ih' := ih (k + 1) (by omega)
    rw [e2] at ih' Wk1
    have eQ : es_Q rm (N + k) + 1 - 1 = es_Q rm (N + k) := by omega
    have T' := es_put_T (p0 := nI s) (p1 := nI (es_E (es_ap L N s (C + 1) a_draftType a_draftValue k) s (N + k))) (p2 := nI t) (p3 := a_draftValue k) (oa := -1) (ob := -1) (oc := 0) (e := (false, s, t, a_draftValue k, es_E (es_ap L N s (C + 1) a_draftType a_draftValue k) s (N + k), none, C + 1)) T hrN ⟨rfl, rfl, (fun z => nomatch z), fun _ => ⟨rfl, rfl, rfl, rfl, rfl⟩⟩
    have A' := es_AG_ev (e := (false, s, t, a_draftValue k, es_E (es_ap L N s (C + 1) a_draftType a_draftValue k) s (N + k), none, C + 1)) Wk.2.1 hrN rfl rfl A
    have row := T' (N + k) (Nat.lt_succ_self _) hrN
    have HV' := es_HV_cg HV (fun i hi => (es_up_lt (L := es_ap L N s (C + 1) a_draftType a_draftValue k) (e := (false, s, t, a_draftValue k, es_E (es_ap L N s (C + 1) a_draftType a_draftValue k) s (N + k), none, C + 1)) i hi).symm)
    have HO' := es_HO_cg HO (fun i hi => (es_up_lt (L := es_ap L N s (C + 1) a_draftType a_draftValue k) (e := (false, s, t, a_draftValue k, es_E (es_ap L N s (C + 1) a_draftType a_draftValue k) s (N + k), none, C + 1)) i hi).symm)
    have w := Wk1.2.2.2.2 (N + k) (Nat.lt_succ_self _)
    refine br_f (nI_ge (by omega) (by omega)) ⟨hv5, hv5, nm_e ⟨hv, hv, ?_⟩⟩
    rw [nI_clamp (show k < 2 ^ 31 by omega), nI_clamp (show s < 2 ^ 31 by omega), (A s hs).1, e, nI_1 k, nI_1 (es_E (es_ap L N s (C + 1) a_draftType a_draftValue k) s (N + k))]
    have go : ∀ (z : Int32) (pd' : Prop), (vp_nar .boolean z = 0 ∨ vp_nar .boolean z = 1) → (vp_nar .boolean z = 0 ↔ ¬ pd') → pd' = (0 < k + 1 ∧ k + 1 < d) → wX_append_143 post (wX_append_78 post (nI s) (nI N) (j + 1)) (nI s) (nI N) (nI k) z (nI (es_Q rm (N + k) + 1) - 1) (nI (es_Q rm (N + k) + 1)) (nI (N + k + 1)) f_flushed 0 (nI d) f_drafted f_seen f_time f_taken (upd a_at' (es_Q rm (N + k)) (nI (N + k))) (upd a_version' (es_Q rm (N + k)) (nI (es_E (es_ap L N s (C + 1) a_draftType a_draftValue k) s (N + k)))) (upd a_value' (es_Q rm (N + k)) (a_draftValue k)) (upd a_originAt' (es_Q rm (N + k)) (-1)) (upd a_stream' (es_Q rm (N + k)) (nI s)) (upd a_type' (es_Q rm (N + k)) (nI t)) (upd a_originBy' (es_Q rm (N + k)) (-1)) (upd a_originCode' (es_Q rm (N + k)) 0) (upd a_goesOn' (es_Q rm (N + k)) 0) (upd a_events' s (nI (es_E (es_ap L N s (C + 1) a_draftType a_draftValue k) s (N + k) + 1))) a_cuts a_firm a_cutsGone a_byVersion' a_byOrigin' a_upTo a_draftType a_draftValue a_dOp a_dC a_height a_clash a_pOp a_pSize a_pC a_position a_cell a_noted a_stack a_before a_shown a_gType a_gTaken a_gWaiting a_kCount a_gCursor a_gParked a_kCursor a_tAt a_tDue a_wAt a_kAt a_tTimes a_wTimes a_kTimes := fun z pd' hz1 hz hpd => by
      unfold wX_append_143
      try dsimp only
      rw [nI_pred, nI_clamp (show es_Q rm (N + k) < 2 ^ 31 by omega)]
      refine ⟨vp_in_nI (by omega) (by decide), nm_e (es_x_index (i := N + k) (by omega) hrN w.2.1 (fun p o b q => (w.2.2.2.2.1 p o b q).1) row HV' HO' (fun hv' hx' k1 k2 => nm_r (nI_1 k) ?_))⟩
      refine ih' _ _ _ _ _ _ _ _ _ _ _ _ _ _ _ ⟨by rw [← Nat.add_assoc, es_Q_f hrN], rfl, e9, T', A', ?_, k1, k2, Or.inl rfl⟩
      rw [← hpd]
      exact es_GO_add (z := vp_nar .boolean z) Wk G lk hz1 hz pk_us (fun j hj => (pk_un hj).trans (pk_un hj))
    refine es_x_put (H := es_Q rm (N + k)) (M := N + k) (by omega) ?_
    dsimp only
    rw [es_b8 (show s < 128 by omega), es_b8 (show t < 128 by omega)]
    refine pk_le d (k + 1) (fun z => go 0 (0 < k + 1 ∧ k + 1 < d) (Or.inl es_z0) ?_ rfl) (fun z => go 1 (0 < k + 1 ∧ k + 1 < d) (Or.inr es_z1) ?_ rfl)
    · rw [es_z0]
      exact ⟨fun _ h => by omega, fun _ => rfl⟩
    · rw [es_z1]
      exact ⟨fun h => absurd h es_10, fun h => absurd ⟨by omega, z⟩ h⟩
end ES15
end
section
/-! append joined -/
section ES16
section
variable {f_held f_records f_flushed f_summed f_draft f_drafted f_seen f_time f_taken : Int32} {a_at a_version a_value a_originAt a_stream a_type a_originBy a_originCode a_goesOn a_events a_cuts a_firm a_cutsGone a_byVersion a_byOrigin a_draftType a_draftValue a_dOp a_dC a_height a_clash a_pOp a_pSize a_pC a_position a_cell a_noted a_stack a_before a_shown a_gType a_gTaken a_gWaiting a_kCount a_gCursor a_gParked a_kCursor a_tAt a_tDue a_wAt a_kAt a_tTimes a_wTimes a_kTimes : Nat → Int32} {a_upTo : Nat → Int64} {N F : Nat} {L : Nat → es_Ev} {rm : Nat → Bool} {pd pd' : Prop}
theorem es_CX_pd (h : es_CX N F L rm pd f_held f_records f_flushed f_summed a_at a_version a_value a_originAt a_stream a_type a_originBy a_originCode a_goesOn a_events a_cuts a_firm a_cutsGone a_byVersion a_byOrigin a_upTo) (e : pd ↔ pd') : es_CX N F L rm pd' f_held f_records f_flushed f_summed a_at a_version a_value a_originAt a_stream a_type a_originBy a_originCode a_goesOn a_events a_cuts a_firm a_cutsGone a_byVersion a_byOrigin a_upTo := by
  rw [← propext e]
  exact h
end
theorem i_vc_append {k : Nat} {u : SX} {v : SY} (I : i_Rel k u v) (hk : k + 4 ≤ 2048) (v1 : Int32) (v2 : Int32) : wpX_append (fun r u' => wpY_append (fun r' v' => r' = r ∧ i_Rel (k + 4) u' v') v v1 v2) u v1 v2 := by
  refine es_el (P := fun u v => wpX_append (fun r u' => wpY_append (fun r' v' => r' = r ∧ i_Rel (k + 4) u' v') v v1 v2) u v1 v2) ?_ u v I
  intro f_held f_records f_flushed f_summed f_draft f_drafted f_seen f_time f_taken a_at a_version a_value a_originAt a_stream a_type a_originBy a_originCode a_goesOn a_events a_cuts a_firm a_cutsGone a_byVersion a_byOrigin a_draftType a_draftValue a_dOp a_dC a_height a_clash a_pOp a_pSize a_pC a_position a_cell a_noted a_stack a_before a_shown a_gType a_gTaken a_gWaiting a_kCount a_gCursor a_gParked a_kCursor a_tAt a_tDue a_wAt a_kAt a_tTimes a_wTimes a_kTimes a_upTo g_count g_flushed g_calls g_drafted g_top g_time b_isCut b_removed b_stream b_type b_from b_by b_value b_version b_on b_call b_draftType b_draftValue b_op b_with b_length b_height b_torn b_stack b_position b_cells b_noted b_wanted b_formed b_cursor b_parked b_where b_often b_due b_many b_found N F C L rm h1 h2 h3 h4 h5 h6 h7 h8 h9 h10
  show wpX_append (fun r u' => wpY_append (fun r' v' => r' = r ∧ i_Rel (k + 4) u' v') (g_count, g_flushed, g_calls, g_drafted, g_top, g_time, b_isCut, b_removed, b_stream, b_type, b_from, b_by, b_value, b_version, b_on, b_call, b_draftType, b_draftValue, b_op, b_with, b_length, b_height, b_torn, b_stack, b_position, b_cells, b_noted, b_wanted, b_formed, b_cursor, b_parked, b_where, b_often, b_due, b_many, b_found) v1 v2) (f_held, f_records, f_flushed, f_summed, f_draft, f_drafted, f_seen, f_time, f_taken, a_at, a_version, a_value, a_originAt, a_stream, a_type, a_originBy, a_originCode, a_goesOn, a_events, a_cuts, a_firm, a_cutsGone, a_byVersion, a_byOrigin, a_upTo, a_draftType, a_draftValue, a_dOp, a_dC, a_height, a_clash, a_pOp, a_pSize, a_pC, a_position, a_cell, a_noted, a_stack, a_before, a_shown, a_gType, a_gTaken, a_gWaiting, a_kCount, a_gCursor, a_gParked, a_kCursor, a_tAt, a_tDue, a_wAt, a_kAt, a_tTimes, a_wTimes, a_kTimes) v1 v2
  obtain ⟨d, hd, rfl, rfl, rfl, rfl, ht⟩ := h5
  have keep : i_Rel (k + 4) (f_held, f_records, f_flushed, f_summed, nI d, f_drafted, f_seen, f_time, f_taken, a_at, a_version, a_value, a_originAt, a_stream, a_type, a_originBy, a_originCode, a_goesOn, a_events, a_cuts, a_firm, a_cutsGone, a_byVersion, a_byOrigin, a_upTo, a_draftType, a_draftValue, a_dOp, a_dC, a_height, a_clash, a_pOp, a_pSize, a_pC, a_position, a_cell, a_noted, a_stack, a_before, a_shown, a_gType, a_gTaken, a_gWaiting, a_kCount, a_gCursor, a_gParked, a_kCursor, a_tAt, a_tDue, a_wAt, a_kAt, a_tTimes, a_wTimes, a_kTimes) (g_count, g_flushed, g_calls, nI d, g_top, g_time, b_isCut, b_removed, b_stream, b_type, b_from, b_by, b_value, b_version, b_on, b_call, a_draftType, a_draftValue, b_op, b_with, b_length, b_height, b_torn, b_stack, b_position, b_cells, b_noted, b_wanted, b_formed, b_cursor, b_parked, b_where, b_often, b_due, b_many, b_found) := es_mk h1 h2 h3 (by omega) ⟨d, hd, rfl, rfl, rfl, rfl, ht⟩ h6 h7 h8 h9 h10
  have out : (v1 < 0 ∨ nI 5 ≤ v1) → wpX_append (fun r u' => wpY_append (fun r' v' => r' = r ∧ i_Rel (k + 4) u' v') (g_count, g_flushed, g_calls, nI d, g_top, g_time, b_isCut, b_removed, b_stream, b_type, b_from, b_by, b_value, b_version, b_on, b_call, a_draftType, a_draftValue, b_op, b_with, b_length, b_height, b_torn, b_stack, b_position, b_cells, b_noted, b_wanted, b_formed, b_cursor, b_parked, b_where, b_often, b_due, b_many, b_found) v1 v2) (f_held, f_records, f_flushed, f_summed, nI d, f_drafted, f_seen, f_time, f_taken, a_at, a_version, a_value, a_originAt, a_stream, a_type, a_originBy, a_originCode, a_goesOn, a_events, a_cuts, a_firm, a_cutsGone, a_byVersion, a_byOrigin, a_upTo, a_draftType, a_draftValue, a_dOp, a_dC, a_height, a_clash, a_pOp, a_pSize, a_pC, a_position, a_cell, a_noted, a_stack, a_before, a_shown, a_gType, a_gTaken, a_gWaiting, a_kCount, a_gCursor, a_gParked, a_kCursor, a_tAt, a_tDue, a_wAt, a_kAt, a_tTimes, a_wTimes, a_kTimes) v1 v2 := fun c => by
    unfold wpX_append
    refine es_am0 (n := 5) c (br_t rfl ?_)
    unfold wpY_append
    exact es_out1 (n := 5) c (br_f es_10 ⟨rfl, keep⟩)
  rcases pk_ix v1 (n := 5) (by decide) with c | c | ⟨s, hs, rfl⟩
  · exact out (Or.inl c)
  · exact out (Or.inr c)
  clear out
  have h1' := h1
  have h2' := h2
  obtain ⟨rfl, rfl, rfl, T, A, G, HV, HO, S⟩ := h1
  obtain ⟨rfl, rfl, rfl, hr⟩ := h2
  have hv : vp_in (nI s) 5 := vp_in_nI hs (by decide)
  have cs : (nI s).toNatClampNeg = s := nI_clamp (by omega)
  have hN := h3.1
  have hq := h3.2.2.1
  have hE := es_E_le L s N
  unfold wpX_append
  refine es_am1 (n := 5) hs (by decide) (br_f es_10 ?_)
  by_cases c0 : d = 0
  · subst c0
    refine br_t rfl ?_
    unfold wpY_append
    exact es_out0 (n := 5) hs (by decide) (br_t rfl (br_t rfl ⟨rfl, keep⟩))
  have n0 : ¬ nI d = 0 := nI_ne0 (by omega) (by omega)
  refine br_f n0 ?_
  have hYgo : ∀ {post : Int32 → SY → Prop}, (v2 = -2 ∨ v2 = nI (es_E L s N) - 1) → wY_append_41 post (nI s) (nI N) (nI F) (nI C) (nI d) g_top g_time b_isCut b_removed b_stream b_type b_from b_by b_value b_version b_on b_call a_draftType a_draftValue b_op b_with b_length b_height b_torn b_stack b_position b_cells b_noted b_wanted b_formed b_cursor b_parked b_where b_often b_due b_many b_found → wpY_append post (nI N, nI F, nI C, nI d, g_top, g_time, b_isCut, b_removed, b_stream, b_type, b_from, b_by, b_value, b_version, b_on, b_call, a_draftType, a_draftValue, b_op, b_with, b_length, b_height, b_torn, b_stack, b_position, b_cells, b_noted, b_wanted, b_formed, b_cursor, b_parked, b_where, b_often, b_due, b_many, b_found) (nI s) v2 := fun {post} hc h41 => by
    unfold wpY_append
    refine es_out0 (n := 5) hs (by decide) (br_t rfl (br_f n0 ?_))
    by_cases c : v2 = -2
    · exact br_t c h41
    · exact br_f c (es_y_events h2' h3 hs (Nat.le_refl N) (br_t (hc.resolve_left c) h41))
  have hX : (v2 = -2 ∨ v2 = nI (es_E L s N) - 1) → wX_append_38 (fun r u' => wpY_append (fun r' v' => r' = r ∧ i_Rel (k + 4) u' v') (nI N, nI F, nI C, nI d, g_top, g_time, b_isCut, b_removed, b_stream, b_type, b_from, b_by, b_value, b_version, b_on, b_call, a_draftType, a_draftValue, b_op, b_with, b_length, b_height, b_torn, b_stack, b_position, b_cells, b_noted, b_wanted, b_formed, b_cursor, b_parked, b_where, b_often, b_due, b_many, b_found) (nI s) v2) (nI s) (nI (es_Q rm N)) (nI N) (nI F) f_summed (nI d) f_drafted f_seen f_time f_taken a_at a_version a_value a_originAt a_stream a_type a_originBy a_originCode a_goesOn a_events a_cuts a_firm a_cutsGone a_byVersion a_byOrigin a_upTo a_draftType a_draftValue a_dOp a_dC a_height a_clash a_pOp a_pSize a_pC a_position a_cell a_noted a_stack a_before a_shown a_gType a_gTaken a_gWaiting a_kCount a_gCursor a_gParked a_kCursor a_tAt a_tDue a_wAt a_kAt a_tTimes a_wTimes a_kTimes := fun hc => by
    unfold wX_append_38
    try dsimp only
    rw [nI_add, nI_add]
    refine pk_lt 40 (es_Q rm N + d) (fun z => hYgo hc ?_) (fun z => pk_le (N + d) 2000 (fun z2 => ?_) (fun z2 => hYgo hc ?_))
    · unfold wY_append_41
      refine es_y_there h2' hN ?_
      rw [nI_add]
      exact br_t (nI_lt (a := 40) z (by omega)) ⟨rfl, keep⟩
    · have hx := es_x_ap78 (f_flushed := nI F) (f_drafted := f_drafted) (f_seen := f_seen) (f_time := f_time) (f_taken := f_taken) (a_cuts := a_cuts) (a_firm := a_firm) (a_cutsGone := a_cutsGone) (a_upTo := a_upTo) (a_draftType := a_draftType) (a_draftValue := a_draftValue) (a_dOp := a_dOp) (a_dC := a_dC) (a_height := a_height) (a_clash := a_clash) (a_pOp := a_pOp) (a_pSize := a_pSize) (a_pC := a_pC) (a_position := a_position) (a_cell := a_cell) (a_noted := a_noted) (a_stack := a_stack) (a_before := a_before) (a_shown := a_shown) (a_gType := a_gType) (a_gTaken := a_gTaken) (a_gWaiting := a_gWaiting) (a_kCount := a_kCount) (a_gCursor := a_gCursor) (a_gParked := a_gParked) (a_kCursor := a_kCursor) (a_tAt := a_tAt) (a_tDue := a_tDue) (a_wAt := a_wAt) (a_kAt := a_kAt) (a_tTimes := a_tTimes) (a_wTimes := a_wTimes) (a_kTimes := a_kTimes) h3 hs ht hd z2 z
        (post := fun r u' => wpY_append (fun r' v' => r' = r ∧ i_Rel (k + 4) u' v') (nI N, nI F, nI C, nI d, g_top, g_time, b_isCut, b_removed, b_stream, b_type, b_from, b_by, b_value, b_version, b_on, b_call, a_draftType, a_draftValue, b_op, b_with, b_length, b_height, b_torn, b_stack, b_position, b_cells, b_noted, b_wanted, b_formed, b_cursor, b_parked, b_where, b_often, b_due, b_many, b_found) (nI s) v2) ?_ d 0 (by omega) (nI (es_Q rm N)) (nI N) f_summed a_at a_version a_value a_originAt a_stream a_type a_originBy a_originCode a_goesOn a_events a_byVersion a_byOrigin
      · rw [nI_0] at hx
        exact ⟨_, hx (es_CX_pd h1' (by simp))⟩
      · intro f_held' f_records' f_summed' a_at' a_version' a_value' a_originAt' a_stream' a_type' a_originBy' a_originCode' a_goesOn' a_events' a_byVersion' a_byOrigin' hcx
        refine hYgo hc ?_
        unfold wY_append_41
        refine es_y_there h2' hN ?_
        rw [nI_add, nI_add]
        refine br_f (nI_nlt (b := es_Q rm N + d) (a := 40) z (by omega)) (br_t (nI_le (b := 2000) z2 (by omega)) (nm_r (nI_1 C) ?_))
        have hy := es_y_ap91 (g_flushed := nI F) (g_top := g_top) (g_time := g_time) (b_draftType := a_draftType) (b_draftValue := a_draftValue) (b_op := b_op) (b_with := b_with) (b_length := b_length) (b_height := b_height) (b_torn := b_torn) (b_stack := b_stack) (b_position := b_position) (b_cells := b_cells) (b_noted := b_noted) (b_wanted := b_wanted) (b_formed := b_formed) (b_cursor := b_cursor) (b_parked := b_parked) (b_where := b_where) (b_often := b_often) (b_due := b_due) (b_many := b_many) (b_found := b_found) h3 hs ht hd z2 z
          (post := fun r' v' => r' = nI N ∧ i_Rel (k + 4) (f_held', f_records', nI F, f_summed', 0, f_drafted, f_seen, f_time, f_taken, a_at', a_version', a_value', a_originAt', a_stream', a_type', a_originBy', a_originCode', a_goesOn', a_events', a_cuts, a_firm, a_cutsGone, a_byVersion', a_byOrigin', a_upTo, a_draftType, a_draftValue, a_dOp, a_dC, a_height, a_clash, a_pOp, a_pSize, a_pC, a_position, a_cell, a_noted, a_stack, a_before, a_shown, a_gType, a_gTaken, a_gWaiting, a_kCount, a_gCursor, a_gParked, a_kCursor, a_tAt, a_tDue, a_wAt, a_kAt, a_tTimes, a_wTimes, a_kTimes) v') ?_ d 0 (by omega) (nI N) (nI (C + 1)) b_isCut b_removed b_stream b_type b_from b_by b_value b_version b_on b_call ⟨rfl, rfl, rfl, hr⟩
        · rw [nI_0] at hy
          exact ⟨_, hy⟩
        · intro g_count' g_calls' b_isCut' b_removed' b_stream' b_type' b_from' b_by' b_value' b_version' b_on' b_call' hcy
          exact ⟨rfl, es_mk (es_CX_pd hcx (by simp)) hcy (es_ap_W h3 hs ht z2 z d (Nat.le_refl _)) (by omega) ⟨0, by omega, rfl, rfl, rfl, rfl, fun i h => absurd h (Nat.not_lt_zero _)⟩ h6 (es_PJ_N (by omega) h7) (fun g hg => es_GR_N (by omega) (h8 g hg)) h9 h10⟩
    · unfold wY_append_41
      refine es_y_there h2' hN ?_
      rw [nI_add, nI_add]
      exact br_f (nI_nlt (a := 40) (b := es_Q rm N + d) z (by decide)) (br_f (nI_ge (a := 2000) (b := N + d) z2 (by omega)) ⟨rfl, keep⟩)
  by_cases c1 : v2 = -2
  · exact br_t c1 (hX (Or.inl c1))
  · refine br_f c1 ⟨hv, ?_⟩
    rw [cs, (A s hs).1]
    by_cases c2 : v2 = nI (es_E L s N) - 1
    · exact br_t c2 (hX (Or.inr c2))
    · refine br_f c2 ?_
      unfold wpY_append
      exact es_out0 (n := 5) hs (by decide) (br_t rfl (br_f n0 (br_f c1 (es_y_events h2' h3 hs (Nat.le_refl N) (br_f c2 ⟨rfl, keep⟩)))))
end ES16
end
section
/-! what a group keeps: an insertion by rising positions -/
section ES20
def es_qi (f : Nat → Int32) (x : Int32) : Nat → Nat
  | 0 => 0
  | c + 1 => if f c ≤ x then c + 1 else es_qi f x c
def es_ins (f : Nat → Int32) (q c : Nat) (x : Int32) : Nat → Int32 := fun j => if j = q then x else if q < j ∧ j ≤ c then f (j - 1) else f j
def es_sr (a : Nat → Int32) (k m : Nat) : Nat → Int32 := fun j => if k < j ∧ j ≤ m then a (j - 1) else a j
theorem es_sr_0 (a : Nat → Int32) (m : Nat) : es_sr a m m = a := by
  funext j
  unfold es_sr
  rw [if_neg (by omega)]
theorem es_sr_l {a : Nat → Int32} {k m j : Nat} (h : j ≤ k) : es_sr a k m j = a j := by
  unfold es_sr
  rw [if_neg (by omega)]
theorem es_sr_s {a : Nat → Int32} {k m : Nat} (h : k < m) : upd (es_sr a (k + 1) m) (k + 1) (es_sr a (k + 1) m k) = es_sr a k m := by
  rw [es_sr_l (by omega)]
  funext j
  by_cases c : j = k + 1
  · subst c
    rw [pk_us]
    unfold es_sr
    rw [if_pos (by omega)]
    rfl
  · rw [pk_un c]
    unfold es_sr
    by_cases c2 : k + 1 < j ∧ j ≤ m
    · rw [if_pos c2, if_pos (by omega)]
    · rw [if_neg c2, if_neg (by omega)]
theorem es_qi_le (f : Nat → Int32) (x : Int32) : ∀ c, es_qi f x c ≤ c
  | 0 => Nat.le_refl _
  | c + 1 => by
    unfold es_qi
    by_cases h : f c ≤ x
    · rw [if_pos h]; omega
    · rw [if_neg h]; have := es_qi_le f x c; omega
theorem es_qi_hi {f : Nat → Int32} {x : Int32} : ∀ c j, es_qi f x c ≤ j → j < c → ¬ f j ≤ x
  | 0, j, _, h => absurd h (Nat.not_lt_zero _)
  | c + 1, j, h1, h2 => by
    unfold es_qi at h1
    by_cases h : f c ≤ x
    · rw [if_pos h] at h1; omega
    · rw [if_neg h] at h1
      by_cases e : j = c
      · rw [e]; exact h
      · exact es_qi_hi c j h1 (by omega)
theorem es_qi_lo {f : Nat → Int32} {x : Int32} : ∀ c, 0 < es_qi f x c → f (es_qi f x c - 1) ≤ x
  | 0, h => absurd h (Nat.not_lt_zero _)
  | c + 1, h => by
    unfold es_qi at h ⊢
    by_cases e : f c ≤ x
    · rw [if_pos e]; exact e
    · rw [if_neg e] at h ⊢; exact es_qi_lo c h
theorem es_qi_cg {f f' : Nat → Int32} {x : Int32} : ∀ c, (∀ j, j < c → f j = f' j) → es_qi f x c = es_qi f' x c
  | 0, _ => rfl
  | c + 1, h => by
    unfold es_qi
    rw [h c (by omega), es_qi_cg c (fun j hj => h j (by omega))]
theorem es_ins_cg {f f' : Nat → Int32} {q c : Nat} {x : Int32} (hq : q ≤ c) (h : ∀ j, j < c → f j = f' j) : ∀ j, j ≤ c → es_ins f q c x j = es_ins f' q c x j := fun j hj => by
  unfold es_ins
  by_cases e : j = q
  · rw [if_pos e, if_pos e]
  · rw [if_neg e, if_neg e]
    by_cases e2 : q < j ∧ j ≤ c
    · rw [if_pos e2, if_pos e2]; exact h _ (by omega)
    · rw [if_neg e2, if_neg e2]; exact h _ (by omega)
theorem es_ins_sr {a : Nat → Int32} {b q c : Nat} {x : Int32} {j : Nat} (hj : j ≤ c) : upd (es_sr a (b + q) (b + c)) (b + q) x (b + j) = es_ins (fun j => a (b + j)) q c x j := by
  unfold es_ins
  by_cases e : j = q
  · rw [if_pos e, e, pk_us]
  · rw [if_neg e, pk_un (by omega)]
    unfold es_sr
    by_cases e2 : q < j ∧ j ≤ c
    · rw [if_pos e2, if_pos (by omega)]
      show a (b + j - 1) = a (b + (j - 1))
      congr 1
      omega
    · rw [if_neg e2, if_neg (by omega)]
theorem es_ins_o {a : Nat → Int32} {b q c : Nat} {x : Int32} {i : Nat} (hq : q ≤ c) (hi : i < b ∨ b + c < i) : upd (es_sr a (b + q) (b + c)) (b + q) x i = a i := by
  rw [pk_un (by omega)]
  unfold es_sr
  rw [if_neg (by omega)]
/-- the kept row after n of the pairs X, T are put in -/
def es_kp (X T : Nat → Int32) : Nat → (Nat → Int32) × (Nat → Int32)
  | 0 => (fun _ => 0, fun _ => 0)
  | n + 1 => (es_ins (es_kp X T n).1 (es_qi (es_kp X T n).1 (X n) n) n (X n), es_ins (es_kp X T n).2 (es_qi (es_kp X T n).1 (X n) n) n (T n))
theorem es_kp_cg {X T X' T' : Nat → Int32} : ∀ n, (∀ m, m < n → X m = X' m ∧ T m = T' m) → es_kp X T n = es_kp X' T' n
  | 0, _ => rfl
  | n + 1, h => by
    unfold es_kp
    rw [es_kp_cg n (fun m hm => h m (by omega)), (h n (by omega)).1, (h n (by omega)).2]
theorem es_kp_mem {X T : Nat → Int32} : ∀ n j, j < n → ∃ m, m < n ∧ (es_kp X T n).1 j = X m
  | 0, j, h => absurd h (Nat.not_lt_zero _)
  | n + 1, j, h => by
    show ∃ m, m < n + 1 ∧ es_ins (es_kp X T n).1 (es_qi (es_kp X T n).1 (X n) n) n (X n) j = X m
    have hq := es_qi_le (es_kp X T n).1 (X n) n
    unfold es_ins
    by_cases e : j = es_qi (es_kp X T n).1 (X n) n
    · rw [if_pos e]; exact ⟨n, by omega, rfl⟩
    · rw [if_neg e]
      by_cases e2 : es_qi (es_kp X T n).1 (X n) n < j ∧ j ≤ n
      · rw [if_pos e2]
        obtain ⟨m, a, b⟩ := es_kp_mem (X := X) (T := T) n (j - 1) (by omega)
        exact ⟨m, by omega, b⟩
      · rw [if_neg e2]
        obtain ⟨m, a, b⟩ := es_kp_mem (X := X) (T := T) n j (by omega)
        exact ⟨m, by omega, b⟩
theorem es_kp_all {X T : Nat → Int32} : ∀ n m, m < n → ∃ j, j < n ∧ (es_kp X T n).1 j = X m
  | 0, m, h => absurd h (Nat.not_lt_zero _)
  | n + 1, m, h => by
    show ∃ j, j < n + 1 ∧ es_ins (es_kp X T n).1 (es_qi (es_kp X T n).1 (X n) n) n (X n) j = X m
    have hq := es_qi_le (es_kp X T n).1 (X n) n
    by_cases e : m = n
    · refine ⟨es_qi (es_kp X T n).1 (X n) n, by omega, ?_⟩
      unfold es_ins
      rw [if_pos rfl, e]
    · obtain ⟨j, a, b⟩ := es_kp_all (X := X) (T := T) n m (by omega)
      by_cases c : j < es_qi (es_kp X T n).1 (X n) n
      · refine ⟨j, by omega, ?_⟩
        unfold es_ins
        rw [if_neg (by omega), if_neg (by omega)]
        exact b
      · refine ⟨j + 1, by omega, ?_⟩
        unfold es_ins
        rw [if_neg (by omega), if_pos (by omega)]
        exact b
theorem es_kp_srt {X T : Nat → Int32} : ∀ n j, j + 1 < n → (es_kp X T n).1 j ≤ (es_kp X T n).1 (j + 1)
  | 0, j, h => absurd h (Nat.not_lt_zero _)
  | n + 1, j, h => by
    show es_ins (es_kp X T n).1 (es_qi (es_kp X T n).1 (X n) n) n (X n) j ≤ es_ins (es_kp X T n).1 (es_qi (es_kp X T n).1 (X n) n) n (X n) (j + 1)
    have ih := fun j h => es_kp_srt (X := X) (T := T) n j h
    have hlo := es_qi_lo (f := (es_kp X T n).1) (x := X n) n
    have hhi := fun j h h' => es_qi_hi (f := (es_kp X T n).1) (x := X n) n j h h'
    have hq := es_qi_le (es_kp X T n).1 (X n) n
    generalize es_qi (es_kp X T n).1 (X n) n = q at *
    unfold es_ins
    by_cases c1 : j + 1 < q
    · rw [if_neg (by omega), if_neg (by omega), if_neg (by omega), if_neg (by omega)]
      exact ih j (by omega)
    · by_cases c2 : j + 1 = q
      · rw [if_neg (by omega), if_neg (by omega), if_pos c2]
        have := hlo (by omega)
        rw [← c2] at this
        exact this
      · by_cases c3 : j = q
        · rw [if_pos c3, if_neg (by omega), if_pos (by omega)]
          show X n ≤ (es_kp X T n).1 (j + 1 - 1)
          have := hhi j (by omega) (by omega)
          exact Int32.le_of_lt (Int32.not_le.mp this)
        · rw [if_neg (by omega), if_pos (by omega), if_neg (by omega), if_pos (by omega)]
          have := ih (j - 1) (by omega)
          rw [show j - 1 + 1 = j by omega] at this
          exact this
section X
variable {f_held f_records f_flushed f_summed f_draft f_drafted f_seen f_time f_taken : Int32} {a_at a_version a_value a_originAt a_stream a_type a_originBy a_originCode a_goesOn a_events a_cuts a_firm a_cutsGone a_byVersion a_byOrigin a_draftType a_draftValue a_dOp a_dC a_height a_clash a_pOp a_pSize a_pC a_position a_cell a_noted a_stack a_before a_shown a_gType a_gTaken a_gWaiting a_kCount a_gCursor a_gParked a_kCursor a_tAt a_tDue a_wAt a_kAt a_tTimes a_wTimes a_kTimes : Nat → Int32} {a_upTo : Nat → Int64}
theorem es_x_k19 {g cnt : Nat} (hg : g < 2) (hc : cnt < 6) {x t : Int32} (kA kT : Nat → Int32) {post : SX → Prop} : ∀ c, c ≤ cnt → (∀ q, q = es_qi (fun j => kA (6 * g + j)) x c → post (f_held, f_records, f_flushed, f_summed, f_draft, f_drafted, f_seen, f_time, f_taken, a_at, a_version, a_value, a_originAt, a_stream, a_type, a_originBy, a_originCode, a_goesOn, a_events, a_cuts, a_firm, a_cutsGone, a_byVersion, a_byOrigin, a_upTo, a_draftType, a_draftValue, a_dOp, a_dC, a_height, a_clash, a_pOp, a_pSize, a_pC, a_position, a_cell, a_noted, a_stack, a_before, a_shown, a_gType, a_gTaken, a_gWaiting, a_kCount, a_gCursor, a_gParked, a_kCursor, a_tAt, a_tDue, a_wAt, upd (es_sr kA (6 * g + q) (6 * g + cnt)) (6 * g + q) x, a_tTimes, a_wTimes, upd (es_sr kT (6 * g + q) (6 * g + cnt)) (6 * g + q) t)) →
    wX_keepOne_19 post (nI g) x t f_held f_records f_flushed f_summed f_draft f_drafted f_seen f_time f_taken (c + 1) (nI (6 * g + c)) a_at a_version a_value a_originAt a_stream a_type a_originBy a_originCode a_goesOn a_events a_cuts a_firm a_cutsGone a_byVersion a_byOrigin a_upTo a_draftType a_draftValue a_dOp a_dC a_height a_clash a_pOp a_pSize a_pC a_position a_cell a_noted a_stack a_before a_shown a_gType a_gTaken a_gWaiting a_kCount a_gCursor a_gParked a_kCursor a_tAt a_tDue a_wAt (es_sr kA (6 * g + c) (6 * g + cnt)) a_tTimes a_wTimes (es_sr kT (6 * g + c) (6 * g + cnt)) := by
  have h79 : ∀ q, q ≤ cnt → post (f_held, f_records, f_flushed, f_summed, f_draft, f_drafted, f_seen, f_time, f_taken, a_at, a_version, a_value, a_originAt, a_stream, a_type, a_originBy, a_originCode, a_goesOn, a_events, a_cuts, a_firm, a_cutsGone, a_byVersion, a_byOrigin, a_upTo, a_draftType, a_draftValue, a_dOp, a_dC, a_height, a_clash, a_pOp, a_pSize, a_pC, a_position, a_cell, a_noted, a_stack, a_before, a_shown, a_gType, a_gTaken, a_gWaiting, a_kCount, a_gCursor, a_gParked, a_kCursor, a_tAt, a_tDue, a_wAt, upd (es_sr kA (6 * g + q) (6 * g + cnt)) (6 * g + q) x, a_tTimes, a_wTimes, upd (es_sr kT (6 * g + q) (6 * g + cnt)) (6 * g + q) t) → wX_keepOne_79 post x t (nI (6 * g + q)) f_held f_records f_flushed f_summed f_draft f_drafted f_seen f_time f_taken a_at a_version a_value a_originAt a_stream a_type a_originBy a_originCode a_goesOn a_events a_cuts a_firm a_cutsGone a_byVersion a_byOrigin a_upTo a_draftType a_draftValue a_dOp a_dC a_height a_clash a_pOp a_pSize a_pC a_position a_cell a_noted a_stack a_before a_shown a_gType a_gTaken a_gWaiting a_kCount a_gCursor a_gParked a_kCursor a_tAt a_tDue a_wAt (es_sr kA (6 * g + q) (6 * g + cnt)) a_tTimes a_wTimes (es_sr kT (6 * g + q) (6 * g + cnt)) := fun q hq hp => by
    unfold wX_keepOne_79
    try dsimp only
    rw [nI_clamp (show 6 * g + q < 2 ^ 31 by omega)]
    exact ⟨vp_in_nI (by omega) (by decide), nm_e ⟨vp_in_nI (by omega) (by decide), nm_e hp⟩⟩
  intro c
  induction c with
  | zero =>
    intro _ hp
    refine br_t ?_ (h79 0 (Nat.zero_le _) (hp 0 rfl))
    rw [es_6g]
    exact nI_le (by omega) (by omega)
  | succ c ih =>
    intro hcc hp
    have e1 : nI (6 * g + (c + 1)) - 1 = nI (6 * g + c) := nI_pred (6 * g + c)
    have e2 : nI (6 * g + (c + 1)) + (-1) = nI (6 * g + c) := pk_m1 (6 * g + c)
    have c1 : (nI (6 * g + c)).toNatClampNeg = 6 * g + c := nI_clamp (by omega)
    have c2 : (nI (6 * g + (c + 1))).toNatClampNeg = 6 * g + (c + 1) := nI_clamp (by omega)
    have hv1 : vp_in (nI (6 * g + c)) 12 := vp_in_nI (by omega) (by decide)
    have hv2 : vp_in (nI (6 * g + (c + 1))) 12 := vp_in_nI (by omega) (by decide)
    have n6 : ¬ nI (6 * g + (c + 1)) ≤ 6 * nI g := by rw [es_6g]; exact nI_ge (by omega) (by omega)
    have r1 : es_sr kA (6 * g + (c + 1)) (6 * g + cnt) (6 * g + c) = kA (6 * g + c) := es_sr_l (by omega)
    refine br_f n6 ?_
    rw [e1, c1, c2]
    refine ⟨hv1, ?_⟩
    by_cases z : kA (6 * g + c) ≤ x
    · refine br_t (by rw [r1]; exact z) (h79 (c + 1) hcc (hp (c + 1) ?_))
      unfold es_qi
      rw [if_pos z]
    · have s1 : upd (es_sr kA (6 * g + (c + 1)) (6 * g + cnt)) (6 * g + (c + 1)) (es_sr kA (6 * g + (c + 1)) (6 * g + cnt) (6 * g + c)) = es_sr kA (6 * g + c) (6 * g + cnt) := es_sr_s (k := 6 * g + c) (by omega)
      have s2 : upd (es_sr kT (6 * g + (c + 1)) (6 * g + cnt)) (6 * g + (c + 1)) (es_sr kT (6 * g + (c + 1)) (6 * g + cnt) (6 * g + c)) = es_sr kT (6 * g + c) (6 * g + cnt) := es_sr_s (k := 6 * g + c) (by omega)
      refine br_f (by rw [r1]; exact z) ⟨hv1, hv2, nm_r s1 ⟨hv1, hv2, nm_r s2 (nm_r e2 (ih (by omega) (fun q hq => hp q ?_)))⟩⟩
      unfold es_qi
      rw [if_neg z]
      exact hq
theorem es_x_keepOne {g cnt : Nat} (hg : g < 2) (hc : cnt < 6) (e : a_kCount g = nI cnt) {x t : Int32} {post : SX → Prop} (hp : ∀ kA kT, (∀ j, j ≤ cnt → kA (6 * g + j) = es_ins (fun j => a_kAt (6 * g + j)) (es_qi (fun j => a_kAt (6 * g + j)) x cnt) cnt x j ∧ kT (6 * g + j) = es_ins (fun j => a_kTimes (6 * g + j)) (es_qi (fun j => a_kAt (6 * g + j)) x cnt) cnt t j) → (∀ i, i < 6 * g ∨ 6 * g + 6 ≤ i → kA i = a_kAt i ∧ kT i = a_kTimes i) → post (f_held, f_records, f_flushed, f_summed, f_draft, f_drafted, f_seen, f_time, f_taken, a_at, a_version, a_value, a_originAt, a_stream, a_type, a_originBy, a_originCode, a_goesOn, a_events, a_cuts, a_firm, a_cutsGone, a_byVersion, a_byOrigin, a_upTo, a_draftType, a_draftValue, a_dOp, a_dC, a_height, a_clash, a_pOp, a_pSize, a_pC, a_position, a_cell, a_noted, a_stack, a_before, a_shown, a_gType, a_gTaken, a_gWaiting, upd a_kCount g (nI (cnt + 1)), a_gCursor, a_gParked, a_kCursor, a_tAt, a_tDue, a_wAt, kA, a_tTimes, a_wTimes, kT)) : wpX_keepOne post (f_held, f_records, f_flushed, f_summed, f_draft, f_drafted, f_seen, f_time, f_taken, a_at, a_version, a_value, a_originAt, a_stream, a_type, a_originBy, a_originCode, a_goesOn, a_events, a_cuts, a_firm, a_cutsGone, a_byVersion, a_byOrigin, a_upTo, a_draftType, a_draftValue, a_dOp, a_dC, a_height, a_clash, a_pOp, a_pSize, a_pC, a_position, a_cell, a_noted, a_stack, a_before, a_shown, a_gType, a_gTaken, a_gWaiting, a_kCount, a_gCursor, a_gParked, a_kCursor, a_tAt, a_tDue, a_wAt, a_kAt, a_tTimes, a_wTimes, a_kTimes) (nI g) x t := by
  have hv : vp_in (nI g) 2 := vp_in_nI hg (by decide)
  have hq := es_qi_le (fun j => a_kAt (6 * g + j)) x cnt
  have key := es_x_k19 (f_held := f_held) (f_records := f_records) (f_flushed := f_flushed) (f_summed := f_summed) (f_draft := f_draft) (f_drafted := f_drafted) (f_seen := f_seen) (f_time := f_time) (f_taken := f_taken) (a_at := a_at) (a_version := a_version) (a_value := a_value) (a_originAt := a_originAt) (a_stream := a_stream) (a_type := a_type) (a_originBy := a_originBy) (a_originCode := a_originCode) (a_goesOn := a_goesOn) (a_events := a_events) (a_cuts := a_cuts) (a_firm := a_firm) (a_cutsGone := a_cutsGone) (a_byVersion := a_byVersion) (a_byOrigin := a_byOrigin) (a_upTo := a_upTo) (a_draftType := a_draftType) (a_draftValue := a_draftValue) (a_dOp := a_dOp) (a_dC := a_dC) (a_height := a_height) (a_clash := a_clash) (a_pOp := a_pOp) (a_pSize := a_pSize) (a_pC := a_pC) (a_position := a_position) (a_cell := a_cell) (a_noted := a_noted) (a_stack := a_stack) (a_before := a_before) (a_shown := a_shown) (a_gType := a_gType) (a_gTaken := a_gTaken) (a_gWaiting := a_gWaiting) (a_kCount := upd a_kCount g (nI (cnt + 1))) (a_gCursor := a_gCursor) (a_gParked := a_gParked) (a_kCursor := a_kCursor) (a_tAt := a_tAt) (a_tDue := a_tDue) (a_wAt := a_wAt) (a_tTimes := a_tTimes) (a_wTimes := a_wTimes) hg hc (x := x) (t := t) a_kAt a_kTimes (post := post) cnt (Nat.le_refl _) (fun q hq' => by
    subst hq'
    exact hp _ _ (fun j hj => ⟨es_ins_sr hj, es_ins_sr hj⟩) (fun i hi => ⟨es_ins_o hq (by omega), es_ins_o hq (by omega)⟩))
  rw [es_sr_0, es_sr_0] at key
  unfold wpX_keepOne
  try dsimp only
  rw [nI_clamp (show g < 2 ^ 31 by omega), e, nI_1, es_b8 (show cnt + 1 < 128 by omega), es_6g, nI_add]
  exact ⟨hv, hv, nm_e (nm_e ⟨_, key⟩)⟩
end X
section Y
variable {g_count g_flushed g_calls g_drafted g_top g_time : Int32} {b_isCut b_removed b_stream b_type b_from b_by b_value b_version b_on b_call b_draftType b_draftValue b_op b_with b_length b_height b_torn b_stack b_position b_cells b_noted b_wanted b_formed b_cursor b_parked b_where b_often b_due b_many b_found : Nat → Int32}
theorem es_y_k19 {r cnt : Nat} (hg : r < 6) (hc : cnt < 6) {x t : Int32} (kA kT : Nat → Int32) {post : SY → Prop} : ∀ c, c ≤ cnt → (∀ q, q = es_qi (fun j => kA (8 * r + j)) x c → post (g_count, g_flushed, g_calls, g_drafted, g_top, g_time, b_isCut, b_removed, b_stream, b_type, b_from, b_by, b_value, b_version, b_on, b_call, b_draftType, b_draftValue, b_op, b_with, b_length, b_height, b_torn, b_stack, b_position, b_cells, b_noted, b_wanted, b_formed, b_cursor, b_parked, upd (es_sr kA (8 * r + q) (8 * r + cnt)) (8 * r + q) x, upd (es_sr kT (8 * r + q) (8 * r + cnt)) (8 * r + q) t, b_due, b_many, b_found)) →
    wY_insert_19 post (nI r) x t g_count g_flushed g_calls g_drafted g_top g_time (c + 1) (nI (8 * r + c)) b_isCut b_removed b_stream b_type b_from b_by b_value b_version b_on b_call b_draftType b_draftValue b_op b_with b_length b_height b_torn b_stack b_position b_cells b_noted b_wanted b_formed b_cursor b_parked (es_sr kA (8 * r + c) (8 * r + cnt)) (es_sr kT (8 * r + c) (8 * r + cnt)) b_due b_many b_found := by
  have h79 : ∀ q, q ≤ cnt → post (g_count, g_flushed, g_calls, g_drafted, g_top, g_time, b_isCut, b_removed, b_stream, b_type, b_from, b_by, b_value, b_version, b_on, b_call, b_draftType, b_draftValue, b_op, b_with, b_length, b_height, b_torn, b_stack, b_position, b_cells, b_noted, b_wanted, b_formed, b_cursor, b_parked, upd (es_sr kA (8 * r + q) (8 * r + cnt)) (8 * r + q) x, upd (es_sr kT (8 * r + q) (8 * r + cnt)) (8 * r + q) t, b_due, b_many, b_found) → wY_insert_79 post x t (nI (8 * r + q)) g_count g_flushed g_calls g_drafted g_top g_time b_isCut b_removed b_stream b_type b_from b_by b_value b_version b_on b_call b_draftType b_draftValue b_op b_with b_length b_height b_torn b_stack b_position b_cells b_noted b_wanted b_formed b_cursor b_parked (es_sr kA (8 * r + q) (8 * r + cnt)) (es_sr kT (8 * r + q) (8 * r + cnt)) b_due b_many b_found := fun q hq hp => by
    unfold wY_insert_79
    try dsimp only
    rw [nI_clamp (show 8 * r + q < 2 ^ 31 by omega)]
    exact ⟨vp_in_nI (by omega) (by decide), nm_e ⟨vp_in_nI (by omega) (by decide), nm_e hp⟩⟩
  intro c
  induction c with
  | zero =>
    intro _ hp
    refine br_t ?_ (h79 0 (Nat.zero_le _) (hp 0 rfl))
    rw [es_8g]
    exact nI_le (by omega) (by omega)
  | succ c ih =>
    intro hcc hp
    have e1 : nI (8 * r + (c + 1)) - 1 = nI (8 * r + c) := nI_pred (8 * r + c)
    have e2 : nI (8 * r + (c + 1)) + (-1) = nI (8 * r + c) := pk_m1 (8 * r + c)
    have c1 : (nI (8 * r + c)).toNatClampNeg = 8 * r + c := nI_clamp (by omega)
    have c2 : (nI (8 * r + (c + 1))).toNatClampNeg = 8 * r + (c + 1) := nI_clamp (by omega)
    have hv1 : vp_in (nI (8 * r + c)) 64 := vp_in_nI (by omega) (by decide)
    have hv2 : vp_in (nI (8 * r + (c + 1))) 64 := vp_in_nI (by omega) (by decide)
    have n6 : ¬ nI (8 * r + (c + 1)) ≤ 8 * nI r := by rw [es_8g]; exact nI_ge (by omega) (by omega)
    have r1 : es_sr kA (8 * r + (c + 1)) (8 * r + cnt) (8 * r + c) = kA (8 * r + c) := es_sr_l (by omega)
    refine br_f n6 ?_
    rw [e1, c1, c2]
    refine ⟨hv1, ?_⟩
    by_cases z : kA (8 * r + c) ≤ x
    · refine br_t (by rw [r1]; exact z) (h79 (c + 1) hcc (hp (c + 1) ?_))
      unfold es_qi
      rw [if_pos z]
    · have s1 : upd (es_sr kA (8 * r + (c + 1)) (8 * r + cnt)) (8 * r + (c + 1)) (es_sr kA (8 * r + (c + 1)) (8 * r + cnt) (8 * r + c)) = es_sr kA (8 * r + c) (8 * r + cnt) := es_sr_s (k := 8 * r + c) (by omega)
      have s2 : upd (es_sr kT (8 * r + (c + 1)) (8 * r + cnt)) (8 * r + (c + 1)) (es_sr kT (8 * r + (c + 1)) (8 * r + cnt) (8 * r + c)) = es_sr kT (8 * r + c) (8 * r + cnt) := es_sr_s (k := 8 * r + c) (by omega)
      refine br_f (by rw [r1]; exact z) ⟨hv1, hv2, nm_r s1 ⟨hv1, hv2, nm_r s2 (nm_r e2 (ih (by omega) (fun q hq => hp q ?_)))⟩⟩
      unfold es_qi
      rw [if_neg z]
      exact hq
theorem es_y_insert {r cnt : Nat} (hg : r < 6) (hc : cnt < 6) (e : b_many r = nI cnt) {x t : Int32} {post : SY → Prop} (hp : ∀ kA kT, (∀ j, j ≤ cnt → kA (8 * r + j) = es_ins (fun j => b_where (8 * r + j)) (es_qi (fun j => b_where (8 * r + j)) x cnt) cnt x j ∧ kT (8 * r + j) = es_ins (fun j => b_often (8 * r + j)) (es_qi (fun j => b_where (8 * r + j)) x cnt) cnt t j) → (∀ i, i < 8 * r ∨ 8 * r + 6 ≤ i → kA i = b_where i ∧ kT i = b_often i) → post (g_count, g_flushed, g_calls, g_drafted, g_top, g_time, b_isCut, b_removed, b_stream, b_type, b_from, b_by, b_value, b_version, b_on, b_call, b_draftType, b_draftValue, b_op, b_with, b_length, b_height, b_torn, b_stack, b_position, b_cells, b_noted, b_wanted, b_formed, b_cursor, b_parked, kA, kT, b_due, upd b_many r (nI (cnt + 1)), b_found)) : wpY_insert post (g_count, g_flushed, g_calls, g_drafted, g_top, g_time, b_isCut, b_removed, b_stream, b_type, b_from, b_by, b_value, b_version, b_on, b_call, b_draftType, b_draftValue, b_op, b_with, b_length, b_height, b_torn, b_stack, b_position, b_cells, b_noted, b_wanted, b_formed, b_cursor, b_parked, b_where, b_often, b_due, b_many, b_found) (nI r) x t := by
  have hv : vp_in (nI r) 6 := vp_in_nI hg (by decide)
  have hq := es_qi_le (fun j => b_where (8 * r + j)) x cnt
  have key := es_y_k19 (g_count := g_count) (g_flushed := g_flushed) (g_calls := g_calls) (g_drafted := g_drafted) (g_top := g_top) (g_time := g_time) (b_isCut := b_isCut) (b_removed := b_removed) (b_stream := b_stream) (b_type := b_type) (b_from := b_from) (b_by := b_by) (b_value := b_value) (b_version := b_version) (b_on := b_on) (b_call := b_call) (b_draftType := b_draftType) (b_draftValue := b_draftValue) (b_op := b_op) (b_with := b_with) (b_length := b_length) (b_height := b_height) (b_torn := b_torn) (b_stack := b_stack) (b_position := b_position) (b_cells := b_cells) (b_noted := b_noted) (b_wanted := b_wanted) (b_formed := b_formed) (b_cursor := b_cursor) (b_parked := b_parked) (b_due := b_due) (b_many := upd b_many r (nI (cnt + 1))) (b_found := b_found) hg hc (x := x) (t := t) b_where b_often (post := post) cnt (Nat.le_refl _) (fun q hq' => by
    subst hq'
    exact hp _ _ (fun j hj => ⟨es_ins_sr hj, es_ins_sr hj⟩) (fun i hi => ⟨es_ins_o hq (by omega), es_ins_o hq (by omega)⟩))
  rw [es_sr_0, es_sr_0] at key
  unfold wpY_insert
  try dsimp only
  rw [nI_clamp (show r < 2 ^ 31 by omega), e, nI_1, es_b8 (show cnt + 1 < 128 by omega), es_8g, nI_add]
  exact ⟨hv, hv, nm_e (nm_e ⟨_, key⟩)⟩
end Y
end ES20
end
section
/-! keep -/
section ES21
def es_sq (f1 f2 : Nat → Int32) (nt : Nat) : Nat → Int32 := fun m => if m < nt then f1 m else f2 (m - nt)
theorem es_sq_1 {f1 f2 : Nat → Int32} {nt m : Nat} (h : m < nt) : es_sq f1 f2 nt m = f1 m := if_pos h
theorem es_sq_2 {f1 f2 : Nat → Int32} {nt m : Nat} : es_sq f1 f2 nt (nt + m) = f2 m := by
  unfold es_sq
  rw [if_neg (by omega), Nat.add_sub_cancel_left]
/-- the outcome: n kept, from cell b on -/
def es_KO (X T : Nat → Int32) (n b r : Nat) (kC kA kT : Nat → Int32) : Prop := kC r = nI n ∧ ∀ j, j < n → kA (b + j) = (es_kp X T n).1 j ∧ kT (b + j) = (es_kp X T n).2 j
def es_KI (X T kC0 kA0 kT0 : Nat → Int32) (n b r : Nat) (kC kA kT : Nat → Int32) : Prop := es_KO X T n b r kC kA kT ∧ (∀ r', r' ≠ r → kC r' = kC0 r') ∧ ∀ i, (i < b ∨ b + 6 ≤ i) → kA i = kA0 i ∧ kT i = kT0 i
theorem es_KI_s {X T kC0 kA0 kT0 : Nat → Int32} {m b r : Nat} {kC kA kT kA' kT' : Nat → Int32} (h : es_KI X T kC0 kA0 kT0 m b r kC kA kT)
    (h1 : ∀ j, j ≤ m → kA' (b + j) = es_ins (fun j => kA (b + j)) (es_qi (fun j => kA (b + j)) (X m) m) m (X m) j ∧ kT' (b + j) = es_ins (fun j => kT (b + j)) (es_qi (fun j => kA (b + j)) (X m) m) m (T m) j)
    (h2 : ∀ i, (i < b ∨ b + 6 ≤ i) → kA' i = kA i ∧ kT' i = kT i) : es_KI X T kC0 kA0 kT0 (m + 1) b r (upd kC r (nI (m + 1))) kA' kT' := by
  obtain ⟨⟨a1, a2⟩, a3, a4⟩ := h
  have eq : es_qi (fun j => kA (b + j)) (X m) m = es_qi (es_kp X T m).1 (X m) m := es_qi_cg m (fun j hj => (a2 j hj).1)
  have hq := es_qi_le (es_kp X T m).1 (X m) m
  refine ⟨⟨pk_us, fun j hj => ?_⟩, fun r' hr => by rw [pk_un hr]; exact a3 r' hr, fun i hi => ⟨(h2 i hi).1.trans (a4 i hi).1, (h2 i hi).2.trans (a4 i hi).2⟩⟩
  obtain ⟨b1, b2⟩ := h1 j (by omega)
  rw [b1, b2, eq]
  exact ⟨es_ins_cg hq (fun j hj => (a2 j hj).1) j (by omega), es_ins_cg hq (fun j hj => (a2 j hj).2) j (by omega)⟩
section X
variable {f_held f_records f_flushed f_summed f_draft f_drafted f_seen f_time f_taken : Int32} {a_at a_version a_value a_originAt a_stream a_type a_originBy a_originCode a_goesOn a_events a_cuts a_firm a_cutsGone a_byVersion a_byOrigin a_draftType a_draftValue a_dOp a_dC a_height a_clash a_pOp a_pSize a_pC a_position a_cell a_noted a_stack a_before a_shown a_gType a_gTaken a_gWaiting a_kCount a_gCursor a_gParked a_kCursor a_tAt a_tDue a_wAt a_kAt a_tTimes a_wTimes a_kTimes : Nat → Int32} {a_upTo : Nat → Int64}
theorem es_x_keep67 {g nt nw : Nat} (hg : g < 2) (hn : nt + nw ≤ 6) (e2 : a_gWaiting g = nI nw) {kC0 kA0 kT0 : Nat → Int32} {post : SX → Prop}
    (hp : ∀ kC kA kT, es_KI (es_sq (fun m => a_tAt (6 * g + m)) (fun m => a_wAt (6 * g + m)) nt) (es_sq (fun m => a_tTimes (6 * g + m)) (fun m => a_wTimes (6 * g + m)) nt) kC0 kA0 kT0 (nt + nw) (6 * g) g kC kA kT → post (f_held, f_records, f_flushed, f_summed, f_draft, f_drafted, f_seen, f_time, f_taken, a_at, a_version, a_value, a_originAt, a_stream, a_type, a_originBy, a_originCode, a_goesOn, a_events, a_cuts, a_firm, a_cutsGone, a_byVersion, a_byOrigin, a_upTo, a_draftType, a_draftValue, a_dOp, a_dC, a_height, a_clash, a_pOp, a_pSize, a_pC, a_position, a_cell, a_noted, a_stack, a_before, a_shown, a_gType, a_gTaken, a_gWaiting, kC, a_gCursor, a_gParked, a_kCursor, a_tAt, a_tDue, a_wAt, kA, a_tTimes, a_wTimes, kT)) :
    ∀ d m, m + d = nw → ∀ kC kA kT, es_KI (es_sq (fun m => a_tAt (6 * g + m)) (fun m => a_wAt (6 * g + m)) nt) (es_sq (fun m => a_tTimes (6 * g + m)) (fun m => a_wTimes (6 * g + m)) nt) kC0 kA0 kT0 (nt + m) (6 * g) g kC kA kT → wX_keep_67 post (nI g) (d + 1) (nI (6 * g + m)) f_held f_records f_flushed f_summed f_draft f_drafted f_seen f_time f_taken a_at a_version a_value a_originAt a_stream a_type a_originBy a_originCode a_goesOn a_events a_cuts a_firm a_cutsGone a_byVersion a_byOrigin a_upTo a_draftType a_draftValue a_dOp a_dC a_height a_clash a_pOp a_pSize a_pC a_position a_cell a_noted a_stack a_before a_shown a_gType a_gTaken a_gWaiting kC a_gCursor a_gParked a_kCursor a_tAt a_tDue a_wAt kA a_tTimes a_wTimes kT := by
  have hv : vp_in (nI g) 2 := vp_in_nI hg (by decide)
  have cg : (nI g).toNatClampNeg = g := nI_clamp (by omega)
  intro d
  induction d with
  | zero =>
    intro m hm kC kA kT h
    have e : m = nw := by omega
    subst e
    refine ⟨hv, ?_⟩
    rw [cg, es_6g, e2, nI_add]
    exact br_t (nI_le (Nat.le_refl _) (by omega)) (hp kC kA kT h)
  | succ d ih =>
    intro m hm kC kA kT h
    have hv2 : vp_in (nI (6 * g + m)) 12 := vp_in_nI (by omega) (by decide)
    refine ⟨hv, ?_⟩
    rw [cg, es_6g, e2, nI_add, nI_clamp (show 6 * g + m < 2 ^ 31 by omega)]
    refine br_f (nI_ge (by omega) (by omega)) ⟨hv2, hv2, es_x_keepOne hg (cnt := nt + m) (by omega) h.1.1 (fun kA' kT' h1 h2 => nm_r (nI_1 _) ?_)⟩
    refine ih (m + 1) (by omega) _ _ _ (es_KI_s (m := nt + m) h ?_ h2)
    rw [es_sq_2, es_sq_2]
    exact h1
theorem es_x_keep24 {g nt nw : Nat} (hg : g < 2) (hn : nt + nw ≤ 6) (e1 : a_gTaken g = nI nt) (e2 : a_gWaiting g = nI nw) {kC0 kA0 kT0 : Nat → Int32} {post : SX → Prop}
    (hp : ∀ kC kA kT, es_KI (es_sq (fun m => a_tAt (6 * g + m)) (fun m => a_wAt (6 * g + m)) nt) (es_sq (fun m => a_tTimes (6 * g + m)) (fun m => a_wTimes (6 * g + m)) nt) kC0 kA0 kT0 (nt + nw) (6 * g) g kC kA kT → post (f_held, f_records, f_flushed, f_summed, f_draft, f_drafted, f_seen, f_time, f_taken, a_at, a_version, a_value, a_originAt, a_stream, a_type, a_originBy, a_originCode, a_goesOn, a_events, a_cuts, a_firm, a_cutsGone, a_byVersion, a_byOrigin, a_upTo, a_draftType, a_draftValue, a_dOp, a_dC, a_height, a_clash, a_pOp, a_pSize, a_pC, a_position, a_cell, a_noted, a_stack, a_before, a_shown, a_gType, a_gTaken, a_gWaiting, kC, a_gCursor, a_gParked, a_kCursor, a_tAt, a_tDue, a_wAt, kA, a_tTimes, a_wTimes, kT)) :
    ∀ d m, m + d = nt → ∀ kC kA kT, es_KI (es_sq (fun m => a_tAt (6 * g + m)) (fun m => a_wAt (6 * g + m)) nt) (es_sq (fun m => a_tTimes (6 * g + m)) (fun m => a_wTimes (6 * g + m)) nt) kC0 kA0 kT0 m (6 * g) g kC kA kT → wX_keep_24 post (nI g) (d + 1) (nI (6 * g + m)) f_held f_records f_flushed f_summed f_draft f_drafted f_seen f_time f_taken a_at a_version a_value a_originAt a_stream a_type a_originBy a_originCode a_goesOn a_events a_cuts a_firm a_cutsGone a_byVersion a_byOrigin a_upTo a_draftType a_draftValue a_dOp a_dC a_height a_clash a_pOp a_pSize a_pC a_position a_cell a_noted a_stack a_before a_shown a_gType a_gTaken a_gWaiting kC a_gCursor a_gParked a_kCursor a_tAt a_tDue a_wAt kA a_tTimes a_wTimes kT := by
  have hv : vp_in (nI g) 2 := vp_in_nI hg (by decide)
  have cg : (nI g).toNatClampNeg = g := nI_clamp (by omega)
  intro d
  induction d with
  | zero =>
    intro m hm kC kA kT h
    have e : m = nt := by omega
    subst e
    refine ⟨hv, ?_⟩
    rw [cg, es_6g, e1, nI_add]
    have := es_x_keep67 (f_held := f_held) (f_records := f_records) (f_flushed := f_flushed) (f_summed := f_summed) (f_draft := f_draft) (f_drafted := f_drafted) (f_seen := f_seen) (f_time := f_time) (f_taken := f_taken) (a_at := a_at) (a_version := a_version) (a_value := a_value) (a_originAt := a_originAt) (a_stream := a_stream) (a_type := a_type) (a_originBy := a_originBy) (a_originCode := a_originCode) (a_goesOn := a_goesOn) (a_events := a_events) (a_cuts := a_cuts) (a_firm := a_firm) (a_cutsGone := a_cutsGone) (a_byVersion := a_byVersion) (a_byOrigin := a_byOrigin) (a_upTo := a_upTo) (a_draftType := a_draftType) (a_draftValue := a_draftValue) (a_dOp := a_dOp) (a_dC := a_dC) (a_height := a_height) (a_clash := a_clash) (a_pOp := a_pOp) (a_pSize := a_pSize) (a_pC := a_pC) (a_position := a_position) (a_cell := a_cell) (a_noted := a_noted) (a_stack := a_stack) (a_before := a_before) (a_shown := a_shown) (a_gType := a_gType) (a_gTaken := a_gTaken) (a_gWaiting := a_gWaiting) (a_gCursor := a_gCursor) (a_gParked := a_gParked) (a_kCursor := a_kCursor) (a_tAt := a_tAt) (a_tDue := a_tDue) (a_wAt := a_wAt) (a_tTimes := a_tTimes) (a_wTimes := a_wTimes) hg hn e2 hp nw 0 (by omega) kC kA kT h
    exact br_t (nI_le (Nat.le_refl _) (by omega)) (nm_e ⟨_, this⟩)
  | succ d ih =>
    intro m hm kC kA kT h
    have hv2 : vp_in (nI (6 * g + m)) 12 := vp_in_nI (by omega) (by decide)
    refine ⟨hv, ?_⟩
    rw [cg, es_6g, e1, nI_add, nI_clamp (show 6 * g + m < 2 ^ 31 by omega)]
    refine br_f (nI_ge (by omega) (by omega)) ⟨hv2, hv2, es_x_keepOne hg (cnt := m) (by omega) h.1.1 (fun kA' kT' h1 h2 => nm_r (nI_1 _) ?_)⟩
    refine ih (m + 1) (by omega) _ _ _ (es_KI_s h ?_ h2)
    rw [es_sq_1 (by omega), es_sq_1 (by omega)]
    exact h1
theorem es_x_keep {g nt nw : Nat} (hg : g < 2) (hn : nt + nw ≤ 6) (e1 : a_gTaken g = nI nt) (e2 : a_gWaiting g = nI nw) {post : SX → Prop}
    (hp : ∀ kC kA kT, es_KI (es_sq (fun m => a_tAt (6 * g + m)) (fun m => a_wAt (6 * g + m)) nt) (es_sq (fun m => a_tTimes (6 * g + m)) (fun m => a_wTimes (6 * g + m)) nt) a_kCount a_kAt a_kTimes (nt + nw) (6 * g) g kC kA kT → post (f_held, f_records, f_flushed, f_summed, f_draft, f_drafted, f_seen, f_time, f_taken, a_at, a_version, a_value, a_originAt, a_stream, a_type, a_originBy, a_originCode, a_goesOn, a_events, a_cuts, a_firm, a_cutsGone, a_byVersion, a_byOrigin, a_upTo, a_draftType, a_draftValue, a_dOp, a_dC, a_height, a_clash, a_pOp, a_pSize, a_pC, a_position, a_cell, a_noted, a_stack, a_before, a_shown, a_gType, a_gTaken, a_gWaiting, kC, a_gCursor, a_gParked, upd a_kCursor g (a_gCursor g), a_tAt, a_tDue, a_wAt, kA, a_tTimes, a_wTimes, kT)) : wpX_keep post (f_held, f_records, f_flushed, f_summed, f_draft, f_drafted, f_seen, f_time, f_taken, a_at, a_version, a_value, a_originAt, a_stream, a_type, a_originBy, a_originCode, a_goesOn, a_events, a_cuts, a_firm, a_cutsGone, a_byVersion, a_byOrigin, a_upTo, a_draftType, a_draftValue, a_dOp, a_dC, a_height, a_clash, a_pOp, a_pSize, a_pC, a_position, a_cell, a_noted, a_stack, a_before, a_shown, a_gType, a_gTaken, a_gWaiting, a_kCount, a_gCursor, a_gParked, a_kCursor, a_tAt, a_tDue, a_wAt, a_kAt, a_tTimes, a_wTimes, a_kTimes) (nI g) := by
  have hv : vp_in (nI g) 2 := vp_in_nI hg (by decide)
  have key := es_x_keep24 (f_held := f_held) (f_records := f_records) (f_flushed := f_flushed) (f_summed := f_summed) (f_draft := f_draft) (f_drafted := f_drafted) (f_seen := f_seen) (f_time := f_time) (f_taken := f_taken) (a_at := a_at) (a_version := a_version) (a_value := a_value) (a_originAt := a_originAt) (a_stream := a_stream) (a_type := a_type) (a_originBy := a_originBy) (a_originCode := a_originCode) (a_goesOn := a_goesOn) (a_events := a_events) (a_cuts := a_cuts) (a_firm := a_firm) (a_cutsGone := a_cutsGone) (a_byVersion := a_byVersion) (a_byOrigin := a_byOrigin) (a_upTo := a_upTo) (a_draftType := a_draftType) (a_draftValue := a_draftValue) (a_dOp := a_dOp) (a_dC := a_dC) (a_height := a_height) (a_clash := a_clash) (a_pOp := a_pOp) (a_pSize := a_pSize) (a_pC := a_pC) (a_position := a_position) (a_cell := a_cell) (a_noted := a_noted) (a_stack := a_stack) (a_before := a_before) (a_shown := a_shown) (a_gType := a_gType) (a_gTaken := a_gTaken) (a_gWaiting := a_gWaiting) (a_gCursor := a_gCursor) (a_gParked := a_gParked) (a_kCursor := upd a_kCursor g (a_gCursor g)) (a_tAt := a_tAt) (a_tDue := a_tDue) (a_wAt := a_wAt) (a_tTimes := a_tTimes) (a_wTimes := a_wTimes) hg hn e1 e2 hp nt 0 (by omega) (upd a_kCount g 0) a_kAt a_kTimes ⟨⟨pk_us, fun j h => absurd h (Nat.not_lt_zero _)⟩, fun r hr => pk_un hr, fun _ _ => ⟨rfl, rfl⟩⟩
  unfold wpX_keep
  dsimp only
  rw [nI_clamp (show g < 2 ^ 31 by omega), es_nb0, es_6g]
  exact ⟨hv, hv, nm_e ⟨hv, nm_e (nm_e ⟨_, key⟩)⟩⟩
end X
section Y
variable {g_count g_flushed g_calls g_drafted g_top g_time : Int32} {b_isCut b_removed b_stream b_type b_from b_by b_value b_version b_on b_call b_draftType b_draftValue b_op b_with b_length b_height b_torn b_stack b_position b_cells b_noted b_wanted b_formed b_cursor b_parked b_where b_often b_due b_many b_found : Nat → Int32}
theorem es_y_keep72 {g nt nw : Nat} (hg : g < 2) (hn : nt + nw ≤ 6) (e2 : b_many (2 + g) = nI nw) {post : SY → Prop}
    (hp : ∀ kC kA kT, es_KI (es_sq (fun m => b_where (8 * g + m)) (fun m => b_where (16 + 8 * g + m)) nt) (es_sq (fun m => b_often (8 * g + m)) (fun m => b_often (16 + 8 * g + m)) nt) b_many b_where b_often (nt + nw) (8 * (4 + g)) (4 + g) kC kA kT → post (g_count, g_flushed, g_calls, g_drafted, g_top, g_time, b_isCut, b_removed, b_stream, b_type, b_from, b_by, b_value, b_version, b_on, b_call, b_draftType, b_draftValue, b_op, b_with, b_length, b_height, b_torn, b_stack, b_position, b_cells, b_noted, b_wanted, b_formed, b_cursor, b_parked, kA, kT, b_due, kC, b_found)) :
    ∀ d m, m + d = nw → ∀ kC kA kT, es_KI (es_sq (fun m => b_where (8 * g + m)) (fun m => b_where (16 + 8 * g + m)) nt) (es_sq (fun m => b_often (8 * g + m)) (fun m => b_often (16 + 8 * g + m)) nt) b_many b_where b_often (nt + m) (8 * (4 + g)) (4 + g) kC kA kT → wY_keep_72 post (nI g) (d + 1) (nI m) g_count g_flushed g_calls g_drafted g_top g_time b_isCut b_removed b_stream b_type b_from b_by b_value b_version b_on b_call b_draftType b_draftValue b_op b_with b_length b_height b_torn b_stack b_position b_cells b_noted b_wanted b_formed b_cursor b_parked kA kT b_due kC b_found := by
  have h2 : 2 + nI g = nI (2 + g) := nI_add 2 g
  have h4 : 4 + nI g = nI (4 + g) := nI_add 4 g
  have h16 : ∀ m, 16 + nI (8 * g) + nI m = nI (16 + 8 * g + m) := fun m => by rw [show 16 + nI (8 * g) = nI (16 + 8 * g) from nI_add 16 (8 * g), nI_add]
  have hv : vp_in (nI (2 + g)) 6 := vp_in_nI (by omega) (by decide)
  have cg : (nI (2 + g)).toNatClampNeg = 2 + g := nI_clamp (by omega)
  intro d
  induction d with
  | zero =>
    intro m hm kC kA kT h
    have e : m = nw := by omega
    subst e
    have em := (h.2.1 (2 + g) (by omega)).trans e2
    refine ⟨by rw [h2]; exact hv, ?_⟩
    rw [h2, cg, em]
    exact br_t (nI_le (Nat.le_refl _) (by omega)) (hp kC kA kT h)
  | succ d ih =>
    intro m hm kC kA kT h
    have hv2 : vp_in (nI (16 + 8 * g + m)) 64 := vp_in_nI (by omega) (by decide)
    have em := (h.2.1 (2 + g) (by omega)).trans e2
    have ew := h.2.2 (16 + 8 * g + m) (by omega)
    refine ⟨by rw [h2]; exact hv, ?_⟩
    rw [h2, cg, em, es_8g, h16, nI_clamp (show 16 + 8 * g + m < 2 ^ 31 by omega), h4, ew.1, ew.2]
    refine br_f (nI_ge (by omega) (by omega)) ⟨hv2, hv2, es_y_insert (r := 4 + g) (by omega) (cnt := nt + m) (by omega) h.1.1 (fun kA' kT' h1 h3 => nm_r (nI_1 _) ?_)⟩
    refine ih (m + 1) (by omega) _ _ _ (es_KI_s (m := nt + m) h ?_ h3)
    rw [es_sq_2, es_sq_2]
    exact h1
theorem es_y_keep25 {g nt nw : Nat} (hg : g < 2) (hn : nt + nw ≤ 6) (e1 : b_many g = nI nt) (e2 : b_many (2 + g) = nI nw) {post : SY → Prop}
    (hp : ∀ kC kA kT, es_KI (es_sq (fun m => b_where (8 * g + m)) (fun m => b_where (16 + 8 * g + m)) nt) (es_sq (fun m => b_often (8 * g + m)) (fun m => b_often (16 + 8 * g + m)) nt) b_many b_where b_often (nt + nw) (8 * (4 + g)) (4 + g) kC kA kT → post (g_count, g_flushed, g_calls, g_drafted, g_top, g_time, b_isCut, b_removed, b_stream, b_type, b_from, b_by, b_value, b_version, b_on, b_call, b_draftType, b_draftValue, b_op, b_with, b_length, b_height, b_torn, b_stack, b_position, b_cells, b_noted, b_wanted, b_formed, b_cursor, b_parked, kA, kT, b_due, kC, b_found)) :
    ∀ d m, m + d = nt → ∀ kC kA kT, es_KI (es_sq (fun m => b_where (8 * g + m)) (fun m => b_where (16 + 8 * g + m)) nt) (es_sq (fun m => b_often (8 * g + m)) (fun m => b_often (16 + 8 * g + m)) nt) b_many b_where b_often m (8 * (4 + g)) (4 + g) kC kA kT → wY_keep_25 post (nI g) (d + 1) (nI m) g_count g_flushed g_calls g_drafted g_top g_time b_isCut b_removed b_stream b_type b_from b_by b_value b_version b_on b_call b_draftType b_draftValue b_op b_with b_length b_height b_torn b_stack b_position b_cells b_noted b_wanted b_formed b_cursor b_parked kA kT b_due kC b_found := by
  have h4 : 4 + nI g = nI (4 + g) := nI_add 4 g
  have hv : vp_in (nI g) 6 := vp_in_nI (by omega) (by decide)
  have cg : (nI g).toNatClampNeg = g := nI_clamp (by omega)
  intro d
  induction d with
  | zero =>
    intro m hm kC kA kT h
    have e : m = nt := by omega
    subst e
    have em := (h.2.1 g (by omega)).trans e1
    refine ⟨hv, ?_⟩
    rw [cg, em]
    have := es_y_keep72 (g_count := g_count) (g_flushed := g_flushed) (g_calls := g_calls) (g_drafted := g_drafted) (g_top := g_top) (g_time := g_time) (b_isCut := b_isCut) (b_removed := b_removed) (b_stream := b_stream) (b_type := b_type) (b_from := b_from) (b_by := b_by) (b_value := b_value) (b_version := b_version) (b_on := b_on) (b_call := b_call) (b_draftType := b_draftType) (b_draftValue := b_draftValue) (b_op := b_op) (b_with := b_with) (b_length := b_length) (b_height := b_height) (b_torn := b_torn) (b_stack := b_stack) (b_position := b_position) (b_cells := b_cells) (b_noted := b_noted) (b_wanted := b_wanted) (b_formed := b_formed) (b_cursor := b_cursor) (b_parked := b_parked) (b_where := b_where) (b_often := b_often) (b_due := b_due) (b_many := b_many) (b_found := b_found) hg hn e2 hp nw 0 (by omega) kC kA kT h
    rw [nI_0] at this
    exact br_t (nI_le (Nat.le_refl _) (by omega)) ⟨_, this⟩
  | succ d ih =>
    intro m hm kC kA kT h
    have hv2 : vp_in (nI (8 * g + m)) 64 := vp_in_nI (by omega) (by decide)
    have em := (h.2.1 g (by omega)).trans e1
    have ew := h.2.2 (8 * g + m) (by omega)
    refine ⟨hv, ?_⟩
    rw [cg, em, es_8g, nI_add, nI_clamp (show 8 * g + m < 2 ^ 31 by omega), h4, ew.1, ew.2]
    refine br_f (nI_ge (by omega) (by omega)) ⟨hv2, hv2, es_y_insert (r := 4 + g) (by omega) (cnt := m) (by omega) h.1.1 (fun kA' kT' h1 h3 => nm_r (nI_1 _) ?_)⟩
    refine ih (m + 1) (by omega) _ _ _ (es_KI_s h ?_ h3)
    rw [es_sq_1 (by omega), es_sq_1 (by omega)]
    exact h1
theorem es_y_keep {g nt nw : Nat} (hg : g < 2) (hn : nt + nw ≤ 6) (e1 : b_many g = nI nt) (e2 : b_many (2 + g) = nI nw) {post : SY → Prop}
    (hp : ∀ kC kA kT, es_KI (es_sq (fun m => b_where (8 * g + m)) (fun m => b_where (16 + 8 * g + m)) nt) (es_sq (fun m => b_often (8 * g + m)) (fun m => b_often (16 + 8 * g + m)) nt) b_many b_where b_often (nt + nw) (8 * (4 + g)) (4 + g) kC kA kT → post (g_count, g_flushed, g_calls, g_drafted, g_top, g_time, b_isCut, b_removed, b_stream, b_type, b_from, b_by, b_value, b_version, b_on, b_call, b_draftType, b_draftValue, b_op, b_with, b_length, b_height, b_torn, b_stack, b_position, b_cells, b_noted, b_wanted, b_formed, upd b_cursor (2 + g) (b_cursor g), b_parked, kA, kT, b_due, kC, b_found)) : wpY_keep post (g_count, g_flushed, g_calls, g_drafted, g_top, g_time, b_isCut, b_removed, b_stream, b_type, b_from, b_by, b_value, b_version, b_on, b_call, b_draftType, b_draftValue, b_op, b_with, b_length, b_height, b_torn, b_stack, b_position, b_cells, b_noted, b_wanted, b_formed, b_cursor, b_parked, b_where, b_often, b_due, b_many, b_found) (nI g) := by
  have h2 : 2 + nI g = nI (2 + g) := nI_add 2 g
  have h4 : 4 + nI g = nI (4 + g) := nI_add 4 g
  have key := es_y_keep25 (g_count := g_count) (g_flushed := g_flushed) (g_calls := g_calls) (g_drafted := g_drafted) (g_top := g_top) (g_time := g_time) (b_isCut := b_isCut) (b_removed := b_removed) (b_stream := b_stream) (b_type := b_type) (b_from := b_from) (b_by := b_by) (b_value := b_value) (b_version := b_version) (b_on := b_on) (b_call := b_call) (b_draftType := b_draftType) (b_draftValue := b_draftValue) (b_op := b_op) (b_with := b_with) (b_length := b_length) (b_height := b_height) (b_torn := b_torn) (b_stack := b_stack) (b_position := b_position) (b_cells := b_cells) (b_noted := b_noted) (b_wanted := b_wanted) (b_formed := b_formed) (b_cursor := upd b_cursor (2 + g) (b_cursor g)) (b_parked := b_parked) (b_where := b_where) (b_often := b_often) (b_due := b_due) (b_many := upd b_many (4 + g) 0) (b_found := b_found) (nw := nw) hg hn (by rw [pk_un (by omega)]; exact e1) (by rw [pk_un (by omega)]; exact e2) (post := post) (fun kC kA kT h => hp kC kA kT ⟨h.1, fun r hr => (h.2.1 r hr).trans (pk_un hr), h.2.2⟩) nt 0 (by omega) (upd b_many (4 + g) 0) b_where b_often ⟨⟨pk_us, fun j h => absurd h (Nat.not_lt_zero _)⟩, fun _ _ => rfl, fun _ _ => ⟨rfl, rfl⟩⟩
  rw [nI_0] at key
  unfold wpY_keep
  dsimp only
  rw [h2, h4, nI_clamp (show g < 2 ^ 31 by omega), nI_clamp (show 2 + g < 2 ^ 31 by omega), nI_clamp (show 4 + g < 2 ^ 31 by omega), es_nb0]
  exact ⟨vp_in_nI (by omega) (by decide), vp_in_nI (by omega) (by decide), nm_e ⟨vp_in_nI (by omega) (by decide), nm_e ⟨_, key⟩⟩⟩
end Y
end ES21
end
section
/-! groups: what a change elsewhere leaves, keep joined; form -/
section ES22
variable {f_held f_records f_flushed f_summed f_draft f_drafted f_seen f_time f_taken : Int32} {a_at a_version a_value a_originAt a_stream a_type a_originBy a_originCode a_goesOn a_events a_cuts a_firm a_cutsGone a_byVersion a_byOrigin a_draftType a_draftValue a_dOp a_dC a_height a_clash a_pOp a_pSize a_pC a_position a_cell a_noted a_stack a_before a_shown a_gType a_gTaken a_gWaiting a_kCount a_gCursor a_gParked a_kCursor a_tAt a_tDue a_wAt a_kAt a_tTimes a_wTimes a_kTimes : Nat → Int32} {a_upTo : Nat → Int64} {g_count g_flushed g_calls g_drafted g_top g_time : Int32} {b_isCut b_removed b_stream b_type b_from b_by b_value b_version b_on b_call b_draftType b_draftValue b_op b_with b_length b_height b_torn b_stack b_position b_cells b_noted b_wanted b_formed b_cursor b_parked b_where b_often b_due b_many b_found : Nat → Int32} {N F C : Nat} {L : Nat → es_Ev} {rm : Nat → Bool}
theorem es_PS_k {kc nk : Nat} {kA kA' : Nat → Int32} {x : Int32} (h : es_PS N kc nk kA x) (e : ∀ j, j < nk → kA' j = kA j) : es_PS N kc nk kA' x := by
  obtain ⟨a, h1, h2, h3⟩ := h
  refine ⟨a, h1, h2, ?_⟩
  rcases h3 with h3 | ⟨j, hj, h3⟩
  · exact Or.inl h3
  · exact Or.inr ⟨j, hj, (e j hj).trans h3⟩
theorem es_GR_fr {g : Nat} (a_gType' a_gTaken' a_gWaiting' a_kCount' a_gCursor' a_gParked' a_kCursor' a_tAt' a_tDue' a_wAt' a_kAt' a_tTimes' a_wTimes' a_kTimes' : Nat → Int32) (b_wanted' b_formed' b_cursor' b_parked' b_where' b_often' b_due' b_many' : Nat → Int32)
    (hR : es_GR N F rm a_gType a_gTaken a_gWaiting a_kCount a_gCursor a_gParked a_kCursor a_tAt a_tDue a_wAt a_kAt a_tTimes a_wTimes a_kTimes b_wanted b_formed b_cursor b_parked b_where b_often b_due b_many g)
    (e1 : a_gType' g = a_gType g ∧ a_gTaken' g = a_gTaken g ∧ a_gWaiting' g = a_gWaiting g ∧ a_kCount' g = a_kCount g ∧ a_gCursor' g = a_gCursor g ∧ a_gParked' g = a_gParked g ∧ a_kCursor' g = a_kCursor g)
    (e2 : ∀ j, j < 6 → a_tAt' (6 * g + j) = a_tAt (6 * g + j) ∧ a_tDue' (6 * g + j) = a_tDue (6 * g + j) ∧ a_wAt' (6 * g + j) = a_wAt (6 * g + j) ∧ a_kAt' (6 * g + j) = a_kAt (6 * g + j) ∧ a_tTimes' (6 * g + j) = a_tTimes (6 * g + j) ∧ a_wTimes' (6 * g + j) = a_wTimes (6 * g + j) ∧ a_kTimes' (6 * g + j) = a_kTimes (6 * g + j))
    (e3 : b_wanted' g = b_wanted g ∧ b_formed' g = b_formed g ∧ b_cursor' g = b_cursor g ∧ b_cursor' (2 + g) = b_cursor (2 + g) ∧ b_parked' g = b_parked g ∧ b_many' g = b_many g ∧ b_many' (2 + g) = b_many (2 + g) ∧ b_many' (4 + g) = b_many (4 + g))
    (e4 : ∀ j, j < 6 → b_where' (8 * g + j) = b_where (8 * g + j) ∧ b_where' (16 + 8 * g + j) = b_where (16 + 8 * g + j) ∧ b_where' (32 + 8 * g + j) = b_where (32 + 8 * g + j) ∧ b_often' (8 * g + j) = b_often (8 * g + j) ∧ b_often' (16 + 8 * g + j) = b_often (16 + 8 * g + j) ∧ b_often' (32 + 8 * g + j) = b_often (32 + 8 * g + j) ∧ b_due' (8 * g + j) = b_due (8 * g + j)) :
    es_GR N F rm a_gType' a_gTaken' a_gWaiting' a_kCount' a_gCursor' a_gParked' a_kCursor' a_tAt' a_tDue' a_wAt' a_kAt' a_tTimes' a_wTimes' a_kTimes' b_wanted' b_formed' b_cursor' b_parked' b_where' b_often' b_due' b_many' g := by
  obtain ⟨nt, nw, nk, c, kc, ⟨a1, a2, a3, a4, a5, a6, a7, a8⟩, ⟨b1, b2, b3, b4, b5, b6, b7⟩, p, f, ht, hw, hk, hs⟩ := hR
  obtain ⟨x1, x2, x3, x4, x5, x6, x7⟩ := e1
  obtain ⟨y1, y2, y3, y4, y5, y6, y7, y8⟩ := e3
  have ek : ∀ j, j < nk → (fun j => a_kAt' (6 * g + j)) j = (fun j => a_kAt (6 * g + j)) j := fun j hj => (e2 j (by omega)).2.2.2.1
  refine ⟨nt, nw, nk, c, kc, ⟨x2.trans a1, y6.trans a2, x3.trans a3, y7.trans a4, x4.trans a5, y8.trans a6, a7, a8⟩, ⟨x5.trans b1, y3.trans b2, b3, x7.trans b4, y4.trans b5, b6, b7⟩, (y5.trans p).trans x6.symm, ?_, fun j hj => ?_, fun j hj => ?_, fun j hj => ?_, fun j hj => ?_⟩
  · rcases f with ⟨f1, f2, f3⟩ | ⟨t, t1, t2, t3, t4, t5⟩
    · exact Or.inl ⟨x1.trans f1, y2.trans f2, f3⟩
    · refine Or.inr ⟨t, t1, x1.trans t2, y1.trans t3, y2.trans t4, fun i hi => ⟨(t5 i hi).1, fun j hj => ?_⟩⟩
      rw [(e2 j (by omega)).2.2.2.1]
      exact (t5 i hi).2 j hj
  · obtain ⟨q1, q2, q3, q4⟩ := ht j hj
    have z := e2 j (by omega)
    have w := e4 j (by omega)
    rw [z.1, z.2.1, z.2.2.2.2.1, w.1, w.2.2.2.1, w.2.2.2.2.2.2]
    exact ⟨q1, q2, q3, es_PS_k q4 ek⟩
  · obtain ⟨q1, q2, q4⟩ := hw j hj
    have z := e2 j (by omega)
    have w := e4 j (by omega)
    rw [z.2.2.1, z.2.2.2.2.2.1, w.2.1, w.2.2.2.2.1]
    exact ⟨q1, q2, es_PS_k q4 ek⟩
  · obtain ⟨q1, q2, q4⟩ := hk j hj
    have z := e2 j (by omega)
    have w := e4 j (by omega)
    rw [z.2.2.2.1, z.2.2.2.2.2.2, w.2.2.1, w.2.2.2.2.2.1]
    exact ⟨q1, q2, q4⟩
  · rw [(e2 j (by omega)).2.2.2.1, (e2 (j + 1) (by omega)).2.2.2.1]
    exact hs j hj
theorem es_GR_keep {g nt nw c : Nat} (hg : g < 2) (kC kA kT : Nat → Int32) (kM kW kO : Nat → Int32) (c1 : a_gTaken g = nI nt) (c2 : b_many g = nI nt) (c3 : a_gWaiting g = nI nw) (c4 : b_many (2 + g) = nI nw) (c5 : nt + nw ≤ 6) (d1 : a_gCursor g = nI c) (d2 : b_cursor g = nI c) (d3 : c ≤ F) (hF : F ≤ N) (pk : b_parked g = a_gParked g)
    (fm : (a_gType g = -1 ∧ b_formed g = 0 ∧ nt = 0 ∧ nw = 0) ∨ (∃ t, t < 9 ∧ a_gType g = nI t ∧ b_wanted g = nI t ∧ b_formed g = 1 ∧ ∀ i, rm i = true → i < c))
    (ht : ∀ j, j < nt → b_where (8 * g + j) = a_tAt (6 * g + j) ∧ b_often (8 * g + j) = a_tTimes (6 * g + j) ∧ b_due (8 * g + j) = a_tDue (6 * g + j) ∧ ∃ a, a < F ∧ a_tAt (6 * g + j) = nI a ∧ rm a = false ∧ ∀ i, rm i = true → i < a)
    (hw : ∀ j, j < nw → b_where (16 + 8 * g + j) = a_wAt (6 * g + j) ∧ b_often (16 + 8 * g + j) = a_wTimes (6 * g + j) ∧ ∃ a, a < F ∧ a_wAt (6 * g + j) = nI a ∧ rm a = false ∧ ∀ i, rm i = true → i < a)
    (hb : F < 2 ^ 31)
    (KX : es_KO (es_sq (fun m => a_tAt (6 * g + m)) (fun m => a_wAt (6 * g + m)) nt) (es_sq (fun m => a_tTimes (6 * g + m)) (fun m => a_wTimes (6 * g + m)) nt) (nt + nw) (6 * g) g kC kA kT)
    (KY : es_KO (es_sq (fun m => b_where (8 * g + m)) (fun m => b_where (16 + 8 * g + m)) nt) (es_sq (fun m => b_often (8 * g + m)) (fun m => b_often (16 + 8 * g + m)) nt) (nt + nw) (8 * (4 + g)) (4 + g) kM kW kO)
    (fr : ∀ r, r < 4 → kM r = b_many r) (fw : ∀ i, i < 32 → kW i = b_where i ∧ kO i = b_often i) {a_kCursor' b_cursor' : Nat → Int32} (k1 : a_kCursor' g = a_gCursor g) (k2 : b_cursor' (2 + g) = b_cursor g) (k3 : b_cursor' g = b_cursor g) :
    es_GR N F rm a_gType a_gTaken a_gWaiting kC a_gCursor a_gParked a_kCursor' a_tAt a_tDue a_wAt kA a_tTimes a_wTimes kT b_wanted b_formed b_cursor' b_parked kW kO b_due kM g := by
  have seq : ∀ m, m < nt + nw → ∃ a, a < F ∧ es_sq (fun m => a_tAt (6 * g + m)) (fun m => a_wAt (6 * g + m)) nt m = nI a ∧ ∀ i, rm i = true → i < a := fun m hm => by
    by_cases e : m < nt
    · rw [es_sq_1 e]
      obtain ⟨a, x1, x2, -, x3⟩ := (ht m e).2.2.2
      exact ⟨a, x1, x2, x3⟩
    · obtain ⟨m', rfl⟩ : ∃ m', m = nt + m' := ⟨m - nt, by omega⟩
      rw [es_sq_2]
      obtain ⟨a, x1, x2, -, x3⟩ := (hw m' (by omega)).2.2
      exact ⟨a, x1, x2, x3⟩
  have ekp : es_kp (es_sq (fun m => b_where (8 * g + m)) (fun m => b_where (16 + 8 * g + m)) nt) (es_sq (fun m => b_often (8 * g + m)) (fun m => b_often (16 + 8 * g + m)) nt) (nt + nw) = es_kp (es_sq (fun m => a_tAt (6 * g + m)) (fun m => a_wAt (6 * g + m)) nt) (es_sq (fun m => a_tTimes (6 * g + m)) (fun m => a_wTimes (6 * g + m)) nt) (nt + nw) := es_kp_cg _ (fun m hm => by
    by_cases e : m < nt
    · rw [es_sq_1 e, es_sq_1 e, es_sq_1 e, es_sq_1 e]
      exact ⟨(ht m e).1, (ht m e).2.1⟩
    · obtain ⟨m', rfl⟩ : ∃ m', m = nt + m' := ⟨m - nt, by omega⟩
      rw [es_sq_2, es_sq_2, es_sq_2, es_sq_2]
      exact ⟨(hw m' (by omega)).1, (hw m' (by omega)).2.1⟩)
  unfold es_KO at KY
  rw [ekp] at KY
  have kmem : ∀ j, j < nt + nw → ∃ a, a < F ∧ kA (6 * g + j) = nI a ∧ ∀ i, rm i = true → i < a := fun j hj => by
    obtain ⟨m, hm, e⟩ := es_kp_mem (X := es_sq (fun m => a_tAt (6 * g + m)) (fun m => a_wAt (6 * g + m)) nt) (T := es_sq (fun m => a_tTimes (6 * g + m)) (fun m => a_wTimes (6 * g + m)) nt) (nt + nw) j hj
    obtain ⟨a, x1, x2, x3⟩ := seq m hm
    exact ⟨a, x1, (KX.2 j hj).1.trans (e.trans x2), x3⟩
  have kall : ∀ m, m < nt + nw → ∃ j, j < nt + nw ∧ kA (6 * g + j) = es_sq (fun m => a_tAt (6 * g + m)) (fun m => a_wAt (6 * g + m)) nt m := fun m hm => by
    obtain ⟨j, hj, e⟩ := es_kp_all (X := es_sq (fun m => a_tAt (6 * g + m)) (fun m => a_wAt (6 * g + m)) nt) (T := es_sq (fun m => a_tTimes (6 * g + m)) (fun m => a_wTimes (6 * g + m)) nt) (nt + nw) m hm
    exact ⟨j, hj, (KX.2 j hj).1.trans e⟩
  refine ⟨nt, nw, nt + nw, c, c, ⟨c1, (fr g (by omega)).trans c2, c3, (fr (2 + g) (by omega)).trans c4, KX.1, KY.1, c5, c5⟩, ⟨d1, k3.trans d2, by omega, k1.trans d1, k2.trans d2, Nat.le_refl _, d3⟩, pk, ?_, fun j hj => ?_, fun j hj => ?_, fun j hj => ?_, fun j hj => ?_⟩
  · rcases fm with ⟨f1, f2, f3, f4⟩ | ⟨t, t1, t2, t3, t4, t5⟩
    · exact Or.inl ⟨f1, f2, f3, f4, by omega⟩
    · refine Or.inr ⟨t, t1, t2, t3, t4, fun i hi => ⟨t5 i hi, fun j hj => ?_⟩⟩
      obtain ⟨a, x1, x2, x3⟩ := kmem j hj
      rw [x2]
      exact nI_lt (x3 i hi) (by omega)
  · obtain ⟨q1, q2, q3, a, x1, x2, -⟩ := ht j hj
    obtain ⟨j', z1, z2⟩ := kall j (by omega)
    rw [es_sq_1 hj] at z2
    rw [(fw _ (by omega)).1, (fw _ (by omega)).2]
    exact ⟨q1, q2, q3, a, by omega, x2, Or.inr ⟨j', z1, z2.trans x2⟩⟩
  · obtain ⟨q1, q2, a, x1, x2, -⟩ := hw j hj
    obtain ⟨j', z1, z2⟩ := kall (nt + j) (by omega)
    rw [es_sq_2] at z2
    rw [(fw _ (by omega)).1, (fw _ (by omega)).2]
    exact ⟨q1, q2, a, by omega, x2, Or.inr ⟨j', z1, z2.trans x2⟩⟩
  · obtain ⟨a, x1, x2, -⟩ := kmem j hj
    have y := KY.2 j hj
    rw [show 8 * (4 + g) + j = 32 + 8 * g + j by omega] at y
    exact ⟨y.1.trans (KX.2 j hj).1.symm, y.2.trans (KX.2 j hj).2.symm, a, x1, x2⟩
  · rw [(KX.2 j (by omega)).1, (KX.2 (j + 1) (by omega)).1]
    exact es_kp_srt _ j hj
end ES22
section ES22b
theorem i_vc_form {k : Nat} {u : SX} {v : SY} (I : i_Rel k u v) (hk : k + 4 ≤ 2048) (v1 : Int32) (v2 : Int32) : wpX_form (fun r u' => wpY_form (fun r' v' => r' = r ∧ i_Rel (k + 4) u' v') v v1 v2) u v1 v2 := by
  refine es_el (P := fun u v => wpX_form (fun r u' => wpY_form (fun r' v' => r' = r ∧ i_Rel (k + 4) u' v') v v1 v2) u v1 v2) ?_ u v I
  intro f_held f_records f_flushed f_summed f_draft f_drafted f_seen f_time f_taken a_at a_version a_value a_originAt a_stream a_type a_originBy a_originCode a_goesOn a_events a_cuts a_firm a_cutsGone a_byVersion a_byOrigin a_draftType a_draftValue a_dOp a_dC a_height a_clash a_pOp a_pSize a_pC a_position a_cell a_noted a_stack a_before a_shown a_gType a_gTaken a_gWaiting a_kCount a_gCursor a_gParked a_kCursor a_tAt a_tDue a_wAt a_kAt a_tTimes a_wTimes a_kTimes a_upTo g_count g_flushed g_calls g_drafted g_top g_time b_isCut b_removed b_stream b_type b_from b_by b_value b_version b_on b_call b_draftType b_draftValue b_op b_with b_length b_height b_torn b_stack b_position b_cells b_noted b_wanted b_formed b_cursor b_parked b_where b_often b_due b_many b_found N F C L rm h1 h2 h3 h4 h5 h6 h7 h8 h9 h10
  show wpX_form (fun r u' => wpY_form (fun r' v' => r' = r ∧ i_Rel (k + 4) u' v') (g_count, g_flushed, g_calls, g_drafted, g_top, g_time, b_isCut, b_removed, b_stream, b_type, b_from, b_by, b_value, b_version, b_on, b_call, b_draftType, b_draftValue, b_op, b_with, b_length, b_height, b_torn, b_stack, b_position, b_cells, b_noted, b_wanted, b_formed, b_cursor, b_parked, b_where, b_often, b_due, b_many, b_found) v1 v2) (f_held, f_records, f_flushed, f_summed, f_draft, f_drafted, f_seen, f_time, f_taken, a_at, a_version, a_value, a_originAt, a_stream, a_type, a_originBy, a_originCode, a_goesOn, a_events, a_cuts, a_firm, a_cutsGone, a_byVersion, a_byOrigin, a_upTo, a_draftType, a_draftValue, a_dOp, a_dC, a_height, a_clash, a_pOp, a_pSize, a_pC, a_position, a_cell, a_noted, a_stack, a_before, a_shown, a_gType, a_gTaken, a_gWaiting, a_kCount, a_gCursor, a_gParked, a_kCursor, a_tAt, a_tDue, a_wAt, a_kAt, a_tTimes, a_wTimes, a_kTimes) v1 v2
  have keep : i_Rel (k + 4) (f_held, f_records, f_flushed, f_summed, f_draft, f_drafted, f_seen, f_time, f_taken, a_at, a_version, a_value, a_originAt, a_stream, a_type, a_originBy, a_originCode, a_goesOn, a_events, a_cuts, a_firm, a_cutsGone, a_byVersion, a_byOrigin, a_upTo, a_draftType, a_draftValue, a_dOp, a_dC, a_height, a_clash, a_pOp, a_pSize, a_pC, a_position, a_cell, a_noted, a_stack, a_before, a_shown, a_gType, a_gTaken, a_gWaiting, a_kCount, a_gCursor, a_gParked, a_kCursor, a_tAt, a_tDue, a_wAt, a_kAt, a_tTimes, a_wTimes, a_kTimes) (g_count, g_flushed, g_calls, g_drafted, g_top, g_time, b_isCut, b_removed, b_stream, b_type, b_from, b_by, b_value, b_version, b_on, b_call, b_draftType, b_draftValue, b_op, b_with, b_length, b_height, b_torn, b_stack, b_position, b_cells, b_noted, b_wanted, b_formed, b_cursor, b_parked, b_where, b_often, b_due, b_many, b_found) := es_mk h1 h2 h3 (by omega) h5 h6 h7 h8 h9 h10
  have out : (v1 < 0 ∨ nI 2 ≤ v1) → wpX_form (fun r u' => wpY_form (fun r' v' => r' = r ∧ i_Rel (k + 4) u' v') (g_count, g_flushed, g_calls, g_drafted, g_top, g_time, b_isCut, b_removed, b_stream, b_type, b_from, b_by, b_value, b_version, b_on, b_call, b_draftType, b_draftValue, b_op, b_with, b_length, b_height, b_torn, b_stack, b_position, b_cells, b_noted, b_wanted, b_formed, b_cursor, b_parked, b_where, b_often, b_due, b_many, b_found) v1 v2) (f_held, f_records, f_flushed, f_summed, f_draft, f_drafted, f_seen, f_time, f_taken, a_at, a_version, a_value, a_originAt, a_stream, a_type, a_originBy, a_originCode, a_goesOn, a_events, a_cuts, a_firm, a_cutsGone, a_byVersion, a_byOrigin, a_upTo, a_draftType, a_draftValue, a_dOp, a_dC, a_height, a_clash, a_pOp, a_pSize, a_pC, a_position, a_cell, a_noted, a_stack, a_before, a_shown, a_gType, a_gTaken, a_gWaiting, a_kCount, a_gCursor, a_gParked, a_kCursor, a_tAt, a_tDue, a_wAt, a_kAt, a_tTimes, a_wTimes, a_kTimes) v1 v2 := fun c => by
    unfold wpX_form
    refine es_am0 (n := 2) c (br_t rfl ?_)
    unfold wpY_form
    exact es_out1 (n := 2) c (br_f es_10 ⟨rfl, keep⟩)
  rcases pk_ix v1 (n := 2) (by decide) with c | c | ⟨g, hg, rfl⟩
  · exact out (Or.inl c)
  · exact out (Or.inr c)
  clear out
  have out : (v2 < 0 ∨ nI 9 ≤ v2) → wpX_form (fun r u' => wpY_form (fun r' v' => r' = r ∧ i_Rel (k + 4) u' v') (g_count, g_flushed, g_calls, g_drafted, g_top, g_time, b_isCut, b_removed, b_stream, b_type, b_from, b_by, b_value, b_version, b_on, b_call, b_draftType, b_draftValue, b_op, b_with, b_length, b_height, b_torn, b_stack, b_position, b_cells, b_noted, b_wanted, b_formed, b_cursor, b_parked, b_where, b_often, b_due, b_many, b_found) (nI g) v2) (f_held, f_records, f_flushed, f_summed, f_draft, f_drafted, f_seen, f_time, f_taken, a_at, a_version, a_value, a_originAt, a_stream, a_type, a_originBy, a_originCode, a_goesOn, a_events, a_cuts, a_firm, a_cutsGone, a_byVersion, a_byOrigin, a_upTo, a_draftType, a_draftValue, a_dOp, a_dC, a_height, a_clash, a_pOp, a_pSize, a_pC, a_position, a_cell, a_noted, a_stack, a_before, a_shown, a_gType, a_gTaken, a_gWaiting, a_kCount, a_gCursor, a_gParked, a_kCursor, a_tAt, a_tDue, a_wAt, a_kAt, a_tTimes, a_wTimes, a_kTimes) (nI g) v2 := fun c => by
    unfold wpX_form
    refine es_am1 (n := 2) hg (by decide) (br_f es_10 (es_am0 (n := 9) c (br_t rfl ?_)))
    unfold wpY_form
    exact es_out0 (n := 2) hg (by decide) (br_t rfl (es_out1 (n := 9) c (br_f es_10 ⟨rfl, keep⟩)))
  rcases pk_ix v2 (n := 9) (by decide) with c | c | ⟨t, ht, rfl⟩
  · exact out (Or.inl c)
  · exact out (Or.inr c)
  clear out
  have hv : vp_in (nI g) 2 := vp_in_nI hg (by decide)
  have cg : (nI g).toNatClampNeg = g := nI_clamp (by omega)
  have e2g : 2 + nI g = nI (2 + g) := nI_add 2 g
  have c2g : (nI (2 + g)).toNatClampNeg = 2 + g := nI_clamp (by omega)
  have hN := h3.1
  have hFN := h3.2.1
  have eF := h1.2.2.1
  have eG := h2.2.1
  unfold wpX_form
  refine es_am1 (n := 2) hg (by decide) (br_f es_10 (es_am1 (n := 9) ht (by decide) (br_f es_10 ?_)))
  rw [cg, es_nb0, es_b8 (show t < 128 by omega)]
  refine ⟨hv, nm_e ⟨hv, nm_e ⟨hv, nm_e ⟨hv, nm_e ⟨hv, nm_e (es_x_keep (nt := 0) (nw := 0) hg (by omega) pk_us pk_us (fun kC kA kT KX => ?_))⟩⟩⟩⟩⟩
  dsimp only
  unfold wpY_form
  refine es_out0 (n := 2) hg (by decide) (br_t rfl (es_out0 (n := 9) ht (by decide) (br_t rfl ?_)))
  rw [cg, e2g, c2g, es_z1, es_nb0, es_b8 (show t < 128 by omega)]
  refine ⟨hv, nm_e ⟨hv, nm_e ⟨vp_in_nI (by omega) (by decide), nm_e ⟨vp_in_nI (by omega) (by decide), nm_e ⟨vp_in_nI (by omega) (by decide), nm_e ⟨hv, nm_e (es_y_keep (nt := 0) (nw := 0) hg (by omega) (by rw [pk_un (by omega), pk_us]; rfl) (by rw [pk_us]; rfl) (fun kM kW kO KY => ?_))⟩⟩⟩⟩⟩⟩
  refine ⟨eG.trans eF.symm, es_mk h1 h2 h3 (by omega) h5 h6 h7 (fun g' hg' => ?_) h9 h10⟩
  by_cases c : g' = g
  · subst c
    exact es_GR_keep (nt := 0) (nw := 0) (c := F) hg' kC kA kT kM kW kO pk_us (by rw [pk_un (by omega), pk_us]; rfl) pk_us pk_us (by omega) (by rw [pk_us]; exact eF) (by rw [pk_us]; exact eG) (Nat.le_refl _) hFN (by rw [pk_us, pk_us]) (Or.inr ⟨t, ht, pk_us, pk_us, pk_us, fun i hi => (h3.2.2.2.1 i hi).1⟩) (fun j h => absurd h (Nat.not_lt_zero _)) (fun j h => absurd h (Nat.not_lt_zero _)) (by omega) KX.1 KY.1 (fun r hr => KY.2.1 r (by omega)) (fun i hi => KY.2.2 i (by omega)) pk_us pk_us (pk_un (by omega))
  · have x := KX.2.2
    have y := KY.2.2
    refine es_GR_fr _ _ _ _ _ _ _ _ _ _ _ _ _ _ _ _ _ _ _ _ _ _ (h8 g' hg') ⟨pk_un c, pk_un c, pk_un c, KX.2.1 g' c, pk_un c, pk_un c, pk_un c⟩ (fun j hj => ⟨rfl, rfl, rfl, (x _ (by omega)).1, rfl, rfl, (x _ (by omega)).2⟩) ⟨pk_un c, pk_un c, (pk_un (by omega)).trans (pk_un c), (pk_un (by omega)).trans (pk_un (by omega)), pk_un c, (KY.2.1 g' (by omega)).trans ((pk_un (by omega)).trans (pk_un c)), (KY.2.1 (2 + g') (by omega)).trans ((pk_un (by omega)).trans (pk_un (by omega))), (KY.2.1 (4 + g') (by omega)).trans ((pk_un (by omega)).trans (pk_un (by omega)))⟩
      (fun j hj => ⟨(y _ (by omega)).1, (y _ (by omega)).1, (y _ (by omega)).1, (y _ (by omega)).2, (y _ (by omega)).2, (y _ (by omega)).2, rfl⟩)
end ES22b
end
section
/-! flush -/
section ES23
def es_ff (nt : Nat → Int32) (q r : Nat) : Nat := if 3 ≤ r ∧ r < 3 + q ∧ nt (r - 3) ≠ 0 then r + 3 else r
def es_nt (a : Nat → Int32) (g : Nat) : Nat := (a g).toNatClampNeg
theorem es_ff_0 (nt : Nat → Int32) (r : Nat) : es_ff nt 0 r = r := by
  unfold es_ff
  rw [if_neg (by omega)]
theorem es_ff_n {nt : Nat → Int32} {q : Nat} (h : nt q = 0) (r : Nat) : es_ff nt q r = es_ff nt (q + 1) r := by
  unfold es_ff
  by_cases c : r = 3 + q
  · have : nt (r - 3) = 0 := by rw [c, Nat.add_sub_cancel_left]; exact h
    rw [if_neg (by omega), if_neg (fun z => z.2.2 this)]
  · by_cases c2 : 3 ≤ r ∧ r < 3 + q ∧ nt (r - 3) ≠ 0
    · rw [if_pos c2, if_pos ⟨c2.1, by omega, c2.2.2⟩]
    · rw [if_neg c2, if_neg (fun z => c2 ⟨z.1, by omega, z.2.2⟩)]
theorem es_ff_y {nt : Nat → Int32} {q : Nat} (h : nt q ≠ 0) (r : Nat) : (if r = 3 + q then es_ff nt q (6 + q) else es_ff nt q r) = es_ff nt (q + 1) r := by
  by_cases c : r = 3 + q
  · have : nt (r - 3) ≠ 0 := by rw [c, Nat.add_sub_cancel_left]; exact h
    rw [if_pos c]
    unfold es_ff
    rw [if_neg (by omega), if_pos ⟨by omega, by omega, this⟩]
    omega
  · rw [if_neg c]
    unfold es_ff
    by_cases c2 : 3 ≤ r ∧ r < 3 + q ∧ nt (r - 3) ≠ 0
    · rw [if_pos c2, if_pos ⟨c2.1, by omega, c2.2.2⟩]
    · rw [if_neg c2, if_neg (fun z => c2 ⟨z.1, by omega, z.2.2⟩)]
theorem es_KO_cg {X T X' T' : Nat → Int32} {n b r : Nat} {kC kA kT : Nat → Int32} (h : es_KO X T n b r kC kA kT) (e : ∀ m, m < n → X m = X' m ∧ T m = T' m) : es_KO X' T' n b r kC kA kT := by
  unfold es_KO at h ⊢
  rw [← es_kp_cg n e]
  exact h
theorem es_KO_fr {X T : Nat → Int32} {n b r : Nat} {kC kA kT kC' kA' kT' : Nat → Int32} (h : es_KO X T n b r kC kA kT) (h1 : kC' r = kC r) (h2 : ∀ j, j < n → kA' (b + j) = kA (b + j) ∧ kT' (b + j) = kT (b + j)) : es_KO X T n b r kC' kA' kT' :=
  ⟨h1.trans h.1, fun j hj => ⟨(h2 j hj).1.trans (h.2 j hj).1, (h2 j hj).2.trans (h.2 j hj).2⟩⟩
theorem es_PS_rm {N F kc nk : Nat} {rm : Nat → Bool} {kA : Nat → Int32} {x : Int32} (hN : N ≤ 2000) (hF : F ≤ N) (hr : ∀ i, rm i = true → i < F) (h : es_PS N kc nk kA x) (f : ∀ i, rm i = true → i < kc ∧ ∀ j, j < nk → nI i < kA j) : ∃ a, a < N ∧ x = nI a ∧ rm a = false ∧ ∀ i, rm i = true → i < a := by
  obtain ⟨a, h1, h2, h3⟩ := h
  have key : ∀ i, rm i = true → i < a := fun i hi => by
    have z := f i hi
    have := hr i hi
    rcases h3 with h3 | ⟨j, hj, e⟩
    · omega
    · have w := z.2 j hj
      rw [e] at w
      exact (nI_ltI (by omega) (by omega)).mp w
  refine ⟨a, h1, h2, ?_, key⟩
  cases e : rm a
  · rfl
  · have := key a e; omega
section X
variable {f_held f_records f_flushed f_summed f_draft f_drafted f_seen f_time f_taken : Int32} {a_at a_version a_value a_originAt a_stream a_type a_originBy a_originCode a_goesOn a_events a_cuts a_firm a_cutsGone a_byVersion a_byOrigin a_draftType a_draftValue a_dOp a_dC a_height a_clash a_pOp a_pSize a_pC a_position a_cell a_noted a_stack a_before a_shown a_gType a_gTaken a_gWaiting a_kCount a_gCursor a_gParked a_kCursor a_tAt a_tDue a_wAt a_kAt a_tTimes a_wTimes a_kTimes : Nat → Int32} {a_upTo : Nat → Int64}
theorem es_x_fl85 {x : Int32} (hc : ∀ g, g < 2 → a_gTaken g = nI (es_nt a_gTaken g) ∧ a_gWaiting g = nI (es_nt a_gWaiting g) ∧ es_nt a_gTaken g + es_nt a_gWaiting g ≤ 6) {post : Int32 → SX → Prop}
    (hp : ∀ kCu kC kA kT, (∀ g, g < 2 → kCu g = a_gCursor g ∧ es_KO (es_sq (fun m => a_tAt (6 * g + m)) (fun m => a_wAt (6 * g + m)) (es_nt a_gTaken g)) (es_sq (fun m => a_tTimes (6 * g + m)) (fun m => a_wTimes (6 * g + m)) (es_nt a_gTaken g)) (es_nt a_gTaken g + es_nt a_gWaiting g) (6 * g) g kC kA kT) → post x (f_held, f_records, f_flushed, f_summed, f_draft, f_drafted, f_seen, f_time, f_taken, a_at, a_version, a_value, a_originAt, a_stream, a_type, a_originBy, a_originCode, a_goesOn, a_events, a_cuts, a_firm, a_cutsGone, a_byVersion, a_byOrigin, a_upTo, a_draftType, a_draftValue, a_dOp, a_dC, a_height, a_clash, a_pOp, a_pSize, a_pC, a_position, a_cell, a_noted, a_stack, a_before, a_shown, a_gType, a_gTaken, a_gWaiting, kC, a_gCursor, a_gParked, kCu, a_tAt, a_tDue, a_wAt, kA, a_tTimes, a_wTimes, kT)) :
    ∀ d q, q + d = 2 → ∀ kCu kC kA kT, (∀ g, g < q → kCu g = a_gCursor g ∧ es_KO (es_sq (fun m => a_tAt (6 * g + m)) (fun m => a_wAt (6 * g + m)) (es_nt a_gTaken g)) (es_sq (fun m => a_tTimes (6 * g + m)) (fun m => a_wTimes (6 * g + m)) (es_nt a_gTaken g)) (es_nt a_gTaken g + es_nt a_gWaiting g) (6 * g) g kC kA kT) → wX_flush_85 post x (d + 1) (nI q) f_held f_records f_flushed f_summed f_draft f_drafted f_seen f_time f_taken a_at a_version a_value a_originAt a_stream a_type a_originBy a_originCode a_goesOn a_events a_cuts a_firm a_cutsGone a_byVersion a_byOrigin a_upTo a_draftType a_draftValue a_dOp a_dC a_height a_clash a_pOp a_pSize a_pC a_position a_cell a_noted a_stack a_before a_shown a_gType a_gTaken a_gWaiting kC a_gCursor a_gParked kCu a_tAt a_tDue a_wAt kA a_tTimes a_wTimes kT := by
  intro d
  induction d with
  | zero =>
    intro q hq kCu kC kA kT h
    have e : q = 2 := by omega
    subst e
    exact br_t (nI_le (a := 2) (b := 2) (by omega) (by decide)) (hp kCu kC kA kT h)
  | succ d ih =>
    intro q hq kCu kC kA kT h
    obtain ⟨e1, e2, e3⟩ := hc q (by omega)
    refine br_f (nI_ge (b := 2) (by omega) (by decide)) (es_x_keep (show q < 2 by omega) e3 e1 e2 (fun kC' kA' kT' K => nm_r (nI_1 q) ?_))
    refine ih (q + 1) (by omega) _ _ _ _ (fun g hg => ?_)
    by_cases c : g = q
    · subst c
      exact ⟨pk_us, K.1⟩
    · obtain ⟨h1, h2⟩ := h g (by omega)
      have := (hc g (by omega)).2.2
      exact ⟨(pk_un c).trans h1, es_KO_fr h2 (K.2.1 g c) (fun j hj => K.2.2 _ (by omega))⟩
theorem es_x_fl45 {x : Int32} {post : Int32 → SX → Prop} (hp : ∀ pos cell nt, es_RW a_position a_cell pos cell (es_ff a_noted 3) → (∀ p, p < 3 → nt p = 0) → ∃ n, wX_flush_85 post x n 0 f_held f_records f_flushed f_summed f_draft f_drafted f_seen f_time f_taken a_at a_version a_value a_originAt a_stream a_type a_originBy a_originCode a_goesOn a_events a_cuts a_firm a_cutsGone a_byVersion a_byOrigin a_upTo a_draftType a_draftValue a_dOp a_dC a_height a_clash a_pOp a_pSize a_pC pos cell nt a_stack a_before a_shown a_gType a_gTaken a_gWaiting a_kCount a_gCursor a_gParked a_kCursor a_tAt a_tDue a_wAt a_kAt a_tTimes a_wTimes a_kTimes) :
    ∀ d q, q + d = 3 → ∀ pos cell nt, es_RW a_position a_cell pos cell (es_ff a_noted q) → (∀ p, p < q → nt p = 0) → (∀ p, q ≤ p → nt p = a_noted p) → wX_flush_45 post x (d + 1) (nI q) f_held f_records f_flushed f_summed f_draft f_drafted f_seen f_time f_taken a_at a_version a_value a_originAt a_stream a_type a_originBy a_originCode a_goesOn a_events a_cuts a_firm a_cutsGone a_byVersion a_byOrigin a_upTo a_draftType a_draftValue a_dOp a_dC a_height a_clash a_pOp a_pSize a_pC pos cell nt a_stack a_before a_shown a_gType a_gTaken a_gWaiting a_kCount a_gCursor a_gParked a_kCursor a_tAt a_tDue a_wAt a_kAt a_tTimes a_wTimes a_kTimes := by
  intro d
  induction d with
  | zero =>
    intro q hq pos cell nt R h0 h1
    have e : q = 3 := by omega
    subst e
    exact br_t (nI_le (a := 3) (b := 3) (by omega) (by decide)) (hp pos cell nt R h0)
  | succ d ih =>
    intro q hq pos cell nt R h0 h1
    have hv : vp_in (nI q) 3 := vp_in_nI (by omega) (by decide)
    have cq : (nI q).toNatClampNeg = q := nI_clamp (by omega)
    have e6 : 6 + nI q = nI (6 + q) := nI_add 6 q
    have e3 : 3 + nI q = nI (3 + q) := nI_add 3 q
    have u0 : ∀ p, p < q + 1 → upd nt q 0 p = 0 := fun p hp' => by
      by_cases c : p = q
      · rw [c, pk_us]
      · rw [pk_un c]; exact h0 p (by omega)
    have u1 : ∀ p, q + 1 ≤ p → upd nt q 0 p = a_noted p := fun p hp' => by rw [pk_un (by omega)]; exact h1 p (by omega)
    refine br_f (nI_ge (b := 3) (by omega) (by decide)) ⟨hv, ?_⟩
    rw [cq, es_z0, h1 q (Nat.le_refl _), e6, e3]
    by_cases c : a_noted q = 0
    · exact br_t c ⟨hv, nm_e (nm_r (nI_1 q) (ih (q + 1) (by omega) _ _ _ (es_RW_cg R (fun r _ => es_ff_n c r)) u0 u1))⟩
    · refine br_f c (es_x_copyR (by omega) (by omega) (by omega) R (fun pos' cell' R' => ⟨hv, nm_e (nm_r (nI_1 q) ?_)⟩))
      exact ih (q + 1) (by omega) _ _ _ (es_RW_cg R' (fun r _ => es_ff_y c r)) u0 u1
theorem es_x_fl20 {x : Int32} {post : Int32 → SX → Prop} (hp : ∀ fi, (∀ s, s < 5 → fi s = a_cuts s) → ∃ n, wX_flush_45 post x n 0 f_held f_records f_flushed f_summed f_draft f_drafted f_seen f_time f_taken a_at a_version a_value a_originAt a_stream a_type a_originBy a_originCode a_goesOn a_events a_cuts fi a_cutsGone a_byVersion a_byOrigin a_upTo a_draftType a_draftValue a_dOp a_dC a_height a_clash a_pOp a_pSize a_pC a_position a_cell a_noted a_stack a_before a_shown a_gType a_gTaken a_gWaiting a_kCount a_gCursor a_gParked a_kCursor a_tAt a_tDue a_wAt a_kAt a_tTimes a_wTimes a_kTimes) :
    ∀ d q, q + d = 5 → ∀ fi, (∀ s, s < q → fi s = a_cuts s) → wX_flush_20 post x f_held f_records f_flushed f_summed f_draft f_drafted f_seen f_time f_taken (d + 1) (nI q) a_at a_version a_value a_originAt a_stream a_type a_originBy a_originCode a_goesOn a_events a_cuts fi a_cutsGone a_byVersion a_byOrigin a_upTo a_draftType a_draftValue a_dOp a_dC a_height a_clash a_pOp a_pSize a_pC a_position a_cell a_noted a_stack a_before a_shown a_gType a_gTaken a_gWaiting a_kCount a_gCursor a_gParked a_kCursor a_tAt a_tDue a_wAt a_kAt a_tTimes a_wTimes a_kTimes := by
  intro d
  induction d with
  | zero =>
    intro q hq fi h
    have e : q = 5 := by omega
    subst e
    exact br_t (nI_le (a := 5) (b := 5) (by omega) (by decide)) (hp fi h)
  | succ d ih =>
    intro q hq fi h
    have hv : vp_in (nI q) 5 := vp_in_nI (by omega) (by decide)
    have cq : (nI q).toNatClampNeg = q := nI_clamp (by omega)
    refine br_f (nI_ge (b := 5) (by omega) (by decide)) ⟨hv, hv, nm_e (nm_r (nI_1 q) (ih (q + 1) (by omega) _ (fun s hs => ?_)))⟩
    rw [cq]
    by_cases c : s = q
    · rw [c, pk_us]
    · rw [pk_un c]; exact h s (by omega)
theorem es_x_flush (hc : ∀ g, g < 2 → a_gTaken g = nI (es_nt a_gTaken g) ∧ a_gWaiting g = nI (es_nt a_gWaiting g) ∧ es_nt a_gTaken g + es_nt a_gWaiting g ≤ 6) {post : Int32 → SX → Prop}
    (hp : ∀ fi pos cell nt kCu kC kA kT, (∀ s, s < 5 → fi s = a_cuts s) → es_RW a_position a_cell pos cell (es_ff a_noted 3) → (∀ p, p < 3 → nt p = 0) → (∀ g, g < 2 → kCu g = a_gCursor g ∧ es_KO (es_sq (fun m => a_tAt (6 * g + m)) (fun m => a_wAt (6 * g + m)) (es_nt a_gTaken g)) (es_sq (fun m => a_tTimes (6 * g + m)) (fun m => a_wTimes (6 * g + m)) (es_nt a_gTaken g)) (es_nt a_gTaken g + es_nt a_gWaiting g) (6 * g) g kC kA kT) →
      post (f_records - f_flushed) (f_held, f_records, f_records, f_summed, f_draft, f_drafted, f_seen, f_time, f_taken, a_at, a_version, a_value, a_originAt, a_stream, a_type, a_originBy, a_originCode, a_goesOn, a_events, a_cuts, fi, a_cutsGone, a_byVersion, a_byOrigin, a_upTo, a_draftType, a_draftValue, a_dOp, a_dC, a_height, a_clash, a_pOp, a_pSize, a_pC, pos, cell, nt, a_stack, a_before, a_shown, a_gType, a_gTaken, a_gWaiting, kC, a_gCursor, a_gParked, kCu, a_tAt, a_tDue, a_wAt, kA, a_tTimes, a_wTimes, kT)) : wpX_flush post (f_held, f_records, f_flushed, f_summed, f_draft, f_drafted, f_seen, f_time, f_taken, a_at, a_version, a_value, a_originAt, a_stream, a_type, a_originBy, a_originCode, a_goesOn, a_events, a_cuts, a_firm, a_cutsGone, a_byVersion, a_byOrigin, a_upTo, a_draftType, a_draftValue, a_dOp, a_dC, a_height, a_clash, a_pOp, a_pSize, a_pC, a_position, a_cell, a_noted, a_stack, a_before, a_shown, a_gType, a_gTaken, a_gWaiting, a_kCount, a_gCursor, a_gParked, a_kCursor, a_tAt, a_tDue, a_wAt, a_kAt, a_tTimes, a_wTimes, a_kTimes) := by
  unfold wpX_flush
  dsimp only
  refine nm_e ?_
  have key := es_x_fl20 (f_held := f_held) (f_records := f_records) (f_flushed := f_records) (f_summed := f_summed) (f_draft := f_draft) (f_drafted := f_drafted) (f_seen := f_seen) (f_time := f_time) (f_taken := f_taken) (a_at := a_at) (a_version := a_version) (a_value := a_value) (a_originAt := a_originAt) (a_stream := a_stream) (a_type := a_type) (a_originBy := a_originBy) (a_originCode := a_originCode) (a_goesOn := a_goesOn) (a_events := a_events) (a_cuts := a_cuts) (a_cutsGone := a_cutsGone) (a_byVersion := a_byVersion) (a_byOrigin := a_byOrigin) (a_upTo := a_upTo) (a_draftType := a_draftType) (a_draftValue := a_draftValue) (a_dOp := a_dOp) (a_dC := a_dC) (a_height := a_height) (a_clash := a_clash) (a_pOp := a_pOp) (a_pSize := a_pSize) (a_pC := a_pC) (a_position := a_position) (a_cell := a_cell) (a_noted := a_noted) (a_stack := a_stack) (a_before := a_before) (a_shown := a_shown) (a_gType := a_gType) (a_gTaken := a_gTaken) (a_gWaiting := a_gWaiting) (a_kCount := a_kCount) (a_gCursor := a_gCursor) (a_gParked := a_gParked) (a_kCursor := a_kCursor) (a_tAt := a_tAt) (a_tDue := a_tDue) (a_wAt := a_wAt) (a_kAt := a_kAt) (a_tTimes := a_tTimes) (a_wTimes := a_wTimes) (a_kTimes := a_kTimes) (x := f_records - f_flushed) (post := post) (fun fi hfi => ?_) 5 0 (by omega) a_firm (fun s h => absurd h (Nat.not_lt_zero _))
  · rw [nI_0] at key
    exact ⟨_, key⟩
  · have key := es_x_fl45 (f_held := f_held) (f_records := f_records) (f_flushed := f_records) (f_summed := f_summed) (f_draft := f_draft) (f_drafted := f_drafted) (f_seen := f_seen) (f_time := f_time) (f_taken := f_taken) (a_at := a_at) (a_version := a_version) (a_value := a_value) (a_originAt := a_originAt) (a_stream := a_stream) (a_type := a_type) (a_originBy := a_originBy) (a_originCode := a_originCode) (a_goesOn := a_goesOn) (a_events := a_events) (a_cuts := a_cuts) (a_firm := fi) (a_cutsGone := a_cutsGone) (a_byVersion := a_byVersion) (a_byOrigin := a_byOrigin) (a_upTo := a_upTo) (a_draftType := a_draftType) (a_draftValue := a_draftValue) (a_dOp := a_dOp) (a_dC := a_dC) (a_height := a_height) (a_clash := a_clash) (a_pOp := a_pOp) (a_pSize := a_pSize) (a_pC := a_pC) (a_position := a_position) (a_cell := a_cell) (a_noted := a_noted) (a_stack := a_stack) (a_before := a_before) (a_shown := a_shown) (a_gType := a_gType) (a_gTaken := a_gTaken) (a_gWaiting := a_gWaiting) (a_kCount := a_kCount) (a_gCursor := a_gCursor) (a_gParked := a_gParked) (a_kCursor := a_kCursor) (a_tAt := a_tAt) (a_tDue := a_tDue) (a_wAt := a_wAt) (a_kAt := a_kAt) (a_tTimes := a_tTimes) (a_wTimes := a_wTimes) (a_kTimes := a_kTimes) (x := f_records - f_flushed) (post := post) (fun pos cell nt R h0 => ?_) 3 0 (by omega) a_position a_cell a_noted (es_RW_cg (es_RW_id _ _) (fun r _ => (es_ff_0 _ r).symm)) (fun s h => absurd h (Nat.not_lt_zero _)) (fun p _ => rfl)
    · rw [nI_0] at key
      exact ⟨_, key⟩
    · have key := es_x_fl85 (f_held := f_held) (f_records := f_records) (f_flushed := f_records) (f_summed := f_summed) (f_draft := f_draft) (f_drafted := f_drafted) (f_seen := f_seen) (f_time := f_time) (f_taken := f_taken) (a_at := a_at) (a_version := a_version) (a_value := a_value) (a_originAt := a_originAt) (a_stream := a_stream) (a_type := a_type) (a_originBy := a_originBy) (a_originCode := a_originCode) (a_goesOn := a_goesOn) (a_events := a_events) (a_cuts := a_cuts) (a_firm := fi) (a_cutsGone := a_cutsGone) (a_byVersion := a_byVersion) (a_byOrigin := a_byOrigin) (a_upTo := a_upTo) (a_draftType := a_draftType) (a_draftValue := a_draftValue) (a_dOp := a_dOp) (a_dC := a_dC) (a_height := a_height) (a_clash := a_clash) (a_pOp := a_pOp) (a_pSize := a_pSize) (a_pC := a_pC) (a_position := pos) (a_cell := cell) (a_noted := nt) (a_stack := a_stack) (a_before := a_before) (a_shown := a_shown) (a_gType := a_gType) (a_gTaken := a_gTaken) (a_gWaiting := a_gWaiting) (a_gCursor := a_gCursor) (a_gParked := a_gParked) (a_tAt := a_tAt) (a_tDue := a_tDue) (a_wAt := a_wAt) (a_tTimes := a_tTimes) (a_wTimes := a_wTimes) (x := f_records - f_flushed) (post := post) hc (fun kCu kC kA kT hK => hp fi pos cell nt kCu kC kA kT hfi R h0 hK) 2 0 (by omega) a_kCursor a_kCount a_kAt a_kTimes (fun g h => absurd h (Nat.not_lt_zero _))
      rw [nI_0] at key
      exact ⟨_, key⟩
end X
section Y
variable {g_count g_flushed g_calls g_drafted g_top g_time : Int32} {b_isCut b_removed b_stream b_type b_from b_by b_value b_version b_on b_call b_draftType b_draftValue b_op b_with b_length b_height b_torn b_stack b_position b_cells b_noted b_wanted b_formed b_cursor b_parked b_where b_often b_due b_many b_found : Nat → Int32}
theorem es_y_fl73 {x : Int32} (hc : ∀ g, g < 2 → b_many g = nI (es_nt b_many g) ∧ b_many (2 + g) = nI (es_nt b_many (2 + g)) ∧ es_nt b_many g + es_nt b_many (2 + g) ≤ 6) {post : Int32 → SY → Prop}
    (hp : ∀ cur kM kW kO, (∀ g, g < 2 → cur (2 + g) = b_cursor g ∧ es_KO (es_sq (fun m => b_where (8 * g + m)) (fun m => b_where (16 + 8 * g + m)) (es_nt b_many g)) (es_sq (fun m => b_often (8 * g + m)) (fun m => b_often (16 + 8 * g + m)) (es_nt b_many g)) (es_nt b_many g + es_nt b_many (2 + g)) (8 * (4 + g)) (4 + g) kM kW kO) → (∀ r, r < 2 → cur r = b_cursor r) → (∀ r, r < 4 → kM r = b_many r) → (∀ i, i < 32 → kW i = b_where i ∧ kO i = b_often i) → post x (g_count, g_flushed, g_calls, g_drafted, g_top, g_time, b_isCut, b_removed, b_stream, b_type, b_from, b_by, b_value, b_version, b_on, b_call, b_draftType, b_draftValue, b_op, b_with, b_length, b_height, b_torn, b_stack, b_position, b_cells, b_noted, b_wanted, b_formed, cur, b_parked, kW, kO, b_due, kM, b_found)) :
    ∀ d q, q + d = 2 → ∀ cur kM kW kO, (∀ g, g < q → cur (2 + g) = b_cursor g ∧ es_KO (es_sq (fun m => b_where (8 * g + m)) (fun m => b_where (16 + 8 * g + m)) (es_nt b_many g)) (es_sq (fun m => b_often (8 * g + m)) (fun m => b_often (16 + 8 * g + m)) (es_nt b_many g)) (es_nt b_many g + es_nt b_many (2 + g)) (8 * (4 + g)) (4 + g) kM kW kO) → (∀ r, r < 2 → cur r = b_cursor r) → (∀ r, r < 4 → kM r = b_many r) → (∀ i, i < 32 → kW i = b_where i ∧ kO i = b_often i) → wY_flush_73 post x (d + 1) (nI q) g_count g_flushed g_calls g_drafted g_top g_time b_isCut b_removed b_stream b_type b_from b_by b_value b_version b_on b_call b_draftType b_draftValue b_op b_with b_length b_height b_torn b_stack b_position b_cells b_noted b_wanted b_formed cur b_parked kW kO b_due kM b_found := by
  intro d
  induction d with
  | zero =>
    intro q hq cur kM kW kO h f1 f2 f3
    have e : q = 2 := by omega
    subst e
    exact br_t (nI_le (a := 2) (b := 2) (by omega) (by decide)) (hp cur kM kW kO h f1 f2 f3)
  | succ d ih =>
    intro q hq cur kM kW kO h f1 f2 f3
    obtain ⟨e1, e2, e3⟩ := hc q (by omega)
    refine br_f (nI_ge (b := 2) (by omega) (by decide)) (es_y_keep (show q < 2 by omega) e3 ((f2 q (by omega)).trans e1) ((f2 (2 + q) (by omega)).trans e2) (fun kM' kW' kO' K => nm_r (nI_1 q) ?_))
    refine ih (q + 1) (by omega) _ _ _ _ (fun g hg => ?_) (fun r hr => (pk_un (by omega)).trans (f1 r hr)) (fun r hr => (K.2.1 r (by omega)).trans (f2 r hr)) (fun i hi => ⟨(K.2.2 i (by omega)).1.trans (f3 i hi).1, (K.2.2 i (by omega)).2.trans (f3 i hi).2⟩)
    by_cases c : g = q
    · subst c
      refine ⟨pk_us.trans (f1 g (by omega)), es_KO_cg K.1 (fun m hm => ?_)⟩
      by_cases z : m < es_nt b_many g
      · rw [es_sq_1 z, es_sq_1 z, es_sq_1 z, es_sq_1 z]
        exact f3 _ (by omega)
      · obtain ⟨m', rfl⟩ : ∃ m', m = es_nt b_many g + m' := ⟨m - es_nt b_many g, by omega⟩
        rw [es_sq_2, es_sq_2, es_sq_2, es_sq_2]
        exact f3 _ (by omega)
    · obtain ⟨h1, h2⟩ := h g (by omega)
      have := (hc g (by omega)).2.2
      exact ⟨(pk_un (by omega)).trans h1, es_KO_fr h2 (K.2.1 _ (by omega)) (fun j hj => K.2.2 _ (by omega))⟩
theorem es_y_fl53 {x : Int32} {post : Int32 → SY → Prop} (hp : ∀ nt, (∀ p, p < 3 → nt p = 0) → ∃ n, wY_flush_73 post x n 0 g_count g_flushed g_calls g_drafted g_top g_time b_isCut b_removed b_stream b_type b_from b_by b_value b_version b_on b_call b_draftType b_draftValue b_op b_with b_length b_height b_torn b_stack b_position b_cells nt b_wanted b_formed b_cursor b_parked b_where b_often b_due b_many b_found) :
    ∀ d q, q + d = 3 → ∀ nt, (∀ p, p < q → nt p = 0) → wY_flush_53 post x g_count g_flushed g_calls g_drafted g_top g_time (d + 1) (nI q) b_isCut b_removed b_stream b_type b_from b_by b_value b_version b_on b_call b_draftType b_draftValue b_op b_with b_length b_height b_torn b_stack b_position b_cells nt b_wanted b_formed b_cursor b_parked b_where b_often b_due b_many b_found := by
  intro d
  induction d with
  | zero =>
    intro q hq nt h
    have e : q = 3 := by omega
    subst e
    exact br_t (nI_le (a := 3) (b := 3) (by omega) (by decide)) (hp nt h)
  | succ d ih =>
    intro q hq nt h
    have hv : vp_in (nI q) 3 := vp_in_nI (by omega) (by decide)
    have cq : (nI q).toNatClampNeg = q := nI_clamp (by omega)
    refine br_f (nI_ge (b := 3) (by omega) (by decide)) ⟨hv, nm_e (nm_r (nI_1 q) (ih (q + 1) (by omega) _ (fun s hs => ?_)))⟩
    rw [cq, es_z0]
    by_cases c : s = q
    · rw [c, pk_us]
    · rw [pk_un c]; exact h s (by omega)
theorem es_y_fl20 {x : Int32} {post : Int32 → SY → Prop} (hp : ∀ pos cell, es_RW b_position b_cells pos cell (es_ff b_noted 3) → ∃ n, wY_flush_53 post x g_count g_flushed g_calls g_drafted g_top g_time n 0 b_isCut b_removed b_stream b_type b_from b_by b_value b_version b_on b_call b_draftType b_draftValue b_op b_with b_length b_height b_torn b_stack pos cell b_noted b_wanted b_formed b_cursor b_parked b_where b_often b_due b_many b_found) :
    ∀ d q, q + d = 3 → ∀ pos cell, es_RW b_position b_cells pos cell (es_ff b_noted q) → wY_flush_20 post x (d + 1) (nI q) g_count g_flushed g_calls g_drafted g_top g_time b_isCut b_removed b_stream b_type b_from b_by b_value b_version b_on b_call b_draftType b_draftValue b_op b_with b_length b_height b_torn b_stack pos cell b_noted b_wanted b_formed b_cursor b_parked b_where b_often b_due b_many b_found := by
  intro d
  induction d with
  | zero =>
    intro q hq pos cell R
    have e : q = 3 := by omega
    subst e
    exact br_t (nI_le (a := 3) (b := 3) (by omega) (by decide)) (hp pos cell R)
  | succ d ih =>
    intro q hq pos cell R
    have hv : vp_in (nI q) 3 := vp_in_nI (by omega) (by decide)
    have cq : (nI q).toNatClampNeg = q := nI_clamp (by omega)
    have e6 : 6 + nI q = nI (6 + q) := nI_add 6 q
    have e3 : 3 + nI q = nI (3 + q) := nI_add 3 q
    refine br_f (nI_ge (b := 3) (by omega) (by decide)) ⟨hv, ?_⟩
    rw [cq, e6, e3]
    by_cases c : b_noted q = 0
    · exact br_t c (nm_r (nI_1 q) (ih (q + 1) (by omega) _ _ (es_RW_cg R (fun r _ => es_ff_n c r))))
    · refine br_f c (es_y_copyR (by omega) (by omega) (by omega) R (fun pos' cell' R' => nm_r (nI_1 q) ?_))
      exact ih (q + 1) (by omega) _ _ (es_RW_cg R' (fun r _ => es_ff_y c r))
theorem es_y_flush (hc : ∀ g, g < 2 → b_many g = nI (es_nt b_many g) ∧ b_many (2 + g) = nI (es_nt b_many (2 + g)) ∧ es_nt b_many g + es_nt b_many (2 + g) ≤ 6) {post : Int32 → SY → Prop}
    (hp : ∀ pos cell nt cur kM kW kO, es_RW b_position b_cells pos cell (es_ff b_noted 3) → (∀ p, p < 3 → nt p = 0) → (∀ g, g < 2 → cur (2 + g) = b_cursor g ∧ es_KO (es_sq (fun m => b_where (8 * g + m)) (fun m => b_where (16 + 8 * g + m)) (es_nt b_many g)) (es_sq (fun m => b_often (8 * g + m)) (fun m => b_often (16 + 8 * g + m)) (es_nt b_many g)) (es_nt b_many g + es_nt b_many (2 + g)) (8 * (4 + g)) (4 + g) kM kW kO) → (∀ r, r < 2 → cur r = b_cursor r) → (∀ r, r < 4 → kM r = b_many r) → (∀ i, i < 32 → kW i = b_where i ∧ kO i = b_often i) →
      post (g_count - g_flushed) (g_count, g_count, g_calls, g_drafted, g_top, g_time, b_isCut, b_removed, b_stream, b_type, b_from, b_by, b_value, b_version, b_on, b_call, b_draftType, b_draftValue, b_op, b_with, b_length, b_height, b_torn, b_stack, pos, cell, nt, b_wanted, b_formed, cur, b_parked, kW, kO, b_due, kM, b_found)) : wpY_flush post (g_count, g_flushed, g_calls, g_drafted, g_top, g_time, b_isCut, b_removed, b_stream, b_type, b_from, b_by, b_value, b_version, b_on, b_call, b_draftType, b_draftValue, b_op, b_with, b_length, b_height, b_torn, b_stack, b_position, b_cells, b_noted, b_wanted, b_formed, b_cursor, b_parked, b_where, b_often, b_due, b_many, b_found) := by
  unfold wpY_flush
  dsimp only
  refine nm_e ?_
  have key := es_y_fl20 (g_count := g_count) (g_flushed := g_count) (g_calls := g_calls) (g_drafted := g_drafted) (g_top := g_top) (g_time := g_time) (b_isCut := b_isCut) (b_removed := b_removed) (b_stream := b_stream) (b_type := b_type) (b_from := b_from) (b_by := b_by) (b_value := b_value) (b_version := b_version) (b_on := b_on) (b_call := b_call) (b_draftType := b_draftType) (b_draftValue := b_draftValue) (b_op := b_op) (b_with := b_with) (b_length := b_length) (b_height := b_height) (b_torn := b_torn) (b_stack := b_stack) (b_position := b_position) (b_cells := b_cells) (b_noted := b_noted) (b_wanted := b_wanted) (b_formed := b_formed) (b_cursor := b_cursor) (b_parked := b_parked) (b_where := b_where) (b_often := b_often) (b_due := b_due) (b_many := b_many) (b_found := b_found) (x := g_count - g_flushed) (post := post) (fun pos cell R => ?_) 3 0 (by omega) b_position b_cells (es_RW_cg (es_RW_id _ _) (fun r _ => (es_ff_0 _ r).symm))
  · rw [nI_0] at key
    exact ⟨_, key⟩
  · have key := es_y_fl53 (g_count := g_count) (g_flushed := g_count) (g_calls := g_calls) (g_drafted := g_drafted) (g_top := g_top) (g_time := g_time) (b_isCut := b_isCut) (b_removed := b_removed) (b_stream := b_stream) (b_type := b_type) (b_from := b_from) (b_by := b_by) (b_value := b_value) (b_version := b_version) (b_on := b_on) (b_call := b_call) (b_draftType := b_draftType) (b_draftValue := b_draftValue) (b_op := b_op) (b_with := b_with) (b_length := b_length) (b_height := b_height) (b_torn := b_torn) (b_stack := b_stack) (b_position := pos) (b_cells := cell) (b_wanted := b_wanted) (b_formed := b_formed) (b_cursor := b_cursor) (b_parked := b_parked) (b_where := b_where) (b_often := b_often) (b_due := b_due) (b_many := b_many) (b_found := b_found) (x := g_count - g_flushed) (post := post) (fun nt h0 => ?_) 3 0 (by omega) b_noted (fun s h => absurd h (Nat.not_lt_zero _))
    · rw [nI_0] at key
      exact ⟨_, key⟩
    · have key := es_y_fl73 (g_count := g_count) (g_flushed := g_count) (g_calls := g_calls) (g_drafted := g_drafted) (g_top := g_top) (g_time := g_time) (b_isCut := b_isCut) (b_removed := b_removed) (b_stream := b_stream) (b_type := b_type) (b_from := b_from) (b_by := b_by) (b_value := b_value) (b_version := b_version) (b_on := b_on) (b_call := b_call) (b_draftType := b_draftType) (b_draftValue := b_draftValue) (b_op := b_op) (b_with := b_with) (b_length := b_length) (b_height := b_height) (b_torn := b_torn) (b_stack := b_stack) (b_position := pos) (b_cells := cell) (b_noted := nt) (b_wanted := b_wanted) (b_formed := b_formed) (b_cursor := b_cursor) (b_parked := b_parked) (b_where := b_where) (b_often := b_often) (b_due := b_due) (b_many := b_many) (b_found := b_found) (x := g_count - g_flushed) (post := post) hc (fun cur kM kW kO h f1 f2 f3 => hp pos cell nt cur kM kW kO R h0 h f1 f2 f3) 2 0 (by omega) b_cursor b_many b_where b_often (fun g h => absurd h (Nat.not_lt_zero _)) (fun _ _ => rfl) (fun _ _ => rfl) (fun _ _ => ⟨rfl, rfl⟩)
      rw [nI_0] at key
      exact ⟨_, key⟩
end Y
end ES23
end
section
/-! flush joined -/
section ES24
theorem es_nt_e {a : Nat → Int32} {g n : Nat} (h : a g = nI n) (hn : n < 2 ^ 31) : es_nt a g = n := by
  unfold es_nt
  rw [h]
  exact nI_clamp hn
theorem i_vc_flush {k : Nat} {u : SX} {v : SY} (I : i_Rel k u v) (hk : k + 4 ≤ 2048) : wpX_flush (fun r u' => wpY_flush (fun r' v' => r' = r ∧ i_Rel (k + 4) u' v') v) u := by
  refine es_el (P := fun u v => wpX_flush (fun r u' => wpY_flush (fun r' v' => r' = r ∧ i_Rel (k + 4) u' v') v) u) ?_ u v I
  intro f_held f_records f_flushed f_summed f_draft f_drafted f_seen f_time f_taken a_at a_version a_value a_originAt a_stream a_type a_originBy a_originCode a_goesOn a_events a_cuts a_firm a_cutsGone a_byVersion a_byOrigin a_draftType a_draftValue a_dOp a_dC a_height a_clash a_pOp a_pSize a_pC a_position a_cell a_noted a_stack a_before a_shown a_gType a_gTaken a_gWaiting a_kCount a_gCursor a_gParked a_kCursor a_tAt a_tDue a_wAt a_kAt a_tTimes a_wTimes a_kTimes a_upTo g_count g_flushed g_calls g_drafted g_top g_time b_isCut b_removed b_stream b_type b_from b_by b_value b_version b_on b_call b_draftType b_draftValue b_op b_with b_length b_height b_torn b_stack b_position b_cells b_noted b_wanted b_formed b_cursor b_parked b_where b_often b_due b_many b_found N F C L rm h1 h2 h3 h4 h5 h6 h7 h8 h9 h10
  show wpX_flush (fun r u' => wpY_flush (fun r' v' => r' = r ∧ i_Rel (k + 4) u' v') (g_count, g_flushed, g_calls, g_drafted, g_top, g_time, b_isCut, b_removed, b_stream, b_type, b_from, b_by, b_value, b_version, b_on, b_call, b_draftType, b_draftValue, b_op, b_with, b_length, b_height, b_torn, b_stack, b_position, b_cells, b_noted, b_wanted, b_formed, b_cursor, b_parked, b_where, b_often, b_due, b_many, b_found)) (f_held, f_records, f_flushed, f_summed, f_draft, f_drafted, f_seen, f_time, f_taken, a_at, a_version, a_value, a_originAt, a_stream, a_type, a_originBy, a_originCode, a_goesOn, a_events, a_cuts, a_firm, a_cutsGone, a_byVersion, a_byOrigin, a_upTo, a_draftType, a_draftValue, a_dOp, a_dC, a_height, a_clash, a_pOp, a_pSize, a_pC, a_position, a_cell, a_noted, a_stack, a_before, a_shown, a_gType, a_gTaken, a_gWaiting, a_kCount, a_gCursor, a_gParked, a_kCursor, a_tAt, a_tDue, a_wAt, a_kAt, a_tTimes, a_wTimes, a_kTimes)
  have hN := h3.1
  have hFN := h3.2.1
  have hcX : ∀ g, g < 2 → a_gTaken g = nI (es_nt a_gTaken g) ∧ a_gWaiting g = nI (es_nt a_gWaiting g) ∧ es_nt a_gTaken g + es_nt a_gWaiting g ≤ 6 := fun g hg => by
    obtain ⟨nt, nw, nk, c, kc, ⟨a1, a2, a3, a4, a5, a6, a7, a8⟩, -⟩ := h8 g hg
    rw [es_nt_e a1 (by omega), es_nt_e a3 (by omega)]
    exact ⟨a1, a3, a7⟩
  have hcY : ∀ g, g < 2 → b_many g = nI (es_nt b_many g) ∧ b_many (2 + g) = nI (es_nt b_many (2 + g)) ∧ es_nt b_many g + es_nt b_many (2 + g) ≤ 6 := fun g hg => by
    obtain ⟨nt, nw, nk, c, kc, ⟨a1, a2, a3, a4, a5, a6, a7, a8⟩, -⟩ := h8 g hg
    rw [es_nt_e a2 (by omega), es_nt_e a4 (by omega)]
    exact ⟨a2, a4, a7⟩
  refine es_x_flush hcX (fun fi pos cell nt kCu kC kA kT hfi R h0 hK => ?_)
  refine es_y_flush hcY (fun pos' cell' nt' cur kM kW kO R' h0' hK' f1 f2 f3 => ?_)
  obtain ⟨rfl, rfl, rfl, T, A, G, HV, HO, S⟩ := h1
  obtain ⟨rfl, rfl, rfl, hr⟩ := h2
  refine ⟨rfl, es_mk (N := N) (F := N) (C := C) (L := L) (rm := rm) ⟨rfl, rfl, rfl, T, fun s hs => ?_, fun i hi hi' => absurd hi' (by omega), HV, HO, S⟩ ⟨rfl, rfl, rfl, hr⟩ ⟨h3.1, Nat.le_refl _, h3.2.2.1, fun i hi => ?_, h3.2.2.2.2⟩ (by omega) h5 h6 (fun p hp hz => ?_) (fun g hg => ?_) h9 h10⟩
  · obtain ⟨q1, q2, q3, q4⟩ := A s hs
    exact ⟨q1, q2, (hfi s hs).trans q2, q4⟩
  · obtain ⟨q1, q2⟩ := h3.2.2.2.1 i hi
    exact ⟨by omega, q2.imp id (fun z => Nat.lt_of_lt_of_le z (es_M_mono hFN))⟩
  · obtain ⟨n1, P, K, g1, g2, g3, g4, g5, g6, g7, g8, g9, g10⟩ := h7 p hp hz
    have fp : ∀ nn : Nat → Int32, es_ff nn 3 p = p := fun nn => if_neg (by omega)
    have ra := es_RW_at R p (by omega) (fp _)
    have ra' := es_RW_at R' p (by omega) (fp _)
    rw [ra.1, ra'.1, h0 p hp, h0' p hp]
    by_cases c : a_noted p = 0
    · have f3' : ∀ nn : Nat → Int32, nn p = 0 → es_ff nn 3 (3 + p) = 3 + p := fun nn hn => if_neg (fun z => z.2.2 (by rw [Nat.add_sub_cancel_left]; exact hn))
      have rb := es_RW_at R (3 + p) (by omega) (f3' _ c)
      have rb' := es_RW_at R' (3 + p) (by omega) (f3' _ (n1.trans c))
      rw [rb.1, rb'.1]
      refine ⟨rfl, P, K, g1, g2, g3, g4, g5, g6, by omega, g8, fun k hk => ?_, fun z => absurd rfl z⟩
      rw [ra.2 k hk, ra'.2 k hk, rb.2 k hk, rb'.2 k hk]
      exact g9 k hk
    · have f3' : ∀ nn : Nat → Int32, nn p ≠ 0 → es_ff nn 3 (3 + p) = 6 + p := fun nn hn => (if_pos ⟨by omega, by omega, by rw [Nat.add_sub_cancel_left]; exact hn⟩).trans (by omega)
      have rb := es_RW_at R (6 + p) (by omega) (f3' _ c)
      have rb' := es_RW_at R' (6 + p) (by omega) (f3' _ (fun z => c (n1.symm.trans z)))
      obtain ⟨T', t1, t2, t3, t4, t5⟩ := g10 c
      rw [rb.1, rb'.1]
      refine ⟨rfl, P, T', g1, g2, g3, t1, t2, t4, by omega, fun i hi => by have := g8 i hi; omega, fun k hk => ?_, fun z => absurd rfl z⟩
      rw [ra.2 k hk, ra'.2 k hk, rb.2 k hk, rb'.2 k hk]
      exact ⟨(g9 k hk).1, t5 k hk⟩
  · obtain ⟨nt1, nw, nk, c, kc, ⟨a1, a2, a3, a4, a5, a6, a7, a8⟩, ⟨b1, b2, b3, b4, b5, b6, b7⟩, p, f, ht, hw, hk', hs⟩ := h8 g hg
    obtain ⟨k1, k2⟩ := hK g hg
    obtain ⟨k3, k4⟩ := hK' g hg
    rw [es_nt_e a1 (by omega), es_nt_e a3 (by omega)] at k2
    rw [es_nt_e a2 (by omega), es_nt_e a4 (by omega)] at k4
    have frm : (nt1 = 0 ∧ nw = 0) ∨ ∀ i, rm i = true → i < kc ∧ ∀ j, j < nk → nI i < a_kAt (6 * g + j) := by
      rcases f with ⟨-, -, q1, q2, -⟩ | ⟨t, -, -, -, -, q⟩
      · exact Or.inl ⟨q1, q2⟩
      · exact Or.inr q
    refine es_GR_keep (nt := nt1) (nw := nw) (c := c) hg kC kA kT kM kW kO a1 a2 a3 a4 a7 b1 b2 b3 (Nat.le_refl _) p ?_ (fun j hj => ?_) (fun j hj => ?_) (by omega) k2 k4 f2 f3 k1 k3 (f1 g hg)
    · rcases f with ⟨q0, q3, q1, q2, -⟩ | ⟨t, t1, t2, t3, t4, q⟩
      · exact Or.inl ⟨q0, q3, q1, q2⟩
      · exact Or.inr ⟨t, t1, t2, t3, t4, fun i hi => by have := (q i hi).1; omega⟩
    · obtain ⟨q1, q2, q3, q4⟩ := ht j hj
      exact ⟨q1, q2, q3, es_PS_rm hN hFN (fun i hi => (h3.2.2.2.1 i hi).1) q4 (frm.resolve_left (by omega))⟩
    · obtain ⟨q1, q2, q4⟩ := hw j hj
      exact ⟨q1, q2, es_PS_rm hN hFN (fun i hi => (h3.2.2.2.1 i hi).1) q4 (frm.resolve_left (by omega))⟩
end ES24
end
section
/-! show, read, next -/
section ES30
def es_ob (o : Option (Nat × Nat × Nat)) : Int32 := match o with
  | none => -1
  | some (p, _, _) => nI p
def es_oa (o : Option (Nat × Nat × Nat)) : Int32 := match o with
  | none => -1
  | some (_, q, _) => nI q
theorem es_OR_v {o : Option (Nat × Nat × Nat)} {fr on bb : Int32} (h : es_OR o fr on bb) : fr = es_ob o ∧ on = es_oa o := by
  cases o with
  | none => exact h
  | some k => exact ⟨h.1, h.2.1⟩
def es_sv (e : es_Ev) (j : Nat) : Int32 := if j = 0 then nI (es_s e) else if j = 1 then nI (es_n e) else if j = 2 then nI (es_t e) else if j = 3 then es_v e else if j = 4 then es_ob (es_o e) else es_oa (es_o e)
theorem es_u6 {f : Nat → Int32} {a0 a1 a2 a3 a4 a5 : Int32} {j : Nat} (hj : j < 6) : upd (upd (upd (upd (upd (upd f 0 a0) 1 a1) 2 a2) 3 a3) 4 a4) 5 a5 j = if j = 0 then a0 else if j = 1 then a1 else if j = 2 then a2 else if j = 3 then a3 else if j = 4 then a4 else a5 := by
  match j, hj with
  | 0, _ => rfl
  | 1, _ => rfl
  | 2, _ => rfl
  | 3, _ => rfl
  | 4, _ => rfl
  | 5, _ => rfl
/-- the first i from i on with p, or i + d -/
def es_fs (p : Nat → Bool) : Nat → Nat → Nat
  | 0, i => i
  | d + 1, i => if p i = true then i else es_fs p d (i + 1)
theorem es_fs_t {p : Nat → Bool} {d i : Nat} (h : p i = true) : es_fs p (d + 1) i = i := if_pos h
theorem es_fs_f {p : Nat → Bool} {d i : Nat} (h : p i = false) : es_fs p (d + 1) i = es_fs p d (i + 1) := if_neg (by rw [h]; decide)
theorem es_rm_op {N F C : Nat} {L : Nat → es_Ev} {rm : Nat → Bool} (W : es_WL N F C L rm) {i : Nat} (h : rm i = true) : es_op L N i = false := by
  obtain ⟨h1, h2⟩ := W.2.2.2.1 i h
  unfold es_op
  rcases h2 with h2 | h2
  · rw [h2]; rfl
  · have := es_M_mono (L := L) (s := es_s (L i)) W.2.1
    simp
    intro _
    omega
theorem es_op_c {N : Nat} {L : Nat → es_Ev} {i : Nat} (h : es_op L N i = true) : es_c (L i) = false ∧ es_M L (es_s (L i)) N ≤ es_n (L i) := by
  unfold es_op at h
  simp at h
  exact h
theorem es_uniq {N F C : Nat} {L : Nat → es_Ev} {rm : Nat → Bool} (W : es_WL N F C L rm) {i j : Nat} (hi : i < N) (hj : j < N) (ci : es_c (L i) = false) (cj : es_c (L j) = false) (hs : es_s (L i) = es_s (L j)) (hn : es_n (L i) = es_n (L j)) : i = j := by
  have wi := (W.2.2.2.2 i hi).2.2.1
  have wj := (W.2.2.2.2 j hj).2.2.1
  rcases Nat.lt_trichotomy i j with z | z | z
  · have := es_E_lt (L := L) z ci hs
    rw [hs] at wi
    omega
  · exact z
  · have := es_E_lt (L := L) z cj hs.symm
    rw [← hs] at wj
    omega
variable {f_held f_records f_flushed f_summed f_draft f_drafted f_seen f_time f_taken : Int32} {a_at a_version a_value a_originAt a_stream a_type a_originBy a_originCode a_goesOn a_events a_cuts a_firm a_cutsGone a_byVersion a_byOrigin a_draftType a_draftValue a_dOp a_dC a_height a_clash a_pOp a_pSize a_pC a_position a_cell a_noted a_stack a_before a_shown a_gType a_gTaken a_gWaiting a_kCount a_gCursor a_gParked a_kCursor a_tAt a_tDue a_wAt a_kAt a_tTimes a_wTimes a_kTimes : Nat → Int32} {a_upTo : Nat → Int64} {g_count g_flushed g_calls g_drafted g_top g_time : Int32} {b_isCut b_removed b_stream b_type b_from b_by b_value b_version b_on b_call b_draftType b_draftValue b_op b_with b_length b_height b_torn b_stack b_position b_cells b_noted b_wanted b_formed b_cursor b_parked b_where b_often b_due b_many b_found : Nat → Int32} {N F C : Nat} {L : Nat → es_Ev} {rm : Nat → Bool} {pd : Prop}
theorem es_x_show (h : es_CX N F L rm pd f_held f_records f_flushed f_summed a_at a_version a_value a_originAt a_stream a_type a_originBy a_originCode a_goesOn a_events a_cuts a_firm a_cutsGone a_byVersion a_byOrigin a_upTo) (W : es_WL N F C L rm) {i : Nat} (hi : i < N) (hr : rm i = false) (hc : es_c (L i) = false) {post : SX → Prop} (hp : ∀ sh, (∀ j, j < 6 → sh j = es_sv (L i) j) → post (f_held, f_records, f_flushed, f_summed, f_draft, f_drafted, nI i, f_time, f_taken, a_at, a_version, a_value, a_originAt, a_stream, a_type, a_originBy, a_originCode, a_goesOn, a_events, a_cuts, a_firm, a_cutsGone, a_byVersion, a_byOrigin, a_upTo, a_draftType, a_draftValue, a_dOp, a_dC, a_height, a_clash, a_pOp, a_pSize, a_pC, a_position, a_cell, a_noted, a_stack, a_before, sh, a_gType, a_gTaken, a_gWaiting, a_kCount, a_gCursor, a_gParked, a_kCursor, a_tAt, a_tDue, a_wAt, a_kAt, a_tTimes, a_wTimes, a_kTimes)) : wpX_show post (f_held, f_records, f_flushed, f_summed, f_draft, f_drafted, f_seen, f_time, f_taken, a_at, a_version, a_value, a_originAt, a_stream, a_type, a_originBy, a_originCode, a_goesOn, a_events, a_cuts, a_firm, a_cutsGone, a_byVersion, a_byOrigin, a_upTo, a_draftType, a_draftValue, a_dOp, a_dC, a_height, a_clash, a_pOp, a_pSize, a_pC, a_position, a_cell, a_noted, a_stack, a_before, a_shown, a_gType, a_gTaken, a_gWaiting, a_kCount, a_gCursor, a_gParked, a_kCursor, a_tAt, a_tDue, a_wAt, a_kAt, a_tTimes, a_wTimes, a_kTimes) (nI (es_Q rm i)) := by
  obtain ⟨rfl, rfl, rfl, T, -⟩ := h
  have hq := es_Q_lt hi hr
  have hq' := W.2.2.1
  obtain ⟨r1, r2, r3, r4⟩ := T i hi hr
  obtain ⟨q1, q2, q3, q4⟩ := r4 hc
  have hv : vp_in (nI (es_Q rm i)) 40 := vp_in_nI (by omega) (by decide)
  unfold wpX_show
  dsimp only
  rw [nI_clamp (show es_Q rm i < 2 ^ 31 by omega), r1, r2, q1, q2, q3, (es_OR_v q4).1, (es_OR_v q4).2]
  exact ⟨hv, nm_e ⟨hv, nm_e ⟨hv, nm_e ⟨hv, nm_e ⟨hv, nm_e ⟨hv, nm_e ⟨hv, nm_e (hp _ (fun j hj => es_u6 hj))⟩⟩⟩⟩⟩⟩⟩
theorem es_y_show (h : es_CY N F C L rm g_count g_flushed g_calls b_isCut b_removed b_stream b_type b_from b_by b_value b_version b_on b_call) (W : es_WL N F C L rm) {i : Nat} (hi : i < N) {post : Int32 → SY → Prop} (hp : ∀ fo, (∀ j, j < 6 → fo j = es_sv (L i) j) → post (nI i) (g_count, g_flushed, g_calls, g_drafted, g_top, g_time, b_isCut, b_removed, b_stream, b_type, b_from, b_by, b_value, b_version, b_on, b_call, b_draftType, b_draftValue, b_op, b_with, b_length, b_height, b_torn, b_stack, b_position, b_cells, b_noted, b_wanted, b_formed, b_cursor, b_parked, b_where, b_often, b_due, b_many, fo)) : wpY_show post (g_count, g_flushed, g_calls, g_drafted, g_top, g_time, b_isCut, b_removed, b_stream, b_type, b_from, b_by, b_value, b_version, b_on, b_call, b_draftType, b_draftValue, b_op, b_with, b_length, b_height, b_torn, b_stack, b_position, b_cells, b_noted, b_wanted, b_formed, b_cursor, b_parked, b_where, b_often, b_due, b_many, b_found) (nI i) := by
  have hN := W.1
  have hv : vp_in (nI i) 2000 := vp_in_nI (by omega) (by decide)
  obtain ⟨-, -, q1, q2, q3, q4, -, q5⟩ := h.2.2.2 i hi
  unfold wpY_show
  dsimp only
  rw [nI_clamp (show i < 2 ^ 31 by omega), q1, q2, q3, q4, (es_OR_v q5).1, (es_OR_v q5).2]
  exact ⟨hv, nm_e ⟨hv, nm_e ⟨hv, nm_e ⟨hv, nm_e ⟨hv, nm_e ⟨hv, nm_e (hp _ (fun j hj => es_u6 hj))⟩⟩⟩⟩⟩⟩
theorem es_y_read2 (h : es_CY N F C L rm (nI N) g_flushed g_calls b_isCut b_removed b_stream b_type b_from b_by b_value b_version b_on b_call) (W : es_WL N F C L rm) {x1 x2 : Int32} {post : Int32 → SY → Prop}
    (h1 : ∀ i, i < N → es_op L N i = true → nI (es_s (L i)) = x1 → nI (es_n (L i)) = x2 → ∀ fo, (∀ j, j < 6 → fo j = es_sv (L i) j) → post (nI i) (nI N, g_flushed, g_calls, g_drafted, g_top, g_time, b_isCut, b_removed, b_stream, b_type, b_from, b_by, b_value, b_version, b_on, b_call, b_draftType, b_draftValue, b_op, b_with, b_length, b_height, b_torn, b_stack, b_position, b_cells, b_noted, b_wanted, b_formed, b_cursor, b_parked, b_where, b_often, b_due, b_many, fo))
    (h0 : (∀ i, i < N → ¬ (es_op L N i = true ∧ nI (es_s (L i)) = x1 ∧ nI (es_n (L i)) = x2)) → post (-4) (nI N, g_flushed, g_calls, g_drafted, g_top, g_time, b_isCut, b_removed, b_stream, b_type, b_from, b_by, b_value, b_version, b_on, b_call, b_draftType, b_draftValue, b_op, b_with, b_length, b_height, b_torn, b_stack, b_position, b_cells, b_noted, b_wanted, b_formed, b_cursor, b_parked, b_where, b_often, b_due, b_many, b_found)) :
    ∀ d i, i + d = N → (∀ i', i' < i → ¬ (es_op L N i' = true ∧ nI (es_s (L i')) = x1 ∧ nI (es_n (L i')) = x2)) → wY_read_2 post x1 x2 (nI N) g_flushed g_calls g_drafted g_top g_time b_isCut b_removed b_stream b_type b_from b_by b_value b_version b_on b_call b_draftType b_draftValue b_op b_with b_length b_height b_torn b_stack b_position b_cells b_noted b_wanted b_formed b_cursor b_parked b_where b_often b_due b_many b_found (d + 1) (nI i) := by
  have hN := W.1
  intro d
  induction d with
  | zero =>
    intro i hi hb
    have e : i = N := by omega
    subst e
    exact br_t (nI_le (Nat.le_refl _) (by omega)) (h0 hb)
  | succ d ih =>
    intro i hi hb
    have hin : i < N := by omega
    have hv : vp_in (nI i) 2000 := vp_in_nI (by omega) (by decide)
    have ec : (nI i).toNatClampNeg = i := nI_clamp (by omega)
    have nx : ¬ (es_op L N i = true ∧ nI (es_s (L i)) = x1 ∧ nI (es_n (L i)) = x2) → wY_read_2 post x1 x2 (nI N) g_flushed g_calls g_drafted g_top g_time b_isCut b_removed b_stream b_type b_from b_by b_value b_version b_on b_call b_draftType b_draftValue b_op b_with b_length b_height b_torn b_stack b_position b_cells b_noted b_wanted b_formed b_cursor b_parked b_where b_often b_due b_many b_found (d + 1) (nI (i + 1)) := fun z => ih (i + 1) (by omega) (fun i' hi' => by
      by_cases c : i' = i
      · rw [c]; exact z
      · exact hb i' (by omega))
    obtain ⟨-, -, q1, -, -, q4, -⟩ := h.2.2.2 i hin
    refine br_f (nI_ge hin (by omega)) ⟨hv, ?_⟩
    rw [ec, q1, q4]
    by_cases c1 : nI (es_s (L i)) = x1
    · refine br_t c1 ⟨hv, ?_⟩
      by_cases c2 : nI (es_n (L i)) = x2
      · refine br_t c2 (es_y_shown h W hin (es_bc (fun z => nm_r (nI_1 i) (nx (fun w => ?_))) (fun z => es_y_show h W hin (fun fo hfo => h1 i hin z c1 c2 fo hfo))))
        rw [z] at w
        exact absurd w.1 (by decide)
      · exact br_f c2 (nm_r (nI_1 i) (nx (fun z => c2 z.2.2)))
    · exact br_f c1 (nm_r (nI_1 i) (nx (fun z => c1 z.2.1)))
theorem es_y_read (h : es_CY N F C L rm g_count g_flushed g_calls b_isCut b_removed b_stream b_type b_from b_by b_value b_version b_on b_call) (W : es_WL N F C L rm) {x1 x2 : Int32} {post : Int32 → SY → Prop}
    (h1 : ∀ i, i < N → es_op L N i = true → nI (es_s (L i)) = x1 → nI (es_n (L i)) = x2 → ∀ fo, (∀ j, j < 6 → fo j = es_sv (L i) j) → post (nI i) (g_count, g_flushed, g_calls, g_drafted, g_top, g_time, b_isCut, b_removed, b_stream, b_type, b_from, b_by, b_value, b_version, b_on, b_call, b_draftType, b_draftValue, b_op, b_with, b_length, b_height, b_torn, b_stack, b_position, b_cells, b_noted, b_wanted, b_formed, b_cursor, b_parked, b_where, b_often, b_due, b_many, fo))
    (h0 : (∀ i, i < N → ¬ (es_op L N i = true ∧ nI (es_s (L i)) = x1 ∧ nI (es_n (L i)) = x2)) → post (-4) (g_count, g_flushed, g_calls, g_drafted, g_top, g_time, b_isCut, b_removed, b_stream, b_type, b_from, b_by, b_value, b_version, b_on, b_call, b_draftType, b_draftValue, b_op, b_with, b_length, b_height, b_torn, b_stack, b_position, b_cells, b_noted, b_wanted, b_formed, b_cursor, b_parked, b_where, b_often, b_due, b_many, b_found)) : wpY_read post (g_count, g_flushed, g_calls, g_drafted, g_top, g_time, b_isCut, b_removed, b_stream, b_type, b_from, b_by, b_value, b_version, b_on, b_call, b_draftType, b_draftValue, b_op, b_with, b_length, b_height, b_torn, b_stack, b_position, b_cells, b_noted, b_wanted, b_formed, b_cursor, b_parked, b_where, b_often, b_due, b_many, b_found) x1 x2 := by
  have e := h.1
  subst e
  have := es_y_read2 (g_flushed := g_flushed) (g_calls := g_calls) (g_drafted := g_drafted) (g_top := g_top) (g_time := g_time) (b_isCut := b_isCut) (b_removed := b_removed) (b_stream := b_stream) (b_type := b_type) (b_from := b_from) (b_by := b_by) (b_value := b_value) (b_version := b_version) (b_on := b_on) (b_call := b_call) (b_draftType := b_draftType) (b_draftValue := b_draftValue) (b_op := b_op) (b_with := b_with) (b_length := b_length) (b_height := b_height) (b_torn := b_torn) (b_stack := b_stack) (b_position := b_position) (b_cells := b_cells) (b_noted := b_noted) (b_wanted := b_wanted) (b_formed := b_formed) (b_cursor := b_cursor) (b_parked := b_parked) (b_where := b_where) (b_often := b_often) (b_due := b_due) (b_many := b_many) (b_found := b_found) h W h1 h0 N 0 (by omega) (fun i h => absurd h (Nat.not_lt_zero _))
  rw [nI_0] at this
  exact ⟨_, this⟩
theorem es_y_next10 (h : es_CY N F C L rm (nI N) g_flushed g_calls b_isCut b_removed b_stream b_type b_from b_by b_value b_version b_on b_call) (W : es_WL N F C L rm) {post : Int32 → SY → Prop} :
    ∀ d i, i + d = N → (es_fs (es_op L N) d i < N → ∀ fo, (∀ j, j < 6 → fo j = es_sv (L (es_fs (es_op L N) d i)) j) → post (nI (es_fs (es_op L N) d i)) (nI N, g_flushed, g_calls, g_drafted, g_top, g_time, b_isCut, b_removed, b_stream, b_type, b_from, b_by, b_value, b_version, b_on, b_call, b_draftType, b_draftValue, b_op, b_with, b_length, b_height, b_torn, b_stack, b_position, b_cells, b_noted, b_wanted, b_formed, b_cursor, b_parked, b_where, b_often, b_due, b_many, fo)) → (es_fs (es_op L N) d i = N → post (-4) (nI N, g_flushed, g_calls, g_drafted, g_top, g_time, b_isCut, b_removed, b_stream, b_type, b_from, b_by, b_value, b_version, b_on, b_call, b_draftType, b_draftValue, b_op, b_with, b_length, b_height, b_torn, b_stack, b_position, b_cells, b_noted, b_wanted, b_formed, b_cursor, b_parked, b_where, b_often, b_due, b_many, b_found)) → wY_next_10 post (nI N) g_flushed g_calls g_drafted g_top g_time b_isCut b_removed b_stream b_type b_from b_by b_value b_version b_on b_call b_draftType b_draftValue b_op b_with b_length b_height b_torn b_stack b_position b_cells b_noted b_wanted b_formed b_cursor b_parked b_where b_often b_due b_many b_found (d + 1) (nI i) := by
  have hN := W.1
  intro d
  induction d with
  | zero =>
    intro i hi h1 h0
    have e : i = N := by omega
    exact br_t (by rw [e]; exact nI_le (Nat.le_refl _) (by omega)) (h0 e)
  | succ d ih =>
    intro i hi h1 h0
    have hin : i < N := by omega
    refine br_f (nI_ge hin (by omega)) (es_y_shown h W hin (es_bc (fun z => ?_) (fun z => ?_)))
    · rw [es_fs_f z] at h1 h0
      exact nm_r (nI_1 i) (ih (i + 1) (by omega) h1 h0)
    · rw [es_fs_t z] at h1
      exact es_y_show h W hin (h1 hin)
theorem es_x_next6 (h : es_CX N F L rm pd (nI (es_Q rm N)) f_records f_flushed f_summed a_at a_version a_value a_originAt a_stream a_type a_originBy a_originCode a_goesOn a_events a_cuts a_firm a_cutsGone a_byVersion a_byOrigin a_upTo) (W : es_WL N F C L rm) {post : Int32 → SX → Prop} :
    ∀ d i, i + d = N → ∀ n, d < n → (es_fs (es_op L N) d i < N → ∀ sh, (∀ j, j < 6 → sh j = es_sv (L (es_fs (es_op L N) d i)) j) → post (nI (es_fs (es_op L N) d i)) (nI (es_Q rm N), f_records, f_flushed, f_summed, f_draft, f_drafted, nI (es_fs (es_op L N) d i), f_time, f_taken, a_at, a_version, a_value, a_originAt, a_stream, a_type, a_originBy, a_originCode, a_goesOn, a_events, a_cuts, a_firm, a_cutsGone, a_byVersion, a_byOrigin, a_upTo, a_draftType, a_draftValue, a_dOp, a_dC, a_height, a_clash, a_pOp, a_pSize, a_pC, a_position, a_cell, a_noted, a_stack, a_before, sh, a_gType, a_gTaken, a_gWaiting, a_kCount, a_gCursor, a_gParked, a_kCursor, a_tAt, a_tDue, a_wAt, a_kAt, a_tTimes, a_wTimes, a_kTimes)) → (es_fs (es_op L N) d i = N → post (-4) (nI (es_Q rm N), f_records, f_flushed, f_summed, f_draft, f_drafted, f_seen, f_time, f_taken, a_at, a_version, a_value, a_originAt, a_stream, a_type, a_originBy, a_originCode, a_goesOn, a_events, a_cuts, a_firm, a_cutsGone, a_byVersion, a_byOrigin, a_upTo, a_draftType, a_draftValue, a_dOp, a_dC, a_height, a_clash, a_pOp, a_pSize, a_pC, a_position, a_cell, a_noted, a_stack, a_before, a_shown, a_gType, a_gTaken, a_gWaiting, a_kCount, a_gCursor, a_gParked, a_kCursor, a_tAt, a_tDue, a_wAt, a_kAt, a_tTimes, a_wTimes, a_kTimes)) → wX_next_6 post (nI (es_Q rm N)) f_records f_flushed f_summed f_draft f_drafted f_seen f_time f_taken a_at a_version a_value a_originAt a_stream a_type a_originBy a_originCode a_goesOn a_events a_cuts a_firm a_cutsGone a_byVersion a_byOrigin a_upTo a_draftType a_draftValue a_dOp a_dC a_height a_clash a_pOp a_pSize a_pC a_position a_cell a_noted a_stack a_before a_shown a_gType a_gTaken a_gWaiting a_kCount a_gCursor a_gParked a_kCursor a_tAt a_tDue a_wAt a_kAt a_tTimes a_wTimes a_kTimes n (nI (es_Q rm i)) := by
  have hq := W.2.2.1
  intro d
  induction d with
  | zero =>
    intro i hi n hn h1 h0
    obtain ⟨m, rfl⟩ : ∃ m, n = m + 1 := ⟨n - 1, by omega⟩
    have e : i = N := by omega
    exact br_t (by rw [e]; exact nI_le (Nat.le_refl _) (by omega)) (h0 e)
  | succ d ih =>
    intro i hi n hn h1 h0
    have hin : i < N := by omega
    cases hr : rm i
    · obtain ⟨m, rfl⟩ : ∃ m, n = m + 1 := ⟨n - 1, by omega⟩
      have hl := es_Q_lt hin hr
      refine br_f (nI_ge hl (by omega)) (es_x_open h W hin hr (es_bc (fun z => ?_) (fun z => ?_)))
      · rw [es_fs_f z] at h1 h0
        have := ih (i + 1) (by omega) m (by omega) h1 h0
        rw [es_Q_f hr] at this
        exact nm_r (nI_1 _) this
      · rw [es_fs_t z] at h1
        refine es_x_show h W hin hr (es_op_c z).1 (fun sh hsh => ⟨vp_in_nI (by omega) (by decide), ?_⟩)
        rw [nI_clamp (show es_Q rm i < 2 ^ 31 by omega), (h.2.2.2.1 i hin hr).1]
        exact h1 hin sh hsh
    · rw [es_fs_f (es_rm_op W hr)] at h1 h0
      have := ih (i + 1) (by omega) n (by omega) h1 h0
      rw [es_Q_t hr] at this
      exact this
end ES30
section ES30b
theorem i_vc_read {k : Nat} {u : SX} {v : SY} (I : i_Rel k u v) (hk : k + 4 ≤ 2048) (v1 : Int32) (v2 : Int32) : wpX_read (fun r u' => wpY_read (fun r' v' => r' = r ∧ i_Rel (k + 4) u' v') v v1 v2) u v1 v2 := by
  refine es_el (P := fun u v => wpX_read (fun r u' => wpY_read (fun r' v' => r' = r ∧ i_Rel (k + 4) u' v') v v1 v2) u v1 v2) ?_ u v I
  intro f_held f_records f_flushed f_summed f_draft f_drafted f_seen f_time f_taken a_at a_version a_value a_originAt a_stream a_type a_originBy a_originCode a_goesOn a_events a_cuts a_firm a_cutsGone a_byVersion a_byOrigin a_draftType a_draftValue a_dOp a_dC a_height a_clash a_pOp a_pSize a_pC a_position a_cell a_noted a_stack a_before a_shown a_gType a_gTaken a_gWaiting a_kCount a_gCursor a_gParked a_kCursor a_tAt a_tDue a_wAt a_kAt a_tTimes a_wTimes a_kTimes a_upTo g_count g_flushed g_calls g_drafted g_top g_time b_isCut b_removed b_stream b_type b_from b_by b_value b_version b_on b_call b_draftType b_draftValue b_op b_with b_length b_height b_torn b_stack b_position b_cells b_noted b_wanted b_formed b_cursor b_parked b_where b_often b_due b_many b_found N F C L rm h1 h2 h3 h4 h5 h6 h7 h8 h9 h10
  show wpX_read (fun r u' => wpY_read (fun r' v' => r' = r ∧ i_Rel (k + 4) u' v') (g_count, g_flushed, g_calls, g_drafted, g_top, g_time, b_isCut, b_removed, b_stream, b_type, b_from, b_by, b_value, b_version, b_on, b_call, b_draftType, b_draftValue, b_op, b_with, b_length, b_height, b_torn, b_stack, b_position, b_cells, b_noted, b_wanted, b_formed, b_cursor, b_parked, b_where, b_often, b_due, b_many, b_found) v1 v2) (f_held, f_records, f_flushed, f_summed, f_draft, f_drafted, f_seen, f_time, f_taken, a_at, a_version, a_value, a_originAt, a_stream, a_type, a_originBy, a_originCode, a_goesOn, a_events, a_cuts, a_firm, a_cutsGone, a_byVersion, a_byOrigin, a_upTo, a_draftType, a_draftValue, a_dOp, a_dC, a_height, a_clash, a_pOp, a_pSize, a_pC, a_position, a_cell, a_noted, a_stack, a_before, a_shown, a_gType, a_gTaken, a_gWaiting, a_kCount, a_gCursor, a_gParked, a_kCursor, a_tAt, a_tDue, a_wAt, a_kAt, a_tTimes, a_wTimes, a_kTimes) v1 v2
  have keep : i_Rel (k + 4) (f_held, f_records, f_flushed, f_summed, f_draft, f_drafted, f_seen, f_time, f_taken, a_at, a_version, a_value, a_originAt, a_stream, a_type, a_originBy, a_originCode, a_goesOn, a_events, a_cuts, a_firm, a_cutsGone, a_byVersion, a_byOrigin, a_upTo, a_draftType, a_draftValue, a_dOp, a_dC, a_height, a_clash, a_pOp, a_pSize, a_pC, a_position, a_cell, a_noted, a_stack, a_before, a_shown, a_gType, a_gTaken, a_gWaiting, a_kCount, a_gCursor, a_gParked, a_kCursor, a_tAt, a_tDue, a_wAt, a_kAt, a_tTimes, a_wTimes, a_kTimes) (g_count, g_flushed, g_calls, g_drafted, g_top, g_time, b_isCut, b_removed, b_stream, b_type, b_from, b_by, b_value, b_version, b_on, b_call, b_draftType, b_draftValue, b_op, b_with, b_length, b_height, b_torn, b_stack, b_position, b_cells, b_noted, b_wanted, b_formed, b_cursor, b_parked, b_where, b_often, b_due, b_many, b_found) := es_mk h1 h2 h3 (by omega) h5 h6 h7 h8 h9 h10
  have hN := h3.1
  have no : (∀ i, i < N → ¬ (es_op L N i = true ∧ nI (es_s (L i)) = v1 ∧ nI (es_n (L i)) = v2)) → wpY_read (fun r' v' => r' = -4 ∧ i_Rel (k + 4) (f_held, f_records, f_flushed, f_summed, f_draft, f_drafted, f_seen, f_time, f_taken, a_at, a_version, a_value, a_originAt, a_stream, a_type, a_originBy, a_originCode, a_goesOn, a_events, a_cuts, a_firm, a_cutsGone, a_byVersion, a_byOrigin, a_upTo, a_draftType, a_draftValue, a_dOp, a_dC, a_height, a_clash, a_pOp, a_pSize, a_pC, a_position, a_cell, a_noted, a_stack, a_before, a_shown, a_gType, a_gTaken, a_gWaiting, a_kCount, a_gCursor, a_gParked, a_kCursor, a_tAt, a_tDue, a_wAt, a_kAt, a_tTimes, a_wTimes, a_kTimes) v') (g_count, g_flushed, g_calls, g_drafted, g_top, g_time, b_isCut, b_removed, b_stream, b_type, b_from, b_by, b_value, b_version, b_on, b_call, b_draftType, b_draftValue, b_op, b_with, b_length, b_height, b_torn, b_stack, b_position, b_cells, b_noted, b_wanted, b_formed, b_cursor, b_parked, b_where, b_often, b_due, b_many, b_found) v1 v2 := fun hno =>
    es_y_read h2 h3 (fun i hi ho hs hn _ _ => absurd ⟨ho, hs, hn⟩ (hno i hi)) (fun _ => ⟨rfl, keep⟩)
  have out : (v1 < 0 ∨ nI 5 ≤ v1) → wpX_read (fun r u' => wpY_read (fun r' v' => r' = r ∧ i_Rel (k + 4) u' v') (g_count, g_flushed, g_calls, g_drafted, g_top, g_time, b_isCut, b_removed, b_stream, b_type, b_from, b_by, b_value, b_version, b_on, b_call, b_draftType, b_draftValue, b_op, b_with, b_length, b_height, b_torn, b_stack, b_position, b_cells, b_noted, b_wanted, b_formed, b_cursor, b_parked, b_where, b_often, b_due, b_many, b_found) v1 v2) (f_held, f_records, f_flushed, f_summed, f_draft, f_drafted, f_seen, f_time, f_taken, a_at, a_version, a_value, a_originAt, a_stream, a_type, a_originBy, a_originCode, a_goesOn, a_events, a_cuts, a_firm, a_cutsGone, a_byVersion, a_byOrigin, a_upTo, a_draftType, a_draftValue, a_dOp, a_dC, a_height, a_clash, a_pOp, a_pSize, a_pC, a_position, a_cell, a_noted, a_stack, a_before, a_shown, a_gType, a_gTaken, a_gWaiting, a_kCount, a_gCursor, a_gParked, a_kCursor, a_tAt, a_tDue, a_wAt, a_kAt, a_tTimes, a_wTimes, a_kTimes) v1 v2 := fun c => by
    unfold wpX_read
    refine es_am0 (n := 5) c (br_t rfl (no (fun i hi z => ?_)))
    have hs := (h3.2.2.2.2 i hi).1
    rw [← z.2.1] at c
    rcases c with c | c
    · exact nI_pos (by omega) c
    · exact nI_ge hs (by decide) c
  rcases pk_ix v1 (n := 5) (by decide) with c | c | ⟨s, hs, rfl⟩
  · exact out (Or.inl c)
  · exact out (Or.inr c)
  clear out
  have hv : vp_in (nI s) 5 := vp_in_nI hs (by decide)
  have A := h1.2.2.2.2.1
  have T := h1.2.2.2.1
  unfold wpX_read
  refine es_am1 (n := 5) hs (by decide) (br_f es_10 ⟨hv, ?_⟩)
  rw [nI_clamp (show s < 2 ^ 31 by omega), (A s hs).2.1]
  have hm : es_M L s N ≤ 2000 := es_mx_le (fun j hj hp => by
    simp at hp
    exact (es_ww h3 hj hp.1).1)
  have inj : ∀ i, i < N → nI (es_s (L i)) = nI s → es_s (L i) = s := fun i hi z => es_inj z (by have := (h3.2.2.2.2 i hi).1; omega) (by omega)
  by_cases c : nI (es_M L s N) ≤ v2
  · refine br_t c (es_x_place h1 h3 hs (fun i hi hr hc hs' hn => ?_) (fun hno => br_f es_n0 (no (fun i hi z => ?_))))
    · have hq := es_Q_lt hi hr
      have hq' := h3.2.2.1
      have nn := es_wn (W := h3) hi
      have ho : es_op L N i = true := by
        unfold es_op
        rw [hc, hs']
        simp
        rw [← hn] at c
        exact (nI_leI (by omega) (by omega)).mp c
      refine br_t (nI_pos' (by omega)) (es_x_show h1 h3 hi hr hc (fun sh hsh => ⟨vp_in_nI (by omega) (by decide), ?_⟩))
      dsimp only
      rw [nI_clamp (show es_Q rm i < 2 ^ 31 by omega), (T i hi hr).1]
      refine es_y_read h2 h3 (fun j hj ho' hs2 hn2 fo hfo => ?_) (fun hno => absurd ⟨ho, by rw [hs'], hn⟩ (hno i hi))
      have e : j = i := es_uniq h3 hj hi (es_op_c ho').1 hc ((inj j hj hs2).trans hs'.symm) (es_inj (hn2.trans hn.symm) (by have := es_wn (W := h3) hj; omega) (by omega))
      subst e
      refine ⟨rfl, es_mk h1 h2 h3 (by omega) h5 h6 h7 h8 (Or.inr ⟨nI_pos (by omega), fun j' hj' => ?_⟩) h10⟩
      rw [hfo j' hj', hsh j' hj']
    · obtain ⟨z1, z2, z3⟩ := z
      refine hno i hi ?_ (es_op_c z1).1 (inj i hi z2) z3
      cases hr : rm i
      · rfl
      · rw [es_rm_op h3 hr] at z1; exact absurd z1 (by decide)
  · refine br_f c (no (fun i hi z => ?_))
    obtain ⟨z1, z2, z3⟩ := z
    have := (es_op_c z1).2
    rw [inj i hi z2] at this
    rw [← z3] at c
    exact c (nI_le this (by have := es_wn (W := h3) hi; omega))
theorem i_vc_next {k : Nat} {u : SX} {v : SY} (I : i_Rel k u v) (hk : k + 4 ≤ 2048) (v1 : Int32) : wpX_next (fun r u' => wpY_next (fun r' v' => r' = r ∧ i_Rel (k + 4) u' v') v v1) u v1 := by
  refine es_el (P := fun u v => wpX_next (fun r u' => wpY_next (fun r' v' => r' = r ∧ i_Rel (k + 4) u' v') v v1) u v1) ?_ u v I
  intro f_held f_records f_flushed f_summed f_draft f_drafted f_seen f_time f_taken a_at a_version a_value a_originAt a_stream a_type a_originBy a_originCode a_goesOn a_events a_cuts a_firm a_cutsGone a_byVersion a_byOrigin a_draftType a_draftValue a_dOp a_dC a_height a_clash a_pOp a_pSize a_pC a_position a_cell a_noted a_stack a_before a_shown a_gType a_gTaken a_gWaiting a_kCount a_gCursor a_gParked a_kCursor a_tAt a_tDue a_wAt a_kAt a_tTimes a_wTimes a_kTimes a_upTo g_count g_flushed g_calls g_drafted g_top g_time b_isCut b_removed b_stream b_type b_from b_by b_value b_version b_on b_call b_draftType b_draftValue b_op b_with b_length b_height b_torn b_stack b_position b_cells b_noted b_wanted b_formed b_cursor b_parked b_where b_often b_due b_many b_found N F C L rm h1 h2 h3 h4 h5 h6 h7 h8 h9 h10
  show wpX_next (fun r u' => wpY_next (fun r' v' => r' = r ∧ i_Rel (k + 4) u' v') (g_count, g_flushed, g_calls, g_drafted, g_top, g_time, b_isCut, b_removed, b_stream, b_type, b_from, b_by, b_value, b_version, b_on, b_call, b_draftType, b_draftValue, b_op, b_with, b_length, b_height, b_torn, b_stack, b_position, b_cells, b_noted, b_wanted, b_formed, b_cursor, b_parked, b_where, b_often, b_due, b_many, b_found) v1) (f_held, f_records, f_flushed, f_summed, f_draft, f_drafted, f_seen, f_time, f_taken, a_at, a_version, a_value, a_originAt, a_stream, a_type, a_originBy, a_originCode, a_goesOn, a_events, a_cuts, a_firm, a_cutsGone, a_byVersion, a_byOrigin, a_upTo, a_draftType, a_draftValue, a_dOp, a_dC, a_height, a_clash, a_pOp, a_pSize, a_pC, a_position, a_cell, a_noted, a_stack, a_before, a_shown, a_gType, a_gTaken, a_gWaiting, a_kCount, a_gCursor, a_gParked, a_kCursor, a_tAt, a_tDue, a_wAt, a_kAt, a_tTimes, a_wTimes, a_kTimes) v1
  have keep : i_Rel (k + 4) (f_held, f_records, f_flushed, f_summed, f_draft, f_drafted, f_seen, f_time, f_taken, a_at, a_version, a_value, a_originAt, a_stream, a_type, a_originBy, a_originCode, a_goesOn, a_events, a_cuts, a_firm, a_cutsGone, a_byVersion, a_byOrigin, a_upTo, a_draftType, a_draftValue, a_dOp, a_dC, a_height, a_clash, a_pOp, a_pSize, a_pC, a_position, a_cell, a_noted, a_stack, a_before, a_shown, a_gType, a_gTaken, a_gWaiting, a_kCount, a_gCursor, a_gParked, a_kCursor, a_tAt, a_tDue, a_wAt, a_kAt, a_tTimes, a_wTimes, a_kTimes) (g_count, g_flushed, g_calls, g_drafted, g_top, g_time, b_isCut, b_removed, b_stream, b_type, b_from, b_by, b_value, b_version, b_on, b_call, b_draftType, b_draftValue, b_op, b_with, b_length, b_height, b_torn, b_stack, b_position, b_cells, b_noted, b_wanted, b_formed, b_cursor, b_parked, b_where, b_often, b_due, b_many, b_found) := es_mk h1 h2 h3 (by omega) h5 h6 h7 h8 h9 h10
  have hN := h3.1
  have hcl := es_cl_le v1 N
  obtain ⟨d, hd⟩ : ∃ d, es_cl v1 N + d = N := ⟨N - es_cl v1 N, by omega⟩
  have h1' := h1
  have h2' := h2
  have e1 := h1.1
  have e2 := h2.1
  subst e1 e2
  unfold wpX_next
  refine es_x_find h1' h3 ⟨d + 1, es_x_next6 h1' h3 d _ hd (d + 1) (by omega) (fun hlt sh hsh => ?_) (fun heq => ?_)⟩
  · have key := es_y_next10 (g_flushed := g_flushed) (g_calls := g_calls) (g_drafted := g_drafted) (g_top := g_top) (g_time := g_time) (b_isCut := b_isCut) (b_removed := b_removed) (b_stream := b_stream) (b_type := b_type) (b_from := b_from) (b_by := b_by) (b_value := b_value) (b_version := b_version) (b_on := b_on) (b_call := b_call) (b_draftType := b_draftType) (b_draftValue := b_draftValue) (b_op := b_op) (b_with := b_with) (b_length := b_length) (b_height := b_height) (b_torn := b_torn) (b_stack := b_stack) (b_position := b_position) (b_cells := b_cells) (b_noted := b_noted) (b_wanted := b_wanted) (b_formed := b_formed) (b_cursor := b_cursor) (b_parked := b_parked) (b_where := b_where) (b_often := b_often) (b_due := b_due) (b_many := b_many) (b_found := b_found) h2' h3 (post := fun r' v' => r' = nI (es_fs (es_op L N) d (es_cl v1 N)) ∧ i_Rel (k + 4) (nI (es_Q rm N), f_records, f_flushed, f_summed, f_draft, f_drafted, nI (es_fs (es_op L N) d (es_cl v1 N)), f_time, f_taken, a_at, a_version, a_value, a_originAt, a_stream, a_type, a_originBy, a_originCode, a_goesOn, a_events, a_cuts, a_firm, a_cutsGone, a_byVersion, a_byOrigin, a_upTo, a_draftType, a_draftValue, a_dOp, a_dC, a_height, a_clash, a_pOp, a_pSize, a_pC, a_position, a_cell, a_noted, a_stack, a_before, sh, a_gType, a_gTaken, a_gWaiting, a_kCount, a_gCursor, a_gParked, a_kCursor, a_tAt, a_tDue, a_wAt, a_kAt, a_tTimes, a_wTimes, a_kTimes) v') d _ hd (fun _ fo hfo => ⟨rfl, es_mk h1' h2' h3 (by omega) h5 h6 h7 h8 (Or.inr ⟨nI_pos (by omega), fun j hj => by rw [hfo j hj, hsh j hj]⟩) h10⟩) (fun z => absurd z (by omega))
    unfold wpY_next
    by_cases c : 0 ≤ v1
    · obtain ⟨j, hj, rfl⟩ := nI_of (Int32.not_lt.mpr c)
      have hjN : j ≤ N := by
        apply Nat.le_of_not_lt
        intro z
        have hd0 : d = 0 := by
          rw [es_cl_big (by omega) (nI_le (by omega) hj)] at hd
          omega
        rw [hd0] at hlt
        have : es_cl (nI j) N = N := es_cl_big (by omega) (nI_le (by omega) hj)
        have h9 : es_fs (es_op L N) 0 (es_cl (nI j) N) = es_cl (nI j) N := rfl
        omega
      rw [es_cl_nI hjN (by omega)] at key
      rw [es_cl_nI hjN (by omega)]
      exact br_t c ⟨_, key⟩
    · rw [es_cl_neg (Int32.not_le.mp c), nI_0] at key
      rw [es_cl_neg (Int32.not_le.mp c)]
      exact br_f c ⟨_, key⟩
  · unfold wpY_next
    by_cases c : 0 ≤ v1
    · obtain ⟨j, hj, rfl⟩ := nI_of (Int32.not_lt.mpr c)
      by_cases hjN : j ≤ N
      · have key := es_y_next10 (g_flushed := g_flushed) (g_calls := g_calls) (g_drafted := g_drafted) (g_top := g_top) (g_time := g_time) (b_isCut := b_isCut) (b_removed := b_removed) (b_stream := b_stream) (b_type := b_type) (b_from := b_from) (b_by := b_by) (b_value := b_value) (b_version := b_version) (b_on := b_on) (b_call := b_call) (b_draftType := b_draftType) (b_draftValue := b_draftValue) (b_op := b_op) (b_with := b_with) (b_length := b_length) (b_height := b_height) (b_torn := b_torn) (b_stack := b_stack) (b_position := b_position) (b_cells := b_cells) (b_noted := b_noted) (b_wanted := b_wanted) (b_formed := b_formed) (b_cursor := b_cursor) (b_parked := b_parked) (b_where := b_where) (b_often := b_often) (b_due := b_due) (b_many := b_many) (b_found := b_found) h2' h3 (post := fun r' v' => r' = -4 ∧ i_Rel (k + 4) (nI (es_Q rm N), f_records, f_flushed, f_summed, f_draft, f_drafted, f_seen, f_time, f_taken, a_at, a_version, a_value, a_originAt, a_stream, a_type, a_originBy, a_originCode, a_goesOn, a_events, a_cuts, a_firm, a_cutsGone, a_byVersion, a_byOrigin, a_upTo, a_draftType, a_draftValue, a_dOp, a_dC, a_height, a_clash, a_pOp, a_pSize, a_pC, a_position, a_cell, a_noted, a_stack, a_before, a_shown, a_gType, a_gTaken, a_gWaiting, a_kCount, a_gCursor, a_gParked, a_kCursor, a_tAt, a_tDue, a_wAt, a_kAt, a_tTimes, a_wTimes, a_kTimes) v') d _ hd (fun z => absurd z (by omega)) (fun _ => ⟨rfl, keep⟩)
        rw [es_cl_nI hjN (by omega)] at key
        exact br_t c ⟨_, key⟩
      · exact br_t c ⟨1, br_t (nI_le (by omega) hj) ⟨rfl, keep⟩⟩
    · have key := es_y_next10 (g_flushed := g_flushed) (g_calls := g_calls) (g_drafted := g_drafted) (g_top := g_top) (g_time := g_time) (b_isCut := b_isCut) (b_removed := b_removed) (b_stream := b_stream) (b_type := b_type) (b_from := b_from) (b_by := b_by) (b_value := b_value) (b_version := b_version) (b_on := b_on) (b_call := b_call) (b_draftType := b_draftType) (b_draftValue := b_draftValue) (b_op := b_op) (b_with := b_with) (b_length := b_length) (b_height := b_height) (b_torn := b_torn) (b_stack := b_stack) (b_position := b_position) (b_cells := b_cells) (b_noted := b_noted) (b_wanted := b_wanted) (b_formed := b_formed) (b_cursor := b_cursor) (b_parked := b_parked) (b_where := b_where) (b_often := b_often) (b_due := b_due) (b_many := b_many) (b_found := b_found) h2' h3 (post := fun r' v' => r' = -4 ∧ i_Rel (k + 4) (nI (es_Q rm N), f_records, f_flushed, f_summed, f_draft, f_drafted, f_seen, f_time, f_taken, a_at, a_version, a_value, a_originAt, a_stream, a_type, a_originBy, a_originCode, a_goesOn, a_events, a_cuts, a_firm, a_cutsGone, a_byVersion, a_byOrigin, a_upTo, a_draftType, a_draftValue, a_dOp, a_dC, a_height, a_clash, a_pOp, a_pSize, a_pC, a_position, a_cell, a_noted, a_stack, a_before, a_shown, a_gType, a_gTaken, a_gWaiting, a_kCount, a_gCursor, a_gParked, a_kCursor, a_tAt, a_tDue, a_wAt, a_kAt, a_tTimes, a_wTimes, a_kTimes) v') d _ hd (fun z => absurd z (by omega)) (fun _ => ⟨rfl, keep⟩)
      rw [es_cl_neg (Int32.not_le.mp c), nI_0] at key
      exact br_f c ⟨_, key⟩
end ES30b
end
section
/-! sums -/
section ES31
def es_ps (w : Nat → Int64) : Nat → Int64
  | 0 => 0
  | n + 1 => es_ps w n + w n
def es_tw (L : Nat → es_Ev) (N t i : Nat) : Int64 := if es_ct L N t i = true then (es_v (L i)).toInt64 else 0
theorem es_i64a (u p q : Int64) : (u + p) - (u + q) = p - q := by grind
theorem es_i64b (p q w : Int64) : (p - q) + w = (p + w) - q := by grind
theorem es_i64c (u p w : Int64) : u + p + w = u + (p + w) := by grind
theorem es_i64d (p : Int64) : p - p = 0 := by grind
theorem es_i64e (p : Int64) : p + 0 = p := by grind
theorem es_32z : (0 : Int32).toInt64 = 0 := by decide
theorem es_fm {t i : Nat} : t < 9 → i ≤ 40 → 41 * t + i < 369 := by omega
theorem es_41 (t : Nat) : 41 * nI t = nI (41 * t) := pk_mul 41 t
variable {f_held f_records f_flushed f_summed f_draft f_drafted f_seen f_time f_taken : Int32} {a_at a_version a_value a_originAt a_stream a_type a_originBy a_originCode a_goesOn a_events a_cuts a_firm a_cutsGone a_byVersion a_byOrigin a_draftType a_draftValue a_dOp a_dC a_height a_clash a_pOp a_pSize a_pC a_position a_cell a_noted a_stack a_before a_shown a_gType a_gTaken a_gWaiting a_kCount a_gCursor a_gParked a_kCursor a_tAt a_tDue a_wAt a_kAt a_tTimes a_wTimes a_kTimes : Nat → Int32} {a_upTo : Nat → Int64} {g_count g_flushed g_calls g_drafted g_top g_time : Int32} {b_isCut b_removed b_stream b_type b_from b_by b_value b_version b_on b_call b_draftType b_draftValue b_op b_with b_length b_height b_torn b_stack b_position b_cells b_noted b_wanted b_formed b_cursor b_parked b_where b_often b_due b_many b_found : Nat → Int32} {N F C : Nat} {L : Nat → es_Ev} {rm : Nat → Bool} {pd : Prop}
theorem es_CX_up (h : es_CX N F L rm pd f_held f_records f_flushed 0 a_at a_version a_value a_originAt a_stream a_type a_originBy a_originCode a_goesOn a_events a_cuts a_firm a_cutsGone a_byVersion a_byOrigin a_upTo) (up : Nat → Int64) : es_CX N F L rm pd f_held f_records f_flushed 0 a_at a_version a_value a_originAt a_stream a_type a_originBy a_originCode a_goesOn a_events a_cuts a_firm a_cutsGone a_byVersion a_byOrigin up :=
  ⟨h.1, h.2.1, h.2.2.1, h.2.2.2.1, h.2.2.2.2.1, h.2.2.2.2.2.1, h.2.2.2.2.2.2.1, h.2.2.2.2.2.2.2.1, Or.inl rfl⟩
theorem es_x_sum57 {t j : Nat} (ht : t < 9) (hj : j < 40) {z : Bool} {post : SX → Prop} {J2 J20 : Int32 → (Nat → Int32) → (Nat → Int32) → (Nat → Int32) → (Nat → Int32) → (Nat → Int32) → (Nat → Int32) → (Nat → Int32) → (Nat → Int32) → (Nat → Int32) → (Nat → Int32) → (Nat → Int32) → (Nat → Int32) → (Nat → Int32) → (Nat → Int32) → (Nat → Int32) → (Nat → Int64) → (Nat → Int32) → (Nat → Int32) → (Nat → Int32) → (Nat → Int32) → (Nat → Int32) → (Nat → Int32) → (Nat → Int32) → (Nat → Int32) → (Nat → Int32) → (Nat → Int32) → (Nat → Int32) → (Nat → Int32) → (Nat → Int32) → (Nat → Int32) → (Nat → Int32) → (Nat → Int32) → (Nat → Int32) → (Nat → Int32) → (Nat → Int32) → (Nat → Int32) → (Nat → Int32) → (Nat → Int32) → (Nat → Int32) → (Nat → Int32) → (Nat → Int32) → (Nat → Int32) → (Nat → Int32) → (Nat → Int32) → (Nat → Int32) → Prop} (hJ : J20 (nI (j + 1)) a_at a_version a_value a_originAt a_stream a_type a_originBy a_originCode a_goesOn a_events a_cuts a_firm a_cutsGone a_byVersion a_byOrigin (vp_updL a_upTo (41 * t + j + 1) (a_upTo (41 * t + j) + (if z = true then (a_value j).toInt64 else 0))) a_draftType a_draftValue a_dOp a_dC a_height a_clash a_pOp a_pSize a_pC a_position a_cell a_noted a_stack a_before a_shown a_gType a_gTaken a_gWaiting a_kCount a_gCursor a_gParked a_kCursor a_tAt a_tDue a_wAt a_kAt a_tTimes a_wTimes a_kTimes) : wX_sum_57 post J2 J20 (nI t) (nI j) (es_b z) f_held f_records f_flushed f_summed f_draft f_drafted f_seen f_time f_taken a_at a_version a_value a_originAt a_stream a_type a_originBy a_originCode a_goesOn a_events a_cuts a_firm a_cutsGone a_byVersion a_byOrigin a_upTo a_draftType a_draftValue a_dOp a_dC a_height a_clash a_pOp a_pSize a_pC a_position a_cell a_noted a_stack a_before a_shown a_gType a_gTaken a_gWaiting a_kCount a_gCursor a_gParked a_kCursor a_tAt a_tDue a_wAt a_kAt a_tTimes a_wTimes a_kTimes := by
  have e1 : 41 * nI t + nI j = nI (41 * t + j) := by rw [es_41, nI_add]
  have hv : vp_in (nI (41 * t + j)) 369 := vp_in_nI (es_fm ht (by omega)) (by decide)
  have hv2 : vp_in (nI (41 * t + j + 1)) 369 := vp_in_nI (es_fm (i := j + 1) ht (by omega)) (by decide)
  unfold wX_sum_57
  rw [e1, nI_1 (41 * t + j), nI_clamp (show 41 * t + j < 2 ^ 31 by omega), nI_clamp (show 41 * t + j + 1 < 2 ^ 31 by omega), nI_clamp (show j < 2 ^ 31 by omega), es_32z]
  refine ⟨hv, es_bc (fun c => ?_) (fun c => ?_)⟩
  · rw [c] at hJ
    exact ⟨hv2, nm_e (nm_r (nI_1 j) hJ)⟩
  · rw [c] at hJ
    exact ⟨vp_in_nI hj (by decide), hv2, nm_e (nm_r (nI_1 j) hJ)⟩
theorem es_x_sum20 {t : Nat} (ht : t < 9) (h : es_CX N F L rm pd (nI (es_Q rm N)) f_records f_flushed 0 a_at a_version a_value a_originAt a_stream a_type a_originBy a_originCode a_goesOn a_events a_cuts a_firm a_cutsGone a_byVersion a_byOrigin a_upTo) (W : es_WL N F C L rm) {post : SX → Prop} {J2 : Int32 → (Nat → Int32) → (Nat → Int32) → (Nat → Int32) → (Nat → Int32) → (Nat → Int32) → (Nat → Int32) → (Nat → Int32) → (Nat → Int32) → (Nat → Int32) → (Nat → Int32) → (Nat → Int32) → (Nat → Int32) → (Nat → Int32) → (Nat → Int32) → (Nat → Int32) → (Nat → Int64) → (Nat → Int32) → (Nat → Int32) → (Nat → Int32) → (Nat → Int32) → (Nat → Int32) → (Nat → Int32) → (Nat → Int32) → (Nat → Int32) → (Nat → Int32) → (Nat → Int32) → (Nat → Int32) → (Nat → Int32) → (Nat → Int32) → (Nat → Int32) → (Nat → Int32) → (Nat → Int32) → (Nat → Int32) → (Nat → Int32) → (Nat → Int32) → (Nat → Int32) → (Nat → Int32) → (Nat → Int32) → (Nat → Int32) → (Nat → Int32) → (Nat → Int32) → (Nat → Int32) → (Nat → Int32) → (Nat → Int32) → (Nat → Int32) → Prop}
    (hJ : ∀ up : Nat → Int64, (∀ t', t' < t + 1 → ∀ i, i < N → rm i = false → up (41 * t' + es_Q rm i + 1) = up (41 * t' + es_Q rm i) + es_tw L N t' i) → J2 (nI (t + 1)) a_at a_version a_value a_originAt a_stream a_type a_originBy a_originCode a_goesOn a_events a_cuts a_firm a_cutsGone a_byVersion a_byOrigin up a_draftType a_draftValue a_dOp a_dC a_height a_clash a_pOp a_pSize a_pC a_position a_cell a_noted a_stack a_before a_shown a_gType a_gTaken a_gWaiting a_kCount a_gCursor a_gParked a_kCursor a_tAt a_tDue a_wAt a_kAt a_tTimes a_wTimes a_kTimes) :
    ∀ d i, i + d = N → ∀ n, d < n → ∀ up : Nat → Int64, (∀ t', t' < t → ∀ i, i < N → rm i = false → up (41 * t' + es_Q rm i + 1) = up (41 * t' + es_Q rm i) + es_tw L N t' i) → (∀ i', i' < i → rm i' = false → up (41 * t + es_Q rm i' + 1) = up (41 * t + es_Q rm i') + es_tw L N t i') → wX_sum_20 post J2 (nI t) (nI (es_Q rm N)) f_records f_flushed 0 f_draft f_drafted f_seen f_time f_taken n (nI (es_Q rm i)) a_at a_version a_value a_originAt a_stream a_type a_originBy a_originCode a_goesOn a_events a_cuts a_firm a_cutsGone a_byVersion a_byOrigin up a_draftType a_draftValue a_dOp a_dC a_height a_clash a_pOp a_pSize a_pC a_position a_cell a_noted a_stack a_before a_shown a_gType a_gTaken a_gWaiting a_kCount a_gCursor a_gParked a_kCursor a_tAt a_tDue a_wAt a_kAt a_tTimes a_wTimes a_kTimes := by
  have hq := W.2.2.1
  intro d
  induction d with
  | zero =>
    intro i hi n hn up h1 h2
    obtain ⟨m, rfl⟩ : ∃ m, n = m + 1 := ⟨n - 1, by omega⟩
    have e : i = N := by omega
    subst e
    refine br_t (nI_le (Nat.le_refl _) (by omega)) (nm_r (nI_1 t) (hJ up (fun t' ht' i hi hr => ?_)))
    by_cases c : t' = t
    · rw [c]; exact h2 i hi hr
    · exact h1 t' (by omega) i hi hr
  | succ d ih =>
    intro i hi n hn up h1 h2
    have hin : i < N := by omega
    cases hr : rm i
    · obtain ⟨m, rfl⟩ : ∃ m, n = m + 1 := ⟨n - 1, by omega⟩
      have hl := es_Q_lt hin hr
      have T := h.2.2.2.1 i hin hr
      have ht8 := (W.2.2.2.2 i hin).2.1
      have fin : ∀ z : Bool, z = es_ct L N t i → wX_sum_57 post J2 (wX_sum_20 post J2 (nI t) (nI (es_Q rm N)) f_records f_flushed 0 f_draft f_drafted f_seen f_time f_taken m) (nI t) (nI (es_Q rm i)) (es_b z) (nI (es_Q rm N)) f_records f_flushed 0 f_draft f_drafted f_seen f_time f_taken a_at a_version a_value a_originAt a_stream a_type a_originBy a_originCode a_goesOn a_events a_cuts a_firm a_cutsGone a_byVersion a_byOrigin up a_draftType a_draftValue a_dOp a_dC a_height a_clash a_pOp a_pSize a_pC a_position a_cell a_noted a_stack a_before a_shown a_gType a_gTaken a_gWaiting a_kCount a_gCursor a_gParked a_kCursor a_tAt a_tDue a_wAt a_kAt a_tTimes a_wTimes a_kTimes := fun z hz => by
        refine es_x_sum57 ht (by omega) ?_
        have ew : (if z = true then (a_value (es_Q rm i)).toInt64 else 0) = es_tw L N t i := by
          unfold es_tw
          rw [hz]
          by_cases c : es_ct L N t i = true
          · rw [if_pos c, if_pos c]
            have hc : es_c (L i) = false := by
              unfold es_ct at c
              simp at c
              exact (es_op_c c.1).1
            rw [(T.2.2.2 hc).2.2.1]
          · rw [if_neg c, if_neg c]
        rw [ew]
        have := ih (i + 1) (by omega) m (by omega) (vp_updL up (41 * t + es_Q rm i + 1) (up (41 * t + es_Q rm i) + es_tw L N t i)) (fun t' ht' i' hi' hr' => ?_) (fun i' hi' hr' => ?_)
        · rw [es_Q_f hr] at this
          exact this
        · have hl' := es_Q_lt hi' hr'
          rw [pk_uLn (by omega), pk_uLn (by omega)]
          exact h1 t' ht' i' hi' hr'
        · by_cases c : i' = i
          · subst c
            rw [pk_uLs, pk_uLn (by omega)]
          · have hl' := es_Q_lt (show i' < i by omega) hr'
            rw [pk_uLn (by omega), pk_uLn (by omega)]
            exact h2 i' (by omega) hr'
      refine br_f (nI_ge hl (by omega)) (es_x_open (es_CX_up h up) W hin hr (es_bc (fun z => ?_) (fun z => ?_)))
      · exact fin false (by unfold es_ct; rw [z]; rfl)
      · have hc := (es_op_c z).1
        by_cases c : t = 8
        · refine br_t (by rw [c]; rfl) (fin true ?_)
          unfold es_ct
          rw [z, c]
          rfl
        · refine br_f (fun w => c (es_inj (b := 8) w (by omega) (by decide))) ⟨vp_in_nI (by omega) (by decide), ?_⟩
          rw [nI_clamp (show es_Q rm i < 2 ^ 31 by omega), (T.2.2.2 hc).1]
          by_cases c2 : es_t (L i) = t
          · refine br_t (by rw [c2]) (fin true ?_)
            unfold es_ct
            rw [z, c2]
            simp
          · refine br_f (fun w => c2 (es_inj w (by omega) (by omega))) (fin false ?_)
            unfold es_ct
            rw [z]
            simp [c, c2]
    · have := ih (i + 1) (by omega) n (by omega) up h1 (fun i' hi' hr' => by
        by_cases c : i' = i
        · rw [c, hr] at hr'; cases hr'
        · exact h2 i' (by omega) hr')
      rw [es_Q_t hr] at this
      exact this
theorem es_x_sum2 (h : es_CX N F L rm pd (nI (es_Q rm N)) f_records f_flushed 0 a_at a_version a_value a_originAt a_stream a_type a_originBy a_originCode a_goesOn a_events a_cuts a_firm a_cutsGone a_byVersion a_byOrigin a_upTo) (W : es_WL N F C L rm) {post : SX → Prop}
    (hp : ∀ up : Nat → Int64, (∀ t', t' < 9 → ∀ i, i < N → rm i = false → up (41 * t' + es_Q rm i + 1) = up (41 * t' + es_Q rm i) + es_tw L N t' i) → post (nI (es_Q rm N), f_records, f_flushed, 1, f_draft, f_drafted, f_seen, f_time, f_taken, a_at, a_version, a_value, a_originAt, a_stream, a_type, a_originBy, a_originCode, a_goesOn, a_events, a_cuts, a_firm, a_cutsGone, a_byVersion, a_byOrigin, up, a_draftType, a_draftValue, a_dOp, a_dC, a_height, a_clash, a_pOp, a_pSize, a_pC, a_position, a_cell, a_noted, a_stack, a_before, a_shown, a_gType, a_gTaken, a_gWaiting, a_kCount, a_gCursor, a_gParked, a_kCursor, a_tAt, a_tDue, a_wAt, a_kAt, a_tTimes, a_wTimes, a_kTimes)) :
    ∀ d t, t + d = 9 → ∀ up : Nat → Int64, (∀ t', t' < t → ∀ i, i < N → rm i = false → up (41 * t' + es_Q rm i + 1) = up (41 * t' + es_Q rm i) + es_tw L N t' i) → wX_sum_2 post (nI (es_Q rm N)) f_records f_flushed 0 f_draft f_drafted f_seen f_time f_taken (d + 1) (nI t) a_at a_version a_value a_originAt a_stream a_type a_originBy a_originCode a_goesOn a_events a_cuts a_firm a_cutsGone a_byVersion a_byOrigin up a_draftType a_draftValue a_dOp a_dC a_height a_clash a_pOp a_pSize a_pC a_position a_cell a_noted a_stack a_before a_shown a_gType a_gTaken a_gWaiting a_kCount a_gCursor a_gParked a_kCursor a_tAt a_tDue a_wAt a_kAt a_tTimes a_wTimes a_kTimes := by
  intro d
  induction d with
  | zero =>
    intro t ht up h1
    have e : t = 9 := by omega
    subst e
    exact br_t (nI_le (a := 9) (b := 9) (by omega) (by decide)) (hp up h1)
  | succ d ih =>
    intro t ht up h1
    have hq := W.2.2.1
    refine br_f (nI_ge (b := 9) (by omega) (by decide)) ?_
    rw [es_41, nI_clamp (show 41 * t < 2 ^ 31 by omega)]
    refine ⟨vp_in_nI (by omega) (by decide), nm_e ?_⟩
    have key := es_x_sum20 (f_records := f_records) (f_flushed := f_flushed) (f_draft := f_draft) (f_drafted := f_drafted) (f_seen := f_seen) (f_time := f_time) (f_taken := f_taken) (a_at := a_at) (a_version := a_version) (a_value := a_value) (a_originAt := a_originAt) (a_stream := a_stream) (a_type := a_type) (a_originBy := a_originBy) (a_originCode := a_originCode) (a_goesOn := a_goesOn) (a_events := a_events) (a_cuts := a_cuts) (a_firm := a_firm) (a_cutsGone := a_cutsGone) (a_byVersion := a_byVersion) (a_byOrigin := a_byOrigin) (a_draftType := a_draftType) (a_draftValue := a_draftValue) (a_dOp := a_dOp) (a_dC := a_dC) (a_height := a_height) (a_clash := a_clash) (a_pOp := a_pOp) (a_pSize := a_pSize) (a_pC := a_pC) (a_position := a_position) (a_cell := a_cell) (a_noted := a_noted) (a_stack := a_stack) (a_before := a_before) (a_shown := a_shown) (a_gType := a_gType) (a_gTaken := a_gTaken) (a_gWaiting := a_gWaiting) (a_kCount := a_kCount) (a_gCursor := a_gCursor) (a_gParked := a_gParked) (a_kCursor := a_kCursor) (a_tAt := a_tAt) (a_tDue := a_tDue) (a_wAt := a_wAt) (a_kAt := a_kAt) (a_tTimes := a_tTimes) (a_wTimes := a_wTimes) (a_kTimes := a_kTimes) (show t < 9 by omega) h W (post := post) (J2 := wX_sum_2 post (nI (es_Q rm N)) f_records f_flushed 0 f_draft f_drafted f_seen f_time f_taken (d + 1)) (fun up' h' => ih (t + 1) (by omega) up' h') N 0 (by omega) (N + 1) (by omega) (vp_updL up (41 * t) 0) (fun t' ht' i hi hr => ?_) (fun i h => absurd h (Nat.not_lt_zero _))
    · rw [es_Q_0, nI_0] at key
      exact ⟨_, key⟩
    · have hl := es_Q_lt hi hr
      rw [pk_uLn (by omega), pk_uLn (by omega)]
      exact h1 t' ht' i hi hr
theorem es_x_sum (h : es_CX N F L rm pd f_held f_records f_flushed 0 a_at a_version a_value a_originAt a_stream a_type a_originBy a_originCode a_goesOn a_events a_cuts a_firm a_cutsGone a_byVersion a_byOrigin a_upTo) (W : es_WL N F C L rm) {post : SX → Prop} (hp : ∀ up : Nat → Int64, es_CX N F L rm pd f_held f_records f_flushed 1 a_at a_version a_value a_originAt a_stream a_type a_originBy a_originCode a_goesOn a_events a_cuts a_firm a_cutsGone a_byVersion a_byOrigin up → post (f_held, f_records, f_flushed, 1, f_draft, f_drafted, f_seen, f_time, f_taken, a_at, a_version, a_value, a_originAt, a_stream, a_type, a_originBy, a_originCode, a_goesOn, a_events, a_cuts, a_firm, a_cutsGone, a_byVersion, a_byOrigin, up, a_draftType, a_draftValue, a_dOp, a_dC, a_height, a_clash, a_pOp, a_pSize, a_pC, a_position, a_cell, a_noted, a_stack, a_before, a_shown, a_gType, a_gTaken, a_gWaiting, a_kCount, a_gCursor, a_gParked, a_kCursor, a_tAt, a_tDue, a_wAt, a_kAt, a_tTimes, a_wTimes, a_kTimes)) : wpX_sum post (f_held, f_records, f_flushed, 0, f_draft, f_drafted, f_seen, f_time, f_taken, a_at, a_version, a_value, a_originAt, a_stream, a_type, a_originBy, a_originCode, a_goesOn, a_events, a_cuts, a_firm, a_cutsGone, a_byVersion, a_byOrigin, a_upTo, a_draftType, a_draftValue, a_dOp, a_dC, a_height, a_clash, a_pOp, a_pSize, a_pC, a_position, a_cell, a_noted, a_stack, a_before, a_shown, a_gType, a_gTaken, a_gWaiting, a_kCount, a_gCursor, a_gParked, a_kCursor, a_tAt, a_tDue, a_wAt, a_kAt, a_tTimes, a_wTimes, a_kTimes) := by
  have e := h.1
  subst e
  have key := es_x_sum2 (f_records := f_records) (f_flushed := f_flushed) (f_draft := f_draft) (f_drafted := f_drafted) (f_seen := f_seen) (f_time := f_time) (f_taken := f_taken) (a_at := a_at) (a_version := a_version) (a_value := a_value) (a_originAt := a_originAt) (a_stream := a_stream) (a_type := a_type) (a_originBy := a_originBy) (a_originCode := a_originCode) (a_goesOn := a_goesOn) (a_events := a_events) (a_cuts := a_cuts) (a_firm := a_firm) (a_cutsGone := a_cutsGone) (a_byVersion := a_byVersion) (a_byOrigin := a_byOrigin) (a_draftType := a_draftType) (a_draftValue := a_draftValue) (a_dOp := a_dOp) (a_dC := a_dC) (a_height := a_height) (a_clash := a_clash) (a_pOp := a_pOp) (a_pSize := a_pSize) (a_pC := a_pC) (a_position := a_position) (a_cell := a_cell) (a_noted := a_noted) (a_stack := a_stack) (a_before := a_before) (a_shown := a_shown) (a_gType := a_gType) (a_gTaken := a_gTaken) (a_gWaiting := a_gWaiting) (a_kCount := a_kCount) (a_gCursor := a_gCursor) (a_gParked := a_gParked) (a_kCursor := a_kCursor) (a_tAt := a_tAt) (a_tDue := a_tDue) (a_wAt := a_wAt) (a_kAt := a_kAt) (a_tTimes := a_tTimes) (a_wTimes := a_wTimes) (a_kTimes := a_kTimes) h W (post := post) (fun up hu => hp up ⟨rfl, h.2.1, h.2.2.1, h.2.2.2.1, h.2.2.2.2.1, h.2.2.2.2.2.1, h.2.2.2.2.2.2.1, h.2.2.2.2.2.2.2.1, Or.inr ⟨es_10, hu⟩⟩) 9 0 (by omega) a_upTo (fun t h => absurd h (Nat.not_lt_zero _))
  rw [nI_0] at key
  exact ⟨_, key⟩
theorem es_x_pre {t : Nat} (ht : t < 9) (W : es_WL N F C L rm) (S : ∀ t, t < 9 → ∀ i, i < N → rm i = false → a_upTo (41 * t + es_Q rm i + 1) = a_upTo (41 * t + es_Q rm i) + (if es_ct L N t i = true then (es_v (L i)).toInt64 else 0)) : ∀ i, i ≤ N → a_upTo (41 * t + es_Q rm i) = a_upTo (41 * t) + es_ps (es_tw L N t) i
  | 0, _ => (es_i64e _).symm
  | i + 1, h => by
    have ih := es_x_pre ht W S i (by omega)
    cases hr : rm i
    · rw [es_Q_f hr, ← Nat.add_assoc, S t ht i (by omega) hr, ih]
      exact es_i64c _ _ _
    · have z : es_tw L N t i = 0 := by
        unfold es_tw es_ct
        rw [es_rm_op W hr]
        rfl
      rw [es_Q_t hr, ih]
      show _ = _ + (es_ps _ i + es_tw L N t i)
      rw [z, es_i64e]
theorem es_x_total60 (h : es_CX N F L rm pd f_held f_records f_flushed f_summed a_at a_version a_value a_originAt a_stream a_type a_originBy a_originCode a_goesOn a_events a_cuts a_firm a_cutsGone a_byVersion a_byOrigin a_upTo) (W : es_WL N F C L rm) (hs : ¬ f_summed = 0) {t a b : Nat} (ht : t < 9) (ha : a ≤ N) (hb : b ≤ N) {post : Int64 → SX → Prop} (hp : post (es_ps (es_tw L N t) b - es_ps (es_tw L N t) a) (f_held, f_records, f_flushed, f_summed, f_draft, f_drafted, f_seen, f_time, f_taken, a_at, a_version, a_value, a_originAt, a_stream, a_type, a_originBy, a_originCode, a_goesOn, a_events, a_cuts, a_firm, a_cutsGone, a_byVersion, a_byOrigin, a_upTo, a_draftType, a_draftValue, a_dOp, a_dC, a_height, a_clash, a_pOp, a_pSize, a_pC, a_position, a_cell, a_noted, a_stack, a_before, a_shown, a_gType, a_gTaken, a_gWaiting, a_kCount, a_gCursor, a_gParked, a_kCursor, a_tAt, a_tDue, a_wAt, a_kAt, a_tTimes, a_wTimes, a_kTimes)) : wX_total_60 post (nI t) (nI (es_Q rm a)) (nI (es_Q rm b)) f_held f_records f_flushed f_summed f_draft f_drafted f_seen f_time f_taken a_at a_version a_value a_originAt a_stream a_type a_originBy a_originCode a_goesOn a_events a_cuts a_firm a_cutsGone a_byVersion a_byOrigin a_upTo a_draftType a_draftValue a_dOp a_dC a_height a_clash a_pOp a_pSize a_pC a_position a_cell a_noted a_stack a_before a_shown a_gType a_gTaken a_gWaiting a_kCount a_gCursor a_gParked a_kCursor a_tAt a_tDue a_wAt a_kAt a_tTimes a_wTimes a_kTimes := by
  have S := (h.2.2.2.2.2.2.2.2.resolve_left hs).2
  have hq := W.2.2.1
  have qa := es_Q_mono rm ha
  have qb := es_Q_mono rm hb
  unfold wX_total_60
  rw [es_41, nI_add, nI_add, nI_clamp (show 41 * t + es_Q rm a < 2 ^ 31 by omega), nI_clamp (show 41 * t + es_Q rm b < 2 ^ 31 by omega), es_x_pre ht W S a ha, es_x_pre ht W S b hb, es_i64a]
  exact ⟨vp_in_nI (by omega) (by decide), vp_in_nI (by omega) (by decide), hp⟩
theorem es_x_total31 (h : es_CX N F L rm pd f_held f_records f_flushed f_summed a_at a_version a_value a_originAt a_stream a_type a_originBy a_originCode a_goesOn a_events a_cuts a_firm a_cutsGone a_byVersion a_byOrigin a_upTo) (W : es_WL N F C L rm) (hs : ¬ f_summed = 0) {t j : Nat} {x2 : Int32} (ht : t < 9) (hj : j < 2 ^ 31) {post : Int64 → SX → Prop} (hp : post (es_ps (es_tw L N t) (if j < N then j + 1 else N) - es_ps (es_tw L N t) (es_cl x2 N)) (f_held, f_records, f_flushed, f_summed, f_draft, f_drafted, f_seen, f_time, f_taken, a_at, a_version, a_value, a_originAt, a_stream, a_type, a_originBy, a_originCode, a_goesOn, a_events, a_cuts, a_firm, a_cutsGone, a_byVersion, a_byOrigin, a_upTo, a_draftType, a_draftValue, a_dOp, a_dC, a_height, a_clash, a_pOp, a_pSize, a_pC, a_position, a_cell, a_noted, a_stack, a_before, a_shown, a_gType, a_gTaken, a_gWaiting, a_kCount, a_gCursor, a_gParked, a_kCursor, a_tAt, a_tDue, a_wAt, a_kAt, a_tTimes, a_wTimes, a_kTimes)) : wX_total_31 post (nI t) x2 (nI j) f_held f_records f_flushed f_summed f_draft f_drafted f_seen f_time f_taken a_at a_version a_value a_originAt a_stream a_type a_originBy a_originCode a_goesOn a_events a_cuts a_firm a_cutsGone a_byVersion a_byOrigin a_upTo a_draftType a_draftValue a_dOp a_dC a_height a_clash a_pOp a_pSize a_pC a_position a_cell a_noted a_stack a_before a_shown a_gType a_gTaken a_gWaiting a_kCount a_gCursor a_gParked a_kCursor a_tAt a_tDue a_wAt a_kAt a_tTimes a_wTimes a_kTimes := by
  have hN := W.1
  have e := h.1
  have e' := h.2.1
  subst e e'
  unfold wX_total_31
  refine es_x_find h W (pk_lt j N (fun z => es_x_find (x := nI j + 1) h W ?_) (fun z => ?_))
  · rw [if_pos z] at hp
    rw [nI_1, es_cl_nI (by omega) (by omega)]
    exact es_x_total60 h W hs ht (es_cl_le _ _) (by omega) hp
  · rw [if_neg (by omega)] at hp
    exact es_x_total60 h W hs ht (es_cl_le _ _) (Nat.le_refl N) hp
theorem es_y_total25 (h : es_CY N F C L rm (nI N) g_flushed g_calls b_isCut b_removed b_stream b_type b_from b_by b_value b_version b_on b_call) (W : es_WL N F C L rm) {t a b : Nat} {x3 : Int32} (ht : t < 9) (hb : b ≤ N) (hx : ∀ i, i < N → (x3 < nI i ↔ b ≤ i)) {post : Int64 → Prop} (hp : post (es_ps (es_tw L N t) b - es_ps (es_tw L N t) a)) :
    ∀ d i, i + d = b → wY_total_25 post (nI t) x3 (nI N) g_flushed g_calls g_drafted g_top g_time b_isCut b_removed b_stream b_type b_from b_by b_value b_version b_on b_call b_draftType b_draftValue b_op b_with b_length b_height b_torn b_stack b_position b_cells b_noted b_wanted b_formed b_cursor b_parked b_where b_often b_due b_many b_found (d + 1) (es_ps (es_tw L N t) i - es_ps (es_tw L N t) a) (nI i) := by
  have hN := W.1
  intro d
  induction d with
  | zero =>
    intro i hi
    have e : i = b := by omega
    subst e
    by_cases c : i = N
    · exact br_t (by rw [c]; exact nI_le (Nat.le_refl _) (by omega)) hp
    · exact br_f (nI_ge (by omega) (by omega)) (br_t ((hx i (by omega)).mpr (Nat.le_refl _)) hp)
  | succ d ih =>
    intro i hi
    have hin : i < N := by omega
    have hv : vp_in (nI i) 2000 := vp_in_nI (by omega) (by decide)
    have ec : (nI i).toNatClampNeg = i := nI_clamp (by omega)
    have ih' := ih (i + 1) (by omega)
    have r := h.2.2.2 i hin
    have ht8 := (W.2.2.2.2 i hin).2.1
    have e0 : es_ct L N t i = false → es_ps (es_tw L N t) (i + 1) = es_ps (es_tw L N t) i := fun z => by
      show es_ps (es_tw L N t) i + es_tw L N t i = _
      rw [show es_tw L N t i = 0 by unfold es_tw; rw [z]; rfl, es_i64e]
    have e1 : es_ct L N t i = true → (es_ps (es_tw L N t) i - es_ps (es_tw L N t) a) + (es_v (L i)).toInt64 = es_ps (es_tw L N t) (i + 1) - es_ps (es_tw L N t) a := fun z => by
      show _ = es_ps (es_tw L N t) i + es_tw L N t i - _
      rw [show es_tw L N t i = (es_v (L i)).toInt64 by unfold es_tw; rw [z]; rfl]
      exact es_i64b _ _ _
    have no : es_ct L N t i = false → wY_total_25 post (nI t) x3 (nI N) g_flushed g_calls g_drafted g_top g_time b_isCut b_removed b_stream b_type b_from b_by b_value b_version b_on b_call b_draftType b_draftValue b_op b_with b_length b_height b_torn b_stack b_position b_cells b_noted b_wanted b_formed b_cursor b_parked b_where b_often b_due b_many b_found (d + 1) (es_ps (es_tw L N t) i - es_ps (es_tw L N t) a) (nI (i + 1)) := fun z => by
      rw [e0 z] at ih'
      exact ih'
    have yes : es_ct L N t i = true → wY_total_66 post (wY_total_25 post (nI t) x3 (nI N) g_flushed g_calls g_drafted g_top g_time b_isCut b_removed b_stream b_type b_from b_by b_value b_version b_on b_call b_draftType b_draftValue b_op b_with b_length b_height b_torn b_stack b_position b_cells b_noted b_wanted b_formed b_cursor b_parked b_where b_often b_due b_many b_found (d + 1)) (nI t) x3 (es_ps (es_tw L N t) i - es_ps (es_tw L N t) a) (nI i) (nI N) g_flushed g_calls g_drafted g_top g_time b_isCut b_removed b_stream b_type b_from b_by b_value b_version b_on b_call b_draftType b_draftValue b_op b_with b_length b_height b_torn b_stack b_position b_cells b_noted b_wanted b_formed b_cursor b_parked b_where b_often b_due b_many b_found := fun z => by
      unfold wY_total_66
      rw [ec, r.2.2.2.2.1, e1 z]
      exact ⟨hv, nm_e (nm_r (nI_1 i) ih')⟩
    refine br_f (nI_ge hin (by omega)) (br_f (fun z => by have := (hx i hin).mp z; omega) (es_y_shown h W hin (es_bc (fun z => nm_r (nI_1 i) (no ?_)) (fun z => ?_))))
    · unfold es_ct; rw [z]; rfl
    · by_cases c : t = 8
      · refine br_t (by rw [c]; rfl) (yes ?_)
        unfold es_ct
        rw [z, c]
        rfl
      · refine br_f (fun w => c (es_inj (b := 8) w (by omega) (by decide))) ⟨hv, ?_⟩
        rw [ec, r.2.2.2.1]
        by_cases c2 : es_t (L i) = t
        · refine br_t (by rw [c2]) (yes ?_)
          unfold es_ct
          rw [z, c2]
          simp
        · refine br_f (fun w => c2 (es_inj w (by omega) (by omega))) (nm_r (nI_1 i) (no ?_))
          unfold es_ct
          rw [z]
          simp [c, c2]
end ES31
section ES31b
theorem i_vc_total {k : Nat} {u : SX} {v : SY} (I : i_Rel k u v) (hk : k + 4 ≤ 2048) (v1 : Int32) (v2 : Int32) (v3 : Int32) : wpX_total (fun r u' => wpY_total (fun r' => r' = r ∧ i_Rel (k + 4) u' v) v v1 v2 v3) u v1 v2 v3 := by
  refine es_el (P := fun u v => wpX_total (fun r u' => wpY_total (fun r' => r' = r ∧ i_Rel (k + 4) u' v) v v1 v2 v3) u v1 v2 v3) ?_ u v I
  intro f_held f_records f_flushed f_summed f_draft f_drafted f_seen f_time f_taken a_at a_version a_value a_originAt a_stream a_type a_originBy a_originCode a_goesOn a_events a_cuts a_firm a_cutsGone a_byVersion a_byOrigin a_draftType a_draftValue a_dOp a_dC a_height a_clash a_pOp a_pSize a_pC a_position a_cell a_noted a_stack a_before a_shown a_gType a_gTaken a_gWaiting a_kCount a_gCursor a_gParked a_kCursor a_tAt a_tDue a_wAt a_kAt a_tTimes a_wTimes a_kTimes a_upTo g_count g_flushed g_calls g_drafted g_top g_time b_isCut b_removed b_stream b_type b_from b_by b_value b_version b_on b_call b_draftType b_draftValue b_op b_with b_length b_height b_torn b_stack b_position b_cells b_noted b_wanted b_formed b_cursor b_parked b_where b_often b_due b_many b_found N F C L rm h1 h2 h3 h4 h5 h6 h7 h8 h9 h10
  show wpX_total (fun r u' => wpY_total (fun r' => r' = r ∧ i_Rel (k + 4) u' (g_count, g_flushed, g_calls, g_drafted, g_top, g_time, b_isCut, b_removed, b_stream, b_type, b_from, b_by, b_value, b_version, b_on, b_call, b_draftType, b_draftValue, b_op, b_with, b_length, b_height, b_torn, b_stack, b_position, b_cells, b_noted, b_wanted, b_formed, b_cursor, b_parked, b_where, b_often, b_due, b_many, b_found)) (g_count, g_flushed, g_calls, g_drafted, g_top, g_time, b_isCut, b_removed, b_stream, b_type, b_from, b_by, b_value, b_version, b_on, b_call, b_draftType, b_draftValue, b_op, b_with, b_length, b_height, b_torn, b_stack, b_position, b_cells, b_noted, b_wanted, b_formed, b_cursor, b_parked, b_where, b_often, b_due, b_many, b_found) v1 v2 v3) (f_held, f_records, f_flushed, f_summed, f_draft, f_drafted, f_seen, f_time, f_taken, a_at, a_version, a_value, a_originAt, a_stream, a_type, a_originBy, a_originCode, a_goesOn, a_events, a_cuts, a_firm, a_cutsGone, a_byVersion, a_byOrigin, a_upTo, a_draftType, a_draftValue, a_dOp, a_dC, a_height, a_clash, a_pOp, a_pSize, a_pC, a_position, a_cell, a_noted, a_stack, a_before, a_shown, a_gType, a_gTaken, a_gWaiting, a_kCount, a_gCursor, a_gParked, a_kCursor, a_tAt, a_tDue, a_wAt, a_kAt, a_tTimes, a_wTimes, a_kTimes) v1 v2 v3
  have keep : i_Rel (k + 4) (f_held, f_records, f_flushed, f_summed, f_draft, f_drafted, f_seen, f_time, f_taken, a_at, a_version, a_value, a_originAt, a_stream, a_type, a_originBy, a_originCode, a_goesOn, a_events, a_cuts, a_firm, a_cutsGone, a_byVersion, a_byOrigin, a_upTo, a_draftType, a_draftValue, a_dOp, a_dC, a_height, a_clash, a_pOp, a_pSize, a_pC, a_position, a_cell, a_noted, a_stack, a_before, a_shown, a_gType, a_gTaken, a_gWaiting, a_kCount, a_gCursor, a_gParked, a_kCursor, a_tAt, a_tDue, a_wAt, a_kAt, a_tTimes, a_wTimes, a_kTimes) (g_count, g_flushed, g_calls, g_drafted, g_top, g_time, b_isCut, b_removed, b_stream, b_type, b_from, b_by, b_value, b_version, b_on, b_call, b_draftType, b_draftValue, b_op, b_with, b_length, b_height, b_torn, b_stack, b_position, b_cells, b_noted, b_wanted, b_formed, b_cursor, b_parked, b_where, b_often, b_due, b_many, b_found) := es_mk h1 h2 h3 (by omega) h5 h6 h7 h8 h9 h10
  have hN := h3.1
  have out : (v1 < 0 ∨ nI 9 ≤ v1) → wpX_total (fun r u' => wpY_total (fun r' => r' = r ∧ i_Rel (k + 4) u' (g_count, g_flushed, g_calls, g_drafted, g_top, g_time, b_isCut, b_removed, b_stream, b_type, b_from, b_by, b_value, b_version, b_on, b_call, b_draftType, b_draftValue, b_op, b_with, b_length, b_height, b_torn, b_stack, b_position, b_cells, b_noted, b_wanted, b_formed, b_cursor, b_parked, b_where, b_often, b_due, b_many, b_found)) (g_count, g_flushed, g_calls, g_drafted, g_top, g_time, b_isCut, b_removed, b_stream, b_type, b_from, b_by, b_value, b_version, b_on, b_call, b_draftType, b_draftValue, b_op, b_with, b_length, b_height, b_torn, b_stack, b_position, b_cells, b_noted, b_wanted, b_formed, b_cursor, b_parked, b_where, b_often, b_due, b_many, b_found) v1 v2 v3) (f_held, f_records, f_flushed, f_summed, f_draft, f_drafted, f_seen, f_time, f_taken, a_at, a_version, a_value, a_originAt, a_stream, a_type, a_originBy, a_originCode, a_goesOn, a_events, a_cuts, a_firm, a_cutsGone, a_byVersion, a_byOrigin, a_upTo, a_draftType, a_draftValue, a_dOp, a_dC, a_height, a_clash, a_pOp, a_pSize, a_pC, a_position, a_cell, a_noted, a_stack, a_before, a_shown, a_gType, a_gTaken, a_gWaiting, a_kCount, a_gCursor, a_gParked, a_kCursor, a_tAt, a_tDue, a_wAt, a_kAt, a_tTimes, a_wTimes, a_kTimes) v1 v2 v3 := fun c => by
    unfold wpX_total
    refine es_am0 (n := 9) c (br_t rfl ?_)
    unfold wpY_total
    exact es_out1 (n := 9) c (br_f es_10 ⟨rfl, keep⟩)
  rcases pk_ix v1 (n := 9) (by decide) with c | c | ⟨t, ht, rfl⟩
  · exact out (Or.inl c)
  · exact out (Or.inr c)
  clear out
  unfold wpX_total
  refine es_am1 (n := 9) ht (by decide) (br_f es_10 ?_)
  by_cases c1 : v3 < v2
  · refine br_t c1 ?_
    unfold wpY_total
    refine es_out0 (n := 9) ht (by decide) (br_t rfl ?_)
    by_cases c2 : 0 ≤ v2
    · exact br_t c2 ⟨1, br_c (fun _ => ⟨rfl, keep⟩) (fun _ => br_t c1 ⟨rfl, keep⟩)⟩
    · exact br_f c2 ⟨1, br_c (fun _ => ⟨rfl, keep⟩) (fun _ => br_t (Int32.lt_trans c1 (Int32.not_le.mp c2)) ⟨rfl, keep⟩)⟩
  refine br_f c1 ?_
  by_cases c2 : 0 ≤ v3
  rotate_left
  · refine br_f c2 ?_
    have c3 : ¬ 0 ≤ v2 := fun z => c2 (Int32.le_trans z (Int32.not_lt.mp c1))
    unfold wpY_total
    refine es_out0 (n := 9) ht (by decide) (br_t rfl (br_f c3 ⟨1, br_c (fun _ => ⟨rfl, keep⟩) (fun _ => br_t (Int32.not_le.mp c2) ⟨rfl, keep⟩)⟩))
  refine br_t c2 ?_
  obtain ⟨j, hj, rfl⟩ := nI_of (Int32.not_lt.mpr c2)
  have hY : ∀ X' : SX, i_Rel (k + 4) X' (g_count, g_flushed, g_calls, g_drafted, g_top, g_time, b_isCut, b_removed, b_stream, b_type, b_from, b_by, b_value, b_version, b_on, b_call, b_draftType, b_draftValue, b_op, b_with, b_length, b_height, b_torn, b_stack, b_position, b_cells, b_noted, b_wanted, b_formed, b_cursor, b_parked, b_where, b_often, b_due, b_many, b_found) → wpY_total (fun r' => r' = es_ps (es_tw L N t) (if j < N then j + 1 else N) - es_ps (es_tw L N t) (es_cl v2 N) ∧ i_Rel (k + 4) X' (g_count, g_flushed, g_calls, g_drafted, g_top, g_time, b_isCut, b_removed, b_stream, b_type, b_from, b_by, b_value, b_version, b_on, b_call, b_draftType, b_draftValue, b_op, b_with, b_length, b_height, b_torn, b_stack, b_position, b_cells, b_noted, b_wanted, b_formed, b_cursor, b_parked, b_where, b_often, b_due, b_many, b_found)) (g_count, g_flushed, g_calls, g_drafted, g_top, g_time, b_isCut, b_removed, b_stream, b_type, b_from, b_by, b_value, b_version, b_on, b_call, b_draftType, b_draftValue, b_op, b_with, b_length, b_height, b_torn, b_stack, b_position, b_cells, b_noted, b_wanted, b_formed, b_cursor, b_parked, b_where, b_often, b_due, b_many, b_found) (nI t) v2 (nI j) := fun X' hX => by
    have h2' := h2
    have e := h2.1
    subst e
    have hb : (if j < N then j + 1 else N) ≤ N := by
      by_cases z : j < N
      · rw [if_pos z]; omega
      · rw [if_neg z]; omega
    have hx : ∀ i, i < N → (nI j < nI i ↔ (if j < N then j + 1 else N) ≤ i) := fun i hi => by
      rw [nI_ltI hj (by omega)]
      by_cases z : j < N
      · rw [if_pos z]; omega
      · rw [if_neg z]; omega
    have go : es_cl v2 N ≤ (if j < N then j + 1 else N) → wY_total_25 (fun r' => r' = es_ps (es_tw L N t) (if j < N then j + 1 else N) - es_ps (es_tw L N t) (es_cl v2 N) ∧ i_Rel (k + 4) X' (nI N, g_flushed, g_calls, g_drafted, g_top, g_time, b_isCut, b_removed, b_stream, b_type, b_from, b_by, b_value, b_version, b_on, b_call, b_draftType, b_draftValue, b_op, b_with, b_length, b_height, b_torn, b_stack, b_position, b_cells, b_noted, b_wanted, b_formed, b_cursor, b_parked, b_where, b_often, b_due, b_many, b_found)) (nI t) (nI j) (nI N) g_flushed g_calls g_drafted g_top g_time b_isCut b_removed b_stream b_type b_from b_by b_value b_version b_on b_call b_draftType b_draftValue b_op b_with b_length b_height b_torn b_stack b_position b_cells b_noted b_wanted b_formed b_cursor b_parked b_where b_often b_due b_many b_found ((if j < N then j + 1 else N) - es_cl v2 N + 1) 0 (nI (es_cl v2 N)) := fun hle => by
      have := es_y_total25 (g_flushed := g_flushed) (g_calls := g_calls) (g_drafted := g_drafted) (g_top := g_top) (g_time := g_time) (b_isCut := b_isCut) (b_removed := b_removed) (b_stream := b_stream) (b_type := b_type) (b_from := b_from) (b_by := b_by) (b_value := b_value) (b_version := b_version) (b_on := b_on) (b_call := b_call) (b_draftType := b_draftType) (b_draftValue := b_draftValue) (b_op := b_op) (b_with := b_with) (b_length := b_length) (b_height := b_height) (b_torn := b_torn) (b_stack := b_stack) (b_position := b_position) (b_cells := b_cells) (b_noted := b_noted) (b_wanted := b_wanted) (b_formed := b_formed) (b_cursor := b_cursor) (b_parked := b_parked) (b_where := b_where) (b_often := b_often) (b_due := b_due) (b_many := b_many) (b_found := b_found) h2' h3 (a := es_cl v2 N) ht hb hx (post := fun r' => r' = es_ps (es_tw L N t) (if j < N then j + 1 else N) - es_ps (es_tw L N t) (es_cl v2 N) ∧ i_Rel (k + 4) X' (nI N, g_flushed, g_calls, g_drafted, g_top, g_time, b_isCut, b_removed, b_stream, b_type, b_from, b_by, b_value, b_version, b_on, b_call, b_draftType, b_draftValue, b_op, b_with, b_length, b_height, b_torn, b_stack, b_position, b_cells, b_noted, b_wanted, b_formed, b_cursor, b_parked, b_where, b_often, b_due, b_many, b_found)) ⟨rfl, hX⟩ ((if j < N then j + 1 else N) - es_cl v2 N) (es_cl v2 N) (by omega)
      rw [es_i64d] at this
      exact this
    unfold wpY_total
    refine es_out0 (n := 9) ht (by decide) (br_t rfl ?_)
    by_cases c3 : 0 ≤ v2
    · obtain ⟨m, hm, rfl⟩ := nI_of (Int32.not_lt.mpr c3)
      have hmj : m ≤ j := by
        apply Nat.le_of_not_lt
        intro z
        exact c1 (nI_lt z hm)
      by_cases c4 : m ≤ N
      · have := go (by
          rw [es_cl_nI c4 (by omega)]
          by_cases z : j < N
          · rw [if_pos z]; omega
          · rw [if_neg z]; omega)
        rw [es_cl_nI c4 (by omega)] at this
        rw [es_cl_nI c4 (by omega)]
        exact br_t c3 ⟨_, this⟩
      · refine br_t c3 ⟨1, br_t (nI_le (by omega) hm) ⟨?_, hX⟩⟩
        rw [es_cl_big (by omega) (nI_le (by omega) hm), if_neg (by omega), es_i64d]
    · have := go (by rw [es_cl_neg (Int32.not_le.mp c3)]; omega)
      rw [es_cl_neg (Int32.not_le.mp c3), nI_0] at this
      rw [es_cl_neg (Int32.not_le.mp c3)]
      exact br_f c3 ⟨_, this⟩
  by_cases c5 : f_summed = 0
  · subst c5
    refine br_t rfl (es_x_sum h1 h3 (fun up hup => ?_))
    exact es_x_total31 hup h3 es_10 ht hj (hY _ (es_mk hup h2 h3 (by omega) h5 h6 h7 h8 h9 h10))
  · exact br_f c5 (es_x_total31 h1 h3 c5 ht hj (hY _ keep))
end ES31b
end
section
/-! scavenge -/
section ES32
def es_rn (L : Nat → es_Ev) (rm : Nat → Bool) (lo F i : Nat) : Bool := rm i || (decide (i < lo) && (es_c (L i) || decide (es_n (L i) < es_M L (es_s (L i)) F)))
def es_rx (rm rm' : Nat → Bool) (i j : Nat) : Bool := if j < i then rm' j else rm j
theorem es_rx_0 (rm rm' : Nat → Bool) : es_rx rm rm' 0 = rm := by
  funext j
  unfold es_rx
  rw [if_neg (by omega)]
theorem es_rx_l {rm rm' : Nat → Bool} {i j : Nat} (h : j < i) : es_rx rm rm' i j = rm' j := if_pos h
theorem es_rx_g {rm rm' : Nat → Bool} {i j : Nat} (h : i ≤ j) : es_rx rm rm' i j = rm j := if_neg (by omega)
variable {f_held f_records f_flushed f_summed f_draft f_drafted f_seen f_time f_taken : Int32} {a_at a_version a_value a_originAt a_stream a_type a_originBy a_originCode a_goesOn a_events a_cuts a_firm a_cutsGone a_byVersion a_byOrigin a_draftType a_draftValue a_dOp a_dC a_height a_clash a_pOp a_pSize a_pC a_position a_cell a_noted a_stack a_before a_shown a_gType a_gTaken a_gWaiting a_kCount a_gCursor a_gParked a_kCursor a_tAt a_tDue a_wAt a_kAt a_tTimes a_wTimes a_kTimes : Nat → Int32} {a_upTo : Nat → Int64} {g_count g_flushed g_calls g_drafted g_top g_time : Int32} {b_isCut b_removed b_stream b_type b_from b_by b_value b_version b_on b_call b_draftType b_draftValue b_op b_with b_length b_height b_torn b_stack b_position b_cells b_noted b_wanted b_formed b_cursor b_parked b_where b_often b_due b_many b_found : Nat → Int32} {N F C lo : Nat} {L : Nat → es_Ev} {rm rm' : Nat → Bool} {pd : Prop}
theorem es_rn_of {i : Nat} (h : rm i = true) : es_rn L rm lo F i = true := by unfold es_rn; rw [h]; rfl
theorem es_rn_new {i : Nat} (hr : rm i = false) : es_rn L rm lo F i = true ↔ i < lo ∧ (es_c (L i) = true ∨ es_n (L i) < es_M L (es_s (L i)) F) := by
  unfold es_rn
  rw [hr]
  simp
theorem es_rn_hi {i : Nat} (h : lo ≤ i) : es_rn L rm lo F i = rm i := by
  unfold es_rn
  rw [show decide (i < lo) = false by simp; omega]
  simp
theorem es_WL_rm (W : es_WL N F C L rm) (h1 : ∀ i, rm i = true → rm' i = true) (h2 : ∀ i, rm' i = true → i < F ∧ (es_c (L i) = true ∨ es_n (L i) < es_M L (es_s (L i)) F)) : es_WL N F C L rm' := by
  refine ⟨W.1, W.2.1, Nat.le_trans ?_ W.2.2.1, h2, W.2.2.2.2⟩
  generalize N = n
  induction n with
  | zero => exact Nat.le_refl _
  | succ n ih =>
    cases e : rm n
    · rw [es_Q_f e]
      have := (es_cn_s (fun i => !rm' i) n).2
      have h9 : es_Q rm' (n + 1) ≤ es_Q rm' n + 1 := this
      omega
    · rw [es_Q_t e, es_Q_t (h1 n e)]
      exact ih
theorem es_rn_W (W : es_WL N F C L rm) (hlo : lo ≤ F) : ∀ i, es_rn L rm lo F i = true → i < F ∧ (es_c (L i) = true ∨ es_n (L i) < es_M L (es_s (L i)) F) := fun i hi => by
  cases e : rm i
  · obtain ⟨a, b⟩ := (es_rn_new e).mp hi
    exact ⟨by omega, b⟩
  · exact W.2.2.2.1 i e
theorem es_rx_W (W : es_WL N F C L rm) (hlo : lo ≤ F) (i : Nat) : es_WL N F C L (es_rx rm (es_rn L rm lo F) i) := by
  refine es_WL_rm W (fun j hj => ?_) (fun j hj => ?_)
  · by_cases c : j < i
    · rw [es_rx_l c]; exact es_rn_of hj
    · rw [es_rx_g (by omega)]; exact hj
  · by_cases c : j < i
    · rw [es_rx_l c] at hj; exact es_rn_W W hlo j hj
    · rw [es_rx_g (by omega)] at hj; exact W.2.2.2.1 j hj
theorem es_Qle (h1 : ∀ i, rm i = true → rm' i = true) : ∀ n, es_Q rm' n ≤ es_Q rm n
  | 0 => Nat.le_refl _
  | n + 1 => by
    have ih := es_Qle h1 n
    cases e : rm n
    · rw [es_Q_f e]
      have h9 : es_Q rm' (n + 1) ≤ es_Q rm' n + 1 := (es_cn_s (fun i => !rm' i) n).2
      omega
    · rw [es_Q_t e, es_Q_t (h1 n e)]
      exact ih
theorem es_Qeq (h1 : ∀ i, rm i = true → rm' i = true) : ∀ n, es_Q rm' n = es_Q rm n → ∀ i, i < n → rm' i = rm i
  | 0, _, i, h => absurd h (Nat.not_lt_zero _)
  | n + 1, he, i, h => by
    have le := es_Qle h1 n
    have hn : rm' n = rm n := by
      cases e : rm n
      · cases e' : rm' n
        · rfl
        · rw [es_Q_f e, es_Q_t e'] at he; omega
      · exact h1 n e
    by_cases c : i = n
    · rw [c]; exact hn
    · refine es_Qeq h1 n ?_ i (by omega)
      cases e : rm n
      · rw [es_Q_f e, es_Q_f (hn.trans e)] at he; omega
      · rw [es_Q_t e, es_Q_t (hn.trans e)] at he; omega
/-- a row of the table together with what it says of the call -/
def es_RP (N F : Nat) (L : Nat → es_Ev) (a_at a_version a_value a_originAt a_stream a_type a_originBy a_originCode a_goesOn : Nat → Int32) (i j : Nat) : Prop :=
  es_XR i (L i) (a_at j) (a_version j) (a_value j) (a_originAt j) (a_stream j) (a_type j) (a_originBy j) (a_originCode j) ∧ (F ≤ i → (a_goesOn j = 0 ∨ a_goesOn j = 1) ∧ (a_goesOn j = 0 ↔ ¬ ((i + 1 < N ∧ es_k (L i) = es_k (L (i + 1))) ∨ (i + 1 = N ∧ False))))
theorem es_RP_cp {i j n : Nat} (W : es_WL N F C L rm) (hi : i < N) (h : es_RP N F L a_at a_version a_value a_originAt a_stream a_type a_originBy a_originCode a_goesOn i j) :
    es_RP N F L (upd a_at n (a_at j)) (upd a_version n (a_version j)) (upd a_value n (a_value j)) (upd a_originAt n (a_originAt j)) (upd a_stream n (vp_nar .byte (a_stream j))) (upd a_type n (vp_nar .byte (a_type j))) (upd a_originBy n (vp_nar .byte (a_originBy j))) (upd a_originCode n (vp_nar .byte (a_originCode j))) (upd a_goesOn n (vp_nar .boolean (a_goesOn j))) i n := by
  obtain ⟨⟨r1, r2, r3, r4⟩, g⟩ := h
  obtain ⟨w1, w2, -, -, w5, -⟩ := W.2.2.2.2 i hi
  unfold es_RP
  simp only [pk_us]
  refine ⟨⟨r1, by rw [r2]; exact es_nb (by omega), fun hc => ⟨by rw [(r3 hc).1]; exact es_nbm, (r3 hc).2⟩, fun hc => ?_⟩, fun hF => ?_⟩
  · obtain ⟨q1, q2, q3, q4⟩ := r4 hc
    refine ⟨by rw [q1]; exact es_nb (by omega), q2, q3, ?_⟩
    cases ho : es_o (L i) with
    | none =>
      rw [ho] at q4
      rw [q4.1, q4.2, es_nbm]
      exact ⟨rfl, rfl⟩
    | some k =>
      obtain ⟨p, q, b⟩ := k
      rw [ho] at q4
      have w := w5 p q b ho
      rw [q4.1, q4.2.1, q4.2.2, es_nb (by omega), es_nb (by omega)]
      exact ⟨rfl, rfl, rfl⟩
  · obtain ⟨g1, g2⟩ := g hF
    have e : vp_nar .boolean (a_goesOn j) = a_goesOn j := by
      rcases g1 with g1 | g1
      · rw [g1]; exact es_z0
      · rw [g1]; exact es_z1
    rw [e]
    exact ⟨g1, g2⟩
theorem es_RP_o {i j n : Nat} {x1 x2 x3 x4 x5 x6 x7 x8 x9 : Int32} (hn : j ≠ n) (h : es_RP N F L a_at a_version a_value a_originAt a_stream a_type a_originBy a_originCode a_goesOn i j) :
    es_RP N F L (upd a_at n x1) (upd a_version n x2) (upd a_value n x3) (upd a_originAt n x4) (upd a_stream n x5) (upd a_type n x6) (upd a_originBy n x7) (upd a_originCode n x8) (upd a_goesOn n x9) i j := by
  unfold es_RP
  simp only [pk_un hn]
  exact h
theorem es_x_copyRec {i j : Nat} (hi : i < 40) (hj : j < 40) {post : SX → Prop} (hp : post (f_held, f_records, f_flushed, f_summed, f_draft, f_drafted, f_seen, f_time, f_taken, upd a_at j (a_at i), upd a_version j (a_version i), upd a_value j (a_value i), upd a_originAt j (a_originAt i), upd a_stream j (vp_nar .byte (a_stream i)), upd a_type j (vp_nar .byte (a_type i)), upd a_originBy j (vp_nar .byte (a_originBy i)), upd a_originCode j (vp_nar .byte (a_originCode i)), upd a_goesOn j (vp_nar .boolean (a_goesOn i)), a_events, a_cuts, a_firm, a_cutsGone, a_byVersion, a_byOrigin, a_upTo, a_draftType, a_draftValue, a_dOp, a_dC, a_height, a_clash, a_pOp, a_pSize, a_pC, a_position, a_cell, a_noted, a_stack, a_before, a_shown, a_gType, a_gTaken, a_gWaiting, a_kCount, a_gCursor, a_gParked, a_kCursor, a_tAt, a_tDue, a_wAt, a_kAt, a_tTimes, a_wTimes, a_kTimes)) : wpX_copyRecord post (f_held, f_records, f_flushed, f_summed, f_draft, f_drafted, f_seen, f_time, f_taken, a_at, a_version, a_value, a_originAt, a_stream, a_type, a_originBy, a_originCode, a_goesOn, a_events, a_cuts, a_firm, a_cutsGone, a_byVersion, a_byOrigin, a_upTo, a_draftType, a_draftValue, a_dOp, a_dC, a_height, a_clash, a_pOp, a_pSize, a_pC, a_position, a_cell, a_noted, a_stack, a_before, a_shown, a_gType, a_gTaken, a_gWaiting, a_kCount, a_gCursor, a_gParked, a_kCursor, a_tAt, a_tDue, a_wAt, a_kAt, a_tTimes, a_wTimes, a_kTimes) (nI i) (nI j) := by
  have hv : vp_in (nI i) 40 := vp_in_nI hi (by decide)
  have hw : vp_in (nI j) 40 := vp_in_nI hj (by decide)
  unfold wpX_copyRecord
  dsimp only
  rw [nI_clamp (show i < 2 ^ 31 by omega), nI_clamp (show j < 2 ^ 31 by omega)]
  exact ⟨hv, hw, nm_e ⟨hv, hw, nm_e ⟨hv, hw, nm_e ⟨hv, hw, nm_e ⟨hv, hw, nm_e ⟨hv, hw, nm_e ⟨hv, hw, nm_e ⟨hv, hw, nm_e ⟨hv, hw, nm_e hp⟩⟩⟩⟩⟩⟩⟩⟩⟩
theorem es_G_rx {s i : Nat} (hi : i < N) (hr : rm i = false) (hr' : rm' i = true) (hc : es_c (L i) = true) (hs : es_s (L i) = s) : es_G L (es_rx rm rm' (i + 1)) s N = if es_G L (es_rx rm rm' i) s N < es_w (L i) then es_w (L i) else es_G L (es_rx rm rm' i) s N := by
  have key : ∀ v, v < es_G L (es_rx rm rm' (i + 1)) s N ↔ v < es_G L (es_rx rm rm' i) s N ∨ v < es_w (L i) := fun v => by
    rw [es_G_lt, es_G_lt]
    constructor
    · rintro ⟨j, a, b, c, d, e⟩
      by_cases z : j = i
      · rw [z] at e; exact Or.inr e
      · refine Or.inl ⟨j, a, ?_, c, d, e⟩
        by_cases y : j < i
        · rw [es_rx_l (by omega)] at b; rw [es_rx_l y]; exact b
        · rw [es_rx_g (by omega)] at b; rw [es_rx_g (by omega)]; exact b
    · rintro (⟨j, a, b, c, d, e⟩ | e)
      · refine ⟨j, a, ?_, c, d, e⟩
        by_cases y : j < i
        · rw [es_rx_l y] at b; rw [es_rx_l (by omega)]; exact b
        · rw [es_rx_g (by omega)] at b
          by_cases z : j = i
          · rw [z, hr] at b; cases b
          · rw [es_rx_g (by omega)]; exact b
      · exact ⟨i, hi, by rw [es_rx_l (by omega)]; exact hr', hc, hs, e⟩
  apply es_ext
  intro v
  rw [key]
  by_cases z : es_G L (es_rx rm rm' i) s N < es_w (L i)
  · rw [if_pos z]; omega
  · rw [if_neg z]; omega
theorem es_G_rn {s i : Nat} (h : rm i = rm' i ∨ es_c (L i) = false ∨ es_s (L i) ≠ s) : es_G L (es_rx rm rm' (i + 1)) s N = es_G L (es_rx rm rm' i) s N := by
  apply es_ext
  intro v
  rw [es_G_lt, es_G_lt]
  have e : ∀ j, es_c (L j) = true → es_s (L j) = s → es_rx rm rm' (i + 1) j = es_rx rm rm' i j := fun j hc hs => by
    by_cases z : j = i
    · subst z
      rw [es_rx_l (by omega), es_rx_g (by omega)]
      rcases h with h | h | h
      · exact h.symm
      · rw [hc] at h; cases h
      · exact absurd hs h
    · by_cases y : j < i
      · rw [es_rx_l (by omega), es_rx_l y]
      · rw [es_rx_g (by omega), es_rx_g (by omega)]
  constructor
  · rintro ⟨j, a, b, c, d, e'⟩
    exact ⟨j, a, by rw [← e j c d]; exact b, c, d, e'⟩
  · rintro ⟨j, a, b, c, d, e'⟩
    exact ⟨j, a, by rw [e j c d]; exact b, c, d, e'⟩
end ES32
end
section
/-! scavenge: the loops, joined -/
section ES33
variable {f_held f_records f_flushed f_summed f_draft f_drafted f_seen f_time f_taken : Int32} {a_at a_version a_value a_originAt a_stream a_type a_originBy a_originCode a_goesOn a_events a_cuts a_firm a_cutsGone a_byVersion a_byOrigin a_draftType a_draftValue a_dOp a_dC a_height a_clash a_pOp a_pSize a_pC a_position a_cell a_noted a_stack a_before a_shown a_gType a_gTaken a_gWaiting a_kCount a_gCursor a_gParked a_kCursor a_tAt a_tDue a_wAt a_kAt a_tTimes a_wTimes a_kTimes : Nat → Int32} {a_upTo : Nat → Int64} {g_count g_flushed g_calls g_drafted g_top g_time : Int32} {b_isCut b_removed b_stream b_type b_from b_by b_value b_version b_on b_call b_draftType b_draftValue b_op b_with b_length b_height b_torn b_stack b_position b_cells b_noted b_wanted b_formed b_cursor b_parked b_where b_often b_due b_many b_found : Nat → Int32} {N F C lo : Nat} {L : Nat → es_Ev} {rm rm' : Nat → Bool} {pd : Prop}
theorem es_x_sc9 (W : es_WL N F C L rm) (hlo : lo ≤ F) (hrn : rm' = es_rn L rm lo F) (hf : ∀ s, s < 5 → a_firm s = nI (es_M L s F)) {post : Int32 → SX → Prop}
    (hp0 : ∀ (a_at' a_version' a_value' a_originAt' a_stream' a_type' a_originBy' a_originCode' a_goesOn' : Nat → Int32) cG, rm' = rm → (∀ i, i < N → rm' i = false → es_RP N F L a_at' a_version' a_value' a_originAt' a_stream' a_type' a_originBy' a_originCode' a_goesOn' i (es_Q rm' i)) → (∀ s, s < 5 → cG s = nI (es_G L rm' s N)) → post 0 (nI (es_Q rm' N), f_records, f_flushed, f_summed, f_draft, f_drafted, f_seen, f_time, f_taken, a_at', a_version', a_value', a_originAt', a_stream', a_type', a_originBy', a_originCode', a_goesOn', a_events, a_cuts, a_firm, cG, a_byVersion, a_byOrigin, a_upTo, a_draftType, a_draftValue, a_dOp, a_dC, a_height, a_clash, a_pOp, a_pSize, a_pC, a_position, a_cell, a_noted, a_stack, a_before, a_shown, a_gType, a_gTaken, a_gWaiting, a_kCount, a_gCursor, a_gParked, a_kCursor, a_tAt, a_tDue, a_wAt, a_kAt, a_tTimes, a_wTimes, a_kTimes))
    (hp1 : ∀ (a_at' a_version' a_value' a_originAt' a_stream' a_type' a_originBy' a_originCode' a_goesOn' : Nat → Int32) cG hv hx, (∀ i, i < N → rm' i = false → es_RP N F L a_at' a_version' a_value' a_originAt' a_stream' a_type' a_originBy' a_originCode' a_goesOn' i (es_Q rm' i)) → (∀ s, s < 5 → cG s = nI (es_G L rm' s N)) → es_HV N L rm' hv → es_HO N L rm' hx → post (nI (es_Q rm N - es_Q rm' N)) (nI (es_Q rm' N), f_records, f_flushed, 0, f_draft, f_drafted, f_seen, f_time, f_taken, a_at', a_version', a_value', a_originAt', a_stream', a_type', a_originBy', a_originCode', a_goesOn', a_events, a_cuts, a_firm, cG, hv, hx, a_upTo, a_draftType, a_draftValue, a_dOp, a_dC, a_height, a_clash, a_pOp, a_pSize, a_pC, a_position, a_cell, a_noted, a_stack, a_before, a_shown, a_gType, a_gTaken, a_gWaiting, a_kCount, a_gCursor, a_gParked, a_kCursor, a_tAt, a_tDue, a_wAt, a_kAt, a_tTimes, a_wTimes, a_kTimes)) :
    ∀ d i, i + d = N → ∀ n, d < n → ∀ (a_at' a_version' a_value' a_originAt' a_stream' a_type' a_originBy' a_originCode' a_goesOn' : Nat → Int32) cG, (∀ i', i' < i → rm' i' = false → es_RP N F L a_at' a_version' a_value' a_originAt' a_stream' a_type' a_originBy' a_originCode' a_goesOn' i' (es_Q rm' i')) → (∀ i', i ≤ i' → i' < N → rm i' = false → es_RP N F L a_at' a_version' a_value' a_originAt' a_stream' a_type' a_originBy' a_originCode' a_goesOn' i' (es_Q rm i')) → (∀ s, s < 5 → cG s = nI (es_G L (es_rx rm rm' i) s N)) →
      wX_scavenge_9 post (nI lo) n (nI (es_Q rm' i)) (nI (es_Q rm i)) (nI (es_Q rm N)) f_records f_flushed f_summed f_draft f_drafted f_seen f_time f_taken a_at' a_version' a_value' a_originAt' a_stream' a_type' a_originBy' a_originCode' a_goesOn' a_events a_cuts a_firm cG a_byVersion a_byOrigin a_upTo a_draftType a_draftValue a_dOp a_dC a_height a_clash a_pOp a_pSize a_pC a_position a_cell a_noted a_stack a_before a_shown a_gType a_gTaken a_gWaiting a_kCount a_gCursor a_gParked a_kCursor a_tAt a_tDue a_wAt a_kAt a_tTimes a_wTimes a_kTimes := by
  have hq := W.2.2.1
  have hN := W.1
  have hFN := W.2.1
  have hsub : ∀ i, rm i = true → rm' i = true := fun i hi => by rw [hrn]; exact es_rn_of hi
  have W' : es_WL N F C L rm' := es_WL_rm W hsub (by rw [hrn]; exact es_rn_W W hlo)
  intro d
  induction d with
  | zero =>
    intro i hi n hn a_at' a_version' a_value' a_originAt' a_stream' a_type' a_originBy' a_originCode' a_goesOn' cG T1 T2 hG
    obtain ⟨m, rfl⟩ : ∃ m, n = m + 1 := ⟨n - 1, by omega⟩
    have e : i = N := by omega
    subst e
    have hle := es_Qle hsub i
    have hG' : ∀ s, s < 5 → cG s = nI (es_G L rm' s i) := fun s hs => by
      rw [hG s hs]
      refine congrArg nI (es_ext (fun v => ?_))
      rw [es_G_lt, es_G_lt]
      constructor
      · rintro ⟨j, a, b, c⟩
        rw [es_rx_l a] at b
        exact ⟨j, a, b, c⟩
      · rintro ⟨j, a, b, c⟩
        exact ⟨j, a, by rw [es_rx_l a]; exact b, c⟩
    refine br_t (nI_le (Nat.le_refl _) (by omega)) (nm_r (pk_sub hle) ?_)
    by_cases c : es_Q rm i = es_Q rm' i
    · have hz : es_Q rm i - es_Q rm' i = 0 := by omega
      have heq : rm' = rm := funext fun j => by
        by_cases hj : j < i
        · exact es_Qeq hsub i c.symm j hj
        · rw [hrn]; exact es_rn_hi (by omega)
      rw [hz, nI_0]
      exact br_t (Int32.le_refl _) (hp0 a_at' a_version' a_value' a_originAt' a_stream' a_type' a_originBy' a_originCode' a_goesOn' cG heq T1 hG')
    · refine br_f (nI_nle (by omega) (by omega)) (es_x_reindex W' (fun i' hi' hr' => (T1 i' hi' hr').1) (fun hv hx k1 k2 => ?_))
      exact hp1 a_at' a_version' a_value' a_originAt' a_stream' a_type' a_originBy' a_originCode' a_goesOn' cG hv hx T1 hG' k1 k2
  | succ d ih =>
    intro i hi n hn a_at' a_version' a_value' a_originAt' a_stream' a_type' a_originBy' a_originCode' a_goesOn' cG T1 T2 hG
    have hin : i < N := by omega
    cases hr : rm i
    · obtain ⟨m, rfl⟩ : ∃ m, n = m + 1 := ⟨n - 1, by omega⟩
      have hl := es_Q_lt hin hr
      have hle := es_Qle hsub i
      have R := T2 i (Nat.le_refl _) hin hr
      obtain ⟨⟨r1, r2, r3, r4⟩, rg⟩ := R
      obtain ⟨w1, w2, -⟩ := W.2.2.2.2 i hin
      have hv : vp_in (nI (es_Q rm i)) 40 := vp_in_nI (by omega) (by decide)
      have ec : (nI (es_Q rm i)).toNatClampNeg = es_Q rm i := nI_clamp (by omega)
      have hs5 : vp_in (nI (es_s (L i))) 5 := vp_in_nI w1 (by decide)
      have es : (nI (es_s (L i))).toNatClampNeg = es_s (L i) := nI_clamp (by omega)
      have stay : rm' i = false → wX_scavenge_64 post (wX_scavenge_9 post (nI lo) m) (nI lo) (nI (es_Q rm' i)) (nI (es_Q rm i)) (nI (es_s (L i))) (nI (es_Q rm N)) f_records f_flushed f_summed f_draft f_drafted f_seen f_time f_taken a_at' a_version' a_value' a_originAt' a_stream' a_type' a_originBy' a_originCode' a_goesOn' a_events a_cuts a_firm cG a_byVersion a_byOrigin a_upTo a_draftType a_draftValue a_dOp a_dC a_height a_clash a_pOp a_pSize a_pC a_position a_cell a_noted a_stack a_before a_shown a_gType a_gTaken a_gWaiting a_kCount a_gCursor a_gParked a_kCursor a_tAt a_tDue a_wAt a_kAt a_tTimes a_wTimes a_kTimes := fun hr' => by
        unfold wX_scavenge_64 wX_scavenge_65
        refine br_t rfl (nm_r (nI_1 _) (es_x_copyRec (by omega) (by omega) (nm_r (nI_1 _) ?_)))
        have ih' := ih (i + 1) (by omega) m (by omega)
        rw [es_Q_f hr, es_Q_f hr'] at ih'
        refine ih' _ _ _ _ _ _ _ _ _ cG (fun i' hi' hri' => ?_) (fun i' hi' hiN hri' => ?_) (fun s hs => ?_)
        · by_cases c : i' = i
          · subst c
            exact es_RP_cp W hin ⟨⟨r1, r2, r3, r4⟩, rg⟩
          · have := es_Q_lt (show i' < i by omega) hri'
            exact es_RP_o (by omega) (T1 i' (by omega) hri')
        · have := es_Q_lt (show i < i' by omega) hr
          exact es_RP_o (by omega) (T2 i' (by omega) hiN hri')
        · rw [hG s hs, es_G_rn (Or.inl (hr.trans hr'.symm))]
      have goes : rm' i = true → wX_scavenge_60 post (wX_scavenge_9 post (nI lo) m) (nI lo) (nI (es_Q rm' i)) (nI (es_Q rm i)) (nI (es_s (L i))) (nI (es_Q rm N)) f_records f_flushed f_summed f_draft f_drafted f_seen f_time f_taken a_at' a_version' a_value' a_originAt' a_stream' a_type' a_originBy' a_originCode' a_goesOn' a_events a_cuts a_firm cG a_byVersion a_byOrigin a_upTo a_draftType a_draftValue a_dOp a_dC a_height a_clash a_pOp a_pSize a_pC a_position a_cell a_noted a_stack a_before a_shown a_gType a_gTaken a_gWaiting a_kCount a_gCursor a_gParked a_kCursor a_tAt a_tDue a_wAt a_kAt a_tTimes a_wTimes a_kTimes := fun hr' => by
        have nx : ∀ cG', (∀ s, s < 5 → cG' s = nI (es_G L (es_rx rm rm' (i + 1)) s N)) → wX_scavenge_9 post (nI lo) m (nI (es_Q rm' i)) (nI (es_Q rm i + 1)) (nI (es_Q rm N)) f_records f_flushed f_summed f_draft f_drafted f_seen f_time f_taken a_at' a_version' a_value' a_originAt' a_stream' a_type' a_originBy' a_originCode' a_goesOn' a_events a_cuts a_firm cG' a_byVersion a_byOrigin a_upTo a_draftType a_draftValue a_dOp a_dC a_height a_clash a_pOp a_pSize a_pC a_position a_cell a_noted a_stack a_before a_shown a_gType a_gTaken a_gWaiting a_kCount a_gCursor a_gParked a_kCursor a_tAt a_tDue a_wAt a_kAt a_tTimes a_wTimes a_kTimes := fun cG' hG' => by
          have := ih (i + 1) (by omega) m (by omega) a_at' a_version' a_value' a_originAt' a_stream' a_type' a_originBy' a_originCode' a_goesOn' cG' (fun i' hi' hri' => ?_) (fun i' hi' hiN hri' => T2 i' (by omega) hiN hri') hG'
          · rw [es_Q_f hr, es_Q_t hr'] at this
            exact this
          · by_cases c : i' = i
            · rw [c, hr'] at hri'; cases hri'
            · exact T1 i' (by omega) hri'
        unfold wX_scavenge_60 wX_scavenge_65
        refine br_f es_10 ⟨hv, ?_⟩
        rw [ec, es]
        cases hc : es_c (L i)
        · rw [(r4 hc).1]
          exact br_t (nI_pos' (by omega)) (nm_r (nI_1 _) (nx cG (fun s hs => by rw [hG s hs, es_G_rn (Or.inr (Or.inl hc))])))
        · obtain ⟨ww, we⟩ := es_ww W hin hc
          have hg : es_G L (es_rx rm rm' i) (es_s (L i)) N ≤ 2000 := es_mx_le (fun j hj hp => by
            simp at hp
            exact (es_ww W hj hp.2.1).1)
          rw [(r3 hc).1, (r3 hc).2, we, hG _ w1]
          refine br_f es_n0 ⟨hv, hs5, pk_le (es_w (L i)) (es_G L (es_rx rm rm' i) (es_s (L i)) N) (fun z => nm_r (nI_1 _) (nx cG (fun s hs => ?_))) (fun z => ⟨hv, hs5, nm_e (nm_r (nI_1 _) (nx _ (fun s hs => ?_)))⟩)⟩
          · rw [hG s hs]
            by_cases c : es_s (L i) = s
            · rw [← c, es_G_rx hin hr hr' hc rfl, if_neg (by omega)]
            · rw [es_G_rn (Or.inr (Or.inr c))]
          · by_cases c : s = es_s (L i)
            · rw [c, pk_us, es_G_rx hin hr hr' hc rfl, if_pos z]
            · rw [pk_un c, hG s hs, es_G_rn (Or.inr (Or.inr (fun z => c z.symm)))]
      refine br_f (nI_ge hl (by omega)) ⟨hv, nm_r (e' := nI (es_s (L i))) (by rw [ec]; exact r2) ⟨hv, ?_⟩⟩
      rw [ec, r1, es, hf _ w1]
      refine pk_le lo i (fun z => stay ?_) (fun z => ⟨hv, ?_⟩)
      · rw [hrn, es_rn_hi z]; exact hr
      · cases hc : es_c (L i)
        · have nl := es_wn (W := W) hin
          have hm : es_M L (es_s (L i)) F ≤ 2000 := es_mx_le (fun j hj hp => by
            simp at hp
            exact (es_ww W (show j < N by omega) hp.1).1)
          rw [(r4 hc).1, (r4 hc).2.1]
          refine br_f (nI_pos (by omega)) ⟨hv, hs5, pk_le (es_M L (es_s (L i)) F) (es_n (L i)) (fun y => stay ?_) (fun y => goes ?_)⟩
          · cases e : rm' i
            · rfl
            · rw [hrn, es_rn_new hr] at e
              rcases e.2 with e2 | e2
              · rw [hc] at e2; cases e2
              · omega
          · rw [hrn, es_rn_new hr]
            exact ⟨z, Or.inr y⟩
        · rw [(r3 hc).1]
          refine br_t es_neg1 (goes ?_)
          rw [hrn, es_rn_new hr]
          exact ⟨z, Or.inl hc⟩
    · have hr' := hsub i hr
      have := ih (i + 1) (by omega) n (by omega) a_at' a_version' a_value' a_originAt' a_stream' a_type' a_originBy' a_originCode' a_goesOn' cG (fun i' hi' hri' => ?_) (fun i' hi' hiN hri' => T2 i' (by omega) hiN hri') (fun s hs => by rw [hG s hs, es_G_rn (Or.inl (hr.trans hr'.symm))])
      · rw [es_Q_t hr, es_Q_t hr'] at this
        exact this
      · by_cases c : i' = i
        · rw [c, hr'] at hri'; cases hri'
        · exact T1 i' (by omega) hri'
theorem es_y_sc9 (W : es_WL N F C L rm) (hlo : lo ≤ F) (hrn : rm' = es_rn L rm lo F) {post : Int32 → SY → Prop}
    (hp : ∀ b_removed', es_CY N F C L rm' g_count (nI F) g_calls b_isCut b_removed' b_stream b_type b_from b_by b_value b_version b_on b_call → post (nI (es_Q rm lo - es_Q rm' lo)) (g_count, nI F, g_calls, g_drafted, g_top, g_time, b_isCut, b_removed', b_stream, b_type, b_from, b_by, b_value, b_version, b_on, b_call, b_draftType, b_draftValue, b_op, b_with, b_length, b_height, b_torn, b_stack, b_position, b_cells, b_noted, b_wanted, b_formed, b_cursor, b_parked, b_where, b_often, b_due, b_many, b_found)) :
    ∀ d i, i + d = lo → ∀ b_removed', es_CY N F C L (es_rx rm rm' i) g_count (nI F) g_calls b_isCut b_removed' b_stream b_type b_from b_by b_value b_version b_on b_call → wY_scavenge_9 post (nI lo) g_count (nI F) g_calls g_drafted g_top g_time (d + 1) (nI (es_Q rm i - es_Q rm' i)) (nI i) b_isCut b_removed' b_stream b_type b_from b_by b_value b_version b_on b_call b_draftType b_draftValue b_op b_with b_length b_height b_torn b_stack b_position b_cells b_noted b_wanted b_formed b_cursor b_parked b_where b_often b_due b_many b_found := by
  have hN := W.1
  have hFN := W.2.1
  have hsub : ∀ i, rm i = true → rm' i = true := fun i hi => by rw [hrn]; exact es_rn_of hi
  intro d
  induction d with
  | zero =>
    intro i hi b_removed' h
    have e : i = lo := by omega
    subst e
    have ex : es_rx rm rm' i = rm' := funext fun j => by
      by_cases c : j < i
      · exact es_rx_l c
      · rw [es_rx_g (by omega), hrn, es_rn_hi (by omega)]
    rw [ex] at h
    exact br_t (nI_le (Nat.le_refl _) (by omega)) (hp b_removed' h)
  | succ d ih =>
    intro i hi b_removed' h
    have hin : i < N := by omega
    have hv : vp_in (nI i) 2000 := vp_in_nI (by omega) (by decide)
    have ec : (nI i).toNatClampNeg = i := nI_clamp (by omega)
    have W2 : es_WL N F C L (es_rx rm rm' i) := by rw [hrn]; exact es_rx_W W hlo i
    have r := h.2.2.2 i hin
    have hle := es_Qle hsub i
    have er : b_removed' i = es_b (rm i) := by rw [r.2.1, es_rx_g (Nat.le_refl _)]
    have same : rm' i = rm i → es_CY N F C L (es_rx rm rm' (i + 1)) g_count (nI F) g_calls b_isCut b_removed' b_stream b_type b_from b_by b_value b_version b_on b_call := fun e => ⟨h.1, h.2.1, h.2.2.1, fun j hj => by
      have : es_rx rm rm' (i + 1) j = es_rx rm rm' i j := by
        by_cases z : j = i
        · rw [z, es_rx_l (by omega), es_rx_g (by omega)]; exact e
        · by_cases y : j < i
          · rw [es_rx_l (by omega), es_rx_l y]
          · rw [es_rx_g (by omega), es_rx_g (by omega)]
      rw [this]
      exact h.2.2.2 j hj⟩
    have take : rm i = false → rm' i = true → wY_scavenge_47 post (wY_scavenge_9 post (nI lo) g_count (nI F) g_calls g_drafted g_top g_time (d + 1)) (nI lo) (nI (es_Q rm i - es_Q rm' i)) (nI i) g_count (nI F) g_calls g_drafted g_top g_time b_isCut b_removed' b_stream b_type b_from b_by b_value b_version b_on b_call b_draftType b_draftValue b_op b_with b_length b_height b_torn b_stack b_position b_cells b_noted b_wanted b_formed b_cursor b_parked b_where b_often b_due b_many b_found := fun hr hr' => by
      unfold wY_scavenge_47
      rw [ec, es_z1]
      have := ih (i + 1) (by omega) (upd b_removed' i 1) ⟨h.1, h.2.1, h.2.2.1, fun j hj => ?_⟩
      · rw [es_Q_f hr, es_Q_t hr', show es_Q rm i + 1 - es_Q rm' i = es_Q rm i - es_Q rm' i + 1 by omega] at this
        exact ⟨hv, nm_e (nm_r (nI_1 _) (nm_r (nI_1 _) this))⟩
      · have hh := h.2.2.2 j hj
        by_cases z : j = i
        · subst z
          rw [pk_us, es_rx_l (by omega), hr']
          exact ⟨hh.1, rfl, hh.2.2⟩
        · rw [pk_un z]
          have : es_rx rm rm' (i + 1) j = es_rx rm rm' i j := by
            by_cases y : j < i
            · rw [es_rx_l (by omega), es_rx_l y]
            · rw [es_rx_g (by omega), es_rx_g (by omega)]
          rw [this]
          exact hh
    refine br_f (nI_ge (by omega) (by omega)) ⟨hv, ?_⟩
    rw [ec, er]
    refine es_bc (fun hr => ⟨hv, ?_⟩) (fun hr => nm_r (nI_1 i) ?_)
    · rw [r.1]
      refine es_bc (fun hc => es_y_hidden h W2 hin hFN (fun z => br_f es_10 (take hr ?_)) (fun z => br_t rfl (nm_r (nI_1 i) ?_))) (fun hc => take hr ?_)
      · rw [hrn, es_rn_new hr]; exact ⟨by omega, Or.inr z⟩
      · have e : rm' i = false := by
          cases e : rm' i
          · rfl
          · rw [hrn, es_rn_new hr] at e
            rcases e.2 with e2 | e2
            · rw [hc] at e2; cases e2
            · omega
        have := ih (i + 1) (by omega) b_removed' (same (e.trans hr.symm))
        rw [es_Q_f hr, es_Q_f e, Nat.add_sub_add_right] at this
        exact this
      · rw [hrn, es_rn_new hr]; exact ⟨by omega, Or.inl hc⟩
    · have e := hsub i hr
      have := ih (i + 1) (by omega) b_removed' (same (e.trans hr.symm))
      rw [es_Q_t hr, es_Q_t e] at this
      exact this
end ES33
section ES33b
theorem i_vc_scavenge {k : Nat} {u : SX} {v : SY} (I : i_Rel k u v) (hk : k + 4 ≤ 2048) : wpX_scavenge (fun r u' => wpY_scavenge (fun r' v' => r' = r ∧ i_Rel (k + 4) u' v') v) u := by
  refine es_el (P := fun u v => wpX_scavenge (fun r u' => wpY_scavenge (fun r' v' => r' = r ∧ i_Rel (k + 4) u' v') v) u) ?_ u v I
  intro f_held f_records f_flushed f_summed f_draft f_drafted f_seen f_time f_taken a_at a_version a_value a_originAt a_stream a_type a_originBy a_originCode a_goesOn a_events a_cuts a_firm a_cutsGone a_byVersion a_byOrigin a_draftType a_draftValue a_dOp a_dC a_height a_clash a_pOp a_pSize a_pC a_position a_cell a_noted a_stack a_before a_shown a_gType a_gTaken a_gWaiting a_kCount a_gCursor a_gParked a_kCursor a_tAt a_tDue a_wAt a_kAt a_tTimes a_wTimes a_kTimes a_upTo g_count g_flushed g_calls g_drafted g_top g_time b_isCut b_removed b_stream b_type b_from b_by b_value b_version b_on b_call b_draftType b_draftValue b_op b_with b_length b_height b_torn b_stack b_position b_cells b_noted b_wanted b_formed b_cursor b_parked b_where b_often b_due b_many b_found N F C L rm h1 h2 h3 h4 h5 h6 h7 h8 h9 h10
  show wpX_scavenge (fun r u' => wpY_scavenge (fun r' v' => r' = r ∧ i_Rel (k + 4) u' v') (g_count, g_flushed, g_calls, g_drafted, g_top, g_time, b_isCut, b_removed, b_stream, b_type, b_from, b_by, b_value, b_version, b_on, b_call, b_draftType, b_draftValue, b_op, b_with, b_length, b_height, b_torn, b_stack, b_position, b_cells, b_noted, b_wanted, b_formed, b_cursor, b_parked, b_where, b_often, b_due, b_many, b_found)) (f_held, f_records, f_flushed, f_summed, f_draft, f_drafted, f_seen, f_time, f_taken, a_at, a_version, a_value, a_originAt, a_stream, a_type, a_originBy, a_originCode, a_goesOn, a_events, a_cuts, a_firm, a_cutsGone, a_byVersion, a_byOrigin, a_upTo, a_draftType, a_draftValue, a_dOp, a_dC, a_height, a_clash, a_pOp, a_pSize, a_pC, a_position, a_cell, a_noted, a_stack, a_before, a_shown, a_gType, a_gTaken, a_gWaiting, a_kCount, a_gCursor, a_gParked, a_kCursor, a_tAt, a_tDue, a_wAt, a_kAt, a_tTimes, a_wTimes, a_kTimes)
  have hN := h3.1
  have hFN := h3.2.1
  obtain ⟨lo, hlo, hLP, hLG, lX, lY⟩ := es_low (f_held := f_held) (f_records := f_records) (f_flushed := f_flushed) (f_summed := f_summed) (f_draft := f_draft) (f_drafted := f_drafted) (f_seen := f_seen) (f_time := f_time) (f_taken := f_taken) (a_at := a_at) (a_version := a_version) (a_value := a_value) (a_originAt := a_originAt) (a_stream := a_stream) (a_type := a_type) (a_originBy := a_originBy) (a_originCode := a_originCode) (a_goesOn := a_goesOn) (a_events := a_events) (a_cuts := a_cuts) (a_firm := a_firm) (a_cutsGone := a_cutsGone) (a_byVersion := a_byVersion) (a_byOrigin := a_byOrigin) (a_upTo := a_upTo) (a_draftType := a_draftType) (a_draftValue := a_draftValue) (a_dOp := a_dOp) (a_dC := a_dC) (a_height := a_height) (a_clash := a_clash) (a_pOp := a_pOp) (a_pSize := a_pSize) (a_pC := a_pC) (a_position := a_position) (a_cell := a_cell) (a_noted := a_noted) (a_stack := a_stack) (a_before := a_before) (a_shown := a_shown) (a_gType := a_gType) (a_gTaken := a_gTaken) (a_gWaiting := a_gWaiting) (a_kCount := a_kCount) (a_gCursor := a_gCursor) (a_gParked := a_gParked) (a_kCursor := a_kCursor) (a_tAt := a_tAt) (a_tDue := a_tDue) (a_wAt := a_wAt) (a_kAt := a_kAt) (a_tTimes := a_tTimes) (a_wTimes := a_wTimes) (a_kTimes := a_kTimes) (g_count := g_count) (g_flushed := g_flushed) (g_calls := g_calls) (g_drafted := g_drafted) (g_top := g_top) (g_time := g_time) (b_isCut := b_isCut) (b_removed := b_removed) (b_stream := b_stream) (b_type := b_type) (b_from := b_from) (b_by := b_by) (b_value := b_value) (b_version := b_version) (b_on := b_on) (b_call := b_call) (b_draftType := b_draftType) (b_draftValue := b_draftValue) (b_op := b_op) (b_with := b_with) (b_length := b_length) (b_height := b_height) (b_torn := b_torn) (b_stack := b_stack) (b_position := b_position) (b_cells := b_cells) (b_noted := b_noted) (b_wanted := b_wanted) (b_formed := b_formed) (b_cursor := b_cursor) (b_parked := b_parked) (b_where := b_where) (b_often := b_often) (b_due := b_due) (b_many := b_many) (b_found := b_found) (Nat.le_trans hFN hN) h8 h6 h7 h1.2.2.1 h2.2.1
  obtain ⟨rfl, rfl, rfl, T, A, G, HV, HO, S⟩ := h1
  obtain ⟨rfl, rfl, rfl, hr⟩ := h2
  obtain ⟨rm', hrn⟩ : ∃ rm', rm' = es_rn L rm lo F := ⟨_, rfl⟩
  have hsub : ∀ i, rm i = true → rm' i = true := fun i hi => by rw [hrn]; exact es_rn_of hi
  have hnew : ∀ i, rm' i = true → rm i = true ∨ i < lo := fun i hi => by
    cases e : rm i
    · rw [hrn, es_rn_new e] at hi; exact Or.inr hi.1
    · exact Or.inl rfl
  have W' : es_WL N F C L rm' := es_WL_rm h3 hsub (by rw [hrn]; exact es_rn_W h3 hlo)
  have hJ' : es_PJ N F rm' a_pSize a_position a_cell a_noted b_position b_cells b_noted := fun p hp hz => by
    obtain ⟨f1, P, K, g1, g2, g3, g4, g5, g6, g7, g8, g9⟩ := h7 p hp hz
    refine ⟨f1, P, K, g1, g2, g3, g4, g5, g6, g7, fun i hi => ?_, g9⟩
    rcases hnew i hi with z | z
    · exact g8 i z
    · have := (hLP p hp).resolve_left hz
      rw [g4, nI_leI (by omega) (by omega)] at this
      omega
  have hR' : ∀ g, g < 2 → es_GR N F rm' a_gType a_gTaken a_gWaiting a_kCount a_gCursor a_gParked a_kCursor a_tAt a_tDue a_wAt a_kAt a_tTimes a_wTimes a_kTimes b_wanted b_formed b_cursor b_parked b_where b_often b_due b_many g := fun g hg => by
    obtain ⟨nt, nw, nk, c, kc, a1, b1, p, f, rest⟩ := h8 g hg
    refine ⟨nt, nw, nk, c, kc, a1, b1, p, ?_, rest⟩
    rcases f with f | ⟨t, t1, t2, t3, t4, t5⟩
    · exact Or.inl f
    · refine Or.inr ⟨t, t1, t2, t3, t4, fun i hi => ?_⟩
      rcases hnew i hi with z | z
      · exact t5 i z
      · have hl := (hLG g hg).resolve_left (by rw [t2]; exact es_nm (by omega))
        obtain ⟨b11, b12, b13, b14, b15, b16, b17⟩ := b1
        have z1 := hl.1
        rw [b14, nI_leI (by omega) (by omega)] at z1
        exact ⟨by omega, fun j hj => Int32.lt_of_lt_of_le (nI_lt z (by omega)) (hl.2 j nk a1.2.2.2.2.2.2.2 a1.2.2.2.2.1 hj)⟩
  have hY : ∀ (r : Int32) (X' : SX), r = nI (es_Q rm N - es_Q rm' N) → (∀ b_removed', es_CY N F C L rm' (nI N) (nI F) (nI C) b_isCut b_removed' b_stream b_type b_from b_by b_value b_version b_on b_call → i_Rel (k + 4) X' (nI N, nI F, nI C, g_drafted, g_top, g_time, b_isCut, b_removed', b_stream, b_type, b_from, b_by, b_value, b_version, b_on, b_call, b_draftType, b_draftValue, b_op, b_with, b_length, b_height, b_torn, b_stack, b_position, b_cells, b_noted, b_wanted, b_formed, b_cursor, b_parked, b_where, b_often, b_due, b_many, b_found)) → wpY_scavenge (fun r' v' => r' = r ∧ i_Rel (k + 4) X' v') (nI N, nI F, nI C, g_drafted, g_top, g_time, b_isCut, b_removed, b_stream, b_type, b_from, b_by, b_value, b_version, b_on, b_call, b_draftType, b_draftValue, b_op, b_with, b_length, b_height, b_torn, b_stack, b_position, b_cells, b_noted, b_wanted, b_formed, b_cursor, b_parked, b_where, b_often, b_due, b_many, b_found) := fun r X' hr0 hX => by
    have key := es_y_sc9 (g_count := nI N) (g_calls := nI C) (g_drafted := g_drafted) (g_top := g_top) (g_time := g_time) (b_isCut := b_isCut) (b_stream := b_stream) (b_type := b_type) (b_from := b_from) (b_by := b_by) (b_value := b_value) (b_version := b_version) (b_on := b_on) (b_call := b_call) (b_draftType := b_draftType) (b_draftValue := b_draftValue) (b_op := b_op) (b_with := b_with) (b_length := b_length) (b_height := b_height) (b_torn := b_torn) (b_stack := b_stack) (b_position := b_position) (b_cells := b_cells) (b_noted := b_noted) (b_wanted := b_wanted) (b_formed := b_formed) (b_cursor := b_cursor) (b_parked := b_parked) (b_where := b_where) (b_often := b_often) (b_due := b_due) (b_many := b_many) (b_found := b_found) h3 hlo hrn (post := fun r' v' => r' = r ∧ i_Rel (k + 4) X' v') (fun b_removed' hcy => ⟨?_, hX b_removed' hcy⟩) lo 0 (by omega) b_removed (by rw [es_rx_0]; exact ⟨rfl, rfl, rfl, hr⟩)
    · rw [es_Q_0, es_Q_0, nI_0] at key
      unfold wpY_scavenge
      exact lY _ ⟨_, key⟩
    · rw [hr0]
      refine congrArg nI ?_
      have st : ∀ m, lo ≤ m → es_Q rm m - es_Q rm' m = es_Q rm lo - es_Q rm' lo := fun m => by
        induction m with
        | zero => intro z; rw [show lo = 0 by omega]
        | succ m ih =>
          intro z
          by_cases c : lo = m + 1
          · rw [c]
          · have e : rm' m = rm m := by rw [hrn]; exact es_rn_hi (by omega)
            have ih' := ih (by omega)
            cases e2 : rm m
            · rw [es_Q_f e2, es_Q_f (e.trans e2), Nat.add_sub_add_right]; exact ih'
            · rw [es_Q_t e2, es_Q_t (e.trans e2)]; exact ih'
      exact (st N (by omega)).symm
  have AG' : ∀ cG : Nat → Int32, (∀ s, s < 5 → cG s = nI (es_G L rm' s N)) → es_AG N F L rm' a_events a_cuts a_firm cG := fun cG hG s hs => by
    obtain ⟨q1, q2, q3, -⟩ := A s hs
    exact ⟨q1, q2, q3, hG s hs⟩
  have key := es_x_sc9 (f_records := nI N) (f_flushed := nI F) (f_summed := f_summed) (f_draft := f_draft) (f_drafted := f_drafted) (f_seen := f_seen) (f_time := f_time) (f_taken := f_taken) (a_events := a_events) (a_cuts := a_cuts) (a_firm := a_firm) (a_byVersion := a_byVersion) (a_byOrigin := a_byOrigin) (a_upTo := a_upTo) (a_draftType := a_draftType) (a_draftValue := a_draftValue) (a_dOp := a_dOp) (a_dC := a_dC) (a_height := a_height) (a_clash := a_clash) (a_pOp := a_pOp) (a_pSize := a_pSize) (a_pC := a_pC) (a_position := a_position) (a_cell := a_cell) (a_noted := a_noted) (a_stack := a_stack) (a_before := a_before) (a_shown := a_shown) (a_gType := a_gType) (a_gTaken := a_gTaken) (a_gWaiting := a_gWaiting) (a_kCount := a_kCount) (a_gCursor := a_gCursor) (a_gParked := a_gParked) (a_kCursor := a_kCursor) (a_tAt := a_tAt) (a_tDue := a_tDue) (a_wAt := a_wAt) (a_kAt := a_kAt) (a_tTimes := a_tTimes) (a_wTimes := a_wTimes) (a_kTimes := a_kTimes) h3 hlo hrn (fun s hs => (A s hs).2.2.1) (post := fun r u' => wpY_scavenge (fun r' v' => r' = r ∧ i_Rel (k + 4) u' v') (nI N, nI F, nI C, g_drafted, g_top, g_time, b_isCut, b_removed, b_stream, b_type, b_from, b_by, b_value, b_version, b_on, b_call, b_draftType, b_draftValue, b_op, b_with, b_length, b_height, b_torn, b_stack, b_position, b_cells, b_noted, b_wanted, b_formed, b_cursor, b_parked, b_where, b_often, b_due, b_many, b_found))
    (fun a_at' a_version' a_value' a_originAt' a_stream' a_type' a_originBy' a_originCode' a_goesOn' cG heq hT hG => hY _ _ (by rw [heq, Nat.sub_self]; rfl) (fun b_removed' hcy => es_mk ⟨rfl, rfl, rfl, fun i hi hri => (hT i hi hri).1, AG' cG hG, fun i hF hi => (hT i hi (es_rmN W' hF)).2 hF, by rw [heq]; exact HV, by rw [heq]; exact HO, by rw [heq]; exact S⟩ hcy W' (by omega) h5 h6 hJ' hR' h9 h10))
    (fun a_at' a_version' a_value' a_originAt' a_stream' a_type' a_originBy' a_originCode' a_goesOn' cG hv hx hT hG k1 k2 => hY _ _ rfl (fun b_removed' hcy => es_mk ⟨rfl, rfl, rfl, fun i hi hri => (hT i hi hri).1, AG' cG hG, fun i hF hi => (hT i hi (es_rmN W' hF)).2 hF, k1, k2, Or.inl rfl⟩ hcy W' (by omega) h5 h6 hJ' hR' h9 h10))
    N 0 (by omega) (N + 1) (by omega) a_at a_version a_value a_originAt a_stream a_type a_originBy a_originCode a_goesOn a_cutsGone (fun i h => absurd h (Nat.not_lt_zero _)) (fun i _ hi hri => ⟨T i hi hri, fun hF => G i hF hi⟩) (fun s hs => by rw [es_rx_0]; exact (A s hs).2.2.2)
  rw [es_Q_0, es_Q_0, nI_0] at key
  unfold wpX_scavenge
  exact lX _ ⟨_, key⟩
end ES33b
end
section
/-! crash: X, from its end to its start -/
section ES34
def es_fc (q r : Nat) : Nat := if r < q then 3 + r else r
def es_GB (a_kCursor a_kCount a_kAt a_kTimes gCu gT gW wA wT : Nat → Int32) (g : Nat) : Prop := gCu g = a_kCursor g ∧ gT g = 0 ∧ gW g = a_kCount g ∧ ∀ j, j < es_nt a_kCount g → wA (6 * g + j) = a_kAt (6 * g + j) ∧ wT (6 * g + j) = a_kTimes (6 * g + j)
variable {f_held f_records f_flushed f_summed f_draft f_drafted f_seen f_time f_taken : Int32} {a_at a_version a_value a_originAt a_stream a_type a_originBy a_originCode a_goesOn a_events a_cuts a_firm a_cutsGone a_byVersion a_byOrigin a_draftType a_draftValue a_dOp a_dC a_height a_clash a_pOp a_pSize a_pC a_position a_cell a_noted a_stack a_before a_shown a_gType a_gTaken a_gWaiting a_kCount a_gCursor a_gParked a_kCursor a_tAt a_tDue a_wAt a_kAt a_tTimes a_wTimes a_kTimes : Nat → Int32} {a_upTo : Nat → Int64} {N F C Z : Nat} {L : Nat → es_Ev} {rm : Nat → Bool} {pd : Prop}
theorem es_x_queue {g m : Nat} (hg : g < 2) (hm : m < 6) (e : a_gWaiting g = nI m) {x t : Int32} {post : SX → Prop} (hp : post (f_held, f_records, f_flushed, f_summed, f_draft, f_drafted, f_seen, f_time, f_taken, a_at, a_version, a_value, a_originAt, a_stream, a_type, a_originBy, a_originCode, a_goesOn, a_events, a_cuts, a_firm, a_cutsGone, a_byVersion, a_byOrigin, a_upTo, a_draftType, a_draftValue, a_dOp, a_dC, a_height, a_clash, a_pOp, a_pSize, a_pC, a_position, a_cell, a_noted, a_stack, a_before, a_shown, a_gType, a_gTaken, upd a_gWaiting g (nI (m + 1)), a_kCount, a_gCursor, a_gParked, a_kCursor, a_tAt, a_tDue, upd a_wAt (6 * g + m) x, a_kAt, a_tTimes, upd a_wTimes (6 * g + m) t, a_kTimes)) : wpX_queue post (f_held, f_records, f_flushed, f_summed, f_draft, f_drafted, f_seen, f_time, f_taken, a_at, a_version, a_value, a_originAt, a_stream, a_type, a_originBy, a_originCode, a_goesOn, a_events, a_cuts, a_firm, a_cutsGone, a_byVersion, a_byOrigin, a_upTo, a_draftType, a_draftValue, a_dOp, a_dC, a_height, a_clash, a_pOp, a_pSize, a_pC, a_position, a_cell, a_noted, a_stack, a_before, a_shown, a_gType, a_gTaken, a_gWaiting, a_kCount, a_gCursor, a_gParked, a_kCursor, a_tAt, a_tDue, a_wAt, a_kAt, a_tTimes, a_wTimes, a_kTimes) (nI g) x t := by
  have hv : vp_in (nI g) 2 := vp_in_nI hg (by decide)
  have hv2 : vp_in (nI (6 * g + m)) 12 := vp_in_nI (by omega) (by decide)
  have e6 : 6 * nI g + nI m = nI (6 * g + m) := by rw [es_6g, nI_add]
  unfold wpX_queue
  dsimp only
  rw [nI_clamp (show g < 2 ^ 31 by omega), e, nI_1, es_b8 (show m + 1 < 128 by omega)]
  refine ⟨hv, hv, nm_e (nm_r e6 ?_)⟩
  rw [nI_clamp (show 6 * g + m < 2 ^ 31 by omega)]
  exact ⟨hv2, nm_e ⟨hv2, nm_e hp⟩⟩
theorem es_x_gb31 {g nk : Nat} (hg : g < 2) (hn : nk ≤ 6) (e : a_kCount g = nI nk) {gW0 wA0 wT0 : Nat → Int32} {post : SX → Prop}
    (hp : ∀ gW wA wT, gW g = nI nk → (∀ r, r ≠ g → gW r = gW0 r) → (∀ j, j < nk → wA (6 * g + j) = a_kAt (6 * g + j) ∧ wT (6 * g + j) = a_kTimes (6 * g + j)) → (∀ i, i < 6 * g ∨ 6 * g + 6 ≤ i → wA i = wA0 i ∧ wT i = wT0 i) → post (f_held, f_records, f_flushed, f_summed, f_draft, f_drafted, f_seen, f_time, f_taken, a_at, a_version, a_value, a_originAt, a_stream, a_type, a_originBy, a_originCode, a_goesOn, a_events, a_cuts, a_firm, a_cutsGone, a_byVersion, a_byOrigin, a_upTo, a_draftType, a_draftValue, a_dOp, a_dC, a_height, a_clash, a_pOp, a_pSize, a_pC, a_position, a_cell, a_noted, a_stack, a_before, a_shown, a_gType, a_gTaken, gW, a_kCount, a_gCursor, a_gParked, a_kCursor, a_tAt, a_tDue, wA, a_kAt, a_tTimes, wT, a_kTimes)) :
    ∀ d m, m + d = nk → ∀ gW wA wT, gW g = nI m → (∀ r, r ≠ g → gW r = gW0 r) → (∀ j, j < m → wA (6 * g + j) = a_kAt (6 * g + j) ∧ wT (6 * g + j) = a_kTimes (6 * g + j)) → (∀ i, i < 6 * g ∨ 6 * g + 6 ≤ i → wA i = wA0 i ∧ wT i = wT0 i) → wX_goBack_31 post (nI g) (d + 1) (nI (6 * g + m)) f_held f_records f_flushed f_summed f_draft f_drafted f_seen f_time f_taken a_at a_version a_value a_originAt a_stream a_type a_originBy a_originCode a_goesOn a_events a_cuts a_firm a_cutsGone a_byVersion a_byOrigin a_upTo a_draftType a_draftValue a_dOp a_dC a_height a_clash a_pOp a_pSize a_pC a_position a_cell a_noted a_stack a_before a_shown a_gType a_gTaken gW a_kCount a_gCursor a_gParked a_kCursor a_tAt a_tDue wA a_kAt a_tTimes wT a_kTimes := by
  have hv : vp_in (nI g) 2 := vp_in_nI hg (by decide)
  have cg : (nI g).toNatClampNeg = g := nI_clamp (by omega)
  intro d
  induction d with
  | zero =>
    intro m hm gW wA wT h1 h2 h3 h4
    have e' : m = nk := by omega
    subst e'
    refine ⟨hv, ?_⟩
    rw [cg, es_6g, e, nI_add]
    exact br_t (nI_le (Nat.le_refl _) (by omega)) (hp gW wA wT h1 h2 h3 h4)
  | succ d ih =>
    intro m hm gW wA wT h1 h2 h3 h4
    have hv2 : vp_in (nI (6 * g + m)) 12 := vp_in_nI (by omega) (by decide)
    refine ⟨hv, ?_⟩
    rw [cg, es_6g, e, nI_add, nI_clamp (show 6 * g + m < 2 ^ 31 by omega)]
    refine br_f (nI_ge (by omega) (by omega)) ⟨hv2, hv2, es_x_queue hg (by omega) h1 (nm_r (nI_1 _) ?_)⟩
    refine ih (m + 1) (by omega) _ _ _ pk_us (fun r hr => (pk_un hr).trans (h2 r hr)) (fun j hj => ?_) (fun i hi => ?_)
    · by_cases c : j = m
      · rw [c, pk_us, pk_us]; exact ⟨rfl, rfl⟩
      · rw [pk_un (by omega), pk_un (by omega)]; exact h3 j (by omega)
    · rw [pk_un (by omega), pk_un (by omega)]; exact h4 i hi
theorem es_x_goBack {g nk : Nat} (hg : g < 2) (hn : nk ≤ 6) (e : a_kCount g = nI nk) {post : SX → Prop}
    (hp : ∀ gW wA wT, gW g = nI nk → (∀ r, r ≠ g → gW r = a_gWaiting r) → (∀ j, j < nk → wA (6 * g + j) = a_kAt (6 * g + j) ∧ wT (6 * g + j) = a_kTimes (6 * g + j)) → (∀ i, i < 6 * g ∨ 6 * g + 6 ≤ i → wA i = a_wAt i ∧ wT i = a_wTimes i) → post (f_held, f_records, f_flushed, f_summed, f_draft, f_drafted, f_seen, f_time, f_taken, a_at, a_version, a_value, a_originAt, a_stream, a_type, a_originBy, a_originCode, a_goesOn, a_events, a_cuts, a_firm, a_cutsGone, a_byVersion, a_byOrigin, a_upTo, a_draftType, a_draftValue, a_dOp, a_dC, a_height, a_clash, a_pOp, a_pSize, a_pC, a_position, a_cell, a_noted, a_stack, a_before, a_shown, a_gType, upd a_gTaken g 0, gW, a_kCount, upd a_gCursor g (a_kCursor g), a_gParked, a_kCursor, a_tAt, a_tDue, wA, a_kAt, a_tTimes, wT, a_kTimes)) : wpX_goBack post (f_held, f_records, f_flushed, f_summed, f_draft, f_drafted, f_seen, f_time, f_taken, a_at, a_version, a_value, a_originAt, a_stream, a_type, a_originBy, a_originCode, a_goesOn, a_events, a_cuts, a_firm, a_cutsGone, a_byVersion, a_byOrigin, a_upTo, a_draftType, a_draftValue, a_dOp, a_dC, a_height, a_clash, a_pOp, a_pSize, a_pC, a_position, a_cell, a_noted, a_stack, a_before, a_shown, a_gType, a_gTaken, a_gWaiting, a_kCount, a_gCursor, a_gParked, a_kCursor, a_tAt, a_tDue, a_wAt, a_kAt, a_tTimes, a_wTimes, a_kTimes) (nI g) := by
  have hv : vp_in (nI g) 2 := vp_in_nI hg (by decide)
  have key := es_x_gb31 (f_held := f_held) (f_records := f_records) (f_flushed := f_flushed) (f_summed := f_summed) (f_draft := f_draft) (f_drafted := f_drafted) (f_seen := f_seen) (f_time := f_time) (f_taken := f_taken) (a_at := a_at) (a_version := a_version) (a_value := a_value) (a_originAt := a_originAt) (a_stream := a_stream) (a_type := a_type) (a_originBy := a_originBy) (a_originCode := a_originCode) (a_goesOn := a_goesOn) (a_events := a_events) (a_cuts := a_cuts) (a_firm := a_firm) (a_cutsGone := a_cutsGone) (a_byVersion := a_byVersion) (a_byOrigin := a_byOrigin) (a_upTo := a_upTo) (a_draftType := a_draftType) (a_draftValue := a_draftValue) (a_dOp := a_dOp) (a_dC := a_dC) (a_height := a_height) (a_clash := a_clash) (a_pOp := a_pOp) (a_pSize := a_pSize) (a_pC := a_pC) (a_position := a_position) (a_cell := a_cell) (a_noted := a_noted) (a_stack := a_stack) (a_before := a_before) (a_shown := a_shown) (a_gType := a_gType) (a_gTaken := upd a_gTaken g 0) (a_kCount := a_kCount) (a_gCursor := upd a_gCursor g (a_kCursor g)) (a_gParked := a_gParked) (a_kCursor := a_kCursor) (a_tAt := a_tAt) (a_tDue := a_tDue) (a_kAt := a_kAt) (a_tTimes := a_tTimes) (a_kTimes := a_kTimes) hg hn e hp nk 0 (by omega) (upd a_gWaiting g 0) a_wAt a_wTimes pk_us (fun r hr => pk_un hr) (fun j h => absurd h (Nat.not_lt_zero _)) (fun _ _ => ⟨rfl, rfl⟩)
  unfold wpX_goBack
  dsimp only
  rw [nI_clamp (show g < 2 ^ 31 by omega), es_nb0, es_6g]
  exact ⟨hv, hv, nm_e ⟨hv, nm_e ⟨hv, nm_e (nm_e ⟨_, key⟩)⟩⟩⟩
theorem es_x_cr382 {x5 : Int32} (W : es_WL N F C L rm) (T : es_XT N L rm a_at a_version a_value a_originAt a_stream a_type a_originBy a_originCode) (hk : ∀ g, g < 2 → a_kCount g = nI (es_nt a_kCount g) ∧ es_nt a_kCount g ≤ 6) {post : Int32 → SX → Prop}
    (hp : ∀ gCu gT gW wA wT hv hx, (∀ g, g < 2 → es_GB a_kCursor a_kCount a_kAt a_kTimes gCu gT gW wA wT g) → es_HV N L rm hv → es_HO N L rm hx → post x5 (nI (es_Q rm N), f_records, f_flushed, 0, f_draft, f_drafted, f_seen, f_time, f_taken, a_at, a_version, a_value, a_originAt, a_stream, a_type, a_originBy, a_originCode, a_goesOn, a_events, a_cuts, a_firm, a_cutsGone, hv, hx, a_upTo, a_draftType, a_draftValue, a_dOp, a_dC, a_height, a_clash, a_pOp, a_pSize, a_pC, a_position, a_cell, a_noted, a_stack, a_before, a_shown, a_gType, gT, gW, a_kCount, gCu, a_gParked, a_kCursor, a_tAt, a_tDue, wA, a_kAt, a_tTimes, wT, a_kTimes)) :
    ∀ d q, q + d = 2 → ∀ gCu gT gW wA wT, (∀ g, g < q → es_GB a_kCursor a_kCount a_kAt a_kTimes gCu gT gW wA wT g) → wX_crash_382 post x5 (d + 1) (nI q) (nI (es_Q rm N)) f_records f_flushed f_summed f_draft f_drafted f_seen f_time f_taken a_at a_version a_value a_originAt a_stream a_type a_originBy a_originCode a_goesOn a_events a_cuts a_firm a_cutsGone a_byVersion a_byOrigin a_upTo a_draftType a_draftValue a_dOp a_dC a_height a_clash a_pOp a_pSize a_pC a_position a_cell a_noted a_stack a_before a_shown a_gType gT gW a_kCount gCu a_gParked a_kCursor a_tAt a_tDue wA a_kAt a_tTimes wT a_kTimes := by
  intro d
  induction d with
  | zero =>
    intro q hq gCu gT gW wA wT h
    have e : q = 2 := by omega
    subst e
    exact br_t (nI_le (a := 2) (b := 2) (by omega) (by decide)) (es_x_reindex W T (fun hv hx k1 k2 => hp gCu gT gW wA wT hv hx h k1 k2))
  | succ d ih =>
    intro q hq gCu gT gW wA wT h
    obtain ⟨e1, e2⟩ := hk q (by omega)
    refine br_f (nI_ge (b := 2) (by omega) (by decide)) (es_x_goBack (show q < 2 by omega) e2 e1 (fun gW' wA' wT' k1 k2 k3 k4 => nm_r (nI_1 q) ?_))
    refine ih (q + 1) (by omega) _ _ _ _ _ (fun g hg => ?_)
    by_cases c : g = q
    · subst c
      exact ⟨pk_us, pk_us, k1.trans e1.symm, k3⟩
    · obtain ⟨h1, h2, h3, h4⟩ := h g (by omega)
      have := (hk g (by omega)).2
      exact ⟨(pk_un c).trans h1, (pk_un c).trans h2, (k2 g c).trans h3, fun j hj => ⟨(k4 _ (by omega)).1.trans (h4 j hj).1, (k4 _ (by omega)).2.trans (h4 j hj).2⟩⟩
theorem es_x_cr349 {x5 : Int32} {post : Int32 → SX → Prop} (hp : ∀ pos cell nt, es_RW a_position a_cell pos cell (es_fc 3) → (∀ p, p < 3 → nt p = 0) → ∃ n, wX_crash_382 post x5 n 0 f_held f_records f_flushed f_summed f_draft f_drafted f_seen f_time f_taken a_at a_version a_value a_originAt a_stream a_type a_originBy a_originCode a_goesOn a_events a_cuts a_firm a_cutsGone a_byVersion a_byOrigin a_upTo a_draftType a_draftValue a_dOp a_dC a_height a_clash a_pOp a_pSize a_pC pos cell nt a_stack a_before a_shown a_gType a_gTaken a_gWaiting a_kCount a_gCursor a_gParked a_kCursor a_tAt a_tDue a_wAt a_kAt a_tTimes a_wTimes a_kTimes) :
    ∀ d q, q + d = 3 → ∀ pos cell nt, es_RW a_position a_cell pos cell (es_fc q) → (∀ p, p < q → nt p = 0) → wX_crash_349 post x5 (d + 1) (nI q) f_held f_records f_flushed f_summed f_draft f_drafted f_seen f_time f_taken a_at a_version a_value a_originAt a_stream a_type a_originBy a_originCode a_goesOn a_events a_cuts a_firm a_cutsGone a_byVersion a_byOrigin a_upTo a_draftType a_draftValue a_dOp a_dC a_height a_clash a_pOp a_pSize a_pC pos cell nt a_stack a_before a_shown a_gType a_gTaken a_gWaiting a_kCount a_gCursor a_gParked a_kCursor a_tAt a_tDue a_wAt a_kAt a_tTimes a_wTimes a_kTimes := by
  intro d
  induction d with
  | zero =>
    intro q hq pos cell nt R h0
    have e : q = 3 := by omega
    subst e
    exact br_t (nI_le (a := 3) (b := 3) (by omega) (by decide)) (hp pos cell nt R h0)
  | succ d ih =>
    intro q hq pos cell nt R h0
    have hv : vp_in (nI q) 3 := vp_in_nI (by omega) (by decide)
    have cq : (nI q).toNatClampNeg = q := nI_clamp (by omega)
    have e3 : 3 + nI q = nI (3 + q) := nI_add 3 q
    refine br_f (nI_ge (b := 3) (by omega) (by decide)) ?_
    rw [cq, es_z0, e3]
    refine ⟨hv, nm_e (es_x_copyR (by omega) (by omega) (by omega) R (fun pos' cell' R' => nm_r (nI_1 q) ?_))⟩
    refine ih (q + 1) (by omega) _ _ _ (es_RW_cg R' (fun r _ => ?_)) (fun p hp' => ?_)
    · unfold es_fc
      by_cases c : r = q
      · rw [if_pos c, if_neg (by omega), if_pos (by omega), c]
      · rw [if_neg c]
        by_cases c2 : r < q
        · rw [if_pos c2, if_pos (by omega)]
        · rw [if_neg c2, if_neg (by omega)]
    · by_cases c : p = q
      · rw [c, pk_us]
      · rw [pk_un c]; exact h0 p (by omega)
theorem es_x_cr305 {x5 : Int32} {post : Int32 → SX → Prop} (hp : ∀ fi, (∀ s, s < 5 → fi s = a_cuts s) → ∃ n, wX_crash_349 post x5 n 0 f_held f_records f_flushed f_summed 0 0 (-1) f_time f_taken a_at a_version a_value a_originAt a_stream a_type a_originBy a_originCode a_goesOn a_events a_cuts fi a_cutsGone a_byVersion a_byOrigin a_upTo a_draftType a_draftValue a_dOp a_dC a_height a_clash a_pOp a_pSize a_pC a_position a_cell a_noted a_stack a_before a_shown a_gType a_gTaken a_gWaiting a_kCount a_gCursor a_gParked a_kCursor a_tAt a_tDue a_wAt a_kAt a_tTimes a_wTimes a_kTimes) :
    ∀ d q, q + d = 5 → ∀ fi, (∀ s, s < q → fi s = a_cuts s) → wX_crash_305 post x5 f_held f_records f_flushed f_summed f_draft f_drafted f_seen f_time f_taken (d + 1) (nI q) a_at a_version a_value a_originAt a_stream a_type a_originBy a_originCode a_goesOn a_events a_cuts fi a_cutsGone a_byVersion a_byOrigin a_upTo a_draftType a_draftValue a_dOp a_dC a_height a_clash a_pOp a_pSize a_pC a_position a_cell a_noted a_stack a_before a_shown a_gType a_gTaken a_gWaiting a_kCount a_gCursor a_gParked a_kCursor a_tAt a_tDue a_wAt a_kAt a_tTimes a_wTimes a_kTimes := by
  intro d
  induction d with
  | zero =>
    intro q hq fi h
    have e : q = 5 := by omega
    subst e
    exact br_t (nI_le (a := 5) (b := 5) (by omega) (by decide)) (hp fi h)
  | succ d ih =>
    intro q hq fi h
    have hv : vp_in (nI q) 5 := vp_in_nI (by omega) (by decide)
    have cq : (nI q).toNatClampNeg = q := nI_clamp (by omega)
    refine br_f (nI_ge (b := 5) (by omega) (by decide)) ⟨hv, hv, nm_e (nm_r (nI_1 q) (ih (q + 1) (by omega) _ (fun s hs => ?_)))⟩
    rw [cq]
    by_cases c : s = q
    · rw [c, pk_us]
    · rw [pk_un c]; exact h s (by omega)
theorem es_G_all (hr : ∀ i, rm i = true → i < N) (s : Nat) : es_G L (es_rx rm (fun _ => true) N) s N = es_M L s N := by
  apply es_ext
  intro v
  rw [es_G_lt, es_M_lt]
  constructor
  · rintro ⟨i, a, b, c⟩
    exact ⟨i, a, c⟩
  · rintro ⟨i, a, c⟩
    exact ⟨i, a, es_rx_l a, c⟩
theorem es_x_cr236 {x5 : Int32} (W : es_WL N F C L rm) (T : es_XT N L rm a_at a_version a_value a_originAt a_stream a_type a_originBy a_originCode) {post : Int32 → SX → Prop} (hp : ∀ cu, (∀ s, s < 5 → cu s = nI (es_G L (es_rx rm (fun _ => true) N) s N)) → ∃ n, wX_crash_305 post x5 (nI (es_Q rm N)) f_records f_flushed f_summed f_draft f_drafted f_seen f_time f_taken n 0 a_at a_version a_value a_originAt a_stream a_type a_originBy a_originCode a_goesOn a_events cu a_firm a_cutsGone a_byVersion a_byOrigin a_upTo a_draftType a_draftValue a_dOp a_dC a_height a_clash a_pOp a_pSize a_pC a_position a_cell a_noted a_stack a_before a_shown a_gType a_gTaken a_gWaiting a_kCount a_gCursor a_gParked a_kCursor a_tAt a_tDue a_wAt a_kAt a_tTimes a_wTimes a_kTimes) :
    ∀ d i, i + d = N → ∀ n, d < n → ∀ cu, (∀ s, s < 5 → cu s = nI (es_G L (es_rx rm (fun _ => true) i) s N)) → wX_crash_236 post x5 (nI (es_Q rm N)) f_records f_flushed f_summed f_draft f_drafted f_seen f_time f_taken n (nI (es_Q rm i)) a_at a_version a_value a_originAt a_stream a_type a_originBy a_originCode a_goesOn a_events cu a_firm a_cutsGone a_byVersion a_byOrigin a_upTo a_draftType a_draftValue a_dOp a_dC a_height a_clash a_pOp a_pSize a_pC a_position a_cell a_noted a_stack a_before a_shown a_gType a_gTaken a_gWaiting a_kCount a_gCursor a_gParked a_kCursor a_tAt a_tDue a_wAt a_kAt a_tTimes a_wTimes a_kTimes := by
  have hq := W.2.2.1
  intro d
  induction d with
  | zero =>
    intro i hi n hn cu h
    obtain ⟨m, rfl⟩ : ∃ m, n = m + 1 := ⟨n - 1, by omega⟩
    have e : i = N := by omega
    subst e
    exact br_t (nI_le (Nat.le_refl _) (by omega)) (hp cu h)
  | succ d ih =>
    intro i hi n hn cu h
    have hin : i < N := by omega
    cases hr : rm i
    · obtain ⟨m, rfl⟩ : ∃ m, n = m + 1 := ⟨n - 1, by omega⟩
      have hl := es_Q_lt hin hr
      obtain ⟨r1, r2, r3, r4⟩ := T i hin hr
      obtain ⟨w1, w2, -⟩ := W.2.2.2.2 i hin
      have hv : vp_in (nI (es_Q rm i)) 40 := vp_in_nI (by omega) (by decide)
      have ec : (nI (es_Q rm i)).toNatClampNeg = es_Q rm i := nI_clamp (by omega)
      have hs5 : vp_in (nI (es_s (L i))) 5 := vp_in_nI w1 (by decide)
      have es : (nI (es_s (L i))).toNatClampNeg = es_s (L i) := nI_clamp (by omega)
      have ih' := ih (i + 1) (by omega) m (by omega)
      rw [es_Q_f hr] at ih'
      refine br_f (nI_ge hl (by omega)) ⟨hv, ?_⟩
      rw [ec, r2, es]
      cases hc : es_c (L i)
      · rw [(r4 hc).1]
        exact br_t (nI_pos' (by omega)) (nm_r (nI_1 _) (ih' cu (fun s hs => by rw [h s hs, es_G_rn (Or.inr (Or.inl hc))])))
      · obtain ⟨ww, we⟩ := es_ww W hin hc
        have hg : es_G L (es_rx rm (fun _ => true) i) (es_s (L i)) N ≤ 2000 := es_mx_le (fun j hj hp => by
          simp at hp
          exact (es_ww W hj hp.2.1).1)
        rw [(r3 hc).1, (r3 hc).2, we, h _ w1]
        refine br_f es_n0 ⟨hv, hv, hs5, pk_le (es_w (L i)) (es_G L (es_rx rm (fun _ => true) i) (es_s (L i)) N) (fun z => nm_r (nI_1 _) (ih' cu (fun s hs => ?_))) (fun z => ⟨hv, hv, hs5, nm_e (nm_r (nI_1 _) (ih' _ (fun s hs => ?_)))⟩)⟩
        · rw [h s hs]
          by_cases c : es_s (L i) = s
          · rw [← c, es_G_rx hin hr rfl hc rfl, if_neg (by omega)]
          · rw [es_G_rn (Or.inr (Or.inr c))]
        · by_cases c : s = es_s (L i)
          · rw [c, pk_us, es_G_rx hin hr rfl hc rfl, if_pos z]
          · rw [pk_un c, h s hs, es_G_rn (Or.inr (Or.inr (fun z => c z.symm)))]
    · have := ih (i + 1) (by omega) n (by omega) cu (fun s hs => by rw [h s hs, es_G_rn (Or.inl hr)])
      rw [es_Q_t hr] at this
      exact this
theorem es_x_cr207 {x5 : Int32} {post : Int32 → SX → Prop} (hp : ∀ cu, (∀ s, s < 5 → cu s = a_cutsGone s) → ∃ n, wX_crash_236 post x5 f_held f_records f_flushed f_summed f_draft f_drafted f_seen f_time f_taken n 0 a_at a_version a_value a_originAt a_stream a_type a_originBy a_originCode a_goesOn a_events cu a_firm a_cutsGone a_byVersion a_byOrigin a_upTo a_draftType a_draftValue a_dOp a_dC a_height a_clash a_pOp a_pSize a_pC a_position a_cell a_noted a_stack a_before a_shown a_gType a_gTaken a_gWaiting a_kCount a_gCursor a_gParked a_kCursor a_tAt a_tDue a_wAt a_kAt a_tTimes a_wTimes a_kTimes) :
    ∀ d q, q + d = 5 → ∀ cu, (∀ s, s < q → cu s = a_cutsGone s) → wX_crash_207 post x5 f_held f_records f_flushed f_summed f_draft f_drafted f_seen f_time f_taken (d + 1) (nI q) a_at a_version a_value a_originAt a_stream a_type a_originBy a_originCode a_goesOn a_events cu a_firm a_cutsGone a_byVersion a_byOrigin a_upTo a_draftType a_draftValue a_dOp a_dC a_height a_clash a_pOp a_pSize a_pC a_position a_cell a_noted a_stack a_before a_shown a_gType a_gTaken a_gWaiting a_kCount a_gCursor a_gParked a_kCursor a_tAt a_tDue a_wAt a_kAt a_tTimes a_wTimes a_kTimes := by
  intro d
  induction d with
  | zero =>
    intro q hq fi h
    have e : q = 5 := by omega
    subst e
    exact br_t (nI_le (a := 5) (b := 5) (by omega) (by decide)) (hp fi h)
  | succ d ih =>
    intro q hq fi h
    have hv : vp_in (nI q) 5 := vp_in_nI (by omega) (by decide)
    have cq : (nI q).toNatClampNeg = q := nI_clamp (by omega)
    refine br_f (nI_ge (b := 5) (by omega) (by decide)) ⟨hv, hv, nm_e (nm_r (nI_1 q) (ih (q + 1) (by omega) _ (fun s hs => ?_)))⟩
    rw [cq]
    by_cases c : s = q
    · rw [c, pk_us]
    · rw [pk_un c]; exact h s (by omega)
theorem es_E_mono (L : Nat → es_Ev) (s : Nat) {i j : Nat} (h : i ≤ j) : es_E L s i ≤ es_E L s j := es_cn_mono _ j h
theorem es_x_cr146 {x5 : Int32} (W : es_WL N F C L rm) (T : es_XT N L rm a_at a_version a_value a_originAt a_stream a_type a_originBy a_originCode) (hF : F ≤ Z) (hZ : Z ≤ N) {post : Int32 → SX → Prop} (hp : ∀ ev, (∀ s, s < 5 → ev s = nI (es_E L s Z)) → ∃ n, wX_crash_207 post x5 (nI (es_Q rm Z)) (nI Z) (nI Z) f_summed f_draft f_drafted f_seen f_time f_taken n 0 a_at a_version a_value a_originAt a_stream a_type a_originBy a_originCode a_goesOn ev a_cuts a_firm a_cutsGone a_byVersion a_byOrigin a_upTo a_draftType a_draftValue a_dOp a_dC a_height a_clash a_pOp a_pSize a_pC a_position a_cell a_noted a_stack a_before a_shown a_gType a_gTaken a_gWaiting a_kCount a_gCursor a_gParked a_kCursor a_tAt a_tDue a_wAt a_kAt a_tTimes a_wTimes a_kTimes) :
    ∀ d i, i + d = N → Z ≤ i → ∀ ev, (∀ s, s < 5 → ev s = nI (es_E L s N - es_E L s i + es_E L s Z)) → wX_crash_146 post (nI (es_Q rm Z)) (nI Z) x5 (nI (es_Q rm N)) f_records f_flushed f_summed f_draft f_drafted f_seen f_time f_taken (d + 1) (nI (es_Q rm i)) a_at a_version a_value a_originAt a_stream a_type a_originBy a_originCode a_goesOn ev a_cuts a_firm a_cutsGone a_byVersion a_byOrigin a_upTo a_draftType a_draftValue a_dOp a_dC a_height a_clash a_pOp a_pSize a_pC a_position a_cell a_noted a_stack a_before a_shown a_gType a_gTaken a_gWaiting a_kCount a_gCursor a_gParked a_kCursor a_tAt a_tDue a_wAt a_kAt a_tTimes a_wTimes a_kTimes := by
  have hq := W.2.2.1
  have hN := W.1
  intro d
  induction d with
  | zero =>
    intro i hi hZi ev h
    have e : i = N := by omega
    subst e
    exact br_t (nI_le (Nat.le_refl _) (by omega)) (hp ev (fun s hs => by rw [h s hs, Nat.sub_self, Nat.zero_add]))
  | succ d ih =>
    intro i hi hZi ev h
    have hin : i < N := by omega
    have hr := es_rmN W (show F ≤ i by omega)
    have hl := es_Q_lt hin hr
    obtain ⟨r1, r2, r3, r4⟩ := T i hin hr
    obtain ⟨w1, w2, -⟩ := W.2.2.2.2 i hin
    have hv : vp_in (nI (es_Q rm i)) 40 := vp_in_nI (by omega) (by decide)
    have ec : (nI (es_Q rm i)).toNatClampNeg = es_Q rm i := nI_clamp (by omega)
    have hs5 : vp_in (nI (es_s (L i))) 5 := vp_in_nI w1 (by decide)
    have es : (nI (es_s (L i))).toNatClampNeg = es_s (L i) := nI_clamp (by omega)
    have ih' := ih (i + 1) (by omega) (by omega)
    rw [es_Q_f hr] at ih'
    refine br_f (nI_ge hl (by omega)) ⟨hv, ?_⟩
    rw [ec, r2, es]
    cases hc : es_c (L i)
    · have m1 := es_E_mono L (es_s (L i)) (show i + 1 ≤ N by omega)
      have e1 := es_E_t (L := L) (n := i) hc rfl
      rw [(r4 hc).1, h _ w1, es_m1 (by omega)]
      refine br_f (nI_pos (by omega)) ⟨hv, hs5, hs5, nm_e (nm_r (nI_1 _) (ih' _ (fun s hs => ?_)))⟩
      by_cases c : s = es_s (L i)
      · rw [c, pk_us, e1]
        exact congrArg nI (by omega)
      · rw [pk_un c, h s hs, es_E_f (Or.inr (fun z => c z.symm))]
    · rw [(r3 hc).1]
      exact br_t es_neg1 (nm_r (nI_1 _) (ih' ev (fun s hs => by rw [h s hs, es_E_f (Or.inl hc)])))
end ES34
end
section
/-! crash: X's start -/
section ES35
def es_st (L : Nat → es_Ev) (N F : Nat) : Nat → Nat
  | 0 => 0
  | S + 1 => if F < S + 1 ∧ S + 1 < N ∧ es_k (L S) = es_k (L (S + 1)) then es_st L N F S else S + 1
theorem es_st_t {L : Nat → es_Ev} {N F S : Nat} (h : F < S + 1 ∧ S + 1 < N ∧ es_k (L S) = es_k (L (S + 1))) : es_st L N F (S + 1) = es_st L N F S := if_pos h
theorem es_st_f {L : Nat → es_Ev} {N F S : Nat} (h : ¬ (F < S + 1 ∧ S + 1 < N ∧ es_k (L S) = es_k (L (S + 1)))) : es_st L N F (S + 1) = S + 1 := if_neg h
theorem es_st_F {L : Nat → es_Ev} {N F : Nat} : es_st L N F F = F := by
  cases F with
  | zero => rfl
  | succ F => exact es_st_f (by omega)
theorem es_st_b {L : Nat → es_Ev} {N F : Nat} : ∀ S, F ≤ S → F ≤ es_st L N F S ∧ es_st L N F S ≤ S
  | 0, h => ⟨h, Nat.le_refl _⟩
  | S + 1, h => by
    by_cases c : F < S + 1 ∧ S + 1 < N ∧ es_k (L S) = es_k (L (S + 1))
    · have := es_st_b (L := L) (N := N) S (show F ≤ S by omega)
      rw [es_st_t c]
      omega
    · rw [es_st_f c]; omega
variable {f_held f_records f_flushed f_summed f_draft f_drafted f_seen f_time f_taken : Int32} {a_at a_version a_value a_originAt a_stream a_type a_originBy a_originCode a_goesOn a_events a_cuts a_firm a_cutsGone a_byVersion a_byOrigin a_draftType a_draftValue a_dOp a_dC a_height a_clash a_pOp a_pSize a_pC a_position a_cell a_noted a_stack a_before a_shown a_gType a_gTaken a_gWaiting a_kCount a_gCursor a_gParked a_kCursor a_tAt a_tDue a_wAt a_kAt a_tTimes a_wTimes a_kTimes : Nat → Int32} {a_upTo : Nat → Int64} {N F C Z : Nat} {L : Nat → es_Ev} {rm : Nat → Bool} {pd : Prop}
theorem es_x_cr96 (W : es_WL N F C L rm) (T : es_XT N L rm a_at a_version a_value a_originAt a_stream a_type a_originBy a_originCode) (hF : F ≤ Z) (hZ : Z ≤ N) {post : Int32 → SX → Prop} (hp : wX_crash_132 post (nI (es_Q rm Z)) (nI Z) (nI (es_Q rm N)) (nI N) (nI F) f_summed f_draft f_drafted f_seen f_time f_taken a_at a_version a_value a_originAt a_stream a_type a_originBy a_originCode a_goesOn a_events a_cuts a_firm a_cutsGone a_byVersion a_byOrigin a_upTo a_draftType a_draftValue a_dOp a_dC a_height a_clash a_pOp a_pSize a_pC a_position a_cell a_noted a_stack a_before a_shown a_gType a_gTaken a_gWaiting a_kCount a_gCursor a_gParked a_kCursor a_tAt a_tDue a_wAt a_kAt a_tTimes a_wTimes a_kTimes) : wX_crash_96 post (nI (es_Q rm Z)) (nI (es_Q rm N)) (nI N) (nI F) f_summed f_draft f_drafted f_seen f_time f_taken a_at a_version a_value a_originAt a_stream a_type a_originBy a_originCode a_goesOn a_events a_cuts a_firm a_cutsGone a_byVersion a_byOrigin a_upTo a_draftType a_draftValue a_dOp a_dC a_height a_clash a_pOp a_pSize a_pC a_position a_cell a_noted a_stack a_before a_shown a_gType a_gTaken a_gWaiting a_kCount a_gCursor a_gParked a_kCursor a_tAt a_tDue a_wAt a_kAt a_tTimes a_wTimes a_kTimes := by
  have hq := W.2.2.1
  have hN := W.1
  have hqz := es_Q_mono rm hZ
  unfold wX_crash_96 wX_crash_128
  by_cases c : Z = F
  · subst c
    by_cases c0 : es_Q rm Z = 0
    · exact br_t (by rw [c0]; exact nI_le (a := 0) (b := 0) (by omega) (by decide)) hp
    · obtain ⟨i, hi, hr, hQ⟩ := es_Q_ex (rm := rm) (j := es_Q rm Z - 1) Z (by omega)
      have r1 := (T i (by omega) hr).1
      rw [hQ] at r1
      rw [es_m1 (show 0 < es_Q rm Z by omega), nI_clamp (show es_Q rm Z - 1 < 2 ^ 31 by omega), r1]
      exact br_f (nI_nle (by omega) (by omega)) ⟨vp_in_nI (by omega) (by decide), br_t (nI_lt hi (by omega)) hp⟩
  · obtain ⟨z, rfl⟩ : ∃ z, Z = z + 1 := ⟨Z - 1, by omega⟩
    have hr := es_rmN W (show F ≤ z by omega)
    have r1 := (T z (by omega) hr).1
    have hQ := es_Q_f hr
    rw [hQ] at hp hqz ⊢
    rw [nI_pred, nI_clamp (show es_Q rm z < 2 ^ 31 by omega), r1, nI_1]
    have hv : vp_in (nI (es_Q rm z)) 40 := vp_in_nI (by omega) (by decide)
    exact br_f (nI_nle (by omega) (by omega)) ⟨hv, br_f (nI_nlt (by omega) (by omega)) ⟨hv, hp⟩⟩
theorem es_x_cr60 (W : es_WL N F C L rm) (T : es_XT N L rm a_at a_version a_value a_originAt a_stream a_type a_originBy a_originCode) (G : es_GO N F L rm False a_goesOn) {post : Int32 → SX → Prop} : ∀ S, F ≤ S → S ≤ N → wX_crash_96 post (nI (es_Q rm (es_st L N F S))) (nI (es_Q rm N)) (nI N) (nI F) f_summed f_draft f_drafted f_seen f_time f_taken a_at a_version a_value a_originAt a_stream a_type a_originBy a_originCode a_goesOn a_events a_cuts a_firm a_cutsGone a_byVersion a_byOrigin a_upTo a_draftType a_draftValue a_dOp a_dC a_height a_clash a_pOp a_pSize a_pC a_position a_cell a_noted a_stack a_before a_shown a_gType a_gTaken a_gWaiting a_kCount a_gCursor a_gParked a_kCursor a_tAt a_tDue a_wAt a_kAt a_tTimes a_wTimes a_kTimes → wX_crash_60 post (nI (es_Q rm N)) (nI N) (nI F) f_summed f_draft f_drafted f_seen f_time f_taken a_at a_version a_value a_originAt a_stream a_type a_originBy a_originCode a_goesOn a_events a_cuts a_firm a_cutsGone a_byVersion a_byOrigin a_upTo a_draftType a_draftValue a_dOp a_dC a_height a_clash a_pOp a_pSize a_pC a_position a_cell a_noted a_stack a_before a_shown a_gType a_gTaken a_gWaiting a_kCount a_gCursor a_gParked a_kCursor a_tAt a_tDue a_wAt a_kAt a_tTimes a_wTimes a_kTimes (S + 1) (nI (es_Q rm S)) := by
  have hq := W.2.2.1
  have hN := W.1
  intro S
  induction S with
  | zero =>
    intro _ _ hp
    exact br_t (by rw [es_Q_0]; exact nI_le (a := 0) (b := 0) (by omega) (by decide)) hp
  | succ S ih =>
    intro hF hS hp
    have hqS := es_Q_mono rm hS
    by_cases c : F = S + 1
    · subst c
      rw [es_st_F] at hp
      by_cases c0 : es_Q rm (S + 1) = 0
      · exact br_t (by rw [c0]; exact nI_le (a := 0) (b := 0) (by omega) (by decide)) hp
      · obtain ⟨i, hi, hr, hQ⟩ := es_Q_ex (rm := rm) (j := es_Q rm (S + 1) - 1) (S + 1) (by omega)
        have r1 := (T i (by omega) hr).1
        rw [hQ] at r1
        refine br_f (nI_nle (by omega) (by omega)) ?_
        rw [es_m1 (show 0 < es_Q rm (S + 1) by omega), nI_clamp (show es_Q rm (S + 1) - 1 < 2 ^ 31 by omega), r1]
        exact ⟨vp_in_nI (by omega) (by decide), br_t (nI_lt hi (by omega)) hp⟩
    · have hr := es_rmN W (show F ≤ S by omega)
      have r1 := (T S (by omega) hr).1
      have g := (G S (by omega) (by omega)).2
      have hQ := es_Q_f hr
      have hv : vp_in (nI (es_Q rm S)) 40 := vp_in_nI (by omega) (by decide)
      refine br_f (by rw [hQ]; exact nI_nle (by omega) (by omega)) ?_
      rw [hQ, nI_pred, nI_clamp (show es_Q rm S < 2 ^ 31 by omega), r1]
      by_cases c2 : S + 1 < N ∧ es_k (L S) = es_k (L (S + 1))
      · rw [es_st_t ⟨by omega, c2.1, c2.2⟩] at hp
        exact ⟨hv, br_f (nI_nlt (by omega) (by omega)) ⟨hv, br_f (fun z => g.mp z (Or.inl c2)) (nm_r (pk_m1 _) (ih (by omega) (by omega) hp))⟩⟩
      · rw [es_st_f (fun z => c2 z.2), hQ] at hp
        exact ⟨hv, br_f (nI_nlt (by omega) (by omega)) ⟨hv, br_t (g.mpr (fun z => z.elim c2 (fun y => y.2))) hp⟩⟩
theorem es_x_cr38 (W : es_WL N F C L rm) (T : es_XT N L rm a_at a_version a_value a_originAt a_stream a_type a_originBy a_originCode) {S0 : Nat} (hF : F ≤ S0) {post : Int32 → SX → Prop} (hp : ∃ n, wX_crash_60 post (nI (es_Q rm N)) (nI N) (nI F) f_summed f_draft f_drafted f_seen f_time f_taken a_at a_version a_value a_originAt a_stream a_type a_originBy a_originCode a_goesOn a_events a_cuts a_firm a_cutsGone a_byVersion a_byOrigin a_upTo a_draftType a_draftValue a_dOp a_dC a_height a_clash a_pOp a_pSize a_pC a_position a_cell a_noted a_stack a_before a_shown a_gType a_gTaken a_gWaiting a_kCount a_gCursor a_gParked a_kCursor a_tAt a_tDue a_wAt a_kAt a_tTimes a_wTimes a_kTimes n (nI (es_Q rm S0))) : ∀ d S, S0 + d = S → S ≤ N → wX_crash_38 post (nI S0) (nI (es_Q rm N)) (nI N) (nI F) f_summed f_draft f_drafted f_seen f_time f_taken a_at a_version a_value a_originAt a_stream a_type a_originBy a_originCode a_goesOn a_events a_cuts a_firm a_cutsGone a_byVersion a_byOrigin a_upTo a_draftType a_draftValue a_dOp a_dC a_height a_clash a_pOp a_pSize a_pC a_position a_cell a_noted a_stack a_before a_shown a_gType a_gTaken a_gWaiting a_kCount a_gCursor a_gParked a_kCursor a_tAt a_tDue a_wAt a_kAt a_tTimes a_wTimes a_kTimes (d + 1) (nI (es_Q rm S)) := by
  have hq := W.2.2.1
  have hN := W.1
  intro d
  induction d with
  | zero =>
    intro S hS hSN
    have e : S = S0 := by omega
    subst e
    have hqS := es_Q_mono rm hSN
    by_cases c0 : es_Q rm S = 0
    · exact br_t (by rw [c0]; exact nI_le (a := 0) (b := 0) (by omega) (by decide)) hp
    · obtain ⟨i, hi, hr, hQ⟩ := es_Q_ex (rm := rm) (j := es_Q rm S - 1) S (by omega)
      have r1 := (T i (by omega) hr).1
      rw [hQ] at r1
      refine br_f (nI_nle (by omega) (by omega)) ?_
      rw [es_m1 (show 0 < es_Q rm S by omega), nI_clamp (show es_Q rm S - 1 < 2 ^ 31 by omega), r1]
      exact ⟨vp_in_nI (by omega) (by decide), br_t (nI_lt hi (by omega)) hp⟩
  | succ d ih =>
    intro S hS hSN
    obtain ⟨z, rfl⟩ : ∃ z, S = z + 1 := ⟨S - 1, by omega⟩
    have hr := es_rmN W (show F ≤ z by omega)
    have r1 := (T z (by omega) hr).1
    have hQ := es_Q_f hr
    have hqS := es_Q_mono rm hSN
    have ih' := ih z (by omega) (by omega)
    refine br_f (by rw [hQ]; exact nI_nle (by omega) (by omega)) ?_
    rw [hQ, nI_pred, nI_clamp (show es_Q rm z < 2 ^ 31 by omega), r1]
    exact ⟨vp_in_nI (by omega) (by decide), br_f (nI_nlt (by omega) (by omega)) (nm_r (pk_m1 _) ih')⟩
theorem es_WL_Z (W : es_WL N F C L rm) (hF : F ≤ Z) (hZ : Z ≤ N) : es_WL Z Z C L rm := by
  have := es_Q_mono rm hZ
  have h1 := W.1
  have h2 := W.2.2.1
  refine ⟨by omega, Nat.le_refl _, by omega, fun i hi => ?_, fun i hi => W.2.2.2.2 i (by omega)⟩
  obtain ⟨q1, q2⟩ := W.2.2.2.1 i hi
  exact ⟨by omega, q2.imp id (fun z => Nat.lt_of_lt_of_le z (es_M_mono hF))⟩
theorem es_x_crash (h : es_CX N F L rm False f_held f_records f_flushed f_summed a_at a_version a_value a_originAt a_stream a_type a_originBy a_originCode a_goesOn a_events a_cuts a_firm a_cutsGone a_byVersion a_byOrigin a_upTo) (W : es_WL N F C L rm) (hk : ∀ g, g < 2 → a_kCount g = nI (es_nt a_kCount g) ∧ es_nt a_kCount g ≤ 6) {p0 : Int32} {post : Int32 → SX → Prop} (hneg : ¬ 0 ≤ p0 → post (-1) (f_held, f_records, f_flushed, f_summed, f_draft, f_drafted, f_seen, f_time, f_taken, a_at, a_version, a_value, a_originAt, a_stream, a_type, a_originBy, a_originCode, a_goesOn, a_events, a_cuts, a_firm, a_cutsGone, a_byVersion, a_byOrigin, a_upTo, a_draftType, a_draftValue, a_dOp, a_dC, a_height, a_clash, a_pOp, a_pSize, a_pC, a_position, a_cell, a_noted, a_stack, a_before, a_shown, a_gType, a_gTaken, a_gWaiting, a_kCount, a_gCursor, a_gParked, a_kCursor, a_tAt, a_tDue, a_wAt, a_kAt, a_tTimes, a_wTimes, a_kTimes))
    (hp : ∀ Z ev cu fi pos cell nt gCu gT gW wA wT hv hx, 0 ≤ p0 → Z = es_st L N F (if p0.toNatClampNeg ≤ N - F then F + p0.toNatClampNeg else N) → (∀ s, s < 5 → ev s = nI (es_E L s Z) ∧ cu s = nI (es_M L s Z) ∧ fi s = nI (es_M L s Z)) → es_RW a_position a_cell pos cell (es_fc 3) → (∀ p, p < 3 → nt p = 0) → (∀ g, g < 2 → es_GB a_kCursor a_kCount a_kAt a_kTimes gCu gT gW wA wT g) → es_HV Z L rm hv → es_HO Z L rm hx →
      post (nI (N - Z)) (nI (es_Q rm Z), nI Z, nI Z, 0, 0, 0, -1, f_time, f_taken, a_at, a_version, a_value, a_originAt, a_stream, a_type, a_originBy, a_originCode, a_goesOn, ev, cu, fi, a_cutsGone, hv, hx, a_upTo, a_draftType, a_draftValue, a_dOp, a_dC, a_height, a_clash, a_pOp, a_pSize, a_pC, pos, cell, nt, a_stack, a_before, a_shown, a_gType, gT, gW, a_kCount, gCu, a_gParked, a_kCursor, a_tAt, a_tDue, wA, a_kAt, a_tTimes, wT, a_kTimes)) : wpX_crash post (f_held, f_records, f_flushed, f_summed, f_draft, f_drafted, f_seen, f_time, f_taken, a_at, a_version, a_value, a_originAt, a_stream, a_type, a_originBy, a_originCode, a_goesOn, a_events, a_cuts, a_firm, a_cutsGone, a_byVersion, a_byOrigin, a_upTo, a_draftType, a_draftValue, a_dOp, a_dC, a_height, a_clash, a_pOp, a_pSize, a_pC, a_position, a_cell, a_noted, a_stack, a_before, a_shown, a_gType, a_gTaken, a_gWaiting, a_kCount, a_gCursor, a_gParked, a_kCursor, a_tAt, a_tDue, a_wAt, a_kAt, a_tTimes, a_wTimes, a_kTimes) p0 := by
  obtain ⟨rfl, rfl, rfl, T, A, G, HV, HO, S⟩ := h
  have hN := W.1
  have hFN := W.2.1
  unfold wpX_crash
  by_cases c : 0 ≤ p0
  rotate_left
  · exact br_f c (hneg c)
  obtain ⟨p, hpp, rfl⟩ := nI_of (Int32.not_lt.mpr c)
  rw [nI_clamp hpp] at hp
  have main : ∀ S0, F ≤ S0 → S0 ≤ N → S0 = (if p ≤ N - F then F + p else N) → ∃ n, wX_crash_38 post (nI S0) (nI (es_Q rm N)) (nI N) (nI F) f_summed f_draft f_drafted f_seen f_time f_taken a_at a_version a_value a_originAt a_stream a_type a_originBy a_originCode a_goesOn a_events a_cuts a_firm a_cutsGone a_byVersion a_byOrigin a_upTo a_draftType a_draftValue a_dOp a_dC a_height a_clash a_pOp a_pSize a_pC a_position a_cell a_noted a_stack a_before a_shown a_gType a_gTaken a_gWaiting a_kCount a_gCursor a_gParked a_kCursor a_tAt a_tDue a_wAt a_kAt a_tTimes a_wTimes a_kTimes n (nI (es_Q rm N)) := fun S0 h0 h1 hS0 => by
    obtain ⟨hb1, hb2⟩ := es_st_b (L := L) (N := N) S0 h0
    obtain ⟨Z, hZ⟩ : ∃ Z, Z = es_st L N F S0 := ⟨_, rfl⟩
    rw [← hZ] at hb1 hb2
    have WZ := es_WL_Z W hb1 (show Z ≤ N by omega)
    have TZ : es_XT Z L rm a_at a_version a_value a_originAt a_stream a_type a_originBy a_originCode := fun i hi => T i (by omega)
    have gz : ∀ s, es_G L rm s N = es_G L rm s Z := fun s => es_ext (fun v => by
      rw [es_G_lt, es_G_lt]
      constructor
      · rintro ⟨i, a, b, c⟩
        exact ⟨i, by have := (W.2.2.2.1 i b).1; omega, b, c⟩
      · rintro ⟨i, a, b, c⟩
        exact ⟨i, by omega, b, c⟩)
    refine ⟨_, es_x_cr38 W T h0 ⟨_, es_x_cr60 W T G S0 h0 h1 (es_x_cr96 W T ?_ ?_ ?_)⟩ (N - S0) N (by omega) (Nat.le_refl _)⟩
    · rw [← hZ]; exact hb1
    · rw [← hZ]; omega
    rw [← hZ]
    unfold wX_crash_132
    refine nm_r (pk_sub (by omega)) ?_
    have k146 := es_x_cr146 (f_records := nI N) (f_flushed := nI F) (f_summed := f_summed) (f_draft := f_draft) (f_drafted := f_drafted) (f_seen := f_seen) (f_time := f_time) (f_taken := f_taken) (a_at := a_at) (a_version := a_version) (a_value := a_value) (a_originAt := a_originAt) (a_stream := a_stream) (a_type := a_type) (a_originBy := a_originBy) (a_originCode := a_originCode) (a_goesOn := a_goesOn) (a_cuts := a_cuts) (a_firm := a_firm) (a_cutsGone := a_cutsGone) (a_byVersion := a_byVersion) (a_byOrigin := a_byOrigin) (a_upTo := a_upTo) (a_draftType := a_draftType) (a_draftValue := a_draftValue) (a_dOp := a_dOp) (a_dC := a_dC) (a_height := a_height) (a_clash := a_clash) (a_pOp := a_pOp) (a_pSize := a_pSize) (a_pC := a_pC) (a_position := a_position) (a_cell := a_cell) (a_noted := a_noted) (a_stack := a_stack) (a_before := a_before) (a_shown := a_shown) (a_gType := a_gType) (a_gTaken := a_gTaken) (a_gWaiting := a_gWaiting) (a_kCount := a_kCount) (a_gCursor := a_gCursor) (a_gParked := a_gParked) (a_kCursor := a_kCursor) (a_tAt := a_tAt) (a_tDue := a_tDue) (a_wAt := a_wAt) (a_kAt := a_kAt) (a_tTimes := a_tTimes) (a_wTimes := a_wTimes) (a_kTimes := a_kTimes) (x5 := nI (N - Z)) W T hb1 (show Z ≤ N by omega) (post := post) (fun ev hev => ?_) (N - Z) Z (by omega) (Nat.le_refl _) a_events (fun s hs => ?_)
    · exact ⟨_, k146⟩
    · have k207 := es_x_cr207 (f_held := nI (es_Q rm Z)) (f_records := nI Z) (f_flushed := nI Z) (f_summed := f_summed) (f_draft := f_draft) (f_drafted := f_drafted) (f_seen := f_seen) (f_time := f_time) (f_taken := f_taken) (a_at := a_at) (a_version := a_version) (a_value := a_value) (a_originAt := a_originAt) (a_stream := a_stream) (a_type := a_type) (a_originBy := a_originBy) (a_originCode := a_originCode) (a_goesOn := a_goesOn) (a_events := ev) (a_firm := a_firm) (a_cutsGone := a_cutsGone) (a_byVersion := a_byVersion) (a_byOrigin := a_byOrigin) (a_upTo := a_upTo) (a_draftType := a_draftType) (a_draftValue := a_draftValue) (a_dOp := a_dOp) (a_dC := a_dC) (a_height := a_height) (a_clash := a_clash) (a_pOp := a_pOp) (a_pSize := a_pSize) (a_pC := a_pC) (a_position := a_position) (a_cell := a_cell) (a_noted := a_noted) (a_stack := a_stack) (a_before := a_before) (a_shown := a_shown) (a_gType := a_gType) (a_gTaken := a_gTaken) (a_gWaiting := a_gWaiting) (a_kCount := a_kCount) (a_gCursor := a_gCursor) (a_gParked := a_gParked) (a_kCursor := a_kCursor) (a_tAt := a_tAt) (a_tDue := a_tDue) (a_wAt := a_wAt) (a_kAt := a_kAt) (a_tTimes := a_tTimes) (a_wTimes := a_wTimes) (a_kTimes := a_kTimes) (x5 := nI (N - Z)) (post := post) (fun cu0 hcu0 => ?_) 5 0 (by omega) a_cuts (fun s h => absurd h (Nat.not_lt_zero _))
      · rw [nI_0] at k207
        exact ⟨_, k207⟩
      · have k236 := es_x_cr236 (f_records := nI Z) (f_flushed := nI Z) (f_summed := f_summed) (f_draft := f_draft) (f_drafted := f_drafted) (f_seen := f_seen) (f_time := f_time) (f_taken := f_taken) (a_at := a_at) (a_version := a_version) (a_value := a_value) (a_originAt := a_originAt) (a_stream := a_stream) (a_type := a_type) (a_originBy := a_originBy) (a_originCode := a_originCode) (a_goesOn := a_goesOn) (a_events := ev) (a_firm := a_firm) (a_cutsGone := a_cutsGone) (a_byVersion := a_byVersion) (a_byOrigin := a_byOrigin) (a_upTo := a_upTo) (a_draftType := a_draftType) (a_draftValue := a_draftValue) (a_dOp := a_dOp) (a_dC := a_dC) (a_height := a_height) (a_clash := a_clash) (a_pOp := a_pOp) (a_pSize := a_pSize) (a_pC := a_pC) (a_position := a_position) (a_cell := a_cell) (a_noted := a_noted) (a_stack := a_stack) (a_before := a_before) (a_shown := a_shown) (a_gType := a_gType) (a_gTaken := a_gTaken) (a_gWaiting := a_gWaiting) (a_kCount := a_kCount) (a_gCursor := a_gCursor) (a_gParked := a_gParked) (a_kCursor := a_kCursor) (a_tAt := a_tAt) (a_tDue := a_tDue) (a_wAt := a_wAt) (a_kAt := a_kAt) (a_tTimes := a_tTimes) (a_wTimes := a_wTimes) (a_kTimes := a_kTimes) (x5 := nI (N - Z)) WZ TZ (post := post) (fun cu hcu => ?_) Z 0 (by omega) (Z + 1) (by omega) cu0 (fun s hs => by rw [es_rx_0, hcu0 s hs, (A s hs).2.2.2, gz])
        · rw [es_Q_0, nI_0] at k236
          exact ⟨_, k236⟩
        · have hcu' : ∀ s, s < 5 → cu s = nI (es_M L s Z) := fun s hs => by rw [hcu s hs, es_G_all (fun i hi => (WZ.2.2.2.1 i hi).1)]
          have k305 := es_x_cr305 (f_held := nI (es_Q rm Z)) (f_records := nI Z) (f_flushed := nI Z) (f_summed := f_summed) (f_draft := f_draft) (f_drafted := f_drafted) (f_seen := f_seen) (f_time := f_time) (f_taken := f_taken) (a_at := a_at) (a_version := a_version) (a_value := a_value) (a_originAt := a_originAt) (a_stream := a_stream) (a_type := a_type) (a_originBy := a_originBy) (a_originCode := a_originCode) (a_goesOn := a_goesOn) (a_events := ev) (a_cuts := cu) (a_cutsGone := a_cutsGone) (a_byVersion := a_byVersion) (a_byOrigin := a_byOrigin) (a_upTo := a_upTo) (a_draftType := a_draftType) (a_draftValue := a_draftValue) (a_dOp := a_dOp) (a_dC := a_dC) (a_height := a_height) (a_clash := a_clash) (a_pOp := a_pOp) (a_pSize := a_pSize) (a_pC := a_pC) (a_position := a_position) (a_cell := a_cell) (a_noted := a_noted) (a_stack := a_stack) (a_before := a_before) (a_shown := a_shown) (a_gType := a_gType) (a_gTaken := a_gTaken) (a_gWaiting := a_gWaiting) (a_kCount := a_kCount) (a_gCursor := a_gCursor) (a_gParked := a_gParked) (a_kCursor := a_kCursor) (a_tAt := a_tAt) (a_tDue := a_tDue) (a_wAt := a_wAt) (a_kAt := a_kAt) (a_tTimes := a_tTimes) (a_wTimes := a_wTimes) (a_kTimes := a_kTimes) (x5 := nI (N - Z)) (post := post) (fun fi hfi => ?_) 5 0 (by omega) a_firm (fun s h => absurd h (Nat.not_lt_zero _))
          · rw [nI_0] at k305
            exact ⟨_, k305⟩
          · have k349 := es_x_cr349 (f_held := nI (es_Q rm Z)) (f_records := nI Z) (f_flushed := nI Z) (f_summed := f_summed) (f_draft := 0) (f_drafted := 0) (f_seen := -1) (f_time := f_time) (f_taken := f_taken) (a_at := a_at) (a_version := a_version) (a_value := a_value) (a_originAt := a_originAt) (a_stream := a_stream) (a_type := a_type) (a_originBy := a_originBy) (a_originCode := a_originCode) (a_goesOn := a_goesOn) (a_events := ev) (a_cuts := cu) (a_firm := fi) (a_cutsGone := a_cutsGone) (a_byVersion := a_byVersion) (a_byOrigin := a_byOrigin) (a_upTo := a_upTo) (a_draftType := a_draftType) (a_draftValue := a_draftValue) (a_dOp := a_dOp) (a_dC := a_dC) (a_height := a_height) (a_clash := a_clash) (a_pOp := a_pOp) (a_pSize := a_pSize) (a_pC := a_pC) (a_position := a_position) (a_cell := a_cell) (a_stack := a_stack) (a_before := a_before) (a_shown := a_shown) (a_gType := a_gType) (a_gTaken := a_gTaken) (a_gWaiting := a_gWaiting) (a_kCount := a_kCount) (a_gCursor := a_gCursor) (a_gParked := a_gParked) (a_kCursor := a_kCursor) (a_tAt := a_tAt) (a_tDue := a_tDue) (a_wAt := a_wAt) (a_kAt := a_kAt) (a_tTimes := a_tTimes) (a_wTimes := a_wTimes) (a_kTimes := a_kTimes) (x5 := nI (N - Z)) (post := post) (fun pos cell nt R h0' => ?_) 3 0 (by omega) a_position a_cell a_noted (es_RW_cg (es_RW_id _ _) (fun r _ => (if_neg (by omega)).symm)) (fun s h => absurd h (Nat.not_lt_zero _))
            · rw [nI_0] at k349
              exact ⟨_, k349⟩
            · have k382 := es_x_cr382 (f_records := nI Z) (f_flushed := nI Z) (f_summed := f_summed) (f_draft := 0) (f_drafted := 0) (f_seen := -1) (f_time := f_time) (f_taken := f_taken) (a_at := a_at) (a_version := a_version) (a_value := a_value) (a_originAt := a_originAt) (a_stream := a_stream) (a_type := a_type) (a_originBy := a_originBy) (a_originCode := a_originCode) (a_goesOn := a_goesOn) (a_events := ev) (a_cuts := cu) (a_firm := fi) (a_cutsGone := a_cutsGone) (a_byVersion := a_byVersion) (a_byOrigin := a_byOrigin) (a_upTo := a_upTo) (a_draftType := a_draftType) (a_draftValue := a_draftValue) (a_dOp := a_dOp) (a_dC := a_dC) (a_height := a_height) (a_clash := a_clash) (a_pOp := a_pOp) (a_pSize := a_pSize) (a_pC := a_pC) (a_position := pos) (a_cell := cell) (a_noted := nt) (a_stack := a_stack) (a_before := a_before) (a_shown := a_shown) (a_gType := a_gType) (a_kCount := a_kCount) (a_gParked := a_gParked) (a_kCursor := a_kCursor) (a_tAt := a_tAt) (a_tDue := a_tDue) (a_kAt := a_kAt) (a_tTimes := a_tTimes) (a_kTimes := a_kTimes) (x5 := nI (N - Z)) WZ TZ hk (post := post) (fun gCu gT gW wA wT hv hx hGB k1 k2 => hp Z ev cu fi pos cell nt gCu gT gW wA wT hv hx c (by rw [hZ, hS0]) (fun s hs => ⟨hev s hs, hcu' s hs, (hfi s hs).trans (hcu' s hs)⟩) R h0' hGB k1 k2) 2 0 (by omega) a_gCursor a_gTaken a_gWaiting a_wAt a_wTimes (fun g h => absurd h (Nat.not_lt_zero _))
              rw [nI_0] at k382
              exact ⟨_, k382⟩
    · rw [(A s hs).1, Nat.sub_add_cancel (es_E_mono L s (show Z ≤ N by omega))]
  refine br_t c ?_
  rw [pk_sub hFN, nI_add]
  refine pk_le p (N - F) (fun z => nm_e (main (F + p) (by omega) (by omega) (by rw [if_pos z]))) (fun z => main N hFN (Nat.le_refl _) (by rw [if_neg (by omega)]))
end ES35
end
section
/-! crash: Y; joined -/
section ES36
def es_YC (b_cursor b_many b_where b_often cur mn wh of_ : Nat → Int32) (q : Nat) : Prop :=
  (∀ r, 2 ≤ r → r < 4 → cur r = b_cursor r) ∧ (∀ g, g < q → cur g = b_cursor (2 + g)) ∧ (∀ r, 4 ≤ r → r < 6 → mn r = b_many r) ∧ (∀ g, g < q → mn g = 0 ∧ mn (2 + g) = b_many (4 + g)) ∧ (∀ i, 32 ≤ i → wh i = b_where i ∧ of_ i = b_often i) ∧ ∀ g, g < q → ∀ j, j < 8 → wh (16 + 8 * g + j) = b_where (32 + 8 * g + j) ∧ of_ (16 + 8 * g + j) = b_often (32 + 8 * g + j)
variable {g_count g_flushed g_calls g_drafted g_top g_time : Int32} {b_isCut b_removed b_stream b_type b_from b_by b_value b_version b_on b_call b_draftType b_draftValue b_op b_with b_length b_height b_torn b_stack b_position b_cells b_noted b_wanted b_formed b_cursor b_parked b_where b_often b_due b_many b_found : Nat → Int32} {N F C Z : Nat} {L : Nat → es_Ev} {rm : Nat → Bool}
theorem es_y_cr274 {x3 : Int32} {post : Int32 → SY → Prop} (hp : ∀ fo, (∀ j, j < 6 → fo j = 0) → post x3 (g_count, g_flushed, g_calls, g_drafted, g_top, g_time, b_isCut, b_removed, b_stream, b_type, b_from, b_by, b_value, b_version, b_on, b_call, b_draftType, b_draftValue, b_op, b_with, b_length, b_height, b_torn, b_stack, b_position, b_cells, b_noted, b_wanted, b_formed, b_cursor, b_parked, b_where, b_often, b_due, b_many, fo)) :
    ∀ d q, q + d = 6 → ∀ fo, (∀ j, j < q → fo j = 0) → wY_crash_274 post x3 g_count g_flushed g_calls g_drafted g_top g_time (d + 1) (nI q) b_isCut b_removed b_stream b_type b_from b_by b_value b_version b_on b_call b_draftType b_draftValue b_op b_with b_length b_height b_torn b_stack b_position b_cells b_noted b_wanted b_formed b_cursor b_parked b_where b_often b_due b_many fo := by
  intro d
  induction d with
  | zero =>
    intro q hq fo h
    have e : q = 6 := by omega
    subst e
    exact br_t (nI_le (a := 6) (b := 6) (by omega) (by decide)) (hp fo h)
  | succ d ih =>
    intro q hq fo h
    have cq : (nI q).toNatClampNeg = q := nI_clamp (by omega)
    refine br_f (nI_ge (b := 6) (by omega) (by decide)) ⟨vp_in_nI (by omega) (by decide), nm_e (nm_r (nI_1 q) (ih (q + 1) (by omega) _ (fun s hs => ?_)))⟩
    rw [cq]
    by_cases c : s = q
    · rw [c, pk_us]
    · rw [pk_un c]; exact h s (by omega)
theorem es_y_cr188 {x3 : Int32} {g : Nat} (hg : g < 2) (wh of_ : Nat → Int32) {post : Int32 → SY → Prop} {J : Int32 → (Nat → Int32) → (Nat → Int32) → (Nat → Int32) → (Nat → Int32) → (Nat → Int32) → (Nat → Int32) → (Nat → Int32) → (Nat → Int32) → (Nat → Int32) → (Nat → Int32) → (Nat → Int32) → (Nat → Int32) → (Nat → Int32) → (Nat → Int32) → (Nat → Int32) → (Nat → Int32) → (Nat → Int32) → (Nat → Int32) → (Nat → Int32) → (Nat → Int32) → (Nat → Int32) → (Nat → Int32) → (Nat → Int32) → (Nat → Int32) → (Nat → Int32) → (Nat → Int32) → (Nat → Int32) → (Nat → Int32) → (Nat → Int32) → (Nat → Int32) → Prop} (hJ : J (nI (g + 1)) b_isCut b_removed b_stream b_type b_from b_by b_value b_version b_on b_call b_draftType b_draftValue b_op b_with b_length b_height b_torn b_stack b_position b_cells b_noted b_wanted b_formed b_cursor b_parked (es_mv wh (32 + 8 * g) (16 + 8 * g) 8) (es_mv of_ (32 + 8 * g) (16 + 8 * g) 8) b_due b_many b_found) :
    ∀ d k, k + d = 8 → wY_crash_188 post J x3 (nI g) g_count g_flushed g_calls g_drafted g_top g_time (d + 1) (nI k) b_isCut b_removed b_stream b_type b_from b_by b_value b_version b_on b_call b_draftType b_draftValue b_op b_with b_length b_height b_torn b_stack b_position b_cells b_noted b_wanted b_formed b_cursor b_parked (es_mv wh (32 + 8 * g) (16 + 8 * g) k) (es_mv of_ (32 + 8 * g) (16 + 8 * g) k) b_due b_many b_found := by
  intro d
  induction d with
  | zero =>
    intro k hk
    have e : k = 8 := by omega
    subst e
    exact br_t (nI_le (a := 8) (b := 8) (by omega) (by decide)) (nm_r (nI_1 g) hJ)
  | succ d ih =>
    intro k hk
    have e1 : 32 + 8 * nI g + nI k = nI (32 + 8 * g + k) := by rw [es_8g, show 32 + nI (8 * g) = nI (32 + 8 * g) from nI_add 32 (8 * g), nI_add]
    have e2 : 16 + 8 * nI g + nI k = nI (16 + 8 * g + k) := by rw [es_8g, show 16 + nI (8 * g) = nI (16 + 8 * g) from nI_add 16 (8 * g), nI_add]
    have hv1 : vp_in (nI (32 + 8 * g + k)) 64 := vp_in_nI (by omega) (by decide)
    have hv2 : vp_in (nI (16 + 8 * g + k)) 64 := vp_in_nI (by omega) (by decide)
    have := ih (k + 1) (by omega)
    refine br_f (nI_ge (b := 8) (by omega) (by decide)) ?_
    rw [e1, e2, nI_clamp (show 32 + 8 * g + k < 2 ^ 31 by omega), nI_clamp (show 16 + 8 * g + k < 2 ^ 31 by omega), es_mv_s (by omega), es_mv_s (by omega)]
    exact ⟨hv1, hv2, nm_e ⟨hv1, hv2, nm_e (nm_r (nI_1 k) this)⟩⟩
theorem es_y_cr137 {x3 : Int32} (hk : ∀ g, g < 2 → ∃ nk, nk ≤ 6 ∧ b_many (4 + g) = nI nk) {post : Int32 → SY → Prop} (hp : ∀ cur mn wh of_, es_YC b_cursor b_many b_where b_often cur mn wh of_ 2 → ∃ n, wY_crash_274 post x3 g_count g_flushed g_calls g_drafted g_top g_time n 0 b_isCut b_removed b_stream b_type b_from b_by b_value b_version b_on b_call b_draftType b_draftValue b_op b_with b_length b_height b_torn b_stack b_position b_cells b_noted b_wanted b_formed cur b_parked wh of_ b_due mn b_found) :
    ∀ d q, q + d = 2 → ∀ cur mn wh of_, es_YC b_cursor b_many b_where b_often cur mn wh of_ q → wY_crash_137 post x3 g_count g_flushed g_calls g_drafted g_top g_time (d + 1) (nI q) b_isCut b_removed b_stream b_type b_from b_by b_value b_version b_on b_call b_draftType b_draftValue b_op b_with b_length b_height b_torn b_stack b_position b_cells b_noted b_wanted b_formed cur b_parked wh of_ b_due mn b_found := by
  intro d
  induction d with
  | zero =>
    intro q hq cur mn wh of_ h
    have e : q = 2 := by omega
    subst e
    exact br_t (nI_le (a := 2) (b := 2) (by omega) (by decide)) (hp cur mn wh of_ h)
  | succ d ih =>
    intro q hq cur mn wh of_ h
    obtain ⟨nk, hnk, ek⟩ := hk q (by omega)
    obtain ⟨y1, y2, y3, y4, y5, y6⟩ := h
    have e2 : 2 + nI q = nI (2 + q) := nI_add 2 q
    have e4 : 4 + nI q = nI (4 + q) := nI_add 4 q
    have em : vp_nar .byte (upd mn q 0 (4 + q)) = b_many (4 + q) := by
      rw [pk_un (by omega), y3 (4 + q) (by omega) (by omega), ek]
      exact es_nb (by omega)
    refine br_f (nI_ge (b := 2) (by omega) (by decide)) ?_
    rw [e2, e4, nI_clamp (show q < 2 ^ 31 by omega), nI_clamp (show 2 + q < 2 ^ 31 by omega), nI_clamp (show 4 + q < 2 ^ 31 by omega), es_nb0]
    refine ⟨vp_in_nI (by omega) (by decide), vp_in_nI (by omega) (by decide), nm_e ⟨vp_in_nI (by omega) (by decide), nm_e ⟨vp_in_nI (by omega) (by decide), vp_in_nI (by omega) (by decide), nm_e ?_⟩⟩⟩
    rw [em]
    have key := es_y_cr188 (g_count := g_count) (g_flushed := g_flushed) (g_calls := g_calls) (g_drafted := g_drafted) (g_top := g_top) (g_time := g_time) (b_isCut := b_isCut) (b_removed := b_removed) (b_stream := b_stream) (b_type := b_type) (b_from := b_from) (b_by := b_by) (b_value := b_value) (b_version := b_version) (b_on := b_on) (b_call := b_call) (b_draftType := b_draftType) (b_draftValue := b_draftValue) (b_op := b_op) (b_with := b_with) (b_length := b_length) (b_height := b_height) (b_torn := b_torn) (b_stack := b_stack) (b_position := b_position) (b_cells := b_cells) (b_noted := b_noted) (b_wanted := b_wanted) (b_formed := b_formed) (b_cursor := upd cur q (cur (2 + q))) (b_parked := b_parked) (b_due := b_due) (b_many := upd (upd mn q 0) (2 + q) (b_many (4 + q))) (b_found := b_found) (x3 := x3) (show q < 2 by omega) wh of_ (post := post) (J := wY_crash_137 post x3 g_count g_flushed g_calls g_drafted g_top g_time (d + 1)) ?_ 8 0 (by omega)
    · rw [es_mv_0, es_mv_0, nI_0] at key
      exact ⟨_, key⟩
    · refine ih (q + 1) (by omega) _ _ _ _ ⟨fun r h1 h2 => ?_, fun g hg => ?_, fun r h1 h2 => ?_, fun g hg => ?_, fun i hi => ?_, fun g hg j hj => ?_⟩
      · rw [pk_un (by omega)]; exact y1 r h1 h2
      · by_cases c : g = q
        · rw [c, pk_us]; exact y1 _ (by omega) (by omega)
        · rw [pk_un c]; exact y2 g (by omega)
      · rw [pk_un (by omega), pk_un (by omega)]; exact y3 r h1 h2
      · by_cases c : g = q
        · subst c
          rw [pk_un (by omega), pk_us, pk_us]
          exact ⟨rfl, rfl⟩
        · rw [pk_un (by omega), pk_un c, pk_un (by omega), pk_un (by omega)]; exact y4 g (by omega)
      · rw [es_mv_o (by omega), es_mv_o (by omega)]; exact y5 i hi
      · by_cases c : g = q
        · subst c
          rw [es_mv_i hj, es_mv_i hj]; exact y5 _ (by omega)
        · rw [es_mv_o (by omega), es_mv_o (by omega)]; exact y6 g (by omega) j hj
theorem es_y_cr104 {x3 : Int32} {post : Int32 → SY → Prop} (hp : ∀ pos cell nt, es_RW b_position b_cells pos cell (es_fc 3) → (∀ p, p < 3 → nt p = 0) → ∃ n, wY_crash_137 post x3 g_count g_flushed g_calls g_drafted g_top g_time n 0 b_isCut b_removed b_stream b_type b_from b_by b_value b_version b_on b_call b_draftType b_draftValue b_op b_with b_length b_height b_torn b_stack pos cell nt b_wanted b_formed b_cursor b_parked b_where b_often b_due b_many b_found) :
    ∀ d q, q + d = 3 → ∀ pos cell nt, es_RW b_position b_cells pos cell (es_fc q) → (∀ p, p < q → nt p = 0) → wY_crash_104 post x3 (d + 1) (nI q) g_count g_flushed g_calls g_drafted g_top g_time b_isCut b_removed b_stream b_type b_from b_by b_value b_version b_on b_call b_draftType b_draftValue b_op b_with b_length b_height b_torn b_stack pos cell nt b_wanted b_formed b_cursor b_parked b_where b_often b_due b_many b_found := by
  intro d
  induction d with
  | zero =>
    intro q hq pos cell nt R h0
    have e : q = 3 := by omega
    subst e
    exact br_t (nI_le (a := 3) (b := 3) (by omega) (by decide)) (hp pos cell nt R h0)
  | succ d ih =>
    intro q hq pos cell nt R h0
    have hv : vp_in (nI q) 3 := vp_in_nI (by omega) (by decide)
    have cq : (nI q).toNatClampNeg = q := nI_clamp (by omega)
    have e3 : 3 + nI q = nI (3 + q) := nI_add 3 q
    refine br_f (nI_ge (b := 3) (by omega) (by decide)) ?_
    rw [cq, es_z0, e3]
    refine ⟨hv, nm_e (es_y_copyR (by omega) (by omega) (by omega) R (fun pos' cell' R' => nm_r (nI_1 q) ?_))⟩
    refine ih (q + 1) (by omega) _ _ _ (es_RW_cg R' (fun r _ => ?_)) (fun p hp' => ?_)
    · unfold es_fc
      by_cases c : r = q
      · rw [if_pos c, if_neg (by omega), if_pos (by omega), c]
      · rw [if_neg c]
        by_cases c2 : r < q
        · rw [if_pos c2, if_pos (by omega)]
        · rw [if_neg c2, if_neg (by omega)]
    · by_cases c : p = q
      · rw [c, pk_us]
      · rw [pk_un c]; exact h0 p (by omega)
theorem es_y_cr33 (W : es_WL N F C L rm) (h : es_CY N F C L rm (nI N) (nI F) g_calls b_isCut b_removed b_stream b_type b_from b_by b_value b_version b_on b_call) (hC : C < 2 ^ 31) {post : Int32 → SY → Prop} : ∀ S, F ≤ S → S ≤ N → wY_crash_72 post (nI (es_st L N F S)) (nI N) (nI F) g_calls g_drafted g_top g_time b_isCut b_removed b_stream b_type b_from b_by b_value b_version b_on b_call b_draftType b_draftValue b_op b_with b_length b_height b_torn b_stack b_position b_cells b_noted b_wanted b_formed b_cursor b_parked b_where b_often b_due b_many b_found → wY_crash_33 post (nI N) (nI F) g_calls g_drafted g_top g_time b_isCut b_removed b_stream b_type b_from b_by b_value b_version b_on b_call b_draftType b_draftValue b_op b_with b_length b_height b_torn b_stack b_position b_cells b_noted b_wanted b_formed b_cursor b_parked b_where b_often b_due b_many b_found (S + 1) (nI S) := by
  have hN := W.1
  intro S
  induction S with
  | zero =>
    intro hF _ hp
    exact br_t (nI_le (a := 0) (b := F) (by omega) (by omega)) hp
  | succ S ih =>
    intro hF hS hp
    by_cases c : F = S + 1
    · rw [← c, es_st_F] at hp
      rw [← c]
      exact br_t (nI_le (Nat.le_refl _) (by omega)) hp
    · refine br_f (nI_ge (by omega) (by omega)) ?_
      by_cases c1 : S + 1 = N
      · rw [es_st_f (by omega)] at hp
        exact br_t (by rw [c1]; exact nI_le (Nat.le_refl _) (by omega)) hp
      · refine br_f (nI_ge (by omega) (by omega)) ?_
        obtain ⟨-, -, -, -, -, -, k1, -⟩ := h.2.2.2 S (by omega)
        obtain ⟨-, -, -, -, -, -, k2, -⟩ := h.2.2.2 (S + 1) (by omega)
        have w1 := (W.2.2.2.2 S (by omega)).2.2.2.2.2
        have w2 := (W.2.2.2.2 (S + 1) (by omega)).2.2.2.2.2
        rw [nI_pred, nI_clamp (show S < 2 ^ 31 by omega), nI_clamp (show S + 1 < 2 ^ 31 by omega), k1, k2]
        refine ⟨vp_in_nI (by omega) (by decide), vp_in_nI (by omega) (by decide), pk_eq (es_k (L S)) (es_k (L (S + 1))) (fun z => nm_r (pk_m1 S) (ih (by omega) (by omega) ?_)) (fun z => ?_)⟩
        · rw [es_st_t ⟨by omega, by omega, z⟩] at hp
          exact hp
        · rw [es_st_f (fun w => z w.2.2)] at hp
          exact hp
theorem es_y_crash (h : es_CY N F C L rm g_count g_flushed g_calls b_isCut b_removed b_stream b_type b_from b_by b_value b_version b_on b_call) (W : es_WL N F C L rm) (hC : C < 2 ^ 31) (hk : ∀ g, g < 2 → ∃ nk, nk ≤ 6 ∧ b_many (4 + g) = nI nk) {p0 : Int32} {post : Int32 → SY → Prop} (hneg : ¬ 0 ≤ p0 → post (-1) (g_count, g_flushed, g_calls, g_drafted, g_top, g_time, b_isCut, b_removed, b_stream, b_type, b_from, b_by, b_value, b_version, b_on, b_call, b_draftType, b_draftValue, b_op, b_with, b_length, b_height, b_torn, b_stack, b_position, b_cells, b_noted, b_wanted, b_formed, b_cursor, b_parked, b_where, b_often, b_due, b_many, b_found))
    (hp : ∀ Z pos cell nt cur mn wh of_ fo, 0 ≤ p0 → Z = es_st L N F (if p0.toNatClampNeg ≤ N - F then F + p0.toNatClampNeg else N) → es_RW b_position b_cells pos cell (es_fc 3) → (∀ p, p < 3 → nt p = 0) → es_YC b_cursor b_many b_where b_often cur mn wh of_ 2 → (∀ j, j < 6 → fo j = 0) →
      post (nI (N - Z)) (nI Z, nI Z, g_calls, 0, g_top, g_time, b_isCut, b_removed, b_stream, b_type, b_from, b_by, b_value, b_version, b_on, b_call, b_draftType, b_draftValue, b_op, b_with, upd b_length 3 0, b_height, b_torn, b_stack, pos, cell, nt, b_wanted, b_formed, cur, b_parked, wh, of_, b_due, mn, fo)) : wpY_crash post (g_count, g_flushed, g_calls, g_drafted, g_top, g_time, b_isCut, b_removed, b_stream, b_type, b_from, b_by, b_value, b_version, b_on, b_call, b_draftType, b_draftValue, b_op, b_with, b_length, b_height, b_torn, b_stack, b_position, b_cells, b_noted, b_wanted, b_formed, b_cursor, b_parked, b_where, b_often, b_due, b_many, b_found) p0 := by
  have h' := h
  obtain ⟨rfl, rfl, rfl, hr⟩ := h
  have hN := W.1
  have hFN := W.2.1
  unfold wpY_crash
  by_cases c : 0 ≤ p0
  rotate_left
  · exact br_f c (hneg c)
  obtain ⟨p, hpp, rfl⟩ := nI_of (Int32.not_lt.mpr c)
  rw [nI_clamp hpp] at hp
  have main : ∀ S0, F ≤ S0 → S0 ≤ N → S0 = (if p ≤ N - F then F + p else N) → ∃ n, wY_crash_33 post (nI N) (nI F) (nI C) g_drafted g_top g_time b_isCut b_removed b_stream b_type b_from b_by b_value b_version b_on b_call b_draftType b_draftValue b_op b_with b_length b_height b_torn b_stack b_position b_cells b_noted b_wanted b_formed b_cursor b_parked b_where b_often b_due b_many b_found n (nI S0) := fun S0 h0 h1 hS0 => by
    obtain ⟨hb1, hb2⟩ := es_st_b (L := L) (N := N) S0 h0
    obtain ⟨Z, hZ⟩ : ∃ Z, Z = es_st L N F S0 := ⟨_, rfl⟩
    rw [← hZ] at hb1 hb2
    refine ⟨_, es_y_cr33 W h' hC S0 h0 h1 ?_⟩
    rw [← hZ]
    unfold wY_crash_72
    rw [es_nb0]
    refine nm_r (pk_sub (by omega)) (nm_e ?_)
    have k104 := es_y_cr104 (g_count := nI Z) (g_flushed := nI Z) (g_calls := nI C) (g_drafted := 0) (g_top := g_top) (g_time := g_time) (b_isCut := b_isCut) (b_removed := b_removed) (b_stream := b_stream) (b_type := b_type) (b_from := b_from) (b_by := b_by) (b_value := b_value) (b_version := b_version) (b_on := b_on) (b_call := b_call) (b_draftType := b_draftType) (b_draftValue := b_draftValue) (b_op := b_op) (b_with := b_with) (b_length := upd b_length 3 0) (b_height := b_height) (b_torn := b_torn) (b_stack := b_stack) (b_position := b_position) (b_cells := b_cells) (b_wanted := b_wanted) (b_formed := b_formed) (b_cursor := b_cursor) (b_parked := b_parked) (b_where := b_where) (b_often := b_often) (b_due := b_due) (b_many := b_many) (b_found := b_found) (x3 := nI (N - Z)) (post := post) (fun pos cell nt R h0' => ?_) 3 0 (by omega) b_position b_cells b_noted (es_RW_cg (es_RW_id _ _) (fun r _ => (if_neg (by omega)).symm)) (fun s h => absurd h (Nat.not_lt_zero _))
    · rw [nI_0] at k104
      exact ⟨_, k104⟩
    · have k137 := es_y_cr137 (g_count := nI Z) (g_flushed := nI Z) (g_calls := nI C) (g_drafted := 0) (g_top := g_top) (g_time := g_time) (b_isCut := b_isCut) (b_removed := b_removed) (b_stream := b_stream) (b_type := b_type) (b_from := b_from) (b_by := b_by) (b_value := b_value) (b_version := b_version) (b_on := b_on) (b_call := b_call) (b_draftType := b_draftType) (b_draftValue := b_draftValue) (b_op := b_op) (b_with := b_with) (b_length := upd b_length 3 0) (b_height := b_height) (b_torn := b_torn) (b_stack := b_stack) (b_position := pos) (b_cells := cell) (b_noted := nt) (b_wanted := b_wanted) (b_formed := b_formed) (b_cursor := b_cursor) (b_parked := b_parked) (b_where := b_where) (b_often := b_often) (b_due := b_due) (b_many := b_many) (b_found := b_found) (x3 := nI (N - Z)) hk (post := post) (fun cur mn wh of_ hY => ?_) 2 0 (by omega) b_cursor b_many b_where b_often ⟨fun _ _ _ => rfl, fun g h => absurd h (Nat.not_lt_zero _), fun _ _ _ => rfl, fun g h => absurd h (Nat.not_lt_zero _), fun _ _ => ⟨rfl, rfl⟩, fun g h => absurd h (Nat.not_lt_zero _)⟩
      · rw [nI_0] at k137
        exact ⟨_, k137⟩
      · have k274 := es_y_cr274 (g_count := nI Z) (g_flushed := nI Z) (g_calls := nI C) (g_drafted := 0) (g_top := g_top) (g_time := g_time) (b_isCut := b_isCut) (b_removed := b_removed) (b_stream := b_stream) (b_type := b_type) (b_from := b_from) (b_by := b_by) (b_value := b_value) (b_version := b_version) (b_on := b_on) (b_call := b_call) (b_draftType := b_draftType) (b_draftValue := b_draftValue) (b_op := b_op) (b_with := b_with) (b_length := upd b_length 3 0) (b_height := b_height) (b_torn := b_torn) (b_stack := b_stack) (b_position := pos) (b_cells := cell) (b_noted := nt) (b_wanted := b_wanted) (b_formed := b_formed) (b_cursor := cur) (b_parked := b_parked) (b_where := wh) (b_often := of_) (b_due := b_due) (b_many := mn) (x3 := nI (N - Z)) (post := post) (fun fo hfo => hp Z pos cell nt cur mn wh of_ fo c (by rw [hZ, hS0]) R h0' hY hfo) 6 0 (by omega) b_found (fun s h => absurd h (Nat.not_lt_zero _))
        rw [nI_0] at k274
        exact ⟨_, k274⟩
  refine br_t c ?_
  rw [pk_sub hFN, nI_add]
  refine pk_le (N - F) p (fun z => main N hFN (Nat.le_refl _) ?_) (fun z => nm_e (main (F + p) (by omega) (by omega) (by rw [if_pos (by omega)])))
  by_cases y : p ≤ N - F
  · rw [if_pos y]; omega
  · rw [if_neg y]
end ES36
section ES36b
theorem i_vc_crash {k : Nat} {u : SX} {v : SY} (I : i_Rel k u v) (hk : k + 4 ≤ 2048) (v1 : Int32) : wpX_crash (fun r u' => wpY_crash (fun r' v' => r' = r ∧ i_Rel (k + 4) u' v') v v1) u v1 := by
  refine es_el (P := fun u v => wpX_crash (fun r u' => wpY_crash (fun r' v' => r' = r ∧ i_Rel (k + 4) u' v') v v1) u v1) ?_ u v I
  intro f_held f_records f_flushed f_summed f_draft f_drafted f_seen f_time f_taken a_at a_version a_value a_originAt a_stream a_type a_originBy a_originCode a_goesOn a_events a_cuts a_firm a_cutsGone a_byVersion a_byOrigin a_draftType a_draftValue a_dOp a_dC a_height a_clash a_pOp a_pSize a_pC a_position a_cell a_noted a_stack a_before a_shown a_gType a_gTaken a_gWaiting a_kCount a_gCursor a_gParked a_kCursor a_tAt a_tDue a_wAt a_kAt a_tTimes a_wTimes a_kTimes a_upTo g_count g_flushed g_calls g_drafted g_top g_time b_isCut b_removed b_stream b_type b_from b_by b_value b_version b_on b_call b_draftType b_draftValue b_op b_with b_length b_height b_torn b_stack b_position b_cells b_noted b_wanted b_formed b_cursor b_parked b_where b_often b_due b_many b_found N F C L rm h1 h2 h3 h4 h5 h6 h7 h8 h9 h10
  show wpX_crash (fun r u' => wpY_crash (fun r' v' => r' = r ∧ i_Rel (k + 4) u' v') (g_count, g_flushed, g_calls, g_drafted, g_top, g_time, b_isCut, b_removed, b_stream, b_type, b_from, b_by, b_value, b_version, b_on, b_call, b_draftType, b_draftValue, b_op, b_with, b_length, b_height, b_torn, b_stack, b_position, b_cells, b_noted, b_wanted, b_formed, b_cursor, b_parked, b_where, b_often, b_due, b_many, b_found) v1) (f_held, f_records, f_flushed, f_summed, f_draft, f_drafted, f_seen, f_time, f_taken, a_at, a_version, a_value, a_originAt, a_stream, a_type, a_originBy, a_originCode, a_goesOn, a_events, a_cuts, a_firm, a_cutsGone, a_byVersion, a_byOrigin, a_upTo, a_draftType, a_draftValue, a_dOp, a_dC, a_height, a_clash, a_pOp, a_pSize, a_pC, a_position, a_cell, a_noted, a_stack, a_before, a_shown, a_gType, a_gTaken, a_gWaiting, a_kCount, a_gCursor, a_gParked, a_kCursor, a_tAt, a_tDue, a_wAt, a_kAt, a_tTimes, a_wTimes, a_kTimes) v1
  have keep : i_Rel (k + 4) (f_held, f_records, f_flushed, f_summed, f_draft, f_drafted, f_seen, f_time, f_taken, a_at, a_version, a_value, a_originAt, a_stream, a_type, a_originBy, a_originCode, a_goesOn, a_events, a_cuts, a_firm, a_cutsGone, a_byVersion, a_byOrigin, a_upTo, a_draftType, a_draftValue, a_dOp, a_dC, a_height, a_clash, a_pOp, a_pSize, a_pC, a_position, a_cell, a_noted, a_stack, a_before, a_shown, a_gType, a_gTaken, a_gWaiting, a_kCount, a_gCursor, a_gParked, a_kCursor, a_tAt, a_tDue, a_wAt, a_kAt, a_tTimes, a_wTimes, a_kTimes) (g_count, g_flushed, g_calls, g_drafted, g_top, g_time, b_isCut, b_removed, b_stream, b_type, b_from, b_by, b_value, b_version, b_on, b_call, b_draftType, b_draftValue, b_op, b_with, b_length, b_height, b_torn, b_stack, b_position, b_cells, b_noted, b_wanted, b_formed, b_cursor, b_parked, b_where, b_often, b_due, b_many, b_found) := es_mk h1 h2 h3 (by omega) h5 h6 h7 h8 h9 h10
  have hN := h3.1
  have hFN := h3.2.1
  have hkX : ∀ g, g < 2 → a_kCount g = nI (es_nt a_kCount g) ∧ es_nt a_kCount g ≤ 6 := fun g hg => by
    obtain ⟨nt, nw, nk, c, kc, ⟨a1, a2, a3, a4, a5, a6, a7, a8⟩, -⟩ := h8 g hg
    rw [es_nt_e a5 (by omega)]
    exact ⟨a5, a8⟩
  have hkY : ∀ g, g < 2 → ∃ nk, nk ≤ 6 ∧ b_many (4 + g) = nI nk := fun g hg => by
    obtain ⟨nt, nw, nk, c, kc, ⟨a1, a2, a3, a4, a5, a6, a7, a8⟩, -⟩ := h8 g hg
    exact ⟨nk, a8, a6⟩
  refine es_x_crash h1 h3 hkX (fun c => es_y_crash h2 h3 (by omega) hkY (fun _ => ⟨rfl, keep⟩) (fun _ _ _ _ _ _ _ _ _ c' => absurd c' c)) (fun Z ev cu fi pos cell nt gCu gT gW wA wT hv hx c hZ hA R h0 hGB k1 k2 => ?_)
  refine es_y_crash h2 h3 (by omega) hkY (fun c' => absurd c c') (fun Z' pos' cell' nt' cur mn wh of_ fo _ hZ' R' h0' hYC hfo => ?_)
  have eZ : Z' = Z := hZ'.trans hZ.symm
  subst eZ
  obtain ⟨hz1, hz2⟩ : F ≤ Z' ∧ Z' ≤ N := by
    have hb : F ≤ (if v1.toNatClampNeg ≤ N - F then F + v1.toNatClampNeg else N) ∧ (if v1.toNatClampNeg ≤ N - F then F + v1.toNatClampNeg else N) ≤ N := by
      by_cases y : v1.toNatClampNeg ≤ N - F
      · rw [if_pos y]; omega
      · rw [if_neg y]; omega
    have := es_st_b (L := L) (N := N) _ hb.1
    rw [← hZ'] at this
    exact ⟨this.1, Nat.le_trans this.2 hb.2⟩
  obtain ⟨e1, e2, e3, T, A, G, HV, HO, S⟩ := h1
  obtain ⟨e4, e5, e6, hr⟩ := h2
  obtain ⟨⟨D, hD, eD, eD'⟩, p2, p3, p4⟩ := h6
  obtain ⟨d, hd, q1, q2, q3, q4, q5⟩ := h5
  refine ⟨rfl, es_mk (N := Z') (F := Z') (C := C) (L := L) (rm := rm) ⟨rfl, rfl, rfl, fun i hi => T i (by omega), fun s hs => ⟨(hA s hs).1, (hA s hs).2.1, (hA s hs).2.2, ?_⟩, fun i hi hi' => absurd hi' (by omega), k1, k2, Or.inl rfl⟩ ⟨rfl, rfl, e6, fun i hi => hr i (by omega)⟩ (es_WL_Z h3 hz1 hz2) (by omega) ⟨0, by omega, rfl, rfl, q3, q4, fun i h => absurd h (Nat.not_lt_zero _)⟩ ⟨⟨0, by omega, rfl, pk_us⟩, p2, p3, fun p hp => ?_⟩ (fun p hp hz => ?_) (fun g hg => ?_) (Or.inl ⟨es_neg1, hfo⟩) h10⟩
  · rw [(A s hs).2.2.2]
    refine congrArg nI (es_ext (fun v => ?_))
    rw [es_G_lt, es_G_lt]
    constructor
    · rintro ⟨i, a, b, c⟩
      exact ⟨i, by have := (h3.2.2.2.1 i b).1; omega, b, c⟩
    · rintro ⟨i, a, b, c⟩
      exact ⟨i, by omega, b, c⟩
  · rw [pk_un (by omega)]; exact p4 p hp
  · obtain ⟨n1, P, K, g1, g2, g3, g4, g5, g6, g7, g8, g9, g10⟩ := h7 p hp hz
    have fp : es_fc 3 p = 3 + p := if_pos hp
    have fq : es_fc 3 (3 + p) = 3 + p := if_neg (by omega)
    have ra := es_RW_at R (3 + p) (by omega) fp
    have ra' := es_RW_at R' (3 + p) (by omega) fp
    have rb := es_RW_at R (3 + p) (by omega) fq
    have rb' := es_RW_at R' (3 + p) (by omega) fq
    rw [ra.1, ra'.1, rb.1, rb'.1, h0 p hp, h0' p hp]
    refine ⟨rfl, K, K, g4, g5, by omega, g4, g5, Nat.le_refl _, by omega, g8, fun k hk => ?_, fun z => absurd rfl z⟩
    rw [ra.2 k hk, ra'.2 k hk, rb.2 k hk, rb'.2 k hk]
    exact ⟨(g9 k hk).2, (g9 k hk).2⟩
  · obtain ⟨nt1, nw, nk, cc, kc, ⟨a1, a2, a3, a4, a5, a6, a7, a8⟩, ⟨b1, b2, b3, b4, b5, b6, b7⟩, p, f, ht, hw, hk', hs⟩ := h8 g hg
    obtain ⟨g1, g2, g3, g4⟩ := hGB g hg
    obtain ⟨y1, y2, y3, y4, y5, y6⟩ := hYC
    rw [es_nt_e a5 (by omega)] at g4
    refine ⟨0, nk, nk, kc, kc, ⟨g2, (y4 g hg).1, g3.trans a5, (y4 g hg).2.trans a6, a5, (y3 (4 + g) (by omega) (by omega)).trans a6, by omega, a8⟩, ⟨g1.trans b4, (y2 g hg).trans b5, by omega, b4, (y1 (2 + g) (by omega) (by omega)).trans b5, Nat.le_refl _, by omega⟩, p, ?_, fun j h => absurd h (Nat.not_lt_zero _), fun j hj => ?_, fun j hj => ?_, hs⟩
    · rcases f with ⟨f1, f2, f3, f4, f5⟩ | f
      · exact Or.inl ⟨f1, f2, rfl, f5, f5⟩
      · exact Or.inr f
    · obtain ⟨x1, x2, a, x3, x4⟩ := hk' j hj
      have y := y6 g hg j (by omega)
      rw [y.1, y.2, (g4 j hj).1, (g4 j hj).2]
      exact ⟨x1, x2, a, by omega, x4, Or.inr ⟨j, hj, x4⟩⟩
    · obtain ⟨x1, x2, a, x3, x4⟩ := hk' j hj
      have y := y5 (32 + 8 * g + j) (by omega)
      exact ⟨y.1.trans x1, y.2.trans x2, a, by omega, x4⟩
end ES36b
end
section
/-! what is taken leaves its row -/
section ES40
def es_sl (a : Nat → Int32) (k m : Nat) : Nat → Int32 := fun j => if k ≤ j ∧ j < m then a (j + 1) else a j
theorem es_sl_0 (a : Nat → Int32) (k : Nat) : es_sl a k k = a := by
  funext j
  unfold es_sl
  rw [if_neg (by omega)]
theorem es_sl_s {a : Nat → Int32} {k i : Nat} (h : k ≤ i) : upd (es_sl a k i) i (es_sl a k i (i + 1)) = es_sl a k (i + 1) := by
  have e : es_sl a k i (i + 1) = a (i + 1) := by unfold es_sl; rw [if_neg (by omega)]
  rw [e]
  funext j
  by_cases c : j = i
  · subst c
    rw [pk_us]
    unfold es_sl
    rw [if_pos (by omega)]
  · rw [pk_un c]
    unfold es_sl
    by_cases c2 : k ≤ j ∧ j < i
    · rw [if_pos c2, if_pos (by omega)]
    · rw [if_neg c2, if_neg (by omega)]
theorem es_sl_o {a : Nat → Int32} {k m j : Nat} (h : j < k ∨ m ≤ j) : es_sl a k m j = a j := by
  unfold es_sl
  rw [if_neg (by omega)]
theorem es_sl_i {a : Nat → Int32} {k m j : Nat} (h : k ≤ j ∧ j < m) : es_sl a k m j = a (j + 1) := if_pos h
theorem es_le2 {x : Int32} : x ≤ 2 ↔ x < 3 := by
  rw [Int32.le_iff_toInt_le, Int32.lt_iff_toInt_lt, show (2 : Int32).toInt = 2 by decide, show (3 : Int32).toInt = 3 by decide]
  omega
section X
variable {f_held f_records f_flushed f_summed f_draft f_drafted f_seen f_time f_taken : Int32} {a_at a_version a_value a_originAt a_stream a_type a_originBy a_originCode a_goesOn a_events a_cuts a_firm a_cutsGone a_byVersion a_byOrigin a_draftType a_draftValue a_dOp a_dC a_height a_clash a_pOp a_pSize a_pC a_position a_cell a_noted a_stack a_before a_shown a_gType a_gTaken a_gWaiting a_kCount a_gCursor a_gParked a_kCursor a_tAt a_tDue a_wAt a_kAt a_tTimes a_wTimes a_kTimes : Nat → Int32} {a_upTo : Nat → Int64}
theorem es_x_rel13 {g n c : Nat} (hg : g < 2) (hn : n < 6) (e : a_gTaken g = nI n) (tA tD tT : Nat → Int32) {post : SX → Prop} (hp : post (f_held, f_records, f_flushed, f_summed, f_draft, f_drafted, f_seen, f_time, f_taken, a_at, a_version, a_value, a_originAt, a_stream, a_type, a_originBy, a_originCode, a_goesOn, a_events, a_cuts, a_firm, a_cutsGone, a_byVersion, a_byOrigin, a_upTo, a_draftType, a_draftValue, a_dOp, a_dC, a_height, a_clash, a_pOp, a_pSize, a_pC, a_position, a_cell, a_noted, a_stack, a_before, a_shown, a_gType, a_gTaken, a_gWaiting, a_kCount, a_gCursor, a_gParked, a_kCursor, es_sl tA (6 * g + c) (6 * g + n), es_sl tD (6 * g + c) (6 * g + n), a_wAt, a_kAt, es_sl tT (6 * g + c) (6 * g + n), a_wTimes, a_kTimes)) :
    ∀ d i, i + d = n → c ≤ i → wX_release_13 post (nI g) f_held f_records f_flushed f_summed f_draft f_drafted f_seen f_time f_taken (d + 1) (nI (6 * g + i)) a_at a_version a_value a_originAt a_stream a_type a_originBy a_originCode a_goesOn a_events a_cuts a_firm a_cutsGone a_byVersion a_byOrigin a_upTo a_draftType a_draftValue a_dOp a_dC a_height a_clash a_pOp a_pSize a_pC a_position a_cell a_noted a_stack a_before a_shown a_gType a_gTaken a_gWaiting a_kCount a_gCursor a_gParked a_kCursor (es_sl tA (6 * g + c) (6 * g + i)) (es_sl tD (6 * g + c) (6 * g + i)) a_wAt a_kAt (es_sl tT (6 * g + c) (6 * g + i)) a_wTimes a_kTimes := by
  have hv : vp_in (nI g) 2 := vp_in_nI hg (by decide)
  have cg : (nI g).toNatClampNeg = g := nI_clamp (by omega)
  intro d
  induction d with
  | zero =>
    intro i hi hci
    have e' : i = n := by omega
    subst e'
    refine ⟨hv, ?_⟩
    rw [cg, es_6g, e, nI_add]
    exact br_t (nI_le (Nat.le_refl _) (by omega)) hp
  | succ d ih =>
    intro i hi hci
    have hv1 : vp_in (nI (6 * g + i)) 12 := vp_in_nI (by omega) (by decide)
    have hv2 : vp_in (nI (6 * g + i + 1)) 12 := vp_in_nI (by omega) (by decide)
    have ih' := ih (i + 1) (by omega) (by omega)
    have s := fun a => es_sl_s (a := a) (show 6 * g + c ≤ 6 * g + i by omega)
    refine ⟨hv, ?_⟩
    rw [cg, es_6g, e, nI_add, nI_1, nI_clamp (show 6 * g + i < 2 ^ 31 by omega), nI_clamp (show 6 * g + i + 1 < 2 ^ 31 by omega), s tA, s tD, s tT]
    exact br_f (nI_ge (by omega) (by omega)) ⟨hv2, hv1, nm_e ⟨hv2, hv1, nm_e ⟨hv2, hv1, nm_e (nm_e ih')⟩⟩⟩
theorem es_x_release {g nt c : Nat} (hg : g < 2) (hn : nt ≤ 6) (hc : c < nt) (e : a_gTaken g = nI nt) {post : SX → Prop} (hp : post (f_held, f_records, f_flushed, f_summed, f_draft, f_drafted, f_seen, f_time, f_taken, a_at, a_version, a_value, a_originAt, a_stream, a_type, a_originBy, a_originCode, a_goesOn, a_events, a_cuts, a_firm, a_cutsGone, a_byVersion, a_byOrigin, a_upTo, a_draftType, a_draftValue, a_dOp, a_dC, a_height, a_clash, a_pOp, a_pSize, a_pC, a_position, a_cell, a_noted, a_stack, a_before, a_shown, a_gType, upd a_gTaken g (nI (nt - 1)), a_gWaiting, a_kCount, a_gCursor, a_gParked, a_kCursor, es_sl a_tAt (6 * g + c) (6 * g + (nt - 1)), es_sl a_tDue (6 * g + c) (6 * g + (nt - 1)), a_wAt, a_kAt, es_sl a_tTimes (6 * g + c) (6 * g + (nt - 1)), a_wTimes, a_kTimes)) : wpX_release post (f_held, f_records, f_flushed, f_summed, f_draft, f_drafted, f_seen, f_time, f_taken, a_at, a_version, a_value, a_originAt, a_stream, a_type, a_originBy, a_originCode, a_goesOn, a_events, a_cuts, a_firm, a_cutsGone, a_byVersion, a_byOrigin, a_upTo, a_draftType, a_draftValue, a_dOp, a_dC, a_height, a_clash, a_pOp, a_pSize, a_pC, a_position, a_cell, a_noted, a_stack, a_before, a_shown, a_gType, a_gTaken, a_gWaiting, a_kCount, a_gCursor, a_gParked, a_kCursor, a_tAt, a_tDue, a_wAt, a_kAt, a_tTimes, a_wTimes, a_kTimes) (nI g) (nI (6 * g + c)) := by
  have hv : vp_in (nI g) 2 := vp_in_nI hg (by decide)
  have key := es_x_rel13 (f_held := f_held) (f_records := f_records) (f_flushed := f_flushed) (f_summed := f_summed) (f_draft := f_draft) (f_drafted := f_drafted) (f_seen := f_seen) (f_time := f_time) (f_taken := f_taken) (a_at := a_at) (a_version := a_version) (a_value := a_value) (a_originAt := a_originAt) (a_stream := a_stream) (a_type := a_type) (a_originBy := a_originBy) (a_originCode := a_originCode) (a_goesOn := a_goesOn) (a_events := a_events) (a_cuts := a_cuts) (a_firm := a_firm) (a_cutsGone := a_cutsGone) (a_byVersion := a_byVersion) (a_byOrigin := a_byOrigin) (a_upTo := a_upTo) (a_draftType := a_draftType) (a_draftValue := a_draftValue) (a_dOp := a_dOp) (a_dC := a_dC) (a_height := a_height) (a_clash := a_clash) (a_pOp := a_pOp) (a_pSize := a_pSize) (a_pC := a_pC) (a_position := a_position) (a_cell := a_cell) (a_noted := a_noted) (a_stack := a_stack) (a_before := a_before) (a_shown := a_shown) (a_gType := a_gType) (a_gTaken := upd a_gTaken g (nI (nt - 1))) (a_gWaiting := a_gWaiting) (a_kCount := a_kCount) (a_gCursor := a_gCursor) (a_gParked := a_gParked) (a_kCursor := a_kCursor) (a_wAt := a_wAt) (a_kAt := a_kAt) (a_wTimes := a_wTimes) (a_kTimes := a_kTimes) hg (show nt - 1 < 6 by omega) pk_us a_tAt a_tDue a_tTimes hp (nt - 1 - c) c (by omega) (Nat.le_refl _)
  rw [es_sl_0, es_sl_0, es_sl_0] at key
  unfold wpX_release
  dsimp only
  rw [nI_clamp (show g < 2 ^ 31 by omega), e, es_m1 (show 0 < nt by omega), es_b8 (show nt - 1 < 128 by omega)]
  exact ⟨hv, hv, nm_e ⟨_, key⟩⟩
theorem es_x_back {g nt nw c : Nat} (hg : g < 2) (hn : nt + nw ≤ 6) (hc : c < nt) (e : a_gTaken g = nI nt) (e2 : a_gWaiting g = nI nw) {post : SX → Prop}
    (h1 : a_tTimes (6 * g + c) < 3 → post (f_held, f_records, f_flushed, f_summed, f_draft, f_drafted, f_seen, f_time, f_taken, a_at, a_version, a_value, a_originAt, a_stream, a_type, a_originBy, a_originCode, a_goesOn, a_events, a_cuts, a_firm, a_cutsGone, a_byVersion, a_byOrigin, a_upTo, a_draftType, a_draftValue, a_dOp, a_dC, a_height, a_clash, a_pOp, a_pSize, a_pC, a_position, a_cell, a_noted, a_stack, a_before, a_shown, a_gType, upd a_gTaken g (nI (nt - 1)), upd a_gWaiting g (nI (nw + 1)), a_kCount, a_gCursor, a_gParked, a_kCursor, es_sl a_tAt (6 * g + c) (6 * g + (nt - 1)), es_sl a_tDue (6 * g + c) (6 * g + (nt - 1)), upd a_wAt (6 * g + nw) (a_tAt (6 * g + c)), a_kAt, es_sl a_tTimes (6 * g + c) (6 * g + (nt - 1)), upd a_wTimes (6 * g + nw) (a_tTimes (6 * g + c)), a_kTimes))
    (h2 : ¬ a_tTimes (6 * g + c) < 3 → post (f_held, f_records, f_flushed, f_summed, f_draft, f_drafted, f_seen, f_time, f_taken, a_at, a_version, a_value, a_originAt, a_stream, a_type, a_originBy, a_originCode, a_goesOn, a_events, a_cuts, a_firm, a_cutsGone, a_byVersion, a_byOrigin, a_upTo, a_draftType, a_draftValue, a_dOp, a_dC, a_height, a_clash, a_pOp, a_pSize, a_pC, a_position, a_cell, a_noted, a_stack, a_before, a_shown, a_gType, upd a_gTaken g (nI (nt - 1)), a_gWaiting, a_kCount, a_gCursor, upd a_gParked g (a_gParked g + 1), a_kCursor, es_sl a_tAt (6 * g + c) (6 * g + (nt - 1)), es_sl a_tDue (6 * g + c) (6 * g + (nt - 1)), a_wAt, a_kAt, es_sl a_tTimes (6 * g + c) (6 * g + (nt - 1)), a_wTimes, a_kTimes)) : wpX_goesBack post (f_held, f_records, f_flushed, f_summed, f_draft, f_drafted, f_seen, f_time, f_taken, a_at, a_version, a_value, a_originAt, a_stream, a_type, a_originBy, a_originCode, a_goesOn, a_events, a_cuts, a_firm, a_cutsGone, a_byVersion, a_byOrigin, a_upTo, a_draftType, a_draftValue, a_dOp, a_dC, a_height, a_clash, a_pOp, a_pSize, a_pC, a_position, a_cell, a_noted, a_stack, a_before, a_shown, a_gType, a_gTaken, a_gWaiting, a_kCount, a_gCursor, a_gParked, a_kCursor, a_tAt, a_tDue, a_wAt, a_kAt, a_tTimes, a_wTimes, a_kTimes) (nI g) (nI (6 * g + c)) := by
  have hv : vp_in (nI g) 2 := vp_in_nI hg (by decide)
  have hv1 : vp_in (nI (6 * g + c)) 12 := vp_in_nI (by omega) (by decide)
  unfold wpX_goesBack
  dsimp only
  rw [nI_clamp (show 6 * g + c < 2 ^ 31 by omega)]
  refine ⟨hv1, nm_e ⟨hv1, nm_e (es_x_release hg (by omega) hc e ?_)⟩⟩
  dsimp only
  rw [es_le2, nI_clamp (show g < 2 ^ 31 by omega)]
  exact br_c (fun z => es_x_queue hg (by omega) e2 (h1 z)) (fun z => ⟨hv, hv, nm_e (h2 z)⟩)
end X
section Y
variable {g_count g_flushed g_calls g_drafted g_top g_time : Int32} {b_isCut b_removed b_stream b_type b_from b_by b_value b_version b_on b_call b_draftType b_draftValue b_op b_with b_length b_height b_torn b_stack b_position b_cells b_noted b_wanted b_formed b_cursor b_parked b_where b_often b_due b_many b_found : Nat → Int32}
theorem es_y_str13 {r n c : Nat} (hr : r < 4) (hn : n < 6) (e : b_many r = nI n) (wh of_ du : Nat → Int32) {post : SY → Prop} (hp : post (g_count, g_flushed, g_calls, g_drafted, g_top, g_time, b_isCut, b_removed, b_stream, b_type, b_from, b_by, b_value, b_version, b_on, b_call, b_draftType, b_draftValue, b_op, b_with, b_length, b_height, b_torn, b_stack, b_position, b_cells, b_noted, b_wanted, b_formed, b_cursor, b_parked, es_sl wh (8 * r + c) (8 * r + n), es_sl of_ (8 * r + c) (8 * r + n), es_sl du (8 * r + c) (8 * r + n), b_many, b_found)) :
    ∀ d i, i + d = n → c ≤ i → wY_strike_13 post (nI r) g_count g_flushed g_calls g_drafted g_top g_time (d + 1) (nI (8 * r + i)) b_isCut b_removed b_stream b_type b_from b_by b_value b_version b_on b_call b_draftType b_draftValue b_op b_with b_length b_height b_torn b_stack b_position b_cells b_noted b_wanted b_formed b_cursor b_parked (es_sl wh (8 * r + c) (8 * r + i)) (es_sl of_ (8 * r + c) (8 * r + i)) (es_sl du (8 * r + c) (8 * r + i)) b_many b_found := by
  have hv : vp_in (nI r) 6 := vp_in_nI (by omega) (by decide)
  have cg : (nI r).toNatClampNeg = r := nI_clamp (by omega)
  intro d
  induction d with
  | zero =>
    intro i hi hci
    have e' : i = n := by omega
    subst e'
    refine ⟨hv, ?_⟩
    rw [cg, es_8g, e, nI_add]
    exact br_t (nI_le (Nat.le_refl _) (by omega)) hp
  | succ d ih =>
    intro i hi hci
    have hv1 : vp_in (nI (8 * r + i)) 64 := vp_in_nI (by omega) (by decide)
    have hv2 : vp_in (nI (8 * r + i + 1)) 64 := vp_in_nI (by omega) (by decide)
    have ih' := ih (i + 1) (by omega) (by omega)
    have s := fun a => es_sl_s (a := a) (show 8 * r + c ≤ 8 * r + i by omega)
    refine ⟨hv, ?_⟩
    rw [cg, es_8g, e, nI_add, nI_1, nI_clamp (show 8 * r + i < 2 ^ 31 by omega), nI_clamp (show 8 * r + i + 1 < 2 ^ 31 by omega), s wh, s of_, s du]
    exact br_f (nI_ge (by omega) (by omega)) ⟨hv2, hv1, nm_e ⟨hv2, hv1, nm_e ⟨hv2, hv1, nm_e (nm_e ih')⟩⟩⟩
theorem es_y_strike {r n c : Nat} (hr : r < 4) (hn : n ≤ 6) (hc : c < n) (e : b_many r = nI n) {post : SY → Prop} (hp : post (g_count, g_flushed, g_calls, g_drafted, g_top, g_time, b_isCut, b_removed, b_stream, b_type, b_from, b_by, b_value, b_version, b_on, b_call, b_draftType, b_draftValue, b_op, b_with, b_length, b_height, b_torn, b_stack, b_position, b_cells, b_noted, b_wanted, b_formed, b_cursor, b_parked, es_sl b_where (8 * r + c) (8 * r + (n - 1)), es_sl b_often (8 * r + c) (8 * r + (n - 1)), es_sl b_due (8 * r + c) (8 * r + (n - 1)), upd b_many r (nI (n - 1)), b_found)) : wpY_strike post (g_count, g_flushed, g_calls, g_drafted, g_top, g_time, b_isCut, b_removed, b_stream, b_type, b_from, b_by, b_value, b_version, b_on, b_call, b_draftType, b_draftValue, b_op, b_with, b_length, b_height, b_torn, b_stack, b_position, b_cells, b_noted, b_wanted, b_formed, b_cursor, b_parked, b_where, b_often, b_due, b_many, b_found) (nI r) (nI (8 * r + c)) := by
  have hv : vp_in (nI r) 6 := vp_in_nI (by omega) (by decide)
  have key := es_y_str13 (g_count := g_count) (g_flushed := g_flushed) (g_calls := g_calls) (g_drafted := g_drafted) (g_top := g_top) (g_time := g_time) (b_isCut := b_isCut) (b_removed := b_removed) (b_stream := b_stream) (b_type := b_type) (b_from := b_from) (b_by := b_by) (b_value := b_value) (b_version := b_version) (b_on := b_on) (b_call := b_call) (b_draftType := b_draftType) (b_draftValue := b_draftValue) (b_op := b_op) (b_with := b_with) (b_length := b_length) (b_height := b_height) (b_torn := b_torn) (b_stack := b_stack) (b_position := b_position) (b_cells := b_cells) (b_noted := b_noted) (b_wanted := b_wanted) (b_formed := b_formed) (b_cursor := b_cursor) (b_parked := b_parked) (b_many := upd b_many r (nI (n - 1))) (b_found := b_found) hr (show n - 1 < 6 by omega) pk_us b_where b_often b_due hp (n - 1 - c) c (by omega) (Nat.le_refl _)
  rw [es_sl_0, es_sl_0, es_sl_0] at key
  unfold wpY_strike
  dsimp only
  rw [nI_clamp (show r < 2 ^ 31 by omega), e, es_m1 (show 0 < n by omega), es_b8 (show n - 1 < 128 by omega)]
  exact ⟨hv, hv, nm_e ⟨_, key⟩⟩
theorem es_y_back {g nt nw c : Nat} (hg : g < 2) (hn : nt + nw ≤ 6) (hc : c < nt) (e : b_many g = nI nt) (e2 : b_many (2 + g) = nI nw) {post : SY → Prop}
    (h1 : b_often (8 * g + c) < 3 → post (g_count, g_flushed, g_calls, g_drafted, g_top, g_time, b_isCut, b_removed, b_stream, b_type, b_from, b_by, b_value, b_version, b_on, b_call, b_draftType, b_draftValue, b_op, b_with, b_length, b_height, b_torn, b_stack, b_position, b_cells, b_noted, b_wanted, b_formed, b_cursor, b_parked, es_sl (upd b_where (8 * (2 + g) + nw) (b_where (8 * g + c))) (8 * g + c) (8 * g + (nt - 1)), es_sl (upd b_often (8 * (2 + g) + nw) (b_often (8 * g + c))) (8 * g + c) (8 * g + (nt - 1)), es_sl b_due (8 * g + c) (8 * g + (nt - 1)), upd (upd b_many (2 + g) (nI (nw + 1))) g (nI (nt - 1)), b_found))
    (h2 : ¬ b_often (8 * g + c) < 3 → post (g_count, g_flushed, g_calls, g_drafted, g_top, g_time, b_isCut, b_removed, b_stream, b_type, b_from, b_by, b_value, b_version, b_on, b_call, b_draftType, b_draftValue, b_op, b_with, b_length, b_height, b_torn, b_stack, b_position, b_cells, b_noted, b_wanted, b_formed, b_cursor, upd b_parked g (b_parked g + 1), es_sl b_where (8 * g + c) (8 * g + (nt - 1)), es_sl b_often (8 * g + c) (8 * g + (nt - 1)), es_sl b_due (8 * g + c) (8 * g + (nt - 1)), upd b_many g (nI (nt - 1)), b_found)) : wpY_giveBack post (g_count, g_flushed, g_calls, g_drafted, g_top, g_time, b_isCut, b_removed, b_stream, b_type, b_from, b_by, b_value, b_version, b_on, b_call, b_draftType, b_draftValue, b_op, b_with, b_length, b_height, b_torn, b_stack, b_position, b_cells, b_noted, b_wanted, b_formed, b_cursor, b_parked, b_where, b_often, b_due, b_many, b_found) (nI g) (nI (8 * g + c)) := by
  have hv : vp_in (nI g) 2 := vp_in_nI hg (by decide)
  have hv1 : vp_in (nI (8 * g + c)) 64 := vp_in_nI (by omega) (by decide)
  have hv2 : vp_in (nI (2 + g)) 6 := vp_in_nI (by omega) (by decide)
  have hv3 : vp_in (nI (8 * (2 + g) + nw)) 64 := vp_in_nI (by omega) (by decide)
  have e2g : 2 + nI g = nI (2 + g) := nI_add 2 g
  unfold wpY_giveBack
  dsimp only
  refine nm_r e2g ?_
  rw [nI_clamp (show 8 * g + c < 2 ^ 31 by omega), nI_clamp (show 2 + g < 2 ^ 31 by omega), nI_clamp (show g < 2 ^ 31 by omega), e2, nI_1 nw, es_b8 (show nw + 1 < 128 by omega), es_8g, nI_add]
  refine ⟨hv1, br_c (fun z => ⟨hv2, hv2, nm_e (nm_e ?_)⟩) (fun z => ⟨hv, hv, nm_e ?_⟩)⟩
  · rw [nI_clamp (show 8 * (2 + g) + nw < 2 ^ 31 by omega)]
    refine ⟨hv1, hv3, nm_e ⟨hv1, hv3, nm_e ?_⟩⟩
    unfold wY_giveBack_72
    exact es_y_strike (by omega) (by omega) hc (by rw [pk_un (by omega)]; exact e) (h1 z)
  · unfold wY_giveBack_72
    exact es_y_strike (by omega) (by omega) hc e (h2 z)
end Y
section P
variable {f_held f_records f_flushed f_summed f_draft f_drafted f_seen f_time f_taken : Int32} {a_at a_version a_value a_originAt a_stream a_type a_originBy a_originCode a_goesOn a_events a_cuts a_firm a_cutsGone a_byVersion a_byOrigin a_draftType a_draftValue a_dOp a_dC a_height a_clash a_pOp a_pSize a_pC a_position a_cell a_noted a_stack a_before a_shown a_gType a_gTaken a_gWaiting a_kCount a_gCursor a_gParked a_kCursor a_tAt a_tDue a_wAt a_kAt a_tTimes a_wTimes a_kTimes : Nat → Int32} {a_upTo : Nat → Int64} {g_count g_flushed g_calls g_drafted g_top g_time : Int32} {b_isCut b_removed b_stream b_type b_from b_by b_value b_version b_on b_call b_draftType b_draftValue b_op b_with b_length b_height b_torn b_stack b_position b_cells b_noted b_wanted b_formed b_cursor b_parked b_where b_often b_due b_many b_found : Nat → Int32} {N F : Nat} {rm : Nat → Bool}
/-- all groups, after what is taken in cell c has left -/
theorem es_GRs_rel {g nt c : Nat} (hg : g < 2) (hn : nt ≤ 6) (hc : c < nt) (en : a_gTaken g = nI nt) (h8 : ∀ g, g < 2 → es_GR N F rm a_gType a_gTaken a_gWaiting a_kCount a_gCursor a_gParked a_kCursor a_tAt a_tDue a_wAt a_kAt a_tTimes a_wTimes a_kTimes b_wanted b_formed b_cursor b_parked b_where b_often b_due b_many g) :
    ∀ g', g' < 2 → es_GR N F rm a_gType (upd a_gTaken g (nI (nt - 1))) a_gWaiting a_kCount a_gCursor a_gParked a_kCursor (es_sl a_tAt (6 * g + c) (6 * g + (nt - 1))) (es_sl a_tDue (6 * g + c) (6 * g + (nt - 1))) a_wAt a_kAt (es_sl a_tTimes (6 * g + c) (6 * g + (nt - 1))) a_wTimes a_kTimes b_wanted b_formed b_cursor b_parked (es_sl b_where (8 * g + c) (8 * g + (nt - 1))) (es_sl b_often (8 * g + c) (8 * g + (nt - 1))) (es_sl b_due (8 * g + c) (8 * g + (nt - 1))) (upd b_many g (nI (nt - 1))) g' := fun g' hg' => by
  by_cases z : g' = g
  · subst z
    obtain ⟨nt1, nw, nk, c0, kc, ⟨a1, a2, a3, a4, a5, a6, a7, a8⟩, hb, p, f, ht, hw, hk, hs⟩ := h8 g' hg'
    have e1 : nt1 = nt := es_inj (a1.symm.trans en) (by omega) (by omega)
    subst e1
    refine ⟨nt1 - 1, nw, nk, c0, kc, ⟨pk_us, pk_us, a3, (pk_un (by omega)).trans a4, a5, (pk_un (by omega)).trans a6, by omega, a8⟩, hb, p, ?_, fun j hj => ?_, fun j hj => ?_, fun j hj => ?_, hs⟩
    · rcases f with ⟨f1, f2, f3, f4, f5⟩ | f
      · exact Or.inl ⟨f1, f2, by omega, f4, f5⟩
      · exact Or.inr f
    · by_cases q : c ≤ j
      · rw [es_sl_i (by omega), es_sl_i (by omega), es_sl_i (by omega), es_sl_i (by omega), es_sl_i (by omega), es_sl_i (by omega)]
        exact ht (j + 1) (by omega)
      · rw [es_sl_o (by omega), es_sl_o (by omega), es_sl_o (by omega), es_sl_o (by omega), es_sl_o (by omega), es_sl_o (by omega)]
        exact ht j (by omega)
    · rw [es_sl_o (by omega), es_sl_o (by omega)]
      exact hw j hj
    · rw [es_sl_o (by omega), es_sl_o (by omega)]
      exact hk j hj
  · refine es_GR_fr _ _ _ _ _ _ _ _ _ _ _ _ _ _ _ _ _ _ _ _ _ _ (h8 g' hg') ⟨rfl, pk_un z, rfl, rfl, rfl, rfl, rfl⟩ (fun j hj => ⟨es_sl_o (by omega), es_sl_o (by omega), rfl, rfl, es_sl_o (by omega), rfl, rfl⟩) ⟨rfl, rfl, rfl, rfl, rfl, pk_un z, pk_un (by omega), pk_un (by omega)⟩ (fun j hj => ⟨es_sl_o (by omega), es_sl_o (by omega), es_sl_o (by omega), es_sl_o (by omega), es_sl_o (by omega), es_sl_o (by omega), es_sl_o (by omega)⟩)
theorem es_GRs_que {g nt nw c : Nat} (hg : g < 2) (hn : nt + nw ≤ 6) (hc : c < nt) (en : a_gTaken g = nI nt) (ew : a_gWaiting g = nI nw) (h8 : ∀ g, g < 2 → es_GR N F rm a_gType a_gTaken a_gWaiting a_kCount a_gCursor a_gParked a_kCursor a_tAt a_tDue a_wAt a_kAt a_tTimes a_wTimes a_kTimes b_wanted b_formed b_cursor b_parked b_where b_often b_due b_many g) :
    ∀ g', g' < 2 → es_GR N F rm a_gType (upd a_gTaken g (nI (nt - 1))) (upd a_gWaiting g (nI (nw + 1))) a_kCount a_gCursor a_gParked a_kCursor (es_sl a_tAt (6 * g + c) (6 * g + (nt - 1))) (es_sl a_tDue (6 * g + c) (6 * g + (nt - 1))) (upd a_wAt (6 * g + nw) (a_tAt (6 * g + c))) a_kAt (es_sl a_tTimes (6 * g + c) (6 * g + (nt - 1))) (upd a_wTimes (6 * g + nw) (a_tTimes (6 * g + c))) a_kTimes b_wanted b_formed b_cursor b_parked (es_sl (upd b_where (8 * (2 + g) + nw) (b_where (8 * g + c))) (8 * g + c) (8 * g + (nt - 1))) (es_sl (upd b_often (8 * (2 + g) + nw) (b_often (8 * g + c))) (8 * g + c) (8 * g + (nt - 1))) (es_sl b_due (8 * g + c) (8 * g + (nt - 1))) (upd (upd b_many (2 + g) (nI (nw + 1))) g (nI (nt - 1))) g' := fun g' hg' => by
  by_cases z : g' = g
  · subst z
    obtain ⟨nt1, nw1, nk, c0, kc, ⟨a1, a2, a3, a4, a5, a6, a7, a8⟩, hb, p, f, ht, hw, hk, hs⟩ := h8 g' hg'
    have e1 : nt1 = nt := es_inj (a1.symm.trans en) (by omega) (by omega)
    have e2 : nw1 = nw := es_inj (a3.symm.trans ew) (by omega) (by omega)
    subst e1 e2
    refine ⟨nt1 - 1, nw1 + 1, nk, c0, kc, ⟨pk_us, pk_us, pk_us, (pk_un (by omega)).trans pk_us, a5, (pk_un (by omega)).trans ((pk_un (by omega)).trans a6), by omega, a8⟩, hb, p, ?_, fun j hj => ?_, fun j hj => ?_, fun j hj => ?_, hs⟩
    · rcases f with ⟨f1, f2, f3, f4, f5⟩ | f
      · omega
      · exact Or.inr f
    · by_cases q : c ≤ j
      · rw [es_sl_i (by omega), es_sl_i (by omega), es_sl_i (by omega), es_sl_i (by omega), es_sl_i (by omega), es_sl_i (by omega), pk_un (by omega), pk_un (by omega)]
        exact ht (j + 1) (by omega)
      · rw [es_sl_o (by omega), es_sl_o (by omega), es_sl_o (by omega), es_sl_o (by omega), es_sl_o (by omega), es_sl_o (by omega), pk_un (by omega), pk_un (by omega)]
        exact ht j (by omega)
    · rw [es_sl_o (by omega), es_sl_o (by omega)]
      by_cases q : j = nw1
      · obtain ⟨x1, x2, x3, x4⟩ := ht c hc
        rw [q, show 16 + 8 * g' + nw1 = 8 * (2 + g') + nw1 by omega, pk_us, pk_us, pk_us, pk_us]
        exact ⟨x1, x2, x4⟩
      · rw [pk_un (by omega), pk_un (by omega), pk_un (by omega), pk_un (by omega)]
        exact hw j (by omega)
    · rw [es_sl_o (by omega), es_sl_o (by omega), pk_un (by omega), pk_un (by omega)]
      exact hk j hj
  · refine es_GR_fr _ _ _ _ _ _ _ _ _ _ _ _ _ _ _ _ _ _ _ _ _ _ (h8 g' hg') ⟨rfl, pk_un z, pk_un z, rfl, rfl, rfl, rfl⟩ (fun j hj => ⟨es_sl_o (by omega), es_sl_o (by omega), pk_un (by omega), rfl, es_sl_o (by omega), pk_un (by omega), rfl⟩) ⟨rfl, rfl, rfl, rfl, rfl, (pk_un z).trans (pk_un (by omega)), (pk_un (by omega)).trans (pk_un (by omega)), (pk_un (by omega)).trans (pk_un (by omega))⟩ (fun j hj => ⟨(es_sl_o (by omega)).trans (pk_un (by omega)), (es_sl_o (by omega)).trans (pk_un (by omega)), (es_sl_o (by omega)).trans (pk_un (by omega)), (es_sl_o (by omega)).trans (pk_un (by omega)), (es_sl_o (by omega)).trans (pk_un (by omega)), (es_sl_o (by omega)).trans (pk_un (by omega)), es_sl_o (by omega)⟩)
theorem es_GRs_pk {g : Nat} (hg : g < 2) (h8 : ∀ g, g < 2 → es_GR N F rm a_gType a_gTaken a_gWaiting a_kCount a_gCursor a_gParked a_kCursor a_tAt a_tDue a_wAt a_kAt a_tTimes a_wTimes a_kTimes b_wanted b_formed b_cursor b_parked b_where b_often b_due b_many g) :
    ∀ g', g' < 2 → es_GR N F rm a_gType a_gTaken a_gWaiting a_kCount a_gCursor (upd a_gParked g (a_gParked g + 1)) a_kCursor a_tAt a_tDue a_wAt a_kAt a_tTimes a_wTimes a_kTimes b_wanted b_formed b_cursor (upd b_parked g (b_parked g + 1)) b_where b_often b_due b_many g' := fun g' hg' => by
  obtain ⟨nt1, nw, nk, c0, kc, ha, hb, p, f⟩ := h8 g' hg'
  refine ⟨nt1, nw, nk, c0, kc, ha, hb, ?_, f⟩
  by_cases z : g' = g
  · subst z
    rw [pk_us, pk_us, p]
  · rw [pk_un z, pk_un z]; exact p
end P
end ES40
end
section
/-! answer; the soonest -/
section ES41
theorem es_fs_le (p : Nat → Bool) : ∀ d i, i ≤ es_fs p d i ∧ es_fs p d i ≤ i + d
  | 0, i => ⟨Nat.le_refl _, Nat.le_refl _⟩
  | d + 1, i => by
    have ih := es_fs_le p d (i + 1)
    cases h : p i
    · rw [es_fs_f h]; omega
    · rw [es_fs_t h]; omega
theorem es_fs_p {p : Nat → Bool} : ∀ d i, es_fs p d i < i + d → p (es_fs p d i) = true
  | 0, i, h => absurd h (Nat.lt_irrefl _)
  | d + 1, i, h => by
    cases e : p i
    · rw [es_fs_f e] at h ⊢; exact es_fs_p d (i + 1) (by omega)
    · rw [es_fs_t e]; exact e
section X
variable {f_held f_records f_flushed f_summed f_draft f_drafted f_seen f_time f_taken : Int32} {a_at a_version a_value a_originAt a_stream a_type a_originBy a_originCode a_goesOn a_events a_cuts a_firm a_cutsGone a_byVersion a_byOrigin a_draftType a_draftValue a_dOp a_dC a_height a_clash a_pOp a_pSize a_pC a_position a_cell a_noted a_stack a_before a_shown a_gType a_gTaken a_gWaiting a_kCount a_gCursor a_gParked a_kCursor a_tAt a_tDue a_wAt a_kAt a_tTimes a_wTimes a_kTimes : Nat → Int32} {a_upTo : Nat → Int64}
theorem es_x_ans25 {g nt : Nat} {tA : Nat → Int32} {x2 x3 : Int32} (hg : g < 2) (hn : nt ≤ 6) (e : a_gTaken g = nI nt) (hA : ∀ j, j < nt → a_tAt (6 * g + j) = tA j) {post : Int32 → SX → Prop} :
    ∀ d i, i + d = nt → (es_fs (fun j => decide (tA j = x2)) d i < nt → (x3 = 0 → wpX_goesBack (fun u => post 1 u) (f_held, f_records, f_flushed, f_summed, f_draft, f_drafted, f_seen, f_time, f_taken, a_at, a_version, a_value, a_originAt, a_stream, a_type, a_originBy, a_originCode, a_goesOn, a_events, a_cuts, a_firm, a_cutsGone, a_byVersion, a_byOrigin, a_upTo, a_draftType, a_draftValue, a_dOp, a_dC, a_height, a_clash, a_pOp, a_pSize, a_pC, a_position, a_cell, a_noted, a_stack, a_before, a_shown, a_gType, a_gTaken, a_gWaiting, a_kCount, a_gCursor, a_gParked, a_kCursor, a_tAt, a_tDue, a_wAt, a_kAt, a_tTimes, a_wTimes, a_kTimes) (nI g) (nI (6 * g + es_fs (fun j => decide (tA j = x2)) d i))) ∧ (¬ x3 = 0 → wpX_release (fun u => post 1 u) (f_held, f_records, f_flushed, f_summed, f_draft, f_drafted, f_seen, f_time, f_taken, a_at, a_version, a_value, a_originAt, a_stream, a_type, a_originBy, a_originCode, a_goesOn, a_events, a_cuts, a_firm, a_cutsGone, a_byVersion, a_byOrigin, a_upTo, a_draftType, a_draftValue, a_dOp, a_dC, a_height, a_clash, a_pOp, a_pSize, a_pC, a_position, a_cell, a_noted, a_stack, a_before, a_shown, a_gType, a_gTaken, a_gWaiting, a_kCount, a_gCursor, a_gParked, a_kCursor, a_tAt, a_tDue, a_wAt, a_kAt, a_tTimes, a_wTimes, a_kTimes) (nI g) (nI (6 * g + es_fs (fun j => decide (tA j = x2)) d i)))) → (es_fs (fun j => decide (tA j = x2)) d i = nt → post 0 (f_held, f_records, f_flushed, f_summed, f_draft, f_drafted, f_seen, f_time, f_taken, a_at, a_version, a_value, a_originAt, a_stream, a_type, a_originBy, a_originCode, a_goesOn, a_events, a_cuts, a_firm, a_cutsGone, a_byVersion, a_byOrigin, a_upTo, a_draftType, a_draftValue, a_dOp, a_dC, a_height, a_clash, a_pOp, a_pSize, a_pC, a_position, a_cell, a_noted, a_stack, a_before, a_shown, a_gType, a_gTaken, a_gWaiting, a_kCount, a_gCursor, a_gParked, a_kCursor, a_tAt, a_tDue, a_wAt, a_kAt, a_tTimes, a_wTimes, a_kTimes)) → wX_answer_25 post (nI g) x2 x3 f_held f_records f_flushed f_summed f_draft f_drafted f_seen f_time f_taken a_at a_version a_value a_originAt a_stream a_type a_originBy a_originCode a_goesOn a_events a_cuts a_firm a_cutsGone a_byVersion a_byOrigin a_upTo a_draftType a_draftValue a_dOp a_dC a_height a_clash a_pOp a_pSize a_pC a_position a_cell a_noted a_stack a_before a_shown a_gType a_gTaken a_gWaiting a_kCount a_gCursor a_gParked a_kCursor a_tAt a_tDue a_wAt a_kAt a_tTimes a_wTimes a_kTimes (d + 1) (nI (6 * g + i)) := by
  have hv : vp_in (nI g) 2 := vp_in_nI hg (by decide)
  have cg : (nI g).toNatClampNeg = g := nI_clamp (by omega)
  intro d
  induction d with
  | zero =>
    intro i hi h1 h0
    have e' : i = nt := by omega
    refine ⟨hv, ?_⟩
    rw [cg, es_6g, e, nI_add]
    exact br_t (by rw [e']; exact nI_le (Nat.le_refl _) (by omega)) (h0 e')
  | succ d ih =>
    intro i hi h1 h0
    refine ⟨hv, ?_⟩
    rw [cg, es_6g, e, nI_add, nI_clamp (show 6 * g + i < 2 ^ 31 by omega), hA i (by omega)]
    refine br_f (nI_ge (by omega) (by omega)) ⟨vp_in_nI (by omega) (by decide), ?_⟩
    by_cases c : tA i = x2
    · rw [es_fs_t (p := fun j => decide (tA j = x2)) (decide_eq_true c)] at h1
      exact br_t c (h1 (by omega))
    · rw [es_fs_f (p := fun j => decide (tA j = x2)) (decide_eq_false c)] at h1 h0
      exact br_f c (nm_r (nI_1 _) (ih (i + 1) (by omega) h1 h0))
end X
section Y
variable {g_count g_flushed g_calls g_drafted g_top g_time : Int32} {b_isCut b_removed b_stream b_type b_from b_by b_value b_version b_on b_call b_draftType b_draftValue b_op b_with b_length b_height b_torn b_stack b_position b_cells b_noted b_wanted b_formed b_cursor b_parked b_where b_often b_due b_many b_found : Nat → Int32}
theorem es_y_ans16 {g nt : Nat} {tA : Nat → Int32} {x2 x3 : Int32} (hg : g < 2) (hn : nt ≤ 6) (e : b_many g = nI nt) (hA : ∀ j, j < nt → b_where (8 * g + j) = tA j) {post : Int32 → SY → Prop} :
    ∀ d i, i + d = nt → (es_fs (fun j => decide (tA j = x2)) d i < nt → (x3 = 0 → wpY_giveBack (fun u => post 1 u) (g_count, g_flushed, g_calls, g_drafted, g_top, g_time, b_isCut, b_removed, b_stream, b_type, b_from, b_by, b_value, b_version, b_on, b_call, b_draftType, b_draftValue, b_op, b_with, b_length, b_height, b_torn, b_stack, b_position, b_cells, b_noted, b_wanted, b_formed, b_cursor, b_parked, b_where, b_often, b_due, b_many, b_found) (nI g) (nI (8 * g + es_fs (fun j => decide (tA j = x2)) d i))) ∧ (¬ x3 = 0 → wpY_strike (fun u => post 1 u) (g_count, g_flushed, g_calls, g_drafted, g_top, g_time, b_isCut, b_removed, b_stream, b_type, b_from, b_by, b_value, b_version, b_on, b_call, b_draftType, b_draftValue, b_op, b_with, b_length, b_height, b_torn, b_stack, b_position, b_cells, b_noted, b_wanted, b_formed, b_cursor, b_parked, b_where, b_often, b_due, b_many, b_found) (nI g) (nI (8 * g + es_fs (fun j => decide (tA j = x2)) d i)))) → (es_fs (fun j => decide (tA j = x2)) d i = nt → post 0 (g_count, g_flushed, g_calls, g_drafted, g_top, g_time, b_isCut, b_removed, b_stream, b_type, b_from, b_by, b_value, b_version, b_on, b_call, b_draftType, b_draftValue, b_op, b_with, b_length, b_height, b_torn, b_stack, b_position, b_cells, b_noted, b_wanted, b_formed, b_cursor, b_parked, b_where, b_often, b_due, b_many, b_found)) → wY_answer_16 post (nI g) x2 x3 g_count g_flushed g_calls g_drafted g_top g_time b_isCut b_removed b_stream b_type b_from b_by b_value b_version b_on b_call b_draftType b_draftValue b_op b_with b_length b_height b_torn b_stack b_position b_cells b_noted b_wanted b_formed b_cursor b_parked b_where b_often b_due b_many b_found (d + 1) (nI (8 * g + i)) := by
  have hv : vp_in (nI g) 6 := vp_in_nI (by omega) (by decide)
  have cg : (nI g).toNatClampNeg = g := nI_clamp (by omega)
  intro d
  induction d with
  | zero =>
    intro i hi h1 h0
    have e' : i = nt := by omega
    refine ⟨hv, ?_⟩
    rw [cg, es_8g, e, nI_add]
    exact br_t (by rw [e']; exact nI_le (Nat.le_refl _) (by omega)) (h0 e')
  | succ d ih =>
    intro i hi h1 h0
    refine ⟨hv, ?_⟩
    rw [cg, es_8g, e, nI_add, nI_clamp (show 8 * g + i < 2 ^ 31 by omega), hA i (by omega)]
    refine br_f (nI_ge (by omega) (by omega)) ⟨vp_in_nI (by omega) (by decide), ?_⟩
    by_cases c : tA i = x2
    · rw [es_fs_t (p := fun j => decide (tA j = x2)) (decide_eq_true c)] at h1
      exact br_t c (h1 (by omega))
    · rw [es_fs_f (p := fun j => decide (tA j = x2)) (decide_eq_false c)] at h1 h0
      exact br_f c (nm_r (nI_1 _) (ih (i + 1) (by omega) h1 h0))
end Y
theorem i_vc_answer {k : Nat} {u : SX} {v : SY} (I : i_Rel k u v) (hk : k + 4 ≤ 2048) (v1 : Int32) (v2 : Int32) (v3 : Int32) : wpX_answer (fun r u' => wpY_answer (fun r' v' => r' = r ∧ i_Rel (k + 4) u' v') v v1 v2 (lw_bz v3)) u v1 v2 (lw_bz v3) := by
  refine es_el (P := fun u v => wpX_answer (fun r u' => wpY_answer (fun r' v' => r' = r ∧ i_Rel (k + 4) u' v') v v1 v2 (lw_bz v3)) u v1 v2 (lw_bz v3)) ?_ u v I
  intro f_held f_records f_flushed f_summed f_draft f_drafted f_seen f_time f_taken a_at a_version a_value a_originAt a_stream a_type a_originBy a_originCode a_goesOn a_events a_cuts a_firm a_cutsGone a_byVersion a_byOrigin a_draftType a_draftValue a_dOp a_dC a_height a_clash a_pOp a_pSize a_pC a_position a_cell a_noted a_stack a_before a_shown a_gType a_gTaken a_gWaiting a_kCount a_gCursor a_gParked a_kCursor a_tAt a_tDue a_wAt a_kAt a_tTimes a_wTimes a_kTimes a_upTo g_count g_flushed g_calls g_drafted g_top g_time b_isCut b_removed b_stream b_type b_from b_by b_value b_version b_on b_call b_draftType b_draftValue b_op b_with b_length b_height b_torn b_stack b_position b_cells b_noted b_wanted b_formed b_cursor b_parked b_where b_often b_due b_many b_found N F C L rm h1 h2 h3 h4 h5 h6 h7 h8 h9 h10
  show wpX_answer (fun r u' => wpY_answer (fun r' v' => r' = r ∧ i_Rel (k + 4) u' v') (g_count, g_flushed, g_calls, g_drafted, g_top, g_time, b_isCut, b_removed, b_stream, b_type, b_from, b_by, b_value, b_version, b_on, b_call, b_draftType, b_draftValue, b_op, b_with, b_length, b_height, b_torn, b_stack, b_position, b_cells, b_noted, b_wanted, b_formed, b_cursor, b_parked, b_where, b_often, b_due, b_many, b_found) v1 v2 (lw_bz v3)) (f_held, f_records, f_flushed, f_summed, f_draft, f_drafted, f_seen, f_time, f_taken, a_at, a_version, a_value, a_originAt, a_stream, a_type, a_originBy, a_originCode, a_goesOn, a_events, a_cuts, a_firm, a_cutsGone, a_byVersion, a_byOrigin, a_upTo, a_draftType, a_draftValue, a_dOp, a_dC, a_height, a_clash, a_pOp, a_pSize, a_pC, a_position, a_cell, a_noted, a_stack, a_before, a_shown, a_gType, a_gTaken, a_gWaiting, a_kCount, a_gCursor, a_gParked, a_kCursor, a_tAt, a_tDue, a_wAt, a_kAt, a_tTimes, a_wTimes, a_kTimes) v1 v2 (lw_bz v3)
  have keep : i_Rel (k + 4) (f_held, f_records, f_flushed, f_summed, f_draft, f_drafted, f_seen, f_time, f_taken, a_at, a_version, a_value, a_originAt, a_stream, a_type, a_originBy, a_originCode, a_goesOn, a_events, a_cuts, a_firm, a_cutsGone, a_byVersion, a_byOrigin, a_upTo, a_draftType, a_draftValue, a_dOp, a_dC, a_height, a_clash, a_pOp, a_pSize, a_pC, a_position, a_cell, a_noted, a_stack, a_before, a_shown, a_gType, a_gTaken, a_gWaiting, a_kCount, a_gCursor, a_gParked, a_kCursor, a_tAt, a_tDue, a_wAt, a_kAt, a_tTimes, a_wTimes, a_kTimes) (g_count, g_flushed, g_calls, g_drafted, g_top, g_time, b_isCut, b_removed, b_stream, b_type, b_from, b_by, b_value, b_version, b_on, b_call, b_draftType, b_draftValue, b_op, b_with, b_length, b_height, b_torn, b_stack, b_position, b_cells, b_noted, b_wanted, b_formed, b_cursor, b_parked, b_where, b_often, b_due, b_many, b_found) := es_mk h1 h2 h3 (by omega) h5 h6 h7 h8 h9 h10
  have out : (v1 < 0 ∨ nI 2 ≤ v1) → wpX_answer (fun r u' => wpY_answer (fun r' v' => r' = r ∧ i_Rel (k + 4) u' v') (g_count, g_flushed, g_calls, g_drafted, g_top, g_time, b_isCut, b_removed, b_stream, b_type, b_from, b_by, b_value, b_version, b_on, b_call, b_draftType, b_draftValue, b_op, b_with, b_length, b_height, b_torn, b_stack, b_position, b_cells, b_noted, b_wanted, b_formed, b_cursor, b_parked, b_where, b_often, b_due, b_many, b_found) v1 v2 (lw_bz v3)) (f_held, f_records, f_flushed, f_summed, f_draft, f_drafted, f_seen, f_time, f_taken, a_at, a_version, a_value, a_originAt, a_stream, a_type, a_originBy, a_originCode, a_goesOn, a_events, a_cuts, a_firm, a_cutsGone, a_byVersion, a_byOrigin, a_upTo, a_draftType, a_draftValue, a_dOp, a_dC, a_height, a_clash, a_pOp, a_pSize, a_pC, a_position, a_cell, a_noted, a_stack, a_before, a_shown, a_gType, a_gTaken, a_gWaiting, a_kCount, a_gCursor, a_gParked, a_kCursor, a_tAt, a_tDue, a_wAt, a_kAt, a_tTimes, a_wTimes, a_kTimes) v1 v2 (lw_bz v3) := fun c => by
    unfold wpX_answer
    refine es_am0 (n := 2) c (br_t rfl ?_)
    unfold wpY_answer
    exact es_out1 (n := 2) c (br_f es_10 ⟨rfl, keep⟩)
  rcases pk_ix v1 (n := 2) (by decide) with c | c | ⟨g, hg, rfl⟩
  · exact out (Or.inl c)
  · exact out (Or.inr c)
  clear out
  have h8' := h8
  obtain ⟨nt, nw, nk, c0, kc, ⟨a1, a2, a3, a4, a5, a6, a7, a8⟩, hb, p, f, ht, hw, hk', hs⟩ := h8 g hg
  have hv : vp_in (nI g) 2 := vp_in_nI hg (by decide)
  have cg : (nI g).toNatClampNeg = g := nI_clamp (by omega)
  have hY : ∀ {post : Int32 → SY → Prop}, (es_fs (fun j => decide (a_tAt (6 * g + j) = v2)) nt 0 < nt → (lw_bz v3 = 0 → wpY_giveBack (fun u => post 1 u) (g_count, g_flushed, g_calls, g_drafted, g_top, g_time, b_isCut, b_removed, b_stream, b_type, b_from, b_by, b_value, b_version, b_on, b_call, b_draftType, b_draftValue, b_op, b_with, b_length, b_height, b_torn, b_stack, b_position, b_cells, b_noted, b_wanted, b_formed, b_cursor, b_parked, b_where, b_often, b_due, b_many, b_found) (nI g) (nI (8 * g + es_fs (fun j => decide (a_tAt (6 * g + j) = v2)) nt 0))) ∧ (¬ lw_bz v3 = 0 → wpY_strike (fun u => post 1 u) (g_count, g_flushed, g_calls, g_drafted, g_top, g_time, b_isCut, b_removed, b_stream, b_type, b_from, b_by, b_value, b_version, b_on, b_call, b_draftType, b_draftValue, b_op, b_with, b_length, b_height, b_torn, b_stack, b_position, b_cells, b_noted, b_wanted, b_formed, b_cursor, b_parked, b_where, b_often, b_due, b_many, b_found) (nI g) (nI (8 * g + es_fs (fun j => decide (a_tAt (6 * g + j) = v2)) nt 0)))) → (es_fs (fun j => decide (a_tAt (6 * g + j) = v2)) nt 0 = nt → post 0 (g_count, g_flushed, g_calls, g_drafted, g_top, g_time, b_isCut, b_removed, b_stream, b_type, b_from, b_by, b_value, b_version, b_on, b_call, b_draftType, b_draftValue, b_op, b_with, b_length, b_height, b_torn, b_stack, b_position, b_cells, b_noted, b_wanted, b_formed, b_cursor, b_parked, b_where, b_often, b_due, b_many, b_found)) → wpY_answer post (g_count, g_flushed, g_calls, g_drafted, g_top, g_time, b_isCut, b_removed, b_stream, b_type, b_from, b_by, b_value, b_version, b_on, b_call, b_draftType, b_draftValue, b_op, b_with, b_length, b_height, b_torn, b_stack, b_position, b_cells, b_noted, b_wanted, b_formed, b_cursor, b_parked, b_where, b_often, b_due, b_many, b_found) (nI g) v2 (lw_bz v3) := fun {post} q1 q2 => by
    have key := es_y_ans16 (g_count := g_count) (g_flushed := g_flushed) (g_calls := g_calls) (g_drafted := g_drafted) (g_top := g_top) (g_time := g_time) (b_isCut := b_isCut) (b_removed := b_removed) (b_stream := b_stream) (b_type := b_type) (b_from := b_from) (b_by := b_by) (b_value := b_value) (b_version := b_version) (b_on := b_on) (b_call := b_call) (b_draftType := b_draftType) (b_draftValue := b_draftValue) (b_op := b_op) (b_with := b_with) (b_length := b_length) (b_height := b_height) (b_torn := b_torn) (b_stack := b_stack) (b_position := b_position) (b_cells := b_cells) (b_noted := b_noted) (b_wanted := b_wanted) (b_formed := b_formed) (b_cursor := b_cursor) (b_parked := b_parked) (b_where := b_where) (b_often := b_often) (b_due := b_due) (b_many := b_many) (b_found := b_found) (tA := fun j => a_tAt (6 * g + j)) (x2 := v2) (x3 := lw_bz v3) hg (by omega) a2 (fun j hj => (ht j hj).1) (post := post) nt 0 (by omega) q1 q2
    unfold wpY_answer
    exact es_out0 (n := 2) hg (by decide) (br_t rfl (nm_r (es_8g g) ⟨_, key⟩))
  unfold wpX_answer
  refine es_am1 (n := 2) hg (by decide) (br_f es_10 ⟨hv, ?_⟩)
  rw [cg]
  rcases f with ⟨f1, f2, f3, f4, f5⟩ | ⟨t, t1, t2, t3, t4, t5⟩
  · rw [f1]
    refine br_f es_n0 (hY (fun z => ?_) (fun _ => ⟨rfl, keep⟩))
    rw [f3] at z
    exact absurd z (Nat.not_lt_zero _)
  · rw [t2]
    refine br_t (nI_pos' (by omega)) (nm_r (es_6g g) ⟨nt + 1, ?_⟩)
    have hle := es_fs_le (fun j => decide (a_tAt (6 * g + j) = v2)) nt 0
    refine es_x_ans25 (tA := fun j => a_tAt (6 * g + j)) hg (by omega) a1 (fun _ _ => rfl) nt 0 (by omega) (fun z => ?_) (fun z => hY (fun y => absurd y (by omega)) (fun _ => ⟨rfl, keep⟩))
    obtain ⟨q1, q2, q3, q4⟩ := ht _ z
    refine ⟨fun y => es_x_back hg a7 z a1 a3 (fun w => ?_) (fun w => ?_), fun y => es_x_release hg (by omega) z a1 ?_⟩
    · refine hY (fun _ => ⟨fun _ => es_y_back hg a7 z a2 a4 (fun w' => ?_) (fun w' => absurd (by rw [q2]; exact w) w'), fun y' => absurd y y'⟩) (fun y' => absurd y' (by omega))
      exact ⟨rfl, es_mk h1 h2 h3 (by omega) h5 h6 h7 (es_GRs_que hg a7 z a1 a3 h8') h9 h10⟩
    · refine hY (fun _ => ⟨fun _ => es_y_back hg a7 z a2 a4 (fun w' => absurd (by rw [← q2]; exact w') w) (fun w' => ?_), fun y' => absurd y y'⟩) (fun y' => absurd y' (by omega))
      exact ⟨rfl, es_mk h1 h2 h3 (by omega) h5 h6 h7 (es_GRs_pk hg (es_GRs_rel hg (by omega) z a1 h8')) h9 h10⟩
    · refine hY (fun _ => ⟨fun y' => absurd y' y, fun _ => es_y_strike (by omega) (by omega) z a2 ?_⟩) (fun y' => absurd y' (by omega))
      exact ⟨rfl, es_mk h1 h2 h3 (by omega) h5 h6 h7 (es_GRs_rel hg (by omega) z a1 h8') h9 h10⟩
end ES41
end
section
/-! tick -/
section ES42
def es_bt (du tA : Nat → Int32) (n b : Nat) : Bool := decide (du n < du b) || (decide (du n = du b) && decide (¬ tA b ≤ tA n))
/-- the soonest of n, plus one; 0: none -/
def es_bst (du tA : Nat → Int32) : Nat → Nat
  | 0 => 0
  | n + 1 => if es_bst du tA n = 0 then n + 1 else if es_bt du tA n (es_bst du tA n - 1) = true then n + 1 else es_bst du tA n
def es_ltb (du tA : Nat → Int32) (tm : Int32) : Nat → Nat
  | 0 => 0
  | n + 1 => if du n ≤ tm then (if es_ltb du tA tm n = 0 then n + 1 else if es_bt du tA n (es_ltb du tA tm n - 1) = true then n + 1 else es_ltb du tA tm n) else es_ltb du tA tm n
theorem es_bst_le (du tA : Nat → Int32) : ∀ n, es_bst du tA n ≤ n
  | 0 => Nat.le_refl _
  | n + 1 => by
    have ih := es_bst_le du tA n
    unfold es_bst
    by_cases c : es_bst du tA n = 0
    · rw [if_pos c]; omega
    · rw [if_neg c]
      by_cases c2 : es_bt du tA n (es_bst du tA n - 1) = true
      · rw [if_pos c2]; omega
      · rw [if_neg c2]; omega
theorem es_ltb_le (du tA : Nat → Int32) (tm : Int32) : ∀ n, es_ltb du tA tm n ≤ n
  | 0 => Nat.le_refl _
  | n + 1 => by
    have ih := es_ltb_le du tA tm n
    unfold es_ltb
    by_cases c0 : du n ≤ tm
    · rw [if_pos c0]
      by_cases c : es_ltb du tA tm n = 0
      · rw [if_pos c]; omega
      · rw [if_neg c]
        by_cases c2 : es_bt du tA n (es_ltb du tA tm n - 1) = true
        · rw [if_pos c2]; omega
        · rw [if_neg c2]; omega
    · rw [if_neg c0]; omega
theorem es_ltb_e (du tA : Nat → Int32) (tm : Int32) : ∀ n, es_ltb du tA tm n = if es_bst du tA n ≠ 0 ∧ du (es_bst du tA n - 1) ≤ tm then es_bst du tA n else 0
  | 0 => rfl
  | n + 1 => by
    have ih := es_ltb_e du tA tm n
    have ub : es_bst du tA (n + 1) = if es_bst du tA n = 0 then n + 1 else if es_bt du tA n (es_bst du tA n - 1) = true then n + 1 else es_bst du tA n := rfl
    have ul : es_ltb du tA tm (n + 1) = if du n ≤ tm then (if es_ltb du tA tm n = 0 then n + 1 else if es_bt du tA n (es_ltb du tA tm n - 1) = true then n + 1 else es_ltb du tA tm n) else es_ltb du tA tm n := rfl
    by_cases c0 : du n ≤ tm
    · rw [if_pos c0] at ul
      by_cases c1 : es_bst du tA n = 0
      · rw [if_neg (fun z => z.1 c1)] at ih
        rw [if_pos ih] at ul
        rw [if_pos c1] at ub
        rw [ul, ub, if_pos ⟨by omega, by rw [Nat.add_sub_cancel]; exact c0⟩]
      · rw [if_neg c1] at ub
        by_cases c2 : du (es_bst du tA n - 1) ≤ tm
        · rw [if_pos ⟨c1, c2⟩] at ih
          rw [ih, if_neg c1] at ul
          rw [ul, ub]
          by_cases c3 : es_bt du tA n (es_bst du tA n - 1) = true
          · rw [if_pos c3, if_pos ⟨by omega, by rw [Nat.add_sub_cancel]; exact c0⟩]
          · rw [if_neg c3, if_pos ⟨c1, c2⟩]
        · rw [if_neg (fun z => c2 z.2)] at ih
          rw [if_pos ih] at ul
          have c3 : es_bt du tA n (es_bst du tA n - 1) = true := by
            unfold es_bt
            rw [decide_eq_true (Int32.lt_of_le_of_lt c0 (Int32.not_le.mp c2))]
            rfl
          rw [if_pos c3] at ub
          rw [ul, ub, if_pos ⟨by omega, by rw [Nat.add_sub_cancel]; exact c0⟩]
    · rw [if_neg c0] at ul
      rw [ul, ih, ub]
      by_cases c1 : es_bst du tA n = 0
      · rw [if_pos c1, if_neg (fun z => z.1 c1), if_neg (fun z => c0 (by have := z.2; rw [Nat.add_sub_cancel] at this; exact this))]
      · rw [if_neg c1]
        by_cases c3 : es_bt du tA n (es_bst du tA n - 1) = true
        · have c4 : ¬ du (es_bst du tA n - 1) ≤ tm := fun z => by
            unfold es_bt at c3
            simp at c3
            rcases c3 with c3 | c3
            · exact c0 (Int32.le_trans (Int32.le_of_lt c3) z)
            · exact c0 (by rw [c3.1]; exact z)
          rw [if_pos c3, if_neg (fun z => c4 z.2), if_neg (fun z => c0 (by have := z.2; rw [Nat.add_sub_cancel] at this; exact this))]
        · rw [if_neg c3]
def es_enc (b e : Nat) : Int32 := if e = 0 then -1 else nI (b + (e - 1))
theorem es_enc_0 {b : Nat} : es_enc b 0 = -1 := rfl
theorem es_enc_s {b e : Nat} (h : e ≠ 0) : es_enc b e = nI (b + (e - 1)) := if_neg h
section X
variable {f_held f_records f_flushed f_summed f_draft f_drafted f_seen f_time f_taken : Int32} {a_at a_version a_value a_originAt a_stream a_type a_originBy a_originCode a_goesOn a_events a_cuts a_firm a_cutsGone a_byVersion a_byOrigin a_draftType a_draftValue a_dOp a_dC a_height a_clash a_pOp a_pSize a_pC a_position a_cell a_noted a_stack a_before a_shown a_gType a_gTaken a_gWaiting a_kCount a_gCursor a_gParked a_kCursor a_tAt a_tDue a_wAt a_kAt a_tTimes a_wTimes a_kTimes : Nat → Int32} {a_upTo : Nat → Int64}
theorem es_x_soon7 {g nt : Nat} (hg : g < 2) (hn : nt ≤ 6) (e : a_gTaken g = nI nt) {post : Int32 → Prop} (hp : post (es_enc (6 * g) (es_bst (fun j => a_tDue (6 * g + j)) (fun j => a_tAt (6 * g + j)) nt))) :
    ∀ d i, i + d = nt → wX_soonest_7 post (nI g) f_held f_records f_flushed f_summed f_draft f_drafted f_seen f_time f_taken a_at a_version a_value a_originAt a_stream a_type a_originBy a_originCode a_goesOn a_events a_cuts a_firm a_cutsGone a_byVersion a_byOrigin a_upTo a_draftType a_draftValue a_dOp a_dC a_height a_clash a_pOp a_pSize a_pC a_position a_cell a_noted a_stack a_before a_shown a_gType a_gTaken a_gWaiting a_kCount a_gCursor a_gParked a_kCursor a_tAt a_tDue a_wAt a_kAt a_tTimes a_wTimes a_kTimes (d + 1) (es_enc (6 * g) (es_bst (fun j => a_tDue (6 * g + j)) (fun j => a_tAt (6 * g + j)) i)) (nI (6 * g + i)) := by
  have hv : vp_in (nI g) 2 := vp_in_nI hg (by decide)
  have cg : (nI g).toNatClampNeg = g := nI_clamp (by omega)
  intro d
  induction d with
  | zero =>
    intro i hi
    have e' : i = nt := by omega
    subst e'
    refine ⟨hv, ?_⟩
    rw [cg, es_6g, e, nI_add]
    exact br_t (nI_le (Nat.le_refl _) (by omega)) hp
  | succ d ih =>
    intro i hi
    have ih' := ih (i + 1) (by omega)
    have hle := es_bst_le (fun j => a_tDue (6 * g + j)) (fun j => a_tAt (6 * g + j)) i
    have ub : es_bst (fun j => a_tDue (6 * g + j)) (fun j => a_tAt (6 * g + j)) (i + 1) = if es_bst (fun j => a_tDue (6 * g + j)) (fun j => a_tAt (6 * g + j)) i = 0 then i + 1 else if es_bt (fun j => a_tDue (6 * g + j)) (fun j => a_tAt (6 * g + j)) i (es_bst (fun j => a_tDue (6 * g + j)) (fun j => a_tAt (6 * g + j)) i - 1) = true then i + 1 else es_bst (fun j => a_tDue (6 * g + j)) (fun j => a_tAt (6 * g + j)) i := rfl
    rw [ub] at ih'
    generalize es_bst (fun j => a_tDue (6 * g + j)) (fun j => a_tAt (6 * g + j)) i = b at *
    have hv1 : vp_in (nI (6 * g + i)) 12 := vp_in_nI (by omega) (by decide)
    refine ⟨hv, ?_⟩
    rw [cg, es_6g, e, nI_add, nI_clamp (show 6 * g + i < 2 ^ 31 by omega)]
    refine br_f (nI_ge (by omega) (by omega)) ?_
    by_cases c : b = 0
    · rw [if_pos c, es_enc_s (by omega), Nat.add_sub_cancel] at ih'
      rw [c, es_enc_0]
      exact br_t es_neg1 (nm_r (nI_1 _) ih')
    · rw [if_neg c] at ih'
      have hv2 : vp_in (nI (6 * g + (b - 1))) 12 := vp_in_nI (by omega) (by decide)
      rw [es_enc_s c, nI_clamp (show 6 * g + (b - 1) < 2 ^ 31 by omega)]
      refine br_f (nI_pos (by omega)) ⟨hv1, hv2, ?_⟩
      unfold es_bt at ih'
      by_cases d1 : a_tDue (6 * g + i) < a_tDue (6 * g + (b - 1))
      · rw [if_pos (by simp [d1]), es_enc_s (by omega), Nat.add_sub_cancel] at ih'
        exact br_t d1 (nm_r (nI_1 _) ih')
      · refine br_f d1 ⟨hv1, hv2, ?_⟩
        by_cases d2 : a_tDue (6 * g + i) = a_tDue (6 * g + (b - 1))
        · refine br_t d2 ⟨hv1, hv2, ?_⟩
          by_cases d3 : a_tAt (6 * g + (b - 1)) ≤ a_tAt (6 * g + i)
          · rw [if_neg (by simp [d1, d2, d3]), es_enc_s c] at ih'
            exact br_t d3 (nm_r (nI_1 _) ih')
          · rw [if_pos (by simp [d2]; exact Int32.not_le.mp d3), es_enc_s (by omega), Nat.add_sub_cancel] at ih'
            exact br_f d3 (nm_r (nI_1 _) ih')
        · rw [if_neg (by simp [d1, d2]), es_enc_s c] at ih'
          exact br_f d2 (nm_r (nI_1 _) ih')
theorem es_x_soon {g nt : Nat} (hg : g < 2) (hn : nt ≤ 6) (e : a_gTaken g = nI nt) {post : Int32 → Prop} (hp : post (es_enc (6 * g) (es_bst (fun j => a_tDue (6 * g + j)) (fun j => a_tAt (6 * g + j)) nt))) : wpX_soonest post (f_held, f_records, f_flushed, f_summed, f_draft, f_drafted, f_seen, f_time, f_taken, a_at, a_version, a_value, a_originAt, a_stream, a_type, a_originBy, a_originCode, a_goesOn, a_events, a_cuts, a_firm, a_cutsGone, a_byVersion, a_byOrigin, a_upTo, a_draftType, a_draftValue, a_dOp, a_dC, a_height, a_clash, a_pOp, a_pSize, a_pC, a_position, a_cell, a_noted, a_stack, a_before, a_shown, a_gType, a_gTaken, a_gWaiting, a_kCount, a_gCursor, a_gParked, a_kCursor, a_tAt, a_tDue, a_wAt, a_kAt, a_tTimes, a_wTimes, a_kTimes) (nI g) := by
  have key := es_x_soon7 (f_held := f_held) (f_records := f_records) (f_flushed := f_flushed) (f_summed := f_summed) (f_draft := f_draft) (f_drafted := f_drafted) (f_seen := f_seen) (f_time := f_time) (f_taken := f_taken) (a_at := a_at) (a_version := a_version) (a_value := a_value) (a_originAt := a_originAt) (a_stream := a_stream) (a_type := a_type) (a_originBy := a_originBy) (a_originCode := a_originCode) (a_goesOn := a_goesOn) (a_events := a_events) (a_cuts := a_cuts) (a_firm := a_firm) (a_cutsGone := a_cutsGone) (a_byVersion := a_byVersion) (a_byOrigin := a_byOrigin) (a_upTo := a_upTo) (a_draftType := a_draftType) (a_draftValue := a_draftValue) (a_dOp := a_dOp) (a_dC := a_dC) (a_height := a_height) (a_clash := a_clash) (a_pOp := a_pOp) (a_pSize := a_pSize) (a_pC := a_pC) (a_position := a_position) (a_cell := a_cell) (a_noted := a_noted) (a_stack := a_stack) (a_before := a_before) (a_shown := a_shown) (a_gType := a_gType) (a_gTaken := a_gTaken) (a_gWaiting := a_gWaiting) (a_kCount := a_kCount) (a_gCursor := a_gCursor) (a_gParked := a_gParked) (a_kCursor := a_kCursor) (a_tAt := a_tAt) (a_tDue := a_tDue) (a_wAt := a_wAt) (a_kAt := a_kAt) (a_tTimes := a_tTimes) (a_wTimes := a_wTimes) (a_kTimes := a_kTimes) hg hn e hp nt 0 (by omega)
  exact nm_r (es_6g g) ⟨_, key⟩
end X
section Y
variable {g_count g_flushed g_calls g_drafted g_top g_time : Int32} {b_isCut b_removed b_stream b_type b_from b_by b_value b_version b_on b_call b_draftType b_draftValue b_op b_with b_length b_height b_torn b_stack b_position b_cells b_noted b_wanted b_formed b_cursor b_parked b_where b_often b_due b_many b_found : Nat → Int32}
theorem es_y_late7 {g nt : Nat} (hg : g < 2) (hn : nt ≤ 6) (e : b_many g = nI nt) {post : Int32 → Prop} (hp : post (es_enc (8 * g) (es_ltb (fun j => b_due (8 * g + j)) (fun j => b_where (8 * g + j)) g_time nt))) :
    ∀ d i, i + d = nt → wY_late_7 post (nI g) g_count g_flushed g_calls g_drafted g_top g_time b_isCut b_removed b_stream b_type b_from b_by b_value b_version b_on b_call b_draftType b_draftValue b_op b_with b_length b_height b_torn b_stack b_position b_cells b_noted b_wanted b_formed b_cursor b_parked b_where b_often b_due b_many b_found (d + 1) (es_enc (8 * g) (es_ltb (fun j => b_due (8 * g + j)) (fun j => b_where (8 * g + j)) g_time i)) (nI (8 * g + i)) := by
  have hv : vp_in (nI g) 6 := vp_in_nI (by omega) (by decide)
  have cg : (nI g).toNatClampNeg = g := nI_clamp (by omega)
  intro d
  induction d with
  | zero =>
    intro i hi
    have e' : i = nt := by omega
    subst e'
    refine ⟨hv, ?_⟩
    rw [cg, es_8g, e, nI_add]
    exact br_t (nI_le (Nat.le_refl _) (by omega)) hp
  | succ d ih =>
    intro i hi
    have ih' := ih (i + 1) (by omega)
    have hle := es_ltb_le (fun j => b_due (8 * g + j)) (fun j => b_where (8 * g + j)) g_time i
    have ub : es_ltb (fun j => b_due (8 * g + j)) (fun j => b_where (8 * g + j)) g_time (i + 1) = if b_due (8 * g + i) ≤ g_time then (if es_ltb (fun j => b_due (8 * g + j)) (fun j => b_where (8 * g + j)) g_time i = 0 then i + 1 else if es_bt (fun j => b_due (8 * g + j)) (fun j => b_where (8 * g + j)) i (es_ltb (fun j => b_due (8 * g + j)) (fun j => b_where (8 * g + j)) g_time i - 1) = true then i + 1 else es_ltb (fun j => b_due (8 * g + j)) (fun j => b_where (8 * g + j)) g_time i) else es_ltb (fun j => b_due (8 * g + j)) (fun j => b_where (8 * g + j)) g_time i := rfl
    rw [ub] at ih'
    generalize es_ltb (fun j => b_due (8 * g + j)) (fun j => b_where (8 * g + j)) g_time i = b at *
    have hv1 : vp_in (nI (8 * g + i)) 64 := vp_in_nI (by omega) (by decide)
    refine ⟨hv, ?_⟩
    rw [cg, es_8g, e, nI_add, nI_clamp (show 8 * g + i < 2 ^ 31 by omega)]
    refine br_f (nI_ge (by omega) (by omega)) ⟨hv1, ?_⟩
    by_cases c0 : b_due (8 * g + i) ≤ g_time
    rotate_left
    · rw [if_neg c0] at ih'
      exact br_f c0 (nm_r (nI_1 _) ih')
    rw [if_pos c0] at ih'
    refine br_t c0 ?_
    by_cases c : b = 0
    · rw [if_pos c, es_enc_s (by omega), Nat.add_sub_cancel] at ih'
      rw [c, es_enc_0]
      exact br_t es_neg1 (nm_r (nI_1 _) ih')
    · rw [if_neg c] at ih'
      have hv2 : vp_in (nI (8 * g + (b - 1))) 64 := vp_in_nI (by omega) (by decide)
      rw [es_enc_s c, nI_clamp (show 8 * g + (b - 1) < 2 ^ 31 by omega)]
      refine br_f (nI_pos (by omega)) ⟨hv1, hv2, ?_⟩
      unfold es_bt at ih'
      by_cases d1 : b_due (8 * g + i) < b_due (8 * g + (b - 1))
      · rw [if_pos (by simp [d1]), es_enc_s (by omega), Nat.add_sub_cancel] at ih'
        exact br_t d1 (nm_r (nI_1 _) ih')
      · refine br_f d1 ⟨hv1, hv2, ?_⟩
        by_cases d2 : b_due (8 * g + i) = b_due (8 * g + (b - 1))
        · refine br_t d2 ⟨hv1, hv2, ?_⟩
          by_cases d3 : b_where (8 * g + (b - 1)) ≤ b_where (8 * g + i)
          · rw [if_neg (by simp [d1, d2, d3]), es_enc_s c] at ih'
            exact br_t d3 (nm_r (nI_1 _) ih')
          · rw [if_pos (by simp [d2]; exact Int32.not_le.mp d3), es_enc_s (by omega), Nat.add_sub_cancel] at ih'
            exact br_f d3 (nm_r (nI_1 _) ih')
        · rw [if_neg (by simp [d1, d2]), es_enc_s c] at ih'
          exact br_f d2 (nm_r (nI_1 _) ih')
theorem es_y_late {g nt : Nat} (hg : g < 2) (hn : nt ≤ 6) (e : b_many g = nI nt) {post : Int32 → Prop} (hp : post (es_enc (8 * g) (es_ltb (fun j => b_due (8 * g + j)) (fun j => b_where (8 * g + j)) g_time nt))) : wpY_late post (g_count, g_flushed, g_calls, g_drafted, g_top, g_time, b_isCut, b_removed, b_stream, b_type, b_from, b_by, b_value, b_version, b_on, b_call, b_draftType, b_draftValue, b_op, b_with, b_length, b_height, b_torn, b_stack, b_position, b_cells, b_noted, b_wanted, b_formed, b_cursor, b_parked, b_where, b_often, b_due, b_many, b_found) (nI g) := by
  have key := es_y_late7 (g_count := g_count) (g_flushed := g_flushed) (g_calls := g_calls) (g_drafted := g_drafted) (g_top := g_top) (g_time := g_time) (b_isCut := b_isCut) (b_removed := b_removed) (b_stream := b_stream) (b_type := b_type) (b_from := b_from) (b_by := b_by) (b_value := b_value) (b_version := b_version) (b_on := b_on) (b_call := b_call) (b_draftType := b_draftType) (b_draftValue := b_draftValue) (b_op := b_op) (b_with := b_with) (b_length := b_length) (b_height := b_height) (b_torn := b_torn) (b_stack := b_stack) (b_position := b_position) (b_cells := b_cells) (b_noted := b_noted) (b_wanted := b_wanted) (b_formed := b_formed) (b_cursor := b_cursor) (b_parked := b_parked) (b_where := b_where) (b_often := b_often) (b_due := b_due) (b_many := b_many) (b_found := b_found) hg hn e hp nt 0 (by omega)
  exact nm_r (es_8g g) ⟨_, key⟩
end Y
theorem es_bst_cg {du tA du' tA' : Nat → Int32} : ∀ n, (∀ j, j < n → du j = du' j ∧ tA j = tA' j) → es_bst du tA n = es_bst du' tA' n
  | 0, _ => rfl
  | n + 1, h => by
    have ih := es_bst_cg n (fun j hj => h j (by omega))
    have hl := es_bst_le du' tA' n
    unfold es_bst
    rw [ih]
    by_cases c : es_bst du' tA' n = 0
    · rw [if_pos c, if_pos c]
    · have e : es_bt du tA n (es_bst du' tA' n - 1) = es_bt du' tA' n (es_bst du' tA' n - 1) := by
        unfold es_bt
        rw [(h n (by omega)).1, (h n (by omega)).2, (h (es_bst du' tA' n - 1) (by omega)).1, (h (es_bst du' tA' n - 1) (by omega)).2]
      rw [if_neg c, if_neg c, e]
end ES42
end
section
/-! tick joined -/
section ES43
variable {f_held f_records f_flushed f_summed f_draft f_drafted f_seen f_time f_taken : Int32} {a_at a_version a_value a_originAt a_stream a_type a_originBy a_originCode a_goesOn a_events a_cuts a_firm a_cutsGone a_byVersion a_byOrigin a_draftType a_draftValue a_dOp a_dC a_height a_clash a_pOp a_pSize a_pC a_position a_cell a_noted a_stack a_before a_shown a_gType a_gTaken a_gWaiting a_kCount a_gCursor a_gParked a_kCursor a_tAt a_tDue a_wAt a_kAt a_tTimes a_wTimes a_kTimes : Nat → Int32} {a_upTo : Nat → Int64} {g_count g_flushed g_calls g_drafted g_top g_time : Int32} {b_isCut b_removed b_stream b_type b_from b_by b_value b_version b_on b_call b_draftType b_draftValue b_op b_with b_length b_height b_torn b_stack b_position b_cells b_noted b_wanted b_formed b_cursor b_parked b_where b_often b_due b_many b_found : Nat → Int32} {N F : Nat} {rm : Nat → Bool}
theorem es_tick_in {g t : Nat} (hg : g < 2) (ht : t < 9) (ft : a_gType g = nI t) :
    ∀ m, ∀ (a_gTaken' a_gWaiting' a_gParked' a_tAt' a_tDue' a_wAt' a_tTimes' a_wTimes' : Nat → Int32) (b_parked' b_where' b_often' b_due' b_many' : Nat → Int32), (∀ g, g < 2 → es_GR N F rm a_gType a_gTaken' a_gWaiting' a_kCount a_gCursor a_gParked' a_kCursor a_tAt' a_tDue' a_wAt' a_kAt a_tTimes' a_wTimes' a_kTimes b_wanted b_formed b_cursor b_parked' b_where' b_often' b_due' b_many' g) → (∀ nt, nt ≤ 6 → a_gTaken' g = nI nt → nt ≤ m) → ∀ cnt : Nat, ∃ (cnt' : Nat) (a_gTaken'' a_gWaiting'' a_gParked'' a_tAt'' a_tDue'' a_wAt'' a_tTimes'' a_wTimes'' : Nat → Int32) (b_parked'' b_where'' b_often'' b_due'' b_many'' : Nat → Int32), (∀ g, g < 2 → es_GR N F rm a_gType a_gTaken'' a_gWaiting'' a_kCount a_gCursor a_gParked'' a_kCursor a_tAt'' a_tDue'' a_wAt'' a_kAt a_tTimes'' a_wTimes'' a_kTimes b_wanted b_formed b_cursor b_parked'' b_where'' b_often'' b_due'' b_many'' g) ∧
      (∀ (post : Int32 → SX → Prop) (J : Int32 → Int32 → (Int32) → (Int32) → (Int32) → (Int32) → (Int32) → (Int32) → (Int32) → (Int32) → (Int32) → (Nat → Int32) → (Nat → Int32) → (Nat → Int32) → (Nat → Int32) → (Nat → Int32) → (Nat → Int32) → (Nat → Int32) → (Nat → Int32) → (Nat → Int32) → (Nat → Int32) → (Nat → Int32) → (Nat → Int32) → (Nat → Int32) → (Nat → Int32) → (Nat → Int32) → (Nat → Int64) → (Nat → Int32) → (Nat → Int32) → (Nat → Int32) → (Nat → Int32) → (Nat → Int32) → (Nat → Int32) → (Nat → Int32) → (Nat → Int32) → (Nat → Int32) → (Nat → Int32) → (Nat → Int32) → (Nat → Int32) → (Nat → Int32) → (Nat → Int32) → (Nat → Int32) → (Nat → Int32) → (Nat → Int32) → (Nat → Int32) → (Nat → Int32) → (Nat → Int32) → (Nat → Int32) → (Nat → Int32) → (Nat → Int32) → (Nat → Int32) → (Nat → Int32) → (Nat → Int32) → (Nat → Int32) → (Nat → Int32) → (Nat → Int32) → Prop), J (nI cnt') (nI (g + 1)) f_held f_records f_flushed f_summed f_draft f_drafted f_seen f_time f_taken a_at a_version a_value a_originAt a_stream a_type a_originBy a_originCode a_goesOn a_events a_cuts a_firm a_cutsGone a_byVersion a_byOrigin a_upTo a_draftType a_draftValue a_dOp a_dC a_height a_clash a_pOp a_pSize a_pC a_position a_cell a_noted a_stack a_before a_shown a_gType a_gTaken'' a_gWaiting'' a_kCount a_gCursor a_gParked'' a_kCursor a_tAt'' a_tDue'' a_wAt'' a_kAt a_tTimes'' a_wTimes'' a_kTimes → ∀ nt, nt ≤ 6 → a_gTaken' g = nI nt → wX_tick_51 post J (nI g) (m + 1) (nI cnt) (es_enc (6 * g) (es_bst (fun j => a_tDue' (6 * g + j)) (fun j => a_tAt' (6 * g + j)) nt)) f_held f_records f_flushed f_summed f_draft f_drafted f_seen f_time f_taken a_at a_version a_value a_originAt a_stream a_type a_originBy a_originCode a_goesOn a_events a_cuts a_firm a_cutsGone a_byVersion a_byOrigin a_upTo a_draftType a_draftValue a_dOp a_dC a_height a_clash a_pOp a_pSize a_pC a_position a_cell a_noted a_stack a_before a_shown a_gType a_gTaken' a_gWaiting' a_kCount a_gCursor a_gParked' a_kCursor a_tAt' a_tDue' a_wAt' a_kAt a_tTimes' a_wTimes' a_kTimes) ∧
      (∀ (post : Int32 → SY → Prop) (J : Int32 → Int32 → (Int32) → (Int32) → (Int32) → (Int32) → (Int32) → (Int32) → (Nat → Int32) → (Nat → Int32) → (Nat → Int32) → (Nat → Int32) → (Nat → Int32) → (Nat → Int32) → (Nat → Int32) → (Nat → Int32) → (Nat → Int32) → (Nat → Int32) → (Nat → Int32) → (Nat → Int32) → (Nat → Int32) → (Nat → Int32) → (Nat → Int32) → (Nat → Int32) → (Nat → Int32) → (Nat → Int32) → (Nat → Int32) → (Nat → Int32) → (Nat → Int32) → (Nat → Int32) → (Nat → Int32) → (Nat → Int32) → (Nat → Int32) → (Nat → Int32) → (Nat → Int32) → (Nat → Int32) → (Nat → Int32) → (Nat → Int32) → Prop), J (nI cnt') (nI (g + 1)) g_count g_flushed g_calls g_drafted g_top f_time b_isCut b_removed b_stream b_type b_from b_by b_value b_version b_on b_call b_draftType b_draftValue b_op b_with b_length b_height b_torn b_stack b_position b_cells b_noted b_wanted b_formed b_cursor b_parked'' b_where'' b_often'' b_due'' b_many'' b_found → ∀ nt, nt ≤ 6 → b_many' g = nI nt → wY_tick_38 post J (nI g) (m + 1) (nI cnt) (es_enc (8 * g) (es_ltb (fun j => b_due' (8 * g + j)) (fun j => b_where' (8 * g + j)) f_time nt)) g_count g_flushed g_calls g_drafted g_top f_time b_isCut b_removed b_stream b_type b_from b_by b_value b_version b_on b_call b_draftType b_draftValue b_op b_with b_length b_height b_torn b_stack b_position b_cells b_noted b_wanted b_formed b_cursor b_parked' b_where' b_often' b_due' b_many' b_found) := by
  intro m
  induction m with
  | zero =>
    intro a_gTaken' a_gWaiting' a_gParked' a_tAt' a_tDue' a_wAt' a_tTimes' a_wTimes' b_parked' b_where' b_often' b_due' b_many' h8 hm cnt
    obtain ⟨nt, nw, nk, c0, kc, ⟨a1, a2, a3, a4, a5, a6, a7, a8⟩, -⟩ := h8 g hg
    have e0 : nt = 0 := by have := hm nt (by omega) a1; omega
    subst e0
    refine ⟨cnt, a_gTaken', a_gWaiting', a_gParked', a_tAt', a_tDue', a_wAt', a_tTimes', a_wTimes', b_parked', b_where', b_often', b_due', b_many', h8, fun post J hJ nt' hn' en' => ?_, fun post J hJ nt' hn' en' => ?_⟩
    · have e9 : nt' = 0 := es_inj (en'.symm.trans a1) (by omega) (by omega)
      subst e9
      exact br_t es_neg1 (nm_r (nI_1 g) hJ)
    · have e9 : nt' = 0 := es_inj (en'.symm.trans a2) (by omega) (by omega)
      subst e9
      exact br_t es_neg1 (nm_r (nI_1 g) hJ)
  | succ m ih =>
    intro a_gTaken' a_gWaiting' a_gParked' a_tAt' a_tDue' a_wAt' a_tTimes' a_wTimes' b_parked' b_where' b_often' b_due' b_many' h8 hm cnt
    obtain ⟨nt, nw, nk, c0, kc, ⟨a1, a2, a3, a4, a5, a6, a7, a8⟩, hb, p, f, hT, hw, hk', hs⟩ := h8 g hg
    have hnt := hm nt (by omega) a1
    have hble := es_bst_le (fun j => a_tDue' (6 * g + j)) (fun j => a_tAt' (6 * g + j)) nt
    have ecg : es_bst (fun j => b_due' (8 * g + j)) (fun j => b_where' (8 * g + j)) nt = es_bst (fun j => a_tDue' (6 * g + j)) (fun j => a_tAt' (6 * g + j)) nt := es_bst_cg nt (fun j hj => ⟨(hT j hj).2.2.1, (hT j hj).1⟩)
    have elt := es_ltb_e (fun j => b_due' (8 * g + j)) (fun j => b_where' (8 * g + j)) f_time nt
    rw [ecg] at elt
    obtain ⟨b, hbE⟩ : ∃ b, b = es_bst (fun j => a_tDue' (6 * g + j)) (fun j => a_tAt' (6 * g + j)) nt := ⟨_, rfl⟩
    rw [← hbE] at hble elt
    by_cases c : b = 0
    · rw [if_neg (fun z => z.1 c)] at elt
      refine ⟨cnt, a_gTaken', a_gWaiting', a_gParked', a_tAt', a_tDue', a_wAt', a_tTimes', a_wTimes', b_parked', b_where', b_often', b_due', b_many', h8, fun post J hJ nt' hn' en' => ?_, fun post J hJ nt' hn' en' => ?_⟩
      · have e9 : nt' = nt := es_inj (en'.symm.trans a1) (by omega) (by omega)
        subst e9
        rw [← hbE, c]
        exact br_t es_neg1 (nm_r (nI_1 g) hJ)
      · have e9 : nt' = nt := es_inj (en'.symm.trans a2) (by omega) (by omega)
        subst e9
        rw [elt]
        exact br_t es_neg1 (nm_r (nI_1 g) hJ)
    · obtain ⟨d, rfl⟩ : ∃ d, b = d + 1 := ⟨b - 1, by omega⟩
      have hd : d < nt := by omega
      obtain ⟨q1, q2, q3, q4⟩ := hT d hd
      have hv : vp_in (nI (6 * g + d)) 12 := vp_in_nI (by omega) (by decide)
      have cd : (nI (6 * g + d)).toNatClampNeg = 6 * g + d := nI_clamp (by omega)
      have eX : es_enc (6 * g) (d + 1) = nI (6 * g + d) := rfl
      have eY : es_enc (8 * g) (d + 1) = nI (8 * g + d) := rfl
      by_cases c2 : a_tDue' (6 * g + d) ≤ f_time
      · rw [if_pos ⟨by omega, by rw [Nat.add_sub_cancel, q3]; exact c2⟩] at elt
        have nl : ¬ f_time < a_tDue' (6 * g + d) := Int32.not_lt.mpr c2
        by_cases c3 : a_tTimes' (6 * g + d) < 3
        · have h8n := es_GRs_que hg a7 hd a1 a3 h8
          obtain ⟨cnt', a_gTaken'', a_gWaiting'', a_gParked'', a_tAt'', a_tDue'', a_wAt'', a_tTimes'', a_wTimes'', b_parked'', b_where'', b_often'', b_due'', b_many'', r1, r2, r3⟩ := ih _ _ _ _ _ _ _ _ _ _ _ _ _ h8n (fun n hn e => by rw [pk_us] at e; have := es_inj e (by omega) (by omega); omega) (cnt + 1)
          refine ⟨cnt', a_gTaken'', a_gWaiting'', a_gParked'', a_tAt'', a_tDue'', a_wAt'', a_tTimes'', a_wTimes'', b_parked'', b_where'', b_often'', b_due'', b_many'', r1, fun post J hJ nt' hn' en' => ?_, fun post J hJ nt' hn' en' => ?_⟩
          · have e9 : nt' = nt := es_inj (en'.symm.trans a1) (by omega) (by omega)
            subst e9
            rw [← hbE, eX]
            refine br_f (nI_pos (by omega)) ⟨hv, ?_⟩
            rw [cd]
            exact br_f nl (es_x_back hg a7 hd a1 a3 (fun _ => nm_r (nI_1 cnt) (es_x_soon hg (by omega) pk_us (r2 post J hJ _ (by omega) pk_us))) (fun z => absurd c3 z))
          · have e9 : nt' = nt := es_inj (en'.symm.trans a2) (by omega) (by omega)
            subst e9
            rw [elt, eY]
            exact br_f (nI_pos (by omega)) (es_y_back hg a7 hd a2 a4 (fun _ => nm_r (nI_1 cnt) (es_y_late hg (by omega) pk_us (r3 post J hJ _ (by omega) pk_us))) (fun z => absurd (by rw [q2]; exact c3) z))
        · have h8n := es_GRs_pk hg (es_GRs_rel hg (by omega) hd a1 h8)
          obtain ⟨cnt', a_gTaken'', a_gWaiting'', a_gParked'', a_tAt'', a_tDue'', a_wAt'', a_tTimes'', a_wTimes'', b_parked'', b_where'', b_often'', b_due'', b_many'', r1, r2, r3⟩ := ih _ _ _ _ _ _ _ _ _ _ _ _ _ h8n (fun n hn e => by rw [pk_us] at e; have := es_inj e (by omega) (by omega); omega) (cnt + 1)
          refine ⟨cnt', a_gTaken'', a_gWaiting'', a_gParked'', a_tAt'', a_tDue'', a_wAt'', a_tTimes'', a_wTimes'', b_parked'', b_where'', b_often'', b_due'', b_many'', r1, fun post J hJ nt' hn' en' => ?_, fun post J hJ nt' hn' en' => ?_⟩
          · have e9 : nt' = nt := es_inj (en'.symm.trans a1) (by omega) (by omega)
            subst e9
            rw [← hbE, eX]
            refine br_f (nI_pos (by omega)) ⟨hv, ?_⟩
            rw [cd]
            exact br_f nl (es_x_back hg a7 hd a1 a3 (fun z => absurd z c3) (fun _ => nm_r (nI_1 cnt) (es_x_soon hg (by omega) pk_us (r2 post J hJ _ (by omega) pk_us))))
          · have e9 : nt' = nt := es_inj (en'.symm.trans a2) (by omega) (by omega)
            subst e9
            rw [elt, eY]
            exact br_f (nI_pos (by omega)) (es_y_back hg a7 hd a2 a4 (fun z => absurd (by rw [← q2]; exact z) c3) (fun _ => nm_r (nI_1 cnt) (es_y_late hg (by omega) pk_us (r3 post J hJ _ (by omega) pk_us))))
      · rw [if_neg (fun z => c2 (by have := z.2; rw [Nat.add_sub_cancel, q3] at this; exact this))] at elt
        refine ⟨cnt, a_gTaken', a_gWaiting', a_gParked', a_tAt', a_tDue', a_wAt', a_tTimes', a_wTimes', b_parked', b_where', b_often', b_due', b_many', h8, fun post J hJ nt' hn' en' => ?_, fun post J hJ nt' hn' en' => ?_⟩
        · have e9 : nt' = nt := es_inj (en'.symm.trans a1) (by omega) (by omega)
          subst e9
          rw [← hbE, eX]
          refine br_f (nI_pos (by omega)) ⟨hv, ?_⟩
          rw [cd]
          exact br_t (Int32.not_le.mp c2) (nm_r (nI_1 g) hJ)
        · have e9 : nt' = nt := es_inj (en'.symm.trans a2) (by omega) (by omega)
          subst e9
          rw [elt]
          exact br_t es_neg1 (nm_r (nI_1 g) hJ)
theorem es_tick26 : ∀ d g, g + d = 2 → ∀ (a_gTaken' a_gWaiting' a_gParked' a_tAt' a_tDue' a_wAt' a_tTimes' a_wTimes' : Nat → Int32) (b_parked' b_where' b_often' b_due' b_many' : Nat → Int32), (∀ g, g < 2 → es_GR N F rm a_gType a_gTaken' a_gWaiting' a_kCount a_gCursor a_gParked' a_kCursor a_tAt' a_tDue' a_wAt' a_kAt a_tTimes' a_wTimes' a_kTimes b_wanted b_formed b_cursor b_parked' b_where' b_often' b_due' b_many' g) → ∀ cnt : Nat, ∃ (cnt' : Nat) (a_gTaken'' a_gWaiting'' a_gParked'' a_tAt'' a_tDue'' a_wAt'' a_tTimes'' a_wTimes'' : Nat → Int32) (b_parked'' b_where'' b_often'' b_due'' b_many'' : Nat → Int32), (∀ g, g < 2 → es_GR N F rm a_gType a_gTaken'' a_gWaiting'' a_kCount a_gCursor a_gParked'' a_kCursor a_tAt'' a_tDue'' a_wAt'' a_kAt a_tTimes'' a_wTimes'' a_kTimes b_wanted b_formed b_cursor b_parked'' b_where'' b_often'' b_due'' b_many'' g) ∧
      (∀ (post : Int32 → SX → Prop), post (nI cnt') (f_held, f_records, f_flushed, f_summed, f_draft, f_drafted, f_seen, f_time, f_taken, a_at, a_version, a_value, a_originAt, a_stream, a_type, a_originBy, a_originCode, a_goesOn, a_events, a_cuts, a_firm, a_cutsGone, a_byVersion, a_byOrigin, a_upTo, a_draftType, a_draftValue, a_dOp, a_dC, a_height, a_clash, a_pOp, a_pSize, a_pC, a_position, a_cell, a_noted, a_stack, a_before, a_shown, a_gType, a_gTaken'', a_gWaiting'', a_kCount, a_gCursor, a_gParked'', a_kCursor, a_tAt'', a_tDue'', a_wAt'', a_kAt, a_tTimes'', a_wTimes'', a_kTimes) → wX_tick_26 post (d + 1) (nI cnt) (nI g) f_held f_records f_flushed f_summed f_draft f_drafted f_seen f_time f_taken a_at a_version a_value a_originAt a_stream a_type a_originBy a_originCode a_goesOn a_events a_cuts a_firm a_cutsGone a_byVersion a_byOrigin a_upTo a_draftType a_draftValue a_dOp a_dC a_height a_clash a_pOp a_pSize a_pC a_position a_cell a_noted a_stack a_before a_shown a_gType a_gTaken' a_gWaiting' a_kCount a_gCursor a_gParked' a_kCursor a_tAt' a_tDue' a_wAt' a_kAt a_tTimes' a_wTimes' a_kTimes) ∧
      (∀ (post : Int32 → SY → Prop), post (nI cnt') (g_count, g_flushed, g_calls, g_drafted, g_top, f_time, b_isCut, b_removed, b_stream, b_type, b_from, b_by, b_value, b_version, b_on, b_call, b_draftType, b_draftValue, b_op, b_with, b_length, b_height, b_torn, b_stack, b_position, b_cells, b_noted, b_wanted, b_formed, b_cursor, b_parked'', b_where'', b_often'', b_due'', b_many'', b_found) → wY_tick_26 post (d + 1) (nI cnt) (nI g) g_count g_flushed g_calls g_drafted g_top f_time b_isCut b_removed b_stream b_type b_from b_by b_value b_version b_on b_call b_draftType b_draftValue b_op b_with b_length b_height b_torn b_stack b_position b_cells b_noted b_wanted b_formed b_cursor b_parked' b_where' b_often' b_due' b_many' b_found) := by
  intro d
  induction d with
  | zero =>
    intro g hg a_gTaken' a_gWaiting' a_gParked' a_tAt' a_tDue' a_wAt' a_tTimes' a_wTimes' b_parked' b_where' b_often' b_due' b_many' h8 cnt
    have e : g = 2 := by omega
    subst e
    exact ⟨cnt, a_gTaken', a_gWaiting', a_gParked', a_tAt', a_tDue', a_wAt', a_tTimes', a_wTimes', b_parked', b_where', b_often', b_due', b_many', h8, fun post hp => br_t (nI_le (a := 2) (b := 2) (by omega) (by decide)) hp, fun post hp => br_t (nI_le (a := 2) (b := 2) (by omega) (by decide)) hp⟩
  | succ d ih =>
    intro g hg2 a_gTaken' a_gWaiting' a_gParked' a_tAt' a_tDue' a_wAt' a_tTimes' a_wTimes' b_parked' b_where' b_often' b_due' b_many' h8 cnt
    have hg : g < 2 := by omega
    obtain ⟨nt, nw, nk, c0, kc, ⟨a1, a2, a3, a4, a5, a6, a7, a8⟩, hb, p, f, hT, hw, hk', hs⟩ := h8 g hg
    have hv : vp_in (nI g) 2 := vp_in_nI hg (by decide)
    have cg : (nI g).toNatClampNeg = g := nI_clamp (by omega)
    have n2 : ¬ (2 : Int32) ≤ nI g := nI_ge (b := 2) (by omega) (by decide)
    rcases f with ⟨f1, f2, f3, f4, f5⟩ | ⟨t, t1, t2, t3, t4, t5⟩
    · obtain ⟨cnt', a_gTaken'', a_gWaiting'', a_gParked'', a_tAt'', a_tDue'', a_wAt'', a_tTimes'', a_wTimes'', b_parked'', b_where'', b_often'', b_due'', b_many'', r1, r2, r3⟩ := ih (g + 1) (by omega) a_gTaken' a_gWaiting' a_gParked' a_tAt' a_tDue' a_wAt' a_tTimes' a_wTimes' b_parked' b_where' b_often' b_due' b_many' h8 cnt
      refine ⟨cnt', a_gTaken'', a_gWaiting'', a_gParked'', a_tAt'', a_tDue'', a_wAt'', a_tTimes'', a_wTimes'', b_parked'', b_where'', b_often'', b_due'', b_many'', r1, fun post hp => ?_, fun post hp => ?_⟩
      · refine br_f n2 ⟨hv, ?_⟩
        rw [cg, f1]
        exact br_f es_n0 ⟨1, br_t es_neg1 (nm_r (nI_1 g) (r2 post hp))⟩
      · subst f3
        exact br_f n2 (es_y_late hg (by omega) a2 ⟨1, br_t es_neg1 (nm_r (nI_1 g) (r3 post hp))⟩)
    · obtain ⟨cnt1, a_gTaken1, a_gWaiting1, a_gParked1, a_tAt1, a_tDue1, a_wAt1, a_tTimes1, a_wTimes1, b_parked1, b_where1, b_often1, b_due1, b_many1, r1, r2, r3⟩ := es_tick_in (f_held := f_held) (f_records := f_records) (f_flushed := f_flushed) (f_summed := f_summed) (f_draft := f_draft) (f_drafted := f_drafted) (f_seen := f_seen) (f_time := f_time) (f_taken := f_taken) (a_at := a_at) (a_version := a_version) (a_value := a_value) (a_originAt := a_originAt) (a_stream := a_stream) (a_type := a_type) (a_originBy := a_originBy) (a_originCode := a_originCode) (a_goesOn := a_goesOn) (a_events := a_events) (a_cuts := a_cuts) (a_firm := a_firm) (a_cutsGone := a_cutsGone) (a_byVersion := a_byVersion) (a_byOrigin := a_byOrigin) (a_upTo := a_upTo) (a_draftType := a_draftType) (a_draftValue := a_draftValue) (a_dOp := a_dOp) (a_dC := a_dC) (a_height := a_height) (a_clash := a_clash) (a_pOp := a_pOp) (a_pSize := a_pSize) (a_pC := a_pC) (a_position := a_position) (a_cell := a_cell) (a_noted := a_noted) (a_stack := a_stack) (a_before := a_before) (a_shown := a_shown) (a_gType := a_gType) (a_kCount := a_kCount) (a_gCursor := a_gCursor) (a_kCursor := a_kCursor) (a_kAt := a_kAt) (a_kTimes := a_kTimes) (g_count := g_count) (g_flushed := g_flushed) (g_calls := g_calls) (g_drafted := g_drafted) (g_top := g_top) (b_isCut := b_isCut) (b_removed := b_removed) (b_stream := b_stream) (b_type := b_type) (b_from := b_from) (b_by := b_by) (b_value := b_value) (b_version := b_version) (b_on := b_on) (b_call := b_call) (b_draftType := b_draftType) (b_draftValue := b_draftValue) (b_op := b_op) (b_with := b_with) (b_length := b_length) (b_height := b_height) (b_torn := b_torn) (b_stack := b_stack) (b_position := b_position) (b_cells := b_cells) (b_noted := b_noted) (b_wanted := b_wanted) (b_formed := b_formed) (b_cursor := b_cursor) (b_found := b_found) hg t1 t2 6 a_gTaken' a_gWaiting' a_gParked' a_tAt' a_tDue' a_wAt' a_tTimes' a_wTimes' b_parked' b_where' b_often' b_due' b_many' h8 (fun n hn _ => hn) cnt
      obtain ⟨cnt', a_gTaken'', a_gWaiting'', a_gParked'', a_tAt'', a_tDue'', a_wAt'', a_tTimes'', a_wTimes'', b_parked'', b_where'', b_often'', b_due'', b_many'', s1, s2, s3⟩ := ih (g + 1) (by omega) a_gTaken1 a_gWaiting1 a_gParked1 a_tAt1 a_tDue1 a_wAt1 a_tTimes1 a_wTimes1 b_parked1 b_where1 b_often1 b_due1 b_many1 r1 cnt1
      refine ⟨cnt', a_gTaken'', a_gWaiting'', a_gParked'', a_tAt'', a_tDue'', a_wAt'', a_tTimes'', a_wTimes'', b_parked'', b_where'', b_often'', b_due'', b_many'', s1, fun post hp => ?_, fun post hp => ?_⟩
      · refine br_f n2 ⟨hv, ?_⟩
        rw [cg, t2]
        exact br_t (nI_pos' (by omega)) (es_x_soon hg (by omega) a1 ⟨_, r2 post _ (s2 post hp) _ (by omega) a1⟩)
      · exact br_f n2 (es_y_late hg (by omega) a2 ⟨_, r3 post _ (s3 post hp) _ (by omega) a2⟩)
end ES43
section ES43b
theorem i_vc_tick {k : Nat} {u : SX} {v : SY} (I : i_Rel k u v) (hk : k + 4 ≤ 2048) (v1 : Int32) : wpX_tick (fun r u' => wpY_tick (fun r' v' => r' = r ∧ i_Rel (k + 4) u' v') v v1) u v1 := by
  refine es_el (P := fun u v => wpX_tick (fun r u' => wpY_tick (fun r' v' => r' = r ∧ i_Rel (k + 4) u' v') v v1) u v1) ?_ u v I
  intro f_held f_records f_flushed f_summed f_draft f_drafted f_seen f_time f_taken a_at a_version a_value a_originAt a_stream a_type a_originBy a_originCode a_goesOn a_events a_cuts a_firm a_cutsGone a_byVersion a_byOrigin a_draftType a_draftValue a_dOp a_dC a_height a_clash a_pOp a_pSize a_pC a_position a_cell a_noted a_stack a_before a_shown a_gType a_gTaken a_gWaiting a_kCount a_gCursor a_gParked a_kCursor a_tAt a_tDue a_wAt a_kAt a_tTimes a_wTimes a_kTimes a_upTo g_count g_flushed g_calls g_drafted g_top g_time b_isCut b_removed b_stream b_type b_from b_by b_value b_version b_on b_call b_draftType b_draftValue b_op b_with b_length b_height b_torn b_stack b_position b_cells b_noted b_wanted b_formed b_cursor b_parked b_where b_often b_due b_many b_found N F C L rm h1 h2 h3 h4 h5 h6 h7 h8 h9 h10
  show wpX_tick (fun r u' => wpY_tick (fun r' v' => r' = r ∧ i_Rel (k + 4) u' v') (g_count, g_flushed, g_calls, g_drafted, g_top, g_time, b_isCut, b_removed, b_stream, b_type, b_from, b_by, b_value, b_version, b_on, b_call, b_draftType, b_draftValue, b_op, b_with, b_length, b_height, b_torn, b_stack, b_position, b_cells, b_noted, b_wanted, b_formed, b_cursor, b_parked, b_where, b_often, b_due, b_many, b_found) v1) (f_held, f_records, f_flushed, f_summed, f_draft, f_drafted, f_seen, f_time, f_taken, a_at, a_version, a_value, a_originAt, a_stream, a_type, a_originBy, a_originCode, a_goesOn, a_events, a_cuts, a_firm, a_cutsGone, a_byVersion, a_byOrigin, a_upTo, a_draftType, a_draftValue, a_dOp, a_dC, a_height, a_clash, a_pOp, a_pSize, a_pC, a_position, a_cell, a_noted, a_stack, a_before, a_shown, a_gType, a_gTaken, a_gWaiting, a_kCount, a_gCursor, a_gParked, a_kCursor, a_tAt, a_tDue, a_wAt, a_kAt, a_tTimes, a_wTimes, a_kTimes) v1
  subst h10
  have keep : i_Rel (k + 4) (f_held, f_records, f_flushed, f_summed, f_draft, f_drafted, f_seen, f_time, f_taken, a_at, a_version, a_value, a_originAt, a_stream, a_type, a_originBy, a_originCode, a_goesOn, a_events, a_cuts, a_firm, a_cutsGone, a_byVersion, a_byOrigin, a_upTo, a_draftType, a_draftValue, a_dOp, a_dC, a_height, a_clash, a_pOp, a_pSize, a_pC, a_position, a_cell, a_noted, a_stack, a_before, a_shown, a_gType, a_gTaken, a_gWaiting, a_kCount, a_gCursor, a_gParked, a_kCursor, a_tAt, a_tDue, a_wAt, a_kAt, a_tTimes, a_wTimes, a_kTimes) (g_count, g_flushed, g_calls, g_drafted, g_top, f_time, b_isCut, b_removed, b_stream, b_type, b_from, b_by, b_value, b_version, b_on, b_call, b_draftType, b_draftValue, b_op, b_with, b_length, b_height, b_torn, b_stack, b_position, b_cells, b_noted, b_wanted, b_formed, b_cursor, b_parked, b_where, b_often, b_due, b_many, b_found) := es_mk h1 h2 h3 (by omega) h5 h6 h7 h8 h9 rfl
  unfold wpX_tick
  by_cases c : v1 < 0
  · refine br_t c ?_
    unfold wpY_tick
    exact br_t c ⟨rfl, keep⟩
  refine br_f c ?_
  by_cases d : v1 ≤ 100
  rotate_left
  · refine br_f d ?_
    unfold wpY_tick
    exact br_f c (br_f d ⟨rfl, keep⟩)
  obtain ⟨cnt', a_gTaken'', a_gWaiting'', a_gParked'', a_tAt'', a_tDue'', a_wAt'', a_tTimes'', a_wTimes'', b_parked'', b_where'', b_often'', b_due'', b_many'', r1, r2, r3⟩ := es_tick26 (f_held := f_held) (f_records := f_records) (f_flushed := f_flushed) (f_summed := f_summed) (f_draft := f_draft) (f_drafted := f_drafted) (f_seen := f_seen) (f_time := f_time + v1) (f_taken := f_taken) (a_at := a_at) (a_version := a_version) (a_value := a_value) (a_originAt := a_originAt) (a_stream := a_stream) (a_type := a_type) (a_originBy := a_originBy) (a_originCode := a_originCode) (a_goesOn := a_goesOn) (a_events := a_events) (a_cuts := a_cuts) (a_firm := a_firm) (a_cutsGone := a_cutsGone) (a_byVersion := a_byVersion) (a_byOrigin := a_byOrigin) (a_upTo := a_upTo) (a_draftType := a_draftType) (a_draftValue := a_draftValue) (a_dOp := a_dOp) (a_dC := a_dC) (a_height := a_height) (a_clash := a_clash) (a_pOp := a_pOp) (a_pSize := a_pSize) (a_pC := a_pC) (a_position := a_position) (a_cell := a_cell) (a_noted := a_noted) (a_stack := a_stack) (a_before := a_before) (a_shown := a_shown) (a_gType := a_gType) (a_kCount := a_kCount) (a_gCursor := a_gCursor) (a_kCursor := a_kCursor) (a_kAt := a_kAt) (a_kTimes := a_kTimes) (g_count := g_count) (g_flushed := g_flushed) (g_calls := g_calls) (g_drafted := g_drafted) (g_top := g_top) (b_isCut := b_isCut) (b_removed := b_removed) (b_stream := b_stream) (b_type := b_type) (b_from := b_from) (b_by := b_by) (b_value := b_value) (b_version := b_version) (b_on := b_on) (b_call := b_call) (b_draftType := b_draftType) (b_draftValue := b_draftValue) (b_op := b_op) (b_with := b_with) (b_length := b_length) (b_height := b_height) (b_torn := b_torn) (b_stack := b_stack) (b_position := b_position) (b_cells := b_cells) (b_noted := b_noted) (b_wanted := b_wanted) (b_formed := b_formed) (b_cursor := b_cursor) (b_found := b_found) 2 0 (by omega) a_gTaken a_gWaiting a_gParked a_tAt a_tDue a_wAt a_tTimes a_wTimes b_parked b_where b_often b_due b_many h8 0
  rw [nI_0] at r2 r3
  refine br_t d (nm_e ⟨_, r2 _ ?_⟩)
  unfold wpY_tick
  exact br_f c (br_t d (nm_e ⟨_, r3 _ ⟨rfl, es_mk h1 h2 h3 (by omega) h5 h6 h7 r1 h9 rfl⟩⟩))
end ES43b
end
section
/-! take: X -/
section ES44
theorem es_mv_s2 {f : Nat → Int32} {a b k : Nat} (h : b ≤ a) : upd (es_mv f a b k) (b + k) (es_mv f a b k (a + k)) = es_mv f a b (k + 1) := by
  have e : es_mv f a b k (a + k) = f (a + k) := by unfold es_mv; rw [if_neg (by omega)]
  rw [e]
  funext j
  by_cases c : j = b + k
  · subst c
    rw [pk_us]
    unfold es_mv
    rw [if_pos (by omega)]
    congr 1
    omega
  · rw [pk_un c]
    unfold es_mv
    by_cases c2 : b ≤ j ∧ j < b + k
    · rw [if_pos c2, if_pos (by omega)]
    · rw [if_neg c2, if_neg (by omega)]
variable {f_held f_records f_flushed f_summed f_draft f_drafted f_seen f_time f_taken : Int32} {a_at a_version a_value a_originAt a_stream a_type a_originBy a_originCode a_goesOn a_events a_cuts a_firm a_cutsGone a_byVersion a_byOrigin a_draftType a_draftValue a_dOp a_dC a_height a_clash a_pOp a_pSize a_pC a_position a_cell a_noted a_stack a_before a_shown a_gType a_gTaken a_gWaiting a_kCount a_gCursor a_gParked a_kCursor a_tAt a_tDue a_wAt a_kAt a_tTimes a_wTimes a_kTimes : Nat → Int32} {a_upTo : Nat → Int64} {N F C : Nat} {L : Nat → es_Ev} {rm : Nat → Bool} {pd : Prop}
theorem es_x_fw85 {g n nw : Nat} {x2 : Int32} (hg : g < 2) (hn : n + nw ≤ 6) (e : a_gWaiting g = nI nw) (wA wT : Nat → Int32) {post : Int32 → SX → Prop} (hp : post x2 (f_held, f_records, f_flushed, f_summed, f_draft, f_drafted, f_seen, f_time, f_taken, a_at, a_version, a_value, a_originAt, a_stream, a_type, a_originBy, a_originCode, a_goesOn, a_events, a_cuts, a_firm, a_cutsGone, a_byVersion, a_byOrigin, a_upTo, a_draftType, a_draftValue, a_dOp, a_dC, a_height, a_clash, a_pOp, a_pSize, a_pC, a_position, a_cell, a_noted, a_stack, a_before, a_shown, a_gType, a_gTaken, a_gWaiting, a_kCount, a_gCursor, a_gParked, a_kCursor, a_tAt, a_tDue, es_mv wA (6 * g + n) (6 * g) nw, a_kAt, a_tTimes, es_mv wT (6 * g + n) (6 * g) nw, a_kTimes)) :
    ∀ d k, k + d = nw → wX_firstWaiting_85 post (nI g) x2 (nI n) f_held f_records f_flushed f_summed f_draft f_drafted f_seen f_time f_taken (d + 1) (nI (6 * g + k)) a_at a_version a_value a_originAt a_stream a_type a_originBy a_originCode a_goesOn a_events a_cuts a_firm a_cutsGone a_byVersion a_byOrigin a_upTo a_draftType a_draftValue a_dOp a_dC a_height a_clash a_pOp a_pSize a_pC a_position a_cell a_noted a_stack a_before a_shown a_gType a_gTaken a_gWaiting a_kCount a_gCursor a_gParked a_kCursor a_tAt a_tDue (es_mv wA (6 * g + n) (6 * g) k) a_kAt a_tTimes (es_mv wT (6 * g + n) (6 * g) k) a_kTimes := by
  have hv : vp_in (nI g) 2 := vp_in_nI hg (by decide)
  have cg : (nI g).toNatClampNeg = g := nI_clamp (by omega)
  intro d
  induction d with
  | zero =>
    intro k hk
    have e' : k = nw := by omega
    subst e'
    refine ⟨hv, ?_⟩
    rw [cg, es_6g, e, nI_add]
    exact br_t (nI_le (Nat.le_refl _) (by omega)) hp
  | succ d ih =>
    intro k hk
    have e1 : nI (6 * g + k) + nI n = nI (6 * g + n + k) := by rw [nI_add]; exact congrArg nI (by omega)
    have hv1 : vp_in (nI (6 * g + k)) 12 := vp_in_nI (by omega) (by decide)
    have hv2 : vp_in (nI (6 * g + n + k)) 12 := vp_in_nI (by omega) (by decide)
    have ih' := ih (k + 1) (by omega)
    refine ⟨hv, ?_⟩
    rw [cg, es_6g, e, nI_add (6 * g) nw, e1, nI_clamp (show 6 * g + k < 2 ^ 31 by omega), nI_clamp (show 6 * g + n + k < 2 ^ 31 by omega), es_mv_s2 (by omega), es_mv_s2 (by omega)]
    exact br_f (nI_ge (by omega) (by omega)) ⟨hv2, hv1, nm_e ⟨hv2, hv1, nm_e (nm_r (nI_1 _) ih')⟩⟩
theorem es_x_fw68 {g n nw : Nat} {x2 : Int32} (hg : g < 2) (hn : n ≤ nw) (hw : nw ≤ 6) (e : a_gWaiting g = nI nw) {post : Int32 → SX → Prop} (hp : post x2 (f_held, f_records, f_flushed, f_summed, f_draft, f_drafted, f_seen, f_time, f_taken, a_at, a_version, a_value, a_originAt, a_stream, a_type, a_originBy, a_originCode, a_goesOn, a_events, a_cuts, a_firm, a_cutsGone, a_byVersion, a_byOrigin, a_upTo, a_draftType, a_draftValue, a_dOp, a_dC, a_height, a_clash, a_pOp, a_pSize, a_pC, a_position, a_cell, a_noted, a_stack, a_before, a_shown, a_gType, a_gTaken, upd a_gWaiting g (nI (nw - n)), a_kCount, a_gCursor, a_gParked, a_kCursor, a_tAt, a_tDue, es_mv a_wAt (6 * g + n) (6 * g) (nw - n), a_kAt, a_tTimes, es_mv a_wTimes (6 * g + n) (6 * g) (nw - n), a_kTimes)) : wX_firstWaiting_68 post (nI g) x2 (nI n) f_held f_records f_flushed f_summed f_draft f_drafted f_seen f_time f_taken a_at a_version a_value a_originAt a_stream a_type a_originBy a_originCode a_goesOn a_events a_cuts a_firm a_cutsGone a_byVersion a_byOrigin a_upTo a_draftType a_draftValue a_dOp a_dC a_height a_clash a_pOp a_pSize a_pC a_position a_cell a_noted a_stack a_before a_shown a_gType a_gTaken a_gWaiting a_kCount a_gCursor a_gParked a_kCursor a_tAt a_tDue a_wAt a_kAt a_tTimes a_wTimes a_kTimes := by
  have hv : vp_in (nI g) 2 := vp_in_nI hg (by decide)
  have key := es_x_fw85 (f_held := f_held) (f_records := f_records) (f_flushed := f_flushed) (f_summed := f_summed) (f_draft := f_draft) (f_drafted := f_drafted) (f_seen := f_seen) (f_time := f_time) (f_taken := f_taken) (a_at := a_at) (a_version := a_version) (a_value := a_value) (a_originAt := a_originAt) (a_stream := a_stream) (a_type := a_type) (a_originBy := a_originBy) (a_originCode := a_originCode) (a_goesOn := a_goesOn) (a_events := a_events) (a_cuts := a_cuts) (a_firm := a_firm) (a_cutsGone := a_cutsGone) (a_byVersion := a_byVersion) (a_byOrigin := a_byOrigin) (a_upTo := a_upTo) (a_draftType := a_draftType) (a_draftValue := a_draftValue) (a_dOp := a_dOp) (a_dC := a_dC) (a_height := a_height) (a_clash := a_clash) (a_pOp := a_pOp) (a_pSize := a_pSize) (a_pC := a_pC) (a_position := a_position) (a_cell := a_cell) (a_noted := a_noted) (a_stack := a_stack) (a_before := a_before) (a_shown := a_shown) (a_gType := a_gType) (a_gTaken := a_gTaken) (a_gWaiting := upd a_gWaiting g (nI (nw - n))) (a_kCount := a_kCount) (a_gCursor := a_gCursor) (a_gParked := a_gParked) (a_kCursor := a_kCursor) (a_tAt := a_tAt) (a_tDue := a_tDue) (a_kAt := a_kAt) (a_tTimes := a_tTimes) (a_kTimes := a_kTimes) (x2 := x2) hg (show n + (nw - n) ≤ 6 by omega) pk_us a_wAt a_wTimes (post := post) hp (nw - n) 0 (by omega)
  rw [es_mv_0, es_mv_0] at key
  unfold wX_firstWaiting_68
  rw [nI_clamp (show g < 2 ^ 31 by omega), e, pk_sub hn, es_b8 (show nw - n < 128 by omega), es_6g]
  exact ⟨hv, hv, nm_e (nm_e ⟨_, key⟩)⟩
theorem es_x_fw4 {g nw : Nat} {ps : Nat → Nat} (h : es_CX N F L rm pd f_held f_records f_flushed f_summed a_at a_version a_value a_originAt a_stream a_type a_originBy a_originCode a_goesOn a_events a_cuts a_firm a_cutsGone a_byVersion a_byOrigin a_upTo) (W : es_WL N F C L rm) (hg : g < 2) (hw : nw ≤ 6) (e : a_gWaiting g = nI nw) (hps : ∀ j, j < nw → a_wAt (6 * g + j) = nI (ps j) ∧ ps j < N ∧ rm (ps j) = false) {post : Int32 → SX → Prop} :
    ∀ d m, m + d = nw → ∀ tk : Int32, (es_fs (fun j => es_op L N (ps j)) d m < nw → wX_firstWaiting_68 post (nI g) (nI (es_Q rm (ps (es_fs (fun j => es_op L N (ps j)) d m)))) (nI (es_fs (fun j => es_op L N (ps j)) d m + 1)) f_held f_records f_flushed f_summed f_draft f_drafted f_seen f_time (a_wTimes (6 * g + es_fs (fun j => es_op L N (ps j)) d m)) a_at a_version a_value a_originAt a_stream a_type a_originBy a_originCode a_goesOn a_events a_cuts a_firm a_cutsGone a_byVersion a_byOrigin a_upTo a_draftType a_draftValue a_dOp a_dC a_height a_clash a_pOp a_pSize a_pC a_position a_cell a_noted a_stack a_before a_shown a_gType a_gTaken a_gWaiting a_kCount a_gCursor a_gParked a_kCursor a_tAt a_tDue a_wAt a_kAt a_tTimes a_wTimes a_kTimes) → (es_fs (fun j => es_op L N (ps j)) d m = nw → ∀ tk' : Int32, wX_firstWaiting_68 post (nI g) (-1) (nI nw) f_held f_records f_flushed f_summed f_draft f_drafted f_seen f_time tk' a_at a_version a_value a_originAt a_stream a_type a_originBy a_originCode a_goesOn a_events a_cuts a_firm a_cutsGone a_byVersion a_byOrigin a_upTo a_draftType a_draftValue a_dOp a_dC a_height a_clash a_pOp a_pSize a_pC a_position a_cell a_noted a_stack a_before a_shown a_gType a_gTaken a_gWaiting a_kCount a_gCursor a_gParked a_kCursor a_tAt a_tDue a_wAt a_kAt a_tTimes a_wTimes a_kTimes) → wX_firstWaiting_4 post (nI g) f_held f_records f_flushed f_summed f_draft f_drafted f_seen f_time a_at a_version a_value a_originAt a_stream a_type a_originBy a_originCode a_goesOn a_events a_cuts a_firm a_cutsGone a_byVersion a_byOrigin a_upTo a_draftType a_draftValue a_dOp a_dC a_height a_clash a_pOp a_pSize a_pC a_position a_cell a_noted a_stack a_before a_shown a_gType a_gTaken a_gWaiting a_kCount a_gCursor a_gParked a_kCursor a_tAt a_tDue a_wAt a_kAt a_tTimes a_wTimes a_kTimes (d + 2) (-1) (nI m) tk := by
  have hv : vp_in (nI g) 2 := vp_in_nI hg (by decide)
  have cg : (nI g).toNatClampNeg = g := nI_clamp (by omega)
  have hN := W.1
  have hq := W.2.2.1
  intro d
  induction d with
  | zero =>
    intro m hm tk h1 h0
    have e' : m = nw := by omega
    refine ⟨hv, ?_⟩
    rw [cg, e]
    rw [e'] at h0 ⊢
    exact br_t (nI_le (Nat.le_refl _) (by omega)) (h0 rfl tk)
  | succ d ih =>
    intro m hm tk h1 h0
    obtain ⟨q1, q2, q3⟩ := hps m (by omega)
    have hv2 : vp_in (nI (6 * g + m)) 12 := vp_in_nI (by omega) (by decide)
    have hql := es_Q_lt q2 q3
    refine ⟨hv, ?_⟩
    rw [cg, e, es_6g, nI_add, nI_clamp (show 6 * g + m < 2 ^ 31 by omega), q1]
    refine br_f (nI_ge (by omega) (by omega)) (br_f es_n0 ⟨hv2, es_x_find h W ?_⟩)
    rw [es_cl_nI (by omega) (by omega)]
    refine ⟨hv2, nm_e (nm_r (nI_1 m) (es_x_open h W q2 q3 (es_bc (fun z => ?_) (fun z => ?_))))⟩
    · rw [es_fs_f (p := fun j => es_op L N (ps j)) z] at h1 h0
      exact ih (m + 1) (by omega) _ h1 h0
    · rw [es_fs_t (p := fun j => es_op L N (ps j)) z] at h1
      have h9 := h1 (by omega)
      refine ⟨hv, ?_⟩
      rw [cg, e]
      exact br_c (fun _ => h9) (fun _ => br_t (nI_pos' (by omega)) h9)
theorem es_x_fc11 {g t : Nat} (h : es_CX N F L rm pd (nI (es_Q rm N)) f_records f_flushed f_summed a_at a_version a_value a_originAt a_stream a_type a_originBy a_originCode a_goesOn a_events a_cuts a_firm a_cutsGone a_byVersion a_byOrigin a_upTo) (W : es_WL N F C L rm) (hg : g < 2) (ht : t < 9) (et : a_gType g = nI t) {post : Int32 → SX → Prop} :
    ∀ d i, i + d = N → ∀ n, d < n → (wX_fromCursor_59 post (nI g) (nI (es_Q rm (es_fs (es_ct L N t) d i))) (nI (es_Q rm N)) f_records f_flushed f_summed f_draft f_drafted f_seen f_time f_taken a_at a_version a_value a_originAt a_stream a_type a_originBy a_originCode a_goesOn a_events a_cuts a_firm a_cutsGone a_byVersion a_byOrigin a_upTo a_draftType a_draftValue a_dOp a_dC a_height a_clash a_pOp a_pSize a_pC a_position a_cell a_noted a_stack a_before a_shown a_gType a_gTaken a_gWaiting a_kCount a_gCursor a_gParked a_kCursor a_tAt a_tDue a_wAt a_kAt a_tTimes a_wTimes a_kTimes) → wX_fromCursor_11 post (nI g) (nI (es_Q rm N)) f_records f_flushed f_summed f_draft f_drafted f_seen f_time f_taken a_at a_version a_value a_originAt a_stream a_type a_originBy a_originCode a_goesOn a_events a_cuts a_firm a_cutsGone a_byVersion a_byOrigin a_upTo a_draftType a_draftValue a_dOp a_dC a_height a_clash a_pOp a_pSize a_pC a_position a_cell a_noted a_stack a_before a_shown a_gType a_gTaken a_gWaiting a_kCount a_gCursor a_gParked a_kCursor a_tAt a_tDue a_wAt a_kAt a_tTimes a_wTimes a_kTimes n (nI (es_Q rm i)) := by
  have hq := W.2.2.1
  have hv : vp_in (nI g) 2 := vp_in_nI hg (by decide)
  have cg : (nI g).toNatClampNeg = g := nI_clamp (by omega)
  intro d
  induction d with
  | zero =>
    intro i hi n hn h1
    obtain ⟨m, rfl⟩ : ∃ m, n = m + 1 := ⟨n - 1, by omega⟩
    have e : i = N := by omega
    exact br_t (by rw [e]; exact nI_le (Nat.le_refl _) (by omega)) h1
  | succ d ih =>
    intro i hi n hn h1
    have hin : i < N := by omega
    cases hr : rm i
    · obtain ⟨m, rfl⟩ : ∃ m, n = m + 1 := ⟨n - 1, by omega⟩
      have hl := es_Q_lt hin hr
      have ih' := ih (i + 1) (by omega) m (by omega)
      rw [es_Q_f hr] at ih'
      have ht8 := (W.2.2.2.2 i hin).2.1
      have T := h.2.2.2.1 i hin hr
      refine br_f (nI_ge hl (by omega)) (es_x_open h W hin hr (es_bc (fun z => ?_) (fun z => ⟨hv, ?_⟩)))
      · rw [es_fs_f (p := es_ct L N t) (by unfold es_ct; rw [z]; rfl)] at h1
        exact nm_r (nI_1 _) (ih' h1)
      · rw [cg, et]
        by_cases c : t = 8
        · rw [es_fs_t (p := es_ct L N t) (by unfold es_ct; rw [z, c]; rfl)] at h1
          exact br_t (by rw [c]; rfl) h1
        · refine br_f (fun w => c (es_inj (b := 8) w (by omega) (by decide))) ⟨vp_in_nI (by omega) (by decide), hv, ?_⟩
          rw [nI_clamp (show es_Q rm i < 2 ^ 31 by omega), (T.2.2.2 (es_op_c z).1).1]
          by_cases c2 : es_t (L i) = t
          · rw [es_fs_t (p := es_ct L N t) (by unfold es_ct; rw [z, c2]; simp)] at h1
            exact br_t (by rw [c2]) h1
          · rw [es_fs_f (p := es_ct L N t) (by unfold es_ct; rw [z]; simp [c, c2])] at h1
            exact br_f (fun w => c2 (es_inj w (by omega) (by omega))) (nm_r (nI_1 _) (ih' h1))
    · rw [es_fs_f (p := es_ct L N t) (by unfold es_ct; rw [es_rm_op W hr]; rfl)] at h1
      have := ih (i + 1) (by omega) n (by omega) h1
      rw [es_Q_t hr] at this
      exact this
theorem es_x_fromCursor {g t c : Nat} (h : es_CX N F L rm pd f_held f_records f_flushed f_summed a_at a_version a_value a_originAt a_stream a_type a_originBy a_originCode a_goesOn a_events a_cuts a_firm a_cutsGone a_byVersion a_byOrigin a_upTo) (W : es_WL N F C L rm) (hg : g < 2) (ht : t < 9) (et : a_gType g = nI t) (ec : a_gCursor g = nI c) (hc : c ≤ N) {post : Int32 → SX → Prop} (h1 : es_fs (es_ct L N t) (N - c) c < N → post (nI (es_Q rm (es_fs (es_ct L N t) (N - c) c))) (f_held, f_records, f_flushed, f_summed, f_draft, f_drafted, f_seen, f_time, 0, a_at, a_version, a_value, a_originAt, a_stream, a_type, a_originBy, a_originCode, a_goesOn, a_events, a_cuts, a_firm, a_cutsGone, a_byVersion, a_byOrigin, a_upTo, a_draftType, a_draftValue, a_dOp, a_dC, a_height, a_clash, a_pOp, a_pSize, a_pC, a_position, a_cell, a_noted, a_stack, a_before, a_shown, a_gType, a_gTaken, a_gWaiting, a_kCount, upd a_gCursor g (nI (es_fs (es_ct L N t) (N - c) c + 1)), a_gParked, a_kCursor, a_tAt, a_tDue, a_wAt, a_kAt, a_tTimes, a_wTimes, a_kTimes)) (h0 : es_fs (es_ct L N t) (N - c) c = N → post (-1) (f_held, f_records, f_flushed, f_summed, f_draft, f_drafted, f_seen, f_time, 0, a_at, a_version, a_value, a_originAt, a_stream, a_type, a_originBy, a_originCode, a_goesOn, a_events, a_cuts, a_firm, a_cutsGone, a_byVersion, a_byOrigin, a_upTo, a_draftType, a_draftValue, a_dOp, a_dC, a_height, a_clash, a_pOp, a_pSize, a_pC, a_position, a_cell, a_noted, a_stack, a_before, a_shown, a_gType, a_gTaken, a_gWaiting, a_kCount, upd a_gCursor g (nI N), a_gParked, a_kCursor, a_tAt, a_tDue, a_wAt, a_kAt, a_tTimes, a_wTimes, a_kTimes)) : wpX_fromCursor post (f_held, f_records, f_flushed, f_summed, f_draft, f_drafted, f_seen, f_time, f_taken, a_at, a_version, a_value, a_originAt, a_stream, a_type, a_originBy, a_originCode, a_goesOn, a_events, a_cuts, a_firm, a_cutsGone, a_byVersion, a_byOrigin, a_upTo, a_draftType, a_draftValue, a_dOp, a_dC, a_height, a_clash, a_pOp, a_pSize, a_pC, a_position, a_cell, a_noted, a_stack, a_before, a_shown, a_gType, a_gTaken, a_gWaiting, a_kCount, a_gCursor, a_gParked, a_kCursor, a_tAt, a_tDue, a_wAt, a_kAt, a_tTimes, a_wTimes, a_kTimes) (nI g) := by
  have h' := h
  obtain ⟨rfl, rfl, rfl, T, -⟩ := h
  have hN := W.1
  have hq := W.2.2.1
  have hv : vp_in (nI g) 2 := vp_in_nI hg (by decide)
  have cg : (nI g).toNatClampNeg = g := nI_clamp (by omega)
  unfold wpX_fromCursor
  refine ⟨hv, ?_⟩
  rw [cg, ec]
  refine es_x_find h' W ⟨N - c + 1, ?_⟩
  rw [es_cl_nI hc (by omega)]
  refine es_x_fc11 h' W hg ht et (N - c) c (by omega) (N - c + 1) (by omega) ?_
  have hle := es_fs_le (es_ct L N t) (N - c) c
  have hpr := es_fs_p (p := es_ct L N t) (N - c) c
  generalize es_fs (es_ct L N t) (N - c) c = q at *
  unfold wX_fromCursor_59 wX_fromCursor_87
  rw [cg]
  by_cases z : q < N
  · have hct := hpr (by omega)
    have hr : rm q = false := by
      cases e : rm q
      · rfl
      · unfold es_ct at hct
        rw [es_rm_op W e] at hct
        cases hct
    have hl := es_Q_lt z hr
    rw [nI_clamp (show es_Q rm q < 2 ^ 31 by omega), (T q z hr).1, nI_1]
    have nl : ¬ nI (es_Q rm N) ≤ nI (es_Q rm q) := nI_ge hl (by omega)
    exact br_f nl ⟨vp_in_nI (by omega) (by decide), hv, nm_e (br_f nl (h1 z))⟩
  · have e : q = N := by omega
    subst e
    have nl : nI (es_Q rm q) ≤ nI (es_Q rm q) := nI_le (Nat.le_refl _) (by omega)
    exact br_t nl ⟨hv, nm_e (br_t nl (h0 rfl))⟩
theorem es_x_take52 {g nt a : Nat} (h : es_CX N F L rm pd f_held f_records f_flushed f_summed a_at a_version a_value a_originAt a_stream a_type a_originBy a_originCode a_goesOn a_events a_cuts a_firm a_cutsGone a_byVersion a_byOrigin a_upTo) (W : es_WL N F C L rm) (hg : g < 2) (hn : nt < 6) (e : a_gTaken g = nI nt) (ha : a < N) (hr : rm a = false) {post : Int32 → SX → Prop} (hp : post (nI a) (f_held, f_records, f_flushed, f_summed, f_draft, f_drafted, f_seen, f_time, f_taken, a_at, a_version, a_value, a_originAt, a_stream, a_type, a_originBy, a_originCode, a_goesOn, a_events, a_cuts, a_firm, a_cutsGone, a_byVersion, a_byOrigin, a_upTo, a_draftType, a_draftValue, a_dOp, a_dC, a_height, a_clash, a_pOp, a_pSize, a_pC, a_position, a_cell, a_noted, a_stack, a_before, a_shown, a_gType, upd a_gTaken g (nI (nt + 1)), a_gWaiting, a_kCount, a_gCursor, a_gParked, a_kCursor, upd a_tAt (6 * g + nt) (nI a), upd a_tDue (6 * g + nt) (f_time + 10), a_wAt, a_kAt, upd a_tTimes (6 * g + nt) (f_taken + 1), a_wTimes, a_kTimes)) : wX_take_52 post (nI g) (nI (es_Q rm a)) f_held f_records f_flushed f_summed f_draft f_drafted f_seen f_time f_taken a_at a_version a_value a_originAt a_stream a_type a_originBy a_originCode a_goesOn a_events a_cuts a_firm a_cutsGone a_byVersion a_byOrigin a_upTo a_draftType a_draftValue a_dOp a_dC a_height a_clash a_pOp a_pSize a_pC a_position a_cell a_noted a_stack a_before a_shown a_gType a_gTaken a_gWaiting a_kCount a_gCursor a_gParked a_kCursor a_tAt a_tDue a_wAt a_kAt a_tTimes a_wTimes a_kTimes := by
  have hv : vp_in (nI g) 2 := vp_in_nI hg (by decide)
  have hl := es_Q_lt ha hr
  have hq := W.2.2.1
  have hv2 : vp_in (nI (es_Q rm a)) 40 := vp_in_nI (by omega) (by decide)
  have hv3 : vp_in (nI (6 * g + nt)) 12 := vp_in_nI (by omega) (by decide)
  unfold wX_take_52
  rw [nI_clamp (show g < 2 ^ 31 by omega), nI_clamp (show es_Q rm a < 2 ^ 31 by omega), (h.2.2.2.1 a ha hr).1, e, nI_1, es_b8 (show nt + 1 < 128 by omega), es_6g, nI_add]
  refine br_t (nI_pos' (by omega)) ⟨hv, hv, nm_e (nm_e ⟨hv2, ?_⟩)⟩
  rw [nI_clamp (show 6 * g + nt < 2 ^ 31 by omega)]
  exact ⟨hv3, nm_e ⟨hv3, nm_e ⟨hv3, nm_e ⟨hv2, hp⟩⟩⟩⟩
end ES44
end
section
/-! take: Y -/
section ES45
def es_WI (b_many b_where b_often b_due : Nat → Int32) (g nw m : Nat) (mn wh of_ du : Nat → Int32) : Prop :=
  mn (2 + g) = nI (nw - m) ∧ (∀ r, r ≠ 2 + g → mn r = b_many r) ∧ (∀ j, m + j < nw → wh (8 * (2 + g) + j) = b_where (8 * (2 + g) + (m + j)) ∧ of_ (8 * (2 + g) + j) = b_often (8 * (2 + g) + (m + j))) ∧ ∀ i, i < 8 * (2 + g) ∨ 8 * (2 + g) + 6 ≤ i → wh i = b_where i ∧ of_ i = b_often i ∧ du i = b_due i
theorem es_WI_s {b_many b_where b_often b_due mn wh of_ du : Nat → Int32} {g nw m : Nat} (hw : nw ≤ 6) (hm : m < nw) (h : es_WI b_many b_where b_often b_due g nw m mn wh of_ du) :
    es_WI b_many b_where b_often b_due g nw (m + 1) (upd mn (2 + g) (nI (nw - m - 1))) (es_sl wh (8 * (2 + g) + 0) (8 * (2 + g) + (nw - m - 1))) (es_sl of_ (8 * (2 + g) + 0) (8 * (2 + g) + (nw - m - 1))) (es_sl du (8 * (2 + g) + 0) (8 * (2 + g) + (nw - m - 1))) := by
  obtain ⟨h1, h2, h3, h4⟩ := h
  refine ⟨by rw [pk_us, Nat.sub_sub], fun r hr => (pk_un hr).trans (h2 r hr), fun j hj => ?_, fun i hi => ?_⟩
  · rw [es_sl_i (by omega), es_sl_i (by omega)]
    have := h3 (j + 1) (by omega)
    rw [show m + 1 + j = m + (j + 1) by omega]
    exact this
  · rw [es_sl_o (by omega), es_sl_o (by omega), es_sl_o (by omega)]
    exact h4 i hi
variable {g_count g_flushed g_calls g_drafted g_top g_time : Int32} {b_isCut b_removed b_stream b_type b_from b_by b_value b_version b_on b_call b_draftType b_draftValue b_op b_with b_length b_height b_torn b_stack b_position b_cells b_noted b_wanted b_formed b_cursor b_parked b_where b_often b_due b_many b_found : Nat → Int32} {N F C : Nat} {L : Nat → es_Ev} {rm : Nat → Bool}
theorem es_16g (g : Nat) : 16 + 8 * nI g = nI (8 * (2 + g)) := by
  rw [es_8g, show 16 + nI (8 * g) = nI (16 + 8 * g) from nI_add 16 (8 * g)]
  exact congrArg nI (by omega)
theorem es_y_lend {g nt : Nat} {x t : Int32} (hg : g < 2) (hn : nt < 6) (e : b_many g = nI nt) {post : Int32 → SY → Prop} (hp : post x (g_count, g_flushed, g_calls, g_drafted, g_top, g_time, b_isCut, b_removed, b_stream, b_type, b_from, b_by, b_value, b_version, b_on, b_call, b_draftType, b_draftValue, b_op, b_with, b_length, b_height, b_torn, b_stack, b_position, b_cells, b_noted, b_wanted, b_formed, b_cursor, b_parked, upd b_where (8 * g + nt) x, upd b_often (8 * g + nt) t, upd b_due (8 * g + nt) (g_time + 10), upd b_many g (nI (nt + 1)), b_found)) : wpY_lend post (g_count, g_flushed, g_calls, g_drafted, g_top, g_time, b_isCut, b_removed, b_stream, b_type, b_from, b_by, b_value, b_version, b_on, b_call, b_draftType, b_draftValue, b_op, b_with, b_length, b_height, b_torn, b_stack, b_position, b_cells, b_noted, b_wanted, b_formed, b_cursor, b_parked, b_where, b_often, b_due, b_many, b_found) (nI g) x t := by
  have hv : vp_in (nI g) 6 := vp_in_nI (by omega) (by decide)
  have hv3 : vp_in (nI (8 * g + nt)) 64 := vp_in_nI (by omega) (by decide)
  unfold wpY_lend
  dsimp only
  rw [nI_clamp (show g < 2 ^ 31 by omega), e, nI_1, es_b8 (show nt + 1 < 128 by omega), es_8g, nI_add]
  refine ⟨hv, hv, nm_e (nm_e ?_)⟩
  rw [nI_clamp (show 8 * g + nt < 2 ^ 31 by omega)]
  exact ⟨hv3, nm_e ⟨hv3, nm_e ⟨hv3, nm_e hp⟩⟩⟩
theorem es_y_tk44 {g nw : Nat} {ps : Nat → Nat} (h : es_CY N F C L rm g_count g_flushed g_calls b_isCut b_removed b_stream b_type b_from b_by b_value b_version b_on b_call) (W : es_WL N F C L rm) (hg : g < 2) (hw : nw ≤ 6) (hps : ∀ j, j < nw → b_where (8 * (2 + g) + j) = nI (ps j) ∧ ps j < N) {post : Int32 → SY → Prop} :
    ∀ d m, m + d = nw → ∀ mn wh of_ du, es_WI b_many b_where b_often b_due g nw m mn wh of_ du → (∀ mn wh of_ du, es_WI b_many b_where b_often b_due g nw (es_fs (fun j => es_op L N (ps j)) d m) mn wh of_ du → wY_take_79 post (nI g) (nI (8 * (2 + g))) g_count g_flushed g_calls g_drafted g_top g_time b_isCut b_removed b_stream b_type b_from b_by b_value b_version b_on b_call b_draftType b_draftValue b_op b_with b_length b_height b_torn b_stack b_position b_cells b_noted b_wanted b_formed b_cursor b_parked wh of_ du mn b_found) → wY_take_44 post (nI g) (nI (8 * (2 + g))) (d + 1) g_count g_flushed g_calls g_drafted g_top g_time b_isCut b_removed b_stream b_type b_from b_by b_value b_version b_on b_call b_draftType b_draftValue b_op b_with b_length b_height b_torn b_stack b_position b_cells b_noted b_wanted b_formed b_cursor b_parked wh of_ du mn b_found := by
  have e2 : 2 + nI g = nI (2 + g) := nI_add 2 g
  have hv : vp_in (nI (2 + g)) 6 := vp_in_nI (by omega) (by decide)
  have c2 : (nI (2 + g)).toNatClampNeg = 2 + g := nI_clamp (by omega)
  intro d
  induction d with
  | zero =>
    intro m hm mn wh of_ du hI hp
    have e : m = nw := by omega
    refine ⟨by rw [e2]; exact hv, ?_⟩
    rw [e2, c2, hI.1]
    exact br_t (by rw [e, Nat.sub_self]; exact nI_le (a := 0) (b := 0) (by omega) (by decide)) (hp mn wh of_ du hI)
  | succ d ih =>
    intro m hm mn wh of_ du hI hp
    obtain ⟨q1, q2⟩ := hps m (by omega)
    have q3 := (hI.2.2.1 0 (by omega)).1
    rw [Nat.add_zero, Nat.add_zero, q1] at q3
    have hs := es_WI_s hw (show m < nw by omega) hI
    refine ⟨by rw [e2]; exact hv, ?_⟩
    rw [e2, c2, hI.1, nI_clamp (show 8 * (2 + g) < 2 ^ 31 by omega), q3]
    refine br_f (nI_nle (by omega) (by omega)) ⟨vp_in_nI (by omega) (by decide), es_y_shown h W q2 (es_bc (fun z => ?_) (fun z => ?_))⟩
    · rw [es_fs_f (p := fun j => es_op L N (ps j)) z] at hp
      exact es_y_strike (r := 2 + g) (n := nw - m) (c := 0) (by omega) (by omega) (by omega) hI.1 (ih (m + 1) (by omega) _ _ _ _ hs hp)
    · rw [es_fs_t (p := fun j => es_op L N (ps j)) z] at hp
      exact hp mn wh of_ du hI
theorem es_y_tk79 {g nt nw m : Nat} (hg : g < 2) (hn : nt < 6) (hw : nw ≤ 6) (hm : m < nw) (e : b_many g = nI nt) {mn wh of_ du : Nat → Int32} (hI : es_WI b_many b_where b_often b_due g nw m mn wh of_ du) {post : Int32 → SY → Prop}
    (hp : ∀ mn wh of_ du, es_WI b_many b_where b_often b_due g nw (m + 1) mn wh of_ du → post (b_where (8 * (2 + g) + m)) (g_count, g_flushed, g_calls, g_drafted, g_top, g_time, b_isCut, b_removed, b_stream, b_type, b_from, b_by, b_value, b_version, b_on, b_call, b_draftType, b_draftValue, b_op, b_with, b_length, b_height, b_torn, b_stack, b_position, b_cells, b_noted, b_wanted, b_formed, b_cursor, b_parked, upd wh (8 * g + nt) (b_where (8 * (2 + g) + m)), upd of_ (8 * g + nt) (b_often (8 * (2 + g) + m) + 1), upd du (8 * g + nt) (g_time + 10), upd mn g (nI (nt + 1)), b_found)) : wY_take_79 post (nI g) (nI (8 * (2 + g))) g_count g_flushed g_calls g_drafted g_top g_time b_isCut b_removed b_stream b_type b_from b_by b_value b_version b_on b_call b_draftType b_draftValue b_op b_with b_length b_height b_torn b_stack b_position b_cells b_noted b_wanted b_formed b_cursor b_parked wh of_ du mn b_found := by
  have e2 : 2 + nI g = nI (2 + g) := nI_add 2 g
  have hv : vp_in (nI (2 + g)) 6 := vp_in_nI (by omega) (by decide)
  have hv2 : vp_in (nI (8 * (2 + g))) 64 := vp_in_nI (by omega) (by decide)
  have q3 := hI.2.2.1 0 (by omega)
  rw [Nat.add_zero, Nat.add_zero] at q3
  have hs := es_WI_s hw hm hI
  unfold wY_take_79
  rw [e2, nI_clamp (show 2 + g < 2 ^ 31 by omega), hI.1, nI_clamp (show 8 * (2 + g) < 2 ^ 31 by omega), q3.1, q3.2]
  refine ⟨hv, br_f (nI_nle (by omega) (by omega)) ⟨hv2, nm_e ⟨hv2, nm_e ?_⟩⟩⟩
  refine es_y_strike (r := 2 + g) (n := nw - m) (c := 0) (by omega) (by omega) (by omega) hI.1 (es_y_lend hg hn ?_ (hp _ _ _ _ hs))
  exact (hs.2.1 g (by omega)).trans e
theorem es_y_tk124 {g t : Nat} (h : es_CY N F C L rm (nI N) g_flushed g_calls b_isCut b_removed b_stream b_type b_from b_by b_value b_version b_on b_call) (W : es_WL N F C L rm) (hg : g < 2) (ht : t < 9) (et : b_wanted g = nI t) {post : Int32 → SY → Prop} {cur0 : Nat → Int32} :
    ∀ d c, c + d = N → ∀ cur, cur g = nI c → (∀ r, r ≠ g → cur r = cur0 r) → (es_fs (es_ct L N t) d c < N → ∀ cur, cur g = nI (es_fs (es_ct L N t) d c + 1) → (∀ r, r ≠ g → cur r = cur0 r) → wpY_lend post (nI N, g_flushed, g_calls, g_drafted, g_top, g_time, b_isCut, b_removed, b_stream, b_type, b_from, b_by, b_value, b_version, b_on, b_call, b_draftType, b_draftValue, b_op, b_with, b_length, b_height, b_torn, b_stack, b_position, b_cells, b_noted, b_wanted, b_formed, cur, b_parked, b_where, b_often, b_due, b_many, b_found) (nI g) (nI (es_fs (es_ct L N t) d c)) 1) → (es_fs (es_ct L N t) d c = N → ∀ cur, cur g = nI N → (∀ r, r ≠ g → cur r = cur0 r) → post (-4) (nI N, g_flushed, g_calls, g_drafted, g_top, g_time, b_isCut, b_removed, b_stream, b_type, b_from, b_by, b_value, b_version, b_on, b_call, b_draftType, b_draftValue, b_op, b_with, b_length, b_height, b_torn, b_stack, b_position, b_cells, b_noted, b_wanted, b_formed, cur, b_parked, b_where, b_often, b_due, b_many, b_found)) →
      wY_take_124 post (nI g) (nI N) g_flushed g_calls g_drafted g_top g_time (d + 1) b_isCut b_removed b_stream b_type b_from b_by b_value b_version b_on b_call b_draftType b_draftValue b_op b_with b_length b_height b_torn b_stack b_position b_cells b_noted b_wanted b_formed cur b_parked b_where b_often b_due b_many b_found := by
  have hN := W.1
  have hv4 : vp_in (nI g) 4 := vp_in_nI (by omega) (by decide)
  have hv : vp_in (nI g) 2 := vp_in_nI hg (by decide)
  have cg : (nI g).toNatClampNeg = g := nI_clamp (by omega)
  intro d
  induction d with
  | zero =>
    intro c hc cur e1 e2 h1 h0
    have e : c = N := by omega
    refine ⟨hv4, ?_⟩
    rw [cg, e1]
    exact br_t (by rw [e]; exact nI_le (Nat.le_refl _) (by omega)) (h0 e cur (by rw [e1, e]) e2)
  | succ d ih =>
    intro c hc cur e1 e2 h1 h0
    have hcN : c < N := by omega
    have u1 : upd cur g (nI (c + 1)) g = nI (c + 1) := pk_us
    have u2 : ∀ r, r ≠ g → upd cur g (nI (c + 1)) r = cur0 r := fun r hr => (pk_un hr).trans (e2 r hr)
    have nx := ih (c + 1) (by omega) (upd cur g (nI (c + 1))) u1 u2
    have r := h.2.2.2 c hcN
    have ht8 := (W.2.2.2.2 c hcN).2.1
    refine ⟨hv4, ?_⟩
    rw [cg, e1, nI_1]
    refine br_f (nI_ge (by omega) (by omega)) ⟨hv4, hv4, nm_e (nm_e (es_y_shown h W hcN (es_bc (fun z => ?_) (fun z => ⟨hv, ?_⟩))))⟩
    · rw [es_fs_f (p := es_ct L N t) (by unfold es_ct; rw [z]; rfl)] at h1 h0
      exact nx h1 h0
    · rw [et]
      by_cases c8 : t = 8
      · rw [es_fs_t (p := es_ct L N t) (by unfold es_ct; rw [z, c8]; rfl)] at h1
        exact br_t (by rw [c8]; rfl) (h1 hcN _ u1 u2)
      · refine br_f (fun w => c8 (es_inj (b := 8) w (by omega) (by decide))) ⟨vp_in_nI (by omega) (by decide), hv, ?_⟩
        rw [nI_clamp (show c < 2 ^ 31 by omega), r.2.2.2.1]
        by_cases c2 : es_t (L c) = t
        · rw [es_fs_t (p := es_ct L N t) (by unfold es_ct; rw [z, c2]; simp)] at h1
          exact br_t (by rw [c2]) (h1 hcN _ u1 u2)
        · rw [es_fs_f (p := es_ct L N t) (by unfold es_ct; rw [z]; simp [c8, c2])] at h1 h0
          exact br_f (fun w => c2 (es_inj w (by omega) (by omega))) (nx h1 h0)
end ES45
end
section
/-! take joined -/
section ES46
theorem es_ct_rm {N F C t i : Nat} {L : Nat → es_Ev} {rm : Nat → Bool} (W : es_WL N F C L rm) (h : es_ct L N t i = true) : rm i = false := by
  cases e : rm i
  · rfl
  · unfold es_ct at h
    rw [es_rm_op W e] at h
    cases h
variable {f_held f_records f_flushed f_summed f_draft f_drafted f_seen f_time f_taken : Int32} {a_at a_version a_value a_originAt a_stream a_type a_originBy a_originCode a_goesOn a_events a_cuts a_firm a_cutsGone a_byVersion a_byOrigin a_draftType a_draftValue a_dOp a_dC a_height a_clash a_pOp a_pSize a_pC a_position a_cell a_noted a_stack a_before a_shown a_gType a_gTaken a_gWaiting a_kCount a_gCursor a_gParked a_kCursor a_tAt a_tDue a_wAt a_kAt a_tTimes a_wTimes a_kTimes : Nat → Int32} {a_upTo : Nat → Int64} {g_count g_flushed g_calls g_drafted g_top g_time : Int32} {b_isCut b_removed b_stream b_type b_from b_by b_value b_version b_on b_call b_draftType b_draftValue b_op b_with b_length b_height b_torn b_stack b_position b_cells b_noted b_wanted b_formed b_cursor b_parked b_where b_often b_due b_many b_found : Nat → Int32} {N F : Nat} {rm : Nat → Bool}
def es_PX (N : Nat) (a_kCount a_kCursor a_kAt : Nat → Int32) (g : Nat) (x : Int32) : Prop := ∀ nk kc, nk ≤ 6 → kc ≤ 2000 → a_kCount g = nI nk → a_kCursor g = nI kc → es_PS N kc nk (fun j => a_kAt (6 * g + j)) x
theorem es_GRs_take {g t nt nw c0 c : Nat} (hN : N ≤ 2000) (hF : F ≤ N) (hg : g < 2) (et : a_gType g = nI t) (ht9 : t < 9) (ec0 : a_gCursor g = nI c0) (hc0 : c0 ≤ N) (hc : c0 ≤ c) (hcN : c ≤ N) (h8 : ∀ g, g < 2 → es_GR N F rm a_gType a_gTaken a_gWaiting a_kCount a_gCursor a_gParked a_kCursor a_tAt a_tDue a_wAt a_kAt a_tTimes a_wTimes a_kTimes b_wanted b_formed b_cursor b_parked b_where b_often b_due b_many g) (a_gTaken' a_gWaiting' a_gCursor' a_tAt' a_tDue' a_wAt' a_tTimes' a_wTimes' : Nat → Int32) (b_cursor' b_where' b_often' b_due' b_many' : Nat → Int32)
    (hn : nt + nw ≤ 6) (x1 : a_gTaken' g = nI nt) (x2 : a_gWaiting' g = nI nw) (x3 : a_gCursor' g = nI c) (y1 : b_many' g = nI nt) (y2 : b_many' (2 + g) = nI nw) (y3 : b_cursor' g = nI c)
    (xo : ∀ r, r ≠ g → a_gTaken' r = a_gTaken r ∧ a_gWaiting' r = a_gWaiting r ∧ a_gCursor' r = a_gCursor r)
    (yo : ∀ r, r ≠ g → r ≠ 2 + g → b_many' r = b_many r) (yc : ∀ r, r ≠ g → b_cursor' r = b_cursor r)
    (xa : ∀ i, i < 6 * g ∨ 6 * g + 6 ≤ i → a_tAt' i = a_tAt i ∧ a_tDue' i = a_tDue i ∧ a_wAt' i = a_wAt i ∧ a_tTimes' i = a_tTimes i ∧ a_wTimes' i = a_wTimes i)
    (ya : ∀ i, (i < 8 * g ∨ 8 * g + 6 ≤ i) → (i < 8 * (2 + g) ∨ 8 * (2 + g) + 6 ≤ i) → b_where' i = b_where i ∧ b_often' i = b_often i ∧ b_due' i = b_due i)
    (ht : ∀ j, j < nt → b_where' (8 * g + j) = a_tAt' (6 * g + j) ∧ b_often' (8 * g + j) = a_tTimes' (6 * g + j) ∧ b_due' (8 * g + j) = a_tDue' (6 * g + j) ∧ es_PX N a_kCount a_kCursor a_kAt g (a_tAt' (6 * g + j)))
    (hw : ∀ j, j < nw → b_where' (8 * (2 + g) + j) = a_wAt' (6 * g + j) ∧ b_often' (8 * (2 + g) + j) = a_wTimes' (6 * g + j) ∧ es_PX N a_kCount a_kCursor a_kAt g (a_wAt' (6 * g + j))) :
    ∀ g', g' < 2 → es_GR N F rm a_gType a_gTaken' a_gWaiting' a_kCount a_gCursor' a_gParked a_kCursor a_tAt' a_tDue' a_wAt' a_kAt a_tTimes' a_wTimes' a_kTimes b_wanted b_formed b_cursor' b_parked b_where' b_often' b_due' b_many' g' := fun g' hg' => by
  by_cases z : g' = g
  · subst z
    obtain ⟨nt1, nw1, nk, c1, kc, ⟨a1, a2, a3, a4, a5, a6, a7, a8⟩, ⟨b1, b2, b3, b4, b5, b6, b7⟩, p, f, hT, hW, hk, hs⟩ := h8 g' hg'
    have e1 : c1 = c0 := es_inj (b1.symm.trans ec0) (by omega) (by omega)
    refine ⟨nt, nw, nk, c, kc, ⟨x1, y1, x2, y2, a5, (yo (4 + g') (by omega) (by omega)).trans a6, hn, a8⟩, ⟨x3, y3, hcN, b4, (yc (2 + g') (by omega)).trans b5, by omega, b7⟩, p, ?_, fun j hj => ?_, fun j hj => ?_, fun j hj => ?_, hs⟩
    · rcases f with ⟨f1, f2, f3, f4, f5⟩ | f
      · rw [et] at f1; exact absurd f1 (es_nm (by omega))
      · exact Or.inr f
    · obtain ⟨q1, q2, q3, q4⟩ := ht j hj
      exact ⟨q1, q2, q3, q4 nk kc a8 (by omega) a5 b4⟩
    · obtain ⟨q1, q2, q4⟩ := hw j hj
      rw [show 16 + 8 * g' + j = 8 * (2 + g') + j by omega]
      exact ⟨q1, q2, q4 nk kc a8 (by omega) a5 b4⟩
    · obtain ⟨q1, q2, q3⟩ := ya (32 + 8 * g' + j) (by omega) (by omega)
      rw [q1, q2]
      exact hk j hj
  · obtain ⟨o1, o2, o3⟩ := xo g' z
    refine es_GR_fr _ _ _ _ _ _ _ _ _ _ _ _ _ _ _ _ _ _ _ _ _ _ (h8 g' hg') ⟨rfl, o1, o2, rfl, o3, rfl, rfl⟩ (fun j hj => ?_) ⟨rfl, rfl, yc g' z, yc (2 + g') (by omega), rfl, yo g' z (by omega), yo (2 + g') (by omega) (by omega), yo (4 + g') (by omega) (by omega)⟩ (fun j hj => ?_)
    · obtain ⟨q1, q2, q3, q4, q5⟩ := xa (6 * g' + j) (by omega)
      exact ⟨q1, q2, q3, rfl, q4, q5, rfl⟩
    · obtain ⟨q1, q2, q3⟩ := ya (8 * g' + j) (by omega) (by omega)
      obtain ⟨r1, r2, r3⟩ := ya (16 + 8 * g' + j) (by omega) (by omega)
      obtain ⟨s1, s2, s3⟩ := ya (32 + 8 * g' + j) (by omega) (by omega)
      exact ⟨q1, r1, s1, q2, r2, s2, q3⟩
end ES46
section ES46b
theorem i_vc_take {k : Nat} {u : SX} {v : SY} (I : i_Rel k u v) (hk : k + 4 ≤ 2048) (v1 : Int32) : wpX_take (fun r u' => wpY_take (fun r' v' => r' = r ∧ i_Rel (k + 4) u' v') v v1) u v1 := by
  refine es_el (P := fun u v => wpX_take (fun r u' => wpY_take (fun r' v' => r' = r ∧ i_Rel (k + 4) u' v') v v1) u v1) ?_ u v I
  intro f_held f_records f_flushed f_summed f_draft f_drafted f_seen f_time f_taken a_at a_version a_value a_originAt a_stream a_type a_originBy a_originCode a_goesOn a_events a_cuts a_firm a_cutsGone a_byVersion a_byOrigin a_draftType a_draftValue a_dOp a_dC a_height a_clash a_pOp a_pSize a_pC a_position a_cell a_noted a_stack a_before a_shown a_gType a_gTaken a_gWaiting a_kCount a_gCursor a_gParked a_kCursor a_tAt a_tDue a_wAt a_kAt a_tTimes a_wTimes a_kTimes a_upTo g_count g_flushed g_calls g_drafted g_top g_time b_isCut b_removed b_stream b_type b_from b_by b_value b_version b_on b_call b_draftType b_draftValue b_op b_with b_length b_height b_torn b_stack b_position b_cells b_noted b_wanted b_formed b_cursor b_parked b_where b_often b_due b_many b_found N F C L rm h1 h2 h3 h4 h5 h6 h7 h8 h9 h10
  show wpX_take (fun r u' => wpY_take (fun r' v' => r' = r ∧ i_Rel (k + 4) u' v') (g_count, g_flushed, g_calls, g_drafted, g_top, g_time, b_isCut, b_removed, b_stream, b_type, b_from, b_by, b_value, b_version, b_on, b_call, b_draftType, b_draftValue, b_op, b_with, b_length, b_height, b_torn, b_stack, b_position, b_cells, b_noted, b_wanted, b_formed, b_cursor, b_parked, b_where, b_often, b_due, b_many, b_found) v1) (f_held, f_records, f_flushed, f_summed, f_draft, f_drafted, f_seen, f_time, f_taken, a_at, a_version, a_value, a_originAt, a_stream, a_type, a_originBy, a_originCode, a_goesOn, a_events, a_cuts, a_firm, a_cutsGone, a_byVersion, a_byOrigin, a_upTo, a_draftType, a_draftValue, a_dOp, a_dC, a_height, a_clash, a_pOp, a_pSize, a_pC, a_position, a_cell, a_noted, a_stack, a_before, a_shown, a_gType, a_gTaken, a_gWaiting, a_kCount, a_gCursor, a_gParked, a_kCursor, a_tAt, a_tDue, a_wAt, a_kAt, a_tTimes, a_wTimes, a_kTimes) v1
  subst h10
  have keep : i_Rel (k + 4) (f_held, f_records, f_flushed, f_summed, f_draft, f_drafted, f_seen, f_time, f_taken, a_at, a_version, a_value, a_originAt, a_stream, a_type, a_originBy, a_originCode, a_goesOn, a_events, a_cuts, a_firm, a_cutsGone, a_byVersion, a_byOrigin, a_upTo, a_draftType, a_draftValue, a_dOp, a_dC, a_height, a_clash, a_pOp, a_pSize, a_pC, a_position, a_cell, a_noted, a_stack, a_before, a_shown, a_gType, a_gTaken, a_gWaiting, a_kCount, a_gCursor, a_gParked, a_kCursor, a_tAt, a_tDue, a_wAt, a_kAt, a_tTimes, a_wTimes, a_kTimes) (g_count, g_flushed, g_calls, g_drafted, g_top, f_time, b_isCut, b_removed, b_stream, b_type, b_from, b_by, b_value, b_version, b_on, b_call, b_draftType, b_draftValue, b_op, b_with, b_length, b_height, b_torn, b_stack, b_position, b_cells, b_noted, b_wanted, b_formed, b_cursor, b_parked, b_where, b_often, b_due, b_many, b_found) := es_mk h1 h2 h3 (by omega) h5 h6 h7 h8 h9 rfl
  have out : (v1 < 0 ∨ nI 2 ≤ v1) → wpX_take (fun r u' => wpY_take (fun r' v' => r' = r ∧ i_Rel (k + 4) u' v') (g_count, g_flushed, g_calls, g_drafted, g_top, f_time, b_isCut, b_removed, b_stream, b_type, b_from, b_by, b_value, b_version, b_on, b_call, b_draftType, b_draftValue, b_op, b_with, b_length, b_height, b_torn, b_stack, b_position, b_cells, b_noted, b_wanted, b_formed, b_cursor, b_parked, b_where, b_often, b_due, b_many, b_found) v1) (f_held, f_records, f_flushed, f_summed, f_draft, f_drafted, f_seen, f_time, f_taken, a_at, a_version, a_value, a_originAt, a_stream, a_type, a_originBy, a_originCode, a_goesOn, a_events, a_cuts, a_firm, a_cutsGone, a_byVersion, a_byOrigin, a_upTo, a_draftType, a_draftValue, a_dOp, a_dC, a_height, a_clash, a_pOp, a_pSize, a_pC, a_position, a_cell, a_noted, a_stack, a_before, a_shown, a_gType, a_gTaken, a_gWaiting, a_kCount, a_gCursor, a_gParked, a_kCursor, a_tAt, a_tDue, a_wAt, a_kAt, a_tTimes, a_wTimes, a_kTimes) v1 := fun c => by
    unfold wpX_take
    refine es_am0 (n := 2) c (br_t rfl ?_)
    unfold wpY_take
    exact es_out1 (n := 2) c (br_f es_10 ⟨rfl, keep⟩)
  rcases pk_ix v1 (n := 2) (by decide) with c | c | ⟨g, hg, rfl⟩
  · exact out (Or.inl c)
  · exact out (Or.inr c)
  clear out
  have hN := h3.1
  have hFN := h3.2.1
  obtain ⟨nt, nw, nk, c, kc, ⟨a1, a2, a3, a4, a5, a6, a7, a8⟩, ⟨b1, b2, b3, b4, b5, b6, b7⟩, p, f, hT, hW, hk', hs⟩ := h8 g hg
  have hv : vp_in (nI g) 2 := vp_in_nI hg (by decide)
  have hv6 : vp_in (nI g) 6 := vp_in_nI (by omega) (by decide)
  have cg : (nI g).toNatClampNeg = g := nI_clamp (by omega)
  unfold wpX_take
  refine es_am1 (n := 2) hg (by decide) (br_f es_10 ⟨hv, ?_⟩)
  rw [cg]
  rcases f with ⟨f1, f2, f3, f4, f5⟩ | ⟨t, t1, t2, t3, t4, t5⟩
  · rw [f1]
    refine br_f es_n0 ?_
    unfold wpY_take
    refine es_out0 (n := 2) hg (by decide) (br_t rfl ⟨hv, ?_⟩)
    rw [cg, f2]
    exact br_t rfl ⟨rfl, keep⟩
  rw [t2, a1]
  refine br_t (nI_pos' (by omega)) ⟨hv, ?_⟩
  by_cases c6 : nt = 6
  · refine br_t (by rw [c6]; rfl) ?_
    unfold wpY_take
    refine es_out0 (n := 2) hg (by decide) (br_t rfl ⟨hv, ?_⟩)
    rw [cg, t4, a2]
    exact br_f es_10 ⟨hv6, br_t (by rw [c6]; rfl) ⟨rfl, keep⟩⟩
  have n6 : ¬ nI nt = 6 := fun z => c6 (es_inj (b := 6) z (by omega) (by decide))
  refine br_f n6 ?_
  have hps : ∀ j, j < nw → a_wAt (6 * g + j) = nI (a_wAt (6 * g + j)).toNatClampNeg ∧ (a_wAt (6 * g + j)).toNatClampNeg < N ∧ rm (a_wAt (6 * g + j)).toNatClampNeg = false := fun j hj => by
    obtain ⟨a, q1, q2, q3, -⟩ := es_PS_rm hN hFN (fun i hi => (h3.2.2.2.1 i hi).1) (hW j hj).2.2 t5
    rw [q2, nI_clamp (by omega)]
    exact ⟨rfl, q1, q3⟩
  have hpx : ∀ {x : Int32}, es_PS N kc nk (fun j => a_kAt (6 * g + j)) x → es_PX N a_kCount a_kCursor a_kAt g x := fun {x} hx nk' kc' z1 z2 z3 z4 => by
    rw [a5] at z3
    rw [b4] at z4
    rw [← es_inj z3 (by omega) (by omega), ← es_inj z4 (by omega) (by omega)]
    exact hx
  obtain ⟨n0, hn0⟩ : ∃ n0, n0 = es_fs (fun j => es_op L N ((fun j => (a_wAt (6 * g + j)).toNatClampNeg) j)) nw 0 := ⟨_, rfl⟩
  have hle := es_fs_le (fun j => es_op L N ((fun j => (a_wAt (6 * g + j)).toNatClampNeg) j)) nw 0
  rw [← hn0] at hle
  have hYstart : ∀ {post : Int32 → SY → Prop}, (∀ mn wh of_ du, es_WI b_many b_where b_often b_due g nw n0 mn wh of_ du → wY_take_79 post (nI g) (nI (8 * (2 + g))) g_count g_flushed g_calls g_drafted g_top f_time b_isCut b_removed b_stream b_type b_from b_by b_value b_version b_on b_call b_draftType b_draftValue b_op b_with b_length b_height b_torn b_stack b_position b_cells b_noted b_wanted b_formed b_cursor b_parked wh of_ du mn b_found) → wpY_take post (g_count, g_flushed, g_calls, g_drafted, g_top, f_time, b_isCut, b_removed, b_stream, b_type, b_from, b_by, b_value, b_version, b_on, b_call, b_draftType, b_draftValue, b_op, b_with, b_length, b_height, b_torn, b_stack, b_position, b_cells, b_noted, b_wanted, b_formed, b_cursor, b_parked, b_where, b_often, b_due, b_many, b_found) (nI g) := fun {post} hp => by
    have key := es_y_tk44 (g_count := g_count) (g_flushed := g_flushed) (g_calls := g_calls) (g_drafted := g_drafted) (g_top := g_top) (g_time := f_time) (b_isCut := b_isCut) (b_removed := b_removed) (b_stream := b_stream) (b_type := b_type) (b_from := b_from) (b_by := b_by) (b_value := b_value) (b_version := b_version) (b_on := b_on) (b_call := b_call) (b_draftType := b_draftType) (b_draftValue := b_draftValue) (b_op := b_op) (b_with := b_with) (b_length := b_length) (b_height := b_height) (b_torn := b_torn) (b_stack := b_stack) (b_position := b_position) (b_cells := b_cells) (b_noted := b_noted) (b_wanted := b_wanted) (b_formed := b_formed) (b_cursor := b_cursor) (b_parked := b_parked) (b_where := b_where) (b_often := b_often) (b_due := b_due) (b_many := b_many) (b_found := b_found) (ps := fun j => (a_wAt (6 * g + j)).toNatClampNeg) h2 h3 hg (show nw ≤ 6 by omega) (fun j hj => ⟨by have := (hW j hj).1; rw [show 16 + 8 * g + j = 8 * (2 + g) + j by omega] at this; exact this.trans (hps j hj).1, (hps j hj).2.1⟩) (post := post) nw 0 (by omega) b_many b_where b_often b_due ⟨a4, fun _ _ => rfl, fun j _ => by rw [Nat.zero_add]; exact ⟨rfl, rfl⟩, fun _ _ => ⟨rfl, rfl, rfl⟩⟩ (by rw [← hn0]; exact hp)
    unfold wpY_take
    refine es_out0 (n := 2) hg (by decide) (br_t rfl ⟨hv, ?_⟩)
    rw [cg, t4, a2]
    exact br_f es_10 ⟨hv6, br_f n6 (nm_r (es_16g g) ⟨_, key⟩)⟩
  have hW2 : ∀ j, j < nw → b_where (8 * (2 + g) + j) = a_wAt (6 * g + j) ∧ b_often (8 * (2 + g) + j) = a_wTimes (6 * g + j) := fun j hj => by
    have := hW j hj
    rw [show 16 + 8 * g + j = 8 * (2 + g) + j by omega] at this
    exact ⟨this.1, this.2.1⟩
  refine ⟨nw + 2, es_x_fw4 (ps := fun j => (a_wAt (6 * g + j)).toNatClampNeg) h1 h3 hg (by omega) a3 hps nw 0 (by omega) f_taken (fun hlt => ?_) (fun heq tk => ?_)⟩
  · rw [← hn0] at hlt ⊢
    obtain ⟨w1, w2, w3⟩ := hps n0 hlt
    refine es_x_fw68 hg (show n0 + 1 ≤ nw by omega) (by omega) a3 (br_t (nI_pos' ?_) (es_x_take52 h1 h3 hg (by omega) a1 w2 w3 (hYstart ?_)))
    · have := es_Q_lt w2 w3
      have := h3.2.2.1
      omega
    intro mn wh of_ du hI
    refine es_y_tk79 hg (by omega) (by omega) hlt a2 hI (fun mn wh of_ du hI => ?_)
    obtain ⟨i1, i2, i3, i4⟩ := hI
    refine ⟨(hW2 n0 hlt).1.trans w1, es_mk h1 h2 h3 (by omega) h5 h6 h7 ?_ h9 rfl⟩
    refine es_GRs_take (t := t) (nt := nt + 1) (nw := nw - (n0 + 1)) (c0 := c) (c := c) hN hFN hg t2 t1 b1 b3 (Nat.le_refl _) b3 h8 _ _ _ _ _ _ _ _ _ _ _ _ _ (by omega) pk_us pk_us b1 pk_us ((pk_un (by omega)).trans i1) b2 (fun r hr => ⟨pk_un hr, pk_un hr, rfl⟩) (fun r hr hr' => (pk_un hr).trans (i2 r hr')) (fun _ _ => rfl) (fun i hi => ⟨pk_un (by omega), pk_un (by omega), es_mv_o (by omega), pk_un (by omega), es_mv_o (by omega)⟩) (fun i hi hi' => ⟨(pk_un (by omega)).trans (i4 i hi').1, (pk_un (by omega)).trans (i4 i hi').2.1, (pk_un (by omega)).trans (i4 i hi').2.2⟩) (fun j hj => ?_) (fun j hj => ?_)
    · by_cases z : j = nt
      · rw [z, pk_us, pk_us, pk_us, pk_us, pk_us, pk_us]
        refine ⟨(hW2 n0 hlt).1.trans w1, by rw [(hW2 n0 hlt).2], rfl, ?_⟩
        rw [← w1]
        exact hpx (hW n0 hlt).2.2
      · obtain ⟨q1, q2, q3, q4⟩ := hT j (by omega)
        obtain ⟨s1, s2, s3⟩ := i4 (8 * g + j) (by omega)
        rw [pk_un (by omega), pk_un (by omega), pk_un (by omega), pk_un (by omega), pk_un (by omega), pk_un (by omega), s1, s2, s3]
        exact ⟨q1, q2, q3, hpx q4⟩
    · obtain ⟨q1, q2⟩ := i3 j (by omega)
      obtain ⟨r1, r2⟩ := hW2 (n0 + 1 + j) (by omega)
      rw [pk_un (by omega), pk_un (by omega), es_mv_i (by omega), es_mv_i (by omega), q1, q2, r1, r2, show 6 * g + (n0 + 1) + j = 6 * g + (n0 + 1 + j) by omega]
      exact ⟨rfl, rfl, hpx (hW (n0 + 1 + j) (by omega)).2.2⟩
  · rw [← hn0] at heq
    have h2' := h2
    have e2 := h2.1
    subst e2
    have e2g : 2 + nI g = nI (2 + g) := nI_add 2 g
    have hq := es_fs_le (es_ct L N t) (N - c) c
    have Wi : ∀ {mn wh of_ du : Nat → Int32}, es_WI b_many b_where b_often b_due g nw n0 mn wh of_ du → ∀ j, j < nt → wh (8 * g + j) = a_tAt (6 * g + j) ∧ of_ (8 * g + j) = a_tTimes (6 * g + j) ∧ du (8 * g + j) = a_tDue (6 * g + j) ∧ es_PX N a_kCount a_kCursor a_kAt g (a_tAt (6 * g + j)) := fun {mn wh of_ du} hI j hj => by
      obtain ⟨q1, q2, q3, q4⟩ := hT j hj
      obtain ⟨s1, s2, s3⟩ := hI.2.2.2 (8 * g + j) (by omega)
      rw [s1, s2, s3]
      exact ⟨q1, q2, q3, hpx q4⟩
    refine es_x_fw68 hg (Nat.le_refl nw) (by omega) a3 (br_f es_n0 (es_x_fromCursor (c := c) h1 h3 hg t1 t2 b1 b3 (fun hlt => ?_) (fun heq2 => br_f es_n0 ?_)))
    · have hct := es_fs_p (p := es_ct L N t) (N - c) c (by omega)
      have hr : rm (es_fs (es_ct L N t) (N - c) c) = false := es_ct_rm h3 hct
      refine es_x_take52 h1 h3 hg (by omega) a1 hlt hr (hYstart ?_)
      intro mn wh of_ du hI
      obtain ⟨i1, i2, i3, i4⟩ := hI
      have key := es_y_tk124 (g_flushed := g_flushed) (g_calls := g_calls) (g_drafted := g_drafted) (g_top := g_top) (g_time := f_time) (b_isCut := b_isCut) (b_removed := b_removed) (b_stream := b_stream) (b_type := b_type) (b_from := b_from) (b_by := b_by) (b_value := b_value) (b_version := b_version) (b_on := b_on) (b_call := b_call) (b_draftType := b_draftType) (b_draftValue := b_draftValue) (b_op := b_op) (b_with := b_with) (b_length := b_length) (b_height := b_height) (b_torn := b_torn) (b_stack := b_stack) (b_position := b_position) (b_cells := b_cells) (b_noted := b_noted) (b_wanted := b_wanted) (b_formed := b_formed) (b_parked := b_parked) (b_where := wh) (b_often := of_) (b_due := du) (b_many := mn) (b_found := b_found) (cur0 := b_cursor) h2' h3 hg t1 t3 (post := fun r' v' => r' = nI (es_fs (es_ct L N t) (N - c) c) ∧ i_Rel (k + 4) (f_held, f_records, f_flushed, f_summed, f_draft, f_drafted, f_seen, f_time, 0, a_at, a_version, a_value, a_originAt, a_stream, a_type, a_originBy, a_originCode, a_goesOn, a_events, a_cuts, a_firm, a_cutsGone, a_byVersion, a_byOrigin, a_upTo, a_draftType, a_draftValue, a_dOp, a_dC, a_height, a_clash, a_pOp, a_pSize, a_pC, a_position, a_cell, a_noted, a_stack, a_before, a_shown, a_gType, upd a_gTaken g (nI (nt + 1)), upd a_gWaiting g (nI (nw - nw)), a_kCount, upd a_gCursor g (nI (es_fs (es_ct L N t) (N - c) c + 1)), a_gParked, a_kCursor, upd a_tAt (6 * g + nt) (nI (es_fs (es_ct L N t) (N - c) c)), upd a_tDue (6 * g + nt) (f_time + 10), es_mv a_wAt (6 * g + nw) (6 * g) (nw - nw), a_kAt, upd a_tTimes (6 * g + nt) (0 + 1), es_mv a_wTimes (6 * g + nw) (6 * g) (nw - nw), a_kTimes) v') (N - c) c (by omega) b_cursor b2 (fun _ _ => rfl) (fun _ cur u1 u2 => ?_) (fun z => absurd z (by omega))
      · unfold wY_take_79
        rw [e2g, nI_clamp (show 2 + g < 2 ^ 31 by omega), i1]
        exact ⟨vp_in_nI (by omega) (by decide), br_t (by rw [heq, Nat.sub_self]; exact nI_le (a := 0) (b := 0) (by omega) (by decide)) ⟨_, key⟩⟩
      · refine es_y_lend hg (by omega) ((i2 g (by omega)).trans a2) ⟨rfl, es_mk h1 h2' h3 (by omega) h5 h6 h7 ?_ h9 rfl⟩
        refine es_GRs_take (t := t) (nt := nt + 1) (nw := 0) (c0 := c) (c := es_fs (es_ct L N t) (N - c) c + 1) hN hFN hg t2 t1 b1 b3 (by omega) (by omega) h8 _ _ _ _ _ _ _ _ _ _ _ _ _ (by omega) pk_us (by rw [pk_us, Nat.sub_self]) pk_us pk_us ((pk_un (by omega)).trans (by rw [i1, heq, Nat.sub_self])) u1 (fun r hr => ⟨pk_un hr, pk_un hr, pk_un hr⟩) (fun r hr hr' => (pk_un hr).trans (i2 r hr')) u2 (fun i hi => ⟨pk_un (by omega), pk_un (by omega), es_mv_o (by omega), pk_un (by omega), es_mv_o (by omega)⟩) (fun i hi hi' => ⟨(pk_un (by omega)).trans (i4 i hi').1, (pk_un (by omega)).trans (i4 i hi').2.1, (pk_un (by omega)).trans (i4 i hi').2.2⟩) (fun j hj => ?_) (fun j hj => absurd hj (Nat.not_lt_zero _))
        by_cases z : j = nt
        · rw [z, pk_us, pk_us, pk_us, pk_us, pk_us, pk_us]
          exact ⟨rfl, rfl, rfl, hpx ⟨_, hlt, rfl, Or.inl (by omega)⟩⟩
        · rw [pk_un (by omega), pk_un (by omega), pk_un (by omega), pk_un (by omega), pk_un (by omega), pk_un (by omega)]
          exact Wi ⟨i1, i2, i3, i4⟩ j (by omega)
    · refine hYstart ?_
      intro mn wh of_ du hI
      obtain ⟨i1, i2, i3, i4⟩ := hI
      have key := es_y_tk124 (g_flushed := g_flushed) (g_calls := g_calls) (g_drafted := g_drafted) (g_top := g_top) (g_time := f_time) (b_isCut := b_isCut) (b_removed := b_removed) (b_stream := b_stream) (b_type := b_type) (b_from := b_from) (b_by := b_by) (b_value := b_value) (b_version := b_version) (b_on := b_on) (b_call := b_call) (b_draftType := b_draftType) (b_draftValue := b_draftValue) (b_op := b_op) (b_with := b_with) (b_length := b_length) (b_height := b_height) (b_torn := b_torn) (b_stack := b_stack) (b_position := b_position) (b_cells := b_cells) (b_noted := b_noted) (b_wanted := b_wanted) (b_formed := b_formed) (b_parked := b_parked) (b_where := wh) (b_often := of_) (b_due := du) (b_many := mn) (b_found := b_found) (cur0 := b_cursor) h2' h3 hg t1 t3 (post := fun r' v' => r' = -4 ∧ i_Rel (k + 4) (f_held, f_records, f_flushed, f_summed, f_draft, f_drafted, f_seen, f_time, 0, a_at, a_version, a_value, a_originAt, a_stream, a_type, a_originBy, a_originCode, a_goesOn, a_events, a_cuts, a_firm, a_cutsGone, a_byVersion, a_byOrigin, a_upTo, a_draftType, a_draftValue, a_dOp, a_dC, a_height, a_clash, a_pOp, a_pSize, a_pC, a_position, a_cell, a_noted, a_stack, a_before, a_shown, a_gType, a_gTaken, upd a_gWaiting g (nI (nw - nw)), a_kCount, upd a_gCursor g (nI N), a_gParked, a_kCursor, a_tAt, a_tDue, es_mv a_wAt (6 * g + nw) (6 * g) (nw - nw), a_kAt, a_tTimes, es_mv a_wTimes (6 * g + nw) (6 * g) (nw - nw), a_kTimes) v') (N - c) c (by omega) b_cursor b2 (fun _ _ => rfl) (fun z => absurd z (by omega)) (fun _ cur u1 u2 => ?_)
      · unfold wY_take_79
        rw [e2g, nI_clamp (show 2 + g < 2 ^ 31 by omega), i1]
        exact ⟨vp_in_nI (by omega) (by decide), br_t (by rw [heq, Nat.sub_self]; exact nI_le (a := 0) (b := 0) (by omega) (by decide)) ⟨_, key⟩⟩
      · refine ⟨rfl, es_mk h1 h2' h3 (by omega) h5 h6 h7 ?_ h9 rfl⟩
        refine es_GRs_take (t := t) (nt := nt) (nw := 0) (c0 := c) (c := N) hN hFN hg t2 t1 b1 b3 b3 (Nat.le_refl _) h8 _ _ _ _ _ _ _ _ _ _ _ _ _ (by omega) a1 (by rw [pk_us, Nat.sub_self]) pk_us ((i2 g (by omega)).trans a2) (by rw [i1, heq, Nat.sub_self]) u1 (fun r hr => ⟨rfl, pk_un hr, pk_un hr⟩) (fun r hr hr' => i2 r hr') u2 (fun i hi => ⟨rfl, rfl, es_mv_o (by omega), rfl, es_mv_o (by omega)⟩) (fun i hi hi' => i4 i hi') (fun j hj => Wi ⟨i1, i2, i3, i4⟩ j hj) (fun j hj => absurd hj (Nat.not_lt_zero _))
end ES46b
end
section
/-! the constructors -/
section ES47
theorem i_vc0 : wpX_init (fun u => wpY_init (fun v => i_Rel 0 u v)) := by
  refine nm_e (nm_e ?_)
  rw [es_nbm]
  refine es_mk (f_taken := 0) (a_height := fun _ => 0) (a_clash := fun _ => 0) (a_stack := fun _ => 0) (a_before := fun _ => 0) (g_top := 0) (b_height := fun _ => 0) (b_torn := fun _ => 0) (b_stack := fun _ => 0) (N := 0) (F := 0) (C := 0) (L := fun _ => (false, 0, 0, 0, 0, none, 0)) (rm := fun _ => false) ⟨rfl, rfl, rfl, fun i h => absurd h (Nat.not_lt_zero _), fun s _ => ⟨rfl, rfl, rfl, rfl⟩, fun i _ h => absurd h (Nat.not_lt_zero _), es_HS_0 (fun _ _ => rfl), es_HS_0 (fun _ _ => rfl), Or.inl rfl⟩ ⟨rfl, rfl, rfl, fun i h => absurd h (Nat.not_lt_zero _)⟩
    ⟨by omega, Nat.le_refl _, Nat.zero_le _, (fun i h => nomatch h), fun i h => absurd h (Nat.not_lt_zero _)⟩ (Nat.le_refl _) ⟨0, by omega, rfl, rfl, rfl, rfl, fun i h => absurd h (Nat.not_lt_zero _)⟩
    ⟨⟨0, by omega, rfl, rfl⟩, fun i _ => ⟨rfl, rfl, 0, by omega, rfl⟩, fun j _ => ⟨rfl, rfl⟩, fun p _ => ⟨0, by omega, rfl, rfl, fun _ => 0, rfl, fun i h => absurd h (Nat.not_lt_zero _)⟩⟩ (fun p _ hz => absurd rfl hz) (fun g hg => ?_) (Or.inl ⟨es_neg1, fun _ _ => rfl⟩) rfl
  refine ⟨0, 0, 0, 0, 0, ⟨rfl, rfl, rfl, rfl, rfl, rfl, by omega, by omega⟩, ⟨rfl, rfl, Nat.le_refl _, rfl, rfl, Nat.le_refl _, Nat.le_refl _⟩, rfl, Or.inl ⟨?_, rfl, rfl, rfl, rfl⟩, fun j h => absurd h (Nat.not_lt_zero _), fun j h => absurd h (Nat.not_lt_zero _), fun j h => absurd h (Nat.not_lt_zero _), fun j h => absurd h (Nat.not_lt_zero _)⟩
  match g, hg with
  | 0, _ => rfl
  | 1, _ => rfl
end ES47
end
section
/-! the check of a program: its parts -/
section ES48
def es_gI (o : Nat) : Int32 := if o ≤ 3 ∨ o = 8 then 1 else if o = 11 ∨ o = 13 then 0 else -1
theorem es_14 {o : Nat} (h : o < 14) : o = 0 ∨ o = 1 ∨ o = 2 ∨ o = 3 ∨ o = 4 ∨ o = 5 ∨ o = 6 ∨ o = 7 ∨ o = 8 ∨ o = 9 ∨ o = 10 ∨ o = 11 ∨ o = 12 ∨ o = 13 := by omega
theorem es_x_takes {o : Nat} (h : o < 14) {post : Int32 → Prop} (hp : post (nI (es_tk o))) : wpX_takes post (nI o) := by
  rcases es_14 h with rfl | rfl | rfl | rfl | rfl | rfl | rfl | rfl | rfl | rfl | rfl | rfl | rfl | rfl
  all_goals
    unfold wpX_takes wX_takes_15
    repeat (first | exact hp | refine br_t (by decide) ?_ | refine br_f (by decide) ?_)
theorem es_x_growth {o : Nat} (h : o < 14) {post : Int32 → Prop} (hp : post (es_gI o)) : wpX_growth post (nI o) := by
  rcases es_14 h with rfl | rfl | rfl | rfl | rfl | rfl | rfl | rfl | rfl | rfl | rfl | rfl | rfl | rfl
  all_goals
    unfold wpX_growth
    repeat (first | exact hp | refine br_t (by decide) ?_ | refine br_f (by decide) ?_)
theorem es_y_takes {o : Nat} (h : o < 14) {post : Int32 → Prop} (hp : post (nI (es_tk o))) : wpY_takes post (nI o) := by
  rcases es_14 h with rfl | rfl | rfl | rfl | rfl | rfl | rfl | rfl | rfl | rfl | rfl | rfl | rfl | rfl
  all_goals
    unfold wpY_takes wY_takes_15 wY_takes_27
    repeat (first | exact hp | refine br_t (by decide) ?_ | refine br_f (by decide) ?_)
theorem es_y_gives {o : Nat} (h : o < 14) {post : Int32 → Prop} (hp : post (nI (es_gv o))) : wpY_gives post (nI o) := by
  rcases es_14 h with rfl | rfl | rfl | rfl | rfl | rfl | rfl | rfl | rfl | rfl | rfl | rfl | rfl | rfl
  all_goals
    unfold wpY_gives
    repeat (first | exact hp | refine br_t (by decide) ?_ | refine br_f (by decide) ?_)
theorem es_af_n : ∀ o, o < 14 → ∀ h, h < 5 → es_tk o ≤ h → nI h + es_gI o = nI (es_af o h) ∧ nI h - nI (es_tk o) + nI (es_gv o) = nI (es_af o h) := by decide +kernel
theorem es_tk2 (o : Nat) : es_tk o ≤ 2 := by
  unfold es_tk
  by_cases c : o = 4 ∨ o = 5 ∨ o = 6 ∨ o = 7
  · rw [if_pos c]; omega
  · rw [if_neg c]
    by_cases c2 : o = 8 ∨ o = 9 ∨ o = 10 ∨ o = 12
    · rw [if_pos c2]; omega
    · rw [if_neg c2]; omega
theorem es_af6 {o h : Nat} (hh : h ≤ 4) : es_af o h ≤ 6 := by
  unfold es_af es_gv
  by_cases c : o < 8
  · rw [if_pos c]; omega
  · rw [if_neg c]
    by_cases c2 : o = 8
    · rw [if_pos c2]; omega
    · rw [if_neg c2]; omega
def es_mX (hX cl : Nat → Int32) (c : Nat) (b : Int32) : (Nat → Int32) × (Nat → Int32) := (upd hX c b, if hX c < 0 ∨ hX c = b then cl else upd cl c 1)
def es_mY (hY to : Nat → Int32) (c : Nat) (b : Int32) : (Nat → Int32) × (Nat → Int32) := if hY c < 0 then (upd hY c b, to) else if hY c = b then (hY, to) else (hY, upd to c 1)
/-- where the two sides' heights stand to each other -/
def es_CR (hX cl hY to : Nat → Int32) (j : Nat) : Prop :=
  cl j = to j ∧ (to j = 0 ∨ to j = 1) ∧ (hX j = -1 ∨ ∃ h, h ≤ 4 ∧ hX j = nI h) ∧ (hY j = -1 ∨ ∃ h, h ≤ 4 ∧ hY j = nI h) ∧ (hX j = -1 ↔ hY j = -1) ∧ (to j = 0 → hX j = hY j) ∧ (to j ≠ 0 → hY j ≠ -1)
theorem es_CR_m {hX cl hY to : Nat → Int32} {c b : Nat} (hb : b ≤ 4) (h : ∀ j, j < 15 → es_CR hX cl hY to j) : ∀ j, j < 15 → es_CR (es_mX hX cl c (nI b)).1 (es_mX hX cl c (nI b)).2 (es_mY hY to c (nI b)).1 (es_mY hY to c (nI b)).2 j := fun j hj => by
  have hj' := h j hj
  by_cases e : j = c
  · subst e
    obtain ⟨r1, r2, r3, r4, r5, r6, r7⟩ := hj'
    have nb : ¬ nI b = -1 := es_nm (by omega)
    have bb : nI b = -1 ∨ ∃ h, h ≤ 4 ∧ nI b = nI h := Or.inr ⟨b, hb, rfl⟩
    unfold es_mX es_mY
    rcases r4 with r4 | ⟨q, hq, r4⟩
    · have x1 := r5.mpr r4
      have t0 : to j = 0 := by
        rcases r2 with r2 | r2
        · exact r2
        · exact absurd r4 (r7 (by rw [r2]; decide))
      rw [if_pos (Or.inl (by rw [x1]; exact es_neg1)), if_pos (by rw [r4]; exact es_neg1)]
      show es_CR (upd hX j (nI b)) cl (upd hY j (nI b)) to j
      unfold es_CR
      rw [pk_us, pk_us]
      exact ⟨r1, r2, bb, bb, Iff.rfl, fun _ => rfl, fun z => absurd t0 z⟩
    · have y1 : ¬ hY j = -1 := by rw [r4]; exact es_nm (by omega)
      have x1 : ¬ hX j = -1 := fun z => y1 (r5.mp z)
      rcases r3 with r3 | ⟨q', hq', r3⟩
      · exact absurd r3 x1
      have px : ¬ hX j < 0 := by rw [r3]; exact nI_pos (by omega)
      have py : ¬ hY j < 0 := by rw [r4]; exact nI_pos (by omega)
      rw [if_neg py]
      by_cases t0 : to j = 0
      · have exy := r6 t0
        by_cases eb : hY j = nI b
        · rw [if_pos (Or.inr (exy.trans eb)), if_pos eb]
          show es_CR (upd hX j (nI b)) cl hY to j
          unfold es_CR
          rw [pk_us]
          exact ⟨r1, r2, bb, Or.inr ⟨q, hq, r4⟩, ⟨fun z => absurd z nb, fun z => absurd z y1⟩, fun _ => eb.symm, r7⟩
        · rw [if_neg (fun z => z.elim px (fun z => eb (exy.symm.trans z))), if_neg eb]
          show es_CR (upd hX j (nI b)) (upd cl j 1) hY (upd to j 1) j
          unfold es_CR
          rw [pk_us, pk_us, pk_us]
          exact ⟨rfl, Or.inr rfl, bb, Or.inr ⟨q, hq, r4⟩, ⟨fun z => absurd z nb, fun z => absurd z y1⟩, fun z => absurd z es_10, fun _ => y1⟩
      · have t1 : to j = 1 := r2.resolve_left t0
        have e1 : (if hX j < 0 ∨ hX j = nI b then cl else upd cl j 1) j = 1 := by
          by_cases z : hX j < 0 ∨ hX j = nI b
          · rw [if_pos z, r1]; exact t1
          · rw [if_neg z, pk_us]
        have e2 : (if hY j = nI b then (hY, to) else (hY, upd to j 1)).2 j = 1 := by
          by_cases z : hY j = nI b
          · rw [if_pos z]; exact t1
          · rw [if_neg z]; exact pk_us
        have e3 : (if hY j = nI b then (hY, to) else (hY, upd to j 1)).1 = hY := by
          by_cases z : hY j = nI b
          · rw [if_pos z]
          · rw [if_neg z]
        unfold es_CR
        dsimp only
        rw [e1, e2, e3, pk_us]
        exact ⟨rfl, Or.inr rfl, bb, Or.inr ⟨q, hq, r4⟩, ⟨fun z => absurd z nb, fun z => absurd z y1⟩, fun z => absurd z es_10, fun _ => y1⟩
  · have a1 : (es_mX hX cl c (nI b)).1 j = hX j := pk_un e
    have a2 : (es_mX hX cl c (nI b)).2 j = cl j := by
      unfold es_mX
      by_cases z : hX c < 0 ∨ hX c = nI b
      · rw [if_pos z]
      · rw [if_neg z]; exact pk_un e
    have a3 : (es_mY hY to c (nI b)).1 j = hY j := by
      unfold es_mY
      by_cases z : hY c < 0
      · rw [if_pos z]; exact pk_un e
      · rw [if_neg z]
        by_cases z2 : hY c = nI b
        · rw [if_pos z2]
        · rw [if_neg z2]
    have a4 : (es_mY hY to c (nI b)).2 j = to j := by
      unfold es_mY
      by_cases z : hY c < 0
      · rw [if_pos z]
      · rw [if_neg z]
        by_cases z2 : hY c = nI b
        · rw [if_pos z2]
        · rw [if_neg z2]; exact pk_un e
    unfold es_CR
    rw [a1, a2, a3, a4]
    exact hj'
/-- a target that was met with x -/
def es_MT (hY to : Nat → Int32) (j : Nat) (x : Int32) : Prop := hY j ≠ -1 ∧ (to j = 0 → hY j = x)
theorem es_MT_k {hY to : Nat → Int32} {c b j : Nat} {x : Int32} (hb : b ≤ 4) (hn : hY c = -1 ∨ ¬ hY c < 0) (h : es_MT hY to j x) : es_MT (es_mY hY to c (nI b)).1 (es_mY hY to c (nI b)).2 j x := by
  unfold es_mY
  by_cases z : hY c < 0
  · rw [if_pos z]
    have zc : hY c = -1 := hn.resolve_right (fun w => w z)
    have e : j ≠ c := fun e => h.1 (by rw [e]; exact zc)
    show upd hY c (nI b) j ≠ -1 ∧ (to j = 0 → upd hY c (nI b) j = x)
    rw [pk_un e]
    exact h
  · rw [if_neg z]
    by_cases z2 : hY c = nI b
    · rw [if_pos z2]; exact h
    · rw [if_neg z2]
      refine ⟨h.1, fun w => h.2 ?_⟩
      by_cases e : j = c
      · have w' : upd to c 1 j = 0 := w
        rw [e, pk_us] at w'
        exact absurd w' es_10
      · have w' : upd to c 1 j = 0 := w
        rw [pk_un e] at w'
        exact w'
theorem es_MT_n {hY to : Nat → Int32} {c b : Nat} (hb : b ≤ 4) (hn : hY c = -1 ∨ ¬ hY c < 0) : es_MT (es_mY hY to c (nI b)).1 (es_mY hY to c (nI b)).2 c (nI b) := by
  unfold es_mY
  by_cases z : hY c < 0
  · rw [if_pos z]
    show upd hY c (nI b) c ≠ -1 ∧ (to c = 0 → upd hY c (nI b) c = nI b)
    rw [pk_us]
    exact ⟨es_nm (by omega), fun _ => rfl⟩
  · rw [if_neg z]
    have h1 : hY c ≠ -1 := fun e => z (by rw [e]; exact es_neg1)
    by_cases z2 : hY c = nI b
    · rw [if_pos z2]; exact ⟨h1, fun _ => z2⟩
    · rw [if_neg z2]
      refine ⟨h1, fun w => ?_⟩
      have w' : upd to c 1 c = 0 := w
      rw [pk_us] at w'
      exact absurd w' es_10
theorem es_mY_o {hY to : Nat → Int32} {c j : Nat} {b : Int32} (e : j ≠ c) : (es_mY hY to c b).1 j = hY j ∧ (es_mY hY to c b).2 j = to j := by
  unfold es_mY
  by_cases z : hY c < 0
  · rw [if_pos z]; exact ⟨pk_un e, rfl⟩
  · rw [if_neg z]
    by_cases z2 : hY c = b
    · rw [if_pos z2]; exact ⟨rfl, rfl⟩
    · rw [if_neg z2]; exact ⟨rfl, pk_un e⟩
section X
variable {f_held f_records f_flushed f_summed f_draft f_drafted f_seen f_time f_taken : Int32} {a_at a_version a_value a_originAt a_stream a_type a_originBy a_originCode a_goesOn a_events a_cuts a_firm a_cutsGone a_byVersion a_byOrigin a_draftType a_draftValue a_dOp a_dC a_height a_clash a_pOp a_pSize a_pC a_position a_cell a_noted a_stack a_before a_shown a_gType a_gTaken a_gWaiting a_kCount a_gCursor a_gParked a_kCursor a_tAt a_tDue a_wAt a_kAt a_tTimes a_wTimes a_kTimes : Nat → Int32} {a_upTo : Nat → Int64}
theorem es_x_meet {c b : Nat} (hc : c < 15) (hb : b < 128) {post : SX → Prop} (hp : post (f_held, f_records, f_flushed, f_summed, f_draft, f_drafted, f_seen, f_time, f_taken, a_at, a_version, a_value, a_originAt, a_stream, a_type, a_originBy, a_originCode, a_goesOn, a_events, a_cuts, a_firm, a_cutsGone, a_byVersion, a_byOrigin, a_upTo, a_draftType, a_draftValue, a_dOp, a_dC, (es_mX a_height a_clash c (nI b)).1, (es_mX a_height a_clash c (nI b)).2, a_pOp, a_pSize, a_pC, a_position, a_cell, a_noted, a_stack, a_before, a_shown, a_gType, a_gTaken, a_gWaiting, a_kCount, a_gCursor, a_gParked, a_kCursor, a_tAt, a_tDue, a_wAt, a_kAt, a_tTimes, a_wTimes, a_kTimes)) : wpX_meet post (f_held, f_records, f_flushed, f_summed, f_draft, f_drafted, f_seen, f_time, f_taken, a_at, a_version, a_value, a_originAt, a_stream, a_type, a_originBy, a_originCode, a_goesOn, a_events, a_cuts, a_firm, a_cutsGone, a_byVersion, a_byOrigin, a_upTo, a_draftType, a_draftValue, a_dOp, a_dC, a_height, a_clash, a_pOp, a_pSize, a_pC, a_position, a_cell, a_noted, a_stack, a_before, a_shown, a_gType, a_gTaken, a_gWaiting, a_kCount, a_gCursor, a_gParked, a_kCursor, a_tAt, a_tDue, a_wAt, a_kAt, a_tTimes, a_wTimes, a_kTimes) (nI c) (nI b) := by
  have hv : vp_in (nI c) 15 := vp_in_nI hc (by decide)
  unfold es_mX at hp
  dsimp only at hp
  unfold wpX_meet
  dsimp only
  rw [nI_clamp (show c < 2 ^ 31 by omega), es_b8 hb, es_z1]
  by_cases z : a_height c < 0
  · rw [if_pos (Or.inl z)] at hp
    exact ⟨hv, br_t z ⟨hv, nm_e hp⟩⟩
  · by_cases z2 : a_height c = nI b
    · rw [if_pos (Or.inr z2)] at hp
      exact ⟨hv, br_f z ⟨hv, br_t z2 ⟨hv, nm_e hp⟩⟩⟩
    · rw [if_neg (fun w => w.elim z z2)] at hp
      exact ⟨hv, br_f z ⟨hv, br_f z2 ⟨hv, nm_e ⟨hv, nm_e hp⟩⟩⟩⟩
theorem es_x_fits {o i n : Nat} (ho : o < 14) (hi : i < 14) (hn : n ≤ 14) (eo : a_dOp i = nI o) {post : Int32 → Prop} (h1 : es_ft o i n (a_dC i) → post 1) (h0 : ¬ es_ft o i n (a_dC i) → post 0) : wpX_fits post (f_held, f_records, f_flushed, f_summed, f_draft, f_drafted, f_seen, f_time, f_taken, a_at, a_version, a_value, a_originAt, a_stream, a_type, a_originBy, a_originCode, a_goesOn, a_events, a_cuts, a_firm, a_cutsGone, a_byVersion, a_byOrigin, a_upTo, a_draftType, a_draftValue, a_dOp, a_dC, a_height, a_clash, a_pOp, a_pSize, a_pC, a_position, a_cell, a_noted, a_stack, a_before, a_shown, a_gType, a_gTaken, a_gWaiting, a_kCount, a_gCursor, a_gParked, a_kCursor, a_tAt, a_tDue, a_wAt, a_kAt, a_tTimes, a_wTimes, a_kTimes) (nI i) (nI n) := by
  have hv : vp_in (nI i) 14 := vp_in_nI hi (by decide)
  have nb0 : narrow .boolean (.int 0) = .int 0 := by decide
  have nb1 : narrow .boolean (.int 1) = .int 1 := by decide
  unfold wpX_fits
  dsimp only
  rw [nI_clamp (show i < 2 ^ 31 by omega), eo]
  have m2 : o = 3 ∨ o = 9 → wX_fits_26 post (a_dC i) f_held f_records f_flushed f_summed f_draft f_drafted f_seen f_time f_taken a_at a_version a_value a_originAt a_stream a_type a_originBy a_originCode a_goesOn a_events a_cuts a_firm a_cutsGone a_byVersion a_byOrigin a_upTo a_draftType a_draftValue a_dOp a_dC a_height a_clash a_pOp a_pSize a_pC a_position a_cell a_noted a_stack a_before a_shown a_gType a_gTaken a_gWaiting a_kCount a_gCursor a_gParked a_kCursor a_tAt a_tDue a_wAt a_kAt a_tTimes a_wTimes a_kTimes := fun hoo => by
    unfold wX_fits_26
    rcases pk_ix (a_dC i) (n := 2) (by decide) with c | c | ⟨q, hq, e⟩
    · refine es_am0 (n := 2) (Or.inl c) ⟨nb0, h0 (fun z => ?_)⟩
      obtain ⟨q, hq, e⟩ := z.1 hoo
      rw [e] at c
      exact nI_pos (by omega) c
    · refine es_am0 (n := 2) (Or.inr c) ⟨nb0, h0 (fun z => ?_)⟩
      obtain ⟨q, hq, e⟩ := z.1 hoo
      rw [e] at c
      exact nI_ge hq (by decide) c
    · rw [e]
      refine es_am1 (n := 2) hq (by decide) ⟨nb1, h1 ⟨fun _ => ⟨q, hq, e⟩, fun z => absurd hoo (by omega), fun z => absurd hoo (by omega)⟩⟩
  have m45 : o = 10 ∨ o = 11 → wX_fits_45 post (nI i) (nI n) (a_dC i) f_held f_records f_flushed f_summed f_draft f_drafted f_seen f_time f_taken a_at a_version a_value a_originAt a_stream a_type a_originBy a_originCode a_goesOn a_events a_cuts a_firm a_cutsGone a_byVersion a_byOrigin a_upTo a_draftType a_draftValue a_dOp a_dC a_height a_clash a_pOp a_pSize a_pC a_position a_cell a_noted a_stack a_before a_shown a_gType a_gTaken a_gWaiting a_kCount a_gCursor a_gParked a_kCursor a_tAt a_tDue a_wAt a_kAt a_tTimes a_wTimes a_kTimes := fun hoo => by
    unfold wX_fits_45
    by_cases c : a_dC i ≤ nI i
    · refine br_t c (h0 (fun z => ?_))
      obtain ⟨q, hq, hq2, e⟩ := z.2.2 hoo
      rw [e] at c
      exact nI_ge hq (by omega) c
    · refine br_f c ?_
      by_cases c2 : nI n < a_dC i
      · refine br_t c2 (h0 (fun z => ?_))
        obtain ⟨q, hq, hq2, e⟩ := z.2.2 hoo
        rw [e] at c2
        exact nI_nlt hq2 (by omega) c2
      · refine br_f c2 (h1 ⟨fun z => absurd hoo (by omega), fun z => absurd hoo (by omega), fun _ => ?_⟩)
        obtain ⟨q, hq, e⟩ := nI_of (x := a_dC i) (fun z => c (Int32.le_of_lt (Int32.lt_of_lt_of_le z (nI_pos' (by omega)))))
        rw [e] at c c2
        refine ⟨q, ?_, ?_, e⟩
        · apply Nat.lt_of_not_le
          intro z
          exact c (nI_le z (by omega))
        · apply Nat.le_of_not_lt
          intro z
          exact c2 (nI_lt z hq)
  refine ⟨hv, nm_e ⟨hv, nm_e (pk_eq o 3 (fun z => m2 (Or.inl z)) (fun z3 => pk_eq o 9 (fun z => m2 (Or.inr z)) (fun z9 => pk_eq o 10 (fun z => m45 (Or.inl z)) (fun z10 => pk_eq o 11 (fun z => m45 (Or.inr z)) (fun z11 => pk_eq o 12 (fun z => ?_) (fun z12 => h1 ⟨fun z => by omega, fun z => absurd z z12, fun z => by omega⟩))))))⟩⟩
  rcases pk_ix (a_dC i) (n := 40) (by decide) with c | c | ⟨q, hq, e⟩
  · refine es_am0 (n := 40) (Or.inl c) (br_t rfl (h0 (fun w => ?_)))
    obtain ⟨q, hq, e⟩ := w.2.1 z
    rw [e] at c
    exact nI_pos (by omega) c
  · refine es_am0 (n := 40) (Or.inr c) (br_t rfl (h0 (fun w => ?_)))
    obtain ⟨q, hq, e⟩ := w.2.1 z
    rw [e] at c
    exact nI_ge hq (by decide) c
  · rw [e]
    exact es_am1 (n := 40) hq (by decide) (br_f es_10 (h1 ⟨fun w => by omega, fun _ => ⟨q, hq, e⟩, fun w => by omega⟩))
end X
section Y
variable {g_count g_flushed g_calls g_drafted g_top g_time : Int32} {b_isCut b_removed b_stream b_type b_from b_by b_value b_version b_on b_call b_draftType b_draftValue b_op b_with b_length b_height b_torn b_stack b_position b_cells b_noted b_wanted b_formed b_cursor b_parked b_where b_often b_due b_many b_found : Nat → Int32}
theorem es_y_meet {c b : Nat} (hc : c < 16) (hb : b < 128) {post : SY → Prop} (hp : post (g_count, g_flushed, g_calls, g_drafted, g_top, g_time, b_isCut, b_removed, b_stream, b_type, b_from, b_by, b_value, b_version, b_on, b_call, b_draftType, b_draftValue, b_op, b_with, b_length, (es_mY b_height b_torn c (nI b)).1, (es_mY b_height b_torn c (nI b)).2, b_stack, b_position, b_cells, b_noted, b_wanted, b_formed, b_cursor, b_parked, b_where, b_often, b_due, b_many, b_found)) : wpY_meet post (g_count, g_flushed, g_calls, g_drafted, g_top, g_time, b_isCut, b_removed, b_stream, b_type, b_from, b_by, b_value, b_version, b_on, b_call, b_draftType, b_draftValue, b_op, b_with, b_length, b_height, b_torn, b_stack, b_position, b_cells, b_noted, b_wanted, b_formed, b_cursor, b_parked, b_where, b_often, b_due, b_many, b_found) (nI c) (nI b) := by
  have hv : vp_in (nI c) 16 := vp_in_nI hc (by decide)
  unfold es_mY at hp
  unfold wpY_meet
  dsimp only
  rw [nI_clamp (show c < 2 ^ 31 by omega), es_b8 hb, es_z1]
  by_cases z : b_height c < 0
  · rw [if_pos z] at hp
    exact ⟨hv, br_f (Int32.not_le.mpr z) ⟨hv, nm_e hp⟩⟩
  · rw [if_neg z] at hp
    by_cases z2 : b_height c = nI b
    · rw [if_pos z2] at hp
      exact ⟨hv, br_t (Int32.not_lt.mp z) ⟨hv, br_t z2 hp⟩⟩
    · rw [if_neg z2] at hp
      exact ⟨hv, br_t (Int32.not_lt.mp z) ⟨hv, br_f z2 ⟨hv, nm_e hp⟩⟩⟩
end Y
end ES48
end
section
/-! the check: both loops in lockstep -/
section ES49
def es_sX (hX cl : Nat → Int32) (o i c : Nat) (b : Int32) : (Nat → Int32) × (Nat → Int32) := if o = 11 ∨ o = 13 then (if o = 10 ∨ o = 11 then es_mX hX cl c b else (hX, cl)) else es_mX (if o = 10 ∨ o = 11 then es_mX hX cl c b else (hX, cl)).1 (if o = 10 ∨ o = 11 then es_mX hX cl c b else (hX, cl)).2 (i + 1) b
def es_sY (hY to : Nat → Int32) (o i c : Nat) (b : Int32) : (Nat → Int32) × (Nat → Int32) := if o = 11 ∨ o = 13 then (if o = 10 ∨ o = 11 then es_mY hY to c b else (hY, to)) else es_mY (if o = 10 ∨ o = 11 then es_mY hY to c b else (hY, to)).1 (if o = 10 ∨ o = 11 then es_mY hY to c b else (hY, to)).2 (i + 1) b
def es_CD (op wi : Nat → Int32) (n i : Nat) (hY to : Nat → Int32) : Prop :=
  ∀ i', i' < i → hY i' ≠ -1 → to i' = 0 ∧ ∃ o h, o < 14 ∧ h ≤ 4 ∧ op i' = nI o ∧ hY i' = nI h ∧ es_tk o ≤ h ∧ es_af o h ≤ 4 ∧ es_ft o i' n (wi i') ∧ ∀ j, j < n → es_su o i' (wi i') j → es_MT hY to j (nI (es_af o h))
theorem es_CR_n {hX cl hY to : Nat → Int32} {j : Nat} (h : es_CR hX cl hY to j) : hY j = -1 ∨ ¬ hY j < 0 := by
  rcases h.2.2.2.1 with z | ⟨q, hq, z⟩
  · exact Or.inl z
  · exact Or.inr (by rw [z]; exact nI_pos (by omega))
theorem es_CD_m {op wi hY to : Nat → Int32} {n i c b : Nat} (hb : b ≤ 4) (hn : hY c = -1 ∨ ¬ hY c < 0) (hc : i ≤ c) (h : es_CD op wi n i hY to) : es_CD op wi n i (es_mY hY to c (nI b)).1 (es_mY hY to c (nI b)).2 := fun i' hi' hz => by
  obtain ⟨e1, e2⟩ := es_mY_o (hY := hY) (to := to) (c := c) (b := nI b) (show i' ≠ c by omega)
  rw [e1] at hz
  obtain ⟨r1, o, h', r2, r3, r4, r5, r6, r7, r8, r9⟩ := h i' hi' hz
  exact ⟨e2.trans r1, o, h', r2, r3, r4, e1.trans r5, r6, r7, r8, fun j hj hs => es_MT_k hb hn (r9 j hj hs)⟩
theorem es_s_CR {hX cl hY to : Nat → Int32} {o i c b : Nat} (hb : b ≤ 4) (h : ∀ j, j < 15 → es_CR hX cl hY to j) : ∀ j, j < 15 → es_CR (es_sX hX cl o i c (nI b)).1 (es_sX hX cl o i c (nI b)).2 (es_sY hY to o i c (nI b)).1 (es_sY hY to o i c (nI b)).2 j := by
  have h1 : ∀ j, j < 15 → es_CR (if o = 10 ∨ o = 11 then es_mX hX cl c (nI b) else (hX, cl)).1 (if o = 10 ∨ o = 11 then es_mX hX cl c (nI b) else (hX, cl)).2 (if o = 10 ∨ o = 11 then es_mY hY to c (nI b) else (hY, to)).1 (if o = 10 ∨ o = 11 then es_mY hY to c (nI b) else (hY, to)).2 j := by
    by_cases z : o = 10 ∨ o = 11
    · rw [if_pos z, if_pos z]; exact es_CR_m hb h
    · rw [if_neg z, if_neg z]; exact h
  unfold es_sX es_sY
  by_cases z : o = 11 ∨ o = 13
  · rw [if_pos z, if_pos z]; exact h1
  · rw [if_neg z, if_neg z]; exact es_CR_m hb h1
theorem es_s_CD {op wi hX cl hY to : Nat → Int32} {n i o h c : Nat} (hi : i < 14) (hCR : ∀ j, j < 15 → es_CR hX cl hY to j) (hb : es_af o h ≤ 4) (hc : o = 10 ∨ o = 11 → i < c ∧ c < 15 ∧ wi i = nI c) (q1 : o < 14) (q2 : h ≤ 4) (q3 : op i = nI o) (q4 : hY i = nI h) (q5 : es_tk o ≤ h) (q6 : es_ft o i n (wi i)) (q7 : to i = 0) (hn : n ≤ 14) (hD : es_CD op wi n i hY to) :
    es_CD op wi n (i + 1) (es_sY hY to o i c (nI (es_af o h))).1 (es_sY hY to o i c (nI (es_af o h))).2 := by
  have fin : ∀ hY' to' : Nat → Int32, es_CD op wi n i hY' to' → hY' i = nI h → to' i = 0 → (∀ j, j < n → es_su o i (wi i) j → es_MT hY' to' j (nI (es_af o h))) → es_CD op wi n (i + 1) hY' to' := fun hY' to' d1 d2 d3 d4 i' hi' hz => by
    by_cases e : i' = i
    · subst e
      exact ⟨d3, o, h, q1, q2, q3, d2, q5, hb, q6, d4⟩
    · exact d1 i' (by omega) hz
  have hst : (if o = 10 ∨ o = 11 then es_mY hY to c (nI (es_af o h)) else (hY, to)).1 i = nI h ∧ (if o = 10 ∨ o = 11 then es_mY hY to c (nI (es_af o h)) else (hY, to)).2 i = 0 ∧ es_CD op wi n i (if o = 10 ∨ o = 11 then es_mY hY to c (nI (es_af o h)) else (hY, to)).1 (if o = 10 ∨ o = 11 then es_mY hY to c (nI (es_af o h)) else (hY, to)).2 ∧ ((if o = 10 ∨ o = 11 then es_mY hY to c (nI (es_af o h)) else (hY, to)).1 (i + 1) = -1 ∨ ¬ (if o = 10 ∨ o = 11 then es_mY hY to c (nI (es_af o h)) else (hY, to)).1 (i + 1) < 0) ∧ (o = 10 ∨ o = 11 → es_MT (if o = 10 ∨ o = 11 then es_mY hY to c (nI (es_af o h)) else (hY, to)).1 (if o = 10 ∨ o = 11 then es_mY hY to c (nI (es_af o h)) else (hY, to)).2 c (nI (es_af o h))) := by
    by_cases z : o = 10 ∨ o = 11
    · obtain ⟨c1, c2, c3⟩ := hc z
      rw [if_pos z]
      obtain ⟨e1, e2⟩ := es_mY_o (hY := hY) (to := to) (c := c) (b := nI (es_af o h)) (show i ≠ c by omega)
      refine ⟨e1.trans q4, e2.trans q7, es_CD_m hb (es_CR_n (hCR c c2)) (by omega) hD, ?_, fun _ => es_MT_n hb (es_CR_n (hCR c c2))⟩
      exact es_CR_n (es_CR_m (c := c) hb hCR (i + 1) (by omega))
    · rw [if_neg z]
      exact ⟨q4, q7, hD, es_CR_n (hCR (i + 1) (by omega)), fun w => absurd w z⟩
  obtain ⟨s1, s2, s3, s4, s5⟩ := hst
  unfold es_sY
  by_cases z : o = 11 ∨ o = 13
  · rw [if_pos z]
    refine fin _ _ s3 s1 s2 (fun j hj hs => ?_)
    rcases hs with ⟨y1, y2⟩ | ⟨y1, y2, y3⟩
    · obtain ⟨c1, c2, c3⟩ := hc y1
      have e : j = c := es_inj (y2.symm.trans c3) (by omega) (by omega)
      rw [e]
      exact s5 y1
    · omega
  · rw [if_neg z]
    obtain ⟨e1, e2⟩ := es_mY_o (hY := (if o = 10 ∨ o = 11 then es_mY hY to c (nI (es_af o h)) else (hY, to)).1) (to := (if o = 10 ∨ o = 11 then es_mY hY to c (nI (es_af o h)) else (hY, to)).2) (c := i + 1) (b := nI (es_af o h)) (show i ≠ i + 1 by omega)
    refine fin _ _ (es_CD_m hb s4 (by omega) s3) (e1.trans s1) (e2.trans s2) (fun j hj hs => ?_)
    rcases hs with ⟨y1, y2⟩ | ⟨y1, y2, y3⟩
    · obtain ⟨c1, c2, c3⟩ := hc y1
      have e : j = c := es_inj (y2.symm.trans c3) (by omega) (by omega)
      rw [e]
      exact es_MT_k hb s4 (s5 y1)
    · rw [y3]
      exact es_MT_n hb s4
section X
variable {f_held f_records f_flushed f_summed f_draft f_drafted f_seen f_time f_taken : Int32} {a_at a_version a_value a_originAt a_stream a_type a_originBy a_originCode a_goesOn a_events a_cuts a_firm a_cutsGone a_byVersion a_byOrigin a_draftType a_draftValue a_dOp a_dC a_height a_clash a_pOp a_pSize a_pC a_position a_cell a_noted a_stack a_before a_shown a_gType a_gTaken a_gWaiting a_kCount a_gCursor a_gParked a_kCursor a_tAt a_tDue a_wAt a_kAt a_tTimes a_wTimes a_kTimes : Nat → Int32} {a_upTo : Nat → Int64}
theorem es_x_ckgo {n i o c b : Nat} (hi : i < 14) (ho : o < 14) (hb : b < 128) (hc : o = 10 ∨ o = 11 → c < 15 ∧ a_dC i = nI c) {post : Int32 → SX → Prop} {J : Int32 → (Int32) → (Int32) → (Int32) → (Int32) → (Int32) → (Int32) → (Int32) → (Int32) → (Int32) → (Nat → Int32) → (Nat → Int32) → (Nat → Int32) → (Nat → Int32) → (Nat → Int32) → (Nat → Int32) → (Nat → Int32) → (Nat → Int32) → (Nat → Int32) → (Nat → Int32) → (Nat → Int32) → (Nat → Int32) → (Nat → Int32) → (Nat → Int32) → (Nat → Int32) → (Nat → Int64) → (Nat → Int32) → (Nat → Int32) → (Nat → Int32) → (Nat → Int32) → (Nat → Int32) → (Nat → Int32) → (Nat → Int32) → (Nat → Int32) → (Nat → Int32) → (Nat → Int32) → (Nat → Int32) → (Nat → Int32) → (Nat → Int32) → (Nat → Int32) → (Nat → Int32) → (Nat → Int32) → (Nat → Int32) → (Nat → Int32) → (Nat → Int32) → (Nat → Int32) → (Nat → Int32) → (Nat → Int32) → (Nat → Int32) → (Nat → Int32) → (Nat → Int32) → (Nat → Int32) → (Nat → Int32) → (Nat → Int32) → (Nat → Int32) → Prop} (hJ : J (nI (i + 1)) f_held f_records f_flushed f_summed f_draft f_drafted f_seen f_time f_taken a_at a_version a_value a_originAt a_stream a_type a_originBy a_originCode a_goesOn a_events a_cuts a_firm a_cutsGone a_byVersion a_byOrigin a_upTo a_draftType a_draftValue a_dOp a_dC ((es_sX a_height a_clash o i c (nI b)).1) ((es_sX a_height a_clash o i c (nI b)).2) a_pOp a_pSize a_pC a_position a_cell a_noted a_stack a_before a_shown a_gType a_gTaken a_gWaiting a_kCount a_gCursor a_gParked a_kCursor a_tAt a_tDue a_wAt a_kAt a_tTimes a_wTimes a_kTimes) :
    (nI o = 10 → wX_check_123 post J (nI n) (nI i) (nI o) (nI b) f_held f_records f_flushed f_summed f_draft f_drafted f_seen f_time f_taken a_at a_version a_value a_originAt a_stream a_type a_originBy a_originCode a_goesOn a_events a_cuts a_firm a_cutsGone a_byVersion a_byOrigin a_upTo a_draftType a_draftValue a_dOp a_dC a_height a_clash a_pOp a_pSize a_pC a_position a_cell a_noted a_stack a_before a_shown a_gType a_gTaken a_gWaiting a_kCount a_gCursor a_gParked a_kCursor a_tAt a_tDue a_wAt a_kAt a_tTimes a_wTimes a_kTimes) ∧ (¬ nI o = 10 → ((nI o = 11 → wX_check_123 post J (nI n) (nI i) (nI o) (nI b) f_held f_records f_flushed f_summed f_draft f_drafted f_seen f_time f_taken a_at a_version a_value a_originAt a_stream a_type a_originBy a_originCode a_goesOn a_events a_cuts a_firm a_cutsGone a_byVersion a_byOrigin a_upTo a_draftType a_draftValue a_dOp a_dC a_height a_clash a_pOp a_pSize a_pC a_position a_cell a_noted a_stack a_before a_shown a_gType a_gTaken a_gWaiting a_kCount a_gCursor a_gParked a_kCursor a_tAt a_tDue a_wAt a_kAt a_tTimes a_wTimes a_kTimes) ∧ (¬ nI o = 11 → wX_check_135 post J (nI n) (nI i) (nI o) (nI b) f_held f_records f_flushed f_summed f_draft f_drafted f_seen f_time f_taken a_at a_version a_value a_originAt a_stream a_type a_originBy a_originCode a_goesOn a_events a_cuts a_firm a_cutsGone a_byVersion a_byOrigin a_upTo a_draftType a_draftValue a_dOp a_dC a_height a_clash a_pOp a_pSize a_pC a_position a_cell a_noted a_stack a_before a_shown a_gType a_gTaken a_gWaiting a_kCount a_gCursor a_gParked a_kCursor a_tAt a_tDue a_wAt a_kAt a_tTimes a_wTimes a_kTimes))) := by
  have e1 : nI i + 1 = nI (i + 1) := nI_1 i
  have h135 : ∀ hX cl : Nat → Int32, J (nI (i + 1)) f_held f_records f_flushed f_summed f_draft f_drafted f_seen f_time f_taken a_at a_version a_value a_originAt a_stream a_type a_originBy a_originCode a_goesOn a_events a_cuts a_firm a_cutsGone a_byVersion a_byOrigin a_upTo a_draftType a_draftValue a_dOp a_dC ((if o = 11 ∨ o = 13 then (hX, cl) else es_mX hX cl (i + 1) (nI b)).1) ((if o = 11 ∨ o = 13 then (hX, cl) else es_mX hX cl (i + 1) (nI b)).2) a_pOp a_pSize a_pC a_position a_cell a_noted a_stack a_before a_shown a_gType a_gTaken a_gWaiting a_kCount a_gCursor a_gParked a_kCursor a_tAt a_tDue a_wAt a_kAt a_tTimes a_wTimes a_kTimes → wX_check_135 post J (nI n) (nI i) (nI o) (nI b) f_held f_records f_flushed f_summed f_draft f_drafted f_seen f_time f_taken a_at a_version a_value a_originAt a_stream a_type a_originBy a_originCode a_goesOn a_events a_cuts a_firm a_cutsGone a_byVersion a_byOrigin a_upTo a_draftType a_draftValue a_dOp a_dC hX cl a_pOp a_pSize a_pC a_position a_cell a_noted a_stack a_before a_shown a_gType a_gTaken a_gWaiting a_kCount a_gCursor a_gParked a_kCursor a_tAt a_tDue a_wAt a_kAt a_tTimes a_wTimes a_kTimes := fun hX cl hj => by
    unfold wX_check_135
    rw [e1]
    refine pk_eq o 11 (fun z => ?_) (fun z => pk_eq o 13 (fun z2 => ?_) (fun z2 => ?_))
    · rw [if_pos (Or.inl z)] at hj
      exact nm_e hj
    · rw [if_pos (Or.inr z2)] at hj
      exact nm_e hj
    · rw [if_neg (fun w => w.elim z z2)] at hj
      exact es_x_meet (by omega) hb (nm_e hj)
  have h123 : (o = 10 ∨ o = 11) → wX_check_123 post J (nI n) (nI i) (nI o) (nI b) f_held f_records f_flushed f_summed f_draft f_drafted f_seen f_time f_taken a_at a_version a_value a_originAt a_stream a_type a_originBy a_originCode a_goesOn a_events a_cuts a_firm a_cutsGone a_byVersion a_byOrigin a_upTo a_draftType a_draftValue a_dOp a_dC a_height a_clash a_pOp a_pSize a_pC a_position a_cell a_noted a_stack a_before a_shown a_gType a_gTaken a_gWaiting a_kCount a_gCursor a_gParked a_kCursor a_tAt a_tDue a_wAt a_kAt a_tTimes a_wTimes a_kTimes := fun z => by
    obtain ⟨c1, c2⟩ := hc z
    unfold wX_check_123
    rw [nI_clamp (show i < 2 ^ 31 by omega), c2]
    refine ⟨vp_in_nI hi (by decide), es_x_meet c1 hb (h135 _ _ ?_)⟩
    unfold es_sX at hJ
    rw [if_pos z] at hJ
    exact hJ
  refine pk_eq o 10 (fun z => h123 (Or.inl z)) (fun z => pk_eq o 11 (fun z2 => h123 (Or.inr z2)) (fun z2 => h135 _ _ ?_))
  unfold es_sX at hJ
  rw [if_neg (c := o = 10 ∨ o = 11) (fun w => w.elim z z2)] at hJ
  exact hJ
end X
section Y
variable {g_count g_flushed g_calls g_drafted g_top g_time : Int32} {b_isCut b_removed b_stream b_type b_from b_by b_value b_version b_on b_call b_draftType b_draftValue b_op b_with b_length b_height b_torn b_stack b_position b_cells b_noted b_wanted b_formed b_cursor b_parked b_where b_often b_due b_many b_found : Nat → Int32}
theorem es_y_ckgo {n i o c b : Nat} {x4 z0 : Int32} (hi : i < 14) (ho : o < 14) (hb : b < 128) (hc : o = 10 ∨ o = 11 → c < 15 ∧ x4 = nI c) (hz : (o = 10 ∨ o = 11) ∧ z0 = 1 ∨ (¬ (o = 10 ∨ o = 11)) ∧ z0 = 0) {post : Int32 → SY → Prop} {J : Int32 → (Int32) → (Int32) → (Int32) → (Int32) → (Int32) → (Int32) → (Nat → Int32) → (Nat → Int32) → (Nat → Int32) → (Nat → Int32) → (Nat → Int32) → (Nat → Int32) → (Nat → Int32) → (Nat → Int32) → (Nat → Int32) → (Nat → Int32) → (Nat → Int32) → (Nat → Int32) → (Nat → Int32) → (Nat → Int32) → (Nat → Int32) → (Nat → Int32) → (Nat → Int32) → (Nat → Int32) → (Nat → Int32) → (Nat → Int32) → (Nat → Int32) → (Nat → Int32) → (Nat → Int32) → (Nat → Int32) → (Nat → Int32) → (Nat → Int32) → (Nat → Int32) → (Nat → Int32) → (Nat → Int32) → (Nat → Int32) → Prop} (hJ : J (nI (i + 1)) g_count g_flushed g_calls g_drafted g_top g_time b_isCut b_removed b_stream b_type b_from b_by b_value b_version b_on b_call b_draftType b_draftValue b_op b_with b_length ((es_sY b_height b_torn o i c (nI b)).1) ((es_sY b_height b_torn o i c (nI b)).2) b_stack b_position b_cells b_noted b_wanted b_formed b_cursor b_parked b_where b_often b_due b_many b_found) :
    (z0 = 0 → wY_faulty_213 post J (nI n) (nI i) (nI o) (nI b) g_count g_flushed g_calls g_drafted g_top g_time b_isCut b_removed b_stream b_type b_from b_by b_value b_version b_on b_call b_draftType b_draftValue b_op b_with b_length b_height b_torn b_stack b_position b_cells b_noted b_wanted b_formed b_cursor b_parked b_where b_often b_due b_many b_found) ∧ (¬ z0 = 0 → wpY_meet (fun u => match u with | (g_count1, g_flushed1, g_calls1, g_drafted1, g_top1, g_time1, b_isCut1, b_removed1, b_stream1, b_type1, b_from1, b_by1, b_value1, b_version1, b_on1, b_call1, b_draftType1, b_draftValue1, b_op1, b_with1, b_length1, b_height1, b_torn1, b_stack1, b_position1, b_cells1, b_noted1, b_wanted1, b_formed1, b_cursor1, b_parked1, b_where1, b_often1, b_due1, b_many1, b_found1) => wY_faulty_213 post J (nI n) (nI i) (nI o) (nI b) g_count1 g_flushed1 g_calls1 g_drafted1 g_top1 g_time1 b_isCut1 b_removed1 b_stream1 b_type1 b_from1 b_by1 b_value1 b_version1 b_on1 b_call1 b_draftType1 b_draftValue1 b_op1 b_with1 b_length1 b_height1 b_torn1 b_stack1 b_position1 b_cells1 b_noted1 b_wanted1 b_formed1 b_cursor1 b_parked1 b_where1 b_often1 b_due1 b_many1 b_found1) (g_count, g_flushed, g_calls, g_drafted, g_top, g_time, b_isCut, b_removed, b_stream, b_type, b_from, b_by, b_value, b_version, b_on, b_call, b_draftType, b_draftValue, b_op, b_with, b_length, b_height, b_torn, b_stack, b_position, b_cells, b_noted, b_wanted, b_formed, b_cursor, b_parked, b_where, b_often, b_due, b_many, b_found) x4 (nI b)) := by
  have e1 : nI i + 1 = nI (i + 1) := nI_1 i
  have h135 : ∀ hY to : Nat → Int32, J (nI (i + 1)) g_count g_flushed g_calls g_drafted g_top g_time b_isCut b_removed b_stream b_type b_from b_by b_value b_version b_on b_call b_draftType b_draftValue b_op b_with b_length ((if o = 11 ∨ o = 13 then (hY, to) else es_mY hY to (i + 1) (nI b)).1) ((if o = 11 ∨ o = 13 then (hY, to) else es_mY hY to (i + 1) (nI b)).2) b_stack b_position b_cells b_noted b_wanted b_formed b_cursor b_parked b_where b_often b_due b_many b_found → wY_faulty_213 post J (nI n) (nI i) (nI o) (nI b) g_count g_flushed g_calls g_drafted g_top g_time b_isCut b_removed b_stream b_type b_from b_by b_value b_version b_on b_call b_draftType b_draftValue b_op b_with b_length hY to b_stack b_position b_cells b_noted b_wanted b_formed b_cursor b_parked b_where b_often b_due b_many b_found := fun hY to hj => by
    unfold wY_faulty_213
    rw [e1]
    refine pk_eq o 11 (fun z => ?_) (fun z => pk_eq o 13 (fun z2 => ?_) (fun z2 => ?_))
    · rw [if_pos (Or.inl z)] at hj
      exact nm_e hj
    · rw [if_pos (Or.inr z2)] at hj
      exact nm_e hj
    · rw [if_neg (fun w => w.elim z z2)] at hj
      exact es_y_meet (by omega) hb (nm_e hj)
  rcases hz with ⟨z, rfl⟩ | ⟨z, rfl⟩
  · obtain ⟨c1, c2⟩ := hc z
    rw [c2]
    refine br_f es_10 (es_y_meet (by omega) hb (h135 _ _ ?_))
    unfold es_sY at hJ
    rw [if_pos z] at hJ
    exact hJ
  · refine br_t rfl (h135 _ _ ?_)
    unfold es_sY at hJ
    rw [if_neg z] at hJ
    exact hJ
theorem es_y_ft {n i o : Nat} {x4 z0 : Int32} (hi : i < 14) (hn : n ≤ 14) (ho : o < 14) (hz : (o = 10 ∨ o = 11) ∧ z0 = 1 ∨ (¬ (o = 10 ∨ o = 11)) ∧ z0 = 0) {post : Int32 → SY → Prop} {J : Int32 → (Int32) → (Int32) → (Int32) → (Int32) → (Int32) → (Int32) → (Nat → Int32) → (Nat → Int32) → (Nat → Int32) → (Nat → Int32) → (Nat → Int32) → (Nat → Int32) → (Nat → Int32) → (Nat → Int32) → (Nat → Int32) → (Nat → Int32) → (Nat → Int32) → (Nat → Int32) → (Nat → Int32) → (Nat → Int32) → (Nat → Int32) → (Nat → Int32) → (Nat → Int32) → (Nat → Int32) → (Nat → Int32) → (Nat → Int32) → (Nat → Int32) → (Nat → Int32) → (Nat → Int32) → (Nat → Int32) → (Nat → Int32) → (Nat → Int32) → (Nat → Int32) → (Nat → Int32) → (Nat → Int32) → (Nat → Int32) → Prop} (h1 : es_ft o i n x4 → wY_faulty_144 post J (nI n) (nI i) (nI o) x4 z0 g_count g_flushed g_calls g_drafted g_top g_time b_isCut b_removed b_stream b_type b_from b_by b_value b_version b_on b_call b_draftType b_draftValue b_op b_with b_length b_height b_torn b_stack b_position b_cells b_noted b_wanted b_formed b_cursor b_parked b_where b_often b_due b_many b_found) (h0 : ¬ es_ft o i n x4 → post (nI i) (g_count, g_flushed, g_calls, g_drafted, g_top, g_time, b_isCut, b_removed, b_stream, b_type, b_from, b_by, b_value, b_version, b_on, b_call, b_draftType, b_draftValue, b_op, b_with, b_length, b_height, b_torn, b_stack, b_position, b_cells, b_noted, b_wanted, b_formed, b_cursor, b_parked, b_where, b_often, b_due, b_many, b_found)) : wY_faulty_87 post J (nI n) (nI i) (nI o) x4 z0 g_count g_flushed g_calls g_drafted g_top g_time b_isCut b_removed b_stream b_type b_from b_by b_value b_version b_on b_call b_draftType b_draftValue b_op b_with b_length b_height b_torn b_stack b_position b_cells b_noted b_wanted b_formed b_cursor b_parked b_where b_often b_due b_many b_found := by
  have h125 : (o = 3 ∨ o = 9 → ∃ q, q < 2 ∧ x4 = nI q) → (o = 12 → ∃ q, q < 40 ∧ x4 = nI q) → wY_faulty_125 post J (nI n) (nI i) (nI o) x4 z0 g_count g_flushed g_calls g_drafted g_top g_time b_isCut b_removed b_stream b_type b_from b_by b_value b_version b_on b_call b_draftType b_draftValue b_op b_with b_length b_height b_torn b_stack b_position b_cells b_noted b_wanted b_formed b_cursor b_parked b_where b_often b_due b_many b_found := fun u1 u2 => by
    unfold wY_faulty_125
    rcases hz with ⟨z, rfl⟩ | ⟨z, rfl⟩
    · refine br_f es_10 ?_
      by_cases c : x4 ≤ nI i
      · refine br_t c (h0 (fun y => ?_))
        obtain ⟨q, hq, hq2, e⟩ := y.2.2 z
        rw [e] at c
        exact nI_ge hq (by omega) c
      · refine br_f c ?_
        obtain ⟨q, hq, e⟩ := nI_of (x := x4) (fun y => c (Int32.le_of_lt (Int32.lt_of_lt_of_le y (nI_pos' (by omega)))))
        have hiq : i < q := by
          apply Nat.lt_of_not_le
          intro y
          rw [e] at c
          exact c (nI_le y (by omega))
        by_cases c2 : q ≤ n
        · exact br_t (by rw [e]; exact nI_le c2 (by omega)) (h1 ⟨u1, u2, fun _ => ⟨q, hiq, c2, e⟩⟩)
        · refine br_f (by rw [e]; exact nI_ge (by omega) hq) (h0 (fun y => ?_))
          obtain ⟨q', hq', hq2, e'⟩ := y.2.2 z
          have := es_inj (e.symm.trans e') hq (by omega)
          omega
    · exact br_t rfl (h1 ⟨u1, u2, fun y => absurd y z⟩)
  have h109 : (o = 3 ∨ o = 9 → ∃ q, q < 2 ∧ x4 = nI q) → wY_faulty_109 post J (nI n) (nI i) (nI o) x4 z0 g_count g_flushed g_calls g_drafted g_top g_time b_isCut b_removed b_stream b_type b_from b_by b_value b_version b_on b_call b_draftType b_draftValue b_op b_with b_length b_height b_torn b_stack b_position b_cells b_noted b_wanted b_formed b_cursor b_parked b_where b_often b_due b_many b_found := fun u1 => by
    unfold wY_faulty_109
    refine pk_eq o 12 (fun z => ?_) (fun z => h125 u1 (fun y => absurd y z))
    rcases pk_ix x4 (n := 40) (by decide) with c | c | ⟨q, hq, e⟩
    · refine es_out1 (n := 40) (Or.inl c) (br_f es_10 (h0 (fun w => ?_)))
      obtain ⟨q, hq, e⟩ := w.2.1 z
      rw [e] at c
      exact nI_pos (by omega) c
    · refine es_out1 (n := 40) (Or.inr c) (br_f es_10 (h0 (fun w => ?_)))
      obtain ⟨q, hq, e⟩ := w.2.1 z
      rw [e] at c
      exact nI_ge hq (by decide) c
    · have := h125 u1 (fun _ => ⟨q, hq, e⟩)
      rw [e] at this ⊢
      exact es_out0 (n := 40) hq (by decide) (br_t rfl this)
  have h100 : (o = 3 ∨ o = 9) → wY_faulty_100 post J (nI n) (nI i) (nI o) x4 z0 g_count g_flushed g_calls g_drafted g_top g_time b_isCut b_removed b_stream b_type b_from b_by b_value b_version b_on b_call b_draftType b_draftValue b_op b_with b_length b_height b_torn b_stack b_position b_cells b_noted b_wanted b_formed b_cursor b_parked b_where b_often b_due b_many b_found := fun z => by
    unfold wY_faulty_100
    rcases pk_ix x4 (n := 2) (by decide) with c | c | ⟨q, hq, e⟩
    · refine es_out1 (n := 2) (Or.inl c) (br_f es_10 (h0 (fun w => ?_)))
      obtain ⟨q, hq, e⟩ := w.1 z
      rw [e] at c
      exact nI_pos (by omega) c
    · refine es_out1 (n := 2) (Or.inr c) (br_f es_10 (h0 (fun w => ?_)))
      obtain ⟨q, hq, e⟩ := w.1 z
      rw [e] at c
      exact nI_ge hq (by decide) c
    · have := h109 (fun _ => ⟨q, hq, e⟩)
      rw [e] at this ⊢
      exact es_out0 (n := 2) hq (by decide) (br_t rfl this)
  unfold wY_faulty_87
  exact pk_eq o 3 (fun z => h100 (Or.inl z)) (fun z => pk_eq o 9 (fun z2 => h100 (Or.inr z2)) (fun z2 => h109 (fun w => absurd w (by omega))))
end Y
end ES49
end
section
/-! the check: its loop -/
section ES50
theorem es_WT_end {op wi hX cl hY to : Nat → Int32} {n : Nat} (h0 : hY 0 = 0) (hD : es_CD op wi n n hY to) : es_WT op wi 0 n := by
  refine ⟨hY, h0, fun i hi hz => ?_⟩
  obtain ⟨r1, o, h, r2, r3, r4, r5, r6, r7, r8, r9⟩ := hD i hi hz
  refine ⟨o, h, r2, r3, by rw [Nat.zero_add]; exact r4, r5, r6, r7, by rw [Nat.zero_add]; exact r8, fun j hj hs => ?_⟩
  rw [Nat.zero_add] at hs
  have m := r9 j hj hs
  exact m.2 (hD j hj m.1).1
section X
variable {f_held f_records f_flushed f_summed f_draft f_drafted f_seen f_time f_taken : Int32} {a_at a_version a_value a_originAt a_stream a_type a_originBy a_originCode a_goesOn a_events a_cuts a_firm a_cutsGone a_byVersion a_byOrigin a_draftType a_draftValue a_dOp a_dC a_height a_clash a_pOp a_pSize a_pC a_position a_cell a_noted a_stack a_before a_shown a_gType a_gTaken a_gWaiting a_kCount a_gCursor a_gParked a_kCursor a_tAt a_tDue a_wAt a_kAt a_tTimes a_wTimes a_kTimes : Nat → Int32} {a_upTo : Nat → Int64}
theorem es_x_ck37 {n i o c m : Nat} (hn : n ≤ 14) (hi : i < n) (ho : o < 14) (eo : a_dOp i = nI o) (hc : es_ft o i n (a_dC i) → o = 10 ∨ o = 11 → c < 15 ∧ a_dC i = nI c) (hh : a_height i = -1 ∨ ∃ h, h ≤ 4 ∧ a_height i = nI h) {post : Int32 → SX → Prop}
    (k1 : ¬ es_ft o i n (a_dC i) → post (nI i) (f_held, f_records, f_flushed, f_summed, f_draft, f_drafted, f_seen, f_time, f_taken, a_at, a_version, a_value, a_originAt, a_stream, a_type, a_originBy, a_originCode, a_goesOn, a_events, a_cuts, a_firm, a_cutsGone, a_byVersion, a_byOrigin, a_upTo, a_draftType, a_draftValue, a_dOp, a_dC, a_height, a_clash, a_pOp, a_pSize, a_pC, a_position, a_cell, a_noted, a_stack, a_before, a_shown, a_gType, a_gTaken, a_gWaiting, a_kCount, a_gCursor, a_gParked, a_kCursor, a_tAt, a_tDue, a_wAt, a_kAt, a_tTimes, a_wTimes, a_kTimes)) (k2 : es_ft o i n (a_dC i) → ¬ a_clash i = 0 → post (nI i) (f_held, f_records, f_flushed, f_summed, f_draft, f_drafted, f_seen, f_time, f_taken, a_at, a_version, a_value, a_originAt, a_stream, a_type, a_originBy, a_originCode, a_goesOn, a_events, a_cuts, a_firm, a_cutsGone, a_byVersion, a_byOrigin, a_upTo, a_draftType, a_draftValue, a_dOp, a_dC, a_height, a_clash, a_pOp, a_pSize, a_pC, a_position, a_cell, a_noted, a_stack, a_before, a_shown, a_gType, a_gTaken, a_gWaiting, a_kCount, a_gCursor, a_gParked, a_kCursor, a_tAt, a_tDue, a_wAt, a_kAt, a_tTimes, a_wTimes, a_kTimes)) (k3 : es_ft o i n (a_dC i) → a_clash i = 0 → a_height i = -1 → wX_check_37 post (nI n) m (nI (i + 1)) f_held f_records f_flushed f_summed f_draft f_drafted f_seen f_time f_taken a_at a_version a_value a_originAt a_stream a_type a_originBy a_originCode a_goesOn a_events a_cuts a_firm a_cutsGone a_byVersion a_byOrigin a_upTo a_draftType a_draftValue a_dOp a_dC a_height a_clash a_pOp a_pSize a_pC a_position a_cell a_noted a_stack a_before a_shown a_gType a_gTaken a_gWaiting a_kCount a_gCursor a_gParked a_kCursor a_tAt a_tDue a_wAt a_kAt a_tTimes a_wTimes a_kTimes)
    (k4 : es_ft o i n (a_dC i) → a_clash i = 0 → ∀ h, h ≤ 4 → a_height i = nI h → h < es_tk o → post (nI i) (f_held, f_records, f_flushed, f_summed, f_draft, f_drafted, f_seen, f_time, f_taken, a_at, a_version, a_value, a_originAt, a_stream, a_type, a_originBy, a_originCode, a_goesOn, a_events, a_cuts, a_firm, a_cutsGone, a_byVersion, a_byOrigin, a_upTo, a_draftType, a_draftValue, a_dOp, a_dC, a_height, a_clash, a_pOp, a_pSize, a_pC, a_position, a_cell, a_noted, a_stack, a_before, a_shown, a_gType, a_gTaken, a_gWaiting, a_kCount, a_gCursor, a_gParked, a_kCursor, a_tAt, a_tDue, a_wAt, a_kAt, a_tTimes, a_wTimes, a_kTimes)) (k5 : es_ft o i n (a_dC i) → a_clash i = 0 → ∀ h, h ≤ 4 → a_height i = nI h → es_tk o ≤ h → 4 < es_af o h → post (nI i) (f_held, f_records, f_flushed, f_summed, f_draft, f_drafted, f_seen, f_time, f_taken, a_at, a_version, a_value, a_originAt, a_stream, a_type, a_originBy, a_originCode, a_goesOn, a_events, a_cuts, a_firm, a_cutsGone, a_byVersion, a_byOrigin, a_upTo, a_draftType, a_draftValue, a_dOp, a_dC, a_height, a_clash, a_pOp, a_pSize, a_pC, a_position, a_cell, a_noted, a_stack, a_before, a_shown, a_gType, a_gTaken, a_gWaiting, a_kCount, a_gCursor, a_gParked, a_kCursor, a_tAt, a_tDue, a_wAt, a_kAt, a_tTimes, a_wTimes, a_kTimes))
    (k6 : es_ft o i n (a_dC i) → a_clash i = 0 → ∀ h, h ≤ 4 → a_height i = nI h → es_tk o ≤ h → es_af o h ≤ 4 → wX_check_37 post (nI n) m (nI (i + 1)) f_held f_records f_flushed f_summed f_draft f_drafted f_seen f_time f_taken a_at a_version a_value a_originAt a_stream a_type a_originBy a_originCode a_goesOn a_events a_cuts a_firm a_cutsGone a_byVersion a_byOrigin a_upTo a_draftType a_draftValue a_dOp a_dC ((es_sX a_height a_clash o i c (nI (es_af o h))).1) ((es_sX a_height a_clash o i c (nI (es_af o h))).2) a_pOp a_pSize a_pC a_position a_cell a_noted a_stack a_before a_shown a_gType a_gTaken a_gWaiting a_kCount a_gCursor a_gParked a_kCursor a_tAt a_tDue a_wAt a_kAt a_tTimes a_wTimes a_kTimes) : wX_check_37 post (nI n) (m + 1) (nI i) f_held f_records f_flushed f_summed f_draft f_drafted f_seen f_time f_taken a_at a_version a_value a_originAt a_stream a_type a_originBy a_originCode a_goesOn a_events a_cuts a_firm a_cutsGone a_byVersion a_byOrigin a_upTo a_draftType a_draftValue a_dOp a_dC a_height a_clash a_pOp a_pSize a_pC a_position a_cell a_noted a_stack a_before a_shown a_gType a_gTaken a_gWaiting a_kCount a_gCursor a_gParked a_kCursor a_tAt a_tDue a_wAt a_kAt a_tTimes a_wTimes a_kTimes := by
  have hv : vp_in (nI i) 14 := vp_in_nI (by omega) (by decide)
  have hv5 : vp_in (nI i) 15 := vp_in_nI (by omega) (by decide)
  refine br_f (nI_ge hi (by omega)) ?_
  rw [nI_clamp (show i < 2 ^ 31 by omega), eo]
  refine ⟨hv, nm_e ⟨hv5, nm_e (es_x_growth ho (nm_e (es_x_fits ho (by omega) hn eo (fun hf => br_f es_10 ⟨hv5, ?_⟩) (fun hf => br_t rfl (k1 hf)))))⟩⟩
  by_cases c0 : a_clash i = 0
  rotate_left
  · exact br_f c0 (k2 hf c0)
  refine br_t c0 ?_
  rcases hh with e | ⟨h, hh, e⟩
  · rw [e]
    exact br_f es_n0 (nm_r (nI_1 i) (k3 hf c0 e))
  · rw [e]
    have h2 := es_tk2 o
    refine br_t (nI_pos' (by omega)) (es_x_takes ho (pk_lt h (es_tk o) (fun z => k4 hf c0 h hh e z) (fun z => ?_)))
    have h6 := es_af6 (o := o) hh
    rw [(es_af_n o ho h (by omega) z).1]
    refine pk_le (es_af o h) 4 (fun y => ?_) (fun y => k5 hf c0 h hh e z y)
    exact es_x_ckgo (by omega) ho (by omega) (hc hf) (k6 hf c0 h hh e z y)
end X
section Y
variable {g_count g_flushed g_calls g_drafted g_top g_time : Int32} {b_isCut b_removed b_stream b_type b_from b_by b_value b_version b_on b_call b_draftType b_draftValue b_op b_with b_length b_height b_torn b_stack b_position b_cells b_noted b_wanted b_formed b_cursor b_parked b_where b_often b_due b_many b_found : Nat → Int32}
theorem es_y_ck44 {n i o c m : Nat} {w : Int32} (hn : n ≤ 14) (hi : i < n) (ho : o < 14) (eo : b_op (42 + i) = nI o) (ew : b_with (42 + i) = w) (hc : es_ft o i n w → o = 10 ∨ o = 11 → c < 15 ∧ w = nI c) (hh : b_height i = -1 ∨ ∃ h, h ≤ 4 ∧ b_height i = nI h) {post : Int32 → SY → Prop}
    (k1 : ¬ es_ft o i n w → post (nI i) (g_count, g_flushed, g_calls, g_drafted, g_top, g_time, b_isCut, b_removed, b_stream, b_type, b_from, b_by, b_value, b_version, b_on, b_call, b_draftType, b_draftValue, b_op, b_with, b_length, b_height, b_torn, b_stack, b_position, b_cells, b_noted, b_wanted, b_formed, b_cursor, b_parked, b_where, b_often, b_due, b_many, b_found)) (k2 : es_ft o i n w → b_height i ≠ -1 → ¬ b_torn i = 0 → post (nI i) (g_count, g_flushed, g_calls, g_drafted, g_top, g_time, b_isCut, b_removed, b_stream, b_type, b_from, b_by, b_value, b_version, b_on, b_call, b_draftType, b_draftValue, b_op, b_with, b_length, b_height, b_torn, b_stack, b_position, b_cells, b_noted, b_wanted, b_formed, b_cursor, b_parked, b_where, b_often, b_due, b_many, b_found)) (k3 : es_ft o i n w → b_height i = -1 → wY_faulty_44 post (nI n) m (nI (i + 1)) g_count g_flushed g_calls g_drafted g_top g_time b_isCut b_removed b_stream b_type b_from b_by b_value b_version b_on b_call b_draftType b_draftValue b_op b_with b_length b_height b_torn b_stack b_position b_cells b_noted b_wanted b_formed b_cursor b_parked b_where b_often b_due b_many b_found)
    (k4 : es_ft o i n w → b_torn i = 0 → ∀ h, h ≤ 4 → b_height i = nI h → h < es_tk o → post (nI i) (g_count, g_flushed, g_calls, g_drafted, g_top, g_time, b_isCut, b_removed, b_stream, b_type, b_from, b_by, b_value, b_version, b_on, b_call, b_draftType, b_draftValue, b_op, b_with, b_length, b_height, b_torn, b_stack, b_position, b_cells, b_noted, b_wanted, b_formed, b_cursor, b_parked, b_where, b_often, b_due, b_many, b_found)) (k5 : es_ft o i n w → b_torn i = 0 → ∀ h, h ≤ 4 → b_height i = nI h → es_tk o ≤ h → 4 < es_af o h → post (nI i) (g_count, g_flushed, g_calls, g_drafted, g_top, g_time, b_isCut, b_removed, b_stream, b_type, b_from, b_by, b_value, b_version, b_on, b_call, b_draftType, b_draftValue, b_op, b_with, b_length, b_height, b_torn, b_stack, b_position, b_cells, b_noted, b_wanted, b_formed, b_cursor, b_parked, b_where, b_often, b_due, b_many, b_found))
    (k6 : es_ft o i n w → b_torn i = 0 → ∀ h, h ≤ 4 → b_height i = nI h → es_tk o ≤ h → es_af o h ≤ 4 → wY_faulty_44 post (nI n) m (nI (i + 1)) g_count g_flushed g_calls g_drafted g_top g_time b_isCut b_removed b_stream b_type b_from b_by b_value b_version b_on b_call b_draftType b_draftValue b_op b_with b_length ((es_sY b_height b_torn o i c (nI (es_af o h))).1) ((es_sY b_height b_torn o i c (nI (es_af o h))).2) b_stack b_position b_cells b_noted b_wanted b_formed b_cursor b_parked b_where b_often b_due b_many b_found) : wY_faulty_44 post (nI n) (m + 1) (nI i) g_count g_flushed g_calls g_drafted g_top g_time b_isCut b_removed b_stream b_type b_from b_by b_value b_version b_on b_call b_draftType b_draftValue b_op b_with b_length b_height b_torn b_stack b_position b_cells b_noted b_wanted b_formed b_cursor b_parked b_where b_often b_due b_many b_found := by
  have e42 : 42 + nI i = nI (42 + i) := nI_add 42 i
  have hv : vp_in (nI (42 + i)) 56 := vp_in_nI (by omega) (by decide)
  have hv5 : vp_in (nI i) 16 := vp_in_nI (by omega) (by decide)
  have h87 : ∀ z0 : Int32, ((o = 10 ∨ o = 11) ∧ z0 = 1 ∨ (¬ (o = 10 ∨ o = 11)) ∧ z0 = 0) → wY_faulty_87 post (wY_faulty_44 post (nI n) m) (nI n) (nI i) (nI o) w z0 g_count g_flushed g_calls g_drafted g_top g_time b_isCut b_removed b_stream b_type b_from b_by b_value b_version b_on b_call b_draftType b_draftValue b_op b_with b_length b_height b_torn b_stack b_position b_cells b_noted b_wanted b_formed b_cursor b_parked b_where b_often b_due b_many b_found := fun z0 hz => by
    refine es_y_ft (by omega) hn ho hz (fun hf => ?_) k1
    unfold wY_faulty_144
    rw [nI_clamp (show i < 2 ^ 31 by omega)]
    refine ⟨hv5, nm_e ?_⟩
    rcases hh with e | ⟨h, hh, e⟩
    · rw [e]
      exact br_f es_n0 (nm_r (nI_1 i) (k3 hf e))
    · have h2 := es_tk2 o
      have h6 := es_af6 (o := o) hh
      rw [e]
      refine br_t (nI_pos' (by omega)) (es_y_takes ho (es_y_gives ho (nm_e ⟨hv5, ?_⟩)))
      by_cases c0 : b_torn i = 0
      · refine br_t c0 (es_y_takes ho (pk_lt h (es_tk o) (fun z => k4 hf c0 h hh e z) (fun z => ?_)))
        rw [(es_af_n o ho h (by omega) z).2]
        exact pk_le (es_af o h) 4 (fun y => es_y_ckgo (by omega) ho (by omega) (hc hf) hz (k6 hf c0 h hh e z y)) (fun y => k5 hf c0 h hh e z y)
      · exact br_f c0 (k2 hf (by rw [e]; exact es_nm (by omega)) c0)
  refine br_f (nI_ge hi (by omega)) ?_
  rw [e42, nI_clamp (show 42 + i < 2 ^ 31 by omega), eo, ew]
  refine ⟨hv, nm_e ⟨hv, nm_e (pk_eq o 10 (fun z => ?_) (fun z => pk_eq o 11 (fun z2 => ?_) (fun z2 => h87 0 (Or.inr ⟨fun y => y.elim z z2, rfl⟩))))⟩⟩
  · unfold wY_faulty_82
    exact h87 1 (Or.inl ⟨Or.inl z, rfl⟩)
  · unfold wY_faulty_82
    exact h87 1 (Or.inl ⟨Or.inr z2, rfl⟩)
end Y
section P
variable {f_held f_records f_flushed f_summed f_draft f_drafted f_seen f_time f_taken : Int32} {a_at a_version a_value a_originAt a_stream a_type a_originBy a_originCode a_goesOn a_events a_cuts a_firm a_cutsGone a_byVersion a_byOrigin a_draftType a_draftValue a_dOp a_dC a_height a_clash a_pOp a_pSize a_pC a_position a_cell a_noted a_stack a_before a_shown a_gType a_gTaken a_gWaiting a_kCount a_gCursor a_gParked a_kCursor a_tAt a_tDue a_wAt a_kAt a_tTimes a_wTimes a_kTimes : Nat → Int32} {a_upTo : Nat → Int64} {g_count g_flushed g_calls g_drafted g_top g_time : Int32} {b_isCut b_removed b_stream b_type b_from b_by b_value b_version b_on b_call b_draftType b_draftValue b_op b_with b_length b_height b_torn b_stack b_position b_cells b_noted b_wanted b_formed b_cursor b_parked b_where b_often b_due b_many b_found : Nat → Int32}
theorem es_chk {n : Nat} (hn : n ≤ 14) (hop : ∀ i, i < 14 → b_op (42 + i) = a_dOp i ∧ b_with (42 + i) = a_dC i ∧ ∃ o, o < 14 ∧ a_dOp i = nI o) :
    ∀ d i, i + d = n → ∀ hX cl hY to : Nat → Int32, (∀ j, j < 15 → es_CR hX cl hY to j) → hY 0 = 0 → es_CD a_dOp a_dC n i hY to → ∃ r : Int32, ((r = -1 ∧ es_WT a_dOp a_dC 0 n) ∨ ∃ i0, i0 < 14 ∧ r = nI i0) ∧
      (∀ post : Int32 → SX → Prop, (∀ hX' cl', post r (f_held, f_records, f_flushed, f_summed, f_draft, f_drafted, f_seen, f_time, f_taken, a_at, a_version, a_value, a_originAt, a_stream, a_type, a_originBy, a_originCode, a_goesOn, a_events, a_cuts, a_firm, a_cutsGone, a_byVersion, a_byOrigin, a_upTo, a_draftType, a_draftValue, a_dOp, a_dC, hX', cl', a_pOp, a_pSize, a_pC, a_position, a_cell, a_noted, a_stack, a_before, a_shown, a_gType, a_gTaken, a_gWaiting, a_kCount, a_gCursor, a_gParked, a_kCursor, a_tAt, a_tDue, a_wAt, a_kAt, a_tTimes, a_wTimes, a_kTimes)) → wX_check_37 post (nI n) (d + 1) (nI i) f_held f_records f_flushed f_summed f_draft f_drafted f_seen f_time f_taken a_at a_version a_value a_originAt a_stream a_type a_originBy a_originCode a_goesOn a_events a_cuts a_firm a_cutsGone a_byVersion a_byOrigin a_upTo a_draftType a_draftValue a_dOp a_dC hX cl a_pOp a_pSize a_pC a_position a_cell a_noted a_stack a_before a_shown a_gType a_gTaken a_gWaiting a_kCount a_gCursor a_gParked a_kCursor a_tAt a_tDue a_wAt a_kAt a_tTimes a_wTimes a_kTimes) ∧ (∀ post : Int32 → SY → Prop, (∀ hY' to', post r (g_count, g_flushed, g_calls, g_drafted, g_top, g_time, b_isCut, b_removed, b_stream, b_type, b_from, b_by, b_value, b_version, b_on, b_call, b_draftType, b_draftValue, b_op, b_with, b_length, hY', to', b_stack, b_position, b_cells, b_noted, b_wanted, b_formed, b_cursor, b_parked, b_where, b_often, b_due, b_many, b_found)) → wY_faulty_44 post (nI n) (d + 1) (nI i) g_count g_flushed g_calls g_drafted g_top g_time b_isCut b_removed b_stream b_type b_from b_by b_value b_version b_on b_call b_draftType b_draftValue b_op b_with b_length hY to b_stack b_position b_cells b_noted b_wanted b_formed b_cursor b_parked b_where b_often b_due b_many b_found) := by
  intro d
  induction d with
  | zero =>
    intro i hi hX cl hY to hR h0 hD
    have e : i = n := by omega
    subst e
    exact ⟨-1, Or.inl ⟨rfl, es_WT_end (hX := hX) (cl := cl) h0 hD⟩, fun post hp => br_t (nI_le (Nat.le_refl _) (by omega)) (hp _ _), fun post hp => br_t (nI_le (Nat.le_refl _) (by omega)) (hp _ _)⟩
  | succ d ih =>
    intro i hi hX cl hY to hR h0 hD
    obtain ⟨o1, o2, o, ho, eo⟩ := hop i (by omega)
    have Ri := hR i (by omega)
    obtain ⟨r1, r2, r3, r4, r5, r6, r7⟩ := Ri
    obtain ⟨c, hcc⟩ : ∃ c, es_ft o i n (a_dC i) → o = 10 ∨ o = 11 → i < c ∧ c < 15 ∧ a_dC i = nI c := by
      by_cases hf : es_ft o i n (a_dC i) ∧ (o = 10 ∨ o = 11)
      · obtain ⟨q, q1, q2, q3⟩ := hf.1.2.2 hf.2
        exact ⟨q, fun _ _ => ⟨q1, by omega, q3⟩⟩
      · exact ⟨0, fun z1 z2 => absurd ⟨z1, z2⟩ hf⟩
    have hc' : es_ft o i n (a_dC i) → o = 10 ∨ o = 11 → c < 15 ∧ a_dC i = nI c := fun z1 z2 => (hcc z1 z2).2
    have here : (es_ft o i n (a_dC i) → hY i = -1 → False) → (es_ft o i n (a_dC i) → to i = 0 → ∀ h, h ≤ 4 → hY i = nI h → es_tk o ≤ h → es_af o h ≤ 4 → False) → ∃ r : Int32, ((r = -1 ∧ es_WT a_dOp a_dC 0 n) ∨ ∃ i0, i0 < 14 ∧ r = nI i0) ∧
        (∀ post : Int32 → SX → Prop, (∀ hX' cl', post r (f_held, f_records, f_flushed, f_summed, f_draft, f_drafted, f_seen, f_time, f_taken, a_at, a_version, a_value, a_originAt, a_stream, a_type, a_originBy, a_originCode, a_goesOn, a_events, a_cuts, a_firm, a_cutsGone, a_byVersion, a_byOrigin, a_upTo, a_draftType, a_draftValue, a_dOp, a_dC, hX', cl', a_pOp, a_pSize, a_pC, a_position, a_cell, a_noted, a_stack, a_before, a_shown, a_gType, a_gTaken, a_gWaiting, a_kCount, a_gCursor, a_gParked, a_kCursor, a_tAt, a_tDue, a_wAt, a_kAt, a_tTimes, a_wTimes, a_kTimes)) → wX_check_37 post (nI n) (d + 1 + 1) (nI i) f_held f_records f_flushed f_summed f_draft f_drafted f_seen f_time f_taken a_at a_version a_value a_originAt a_stream a_type a_originBy a_originCode a_goesOn a_events a_cuts a_firm a_cutsGone a_byVersion a_byOrigin a_upTo a_draftType a_draftValue a_dOp a_dC hX cl a_pOp a_pSize a_pC a_position a_cell a_noted a_stack a_before a_shown a_gType a_gTaken a_gWaiting a_kCount a_gCursor a_gParked a_kCursor a_tAt a_tDue a_wAt a_kAt a_tTimes a_wTimes a_kTimes) ∧ (∀ post : Int32 → SY → Prop, (∀ hY' to', post r (g_count, g_flushed, g_calls, g_drafted, g_top, g_time, b_isCut, b_removed, b_stream, b_type, b_from, b_by, b_value, b_version, b_on, b_call, b_draftType, b_draftValue, b_op, b_with, b_length, hY', to', b_stack, b_position, b_cells, b_noted, b_wanted, b_formed, b_cursor, b_parked, b_where, b_often, b_due, b_many, b_found)) → wY_faulty_44 post (nI n) (d + 1 + 1) (nI i) g_count g_flushed g_calls g_drafted g_top g_time b_isCut b_removed b_stream b_type b_from b_by b_value b_version b_on b_call b_draftType b_draftValue b_op b_with b_length hY to b_stack b_position b_cells b_noted b_wanted b_formed b_cursor b_parked b_where b_often b_due b_many b_found) := fun n1 n2 =>
      ⟨nI i, Or.inr ⟨i, by omega, rfl⟩, fun post hp => es_x_ck37 hn (by omega) ho eo hc' r3 (fun _ => hp _ _) (fun _ _ => hp _ _) (fun hf hz he => (n1 hf (r5.mp he)).elim) (fun _ _ _ _ _ _ => hp _ _) (fun _ _ _ _ _ _ _ => hp _ _) (fun hf hz h hh he z1 z2 => (n2 hf (r1.symm.trans hz) h hh ((r6 (r1.symm.trans hz)).symm.trans he) z1 z2).elim),
        fun post hp => es_y_ck44 hn (by omega) ho (o1.trans eo) o2 hc' r4 (fun _ => hp _ _) (fun _ _ _ => hp _ _) (fun hf he => (n1 hf he).elim) (fun _ _ _ _ _ _ => hp _ _) (fun _ _ _ _ _ _ _ => hp _ _) (fun hf hz h hh he z1 z2 => (n2 hf hz h hh he z1 z2).elim)⟩
    by_cases hf : es_ft o i n (a_dC i)
    rotate_left
    · exact here (fun z => absurd z hf) (fun z => absurd z hf)
    rcases r4 with e | ⟨h, hh, e⟩
    · have t0 : to i = 0 := by
        rcases r2 with r2 | r2
        · exact r2
        · exact absurd e (r7 (by rw [r2]; decide))
      obtain ⟨r, s1, s2, s3⟩ := ih (i + 1) (by omega) hX cl hY to hR h0 (fun i' hi' hz => by
        by_cases z : i' = i
        · rw [z] at hz; exact absurd e hz
        · exact hD i' (by omega) hz)
      refine ⟨r, s1, fun post hp => es_x_ck37 hn (by omega) ho eo hc' r3 (fun z => absurd hf z) (fun _ z => absurd (r1.trans t0) z) (fun _ _ _ => s2 post hp) (fun _ _ h hh he => ?_) (fun _ _ h hh he => ?_) (fun _ _ h hh he => ?_), fun post hp => es_y_ck44 hn (by omega) ho (o1.trans eo) o2 hc' (Or.inl e) (fun z => absurd hf z) (fun _ z => absurd e z) (fun _ _ => s3 post hp) (fun _ _ h hh he => ?_) (fun _ _ h hh he => ?_) (fun _ _ h hh he => ?_)⟩
      all_goals
        have e9 := r5.mpr e
        first
          | exact absurd (he.symm.trans e9) (es_nm (by omega))
          | exact absurd (he.symm.trans e) (es_nm (by omega))
    · have yn : hY i ≠ -1 := by rw [e]; exact es_nm (by omega)
      by_cases go : to i = 0 ∧ es_tk o ≤ h ∧ es_af o h ≤ 4
      rotate_left
      · refine here (fun _ z => absurd z yn) (fun _ t0 h' hh' he' z1 z2 => ?_)
        have e9 := es_inj (e.symm.trans he') (by omega) (by omega)
        rw [← e9] at z1 z2
        exact go ⟨t0, z1, z2⟩
      obtain ⟨t0, g1, g2⟩ := go
      have hD' := es_s_CD (c := c) (show i < 14 by omega) hR g2 (fun z => hcc hf z) ho hh eo e g1 hf t0 hn hD
      have hR' := es_s_CR (o := o) (i := i) (c := c) g2 hR
      have h0' : (es_sY hY to o i c (nI (es_af o h))).1 0 = 0 := by
        have q1 : (if o = 10 ∨ o = 11 then es_mY hY to c (nI (es_af o h)) else (hY, to)).1 0 = 0 := by
          by_cases z : o = 10 ∨ o = 11
          · rw [if_pos z]
            exact (es_mY_o (by have := (hcc hf z).1; omega)).1.trans h0
          · rw [if_neg z]; exact h0
        unfold es_sY
        by_cases z : o = 11 ∨ o = 13
        · rw [if_pos z]; exact q1
        · rw [if_neg z]
          exact (es_mY_o (by omega)).1.trans q1
      obtain ⟨r, s1, s2, s3⟩ := ih (i + 1) (by omega) _ _ _ _ hR' h0' hD'
      have xe : hX i = nI h := (r6 t0).trans e
      have same : ∀ h', h' ≤ 4 → nI h = nI h' → h = h' := fun h' hh' z => es_inj z (by omega) (by omega)
      refine ⟨r, s1, fun post hp => es_x_ck37 hn (by omega) ho eo hc' (Or.inr ⟨h, hh, xe⟩) (fun z => absurd hf z) (fun _ z => absurd (r1.trans t0) z) (fun _ _ z => absurd (xe.symm.trans z) (es_nm (by omega))) (fun _ _ h' hh' he' z => ?_) (fun _ _ h' hh' he' z z2 => ?_) (fun _ _ h' hh' he' z z2 => ?_), fun post hp => es_y_ck44 hn (by omega) ho (o1.trans eo) o2 hc' (Or.inr ⟨h, hh, e⟩) (fun z => absurd hf z) (fun _ _ z => absurd t0 z) (fun _ z => absurd z yn) (fun _ _ h' hh' he' z => ?_) (fun _ _ h' hh' he' z z2 => ?_) (fun _ _ h' hh' he' z z2 => ?_)⟩
      · have := same h' hh' (xe.symm.trans he'); omega
      · have := same h' hh' (xe.symm.trans he'); rw [← this] at z2; omega
      · have e9 := same h' hh' (xe.symm.trans he'); rw [← e9]; exact s2 post hp
      · have := same h' hh' (e.symm.trans he'); omega
      · have := same h' hh' (e.symm.trans he'); rw [← this] at z2; omega
      · have e9 := same h' hh' (e.symm.trans he'); rw [← e9]; exact s3 post hp
end P
end ES50
end
section
/-! define -/
section ES51
def es_iz (f : Nat → Int32) (v : Int32) (k : Nat) : Nat → Int32 := fun j => if j < k then v else f j
theorem es_iz_0 (f : Nat → Int32) (v : Int32) : es_iz f v 0 = f := by
  funext j
  unfold es_iz
  rw [if_neg (by omega)]
theorem es_iz_s {f : Nat → Int32} {v : Int32} {k : Nat} : upd (es_iz f v k) k v = es_iz f v (k + 1) := by
  funext j
  by_cases c : j = k
  · subst c
    rw [pk_us]
    unfold es_iz
    rw [if_pos (by omega)]
  · rw [pk_un c]
    unfold es_iz
    by_cases c2 : j < k
    · rw [if_pos c2, if_pos (by omega)]
    · rw [if_neg c2, if_neg (by omega)]
theorem es_iz_i {f : Nat → Int32} {v : Int32} {k j : Nat} (h : j < k) : es_iz f v k j = v := if_pos h
def es_mw (f g : Nat → Int32) (b k : Nat) : Nat → Int32 := fun j => if b ≤ j ∧ j < b + k then f (j - b) else g j
theorem es_mw_0 (f g : Nat → Int32) (b : Nat) : es_mw f g b 0 = g := by
  funext j
  unfold es_mw
  rw [if_neg (by omega)]
theorem es_mw_s {f g : Nat → Int32} {b k : Nat} : upd (es_mw f g b k) (b + k) (f k) = es_mw f g b (k + 1) := by
  funext j
  by_cases c : j = b + k
  · subst c
    rw [pk_us]
    unfold es_mw
    rw [if_pos (by omega), Nat.add_sub_cancel_left]
  · rw [pk_un c]
    unfold es_mw
    by_cases c2 : b ≤ j ∧ j < b + k
    · rw [if_pos c2, if_pos (by omega)]
    · rw [if_neg c2, if_neg (by omega)]
theorem es_mw_i {f g : Nat → Int32} {b k j : Nat} (h : j < k) : es_mw f g b k (b + j) = f j := by
  unfold es_mw
  rw [if_pos (by omega), Nat.add_sub_cancel_left]
theorem es_mw_o {f g : Nat → Int32} {b k j : Nat} (h : j < b ∨ b + k ≤ j) : es_mw f g b k j = g j := by
  unfold es_mw
  rw [if_neg (by omega)]
theorem es_WT_cg {op wi op' wi' : Nat → Int32} {b b' n : Nat} (h : es_WT op wi b n) (e : ∀ i, i < n → op' (b' + i) = op (b + i) ∧ wi' (b' + i) = wi (b + i)) : es_WT op' wi' b' n := by
  obtain ⟨ht, h0, h1⟩ := h
  refine ⟨ht, h0, fun i hi hz => ?_⟩
  obtain ⟨o, h', r1, r2, r3, r4, r5, r6, r7, r8⟩ := h1 i hi hz
  refine ⟨o, h', r1, r2, (e i hi).1.trans r3, r4, r5, r6, ?_, fun j hj hs => r8 j hj ?_⟩
  · rw [(e i hi).2]; exact r7
  · rw [(e i hi).2] at hs; exact hs
section X
variable {f_held f_records f_flushed f_summed f_draft f_drafted f_seen f_time f_taken : Int32} {a_at a_version a_value a_originAt a_stream a_type a_originBy a_originCode a_goesOn a_events a_cuts a_firm a_cutsGone a_byVersion a_byOrigin a_draftType a_draftValue a_dOp a_dC a_height a_clash a_pOp a_pSize a_pC a_position a_cell a_noted a_stack a_before a_shown a_gType a_gTaken a_gWaiting a_kCount a_gCursor a_gParked a_kCursor a_tAt a_tDue a_wAt a_kAt a_tTimes a_wTimes a_kTimes : Nat → Int32} {a_upTo : Nat → Int64}
theorem es_x_ck2 {x1 : Int32} (hX cl : Nat → Int32) {post : Int32 → SX → Prop} (hp : ∃ n, wX_check_37 post x1 n 0 f_held f_records f_flushed f_summed f_draft f_drafted f_seen f_time f_taken a_at a_version a_value a_originAt a_stream a_type a_originBy a_originCode a_goesOn a_events a_cuts a_firm a_cutsGone a_byVersion a_byOrigin a_upTo a_draftType a_draftValue a_dOp a_dC (upd (es_iz hX (-1) 15) 0 0) (es_iz cl 0 15) a_pOp a_pSize a_pC a_position a_cell a_noted a_stack a_before a_shown a_gType a_gTaken a_gWaiting a_kCount a_gCursor a_gParked a_kCursor a_tAt a_tDue a_wAt a_kAt a_tTimes a_wTimes a_kTimes) :
    ∀ d x, x + d = 15 → wX_check_2 post x1 f_held f_records f_flushed f_summed f_draft f_drafted f_seen f_time f_taken (d + 1) (nI x) a_at a_version a_value a_originAt a_stream a_type a_originBy a_originCode a_goesOn a_events a_cuts a_firm a_cutsGone a_byVersion a_byOrigin a_upTo a_draftType a_draftValue a_dOp a_dC (es_iz hX (-1) x) (es_iz cl 0 x) a_pOp a_pSize a_pC a_position a_cell a_noted a_stack a_before a_shown a_gType a_gTaken a_gWaiting a_kCount a_gCursor a_gParked a_kCursor a_tAt a_tDue a_wAt a_kAt a_tTimes a_wTimes a_kTimes := by
  intro d
  induction d with
  | zero =>
    intro x hx
    have e : x = 15 := by omega
    subst e
    refine br_t (nI_le (a := 15) (b := 15) (by omega) (by decide)) ?_
    rw [es_nb0]
    exact nm_e hp
  | succ d ih =>
    intro x hx
    have hv : vp_in (nI x) 15 := vp_in_nI (by omega) (by decide)
    refine br_f (nI_ge (b := 15) (by omega) (by decide)) ?_
    rw [nI_clamp (show x < 2 ^ 31 by omega), es_nbm, es_z0, es_iz_s, es_iz_s]
    exact ⟨hv, nm_e ⟨hv, nm_e (nm_r (nI_1 x) (ih (x + 1) (by omega)))⟩⟩
theorem es_x_df123 {p : Nat} (hp3 : p < 3) (c0 : Nat → Int32) {post : Int32 → SX → Prop} (hp : wpX_copyState (fun u => post 0 u) (f_held, f_records, f_flushed, f_summed, f_draft, f_drafted, f_seen, f_time, f_taken, a_at, a_version, a_value, a_originAt, a_stream, a_type, a_originBy, a_originCode, a_goesOn, a_events, a_cuts, a_firm, a_cutsGone, a_byVersion, a_byOrigin, a_upTo, a_draftType, a_draftValue, a_dOp, a_dC, a_height, a_clash, a_pOp, a_pSize, a_pC, a_position, es_mw (fun _ => 0) c0 (10 * p) 10, a_noted, a_stack, a_before, a_shown, a_gType, a_gTaken, a_gWaiting, a_kCount, a_gCursor, a_gParked, a_kCursor, a_tAt, a_tDue, a_wAt, a_kAt, a_tTimes, a_wTimes, a_kTimes) (nI p) (nI (3 + p))) :
    ∀ d k, k + d = 10 → wX_define_123 post (nI p) f_held f_records f_flushed f_summed f_draft f_drafted f_seen f_time f_taken (d + 1) (nI k) a_at a_version a_value a_originAt a_stream a_type a_originBy a_originCode a_goesOn a_events a_cuts a_firm a_cutsGone a_byVersion a_byOrigin a_upTo a_draftType a_draftValue a_dOp a_dC a_height a_clash a_pOp a_pSize a_pC a_position (es_mw (fun _ => 0) c0 (10 * p) k) a_noted a_stack a_before a_shown a_gType a_gTaken a_gWaiting a_kCount a_gCursor a_gParked a_kCursor a_tAt a_tDue a_wAt a_kAt a_tTimes a_wTimes a_kTimes := by
  intro d
  induction d with
  | zero =>
    intro k hk
    have e : k = 10 := by omega
    subst e
    refine br_t (nI_le (a := 10) (b := 10) (by omega) (by decide)) ?_
    rw [show 3 + nI p = nI (3 + p) from nI_add 3 p]
    exact hp
  | succ d ih =>
    intro k hk
    have e1 : 10 * nI p + nI k = nI (10 * p + k) := by rw [show (10 : Int32) * nI p = nI (10 * p) from pk_mul 10 p, nI_add]
    have s := es_mw_s (f := fun _ => 0) (g := c0) (b := 10 * p) (k := k)
    refine br_f (nI_ge (b := 10) (by omega) (by decide)) ?_
    rw [e1, nI_clamp (show 10 * p + k < 2 ^ 31 by omega)]
    exact ⟨vp_in_nI (by omega) (by decide), nm_r s (nm_r (nI_1 k) (ih (k + 1) (by omega)))⟩
theorem es_x_df45 {p n : Nat} (hp3 : p < 3) (hn : n ≤ 14) (hop : ∀ i, i < 14 → ∃ o, o < 14 ∧ a_dOp i = nI o) (o0 c0 : Nat → Int32) {post : Int32 → SX → Prop}
    (hp : ∃ m, wX_define_123 post (nI p) f_held f_records f_flushed f_summed f_draft f_drafted f_seen f_time f_taken m 0 a_at a_version a_value a_originAt a_stream a_type a_originBy a_originCode a_goesOn a_events a_cuts a_firm a_cutsGone a_byVersion a_byOrigin a_upTo a_draftType a_draftValue a_dOp a_dC a_height a_clash (es_mw a_dOp o0 (14 * p) n) (upd a_pSize p (nI n)) (es_mw a_dC c0 (14 * p) n) (upd a_position p f_flushed) a_cell (upd a_noted p 0) a_stack a_before a_shown a_gType a_gTaken a_gWaiting a_kCount a_gCursor a_gParked a_kCursor a_tAt a_tDue a_wAt a_kAt a_tTimes a_wTimes a_kTimes) :
    ∀ d k, k + d = n → wX_define_45 post (nI p) (nI n) f_held f_records f_flushed f_summed f_draft f_drafted f_seen f_time f_taken (d + 1) (nI k) a_at a_version a_value a_originAt a_stream a_type a_originBy a_originCode a_goesOn a_events a_cuts a_firm a_cutsGone a_byVersion a_byOrigin a_upTo a_draftType a_draftValue a_dOp a_dC a_height a_clash (es_mw a_dOp o0 (14 * p) k) a_pSize (es_mw a_dC c0 (14 * p) k) a_position a_cell a_noted a_stack a_before a_shown a_gType a_gTaken a_gWaiting a_kCount a_gCursor a_gParked a_kCursor a_tAt a_tDue a_wAt a_kAt a_tTimes a_wTimes a_kTimes := by
  intro d
  induction d with
  | zero =>
    intro k hk
    have e : k = n := by omega
    subst e
    refine br_t (nI_le (Nat.le_refl _) (by omega)) ?_
    rw [nI_clamp (show p < 2 ^ 31 by omega), es_b8 (show k < 128 by omega), es_z0]
    exact ⟨vp_in_nI hp3 (by decide), nm_e ⟨vp_in_nI hp3 (by decide), nm_e ⟨vp_in_nI (by omega) (by decide), nm_e hp⟩⟩⟩
  | succ d ih =>
    intro k hk
    obtain ⟨o, ho, eo⟩ := hop k (by omega)
    have e1 : 14 * nI p + nI k = nI (14 * p + k) := by rw [show (14 : Int32) * nI p = nI (14 * p) from pk_mul 14 p, nI_add]
    have en : vp_nar .byte (a_dOp k) = a_dOp k := by rw [eo]; exact es_nb (by omega)
    refine br_f (nI_ge (by omega) (by omega)) ?_
    rw [e1, nI_clamp (show 14 * p + k < 2 ^ 31 by omega), nI_clamp (show k < 2 ^ 31 by omega), en, es_mw_s, es_mw_s]
    exact ⟨vp_in_nI (by omega) (by decide), vp_in_nI (by omega) (by decide), nm_e ⟨vp_in_nI (by omega) (by decide), vp_in_nI (by omega) (by decide), nm_e (nm_r (nI_1 k) (ih (k + 1) (by omega)))⟩⟩
end X
section Y
variable {g_count g_flushed g_calls g_drafted g_top g_time : Int32} {b_isCut b_removed b_stream b_type b_from b_by b_value b_version b_on b_call b_draftType b_draftValue b_op b_with b_length b_height b_torn b_stack b_position b_cells b_noted b_wanted b_formed b_cursor b_parked b_where b_often b_due b_many b_found : Nat → Int32}
theorem es_y_ck9 {x1 : Int32} (hY to : Nat → Int32) {post : Int32 → SY → Prop} (hp : ∃ n, wY_faulty_44 post x1 n 0 g_count g_flushed g_calls g_drafted g_top g_time b_isCut b_removed b_stream b_type b_from b_by b_value b_version b_on b_call b_draftType b_draftValue b_op b_with b_length (upd (es_iz hY (-1) 16) 0 0) (es_iz to 0 16) b_stack b_position b_cells b_noted b_wanted b_formed b_cursor b_parked b_where b_often b_due b_many b_found) :
    ∀ d x, x + d = 16 → wY_faulty_9 post x1 g_count g_flushed g_calls g_drafted g_top g_time (d + 1) (nI x) b_isCut b_removed b_stream b_type b_from b_by b_value b_version b_on b_call b_draftType b_draftValue b_op b_with b_length (es_iz hY (-1) x) (es_iz to 0 x) b_stack b_position b_cells b_noted b_wanted b_formed b_cursor b_parked b_where b_often b_due b_many b_found := by
  intro d
  induction d with
  | zero =>
    intro x hx
    have e : x = 16 := by omega
    subst e
    refine br_t (nI_le (a := 16) (b := 16) (by omega) (by decide)) ?_
    rw [es_nb0]
    exact nm_e hp
  | succ d ih =>
    intro x hx
    have hv : vp_in (nI x) 16 := vp_in_nI (by omega) (by decide)
    refine br_f (nI_ge (b := 16) (by omega) (by decide)) ?_
    rw [nI_clamp (show x < 2 ^ 31 by omega), es_nbm, es_z0, es_iz_s, es_iz_s]
    exact ⟨hv, nm_e ⟨hv, nm_e (nm_r (nI_1 x) (ih (x + 1) (by omega)))⟩⟩
theorem es_y_df127 {p : Nat} (hp3 : p < 3) (c0 : Nat → Int32) {post : Int32 → SY → Prop} (hp : ∀ pos cell, es_RW b_position (es_mw (fun _ => 0) c0 (10 * p) 10) pos cell (fun r => if r = 3 + p then p else r) → post 0 (g_count, g_flushed, g_calls, g_drafted, g_top, g_time, b_isCut, b_removed, b_stream, b_type, b_from, b_by, b_value, b_version, b_on, b_call, b_draftType, b_draftValue, b_op, b_with, b_length, b_height, b_torn, b_stack, pos, cell, upd b_noted p 0, b_wanted, b_formed, b_cursor, b_parked, b_where, b_often, b_due, b_many, b_found)) :
    ∀ d k, k + d = 10 → wY_define_127 post (nI p) g_count g_flushed g_calls g_drafted g_top g_time (d + 1) (nI k) b_isCut b_removed b_stream b_type b_from b_by b_value b_version b_on b_call b_draftType b_draftValue b_op b_with b_length b_height b_torn b_stack b_position (es_mw (fun _ => 0) c0 (10 * p) k) b_noted b_wanted b_formed b_cursor b_parked b_where b_often b_due b_many b_found := by
  intro d
  induction d with
  | zero =>
    intro k hk
    have e : k = 10 := by omega
    subst e
    refine br_t (nI_le (a := 10) (b := 10) (by omega) (by decide)) ?_
    rw [show 3 + nI p = nI (3 + p) from nI_add 3 p, nI_clamp (show p < 2 ^ 31 by omega), es_z0]
    exact es_y_copyR (by omega) (by omega) (by omega) (es_RW_id _ _) (fun pos cell R => ⟨vp_in_nI hp3 (by decide), nm_e (hp pos cell R)⟩)
  | succ d ih =>
    intro k hk
    have e1 : 10 * nI p + nI k = nI (10 * p + k) := by rw [show (10 : Int32) * nI p = nI (10 * p) from pk_mul 10 p, nI_add]
    have s := es_mw_s (f := fun _ => 0) (g := c0) (b := 10 * p) (k := k)
    refine br_f (nI_ge (b := 10) (by omega) (by decide)) ?_
    rw [e1, nI_clamp (show 10 * p + k < 2 ^ 31 by omega)]
    exact ⟨vp_in_nI (by omega) (by decide), nm_r s (nm_r (nI_1 k) (ih (k + 1) (by omega)))⟩
theorem es_y_df58 {p n : Nat} (hp3 : p < 3) (hn : n ≤ 14) (o0 c0 : Nat → Int32) (hop : ∀ i, i < 14 → ∃ o, o < 14 ∧ o0 (42 + i) = nI o) {post : Int32 → SY → Prop}
    (hp : ∃ m, wY_define_127 post (nI p) g_count g_flushed g_calls g_drafted g_top g_time m 0 b_isCut b_removed b_stream b_type b_from b_by b_value b_version b_on b_call b_draftType b_draftValue (es_mv o0 42 (14 * p) n) (es_mv c0 42 (14 * p) n) b_length b_height b_torn b_stack (upd b_position p g_flushed) b_cells b_noted b_wanted b_formed b_cursor b_parked b_where b_often b_due b_many b_found) :
    ∀ d k, k + d = n → wY_define_58 post (nI p) (nI n) g_count g_flushed g_calls g_drafted g_top g_time (d + 1) (nI k) b_isCut b_removed b_stream b_type b_from b_by b_value b_version b_on b_call b_draftType b_draftValue (es_mv o0 42 (14 * p) k) (es_mv c0 42 (14 * p) k) b_length b_height b_torn b_stack b_position b_cells b_noted b_wanted b_formed b_cursor b_parked b_where b_often b_due b_many b_found := by
  intro d
  induction d with
  | zero =>
    intro k hk
    have e : k = n := by omega
    subst e
    refine br_t (nI_le (Nat.le_refl _) (by omega)) ?_
    rw [nI_clamp (show p < 2 ^ 31 by omega)]
    exact ⟨vp_in_nI (by omega) (by decide), nm_e hp⟩
  | succ d ih =>
    intro k hk
    obtain ⟨o, ho, eo⟩ := hop k (by omega)
    have e1 : 14 * nI p + nI k = nI (14 * p + k) := by rw [show (14 : Int32) * nI p = nI (14 * p) from pk_mul 14 p, nI_add]
    have e42 : 42 + nI k = nI (42 + k) := nI_add 42 k
    have en : vp_nar .byte (es_mv o0 42 (14 * p) k (42 + k)) = es_mv o0 42 (14 * p) k (42 + k) := by
      rw [es_mv_o (by omega), eo]; exact es_nb (by omega)
    refine br_f (nI_ge (by omega) (by omega)) ?_
    rw [e1, e42, nI_clamp (show 14 * p + k < 2 ^ 31 by omega), nI_clamp (show 42 + k < 2 ^ 31 by omega), en, es_mv_s (by omega), es_mv_s (by omega)]
    exact ⟨vp_in_nI (by omega) (by decide), vp_in_nI (by omega) (by decide), nm_e ⟨vp_in_nI (by omega) (by decide), vp_in_nI (by omega) (by decide), nm_e (nm_r (nI_1 k) (ih (k + 1) (by omega)))⟩⟩
end Y
section P
variable {f_held f_records f_flushed f_summed f_draft f_drafted f_seen f_time f_taken : Int32} {a_at a_version a_value a_originAt a_stream a_type a_originBy a_originCode a_goesOn a_events a_cuts a_firm a_cutsGone a_byVersion a_byOrigin a_draftType a_draftValue a_dOp a_dC a_height a_clash a_pOp a_pSize a_pC a_position a_cell a_noted a_stack a_before a_shown a_gType a_gTaken a_gWaiting a_kCount a_gCursor a_gParked a_kCursor a_tAt a_tDue a_wAt a_kAt a_tTimes a_wTimes a_kTimes : Nat → Int32} {a_upTo : Nat → Int64} {g_count g_flushed g_calls g_drafted g_top g_time : Int32} {b_isCut b_removed b_stream b_type b_from b_by b_value b_version b_on b_call b_draftType b_draftValue b_op b_with b_length b_height b_torn b_stack b_position b_cells b_noted b_wanted b_formed b_cursor b_parked b_where b_often b_due b_many b_found : Nat → Int32}
theorem es_check {n : Nat} (hn : n ≤ 14) (en : b_length 3 = nI n) (hop : ∀ i, i < 14 → b_op (42 + i) = a_dOp i ∧ b_with (42 + i) = a_dC i ∧ ∃ o, o < 14 ∧ a_dOp i = nI o) : ∃ r : Int32, ((r = -1 ∧ es_WT a_dOp a_dC 0 n) ∨ ∃ i0, i0 < 14 ∧ r = nI i0) ∧
      (∀ post : Int32 → SX → Prop, (∀ hX' cl', post r (f_held, f_records, f_flushed, f_summed, f_draft, f_drafted, f_seen, f_time, f_taken, a_at, a_version, a_value, a_originAt, a_stream, a_type, a_originBy, a_originCode, a_goesOn, a_events, a_cuts, a_firm, a_cutsGone, a_byVersion, a_byOrigin, a_upTo, a_draftType, a_draftValue, a_dOp, a_dC, hX', cl', a_pOp, a_pSize, a_pC, a_position, a_cell, a_noted, a_stack, a_before, a_shown, a_gType, a_gTaken, a_gWaiting, a_kCount, a_gCursor, a_gParked, a_kCursor, a_tAt, a_tDue, a_wAt, a_kAt, a_tTimes, a_wTimes, a_kTimes)) → wpX_check post (f_held, f_records, f_flushed, f_summed, f_draft, f_drafted, f_seen, f_time, f_taken, a_at, a_version, a_value, a_originAt, a_stream, a_type, a_originBy, a_originCode, a_goesOn, a_events, a_cuts, a_firm, a_cutsGone, a_byVersion, a_byOrigin, a_upTo, a_draftType, a_draftValue, a_dOp, a_dC, a_height, a_clash, a_pOp, a_pSize, a_pC, a_position, a_cell, a_noted, a_stack, a_before, a_shown, a_gType, a_gTaken, a_gWaiting, a_kCount, a_gCursor, a_gParked, a_kCursor, a_tAt, a_tDue, a_wAt, a_kAt, a_tTimes, a_wTimes, a_kTimes) (nI n)) ∧ (∀ post : Int32 → SY → Prop, (∀ hY' to', post r (g_count, g_flushed, g_calls, g_drafted, g_top, g_time, b_isCut, b_removed, b_stream, b_type, b_from, b_by, b_value, b_version, b_on, b_call, b_draftType, b_draftValue, b_op, b_with, b_length, hY', to', b_stack, b_position, b_cells, b_noted, b_wanted, b_formed, b_cursor, b_parked, b_where, b_often, b_due, b_many, b_found)) → wpY_faulty post (g_count, g_flushed, g_calls, g_drafted, g_top, g_time, b_isCut, b_removed, b_stream, b_type, b_from, b_by, b_value, b_version, b_on, b_call, b_draftType, b_draftValue, b_op, b_with, b_length, b_height, b_torn, b_stack, b_position, b_cells, b_noted, b_wanted, b_formed, b_cursor, b_parked, b_where, b_often, b_due, b_many, b_found)) := by
  have hCR : ∀ j, j < 15 → es_CR (upd (es_iz a_height (-1) 15) 0 0) (es_iz a_clash 0 15) (upd (es_iz b_height (-1) 16) 0 0) (es_iz b_torn 0 16) j := fun j hj => by
    unfold es_CR
    rw [es_iz_i hj, es_iz_i (show j < 16 by omega)]
    by_cases e : j = 0
    · subst e
      rw [pk_us, pk_us]
      exact ⟨rfl, Or.inl rfl, Or.inr ⟨0, by omega, rfl⟩, Or.inr ⟨0, by omega, rfl⟩, Iff.rfl, fun _ => rfl, fun z => absurd rfl z⟩
    · rw [pk_un e, pk_un e, es_iz_i hj, es_iz_i (show j < 16 by omega)]
      exact ⟨rfl, Or.inl rfl, Or.inl rfl, Or.inl rfl, Iff.rfl, fun _ => rfl, fun z => absurd rfl z⟩
  obtain ⟨r, s1, s2, s3⟩ := es_chk (f_held := f_held) (f_records := f_records) (f_flushed := f_flushed) (f_summed := f_summed) (f_draft := f_draft) (f_drafted := f_drafted) (f_seen := f_seen) (f_time := f_time) (f_taken := f_taken) (a_at := a_at) (a_version := a_version) (a_value := a_value) (a_originAt := a_originAt) (a_stream := a_stream) (a_type := a_type) (a_originBy := a_originBy) (a_originCode := a_originCode) (a_goesOn := a_goesOn) (a_events := a_events) (a_cuts := a_cuts) (a_firm := a_firm) (a_cutsGone := a_cutsGone) (a_byVersion := a_byVersion) (a_byOrigin := a_byOrigin) (a_upTo := a_upTo) (a_draftType := a_draftType) (a_draftValue := a_draftValue) (a_dOp := a_dOp) (a_dC := a_dC) (a_pOp := a_pOp) (a_pSize := a_pSize) (a_pC := a_pC) (a_position := a_position) (a_cell := a_cell) (a_noted := a_noted) (a_stack := a_stack) (a_before := a_before) (a_shown := a_shown) (a_gType := a_gType) (a_gTaken := a_gTaken) (a_gWaiting := a_gWaiting) (a_kCount := a_kCount) (a_gCursor := a_gCursor) (a_gParked := a_gParked) (a_kCursor := a_kCursor) (a_tAt := a_tAt) (a_tDue := a_tDue) (a_wAt := a_wAt) (a_kAt := a_kAt) (a_tTimes := a_tTimes) (a_wTimes := a_wTimes) (a_kTimes := a_kTimes) (g_count := g_count) (g_flushed := g_flushed) (g_calls := g_calls) (g_drafted := g_drafted) (g_top := g_top) (g_time := g_time) (b_isCut := b_isCut) (b_removed := b_removed) (b_stream := b_stream) (b_type := b_type) (b_from := b_from) (b_by := b_by) (b_value := b_value) (b_version := b_version) (b_on := b_on) (b_call := b_call) (b_draftType := b_draftType) (b_draftValue := b_draftValue) (b_op := b_op) (b_with := b_with) (b_length := b_length) (b_stack := b_stack) (b_position := b_position) (b_cells := b_cells) (b_noted := b_noted) (b_wanted := b_wanted) (b_formed := b_formed) (b_cursor := b_cursor) (b_parked := b_parked) (b_where := b_where) (b_often := b_often) (b_due := b_due) (b_many := b_many) (b_found := b_found) hn hop n 0 (by omega) _ _ _ _ hCR pk_us (fun i h => absurd h (Nat.not_lt_zero _))
  rw [nI_0] at s2 s3
  refine ⟨r, s1, fun post hp => ?_, fun post hp => ?_⟩
  · have key := es_x_ck2 (f_held := f_held) (f_records := f_records) (f_flushed := f_flushed) (f_summed := f_summed) (f_draft := f_draft) (f_drafted := f_drafted) (f_seen := f_seen) (f_time := f_time) (f_taken := f_taken) (a_at := a_at) (a_version := a_version) (a_value := a_value) (a_originAt := a_originAt) (a_stream := a_stream) (a_type := a_type) (a_originBy := a_originBy) (a_originCode := a_originCode) (a_goesOn := a_goesOn) (a_events := a_events) (a_cuts := a_cuts) (a_firm := a_firm) (a_cutsGone := a_cutsGone) (a_byVersion := a_byVersion) (a_byOrigin := a_byOrigin) (a_upTo := a_upTo) (a_draftType := a_draftType) (a_draftValue := a_draftValue) (a_dOp := a_dOp) (a_dC := a_dC) (a_pOp := a_pOp) (a_pSize := a_pSize) (a_pC := a_pC) (a_position := a_position) (a_cell := a_cell) (a_noted := a_noted) (a_stack := a_stack) (a_before := a_before) (a_shown := a_shown) (a_gType := a_gType) (a_gTaken := a_gTaken) (a_gWaiting := a_gWaiting) (a_kCount := a_kCount) (a_gCursor := a_gCursor) (a_gParked := a_gParked) (a_kCursor := a_kCursor) (a_tAt := a_tAt) (a_tDue := a_tDue) (a_wAt := a_wAt) (a_kAt := a_kAt) (a_tTimes := a_tTimes) (a_wTimes := a_wTimes) (a_kTimes := a_kTimes) (x1 := nI n) a_height a_clash (post := post) ⟨_, s2 post hp⟩ 15 0 (by omega)
    rw [es_iz_0, es_iz_0, nI_0] at key
    exact ⟨_, key⟩
  · have key := es_y_ck9 (g_count := g_count) (g_flushed := g_flushed) (g_calls := g_calls) (g_drafted := g_drafted) (g_top := g_top) (g_time := g_time) (b_isCut := b_isCut) (b_removed := b_removed) (b_stream := b_stream) (b_type := b_type) (b_from := b_from) (b_by := b_by) (b_value := b_value) (b_version := b_version) (b_on := b_on) (b_call := b_call) (b_draftType := b_draftType) (b_draftValue := b_draftValue) (b_op := b_op) (b_with := b_with) (b_length := b_length) (b_stack := b_stack) (b_position := b_position) (b_cells := b_cells) (b_noted := b_noted) (b_wanted := b_wanted) (b_formed := b_formed) (b_cursor := b_cursor) (b_parked := b_parked) (b_where := b_where) (b_often := b_often) (b_due := b_due) (b_many := b_many) (b_found := b_found) (x1 := nI n) b_height b_torn (post := post) ⟨_, s3 post hp⟩ 16 0 (by omega)
    rw [es_iz_0, es_iz_0, nI_0] at key
    exact nm_r en ⟨_, key⟩
end P
theorem i_vc_define {k : Nat} {u : SX} {v : SY} (I : i_Rel k u v) (hk : k + 4 ≤ 2048) (v1 : Int32) : wpX_define (fun r u' => wpY_define (fun r' v' => r' = r ∧ i_Rel (k + 4) u' v') v v1) u v1 := by
  refine es_el (P := fun u v => wpX_define (fun r u' => wpY_define (fun r' v' => r' = r ∧ i_Rel (k + 4) u' v') v v1) u v1) ?_ u v I
  intro f_held f_records f_flushed f_summed f_draft f_drafted f_seen f_time f_taken a_at a_version a_value a_originAt a_stream a_type a_originBy a_originCode a_goesOn a_events a_cuts a_firm a_cutsGone a_byVersion a_byOrigin a_draftType a_draftValue a_dOp a_dC a_height a_clash a_pOp a_pSize a_pC a_position a_cell a_noted a_stack a_before a_shown a_gType a_gTaken a_gWaiting a_kCount a_gCursor a_gParked a_kCursor a_tAt a_tDue a_wAt a_kAt a_tTimes a_wTimes a_kTimes a_upTo g_count g_flushed g_calls g_drafted g_top g_time b_isCut b_removed b_stream b_type b_from b_by b_value b_version b_on b_call b_draftType b_draftValue b_op b_with b_length b_height b_torn b_stack b_position b_cells b_noted b_wanted b_formed b_cursor b_parked b_where b_often b_due b_many b_found N F C L rm h1 h2 h3 h4 h5 h6 h7 h8 h9 h10
  show wpX_define (fun r u' => wpY_define (fun r' v' => r' = r ∧ i_Rel (k + 4) u' v') (g_count, g_flushed, g_calls, g_drafted, g_top, g_time, b_isCut, b_removed, b_stream, b_type, b_from, b_by, b_value, b_version, b_on, b_call, b_draftType, b_draftValue, b_op, b_with, b_length, b_height, b_torn, b_stack, b_position, b_cells, b_noted, b_wanted, b_formed, b_cursor, b_parked, b_where, b_often, b_due, b_many, b_found) v1) (f_held, f_records, f_flushed, f_summed, f_draft, f_drafted, f_seen, f_time, f_taken, a_at, a_version, a_value, a_originAt, a_stream, a_type, a_originBy, a_originCode, a_goesOn, a_events, a_cuts, a_firm, a_cutsGone, a_byVersion, a_byOrigin, a_upTo, a_draftType, a_draftValue, a_dOp, a_dC, a_height, a_clash, a_pOp, a_pSize, a_pC, a_position, a_cell, a_noted, a_stack, a_before, a_shown, a_gType, a_gTaken, a_gWaiting, a_kCount, a_gCursor, a_gParked, a_kCursor, a_tAt, a_tDue, a_wAt, a_kAt, a_tTimes, a_wTimes, a_kTimes) v1
  have h6' := h6
  obtain ⟨⟨D, hD, rfl, eD⟩, p2, p3, p4⟩ := h6
  have keep : i_Rel (k + 4) (f_held, f_records, f_flushed, f_summed, f_draft, nI D, f_seen, f_time, f_taken, a_at, a_version, a_value, a_originAt, a_stream, a_type, a_originBy, a_originCode, a_goesOn, a_events, a_cuts, a_firm, a_cutsGone, a_byVersion, a_byOrigin, a_upTo, a_draftType, a_draftValue, a_dOp, a_dC, a_height, a_clash, a_pOp, a_pSize, a_pC, a_position, a_cell, a_noted, a_stack, a_before, a_shown, a_gType, a_gTaken, a_gWaiting, a_kCount, a_gCursor, a_gParked, a_kCursor, a_tAt, a_tDue, a_wAt, a_kAt, a_tTimes, a_wTimes, a_kTimes) (g_count, g_flushed, g_calls, g_drafted, g_top, g_time, b_isCut, b_removed, b_stream, b_type, b_from, b_by, b_value, b_version, b_on, b_call, b_draftType, b_draftValue, b_op, b_with, b_length, b_height, b_torn, b_stack, b_position, b_cells, b_noted, b_wanted, b_formed, b_cursor, b_parked, b_where, b_often, b_due, b_many, b_found) := es_mk h1 h2 h3 (by omega) h5 h6' h7 h8 h9 h10
  have out : (v1 < 0 ∨ nI 3 ≤ v1) → wpX_define (fun r u' => wpY_define (fun r' v' => r' = r ∧ i_Rel (k + 4) u' v') (g_count, g_flushed, g_calls, g_drafted, g_top, g_time, b_isCut, b_removed, b_stream, b_type, b_from, b_by, b_value, b_version, b_on, b_call, b_draftType, b_draftValue, b_op, b_with, b_length, b_height, b_torn, b_stack, b_position, b_cells, b_noted, b_wanted, b_formed, b_cursor, b_parked, b_where, b_often, b_due, b_many, b_found) v1) (f_held, f_records, f_flushed, f_summed, f_draft, nI D, f_seen, f_time, f_taken, a_at, a_version, a_value, a_originAt, a_stream, a_type, a_originBy, a_originCode, a_goesOn, a_events, a_cuts, a_firm, a_cutsGone, a_byVersion, a_byOrigin, a_upTo, a_draftType, a_draftValue, a_dOp, a_dC, a_height, a_clash, a_pOp, a_pSize, a_pC, a_position, a_cell, a_noted, a_stack, a_before, a_shown, a_gType, a_gTaken, a_gWaiting, a_kCount, a_gCursor, a_gParked, a_kCursor, a_tAt, a_tDue, a_wAt, a_kAt, a_tTimes, a_wTimes, a_kTimes) v1 := fun c => by
    unfold wpX_define
    refine es_am0 (n := 3) c (br_t rfl ?_)
    unfold wpY_define
    exact es_out1 (n := 3) c (br_f es_10 ⟨rfl, keep⟩)
  rcases pk_ix v1 (n := 3) (by decide) with c | c | ⟨p, hp, rfl⟩
  · exact out (Or.inl c)
  · exact out (Or.inr c)
  clear out
  unfold wpX_define
  refine es_am1 (n := 3) hp (by decide) (br_f es_10 ?_)
  by_cases c0 : D = 0
  · subst c0
    refine br_t rfl ?_
    unfold wpY_define
    exact es_out0 (n := 3) hp (by decide) (br_t rfl (br_t eD ⟨rfl, keep⟩))
  have n0 : ¬ nI D = 0 := nI_ne0 (by omega) (by omega)
  refine br_f n0 ?_
  obtain ⟨r, s1, s2, s3⟩ := es_check (f_held := f_held) (f_records := f_records) (f_flushed := f_flushed) (f_summed := f_summed) (f_draft := f_draft) (f_drafted := nI D) (f_seen := f_seen) (f_time := f_time) (f_taken := f_taken) (a_at := a_at) (a_version := a_version) (a_value := a_value) (a_originAt := a_originAt) (a_stream := a_stream) (a_type := a_type) (a_originBy := a_originBy) (a_originCode := a_originCode) (a_goesOn := a_goesOn) (a_events := a_events) (a_cuts := a_cuts) (a_firm := a_firm) (a_cutsGone := a_cutsGone) (a_byVersion := a_byVersion) (a_byOrigin := a_byOrigin) (a_upTo := a_upTo) (a_draftType := a_draftType) (a_draftValue := a_draftValue) (a_dOp := a_dOp) (a_dC := a_dC) (a_height := a_height) (a_clash := a_clash) (a_pOp := a_pOp) (a_pSize := a_pSize) (a_pC := a_pC) (a_position := a_position) (a_cell := a_cell) (a_noted := a_noted) (a_stack := a_stack) (a_before := a_before) (a_shown := a_shown) (a_gType := a_gType) (a_gTaken := a_gTaken) (a_gWaiting := a_gWaiting) (a_kCount := a_kCount) (a_gCursor := a_gCursor) (a_gParked := a_gParked) (a_kCursor := a_kCursor) (a_tAt := a_tAt) (a_tDue := a_tDue) (a_wAt := a_wAt) (a_kAt := a_kAt) (a_tTimes := a_tTimes) (a_wTimes := a_wTimes) (a_kTimes := a_kTimes) (g_count := g_count) (g_flushed := g_flushed) (g_calls := g_calls) (g_drafted := g_drafted) (g_top := g_top) (g_time := g_time) (b_isCut := b_isCut) (b_removed := b_removed) (b_stream := b_stream) (b_type := b_type) (b_from := b_from) (b_by := b_by) (b_value := b_value) (b_version := b_version) (b_on := b_on) (b_call := b_call) (b_draftType := b_draftType) (b_draftValue := b_draftValue) (b_op := b_op) (b_with := b_with) (b_length := b_length) (b_height := b_height) (b_torn := b_torn) (b_stack := b_stack) (b_position := b_position) (b_cells := b_cells) (b_noted := b_noted) (b_wanted := b_wanted) (b_formed := b_formed) (b_cursor := b_cursor) (b_parked := b_parked) (b_where := b_where) (b_often := b_often) (b_due := b_due) (b_many := b_many) (b_found := b_found) hD eD p2
  have eF := h1.2.2.1
  have eG := h2.2.1
  have hFN := h3.2.1
  refine s2 _ (fun hX cl => ?_)
  have hY : ∀ {post : Int32 → SY → Prop}, (∀ hY' to', (r < 0 → ∃ n58, wY_define_58 post (nI p) (nI D) g_count g_flushed g_calls g_drafted g_top g_time n58 0 b_isCut b_removed b_stream b_type b_from b_by b_value b_version b_on b_call b_draftType b_draftValue b_op b_with (upd (upd b_length 3 0) p (nI D)) hY' to' b_stack b_position b_cells b_noted b_wanted b_formed b_cursor b_parked b_where b_often b_due b_many b_found) ∧ (¬ r < 0 → post (100 + r) (g_count, g_flushed, g_calls, g_drafted, g_top, g_time, b_isCut, b_removed, b_stream, b_type, b_from, b_by, b_value, b_version, b_on, b_call, b_draftType, b_draftValue, b_op, b_with, upd b_length 3 0, hY', to', b_stack, b_position, b_cells, b_noted, b_wanted, b_formed, b_cursor, b_parked, b_where, b_often, b_due, b_many, b_found))) → wpY_define post (g_count, g_flushed, g_calls, g_drafted, g_top, g_time, b_isCut, b_removed, b_stream, b_type, b_from, b_by, b_value, b_version, b_on, b_call, b_draftType, b_draftValue, b_op, b_with, b_length, b_height, b_torn, b_stack, b_position, b_cells, b_noted, b_wanted, b_formed, b_cursor, b_parked, b_where, b_often, b_due, b_many, b_found) (nI p) := fun {post} hq => by
    unfold wpY_define
    refine es_out0 (n := 3) hp (by decide) (br_t rfl (br_f (by rw [eD]; exact n0) (s3 _ (fun hY' to' => nm_r eD ?_))))
    rw [es_nb0, nI_clamp (show p < 2 ^ 31 by omega), es_b8 (show D < 128 by omega)]
    exact nm_e (br_c (fun z => ⟨vp_in_nI (by omega) (by decide), nm_e ((hq hY' to').1 z)⟩) (hq hY' to').2)
  have PGl : es_PG 0 a_dOp a_dC a_pOp a_pSize a_pC b_op b_with (upd b_length 3 0) := ⟨⟨0, by omega, rfl, pk_us⟩, p2, p3, fun p' hp' => by rw [pk_un (by omega)]; exact p4 p' hp'⟩
  rcases s1 with ⟨e, hWT⟩ | ⟨i0, hi0, e⟩
  · have rn : r < 0 := by rw [e]; exact es_neg1
    refine br_t rn ?_
    have k45 := es_x_df45 (f_held := f_held) (f_records := f_records) (f_flushed := f_flushed) (f_summed := f_summed) (f_draft := f_draft) (f_drafted := 0) (f_seen := f_seen) (f_time := f_time) (f_taken := f_taken) (a_at := a_at) (a_version := a_version) (a_value := a_value) (a_originAt := a_originAt) (a_stream := a_stream) (a_type := a_type) (a_originBy := a_originBy) (a_originCode := a_originCode) (a_goesOn := a_goesOn) (a_events := a_events) (a_cuts := a_cuts) (a_firm := a_firm) (a_cutsGone := a_cutsGone) (a_byVersion := a_byVersion) (a_byOrigin := a_byOrigin) (a_upTo := a_upTo) (a_draftType := a_draftType) (a_draftValue := a_draftValue) (a_dOp := a_dOp) (a_dC := a_dC) (a_height := hX) (a_clash := cl) (a_pSize := a_pSize) (a_position := a_position) (a_cell := a_cell) (a_noted := a_noted) (a_stack := a_stack) (a_before := a_before) (a_shown := a_shown) (a_gType := a_gType) (a_gTaken := a_gTaken) (a_gWaiting := a_gWaiting) (a_kCount := a_kCount) (a_gCursor := a_gCursor) (a_gParked := a_gParked) (a_kCursor := a_kCursor) (a_tAt := a_tAt) (a_tDue := a_tDue) (a_wAt := a_wAt) (a_kAt := a_kAt) (a_tTimes := a_tTimes) (a_wTimes := a_wTimes) (a_kTimes := a_kTimes) hp hD (fun i hi => (p2 i hi).2.2) a_pOp a_pC (post := fun r u' => wpY_define (fun r' v' => r' = r ∧ i_Rel (k + 4) u' v') (g_count, g_flushed, g_calls, g_drafted, g_top, g_time, b_isCut, b_removed, b_stream, b_type, b_from, b_by, b_value, b_version, b_on, b_call, b_draftType, b_draftValue, b_op, b_with, b_length, b_height, b_torn, b_stack, b_position, b_cells, b_noted, b_wanted, b_formed, b_cursor, b_parked, b_where, b_often, b_due, b_many, b_found) (nI p)) ?_ D 0 (by omega)
    · rw [es_mw_0, es_mw_0, nI_0] at k45
      exact ⟨_, k45⟩
    have k123 := es_x_df123 (f_held := f_held) (f_records := f_records) (f_flushed := f_flushed) (f_summed := f_summed) (f_draft := f_draft) (f_drafted := 0) (f_seen := f_seen) (f_time := f_time) (f_taken := f_taken) (a_at := a_at) (a_version := a_version) (a_value := a_value) (a_originAt := a_originAt) (a_stream := a_stream) (a_type := a_type) (a_originBy := a_originBy) (a_originCode := a_originCode) (a_goesOn := a_goesOn) (a_events := a_events) (a_cuts := a_cuts) (a_firm := a_firm) (a_cutsGone := a_cutsGone) (a_byVersion := a_byVersion) (a_byOrigin := a_byOrigin) (a_upTo := a_upTo) (a_draftType := a_draftType) (a_draftValue := a_draftValue) (a_dOp := a_dOp) (a_dC := a_dC) (a_height := hX) (a_clash := cl) (a_pOp := es_mw a_dOp a_pOp (14 * p) D) (a_pSize := upd a_pSize p (nI D)) (a_pC := es_mw a_dC a_pC (14 * p) D) (a_position := upd a_position p f_flushed) (a_noted := upd a_noted p 0) (a_stack := a_stack) (a_before := a_before) (a_shown := a_shown) (a_gType := a_gType) (a_gTaken := a_gTaken) (a_gWaiting := a_gWaiting) (a_kCount := a_kCount) (a_gCursor := a_gCursor) (a_gParked := a_gParked) (a_kCursor := a_kCursor) (a_tAt := a_tAt) (a_tDue := a_tDue) (a_wAt := a_wAt) (a_kAt := a_kAt) (a_tTimes := a_tTimes) (a_wTimes := a_wTimes) (a_kTimes := a_kTimes) hp a_cell (post := fun r u' => wpY_define (fun r' v' => r' = r ∧ i_Rel (k + 4) u' v') (g_count, g_flushed, g_calls, g_drafted, g_top, g_time, b_isCut, b_removed, b_stream, b_type, b_from, b_by, b_value, b_version, b_on, b_call, b_draftType, b_draftValue, b_op, b_with, b_length, b_height, b_torn, b_stack, b_position, b_cells, b_noted, b_wanted, b_formed, b_cursor, b_parked, b_where, b_often, b_due, b_many, b_found) (nI p)) ?_ 10 0 (by omega)
    · rw [es_mw_0, nI_0] at k123
      exact ⟨_, k123⟩
    refine es_x_copyR (by omega) (by omega) (by omega) (es_RW_id _ _) (fun pos cell R => hY (fun hY' to' => br_t rn ?_))
    have k58 := es_y_df58 (g_count := g_count) (g_flushed := g_flushed) (g_calls := g_calls) (g_drafted := g_drafted) (g_top := g_top) (g_time := g_time) (b_isCut := b_isCut) (b_removed := b_removed) (b_stream := b_stream) (b_type := b_type) (b_from := b_from) (b_by := b_by) (b_value := b_value) (b_version := b_version) (b_on := b_on) (b_call := b_call) (b_draftType := b_draftType) (b_draftValue := b_draftValue) (b_length := upd (upd b_length 3 0) p (nI D)) (b_height := hY') (b_torn := to') (b_stack := b_stack) (b_position := b_position) (b_cells := b_cells) (b_noted := b_noted) (b_wanted := b_wanted) (b_formed := b_formed) (b_cursor := b_cursor) (b_parked := b_parked) (b_where := b_where) (b_often := b_often) (b_due := b_due) (b_many := b_many) (b_found := b_found) hp hD b_op b_with (fun i hi => by obtain ⟨q1, q2, o, q3, q4⟩ := p2 i hi; exact ⟨o, q3, q1.trans q4⟩) (post := fun r' v' => r' = 0 ∧ i_Rel (k + 4) (f_held, f_records, f_flushed, f_summed, f_draft, 0, f_seen, f_time, f_taken, a_at, a_version, a_value, a_originAt, a_stream, a_type, a_originBy, a_originCode, a_goesOn, a_events, a_cuts, a_firm, a_cutsGone, a_byVersion, a_byOrigin, a_upTo, a_draftType, a_draftValue, a_dOp, a_dC, hX, cl, es_mw a_dOp a_pOp (14 * p) D, upd a_pSize p (nI D), es_mw a_dC a_pC (14 * p) D, pos, cell, upd a_noted p 0, a_stack, a_before, a_shown, a_gType, a_gTaken, a_gWaiting, a_kCount, a_gCursor, a_gParked, a_kCursor, a_tAt, a_tDue, a_wAt, a_kAt, a_tTimes, a_wTimes, a_kTimes) v') ?_ D 0 (by omega)
    · rw [es_mv_0, es_mv_0, nI_0] at k58
      exact ⟨_, k58⟩
    have k127 := es_y_df127 (g_count := g_count) (g_flushed := g_flushed) (g_calls := g_calls) (g_drafted := g_drafted) (g_top := g_top) (g_time := g_time) (b_isCut := b_isCut) (b_removed := b_removed) (b_stream := b_stream) (b_type := b_type) (b_from := b_from) (b_by := b_by) (b_value := b_value) (b_version := b_version) (b_on := b_on) (b_call := b_call) (b_draftType := b_draftType) (b_draftValue := b_draftValue) (b_op := es_mv b_op 42 (14 * p) D) (b_with := es_mv b_with 42 (14 * p) D) (b_length := upd (upd b_length 3 0) p (nI D)) (b_height := hY') (b_torn := to') (b_stack := b_stack) (b_position := upd b_position p g_flushed) (b_noted := b_noted) (b_wanted := b_wanted) (b_formed := b_formed) (b_cursor := b_cursor) (b_parked := b_parked) (b_where := b_where) (b_often := b_often) (b_due := b_due) (b_many := b_many) (b_found := b_found) hp b_cells (post := fun r' v' => r' = 0 ∧ i_Rel (k + 4) (f_held, f_records, f_flushed, f_summed, f_draft, 0, f_seen, f_time, f_taken, a_at, a_version, a_value, a_originAt, a_stream, a_type, a_originBy, a_originCode, a_goesOn, a_events, a_cuts, a_firm, a_cutsGone, a_byVersion, a_byOrigin, a_upTo, a_draftType, a_draftValue, a_dOp, a_dC, hX, cl, es_mw a_dOp a_pOp (14 * p) D, upd a_pSize p (nI D), es_mw a_dC a_pC (14 * p) D, pos, cell, upd a_noted p 0, a_stack, a_before, a_shown, a_gType, a_gTaken, a_gWaiting, a_kCount, a_gCursor, a_gParked, a_kCursor, a_tAt, a_tDue, a_wAt, a_kAt, a_tTimes, a_wTimes, a_kTimes) v') (fun pos' cell' R' => ⟨rfl, ?_⟩) 10 0 (by omega)
    · rw [es_mw_0, nI_0] at k127
      exact ⟨_, k127⟩
    refine es_mk h1 h2 h3 (by omega) h5 ⟨⟨0, by omega, rfl, (pk_un (by omega)).trans pk_us⟩, fun i hi => ?_, fun j hj => ?_, fun p' hp' => ?_⟩ (fun p' hp' hz => ?_) h8 h9 h10
    · rw [es_mv_o (by omega), es_mv_o (by omega)]; exact p2 i hi
    · by_cases z : 14 * p ≤ j ∧ j < 14 * p + D
      · obtain ⟨q, rfl⟩ : ∃ q, j = 14 * p + q := ⟨j - 14 * p, by omega⟩
        rw [es_mv_i (by omega), es_mv_i (by omega), es_mw_i (by omega), es_mw_i (by omega)]
        exact ⟨(p2 q (by omega)).1, (p2 q (by omega)).2.1⟩
      · rw [es_mv_o (by omega), es_mv_o (by omega), es_mw_o (by omega), es_mw_o (by omega)]
        exact p3 j hj
    · by_cases z : p' = p
      · subst z
        refine ⟨D, hD, pk_us, pk_us, es_WT_cg hWT (fun i hi => ?_)⟩
        rw [es_mw_i hi, es_mw_i hi, Nat.zero_add]
        exact ⟨rfl, rfl⟩
      · obtain ⟨n, q1, q2, q3, q4⟩ := p4 p' hp'
        refine ⟨n, q1, (pk_un z).trans q2, (pk_un z).trans ((pk_un (by omega)).trans q3), es_WT_cg q4 (fun i hi => ?_)⟩
        rw [es_mw_o (by omega), es_mw_o (by omega)]
        exact ⟨rfl, rfl⟩
    · have ra := es_RW_at R p' (by omega) (if_neg (by omega))
      have ra' := es_RW_at R' p' (by omega) (if_neg (by omega))
      by_cases z : p' = p
      · subst z
        have rb := es_RW_at R p' (show 3 + p' < 9 by omega) (if_pos rfl)
        have rb' := es_RW_at R' p' (show 3 + p' < 9 by omega) (if_pos rfl)
        rw [ra.1, ra'.1, rb.1, rb'.1, pk_us, pk_us, pk_us, pk_us]
        refine ⟨rfl, F, F, eF, eG, hFN, eF, eG, Nat.le_refl _, Nat.le_refl _, fun i hi => (h3.2.2.2.1 i hi).1, fun k hk => ?_, fun z => absurd rfl z⟩
        rw [ra.2 k hk, ra'.2 k hk, rb.2 k hk, rb'.2 k hk, es_mw_i hk, es_mw_i hk]
        exact ⟨rfl, rfl⟩
      · have rb := es_RW_at R (3 + p') (by omega) (if_neg (by omega))
        have rb' := es_RW_at R' (3 + p') (by omega) (if_neg (by omega))
        have rc := es_RW_at R (6 + p') (by omega) (if_neg (by omega))
        have rc' := es_RW_at R' (6 + p') (by omega) (if_neg (by omega))
        rw [pk_un z] at hz
        obtain ⟨f1, P, K, g1, g2, g3, g4, g5, g6, g7, g8, g9, g10⟩ := h7 p' hp' hz
        rw [ra.1, ra'.1, rb.1, rb'.1, pk_un z, pk_un z, pk_un z, pk_un z, pk_un (by omega), pk_un (by omega)]
        refine ⟨f1, P, K, g1, g2, g3, g4, g5, g6, g7, g8, fun k hk => ?_, fun hz' => ?_⟩
        · rw [ra.2 k hk, ra'.2 k hk, rb.2 k hk, rb'.2 k hk, es_mw_o (by omega), es_mw_o (by omega), es_mw_o (by omega), es_mw_o (by omega)]
          exact g9 k hk
        · obtain ⟨T, t1, t2, t3, t4, t5⟩ := g10 hz'
          rw [rc.1, rc'.1, pk_un (by omega), pk_un (by omega)]
          refine ⟨T, t1, t2, t3, t4, fun k hk => ?_⟩
          rw [rc.2 k hk, rc'.2 k hk, es_mw_o (by omega), es_mw_o (by omega)]
          exact t5 k hk
  · have rn : ¬ r < 0 := by rw [e]; exact nI_pos (by omega)
    exact br_f rn (hY (fun hY' to' => br_f rn ⟨rfl, es_mk h1 h2 h3 (by omega) h5 PGl h7 h8 h9 h10⟩))
end ES51
end
section
/-! emit -/
section ES60
theorem es_c8 : ∀ c, c < 40 → nI c >>> ((3 : Int32) &&& 31) = nI (c / 8) ∧ nI c &&& 7 = nI (c % 8) ∧ nI c / 8 = nI (c / 8) ∧ nI c - nI c / 8 * 8 = nI (c % 8) := by decide +kernel
section X
variable {f_held f_records f_flushed f_summed f_draft f_drafted f_seen f_time f_taken : Int32} {a_at a_version a_value a_originAt a_stream a_type a_originBy a_originCode a_goesOn a_events a_cuts a_firm a_cutsGone a_byVersion a_byOrigin a_draftType a_draftValue a_dOp a_dC a_height a_clash a_pOp a_pSize a_pC a_position a_cell a_noted a_stack a_before a_shown a_gType a_gTaken a_gWaiting a_kCount a_gCursor a_gParked a_kCursor a_tAt a_tDue a_wAt a_kAt a_tTimes a_wTimes a_kTimes : Nat → Int32} {a_upTo : Nat → Int64} {N F C : Nat} {L : Nat → es_Ev} {rm : Nat → Bool}
theorem es_x_emit {p q b c : Nat} {v : Int32} (h : es_CX N F L rm False f_held f_records f_flushed f_summed a_at a_version a_value a_originAt a_stream a_type a_originBy a_originCode a_goesOn a_events a_cuts a_firm a_cutsGone a_byVersion a_byOrigin a_upTo) (W : es_WL N F C L rm) (hp : p < 3) (hq : q < N) (hb : b < 14) (hc : c < 40) {post : Int32 → SX → Prop} (hA : (∃ i, i < N ∧ rm i = false ∧ es_c (L i) = false ∧ es_o (L i) = some (p, q, b)) → post 1 (f_held, f_records, f_flushed, f_summed, f_draft, f_drafted, f_seen, f_time, f_taken, a_at, a_version, a_value, a_originAt, a_stream, a_type, a_originBy, a_originCode, a_goesOn, a_events, a_cuts, a_firm, a_cutsGone, a_byVersion, a_byOrigin, a_upTo, a_draftType, a_draftValue, a_dOp, a_dC, a_height, a_clash, a_pOp, a_pSize, a_pC, a_position, a_cell, a_noted, a_stack, a_before, a_shown, a_gType, a_gTaken, a_gWaiting, a_kCount, a_gCursor, a_gParked, a_kCursor, a_tAt, a_tDue, a_wAt, a_kAt, a_tTimes, a_wTimes, a_kTimes))
    (hF : ¬ (∃ i, i < N ∧ rm i = false ∧ es_c (L i) = false ∧ es_o (L i) = some (p, q, b)) → (es_Q rm N = 40 ∨ N = 2000) → post 0 (f_held, f_records, f_flushed, f_summed, f_draft, f_drafted, f_seen, f_time, f_taken, a_at, a_version, a_value, a_originAt, a_stream, a_type, a_originBy, a_originCode, a_goesOn, a_events, a_cuts, a_firm, a_cutsGone, a_byVersion, a_byOrigin, a_upTo, a_draftType, a_draftValue, a_dOp, a_dC, a_height, a_clash, a_pOp, a_pSize, a_pC, a_position, a_cell, a_noted, a_stack, a_before, a_shown, a_gType, a_gTaken, a_gWaiting, a_kCount, a_gCursor, a_gParked, a_kCursor, a_tAt, a_tDue, a_wAt, a_kAt, a_tTimes, a_wTimes, a_kTimes))
    (hN : ¬ (∃ i, i < N ∧ rm i = false ∧ es_c (L i) = false ∧ es_o (L i) = some (p, q, b)) → es_Q rm N < 40 → N < 2000 → ∀ (f_held' f_records' f_summed' : Int32) (a_at' a_version' a_value' a_originAt' a_stream' a_type' a_originBy' a_originCode' a_goesOn' a_events' a_byVersion' a_byOrigin' : Nat → Int32), es_CX (N + 1) F (es_up L N (false, c / 8, c % 8, v, es_E L (c / 8) N, some (p, q, b), C + 1)) rm False f_held' f_records' f_flushed f_summed' a_at' a_version' a_value' a_originAt' a_stream' a_type' a_originBy' a_originCode' a_goesOn' a_events' a_cuts a_firm a_cutsGone a_byVersion' a_byOrigin' a_upTo → post 1 (f_held', f_records', f_flushed, f_summed', f_draft, f_drafted, f_seen, f_time, f_taken, a_at', a_version', a_value', a_originAt', a_stream', a_type', a_originBy', a_originCode', a_goesOn', a_events', a_cuts, a_firm, a_cutsGone, a_byVersion', a_byOrigin', a_upTo, a_draftType, a_draftValue, a_dOp, a_dC, a_height, a_clash, a_pOp, a_pSize, a_pC, a_position, a_cell, a_noted, a_stack, a_before, a_shown, a_gType, a_gTaken, a_gWaiting, a_kCount, a_gCursor, a_gParked, a_kCursor, a_tAt, a_tDue, a_wAt, a_kAt, a_tTimes, a_wTimes, a_kTimes)) : wpX_emit post (f_held, f_records, f_flushed, f_summed, f_draft, f_drafted, f_seen, f_time, f_taken, a_at, a_version, a_value, a_originAt, a_stream, a_type, a_originBy, a_originCode, a_goesOn, a_events, a_cuts, a_firm, a_cutsGone, a_byVersion, a_byOrigin, a_upTo, a_draftType, a_draftValue, a_dOp, a_dC, a_height, a_clash, a_pOp, a_pSize, a_pC, a_position, a_cell, a_noted, a_stack, a_before, a_shown, a_gType, a_gTaken, a_gWaiting, a_kCount, a_gCursor, a_gParked, a_kCursor, a_tAt, a_tDue, a_wAt, a_kAt, a_tTimes, a_wTimes, a_kTimes) (nI p) (nI q) (nI b) (nI c) v := by
  have h' := h
  obtain ⟨rfl, rfl, rfl, T, A, G, HV, HO, S⟩ := h
  have hN0 := W.1
  have hq0 := W.2.2.1
  obtain ⟨c1, c2, -⟩ := es_c8 c hc
  have hrN := es_rmN W W.2.1
  unfold wpX_emit
  refine es_x_emitted h' W hp (by omega) hb (fun z => br_f es_10 (hA z)) (fun z => br_t rfl ?_)
  have nA : ¬ (∃ i, i < N ∧ rm i = false ∧ es_c (L i) = false ∧ es_o (L i) = some (p, q, b)) := fun ⟨i, a1, a2, a3⟩ => z i a1 a2 a3
  refine pk_eq (es_Q rm N) 40 (fun y => hF nA (Or.inl y)) (fun y => pk_eq N 2000 (fun y2 => hF nA (Or.inr y2)) (fun y2 => nm_r c1 ?_))
  have hv5 : vp_in (nI (c / 8)) 5 := vp_in_nI (by omega) (by decide)
  have hE := es_E_le L (c / 8) N
  rw [nI_clamp (show c / 8 < 2 ^ 31 by omega), (A (c / 8) (by omega)).1, nI_1, c2]
  refine ⟨hv5, hv5, nm_e (es_x_put (H := es_Q rm N) (M := N) (by omega) ?_)⟩
  dsimp only
  rw [nI_pred, nI_clamp (show es_Q rm N < 2 ^ 31 by omega), es_b8 (show c / 8 < 128 by omega), es_b8 (show c % 8 < 128 by omega), es_b8 (show p < 128 by omega), es_b8 (show b < 128 by omega)]
  have hvQ : vp_in (nI (es_Q rm N)) 40 := vp_in_nI (by omega) (by decide)
  have hj : ∀ (f : Nat → Int32) (x y : Int32) (j : Nat), j ≠ es_Q rm N → upd (upd f (es_Q rm N) x) (es_Q rm N) y j = f j := fun f x y j hj => (pk_un hj).trans (pk_un hj)
  have T' := es_XT_add (upd a_at (es_Q rm N) (nI N)) (upd a_version (es_Q rm N) (nI (es_E L (c / 8) N))) (upd a_value (es_Q rm N) v) (upd (upd a_originAt (es_Q rm N) (-1)) (es_Q rm N) (nI q)) (upd a_stream (es_Q rm N) (nI (c / 8))) (upd a_type (es_Q rm N) (nI (c % 8))) (upd (upd a_originBy (es_Q rm N) (-1)) (es_Q rm N) (nI p)) (upd (upd a_originCode (es_Q rm N) 0) (es_Q rm N) (nI b)) (e := (false, c / 8, c % 8, v, es_E L (c / 8) N, some (p, q, b), C + 1)) T hrN (fun j z => ⟨pk_un z, pk_un z, pk_un z, hj _ _ _ j z, pk_un z, pk_un z, hj _ _ _ j z, hj _ _ _ j z⟩) (by rw [pk_us, pk_us, pk_us, pk_us, pk_us, pk_us, pk_us, pk_us]; exact ⟨rfl, rfl, (fun z => nomatch z), fun _ => ⟨rfl, rfl, rfl, rfl, rfl, rfl⟩⟩)
  have A' := es_AG_ev (e := (false, c / 8, c % 8, v, es_E L (c / 8) N, some (p, q, b), C + 1)) W.2.1 hrN rfl rfl A
  have G' := es_GO_add (e := (false, c / 8, c % 8, v, es_E L (c / 8) N, some (p, q, b), C + 1)) (pd' := False) (z := 0) W G (es_lk W (Nat.lt_succ_self C)) (Or.inl rfl) ⟨fun _ => id, fun _ => rfl⟩ (a_goesOn' := upd a_goesOn (es_Q rm N) 0) pk_us (fun j hj => pk_un hj)
  have HV' := es_HV_cg HV (fun i hi => (es_up_lt (L := L) (e := (false, c / 8, c % 8, v, es_E L (c / 8) N, some (p, q, b), C + 1)) i hi).symm)
  have HO' := es_HO_cg HO (fun i hi => (es_up_lt (L := L) (e := (false, c / 8, c % 8, v, es_E L (c / 8) N, some (p, q, b), C + 1)) i hi).symm)
  refine ⟨hvQ, nm_e ⟨hvQ, nm_e ⟨hvQ, nm_e (es_x_index (i := N) (by omega) hrN ?_ ?_ (T' N (Nat.lt_succ_self _) hrN) HV' HO' (fun hv hx k1 k2 => ?_))⟩⟩⟩
  · rw [es_up_s]
    show c % 8 < 8
    omega
  · intro p' o' b' z
    rw [es_up_s] at z
    cases z
    exact hp
  · exact hN nA (by omega) (by omega) _ _ _ _ _ _ _ _ _ _ _ _ _ _ _ ⟨by rw [es_Q_f hrN], rfl, rfl, T', A', G', k1, k2, Or.inl rfl⟩
end X
section Y
variable {g_count g_flushed g_calls g_drafted g_top g_time : Int32} {b_isCut b_removed b_stream b_type b_from b_by b_value b_version b_on b_call b_draftType b_draftValue b_op b_with b_length b_height b_torn b_stack b_position b_cells b_noted b_wanted b_formed b_cursor b_parked b_where b_often b_due b_many b_found : Nat → Int32} {N F C : Nat} {L : Nat → es_Ev} {rm : Nat → Bool}
theorem es_y_emit3 {p q b c : Nat} {v : Int32} (h : es_CY N F C L rm (nI N) (nI F) (nI C) b_isCut b_removed b_stream b_type b_from b_by b_value b_version b_on b_call) (W : es_WL N F C L rm) (hp : p < 3) (hq : q < N) (hb : b < 14) (hc : c < 40) (hnr : ∀ i, rm i = true → es_o (L i) ≠ some (p, q, b)) {post : Int32 → SY → Prop} (hA : (∃ i, i < N ∧ rm i = false ∧ es_c (L i) = false ∧ es_o (L i) = some (p, q, b)) → post 1 (nI N, nI F, nI C, g_drafted, g_top, g_time, b_isCut, b_removed, b_stream, b_type, b_from, b_by, b_value, b_version, b_on, b_call, b_draftType, b_draftValue, b_op, b_with, b_length, b_height, b_torn, b_stack, b_position, b_cells, b_noted, b_wanted, b_formed, b_cursor, b_parked, b_where, b_often, b_due, b_many, b_found))
    (hF : ¬ (∃ i, i < N ∧ rm i = false ∧ es_c (L i) = false ∧ es_o (L i) = some (p, q, b)) → (es_Q rm N = 40 ∨ N = 2000) → post 0 (nI N, nI F, nI C, g_drafted, g_top, g_time, b_isCut, b_removed, b_stream, b_type, b_from, b_by, b_value, b_version, b_on, b_call, b_draftType, b_draftValue, b_op, b_with, b_length, b_height, b_torn, b_stack, b_position, b_cells, b_noted, b_wanted, b_formed, b_cursor, b_parked, b_where, b_often, b_due, b_many, b_found))
    (hN : ¬ (∃ i, i < N ∧ rm i = false ∧ es_c (L i) = false ∧ es_o (L i) = some (p, q, b)) → es_Q rm N < 40 → N < 2000 → ∀ (g_count' g_calls' : Int32) (b_isCut' b_removed' b_stream' b_type' b_from' b_by' b_value' b_version' b_on' b_call' : Nat → Int32), es_CY (N + 1) F (C + 1) (es_up L N (false, c / 8, c % 8, v, es_E L (c / 8) N, some (p, q, b), C + 1)) rm g_count' (nI F) g_calls' b_isCut' b_removed' b_stream' b_type' b_from' b_by' b_value' b_version' b_on' b_call' → post 1 (g_count', nI F, g_calls', g_drafted, g_top, g_time, b_isCut', b_removed', b_stream', b_type', b_from', b_by', b_value', b_version', b_on', b_call', b_draftType, b_draftValue, b_op, b_with, b_length, b_height, b_torn, b_stack, b_position, b_cells, b_noted, b_wanted, b_formed, b_cursor, b_parked, b_where, b_often, b_due, b_many, b_found)) :
    ∀ d i, i + d = N → (∀ i', i' < i → ¬ (es_c (L i') = false ∧ es_o (L i') = some (p, q, b))) → wY_emit_3 post (nI p) (nI q) (nI b) (nI c) v (nI N) (nI F) (nI C) g_drafted g_top g_time b_isCut b_removed b_stream b_type b_from b_by b_value b_version b_on b_call b_draftType b_draftValue b_op b_with b_length b_height b_torn b_stack b_position b_cells b_noted b_wanted b_formed b_cursor b_parked b_where b_often b_due b_many b_found (d + 1) (nI i) := by
  have hN0 := W.1
  have hq0 := W.2.2.1
  obtain ⟨-, -, c3, c4⟩ := es_c8 c hc
  intro d
  induction d with
  | zero =>
    intro i hi hb'
    have e : i = N := by omega
    subst e
    have nA : ¬ (∃ j, j < i ∧ rm j = false ∧ es_c (L j) = false ∧ es_o (L j) = some (p, q, b)) := fun ⟨j, a1, a2, a3⟩ => hb' j a1 a3
    refine br_t (nI_le (Nat.le_refl _) (by omega)) (es_y_there h hN0 (pk_eq (es_Q rm i) 40 (fun y => hF nA (Or.inl y)) (fun y => pk_eq i 2000 (fun y2 => hF nA (Or.inr y2)) (fun y2 => nm_r (nI_1 C) ⟨by decide, by decide, ?_⟩))))
    rw [c4, c3]
    refine es_y_add (c := false) (C := C + 1) ⟨rfl, rfl, rfl, h.2.2.2⟩ (es_WL_C W (by omega)) (by omega) (by omega) (by omega) (fun b1 b2 b3 b4 b5 b6 b7 b8 b9 hcy => ?_)
    have hv : vp_in (nI i) 2000 := vp_in_nI (by omega) (by decide)
    rw [nI_clamp (show i < 2 ^ 31 by omega), es_b8 (show p < 128 by omega), es_b8 (show b < 128 by omega)]
    refine ⟨hv, nm_e ⟨hv, nm_e ⟨hv, nm_e (hN nA (by omega) (by omega) _ _ _ _ _ _ _ _ _ _ _ _ ⟨rfl, rfl, rfl, fun j hj => ?_⟩)⟩⟩⟩
    have hr := hcy.2.2.2 j hj
    by_cases e : j = i
    · subst e
      rw [es_up_s] at hr ⊢
      obtain ⟨r1, r2, r3, r4, r5, r6, r7, r8⟩ := hr
      simp only [pk_us]
      exact ⟨r1, r2, r3, r4, r5, r6, r7, rfl, rfl, rfl⟩
    · rw [es_up_n e] at hr ⊢
      simp only [pk_un e]
      exact hr
  | succ d ih =>
    intro i hi hb'
    have hin : i < N := by omega
    have hv : vp_in (nI i) 2000 := vp_in_nI (by omega) (by decide)
    have nx : ¬ (es_c (L i) = false ∧ es_o (L i) = some (p, q, b)) → wY_emit_3 post (nI p) (nI q) (nI b) (nI c) v (nI N) (nI F) (nI C) g_drafted g_top g_time b_isCut b_removed b_stream b_type b_from b_by b_value b_version b_on b_call b_draftType b_draftValue b_op b_with b_length b_height b_torn b_stack b_position b_cells b_noted b_wanted b_formed b_cursor b_parked b_where b_often b_due b_many b_found (d + 1) (nI (i + 1)) := fun z => ih (i + 1) (by omega) (fun i' hi' => by
      by_cases e : i' = i
      · rw [e]; exact z
      · exact hb' i' (by omega))
    obtain ⟨r1, r2, r3, r4, r5, r6, r7, r8⟩ := h.2.2.2 i hin
    refine br_f (nI_ge hin (by omega)) ⟨hv, ?_⟩
    rw [nI_clamp (show i < 2 ^ 31 by omega), r1]
    refine es_bc (fun hc0 => ⟨hv, ?_⟩) (fun hc1 => nm_r (nI_1 i) (nx (fun z => by rw [hc1] at z; exact absurd z.1 (by decide))))
    cases hO : es_o (L i) with
    | none =>
      rw [hO] at r8
      rw [r8.1]
      exact br_f (fun z => es_nm (n := p) (by omega) z.symm) (nm_r (nI_1 i) (nx (fun z => by rw [hO] at z; exact nomatch z.2)))
    | some k =>
      obtain ⟨p', q', b'⟩ := k
      rw [hO] at r8
      have w := (W.2.2.2.2 i hin).2.2.2.2.1 p' q' b' hO
      rw [r8.1, r8.2.1, r8.2.2]
      refine pk_eq p' p (fun e1 => ⟨hv, pk_eq q' q (fun e2 => ⟨hv, pk_eq b' b (fun e3 => ?_) (fun e3 => nm_r (nI_1 i) (nx (fun z => ?_)))⟩) (fun e2 => nm_r (nI_1 i) (nx (fun z => ?_)))⟩) (fun e1 => nm_r (nI_1 i) (nx (fun z => ?_)))
      · subst e1 e2 e3
        refine hA ⟨i, hin, ?_, hc0, hO⟩
        cases e : rm i
        · rfl
        · exact absurd hO (hnr i e)
      all_goals
        rw [hO] at z
        have z2 := z.2
        injection z2 with z3
        injection z3 with z4 z5
        injection z5 with z6 z7
        omega
theorem es_y_emit {p q b c : Nat} {v : Int32} (h : es_CY N F C L rm g_count g_flushed g_calls b_isCut b_removed b_stream b_type b_from b_by b_value b_version b_on b_call) (W : es_WL N F C L rm) (hp : p < 3) (hq : q < N) (hb : b < 14) (hc : c < 40) (hnr : ∀ i, rm i = true → es_o (L i) ≠ some (p, q, b)) {post : Int32 → SY → Prop} (hA : (∃ i, i < N ∧ rm i = false ∧ es_c (L i) = false ∧ es_o (L i) = some (p, q, b)) → post 1 (g_count, g_flushed, g_calls, g_drafted, g_top, g_time, b_isCut, b_removed, b_stream, b_type, b_from, b_by, b_value, b_version, b_on, b_call, b_draftType, b_draftValue, b_op, b_with, b_length, b_height, b_torn, b_stack, b_position, b_cells, b_noted, b_wanted, b_formed, b_cursor, b_parked, b_where, b_often, b_due, b_many, b_found))
    (hF : ¬ (∃ i, i < N ∧ rm i = false ∧ es_c (L i) = false ∧ es_o (L i) = some (p, q, b)) → (es_Q rm N = 40 ∨ N = 2000) → post 0 (g_count, g_flushed, g_calls, g_drafted, g_top, g_time, b_isCut, b_removed, b_stream, b_type, b_from, b_by, b_value, b_version, b_on, b_call, b_draftType, b_draftValue, b_op, b_with, b_length, b_height, b_torn, b_stack, b_position, b_cells, b_noted, b_wanted, b_formed, b_cursor, b_parked, b_where, b_often, b_due, b_many, b_found))
    (hN : ¬ (∃ i, i < N ∧ rm i = false ∧ es_c (L i) = false ∧ es_o (L i) = some (p, q, b)) → es_Q rm N < 40 → N < 2000 → ∀ (g_count' g_calls' : Int32) (b_isCut' b_removed' b_stream' b_type' b_from' b_by' b_value' b_version' b_on' b_call' : Nat → Int32), es_CY (N + 1) F (C + 1) (es_up L N (false, c / 8, c % 8, v, es_E L (c / 8) N, some (p, q, b), C + 1)) rm g_count' g_flushed g_calls' b_isCut' b_removed' b_stream' b_type' b_from' b_by' b_value' b_version' b_on' b_call' → post 1 (g_count', g_flushed, g_calls', g_drafted, g_top, g_time, b_isCut', b_removed', b_stream', b_type', b_from', b_by', b_value', b_version', b_on', b_call', b_draftType, b_draftValue, b_op, b_with, b_length, b_height, b_torn, b_stack, b_position, b_cells, b_noted, b_wanted, b_formed, b_cursor, b_parked, b_where, b_often, b_due, b_many, b_found)) : wpY_emit post (g_count, g_flushed, g_calls, g_drafted, g_top, g_time, b_isCut, b_removed, b_stream, b_type, b_from, b_by, b_value, b_version, b_on, b_call, b_draftType, b_draftValue, b_op, b_with, b_length, b_height, b_torn, b_stack, b_position, b_cells, b_noted, b_wanted, b_formed, b_cursor, b_parked, b_where, b_often, b_due, b_many, b_found) (nI p) (nI q) (nI b) (nI c) v := by
  have h' := h
  obtain ⟨rfl, rfl, rfl, hr⟩ := h
  have key := es_y_emit3 (g_drafted := g_drafted) (g_top := g_top) (g_time := g_time) (b_isCut := b_isCut) (b_removed := b_removed) (b_stream := b_stream) (b_type := b_type) (b_from := b_from) (b_by := b_by) (b_value := b_value) (b_version := b_version) (b_on := b_on) (b_call := b_call) (b_draftType := b_draftType) (b_draftValue := b_draftValue) (b_op := b_op) (b_with := b_with) (b_length := b_length) (b_height := b_height) (b_torn := b_torn) (b_stack := b_stack) (b_position := b_position) (b_cells := b_cells) (b_noted := b_noted) (b_wanted := b_wanted) (b_formed := b_formed) (b_cursor := b_cursor) (b_parked := b_parked) (b_where := b_where) (b_often := b_often) (b_due := b_due) (b_many := b_many) (b_found := b_found) h' W hp hq hb hc hnr hA hF hN N 0 (by omega) (fun i h => absurd h (Nat.not_lt_zero _))
  rw [nI_0] at key
  exact ⟨_, key⟩
end Y
end ES60
end
section
/-! one instruction: Y's step, X's arithmetic -/
section ES61
def es_ar (o : Nat) (x y : Int32) : Int32 := if o = 4 then x + y else if o = 5 then x - y else if o = 6 then x * y else if y ≤ x then 0 else 1
theorem es_x_arith {o : Nat} {x y : Int32} (h : o = 4 ∨ o = 5 ∨ o = 6 ∨ o = 7) {post : Int32 → Prop} (hp : post (es_ar o x y)) : wpX_arithmetic post (nI o) x y := by
  unfold wpX_arithmetic
  rcases h with rfl | rfl | rfl | rfl
  · exact br_f (by decide) (br_f (by decide) (br_t rfl hp))
  · exact br_f (by decide) (br_f (by decide) (br_f (by decide) (br_t rfl hp)))
  · exact br_f (by decide) (br_f (by decide) (br_f (by decide) (br_f (by decide) (br_t rfl hp))))
  · refine br_f (by decide) (br_t (by decide) ?_)
    have e : es_ar 7 x y = if y ≤ x then 0 else 1 := rfl
    rw [e] at hp
    by_cases c : y ≤ x
    · rw [if_pos c] at hp; exact br_t c hp
    · rw [if_neg c] at hp; exact br_f c hp
theorem es_stk {a s : Nat → Int32} {top : Nat} {x : Int32} (h : ∀ j, j < top → a j = s j) : ∀ j, j < top + 1 → upd a top x j = upd s top x j := fun j hj => by
  by_cases e : j = top
  · rw [e, pk_us, pk_us]
  · rw [pk_un e, pk_un e]; exact h j (by omega)
theorem es_stu {a s : Nat → Int32} {top k : Nat} {x : Int32} (h : ∀ j, j < top → a j = s j) : ∀ j, j < top → upd a k x j = upd s k x j := fun j hj => by
  by_cases e : j = k
  · rw [e, pk_us, pk_us]
  · rw [pk_un e, pk_un e]; exact h j hj
theorem es_ix {p s q : Nat} : 10 * nI p + 2 * nI s + nI q = nI (10 * p + (2 * s + q)) := by
  rw [show (10 : Int32) * nI p = nI (10 * p) from pk_mul 10 p, show (2 : Int32) * nI s = nI (2 * s) from pk_mul 2 s, nI_add, nI_add, Nat.add_assoc]
variable {g_count g_flushed g_calls g_drafted g_top g_time : Int32} {b_isCut b_removed b_stream b_type b_from b_by b_value b_version b_on b_call b_draftType b_draftValue b_op b_with b_length b_height b_torn b_stack b_position b_cells b_noted b_wanted b_formed b_cursor b_parked b_where b_often b_due b_many b_found : Nat → Int32}
theorem es_y_cc2 {a b : Nat} (hab : a + 10 ≤ b ∨ b + 10 ≤ a) (ha : a ≤ 90) (hb : b ≤ 90) (c0 : Nat → Int32) {post : SY → Prop} (hp : post (g_count, g_flushed, g_calls, g_drafted, g_top, g_time, b_isCut, b_removed, b_stream, b_type, b_from, b_by, b_value, b_version, b_on, b_call, b_draftType, b_draftValue, b_op, b_with, b_length, b_height, b_torn, b_stack, b_position, es_mv c0 a b 10, b_noted, b_wanted, b_formed, b_cursor, b_parked, b_where, b_often, b_due, b_many, b_found)) :
    ∀ d k, k + d = 10 → wY_copyCells_2 post (nI a) (nI b) g_count g_flushed g_calls g_drafted g_top g_time (d + 1) (nI k) b_isCut b_removed b_stream b_type b_from b_by b_value b_version b_on b_call b_draftType b_draftValue b_op b_with b_length b_height b_torn b_stack b_position (es_mv c0 a b k) b_noted b_wanted b_formed b_cursor b_parked b_where b_often b_due b_many b_found := by
  intro d
  induction d with
  | zero =>
    intro k hk
    have e : k = 10 := by omega
    subst e
    exact br_t (nI_le (a := 10) (b := 10) (by omega) (by decide)) hp
  | succ d ih =>
    intro k hk
    refine br_f (nI_ge (b := 10) (by omega) (by decide)) ?_
    rw [nI_add, nI_add, nI_clamp (show a + k < 2 ^ 31 by omega), nI_clamp (show b + k < 2 ^ 31 by omega), es_mv_s (by omega)]
    exact ⟨vp_in_nI (by omega) (by decide), vp_in_nI (by omega) (by decide), nm_e (nm_r (nI_1 k) (ih (k + 1) (by omega)))⟩
theorem es_y_copyCells {a b : Nat} (hab : a + 10 ≤ b ∨ b + 10 ≤ a) (ha : a ≤ 90) (hb : b ≤ 90) {post : SY → Prop} (hp : post (g_count, g_flushed, g_calls, g_drafted, g_top, g_time, b_isCut, b_removed, b_stream, b_type, b_from, b_by, b_value, b_version, b_on, b_call, b_draftType, b_draftValue, b_op, b_with, b_length, b_height, b_torn, b_stack, b_position, es_mv b_cells a b 10, b_noted, b_wanted, b_formed, b_cursor, b_parked, b_where, b_often, b_due, b_many, b_found)) : wpY_copyCells post (g_count, g_flushed, g_calls, g_drafted, g_top, g_time, b_isCut, b_removed, b_stream, b_type, b_from, b_by, b_value, b_version, b_on, b_call, b_draftType, b_draftValue, b_op, b_with, b_length, b_height, b_torn, b_stack, b_position, b_cells, b_noted, b_wanted, b_formed, b_cursor, b_parked, b_where, b_often, b_due, b_many, b_found) (nI a) (nI b) := by
  have key := es_y_cc2 (g_count := g_count) (g_flushed := g_flushed) (g_calls := g_calls) (g_drafted := g_drafted) (g_top := g_top) (g_time := g_time) (b_isCut := b_isCut) (b_removed := b_removed) (b_stream := b_stream) (b_type := b_type) (b_from := b_from) (b_by := b_by) (b_value := b_value) (b_version := b_version) (b_on := b_on) (b_call := b_call) (b_draftType := b_draftType) (b_draftValue := b_draftValue) (b_op := b_op) (b_with := b_with) (b_length := b_length) (b_height := b_height) (b_torn := b_torn) (b_stack := b_stack) (b_position := b_position) (b_noted := b_noted) (b_wanted := b_wanted) (b_formed := b_formed) (b_cursor := b_cursor) (b_parked := b_parked) (b_where := b_where) (b_often := b_often) (b_due := b_due) (b_many := b_many) (b_found := b_found) hab ha hb b_cells hp 10 0 (by omega)
  rw [es_mv_0, nI_0] at key
  exact ⟨_, key⟩
theorem es_y_push {p P s o pc top : Nat} {cc x : Int32} (hP : P < 2000) (hp : p < 3) (hs : s < 5) (es : b_stream P = nI s) (ho : o ≤ 3) (ht : top ≤ 4) (x0 : o = 0 → x = cc) (x1 : o = 1 → x = b_value P) (x2 : o = 2 → x = b_type P) (x3 : o = 3 → ∃ q, q < 2 ∧ cc = nI q ∧ x = b_cells (10 * p + (2 * s + q))) {post : Int32 → SY → Prop} (hq : post (nI (pc + 1)) (g_count, g_flushed, g_calls, g_drafted, nI (top + 1), g_time, b_isCut, b_removed, b_stream, b_type, b_from, b_by, b_value, b_version, b_on, b_call, b_draftType, b_draftValue, b_op, b_with, b_length, b_height, b_torn, upd b_stack top x, b_position, b_cells, b_noted, b_wanted, b_formed, b_cursor, b_parked, b_where, b_often, b_due, b_many, b_found)) : wpY_step post (g_count, g_flushed, g_calls, g_drafted, nI top, g_time, b_isCut, b_removed, b_stream, b_type, b_from, b_by, b_value, b_version, b_on, b_call, b_draftType, b_draftValue, b_op, b_with, b_length, b_height, b_torn, b_stack, b_position, b_cells, b_noted, b_wanted, b_formed, b_cursor, b_parked, b_where, b_often, b_due, b_many, b_found) (nI p) (nI P) (nI o) cc (nI pc) := by
  have hv : vp_in (nI P) 2000 := vp_in_nI hP (by decide)
  have h8 : vp_in (nI top) 8 := vp_in_nI (by omega) (by decide)
  have ct : (nI top).toNatClampNeg = top := nI_clamp (by omega)
  unfold wpY_step
  dsimp only
  rw [nI_clamp (show P < 2 ^ 31 by omega), es, ct, nI_1, nI_1]
  rcases (by omega : o = 0 ∨ o = 1 ∨ o = 2 ∨ o = 3) with rfl | rfl | rfl | rfl
  · rw [x0 rfl] at hq
    exact ⟨hv, nm_e (br_f (by decide) (br_f (by decide) (br_t rfl (nm_e ⟨h8, nm_e hq⟩))))⟩
  · rw [x1 rfl] at hq
    exact ⟨hv, nm_e (br_f (by decide) (br_f (by decide) (br_f (by decide) (br_t rfl (nm_e ⟨hv, h8, nm_e hq⟩)))))⟩
  · rw [x2 rfl] at hq
    exact ⟨hv, nm_e (br_f (by decide) (br_f (by decide) (br_f (by decide) (br_f (by decide) (br_t rfl (nm_e ⟨hv, h8, nm_e hq⟩))))))⟩
  · obtain ⟨q, hq2, ec, ex⟩ := x3 rfl
    rw [ex] at hq
    rw [ec, es_ix]
    refine ⟨hv, nm_e (br_f (by decide) (br_f (by decide) (br_f (by decide) (br_f (by decide) (br_f (by decide) (br_t rfl (nm_e ⟨vp_in_nI (by omega) (by decide), h8, ?_⟩)))))))⟩
    rw [nI_clamp (show 10 * p + (2 * s + q) < 2 ^ 31 by omega)]
    exact nm_e hq
theorem es_y_268 {o pc t : Nat} (h : o = 4 ∨ o = 5 ∨ o = 6 ∨ o = 7) (ht : t + 2 ≤ 4) {post : Int32 → SY → Prop} (hq : post (nI (pc + 1)) (g_count, g_flushed, g_calls, g_drafted, nI (t + 1), g_time, b_isCut, b_removed, b_stream, b_type, b_from, b_by, b_value, b_version, b_on, b_call, b_draftType, b_draftValue, b_op, b_with, b_length, b_height, b_torn, upd b_stack t (es_ar o (b_stack t) (b_stack (t + 1))), b_position, b_cells, b_noted, b_wanted, b_formed, b_cursor, b_parked, b_where, b_often, b_due, b_many, b_found)) : wY_step_268 post (nI o) (nI pc) g_count g_flushed g_calls g_drafted (nI (t + 2)) g_time b_isCut b_removed b_stream b_type b_from b_by b_value b_version b_on b_call b_draftType b_draftValue b_op b_with b_length b_height b_torn b_stack b_position b_cells b_noted b_wanted b_formed b_cursor b_parked b_where b_often b_due b_many b_found := by
  have e1 : nI (t + 2) - 1 = nI (t + 1) := nI_pred (t + 1)
  have e2 : nI (t + 1) - 1 = nI t := nI_pred t
  have h1 : vp_in (nI (t + 1)) 8 := vp_in_nI (by omega) (by decide)
  have h2 : vp_in (nI t) 8 := vp_in_nI (by omega) (by decide)
  unfold wY_step_268
  rw [e1]
  refine nm_e ?_
  rw [e2, nI_clamp (show t + 1 < 2 ^ 31 by omega), nI_clamp (show t < 2 ^ 31 by omega), nI_1]
  refine ⟨h1, nm_e ⟨h2, nm_e ?_⟩⟩
  rcases h with rfl | rfl | rfl | rfl
  · exact br_t rfl ⟨h2, nm_e hq⟩
  · exact br_f (by decide) (br_t rfl ⟨h2, nm_e hq⟩)
  · exact br_f (by decide) (br_f (by decide) (br_t rfl ⟨h2, nm_e hq⟩))
  · refine br_f (by decide) (br_f (by decide) (br_f (by decide) ?_))
    have e : es_ar 7 (b_stack t) (b_stack (t + 1)) = if b_stack (t + 1) ≤ b_stack t then 0 else 1 := rfl
    rw [e] at hq
    by_cases c : b_stack (t + 1) ≤ b_stack t
    · rw [if_pos c] at hq; exact br_t c ⟨h2, nm_e hq⟩
    · rw [if_neg c] at hq; exact br_f c ⟨h2, nm_e hq⟩
theorem es_y_arith {p P o pc t : Nat} {cc : Int32} (hP : P < 2000) (h : o = 4 ∨ o = 5 ∨ o = 6 ∨ o = 7) (ht : t + 2 ≤ 4) {post : Int32 → SY → Prop} (hq : post (nI (pc + 1)) (g_count, g_flushed, g_calls, g_drafted, nI (t + 1), g_time, b_isCut, b_removed, b_stream, b_type, b_from, b_by, b_value, b_version, b_on, b_call, b_draftType, b_draftValue, b_op, b_with, b_length, b_height, b_torn, upd b_stack t (es_ar o (b_stack t) (b_stack (t + 1))), b_position, b_cells, b_noted, b_wanted, b_formed, b_cursor, b_parked, b_where, b_often, b_due, b_many, b_found)) : wpY_step post (g_count, g_flushed, g_calls, g_drafted, nI (t + 2), g_time, b_isCut, b_removed, b_stream, b_type, b_from, b_by, b_value, b_version, b_on, b_call, b_draftType, b_draftValue, b_op, b_with, b_length, b_height, b_torn, b_stack, b_position, b_cells, b_noted, b_wanted, b_formed, b_cursor, b_parked, b_where, b_often, b_due, b_many, b_found) (nI p) (nI P) (nI o) cc (nI pc) := by
  have hv : vp_in (nI P) 2000 := vp_in_nI hP (by decide)
  have key := es_y_268 (g_count := g_count) (g_flushed := g_flushed) (g_calls := g_calls) (g_drafted := g_drafted) (g_time := g_time) (b_isCut := b_isCut) (b_removed := b_removed) (b_stream := b_stream) (b_type := b_type) (b_from := b_from) (b_by := b_by) (b_value := b_value) (b_version := b_version) (b_on := b_on) (b_call := b_call) (b_draftType := b_draftType) (b_draftValue := b_draftValue) (b_op := b_op) (b_with := b_with) (b_length := b_length) (b_height := b_height) (b_torn := b_torn) (b_stack := b_stack) (b_position := b_position) (b_cells := b_cells) (b_noted := b_noted) (b_wanted := b_wanted) (b_formed := b_formed) (b_cursor := b_cursor) (b_parked := b_parked) (b_where := b_where) (b_often := b_often) (b_due := b_due) (b_many := b_many) (b_found := b_found) h ht hq
  unfold wpY_step
  dsimp only
  rcases h with rfl | rfl | rfl | rfl
  · exact ⟨hv, nm_e (br_f (by decide) (br_f (by decide) (br_f (by decide) (br_f (by decide) (br_f (by decide) (br_f (by decide) (br_t rfl key)))))))⟩
  · exact ⟨hv, nm_e (br_f (by decide) (br_f (by decide) (br_f (by decide) (br_f (by decide) (br_f (by decide) (br_f (by decide) (br_f (by decide) (br_t rfl key))))))))⟩
  · exact ⟨hv, nm_e (br_f (by decide) (br_f (by decide) (br_f (by decide) (br_f (by decide) (br_f (by decide) (br_f (by decide) (br_f (by decide) (br_f (by decide) (br_t rfl key)))))))))⟩
  · exact ⟨hv, nm_e (br_f (by decide) (br_f (by decide) (br_f (by decide) (br_f (by decide) (br_f (by decide) (br_f (by decide) (br_f (by decide) (br_f (by decide) (br_f (by decide) (br_t rfl key))))))))))⟩
theorem es_y_dup {p P pc t : Nat} {cc : Int32} (hP : P < 2000) (ht : t + 1 ≤ 4) {post : Int32 → SY → Prop} (hq : post (nI (pc + 1)) (g_count, g_flushed, g_calls, g_drafted, nI (t + 2), g_time, b_isCut, b_removed, b_stream, b_type, b_from, b_by, b_value, b_version, b_on, b_call, b_draftType, b_draftValue, b_op, b_with, b_length, b_height, b_torn, upd b_stack (t + 1) (b_stack t), b_position, b_cells, b_noted, b_wanted, b_formed, b_cursor, b_parked, b_where, b_often, b_due, b_many, b_found)) : wpY_step post (g_count, g_flushed, g_calls, g_drafted, nI (t + 1), g_time, b_isCut, b_removed, b_stream, b_type, b_from, b_by, b_value, b_version, b_on, b_call, b_draftType, b_draftValue, b_op, b_with, b_length, b_height, b_torn, b_stack, b_position, b_cells, b_noted, b_wanted, b_formed, b_cursor, b_parked, b_where, b_often, b_due, b_many, b_found) (nI p) (nI P) (nI 8) cc (nI pc) := by
  have hv : vp_in (nI P) 2000 := vp_in_nI hP (by decide)
  have h1 : vp_in (nI (t + 1)) 8 := vp_in_nI (by omega) (by decide)
  have h2 : vp_in (nI t) 8 := vp_in_nI (by omega) (by decide)
  have e2 : nI (t + 1) - 1 = nI t := nI_pred t
  unfold wpY_step
  dsimp only
  rw [e2, nI_clamp (show t + 1 < 2 ^ 31 by omega), nI_clamp (show t < 2 ^ 31 by omega), nI_1 (t + 1), nI_1 pc]
  exact ⟨hv, nm_e (br_f (by decide) (br_f (by decide) (br_f (by decide) (br_f (by decide) (br_f (by decide) (br_f (by decide) (br_f (by decide) (br_f (by decide) (br_f (by decide) (br_f (by decide) (br_t rfl ⟨h2, h1, nm_e (nm_e hq)⟩)))))))))))⟩
theorem es_y_set {p P s pc t q : Nat} (hP : P < 2000) (hp : p < 3) (hs : s < 5) (hq2 : q < 2) (es : b_stream P = nI s) (ht : t + 1 ≤ 4) {post : Int32 → SY → Prop} (hq : post (nI (pc + 1)) (g_count, g_flushed, g_calls, g_drafted, nI t, g_time, b_isCut, b_removed, b_stream, b_type, b_from, b_by, b_value, b_version, b_on, b_call, b_draftType, b_draftValue, b_op, b_with, b_length, b_height, b_torn, b_stack, b_position, upd b_cells (10 * p + (2 * s + q)) (b_stack t), b_noted, b_wanted, b_formed, b_cursor, b_parked, b_where, b_often, b_due, b_many, b_found)) : wpY_step post (g_count, g_flushed, g_calls, g_drafted, nI (t + 1), g_time, b_isCut, b_removed, b_stream, b_type, b_from, b_by, b_value, b_version, b_on, b_call, b_draftType, b_draftValue, b_op, b_with, b_length, b_height, b_torn, b_stack, b_position, b_cells, b_noted, b_wanted, b_formed, b_cursor, b_parked, b_where, b_often, b_due, b_many, b_found) (nI p) (nI P) (nI 9) (nI q) (nI pc) := by
  have hv : vp_in (nI P) 2000 := vp_in_nI hP (by decide)
  have h2 : vp_in (nI t) 8 := vp_in_nI (by omega) (by decide)
  have e2 : nI (t + 1) - 1 = nI t := nI_pred t
  unfold wpY_step
  dsimp only
  rw [nI_clamp (show P < 2 ^ 31 by omega), es, es_ix, e2, nI_clamp (show t < 2 ^ 31 by omega), nI_1 pc]
  refine ⟨hv, nm_e (br_f (by decide) (br_f (by decide) (br_f (by decide) (br_f (by decide) (br_f (by decide) (br_f (by decide) (br_f (by decide) (br_f (by decide) (br_f (by decide) (br_f (by decide) (br_f (by decide) (br_t rfl (nm_e ⟨h2, vp_in_nI (by omega) (by decide), ?_⟩)))))))))))))⟩
  rw [nI_clamp (show 10 * p + (2 * s + q) < 2 ^ 31 by omega)]
  exact nm_e hq
theorem es_y_zero {p P pc t q : Nat} (hP : P < 2000) (ht : t + 1 ≤ 4) {post : Int32 → SY → Prop} (h1 : b_stack t = 0 → post (nI q) (g_count, g_flushed, g_calls, g_drafted, nI t, g_time, b_isCut, b_removed, b_stream, b_type, b_from, b_by, b_value, b_version, b_on, b_call, b_draftType, b_draftValue, b_op, b_with, b_length, b_height, b_torn, b_stack, b_position, b_cells, b_noted, b_wanted, b_formed, b_cursor, b_parked, b_where, b_often, b_due, b_many, b_found)) (h0 : ¬ b_stack t = 0 → post (nI (pc + 1)) (g_count, g_flushed, g_calls, g_drafted, nI t, g_time, b_isCut, b_removed, b_stream, b_type, b_from, b_by, b_value, b_version, b_on, b_call, b_draftType, b_draftValue, b_op, b_with, b_length, b_height, b_torn, b_stack, b_position, b_cells, b_noted, b_wanted, b_formed, b_cursor, b_parked, b_where, b_often, b_due, b_many, b_found)) : wpY_step post (g_count, g_flushed, g_calls, g_drafted, nI (t + 1), g_time, b_isCut, b_removed, b_stream, b_type, b_from, b_by, b_value, b_version, b_on, b_call, b_draftType, b_draftValue, b_op, b_with, b_length, b_height, b_torn, b_stack, b_position, b_cells, b_noted, b_wanted, b_formed, b_cursor, b_parked, b_where, b_often, b_due, b_many, b_found) (nI p) (nI P) (nI 10) (nI q) (nI pc) := by
  have hv : vp_in (nI P) 2000 := vp_in_nI hP (by decide)
  have h2 : vp_in (nI t) 8 := vp_in_nI (by omega) (by decide)
  have e2 : nI (t + 1) - 1 = nI t := nI_pred t
  unfold wpY_step
  dsimp only
  rw [e2, nI_clamp (show t < 2 ^ 31 by omega), nI_1 pc]
  exact ⟨hv, nm_e (br_f (by decide) (br_f (by decide) (br_f (by decide) (br_f (by decide) (br_f (by decide) (br_f (by decide) (br_f (by decide) (br_f (by decide) (br_f (by decide) (br_f (by decide) (br_f (by decide) (br_f (by decide) (br_t rfl (nm_e ⟨h2, br_c h1 h0⟩))))))))))))))⟩
theorem es_y_jump {p P pc top q : Nat} (hP : P < 2000) {post : Int32 → SY → Prop} (h1 : post (nI q) (g_count, g_flushed, g_calls, g_drafted, nI top, g_time, b_isCut, b_removed, b_stream, b_type, b_from, b_by, b_value, b_version, b_on, b_call, b_draftType, b_draftValue, b_op, b_with, b_length, b_height, b_torn, b_stack, b_position, b_cells, b_noted, b_wanted, b_formed, b_cursor, b_parked, b_where, b_often, b_due, b_many, b_found)) : wpY_step post (g_count, g_flushed, g_calls, g_drafted, nI top, g_time, b_isCut, b_removed, b_stream, b_type, b_from, b_by, b_value, b_version, b_on, b_call, b_draftType, b_draftValue, b_op, b_with, b_length, b_height, b_torn, b_stack, b_position, b_cells, b_noted, b_wanted, b_formed, b_cursor, b_parked, b_where, b_often, b_due, b_many, b_found) (nI p) (nI P) (nI 11) (nI q) (nI pc) := by
  have hv : vp_in (nI P) 2000 := vp_in_nI hP (by decide)
  unfold wpY_step
  dsimp only
  exact ⟨hv, nm_e (br_f (by decide) (br_f (by decide) (br_f (by decide) (br_f (by decide) (br_f (by decide) (br_f (by decide) (br_f (by decide) (br_f (by decide) (br_f (by decide) (br_f (by decide) (br_f (by decide) (br_f (by decide) (br_f (by decide) (br_t rfl h1))))))))))))))⟩
end ES61
end
section
/-! a program's run, both sides in lockstep -/
section ES62
variable {f_held f_records f_flushed f_summed f_draft f_drafted f_seen f_time f_taken : Int32} {a_at a_version a_value a_originAt a_stream a_type a_originBy a_originCode a_goesOn a_events a_cuts a_firm a_cutsGone a_byVersion a_byOrigin a_draftType a_draftValue a_dOp a_dC a_height a_clash a_pOp a_pSize a_pC a_position a_cell a_noted a_stack a_before a_shown a_gType a_gTaken a_gWaiting a_kCount a_gCursor a_gParked a_kCursor a_tAt a_tDue a_wAt a_kAt a_tTimes a_wTimes a_kTimes : Nat → Int32} {a_upTo : Nat → Int64} {g_count g_flushed g_calls g_drafted g_top g_time : Int32} {b_isCut b_removed b_stream b_type b_from b_by b_value b_version b_on b_call b_draftType b_draftValue b_op b_with b_length b_height b_torn b_stack b_position b_cells b_noted b_wanted b_formed b_cursor b_parked b_where b_often b_due b_many b_found : Nat → Int32} {F p P s0 n : Nat} {rm : Nat → Bool} {eP : es_Ev} {ht cr0 : Nat → Int32}
theorem es_run (hp : p < 3) (hn : n ≤ 14) (eSz : a_pSize p = nI n) (eSzY : b_length p = nI n) (hop : ∀ j, j < 42 → b_op j = a_pOp j ∧ b_with j = a_pC j) (hWT : ∀ i, i < n → ht i ≠ -1 → es_IN a_pOp a_pC (14 * p) n ht i)
    (hrP : rm P = false) (ecP : es_c eP = false) (esP : es_s eP = s0) (hs0 : s0 < 5) :
    ∀ m pc (N : Nat) (L : Nat → es_Ev) (C : Nat) (s : Nat → Int32) (top : Nat) (cr : Nat → Int32), n - pc ≤ m → pc ≤ n → (pc < n → ht pc = nI top) → top ≤ 4 → es_WL N F C L rm → P < N → L P = eP → (∀ i b, rm i = true → es_o (L i) ≠ some (p, P, b)) → (∀ k, k < 10 → k ≠ 2 * s0 → k ≠ 2 * s0 + 1 → cr k = cr0 k) →
      ∃ (r : Int32) (N' : Nat) (L' : Nat → es_Ev) (C' : Nat) (cr' : Nat → Int32), ((r = 0 ∨ r = 1) ∧ N ≤ N' ∧ (∀ i, i < N → L' i = L i) ∧ es_WL N' F C' L' rm ∧ C' + N = C + N') ∧
        (∀ (f_held' f_records' f_summed' : Int32) (a_at' a_version' a_value' a_originAt' a_stream' a_type' a_originBy' a_originCode' a_goesOn' a_events' a_byVersion' a_byOrigin' a_stack' a_cell' a_before' a_position' : Nat → Int32), es_CX N F L rm False f_held' f_records' f_flushed f_summed' a_at' a_version' a_value' a_originAt' a_stream' a_type' a_originBy' a_originCode' a_goesOn' a_events' a_cuts a_firm a_cutsGone a_byVersion' a_byOrigin' a_upTo → (∀ j, j < top → a_stack' j = s j) → (∀ k, k < 10 → a_cell' (10 * p + k) = cr k) → a_before' 0 = cr0 (2 * s0) → a_before' 1 = cr0 (2 * s0 + 1) → ∀ post : Int32 → SX → Prop, (∀ (f_held'' f_records'' f_summed'' : Int32) (a_at'' a_version'' a_value'' a_originAt'' a_stream'' a_type'' a_originBy'' a_originCode'' a_goesOn'' a_events'' a_byVersion'' a_byOrigin'' a_stack'' a_cell'' : Nat → Int32), es_CX N' F L' rm False f_held'' f_records'' f_flushed f_summed'' a_at'' a_version'' a_value'' a_originAt'' a_stream'' a_type'' a_originBy'' a_originCode'' a_goesOn'' a_events'' a_cuts a_firm a_cutsGone a_byVersion'' a_byOrigin'' a_upTo → (∀ k, k < 10 → a_cell'' (10 * p + k) = cr' k) → (∀ j, j < 90 → (j < 10 * p ∨ 10 * p + 10 ≤ j) → a_cell'' j = a_cell' j) → post r (f_held'', f_records'', f_flushed, f_summed'', f_draft, f_drafted, f_seen, f_time, f_taken, a_at'', a_version'', a_value'', a_originAt'', a_stream'', a_type'', a_originBy'', a_originCode'', a_goesOn'', a_events'', a_cuts, a_firm, a_cutsGone, a_byVersion'', a_byOrigin'', a_upTo, a_draftType, a_draftValue, a_dOp, a_dC, a_height, a_clash, a_pOp, a_pSize, a_pC, a_position', a_cell'', a_noted, a_stack'', a_before', a_shown, a_gType, a_gTaken, a_gWaiting, a_kCount, a_gCursor, a_gParked, a_kCursor, a_tAt, a_tDue, a_wAt, a_kAt, a_tTimes, a_wTimes, a_kTimes)) → wX_runs_46 post (nI p) (nI (es_Q rm P)) (nI (10 * p + 2 * s0)) (m + 1) (nI top) (nI pc) f_held' f_records' f_flushed f_summed' f_draft f_drafted f_seen f_time f_taken a_at' a_version' a_value' a_originAt' a_stream' a_type' a_originBy' a_originCode' a_goesOn' a_events' a_cuts a_firm a_cutsGone a_byVersion' a_byOrigin' a_upTo a_draftType a_draftValue a_dOp a_dC a_height a_clash a_pOp a_pSize a_pC a_position' a_cell' a_noted a_stack' a_before' a_shown a_gType a_gTaken a_gWaiting a_kCount a_gCursor a_gParked a_kCursor a_tAt a_tDue a_wAt a_kAt a_tTimes a_wTimes a_kTimes) ∧
        (∀ (g_count' g_calls' g_top' : Int32) (b_isCut' b_removed' b_stream' b_type' b_from' b_by' b_value' b_version' b_on' b_call' b_stack' b_cells' b_position' : Nat → Int32), es_CY N F C L rm g_count' g_flushed g_calls' b_isCut' b_removed' b_stream' b_type' b_from' b_by' b_value' b_version' b_on' b_call' → g_top' = nI top → (∀ j, j < top → b_stack' j = s j) → (∀ k, k < 10 → b_cells' (10 * p + k) = cr k) → (∀ k, k < 10 → b_cells' (90 + k) = cr0 k) → ∀ post : Int32 → SY → Prop, (∀ (g_count'' g_calls'' g_top'' : Int32) (b_isCut'' b_removed'' b_stream'' b_type'' b_from'' b_by'' b_value'' b_version'' b_on'' b_call'' b_stack'' b_cells'' : Nat → Int32), es_CY N' F C' L' rm g_count'' g_flushed g_calls'' b_isCut'' b_removed'' b_stream'' b_type'' b_from'' b_by'' b_value'' b_version'' b_on'' b_call'' → (∀ k, k < 10 → b_cells'' (10 * p + k) = cr' k) → (∀ j, j < 90 → (j < 10 * p ∨ 10 * p + 10 ≤ j) → b_cells'' j = b_cells' j) → post r (g_count'', g_flushed, g_calls'', g_drafted, g_top'', g_time, b_isCut'', b_removed'', b_stream'', b_type'', b_from'', b_by'', b_value'', b_version'', b_on'', b_call'', b_draftType, b_draftValue, b_op, b_with, b_length, b_height, b_torn, b_stack'', b_position', b_cells'', b_noted, b_wanted, b_formed, b_cursor, b_parked, b_where, b_often, b_due, b_many, b_found)) → wY_fold_17 post (nI p) (nI P) (m + 1) (nI pc) g_count' g_flushed g_calls' g_drafted g_top' g_time b_isCut' b_removed' b_stream' b_type' b_from' b_by' b_value' b_version' b_on' b_call' b_draftType b_draftValue b_op b_with b_length b_height b_torn b_stack' b_position' b_cells' b_noted b_wanted b_formed b_cursor b_parked b_where b_often b_due b_many b_found) := by
  have hv3 : vp_in (nI p) 3 := vp_in_nI hp (by decide)
  have hv4 : vp_in (nI p) 4 := vp_in_nI (by omega) (by decide)
  have cp : (nI p).toNatClampNeg = p := nI_clamp (by omega)
  have hbase : ∀ q, q < 2 → nI (10 * p + 2 * s0) + nI q = nI (10 * p + (2 * s0 + q)) := fun q _ => by rw [nI_add, Nat.add_assoc]
  intro m
  induction m with
  | zero =>
    intro pc N L C s top cr hm hle hht htop W hPN hLP hnr hcr
    have e : pc = n := by omega
    subst e
    refine ⟨1, N, L, C, cr, ⟨Or.inr rfl, Nat.le_refl _, fun _ _ => rfl, W, rfl⟩, fun f_held' f_records' f_summed' a_at' a_version' a_value' a_originAt' a_stream' a_type' a_originBy' a_originCode' a_goesOn' a_events' a_byVersion' a_byOrigin' a_stack' a_cell' a_before' a_position' hcx hst hce hb0 hb1 post hq => ?_, fun g_count' g_calls' g_top' b_isCut' b_removed' b_stream' b_type' b_from' b_by' b_value' b_version' b_on' b_call' b_stack' b_cells' b_position' hcy htp hst hce hsv post hq => ?_⟩
    · refine ⟨hv3, ?_⟩
      rw [cp, eSz]
      exact br_t (nI_le (Nat.le_refl _) (by omega)) (hq f_held' f_records' f_summed' a_at' a_version' a_value' a_originAt' a_stream' a_type' a_originBy' a_originCode' a_goesOn' a_events' a_byVersion' a_byOrigin' a_stack' a_cell' hcx hce (fun _ _ _ => rfl))
    · refine ⟨hv4, ?_⟩
      rw [cp, eSzY]
      exact br_t (nI_le (Nat.le_refl _) (by omega)) (hq g_count' g_calls' g_top' b_isCut' b_removed' b_stream' b_type' b_from' b_by' b_value' b_version' b_on' b_call' b_stack' b_cells' hcy hce (fun _ _ _ => rfl))
  | succ m ih =>
    intro pc N L C s top cr hm hle hht htop W hPN hLP hnr hcr
    by_cases hpc : pc < n
    rotate_left
    · refine ⟨1, N, L, C, cr, ⟨Or.inr rfl, Nat.le_refl _, fun _ _ => rfl, W, rfl⟩, fun f_held' f_records' f_summed' a_at' a_version' a_value' a_originAt' a_stream' a_type' a_originBy' a_originCode' a_goesOn' a_events' a_byVersion' a_byOrigin' a_stack' a_cell' a_before' a_position' hcx hst hce hb0 hb1 post hq => ?_, fun g_count' g_calls' g_top' b_isCut' b_removed' b_stream' b_type' b_from' b_by' b_value' b_version' b_on' b_call' b_stack' b_cells' b_position' hcy htp hst hce hsv post hq => ?_⟩
      · refine ⟨hv3, ?_⟩
        rw [cp, eSz]
        exact br_t (nI_le (by omega) (by omega)) (hq f_held' f_records' f_summed' a_at' a_version' a_value' a_originAt' a_stream' a_type' a_originBy' a_originCode' a_goesOn' a_events' a_byVersion' a_byOrigin' a_stack' a_cell' hcx hce (fun _ _ _ => rfl))
      · refine ⟨hv4, ?_⟩
        rw [cp, eSzY]
        exact br_t (nI_le (by omega) (by omega)) (hq g_count' g_calls' g_top' b_isCut' b_removed' b_stream' b_type' b_from' b_by' b_value' b_version' b_on' b_call' b_stack' b_cells' hcy hce (fun _ _ _ => rfl))
    have hN0 := W.1
    have hP2 : P < 2000 := by omega
    have hhp := hht hpc
    obtain ⟨o, h, ho, hh, eo, eh, htk, haf, hft, hsu⟩ := hWT pc hpc (by rw [hhp]; exact es_nm (by omega))
    have eht : top = h := es_inj (hhp.symm.trans eh) (by omega) (by omega)
    subst eht
    have hjlt : 14 * p + pc < 42 := by omega
    have e14 : 14 * nI p + nI pc = nI (14 * p + pc) := by rw [show (14 : Int32) * nI p = nI (14 * p) from pk_mul 14 p, nI_add]
    have c14 : (nI (14 * p + pc)).toNatClampNeg = 14 * p + pc := nI_clamp (by omega)
    have hv42 : vp_in (nI (14 * p + pc)) 42 := vp_in_nI hjlt (by decide)
    have hv56 : vp_in (nI (14 * p + pc)) 56 := vp_in_nI (by omega) (by decide)
    have eC : a_pC (nI (14 * p + pc)).toNatClampNeg = a_pC (14 * p + pc) := by rw [c14]
    have eOp : a_pOp (nI (14 * p + pc)).toNatClampNeg = nI o := by rw [c14]; exact eo
    have eOpY : b_op (14 * p + pc) = nI o := (hop _ hjlt).1.trans eo
    have eCY : b_with (14 * p + pc) = a_pC (14 * p + pc) := (hop _ hjlt).2
    have hnx : o ≠ 11 → o ≠ 13 → ∀ x, es_af o top = x → pc + 1 < n → ht (pc + 1) = nI x := fun z1 z2 x hx hj => by
      rw [← hx]; exact hsu (pc + 1) hj (Or.inr ⟨z1, z2, rfl⟩)
    have ct : (nI top).toNatClampNeg = top := nI_clamp (by omega)
    have esy : ∀ {b_stream : Nat → Int32}, b_stream P = nI (es_s (L P)) → b_stream P = nI s0 := fun z => by rw [z, hLP, esP]
    have hQP : es_Q rm P < 40 := by
      have := es_Q_lt hPN hrP
      have := W.2.2.1
      omega
    have hvQ : vp_in (nI (es_Q rm P)) 40 := vp_in_nI hQP (by decide)
    have cQ : (nI (es_Q rm P)).toNatClampNeg = es_Q rm P := nI_clamp (by omega)
    rcases es_14 ho with rfl | rfl | rfl | rfl | rfl | rfl | rfl | rfl | rfl | rfl | rfl | rfl | rfl | rfl
    · have ea : es_af 0 top = top + 1 := rfl
      have h5 : vp_in (nI top) 5 := vp_in_nI (by omega) (by decide)
      obtain ⟨r, N', L', C', cr', hE, hX, hY⟩ := ih (pc + 1) N L C (upd s top (a_pC (14 * p + pc))) (top + 1) cr (by omega) (by omega) (hnx (by decide) (by decide) _ ea) (by omega) W hPN hLP hnr hcr
      refine ⟨r, N', L', C', cr', hE, fun f_held' f_records' f_summed' a_at' a_version' a_value' a_originAt' a_stream' a_type' a_originBy' a_originCode' a_goesOn' a_events' a_byVersion' a_byOrigin' a_stack' a_cell' a_before' a_position' hcx hst hce hb0 hb1 post hq => ?_, fun g_count' g_calls' g_top' b_isCut' b_removed' b_stream' b_type' b_from' b_by' b_value' b_version' b_on' b_call' b_stack' b_cells' b_position' hcy htp hst hce hsv post hq => ?_⟩
      · refine ⟨hv3, ?_⟩
        rw [cp, eSz]
        refine br_f (nI_ge hpc (by omega)) (nm_r e14 ⟨hv42, nm_r (e' := nI 0) eOp ⟨hv42, nm_r (e' := a_pC (14 * p + pc)) eC (nm_r (nI_1 pc) ?_)⟩⟩)
        refine br_f (by decide) (nm_r (nI_1 top) (br_t rfl ⟨h5, ?_⟩))
        rw [ct]
        exact nm_e (hX f_held' f_records' f_summed' a_at' a_version' a_value' a_originAt' a_stream' a_type' a_originBy' a_originCode' a_goesOn' a_events' a_byVersion' a_byOrigin' (upd a_stack' top (a_pC (14 * p + pc))) a_cell' a_before' a_position' hcx (es_stk hst) hce hb0 hb1 post hq)
      · subst htp
        refine ⟨hv4, ?_⟩
        rw [cp, eSzY]
        refine br_f (nI_ge hpc (by omega)) (nm_r e14 ⟨hv56, ?_⟩)
        rw [c14, eOpY, eCY]
        refine br_f (by decide) ⟨hv56, br_f (by decide) ⟨hv56, hv56, ?_⟩⟩
        exact es_y_push (x := a_pC (14 * p + pc)) hP2 hp hs0 (esy (hcy.2.2.2 P hPN).2.2.1) (by decide) htop (fun _ => rfl) (fun z => absurd z (by decide)) (fun z => absurd z (by decide)) (fun z => absurd z (by decide)) (hY g_count' g_calls' (nI (top + 1)) b_isCut' b_removed' b_stream' b_type' b_from' b_by' b_value' b_version' b_on' b_call' (upd b_stack' top (a_pC (14 * p + pc))) b_cells' b_position' hcy rfl (es_stk hst) hce hsv post hq)
    · have ea : es_af 1 top = top + 1 := rfl
      have h5 : vp_in (nI top) 5 := vp_in_nI (by omega) (by decide)
      obtain ⟨r, N', L', C', cr', hE, hX, hY⟩ := ih (pc + 1) N L C (upd s top (es_v eP)) (top + 1) cr (by omega) (by omega) (hnx (by decide) (by decide) _ ea) (by omega) W hPN hLP hnr hcr
      refine ⟨r, N', L', C', cr', hE, fun f_held' f_records' f_summed' a_at' a_version' a_value' a_originAt' a_stream' a_type' a_originBy' a_originCode' a_goesOn' a_events' a_byVersion' a_byOrigin' a_stack' a_cell' a_before' a_position' hcx hst hce hb0 hb1 post hq => ?_, fun g_count' g_calls' g_top' b_isCut' b_removed' b_stream' b_type' b_from' b_by' b_value' b_version' b_on' b_call' b_stack' b_cells' b_position' hcy htp hst hce hsv post hq => ?_⟩
      · refine ⟨hv3, ?_⟩
        rw [cp, eSz]
        refine br_f (nI_ge hpc (by omega)) (nm_r e14 ⟨hv42, nm_r (e' := nI 1) eOp ⟨hv42, nm_r (e' := a_pC (14 * p + pc)) eC (nm_r (nI_1 pc) ?_)⟩⟩)
        refine br_f (by decide) (nm_r (nI_1 top) (br_f (by decide) (br_t rfl ⟨hvQ, h5, ?_⟩)))
        rw [ct, cQ, ((hcx.2.2.2.1 P hPN hrP).2.2.2 (by rw [hLP]; exact ecP)).2.2.1, hLP]
        exact nm_e (hX f_held' f_records' f_summed' a_at' a_version' a_value' a_originAt' a_stream' a_type' a_originBy' a_originCode' a_goesOn' a_events' a_byVersion' a_byOrigin' (upd a_stack' top (es_v eP)) a_cell' a_before' a_position' hcx (es_stk hst) hce hb0 hb1 post hq)
      · subst htp
        refine ⟨hv4, ?_⟩
        rw [cp, eSzY]
        refine br_f (nI_ge hpc (by omega)) (nm_r e14 ⟨hv56, ?_⟩)
        rw [c14, eOpY, eCY]
        refine br_f (by decide) ⟨hv56, br_f (by decide) ⟨hv56, hv56, ?_⟩⟩
        exact es_y_push (x := es_v eP) hP2 hp hs0 (esy (hcy.2.2.2 P hPN).2.2.1) (by decide) htop (fun z => absurd z (by decide)) (fun _ => ((hcy.2.2.2 P hPN).2.2.2.2.1.trans (by rw [hLP])).symm) (fun z => absurd z (by decide)) (fun z => absurd z (by decide)) (hY g_count' g_calls' (nI (top + 1)) b_isCut' b_removed' b_stream' b_type' b_from' b_by' b_value' b_version' b_on' b_call' (upd b_stack' top (es_v eP)) b_cells' b_position' hcy rfl (es_stk hst) hce hsv post hq)
    · have ea : es_af 2 top = top + 1 := rfl
      have h5 : vp_in (nI top) 5 := vp_in_nI (by omega) (by decide)
      obtain ⟨r, N', L', C', cr', hE, hX, hY⟩ := ih (pc + 1) N L C (upd s top (nI (es_t eP))) (top + 1) cr (by omega) (by omega) (hnx (by decide) (by decide) _ ea) (by omega) W hPN hLP hnr hcr
      refine ⟨r, N', L', C', cr', hE, fun f_held' f_records' f_summed' a_at' a_version' a_value' a_originAt' a_stream' a_type' a_originBy' a_originCode' a_goesOn' a_events' a_byVersion' a_byOrigin' a_stack' a_cell' a_before' a_position' hcx hst hce hb0 hb1 post hq => ?_, fun g_count' g_calls' g_top' b_isCut' b_removed' b_stream' b_type' b_from' b_by' b_value' b_version' b_on' b_call' b_stack' b_cells' b_position' hcy htp hst hce hsv post hq => ?_⟩
      · refine ⟨hv3, ?_⟩
        rw [cp, eSz]
        refine br_f (nI_ge hpc (by omega)) (nm_r e14 ⟨hv42, nm_r (e' := nI 2) eOp ⟨hv42, nm_r (e' := a_pC (14 * p + pc)) eC (nm_r (nI_1 pc) ?_)⟩⟩)
        refine br_f (by decide) (nm_r (nI_1 top) (br_f (by decide) (br_f (by decide) (br_t rfl ⟨hvQ, h5, ?_⟩))))
        rw [ct, cQ, ((hcx.2.2.2.1 P hPN hrP).2.2.2 (by rw [hLP]; exact ecP)).1, hLP]
        exact nm_e (hX f_held' f_records' f_summed' a_at' a_version' a_value' a_originAt' a_stream' a_type' a_originBy' a_originCode' a_goesOn' a_events' a_byVersion' a_byOrigin' (upd a_stack' top (nI (es_t eP))) a_cell' a_before' a_position' hcx (es_stk hst) hce hb0 hb1 post hq)
      · subst htp
        refine ⟨hv4, ?_⟩
        rw [cp, eSzY]
        refine br_f (nI_ge hpc (by omega)) (nm_r e14 ⟨hv56, ?_⟩)
        rw [c14, eOpY, eCY]
        refine br_f (by decide) ⟨hv56, br_f (by decide) ⟨hv56, hv56, ?_⟩⟩
        exact es_y_push (x := nI (es_t eP)) hP2 hp hs0 (esy (hcy.2.2.2 P hPN).2.2.1) (by decide) htop (fun z => absurd z (by decide)) (fun z => absurd z (by decide)) (fun _ => ((hcy.2.2.2 P hPN).2.2.2.1.trans (by rw [hLP])).symm) (fun z => absurd z (by decide)) (hY g_count' g_calls' (nI (top + 1)) b_isCut' b_removed' b_stream' b_type' b_from' b_by' b_value' b_version' b_on' b_call' (upd b_stack' top (nI (es_t eP))) b_cells' b_position' hcy rfl (es_stk hst) hce hsv post hq)
    · have ea : es_af 3 top = top + 1 := rfl
      obtain ⟨q, hq2, eq⟩ := hft.1 (Or.inl rfl)
      have h5 : vp_in (nI top) 5 := vp_in_nI (by omega) (by decide)
      obtain ⟨r, N', L', C', cr', hE, hX, hY⟩ := ih (pc + 1) N L C (upd s top (cr (2 * s0 + q))) (top + 1) cr (by omega) (by omega) (hnx (by decide) (by decide) _ ea) (by omega) W hPN hLP hnr hcr
      refine ⟨r, N', L', C', cr', hE, fun f_held' f_records' f_summed' a_at' a_version' a_value' a_originAt' a_stream' a_type' a_originBy' a_originCode' a_goesOn' a_events' a_byVersion' a_byOrigin' a_stack' a_cell' a_before' a_position' hcx hst hce hb0 hb1 post hq => ?_, fun g_count' g_calls' g_top' b_isCut' b_removed' b_stream' b_type' b_from' b_by' b_value' b_version' b_on' b_call' b_stack' b_cells' b_position' hcy htp hst hce hsv post hq => ?_⟩
      · refine ⟨hv3, ?_⟩
        rw [cp, eSz]
        refine br_f (nI_ge hpc (by omega)) (nm_r e14 ⟨hv42, nm_r (e' := nI 3) eOp ⟨hv42, nm_r (e' := a_pC (14 * p + pc)) eC (nm_r (nI_1 pc) ?_)⟩⟩)
        rw [eq, hbase q hq2]
        refine br_f (by decide) (nm_r (nI_1 top) (br_f (by decide) (br_f (by decide) (br_f (by decide) ⟨vp_in_nI (n := 10 * p + (2 * s0 + q)) (by omega) (by decide), h5, ?_⟩))))
        rw [ct, nI_clamp (show 10 * p + (2 * s0 + q) < 2 ^ 31 by omega), hce (2 * s0 + q) (by omega)]
        exact nm_e (hX f_held' f_records' f_summed' a_at' a_version' a_value' a_originAt' a_stream' a_type' a_originBy' a_originCode' a_goesOn' a_events' a_byVersion' a_byOrigin' (upd a_stack' top (cr (2 * s0 + q))) a_cell' a_before' a_position' hcx (es_stk hst) hce hb0 hb1 post hq)
      · subst htp
        refine ⟨hv4, ?_⟩
        rw [cp, eSzY]
        refine br_f (nI_ge hpc (by omega)) (nm_r e14 ⟨hv56, ?_⟩)
        rw [c14, eOpY, eCY]
        refine br_f (by decide) ⟨hv56, br_f (by decide) ⟨hv56, hv56, ?_⟩⟩
        exact es_y_push (x := cr (2 * s0 + q)) hP2 hp hs0 (esy (hcy.2.2.2 P hPN).2.2.1) (by decide) htop (fun z => absurd z (by decide)) (fun z => absurd z (by decide)) (fun z => absurd z (by decide)) (fun _ => ⟨q, hq2, eq, (hce (2 * s0 + q) (by omega)).symm⟩) (hY g_count' g_calls' (nI (top + 1)) b_isCut' b_removed' b_stream' b_type' b_from' b_by' b_value' b_version' b_on' b_call' (upd b_stack' top (cr (2 * s0 + q))) b_cells' b_position' hcy rfl (es_stk hst) hce hsv post hq)
    · obtain ⟨t, rfl⟩ : ∃ t, top = t + 2 := ⟨top - 2, by have : es_tk 4 = 2 := rfl; omega⟩
      have ea : es_af 4 (t + 2) = t + 1 := rfl
      obtain ⟨r, N', L', C', cr', hE, hX, hY⟩ := ih (pc + 1) N L C (upd s t (es_ar 4 (s t) (s (t + 1)))) (t + 1) cr (by omega) (by omega) (hnx (by decide) (by decide) _ ea) (by omega) W hPN hLP hnr hcr
      refine ⟨r, N', L', C', cr', hE, fun f_held' f_records' f_summed' a_at' a_version' a_value' a_originAt' a_stream' a_type' a_originBy' a_originCode' a_goesOn' a_events' a_byVersion' a_byOrigin' a_stack' a_cell' a_before' a_position' hcx hst hce hb0 hb1 post hq => ?_, fun g_count' g_calls' g_top' b_isCut' b_removed' b_stream' b_type' b_from' b_by' b_value' b_version' b_on' b_call' b_stack' b_cells' b_position' hcy htp hst hce hsv post hq => ?_⟩
      · refine ⟨hv3, ?_⟩
        rw [cp, eSz]
        refine br_f (nI_ge hpc (by omega)) (nm_r e14 ⟨hv42, nm_r (e' := nI 4) eOp ⟨hv42, nm_r (e' := a_pC (14 * p + pc)) eC (nm_r (nI_1 pc) ?_)⟩⟩)
        refine br_t (by decide) (br_f (by decide) (nm_r (pk_m1 (t + 1)) ?_))
        rw [nI_pred t, nI_clamp (show t < 2 ^ 31 by omega), nI_clamp (show t + 1 < 2 ^ 31 by omega), hst t (by omega), hst (t + 1) (by omega)]
        have h5 : vp_in (nI t) 5 := vp_in_nI (by omega) (by decide)
        refine ⟨h5, vp_in_nI (by omega) (by decide), es_x_arith (by decide) ⟨h5, nm_e ?_⟩⟩
        exact hX f_held' f_records' f_summed' a_at' a_version' a_value' a_originAt' a_stream' a_type' a_originBy' a_originCode' a_goesOn' a_events' a_byVersion' a_byOrigin' _ a_cell' a_before' a_position' hcx (es_stu (fun j hj => hst j (by omega))) hce hb0 hb1 post hq
      · subst htp
        refine ⟨hv4, ?_⟩
        rw [cp, eSzY]
        refine br_f (nI_ge hpc (by omega)) (nm_r e14 ⟨hv56, ?_⟩)
        rw [c14, eOpY, eCY]
        refine br_f (by decide) ⟨hv56, br_f (by decide) ⟨hv56, hv56, ?_⟩⟩
        refine es_y_arith hP2 (by decide) htop ?_
        rw [hst t (by omega), hst (t + 1) (by omega)]
        exact hY g_count' g_calls' (nI (t + 1)) b_isCut' b_removed' b_stream' b_type' b_from' b_by' b_value' b_version' b_on' b_call' _ b_cells' b_position' hcy rfl (es_stu (fun j hj => hst j (by omega))) hce hsv post hq
    · obtain ⟨t, rfl⟩ : ∃ t, top = t + 2 := ⟨top - 2, by have : es_tk 5 = 2 := rfl; omega⟩
      have ea : es_af 5 (t + 2) = t + 1 := rfl
      obtain ⟨r, N', L', C', cr', hE, hX, hY⟩ := ih (pc + 1) N L C (upd s t (es_ar 5 (s t) (s (t + 1)))) (t + 1) cr (by omega) (by omega) (hnx (by decide) (by decide) _ ea) (by omega) W hPN hLP hnr hcr
      refine ⟨r, N', L', C', cr', hE, fun f_held' f_records' f_summed' a_at' a_version' a_value' a_originAt' a_stream' a_type' a_originBy' a_originCode' a_goesOn' a_events' a_byVersion' a_byOrigin' a_stack' a_cell' a_before' a_position' hcx hst hce hb0 hb1 post hq => ?_, fun g_count' g_calls' g_top' b_isCut' b_removed' b_stream' b_type' b_from' b_by' b_value' b_version' b_on' b_call' b_stack' b_cells' b_position' hcy htp hst hce hsv post hq => ?_⟩
      · refine ⟨hv3, ?_⟩
        rw [cp, eSz]
        refine br_f (nI_ge hpc (by omega)) (nm_r e14 ⟨hv42, nm_r (e' := nI 5) eOp ⟨hv42, nm_r (e' := a_pC (14 * p + pc)) eC (nm_r (nI_1 pc) ?_)⟩⟩)
        refine br_t (by decide) (br_f (by decide) (nm_r (pk_m1 (t + 1)) ?_))
        rw [nI_pred t, nI_clamp (show t < 2 ^ 31 by omega), nI_clamp (show t + 1 < 2 ^ 31 by omega), hst t (by omega), hst (t + 1) (by omega)]
        have h5 : vp_in (nI t) 5 := vp_in_nI (by omega) (by decide)
        refine ⟨h5, vp_in_nI (by omega) (by decide), es_x_arith (by decide) ⟨h5, nm_e ?_⟩⟩
        exact hX f_held' f_records' f_summed' a_at' a_version' a_value' a_originAt' a_stream' a_type' a_originBy' a_originCode' a_goesOn' a_events' a_byVersion' a_byOrigin' _ a_cell' a_before' a_position' hcx (es_stu (fun j hj => hst j (by omega))) hce hb0 hb1 post hq
      · subst htp
        refine ⟨hv4, ?_⟩
        rw [cp, eSzY]
        refine br_f (nI_ge hpc (by omega)) (nm_r e14 ⟨hv56, ?_⟩)
        rw [c14, eOpY, eCY]
        refine br_f (by decide) ⟨hv56, br_f (by decide) ⟨hv56, hv56, ?_⟩⟩
        refine es_y_arith hP2 (by decide) htop ?_
        rw [hst t (by omega), hst (t + 1) (by omega)]
        exact hY g_count' g_calls' (nI (t + 1)) b_isCut' b_removed' b_stream' b_type' b_from' b_by' b_value' b_version' b_on' b_call' _ b_cells' b_position' hcy rfl (es_stu (fun j hj => hst j (by omega))) hce hsv post hq
    · obtain ⟨t, rfl⟩ : ∃ t, top = t + 2 := ⟨top - 2, by have : es_tk 6 = 2 := rfl; omega⟩
      have ea : es_af 6 (t + 2) = t + 1 := rfl
      obtain ⟨r, N', L', C', cr', hE, hX, hY⟩ := ih (pc + 1) N L C (upd s t (es_ar 6 (s t) (s (t + 1)))) (t + 1) cr (by omega) (by omega) (hnx (by decide) (by decide) _ ea) (by omega) W hPN hLP hnr hcr
      refine ⟨r, N', L', C', cr', hE, fun f_held' f_records' f_summed' a_at' a_version' a_value' a_originAt' a_stream' a_type' a_originBy' a_originCode' a_goesOn' a_events' a_byVersion' a_byOrigin' a_stack' a_cell' a_before' a_position' hcx hst hce hb0 hb1 post hq => ?_, fun g_count' g_calls' g_top' b_isCut' b_removed' b_stream' b_type' b_from' b_by' b_value' b_version' b_on' b_call' b_stack' b_cells' b_position' hcy htp hst hce hsv post hq => ?_⟩
      · refine ⟨hv3, ?_⟩
        rw [cp, eSz]
        refine br_f (nI_ge hpc (by omega)) (nm_r e14 ⟨hv42, nm_r (e' := nI 6) eOp ⟨hv42, nm_r (e' := a_pC (14 * p + pc)) eC (nm_r (nI_1 pc) ?_)⟩⟩)
        refine br_t (by decide) (br_f (by decide) (nm_r (pk_m1 (t + 1)) ?_))
        rw [nI_pred t, nI_clamp (show t < 2 ^ 31 by omega), nI_clamp (show t + 1 < 2 ^ 31 by omega), hst t (by omega), hst (t + 1) (by omega)]
        have h5 : vp_in (nI t) 5 := vp_in_nI (by omega) (by decide)
        refine ⟨h5, vp_in_nI (by omega) (by decide), es_x_arith (by decide) ⟨h5, nm_e ?_⟩⟩
        exact hX f_held' f_records' f_summed' a_at' a_version' a_value' a_originAt' a_stream' a_type' a_originBy' a_originCode' a_goesOn' a_events' a_byVersion' a_byOrigin' _ a_cell' a_before' a_position' hcx (es_stu (fun j hj => hst j (by omega))) hce hb0 hb1 post hq
      · subst htp
        refine ⟨hv4, ?_⟩
        rw [cp, eSzY]
        refine br_f (nI_ge hpc (by omega)) (nm_r e14 ⟨hv56, ?_⟩)
        rw [c14, eOpY, eCY]
        refine br_f (by decide) ⟨hv56, br_f (by decide) ⟨hv56, hv56, ?_⟩⟩
        refine es_y_arith hP2 (by decide) htop ?_
        rw [hst t (by omega), hst (t + 1) (by omega)]
        exact hY g_count' g_calls' (nI (t + 1)) b_isCut' b_removed' b_stream' b_type' b_from' b_by' b_value' b_version' b_on' b_call' _ b_cells' b_position' hcy rfl (es_stu (fun j hj => hst j (by omega))) hce hsv post hq
    · obtain ⟨t, rfl⟩ : ∃ t, top = t + 2 := ⟨top - 2, by have : es_tk 7 = 2 := rfl; omega⟩
      have ea : es_af 7 (t + 2) = t + 1 := rfl
      obtain ⟨r, N', L', C', cr', hE, hX, hY⟩ := ih (pc + 1) N L C (upd s t (es_ar 7 (s t) (s (t + 1)))) (t + 1) cr (by omega) (by omega) (hnx (by decide) (by decide) _ ea) (by omega) W hPN hLP hnr hcr
      refine ⟨r, N', L', C', cr', hE, fun f_held' f_records' f_summed' a_at' a_version' a_value' a_originAt' a_stream' a_type' a_originBy' a_originCode' a_goesOn' a_events' a_byVersion' a_byOrigin' a_stack' a_cell' a_before' a_position' hcx hst hce hb0 hb1 post hq => ?_, fun g_count' g_calls' g_top' b_isCut' b_removed' b_stream' b_type' b_from' b_by' b_value' b_version' b_on' b_call' b_stack' b_cells' b_position' hcy htp hst hce hsv post hq => ?_⟩
      · refine ⟨hv3, ?_⟩
        rw [cp, eSz]
        refine br_f (nI_ge hpc (by omega)) (nm_r e14 ⟨hv42, nm_r (e' := nI 7) eOp ⟨hv42, nm_r (e' := a_pC (14 * p + pc)) eC (nm_r (nI_1 pc) ?_)⟩⟩)
        refine br_t (by decide) (br_f (by decide) (nm_r (pk_m1 (t + 1)) ?_))
        rw [nI_pred t, nI_clamp (show t < 2 ^ 31 by omega), nI_clamp (show t + 1 < 2 ^ 31 by omega), hst t (by omega), hst (t + 1) (by omega)]
        have h5 : vp_in (nI t) 5 := vp_in_nI (by omega) (by decide)
        refine ⟨h5, vp_in_nI (by omega) (by decide), es_x_arith (by decide) ⟨h5, nm_e ?_⟩⟩
        exact hX f_held' f_records' f_summed' a_at' a_version' a_value' a_originAt' a_stream' a_type' a_originBy' a_originCode' a_goesOn' a_events' a_byVersion' a_byOrigin' _ a_cell' a_before' a_position' hcx (es_stu (fun j hj => hst j (by omega))) hce hb0 hb1 post hq
      · subst htp
        refine ⟨hv4, ?_⟩
        rw [cp, eSzY]
        refine br_f (nI_ge hpc (by omega)) (nm_r e14 ⟨hv56, ?_⟩)
        rw [c14, eOpY, eCY]
        refine br_f (by decide) ⟨hv56, br_f (by decide) ⟨hv56, hv56, ?_⟩⟩
        refine es_y_arith hP2 (by decide) htop ?_
        rw [hst t (by omega), hst (t + 1) (by omega)]
        exact hY g_count' g_calls' (nI (t + 1)) b_isCut' b_removed' b_stream' b_type' b_from' b_by' b_value' b_version' b_on' b_call' _ b_cells' b_position' hcy rfl (es_stu (fun j hj => hst j (by omega))) hce hsv post hq
    · obtain ⟨t, rfl⟩ : ∃ t, top = t + 1 := ⟨top - 1, by have : es_tk 8 = 1 := rfl; omega⟩
      have ea : es_af 8 (t + 1) = t + 2 := rfl
      obtain ⟨r, N', L', C', cr', hE, hX, hY⟩ := ih (pc + 1) N L C (upd s (t + 1) (s t)) (t + 2) cr (by omega) (by omega) (hnx (by decide) (by decide) _ ea) (by omega) W hPN hLP hnr hcr
      refine ⟨r, N', L', C', cr', hE, fun f_held' f_records' f_summed' a_at' a_version' a_value' a_originAt' a_stream' a_type' a_originBy' a_originCode' a_goesOn' a_events' a_byVersion' a_byOrigin' a_stack' a_cell' a_before' a_position' hcx hst hce hb0 hb1 post hq => ?_, fun g_count' g_calls' g_top' b_isCut' b_removed' b_stream' b_type' b_from' b_by' b_value' b_version' b_on' b_call' b_stack' b_cells' b_position' hcy htp hst hce hsv post hq => ?_⟩
      · refine ⟨hv3, ?_⟩
        rw [cp, eSz]
        refine br_f (nI_ge hpc (by omega)) (nm_r e14 ⟨hv42, nm_r (e' := nI 8) eOp ⟨hv42, nm_r (e' := a_pC (14 * p + pc)) eC (nm_r (nI_1 pc) ?_)⟩⟩)
        refine br_t (by decide) (br_t (by decide) (br_t rfl ?_))
        rw [nI_pred t, nI_clamp (show t < 2 ^ 31 by omega), nI_clamp (show t + 1 < 2 ^ 31 by omega), hst t (by omega)]
        exact ⟨vp_in_nI (by omega) (by decide), vp_in_nI (by omega) (by decide), nm_e (nm_r (nI_1 (t + 1)) (hX f_held' f_records' f_summed' a_at' a_version' a_value' a_originAt' a_stream' a_type' a_originBy' a_originCode' a_goesOn' a_events' a_byVersion' a_byOrigin' _ a_cell' a_before' a_position' hcx (es_stk hst) hce hb0 hb1 post hq))⟩
      · subst htp
        refine ⟨hv4, ?_⟩
        rw [cp, eSzY]
        refine br_f (nI_ge hpc (by omega)) (nm_r e14 ⟨hv56, ?_⟩)
        rw [c14, eOpY, eCY]
        refine br_f (by decide) ⟨hv56, br_f (by decide) ⟨hv56, hv56, ?_⟩⟩
        refine es_y_dup hP2 (by omega) ?_
        rw [hst t (by omega)]
        exact hY g_count' g_calls' (nI (t + 2)) b_isCut' b_removed' b_stream' b_type' b_from' b_by' b_value' b_version' b_on' b_call' _ b_cells' b_position' hcy rfl (es_stk hst) hce hsv post hq
    · obtain ⟨t, rfl⟩ : ∃ t, top = t + 1 := ⟨top - 1, by have : es_tk 9 = 1 := rfl; omega⟩
      have ea : es_af 9 (t + 1) = t := rfl
      obtain ⟨q, hq2, eq⟩ := hft.1 (Or.inr rfl)
      obtain ⟨r, N', L', C', cr', hE, hX, hY⟩ := ih (pc + 1) N L C s t (upd cr (2 * s0 + q) (s t)) (by omega) (by omega) (hnx (by decide) (by decide) _ ea) (by omega) W hPN hLP hnr (fun k hk k1 k2 => by rw [pk_un (by omega)]; exact hcr k hk k1 k2)
      refine ⟨r, N', L', C', cr', hE, fun f_held' f_records' f_summed' a_at' a_version' a_value' a_originAt' a_stream' a_type' a_originBy' a_originCode' a_goesOn' a_events' a_byVersion' a_byOrigin' a_stack' a_cell' a_before' a_position' hcx hst hce hb0 hb1 post hq => ?_, fun g_count' g_calls' g_top' b_isCut' b_removed' b_stream' b_type' b_from' b_by' b_value' b_version' b_on' b_call' b_stack' b_cells' b_position' hcy htp hst hce hsv post hq => ?_⟩
      · refine ⟨hv3, ?_⟩
        rw [cp, eSz]
        refine br_f (nI_ge hpc (by omega)) (nm_r e14 ⟨hv42, nm_r (e' := nI 9) eOp ⟨hv42, nm_r (e' := a_pC (14 * p + pc)) eC (nm_r (nI_1 pc) ?_)⟩⟩)
        refine br_t (by decide) (br_t (by decide) (br_f (by decide) (br_t rfl (nm_r (pk_m1 t) ?_))))
        rw [eq, hbase q hq2, nI_clamp (show t < 2 ^ 31 by omega), nI_clamp (show 10 * p + (2 * s0 + q) < 2 ^ 31 by omega), hst t (by omega)]
        refine ⟨vp_in_nI (by omega) (by decide), vp_in_nI (by omega) (by decide), nm_e (hX f_held' f_records' f_summed' a_at' a_version' a_value' a_originAt' a_stream' a_type' a_originBy' a_originCode' a_goesOn' a_events' a_byVersion' a_byOrigin' a_stack' _ a_before' a_position' hcx (fun j hj => hst j (by omega)) (fun k hk => ?_) hb0 hb1 post (fun f_held'' f_records'' f_summed'' a_at'' a_version'' a_value'' a_originAt'' a_stream'' a_type'' a_originBy'' a_originCode'' a_goesOn'' a_events'' a_byVersion'' a_byOrigin'' a_stack'' a_cell'' k1 k2 k3 => hq f_held'' f_records'' f_summed'' a_at'' a_version'' a_value'' a_originAt'' a_stream'' a_type'' a_originBy'' a_originCode'' a_goesOn'' a_events'' a_byVersion'' a_byOrigin'' a_stack'' a_cell'' k1 k2 (fun j hj hj' => (k3 j hj hj').trans (pk_un (by omega)))))⟩
        by_cases z : k = 2 * s0 + q
        · rw [z, pk_us, pk_us]
        · rw [pk_un (by omega), pk_un z]; exact hce k hk
      · subst htp
        refine ⟨hv4, ?_⟩
        rw [cp, eSzY]
        refine br_f (nI_ge hpc (by omega)) (nm_r e14 ⟨hv56, ?_⟩)
        rw [c14, eOpY, eCY]
        refine br_f (by decide) ⟨hv56, br_f (by decide) ⟨hv56, hv56, ?_⟩⟩
        rw [eq]
        refine es_y_set hP2 hp hs0 hq2 (esy (hcy.2.2.2 P hPN).2.2.1) (by omega) ?_
        rw [hst t (by omega)]
        refine hY g_count' g_calls' (nI t) b_isCut' b_removed' b_stream' b_type' b_from' b_by' b_value' b_version' b_on' b_call' b_stack' _ b_position' hcy rfl (fun j hj => hst j (by omega)) (fun k hk => ?_) (fun k hk => by rw [pk_un (by omega)]; exact hsv k hk) post (fun g_count'' g_calls'' g_top'' b_isCut'' b_removed'' b_stream'' b_type'' b_from'' b_by'' b_value'' b_version'' b_on'' b_call'' b_stack'' b_cells'' k1 k2 k3 => hq g_count'' g_calls'' g_top'' b_isCut'' b_removed'' b_stream'' b_type'' b_from'' b_by'' b_value'' b_version'' b_on'' b_call'' b_stack'' b_cells'' k1 k2 (fun j hj hj' => (k3 j hj hj').trans (pk_un (by omega))))
        by_cases z : k = 2 * s0 + q
        · rw [z, pk_us, pk_us]
        · rw [pk_un (by omega), pk_un z]; exact hce k hk
    · obtain ⟨t, rfl⟩ : ∃ t, top = t + 1 := ⟨top - 1, by have : es_tk 10 = 1 := rfl; omega⟩
      have ea : es_af 10 (t + 1) = t := rfl
      obtain ⟨q, hq1, hq2, eq⟩ := hft.2.2 (Or.inl rfl)
      by_cases cz : s t = 0
      · obtain ⟨r, N', L', C', cr', hE, hX, hY⟩ := ih q N L C s t cr (by omega) hq2 (fun hj => by have := hsu q hj (Or.inl ⟨Or.inl rfl, eq⟩); rw [ea] at this; exact this) (by omega) W hPN hLP hnr hcr
        refine ⟨r, N', L', C', cr', hE, fun f_held' f_records' f_summed' a_at' a_version' a_value' a_originAt' a_stream' a_type' a_originBy' a_originCode' a_goesOn' a_events' a_byVersion' a_byOrigin' a_stack' a_cell' a_before' a_position' hcx hst hce hb0 hb1 post hq => ?_, fun g_count' g_calls' g_top' b_isCut' b_removed' b_stream' b_type' b_from' b_by' b_value' b_version' b_on' b_call' b_stack' b_cells' b_position' hcy htp hst hce hsv post hq => ?_⟩
        · refine ⟨hv3, ?_⟩
          rw [cp, eSz]
          refine br_f (nI_ge hpc (by omega)) (nm_r e14 ⟨hv42, nm_r (e' := nI 10) eOp ⟨hv42, nm_r (e' := a_pC (14 * p + pc)) eC (nm_r (nI_1 pc) ?_)⟩⟩)
          refine br_t (by decide) (br_t (by decide) (br_f (by decide) (br_f (by decide) (br_t rfl (nm_r (pk_m1 t) ?_)))))
          rw [eq, nI_clamp (show t < 2 ^ 31 by omega), hst t (by omega)]
          exact ⟨vp_in_nI (by omega) (by decide), br_t cz (hX f_held' f_records' f_summed' a_at' a_version' a_value' a_originAt' a_stream' a_type' a_originBy' a_originCode' a_goesOn' a_events' a_byVersion' a_byOrigin' a_stack' a_cell' a_before' a_position' hcx (fun j hj => hst j (by omega)) hce hb0 hb1 post hq)⟩
        · subst htp
          refine ⟨hv4, ?_⟩
          rw [cp, eSzY]
          refine br_f (nI_ge hpc (by omega)) (nm_r e14 ⟨hv56, ?_⟩)
          rw [c14, eOpY, eCY]
          refine br_f (by decide) ⟨hv56, br_f (by decide) ⟨hv56, hv56, ?_⟩⟩
          rw [eq]
          refine es_y_zero hP2 (by omega) (fun _ => ?_) (fun z => absurd (by rw [hst t (by omega)]; exact cz) z)
          exact hY g_count' g_calls' (nI t) b_isCut' b_removed' b_stream' b_type' b_from' b_by' b_value' b_version' b_on' b_call' b_stack' b_cells' b_position' hcy rfl (fun j hj => hst j (by omega)) hce hsv post hq
      · obtain ⟨r, N', L', C', cr', hE, hX, hY⟩ := ih (pc + 1) N L C s t cr (by omega) (by omega) (hnx (by decide) (by decide) _ ea) (by omega) W hPN hLP hnr hcr
        refine ⟨r, N', L', C', cr', hE, fun f_held' f_records' f_summed' a_at' a_version' a_value' a_originAt' a_stream' a_type' a_originBy' a_originCode' a_goesOn' a_events' a_byVersion' a_byOrigin' a_stack' a_cell' a_before' a_position' hcx hst hce hb0 hb1 post hq => ?_, fun g_count' g_calls' g_top' b_isCut' b_removed' b_stream' b_type' b_from' b_by' b_value' b_version' b_on' b_call' b_stack' b_cells' b_position' hcy htp hst hce hsv post hq => ?_⟩
        · refine ⟨hv3, ?_⟩
          rw [cp, eSz]
          refine br_f (nI_ge hpc (by omega)) (nm_r e14 ⟨hv42, nm_r (e' := nI 10) eOp ⟨hv42, nm_r (e' := a_pC (14 * p + pc)) eC (nm_r (nI_1 pc) ?_)⟩⟩)
          refine br_t (by decide) (br_t (by decide) (br_f (by decide) (br_f (by decide) (br_t rfl (nm_r (pk_m1 t) ?_)))))
          rw [nI_clamp (show t < 2 ^ 31 by omega), hst t (by omega)]
          exact ⟨vp_in_nI (by omega) (by decide), br_f cz (hX f_held' f_records' f_summed' a_at' a_version' a_value' a_originAt' a_stream' a_type' a_originBy' a_originCode' a_goesOn' a_events' a_byVersion' a_byOrigin' a_stack' a_cell' a_before' a_position' hcx (fun j hj => hst j (by omega)) hce hb0 hb1 post hq)⟩
        · subst htp
          refine ⟨hv4, ?_⟩
          rw [cp, eSzY]
          refine br_f (nI_ge hpc (by omega)) (nm_r e14 ⟨hv56, ?_⟩)
          rw [c14, eOpY, eCY]
          refine br_f (by decide) ⟨hv56, br_f (by decide) ⟨hv56, hv56, ?_⟩⟩
          rw [eq]
          refine es_y_zero hP2 (by omega) (fun z => absurd (by rw [← hst t (by omega)]; exact z) cz) (fun _ => ?_)
          exact hY g_count' g_calls' (nI t) b_isCut' b_removed' b_stream' b_type' b_from' b_by' b_value' b_version' b_on' b_call' b_stack' b_cells' b_position' hcy rfl (fun j hj => hst j (by omega)) hce hsv post hq
    · have ea : es_af 11 top = top := rfl
      obtain ⟨q, hq1, hq2, eq⟩ := hft.2.2 (Or.inr rfl)
      obtain ⟨r, N', L', C', cr', hE, hX, hY⟩ := ih q N L C s top cr (by omega) hq2 (fun hj => by have := hsu q hj (Or.inl ⟨Or.inr rfl, eq⟩); rw [ea] at this; exact this) (by omega) W hPN hLP hnr hcr
      refine ⟨r, N', L', C', cr', hE, fun f_held' f_records' f_summed' a_at' a_version' a_value' a_originAt' a_stream' a_type' a_originBy' a_originCode' a_goesOn' a_events' a_byVersion' a_byOrigin' a_stack' a_cell' a_before' a_position' hcx hst hce hb0 hb1 post hq => ?_, fun g_count' g_calls' g_top' b_isCut' b_removed' b_stream' b_type' b_from' b_by' b_value' b_version' b_on' b_call' b_stack' b_cells' b_position' hcy htp hst hce hsv post hq => ?_⟩
      · refine ⟨hv3, ?_⟩
        rw [cp, eSz]
        refine br_f (nI_ge hpc (by omega)) (nm_r e14 ⟨hv42, nm_r (e' := nI 11) eOp ⟨hv42, nm_r (e' := a_pC (14 * p + pc)) eC (nm_r (nI_1 pc) ?_)⟩⟩)
        rw [eq]
        exact br_t (by decide) (br_t (by decide) (br_f (by decide) (br_f (by decide) (br_f (by decide) (br_t rfl (hX f_held' f_records' f_summed' a_at' a_version' a_value' a_originAt' a_stream' a_type' a_originBy' a_originCode' a_goesOn' a_events' a_byVersion' a_byOrigin' a_stack' a_cell' a_before' a_position' hcx hst hce hb0 hb1 post hq))))))
      · subst htp
        refine ⟨hv4, ?_⟩
        rw [cp, eSzY]
        refine br_f (nI_ge hpc (by omega)) (nm_r e14 ⟨hv56, ?_⟩)
        rw [c14, eOpY, eCY]
        refine br_f (by decide) ⟨hv56, br_f (by decide) ⟨hv56, hv56, ?_⟩⟩
        rw [eq]
        exact es_y_jump hP2 (hY g_count' g_calls' (nI top) b_isCut' b_removed' b_stream' b_type' b_from' b_by' b_value' b_version' b_on' b_call' b_stack' b_cells' b_position' hcy rfl hst hce hsv post hq)
    · obtain ⟨t, rfl⟩ : ∃ t, top = t + 1 := ⟨top - 1, by have : es_tk 12 = 1 := rfl; omega⟩
      have ea : es_af 12 (t + 1) = t := rfl
      obtain ⟨c, hc, eq⟩ := hft.2.1 rfl
      have hh5 : vp_in (nI t) 5 := vp_in_nI (by omega) (by decide)
      have hh8 : vp_in (nI t) 8 := vp_in_nI (by omega) (by decide)
      have hpre : ∀ (f_held' f_records' f_summed' : Int32) (a_at' a_version' a_value' a_originAt' a_stream' a_type' a_originBy' a_originCode' a_goesOn' a_events' a_byVersion' a_byOrigin' a_stack' a_cell' a_before' a_position' : Nat → Int32) (post : Int32 → SX → Prop), es_CX N F L rm False f_held' f_records' f_flushed f_summed' a_at' a_version' a_value' a_originAt' a_stream' a_type' a_originBy' a_originCode' a_goesOn' a_events' a_cuts a_firm a_cutsGone a_byVersion' a_byOrigin' a_upTo → (∀ j, j < t + 1 → a_stack' j = s j) → wpX_emit (fun r_27 u => match u with | (f_held1, f_records1, f_flushed1, f_summed1, f_draft1, f_drafted1, f_seen1, f_time1, f_taken1, a_at1, a_version1, a_value1, a_originAt1, a_stream1, a_type1, a_originBy1, a_originCode1, a_goesOn1, a_events1, a_cuts1, a_firm1, a_cutsGone1, a_byVersion1, a_byOrigin1, a_upTo1, a_draftType1, a_draftValue1, a_dOp1, a_dC1, a_height1, a_clash1, a_pOp1, a_pSize1, a_pC1, a_position1, a_cell1, a_noted1, a_stack1, a_before1, a_shown1, a_gType1, a_gTaken1, a_gWaiting1, a_kCount1, a_gCursor1, a_gParked1, a_kCursor1, a_tAt1, a_tDue1, a_wAt1, a_kAt1, a_tTimes1, a_wTimes1, a_kTimes1) => (((r_27 = 0 → (vp_in (nI (10 * p + 2 * s0)) 90 ∧ ∀ a_cell2, a_cell2 = upd a_cell1 (nI (10 * p + 2 * s0)).toNatClampNeg (a_before1 0) → (vp_in (nI (10 * p + 2 * s0) + 1) 90 ∧ ∀ a_cell3, a_cell3 = upd a_cell2 (nI (10 * p + 2 * s0) + 1).toNatClampNeg (a_before1 1) → (post 0 (f_held1, f_records1, f_flushed1, f_summed1, f_draft1, f_drafted1, f_seen1, f_time1, f_taken1, a_at1, a_version1, a_value1, a_originAt1, a_stream1, a_type1, a_originBy1, a_originCode1, a_goesOn1, a_events1, a_cuts1, a_firm1, a_cutsGone1, a_byVersion1, a_byOrigin1, a_upTo1, a_draftType1, a_draftValue1, a_dOp1, a_dC1, a_height1, a_clash1, a_pOp1, a_pSize1, a_pC1, a_position1, a_cell3, a_noted1, a_stack1, a_before1, a_shown1, a_gType1, a_gTaken1, a_gWaiting1, a_kCount1, a_gCursor1, a_gParked1, a_kCursor1, a_tAt1, a_tDue1, a_wAt1, a_kAt1, a_tTimes1, a_wTimes1, a_kTimes1))))) ∧ (¬ r_27 = 0 → (wX_runs_46 post (nI p) (nI (es_Q rm P)) (nI (10 * p + 2 * s0)) (m + 1) (nI t) (nI (pc + 1)) f_held1 f_records1 f_flushed1 f_summed1 f_draft1 f_drafted1 f_seen1 f_time1 f_taken1 a_at1 a_version1 a_value1 a_originAt1 a_stream1 a_type1 a_originBy1 a_originCode1 a_goesOn1 a_events1 a_cuts1 a_firm1 a_cutsGone1 a_byVersion1 a_byOrigin1 a_upTo1 a_draftType1 a_draftValue1 a_dOp1 a_dC1 a_height1 a_clash1 a_pOp1 a_pSize1 a_pC1 a_position1 a_cell1 a_noted1 a_stack1 a_before1 a_shown1 a_gType1 a_gTaken1 a_gWaiting1 a_kCount1 a_gCursor1 a_gParked1 a_kCursor1 a_tAt1 a_tDue1 a_wAt1 a_kAt1 a_tTimes1 a_wTimes1 a_kTimes1))))) (f_held', f_records', f_flushed, f_summed', f_draft, f_drafted, f_seen, f_time, f_taken, a_at', a_version', a_value', a_originAt', a_stream', a_type', a_originBy', a_originCode', a_goesOn', a_events', a_cuts, a_firm, a_cutsGone, a_byVersion', a_byOrigin', a_upTo, a_draftType, a_draftValue, a_dOp, a_dC, a_height, a_clash, a_pOp, a_pSize, a_pC, a_position', a_cell', a_noted, a_stack', a_before', a_shown, a_gType, a_gTaken, a_gWaiting, a_kCount, a_gCursor, a_gParked, a_kCursor, a_tAt, a_tDue, a_wAt, a_kAt, a_tTimes, a_wTimes, a_kTimes) (nI p) (nI P) (nI pc) (nI c) (s t) → wX_runs_46 post (nI p) (nI (es_Q rm P)) (nI (10 * p + 2 * s0)) (m + 1 + 1) (nI (t + 1)) (nI pc) f_held' f_records' f_flushed f_summed' f_draft f_drafted f_seen f_time f_taken a_at' a_version' a_value' a_originAt' a_stream' a_type' a_originBy' a_originCode' a_goesOn' a_events' a_cuts a_firm a_cutsGone a_byVersion' a_byOrigin' a_upTo a_draftType a_draftValue a_dOp a_dC a_height a_clash a_pOp a_pSize a_pC a_position' a_cell' a_noted a_stack' a_before' a_shown a_gType a_gTaken a_gWaiting a_kCount a_gCursor a_gParked a_kCursor a_tAt a_tDue a_wAt a_kAt a_tTimes a_wTimes a_kTimes := fun f_held' f_records' f_summed' a_at' a_version' a_value' a_originAt' a_stream' a_type' a_originBy' a_originCode' a_goesOn' a_events' a_byVersion' a_byOrigin' a_stack' a_cell' a_before' a_position' post hcx hst hem => by
        refine ⟨hv3, ?_⟩
        rw [cp, eSz]
        refine br_f (nI_ge hpc (by omega)) (nm_r e14 ⟨hv42, nm_r (e' := nI 12) eOp ⟨hv42, nm_r (e' := a_pC (14 * p + pc)) eC (nm_r (nI_1 pc) ?_)⟩⟩)
        rw [eq]
        refine br_t (by decide) (br_t (by decide) (br_f (by decide) (br_f (by decide) (br_f (by decide) (br_f (by decide) (br_t rfl (nm_r (pk_m1 t) ⟨hvQ, hh5, ?_⟩)))))))
        rw [cQ, (hcx.2.2.2.1 P hPN hrP).1, nI_pred pc, nI_clamp (show t < 2 ^ 31 by omega), hst t (by omega)]
        exact hem
      have hpreY : ∀ (g_count' g_calls' g_top' : Int32) (b_isCut' b_removed' b_stream' b_type' b_from' b_by' b_value' b_version' b_on' b_call' b_stack' b_cells' b_position' : Nat → Int32) (post : Int32 → SY → Prop), g_top' = nI (t + 1) → (∀ j, j < t + 1 → b_stack' j = s j) → wpY_emit (fun r_88 u => match u with | (g_count1, g_flushed1, g_calls1, g_drafted1, g_top1, g_time1, b_isCut1, b_removed1, b_stream1, b_type1, b_from1, b_by1, b_value1, b_version1, b_on1, b_call1, b_draftType1, b_draftValue1, b_op1, b_with1, b_length1, b_height1, b_torn1, b_stack1, b_position1, b_cells1, b_noted1, b_wanted1, b_formed1, b_cursor1, b_parked1, b_where1, b_often1, b_due1, b_many1, b_found1) => (((r_88 = 0 → (wpY_copyCells (fun u => match u with | (g_count2, g_flushed2, g_calls2, g_drafted2, g_top2, g_time2, b_isCut2, b_removed2, b_stream2, b_type2, b_from2, b_by2, b_value2, b_version2, b_on2, b_call2, b_draftType2, b_draftValue2, b_op2, b_with2, b_length2, b_height2, b_torn2, b_stack2, b_position2, b_cells2, b_noted2, b_wanted2, b_formed2, b_cursor2, b_parked2, b_where2, b_often2, b_due2, b_many2, b_found2) => (post 0 (g_count2, g_flushed2, g_calls2, g_drafted2, g_top2, g_time2, b_isCut2, b_removed2, b_stream2, b_type2, b_from2, b_by2, b_value2, b_version2, b_on2, b_call2, b_draftType2, b_draftValue2, b_op2, b_with2, b_length2, b_height2, b_torn2, b_stack2, b_position2, b_cells2, b_noted2, b_wanted2, b_formed2, b_cursor2, b_parked2, b_where2, b_often2, b_due2, b_many2, b_found2))) (g_count1, g_flushed1, g_calls1, g_drafted1, g_top1, g_time1, b_isCut1, b_removed1, b_stream1, b_type1, b_from1, b_by1, b_value1, b_version1, b_on1, b_call1, b_draftType1, b_draftValue1, b_op1, b_with1, b_length1, b_height1, b_torn1, b_stack1, b_position1, b_cells1, b_noted1, b_wanted1, b_formed1, b_cursor1, b_parked1, b_where1, b_often1, b_due1, b_many1, b_found1) 90 (10 * nI p))) ∧ (¬ r_88 = 0 → (∀ x3_126, x3_126 = nI pc + 1 → (wY_fold_17 post (nI p) (nI P) (m + 1) x3_126 g_count1 g_flushed1 g_calls1 g_drafted1 g_top1 g_time1 b_isCut1 b_removed1 b_stream1 b_type1 b_from1 b_by1 b_value1 b_version1 b_on1 b_call1 b_draftType1 b_draftValue1 b_op1 b_with1 b_length1 b_height1 b_torn1 b_stack1 b_position1 b_cells1 b_noted1 b_wanted1 b_formed1 b_cursor1 b_parked1 b_where1 b_often1 b_due1 b_many1 b_found1)))))) (g_count', g_flushed, g_calls', g_drafted, nI t, g_time, b_isCut', b_removed', b_stream', b_type', b_from', b_by', b_value', b_version', b_on', b_call', b_draftType, b_draftValue, b_op, b_with, b_length, b_height, b_torn, b_stack', b_position', b_cells', b_noted, b_wanted, b_formed, b_cursor, b_parked, b_where, b_often, b_due, b_many, b_found) (nI p) (nI P) (nI pc) (nI c) (s t) → wY_fold_17 post (nI p) (nI P) (m + 1 + 1) (nI pc) g_count' g_flushed g_calls' g_drafted g_top' g_time b_isCut' b_removed' b_stream' b_type' b_from' b_by' b_value' b_version' b_on' b_call' b_draftType b_draftValue b_op b_with b_length b_height b_torn b_stack' b_position' b_cells' b_noted b_wanted b_formed b_cursor b_parked b_where b_often b_due b_many b_found := fun g_count' g_calls' g_top' b_isCut' b_removed' b_stream' b_type' b_from' b_by' b_value' b_version' b_on' b_call' b_stack' b_cells' b_position' post htp hst hem => by
        subst htp
        refine ⟨hv4, ?_⟩
        rw [cp, eSzY]
        refine br_f (nI_ge hpc (by omega)) (nm_r e14 ⟨hv56, ?_⟩)
        rw [c14, eOpY, eCY, eq]
        refine br_f (by decide) ⟨hv56, br_t rfl (nm_r (nI_pred t) ?_)⟩
        rw [nI_pred t, nI_clamp (show t < 2 ^ 31 by omega), hst t (by omega)]
        exact ⟨hh8, nm_e ⟨hv56, hem⟩⟩
      by_cases hA : ∃ i, i < N ∧ rm i = false ∧ es_c (L i) = false ∧ es_o (L i) = some (p, P, pc)
      · obtain ⟨r, N', L', C', cr', hE, hX, hY⟩ := ih (pc + 1) N L C s t cr (by omega) (by omega) (hnx (by decide) (by decide) _ ea) (by omega) W hPN hLP hnr hcr
        refine ⟨r, N', L', C', cr', hE, fun f_held' f_records' f_summed' a_at' a_version' a_value' a_originAt' a_stream' a_type' a_originBy' a_originCode' a_goesOn' a_events' a_byVersion' a_byOrigin' a_stack' a_cell' a_before' a_position' hcx hst hce hb0 hb1 post hq => hpre f_held' f_records' f_summed' a_at' a_version' a_value' a_originAt' a_stream' a_type' a_originBy' a_originCode' a_goesOn' a_events' a_byVersion' a_byOrigin' a_stack' a_cell' a_before' a_position' post hcx hst ?_, fun g_count' g_calls' g_top' b_isCut' b_removed' b_stream' b_type' b_from' b_by' b_value' b_version' b_on' b_call' b_stack' b_cells' b_position' hcy htp hst hce hsv post hq => hpreY g_count' g_calls' g_top' b_isCut' b_removed' b_stream' b_type' b_from' b_by' b_value' b_version' b_on' b_call' b_stack' b_cells' b_position' post htp hst ?_⟩
        · exact es_x_emit hcx W hp hPN (by omega) hc (fun _ => br_f es_10 (hX f_held' f_records' f_summed' a_at' a_version' a_value' a_originAt' a_stream' a_type' a_originBy' a_originCode' a_goesOn' a_events' a_byVersion' a_byOrigin' a_stack' a_cell' a_before' a_position' hcx (fun j hj => hst j (by omega)) hce hb0 hb1 post hq)) (fun z => absurd hA z) (fun z => absurd hA z)
        · exact es_y_emit hcy W hp hPN (by omega) hc (fun i hi => hnr i pc hi) (fun _ => br_f es_10 (nm_r (nI_1 pc) (hY g_count' g_calls' (nI t) b_isCut' b_removed' b_stream' b_type' b_from' b_by' b_value' b_version' b_on' b_call' b_stack' b_cells' b_position' hcy rfl (fun j hj => hst j (by omega)) hce hsv post hq))) (fun z => absurd hA z) (fun z => absurd hA z)
      · by_cases hFu : es_Q rm N = 40 ∨ N = 2000
        · refine ⟨0, N, L, C, cr0, ⟨Or.inl rfl, Nat.le_refl _, fun _ _ => rfl, W, rfl⟩, fun f_held' f_records' f_summed' a_at' a_version' a_value' a_originAt' a_stream' a_type' a_originBy' a_originCode' a_goesOn' a_events' a_byVersion' a_byOrigin' a_stack' a_cell' a_before' a_position' hcx hst hce hb0 hb1 post hq => hpre f_held' f_records' f_summed' a_at' a_version' a_value' a_originAt' a_stream' a_type' a_originBy' a_originCode' a_goesOn' a_events' a_byVersion' a_byOrigin' a_stack' a_cell' a_before' a_position' post hcx hst ?_, fun g_count' g_calls' g_top' b_isCut' b_removed' b_stream' b_type' b_from' b_by' b_value' b_version' b_on' b_call' b_stack' b_cells' b_position' hcy htp hst hce hsv post hq => hpreY g_count' g_calls' g_top' b_isCut' b_removed' b_stream' b_type' b_from' b_by' b_value' b_version' b_on' b_call' b_stack' b_cells' b_position' post htp hst ?_⟩
          · refine es_x_emit hcx W hp hPN (by omega) hc (fun z => absurd z hA) (fun _ _ => br_t rfl ?_) (fun _ z1 z2 => by omega)
            rw [nI_1, nI_clamp (show 10 * p + 2 * s0 < 2 ^ 31 by omega), nI_clamp (show 10 * p + 2 * s0 + 1 < 2 ^ 31 by omega)]
            refine ⟨vp_in_nI (by omega) (by decide), nm_e ⟨vp_in_nI (by omega) (by decide), nm_e (hq f_held' f_records' f_summed' a_at' a_version' a_value' a_originAt' a_stream' a_type' a_originBy' a_originCode' a_goesOn' a_events' a_byVersion' a_byOrigin' a_stack' _ hcx (fun k hk => ?_) (fun j hj hj' => (pk_un (by omega)).trans (pk_un (by omega))))⟩⟩
            by_cases z1 : k = 2 * s0 + 1
            · rw [z1, ← Nat.add_assoc, pk_us, hb1]
            · rw [pk_un (by omega)]
              by_cases z0 : k = 2 * s0
              · rw [z0, pk_us, hb0]
              · rw [pk_un (by omega), hce k hk]
                exact hcr k hk z0 z1
          · refine es_y_emit hcy W hp hPN (by omega) hc (fun i hi => hnr i pc hi) (fun z => absurd z hA) (fun _ _ => br_t rfl ?_) (fun _ z1 z2 => by omega)
            rw [show 10 * nI p = nI (10 * p) from pk_mul 10 p]
            refine es_y_copyCells (a := 90) (by omega) (by omega) (by omega) (hq g_count' g_calls' (nI t) b_isCut' b_removed' b_stream' b_type' b_from' b_by' b_value' b_version' b_on' b_call' b_stack' _ hcy (fun k hk => ?_) (fun j hj hj' => es_mv_o (by omega)))
            rw [es_mv_i hk]
            exact hsv k hk
        · have hrN := es_rmN W W.2.1
          have hq0 := W.2.2.1
          have W' : es_WL (N + 1) F (C + 1) (es_up L N (false, c / 8, c % 8, s t, es_E L (c / 8) N, some (p, P, pc), C + 1)) rm := es_WL_add W (by omega) (by omega) (by omega) (by show c / 8 < 5; omega) (by show c % 8 < 8; omega) rfl (fun z => nomatch z) (fun p' o' b' z => by
            have z' : some (p, P, pc) = some (p', o', b') := z
            injection z' with z3
            injection z3 with z4 z5
            injection z5 with z6 z7
            omega) (Nat.le_refl _)
          obtain ⟨r, N', L', C', cr', ⟨E1, E2, E3, E4, E5⟩, hX, hY⟩ := ih (pc + 1) (N + 1) (es_up L N (false, c / 8, c % 8, s t, es_E L (c / 8) N, some (p, P, pc), C + 1)) (C + 1) s t cr (by omega) (by omega) (hnx (by decide) (by decide) _ ea) (by omega) W' (by omega) (by rw [es_up_n (by omega)]; exact hLP) (fun i b hi => by
            have := (W.2.2.2.1 i hi).1
            have := W.2.1
            rw [es_up_n (by omega)]
            exact hnr i b hi) hcr
          refine ⟨r, N', L', C', cr', ⟨E1, by omega, fun i hi => (E3 i (by omega)).trans (es_up_n (by omega)), E4, by omega⟩, fun f_held' f_records' f_summed' a_at' a_version' a_value' a_originAt' a_stream' a_type' a_originBy' a_originCode' a_goesOn' a_events' a_byVersion' a_byOrigin' a_stack' a_cell' a_before' a_position' hcx hst hce hb0 hb1 post hq => hpre f_held' f_records' f_summed' a_at' a_version' a_value' a_originAt' a_stream' a_type' a_originBy' a_originCode' a_goesOn' a_events' a_byVersion' a_byOrigin' a_stack' a_cell' a_before' a_position' post hcx hst ?_, fun g_count' g_calls' g_top' b_isCut' b_removed' b_stream' b_type' b_from' b_by' b_value' b_version' b_on' b_call' b_stack' b_cells' b_position' hcy htp hst hce hsv post hq => hpreY g_count' g_calls' g_top' b_isCut' b_removed' b_stream' b_type' b_from' b_by' b_value' b_version' b_on' b_call' b_stack' b_cells' b_position' post htp hst ?_⟩
          · refine es_x_emit hcx W hp hPN (by omega) hc (fun z => absurd z hA) (fun _ z => absurd z hFu) (fun _ _ _ f_held'' f_records'' f_summed'' a_at'' a_version'' a_value'' a_originAt'' a_stream'' a_type'' a_originBy'' a_originCode'' a_goesOn'' a_events'' a_byVersion'' a_byOrigin'' hcx' => br_f es_10 (hX f_held'' f_records'' f_summed'' a_at'' a_version'' a_value'' a_originAt'' a_stream'' a_type'' a_originBy'' a_originCode'' a_goesOn'' a_events'' a_byVersion'' a_byOrigin'' a_stack' a_cell' a_before' a_position' hcx' (fun j hj => hst j (by omega)) hce hb0 hb1 post hq))
          · refine es_y_emit hcy W hp hPN (by omega) hc (fun i hi => hnr i pc hi) (fun z => absurd z hA) (fun _ z => absurd z hFu) (fun _ _ _ g_count'' g_calls'' b_isCut'' b_removed'' b_stream'' b_type'' b_from'' b_by'' b_value'' b_version'' b_on'' b_call'' hcy' => br_f es_10 (nm_r (nI_1 pc) (hY g_count'' g_calls'' (nI t) b_isCut'' b_removed'' b_stream'' b_type'' b_from'' b_by'' b_value'' b_version'' b_on'' b_call'' b_stack' b_cells' b_position' hcy' rfl (fun j hj => hst j (by omega)) hce hsv post hq)))
    · refine ⟨1, N, L, C, cr, ⟨Or.inr rfl, Nat.le_refl _, fun _ _ => rfl, W, rfl⟩, fun f_held' f_records' f_summed' a_at' a_version' a_value' a_originAt' a_stream' a_type' a_originBy' a_originCode' a_goesOn' a_events' a_byVersion' a_byOrigin' a_stack' a_cell' a_before' a_position' hcx hst hce hb0 hb1 post hq => ?_, fun g_count' g_calls' g_top' b_isCut' b_removed' b_stream' b_type' b_from' b_by' b_value' b_version' b_on' b_call' b_stack' b_cells' b_position' hcy htp hst hce hsv post hq => ?_⟩
      · refine ⟨hv3, ?_⟩
        rw [cp, eSz]
        refine br_f (nI_ge hpc (by omega)) (nm_r e14 ⟨hv42, nm_r (e' := nI 13) eOp ⟨hv42, nm_r (e' := a_pC (14 * p + pc)) eC (nm_r (nI_1 pc) ?_)⟩⟩)
        exact br_t (by decide) (br_t (by decide) (br_f (by decide) (br_f (by decide) (br_f (by decide) (br_f (by decide) (br_f (by decide) (hq f_held' f_records' f_summed' a_at' a_version' a_value' a_originAt' a_stream' a_type' a_originBy' a_originCode' a_goesOn' a_events' a_byVersion' a_byOrigin' a_stack' a_cell' hcx hce (fun _ _ _ => rfl))))))))
      · refine ⟨hv4, ?_⟩
        rw [cp, eSzY]
        refine br_f (nI_ge hpc (by omega)) (nm_r e14 ⟨hv56, ?_⟩)
        rw [c14, eOpY]
        exact br_t rfl (hq g_count' g_calls' g_top' b_isCut' b_removed' b_stream' b_type' b_from' b_by' b_value' b_version' b_on' b_call' b_stack' b_cells' hcy hce (fun _ _ _ => rfl))
end ES62
end
section
/-! work -/
section ES63
variable {f_held f_records f_flushed f_summed f_draft f_drafted f_seen f_time f_taken : Int32} {a_at a_version a_value a_originAt a_stream a_type a_originBy a_originCode a_goesOn a_events a_cuts a_firm a_cutsGone a_byVersion a_byOrigin a_draftType a_draftValue a_dOp a_dC a_height a_clash a_pOp a_pSize a_pC a_position a_cell a_noted a_stack a_before a_shown a_gType a_gTaken a_gWaiting a_kCount a_gCursor a_gParked a_kCursor a_tAt a_tDue a_wAt a_kAt a_tTimes a_wTimes a_kTimes : Nat → Int32} {a_upTo : Nat → Int64} {g_count g_flushed g_calls g_drafted g_top g_time : Int32} {b_isCut b_removed b_stream b_type b_from b_by b_value b_version b_on b_call b_draftType b_draftValue b_op b_with b_length b_height b_torn b_stack b_position b_cells b_noted b_wanted b_formed b_cursor b_parked b_where b_often b_due b_many b_found : Nat → Int32} {F p n q : Nat} {rm : Nat → Bool}
theorem es_x_runs {P s0 : Nat} {c0 : Nat → Int32} {N C : Nat} {L : Nat → es_Ev} (h : es_CX N F L rm False f_held f_records f_flushed f_summed a_at a_version a_value a_originAt a_stream a_type a_originBy a_originCode a_goesOn a_events a_cuts a_firm a_cutsGone a_byVersion a_byOrigin a_upTo) (W : es_WL N F C L rm) (hp : p < 3) (hP : P < N) (hr : rm P = false) (es : es_s (L P) = s0) (hc : ∀ k, k < 10 → a_cell (10 * p + k) = c0 k) {post : Int32 → SX → Prop} (hq : ∀ bf : Nat → Int32, bf 0 = c0 (2 * s0) → bf 1 = c0 (2 * s0 + 1) → ∃ m, wX_runs_46 post (nI p) (nI (es_Q rm P)) (nI (10 * p + 2 * s0)) m 0 0 f_held f_records f_flushed f_summed f_draft f_drafted f_seen f_time f_taken a_at a_version a_value a_originAt a_stream a_type a_originBy a_originCode a_goesOn a_events a_cuts a_firm a_cutsGone a_byVersion a_byOrigin a_upTo a_draftType a_draftValue a_dOp a_dC a_height a_clash a_pOp a_pSize a_pC a_position a_cell a_noted a_stack bf a_shown a_gType a_gTaken a_gWaiting a_kCount a_gCursor a_gParked a_kCursor a_tAt a_tDue a_wAt a_kAt a_tTimes a_wTimes a_kTimes) : wpX_runs post (f_held, f_records, f_flushed, f_summed, f_draft, f_drafted, f_seen, f_time, f_taken, a_at, a_version, a_value, a_originAt, a_stream, a_type, a_originBy, a_originCode, a_goesOn, a_events, a_cuts, a_firm, a_cutsGone, a_byVersion, a_byOrigin, a_upTo, a_draftType, a_draftValue, a_dOp, a_dC, a_height, a_clash, a_pOp, a_pSize, a_pC, a_position, a_cell, a_noted, a_stack, a_before, a_shown, a_gType, a_gTaken, a_gWaiting, a_kCount, a_gCursor, a_gParked, a_kCursor, a_tAt, a_tDue, a_wAt, a_kAt, a_tTimes, a_wTimes, a_kTimes) (nI p) (nI (es_Q rm P)) := by
  have hs := (W.2.2.2.2 P hP).1
  rw [es] at hs
  have hql := es_Q_lt hP hr
  have hq0 := W.2.2.1
  have e1 : 10 * nI p + 2 * nI s0 = nI (10 * p + 2 * s0) := by rw [show (10 : Int32) * nI p = nI (10 * p) from pk_mul 10 p, show (2 : Int32) * nI s0 = nI (2 * s0) from pk_mul 2 s0, nI_add]
  unfold wpX_runs
  dsimp only
  rw [nI_clamp (show es_Q rm P < 2 ^ 31 by omega), (h.2.2.2.1 P hP hr).2.1, es, e1]
  refine ⟨vp_in_nI (by omega) (by decide), nm_e ?_⟩
  rw [nI_1, nI_clamp (show 10 * p + 2 * s0 < 2 ^ 31 by omega), nI_clamp (show 10 * p + 2 * s0 + 1 < 2 ^ 31 by omega), hc (2 * s0) (by omega), Nat.add_assoc, hc (2 * s0 + 1) (by omega)]
  exact ⟨vp_in_nI (by omega) (by decide), nm_e ⟨vp_in_nI (by omega) (by decide), nm_e (hq _ ((pk_un (by decide)).trans pk_us) pk_us)⟩⟩
theorem es_y_fold {P : Nat} {c0 : Nat → Int32} (hp : p < 3) (hc : ∀ k, k < 10 → b_cells (10 * p + k) = c0 k) {post : Int32 → SY → Prop} (hq : ∀ cells : Nat → Int32, (∀ k, k < 10 → cells (10 * p + k) = c0 k) → (∀ k, k < 10 → cells (90 + k) = c0 k) → (∀ j, j < 90 → cells j = b_cells j) → ∃ m, wY_fold_17 post (nI p) (nI P) m 0 g_count g_flushed g_calls g_drafted 0 g_time b_isCut b_removed b_stream b_type b_from b_by b_value b_version b_on b_call b_draftType b_draftValue b_op b_with b_length b_height b_torn b_stack b_position cells b_noted b_wanted b_formed b_cursor b_parked b_where b_often b_due b_many b_found) : wpY_fold post (g_count, g_flushed, g_calls, g_drafted, g_top, g_time, b_isCut, b_removed, b_stream, b_type, b_from, b_by, b_value, b_version, b_on, b_call, b_draftType, b_draftValue, b_op, b_with, b_length, b_height, b_torn, b_stack, b_position, b_cells, b_noted, b_wanted, b_formed, b_cursor, b_parked, b_where, b_often, b_due, b_many, b_found) (nI p) (nI P) := by
  unfold wpY_fold
  dsimp only
  rw [show (10 : Int32) * nI p = nI (10 * p) from pk_mul 10 p]
  refine es_y_copyCells (b := 90) (by omega) (by omega) (by omega) (hq _ (fun k hk => ?_) (fun k hk => ?_) (fun j hj => es_mv_o (by omega)))
  · exact (es_mv_o (by omega)).trans (hc k hk)
  · exact (es_mv_i hk).trans (hc k hk)
theorem es_work (hp : p < 3) (hn : n ≤ 14) (hq20 : q ≤ 20) (eSz : a_pSize p = nI n) (eSzY : b_length p = nI n) (hop : ∀ j, j < 42 → b_op j = a_pOp j ∧ b_with j = a_pC j) (hWT : es_WT a_pOp a_pC (14 * p) n) :
    ∀ d done, done + d = q → ∀ (N : Nat) (L : Nat → es_Ev) (C P : Nat) (cr : Nat → Int32), es_WL N F C L rm → P ≤ N → (∀ i, rm i = true → i < P) →
      ∃ (r : Int32) (N' : Nat) (L' : Nat → es_Ev) (C' P' : Nat) (cr' : Nat → Int32), (N ≤ N' ∧ es_WL N' F C' L' rm ∧ C' + N = C + N' ∧ P ≤ P' ∧ P' ≤ N') ∧
        (∀ (f_held' f_records' f_summed' : Int32) (a_at' a_version' a_value' a_originAt' a_stream' a_type' a_originBy' a_originCode' a_goesOn' a_events' a_byVersion' a_byOrigin' a_stack' a_cell' a_before' a_position' : Nat → Int32), es_CX N F L rm False f_held' f_records' f_flushed f_summed' a_at' a_version' a_value' a_originAt' a_stream' a_type' a_originBy' a_originCode' a_goesOn' a_events' a_cuts a_firm a_cutsGone a_byVersion' a_byOrigin' a_upTo → a_position' p = nI P → (∀ k, k < 10 → a_cell' (10 * p + k) = cr k) → ∀ post : Int32 → SX → Prop, (∀ (f_held'' f_records'' f_summed'' : Int32) (a_at'' a_version'' a_value'' a_originAt'' a_stream'' a_type'' a_originBy'' a_originCode'' a_goesOn'' a_events'' a_byVersion'' a_byOrigin'' a_stack'' a_cell'' a_before'' a_position'' : Nat → Int32), es_CX N' F L' rm False f_held'' f_records'' f_flushed f_summed'' a_at'' a_version'' a_value'' a_originAt'' a_stream'' a_type'' a_originBy'' a_originCode'' a_goesOn'' a_events'' a_cuts a_firm a_cutsGone a_byVersion'' a_byOrigin'' a_upTo → a_position'' p = nI P' → (∀ k, k < 10 → a_cell'' (10 * p + k) = cr' k) → (∀ j, j < 90 → (j < 10 * p ∨ 10 * p + 10 ≤ j) → a_cell'' j = a_cell' j) → (∀ r, r ≠ p → a_position'' r = a_position' r) → post r (f_held'', f_records'', f_flushed, f_summed'', f_draft, f_drafted, f_seen, f_time, f_taken, a_at'', a_version'', a_value'', a_originAt'', a_stream'', a_type'', a_originBy'', a_originCode'', a_goesOn'', a_events'', a_cuts, a_firm, a_cutsGone, a_byVersion'', a_byOrigin'', a_upTo, a_draftType, a_draftValue, a_dOp, a_dC, a_height, a_clash, a_pOp, a_pSize, a_pC, a_position'', a_cell'', a_noted, a_stack'', a_before'', a_shown, a_gType, a_gTaken, a_gWaiting, a_kCount, a_gCursor, a_gParked, a_kCursor, a_tAt, a_tDue, a_wAt, a_kAt, a_tTimes, a_wTimes, a_kTimes)) → wX_work_47 post (nI p) (nI q) (d + 1) (nI done) (nI (es_Q rm P)) f_held' f_records' f_flushed f_summed' f_draft f_drafted f_seen f_time f_taken a_at' a_version' a_value' a_originAt' a_stream' a_type' a_originBy' a_originCode' a_goesOn' a_events' a_cuts a_firm a_cutsGone a_byVersion' a_byOrigin' a_upTo a_draftType a_draftValue a_dOp a_dC a_height a_clash a_pOp a_pSize a_pC a_position' a_cell' a_noted a_stack' a_before' a_shown a_gType a_gTaken a_gWaiting a_kCount a_gCursor a_gParked a_kCursor a_tAt a_tDue a_wAt a_kAt a_tTimes a_wTimes a_kTimes) ∧
        (∀ (g_count' g_calls' g_top' : Int32) (b_isCut' b_removed' b_stream' b_type' b_from' b_by' b_value' b_version' b_on' b_call' b_stack' b_cells' b_position' : Nat → Int32), es_CY N F C L rm g_count' g_flushed g_calls' b_isCut' b_removed' b_stream' b_type' b_from' b_by' b_value' b_version' b_on' b_call' → b_position' p = nI P → (∀ k, k < 10 → b_cells' (10 * p + k) = cr k) → ∀ post : Int32 → SY → Prop, (∀ (g_count'' g_calls'' g_top'' : Int32) (b_isCut'' b_removed'' b_stream'' b_type'' b_from'' b_by'' b_value'' b_version'' b_on'' b_call'' b_stack'' b_cells'' b_position'' : Nat → Int32), es_CY N' F C' L' rm g_count'' g_flushed g_calls'' b_isCut'' b_removed'' b_stream'' b_type'' b_from'' b_by'' b_value'' b_version'' b_on'' b_call'' → b_position'' p = nI P' → (∀ k, k < 10 → b_cells'' (10 * p + k) = cr' k) → (∀ j, j < 90 → (j < 10 * p ∨ 10 * p + 10 ≤ j) → b_cells'' j = b_cells' j) → (∀ r, r ≠ p → b_position'' r = b_position' r) → post r (g_count'', g_flushed, g_calls'', g_drafted, g_top'', g_time, b_isCut'', b_removed'', b_stream'', b_type'', b_from'', b_by'', b_value'', b_version'', b_on'', b_call'', b_draftType, b_draftValue, b_op, b_with, b_length, b_height, b_torn, b_stack'', b_position'', b_cells'', b_noted, b_wanted, b_formed, b_cursor, b_parked, b_where, b_often, b_due, b_many, b_found)) → wY_work_35 post (nI p) (nI q) (d + 1) (nI done) g_count' g_flushed g_calls' g_drafted g_top' g_time b_isCut' b_removed' b_stream' b_type' b_from' b_by' b_value' b_version' b_on' b_call' b_draftType b_draftValue b_op b_with b_length b_height b_torn b_stack' b_position' b_cells' b_noted b_wanted b_formed b_cursor b_parked b_where b_often b_due b_many b_found) := by
  obtain ⟨ht, ht0, hWT⟩ := hWT
  have hv9 : vp_in (nI p) 9 := vp_in_nI (by omega) (by decide)
  have cp : (nI p).toNatClampNeg = p := nI_clamp (by omega)
  intro d
  induction d with
  | zero =>
    intro done hd N L C P cr W hPN hrP
    have e : done = q := by omega
    subst e
    exact ⟨nI done, N, L, C, P, cr, ⟨Nat.le_refl _, W, rfl, Nat.le_refl _, hPN⟩, fun f_held' f_records' f_summed' a_at' a_version' a_value' a_originAt' a_stream' a_type' a_originBy' a_originCode' a_goesOn' a_events' a_byVersion' a_byOrigin' a_stack' a_cell' a_before' a_position' hcx hpo hce post hq => br_t (nI_le (Nat.le_refl _) (by omega)) (hq f_held' f_records' f_summed' a_at' a_version' a_value' a_originAt' a_stream' a_type' a_originBy' a_originCode' a_goesOn' a_events' a_byVersion' a_byOrigin' a_stack' a_cell' a_before' a_position' hcx hpo hce (fun _ _ _ => rfl) (fun _ _ => rfl)), fun g_count' g_calls' g_top' b_isCut' b_removed' b_stream' b_type' b_from' b_by' b_value' b_version' b_on' b_call' b_stack' b_cells' b_position' hcy hpo hce post hq => br_t (nI_le (Nat.le_refl _) (by omega)) (hq g_count' g_calls' g_top' b_isCut' b_removed' b_stream' b_type' b_from' b_by' b_value' b_version' b_on' b_call' b_stack' b_cells' b_position' hcy hpo hce (fun _ _ _ => rfl) (fun _ _ => rfl))⟩
  | succ d ih =>
    intro done hd N L C P cr W hPN hrP
    have hN0 := W.1
    have hq0 := W.2.2.1
    have hdn : ¬ nI q ≤ nI done := nI_ge (by omega) (by omega)
    by_cases hPe : P = N
    · refine ⟨nI done, N, L, C, P, cr, ⟨Nat.le_refl _, W, rfl, Nat.le_refl _, hPN⟩, fun f_held' f_records' f_summed' a_at' a_version' a_value' a_originAt' a_stream' a_type' a_originBy' a_originCode' a_goesOn' a_events' a_byVersion' a_byOrigin' a_stack' a_cell' a_before' a_position' hcx hpo hce post hq => ?_, fun g_count' g_calls' g_top' b_isCut' b_removed' b_stream' b_type' b_from' b_by' b_value' b_version' b_on' b_call' b_stack' b_cells' b_position' hcy hpo hce post hq => ?_⟩
      · refine br_f hdn ⟨hv9, ?_⟩
        rw [cp, hpo]
        exact br_t (by rw [hcx.2.1, hPe]; exact nI_le (Nat.le_refl _) (by omega)) (hq f_held' f_records' f_summed' a_at' a_version' a_value' a_originAt' a_stream' a_type' a_originBy' a_originCode' a_goesOn' a_events' a_byVersion' a_byOrigin' a_stack' a_cell' a_before' a_position' hcx hpo hce (fun _ _ _ => rfl) (fun _ _ => rfl))
      · refine br_f hdn ⟨hv9, ?_⟩
        rw [cp, hpo]
        exact br_t (by rw [hcy.1, hPe]; exact nI_le (Nat.le_refl _) (by omega)) (hq g_count' g_calls' g_top' b_isCut' b_removed' b_stream' b_type' b_from' b_by' b_value' b_version' b_on' b_call' b_stack' b_cells' b_position' hcy hpo hce (fun _ _ _ => rfl) (fun _ _ => rfl))
    · have hPN' : P < N := by omega
      have hr : rm P = false := by
        cases e : rm P
        · rfl
        · have := hrP P e; omega
      have hQ := es_Q_lt hPN' hr
      have hvQ : vp_in (nI (es_Q rm P)) 40 := vp_in_nI (by omega) (by decide)
      have cQ : (nI (es_Q rm P)).toNatClampNeg = es_Q rm P := nI_clamp (by omega)
      have hQf := es_Q_f hr
      obtain ⟨w1, w2, -, -, -, -⟩ := W.2.2.2.2 P hPN'
      have x88 : ∀ (f_held' f_records' f_summed' : Int32) (a_at' a_version' a_value' a_originAt' a_stream' a_type' a_originBy' a_originCode' a_goesOn' a_events' a_byVersion' a_byOrigin' a_stack' a_cell' a_before' a_position' : Nat → Int32) (post : Int32 → SX → Prop), a_position' p = nI P → wX_work_47 post (nI p) (nI q) (d + 1) (nI (done + 1)) (nI (es_Q rm (P + 1))) f_held' f_records' f_flushed f_summed' f_draft f_drafted f_seen f_time f_taken a_at' a_version' a_value' a_originAt' a_stream' a_type' a_originBy' a_originCode' a_goesOn' a_events' a_cuts a_firm a_cutsGone a_byVersion' a_byOrigin' a_upTo a_draftType a_draftValue a_dOp a_dC a_height a_clash a_pOp a_pSize a_pC (upd a_position' p (nI (P + 1))) a_cell' a_noted a_stack' a_before' a_shown a_gType a_gTaken a_gWaiting a_kCount a_gCursor a_gParked a_kCursor a_tAt a_tDue a_wAt a_kAt a_tTimes a_wTimes a_kTimes → wX_work_88 post (wX_work_47 post (nI p) (nI q) (d + 1)) (nI p) (nI q) (nI done) (nI (es_Q rm P)) f_held' f_records' f_flushed f_summed' f_draft f_drafted f_seen f_time f_taken a_at' a_version' a_value' a_originAt' a_stream' a_type' a_originBy' a_originCode' a_goesOn' a_events' a_cuts a_firm a_cutsGone a_byVersion' a_byOrigin' a_upTo a_draftType a_draftValue a_dOp a_dC a_height a_clash a_pOp a_pSize a_pC a_position' a_cell' a_noted a_stack' a_before' a_shown a_gType a_gTaken a_gWaiting a_kCount a_gCursor a_gParked a_kCursor a_tAt a_tDue a_wAt a_kAt a_tTimes a_wTimes a_kTimes := fun f_held' f_records' f_summed' a_at' a_version' a_value' a_originAt' a_stream' a_type' a_originBy' a_originCode' a_goesOn' a_events' a_byVersion' a_byOrigin' a_stack' a_cell' a_before' a_position' post hpo hk => by
        unfold wX_work_88
        rw [cp, hpo, nI_1 P]
        rw [hQf] at hk
        exact ⟨hv9, hv9, nm_e (nm_r (nI_1 done) (nm_r (nI_1 _) hk))⟩
      have y84 : ∀ (g_count' g_calls' g_top' : Int32) (b_isCut' b_removed' b_stream' b_type' b_from' b_by' b_value' b_version' b_on' b_call' b_stack' b_cells' b_position' : Nat → Int32) (post : Int32 → SY → Prop), b_position' p = nI P → wY_work_35 post (nI p) (nI q) (d + 1) (nI (done + 1)) g_count' g_flushed g_calls' g_drafted g_top' g_time b_isCut' b_removed' b_stream' b_type' b_from' b_by' b_value' b_version' b_on' b_call' b_draftType b_draftValue b_op b_with b_length b_height b_torn b_stack' (upd b_position' p (nI (P + 1))) b_cells' b_noted b_wanted b_formed b_cursor b_parked b_where b_often b_due b_many b_found → wY_work_84 post (wY_work_35 post (nI p) (nI q) (d + 1)) (nI p) (nI q) (nI done) g_count' g_flushed g_calls' g_drafted g_top' g_time b_isCut' b_removed' b_stream' b_type' b_from' b_by' b_value' b_version' b_on' b_call' b_draftType b_draftValue b_op b_with b_length b_height b_torn b_stack' b_position' b_cells' b_noted b_wanted b_formed b_cursor b_parked b_where b_often b_due b_many b_found := fun g_count' g_calls' g_top' b_isCut' b_removed' b_stream' b_type' b_from' b_by' b_value' b_version' b_on' b_call' b_stack' b_cells' b_position' post hpo hk => by
        unfold wY_work_84
        rw [cp, hpo, nI_1 P]
        exact ⟨hv9, hv9, nm_e (nm_r (nI_1 done) hk)⟩
      cases hc : es_c (L P)
      · have hnr : ∀ i b, rm i = true → es_o (L i) ≠ some (p, P, b) := fun i b hi z => by
          have h1 := hrP i hi
          have h2 := (W.2.2.2.1 i hi).1
          have h3 := W.2.1
          have := ((W.2.2.2.2 i (by omega)).2.2.2.2.1 p P b z).2.1
          omega
        obtain ⟨r1, N1, L1, C1, cr1, ⟨E1, E2, E3, E4, E5⟩, hX, hY⟩ := es_run (f_flushed := f_flushed) (f_draft := f_draft) (f_drafted := f_drafted) (f_seen := f_seen) (f_time := f_time) (f_taken := f_taken) (a_cuts := a_cuts) (a_firm := a_firm) (a_cutsGone := a_cutsGone) (a_upTo := a_upTo) (a_draftType := a_draftType) (a_draftValue := a_draftValue) (a_dOp := a_dOp) (a_dC := a_dC) (a_height := a_height) (a_clash := a_clash) (a_pOp := a_pOp) (a_pSize := a_pSize) (a_pC := a_pC) (a_noted := a_noted) (a_shown := a_shown) (a_gType := a_gType) (a_gTaken := a_gTaken) (a_gWaiting := a_gWaiting) (a_kCount := a_kCount) (a_gCursor := a_gCursor) (a_gParked := a_gParked) (a_kCursor := a_kCursor) (a_tAt := a_tAt) (a_tDue := a_tDue) (a_wAt := a_wAt) (a_kAt := a_kAt) (a_tTimes := a_tTimes) (a_wTimes := a_wTimes) (a_kTimes := a_kTimes) (g_flushed := g_flushed) (g_drafted := g_drafted) (g_time := g_time) (b_draftType := b_draftType) (b_draftValue := b_draftValue) (b_op := b_op) (b_with := b_with) (b_length := b_length) (b_height := b_height) (b_torn := b_torn) (b_noted := b_noted) (b_wanted := b_wanted) (b_formed := b_formed) (b_cursor := b_cursor) (b_parked := b_parked) (b_where := b_where) (b_often := b_often) (b_due := b_due) (b_many := b_many) (b_found := b_found) (eP := L P) (s0 := es_s (L P)) (cr0 := cr) hp hn eSz eSzY hop hWT hr hc rfl w1 n 0 N L C (fun _ => 0) 0 cr (by omega) (by omega) (fun _ => ht0) (by omega) W hPN' rfl hnr (fun _ _ _ _ => rfl)
        rw [nI_0] at hX hY
        rcases E1 with rfl | rfl
        · refine ⟨-3, N1, L1, C1, P, cr1, ⟨E2, E4, E5, Nat.le_refl _, by omega⟩, fun f_held' f_records' f_summed' a_at' a_version' a_value' a_originAt' a_stream' a_type' a_originBy' a_originCode' a_goesOn' a_events' a_byVersion' a_byOrigin' a_stack' a_cell' a_before' a_position' hcx hpo hce post hq => ?_, fun g_count' g_calls' g_top' b_isCut' b_removed' b_stream' b_type' b_from' b_by' b_value' b_version' b_on' b_call' b_stack' b_cells' b_position' hcy hpo hce post hq => ?_⟩
          · refine br_f hdn ⟨hv9, ?_⟩
            rw [cp, hpo, cQ, ((hcx.2.2.2.1 P hPN' hr).2.2.2 hc).1]
            refine br_f (by rw [hcx.2.1]; exact nI_ge hPN' (by omega)) ⟨hvQ, br_f (nI_pos (by omega)) (es_x_runs hcx W hp hPN' hr rfl hce (fun bf b0 b1 => ⟨_, hX f_held' f_records' f_summed' a_at' a_version' a_value' a_originAt' a_stream' a_type' a_originBy' a_originCode' a_goesOn' a_events' a_byVersion' a_byOrigin' a_stack' a_cell' bf a_position' hcx (fun j h => absurd h (Nat.not_lt_zero _)) hce b0 b1 _ (fun f_held'' f_records'' f_summed'' a_at'' a_version'' a_value'' a_originAt'' a_stream'' a_type'' a_originBy'' a_originCode'' a_goesOn'' a_events'' a_byVersion'' a_byOrigin'' a_stack'' a_cell'' k1 k2 k3 => br_t rfl ?_)⟩))⟩
            exact hq f_held'' f_records'' f_summed'' a_at'' a_version'' a_value'' a_originAt'' a_stream'' a_type'' a_originBy'' a_originCode'' a_goesOn'' a_events'' a_byVersion'' a_byOrigin'' a_stack'' a_cell'' bf a_position' k1 hpo k2 k3 (fun _ _ => rfl)
          · refine br_f hdn ⟨hv9, ?_⟩
            rw [cp, hpo, nI_clamp (show P < 2 ^ 31 by omega), (hcy.2.2.2 P hPN').1, hc]
            refine br_f (by rw [hcy.1]; exact nI_ge hPN' (by omega)) ⟨hv9, vp_in_nI (by omega) (by decide), br_t rfl ⟨hv9, es_y_fold hp hce (fun cells u1 u2 u3 => ⟨_, hY g_count' g_calls' 0 b_isCut' b_removed' b_stream' b_type' b_from' b_by' b_value' b_version' b_on' b_call' b_stack' cells b_position' hcy rfl (fun j h => absurd h (Nat.not_lt_zero _)) u1 u2 _ (fun g_count'' g_calls'' g_top'' b_isCut'' b_removed'' b_stream'' b_type'' b_from'' b_by'' b_value'' b_version'' b_on'' b_call'' b_stack'' b_cells'' k1 k2 k3 => br_t rfl ?_)⟩)⟩⟩
            exact hq g_count'' g_calls'' g_top'' b_isCut'' b_removed'' b_stream'' b_type'' b_from'' b_by'' b_value'' b_version'' b_on'' b_call'' b_stack'' b_cells'' b_position' k1 hpo k2 (fun j hj hj' => (k3 j hj hj').trans (u3 j hj)) (fun _ _ => rfl)
        · obtain ⟨r, N', L', C', P', cr', ⟨D1, D2, D3, D4, D5⟩, hX2, hY2⟩ := ih (done + 1) (by omega) N1 L1 C1 (P + 1) cr1 E4 (by omega) (fun i hi => by have := hrP i hi; omega)
          refine ⟨r, N', L', C', P', cr', ⟨by omega, D2, by omega, by omega, D5⟩, fun f_held' f_records' f_summed' a_at' a_version' a_value' a_originAt' a_stream' a_type' a_originBy' a_originCode' a_goesOn' a_events' a_byVersion' a_byOrigin' a_stack' a_cell' a_before' a_position' hcx hpo hce post hq => ?_, fun g_count' g_calls' g_top' b_isCut' b_removed' b_stream' b_type' b_from' b_by' b_value' b_version' b_on' b_call' b_stack' b_cells' b_position' hcy hpo hce post hq => ?_⟩
          · refine br_f hdn ⟨hv9, ?_⟩
            rw [cp, hpo, cQ, ((hcx.2.2.2.1 P hPN' hr).2.2.2 hc).1]
            refine br_f (by rw [hcx.2.1]; exact nI_ge hPN' (by omega)) ⟨hvQ, br_f (nI_pos (by omega)) (es_x_runs hcx W hp hPN' hr rfl hce (fun bf b0 b1 => ⟨_, hX f_held' f_records' f_summed' a_at' a_version' a_value' a_originAt' a_stream' a_type' a_originBy' a_originCode' a_goesOn' a_events' a_byVersion' a_byOrigin' a_stack' a_cell' bf a_position' hcx (fun j h => absurd h (Nat.not_lt_zero _)) hce b0 b1 _ (fun f_held'' f_records'' f_summed'' a_at'' a_version'' a_value'' a_originAt'' a_stream'' a_type'' a_originBy'' a_originCode'' a_goesOn'' a_events'' a_byVersion'' a_byOrigin'' a_stack'' a_cell'' k1 k2 k3 => br_f es_10 ?_)⟩))⟩
            refine x88 f_held'' f_records'' f_summed'' a_at'' a_version'' a_value'' a_originAt'' a_stream'' a_type'' a_originBy'' a_originCode'' a_goesOn'' a_events'' a_byVersion'' a_byOrigin'' a_stack'' a_cell'' bf a_position' post hpo (hX2 f_held'' f_records'' f_summed'' a_at'' a_version'' a_value'' a_originAt'' a_stream'' a_type'' a_originBy'' a_originCode'' a_goesOn'' a_events'' a_byVersion'' a_byOrigin'' a_stack'' a_cell'' bf _ k1 pk_us k2 post (fun f_held1 f_records1 f_summed1 a_at1 a_version1 a_value1 a_originAt1 a_stream1 a_type1 a_originBy1 a_originCode1 a_goesOn1 a_events1 a_byVersion1 a_byOrigin1 a_stack1 a_cell1 a_before1 a_position1 l1 l2 l3 l4 l5 => hq f_held1 f_records1 f_summed1 a_at1 a_version1 a_value1 a_originAt1 a_stream1 a_type1 a_originBy1 a_originCode1 a_goesOn1 a_events1 a_byVersion1 a_byOrigin1 a_stack1 a_cell1 a_before1 a_position1 l1 l2 l3 (fun j hj hj' => (l4 j hj hj').trans (k3 j hj hj')) (fun r hr => (l5 r hr).trans (pk_un hr))))
          · refine br_f hdn ⟨hv9, ?_⟩
            rw [cp, hpo, nI_clamp (show P < 2 ^ 31 by omega), (hcy.2.2.2 P hPN').1, hc]
            refine br_f (by rw [hcy.1]; exact nI_ge hPN' (by omega)) ⟨hv9, vp_in_nI (by omega) (by decide), br_t rfl ⟨hv9, es_y_fold hp hce (fun cells u1 u2 u3 => ⟨_, hY g_count' g_calls' 0 b_isCut' b_removed' b_stream' b_type' b_from' b_by' b_value' b_version' b_on' b_call' b_stack' cells b_position' hcy rfl (fun j h => absurd h (Nat.not_lt_zero _)) u1 u2 _ (fun g_count'' g_calls'' g_top'' b_isCut'' b_removed'' b_stream'' b_type'' b_from'' b_by'' b_value'' b_version'' b_on'' b_call'' b_stack'' b_cells'' k1 k2 k3 => br_f es_10 ?_)⟩)⟩⟩
            refine y84 g_count'' g_calls'' g_top'' b_isCut'' b_removed'' b_stream'' b_type'' b_from'' b_by'' b_value'' b_version'' b_on'' b_call'' b_stack'' b_cells'' b_position' post hpo (hY2 g_count'' g_calls'' g_top'' b_isCut'' b_removed'' b_stream'' b_type'' b_from'' b_by'' b_value'' b_version'' b_on'' b_call'' b_stack'' b_cells'' _ k1 pk_us k2 post (fun g_count1 g_calls1 g_top1 b_isCut1 b_removed1 b_stream1 b_type1 b_from1 b_by1 b_value1 b_version1 b_on1 b_call1 b_stack1 b_cells1 b_position1 l1 l2 l3 l4 l5 => hq g_count1 g_calls1 g_top1 b_isCut1 b_removed1 b_stream1 b_type1 b_from1 b_by1 b_value1 b_version1 b_on1 b_call1 b_stack1 b_cells1 b_position1 l1 l2 l3 (fun j hj hj' => (l4 j hj hj').trans ((k3 j hj hj').trans (u3 j hj))) (fun r hr => (l5 r hr).trans (pk_un hr))))
      · obtain ⟨r, N', L', C', P', cr', ⟨D1, D2, D3, D4, D5⟩, hX2, hY2⟩ := ih (done + 1) (by omega) N L C (P + 1) cr W (by omega) (fun i hi => by have := hrP i hi; omega)
        refine ⟨r, N', L', C', P', cr', ⟨D1, D2, D3, by omega, D5⟩, fun f_held' f_records' f_summed' a_at' a_version' a_value' a_originAt' a_stream' a_type' a_originBy' a_originCode' a_goesOn' a_events' a_byVersion' a_byOrigin' a_stack' a_cell' a_before' a_position' hcx hpo hce post hq => ?_, fun g_count' g_calls' g_top' b_isCut' b_removed' b_stream' b_type' b_from' b_by' b_value' b_version' b_on' b_call' b_stack' b_cells' b_position' hcy hpo hce post hq => ?_⟩
        · refine br_f hdn ⟨hv9, ?_⟩
          rw [cp, hpo, cQ, ((hcx.2.2.2.1 P hPN' hr).2.2.1 hc).1]
          refine br_f (by rw [hcx.2.1]; exact nI_ge hPN' (by omega)) ⟨hvQ, br_t es_neg1 ?_⟩
          refine x88 f_held' f_records' f_summed' a_at' a_version' a_value' a_originAt' a_stream' a_type' a_originBy' a_originCode' a_goesOn' a_events' a_byVersion' a_byOrigin' a_stack' a_cell' a_before' a_position' post hpo (hX2 f_held' f_records' f_summed' a_at' a_version' a_value' a_originAt' a_stream' a_type' a_originBy' a_originCode' a_goesOn' a_events' a_byVersion' a_byOrigin' a_stack' a_cell' a_before' _ hcx pk_us hce post (fun f_held1 f_records1 f_summed1 a_at1 a_version1 a_value1 a_originAt1 a_stream1 a_type1 a_originBy1 a_originCode1 a_goesOn1 a_events1 a_byVersion1 a_byOrigin1 a_stack1 a_cell1 a_before1 a_position1 l1 l2 l3 l4 l5 => hq f_held1 f_records1 f_summed1 a_at1 a_version1 a_value1 a_originAt1 a_stream1 a_type1 a_originBy1 a_originCode1 a_goesOn1 a_events1 a_byVersion1 a_byOrigin1 a_stack1 a_cell1 a_before1 a_position1 l1 l2 l3 l4 (fun r hr => (l5 r hr).trans (pk_un hr))))
        · refine br_f hdn ⟨hv9, ?_⟩
          rw [cp, hpo, nI_clamp (show P < 2 ^ 31 by omega), (hcy.2.2.2 P hPN').1, hc]
          refine br_f (by rw [hcy.1]; exact nI_ge hPN' (by omega)) ⟨hv9, vp_in_nI (by omega) (by decide), br_f es_10 ?_⟩
          refine y84 g_count' g_calls' g_top' b_isCut' b_removed' b_stream' b_type' b_from' b_by' b_value' b_version' b_on' b_call' b_stack' b_cells' b_position' post hpo (hY2 g_count' g_calls' g_top' b_isCut' b_removed' b_stream' b_type' b_from' b_by' b_value' b_version' b_on' b_call' b_stack' b_cells' _ hcy pk_us hce post (fun g_count1 g_calls1 g_top1 b_isCut1 b_removed1 b_stream1 b_type1 b_from1 b_by1 b_value1 b_version1 b_on1 b_call1 b_stack1 b_cells1 b_position1 l1 l2 l3 l4 l5 => hq g_count1 g_calls1 g_top1 b_isCut1 b_removed1 b_stream1 b_type1 b_from1 b_by1 b_value1 b_version1 b_on1 b_call1 b_stack1 b_cells1 b_position1 l1 l2 l3 l4 (fun r hr => (l5 r hr).trans (pk_un hr))))
end ES63
section ES63b
theorem i_vc_work {k : Nat} {u : SX} {v : SY} (I : i_Rel k u v) (hk : k + 4 ≤ 2048) (v1 : Int32) (v2 : Int32) : wpX_work (fun r u' => wpY_work (fun r' v' => r' = r ∧ i_Rel (k + 4) u' v') v v1 v2) u v1 v2 := by
  refine es_el (P := fun u v => wpX_work (fun r u' => wpY_work (fun r' v' => r' = r ∧ i_Rel (k + 4) u' v') v v1 v2) u v1 v2) ?_ u v I
  intro f_held f_records f_flushed f_summed f_draft f_drafted f_seen f_time f_taken a_at a_version a_value a_originAt a_stream a_type a_originBy a_originCode a_goesOn a_events a_cuts a_firm a_cutsGone a_byVersion a_byOrigin a_draftType a_draftValue a_dOp a_dC a_height a_clash a_pOp a_pSize a_pC a_position a_cell a_noted a_stack a_before a_shown a_gType a_gTaken a_gWaiting a_kCount a_gCursor a_gParked a_kCursor a_tAt a_tDue a_wAt a_kAt a_tTimes a_wTimes a_kTimes a_upTo g_count g_flushed g_calls g_drafted g_top g_time b_isCut b_removed b_stream b_type b_from b_by b_value b_version b_on b_call b_draftType b_draftValue b_op b_with b_length b_height b_torn b_stack b_position b_cells b_noted b_wanted b_formed b_cursor b_parked b_where b_often b_due b_many b_found N F C L rm h1 h2 h3 h4 h5 h6 h7 h8 h9 h10
  show wpX_work (fun r u' => wpY_work (fun r' v' => r' = r ∧ i_Rel (k + 4) u' v') (g_count, g_flushed, g_calls, g_drafted, g_top, g_time, b_isCut, b_removed, b_stream, b_type, b_from, b_by, b_value, b_version, b_on, b_call, b_draftType, b_draftValue, b_op, b_with, b_length, b_height, b_torn, b_stack, b_position, b_cells, b_noted, b_wanted, b_formed, b_cursor, b_parked, b_where, b_often, b_due, b_many, b_found) v1 v2) (f_held, f_records, f_flushed, f_summed, f_draft, f_drafted, f_seen, f_time, f_taken, a_at, a_version, a_value, a_originAt, a_stream, a_type, a_originBy, a_originCode, a_goesOn, a_events, a_cuts, a_firm, a_cutsGone, a_byVersion, a_byOrigin, a_upTo, a_draftType, a_draftValue, a_dOp, a_dC, a_height, a_clash, a_pOp, a_pSize, a_pC, a_position, a_cell, a_noted, a_stack, a_before, a_shown, a_gType, a_gTaken, a_gWaiting, a_kCount, a_gCursor, a_gParked, a_kCursor, a_tAt, a_tDue, a_wAt, a_kAt, a_tTimes, a_wTimes, a_kTimes) v1 v2
  have keep : i_Rel (k + 4) (f_held, f_records, f_flushed, f_summed, f_draft, f_drafted, f_seen, f_time, f_taken, a_at, a_version, a_value, a_originAt, a_stream, a_type, a_originBy, a_originCode, a_goesOn, a_events, a_cuts, a_firm, a_cutsGone, a_byVersion, a_byOrigin, a_upTo, a_draftType, a_draftValue, a_dOp, a_dC, a_height, a_clash, a_pOp, a_pSize, a_pC, a_position, a_cell, a_noted, a_stack, a_before, a_shown, a_gType, a_gTaken, a_gWaiting, a_kCount, a_gCursor, a_gParked, a_kCursor, a_tAt, a_tDue, a_wAt, a_kAt, a_tTimes, a_wTimes, a_kTimes) (g_count, g_flushed, g_calls, g_drafted, g_top, g_time, b_isCut, b_removed, b_stream, b_type, b_from, b_by, b_value, b_version, b_on, b_call, b_draftType, b_draftValue, b_op, b_with, b_length, b_height, b_torn, b_stack, b_position, b_cells, b_noted, b_wanted, b_formed, b_cursor, b_parked, b_where, b_often, b_due, b_many, b_found) := es_mk h1 h2 h3 (by omega) h5 h6 h7 h8 h9 h10
  have out : (v1 < 0 ∨ nI 3 ≤ v1) → wpX_work (fun r u' => wpY_work (fun r' v' => r' = r ∧ i_Rel (k + 4) u' v') (g_count, g_flushed, g_calls, g_drafted, g_top, g_time, b_isCut, b_removed, b_stream, b_type, b_from, b_by, b_value, b_version, b_on, b_call, b_draftType, b_draftValue, b_op, b_with, b_length, b_height, b_torn, b_stack, b_position, b_cells, b_noted, b_wanted, b_formed, b_cursor, b_parked, b_where, b_often, b_due, b_many, b_found) v1 v2) (f_held, f_records, f_flushed, f_summed, f_draft, f_drafted, f_seen, f_time, f_taken, a_at, a_version, a_value, a_originAt, a_stream, a_type, a_originBy, a_originCode, a_goesOn, a_events, a_cuts, a_firm, a_cutsGone, a_byVersion, a_byOrigin, a_upTo, a_draftType, a_draftValue, a_dOp, a_dC, a_height, a_clash, a_pOp, a_pSize, a_pC, a_position, a_cell, a_noted, a_stack, a_before, a_shown, a_gType, a_gTaken, a_gWaiting, a_kCount, a_gCursor, a_gParked, a_kCursor, a_tAt, a_tDue, a_wAt, a_kAt, a_tTimes, a_wTimes, a_kTimes) v1 v2 := fun c => by
    unfold wpX_work
    refine es_am0 (n := 3) c (br_t rfl ?_)
    unfold wpY_work
    exact es_out1 (n := 3) c (br_f es_10 ⟨rfl, keep⟩)
  rcases pk_ix v1 (n := 3) (by decide) with c | c | ⟨p, hp, rfl⟩
  · exact out (Or.inl c)
  · exact out (Or.inr c)
  clear out
  have hN := h3.1
  have hq40 := h3.2.2.1
  have hv3 : vp_in (nI p) 3 := vp_in_nI hp (by decide)
  have hv9 : vp_in (nI p) 9 := vp_in_nI (by omega) (by decide)
  have cp : (nI p).toNatClampNeg = p := nI_clamp (by omega)
  unfold wpX_work
  refine es_am1 (n := 3) hp (by decide) (br_f es_10 ?_)
  by_cases c1 : v2 < 1
  · refine br_t c1 ?_
    unfold wpY_work
    exact es_out0 (n := 3) hp (by decide) (br_t rfl (br_t c1 ⟨rfl, keep⟩))
  refine br_f c1 ?_
  by_cases c2 : v2 ≤ 20
  rotate_left
  · refine br_f c2 ?_
    unfold wpY_work
    exact es_out0 (n := 3) hp (by decide) (br_t rfl (br_f c1 (br_f c2 ⟨rfl, keep⟩)))
  refine br_t c2 ⟨hv3, ?_⟩
  rw [cp]
  obtain ⟨q1, q2, q3, q4⟩ := h6
  obtain ⟨n, hn, e1, e2, hw⟩ := q4 p hp
  by_cases c0 : n = 0
  · subst c0
    refine br_t e1 ?_
    unfold wpY_work
    refine es_out0 (n := 3) hp (by decide) (br_t rfl (br_f c1 (br_t c2 ⟨vp_in_nI (by omega) (by decide), ?_⟩)))
    rw [cp]
    exact br_t e2 ⟨rfl, keep⟩
  have nz : ¬ nI n = 0 := nI_ne0 (by omega) (by omega)
  have nz' : ¬ a_pSize p = 0 := by rw [e1]; exact nz
  obtain ⟨f1, P, K, g1, g2, g3, g4, g5, g6, g7, g8, g9, g10⟩ := h7 p hp nz'
  obtain ⟨q, hqj, rfl⟩ := nI_of (x := v2) (fun z => c1 (Int32.lt_trans z (by decide)))
  have hq20 : q ≤ 20 := (nI_leI (b := 20) hqj (by decide)).mp c2
  obtain ⟨r, N', L', C', P', cr', ⟨D1, D2, D3, D4, D5⟩, hX, hY⟩ := es_work (f_flushed := f_flushed) (f_draft := f_draft) (f_drafted := f_drafted) (f_seen := f_seen) (f_time := f_time) (f_taken := f_taken) (a_cuts := a_cuts) (a_firm := a_firm) (a_cutsGone := a_cutsGone) (a_upTo := a_upTo) (a_draftType := a_draftType) (a_draftValue := a_draftValue) (a_dOp := a_dOp) (a_dC := a_dC) (a_height := a_height) (a_clash := a_clash) (a_pOp := a_pOp) (a_pSize := a_pSize) (a_pC := a_pC) (a_noted := a_noted) (a_shown := a_shown) (a_gType := a_gType) (a_gTaken := a_gTaken) (a_gWaiting := a_gWaiting) (a_kCount := a_kCount) (a_gCursor := a_gCursor) (a_gParked := a_gParked) (a_kCursor := a_kCursor) (a_tAt := a_tAt) (a_tDue := a_tDue) (a_wAt := a_wAt) (a_kAt := a_kAt) (a_tTimes := a_tTimes) (a_wTimes := a_wTimes) (a_kTimes := a_kTimes) (g_flushed := g_flushed) (g_drafted := g_drafted) (g_time := g_time) (b_draftType := b_draftType) (b_draftValue := b_draftValue) (b_op := b_op) (b_with := b_with) (b_length := b_length) (b_height := b_height) (b_torn := b_torn) (b_noted := b_noted) (b_wanted := b_wanted) (b_formed := b_formed) (b_cursor := b_cursor) (b_parked := b_parked) (b_where := b_where) (b_often := b_often) (b_due := b_due) (b_many := b_many) (b_found := b_found) (q := q) hp hn hq20 e1 e2 q3 hw q 0 (by omega) N L C P (fun k => a_cell (10 * p + k)) h3 g3 (fun i hi => by have := g8 i hi; omega)
  rw [nI_0] at hX hY
  refine br_f nz' ⟨hv9, ?_⟩
  rw [g1]
  refine es_x_find h1 h3 ?_
  rw [es_cl_nI g3 (by omega)]
  refine ⟨_, hX f_held f_records f_summed a_at a_version a_value a_originAt a_stream a_type a_originBy a_originCode a_goesOn a_events a_byVersion a_byOrigin a_stack a_cell a_before a_position h1 g1 (fun _ _ => rfl) _ (fun f_held'' f_records'' f_summed'' a_at'' a_version'' a_value'' a_originAt'' a_stream'' a_type'' a_originBy'' a_originCode'' a_goesOn'' a_events'' a_byVersion'' a_byOrigin'' a_stack'' a_cell'' a_before'' a_position'' k1 k2 k3 k4 k5 => ?_)⟩
  unfold wpY_work
  refine es_out0 (n := 3) hp (by decide) (br_t rfl (br_f c1 (br_t c2 ⟨vp_in_nI (by omega) (by decide), ?_⟩)))
  rw [cp]
  refine br_f (by rw [e2]; exact nz) ⟨_, hY g_count g_calls g_top b_isCut b_removed b_stream b_type b_from b_by b_value b_version b_on b_call b_stack b_cells b_position h2 g2 (fun k hk => (g9 k hk).1) _ (fun g_count'' g_calls'' g_top'' b_isCut'' b_removed'' b_stream'' b_type'' b_from'' b_by'' b_value'' b_version'' b_on'' b_call'' b_stack'' b_cells'' b_position'' l1 l2 l3 l4 l5 => ⟨rfl, ?_⟩)⟩
  have hQ' := D2.2.2.1
  have hCb : C' ≤ 10 * (k + 4) := by
    have hQN : es_Q rm N' = es_Q rm N + (N' - N) := es_Q_all D1 (fun j hj _ => es_rmN h3 (by have := h3.2.1; omega))
    omega
  refine es_mk k1 l1 D2 hCb h5 ⟨q1, q2, q3, q4⟩ (fun p' hp' hz => ?_) (fun g hg => es_GR_N D1 (h8 g hg)) h9 h10
  by_cases z : p' = p
  · subst z
    rw [k5 (3 + p') (by omega), l5 (3 + p') (by omega), k2, l2]
    refine ⟨f1, P', K, rfl, rfl, D5, g4, g5, by omega, g7, g8, fun k hk => ⟨(l3 k hk).trans (k3 k hk).symm, ?_⟩, fun hz' => ?_⟩
    · rw [l4 _ (by omega) (by omega), k4 _ (by omega) (by omega)]
      exact (g9 k hk).2
    · obtain ⟨T, t1, t2, t3, t4, t5⟩ := g10 hz'
      rw [k5 (6 + p') (by omega), l5 (6 + p') (by omega)]
      refine ⟨T, t1, t2, t3, by omega, fun k hk => ?_⟩
      rw [l4 _ (by omega) (by omega), k4 _ (by omega) (by omega)]
      exact t5 k hk
  · obtain ⟨f1', P2, K2, g1', g2', g3', g4', g5', g6', g7', g8', g9', g10'⟩ := h7 p' hp' hz
    rw [k5 p' z, l5 p' z, k5 (3 + p') (by omega), l5 (3 + p') (by omega)]
    refine ⟨f1', P2, K2, g1', g2', by omega, g4', g5', g6', g7', g8', fun k hk => ?_, fun hz' => ?_⟩
    · rw [l4 _ (by omega) (by omega), k4 _ (by omega) (by omega), l4 _ (by omega) (by omega), k4 _ (by omega) (by omega)]
      exact g9' k hk
    · obtain ⟨T, t1, t2, t3, t4, t5⟩ := g10' hz'
      rw [k5 (6 + p') (by omega), l5 (6 + p') (by omega)]
      refine ⟨T, t1, t2, t3, t4, fun k hk => ?_⟩
      rw [l4 _ (by omega) (by omega), k4 _ (by omega) (by omega)]
      exact t5 k hk
end ES63b
end
