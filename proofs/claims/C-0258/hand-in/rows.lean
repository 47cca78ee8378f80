section
/-! pure rows to paste: stores, nI and lN arithmetic, masks, shifts, narrowing, branches by naturals (pk_le, pk_lt, pk_eq), loops (lp1 .. lp16: the measure of the state; rp1 ..: recursion), negatives. Take what you need -/
theorem pk_us {f : Nat → Int32} {k : Nat} {x : Int32} : upd f k x k = x := if_pos rfl
theorem pk_un {f : Nat → Int32} {k j : Nat} {x : Int32} (h : j ≠ k) : upd f k x j = f j := if_neg h
theorem pk_uLs {f : Nat → Int64} {k : Nat} {x : Int64} : vp_updL f k x k = x := if_pos rfl
theorem pk_uLn {f : Nat → Int64} {k j : Nat} {x : Int64} (h : j ≠ k) : vp_updL f k x j = f j := if_neg h
theorem pk_sub {a b : Nat} (h : b ≤ a) : nI a - nI b = nI (a - b) := by
  obtain ⟨c, rfl⟩ : ∃ c, a = c + b := ⟨a - b, by omega⟩
  rw [← nI_add, Int32.add_sub_cancel, Nat.add_sub_cancel]
theorem pk_m1 (n : Nat) : nI (n + 1) + (-1) = nI n := by
  rw [← nI_1, Int32.add_assoc, show (1 : Int32) + (-1) = 0 from rfl, Int32.add_zero]
theorem pk_mul (a b : Nat) : nI a * nI b = nI (a * b) := (Int32.ofNat_mul a b).symm
theorem pk_div {a d : Nat} (ha : a < 2 ^ 31) (h0 : 0 < d) (hd : d < 2 ^ 31) : nI a / nI d = nI (a / d) := by
  apply Int32.toInt_inj.mp
  rw [lg_idiv_nonneg (by rw [nI_toInt ha]; omega) (by rw [nI_toInt hd]; omega), nI_toInt ha, nI_toInt hd, nI_toInt (Nat.lt_of_le_of_lt (Nat.div_le_self a d) ha)]
  first | rfl | exact (Int.natCast_ediv _ _).symm
theorem pk_rem {a d : Nat} (ha : a < 2 ^ 31) (h0 : 0 < d) (hd : d < 2 ^ 31) : nI a - nI a / nI d * nI d = nI (a % d) := by
  rw [pk_div ha h0 hd, pk_mul, pk_sub (Nat.div_mul_le_self a d)]
  exact congrArg nI (by have := Nat.div_add_mod' a d; omega)
theorem pk_sub_toInt {a b : Nat} (ha : a < 2 ^ 30) (hb : b < 2 ^ 30) : (nI a - nI b).toInt = (a : Int) - b := by
  rw [Int32.toInt_sub, nI_toInt (by omega), nI_toInt (by omega)]
  exact Int.bmod_eq_of_le (by omega) (by omega)
theorem pk_sneg {a b : Nat} (hb : b < 2 ^ 30) (h : a < b) : nI a - nI b < 0 := by
  rw [Int32.lt_iff_toInt_lt, pk_sub_toInt (by omega) hb, show (0 : Int32).toInt = 0 from by decide]
  omega
theorem pk_ix (x : Int32) {n : Nat} (hn : n < 2 ^ 31) : x < 0 ∨ nI n ≤ x ∨ ∃ j : Nat, j < n ∧ x = nI j := by
  by_cases h : x < 0
  · exact Or.inl h
  · obtain ⟨j, hj, rfl⟩ := nI_of h
    by_cases h2 : j < n
    · exact Or.inr (Or.inr ⟨j, h2, rfl⟩)
    · exact Or.inr (Or.inl (nI_le (by omega) hj))
theorem pk_le {x y : Int32} {A B : Prop} (a b : Nat) (f : a ≤ b → A) (g : b < a → B) (hx : x = nI a := by rfl) (hy : y = nI b := by rfl) (ha : a < 2 ^ 31 := by omega) (hb : b < 2 ^ 31 := by omega) : (x ≤ y → A) ∧ (¬ x ≤ y → B) := by
  subst hx hy
  rw [nI_leI ha hb]
  exact ⟨f, fun z => g (by omega)⟩
theorem pk_lt {x y : Int32} {A B : Prop} (a b : Nat) (f : a < b → A) (g : b ≤ a → B) (hx : x = nI a := by rfl) (hy : y = nI b := by rfl) (ha : a < 2 ^ 31 := by omega) (hb : b < 2 ^ 31 := by omega) : (x < y → A) ∧ (¬ x < y → B) := by
  subst hx hy
  rw [nI_ltI ha hb]
  exact ⟨f, fun z => g (by omega)⟩
theorem pk_eq {x y : Int32} {A B : Prop} (a b : Nat) (f : a = b → A) (g : a ≠ b → B) (hx : x = nI a := by rfl) (hy : y = nI b := by rfl) (ha : a < 2 ^ 31 := by omega) (hb : b < 2 ^ 31 := by omega) : (x = y → A) ∧ (¬ x = y → B) := by
  subst hx hy
  rw [nI_eq ha hb]
  exact ⟨f, g⟩
theorem pk_in {x : Int32} (n N : Nat) (h : n < N) (hx : x = nI n := by rfl) (hN : N < 2 ^ 31 := by omega) : vp_in x N := by
  subst hx
  exact vp_in_nI h hN
theorem pk_cl {x : Int32} (n : Nat) (hx : x = nI n := by rfl) (h : n < 2 ^ 31 := by omega) : x.toNatClampNeg = n := by
  subst hx
  exact nI_clamp h
theorem pk_tn {n : Nat} (h : n < 2 ^ 32) : (nI n).toBitVec.toNat = n := Nat.mod_eq_of_lt h
theorem pk_and (x : Int32) {m : Int32} (k : Nat) (hm : m.toBitVec.toNat = 2 ^ k - 1) : x &&& m = nI (x.toBitVec.toNat % 2 ^ k) := by
  apply Int32.toBitVec_inj.mp
  apply BitVec.eq_of_toNat_eq
  rw [Int32.toBitVec_and, BitVec.toNat_and, hm, Nat.and_two_pow_sub_one_eq_mod]
  show _ = (BitVec.ofNat 32 _).toNat
  rw [BitVec.toNat_ofNat]
  exact (Nat.mod_eq_of_lt (Nat.lt_of_le_of_lt (Nat.mod_le _ _) x.toBitVec.isLt)).symm
theorem pk_andN {n : Nat} (h : n < 2 ^ 32) {m : Int32} (k : Nat) (hm : m.toBitVec.toNat = 2 ^ k - 1) : nI n &&& m = nI (n % 2 ^ k) := by
  rw [pk_and _ k hm, pk_tn h]
theorem pk_andE (x : Int32) {m : Int32} (k : Nat) (hm : m.toBitVec.toNat = 2 ^ k - 1) : ∃ j : Nat, j < 2 ^ k ∧ x &&& m = nI j := ⟨_, Nat.mod_lt _ (Nat.two_pow_pos k), pk_and x k hm⟩
theorem pk_andIn (x : Int32) {m : Int32} (k : Nat) (hm : m.toBitVec.toNat = 2 ^ k - 1) (hk : k ≤ 30) : vp_in (x &&& m) (2 ^ k) := by
  obtain ⟨j, hj, e⟩ := pk_andE x k hm
  rw [e]
  exact vp_in_nI hj (Nat.lt_of_le_of_lt (Nat.pow_le_pow_right (by decide) hk) (by decide))
theorem pk_shl (a s : Int32) (k : Nat) (hs : (s.toBitVec.smod 32).toNat = k) : (a <<< s).toBitVec.toNat = a.toBitVec.toNat * 2 ^ k % 2 ^ 32 := by
  show (a.toBitVec <<< (s.toBitVec.smod 32).toNat).toNat = _
  rw [hs, BitVec.toNat_shiftLeft, Nat.shiftLeft_eq]
theorem pk_shlN {n : Nat} (s : Int32) (k : Nat) (hs : (s.toBitVec.smod 32).toNat = k) (h : n * 2 ^ k < 2 ^ 32) : nI n <<< s = nI (n * 2 ^ k) := by
  apply Int32.toBitVec_inj.mp
  apply BitVec.eq_of_toNat_eq
  have hn : n < 2 ^ 32 := Nat.lt_of_le_of_lt (Nat.le_mul_of_pos_right n (Nat.two_pow_pos k)) h
  rw [pk_shl _ _ k hs, pk_tn hn, pk_tn h, Nat.mod_eq_of_lt h]
theorem pk_shr (a s : Int32) (k : Nat) (hs : (s.toBitVec.smod 32).toNat = k) : (a >>> s).toInt = a.toInt >>> k := by
  show (a.toBitVec.sshiftRight (s.toBitVec.smod 32).toNat).toInt = _
  rw [hs, BitVec.toInt_sshiftRight]
  rfl
theorem pk_shrN {n : Nat} (h : n < 2 ^ 31) (s : Int32) (k : Nat) (hs : (s.toBitVec.smod 32).toNat = k) : nI n >>> s = nI (n / 2 ^ k) := by
  apply Int32.toInt_inj.mp
  have h2 : n / 2 ^ k ≤ n := Nat.div_le_self _ _
  rw [pk_shr _ _ k hs, nI_toInt h, nI_toInt (by omega), Int.shiftRight_eq_div_pow]
  rfl
theorem pk_ushr (x s : Int32) (k : Nat) (hs : ((s.toUInt32 &&& Int32.toUInt32 31).toBitVec % 32).toNat = k) : (x.toUInt32 >>> (s.toUInt32 &&& Int32.toUInt32 31)).toInt32.toBitVec.toNat = x.toBitVec.toNat / 2 ^ k := by
  have e : (x.toUInt32 >>> (s.toUInt32 &&& Int32.toUInt32 31)).toInt32.toBitVec = x.toBitVec >>> k := by
    rw [← hs]
    exact UInt32.toBitVec_shiftRight _ _
  rw [e, BitVec.toNat_ushiftRight, Nat.shiftRight_eq_div_pow]
theorem pk_ushrN {n : Nat} (hn : n < 2 ^ 32) (s : Int32) (k : Nat) (hs : ((s.toUInt32 &&& Int32.toUInt32 31).toBitVec % 32).toNat = k) : ((nI n).toUInt32 >>> (s.toUInt32 &&& Int32.toUInt32 31)).toInt32 = nI (n / 2 ^ k) := by
  apply Int32.toBitVec_inj.mp
  apply BitVec.eq_of_toNat_eq
  rw [pk_ushr _ s k hs, pk_tn hn, pk_tn (Nat.lt_of_le_of_lt (Nat.div_le_self _ _) hn)]
theorem pk_nb (z : Int32) : narrow .byte (.int z.toInt8.toInt32) = .int z.toInt8.toInt32 := congrArg Value.int (by simp)
theorem pk_ns (z : Int32) : narrow .short (.int z.toInt16.toInt32) = .int z.toInt16.toInt32 := congrArg Value.int (by simp)
theorem pk_fb (r : Int32) : fits .byte (.int r.toInt8.toInt32) = true := by
  have ⟨a, b⟩ := lg_i2b_range r
  have h1 : (-128 : Int32).toInt = -128 := by decide
  have h2 : (127 : Int32).toInt = 127 := by decide
  simp only [fits, Bool.and_eq_true, decide_eq_true_eq, Int32.le_iff_toInt_le, h1, h2]
  omega
theorem pk_fs (r : Int32) : fits .short (.int r.toInt16.toInt32) = true := by
  have ⟨a, b⟩ := lg_i2s_range r
  have h1 : (-32768 : Int32).toInt = -32768 := by decide
  have h2 : (32767 : Int32).toInt = 32767 := by decide
  simp only [fits, Bool.and_eq_true, decide_eq_true_eq, Int32.le_iff_toInt_le, h1, h2]
  omega
theorem pk_charN {q : Nat} (hq : q < 65536) : narrow .char (.int (nI q)) = .int (nI q) ∧ fits .char (.int (nI q)) = true := by
  constructor
  · have e : (nI q).toUInt32.toUInt16.toUInt32.toInt32 = nI q := by
      apply Int32.toBitVec_inj.mp
      apply BitVec.eq_of_toNat_eq
      show (nI q).toUInt32.toUInt16.toUInt32.toNat = q % 2 ^ 32
      rw [UInt16.toNat_toUInt32, UInt32.toNat_toUInt16, show (nI q).toUInt32.toNat = q % 2 ^ 32 from rfl]
      omega
    exact congrArg Value.int e
  · have a : (0 : Int32) ≤ nI q := nI_pos' (by omega)
    have b : nI q ≤ 65535 := nI_le (b := 65535) (by omega) (by decide)
    show (decide ((0 : Int32) ≤ nI q) && decide (nI q ≤ 65535)) = true
    rw [decide_eq_true a, decide_eq_true b]
    rfl
theorem pk_char (x : Int32) : (x.toUInt32 % 65536).toInt32 = nI (x.toBitVec.toNat % 65536) := by
  apply Int32.toBitVec_inj.mp
  apply BitVec.eq_of_toNat_eq
  rw [pk_tn (by omega)]
  show (x.toUInt32 % 65536).toNat = _
  rw [UInt32.toNat_mod]
  rfl
theorem pk_nc (x : Int32) : narrow .char (.int (x.toUInt32 % 65536).toInt32) = .int (x.toUInt32 % 65536).toInt32 := by
  rw [pk_char]
  exact (pk_charN (Nat.mod_lt _ (by decide))).1
theorem pk_fc (x : Int32) : fits .char (.int (x.toUInt32 % 65536).toInt32) = true := by
  rw [pk_char]
  exact (pk_charN (Nat.mod_lt _ (by decide))).2
theorem pk_vb (z : Int32) : vp_nar .byte z.toInt8.toInt32 = z.toInt8.toInt32 := by rw [vp_nar_byte]; simp
theorem pk_vs (z : Int32) : vp_nar .short z.toInt16.toInt32 = z.toInt16.toInt32 := by rw [vp_nar_short]; simp
theorem pk_vc (z : Int32) : vp_nar .char (z.toUInt32 % 65536).toInt32 = (z.toUInt32 % 65536).toInt32 := Value.int.inj (pk_nc z)
theorem pk_lT {n : Nat} (h : n < 2 ^ 63) : (lN n).toInt = (n : Int) := lg_ofNat_toInt h
theorem pk_lLT {a b : Nat} (ha : a < 2 ^ 63) (hb : b < 2 ^ 63) : lN a < lN b ↔ a < b := by
  rw [Int64.lt_iff_toInt_lt, pk_lT ha, pk_lT hb]; omega
theorem pk_lLE {a b : Nat} (ha : a < 2 ^ 63) (hb : b < 2 ^ 63) : lN a ≤ lN b ↔ a ≤ b := by
  rw [Int64.le_iff_toInt_le, pk_lT ha, pk_lT hb]; omega
theorem pk_lEQ {a b : Nat} (ha : a < 2 ^ 63) (hb : b < 2 ^ 63) : lN a = lN b ↔ a = b := by
  rw [← Int64.toInt_inj, pk_lT ha, pk_lT hb]; omega
theorem pk_lOf {x : Int64} (h : ¬ x < 0) : ∃ k : Nat, k < 2 ^ 63 ∧ x = lN k := by
  rw [Int64.lt_iff_toInt_lt] at h
  have h0 : (0 : Int64).toInt = 0 := by decide
  have hx := Int64.toInt_lt x
  refine ⟨x.toInt.toNat, by omega, Int64.toInt_inj.mp ?_⟩
  rw [pk_lT (by omega)]
  omega
theorem pk_lDiv {a b : Nat} (ha : a < 2 ^ 63) (h0 : 0 < b) (hb : b < 2 ^ 63) : lN a / lN b = lN (a / b) := by
  apply Int64.toInt_inj.mp
  rw [lg_ldiv_nonneg (by rw [pk_lT ha]; omega) (by rw [pk_lT hb]; omega), pk_lT ha, pk_lT hb, pk_lT (Nat.lt_of_le_of_lt (Nat.div_le_self a b) ha)]
  rfl
theorem pk_lRem {a b : Nat} (ha : a < 2 ^ 63) (h0 : 0 < b) (hb : b < 2 ^ 63) : lN a - lN a / lN b * lN b = lN (a % b) := by
  rw [pk_lDiv ha h0 hb, lN_mul, lN_sub (Nat.div_mul_le_self a b)]
  exact congrArg lN (by have := Nat.div_add_mod' a b; omega)
theorem pk_loop {σ : Type} (W : Nat → Nat → σ → Prop) (I : Nat → σ → Prop) (e i0 : Nat) (s : σ) (hi : i0 ≤ e) (h0 : I i0 s) (hx : ∀ n s, I e s → W (n + 1) e s)
    (hs : ∀ n i s, i < e → I i s → (∀ s', I (i + 1) s' → W n (i + 1) s') → W (n + 1) i s) : ∃ n, W n i0 s :=
  ⟨e + 1, loop_i W I e hx hs (e + 1) i0 s hi (by omega) h0⟩
theorem pk_loopD {σ : Type} (W : Nat → Nat → σ → Prop) (I : Nat → σ → Prop) (hx : ∀ n s, I 0 s → W (n + 1) 0 s)
    (hs : ∀ n i s, I (i + 1) s → (∀ s', I i s' → W n i s') → W (n + 1) (i + 1) s) : ∀ (e : Nat) (s : σ), I e s → W (e + 1) e s := by
  intro e
  induction e with
  | zero => exact fun s h => hx 0 s h
  | succ e ih => exact fun s h => hs (e + 1) e s h (fun s' h' => ih s' h')
end
section
/-! zones: pure. d i j bounds the value of i less that of j; 1000: no bound -/
def zo_sm (a b : Int) : Int := if 1000 ≤ a ∨ 1000 ≤ b then 1000 else a + b
def zo_T (d : Nat → Nat → Int) : Prop := ∀ i j k, i < 4 → j < 4 → k < 4 → d i k < 1000 → d k j < 1000 → d i j ≤ d i k + d k j
def zo_CZ (d : Nat → Nat → Int) : Prop :=
  (∀ i, i < 4 → d i i = 0) ∧ zo_T d ∧ (∀ j, j < 4 → d 0 j ≤ 0 ∧ -40 ≤ d 0 j) ∧
  (∀ i j, i < 4 → j < 4 → j ≠ 0 → d i j ≤ 20) ∧ (∀ i, i < 4 → d i 0 ≤ 40 ∨ d i 0 = 1000) ∧ d 1 3 ≤ 0 ∧ d 2 3 ≤ 0
def zo_Fin (d : Nat → Nat → Int) : Prop := ∀ i, i < 4 → d i 0 ≤ 20
def zo_M (d : Nat → Nat → Int) (p : Nat → Int) : Prop := p 0 = 0 ∧ ∀ i j, i < 4 → j < 4 → d i j < 1000 → p i - p j ≤ d i j
theorem zo_fin {d : Nat → Nat → Int} (h : zo_CZ d) {i j : Nat} (hi : i < 4) (hj : j < 4) : d i j ≤ 40 ∨ d i j = 1000 := by
  by_cases z : j = 0
  · subst z; exact h.2.2.2.2.1 i hi
  · have := h.2.2.2.1 i j hi hj z; omega
theorem zo_lo {d : Nat → Nat → Int} (h : zo_CZ d) {i j : Nat} (hi : i < 4) (hj : j < 4) : -40 ≤ d i j := by
  have a := h.2.2.1 i hi
  have b := h.2.2.1 j hj
  have t := h.2.1 0 j i (by omega) hj hi
  omega
theorem zo_20 {d : Nat → Nat → Int} (h : zo_CZ d) (f : zo_Fin d) {i j : Nat} (hi : i < 4) (hj : j < 4) : d i j ≤ 20 := by
  by_cases z : j = 0
  · subst z; exact f i hi
  · exact h.2.2.2.1 i j hi hj z
theorem zo_tri {d : Nat → Nat → Int} (h : zo_CZ d) (f : zo_Fin d) {i j k : Nat} (hi : i < 4) (hj : j < 4) (hk : k < 4) : d i j ≤ d i k + d k j := by
  have a := zo_20 h f hi hk
  have b := zo_20 h f hk hj
  exact h.2.1 i j k hi hj hk (by omega) (by omega)
/-! a limit -/
def zo_lim (d : Nat → Nat → Int) (i j : Nat) (b : Int) (x y : Nat) : Int :=
  if zo_sm (zo_sm (d x i) b) (d j y) < d x y then zo_sm (zo_sm (d x i) b) (d j y) else d x y
theorem zo_lim1 (d : Nat → Nat → Int) (i j : Nat) (b : Int) (x y : Nat) : zo_lim d i j b x y ≤ d x y := by
  unfold zo_lim; split <;> omega
theorem zo_lim2 {d : Nat → Nat → Int} {i j : Nat} {b : Int} {x y : Nat} (hb : b ≤ 20) (h1 : d x i ≤ 40) (h2 : d j y ≤ 40) : zo_lim d i j b x y ≤ d x i + b + d j y := by
  unfold zo_lim zo_sm
  rw [if_neg (c := 1000 ≤ d x i ∨ 1000 ≤ b) (by omega), if_neg (c := 1000 ≤ d x i + b ∨ 1000 ≤ d j y) (by omega)]
  split <;> omega
theorem zo_lim3 {d : Nat → Nat → Int} {i j : Nat} {b : Int} {x y : Nat} (hb : b ≤ 20) (hx : d x i ≤ 40 ∨ d x i = 1000) (hy : d j y ≤ 40 ∨ d j y = 1000) (h : d x y ≤ 1000) :
    zo_lim d i j b x y = d x y ∨ (d x i ≤ 40 ∧ d j y ≤ 40 ∧ zo_lim d i j b x y = d x i + b + d j y) := by
  unfold zo_lim zo_sm
  by_cases c1 : 1000 ≤ d x i ∨ 1000 ≤ b
  · rw [if_pos c1, if_pos (c := (1000 : Int) ≤ 1000 ∨ 1000 ≤ d j y) (Or.inl (Int.le_refl _)), if_neg (by omega)]; exact Or.inl rfl
  · rw [if_neg c1]
    by_cases c2 : 1000 ≤ d x i + b ∨ 1000 ≤ d j y
    · rw [if_pos c2, if_neg (by omega)]; exact Or.inl rfl
    · rw [if_neg c2]
      split
      · exact Or.inr ⟨by omega, by omega, rfl⟩
      · exact Or.inl rfl
section
variable {d : Nat → Nat → Int} {i j : Nat} {b : Int}
theorem zo_le1000 (h : zo_CZ d) {x y : Nat} (hx : x < 4) (hy : y < 4) : d x y ≤ 1000 := by
  have := zo_fin h hx hy; omega
theorem zo_lim3' (h : zo_CZ d) (hi : i < 4) (hj : j < 4) (hb : b ≤ 20) {x y : Nat} (hx : x < 4) (hy : y < 4) :
    zo_lim d i j b x y = d x y ∨ (d x i ≤ 40 ∧ d j y ≤ 40 ∧ zo_lim d i j b x y = d x i + b + d j y) :=
  zo_lim3 hb (zo_fin h hx hi) (zo_fin h hj hy) (zo_le1000 h hx hy)
/-- the column and the row that a limit reads don't change -/
theorem zo_lim_c (h : zo_CZ d) (hi : i < 4) (hj : j < 4) (hb : b ≤ 20) (hr : d j i < 1000 → 0 ≤ d j i + b) {x : Nat} (hx : x < 4) : zo_lim d i j b x i = d x i := by
  have a := zo_lim1 d i j b x i
  have e := zo_lim3' h hi hj hb hx hi
  omega
theorem zo_lim_r (h : zo_CZ d) (hi : i < 4) (hj : j < 4) (hb : b ≤ 20) (hr : d j i < 1000 → 0 ≤ d j i + b) {y : Nat} (hy : y < 4) : zo_lim d i j b j y = d j y := by
  have a := zo_lim1 d i j b j y
  have e := zo_lim3' h hi hj hb hj hy
  omega
theorem zo_lim_T (h : zo_CZ d) (hi : i < 4) (hj : j < 4) (hb : b ≤ 20) (hr : d j i < 1000 → 0 ≤ d j i + b) : zo_T (zo_lim d i j b) := by
  intro x y k hx hy hk f1 f2
  have l1 := zo_lim1 d i j b x y
  have T := h.2.1
  rcases zo_lim3' h hi hj hb hx hk with e1 | ⟨p1, q1, e1⟩ <;> rcases zo_lim3' h hi hj hb hk hy with e2 | ⟨p2, q2, e2⟩
  · have := T x y k hx hy hk (by omega) (by omega)
    omega
  · have t := T x i k hx hi hk (by omega) (by omega)
    have f := zo_fin h hx hk
    have f' := zo_fin h hx hi
    have := zo_lim2 (d := d) (i := i) (j := j) (b := b) (x := x) (y := y) hb (by omega) q2
    omega
  · have t := T j y k hj hy hk (by omega) (by omega)
    have f := zo_fin h hk hy
    have f' := zo_fin h hj hy
    have := zo_lim2 (d := d) (i := i) (j := j) (b := b) (x := x) (y := y) hb p1 (by omega)
    omega
  · have t := T j i k hj hi hk (by omega) (by omega)
    have := zo_lim2 (d := d) (i := i) (j := j) (b := b) (x := x) (y := y) hb p1 q2
    omega
theorem zo_lim_d (h : zo_CZ d) (hi : i < 4) (hj : j < 4) (hb : b ≤ 20) (hr : d j i < 1000 → 0 ≤ d j i + b) {x : Nat} (hx : x < 4) : zo_lim d i j b x x = 0 := by
  have e := h.1 x hx
  rcases zo_lim3' h hi hj hb hx hx with e1 | ⟨p1, q1, e1⟩
  · omega
  · have l := zo_lim1 d i j b x x
    have t := h.2.1 j i x hj hi hx (by omega) (by omega)
    omega
theorem zo_lim_cz (h : zo_CZ d) (hi : i < 4) (hj : j < 4) (hb : b ≤ 20) (hr : d j i < 1000 → 0 ≤ d j i + b) (hk : (j = 0 ∧ i ≠ 0) ∨ (zo_Fin d ∧ i = 0)) : zo_CZ (zo_lim d i j b) := by
  refine ⟨fun x hx => zo_lim_d h hi hj hb hr hx, zo_lim_T h hi hj hb hr, fun y hy => ?_, fun x y hx hy hz => ?_, fun x hx => ?_, ?_, ?_⟩
  · have l := zo_lim1 d i j b 0 y
    have r := h.2.2.1 y hy
    refine ⟨by omega, ?_⟩
    rcases zo_lim3' h hi hj hb (by omega : 0 < 4) hy with e1 | ⟨p1, q1, e1⟩
    · omega
    · rcases hk with ⟨rfl, _⟩ | ⟨F, rfl⟩
      · omega
      · have t := zo_tri h F hj (by omega : 0 < 4) hy
        have f := F y hy
        have f' := F j hj
        have z := h.1 0 (by omega)
        omega
  · have l := zo_lim1 d i j b x y
    have r := h.2.2.2.1 x y hx hy hz
    omega
  · have l := zo_lim1 d i j b x 0
    rcases zo_lim3' h hi hj hb hx (by omega : 0 < 4) with e1 | ⟨p1, q1, e1⟩
    · rw [e1]; exact h.2.2.2.2.1 x hx
    · rcases hk with ⟨rfl, n⟩ | ⟨F, rfl⟩
      · have r := h.2.2.2.1 x i hx hi n
        have z := h.1 0 (by omega)
        omega
      · have f := F x hx
        omega
  · have l := zo_lim1 d i j b 1 3
    have r := h.2.2.2.2.2.1
    omega
  · have l := zo_lim1 d i j b 2 3
    have r := h.2.2.2.2.2.2
    omega
theorem zo_lim_f (f : zo_Fin d) : zo_Fin (zo_lim d i j b) := fun x hx => by
  have l := zo_lim1 d i j b x 0
  have := f x hx
  omega
theorem zo_lim_ij (h : zo_CZ d) (hi : i < 4) (hj : j < 4) (hb : b ≤ 20) : zo_lim d i j b i j ≤ b := by
  have a := h.1 i hi
  have c := h.1 j hj
  have := zo_lim2 (d := d) (i := i) (j := j) (b := b) (x := i) (y := j) hb (by omega) (by omega)
  omega
theorem zo_lim_m (h : zo_CZ d) (hi : i < 4) (hj : j < 4) (hb : b ≤ 20) (p : Nat → Int) : zo_M (zo_lim d i j b) p ↔ zo_M d p ∧ p i - p j ≤ b := by
  constructor
  · intro m
    refine ⟨⟨m.1, fun x y hx hy hf => ?_⟩, ?_⟩
    · have l := zo_lim1 d i j b x y
      have := m.2 x y hx hy (by omega)
      omega
    · have l := zo_lim_ij h hi hj hb
      have := m.2 i j hi hj (by omega)
      omega
  · intro ⟨m, q⟩
    refine ⟨m.1, fun x y hx hy hf => ?_⟩
    rcases zo_lim3' h hi hj hb hx hy with e1 | ⟨p1, q1, e1⟩
    · have := m.2 x y hx hy (by omega); omega
    · have a := m.2 x i hx hi (by omega)
      have c := m.2 j y hj hy (by omega)
      omega
/-- no point is left -/
theorem zo_lim_e (hi : i < 4) (hj : j < 4) (hr : d j i < 1000) (hn : d j i + b < 0) {p : Nat → Int} (m : zo_M d p) : ¬ p i - p j ≤ b := by
  have := m.2 j i hj hi hr
  omega
theorem zo_lim_n (hi : i < 4) (hj : j < 4) (hr : d i j ≤ b) (hb : b < 1000) {p : Nat → Int} (m : zo_M d p) : p i - p j ≤ b := by
  have := m.2 i j hi hj (by omega)
  omega
end
/-! points of a zone: a part of one can be made whole -/
theorem zo_min (A : Nat → Prop) (f : Nat → Int) : ∀ N, (∃ a, a < N ∧ A a) → ∃ m, (∀ a, a < N → A a → m ≤ f a) ∧ ∃ a, a < N ∧ A a ∧ m = f a := by
  intro N
  induction N with
  | zero => intro ⟨a, h, _⟩; omega
  | succ N ih =>
    intro ⟨a, h, hA⟩
    by_cases z : ∃ a, a < N ∧ A a
    · obtain ⟨m, h1, a', ha', hA', e⟩ := ih z
      by_cases y : A N ∧ f N < m
      · refine ⟨f N, fun x hx hX => ?_, N, by omega, y.1, rfl⟩
        by_cases q : x = N
        · rw [q]; omega
        · have := h1 x (by omega) hX; omega
      · refine ⟨m, fun x hx hX => ?_, a', by omega, hA', e⟩
        by_cases q : x = N
        · rw [q] at hX ⊢
          have : ¬ f N < m := fun w => y ⟨hX, w⟩
          omega
        · exact h1 x (by omega) hX
    · have e : a = N := by
        by_cases q : a < N
        · exact absurd ⟨a, q, hA⟩ z
        · omega
      subst e
      refine ⟨f a, fun x hx hX => ?_, a, by omega, hA, rfl⟩
      by_cases q : x = a
      · rw [q]; omega
      · exact absurd ⟨x, by omega, hX⟩ z
theorem zo_ext {d : Nat → Nat → Int} (h0 : ∀ i, i < 4 → d i i = 0) (ht : ∀ i j k, i < 4 → j < 4 → k < 4 → d i j ≤ d i k + d k j) (A : Nat → Prop) (hA : ∃ a, a < 4 ∧ A a) (p : Nat → Int)
    (hp : ∀ i j, i < 4 → j < 4 → A i → A j → p i - p j ≤ d i j) :
    ∃ p' : Nat → Int, (∀ i, A i → p' i = p i) ∧ (∀ i j, i < 4 → j < 4 → p' i - p' j ≤ d i j) ∧ (∀ k, k < 4 → ¬ A k → ∃ a, a < 4 ∧ A a ∧ p' k = p a + d k a) := by
  classical
  have hm : ∀ k, ∃ m, (∀ a, a < 4 → A a → m ≤ p a + d k a) ∧ ∃ a, a < 4 ∧ A a ∧ m = p a + d k a := fun k => zo_min A (fun a => p a + d k a) 4 hA
  obtain ⟨m, hm⟩ : ∃ m : Nat → Int, ∀ k, (∀ a, a < 4 → A a → m k ≤ p a + d k a) ∧ ∃ a, a < 4 ∧ A a ∧ m k = p a + d k a := ⟨fun k => (hm k).choose, fun k => (hm k).choose_spec⟩
  refine ⟨fun k => if A k then p k else m k, fun i hi => if_pos hi, fun i j hi hj => ?_, fun k hk hn => ?_⟩
  · show (if A i then p i else m i) - (if A j then p j else m j) ≤ d i j
    by_cases ai : A i <;> by_cases aj : A j
    · rw [if_pos ai, if_pos aj]; exact hp i j hi hj ai aj
    · rw [if_pos ai, if_neg aj]
      obtain ⟨a, ha, hA, e⟩ := (hm j).2
      have := hp i a hi ha ai hA
      have := ht i a j hi ha hj
      omega
    · rw [if_neg ai, if_pos aj]
      have := (hm i).1 j hj aj
      omega
    · rw [if_neg ai, if_neg aj]
      obtain ⟨a, ha, hA, e⟩ := (hm j).2
      have := (hm i).1 a ha hA
      have := ht i a j hi ha hj
      omega
  · show ∃ a, a < 4 ∧ A a ∧ (if A k then p k else m k) = p a + d k a
    rw [if_neg hn]
    exact (hm k).2
section
variable {d : Nat → Nat → Int}
theorem zo_tight (h : zo_CZ d) (f : zo_Fin d) {i j : Nat} (hi : i < 4) (hj : j < 4) : ∃ p, zo_M d p ∧ p i - p j = d i j := by
  have hii := h.1 i hi
  have hjj := h.1 j hj
  have tij := zo_tri h f hj hj hi
  obtain ⟨p', e, hp, _⟩ := zo_ext h.1 (fun i j k hi hj hk => zo_tri h f hi hj hk) (fun a => a = i ∨ a = j) ⟨i, hi, Or.inl rfl⟩ (fun a => if a = i then d i j else 0) (by
    intro a c ha hc hA hC
    show (if a = i then d i j else 0) - (if c = i then d i j else 0) ≤ d a c
    by_cases ai : a = i <;> by_cases ci : c = i
    · rw [if_pos ai, if_pos ci, ai, ci]; omega
    · rw [if_pos ai, if_neg ci, ai]
      have : c = j := hC.resolve_left ci
      rw [this]; omega
    · rw [if_neg ai, if_pos ci, ci]
      have : a = j := hA.resolve_left ai
      rw [this]; omega
    · rw [if_neg ai, if_neg ci, hA.resolve_left ai, hC.resolve_left ci]; omega)
  refine ⟨fun k => p' k - p' 0, ⟨by show p' 0 - p' 0 = 0; omega, fun x y hx hy _ => ?_⟩, ?_⟩
  · show (p' x - p' 0) - (p' y - p' 0) ≤ d x y
    have := hp x y hx hy
    omega
  · show (p' i - p' 0) - (p' j - p' 0) = d i j
    have e1 : p' i = if i = i then d i j else 0 := e i (Or.inl rfl)
    have e2 : p' j = if j = i then d i j else 0 := e j (Or.inr rfl)
    rw [if_pos rfl] at e1
    by_cases q : j = i
    · subst q; omega
    · rw [if_neg q] at e2; omega
/-! a reset -/
def zo_rs (d : Nat → Nat → Int) (x i j : Nat) : Int := d (if i = x then 0 else i) (if j = x then 0 else j)
theorem zo_ri {x i : Nat} (hi : i < 4) : (if i = x then 0 else i) < 4 := by split <;> omega
theorem zo_rs_cz (h : zo_CZ d) (f : zo_Fin d) {x : Nat} (hx : x = 1 ∨ x = 2) : zo_CZ (zo_rs d x) ∧ zo_Fin (zo_rs d x) := by
  have fin : zo_Fin (zo_rs d x) := fun i hi => by
    show d (if i = x then 0 else i) (if 0 = x then 0 else 0) ≤ 20
    have e : (if 0 = x then 0 else 0) = 0 := by split <;> rfl
    rw [e]; exact f _ (zo_ri hi)
  refine ⟨⟨fun i hi => h.1 _ (zo_ri hi), fun i j k hi hj hk _ _ => zo_tri h f (zo_ri hi) (zo_ri hj) (zo_ri hk), fun j hj => ?_, fun i j hi hj _ => zo_20 h f (zo_ri hi) (zo_ri hj), fun i hi => ?_, ?_, ?_⟩, fin⟩
  · show d (if 0 = x then 0 else 0) (if j = x then 0 else j) ≤ 0 ∧ -40 ≤ d (if 0 = x then 0 else 0) (if j = x then 0 else j)
    have e : (if 0 = x then 0 else 0) = 0 := by split <;> rfl
    rw [e]; exact h.2.2.1 _ (zo_ri hj)
  · have := fin i hi; omega
  · show d (if 1 = x then 0 else 1) (if 3 = x then 0 else 3) ≤ 0
    rw [if_neg (c := 3 = x) (by omega)]
    split
    · exact (h.2.2.1 3 (by omega)).1
    · exact h.2.2.2.2.2.1
  · show d (if 2 = x then 0 else 2) (if 3 = x then 0 else 3) ≤ 0
    rw [if_neg (c := 3 = x) (by omega)]
    split
    · exact (h.2.2.1 3 (by omega)).1
    · exact h.2.2.2.2.2.2
theorem zo_rs_m (h : zo_CZ d) (f : zo_Fin d) {x : Nat} (hx : x = 1 ∨ x = 2) (p' : Nat → Int) :
    zo_M (zo_rs d x) p' ↔ ∃ p, zo_M d p ∧ p' x = 0 ∧ ∀ i, i < 4 → i ≠ x → p' i = p i := by
  have d00 := h.1 0 (by omega)
  constructor
  · intro m
    have a := m.2 x 0 (by omega) (by omega)
    have c := m.2 0 x (by omega) (by omega)
    have e1 : zo_rs d x x 0 = d 0 0 := by
      show d (if x = x then 0 else x) (if 0 = x then 0 else 0) = d 0 0
      rw [if_pos rfl, if_neg (by omega)]
    have e2 : zo_rs d x 0 x = d 0 0 := by
      show d (if 0 = x then 0 else 0) (if x = x then 0 else x) = d 0 0
      rw [if_pos rfl, if_neg (by omega)]
    have m0 := m.1
    have px : p' x = 0 := by omega
    obtain ⟨p, e, hp, _⟩ := zo_ext h.1 (fun i j k hi hj hk => zo_tri h f hi hj hk) (fun a => a ≠ x) ⟨0, by omega, by omega⟩ p' (by
      intro i j hi hj ni nj
      have e3 : zo_rs d x i j = d i j := by
        show d (if i = x then 0 else i) (if j = x then 0 else j) = d i j
        rw [if_neg ni, if_neg nj]
      have := m.2 i j hi hj (by have := zo_20 h f hi hj; omega)
      omega)
    refine ⟨p, ⟨?_, fun i j hi hj _ => hp i j hi hj⟩, px, fun i _ ni => (e i ni).symm⟩
    rw [e 0 (by omega)]; exact m0
  · intro ⟨p, m, px, e⟩
    have p0 : p' 0 = 0 := by rw [e 0 (by omega) (by omega)]; exact m.1
    have key : ∀ i, i < 4 → p' i = p (if i = x then 0 else i) := by
      intro i hi
      by_cases q : i = x
      · rw [if_pos q, q, px, m.1]
      · rw [if_neg q]; exact e i hi q
    refine ⟨p0, fun i j hi hj hf => ?_⟩
    rw [key i hi, key j hj]
    exact m.2 _ _ (zo_ri hi) (zo_ri hj) hf
/-! waiting -/
def zo_el (d : Nat → Nat → Int) (i j : Nat) : Int := if j = 0 ∧ i ≠ 0 then 1000 else d i j
theorem zo_el_cz (h : zo_CZ d) (f : zo_Fin d) : zo_CZ (zo_el d) := by
  refine ⟨fun i hi => ?_, fun i j k hi hj hk a b => ?_, fun j hj => ?_, fun i j hi hj hz => ?_, fun i hi => ?_, ?_, ?_⟩
  · unfold zo_el; rw [if_neg (by omega)]; exact h.1 i hi
  · have t := zo_tri h f hi hj hk
    unfold zo_el at a b ⊢
    by_cases c1 : k = 0 ∧ i ≠ 0
    · rw [if_pos c1] at a; omega
    · by_cases c2 : j = 0 ∧ k ≠ 0
      · rw [if_pos c2] at b; omega
      · rw [if_neg c1, if_neg c2, if_neg (by omega)]; exact t
  · unfold zo_el; rw [if_neg (by omega)]; exact h.2.2.1 j hj
  · unfold zo_el; rw [if_neg (by omega)]; exact h.2.2.2.1 i j hi hj hz
  · unfold zo_el
    split
    · exact Or.inr rfl
    · exact h.2.2.2.2.1 i hi
  · exact h.2.2.2.2.2.1
  · exact h.2.2.2.2.2.2
def zo_bk (p : Nat → Int) (t : Int) : Nat → Int := fun i => if i = 0 then 0 else p i - t
theorem zo_el_m (h : zo_CZ d) (f : zo_Fin d) (p : Nat → Int) : zo_M (zo_el d) p ↔ p 0 = 0 ∧ ∃ t : Int, 0 ≤ t ∧ zo_M d (zo_bk p t) := by
  have en : ∀ i j, (j ≠ 0 ∨ i = 0) → zo_el d i j = d i j := fun i j q => if_neg (by omega)
  constructor
  · intro m
    obtain ⟨p', e, hp, hn⟩ := zo_ext h.1 (fun i j k hi hj hk => zo_tri h f hi hj hk) (fun a => a ≠ 0) ⟨1, by omega, by omega⟩ p (by
      intro i j hi hj ni nj
      have := m.2 i j hi hj (by rw [en i j (Or.inl nj)]; have := zo_20 h f hi hj; omega)
      rw [en i j (Or.inl nj)] at this
      exact this)
    obtain ⟨a, ha, na, e0⟩ := hn 0 (by omega) (by omega)
    have q := m.2 0 a (by omega) ha (by rw [en 0 a (Or.inr rfl)]; have := zo_20 h f (by omega : 0 < 4) ha; omega)
    rw [en 0 a (Or.inr rfl)] at q
    have m0 := m.1
    refine ⟨m0, p' 0, by omega, ⟨if_pos rfl, fun i j hi hj _ => ?_⟩⟩
    have v : ∀ i, zo_bk p (p' 0) i = p' i - p' 0 := by
      intro i
      by_cases z : i = 0
      · subst z; show (if 0 = 0 then (0 : Int) else p 0 - p' 0) = p' 0 - p' 0
        rw [if_pos rfl]; omega
      · show (if i = 0 then (0 : Int) else p i - p' 0) = p' i - p' 0
        rw [if_neg z, e i z]
    rw [v i, v j]
    have := hp i j hi hj
    omega
  · intro ⟨p0, t, ht, m⟩
    refine ⟨p0, fun i j hi hj hf => ?_⟩
    by_cases q : j = 0 ∧ i ≠ 0
    · unfold zo_el at hf; rw [if_pos q] at hf; omega
    · have e := en i j (by omega)
      rw [e] at hf ⊢
      have := m.2 i j hi hj hf
      have vi : zo_bk p t i = if i = 0 then 0 else p i - t := rfl
      have vj : zo_bk p t j = if j = 0 then 0 else p j - t := rfl
      rw [vi, vj] at this
      by_cases zi : i = 0 <;> by_cases zj : j = 0
      · rw [if_pos zi, if_pos zj] at this; rw [zi, zj, p0]; rw [zi, zj] at this; omega
      · rw [if_pos zi, if_neg zj] at this; rw [zi, p0]; rw [zi] at this; omega
      · omega
      · rw [if_neg zi, if_neg zj] at this; omega
end
end
section
/-! widening: pure -/
def zo_mo (i : Nat) : Int := if i = 0 then 0 else if i = 3 then 20 else 6
def zo_w0 (d : Nat → Nat → Int) (i j : Nat) : Int := if i ≠ j ∧ 0 < i ∧ zo_mo i < d i j then 1000 else d i j
def zo_w1 (d : Nat → Nat → Int) (i j : Nat) : Int := if i ≠ j ∧ zo_w0 d i j < -1 - zo_mo j then -1 - zo_mo j else zo_w0 d i j
def zo_sh (d : Nat → Nat → Int) (w i j : Nat) : Int := if zo_sm (d i w) (d w j) < d i j then zo_sm (d i w) (d w j) else d i j
theorem zo_mo_r (i : Nat) : 0 ≤ zo_mo i ∧ zo_mo i ≤ 20 := by
  unfold zo_mo; split
  · omega
  · split <;> omega
section
variable {d : Nat → Nat → Int}
theorem zo_w1_ii (i : Nat) : zo_w1 d i i = d i i := by
  unfold zo_w1 zo_w0; rw [if_neg (c := i ≠ i ∧ 0 < i ∧ zo_mo i < d i i) (by omega), if_neg (by omega)]
theorem zo_w1_c (i j : Nat) (hd : d i j ≤ 20) : (zo_w1 d i j = 1000 ∧ 0 < i ∧ zo_mo i < d i j) ∨ (zo_w1 d i j = -1 - zo_mo j ∧ d i j < -1 - zo_mo j ∧ i ≠ j) ∨ (zo_w1 d i j = d i j ∧ (i = j ∨ -1 - zo_mo j ≤ d i j) ∧ (i = j ∨ i = 0 ∨ d i j ≤ zo_mo i)) := by
  have m := zo_mo_r j
  have m' := zo_mo_r i
  unfold zo_w1 zo_w0
  by_cases c : i ≠ j ∧ 0 < i ∧ zo_mo i < d i j
  · rw [if_pos c, if_neg (by omega)]; exact Or.inl ⟨rfl, c.2.1, c.2.2⟩
  · rw [if_neg c]
    by_cases c2 : i ≠ j ∧ d i j < -1 - zo_mo j
    · rw [if_pos c2]; exact Or.inr (Or.inl ⟨rfl, c2.2, c2.1⟩)
    · rw [if_neg c2]; exact Or.inr (Or.inr ⟨rfl, by omega, by omega⟩)
theorem zo_w1_r (h : zo_CZ d) (f : zo_Fin d) {i j : Nat} (hi : i < 4) (hj : j < 4) : d i j ≤ zo_w1 d i j ∧ (zo_w1 d i j ≤ 20 ∨ zo_w1 d i j = 1000) ∧ -40 ≤ zo_w1 d i j := by
  have a := zo_20 h f hi hj
  have b := zo_lo h hi hj
  have m := zo_mo_r j
  have c := zo_w1_c (d := d) i j a
  omega
theorem zo_w1_sub (h : zo_CZ d) (f : zo_Fin d) {p : Nat → Int} (m : zo_M d p) : zo_M (zo_w1 d) p := by
  refine ⟨m.1, fun i j hi hj hf => ?_⟩
  have a := zo_w1_r h f hi hj
  have b := zo_20 h f hi hj
  have := m.2 i j hi hj (by omega)
  omega
theorem zo_pos (h : zo_CZ d) {p : Nat → Int} (m : zo_M d p) {i : Nat} (hi : i < 4) : 0 ≤ p i := by
  have a := h.2.2.1 i hi
  have := m.2 0 i (by omega) hi (by omega)
  have := m.1
  omega
theorem zo_top (f : zo_Fin d) {p : Nat → Int} (m : zo_M d p) {i : Nat} (hi : i < 4) : p i ≤ 20 := by
  have a := f i hi
  have := m.2 i 0 hi (by omega) (by omega)
  have := m.1
  omega
theorem zo_w1_0 (h : zo_CZ d) (f : zo_Fin d) {j : Nat} (hj : j < 4) : zo_w1 d 0 j ≤ 0 := by
  have a := h.2.2.1 j hj
  have m := zo_mo_r j
  have c := zo_w1_c (d := d) 0 j (by omega)
  omega
theorem zo_w1_30 (h : zo_CZ d) (f : zo_Fin d) : zo_w1 d 3 0 ≤ 20 := by
  have a := f 3 (by omega)
  have m : zo_mo 3 = 20 := rfl
  have m0 := zo_mo_r 0
  have c := zo_w1_c (d := d) 3 0 a
  omega
theorem zo_w1_i3 {i : Nat} (hd : d i 3 ≤ 0) : zo_w1 d i 3 ≤ 0 := by
  have m := zo_mo_r i
  have m0 := zo_mo_r 3
  have c := zo_w1_c (d := d) i 3 (by omega)
  omega
/-- a point of the widened zone has one beside it in the zone: the same up to what is asked -/
theorem zo_w1_cap (h : zo_CZ d) (f : zo_Fin d) {p : Nat → Int} (m : zo_M (zo_w1 d) p) :
    ∃ p', zo_M d p' ∧ ∀ i, i < 4 → (p i ≤ zo_mo i → p' i = p i) ∧ (zo_mo i < p i → zo_mo i < p' i) := by
  have pz : ∀ i, i < 4 → 0 ≤ p i := by
    intro i hi
    have a := zo_w1_0 h f hi
    have := m.2 0 i (by omega) hi (by omega)
    have := m.1
    omega
  have m0 := m.1
  have mo0 : zo_mo 0 = 0 := rfl
  obtain ⟨p', e, hp, hn⟩ := zo_ext h.1 (fun i j k hi hj hk => zo_tri h f hi hj hk) (fun a => p a ≤ zo_mo a) ⟨0, by omega, by omega⟩ p (by
    intro i j hi hj ai aj
    have c := zo_w1_c (d := d) i j (zo_20 h f hi hj)
    have a := zo_w1_r h f hi hj
    have q := m.2 i j hi hj
    have zi := pz i hi
    have zj := pz j hj
    rcases c with c | c | c
    · omega
    · have := q (by omega); omega
    · have := zo_20 h f hi hj
      have := q (by omega); omega)
  refine ⟨p', ⟨by rw [e 0 (by omega)]; exact m0, fun i j hi hj _ => hp i j hi hj⟩, fun i hi => ⟨fun q => e i q, fun q => ?_⟩⟩
  obtain ⟨a, ha, ca, ea⟩ := hn i hi (by omega)
  have c := zo_w1_c (d := d) i a (zo_20 h f hi ha)
  have za := pz a ha
  have qm := m.2 i a hi ha
  have zi : i ≠ a := fun z => by subst z; omega
  rcases c with c | c | c
  · omega
  · have := zo_mo_r a
    have := qm (by omega)
    have := pz i hi
    omega
  · have := zo_20 h f hi ha
    have := qm (by omega)
    omega
/-! shortening: one way at a time -/
/-- after the ways below w: bounds at most B or none, no gain over a way below w, and p a point -/
def zo_FW (d : Nat → Nat → Int) (w : Nat) (B : Int) (p : Nat → Int) : Prop :=
  (∀ i, i < 4 → d i i = 0) ∧ (∀ i j, i < 4 → j < 4 → (d i j ≤ B ∨ d i j = 1000) ∧ -B ≤ d i j) ∧
  (∀ i j k, i < 4 → j < 4 → k < w → d i k < 1000 → d k j < 1000 → d i j ≤ d i k + d k j) ∧ zo_M d p
theorem zo_sh1 (d : Nat → Nat → Int) (w i j : Nat) : zo_sh d w i j ≤ d i j := by
  unfold zo_sh; split <;> omega
theorem zo_sh2 {w i j : Nat} (h1 : d i w < 1000) (h2 : d w j < 1000) : zo_sh d w i j ≤ d i w + d w j := by
  unfold zo_sh zo_sm
  rw [if_neg (c := 1000 ≤ d i w ∨ 1000 ≤ d w j) (by omega)]
  split <;> omega
theorem zo_sh3 {w i j : Nat} (h : d i j ≤ 1000) : zo_sh d w i j = d i j ∨ (d i w < 1000 ∧ d w j < 1000 ∧ zo_sh d w i j = d i w + d w j) := by
  unfold zo_sh zo_sm
  by_cases c : 1000 ≤ d i w ∨ 1000 ≤ d w j
  · rw [if_pos c, if_neg (by omega)]; exact Or.inl rfl
  · rw [if_neg c]
    split
    · exact Or.inr ⟨by omega, by omega, rfl⟩
    · exact Or.inl rfl
theorem zo_sh_c {w : Nat} {B : Int} {p : Nat → Int} (F : zo_FW d w B p) (hB : B ≤ 400) (hw : w < 4) {x : Nat} (hx : x < 4) : zo_sh d w x w = d x w := by
  have a := F.1 w hw
  have b := (F.2.1 x w hx hw).1
  have c := zo_sh3 (d := d) (w := w) (i := x) (j := w) (by omega)
  omega
theorem zo_sh_r {w : Nat} {B : Int} {p : Nat → Int} (F : zo_FW d w B p) (hB : B ≤ 400) (hw : w < 4) {y : Nat} (hy : y < 4) : zo_sh d w w y = d w y := by
  have a := F.1 w hw
  have b := (F.2.1 w y hw hy).1
  have c := zo_sh3 (d := d) (w := w) (i := w) (j := y) (by omega)
  omega
theorem zo_sh_m {w : Nat} (hw : w < 4) (hd : ∀ i j, i < 4 → j < 4 → d i j ≤ 1000) (p : Nat → Int) : zo_M (zo_sh d w) p ↔ zo_M d p := by
  constructor
  · intro m
    refine ⟨m.1, fun i j hi hj hf => ?_⟩
    have l := zo_sh1 d w i j
    have := m.2 i j hi hj (by omega)
    omega
  · intro m
    refine ⟨m.1, fun i j hi hj hf => ?_⟩
    rcases zo_sh3 (d := d) (w := w) (i := i) (j := j) (hd i j hi hj) with e | ⟨a, b, e⟩
    · have := m.2 i j hi hj (by omega); omega
    · have := m.2 i w hi hw a
      have := m.2 w j hw hj b
      omega
theorem zo_sh_FW {w : Nat} {B : Int} {p : Nat → Int} (F : zo_FW d w B p) (hB : B ≤ 400) (h0 : 0 ≤ B) (hw : w < 4) : zo_FW (zo_sh d w) (w + 1) (2 * B) p := by
  have le : ∀ i j, i < 4 → j < 4 → d i j ≤ 1000 := fun i j hi hj => by
    have := (F.2.1 i j hi hj).1
    omega
  have m := (zo_sh_m (d := d) hw le p).mpr F.2.2.2
  have cc : ∀ {x : Nat}, x < 4 → zo_sh d w x w = d x w := fun hx => zo_sh_c F hB hw hx
  have rr : ∀ {y : Nat}, y < 4 → zo_sh d w w y = d w y := fun hy => zo_sh_r F hB hw hy
  refine ⟨fun i hi => ?_, fun i j hi hj => ?_, fun i j k hi hj hk f1 f2 => ?_, m⟩
  · have a := F.1 i hi
    have l := zo_sh1 d w i i
    have := m.2 i i hi hi (by omega)
    omega
  · have l := zo_sh1 d w i j
    have a := F.2.1 i j hi hj
    have b := F.2.1 i w hi hw
    have c := F.2.1 w j hw hj
    rcases zo_sh3 (d := d) (w := w) (i := i) (j := j) (le i j hi hj) with e | ⟨q1, q2, e⟩ <;> omega
  · have l := zo_sh1 d w i j
    by_cases kw : k = w
    · subst kw
      rw [cc hi] at f1 ⊢
      rw [rr hj] at f2 ⊢
      exact zo_sh2 f1 f2
    · have hk' : k < w := by omega
      have hk4 : k < 4 := by omega
      have T := F.2.2.1
      rcases zo_sh3 (d := d) (w := w) (i := i) (j := k) (le i k hi hk4) with e1 | ⟨a1, b1, e1⟩ <;> rcases zo_sh3 (d := d) (w := w) (i := k) (j := j) (le k j hk4 hj) with e2 | ⟨a2, b2, e2⟩
      · have := T i j k hi hj hk' (by omega) (by omega)
        omega
      · have t := T i w k hi hw hk' (by omega) a2
        have := (F.2.1 i k hi hk4).1
        have := (F.2.1 k w hk4 hw).1
        have := zo_sh2 (d := d) (w := w) (i := i) (j := j) (by omega) b2
        omega
      · have t := T w j k hw hj hk' b1 (by omega)
        have := (F.2.1 w k hw hk4).1
        have := (F.2.1 k j hk4 hj).1
        have := zo_sh2 (d := d) (w := w) (i := i) (j := j) a1 (by omega)
        omega
      · have t := T w w k hw hw hk' b1 a2
        have z := F.1 w hw
        have := zo_sh2 (d := d) (w := w) (i := i) (j := j) a1 b2
        omega
theorem zo_w1_FW (h : zo_CZ d) (f : zo_Fin d) {p : Nat → Int} (m : zo_M d p) : zo_FW (zo_w1 d) 0 40 p := by
  refine ⟨fun i hi => by rw [zo_w1_ii]; exact h.1 i hi, fun i j hi hj => ?_, fun i j k hi hj hk => by omega, zo_w1_sub h f m⟩
  have := zo_w1_r h f hi hj
  omega
end
def zo_wd (d : Nat → Nat → Int) : Nat → Nat → Int := zo_sh (zo_sh (zo_sh (zo_sh (zo_w1 d) 0) 1) 2) 3
section
variable {d : Nat → Nat → Int}
theorem zo_sh_B {w : Nat} {B B' : Int} {p : Nat → Int} (F : zo_FW d w B p) (hB : B ≤ B') : zo_FW d w B' p :=
  ⟨F.1, fun i j hi hj => by have := F.2.1 i j hi hj; omega, F.2.2.1, F.2.2.2⟩
theorem zo_le_of {w : Nat} {B : Int} {p : Nat → Int} (F : zo_FW d w B p) (hB : B ≤ 1000) : ∀ i j, i < 4 → j < 4 → d i j ≤ 1000 := fun i j hi hj => by
  have := (F.2.1 i j hi hj).1
  omega
end
section
variable {d : Nat → Nat → Int}
theorem zo_wd_ok (h : zo_CZ d) (f : zo_Fin d) : zo_CZ (zo_wd d) ∧ zo_Fin (zo_wd d) ∧ (∀ p, zo_M d p → zo_M (zo_wd d) p) ∧
    (∀ p, zo_M (zo_wd d) p → ∃ p', zo_M d p' ∧ ∀ i, i < 4 → (p i ≤ zo_mo i → p' i = p i) ∧ (zo_mo i < p i → zo_mo i < p' i)) := by
  obtain ⟨p, m, _⟩ := zo_tight h f (i := 0) (j := 0) (by omega) (by omega)
  have F0 := zo_w1_FW h f m
  have F1 := zo_sh_FW F0 (by omega) (by omega) (by omega)
  have F2 := zo_sh_FW F1 (by omega) (by omega) (by omega)
  have F3 := zo_sh_FW F2 (by omega) (by omega) (by omega)
  have M0 := fun p => zo_sh_m (w := 0) (by omega) (zo_le_of F0 (by omega)) p
  have M1 := fun p => zo_sh_m (w := 1) (by omega) (zo_le_of F1 (by omega)) p
  have M2 := fun p => zo_sh_m (w := 2) (by omega) (zo_le_of F2 (by omega)) p
  have M3 := fun p => zo_sh_m (w := 3) (by omega) (zo_le_of F3 (by omega)) p
  have MM : ∀ p, zo_M (zo_wd d) p ↔ zo_M (zo_w1 d) p := fun p => (M3 p).trans ((M2 p).trans ((M1 p).trans (M0 p)))
  have LE : ∀ i j, zo_wd d i j ≤ zo_w1 d i j := fun i j => by
    have a := zo_sh1 (zo_w1 d) 0 i j
    have b := zo_sh1 (zo_sh (zo_w1 d) 0) 1 i j
    have c := zo_sh1 (zo_sh (zo_sh (zo_w1 d) 0) 1) 2 i j
    have e := zo_sh1 (zo_sh (zo_sh (zo_sh (zo_w1 d) 0) 1) 2) 3 i j
    unfold zo_wd
    omega
  have F4 : zo_FW (zo_wd d) 4 (2 * (2 * (2 * (2 * 40)))) p := zo_sh_FW F3 (by omega) (by omega) (by omega)
  have T : zo_T (zo_wd d) := fun i j k hi hj hk => F4.2.2.1 i j k hi hj hk
  have r0 : ∀ j, j < 4 → zo_wd d 0 j ≤ 0 := fun j hj => by
    have := LE 0 j
    have := zo_w1_0 h f hj
    omega
  have c3 : ∀ i, i < 4 → zo_wd d i 3 ≤ 0 := fun i hi => by
    have l := LE i 3
    have : d i 3 ≤ 0 := by
      rcases (by omega : i = 0 ∨ i = 1 ∨ i = 2 ∨ i = 3) with e | e | e | e
      · subst e; exact (h.2.2.1 3 (by omega)).1
      · subst e; exact h.2.2.2.2.2.1
      · subst e; exact h.2.2.2.2.2.2
      · subst e; have := h.1 3 (by omega); omega
    have := zo_w1_i3 (d := d) (i := i) this
    omega
  have fin : zo_Fin (zo_wd d) := fun i hi => by
    have a := c3 i hi
    have b := LE 3 0
    have c := zo_w1_30 h f
    have := T i 0 3 hi (by omega) (by omega) (by omega) (by omega)
    omega
  refine ⟨⟨F4.1, T, fun j hj => ⟨r0 j hj, ?_⟩, fun i j hi hj _ => ?_, fun i hi => ?_, c3 1 (by omega), c3 2 (by omega)⟩, fin, fun q mq => (MM q).mpr (zo_w1_sub h f mq), fun q mq => zo_w1_cap h f ((MM q).mp mq)⟩
  · have a := zo_top f m hj
    have b := r0 j hj
    have := F4.2.2.2.2 0 j (by omega) hj (by omega)
    have := m.1
    omega
  · have a := fin i hi
    have b := r0 j hj
    have := T i j 0 hi hj (by omega) (by omega) (by omega)
    omega
  · have := fin i hi
    omega
end
end
section
/-! the configuration: edges, bounds, urgent places; and what is to be found: pure -/
abbrev Cf_t : Type := Nat × (Nat → Nat) × (Nat → Nat) × (Nat → Nat) × (Nat → Nat) × (Nat → Nat) × (Nat → Nat) × (Nat → Nat) × (Nat → Nat) × (Nat → Nat)
def cf_n (c : Cf_t) : Nat := c.1
def cf_pr (c : Cf_t) : Nat → Nat := c.2.1
def cf_fr (c : Cf_t) : Nat → Nat := c.2.2.1
def cf_to (c : Cf_t) : Nat → Nat := c.2.2.2.1
def cf_rs (c : Cf_t) : Nat → Nat := c.2.2.2.2.1
def cf_sg (c : Cf_t) : Nat → Nat := c.2.2.2.2.2.1
def cf_le (c : Cf_t) : Nat → Nat := c.2.2.2.2.2.2.1
def cf_gr (c : Cf_t) : Nat → Nat := c.2.2.2.2.2.2.2.1
def cf_bd (c : Cf_t) : Nat → Nat := c.2.2.2.2.2.2.2.2.1
def cf_hu (c : Cf_t) : Nat → Nat := c.2.2.2.2.2.2.2.2.2
def ar_f (f : Nat → Nat) : Nat → Int32 := fun k => nI (f k)
def cf_ok (c : Cf_t) : Prop := cf_n c ≤ 12 ∧ (∀ k, cf_pr c k < 2) ∧ (∀ k, cf_fr c k < 4) ∧ (∀ k, cf_to c k < 4) ∧ (∀ k, cf_rs c k < 4) ∧ (∀ k, cf_sg c k < 5) ∧ (∀ k, cf_le c k < 7) ∧ (∀ k, cf_gr c k < 8) ∧ (∀ k, cf_bd c k < 8) ∧ (∀ k, cf_hu c k < 2)
theorem cf_on {c : Cf_t} (h : cf_ok c) : cf_n c ≤ 12 := h.1
theorem cf_opr {c : Cf_t} (h : cf_ok c) (k : Nat) : cf_pr c k < 2 := h.2.1 k
theorem cf_ofr {c : Cf_t} (h : cf_ok c) (k : Nat) : cf_fr c k < 4 := h.2.2.1 k
theorem cf_oto {c : Cf_t} (h : cf_ok c) (k : Nat) : cf_to c k < 4 := h.2.2.2.1 k
theorem cf_ors {c : Cf_t} (h : cf_ok c) (k : Nat) : cf_rs c k < 4 := h.2.2.2.2.1 k
theorem cf_osg {c : Cf_t} (h : cf_ok c) (k : Nat) : cf_sg c k < 5 := h.2.2.2.2.2.1 k
theorem cf_ole {c : Cf_t} (h : cf_ok c) (k : Nat) : cf_le c k < 7 := h.2.2.2.2.2.2.1 k
theorem cf_ogr {c : Cf_t} (h : cf_ok c) (k : Nat) : cf_gr c k < 8 := h.2.2.2.2.2.2.2.1 k
theorem cf_obd {c : Cf_t} (h : cf_ok c) (k : Nat) : cf_bd c k < 8 := h.2.2.2.2.2.2.2.2.1 k
theorem cf_ohu {c : Cf_t} (h : cf_ok c) (k : Nat) : cf_hu c k < 2 := h.2.2.2.2.2.2.2.2.2 k
/-- a clock's value has what an edge asks -/
def sp_g1 (c : Cf_t) (k v : Nat) : Prop := cf_le c k ≤ v ∧ (cf_gr c k = 7 ∨ v ≤ cf_gr c k)
def sp_grd (c : Cf_t) (e x y : Nat) : Prop := sp_g1 c (2 * e) x ∧ sp_g1 c (2 * e + 1) y
def sp_loc (q p : Nat) : Nat := if p = 0 then q % 4 else q / 4
def sp_led (c : Cf_t) (e q : Nat) : Prop := cf_fr c e = sp_loc q (cf_pr c e)
def sp_aft (c : Cf_t) (e q : Nat) : Nat := if cf_pr c e = 0 then q / 4 * 4 + cf_to c e else q % 4 + 4 * cf_to c e
def sp_bnd (c : Cf_t) (q k : Nat) : Nat := if cf_bd c (2 * (4 + q / 4) + k) ≤ cf_bd c (2 * (q % 4) + k) then cf_bd c (2 * (4 + q / 4) + k) else cf_bd c (2 * (q % 4) + k)
def sp_in (c : Cf_t) (q x y : Nat) : Prop := x ≤ sp_bnd c q 0 ∧ y ≤ sp_bnd c q 1
def sp_hur (c : Cf_t) (q : Nat) : Prop := ¬ (cf_hu c (q % 4) = 0 ∧ cf_hu c (4 + q / 4) = 0)
def sp_prt (c : Cf_t) (e f : Nat) : Prop := cf_pr c e = 0 ∧ cf_pr c f = 1 ∧ 0 < cf_sg c e ∧ 0 < cf_sg c f ∧ (cf_sg c f = cf_sg c e + 2 ∨ cf_sg c e = cf_sg c f + 2)
/-- edges e and f can go together (e = f: alone) -/
def sp_en (c : Cf_t) (e f q x y : Nat) : Prop := sp_led c e q ∧ sp_led c f q ∧ sp_grd c e x y ∧ sp_grd c f x y ∧ ((e = f ∧ cf_sg c e = 0) ∨ sp_prt c e f)
def sp_set (c : Cf_t) (e f : Nat) : Nat := cf_rs c e ||| cf_rs c f
def sp_tq (c : Cf_t) (e f q : Nat) : Nat := sp_aft c f (sp_aft c e q)
def sp_tx (c : Cf_t) (e f x : Nat) : Nat := if sp_set c e f % 2 = 1 then 0 else x
def sp_ty (c : Cf_t) (e f y : Nat) : Nat := if sp_set c e f / 2 = 1 then 0 else y
def sp_7 (x : Nat) : Nat := if x < 7 then x + 1 else 7
def sp_ti (c : Cf_t) (e f q x y : Nat) : Prop := sp_in c (sp_tq c e f q) (sp_tx c e f x) (sp_ty c e f y)
def sp_Cl (c : Cf_t) (S : Nat → Nat → Nat → Nat → Prop) : Prop :=
  S 0 0 0 0 ∧ (∀ q x y t e f, S q x y t → e < cf_n c → f < cf_n c → sp_en c e f q x y → sp_ti c e f q x y → S (sp_tq c e f q) (sp_tx c e f x) (sp_ty c e f y) t) ∧
  (∀ q x y t, S q x y t → ¬ sp_hur c q → t < 20 → sp_in c q (sp_7 x) (sp_7 y) → S q (sp_7 x) (sp_7 y) (t + 1))
/-- pair q with clocks x, y (7: above 6) comes about at time t -/
def sp_R (c : Cf_t) (q x y t : Nat) : Prop := ∀ S, sp_Cl c S → S q x y t
def sp_U (c : Cf_t) (e t : Nat) : Prop := ∃ q x y f, sp_R c q x y t ∧ e < cf_n c ∧ f < cf_n c ∧ ((sp_en c e f q x y ∧ sp_ti c e f q x y) ∨ (sp_en c f e q x y ∧ sp_ti c f e q x y))
theorem sp_R0 (c : Cf_t) : sp_R c 0 0 0 0 := fun _ h => h.1
theorem sp_Rm {c : Cf_t} {q x y t e f : Nat} (h : sp_R c q x y t) (he : e < cf_n c) (hf : f < cf_n c) (en : sp_en c e f q x y) (ti : sp_ti c e f q x y) : sp_R c (sp_tq c e f q) (sp_tx c e f x) (sp_ty c e f y) t :=
  fun S hS => hS.2.1 q x y t e f (h S hS) he hf en ti
theorem sp_Rw {c : Cf_t} {q x y t : Nat} (h : sp_R c q x y t) (hu : ¬ sp_hur c q) (ht : t < 20) (hi : sp_in c q (sp_7 x) (sp_7 y)) : sp_R c q (sp_7 x) (sp_7 y) (t + 1) :=
  fun S hS => hS.2.2 q x y t (h S hS) hu ht hi
theorem sp_aft_r {c : Cf_t} (h : cf_ok c) (e : Nat) {q : Nat} (hq : q < 16) : sp_aft c e q < 16 := by
  have := cf_oto h e
  unfold sp_aft; split <;> omega
theorem sp_aft_i {c : Cf_t} (h : cf_ok c) (e q : Nat) : sp_aft c e (sp_aft c e q) = sp_aft c e q := by
  have := cf_oto h e
  unfold sp_aft; split <;> omega
theorem sp_bnd_r {c : Cf_t} (h : cf_ok c) (q k : Nat) : sp_bnd c q k ≤ 7 := by
  have a := cf_obd h (2 * (4 + q / 4) + k)
  have b := cf_obd h (2 * (q % 4) + k)
  unfold sp_bnd; split <;> omega
theorem sp_tq_r {c : Cf_t} (h : cf_ok c) (e f : Nat) {q : Nat} (hq : q < 16) : sp_tq c e f q < 16 := sp_aft_r h f (sp_aft_r h e hq)
theorem sp_tx_r {c : Cf_t} {e f x : Nat} (hx : x ≤ 7) : sp_tx c e f x ≤ 7 := by unfold sp_tx; split <;> omega
theorem sp_ty_r {c : Cf_t} {e f x : Nat} (hx : x ≤ 7) : sp_ty c e f x ≤ 7 := by unfold sp_ty; split <;> omega
theorem sp_7_r (x : Nat) : sp_7 x ≤ 7 := by unfold sp_7; split <;> omega
theorem sp_R_r {c : Cf_t} (h : cf_ok c) {q x y t : Nat} (r : sp_R c q x y t) : q < 16 ∧ x ≤ 7 ∧ y ≤ 7 ∧ t ≤ 20 := by
  refine r (fun q x y t => q < 16 ∧ x ≤ 7 ∧ y ≤ 7 ∧ t ≤ 20) ⟨by omega, fun q x y t e f a _ _ _ _ => ?_, fun q x y t a _ b _ => ?_⟩
  · exact ⟨sp_tq_r h e f a.1, sp_tx_r a.2.1, sp_ty_r a.2.2.1, a.2.2.2⟩
  · exact ⟨a.1, sp_7_r x, sp_7_r y, b⟩
theorem sp_U_r {c : Cf_t} (h : cf_ok c) {e t : Nat} (u : sp_U c e t) : t ≤ 20 := by
  obtain ⟨q, x, y, f, r, _⟩ := u
  exact (sp_R_r h r).2.2.2
def sp_L (P : Nat → Prop) (N v : Int) : Prop := (∀ t : Nat, P t → v ≤ (t : Int)) ∧ (v = N ∨ ∃ t : Nat, P t ∧ v = (t : Int))
def sp_G (P : Nat → Prop) (v : Int) : Prop := (∀ t : Nat, P t → (t : Int) ≤ v) ∧ (v = -1 ∨ ∃ t : Nat, P t ∧ v = (t : Int))
def sp_S (c : Cf_t) (q t : Nat) : Prop := ∃ x y, sp_R c q x y t
def sp_cv (k x y : Nat) : Nat := if k = 0 then x else y
def sp_V (c : Cf_t) (q k v : Nat) : Prop := ∃ x y t, sp_R c q x y t ∧ v = sp_cv k x y
/-- what X has found is right -/
def sp_X (c : Cf_t) (so fm lo hi : Nat → Int32) : Prop :=
  (∀ q, q < 16 → sp_L (sp_S c q) 1000 (so q).toInt) ∧ (∀ e, e < 12 → sp_L (sp_U c e) 1000 (fm e).toInt) ∧
  (∀ q k, q < 16 → k < 2 → sp_L (sp_V c q k) 1000 (lo (2 * q + k)).toInt ∧ sp_G (sp_V c q k) (hi (2 * q + k)).toInt)
def sp_Rs (c : Cf_t) (s t : Nat) : Prop := sp_R c (s / 64) (s / 8 % 8) (s % 8) t
/-- what Y has found is right -/
def sp_Y (c : Cf_t) (tm us : Nat → Nat) : Prop := (∀ s, s < 1024 → sp_L (sp_Rs c s) 21 (tm s)) ∧ (∀ e, e < 12 → sp_L (sp_U c e) 21 (us e))
theorem sp_L_u {P : Nat → Prop} {v w : Int} (hP : ∀ t, P t → t ≤ 20) (a : sp_L P 1000 v) (b : sp_L P 21 w) : (v < 1000 ↔ w < 21) ∧ (w < 21 → v = w) := by
  obtain ⟨a1, a2⟩ := a
  obtain ⟨b1, b2⟩ := b
  rcases a2 with a2 | ⟨s, hs, a2⟩ <;> rcases b2 with b2 | ⟨t, ht, b2⟩
  · omega
  · have := a1 t ht; have := hP t ht; omega
  · have := b1 s hs; have := hP s hs; omega
  · have := b1 s hs; have := a1 t ht; have := hP s hs; have := hP t ht; omega
end
section
/-! whole time steps: pure. A state b: the least times (21: none), the queue, its length, the uses of the edges -/
abbrev Bf_t : Type := (Nat → Nat) × (Nat → Nat) × Nat × (Nat → Nat)
def bf_up (f : Nat → Nat) (k v : Nat) : Nat → Nat := fun j => if j = k then v else f j
theorem bf_us {f : Nat → Nat} {k v : Nat} : bf_up f k v k = v := if_pos rfl
theorem bf_un {f : Nat → Nat} {k v j : Nat} (h : j ≠ k) : bf_up f k v j = f j := if_neg h
noncomputable def bf_if (P : Prop) {α : Type} (a b : α) : α := @ite α P (Classical.propDecidable P) a b
theorem bf_ift {P : Prop} {α : Type} {a b : α} (h : P) : bf_if P a b = a := by unfold bf_if; exact if_pos h
theorem bf_iff {P : Prop} {α : Type} {a b : α} (h : ¬ P) : bf_if P a b = b := by unfold bf_if; exact if_neg h
def bf_in (c : Cf_t) (s : Nat) : Prop := sp_in c (s / 64) (s / 8 % 8) (s % 8)
def bf_cell (q x y : Nat) : Nat := 64 * q + 8 * x + y
def bf_tg (c : Cf_t) (e f s : Nat) : Nat := bf_cell (sp_tq c e f (s / 64)) (sp_tx c e f (s / 8 % 8)) (sp_ty c e f (s % 8))
def bf_wt (s : Nat) : Nat := bf_cell (s / 64) (sp_7 (s / 8 % 8)) (sp_7 (s % 8))
theorem bf_cell_d {q x y : Nat} (hx : x ≤ 7) (hy : y ≤ 7) : bf_cell q x y / 64 = q ∧ bf_cell q x y / 8 % 8 = x ∧ bf_cell q x y % 8 = y := by
  unfold bf_cell; omega
theorem bf_cell_r {q x y : Nat} (hq : q < 16) (hx : x ≤ 7) (hy : y ≤ 7) : bf_cell q x y < 1024 := by
  unfold bf_cell; omega
theorem bf_cell_s (s : Nat) : bf_cell (s / 64) (s / 8 % 8) (s % 8) = s := by
  unfold bf_cell; omega
def bf_use (e t : Nat) (b : Bf_t) : Bf_t := (b.1, b.2.1, b.2.2.1, if t < b.2.2.2 e then bf_up b.2.2.2 e t else b.2.2.2)
def bf_meet (s t : Nat) (b : Bf_t) : Bf_t := if b.1 s < 21 then b else (bf_up b.1 s t, bf_up b.2.1 b.2.2.1 s, b.2.2.1 + 1, b.2.2.2)
noncomputable def bf_mv (c : Cf_t) (e f s : Nat) (b : Bf_t) : Bf_t := bf_if (bf_in c (bf_tg c e f s)) (bf_meet (bf_tg c e f s) (b.1 s) (bf_use f (b.1 s) (bf_use e (b.1 s) b))) b
def bf_op (c : Cf_t) (e s : Nat) : Prop := sp_led c e (s / 64) ∧ sp_grd c e (s / 8 % 8) (s % 8)
noncomputable def bf_f (c : Cf_t) (s e f : Nat) (b : Bf_t) : Bf_t := bf_if (sp_prt c e f ∧ bf_op c e s ∧ bf_op c f s) (bf_mv c e f s b) b
def bf_it (g : Nat → Bf_t → Bf_t) : Nat → Nat → Bf_t → Bf_t
  | 0, _, b => b
  | k + 1, i, b => bf_it g k (i + 1) (g i b)
noncomputable def bf_e0 (c : Cf_t) (s e : Nat) (b : Bf_t) : Bf_t := bf_if (cf_sg c e = 0 ∧ bf_op c e s) (bf_mv c e e s b) b
noncomputable def bf_e (c : Cf_t) (s e : Nat) (b : Bf_t) : Bf_t := bf_it (bf_f c s e) (cf_n c) 0 (bf_e0 c s e b)
noncomputable def bf_all (c : Cf_t) (s : Nat) (b : Bf_t) : Bf_t := bf_it (bf_e c s) (cf_n c) 0 b
noncomputable def bf_w (c : Cf_t) (s : Nat) (b : Bf_t) : Bf_t := bf_if (¬ sp_hur c (s / 64) ∧ bf_in c (bf_wt s)) (bf_meet (bf_wt s) (b.1 s + 1) b) b
theorem bf_it_id {g : Nat → Bf_t → Bf_t} (h : ∀ i b, g i b = b) : ∀ k i b, bf_it g k i b = b := by
  intro k
  induction k with
  | zero => intro i b; rfl
  | succ k ih => intro i b; show bf_it g k (i + 1) (g i b) = b; rw [h, ih]
theorem bf_e_n {c : Cf_t} {s e : Nat} {b : Bf_t} (h : ¬ bf_op c e s) : bf_e c s e b = b := by
  unfold bf_e bf_e0
  rw [bf_iff (fun z => h z.2), bf_it_id]
  intro i b
  exact bf_iff (fun z => h z.2.1)
/-! how many are not met -/
def bf_ct (f : Nat → Nat) : Nat → Nat
  | 0 => 0
  | n + 1 => bf_ct f n + if f n < 21 then 0 else 1
theorem bf_ct_le (f : Nat → Nat) : ∀ n, bf_ct f n ≤ n := by
  intro n
  induction n with
  | zero => exact Nat.le_refl 0
  | succ n ih => show bf_ct f n + (if f n < 21 then 0 else 1) ≤ n + 1; split <;> omega
theorem bf_ct_eq {f g : Nat → Nat} : ∀ n, (∀ i, i < n → f i = g i) → bf_ct f n = bf_ct g n := by
  intro n
  induction n with
  | zero => intro _; rfl
  | succ n ih =>
    intro h
    show bf_ct f n + (if f n < 21 then 0 else 1) = bf_ct g n + (if g n < 21 then 0 else 1)
    rw [ih (fun i hi => h i (by omega)), h n (by omega)]
theorem bf_ct_up {f : Nat → Nat} {s t : Nat} (hs : ¬ f s < 21) (ht : t < 21) : ∀ n, s < n → bf_ct (bf_up f s t) n + 1 = bf_ct f n := by
  intro n
  induction n with
  | zero => intro h; omega
  | succ n ih =>
    intro h
    show bf_ct (bf_up f s t) n + (if bf_up f s t n < 21 then 0 else 1) + 1 = bf_ct f n + (if f n < 21 then 0 else 1)
    by_cases e : s = n
    · subst e
      rw [bf_us, if_pos ht, if_neg hs, bf_ct_eq (g := f) s (fun i hi => bf_un (by omega))]
    · have := ih (by omega)
      rw [bf_un (fun z => e z.symm)]
      omega
theorem bf_ct_0 : ∀ n, bf_ct (fun _ => 21) n = n := by
  intro n
  induction n with
  | zero => rfl
  | succ n ih => show bf_ct (fun _ => 21) n + (if 21 < 21 then 0 else 1) = n + 1; rw [ih, if_neg (by omega)]
theorem bf_room {f : Nat → Nat} {s m : Nat} (hs : s < 1024) (h : ¬ f s < 21) (hm : m + bf_ct f 1024 = 1024) : m < 1024 := by
  have := bf_ct_up (t := 0) h (by omega) 1024 hs
  omega
theorem bf_use_i {e t : Nat} {b : Bf_t} : bf_use e t (bf_use e t b) = bf_use e t b := by
  unfold bf_use
  by_cases z : t < b.2.2.2 e
  · rw [if_pos z]
    show (b.1, b.2.1, b.2.2.1, if t < bf_up b.2.2.2 e t e then bf_up (bf_up b.2.2.2 e t) e t else bf_up b.2.2.2 e t) = _
    rw [bf_us, if_neg (by omega)]
  · rw [if_neg z]
    show (b.1, b.2.1, b.2.2.1, if t < b.2.2.2 e then bf_up b.2.2.2 e t else b.2.2.2) = _
    rw [if_neg z]
/-! the invariant of a time T -/
def bf_G (c : Cf_t) (T : Nat) (b : Bf_t) : Prop :=
  (∀ s, s < 1024 → b.1 s ≤ T ∨ b.1 s = 21) ∧ b.2.2.1 + bf_ct b.1 1024 = 1024 ∧
  (∀ i, i < b.2.2.1 → b.2.1 i < 1024 ∧ b.1 (b.2.1 i) < 21) ∧ (∀ s, s < 1024 → b.1 s < 21 → ∃ i, i < b.2.2.1 ∧ b.2.1 i = s) ∧
  (∀ e, e < 12 → b.2.2.2 e ≤ 21) ∧ (∀ s, s < 1024 → b.1 s < 21 → sp_Rs c s (b.1 s)) ∧ (∀ e, e < 12 → b.2.2.2 e < 21 → sp_U c e (b.2.2.2 e))
def bf_X (T : Nat) (b b' : Bf_t) : Prop :=
  (∀ s, s < 1024 → b.1 s < 21 → b'.1 s = b.1 s) ∧ b.2.2.1 ≤ b'.2.2.1 ∧ (∀ i, i < b.2.2.1 → b'.2.1 i = b.2.1 i) ∧
  (∀ i, b.2.2.1 ≤ i → i < b'.2.2.1 → b'.2.1 i < 1024 ∧ b'.1 (b'.2.1 i) = T) ∧ (∀ e, e < 12 → b'.2.2.2 e ≤ b.2.2.2 e)
theorem bf_X0 (T : Nat) (b : Bf_t) : bf_X T b b := ⟨fun _ _ _ => rfl, Nat.le_refl _, fun _ _ => rfl, fun i h1 h2 => by omega, fun _ _ => Nat.le_refl _⟩
theorem bf_Xt {T : Nat} {a b d : Bf_t} (hT : T < 21) (x : bf_X T a b) (y : bf_X T b d) : bf_X T a d := by
  refine ⟨fun s hs h => ?_, Nat.le_trans x.2.1 y.2.1, fun i hi => ?_, fun i h1 h2 => ?_, fun e he => Nat.le_trans (y.2.2.2.2 e he) (x.2.2.2.2 e he)⟩
  · have e := x.1 s hs h
    rw [y.1 s hs (by rw [e]; exact h), e]
  · rw [y.2.2.1 i (Nat.lt_of_lt_of_le hi x.2.1), x.2.2.1 i hi]
  · by_cases q : i < b.2.2.1
    · obtain ⟨r1, r2⟩ := x.2.2.2.1 i h1 q
      rw [y.2.2.1 i q]
      exact ⟨r1, by rw [y.1 _ r1 (by rw [r2]; exact hT)]; exact r2⟩
    · exact y.2.2.2.1 i (by omega) h2
section
variable {c : Cf_t} {T : Nat} {b : Bf_t}
theorem bf_meet_ok (G : bf_G c T b) (hT : T ≤ 20) {s : Nat} (hs : s < 1024) (r : sp_Rs c s T) : bf_G c T (bf_meet s T b) ∧ bf_X T b (bf_meet s T b) ∧ (bf_meet s T b).1 s ≤ T := by
  unfold bf_meet
  by_cases z : b.1 s < 21
  · rw [if_pos z]
    have := G.1 s hs
    exact ⟨G, bf_X0 T b, by omega⟩
  · rw [if_neg z]
    obtain ⟨g1, g2, g3, g4, g5, g6, g7⟩ := G
    have nq : ∀ i, i < b.2.2.1 → b.2.1 i ≠ s := fun i hi e => z (by rw [← e]; exact (g3 i hi).2)
    have ct := bf_ct_up z (by omega : T < 21) 1024 hs
    refine ⟨⟨fun x hx => ?_, ?_, fun i hi => ?_, fun x hx h => ?_, g5, fun x hx h => ?_, g7⟩, ⟨fun x hx h => ?_, Nat.le_succ _, fun i hi => ?_, fun i h1 h2 => ?_, fun _ _ => Nat.le_refl _⟩, ?_⟩
    · show bf_up b.1 s T x ≤ T ∨ bf_up b.1 s T x = 21
      by_cases q : x = s
      · subst q; rw [bf_us]; omega
      · rw [bf_un q]; exact g1 x hx
    · show b.2.2.1 + 1 + bf_ct (bf_up b.1 s T) 1024 = 1024
      omega
    · show bf_up b.2.1 b.2.2.1 s i < 1024 ∧ bf_up b.1 s T (bf_up b.2.1 b.2.2.1 s i) < 21
      by_cases q : i = b.2.2.1
      · rw [q, bf_us, bf_us]; omega
      · have hi' : i < b.2.2.1 := by have : i < b.2.2.1 + 1 := hi; omega
        rw [bf_un q, bf_un (nq i hi')]
        exact g3 i hi'
    · show ∃ i, i < b.2.2.1 + 1 ∧ bf_up b.2.1 b.2.2.1 s i = x
      by_cases q : x = s
      · exact ⟨b.2.2.1, by omega, by rw [bf_us, q]⟩
      · have h' : bf_up b.1 s T x < 21 := h
        rw [bf_un q] at h'
        obtain ⟨i, hi, e⟩ := g4 x hx h'
        exact ⟨i, by omega, by rw [bf_un (by omega)]; exact e⟩
    · show sp_Rs c x (bf_up b.1 s T x)
      by_cases q : x = s
      · rw [q, bf_us]; exact r
      · have h' : bf_up b.1 s T x < 21 := h
        rw [bf_un q] at h' ⊢
        exact g6 x hx h'
    · show bf_up b.1 s T x = b.1 x
      exact bf_un (fun e => z (by rw [← e]; exact h))
    · show bf_up b.2.1 b.2.2.1 s i = b.2.1 i
      exact bf_un (by omega)
    · show bf_up b.2.1 b.2.2.1 s i < 1024 ∧ bf_up b.1 s T (bf_up b.2.1 b.2.2.1 s i) = T
      have h2' : i < b.2.2.1 + 1 := h2
      have e : i = b.2.2.1 := by omega
      rw [e, bf_us, bf_us]
      exact ⟨hs, rfl⟩
    · show bf_up b.1 s T s ≤ T
      rw [bf_us]; exact Nat.le_refl _
theorem bf_use_ok (G : bf_G c T b) {e : Nat} (he : e < 12) {t : Nat} (ht : t ≤ 20) (u : sp_U c e t) : bf_G c T (bf_use e t b) ∧ bf_X T b (bf_use e t b) ∧ (bf_use e t b).2.2.2 e ≤ t := by
  obtain ⟨g1, g2, g3, g4, g5, g6, g7⟩ := G
  unfold bf_use
  by_cases z : t < b.2.2.2 e
  · rw [if_pos z]
    refine ⟨⟨g1, g2, g3, g4, fun x hx => ?_, g6, fun x hx h => ?_⟩, ⟨fun _ _ _ => rfl, Nat.le_refl _, fun _ _ => rfl, fun i h1 h2 => ?_, fun x hx => ?_⟩, ?_⟩
    · show bf_up b.2.2.2 e t x ≤ 21
      by_cases q : x = e
      · rw [q, bf_us]; omega
      · rw [bf_un q]; exact g5 x hx
    · show sp_U c x (bf_up b.2.2.2 e t x)
      by_cases q : x = e
      · rw [q, bf_us]; exact u
      · have h' : bf_up b.2.2.2 e t x < 21 := h
        rw [bf_un q] at h' ⊢
        exact g7 x hx h'
    · have h1' : b.2.2.1 ≤ i := h1
      have h2' : i < b.2.2.1 := h2
      omega
    · show bf_up b.2.2.2 e t x ≤ b.2.2.2 x
      by_cases q : x = e
      · rw [q, bf_us]; omega
      · rw [bf_un q]; exact Nat.le_refl _
    · show bf_up b.2.2.2 e t e ≤ t
      rw [bf_us]; exact Nat.le_refl _
  · rw [if_neg z]
    exact ⟨⟨g1, g2, g3, g4, g5, g6, g7⟩, bf_X0 T b, by show b.2.2.2 e ≤ t; omega⟩
end
/-- the moves by e and f from s are followed -/
def bf_K (c : Cf_t) (e f s : Nat) (b : Bf_t) : Prop := bf_in c (bf_tg c e f s) → b.1 (bf_tg c e f s) ≤ b.1 s ∧ b.2.2.2 e ≤ b.1 s ∧ b.2.2.2 f ≤ b.1 s
section
variable {c : Cf_t} {T : Nat} {b b' : Bf_t}
theorem bf_tg_r (h : cf_ok c) (e f : Nat) {s : Nat} (hs : s < 1024) : bf_tg c e f s < 1024 :=
  bf_cell_r (sp_tq_r h e f (by omega)) (sp_tx_r (by omega)) (sp_ty_r (by omega))
theorem bf_tg_d {e f s : Nat} : bf_tg c e f s / 64 = sp_tq c e f (s / 64) ∧ bf_tg c e f s / 8 % 8 = sp_tx c e f (s / 8 % 8) ∧ bf_tg c e f s % 8 = sp_ty c e f (s % 8) :=
  bf_cell_d (sp_tx_r (by omega)) (sp_ty_r (by omega))
theorem bf_wt_d {s : Nat} : bf_wt s / 64 = s / 64 ∧ bf_wt s / 8 % 8 = sp_7 (s / 8 % 8) ∧ bf_wt s % 8 = sp_7 (s % 8) :=
  bf_cell_d (sp_7_r _) (sp_7_r _)
theorem bf_wt_r {s : Nat} (hs : s < 1024) : bf_wt s < 1024 :=
  bf_cell_r (by omega) (sp_7_r _) (sp_7_r _)
theorem bf_K_X (h : cf_ok c) (x : bf_X T b b') {e f s : Nat} (he : e < cf_n c) (hf : f < cf_n c) (hs : s < 1024) (h1 : b.1 s < 21) (k : bf_K c e f s b) : bf_K c e f s b' := by
  intro i
  obtain ⟨k1, k2, k3⟩ := k i
  have n := cf_on h
  rw [x.1 s hs h1, x.1 _ (bf_tg_r h e f hs) (by omega)]
  have a := x.2.2.2.2 e (by omega)
  have d := x.2.2.2.2 f (by omega)
  omega
theorem bf_mv_ok (h : cf_ok c) (G : bf_G c T b) (hT : T ≤ 20) {e f s : Nat} (he : e < cf_n c) (hf : f < cf_n c) (hs : s < 1024) (bs : b.1 s = T) (en : sp_en c e f (s / 64) (s / 8 % 8) (s % 8)) :
    bf_G c T (bf_mv c e f s b) ∧ bf_X T b (bf_mv c e f s b) ∧ bf_K c e f s (bf_mv c e f s b) := by
  have n := cf_on h
  unfold bf_mv
  by_cases i : bf_in c (bf_tg c e f s)
  · rw [bf_ift i, bs]
    have r0 : sp_R c (s / 64) (s / 8 % 8) (s % 8) T := by
      have := G.2.2.2.2.2.1 s hs (by omega)
      rw [bs] at this
      exact this
    obtain ⟨d1, d2, d3⟩ := bf_tg_d (c := c) (e := e) (f := f) (s := s)
    have ti : sp_ti c e f (s / 64) (s / 8 % 8) (s % 8) := by
      have i' := i
      unfold bf_in at i'
      rw [d1, d2, d3] at i'
      exact i'
    have r : sp_Rs c (bf_tg c e f s) T := by
      unfold sp_Rs
      rw [d1, d2, d3]
      exact sp_Rm r0 he hf en ti
    obtain ⟨G1, X1, u1⟩ := bf_use_ok G (e := e) (by omega) hT ⟨_, _, _, f, r0, he, hf, Or.inl ⟨en, ti⟩⟩
    obtain ⟨G2, X2, u2⟩ := bf_use_ok G1 (e := f) (by omega) hT ⟨_, _, _, e, r0, hf, he, Or.inr ⟨en, ti⟩⟩
    obtain ⟨G3, X3, m3⟩ := bf_meet_ok G2 hT (bf_tg_r h e f hs) r
    have X13 := bf_Xt (by omega) X2 X3
    have X03 := bf_Xt (by omega) X1 X13
    refine ⟨G3, X03, fun _ => ?_⟩
    rw [X03.1 s hs (by omega), bs]
    have a := X13.2.2.2.2 e (by omega)
    have d := X3.2.2.2.2 f (by omega)
    exact ⟨m3, by omega, by omega⟩
  · rw [bf_iff i]
    exact ⟨G, bf_X0 T b, fun z => absurd z i⟩
/-- a run over the edges keeps what each step keeps and gains what each step gains -/
theorem bf_it_ok {g : Nat → Bf_t → Bf_t} {I : Bf_t → Prop} {P : Nat → Bf_t → Prop} {n T : Nat} (hT : T < 21) (hs : ∀ i b, i < n → I b → I (g i b) ∧ bf_X T b (g i b) ∧ P i (g i b))
    (hP : ∀ i b b', i < n → I b → bf_X T b b' → P i b → P i b') :
    ∀ k i b, i + k = n → I b → (∀ j, j < i → P j b) → I (bf_it g k i b) ∧ bf_X T b (bf_it g k i b) ∧ ∀ j, j < n → P j (bf_it g k i b) := by
  intro k
  induction k with
  | zero => intro i b e hI hp; exact ⟨hI, bf_X0 T b, fun j hj => hp j (by omega)⟩
  | succ k ih =>
    intro i b e hI hp
    obtain ⟨a1, a2, a3⟩ := hs i b (by omega) hI
    obtain ⟨b1, b2, b3⟩ := ih (i + 1) (g i b) (by omega) a1 (fun j hj => by
      by_cases q : j = i
      · rw [q]; exact a3
      · exact hP j b _ (by omega) hI a2 (hp j (by omega)))
    exact ⟨b1, bf_Xt hT a2 b2, b3⟩
theorem bf_f_ok (h : cf_ok c) (hT : T ≤ 20) {e f s : Nat} (he : e < cf_n c) (hf : f < cf_n c) (hs : s < 1024) (G : bf_G c T b) (bs : b.1 s = T) :
    (bf_G c T (bf_f c s e f b) ∧ (bf_f c s e f b).1 s = T) ∧ bf_X T b (bf_f c s e f b) ∧ (sp_prt c e f ∧ bf_op c e s ∧ bf_op c f s → bf_K c e f s (bf_f c s e f b)) := by
  unfold bf_f
  by_cases z : sp_prt c e f ∧ bf_op c e s ∧ bf_op c f s
  · rw [bf_ift z]
    obtain ⟨q1, q2, q3⟩ := bf_mv_ok h G hT he hf hs bs ⟨z.2.1.1, z.2.2.1, z.2.1.2, z.2.2.2, Or.inr z.1⟩
    exact ⟨⟨q1, by rw [q2.1 s hs (by rw [bs]; omega)]; exact bs⟩, q2, fun _ => q3⟩
  · rw [bf_iff z]
    exact ⟨⟨G, bs⟩, bf_X0 T b, fun w => absurd w z⟩
theorem bf_e0_ok (h : cf_ok c) (hT : T ≤ 20) {e s : Nat} (he : e < cf_n c) (hs : s < 1024) (G : bf_G c T b) (bs : b.1 s = T) :
    (bf_G c T (bf_e0 c s e b) ∧ (bf_e0 c s e b).1 s = T) ∧ bf_X T b (bf_e0 c s e b) ∧ (cf_sg c e = 0 ∧ bf_op c e s → bf_K c e e s (bf_e0 c s e b)) := by
  unfold bf_e0
  by_cases z : cf_sg c e = 0 ∧ bf_op c e s
  · rw [bf_ift z]
    obtain ⟨a1, a2, a3⟩ := bf_mv_ok h G hT he he hs bs ⟨z.2.1, z.2.1, z.2.2, z.2.2, Or.inl ⟨rfl, z.1⟩⟩
    exact ⟨⟨a1, by rw [a2.1 s hs (by rw [bs]; omega)]; exact bs⟩, a2, fun _ => a3⟩
  · rw [bf_iff z]
    exact ⟨⟨G, bs⟩, bf_X0 T b, fun w => absurd w z⟩
theorem bf_e_ok (h : cf_ok c) (hT : T ≤ 20) {e s : Nat} (he : e < cf_n c) (hs : s < 1024) (G : bf_G c T b) (bs : b.1 s = T) :
    (bf_G c T (bf_e c s e b) ∧ (bf_e c s e b).1 s = T) ∧ bf_X T b (bf_e c s e b) ∧ ∀ f, f < cf_n c → sp_en c e f (s / 64) (s / 8 % 8) (s % 8) → bf_K c e f s (bf_e c s e b) := by
  obtain ⟨a1, a2, a3⟩ := bf_e0_ok h hT he hs G bs
  have key := bf_it_ok (g := bf_f c s e) (I := fun b => bf_G c T b ∧ b.1 s = T) (P := fun f b => sp_prt c e f ∧ bf_op c e s ∧ bf_op c f s → bf_K c e f s b) (n := cf_n c) (T := T) (by omega)
    (fun f b hf I => bf_f_ok h hT he hf hs I.1 I.2)
    (fun f b b' hf I x k w => bf_K_X h x he hf hs (by rw [I.2]; omega) (k w))
    (cf_n c) 0 (bf_e0 c s e b) (by omega) a1 (fun j hj => by omega)
  obtain ⟨k1, k2, k3⟩ := key
  refine ⟨k1, bf_Xt (by omega) a2 k2, fun f hf en => ?_⟩
  obtain ⟨e1, e2, e3, e4, e5⟩ := en
  rcases e5 with ⟨e5, e6⟩ | e5
  · subst e5
    exact bf_K_X h k2 he hf hs (by rw [a1.2]; omega) (a3 ⟨e6, e1, e3⟩)
  · exact k3 f hf ⟨e5, ⟨e1, e3⟩, ⟨e2, e4⟩⟩
theorem bf_all_ok (h : cf_ok c) (hT : T ≤ 20) {s : Nat} (hs : s < 1024) (G : bf_G c T b) (bs : b.1 s = T) :
    bf_G c T (bf_all c s b) ∧ bf_X T b (bf_all c s b) ∧ ∀ e f, e < cf_n c → f < cf_n c → sp_en c e f (s / 64) (s / 8 % 8) (s % 8) → bf_K c e f s (bf_all c s b) := by
  have key := bf_it_ok (g := bf_e c s) (I := fun b => bf_G c T b ∧ b.1 s = T) (P := fun e b => ∀ f, f < cf_n c → sp_en c e f (s / 64) (s / 8 % 8) (s % 8) → bf_K c e f s b) (n := cf_n c) (T := T) (by omega)
    (fun e b he I => bf_e_ok h hT he hs I.1 I.2)
    (fun e b b' he I x k f hf en => bf_K_X h x he hf hs (by rw [I.2]; omega) (k f hf en))
    (cf_n c) 0 b (by omega) ⟨G, bs⟩ (fun j hj => by omega)
  exact ⟨key.1.1, key.2.1, fun e f he hf => key.2.2 e he f hf⟩
end
end
section
/-! layer by layer: pure -/
def bf_D (c : Cf_t) (s : Nat) (b : Bf_t) : Prop := ¬ sp_hur c (s / 64) → b.1 s < 20 → bf_in c (bf_wt s) → b.1 (bf_wt s) ≤ b.1 s + 1
def bf_M (c : Cf_t) (s : Nat) (b : Bf_t) : Prop := ∀ e f, e < cf_n c → f < cf_n c → sp_en c e f (s / 64) (s / 8 % 8) (s % 8) → bf_K c e f s b
/-- at time T: the layer begins at B, all below F have been moved from, all below B waited on -/
def bf_I (c : Cf_t) (T B F : Nat) (b : Bf_t) : Prop :=
  bf_G c T b ∧ B ≤ F ∧ F ≤ b.2.2.1 ∧ (∀ i, B ≤ i → i < b.2.2.1 → b.1 (b.2.1 i) = T) ∧ (∀ i, i < F → bf_M c (b.2.1 i) b) ∧ (∀ i, i < B → bf_D c (b.2.1 i) b) ∧ b.1 0 = 0
/-- the layer from B to F at time T is waited on up to i -/
def bf_J (c : Cf_t) (T i F : Nat) (b : Bf_t) : Prop :=
  bf_G c (T + 1) b ∧ i ≤ F ∧ F ≤ b.2.2.1 ∧ (∀ j, F ≤ j → j < b.2.2.1 → b.1 (b.2.1 j) = T + 1) ∧ (∀ j, j < F → bf_M c (b.2.1 j) b) ∧ (∀ j, j < i → bf_D c (b.2.1 j) b) ∧ (∀ j, i ≤ j → j < F → b.1 (b.2.1 j) = T) ∧ b.1 0 = 0
section
variable {c : Cf_t} {T B F i : Nat} {b b' : Bf_t}
theorem bf_M_X (h : cf_ok c) (x : bf_X T b b') {s : Nat} (hs : s < 1024) (h1 : b.1 s < 21) (k : bf_M c s b) : bf_M c s b' :=
  fun e f he hf en => bf_K_X h x he hf hs h1 (k e f he hf en)
theorem bf_D_X (x : bf_X T b b') {s : Nat} (hs : s < 1024) (h1 : b.1 s < 21) (k : bf_D c s b) : bf_D c s b' := by
  intro a q i
  rw [x.1 s hs h1] at q ⊢
  have := k a q i
  rw [x.1 _ (bf_wt_r hs) (by omega)]
  exact this
theorem bf_I_s (h : cf_ok c) (hT : T ≤ 20) (I : bf_I c T B F b) (hF : F < b.2.2.1) : bf_I c T B (F + 1) (bf_all c (b.2.1 F) b) ∧ bf_X T b (bf_all c (b.2.1 F) b) := by
  obtain ⟨G, i1, i2, i3, i4, i5, i6⟩ := I
  obtain ⟨q1, q2⟩ := G.2.2.1 F hF
  obtain ⟨a1, a2, a3⟩ := bf_all_ok h hT q1 G (i3 F i1 hF)
  refine ⟨⟨a1, by omega, Nat.le_trans hF a2.2.1, fun j h1 h2 => ?_, fun j hj => ?_, fun j hj => ?_, ?_⟩, a2⟩
  · by_cases q : j < b.2.2.1
    · have r := G.2.2.1 j q
      rw [a2.2.2.1 j q, a2.1 _ r.1 r.2]
      exact i3 j h1 q
    · exact (a2.2.2.2.1 j (by omega) h2).2
  · rw [a2.2.2.1 j (by omega)]
    have r := G.2.2.1 j (by omega)
    by_cases q : j = F
    · rw [q]; exact a3
    · exact bf_M_X h a2 r.1 r.2 (i4 j (by omega))
  · rw [a2.2.2.1 j (by omega)]
    have r := G.2.2.1 j (by omega)
    exact bf_D_X a2 r.1 r.2 (i5 j hj)
  · rw [a2.1 0 (by omega) (by omega)]; exact i6
theorem bf_G_up (G : bf_G c T b) : bf_G c (T + 1) b := by
  obtain ⟨g1, g2, g3, g4, g5, g6, g7⟩ := G
  exact ⟨fun s hs => by have := g1 s hs; omega, g2, g3, g4, g5, g6, g7⟩
theorem bf_I_J (I : bf_I c T B F b) (hF : F = b.2.2.1) : bf_J c T B F b := by
  obtain ⟨G, i1, i2, i3, i4, i5, i6⟩ := I
  exact ⟨bf_G_up G, i1, i2, fun j h1 h2 => by omega, i4, i5, fun j h1 h2 => i3 j h1 (by omega), i6⟩
theorem bf_J_I (J : bf_J c T F F b) : bf_I c (T + 1) F F b := by
  obtain ⟨G, i1, i2, i3, i4, i5, i6, i7⟩ := J
  exact ⟨G, i1, i2, i3, i4, i5, i7⟩
theorem bf_J_s (h : cf_ok c) (hT : T < 20) (J : bf_J c T i F b) (hi : i < F) : bf_J c T (i + 1) F (bf_w c (b.2.1 i) b) ∧ bf_X (T + 1) b (bf_w c (b.2.1 i) b) := by
  obtain ⟨G, i1, i2, i3, i4, i5, i6, i7⟩ := J
  obtain ⟨q1, q2⟩ := G.2.2.1 i (by omega)
  have t := i6 i (Nat.le_refl _) hi
  have key : bf_G c (T + 1) (bf_w c (b.2.1 i) b) ∧ bf_X (T + 1) b (bf_w c (b.2.1 i) b) ∧ bf_D c (b.2.1 i) (bf_w c (b.2.1 i) b) := by
    unfold bf_w
    by_cases z : ¬ sp_hur c (b.2.1 i / 64) ∧ bf_in c (bf_wt (b.2.1 i))
    · rw [bf_ift z, t]
      obtain ⟨d1, d2, d3⟩ := bf_wt_d (s := b.2.1 i)
      have r0 : sp_R c (b.2.1 i / 64) (b.2.1 i / 8 % 8) (b.2.1 i % 8) T := by
        have := G.2.2.2.2.2.1 _ q1 q2
        rw [t] at this
        exact this
      have z2 := z.2
      unfold bf_in at z2
      rw [d1, d2, d3] at z2
      have r : sp_Rs c (bf_wt (b.2.1 i)) (T + 1) := by
        unfold sp_Rs
        rw [d1, d2, d3]
        exact sp_Rw r0 z.1 hT z2
      obtain ⟨m1, m2, m3⟩ := bf_meet_ok G (by omega) (bf_wt_r q1) r
      refine ⟨m1, m2, fun _ _ _ => ?_⟩
      rw [m2.1 _ q1 q2, t]
      exact m3
    · rw [bf_iff z]
      exact ⟨G, bf_X0 _ b, fun z1 _ z3 => absurd ⟨z1, z3⟩ z⟩
  obtain ⟨a1, a2, a3⟩ := key
  refine ⟨⟨a1, hi, Nat.le_trans i2 a2.2.1, fun j h1 h2 => ?_, fun j hj => ?_, fun j hj => ?_, fun j h1 h2 => ?_, ?_⟩, a2⟩
  · by_cases q : j < b.2.2.1
    · have r := G.2.2.1 j q
      rw [a2.2.2.1 j q, a2.1 _ r.1 r.2]
      exact i3 j h1 q
    · exact (a2.2.2.2.1 j (by omega) h2).2
  · rw [a2.2.2.1 j (by omega)]
    have r := G.2.2.1 j (by omega)
    exact bf_M_X h a2 r.1 r.2 (i4 j hj)
  · rw [a2.2.2.1 j (by omega)]
    have r := G.2.2.1 j (by omega)
    by_cases q : j = i
    · rw [q]; exact a3
    · exact bf_D_X a2 r.1 r.2 (i5 j (by omega))
  · have r := G.2.2.1 j (by omega)
    rw [a2.2.2.1 j (by omega), a2.1 _ r.1 r.2]
    exact i6 j (by omega) h2
  · rw [a2.1 0 (by omega) (by omega)]; exact i7
/-- all layers done -/
theorem bf_end (h : cf_ok c) (I : bf_I c 20 B F b) (hF : F = b.2.2.1) : sp_Y c b.1 b.2.2.2 := by
  obtain ⟨G, i1, i2, i3, i4, i5, i6⟩ := I
  obtain ⟨g1, g2, g3, g4, g5, g6, g7⟩ := G
  have cl : sp_Cl c (fun q x y t => q < 16 ∧ x ≤ 7 ∧ y ≤ 7 ∧ t ≤ 20 ∧ b.1 (bf_cell q x y) ≤ t ∧ b.1 (bf_cell q x y) < 21 ∧ ∀ e f, e < cf_n c → f < cf_n c → sp_en c e f q x y → sp_ti c e f q x y → b.2.2.2 e ≤ t ∧ b.2.2.2 f ≤ t) := by
    have mv : ∀ q x y, q < 16 → x ≤ 7 → y ≤ 7 → b.1 (bf_cell q x y) < 21 → ∀ e f, e < cf_n c → f < cf_n c → sp_en c e f q x y → sp_ti c e f q x y →
        b.1 (bf_cell (sp_tq c e f q) (sp_tx c e f x) (sp_ty c e f y)) ≤ b.1 (bf_cell q x y) ∧ b.2.2.2 e ≤ b.1 (bf_cell q x y) ∧ b.2.2.2 f ≤ b.1 (bf_cell q x y) := by
      intro q x y hq hx hy hb e f he hf en ti
      obtain ⟨j, hj, ej⟩ := g4 _ (bf_cell_r hq hx hy) hb
      obtain ⟨d1, d2, d3⟩ := bf_cell_d (q := q) hx hy
      have k := i4 j (by omega) e f he hf
      rw [ej, d1, d2, d3] at k
      have k := k en
      unfold bf_K at k
      have etg : bf_tg c e f (bf_cell q x y) = bf_cell (sp_tq c e f q) (sp_tx c e f x) (sp_ty c e f y) := by
        unfold bf_tg; rw [d1, d2, d3]
      rw [etg] at k
      refine k ?_
      unfold bf_in
      obtain ⟨u1, u2, u3⟩ := bf_cell_d (q := sp_tq c e f q) (sp_tx_r (c := c) (e := e) (f := f) hx) (sp_ty_r (c := c) (e := e) (f := f) hy)
      rw [u1, u2, u3]
      exact ti
    have us : ∀ q x y t, q < 16 → x ≤ 7 → y ≤ 7 → b.1 (bf_cell q x y) ≤ t → b.1 (bf_cell q x y) < 21 → ∀ e f, e < cf_n c → f < cf_n c → sp_en c e f q x y → sp_ti c e f q x y → b.2.2.2 e ≤ t ∧ b.2.2.2 f ≤ t := by
      intro q x y t hq hx hy ht hb e f he hf en ti
      have := mv q x y hq hx hy hb e f he hf en ti
      omega
    have z0 : b.1 (bf_cell 0 0 0) = 0 := i6
    refine ⟨⟨by omega, by omega, by omega, by omega, by omega, by omega, us 0 0 0 0 (by omega) (by omega) (by omega) (by omega) (by omega)⟩, fun q x y t e f a he hf en ti => ?_, fun q x y t a hu ht hi => ?_⟩
    · obtain ⟨a1, a2, a3, a4, a5, a6, a7⟩ := a
      have k := mv q x y a1 a2 a3 a6 e f he hf en ti
      have r1 := sp_tq_r h e f a1
      have r2 := sp_tx_r (c := c) (e := e) (f := f) a2
      have r3 := sp_ty_r (c := c) (e := e) (f := f) a3
      exact ⟨r1, r2, r3, a4, by omega, by omega, us _ _ _ t r1 r2 r3 (by omega) (by omega)⟩
    · obtain ⟨a1, a2, a3, a4, a5, a6, a7⟩ := a
      obtain ⟨j, hj, ej⟩ := g4 _ (bf_cell_r a1 a2 a3) a6
      obtain ⟨d1, d2, d3⟩ := bf_cell_d (q := q) a2 a3
      have ew : bf_wt (bf_cell q x y) = bf_cell q (sp_7 x) (sp_7 y) := by
        unfold bf_wt; rw [d1, d2, d3]
      have hin : bf_in c (bf_cell q (sp_7 x) (sp_7 y)) := by
        unfold bf_in
        obtain ⟨u1, u2, u3⟩ := bf_cell_d (q := q) (sp_7_r x) (sp_7_r y)
        rw [u1, u2, u3]
        exact hi
      have k : b.1 (bf_cell q (sp_7 x) (sp_7 y)) ≤ b.1 (bf_cell q x y) + 1 := by
        by_cases w : j < B
        · have k := i5 j w
          unfold bf_D at k
          rw [ej, d1, ew] at k
          exact k hu (by omega) hin
        · have := i3 j (by omega) hj
          rw [ej] at this
          omega
      have r2 := sp_7_r x
      have r3 := sp_7_r y
      exact ⟨a1, r2, r3, by omega, by omega, by omega, us _ _ _ _ a1 r2 r3 (by omega) (by omega)⟩
  refine ⟨fun s hs => ⟨fun t r => ?_, ?_⟩, fun e he => ⟨fun t u => ?_, ?_⟩⟩
  · have a := r _ cl
    have e := bf_cell_s s
    simp only [e] at a
    have := a.2.2.2.2.1
    omega
  · by_cases z : b.1 s < 21
    · exact Or.inr ⟨b.1 s, g6 s hs z, rfl⟩
    · have := g1 s hs
      exact Or.inl (by omega)
  · obtain ⟨q, x, y, f, r, he', hf, o⟩ := u
    have a := (r _ cl).2.2.2.2.2.2
    rcases o with ⟨en, ti⟩ | ⟨en, ti⟩
    · have := (a e f he' hf en ti).1; omega
    · have := (a f e hf he' en ti).2; omega
  · by_cases z : b.2.2.2 e < 21
    · exact Or.inr ⟨b.2.2.2 e, g7 e he z, rfl⟩
    · have := g5 e he
      exact Or.inl (by omega)
/-- the start -/
theorem bf_start (h : cf_ok c) {q : Nat → Nat} : bf_I c 0 0 0 (bf_meet 0 0 ((fun _ => 21), q, 0, (fun _ => 21))) := by
  have G : bf_G c 0 ((fun _ => 21), q, 0, (fun _ => 21)) := by
    refine ⟨fun _ _ => Or.inr rfl, ?_, fun i hi => ?_, fun s _ z => ?_, fun _ _ => Nat.le_refl _, fun s _ z => ?_, fun e _ z => ?_⟩
    · show 0 + bf_ct (fun _ => 21) 1024 = 1024
      rw [bf_ct_0]
    · exact absurd hi (Nat.not_lt_zero i)
    · exact absurd z (Nat.lt_irrefl 21)
    · exact absurd z (Nat.lt_irrefl 21)
    · exact absurd z (Nat.lt_irrefl 21)
  obtain ⟨a1, a2, a3⟩ := bf_meet_ok G (by omega) (by omega : 0 < 1024) (sp_R0 c)
  refine ⟨a1, Nat.le_refl _, Nat.zero_le _, fun i _ hi => (a2.2.2.2.1 i (Nat.zero_le _) hi).2, fun i hi => by omega, fun i hi => by omega, ?_⟩
  omega
end
end
section
/-! the zones that are kept, and what they say of the pairs: pure -/
def zo_E (d d' : Nat → Nat → Int) : Prop := ∀ i j, i < 4 → j < 4 → d i j = d' i j
theorem zo_E_CZ {d d' : Nat → Nat → Int} (e : zo_E d d') (h : zo_CZ d') : zo_CZ d := by
  obtain ⟨h1, h2, h3, h4, h5, h6, h7⟩ := h
  refine ⟨fun i hi => by rw [e i i hi hi]; exact h1 i hi, fun i j k hi hj hk => ?_, fun j hj => ?_, fun i j hi hj z => ?_, fun i hi => ?_, ?_, ?_⟩
  · rw [e i k hi hk, e k j hk hj, e i j hi hj]; exact h2 i j k hi hj hk
  · rw [e 0 j (by omega) hj]; exact h3 j hj
  · rw [e i j hi hj]; exact h4 i j hi hj z
  · rw [e i 0 hi (by omega)]; exact h5 i hi
  · rw [e 1 3 (by omega) (by omega)]; exact h6
  · rw [e 2 3 (by omega) (by omega)]; exact h7
theorem zo_E_F {d d' : Nat → Nat → Int} (e : zo_E d d') (h : zo_Fin d') : zo_Fin d := fun i hi => by
  rw [e i 0 hi (by omega)]; exact h i hi
theorem zo_E_M {d d' : Nat → Nat → Int} (e : zo_E d d') (p : Nat → Int) : zo_M d p ↔ zo_M d' p := by
  constructor
  · intro m; exact ⟨m.1, fun i j hi hj => by rw [← e i j hi hj]; exact m.2 i j hi hj⟩
  · intro m; exact ⟨m.1, fun i j hi hj => by rw [e i j hi hj]; exact m.2 i j hi hj⟩
theorem zo_E_s {d d' : Nat → Nat → Int} (e : zo_E d d') : zo_E d' d := fun i j hi hj => (e i j hi hj).symm
/-- a clock's value as it is told: 7 above 6 -/
def zo_ca (v : Int) : Nat := if v ≤ 6 then v.toNat else 7
theorem zo_ca_7 {v : Int} (h : 0 ≤ v) : zo_ca (v + 1) = sp_7 (zo_ca v) := by
  unfold zo_ca sp_7
  by_cases a : v ≤ 5
  · rw [if_pos (c := v + 1 ≤ 6) (by omega), if_pos (c := v ≤ 6) (by omega), if_pos (by omega)]; omega
  · by_cases b : v ≤ 6
    · rw [if_neg (c := v + 1 ≤ 6) (by omega), if_pos b, if_pos (by omega)]; omega
    · rw [if_neg (c := v + 1 ≤ 6) (by omega), if_neg b, if_neg (by omega)]
theorem zo_ca_le {v : Int} (h : 0 ≤ v) {n : Nat} (hn : n ≤ 7) : zo_ca v ≤ n ↔ (n < 7 → v ≤ n) := by
  unfold zo_ca
  split
  · constructor
    · intro a b; omega
    · intro a; by_cases z : n < 7
      · have := a z; omega
      · omega
  · constructor
    · intro a b; omega
    · intro a; by_cases z : n < 7
      · have := a z; omega
      · omega
theorem zo_ca_ge {v : Int} (h : 0 ≤ v) {n : Nat} (hn : n ≤ 6) : n ≤ zo_ca v ↔ (n : Int) ≤ v := by
  unfold zo_ca; split <;> omega
theorem zo_ca_mono {v w : Int} (h : 0 ≤ v) (hw : v ≤ w) : zo_ca v ≤ zo_ca w := by
  unfold zo_ca; split <;> split <;> omega
theorem zo_ca_r (v : Int) : zo_ca v ≤ 7 := by unfold zo_ca; split <;> omega
theorem zo_ca_eq {v w : Int} (a : v ≤ 6 → w = v) (b : 6 < v → 6 < w) : zo_ca w = zo_ca v := by
  unfold zo_ca
  by_cases z : v ≤ 6
  · rw [a z]
  · rw [if_neg (by have := b (by omega); omega), if_neg z]
/-- waiting n units -/
theorem zo_dl {c : Cf_t} {q : Nat} (hu : ¬ sp_hur c q) {x y t : Int} (hx : 0 ≤ x) (hy : 0 ≤ y) (ht : 0 ≤ t) (r : sp_R c q (zo_ca x) (zo_ca y) t.toNat) :
    ∀ n : Nat, t + n ≤ 20 → sp_in c q (zo_ca (x + n)) (zo_ca (y + n)) → sp_R c q (zo_ca (x + n)) (zo_ca (y + n)) (t + n).toNat := by
  intro n
  induction n with
  | zero =>
    intro _ _
    have e1 : x + ((0 : Nat) : Int) = x := by omega
    have e2 : y + ((0 : Nat) : Int) = y := by omega
    have e3 : t + ((0 : Nat) : Int) = t := by omega
    rw [e1, e2, e3]; exact r
  | succ n ih =>
    intro h1 h2
    have e1 : x + ((n + 1 : Nat) : Int) = (x + n) + 1 := by omega
    have e2 : y + ((n + 1 : Nat) : Int) = (y + n) + 1 := by omega
    have e3 : (t + ((n + 1 : Nat) : Int)).toNat = (t + n).toNat + 1 := by omega
    rw [e1, e2] at h2
    rw [e1, e2, e3, zo_ca_7 (by omega), zo_ca_7 (by omega)]
    have m1 := zo_ca_mono (v := x + n) (w := x + n + 1) (by omega) (by omega)
    have m2 := zo_ca_mono (v := y + n) (w := y + n + 1) (by omega) (by omega)
    have hi : sp_in c q (zo_ca (x + n)) (zo_ca (y + n)) := ⟨Nat.le_trans m1 h2.1, Nat.le_trans m2 h2.2⟩
    rw [zo_ca_7 (by omega), zo_ca_7 (by omega)] at h2
    exact sp_Rw (ih (by omega) hi) hu (by omega) h2
/-- all that waiting makes of the points of S at pair q -/
def zo_W (c : Cf_t) (q : Nat) (S : (Nat → Int) → Prop) (p : Nat → Int) : Prop :=
  ((sp_hur c q ∧ S p) ∨ (¬ sp_hur c q ∧ p 0 = 0 ∧ ∃ t : Int, 0 ≤ t ∧ S (zo_bk p t))) ∧ ((sp_bnd c q 0 < 7 → p 1 ≤ sp_bnd c q 0) ∧ (sp_bnd c q 1 < 7 → p 2 ≤ sp_bnd c q 1)) ∧ p 3 ≤ 20
/-- a zone that may be kept for q -/
def zo_K (c : Cf_t) (q : Nat) (d : Nat → Nat → Int) : Prop :=
  zo_CZ d ∧ zo_Fin d ∧ q < 16 ∧ (∀ p, zo_M d p → sp_R c q (zo_ca (p 1)) (zo_ca (p 2)) (p 3).toNat) ∧
  (∀ p, zo_M d p → ¬ sp_hur c q → p 3 < 20 → sp_in c q (sp_7 (zo_ca (p 1))) (sp_7 (zo_ca (p 2))) → ∃ p', zo_M d p' ∧ p' 3 = p 3 + 1 ∧ zo_ca (p' 1) = sp_7 (zo_ca (p 1)) ∧ zo_ca (p' 2) = sp_7 (zo_ca (p 2)))
/-- what a zone must be to be kept: within the bounds, and its points come about -/
def zo_P (c : Cf_t) (q : Nat) (d : Nat → Nat → Int) : Prop :=
  zo_CZ d ∧ zo_Fin d ∧ q < 16 ∧ (∀ p, zo_M d p → sp_in c q (zo_ca (p 1)) (zo_ca (p 2)) ∧ sp_R c q (zo_ca (p 1)) (zo_ca (p 2)) (p 3).toNat)
theorem zo_W_s {c : Cf_t} (h : cf_ok c) {q : Nat} {d w : Nat → Nat → Int} (P : zo_P c q d) (hw : zo_CZ w) (m : ∀ p, zo_M w p ↔ zo_W c q (zo_M d) p) {p : Nat → Int} (mp : zo_M w p) :
    sp_R c q (zo_ca (p 1)) (zo_ca (p 2)) (p 3).toNat := by
  obtain ⟨p1, p2, p3, p4⟩ := P
  obtain ⟨w1, ⟨w2, w3⟩, w4⟩ := (m p).mp mp
  rcases w1 with ⟨_, w1⟩ | ⟨hu, w0, t, ht, w1⟩
  · exact (p4 p w1).2
  · have z1 := zo_pos p1 w1 (i := 1) (by omega)
    have z2 := zo_pos p1 w1 (i := 2) (by omega)
    have z3 := zo_pos p1 w1 (i := 3) (by omega)
    have e1 : zo_bk p t 1 = p 1 - t := rfl
    have e2 : zo_bk p t 2 = p 2 - t := rfl
    have e3 : zo_bk p t 3 = p 3 - t := rfl
    have r := (p4 _ w1).2
    rw [e1] at z1 r
    rw [e2] at z2 r
    rw [e3] at z3 r
    have f1 : p 1 - t + (t.toNat : Int) = p 1 := by omega
    have f2 : p 2 - t + (t.toNat : Int) = p 2 := by omega
    have f3 : p 3 - t + (t.toNat : Int) = p 3 := by omega
    have k := zo_dl hu z1 z2 z3 r t.toNat (by omega)
    rw [f1, f2, f3] at k
    exact k ⟨(zo_ca_le (by omega) (sp_bnd_r h q 0)).mpr w2, (zo_ca_le (by omega) (sp_bnd_r h q 1)).mpr w3⟩
theorem zo_W_sub {c : Cf_t} (h : cf_ok c) {q : Nat} {d : Nat → Nat → Int} (P : zo_P c q d) {p : Nat → Int} (mp : zo_M d p) : zo_W c q (zo_M d) p := by
  have i := (P.2.2.2 p mp).1
  have z1 := zo_pos P.1 mp (i := 1) (by omega)
  have z2 := zo_pos P.1 mp (i := 2) (by omega)
  have t3 := zo_top P.2.1 mp (i := 3) (by omega)
  refine ⟨?_, ⟨(zo_ca_le z1 (sp_bnd_r h q 0)).mp i.1, (zo_ca_le z2 (sp_bnd_r h q 1)).mp i.2⟩, t3⟩
  by_cases hu : sp_hur c q
  · exact Or.inl ⟨hu, mp⟩
  · refine Or.inr ⟨hu, mp.1, 0, by omega, ?_⟩
    have e : zo_bk p 0 = p := by
      funext i
      unfold zo_bk
      by_cases z : i = 0
      · rw [if_pos z, z]; exact mp.1.symm
      · rw [if_neg z]; omega
    rw [e]; exact mp
theorem zo_mo1 : zo_mo 1 = 6 := rfl
theorem zo_mo2 : zo_mo 2 = 6 := rfl
theorem zo_mo3 : zo_mo 3 = 20 := rfl
theorem zo_keep {c : Cf_t} (h : cf_ok c) {q : Nat} {d w : Nat → Nat → Int} (P : zo_P c q d) (hw : zo_CZ w) (fw : zo_Fin w) (m : ∀ p, zo_M w p ↔ zo_W c q (zo_M d) p) :
    zo_K c q (zo_wd w) ∧ ∀ p, zo_M d p → zo_M (zo_wd w) p := by
  obtain ⟨a1, a2, a3, a4⟩ := zo_wd_ok hw fw
  have cap : ∀ p, zo_M (zo_wd w) p → ∃ p', zo_M w p' ∧ p' 3 = p 3 ∧ zo_ca (p' 1) = zo_ca (p 1) ∧ zo_ca (p' 2) = zo_ca (p 2) := by
    intro p mp
    obtain ⟨p', m', e⟩ := a4 p mp
    have t3 := zo_top a2 mp (i := 3) (by omega)
    have k1 := e 1 (by omega)
    have k2 := e 2 (by omega)
    have k3 := e 3 (by omega)
    rw [zo_mo1] at k1
    rw [zo_mo2] at k2
    rw [zo_mo3] at k3
    exact ⟨p', m', k3.1 t3, zo_ca_eq k1.1 k1.2, zo_ca_eq k2.1 k2.2⟩
  refine ⟨⟨a1, a2, P.2.2.1, fun p mp => ?_, fun p mp hu ht hi => ?_⟩, fun p mp => a3 p ((m p).mpr ?_)⟩
  · obtain ⟨p', m', e3, e1, e2⟩ := cap p mp
    have r := zo_W_s h P hw m m'
    rw [e1, e2, e3] at r
    exact r
  · obtain ⟨p', m', e3, e1, e2⟩ := cap p mp
    obtain ⟨w1, ⟨w2, w3⟩, w4⟩ := (m p').mp m'
    have z1 := zo_pos hw m' (i := 1) (by omega)
    have z2 := zo_pos hw m' (i := 2) (by omega)
    rcases w1 with ⟨hu', _⟩ | ⟨_, w0, t, ht', w1⟩
    · exact absurd hu' hu
    · rw [← e1, ← e2, ← zo_ca_7 z1, ← zo_ca_7 z2] at hi
      have b1 := (zo_ca_le (v := p' 1 + 1) (by omega) (sp_bnd_r h q 0)).mp hi.1
      have b2 := (zo_ca_le (v := p' 2 + 1) (by omega) (sp_bnd_r h q 1)).mp hi.2
      refine ⟨fun i => if i = 0 then 0 else p' i + 1, a3 _ ((m _).mpr ⟨Or.inr ⟨hu, rfl, t + 1, by omega, ?_⟩, ⟨b1, b2⟩, ?_⟩), ?_, ?_, ?_⟩
      · have e : zo_bk (fun i => if i = 0 then 0 else p' i + 1) (t + 1) = zo_bk p' t := by
          funext i
          unfold zo_bk
          by_cases z : i = 0
          · rw [if_pos z, if_pos z]
          · rw [if_neg z, if_neg z]
            show (if i = 0 then 0 else p' i + 1) - (t + 1) = p' i - t
            rw [if_neg z]; omega
        rw [e]; exact w1
      · show p' 3 + 1 ≤ 20
        omega
      · show p' 3 + 1 = p 3 + 1
        omega
      · show zo_ca (p' 1 + 1) = sp_7 (zo_ca (p 1))
        rw [zo_ca_7 z1, e1]
      · show zo_ca (p' 2 + 1) = sp_7 (zo_ca (p 2))
        rw [zo_ca_7 z2, e2]
  · exact zo_W_sub h P mp
theorem zo_K_E {c : Cf_t} {q : Nat} {d d' : Nat → Nat → Int} (e : zo_E d d') (h : zo_K c q d') : zo_K c q d := by
  obtain ⟨h1, h2, h3, h4, h5⟩ := h
  refine ⟨zo_E_CZ e h1, zo_E_F e h2, h3, fun p m => h4 p ((zo_E_M e p).mp m), fun p m a b g => ?_⟩
  obtain ⟨p', m', r⟩ := h5 p ((zo_E_M e p).mp m) a b g
  exact ⟨p', (zo_E_M e p').mpr m', r⟩
/-! the world of kept zones, over X's arrays -/
def zw_q (zp : Nat → Int32) (z : Nat) : Nat := (zp z).toNatClampNeg
def zw_d (zb : Nat → Int32) (z i j : Nat) : Int := (zb (16 * z + (4 * i + j))).toInt
def zw_a (az : Nat → Int32) (i j : Nat) : Int := (az (4 * i + j)).toInt
/-- the notes are right as far as they go -/
def no_S (c : Cf_t) (so lo hi : Nat → Int32) : Prop :=
  (∀ q, q < 16 → (so q).toInt = 1000 ∨ ∃ t : Nat, sp_S c q t ∧ (so q).toInt = t) ∧
  (∀ q k, q < 16 → k < 2 → ((lo (2 * q + k)).toInt = 1000 ∨ ∃ t : Nat, sp_V c q k t ∧ (lo (2 * q + k)).toInt = t) ∧ ((hi (2 * q + k)).toInt = -1 ∨ ∃ t : Nat, sp_V c q k t ∧ (hi (2 * q + k)).toInt = t))
def no_U (c : Cf_t) (fm : Nat → Int32) : Prop := ∀ e, e < 12 → (fm e).toInt = 1000 ∨ ∃ t : Nat, sp_U c e t ∧ (fm e).toInt = t
/-- a state is noted -/
def no_T (so lo hi : Nat → Int32) (q x y : Nat) (t : Int) : Prop :=
  (so q).toInt ≤ t ∧ ((lo (2 * q)).toInt ≤ x ∧ (x : Int) ≤ (hi (2 * q)).toInt) ∧ ((lo (2 * q + 1)).toInt ≤ y ∧ (y : Int) ≤ (hi (2 * q + 1)).toInt)
def zw_I (c : Cf_t) (Z : Nat) (zp zb so fm lo hi : Nat → Int32) : Prop :=
  Z ≤ 64 ∧ (∀ z, z < Z → zp z = nI (zw_q zp z) ∧ zo_K c (zw_q zp z) (zw_d zb z)) ∧
  (∀ z, z < Z → ∀ p, zo_M (zw_d zb z) p → no_T so lo hi (zw_q zp z) (zo_ca (p 1)) (zo_ca (p 2)) (p 3)) ∧ no_S c so lo hi ∧ no_U c fm
def zw_X (Z : Nat) (zp zb fm : Nat → Int32) (cr : Int32) (Z' : Nat) (zp' zb' fm' : Nat → Int32) (cr' : Int32) : Prop :=
  Z ≤ Z' ∧ (∀ z, z < Z → zp' z = zp z ∧ ∀ i j, i < 4 → j < 4 → zw_d zb' z i j = zw_d zb z i j) ∧ (∀ e, e < 12 → (fm' e).toInt ≤ (fm e).toInt) ∧ (cr' = 0 → cr = 0)
/-- a kept zone of pair q holds p -/
def zw_H (Z : Nat) (zp zb : Nat → Int32) (q : Nat) (p : Nat → Int) : Prop := ∃ z, z < Z ∧ zw_q zp z = q ∧ zo_M (zw_d zb z) p
/-- the moves by e and f from zone z are followed -/
def zw_C (c : Cf_t) (Z : Nat) (zp zb fm : Nat → Int32) (z e f : Nat) : Prop :=
  ∀ p, zo_M (zw_d zb z) p → sp_en c e f (zw_q zp z) (zo_ca (p 1)) (zo_ca (p 2)) → sp_ti c e f (zw_q zp z) (zo_ca (p 1)) (zo_ca (p 2)) →
    (∃ p', zw_H Z zp zb (sp_tq c e f (zw_q zp z)) p' ∧ zo_ca (p' 1) = sp_tx c e f (zo_ca (p 1)) ∧ zo_ca (p' 2) = sp_ty c e f (zo_ca (p 2)) ∧ p' 3 = p 3) ∧ (fm e).toInt ≤ p 3 ∧ (fm f).toInt ≤ p 3
section
variable {c : Cf_t} {Z Z' Z'' : Nat} {zp zb fm zp' zb' fm' zp'' zb'' fm'' so lo hi : Nat → Int32} {cr cr' cr'' : Int32}
theorem zw_X0 : zw_X Z zp zb fm cr Z zp zb fm cr := ⟨Nat.le_refl _, fun _ _ => ⟨rfl, fun _ _ _ _ => rfl⟩, fun _ _ => Int.le_refl _, fun h => h⟩
theorem zw_Xt (x : zw_X Z zp zb fm cr Z' zp' zb' fm' cr') (y : zw_X Z' zp' zb' fm' cr' Z'' zp'' zb'' fm'' cr'') : zw_X Z zp zb fm cr Z'' zp'' zb'' fm'' cr'' := by
  refine ⟨Nat.le_trans x.1 y.1, fun z hz => ?_, fun e he => Int.le_trans (y.2.2.1 e he) (x.2.2.1 e he), fun h => x.2.2.2 (y.2.2.2 h)⟩
  obtain ⟨a, b⟩ := x.2.1 z hz
  obtain ⟨a', b'⟩ := y.2.1 z (Nat.lt_of_lt_of_le hz x.1)
  exact ⟨a'.trans a, fun i j hi hj => (b' i j hi hj).trans (b i j hi hj)⟩
theorem zw_H_X (x : zw_X Z zp zb fm cr Z' zp' zb' fm' cr') {q : Nat} {p : Nat → Int} (h : zw_H Z zp zb q p) : zw_H Z' zp' zb' q p := by
  obtain ⟨z, hz, e, m⟩ := h
  obtain ⟨a, b⟩ := x.2.1 z hz
  exact ⟨z, Nat.lt_of_lt_of_le hz x.1, by unfold zw_q; rw [a]; exact e, (zo_E_M b p).mpr m⟩
theorem zw_C_X (h : cf_ok c) (x : zw_X Z zp zb fm cr Z' zp' zb' fm' cr') {z e f : Nat} (hz : z < Z) (he : e < cf_n c) (hf : f < cf_n c) (k : zw_C c Z zp zb fm z e f) : zw_C c Z' zp' zb' fm' z e f := by
  obtain ⟨a, b⟩ := x.2.1 z hz
  have n := cf_on h
  have q : zw_q zp' z = zw_q zp z := by unfold zw_q; rw [a]
  intro p m
  rw [q]
  intro en ti
  obtain ⟨⟨p', h1, h2⟩, h3, h4⟩ := k p ((zo_E_M b p).mp m) en ti
  have f1 := x.2.2.1 e (by omega)
  have f2 := x.2.2.1 f (by omega)
  exact ⟨⟨p', zw_H_X x h1, h2⟩, by omega, by omega⟩
/-- all zones followed: what is noted is what is to be found -/
theorem zw_end (h : cf_ok c) (I : zw_I c Z zp zb so fm lo hi) (h0 : ∃ p, zw_H Z zp zb 0 p ∧ zo_ca (p 1) = 0 ∧ zo_ca (p 2) = 0 ∧ p 3 = 0) (k : ∀ z e f, z < Z → e < cf_n c → f < cf_n c → zw_C c Z zp zb fm z e f) : sp_X c so fm lo hi := by
  obtain ⟨i1, i2, i3, ⟨i4, i5⟩, i6⟩ := I
  have cl : sp_Cl c (fun q x y t => ∃ p, zw_H Z zp zb q p ∧ zo_ca (p 1) = x ∧ zo_ca (p 2) = y ∧ p 3 = (t : Int)) := by
    refine ⟨h0, fun q x y t e f a he hf en ti => ?_, fun q x y t a hu ht hi => ?_⟩
    · obtain ⟨p, ⟨z, hz, ez, m⟩, e1, e2, e3⟩ := a
      subst e1 e2 ez
      obtain ⟨⟨p', r1, r2, r3, r4⟩, _⟩ := k z e f hz he hf p m en ti
      exact ⟨p', r1, r2, r3, by omega⟩
    · obtain ⟨p, ⟨z, hz, ez, m⟩, e1, e2, e3⟩ := a
      subst e1 e2 ez
      obtain ⟨p', m', r3, r1, r2⟩ := (i2 z hz).2.2.2.2.2 p m hu (by omega) hi
      exact ⟨p', ⟨z, hz, rfl, m'⟩, r1, r2, by omega⟩
  have nt : ∀ q x y t, sp_R c q x y t → no_T so lo hi q x y t := by
    intro q x y t r
    obtain ⟨p, ⟨z, hz, ez, m⟩, e1, e2, e3⟩ := r _ cl
    have := i3 z hz p m
    rw [e1, e2, e3, ez] at this
    exact this
  refine ⟨fun q hq => ⟨fun t r => ?_, i4 q hq⟩, fun e he => ⟨fun t u => ?_, i6 e he⟩, fun q k hq hk => ⟨⟨fun t r => ?_, (i5 q k hq hk).1⟩, ⟨fun t r => ?_, (i5 q k hq hk).2⟩⟩⟩
  · obtain ⟨x, y, r⟩ := r
    exact (nt q x y t r).1
  · obtain ⟨q, x, y, f, r, he', hf, o⟩ := u
    obtain ⟨p, ⟨z, hz, ez, m⟩, e1, e2, e3⟩ := r _ cl
    subst e1 e2 ez
    rcases o with ⟨en, ti⟩ | ⟨en, ti⟩
    · have := (k z e f hz he' hf p m en ti).2.1; omega
    · have := (k z f e hz hf he' p m en ti).2.2; omega
  · obtain ⟨x, y, t', r, e⟩ := r
    have n := nt q x y t' r
    rcases (by omega : k = 0 ∨ k = 1) with z | z
    · subst z; subst e; exact n.2.1.1
    · subst z; subst e; exact n.2.2.1
  · obtain ⟨x, y, t', r, e⟩ := r
    have n := nt q x y t' r
    rcases (by omega : k = 0 ∨ k = 1) with z | z
    · subst z; subst e; exact n.2.1.2
    · subst z; subst e; exact n.2.2.2
end
end
section
/-! X: the walks of what only reads -/
theorem xr_g (f : Nat → Nat) (k : Nat) : ar_f f k = nI (f k) := rfl
theorem xr_add {a b : Int32} (h1 : -2147483648 ≤ a.toInt + b.toInt) (h2 : a.toInt + b.toInt ≤ 2147483647) : (a + b).toInt = a.toInt + b.toInt := by
  rw [Int32.toInt_add]; exact Int.bmod_eq_of_le (by omega) (by omega)
theorem xr_neg {a : Int32} (h1 : -2147483647 ≤ a.toInt) : (-a).toInt = -a.toInt := by
  have := a.toInt_lt
  rw [Int32.toInt_neg]; exact Int.bmod_eq_of_le (by omega) (by omega)
theorem xr_sub {a b : Int32} (h1 : -2147483648 ≤ a.toInt - b.toInt) (h2 : a.toInt - b.toInt ≤ 2147483647) : (a - b).toInt = a.toInt - b.toInt := by
  rw [Int32.toInt_sub]; exact Int.bmod_eq_of_le (by omega) (by omega)
theorem xr_1000 : (1000 : Int32).toInt = 1000 := by decide
theorem xr_and3 {q : Nat} (hq : q < 1024) : nI q &&& 3 = nI (q % 4) := pk_andN (by omega) 2 (by decide)
theorem xr_and7 {q : Nat} (hq : q < 1024) : nI q &&& 7 = nI (q % 8) := pk_andN (by omega) 3 (by decide)
theorem xr_and1 {q : Nat} (hq : q < 1024) : nI q &&& 1 = nI (q % 2) := pk_andN (by omega) 1 (by decide)
theorem xr_shr2 {q : Nat} (hq : q < 1024) : nI q >>> ((2 : Int32) &&& 31) = nI (q / 4) := pk_shrN (by omega) _ 2 (by decide)
theorem xr_shr3 {q : Nat} (hq : q < 1024) : nI q >>> ((3 : Int32) &&& 31) = nI (q / 8) := pk_shrN (by omega) _ 3 (by decide)
theorem xr_shr6 {q : Nat} (hq : q < 1024) : nI q >>> ((6 : Int32) &&& 31) = nI (q / 64) := pk_shrN (by omega) _ 6 (by decide)
theorem xr_12 : ∀ q, q < 16 → ∀ t, t < 4 → (nI q &&& 12) ||| nI t = nI (q / 4 * 4 + t) := by decide +kernel
theorem xr_03 : ∀ q, q < 16 → ∀ t, t < 4 → (nI q &&& 3) ||| (nI t <<< ((2 : Int32) &&& 31)) = nI (q % 4 + 4 * t) := by decide +kernel
theorem xr_or : ∀ a, a < 4 → ∀ b, b < 4 → nI a ||| nI b = nI (a ||| b) ∧ (a ||| b) < 4 := by decide +kernel
theorem xr_2 (a b : Nat) : (2 : Int32) * nI a + nI b = nI (2 * a + b) := by
  rw [show (2 : Int32) = nI 2 from rfl, pk_mul, nI_add]
theorem xr_4 (a : Nat) : (4 : Int32) + nI a = nI (4 + a) := nI_add 4 a
theorem xr_2m (a : Nat) : (2 : Int32) * nI a = nI (2 * a) := pk_mul 2 a
theorem xr_4m (a b : Nat) : (4 : Int32) * nI a + nI b = nI (4 * a + b) := by
  rw [show (4 : Int32) = nI 4 from rfl, pk_mul, nI_add]
theorem xr_16m (a b : Nat) : (16 : Int32) * nI a + nI b = nI (16 * a + b) := by
  rw [show (16 : Int32) = nI 16 from rfl, pk_mul, nI_add]
theorem xr_i {n N : Nat} (h : n < N) (hN : N < 2 ^ 31 := by decide) : vp_in (nI n) N := vp_in_nI h hN
theorem xr_c {n : Nat} (h : n < 1000000) : (nI n).toNatClampNeg = n := nI_clamp (by omega)
section
variable {c : Cf_t} {kn zs cr em ap wt : Int32} {so fm xl xh zp zb az tm qu : Nat → Int32}
variable {post : Int32 → Prop}
theorem xr_loc {q p : Nat} (hq : q < 16) (hp : p < 2) (h : post (nI (sp_loc q p))) : wpX_locationIn post (nI (cf_n c), kn, zs, cr, em, ap, wt, ar_f (cf_pr c), ar_f (cf_fr c), ar_f (cf_to c), ar_f (cf_rs c), ar_f (cf_sg c), ar_f (cf_le c), ar_f (cf_gr c), ar_f (cf_bd c), ar_f (cf_hu c), so, fm, xl, xh, zp, zb, az, tm, qu) (nI q) (nI p) := by
  unfold wpX_locationIn
  refine pk_eq p 0 (fun e => ?_) (fun e => ?_)
  · rw [xr_and3 (by omega)]
    unfold sp_loc at h
    rw [if_pos e] at h
    exact h
  · rw [xr_shr2 (by omega)]
    unfold sp_loc at h
    rw [if_neg e] at h
    exact h
theorem xr_loc_r {q p : Nat} (hq : q < 16) : sp_loc q p < 4 := by unfold sp_loc; split <;> omega
theorem xr_leads (ok : cf_ok c) {e q : Nat} (he : e < 12) (hq : q < 16) (h1 : sp_led c e q → post 1) (h0 : ¬ sp_led c e q → post 0) : wpX_leads post (nI (cf_n c), kn, zs, cr, em, ap, wt, ar_f (cf_pr c), ar_f (cf_fr c), ar_f (cf_to c), ar_f (cf_rs c), ar_f (cf_sg c), ar_f (cf_le c), ar_f (cf_gr c), ar_f (cf_bd c), ar_f (cf_hu c), so, fm, xl, xh, zp, zb, az, tm, qu) (nI e) (nI q) := by
  unfold wpX_leads
  refine ⟨xr_i he, xr_i he, ?_⟩
  rw [xr_c (n := e) (by omega), xr_g, xr_g]
  refine xr_loc hq (cf_opr ok e) ?_
  have r := cf_ofr ok e
  have r' := xr_loc_r (q := q) (p := cf_pr c e) hq
  exact pk_eq (cf_fr c e) (sp_loc q (cf_pr c e)) (fun z => h1 z) (fun z => h0 z)
theorem xr_pair (ok : cf_ok c) {e q : Nat} (he : e < 12) (hq : q < 16) (h : post (nI (sp_aft c e q))) : wpX_pairAfter post (nI (cf_n c), kn, zs, cr, em, ap, wt, ar_f (cf_pr c), ar_f (cf_fr c), ar_f (cf_to c), ar_f (cf_rs c), ar_f (cf_sg c), ar_f (cf_le c), ar_f (cf_gr c), ar_f (cf_bd c), ar_f (cf_hu c), so, fm, xl, xh, zp, zb, az, tm, qu) (nI q) (nI e) := by
  unfold wpX_pairAfter
  refine ⟨xr_i he, ?_⟩
  rw [xr_c (n := e) (by omega), xr_g, xr_g]
  have r := cf_opr ok e
  unfold sp_aft at h
  refine pk_eq (cf_pr c e) 0 (fun z => ⟨xr_i he, ?_⟩) (fun z => ⟨xr_i he, ?_⟩)
  · rw [xr_12 q hq _ (cf_oto ok e)]
    rw [if_pos z] at h; exact h
  · rw [xr_03 q hq _ (cf_oto ok e)]
    rw [if_neg z] at h; exact h
theorem xr_bound (ok : cf_ok c) {q k : Nat} (hq : q < 16) (hk : k < 2) (h : post (nI (sp_bnd c q k))) : wpX_boundIn post (nI (cf_n c), kn, zs, cr, em, ap, wt, ar_f (cf_pr c), ar_f (cf_fr c), ar_f (cf_to c), ar_f (cf_rs c), ar_f (cf_sg c), ar_f (cf_le c), ar_f (cf_gr c), ar_f (cf_bd c), ar_f (cf_hu c), so, fm, xl, xh, zp, zb, az, tm, qu) (nI q) (nI k) := by
  unfold wpX_boundIn
  dsimp only
  have e1 : (2 : Int32) * (nI q &&& 3) + nI k = nI (2 * (q % 4) + k) := by rw [xr_and3 (by omega), xr_2]
  have e2 : (2 : Int32) * (4 + nI q >>> ((2 : Int32) &&& 31)) + nI k = nI (2 * (4 + q / 4) + k) := by rw [xr_shr2 (by omega), xr_4, xr_2]
  rw [e1, e2, xr_c (n := 2 * (q % 4) + k) (by omega), xr_c (n := 2 * (4 + q / 4) + k) (by omega), xr_g, xr_g]
  have r1 := cf_obd ok (2 * (4 + q / 4) + k)
  have r2 := cf_obd ok (2 * (q % 4) + k)
  unfold sp_bnd at h
  refine ⟨xr_i (by omega), nm_e ⟨xr_i (by omega), nm_e (pk_le (cf_bd c (2 * (4 + q / 4) + k)) (cf_bd c (2 * (q % 4) + k)) (fun z => ?_) (fun z => ?_))⟩⟩
  · rw [if_pos z] at h; exact h
  · rw [if_neg (by omega)] at h; exact h
theorem xr_hur (ok : cf_ok c) {q : Nat} (hq : q < 16) (h1 : sp_hur c q → post 1) (h0 : ¬ sp_hur c q → post 0) : wpX_hurriesIn post (nI (cf_n c), kn, zs, cr, em, ap, wt, ar_f (cf_pr c), ar_f (cf_fr c), ar_f (cf_to c), ar_f (cf_rs c), ar_f (cf_sg c), ar_f (cf_le c), ar_f (cf_gr c), ar_f (cf_bd c), ar_f (cf_hu c), so, fm, xl, xh, zp, zb, az, tm, qu) (nI q) := by
  unfold wpX_hurriesIn
  dsimp only
  have e2 : (4 : Int32) + nI q >>> ((2 : Int32) &&& 31) = nI (4 + q / 4) := by rw [xr_shr2 (by omega), xr_4]
  rw [e2, xr_and3 (by omega), xr_c (n := q % 4) (by omega), xr_c (n := 4 + q / 4) (by omega), xr_g, xr_g]
  have r1 := cf_ohu ok (4 + q / 4)
  have r2 := cf_ohu ok (q % 4)
  exact ⟨xr_i (by omega), pk_eq (cf_hu c (q % 4)) 0 (fun z => ⟨xr_i (by omega), pk_eq (cf_hu c (4 + q / 4)) 0 (fun y => h0 (fun w => w ⟨z, y⟩)) (fun y => h1 (fun w => y w.2))⟩) (fun z => h1 (fun w => z w.1))⟩
theorem xr_m63 (ok : cf_ok c) {e f : Nat} (he : e < 12) (hf : f < 12) {x z : Int32} (h1 : cf_pr c e = 0 ∧ cf_pr c f = 1 ∧ (x ≠ 0 ∨ z ≠ 0) → post 1) (h0 : ¬ (cf_pr c e = 0 ∧ cf_pr c f = 1 ∧ (x ≠ 0 ∨ z ≠ 0)) → post 0) :
    wX_meets_63 post (nI e) (nI f) x z (nI (cf_n c)) kn zs cr em ap wt (ar_f (cf_pr c)) (ar_f (cf_fr c)) (ar_f (cf_to c)) (ar_f (cf_rs c)) (ar_f (cf_sg c)) (ar_f (cf_le c)) (ar_f (cf_gr c)) (ar_f (cf_bd c)) (ar_f (cf_hu c)) so fm xl xh zp zb az tm qu := by
  unfold wX_meets_63
  rw [xr_c (n := e) (by omega), xr_c (n := f) (by omega), xr_g, xr_g]
  have r1 := cf_opr ok e
  have r2 := cf_opr ok f
  exact ⟨xr_i he, pk_eq (cf_pr c e) 0 (fun z1 => ⟨xr_i hf, pk_eq (cf_pr c f) 1 (fun z2 => br_c (fun z3 => br_c (fun z4 => h0 (fun w => w.2.2.elim (fun n => n z3) (fun n => n z4))) (fun z4 => h1 ⟨z1, z2, Or.inr z4⟩)) (fun z3 => h1 ⟨z1, z2, Or.inl z3⟩)) (fun z2 => h0 (fun w => z2 w.2.1))⟩) (fun z1 => h0 (fun w => z1 w.1))⟩
theorem xr_m31 (ok : cf_ok c) {e f : Nat} (he : e < 12) (hf : f < 12) {x : Int32} (h1 : cf_pr c e = 0 ∧ cf_pr c f = 1 ∧ (x ≠ 0 ∨ (0 < cf_sg c f ∧ cf_sg c e = cf_sg c f + 2)) → post 1) (h0 : ¬ (cf_pr c e = 0 ∧ cf_pr c f = 1 ∧ (x ≠ 0 ∨ (0 < cf_sg c f ∧ cf_sg c e = cf_sg c f + 2))) → post 0) :
    wX_meets_31 post (nI e) (nI f) x (nI (cf_n c)) kn zs cr em ap wt (ar_f (cf_pr c)) (ar_f (cf_fr c)) (ar_f (cf_to c)) (ar_f (cf_rs c)) (ar_f (cf_sg c)) (ar_f (cf_le c)) (ar_f (cf_gr c)) (ar_f (cf_bd c)) (ar_f (cf_hu c)) so fm xl xh zp zb az tm qu := by
  unfold wX_meets_31 wX_meets_62
  rw [xr_c (n := e) (by omega), xr_c (n := f) (by omega), xr_g, xr_g]
  have r1 := cf_osg ok e
  have r2 := cf_osg ok f
  have one : (1 : Int32) ≠ 0 := by decide
  have nil : ¬ (0 < cf_sg c f ∧ cf_sg c e = cf_sg c f + 2) → wX_meets_63 post (nI e) (nI f) x 0 (nI (cf_n c)) kn zs cr em ap wt (ar_f (cf_pr c)) (ar_f (cf_fr c)) (ar_f (cf_to c)) (ar_f (cf_rs c)) (ar_f (cf_sg c)) (ar_f (cf_le c)) (ar_f (cf_gr c)) (ar_f (cf_bd c)) (ar_f (cf_hu c)) so fm xl xh zp zb az tm qu := fun n =>
    xr_m63 ok he hf (fun w => h1 ⟨w.1, w.2.1, w.2.2.elim Or.inl (fun v => absurd rfl v)⟩) (fun w => h0 (fun v => w ⟨v.1, v.2.1, v.2.2.elim Or.inl (fun u => absurd u n)⟩))
  refine ⟨xr_i hf, pk_le (cf_sg c f) 0 (fun z => nil (fun w => by omega)) (fun z => ⟨xr_i he, xr_i hf, ?_⟩)⟩
  rw [show nI (cf_sg c f) + 2 = nI (cf_sg c f + 2) from nI_add _ 2]
  refine pk_eq (cf_sg c e) (cf_sg c f + 2) (fun y => ?_) (fun y => nil (fun w => y w.2))
  exact xr_m63 ok he hf (fun w => h1 ⟨w.1, w.2.1, Or.inr ⟨z, y⟩⟩) (fun w => h0 (fun v => w ⟨v.1, v.2.1, Or.inr one⟩))
theorem xr_meets (ok : cf_ok c) {e f : Nat} (he : e < 12) (hf : f < 12) (h1 : sp_prt c e f → post 1) (h0 : ¬ sp_prt c e f → post 0) : wpX_meets post (nI (cf_n c), kn, zs, cr, em, ap, wt, ar_f (cf_pr c), ar_f (cf_fr c), ar_f (cf_to c), ar_f (cf_rs c), ar_f (cf_sg c), ar_f (cf_le c), ar_f (cf_gr c), ar_f (cf_bd c), ar_f (cf_hu c), so, fm, xl, xh, zp, zb, az, tm, qu) (nI e) (nI f) := by
  unfold wpX_meets wX_meets_30
  dsimp only
  rw [xr_c (n := e) (by omega), xr_c (n := f) (by omega), xr_g]
  have r1 := cf_osg ok e
  have r2 := cf_osg ok f
  have one : (1 : Int32) ≠ 0 := by decide
  have nil : ¬ (0 < cf_sg c e ∧ cf_sg c f = cf_sg c e + 2) → wX_meets_31 post (nI e) (nI f) 0 (nI (cf_n c)) kn zs cr em ap wt (ar_f (cf_pr c)) (ar_f (cf_fr c)) (ar_f (cf_to c)) (ar_f (cf_rs c)) (ar_f (cf_sg c)) (ar_f (cf_le c)) (ar_f (cf_gr c)) (ar_f (cf_bd c)) (ar_f (cf_hu c)) so fm xl xh zp zb az tm qu := fun n =>
    xr_m31 ok he hf (fun w => h1 ⟨w.1, w.2.1, w.2.2.elim (fun v => absurd rfl v) (fun v => ⟨by omega, v.1, Or.inr v.2⟩)⟩)
      (fun w => h0 (fun v => w ⟨v.1, v.2.1, Or.inr ⟨v.2.2.2.1, v.2.2.2.2.elim (fun u => absurd ⟨v.2.2.1, u⟩ n) id⟩⟩))
  refine ⟨xr_i he, pk_le (cf_sg c e) 0 (fun z => nil (fun w => by omega)) (fun z => ⟨xr_i hf, xr_i he, ?_⟩)⟩
  rw [xr_g, show nI (cf_sg c e) + 2 = nI (cf_sg c e + 2) from nI_add _ 2]
  refine pk_eq (cf_sg c f) (cf_sg c e + 2) (fun y => ?_) (fun y => nil (fun w => y w.2))
  exact xr_m31 ok he hf (fun w => h1 ⟨w.1, w.2.1, z, by omega, Or.inl y⟩) (fun w => h0 (fun v => w ⟨v.1, v.2.1, Or.inl one⟩))
theorem xr_sum {a b : Int32} (ha : -100000 ≤ a.toInt ∧ a.toInt ≤ 100000) (hb : -100000 ≤ b.toInt ∧ b.toInt ≤ 100000) (h : ∀ r : Int32, r.toInt = zo_sm a.toInt b.toInt → post r) : wpX_sum post (nI (cf_n c), kn, zs, cr, em, ap, wt, ar_f (cf_pr c), ar_f (cf_fr c), ar_f (cf_to c), ar_f (cf_rs c), ar_f (cf_sg c), ar_f (cf_le c), ar_f (cf_gr c), ar_f (cf_bd c), ar_f (cf_hu c), so, fm, xl, xh, zp, zb, az, tm, qu) a b := by
  unfold wpX_sum
  unfold zo_sm at h
  refine br_c (fun z => h _ ?_) (fun z => br_c (fun y => h _ ?_) (fun y => h _ ?_))
  · rw [Int32.le_iff_toInt_le, xr_1000] at z
    rw [if_pos (Or.inl z), xr_1000]
  · rw [Int32.le_iff_toInt_le, xr_1000] at z
    rw [Int32.lt_iff_toInt_lt, xr_1000] at y
    rw [if_neg (by omega), xr_add (by omega) (by omega)]
  · rw [Int32.lt_iff_toInt_lt, xr_1000] at y
    rw [if_pos (by omega), xr_1000]
theorem xr_most {i : Nat} (hi : i < 4) (h : ∀ r : Int32, r.toInt = zo_mo i → post r) : wpX_mostOf post (nI (cf_n c), kn, zs, cr, em, ap, wt, ar_f (cf_pr c), ar_f (cf_fr c), ar_f (cf_to c), ar_f (cf_rs c), ar_f (cf_sg c), ar_f (cf_le c), ar_f (cf_gr c), ar_f (cf_bd c), ar_f (cf_hu c), so, fm, xl, xh, zp, zb, az, tm, qu) (nI i) := by
  unfold wpX_mostOf
  unfold zo_mo at h
  refine pk_eq i 0 (fun z => h _ ?_) (fun z => pk_eq i 3 (fun y => h _ ?_) (fun y => h _ ?_))
  · rw [if_pos z]; decide
  · rw [if_neg z, if_pos y]; decide
  · rw [if_neg z, if_neg y]; decide
theorem xr_value {s k : Nat} (hs : s < 1024) (hk : k < 2) (h : post (nI (sp_cv k (s / 8 % 8) (s % 8)))) : wpX_valueIn post (nI (cf_n c), kn, zs, cr, em, ap, wt, ar_f (cf_pr c), ar_f (cf_fr c), ar_f (cf_to c), ar_f (cf_rs c), ar_f (cf_sg c), ar_f (cf_le c), ar_f (cf_gr c), ar_f (cf_bd c), ar_f (cf_hu c), so, fm, xl, xh, zp, zb, az, tm, qu) (nI s) (nI k) := by
  unfold wpX_valueIn
  unfold sp_cv at h
  refine pk_eq k 0 (fun z => ?_) (fun z => ?_)
  · rw [if_pos z] at h
    rw [xr_shr3 hs, xr_and7 (by omega)]; exact h
  · rw [if_neg z] at h
    rw [xr_and7 hs]; exact h
theorem xr_cell {q x y : Nat} (h : post (nI (bf_cell q x y))) : wpX_cellOf post (nI (cf_n c), kn, zs, cr, em, ap, wt, ar_f (cf_pr c), ar_f (cf_fr c), ar_f (cf_to c), ar_f (cf_rs c), ar_f (cf_sg c), ar_f (cf_le c), ar_f (cf_gr c), ar_f (cf_bd c), ar_f (cf_hu c), so, fm, xl, xh, zp, zb, az, tm, qu) (nI q) (nI x) (nI y) := by
  unfold wpX_cellOf
  rw [show (64 : Int32) = nI 64 from rfl, show (8 : Int32) = nI 8 from rfl, pk_mul, pk_mul, nI_add, nI_add]
  exact h
end
end
section
/-! X: guards and bounds of a cell -/
section
variable {c : Cf_t} {kn zs cr em ap wt : Int32} {so fm xl xh zp zb az tm qu : Nat → Int32}
variable {post : Int32 → Prop}
theorem xr_al0 {s e n k : Nat} (hs : s < 1024) (hk : k < 2) (h : wX_allows_5 post (nI s) (nI e) (nI (cf_n c)) kn zs cr em ap wt (ar_f (cf_pr c)) (ar_f (cf_fr c)) (ar_f (cf_to c)) (ar_f (cf_rs c)) (ar_f (cf_sg c)) (ar_f (cf_le c)) (ar_f (cf_gr c)) (ar_f (cf_bd c)) (ar_f (cf_hu c)) so fm xl xh zp zb az tm qu n 0 (nI (k + 1))) : wX_allows_5 post (nI s) (nI e) (nI (cf_n c)) kn zs cr em ap wt (ar_f (cf_pr c)) (ar_f (cf_fr c)) (ar_f (cf_to c)) (ar_f (cf_rs c)) (ar_f (cf_sg c)) (ar_f (cf_le c)) (ar_f (cf_gr c)) (ar_f (cf_bd c)) (ar_f (cf_hu c)) so fm xl xh zp zb az tm qu (n + 1) 0 (nI k) := by
  rw [wX_allows_5]
  refine pk_le 2 k (fun z => absurd z (by omega)) (fun _ => xr_value hs hk (br_t rfl (nm_r (nI_1 k) h)))
theorem xr_al1 (ok : cf_ok c) {s e n k : Nat} (hs : s < 1024) (he : e < 12) (hk : k < 2) (h1 : sp_g1 c (2 * e + k) (sp_cv k (s / 8 % 8) (s % 8)) → wX_allows_5 post (nI s) (nI e) (nI (cf_n c)) kn zs cr em ap wt (ar_f (cf_pr c)) (ar_f (cf_fr c)) (ar_f (cf_to c)) (ar_f (cf_rs c)) (ar_f (cf_sg c)) (ar_f (cf_le c)) (ar_f (cf_gr c)) (ar_f (cf_bd c)) (ar_f (cf_hu c)) so fm xl xh zp zb az tm qu n 1 (nI (k + 1)))
    (h0 : ¬ sp_g1 c (2 * e + k) (sp_cv k (s / 8 % 8) (s % 8)) → wX_allows_5 post (nI s) (nI e) (nI (cf_n c)) kn zs cr em ap wt (ar_f (cf_pr c)) (ar_f (cf_fr c)) (ar_f (cf_to c)) (ar_f (cf_rs c)) (ar_f (cf_sg c)) (ar_f (cf_le c)) (ar_f (cf_gr c)) (ar_f (cf_bd c)) (ar_f (cf_hu c)) so fm xl xh zp zb az tm qu n 0 (nI (k + 1))) : wX_allows_5 post (nI s) (nI e) (nI (cf_n c)) kn zs cr em ap wt (ar_f (cf_pr c)) (ar_f (cf_fr c)) (ar_f (cf_to c)) (ar_f (cf_rs c)) (ar_f (cf_sg c)) (ar_f (cf_le c)) (ar_f (cf_gr c)) (ar_f (cf_bd c)) (ar_f (cf_hu c)) so fm xl xh zp zb az tm qu (n + 1) 1 (nI k) := by
  rw [wX_allows_5]
  have one : ¬ (1 : Int32) = 0 := by decide
  have r1 := cf_ole ok (2 * e + k)
  have r2 := cf_ogr ok (2 * e + k)
  have r3 : sp_cv k (s / 8 % 8) (s % 8) < 8 := by unfold sp_cv; split <;> omega
  refine pk_le 2 k (fun z => absurd z (by omega)) (fun _ => xr_value hs hk (br_f one ?_))
  rw [xr_2, xr_c (n := 2 * e + k) (by omega), xr_g, xr_g]
  refine ⟨xr_i (by omega), pk_lt (sp_cv k (s / 8 % 8) (s % 8)) (cf_le c (2 * e + k)) (fun z => nm_r (nI_1 k) (h0 (fun w => by have := w.1; omega))) (fun z => ⟨xr_i (by omega), ?_⟩)⟩
  refine pk_eq (cf_gr c (2 * e + k)) 7 (fun y => nm_r (nI_1 k) (h1 ⟨z, Or.inl y⟩)) (fun y => ⟨xr_i (by omega), ?_⟩)
  exact pk_lt (cf_gr c (2 * e + k)) (sp_cv k (s / 8 % 8) (s % 8)) (fun x => nm_r (nI_1 k) (h0 (fun w => by have := w.2; omega))) (fun x => nm_r (nI_1 k) (h1 ⟨z, Or.inr x⟩))
theorem xr_al2 {s e n : Nat} {x : Int32} (hx : x = 0 ∨ x = 1) (h : post x) : wX_allows_5 post (nI s) (nI e) (nI (cf_n c)) kn zs cr em ap wt (ar_f (cf_pr c)) (ar_f (cf_fr c)) (ar_f (cf_to c)) (ar_f (cf_rs c)) (ar_f (cf_sg c)) (ar_f (cf_le c)) (ar_f (cf_gr c)) (ar_f (cf_bd c)) (ar_f (cf_hu c)) so fm xl xh zp zb az tm qu (n + 1) x (nI 2) := by
  rw [wX_allows_5]
  refine pk_le 2 2 (fun _ => ⟨?_, h⟩) (fun z => absurd z (by omega))
  rcases hx with e | e
  · subst e; rfl
  · subst e; rfl
theorem xr_allows (ok : cf_ok c) {s e : Nat} (hs : s < 1024) (he : e < 12) (h1 : sp_grd c e (s / 8 % 8) (s % 8) → post 1) (h0 : ¬ sp_grd c e (s / 8 % 8) (s % 8) → post 0) : wpX_allows post (nI (cf_n c), kn, zs, cr, em, ap, wt, ar_f (cf_pr c), ar_f (cf_fr c), ar_f (cf_to c), ar_f (cf_rs c), ar_f (cf_sg c), ar_f (cf_le c), ar_f (cf_gr c), ar_f (cf_bd c), ar_f (cf_hu c), so, fm, xl, xh, zp, zb, az, tm, qu) (nI s) (nI e) := by
  unfold wpX_allows
  refine ⟨3, ?_⟩
  exact xr_al1 (k := 0) ok hs he (by omega)
    (fun a => xr_al1 (k := 1) ok hs he (by omega) (fun b => xr_al2 (Or.inr rfl) (h1 ⟨a, b⟩)) (fun b => xr_al2 (Or.inl rfl) (h0 (fun w => b w.2))))
    (fun a => xr_al0 (k := 1) hs (by omega) (xr_al2 (Or.inl rfl) (h0 (fun w => a w.1))))
theorem xr_kb0 (ok : cf_ok c) {s n k : Nat} (hs : s < 1024) (hk : k < 2) (h : wX_keepsBounds_4 post (nI s) (nI (cf_n c)) kn zs cr em ap wt (ar_f (cf_pr c)) (ar_f (cf_fr c)) (ar_f (cf_to c)) (ar_f (cf_rs c)) (ar_f (cf_sg c)) (ar_f (cf_le c)) (ar_f (cf_gr c)) (ar_f (cf_bd c)) (ar_f (cf_hu c)) so fm xl xh zp zb az tm qu n 0 (nI (k + 1))) : wX_keepsBounds_4 post (nI s) (nI (cf_n c)) kn zs cr em ap wt (ar_f (cf_pr c)) (ar_f (cf_fr c)) (ar_f (cf_to c)) (ar_f (cf_rs c)) (ar_f (cf_sg c)) (ar_f (cf_le c)) (ar_f (cf_gr c)) (ar_f (cf_bd c)) (ar_f (cf_hu c)) so fm xl xh zp zb az tm qu (n + 1) 0 (nI k) := by
  rw [wX_keepsBounds_4, xr_shr6 hs]
  refine pk_le 2 k (fun z => absurd z (by omega)) (fun _ => xr_bound ok (by omega) hk (br_t rfl (nm_r (nI_1 k) h)))
theorem xr_kb1 (ok : cf_ok c) {s n k : Nat} (hs : s < 1024) (hk : k < 2) (h1 : sp_cv k (s / 8 % 8) (s % 8) ≤ sp_bnd c (s / 64) k → wX_keepsBounds_4 post (nI s) (nI (cf_n c)) kn zs cr em ap wt (ar_f (cf_pr c)) (ar_f (cf_fr c)) (ar_f (cf_to c)) (ar_f (cf_rs c)) (ar_f (cf_sg c)) (ar_f (cf_le c)) (ar_f (cf_gr c)) (ar_f (cf_bd c)) (ar_f (cf_hu c)) so fm xl xh zp zb az tm qu n 1 (nI (k + 1)))
    (h0 : ¬ sp_cv k (s / 8 % 8) (s % 8) ≤ sp_bnd c (s / 64) k → wX_keepsBounds_4 post (nI s) (nI (cf_n c)) kn zs cr em ap wt (ar_f (cf_pr c)) (ar_f (cf_fr c)) (ar_f (cf_to c)) (ar_f (cf_rs c)) (ar_f (cf_sg c)) (ar_f (cf_le c)) (ar_f (cf_gr c)) (ar_f (cf_bd c)) (ar_f (cf_hu c)) so fm xl xh zp zb az tm qu n 0 (nI (k + 1))) : wX_keepsBounds_4 post (nI s) (nI (cf_n c)) kn zs cr em ap wt (ar_f (cf_pr c)) (ar_f (cf_fr c)) (ar_f (cf_to c)) (ar_f (cf_rs c)) (ar_f (cf_sg c)) (ar_f (cf_le c)) (ar_f (cf_gr c)) (ar_f (cf_bd c)) (ar_f (cf_hu c)) so fm xl xh zp zb az tm qu (n + 1) 1 (nI k) := by
  rw [wX_keepsBounds_4, xr_shr6 hs]
  have one : ¬ (1 : Int32) = 0 := by decide
  have r2 := sp_bnd_r ok (s / 64) k
  have r3 : sp_cv k (s / 8 % 8) (s % 8) < 8 := by unfold sp_cv; split <;> omega
  refine pk_le 2 k (fun z => absurd z (by omega)) (fun _ => xr_bound ok (by omega) hk (br_f one ?_))
  refine pk_eq (sp_bnd c (s / 64) k) 7 (fun y => nm_r (nI_1 k) (h1 (by omega))) (fun y => xr_value hs hk ?_)
  exact pk_lt (sp_bnd c (s / 64) k) (sp_cv k (s / 8 % 8) (s % 8)) (fun x => nm_r (nI_1 k) (h0 (by omega))) (fun x => nm_r (nI_1 k) (h1 x))
theorem xr_kb2 {s n : Nat} {x : Int32} (hx : x = 0 ∨ x = 1) (h : post x) : wX_keepsBounds_4 post (nI s) (nI (cf_n c)) kn zs cr em ap wt (ar_f (cf_pr c)) (ar_f (cf_fr c)) (ar_f (cf_to c)) (ar_f (cf_rs c)) (ar_f (cf_sg c)) (ar_f (cf_le c)) (ar_f (cf_gr c)) (ar_f (cf_bd c)) (ar_f (cf_hu c)) so fm xl xh zp zb az tm qu (n + 1) x (nI 2) := by
  rw [wX_keepsBounds_4]
  refine pk_le 2 2 (fun _ => ⟨?_, h⟩) (fun z => absurd z (by omega))
  rcases hx with e | e
  · subst e; rfl
  · subst e; rfl
theorem xr_keeps (ok : cf_ok c) {s : Nat} (hs : s < 1024) (h1 : bf_in c s → post 1) (h0 : ¬ bf_in c s → post 0) : wpX_keepsBounds post (nI (cf_n c), kn, zs, cr, em, ap, wt, ar_f (cf_pr c), ar_f (cf_fr c), ar_f (cf_to c), ar_f (cf_rs c), ar_f (cf_sg c), ar_f (cf_le c), ar_f (cf_gr c), ar_f (cf_bd c), ar_f (cf_hu c), so, fm, xl, xh, zp, zb, az, tm, qu) (nI s) := by
  unfold wpX_keepsBounds
  refine ⟨3, ?_⟩
  exact xr_kb1 (k := 0) ok hs (by omega)
    (fun a => xr_kb1 (k := 1) ok hs (by omega) (fun b => xr_kb2 (Or.inr rfl) (h1 ⟨a, b⟩)) (fun b => xr_kb2 (Or.inl rfl) (h0 (fun w => b w.2))))
    (fun a => xr_kb0 (k := 1) ok hs (by omega) (xr_kb2 (Or.inl rfl) (h0 (fun w => a w.1))))
end
end
section
/-! X: limits of the zone at work -/
theorem xz_12 {k i : Nat} (hk : k < 16) (hi : i < 4) : (nI k &&& 12) ||| nI i = nI (4 * (k / 4) + i) := by
  rw [xr_12 k hk i hi, Nat.mul_comm]
theorem xz_4k {j k : Nat} (hk : k < 16) : (4 : Int32) * nI j + (nI k &&& 3) = nI (4 * j + k % 4) := by
  rw [xr_and3 (by omega), xr_4m]
/-- rows of a matrix written one by one -/
def xz_H (L d : Nat → Nat → Int) (k : Nat) (az : Nat → Int32) : Prop := ∀ x y, x < 4 → y < 4 → (az (4 * x + y)).toInt = if 4 * x + y < k then L x y else d x y
theorem xz_H0 (L : Nat → Nat → Int) (az : Nat → Int32) : xz_H L (zw_a az) 0 az := fun x y _ _ => by
  rw [if_neg (by omega)]; rfl
theorem xz_H16 {L d : Nat → Nat → Int} {az : Nat → Int32} (h : xz_H L d 16 az) : zo_E (zw_a az) L := fun x y hx hy => by
  have := h x y hx hy
  rw [if_pos (by omega)] at this
  exact this
theorem xz_Hs {L d : Nat → Nat → Int} {k : Nat} {az : Nat → Int32} {v : Int32} (h : xz_H L d k az) (hv : v.toInt = L (k / 4) (k % 4)) : xz_H L d (k + 1) (upd az k v) := by
  intro x y hx hy
  by_cases e : 4 * x + y = k
  · rw [e, pk_us, if_pos (by omega), hv]
    have e1 : k / 4 = x := by omega
    have e2 : k % 4 = y := by omega
    rw [e1, e2]
  · rw [pk_un e, h x y hx hy]
    by_cases q : 4 * x + y < k
    · rw [if_pos q, if_pos (by omega)]
    · rw [if_neg q, if_neg (by omega)]
theorem xz_Hr {L d : Nat → Nat → Int} {k x y : Nat} {az : Nat → Int32} (h : xz_H L d k az) (hx : x < 4) (hy : y < 4) (e : L x y = d x y) : (az (4 * x + y)).toInt = d x y := by
  rw [h x y hx hy]
  split
  · exact e
  · rfl
theorem xz_Hk {L d : Nat → Nat → Int} {k : Nat} {az : Nat → Int32} (h : xz_H L d k az) (hk : k < 16) : (az k).toInt = d (k / 4) (k % 4) := by
  have := h (k / 4) (k % 4) (by omega) (by omega)
  rw [show 4 * (k / 4) + k % 4 = k by omega, if_neg (by omega)] at this
  exact this
section
variable {c : Cf_t} {kn zs cr em ap wt : Int32} {so fm xl xh zp zb az tm qu : Nat → Int32}
variable {post : SX → Prop} {d : Nat → Nat → Int}
theorem xz_lim_l {i j : Nat} {b : Int32} (hd : zo_CZ d) (hi : i < 4) (hj : j < 4) (hb : -20 ≤ b.toInt ∧ b.toInt ≤ 20) (hr : d j i < 1000 → 0 ≤ d j i + b.toInt)
    (K : ∀ az', zo_E (zw_a az') (zo_lim d i j b.toInt) → post (nI (cf_n c), kn, zs, cr, em, ap, wt, ar_f (cf_pr c), ar_f (cf_fr c), ar_f (cf_to c), ar_f (cf_rs c), ar_f (cf_sg c), ar_f (cf_le c), ar_f (cf_gr c), ar_f (cf_bd c), ar_f (cf_hu c), so, fm, xl, xh, zp, zb, az', tm, qu)) :
    ∀ m k az', k + m = 16 → xz_H (zo_lim d i j b.toInt) d k az' → wX_limit_53 post (nI i) (nI j) b (nI (cf_n c)) kn zs cr em ap wt (m + 1) (nI k) (ar_f (cf_pr c)) (ar_f (cf_fr c)) (ar_f (cf_to c)) (ar_f (cf_rs c)) (ar_f (cf_sg c)) (ar_f (cf_le c)) (ar_f (cf_gr c)) (ar_f (cf_bd c)) (ar_f (cf_hu c)) so fm xl xh zp zb az' tm qu := by
  intro m
  induction m with
  | zero =>
    intro k az' e H
    have ek : k = 16 := by omega
    subst ek
    rw [wX_limit_53]
    exact pk_le 16 16 (fun _ => K az' (xz_H16 H)) (fun z => absurd z (by omega))
  | succ m ih =>
    intro k az' e H
    have hk : k < 16 := by omega
    have hx : k / 4 < 4 := by omega
    have hy : k % 4 < 4 := by omega
    rw [wX_limit_53]
    dsimp only
    rw [xz_12 hk hi, xz_4k hk, xr_c (n := 4 * (k / 4) + i) (by omega), xr_c (n := 4 * j + k % 4) (by omega), xr_c (n := k) (by omega)]
    have v1 := xz_Hr H hx hi (zo_lim_c hd hi hj hb.2 hr hx)
    have v2 := xz_Hr H hj hy (zo_lim_r hd hi hj hb.2 hr hy)
    have v3 := xz_Hk H hk
    have r1 := zo_lo hd hx hi
    have r1' := zo_le1000 hd hx hi
    have r2 := zo_lo hd hj hy
    have r2' := zo_le1000 hd hj hy
    refine pk_le 16 k (fun z => absurd z (by omega)) (fun _ => ⟨xr_i (by omega), xr_sum (by omega) (by omega) (fun r hr1 => ⟨xr_i (by omega), xr_sum ?_ (by omega) (fun r' hr2 => ⟨xr_i hk, ?_⟩)⟩)⟩)
    · rw [hr1, v1]; unfold zo_sm; split <;> omega
    · rw [hr1, v1, v2] at hr2
      have eL : zo_lim d i j b.toInt (k / 4) (k % 4) = if r'.toInt < (az' k).toInt then r'.toInt else (az' k).toInt := by
        rw [hr2, v3]; rfl
      refine br_c (fun z => ⟨xr_i hk, xr_i hk, nm_e (nm_r (nI_1 k) (ih (k + 1) _ (by omega) (xz_Hs H ?_)))⟩) (fun z => ⟨xr_i hk, nm_e (nm_r (nI_1 k) (ih (k + 1) _ (by omega) (xz_Hs H ?_)))⟩)
      · rw [Int32.le_iff_toInt_le] at z
        rw [eL, if_neg (by omega)]
      · rw [Int32.le_iff_toInt_le] at z
        rw [eL, if_pos (by omega)]
end
/-- the zone at work stands for the points S (fin: all bounded) -/
def zx_D (fin : Prop) (az : Nat → Int32) (em : Int32) (S : (Nat → Int) → Prop) : Prop :=
  (em = 1 ∧ ∀ p, ¬ S p) ∨ (em = 0 ∧ zo_CZ (zw_a az) ∧ (fin → zo_Fin (zw_a az)) ∧ ∀ p, zo_M (zw_a az) p ↔ S p)
theorem zx_D_c {fin : Prop} {az : Nat → Int32} {em : Int32} {S S' : (Nat → Int) → Prop} (h : zx_D fin az em S) (e : ∀ p, S p ↔ S' p) : zx_D fin az em S' := by
  rcases h with ⟨h1, h2⟩ | ⟨h1, h2, h3, h4⟩
  · exact Or.inl ⟨h1, fun p m => h2 p ((e p).mpr m)⟩
  · exact Or.inr ⟨h1, h2, h3, fun p => (h4 p).trans (e p)⟩
section
variable {c : Cf_t} {kn zs cr em ap wt : Int32} {so fm xl xh zp zb az tm qu : Nat → Int32}
variable {post : SX → Prop} {fin : Prop} {S : (Nat → Int) → Prop}
theorem xz_limit {i j : Nat} {b : Int32} (D : zx_D fin az em S) (hi : i < 4) (hj : j < 4) (hb : -20 ≤ b.toInt ∧ b.toInt ≤ 20) (hk : (j = 0 ∧ i ≠ 0) ∨ (fin ∧ i = 0))
    (K : ∀ az' em', zx_D fin az' em' (fun p => S p ∧ p i - p j ≤ b.toInt) → (em' = 0 → zw_a az' i j ≤ b.toInt) → post (nI (cf_n c), kn, zs, cr, em', ap, wt, ar_f (cf_pr c), ar_f (cf_fr c), ar_f (cf_to c), ar_f (cf_rs c), ar_f (cf_sg c), ar_f (cf_le c), ar_f (cf_gr c), ar_f (cf_bd c), ar_f (cf_hu c), so, fm, xl, xh, zp, zb, az', tm, qu)) : wpX_limit post (nI (cf_n c), kn, zs, cr, em, ap, wt, ar_f (cf_pr c), ar_f (cf_fr c), ar_f (cf_to c), ar_f (cf_rs c), ar_f (cf_sg c), ar_f (cf_le c), ar_f (cf_gr c), ar_f (cf_bd c), ar_f (cf_hu c), so, fm, xl, xh, zp, zb, az, tm, qu) (nI i) (nI j) b := by
  unfold wpX_limit
  rw [xr_4m, xr_4m, xr_c (n := 4 * i + j) (by omega), xr_c (n := 4 * j + i) (by omega)]
  have one : (1 : Int32) ≠ 0 := by decide
  have zer : (0 : Int32).toInt = 0 := by decide
  rcases D with ⟨rfl, D2⟩ | ⟨rfl, D2, D3, D4⟩
  · exact br_f one (K az 1 (Or.inl ⟨rfl, fun p m => D2 p m.1⟩) (fun z => absurd z one))
  · have r1 := zo_lo D2 hj hi
    have r1' := zo_le1000 D2 hj hi
    have e1 : (az (4 * j + i)).toInt = zw_a az j i := rfl
    have e2 : (az (4 * i + j)).toInt = zw_a az i j := rfl
    refine br_t rfl ⟨xr_i (by omega), br_c (fun z => ⟨xr_i (by omega), xr_sum (by omega) (by omega) (fun r hr => ?_)⟩) (fun z => ?_)⟩
    · rw [e1] at hr
      unfold zo_sm at hr
      refine br_c (fun y => ?_) (fun y => ?_)
      · rw [Int32.le_iff_toInt_le, zer] at y
        have hr' : zw_a az j i < 1000 → 0 ≤ zw_a az j i + b.toInt := fun w => by
          rw [if_neg (by omega)] at hr; omega
        refine ⟨17, xz_lim_l D2 hi hj hb hr' (fun az' E => K az' 0 (Or.inr ⟨rfl, zo_E_CZ E (zo_lim_cz D2 hi hj hb.2 hr' (hk.imp id (fun w => ⟨D3 w.1, w.2⟩))), fun w => zo_E_F E (zo_lim_f (D3 w)), fun p => ?_⟩) (fun _ => ?_)) 16 0 az (by omega) (xz_H0 _ az)⟩
        · rw [zo_E_M E, zo_lim_m D2 hi hj hb.2, D4]
        · rw [E i j hi hj]; exact zo_lim_ij D2 hi hj hb.2
      · rw [Int32.le_iff_toInt_le, zer] at y
        have lt : zw_a az j i < 1000 ∧ zw_a az j i + b.toInt < 0 := by
          by_cases w : 1000 ≤ zw_a az j i ∨ 1000 ≤ b.toInt
          · rw [if_pos w] at hr; omega
          · rw [if_neg w] at hr; omega
        exact K az 1 (Or.inl ⟨rfl, fun p m => zo_lim_e hi hj lt.1 lt.2 ((D4 p).mpr m.1) m.2⟩) (fun w => absurd w one)
    · rw [Int32.lt_iff_toInt_lt, e2] at z
      refine K az 0 (Or.inr ⟨rfl, D2, D3, fun p => ⟨fun m => ⟨(D4 p).mp m, zo_lim_n hi hj (by omega) (by omega) m⟩, fun m => (D4 p).mpr m.1⟩⟩) (fun _ => by omega)
/-! the bounds of a pair -/
theorem xz_lbs (ok : cf_ok c) {q k n : Nat} (hq : q < 16) (hk : k < 2) (D : zx_D fin az em S)
    (K : ∀ az' em', zx_D fin az' em' (fun p => S p ∧ (sp_bnd c q k < 7 → p (k + 1) - p 0 ≤ sp_bnd c q k)) → wX_limitByBounds_2 post n (nI (k + 1)) (nI (cf_n c)) kn zs cr em' (nI q) wt (ar_f (cf_pr c)) (ar_f (cf_fr c)) (ar_f (cf_to c)) (ar_f (cf_rs c)) (ar_f (cf_sg c)) (ar_f (cf_le c)) (ar_f (cf_gr c)) (ar_f (cf_bd c)) (ar_f (cf_hu c)) so fm xl xh zp zb az' tm qu) :
    wX_limitByBounds_2 post (n + 1) (nI k) (nI (cf_n c)) kn zs cr em (nI q) wt (ar_f (cf_pr c)) (ar_f (cf_fr c)) (ar_f (cf_to c)) (ar_f (cf_rs c)) (ar_f (cf_sg c)) (ar_f (cf_le c)) (ar_f (cf_gr c)) (ar_f (cf_bd c)) (ar_f (cf_hu c)) so fm xl xh zp zb az tm qu := by
  rw [wX_limitByBounds_2]
  dsimp only
  rw [nI_1]
  have r := sp_bnd_r ok q k
  have e : (nI (sp_bnd c q k)).toInt = (sp_bnd c q k : Int) := nI_toInt (by omega)
  refine pk_le 2 k (fun z => absurd z (by omega)) (fun _ => xr_bound ok hq hk (pk_le 7 (sp_bnd c q k) (fun z => ?_) (fun z => ?_)))
  · exact nm_e (K az em (zx_D_c D (fun p => ⟨fun m => ⟨m, fun w => by omega⟩, fun m => m.1⟩)))
  · refine xz_limit (j := 0) D (by omega) (by omega) (by omega) (Or.inl ⟨rfl, by omega⟩) (fun az' em' D' _ => ?_)
    refine nm_e (K az' em' (zx_D_c D' (fun p => ?_)))
    rw [e]
    exact ⟨fun m => ⟨m.1, fun _ => m.2⟩, fun m => ⟨m.1, m.2 z⟩⟩
theorem xz_lb (ok : cf_ok c) {q : Nat} (hq : q < 16) (D : zx_D fin az em S)
    (K : ∀ az' em', zx_D fin az' em' (fun p => (S p ∧ (sp_bnd c q 0 < 7 → p 1 - p 0 ≤ sp_bnd c q 0)) ∧ (sp_bnd c q 1 < 7 → p 2 - p 0 ≤ sp_bnd c q 1)) → post (nI (cf_n c), kn, zs, cr, em', nI q, wt, ar_f (cf_pr c), ar_f (cf_fr c), ar_f (cf_to c), ar_f (cf_rs c), ar_f (cf_sg c), ar_f (cf_le c), ar_f (cf_gr c), ar_f (cf_bd c), ar_f (cf_hu c), so, fm, xl, xh, zp, zb, az', tm, qu)) :
    wpX_limitByBounds post (nI (cf_n c), kn, zs, cr, em, nI q, wt, ar_f (cf_pr c), ar_f (cf_fr c), ar_f (cf_to c), ar_f (cf_rs c), ar_f (cf_sg c), ar_f (cf_le c), ar_f (cf_gr c), ar_f (cf_bd c), ar_f (cf_hu c), so, fm, xl, xh, zp, zb, az, tm, qu) := by
  unfold wpX_limitByBounds
  refine ⟨3, xz_lbs (k := 0) ok hq (by omega) D (fun az' em' D' => xz_lbs (k := 1) ok hq (by omega) D' (fun az'' em'' D'' => ?_))⟩
  rw [wX_limitByBounds_2]
  exact pk_le 2 2 (fun _ => K az'' em'' D'') (fun z => absurd z (by omega))
/-! the guards of an edge -/
def zx_g (c : Cf_t) (k : Nat) (i : Nat) (p : Nat → Int) : Prop := p 0 - p i ≤ -(cf_le c k : Int) ∧ (cf_gr c k < 7 → p i - p 0 ≤ cf_gr c k)
theorem xz_les (ok : cf_ok c) {e k n : Nat} (he : e < 12) (hk : k < 2) (D : zx_D True az em S)
    (K : ∀ az' em', zx_D True az' em' (fun p => S p ∧ zx_g c (2 * e + k) (k + 1) p) → wX_limitByEdge_2 post (nI e) n (nI (k + 1)) (nI (cf_n c)) kn zs cr em' ap wt (ar_f (cf_pr c)) (ar_f (cf_fr c)) (ar_f (cf_to c)) (ar_f (cf_rs c)) (ar_f (cf_sg c)) (ar_f (cf_le c)) (ar_f (cf_gr c)) (ar_f (cf_bd c)) (ar_f (cf_hu c)) so fm xl xh zp zb az' tm qu) :
    wX_limitByEdge_2 post (nI e) (n + 1) (nI k) (nI (cf_n c)) kn zs cr em ap wt (ar_f (cf_pr c)) (ar_f (cf_fr c)) (ar_f (cf_to c)) (ar_f (cf_rs c)) (ar_f (cf_sg c)) (ar_f (cf_le c)) (ar_f (cf_gr c)) (ar_f (cf_bd c)) (ar_f (cf_hu c)) so fm xl xh zp zb az tm qu := by
  rw [wX_limitByEdge_2]
  dsimp only
  rw [xr_2, nI_1, xr_c (n := 2 * e + k) (by omega), xr_g]
  have r1 := cf_ole ok (2 * e + k)
  have r2 := cf_ogr ok (2 * e + k)
  have e1 : (nI (cf_le c (2 * e + k))).toInt = (cf_le c (2 * e + k) : Int) := nI_toInt (by omega)
  have e2 : (nI (cf_gr c (2 * e + k))).toInt = (cf_gr c (2 * e + k) : Int) := nI_toInt (by omega)
  have e3 : (-nI (cf_le c (2 * e + k))).toInt = -(cf_le c (2 * e + k) : Int) := by rw [xr_neg (by omega), e1]
  refine pk_le 2 k (fun z => absurd z (by omega)) (fun _ => ⟨xr_i (by omega), xz_limit (i := 0) D (by omega) (by omega) (by omega) (Or.inr ⟨trivial, rfl⟩) (fun az' em' D' _ => ?_)⟩)
  refine ⟨xr_i (by omega), ?_⟩
  refine pk_le 7 (cf_gr c (2 * e + k)) (fun z => ?_) (fun z => ⟨xr_i (by omega), ?_⟩)
  · refine nm_e (K az' em' (zx_D_c D' (fun p => ?_)))
    rw [e3]
    exact ⟨fun m => ⟨m.1, m.2, fun w => by omega⟩, fun m => ⟨m.1, m.2.1⟩⟩
  · refine xz_limit (j := 0) (b := nI (cf_gr c (2 * e + k))) D' (by omega) (by omega) (by rw [e2]; omega) (Or.inl ⟨rfl, by omega⟩) (fun az'' em'' D'' _ => ?_)
    refine nm_e (K az'' em'' (zx_D_c D'' (fun p => ?_)))
    rw [e3, e2]
    exact ⟨fun m => ⟨m.1.1, m.1.2, fun _ => m.2⟩, fun m => ⟨⟨m.1, m.2.1⟩, m.2.2 z⟩⟩
theorem xz_le (ok : cf_ok c) {e : Nat} (he : e < 12) (D : zx_D True az em S)
    (K : ∀ az' em', zx_D True az' em' (fun p => (S p ∧ zx_g c (2 * e) 1 p) ∧ zx_g c (2 * e + 1) 2 p) → post (nI (cf_n c), kn, zs, cr, em', ap, wt, ar_f (cf_pr c), ar_f (cf_fr c), ar_f (cf_to c), ar_f (cf_rs c), ar_f (cf_sg c), ar_f (cf_le c), ar_f (cf_gr c), ar_f (cf_bd c), ar_f (cf_hu c), so, fm, xl, xh, zp, zb, az', tm, qu)) : wpX_limitByEdge post (nI (cf_n c), kn, zs, cr, em, ap, wt, ar_f (cf_pr c), ar_f (cf_fr c), ar_f (cf_to c), ar_f (cf_rs c), ar_f (cf_sg c), ar_f (cf_le c), ar_f (cf_gr c), ar_f (cf_bd c), ar_f (cf_hu c), so, fm, xl, xh, zp, zb, az, tm, qu) (nI e) := by
  unfold wpX_limitByEdge
  refine ⟨3, xz_les (k := 0) ok he (by omega) D (fun az' em' D' => xz_les (k := 1) ok he (by omega) D' (fun az'' em'' D'' => ?_))⟩
  rw [wX_limitByEdge_2]
  exact pk_le 2 2 (fun _ => K az'' em'' D'') (fun z => absurd z (by omega))
end
end
section
/-! X: resets, waiting, widening of the zone at work -/
def zx_1 (az : Nat → Int32) (S : (Nat → Int) → Prop) : Prop := zo_CZ (zw_a az) ∧ zo_Fin (zw_a az) ∧ ∀ p, zo_M (zw_a az) p ↔ S p
theorem zx_1_c {az : Nat → Int32} {S S' : (Nat → Int) → Prop} (h : zx_1 az S) (e : ∀ p, S p ↔ S' p) : zx_1 az S' := ⟨h.1, h.2.1, fun p => (h.2.2 p).trans (e p)⟩
theorem zx_1_D {az : Nat → Int32} {S : (Nat → Int) → Prop} (h : zx_1 az S) : zx_D True az 0 S := Or.inr ⟨rfl, h.1, fun _ => h.2.1, h.2.2⟩
theorem zx_D_1 {az : Nat → Int32} {S : (Nat → Int) → Prop} (h : zx_D True az 0 S) : zx_1 az S := by
  rcases h with ⟨h1, h2⟩ | ⟨h1, h2, h3, h4⟩
  · exact absurd h1 (by decide)
  · exact ⟨h2, h3 trivial, h4⟩
def xz_u2 (az : Nat → Int32) (x k : Nat) : Nat → Int32 := upd (upd az (4 * x + k) (az k)) (4 * k + x) (upd az (4 * x + k) (az k) (4 * k))
def xz_u9 (az : Nat → Int32) (x : Nat) : Nat → Int32 := upd (xz_u2 (xz_u2 (xz_u2 (xz_u2 az x 0) x 1) x 2) x 3) (5 * x) 0
theorem xz_u9_1 (az : Nat → Int32) (h : zw_a az 0 0 = 0) : zo_E (zw_a (xz_u9 az 1)) (zo_rs (zw_a az) 1) := by
  have h' : (az 0).toInt = 0 := h
  intro i j hi hj
  rcases (by omega : i = 0 ∨ i = 1 ∨ i = 2 ∨ i = 3) with e | e | e | e <;> subst e <;> rcases (by omega : j = 0 ∨ j = 1 ∨ j = 2 ∨ j = 3) with e | e | e | e <;> subst e <;>
    simp [zw_a, zo_rs, xz_u9, xz_u2, upd, h']
theorem xz_u9_2 (az : Nat → Int32) (h : zw_a az 0 0 = 0) : zo_E (zw_a (xz_u9 az 2)) (zo_rs (zw_a az) 2) := by
  have h' : (az 0).toInt = 0 := h
  intro i j hi hj
  rcases (by omega : i = 0 ∨ i = 1 ∨ i = 2 ∨ i = 3) with e | e | e | e <;> subst e <;> rcases (by omega : j = 0 ∨ j = 1 ∨ j = 2 ∨ j = 3) with e | e | e | e <;> subst e <;>
    simp [zw_a, zo_rs, xz_u9, xz_u2, upd, h']
theorem xz_5 (x : Nat) : (5 : Int32) * nI x = nI (5 * x) := pk_mul 5 x
theorem xz_4 (x : Nat) : (4 : Int32) * nI x = nI (4 * x) := pk_mul 4 x
section
variable {c : Cf_t} {kn zs cr em ap wt : Int32} {so fm xl xh zp zb az tm qu : Nat → Int32}
variable {post : SX → Prop} {S : (Nat → Int) → Prop}
theorem xz_rcs {x k n : Nat} (hx : x < 3) (hk : k < 4) (h : wX_resetClock_2 post (nI x) (nI (cf_n c)) kn zs cr em ap wt n (nI (k + 1)) (ar_f (cf_pr c)) (ar_f (cf_fr c)) (ar_f (cf_to c)) (ar_f (cf_rs c)) (ar_f (cf_sg c)) (ar_f (cf_le c)) (ar_f (cf_gr c)) (ar_f (cf_bd c)) (ar_f (cf_hu c)) so fm xl xh zp zb (xz_u2 az x k) tm qu) : wX_resetClock_2 post (nI x) (nI (cf_n c)) kn zs cr em ap wt (n + 1) (nI k) (ar_f (cf_pr c)) (ar_f (cf_fr c)) (ar_f (cf_to c)) (ar_f (cf_rs c)) (ar_f (cf_sg c)) (ar_f (cf_le c)) (ar_f (cf_gr c)) (ar_f (cf_bd c)) (ar_f (cf_hu c)) so fm xl xh zp zb az tm qu := by
  rw [wX_resetClock_2]
  dsimp only
  rw [xr_4m, xr_4m, xz_4, xr_c (n := k) (by omega), xr_c (n := 4 * x + k) (by omega), xr_c (n := 4 * k) (by omega), xr_c (n := 4 * k + x) (by omega)]
  exact pk_le 4 k (fun z => absurd z (by omega)) (fun _ => ⟨xr_i (by omega), xr_i (by omega), nm_e ⟨xr_i (by omega), xr_i (by omega), nm_e (nm_r (nI_1 k) h)⟩⟩)
theorem xz_rce {x n : Nat} (hx : x < 3) (h : post (nI (cf_n c), kn, zs, cr, em, ap, wt, ar_f (cf_pr c), ar_f (cf_fr c), ar_f (cf_to c), ar_f (cf_rs c), ar_f (cf_sg c), ar_f (cf_le c), ar_f (cf_gr c), ar_f (cf_bd c), ar_f (cf_hu c), so, fm, xl, xh, zp, zb, upd az (5 * x) 0, tm, qu)) : wX_resetClock_2 post (nI x) (nI (cf_n c)) kn zs cr em ap wt (n + 1) (nI 4) (ar_f (cf_pr c)) (ar_f (cf_fr c)) (ar_f (cf_to c)) (ar_f (cf_rs c)) (ar_f (cf_sg c)) (ar_f (cf_le c)) (ar_f (cf_gr c)) (ar_f (cf_bd c)) (ar_f (cf_hu c)) so fm xl xh zp zb az tm qu := by
  rw [wX_resetClock_2]
  dsimp only
  rw [xz_5, xr_c (n := 5 * x) (by omega)]
  exact pk_le 4 4 (fun _ => ⟨xr_i (by omega), nm_e h⟩) (fun z => absurd z (by omega))
theorem xz_reset {x : Nat} (hx : x = 1 ∨ x = 2) (D : zx_1 az S) (K : ∀ az', zx_1 az' (fun p' => ∃ p, S p ∧ p' x = 0 ∧ ∀ i, i < 4 → i ≠ x → p' i = p i) → post (nI (cf_n c), kn, zs, cr, em, ap, wt, ar_f (cf_pr c), ar_f (cf_fr c), ar_f (cf_to c), ar_f (cf_rs c), ar_f (cf_sg c), ar_f (cf_le c), ar_f (cf_gr c), ar_f (cf_bd c), ar_f (cf_hu c), so, fm, xl, xh, zp, zb, az', tm, qu)) : wpX_resetClock post (nI (cf_n c), kn, zs, cr, em, ap, wt, ar_f (cf_pr c), ar_f (cf_fr c), ar_f (cf_to c), ar_f (cf_rs c), ar_f (cf_sg c), ar_f (cf_le c), ar_f (cf_gr c), ar_f (cf_bd c), ar_f (cf_hu c), so, fm, xl, xh, zp, zb, az, tm, qu) (nI x) := by
  unfold wpX_resetClock
  have h3 : x < 3 := by omega
  refine ⟨5, xz_rcs (k := 0) h3 (by omega) (xz_rcs (k := 1) h3 (by omega) (xz_rcs (k := 2) h3 (by omega) (xz_rcs (k := 3) h3 (by omega) (xz_rce h3 ?_))))⟩
  refine K (xz_u9 az x) ?_
  have E : zo_E (zw_a (xz_u9 az x)) (zo_rs (zw_a az) x) := by
    rcases hx with e | e
    · subst e; exact xz_u9_1 az (D.1.1 0 (by omega))
    · subst e; exact xz_u9_2 az (D.1.1 0 (by omega))
  obtain ⟨a, b⟩ := zo_rs_cz D.1 D.2.1 hx
  refine ⟨zo_E_CZ E a, zo_E_F E b, fun p' => ?_⟩
  rw [zo_E_M E, zo_rs_m D.1 D.2.1 hx]
  exact ⟨fun ⟨p, m, q⟩ => ⟨p, (D.2.2 p).mp m, q⟩, fun ⟨p, m, q⟩ => ⟨p, (D.2.2 p).mpr m, q⟩⟩
theorem xz_bit : ∀ s, s < 4 → ∀ k, k < 2 → ((nI s >>> (nI k &&& 31)) &&& 1) = nI (s / 2 ^ k % 2) := by decide +kernel
theorem xz_ras {s k n : Nat} (hs : s < 4) (hk : k < 2) (D : zx_1 az S)
    (K : ∀ az', zx_1 az' (fun p' => ∃ p, S p ∧ p' (k + 1) = (if s / 2 ^ k % 2 = 1 then 0 else p (k + 1)) ∧ ∀ i, i < 4 → i ≠ k + 1 → p' i = p i) → wX_resetAll_2 post (nI s) n (nI (k + 1)) (nI (cf_n c)) kn zs cr em ap wt (ar_f (cf_pr c)) (ar_f (cf_fr c)) (ar_f (cf_to c)) (ar_f (cf_rs c)) (ar_f (cf_sg c)) (ar_f (cf_le c)) (ar_f (cf_gr c)) (ar_f (cf_bd c)) (ar_f (cf_hu c)) so fm xl xh zp zb az' tm qu) :
    wX_resetAll_2 post (nI s) (n + 1) (nI k) (nI (cf_n c)) kn zs cr em ap wt (ar_f (cf_pr c)) (ar_f (cf_fr c)) (ar_f (cf_to c)) (ar_f (cf_rs c)) (ar_f (cf_sg c)) (ar_f (cf_le c)) (ar_f (cf_gr c)) (ar_f (cf_bd c)) (ar_f (cf_hu c)) so fm xl xh zp zb az tm qu := by
  rw [wX_resetAll_2]
  dsimp only
  rw [xz_bit s hs k hk, nI_1]
  refine pk_le 2 k (fun z => absurd z (by omega)) (fun _ => pk_eq (s / 2 ^ k % 2) 1 (fun z => ?_) (fun z => ?_))
  · refine xz_reset (by omega) D (fun az' D' => nm_e (K az' (zx_1_c D' (fun p' => ?_))))
    simp only [if_pos z]
  · refine nm_e (K az (zx_1_c D (fun p' => ?_)))
    simp only [if_neg z]
    constructor
    · intro m; exact ⟨p', m, rfl, fun _ _ _ => rfl⟩
    · intro ⟨p, m, e1, e2⟩
      refine (D.2.2 p').mp ?_
      have m := (D.2.2 p).mpr m
      have eq : ∀ i, i < 4 → p' i = p i := fun i hi => by
        by_cases q : i = k + 1
        · rw [q]; exact e1
        · exact e2 i hi q
      refine ⟨by rw [eq 0 (by omega)]; exact m.1, fun i j hi hj => ?_⟩
      rw [eq i hi, eq j hj]; exact m.2 i j hi hj
/-- after the resets of a set -/
def zx_r (s : Nat) (S : (Nat → Int) → Prop) (p' : Nat → Int) : Prop := ∃ p, S p ∧ p' 0 = p 0 ∧ p' 1 = (if s % 2 = 1 then 0 else p 1) ∧ p' 2 = (if s / 2 = 1 then 0 else p 2) ∧ p' 3 = p 3
theorem xz_ra {s : Nat} (hs : s < 4) (D : zx_1 az S) (K : ∀ az', zx_1 az' (zx_r s S) → post (nI (cf_n c), kn, zs, cr, em, ap, wt, ar_f (cf_pr c), ar_f (cf_fr c), ar_f (cf_to c), ar_f (cf_rs c), ar_f (cf_sg c), ar_f (cf_le c), ar_f (cf_gr c), ar_f (cf_bd c), ar_f (cf_hu c), so, fm, xl, xh, zp, zb, az', tm, qu)) : wpX_resetAll post (nI (cf_n c), kn, zs, cr, em, ap, wt, ar_f (cf_pr c), ar_f (cf_fr c), ar_f (cf_to c), ar_f (cf_rs c), ar_f (cf_sg c), ar_f (cf_le c), ar_f (cf_gr c), ar_f (cf_bd c), ar_f (cf_hu c), so, fm, xl, xh, zp, zb, az, tm, qu) (nI s) := by
  unfold wpX_resetAll
  refine ⟨3, xz_ras (k := 0) hs (by omega) D (fun az' D' => xz_ras (k := 1) hs (by omega) D' (fun az'' D'' => ?_))⟩
  rw [wX_resetAll_2]
  refine pk_le 2 2 (fun _ => K az'' (zx_1_c D'' (fun p'' => ?_))) (fun z => absurd z (by omega))
  have q0 : s / 2 ^ 0 % 2 = s % 2 := by rw [Nat.pow_zero, Nat.div_one]
  have q1 : s / 2 ^ 1 % 2 = s / 2 := by rw [Nat.pow_one]; omega
  rw [q0, q1]
  constructor
  · intro ⟨p', ⟨p, m, a1, a2⟩, b1, b2⟩
    refine ⟨p, m, ?_, ?_, ?_, ?_⟩
    · rw [b2 0 (by omega) (by omega), a2 0 (by omega) (by omega)]
    · rw [b2 1 (by omega) (by omega), a1]
    · rw [b1, a2 2 (by omega) (by omega)]
    · rw [b2 3 (by omega) (by omega), a2 3 (by omega) (by omega)]
  · intro ⟨p, m, e0, e1, e2, e3⟩
    refine ⟨fun i => if i = 1 then (if s % 2 = 1 then 0 else p 1) else p i, ⟨p, m, if_pos rfl, fun i _ hi => if_neg hi⟩, ?_, fun i hi hn => ?_⟩
    · show p'' 2 = if s / 2 = 1 then 0 else (if 2 = 1 then (if s % 2 = 1 then 0 else p 1) else p 2)
      rw [if_neg (c := 2 = 1) (by omega)]; exact e2
    · show p'' i = if i = 1 then (if s % 2 = 1 then 0 else p 1) else p i
      rcases (by omega : i = 0 ∨ i = 1 ∨ i = 3) with e | e | e
      · subst e; rw [if_neg (by omega)]; exact e0
      · subst e; rw [if_pos rfl]; exact e1
      · subst e; rw [if_neg (by omega)]; exact e3
/-! waiting -/
theorem xz_w35 (ok : cf_ok c) {q : Nat} (hq : q < 16) {fin : Prop} (D : zx_D fin az em S)
    (K : ∀ az' em', zx_D True az' em' (fun p => ((S p ∧ (sp_bnd c q 0 < 7 → p 1 - p 0 ≤ sp_bnd c q 0)) ∧ (sp_bnd c q 1 < 7 → p 2 - p 0 ≤ sp_bnd c q 1)) ∧ p 3 - p 0 ≤ 20) → post (nI (cf_n c), kn, zs, cr, em', nI q, wt, ar_f (cf_pr c), ar_f (cf_fr c), ar_f (cf_to c), ar_f (cf_rs c), ar_f (cf_sg c), ar_f (cf_le c), ar_f (cf_gr c), ar_f (cf_bd c), ar_f (cf_hu c), so, fm, xl, xh, zp, zb, az', tm, qu)) :
    wX_waitOn_35 post (nI (cf_n c)) kn zs cr em (nI q) wt (ar_f (cf_pr c)) (ar_f (cf_fr c)) (ar_f (cf_to c)) (ar_f (cf_rs c)) (ar_f (cf_sg c)) (ar_f (cf_le c)) (ar_f (cf_gr c)) (ar_f (cf_bd c)) (ar_f (cf_hu c)) so fm xl xh zp zb az tm qu := by
  unfold wX_waitOn_35
  have e20 : (20 : Int32).toInt = 20 := by decide
  refine xz_lb ok hq D (fun az' em' D' => ?_)
  refine xz_limit (i := 3) (j := 0) D' (by omega) (by omega) (by omega) (Or.inl ⟨rfl, by omega⟩) (fun az'' em'' D'' L => K az'' em'' ?_)
  rw [e20] at D'' L
  rcases D'' with D'' | ⟨h1, h2, h3, h4⟩
  · exact Or.inl D''
  · refine Or.inr ⟨h1, h2, fun _ i hi => ?_, h4⟩
    have l := L h1
    have a1 := h2.2.2.2.2.2.1
    have a2 := h2.2.2.2.2.2.2
    have a3 := h2.1 3 (by omega)
    have a0 := h2.1 0 (by omega)
    have c3 : zw_a az'' i 3 ≤ 0 := by
      rcases (by omega : i = 0 ∨ i = 1 ∨ i = 2 ∨ i = 3) with e | e | e | e
      · subst e; exact (h2.2.2.1 3 (by omega)).1
      · subst e; exact a1
      · subst e; exact a2
      · subst e; omega
    have t := h2.2.1 i 0 3 hi (by omega) (by omega) (by omega) (by omega)
    omega
theorem xz_w13 (ok : cf_ok c) {k n : Nat} (hk : k < 4) (h : wX_waitOn_13 post (nI (cf_n c)) kn zs cr em ap wt n (nI (k + 1)) (ar_f (cf_pr c)) (ar_f (cf_fr c)) (ar_f (cf_to c)) (ar_f (cf_rs c)) (ar_f (cf_sg c)) (ar_f (cf_le c)) (ar_f (cf_gr c)) (ar_f (cf_bd c)) (ar_f (cf_hu c)) so fm xl xh zp zb (upd az (4 * k) 1000) tm qu) : wX_waitOn_13 post (nI (cf_n c)) kn zs cr em ap wt (n + 1) (nI k) (ar_f (cf_pr c)) (ar_f (cf_fr c)) (ar_f (cf_to c)) (ar_f (cf_rs c)) (ar_f (cf_sg c)) (ar_f (cf_le c)) (ar_f (cf_gr c)) (ar_f (cf_bd c)) (ar_f (cf_hu c)) so fm xl xh zp zb az tm qu := by
  rw [wX_waitOn_13]
  dsimp only
  rw [xz_4, xr_c (n := 4 * k) (by omega)]
  exact pk_le 4 k (fun z => absurd z (by omega)) (fun _ => ⟨xr_i (by omega), nm_e (nm_r (nI_1 k) h)⟩)
theorem xz_el (az : Nat → Int32) : zo_E (zw_a (upd (upd (upd az 4 1000) 8 1000) 12 1000)) (zo_el (zw_a az)) := by
  intro i j hi hj
  have e := xr_1000
  rcases (by omega : i = 0 ∨ i = 1 ∨ i = 2 ∨ i = 3) with q | q | q | q <;> subst q <;> rcases (by omega : j = 0 ∨ j = 1 ∨ j = 2 ∨ j = 3) with q | q | q | q <;> subst q <;>
    simp [zw_a, zo_el, upd, e]
theorem xz_wait (ok : cf_ok c) {q : Nat} (hq : q < 16) (D : zx_1 az S) (K : ∀ az' em', zx_D True az' em' (zo_W c q S) → post (nI (cf_n c), kn, zs, cr, em', nI q, wt, ar_f (cf_pr c), ar_f (cf_fr c), ar_f (cf_to c), ar_f (cf_rs c), ar_f (cf_sg c), ar_f (cf_le c), ar_f (cf_gr c), ar_f (cf_bd c), ar_f (cf_hu c), so, fm, xl, xh, zp, zb, az', tm, qu)) : wpX_waitOn post (nI (cf_n c), kn, zs, cr, 0, nI q, wt, ar_f (cf_pr c), ar_f (cf_fr c), ar_f (cf_to c), ar_f (cf_rs c), ar_f (cf_sg c), ar_f (cf_le c), ar_f (cf_gr c), ar_f (cf_bd c), ar_f (cf_hu c), so, fm, xl, xh, zp, zb, az, tm, qu) := by
  unfold wpX_waitOn
  have s0 : ∀ p, S p → p 0 = 0 := fun p m => ((D.2.2 p).mpr m).1
  have one : ¬ (1 : Int32) = 0 := by decide
  refine xr_hur ok hq (fun hu => br_f one ?_) (fun hu => br_t rfl ?_)
  · refine xz_w35 ok hq (zx_1_D D) (fun az' em' D' => K az' em' (zx_D_c D' (fun p => ?_)))
    constructor
    · intro ⟨⟨⟨m, b1⟩, b2⟩, b3⟩
      have := s0 p m
      rw [this] at b1 b2 b3
      exact ⟨Or.inl ⟨hu, m⟩, ⟨fun w => by have := b1 w; omega, fun w => by have := b2 w; omega⟩, by omega⟩
    · intro ⟨m, ⟨b1, b2⟩, b3⟩
      rcases m with ⟨_, m⟩ | ⟨n, _⟩
      · have := s0 p m
        rw [this]
        exact ⟨⟨⟨m, fun w => by have := b1 w; omega⟩, fun w => by have := b2 w; omega⟩, by omega⟩
      · exact absurd hu n
  · refine ⟨4, xz_w13 (k := 1) ok (by omega) (xz_w13 (k := 2) ok (by omega) (xz_w13 (k := 3) ok (by omega) ?_))⟩
    rw [wX_waitOn_13]
    refine pk_le 4 4 (fun _ => ?_) (fun z => absurd z (by omega))
    have E := xz_el az
    have D1 : zx_D False (upd (upd (upd az 4 1000) 8 1000) 12 1000) 0 (fun p => p 0 = 0 ∧ ∃ t : Int, 0 ≤ t ∧ S (zo_bk p t)) := by
      refine Or.inr ⟨rfl, zo_E_CZ E (zo_el_cz D.1 D.2.1), fun f => f.elim, fun p => ?_⟩
      rw [zo_E_M E, zo_el_m D.1 D.2.1]
      exact ⟨fun ⟨a, t, b, m⟩ => ⟨a, t, b, (D.2.2 _).mp m⟩, fun ⟨a, t, b, m⟩ => ⟨a, t, b, (D.2.2 _).mpr m⟩⟩
    refine xz_w35 ok hq D1 (fun az' em' D' => K az' em' (zx_D_c D' (fun p => ?_)))
    constructor
    · intro ⟨⟨⟨⟨m0, m⟩, b1⟩, b2⟩, b3⟩
      rw [m0] at b1 b2 b3
      exact ⟨Or.inr ⟨hu, m0, m⟩, ⟨fun w => by have := b1 w; omega, fun w => by have := b2 w; omega⟩, by omega⟩
    · intro ⟨m, ⟨b1, b2⟩, b3⟩
      rcases m with ⟨n, _⟩ | ⟨_, m0, m⟩
      · exact absurd n hu
      · rw [m0]
        exact ⟨⟨⟨⟨rfl, m⟩, fun w => by have := b1 w; omega⟩, fun w => by have := b2 w; omega⟩, by omega⟩
end
end
section
/-! X: widening -/
theorem xz_Hg {L d : Nat → Nat → Int} {k : Nat} {az az' : Nat → Int32} (h : xz_H L d k az) (hn : ∀ j, j ≠ k → az' j = az j) (hv : (az' k).toInt = L (k / 4) (k % 4)) : xz_H L d (k + 1) az' := by
  intro x y hx hy
  by_cases e : 4 * x + y = k
  · rw [e, if_pos (by omega), hv]
    have e1 : k / 4 = x := by omega
    have e2 : k % 4 = y := by omega
    rw [e1, e2]
  · rw [hn _ e, h x y hx hy]
    by_cases q : 4 * x + y < k
    · rw [if_pos q, if_pos (by omega)]
    · rw [if_neg q, if_neg (by omega)]
theorem xz_FW_E {d d' : Nat → Nat → Int} {w : Nat} {B : Int} {p : Nat → Int} (e : zo_E d d') (hw : w ≤ 4) (h : zo_FW d' w B p) : zo_FW d w B p := by
  obtain ⟨h1, h2, h3, h4⟩ := h
  refine ⟨fun i hi => by rw [e i i hi hi]; exact h1 i hi, fun i j hi hj => by rw [e i j hi hj]; exact h2 i j hi hj, fun i j k hi hj hk => ?_, (zo_E_M e p).mpr h4⟩
  rw [e i k hi (by omega), e k j (by omega) hj, e i j hi hj]
  exact h3 i j k hi hj hk
theorem xz_sh_E {d d' : Nat → Nat → Int} {w : Nat} (e : zo_E d d') (hw : w < 4) : zo_E (zo_sh d w) (zo_sh d' w) := by
  intro i j hi hj
  unfold zo_sh
  rw [e i w hi hw, e w j hw hj, e i j hi hj]
theorem xz_E_t {d d' d'' : Nat → Nat → Int} (a : zo_E d d') (b : zo_E d' d'') : zo_E d d'' := fun i j hi hj => (a i j hi hj).trans (b i j hi hj)
section
variable {c : Cf_t} {kn zs cr em ap wt : Int32} {so fm xl xh zp zb az tm qu : Nat → Int32}
variable {post : SX → Prop} {d : Nat → Nat → Int}
theorem xz_w48 {J : Int32 → (Nat → Int32) → (Nat → Int32) → (Nat → Int32) → (Nat → Int32) → (Nat → Int32) → (Nat → Int32) → (Nat → Int32) → (Nat → Int32) → (Nat → Int32) → (Nat → Int32) → (Nat → Int32) → (Nat → Int32) → (Nat → Int32) → (Nat → Int32) → (Nat → Int32) → (Nat → Int32) → (Nat → Int32) → (Nat → Int32) →  Prop} {k : Nat} (hk : k < 16) (v0 : (az k).toInt = zo_w0 d (k / 4) (k % 4))
    (K : ∀ az'' : Nat → Int32, (∀ j, j ≠ k → az'' j = az j) → (az'' k).toInt = zo_w1 d (k / 4) (k % 4) → J (nI (k + 1)) (ar_f (cf_pr c)) (ar_f (cf_fr c)) (ar_f (cf_to c)) (ar_f (cf_rs c)) (ar_f (cf_sg c)) (ar_f (cf_le c)) (ar_f (cf_gr c)) (ar_f (cf_bd c)) (ar_f (cf_hu c)) so fm xl xh zp zb az'' tm qu) : wX_widen_48 post J (nI k) (nI (k / 4)) (nI (k % 4)) (nI (cf_n c)) kn zs cr em ap wt (ar_f (cf_pr c)) (ar_f (cf_fr c)) (ar_f (cf_to c)) (ar_f (cf_rs c)) (ar_f (cf_sg c)) (ar_f (cf_le c)) (ar_f (cf_gr c)) (ar_f (cf_bd c)) (ar_f (cf_hu c)) so fm xl xh zp zb az tm qu := by
  unfold wX_widen_48
  rw [xr_c (n := k) (by omega)]
  have m1 : (-1 : Int32).toInt = -1 := by decide
  have mo := zo_mo_r (k % 4)
  refine pk_eq (k / 4) (k % 4) (fun e => nm_r (nI_1 k) (K az (fun _ _ => rfl) ?_)) (fun ne => ⟨xr_i hk, xr_most (by omega) (fun r hr => ?_)⟩)
  · rw [v0]; unfold zo_w1; rw [if_neg (fun w => w.1 e)]
  · have hs : ((-1 : Int32) - r).toInt = -1 - zo_mo (k % 4) := by rw [xr_sub (by omega) (by omega), m1, hr]
    refine br_c (fun z => nm_r (nI_1 k) (K az (fun _ _ => rfl) ?_)) (fun z => xr_most (by omega) (fun r' hr' => ⟨xr_i hk, nm_e (nm_r (nI_1 k) (K _ (fun j hj => pk_un hj) ?_))⟩))
    · rw [Int32.le_iff_toInt_le, hs, v0] at z
      rw [v0]; unfold zo_w1; rw [if_neg (fun w => by have := w.2; omega)]
    · rw [Int32.le_iff_toInt_le, hs, v0] at z
      rw [pk_us, xr_sub (by omega) (by omega), m1, hr']
      unfold zo_w1; rw [if_pos ⟨ne, by omega⟩]
theorem xz_w2 (K : ∀ az', zo_E (zw_a az') (zo_w1 d) → ∃ n, wX_widen_90 post n 0 (nI (cf_n c)) kn zs cr em ap wt (ar_f (cf_pr c)) (ar_f (cf_fr c)) (ar_f (cf_to c)) (ar_f (cf_rs c)) (ar_f (cf_sg c)) (ar_f (cf_le c)) (ar_f (cf_gr c)) (ar_f (cf_bd c)) (ar_f (cf_hu c)) so fm xl xh zp zb az' tm qu) :
    ∀ m k az', k + m = 16 → xz_H (zo_w1 d) d k az' → wX_widen_2 post (nI (cf_n c)) kn zs cr em ap wt (m + 1) (nI k) (ar_f (cf_pr c)) (ar_f (cf_fr c)) (ar_f (cf_to c)) (ar_f (cf_rs c)) (ar_f (cf_sg c)) (ar_f (cf_le c)) (ar_f (cf_gr c)) (ar_f (cf_bd c)) (ar_f (cf_hu c)) so fm xl xh zp zb az' tm qu := by
  intro m
  induction m with
  | zero =>
    intro k az' e H
    have ek : k = 16 := by omega
    subst ek
    rw [wX_widen_2]
    exact pk_le 16 16 (fun _ => K az' (xz_H16 H)) (fun z => absurd z (by omega))
  | succ m ih =>
    intro k az' e H
    have hk : k < 16 := by omega
    rw [wX_widen_2]
    dsimp only
    rw [xr_shr2 (by omega), xr_and3 (by omega), xr_c (n := k) (by omega)]
    have v := xz_Hk H hk
    have go : ∀ az'' : Nat → Int32, (∀ j, j ≠ k → az'' j = az' j) → (az'' k).toInt = zo_w1 d (k / 4) (k % 4) → wX_widen_2 post (nI (cf_n c)) kn zs cr em ap wt (m + 1) (nI (k + 1)) (ar_f (cf_pr c)) (ar_f (cf_fr c)) (ar_f (cf_to c)) (ar_f (cf_rs c)) (ar_f (cf_sg c)) (ar_f (cf_le c)) (ar_f (cf_gr c)) (ar_f (cf_bd c)) (ar_f (cf_hu c)) so fm xl xh zp zb az'' tm qu := fun az'' h1 h2 => ih (k + 1) az'' (by omega) (xz_Hg H h1 h2)
    refine pk_le 16 k (fun z => absurd z (by omega)) (fun _ => nm_e (nm_e ?_))
    refine pk_eq (k / 4) (k % 4) (fun e => xz_w48 hk ?_ go) (fun ne => ?_)
    · rw [v]; unfold zo_w0; rw [if_neg (fun w => w.1 e)]
    · refine pk_le (k / 4) 0 (fun z => xz_w48 hk ?_ go) (fun z => ⟨xr_i hk, xr_most (by omega) (fun r hr => ?_)⟩)
      · rw [v]; unfold zo_w0; rw [if_neg (fun w => by have := w.2.1; omega)]
      · refine br_c (fun y => xz_w48 hk ?_ go) (fun y => ⟨xr_i hk, nm_e (xz_w48 hk ?_ (fun az'' h1 h2 => go az'' (fun j hj => (h1 j hj).trans (pk_un hj)) h2))⟩)
        · rw [Int32.le_iff_toInt_le, v, hr] at y
          rw [v]; unfold zo_w0; rw [if_neg (fun w => by have := w.2.2; omega)]
        · rw [Int32.le_iff_toInt_le, v, hr] at y
          rw [pk_us, xr_1000]; unfold zo_w0; rw [if_pos ⟨ne, z, by omega⟩]
theorem xz_sh_l {w : Nat} {B : Int} {p : Nat → Int} (hw : w < 4) (F : zo_FW d w B p) (hB : B ≤ 400) (K : ∀ az', zo_E (zw_a az') (zo_sh d w) → post (nI (cf_n c), kn, zs, cr, em, ap, wt, ar_f (cf_pr c), ar_f (cf_fr c), ar_f (cf_to c), ar_f (cf_rs c), ar_f (cf_sg c), ar_f (cf_le c), ar_f (cf_gr c), ar_f (cf_bd c), ar_f (cf_hu c), so, fm, xl, xh, zp, zb, az', tm, qu)) :
    ∀ m k az', k + m = 16 → xz_H (zo_sh d w) d k az' → wX_shorten_2 post (nI w) (nI (cf_n c)) kn zs cr em ap wt (m + 1) (nI k) (ar_f (cf_pr c)) (ar_f (cf_fr c)) (ar_f (cf_to c)) (ar_f (cf_rs c)) (ar_f (cf_sg c)) (ar_f (cf_le c)) (ar_f (cf_gr c)) (ar_f (cf_bd c)) (ar_f (cf_hu c)) so fm xl xh zp zb az' tm qu := by
  intro m
  induction m with
  | zero =>
    intro k az' e H
    have ek : k = 16 := by omega
    subst ek
    rw [wX_shorten_2]
    exact pk_le 16 16 (fun _ => K az' (xz_H16 H)) (fun z => absurd z (by omega))
  | succ m ih =>
    intro k az' e H
    have hk : k < 16 := by omega
    have hx : k / 4 < 4 := by omega
    have hy : k % 4 < 4 := by omega
    rw [wX_shorten_2]
    dsimp only
    rw [xz_12 hk hw, xz_4k hk, xr_c (n := 4 * (k / 4) + w) (by omega), xr_c (n := 4 * w + k % 4) (by omega), xr_c (n := k) (by omega)]
    have v1 := xz_Hr H hx hw (zo_sh_c F hB hw hx)
    have v2 := xz_Hr H hw hy (zo_sh_r F hB hw hy)
    have v3 := xz_Hk H hk
    have r1 := F.2.1 _ _ hx hw
    have r2 := F.2.1 _ _ hw hy
    refine pk_le 16 k (fun z => absurd z (by omega)) (fun _ => ⟨xr_i (by omega), xr_i (by omega), xr_sum (by omega) (by omega) (fun r hr => ⟨xr_i hk, ?_⟩)⟩)
    rw [v1, v2] at hr
    have eL : zo_sh d w (k / 4) (k % 4) = if r.toInt < (az' k).toInt then r.toInt else (az' k).toInt := by
      rw [hr, v3]; rfl
    refine br_c (fun z => ⟨xr_i hk, xr_i hk, nm_e (nm_r (nI_1 k) (ih (k + 1) _ (by omega) (xz_Hs H ?_)))⟩) (fun z => ⟨xr_i hk, nm_e (nm_r (nI_1 k) (ih (k + 1) _ (by omega) (xz_Hs H ?_)))⟩)
    · rw [Int32.le_iff_toInt_le] at z
      rw [eL, if_neg (by omega)]
    · rw [Int32.le_iff_toInt_le] at z
      rw [eL, if_pos (by omega)]
theorem xz_sho {w : Nat} {B : Int} {p : Nat → Int} (hw : w < 4) (E : zo_E (zw_a az) d) (F : zo_FW d w B p) (hB : B ≤ 400) (K : ∀ az', zo_E (zw_a az') (zo_sh d w) → post (nI (cf_n c), kn, zs, cr, em, ap, wt, ar_f (cf_pr c), ar_f (cf_fr c), ar_f (cf_to c), ar_f (cf_rs c), ar_f (cf_sg c), ar_f (cf_le c), ar_f (cf_gr c), ar_f (cf_bd c), ar_f (cf_hu c), so, fm, xl, xh, zp, zb, az', tm, qu)) : wpX_shorten post (nI (cf_n c), kn, zs, cr, em, ap, wt, ar_f (cf_pr c), ar_f (cf_fr c), ar_f (cf_to c), ar_f (cf_rs c), ar_f (cf_sg c), ar_f (cf_le c), ar_f (cf_gr c), ar_f (cf_bd c), ar_f (cf_hu c), so, fm, xl, xh, zp, zb, az, tm, qu) (nI w) := by
  unfold wpX_shorten
  exact ⟨17, xz_sh_l hw (xz_FW_E E (by omega) F) hB (fun az' E' => K az' (xz_E_t E' (xz_sh_E E hw))) 16 0 az (by omega) (xz_H0 _ az)⟩
theorem xz_w90 {w n : Nat} {B : Int} {p : Nat → Int} (hw : w < 4) (E : zo_E (zw_a az) d) (F : zo_FW d w B p) (hB : B ≤ 400) (K : ∀ az', zo_E (zw_a az') (zo_sh d w) → wX_widen_90 post n (nI (w + 1)) (nI (cf_n c)) kn zs cr em ap wt (ar_f (cf_pr c)) (ar_f (cf_fr c)) (ar_f (cf_to c)) (ar_f (cf_rs c)) (ar_f (cf_sg c)) (ar_f (cf_le c)) (ar_f (cf_gr c)) (ar_f (cf_bd c)) (ar_f (cf_hu c)) so fm xl xh zp zb az' tm qu) : wX_widen_90 post (n + 1) (nI w) (nI (cf_n c)) kn zs cr em ap wt (ar_f (cf_pr c)) (ar_f (cf_fr c)) (ar_f (cf_to c)) (ar_f (cf_rs c)) (ar_f (cf_sg c)) (ar_f (cf_le c)) (ar_f (cf_gr c)) (ar_f (cf_bd c)) (ar_f (cf_hu c)) so fm xl xh zp zb az tm qu := by
  rw [wX_widen_90]
  exact pk_le 4 w (fun z => absurd z (by omega)) (fun _ => xz_sho hw E F hB (fun az' E' => nm_r (nI_1 w) (K az' E')))
end
section
variable {c : Cf_t} {kn zs cr em ap wt : Int32} {so fm xl xh zp zb az tm qu : Nat → Int32}
variable {post : SX → Prop}
theorem xz_widen (h : zo_CZ (zw_a az)) (f : zo_Fin (zw_a az)) (K : ∀ az', zo_E (zw_a az') (zo_wd (zw_a az)) → post (nI (cf_n c), kn, zs, cr, em, ap, wt, ar_f (cf_pr c), ar_f (cf_fr c), ar_f (cf_to c), ar_f (cf_rs c), ar_f (cf_sg c), ar_f (cf_le c), ar_f (cf_gr c), ar_f (cf_bd c), ar_f (cf_hu c), so, fm, xl, xh, zp, zb, az', tm, qu)) : wpX_widen post (nI (cf_n c), kn, zs, cr, em, ap, wt, ar_f (cf_pr c), ar_f (cf_fr c), ar_f (cf_to c), ar_f (cf_rs c), ar_f (cf_sg c), ar_f (cf_le c), ar_f (cf_gr c), ar_f (cf_bd c), ar_f (cf_hu c), so, fm, xl, xh, zp, zb, az, tm, qu) := by
  unfold wpX_widen
  refine ⟨17, xz_w2 (d := zw_a az) (fun az1 E1 => ⟨5, ?_⟩) 16 0 az (by omega) (xz_H0 _ az)⟩
  obtain ⟨p, m, _⟩ := zo_tight h f (i := 0) (j := 0) (by omega) (by omega)
  have F0 := zo_w1_FW h f m
  have F1 := zo_sh_FW F0 (by omega) (by omega) (by omega)
  have F2 := zo_sh_FW F1 (by omega) (by omega) (by omega)
  have F3 := zo_sh_FW F2 (by omega) (by omega) (by omega)
  refine xz_w90 (w := 0) (by omega) E1 F0 (by omega) (fun az2 E2 => xz_w90 (w := 1) (by omega) E2 F1 (by omega) (fun az3 E3 => xz_w90 (w := 2) (by omega) E3 F2 (by omega) (fun az4 E4 => xz_w90 (w := 3) (by omega) E4 F3 (by omega) (fun az5 E5 => ?_))))
  rw [wX_widen_90]
  exact pk_le 4 4 (fun _ => K az5 E5) (fun z => absurd z (by omega))
end
end
section
/-! X: what is noted -/
def no_X (so xl xh so' lo' hi' : Nat → Int32) : Prop := (∀ q, q < 16 → (so' q).toInt ≤ (so q).toInt) ∧ (∀ j, j < 32 → (lo' j).toInt ≤ (xl j).toInt ∧ (xh j).toInt ≤ (hi' j).toInt)
theorem no_T_X {so xl xh so' lo' hi' : Nat → Int32} (x : no_X so xl xh so' lo' hi') {q a b : Nat} {t : Int} (hq : q < 16) (h : no_T so xl xh q a b t) : no_T so' lo' hi' q a b t := by
  have x1 := x.1 q hq
  have x2 := x.2 (2 * q) (by omega)
  have x3 := x.2 (2 * q + 1) (by omega)
  unfold no_T at h ⊢
  omega
theorem no_S_so {c : Cf_t} {so xl xh : Nat → Int32} (N : no_S c so xl xh) {q : Nat} {v : Int32} (hv : ∃ t : Nat, sp_S c q t ∧ v.toInt = t) : no_S c (upd so q v) xl xh := by
  refine ⟨fun q' hq' => ?_, N.2⟩
  by_cases e : q' = q
  · subst e; rw [pk_us]; exact Or.inr hv
  · rw [pk_un e]; exact N.1 q' hq'
theorem no_S_lo {c : Cf_t} {so xl xh : Nat → Int32} (N : no_S c so xl xh) {q k : Nat} (hk : k < 2) {v : Int32} (hv : ∃ t : Nat, sp_V c q k t ∧ v.toInt = t) : no_S c so (upd xl (2 * q + k) v) xh := by
  refine ⟨N.1, fun q' k' hq' hk' => ⟨?_, (N.2 q' k' hq' hk').2⟩⟩
  by_cases e : 2 * q' + k' = 2 * q + k
  · have e1 : q' = q := by omega
    have e2 : k' = k := by omega
    subst e1 e2; rw [pk_us]; exact Or.inr hv
  · rw [pk_un e]; exact (N.2 q' k' hq' hk').1
theorem no_S_hi {c : Cf_t} {so xl xh : Nat → Int32} (N : no_S c so xl xh) {q k : Nat} (hk : k < 2) {v : Int32} (hv : ∃ t : Nat, sp_V c q k t ∧ v.toInt = t) : no_S c so xl (upd xh (2 * q + k) v) := by
  refine ⟨N.1, fun q' k' hq' hk' => ⟨(N.2 q' k' hq' hk').1, ?_⟩⟩
  by_cases e : 2 * q' + k' = 2 * q + k
  · have e1 : q' = q := by omega
    have e2 : k' = k := by omega
    subst e1 e2; rw [pk_us]; exact Or.inr hv
  · rw [pk_un e]; exact (N.2 q' k' hq' hk').2
theorem no_u {f : Nat → Int32} {k : Nat} : upd f k (f k) = f := by
  funext j
  by_cases e : j = k
  · subst e; exact pk_us
  · exact pk_un e
section
variable {c : Cf_t} {kn zs cr em ap wt : Int32} {so fm xl xh zp zb az tm qu : Nat → Int32}
variable {post : SX → Prop}
theorem xn_time {q : Nat} {t : Int32} (hq : q < 16) (N : no_S c so xl xh) (s : ∃ t' : Nat, sp_S c q t' ∧ t.toInt = t')
    (K : ∀ so', no_S c so' xl xh → (∀ q', q' < 16 → (so' q').toInt ≤ (so q').toInt) → (so' q).toInt ≤ t.toInt → post (nI (cf_n c), kn, zs, cr, em, ap, wt, ar_f (cf_pr c), ar_f (cf_fr c), ar_f (cf_to c), ar_f (cf_rs c), ar_f (cf_sg c), ar_f (cf_le c), ar_f (cf_gr c), ar_f (cf_bd c), ar_f (cf_hu c), so', fm, xl, xh, zp, zb, az, tm, qu)) : wpX_noteTime post (nI (cf_n c), kn, zs, cr, em, ap, wt, ar_f (cf_pr c), ar_f (cf_fr c), ar_f (cf_to c), ar_f (cf_rs c), ar_f (cf_sg c), ar_f (cf_le c), ar_f (cf_gr c), ar_f (cf_bd c), ar_f (cf_hu c), so, fm, xl, xh, zp, zb, az, tm, qu) (nI q) t := by
  unfold wpX_noteTime
  dsimp only
  rw [xr_c (n := q) (by omega), no_u]
  refine ⟨xr_i hq, br_c (fun z => ⟨xr_i hq, xr_i hq, nm_e (K so N (fun _ _ => Int.le_refl _) ?_)⟩) (fun z => ⟨xr_i hq, nm_e (K _ (no_S_so N s) (fun q' _ => ?_) ?_)⟩)⟩
  · rw [Int32.le_iff_toInt_le] at z; exact z
  · rw [Int32.le_iff_toInt_le] at z
    by_cases e : q' = q
    · subst e; rw [pk_us]; omega
    · rw [pk_un e]; exact Int.le_refl _
  · rw [pk_us]; exact Int.le_refl _
theorem xn_use {e : Nat} {t : Int32} (he : e < 12) (N : no_U c fm) (s : ∃ t' : Nat, sp_U c e t' ∧ t.toInt = t')
    (K : ∀ fm', no_U c fm' → (∀ e', e' < 12 → (fm' e').toInt ≤ (fm e').toInt) → (fm' e).toInt ≤ t.toInt → post (nI (cf_n c), kn, zs, cr, em, ap, wt, ar_f (cf_pr c), ar_f (cf_fr c), ar_f (cf_to c), ar_f (cf_rs c), ar_f (cf_sg c), ar_f (cf_le c), ar_f (cf_gr c), ar_f (cf_bd c), ar_f (cf_hu c), so, fm', xl, xh, zp, zb, az, tm, qu)) : wpX_noteUse post (nI (cf_n c), kn, zs, cr, em, ap, wt, ar_f (cf_pr c), ar_f (cf_fr c), ar_f (cf_to c), ar_f (cf_rs c), ar_f (cf_sg c), ar_f (cf_le c), ar_f (cf_gr c), ar_f (cf_bd c), ar_f (cf_hu c), so, fm, xl, xh, zp, zb, az, tm, qu) (nI e) t := by
  unfold wpX_noteUse
  dsimp only
  rw [xr_c (n := e) (by omega), no_u]
  refine ⟨xr_i he, br_c (fun z => ⟨xr_i he, xr_i he, nm_e (K fm N (fun _ _ => Int.le_refl _) ?_)⟩) (fun z => ⟨xr_i he, nm_e (K _ (fun e' he' => ?_) (fun q' _ => ?_) ?_)⟩)⟩
  · rw [Int32.le_iff_toInt_le] at z; exact z
  · by_cases q : e' = e
    · subst q; rw [pk_us]; exact Or.inr s
    · rw [pk_un q]; exact N e' he'
  · rw [Int32.le_iff_toInt_le] at z
    by_cases q : q' = e
    · subst q; rw [pk_us]; omega
    · rw [pk_un q]; exact Int.le_refl _
  · rw [pk_us]; exact Int.le_refl _
theorem xn_v38 {q k : Nat} {w z0 : Int32} (hq : q < 16) (hk : k < 2) (N : no_S c so (upd xl (2 * q + k) z0) xh) (hz : z0.toInt ≤ w.toInt ∧ z0.toInt ≤ (xl (2 * q + k)).toInt) (s : ∃ t : Nat, sp_V c q k t ∧ w.toInt = t)
    (K : ∀ lo' hi', no_S c so lo' hi' → (∀ j, j < 32 → (lo' j).toInt ≤ (xl j).toInt ∧ (xh j).toInt ≤ (hi' j).toInt) → (lo' (2 * q + k)).toInt ≤ w.toInt → w.toInt ≤ (hi' (2 * q + k)).toInt → post (nI (cf_n c), kn, zs, cr, em, ap, wt, ar_f (cf_pr c), ar_f (cf_fr c), ar_f (cf_to c), ar_f (cf_rs c), ar_f (cf_sg c), ar_f (cf_le c), ar_f (cf_gr c), ar_f (cf_bd c), ar_f (cf_hu c), so, fm, lo', hi', zp, zb, az, tm, qu)) :
    wX_noteValue_38 post (nI (2 * q + k)) w z0 (nI (2 * q + k)) (nI (cf_n c)) kn zs cr em ap wt (ar_f (cf_pr c)) (ar_f (cf_fr c)) (ar_f (cf_to c)) (ar_f (cf_rs c)) (ar_f (cf_sg c)) (ar_f (cf_le c)) (ar_f (cf_gr c)) (ar_f (cf_bd c)) (ar_f (cf_hu c)) so fm xl xh zp zb az tm qu := by
  unfold wX_noteValue_38
  rw [xr_c (n := 2 * q + k) (by omega), no_u]
  have lo1 : ∀ j, j < 32 → (upd xl (2 * q + k) z0 j).toInt ≤ (xl j).toInt := fun j _ => by
    by_cases e : j = 2 * q + k
    · rw [e, pk_us]; exact hz.2
    · rw [pk_un e]; exact Int.le_refl _
  have lo2 : (upd xl (2 * q + k) z0 (2 * q + k)).toInt ≤ w.toInt := by rw [pk_us]; exact hz.1
  refine ⟨xr_i (by omega), nm_e ⟨xr_i (by omega), br_c (fun z => ⟨xr_i (by omega), xr_i (by omega), nm_e (K _ _ N (fun j hj => ⟨lo1 j hj, Int.le_refl _⟩) lo2 ?_)⟩) (fun z => ⟨xr_i (by omega), nm_e (K _ _ (no_S_hi N hk s) (fun j hj => ⟨lo1 j hj, ?_⟩) lo2 ?_)⟩)⟩⟩
  · rw [Int32.le_iff_toInt_le] at z; exact z
  · rw [Int32.le_iff_toInt_le] at z
    by_cases e : j = 2 * q + k
    · rw [e, pk_us]; omega
    · rw [pk_un e]; exact Int.le_refl _
  · rw [pk_us]; exact Int.le_refl _
theorem xn_v12 {q k : Nat} {w : Int32} (hq : q < 16) (hk : k < 2) (N : no_S c so xl xh) (s : ∃ t : Nat, sp_V c q k t ∧ w.toInt = t)
    (K : ∀ lo' hi', no_S c so lo' hi' → (∀ j, j < 32 → (lo' j).toInt ≤ (xl j).toInt ∧ (xh j).toInt ≤ (hi' j).toInt) → (lo' (2 * q + k)).toInt ≤ w.toInt → w.toInt ≤ (hi' (2 * q + k)).toInt → post (nI (cf_n c), kn, zs, cr, em, ap, wt, ar_f (cf_pr c), ar_f (cf_fr c), ar_f (cf_to c), ar_f (cf_rs c), ar_f (cf_sg c), ar_f (cf_le c), ar_f (cf_gr c), ar_f (cf_bd c), ar_f (cf_hu c), so, fm, lo', hi', zp, zb, az, tm, qu)) :
    wX_noteValue_12 post (nI (2 * q + k)) w (nI (cf_n c)) kn zs cr em ap wt (ar_f (cf_pr c)) (ar_f (cf_fr c)) (ar_f (cf_to c)) (ar_f (cf_rs c)) (ar_f (cf_sg c)) (ar_f (cf_le c)) (ar_f (cf_gr c)) (ar_f (cf_bd c)) (ar_f (cf_hu c)) so fm xl xh zp zb az tm qu := by
  unfold wX_noteValue_12
  rw [xr_c (n := 2 * q + k) (by omega)]
  refine ⟨xr_i (by omega), br_c (fun z => ⟨xr_i (by omega), xn_v38 hq hk ?_ ?_ s K⟩) (fun z => xn_v38 hq hk (no_S_lo N hk s) ?_ s K)⟩
  · rw [no_u]; exact N
  · rw [Int32.le_iff_toInt_le] at z; omega
  · rw [Int32.le_iff_toInt_le] at z; omega
theorem xn_value {q k : Nat} {v : Int32} (hq : q < 16) (hk : k < 2) (N : no_S c so xl xh) (hv : 0 ≤ v.toInt) (s : sp_V c q k (zo_ca v.toInt))
    (K : ∀ lo' hi', no_S c so lo' hi' → (∀ j, j < 32 → (lo' j).toInt ≤ (xl j).toInt ∧ (xh j).toInt ≤ (hi' j).toInt) → (lo' (2 * q + k)).toInt ≤ zo_ca v.toInt → zo_ca v.toInt ≤ (hi' (2 * q + k)).toInt → post (nI (cf_n c), kn, zs, cr, em, ap, wt, ar_f (cf_pr c), ar_f (cf_fr c), ar_f (cf_to c), ar_f (cf_rs c), ar_f (cf_sg c), ar_f (cf_le c), ar_f (cf_gr c), ar_f (cf_bd c), ar_f (cf_hu c), so, fm, lo', hi', zp, zb, az, tm, qu)) :
    wpX_noteValue post (nI (cf_n c), kn, zs, cr, em, ap, wt, ar_f (cf_pr c), ar_f (cf_fr c), ar_f (cf_to c), ar_f (cf_rs c), ar_f (cf_sg c), ar_f (cf_le c), ar_f (cf_gr c), ar_f (cf_bd c), ar_f (cf_hu c), so, fm, xl, xh, zp, zb, az, tm, qu) (nI (2 * q + k)) v := by
  unfold wpX_noteValue
  have e6 : (6 : Int32).toInt = 6 := by decide
  have e7 : (7 : Int32).toInt = 7 := by decide
  refine br_c (fun z => ?_) (fun z => ?_)
  · rw [Int32.le_iff_toInt_le, e6] at z
    have e : v.toInt = (zo_ca v.toInt : Int) := by
      unfold zo_ca; rw [if_pos z]; omega
    exact xn_v12 hq hk N ⟨_, s, e⟩ (fun lo' hi' a b d f => K lo' hi' a b (by omega) (by omega))
  · rw [Int32.le_iff_toInt_le, e6] at z
    have e : (7 : Int32).toInt = (zo_ca v.toInt : Int) := by
      unfold zo_ca; rw [if_neg z, e7]; rfl
    exact xn_v12 hq hk N ⟨_, s, e⟩ (fun lo' hi' a b d f => K lo' hi' a b (by omega) (by omega))
/-! a zone is noted -/
theorem xn_zp {az : Nat → Int32} {q k : Nat} (hk : k < 2) (Kz : zo_K c q (zw_a az)) :
    (0 ≤ (-(az (k + 1))).toInt ∧ sp_V c q k (zo_ca (-(az (k + 1))).toInt)) ∧ (0 ≤ (az (4 * (k + 1))).toInt ∧ sp_V c q k (zo_ca (az (4 * (k + 1))).toInt)) ∧
    ∀ p, zo_M (zw_a az) p → zo_ca (-(az (k + 1))).toInt ≤ zo_ca (p (k + 1)) ∧ zo_ca (p (k + 1)) ≤ zo_ca (az (4 * (k + 1))).toInt := by
  obtain ⟨z1, z2, hq, z4, z5⟩ := Kz
  have d1 := z1.2.2.1 (k + 1) (by omega)
  have ea : (az (k + 1)).toInt = zw_a az 0 (k + 1) := by
    show (az (k + 1)).toInt = (az (4 * 0 + (k + 1))).toInt
    rw [show 4 * 0 + (k + 1) = k + 1 by omega]
  have eb : (az (4 * (k + 1))).toInt = zw_a az (k + 1) 0 := rfl
  have en : (-(az (k + 1))).toInt = -(zw_a az 0 (k + 1)) := by rw [xr_neg (by omega), ea]
  obtain ⟨p1, m1, t1⟩ := zo_tight z1 z2 (i := 0) (j := k + 1) (by omega) (by omega)
  obtain ⟨p2, m2, t2⟩ := zo_tight z1 z2 (i := k + 1) (j := 0) (by omega) (by omega)
  have q1 := m1.1
  have q2 := m2.1
  have g2 := zo_pos z1 m2 (i := k + 1) (by omega)
  have cv : ∀ p : Nat → Int, zo_ca (p (k + 1)) = sp_cv k (zo_ca (p 1)) (zo_ca (p 2)) := fun p => by
    rcases (by omega : k = 0 ∨ k = 1) with e | e
    · subst e; rfl
    · subst e; rfl
  refine ⟨⟨by omega, ?_⟩, ⟨by omega, ?_⟩, fun p mp => ?_⟩
  · rw [en, show -(zw_a az 0 (k + 1)) = p1 (k + 1) by omega]
    exact ⟨_, _, _, z4 p1 m1, cv p1⟩
  · rw [eb, show zw_a az (k + 1) 0 = p2 (k + 1) by omega]
    exact ⟨_, _, _, z4 p2 m2, cv p2⟩
  · have w1 := mp.2 0 (k + 1) (by omega) (by omega) (by omega)
    have w2 := mp.2 (k + 1) 0 (by omega) (by omega) (by have := z2 (k + 1) (by omega); omega)
    have w0 := mp.1
    have g := zo_pos z1 mp (i := k + 1) (by omega)
    exact ⟨zo_ca_mono (by omega) (by omega), zo_ca_mono g (by omega)⟩
theorem xn_zs {q k n : Nat} (hk : k < 2) (N : no_S c so xl xh) (Kz : zo_K c q (zw_a az))
    (K : ∀ lo' hi', no_S c so lo' hi' → (∀ j, j < 32 → (lo' j).toInt ≤ (xl j).toInt ∧ (xh j).toInt ≤ (hi' j).toInt) → (∀ p, zo_M (zw_a az) p → (lo' (2 * q + k)).toInt ≤ zo_ca (p (k + 1)) ∧ zo_ca (p (k + 1)) ≤ (hi' (2 * q + k)).toInt) →
      wX_noteZone_17 post n (nI (k + 1)) (nI (cf_n c)) kn zs cr em (nI q) wt (ar_f (cf_pr c)) (ar_f (cf_fr c)) (ar_f (cf_to c)) (ar_f (cf_rs c)) (ar_f (cf_sg c)) (ar_f (cf_le c)) (ar_f (cf_gr c)) (ar_f (cf_bd c)) (ar_f (cf_hu c)) so fm lo' hi' zp zb az tm qu) : wX_noteZone_17 post (n + 1) (nI k) (nI (cf_n c)) kn zs cr em (nI q) wt (ar_f (cf_pr c)) (ar_f (cf_fr c)) (ar_f (cf_to c)) (ar_f (cf_rs c)) (ar_f (cf_sg c)) (ar_f (cf_le c)) (ar_f (cf_gr c)) (ar_f (cf_bd c)) (ar_f (cf_hu c)) so fm xl xh zp zb az tm qu := by
  have hq := Kz.2.2.1
  obtain ⟨⟨s0, s1⟩, ⟨t0, t1⟩, pp⟩ := xn_zp hk Kz
  rw [wX_noteZone_17]
  dsimp only
  rw [nI_1, xr_2, xz_4, xr_c (n := k + 1) (by omega), xr_c (n := 4 * (k + 1)) (by omega)]
  refine pk_le 2 k (fun z => absurd z (by omega)) (fun _ => ⟨xr_i (by omega), ?_⟩)
  refine xn_value hq hk N s0 s1 (fun lo1 hi1 N1 X1 L1 H1 => ?_)
  dsimp only
  rw [xr_2]
  refine ⟨xr_i (by omega), ?_⟩
  refine xn_value hq hk N1 t0 t1 (fun lo2 hi2 N2 X2 L2 H2 => nm_e ?_)
  refine K lo2 hi2 N2 (fun j hj => ?_) (fun p mp => ?_)
  · have a := X1 j hj
    have b := X2 j hj
    clear K
    omega
  · have a := X2 (2 * q + k) (by omega)
    have b := pp p mp
    clear K
    omega
theorem xn_zone {q : Nat} (N : no_S c so xl xh) (Kz : zo_K c q (zw_a az))
    (K : ∀ so' lo' hi', no_S c so' lo' hi' → no_X so xl xh so' lo' hi' → (∀ p, zo_M (zw_a az) p → no_T so' lo' hi' q (zo_ca (p 1)) (zo_ca (p 2)) (p 3)) → post (nI (cf_n c), kn, zs, cr, em, nI q, wt, ar_f (cf_pr c), ar_f (cf_fr c), ar_f (cf_to c), ar_f (cf_rs c), ar_f (cf_sg c), ar_f (cf_le c), ar_f (cf_gr c), ar_f (cf_bd c), ar_f (cf_hu c), so', fm, lo', hi', zp, zb, az, tm, qu)) : wpX_noteZone post (nI (cf_n c), kn, zs, cr, em, nI q, wt, ar_f (cf_pr c), ar_f (cf_fr c), ar_f (cf_to c), ar_f (cf_rs c), ar_f (cf_sg c), ar_f (cf_le c), ar_f (cf_gr c), ar_f (cf_bd c), ar_f (cf_hu c), so, fm, xl, xh, zp, zb, az, tm, qu) := by
  unfold wpX_noteZone
  obtain ⟨z1, z2, hq, z4, z5⟩ := Kz
  have d1 := z1.2.2.1 3 (by omega)
  have ea : (az 3).toInt = zw_a az 0 3 := rfl
  have en : (-(az 3)).toInt = -(zw_a az 0 3) := by rw [xr_neg (by omega), ea]
  obtain ⟨p1, m1, t1⟩ := zo_tight z1 z2 (i := 0) (j := 3) (by omega) (by omega)
  have q1 := m1.1
  have g := zo_pos z1 m1 (i := 3) (by omega)
  refine xn_time hq N ⟨(p1 3).toNat, ⟨_, _, z4 p1 m1⟩, by omega⟩ (fun so1 N1 X1 L1 => ⟨3, ?_⟩)
  refine xn_zs (k := 0) (by omega) N1 ⟨z1, z2, hq, z4, z5⟩ (fun lo1 hi1 N2 X2 L2 => xn_zs (k := 1) (by omega) N2 ⟨z1, z2, hq, z4, z5⟩ (fun lo2 hi2 N3 X3 L3 => ?_))
  rw [wX_noteZone_17]
  refine pk_le 2 2 (fun _ => K so1 lo2 hi2 N3 ⟨X1, fun j hj => ?_⟩ (fun p mp => ?_)) (fun z => absurd z (by omega))
  · have a := X2 j hj
    have b := X3 j hj
    omega
  · have a := L2 p mp
    have b := L3 p mp
    have x := X3 (2 * q) (by omega)
    have w1 := mp.2 0 3 (by omega) (by omega) (by omega)
    have w0 := mp.1
    have a' : (lo1 (2 * q)).toInt ≤ zo_ca (p 1) ∧ zo_ca (p 1) ≤ (hi1 (2 * q)).toInt := a
    have b' : (lo2 (2 * q + 1)).toInt ≤ zo_ca (p 2) ∧ zo_ca (p 2) ≤ (hi2 (2 * q + 1)).toInt := b
    unfold no_T
    omega
end
end
section
/-! X: a zone is kept -/
theorem xk_sh {v : Int32} (h1 : -32768 ≤ v.toInt) (h2 : v.toInt < 32768) : vp_nar .short v.toInt16.toInt32 = v := by
  rw [pk_vs, lg_i2s_small h1 h2]
theorem xk_by {v : Int32} (h1 : -128 ≤ v.toInt) (h2 : v.toInt < 128) : vp_nar .byte v.toInt8.toInt32 = v := by
  rw [pk_vb, lg_i2b_small h1 h2]
theorem xk_byN {n : Nat} (h : n < 128) : vp_nar .byte (nI n).toInt8.toInt32 = nI n := by
  have e : (nI n).toInt = (n : Int) := nI_toInt (by omega)
  exact xk_by (by omega) (by omega)
section
variable {c : Cf_t} {Z q : Nat} {zp zb zb' fm so xl xh so' lo' hi' az : Nat → Int32} {cr : Int32}
theorem zw_new (I : zw_I c Z zp zb so fm xl xh) (hZ : Z < 64) (Kz : zo_K c q (zw_a az)) (b1 : ∀ j, j < 16 * Z → zb' j = zb j) (b2 : ∀ j, j < 16 → zb' (16 * Z + j) = az j)
    (N : no_S c so' lo' hi') (X : no_X so xl xh so' lo' hi') (T : ∀ p, zo_M (zw_a az) p → no_T so' lo' hi' q (zo_ca (p 1)) (zo_ca (p 2)) (p 3)) :
    zw_I c (Z + 1) (upd zp Z (nI q)) zb' so' fm lo' hi' ∧ zw_X Z zp zb fm cr (Z + 1) (upd zp Z (nI q)) zb' fm cr ∧ ∀ p, zo_M (zw_a az) p → zw_H (Z + 1) (upd zp Z (nI q)) zb' q p := by
  obtain ⟨i1, i2, i3, i4, i5⟩ := I
  have hq := Kz.2.2.1
  have EZ : zo_E (zw_d zb' Z) (zw_a az) := fun i j hi hj => by
    show (zb' (16 * Z + (4 * i + j))).toInt = (az (4 * i + j)).toInt
    rw [b2 _ (by omega)]
  have Eo : ∀ z, z < Z → zo_E (zw_d zb' z) (zw_d zb z) := fun z hz i j hi hj => by
    show (zb' (16 * z + (4 * i + j))).toInt = (zb (16 * z + (4 * i + j))).toInt
    rw [b1 _ (by omega)]
  have qZ : zw_q (upd zp Z (nI q)) Z = q := by
    unfold zw_q; rw [pk_us, xr_c (by omega)]
  have qo : ∀ z, z < Z → zw_q (upd zp Z (nI q)) z = zw_q zp z := fun z hz => by
    unfold zw_q; rw [pk_un (by omega)]
  refine ⟨⟨by omega, fun z hz => ?_, fun z hz p mp => ?_, N, i5⟩, ⟨by omega, fun z hz => ⟨pk_un (by omega), fun i j hi hj => Eo z hz i j hi hj⟩, fun _ _ => Int.le_refl _, id⟩, fun p mp => ⟨Z, by omega, qZ, (zo_E_M EZ p).mpr mp⟩⟩
  · by_cases e : z = Z
    · subst e
      rw [qZ]
      exact ⟨pk_us, zo_K_E EZ Kz⟩
    · rw [qo z (by omega), pk_un e]
      exact ⟨(i2 z (by omega)).1, zo_K_E (Eo z (by omega)) (i2 z (by omega)).2⟩
  · by_cases e : z = Z
    · subst e
      rw [qZ]
      exact T p ((zo_E_M EZ p).mp mp)
    · rw [qo z (by omega)]
      exact no_T_X X (i2 z (by omega)).2.2.2.1 (i3 z (by omega) p ((zo_E_M (Eo z (by omega)) p).mp mp))
end
section
variable {c : Cf_t} {kn zs cr em ap wt : Int32} {so fm xl xh zp zb az tm qu : Nat → Int32}
theorem xk_cv0 {post : Int32 → Prop} {z n k : Nat} (h : post 0) : wX_covers_21 post (nI z) (nI (cf_n c)) kn zs cr em ap wt (ar_f (cf_pr c)) (ar_f (cf_fr c)) (ar_f (cf_to c)) (ar_f (cf_rs c)) (ar_f (cf_sg c)) (ar_f (cf_le c)) (ar_f (cf_gr c)) (ar_f (cf_bd c)) (ar_f (cf_hu c)) so fm xl xh zp zb az tm qu (n + 1) 0 (nI k) := by
  rw [wX_covers_21]
  exact br_c (fun _ => ⟨rfl, h⟩) (fun _ => br_t rfl ⟨rfl, h⟩)
theorem xk_cv {post : Int32 → Prop} {z : Nat} (hz : z < 64) (h1 : (∀ k, k < 16 → (az k).toInt ≤ (zb (16 * z + k)).toInt) → post 1) (h0 : post 0) :
    ∀ m k, k + m = 16 → (∀ j, j < k → (az j).toInt ≤ (zb (16 * z + j)).toInt) → wX_covers_21 post (nI z) (nI (cf_n c)) kn zs cr em ap wt (ar_f (cf_pr c)) (ar_f (cf_fr c)) (ar_f (cf_to c)) (ar_f (cf_rs c)) (ar_f (cf_sg c)) (ar_f (cf_le c)) (ar_f (cf_gr c)) (ar_f (cf_bd c)) (ar_f (cf_hu c)) so fm xl xh zp zb az tm qu (m + 1) 1 (nI k) := by
  intro m
  induction m with
  | zero =>
    intro k e H
    have ek : k = 16 := by omega
    subst ek
    rw [wX_covers_21]
    exact pk_le 16 16 (fun _ => ⟨rfl, h1 H⟩) (fun w => absurd w (by omega))
  | succ m ih =>
    intro k e H
    have hk : k < 16 := by omega
    have one : ¬ (1 : Int32) = 0 := by decide
    rw [wX_covers_21]
    dsimp only
    rw [xr_16m, xr_c (n := k) (by omega), xr_c (n := 16 * z + k) (by omega)]
    refine pk_le 16 k (fun w => absurd w (by omega)) (fun _ => br_f one ⟨xr_i hk, xr_i (by omega), br_c (fun w => nm_r (nI_1 k) (xk_cv0 h0)) (fun w => nm_r (nI_1 k) (ih (k + 1) (by omega) (fun j hj => ?_)))⟩)
    rw [Int32.lt_iff_toInt_lt] at w
    by_cases q : j = k
    · rw [q]; omega
    · exact H j (by omega)
theorem xk_covers {post : Int32 → Prop} {z : Nat} (hz : z < 64) (h1 : zp z = ap → (∀ k, k < 16 → (az k).toInt ≤ (zb (16 * z + k)).toInt) → post 1) (h0 : post 0) : wpX_covers post (nI (cf_n c), kn, zs, cr, em, ap, wt, ar_f (cf_pr c), ar_f (cf_fr c), ar_f (cf_to c), ar_f (cf_rs c), ar_f (cf_sg c), ar_f (cf_le c), ar_f (cf_gr c), ar_f (cf_bd c), ar_f (cf_hu c), so, fm, xl, xh, zp, zb, az, tm, qu) (nI z) := by
  unfold wpX_covers
  rw [xr_c (n := z) (by omega)]
  exact ⟨xr_i hz, br_c (fun w => ⟨17, xk_cv hz (h1 w) h0 16 0 (by omega) (fun j hj => by omega)⟩) (fun _ => ⟨1, xk_cv0 (k := 0) h0⟩)⟩
variable {post : SX → Prop}
theorem xk_12o {Z n k : Nat} (h : wX_keepZone_36 post 1 (nI (cf_n c)) kn (nI Z) cr em ap wt (ar_f (cf_pr c)) (ar_f (cf_fr c)) (ar_f (cf_to c)) (ar_f (cf_rs c)) (ar_f (cf_sg c)) (ar_f (cf_le c)) (ar_f (cf_gr c)) (ar_f (cf_bd c)) (ar_f (cf_hu c)) so fm xl xh zp zb az tm qu) : wX_keepZone_12 post (nI (cf_n c)) kn (nI Z) cr em ap wt (ar_f (cf_pr c)) (ar_f (cf_fr c)) (ar_f (cf_to c)) (ar_f (cf_rs c)) (ar_f (cf_sg c)) (ar_f (cf_le c)) (ar_f (cf_gr c)) (ar_f (cf_bd c)) (ar_f (cf_hu c)) so fm xl xh zp zb az tm qu (n + 1) 1 (nI k) := by
  rw [wX_keepZone_12]
  have one : ¬ (1 : Int32) = 0 := by decide
  exact br_c (fun _ => h) (fun _ => br_f one h)
theorem xk_12 {Z : Nat} (hZ : Z ≤ 64) (h1 : (∃ z, z < Z ∧ zp z = ap ∧ ∀ k, k < 16 → (az k).toInt ≤ (zb (16 * z + k)).toInt) → wX_keepZone_36 post 1 (nI (cf_n c)) kn (nI Z) cr em ap wt (ar_f (cf_pr c)) (ar_f (cf_fr c)) (ar_f (cf_to c)) (ar_f (cf_rs c)) (ar_f (cf_sg c)) (ar_f (cf_le c)) (ar_f (cf_gr c)) (ar_f (cf_bd c)) (ar_f (cf_hu c)) so fm xl xh zp zb az tm qu) (h0 : wX_keepZone_36 post 0 (nI (cf_n c)) kn (nI Z) cr em ap wt (ar_f (cf_pr c)) (ar_f (cf_fr c)) (ar_f (cf_to c)) (ar_f (cf_rs c)) (ar_f (cf_sg c)) (ar_f (cf_le c)) (ar_f (cf_gr c)) (ar_f (cf_bd c)) (ar_f (cf_hu c)) so fm xl xh zp zb az tm qu) :
    ∀ m k, k + m = Z → wX_keepZone_12 post (nI (cf_n c)) kn (nI Z) cr em ap wt (ar_f (cf_pr c)) (ar_f (cf_fr c)) (ar_f (cf_to c)) (ar_f (cf_rs c)) (ar_f (cf_sg c)) (ar_f (cf_le c)) (ar_f (cf_gr c)) (ar_f (cf_bd c)) (ar_f (cf_hu c)) so fm xl xh zp zb az tm qu (m + 1) 0 (nI k) := by
  intro m
  induction m with
  | zero =>
    intro k e
    have ek : k = Z := by omega
    subst ek
    rw [wX_keepZone_12]
    exact pk_le k k (fun _ => h0) (fun w => absurd w (by omega))
  | succ m ih =>
    intro k e
    rw [wX_keepZone_12]
    exact pk_le Z k (fun w => absurd w (by omega)) (fun _ => br_t rfl (xk_covers (by omega) (fun a b => nm_r (nI_1 k) (xk_12o (h1 ⟨k, by omega, a, b⟩))) (nm_r (nI_1 k) (ih (k + 1) (by omega)))))
theorem xk_72 {Z : Nat} (hZ : Z < 64) (ha : ∀ k, k < 16 → -1000 ≤ (az k).toInt ∧ (az k).toInt ≤ 1000)
    (K : ∀ zb', (∀ j, j < 16 * Z → zb' j = zb j) → (∀ j, j < 16 → zb' (16 * Z + j) = az j) → wpX_noteZone post (nI (cf_n c), kn, nI (Z + 1), cr, em, ap, wt, ar_f (cf_pr c), ar_f (cf_fr c), ar_f (cf_to c), ar_f (cf_rs c), ar_f (cf_sg c), ar_f (cf_le c), ar_f (cf_gr c), ar_f (cf_bd c), ar_f (cf_hu c), so, fm, xl, xh, zp, zb', az, tm, qu)) :
    ∀ m k zb', k + m = 16 → (∀ j, j < 16 * Z → zb' j = zb j) → (∀ j, j < k → zb' (16 * Z + j) = az j) → wX_keepZone_72 post (nI (cf_n c)) kn (nI Z) cr em ap wt (m + 1) (nI k) (ar_f (cf_pr c)) (ar_f (cf_fr c)) (ar_f (cf_to c)) (ar_f (cf_rs c)) (ar_f (cf_sg c)) (ar_f (cf_le c)) (ar_f (cf_gr c)) (ar_f (cf_bd c)) (ar_f (cf_hu c)) so fm xl xh zp zb' az tm qu := by
  intro m
  induction m with
  | zero =>
    intro k zb' e h1 h2
    have ek : k = 16 := by omega
    subst ek
    rw [wX_keepZone_72]
    exact pk_le 16 16 (fun _ => nm_r (nI_1 Z) (K zb' h1 h2)) (fun w => absurd w (by omega))
  | succ m ih =>
    intro k zb' e h1 h2
    have hk : k < 16 := by omega
    have r := ha k hk
    rw [wX_keepZone_72]
    dsimp only
    rw [xr_16m, xr_c (n := k) (by omega), xr_c (n := 16 * Z + k) (by omega), xk_sh (by omega) (by omega)]
    refine pk_le 16 k (fun w => absurd w (by omega)) (fun _ => ⟨xr_i hk, xr_i (by omega), nm_e (nm_r (nI_1 k) (ih (k + 1) _ (by omega) (fun j hj => ?_) (fun j hj => ?_)))⟩)
    · rw [pk_un (by omega)]; exact h1 j hj
    · by_cases q : j = k
      · rw [q, pk_us]
      · rw [pk_un (by omega)]; exact h2 j (by omega)
theorem xk_keep (ok : cf_ok c) {Z q : Nat} (I : zw_I c Z zp zb so fm xl xh) (P : zo_P c q (zw_a az))
    (K : ∀ Z' zp' zb' so' lo' hi' cr' az' em', zw_I c Z' zp' zb' so' fm lo' hi' → zw_X Z zp zb fm cr Z' zp' zb' fm cr' → (cr' = 0 → ∀ p, zo_M (zw_a az) p → zw_H Z' zp' zb' q p) →
      post (nI (cf_n c), kn, nI Z', cr', em', nI q, wt, ar_f (cf_pr c), ar_f (cf_fr c), ar_f (cf_to c), ar_f (cf_rs c), ar_f (cf_sg c), ar_f (cf_le c), ar_f (cf_gr c), ar_f (cf_bd c), ar_f (cf_hu c), so', fm, lo', hi', zp', zb', az', tm, qu)) : wpX_keepZone post (nI (cf_n c), kn, nI Z, cr, 0, nI q, wt, ar_f (cf_pr c), ar_f (cf_fr c), ar_f (cf_to c), ar_f (cf_rs c), ar_f (cf_sg c), ar_f (cf_le c), ar_f (cf_gr c), ar_f (cf_bd c), ar_f (cf_hu c), so, fm, xl, xh, zp, zb, az, tm, qu) := by
  unfold wpX_keepZone
  have hq := P.2.2.1
  have one : ¬ (1 : Int32) = 0 := by decide
  refine xz_wait ok hq ⟨P.1, P.2.1, fun p => Iff.rfl⟩ (fun az1 em1 D1 => ?_)
  obtain ⟨p0, m0, _⟩ := zo_tight P.1 P.2.1 (i := 0) (j := 0) (by omega) (by omega)
  rcases D1 with ⟨_, D1⟩ | ⟨e1, w1, w2, w3⟩
  · exact absurd (zo_W_sub ok P m0) (D1 p0)
  · subst e1
    obtain ⟨k1, k2⟩ := zo_keep ok P w1 (w2 trivial) w3
    refine xz_widen w1 (w2 trivial) (fun az2 E2 => ?_)
    have Kz := zo_K_E E2 k1
    have sub : ∀ p, zo_M (zw_a az) p → zo_M (zw_a az2) p := fun p mp => (zo_E_M E2 p).mpr (k2 p mp)
    refine ⟨Z + 1, xk_12 I.1 (fun w => ?_) ?_ Z 0 (by omega)⟩
    · obtain ⟨z, hz, ez, hc⟩ := w
      unfold wX_keepZone_36
      refine br_f one (K Z zp zb so xl xh cr az2 0 I zw_X0 (fun _ p mp => ⟨z, hz, ?_, ?_⟩))
      · unfold zw_q; rw [ez, xr_c (by omega)]
      · have m := sub p mp
        refine ⟨m.1, fun i j hi hj hf => ?_⟩
        have a := hc (4 * i + j) (by omega)
        have b : zw_d zb z i j = (zb (16 * z + (4 * i + j))).toInt := rfl
        have d : zw_a az2 i j = (az2 (4 * i + j)).toInt := rfl
        have := m.2 i j hi hj (by omega)
        omega
    · unfold wX_keepZone_36
      refine br_t rfl (pk_eq Z 64 (fun _ => ?_) (fun ne => ⟨xr_i (by have := I.1; omega), ?_⟩) rfl rfl (by have := I.1; omega))
      · exact K Z zp zb so xl xh 1 az2 0 I ⟨Nat.le_refl _, fun _ _ => ⟨rfl, fun _ _ _ _ => rfl⟩, fun _ _ => Int.le_refl _, fun w => absurd w one⟩ (fun w => absurd w one)
      · have hZ : Z < 64 := by have := I.1; omega
        rw [xr_c (n := Z) (by omega), xk_byN (n := q) (by omega)]
        refine nm_e ⟨17, xk_72 hZ (fun k hk => ?_) (fun zb' b1 b2 => xn_zone I.2.2.2.1 Kz (fun so' lo' hi' N X T => ?_)) 16 0 zb (by omega) (fun _ _ => rfl) (fun j hj => by omega)⟩
        · have a := zo_20 Kz.1 Kz.2.1 (i := k / 4) (j := k % 4) (by omega) (by omega)
          have b := zo_lo Kz.1 (i := k / 4) (j := k % 4) (by omega) (by omega)
          have d : zw_a az2 (k / 4) (k % 4) = (az2 k).toInt := by
            show (az2 (4 * (k / 4) + k % 4)).toInt = (az2 k).toInt
            rw [show 4 * (k / 4) + k % 4 = k by omega]
          omega
        · obtain ⟨n1, n2, n3⟩ := zw_new (cr := cr) I hZ Kz b1 b2 N X T
          exact K (Z + 1) _ zb' so' lo' hi' cr az2 0 n1 n2 (fun _ p mp => n3 p (sub p mp))
end
end
section
/-! X: a move from a zone -/
def zx_gr (c : Cf_t) (e : Nat) (p : Nat → Int) : Prop := zx_g c (2 * e) 1 p ∧ zx_g c (2 * e + 1) 2 p
theorem xm_g {c : Cf_t} (ok : cf_ok c) {k i : Nat} {p : Nat → Int} (h0 : p 0 = 0) (hi : 0 ≤ p i) : zx_g c k i p ↔ sp_g1 c k (zo_ca (p i)) := by
  have r1 := cf_ole ok k
  have r2 := cf_ogr ok k
  have a := zo_ca_ge hi (n := cf_le c k) (by omega)
  have b := zo_ca_le hi (n := cf_gr c k) (by omega)
  unfold zx_g sp_g1
  rw [a, b, h0]
  constructor
  · intro ⟨u, v⟩
    refine ⟨by omega, ?_⟩
    by_cases w : cf_gr c k = 7
    · exact Or.inl w
    · exact Or.inr (fun x => by have := v x; omega)
  · intro ⟨u, v⟩
    refine ⟨by omega, fun x => ?_⟩
    rcases v with v | v
    · omega
    · have := v x; omega
theorem xm_gr {c : Cf_t} (ok : cf_ok c) {e : Nat} {p : Nat → Int} (h0 : p 0 = 0) (h1 : 0 ≤ p 1) (h2 : 0 ≤ p 2) : zx_gr c e p ↔ sp_grd c e (zo_ca (p 1)) (zo_ca (p 2)) := by
  unfold zx_gr sp_grd
  rw [xm_g ok h0 h1, xm_g ok h0 h2]
theorem xm_in {c : Cf_t} (ok : cf_ok c) {q : Nat} {p : Nat → Int} (h0 : p 0 = 0) (h1 : 0 ≤ p 1) (h2 : 0 ≤ p 2) :
    ((sp_bnd c q 0 < 7 → p 1 - p 0 ≤ sp_bnd c q 0) ∧ (sp_bnd c q 1 < 7 → p 2 - p 0 ≤ sp_bnd c q 1)) ↔ sp_in c q (zo_ca (p 1)) (zo_ca (p 2)) := by
  unfold sp_in
  rw [zo_ca_le h1 (sp_bnd_r ok q 0), zo_ca_le h2 (sp_bnd_r ok q 1), h0]
  constructor
  · intro ⟨a, b⟩
    exact ⟨fun w => by have := a w; omega, fun w => by have := b w; omega⟩
  · intro ⟨a, b⟩
    exact ⟨fun w => by have := a w; omega, fun w => by have := b w; omega⟩
def zx_rp (s : Nat) (p : Nat → Int) : Nat → Int := fun i => if i = 1 then (if s % 2 = 1 then 0 else p 1) else if i = 2 then (if s / 2 = 1 then 0 else p 2) else p i
theorem xm_rp {s : Nat} {S : (Nat → Int) → Prop} {p : Nat → Int} (h : S p) : zx_r s S (zx_rp s p) := ⟨p, h, rfl, rfl, rfl, rfl⟩
theorem xm_ca0 : zo_ca 0 = 0 := rfl
theorem xm_cx {c : Cf_t} {e f : Nat} {v : Int} : zo_ca (if sp_set c e f % 2 = 1 then 0 else v) = sp_tx c e f (zo_ca v) := by
  unfold sp_tx; split
  · rfl
  · rfl
theorem xm_cy {c : Cf_t} {e f : Nat} {v : Int} : zo_ca (if sp_set c e f / 2 = 1 then 0 else v) = sp_ty c e f (zo_ca v) := by
  unfold sp_ty; split
  · rfl
  · rfl
theorem xm_lt {x : Int32} {e f : Nat} {A B : Prop} (hf : f < 12) (hx : x = nI f ∨ (x = -1 ∧ e = f)) (a : x = -1 → e = f → A) (b : x = nI f → B) : (x < 0 → A) ∧ (¬ x < 0 → B) := by
  rcases hx with h | ⟨h, h'⟩
  · exact br_f (by rw [h]; exact nI_pos (by omega)) (b h)
  · exact br_t (by rw [h]; decide) (a h h')
theorem xm_ge {x : Int32} {e f : Nat} {A B : Prop} (hf : f < 12) (hx : x = nI f ∨ (x = -1 ∧ e = f)) (a : x = -1 → e = f → A) (b : x = nI f → B) : (0 ≤ x → B) ∧ (¬ 0 ≤ x → A) := by
  rcases hx with h | ⟨h, h'⟩
  · exact br_t (by rw [h]; exact nI_pos' (by omega)) (b h)
  · exact br_f (by rw [h]; decide) (a h h')
/-- what a move from zone z by e and f must give, said of the old zone -/
def zw_C0 (c : Cf_t) (zp zb : Nat → Int32) (Z' : Nat) (zp' zb' fm' : Nat → Int32) (z e f : Nat) : Prop :=
  ∀ p, zo_M (zw_d zb z) p → sp_en c e f (zw_q zp z) (zo_ca (p 1)) (zo_ca (p 2)) → sp_ti c e f (zw_q zp z) (zo_ca (p 1)) (zo_ca (p 2)) →
    (∃ p', zw_H Z' zp' zb' (sp_tq c e f (zw_q zp z)) p' ∧ zo_ca (p' 1) = sp_tx c e f (zo_ca (p 1)) ∧ zo_ca (p' 2) = sp_ty c e f (zo_ca (p 2)) ∧ p' 3 = p 3) ∧ (fm' e).toInt ≤ p 3 ∧ (fm' f).toInt ≤ p 3
theorem zw_C_of {c : Cf_t} {Z Z' : Nat} {zp zb fm zp' zb' fm' : Nat → Int32} {cr cr' : Int32} (x : zw_X Z zp zb fm cr Z' zp' zb' fm' cr') {z e f : Nat} (hz : z < Z) (k : zw_C0 c zp zb Z' zp' zb' fm' z e f) : zw_C c Z' zp' zb' fm' z e f := by
  obtain ⟨a, b⟩ := x.2.1 z hz
  have q : zw_q zp' z = zw_q zp z := by unfold zw_q; rw [a]
  intro p m
  rw [q]
  exact k p ((zo_E_M b p).mp m)
section
variable {c : Cf_t} {kn zs cr em ap wt : Int32} {so fm xl xh zp zb az tm qu : Nat → Int32}
variable {post : SX → Prop}
theorem xm_ll {z : Nat} (hz : z < 64) (K : ∀ az', (∀ j, j < 16 → az' j = zb (16 * z + j)) → post (nI (cf_n c), kn, zs, cr, em, ap, wt, ar_f (cf_pr c), ar_f (cf_fr c), ar_f (cf_to c), ar_f (cf_rs c), ar_f (cf_sg c), ar_f (cf_le c), ar_f (cf_gr c), ar_f (cf_bd c), ar_f (cf_hu c), so, fm, xl, xh, zp, zb, az', tm, qu)) :
    ∀ m k az', k + m = 16 → (∀ j, j < k → az' j = zb (16 * z + j)) → wX_loadZone_17 post (nI z) (nI (cf_n c)) kn zs cr em ap wt (m + 1) (nI k) (ar_f (cf_pr c)) (ar_f (cf_fr c)) (ar_f (cf_to c)) (ar_f (cf_rs c)) (ar_f (cf_sg c)) (ar_f (cf_le c)) (ar_f (cf_gr c)) (ar_f (cf_bd c)) (ar_f (cf_hu c)) so fm xl xh zp zb az' tm qu := by
  intro m
  induction m with
  | zero =>
    intro k az' e H
    have ek : k = 16 := by omega
    subst ek
    rw [wX_loadZone_17]
    exact pk_le 16 16 (fun _ => K az' H) (fun w => absurd w (by omega))
  | succ m ih =>
    intro k az' e H
    have hk : k < 16 := by omega
    rw [wX_loadZone_17]
    dsimp only
    rw [xr_16m, xr_c (n := k) (by omega), xr_c (n := 16 * z + k) (by omega)]
    refine pk_le 16 k (fun w => absurd w (by omega)) (fun _ => ⟨xr_i (by omega), xr_i hk, nm_e (nm_r (nI_1 k) (ih (k + 1) _ (by omega) (fun j hj => ?_)))⟩)
    by_cases q : j = k
    · rw [q, pk_us]
    · rw [pk_un q]; exact H j (by omega)
theorem xm_load {z : Nat} (hz : z < 64) (K : ∀ az', zo_E (zw_a az') (zw_d zb z) → post (nI (cf_n c), kn, zs, cr, 0, zp z, wt, ar_f (cf_pr c), ar_f (cf_fr c), ar_f (cf_to c), ar_f (cf_rs c), ar_f (cf_sg c), ar_f (cf_le c), ar_f (cf_gr c), ar_f (cf_bd c), ar_f (cf_hu c), so, fm, xl, xh, zp, zb, az', tm, qu)) : wpX_loadZone post (nI (cf_n c), kn, zs, cr, em, ap, wt, ar_f (cf_pr c), ar_f (cf_fr c), ar_f (cf_to c), ar_f (cf_rs c), ar_f (cf_sg c), ar_f (cf_le c), ar_f (cf_gr c), ar_f (cf_bd c), ar_f (cf_hu c), so, fm, xl, xh, zp, zb, az, tm, qu) (nI z) := by
  unfold wpX_loadZone
  rw [xr_c (n := z) (by omega)]
  refine ⟨xr_i hz, nm_e ⟨17, xm_ll hz (fun az' H => K az' (fun i j hi hj => ?_)) 16 0 az (by omega) (fun j hj => by omega)⟩⟩
  show (az' (4 * i + j)).toInt = (zb (16 * z + (4 * i + j))).toInt
  rw [H _ (by omega)]
/-- the points of zone z from which e and f can go, as far as the guards ask -/
def zx_E (c : Cf_t) (zb : Nat → Int32) (z e f : Nat) (p : Nat → Int) : Prop := zo_M (zw_d zb z) p ∧ zx_gr c e p ∧ zx_gr c f p
/-- and what the move makes of them -/
def zx_A (c : Cf_t) (zp zb : Nat → Int32) (z e f : Nat) (p : Nat → Int) : Prop :=
  (zx_r (sp_set c e f) (zx_E c zb z e f) p ∧ (sp_bnd c (sp_tq c e f (zw_q zp z)) 0 < 7 → p 1 - p 0 ≤ sp_bnd c (sp_tq c e f (zw_q zp z)) 0)) ∧ (sp_bnd c (sp_tq c e f (zw_q zp z)) 1 < 7 → p 2 - p 0 ≤ sp_bnd c (sp_tq c e f (zw_q zp z)) 1)
end
section
variable {c : Cf_t} {zp zb : Nat → Int32} {z e f : Nat}
/-- an enabled point goes where the move goes -/
theorem xm_fwd (ok : cf_ok c) (Kz : zo_K c (zw_q zp z) (zw_d zb z)) {p : Nat → Int} (m : zo_M (zw_d zb z) p) (en : sp_en c e f (zw_q zp z) (zo_ca (p 1)) (zo_ca (p 2))) (ti : sp_ti c e f (zw_q zp z) (zo_ca (p 1)) (zo_ca (p 2))) :
    zx_A c zp zb z e f (zx_rp (sp_set c e f) p) := by
  have p0 := m.1
  have z1 := zo_pos Kz.1 m (i := 1) (by omega)
  have z2 := zo_pos Kz.1 m (i := 2) (by omega)
  have E : zx_E c zb z e f p := ⟨m, (xm_gr ok p0 z1 z2).mpr en.2.2.1, (xm_gr ok p0 z1 z2).mpr en.2.2.2.1⟩
  have b := (xm_in ok (q := sp_tq c e f (zw_q zp z)) (p := zx_rp (sp_set c e f) p) p0
    (by show 0 ≤ (if sp_set c e f % 2 = 1 then 0 else p 1); split <;> omega) (by show 0 ≤ (if sp_set c e f / 2 = 1 then 0 else p 2); split <;> omega)).mpr (by
      show sp_in c _ (zo_ca (if sp_set c e f % 2 = 1 then 0 else p 1)) (zo_ca (if sp_set c e f / 2 = 1 then 0 else p 2))
      rw [xm_cx, xm_cy]; exact ti)
  exact ⟨⟨xm_rp E, b.1⟩, b.2⟩
/-- and all that the move makes comes of an enabled point -/
theorem xm_bwd (ok : cf_ok c) (Kz : zo_K c (zw_q zp z) (zw_d zb z)) (l1 : sp_led c e (zw_q zp z)) (l2 : sp_led c f (zw_q zp z)) (sg : (e = f ∧ cf_sg c e = 0) ∨ sp_prt c e f) {p' : Nat → Int} (a : zx_A c zp zb z e f p') :
    ∃ p, zo_M (zw_d zb z) p ∧ sp_en c e f (zw_q zp z) (zo_ca (p 1)) (zo_ca (p 2)) ∧ sp_ti c e f (zw_q zp z) (zo_ca (p 1)) (zo_ca (p 2)) ∧ zo_ca (p' 1) = sp_tx c e f (zo_ca (p 1)) ∧ zo_ca (p' 2) = sp_ty c e f (zo_ca (p 2)) ∧ p' 3 = p 3 ∧ 0 ≤ p 3 ∧
      sp_in c (sp_tq c e f (zw_q zp z)) (zo_ca (p' 1)) (zo_ca (p' 2)) := by
  obtain ⟨⟨⟨p, ⟨m, g1, g2⟩, e0, e1, e2, e3⟩, b1⟩, b2⟩ := a
  have p0 := m.1
  have z1 := zo_pos Kz.1 m (i := 1) (by omega)
  have z2 := zo_pos Kz.1 m (i := 2) (by omega)
  have z3 := zo_pos Kz.1 m (i := 3) (by omega)
  have q1 : 0 ≤ p' 1 := by rw [e1]; split <;> omega
  have q2 : 0 ≤ p' 2 := by rw [e2]; split <;> omega
  have i := (xm_in ok (q := sp_tq c e f (zw_q zp z)) (p := p') (by omega) q1 q2).mp ⟨b1, b2⟩
  have c1 : zo_ca (p' 1) = sp_tx c e f (zo_ca (p 1)) := by rw [e1]; exact xm_cx
  have c2 : zo_ca (p' 2) = sp_ty c e f (zo_ca (p 2)) := by rw [e2]; exact xm_cy
  refine ⟨p, m, ⟨l1, l2, (xm_gr ok p0 z1 z2).mp g1, (xm_gr ok p0 z1 z2).mp g2, sg⟩, ?_, c1, c2, e3, z3, i⟩
  unfold sp_ti
  rw [← c1, ← c2]; exact i
end
section
variable {c : Cf_t} {kn zs cr em ap wt : Int32} {so fm xl xh zp zb az tm qu : Nat → Int32}
variable {post : SX → Prop} {Z z e f : Nat} {x : Int32}
theorem xm_134 (ok : cf_ok c) {q : Nat} (I : zw_I c Z zp zb so fm xl xh) (P : zo_P c q (zw_a az))
    (K : ∀ Z' zp' zb' so' lo' hi' cr' az' em', zw_I c Z' zp' zb' so' fm lo' hi' → zw_X Z zp zb fm cr Z' zp' zb' fm cr' → (cr' = 0 → ∀ p, zo_M (zw_a az) p → zw_H Z' zp' zb' q p) →
      post (nI (cf_n c), kn, nI Z', cr', em', nI q, wt, ar_f (cf_pr c), ar_f (cf_fr c), ar_f (cf_to c), ar_f (cf_rs c), ar_f (cf_sg c), ar_f (cf_le c), ar_f (cf_gr c), ar_f (cf_bd c), ar_f (cf_hu c), so', fm, lo', hi', zp', zb', az', tm, qu)) : wX_moveZone_134 post (nI (cf_n c)) kn (nI Z) cr 0 (nI q) wt (ar_f (cf_pr c)) (ar_f (cf_fr c)) (ar_f (cf_to c)) (ar_f (cf_rs c)) (ar_f (cf_sg c)) (ar_f (cf_le c)) (ar_f (cf_gr c)) (ar_f (cf_bd c)) (ar_f (cf_hu c)) so fm xl xh zp zb az tm qu := by
  unfold wX_moveZone_134
  exact xk_keep ok I P K
theorem xm_fm (I : zw_I c Z zp zb so fm xl xh) {fm' : Nat → Int32} (N : no_U c fm') (X : ∀ e', e' < 12 → (fm' e').toInt ≤ (fm e').toInt) : zw_I c Z zp zb so fm' xl xh ∧ zw_X Z zp zb fm cr Z zp zb fm' cr :=
  ⟨⟨I.1, I.2.1, I.2.2.1, I.2.2.2.1, N⟩, ⟨Nat.le_refl _, fun _ _ => ⟨rfl, fun _ _ _ _ => rfl⟩, X, id⟩⟩
theorem xm_91 (ok : cf_ok c) (I : zw_I c Z zp zb so fm xl xh) (hz : z < Z) (he : e < cf_n c) (hf : f < cf_n c) (hx : x = nI f ∨ (x = -1 ∧ e = f)) (l1 : sp_led c e (zw_q zp z)) (l2 : sp_led c f (zw_q zp z)) (sg : (e = f ∧ cf_sg c e = 0) ∨ sp_prt c e f)
    (D : zx_1 az (zx_r (sp_set c e f) (zx_E c zb z e f)))
    (K : ∀ Z' zp' zb' so' fm' lo' hi' cr' az' em' ap', zw_I c Z' zp' zb' so' fm' lo' hi' → zw_X Z zp zb fm cr Z' zp' zb' fm' cr' → (cr' = 0 → zw_C c Z' zp' zb' fm' z e f) →
      post (nI (cf_n c), kn, nI Z', cr', em', ap', wt, ar_f (cf_pr c), ar_f (cf_fr c), ar_f (cf_to c), ar_f (cf_rs c), ar_f (cf_sg c), ar_f (cf_le c), ar_f (cf_gr c), ar_f (cf_bd c), ar_f (cf_hu c), so', fm', lo', hi', zp', zb', az', tm, qu)) : wX_moveZone_91 post (nI e) x (nI (sp_tq c e f (zw_q zp z))) (nI (cf_n c)) kn (nI Z) cr 0 ap wt (ar_f (cf_pr c)) (ar_f (cf_fr c)) (ar_f (cf_to c)) (ar_f (cf_rs c)) (ar_f (cf_sg c)) (ar_f (cf_le c)) (ar_f (cf_gr c)) (ar_f (cf_bd c)) (ar_f (cf_hu c)) so fm xl xh zp zb az tm qu := by
  unfold wX_moveZone_91
  have n := cf_on ok
  have Kz := (I.2.1 z hz).2
  have hq := sp_tq_r ok e f Kz.2.2.1
  have one : ¬ (1 : Int32) = 0 := by decide
  refine xz_lb ok hq (zx_1_D D) (fun az1 em1 D1 => ?_)
  rcases D1 with ⟨e1, D1⟩ | ⟨e1, w1, w2, w3⟩
  · subst e1
    refine br_f one (K Z zp zb so fm xl xh cr az1 1 _ I zw_X0 (fun _ => ?_))
    intro p m en ti
    exact absurd (xm_fwd ok Kz m en ti) (D1 _)
  · subst e1
    have F1 := w2 trivial
    have d1 := w1.2.2.1 3 (by omega)
    have ea : (az1 3).toInt = zw_a az1 0 3 := rfl
    have en3 : (-(az1 3)).toInt = -(zw_a az1 0 3) := by rw [xr_neg (by omega), ea]
    obtain ⟨p1, m1, t1⟩ := zo_tight w1 F1 (i := 0) (j := 3) (by omega) (by omega)
    obtain ⟨p0, r1, r2, r3, r4, r5, r6, r7, r8⟩ := xm_bwd ok Kz l1 l2 sg ((w3 p1).mp m1)
    have q1 := m1.1
    have R0 := Kz.2.2.2.1 p0 r1
    have tt : (-(az1 3)).toInt = ((p0 3).toNat : Int) := by omega
    have u1 : sp_U c e (p0 3).toNat := ⟨_, _, _, f, R0, he, hf, Or.inl ⟨r2, r3⟩⟩
    have u2 : sp_U c f (p0 3).toNat := ⟨_, _, _, e, R0, hf, he, Or.inr ⟨r2, r3⟩⟩
    have P : zo_P c (sp_tq c e f (zw_q zp z)) (zw_a az1) := by
      refine ⟨w1, F1, hq, fun p' mp' => ?_⟩
      obtain ⟨p, s1, s2, s3, s4, s5, s6, s7, s8⟩ := xm_bwd ok Kz l1 l2 sg ((w3 p').mp mp')
      refine ⟨s8, ?_⟩
      rw [s4, s5, s6]
      exact sp_Rm (Kz.2.2.2.1 p s1) he hf s2 s3
    have fin : ∀ (fm2 : Nat → Int32), (fm2 e).toInt ≤ (-(az1 3)).toInt → (fm2 f).toInt ≤ (-(az1 3)).toInt → ∀ (Z' : Nat) (zp' zb' : Nat → Int32), (∀ p, zo_M (zw_a az1) p → zw_H Z' zp' zb' (sp_tq c e f (zw_q zp z)) p) → zw_C0 c zp zb Z' zp' zb' fm2 z e f := by
      intro fm2 h1 h2 Z' zp' zb' H p m en ti
      have mm := (w3 _).mpr (xm_fwd ok Kz m en ti)
      have l := mm.2 0 3 (by omega) (by omega) (by omega)
      have l0 : zx_rp (sp_set c e f) p 0 = p 0 := rfl
      have l3 : zx_rp (sp_set c e f) p 3 = p 3 := rfl
      have pz := m.1
      rw [l0, l3] at l
      exact ⟨⟨_, H _ mm, xm_cx, xm_cy, rfl⟩, by omega, by omega⟩
    refine br_t rfl (xn_use (by omega) I.2.2.2.2 ⟨_, u1, tt⟩ (fun fm1 N1 X1 L1 => xm_lt (by omega) hx (fun _ ef => ?_) (fun xf => ?_)))
    · obtain ⟨I1, Y1⟩ := xm_fm (cr := cr) I N1 X1
      refine xm_134 ok I1 P (fun Z' zp' zb' so' lo' hi' cr' az' em' I' X' H' => ?_)
      have X2 := zw_Xt Y1 X'
      exact K Z' zp' zb' so' fm1 lo' hi' cr' az' em' _ I' X2 (fun w => zw_C_of X2 hz (fin fm1 L1 (by rw [← ef]; exact L1) Z' zp' zb' (H' w)))
    · subst xf
      refine xn_use (by omega) N1 ⟨_, u2, tt⟩ (fun fm2 N2 X2 L2 => ?_)
      have a := X2 e (by omega)
      obtain ⟨I1, Y1⟩ := xm_fm (cr := cr) I N2 (fun e' he' => Int.le_trans (X2 e' he') (X1 e' he'))
      refine xm_134 ok I1 P (fun Z' zp' zb' so' lo' hi' cr' az' em' I' X' H' => ?_)
      have X3 := zw_Xt Y1 X'
      exact K Z' zp' zb' so' fm2 lo' hi' cr' az' em' _ I' X3 (fun w => zw_C_of X3 hz (fin fm2 (by omega) L2 Z' zp' zb' (H' w)))
theorem xm_54 (ok : cf_ok c) (I : zw_I c Z zp zb so fm xl xh) (hz : z < Z) (he : e < cf_n c) (hf : f < cf_n c) (hx : x = nI f ∨ (x = -1 ∧ e = f)) (l1 : sp_led c e (zw_q zp z)) (l2 : sp_led c f (zw_q zp z)) (sg : (e = f ∧ cf_sg c e = 0) ∨ sp_prt c e f)
    (D : zx_1 az (zx_E c zb z e f))
    (K : ∀ Z' zp' zb' so' fm' lo' hi' cr' az' em' ap', zw_I c Z' zp' zb' so' fm' lo' hi' → zw_X Z zp zb fm cr Z' zp' zb' fm' cr' → (cr' = 0 → zw_C c Z' zp' zb' fm' z e f) →
      post (nI (cf_n c), kn, nI Z', cr', em', ap', wt, ar_f (cf_pr c), ar_f (cf_fr c), ar_f (cf_to c), ar_f (cf_rs c), ar_f (cf_sg c), ar_f (cf_le c), ar_f (cf_gr c), ar_f (cf_bd c), ar_f (cf_hu c), so', fm', lo', hi', zp', zb', az', tm, qu)) : wX_moveZone_54 post (nI e) x (nI (sp_set c e f)) (nI (cf_n c)) kn (nI Z) cr 0 (nI (zw_q zp z)) wt (ar_f (cf_pr c)) (ar_f (cf_fr c)) (ar_f (cf_to c)) (ar_f (cf_rs c)) (ar_f (cf_sg c)) (ar_f (cf_le c)) (ar_f (cf_gr c)) (ar_f (cf_bd c)) (ar_f (cf_hu c)) so fm xl xh zp zb az tm qu := by
  unfold wX_moveZone_54
  have n := cf_on ok
  have hq := (I.2.1 z hz).2.2.2.1
  have sr := (xr_or _ (cf_ors ok e) _ (cf_ors ok f)).2
  refine xz_ra sr D (fun az1 D1 => xr_pair ok (by omega) hq (xm_ge (by omega) hx (fun _ ef => ?_) (fun xf => ?_)))
  · have E := xm_91 (post := post) (kn := kn) (wt := wt) (cr := cr) (ap := nI (sp_aft c e (zw_q zp z))) (tm := tm) (qu := qu) ok I hz he hf hx l1 l2 sg D1 K
    have q : sp_tq c e f (zw_q zp z) = sp_aft c e (zw_q zp z) := by
      unfold sp_tq; rw [← ef]; exact sp_aft_i ok e _
    rw [q] at E
    exact E
  · rw [xf]
    exact xr_pair ok (by omega) (sp_aft_r ok e hq) (xm_91 ok I hz he hf (Or.inl rfl) l1 l2 sg D1 K)
theorem xm_19 (ok : cf_ok c) (I : zw_I c Z zp zb so fm xl xh) (hz : z < Z) (he : e < cf_n c) (hf : f < cf_n c) (hx : x = nI f ∨ (x = -1 ∧ e = f)) (l1 : sp_led c e (zw_q zp z)) (l2 : sp_led c f (zw_q zp z)) (sg : (e = f ∧ cf_sg c e = 0) ∨ sp_prt c e f)
    (D : zx_D True az em (zx_E c zb z e f))
    (K : ∀ Z' zp' zb' so' fm' lo' hi' cr' az' em' ap', zw_I c Z' zp' zb' so' fm' lo' hi' → zw_X Z zp zb fm cr Z' zp' zb' fm' cr' → (cr' = 0 → zw_C c Z' zp' zb' fm' z e f) →
      post (nI (cf_n c), kn, nI Z', cr', em', ap', wt, ar_f (cf_pr c), ar_f (cf_fr c), ar_f (cf_to c), ar_f (cf_rs c), ar_f (cf_sg c), ar_f (cf_le c), ar_f (cf_gr c), ar_f (cf_bd c), ar_f (cf_hu c), so', fm', lo', hi', zp', zb', az', tm, qu)) : wX_moveZone_19 post (nI e) x (nI (cf_n c)) kn (nI Z) cr em (nI (zw_q zp z)) wt (ar_f (cf_pr c)) (ar_f (cf_fr c)) (ar_f (cf_to c)) (ar_f (cf_rs c)) (ar_f (cf_sg c)) (ar_f (cf_le c)) (ar_f (cf_gr c)) (ar_f (cf_bd c)) (ar_f (cf_hu c)) so fm xl xh zp zb az tm qu := by
  unfold wX_moveZone_19
  have n := cf_on ok
  have one : ¬ (1 : Int32) = 0 := by decide
  have Kz := (I.2.1 z hz).2
  rcases D with ⟨e1, D⟩ | ⟨e1, w1, w2, w3⟩
  · subst e1
    refine br_f one (K Z zp zb so fm xl xh cr az 1 _ I zw_X0 (fun _ => ?_))
    intro p m en ti
    obtain ⟨⟨⟨p', E, _⟩, _⟩, _⟩ := xm_fwd ok Kz m en ti
    exact absurd E (D _)
  · subst e1
    refine br_t rfl (xm_ge (by omega) hx (fun xe ef => ?_) (fun xf => ?_))
    · rw [xr_c (n := e) (by omega), xr_g]
      refine ⟨xr_i (by omega), ?_⟩
      have q : sp_set c e f = cf_rs c e := by unfold sp_set; rw [← ef, Nat.or_self]
      have E := xm_54 (post := post) (kn := kn) (wt := wt) (cr := cr) (tm := tm) (qu := qu) ok I hz he hf hx l1 l2 sg ⟨w1, w2 trivial, w3⟩ K
      rw [q] at E
      exact E
    · rw [xf, xr_c (n := e) (by omega), xr_c (n := f) (by omega), xr_g, xr_g, (xr_or _ (cf_ors ok e) _ (cf_ors ok f)).1]
      exact ⟨xr_i (by omega), xr_i (by omega), xm_54 ok I hz he hf (Or.inl rfl) l1 l2 sg ⟨w1, w2 trivial, w3⟩ K⟩
theorem xm_zone (ok : cf_ok c) (I : zw_I c Z zp zb so fm xl xh) (hz : z < Z) (he : e < cf_n c) (hf : f < cf_n c) (hx : x = nI f ∨ (x = -1 ∧ e = f)) (l1 : sp_led c e (zw_q zp z)) (l2 : sp_led c f (zw_q zp z)) (sg : (e = f ∧ cf_sg c e = 0) ∨ sp_prt c e f)
    (K : ∀ Z' zp' zb' so' fm' lo' hi' cr' az' em' ap', zw_I c Z' zp' zb' so' fm' lo' hi' → zw_X Z zp zb fm cr Z' zp' zb' fm' cr' → (cr' = 0 → zw_C c Z' zp' zb' fm' z e f) →
      post (nI (cf_n c), kn, nI Z', cr', em', ap', wt, ar_f (cf_pr c), ar_f (cf_fr c), ar_f (cf_to c), ar_f (cf_rs c), ar_f (cf_sg c), ar_f (cf_le c), ar_f (cf_gr c), ar_f (cf_bd c), ar_f (cf_hu c), so', fm', lo', hi', zp', zb', az', tm, qu)) : wpX_moveZone post (nI (cf_n c), kn, nI Z, cr, em, ap, wt, ar_f (cf_pr c), ar_f (cf_fr c), ar_f (cf_to c), ar_f (cf_rs c), ar_f (cf_sg c), ar_f (cf_le c), ar_f (cf_gr c), ar_f (cf_bd c), ar_f (cf_hu c), so, fm, xl, xh, zp, zb, az, tm, qu) (nI z) (nI e) x := by
  unfold wpX_moveZone
  have n := cf_on ok
  have hZ := I.1
  obtain ⟨ezp, Kz⟩ := I.2.1 z hz
  refine xm_load (by omega) (fun az0 E0 => ?_)
  rw [ezp]
  have D0 : zx_D True az0 0 (zo_M (zw_d zb z)) := Or.inr ⟨rfl, zo_E_CZ E0 Kz.1, fun _ => zo_E_F E0 Kz.2.1, fun p => zo_E_M E0 p⟩
  refine xz_le ok (by omega) D0 (fun az1 em1 D1 => xm_lt (by omega) hx (fun xe ef => ?_) (fun xf => ?_))
  · refine xm_19 ok I hz he hf hx l1 l2 sg (zx_D_c D1 (fun p => ?_)) K
    unfold zx_E
    rw [← ef]
    exact ⟨fun m => ⟨m.1.1, ⟨m.1.2, m.2⟩, ⟨m.1.2, m.2⟩⟩, fun m => ⟨⟨m.1, m.2.1.1⟩, m.2.1.2⟩⟩
  · subst xf
    refine xz_le ok (by omega) D1 (fun az2 em2 D2 => xm_19 ok I hz he hf (Or.inl rfl) l1 l2 sg (zx_D_c D2 (fun p => ?_)) K)
    exact ⟨fun m => ⟨m.1.1.1.1, ⟨m.1.1.1.2, m.1.1.2⟩, ⟨m.1.2, m.2⟩⟩, fun m => ⟨⟨⟨⟨m.1, m.2.1.1⟩, m.2.1.2⟩, m.2.2.1⟩, m.2.2.2⟩⟩
end
end
section
/-! X: all zones are followed -/
section
variable {c : Cf_t} {kn wt : Int32} {tm qu : Nat → Int32} {post : SX → Prop}
theorem xf_36 (ok : cf_ok c) {Z0 z e q : Nat} {zp0 zb0 fm0 : Nat → Int32} {cr0 : Int32} (hz : z < Z0) (he : e < cf_n c) (hq : q = zw_q zp0 z) (l1 : sp_led c e q)
    (K : ∀ Z' zp' zb' so' fm' lo' hi' cr' az' em' ap', zw_I c Z' zp' zb' so' fm' lo' hi' → zw_X Z0 zp0 zb0 fm0 cr0 Z' zp' zb' fm' cr' → (cr' = 0 → ∀ f, f < cf_n c → zw_C c Z' zp' zb' fm' z e f) →
      post (nI (cf_n c), kn, nI Z', cr', em', ap', wt, ar_f (cf_pr c), ar_f (cf_fr c), ar_f (cf_to c), ar_f (cf_rs c), ar_f (cf_sg c), ar_f (cf_le c), ar_f (cf_gr c), ar_f (cf_bd c), ar_f (cf_hu c), so', fm', lo', hi', zp', zb', az', tm, qu)) :
    ∀ (m f Z : Nat) (zp zb so fm xl xh az : Nat → Int32) (cr em ap : Int32), f + m = cf_n c → zw_I c Z zp zb so fm xl xh → zw_X Z0 zp0 zb0 fm0 cr0 Z zp zb fm cr →
      (cr = 0 → (cf_sg c e = 0 → zw_C c Z zp zb fm z e e) ∧ ∀ f', f' < f → zw_C c Z zp zb fm z e f') → wX_moveBy_36 post (nI z) (nI e) (nI q) (m + 1) (nI f) (nI (cf_n c)) kn (nI Z) cr em ap wt (ar_f (cf_pr c)) (ar_f (cf_fr c)) (ar_f (cf_to c)) (ar_f (cf_rs c)) (ar_f (cf_sg c)) (ar_f (cf_le c)) (ar_f (cf_gr c)) (ar_f (cf_bd c)) (ar_f (cf_hu c)) so fm xl xh zp zb az tm qu := by
  have n := cf_on ok
  intro m
  induction m with
  | zero =>
    intro f Z zp zb so fm xl xh az cr em ap ef I X H
    have e1 : f = cf_n c := by omega
    subst e1
    rw [wX_moveBy_36]
    exact pk_le (cf_n c) (cf_n c) (fun _ => K _ _ _ _ _ _ _ _ _ _ _ I X (fun w => (H w).2)) (fun w => absurd w (by omega))
  | succ m ih =>
    intro f Z zp zb so fm xl xh az cr em ap ef I X H
    have hzZ : z < Z := Nat.lt_of_lt_of_le hz X.1
    have qz : zw_q zp z = q := by rw [hq]; unfold zw_q; rw [(X.2.1 z hz).1]
    have hq16 : q < 16 := by rw [← qz]; exact (I.2.1 z hzZ).2.2.2.1
    have skip : ¬ (sp_prt c e f ∧ sp_led c f q) → wX_moveBy_36 post (nI z) (nI e) (nI q) (m + 1) (nI (f + 1)) (nI (cf_n c)) kn (nI Z) cr em ap wt (ar_f (cf_pr c)) (ar_f (cf_fr c)) (ar_f (cf_to c)) (ar_f (cf_rs c)) (ar_f (cf_sg c)) (ar_f (cf_le c)) (ar_f (cf_gr c)) (ar_f (cf_bd c)) (ar_f (cf_hu c)) so fm xl xh zp zb az tm qu := fun no =>
      ih (f + 1) Z zp zb so fm xl xh az cr em ap (by omega) I X (fun w => ⟨(H w).1, fun f' hf' => by
        by_cases q' : f' = f
        · subst q'
          intro p mp en ti
          rw [qz] at en
          rcases en.2.2.2.2 with ⟨e1, e2⟩ | e1
          · subst e1
            rw [← qz] at en
            exact (H w).1 e2 p mp en ti
          · exact absurd ⟨e1, en.2.1⟩ no
        · exact (H w).2 f' (by omega)⟩)
    rw [wX_moveBy_36]
    have one : ¬ (1 : Int32) = 0 := by decide
    refine pk_le (cf_n c) f (fun w => absurd w (by omega)) (fun _ => xr_meets ok (by omega) (by omega) (fun pt => br_f one ?_) (fun pt => br_t rfl (nm_r (nI_1 f) (skip (fun w => pt w.1)))))
    refine xr_leads ok (by omega) hq16 (fun ld => br_f one ?_) (fun ld => br_t rfl (nm_r (nI_1 f) (skip (fun w => ld w.2))))
    refine xm_zone (f := f) ok I hzZ he (by omega) (Or.inl rfl) (by rw [qz]; exact l1) (by rw [qz]; exact ld) (Or.inr pt) (fun Z' zp' zb' so' fm' lo' hi' cr' az' em' ap' I' X' C' => nm_r (nI_1 f) ?_)
    refine ih (f + 1) Z' zp' zb' so' fm' lo' hi' az' cr' em' ap' (by omega) I' (zw_Xt X X') (fun w => ?_)
    have w0 := X'.2.2.2 w
    refine ⟨fun s => zw_C_X ok X' hzZ he he ((H w0).1 s), fun f' hf' => ?_⟩
    by_cases q' : f' = f
    · subst q'; exact C' w
    · exact zw_C_X ok X' hzZ he (by omega) ((H w0).2 f' (by omega))
end
section
variable {c : Cf_t} {kn zs cr em ap wt : Int32} {so fm xl xh zp zb az tm qu : Nat → Int32}
variable {post : SX → Prop}
theorem xf_by (ok : cf_ok c) {Z z e : Nat} (I : zw_I c Z zp zb so fm xl xh) (hz : z < Z) (he : e < cf_n c)
    (K : ∀ Z' zp' zb' so' fm' lo' hi' cr' az' em' ap', zw_I c Z' zp' zb' so' fm' lo' hi' → zw_X Z zp zb fm cr Z' zp' zb' fm' cr' → (cr' = 0 → ∀ f, f < cf_n c → zw_C c Z' zp' zb' fm' z e f) →
      post (nI (cf_n c), kn, nI Z', cr', em', ap', wt, ar_f (cf_pr c), ar_f (cf_fr c), ar_f (cf_to c), ar_f (cf_rs c), ar_f (cf_sg c), ar_f (cf_le c), ar_f (cf_gr c), ar_f (cf_bd c), ar_f (cf_hu c), so', fm', lo', hi', zp', zb', az', tm, qu)) : wpX_moveBy post (nI (cf_n c), kn, nI Z, cr, em, ap, wt, ar_f (cf_pr c), ar_f (cf_fr c), ar_f (cf_to c), ar_f (cf_rs c), ar_f (cf_sg c), ar_f (cf_le c), ar_f (cf_gr c), ar_f (cf_bd c), ar_f (cf_hu c), so, fm, xl, xh, zp, zb, az, tm, qu) (nI z) (nI e) := by
  unfold wpX_moveBy
  dsimp only
  have n := cf_on ok
  have hZ := I.1
  obtain ⟨ezp, Kz⟩ := I.2.1 z hz
  have one : ¬ (1 : Int32) = 0 := by decide
  rw [xr_c (n := z) (by omega), xr_c (n := e) (by omega), xr_g]
  refine ⟨xr_i (by omega), nm_r ezp (xr_leads ok (by omega) Kz.2.2.1 (fun ld => br_f one ⟨xr_i (by omega), ?_⟩) (fun ld => br_t rfl (K Z zp zb so fm xl xh cr az em ap I zw_X0 (fun _ f hf p mp en ti => absurd en.1 ld))))⟩
  have r := cf_osg ok e
  refine pk_eq (cf_sg c e) 0 (fun s => ?_) (fun s => ?_)
  · refine xm_zone (f := e) ok I hz he he (Or.inr ⟨rfl, rfl⟩) ld ld (Or.inl ⟨rfl, s⟩) (fun Z' zp' zb' so' fm' lo' hi' cr' az' em' ap' I' X' C' => ⟨cf_n c + 1, ?_⟩)
    exact xf_36 (post := post) (zp0 := zp) (zb0 := zb) (fm0 := fm) (cr0 := cr) ok hz he rfl ld K (cf_n c) 0 Z' zp' zb' so' fm' lo' hi' az' cr' em' ap' (by omega) I' X' (fun w => ⟨fun _ => C' w, fun f' hf' => by omega⟩)
  · exact ⟨cf_n c + 1, xf_36 (post := post) (zp0 := zp) (zb0 := zb) (fm0 := fm) (cr0 := cr) ok hz he rfl ld K (cf_n c) 0 Z zp zb so fm xl xh az cr em ap (by omega) I zw_X0 (fun w => ⟨fun s' => absurd s' s, fun f' hf' => by omega⟩)⟩
end
section
variable {c : Cf_t} {kn wt : Int32} {tm qu : Nat → Int32} {post : SX → Prop}
theorem xf_64 (ok : cf_ok c) {J : Int32 → Int32 → Int32 → Int32 → Int32 → Int32 → Int32 → Int32 → (Nat → Int32) → (Nat → Int32) → (Nat → Int32) → (Nat → Int32) → (Nat → Int32) → (Nat → Int32) → (Nat → Int32) → (Nat → Int32) → (Nat → Int32) → (Nat → Int32) → (Nat → Int32) → (Nat → Int32) → (Nat → Int32) → (Nat → Int32) → (Nat → Int32) → (Nat → Int32) → (Nat → Int32) → (Nat → Int32) →  Prop} {Z0 z : Nat} {zp0 zb0 fm0 : Nat → Int32} {cr0 : Int32} (hz : z < Z0)
    (K : ∀ Z' zp' zb' so' fm' lo' hi' cr' az' em' ap', zw_I c Z' zp' zb' so' fm' lo' hi' → zw_X Z0 zp0 zb0 fm0 cr0 Z' zp' zb' fm' cr' → (cr' = 0 → ∀ e f, e < cf_n c → f < cf_n c → zw_C c Z' zp' zb' fm' z e f) →
      J (nI (z + 1)) (nI (cf_n c)) kn (nI Z') cr' em' ap' wt (ar_f (cf_pr c)) (ar_f (cf_fr c)) (ar_f (cf_to c)) (ar_f (cf_rs c)) (ar_f (cf_sg c)) (ar_f (cf_le c)) (ar_f (cf_gr c)) (ar_f (cf_bd c)) (ar_f (cf_hu c)) so' fm' lo' hi' zp' zb' az' tm qu) :
    ∀ (m e Z : Nat) (zp zb so fm xl xh az : Nat → Int32) (cr em ap : Int32), e + m = cf_n c → zw_I c Z zp zb so fm xl xh → zw_X Z0 zp0 zb0 fm0 cr0 Z zp zb fm cr →
      (cr = 0 → ∀ e' f, e' < e → f < cf_n c → zw_C c Z zp zb fm z e' f) → wX_followZones_64 post J (nI z) (m + 1) (nI e) (nI (cf_n c)) kn (nI Z) cr em ap wt (ar_f (cf_pr c)) (ar_f (cf_fr c)) (ar_f (cf_to c)) (ar_f (cf_rs c)) (ar_f (cf_sg c)) (ar_f (cf_le c)) (ar_f (cf_gr c)) (ar_f (cf_bd c)) (ar_f (cf_hu c)) so fm xl xh zp zb az tm qu := by
  have n := cf_on ok
  intro m
  induction m with
  | zero =>
    intro e Z zp zb so fm xl xh az cr em ap ee I X H
    have e1 : e = cf_n c := by omega
    subst e1
    rw [wX_followZones_64]
    exact pk_le (cf_n c) (cf_n c) (fun _ => nm_r (nI_1 z) (K _ _ _ _ _ _ _ _ _ _ _ I X (fun w e f he hf => H w e f he hf))) (fun w => absurd w (by omega))
  | succ m ih =>
    intro e Z zp zb so fm xl xh az cr em ap ee I X H
    have hzZ : z < Z := Nat.lt_of_lt_of_le hz X.1
    rw [wX_followZones_64]
    refine pk_le (cf_n c) e (fun w => absurd w (by omega)) (fun _ => xf_by ok I hzZ (by omega) (fun Z' zp' zb' so' fm' lo' hi' cr' az' em' ap' I' X' C' => nm_r (nI_1 e) ?_))
    refine ih (e + 1) Z' zp' zb' so' fm' lo' hi' az' cr' em' ap' (by omega) I' (zw_Xt X X') (fun w e' f he' hf => ?_)
    have w0 := X'.2.2.2 w
    by_cases q' : e' = e
    · subst q'; exact C' w f hf
    · exact zw_C_X ok X' hzZ (by omega) hf (H w0 e' f (by omega) hf)
theorem xf_47 (ok : cf_ok c)
    (K : ∀ Z' zp' zb' so' fm' lo' hi' cr' az' em' ap', (cr' = 0 → sp_X c so' fm' lo' hi') →
      post (nI (cf_n c), kn, nI Z', cr', em', ap', wt, ar_f (cf_pr c), ar_f (cf_fr c), ar_f (cf_to c), ar_f (cf_rs c), ar_f (cf_sg c), ar_f (cf_le c), ar_f (cf_gr c), ar_f (cf_bd c), ar_f (cf_hu c), so', fm', lo', hi', zp', zb', az', tm, qu)) :
    ∀ (m z Z : Nat) (zp zb so fm xl xh az : Nat → Int32) (cr em ap : Int32), z + m = 64 → zw_I c Z zp zb so fm xl xh → (cr = 0 → ∃ p, zw_H Z zp zb 0 p ∧ zo_ca (p 1) = 0 ∧ zo_ca (p 2) = 0 ∧ p 3 = 0) →
      (cr = 0 → ∀ z' e f, z' < z → z' < Z → e < cf_n c → f < cf_n c → zw_C c Z zp zb fm z' e f) → z ≤ Z → wX_followZones_47 post (m + 1) (nI z) (nI (cf_n c)) kn (nI Z) cr em ap wt (ar_f (cf_pr c)) (ar_f (cf_fr c)) (ar_f (cf_to c)) (ar_f (cf_rs c)) (ar_f (cf_sg c)) (ar_f (cf_le c)) (ar_f (cf_gr c)) (ar_f (cf_bd c)) (ar_f (cf_hu c)) so fm xl xh zp zb az tm qu := by
  have n := cf_on ok
  intro m
  induction m with
  | zero =>
    intro z Z zp zb so fm xl xh az cr em ap ez I H0 H hzZ
    have hZ := I.1
    have e1 : z = 64 := by omega
    subst e1
    rw [wX_followZones_47]
    exact pk_le Z 64 (fun _ => K _ _ _ _ _ _ _ _ _ _ _ (fun w => zw_end ok I (H0 w) (fun z' e f hz' he hf => H w z' e f (by omega) hz' he hf))) (fun w => absurd w (by omega))
  | succ m ih =>
    intro z Z zp zb so fm xl xh az cr em ap ez I H0 H hzZ
    have hZ := I.1
    rw [wX_followZones_47]
    refine pk_le Z z (fun w => K _ _ _ _ _ _ _ _ _ _ _ (fun w' => zw_end ok I (H0 w') (fun z' e f hz' he hf => H w' z' e f (by omega) hz' he hf))) (fun hz => br_c (fun cr0 => ⟨cf_n c + 1, ?_⟩) (fun cr1 => K _ _ _ _ _ _ _ _ _ _ _ (fun w => absurd w cr1)))
    refine xf_64 (post := post) (zp0 := zp) (zb0 := zb) (fm0 := fm) (cr0 := cr) ok hz (fun Z' zp' zb' so' fm' lo' hi' cr' az' em' ap' I' X' C' => ?_) (cf_n c) 0 Z zp zb so fm xl xh az cr em ap (by omega) I zw_X0 (fun _ e' f he' => by omega)
    refine ih (z + 1) Z' zp' zb' so' fm' lo' hi' az' cr' em' ap' (by omega) I' (fun w => ?_) (fun w z' e f hz' _ he hf => ?_) (Nat.le_trans hz X'.1)
    · obtain ⟨p, h, r⟩ := H0 (X'.2.2.2 w)
      exact ⟨p, zw_H_X X' h, r⟩
    · by_cases q' : z' = z
      · subst q'; exact C' w e f he hf
      · exact zw_C_X ok X' (by omega) he hf (H (X'.2.2.2 w) z' e f (by omega) (by omega) he hf)
end
/-! the first zone -/
theorem xf_z0 {c : Cf_t} {az : Nat → Int32} (h : ∀ j, j < 16 → az j = 0) : zo_P c 0 (zw_a az) := by
  have e : ∀ i j, i < 4 → j < 4 → zw_a az i j = 0 := fun i j hi hj => by
    show (az (4 * i + j)).toInt = 0
    rw [h _ (by omega)]; decide
  refine ⟨⟨fun i hi => e i i hi hi, fun i j k hi hj hk _ _ => ?_, fun j hj => ?_, fun i j hi hj _ => ?_, fun i hi => ?_, ?_, ?_⟩, fun i hi => ?_, by omega, fun p m => ?_⟩
  · rw [e i j hi hj, e i k hi hk, e k j hk hj]; omega
  · rw [e 0 j (by omega) hj]; omega
  · rw [e i j hi hj]; omega
  · rw [e i 0 hi (by omega)]; omega
  · rw [e 1 3 (by omega) (by omega)]; omega
  · rw [e 2 3 (by omega) (by omega)]; omega
  · rw [e i 0 hi (by omega)]; omega
  · have p0 := m.1
    have z : ∀ i, i < 4 → p i = 0 := fun i hi => by
      have a := m.2 i 0 hi (by omega) (by rw [e i 0 hi (by omega)]; omega)
      have b := m.2 0 i (by omega) hi (by rw [e 0 i (by omega) hi]; omega)
      rw [e i 0 hi (by omega)] at a
      rw [e 0 i (by omega) hi] at b
      omega
    rw [z 1 (by omega), z 2 (by omega), z 3 (by omega)]
    exact ⟨⟨Nat.zero_le _, Nat.zero_le _⟩, sp_R0 c⟩
section
variable {c : Cf_t} {kn zs cr em ap wt : Int32} {so fm xl xh zp zb az tm qu : Nat → Int32}
variable {post : SX → Prop}
theorem xf_22 (K : ∀ az' : Nat → Int32, (∀ j, j < 16 → az' j = 0) → wX_followZones_22 post (nI (cf_n c)) kn zs cr em ap wt 1 (nI 16) (ar_f (cf_pr c)) (ar_f (cf_fr c)) (ar_f (cf_to c)) (ar_f (cf_rs c)) (ar_f (cf_sg c)) (ar_f (cf_le c)) (ar_f (cf_gr c)) (ar_f (cf_bd c)) (ar_f (cf_hu c)) so fm xl xh zp zb az' tm qu) :
    ∀ (m k : Nat) (az' : Nat → Int32), k + m = 16 → (∀ j, j < k → az' j = 0) → wX_followZones_22 post (nI (cf_n c)) kn zs cr em ap wt (m + 1) (nI k) (ar_f (cf_pr c)) (ar_f (cf_fr c)) (ar_f (cf_to c)) (ar_f (cf_rs c)) (ar_f (cf_sg c)) (ar_f (cf_le c)) (ar_f (cf_gr c)) (ar_f (cf_bd c)) (ar_f (cf_hu c)) so fm xl xh zp zb az' tm qu := by
  intro m
  induction m with
  | zero =>
    intro k az' e H
    have ek : k = 16 := by omega
    subst ek
    exact K az' H
  | succ m ih =>
    intro k az' e H
    have hk : k < 16 := by omega
    rw [wX_followZones_22]
    dsimp only
    rw [xr_c (n := k) (by omega)]
    refine pk_le 16 k (fun w => absurd w (by omega)) (fun _ => ⟨xr_i hk, nm_e (nm_r (nI_1 k) (ih (k + 1) _ (by omega) (fun j hj => ?_)))⟩)
    by_cases q : j = k
    · rw [q, pk_us]
    · rw [pk_un q]; exact H j (by omega)
theorem xf_zones (ok : cf_ok c) (N : no_S c so xl xh) (N' : no_U c fm)
    (K : ∀ Z' zp' zb' so' fm' lo' hi' cr' az' em' ap', (cr' = 0 → sp_X c so' fm' lo' hi') →
      post (nI (cf_n c), kn, nI Z', cr', em', ap', wt, ar_f (cf_pr c), ar_f (cf_fr c), ar_f (cf_to c), ar_f (cf_rs c), ar_f (cf_sg c), ar_f (cf_le c), ar_f (cf_gr c), ar_f (cf_bd c), ar_f (cf_hu c), so', fm', lo', hi', zp', zb', az', tm, qu)) : wpX_followZones post (nI (cf_n c), kn, zs, cr, em, ap, wt, ar_f (cf_pr c), ar_f (cf_fr c), ar_f (cf_to c), ar_f (cf_rs c), ar_f (cf_sg c), ar_f (cf_le c), ar_f (cf_gr c), ar_f (cf_bd c), ar_f (cf_hu c), so, fm, xl, xh, zp, zb, az, tm, qu) := by
  unfold wpX_followZones
  have I0 : zw_I c 0 zp zb so fm xl xh := ⟨by omega, fun z hz => by omega, fun z hz => by omega, N, N'⟩
  refine ⟨17, xf_22 (zs := 0) (cr := 0) (em := 0) (ap := 0) (fun az1 h1 => ?_) 16 0 az (by omega) (fun j hj => by omega)⟩
  rw [wX_followZones_22]
  refine pk_le 16 16 (fun _ => ?_) (fun w => absurd w (by omega))
  refine xk_keep (Z := 0) (q := 0) (cr := 0) ok I0 (xf_z0 h1) (fun Z' zp' zb' so' lo' hi' cr' az' em' I' X' H' => ⟨65, ?_⟩)
  refine xf_47 (post := post) ok K 64 0 Z' zp' zb' so' fm lo' hi' az' cr' em' _ (by omega) I' (fun w => ⟨fun _ => 0, H' w _ ⟨rfl, fun i j hi hj _ => ?_⟩, rfl, rfl, rfl⟩) (fun _ z' e f hz' => by omega) (by omega)
  show (0 : Int) - 0 ≤ (az1 (4 * i + j)).toInt
  rw [h1 _ (by omega)]; decide
end
end
section
/-! X: whole time steps: moves of a cell -/
def xs_R (b : Bf_t) (wt : Int32) (tm qu fm : Nat → Int32) : Prop :=
  wt = nI b.2.2.1 ∧ (∀ s, s < 1024 → tm s = if b.1 s < 21 then nI (b.1 s) else -1) ∧ (∀ i, i < b.2.2.1 → qu i = nI (b.2.1 i)) ∧
  (∀ e, e < 12 → (fm e).toInt = if b.2.2.2 e < 21 then (b.2.2.2 e : Int) else 1000)
theorem xs_shN {n : Nat} (h : n < 32768) : vp_nar .short (nI n).toInt16.toInt32 = nI n := by
  have e : (nI n).toInt = (n : Int) := nI_toInt (by omega)
  exact xk_sh (by omega) (by omega)
section
variable {c : Cf_t} {kn zs cr em ap wt : Int32} {so fm xl xh zp zb az tm qu : Nat → Int32}
variable {post : SX → Prop} {b : Bf_t}
theorem xs_come {s t : Nat} (R : xs_R b wt tm qu fm) (hm : b.2.2.1 + bf_ct b.1 1024 = 1024) (hs : s < 1024) (ht : t ≤ 20) (K : ∀ wt' tm' qu', xs_R (bf_meet s t b) wt' tm' qu' fm → post (nI (cf_n c), kn, zs, cr, em, ap, wt', ar_f (cf_pr c), ar_f (cf_fr c), ar_f (cf_to c), ar_f (cf_rs c), ar_f (cf_sg c), ar_f (cf_le c), ar_f (cf_gr c), ar_f (cf_bd c), ar_f (cf_hu c), so, fm, xl, xh, zp, zb, az, tm', qu')) : wpX_comeTo post (nI (cf_n c), kn, zs, cr, em, ap, wt, ar_f (cf_pr c), ar_f (cf_fr c), ar_f (cf_to c), ar_f (cf_rs c), ar_f (cf_sg c), ar_f (cf_le c), ar_f (cf_gr c), ar_f (cf_bd c), ar_f (cf_hu c), so, fm, xl, xh, zp, zb, az, tm, qu) (nI s) (nI t) := by
  obtain ⟨r1, r2, r3, r4⟩ := R
  unfold wpX_comeTo
  dsimp only
  rw [xr_c (n := s) (by omega), r2 s hs]
  unfold bf_meet at K
  by_cases z : b.1 s < 21
  · rw [if_pos z] at K
    rw [if_pos z]
    exact ⟨xr_i hs, br_f (nI_pos (by omega)) (K _ _ _ ⟨r1, r2, r3, r4⟩)⟩
  · rw [if_neg z] at K
    rw [if_neg z, xk_byN (n := t) (by omega), xs_shN (n := s) (by omega)]
    have room := bf_room hs z hm
    refine ⟨xr_i hs, br_t (by decide) ⟨xr_i hs, nm_e ⟨by rw [r1]; exact xr_i room, nm_e (nm_e (K _ _ _ ⟨?_, fun x hx => ?_, fun i hi => ?_, r4⟩))⟩⟩⟩
    · rw [r1]; exact nI_1 _
    · show upd tm s (nI t) x = if bf_up b.1 s t x < 21 then nI (bf_up b.1 s t x) else -1
      by_cases q : x = s
      · rw [q, pk_us, bf_us, if_pos (by omega)]
      · rw [pk_un q, bf_un q]; exact r2 x hx
    · show upd qu wt.toNatClampNeg (nI s) i = nI (bf_up b.2.1 b.2.2.1 s i)
      have hi' : i < b.2.2.1 + 1 := hi
      rw [r1, xr_c (by omega)]
      by_cases q : i = b.2.2.1
      · rw [q, pk_us, bf_us]
      · rw [pk_un q, bf_un q]; exact r3 i (by omega)
theorem xs_use {e t : Nat} (R : xs_R b wt tm qu fm) (he : e < 12) (ht : t ≤ 20) (K : ∀ fm', xs_R (bf_use e t b) wt tm qu fm' → post (nI (cf_n c), kn, zs, cr, em, ap, wt, ar_f (cf_pr c), ar_f (cf_fr c), ar_f (cf_to c), ar_f (cf_rs c), ar_f (cf_sg c), ar_f (cf_le c), ar_f (cf_gr c), ar_f (cf_bd c), ar_f (cf_hu c), so, fm', xl, xh, zp, zb, az, tm, qu)) : wpX_noteUse post (nI (cf_n c), kn, zs, cr, em, ap, wt, ar_f (cf_pr c), ar_f (cf_fr c), ar_f (cf_to c), ar_f (cf_rs c), ar_f (cf_sg c), ar_f (cf_le c), ar_f (cf_gr c), ar_f (cf_bd c), ar_f (cf_hu c), so, fm, xl, xh, zp, zb, az, tm, qu) (nI e) (nI t) := by
  obtain ⟨r1, r2, r3, r4⟩ := R
  unfold wpX_noteUse
  dsimp only
  rw [xr_c (n := e) (by omega), no_u]
  have et : (nI t).toInt = (t : Int) := nI_toInt (by omega)
  have f := r4 e he
  unfold bf_use at K
  refine ⟨xr_i he, br_c (fun z => ⟨xr_i he, xr_i he, nm_e ?_⟩) (fun z => ⟨xr_i he, nm_e ?_⟩)⟩
  · rw [Int32.le_iff_toInt_le, et, f] at z
    have nz : ¬ t < b.2.2.2 e := by
      by_cases w : b.2.2.2 e < 21
      · rw [if_pos w] at z; omega
      · rw [if_neg w] at z; omega
    rw [if_neg nz] at K
    exact K fm ⟨r1, r2, r3, r4⟩
  · rw [Int32.le_iff_toInt_le, et, f] at z
    have nz : t < b.2.2.2 e := by
      by_cases w : b.2.2.2 e < 21
      · rw [if_pos w] at z; omega
      · omega
    rw [if_pos nz] at K
    refine K _ ⟨r1, r2, r3, fun e' he' => ?_⟩
    show (upd fm e (nI t) e').toInt = if bf_up b.2.2.2 e t e' < 21 then ((bf_up b.2.2.2 e t e' : Nat) : Int) else 1000
    by_cases q : e' = e
    · rw [q, pk_us, bf_us, et, if_pos (by omega)]
    · rw [pk_un q, bf_un q]; exact r4 e' he'
theorem xs_168 {s s' t : Nat} (R : xs_R b wt tm qu fm) (hm : b.2.2.1 + bf_ct b.1 1024 = 1024) (hs : s < 1024) (hs' : s' < 1024) (bs : b.1 s = t) (ht : t ≤ 20) (K : ∀ wt' tm' qu', xs_R (bf_meet s' t b) wt' tm' qu' fm → post (nI (cf_n c), kn, zs, cr, em, ap, wt', ar_f (cf_pr c), ar_f (cf_fr c), ar_f (cf_to c), ar_f (cf_rs c), ar_f (cf_sg c), ar_f (cf_le c), ar_f (cf_gr c), ar_f (cf_bd c), ar_f (cf_hu c), so, fm, xl, xh, zp, zb, az, tm', qu')) :
    wX_moveCell_168 post (nI s) (nI s') (nI (cf_n c)) kn zs cr em ap wt (ar_f (cf_pr c)) (ar_f (cf_fr c)) (ar_f (cf_to c)) (ar_f (cf_rs c)) (ar_f (cf_sg c)) (ar_f (cf_le c)) (ar_f (cf_gr c)) (ar_f (cf_bd c)) (ar_f (cf_hu c)) so fm xl xh zp zb az tm qu := by
  unfold wX_moveCell_168
  have e : tm s = nI t := by rw [R.2.1 s hs, bs, if_pos (by omega)]
  rw [xr_c (n := s) (by omega), e]
  exact ⟨xr_i hs, xs_come R hm hs' ht K⟩
theorem xs_118 (ok : cf_ok c) {s e f t : Nat} {x : Int32} (R : xs_R b wt tm qu fm) (hm : b.2.2.1 + bf_ct b.1 1024 = 1024) (hs : s < 1024) (he : e < 12) (hf : f < 12) (hx : x = nI f ∨ (x = -1 ∧ e = f)) (bs : b.1 s = t) (ht : t ≤ 20)
    (K : ∀ wt' tm' qu' fm', xs_R (bf_mv c e f s b) wt' tm' qu' fm' → post (nI (cf_n c), kn, zs, cr, em, ap, wt', ar_f (cf_pr c), ar_f (cf_fr c), ar_f (cf_to c), ar_f (cf_rs c), ar_f (cf_sg c), ar_f (cf_le c), ar_f (cf_gr c), ar_f (cf_bd c), ar_f (cf_hu c), so, fm', xl, xh, zp, zb, az, tm', qu')) :
    wX_moveCell_118 post (nI s) (nI e) x (nI (sp_tq c e f (s / 64))) (nI (sp_tx c e f (s / 8 % 8))) (nI (sp_ty c e f (s % 8))) (nI (cf_n c)) kn zs cr em ap wt (ar_f (cf_pr c)) (ar_f (cf_fr c)) (ar_f (cf_to c)) (ar_f (cf_rs c)) (ar_f (cf_sg c)) (ar_f (cf_le c)) (ar_f (cf_gr c)) (ar_f (cf_bd c)) (ar_f (cf_hu c)) so fm xl xh zp zb az tm qu := by
  unfold wX_moveCell_118
  have one : ¬ (1 : Int32) = 0 := by decide
  have ts : tm s = nI t := by rw [R.2.1 s hs, bs, if_pos (by omega)]
  have tg : bf_cell (sp_tq c e f (s / 64)) (sp_tx c e f (s / 8 % 8)) (sp_ty c e f (s % 8)) = bf_tg c e f s := rfl
  have hg : bf_tg c e f s < 1024 := bf_cell_r (sp_tq_r ok e f (by omega)) (sp_tx_r (by omega)) (sp_ty_r (by omega))
  unfold bf_mv at K
  refine xr_cell ?_
  rw [tg]
  refine xr_keeps ok hg (fun i => br_f one ?_) (fun i => br_t rfl ?_)
  · rw [bf_ift i, bs] at K
    rw [xr_c (n := s) (by omega), ts]
    refine ⟨xr_i hs, xs_use R he ht (fun fm1 R1 => xm_lt hf hx (fun _ ef => ?_) (fun xf => ?_))⟩
    · refine xs_168 R1 hm hs hg bs ht (fun wt' tm' qu' R2 => K wt' tm' qu' fm1 ?_)
      rw [← ef, bf_use_i]
      rw [← ef] at R2
      exact R2
    · rw [xf]
      exact ⟨xr_i hs, by rw [ts]; exact xs_use R1 hf ht (fun fm2 R2 => xs_168 R2 hm hs hg bs ht (fun wt' tm' qu' R3 => K wt' tm' qu' fm2 R3))⟩
  · rw [bf_iff i] at K
    exact K wt tm qu fm R
theorem xs_a2 : ∀ s, s < 4 → nI s &&& 2 = nI (2 * (s / 2)) := by decide +kernel
theorem xs_78 (ok : cf_ok c) {s e f t : Nat} {x : Int32} (R : xs_R b wt tm qu fm) (hm : b.2.2.1 + bf_ct b.1 1024 = 1024) (hs : s < 1024) (he : e < 12) (hf : f < 12) (hx : x = nI f ∨ (x = -1 ∧ e = f)) (bs : b.1 s = t) (ht : t ≤ 20)
    (K : ∀ wt' tm' qu' fm', xs_R (bf_mv c e f s b) wt' tm' qu' fm' → post (nI (cf_n c), kn, zs, cr, em, ap, wt', ar_f (cf_pr c), ar_f (cf_fr c), ar_f (cf_to c), ar_f (cf_rs c), ar_f (cf_sg c), ar_f (cf_le c), ar_f (cf_gr c), ar_f (cf_bd c), ar_f (cf_hu c), so, fm', xl, xh, zp, zb, az, tm', qu')) :
    wX_moveCell_78 post (nI s) (nI e) x (nI (sp_set c e f)) (nI (sp_tq c e f (s / 64))) (nI (cf_n c)) kn zs cr em ap wt (ar_f (cf_pr c)) (ar_f (cf_fr c)) (ar_f (cf_to c)) (ar_f (cf_rs c)) (ar_f (cf_sg c)) (ar_f (cf_le c)) (ar_f (cf_gr c)) (ar_f (cf_bd c)) (ar_f (cf_hu c)) so fm xl xh zp zb az tm qu := by
  have sr : sp_set c e f < 4 := (xr_or _ (cf_ors ok e) _ (cf_ors ok f)).2
  have G := xs_118 (post := post) (kn := kn) (zs := zs) (cr := cr) (em := em) (ap := ap) (so := so) (xl := xl) (xh := xh) (zp := zp) (zb := zb) (az := az) ok R hm hs he hf hx bs ht K
  have h98 : wX_moveCell_98 post (nI s) (nI e) x (nI (sp_set c e f)) (nI (sp_tq c e f (s / 64))) (nI (sp_tx c e f (s / 8 % 8))) (nI (cf_n c)) kn zs cr em ap wt (ar_f (cf_pr c)) (ar_f (cf_fr c)) (ar_f (cf_to c)) (ar_f (cf_rs c)) (ar_f (cf_sg c)) (ar_f (cf_le c)) (ar_f (cf_gr c)) (ar_f (cf_bd c)) (ar_f (cf_hu c)) so fm xl xh zp zb az tm qu := by
    unfold wX_moveCell_98
    rw [xs_a2 _ sr]
    refine pk_eq (2 * (sp_set c e f / 2)) 2 (fun z => ?_) (fun z => ?_)
    · have q : sp_ty c e f (s % 8) = 0 := by unfold sp_ty; rw [if_pos (by omega)]
      rw [q] at G
      exact G
    · have q : sp_ty c e f (s % 8) = s % 8 := by unfold sp_ty; rw [if_neg (by omega)]
      rw [q] at G
      exact xr_value (k := 1) hs (by omega) G
  unfold wX_moveCell_78
  rw [xr_and1 (by omega)]
  refine pk_eq (sp_set c e f % 2) 1 (fun z => ?_) (fun z => ?_)
  · have q : sp_tx c e f (s / 8 % 8) = 0 := by unfold sp_tx; rw [if_pos z]
    rw [q] at h98
    exact h98
  · have q : sp_tx c e f (s / 8 % 8) = s / 8 % 8 := by unfold sp_tx; rw [if_neg z]
    rw [q] at h98
    exact xr_value (k := 0) hs (by omega) h98
theorem xs_49 (ok : cf_ok c) {s e f t : Nat} {x : Int32} (R : xs_R b wt tm qu fm) (hm : b.2.2.1 + bf_ct b.1 1024 = 1024) (hs : s < 1024) (he : e < 12) (hf : f < 12) (hx : x = nI f ∨ (x = -1 ∧ e = f)) (bs : b.1 s = t) (ht : t ≤ 20)
    (K : ∀ wt' tm' qu' fm', xs_R (bf_mv c e f s b) wt' tm' qu' fm' → post (nI (cf_n c), kn, zs, cr, em, ap, wt', ar_f (cf_pr c), ar_f (cf_fr c), ar_f (cf_to c), ar_f (cf_rs c), ar_f (cf_sg c), ar_f (cf_le c), ar_f (cf_gr c), ar_f (cf_bd c), ar_f (cf_hu c), so, fm', xl, xh, zp, zb, az, tm', qu')) :
    wX_moveCell_49 post (nI s) (nI e) x (nI (sp_set c e f)) (nI (cf_n c)) kn zs cr em ap wt (ar_f (cf_pr c)) (ar_f (cf_fr c)) (ar_f (cf_to c)) (ar_f (cf_rs c)) (ar_f (cf_sg c)) (ar_f (cf_le c)) (ar_f (cf_gr c)) (ar_f (cf_bd c)) (ar_f (cf_hu c)) so fm xl xh zp zb az tm qu := by
  unfold wX_moveCell_49
  rw [xr_shr6 hs]
  have G := xs_78 (post := post) (kn := kn) (zs := zs) (cr := cr) (em := em) (ap := ap) (so := so) (xl := xl) (xh := xh) (zp := zp) (zb := zb) (az := az) ok R hm hs he hf hx bs ht K
  refine xr_pair ok he (by omega) (xm_ge hf hx (fun _ ef => ?_) (fun xf => ?_))
  · have q : sp_tq c e f (s / 64) = sp_aft c e (s / 64) := by
      unfold sp_tq; rw [← ef]; exact sp_aft_i ok e _
    rw [q] at G
    exact G
  · rw [xf] at G ⊢
    exact xr_pair ok hf (sp_aft_r ok e (by omega)) G
theorem xs_23 (ok : cf_ok c) {s e f t : Nat} {x : Int32} (R : xs_R b wt tm qu fm) (hm : b.2.2.1 + bf_ct b.1 1024 = 1024) (hs : s < 1024) (he : e < 12) (hf : f < 12) (hx : x = nI f ∨ (x = -1 ∧ e = f)) (bs : b.1 s = t) (ht : t ≤ 20)
    (K : ∀ wt' tm' qu' fm', xs_R (bf_mv c e f s b) wt' tm' qu' fm' → post (nI (cf_n c), kn, zs, cr, em, ap, wt', ar_f (cf_pr c), ar_f (cf_fr c), ar_f (cf_to c), ar_f (cf_rs c), ar_f (cf_sg c), ar_f (cf_le c), ar_f (cf_gr c), ar_f (cf_bd c), ar_f (cf_hu c), so, fm', xl, xh, zp, zb, az, tm', qu')) :
    wX_moveCell_23 post (nI s) (nI e) x (nI (cf_n c)) kn zs cr em ap wt (ar_f (cf_pr c)) (ar_f (cf_fr c)) (ar_f (cf_to c)) (ar_f (cf_rs c)) (ar_f (cf_sg c)) (ar_f (cf_le c)) (ar_f (cf_gr c)) (ar_f (cf_bd c)) (ar_f (cf_hu c)) so fm xl xh zp zb az tm qu := by
  unfold wX_moveCell_23
  have G := xs_49 (post := post) (kn := kn) (zs := zs) (cr := cr) (em := em) (ap := ap) (so := so) (xl := xl) (xh := xh) (zp := zp) (zb := zb) (az := az) ok R hm hs he hf hx bs ht K
  refine xm_ge hf hx (fun _ ef => ?_) (fun xf => ?_)
  · have q : sp_set c e f = cf_rs c e := by unfold sp_set; rw [← ef, Nat.or_self]
    rw [q] at G
    rw [xr_c (n := e) (by omega), xr_g]
    exact ⟨xr_i he, G⟩
  · rw [xf] at G ⊢
    rw [xr_c (n := e) (by omega), xr_c (n := f) (by omega), xr_g, xr_g, (xr_or _ (cf_ors ok e) _ (cf_ors ok f)).1]
    exact ⟨xr_i he, xr_i hf, G⟩
/-- a move of a cell -/
theorem xs_cell (ok : cf_ok c) {s e f t : Nat} {x : Int32} (R : xs_R b wt tm qu fm) (hm : b.2.2.1 + bf_ct b.1 1024 = 1024) (hs : s < 1024) (he : e < 12) (hf : f < 12) (hx : x = nI f ∨ (x = -1 ∧ e = f)) (bs : b.1 s = t) (ht : t ≤ 20)
    (K1 : sp_grd c e (s / 8 % 8) (s % 8) ∧ sp_grd c f (s / 8 % 8) (s % 8) → ∀ wt' tm' qu' fm', xs_R (bf_mv c e f s b) wt' tm' qu' fm' → post (nI (cf_n c), kn, zs, cr, em, ap, wt', ar_f (cf_pr c), ar_f (cf_fr c), ar_f (cf_to c), ar_f (cf_rs c), ar_f (cf_sg c), ar_f (cf_le c), ar_f (cf_gr c), ar_f (cf_bd c), ar_f (cf_hu c), so, fm', xl, xh, zp, zb, az, tm', qu'))
    (K0 : ¬ (sp_grd c e (s / 8 % 8) (s % 8) ∧ sp_grd c f (s / 8 % 8) (s % 8)) → post (nI (cf_n c), kn, zs, cr, em, ap, wt, ar_f (cf_pr c), ar_f (cf_fr c), ar_f (cf_to c), ar_f (cf_rs c), ar_f (cf_sg c), ar_f (cf_le c), ar_f (cf_gr c), ar_f (cf_bd c), ar_f (cf_hu c), so, fm, xl, xh, zp, zb, az, tm, qu)) : wpX_moveCell post (nI (cf_n c), kn, zs, cr, em, ap, wt, ar_f (cf_pr c), ar_f (cf_fr c), ar_f (cf_to c), ar_f (cf_rs c), ar_f (cf_sg c), ar_f (cf_le c), ar_f (cf_gr c), ar_f (cf_bd c), ar_f (cf_hu c), so, fm, xl, xh, zp, zb, az, tm, qu) (nI s) (nI e) x := by
  unfold wpX_moveCell
  have one : ¬ (1 : Int32) = 0 := by decide
  refine xr_allows ok hs he (fun g => br_f one (xm_lt hf hx (fun _ ef => ?_) (fun xf => ?_))) (fun g => br_t rfl (K0 (fun w => g w.1)))
  · exact xs_23 ok R hm hs he hf hx bs ht (K1 ⟨g, by rw [← ef]; exact g⟩)
  · subst xf
    exact xr_allows ok hs hf (fun g' => br_f one (xs_23 ok R hm hs he hf (Or.inl rfl) bs ht (K1 ⟨g, g'⟩))) (fun g' => br_t rfl (K0 (fun w => g' w.2)))
end
section
variable {c : Cf_t} {kn zs cr em ap : Int32} {so xl xh zp zb az : Nat → Int32} {post : SX → Prop} {T : Nat}
theorem xs_34 (ok : cf_ok c) (hT : T ≤ 20) {s e : Nat} (hs : s < 1024) (he : e < cf_n c) (ld : sp_led c e (s / 64)) :
    ∀ (m f : Nat) (b : Bf_t) (wt : Int32) (tm qu fm : Nat → Int32), f + m = cf_n c → xs_R b wt tm qu fm → bf_G c T b → b.1 s = T →
      (∀ wt' tm' qu' fm', xs_R (bf_it (bf_f c s e) m f b) wt' tm' qu' fm' → post (nI (cf_n c), kn, zs, cr, em, ap, wt', ar_f (cf_pr c), ar_f (cf_fr c), ar_f (cf_to c), ar_f (cf_rs c), ar_f (cf_sg c), ar_f (cf_le c), ar_f (cf_gr c), ar_f (cf_bd c), ar_f (cf_hu c), so, fm', xl, xh, zp, zb, az, tm', qu')) → wX_moveCellBy_34 post (nI s) (nI e) (nI (s / 64)) (m + 1) (nI f) (nI (cf_n c)) kn zs cr em ap wt (ar_f (cf_pr c)) (ar_f (cf_fr c)) (ar_f (cf_to c)) (ar_f (cf_rs c)) (ar_f (cf_sg c)) (ar_f (cf_le c)) (ar_f (cf_gr c)) (ar_f (cf_bd c)) (ar_f (cf_hu c)) so fm xl xh zp zb az tm qu := by
  have n := cf_on ok
  intro m
  induction m with
  | zero =>
    intro f b wt tm qu fm ef R G bs K
    have e1 : f = cf_n c := by omega
    subst e1
    rw [wX_moveCellBy_34]
    exact pk_le (cf_n c) (cf_n c) (fun _ => K _ _ _ _ R) (fun w => absurd w (by omega))
  | succ m ih =>
    intro f b wt tm qu fm ef R G bs K
    have one : ¬ (1 : Int32) = 0 := by decide
    have K' : ∀ wt' tm' qu' fm', xs_R (bf_it (bf_f c s e) m (f + 1) (bf_f c s e f b)) wt' tm' qu' fm' → post (nI (cf_n c), kn, zs, cr, em, ap, wt', ar_f (cf_pr c), ar_f (cf_fr c), ar_f (cf_to c), ar_f (cf_rs c), ar_f (cf_sg c), ar_f (cf_le c), ar_f (cf_gr c), ar_f (cf_bd c), ar_f (cf_hu c), so, fm', xl, xh, zp, zb, az, tm', qu') := K
    obtain ⟨⟨G', bs'⟩, _⟩ := bf_f_ok ok hT he (by omega : f < cf_n c) hs G bs
    have skip : ¬ (sp_prt c e f ∧ bf_op c e s ∧ bf_op c f s) → wX_moveCellBy_34 post (nI s) (nI e) (nI (s / 64)) (m + 1) (nI (f + 1)) (nI (cf_n c)) kn zs cr em ap wt (ar_f (cf_pr c)) (ar_f (cf_fr c)) (ar_f (cf_to c)) (ar_f (cf_rs c)) (ar_f (cf_sg c)) (ar_f (cf_le c)) (ar_f (cf_gr c)) (ar_f (cf_bd c)) (ar_f (cf_hu c)) so fm xl xh zp zb az tm qu := fun no => by
      have q : bf_f c s e f b = b := bf_iff no
      rw [q] at K'
      exact ih (f + 1) b wt tm qu fm (by omega) R G bs K'
    rw [wX_moveCellBy_34]
    refine pk_le (cf_n c) f (fun w => absurd w (by omega)) (fun _ => xr_meets ok (by omega) (by omega) (fun pt => br_f one ?_) (fun pt => br_t rfl (nm_r (nI_1 f) (skip (fun w => pt w.1)))))
    refine xr_leads ok (by omega) (by omega) (fun lf => br_f one ?_) (fun lf => br_t rfl (nm_r (nI_1 f) (skip (fun w => lf w.2.2.1))))
    refine xs_cell ok R G.2.1 hs (by omega) (by omega) (Or.inl rfl) bs hT (fun g wt' tm' qu' fm' R' => nm_r (nI_1 f) ?_) (fun g => nm_r (nI_1 f) (skip (fun w => g ⟨w.2.1.2, w.2.2.2⟩)))
    have q : bf_f c s e f b = bf_mv c e f s b := bf_ift ⟨pt, ⟨ld, g.1⟩, ⟨lf, g.2⟩⟩
    rw [q] at K' G' bs'
    exact ih (f + 1) _ wt' tm' qu' fm' (by omega) R' G' bs' K'
theorem xs_by (ok : cf_ok c) (hT : T ≤ 20) {s e : Nat} (hs : s < 1024) (he : e < cf_n c) {b : Bf_t} {wt : Int32} {tm qu fm : Nat → Int32} (R : xs_R b wt tm qu fm) (G : bf_G c T b) (bs : b.1 s = T)
    (K : ∀ wt' tm' qu' fm', xs_R (bf_e c s e b) wt' tm' qu' fm' → post (nI (cf_n c), kn, zs, cr, em, ap, wt', ar_f (cf_pr c), ar_f (cf_fr c), ar_f (cf_to c), ar_f (cf_rs c), ar_f (cf_sg c), ar_f (cf_le c), ar_f (cf_gr c), ar_f (cf_bd c), ar_f (cf_hu c), so, fm', xl, xh, zp, zb, az, tm', qu')) : wpX_moveCellBy post (nI (cf_n c), kn, zs, cr, em, ap, wt, ar_f (cf_pr c), ar_f (cf_fr c), ar_f (cf_to c), ar_f (cf_rs c), ar_f (cf_sg c), ar_f (cf_le c), ar_f (cf_gr c), ar_f (cf_bd c), ar_f (cf_hu c), so, fm, xl, xh, zp, zb, az, tm, qu) (nI s) (nI e) := by
  have n := cf_on ok
  have one : ¬ (1 : Int32) = 0 := by decide
  unfold wpX_moveCellBy
  dsimp only
  rw [xr_shr6 hs, xr_c (n := e) (by omega), xr_g]
  obtain ⟨⟨G', bs'⟩, _⟩ := bf_e0_ok ok hT he hs G bs
  refine nm_e (xr_leads ok (by omega) (by omega) (fun ld => br_f one ⟨xr_i (by omega), ?_⟩) (fun ld => br_t rfl (K _ _ _ _ (by rw [bf_e_n (fun w => ld w.1)]; exact R))))
  have r := cf_osg ok e
  refine pk_eq (cf_sg c e) 0 (fun sg => ?_) (fun sg => ?_)
  · refine xs_cell (f := e) ok R G.2.1 hs (by omega) (by omega) (Or.inr ⟨rfl, rfl⟩) bs hT (fun g wt' tm' qu' fm' R' => ⟨cf_n c + 1, ?_⟩) (fun g => ⟨cf_n c + 1, ?_⟩)
    · have q : bf_e0 c s e b = bf_mv c e e s b := bf_ift ⟨sg, ld, g.1⟩
      rw [← q] at R'
      exact xs_34 ok hT hs he ld (cf_n c) 0 _ wt' tm' qu' fm' (by omega) R' G' bs' K
    · have q : bf_e0 c s e b = b := bf_iff (fun w => g ⟨w.2.2, w.2.2⟩)
      have R' := R
      rw [← q] at R'
      exact xs_34 ok hT hs he ld (cf_n c) 0 _ wt tm qu fm (by omega) R' G' bs' K
  · have q : bf_e0 c s e b = b := bf_iff (fun w => sg w.1)
    have R' := R
    rw [← q] at R'
    exact ⟨cf_n c + 1, xs_34 ok hT hs he ld (cf_n c) 0 _ wt tm qu fm (by omega) R' G' bs' K⟩
end
end
section
/-! X: whole time steps: cells noted, times settled -/
theorem xs_caN {v : Nat} (h : v ≤ 7) : zo_ca (nI v).toInt = v := by
  have e : (nI v).toInt = (v : Int) := nI_toInt (by omega)
  rw [e]; unfold zo_ca; split <;> omega
section
variable {c : Cf_t} {kn zs cr em ap wt : Int32} {so fm xl xh zp zb az tm qu : Nat → Int32}
variable {post : SX → Prop}
theorem xs_n18 {s k n t : Nat} (hs : s < 1024) (hk : k < 2) (N : no_S c so xl xh) (R : sp_Rs c s t)
    (K : ∀ lo' hi', no_S c so lo' hi' → (∀ j, j < 32 → (lo' j).toInt ≤ (xl j).toInt ∧ (xh j).toInt ≤ (hi' j).toInt) → (lo' (2 * (s / 64) + k)).toInt ≤ sp_cv k (s / 8 % 8) (s % 8) → sp_cv k (s / 8 % 8) (s % 8) ≤ (hi' (2 * (s / 64) + k)).toInt →
      wX_noteCell_18 post (nI s) (nI (s / 64)) n (nI (k + 1)) (nI (cf_n c)) kn zs cr em ap wt (ar_f (cf_pr c)) (ar_f (cf_fr c)) (ar_f (cf_to c)) (ar_f (cf_rs c)) (ar_f (cf_sg c)) (ar_f (cf_le c)) (ar_f (cf_gr c)) (ar_f (cf_bd c)) (ar_f (cf_hu c)) so fm lo' hi' zp zb az tm qu) : wX_noteCell_18 post (nI s) (nI (s / 64)) (n + 1) (nI k) (nI (cf_n c)) kn zs cr em ap wt (ar_f (cf_pr c)) (ar_f (cf_fr c)) (ar_f (cf_to c)) (ar_f (cf_rs c)) (ar_f (cf_sg c)) (ar_f (cf_le c)) (ar_f (cf_gr c)) (ar_f (cf_bd c)) (ar_f (cf_hu c)) so fm xl xh zp zb az tm qu := by
  have r3 : sp_cv k (s / 8 % 8) (s % 8) ≤ 7 := by unfold sp_cv; split <;> omega
  have e := xs_caN r3
  have ei : (nI (sp_cv k (s / 8 % 8) (s % 8))).toInt = (sp_cv k (s / 8 % 8) (s % 8) : Int) := nI_toInt (by omega)
  rw [wX_noteCell_18]
  dsimp only
  rw [xr_2]
  refine pk_le 2 k (fun z => absurd z (by omega)) (fun _ => xr_value hs hk ?_)
  refine xn_value (by omega) hk N (by omega) (by rw [e]; exact ⟨_, _, _, R, rfl⟩) (fun lo1 hi1 N1 X1 L1 H1 => nm_r (nI_1 k) ?_)
  rw [e] at L1 H1
  exact K lo1 hi1 N1 X1 L1 H1
theorem xs_note {s t : Nat} (hs : s < 1024) (ht : t ≤ 20) (et : tm s = nI t) (N : no_S c so xl xh) (R : sp_Rs c s t)
    (K : ∀ so' lo' hi', no_S c so' lo' hi' → no_X so xl xh so' lo' hi' → no_T so' lo' hi' (s / 64) (s / 8 % 8) (s % 8) t → post (nI (cf_n c), kn, zs, cr, em, ap, wt, ar_f (cf_pr c), ar_f (cf_fr c), ar_f (cf_to c), ar_f (cf_rs c), ar_f (cf_sg c), ar_f (cf_le c), ar_f (cf_gr c), ar_f (cf_bd c), ar_f (cf_hu c), so', fm, lo', hi', zp, zb, az, tm, qu)) : wpX_noteCell post (nI (cf_n c), kn, zs, cr, em, ap, wt, ar_f (cf_pr c), ar_f (cf_fr c), ar_f (cf_to c), ar_f (cf_rs c), ar_f (cf_sg c), ar_f (cf_le c), ar_f (cf_gr c), ar_f (cf_bd c), ar_f (cf_hu c), so, fm, xl, xh, zp, zb, az, tm, qu) (nI s) := by
  unfold wpX_noteCell
  dsimp only
  rw [xr_shr6 hs, xr_c (n := s) (by omega), et]
  have ei : (nI t).toInt = (t : Int) := nI_toInt (by omega)
  refine nm_e ⟨xr_i hs, ?_⟩
  refine xn_time (by omega) N ⟨t, ⟨_, _, R⟩, ei⟩ (fun so1 N1 X1 L1 => ⟨3, ?_⟩)
  refine xs_n18 (k := 0) hs (by omega) N1 R (fun lo1 hi1 N2 X2 L2 H2 => xs_n18 (k := 1) hs (by omega) N2 R (fun lo2 hi2 N3 X3 L3 H3 => ?_))
  rw [wX_noteCell_18]
  refine pk_le 2 2 (fun _ => K so1 lo2 hi2 N3 ⟨X1, fun j hj => ?_⟩ ?_) (fun z => absurd z (by omega))
  · have a : (lo1 j).toInt ≤ (xl j).toInt ∧ (xh j).toInt ≤ (hi1 j).toInt := X2 j hj
    have b : (lo2 j).toInt ≤ (lo1 j).toInt ∧ (hi1 j).toInt ≤ (hi2 j).toInt := X3 j hj
    clear K
    omega
  · have x : (lo2 (2 * (s / 64))).toInt ≤ (lo1 (2 * (s / 64))).toInt ∧ (hi1 (2 * (s / 64))).toInt ≤ (hi2 (2 * (s / 64))).toInt := X3 (2 * (s / 64)) (by omega)
    have l2 : (lo1 (2 * (s / 64))).toInt ≤ ((s / 8 % 8 : Nat) : Int) ∧ ((s / 8 % 8 : Nat) : Int) ≤ (hi1 (2 * (s / 64))).toInt := ⟨L2, H2⟩
    have l3 : (lo2 (2 * (s / 64) + 1)).toInt ≤ ((s % 8 : Nat) : Int) ∧ ((s % 8 : Nat) : Int) ≤ (hi2 (2 * (s / 64) + 1)).toInt := ⟨L3, H3⟩
    rw [ei] at L1
    exact ⟨L1, ⟨by omega, by omega⟩, l3⟩
end
def xs_N (c : Cf_t) (so xl xh : Nat → Int32) (F : Nat) (b : Bf_t) : Prop :=
  no_S c so xl xh ∧ ∀ i, i < F → no_T so xl xh (b.2.1 i / 64) (b.2.1 i / 8 % 8) (b.2.1 i % 8) (b.1 (b.2.1 i))
theorem xs_N_X {c : Cf_t} {so xl xh : Nat → Int32} {F T : Nat} {b b' : Bf_t} (N : xs_N c so xl xh F b) (G : bf_G c T b) (hF : F ≤ b.2.2.1) {T' : Nat} (x : bf_X T' b b') : xs_N c so xl xh F b' := by
  refine ⟨N.1, fun i hi => ?_⟩
  have r := G.2.2.1 i (by omega)
  rw [x.2.2.1 i (by omega), x.1 _ r.1 r.2]
  exact N.2 i hi
section
variable {c : Cf_t} {kn zs cr em ap : Int32} {zp zb az : Nat → Int32} {T : Nat}
theorem xs_30 (ok : cf_ok c) (hT : T ≤ 20) {post : Int32 → SX → Prop} {J : Int32 → Int32 → Int32 → Int32 → Int32 → Int32 → Int32 → Int32 → Int32 → (Nat → Int32) → (Nat → Int32) → (Nat → Int32) → (Nat → Int32) → (Nat → Int32) → (Nat → Int32) → (Nat → Int32) → (Nat → Int32) → (Nat → Int32) → (Nat → Int32) → (Nat → Int32) → (Nat → Int32) → (Nat → Int32) → (Nat → Int32) → (Nat → Int32) → (Nat → Int32) → (Nat → Int32) → (Nat → Int32) →  Prop} {s F i : Nat} {so xl xh : Nat → Int32} (hs : s < 1024) (N : no_S c so xl xh) :
    ∀ (m e : Nat) (b : Bf_t) (wt : Int32) (tm qu fm : Nat → Int32), e + m = cf_n c → xs_R b wt tm qu fm → bf_G c T b → b.1 s = T →
      (∀ wt' tm' qu' fm' so' lo' hi', xs_R (bf_it (bf_e c s) m e b) wt' tm' qu' fm' → no_S c so' lo' hi' → no_X so xl xh so' lo' hi' → no_T so' lo' hi' (s / 64) (s / 8 % 8) (s % 8) T →
        J (nI (F + 1)) (nI (i + 1)) (nI (cf_n c)) kn zs cr em ap wt' (ar_f (cf_pr c)) (ar_f (cf_fr c)) (ar_f (cf_to c)) (ar_f (cf_rs c)) (ar_f (cf_sg c)) (ar_f (cf_le c)) (ar_f (cf_gr c)) (ar_f (cf_bd c)) (ar_f (cf_hu c)) so' fm' lo' hi' zp zb az tm' qu') → wX_settleTime_30 post J (nI F) (nI i) (nI s) (m + 1) (nI e) (nI (cf_n c)) kn zs cr em ap wt (ar_f (cf_pr c)) (ar_f (cf_fr c)) (ar_f (cf_to c)) (ar_f (cf_rs c)) (ar_f (cf_sg c)) (ar_f (cf_le c)) (ar_f (cf_gr c)) (ar_f (cf_bd c)) (ar_f (cf_hu c)) so fm xl xh zp zb az tm qu := by
  have n := cf_on ok
  intro m
  induction m with
  | zero =>
    intro e b wt tm qu fm ee R G bs K
    have e1 : e = cf_n c := by omega
    subst e1
    rw [wX_settleTime_30]
    have et : tm s = nI T := by rw [R.2.1 s hs, bs, if_pos (by omega)]
    have rs : sp_Rs c s T := by
      have := G.2.2.2.2.2.1 s hs (by omega)
      rw [bs] at this
      exact this
    exact pk_le (cf_n c) (cf_n c) (fun _ => xs_note hs hT et N rs (fun so' lo' hi' N' X' T' => nm_r (nI_1 F) (nm_r (nI_1 i) (K _ _ _ _ so' lo' hi' R N' X' T')))) (fun w => absurd w (by omega))
  | succ m ih =>
    intro e b wt tm qu fm ee R G bs K
    rw [wX_settleTime_30]
    obtain ⟨⟨G', bs'⟩, _⟩ := bf_e_ok ok hT (by omega : e < cf_n c) hs G bs
    exact pk_le (cf_n c) e (fun w => absurd w (by omega)) (fun _ => xs_by ok hT hs (by omega) R G bs (fun wt' tm' qu' fm' R' => nm_r (nI_1 e) (ih (e + 1) _ wt' tm' qu' fm' (by omega) R' G' bs' K)))
theorem xs_4 (ok : cf_ok c) (hT : T ≤ 20) {B : Nat} {post : Int32 → SX → Prop}
    (K : ∀ (F : Nat) (b : Bf_t) (wt : Int32) (tm qu fm so xl xh : Nat → Int32), bf_I c T B F b → F = b.2.2.1 → xs_R b wt tm qu fm → xs_N c so xl xh F b → post (nI F) (nI (cf_n c), kn, zs, cr, em, ap, wt, ar_f (cf_pr c), ar_f (cf_fr c), ar_f (cf_to c), ar_f (cf_rs c), ar_f (cf_sg c), ar_f (cf_le c), ar_f (cf_gr c), ar_f (cf_bd c), ar_f (cf_hu c), so, fm, xl, xh, zp, zb, az, tm, qu)) :
    ∀ (m F : Nat) (b : Bf_t) (wt : Int32) (tm qu fm so xl xh : Nat → Int32), F + m = 1024 → bf_I c T B F b → xs_R b wt tm qu fm → xs_N c so xl xh F b → wX_settleTime_4 post (m + 1) (nI F) (nI (F - B)) (nI (cf_n c)) kn zs cr em ap wt (ar_f (cf_pr c)) (ar_f (cf_fr c)) (ar_f (cf_to c)) (ar_f (cf_rs c)) (ar_f (cf_sg c)) (ar_f (cf_le c)) (ar_f (cf_gr c)) (ar_f (cf_bd c)) (ar_f (cf_hu c)) so fm xl xh zp zb az tm qu := by
  intro m
  induction m with
  | zero =>
    intro F b wt tm qu fm so xl xh eF I R N
    rw [wX_settleTime_4]
    have hm := I.1.2.1
    have hF := I.2.2.1
    have eM : F = b.2.2.1 := by omega
    have g := K F b wt tm qu fm so xl xh I eM R N
    refine pk_le 1024 (F - B) (fun _ => g) (fun _ => ?_)
    rw [R.1, ← eM] at g ⊢
    exact pk_le F F (fun _ => g) (fun w => absurd w (by omega))
  | succ m ih =>
    intro F b wt tm qu fm so xl xh eF I R N
    rw [wX_settleTime_4]
    dsimp only
    rw [xr_c (n := F) (by omega)]
    have hm := I.1.2.1
    have hF := I.2.2.1
    have hB := I.2.1
    refine pk_le 1024 (F - B) (fun w => absurd w (by omega)) (fun _ => ?_)
    have wtM := R.1
    by_cases z : b.2.2.1 ≤ F
    · exact br_t (by rw [wtM]; exact nI_le z (by omega)) (K F b wt tm qu fm so xl xh I (by omega) R N)
    · have hq := I.1.2.2.1 F (by omega)
      obtain ⟨I', X'⟩ := bf_I_s ok hT I (by omega)
      refine br_f (by rw [wtM]; exact nI_ge (by omega) (by omega)) ⟨xr_i (by omega), nm_r (R.2.2.1 F (by omega)) ⟨cf_n c + 1, ?_⟩⟩
      refine xs_30 ok hT hq.1 N.1 (cf_n c) 0 b wt tm qu fm (by omega) R I.1 (I.2.2.2.1 F hB (by omega)) (fun wt' tm' qu' fm' so' lo' hi' R' N' Y' T' => ?_)
      have e : F - B + 1 = F + 1 - B := by omega
      rw [e]
      refine ih (F + 1) _ wt' tm' qu' fm' so' lo' hi' (by omega) I' R' ⟨N', fun i hi => ?_⟩
      have r := I.1.2.2.1 i (by omega)
      rw [X'.2.2.1 i (by omega), X'.1 _ r.1 r.2]
      by_cases q : i = F
      · rw [q, I.2.2.2.1 F hB (by omega)]; exact T'
      · exact no_T_X Y' (by omega) (N.2 i (by omega))
end
section
variable {c : Cf_t} {kn zs cr em ap wt : Int32} {so fm xl xh zp zb az tm qu : Nat → Int32}
variable {post : SX → Prop} {b : Bf_t}
theorem xs_47 (ok : cf_ok c) {s t : Nat} (R : xs_R b wt tm qu fm) (hm : b.2.2.1 + bf_ct b.1 1024 = 1024) (hs : s < 1024) (bs : b.1 s = t) (ht : t < 20)
    (K : ∀ wt' tm' qu', xs_R (bf_w c s b) wt' tm' qu' fm → post (nI (cf_n c), kn, zs, cr, em, ap, wt', ar_f (cf_pr c), ar_f (cf_fr c), ar_f (cf_to c), ar_f (cf_rs c), ar_f (cf_sg c), ar_f (cf_le c), ar_f (cf_gr c), ar_f (cf_bd c), ar_f (cf_hu c), so, fm, xl, xh, zp, zb, az, tm', qu')) : wX_waitCell_47 post (nI s) (nI (sp_7 (s % 8))) (nI (sp_7 (s / 8 % 8))) (nI (s / 64)) (nI (cf_n c)) kn zs cr em ap wt (ar_f (cf_pr c)) (ar_f (cf_fr c)) (ar_f (cf_to c)) (ar_f (cf_rs c)) (ar_f (cf_sg c)) (ar_f (cf_le c)) (ar_f (cf_gr c)) (ar_f (cf_bd c)) (ar_f (cf_hu c)) so fm xl xh zp zb az tm qu := by
  unfold wX_waitCell_47
  have one : ¬ (1 : Int32) = 0 := by decide
  have ts : tm s = nI t := by rw [R.2.1 s hs, bs, if_pos (by omega)]
  have tg : bf_cell (s / 64) (sp_7 (s / 8 % 8)) (sp_7 (s % 8)) = bf_wt s := rfl
  have hg := bf_wt_r hs
  unfold bf_w at K
  refine xr_cell ?_
  rw [tg, xr_shr6 hs]
  refine xr_hur ok (by omega) (fun hu => br_f one ?_) (fun hu => br_t rfl (xr_keeps ok hg (fun i => br_f one ?_) (fun i => br_t rfl ?_)))
  · rw [bf_iff (fun w => w.1 hu)] at K
    exact K wt tm qu R
  · rw [bf_ift ⟨hu, i⟩, bs] at K
    rw [xr_c (n := s) (by omega), ts, nI_1]
    exact ⟨xr_i hs, xs_come R hm hg (by omega) K⟩
  · rw [bf_iff (fun w => i w.2)] at K
    exact K wt tm qu R
theorem xs_33 (ok : cf_ok c) {s t : Nat} (R : xs_R b wt tm qu fm) (hm : b.2.2.1 + bf_ct b.1 1024 = 1024) (hs : s < 1024) (bs : b.1 s = t) (ht : t < 20)
    (K : ∀ wt' tm' qu', xs_R (bf_w c s b) wt' tm' qu' fm → post (nI (cf_n c), kn, zs, cr, em, ap, wt', ar_f (cf_pr c), ar_f (cf_fr c), ar_f (cf_to c), ar_f (cf_rs c), ar_f (cf_sg c), ar_f (cf_le c), ar_f (cf_gr c), ar_f (cf_bd c), ar_f (cf_hu c), so, fm, xl, xh, zp, zb, az, tm', qu')) : wX_waitCell_33 post (nI s) (nI (s % 8)) (nI (sp_7 (s / 8 % 8))) (nI (s / 64)) (nI (cf_n c)) kn zs cr em ap wt (ar_f (cf_pr c)) (ar_f (cf_fr c)) (ar_f (cf_to c)) (ar_f (cf_rs c)) (ar_f (cf_sg c)) (ar_f (cf_le c)) (ar_f (cf_gr c)) (ar_f (cf_bd c)) (ar_f (cf_hu c)) so fm xl xh zp zb az tm qu := by
  unfold wX_waitCell_33
  have G := xs_47 (post := post) (kn := kn) (zs := zs) (cr := cr) (em := em) (ap := ap) (so := so) (xl := xl) (xh := xh) (zp := zp) (zb := zb) (az := az) ok R hm hs bs ht K
  unfold sp_7 at G
  refine pk_le 7 (s % 8) (fun z => ?_) (fun z => ?_)
  · rw [if_neg (c := s % 8 < 7) (by omega)] at G
    exact G
  · rw [if_pos (c := s % 8 < 7) z] at G
    rw [nI_1]
    exact G
theorem xs_wait (ok : cf_ok c) {s t : Nat} (R : xs_R b wt tm qu fm) (hm : b.2.2.1 + bf_ct b.1 1024 = 1024) (hs : s < 1024) (bs : b.1 s = t) (ht : t < 20)
    (K : ∀ wt' tm' qu', xs_R (bf_w c s b) wt' tm' qu' fm → post (nI (cf_n c), kn, zs, cr, em, ap, wt', ar_f (cf_pr c), ar_f (cf_fr c), ar_f (cf_to c), ar_f (cf_rs c), ar_f (cf_sg c), ar_f (cf_le c), ar_f (cf_gr c), ar_f (cf_bd c), ar_f (cf_hu c), so, fm, xl, xh, zp, zb, az, tm', qu')) : wpX_waitCell post (nI (cf_n c), kn, zs, cr, em, ap, wt, ar_f (cf_pr c), ar_f (cf_fr c), ar_f (cf_to c), ar_f (cf_rs c), ar_f (cf_sg c), ar_f (cf_le c), ar_f (cf_gr c), ar_f (cf_bd c), ar_f (cf_hu c), so, fm, xl, xh, zp, zb, az, tm, qu) (nI s) := by
  unfold wpX_waitCell
  have G := xs_33 (post := post) (kn := kn) (zs := zs) (cr := cr) (em := em) (ap := ap) (so := so) (xl := xl) (xh := xh) (zp := zp) (zb := zb) (az := az) ok R hm hs bs ht K
  refine xr_value (k := 0) hs (by omega) (xr_value (k := 1) hs (by omega) ?_)
  rw [xr_shr6 hs]
  refine pk_le 7 (s / 8 % 8) (fun z => ?_) (fun z => ?_)
  · have q : sp_7 (s / 8 % 8) = 7 := by unfold sp_7; rw [if_neg (by omega)]
    rw [q] at G
    exact G
  · have q : sp_7 (s / 8 % 8) = s / 8 % 8 + 1 := by unfold sp_7; rw [if_pos z]
    rw [q] at G
    have e1 : nI (sp_cv 0 (s / 8 % 8) (s % 8)) + 1 = nI (s / 8 % 8 + 1) := nI_1 _
    rw [e1]
    exact G
end
end
section
/-! X: all times; and find -/
section
variable {c : Cf_t} {kn zs cr em ap : Int32} {so xl xh zp zb az : Nat → Int32} {T : Nat} {post : SX → Prop} {J : Int32 → Int32 → Int32 → Int32 → Int32 → Int32 → Int32 → Int32 → Int32 → (Nat → Int32) → (Nat → Int32) → (Nat → Int32) → (Nat → Int32) → (Nat → Int32) → (Nat → Int32) → (Nat → Int32) → (Nat → Int32) → (Nat → Int32) → (Nat → Int32) → (Nat → Int32) → (Nat → Int32) → (Nat → Int32) → (Nat → Int32) → (Nat → Int32) → (Nat → Int32) → (Nat → Int32) → (Nat → Int32) →  Prop}
theorem xs_52 (ok : cf_ok c) (hT : T < 20) {F : Nat}
    (K : ∀ (b : Bf_t) (wt : Int32) (tm qu fm : Nat → Int32), bf_J c T F F b → xs_R b wt tm qu fm → xs_N c so xl xh F b → J (nI F) (nI (T + 1)) (nI (cf_n c)) kn zs cr em ap wt (ar_f (cf_pr c)) (ar_f (cf_fr c)) (ar_f (cf_to c)) (ar_f (cf_rs c)) (ar_f (cf_sg c)) (ar_f (cf_le c)) (ar_f (cf_gr c)) (ar_f (cf_bd c)) (ar_f (cf_hu c)) so fm xl xh zp zb az tm qu) :
    ∀ (m i : Nat) (b : Bf_t) (wt : Int32) (tm qu fm : Nat → Int32), i + m = F → bf_J c T i F b → xs_R b wt tm qu fm → xs_N c so xl xh F b → wX_followSteps_52 post J (nI T) (nI F) (m + 1) (nI i) (nI (cf_n c)) kn zs cr em ap wt (ar_f (cf_pr c)) (ar_f (cf_fr c)) (ar_f (cf_to c)) (ar_f (cf_rs c)) (ar_f (cf_sg c)) (ar_f (cf_le c)) (ar_f (cf_gr c)) (ar_f (cf_bd c)) (ar_f (cf_hu c)) so fm xl xh zp zb az tm qu := by
  intro m
  induction m with
  | zero =>
    intro i b wt tm qu fm ei I R N
    have e1 : i = F := by omega
    subst e1
    rw [wX_followSteps_52]
    have hm := I.1.2.1
    have hF := I.2.2.1
    exact pk_le i i (fun _ => nm_r (nI_1 T) (K b wt tm qu fm I R N)) (fun w => absurd w (by omega))
  | succ m ih =>
    intro i b wt tm qu fm ei I R N
    have hm := I.1.2.1
    have hF := I.2.2.1
    rw [wX_followSteps_52]
    dsimp only
    rw [xr_c (n := i) (by omega), R.2.2.1 i (by omega)]
    have hq := I.1.2.2.1 i (by omega)
    obtain ⟨I', X'⟩ := bf_J_s ok hT I (by omega)
    refine pk_le F i (fun w => absurd w (by omega)) (fun _ => pk_le 20 T (fun w => absurd w (by omega)) (fun _ => ⟨xr_i (by omega), ?_⟩))
    exact xs_wait ok R hm hq.1 (I.2.2.2.2.2.2.1 i (Nat.le_refl _) (by omega)) hT (fun wt' tm' qu' R' => nm_r (nI_1 i) (ih (i + 1) _ wt' tm' qu' fm (by omega) I' R' (xs_N_X N I.1 hF X')))
theorem xs_52e {F i n : Nat} {wt : Int32} {tm qu fm : Nat → Int32} (hF : F ≤ 1024) (hi : i ≤ 1024) (K : J (nI F) (nI 21) (nI (cf_n c)) kn zs cr em ap wt (ar_f (cf_pr c)) (ar_f (cf_fr c)) (ar_f (cf_to c)) (ar_f (cf_rs c)) (ar_f (cf_sg c)) (ar_f (cf_le c)) (ar_f (cf_gr c)) (ar_f (cf_bd c)) (ar_f (cf_hu c)) so fm xl xh zp zb az tm qu) : wX_followSteps_52 post J (nI 20) (nI F) (n + 1) (nI i) (nI (cf_n c)) kn zs cr em ap wt (ar_f (cf_pr c)) (ar_f (cf_fr c)) (ar_f (cf_to c)) (ar_f (cf_rs c)) (ar_f (cf_sg c)) (ar_f (cf_le c)) (ar_f (cf_gr c)) (ar_f (cf_bd c)) (ar_f (cf_hu c)) so fm xl xh zp zb az tm qu := by
  rw [wX_followSteps_52]
  exact pk_le F i (fun _ => nm_r (nI_1 20) K) (fun _ => pk_le 20 20 (fun _ => nm_r (nI_1 20) K) (fun w => absurd w (by omega)))
end
section
variable {c : Cf_t} {kn zs cr em ap : Int32} {zp zb az : Nat → Int32} {post : SX → Prop}
theorem xs_37 (ok : cf_ok c)
    (K : ∀ (B F : Nat) (b : Bf_t) (wt : Int32) (tm qu fm so xl xh : Nat → Int32), bf_I c 20 B F b → F = b.2.2.1 → xs_R b wt tm qu fm → xs_N c so xl xh F b → post (nI (cf_n c), kn, zs, cr, em, ap, wt, ar_f (cf_pr c), ar_f (cf_fr c), ar_f (cf_to c), ar_f (cf_rs c), ar_f (cf_sg c), ar_f (cf_le c), ar_f (cf_gr c), ar_f (cf_bd c), ar_f (cf_hu c), so, fm, xl, xh, zp, zb, az, tm, qu)) :
    ∀ (m T F : Nat) (b : Bf_t) (wt : Int32) (tm qu fm so xl xh : Nat → Int32), T + m = 20 → bf_I c T F F b → xs_R b wt tm qu fm → xs_N c so xl xh F b → wX_followSteps_37 post (m + 2) (nI F) (nI T) (nI (cf_n c)) kn zs cr em ap wt (ar_f (cf_pr c)) (ar_f (cf_fr c)) (ar_f (cf_to c)) (ar_f (cf_rs c)) (ar_f (cf_sg c)) (ar_f (cf_le c)) (ar_f (cf_gr c)) (ar_f (cf_bd c)) (ar_f (cf_hu c)) so fm xl xh zp zb az tm qu := by
  intro m
  induction m with
  | zero =>
    intro T F b wt tm qu fm so xl xh eT I R N
    have e1 : T = 20 := by omega
    subst e1
    rw [wX_followSteps_37]
    refine pk_lt 20 20 (fun w => absurd w (by omega)) (fun _ => ?_)
    unfold wpX_settleTime
    have hm := I.1.2.1
    have hF := I.2.2.1
    refine ⟨(1024 - F) + 1, ?_⟩
    have e0 : (0 : Int32) = nI (F - F) := by rw [Nat.sub_self]; rfl
    rw [e0]
    refine xs_4 ok (by omega) (fun F' b' wt' tm' qu' fm' so' xl' xh' I' eF' R' N' => ⟨1, ?_⟩) (1024 - F) F b wt tm qu fm so xl xh (by omega) I R N
    have hm' := I'.1.2.1
    refine xs_52e (by omega) (by omega) ?_
    rw [wX_followSteps_37]
    exact pk_lt 20 21 (fun _ => K F F' b' wt' tm' qu' fm' so' xl' xh' I' eF' R' N') (fun w => absurd w (by omega))
  | succ m ih =>
    intro T F b wt tm qu fm so xl xh eT I R N
    rw [wX_followSteps_37]
    refine pk_lt 20 T (fun w => absurd w (by omega)) (fun _ => ?_)
    unfold wpX_settleTime
    have hm := I.1.2.1
    have hF := I.2.2.1
    refine ⟨(1024 - F) + 1, ?_⟩
    have e0 : (0 : Int32) = nI (F - F) := by rw [Nat.sub_self]; rfl
    rw [e0]
    refine xs_4 ok (by omega) (fun F' b' wt' tm' qu' fm' so' xl' xh' I' eF' R' N' => ⟨(F' - F) + 1, ?_⟩) (1024 - F) F b wt tm qu fm so xl xh (by omega) I R N
    have hB := I'.2.1
    exact xs_52 ok (by omega) (fun b2 wt2 tm2 qu2 fm2 I2 R2 N2 => ih (T + 1) F' b2 wt2 tm2 qu2 fm2 so' xl' xh' (by omega) (bf_J_I I2) R2 N2) (F' - F) F b' wt' tm' qu' fm' (by omega) (bf_I_J I' eF') R' N'
end
/-- at the end -/
theorem xs_fin {c : Cf_t} (ok : cf_ok c) {B F : Nat} {b : Bf_t} {wt : Int32} {tm qu fm so xl xh : Nat → Int32} (I : bf_I c 20 B F b) (eF : F = b.2.2.1) (R : xs_R b wt tm qu fm) (N : xs_N c so xl xh F b) : sp_X c so fm xl xh := by
  have Y := bf_end ok I eF
  have g4 := I.1.2.2.2.1
  have nt : ∀ q x y t, sp_R c q x y t → ∃ t' : Nat, t' ≤ t ∧ no_T so xl xh q x y t' := by
    intro q x y t r
    obtain ⟨r1, r2, r3, r4⟩ := sp_R_r ok r
    obtain ⟨d1, d2, d3⟩ := bf_cell_d (q := q) r2 r3
    have hs := bf_cell_r r1 r2 r3
    have l := (Y.1 _ hs).1 t (by unfold sp_Rs; rw [d1, d2, d3]; exact r)
    obtain ⟨i, hi, ei⟩ := g4 _ hs (by omega)
    have k := N.2 i (by omega)
    rw [ei, d1, d2, d3] at k
    exact ⟨_, by omega, k⟩
  refine ⟨fun q hq => ⟨fun t r => ?_, N.1.1 q hq⟩, fun e he => ?_, fun q k hq hk => ⟨⟨fun t r => ?_, (N.1.2 q k hq hk).1⟩, ⟨fun t r => ?_, (N.1.2 q k hq hk).2⟩⟩⟩
  · obtain ⟨x, y, r⟩ := r
    obtain ⟨t', h, k⟩ := nt q x y t r
    have := k.1
    omega
  · have f := R.2.2.2 e he
    obtain ⟨a1, a2⟩ := Y.2 e he
    refine ⟨fun t u => ?_, ?_⟩
    · have := a1 t u
      have := sp_U_r ok u
      rw [f, if_pos (by omega)]
      omega
    · by_cases z : b.2.2.2 e < 21
      · rw [f, if_pos z]
        rcases a2 with a2 | a2
        · omega
        · exact Or.inr a2
      · rw [f, if_neg z]; exact Or.inl rfl
  · obtain ⟨x, y, t', r, e⟩ := r
    obtain ⟨t'', h, n⟩ := nt q x y t' r
    rcases (by omega : k = 0 ∨ k = 1) with z | z
    · subst z; subst e; exact n.2.1.1
    · subst z; subst e; exact n.2.2.1
  · obtain ⟨x, y, t', r, e⟩ := r
    obtain ⟨t'', h, n⟩ := nt q x y t' r
    rcases (by omega : k = 0 ∨ k = 1) with z | z
    · subst z; subst e; exact n.2.1.2
    · subst z; subst e; exact n.2.2.2
section
variable {c : Cf_t} {kn zs cr em ap wt : Int32} {so fm xl xh zp zb az tm qu : Nat → Int32}
variable {post : SX → Prop}
theorem xs_2 (K : ∀ tm' : Nat → Int32, (∀ j, j < 1024 → tm' j = -1) → wX_followSteps_2 post (nI (cf_n c)) kn zs cr em ap wt 1 (nI 1024) (ar_f (cf_pr c)) (ar_f (cf_fr c)) (ar_f (cf_to c)) (ar_f (cf_rs c)) (ar_f (cf_sg c)) (ar_f (cf_le c)) (ar_f (cf_gr c)) (ar_f (cf_bd c)) (ar_f (cf_hu c)) so fm xl xh zp zb az tm' qu) :
    ∀ (m k : Nat) (tm' : Nat → Int32), k + m = 1024 → (∀ j, j < k → tm' j = -1) → wX_followSteps_2 post (nI (cf_n c)) kn zs cr em ap wt (m + 1) (nI k) (ar_f (cf_pr c)) (ar_f (cf_fr c)) (ar_f (cf_to c)) (ar_f (cf_rs c)) (ar_f (cf_sg c)) (ar_f (cf_le c)) (ar_f (cf_gr c)) (ar_f (cf_bd c)) (ar_f (cf_hu c)) so fm xl xh zp zb az tm' qu := by
  have e1 : vp_nar .byte (-1) = -1 := by rw [vp_nar_byte]; decide
  intro m
  induction m with
  | zero =>
    intro k tm' e H
    have ek : k = 1024 := by omega
    subst ek
    exact K tm' H
  | succ m ih =>
    intro k tm' e H
    have hk : k < 1024 := by omega
    rw [wX_followSteps_2]
    dsimp only
    rw [xr_c (n := k) (by omega), e1]
    refine pk_le 1024 k (fun w => absurd w (by omega)) (fun _ => ⟨xr_i hk, nm_e (nm_r (nI_1 k) (ih (k + 1) _ (by omega) (fun j hj => ?_)))⟩)
    by_cases q : j = k
    · rw [q, pk_us]
    · rw [pk_un q]; exact H j (by omega)
theorem xs_steps (ok : cf_ok c) (N : no_S c so xl xh) (hf : ∀ e, e < 12 → fm e = 1000)
    (K : ∀ wt' tm' qu' fm' so' lo' hi', sp_X c so' fm' lo' hi' → post (nI (cf_n c), kn, zs, cr, em, ap, wt', ar_f (cf_pr c), ar_f (cf_fr c), ar_f (cf_to c), ar_f (cf_rs c), ar_f (cf_sg c), ar_f (cf_le c), ar_f (cf_gr c), ar_f (cf_bd c), ar_f (cf_hu c), so', fm', lo', hi', zp, zb, az, tm', qu')) : wpX_followSteps post (nI (cf_n c), kn, zs, cr, em, ap, wt, ar_f (cf_pr c), ar_f (cf_fr c), ar_f (cf_to c), ar_f (cf_rs c), ar_f (cf_sg c), ar_f (cf_le c), ar_f (cf_gr c), ar_f (cf_bd c), ar_f (cf_hu c), so, fm, xl, xh, zp, zb, az, tm, qu) := by
  unfold wpX_followSteps
  refine ⟨1025, xs_2 (fun tm1 h1 => ?_) 1024 0 tm (by omega) (fun j hj => by omega)⟩
  rw [wX_followSteps_2]
  refine pk_le 1024 1024 (fun _ => ?_) (fun w => absurd w (by omega))
  have R0 : xs_R ((fun _ => 21), (fun _ => 0), 0, (fun _ => 21)) 0 tm1 qu fm :=
    ⟨rfl, fun s hs => by rw [if_neg (show ¬ 21 < 21 by omega)]; exact h1 s hs, fun i hi => absurd hi (Nat.not_lt_zero i), fun e he => by rw [hf e he, if_neg (show ¬ 21 < 21 by omega)]; decide⟩
  refine xs_come (s := 0) (t := 0) R0 ?_ (by omega) (by omega) (fun wt2 tm2 qu2 R2 => ⟨22, ?_⟩)
  · show 0 + bf_ct (fun _ => 21) 1024 = 1024
    rw [bf_ct_0]
  · refine xs_37 ok (fun B F b wt' tm' qu' fm' so' lo' hi' I' eF R' N' => K wt' tm' qu' fm' so' lo' hi' (xs_fin ok I' eF R' N')) 20 0 0 _ wt2 tm2 qu2 fm so xl xh (by omega) (bf_start ok) R2 ⟨N, fun i hi => by omega⟩
/-! forgetting -/
theorem xs_f55 (K : ∀ fm' : Nat → Int32, (∀ j, j < 12 → fm' j = 1000) → post (nI (cf_n c), kn, zs, cr, em, ap, wt, ar_f (cf_pr c), ar_f (cf_fr c), ar_f (cf_to c), ar_f (cf_rs c), ar_f (cf_sg c), ar_f (cf_le c), ar_f (cf_gr c), ar_f (cf_bd c), ar_f (cf_hu c), so, fm', xl, xh, zp, zb, az, tm, qu)) :
    ∀ (m k : Nat) (fm' : Nat → Int32), k + m = 12 → (∀ j, j < k → fm' j = 1000) → wX_forgetAll_55 post (nI (cf_n c)) kn zs cr em ap wt (m + 1) (nI k) (ar_f (cf_pr c)) (ar_f (cf_fr c)) (ar_f (cf_to c)) (ar_f (cf_rs c)) (ar_f (cf_sg c)) (ar_f (cf_le c)) (ar_f (cf_gr c)) (ar_f (cf_bd c)) (ar_f (cf_hu c)) so fm' xl xh zp zb az tm qu := by
  intro m
  induction m with
  | zero =>
    intro k fm' e H
    have ek : k = 12 := by omega
    subst ek
    rw [wX_forgetAll_55]
    exact pk_le 12 12 (fun _ => K fm' H) (fun w => absurd w (by omega))
  | succ m ih =>
    intro k fm' e H
    have hk : k < 12 := by omega
    rw [wX_forgetAll_55]
    dsimp only
    rw [xr_c (n := k) (by omega)]
    refine pk_le 12 k (fun w => absurd w (by omega)) (fun _ => ⟨xr_i hk, nm_e (nm_r (nI_1 k) (ih (k + 1) _ (by omega) (fun j hj => ?_)))⟩)
    by_cases q : j = k
    · rw [q, pk_us]
    · rw [pk_un q]; exact H j (by omega)
theorem xs_f25 (K : ∀ lo' hi' fm' : Nat → Int32, (∀ j, j < 32 → lo' j = 1000 ∧ hi' j = -1) → (∀ j, j < 12 → fm' j = 1000) → post (nI (cf_n c), kn, zs, cr, em, ap, wt, ar_f (cf_pr c), ar_f (cf_fr c), ar_f (cf_to c), ar_f (cf_rs c), ar_f (cf_sg c), ar_f (cf_le c), ar_f (cf_gr c), ar_f (cf_bd c), ar_f (cf_hu c), so, fm', lo', hi', zp, zb, az, tm, qu)) :
    ∀ (m k : Nat) (lo' hi' : Nat → Int32), k + m = 32 → (∀ j, j < k → lo' j = 1000 ∧ hi' j = -1) → wX_forgetAll_25 post (nI (cf_n c)) kn zs cr em ap wt (m + 1) (nI k) (ar_f (cf_pr c)) (ar_f (cf_fr c)) (ar_f (cf_to c)) (ar_f (cf_rs c)) (ar_f (cf_sg c)) (ar_f (cf_le c)) (ar_f (cf_gr c)) (ar_f (cf_bd c)) (ar_f (cf_hu c)) so fm lo' hi' zp zb az tm qu := by
  intro m
  induction m with
  | zero =>
    intro k lo' hi' e H
    have ek : k = 32 := by omega
    subst ek
    rw [wX_forgetAll_25]
    exact pk_le 32 32 (fun _ => ⟨13, xs_f55 (fun fm' H' => K lo' hi' fm' H H') 12 0 fm (by omega) (fun j hj => by omega)⟩) (fun w => absurd w (by omega))
  | succ m ih =>
    intro k lo' hi' e H
    have hk : k < 32 := by omega
    rw [wX_forgetAll_25]
    dsimp only
    rw [xr_c (n := k) (by omega)]
    refine pk_le 32 k (fun w => absurd w (by omega)) (fun _ => ⟨xr_i hk, nm_e ⟨xr_i hk, nm_e (nm_r (nI_1 k) (ih (k + 1) _ _ (by omega) (fun j hj => ?_)))⟩⟩)
    by_cases q : j = k
    · rw [q, pk_us, pk_us]; exact ⟨rfl, rfl⟩
    · rw [pk_un q, pk_un q]; exact H j (by omega)
theorem xs_f2 (K : ∀ so' lo' hi' fm' : Nat → Int32, (∀ j, j < 16 → so' j = 1000) → (∀ j, j < 32 → lo' j = 1000 ∧ hi' j = -1) → (∀ j, j < 12 → fm' j = 1000) → post (nI (cf_n c), kn, zs, cr, em, ap, wt, ar_f (cf_pr c), ar_f (cf_fr c), ar_f (cf_to c), ar_f (cf_rs c), ar_f (cf_sg c), ar_f (cf_le c), ar_f (cf_gr c), ar_f (cf_bd c), ar_f (cf_hu c), so', fm', lo', hi', zp, zb, az, tm, qu)) :
    ∀ (m k : Nat) (so' : Nat → Int32), k + m = 16 → (∀ j, j < k → so' j = 1000) → wX_forgetAll_2 post (nI (cf_n c)) kn zs cr em ap wt (m + 1) (nI k) (ar_f (cf_pr c)) (ar_f (cf_fr c)) (ar_f (cf_to c)) (ar_f (cf_rs c)) (ar_f (cf_sg c)) (ar_f (cf_le c)) (ar_f (cf_gr c)) (ar_f (cf_bd c)) (ar_f (cf_hu c)) so' fm xl xh zp zb az tm qu := by
  intro m
  induction m with
  | zero =>
    intro k so' e H
    have ek : k = 16 := by omega
    subst ek
    rw [wX_forgetAll_2]
    exact pk_le 16 16 (fun _ => ⟨33, xs_f25 (fun lo' hi' fm' H' H'' => K so' lo' hi' fm' H H' H'') 32 0 xl xh (by omega) (fun j hj => by omega)⟩) (fun w => absurd w (by omega))
  | succ m ih =>
    intro k so' e H
    have hk : k < 16 := by omega
    rw [wX_forgetAll_2]
    dsimp only
    rw [xr_c (n := k) (by omega)]
    refine pk_le 16 k (fun w => absurd w (by omega)) (fun _ => ⟨xr_i hk, nm_e (nm_r (nI_1 k) (ih (k + 1) _ (by omega) (fun j hj => ?_)))⟩)
    by_cases q : j = k
    · rw [q, pk_us]
    · rw [pk_un q]; exact H j (by omega)
theorem xs_forget (K : ∀ so' lo' hi' fm' : Nat → Int32, no_S c so' lo' hi' → (∀ j, j < 12 → fm' j = 1000) → post (nI (cf_n c), kn, zs, cr, em, ap, wt, ar_f (cf_pr c), ar_f (cf_fr c), ar_f (cf_to c), ar_f (cf_rs c), ar_f (cf_sg c), ar_f (cf_le c), ar_f (cf_gr c), ar_f (cf_bd c), ar_f (cf_hu c), so', fm', lo', hi', zp, zb, az, tm, qu)) : wpX_forgetAll post (nI (cf_n c), kn, zs, cr, em, ap, wt, ar_f (cf_pr c), ar_f (cf_fr c), ar_f (cf_to c), ar_f (cf_rs c), ar_f (cf_sg c), ar_f (cf_le c), ar_f (cf_gr c), ar_f (cf_bd c), ar_f (cf_hu c), so, fm, xl, xh, zp, zb, az, tm, qu) := by
  unfold wpX_forgetAll
  refine ⟨17, xs_f2 (fun so' lo' hi' fm' H1 H2 H3 => K so' lo' hi' fm' ⟨fun q hq => Or.inl ?_, fun q k hq hk => ⟨Or.inl ?_, Or.inl ?_⟩⟩ H3) 16 0 so (by omega) (fun j hj => by omega)⟩
  · rw [H1 q hq]; decide
  · rw [(H2 _ (by omega)).1]; decide
  · rw [(H2 _ (by omega)).2]; decide
theorem xs_U0 (H : ∀ j, j < 12 → fm j = 1000) : no_U c fm := fun e he => Or.inl (by rw [H e he]; decide)
/-- find: what is noted is what is to be found -/
theorem xs_find (ok : cf_ok c) (hk : kn = 0 ∨ (kn = 1 ∧ sp_X c so fm xl xh))
    (K : ∀ zs' cr' em' ap' wt' so' fm' lo' hi' zp' zb' az' tm' qu', sp_X c so' fm' lo' hi' → post (nI (cf_n c), 1, zs', cr', em', ap', wt', ar_f (cf_pr c), ar_f (cf_fr c), ar_f (cf_to c), ar_f (cf_rs c), ar_f (cf_sg c), ar_f (cf_le c), ar_f (cf_gr c), ar_f (cf_bd c), ar_f (cf_hu c), so', fm', lo', hi', zp', zb', az', tm', qu')) : wpX_find post (nI (cf_n c), kn, zs, cr, em, ap, wt, ar_f (cf_pr c), ar_f (cf_fr c), ar_f (cf_to c), ar_f (cf_rs c), ar_f (cf_sg c), ar_f (cf_le c), ar_f (cf_gr c), ar_f (cf_bd c), ar_f (cf_hu c), so, fm, xl, xh, zp, zb, az, tm, qu) := by
  unfold wpX_find
  have one : ¬ (1 : Int32) = 0 := by decide
  rcases hk with e | ⟨e, X⟩
  · subst e
    refine br_t rfl (xs_forget (fun so1 lo1 hi1 fm1 N1 U1 => ?_))
    refine xf_zones ok N1 (xs_U0 U1) (fun Z' zp' zb' so' fm' lo' hi' cr' az' em' ap' X' => br_c (fun z => K _ _ _ _ _ _ _ _ _ _ _ _ _ _ (X' z)) (fun z => ?_))
    refine xs_forget (fun so2 lo2 hi2 fm2 N2 U2 => ?_)
    exact xs_steps ok N2 U2 (fun wt3 tm3 qu3 fm3 so3 lo3 hi3 X3 => K _ _ _ _ _ _ _ _ _ _ _ _ _ _ X3)
  · subst e
    exact br_f one (K _ _ _ _ _ _ _ _ _ _ _ _ _ _ X)
end
end
section
/-! Y: the walks of what only reads -/
theorem yr_8 : ¬ (8 : Int32) = 0 := by decide
theorem yr_64 : ¬ (64 : Int32) = 0 := by decide
theorem yr_4 : ¬ (4 : Int32) = 0 := by decide
theorem yr_2 : ¬ (2 : Int32) = 0 := by decide
theorem yr_256 : ¬ (256 : Int32) = 0 := by decide
theorem yr_d8 {s : Nat} (h : s < 1024) : nI s / 8 = nI (s / 8) := pk_div (d := 8) (by omega) (by omega) (by omega)
theorem yr_d64 {s : Nat} (h : s < 1024) : nI s / 64 = nI (s / 64) := pk_div (d := 64) (by omega) (by omega) (by omega)
theorem yr_d4 {s : Nat} (h : s < 1024) : nI s / 4 = nI (s / 4) := pk_div (d := 4) (by omega) (by omega) (by omega)
theorem yr_d2 {s : Nat} (h : s < 1024) : nI s / 2 = nI (s / 2) := pk_div (d := 2) (by omega) (by omega) (by omega)
theorem yr_d256 {s : Nat} (h : s < 1024) : nI s / 256 = nI (s / 256) := pk_div (d := 256) (by omega) (by omega) (by omega)
theorem yr_r8 {s : Nat} (h : s < 1024) : nI s - nI s / 8 * 8 = nI (s % 8) := pk_rem (d := 8) (by omega) (by omega) (by omega)
theorem yr_r4 {s : Nat} (h : s < 1024) : nI s - nI s / 4 * 4 = nI (s % 4) := pk_rem (d := 4) (by omega) (by omega) (by omega)
theorem yr_r2 {s : Nat} (h : s < 1024) : nI s - nI s / 2 * 2 = nI (s % 2) := pk_rem (d := 2) (by omega) (by omega) (by omega)
theorem yr_r64 {s : Nat} (h : s < 1024) : nI s - nI s / 64 * 64 = nI (s % 64) := pk_rem (d := 64) (by omega) (by omega) (by omega)
def yr_pl (q p : Nat) : Nat := if p = 0 then q % 4 else 4 + q / 4
section
variable {c : Cf_t} {my : Int32} {ti me us : Nat → Int32}
variable {post : Int32 → Prop}
theorem yr_value {s k : Nat} (hs : s < 1024) (hk : k < 2) (h : post (nI (sp_cv k (s / 8 % 8) (s % 8)))) : wpY_value post (nI (cf_n c), my, ar_f (cf_pr c), ar_f (cf_fr c), ar_f (cf_to c), ar_f (cf_rs c), ar_f (cf_sg c), ar_f (cf_le c), ar_f (cf_gr c), ar_f (cf_bd c), ar_f (cf_hu c), ti, me, us) (nI s) (nI k) := by
  unfold wpY_value
  unfold sp_cv at h
  refine pk_eq k 0 (fun z => ⟨yr_8, yr_8, ?_⟩) (fun z => ⟨yr_8, ?_⟩)
  · rw [if_pos z] at h
    rw [yr_d8 hs, yr_r8 (by omega)]; exact h
  · rw [if_neg z] at h
    rw [yr_r8 hs]; exact h
theorem yr_place {s p : Nat} (hs : s < 1024) (hp : p < 2) (h : post (nI (yr_pl (s / 64) p))) : wpY_placeOf post (nI (cf_n c), my, ar_f (cf_pr c), ar_f (cf_fr c), ar_f (cf_to c), ar_f (cf_rs c), ar_f (cf_sg c), ar_f (cf_le c), ar_f (cf_gr c), ar_f (cf_bd c), ar_f (cf_hu c), ti, me, us) (nI s) (nI p) := by
  unfold wpY_placeOf
  unfold yr_pl at h
  refine pk_eq p 0 (fun z => ⟨yr_64, yr_4, ?_⟩) (fun z => ⟨yr_256, ?_⟩)
  · rw [if_pos z] at h
    rw [yr_d64 hs, yr_r4 (by omega)]; exact h
  · rw [if_neg z] at h
    rw [yr_d256 hs, xr_4, show s / 256 = s / 64 / 4 by omega]; exact h
theorem yr_within (ok : cf_ok c) {l x y : Nat} (hl : l < 8) (hx : x ≤ 7) (hy : y ≤ 7) (h1 : x ≤ cf_bd c (2 * l) ∧ y ≤ cf_bd c (2 * l + 1) → post 1) (h0 : ¬ (x ≤ cf_bd c (2 * l) ∧ y ≤ cf_bd c (2 * l + 1)) → post 0) : wpY_within post (nI (cf_n c), my, ar_f (cf_pr c), ar_f (cf_fr c), ar_f (cf_to c), ar_f (cf_rs c), ar_f (cf_sg c), ar_f (cf_le c), ar_f (cf_gr c), ar_f (cf_bd c), ar_f (cf_hu c), ti, me, us) (nI l) (nI x) (nI y) := by
  unfold wpY_within
  dsimp only
  rw [xr_2m, nI_1, xr_c (n := 2 * l) (by omega), xr_c (n := 2 * l + 1) (by omega), xr_g, xr_g]
  have r1 := cf_obd ok (2 * l)
  have r2 := cf_obd ok (2 * l + 1)
  exact ⟨xr_i (by omega), pk_lt (cf_bd c (2 * l)) x (fun z => h0 (fun w => by have := w.1; omega)) (fun z => ⟨xr_i (by omega), pk_lt (cf_bd c (2 * l + 1)) y (fun w => h0 (fun v => by have := v.2; omega)) (fun w => h1 ⟨z, w⟩)⟩)⟩
theorem yr_bnd {q x y : Nat} : sp_in c q x y ↔ (x ≤ cf_bd c (2 * (q % 4)) ∧ y ≤ cf_bd c (2 * (q % 4) + 1)) ∧ (x ≤ cf_bd c (2 * (4 + q / 4)) ∧ y ≤ cf_bd c (2 * (4 + q / 4) + 1)) := by
  unfold sp_in sp_bnd
  rw [Nat.add_zero, Nat.add_zero]
  split <;> split <;> omega
theorem yr_in (ok : cf_ok c) {s : Nat} (hs : s < 1024) (h1 : bf_in c s → post 1) (h0 : ¬ bf_in c s → post 0) : wpY_inBounds post (nI (cf_n c), my, ar_f (cf_pr c), ar_f (cf_fr c), ar_f (cf_to c), ar_f (cf_rs c), ar_f (cf_sg c), ar_f (cf_le c), ar_f (cf_gr c), ar_f (cf_bd c), ar_f (cf_hu c), ti, me, us) (nI s) := by
  unfold wpY_inBounds
  have one : ¬ (1 : Int32) = 0 := by decide
  unfold bf_in at h1 h0
  rw [yr_bnd] at h1 h0
  refine yr_value (k := 0) hs (by omega) (yr_value (k := 1) hs (by omega) (yr_place (p := 0) hs (by omega) (yr_place (p := 1) hs (by omega) ?_)))
  have e0 : yr_pl (s / 64) 0 = s / 64 % 4 := rfl
  have e1 : yr_pl (s / 64) 1 = 4 + s / 64 / 4 := rfl
  have v0 : sp_cv 0 (s / 8 % 8) (s % 8) = s / 8 % 8 := rfl
  have v1 : sp_cv 1 (s / 8 % 8) (s % 8) = s % 8 := rfl
  rw [e0, e1, v0, v1]
  exact yr_within ok (by omega) (by omega) (by omega) (fun a => br_f one (yr_within ok (by omega) (by omega) (by omega) (fun b => br_f one (h1 ⟨a, b⟩)) (fun b => br_t rfl (h0 (fun w => b w.2))))) (fun a => br_t rfl (h0 (fun w => a w.1)))
theorem yr_o1 (ok : cf_ok c) {s e n k : Nat} (hs : s < 1024) (he : e < 12) (hk : k < 2) (h1 : sp_g1 c (2 * e + k) (sp_cv k (s / 8 % 8) (s % 8)) → wY_open_36 post (nI e) (nI s) (nI (cf_n c)) my (ar_f (cf_pr c)) (ar_f (cf_fr c)) (ar_f (cf_to c)) (ar_f (cf_rs c)) (ar_f (cf_sg c)) (ar_f (cf_le c)) (ar_f (cf_gr c)) (ar_f (cf_bd c)) (ar_f (cf_hu c)) ti me us n (nI (k + 1)))
    (h0 : ¬ sp_g1 c (2 * e + k) (sp_cv k (s / 8 % 8) (s % 8)) → post 0) : wY_open_36 post (nI e) (nI s) (nI (cf_n c)) my (ar_f (cf_pr c)) (ar_f (cf_fr c)) (ar_f (cf_to c)) (ar_f (cf_rs c)) (ar_f (cf_sg c)) (ar_f (cf_le c)) (ar_f (cf_gr c)) (ar_f (cf_bd c)) (ar_f (cf_hu c)) ti me us (n + 1) (nI k) := by
  rw [wY_open_36]
  dsimp only
  rw [xr_2, xr_c (n := 2 * e + k) (by omega), xr_g, xr_g]
  have r1 := cf_ole ok (2 * e + k)
  have r2 := cf_ogr ok (2 * e + k)
  have r3 : sp_cv k (s / 8 % 8) (s % 8) < 8 := by unfold sp_cv; split <;> omega
  refine pk_le 2 k (fun z => absurd z (by omega)) (fun _ => yr_value hs hk ⟨xr_i (by omega), nm_e ⟨xr_i (by omega), ?_⟩⟩)
  refine pk_lt (sp_cv k (s / 8 % 8) (s % 8)) (cf_le c (2 * e + k)) (fun z => h0 (fun w => by have := w.1; omega)) (fun z => ?_)
  refine pk_le 7 (cf_gr c (2 * e + k)) (fun y => nm_r (nI_1 k) (h1 ⟨z, Or.inl (by omega)⟩)) (fun y => ?_)
  exact pk_le (sp_cv k (s / 8 % 8) (s % 8)) (cf_gr c (2 * e + k)) (fun x => nm_r (nI_1 k) (h1 ⟨z, Or.inr x⟩)) (fun x => h0 (fun w => by have := w.2; omega))
theorem yr_open (ok : cf_ok c) {s e : Nat} (hs : s < 1024) (he : e < 12) (h1 : bf_op c e s → post 1) (h0 : ¬ bf_op c e s → post 0) : wpY_open post (nI (cf_n c), my, ar_f (cf_pr c), ar_f (cf_fr c), ar_f (cf_to c), ar_f (cf_rs c), ar_f (cf_sg c), ar_f (cf_le c), ar_f (cf_gr c), ar_f (cf_bd c), ar_f (cf_hu c), ti, me, us) (nI e) (nI s) := by
  unfold wpY_open
  dsimp only
  rw [xr_c (n := e) (by omega), xr_g, xr_g, xr_4m]
  have r1 := cf_opr ok e
  have r2 := cf_ofr ok e
  refine ⟨xr_i he, yr_place hs r1 ⟨xr_i he, xr_i he, ?_⟩⟩
  have rp : yr_pl (s / 64) (cf_pr c e) < 8 := by unfold yr_pl; split <;> omega
  have ld : yr_pl (s / 64) (cf_pr c e) = 4 * cf_pr c e + cf_fr c e ↔ sp_led c e (s / 64) := by
    unfold yr_pl sp_led sp_loc
    rcases (by omega : cf_pr c e = 0 ∨ cf_pr c e = 1) with z | z
    · rw [z, if_pos rfl, if_pos rfl]; omega
    · rw [z, if_neg (by omega), if_neg (by omega)]; omega
  refine pk_eq (yr_pl (s / 64) (cf_pr c e)) (4 * cf_pr c e + cf_fr c e) (fun z => ⟨3, ?_⟩) (fun z => h0 (fun w => z (ld.mpr w.1)))
  refine yr_o1 (k := 0) ok hs he (by omega) (fun a => yr_o1 (k := 1) ok hs he (by omega) (fun b => ?_) (fun b => h0 (fun w => b w.2.2))) (fun a => h0 (fun w => a w.2.1))
  rw [wY_open_36]
  exact pk_le 2 2 (fun _ => h1 ⟨ld.mp z, a, b⟩) (fun w => absurd w (by omega))
theorem yr_64z (a b : Nat) : (64 : Int32) * nI a + nI b = nI (64 * a + b) := by
  rw [show (64 : Int32) = nI 64 from rfl, pk_mul, nI_add]
theorem yr_m41 {s q : Nat} (hs : s < 1024) (h : post (nI (64 * q + s % 64))) : wY_moved_41 post (nI s) (nI q) (nI (cf_n c)) my (ar_f (cf_pr c)) (ar_f (cf_fr c)) (ar_f (cf_to c)) (ar_f (cf_rs c)) (ar_f (cf_sg c)) (ar_f (cf_le c)) (ar_f (cf_gr c)) (ar_f (cf_bd c)) (ar_f (cf_hu c)) ti me us := by
  unfold wY_moved_41
  rw [yr_r64 hs, yr_64z]
  exact ⟨yr_64, h⟩
theorem yr_moved (ok : cf_ok c) {s e : Nat} (hs : s < 1024) (he : e < 12) (h : post (nI (64 * sp_aft c e (s / 64) + s % 64))) : wpY_moved post (nI (cf_n c), my, ar_f (cf_pr c), ar_f (cf_fr c), ar_f (cf_to c), ar_f (cf_rs c), ar_f (cf_sg c), ar_f (cf_le c), ar_f (cf_gr c), ar_f (cf_bd c), ar_f (cf_hu c), ti, me, us) (nI s) (nI e) := by
  unfold wpY_moved
  dsimp only
  rw [yr_d64 hs, xr_c (n := e) (by omega), xr_g, xr_g]
  have r1 := cf_opr ok e
  unfold sp_aft at h
  refine ⟨yr_64, nm_e ⟨xr_i he, pk_eq (cf_pr c e) 0 (fun z => ⟨yr_4, xr_i he, ?_⟩) (fun z => ⟨yr_4, xr_i he, ?_⟩)⟩⟩
  · rw [if_pos z] at h
    rw [yr_d4 (by omega), show (4 : Int32) = nI 4 from rfl, pk_mul, nI_add]
    exact yr_m41 hs h
  · rw [if_neg z] at h
    rw [yr_r4 (by omega), show (4 : Int32) = nI 4 from rfl, pk_mul, nI_add]
    exact yr_m41 hs h
theorem yr_c35 {s x y : Nat} (hs : s < 1024) (h : post (nI (bf_cell (s / 64) x y))) : wY_cleared_35 post (nI s) (nI x) (nI y) (nI (cf_n c)) my (ar_f (cf_pr c)) (ar_f (cf_fr c)) (ar_f (cf_to c)) (ar_f (cf_rs c)) (ar_f (cf_sg c)) (ar_f (cf_le c)) (ar_f (cf_gr c)) (ar_f (cf_bd c)) (ar_f (cf_hu c)) ti me us := by
  unfold wY_cleared_35
  unfold bf_cell at h
  rw [yr_d64 hs, show (64 : Int32) = nI 64 from rfl, show (8 : Int32) = nI 8 from rfl, pk_mul, pk_mul, nI_add, nI_add, Nat.mul_comm (s / 64) 64]
  exact ⟨yr_64, h⟩
theorem yr_c17 {s u x : Nat} (hs : s < 1024) (hu : u < 4) (h : post (nI (bf_cell (s / 64) x (if u / 2 = 1 then 0 else s % 8)))) : wY_cleared_17 post (nI s) (nI u) (nI x) (nI (cf_n c)) my (ar_f (cf_pr c)) (ar_f (cf_fr c)) (ar_f (cf_to c)) (ar_f (cf_rs c)) (ar_f (cf_sg c)) (ar_f (cf_le c)) (ar_f (cf_gr c)) (ar_f (cf_bd c)) (ar_f (cf_hu c)) ti me us := by
  unfold wY_cleared_17
  rw [yr_d2 (by omega)]
  refine ⟨yr_2, pk_eq (u / 2) 1 (fun z => ?_) (fun z => ?_)⟩
  · rw [if_pos z] at h
    exact yr_c35 (y := 0) hs h
  · rw [if_neg z] at h
    exact yr_value (k := 1) hs (by omega) (yr_c35 hs h)
theorem yr_cleared {s u : Nat} (hs : s < 1024) (hu : u < 4) (h : post (nI (bf_cell (s / 64) (if u % 2 = 1 then 0 else s / 8 % 8) (if u / 2 = 1 then 0 else s % 8)))) : wpY_cleared post (nI (cf_n c), my, ar_f (cf_pr c), ar_f (cf_fr c), ar_f (cf_to c), ar_f (cf_rs c), ar_f (cf_sg c), ar_f (cf_le c), ar_f (cf_gr c), ar_f (cf_bd c), ar_f (cf_hu c), ti, me, us) (nI s) (nI u) := by
  unfold wpY_cleared
  dsimp only
  rw [yr_r2 (by omega)]
  refine ⟨yr_2, pk_eq (u % 2) 1 (fun z => ?_) (fun z => ?_)⟩
  · rw [if_pos z] at h
    exact yr_c17 (x := 0) hs hu h
  · rw [if_neg z] at h
    exact yr_value (k := 0) hs (by omega) (yr_c17 hs hu h)
theorem yr_sub : ∀ a, a < 5 → ∀ b, b < 5 → ((nI a - nI b = 2 ↔ a = b + 2) ∧ (nI a - nI b = -2 ↔ b = a + 2)) := by decide +kernel
theorem yr_part (ok : cf_ok c) {e f : Nat} (he : e < 12) (hf : f < 12) (h1 : sp_prt c e f → post 1) (h0 : ¬ sp_prt c e f → post 0) : wpY_partners post (nI (cf_n c), my, ar_f (cf_pr c), ar_f (cf_fr c), ar_f (cf_to c), ar_f (cf_rs c), ar_f (cf_sg c), ar_f (cf_le c), ar_f (cf_gr c), ar_f (cf_bd c), ar_f (cf_hu c), ti, me, us) (nI e) (nI f) := by
  unfold wpY_partners
  dsimp only
  rw [xr_c (n := e) (by omega), xr_c (n := f) (by omega), xr_g, xr_g, xr_g, xr_g]
  have r1 := cf_opr ok e
  have r2 := cf_opr ok f
  have r3 := cf_osg ok e
  have r4 := cf_osg ok f
  obtain ⟨d1, d2⟩ := yr_sub _ r4 _ r3
  refine ⟨xr_i he, pk_eq (cf_pr c e) 0 (fun z1 => ⟨xr_i hf, pk_eq (cf_pr c f) 1 (fun z2 => ⟨xr_i hf, xr_i he, nm_e ⟨xr_i he, ?_⟩⟩) (fun z2 => h0 (fun w => z2 w.2.1))⟩) (fun z1 => h0 (fun w => z1 w.1))⟩
  refine pk_le (cf_sg c e) 0 (fun z3 => h0 (fun w => by have := w.2.2.1; omega)) (fun z3 => ⟨xr_i hf, ?_⟩)
  refine pk_le (cf_sg c f) 0 (fun z4 => h0 (fun w => by have := w.2.2.2.1; omega)) (fun z4 => ?_)
  refine br_c (fun z5 => h1 ⟨z1, z2, z3, z4, Or.inl (d1.mp z5)⟩) (fun z5 => br_c (fun z6 => h1 ⟨z1, z2, z3, z4, Or.inr (d2.mp z6)⟩) (fun z6 => h0 (fun w => w.2.2.2.2.elim (fun v => z5 (d1.mpr v)) (fun v => z6 (d2.mpr v)))))
end
end
section
/-! Y: moves of a state -/
def ys_R (b : Bf_t) (my : Int32) (ti me us : Nat → Int32) : Prop :=
  my = nI b.2.2.1 ∧ (∀ s, s < 1024 → ti s = nI (b.1 s)) ∧ (∀ i, i < b.2.2.1 → me i = nI (b.2.1 i)) ∧ (∀ e, e < 12 → us e = nI (b.2.2.2 e))
section
variable {c : Cf_t} {my : Int32} {ti me us : Nat → Int32}
variable {post : SY → Prop} {b : Bf_t} {T : Nat}
theorem ys_meet (ok : cf_ok c) {s : Nat} (R : ys_R b my ti me us) (hT : T ≤ 20) (g1 : ∀ s, s < 1024 → b.1 s ≤ T ∨ b.1 s = 21) (hm : b.2.2.1 + bf_ct b.1 1024 = 1024) (hs : s < 1024)
    (K1 : bf_in c s → ∀ my' ti' me', ys_R (bf_meet s T b) my' ti' me' us → post (nI (cf_n c), my', ar_f (cf_pr c), ar_f (cf_fr c), ar_f (cf_to c), ar_f (cf_rs c), ar_f (cf_sg c), ar_f (cf_le c), ar_f (cf_gr c), ar_f (cf_bd c), ar_f (cf_hu c), ti', me', us)) (K0 : ¬ bf_in c s → post (nI (cf_n c), my, ar_f (cf_pr c), ar_f (cf_fr c), ar_f (cf_to c), ar_f (cf_rs c), ar_f (cf_sg c), ar_f (cf_le c), ar_f (cf_gr c), ar_f (cf_bd c), ar_f (cf_hu c), ti, me, us)) : wpY_meet post (nI (cf_n c), my, ar_f (cf_pr c), ar_f (cf_fr c), ar_f (cf_to c), ar_f (cf_rs c), ar_f (cf_sg c), ar_f (cf_le c), ar_f (cf_gr c), ar_f (cf_bd c), ar_f (cf_hu c), ti, me, us) (nI s) (nI T) := by
  obtain ⟨r1, r2, r3, r4⟩ := R
  unfold wpY_meet
  dsimp only
  rw [xr_c (n := s) (by omega), r2 s hs]
  have one : ¬ (1 : Int32) = 0 := by decide
  have g := g1 s hs
  unfold bf_meet at K1
  refine ⟨xr_i hs, pk_le (b.1 s) T (fun z => ?_) (fun z => pk_lt 20 T (fun w => absurd w (by omega)) (fun _ => yr_in ok hs (fun i => br_f one ⟨xr_i hs, ?_⟩) (fun i => br_t rfl (K0 i))))⟩
  · by_cases i : bf_in c s
    · have K := K1 i
      rw [if_pos (by omega)] at K
      exact K my ti me ⟨r1, r2, r3, r4⟩
    · exact K0 i
  · have K := K1 i
    have nz : ¬ b.1 s < 21 := by omega
    rw [if_neg nz] at K
    have room := bf_room hs nz hm
    refine nm_e ⟨by rw [r1]; exact xr_i room, nm_e (nm_e (K _ _ _ ⟨?_, fun x hx => ?_, fun i hi => ?_, r4⟩))⟩
    · rw [r1]; exact nI_1 _
    · show upd ti s (nI T) x = nI (bf_up b.1 s T x)
      by_cases q : x = s
      · rw [q, pk_us, bf_us]
      · rw [pk_un q, bf_un q]; exact r2 x hx
    · show upd me my.toNatClampNeg (nI s) i = nI (bf_up b.2.1 b.2.2.1 s i)
      have hi' : i < b.2.2.1 + 1 := hi
      rw [r1, xr_c (by omega)]
      by_cases q : i = b.2.2.1
      · rw [q, pk_us, bf_us]
      · rw [pk_un q, bf_un q]; exact r3 i (by omega)
theorem ys_use {e t : Nat} (R : ys_R b my ti me us) (he : e < 12) (ht : t ≤ 20) (hu : b.2.2.2 e ≤ 21) (K : ∀ us', ys_R (bf_use e t b) my ti me us' → post (nI (cf_n c), my, ar_f (cf_pr c), ar_f (cf_fr c), ar_f (cf_to c), ar_f (cf_rs c), ar_f (cf_sg c), ar_f (cf_le c), ar_f (cf_gr c), ar_f (cf_bd c), ar_f (cf_hu c), ti, me, us')) : wpY_use post (nI (cf_n c), my, ar_f (cf_pr c), ar_f (cf_fr c), ar_f (cf_to c), ar_f (cf_rs c), ar_f (cf_sg c), ar_f (cf_le c), ar_f (cf_gr c), ar_f (cf_bd c), ar_f (cf_hu c), ti, me, us) (nI e) (nI t) := by
  obtain ⟨r1, r2, r3, r4⟩ := R
  unfold wpY_use
  dsimp only
  rw [xr_c (n := e) (by omega), r4 e he]
  unfold bf_use at K
  refine ⟨xr_i he, pk_le (b.2.2.2 e) t (fun z => ?_) (fun z => ⟨xr_i he, nm_e ?_⟩)⟩
  · rw [if_neg (by omega)] at K
    exact K us ⟨r1, r2, r3, r4⟩
  · rw [if_pos z] at K
    refine K _ ⟨r1, r2, r3, fun e' he' => ?_⟩
    show upd us e (nI t) e' = nI (bf_up b.2.2.2 e t e')
    by_cases q : e' = e
    · rw [q, pk_us, bf_us]
    · rw [pk_un q, bf_un q]; exact r4 e' he'
theorem ys_s40 (ok : cf_ok c) {s s' : Nat} (R : ys_R b my ti me us) (hT : T ≤ 20) (g1 : ∀ s, s < 1024 → b.1 s ≤ T ∨ b.1 s = 21) (hm : b.2.2.1 + bf_ct b.1 1024 = 1024) (hs : s < 1024) (hs' : s' < 1024) (bs : b.1 s = T)
    (K1 : bf_in c s' → ∀ my' ti' me', ys_R (bf_meet s' T b) my' ti' me' us → post (nI (cf_n c), my', ar_f (cf_pr c), ar_f (cf_fr c), ar_f (cf_to c), ar_f (cf_rs c), ar_f (cf_sg c), ar_f (cf_le c), ar_f (cf_gr c), ar_f (cf_bd c), ar_f (cf_hu c), ti', me', us)) (K0 : ¬ bf_in c s' → post (nI (cf_n c), my, ar_f (cf_pr c), ar_f (cf_fr c), ar_f (cf_to c), ar_f (cf_rs c), ar_f (cf_sg c), ar_f (cf_le c), ar_f (cf_gr c), ar_f (cf_bd c), ar_f (cf_hu c), ti, me, us)) : wY_silent_40 post (nI s) (nI s') (nI (cf_n c)) my (ar_f (cf_pr c)) (ar_f (cf_fr c)) (ar_f (cf_to c)) (ar_f (cf_rs c)) (ar_f (cf_sg c)) (ar_f (cf_le c)) (ar_f (cf_gr c)) (ar_f (cf_bd c)) (ar_f (cf_hu c)) ti me us := by
  unfold wY_silent_40
  rw [xr_c (n := s) (by omega), R.2.1 s hs, bs]
  exact ⟨xr_i hs, ys_meet ok R hT g1 hm hs' K1 K0⟩
theorem ys_j69 (ok : cf_ok c) {s s' : Nat} (R : ys_R b my ti me us) (hT : T ≤ 20) (g1 : ∀ s, s < 1024 → b.1 s ≤ T ∨ b.1 s = 21) (hm : b.2.2.1 + bf_ct b.1 1024 = 1024) (hs : s < 1024) (hs' : s' < 1024) (bs : b.1 s = T)
    (K1 : bf_in c s' → ∀ my' ti' me', ys_R (bf_meet s' T b) my' ti' me' us → post (nI (cf_n c), my', ar_f (cf_pr c), ar_f (cf_fr c), ar_f (cf_to c), ar_f (cf_rs c), ar_f (cf_sg c), ar_f (cf_le c), ar_f (cf_gr c), ar_f (cf_bd c), ar_f (cf_hu c), ti', me', us)) (K0 : ¬ bf_in c s' → post (nI (cf_n c), my, ar_f (cf_pr c), ar_f (cf_fr c), ar_f (cf_to c), ar_f (cf_rs c), ar_f (cf_sg c), ar_f (cf_le c), ar_f (cf_gr c), ar_f (cf_bd c), ar_f (cf_hu c), ti, me, us)) : wY_joint_69 post (nI s) (nI s') (nI (cf_n c)) my (ar_f (cf_pr c)) (ar_f (cf_fr c)) (ar_f (cf_to c)) (ar_f (cf_rs c)) (ar_f (cf_sg c)) (ar_f (cf_le c)) (ar_f (cf_gr c)) (ar_f (cf_bd c)) (ar_f (cf_hu c)) ti me us := by
  unfold wY_joint_69
  rw [xr_c (n := s) (by omega), R.2.1 s hs, bs]
  exact ⟨xr_i hs, ys_meet ok R hT g1 hm hs' K1 K0⟩
theorem ys_d (q s : Nat) : (64 * q + s % 64) / 64 = q ∧ (64 * q + s % 64) % 64 = s % 64 ∧ (64 * q + s % 64) / 8 % 8 = s / 8 % 8 ∧ (64 * q + s % 64) % 8 = s % 8 := by omega
theorem ys_silent (ok : cf_ok c) {e s : Nat} (R : ys_R b my ti me us) (hT : T ≤ 20) (G : bf_G c T b) (hs : s < 1024) (he : e < 12) (bs : b.1 s = T)
    (K : ∀ my' ti' me' us', ys_R (bf_mv c e e s b) my' ti' me' us' → post (nI (cf_n c), my', ar_f (cf_pr c), ar_f (cf_fr c), ar_f (cf_to c), ar_f (cf_rs c), ar_f (cf_sg c), ar_f (cf_le c), ar_f (cf_gr c), ar_f (cf_bd c), ar_f (cf_hu c), ti', me', us')) : wpY_silent post (nI (cf_n c), my, ar_f (cf_pr c), ar_f (cf_fr c), ar_f (cf_to c), ar_f (cf_rs c), ar_f (cf_sg c), ar_f (cf_le c), ar_f (cf_gr c), ar_f (cf_bd c), ar_f (cf_hu c), ti, me, us) (nI e) (nI s) := by
  unfold wpY_silent
  have one : ¬ (1 : Int32) = 0 := by decide
  have ha := sp_aft_r ok e (q := s / 64) (by omega)
  have hg : bf_tg c e e s < 1024 := bf_tg_r ok e e hs
  obtain ⟨d1, d2, d3, d4⟩ := ys_d (sp_aft c e (s / 64)) s
  have hu := G.2.2.2.2.1
  have tg : bf_cell ((64 * sp_aft c e (s / 64) + s % 64) / 64) (if cf_rs c e % 2 = 1 then 0 else (64 * sp_aft c e (s / 64) + s % 64) / 8 % 8) (if cf_rs c e / 2 = 1 then 0 else (64 * sp_aft c e (s / 64) + s % 64) % 8) = bf_tg c e e s := by
    rw [d1, d3, d4]
    unfold bf_tg sp_tq sp_tx sp_ty sp_set
    rw [sp_aft_i ok, Nat.or_self]
  unfold bf_mv at K
  refine yr_moved ok hs he ⟨xr_i he, ?_⟩
  dsimp only
  rw [xr_c (n := e) (by omega), xr_g]
  refine yr_cleared (by omega) (cf_ors ok e) ?_
  rw [tg]
  refine yr_in ok hg (fun i => br_f one ?_) (fun i => br_t rfl ?_)
  · rw [bf_ift i, bs, bf_use_i] at K
    rw [xr_c (n := s) (by omega), R.2.1 s hs, bs]
    refine ⟨xr_i hs, ys_use R he hT (hu e he) (fun us1 R1 => ?_)⟩
    exact ys_s40 ok R1 hT G.1 G.2.1 hs hg bs (fun _ my' ti' me' R2 => K my' ti' me' us1 R2) (fun w => absurd i w)
  · rw [bf_iff i] at K
    exact ys_s40 ok R hT G.1 G.2.1 hs hg bs (fun w => absurd w i) (fun _ => K my ti me us R)
theorem ys_joint (ok : cf_ok c) {e f s : Nat} (R : ys_R b my ti me us) (hT : T ≤ 20) (G : bf_G c T b) (hs : s < 1024) (he : e < 12) (hf : f < 12) (bs : b.1 s = T)
    (K : ∀ my' ti' me' us', ys_R (bf_mv c e f s b) my' ti' me' us' → post (nI (cf_n c), my', ar_f (cf_pr c), ar_f (cf_fr c), ar_f (cf_to c), ar_f (cf_rs c), ar_f (cf_sg c), ar_f (cf_le c), ar_f (cf_gr c), ar_f (cf_bd c), ar_f (cf_hu c), ti', me', us')) : wpY_joint post (nI (cf_n c), my, ar_f (cf_pr c), ar_f (cf_fr c), ar_f (cf_to c), ar_f (cf_rs c), ar_f (cf_sg c), ar_f (cf_le c), ar_f (cf_gr c), ar_f (cf_bd c), ar_f (cf_hu c), ti, me, us) (nI e) (nI f) (nI s) := by
  unfold wpY_joint
  have one : ¬ (1 : Int32) = 0 := by decide
  have ha := sp_aft_r ok e (q := s / 64) (by omega)
  have hb := sp_tq_r ok e f (q := s / 64) (by omega)
  have hg : bf_tg c e f s < 1024 := bf_tg_r ok e f hs
  obtain ⟨d1, d2, d3, d4⟩ := ys_d (sp_aft c e (s / 64)) s
  obtain ⟨f1, f2, f3, f4⟩ := ys_d (sp_tq c e f (s / 64)) s
  obtain ⟨o1, o2⟩ := xr_or _ (cf_ors ok e) _ (cf_ors ok f)
  have hu := G.2.2.2.2.1
  have q2 : 64 * sp_aft c f ((64 * sp_aft c e (s / 64) + s % 64) / 64) + (64 * sp_aft c e (s / 64) + s % 64) % 64 = 64 * sp_tq c e f (s / 64) + s % 64 := by
    rw [d1, d2]; rfl
  have tg : bf_cell ((64 * sp_tq c e f (s / 64) + s % 64) / 64) (if (cf_rs c e ||| cf_rs c f) % 2 = 1 then 0 else (64 * sp_tq c e f (s / 64) + s % 64) / 8 % 8) (if (cf_rs c e ||| cf_rs c f) / 2 = 1 then 0 else (64 * sp_tq c e f (s / 64) + s % 64) % 8) = bf_tg c e f s := by
    rw [f1, f3, f4]; rfl
  unfold bf_mv at K
  refine yr_moved ok hs he (yr_moved ok (by omega) hf ?_)
  rw [q2]
  refine ⟨xr_i he, xr_i hf, ?_⟩
  dsimp only
  rw [xr_c (n := e) (by omega), xr_c (n := f) (by omega), xr_g, xr_g, o1]
  refine yr_cleared (by omega) o2 ?_
  rw [tg]
  refine yr_in ok hg (fun i => br_f one ?_) (fun i => br_t rfl ?_)
  · rw [bf_ift i, bs] at K
    rw [xr_c (n := s) (by omega), R.2.1 s hs, bs]
    have hu1 : (bf_use e T b).2.2.2 f ≤ 21 := by
      unfold bf_use
      show (if T < b.2.2.2 e then bf_up b.2.2.2 e T else b.2.2.2) f ≤ 21
      split
      · by_cases q : f = e
        · rw [q, bf_us]; omega
        · rw [bf_un q]; exact hu f hf
      · exact hu f hf
    refine ⟨xr_i hs, ys_use R he hT (hu e he) (fun us1 R1 => ⟨xr_i hs, ?_⟩)⟩
    dsimp only
    rw [R1.2.1 s hs, show (bf_use e T b).1 s = T from bs]
    refine ys_use R1 hf hT hu1 (fun us2 R2 => ?_)
    exact ys_j69 ok R2 hT G.1 G.2.1 hs hg bs (fun _ my' ti' me' R3 => K my' ti' me' us2 R3) (fun w => absurd i w)
  · rw [bf_iff i] at K
    exact ys_j69 ok R hT G.1 G.2.1 hs hg bs (fun w => absurd w i) (fun _ => K my ti me us R)
end
section
variable {c : Cf_t} {T : Nat} {post : SY → Prop}
theorem ys_36 (ok : cf_ok c) (hT : T ≤ 20) {J : Int32 → Int32 → Int32 → (Nat → Int32) → (Nat → Int32) → (Nat → Int32) → (Nat → Int32) → (Nat → Int32) → (Nat → Int32) → (Nat → Int32) → (Nat → Int32) → (Nat → Int32) → (Nat → Int32) → (Nat → Int32) → (Nat → Int32) →  Prop} {s e : Nat} (hs : s < 1024) (he : e < cf_n c) (op : bf_op c e s) :
    ∀ (m f : Nat) (b : Bf_t) (my : Int32) (ti me us : Nat → Int32), f + m = cf_n c → ys_R b my ti me us → bf_G c T b → b.1 s = T →
      (∀ my' ti' me' us', ys_R (bf_it (bf_f c s e) m f b) my' ti' me' us' → J (nI (e + 1)) (nI (cf_n c)) my' (ar_f (cf_pr c)) (ar_f (cf_fr c)) (ar_f (cf_to c)) (ar_f (cf_rs c)) (ar_f (cf_sg c)) (ar_f (cf_le c)) (ar_f (cf_gr c)) (ar_f (cf_bd c)) (ar_f (cf_hu c)) ti' me' us') → wY_moves_36 post J (nI s) (nI e) (m + 1) (nI f) (nI (cf_n c)) my (ar_f (cf_pr c)) (ar_f (cf_fr c)) (ar_f (cf_to c)) (ar_f (cf_rs c)) (ar_f (cf_sg c)) (ar_f (cf_le c)) (ar_f (cf_gr c)) (ar_f (cf_bd c)) (ar_f (cf_hu c)) ti me us := by
  have n := cf_on ok
  intro m
  induction m with
  | zero =>
    intro f b my ti me us ef R G bs K
    have e1 : f = cf_n c := by omega
    subst e1
    rw [wY_moves_36]
    exact pk_le (cf_n c) (cf_n c) (fun _ => nm_r (nI_1 e) (K _ _ _ _ R)) (fun w => absurd w (by omega))
  | succ m ih =>
    intro f b my ti me us ef R G bs K
    have one : ¬ (1 : Int32) = 0 := by decide
    have K' : ∀ my' ti' me' us', ys_R (bf_it (bf_f c s e) m (f + 1) (bf_f c s e f b)) my' ti' me' us' → J (nI (e + 1)) (nI (cf_n c)) my' (ar_f (cf_pr c)) (ar_f (cf_fr c)) (ar_f (cf_to c)) (ar_f (cf_rs c)) (ar_f (cf_sg c)) (ar_f (cf_le c)) (ar_f (cf_gr c)) (ar_f (cf_bd c)) (ar_f (cf_hu c)) ti' me' us' := K
    obtain ⟨⟨G', bs'⟩, _⟩ := bf_f_ok ok hT he (by omega : f < cf_n c) hs G bs
    have skip : ¬ (sp_prt c e f ∧ bf_op c e s ∧ bf_op c f s) → wY_moves_36 post J (nI s) (nI e) (m + 1) (nI (f + 1)) (nI (cf_n c)) my (ar_f (cf_pr c)) (ar_f (cf_fr c)) (ar_f (cf_to c)) (ar_f (cf_rs c)) (ar_f (cf_sg c)) (ar_f (cf_le c)) (ar_f (cf_gr c)) (ar_f (cf_bd c)) (ar_f (cf_hu c)) ti me us := fun no => by
      have q : bf_f c s e f b = b := bf_iff no
      rw [q] at K'
      exact ih (f + 1) b my ti me us (by omega) R G bs K'
    rw [wY_moves_36]
    refine pk_le (cf_n c) f (fun w => absurd w (by omega)) (fun _ => yr_part ok (by omega) (by omega) (fun pt => br_f one ?_) (fun pt => br_t rfl (nm_r (nI_1 f) (skip (fun w => pt w.1)))))
    refine yr_open ok hs (by omega) (fun of => br_f one ?_) (fun of => br_t rfl (nm_r (nI_1 f) (skip (fun w => of w.2.2))))
    refine ys_joint ok R hT G hs (by omega) (by omega) bs (fun my' ti' me' us' R' => nm_r (nI_1 f) ?_)
    have q : bf_f c s e f b = bf_mv c e f s b := bf_ift ⟨pt, op, of⟩
    rw [q] at K' G' bs'
    exact ih (f + 1) _ my' ti' me' us' (by omega) R' G' bs' K'
theorem ys_m2 (ok : cf_ok c) (hT : T ≤ 20) {s : Nat} (hs : s < 1024) :
    ∀ (m e : Nat) (b : Bf_t) (my : Int32) (ti me us : Nat → Int32), e + m = cf_n c → ys_R b my ti me us → bf_G c T b → b.1 s = T →
      (∀ my' ti' me' us', ys_R (bf_it (bf_e c s) m e b) my' ti' me' us' → post (nI (cf_n c), my', ar_f (cf_pr c), ar_f (cf_fr c), ar_f (cf_to c), ar_f (cf_rs c), ar_f (cf_sg c), ar_f (cf_le c), ar_f (cf_gr c), ar_f (cf_bd c), ar_f (cf_hu c), ti', me', us')) → wY_moves_2 post (nI s) (m + 1) (nI e) (nI (cf_n c)) my (ar_f (cf_pr c)) (ar_f (cf_fr c)) (ar_f (cf_to c)) (ar_f (cf_rs c)) (ar_f (cf_sg c)) (ar_f (cf_le c)) (ar_f (cf_gr c)) (ar_f (cf_bd c)) (ar_f (cf_hu c)) ti me us := by
  have n := cf_on ok
  intro m
  induction m with
  | zero =>
    intro e b my ti me us ee R G bs K
    have e1 : e = cf_n c := by omega
    subst e1
    rw [wY_moves_2]
    exact pk_le (cf_n c) (cf_n c) (fun _ => K _ _ _ _ R) (fun w => absurd w (by omega))
  | succ m ih =>
    intro e b my ti me us ee R G bs K
    have one : ¬ (1 : Int32) = 0 := by decide
    have he : e < cf_n c := by omega
    have K' : ∀ my' ti' me' us', ys_R (bf_it (bf_e c s) m (e + 1) (bf_e c s e b)) my' ti' me' us' → post (nI (cf_n c), my', ar_f (cf_pr c), ar_f (cf_fr c), ar_f (cf_to c), ar_f (cf_rs c), ar_f (cf_sg c), ar_f (cf_le c), ar_f (cf_gr c), ar_f (cf_bd c), ar_f (cf_hu c), ti', me', us') := K
    obtain ⟨⟨G1, bs1⟩, _⟩ := bf_e0_ok ok hT he hs G bs
    obtain ⟨⟨G2, bs2⟩, _⟩ := bf_e_ok ok hT he hs G bs
    have r := cf_osg ok e
    rw [wY_moves_2]
    refine pk_le (cf_n c) e (fun w => absurd w (by omega)) (fun _ => yr_open ok hs (by omega) (fun op => br_f one ⟨xr_i (by omega), ?_⟩) (fun op => br_t rfl (nm_r (nI_1 e) ?_)))
    · dsimp only
      rw [xr_c (n := e) (by omega), xr_g]
      refine pk_eq (cf_sg c e) 0 (fun sg => ?_) (fun sg => ?_)
      · have q : bf_e0 c s e b = bf_mv c e e s b := bf_ift ⟨sg, op⟩
        refine ys_silent ok R hT G hs (by omega) bs (fun my' ti' me' us' R' => ⟨cf_n c + 1, ?_⟩)
        rw [← q] at R'
        exact ys_36 ok hT hs he op (cf_n c) 0 _ my' ti' me' us' (by omega) R' G1 bs1 (fun my2 ti2 me2 us2 R2 => ih (e + 1) _ my2 ti2 me2 us2 (by omega) R2 G2 bs2 K')
      · have q : bf_e0 c s e b = b := bf_iff (fun w => sg w.1)
        have R' := R
        rw [← q] at R'
        exact ⟨cf_n c + 1, ys_36 ok hT hs he op (cf_n c) 0 _ my ti me us (by omega) R' G1 bs1 (fun my2 ti2 me2 us2 R2 => ih (e + 1) _ my2 ti2 me2 us2 (by omega) R2 G2 bs2 K')⟩
    · have q : bf_e c s e b = b := bf_e_n op
      rw [q] at K'
      exact ih (e + 1) b my ti me us (by omega) R G bs K'
theorem ys_moves (ok : cf_ok c) (hT : T ≤ 20) {s : Nat} (hs : s < 1024) {b : Bf_t} {my : Int32} {ti me us : Nat → Int32} (R : ys_R b my ti me us) (G : bf_G c T b) (bs : b.1 s = T)
    (K : ∀ my' ti' me' us', ys_R (bf_all c s b) my' ti' me' us' → post (nI (cf_n c), my', ar_f (cf_pr c), ar_f (cf_fr c), ar_f (cf_to c), ar_f (cf_rs c), ar_f (cf_sg c), ar_f (cf_le c), ar_f (cf_gr c), ar_f (cf_bd c), ar_f (cf_hu c), ti', me', us')) : wpY_moves post (nI (cf_n c), my, ar_f (cf_pr c), ar_f (cf_fr c), ar_f (cf_to c), ar_f (cf_rs c), ar_f (cf_sg c), ar_f (cf_le c), ar_f (cf_gr c), ar_f (cf_bd c), ar_f (cf_hu c), ti, me, us) (nI s) := by
  unfold wpY_moves
  exact ⟨cf_n c + 1, ys_m2 ok hT hs (cf_n c) 0 b my ti me us (by omega) R G bs K⟩
end
end
section
/-! Y: waiting, and all times -/
section
variable {c : Cf_t} {my : Int32} {ti me us : Nat → Int32}
variable {post : SY → Prop} {b : Bf_t} {T : Nat}
theorem ys_w93 (ok : cf_ok c) {s : Nat} (R : ys_R b my ti me us) (hT : T ≤ 20) (G : bf_G c T b) (g1 : ∀ s, s < 1024 → b.1 s ≤ 21) (hs : s < 1024) (bs : b.1 s + 1 = T ∨ b.1 s = 20) (hu : ¬ sp_hur c (s / 64))
    (K : b.1 s < 20 → ∀ my' ti' me', ys_R (bf_w c s b) my' ti' me' us → post (nI (cf_n c), my', ar_f (cf_pr c), ar_f (cf_fr c), ar_f (cf_to c), ar_f (cf_rs c), ar_f (cf_sg c), ar_f (cf_le c), ar_f (cf_gr c), ar_f (cf_bd c), ar_f (cf_hu c), ti', me', us)) (K20 : b.1 s = 20 → post (nI (cf_n c), my, ar_f (cf_pr c), ar_f (cf_fr c), ar_f (cf_to c), ar_f (cf_rs c), ar_f (cf_sg c), ar_f (cf_le c), ar_f (cf_gr c), ar_f (cf_bd c), ar_f (cf_hu c), ti, me, us)) {z1 z0 : Int32} (ez : z1 + z0 = nI (bf_wt s)) : wY_waits_93 post (nI s) z0 z1 (nI (cf_n c)) my (ar_f (cf_pr c)) (ar_f (cf_fr c)) (ar_f (cf_to c)) (ar_f (cf_rs c)) (ar_f (cf_sg c)) (ar_f (cf_le c)) (ar_f (cf_gr c)) (ar_f (cf_bd c)) (ar_f (cf_hu c)) ti me us := by
  unfold wY_waits_93
  have hg := bf_wt_r hs
  rw [ez, xr_c (n := s) (by omega), R.2.1 s hs, nI_1]
  refine ⟨xr_i hs, ?_⟩
  by_cases z : b.1 s = 20
  · rw [z]
    unfold wpY_meet
    dsimp only
    rw [xr_c (n := bf_wt s) (by omega), R.2.1 _ hg]
    have := g1 _ hg
    exact ⟨xr_i hg, pk_le (b.1 (bf_wt s)) 21 (fun _ => K20 z) (fun w => absurd w (by omega))⟩
  · have lt : b.1 s < 20 := by omega
    have K := K lt
    have e : b.1 s + 1 = T := by omega
    unfold bf_w at K
    rw [e] at K ⊢
    refine ys_meet ok R hT G.1 G.2.1 hg (fun i => ?_) (fun i => ?_)
    · rw [bf_ift ⟨hu, i⟩] at K
      exact K
    · rw [bf_iff (fun w => i w.2)] at K
      exact K my ti me R
theorem ys_w75 (ok : cf_ok c) {s : Nat} (R : ys_R b my ti me us) (hT : T ≤ 20) (G : bf_G c T b) (g1 : ∀ s, s < 1024 → b.1 s ≤ 21) (hs : s < 1024) (bs : b.1 s + 1 = T ∨ b.1 s = 20) (hu : ¬ sp_hur c (s / 64))
    (K : b.1 s < 20 → ∀ my' ti' me', ys_R (bf_w c s b) my' ti' me' us → post (nI (cf_n c), my', ar_f (cf_pr c), ar_f (cf_fr c), ar_f (cf_to c), ar_f (cf_rs c), ar_f (cf_sg c), ar_f (cf_le c), ar_f (cf_gr c), ar_f (cf_bd c), ar_f (cf_hu c), ti', me', us)) (K20 : b.1 s = 20 → post (nI (cf_n c), my, ar_f (cf_pr c), ar_f (cf_fr c), ar_f (cf_to c), ar_f (cf_rs c), ar_f (cf_sg c), ar_f (cf_le c), ar_f (cf_gr c), ar_f (cf_bd c), ar_f (cf_hu c), ti, me, us)) :
    wY_waits_75 post (nI s) (nI (s % 8)) (nI (sp_7 (s / 8 % 8))) 8 (nI (s / 64) * 64) (nI (cf_n c)) my (ar_f (cf_pr c)) (ar_f (cf_fr c)) (ar_f (cf_to c)) (ar_f (cf_rs c)) (ar_f (cf_sg c)) (ar_f (cf_le c)) (ar_f (cf_gr c)) (ar_f (cf_bd c)) (ar_f (cf_hu c)) ti me us := by
  unfold wY_waits_75
  have ez : (nI (s / 64) * 64 + 8 * nI (sp_7 (s / 8 % 8))) + nI (sp_7 (s % 8)) = nI (bf_wt s) := by
    rw [show (64 : Int32) = nI 64 from rfl, show (8 : Int32) = nI 8 from rfl, pk_mul, pk_mul, nI_add, nI_add, Nat.mul_comm (s / 64) 64]
    rfl
  refine pk_le 7 (s % 8) (fun z => ?_) (fun z => ?_)
  · have q : sp_7 (s % 8) = 7 := by unfold sp_7; rw [if_neg (by omega)]
    rw [q] at ez
    exact ys_w93 ok R hT G g1 hs bs hu K K20 ez
  · have q : sp_7 (s % 8) = s % 8 + 1 := by unfold sp_7; rw [if_pos z]
    rw [q] at ez
    rw [nI_1]
    exact ys_w93 ok R hT G g1 hs bs hu K K20 ez
theorem ys_waits (ok : cf_ok c) {s : Nat} (R : ys_R b my ti me us) (hT : T ≤ 20) (G : bf_G c T b) (g1 : ∀ s, s < 1024 → b.1 s ≤ 21) (hs : s < 1024) (bs : b.1 s + 1 = T ∨ b.1 s = 20)
    (K : b.1 s < 20 → ∀ my' ti' me', ys_R (bf_w c s b) my' ti' me' us → post (nI (cf_n c), my', ar_f (cf_pr c), ar_f (cf_fr c), ar_f (cf_to c), ar_f (cf_rs c), ar_f (cf_sg c), ar_f (cf_le c), ar_f (cf_gr c), ar_f (cf_bd c), ar_f (cf_hu c), ti', me', us)) (K20 : b.1 s = 20 → post (nI (cf_n c), my, ar_f (cf_pr c), ar_f (cf_fr c), ar_f (cf_to c), ar_f (cf_rs c), ar_f (cf_sg c), ar_f (cf_le c), ar_f (cf_gr c), ar_f (cf_bd c), ar_f (cf_hu c), ti, me, us)) : wpY_waits post (nI (cf_n c), my, ar_f (cf_pr c), ar_f (cf_fr c), ar_f (cf_to c), ar_f (cf_rs c), ar_f (cf_sg c), ar_f (cf_le c), ar_f (cf_gr c), ar_f (cf_bd c), ar_f (cf_hu c), ti, me, us) (nI s) := by
  unfold wpY_waits
  have e0 : yr_pl (s / 64) 0 = s / 64 % 4 := rfl
  have e1 : yr_pl (s / 64) 1 = 4 + s / 64 / 4 := rfl
  have v0 : sp_cv 0 (s / 8 % 8) (s % 8) = s / 8 % 8 := rfl
  have v1 : sp_cv 1 (s / 8 % 8) (s % 8) = s % 8 := rfl
  have r1 := cf_ohu ok (s / 64 % 4)
  have r2 := cf_ohu ok (4 + s / 64 / 4)
  have no : sp_hur c (s / 64) → post (nI (cf_n c), my, ar_f (cf_pr c), ar_f (cf_fr c), ar_f (cf_to c), ar_f (cf_rs c), ar_f (cf_sg c), ar_f (cf_le c), ar_f (cf_gr c), ar_f (cf_bd c), ar_f (cf_hu c), ti, me, us) := fun hu => by
    by_cases z : b.1 s = 20
    · exact K20 z
    · have K := K (by omega)
      unfold bf_w at K
      rw [bf_iff (fun w => w.1 hu)] at K
      exact K my ti me R
  refine yr_place (p := 0) hs (by omega) (yr_place (p := 1) hs (by omega) ?_)
  rw [e0, e1]
  rw [xr_c (n := s / 64 % 4) (by omega), xr_c (n := 4 + s / 64 / 4) (by omega), xr_g, xr_g]
  refine ⟨xr_i (by omega), pk_eq (cf_hu c (s / 64 % 4)) 0 (fun z => ⟨xr_i (by omega), pk_eq (cf_hu c (4 + s / 64 / 4)) 0 (fun y => ?_) (fun y => no (fun w => y w.2))⟩) (fun z => no (fun w => z w.1))⟩
  have hu : ¬ sp_hur c (s / 64) := fun w => w ⟨z, y⟩
  have W := ys_w75 ok R hT G g1 hs bs hu K K20
  refine yr_value (k := 0) hs (by omega) (yr_value (k := 1) hs (by omega) ⟨yr_64, ?_⟩)
  rw [v0, v1, yr_d64 hs]
  refine pk_le 7 (s / 8 % 8) (fun x => ?_) (fun x => ?_)
  · have q : sp_7 (s / 8 % 8) = 7 := by unfold sp_7; rw [if_neg (by omega)]
    rw [q] at W
    exact W
  · have q : sp_7 (s / 8 % 8) = s / 8 % 8 + 1 := by unfold sp_7; rw [if_pos x]
    rw [q] at W
    rw [nI_1]
    exact W
end
section
variable {c : Cf_t} {T : Nat} {post : SY → Prop} {J : Int32 → Int32 → Int32 → Int32 → (Nat → Int32) → (Nat → Int32) → (Nat → Int32) → (Nat → Int32) → (Nat → Int32) → (Nat → Int32) → (Nat → Int32) → (Nat → Int32) → (Nat → Int32) → (Nat → Int32) → (Nat → Int32) → (Nat → Int32) →  Prop}
theorem ys_95 (ok : cf_ok c) (hT : T < 20) {F : Nat}
    (K : ∀ (b : Bf_t) (my : Int32) (ti me us : Nat → Int32), bf_J c T F F b → ys_R b my ti me us → J (nI F) (nI (T + 1)) (nI (cf_n c)) my (ar_f (cf_pr c)) (ar_f (cf_fr c)) (ar_f (cf_to c)) (ar_f (cf_rs c)) (ar_f (cf_sg c)) (ar_f (cf_le c)) (ar_f (cf_gr c)) (ar_f (cf_bd c)) (ar_f (cf_hu c)) ti me us) :
    ∀ (m i : Nat) (b : Bf_t) (my : Int32) (ti me us : Nat → Int32), i + m = F → bf_J c T i F b → ys_R b my ti me us → wY_work_95 post J (nI F) (nI T) (m + 1) (nI i) (nI (cf_n c)) my (ar_f (cf_pr c)) (ar_f (cf_fr c)) (ar_f (cf_to c)) (ar_f (cf_rs c)) (ar_f (cf_sg c)) (ar_f (cf_le c)) (ar_f (cf_gr c)) (ar_f (cf_bd c)) (ar_f (cf_hu c)) ti me us := by
  intro m
  induction m with
  | zero =>
    intro i b my ti me us ei I R
    have e1 : i = F := by omega
    subst e1
    rw [wY_work_95]
    have hm := I.1.2.1
    have hF := I.2.2.1
    exact pk_le i i (fun _ => nm_r (nI_1 T) (K b my ti me us I R)) (fun w => absurd w (by omega))
  | succ m ih =>
    intro i b my ti me us ei I R
    have hm := I.1.2.1
    have hF := I.2.2.1
    rw [wY_work_95]
    dsimp only
    rw [xr_c (n := i) (by omega), R.2.2.1 i (by omega)]
    have hq := I.1.2.2.1 i (by omega)
    have bT := I.2.2.2.2.2.2.1 i (Nat.le_refl _) (by omega)
    obtain ⟨I', X'⟩ := bf_J_s ok hT I (by omega)
    refine pk_le F i (fun w => absurd w (by omega)) (fun _ => ⟨xr_i (by omega), ?_⟩)
    refine ys_waits ok R (by omega) I.1 (fun s hs => ?_) hq.1 (Or.inl (by rw [bT])) (fun _ my' ti' me' R' => nm_r (nI_1 i) (ih (i + 1) _ my' ti' me' us (by omega) I' R')) (fun w => absurd w (by omega))
    have := I.1.1 s hs
    omega
theorem ys_95e (ok : cf_ok c) {F B : Nat} {b : Bf_t} {my : Int32} {ti me us : Nat → Int32} (I : bf_I c 20 B F b) (eF : F = b.2.2.1) (R : ys_R b my ti me us) (K : J (nI F) (nI 21) (nI (cf_n c)) my (ar_f (cf_pr c)) (ar_f (cf_fr c)) (ar_f (cf_to c)) (ar_f (cf_rs c)) (ar_f (cf_sg c)) (ar_f (cf_le c)) (ar_f (cf_gr c)) (ar_f (cf_bd c)) (ar_f (cf_hu c)) ti me us) :
    ∀ (m i : Nat), i + m = F → B ≤ i → wY_work_95 post J (nI F) (nI 20) (m + 1) (nI i) (nI (cf_n c)) my (ar_f (cf_pr c)) (ar_f (cf_fr c)) (ar_f (cf_to c)) (ar_f (cf_rs c)) (ar_f (cf_sg c)) (ar_f (cf_le c)) (ar_f (cf_gr c)) (ar_f (cf_bd c)) (ar_f (cf_hu c)) ti me us := by
  have hm := I.1.2.1
  intro m
  induction m with
  | zero =>
    intro i ei hi
    have e1 : i = F := by omega
    subst e1
    rw [wY_work_95]
    exact pk_le i i (fun _ => nm_r (nI_1 20) K) (fun w => absurd w (by omega))
  | succ m ih =>
    intro i ei hi
    rw [wY_work_95]
    dsimp only
    rw [xr_c (n := i) (by omega), R.2.2.1 i (by omega)]
    have hq := I.1.2.2.1 i (by omega)
    have bT := I.2.2.2.1 i hi (by omega)
    refine pk_le F i (fun w => absurd w (by omega)) (fun _ => ⟨xr_i (by omega), ?_⟩)
    refine ys_waits ok R (by omega) I.1 (fun s hs => ?_) hq.1 (Or.inr bT) (fun w => absurd w (by omega)) (fun _ => nm_r (nI_1 i) (ih (i + 1) (by omega) (by omega)))
    have := I.1.1 s hs
    omega
theorem ys_68 (ok : cf_ok c) (hT : T ≤ 20) {B : Nat}
    (K : ∀ (F : Nat) (b : Bf_t) (my : Int32) (ti me us : Nat → Int32), bf_I c T B F b → F = b.2.2.1 → ys_R b my ti me us → ∃ n, wY_work_95 post J (nI F) (nI T) n (nI B) (nI (cf_n c)) my (ar_f (cf_pr c)) (ar_f (cf_fr c)) (ar_f (cf_to c)) (ar_f (cf_rs c)) (ar_f (cf_sg c)) (ar_f (cf_le c)) (ar_f (cf_gr c)) (ar_f (cf_bd c)) (ar_f (cf_hu c)) ti me us) :
    ∀ (m F : Nat) (b : Bf_t) (my : Int32) (ti me us : Nat → Int32), F + m = 1024 → bf_I c T B F b → ys_R b my ti me us → wY_work_68 post J (nI T) (nI B) (m + 1) (nI F) (nI (cf_n c)) my (ar_f (cf_pr c)) (ar_f (cf_fr c)) (ar_f (cf_to c)) (ar_f (cf_rs c)) (ar_f (cf_sg c)) (ar_f (cf_le c)) (ar_f (cf_gr c)) (ar_f (cf_bd c)) (ar_f (cf_hu c)) ti me us := by
  intro m
  induction m with
  | zero =>
    intro F b my ti me us eF I R
    rw [wY_work_68]
    have hm := I.1.2.1
    have hF := I.2.2.1
    exact br_t (by rw [R.1]; exact nI_le (by omega) (by omega)) (K F b my ti me us I (by omega) R)
  | succ m ih =>
    intro F b my ti me us eF I R
    rw [wY_work_68]
    dsimp only
    rw [xr_c (n := F) (by omega)]
    have hm := I.1.2.1
    have hF := I.2.2.1
    have hB := I.2.1
    have wtM := R.1
    by_cases z : b.2.2.1 ≤ F
    · exact br_t (by rw [wtM]; exact nI_le z (by omega)) (K F b my ti me us I (by omega) R)
    · have hq := I.1.2.2.1 F (by omega)
      obtain ⟨I', X'⟩ := bf_I_s ok hT I (by omega)
      refine br_f (by rw [wtM]; exact nI_ge (by omega) (by omega)) ⟨xr_i (by omega), ?_⟩
      rw [R.2.2.1 F (by omega)]
      exact ys_moves ok hT hq.1 R I.1 (I.2.2.2.1 F hB (by omega)) (fun my' ti' me' us' R' => nm_r (nI_1 F) (ih (F + 1) _ my' ti' me' us' (by omega) I' R'))
end
section
variable {c : Cf_t} {post : SY → Prop}
theorem ys_60 (ok : cf_ok c)
    (K : ∀ (B F : Nat) (b : Bf_t) (my : Int32) (ti me us : Nat → Int32), bf_I c 20 B F b → F = b.2.2.1 → ys_R b my ti me us → post (nI (cf_n c), my, ar_f (cf_pr c), ar_f (cf_fr c), ar_f (cf_to c), ar_f (cf_rs c), ar_f (cf_sg c), ar_f (cf_le c), ar_f (cf_gr c), ar_f (cf_bd c), ar_f (cf_hu c), ti, me, us)) :
    ∀ (m T F : Nat) (b : Bf_t) (my : Int32) (ti me us : Nat → Int32), T + m = 20 → bf_I c T F F b → ys_R b my ti me us → wY_work_60 post (m + 2) (nI F) (nI T) (nI (cf_n c)) my (ar_f (cf_pr c)) (ar_f (cf_fr c)) (ar_f (cf_to c)) (ar_f (cf_rs c)) (ar_f (cf_sg c)) (ar_f (cf_le c)) (ar_f (cf_gr c)) (ar_f (cf_bd c)) (ar_f (cf_hu c)) ti me us := by
  intro m
  induction m with
  | zero =>
    intro T F b my ti me us eT I R
    have e1 : T = 20 := by omega
    subst e1
    have hm := I.1.2.1
    have hF := I.2.2.1
    rw [wY_work_60]
    refine pk_lt 20 20 (fun w => absurd w (by omega)) (fun _ => ⟨(1024 - F) + 1, ?_⟩)
    refine ys_68 ok (by omega) (fun F' b' my' ti' me' us' I' eF' R' => ⟨(F' - F) + 1, ?_⟩) (1024 - F) F b my ti me us (by omega) I R
    have hB := I'.2.1
    refine ys_95e ok I' eF' R' ?_ (F' - F) F (by omega) (by omega)
    rw [wY_work_60]
    exact pk_lt 20 21 (fun _ => K F F' b' my' ti' me' us' I' eF' R') (fun w => absurd w (by omega))
  | succ m ih =>
    intro T F b my ti me us eT I R
    have hm := I.1.2.1
    have hF := I.2.2.1
    rw [wY_work_60]
    refine pk_lt 20 T (fun w => absurd w (by omega)) (fun _ => ⟨(1024 - F) + 1, ?_⟩)
    refine ys_68 ok (by omega) (fun F' b' my' ti' me' us' I' eF' R' => ⟨(F' - F) + 1, ?_⟩) (1024 - F) F b my ti me us (by omega) I R
    have hB := I'.2.1
    exact ys_95 ok (by omega) (fun b2 my2 ti2 me2 us2 I2 R2 => ih (T + 1) F' b2 my2 ti2 me2 us2 (by omega) (bf_J_I I2) R2) (F' - F) F b' my' ti' me' us' (by omega) (bf_I_J I' eF') R'
end
section
variable {c : Cf_t} {my : Int32} {ti me us : Nat → Int32}
variable {post : SY → Prop}
theorem ys_25 (K : ∀ us' : Nat → Int32, (∀ j, j < 12 → us' j = 21) → wY_work_25 post (nI (cf_n c)) my 1 (nI 12) (ar_f (cf_pr c)) (ar_f (cf_fr c)) (ar_f (cf_to c)) (ar_f (cf_rs c)) (ar_f (cf_sg c)) (ar_f (cf_le c)) (ar_f (cf_gr c)) (ar_f (cf_bd c)) (ar_f (cf_hu c)) ti me us') :
    ∀ (m k : Nat) (us' : Nat → Int32), k + m = 12 → (∀ j, j < k → us' j = 21) → wY_work_25 post (nI (cf_n c)) my (m + 1) (nI k) (ar_f (cf_pr c)) (ar_f (cf_fr c)) (ar_f (cf_to c)) (ar_f (cf_rs c)) (ar_f (cf_sg c)) (ar_f (cf_le c)) (ar_f (cf_gr c)) (ar_f (cf_bd c)) (ar_f (cf_hu c)) ti me us' := by
  intro m
  induction m with
  | zero =>
    intro k us' e H
    have ek : k = 12 := by omega
    subst ek
    exact K us' H
  | succ m ih =>
    intro k us' e H
    have hk : k < 12 := by omega
    rw [wY_work_25]
    dsimp only
    rw [xr_c (n := k) (by omega)]
    refine pk_le 12 k (fun w => absurd w (by omega)) (fun _ => ⟨xr_i hk, nm_e (nm_r (nI_1 k) (ih (k + 1) _ (by omega) (fun j hj => ?_)))⟩)
    by_cases q : j = k
    · rw [q, pk_us]
    · rw [pk_un q]; exact H j (by omega)
theorem ys_2 (K : ∀ ti' us' : Nat → Int32, (∀ j, j < 1024 → ti' j = 21) → (∀ j, j < 12 → us' j = 21) → wY_work_25 post (nI (cf_n c)) my 1 (nI 12) (ar_f (cf_pr c)) (ar_f (cf_fr c)) (ar_f (cf_to c)) (ar_f (cf_rs c)) (ar_f (cf_sg c)) (ar_f (cf_le c)) (ar_f (cf_gr c)) (ar_f (cf_bd c)) (ar_f (cf_hu c)) ti' me us') :
    ∀ (m k : Nat) (ti' : Nat → Int32), k + m = 1024 → (∀ j, j < k → ti' j = 21) → wY_work_2 post (nI (cf_n c)) my (m + 1) (nI k) (ar_f (cf_pr c)) (ar_f (cf_fr c)) (ar_f (cf_to c)) (ar_f (cf_rs c)) (ar_f (cf_sg c)) (ar_f (cf_le c)) (ar_f (cf_gr c)) (ar_f (cf_bd c)) (ar_f (cf_hu c)) ti' me us := by
  intro m
  induction m with
  | zero =>
    intro k ti' e H
    have ek : k = 1024 := by omega
    subst ek
    rw [wY_work_2]
    exact pk_le 1024 1024 (fun _ => ⟨13, ys_25 (fun us' H' => K ti' us' H H') 12 0 us (by omega) (fun j hj => by omega)⟩) (fun w => absurd w (by omega))
  | succ m ih =>
    intro k ti' e H
    have hk : k < 1024 := by omega
    rw [wY_work_2]
    dsimp only
    rw [xr_c (n := k) (by omega)]
    refine pk_le 1024 k (fun w => absurd w (by omega)) (fun _ => ⟨xr_i hk, nm_e (nm_r (nI_1 k) (ih (k + 1) _ (by omega) (fun j hj => ?_)))⟩)
    by_cases q : j = k
    · rw [q, pk_us]
    · rw [pk_un q]; exact H j (by omega)
/-- work: the times and uses are what is to be found -/
theorem ys_work (ok : cf_ok c) (K : ∀ (my' : Int32) (ti' me' us' : Nat → Int32) (t u : Nat → Nat), sp_Y c t u → (∀ s, s < 1024 → ti' s = nI (t s) ∧ t s ≤ 21) → (∀ e, e < 12 → us' e = nI (u e) ∧ u e ≤ 21) → post (nI (cf_n c), my', ar_f (cf_pr c), ar_f (cf_fr c), ar_f (cf_to c), ar_f (cf_rs c), ar_f (cf_sg c), ar_f (cf_le c), ar_f (cf_gr c), ar_f (cf_bd c), ar_f (cf_hu c), ti', me', us')) : wpY_work post (nI (cf_n c), my, ar_f (cf_pr c), ar_f (cf_fr c), ar_f (cf_to c), ar_f (cf_rs c), ar_f (cf_sg c), ar_f (cf_le c), ar_f (cf_gr c), ar_f (cf_bd c), ar_f (cf_hu c), ti, me, us) := by
  unfold wpY_work
  refine ⟨1025, ys_2 (fun ti1 us1 h1 h2 => ?_) 1024 0 ti (by omega) (fun j hj => by omega)⟩
  rw [wY_work_25]
  refine pk_le 12 12 (fun _ => ?_) (fun w => absurd w (by omega))
  have R0 : ys_R ((fun _ => 21), (fun _ => 0), 0, (fun _ => 21)) 0 ti1 me us1 :=
    ⟨rfl, fun s hs => h1 s hs, fun i hi => absurd hi (Nat.not_lt_zero i), fun e he => h2 e he⟩
  refine ys_meet (s := 0) (T := 0) ok R0 (by omega) (fun _ _ => Or.inr rfl) ?_ (by omega) (fun _ my2 ti2 me2 R2 => ⟨22, ?_⟩) (fun w => absurd ⟨Nat.zero_le _, Nat.zero_le _⟩ w)
  · show 0 + bf_ct (fun _ => 21) 1024 = 1024
    rw [bf_ct_0]
  · refine ys_60 ok (fun B F b my' ti' me' us' I' eF R' => ?_) 20 0 0 _ my2 ti2 me2 us1 (by omega) (bf_start ok) R2
    refine K my' ti' me' us' b.1 b.2.2.2 (bf_end ok I' eF) (fun s hs => ⟨R'.2.1 s hs, ?_⟩) (fun e he => ⟨R'.2.2.2 e he, I'.1.2.2.2.2.1 e he⟩)
    have := I'.1.1 s hs
    omega
end
end
section
/-! the calls that change the configuration: X and Y each against one pure change -/
def oa_v (x : Int32) (n : Nat) : Prop := ∃ j : Nat, j < n ∧ x = nI j
theorem oa_neg {x : Int32} {n : Nat} (h : oa_v x n) (hn : n ≤ 1024) : ¬ x < 0 := by
  obtain ⟨j, hj, e⟩ := h
  rw [e]; exact nI_pos (by omega)
theorem oa_ge {x M : Int32} {n : Nat} (a : ¬ x < 0) (b : ¬ M < x) (hM : M = nI n := by rfl) (hn : n < 1024 := by omega) : oa_v x (n + 1) := by
  obtain ⟨j, hj, e⟩ := nI_of a
  subst e hM
  rw [nI_ltI (by omega) hj] at b
  exact ⟨j, by omega, rfl⟩
theorem oa_le {x M : Int32} {n : Nat} (a : ¬ x < 0) (b : x ≤ M) (hM : M = nI n := by rfl) (hn : n < 1024 := by omega) : oa_v x (n + 1) := by
  obtain ⟨j, hj, e⟩ := nI_of a
  subst e hM
  rw [nI_leI hj (by omega)] at b
  exact ⟨j, by omega, rfl⟩
theorem oa_lt {x : Int32} {n : Nat} (a : ¬ x < 0) (b : x < nI n) (hn : n < 1024) : oa_v x n := by
  obtain ⟨j, hj, e⟩ := nI_of a
  subst e
  rw [nI_ltI hj (by omega)] at b
  exact ⟨j, by omega, rfl⟩
theorem oa_up (f : Nat → Nat) (k v : Nat) : upd (ar_f f) k (nI v) = ar_f (bf_up f k v) := by
  funext j
  by_cases e : j = k
  · subst e; rw [pk_us, xr_g, bf_us]
  · rw [pk_un e, xr_g, xr_g, bf_un e]
theorem oa_upR {f : Nat → Nat} {m k v : Nat} (h : ∀ j, f j < m) (hv : v < m) : ∀ j, bf_up f k v j < m := by
  intro j
  unfold bf_up
  split
  · exact hv
  · exact h j
theorem oa_vb {n : Nat} (h : n < 128) : vp_nar .byte (nI n) = nI n := by
  have e : (nI n).toInt = (n : Int) := nI_toInt (by omega)
  rw [vp_nar_byte, lg_i2b_small (by omega) (by omega)]
theorem oa_b0 : vp_nar .boolean 0 = 0 := by decide
theorem oa_b1 : vp_nar .boolean 1 = 1 := by decide
/-! a new edge -/
def cf_e (c : Cf_t) (p q r s : Nat) : Cf_t :=
  (cf_n c + 1, bf_up (cf_pr c) (cf_n c) p, bf_up (cf_fr c) (cf_n c) (q % 4), bf_up (cf_to c) (cf_n c) (q / 4), bf_up (cf_rs c) (cf_n c) r, bf_up (cf_sg c) (cf_n c) s,
    bf_up (bf_up (cf_le c) (2 * cf_n c) 0) (2 * cf_n c + 1) 0, bf_up (bf_up (cf_gr c) (2 * cf_n c) 7) (2 * cf_n c + 1) 7, cf_bd c, cf_hu c)
theorem cf_e_ok {c : Cf_t} (ok : cf_ok c) (hn : cf_n c ≠ 12) {p q r s : Nat} (hp : p < 2) (hq : q < 16) (hr : r < 4) (hs : s < 5) : cf_ok (cf_e c p q r s) := by
  obtain ⟨h0, h1, h2, h3, h4, h5, h6, h7, h8, h9⟩ := ok
  exact ⟨by show cf_n c + 1 ≤ 12; omega, oa_upR h1 hp, oa_upR h2 (by omega), oa_upR h3 (by omega), oa_upR h4 hr, oa_upR h5 hs, oa_upR (oa_upR h6 (by omega)) (by omega), oa_upR (oa_upR h7 (by omega)) (by omega), h8, h9⟩
def oa_E (v1 v2 v3 v4 : Int32) : Prop := oa_v v1 2 ∧ oa_v v2 16 ∧ oa_v v3 4 ∧ oa_v v4 5
section
variable {c : Cf_t} {kn zs cr em ap wt : Int32} {so fm xl xh zp zb az tm qu : Nat → Int32}
variable {post : Int32 → SX → Prop}
theorem xo_edge0 {v1 v2 v3 v4 : Int32} (h : ¬ oa_E v1 v2 v3 v4) (K : post (-1) (nI (cf_n c), kn, zs, cr, em, ap, wt, ar_f (cf_pr c), ar_f (cf_fr c), ar_f (cf_to c), ar_f (cf_rs c), ar_f (cf_sg c), ar_f (cf_le c), ar_f (cf_gr c), ar_f (cf_bd c), ar_f (cf_hu c), so, fm, xl, xh, zp, zb, az, tm, qu)) : wpX_edge post (nI (cf_n c), kn, zs, cr, em, ap, wt, ar_f (cf_pr c), ar_f (cf_fr c), ar_f (cf_to c), ar_f (cf_rs c), ar_f (cf_sg c), ar_f (cf_le c), ar_f (cf_gr c), ar_f (cf_bd c), ar_f (cf_hu c), so, fm, xl, xh, zp, zb, az, tm, qu) v1 v2 v3 v4 := by
  unfold wpX_edge
  refine br_c (fun _ => K) (fun a1 => br_c (fun _ => K) (fun a2 => br_c (fun _ => K) (fun a3 => br_c (fun _ => K) (fun a4 => br_c (fun _ => K) (fun a5 => br_c (fun _ => K) (fun a6 => br_c (fun _ => K) (fun a7 => br_c (fun a8 => ?_) (fun _ => K))))))))
  exact absurd ⟨oa_ge (n := 1) a1 a2, oa_ge (n := 15) a3 a4, oa_ge (n := 3) a5 a6, oa_le (n := 4) a7 a8⟩ h
theorem xo_e116 {k n : Nat} (hn : cf_n c < 12) (hk : k < 2) {g1 g2 g3 g4 g5 : Nat → Int32} {f g : Nat → Nat} (h : wX_edge_116 post (nI (cf_n c)) kn zs cr em ap wt n (nI (k + 1)) g1 g2 g3 g4 g5 (ar_f (bf_up f (2 * cf_n c + k) 0)) (ar_f (bf_up g (2 * cf_n c + k) 7)) (ar_f (cf_bd c)) (ar_f (cf_hu c)) so fm xl xh zp zb az tm qu) :
    wX_edge_116 post (nI (cf_n c)) kn zs cr em ap wt (n + 1) (nI k) g1 g2 g3 g4 g5 (ar_f f) (ar_f g) (ar_f (cf_bd c)) (ar_f (cf_hu c)) so fm xl xh zp zb az tm qu := by
  rw [wX_edge_116]
  dsimp only
  have e0 : upd (ar_f f) (2 * cf_n c + k) 0 = ar_f (bf_up f (2 * cf_n c + k) 0) := oa_up f _ 0
  have e7 : upd (ar_f g) (2 * cf_n c + k) 7 = ar_f (bf_up g (2 * cf_n c + k) 7) := oa_up g _ 7
  have b0 : vp_nar .byte 0 = 0 := oa_vb (n := 0) (by omega)
  have b7 : vp_nar .byte 7 = 7 := oa_vb (n := 7) (by omega)
  rw [xr_2, xr_c (n := 2 * cf_n c + k) (by omega), b0, b7, e0, e7]
  exact pk_le 2 k (fun z => absurd z (by omega)) (fun _ => ⟨xr_i (by omega), nm_e ⟨xr_i (by omega), nm_e (nm_r (nI_1 k) h)⟩⟩)
theorem xo_edge1 (ok : cf_ok c) {p q r s : Nat} (hp : p < 2) (hq : q < 16) (hr : r < 4) (hs : s < 5) (K12 : cf_n c = 12 → post (-2) (nI (cf_n c), kn, zs, cr, em, ap, wt, ar_f (cf_pr c), ar_f (cf_fr c), ar_f (cf_to c), ar_f (cf_rs c), ar_f (cf_sg c), ar_f (cf_le c), ar_f (cf_gr c), ar_f (cf_bd c), ar_f (cf_hu c), so, fm, xl, xh, zp, zb, az, tm, qu)) (K : cf_n c ≠ 12 → post (nI (cf_n c)) (nI (cf_n (cf_e c p q r s)), 0, zs, cr, em, ap, wt, ar_f (cf_pr (cf_e c p q r s)), ar_f (cf_fr (cf_e c p q r s)), ar_f (cf_to (cf_e c p q r s)), ar_f (cf_rs (cf_e c p q r s)), ar_f (cf_sg (cf_e c p q r s)), ar_f (cf_le (cf_e c p q r s)), ar_f (cf_gr (cf_e c p q r s)), ar_f (cf_bd (cf_e c p q r s)), ar_f (cf_hu (cf_e c p q r s)), so, fm, xl, xh, zp, zb, az, tm, qu)) : wpX_edge post (nI (cf_n c), kn, zs, cr, em, ap, wt, ar_f (cf_pr c), ar_f (cf_fr c), ar_f (cf_to c), ar_f (cf_rs c), ar_f (cf_sg c), ar_f (cf_le c), ar_f (cf_gr c), ar_f (cf_bd c), ar_f (cf_hu c), so, fm, xl, xh, zp, zb, az, tm, qu) (nI p) (nI q) (nI r) (nI s) := by
  unfold wpX_edge
  have n := cf_on ok
  refine br_f (nI_pos (by omega)) (br_f (nI_nlt (a := 1) (by omega) (by omega)) (br_f (nI_pos (by omega)) (br_f (nI_nlt (a := 15) (by omega) (by omega)) (br_f (nI_pos (by omega)) (br_f (nI_nlt (a := 3) (by omega) (by omega)) (br_f (nI_pos (by omega)) (br_t (nI_le (b := 4) (by omega) (by omega)) ?_)))))))
  refine pk_eq (cf_n c) 12 K12 (fun ne => ?_)
  rw [xr_c (n := cf_n c) (by omega), xk_byN (n := p) (by omega), xr_and3 (by omega), xk_byN (n := q % 4) (by omega), xr_shr2 (by omega), xk_byN (n := q / 4) (by omega), xk_byN (n := r) (by omega), xk_byN (n := s) (by omega), oa_up, oa_up, oa_up, oa_up, oa_up]
  refine ⟨xr_i (by omega), nm_e ⟨xr_i (by omega), nm_e ⟨xr_i (by omega), nm_e ⟨xr_i (by omega), nm_e ⟨xr_i (by omega), nm_e ⟨3, ?_⟩⟩⟩⟩⟩⟩
  refine xo_e116 (k := 0) (by omega) (by omega) (xo_e116 (k := 1) (by omega) (by omega) ?_)
  rw [wX_edge_116]
  have K := K ne
  rw [← nI_pred (cf_n c)] at K
  exact pk_le 2 2 (fun _ => nm_r (nI_1 _) K) (fun z => absurd z (by omega))
end
section
variable {c : Cf_t} {my : Int32} {ti me us : Nat → Int32}
variable {post : Int32 → SY → Prop}
theorem yo_edge0 {v1 v2 v3 v4 : Int32} (h : ¬ oa_E v1 v2 v3 v4) (K : post (-1) (nI (cf_n c), my, ar_f (cf_pr c), ar_f (cf_fr c), ar_f (cf_to c), ar_f (cf_rs c), ar_f (cf_sg c), ar_f (cf_le c), ar_f (cf_gr c), ar_f (cf_bd c), ar_f (cf_hu c), ti, me, us)) : wpY_edge post (nI (cf_n c), my, ar_f (cf_pr c), ar_f (cf_fr c), ar_f (cf_to c), ar_f (cf_rs c), ar_f (cf_sg c), ar_f (cf_le c), ar_f (cf_gr c), ar_f (cf_bd c), ar_f (cf_hu c), ti, me, us) v1 v2 v3 v4 := by
  unfold wpY_edge
  refine br_c (fun _ => K) (fun a1 => br_c (fun _ => K) (fun a2 => br_c (fun _ => K) (fun a3 => br_c (fun a4 => br_c (fun _ => K) (fun a5 => br_c (fun _ => K) (fun a6 => br_c (fun _ => K) (fun a7 => br_c (fun a8 => ?_) (fun _ => K))))) (fun _ => K))))
  exact absurd ⟨oa_ge (n := 1) a1 a2, oa_le (n := 15) a3 a4, oa_ge (n := 3) a5 a6, oa_le (n := 4) a7 a8⟩ h
theorem yo_e113 {k n : Nat} (hn : cf_n c < 12) (hk : k < 2) {g1 g2 g3 g4 g5 : Nat → Int32} {f g : Nat → Nat} (h : wY_edge_113 post (nI (cf_n c)) my n (nI (k + 1)) g1 g2 g3 g4 g5 (ar_f (bf_up f (2 * cf_n c + k) 0)) (ar_f (bf_up g (2 * cf_n c + k) 7)) (ar_f (cf_bd c)) (ar_f (cf_hu c)) ti me us) :
    wY_edge_113 post (nI (cf_n c)) my (n + 1) (nI k) g1 g2 g3 g4 g5 (ar_f f) (ar_f g) (ar_f (cf_bd c)) (ar_f (cf_hu c)) ti me us := by
  rw [wY_edge_113]
  dsimp only
  have e0 : upd (ar_f f) (2 * cf_n c + k) 0 = ar_f (bf_up f (2 * cf_n c + k) 0) := oa_up f _ 0
  have e7 : upd (ar_f g) (2 * cf_n c + k) 7 = ar_f (bf_up g (2 * cf_n c + k) 7) := oa_up g _ 7
  rw [xr_2, xr_c (n := 2 * cf_n c + k) (by omega), e0, e7]
  exact pk_le 2 k (fun z => absurd z (by omega)) (fun _ => ⟨xr_i (by omega), nm_e ⟨xr_i (by omega), nm_e (nm_r (nI_1 k) h)⟩⟩)
theorem yo_edge1 (ok : cf_ok c) {p q r s : Nat} (hp : p < 2) (hq : q < 16) (hr : r < 4) (hs : s < 5) (K12 : cf_n c = 12 → post (-2) (nI (cf_n c), my, ar_f (cf_pr c), ar_f (cf_fr c), ar_f (cf_to c), ar_f (cf_rs c), ar_f (cf_sg c), ar_f (cf_le c), ar_f (cf_gr c), ar_f (cf_bd c), ar_f (cf_hu c), ti, me, us)) (K : cf_n c ≠ 12 → post (nI (cf_n c)) (nI (cf_n (cf_e c p q r s)), my, ar_f (cf_pr (cf_e c p q r s)), ar_f (cf_fr (cf_e c p q r s)), ar_f (cf_to (cf_e c p q r s)), ar_f (cf_rs (cf_e c p q r s)), ar_f (cf_sg (cf_e c p q r s)), ar_f (cf_le (cf_e c p q r s)), ar_f (cf_gr (cf_e c p q r s)), ar_f (cf_bd (cf_e c p q r s)), ar_f (cf_hu (cf_e c p q r s)), ti, me, us)) : wpY_edge post (nI (cf_n c), my, ar_f (cf_pr c), ar_f (cf_fr c), ar_f (cf_to c), ar_f (cf_rs c), ar_f (cf_sg c), ar_f (cf_le c), ar_f (cf_gr c), ar_f (cf_bd c), ar_f (cf_hu c), ti, me, us) (nI p) (nI q) (nI r) (nI s) := by
  unfold wpY_edge
  have n := cf_on ok
  refine br_f (nI_pos (by omega)) (br_f (nI_nlt (a := 1) (by omega) (by omega)) (br_f (nI_pos (by omega)) (br_t (nI_le (b := 15) (by omega) (by omega)) (br_f (nI_pos (by omega)) (br_f (nI_nlt (a := 3) (by omega) (by omega)) (br_f (nI_pos (by omega)) (br_t (nI_le (b := 4) (by omega) (by omega)) ?_)))))))
  refine pk_eq (cf_n c) 12 K12 (fun ne => ?_)
  rw [xr_c (n := cf_n c) (by omega), yr_r4 (by omega), yr_d4 (by omega), oa_up, oa_up, oa_up, oa_up, oa_up]
  refine ⟨xr_i (by omega), nm_e ⟨yr_4, xr_i (by omega), nm_e ⟨yr_4, xr_i (by omega), nm_e ⟨xr_i (by omega), nm_e ⟨xr_i (by omega), nm_e ⟨3, ?_⟩⟩⟩⟩⟩⟩
  refine yo_e113 (k := 0) (by omega) (by omega) (yo_e113 (k := 1) (by omega) (by omega) ?_)
  rw [wY_edge_113]
  have K := K ne
  rw [← nI_pred (cf_n c)] at K
  exact pk_le 2 2 (fun _ => nm_r (nI_1 _) K) (fun z => absurd z (by omega))
end
end
section
/-! guards, bounds, urgent places -/
theorem oa_rng {x M : Int32} {A0 A1 : Prop} (n : Nat) (h0 : oa_v x (n + 1) → A0) (h1 : ¬ oa_v x (n + 1) → A1) (hM : M = nI n := by rfl) (hn : n < 1000 := by omega) : (x < 0 → A1) ∧ (¬ x < 0 → ((x ≤ M → A0) ∧ (¬ x ≤ M → A1))) := by
  refine br_c (fun a => h1 (fun w => oa_neg w (by omega) a)) (fun a => br_c (fun b => h0 (oa_le a b hM)) (fun b => h1 (fun w => b ?_)))
  obtain ⟨j, hj, e⟩ := w
  subst e hM
  exact nI_le (by omega) (by omega)
theorem oa_rng2 {x M : Int32} {A0 A1 : Prop} (n : Nat) (h0 : oa_v x (n + 1) → A0) (h1 : ¬ oa_v x (n + 1) → A1) (hM : M = nI n := by rfl) (hn : n < 1000 := by omega) : (x < 0 → A1) ∧ (¬ x < 0 → ((M < x → A1) ∧ (¬ M < x → A0))) := by
  refine br_c (fun a => h1 (fun w => oa_neg w (by omega) a)) (fun a => br_c (fun b => h1 (fun w => ?_)) (fun b => h0 (oa_ge a b hM)))
  obtain ⟨j, hj, e⟩ := w
  subst e hM
  exact nI_nlt (by omega) (by omega) b
section
variable {c : Cf_t} {kn zs cr em ap wt : Int32} {so fm xl xh zp zb az tm qu : Nat → Int32}
variable {post : Int32 → Prop}
theorem xo_noEdge (ok : cf_ok c) {v : Int32} (h0 : oa_v v (cf_n c) → post 0) (h1 : ¬ oa_v v (cf_n c) → post 1) : wpX_noEdge post (nI (cf_n c), kn, zs, cr, em, ap, wt, ar_f (cf_pr c), ar_f (cf_fr c), ar_f (cf_to c), ar_f (cf_rs c), ar_f (cf_sg c), ar_f (cf_le c), ar_f (cf_gr c), ar_f (cf_bd c), ar_f (cf_hu c), so, fm, xl, xh, zp, zb, az, tm, qu) v := by
  have n := cf_on ok
  unfold wpX_noEdge
  refine br_c (fun a => h1 (fun w => oa_neg w (by omega) a)) (fun a => br_c (fun b => h0 (oa_lt a b (by omega))) (fun b => h1 (fun w => b ?_)))
  obtain ⟨j, hj, e⟩ := w
  subst e
  exact nI_lt hj (by omega)
theorem xo_badClock {v : Int32} (h0 : oa_v v 2 → post 0) (h1 : ¬ oa_v v 2 → post 1) : wpX_badClock post (nI (cf_n c), kn, zs, cr, em, ap, wt, ar_f (cf_pr c), ar_f (cf_fr c), ar_f (cf_to c), ar_f (cf_rs c), ar_f (cf_sg c), ar_f (cf_le c), ar_f (cf_gr c), ar_f (cf_bd c), ar_f (cf_hu c), so, fm, xl, xh, zp, zb, az, tm, qu) v := by
  unfold wpX_badClock
  exact oa_rng 1 h0 h1
theorem xo_badPlace {v : Int32} (h0 : oa_v v 8 → post 0) (h1 : ¬ oa_v v 8 → post 1) : wpX_badPlace post (nI (cf_n c), kn, zs, cr, em, ap, wt, ar_f (cf_pr c), ar_f (cf_fr c), ar_f (cf_to c), ar_f (cf_rs c), ar_f (cf_sg c), ar_f (cf_le c), ar_f (cf_gr c), ar_f (cf_bd c), ar_f (cf_hu c), so, fm, xl, xh, zp, zb, az, tm, qu) v := by
  unfold wpX_badPlace
  exact oa_rng 7 h0 h1
theorem xo_badPair {v : Int32} (h0 : oa_v v 16 → post 0) (h1 : ¬ oa_v v 16 → post 1) : wpX_badPair post (nI (cf_n c), kn, zs, cr, em, ap, wt, ar_f (cf_pr c), ar_f (cf_fr c), ar_f (cf_to c), ar_f (cf_rs c), ar_f (cf_sg c), ar_f (cf_le c), ar_f (cf_gr c), ar_f (cf_bd c), ar_f (cf_hu c), so, fm, xl, xh, zp, zb, az, tm, qu) v := by
  unfold wpX_badPair
  exact oa_rng 15 h0 h1
theorem xo_badValue {v w : Int32} (h0 : oa_v v 2 → oa_v w 7 → post 0) (h1 : ¬ (oa_v v 2 ∧ oa_v w 7) → post 1) : wpX_badValue post (nI (cf_n c), kn, zs, cr, em, ap, wt, ar_f (cf_pr c), ar_f (cf_fr c), ar_f (cf_to c), ar_f (cf_rs c), ar_f (cf_sg c), ar_f (cf_le c), ar_f (cf_gr c), ar_f (cf_bd c), ar_f (cf_hu c), so, fm, xl, xh, zp, zb, az, tm, qu) v w := by
  unfold wpX_badValue
  have one : ¬ (1 : Int32) = 0 := by decide
  exact xo_badClock (fun a => br_t rfl (oa_rng 6 (fun b => h0 a b) (fun b => h1 (fun w => b w.2)))) (fun a => br_f one (h1 (fun w => a w.1)))
end
section
variable {c : Cf_t} {my : Int32} {ti me us : Nat → Int32}
variable {post : Int32 → Prop}
theorem yo_isEdge (ok : cf_ok c) {v : Int32} (h1 : oa_v v (cf_n c) → post 1) (h0 : ¬ oa_v v (cf_n c) → post 0) : wpY_isEdge post (nI (cf_n c), my, ar_f (cf_pr c), ar_f (cf_fr c), ar_f (cf_to c), ar_f (cf_rs c), ar_f (cf_sg c), ar_f (cf_le c), ar_f (cf_gr c), ar_f (cf_bd c), ar_f (cf_hu c), ti, me, us) v := by
  have n := cf_on ok
  unfold wpY_isEdge
  refine br_c (fun a => h0 (fun w => oa_neg w (by omega) a)) (fun a => br_c (fun b => h0 (fun w => ?_)) (fun b => h1 ?_))
  · obtain ⟨j, hj, e⟩ := w
    subst e
    exact nI_ge hj (by omega) b
  · exact oa_lt a (Int32.not_le.mp b) (by omega)
theorem yo_badPair {v : Int32} (h0 : oa_v v 16 → post 0) (h1 : ¬ oa_v v 16 → post 1) : wpY_badPair post (nI (cf_n c), my, ar_f (cf_pr c), ar_f (cf_fr c), ar_f (cf_to c), ar_f (cf_rs c), ar_f (cf_sg c), ar_f (cf_le c), ar_f (cf_gr c), ar_f (cf_bd c), ar_f (cf_hu c), ti, me, us) v := by
  unfold wpY_badPair
  exact oa_rng 15 h0 h1
end
def cf_g (c : Cf_t) (k a b : Nat) : Cf_t := (cf_n c, cf_pr c, cf_fr c, cf_to c, cf_rs c, cf_sg c, bf_up (cf_le c) k a, bf_up (cf_gr c) k b, cf_bd c, cf_hu c)
def cf_b (c : Cf_t) (k a : Nat) : Cf_t := (cf_n c, cf_pr c, cf_fr c, cf_to c, cf_rs c, cf_sg c, cf_le c, cf_gr c, bf_up (cf_bd c) k a, cf_hu c)
def cf_u (c : Cf_t) (k a : Nat) : Cf_t := (cf_n c, cf_pr c, cf_fr c, cf_to c, cf_rs c, cf_sg c, cf_le c, cf_gr c, cf_bd c, bf_up (cf_hu c) k a)
theorem cf_g_ok {c : Cf_t} (ok : cf_ok c) {k a b : Nat} (ha : a < 7) (hb : b < 8) : cf_ok (cf_g c k a b) := by
  obtain ⟨h0, h1, h2, h3, h4, h5, h6, h7, h8, h9⟩ := ok
  exact ⟨h0, h1, h2, h3, h4, h5, oa_upR h6 ha, oa_upR h7 hb, h8, h9⟩
theorem cf_b_ok {c : Cf_t} (ok : cf_ok c) {k a : Nat} (ha : a < 8) : cf_ok (cf_b c k a) := by
  obtain ⟨h0, h1, h2, h3, h4, h5, h6, h7, h8, h9⟩ := ok
  exact ⟨h0, h1, h2, h3, h4, h5, h6, h7, oa_upR h8 ha, h9⟩
theorem cf_u_ok {c : Cf_t} (ok : cf_ok c) {k a : Nat} (ha : a < 2) : cf_ok (cf_u c k a) := by
  obtain ⟨h0, h1, h2, h3, h4, h5, h6, h7, h8, h9⟩ := ok
  exact ⟨h0, h1, h2, h3, h4, h5, h6, h7, h8, oa_upR h9 ha⟩
section
variable {c : Cf_t} {kn zs cr em ap wt : Int32} {so fm xl xh zp zb az tm qu : Nat → Int32}
variable {post : Int32 → SX → Prop}
theorem xo_guard (ok : cf_ok c) {v1 v2 v3 v4 : Int32} (K4 : ¬ oa_v v1 (cf_n c) → post (-4) (nI (cf_n c), kn, zs, cr, em, ap, wt, ar_f (cf_pr c), ar_f (cf_fr c), ar_f (cf_to c), ar_f (cf_rs c), ar_f (cf_sg c), ar_f (cf_le c), ar_f (cf_gr c), ar_f (cf_bd c), ar_f (cf_hu c), so, fm, xl, xh, zp, zb, az, tm, qu)) (K0 : oa_v v1 (cf_n c) → ¬ (oa_v v2 2 ∧ oa_v v3 7 ∧ oa_v v4 8) → post (-1) (nI (cf_n c), kn, zs, cr, em, ap, wt, ar_f (cf_pr c), ar_f (cf_fr c), ar_f (cf_to c), ar_f (cf_rs c), ar_f (cf_sg c), ar_f (cf_le c), ar_f (cf_gr c), ar_f (cf_bd c), ar_f (cf_hu c), so, fm, xl, xh, zp, zb, az, tm, qu))
    (K : ∀ e k a b, e < cf_n c → k < 2 → a < 7 → b < 8 → v1 = nI e → v2 = nI k → v3 = nI a → v4 = nI b → post 0 (nI (cf_n (cf_g c (2 * e + k) a b)), 0, zs, cr, em, ap, wt, ar_f (cf_pr (cf_g c (2 * e + k) a b)), ar_f (cf_fr (cf_g c (2 * e + k) a b)), ar_f (cf_to (cf_g c (2 * e + k) a b)), ar_f (cf_rs (cf_g c (2 * e + k) a b)), ar_f (cf_sg (cf_g c (2 * e + k) a b)), ar_f (cf_le (cf_g c (2 * e + k) a b)), ar_f (cf_gr (cf_g c (2 * e + k) a b)), ar_f (cf_bd (cf_g c (2 * e + k) a b)), ar_f (cf_hu (cf_g c (2 * e + k) a b)), so, fm, xl, xh, zp, zb, az, tm, qu)) : wpX_guard post (nI (cf_n c), kn, zs, cr, em, ap, wt, ar_f (cf_pr c), ar_f (cf_fr c), ar_f (cf_to c), ar_f (cf_rs c), ar_f (cf_sg c), ar_f (cf_le c), ar_f (cf_gr c), ar_f (cf_bd c), ar_f (cf_hu c), so, fm, xl, xh, zp, zb, az, tm, qu) v1 v2 v3 v4 := by
  have n := cf_on ok
  unfold wpX_guard
  have one : ¬ (1 : Int32) = 0 := by decide
  refine xo_noEdge ok (fun o1 => br_t rfl ?_) (fun o1 => br_f one (K4 o1))
  refine xo_badClock (fun o2 => br_t rfl ?_) (fun o2 => br_f one (K0 o1 (fun w => o2 w.1)))
  refine oa_rng2 6 (fun o3 => oa_rng 7 (fun o4 => ?_) (fun o4 => K0 o1 (fun w => o4 w.2.2))) (fun o3 => K0 o1 (fun w => o3 w.2.1))
  obtain ⟨e, he, rfl⟩ := o1
  obtain ⟨k, hk, rfl⟩ := o2
  obtain ⟨a, ha, rfl⟩ := o3
  obtain ⟨b, hb, rfl⟩ := o4
  rw [xr_2, xr_c (n := 2 * e + k) (by omega), xk_byN (n := a) (by omega), xk_byN (n := b) (by omega), oa_up, oa_up]
  exact ⟨xr_i (by omega), nm_e ⟨xr_i (by omega), nm_e (K e k a b he hk ha hb rfl rfl rfl rfl)⟩⟩
theorem xo_bound {v1 v2 v3 : Int32} (K0 : ¬ (oa_v v1 8 ∧ oa_v v2 2 ∧ oa_v v3 8) → post (-1) (nI (cf_n c), kn, zs, cr, em, ap, wt, ar_f (cf_pr c), ar_f (cf_fr c), ar_f (cf_to c), ar_f (cf_rs c), ar_f (cf_sg c), ar_f (cf_le c), ar_f (cf_gr c), ar_f (cf_bd c), ar_f (cf_hu c), so, fm, xl, xh, zp, zb, az, tm, qu))
    (K : ∀ l k a, l < 8 → k < 2 → a < 8 → v1 = nI l → v2 = nI k → v3 = nI a → post (nI (cf_bd c (2 * l + k))) (nI (cf_n (cf_b c (2 * l + k) a)), 0, zs, cr, em, ap, wt, ar_f (cf_pr (cf_b c (2 * l + k) a)), ar_f (cf_fr (cf_b c (2 * l + k) a)), ar_f (cf_to (cf_b c (2 * l + k) a)), ar_f (cf_rs (cf_b c (2 * l + k) a)), ar_f (cf_sg (cf_b c (2 * l + k) a)), ar_f (cf_le (cf_b c (2 * l + k) a)), ar_f (cf_gr (cf_b c (2 * l + k) a)), ar_f (cf_bd (cf_b c (2 * l + k) a)), ar_f (cf_hu (cf_b c (2 * l + k) a)), so, fm, xl, xh, zp, zb, az, tm, qu)) : wpX_bound post (nI (cf_n c), kn, zs, cr, em, ap, wt, ar_f (cf_pr c), ar_f (cf_fr c), ar_f (cf_to c), ar_f (cf_rs c), ar_f (cf_sg c), ar_f (cf_le c), ar_f (cf_gr c), ar_f (cf_bd c), ar_f (cf_hu c), so, fm, xl, xh, zp, zb, az, tm, qu) v1 v2 v3 := by
  unfold wpX_bound
  have one : ¬ (1 : Int32) = 0 := by decide
  refine xo_badPlace (fun o1 => br_t rfl ?_) (fun o1 => br_f one (K0 (fun w => o1 w.1)))
  refine xo_badClock (fun o2 => br_t rfl ?_) (fun o2 => br_f one (K0 (fun w => o2 w.2.1)))
  refine oa_rng 7 (fun o3 => ?_) (fun o3 => K0 (fun w => o3 w.2.2))
  obtain ⟨l, hl, rfl⟩ := o1
  obtain ⟨k, hk, rfl⟩ := o2
  obtain ⟨a, ha, rfl⟩ := o3
  rw [xr_2, xr_c (n := 2 * l + k) (by omega), xk_byN (n := a) (by omega), oa_up, xr_g]
  exact ⟨xr_i (by omega), nm_e ⟨xr_i (by omega), nm_e (K l k a hl hk ha rfl rfl rfl)⟩⟩
theorem oa_up0 (f : Nat → Nat) (k : Nat) : upd (ar_f f) k 0 = ar_f (bf_up f k 0) := oa_up f k 0
theorem oa_up1 (f : Nat → Nat) (k : Nat) : upd (ar_f f) k 1 = ar_f (bf_up f k 1) := oa_up f k 1
theorem xo_u24 {l : Nat} (hl : l < 8) {v2 z : Int32} (K0 : v2 = 0 → post z (nI (cf_n (cf_u c l 0)), 0, zs, cr, em, ap, wt, ar_f (cf_pr (cf_u c l 0)), ar_f (cf_fr (cf_u c l 0)), ar_f (cf_to (cf_u c l 0)), ar_f (cf_rs (cf_u c l 0)), ar_f (cf_sg (cf_u c l 0)), ar_f (cf_le (cf_u c l 0)), ar_f (cf_gr (cf_u c l 0)), ar_f (cf_bd (cf_u c l 0)), ar_f (cf_hu (cf_u c l 0)), so, fm, xl, xh, zp, zb, az, tm, qu)) (K1 : v2 ≠ 0 → post z (nI (cf_n (cf_u c l 1)), 0, zs, cr, em, ap, wt, ar_f (cf_pr (cf_u c l 1)), ar_f (cf_fr (cf_u c l 1)), ar_f (cf_to (cf_u c l 1)), ar_f (cf_rs (cf_u c l 1)), ar_f (cf_sg (cf_u c l 1)), ar_f (cf_le (cf_u c l 1)), ar_f (cf_gr (cf_u c l 1)), ar_f (cf_bd (cf_u c l 1)), ar_f (cf_hu (cf_u c l 1)), so, fm, xl, xh, zp, zb, az, tm, qu)) : wX_urgent_24 post (nI l) v2 z (nI (cf_n c)) kn zs cr em ap wt (ar_f (cf_pr c)) (ar_f (cf_fr c)) (ar_f (cf_to c)) (ar_f (cf_rs c)) (ar_f (cf_sg c)) (ar_f (cf_le c)) (ar_f (cf_gr c)) (ar_f (cf_bd c)) (ar_f (cf_hu c)) so fm xl xh zp zb az tm qu := by
  unfold wX_urgent_24
  rw [xr_c (n := l) (by omega), oa_b0, oa_b1, oa_up0, oa_up1]
  exact br_c (fun a => ⟨xr_i hl, nm_e (K0 a)⟩) (fun a => ⟨xr_i hl, nm_e (K1 a)⟩)
theorem xo_urgent (ok : cf_ok c) {v1 v2 : Int32} (K0 : ¬ oa_v v1 8 → post (-1) (nI (cf_n c), kn, zs, cr, em, ap, wt, ar_f (cf_pr c), ar_f (cf_fr c), ar_f (cf_to c), ar_f (cf_rs c), ar_f (cf_sg c), ar_f (cf_le c), ar_f (cf_gr c), ar_f (cf_bd c), ar_f (cf_hu c), so, fm, xl, xh, zp, zb, az, tm, qu))
    (K : ∀ l a, l < 8 → v1 = nI l → a = (if v2 = 0 then 0 else 1) → post (nI (cf_hu c l)) (nI (cf_n (cf_u c l a)), 0, zs, cr, em, ap, wt, ar_f (cf_pr (cf_u c l a)), ar_f (cf_fr (cf_u c l a)), ar_f (cf_to (cf_u c l a)), ar_f (cf_rs (cf_u c l a)), ar_f (cf_sg (cf_u c l a)), ar_f (cf_le (cf_u c l a)), ar_f (cf_gr (cf_u c l a)), ar_f (cf_bd (cf_u c l a)), ar_f (cf_hu (cf_u c l a)), so, fm, xl, xh, zp, zb, az, tm, qu)) : wpX_urgent post (nI (cf_n c), kn, zs, cr, em, ap, wt, ar_f (cf_pr c), ar_f (cf_fr c), ar_f (cf_to c), ar_f (cf_rs c), ar_f (cf_sg c), ar_f (cf_le c), ar_f (cf_gr c), ar_f (cf_bd c), ar_f (cf_hu c), so, fm, xl, xh, zp, zb, az, tm, qu) v1 v2 := by
  unfold wpX_urgent
  have one : ¬ (1 : Int32) = 0 := by decide
  refine xo_badPlace (fun o1 => br_t rfl ?_) (fun o1 => br_f one (K0 o1))
  obtain ⟨l, hl, rfl⟩ := o1
  rw [xr_c (n := l) (by omega), xr_g]
  have r := cf_ohu ok l
  refine ⟨xr_i hl, pk_eq (cf_hu c l) 0 (fun z => xo_u24 hl (fun a => ?_) (fun a => ?_)) (fun z => xo_u24 hl (fun a => ?_) (fun a => ?_))⟩
  · have := K l 0 hl rfl (by rw [if_pos a]); rw [z] at this; exact this
  · have := K l 1 hl rfl (by rw [if_neg a]); rw [z] at this; exact this
  · have := K l 0 hl rfl (by rw [if_pos a]); rw [show cf_hu c l = 1 by omega] at this; exact this
  · have := K l 1 hl rfl (by rw [if_neg a]); rw [show cf_hu c l = 1 by omega] at this; exact this
end
section
variable {c : Cf_t} {my : Int32} {ti me us : Nat → Int32}
variable {post : Int32 → SY → Prop}
theorem yo_guard (ok : cf_ok c) {v1 v2 v3 v4 : Int32} (K4 : ¬ oa_v v1 (cf_n c) → post (-4) (nI (cf_n c), my, ar_f (cf_pr c), ar_f (cf_fr c), ar_f (cf_to c), ar_f (cf_rs c), ar_f (cf_sg c), ar_f (cf_le c), ar_f (cf_gr c), ar_f (cf_bd c), ar_f (cf_hu c), ti, me, us)) (K0 : oa_v v1 (cf_n c) → ¬ (oa_v v2 2 ∧ oa_v v3 7 ∧ oa_v v4 8) → post (-1) (nI (cf_n c), my, ar_f (cf_pr c), ar_f (cf_fr c), ar_f (cf_to c), ar_f (cf_rs c), ar_f (cf_sg c), ar_f (cf_le c), ar_f (cf_gr c), ar_f (cf_bd c), ar_f (cf_hu c), ti, me, us))
    (K : ∀ e k a b, e < cf_n c → k < 2 → a < 7 → b < 8 → v1 = nI e → v2 = nI k → v3 = nI a → v4 = nI b → post 0 (nI (cf_n (cf_g c (2 * e + k) a b)), my, ar_f (cf_pr (cf_g c (2 * e + k) a b)), ar_f (cf_fr (cf_g c (2 * e + k) a b)), ar_f (cf_to (cf_g c (2 * e + k) a b)), ar_f (cf_rs (cf_g c (2 * e + k) a b)), ar_f (cf_sg (cf_g c (2 * e + k) a b)), ar_f (cf_le (cf_g c (2 * e + k) a b)), ar_f (cf_gr (cf_g c (2 * e + k) a b)), ar_f (cf_bd (cf_g c (2 * e + k) a b)), ar_f (cf_hu (cf_g c (2 * e + k) a b)), ti, me, us)) : wpY_guard post (nI (cf_n c), my, ar_f (cf_pr c), ar_f (cf_fr c), ar_f (cf_to c), ar_f (cf_rs c), ar_f (cf_sg c), ar_f (cf_le c), ar_f (cf_gr c), ar_f (cf_bd c), ar_f (cf_hu c), ti, me, us) v1 v2 v3 v4 := by
  have n := cf_on ok
  unfold wpY_guard
  have one : ¬ (1 : Int32) = 0 := by decide
  refine yo_isEdge ok (fun o1 => br_f one ?_) (fun o1 => br_t rfl (K4 o1))
  refine oa_rng2 1 (fun o2 => oa_rng2 6 (fun o3 => oa_rng 7 (fun o4 => ?_) (fun o4 => K0 o1 (fun w => o4 w.2.2))) (fun o3 => K0 o1 (fun w => o3 w.2.1))) (fun o2 => K0 o1 (fun w => o2 w.1))
  obtain ⟨e, he, rfl⟩ := o1
  obtain ⟨k, hk, rfl⟩ := o2
  obtain ⟨a, ha, rfl⟩ := o3
  obtain ⟨b, hb, rfl⟩ := o4
  rw [xr_2, xr_c (n := 2 * e + k) (by omega), oa_up, oa_up]
  exact ⟨xr_i (by omega), nm_e ⟨xr_i (by omega), nm_e (K e k a b he hk ha hb rfl rfl rfl rfl)⟩⟩
theorem yo_bound {v1 v2 v3 : Int32} (K0 : ¬ (oa_v v1 8 ∧ oa_v v2 2 ∧ oa_v v3 8) → post (-1) (nI (cf_n c), my, ar_f (cf_pr c), ar_f (cf_fr c), ar_f (cf_to c), ar_f (cf_rs c), ar_f (cf_sg c), ar_f (cf_le c), ar_f (cf_gr c), ar_f (cf_bd c), ar_f (cf_hu c), ti, me, us))
    (K : ∀ l k a, l < 8 → k < 2 → a < 8 → v1 = nI l → v2 = nI k → v3 = nI a → post (nI (cf_bd c (2 * l + k))) (nI (cf_n (cf_b c (2 * l + k) a)), my, ar_f (cf_pr (cf_b c (2 * l + k) a)), ar_f (cf_fr (cf_b c (2 * l + k) a)), ar_f (cf_to (cf_b c (2 * l + k) a)), ar_f (cf_rs (cf_b c (2 * l + k) a)), ar_f (cf_sg (cf_b c (2 * l + k) a)), ar_f (cf_le (cf_b c (2 * l + k) a)), ar_f (cf_gr (cf_b c (2 * l + k) a)), ar_f (cf_bd (cf_b c (2 * l + k) a)), ar_f (cf_hu (cf_b c (2 * l + k) a)), ti, me, us)) : wpY_bound post (nI (cf_n c), my, ar_f (cf_pr c), ar_f (cf_fr c), ar_f (cf_to c), ar_f (cf_rs c), ar_f (cf_sg c), ar_f (cf_le c), ar_f (cf_gr c), ar_f (cf_bd c), ar_f (cf_hu c), ti, me, us) v1 v2 v3 := by
  unfold wpY_bound
  refine oa_rng2 7 (fun o1 => oa_rng2 1 (fun o2 => oa_rng 7 (fun o3 => ?_) (fun o3 => K0 (fun w => o3 w.2.2))) (fun o2 => K0 (fun w => o2 w.2.1))) (fun o1 => K0 (fun w => o1 w.1))
  obtain ⟨l, hl, rfl⟩ := o1
  obtain ⟨k, hk, rfl⟩ := o2
  obtain ⟨a, ha, rfl⟩ := o3
  rw [xr_2, xr_c (n := 2 * l + k) (by omega), oa_up, xr_g]
  exact ⟨xr_i (by omega), nm_e ⟨xr_i (by omega), nm_e (K l k a hl hk ha rfl rfl rfl)⟩⟩
theorem yo_u26 {l : Nat} (hl : l < 8) {v2 z : Int32} (K0 : v2 = 0 → post z (nI (cf_n (cf_u c l 0)), my, ar_f (cf_pr (cf_u c l 0)), ar_f (cf_fr (cf_u c l 0)), ar_f (cf_to (cf_u c l 0)), ar_f (cf_rs (cf_u c l 0)), ar_f (cf_sg (cf_u c l 0)), ar_f (cf_le (cf_u c l 0)), ar_f (cf_gr (cf_u c l 0)), ar_f (cf_bd (cf_u c l 0)), ar_f (cf_hu (cf_u c l 0)), ti, me, us)) (K1 : v2 ≠ 0 → post z (nI (cf_n (cf_u c l 1)), my, ar_f (cf_pr (cf_u c l 1)), ar_f (cf_fr (cf_u c l 1)), ar_f (cf_to (cf_u c l 1)), ar_f (cf_rs (cf_u c l 1)), ar_f (cf_sg (cf_u c l 1)), ar_f (cf_le (cf_u c l 1)), ar_f (cf_gr (cf_u c l 1)), ar_f (cf_bd (cf_u c l 1)), ar_f (cf_hu (cf_u c l 1)), ti, me, us)) : wY_urgent_26 post (nI l) v2 z (nI (cf_n c)) my (ar_f (cf_pr c)) (ar_f (cf_fr c)) (ar_f (cf_to c)) (ar_f (cf_rs c)) (ar_f (cf_sg c)) (ar_f (cf_le c)) (ar_f (cf_gr c)) (ar_f (cf_bd c)) (ar_f (cf_hu c)) ti me us := by
  unfold wY_urgent_26
  rw [xr_c (n := l) (by omega), oa_b0, oa_b1, oa_up0, oa_up1]
  exact br_c (fun a => ⟨xr_i hl, nm_e (K0 a)⟩) (fun a => ⟨xr_i hl, nm_e (K1 a)⟩)
theorem yo_urgent (ok : cf_ok c) {v1 v2 : Int32} (K0 : ¬ oa_v v1 8 → post (-1) (nI (cf_n c), my, ar_f (cf_pr c), ar_f (cf_fr c), ar_f (cf_to c), ar_f (cf_rs c), ar_f (cf_sg c), ar_f (cf_le c), ar_f (cf_gr c), ar_f (cf_bd c), ar_f (cf_hu c), ti, me, us))
    (K : ∀ l a, l < 8 → v1 = nI l → a = (if v2 = 0 then 0 else 1) → post (nI (cf_hu c l)) (nI (cf_n (cf_u c l a)), my, ar_f (cf_pr (cf_u c l a)), ar_f (cf_fr (cf_u c l a)), ar_f (cf_to (cf_u c l a)), ar_f (cf_rs (cf_u c l a)), ar_f (cf_sg (cf_u c l a)), ar_f (cf_le (cf_u c l a)), ar_f (cf_gr (cf_u c l a)), ar_f (cf_bd (cf_u c l a)), ar_f (cf_hu (cf_u c l a)), ti, me, us)) : wpY_urgent post (nI (cf_n c), my, ar_f (cf_pr c), ar_f (cf_fr c), ar_f (cf_to c), ar_f (cf_rs c), ar_f (cf_sg c), ar_f (cf_le c), ar_f (cf_gr c), ar_f (cf_bd c), ar_f (cf_hu c), ti, me, us) v1 v2 := by
  unfold wpY_urgent
  refine oa_rng 7 (fun o1 => ?_) (fun o1 => K0 o1)
  obtain ⟨l, hl, rfl⟩ := o1
  rw [xr_c (n := l) (by omega), xr_g]
  have r := cf_ohu ok l
  refine ⟨xr_i hl, pk_eq (cf_hu c l) 0 (fun z => yo_u26 hl (fun a => ?_) (fun a => ?_)) (fun z => yo_u26 hl (fun a => ?_) (fun a => ?_))⟩
  · have := K l 0 hl rfl (by rw [if_pos a]); rw [z] at this; exact this
  · have := K l 1 hl rfl (by rw [if_neg a]); rw [z] at this; exact this
  · have := K l 0 hl rfl (by rw [if_pos a]); rw [show cf_hu c l = 1 by omega] at this; exact this
  · have := K l 1 hl rfl (by rw [if_neg a]); rw [show cf_hu c l = 1 by omega] at this; exact this
end
end
section
/-! an edge is dropped; the constructors -/
def oa_s (f : Nat → Nat) (e k : Nat) : Nat → Nat := fun j => if e ≤ j ∧ j < k then f (j + 1) else f j
def oa_s2 (f : Nat → Nat) (e k : Nat) : Nat → Nat := fun j => if 2 * e ≤ j ∧ j < 2 * k then f (j + 2) else f j
theorem oa_s0 (f : Nat → Nat) (e : Nat) : oa_s f e e = f := by
  funext j; unfold oa_s; rw [if_neg (by omega)]
theorem oa_s20 (f : Nat → Nat) (e : Nat) : oa_s2 f e e = f := by
  funext j; unfold oa_s2; rw [if_neg (by omega)]
theorem oa_st {f : Nat → Nat} {e k : Nat} (h : e ≤ k) : bf_up (oa_s f e k) k (oa_s f e k (k + 1)) = oa_s f e (k + 1) := by
  funext j
  unfold bf_up oa_s
  by_cases q : j = k
  · rw [if_pos q, if_neg (by omega), if_pos (by omega), q]
  · rw [if_neg q]
    by_cases w : e ≤ j ∧ j < k
    · rw [if_pos w, if_pos (by omega)]
    · rw [if_neg w, if_neg (by omega)]
theorem oa_st2 {f : Nat → Nat} {e k : Nat} (h : e ≤ k) : bf_up (bf_up (oa_s2 f e k) (2 * k + 0) (oa_s2 f e k (2 * (k + 1) + 0))) (2 * k + 1) (bf_up (oa_s2 f e k) (2 * k + 0) (oa_s2 f e k (2 * (k + 1) + 0)) (2 * (k + 1) + 1)) = oa_s2 f e (k + 1) := by
  rw [bf_un (j := 2 * (k + 1) + 1) (by omega)]
  funext j
  unfold bf_up oa_s2
  by_cases q : j = 2 * k + 1
  · rw [if_pos q, if_neg (by omega), if_pos (by omega), q]
    rfl
  · rw [if_neg q]
    by_cases q' : j = 2 * k + 0
    · rw [if_pos q', if_neg (by omega), if_pos (by omega), q']
      rfl
    · rw [if_neg q']
      by_cases w : 2 * e ≤ j ∧ j < 2 * k
      · rw [if_pos w, if_pos (by omega)]
      · rw [if_neg w, if_neg (by omega)]
theorem oa_sR {f : Nat → Nat} {m e k : Nat} (h : ∀ j, f j < m) : ∀ j, oa_s f e k j < m := by
  intro j; unfold oa_s; split
  · exact h _
  · exact h _
theorem oa_s2R {f : Nat → Nat} {m e k : Nat} (h : ∀ j, f j < m) : ∀ j, oa_s2 f e k j < m := by
  intro j; unfold oa_s2; split
  · exact h _
  · exact h _
def cf_s (c : Cf_t) (e k n : Nat) : Cf_t := (n, oa_s (cf_pr c) e k, oa_s (cf_fr c) e k, oa_s (cf_to c) e k, oa_s (cf_rs c) e k, oa_s (cf_sg c) e k, oa_s2 (cf_le c) e k, oa_s2 (cf_gr c) e k, cf_bd c, cf_hu c)
theorem cf_s_ok {c : Cf_t} (ok : cf_ok c) {e k n : Nat} (hn : n ≤ 12) : cf_ok (cf_s c e k n) := by
  obtain ⟨h0, h1, h2, h3, h4, h5, h6, h7, h8, h9⟩ := ok
  exact ⟨hn, oa_sR h1, oa_sR h2, oa_sR h3, oa_sR h4, oa_sR h5, oa_s2R h6, oa_s2R h7, h8, h9⟩
section
variable {c : Cf_t} {kn zs cr em ap wt : Int32} {so fm xl xh zp zb az tm qu : Nat → Int32}
variable {cnt : Int32} {f1 f2 f3 f4 f5 f6 f7 : Nat → Nat}
theorem xo_m62 {post : SX → Prop} {k i n : Nat} (hk : k < 11) (hi : i < 2) (h6 : f6 (2 * (k + 1) + i) < 128) (h7 : f7 (2 * (k + 1) + i) < 128)
    (h : wX_moveEdge_62 post (nI (k + 1)) (nI k) cnt kn zs cr em ap wt n (nI (i + 1)) (ar_f f1) (ar_f f2) (ar_f f3) (ar_f f4) (ar_f f5) (ar_f (bf_up f6 (2 * k + i) (f6 (2 * (k + 1) + i)))) (ar_f (bf_up f7 (2 * k + i) (f7 (2 * (k + 1) + i)))) (ar_f (cf_bd c)) (ar_f (cf_hu c)) so fm xl xh zp zb az tm qu) :
    wX_moveEdge_62 post (nI (k + 1)) (nI k) cnt kn zs cr em ap wt (n + 1) (nI i) (ar_f f1) (ar_f f2) (ar_f f3) (ar_f f4) (ar_f f5) (ar_f f6) (ar_f f7) (ar_f (cf_bd c)) (ar_f (cf_hu c)) so fm xl xh zp zb az tm qu := by
  rw [wX_moveEdge_62]
  dsimp only
  rw [xr_2, xr_2, xr_c (n := 2 * (k + 1) + i) (by omega), xr_c (n := 2 * k + i) (by omega), xr_g, xr_g, oa_vb h6, oa_vb h7, oa_up, oa_up]
  exact pk_le 2 i (fun z => absurd z (by omega)) (fun _ => ⟨xr_i (by omega), xr_i (by omega), nm_e ⟨xr_i (by omega), xr_i (by omega), nm_e (nm_r (nI_1 i) h)⟩⟩)
theorem xo_move {post : SX → Prop} {k : Nat} (hk : k < 11) (h1 : ∀ j, f1 j < 8) (h2 : ∀ j, f2 j < 8) (h3 : ∀ j, f3 j < 8) (h4 : ∀ j, f4 j < 8) (h5 : ∀ j, f5 j < 8) (h6 : ∀ j, f6 j < 8) (h7 : ∀ j, f7 j < 8)
    (K : post (cnt, kn, zs, cr, em, ap, wt, ar_f (bf_up f1 k (f1 (k + 1))), ar_f (bf_up f2 k (f2 (k + 1))), ar_f (bf_up f3 k (f3 (k + 1))), ar_f (bf_up f4 k (f4 (k + 1))), ar_f (bf_up f5 k (f5 (k + 1))), ar_f (bf_up (bf_up f6 (2 * k + 0) (f6 (2 * (k + 1) + 0))) (2 * k + 1) (bf_up f6 (2 * k + 0) (f6 (2 * (k + 1) + 0)) (2 * (k + 1) + 1))), ar_f (bf_up (bf_up f7 (2 * k + 0) (f7 (2 * (k + 1) + 0))) (2 * k + 1) (bf_up f7 (2 * k + 0) (f7 (2 * (k + 1) + 0)) (2 * (k + 1) + 1))), ar_f (cf_bd c), ar_f (cf_hu c), so, fm, xl, xh, zp, zb, az, tm, qu)) :
    wpX_moveEdge post (cnt, kn, zs, cr, em, ap, wt, ar_f f1, ar_f f2, ar_f f3, ar_f f4, ar_f f5, ar_f f6, ar_f f7, ar_f (cf_bd c), ar_f (cf_hu c), so, fm, xl, xh, zp, zb, az, tm, qu) (nI (k + 1)) (nI k) := by
  unfold wpX_moveEdge
  dsimp only
  have b : ∀ {f : Nat → Nat}, (∀ j, f j < 8) → ∀ j, f j < 128 := fun h j => by have := h j; omega
  rw [xr_c (n := k + 1) (by omega), xr_c (n := k) (by omega), xr_g, xr_g, xr_g, xr_g, xr_g, oa_vb (b h1 _), oa_vb (b h2 _), oa_vb (b h3 _), oa_vb (b h4 _), oa_vb (b h5 _), oa_up, oa_up, oa_up, oa_up, oa_up]
  have i1 : vp_in (nI (k + 1)) 12 := xr_i (by omega)
  have i0 : vp_in (nI k) 12 := xr_i (by omega)
  refine ⟨i1, i0, nm_e ⟨i1, i0, nm_e ⟨i1, i0, nm_e ⟨i1, i0, nm_e ⟨i1, i0, nm_e ⟨3, ?_⟩⟩⟩⟩⟩⟩
  refine xo_m62 (i := 0) hk (by omega) (b h6 _) (b h7 _) (xo_m62 (i := 1) hk (by omega) (b (oa_upR h6 (h6 _)) _) (b (oa_upR h7 (h7 _)) _) ?_)
  rw [wX_moveEdge_62]
  exact pk_le 2 2 (fun _ => K) (fun z => absurd z (by omega))
theorem xo_d23 (ok : cf_ok c) {post : Int32 → SX → Prop} {e : Nat} (hn : 0 < cf_n c) (K : post (nI (cf_n c - 1)) (nI (cf_n (cf_s c e (cf_n c - 1) (cf_n c - 1))), 0, zs, cr, em, ap, wt, ar_f (cf_pr (cf_s c e (cf_n c - 1) (cf_n c - 1))), ar_f (cf_fr (cf_s c e (cf_n c - 1) (cf_n c - 1))), ar_f (cf_to (cf_s c e (cf_n c - 1) (cf_n c - 1))), ar_f (cf_rs (cf_s c e (cf_n c - 1) (cf_n c - 1))), ar_f (cf_sg (cf_s c e (cf_n c - 1) (cf_n c - 1))), ar_f (cf_le (cf_s c e (cf_n c - 1) (cf_n c - 1))), ar_f (cf_gr (cf_s c e (cf_n c - 1) (cf_n c - 1))), ar_f (cf_bd (cf_s c e (cf_n c - 1) (cf_n c - 1))), ar_f (cf_hu (cf_s c e (cf_n c - 1) (cf_n c - 1))), so, fm, xl, xh, zp, zb, az, tm, qu)) :
    ∀ m k, k + m = cf_n c - 1 → e ≤ k → wX_drop_23 post (m + 1) (nI k) (nI (cf_n (cf_s c e k (cf_n c - 1)))) kn zs cr em ap wt (ar_f (cf_pr (cf_s c e k (cf_n c - 1)))) (ar_f (cf_fr (cf_s c e k (cf_n c - 1)))) (ar_f (cf_to (cf_s c e k (cf_n c - 1)))) (ar_f (cf_rs (cf_s c e k (cf_n c - 1)))) (ar_f (cf_sg (cf_s c e k (cf_n c - 1)))) (ar_f (cf_le (cf_s c e k (cf_n c - 1)))) (ar_f (cf_gr (cf_s c e k (cf_n c - 1)))) (ar_f (cf_bd (cf_s c e k (cf_n c - 1)))) (ar_f (cf_hu (cf_s c e k (cf_n c - 1)))) so fm xl xh zp zb az tm qu := by
  have n := cf_on ok
  intro m
  induction m with
  | zero =>
    intro k ek he
    have e1 : k = cf_n c - 1 := by omega
    subst e1
    rw [wX_drop_23]
    exact pk_le (cf_n c - 1) (cf_n c - 1) (fun _ => K) (fun z => absurd z (by omega))
  | succ m ih =>
    intro k ek he
    rw [wX_drop_23]
    dsimp only
    rw [nI_1]
    refine pk_le (cf_n c - 1) k (fun z => absurd z (by omega)) (fun _ => ?_)
    have b4 : ∀ {f : Nat → Nat}, (∀ j, f j < 4) → ∀ j, f j < 8 := fun h j => by have := h j; omega
    refine xo_move (f1 := oa_s (cf_pr c) e k) (f2 := oa_s (cf_fr c) e k) (f3 := oa_s (cf_to c) e k) (f4 := oa_s (cf_rs c) e k) (f5 := oa_s (cf_sg c) e k) (f6 := oa_s2 (cf_le c) e k) (f7 := oa_s2 (cf_gr c) e k) (by omega)
      (oa_sR (fun j => by have := cf_opr ok j; omega)) (oa_sR (fun j => by have := cf_ofr ok j; omega)) (oa_sR (fun j => by have := cf_oto ok j; omega)) (oa_sR (fun j => by have := cf_ors ok j; omega)) (oa_sR (fun j => by have := cf_osg ok j; omega)) (oa_s2R (fun j => by have := cf_ole ok j; omega)) (oa_s2R (fun j => cf_ogr ok j)) ?_
    rw [oa_st he, oa_st he, oa_st he, oa_st he, oa_st he, oa_st2 he, oa_st2 he]
    exact nm_e (ih (k + 1) (by omega) (by omega))
theorem xo_drop (ok : cf_ok c) {post : Int32 → SX → Prop} {v1 : Int32} (K4 : ¬ oa_v v1 (cf_n c) → post (-4) (nI (cf_n c), kn, zs, cr, em, ap, wt, ar_f (cf_pr c), ar_f (cf_fr c), ar_f (cf_to c), ar_f (cf_rs c), ar_f (cf_sg c), ar_f (cf_le c), ar_f (cf_gr c), ar_f (cf_bd c), ar_f (cf_hu c), so, fm, xl, xh, zp, zb, az, tm, qu)) (K : ∀ e, e < cf_n c → v1 = nI e → post (nI (cf_n c - 1)) (nI (cf_n (cf_s c e (cf_n c - 1) (cf_n c - 1))), 0, zs, cr, em, ap, wt, ar_f (cf_pr (cf_s c e (cf_n c - 1) (cf_n c - 1))), ar_f (cf_fr (cf_s c e (cf_n c - 1) (cf_n c - 1))), ar_f (cf_to (cf_s c e (cf_n c - 1) (cf_n c - 1))), ar_f (cf_rs (cf_s c e (cf_n c - 1) (cf_n c - 1))), ar_f (cf_sg (cf_s c e (cf_n c - 1) (cf_n c - 1))), ar_f (cf_le (cf_s c e (cf_n c - 1) (cf_n c - 1))), ar_f (cf_gr (cf_s c e (cf_n c - 1) (cf_n c - 1))), ar_f (cf_bd (cf_s c e (cf_n c - 1) (cf_n c - 1))), ar_f (cf_hu (cf_s c e (cf_n c - 1) (cf_n c - 1))), so, fm, xl, xh, zp, zb, az, tm, qu)) : wpX_drop post (nI (cf_n c), kn, zs, cr, em, ap, wt, ar_f (cf_pr c), ar_f (cf_fr c), ar_f (cf_to c), ar_f (cf_rs c), ar_f (cf_sg c), ar_f (cf_le c), ar_f (cf_gr c), ar_f (cf_bd c), ar_f (cf_hu c), so, fm, xl, xh, zp, zb, az, tm, qu) v1 := by
  have n := cf_on ok
  unfold wpX_drop
  have one : ¬ (1 : Int32) = 0 := by decide
  refine xo_noEdge ok (fun o1 => br_t rfl ?_) (fun o1 => br_f one (K4 o1))
  obtain ⟨e, he, rfl⟩ := o1
  have e1 : nI (cf_n c) - 1 = nI (cf_n c - 1) := by
    rw [show cf_n c = (cf_n c - 1) + 1 by omega, nI_pred]; rfl
  refine nm_r e1 ⟨(cf_n c - 1 - e) + 1, ?_⟩
  have G := xo_d23 (kn := kn) (zs := zs) (cr := cr) (em := em) (ap := ap) (wt := wt) (so := so) (fm := fm) (xl := xl) (xh := xh) (zp := zp) (zb := zb) (az := az) (tm := tm) (qu := qu) ok (post := post) (e := e) (by omega) (K e he rfl) (cf_n c - 1 - e) e (by omega) (by omega)
  unfold cf_s at G
  rw [oa_s0, oa_s0, oa_s0, oa_s0, oa_s0, oa_s20, oa_s20] at G
  exact G
end
section
variable {c : Cf_t} {my : Int32} {ti me us : Nat → Int32}
variable {post : Int32 → SY → Prop} {cnt : Int32} {f1 f2 f3 f4 f5 f6 f7 : Nat → Nat}
theorem yo_22 (a b : Nat) : (2 : Int32) * nI a + 2 + nI b = nI (2 * (a + 1) + b) := by
  rw [show (2 : Int32) = nI 2 from rfl, pk_mul, nI_add, nI_add, show 2 * a + 2 + b = 2 * (a + 1) + b by omega]
theorem yo_m95 {J : Int32 → (Nat → Int32) → (Nat → Int32) → (Nat → Int32) → (Nat → Int32) → (Nat → Int32) → (Nat → Int32) → (Nat → Int32) → (Nat → Int32) → (Nat → Int32) → (Nat → Int32) → (Nat → Int32) → (Nat → Int32) →  Prop} {k i n : Nat} (hk : k < 11) (hi : i < 2)
    (h : wY_drop_95 post J (nI k) cnt my n (nI (i + 1)) (ar_f f1) (ar_f f2) (ar_f f3) (ar_f f4) (ar_f f5) (ar_f (bf_up f6 (2 * k + i) (f6 (2 * (k + 1) + i)))) (ar_f (bf_up f7 (2 * k + i) (f7 (2 * (k + 1) + i)))) (ar_f (cf_bd c)) (ar_f (cf_hu c)) ti me us) :
    wY_drop_95 post J (nI k) cnt my (n + 1) (nI i) (ar_f f1) (ar_f f2) (ar_f f3) (ar_f f4) (ar_f f5) (ar_f f6) (ar_f f7) (ar_f (cf_bd c)) (ar_f (cf_hu c)) ti me us := by
  rw [wY_drop_95]
  dsimp only
  rw [yo_22, xr_2, xr_c (n := 2 * (k + 1) + i) (by omega), xr_c (n := 2 * k + i) (by omega), xr_g, xr_g, oa_up, oa_up]
  exact pk_le 2 i (fun z => absurd z (by omega)) (fun _ => ⟨xr_i (by omega), xr_i (by omega), nm_e ⟨xr_i (by omega), xr_i (by omega), nm_e (nm_r (nI_1 i) h)⟩⟩)
theorem yo_d13 (ok : cf_ok c) {e : Nat} (hn : 0 < cf_n c) (K : post (nI (cf_n c - 1)) (nI (cf_n (cf_s c e (cf_n c - 1) (cf_n c - 1))), my, ar_f (cf_pr (cf_s c e (cf_n c - 1) (cf_n c - 1))), ar_f (cf_fr (cf_s c e (cf_n c - 1) (cf_n c - 1))), ar_f (cf_to (cf_s c e (cf_n c - 1) (cf_n c - 1))), ar_f (cf_rs (cf_s c e (cf_n c - 1) (cf_n c - 1))), ar_f (cf_sg (cf_s c e (cf_n c - 1) (cf_n c - 1))), ar_f (cf_le (cf_s c e (cf_n c - 1) (cf_n c - 1))), ar_f (cf_gr (cf_s c e (cf_n c - 1) (cf_n c - 1))), ar_f (cf_bd (cf_s c e (cf_n c - 1) (cf_n c - 1))), ar_f (cf_hu (cf_s c e (cf_n c - 1) (cf_n c - 1))), ti, me, us)) :
    ∀ m k, k + m = cf_n c - 1 → e ≤ k → wY_drop_13 post (nI (cf_n c)) my (m + 1) (nI k) (ar_f (cf_pr (cf_s c e k (cf_n c - 1)))) (ar_f (cf_fr (cf_s c e k (cf_n c - 1)))) (ar_f (cf_to (cf_s c e k (cf_n c - 1)))) (ar_f (cf_rs (cf_s c e k (cf_n c - 1)))) (ar_f (cf_sg (cf_s c e k (cf_n c - 1)))) (ar_f (cf_le (cf_s c e k (cf_n c - 1)))) (ar_f (cf_gr (cf_s c e k (cf_n c - 1)))) (ar_f (cf_bd (cf_s c e k (cf_n c - 1)))) (ar_f (cf_hu (cf_s c e k (cf_n c - 1)))) ti me us := by
  have n := cf_on ok
  have e1 : nI (cf_n c) - 1 = nI (cf_n c - 1) := by
    rw [show cf_n c = (cf_n c - 1) + 1 by omega, nI_pred]; rfl
  intro m
  induction m with
  | zero =>
    intro k ek he
    have e2 : k = cf_n c - 1 := by omega
    subst e2
    rw [wY_drop_13]
    dsimp only
    rw [e1]
    exact pk_le (cf_n c - 1) (cf_n c - 1) (fun _ => nm_e K) (fun z => absurd z (by omega))
  | succ m ih =>
    intro k ek he
    rw [wY_drop_13]
    dsimp only
    have q1 : cf_pr (cf_s c e k (cf_n c - 1)) = oa_s (cf_pr c) e k := rfl
    have q2 : cf_fr (cf_s c e k (cf_n c - 1)) = oa_s (cf_fr c) e k := rfl
    have q3 : cf_to (cf_s c e k (cf_n c - 1)) = oa_s (cf_to c) e k := rfl
    have q4 : cf_rs (cf_s c e k (cf_n c - 1)) = oa_s (cf_rs c) e k := rfl
    have q5 : cf_sg (cf_s c e k (cf_n c - 1)) = oa_s (cf_sg c) e k := rfl
    have q6 : cf_le (cf_s c e k (cf_n c - 1)) = oa_s2 (cf_le c) e k := rfl
    have q7 : cf_gr (cf_s c e k (cf_n c - 1)) = oa_s2 (cf_gr c) e k := rfl
    rw [e1, nI_1, xr_c (n := k + 1) (by omega), xr_c (n := k) (by omega), xr_g, xr_g, xr_g, xr_g, xr_g, oa_up, oa_up, oa_up, oa_up, oa_up, q1, q2, q3, q4, q5, q6, q7, oa_st he, oa_st he, oa_st he, oa_st he, oa_st he]
    have i1 : vp_in (nI (k + 1)) 12 := xr_i (by omega)
    have i0 : vp_in (nI k) 12 := xr_i (by omega)
    refine pk_le (cf_n c - 1) k (fun z => absurd z (by omega)) (fun _ => ⟨i1, i0, nm_e ⟨i1, i0, nm_e ⟨i1, i0, nm_e ⟨i1, i0, nm_e ⟨i1, i0, nm_e ⟨3, ?_⟩⟩⟩⟩⟩⟩)
    refine yo_m95 (i := 0) (by omega) (by omega) (yo_m95 (i := 1) (by omega) (by omega) ?_)
    rw [oa_st2 he, oa_st2 he, wY_drop_95]
    exact pk_le 2 2 (fun _ => nm_r (nI_1 k) (ih (k + 1) (by omega) (by omega))) (fun z => absurd z (by omega))
theorem yo_drop (ok : cf_ok c) {v1 : Int32} (K4 : ¬ oa_v v1 (cf_n c) → post (-4) (nI (cf_n c), my, ar_f (cf_pr c), ar_f (cf_fr c), ar_f (cf_to c), ar_f (cf_rs c), ar_f (cf_sg c), ar_f (cf_le c), ar_f (cf_gr c), ar_f (cf_bd c), ar_f (cf_hu c), ti, me, us)) (K : ∀ e, e < cf_n c → v1 = nI e → post (nI (cf_n c - 1)) (nI (cf_n (cf_s c e (cf_n c - 1) (cf_n c - 1))), my, ar_f (cf_pr (cf_s c e (cf_n c - 1) (cf_n c - 1))), ar_f (cf_fr (cf_s c e (cf_n c - 1) (cf_n c - 1))), ar_f (cf_to (cf_s c e (cf_n c - 1) (cf_n c - 1))), ar_f (cf_rs (cf_s c e (cf_n c - 1) (cf_n c - 1))), ar_f (cf_sg (cf_s c e (cf_n c - 1) (cf_n c - 1))), ar_f (cf_le (cf_s c e (cf_n c - 1) (cf_n c - 1))), ar_f (cf_gr (cf_s c e (cf_n c - 1) (cf_n c - 1))), ar_f (cf_bd (cf_s c e (cf_n c - 1) (cf_n c - 1))), ar_f (cf_hu (cf_s c e (cf_n c - 1) (cf_n c - 1))), ti, me, us)) : wpY_drop post (nI (cf_n c), my, ar_f (cf_pr c), ar_f (cf_fr c), ar_f (cf_to c), ar_f (cf_rs c), ar_f (cf_sg c), ar_f (cf_le c), ar_f (cf_gr c), ar_f (cf_bd c), ar_f (cf_hu c), ti, me, us) v1 := by
  have n := cf_on ok
  unfold wpY_drop
  have one : ¬ (1 : Int32) = 0 := by decide
  refine yo_isEdge ok (fun o1 => br_f one ?_) (fun o1 => br_t rfl (K4 o1))
  obtain ⟨e, he, rfl⟩ := o1
  refine ⟨(cf_n c - 1 - e) + 1, ?_⟩
  have G := yo_d13 (my := my) (ti := ti) (me := me) (us := us) ok (post := post) (e := e) (by omega) (K e he rfl) (cf_n c - 1 - e) e (by omega) (by omega)
  unfold cf_s at G
  rw [oa_s0, oa_s0, oa_s0, oa_s0, oa_s0, oa_s20, oa_s20] at G
  exact G
end
/-! the constructors -/
def oa_7 (k : Nat) : Nat → Nat := fun j => if j < k then 7 else 0
theorem oa_7s (k : Nat) : upd (ar_f (oa_7 k)) k 7 = ar_f (oa_7 (k + 1)) := by
  have e : upd (ar_f (oa_7 k)) k 7 = ar_f (bf_up (oa_7 k) k 7) := oa_up _ k 7
  rw [e]
  congr 1
  funext j
  unfold bf_up oa_7
  by_cases q : j = k
  · rw [if_pos q, if_pos (by omega)]
  · rw [if_neg q]
    by_cases w : j < k
    · rw [if_pos w, if_pos (by omega)]
    · rw [if_neg w, if_neg (by omega)]
def cf_0 : Cf_t := (0, (fun _ => 0), (fun _ => 0), (fun _ => 0), (fun _ => 0), (fun _ => 0), (fun _ => 0), (fun _ => 0), oa_7 16, (fun _ => 0))
theorem cf_0_ok : cf_ok cf_0 := by
  have z : ∀ {m : Nat}, 0 < m → ∀ k : Nat, (fun _ => 0 : Nat → Nat) k < m := fun h _ => h
  refine ⟨by show 0 ≤ 12; omega, z (by omega), z (by omega), z (by omega), z (by omega), z (by omega), z (by omega), z (by omega), fun k => ?_, z (by omega)⟩
  show oa_7 16 k < 8
  unfold oa_7; split <;> omega
theorem xo_i153 {post : SX → Prop} (K : post (0, 0, 0, 0, 0, 0, 0, fun _ => 0, fun _ => 0, fun _ => 0, fun _ => 0, fun _ => 0, fun _ => 0, fun _ => 0, ar_f (oa_7 16), fun _ => 0, fun _ => 0, fun _ => 0, fun _ => 0, fun _ => 0, fun _ => 0, fun _ => 0, fun _ => 0, fun _ => 0, fun _ => 0)) :
    ∀ m k, k + m = 16 → wX_init_153 post 0 0 0 0 0 0 0 (m + 1) (nI k) (fun _ => 0) (fun _ => 0) (fun _ => 0) (fun _ => 0) (fun _ => 0) (fun _ => 0) (fun _ => 0) (ar_f (oa_7 k)) (fun _ => 0) (fun _ => 0) (fun _ => 0) (fun _ => 0) (fun _ => 0) (fun _ => 0) (fun _ => 0) (fun _ => 0) (fun _ => 0) (fun _ => 0) := by
  intro m
  induction m with
  | zero =>
    intro k e
    have ek : k = 16 := by omega
    subst ek
    rw [wX_init_153]
    exact pk_le 16 16 (fun _ => K) (fun w => absurd w (by omega))
  | succ m ih =>
    intro k e
    have b7 : vp_nar .byte 7 = 7 := oa_vb (n := 7) (by omega)
    rw [wX_init_153]
    dsimp only
    rw [xr_c (n := k) (by omega), b7, oa_7s]
    exact pk_le 16 k (fun w => absurd w (by omega)) (fun _ => ⟨xr_i (by omega), nm_e (nm_r (nI_1 k) (ih (k + 1) (by omega)))⟩)
theorem yo_i104 {post : SY → Prop} (K : post (0, 0, fun _ => 0, fun _ => 0, fun _ => 0, fun _ => 0, fun _ => 0, fun _ => 0, fun _ => 0, ar_f (oa_7 16), fun _ => 0, fun _ => 0, fun _ => 0, fun _ => 0)) :
    ∀ m k, k + m = 16 → wY_init_104 post 0 0 (m + 1) (nI k) (fun _ => 0) (fun _ => 0) (fun _ => 0) (fun _ => 0) (fun _ => 0) (fun _ => 0) (fun _ => 0) (ar_f (oa_7 k)) (fun _ => 0) (fun _ => 0) (fun _ => 0) (fun _ => 0) := by
  intro m
  induction m with
  | zero =>
    intro k e
    have ek : k = 16 := by omega
    subst ek
    rw [wY_init_104]
    exact pk_le 16 16 (fun _ => K) (fun w => absurd w (by omega))
  | succ m ih =>
    intro k e
    rw [wY_init_104]
    dsimp only
    rw [xr_c (n := k) (by omega), oa_7s]
    exact pk_le 16 k (fun w => absurd w (by omega)) (fun _ => ⟨xr_i (by omega), nm_e (nm_r (nI_1 k) (ih (k + 1) (by omega)))⟩)
theorem oa_70 : (fun _ => 0 : Nat → Int32) = ar_f (oa_7 0) := by
  funext j
  show (0 : Int32) = nI (oa_7 0 j)
  unfold oa_7
  rw [if_neg (by omega)]; rfl
end
section
/-! the questions: each side's answer against the spec -/
def oq_x (P : Nat → Prop) (r : Int32) : Prop := ((∃ t, P t) ∧ r = 1) ∨ ((∀ t, ¬ P t) ∧ r = 0)
def oq_m (P : Nat → Prop) (r : Int32) : Prop := (∃ t, P t ∧ (∀ t', P t' → t ≤ t') ∧ r = nI t) ∨ ((∀ t, ¬ P t) ∧ r = -4)
theorem oq_xu {P : Nat → Prop} {r r' : Int32} (h : oq_x P r) (h' : oq_x P r') : r' = r := by
  rcases h with ⟨⟨t, a⟩, e⟩ | ⟨a, e⟩ <;> rcases h' with ⟨⟨t', a'⟩, e'⟩ | ⟨a', e'⟩
  · rw [e, e']
  · exact absurd a (a' t)
  · exact absurd a' (a t')
  · rw [e, e']
theorem oq_mu {P : Nat → Prop} {r r' : Int32} (h : oq_m P r) (h' : oq_m P r') : r' = r := by
  rcases h with ⟨t, a, b, e⟩ | ⟨a, e⟩ <;> rcases h' with ⟨t', a', b', e'⟩ | ⟨a', e'⟩
  · have := b t' a'
    have := b' t a
    rw [e, e', show t = t' by omega]
  · exact absurd a (a' t)
  · exact absurd a' (a t')
  · rw [e, e']
theorem oq_L {P : Nat → Prop} {N v : Int} (hN : 20 < N) (hP : ∀ t, P t → t ≤ 20) (h : sp_L P N v) : (N ≤ v → ∀ t, ¬ P t) ∧ (¬ N ≤ v → ∃ t : Nat, P t ∧ (∀ t', P t' → t ≤ t') ∧ v = t) := by
  refine ⟨fun a t p => ?_, fun a => ?_⟩
  · have := h.1 t p
    have := hP t p
    omega
  · rcases h.2 with e | ⟨t, p, e⟩
    · omega
    · exact ⟨t, p, fun t' p' => by have := h.1 t' p'; omega, e⟩
theorem oq_S20 {c : Cf_t} (ok : cf_ok c) {q : Nat} : ∀ t, sp_S c q t → t ≤ 20 := fun t h => by
  obtain ⟨x, y, r⟩ := h
  exact (sp_R_r ok r).2.2.2
noncomputable def oq_pc (c : Cf_t) : Nat → Nat
  | 0 => 0
  | k + 1 => oq_pc c k + bf_if (∃ t, sp_S c k t) 1 0
noncomputable def oq_ls (c : Cf_t) (p : Nat) : Nat → Int32
  | 0 => 0
  | k + 1 => bf_if (∃ t, sp_S c k t) (oq_ls c p k ||| ((1 : Int32) <<< (nI (sp_loc k p) &&& 31))) (oq_ls c p k)
theorem oq_pc1 {c : Cf_t} {k : Nat} (h : ∃ t, sp_S c k t) : oq_pc c (k + 1) = oq_pc c k + 1 := by
  show oq_pc c k + bf_if (∃ t, sp_S c k t) 1 0 = _
  rw [bf_ift h]
theorem oq_pc0 {c : Cf_t} {k : Nat} (h : ∀ t, ¬ sp_S c k t) : oq_pc c (k + 1) = oq_pc c k := by
  show oq_pc c k + bf_if (∃ t, sp_S c k t) 1 0 = _
  rw [bf_iff (fun w => w.elim h)]; rfl
theorem oq_ls1 {c : Cf_t} {p k : Nat} (h : ∃ t, sp_S c k t) : oq_ls c p (k + 1) = oq_ls c p k ||| ((1 : Int32) <<< (nI (sp_loc k p) &&& 31)) := by
  show bf_if (∃ t, sp_S c k t) _ _ = _
  rw [bf_ift h]
theorem oq_ls0 {c : Cf_t} {p k : Nat} (h : ∀ t, ¬ sp_S c k t) : oq_ls c p (k + 1) = oq_ls c p k := by
  show bf_if (∃ t, sp_S c k t) _ _ = _
  rw [bf_iff (fun w => w.elim h)]
/-- X ends with answer r, all found -/
def xq_P (c : Cf_t) (post : Int32 → SX → Prop) (r : Int32) : Prop := ∀ (zs cr em ap wt : Int32) (so fm xl xh zp zb az tm qu : Nat → Int32), sp_X c so fm xl xh → post r (nI (cf_n c), 1, zs, cr, em, ap, wt, ar_f (cf_pr c), ar_f (cf_fr c), ar_f (cf_to c), ar_f (cf_rs c), ar_f (cf_sg c), ar_f (cf_le c), ar_f (cf_gr c), ar_f (cf_bd c), ar_f (cf_hu c), so, fm, xl, xh, zp, zb, az, tm, qu)
def yq_P (c : Cf_t) (post : Int32 → SY → Prop) (r : Int32) : Prop := ∀ (my : Int32) (ti me us : Nat → Int32), post r (nI (cf_n c), my, ar_f (cf_pr c), ar_f (cf_fr c), ar_f (cf_to c), ar_f (cf_rs c), ar_f (cf_sg c), ar_f (cf_le c), ar_f (cf_gr c), ar_f (cf_bd c), ar_f (cf_hu c), ti, me, us)
section
variable {c : Cf_t} {kn zs cr em ap wt : Int32} {so fm xl xh zp zb az tm qu : Nat → Int32}
variable {post : Int32 → SX → Prop}
theorem xq_reached (ok : cf_ok c) (hk : kn = 0 ∨ (kn = 1 ∧ sp_X c so fm xl xh)) {v1 : Int32} (K0 : ¬ oa_v v1 16 → post (-1) (nI (cf_n c), kn, zs, cr, em, ap, wt, ar_f (cf_pr c), ar_f (cf_fr c), ar_f (cf_to c), ar_f (cf_rs c), ar_f (cf_sg c), ar_f (cf_le c), ar_f (cf_gr c), ar_f (cf_bd c), ar_f (cf_hu c), so, fm, xl, xh, zp, zb, az, tm, qu)) (K : ∀ q, q < 16 → v1 = nI q → ∀ r, oq_x (sp_S c q) r → xq_P c post r) : wpX_reached post (nI (cf_n c), kn, zs, cr, em, ap, wt, ar_f (cf_pr c), ar_f (cf_fr c), ar_f (cf_to c), ar_f (cf_rs c), ar_f (cf_sg c), ar_f (cf_le c), ar_f (cf_gr c), ar_f (cf_bd c), ar_f (cf_hu c), so, fm, xl, xh, zp, zb, az, tm, qu) v1 := by
  unfold wpX_reached
  have one : ¬ (1 : Int32) = 0 := by decide
  refine xo_badPair (fun o => br_t rfl ?_) (fun o => br_f one (K0 o))
  obtain ⟨q, hq, rfl⟩ := o
  refine xs_find ok hk (fun zs1 cr1 em1 ap1 wt1 so1 fm1 xl1 xh1 zp1 zb1 az1 tm1 qu1 X => ⟨xr_i hq, ?_⟩)
  rw [xr_c (n := q) (by omega)]
  have L := oq_L (by omega) (oq_S20 ok) (X.1 q hq)
  rw [Int32.le_iff_toInt_le, xr_1000]
  refine br_c (fun z => K q hq rfl _ (Or.inr ⟨L.1 z, rfl⟩) _ _ _ _ _ _ _ _ _ _ _ _ _ _ X) (fun z => K q hq rfl _ (Or.inl ⟨?_, rfl⟩) _ _ _ _ _ _ _ _ _ _ _ _ _ _ X)
  obtain ⟨t, a, _⟩ := L.2 z
  exact ⟨t, a⟩
theorem xq_earliest (ok : cf_ok c) (hk : kn = 0 ∨ (kn = 1 ∧ sp_X c so fm xl xh)) {v1 : Int32} (K0 : ¬ oa_v v1 16 → post (-1) (nI (cf_n c), kn, zs, cr, em, ap, wt, ar_f (cf_pr c), ar_f (cf_fr c), ar_f (cf_to c), ar_f (cf_rs c), ar_f (cf_sg c), ar_f (cf_le c), ar_f (cf_gr c), ar_f (cf_bd c), ar_f (cf_hu c), so, fm, xl, xh, zp, zb, az, tm, qu)) (K : ∀ q, q < 16 → v1 = nI q → ∀ r, oq_m (sp_S c q) r → xq_P c post r) : wpX_earliest post (nI (cf_n c), kn, zs, cr, em, ap, wt, ar_f (cf_pr c), ar_f (cf_fr c), ar_f (cf_to c), ar_f (cf_rs c), ar_f (cf_sg c), ar_f (cf_le c), ar_f (cf_gr c), ar_f (cf_bd c), ar_f (cf_hu c), so, fm, xl, xh, zp, zb, az, tm, qu) v1 := by
  unfold wpX_earliest
  have one : ¬ (1 : Int32) = 0 := by decide
  refine xo_badPair (fun o => br_t rfl ?_) (fun o => br_f one (K0 o))
  obtain ⟨q, hq, rfl⟩ := o
  refine xs_find ok hk (fun zs1 cr1 em1 ap1 wt1 so1 fm1 xl1 xh1 zp1 zb1 az1 tm1 qu1 X => ⟨xr_i hq, ?_⟩)
  rw [xr_c (n := q) (by omega)]
  have L := oq_L (by omega) (oq_S20 ok) (X.1 q hq)
  rw [Int32.le_iff_toInt_le, xr_1000]
  refine br_c (fun z => K q hq rfl _ (Or.inr ⟨L.1 z, rfl⟩) _ _ _ _ _ _ _ _ _ _ _ _ _ _ X) (fun z => ⟨xr_i hq, K q hq rfl _ (Or.inl ?_) _ _ _ _ _ _ _ _ _ _ _ _ _ _ X⟩)
  obtain ⟨t, a, b, e⟩ := L.2 z
  have := oq_S20 ok t a
  exact ⟨t, a, b, Int32.toInt_inj.mp (by rw [e, nI_toInt (by omega)])⟩
theorem xq_usable (ok : cf_ok c) (hk : kn = 0 ∨ (kn = 1 ∧ sp_X c so fm xl xh)) {v1 : Int32} (K0 : ¬ oa_v v1 (cf_n c) → post (-4) (nI (cf_n c), kn, zs, cr, em, ap, wt, ar_f (cf_pr c), ar_f (cf_fr c), ar_f (cf_to c), ar_f (cf_rs c), ar_f (cf_sg c), ar_f (cf_le c), ar_f (cf_gr c), ar_f (cf_bd c), ar_f (cf_hu c), so, fm, xl, xh, zp, zb, az, tm, qu)) (K : ∀ e, e < cf_n c → v1 = nI e → ∀ r, oq_x (sp_U c e) r → xq_P c post r) : wpX_usable post (nI (cf_n c), kn, zs, cr, em, ap, wt, ar_f (cf_pr c), ar_f (cf_fr c), ar_f (cf_to c), ar_f (cf_rs c), ar_f (cf_sg c), ar_f (cf_le c), ar_f (cf_gr c), ar_f (cf_bd c), ar_f (cf_hu c), so, fm, xl, xh, zp, zb, az, tm, qu) v1 := by
  have n := cf_on ok
  unfold wpX_usable
  have one : ¬ (1 : Int32) = 0 := by decide
  refine xo_noEdge ok (fun o => br_t rfl ?_) (fun o => br_f one (K0 o))
  obtain ⟨e, he, rfl⟩ := o
  refine xs_find ok hk (fun zs1 cr1 em1 ap1 wt1 so1 fm1 xl1 xh1 zp1 zb1 az1 tm1 qu1 X => ⟨xr_i (by omega), ?_⟩)
  rw [xr_c (n := e) (by omega)]
  have L := oq_L (by omega) (fun t => sp_U_r ok) (X.2.1 e (by omega))
  rw [Int32.le_iff_toInt_le, xr_1000]
  refine br_c (fun z => K e he rfl _ (Or.inr ⟨L.1 z, rfl⟩) _ _ _ _ _ _ _ _ _ _ _ _ _ _ X) (fun z => K e he rfl _ (Or.inl ⟨?_, rfl⟩) _ _ _ _ _ _ _ _ _ _ _ _ _ _ X)
  obtain ⟨t, a, _⟩ := L.2 z
  exact ⟨t, a⟩
theorem xq_firstUse (ok : cf_ok c) (hk : kn = 0 ∨ (kn = 1 ∧ sp_X c so fm xl xh)) {v1 : Int32} (K0 : ¬ oa_v v1 (cf_n c) → post (-4) (nI (cf_n c), kn, zs, cr, em, ap, wt, ar_f (cf_pr c), ar_f (cf_fr c), ar_f (cf_to c), ar_f (cf_rs c), ar_f (cf_sg c), ar_f (cf_le c), ar_f (cf_gr c), ar_f (cf_bd c), ar_f (cf_hu c), so, fm, xl, xh, zp, zb, az, tm, qu)) (K : ∀ e, e < cf_n c → v1 = nI e → ∀ r, oq_m (sp_U c e) r → xq_P c post r) : wpX_firstUse post (nI (cf_n c), kn, zs, cr, em, ap, wt, ar_f (cf_pr c), ar_f (cf_fr c), ar_f (cf_to c), ar_f (cf_rs c), ar_f (cf_sg c), ar_f (cf_le c), ar_f (cf_gr c), ar_f (cf_bd c), ar_f (cf_hu c), so, fm, xl, xh, zp, zb, az, tm, qu) v1 := by
  have n := cf_on ok
  unfold wpX_firstUse
  have one : ¬ (1 : Int32) = 0 := by decide
  refine xo_noEdge ok (fun o => br_t rfl ?_) (fun o => br_f one (K0 o))
  obtain ⟨e, he, rfl⟩ := o
  refine xs_find ok hk (fun zs1 cr1 em1 ap1 wt1 so1 fm1 xl1 xh1 zp1 zb1 az1 tm1 qu1 X => ⟨xr_i (by omega), ?_⟩)
  rw [xr_c (n := e) (by omega)]
  have L := oq_L (by omega) (fun t => sp_U_r ok) (X.2.1 e (by omega))
  rw [Int32.le_iff_toInt_le, xr_1000]
  refine br_c (fun z => K e he rfl _ (Or.inr ⟨L.1 z, rfl⟩) _ _ _ _ _ _ _ _ _ _ _ _ _ _ X) (fun z => ⟨xr_i (by omega), K e he rfl _ (Or.inl ?_) _ _ _ _ _ _ _ _ _ _ _ _ _ _ X⟩)
  obtain ⟨t, a, b, ee⟩ := L.2 z
  have := sp_U_r ok a
  exact ⟨t, a, b, Int32.toInt_inj.mp (by rw [ee, nI_toInt (by omega)])⟩
theorem xq_atMost (ok : cf_ok c) (hk : kn = 0 ∨ (kn = 1 ∧ sp_X c so fm xl xh)) {v1 v2 v3 : Int32} (K0 : ¬ (oa_v v1 16 ∧ oa_v v2 2 ∧ oa_v v3 7) → post (-1) (nI (cf_n c), kn, zs, cr, em, ap, wt, ar_f (cf_pr c), ar_f (cf_fr c), ar_f (cf_to c), ar_f (cf_rs c), ar_f (cf_sg c), ar_f (cf_le c), ar_f (cf_gr c), ar_f (cf_bd c), ar_f (cf_hu c), so, fm, xl, xh, zp, zb, az, tm, qu))
    (K : ∀ q k v, q < 16 → k < 2 → v < 7 → v1 = nI q → v2 = nI k → v3 = nI v → ∀ r, oq_x (fun w => w ≤ v ∧ sp_V c q k w) r → xq_P c post r) : wpX_atMost post (nI (cf_n c), kn, zs, cr, em, ap, wt, ar_f (cf_pr c), ar_f (cf_fr c), ar_f (cf_to c), ar_f (cf_rs c), ar_f (cf_sg c), ar_f (cf_le c), ar_f (cf_gr c), ar_f (cf_bd c), ar_f (cf_hu c), so, fm, xl, xh, zp, zb, az, tm, qu) v1 v2 v3 := by
  unfold wpX_atMost
  have one : ¬ (1 : Int32) = 0 := by decide
  refine xo_badPair (fun o1 => br_t rfl ?_) (fun o1 => br_f one (K0 (fun w => o1 w.1)))
  refine xo_badValue (fun o2 o3 => br_t rfl ?_) (fun o2 => br_f one (K0 (fun w => o2 w.2)))
  obtain ⟨q, hq, rfl⟩ := o1
  obtain ⟨k, hk2, rfl⟩ := o2
  obtain ⟨v, hv, rfl⟩ := o3
  refine xs_find ok hk (fun zs1 cr1 em1 ap1 wt1 so1 fm1 xl1 xh1 zp1 zb1 az1 tm1 qu1 X => ?_)
  dsimp only
  rw [xr_2, xr_c (n := 2 * q + k) (by omega)]
  obtain ⟨l1, l2⟩ := (X.2.2 q k hq hk2).1
  have ev : (nI v).toInt = (v : Int) := nI_toInt (by omega)
  rw [Int32.lt_iff_toInt_lt, ev]
  refine ⟨xr_i (by omega), br_c (fun z => K q k v hq hk2 hv rfl rfl rfl _ (Or.inr ⟨fun w a => ?_, rfl⟩) _ _ _ _ _ _ _ _ _ _ _ _ _ _ X) (fun z => K q k v hq hk2 hv rfl rfl rfl _ (Or.inl ⟨?_, rfl⟩) _ _ _ _ _ _ _ _ _ _ _ _ _ _ X)⟩
  · have := l1 w a.2
    have := a.1
    omega
  · rcases l2 with l2 | ⟨t, a, e⟩
    · omega
    · exact ⟨t, by omega, a⟩
theorem xq_atLeast (ok : cf_ok c) (hk : kn = 0 ∨ (kn = 1 ∧ sp_X c so fm xl xh)) {v1 v2 v3 : Int32} (K0 : ¬ (oa_v v1 16 ∧ oa_v v2 2 ∧ oa_v v3 7) → post (-1) (nI (cf_n c), kn, zs, cr, em, ap, wt, ar_f (cf_pr c), ar_f (cf_fr c), ar_f (cf_to c), ar_f (cf_rs c), ar_f (cf_sg c), ar_f (cf_le c), ar_f (cf_gr c), ar_f (cf_bd c), ar_f (cf_hu c), so, fm, xl, xh, zp, zb, az, tm, qu))
    (K : ∀ q k v, q < 16 → k < 2 → v < 7 → v1 = nI q → v2 = nI k → v3 = nI v → ∀ r, oq_x (fun w => v ≤ w ∧ sp_V c q k w) r → xq_P c post r) : wpX_atLeast post (nI (cf_n c), kn, zs, cr, em, ap, wt, ar_f (cf_pr c), ar_f (cf_fr c), ar_f (cf_to c), ar_f (cf_rs c), ar_f (cf_sg c), ar_f (cf_le c), ar_f (cf_gr c), ar_f (cf_bd c), ar_f (cf_hu c), so, fm, xl, xh, zp, zb, az, tm, qu) v1 v2 v3 := by
  unfold wpX_atLeast
  have one : ¬ (1 : Int32) = 0 := by decide
  refine xo_badPair (fun o1 => br_t rfl ?_) (fun o1 => br_f one (K0 (fun w => o1 w.1)))
  refine xo_badValue (fun o2 o3 => br_t rfl ?_) (fun o2 => br_f one (K0 (fun w => o2 w.2)))
  obtain ⟨q, hq, rfl⟩ := o1
  obtain ⟨k, hk2, rfl⟩ := o2
  obtain ⟨v, hv, rfl⟩ := o3
  refine xs_find ok hk (fun zs1 cr1 em1 ap1 wt1 so1 fm1 xl1 xh1 zp1 zb1 az1 tm1 qu1 X => ?_)
  dsimp only
  rw [xr_2, xr_c (n := 2 * q + k) (by omega)]
  obtain ⟨l1, l2⟩ := (X.2.2 q k hq hk2).2
  have ev : (nI v).toInt = (v : Int) := nI_toInt (by omega)
  rw [Int32.lt_iff_toInt_lt, ev]
  refine ⟨xr_i (by omega), br_c (fun z => K q k v hq hk2 hv rfl rfl rfl _ (Or.inr ⟨fun w a => ?_, rfl⟩) _ _ _ _ _ _ _ _ _ _ _ _ _ _ X) (fun z => K q k v hq hk2 hv rfl rfl rfl _ (Or.inl ⟨?_, rfl⟩) _ _ _ _ _ _ _ _ _ _ _ _ _ _ X)⟩
  · have := l1 w a.2
    have := a.1
    omega
  · rcases l2 with l2 | ⟨t, a, e⟩
    · omega
    · exact ⟨t, by omega, a⟩
theorem xq_p8 (ok : cf_ok c) (X : sp_X c so fm xl xh) (K : post (nI (oq_pc c 16)) (nI (cf_n c), kn, zs, cr, em, ap, wt, ar_f (cf_pr c), ar_f (cf_fr c), ar_f (cf_to c), ar_f (cf_rs c), ar_f (cf_sg c), ar_f (cf_le c), ar_f (cf_gr c), ar_f (cf_bd c), ar_f (cf_hu c), so, fm, xl, xh, zp, zb, az, tm, qu)) : ∀ m k, k + m = 16 → wX_pairs_8 post (nI (cf_n c)) kn zs cr em ap wt (ar_f (cf_pr c)) (ar_f (cf_fr c)) (ar_f (cf_to c)) (ar_f (cf_rs c)) (ar_f (cf_sg c)) (ar_f (cf_le c)) (ar_f (cf_gr c)) (ar_f (cf_bd c)) (ar_f (cf_hu c)) so fm xl xh zp zb az tm qu (m + 1) (nI (oq_pc c k)) (nI k) := by
  intro m
  induction m with
  | zero =>
    intro k e
    have ek : k = 16 := by omega
    subst ek
    rw [wX_pairs_8]
    exact pk_le 16 16 (fun _ => K) (fun w => absurd w (by omega))
  | succ m ih =>
    intro k e
    rw [wX_pairs_8]
    dsimp only
    rw [xr_c (n := k) (by omega)]
    have L := oq_L (by omega) (oq_S20 ok) (X.1 k (by omega))
    have g := ih (k + 1) (by omega)
    refine pk_le 16 k (fun w => absurd w (by omega)) (fun _ => ⟨xr_i (by omega), ?_⟩)
    rw [Int32.le_iff_toInt_le, xr_1000]
    refine br_c (fun z => nm_r (nI_1 k) ?_) (fun z => nm_r (nI_1 _) (nm_r (nI_1 k) ?_))
    · rw [oq_pc0 (L.1 z)] at g; exact g
    · obtain ⟨t, a, _⟩ := L.2 z
      rw [oq_pc1 ⟨t, a⟩] at g; exact g
theorem xq_pairs (ok : cf_ok c) (hk : kn = 0 ∨ (kn = 1 ∧ sp_X c so fm xl xh)) (K : xq_P c post (nI (oq_pc c 16))) : wpX_pairs post (nI (cf_n c), kn, zs, cr, em, ap, wt, ar_f (cf_pr c), ar_f (cf_fr c), ar_f (cf_to c), ar_f (cf_rs c), ar_f (cf_sg c), ar_f (cf_le c), ar_f (cf_gr c), ar_f (cf_bd c), ar_f (cf_hu c), so, fm, xl, xh, zp, zb, az, tm, qu) := by
  unfold wpX_pairs
  refine xs_find ok hk (fun zs1 cr1 em1 ap1 wt1 so1 fm1 xl1 xh1 zp1 zb1 az1 tm1 qu1 X => ⟨17, ?_⟩)
  exact xq_p8 ok X (K _ _ _ _ _ _ _ _ _ _ _ _ _ _ X) 16 0 (by omega)
theorem xq_l19 (ok : cf_ok c) (X : sp_X c so fm xl xh) {p : Nat} (hp : p < 2) (K : post (oq_ls c p 16) (nI (cf_n c), kn, zs, cr, em, ap, wt, ar_f (cf_pr c), ar_f (cf_fr c), ar_f (cf_to c), ar_f (cf_rs c), ar_f (cf_sg c), ar_f (cf_le c), ar_f (cf_gr c), ar_f (cf_bd c), ar_f (cf_hu c), so, fm, xl, xh, zp, zb, az, tm, qu)) : ∀ m k, k + m = 16 → wX_locations_19 post (nI p) (nI (cf_n c)) kn zs cr em ap wt (ar_f (cf_pr c)) (ar_f (cf_fr c)) (ar_f (cf_to c)) (ar_f (cf_rs c)) (ar_f (cf_sg c)) (ar_f (cf_le c)) (ar_f (cf_gr c)) (ar_f (cf_bd c)) (ar_f (cf_hu c)) so fm xl xh zp zb az tm qu (m + 1) (oq_ls c p k) (nI k) := by
  intro m
  induction m with
  | zero =>
    intro k e
    have ek : k = 16 := by omega
    subst ek
    rw [wX_locations_19]
    exact pk_le 16 16 (fun _ => K) (fun w => absurd w (by omega))
  | succ m ih =>
    intro k e
    rw [wX_locations_19]
    dsimp only
    rw [xr_c (n := k) (by omega)]
    have L := oq_L (by omega) (oq_S20 ok) (X.1 k (by omega))
    have g := ih (k + 1) (by omega)
    refine pk_le 16 k (fun w => absurd w (by omega)) (fun _ => xr_loc (by omega) hp ⟨xr_i (by omega), ?_⟩)
    rw [Int32.le_iff_toInt_le, xr_1000]
    refine br_c (fun z => nm_r (nI_1 k) ?_) (fun z => nm_e (nm_r (nI_1 k) ?_))
    · rw [oq_ls0 (L.1 z)] at g; exact g
    · obtain ⟨t, a, _⟩ := L.2 z
      rw [oq_ls1 ⟨t, a⟩] at g; exact g
theorem xq_locations (ok : cf_ok c) (hk : kn = 0 ∨ (kn = 1 ∧ sp_X c so fm xl xh)) {v1 : Int32} (K0 : ¬ oa_v v1 2 → post (-1) (nI (cf_n c), kn, zs, cr, em, ap, wt, ar_f (cf_pr c), ar_f (cf_fr c), ar_f (cf_to c), ar_f (cf_rs c), ar_f (cf_sg c), ar_f (cf_le c), ar_f (cf_gr c), ar_f (cf_bd c), ar_f (cf_hu c), so, fm, xl, xh, zp, zb, az, tm, qu)) (K : ∀ p, p < 2 → v1 = nI p → xq_P c post (oq_ls c p 16)) : wpX_locations post (nI (cf_n c), kn, zs, cr, em, ap, wt, ar_f (cf_pr c), ar_f (cf_fr c), ar_f (cf_to c), ar_f (cf_rs c), ar_f (cf_sg c), ar_f (cf_le c), ar_f (cf_gr c), ar_f (cf_bd c), ar_f (cf_hu c), so, fm, xl, xh, zp, zb, az, tm, qu) v1 := by
  unfold wpX_locations
  refine oa_rng 1 (fun o => ?_) (fun o => K0 o)
  obtain ⟨p, hp, rfl⟩ := o
  refine xs_find ok hk (fun zs1 cr1 em1 ap1 wt1 so1 fm1 xl1 xh1 zp1 zb1 az1 tm1 qu1 X => ⟨17, ?_⟩)
  exact xq_l19 ok X hp (K p hp rfl _ _ _ _ _ _ _ _ _ _ _ _ _ _ X) 16 0 (by omega)
end
end
section
/-! the questions: Y -/
section
variable {c : Cf_t} {my : Int32} {ti me us : Nat → Int32}
variable {t u : Nat → Nat}
theorem ya_l8 {post : Int32 → Prop} {q : Nat} (hq : q < 16) (H : ∀ s, s < 1024 → ti s = nI (t s) ∧ t s ≤ 21)
    (K : ∀ r, r ≤ 21 → (∀ s, 64 * q ≤ s → s < 64 * q + 64 → r ≤ t s) → (r = 21 ∨ ∃ s, 64 * q ≤ s ∧ s < 64 * q + 64 ∧ r = t s) → post (nI r)) :
    ∀ m s r, s + m = 64 * q + 64 → 64 * q ≤ s → r ≤ 21 → (∀ s', 64 * q ≤ s' → s' < s → r ≤ t s') → (r = 21 ∨ ∃ s', 64 * q ≤ s' ∧ s' < s ∧ r = t s') → wY_leastTime_8 post (nI q) (nI (cf_n c)) my (ar_f (cf_pr c)) (ar_f (cf_fr c)) (ar_f (cf_to c)) (ar_f (cf_rs c)) (ar_f (cf_sg c)) (ar_f (cf_le c)) (ar_f (cf_gr c)) (ar_f (cf_bd c)) (ar_f (cf_hu c)) ti me us (m + 1) (nI r) (nI s) := by
  have e64 : (64 : Int32) * nI q + 64 = nI (64 * q + 64) := yr_64z q 64
  intro m
  induction m with
  | zero =>
    intro s r es hs hr h1 h2
    rw [wY_leastTime_8]
    dsimp only
    rw [e64]
    have e1 : s = 64 * q + 64 := by omega
    subst e1
    exact pk_le (64 * q + 64) (64 * q + 64) (fun _ => K r hr h1 h2) (fun w => absurd w (by omega))
  | succ m ih =>
    intro s r es hs hr h1 h2
    obtain ⟨a, b⟩ := H s (by omega)
    rw [wY_leastTime_8]
    dsimp only
    rw [e64, xr_c (n := s) (by omega), a]
    refine pk_le (64 * q + 64) s (fun w => absurd w (by omega)) (fun _ => ⟨xr_i (by omega), pk_le r (t s) (fun z => nm_r (nI_1 s) (ih (s + 1) r (by omega) (by omega) hr (fun s' h3 h4 => ?_) ?_)) (fun z => ⟨xr_i (by omega), nm_e (nm_r (nI_1 s) (ih (s + 1) (t s) (by omega) (by omega) b (fun s' h3 h4 => ?_) (Or.inr ⟨s, hs, by omega, rfl⟩)))⟩)⟩)
    · by_cases w : s' = s
      · rw [w]; exact z
      · exact h1 s' h3 (by omega)
    · rcases h2 with h2 | ⟨s', h3, h4, h5⟩
      · exact Or.inl h2
      · exact Or.inr ⟨s', h3, by omega, h5⟩
    · by_cases w : s' = s
      · rw [w]; exact Nat.le_refl _
      · have := h1 s' h3 (by omega)
        omega
theorem ya_least (ok : cf_ok c) {post : Int32 → Prop} {q : Nat} (hq : q < 16) (Y : sp_Y c t u) (H : ∀ s, s < 1024 → ti s = nI (t s) ∧ t s ≤ 21) (K : ∀ r : Nat, r ≤ 21 → sp_L (sp_S c q) 21 r → post (nI r)) : wpY_leastTime post (nI (cf_n c), my, ar_f (cf_pr c), ar_f (cf_fr c), ar_f (cf_to c), ar_f (cf_rs c), ar_f (cf_sg c), ar_f (cf_le c), ar_f (cf_gr c), ar_f (cf_bd c), ar_f (cf_hu c), ti, me, us) (nI q) := by
  unfold wpY_leastTime
  refine nm_r (pk_mul 64 q) ⟨65, ya_l8 hq H (fun r hr h1 h2 => K r hr ⟨fun t' p => ?_, ?_⟩) 64 (64 * q) 21 (by omega) (by omega) (by omega) (fun s' h3 h4 => by omega) (Or.inl rfl)⟩
  · obtain ⟨x, y, p⟩ := p
    obtain ⟨_, hx, hy, _⟩ := sp_R_r ok p
    obtain ⟨d1, d2, d3⟩ := bf_cell_d (q := q) hx hy
    have hs := bf_cell_r hq hx hy
    have l := (Y.1 _ hs).1 t' (by unfold sp_Rs; rw [d1, d2, d3]; exact p)
    have := h1 (bf_cell q x y) (by omega) (by omega)
    omega
  · rcases h2 with h2 | ⟨s, h3, h4, h5⟩
    · exact Or.inl (by omega)
    · rcases (Y.1 s (by omega)).2 with e | ⟨t', p, e⟩
      · exact Or.inl (by omega)
      · have es : s / 64 = q := by omega
        unfold sp_Rs at p
        rw [es] at p
        exact Or.inr ⟨t', ⟨_, _, p⟩, by omega⟩
variable {post : Int32 → SY → Prop}
theorem yq_reached (ok : cf_ok c) {v1 : Int32} (K0 : ¬ oa_v v1 16 → post (-1) (nI (cf_n c), my, ar_f (cf_pr c), ar_f (cf_fr c), ar_f (cf_to c), ar_f (cf_rs c), ar_f (cf_sg c), ar_f (cf_le c), ar_f (cf_gr c), ar_f (cf_bd c), ar_f (cf_hu c), ti, me, us)) (K : ∀ q, q < 16 → v1 = nI q → ∀ r, oq_x (sp_S c q) r → yq_P c post r) : wpY_reached post (nI (cf_n c), my, ar_f (cf_pr c), ar_f (cf_fr c), ar_f (cf_to c), ar_f (cf_rs c), ar_f (cf_sg c), ar_f (cf_le c), ar_f (cf_gr c), ar_f (cf_bd c), ar_f (cf_hu c), ti, me, us) v1 := by
  unfold wpY_reached
  have one : ¬ (1 : Int32) = 0 := by decide
  refine yo_badPair (fun o => br_t rfl ?_) (fun o => br_f one (K0 o))
  obtain ⟨q, hq, rfl⟩ := o
  refine ys_work ok (fun my1 ti1 me1 us1 t u Y H1 H2 => ya_least ok hq Y H1 (fun r hr L => ?_))
  have L := oq_L (by omega) (oq_S20 ok) L
  refine pk_le 21 r (fun z => K q hq rfl _ (Or.inr ⟨L.1 (by omega), rfl⟩) _ _ _ _) (fun z => K q hq rfl _ (Or.inl ⟨?_, rfl⟩) _ _ _ _)
  obtain ⟨t', a, _⟩ := L.2 (by omega)
  exact ⟨t', a⟩
theorem yq_earliest (ok : cf_ok c) {v1 : Int32} (K0 : ¬ oa_v v1 16 → post (-1) (nI (cf_n c), my, ar_f (cf_pr c), ar_f (cf_fr c), ar_f (cf_to c), ar_f (cf_rs c), ar_f (cf_sg c), ar_f (cf_le c), ar_f (cf_gr c), ar_f (cf_bd c), ar_f (cf_hu c), ti, me, us)) (K : ∀ q, q < 16 → v1 = nI q → ∀ r, oq_m (sp_S c q) r → yq_P c post r) : wpY_earliest post (nI (cf_n c), my, ar_f (cf_pr c), ar_f (cf_fr c), ar_f (cf_to c), ar_f (cf_rs c), ar_f (cf_sg c), ar_f (cf_le c), ar_f (cf_gr c), ar_f (cf_bd c), ar_f (cf_hu c), ti, me, us) v1 := by
  unfold wpY_earliest
  have one : ¬ (1 : Int32) = 0 := by decide
  refine yo_badPair (fun o => br_t rfl ?_) (fun o => br_f one (K0 o))
  obtain ⟨q, hq, rfl⟩ := o
  refine ys_work ok (fun my1 ti1 me1 us1 t u Y H1 H2 => ya_least ok hq Y H1 (fun r hr L => ?_))
  have L := oq_L (by omega) (oq_S20 ok) L
  refine pk_le 21 r (fun z => K q hq rfl _ (Or.inr ⟨L.1 (by omega), rfl⟩) _ _ _ _) (fun z => K q hq rfl _ (Or.inl ?_) _ _ _ _)
  obtain ⟨t', a, b, e⟩ := L.2 (by omega)
  exact ⟨t', a, b, by rw [show r = t' by omega]⟩
theorem yq_usable (ok : cf_ok c) {v1 : Int32} (K0 : ¬ oa_v v1 (cf_n c) → post (-4) (nI (cf_n c), my, ar_f (cf_pr c), ar_f (cf_fr c), ar_f (cf_to c), ar_f (cf_rs c), ar_f (cf_sg c), ar_f (cf_le c), ar_f (cf_gr c), ar_f (cf_bd c), ar_f (cf_hu c), ti, me, us)) (K : ∀ e, e < cf_n c → v1 = nI e → ∀ r, oq_x (sp_U c e) r → yq_P c post r) : wpY_usable post (nI (cf_n c), my, ar_f (cf_pr c), ar_f (cf_fr c), ar_f (cf_to c), ar_f (cf_rs c), ar_f (cf_sg c), ar_f (cf_le c), ar_f (cf_gr c), ar_f (cf_bd c), ar_f (cf_hu c), ti, me, us) v1 := by
  have n := cf_on ok
  unfold wpY_usable
  have one : ¬ (1 : Int32) = 0 := by decide
  refine yo_isEdge ok (fun o => br_f one ?_) (fun o => br_t rfl (K0 o))
  obtain ⟨e, he, rfl⟩ := o
  refine ys_work ok (fun my1 ti1 me1 us1 t u Y H1 H2 => ?_)
  obtain ⟨a, b⟩ := H2 e (by omega)
  dsimp only
  rw [xr_c (n := e) (by omega), a]
  have L := oq_L (by omega) (fun t => sp_U_r ok) (Y.2 e (by omega))
  refine ⟨xr_i (by omega), pk_le 21 (u e) (fun z => K e he rfl _ (Or.inr ⟨L.1 (by omega), rfl⟩) _ _ _ _) (fun z => K e he rfl _ (Or.inl ⟨?_, rfl⟩) _ _ _ _)⟩
  obtain ⟨t', a, _⟩ := L.2 (by omega)
  exact ⟨t', a⟩
theorem yq_firstUse (ok : cf_ok c) {v1 : Int32} (K0 : ¬ oa_v v1 (cf_n c) → post (-4) (nI (cf_n c), my, ar_f (cf_pr c), ar_f (cf_fr c), ar_f (cf_to c), ar_f (cf_rs c), ar_f (cf_sg c), ar_f (cf_le c), ar_f (cf_gr c), ar_f (cf_bd c), ar_f (cf_hu c), ti, me, us)) (K : ∀ e, e < cf_n c → v1 = nI e → ∀ r, oq_m (sp_U c e) r → yq_P c post r) : wpY_firstUse post (nI (cf_n c), my, ar_f (cf_pr c), ar_f (cf_fr c), ar_f (cf_to c), ar_f (cf_rs c), ar_f (cf_sg c), ar_f (cf_le c), ar_f (cf_gr c), ar_f (cf_bd c), ar_f (cf_hu c), ti, me, us) v1 := by
  have n := cf_on ok
  unfold wpY_firstUse
  have one : ¬ (1 : Int32) = 0 := by decide
  refine yo_isEdge ok (fun o => br_f one ?_) (fun o => br_t rfl (K0 o))
  obtain ⟨e, he, rfl⟩ := o
  refine ys_work ok (fun my1 ti1 me1 us1 t u Y H1 H2 => ?_)
  obtain ⟨a, b⟩ := H2 e (by omega)
  dsimp only
  rw [xr_c (n := e) (by omega), a]
  have L := oq_L (by omega) (fun t => sp_U_r ok) (Y.2 e (by omega))
  refine ⟨xr_i (by omega), pk_le 21 (u e) (fun z => K e he rfl _ (Or.inr ⟨L.1 (by omega), rfl⟩) _ _ _ _) (fun z => ⟨xr_i (by omega), K e he rfl _ (Or.inl ?_) _ _ _ _⟩)⟩
  obtain ⟨t', a', b', e'⟩ := L.2 (by omega)
  exact ⟨t', a', b', by rw [show u e = t' by omega]⟩
/-- which values come about at a pair: by the times -/
theorem ya_V (ok : cf_ok c) {q k : Nat} (hq : q < 16) (Y : sp_Y c t u) (H : ∀ s, s < 1024 → ti s = nI (t s) ∧ t s ≤ 21) (w : Nat) : sp_V c q k w ↔ ∃ s, 64 * q ≤ s ∧ s < 64 * q + 64 ∧ t s < 21 ∧ w = sp_cv k (s / 8 % 8) (s % 8) := by
  constructor
  · intro ⟨x, y, t', r, e⟩
    obtain ⟨_, hx, hy, ht⟩ := sp_R_r ok r
    obtain ⟨d1, d2, d3⟩ := bf_cell_d (q := q) hx hy
    have hs := bf_cell_r hq hx hy
    have l := (Y.1 _ hs).1 t' (by unfold sp_Rs; rw [d1, d2, d3]; exact r)
    exact ⟨bf_cell q x y, by omega, by omega, by omega, by rw [d2, d3]; exact e⟩
  · intro ⟨s, h1, h2, h3, e⟩
    rcases (Y.1 s (by omega)).2 with e' | ⟨t', p, e'⟩
    · omega
    · have es : s / 64 = q := by omega
      unfold sp_Rs at p
      rw [es] at p
      exact ⟨_, _, _, p, e⟩
theorem yq_m39 {q k v : Nat} (hq : q < 16) (hk : k < 2) (hv : v < 7) (H : ∀ s, s < 1024 → ti s = nI (t s) ∧ t s ≤ 21)
    (K1 : ∀ s, 64 * q ≤ s → s < 64 * q + 64 → t s < 21 → sp_cv k (s / 8 % 8) (s % 8) ≤ v → post 1 (nI (cf_n c), my, ar_f (cf_pr c), ar_f (cf_fr c), ar_f (cf_to c), ar_f (cf_rs c), ar_f (cf_sg c), ar_f (cf_le c), ar_f (cf_gr c), ar_f (cf_bd c), ar_f (cf_hu c), ti, me, us)) (K0 : (∀ s, 64 * q ≤ s → s < 64 * q + 64 → t s < 21 → ¬ sp_cv k (s / 8 % 8) (s % 8) ≤ v) → post 0 (nI (cf_n c), my, ar_f (cf_pr c), ar_f (cf_fr c), ar_f (cf_to c), ar_f (cf_rs c), ar_f (cf_sg c), ar_f (cf_le c), ar_f (cf_gr c), ar_f (cf_bd c), ar_f (cf_hu c), ti, me, us)) :
    ∀ m s, s + m = 64 * q + 64 → 64 * q ≤ s → (∀ s', 64 * q ≤ s' → s' < s → t s' < 21 → ¬ sp_cv k (s' / 8 % 8) (s' % 8) ≤ v) → wY_atMost_39 post (nI q) (nI k) (nI v) (nI (cf_n c)) my (ar_f (cf_pr c)) (ar_f (cf_fr c)) (ar_f (cf_to c)) (ar_f (cf_rs c)) (ar_f (cf_sg c)) (ar_f (cf_le c)) (ar_f (cf_gr c)) (ar_f (cf_bd c)) (ar_f (cf_hu c)) ti me us (m + 1) (nI s) := by
  have e64 : (64 : Int32) * nI q + 64 = nI (64 * q + 64) := yr_64z q 64
  intro m
  induction m with
  | zero =>
    intro s es hs h
    rw [wY_atMost_39]
    dsimp only
    rw [e64]
    have e1 : s = 64 * q + 64 := by omega
    subst e1
    exact pk_le (64 * q + 64) (64 * q + 64) (fun _ => K0 h) (fun w => absurd w (by omega))
  | succ m ih =>
    intro s es hs h
    obtain ⟨a, b⟩ := H s (by omega)
    have r3 : sp_cv k (s / 8 % 8) (s % 8) < 8 := by unfold sp_cv; split <;> omega
    rw [wY_atMost_39]
    dsimp only
    rw [e64, xr_c (n := s) (by omega), a]
    have go : (t s < 21 → ¬ sp_cv k (s / 8 % 8) (s % 8) ≤ v) → wY_atMost_39 post (nI q) (nI k) (nI v) (nI (cf_n c)) my (ar_f (cf_pr c)) (ar_f (cf_fr c)) (ar_f (cf_to c)) (ar_f (cf_rs c)) (ar_f (cf_sg c)) (ar_f (cf_le c)) (ar_f (cf_gr c)) (ar_f (cf_bd c)) (ar_f (cf_hu c)) ti me us (m + 1) (nI (s + 1)) := fun no => ih (s + 1) (by omega) (by omega) (fun s' h3 h4 h5 => by
      by_cases w : s' = s
      · subst w; exact no h5
      · exact h s' h3 (by omega) h5)
    refine pk_le (64 * q + 64) s (fun w => absurd w (by omega)) (fun _ => ⟨xr_i (by omega), pk_le 21 (t s) (fun z => nm_r (nI_1 s) (go (fun w => by omega))) (fun z => yr_value (by omega) hk ?_)⟩)
    exact pk_lt v (sp_cv k (s / 8 % 8) (s % 8)) (fun x => nm_r (nI_1 s) (go (fun _ => by omega))) (fun x => K1 s hs (by omega) z x)
theorem yq_l39 {q k v : Nat} (hq : q < 16) (hk : k < 2) (hv : v < 7) (H : ∀ s, s < 1024 → ti s = nI (t s) ∧ t s ≤ 21)
    (K1 : ∀ s, 64 * q ≤ s → s < 64 * q + 64 → t s < 21 → v ≤ sp_cv k (s / 8 % 8) (s % 8) → post 1 (nI (cf_n c), my, ar_f (cf_pr c), ar_f (cf_fr c), ar_f (cf_to c), ar_f (cf_rs c), ar_f (cf_sg c), ar_f (cf_le c), ar_f (cf_gr c), ar_f (cf_bd c), ar_f (cf_hu c), ti, me, us)) (K0 : (∀ s, 64 * q ≤ s → s < 64 * q + 64 → t s < 21 → ¬ v ≤ sp_cv k (s / 8 % 8) (s % 8)) → post 0 (nI (cf_n c), my, ar_f (cf_pr c), ar_f (cf_fr c), ar_f (cf_to c), ar_f (cf_rs c), ar_f (cf_sg c), ar_f (cf_le c), ar_f (cf_gr c), ar_f (cf_bd c), ar_f (cf_hu c), ti, me, us)) :
    ∀ m s, s + m = 64 * q + 64 → 64 * q ≤ s → (∀ s', 64 * q ≤ s' → s' < s → t s' < 21 → ¬ v ≤ sp_cv k (s' / 8 % 8) (s' % 8)) → wY_atLeast_39 post (nI q) (nI k) (nI v) (nI (cf_n c)) my (ar_f (cf_pr c)) (ar_f (cf_fr c)) (ar_f (cf_to c)) (ar_f (cf_rs c)) (ar_f (cf_sg c)) (ar_f (cf_le c)) (ar_f (cf_gr c)) (ar_f (cf_bd c)) (ar_f (cf_hu c)) ti me us (m + 1) (nI s) := by
  have e64 : (64 : Int32) * nI q + 64 = nI (64 * q + 64) := yr_64z q 64
  intro m
  induction m with
  | zero =>
    intro s es hs h
    rw [wY_atLeast_39]
    dsimp only
    rw [e64]
    have e1 : s = 64 * q + 64 := by omega
    subst e1
    exact pk_le (64 * q + 64) (64 * q + 64) (fun _ => K0 h) (fun w => absurd w (by omega))
  | succ m ih =>
    intro s es hs h
    obtain ⟨a, b⟩ := H s (by omega)
    have r3 : sp_cv k (s / 8 % 8) (s % 8) < 8 := by unfold sp_cv; split <;> omega
    rw [wY_atLeast_39]
    dsimp only
    rw [e64, xr_c (n := s) (by omega), a]
    have go : (t s < 21 → ¬ v ≤ sp_cv k (s / 8 % 8) (s % 8)) → wY_atLeast_39 post (nI q) (nI k) (nI v) (nI (cf_n c)) my (ar_f (cf_pr c)) (ar_f (cf_fr c)) (ar_f (cf_to c)) (ar_f (cf_rs c)) (ar_f (cf_sg c)) (ar_f (cf_le c)) (ar_f (cf_gr c)) (ar_f (cf_bd c)) (ar_f (cf_hu c)) ti me us (m + 1) (nI (s + 1)) := fun no => ih (s + 1) (by omega) (by omega) (fun s' h3 h4 h5 => by
      by_cases w : s' = s
      · subst w; exact no h5
      · exact h s' h3 (by omega) h5)
    refine pk_le (64 * q + 64) s (fun w => absurd w (by omega)) (fun _ => ⟨xr_i (by omega), pk_le 21 (t s) (fun z => nm_r (nI_1 s) (go (fun w => by omega))) (fun z => yr_value (by omega) hk ?_)⟩)
    exact pk_lt (sp_cv k (s / 8 % 8) (s % 8)) v (fun x => nm_r (nI_1 s) (go (fun _ => by omega))) (fun x => K1 s hs (by omega) z x)
theorem yq_atMost (ok : cf_ok c) {v1 v2 v3 : Int32} (K0 : ¬ (oa_v v1 16 ∧ oa_v v2 2 ∧ oa_v v3 7) → post (-1) (nI (cf_n c), my, ar_f (cf_pr c), ar_f (cf_fr c), ar_f (cf_to c), ar_f (cf_rs c), ar_f (cf_sg c), ar_f (cf_le c), ar_f (cf_gr c), ar_f (cf_bd c), ar_f (cf_hu c), ti, me, us))
    (K : ∀ q k v, q < 16 → k < 2 → v < 7 → v1 = nI q → v2 = nI k → v3 = nI v → ∀ r, oq_x (fun w => w ≤ v ∧ sp_V c q k w) r → yq_P c post r) : wpY_atMost post (nI (cf_n c), my, ar_f (cf_pr c), ar_f (cf_fr c), ar_f (cf_to c), ar_f (cf_rs c), ar_f (cf_sg c), ar_f (cf_le c), ar_f (cf_gr c), ar_f (cf_bd c), ar_f (cf_hu c), ti, me, us) v1 v2 v3 := by
  unfold wpY_atMost
  have one : ¬ (1 : Int32) = 0 := by decide
  refine yo_badPair (fun o1 => br_t rfl ?_) (fun o1 => br_f one (K0 (fun w => o1 w.1)))
  refine oa_rng2 1 (fun o2 => oa_rng 6 (fun o3 => ?_) (fun o3 => K0 (fun w => o3 w.2.2))) (fun o2 => K0 (fun w => o2 w.2.1))
  obtain ⟨q, hq, rfl⟩ := o1
  obtain ⟨k, hk, rfl⟩ := o2
  obtain ⟨v, hv, rfl⟩ := o3
  refine ys_work ok (fun my1 ti1 me1 us1 t u Y H1 H2 => nm_r (pk_mul 64 q) ⟨65, ?_⟩)
  have V := fun w => ya_V (ti := ti1) ok (k := k) hq Y H1 w
  refine yq_m39 hq hk hv H1 (fun s h1 h2 h3 h4 => K q k v hq hk hv rfl rfl rfl _ (Or.inl ⟨⟨_, h4, (V _).mpr ⟨s, h1, h2, h3, rfl⟩⟩, rfl⟩) _ _ _ _) (fun h => K q k v hq hk hv rfl rfl rfl _ (Or.inr ⟨fun w a => ?_, rfl⟩) _ _ _ _) 64 (64 * q) (by omega) (by omega) (fun s' h3 h4 => by omega)
  obtain ⟨s, h1, h2, h3, e⟩ := (V w).mp a.2
  exact h s h1 h2 h3 (by rw [← e]; exact a.1)
theorem yq_atLeast (ok : cf_ok c) {v1 v2 v3 : Int32} (K0 : ¬ (oa_v v1 16 ∧ oa_v v2 2 ∧ oa_v v3 7) → post (-1) (nI (cf_n c), my, ar_f (cf_pr c), ar_f (cf_fr c), ar_f (cf_to c), ar_f (cf_rs c), ar_f (cf_sg c), ar_f (cf_le c), ar_f (cf_gr c), ar_f (cf_bd c), ar_f (cf_hu c), ti, me, us))
    (K : ∀ q k v, q < 16 → k < 2 → v < 7 → v1 = nI q → v2 = nI k → v3 = nI v → ∀ r, oq_x (fun w => v ≤ w ∧ sp_V c q k w) r → yq_P c post r) : wpY_atLeast post (nI (cf_n c), my, ar_f (cf_pr c), ar_f (cf_fr c), ar_f (cf_to c), ar_f (cf_rs c), ar_f (cf_sg c), ar_f (cf_le c), ar_f (cf_gr c), ar_f (cf_bd c), ar_f (cf_hu c), ti, me, us) v1 v2 v3 := by
  unfold wpY_atLeast
  have one : ¬ (1 : Int32) = 0 := by decide
  refine yo_badPair (fun o1 => br_t rfl ?_) (fun o1 => br_f one (K0 (fun w => o1 w.1)))
  refine oa_rng2 1 (fun o2 => oa_rng 6 (fun o3 => ?_) (fun o3 => K0 (fun w => o3 w.2.2))) (fun o2 => K0 (fun w => o2 w.2.1))
  obtain ⟨q, hq, rfl⟩ := o1
  obtain ⟨k, hk, rfl⟩ := o2
  obtain ⟨v, hv, rfl⟩ := o3
  refine ys_work ok (fun my1 ti1 me1 us1 t u Y H1 H2 => nm_r (pk_mul 64 q) ⟨65, ?_⟩)
  have V := fun w => ya_V (ti := ti1) ok (k := k) hq Y H1 w
  refine yq_l39 hq hk hv H1 (fun s h1 h2 h3 h4 => K q k v hq hk hv rfl rfl rfl _ (Or.inl ⟨⟨_, h4, (V _).mpr ⟨s, h1, h2, h3, rfl⟩⟩, rfl⟩) _ _ _ _) (fun h => K q k v hq hk hv rfl rfl rfl _ (Or.inr ⟨fun w a => ?_, rfl⟩) _ _ _ _) 64 (64 * q) (by omega) (by omega) (fun s' h3 h4 => by omega)
  obtain ⟨s, h1, h2, h3, e⟩ := (V w).mp a.2
  exact h s h1 h2 h3 (by rw [← e]; exact a.1)
theorem yq_p8 (ok : cf_ok c) (Y : sp_Y c t u) (H : ∀ s, s < 1024 → ti s = nI (t s) ∧ t s ≤ 21) (K : post (nI (oq_pc c 16)) (nI (cf_n c), my, ar_f (cf_pr c), ar_f (cf_fr c), ar_f (cf_to c), ar_f (cf_rs c), ar_f (cf_sg c), ar_f (cf_le c), ar_f (cf_gr c), ar_f (cf_bd c), ar_f (cf_hu c), ti, me, us)) : ∀ m k, k + m = 16 → wY_pairs_8 post (nI (cf_n c)) my (ar_f (cf_pr c)) (ar_f (cf_fr c)) (ar_f (cf_to c)) (ar_f (cf_rs c)) (ar_f (cf_sg c)) (ar_f (cf_le c)) (ar_f (cf_gr c)) (ar_f (cf_bd c)) (ar_f (cf_hu c)) ti me us (m + 1) (nI (oq_pc c k)) (nI k) := by
  intro m
  induction m with
  | zero =>
    intro k e
    have ek : k = 16 := by omega
    subst ek
    rw [wY_pairs_8]
    exact pk_le 16 16 (fun _ => K) (fun w => absurd w (by omega))
  | succ m ih =>
    intro k e
    rw [wY_pairs_8]
    have g := ih (k + 1) (by omega)
    refine pk_le 16 k (fun w => absurd w (by omega)) (fun _ => ya_least ok (by omega) Y H (fun r hr L => ?_))
    have L := oq_L (by omega) (oq_S20 ok) L
    refine pk_le 21 r (fun z => nm_r (nI_1 k) ?_) (fun z => nm_r (nI_1 _) (nm_r (nI_1 k) ?_))
    · rw [oq_pc0 (L.1 (by omega))] at g; exact g
    · obtain ⟨t', a, _⟩ := L.2 (by omega)
      rw [oq_pc1 ⟨t', a⟩] at g; exact g
theorem yq_pairs (ok : cf_ok c) (K : yq_P c post (nI (oq_pc c 16))) : wpY_pairs post (nI (cf_n c), my, ar_f (cf_pr c), ar_f (cf_fr c), ar_f (cf_to c), ar_f (cf_rs c), ar_f (cf_sg c), ar_f (cf_le c), ar_f (cf_gr c), ar_f (cf_bd c), ar_f (cf_hu c), ti, me, us) := by
  unfold wpY_pairs
  refine ys_work ok (fun my1 ti1 me1 us1 t u Y H1 H2 => ⟨17, ?_⟩)
  exact yq_p8 ok Y H1 (K _ _ _ _) 16 0 (by omega)
theorem yq_l19 (ok : cf_ok c) (Y : sp_Y c t u) (H : ∀ s, s < 1024 → ti s = nI (t s) ∧ t s ≤ 21) {p : Nat} (hp : p < 2) (K : post (oq_ls c p 16) (nI (cf_n c), my, ar_f (cf_pr c), ar_f (cf_fr c), ar_f (cf_to c), ar_f (cf_rs c), ar_f (cf_sg c), ar_f (cf_le c), ar_f (cf_gr c), ar_f (cf_bd c), ar_f (cf_hu c), ti, me, us)) : ∀ m k, k + m = 16 → wY_locations_19 post (nI p) (nI (cf_n c)) my (ar_f (cf_pr c)) (ar_f (cf_fr c)) (ar_f (cf_to c)) (ar_f (cf_rs c)) (ar_f (cf_sg c)) (ar_f (cf_le c)) (ar_f (cf_gr c)) (ar_f (cf_bd c)) (ar_f (cf_hu c)) ti me us (m + 1) (oq_ls c p k) (nI k) := by
  intro m
  induction m with
  | zero =>
    intro k e
    have ek : k = 16 := by omega
    subst ek
    rw [wY_locations_19]
    exact pk_le 16 16 (fun _ => K) (fun w => absurd w (by omega))
  | succ m ih =>
    intro k e
    rw [wY_locations_19]
    dsimp only
    rw [yr_r4 (by omega), yr_d4 (by omega)]
    have g := ih (k + 1) (by omega)
    refine pk_le 16 k (fun w => absurd w (by omega)) (fun _ => ya_least ok (by omega) Y H (fun r hr L => ?_))
    have L := oq_L (by omega) (oq_S20 ok) L
    refine pk_le 21 r (fun z => nm_r (nI_1 k) ?_) (fun z => ?_)
    · rw [oq_ls0 (L.1 (by omega))] at g; exact g
    · obtain ⟨t', a, _⟩ := L.2 (by omega)
      rw [oq_ls1 ⟨t', a⟩] at g
      refine pk_eq p 0 (fun y => ⟨yr_4, nm_e (nm_r (nI_1 k) ?_)⟩) (fun y => ⟨yr_4, nm_e (nm_r (nI_1 k) ?_)⟩)
      · unfold sp_loc at g
        rw [if_pos y] at g; exact g
      · unfold sp_loc at g
        rw [if_neg y] at g; exact g
theorem yq_locations (ok : cf_ok c) {v1 : Int32} (K0 : ¬ oa_v v1 2 → post (-1) (nI (cf_n c), my, ar_f (cf_pr c), ar_f (cf_fr c), ar_f (cf_to c), ar_f (cf_rs c), ar_f (cf_sg c), ar_f (cf_le c), ar_f (cf_gr c), ar_f (cf_bd c), ar_f (cf_hu c), ti, me, us)) (K : ∀ p, p < 2 → v1 = nI p → yq_P c post (oq_ls c p 16)) : wpY_locations post (nI (cf_n c), my, ar_f (cf_pr c), ar_f (cf_fr c), ar_f (cf_to c), ar_f (cf_rs c), ar_f (cf_sg c), ar_f (cf_le c), ar_f (cf_gr c), ar_f (cf_bd c), ar_f (cf_hu c), ti, me, us) v1 := by
  unfold wpY_locations
  refine oa_rng 1 (fun o => ?_) (fun o => K0 o)
  obtain ⟨p, hp, rfl⟩ := o
  refine ys_work ok (fun my1 ti1 me1 us1 t u Y H1 H2 => ⟨17, ?_⟩)
  exact yq_l19 ok Y H1 hp (K p hp rfl _ _ _ _) 16 0 (by omega)
end
end
section
/-! the relation and what is owed -/
def i_Rel (k : Nat) (u : SX) (v : SY) : Prop :=
  ∃ (c : Cf_t) (kn zs cr em ap wt : Int32) (so fm xl xh zp zb az tm qu : Nat → Int32) (my : Int32) (ti me us : Nat → Int32),
    (u = (nI (cf_n c), kn, zs, cr, em, ap, wt, ar_f (cf_pr c), ar_f (cf_fr c), ar_f (cf_to c), ar_f (cf_rs c), ar_f (cf_sg c), ar_f (cf_le c), ar_f (cf_gr c), ar_f (cf_bd c), ar_f (cf_hu c), so, fm, xl, xh, zp, zb, az, tm, qu) ∧ v = (nI (cf_n c), my, ar_f (cf_pr c), ar_f (cf_fr c), ar_f (cf_to c), ar_f (cf_rs c), ar_f (cf_sg c), ar_f (cf_le c), ar_f (cf_gr c), ar_f (cf_bd c), ar_f (cf_hu c), ti, me, us)) ∧ cf_ok c ∧ (kn = 0 ∨ (kn = 1 ∧ sp_X c so fm xl xh))
theorem re_in {k : Nat} {c : Cf_t} {kn zs cr em ap wt : Int32} {so fm xl xh zp zb az tm qu : Nat → Int32} {my : Int32} {ti me us : Nat → Int32} (ok : cf_ok c) (hk : kn = 0 ∨ (kn = 1 ∧ sp_X c so fm xl xh)) : i_Rel k (nI (cf_n c), kn, zs, cr, em, ap, wt, ar_f (cf_pr c), ar_f (cf_fr c), ar_f (cf_to c), ar_f (cf_rs c), ar_f (cf_sg c), ar_f (cf_le c), ar_f (cf_gr c), ar_f (cf_bd c), ar_f (cf_hu c), so, fm, xl, xh, zp, zb, az, tm, qu) (nI (cf_n c), my, ar_f (cf_pr c), ar_f (cf_fr c), ar_f (cf_to c), ar_f (cf_rs c), ar_f (cf_sg c), ar_f (cf_le c), ar_f (cf_gr c), ar_f (cf_bd c), ar_f (cf_hu c), ti, me, us) :=
  ⟨c, kn, zs, cr, em, ap, wt, so, fm, xl, xh, zp, zb, az, tm, qu, my, ti, me, us, ⟨rfl, rfl⟩, ok, hk⟩
theorem re_el {P : SX → SY → Prop} {k : Nat} {u : SX} {v : SY}
    (h : ∀ (c : Cf_t) (kn zs cr em ap wt : Int32) (so fm xl xh zp zb az tm qu : Nat → Int32) (my : Int32) (ti me us : Nat → Int32), cf_ok c → (kn = 0 ∨ (kn = 1 ∧ sp_X c so fm xl xh)) → P (nI (cf_n c), kn, zs, cr, em, ap, wt, ar_f (cf_pr c), ar_f (cf_fr c), ar_f (cf_to c), ar_f (cf_rs c), ar_f (cf_sg c), ar_f (cf_le c), ar_f (cf_gr c), ar_f (cf_bd c), ar_f (cf_hu c), so, fm, xl, xh, zp, zb, az, tm, qu) (nI (cf_n c), my, ar_f (cf_pr c), ar_f (cf_fr c), ar_f (cf_to c), ar_f (cf_rs c), ar_f (cf_sg c), ar_f (cf_le c), ar_f (cf_gr c), ar_f (cf_bd c), ar_f (cf_hu c), ti, me, us)) (I : i_Rel k u v) : P u v :=
  Exists.elim I fun c I => Exists.elim I fun kn I => Exists.elim I fun zs I => Exists.elim I fun cr I => Exists.elim I fun em I => Exists.elim I fun ap I => Exists.elim I fun wt I =>
  Exists.elim I fun so I => Exists.elim I fun fm I => Exists.elim I fun xl I => Exists.elim I fun xh I => Exists.elim I fun zp I => Exists.elim I fun zb I => Exists.elim I fun az I => Exists.elim I fun tm I => Exists.elim I fun qu I =>
  Exists.elim I fun my I => Exists.elim I fun ti I => Exists.elim I fun me I => Exists.elim I fun us I =>
    Eq.mpr (congr (congrArg P I.1.1) I.1.2) (h c kn zs cr em ap wt so fm xl xh zp zb az tm qu my ti me us I.2.1 I.2.2)
theorem i_up {k : Nat} {u : SX} {v : SY} (h : i_Rel k u v) : i_Rel (k + 5) u v := h
theorem i_vc0 : wpX_init (fun u => wpY_init (fun v => i_Rel 0 u v)) := by
  unfold wpX_init
  have G := xo_i153 (post := fun u => wpY_init (fun v => i_Rel 0 u v)) (by
    unfold wpY_init
    have G := yo_i104 (post := fun v => i_Rel 0 (0, 0, 0, 0, 0, 0, 0, fun _ => 0, fun _ => 0, fun _ => 0, fun _ => 0, fun _ => 0, fun _ => 0, fun _ => 0, ar_f (oa_7 16), fun _ => 0, fun _ => 0, fun _ => 0, fun _ => 0, fun _ => 0, fun _ => 0, fun _ => 0, fun _ => 0, fun _ => 0, fun _ => 0) v)
      (re_in (c := cf_0) (kn := 0) cf_0_ok (Or.inl rfl)) 16 0 (by omega)
    rw [← oa_70] at G
    exact ⟨17, G⟩) 16 0 (by omega)
  rw [← oa_70] at G
  exact ⟨17, G⟩
theorem i_vc_edge {k : Nat} {u : SX} {v : SY} (I : i_Rel k u v) (hk : k + 5 ≤ 2560) (v1 : Int32) (v2 : Int32) (v3 : Int32) (v4 : Int32) : wpX_edge (fun r u' => wpY_edge (fun r' v' => r' = r ∧ i_Rel (k + 5) u' v') v v1 v2 v3 v4) u v1 v2 v3 v4 := by
  refine re_el (P := fun u v => wpX_edge (fun r u' => wpY_edge (fun r' v' => r' = r ∧ i_Rel (k + 5) u' v') v v1 v2 v3 v4) u v1 v2 v3 v4) ?_ I
  intro c kn zs cr em ap wt so fm xl xh zp zb az tm qu my ti me us ok hkn
  by_cases h : oa_E v1 v2 v3 v4
  · obtain ⟨⟨p, hp, rfl⟩, ⟨q, hq, rfl⟩, ⟨r, hr, rfl⟩, ⟨s, hs, rfl⟩⟩ := h
    refine xo_edge1 ok hp hq hr hs (fun e => ?_) (fun ne => ?_)
    · exact yo_edge1 ok hp hq hr hs (fun _ => ⟨rfl, re_in ok hkn⟩) (fun ne => absurd e ne)
    · exact yo_edge1 ok hp hq hr hs (fun e => absurd e ne) (fun _ => ⟨rfl, re_in (cf_e_ok ok ne hp hq hr hs) (Or.inl rfl)⟩)
  · exact xo_edge0 h (yo_edge0 h ⟨rfl, re_in ok hkn⟩)
theorem i_vc_guard {k : Nat} {u : SX} {v : SY} (I : i_Rel k u v) (hk : k + 5 ≤ 2560) (v1 : Int32) (v2 : Int32) (v3 : Int32) (v4 : Int32) : wpX_guard (fun r u' => wpY_guard (fun r' v' => r' = r ∧ i_Rel (k + 5) u' v') v v1 v2 v3 v4) u v1 v2 v3 v4 := by
  refine re_el (P := fun u v => wpX_guard (fun r u' => wpY_guard (fun r' v' => r' = r ∧ i_Rel (k + 5) u' v') v v1 v2 v3 v4) u v1 v2 v3 v4) ?_ I
  intro c kn zs cr em ap wt so fm xl xh zp zb az tm qu my ti me us ok hkn
  refine xo_guard ok (fun o => ?_) (fun o o' => ?_) (fun e k' a b he hk' ha hb e1 e2 e3 e4 => ?_)
  · exact yo_guard ok (fun _ => ⟨rfl, re_in ok hkn⟩) (fun w => absurd w o) (fun e _ _ _ he _ _ _ e1 => absurd ⟨e, he, e1⟩ o)
  · exact yo_guard ok (fun w => absurd o w) (fun _ _ => ⟨rfl, re_in ok hkn⟩) (fun e k' a b he hk' ha hb e1 e2 e3 e4 => absurd ⟨⟨k', hk', e2⟩, ⟨a, ha, e3⟩, ⟨b, hb, e4⟩⟩ o')
  · refine yo_guard ok (fun w => absurd ⟨e, he, e1⟩ w) (fun _ w => absurd ⟨⟨k', hk', e2⟩, ⟨a, ha, e3⟩, ⟨b, hb, e4⟩⟩ w) (fun e' k'' a' b' he' hk'' ha' hb' f1 f2 f3 f4 => ?_)
    have g1 : e' = e := ((nI_eq (by have := cf_on ok; omega) (by have := cf_on ok; omega)).mp (e1.symm.trans f1)).symm
    have g2 : k'' = k' := ((nI_eq (by omega) (by omega)).mp (e2.symm.trans f2)).symm
    have g3 : a' = a := ((nI_eq (by omega) (by omega)).mp (e3.symm.trans f3)).symm
    have g4 : b' = b := ((nI_eq (by omega) (by omega)).mp (e4.symm.trans f4)).symm
    subst g1 g2 g3 g4
    exact ⟨rfl, re_in (cf_g_ok ok ha hb) (Or.inl rfl)⟩
theorem i_vc_drop {k : Nat} {u : SX} {v : SY} (I : i_Rel k u v) (hk : k + 5 ≤ 2560) (v1 : Int32) : wpX_drop (fun r u' => wpY_drop (fun r' v' => r' = r ∧ i_Rel (k + 5) u' v') v v1) u v1 := by
  refine re_el (P := fun u v => wpX_drop (fun r u' => wpY_drop (fun r' v' => r' = r ∧ i_Rel (k + 5) u' v') v v1) u v1) ?_ I
  intro c kn zs cr em ap wt so fm xl xh zp zb az tm qu my ti me us ok hkn
  have n := cf_on ok
  refine xo_drop ok (fun o => ?_) (fun e he e1 => ?_)
  · exact yo_drop ok (fun _ => ⟨rfl, re_in ok hkn⟩) (fun e he e1 => absurd ⟨e, he, e1⟩ o)
  · refine yo_drop ok (fun w => absurd ⟨e, he, e1⟩ w) (fun e' he' f1 => ?_)
    have g1 : e' = e := ((nI_eq (by omega) (by omega)).mp (e1.symm.trans f1)).symm
    subst g1
    exact ⟨rfl, re_in (cf_s_ok ok (by omega)) (Or.inl rfl)⟩
theorem i_vc_bound {k : Nat} {u : SX} {v : SY} (I : i_Rel k u v) (hk : k + 5 ≤ 2560) (v1 : Int32) (v2 : Int32) (v3 : Int32) : wpX_bound (fun r u' => wpY_bound (fun r' v' => r' = r ∧ i_Rel (k + 5) u' v') v v1 v2 v3) u v1 v2 v3 := by
  refine re_el (P := fun u v => wpX_bound (fun r u' => wpY_bound (fun r' v' => r' = r ∧ i_Rel (k + 5) u' v') v v1 v2 v3) u v1 v2 v3) ?_ I
  intro c kn zs cr em ap wt so fm xl xh zp zb az tm qu my ti me us ok hkn
  refine xo_bound (fun o => ?_) (fun l k' a hl hk' ha e1 e2 e3 => ?_)
  · exact yo_bound (fun _ => ⟨rfl, re_in ok hkn⟩) (fun l k' a hl hk' ha e1 e2 e3 => absurd ⟨⟨l, hl, e1⟩, ⟨k', hk', e2⟩, ⟨a, ha, e3⟩⟩ o)
  · refine yo_bound (fun w => absurd ⟨⟨l, hl, e1⟩, ⟨k', hk', e2⟩, ⟨a, ha, e3⟩⟩ w) (fun l' k'' a' hl' hk'' ha' f1 f2 f3 => ?_)
    have g1 : l' = l := ((nI_eq (by omega) (by omega)).mp (e1.symm.trans f1)).symm
    have g2 : k'' = k' := ((nI_eq (by omega) (by omega)).mp (e2.symm.trans f2)).symm
    have g3 : a' = a := ((nI_eq (by omega) (by omega)).mp (e3.symm.trans f3)).symm
    subst g1 g2 g3
    exact ⟨rfl, re_in (cf_b_ok ok ha) (Or.inl rfl)⟩
theorem i_vc_urgent {k : Nat} {u : SX} {v : SY} (I : i_Rel k u v) (hk : k + 5 ≤ 2560) (v1 : Int32) (v2 : Int32) : wpX_urgent (fun r u' => wpY_urgent (fun r' v' => r' = r ∧ i_Rel (k + 5) u' v') v v1 v2) u v1 v2 := by
  refine re_el (P := fun u v => wpX_urgent (fun r u' => wpY_urgent (fun r' v' => r' = r ∧ i_Rel (k + 5) u' v') v v1 v2) u v1 v2) ?_ I
  intro c kn zs cr em ap wt so fm xl xh zp zb az tm qu my ti me us ok hkn
  refine xo_urgent ok (fun o => ?_) (fun l a hl e1 e2 => ?_)
  · exact yo_urgent ok (fun _ => ⟨rfl, re_in ok hkn⟩) (fun l a hl e1 e2 => absurd ⟨l, hl, e1⟩ o)
  · refine yo_urgent ok (fun w => absurd ⟨l, hl, e1⟩ w) (fun l' a' hl' f1 f2 => ?_)
    have g1 : l' = l := ((nI_eq (by omega) (by omega)).mp (e1.symm.trans f1)).symm
    have g2 : a' = a := f2.trans e2.symm
    subst g1 g2
    exact ⟨rfl, re_in (cf_u_ok ok (by rw [e2]; split <;> omega)) (Or.inl rfl)⟩
theorem i_vc_edges {k : Nat} {u : SX} {v : SY} (I : i_Rel k u v) (hk : k + 5 ≤ 2560) : wpX_edges (fun r => wpY_edges (fun r' => r' = r ∧ i_Rel (k + 5) u v) v) u := by
  refine re_el (P := fun u v => wpX_edges (fun r => wpY_edges (fun r' => r' = r ∧ i_Rel (k + 5) u v) v) u) ?_ I
  intro c kn zs cr em ap wt so fm xl xh zp zb az tm qu my ti me us ok hkn
  exact ⟨rfl, re_in ok hkn⟩
theorem i_vc_reached {k : Nat} {u : SX} {v : SY} (I : i_Rel k u v) (hk : k + 5 ≤ 2560) (v1 : Int32) : wpX_reached (fun r u' => wpY_reached (fun r' v' => r' = r ∧ i_Rel (k + 5) u' v') v v1) u v1 := by
  refine re_el (P := fun u v => wpX_reached (fun r u' => wpY_reached (fun r' v' => r' = r ∧ i_Rel (k + 5) u' v') v v1) u v1) ?_ I
  intro c kn zs cr em ap wt so fm xl xh zp zb az tm qu my ti me us ok hkn
  refine xq_reached ok hkn (fun o => ?_) (fun q hq e r A zs' cr' em' ap' wt' so' fm' xl' xh' zp' zb' az' tm' qu' X => ?_)
  · exact yq_reached ok (fun _ => ⟨rfl, re_in ok hkn⟩) (fun q hq e => absurd ⟨q, hq, e⟩ o)
  · refine yq_reached ok (fun w => absurd ⟨q, hq, e⟩ w) (fun q' hq' e' r' A' my' ti' me' us' => ?_)
    have g1 : q' = q := ((nI_eq (by omega) (by omega)).mp (e.symm.trans e')).symm
    subst g1
    exact ⟨oq_xu A A', re_in ok (Or.inr ⟨rfl, X⟩)⟩
theorem i_vc_earliest {k : Nat} {u : SX} {v : SY} (I : i_Rel k u v) (hk : k + 5 ≤ 2560) (v1 : Int32) : wpX_earliest (fun r u' => wpY_earliest (fun r' v' => r' = r ∧ i_Rel (k + 5) u' v') v v1) u v1 := by
  refine re_el (P := fun u v => wpX_earliest (fun r u' => wpY_earliest (fun r' v' => r' = r ∧ i_Rel (k + 5) u' v') v v1) u v1) ?_ I
  intro c kn zs cr em ap wt so fm xl xh zp zb az tm qu my ti me us ok hkn
  refine xq_earliest ok hkn (fun o => ?_) (fun q hq e r A zs' cr' em' ap' wt' so' fm' xl' xh' zp' zb' az' tm' qu' X => ?_)
  · exact yq_earliest ok (fun _ => ⟨rfl, re_in ok hkn⟩) (fun q hq e => absurd ⟨q, hq, e⟩ o)
  · refine yq_earliest ok (fun w => absurd ⟨q, hq, e⟩ w) (fun q' hq' e' r' A' my' ti' me' us' => ?_)
    have g1 : q' = q := ((nI_eq (by omega) (by omega)).mp (e.symm.trans e')).symm
    subst g1
    exact ⟨oq_mu A A', re_in ok (Or.inr ⟨rfl, X⟩)⟩
theorem i_vc_atMost {k : Nat} {u : SX} {v : SY} (I : i_Rel k u v) (hk : k + 5 ≤ 2560) (v1 : Int32) (v2 : Int32) (v3 : Int32) : wpX_atMost (fun r u' => wpY_atMost (fun r' v' => r' = r ∧ i_Rel (k + 5) u' v') v v1 v2 v3) u v1 v2 v3 := by
  refine re_el (P := fun u v => wpX_atMost (fun r u' => wpY_atMost (fun r' v' => r' = r ∧ i_Rel (k + 5) u' v') v v1 v2 v3) u v1 v2 v3) ?_ I
  intro c kn zs cr em ap wt so fm xl xh zp zb az tm qu my ti me us ok hkn
  refine xq_atMost ok hkn (fun o => ?_) (fun q j w hq hj hw e1 e2 e3 r A zs' cr' em' ap' wt' so' fm' xl' xh' zp' zb' az' tm' qu' X => ?_)
  · exact yq_atMost ok (fun _ => ⟨rfl, re_in ok hkn⟩) (fun q j w hq hj hw e1 e2 e3 => absurd ⟨⟨q, hq, e1⟩, ⟨j, hj, e2⟩, ⟨w, hw, e3⟩⟩ o)
  · refine yq_atMost ok (fun z => absurd ⟨⟨q, hq, e1⟩, ⟨j, hj, e2⟩, ⟨w, hw, e3⟩⟩ z) (fun q' j' w' hq' hj' hw' f1 f2 f3 r' A' my' ti' me' us' => ?_)
    have g1 : q' = q := ((nI_eq (by omega) (by omega)).mp (e1.symm.trans f1)).symm
    have g2 : j' = j := ((nI_eq (by omega) (by omega)).mp (e2.symm.trans f2)).symm
    have g3 : w' = w := ((nI_eq (by omega) (by omega)).mp (e3.symm.trans f3)).symm
    subst g1 g2 g3
    exact ⟨oq_xu A A', re_in ok (Or.inr ⟨rfl, X⟩)⟩
theorem i_vc_atLeast {k : Nat} {u : SX} {v : SY} (I : i_Rel k u v) (hk : k + 5 ≤ 2560) (v1 : Int32) (v2 : Int32) (v3 : Int32) : wpX_atLeast (fun r u' => wpY_atLeast (fun r' v' => r' = r ∧ i_Rel (k + 5) u' v') v v1 v2 v3) u v1 v2 v3 := by
  refine re_el (P := fun u v => wpX_atLeast (fun r u' => wpY_atLeast (fun r' v' => r' = r ∧ i_Rel (k + 5) u' v') v v1 v2 v3) u v1 v2 v3) ?_ I
  intro c kn zs cr em ap wt so fm xl xh zp zb az tm qu my ti me us ok hkn
  refine xq_atLeast ok hkn (fun o => ?_) (fun q j w hq hj hw e1 e2 e3 r A zs' cr' em' ap' wt' so' fm' xl' xh' zp' zb' az' tm' qu' X => ?_)
  · exact yq_atLeast ok (fun _ => ⟨rfl, re_in ok hkn⟩) (fun q j w hq hj hw e1 e2 e3 => absurd ⟨⟨q, hq, e1⟩, ⟨j, hj, e2⟩, ⟨w, hw, e3⟩⟩ o)
  · refine yq_atLeast ok (fun z => absurd ⟨⟨q, hq, e1⟩, ⟨j, hj, e2⟩, ⟨w, hw, e3⟩⟩ z) (fun q' j' w' hq' hj' hw' f1 f2 f3 r' A' my' ti' me' us' => ?_)
    have g1 : q' = q := ((nI_eq (by omega) (by omega)).mp (e1.symm.trans f1)).symm
    have g2 : j' = j := ((nI_eq (by omega) (by omega)).mp (e2.symm.trans f2)).symm
    have g3 : w' = w := ((nI_eq (by omega) (by omega)).mp (e3.symm.trans f3)).symm
    subst g1 g2 g3
    exact ⟨oq_xu A A', re_in ok (Or.inr ⟨rfl, X⟩)⟩
theorem i_vc_pairs {k : Nat} {u : SX} {v : SY} (I : i_Rel k u v) (hk : k + 5 ≤ 2560) : wpX_pairs (fun r u' => wpY_pairs (fun r' v' => r' = r ∧ i_Rel (k + 5) u' v') v) u := by
  refine re_el (P := fun u v => wpX_pairs (fun r u' => wpY_pairs (fun r' v' => r' = r ∧ i_Rel (k + 5) u' v') v) u) ?_ I
  intro c kn zs cr em ap wt so fm xl xh zp zb az tm qu my ti me us ok hkn
  exact xq_pairs ok hkn (fun zs' cr' em' ap' wt' so' fm' xl' xh' zp' zb' az' tm' qu' X => yq_pairs ok (fun my' ti' me' us' => ⟨rfl, re_in ok (Or.inr ⟨rfl, X⟩)⟩))
theorem i_vc_locations {k : Nat} {u : SX} {v : SY} (I : i_Rel k u v) (hk : k + 5 ≤ 2560) (v1 : Int32) : wpX_locations (fun r u' => wpY_locations (fun r' v' => r' = r ∧ i_Rel (k + 5) u' v') v v1) u v1 := by
  refine re_el (P := fun u v => wpX_locations (fun r u' => wpY_locations (fun r' v' => r' = r ∧ i_Rel (k + 5) u' v') v v1) u v1) ?_ I
  intro c kn zs cr em ap wt so fm xl xh zp zb az tm qu my ti me us ok hkn
  refine xq_locations ok hkn (fun o => ?_) (fun p hp e zs' cr' em' ap' wt' so' fm' xl' xh' zp' zb' az' tm' qu' X => ?_)
  · exact yq_locations ok (fun _ => ⟨rfl, re_in ok hkn⟩) (fun p hp e => absurd ⟨p, hp, e⟩ o)
  · refine yq_locations ok (fun w => absurd ⟨p, hp, e⟩ w) (fun p' hp' e' my' ti' me' us' => ?_)
    have g1 : p' = p := ((nI_eq (by omega) (by omega)).mp (e.symm.trans e')).symm
    subst g1
    exact ⟨rfl, re_in ok (Or.inr ⟨rfl, X⟩)⟩
theorem i_vc_usable {k : Nat} {u : SX} {v : SY} (I : i_Rel k u v) (hk : k + 5 ≤ 2560) (v1 : Int32) : wpX_usable (fun r u' => wpY_usable (fun r' v' => r' = r ∧ i_Rel (k + 5) u' v') v v1) u v1 := by
  refine re_el (P := fun u v => wpX_usable (fun r u' => wpY_usable (fun r' v' => r' = r ∧ i_Rel (k + 5) u' v') v v1) u v1) ?_ I
  intro c kn zs cr em ap wt so fm xl xh zp zb az tm qu my ti me us ok hkn
  have n := cf_on ok
  refine xq_usable ok hkn (fun o => ?_) (fun q hq e r A zs' cr' em' ap' wt' so' fm' xl' xh' zp' zb' az' tm' qu' X => ?_)
  · exact yq_usable ok (fun _ => ⟨rfl, re_in ok hkn⟩) (fun q hq e => absurd ⟨q, hq, e⟩ o)
  · refine yq_usable ok (fun w => absurd ⟨q, hq, e⟩ w) (fun q' hq' e' r' A' my' ti' me' us' => ?_)
    have g1 : q' = q := ((nI_eq (by omega) (by omega)).mp (e.symm.trans e')).symm
    subst g1
    exact ⟨oq_xu A A', re_in ok (Or.inr ⟨rfl, X⟩)⟩
theorem i_vc_firstUse {k : Nat} {u : SX} {v : SY} (I : i_Rel k u v) (hk : k + 5 ≤ 2560) (v1 : Int32) : wpX_firstUse (fun r u' => wpY_firstUse (fun r' v' => r' = r ∧ i_Rel (k + 5) u' v') v v1) u v1 := by
  refine re_el (P := fun u v => wpX_firstUse (fun r u' => wpY_firstUse (fun r' v' => r' = r ∧ i_Rel (k + 5) u' v') v v1) u v1) ?_ I
  intro c kn zs cr em ap wt so fm xl xh zp zb az tm qu my ti me us ok hkn
  have n := cf_on ok
  refine xq_firstUse ok hkn (fun o => ?_) (fun q hq e r A zs' cr' em' ap' wt' so' fm' xl' xh' zp' zb' az' tm' qu' X => ?_)
  · exact yq_firstUse ok (fun _ => ⟨rfl, re_in ok hkn⟩) (fun q hq e => absurd ⟨q, hq, e⟩ o)
  · refine yq_firstUse ok (fun w => absurd ⟨q, hq, e⟩ w) (fun q' hq' e' r' A' my' ti' me' us' => ?_)
    have g1 : q' = q := ((nI_eq (by omega) (by omega)).mp (e.symm.trans e')).symm
    subst g1
    exact ⟨oq_mu A A', re_in ok (Or.inr ⟨rfl, X⟩)⟩
end
