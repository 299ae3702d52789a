section
/-! pure rows to paste: stores, nI and lN arithmetic, masks, shifts, narrowing, branches by naturals (pk_le, pk_lt, pk_eq), loops (lp1 .. lp16: the measure of the state; rp1 ..: recursion), negatives. Take what you need -/
theorem pk_us {f : Nat → Int32} {k : Nat} {x : Int32} : upd f k x k = x := if_pos rfl
theorem pk_un {f : Nat → Int32} {k j : Nat} {x : Int32} (h : j ≠ k) : upd f k x j = f j := if_neg h
theorem pk_uLs {f : Nat → Int64} {k : Nat} {x : Int64} : vp_updL f k x k = x := if_pos rfl
theorem pk_uLn {f : Nat → Int64} {k j : Nat} {x : Int64} (h : j ≠ k) : vp_updL f k x j = f j := if_neg h
theorem pk_sub {a b : Nat} (h : b ≤ a) : nI a - nI b = nI (a - b) := by
  obtain ⟨c, rfl⟩ : ∃ c, a = c + b := ⟨a - b, by omega⟩
  rw [← nI_add, Int32.add_sub_cancel, Nat.add_sub_cancel]
theorem pk_m1 (n : Nat) : nI (n + 1) + (-1) = nI n := by
  rw [← nI_1, Int32.add_assoc, show (1 : Int32) + (-1) = 0 from rfl, Int32.add_zero]
theorem pk_mul (a b : Nat) : nI a * nI b = nI (a * b) := (Int32.ofNat_mul a b).symm
theorem pk_div {a d : Nat} (ha : a < 2 ^ 31) (h0 : 0 < d) (hd : d < 2 ^ 31) : nI a / nI d = nI (a / d) := by
  apply Int32.toInt_inj.mp
  rw [lg_idiv_nonneg (by rw [nI_toInt ha]; omega) (by rw [nI_toInt hd]; omega), nI_toInt ha, nI_toInt hd, nI_toInt (Nat.lt_of_le_of_lt (Nat.div_le_self a d) ha)]
  first | rfl | exact (Int.natCast_ediv _ _).symm
theorem pk_rem {a d : Nat} (ha : a < 2 ^ 31) (h0 : 0 < d) (hd : d < 2 ^ 31) : nI a - nI a / nI d * nI d = nI (a % d) := by
  rw [pk_div ha h0 hd, pk_mul, pk_sub (Nat.div_mul_le_self a d)]
  exact congrArg nI (by have := Nat.div_add_mod' a d; omega)
theorem pk_sub_toInt {a b : Nat} (ha : a < 2 ^ 30) (hb : b < 2 ^ 30) : (nI a - nI b).toInt = (a : Int) - b := by
  rw [Int32.toInt_sub, nI_toInt (by omega), nI_toInt (by omega)]
  exact Int.bmod_eq_of_le (by omega) (by omega)
theorem pk_sneg {a b : Nat} (hb : b < 2 ^ 30) (h : a < b) : nI a - nI b < 0 := by
  rw [Int32.lt_iff_toInt_lt, pk_sub_toInt (by omega) hb, show (0 : Int32).toInt = 0 from by decide]
  omega
theorem pk_ix (x : Int32) {n : Nat} (hn : n < 2 ^ 31) : x < 0 ∨ nI n ≤ x ∨ ∃ j : Nat, j < n ∧ x = nI j := by
  by_cases h : x < 0
  · exact Or.inl h
  · obtain ⟨j, hj, rfl⟩ := nI_of h
    by_cases h2 : j < n
    · exact Or.inr (Or.inr ⟨j, h2, rfl⟩)
    · exact Or.inr (Or.inl (nI_le (by omega) hj))
theorem pk_le {x y : Int32} {A B : Prop} (a b : Nat) (f : a ≤ b → A) (g : b < a → B) (hx : x = nI a := by rfl) (hy : y = nI b := by rfl) (ha : a < 2 ^ 31 := by omega) (hb : b < 2 ^ 31 := by omega) : (x ≤ y → A) ∧ (¬ x ≤ y → B) := by
  subst hx hy
  rw [nI_leI ha hb]
  exact ⟨f, fun z => g (by omega)⟩
theorem pk_lt {x y : Int32} {A B : Prop} (a b : Nat) (f : a < b → A) (g : b ≤ a → B) (hx : x = nI a := by rfl) (hy : y = nI b := by rfl) (ha : a < 2 ^ 31 := by omega) (hb : b < 2 ^ 31 := by omega) : (x < y → A) ∧ (¬ x < y → B) := by
  subst hx hy
  rw [nI_ltI ha hb]
  exact ⟨f, fun z => g (by omega)⟩
theorem pk_eq {x y : Int32} {A B : Prop} (a b : Nat) (f : a = b → A) (g : a ≠ b → B) (hx : x = nI a := by rfl) (hy : y = nI b := by rfl) (ha : a < 2 ^ 31 := by omega) (hb : b < 2 ^ 31 := by omega) : (x = y → A) ∧ (¬ x = y → B) := by
  subst hx hy
  rw [nI_eq ha hb]
  exact ⟨f, g⟩
theorem pk_in {x : Int32} (n N : Nat) (h : n < N) (hx : x = nI n := by rfl) (hN : N < 2 ^ 31 := by omega) : vp_in x N := by
  subst hx
  exact vp_in_nI h hN
theorem pk_cl {x : Int32} (n : Nat) (hx : x = nI n := by rfl) (h : n < 2 ^ 31 := by omega) : x.toNatClampNeg = n := by
  subst hx
  exact nI_clamp h
theorem pk_tn {n : Nat} (h : n < 2 ^ 32) : (nI n).toBitVec.toNat = n := Nat.mod_eq_of_lt h
theorem pk_and (x : Int32) {m : Int32} (k : Nat) (hm : m.toBitVec.toNat = 2 ^ k - 1) : x &&& m = nI (x.toBitVec.toNat % 2 ^ k) := by
  apply Int32.toBitVec_inj.mp
  apply BitVec.eq_of_toNat_eq
  rw [Int32.toBitVec_and, BitVec.toNat_and, hm, Nat.and_two_pow_sub_one_eq_mod]
  show _ = (BitVec.ofNat 32 _).toNat
  rw [BitVec.toNat_ofNat]
  exact (Nat.mod_eq_of_lt (Nat.lt_of_le_of_lt (Nat.mod_le _ _) x.toBitVec.isLt)).symm
theorem pk_andN {n : Nat} (h : n < 2 ^ 32) {m : Int32} (k : Nat) (hm : m.toBitVec.toNat = 2 ^ k - 1) : nI n &&& m = nI (n % 2 ^ k) := by
  rw [pk_and _ k hm, pk_tn h]
theorem pk_andE (x : Int32) {m : Int32} (k : Nat) (hm : m.toBitVec.toNat = 2 ^ k - 1) : ∃ j : Nat, j < 2 ^ k ∧ x &&& m = nI j := ⟨_, Nat.mod_lt _ (Nat.two_pow_pos k), pk_and x k hm⟩
theorem pk_andIn (x : Int32) {m : Int32} (k : Nat) (hm : m.toBitVec.toNat = 2 ^ k - 1) (hk : k ≤ 30) : vp_in (x &&& m) (2 ^ k) := by
  obtain ⟨j, hj, e⟩ := pk_andE x k hm
  rw [e]
  exact vp_in_nI hj (Nat.lt_of_le_of_lt (Nat.pow_le_pow_right (by decide) hk) (by decide))
theorem pk_shl (a s : Int32) (k : Nat) (hs : (s.toBitVec.smod 32).toNat = k) : (a <<< s).toBitVec.toNat = a.toBitVec.toNat * 2 ^ k % 2 ^ 32 := by
  show (a.toBitVec <<< (s.toBitVec.smod 32).toNat).toNat = _
  rw [hs, BitVec.toNat_shiftLeft, Nat.shiftLeft_eq]
theorem pk_shlN {n : Nat} (s : Int32) (k : Nat) (hs : (s.toBitVec.smod 32).toNat = k) (h : n * 2 ^ k < 2 ^ 32) : nI n <<< s = nI (n * 2 ^ k) := by
  apply Int32.toBitVec_inj.mp
  apply BitVec.eq_of_toNat_eq
  have hn : n < 2 ^ 32 := Nat.lt_of_le_of_lt (Nat.le_mul_of_pos_right n (Nat.two_pow_pos k)) h
  rw [pk_shl _ _ k hs, pk_tn hn, pk_tn h, Nat.mod_eq_of_lt h]
theorem pk_shr (a s : Int32) (k : Nat) (hs : (s.toBitVec.smod 32).toNat = k) : (a >>> s).toInt = a.toInt >>> k := by
  show (a.toBitVec.sshiftRight (s.toBitVec.smod 32).toNat).toInt = _
  rw [hs, BitVec.toInt_sshiftRight]
  rfl
theorem pk_shrN {n : Nat} (h : n < 2 ^ 31) (s : Int32) (k : Nat) (hs : (s.toBitVec.smod 32).toNat = k) : nI n >>> s = nI (n / 2 ^ k) := by
  apply Int32.toInt_inj.mp
  have h2 : n / 2 ^ k ≤ n := Nat.div_le_self _ _
  rw [pk_shr _ _ k hs, nI_toInt h, nI_toInt (by omega), Int.shiftRight_eq_div_pow]
  rfl
theorem pk_ushr (x s : Int32) (k : Nat) (hs : ((s.toUInt32 &&& Int32.toUInt32 31).toBitVec % 32).toNat = k) : (x.toUInt32 >>> (s.toUInt32 &&& Int32.toUInt32 31)).toInt32.toBitVec.toNat = x.toBitVec.toNat / 2 ^ k := by
  have e : (x.toUInt32 >>> (s.toUInt32 &&& Int32.toUInt32 31)).toInt32.toBitVec = x.toBitVec >>> k := by
    rw [← hs]
    exact UInt32.toBitVec_shiftRight _ _
  rw [e, BitVec.toNat_ushiftRight, Nat.shiftRight_eq_div_pow]
theorem pk_ushrN {n : Nat} (hn : n < 2 ^ 32) (s : Int32) (k : Nat) (hs : ((s.toUInt32 &&& Int32.toUInt32 31).toBitVec % 32).toNat = k) : ((nI n).toUInt32 >>> (s.toUInt32 &&& Int32.toUInt32 31)).toInt32 = nI (n / 2 ^ k) := by
  apply Int32.toBitVec_inj.mp
  apply BitVec.eq_of_toNat_eq
  rw [pk_ushr _ s k hs, pk_tn hn, pk_tn (Nat.lt_of_le_of_lt (Nat.div_le_self _ _) hn)]
theorem pk_nb (z : Int32) : narrow .byte (.int z.toInt8.toInt32) = .int z.toInt8.toInt32 := congrArg Value.int (by simp)
theorem pk_ns (z : Int32) : narrow .short (.int z.toInt16.toInt32) = .int z.toInt16.toInt32 := congrArg Value.int (by simp)
theorem pk_fb (r : Int32) : fits .byte (.int r.toInt8.toInt32) = true := by
  have ⟨a, b⟩ := lg_i2b_range r
  have h1 : (-128 : Int32).toInt = -128 := by decide
  have h2 : (127 : Int32).toInt = 127 := by decide
  simp only [fits, Bool.and_eq_true, decide_eq_true_eq, Int32.le_iff_toInt_le, h1, h2]
  omega
theorem pk_fs (r : Int32) : fits .short (.int r.toInt16.toInt32) = true := by
  have ⟨a, b⟩ := lg_i2s_range r
  have h1 : (-32768 : Int32).toInt = -32768 := by decide
  have h2 : (32767 : Int32).toInt = 32767 := by decide
  simp only [fits, Bool.and_eq_true, decide_eq_true_eq, Int32.le_iff_toInt_le, h1, h2]
  omega
theorem pk_charN {q : Nat} (hq : q < 65536) : narrow .char (.int (nI q)) = .int (nI q) ∧ fits .char (.int (nI q)) = true := by
  constructor
  · have e : (nI q).toUInt32.toUInt16.toUInt32.toInt32 = nI q := by
      apply Int32.toBitVec_inj.mp
      apply BitVec.eq_of_toNat_eq
      show (nI q).toUInt32.toUInt16.toUInt32.toNat = q % 2 ^ 32
      rw [UInt16.toNat_toUInt32, UInt32.toNat_toUInt16, show (nI q).toUInt32.toNat = q % 2 ^ 32 from rfl]
      omega
    exact congrArg Value.int e
  · have a : (0 : Int32) ≤ nI q := nI_pos' (by omega)
    have b : nI q ≤ 65535 := nI_le (b := 65535) (by omega) (by decide)
    show (decide ((0 : Int32) ≤ nI q) && decide (nI q ≤ 65535)) = true
    rw [decide_eq_true a, decide_eq_true b]
    rfl
theorem pk_char (x : Int32) : (x.toUInt32 % 65536).toInt32 = nI (x.toBitVec.toNat % 65536) := by
  apply Int32.toBitVec_inj.mp
  apply BitVec.eq_of_toNat_eq
  rw [pk_tn (by omega)]
  show (x.toUInt32 % 65536).toNat = _
  rw [UInt32.toNat_mod]
  rfl
theorem pk_nc (x : Int32) : narrow .char (.int (x.toUInt32 % 65536).toInt32) = .int (x.toUInt32 % 65536).toInt32 := by
  rw [pk_char]
  exact (pk_charN (Nat.mod_lt _ (by decide))).1
theorem pk_fc (x : Int32) : fits .char (.int (x.toUInt32 % 65536).toInt32) = true := by
  rw [pk_char]
  exact (pk_charN (Nat.mod_lt _ (by decide))).2
theorem pk_vb (z : Int32) : vp_nar .byte z.toInt8.toInt32 = z.toInt8.toInt32 := by rw [vp_nar_byte]; simp
theorem pk_vs (z : Int32) : vp_nar .short z.toInt16.toInt32 = z.toInt16.toInt32 := by rw [vp_nar_short]; simp
theorem pk_vc (z : Int32) : vp_nar .char (z.toUInt32 % 65536).toInt32 = (z.toUInt32 % 65536).toInt32 := Value.int.inj (pk_nc z)
theorem pk_lT {n : Nat} (h : n < 2 ^ 63) : (lN n).toInt = (n : Int) := lg_ofNat_toInt h
theorem pk_lLT {a b : Nat} (ha : a < 2 ^ 63) (hb : b < 2 ^ 63) : lN a < lN b ↔ a < b := by
  rw [Int64.lt_iff_toInt_lt, pk_lT ha, pk_lT hb]; omega
theorem pk_lLE {a b : Nat} (ha : a < 2 ^ 63) (hb : b < 2 ^ 63) : lN a ≤ lN b ↔ a ≤ b := by
  rw [Int64.le_iff_toInt_le, pk_lT ha, pk_lT hb]; omega
theorem pk_lEQ {a b : Nat} (ha : a < 2 ^ 63) (hb : b < 2 ^ 63) : lN a = lN b ↔ a = b := by
  rw [← Int64.toInt_inj, pk_lT ha, pk_lT hb]; omega
theorem pk_lOf {x : Int64} (h : ¬ x < 0) : ∃ k : Nat, k < 2 ^ 63 ∧ x = lN k := by
  rw [Int64.lt_iff_toInt_lt] at h
  have h0 : (0 : Int64).toInt = 0 := by decide
  have hx := Int64.toInt_lt x
  refine ⟨x.toInt.toNat, by omega, Int64.toInt_inj.mp ?_⟩
  rw [pk_lT (by omega)]
  omega
theorem pk_lDiv {a b : Nat} (ha : a < 2 ^ 63) (h0 : 0 < b) (hb : b < 2 ^ 63) : lN a / lN b = lN (a / b) := by
  apply Int64.toInt_inj.mp
  rw [lg_ldiv_nonneg (by rw [pk_lT ha]; omega) (by rw [pk_lT hb]; omega), pk_lT ha, pk_lT hb, pk_lT (Nat.lt_of_le_of_lt (Nat.div_le_self a b) ha)]
  rfl
theorem pk_lRem {a b : Nat} (ha : a < 2 ^ 63) (h0 : 0 < b) (hb : b < 2 ^ 63) : lN a - lN a / lN b * lN b = lN (a % b) := by
  rw [pk_lDiv ha h0 hb, lN_mul, lN_sub (Nat.div_mul_le_self a b)]
  exact congrArg lN (by have := Nat.div_add_mod' a b; omega)
theorem pk_loop {σ : Type} (W : Nat → Nat → σ → Prop) (I : Nat → σ → Prop) (e i0 : Nat) (s : σ) (hi : i0 ≤ e) (h0 : I i0 s) (hx : ∀ n s, I e s → W (n + 1) e s)
    (hs : ∀ n i s, i < e → I i s → (∀ s', I (i + 1) s' → W n (i + 1) s') → W (n + 1) i s) : ∃ n, W n i0 s :=
  ⟨e + 1, loop_i W I e hx hs (e + 1) i0 s hi (by omega) h0⟩
theorem pk_loopD {σ : Type} (W : Nat → Nat → σ → Prop) (I : Nat → σ → Prop) (hx : ∀ n s, I 0 s → W (n + 1) 0 s)
    (hs : ∀ n i s, I (i + 1) s → (∀ s', I i s' → W n i s') → W (n + 1) (i + 1) s) : ∀ (e : Nat) (s : σ), I e s → W (e + 1) e s := by
  intro e
  induction e with
  | zero => exact fun s h => hx 0 s h
  | succ e ih => exact fun s h => hs (e + 1) e s h (fun s' h' => ih s' h')
theorem lp1 {A1 : Type} (W : Nat → A1 → Prop) (I : A1 → Prop) (μ : A1 → Nat) (hs : ∀ (n : Nat) (a1 : A1), I a1 → (∀ (b1 : A1), I b1 → μ b1 < μ a1 → W n b1) → W (n + 1) a1) (a1 : A1) (h : I a1) : ∃ n, W n a1 :=
  loop_m (σ := A1) (fun n s => W n s) (fun s => I s) (fun s => μ s) (fun n s hI hk => hs n s hI (fun b1 h9 hm => hk b1 h9 hm)) a1 h
theorem lp2 {A1 A2 : Type} (W : Nat → A1 → A2 → Prop) (I : A1 → A2 → Prop) (μ : A1 → A2 → Nat) (hs : ∀ (n : Nat) (a1 : A1) (a2 : A2), I a1 a2 → (∀ (b1 : A1) (b2 : A2), I b1 b2 → μ b1 b2 < μ a1 a2 → W n b1 b2) → W (n + 1) a1 a2) (a1 : A1) (a2 : A2) (h : I a1 a2) : ∃ n, W n a1 a2 :=
  loop_m (σ := A1 × A2) (fun n s => W n s.1 s.2) (fun s => I s.1 s.2) (fun s => μ s.1 s.2) (fun n s hI hk => hs n s.1 s.2 hI (fun b1 b2 h9 hm => hk (b1, b2) h9 hm)) (a1, a2) h
theorem lp3 {A1 A2 A3 : Type} (W : Nat → A1 → A2 → A3 → Prop) (I : A1 → A2 → A3 → Prop) (μ : A1 → A2 → A3 → Nat) (hs : ∀ (n : Nat) (a1 : A1) (a2 : A2) (a3 : A3), I a1 a2 a3 → (∀ (b1 : A1) (b2 : A2) (b3 : A3), I b1 b2 b3 → μ b1 b2 b3 < μ a1 a2 a3 → W n b1 b2 b3) → W (n + 1) a1 a2 a3) (a1 : A1) (a2 : A2) (a3 : A3) (h : I a1 a2 a3) : ∃ n, W n a1 a2 a3 :=
  loop_m (σ := A1 × A2 × A3) (fun n s => W n s.1 s.2.1 s.2.2) (fun s => I s.1 s.2.1 s.2.2) (fun s => μ s.1 s.2.1 s.2.2) (fun n s hI hk => hs n s.1 s.2.1 s.2.2 hI (fun b1 b2 b3 h9 hm => hk (b1, b2, b3) h9 hm)) (a1, a2, a3) h
theorem lp4 {A1 A2 A3 A4 : Type} (W : Nat → A1 → A2 → A3 → A4 → Prop) (I : A1 → A2 → A3 → A4 → Prop) (μ : A1 → A2 → A3 → A4 → Nat) (hs : ∀ (n : Nat) (a1 : A1) (a2 : A2) (a3 : A3) (a4 : A4), I a1 a2 a3 a4 → (∀ (b1 : A1) (b2 : A2) (b3 : A3) (b4 : A4), I b1 b2 b3 b4 → μ b1 b2 b3 b4 < μ a1 a2 a3 a4 → W n b1 b2 b3 b4) → W (n + 1) a1 a2 a3 a4) (a1 : A1) (a2 : A2) (a3 : A3) (a4 : A4) (h : I a1 a2 a3 a4) : ∃ n, W n a1 a2 a3 a4 :=
  loop_m (σ := A1 × A2 × A3 × A4) (fun n s => W n s.1 s.2.1 s.2.2.1 s.2.2.2) (fun s => I s.1 s.2.1 s.2.2.1 s.2.2.2) (fun s => μ s.1 s.2.1 s.2.2.1 s.2.2.2) (fun n s hI hk => hs n s.1 s.2.1 s.2.2.1 s.2.2.2 hI (fun b1 b2 b3 b4 h9 hm => hk (b1, b2, b3, b4) h9 hm)) (a1, a2, a3, a4) h
theorem lp5 {A1 A2 A3 A4 A5 : Type} (W : Nat → A1 → A2 → A3 → A4 → A5 → Prop) (I : A1 → A2 → A3 → A4 → A5 → Prop) (μ : A1 → A2 → A3 → A4 → A5 → Nat) (hs : ∀ (n : Nat) (a1 : A1) (a2 : A2) (a3 : A3) (a4 : A4) (a5 : A5), I a1 a2 a3 a4 a5 → (∀ (b1 : A1) (b2 : A2) (b3 : A3) (b4 : A4) (b5 : A5), I b1 b2 b3 b4 b5 → μ b1 b2 b3 b4 b5 < μ a1 a2 a3 a4 a5 → W n b1 b2 b3 b4 b5) → W (n + 1) a1 a2 a3 a4 a5) (a1 : A1) (a2 : A2) (a3 : A3) (a4 : A4) (a5 : A5) (h : I a1 a2 a3 a4 a5) : ∃ n, W n a1 a2 a3 a4 a5 :=
  loop_m (σ := A1 × A2 × A3 × A4 × A5) (fun n s => W n s.1 s.2.1 s.2.2.1 s.2.2.2.1 s.2.2.2.2) (fun s => I s.1 s.2.1 s.2.2.1 s.2.2.2.1 s.2.2.2.2) (fun s => μ s.1 s.2.1 s.2.2.1 s.2.2.2.1 s.2.2.2.2) (fun n s hI hk => hs n s.1 s.2.1 s.2.2.1 s.2.2.2.1 s.2.2.2.2 hI (fun b1 b2 b3 b4 b5 h9 hm => hk (b1, b2, b3, b4, b5) h9 hm)) (a1, a2, a3, a4, a5) h
theorem lp6 {A1 A2 A3 A4 A5 A6 : Type} (W : Nat → A1 → A2 → A3 → A4 → A5 → A6 → Prop) (I : A1 → A2 → A3 → A4 → A5 → A6 → Prop) (μ : A1 → A2 → A3 → A4 → A5 → A6 → Nat) (hs : ∀ (n : Nat) (a1 : A1) (a2 : A2) (a3 : A3) (a4 : A4) (a5 : A5) (a6 : A6), I a1 a2 a3 a4 a5 a6 → (∀ (b1 : A1) (b2 : A2) (b3 : A3) (b4 : A4) (b5 : A5) (b6 : A6), I b1 b2 b3 b4 b5 b6 → μ b1 b2 b3 b4 b5 b6 < μ a1 a2 a3 a4 a5 a6 → W n b1 b2 b3 b4 b5 b6) → W (n + 1) a1 a2 a3 a4 a5 a6) (a1 : A1) (a2 : A2) (a3 : A3) (a4 : A4) (a5 : A5) (a6 : A6) (h : I a1 a2 a3 a4 a5 a6) : ∃ n, W n a1 a2 a3 a4 a5 a6 :=
  loop_m (σ := A1 × A2 × A3 × A4 × A5 × A6) (fun n s => W n s.1 s.2.1 s.2.2.1 s.2.2.2.1 s.2.2.2.2.1 s.2.2.2.2.2) (fun s => I s.1 s.2.1 s.2.2.1 s.2.2.2.1 s.2.2.2.2.1 s.2.2.2.2.2) (fun s => μ s.1 s.2.1 s.2.2.1 s.2.2.2.1 s.2.2.2.2.1 s.2.2.2.2.2) (fun n s hI hk => hs n s.1 s.2.1 s.2.2.1 s.2.2.2.1 s.2.2.2.2.1 s.2.2.2.2.2 hI (fun b1 b2 b3 b4 b5 b6 h9 hm => hk (b1, b2, b3, b4, b5, b6) h9 hm)) (a1, a2, a3, a4, a5, a6) h
theorem lp7 {A1 A2 A3 A4 A5 A6 A7 : Type} (W : Nat → A1 → A2 → A3 → A4 → A5 → A6 → A7 → Prop) (I : A1 → A2 → A3 → A4 → A5 → A6 → A7 → Prop) (μ : A1 → A2 → A3 → A4 → A5 → A6 → A7 → Nat) (hs : ∀ (n : Nat) (a1 : A1) (a2 : A2) (a3 : A3) (a4 : A4) (a5 : A5) (a6 : A6) (a7 : A7), I a1 a2 a3 a4 a5 a6 a7 → (∀ (b1 : A1) (b2 : A2) (b3 : A3) (b4 : A4) (b5 : A5) (b6 : A6) (b7 : A7), I b1 b2 b3 b4 b5 b6 b7 → μ b1 b2 b3 b4 b5 b6 b7 < μ a1 a2 a3 a4 a5 a6 a7 → W n b1 b2 b3 b4 b5 b6 b7) → W (n + 1) a1 a2 a3 a4 a5 a6 a7) (a1 : A1) (a2 : A2) (a3 : A3) (a4 : A4) (a5 : A5) (a6 : A6) (a7 : A7) (h : I a1 a2 a3 a4 a5 a6 a7) : ∃ n, W n a1 a2 a3 a4 a5 a6 a7 :=
  loop_m (σ := A1 × A2 × A3 × A4 × A5 × A6 × A7) (fun n s => W n s.1 s.2.1 s.2.2.1 s.2.2.2.1 s.2.2.2.2.1 s.2.2.2.2.2.1 s.2.2.2.2.2.2) (fun s => I s.1 s.2.1 s.2.2.1 s.2.2.2.1 s.2.2.2.2.1 s.2.2.2.2.2.1 s.2.2.2.2.2.2) (fun s => μ s.1 s.2.1 s.2.2.1 s.2.2.2.1 s.2.2.2.2.1 s.2.2.2.2.2.1 s.2.2.2.2.2.2) (fun n s hI hk => hs n s.1 s.2.1 s.2.2.1 s.2.2.2.1 s.2.2.2.2.1 s.2.2.2.2.2.1 s.2.2.2.2.2.2 hI (fun b1 b2 b3 b4 b5 b6 b7 h9 hm => hk (b1, b2, b3, b4, b5, b6, b7) h9 hm)) (a1, a2, a3, a4, a5, a6, a7) h
theorem lp8 {A1 A2 A3 A4 A5 A6 A7 A8 : Type} (W : Nat → A1 → A2 → A3 → A4 → A5 → A6 → A7 → A8 → Prop) (I : A1 → A2 → A3 → A4 → A5 → A6 → A7 → A8 → Prop) (μ : A1 → A2 → A3 → A4 → A5 → A6 → A7 → A8 → Nat) (hs : ∀ (n : Nat) (a1 : A1) (a2 : A2) (a3 : A3) (a4 : A4) (a5 : A5) (a6 : A6) (a7 : A7) (a8 : A8), I a1 a2 a3 a4 a5 a6 a7 a8 → (∀ (b1 : A1) (b2 : A2) (b3 : A3) (b4 : A4) (b5 : A5) (b6 : A6) (b7 : A7) (b8 : A8), I b1 b2 b3 b4 b5 b6 b7 b8 → μ b1 b2 b3 b4 b5 b6 b7 b8 < μ a1 a2 a3 a4 a5 a6 a7 a8 → W n b1 b2 b3 b4 b5 b6 b7 b8) → W (n + 1) a1 a2 a3 a4 a5 a6 a7 a8) (a1 : A1) (a2 : A2) (a3 : A3) (a4 : A4) (a5 : A5) (a6 : A6) (a7 : A7) (a8 : A8) (h : I a1 a2 a3 a4 a5 a6 a7 a8) : ∃ n, W n a1 a2 a3 a4 a5 a6 a7 a8 :=
  loop_m (σ := A1 × A2 × A3 × A4 × A5 × A6 × A7 × A8) (fun n s => W n s.1 s.2.1 s.2.2.1 s.2.2.2.1 s.2.2.2.2.1 s.2.2.2.2.2.1 s.2.2.2.2.2.2.1 s.2.2.2.2.2.2.2) (fun s => I s.1 s.2.1 s.2.2.1 s.2.2.2.1 s.2.2.2.2.1 s.2.2.2.2.2.1 s.2.2.2.2.2.2.1 s.2.2.2.2.2.2.2) (fun s => μ s.1 s.2.1 s.2.2.1 s.2.2.2.1 s.2.2.2.2.1 s.2.2.2.2.2.1 s.2.2.2.2.2.2.1 s.2.2.2.2.2.2.2) (fun n s hI hk => hs n s.1 s.2.1 s.2.2.1 s.2.2.2.1 s.2.2.2.2.1 s.2.2.2.2.2.1 s.2.2.2.2.2.2.1 s.2.2.2.2.2.2.2 hI (fun b1 b2 b3 b4 b5 b6 b7 b8 h9 hm => hk (b1, b2, b3, b4, b5, b6, b7, b8) h9 hm)) (a1, a2, a3, a4, a5, a6, a7, a8) h
theorem lp9 {A1 A2 A3 A4 A5 A6 A7 A8 A9 : Type} (W : Nat → A1 → A2 → A3 → A4 → A5 → A6 → A7 → A8 → A9 → Prop) (I : A1 → A2 → A3 → A4 → A5 → A6 → A7 → A8 → A9 → Prop) (μ : A1 → A2 → A3 → A4 → A5 → A6 → A7 → A8 → A9 → Nat) (hs : ∀ (n : Nat) (a1 : A1) (a2 : A2) (a3 : A3) (a4 : A4) (a5 : A5) (a6 : A6) (a7 : A7) (a8 : A8) (a9 : A9), I a1 a2 a3 a4 a5 a6 a7 a8 a9 → (∀ (b1 : A1) (b2 : A2) (b3 : A3) (b4 : A4) (b5 : A5) (b6 : A6) (b7 : A7) (b8 : A8) (b9 : A9), I b1 b2 b3 b4 b5 b6 b7 b8 b9 → μ b1 b2 b3 b4 b5 b6 b7 b8 b9 < μ a1 a2 a3 a4 a5 a6 a7 a8 a9 → W n b1 b2 b3 b4 b5 b6 b7 b8 b9) → W (n + 1) a1 a2 a3 a4 a5 a6 a7 a8 a9) (a1 : A1) (a2 : A2) (a3 : A3) (a4 : A4) (a5 : A5) (a6 : A6) (a7 : A7) (a8 : A8) (a9 : A9) (h : I a1 a2 a3 a4 a5 a6 a7 a8 a9) : ∃ n, W n a1 a2 a3 a4 a5 a6 a7 a8 a9 :=
  loop_m (σ := A1 × A2 × A3 × A4 × A5 × A6 × A7 × A8 × A9) (fun n s => W n s.1 s.2.1 s.2.2.1 s.2.2.2.1 s.2.2.2.2.1 s.2.2.2.2.2.1 s.2.2.2.2.2.2.1 s.2.2.2.2.2.2.2.1 s.2.2.2.2.2.2.2.2) (fun s => I s.1 s.2.1 s.2.2.1 s.2.2.2.1 s.2.2.2.2.1 s.2.2.2.2.2.1 s.2.2.2.2.2.2.1 s.2.2.2.2.2.2.2.1 s.2.2.2.2.2.2.2.2) (fun s => μ s.1 s.2.1 s.2.2.1 s.2.2.2.1 s.2.2.2.2.1 s.2.2.2.2.2.1 s.2.2.2.2.2.2.1 s.2.2.2.2.2.2.2.1 s.2.2.2.2.2.2.2.2) (fun n s hI hk => hs n s.1 s.2.1 s.2.2.1 s.2.2.2.1 s.2.2.2.2.1 s.2.2.2.2.2.1 s.2.2.2.2.2.2.1 s.2.2.2.2.2.2.2.1 s.2.2.2.2.2.2.2.2 hI (fun b1 b2 b3 b4 b5 b6 b7 b8 b9 h9 hm => hk (b1, b2, b3, b4, b5, b6, b7, b8, b9) h9 hm)) (a1, a2, a3, a4, a5, a6, a7, a8, a9) h
theorem lp10 {A1 A2 A3 A4 A5 A6 A7 A8 A9 A10 : Type} (W : Nat → A1 → A2 → A3 → A4 → A5 → A6 → A7 → A8 → A9 → A10 → Prop) (I : A1 → A2 → A3 → A4 → A5 → A6 → A7 → A8 → A9 → A10 → Prop) (μ : A1 → A2 → A3 → A4 → A5 → A6 → A7 → A8 → A9 → A10 → Nat) (hs : ∀ (n : Nat) (a1 : A1) (a2 : A2) (a3 : A3) (a4 : A4) (a5 : A5) (a6 : A6) (a7 : A7) (a8 : A8) (a9 : A9) (a10 : A10), I a1 a2 a3 a4 a5 a6 a7 a8 a9 a10 → (∀ (b1 : A1) (b2 : A2) (b3 : A3) (b4 : A4) (b5 : A5) (b6 : A6) (b7 : A7) (b8 : A8) (b9 : A9) (b10 : A10), I b1 b2 b3 b4 b5 b6 b7 b8 b9 b10 → μ b1 b2 b3 b4 b5 b6 b7 b8 b9 b10 < μ a1 a2 a3 a4 a5 a6 a7 a8 a9 a10 → W n b1 b2 b3 b4 b5 b6 b7 b8 b9 b10) → W (n + 1) a1 a2 a3 a4 a5 a6 a7 a8 a9 a10) (a1 : A1) (a2 : A2) (a3 : A3) (a4 : A4) (a5 : A5) (a6 : A6) (a7 : A7) (a8 : A8) (a9 : A9) (a10 : A10) (h : I a1 a2 a3 a4 a5 a6 a7 a8 a9 a10) : ∃ n, W n a1 a2 a3 a4 a5 a6 a7 a8 a9 a10 :=
  loop_m (σ := A1 × A2 × A3 × A4 × A5 × A6 × A7 × A8 × A9 × A10) (fun n s => W n s.1 s.2.1 s.2.2.1 s.2.2.2.1 s.2.2.2.2.1 s.2.2.2.2.2.1 s.2.2.2.2.2.2.1 s.2.2.2.2.2.2.2.1 s.2.2.2.2.2.2.2.2.1 s.2.2.2.2.2.2.2.2.2) (fun s => I s.1 s.2.1 s.2.2.1 s.2.2.2.1 s.2.2.2.2.1 s.2.2.2.2.2.1 s.2.2.2.2.2.2.1 s.2.2.2.2.2.2.2.1 s.2.2.2.2.2.2.2.2.1 s.2.2.2.2.2.2.2.2.2) (fun s => μ s.1 s.2.1 s.2.2.1 s.2.2.2.1 s.2.2.2.2.1 s.2.2.2.2.2.1 s.2.2.2.2.2.2.1 s.2.2.2.2.2.2.2.1 s.2.2.2.2.2.2.2.2.1 s.2.2.2.2.2.2.2.2.2) (fun n s hI hk => hs n s.1 s.2.1 s.2.2.1 s.2.2.2.1 s.2.2.2.2.1 s.2.2.2.2.2.1 s.2.2.2.2.2.2.1 s.2.2.2.2.2.2.2.1 s.2.2.2.2.2.2.2.2.1 s.2.2.2.2.2.2.2.2.2 hI (fun b1 b2 b3 b4 b5 b6 b7 b8 b9 b10 h9 hm => hk (b1, b2, b3, b4, b5, b6, b7, b8, b9, b10) h9 hm)) (a1, a2, a3, a4, a5, a6, a7, a8, a9, a10) h
theorem lp11 {A1 A2 A3 A4 A5 A6 A7 A8 A9 A10 A11 : Type} (W : Nat → A1 → A2 → A3 → A4 → A5 → A6 → A7 → A8 → A9 → A10 → A11 → Prop) (I : A1 → A2 → A3 → A4 → A5 → A6 → A7 → A8 → A9 → A10 → A11 → Prop) (μ : A1 → A2 → A3 → A4 → A5 → A6 → A7 → A8 → A9 → A10 → A11 → Nat) (hs : ∀ (n : Nat) (a1 : A1) (a2 : A2) (a3 : A3) (a4 : A4) (a5 : A5) (a6 : A6) (a7 : A7) (a8 : A8) (a9 : A9) (a10 : A10) (a11 : A11), I a1 a2 a3 a4 a5 a6 a7 a8 a9 a10 a11 → (∀ (b1 : A1) (b2 : A2) (b3 : A3) (b4 : A4) (b5 : A5) (b6 : A6) (b7 : A7) (b8 : A8) (b9 : A9) (b10 : A10) (b11 : A11), I b1 b2 b3 b4 b5 b6 b7 b8 b9 b10 b11 → μ b1 b2 b3 b4 b5 b6 b7 b8 b9 b10 b11 < μ a1 a2 a3 a4 a5 a6 a7 a8 a9 a10 a11 → W n b1 b2 b3 b4 b5 b6 b7 b8 b9 b10 b11) → W (n + 1) a1 a2 a3 a4 a5 a6 a7 a8 a9 a10 a11) (a1 : A1) (a2 : A2) (a3 : A3) (a4 : A4) (a5 : A5) (a6 : A6) (a7 : A7) (a8 : A8) (a9 : A9) (a10 : A10) (a11 : A11) (h : I a1 a2 a3 a4 a5 a6 a7 a8 a9 a10 a11) : ∃ n, W n a1 a2 a3 a4 a5 a6 a7 a8 a9 a10 a11 :=
  loop_m (σ := A1 × A2 × A3 × A4 × A5 × A6 × A7 × A8 × A9 × A10 × A11) (fun n s => W n s.1 s.2.1 s.2.2.1 s.2.2.2.1 s.2.2.2.2.1 s.2.2.2.2.2.1 s.2.2.2.2.2.2.1 s.2.2.2.2.2.2.2.1 s.2.2.2.2.2.2.2.2.1 s.2.2.2.2.2.2.2.2.2.1 s.2.2.2.2.2.2.2.2.2.2) (fun s => I s.1 s.2.1 s.2.2.1 s.2.2.2.1 s.2.2.2.2.1 s.2.2.2.2.2.1 s.2.2.2.2.2.2.1 s.2.2.2.2.2.2.2.1 s.2.2.2.2.2.2.2.2.1 s.2.2.2.2.2.2.2.2.2.1 s.2.2.2.2.2.2.2.2.2.2) (fun s => μ s.1 s.2.1 s.2.2.1 s.2.2.2.1 s.2.2.2.2.1 s.2.2.2.2.2.1 s.2.2.2.2.2.2.1 s.2.2.2.2.2.2.2.1 s.2.2.2.2.2.2.2.2.1 s.2.2.2.2.2.2.2.2.2.1 s.2.2.2.2.2.2.2.2.2.2) (fun n s hI hk => hs n s.1 s.2.1 s.2.2.1 s.2.2.2.1 s.2.2.2.2.1 s.2.2.2.2.2.1 s.2.2.2.2.2.2.1 s.2.2.2.2.2.2.2.1 s.2.2.2.2.2.2.2.2.1 s.2.2.2.2.2.2.2.2.2.1 s.2.2.2.2.2.2.2.2.2.2 hI (fun b1 b2 b3 b4 b5 b6 b7 b8 b9 b10 b11 h9 hm => hk (b1, b2, b3, b4, b5, b6, b7, b8, b9, b10, b11) h9 hm)) (a1, a2, a3, a4, a5, a6, a7, a8, a9, a10, a11) h
theorem lp12 {A1 A2 A3 A4 A5 A6 A7 A8 A9 A10 A11 A12 : Type} (W : Nat → A1 → A2 → A3 → A4 → A5 → A6 → A7 → A8 → A9 → A10 → A11 → A12 → Prop) (I : A1 → A2 → A3 → A4 → A5 → A6 → A7 → A8 → A9 → A10 → A11 → A12 → Prop) (μ : A1 → A2 → A3 → A4 → A5 → A6 → A7 → A8 → A9 → A10 → A11 → A12 → Nat) (hs : ∀ (n : Nat) (a1 : A1) (a2 : A2) (a3 : A3) (a4 : A4) (a5 : A5) (a6 : A6) (a7 : A7) (a8 : A8) (a9 : A9) (a10 : A10) (a11 : A11) (a12 : A12), I a1 a2 a3 a4 a5 a6 a7 a8 a9 a10 a11 a12 → (∀ (b1 : A1) (b2 : A2) (b3 : A3) (b4 : A4) (b5 : A5) (b6 : A6) (b7 : A7) (b8 : A8) (b9 : A9) (b10 : A10) (b11 : A11) (b12 : A12), I b1 b2 b3 b4 b5 b6 b7 b8 b9 b10 b11 b12 → μ b1 b2 b3 b4 b5 b6 b7 b8 b9 b10 b11 b12 < μ a1 a2 a3 a4 a5 a6 a7 a8 a9 a10 a11 a12 → W n b1 b2 b3 b4 b5 b6 b7 b8 b9 b10 b11 b12) → W (n + 1) a1 a2 a3 a4 a5 a6 a7 a8 a9 a10 a11 a12) (a1 : A1) (a2 : A2) (a3 : A3) (a4 : A4) (a5 : A5) (a6 : A6) (a7 : A7) (a8 : A8) (a9 : A9) (a10 : A10) (a11 : A11) (a12 : A12) (h : I a1 a2 a3 a4 a5 a6 a7 a8 a9 a10 a11 a12) : ∃ n, W n a1 a2 a3 a4 a5 a6 a7 a8 a9 a10 a11 a12 :=
  loop_m (σ := A1 × A2 × A3 × A4 × A5 × A6 × A7 × A8 × A9 × A10 × A11 × A12) (fun n s => W n s.1 s.2.1 s.2.2.1 s.2.2.2.1 s.2.2.2.2.1 s.2.2.2.2.2.1 s.2.2.2.2.2.2.1 s.2.2.2.2.2.2.2.1 s.2.2.2.2.2.2.2.2.1 s.2.2.2.2.2.2.2.2.2.1 s.2.2.2.2.2.2.2.2.2.2.1 s.2.2.2.2.2.2.2.2.2.2.2) (fun s => I s.1 s.2.1 s.2.2.1 s.2.2.2.1 s.2.2.2.2.1 s.2.2.2.2.2.1 s.2.2.2.2.2.2.1 s.2.2.2.2.2.2.2.1 s.2.2.2.2.2.2.2.2.1 s.2.2.2.2.2.2.2.2.2.1 s.2.2.2.2.2.2.2.2.2.2.1 s.2.2.2.2.2.2.2.2.2.2.2) (fun s => μ s.1 s.2.1 s.2.2.1 s.2.2.2.1 s.2.2.2.2.1 s.2.2.2.2.2.1 s.2.2.2.2.2.2.1 s.2.2.2.2.2.2.2.1 s.2.2.2.2.2.2.2.2.1 s.2.2.2.2.2.2.2.2.2.1 s.2.2.2.2.2.2.2.2.2.2.1 s.2.2.2.2.2.2.2.2.2.2.2) (fun n s hI hk => hs n s.1 s.2.1 s.2.2.1 s.2.2.2.1 s.2.2.2.2.1 s.2.2.2.2.2.1 s.2.2.2.2.2.2.1 s.2.2.2.2.2.2.2.1 s.2.2.2.2.2.2.2.2.1 s.2.2.2.2.2.2.2.2.2.1 s.2.2.2.2.2.2.2.2.2.2.1 s.2.2.2.2.2.2.2.2.2.2.2 hI (fun b1 b2 b3 b4 b5 b6 b7 b8 b9 b10 b11 b12 h9 hm => hk (b1, b2, b3, b4, b5, b6, b7, b8, b9, b10, b11, b12) h9 hm)) (a1, a2, a3, a4, a5, a6, a7, a8, a9, a10, a11, a12) h
theorem lp13 {A1 A2 A3 A4 A5 A6 A7 A8 A9 A10 A11 A12 A13 : Type} (W : Nat → A1 → A2 → A3 → A4 → A5 → A6 → A7 → A8 → A9 → A10 → A11 → A12 → A13 → Prop) (I : A1 → A2 → A3 → A4 → A5 → A6 → A7 → A8 → A9 → A10 → A11 → A12 → A13 → Prop) (μ : A1 → A2 → A3 → A4 → A5 → A6 → A7 → A8 → A9 → A10 → A11 → A12 → A13 → Nat) (hs : ∀ (n : Nat) (a1 : A1) (a2 : A2) (a3 : A3) (a4 : A4) (a5 : A5) (a6 : A6) (a7 : A7) (a8 : A8) (a9 : A9) (a10 : A10) (a11 : A11) (a12 : A12) (a13 : A13), I a1 a2 a3 a4 a5 a6 a7 a8 a9 a10 a11 a12 a13 → (∀ (b1 : A1) (b2 : A2) (b3 : A3) (b4 : A4) (b5 : A5) (b6 : A6) (b7 : A7) (b8 : A8) (b9 : A9) (b10 : A10) (b11 : A11) (b12 : A12) (b13 : A13), I b1 b2 b3 b4 b5 b6 b7 b8 b9 b10 b11 b12 b13 → μ b1 b2 b3 b4 b5 b6 b7 b8 b9 b10 b11 b12 b13 < μ a1 a2 a3 a4 a5 a6 a7 a8 a9 a10 a11 a12 a13 → W n b1 b2 b3 b4 b5 b6 b7 b8 b9 b10 b11 b12 b13) → W (n + 1) a1 a2 a3 a4 a5 a6 a7 a8 a9 a10 a11 a12 a13) (a1 : A1) (a2 : A2) (a3 : A3) (a4 : A4) (a5 : A5) (a6 : A6) (a7 : A7) (a8 : A8) (a9 : A9) (a10 : A10) (a11 : A11) (a12 : A12) (a13 : A13) (h : I a1 a2 a3 a4 a5 a6 a7 a8 a9 a10 a11 a12 a13) : ∃ n, W n a1 a2 a3 a4 a5 a6 a7 a8 a9 a10 a11 a12 a13 :=
  loop_m (σ := A1 × A2 × A3 × A4 × A5 × A6 × A7 × A8 × A9 × A10 × A11 × A12 × A13) (fun n s => W n s.1 s.2.1 s.2.2.1 s.2.2.2.1 s.2.2.2.2.1 s.2.2.2.2.2.1 s.2.2.2.2.2.2.1 s.2.2.2.2.2.2.2.1 s.2.2.2.2.2.2.2.2.1 s.2.2.2.2.2.2.2.2.2.1 s.2.2.2.2.2.2.2.2.2.2.1 s.2.2.2.2.2.2.2.2.2.2.2.1 s.2.2.2.2.2.2.2.2.2.2.2.2) (fun s => I s.1 s.2.1 s.2.2.1 s.2.2.2.1 s.2.2.2.2.1 s.2.2.2.2.2.1 s.2.2.2.2.2.2.1 s.2.2.2.2.2.2.2.1 s.2.2.2.2.2.2.2.2.1 s.2.2.2.2.2.2.2.2.2.1 s.2.2.2.2.2.2.2.2.2.2.1 s.2.2.2.2.2.2.2.2.2.2.2.1 s.2.2.2.2.2.2.2.2.2.2.2.2) (fun s => μ s.1 s.2.1 s.2.2.1 s.2.2.2.1 s.2.2.2.2.1 s.2.2.2.2.2.1 s.2.2.2.2.2.2.1 s.2.2.2.2.2.2.2.1 s.2.2.2.2.2.2.2.2.1 s.2.2.2.2.2.2.2.2.2.1 s.2.2.2.2.2.2.2.2.2.2.1 s.2.2.2.2.2.2.2.2.2.2.2.1 s.2.2.2.2.2.2.2.2.2.2.2.2) (fun n s hI hk => hs n s.1 s.2.1 s.2.2.1 s.2.2.2.1 s.2.2.2.2.1 s.2.2.2.2.2.1 s.2.2.2.2.2.2.1 s.2.2.2.2.2.2.2.1 s.2.2.2.2.2.2.2.2.1 s.2.2.2.2.2.2.2.2.2.1 s.2.2.2.2.2.2.2.2.2.2.1 s.2.2.2.2.2.2.2.2.2.2.2.1 s.2.2.2.2.2.2.2.2.2.2.2.2 hI (fun b1 b2 b3 b4 b5 b6 b7 b8 b9 b10 b11 b12 b13 h9 hm => hk (b1, b2, b3, b4, b5, b6, b7, b8, b9, b10, b11, b12, b13) h9 hm)) (a1, a2, a3, a4, a5, a6, a7, a8, a9, a10, a11, a12, a13) h
theorem lp14 {A1 A2 A3 A4 A5 A6 A7 A8 A9 A10 A11 A12 A13 A14 : Type} (W : Nat → A1 → A2 → A3 → A4 → A5 → A6 → A7 → A8 → A9 → A10 → A11 → A12 → A13 → A14 → Prop) (I : A1 → A2 → A3 → A4 → A5 → A6 → A7 → A8 → A9 → A10 → A11 → A12 → A13 → A14 → Prop) (μ : A1 → A2 → A3 → A4 → A5 → A6 → A7 → A8 → A9 → A10 → A11 → A12 → A13 → A14 → Nat) (hs : ∀ (n : Nat) (a1 : A1) (a2 : A2) (a3 : A3) (a4 : A4) (a5 : A5) (a6 : A6) (a7 : A7) (a8 : A8) (a9 : A9) (a10 : A10) (a11 : A11) (a12 : A12) (a13 : A13) (a14 : A14), I a1 a2 a3 a4 a5 a6 a7 a8 a9 a10 a11 a12 a13 a14 → (∀ (b1 : A1) (b2 : A2) (b3 : A3) (b4 : A4) (b5 : A5) (b6 : A6) (b7 : A7) (b8 : A8) (b9 : A9) (b10 : A10) (b11 : A11) (b12 : A12) (b13 : A13) (b14 : A14), I b1 b2 b3 b4 b5 b6 b7 b8 b9 b10 b11 b12 b13 b14 → μ b1 b2 b3 b4 b5 b6 b7 b8 b9 b10 b11 b12 b13 b14 < μ a1 a2 a3 a4 a5 a6 a7 a8 a9 a10 a11 a12 a13 a14 → W n b1 b2 b3 b4 b5 b6 b7 b8 b9 b10 b11 b12 b13 b14) → W (n + 1) a1 a2 a3 a4 a5 a6 a7 a8 a9 a10 a11 a12 a13 a14) (a1 : A1) (a2 : A2) (a3 : A3) (a4 : A4) (a5 : A5) (a6 : A6) (a7 : A7) (a8 : A8) (a9 : A9) (a10 : A10) (a11 : A11) (a12 : A12) (a13 : A13) (a14 : A14) (h : I a1 a2 a3 a4 a5 a6 a7 a8 a9 a10 a11 a12 a13 a14) : ∃ n, W n a1 a2 a3 a4 a5 a6 a7 a8 a9 a10 a11 a12 a13 a14 :=
  loop_m (σ := A1 × A2 × A3 × A4 × A5 × A6 × A7 × A8 × A9 × A10 × A11 × A12 × A13 × A14) (fun n s => W n s.1 s.2.1 s.2.2.1 s.2.2.2.1 s.2.2.2.2.1 s.2.2.2.2.2.1 s.2.2.2.2.2.2.1 s.2.2.2.2.2.2.2.1 s.2.2.2.2.2.2.2.2.1 s.2.2.2.2.2.2.2.2.2.1 s.2.2.2.2.2.2.2.2.2.2.1 s.2.2.2.2.2.2.2.2.2.2.2.1 s.2.2.2.2.2.2.2.2.2.2.2.2.1 s.2.2.2.2.2.2.2.2.2.2.2.2.2) (fun s => I s.1 s.2.1 s.2.2.1 s.2.2.2.1 s.2.2.2.2.1 s.2.2.2.2.2.1 s.2.2.2.2.2.2.1 s.2.2.2.2.2.2.2.1 s.2.2.2.2.2.2.2.2.1 s.2.2.2.2.2.2.2.2.2.1 s.2.2.2.2.2.2.2.2.2.2.1 s.2.2.2.2.2.2.2.2.2.2.2.1 s.2.2.2.2.2.2.2.2.2.2.2.2.1 s.2.2.2.2.2.2.2.2.2.2.2.2.2) (fun s => μ s.1 s.2.1 s.2.2.1 s.2.2.2.1 s.2.2.2.2.1 s.2.2.2.2.2.1 s.2.2.2.2.2.2.1 s.2.2.2.2.2.2.2.1 s.2.2.2.2.2.2.2.2.1 s.2.2.2.2.2.2.2.2.2.1 s.2.2.2.2.2.2.2.2.2.2.1 s.2.2.2.2.2.2.2.2.2.2.2.1 s.2.2.2.2.2.2.2.2.2.2.2.2.1 s.2.2.2.2.2.2.2.2.2.2.2.2.2) (fun n s hI hk => hs n s.1 s.2.1 s.2.2.1 s.2.2.2.1 s.2.2.2.2.1 s.2.2.2.2.2.1 s.2.2.2.2.2.2.1 s.2.2.2.2.2.2.2.1 s.2.2.2.2.2.2.2.2.1 s.2.2.2.2.2.2.2.2.2.1 s.2.2.2.2.2.2.2.2.2.2.1 s.2.2.2.2.2.2.2.2.2.2.2.1 s.2.2.2.2.2.2.2.2.2.2.2.2.1 s.2.2.2.2.2.2.2.2.2.2.2.2.2 hI (fun b1 b2 b3 b4 b5 b6 b7 b8 b9 b10 b11 b12 b13 b14 h9 hm => hk (b1, b2, b3, b4, b5, b6, b7, b8, b9, b10, b11, b12, b13, b14) h9 hm)) (a1, a2, a3, a4, a5, a6, a7, a8, a9, a10, a11, a12, a13, a14) h
theorem lp15 {A1 A2 A3 A4 A5 A6 A7 A8 A9 A10 A11 A12 A13 A14 A15 : Type} (W : Nat → A1 → A2 → A3 → A4 → A5 → A6 → A7 → A8 → A9 → A10 → A11 → A12 → A13 → A14 → A15 → Prop) (I : A1 → A2 → A3 → A4 → A5 → A6 → A7 → A8 → A9 → A10 → A11 → A12 → A13 → A14 → A15 → Prop) (μ : A1 → A2 → A3 → A4 → A5 → A6 → A7 → A8 → A9 → A10 → A11 → A12 → A13 → A14 → A15 → Nat) (hs : ∀ (n : Nat) (a1 : A1) (a2 : A2) (a3 : A3) (a4 : A4) (a5 : A5) (a6 : A6) (a7 : A7) (a8 : A8) (a9 : A9) (a10 : A10) (a11 : A11) (a12 : A12) (a13 : A13) (a14 : A14) (a15 : A15), I a1 a2 a3 a4 a5 a6 a7 a8 a9 a10 a11 a12 a13 a14 a15 → (∀ (b1 : A1) (b2 : A2) (b3 : A3) (b4 : A4) (b5 : A5) (b6 : A6) (b7 : A7) (b8 : A8) (b9 : A9) (b10 : A10) (b11 : A11) (b12 : A12) (b13 : A13) (b14 : A14) (b15 : A15), I b1 b2 b3 b4 b5 b6 b7 b8 b9 b10 b11 b12 b13 b14 b15 → μ b1 b2 b3 b4 b5 b6 b7 b8 b9 b10 b11 b12 b13 b14 b15 < μ a1 a2 a3 a4 a5 a6 a7 a8 a9 a10 a11 a12 a13 a14 a15 → W n b1 b2 b3 b4 b5 b6 b7 b8 b9 b10 b11 b12 b13 b14 b15) → W (n + 1) a1 a2 a3 a4 a5 a6 a7 a8 a9 a10 a11 a12 a13 a14 a15) (a1 : A1) (a2 : A2) (a3 : A3) (a4 : A4) (a5 : A5) (a6 : A6) (a7 : A7) (a8 : A8) (a9 : A9) (a10 : A10) (a11 : A11) (a12 : A12) (a13 : A13) (a14 : A14) (a15 : A15) (h : I a1 a2 a3 a4 a5 a6 a7 a8 a9 a10 a11 a12 a13 a14 a15) : ∃ n, W n a1 a2 a3 a4 a5 a6 a7 a8 a9 a10 a11 a12 a13 a14 a15 :=
  loop_m (σ := A1 × A2 × A3 × A4 × A5 × A6 × A7 × A8 × A9 × A10 × A11 × A12 × A13 × A14 × A15) (fun n s => W n s.1 s.2.1 s.2.2.1 s.2.2.2.1 s.2.2.2.2.1 s.2.2.2.2.2.1 s.2.2.2.2.2.2.1 s.2.2.2.2.2.2.2.1 s.2.2.2.2.2.2.2.2.1 s.2.2.2.2.2.2.2.2.2.1 s.2.2.2.2.2.2.2.2.2.2.1 s.2.2.2.2.2.2.2.2.2.2.2.1 s.2.2.2.2.2.2.2.2.2.2.2.2.1 s.2.2.2.2.2.2.2.2.2.2.2.2.2.1 s.2.2.2.2.2.2.2.2.2.2.2.2.2.2) (fun s => I s.1 s.2.1 s.2.2.1 s.2.2.2.1 s.2.2.2.2.1 s.2.2.2.2.2.1 s.2.2.2.2.2.2.1 s.2.2.2.2.2.2.2.1 s.2.2.2.2.2.2.2.2.1 s.2.2.2.2.2.2.2.2.2.1 s.2.2.2.2.2.2.2.2.2.2.1 s.2.2.2.2.2.2.2.2.2.2.2.1 s.2.2.2.2.2.2.2.2.2.2.2.2.1 s.2.2.2.2.2.2.2.2.2.2.2.2.2.1 s.2.2.2.2.2.2.2.2.2.2.2.2.2.2) (fun s => μ s.1 s.2.1 s.2.2.1 s.2.2.2.1 s.2.2.2.2.1 s.2.2.2.2.2.1 s.2.2.2.2.2.2.1 s.2.2.2.2.2.2.2.1 s.2.2.2.2.2.2.2.2.1 s.2.2.2.2.2.2.2.2.2.1 s.2.2.2.2.2.2.2.2.2.2.1 s.2.2.2.2.2.2.2.2.2.2.2.1 s.2.2.2.2.2.2.2.2.2.2.2.2.1 s.2.2.2.2.2.2.2.2.2.2.2.2.2.1 s.2.2.2.2.2.2.2.2.2.2.2.2.2.2) (fun n s hI hk => hs n s.1 s.2.1 s.2.2.1 s.2.2.2.1 s.2.2.2.2.1 s.2.2.2.2.2.1 s.2.2.2.2.2.2.1 s.2.2.2.2.2.2.2.1 s.2.2.2.2.2.2.2.2.1 s.2.2.2.2.2.2.2.2.2.1 s.2.2.2.2.2.2.2.2.2.2.1 s.2.2.2.2.2.2.2.2.2.2.2.1 s.2.2.2.2.2.2.2.2.2.2.2.2.1 s.2.2.2.2.2.2.2.2.2.2.2.2.2.1 s.2.2.2.2.2.2.2.2.2.2.2.2.2.2 hI (fun b1 b2 b3 b4 b5 b6 b7 b8 b9 b10 b11 b12 b13 b14 b15 h9 hm => hk (b1, b2, b3, b4, b5, b6, b7, b8, b9, b10, b11, b12, b13, b14, b15) h9 hm)) (a1, a2, a3, a4, a5, a6, a7, a8, a9, a10, a11, a12, a13, a14, a15) h
theorem lp16 {A1 A2 A3 A4 A5 A6 A7 A8 A9 A10 A11 A12 A13 A14 A15 A16 : Type} (W : Nat → A1 → A2 → A3 → A4 → A5 → A6 → A7 → A8 → A9 → A10 → A11 → A12 → A13 → A14 → A15 → A16 → Prop) (I : A1 → A2 → A3 → A4 → A5 → A6 → A7 → A8 → A9 → A10 → A11 → A12 → A13 → A14 → A15 → A16 → Prop) (μ : A1 → A2 → A3 → A4 → A5 → A6 → A7 → A8 → A9 → A10 → A11 → A12 → A13 → A14 → A15 → A16 → Nat) (hs : ∀ (n : Nat) (a1 : A1) (a2 : A2) (a3 : A3) (a4 : A4) (a5 : A5) (a6 : A6) (a7 : A7) (a8 : A8) (a9 : A9) (a10 : A10) (a11 : A11) (a12 : A12) (a13 : A13) (a14 : A14) (a15 : A15) (a16 : A16), I a1 a2 a3 a4 a5 a6 a7 a8 a9 a10 a11 a12 a13 a14 a15 a16 → (∀ (b1 : A1) (b2 : A2) (b3 : A3) (b4 : A4) (b5 : A5) (b6 : A6) (b7 : A7) (b8 : A8) (b9 : A9) (b10 : A10) (b11 : A11) (b12 : A12) (b13 : A13) (b14 : A14) (b15 : A15) (b16 : A16), I b1 b2 b3 b4 b5 b6 b7 b8 b9 b10 b11 b12 b13 b14 b15 b16 → μ b1 b2 b3 b4 b5 b6 b7 b8 b9 b10 b11 b12 b13 b14 b15 b16 < μ a1 a2 a3 a4 a5 a6 a7 a8 a9 a10 a11 a12 a13 a14 a15 a16 → W n b1 b2 b3 b4 b5 b6 b7 b8 b9 b10 b11 b12 b13 b14 b15 b16) → W (n + 1) a1 a2 a3 a4 a5 a6 a7 a8 a9 a10 a11 a12 a13 a14 a15 a16) (a1 : A1) (a2 : A2) (a3 : A3) (a4 : A4) (a5 : A5) (a6 : A6) (a7 : A7) (a8 : A8) (a9 : A9) (a10 : A10) (a11 : A11) (a12 : A12) (a13 : A13) (a14 : A14) (a15 : A15) (a16 : A16) (h : I a1 a2 a3 a4 a5 a6 a7 a8 a9 a10 a11 a12 a13 a14 a15 a16) : ∃ n, W n a1 a2 a3 a4 a5 a6 a7 a8 a9 a10 a11 a12 a13 a14 a15 a16 :=
  loop_m (σ := A1 × A2 × A3 × A4 × A5 × A6 × A7 × A8 × A9 × A10 × A11 × A12 × A13 × A14 × A15 × A16) (fun n s => W n s.1 s.2.1 s.2.2.1 s.2.2.2.1 s.2.2.2.2.1 s.2.2.2.2.2.1 s.2.2.2.2.2.2.1 s.2.2.2.2.2.2.2.1 s.2.2.2.2.2.2.2.2.1 s.2.2.2.2.2.2.2.2.2.1 s.2.2.2.2.2.2.2.2.2.2.1 s.2.2.2.2.2.2.2.2.2.2.2.1 s.2.2.2.2.2.2.2.2.2.2.2.2.1 s.2.2.2.2.2.2.2.2.2.2.2.2.2.1 s.2.2.2.2.2.2.2.2.2.2.2.2.2.2.1 s.2.2.2.2.2.2.2.2.2.2.2.2.2.2.2) (fun s => I s.1 s.2.1 s.2.2.1 s.2.2.2.1 s.2.2.2.2.1 s.2.2.2.2.2.1 s.2.2.2.2.2.2.1 s.2.2.2.2.2.2.2.1 s.2.2.2.2.2.2.2.2.1 s.2.2.2.2.2.2.2.2.2.1 s.2.2.2.2.2.2.2.2.2.2.1 s.2.2.2.2.2.2.2.2.2.2.2.1 s.2.2.2.2.2.2.2.2.2.2.2.2.1 s.2.2.2.2.2.2.2.2.2.2.2.2.2.1 s.2.2.2.2.2.2.2.2.2.2.2.2.2.2.1 s.2.2.2.2.2.2.2.2.2.2.2.2.2.2.2) (fun s => μ s.1 s.2.1 s.2.2.1 s.2.2.2.1 s.2.2.2.2.1 s.2.2.2.2.2.1 s.2.2.2.2.2.2.1 s.2.2.2.2.2.2.2.1 s.2.2.2.2.2.2.2.2.1 s.2.2.2.2.2.2.2.2.2.1 s.2.2.2.2.2.2.2.2.2.2.1 s.2.2.2.2.2.2.2.2.2.2.2.1 s.2.2.2.2.2.2.2.2.2.2.2.2.1 s.2.2.2.2.2.2.2.2.2.2.2.2.2.1 s.2.2.2.2.2.2.2.2.2.2.2.2.2.2.1 s.2.2.2.2.2.2.2.2.2.2.2.2.2.2.2) (fun n s hI hk => hs n s.1 s.2.1 s.2.2.1 s.2.2.2.1 s.2.2.2.2.1 s.2.2.2.2.2.1 s.2.2.2.2.2.2.1 s.2.2.2.2.2.2.2.1 s.2.2.2.2.2.2.2.2.1 s.2.2.2.2.2.2.2.2.2.1 s.2.2.2.2.2.2.2.2.2.2.1 s.2.2.2.2.2.2.2.2.2.2.2.1 s.2.2.2.2.2.2.2.2.2.2.2.2.1 s.2.2.2.2.2.2.2.2.2.2.2.2.2.1 s.2.2.2.2.2.2.2.2.2.2.2.2.2.2.1 s.2.2.2.2.2.2.2.2.2.2.2.2.2.2.2 hI (fun b1 b2 b3 b4 b5 b6 b7 b8 b9 b10 b11 b12 b13 b14 b15 b16 h9 hm => hk (b1, b2, b3, b4, b5, b6, b7, b8, b9, b10, b11, b12, b13, b14, b15, b16) h9 hm)) (a1, a2, a3, a4, a5, a6, a7, a8, a9, a10, a11, a12, a13, a14, a15, a16) h
theorem pk_least (P : Nat → Prop) (h : ∃ k, P k) : ∃ k, P k ∧ ∀ j, j < k → ¬ P j := by
  obtain ⟨k, hk⟩ := h
  induction k using Nat.strongRecOn with
  | ind k ih =>
    by_cases e : ∃ j, j < k ∧ P j
    · obtain ⟨j, hj, pj⟩ := e
      exact ih j hj pj
    · exact ⟨k, hk, fun j hj pj => e ⟨j, hj, pj⟩⟩
theorem rp1 {ρ A1 : Type} (W : Nat → (ρ → Prop) → A1 → Prop) (ok : A1 → Prop) (μ : A1 → Nat) (val : A1 → ρ)
    (hs : ∀ (d : Nat) (post : ρ → Prop) (a1 : A1), ok a1 → post (val a1) → (∀ (post' : ρ → Prop) (b1 : A1), ok b1 → μ b1 < μ a1 → post' (val b1) → W d post' b1) → W (d + 1) post a1) :
    ∀ (d : Nat) (post : ρ → Prop) (a1 : A1), ok a1 → μ a1 < d → post (val a1) → W d post a1 := by
  intro d
  induction d with
  | zero => intro post a1 _ h; omega
  | succ d ih =>
    intro post a1 ho hm hp
    exact hs d post a1 ho hp (fun post' b1 ho' hm' hp' => ih post' b1 ho' (by omega) hp')
theorem rp2 {ρ A1 A2 : Type} (W : Nat → (ρ → Prop) → A1 → A2 → Prop) (ok : A1 → A2 → Prop) (μ : A1 → A2 → Nat) (val : A1 → A2 → ρ)
    (hs : ∀ (d : Nat) (post : ρ → Prop) (a1 : A1) (a2 : A2), ok a1 a2 → post (val a1 a2) → (∀ (post' : ρ → Prop) (b1 : A1) (b2 : A2), ok b1 b2 → μ b1 b2 < μ a1 a2 → post' (val b1 b2) → W d post' b1 b2) → W (d + 1) post a1 a2) :
    ∀ (d : Nat) (post : ρ → Prop) (a1 : A1) (a2 : A2), ok a1 a2 → μ a1 a2 < d → post (val a1 a2) → W d post a1 a2 := by
  intro d
  induction d with
  | zero => intro post a1 a2 _ h; omega
  | succ d ih =>
    intro post a1 a2 ho hm hp
    exact hs d post a1 a2 ho hp (fun post' b1 b2 ho' hm' hp' => ih post' b1 b2 ho' (by omega) hp')
theorem rp3 {ρ A1 A2 A3 : Type} (W : Nat → (ρ → Prop) → A1 → A2 → A3 → Prop) (ok : A1 → A2 → A3 → Prop) (μ : A1 → A2 → A3 → Nat) (val : A1 → A2 → A3 → ρ)
    (hs : ∀ (d : Nat) (post : ρ → Prop) (a1 : A1) (a2 : A2) (a3 : A3), ok a1 a2 a3 → post (val a1 a2 a3) → (∀ (post' : ρ → Prop) (b1 : A1) (b2 : A2) (b3 : A3), ok b1 b2 b3 → μ b1 b2 b3 < μ a1 a2 a3 → post' (val b1 b2 b3) → W d post' b1 b2 b3) → W (d + 1) post a1 a2 a3) :
    ∀ (d : Nat) (post : ρ → Prop) (a1 : A1) (a2 : A2) (a3 : A3), ok a1 a2 a3 → μ a1 a2 a3 < d → post (val a1 a2 a3) → W d post a1 a2 a3 := by
  intro d
  induction d with
  | zero => intro post a1 a2 a3 _ h; omega
  | succ d ih =>
    intro post a1 a2 a3 ho hm hp
    exact hs d post a1 a2 a3 ho hp (fun post' b1 b2 b3 ho' hm' hp' => ih post' b1 b2 b3 ho' (by omega) hp')
theorem rp4 {ρ A1 A2 A3 A4 : Type} (W : Nat → (ρ → Prop) → A1 → A2 → A3 → A4 → Prop) (ok : A1 → A2 → A3 → A4 → Prop) (μ : A1 → A2 → A3 → A4 → Nat) (val : A1 → A2 → A3 → A4 → ρ)
    (hs : ∀ (d : Nat) (post : ρ → Prop) (a1 : A1) (a2 : A2) (a3 : A3) (a4 : A4), ok a1 a2 a3 a4 → post (val a1 a2 a3 a4) → (∀ (post' : ρ → Prop) (b1 : A1) (b2 : A2) (b3 : A3) (b4 : A4), ok b1 b2 b3 b4 → μ b1 b2 b3 b4 < μ a1 a2 a3 a4 → post' (val b1 b2 b3 b4) → W d post' b1 b2 b3 b4) → W (d + 1) post a1 a2 a3 a4) :
    ∀ (d : Nat) (post : ρ → Prop) (a1 : A1) (a2 : A2) (a3 : A3) (a4 : A4), ok a1 a2 a3 a4 → μ a1 a2 a3 a4 < d → post (val a1 a2 a3 a4) → W d post a1 a2 a3 a4 := by
  intro d
  induction d with
  | zero => intro post a1 a2 a3 a4 _ h; omega
  | succ d ih =>
    intro post a1 a2 a3 a4 ho hm hp
    exact hs d post a1 a2 a3 a4 ho hp (fun post' b1 b2 b3 b4 ho' hm' hp' => ih post' b1 b2 b3 b4 ho' (by omega) hp')
theorem rp5 {ρ A1 A2 A3 A4 A5 : Type} (W : Nat → (ρ → Prop) → A1 → A2 → A3 → A4 → A5 → Prop) (ok : A1 → A2 → A3 → A4 → A5 → Prop) (μ : A1 → A2 → A3 → A4 → A5 → Nat) (val : A1 → A2 → A3 → A4 → A5 → ρ)
    (hs : ∀ (d : Nat) (post : ρ → Prop) (a1 : A1) (a2 : A2) (a3 : A3) (a4 : A4) (a5 : A5), ok a1 a2 a3 a4 a5 → post (val a1 a2 a3 a4 a5) → (∀ (post' : ρ → Prop) (b1 : A1) (b2 : A2) (b3 : A3) (b4 : A4) (b5 : A5), ok b1 b2 b3 b4 b5 → μ b1 b2 b3 b4 b5 < μ a1 a2 a3 a4 a5 → post' (val b1 b2 b3 b4 b5) → W d post' b1 b2 b3 b4 b5) → W (d + 1) post a1 a2 a3 a4 a5) :
    ∀ (d : Nat) (post : ρ → Prop) (a1 : A1) (a2 : A2) (a3 : A3) (a4 : A4) (a5 : A5), ok a1 a2 a3 a4 a5 → μ a1 a2 a3 a4 a5 < d → post (val a1 a2 a3 a4 a5) → W d post a1 a2 a3 a4 a5 := by
  intro d
  induction d with
  | zero => intro post a1 a2 a3 a4 a5 _ h; omega
  | succ d ih =>
    intro post a1 a2 a3 a4 a5 ho hm hp
    exact hs d post a1 a2 a3 a4 a5 ho hp (fun post' b1 b2 b3 b4 b5 ho' hm' hp' => ih post' b1 b2 b3 b4 b5 ho' (by omega) hp')
theorem rp6 {ρ A1 A2 A3 A4 A5 A6 : Type} (W : Nat → (ρ → Prop) → A1 → A2 → A3 → A4 → A5 → A6 → Prop) (ok : A1 → A2 → A3 → A4 → A5 → A6 → Prop) (μ : A1 → A2 → A3 → A4 → A5 → A6 → Nat) (val : A1 → A2 → A3 → A4 → A5 → A6 → ρ)
    (hs : ∀ (d : Nat) (post : ρ → Prop) (a1 : A1) (a2 : A2) (a3 : A3) (a4 : A4) (a5 : A5) (a6 : A6), ok a1 a2 a3 a4 a5 a6 → post (val a1 a2 a3 a4 a5 a6) → (∀ (post' : ρ → Prop) (b1 : A1) (b2 : A2) (b3 : A3) (b4 : A4) (b5 : A5) (b6 : A6), ok b1 b2 b3 b4 b5 b6 → μ b1 b2 b3 b4 b5 b6 < μ a1 a2 a3 a4 a5 a6 → post' (val b1 b2 b3 b4 b5 b6) → W d post' b1 b2 b3 b4 b5 b6) → W (d + 1) post a1 a2 a3 a4 a5 a6) :
    ∀ (d : Nat) (post : ρ → Prop) (a1 : A1) (a2 : A2) (a3 : A3) (a4 : A4) (a5 : A5) (a6 : A6), ok a1 a2 a3 a4 a5 a6 → μ a1 a2 a3 a4 a5 a6 < d → post (val a1 a2 a3 a4 a5 a6) → W d post a1 a2 a3 a4 a5 a6 := by
  intro d
  induction d with
  | zero => intro post a1 a2 a3 a4 a5 a6 _ h; omega
  | succ d ih =>
    intro post a1 a2 a3 a4 a5 a6 ho hm hp
    exact hs d post a1 a2 a3 a4 a5 a6 ho hp (fun post' b1 b2 b3 b4 b5 b6 ho' hm' hp' => ih post' b1 b2 b3 b4 b5 b6 ho' (by omega) hp')
theorem rec_p {σ ρ : Type} (W : Nat → (ρ → Prop) → σ → Prop) (ok : σ → Prop) (μ : σ → Nat) (val : σ → ρ)
    (hs : ∀ d s post, ok s → post (val s) → (∀ s' post', ok s' → μ s' < μ s → post' (val s') → W d post' s') → W (d + 1) post s) :
    ∀ d s post, ok s → μ s < d → post (val s) → W d post s := by
  intro d
  induction d with
  | zero => intro s post _ h; omega
  | succ d ih =>
    intro s post ho hm hp
    exact hs d s post ho hp (fun s' post' ho' hm' hp' => ih s' post' ho' (by omega) hp')
theorem rec_q {σ ρ : Type} (W : Nat → (ρ → Prop) → σ → Prop) (ok : σ → Prop) (μ : σ → Nat) (Q : σ → ρ → Prop)
    (hs : ∀ d s post, ok s → (∀ r, Q s r → post r) → (∀ s' post', ok s' → μ s' < μ s → (∀ r, Q s' r → post' r) → W d post' s') → W (d + 1) post s) :
    ∀ d s post, ok s → μ s < d → (∀ r, Q s r → post r) → W d post s := by
  intro d
  induction d with
  | zero => intro s post _ h; omega
  | succ d ih =>
    intro s post ho hm hp
    exact hs d s post ho hp (fun s' post' ho' hm' hp' => ih s' post' ho' (by omega) hp')
def bx_sum (f : Nat → Int32) : Nat → Int32
  | 0 => 0
  | n + 1 => bx_sum f n + f n
theorem ek_u {A : Prop} {B : Nat → Prop} {k N : Nat} (hk : k < N) (h : B k) : (some k = none → A) ∧ (∀ y : Nat, some k = some y → (y < N ∧ B y)) :=
  ⟨fun z => absurd z (Option.some_ne_none k), fun _ e => (by cases e; exact ⟨hk, h⟩)⟩
theorem ek_nu {A : Prop} {B : Nat → Prop} (h : A) : ((none : Option Nat) = none → A) ∧ (∀ y : Nat, (none : Option Nat) = some y → B y) :=
  ⟨fun _ => h, fun _ e => (by cases e)⟩
theorem ek_if {c d A B : Prop} (e : c ↔ d) (f : d → A) (g : ¬ d → B) : (c → A) ∧ (¬ c → B) :=
  ⟨fun z => f (e.mp z), fun z => g (fun y => z (e.mpr y))⟩
theorem ek_v {α : Sort _} {P : α → Prop} {a b : α} (e : a = b) (h : P b) : P a := e ▸ h
theorem co_some {x : Option Nat} {A : Prop} {B : Nat → Prop} (i : Nat) (h : B i) (hx : x = some i := by rfl) : (x = none → A) ∧ (∀ y : Nat, x = some y → B y) := by
  subst hx
  exact ⟨fun e => (nomatch e), fun y e => Option.some.inj e ▸ h⟩
theorem co_none {x : Option Nat} {A : Prop} {B : Nat → Prop} (h : A) (hx : x = none := by rfl) : (x = none → A) ∧ (∀ y : Nat, x = some y → B y) := by
  subst hx
  exact ⟨fun _ => h, fun y e => (nomatch e)⟩
theorem co_any {x : Option Nat} {A : Prop} {B : Nat → Prop} (hn : x = none → A) (hs : ∀ i : Nat, x = some i → B i) : (x = none → A) ∧ (∀ y : Nat, x = some y → B y) := ⟨hn, hs⟩
theorem co_2 {P : Nat → Prop} (h0 : P 0) (h1 : P 1) {i : Nat} (hi : i < 2) : P i :=
  match i, hi with
  | 0, _ => h0
  | 1, _ => h1
theorem co_3 {P : Nat → Prop} (h0 : P 0) (h1 : P 1) (h2 : P 2) {i : Nat} (hi : i < 3) : P i :=
  match i, hi with
  | 0, _ => h0
  | 1, _ => h1
  | 2, _ => h2
theorem co_4 {P : Nat → Prop} (h0 : P 0) (h1 : P 1) (h2 : P 2) (h3 : P 3) {i : Nat} (hi : i < 4) : P i :=
  match i, hi with
  | 0, _ => h0
  | 1, _ => h1
  | 2, _ => h2
  | 3, _ => h3
theorem co_dec {N : Nat} {P : Nat → Prop} [DecidablePred P] (h : (List.range N).all (fun i => decide (P i)) = true) {i : Nat} (hi : i < N) : P i := by
  have := List.all_eq_true.mp h i (List.mem_range.mpr hi)
  exact of_decide_eq_true this
theorem co_tab {α : Type} {l : List α} {d : α} {P : α → Prop} (h : ∀ a, a ∈ l → P a) {i : Nat} (hi : i < l.length) : P (l.getD i d) := by
  rw [List.getD_eq_getElem?_getD, List.getElem?_eq_getElem hi]
  exact h _ (List.getElem_mem hi)
theorem pk_mu {x : Int32} {L : Nat} (h0 : ¬ x < 0) (h : ¬ nI L ≤ x) (hL : L < 2 ^ 31) : ∃ j : Nat, j < L ∧ x = nI j ∧ x + 1 = nI (j + 1) ∧ x.toNatClampNeg = j ∧ L - (x + 1).toNatClampNeg < L - x.toNatClampNeg := by
  obtain ⟨j, hj, rfl⟩ := nI_of h0
  have hl : j < L := Nat.not_le.mp fun q => h (nI_le q hj)
  refine ⟨j, hl, rfl, nI_1 j, nI_clamp hj, ?_⟩
  rw [nI_1, nI_clamp (by omega), nI_clamp hj]
  omega
theorem op_s {α : Type} {r : Option α} {A : Prop} {B : α → Prop} {y : α} (h : r = some y) (b : B y) : (r = none → A) ∧ ∀ z, r = some z → B z :=
  ⟨fun e => (by rw [h] at e; cases e), fun z e => (by rw [h] at e; cases e; exact b)⟩
def l_holds {α : Type} (a : Nat → Option Nat) (LP : List Nat) (p : Nat → α) (c : Nat) (b : Nat → α) : Prop :=
  ∀ j, j < c → ∃ y, a j = some y ∧ y ∈ LP ∧ p y = b j
theorem l_holds_0 {α : Type} {a : Nat → Option Nat} {LP : List Nat} {p b : Nat → α} : l_holds a LP p 0 b := fun j h => absurd h (Nat.not_lt_zero j)
theorem l_in_new (LP : List Nat) (q : Nat) : q ∈ LP ++ [q] := List.mem_append.mpr (Or.inr (List.mem_singleton.mpr rfl))
def l_sum (b : Nat → Int32) : Nat → Int32
  | 0 => 0
  | k + 1 => l_sum b k + b k
theorem sb_shr0 (x : Int32) : x >>> ((0 : Int32) &&& 31) = x := by
  rw [show ((0 : Int32) &&& 31) = 0 by decide]
  simp
theorem sb_shl0 (x : Int32) : x <<< ((0 : Int32) &&& 31) = x := by
  rw [show ((0 : Int32) &&& 31) = 0 by decide]
  simp
theorem sb_cl0 : (0 : Int32).toNatClampNeg = 0 := by decide
theorem sb_m1 {p : Nat} (h : 0 < p) : nI p + (-1) = nI (p - 1) := by
  obtain ⟨q, rfl⟩ : ∃ q, p = q + 1 := ⟨p - 1, by omega⟩
  exact pk_m1 q
def sb_b (c : Nat) : Int32 := (nI c).toInt8.toInt32
theorem sb_byte : ∀ c, c < 256 → sb_b c &&& 255 = nI c ∧ ((nI c).toUInt32 % 65536).toInt32 = nI c ∧ nI c ≤ 255 := by decide +kernel
def sb_Fit (a : Nat → Int32) : Prop := ∀ j, fits .byte (.int (a j)) = true
def sb_Lat (t : Nat → Nat) (n : Nat) (a : Nat → Int32) : Prop := ∀ j, j < n → t j < 256 ∧ a j = sb_b (t j)
theorem sb_fitB (c : Nat) : fits .byte (.int (sb_b c)) = true := pk_fb _
theorem sb_fit0 : sb_Fit (fun _ => 0) := fun _ => by
  show fits .byte (.int 0) = true
  decide
theorem sb_fitU {a : Nat → Int32} {k : Nat} {x : Int32} (h : sb_Fit a) (hx : fits .byte (.int x) = true) : sb_Fit (upd a k x) := by
  intro j
  by_cases e : j = k
  · subst e
    rw [pk_us]
    exact hx
  · rw [pk_un e]
    exact h j
def sb_cat (t : Nat → Nat) (n : Nat) (s : Nat → Nat) : Nat → Nat := fun j => if j < n then t j else s (j - n)
theorem sb_cat_lo {t s : Nat → Nat} {n j : Nat} (h : j < n) : sb_cat t n s j = t j := if_pos h
theorem sb_cat_hi {t s : Nat → Nat} {n j : Nat} : sb_cat t n s (n + j) = s j := by
  show (if n + j < n then t (n + j) else s (n + j - n)) = s j
  rw [if_neg (by omega), Nat.add_sub_cancel_left]
theorem sb_latPut {t s : Nat → Nat} {n w : Nat} {a a' : Nat → Int32} (h : sb_Lat t n a) (hk : ∀ j, j < n → a' j = a j) (hs : ∀ i, i < w → s i < 256 ∧ a' (n + i) = sb_b (s i)) : sb_Lat (sb_cat t n s) (n + w) a' := by
  intro j hj
  by_cases e : j < n
  · rw [sb_cat_lo e, hk j e]
    exact h j e
  · obtain ⟨i, rfl⟩ : ∃ i, j = n + i := ⟨j - n, by omega⟩
    rw [sb_cat_hi]
    exact hs i (by omega)
theorem sb_latKeep {t : Nat → Nat} {n : Nat} {a a' : Nat → Int32} (h : sb_Lat t n a) (hk : ∀ j, j < n → a' j = a j) : sb_Lat t n a' := fun j hj => by
  rw [hk j hj]
  exact h j hj
def sb_cap (q m : Nat) : Nat := if q ≤ m then m else if 2 * m + 2 < q then q else 2 * m + 2
def sb_Room (q m mc ms : Nat) : Prop := q ≤ m ∨ (1 ≤ mc ∧ sb_cap q m ≤ ms ∧ sb_cap q m ≤ 65536)
theorem sb_cap_ge (q m : Nat) : q ≤ sb_cap q m := by
  unfold sb_cap
  split
  · omega
  · split <;> omega
theorem sb_cap_gem (q m : Nat) : m ≤ sb_cap q m := by
  unfold sb_cap
  split
  · omega
  · split <;> omega
theorem sb_cap_le {q m mc ms : Nat} (hm : m ≤ 65536) (hr : sb_Room q m mc ms) : sb_cap q m ≤ 65536 := by
  rcases hr with h | h
  · rw [sb_cap, if_pos h]
    exact hm
  · exact h.2.2
theorem sb_at {P : Int32 → Prop} {x y : Int32} (e : x = y) (h : P y) : P x := e ▸ h
def sb_dg (w : Nat) : Nat := if w < 10 then 1 else if w < 100 then 2 else if w < 1000 then 3 else if w < 10000 then 4 else if w < 100000 then 5 else if w < 1000000 then 6 else if w < 10000000 then 7 else if w < 100000000 then 8 else if w < 1000000000 then 9 else 10
def sb_dec (v : Nat) : Nat → Nat := fun i => 48 + v / 10 ^ (sb_dg v - 1 - i) % 10
theorem sb_dg_in (w : Nat) : 1 ≤ sb_dg w ∧ sb_dg w ≤ 10 := by
  unfold sb_dg
  constructor <;> (repeat' split) <;> omega
theorem sb_dg100 {w : Nat} (h : 100 ≤ w) (hw : w < 2 ^ 31) : sb_dg w = sb_dg (w / 100) + 2 := by
  rw [sb_dg, sb_dg, if_neg (show ¬ w < 10 by omega), if_neg (show ¬ w < 100 by omega)]
  by_cases h3 : w < 1000
  · rw [if_pos h3, if_pos (show w / 100 < 10 by omega)]
  rw [if_neg h3, if_neg (show ¬ w / 100 < 10 by omega)]
  by_cases h4 : w < 10000
  · rw [if_pos h4, if_pos (show w / 100 < 100 by omega)]
  rw [if_neg h4, if_neg (show ¬ w / 100 < 100 by omega)]
  by_cases h5 : w < 100000
  · rw [if_pos h5, if_pos (show w / 100 < 1000 by omega)]
  rw [if_neg h5, if_neg (show ¬ w / 100 < 1000 by omega)]
  by_cases h6 : w < 1000000
  · rw [if_pos h6, if_pos (show w / 100 < 10000 by omega)]
  rw [if_neg h6, if_neg (show ¬ w / 100 < 10000 by omega)]
  by_cases h7 : w < 10000000
  · rw [if_pos h7, if_pos (show w / 100 < 100000 by omega)]
  rw [if_neg h7, if_neg (show ¬ w / 100 < 100000 by omega)]
  by_cases h8 : w < 100000000
  · rw [if_pos h8, if_pos (show w / 100 < 1000000 by omega)]
  rw [if_neg h8, if_neg (show ¬ w / 100 < 1000000 by omega)]
  by_cases h9 : w < 1000000000
  · rw [if_pos h9, if_pos (show w / 100 < 10000000 by omega)]
  rw [if_neg h9, if_neg (show ¬ w / 100 < 10000000 by omega)]
  rw [if_pos (show w / 100 < 100000000 by omega)]
theorem sb_negT {w : Nat} (h : w < 2 ^ 31) : (-nI w).toInt = -(w : Int) := by
  rw [Int32.toInt_neg, nI_toInt h]
  exact Int.bmod_eq_of_le (by omega) (by omega)
theorem sb_nle {a b : Nat} (ha : a < 2 ^ 31) (hb : b < 2 ^ 31) : -nI a ≤ -nI b ↔ b ≤ a := by
  rw [Int32.le_iff_toInt_le, sb_negT ha, sb_negT hb]
  omega
theorem sb_nlt {a b : Nat} (ha : a < 2 ^ 31) (hb : b < 2 ^ 31) : -nI a < -nI b ↔ b < a := by
  rw [Int32.lt_iff_toInt_lt, sb_negT ha, sb_negT hb]
  omega
theorem sb_cmp {A B : Prop} {x : Int32} (v c : Nat) (f : c ≤ v → A) (g : v < c → B) (hv : v < 2 ^ 31) (hx : x = -nI c := by rfl) (hc : c < 2 ^ 31 := by omega) : (-nI v ≤ x → A) ∧ (¬ -nI v ≤ x → B) := by
  subst hx
  rw [sb_nle hv hc]
  exact ⟨f, fun z => g (by omega)⟩
theorem sb_ndiv {w : Nat} (hw : w < 2 ^ 31) : (-nI w) / 100 = -nI (w / 100) := by
  apply Int32.toInt_inj.mp
  have h100 : (100 : Int32).toInt = 100 := by decide
  rw [Int32.toInt_div, sb_negT hw, h100, sb_negT (by omega), Int.neg_tdiv, Int.tdiv_eq_ediv_of_nonneg (by omega), Int.bmod_eq_of_le (by omega) (by omega)]
  omega
theorem sb_nrem {w : Nat} (hw : w < 2 ^ 31) : (-nI (w / 100)) * 100 - (-nI w) = nI (w % 100) := by
  have h := pk_rem (a := w) (d := 100) hw (by decide) (by decide)
  rw [pk_div hw (by decide) (by decide)] at h
  rw [← h]
  show (-nI (w / 100)) * nI 100 - (-nI w) = nI w - nI (w / 100) * nI 100
  rw [Int32.neg_mul, Int32.sub_neg, Int32.add_comm, ← Int32.sub_eq_add_neg]
end
section
/-! words as lists of letters 1 .. 4, sorted lists of words, the glue of a node -/
def fz_gt (K : Nat → List (List Nat)) : Nat → List (List Nat)
  | 0 => []
  | j + 1 => (K (4 - j)).map (fun t => (4 - j) :: t) ++ fz_gt K j
def fz_gl (e : Nat) (K : Nat → List (List Nat)) : List (List Nat) :=
  (if e = 0 then [] else [[]]) ++ fz_gt K 4
def fz_rs (c : Nat) : List (List Nat) → List (List Nat)
  | [] => []
  | [] :: D => fz_rs c D
  | (x :: t) :: D => if x = c then t :: fz_rs c D else fz_rs c D
def fz_eb (D : List (List Nat)) : Nat := if [] ∈ D then 1 else 0
def fz_lx : List Nat → List Nat → Bool
  | _, [] => false
  | [], _ :: _ => true
  | a :: s, b :: t => decide (a < b) || (decide (a = b) && fz_lx s t)
def fz_lw (w : List Nat) : Prop := ∀ c, c ∈ w → 1 ≤ c ∧ c ≤ 4
def fz_sv (D : List (List Nat)) : Prop := D.Pairwise (fun a b => fz_lx a b = true) ∧ ∀ w, w ∈ D → fz_lw w
def fz_rw : List Nat → List (List Nat) → List (List Nat)
  | [], D => D
  | c :: p, D => fz_rw p (fz_rs c D)
def fz_hb (m : Nat) (D : List (List Nat)) : Prop := ∀ w, w ∈ D → w.length < m
def fz_cb (r : List Nat) (D : List (List Nat)) : Nat := D.countP (fun w => fz_lx w r)
def fz_cm (D E : List (List Nat)) : Nat := D.countP (fun w => decide (w ∈ E))
def fz_chg (b : Nat) : List Nat → List (List Nat) → List (List Nat)
  | [], D => fz_gl b (fun c => fz_rs c D)
  | c :: r, D => fz_gl (fz_eb D) (fun x => if x = c then fz_chg b r (fz_rs c D) else fz_rs x D)

theorem fz_gl4 (e : Nat) (K : Nat → List (List Nat)) : fz_gl e K = (if e = 0 then [] else [[]]) ++ ((K 1).map (fun t => 1 :: t) ++ ((K 2).map (fun t => 2 :: t) ++ ((K 3).map (fun t => 3 :: t) ++ ((K 4).map (fun t => 4 :: t) ++ [])))) := rfl
theorem fz_c4 {P : Nat → Prop} (h1 : P 1) (h2 : P 2) (h3 : P 3) (h4 : P 4) {c : Nat} (a : 1 ≤ c) (b : c ≤ 4) : P c :=
  match c, a, b with
  | 1, _, _ => h1
  | 2, _, _ => h2
  | 3, _, _ => h3
  | 4, _, _ => h4
theorem fz_gl_ext {e : Nat} {K K' : Nat → List (List Nat)} (h : ∀ c, 1 ≤ c → c ≤ 4 → K c = K' c) : fz_gl e K = fz_gl e K' := by
  rw [fz_gl4, fz_gl4, h 1 (by omega) (by omega), h 2 (by omega) (by omega), h 3 (by omega) (by omega), h 4 (by omega) (by omega)]
theorem fz_mem_rs {c : Nat} {t : List Nat} : ∀ {D : List (List Nat)}, t ∈ fz_rs c D ↔ (c :: t) ∈ D
  | [] => by simp [fz_rs]
  | [] :: D => by simp [fz_rs, fz_mem_rs (D := D)]
  | (x :: s) :: D => by
    by_cases h : x = c
    · subst h; simp [fz_rs, fz_mem_rs (D := D)]
    · have h' : ¬ c = x := fun e => h e.symm
      simp [fz_rs, h, h', fz_mem_rs (D := D)]
theorem fz_rs_app (c : Nat) (B : List (List Nat)) : ∀ A : List (List Nat), fz_rs c (A ++ B) = fz_rs c A ++ fz_rs c B
  | [] => rfl
  | [] :: A => by simp [fz_rs, fz_rs_app c B A]
  | (x :: s) :: A => by
    by_cases h : x = c <;> simp [fz_rs, h, fz_rs_app c B A]
theorem fz_rs_map (c d : Nat) : ∀ A : List (List Nat), fz_rs c (A.map (fun t => d :: t)) = if d = c then A else []
  | [] => by simp [fz_rs]
  | s :: A => by
    have ih := fz_rs_map c d A
    by_cases h : d = c
    · rw [if_pos h] at ih ⊢
      simp [fz_rs, h]
      rw [← h]; rw [h] at ih ⊢; exact ih
    · rw [if_neg h] at ih ⊢
      simp only [List.map_cons, fz_rs, if_neg h]; exact ih
theorem fz_rs_gl {e c : Nat} {K : Nat → List (List Nat)} (a : 1 ≤ c) (b : c ≤ 4) : fz_rs c (fz_gl e K) = K c := by
  have h0 : fz_rs c (if e = 0 then [] else [[]]) = [] := by by_cases h : e = 0 <;> simp [h, fz_rs]
  rw [fz_gl4, fz_rs_app, fz_rs_app, fz_rs_app, fz_rs_app, fz_rs_app, fz_rs_map, fz_rs_map, fz_rs_map, fz_rs_map, h0]
  have h : c = 1 ∨ c = 2 ∨ c = 3 ∨ c = 4 := by omega
  rcases h with rfl | rfl | rfl | rfl <;> simp [fz_rs]
theorem fz_gl_nil {e : Nat} {K : Nat → List (List Nat)} : [] ∈ fz_gl e K ↔ e ≠ 0 := by
  rw [fz_gl4]; by_cases h : e = 0 <;> simp [h]
theorem fz_gl_cons {e c : Nat} {t : List Nat} {K : Nat → List (List Nat)} (a : 1 ≤ c) (b : c ≤ 4) : (c :: t) ∈ fz_gl e K ↔ t ∈ K c := by
  rw [← fz_mem_rs, fz_rs_gl a b]
theorem fz_gl_hd {e c : Nat} {t : List Nat} {K : Nat → List (List Nat)} (h : (c :: t) ∈ fz_gl e K) : 1 ≤ c ∧ c ≤ 4 := by
  rw [fz_gl4] at h
  by_cases z : e = 0 <;> simp [z] at h <;> omega
theorem fz_gl_len (e : Nat) (K : Nat → List (List Nat)) : (fz_gl e K).length = (if e = 0 then 0 else 1) + ((K 1).length + (K 2).length + (K 3).length + (K 4).length) := by
  rw [fz_gl4]; by_cases z : e = 0 <;> simp [z] <;> omega
theorem fz_eb_gl {e : Nat} {K : Nat → List (List Nat)} (h : e ≤ 1) : fz_eb (fz_gl e K) = e := by
  unfold fz_eb
  by_cases z : e = 0
  · rw [if_neg (fun m => fz_gl_nil.mp m z)]; omega
  · rw [if_pos (fz_gl_nil.mpr z)]; omega
theorem fz_eb_le (D : List (List Nat)) : fz_eb D ≤ 1 := by unfold fz_eb; split <;> omega
theorem fz_eb_ne {D : List (List Nat)} : fz_eb D ≠ 0 ↔ [] ∈ D := by unfold fz_eb; split <;> simp_all

theorem fz_lx_irr : ∀ a : List Nat, fz_lx a a = false
  | [] => rfl
  | x :: s => by simp [fz_lx, fz_lx_irr s]
theorem fz_lx_tr : ∀ {a b c : List Nat}, fz_lx a b = true → fz_lx b c = true → fz_lx a c = true
  | _, [], _, h, _ => by simp [fz_lx] at h
  | _, _ :: _, [], _, h => by simp [fz_lx] at h
  | [], _ :: _, _ :: _, _, _ => rfl
  | x :: s, y :: t, z :: u, h, g => by
    simp [fz_lx] at h g ⊢
    rcases h with h | ⟨h, h'⟩ <;> rcases g with g | ⟨g, g'⟩
    · left; omega
    · left; omega
    · left; omega
    · right; exact ⟨by omega, fz_lx_tr h' g'⟩
theorem fz_lx_tot : ∀ {a b : List Nat}, fz_lx a b = false → fz_lx b a = false → a = b
  | [], [], _, _ => rfl
  | [], _ :: _, h, _ => by simp [fz_lx] at h
  | _ :: _, [], _, h => by simp [fz_lx] at h
  | x :: s, y :: t, h, g => by
    simp [fz_lx] at h g
    have e : x = y := by omega
    subst e
    rw [fz_lx_tot (h.2 rfl) (g.2 rfl)]
theorem fz_lx_as {a b : List Nat} (h : fz_lx a b = true) : ¬ fz_lx b a = true := fun g => by
  have := fz_lx_tr h g
  rw [fz_lx_irr] at this
  cases this
theorem fz_lx_app : ∀ r t : List Nat, fz_lx (r ++ t) r = false
  | [], t => by cases t <;> rfl
  | x :: r, t => by simp [fz_lx, fz_lx_app r t]
theorem fz_lx_app' : ∀ (r : List Nat) {t : List Nat}, t ≠ [] → fz_lx r (r ++ t) = true
  | [], [], h => absurd rfl h
  | [], _ :: _, _ => rfl
  | x :: r, t, h => by simp [fz_lx, fz_lx_app' r h]
theorem fz_lx_pf : ∀ {r w : List Nat} (t : List Nat), fz_lx r w = true → w.take r.length ≠ r → fz_lx (r ++ t) w = true
  | [], w, _, _, h => absurd (by simp) h
  | a :: r, [], _, h, _ => by simp [fz_lx] at h
  | a :: r, b :: w, t, h, g => by
    simp [fz_lx] at h g ⊢
    rcases h with h | ⟨h, h'⟩
    · left; exact h
    · right; exact ⟨h, fz_lx_pf t h' (g h.symm)⟩
theorem fz_uniqR {α : Type} {R : α → α → Prop} (as : ∀ a b, R a b → ¬ R b a) : ∀ {A B : List α}, A.Pairwise R → B.Pairwise R → (∀ x, x ∈ A ↔ x ∈ B) → A = B
  | [], [], _, _, _ => rfl
  | [], b :: B, _, _, h => absurd ((h b).mpr (List.mem_cons_self ..)) (by simp)
  | a :: A, [], _, _, h => absurd ((h a).mp (List.mem_cons_self ..)) (by simp)
  | a :: A, b :: B, hA, hB, h => by
    rw [List.pairwise_cons] at hA hB
    have ab : a = b := by
      rcases List.mem_cons.mp ((h a).mp (List.mem_cons_self ..)) with e | m
      · exact e
      · rcases List.mem_cons.mp ((h b).mpr (List.mem_cons_self ..)) with e | m'
        · exact e.symm
        · exact absurd (hA.1 b m') (as _ _ (hB.1 a m))
    subst ab
    have hh : ∀ x, x ∈ A ↔ x ∈ B := by
      intro x
      constructor
      · intro m
        rcases List.mem_cons.mp ((h x).mp (List.mem_cons_of_mem _ m)) with e | m'
        · subst e; exact absurd (hA.1 _ m) (as _ _ (hA.1 _ m))
        · exact m'
      · intro m
        rcases List.mem_cons.mp ((h x).mpr (List.mem_cons_of_mem _ m)) with e | m'
        · subst e; exact absurd (hB.1 _ m) (as _ _ (hB.1 _ m))
        · exact m'
    rw [fz_uniqR as hA.2 hB.2 hh]
theorem fz_uniq {A B : List (List Nat)} (hA : fz_sv A) (hB : fz_sv B) (h : ∀ x, x ∈ A ↔ x ∈ B) : A = B :=
  fz_uniqR (fun _ _ g => fz_lx_as g) hA.1 hB.1 h
theorem fz_sv_nil : fz_sv [] := ⟨List.Pairwise.nil, fun _ h => absurd h (by simp)⟩
theorem fz_sv_app {A B : List (List Nat)} (hA : fz_sv A) (hB : fz_sv B) (h : ∀ a, a ∈ A → ∀ b, b ∈ B → fz_lx a b = true) : fz_sv (A ++ B) :=
  ⟨List.pairwise_append.mpr ⟨hA.1, hB.1, h⟩, fun w m => (List.mem_append.mp m).elim (hA.2 w) (hB.2 w)⟩
theorem fz_sv_map {c : Nat} {A : List (List Nat)} (a : 1 ≤ c) (b : c ≤ 4) (h : fz_sv A) : fz_sv (A.map (fun t => c :: t)) := by
  refine ⟨List.pairwise_map.mpr (h.1.imp fun {x y} g => by simp [fz_lx, g]), fun w m => ?_⟩
  obtain ⟨t, ht, rfl⟩ := List.mem_map.mp m
  intro x hx
  rcases List.mem_cons.mp hx with e | e
  · subst e; exact ⟨a, b⟩
  · exact h.2 t ht x e
theorem fz_sv_gt {K : Nat → List (List Nat)} (h : ∀ c, 1 ≤ c → c ≤ 4 → fz_sv (K c)) : ∀ j, j ≤ 4 → fz_sv (fz_gt K j) ∧ ∀ w, w ∈ fz_gt K j → ∃ c t, w = c :: t ∧ 4 < c + j
  | 0, _ => ⟨fz_sv_nil, fun _ m => absurd m (by simp [fz_gt])⟩
  | j + 1, hj => by
    obtain ⟨i1, i2⟩ := fz_sv_gt h j (by omega)
    refine ⟨fz_sv_app (fz_sv_map (by omega) (by omega) (h (4 - j) (by omega) (by omega))) i1 ?_, ?_⟩
    · intro a ha b hb
      obtain ⟨t, ht, rfl⟩ := List.mem_map.mp ha
      obtain ⟨c, s, rfl, hc⟩ := i2 b hb
      simp only [fz_lx, Bool.or_eq_true, decide_eq_true_eq]
      left; omega
    · intro w m
      rcases List.mem_append.mp m with m | m
      · obtain ⟨t, ht, rfl⟩ := List.mem_map.mp m
        exact ⟨_, _, rfl, by omega⟩
      · obtain ⟨c, s, rfl, hc⟩ := i2 w m
        exact ⟨_, _, rfl, by omega⟩
theorem fz_sv_gl {e : Nat} {K : Nat → List (List Nat)} (h : ∀ c, 1 ≤ c → c ≤ 4 → fz_sv (K c)) : fz_sv (fz_gl e K) := by
  obtain ⟨i1, i2⟩ := fz_sv_gt h 4 (by omega)
  unfold fz_gl
  by_cases z : e = 0
  · rw [if_pos z]; exact i1
  · rw [if_neg z]
    refine fz_sv_app ⟨List.pairwise_singleton _ _, ?_⟩ i1 ?_
    · intro w m
      rw [List.mem_singleton.mp m]
      exact fun _ h => absurd h (by simp)
    · intro a ha b hb
      rw [List.mem_singleton.mp ha]
      obtain ⟨c, s, rfl, hc⟩ := i2 b hb
      rfl
theorem fz_sv_tl {w : List Nat} {D : List (List Nat)} (h : fz_sv (w :: D)) : fz_sv D := ⟨(List.pairwise_cons.mp h.1).2, fun v m => h.2 v (List.mem_cons_of_mem _ m)⟩
theorem fz_sv_rs {c : Nat} : ∀ {D : List (List Nat)}, fz_sv D → fz_sv (fz_rs c D)
  | [], _ => fz_sv_nil
  | [] :: D, h => fz_sv_rs (D := D) (fz_sv_tl h)
  | (x :: t) :: D, h => by
    have ih := fz_sv_rs (c := c) (D := D) (fz_sv_tl h)
    by_cases z : x = c
    · subst z
      simp only [fz_rs, if_true]
      refine ⟨List.pairwise_cons.mpr ⟨fun s m => ?_, ih.1⟩, fun w m => ?_⟩
      · have := (List.pairwise_cons.mp h.1).1 _ (fz_mem_rs.mp m)
        simpa [fz_lx] using this
      · rcases List.mem_cons.mp m with e | m
        · subst e
          exact fun y hy => h.2 _ (List.mem_cons_self ..) y (List.mem_cons_of_mem _ hy)
        · exact ih.2 w m
    · simp only [fz_rs, if_neg z]
      exact ih
theorem fz_gl_of {D : List (List Nat)} (h : fz_sv D) : D = fz_gl (fz_eb D) (fun c => fz_rs c D) := by
  refine fz_uniq h (fz_sv_gl fun c _ _ => fz_sv_rs h) ?_
  intro w
  cases w with
  | nil => rw [fz_gl_nil, fz_eb_ne]
  | cons c t =>
    constructor
    · intro m
      have ⟨a, b⟩ := h.2 _ m c (List.mem_cons_self ..)
      rw [fz_gl_cons a b, fz_mem_rs]; exact m
    · intro m
      have ⟨a, b⟩ := fz_gl_hd m
      rw [fz_gl_cons a b, fz_mem_rs] at m; exact m
theorem fz_mem_rw {t : List Nat} : ∀ {p : List Nat} {D : List (List Nat)}, t ∈ fz_rw p D ↔ (p ++ t) ∈ D
  | [], D => Iff.rfl
  | c :: p, D => by
    show t ∈ fz_rw p (fz_rs c D) ↔ _
    rw [fz_mem_rw (p := p), fz_mem_rs]; rfl
theorem fz_sv_rw : ∀ {p : List Nat} {D : List (List Nat)}, fz_sv D → fz_sv (fz_rw p D)
  | [], _, h => h
  | _ :: p, _, h => fz_sv_rw (p := p) (fz_sv_rs h)
theorem fz_rw_app : ∀ (p q : List Nat) (D : List (List Nat)), fz_rw (p ++ q) D = fz_rw q (fz_rw p D)
  | [], _, _ => rfl
  | c :: p, q, D => fz_rw_app p q (fz_rs c D)
theorem fz_rw_nil : ∀ p : List Nat, fz_rw p [] = []
  | [] => rfl
  | _ :: p => fz_rw_nil p
/-! heights -/
theorem fz_hb_0 {D : List (List Nat)} (h : fz_hb 0 D) : D = [] := by
  cases D with
  | nil => rfl
  | cons w D => exact absurd (h w (List.mem_cons_self ..)) (by omega)
theorem fz_hb_rs {m c : Nat} {D : List (List Nat)} (h : fz_hb (m + 1) D) : fz_hb m (fz_rs c D) := fun w hw => by
  have := h _ (fz_mem_rs.mp hw)
  simp only [List.length_cons] at this
  omega
theorem fz_hb_rw : ∀ {p : List Nat} {m : Nat} {D : List (List Nat)}, fz_hb (m + p.length) D → fz_hb m (fz_rw p D)
  | [], _, _, h => h
  | c :: p, m, D, h => fz_hb_rw (p := p) (fz_hb_rs (m := m + p.length) h)
/-! counts -/
theorem fz_cb_nil (D : List (List Nat)) : fz_cb [] D = 0 := by
  unfold fz_cb
  rw [List.countP_eq_zero]
  intro w _
  cases w <;> simp [fz_lx]
theorem fz_cb_0 (r : List Nat) : fz_cb r [] = 0 := rfl
theorem fz_cb_map (c d : Nat) (r : List Nat) (A : List (List Nat)) : (A.map (fun t => d :: t)).countP (fun w => fz_lx w (c :: r)) = if d < c then A.length else if d = c then fz_cb r A else 0 := by
  rw [List.countP_map]
  by_cases h : d < c
  · rw [if_pos h, List.countP_eq_length]
    intro t _
    simp [fz_lx, h]
  · rw [if_neg h]
    by_cases e : d = c
    · rw [if_pos e]
      unfold fz_cb
      apply List.countP_congr
      intro t _
      simp [fz_lx, e]
    · rw [if_neg e, List.countP_eq_zero]
      intro t _
      simp [fz_lx]
      omega
def fz_sl (K : Nat → List (List Nat)) : Nat → Nat
  | 0 => 0
  | 1 => 0
  | l + 2 => fz_sl K (l + 1) + (K (l + 1)).length
theorem fz_cb_gl {e c : Nat} {r : List Nat} {K : Nat → List (List Nat)} (a : 1 ≤ c) (b : c ≤ 4) : fz_cb (c :: r) (fz_gl e K) = (if e = 0 then 0 else 1) + fz_sl K c + fz_cb r (K c) := by
  have h0 : (if e = 0 then ([] : List (List Nat)) else [[]]).countP (fun w => fz_lx w (c :: r)) = if e = 0 then 0 else 1 := by by_cases h : e = 0 <;> simp [h, fz_lx]
  unfold fz_cb
  rw [fz_gl4, List.countP_append, List.countP_append, List.countP_append, List.countP_append, List.countP_append, fz_cb_map, fz_cb_map, fz_cb_map, fz_cb_map, h0]
  have h : c = 1 ∨ c = 2 ∨ c = 3 ∨ c = 4 := by omega
  rcases h with rfl | rfl | rfl | rfl <;> simp [fz_sl, fz_cb] <;> omega
theorem fz_cm_map {c e : Nat} {K : Nat → List (List Nat)} (A : List (List Nat)) (a : 1 ≤ c) (b : c ≤ 4) : (A.map (fun t => c :: t)).countP (fun w => decide (w ∈ fz_gl e K)) = fz_cm A (K c) := by
  rw [List.countP_map]
  unfold fz_cm
  apply List.countP_congr
  intro t _
  simp [fz_gl_cons a b]
theorem fz_cm_gl (e e' : Nat) (K K' : Nat → List (List Nat)) : fz_cm (fz_gl e K) (fz_gl e' K') = (if e ≠ 0 ∧ e' ≠ 0 then 1 else 0) + (fz_cm (K 1) (K' 1) + fz_cm (K 2) (K' 2) + fz_cm (K 3) (K' 3) + fz_cm (K 4) (K' 4)) := by
  have h0 : (if e = 0 then ([] : List (List Nat)) else [[]]).countP (fun w => decide (w ∈ fz_gl e' K')) = if e ≠ 0 ∧ e' ≠ 0 then 1 else 0 := by
    by_cases h : e = 0
    · simp [h]
    · by_cases h' : e' = 0
      · simp [h, h', fz_gl_nil]
      · simp [h, h', fz_gl_nil]
  have e1 : fz_cm (fz_gl e K) (fz_gl e' K') = (fz_gl e K).countP (fun w => decide (w ∈ fz_gl e' K')) := rfl
  rw [e1, fz_gl4 e K, List.countP_append, List.countP_append, List.countP_append, List.countP_append, List.countP_append, fz_cm_map _ (by omega) (by omega), fz_cm_map _ (by omega) (by omega), fz_cm_map _ (by omega) (by omega), fz_cm_map _ (by omega) (by omega), h0, List.countP_nil]
  omega
theorem fz_cm_self (D : List (List Nat)) : fz_cm D D = D.length := by
  unfold fz_cm
  rw [List.countP_eq_length]
  intro w m
  simp [m]
theorem fz_cm_nil (D : List (List Nat)) : fz_cm D [] = 0 := by
  unfold fz_cm
  rw [List.countP_eq_zero]
  intro w m
  simp
theorem fz_cm_le (D E : List (List Nat)) : fz_cm D E ≤ D.length := List.countP_le_length
/-! a change of one word -/
theorem fz_chg_sv {b : Nat} : ∀ {r : List Nat} {D : List (List Nat)}, fz_sv D → fz_sv (fz_chg b r D)
  | [], _, h => fz_sv_gl fun _ _ _ => fz_sv_rs h
  | c :: r, D, h => by
    refine fz_sv_gl fun x _ _ => ?_
    by_cases z : x = c
    · simp only [z, if_true]; exact fz_chg_sv (fz_sv_rs h)
    · simp only [if_neg z]; exact fz_sv_rs h
theorem fz_chg_mem {b : Nat} : ∀ {w : List Nat} {D : List (List Nat)} {x : List Nat}, fz_sv D → fz_lw w → (x ∈ fz_chg b w D ↔ (x = w ∧ b ≠ 0) ∨ (x ≠ w ∧ x ∈ D))
  | [], D, x, h, _ => by
    cases x with
    | nil => simp [fz_chg, fz_gl_nil]
    | cons c t =>
      simp only [fz_chg]
      constructor
      · intro m
        have ⟨a, b⟩ := fz_gl_hd m
        rw [fz_gl_cons a b, fz_mem_rs] at m
        exact Or.inr ⟨by simp, m⟩
      · intro m
        rcases m with ⟨m, _⟩ | ⟨_, m⟩
        · cases m
        · have ⟨a, b⟩ := h.2 _ m c (List.mem_cons_self ..)
          rw [fz_gl_cons a b, fz_mem_rs]; exact m
  | d :: r, D, x, h, hw => by
    have hd := hw d (List.mem_cons_self ..)
    have hr : fz_lw r := fun c m => hw c (List.mem_cons_of_mem _ m)
    cases x with
    | nil => simp [fz_chg, fz_gl_nil, fz_eb_ne]
    | cons c t =>
      have ih := fz_chg_mem (b := b) (w := r) (D := fz_rs d D) (x := t) (fz_sv_rs h) hr
      simp only [fz_chg]
      by_cases z : c = d
      · subst z
        rw [fz_gl_cons hd.1 hd.2]
        simp only [if_true]
        rw [ih, fz_mem_rs]
        simp
      · constructor
        · intro m
          have ⟨a, b⟩ := fz_gl_hd m
          rw [fz_gl_cons a b] at m
          simp only [if_neg z] at m
          rw [fz_mem_rs] at m
          exact Or.inr ⟨by simp [z], m⟩
        · intro m
          rcases m with ⟨m, _⟩ | ⟨_, m⟩
          · simp at m; exact absurd m.1 z
          · have ⟨a, b⟩ := h.2 _ m c (List.mem_cons_self ..)
            rw [fz_gl_cons a b]
            simp only [if_neg z]
            rw [fz_mem_rs]; exact m
theorem fz_sv_sub {A B : List (List Nat)} (h : fz_sv B) (s : A.Sublist B) : fz_sv A := ⟨h.1.sublist s, fun w m => h.2 w (s.subset m)⟩
theorem fz_split {D : List (List Nat)} (r : List Nat) (h : fz_sv D) : D = D.filter (fun w => fz_lx w r) ++ D.filter (fun w => !fz_lx w r) := by
  refine fz_uniq h (fz_sv_app (fz_sv_sub h List.filter_sublist) (fz_sv_sub h List.filter_sublist) ?_) ?_
  · intro a ha b hb
    have a2 := (List.mem_filter.mp ha).2
    have b2 := (List.mem_filter.mp hb).2
    simp only [Bool.not_eq_true'] at b2
    by_cases e : r = b
    · rw [← e]; exact a2
    · refine fz_lx_tr a2 ?_
      cases hh : fz_lx r b with
      | true => rfl
      | false => exact absurd (fz_lx_tot hh b2) e
  · intro x
    rw [List.mem_append, List.mem_filter, List.mem_filter]
    cases fz_lx x r <;> simp
theorem fz_cb_len (r : List Nat) (D : List (List Nat)) : (D.filter (fun w => fz_lx w r)).length = fz_cb r D := by
  unfold fz_cb; rw [List.countP_eq_length_filter]
theorem fz_take {D : List (List Nat)} (r : List Nat) (h : fz_sv D) : D.take (fz_cb r D) = D.filter (fun w => fz_lx w r) := by
  have := fz_split r h
  rw [← fz_cb_len]
  conv => lhs; arg 2; rw [this]
  exact List.take_left
theorem fz_drop {D : List (List Nat)} (r : List Nat) (h : fz_sv D) : D.drop (fz_cb r D) = D.filter (fun w => !fz_lx w r) := by
  have := fz_split r h
  rw [← fz_cb_len]
  conv => lhs; arg 2; rw [this]
  exact List.drop_left
theorem fz_ins {D : List (List Nat)} {w : List Nat} (h : fz_sv D) (hw : fz_lw w) (hn : ¬ w ∈ D) : fz_chg 1 w D = D.take (fz_cb w D) ++ w :: D.drop (fz_cb w D) := by
  refine fz_uniq (fz_chg_sv h) ?_ ?_
  · rw [fz_take w h, fz_drop w h]
    refine fz_sv_app (fz_sv_sub h List.filter_sublist) ⟨List.pairwise_cons.mpr ⟨?_, (fz_sv_sub h List.filter_sublist).1⟩, ?_⟩ ?_
    · intro b hb
      have b1 := List.mem_filter.mp hb
      have b2 := b1.2
      simp only [Bool.not_eq_true'] at b2
      cases hh : fz_lx w b with
      | true => rfl
      | false => exact absurd b1.1 (fz_lx_tot hh b2 ▸ hn)
    · intro v m
      rcases List.mem_cons.mp m with e | m
      · rw [e]; exact hw
      · exact h.2 v (List.mem_filter.mp m).1
    · intro a ha b hb
      have a2 := (List.mem_filter.mp ha).2
      rcases List.mem_cons.mp hb with e | m
      · rw [e]; exact a2
      · have b2 := (List.mem_filter.mp m).2
        simp only [Bool.not_eq_true'] at b2
        by_cases e : w = b
        · rw [← e]; exact a2
        · refine fz_lx_tr a2 ?_
          cases hh : fz_lx w b with
          | true => rfl
          | false => exact absurd (fz_lx_tot hh b2) e
  · intro x
    rw [fz_chg_mem h hw, List.mem_append, List.mem_cons]
    have e := List.take_append_drop (fz_cb w D) D
    constructor
    · rintro (⟨m, _⟩ | ⟨_, m⟩)
      · exact Or.inr (Or.inl m)
      · rw [← e, List.mem_append] at m
        exact m.elim Or.inl (fun m => Or.inr (Or.inr m))
    · intro m
      by_cases z : x = w
      · exact Or.inl ⟨z, by decide⟩
      · refine Or.inr ⟨z, ?_⟩
        rcases m with m | m | m
        · exact List.mem_of_mem_take m
        · exact absurd m z
        · exact List.mem_of_mem_drop m
theorem fz_at {D : List (List Nat)} {w : List Nat} (h : fz_sv D) (hm : w ∈ D) : D.drop (fz_cb w D) = w :: D.drop (fz_cb w D + 1) := by
  have e0 := fz_drop w h
  have sd : fz_sv (D.drop (fz_cb w D)) := fz_sv_sub h (List.drop_sublist ..)
  have md : w ∈ D.drop (fz_cb w D) := by
    rw [e0, List.mem_filter]
    exact ⟨hm, by rw [fz_lx_irr]; rfl⟩
  cases hh : D.drop (fz_cb w D) with
  | nil => rw [hh] at md; exact absurd md (by simp)
  | cons a T =>
    have eT : D.drop (fz_cb w D + 1) = T := by
      rw [← List.drop_drop, hh]; rfl
    rw [eT]
    rw [hh] at md sd
    rcases List.mem_cons.mp md with e | m
    · rw [e]
    · have l1 := (List.pairwise_cons.mp sd.1).1 w m
      have ma : a ∈ D.drop (fz_cb w D) := by rw [hh]; exact List.mem_cons_self ..
      rw [e0, List.mem_filter] at ma
      rw [l1] at ma
      exact absurd ma.2 (by decide)
theorem fz_cb_lt {D : List (List Nat)} {w : List Nat} (h : fz_sv D) (hm : w ∈ D) : fz_cb w D < D.length := by
  have := congrArg List.length (fz_at h hm)
  simp only [List.length_drop, List.length_cons] at this
  omega
theorem fz_del {D : List (List Nat)} {w : List Nat} (h : fz_sv D) (hm : w ∈ D) : fz_chg 0 w D = D.take (fz_cb w D) ++ D.drop (fz_cb w D + 1) := by
  have ea := fz_at h hm
  have hs : D = D.take (fz_cb w D) ++ w :: D.drop (fz_cb w D + 1) := by
    rw [← ea, List.take_append_drop]
  have sl : (D.take (fz_cb w D) ++ D.drop (fz_cb w D + 1)).Sublist D := by
    conv => rhs; rw [hs]
    exact List.Sublist.append (List.Sublist.refl _) (List.sublist_cons_self ..)
  refine fz_uniq (fz_chg_sv h) (fz_sv_sub h sl) ?_
  intro x
  rw [fz_chg_mem h (h.2 w hm)]
  constructor
  · rintro (⟨_, m⟩ | ⟨z, m⟩)
    · exact absurd rfl m
    · rw [hs, List.mem_append, List.mem_cons] at m
      rw [List.mem_append]
      rcases m with m | m | m
      · exact Or.inl m
      · exact absurd m z
      · exact Or.inr m
  · intro m
    refine Or.inr ⟨?_, sl.subset m⟩
    intro z
    subst z
    have p := h.1
    rw [hs, List.pairwise_append, List.pairwise_cons] at p
    rcases List.mem_append.mp m with m | m
    · have := p.2.2 x m x (List.mem_cons_self ..)
      rw [fz_lx_irr] at this; cases this
    · have := p.2.1.1 x m
      rw [fz_lx_irr] at this; cases this
/-! the block of words that begin with a row -/
theorem fz_pf_iff {r w : List Nat} : w.take r.length = r ↔ ∃ t, w = r ++ t := by
  constructor
  · intro h
    refine ⟨w.drop r.length, ?_⟩
    conv => lhs; rw [← List.take_append_drop r.length w, h]
  · rintro ⟨t, rfl⟩
    exact List.take_left
theorem fz_block {D : List (List Nat)} (r : List Nat) (h : fz_sv D) : ∃ A C, D = A ++ ((fz_rw r D).map (fun t => r ++ t) ++ C) ∧ A.length = fz_cb r D ∧ (∀ w, w ∈ A → w.take r.length ≠ r) ∧ (∀ w, w ∈ C → w.take r.length ≠ r) := by
  have pA : ∀ w, fz_lx w r = true → w.take r.length ≠ r := by
    intro w hl e
    obtain ⟨t, rfl⟩ := fz_pf_iff.mp e
    rw [fz_lx_app] at hl; cases hl
  refine ⟨D.filter (fun w => fz_lx w r), D.filter (fun w => !fz_lx w r && decide (w.take r.length ≠ r)), ?_, fz_cb_len r D, ?_, ?_⟩
  · have svM : fz_sv ((fz_rw r D).map (fun t => r ++ t)) := by
      have q := fz_sv_rw (p := r) h
      refine ⟨List.pairwise_map.mpr (q.1.imp fun {x y} g => ?_), ?_⟩
      · clear pA
        induction r with
        | nil => exact g
        | cons a r ih =>
          have ih' : fz_lx (r ++ x) (r ++ y) = true := by
            clear ih q h
            induction r with
            | nil => exact g
            | cons b r ih => simp [fz_lx, ih]
          simp [fz_lx, ih']
      · intro w m
        obtain ⟨t, ht, rfl⟩ := List.mem_map.mp m
        exact h.2 _ (fz_mem_rw.mp ht)
    refine fz_uniq h (fz_sv_app (fz_sv_sub h List.filter_sublist) (fz_sv_app svM (fz_sv_sub h List.filter_sublist) ?_) ?_) ?_
    · intro a ha b hb
      obtain ⟨t, ht, rfl⟩ := List.mem_map.mp ha
      have b2 := (List.mem_filter.mp hb).2
      simp only [Bool.and_eq_true, Bool.not_eq_true', decide_eq_true_eq] at b2
      refine fz_lx_pf t ?_ b2.2
      cases hh : fz_lx r b with
      | true => rfl
      | false =>
        have e := fz_lx_tot hh b2.1
        exact absurd (by rw [e]; simp) b2.2
    · intro a ha b hb
      have a2 := (List.mem_filter.mp ha).2
      rcases List.mem_append.mp hb with m | m
      · obtain ⟨t, ht, rfl⟩ := List.mem_map.mp m
        cases t with
        | nil => rw [List.append_nil]; exact a2
        | cons x t => exact fz_lx_tr a2 (fz_lx_app' r (by simp))
      · have b2 := (List.mem_filter.mp m).2
        simp only [Bool.and_eq_true, Bool.not_eq_true', decide_eq_true_eq] at b2
        refine fz_lx_tr a2 ?_
        cases hh : fz_lx r b with
        | true => rfl
        | false =>
          have e := fz_lx_tot hh b2.1
          exact absurd (by rw [e]; simp) b2.2
    · intro x
      rw [List.mem_append, List.mem_append, List.mem_filter, List.mem_filter, List.mem_map]
      constructor
      · intro m
        cases hl : fz_lx x r with
        | true => exact Or.inl ⟨m, rfl⟩
        | false =>
          by_cases e : x.take r.length = r
          · obtain ⟨t, rfl⟩ := fz_pf_iff.mp e
            exact Or.inr (Or.inl ⟨t, fz_mem_rw.mpr m, rfl⟩)
          · exact Or.inr (Or.inr ⟨m, by simp [e]⟩)
      · rintro (⟨m, _⟩ | ⟨t, m, rfl⟩ | ⟨m, _⟩)
        · exact m
        · exact fz_mem_rw.mp m
        · exact m
  · intro w m
    exact pA w (List.mem_filter.mp m).2
  · intro w m
    have b2 := (List.mem_filter.mp m).2
    simp only [Bool.and_eq_true, decide_eq_true_eq] at b2
    exact b2.2
theorem fz_cpf {D : List (List Nat)} (r : List Nat) (h : fz_sv D) : D.countP (fun w => decide (w.take r.length = r)) = (fz_rw r D).length := by
  obtain ⟨A, C, e, _, hA, hC⟩ := fz_block r h
  conv => lhs; rw [e]
  rw [List.countP_append, List.countP_append, List.countP_map]
  have z1 : A.countP (fun w => decide (w.take r.length = r)) = 0 := by
    rw [List.countP_eq_zero]; intro w m; simp [hA w m]
  have z2 : C.countP (fun w => decide (w.take r.length = r)) = 0 := by
    rw [List.countP_eq_zero]; intro w m; simp [hC w m]
  have z3 : (fz_rw r D).countP ((fun w => decide (w.take r.length = r)) ∘ (fun t => r ++ t)) = (fz_rw r D).length := by
    rw [List.countP_eq_length]; intro w _; simp
  rw [z1, z2, z3]; omega
end
section
/-! words as numbers -/
def fz_en : List Nat → Nat
  | [] => 0
  | c :: t => c * 5 ^ t.length + fz_en t
theorem fz_en_app : ∀ a b : List Nat, fz_en (a ++ b) = fz_en a * 5 ^ b.length + fz_en b
  | [], b => by simp [fz_en]
  | c :: a, b => by
    simp only [List.cons_append, fz_en, fz_en_app a b, List.length_append, Nat.pow_add, Nat.add_mul, Nat.mul_assoc]
    omega
theorem fz_en_snoc (a : List Nat) (c : Nat) : fz_en (a ++ [c]) = 5 * fz_en a + c := by
  rw [fz_en_app]; simp [fz_en]; omega
theorem fz_lw_nil : fz_lw [] := fun _ h => absurd h (by simp)
theorem fz_lw_tl {c : Nat} {w : List Nat} (h : fz_lw (c :: w)) : fz_lw w := fun d m => h d (List.mem_cons_of_mem _ m)
theorem fz_lw_hd {c : Nat} {w : List Nat} (h : fz_lw (c :: w)) : 1 ≤ c ∧ c ≤ 4 := h c (List.mem_cons_self ..)
theorem fz_lw_cons {c : Nat} {w : List Nat} (a : 1 ≤ c) (b : c ≤ 4) (h : fz_lw w) : fz_lw (c :: w) := fun d m => by
  rcases List.mem_cons.mp m with e | m
  · subst e; exact ⟨a, b⟩
  · exact h d m
theorem fz_lw_app {a b : List Nat} : fz_lw (a ++ b) ↔ fz_lw a ∧ fz_lw b := by
  constructor
  · intro h
    exact ⟨fun c m => h c (List.mem_append.mpr (Or.inl m)), fun c m => h c (List.mem_append.mpr (Or.inr m))⟩
  · rintro ⟨h, g⟩ c m
    exact (List.mem_append.mp m).elim (h c) (g c)
theorem fz_lw_take {w : List Nat} (k : Nat) (h : fz_lw w) : fz_lw (w.take k) := fun c m => h c (List.mem_of_mem_take m)
theorem fz_lw_drop {w : List Nat} (k : Nat) (h : fz_lw w) : fz_lw (w.drop k) := fun c m => h c (List.mem_of_mem_drop m)
theorem fz_p5 (n : Nat) : 0 < 5 ^ n := Nat.pow_pos (by decide)
theorem fz_en_lt : ∀ {w : List Nat}, fz_lw w → fz_en w < 5 ^ w.length
  | [], _ => by simp [fz_en]
  | c :: t, h => by
    have i := fz_en_lt (fz_lw_tl h)
    have hc := (fz_lw_hd h).2
    have hm := Nat.mul_le_mul_right (5 ^ t.length) hc
    simp only [fz_en, List.length_cons, Nat.pow_succ]
    omega
theorem fz_pow_le {a b : Nat} (h : a ≤ b) : 5 ^ a ≤ 5 ^ b := Nat.pow_le_pow_right (by decide) h
theorem fz_en_5 {w : List Nat} (h : fz_lw w) (h5 : w.length ≤ 5) : fz_en w < 3125 := Nat.lt_of_lt_of_le (fz_en_lt h) (fz_pow_le (b := 5) h5)
theorem fz_en_pos {w : List Nat} (h : fz_lw w) (h0 : w ≠ []) : 0 < fz_en w := by
  cases w with
  | nil => exact absurd rfl h0
  | cons c t =>
    have := (fz_lw_hd h).1
    have := Nat.mul_le_mul_right (5 ^ t.length) this
    have := fz_p5 t.length
    simp only [fz_en]; omega
def fz_dg : Nat → Nat → List Nat
  | 0, _ => []
  | f + 1, x => if x = 0 then [] else fz_dg f (x / 5) ++ [x % 5]
theorem fz_dg_len : ∀ f x : Nat, (fz_dg f x).length ≤ f
  | 0, _ => by simp [fz_dg]
  | f + 1, x => by
    have := fz_dg_len f (x / 5)
    by_cases h : x = 0
    · simp [fz_dg, h]
    · simp [fz_dg, h]; omega
theorem fz_dg_5 : ∀ (f x c : Nat), c ∈ fz_dg f x → c < 5
  | 0, _, _, h => by simp [fz_dg] at h
  | f + 1, x, c, h => by
    by_cases z : x = 0
    · simp [fz_dg, z] at h
    · simp only [fz_dg, if_neg z, List.mem_append, List.mem_singleton] at h
      rcases h with h | h
      · exact fz_dg_5 f _ c h
      · omega
theorem fz_en_dg : ∀ f x : Nat, x < 5 ^ f → fz_en (fz_dg f x) = x
  | 0, x, h => by
    have : x = 0 := by simpa using h
    simp [fz_dg, fz_en, this]
  | f + 1, x, h => by
    by_cases z : x = 0
    · simp [fz_dg, z, fz_en]
    · simp only [fz_dg, if_neg z]
      rw [fz_en_snoc, fz_en_dg f (x / 5) (by rw [Nat.pow_succ] at h; omega)]
      omega
theorem fz_snoc {w : List Nat} (h : w ≠ []) : ∃ v c, w = v ++ [c] := by
  rcases List.eq_nil_or_concat w with e | ⟨v, c, e⟩
  · exact absurd e h
  · exact ⟨v, c, by rw [e, List.concat_eq_append]⟩
theorem fz_dg_en : ∀ (f : Nat) (w : List Nat), fz_lw w → w.length ≤ f → fz_dg f (fz_en w) = w
  | 0, w, _, h => by
    have : w = [] := List.eq_nil_of_length_eq_zero (by omega)
    subst this; rfl
  | f + 1, w, hw, h => by
    by_cases z : w = []
    · subst z; simp [fz_en, fz_dg]
    · obtain ⟨v, c, rfl⟩ := fz_snoc z
      have ⟨h1, h2⟩ := fz_lw_app.mp hw
      have hc := fz_lw_hd h2
      simp only [List.length_append, List.length_cons, List.length_nil] at h
      rw [fz_en_snoc]
      simp only [fz_dg, if_neg (show ¬ 5 * fz_en v + c = 0 by omega)]
      rw [show (5 * fz_en v + c) / 5 = fz_en v by omega, show (5 * fz_en v + c) % 5 = c by omega, fz_dg_en f v h1 (by omega)]
theorem fz_en_inj {w v : List Nat} (hw : fz_lw w) (hv : fz_lw v) (h : fz_en w = fz_en v) : w = v := by
  rw [← fz_dg_en (w.length + v.length) w hw (by omega), h, fz_dg_en (w.length + v.length) v hv (by omega)]
theorem fz_en_div {a b : List Nat} (hb : fz_lw b) : fz_en (a ++ b) / 5 ^ b.length = fz_en a := by
  rw [fz_en_app, Nat.mul_comm, Nat.mul_add_div (fz_p5 _), Nat.div_eq_of_lt (fz_en_lt hb)]; rfl
theorem fz_en_mod {a b : List Nat} (hb : fz_lw b) : fz_en (a ++ b) % 5 ^ b.length = fz_en b := by
  rw [fz_en_app, Nat.mul_comm, Nat.mul_add_mod, Nat.mod_eq_of_lt (fz_en_lt hb)]
theorem fz_en_take {w : List Nat} (h : fz_lw w) {k : Nat} (hk : k ≤ w.length) : fz_en w / 5 ^ (w.length - k) = fz_en (w.take k) := by
  have := fz_en_div (a := w.take k) (b := w.drop k) (fz_lw_drop k h)
  rw [List.take_append_drop, List.length_drop] at this
  exact this
theorem fz_en_drop {w : List Nat} (h : fz_lw w) {k : Nat} : fz_en w % 5 ^ (w.length - k) = fz_en (w.drop k) := by
  have := fz_en_mod (a := w.take k) (b := w.drop k) (fz_lw_drop k h)
  rw [List.take_append_drop, List.length_drop] at this
  exact this
theorem fz_en_get {w : List Nat} (h : fz_lw w) {k : Nat} (hk : k < w.length) : fz_en w / 5 ^ (w.length - 1 - k) % 5 = w.getD k 0 := by
  have e : w.take (k + 1) = w.take k ++ [w.getD k 0] := by
    rw [List.take_add_one, List.getElem?_eq_getElem hk, List.getD_eq_getElem?_getD, List.getElem?_eq_getElem hk]; rfl
  have hc : w.getD k 0 ≤ 4 := by
    rw [List.getD_eq_getElem?_getD, List.getElem?_eq_getElem hk]
    exact (h _ (List.getElem_mem hk)).2
  rw [show w.length - 1 - k = w.length - (k + 1) by omega, fz_en_take h (by omega), e, fz_en_snoc]
  omega
/-! keys: filled up to N digits -/
def fz_ke (N : Nat) (w : List Nat) : Nat := fz_en w * 5 ^ (N - w.length)
theorem fz_ke_cons {N c : Nat} {t : List Nat} : fz_ke (N + 1) (c :: t) = if t.length ≤ N then c * 5 ^ N + fz_ke N t else fz_ke (N + 1) (c :: t) := by
  by_cases h : t.length ≤ N
  · rw [if_pos h]
    unfold fz_ke
    simp only [fz_en, List.length_cons, show N + 1 - (t.length + 1) = N - t.length by omega, Nat.add_mul, Nat.mul_assoc, ← Nat.pow_add]
    rw [show t.length + (N - t.length) = N by omega]
  · rw [if_neg h]
theorem fz_ke_lt {N : Nat} {w : List Nat} (h : fz_lw w) (hN : w.length ≤ N) : fz_ke N w < 5 ^ N := by
  have a := fz_en_lt h
  have b := (Nat.mul_lt_mul_right (fz_p5 (N - w.length))).mpr a
  rw [← Nat.pow_add, show w.length + (N - w.length) = N by omega] at b
  exact b
theorem fz_ke_lx : ∀ {N : Nat} {w v : List Nat}, fz_lw w → fz_lw v → w.length ≤ N → v.length ≤ N → (fz_ke N w < fz_ke N v ↔ fz_lx w v = true)
  | N, w, [], _, _, _, _ => by simp [fz_ke, fz_en, fz_lx]
  | N, [], c :: t, _, hv, _, _ => by
    have := fz_en_pos hv (by simp)
    have := Nat.mul_pos this (fz_p5 (N - (c :: t).length))
    simp only [fz_lx, iff_true]
    unfold fz_ke
    simp only [fz_en, Nat.zero_mul]
    exact this
  | 0, _ :: _, _ :: _, _, _, h, _ => by simp at h
  | N + 1, c :: t, d :: s, hw, hv, h, g => by
    simp only [List.length_cons, Nat.add_le_add_iff_right] at h g
    rw [fz_ke_cons, if_pos h, fz_ke_cons, if_pos g]
    have ih := fz_ke_lx (N := N) (fz_lw_tl hw) (fz_lw_tl hv) h g
    have a := fz_ke_lt (fz_lw_tl hw) h
    have b := fz_ke_lt (fz_lw_tl hv) g
    simp only [fz_lx, Bool.or_eq_true, Bool.and_eq_true, decide_eq_true_eq]
    rcases Nat.lt_trichotomy c d with z | z | z
    · have m := Nat.mul_le_mul_right (5 ^ N) (show c + 1 ≤ d from z)
      rw [Nat.add_mul, Nat.one_mul] at m
      constructor
      · intro _; exact Or.inl z
      · intro _; omega
    · subst z
      rw [← ih]
      constructor
      · intro _; exact Or.inr ⟨rfl, by omega⟩
      · rintro (z | ⟨_, z⟩)
        · omega
        · omega
    · have m := Nat.mul_le_mul_right (5 ^ N) (show d + 1 ≤ c from z)
      rw [Nat.add_mul, Nat.one_mul] at m
      constructor
      · intro _; omega
      · rintro (z | ⟨z, _⟩) <;> omega
/-! rows that are words -/
def fz_row (x : Int32) (w : List Nat) : Prop := fz_lw w ∧ w.length ≤ 5 ∧ x = nI (fz_en w)
theorem fz_row_in {x : Int32} {w : List Nat} (h : fz_row x w) : ¬ x < 0 ∧ x < 3125 := by
  obtain ⟨h1, h2, rfl⟩ := h
  have := fz_en_5 h1 h2
  exact ⟨nI_pos (by omega), nI_lt (b := 3125) this (by decide)⟩
theorem fz_row_dg {j : Nat} (hj : j < 3125) : (∃ w, fz_row (nI j) w) ↔ ¬ 0 ∈ fz_dg 5 j := by
  constructor
  · rintro ⟨w, h1, h2, h3⟩ m
    have := fz_en_5 h1 h2
    have e : j = fz_en w := (nI_eq (by omega) (by omega)).mp h3
    rw [e, fz_dg_en 5 w h1 h2] at m
    have := (h1 0 m).1
    omega
  · intro h
    refine ⟨fz_dg 5 j, ?_, fz_dg_len 5 j, by rw [fz_en_dg 5 j hj]⟩
    intro c m
    have := fz_dg_5 5 j c m
    have : c ≠ 0 := fun e => h (e ▸ m)
    omega
theorem fz_row_un {x : Int32} {w v : List Nat} (h : fz_row x w) (g : fz_row x v) : w = v := by
  have a := fz_en_5 h.1 h.2.1
  have b := fz_en_5 g.1 g.2.1
  have e := h.2.2.symm.trans g.2.2
  rw [nI_eq (by omega) (by omega)] at e
  exact fz_en_inj h.1 g.1 e
end
section
/-! the reference's walks over numbers -/
theorem fz_n5 : ¬ (5 : Int32) = 0 := by decide
theorem fz_n7 : ¬ (7 : Int32) = 0 := by decide
theorem fz_y_len4 {post : Int32 → Prop} : ∀ (n : Nat) (w : List Nat) (a : Nat), fz_lw w → w.length ≤ 5 → w.length < n → post (nI (a + w.length)) → wY_length_4 post n (nI a) (nI (fz_en w))
  | 0, _, _, _, _, h, _ => by omega
  | n + 1, w, a, hw, h5, hn, hp => by
    by_cases z : w = []
    · subst z
      exact br_t (show nI 0 ≤ 0 by decide) hp
    · have b := fz_en_5 hw h5
      have pp := fz_en_pos hw z
      obtain ⟨v, c, rfl⟩ := fz_snoc z
      have ⟨h1, h2⟩ := fz_lw_app.mp hw
      have hc := fz_lw_hd h2
      have hl : (v ++ [c]).length = v.length + 1 := by simp
      rw [hl] at h5 hn hp
      have e5 : nI (fz_en (v ++ [c])) / 5 = nI (fz_en v) := by
        have := pk_div (a := fz_en (v ++ [c])) (d := 5) (by omega) (by omega) (by omega)
        rw [show (5 : Int32) = nI 5 from rfl, this, fz_en_snoc]
        exact congrArg nI (by omega)
      refine br_f (nI_nle pp (by omega)) (nm_r (nI_1 a) ⟨fz_n5, nm_r e5 ?_⟩)
      exact fz_y_len4 n v (a + 1) h1 (by omega) (by omega) (by rw [show a + 1 + v.length = a + (v.length + 1) by omega]; exact hp)
theorem fz_y_len {post : Int32 → Prop} {w : List Nat} (hw : fz_lw w) (h5 : w.length ≤ 5) (hp : post (nI w.length)) : wpY_length post (nI (fz_en w)) :=
  Exists.intro 6 (fz_y_len4 6 w 0 hw h5 (by omega) (by rw [Nat.zero_add]; exact hp))
theorem fz_y_pow4 {post : Int32 → Prop} {e : Nat} (he : e ≤ 12) (hp : post (nI (5 ^ e))) : ∀ (n k d : Nat), k + d = e → d < n → wY_power_4 post (nI e) n (nI (5 ^ k)) (nI k)
  | 0, _, _, _, h => by omega
  | n + 1, k, d, hk, hd => by
    by_cases z : d = 0
    · have : k = e := by omega
      subst this
      exact br_t (nI_le (Nat.le_refl k) (by omega)) hp
    · refine br_f (nI_ge (by omega) (by omega)) (nm_r (e' := nI (5 ^ (k + 1))) ?_ (nm_r (nI_1 k) (fz_y_pow4 he hp n (k + 1) (d - 1) (by omega) (by omega))))
      rw [Nat.pow_succ, ← pk_mul]; rfl
theorem fz_y_pow {post : Int32 → Prop} {e : Nat} (he : e ≤ 12) (hp : post (nI (5 ^ e))) : wpY_power post (nI e) :=
  Exists.intro 13 (fz_y_pow4 he hp 13 0 e (by omega) (by omega))
theorem fz_p5_b {e : Nat} (he : e ≤ 5) : 5 ^ e ≤ 3125 := fz_pow_le (b := 5) he
theorem fz_y_letter {post : Int32 → Prop} {w : List Nat} {i : Nat} (hw : fz_lw w) (h5 : w.length ≤ 5) (hi : i < 100) (hp : post (nI (w.getD i 0))) : wpY_letter post (nI (fz_en w)) (nI i) := by
  unfold wpY_letter
  refine fz_y_len hw h5 ?_
  by_cases z : w.length ≤ i
  · refine br_t (nI_le z (by omega)) ?_
    rw [List.getD_eq_getElem?_getD, List.getElem?_eq_none z] at hp
    exact hp
  · have e1 : nI w.length - 1 - nI i = nI (w.length - 1 - i) := by
      rw [show (1 : Int32) = nI 1 from rfl, pk_sub (by omega), pk_sub (by omega)]
    refine br_f (nI_ge (by omega) (by omega)) ?_
    rw [e1]
    have b := fz_en_5 hw h5
    have bp := fz_p5_b (e := w.length - 1 - i) (by omega)
    have bq := fz_p5 (w.length - 1 - i)
    refine fz_y_pow (by omega) ⟨nI_ne0 bq (by omega), fz_n5, ?_⟩
    have hd : fz_en w / 5 ^ (w.length - 1 - i) < 2 ^ 31 := Nat.lt_of_le_of_lt (Nat.div_le_self _ _) (by omega)
    rw [pk_div (by omega) bq (by omega), show (5 : Int32) = nI 5 from rfl, pk_rem hd (by omega) (by omega), fz_en_get hw (by omega)]
    exact hp
theorem fz_y_row15 {post : Int32 → Prop} : ∀ (n f j : Nat), f ≤ 5 → j < 5 ^ f → f < n → (¬ 0 ∈ fz_dg f j → post 1) → (0 ∈ fz_dg f j → post 0) → wY_isRow_15 post n (nI j)
  | 0, _, _, _, _, h, _, _ => by omega
  | n + 1, f, j, h5, hj, hn, p1, p0 => by
    by_cases z : j = 0
    · subst z
      refine br_t (show nI 0 ≤ 0 by decide) (p1 ?_)
      cases f <;> simp [fz_dg]
    · have b := fz_p5_b h5
      have f0 : f ≠ 0 := fun e => by subst e; simp at hj; omega
      obtain ⟨g, rfl⟩ : ∃ g, f = g + 1 := ⟨f - 1, by omega⟩
      have er : nI j - nI j / 5 * 5 = nI (j % 5) := pk_rem (d := 5) (by omega) (by omega) (by omega)
      have ed : nI j / 5 = nI (j / 5) := pk_div (d := 5) (by omega) (by omega) (by omega)
      simp only [fz_dg, if_neg z, List.mem_append, List.mem_singleton] at p1 p0
      refine br_f (nI_nle (by omega) (by omega)) ⟨fz_n5, ?_⟩
      rw [er]
      by_cases zz : j % 5 = 0
      · exact br_t (by rw [zz]; rfl) (p0 (Or.inr zz.symm))
      · refine br_f (nI_ne0 (by omega) (by omega)) ⟨fz_n5, nm_r ed ?_⟩
        refine fz_y_row15 n g (j / 5) (by omega) (by rw [Nat.pow_succ] at hj; omega) (by omega) (fun h => p1 ?_) (fun h => p0 (Or.inl h))
        rintro (h' | h')
        · exact h h'
        · omega
theorem fz_y_row1 {post : Int32 → Prop} {x : Int32} {w : List Nat} (h : fz_row x w) (hp : post 1) : wpY_isRow post x := by
  have ⟨a, b⟩ := fz_row_in h
  obtain ⟨j, hj, rfl⟩ := nI_of a
  have hj' : j < 3125 := (nI_ltI hj (by decide)).mp (show nI j < nI 3125 from b)
  refine br_f a (br_t b ⟨6, fz_y_row15 6 5 j (by omega) hj' (by omega) (fun _ => hp) (fun m => ?_)⟩)
  exact absurd m ((fz_row_dg hj').mp ⟨w, h⟩)
theorem fz_y_row0 {post : Int32 → Prop} {x : Int32} (h : ¬ ∃ w, fz_row x w) (hp : post 0) : wpY_isRow post x := by
  by_cases a : x < 0
  · exact br_t a hp
  · by_cases b : x < 3125
    · obtain ⟨j, hj, rfl⟩ := nI_of a
      have hj' : j < 3125 := (nI_ltI hj (by decide)).mp (show nI j < nI 3125 from b)
      refine br_f a (br_t b ⟨6, fz_y_row15 6 5 j (by omega) hj' (by omega) (fun m => ?_) (fun _ => hp)⟩)
      exact absurd ((fz_row_dg hj').mpr m) h
    · exact br_f a (br_f b hp)
def fz_wd (x : Int32) (w : List Nat) : Prop := fz_row x w ∧ w ≠ []
theorem fz_y_wd1 {post : Int32 → Prop} {x : Int32} {w : List Nat} (h : fz_wd x w) (hp : post 1) : wpY_isWord post x := by
  have b := fz_en_5 h.1.1 h.1.2.1
  have a : ¬ x ≤ 0 := by
    rw [h.1.2.2]
    exact nI_nle (fz_en_pos h.1.1 h.2) (by omega)
  exact br_f a (fz_y_row1 h.1 (br_f (by decide) hp))
theorem fz_y_wd0 {post : Int32 → Prop} {x : Int32} (h : ¬ ∃ w, fz_wd x w) (hp : post 0) : wpY_isWord post x := by
  by_cases a : x ≤ 0
  · exact br_t a hp
  · refine br_f a (fz_y_row0 ?_ (br_t rfl hp))
    rintro ⟨w, hw⟩
    refine h ⟨w, hw, ?_⟩
    intro e
    subst e
    exact a (by rw [hw.2.2]; decide)
theorem fz_y_begins {post : Int32 → Prop} {r w : List Nat} (hr : fz_lw r) (r5 : r.length ≤ 5) (hw : fz_lw w) (w5 : w.length ≤ 5) (p1 : w.take r.length = r → post 1) (p0 : w.take r.length ≠ r → post 0) : wpY_begins post (nI (fz_en r)) (nI (fz_en w)) := by
  unfold wpY_begins
  refine fz_y_len hw w5 (fz_y_len hr r5 ?_)
  have b1 := fz_en_5 hw w5
  have b2 := fz_en_5 hr r5
  by_cases z : w.length < r.length
  · refine nm_e (br_t (pk_sneg (by omega) z) (p0 ?_))
    intro e
    have := congrArg List.length e
    rw [List.length_take] at this
    omega
  · refine nm_r (pk_sub (by omega)) (br_f (nI_pos (by omega)) (fz_y_pow (by omega) ?_))
    have bp := fz_p5_b (e := w.length - r.length) (by omega)
    have bq := fz_p5 (w.length - r.length)
    refine ⟨nI_ne0 bq (by omega), ?_⟩
    rw [pk_div (by omega) bq (by omega), fz_en_take hw (by omega)]
    have hl := Nat.lt_of_le_of_lt (Nat.div_le_self (fz_en w) (5 ^ (w.length - r.length))) b1
    rw [fz_en_take hw (by omega)] at hl
    by_cases e : w.take r.length = r
    · exact br_t (by rw [e]) (p1 e)
    · refine br_f ?_ (p0 e)
      rw [nI_eq (by omega) (by omega)]
      exact fun q => e (fz_en_inj (fz_lw_take _ hw) hr q)
theorem fz_y_key {post : Int32 → Prop} {w : List Nat} (hw : fz_lw w) (w5 : w.length ≤ 5) (hp : post (nI (fz_ke 5 w))) : wpY_key post (nI (fz_en w)) := by
  unfold wpY_key
  refine fz_y_len hw w5 (nm_r (e' := nI (5 - w.length)) (pk_sub (a := 5) w5) (fz_y_pow (by omega) ?_))
  rw [pk_mul]
  exact hp
def fz_dc (x : Int32) : Prop := ∃ s, s < 4 ∧ x = nI s
theorem fz_dc_n {x : Int32} (h : ¬ fz_dc x) (a : ¬ x < 0) : (4 : Int32) ≤ x := by
  rcases pk_ix x (n := 4) (by decide) with b | b | ⟨j, hj, e⟩
  · exact absurd b a
  · exact b
  · exact absurd ⟨j, hj, e⟩ h
theorem fz_y_isD1 {post : Int32 → Prop} {s : Nat} (h : s < 4) (hp : post 1) : wpY_isDictionary post (nI s) :=
  br_f (nI_pos (by omega)) (br_f (nI_ge (b := 4) h (by decide)) hp)
theorem fz_y_isD0 {post : Int32 → Prop} {x : Int32} (h : ¬ fz_dc x) (hp : post 0) : wpY_isDictionary post x := by
  by_cases a : x < 0
  · exact br_t a hp
  · exact br_f a (br_t (fz_dc_n h a) hp)
/-! the component's own small methods -/
theorem fz_x_out0 {post : Int32 → Prop} {x a b : Int32} (h1 : a ≤ x) (h2 : x ≤ b) (hp : post 0) : wpX_outside post x a b :=
  br_t h1 (br_t h2 ⟨rfl, hp⟩)
theorem fz_x_out1 {post : Int32 → Prop} {x a b : Int32} (h : ¬ (a ≤ x ∧ x ≤ b)) (hp : post 1) : wpX_outside post x a b := by
  by_cases h1 : a ≤ x
  · have h2 : ¬ x ≤ b := fun q => h ⟨h1, q⟩
    exact br_t h1 (br_f h2 ⟨rfl, hp⟩)
  · by_cases h2 : x ≤ b
    · exact br_f h1 (br_t h2 ⟨rfl, hp⟩)
    · exact br_f h1 (br_f h2 ⟨rfl, hp⟩)
theorem fz_x_one1 {post : Int32 → Prop} {u : SX} {s : Nat} (h : s < 4) (hp : post 1) : wpX_isOne post u (nI s) :=
  fz_x_out0 (nI_pos' (by omega)) (nI_le (b := 3) (by omega) (by decide)) (br_t rfl hp)
theorem fz_x_one0 {post : Int32 → Prop} {u : SX} {x : Int32} (h : ¬ fz_dc x) (hp : post 0) : wpX_isOne post u x := by
  refine fz_x_out1 ?_ (br_f (by decide) hp)
  rintro ⟨h1, h2⟩
  obtain ⟨j, hj, rfl⟩ := nI_of (Int32.not_lt.mpr h1)
  refine h ⟨j, ?_, rfl⟩
  have := (nI_leI (a := j) (b := 3) hj (by decide)).mp h2
  omega
end
section
/-! arrays of naturals; nodes and the words behind them -/
def fz_c (f : Nat → Nat) : Nat → Int32 := fun i => nI (f i)
def fz_u (f : Nat → Nat) (k v : Nat) : Nat → Nat := fun j => if j = k then v else f j
theorem fz_us {f : Nat → Nat} {k v : Nat} : fz_u f k v k = v := if_pos rfl
theorem fz_un {f : Nat → Nat} {k v j : Nat} (h : j ≠ k) : fz_u f k v j = f j := if_neg h
theorem fz_cu (f : Nat → Nat) (k v : Nat) : upd (fz_c f) k (nI v) = fz_c (fz_u f k v) := by
  funext j
  unfold upd fz_c fz_u
  by_cases h : j = k
  · rw [if_pos h, if_pos h]
  · rw [if_neg h, if_neg h]
theorem fz_i16 {n : Nat} (h : n < 32768) : (nI n).toInt16.toInt32 = nI n :=
  lg_i2s_small (by rw [nI_toInt (by omega)]; omega) (by rw [nI_toInt (by omega)]; omega)
theorem fz_i8 {n : Nat} (h : n < 128) : (nI n).toInt8.toInt32 = nI n :=
  lg_i2b_small (by rw [nI_toInt (by omega)]; omega) (by rw [nI_toInt (by omega)]; omega)
theorem fz_ns {n : Nat} (h : n < 32768) : vp_nar .short (nI n) = nI n := by rw [vp_nar_short, fz_i16 h]
theorem fz_nb {n : Nat} (h : n < 128) : vp_nar .byte (nI n) = nI n := by rw [vp_nar_byte, fz_i8 h]
theorem fz_ns2 {n : Nat} (h : n < 32768) : vp_nar .short (nI n).toInt16.toInt32 = nI n := by rw [fz_i16 h, fz_ns h]
theorem fz_nb2 {n : Nat} (h : n < 128) : vp_nar .byte (nI n).toInt8.toInt32 = nI n := by rw [fz_i8 h, fz_nb h]
theorem fz_nz {n : Nat} (h : n ≤ 1) : vp_nar .boolean (nI n) = nI n := by
  match n, h with
  | 0, _ => rfl
  | 1, _ => rfl
theorem fz_cs {f : Nat → Nat} {k v : Nat} {i : Int32} (hi : i = nI k) (hk : k < 2 ^ 31) (hv : v < 32768) : upd (fz_c f) i.toNatClampNeg (vp_nar .short (nI v).toInt16.toInt32) = fz_c (fz_u f k v) := by
  rw [hi, nI_clamp hk, fz_ns2 hv, fz_cu]
theorem fz_cs1 {f : Nat → Nat} {k v : Nat} {i : Int32} (hi : i = nI k) (hk : k < 2 ^ 31) (hv : v < 32768) : upd (fz_c f) i.toNatClampNeg (vp_nar .short (nI v)) = fz_c (fz_u f k v) := by
  rw [hi, nI_clamp hk, fz_ns hv, fz_cu]
theorem fz_ix {n c : Nat} (h : 1 ≤ c) : 4 * nI n + nI c - 1 = nI (4 * n + c - 1) := by
  show nI 4 * nI n + nI c - nI 1 = _
  rw [pk_mul, nI_add, pk_sub (by omega)]
theorem fz_ix0 {n c : Nat} : 4 * nI n + nI c = nI (4 * n + c) := by
  show nI 4 * nI n + nI c = _
  rw [pk_mul, nI_add]
theorem fz_i4 (n : Nat) : 4 * nI n = nI (4 * n) := by
  show nI 4 * nI n = _
  rw [pk_mul]
theorem fz_24 {s k : Nat} : 24 * nI s + nI k = nI (24 * s + k) := by
  show nI 24 * nI s + nI k = _
  rw [pk_mul, nI_add]
theorem fz_ca (f : Nat → Nat) {i : Int32} {k : Nat} (h : i = nI k) (hk : k < 2 ^ 31) : fz_c f i.toNatClampNeg = nI (f k) := by
  rw [h, nI_clamp hk]; rfl
/-! rows of letters in an array; stacks, the top first -/
def fz_lr (a : Nat → Int32) : Nat → List Nat → Prop
  | _, [] => True
  | k, c :: r => a k = nI c ∧ fz_lr a (k + 1) r
theorem fz_lr_upd {a : Nat → Int32} {j : Nat} {v : Int32} : ∀ {r : List Nat} {k : Nat}, j < k ∨ k + r.length ≤ j → fz_lr a k r → fz_lr (upd a j v) k r
  | [], _, _, _ => trivial
  | c :: r, k, h, g => by
    simp only [List.length_cons] at h
    exact ⟨by rw [pk_un (by omega)]; exact g.1, fz_lr_upd (by omega) g.2⟩
theorem fz_lr_snoc {a : Nat → Int32} {c : Nat} : ∀ {r : List Nat} {k : Nat}, fz_lr a k r → a (k + r.length) = nI c → fz_lr a k (r ++ [c])
  | [], _, _, h => ⟨h, trivial⟩
  | d :: r, k, g, h => ⟨g.1, fz_lr_snoc g.2 (by rw [← h]; congr 1; simp only [List.length_cons]; omega)⟩
theorem fz_lr_get {a : Nat → Int32} : ∀ {r : List Nat} {k i : Nat}, fz_lr a k r → i < r.length → a (k + i) = nI (r.getD i 0)
  | [], _, _, _, h => absurd h (by simp)
  | c :: r, k, 0, g, _ => g.1
  | c :: r, k, i + 1, g, h => by
    have := fz_lr_get (i := i) g.2 (by simpa using h)
    rw [show k + (i + 1) = k + 1 + i by omega, this]; rfl
def fz_sk (a : Nat → Int32) : List Nat → Prop
  | [] => True
  | x :: St => a St.length = nI x ∧ fz_sk a St
theorem fz_sk_upd {a : Nat → Int32} {j : Nat} {v : Int32} : ∀ {St : List Nat}, St.length ≤ j → fz_sk a St → fz_sk (upd a j v) St
  | [], _, _ => trivial
  | x :: St, h, g => by
    simp only [List.length_cons] at h
    exact ⟨by rw [pk_un (by omega)]; exact g.1, fz_sk_upd (by omega) g.2⟩
/-! the graph: a node that is alive, and what it holds -/
def fz_A (F : List Nat) (n : Nat) : Prop := 0 < n ∧ n < 520 ∧ ¬ n ∈ F
def fz_Nd (F : List Nat) (n : Nat) : Prop := n = 0 ∨ fz_A F n
def fz_nk (nx en wd : Nat → Nat) (F : List Nat) (L : Nat → List (List Nat)) (n : Nat) : Prop :=
  en n ≤ 1 ∧ wd n = (L n).length ∧ L n ≠ [] ∧ (L n).length ≤ 24 ∧ fz_hb 6 (L n) ∧ fz_sv (L n) ∧ L n = fz_gl (en n) (fun c => L (nx (4 * n + c - 1))) ∧ ∀ c, 1 ≤ c → c ≤ 4 → fz_Nd F (nx (4 * n + c - 1))
def fz_Gr (nx en wd : Nat → Nat) (F : List Nat) (L : Nat → List (List Nat)) : Prop :=
  wd 0 = 0 ∧ L 0 = [] ∧ ∀ n, fz_A F n → fz_nk nx en wd F L n
section
variable {nx en wd : Nat → Nat} {F : List Nat} {L : Nat → List (List Nat)} {n c : Nat}
theorem fz_Nd_lt (h : fz_Nd F n) : n < 520 := by
  rcases h with h | h
  · omega
  · exact h.2.1
theorem fz_Nd_A (h : fz_Nd F n) (h0 : n ≠ 0) : fz_A F n := h.elim (fun e => absurd e h0) id
theorem fz_gr_wd (g : fz_Gr nx en wd F L) (h : fz_Nd F n) : wd n = (L n).length := by
  rcases h with h | h
  · rw [h, g.1, g.2.1]; rfl
  · exact (g.2.2 n h).2.1
theorem fz_gr_len (g : fz_Gr nx en wd F L) (h : fz_Nd F n) : (L n).length ≤ 24 := by
  rcases h with h | h
  · rw [h, g.2.1]; simp
  · exact (g.2.2 n h).2.2.2.1
theorem fz_gr_hb (g : fz_Gr nx en wd F L) (h : fz_Nd F n) : fz_hb 6 (L n) := by
  rcases h with h | h
  · rw [h, g.2.1]; exact fun _ h => absurd h (by simp)
  · exact (g.2.2 n h).2.2.2.2.1
theorem fz_gr_sv (g : fz_Gr nx en wd F L) (h : fz_Nd F n) : fz_sv (L n) := by
  rcases h with h | h
  · rw [h, g.2.1]; exact fz_sv_nil
  · exact (g.2.2 n h).2.2.2.2.2.1
theorem fz_gr_gl (g : fz_Gr nx en wd F L) (h : fz_A F n) : L n = fz_gl (en n) (fun c => L (nx (4 * n + c - 1))) := (g.2.2 n h).2.2.2.2.2.2.1
theorem fz_gr_kid (g : fz_Gr nx en wd F L) (h : fz_A F n) (a : 1 ≤ c) (b : c ≤ 4) : fz_Nd F (nx (4 * n + c - 1)) := (g.2.2 n h).2.2.2.2.2.2.2 c a b
theorem fz_gr_rs (g : fz_Gr nx en wd F L) (h : fz_A F n) (a : 1 ≤ c) (b : c ≤ 4) : L (nx (4 * n + c - 1)) = fz_rs c (L n) := by
  rw [fz_gr_gl g h, fz_rs_gl a b]
theorem fz_gr_en (g : fz_Gr nx en wd F L) (h : fz_A F n) : en n = fz_eb (L n) := by
  rw [fz_gr_gl g h, fz_eb_gl (g.2.2 n h).1]
theorem fz_gr_e1 (g : fz_Gr nx en wd F L) (h : fz_A F n) : en n ≤ 1 := (g.2.2 n h).1
theorem fz_gr_ne (g : fz_Gr nx en wd F L) (h : fz_A F n) : L n ≠ [] := (g.2.2 n h).2.2.1
theorem fz_gr_0 (g : fz_Gr nx en wd F L) (h : fz_Nd F n) : n = 0 ↔ L n = [] := by
  constructor
  · intro e; rw [e]; exact g.2.1
  · intro e
    rcases h with h | h
    · exact h
    · exact absurd e (fz_gr_ne g h)
end
/-! the component's walks that read -/
section
variable {fu fa fl fy : Int32} {nx en wd rt : Nat → Nat} {aH aC aE aW aL aD aP aY aS aT aN aR aM aQ aB : Nat → Int32} {F : List Nat} {L : Nat → List (List Nat)}
theorem fz_x_split58 {post : Int32 → SX → Prop} {w : List Nat} (h5 : w.length ≤ 5) (hd : ∀ c, c ∈ w → c < 5) (H0 : 0 ∈ w → ∀ a, post 0 (fu, fa, nI w.length, fy, fz_c nx, fz_c en, fz_c wd, aH, aC, aE, fz_c rt, aW, a, aD, aP, aY, aS, aT, aN, aR, aM, aQ, aB)) (H1 : ¬ 0 ∈ w → ∀ a, fz_lr a 0 w → post 1 (fu, fa, nI w.length, fy, fz_c nx, fz_c en, fz_c wd, aH, aC, aE, fz_c rt, aW, a, aD, aP, aY, aS, aT, aN, aR, aM, aQ, aB)) : ∀ (f : Nat) (r p : List Nat) (a : Nat → Int32), p ++ r = w → fz_lr aD (6 - w.length + p.length) r → fz_lr a 0 p → ¬ 0 ∈ p → r.length < f → wX_split_58 post fu fa (nI w.length) fy f (nI p.length) (fz_c nx) (fz_c en) (fz_c wd) aH aC aE (fz_c rt) aW a aD aP aY aS aT aN aR aM aQ aB
  | 0, _, _, _, _, _, _, _, h => by omega
  | f + 1, [], p, a, e, _, ha, hz, _ => by
    rw [List.append_nil] at e
    subst e
    exact br_t (nI_le (Nat.le_refl _) (by omega)) (H1 hz a ha)
  | f + 1, c :: r, p, a, e, hl, ha, hz, hf => by
    have lw : p.length + (r.length + 1) = w.length := by rw [← e]; simp
    have cw : c ∈ w := by rw [← e]; simp
    have c5 := hd c cw
    have ei : (6 - nI w.length) + nI p.length = nI (6 - w.length + p.length) := by
      show nI 6 - nI w.length + nI p.length = _
      rw [pk_sub (by omega), nI_add]
    have hv : vp_nar .byte (aD ((6 - nI w.length) + nI p.length).toNatClampNeg) = nI c := by
      rw [ei, nI_clamp (by omega), hl.1, fz_nb (by omega)]
    have hin : vp_in (nI p.length) 6 := vp_in_nI (by omega) (by omega)
    refine br_f (nI_ge (by omega) (by omega)) ⟨by rw [ei]; exact vp_in_nI (by omega) (by omega), hin, nm_r (e' := upd a p.length (nI c)) (by rw [hv, nI_clamp (by omega)]) ⟨hin, ?_⟩⟩
    have ev : upd a p.length (nI c) (nI p.length).toNatClampNeg = nI c := by rw [nI_clamp (by omega), pk_us]
    by_cases z : c = 0
    · exact br_t (by rw [ev, z]; rfl) (H0 (z ▸ cw) _)
    · refine br_f (by rw [ev]; exact nI_ne0 (by omega) (by omega)) (nm_r (nI_1 _) ?_)
      have IH := fz_x_split58 h5 hd H0 H1 f r (p ++ [c]) (upd a p.length (nI c)) (by rw [← e]; simp) (by rw [List.length_append, List.length_singleton, ← Nat.add_assoc]; exact hl.2) (fz_lr_snoc (fz_lr_upd (Or.inr (by omega)) ha) (by rw [Nat.zero_add, pk_us])) (by simp [hz]; omega) (by simp only [List.length_cons] at hf; omega)
      rw [List.length_append, List.length_singleton] at IH
      exact IH
theorem fz_x_split22 {post : Int32 → SX → Prop} : ∀ (f g j : Nat) (v : List Nat) (a : Nat → Int32), j < 5 ^ g → g + v.length = 5 → fz_lr a (6 - v.length) v → g < f → (∀ a' : Nat → Int32, fz_lr a' (6 - (fz_dg g j ++ v).length) (fz_dg g j ++ v) → ∃ n, wX_split_58 post fu fa (nI (fz_dg g j ++ v).length) fy n 0 (fz_c nx) (fz_c en) (fz_c wd) aH aC aE (fz_c rt) aW aL a' aP aY aS aT aN aR aM aQ aB) → wX_split_22 post fu fa fy f (nI j) (nI (5 - v.length)) (nI v.length) (fz_c nx) (fz_c en) (fz_c wd) aH aC aE (fz_c rt) aW aL a aP aY aS aT aN aR aM aQ aB
  | 0, _, _, _, _, _, _, _, h, _ => by omega
  | f + 1, g, j, v, a, hj, hg, ha, hf, K => by
    by_cases z : j = 0
    · subst z
      have e0 : fz_dg g 0 ++ v = v := by cases g <;> simp [fz_dg]
      rw [e0] at K
      exact br_t (show nI 0 ≤ 0 by decide) (K a ha)
    · have g0 : g ≠ 0 := fun e => by subst e; simp at hj; omega
      obtain ⟨i, rfl⟩ : ∃ i, g = i + 1 := ⟨g - 1, by omega⟩
      have b := fz_p5_b (e := i + 1) (by omega)
      have er : nI j - nI j / 5 * 5 = nI (j % 5) := pk_rem (d := 5) (by omega) (by omega) (by omega)
      have ed : nI j / 5 = nI (j / 5) := pk_div (d := 5) (by omega) (by omega) (by omega)
      have el : fz_dg (i + 1) j ++ v = fz_dg i (j / 5) ++ (j % 5 :: v) := by simp [fz_dg, z]
      rw [el] at K
      refine br_f (nI_nle (by omega) (by omega)) ⟨fz_n5, vp_in_nI (by omega) (by omega), nm_r (e' := upd a (5 - v.length) (nI (j % 5))) (by rw [er, fz_nb2 (by omega), nI_clamp (by omega)]) ⟨fz_n5, nm_r ed (nm_r (nI_1 _) (nm_r (sb_m1 (by omega)) ?_))⟩⟩
      have IH := fz_x_split22 f i (j / 5) (j % 5 :: v) (upd a (5 - v.length) (nI (j % 5))) (by rw [Nat.pow_succ] at hj; omega) (by simp only [List.length_cons]; omega) (by
        refine ⟨?_, ?_⟩
        · simp only [List.length_cons]
          rw [show 6 - (v.length + 1) = 5 - v.length by omega, pk_us]
        · simp only [List.length_cons]
          rw [show 6 - (v.length + 1) + 1 = 6 - v.length by omega]
          exact fz_lr_upd (Or.inl (by omega)) ha) (by omega) K
      simp only [List.length_cons] at IH
      rw [show 5 - (v.length + 1) = 5 - v.length - 1 by omega] at IH
      exact IH
theorem fz_x_split1 {post : Int32 → SX → Prop} {x : Int32} {w : List Nat} (h : fz_row x w) (hp : ∀ a d, fz_lr a 0 w → post 1 (fu, fa, nI w.length, fy, fz_c nx, fz_c en, fz_c wd, aH, aC, aE, fz_c rt, aW, a, d, aP, aY, aS, aT, aN, aR, aM, aQ, aB)) : wpX_split post (fu, fa, fl, fy, fz_c nx, fz_c en, fz_c wd, aH, aC, aE, fz_c rt, aW, aL, aD, aP, aY, aS, aT, aN, aR, aM, aQ, aB) x := by
  have ⟨a, b⟩ := fz_row_in h
  obtain ⟨h1, h2, rfl⟩ := h
  have b5 := fz_en_5 h1 h2
  have ew := fz_dg_en 5 w h1 h2
  refine br_f a (br_t b ⟨6, fz_x_split22 6 5 (fz_en w) [] aD b5 rfl trivial (by omega) ?_⟩)
  rw [List.append_nil, ew]
  intro d hd
  have z : ¬ 0 ∈ w := fun m => absurd (h1 0 m).1 (by omega)
  exact ⟨w.length + 1, fz_x_split58 h2 (fun c m => by have := (h1 c m).2; omega) (fun m => absurd m z) (fun _ a ha => hp a d ha) _ w [] aL rfl hd trivial (by simp) (by omega)⟩
theorem fz_x_split0 {post : Int32 → SX → Prop} {x : Int32} (h : ¬ ∃ w, fz_row x w) (hp : ∀ l a d, post 0 (fu, fa, l, fy, fz_c nx, fz_c en, fz_c wd, aH, aC, aE, fz_c rt, aW, a, d, aP, aY, aS, aT, aN, aR, aM, aQ, aB)) : wpX_split post (fu, fa, fl, fy, fz_c nx, fz_c en, fz_c wd, aH, aC, aE, fz_c rt, aW, aL, aD, aP, aY, aS, aT, aN, aR, aM, aQ, aB) x := by
  by_cases a : x < 0
  · exact br_t a (hp _ _ _)
  · by_cases b : x < 3125
    · obtain ⟨j, hj, rfl⟩ := nI_of a
      have hj' : j < 3125 := (nI_ltI hj (by decide)).mp (show nI j < nI 3125 from b)
      have z : 0 ∈ fz_dg 5 j := Classical.byContradiction fun q => h ((fz_row_dg hj').mpr q)
      refine br_f a (br_t b ⟨6, fz_x_split22 6 5 j [] aD hj' rfl trivial (by omega) ?_⟩)
      rw [List.append_nil]
      intro d hd
      exact ⟨_, fz_x_split58 (fz_dg_len 5 j) (fz_dg_5 5 j) (fun _ a => hp _ a d) (fun m => absurd z m) _ (fz_dg 5 j) [] aL rfl hd trivial (by simp) (Nat.lt_succ_self _)⟩
    · exact br_f a (br_f b (hp _ _ _))
theorem fz_x_wd1 {post : Int32 → SX → Prop} {x : Int32} {w : List Nat} (h : fz_wd x w) (hp : ∀ a d, fz_lr a 0 w → post 1 (fu, fa, nI w.length, fy, fz_c nx, fz_c en, fz_c wd, aH, aC, aE, fz_c rt, aW, a, d, aP, aY, aS, aT, aN, aR, aM, aQ, aB)) : wpX_isWord post (fu, fa, fl, fy, fz_c nx, fz_c en, fz_c wd, aH, aC, aE, fz_c rt, aW, aL, aD, aP, aY, aS, aT, aN, aR, aM, aQ, aB) x := by
  have hl : 0 < w.length := List.length_pos_iff.mpr h.2
  have h5 := h.1.2.1
  unfold wpX_isWord
  exact fz_x_split1 h.1 (fun a d ha => br_f (by decide) (br_f (nI_nle hl (by omega)) (hp a d ha)))
theorem fz_x_wd0 {post : Int32 → SX → Prop} {x : Int32} (h : ¬ ∃ w, fz_wd x w) (hp : ∀ l a d, post 0 (fu, fa, l, fy, fz_c nx, fz_c en, fz_c wd, aH, aC, aE, fz_c rt, aW, a, d, aP, aY, aS, aT, aN, aR, aM, aQ, aB)) : wpX_isWord post (fu, fa, fl, fy, fz_c nx, fz_c en, fz_c wd, aH, aC, aE, fz_c rt, aW, aL, aD, aP, aY, aS, aT, aN, aR, aM, aQ, aB) x := by
  unfold wpX_isWord
  by_cases g : ∃ w, fz_row x w
  · obtain ⟨w, hw⟩ := g
    have e : w = [] := Classical.byContradiction fun q => h ⟨w, hw, q⟩
    subst e
    exact fz_x_split1 hw (fun a d ha => br_f (by decide) (br_t (show nI 0 ≤ 0 by decide) (hp _ a d)))
  · exact fz_x_split0 g (fun l a d => br_t rfl (hp l a d))
theorem fz_x_behind9 {post : Int32 → Prop} (g : fz_Gr nx en wd F L) {T : Nat} (hT : T ≤ 5) : ∀ (r : List Nat) (k n f : Nat), fz_lw r → fz_Nd F n → k + r.length = T → fz_lr aL k r → r.length < f → (∀ m, fz_Nd F m → L m = fz_rw r (L n) → post (nI m)) → wX_behind_9 post fu fa (nI T) fy (fz_c nx) (fz_c en) (fz_c wd) aH aC aE (fz_c rt) aW aL aD aP aY aS aT aN aR aM aQ aB f (nI n) (nI k)
  | _, _, _, 0, _, _, _, _, h, _ => by omega
  | [], k, n, f + 1, _, hN, hk, _, _, hp => br_t (nI_le (by simp at hk; omega) (by omega)) (hp n hN rfl)
  | c :: r, k, n, f + 1, hr, hN, hk, ha, hf, hp => by
    simp only [List.length_cons] at hk hf
    have ⟨c1, c4⟩ := fz_lw_hd hr
    have h1 : ¬ nI T ≤ nI k := nI_ge (by omega) (by omega)
    by_cases z : n = 0
    · subst z
      refine br_f h1 (br_t (show nI 0 ≤ 0 by decide) (hp 0 hN ?_))
      rw [g.2.1, fz_rw_nil]
    · have hA := fz_Nd_A hN z
      have hn := hA.2.1
      have ei : 4 * nI n + aL (nI k).toNatClampNeg - 1 = nI (4 * n + c - 1) := by
        rw [nI_clamp (by omega), ha.1]; exact fz_ix c1
      refine br_f h1 (br_f (nI_nle (by omega) (by omega)) ⟨vp_in_nI (by omega) (by omega), by rw [ei]; exact vp_in_nI (by omega) (by omega), nm_r (fz_ca nx ei (by omega)) (nm_r (nI_1 k) ?_)⟩)
      refine fz_x_behind9 g hT r (k + 1) _ f (fz_lw_tl hr) (fz_gr_kid g hA c1 c4) (by omega) ha.2 (by omega) (fun m hm e => hp m hm ?_)
      rw [e, fz_gr_rs g hA c1 c4]; rfl
theorem fz_x_behind {post : Int32 → Prop} (g : fz_Gr nx en wd F L) {r : List Nat} {s : Nat} (hs : s < 5) (hr : fz_lw r) (h5 : r.length ≤ 5) (hN : fz_Nd F (rt s)) (ha : fz_lr aL 0 r) (hp : ∀ m, fz_Nd F m → L m = fz_rw r (L (rt s)) → post (nI m)) : wpX_behind post (fu, fa, nI r.length, fy, fz_c nx, fz_c en, fz_c wd, aH, aC, aE, fz_c rt, aW, aL, aD, aP, aY, aS, aT, aN, aR, aM, aQ, aB) (nI s) :=
  And.intro (vp_in_nI hs (by omega)) (nm_r (fz_ca rt rfl (by omega)) ⟨6, fz_x_behind9 g h5 r 0 _ 6 hr hN (by omega) ha (by omega) hp⟩)
theorem fz_x_has {post : Int32 → Prop} (g : fz_Gr nx en wd F L) {r : List Nat} {s : Nat} (hs : s < 5) (hr : fz_lw r) (h5 : r.length ≤ 5) (hN : fz_Nd F (rt s)) (ha : fz_lr aL 0 r) (p1 : r ∈ L (rt s) → post 1) (p0 : ¬ r ∈ L (rt s) → post 0) : wpX_has post (fu, fa, nI r.length, fy, fz_c nx, fz_c en, fz_c wd, aH, aC, aE, fz_c rt, aW, aL, aD, aP, aY, aS, aT, aN, aR, aM, aQ, aB) (nI s) := by
  unfold wpX_has
  refine fz_x_behind g hs hr h5 hN ha (fun m hm e => ?_)
  have hmem : [] ∈ L m ↔ r ∈ L (rt s) := by rw [e, fz_mem_rw, List.append_nil]
  by_cases z : m = 0
  · subst z
    refine br_t (show nI 0 ≤ 0 by decide) (p0 ?_)
    rw [← hmem, g.2.1]; simp
  · have hA := fz_Nd_A hm z
    have hn := hA.2.1
    have e1 := fz_gr_e1 g hA
    have ee := fz_gr_en g hA
    refine br_f (nI_nle (by omega) (by omega)) ⟨vp_in_nI hn (by omega), ?_⟩
    rw [fz_ca en rfl (by omega)]
    by_cases y : en m = 0
    · refine br_t (by rw [y]; rfl) (p0 ?_)
      rw [← hmem, ← fz_eb_ne, ← ee]; omega
    · refine br_f (nI_ne0 (by omega) (by omega)) (p1 ?_)
      rw [← hmem, ← fz_eb_ne, ← ee]; exact y
theorem fz_x_sizeOf {post : Int32 → Prop} (g : fz_Gr nx en wd F L) {s : Nat} (hs : s < 5) (hN : fz_Nd F (rt s)) (hp : post (nI (L (rt s)).length)) : wpX_sizeOf post (fu, fa, fl, fy, fz_c nx, fz_c en, fz_c wd, aH, aC, aE, fz_c rt, aW, aL, aD, aP, aY, aS, aT, aN, aR, aM, aQ, aB) (nI s) := by
  have hn := fz_Nd_lt hN
  have e := fz_ca rt (i := nI s) rfl (by omega)
  refine And.intro (vp_in_nI hs (by omega)) (And.intro (by rw [e]; exact vp_in_nI hn (by omega)) ?_)
  rw [fz_ca wd e (by omega), fz_gr_wd g hN]
  exact hp
theorem fz_x_before39 {post : Int32 → Prop} {J : Int32 → Int32 → Int32 → Prop} (g : fz_Gr nx en wd F L) {n k c a : Nat} (hA : fz_A F n) (hk : k < 6) (c1 : 1 ≤ c) (c4 : c ≤ 4) (ha : aL k = nI c) (hJ : J (nI (nx (4 * n + c - 1))) (nI (k + 1)) (nI (a + fz_sl (fun c => L (nx (4 * n + c - 1))) c))) : ∀ (d l f : Nat), l + d = c → 1 ≤ l → d < f → wX_before_39 post J (nI n) (nI k) fu fa fl fy (fz_c nx) (fz_c en) (fz_c wd) aH aC aE (fz_c rt) aW aL aD aP aY aS aT aN aR aM aQ aB f (nI (a + fz_sl (fun c => L (nx (4 * n + c - 1))) l)) (nI l)
  | _, _, 0, _, _, h => by omega
  | d, l, f + 1, hl, h1, hf => by
    have hn := hA.2.1
    have hin : vp_in (nI k) 6 := vp_in_nI hk (by omega)
    have el : aL (nI k).toNatClampNeg = nI c := by rw [nI_clamp (by omega), ha]
    have ei : 4 * nI n + aL (nI k).toNatClampNeg - 1 = nI (4 * n + c - 1) := by rw [el]; exact fz_ix c1
    refine And.intro hin ?_
    cases d with
    | zero =>
      have : l = c := by omega
      subst this
      exact br_t (by rw [el]; exact nI_le (Nat.le_refl _) (by omega)) ⟨hin, by rw [ei]; exact vp_in_nI (by omega) (by omega), nm_r (fz_ca nx ei (by omega)) (nm_r (nI_1 k) hJ)⟩
    | succ d =>
      have ej : 4 * nI n + nI l - 1 = nI (4 * n + l - 1) := fz_ix h1
      have hk2 := fz_gr_kid g hA h1 (by omega : l ≤ 4)
      have ek := fz_ca nx ej (by omega)
      refine br_f (by rw [el]; exact nI_ge (by omega) (by omega)) ⟨by rw [ej]; exact vp_in_nI (by omega) (by omega), by rw [ek]; exact vp_in_nI (fz_Nd_lt hk2) (by omega), nm_r (e' := nI (a + fz_sl (fun c => L (nx (4 * n + c - 1))) (l + 1))) ?_ (nm_r (nI_1 l) ?_)⟩
      · rw [fz_ca wd ek (by have := fz_Nd_lt hk2; omega), nI_add, fz_gr_wd g hk2]
        obtain ⟨i, rfl⟩ : ∃ i, l = i + 1 := ⟨l - 1, by omega⟩
        exact congrArg nI (by simp only [fz_sl]; omega)
      · exact fz_x_before39 g hA hk c1 c4 ha hJ d (l + 1) f (by omega) (by omega) (by omega)
theorem fz_x_before12 {post : Int32 → Prop} (g : fz_Gr nx en wd F L) {T : Nat} (hT : T ≤ 5) : ∀ (r : List Nat) (k n a f : Nat), fz_lw r → fz_Nd F n → k + r.length = T → fz_lr aL k r → r.length < f → post (nI (a + fz_cb r (L n))) → wX_before_12 post fu fa (nI T) fy (fz_c nx) (fz_c en) (fz_c wd) aH aC aE (fz_c rt) aW aL aD aP aY aS aT aN aR aM aQ aB f (nI n) (nI k) (nI a)
  | _, _, _, _, 0, _, _, _, _, h, _ => by omega
  | r, k, n, a, f + 1, hr, hN, hk, ha, hf, hp => by
    by_cases z : n = 0
    · subst z
      rw [g.2.1, fz_cb_0] at hp
      exact br_t (show nI 0 ≤ 0 by decide) hp
    · have hA := fz_Nd_A hN z
      have hn := hA.2.1
      refine br_f (nI_nle (by omega) (by omega)) ?_
      cases r with
      | nil =>
        rw [fz_cb_nil] at hp
        exact br_t (nI_le (by simp at hk; omega) (by omega)) hp
      | cons c r =>
        simp only [List.length_cons] at hk hf
        have ⟨c1, c4⟩ := fz_lw_hd hr
        rw [fz_gr_gl g hA, fz_cb_gl c1 c4] at hp
        refine br_f (nI_ge (by omega) (by omega)) ⟨vp_in_nI hn (by omega), ?_⟩
        rw [fz_ca en rfl (by omega)]
        have e1 := fz_gr_e1 g hA
        by_cases y : en n = 0
        · rw [if_pos y] at hp
          refine br_t (by rw [y]; rfl) ⟨5, ?_⟩
          refine fz_x_before39 g hA (by omega) c1 c4 ha.1 (a := a) ?_ (c - 1) 1 5 (by omega) (by omega) (by omega)
          refine fz_x_before12 g hT r (k + 1) _ _ f (fz_lw_tl hr) (fz_gr_kid g hA c1 c4) (by omega) ha.2 (by omega) ?_
          rw [Nat.zero_add, ← Nat.add_assoc] at hp
          exact hp
        · rw [if_neg y] at hp
          refine br_f (nI_ne0 (by omega) (by omega)) (nm_r (nI_1 a) ⟨5, ?_⟩)
          refine fz_x_before39 g hA (by omega) c1 c4 ha.1 (a := a + 1) ?_ (c - 1) 1 5 (by omega) (by omega) (by omega)
          refine fz_x_before12 g hT r (k + 1) _ _ f (fz_lw_tl hr) (fz_gr_kid g hA c1 c4) (by omega) ha.2 (by omega) ?_
          rw [← Nat.add_assoc, ← Nat.add_assoc] at hp
          exact hp
theorem fz_x_before {post : Int32 → Prop} (g : fz_Gr nx en wd F L) {r : List Nat} {s : Nat} (hs : s < 5) (hr : fz_lw r) (h5 : r.length ≤ 5) (hN : fz_Nd F (rt s)) (ha : fz_lr aL 0 r) (hp : post (nI (fz_cb r (L (rt s))))) : wpX_before post (fu, fa, nI r.length, fy, fz_c nx, fz_c en, fz_c wd, aH, aC, aE, fz_c rt, aW, aL, aD, aP, aY, aS, aT, aN, aR, aM, aQ, aB) (nI s) :=
  And.intro (vp_in_nI hs (by omega)) (nm_r (fz_ca rt rfl (by omega)) ⟨6, fz_x_before12 g h5 r 0 _ 0 6 hr hN (by omega) ha (by omega) (by rw [Nat.zero_add]; exact hp)⟩)
end
end
section
/-! word k of a dictionary; common words -/
theorem fz_gt_0 {K : Nat → List (List Nat)} {i : Nat} {t : List Nat} (h : (fz_gt K 0)[i]? = some t) : False := by simp [fz_gt] at h
theorem fz_gt_lo {K : Nat → List (List Nat)} {d i : Nat} {t : List Nat} (h : (fz_gt K (d + 1))[i]? = some t) (hi : i < (K (4 - d)).length) : ∃ t', t = (4 - d) :: t' ∧ (K (4 - d))[i]? = some t' := by
  simp only [fz_gt] at h
  rw [List.getElem?_append_left (by simpa using hi), List.getElem?_map, List.getElem?_eq_getElem hi] at h
  exact ⟨_, (Option.some.inj h).symm, List.getElem?_eq_getElem hi⟩
theorem fz_gt_hi {K : Nat → List (List Nat)} {d i : Nat} {t : List Nat} (h : (fz_gt K (d + 1))[i]? = some t) (hi : (K (4 - d)).length ≤ i) : (fz_gt K d)[i - (K (4 - d)).length]? = some t := by
  simp only [fz_gt] at h
  rw [List.getElem?_append_right (by simpa using hi), List.length_map] at h
  exact h
section
variable {fu fa fl fy : Int32} {nx en wd rt : Nat → Nat} {aH aC aE aW aL aD aP aY aS aT aN aR aM aQ aB : Nat → Int32} {F : List Nat} {L : Nat → List (List Nat)}
theorem fz_x_spell47 {post : Int32 → SX → Prop} {J : Int32 → Int32 → Int32 → Int32 → (Nat → Int32) → (Nat → Int32) → (Nat → Int32) → (Nat → Int32) → (Nat → Int32) → (Nat → Int32) → (Nat → Int32) → (Nat → Int32) → (Nat → Int32) → (Nat → Int32) → (Nat → Int32) → (Nat → Int32) → (Nat → Int32) → (Nat → Int32) → (Nat → Int32) → (Nat → Int32) → (Nat → Int32) → (Nat → Int32) → (Nat → Int32) → Prop} (g : fz_Gr nx en wd F L) {n x m : Nat} {t : List Nat} (hA : fz_A F n) (hm : m < 6)
    (hJ : ∀ c t' q, 1 ≤ c → c ≤ 4 → t = c :: t' → (L (nx (4 * n + c - 1)))[q]? = some t' → J (nI (nx (4 * n + c - 1))) (nI q) (nI (5 * x + c)) (nI (m + 1)) (fz_c nx) (fz_c en) (fz_c wd) aH aC aE (fz_c rt) aW (upd aL m (nI c)) aD aP aY aS aT aN aR aM aQ aB) :
    ∀ (d l q f : Nat), l + d = 4 → q < 100 → d < f → (fz_gt (fun c => L (nx (4 * n + c - 1))) d)[q]? = some t → wX_spell_47 post J (nI n) (nI x) fu fa (nI m) fy (fz_c nx) (fz_c en) (fz_c wd) aH aC aE (fz_c rt) aW aL aD aP aY aS aT aN aR aM aQ aB f (nI q) (nI l)
  | _, _, _, 0, _, _, h, _ => by omega
  | 0, _, _, f + 1, _, _, _, h => absurd h (fun h => fz_gt_0 h)
  | d + 1, l, q, f + 1, hl, hq, hf, h => by
    have hn := hA.2.1
    have e4 : 4 - d = l + 1 := by omega
    have ei : 4 * nI n + nI l = nI (4 * n + l) := fz_ix0
    have ek : fz_c nx (4 * nI n + nI l).toNatClampNeg = nI (nx (4 * n + l)) := fz_ca nx ei (by omega)
    have hk := fz_gr_kid g hA (c := l + 1) (by omega) (by omega)
    rw [show 4 * n + (l + 1) - 1 = 4 * n + l by omega] at hk
    have hkl := fz_Nd_lt hk
    have ew : fz_c wd (fz_c nx (4 * nI n + nI l).toNatClampNeg).toNatClampNeg = nI (L (nx (4 * n + l))).length := by
      rw [fz_ca wd ek (by omega), fz_gr_wd g hk]
    have h24 := fz_gr_len g hk
    have i1 : vp_in (4 * nI n + nI l) 2080 := by rw [ei]; exact vp_in_nI (by omega) (by omega)
    have i2 : vp_in (fz_c nx (4 * nI n + nI l).toNatClampNeg) 520 := by rw [ek]; exact vp_in_nI hkl (by omega)
    refine And.intro i1 ⟨i2, ?_⟩
    rw [ew]
    by_cases z : q < (L (nx (4 * n + l))).length
    · obtain ⟨t', e1, e2⟩ := fz_gt_lo h (by rw [e4, show 4 * n + (l + 1) - 1 = 4 * n + l by omega]; exact z)
      rw [e4] at e1 e2
      have J1 := hJ (l + 1) t' q (by omega) (by omega) e1 e2
      rw [show 4 * n + (l + 1) - 1 = 4 * n + l by omega] at J1
      refine br_t (nI_lt z (by omega)) (nm_r (nI_1 m) ⟨vp_in_nI hm (by omega), nm_r (e' := upd aL m (nI (l + 1))) ?_ (nm_r (e' := nI (5 * x + (l + 1))) ?_ ⟨i1, nm_r ek J1⟩)⟩)
      · rw [nI_1, fz_nb2 (by omega), nI_clamp (by omega)]
      · show nI 5 * nI x + nI l + nI 1 = _
        rw [pk_mul, nI_add, nI_add]
        rfl
    · have h' := fz_gt_hi h (by rw [e4, show 4 * n + (l + 1) - 1 = 4 * n + l by omega]; omega)
      rw [e4] at h'
      refine br_f (nI_nlt (by omega) (by omega)) ⟨i1, i2, nm_r (e' := nI (q - (L (nx (4 * n + l))).length)) ?_ (nm_r (nI_1 l) ?_)⟩
      · rw [pk_sub (by omega)]
      · refine fz_x_spell47 g hA hm hJ d (l + 1) _ f (by omega) (by omega) (by omega) ?_
        rw [show 4 * n + (l + 1) - 1 = 4 * n + l by omega] at h'
        exact h'
theorem fz_x_spell18 {post : Int32 → SX → Prop} (g : fz_Gr nx en wd F L) {w : List Nat} (hw : w.length ≤ 5) (hp : ∀ a, fz_lr a 0 w → post (nI (fz_en w)) (fu, fa, nI w.length, fy, fz_c nx, fz_c en, fz_c wd, aH, aC, aE, fz_c rt, aW, a, aD, aP, aY, aS, aT, aN, aR, aM, aQ, aB)) : ∀ (f : Nat) (t p : List Nat) (n q : Nat) (a : Nat → Int32), fz_Nd F n → (L n)[q]? = some t → p ++ t = w → fz_lr a 0 p → t.length < f → wX_spell_18 post fu fa fy f (nI n) (nI q) (nI (fz_en p)) (nI p.length) (fz_c nx) (fz_c en) (fz_c wd) aH aC aE (fz_c rt) aW a aD aP aY aS aT aN aR aM aQ aB
  | 0, _, _, _, _, _, _, _, _, _, h => by omega
  | f + 1, t, p, n, q, a, hN, hq, e, ha, hf => by
    have z : n ≠ 0 := by
      intro z; subst z; rw [g.2.1] at hq; simp at hq
    have hA := fz_Nd_A hN z
    have hn := hA.2.1
    have e1 := fz_gr_e1 g hA
    have hql : q < (L n).length := by
      rcases Nat.lt_or_ge q (L n).length with z | z
      · exact z
      · rw [List.getElem?_eq_none z] at hq; cases hq
    have h24 := fz_gr_len g hN
    have gl := fz_gr_gl g hA
    have lpt : p.length + t.length = w.length := by rw [← e]; simp
    have een : fz_c en (nI n).toNatClampNeg = nI (en n) := fz_ca en rfl (by omega)
    have hin : vp_in (nI n) 520 := vp_in_nI hn (by omega)
    have STEP : ∀ q', q' < 100 → (fz_gt (fun c => L (nx (4 * n + c - 1))) 4)[q']? = some t → ∃ n47, wX_spell_47 post (wX_spell_18 post fu fa fy f) (nI n) (nI (fz_en p)) fu fa (nI p.length) fy (fz_c nx) (fz_c en) (fz_c wd) aH aC aE (fz_c rt) aW a aD aP aY aS aT aN aR aM aQ aB n47 (nI q') 0 := by
      intro q' hq' h'
      refine ⟨5, fz_x_spell47 g hA (m := p.length) ?_ ?_ 4 0 q' 5 (by omega) hq' (by omega) h'⟩
      · cases t with
        | nil =>
          obtain ⟨c, s, e', _⟩ := (fz_sv_gt (K := fun c => L (nx (4 * n + c - 1))) (fun c a b => fz_gr_sv g (fz_gr_kid g hA a b)) 4 (by omega)).2 _ (List.mem_of_getElem? h')
          cases e'
        | cons c t => simp only [List.length_cons] at lpt; omega
      · intro c t' q'' c1 c4 et hq''
        have lt : t.length = t'.length + 1 := by rw [et]; rfl
        have IH := fz_x_spell18 g hw hp f t' (p ++ [c]) (nx (4 * n + c - 1)) q'' (upd a p.length (nI c)) (fz_gr_kid g hA c1 c4) hq'' (by rw [← e, et]; simp) (fz_lr_snoc (fz_lr_upd (Or.inr (by omega)) ha) (by rw [Nat.zero_add, pk_us])) (by omega)
        rw [fz_en_snoc, List.length_append, List.length_singleton] at IH
        exact IH
    have S32 : ¬ (q = 0 ∧ en n ≠ 0) → wX_spell_32 post (wX_spell_18 post fu fa fy f) (nI n) (nI q) (nI (fz_en p)) fu fa (nI p.length) fy (fz_c nx) (fz_c en) (fz_c wd) aH aC aE (fz_c rt) aW a aD aP aY aS aT aN aR aM aQ aB := by
      intro h
      refine And.intro hin ?_
      rw [een]
      by_cases y : en n = 0
      · refine br_t (by rw [y]; rfl) (STEP q (by omega) ?_)
        rw [gl, y] at hq
        exact hq
      · obtain ⟨q', rfl⟩ : ∃ q', q = q' + 1 := ⟨q - 1, by omega⟩
        refine br_f (nI_ne0 (by omega) (by omega)) (nm_r (pk_m1 q') (STEP q' (by omega) ?_))
        rw [gl] at hq
        unfold fz_gl at hq
        rw [if_neg y] at hq
        exact hq
    by_cases zq : q = 0
    · subst zq
      refine br_f (by decide) ⟨hin, ?_⟩
      rw [een]
      by_cases y : en n = 0
      · exact br_t (by rw [y]; rfl) (S32 (fun h => h.2 y))
      · rw [gl] at hq
        unfold fz_gl at hq
        rw [if_neg y] at hq
        have et : [] = t := Option.some.inj hq
        rw [← et, List.append_nil] at e
        subst e
        exact br_f (nI_ne0 (by omega) (by omega)) (hp a ha)
    · exact br_t (nI_lt (a := 0) (by omega) (by omega)) (S32 (fun h => zq h.1))
theorem fz_x_spell {post : Int32 → SX → Prop} (g : fz_Gr nx en wd F L) {w : List Nat} {s q : Nat} (hs : s < 5) (hN : fz_Nd F (rt s)) (hq : (L (rt s))[q]? = some w) (hp : ∀ a, fz_lr a 0 w → post (nI (fz_en w)) (fu, fa, nI w.length, fy, fz_c nx, fz_c en, fz_c wd, aH, aC, aE, fz_c rt, aW, a, aD, aP, aY, aS, aT, aN, aR, aM, aQ, aB)) : wpX_spell post (fu, fa, fl, fy, fz_c nx, fz_c en, fz_c wd, aH, aC, aE, fz_c rt, aW, aL, aD, aP, aY, aS, aT, aN, aR, aM, aQ, aB) (nI s) (nI q) := by
  have h6 := fz_gr_hb g hN w (List.mem_of_getElem? hq)
  exact And.intro (vp_in_nI hs (by omega)) (nm_r (fz_ca rt rfl (by omega)) ⟨6, fz_x_spell18 g (by omega) hp 6 w [] _ q aL hN hq rfl trivial (by omega)⟩)
/-! common words: a stack of pairs with heights -/
def fz_s1 (St : List (Nat × Nat × Nat)) : List Nat := St.map (fun x => x.1)
def fz_s2 (St : List (Nat × Nat × Nat)) : List Nat := St.map (fun x => x.2.1)
def fz_sm (L : Nat → List (List Nat)) : List (Nat × Nat × Nat) → Nat
  | [] => 0
  | x :: St => fz_cm (L x.1) (L x.2.1) + fz_sm L St
def fz_sw : List (Nat × Nat × Nat) → Nat
  | [] => 0
  | x :: St => 5 ^ x.2.2 + fz_sw St
def fz_sh (F : List Nat) (L : Nat → List (List Nat)) : List (Nat × Nat × Nat) → Prop
  | [] => True
  | x :: St => (fz_Nd F x.1 ∧ fz_Nd F x.2.1 ∧ fz_hb x.2.2 (L x.1) ∧ St.length + 3 * x.2.2 ≤ 18) ∧ fz_sh F L St
def fz_pu (nx : Nat → Nat) (p q m : Nat) : Nat → Nat → List (Nat × Nat × Nat) → List (Nat × Nat × Nat)
  | 0, _, St => St
  | d + 1, l, St => fz_pu nx p q m d (l + 1) ((nx (4 * p + l), nx (4 * q + l), m) :: St)
theorem fz_pu_len {nx : Nat → Nat} {p q m : Nat} : ∀ (d l : Nat) (St : List (Nat × Nat × Nat)), (fz_pu nx p q m d l St).length = St.length + d
  | 0, _, _ => rfl
  | d + 1, l, St => by
    rw [fz_pu, fz_pu_len d]
    simp only [List.length_cons]; omega
theorem fz_x_shared111 {post : Int32 → SX → Prop} {J : Int32 → Int32 → (Nat → Int32) → (Nat → Int32) → (Nat → Int32) → (Nat → Int32) → (Nat → Int32) → (Nat → Int32) → (Nat → Int32) → (Nat → Int32) → (Nat → Int32) → (Nat → Int32) → (Nat → Int32) → (Nat → Int32) → (Nat → Int32) → (Nat → Int32) → (Nat → Int32) → (Nat → Int32) → (Nat → Int32) → (Nat → Int32) → (Nat → Int32) → Prop} {x3 : Int32} {p q m : Nat} (hp : p < 520) (hq : q < 520) (kp : ∀ l, l < 4 → nx (4 * p + l) < 520) (kq : ∀ l, l < 4 → nx (4 * q + l) < 520) : ∀ (d l f : Nat) (St : List (Nat × Nat × Nat)) (aS aT : Nat → Int32), l + d = 4 → d < f → St.length + d ≤ 40 → fz_sk aS (fz_s1 St) → fz_sk aT (fz_s2 St) → (∀ aS' aT', fz_sk aS' (fz_s1 (fz_pu nx p q m d l St)) → fz_sk aT' (fz_s2 (fz_pu nx p q m d l St)) → J x3 (nI (fz_pu nx p q m d l St).length) (fz_c nx) (fz_c en) (fz_c wd) aH aC aE (fz_c rt) aW aL aD aP aY aS' aT' aN aR aM aQ aB) → wX_shared_111 post J x3 (nI p) (nI q) fu fa fl fy f (nI St.length) (nI l) (fz_c nx) (fz_c en) (fz_c wd) aH aC aE (fz_c rt) aW aL aD aP aY aS aT aN aR aM aQ aB
  | _, _, 0, _, _, _, _, h, _, _, _, _ => by omega
  | 0, l, f + 1, St, aS, aT, hl, _, _, h1, h2, hJ => by
    have : l = 4 := by omega
    subst this
    exact br_t (show (4 : Int32) ≤ nI 4 by decide) (hJ aS aT h1 h2)
  | d + 1, l, f + 1, St, aS, aT, hl, hf, h40, h1, h2, hJ => by
    have b1 := kp l (by omega)
    have b2 := kq l (by omega)
    have e1 : 4 * nI p + nI l = nI (4 * p + l) := fz_ix0
    have e2 : 4 * nI q + nI l = nI (4 * q + l) := fz_ix0
    have l1 : (fz_s1 St).length = St.length := by simp [fz_s1]
    have l2 : (fz_s2 St).length = St.length := by simp [fz_s2]
    have it : vp_in (nI St.length) 40 := vp_in_nI (by omega) (by omega)
    refine br_f (nI_ge (b := 4) (by omega) (by decide)) ⟨by rw [e1]; exact vp_in_nI (by omega) (by omega), it, nm_r (e' := upd aS St.length (nI (nx (4 * p + l)))) (by rw [fz_ca nx e1 (by omega), fz_ns (by omega), nI_clamp (by omega)]) (nm_r (nI_1 _) ⟨by rw [e2]; exact vp_in_nI (by omega) (by omega), it, nm_r (e' := upd aT St.length (nI (nx (4 * q + l)))) (by rw [fz_ca nx e2 (by omega), fz_ns (by omega), nI_clamp (by omega)]) (nm_r (nI_1 _) ?_)⟩)⟩
    refine fz_x_shared111 hp hq kp kq d (l + 1) f ((nx (4 * p + l), nx (4 * q + l), m) :: St) (upd aS St.length (nI (nx (4 * p + l)))) (upd aT St.length (nI (nx (4 * q + l)))) (by omega) (by omega) (by simp only [List.length_cons]; omega) ⟨?_, fz_sk_upd (Nat.le_of_eq l1) h1⟩ ⟨?_, fz_sk_upd (Nat.le_of_eq l2) h2⟩ hJ
    · show upd aS St.length _ (fz_s1 St).length = _
      rw [l1, pk_us]
    · show upd aT St.length _ (fz_s2 St).length = _
      rw [l2, pk_us]
theorem fz_x_shared26 {post : Int32 → SX → Prop} (g : fz_Gr nx en wd F L) {N : Nat} (hp : ∀ aS aT, post (nI N) (fu, fa, fl, fy, fz_c nx, fz_c en, fz_c wd, aH, aC, aE, fz_c rt, aW, aL, aD, aP, aY, aS, aT, aN, aR, aM, aQ, aB)) : ∀ (f : Nat) (St : List (Nat × Nat × Nat)) (a : Nat) (aS aT : Nat → Int32), a + fz_sm L St = N → fz_sw St < f → fz_sh F L St → St.length ≤ 30 → fz_sk aS (fz_s1 St) → fz_sk aT (fz_s2 St) → wX_shared_26 post fu fa fl fy f (nI a) (nI St.length) (fz_c nx) (fz_c en) (fz_c wd) aH aC aE (fz_c rt) aW aL aD aP aY aS aT aN aR aM aQ aB
  | 0, _, _, _, _, _, h, _, _, _, _ => by omega
  | f + 1, [], a, aS, aT, hN, _, _, _, _, _ => by
    have : a = N := hN
    subst this
    exact br_t (show nI 0 ≤ 0 by decide) (hp aS aT)
  | f + 1, (p, q, m) :: St, a, aS, aT, hN, hf, hh, hl, h1, h2 => by
    obtain ⟨⟨np, nq, hb, hm⟩, hh'⟩ := hh
    simp only [List.length_cons] at hl
    simp only [fz_sw] at hf
    simp only [fz_sm] at hN
    dsimp only at np nq hb hm
    have pl := fz_Nd_lt np
    have ql := fz_Nd_lt nq
    have p5 := fz_p5 m
    have l1 : (fz_s1 St).length = St.length := by simp [fz_s1]
    have l2 : (fz_s2 St).length = St.length := by simp [fz_s2]
    have s1 : aS St.length = nI p := by rw [← l1]; exact h1.1
    have s2 : aT St.length = nI q := by rw [← l2]; exact h2.1
    have it : vp_in (nI St.length) 40 := vp_in_nI (by omega) (by omega)
    refine br_f (nI_nle (by simp) (by simp only [List.length_cons]; omega)) (nm_r (pk_m1 St.length) ⟨it, nm_r (e' := nI p) (by rw [nI_clamp (by omega), s1]) ⟨it, nm_r (e' := nI q) (by rw [nI_clamp (by omega), s2]) ?_⟩⟩)
    by_cases zp : p = 0
    · subst zp
      refine br_t rfl (fz_x_shared26 g hp f St a aS aT ?_ (by omega) hh' (by omega) h1.2 h2.2)
      rw [g.2.1] at hN
      have : fz_cm [] (L q) = 0 := rfl
      omega
    · refine br_f (nI_ne0 (by omega) (by omega)) ?_
      by_cases zq : q = 0
      · subst zq
        refine br_t rfl (fz_x_shared26 g hp f St a aS aT ?_ (by omega) hh' (by omega) h1.2 h2.2)
        rw [g.2.1, fz_cm_nil] at hN
        omega
      · refine br_f (nI_ne0 (by omega) (by omega)) ?_
        have Ap := fz_Nd_A np zp
        have Aq := fz_Nd_A nq zq
        have ip : vp_in (nI p) 520 := vp_in_nI pl (by omega)
        have iq : vp_in (nI q) 520 := vp_in_nI ql (by omega)
        by_cases e : p = q
        · subst e
          refine br_t rfl ⟨ip, nm_r (e' := nI (a + (L p).length)) (by rw [fz_ca wd rfl (by omega), fz_gr_wd g np, nI_add]) (fz_x_shared26 g hp f St _ aS aT ?_ (by omega) hh' (by omega) h1.2 h2.2)⟩
          rw [fz_cm_self] at hN
          omega
        · refine br_f (by rw [nI_eq (by omega) (by omega)]; exact e) ⟨ip, ?_⟩
          have ep := fz_gr_e1 g Ap
          have eq := fz_gr_e1 g Aq
          have m0 : m ≠ 0 := by
            intro z; subst z
            exact fz_gr_ne g Ap (fz_hb_0 hb)
          obtain ⟨i, rfl⟩ : ∃ i, m = i + 1 := ⟨m - 1, by omega⟩
          have kp : ∀ l, l < 4 → fz_Nd F (nx (4 * p + l)) := fun l h => fz_gr_kid g Ap (c := l + 1) (by omega) (by omega)
          have kq : ∀ l, l < 4 → fz_Nd F (nx (4 * q + l)) := fun l h => fz_gr_kid g Aq (c := l + 1) (by omega) (by omega)
          have kh : ∀ l, l < 4 → fz_hb i (L (nx (4 * p + l))) := fun l h => by
            have := fz_gr_rs g Ap (c := l + 1) (by omega) (by omega)
            rw [show 4 * p + (l + 1) - 1 = 4 * p + l by omega] at this
            rw [this]; exact fz_hb_rs hb
          have CM := fz_cm_gl (en p) (en q) (fun c => L (nx (4 * p + c - 1))) (fun c => L (nx (4 * q + c - 1)))
          rw [← fz_gr_gl g Ap, ← fz_gr_gl g Aq] at CM
          have GO : ∀ b, b + (fz_cm (L (nx (4 * p))) (L (nx (4 * q))) + fz_cm (L (nx (4 * p + 1))) (L (nx (4 * q + 1))) + fz_cm (L (nx (4 * p + 2))) (L (nx (4 * q + 2))) + fz_cm (L (nx (4 * p + 3))) (L (nx (4 * q + 3)))) + fz_sm L St = N → ∃ n111, wX_shared_111 post (wX_shared_26 post fu fa fl fy f) (nI b) (nI p) (nI q) fu fa fl fy n111 (nI St.length) 0 (fz_c nx) (fz_c en) (fz_c wd) aH aC aE (fz_c rt) aW aL aD aP aY aS aT aN aR aM aQ aB := by
            intro b hb'
            refine ⟨5, fz_x_shared111 pl ql (m := i) (fun l h => fz_Nd_lt (kp l h)) (fun l h => fz_Nd_lt (kq l h)) 4 0 5 St aS aT (by omega) (by omega) (by omega) h1.2 h2.2 ?_⟩
            intro aS' aT' k1 k2
            rw [Nat.pow_succ] at hf p5
            refine fz_x_shared26 g hp f _ b aS' aT' ?_ ?_ ?_ ?_ k1 k2
            · simp only [fz_pu, fz_sm, Nat.add_zero, Nat.zero_add, Nat.reduceAdd]; omega
            · simp only [fz_pu, fz_sw]; omega
            · simp only [fz_pu, fz_sh, List.length_cons]
              exact ⟨⟨kp 3 (by omega), kq 3 (by omega), kh 3 (by omega), by omega⟩, ⟨kp 2 (by omega), kq 2 (by omega), kh 2 (by omega), by omega⟩, ⟨kp 1 (by omega), kq 1 (by omega), kh 1 (by omega), by omega⟩, ⟨kp 0 (by omega), kq 0 (by omega), kh 0 (by omega), by omega⟩, hh'⟩
            · simp only [fz_pu, List.length_cons]; omega
          simp only [show 4 * p + 1 - 1 = 4 * p by omega, show 4 * p + 2 - 1 = 4 * p + 1 by omega, show 4 * p + 3 - 1 = 4 * p + 2 by omega, show 4 * p + 4 - 1 = 4 * p + 3 by omega, show 4 * q + 1 - 1 = 4 * q by omega, show 4 * q + 2 - 1 = 4 * q + 1 by omega, show 4 * q + 3 - 1 = 4 * q + 2 by omega, show 4 * q + 4 - 1 = 4 * q + 3 by omega] at CM
          rw [fz_ca en (i := nI p) rfl (by omega), fz_ca en (i := nI q) rfl (by omega)]
          by_cases y : en p = 0
          · rw [if_neg (fun h => h.1 y)] at CM
            exact br_t (by rw [y]; rfl) (GO a (by omega))
          · refine br_f (nI_ne0 (by omega) (by omega)) ⟨iq, ?_⟩
            by_cases y' : en q = 0
            · rw [if_neg (fun h => h.2 y')] at CM
              exact br_t (by rw [y']; rfl) (GO a (by omega))
            · rw [if_pos ⟨y, y'⟩] at CM
              exact br_f (nI_ne0 (by omega) (by omega)) (nm_r (nI_1 a) (GO (a + 1) (by omega)))
theorem fz_x_shared {post : Int32 → SX → Prop} (g : fz_Gr nx en wd F L) {p q : Nat} (np : fz_Nd F p) (nq : fz_Nd F q) (hp : ∀ aS aT, post (nI (fz_cm (L p) (L q))) (fu, fa, fl, fy, fz_c nx, fz_c en, fz_c wd, aH, aC, aE, fz_c rt, aW, aL, aD, aP, aY, aS, aT, aN, aR, aM, aQ, aB)) : wpX_shared post (fu, fa, fl, fy, fz_c nx, fz_c en, fz_c wd, aH, aC, aE, fz_c rt, aW, aL, aD, aP, aY, aS, aT, aN, aR, aM, aQ, aB) (nI p) (nI q) := by
  have pl := fz_Nd_lt np
  have ql := fz_Nd_lt nq
  refine nm_r (P := fun a => _) (e' := upd aS 0 (nI p)) (by rw [fz_ns2 (by omega)]) (nm_r (e' := nI 1) rfl (nm_r (e' := upd aT 0 (nI q)) (by rw [fz_ns2 (by omega)]) ⟨5 ^ 6 + 1, ?_⟩))
  exact fz_x_shared26 g hp (5 ^ 6 + 1) [(p, q, 6)] 0 _ _ (by simp [fz_sm]) (by simp [fz_sw]) ⟨⟨np, nq, fz_gr_hb g np, by simp⟩, trivial⟩ (by simp) ⟨pk_us, trivial⟩ ⟨pk_us, trivial⟩
end
end
section
/-! sums; references; chains -/
def fz_sumN (f : Nat → Nat) : Nat → Nat
  | 0 => 0
  | k + 1 => fz_sumN f k + f k
theorem fz_sum_ext {f g : Nat → Nat} : ∀ {N : Nat}, (∀ i, i < N → f i = g i) → fz_sumN f N = fz_sumN g N
  | 0, _ => rfl
  | N + 1, h => by rw [fz_sumN, fz_sumN, fz_sum_ext (fun i hi => h i (by omega)), h N (by omega)]
theorem fz_sum_upd {f g : Nat → Nat} {k : Nat} : ∀ {N : Nat}, k < N → (∀ i, i < N → i ≠ k → g i = f i) → fz_sumN g N + f k = fz_sumN f N + g k
  | 0, h, _ => by omega
  | N + 1, h, e => by
    rw [fz_sumN, fz_sumN]
    by_cases z : k = N
    · subst z
      rw [fz_sum_ext (f := g) (g := f) (fun i hi => e i (by omega) (by omega))]; omega
    · have := fz_sum_upd (f := f) (g := g) (k := k) (N := N) (by omega) (fun i hi => e i (by omega))
      rw [e N (by omega) (by omega)]; omega
theorem fz_sum_le {f : Nat → Nat} {c : Nat} : ∀ {N : Nat}, (∀ i, i < N → f i ≤ c) → fz_sumN f N ≤ c * N
  | 0, _ => by simp [fz_sumN]
  | N + 1, h => by
    have a := fz_sum_le (f := f) (c := c) (N := N) (fun i hi => h i (by omega))
    have b := h N (by omega)
    rw [fz_sumN, Nat.mul_add]; omega
theorem fz_sum_ge {f : Nat → Nat} {k : Nat} : ∀ {N : Nat}, k < N → f k ≤ fz_sumN f N
  | 0, h => by omega
  | N + 1, h => by
    rw [fz_sumN]
    by_cases z : k = N
    · subst z; omega
    · have := fz_sum_ge (f := f) (k := k) (N := N) (by omega); omega
theorem fz_sum_ex {f : Nat → Nat} : ∀ {N : Nat}, 0 < fz_sumN f N → ∃ i, i < N ∧ 0 < f i
  | 0, h => by simp [fz_sumN] at h
  | N + 1, h => by
    rw [fz_sumN] at h
    by_cases z : 0 < f N
    · exact ⟨N, by omega, z⟩
    · obtain ⟨i, h1, h2⟩ := fz_sum_ex (f := f) (N := N) (by omega)
      exact ⟨i, by omega, h2⟩
def fz_i1 (a b : Nat) : Nat := if a = b then 1 else 0
theorem fz_i1_le (a b : Nat) : fz_i1 a b ≤ 1 := by unfold fz_i1; split <;> omega
theorem fz_i1_s (a : Nat) : fz_i1 a a = 1 := if_pos rfl
theorem fz_i1_n {a b : Nat} (h : a ≠ b) : fz_i1 a b = 0 := if_neg h
theorem fz_i1_p {a b : Nat} (h : 0 < fz_i1 a b) : a = b := by
  unfold fz_i1 at h; split at h
  · assumption
  · omega
def fz_kc (nx : Nat → Nat) (m n : Nat) : Nat := fz_i1 (nx (4 * m)) n + fz_i1 (nx (4 * m + 1)) n + fz_i1 (nx (4 * m + 2)) n + fz_i1 (nx (4 * m + 3)) n
def fz_rc (rt : Nat → Nat) (n : Nat) : Nat := fz_sumN (fun s => fz_i1 (rt s) n) 5
def fz_gk (nx : Nat → Nat) (F : List Nat) (n m : Nat) : Nat := if 0 < m ∧ ¬ m ∈ F then fz_kc nx m n else 0
def fz_rf (nx rt : Nat → Nat) (F : List Nat) (n : Nat) : Nat := fz_sumN (fz_gk nx F n) 520 + fz_rc rt n
theorem fz_kc_le (nx : Nat → Nat) (m n : Nat) : fz_kc nx m n ≤ 4 := by
  unfold fz_kc
  have := fz_i1_le (nx (4 * m)) n
  have := fz_i1_le (nx (4 * m + 1)) n
  have := fz_i1_le (nx (4 * m + 2)) n
  have := fz_i1_le (nx (4 * m + 3)) n
  omega
theorem fz_kc_p {nx : Nat → Nat} {m n : Nat} (h : 0 < fz_kc nx m n) : ∃ c, 1 ≤ c ∧ c ≤ 4 ∧ nx (4 * m + c - 1) = n := by
  unfold fz_kc at h
  by_cases h1 : nx (4 * m) = n
  · exact ⟨1, by omega, by omega, h1⟩
  · by_cases h2 : nx (4 * m + 1) = n
    · exact ⟨2, by omega, by omega, h2⟩
    · by_cases h3 : nx (4 * m + 2) = n
      · exact ⟨3, by omega, by omega, h3⟩
      · by_cases h4 : nx (4 * m + 3) = n
        · exact ⟨4, by omega, by omega, h4⟩
        · rw [fz_i1_n h1, fz_i1_n h2, fz_i1_n h3, fz_i1_n h4] at h; omega
theorem fz_kc_ge {nx : Nat → Nat} {m n c : Nat} (a : 1 ≤ c) (b : c ≤ 4) (h : nx (4 * m + c - 1) = n) : 0 < fz_kc nx m n := by
  unfold fz_kc
  revert h
  refine fz_c4 (P := fun c => nx (4 * m + c - 1) = n → _) ?_ ?_ ?_ ?_ a b
  · intro h; rw [show 4 * m + 1 - 1 = 4 * m by omega] at h; rw [h, fz_i1_s]; omega
  · intro h; rw [show 4 * m + 2 - 1 = 4 * m + 1 by omega] at h; rw [h, fz_i1_s]; omega
  · intro h; rw [show 4 * m + 3 - 1 = 4 * m + 2 by omega] at h; rw [h, fz_i1_s]; omega
  · intro h; rw [show 4 * m + 4 - 1 = 4 * m + 3 by omega] at h; rw [h, fz_i1_s]; omega
theorem fz_gk_le (nx : Nat → Nat) (F : List Nat) (n m : Nat) : fz_gk nx F n m ≤ 4 := by
  unfold fz_gk; split
  · exact fz_kc_le nx m n
  · omega
theorem fz_rf_le (nx rt : Nat → Nat) (F : List Nat) (n : Nat) : fz_rf nx rt F n ≤ 2085 := by
  unfold fz_rf fz_rc
  have a := fz_sum_le (f := fz_gk nx F n) (c := 4) (N := 520) (fun i _ => fz_gk_le nx F n i)
  have b := fz_sum_le (f := fun s => fz_i1 (rt s) n) (c := 1) (N := 5) (fun i _ => fz_i1_le (rt i) n)
  omega
theorem fz_rf_kid {nx rt : Nat → Nat} {F : List Nat} {n m c : Nat} (hA : fz_A F m) (a : 1 ≤ c) (b : c ≤ 4) (h : nx (4 * m + c - 1) = n) : 0 < fz_rf nx rt F n := by
  have k := fz_kc_ge a b h
  have e : fz_gk nx F n m = fz_kc nx m n := by unfold fz_gk; rw [if_pos ⟨hA.1, hA.2.2⟩]
  have := fz_sum_ge (f := fz_gk nx F n) (k := m) (N := 520) hA.2.1
  unfold fz_rf; omega
theorem fz_rf_root {nx rt : Nat → Nat} {F : List Nat} {n s : Nat} (hs : s < 5) (h : rt s = n) : 0 < fz_rf nx rt F n := by
  have := fz_sum_ge (f := fun s => fz_i1 (rt s) n) (k := s) (N := 5) hs
  have e : fz_i1 (rt s) n = 1 := by rw [h, fz_i1_s]
  unfold fz_rf fz_rc; omega
theorem fz_rf_p {nx rt : Nat → Nat} {F : List Nat} {n : Nat} (h : 0 < fz_rf nx rt F n) : (∃ m c, fz_A F m ∧ 1 ≤ c ∧ c ≤ 4 ∧ nx (4 * m + c - 1) = n) ∨ (∃ s, s < 5 ∧ rt s = n) := by
  unfold fz_rf at h
  by_cases z : 0 < fz_sumN (fz_gk nx F n) 520
  · obtain ⟨m, h1, h2⟩ := fz_sum_ex z
    left
    unfold fz_gk at h2
    split at h2
    · rename_i q
      obtain ⟨c, a, b, e⟩ := fz_kc_p h2
      exact ⟨m, c, ⟨q.1, h1, q.2⟩, a, b, e⟩
    · omega
  · right
    obtain ⟨s, h1, h2⟩ := fz_sum_ex (f := fun s => fz_i1 (rt s) n) (N := 5) (by unfold fz_rc at h; omega)
    exact ⟨s, h1, fz_i1_p h2⟩
theorem fz_rf_add {nx nx' rt : Nat → Nat} {F : List Nat} {n0 : Nat} (hn : ¬ n0 ∈ F) (h0 : 0 < n0) (h1 : n0 < 520) (e : ∀ j, j / 4 ≠ n0 → nx' j = nx j) (m : Nat) : fz_rf nx' rt F m = fz_rf nx rt (n0 :: F) m + fz_kc nx' n0 m := by
  have e1 : fz_gk nx (n0 :: F) m n0 = 0 := by
    unfold fz_gk; rw [if_neg (fun h => h.2 (List.mem_cons_self ..))]
  have e2 : fz_gk nx' F m n0 = fz_kc nx' n0 m := by
    unfold fz_gk; rw [if_pos ⟨h0, hn⟩]
  have := fz_sum_upd (f := fz_gk nx (n0 :: F) m) (g := fz_gk nx' F m) (k := n0) (N := 520) h1 (fun i _ hi => by
    have k : fz_kc nx' i m = fz_kc nx i m := by
      unfold fz_kc
      rw [e (4 * i) (by omega), e (4 * i + 1) (by omega), e (4 * i + 2) (by omega), e (4 * i + 3) (by omega)]
    unfold fz_gk
    rw [k]
    have q : (0 < i ∧ ¬ i ∈ F) ↔ (0 < i ∧ ¬ i ∈ n0 :: F) := by simp [hi]
    by_cases z : 0 < i ∧ ¬ i ∈ F
    · rw [if_pos z, if_pos (q.mp z)]
    · rw [if_neg z, if_neg (fun h => z (q.mpr h))])
  unfold fz_rf
  omega
theorem fz_rc_upd {rt : Nat → Nat} {s v : Nat} (hs : s < 5) (n : Nat) : fz_rc (fz_u rt s v) n + fz_i1 (rt s) n = fz_rc rt n + fz_i1 v n := by
  have := fz_sum_upd (f := fun s => fz_i1 (rt s) n) (g := fun t => fz_i1 (fz_u rt s v t) n) (k := s) (N := 5) hs (fun i _ hi => by
    show fz_i1 (fz_u rt s v i) n = _
    rw [fz_un hi])
  rw [fz_us] at this
  exact this
def fz_ll (ch : Nat → Nat) : Nat → List Nat → Prop
  | x, [] => x = 0
  | x, y :: l => x = y ∧ 0 < y ∧ fz_ll ch (ch y) l
theorem fz_ll_u {ch : Nat → Nat} {n v : Nat} : ∀ {l : List Nat} {x : Nat}, ¬ n ∈ l → fz_ll ch x l → fz_ll (fz_u ch n v) x l
  | [], _, _, h => h
  | y :: l, x, hn, h => by
    simp only [List.mem_cons, not_or] at hn
    exact ⟨h.1, h.2.1, by rw [fz_un (fun e => hn.1 e.symm)]; exact fz_ll_u hn.2 h.2.2⟩
theorem fz_ll_cut {ch : Nat → Nat} {n y : Nat} {l2 : List Nat} : ∀ {l1 : List Nat} {x : Nat}, (l1 ++ y :: n :: l2).Nodup → fz_ll ch x (l1 ++ y :: n :: l2) → fz_ll (fz_u ch y (ch n)) x (l1 ++ y :: l2)
  | [], x, d, h => by
    simp only [List.nil_append, List.nodup_cons, List.mem_cons, not_or] at d
    obtain ⟨h1, h2, h3, h4, h5⟩ := h
    exact ⟨h1, h2, by rw [fz_us]; exact fz_ll_u d.1.2 h5⟩
  | z :: l1, x, d, h => by
    rw [List.cons_append, List.nodup_cons] at d
    have zy : z ≠ y := fun e => d.1 (by rw [e]; simp)
    exact ⟨h.1, h.2.1, by rw [fz_un zy]; exact fz_ll_cut d.2 h.2.2⟩
/-! the hash -/
def fz_hi (a b c d e : Int32) : Int32 :=
  ((if e = 0 then ((a * 31 + b) * 31 + c) * 31 + d else ((a * 31 + b) * 31 + c) * 31 + d + 77) ^^^ (((if e = 0 then ((a * 31 + b) * 31 + c) * 31 + d else ((a * 31 + b) * 31 + c) * 31 + d + 77).toUInt32 >>> ((7 : Int32).toUInt32 &&& Int32.toUInt32 31)).toInt32)) &&& 255
def fz_hn (a b c d e : Nat) : Nat := (fz_hi (nI a) (nI b) (nI c) (nI d) (nI e)).toNatClampNeg
theorem fz_hn_eq (a b c d e : Nat) : fz_hi (nI a) (nI b) (nI c) (nI d) (nI e) = nI (fz_hn a b c d e) ∧ fz_hn a b c d e < 256 := by
  obtain ⟨j, hj, ej⟩ := pk_andE (((if nI e = 0 then ((nI a * 31 + nI b) * 31 + nI c) * 31 + nI d else ((nI a * 31 + nI b) * 31 + nI c) * 31 + nI d + 77) ^^^ (((if nI e = 0 then ((nI a * 31 + nI b) * 31 + nI c) * 31 + nI d else ((nI a * 31 + nI b) * 31 + nI c) * 31 + nI d + 77).toUInt32 >>> ((7 : Int32).toUInt32 &&& Int32.toUInt32 31)).toInt32))) (m := 255) 8 (by decide)
  have e1 : fz_hi (nI a) (nI b) (nI c) (nI d) (nI e) = nI j := ej
  have e2 : fz_hn a b c d e = j := by unfold fz_hn; rw [e1, nI_clamp (by omega)]
  rw [e2]; exact ⟨e1, hj⟩
theorem fz_x_hash {post : Int32 → Prop} {u : SX} {a b c d e : Int32} (hp : post (fz_hi a b c d e)) : wpX_hash post u a b c d e := by
  unfold fz_hi at hp
  refine nm_e (nm_e (nm_e ?_))
  by_cases z : e = 0
  · rw [if_pos z] at hp
    exact br_t z hp
  · rw [if_neg z] at hp
    exact br_f z (nm_e hp)
def fz_h4 (nx en : Nat → Nat) (n : Nat) : Nat := fz_hn (nx (4 * n)) (nx (4 * n + 1)) (nx (4 * n + 2)) (nx (4 * n + 3)) (en n)
/-! the heap -/
def fz_HB (nx en ch he : Nat → Nat) (F : List Nat) (B : Nat → List Nat) : Prop := ∀ h, h < 256 → fz_ll ch (he h) (B h) ∧ (B h).Nodup ∧ ∀ n, n ∈ B h ↔ fz_A F n ∧ fz_h4 nx en n = h
def fz_HF (un : Nat) (ch : Nat → Nat) (F : List Nat) : Prop := fz_ll ch un F ∧ F.Nodup ∧ ∀ n, n ∈ F → 0 < n ∧ n < 520
def fz_HJ (F : List Nat) (L : Nat → List (List Nat)) : Prop := ∀ n m, fz_A F n → fz_A F m → L n = L m → n = m
def fz_HD (nx hd rt : Nat → Nat) (F : List Nat) (xt : Nat → Nat) : Prop := ∀ n, fz_A F n → hd n = fz_rf nx rt F n + xt n
def fz_HP (un al : Nat) (nx en wd hd ch he rt : Nat → Nat) (F : List Nat) (B : Nat → List Nat) (L : Nat → List (List Nat)) (xt : Nat → Nat) : Prop :=
  fz_Gr nx en wd F L ∧ fz_HJ F L ∧ fz_HD nx hd rt F xt ∧ fz_HF un ch F ∧ fz_HB nx en ch he F B ∧ (∀ s, s < 5 → fz_Nd F (rt s)) ∧ al + F.length = 519
theorem fz_A_cons {F : List Nat} {n0 n : Nat} (h : n ≠ n0) : fz_A (n0 :: F) n ↔ fz_A F n := by
  unfold fz_A; simp [h]
theorem fz_A_ne {F : List Nat} {n0 n : Nat} (h : fz_A (n0 :: F) n) : n ≠ n0 := fun e => h.2.2 (by rw [e]; exact List.mem_cons_self ..)
theorem fz_Nd_cons {F : List Nat} {n0 n : Nat} (h : fz_Nd (n0 :: F) n) : fz_Nd F n := h.elim Or.inl (fun q => Or.inr ((fz_A_cons (fz_A_ne q)).mp q))
theorem fz_Nd_ne {F : List Nat} {n0 n : Nat} (h0 : 0 < n0) (h : fz_Nd (n0 :: F) n) : n ≠ n0 := by
  rcases h with h | h
  · omega
  · exact fz_A_ne h
def fz_k4 (a b c d : Nat) (x : Nat) : Nat := if x = 1 then a else if x = 2 then b else if x = 3 then c else d
def fz_n4 (nx : Nat → Nat) (n a b c d : Nat) : Nat → Nat := fz_u (fz_u (fz_u (fz_u nx (4 * n) a) (4 * n + 1) b) (4 * n + 2) c) (4 * n + 3) d
theorem fz_n4_o {nx : Nat → Nat} {n a b c d j : Nat} (h : j / 4 ≠ n) : fz_n4 nx n a b c d j = nx j := by
  unfold fz_n4
  rw [fz_un (by omega), fz_un (by omega), fz_un (by omega), fz_un (by omega)]
theorem fz_n4_0 {nx : Nat → Nat} {n a b c d : Nat} : fz_n4 nx n a b c d (4 * n) = a := by
  unfold fz_n4; rw [fz_un (by omega), fz_un (by omega), fz_un (by omega), fz_us]
theorem fz_n4_1 {nx : Nat → Nat} {n a b c d : Nat} : fz_n4 nx n a b c d (4 * n + 1) = b := by
  unfold fz_n4; rw [fz_un (by omega), fz_un (by omega), fz_us]
theorem fz_n4_2 {nx : Nat → Nat} {n a b c d : Nat} : fz_n4 nx n a b c d (4 * n + 2) = c := by
  unfold fz_n4; rw [fz_un (by omega), fz_us]
theorem fz_n4_3 {nx : Nat → Nat} {n a b c d : Nat} : fz_n4 nx n a b c d (4 * n + 3) = d := by
  unfold fz_n4; rw [fz_us]
theorem fz_n4_k {nx : Nat → Nat} {n a b c d x : Nat} (h : 1 ≤ x) (g : x ≤ 4) : fz_n4 nx n a b c d (4 * n + x - 1) = fz_k4 a b c d x := by
  refine fz_c4 (P := fun x => fz_n4 nx n a b c d (4 * n + x - 1) = fz_k4 a b c d x) ?_ ?_ ?_ ?_ h g
  · exact fz_n4_0
  · exact fz_n4_1
  · exact fz_n4_2
  · exact fz_n4_3
/-! a node is made -/
theorem fz_alloc {un al : Nat} {nx en wd hd ch he rt : Nat → Nat} {F : List Nat} {B : Nat → List Nat} {L : Nat → List (List Nat)} {n0 a b c d e : Nat} {hd' : Nat → Nat}
    (H : fz_HP un al nx en wd hd ch he rt (n0 :: F) B L (fun _ => 0)) (ka : fz_Nd (n0 :: F) a) (kb : fz_Nd (n0 :: F) b) (kc : fz_Nd (n0 :: F) c) (kd : fz_Nd (n0 :: F) d) (he1 : e ≤ 1) (hz : ¬ (a + b + c + d = 0 ∧ e = 0))
    (hno : ∀ n, fz_A (n0 :: F) n → ¬ (nx (4 * n) = a ∧ nx (4 * n + 1) = b ∧ nx (4 * n + 2) = c ∧ nx (4 * n + 3) = d ∧ en n = e))
    (h24 : (fz_gl e (fun x => L (fz_k4 a b c d x))).length ≤ 24) (h6 : fz_hb 6 (fz_gl e (fun x => L (fz_k4 a b c d x))))
    (hhd : ∀ m, m ≠ 0 → hd' m = (if m = n0 then 0 else hd m) + fz_kc (fz_n4 nx n0 a b c d) n0 m) :
    fz_HP (ch n0) (al + 1) (fz_n4 nx n0 a b c d) (fz_u en n0 e) (fz_u wd n0 (fz_gl e (fun x => L (fz_k4 a b c d x))).length) hd' (fz_u ch n0 (he (fz_hn a b c d e))) (fz_u he (fz_hn a b c d e) n0) rt F
      (fun h => if h = fz_hn a b c d e then n0 :: B h else B h) (fun n => if n = n0 then fz_gl e (fun x => L (fz_k4 a b c d x)) else L n) (fun _ => 0) ∧ hd' n0 = 0 := by
  obtain ⟨g, hj, hD, hF, hB, hR, hal⟩ := H
  have n0F := hF.2.2 n0 (List.mem_cons_self ..)
  have nd := List.nodup_cons.mp hF.2.1
  have kx : ∀ x, fz_Nd (n0 :: F) (fz_k4 a b c d x) := by
    intro x; unfold fz_k4
    split
    · exact ka
    · split
      · exact kb
      · split
        · exact kc
        · exact kd
  have kn : ∀ x, fz_k4 a b c d x ≠ n0 := fun x => fz_Nd_ne n0F.1 (kx x)
  have A0 : fz_A F n0 := ⟨n0F.1, n0F.2, nd.1⟩
  have svg : fz_sv (fz_gl e (fun x => L (fz_k4 a b c d x))) := fz_sv_gl fun x _ _ => fz_gr_sv g (kx x)
  have gne : fz_gl e (fun x => L (fz_k4 a b c d x)) ≠ [] := by
    intro q
    have hl := congrArg List.length q
    rw [fz_gl_len] at hl
    simp only [List.length_nil] at hl
    have z : ∀ x, (L (fz_k4 a b c d x)).length = 0 → fz_k4 a b c d x = 0 := fun x hx => (fz_gr_0 g (kx x)).mpr (List.eq_nil_of_length_eq_zero hx)
    have z1 : a = 0 := z 1 (by omega)
    have z2 : b = 0 := z 2 (by omega)
    have z3 : c = 0 := z 3 (by omega)
    have z4 : d = 0 := z 4 (by omega)
    have z5 : e = 0 := by
      by_cases q : e = 0
      · exact q
      · rw [if_neg q] at hl; omega
    exact hz ⟨by omega, z5⟩
  have hno' : ∀ n, fz_A (n0 :: F) n → L n ≠ fz_gl e (fun x => L (fz_k4 a b c d x)) := by
    intro n hA q
    have kk : ∀ x, 1 ≤ x → x ≤ 4 → nx (4 * n + x - 1) = fz_k4 a b c d x := by
      intro x x1 x4
      have e1 : L (nx (4 * n + x - 1)) = L (fz_k4 a b c d x) := by
        rw [fz_gr_rs g hA x1 x4, q, fz_rs_gl x1 x4]
      have w1 := fz_gr_kid g hA x1 x4
      have w2 := kx x
      rcases w1 with w1 | w1
      · rw [w1, g.2.1] at e1
        rw [w1]; exact ((fz_gr_0 g w2).mpr e1.symm).symm
      · rcases w2 with w2 | w2
        · rw [w2, g.2.1] at e1
          exact absurd e1 (fz_gr_ne g w1)
        · exact hj _ _ w1 w2 e1
    refine hno n hA ⟨kk 1 (by omega) (by omega), kk 2 (by omega) (by omega), kk 3 (by omega) (by omega), kk 4 (by omega) (by omega), ?_⟩
    rw [fz_gr_en g hA, q, fz_eb_gl he1]
  have rfz : fz_rf nx rt (n0 :: F) n0 = 0 := by
    rcases Nat.eq_zero_or_pos (fz_rf nx rt (n0 :: F) n0) with z | z
    · exact z
    · rcases fz_rf_p z with ⟨m, x, hA, x1, x4, q⟩ | ⟨s, hs, q⟩
      · exact absurd q (fz_Nd_ne n0F.1 (fz_gr_kid g hA x1 x4))
      · exact absurd q (fz_Nd_ne n0F.1 (hR s hs))
  have kcz : fz_kc (fz_n4 nx n0 a b c d) n0 n0 = 0 := by
    rcases Nat.eq_zero_or_pos (fz_kc (fz_n4 nx n0 a b c d) n0 n0) with z | z
    · exact z
    · obtain ⟨x, x1, x4, q⟩ := fz_kc_p z
      rw [fz_n4_k x1 x4] at q
      exact absurd q (kn x)
  have hd0 : hd' n0 = 0 := by rw [hhd n0 (by omega), if_pos rfl, kcz]
  refine ⟨⟨⟨?_, ?_, ?_⟩, ?_, ?_, ⟨?_, nd.2, fun n m => hF.2.2 n (List.mem_cons_of_mem _ m)⟩, ?_, fun s hs => fz_Nd_cons (hR s hs), ?_⟩, hd0⟩
  · rw [fz_un (by omega)]; exact g.1
  · show (if 0 = n0 then _ else L 0) = []
    rw [if_neg (by omega)]; exact g.2.1
  · intro n hA
    by_cases z : n = n0
    · subst z
      have LL : (fun m => if m = n then fz_gl e (fun x => L (fz_k4 a b c d x)) else L m) n = fz_gl e (fun x => L (fz_k4 a b c d x)) := if_pos rfl
      unfold fz_nk
      rw [LL, fz_us, fz_us]
      refine ⟨he1, rfl, gne, h24, h6, svg, ?_, ?_⟩
      · refine fz_gl_ext fun x x1 x4 => ?_
        show L (fz_k4 a b c d x) = if fz_n4 nx n a b c d (4 * n + x - 1) = n then _ else L (fz_n4 nx n a b c d (4 * n + x - 1))
        rw [fz_n4_k x1 x4, if_neg (kn x)]
      · intro x x1 x4
        rw [fz_n4_k x1 x4]
        exact fz_Nd_cons (kx x)
    · have hA' := (fz_A_cons z).mpr hA
      have LL : (fun m => if m = n0 then fz_gl e (fun x => L (fz_k4 a b c d x)) else L m) n = L n := if_neg z
      have ex : ∀ x, 1 ≤ x → x ≤ 4 → fz_n4 nx n0 a b c d (4 * n + x - 1) = nx (4 * n + x - 1) := fun x x1 x4 => fz_n4_o (by omega)
      obtain ⟨q1, q2, q3, q4, q5, q6, q7, q8⟩ := g.2.2 n hA'
      unfold fz_nk
      rw [LL, fz_un z, fz_un z]
      refine ⟨q1, q2, q3, q4, q5, q6, ?_, ?_⟩
      · conv => lhs; rw [q7]
        refine fz_gl_ext fun x x1 x4 => ?_
        show L (nx (4 * n + x - 1)) = if fz_n4 nx n0 a b c d (4 * n + x - 1) = n0 then _ else L (fz_n4 nx n0 a b c d (4 * n + x - 1))
        rw [ex x x1 x4, if_neg (fz_Nd_ne n0F.1 (q8 x x1 x4))]
      · intro x x1 x4
        rw [ex x x1 x4]
        exact fz_Nd_cons (q8 x x1 x4)
  · intro n m hn hm q
    dsimp only at q
    by_cases z : n = n0
    · by_cases y : m = n0
      · rw [z, y]
      · rw [if_pos z, if_neg y] at q
        exact absurd q.symm (hno' m ((fz_A_cons y).mpr hm))
    · by_cases y : m = n0
      · rw [if_neg z, if_pos y] at q
        exact absurd q (hno' n ((fz_A_cons z).mpr hn))
      · rw [if_neg z, if_neg y] at q
        exact hj n m ((fz_A_cons z).mpr hn) ((fz_A_cons y).mpr hm) q
  · intro n hA
    have ra := fz_rf_add (nx := nx) (nx' := fz_n4 nx n0 a b c d) (rt := rt) nd.1 n0F.1 n0F.2 (fun j h => fz_n4_o h) n
    show hd' n = _ + 0
    rw [ra]
    by_cases z : n = n0
    · subst z
      rw [hd0, rfz, kcz]
    · have e0 : hd n = fz_rf nx rt (n0 :: F) n + 0 := hD n ((fz_A_cons z).mpr hA)
      rw [hhd n (by have := hA.1; omega), if_neg z, e0]
      omega
  · have := hF.1
    obtain ⟨_, _, q⟩ := this
    exact fz_ll_u nd.1 q
  · intro h hh
    have ⟨b1, b2, b3⟩ := hB h hh
    have nB : ¬ n0 ∈ B h := fun m => ((b3 n0).mp m).1.2.2 (List.mem_cons_self ..)
    have hh4 : fz_h4 (fz_n4 nx n0 a b c d) (fz_u en n0 e) n0 = fz_hn a b c d e := by
      unfold fz_h4; rw [fz_n4_0, fz_n4_1, fz_n4_2, fz_n4_3, fz_us]
    have hho : ∀ n, n ≠ n0 → fz_h4 (fz_n4 nx n0 a b c d) (fz_u en n0 e) n = fz_h4 nx en n := by
      intro n z
      unfold fz_h4
      rw [fz_n4_o (by omega), fz_n4_o (by omega), fz_n4_o (by omega), fz_n4_o (by omega), fz_un z]
    dsimp only
    by_cases z : h = fz_hn a b c d e
    · rw [if_pos z, z, fz_us]
      rw [z] at b1 b2 b3 nB
      refine ⟨⟨rfl, n0F.1, by rw [fz_us]; exact fz_ll_u nB b1⟩, List.nodup_cons.mpr ⟨nB, b2⟩, ?_⟩
      intro n
      rw [List.mem_cons]
      by_cases y : n = n0
      · subst y
        exact ⟨fun _ => ⟨A0, hh4⟩, fun _ => Or.inl rfl⟩
      · rw [b3 n, hho n y, fz_A_cons y]
        exact ⟨fun m => m.elim (fun q => absurd q y) id, Or.inr⟩
    · rw [if_neg z, fz_un z]
      refine ⟨fz_ll_u nB b1, b2, ?_⟩
      intro n
      by_cases y : n = n0
      · subst y
        exact ⟨fun m => absurd m nB, fun m => absurd (m.2.symm.trans hh4) z⟩
      · rw [b3 n, hho n y, fz_A_cons y]
  · simp only [List.length_cons] at hal; omega
/-! a node is given up -/
theorem fz_free {un al : Nat} {nx en wd hd ch he rt : Nat → Nat} {F : List Nat} {B : Nat → List Nat} {L : Nat → List (List Nat)} {n : Nat} {ch1 he1 : Nat → Nat} {l : List Nat}
    (H : fz_HP un (al + 1) nx en wd hd ch he rt F B L (fun _ => 0)) (hA : fz_A F n) (hr : hd n = 0)
    (c1 : fz_ll ch1 un F) (c2 : ∀ h, h < 256 → h ≠ fz_h4 nx en n → fz_ll ch1 (he1 h) (B h)) (c3 : fz_ll ch1 (he1 (fz_h4 nx en n)) l) (c4 : l.Nodup) (c5 : ∀ x, x ∈ l ↔ x ∈ B (fz_h4 nx en n) ∧ x ≠ n) :
    fz_HP n al nx en wd hd (fz_u ch1 n un) he1 rt (n :: F) (fun h => if h = fz_h4 nx en n then l else B h) L (fun m => fz_kc nx n m) := by
  obtain ⟨g, hj, hD, hF, hB, hR, hal⟩ := H
  have rz : fz_rf nx rt F n = 0 := by have := hD n hA; omega
  have kn : ∀ m c, fz_A F m → 1 ≤ c → c ≤ 4 → nx (4 * m + c - 1) ≠ n := fun m c h1 h2 h3 q => by
    have := fz_rf_kid (rt := rt) h1 h2 h3 q; omega
  have rn : ∀ s, s < 5 → rt s ≠ n := fun s hs q => by
    have := fz_rf_root (nx := nx) (F := F) hs q; omega
  have Nn : ∀ x, fz_Nd F x → x ≠ n → fz_Nd (n :: F) x := fun x h1 h2 => h1.elim Or.inl (fun q => Or.inr ((fz_A_cons h2).mpr q))
  have bk : ∀ x, fz_A (n :: F) x → fz_A F x := fun x q => (fz_A_cons (fz_A_ne q)).mp q
  refine ⟨⟨g.1, g.2.1, ?_⟩, fun x y hx hy => hj x y (bk x hx) (bk y hy), ?_, ⟨⟨rfl, hA.1, by rw [fz_us]; exact fz_ll_u hA.2.2 c1⟩, List.nodup_cons.mpr ⟨hA.2.2, hF.2.1⟩, ?_⟩, ?_, ?_, ?_⟩
  · intro x hx
    have hx' := bk x hx
    obtain ⟨q1, q2, q3, q4, q5, q6, q7, q8⟩ := g.2.2 x hx'
    exact ⟨q1, q2, q3, q4, q5, q6, q7, fun c a b => Nn _ (q8 c a b) (kn x c hx' a b)⟩
  · intro x hx
    have hx' := bk x hx
    have ra := fz_rf_add (nx := nx) (nx' := nx) (rt := rt) (n0 := n) hA.2.2 hA.1 hA.2.1 (fun _ _ => rfl) x
    have e0 : hd x = fz_rf nx rt F x + 0 := hD x hx'
    show hd x = _ + fz_kc nx n x
    rw [e0, ra]
    omega
  · intro x m
    rcases List.mem_cons.mp m with e | m
    · rw [e]; exact ⟨hA.1, hA.2.1⟩
    · exact hF.2.2 x m
  · intro h hh
    have ⟨b1, b2, b3⟩ := hB h hh
    dsimp only
    by_cases z : h = fz_h4 nx en n
    · rw [if_pos z, z]
      rw [z] at b3
      refine ⟨fz_ll_u (fun m => ((c5 n).mp m).2 rfl) c3, c4, ?_⟩
      intro x
      rw [c5, b3]
      constructor
      · rintro ⟨⟨q1, q2⟩, q3⟩
        exact ⟨(fz_A_cons q3).mpr q1, q2⟩
      · rintro ⟨q1, q2⟩
        exact ⟨⟨bk x q1, q2⟩, fz_A_ne q1⟩
    · rw [if_neg z]
      have nB : ¬ n ∈ B h := fun m => z ((b3 n).mp m).2.symm
      refine ⟨fz_ll_u nB (c2 h hh z), b2, ?_⟩
      intro x
      rw [b3]
      constructor
      · rintro ⟨q1, q2⟩
        exact ⟨(fz_A_cons (fun e => z (by rw [← q2, e]))).mpr q1, q2⟩
      · rintro ⟨q1, q2⟩
        exact ⟨bk x q1, q2⟩
  · exact fun s hs => Nn _ (hR s hs) (rn s hs)
  · simp only [List.length_cons]; omega
end
section
/-! walks over the heap: a node is found or made, unlinked -/
theorem fz_ll_hd {ch : Nat → Nat} {l : List Nat} {x : Nat} (h : fz_ll ch x l) : x = 0 ∨ x ∈ l := by
  cases l with
  | nil => exact Or.inl h
  | cons y l => exact Or.inr (by rw [h.1]; exact List.mem_cons_self ..)
theorem fz_cb8 {f : Nat → Nat} {k v : Nat} {i : Int32} (hi : i = nI k) (hk : k < 2 ^ 31) (hv : v < 128) : upd (fz_c f) i.toNatClampNeg (vp_nar .byte (nI v).toInt8.toInt32) = fz_c (fz_u f k v) := by
  rw [hi, nI_clamp hk, fz_nb2 hv, fz_cu]
def fz_ha (nx : Nat → Nat) (n : Nat) (hd : Nat → Nat) : Nat → Nat → Nat
  | 0 => hd
  | i + 1 => if nx (4 * n + i) = 0 then fz_ha nx n hd i else fz_u (fz_ha nx n hd i) (nx (4 * n + i)) (fz_ha nx n hd i (nx (4 * n + i)) + 1)
def fz_ws (nx wd : Nat → Nat) (n : Nat) : Nat → Nat
  | 0 => 0
  | i + 1 => fz_ws nx wd n i + wd (nx (4 * n + i))
theorem fz_ha_eq {nx hd : Nat → Nat} {n m : Nat} (hm : m ≠ 0) : ∀ i, fz_ha nx n hd i m = hd m + fz_sumN (fun j => fz_i1 (nx (4 * n + j)) m) i
  | 0 => rfl
  | i + 1 => by
    have ih := fz_ha_eq (nx := nx) (hd := hd) (n := n) hm i
    simp only [fz_ha, fz_sumN]
    by_cases z : nx (4 * n + i) = 0
    · rw [if_pos z, ih, z, fz_i1_n (by omega)]; omega
    · rw [if_neg z]
      by_cases y : m = nx (4 * n + i)
      · rw [← y, fz_us, ih, fz_i1_s]; omega
      · rw [fz_un y, ih, fz_i1_n (fun q => y q.symm)]; omega
theorem fz_ha_4 {nx hd : Nat → Nat} {n m : Nat} (hm : m ≠ 0) : fz_ha nx n hd 4 m = hd m + fz_kc nx n m := by
  rw [fz_ha_eq hm]
  simp only [fz_sumN, fz_kc]
  simp only [Nat.add_zero]
  omega
section
variable {un al : Nat} {fl fy : Int32} {nx en wd rt hd ch he wt : Nat → Nat} {aL aD aP aY aS aT aN aR aM aQ aB : Nat → Int32} {F : List Nat} {B : Nat → List Nat} {L : Nat → List (List Nat)}
theorem fz_x_node234 {post : Int32 → SX → Prop} {h n e : Nat} (hn : n < 520) (hh : h < 256) (kid : ∀ i, i < 4 → nx (4 * n + i) < 520) (bd : ∀ i, i < 4 → nx (4 * n + i) ≠ 0 → hd (nx (4 * n + i)) ≤ 3000) (tot : e + fz_ws nx wd n 4 < 128) (hhe : he h < 520)
    (hp : post (nI n) (nI un, nI (al + 1), fl, fy, fz_c nx, fz_c en, fz_c (fz_u wd n (e + fz_ws nx wd n 4)), fz_c (fz_ha nx n hd 4), fz_c (fz_u ch n (he h)), fz_c (fz_u he h n), fz_c rt, fz_c wt, aL, aD, aP, aY, aS, aT, aN, aR, aM, aQ, aB)) :
    ∀ (d i f : Nat), i + d = 4 → d < f → wX_node_234 post (nI h) (nI n) (nI un) (nI al) fl fy f (nI (e + fz_ws nx wd n i)) (nI (4 * n + i)) (fz_c nx) (fz_c en) (fz_c wd) (fz_c (fz_ha nx n hd i)) (fz_c ch) (fz_c he) (fz_c rt) (fz_c wt) aL aD aP aY aS aT aN aR aM aQ aB
  | _, _, 0, _, h => by omega
  | 0, i, f + 1, hi, _ => by
    have : i = 4 := by omega
    subst this
    have e4 : 4 * nI n + 4 = nI (4 * n + 4) := fz_ix0
    have i1 : vp_in (nI n) 520 := vp_in_nI hn (by omega)
    have i2 : vp_in (nI h) 256 := vp_in_nI hh (by omega)
    exact br_t (by rw [e4]; exact nI_le (Nat.le_refl _) (by omega)) ⟨i1, nm_r (fz_cb8 rfl (by omega) tot) ⟨i2, i1, nm_r (e' := fz_c (fz_u ch n (he h))) (by rw [fz_ca he rfl (by omega)]; exact fz_cs1 rfl (by omega) (by omega)) ⟨i2, nm_r (fz_cs rfl (by omega) (by omega)) (nm_r (nI_1 al) hp)⟩⟩⟩
  | d + 1, i, f + 1, hi, hf => by
    have e4 : 4 * nI n + 4 = nI (4 * n + 4) := fz_ix0
    have k1 := kid i (by omega)
    have ek : fz_c nx (nI (4 * n + i)).toNatClampNeg = nI (nx (4 * n + i)) := fz_ca nx rfl (by omega)
    have i1 : vp_in (nI (4 * n + i)) 2080 := vp_in_nI (by omega) (by omega)
    have i2 : vp_in (fz_c nx (nI (4 * n + i)).toNatClampNeg) 520 := by rw [ek]; exact vp_in_nI k1 (by omega)
    have IH := fz_x_node234 hn hh kid bd tot hhe hp d (i + 1) f (by omega) (by omega)
    refine br_f (by rw [e4]; exact nI_ge (by omega) (by omega)) ⟨i1, i2, nm_r (e' := nI (e + fz_ws nx wd n (i + 1))) ?_ ⟨i1, ?_⟩⟩
    · rw [fz_ca wd ek (by omega), nI_add]
      exact congrArg nI (by simp only [fz_ws]; omega)
    · by_cases z : nx (4 * n + i) = 0
      · refine br_t (by rw [ek, z]; decide) (nm_r (nI_1 _) ?_)
        simp only [fz_ha, if_pos z] at IH
        exact IH
      · refine br_f (by rw [ek]; exact nI_nle (by omega) (by omega)) ⟨i1, i2, i2, nm_r (e' := fz_c (fz_ha nx n hd (i + 1))) ?_ (nm_r (nI_1 _) IH)⟩
        have b1 := bd i (by omega) z
        have b2 := fz_ha_eq (nx := nx) (hd := hd) (n := n) z i
        have b3 := fz_sum_le (f := fun j => fz_i1 (nx (4 * n + j)) (nx (4 * n + i))) (c := 1) (N := i) (fun j _ => fz_i1_le _ _)
        simp only [fz_ha, if_neg z]
        rw [fz_ca _ ek (by omega), nI_1]
        exact fz_cs ek (by omega) (by omega)
theorem fz_x_node40 {post : Int32 → SX → Prop} {a b c d e h : Nat} (ba : a < 520) (bb : b < 520) (bc : c < 520) (bd : d < 520) (be : e ≤ 1)
    (H0 : (∀ n, fz_A F n → fz_h4 nx en n = h → ¬ (nx (4 * n) = a ∧ nx (4 * n + 1) = b ∧ nx (4 * n + 2) = c ∧ nx (4 * n + 3) = d ∧ en n = e)) → ∀ f, wX_node_40 post (nI a) (nI b) (nI c) (nI d) (nI e) (nI h) (nI un) (nI al) fl fy (fz_c nx) (fz_c en) (fz_c wd) (fz_c hd) (fz_c ch) (fz_c he) (fz_c rt) (fz_c wt) aL aD aP aY aS aT aN aR aM aQ aB (f + 1) (nI 0))
    (H1 : ∀ n, fz_A F n → nx (4 * n) = a ∧ nx (4 * n + 1) = b ∧ nx (4 * n + 2) = c ∧ nx (4 * n + 3) = d ∧ en n = e → post (nI n) (nI un, nI al, fl, fy, fz_c nx, fz_c en, fz_c wd, fz_c hd, fz_c ch, fz_c he, fz_c rt, fz_c wt, aL, aD, aP, aY, aS, aT, aN, aR, aM, aQ, aB))
    (HA : ∀ n, fz_A F n → (∀ i, i < 4 → nx (4 * n + i) < 520) ∧ en n ≤ 1) :
    ∀ (f : Nat) (l : List Nat) (x : Nat), fz_ll ch x l → (∀ n, n ∈ l → fz_A F n) → l.length < f → (∀ n, fz_A F n → fz_h4 nx en n = h → ¬ n ∈ l → ¬ (nx (4 * n) = a ∧ nx (4 * n + 1) = b ∧ nx (4 * n + 2) = c ∧ nx (4 * n + 3) = d ∧ en n = e)) → wX_node_40 post (nI a) (nI b) (nI c) (nI d) (nI e) (nI h) (nI un) (nI al) fl fy (fz_c nx) (fz_c en) (fz_c wd) (fz_c hd) (fz_c ch) (fz_c he) (fz_c rt) (fz_c wt) aL aD aP aY aS aT aN aR aM aQ aB f (nI x)
  | 0, _, _, _, _, h, _ => by omega
  | f + 1, [], x, hl, _, _, hno => by
    have : x = 0 := hl
    subst this
    exact H0 (fun n h1 h2 => hno n h1 h2 (by simp)) f
  | f + 1, y :: l, x, hl, hA, hf, hno => by
    obtain ⟨rfl, y0, hl'⟩ := hl
    have Ay := hA x (List.mem_cons_self ..)
    have yl := Ay.2.1
    obtain ⟨kb, eb⟩ := HA x Ay
    have k0 : nx (4 * x) < 520 := kb 0 (by omega)
    have k1 := kb 1 (by omega)
    have k2 := kb 2 (by omega)
    have k3 := kb 3 (by omega)
    have E0 : 4 * nI x = nI (4 * x) := fz_i4 x
    have E1 : 4 * nI x + 1 = nI (4 * x + 1) := fz_ix0
    have E2 : 4 * nI x + 2 = nI (4 * x + 2) := fz_ix0
    have E3 : 4 * nI x + 3 = nI (4 * x + 3) := fz_ix0
    have hin : vp_in (nI x) 520 := vp_in_nI yl (by omega)
    have IH : ¬ (nx (4 * x) = a ∧ nx (4 * x + 1) = b ∧ nx (4 * x + 2) = c ∧ nx (4 * x + 3) = d ∧ en x = e) → vp_in (nI x) 520 ∧ ∀ z, z = fz_c ch (nI x).toNatClampNeg → wX_node_40 post (nI a) (nI b) (nI c) (nI d) (nI e) (nI h) (nI un) (nI al) fl fy (fz_c nx) (fz_c en) (fz_c wd) (fz_c hd) (fz_c ch) (fz_c he) (fz_c rt) (fz_c wt) aL aD aP aY aS aT aN aR aM aQ aB f z := by
      intro hn
      refine ⟨hin, nm_r (fz_ca ch rfl (by omega)) (fz_x_node40 ba bb bc bd be H0 H1 HA f l (ch x) hl' (fun n m => hA n (List.mem_cons_of_mem _ m)) (by simp only [List.length_cons] at hf; omega) ?_)⟩
      intro n h1 h2 h3
      by_cases z : n = x
      · rw [z]; exact hn
      · exact hno n h1 h2 (by simp [z, h3])
    refine br_f (nI_nle y0 (by omega)) ⟨by rw [E0]; exact vp_in_nI (by omega) (by omega), ?_⟩
    rw [fz_ca nx E0 (by omega), fz_ca nx E1 (by omega), fz_ca nx E2 (by omega), fz_ca nx E3 (by omega), fz_ca en (i := nI x) rfl (by omega)]
    by_cases q0 : nx (4 * x) = a
    · refine br_t (by rw [q0]) ⟨by rw [E1]; exact vp_in_nI (by omega) (by omega), ?_⟩
      by_cases q1 : nx (4 * x + 1) = b
      · refine br_t (by rw [q1]) ⟨by rw [E2]; exact vp_in_nI (by omega) (by omega), ?_⟩
        by_cases q2 : nx (4 * x + 2) = c
        · refine br_t (by rw [q2]) ⟨by rw [E3]; exact vp_in_nI (by omega) (by omega), ?_⟩
          by_cases q3 : nx (4 * x + 3) = d
          · refine br_t (by rw [q3]) ⟨hin, ?_⟩
            by_cases q4 : en x = e
            · exact br_t (by rw [q4]) (H1 x Ay ⟨q0, q1, q2, q3, q4⟩)
            · exact br_f (by rw [nI_eq (by omega) (by omega)]; exact q4) (IH (fun q => q4 q.2.2.2.2))
          · exact br_f (by rw [nI_eq (by omega) (by omega)]; exact q3) (IH (fun q => q3 q.2.2.2.1))
        · exact br_f (by rw [nI_eq (by omega) (by omega)]; exact q2) (IH (fun q => q2 q.2.2.1))
      · exact br_f (by rw [nI_eq (by omega) (by omega)]; exact q1) (IH (fun q => q1 q.2.1))
    · exact br_f (by rw [nI_eq (by omega) (by omega)]; exact q0) (IH (fun q => q0 q.1))
def fz_stab (hd : Nat → Nat) (F : List Nat) (q : Nat) : Prop := ∀ n, fz_A F n → n ≠ q → 0 < hd n
def fz_ext (F : List Nat) (L : Nat → List (List Nat)) (F' : List Nat) (L' : Nat → List (List Nat)) : Prop := ∀ n, fz_A F n → fz_A F' n ∧ L' n = L n
theorem fz_x_node {post : Int32 → SX → Prop} {a b c d e q : Nat} (H : fz_HP un al nx en wd hd ch he rt F B L (fun _ => 0)) (ka : fz_Nd F a) (kb : fz_Nd F b) (kc : fz_Nd F c) (kd : fz_Nd F d) (be : e ≤ 1) (hF : 0 < F.length)
    (h24 : (fz_gl e (fun x => L (fz_k4 a b c d x))).length ≤ 24) (h6 : fz_hb 6 (fz_gl e (fun x => L (fz_k4 a b c d x))))
    (hs : fz_stab hd F q) (hq : q = 0 ∨ ∃ x, 1 ≤ x ∧ x ≤ 4 ∧ q = fz_k4 a b c d x)
    (P : ∀ (m un' al' : Nat) (nx' en' wd' hd' ch' he' : Nat → Nat) (F' : List Nat) (B' : Nat → List Nat) (L' : Nat → List (List Nat)), fz_HP un' al' nx' en' wd' hd' ch' he' rt F' B' L' (fun _ => 0) → fz_Nd F' m → L' m = fz_gl e (fun x => L (fz_k4 a b c d x)) → fz_ext F L F' L' → fz_stab hd' F' m → F.length ≤ F'.length + 1 → post (nI m) (nI un', nI al', fl, fy, fz_c nx', fz_c en', fz_c wd', fz_c hd', fz_c ch', fz_c he', fz_c rt, fz_c wt, aL, aD, aP, aY, aS, aT, aN, aR, aM, aQ, aB)) :
    wpX_node post (nI un, nI al, fl, fy, fz_c nx, fz_c en, fz_c wd, fz_c hd, fz_c ch, fz_c he, fz_c rt, fz_c wt, aL, aD, aP, aY, aS, aT, aN, aR, aM, aQ, aB) (nI a) (nI b) (nI c) (nI d) (nI e) := by
  obtain ⟨g, hj, hD, hFr, hB, hR, hal⟩ := id H
  have ba := fz_Nd_lt ka
  have bb := fz_Nd_lt kb
  have bc := fz_Nd_lt kc
  have bd := fz_Nd_lt kd
  have kx : ∀ x, fz_Nd F (fz_k4 a b c d x) := by
    intro x; unfold fz_k4
    split
    · exact ka
    · split
      · exact kb
      · split
        · exact kc
        · exact kd
  have es : nI a + nI b + nI c + nI d = nI (a + b + c + d) := by rw [nI_add, nI_add, nI_add]
  have N18 : ¬ (a + b + c + d = 0 ∧ e = 0) → wX_node_18 post (nI a) (nI b) (nI c) (nI d) (nI e) (nI un) (nI al) fl fy (fz_c nx) (fz_c en) (fz_c wd) (fz_c hd) (fz_c ch) (fz_c he) (fz_c rt) (fz_c wt) aL aD aP aY aS aT aN aR aM aQ aB := by
    intro hz
    refine fz_x_hash ?_
    obtain ⟨eh, hl⟩ := fz_hn_eq a b c d e
    rw [eh]
    have hb := hB _ hl
    refine ⟨vp_in_nI hl (by omega), nm_r (fz_ca he rfl (by omega)) ⟨(B (fz_hn a b c d e)).length + 1, ?_⟩⟩
    refine fz_x_node40 ba bb bc bd be ?_ ?_ ?_ _ (B (fz_hn a b c d e)) _ hb.1 (fun n m => ((hb.2.2 n).mp m).1) (Nat.lt_succ_self _) (fun n h1 h2 h3 => absurd ((hb.2.2 n).mpr ⟨h1, h2⟩) h3)
    · -- a new one
      intro hno f
      obtain ⟨n0, F0, eF⟩ : ∃ n0 F0, F = n0 :: F0 := by
        cases F with
        | nil => simp at hF
        | cons n0 F0 => exact ⟨n0, F0, rfl⟩
      subst eF
      have hll := hFr.1
      obtain ⟨eu, n00, hll'⟩ := hll
      subst eu
      have n0l := (hFr.2.2 un (List.mem_cons_self ..)).2
      have chl : ch un < 520 := by
        rcases fz_ll_hd hll' with z | z
        · omega
        · exact (hFr.2.2 _ (List.mem_cons_of_mem _ z)).2
      have hel : he (fz_hn a b c d e) < 520 := by
        rcases fz_ll_hd hb.1 with z | z
        · omega
        · exact ((hb.2.2 _).mp z).1.2.1
      have E0 : 4 * nI un = nI (4 * un) := fz_i4 un
      have E1 : 4 * nI un + 1 = nI (4 * un + 1) := fz_ix0
      have E2 : 4 * nI un + 2 = nI (4 * un + 2) := fz_ix0
      have E3 : 4 * nI un + 3 = nI (4 * un + 3) := fz_ix0
      have hin : vp_in (nI un) 520 := vp_in_nI n0l (by omega)
      have tot : (if e = 0 then 0 else 1) + fz_ws (fz_n4 nx un a b c d) wd un 4 = (fz_gl e (fun x => L (fz_k4 a b c d x))).length := by
        rw [fz_gl_len]
        simp only [fz_ws, Nat.add_zero]
        rw [fz_n4_0, fz_n4_1, fz_n4_2, fz_n4_3, fz_gr_wd g ka, fz_gr_wd g kb, fz_gr_wd g kc, fz_gr_wd g kd]
        simp only [fz_k4]
        simp
      have n4k : ∀ i, i < 4 → fz_n4 nx un a b c d (4 * un + i) = fz_k4 a b c d (i + 1) := fun i hi => fz_n4_k (x := i + 1) (by omega) (by omega)
      have FIN := fz_alloc (hd' := fz_ha (fz_n4 nx un a b c d) un (fz_u hd un 0) 4) H ka kb kc kd be hz (fun n h1 h2 => hno n h1 (by unfold fz_h4; rw [h2.1, h2.2.1, h2.2.2.1, h2.2.2.2.1, h2.2.2.2.2]) h2) h24 h6 (fun m hm => by
        rw [fz_ha_4 hm]
        by_cases z : m = un
        · rw [if_pos z, z, fz_us]
        · rw [if_neg z, fz_un z])
      obtain ⟨HP', hd0⟩ := FIN
      have nd := (List.nodup_cons.mp hFr.2.1).1
      have L0 : (fun n => if n = un then fz_gl e (fun x => L (fz_k4 a b c d x)) else L n) un = fz_gl e (fun x => L (fz_k4 a b c d x)) := if_pos rfl
      have A0 : fz_A F0 un := ⟨n00, n0l, nd⟩
      have DONE := P un (ch un) (al + 1) _ _ _ _ _ _ F0 _ _ HP' (Or.inr A0) L0 (fun n hA => ⟨(fz_A_cons (fz_A_ne hA)).mp hA, if_neg (fz_A_ne hA)⟩) (by
        intro n hA hne
        have hA' := (fz_A_cons hne).mpr hA
        have e2 := fz_ha_4 (nx := fz_n4 nx un a b c d) (hd := fz_u hd un 0) (n := un) (m := n) (by have := hA.1; omega)
        rw [fz_un hne] at e2
        rw [e2]
        by_cases z : n = q
        · rcases hq with hq | ⟨x, x1, x4, hq⟩
          · have := hA.1; omega
          · have := fz_kc_ge (nx := fz_n4 nx un a b c d) (m := un) (n := n) x1 x4 (by rw [fz_n4_k x1 x4, z, hq])
            omega
        · have := hs n hA' z
          omega) (by simp)
      have GO : ∀ e0 : Nat, e0 = (if e = 0 then 0 else 1) → ∃ n234, wX_node_234 post (nI (fz_hn a b c d e)) (nI un) (nI (ch un)) (nI al) fl fy n234 (nI e0) (nI (4 * un)) (fz_c (fz_n4 nx un a b c d)) (fz_c (fz_u en un e)) (fz_c wd) (fz_c (fz_u hd un 0)) (fz_c ch) (fz_c he) (fz_c rt) (fz_c wt) aL aD aP aY aS aT aN aR aM aQ aB := by
        intro e0 he0
        have W := fz_x_node234 (post := post) (un := ch un) (al := al) (fl := fl) (fy := fy) (nx := fz_n4 nx un a b c d) (en := fz_u en un e) (wd := wd) (hd := fz_u hd un 0) (ch := ch) (he := he) (rt := rt) (wt := wt) (aL := aL) (aD := aD) (aP := aP) (aY := aY) (aS := aS) (aT := aT) (aN := aN) (aR := aR) (aM := aM) (aQ := aQ) (aB := aB) (h := fz_hn a b c d e) (n := un) (e := e0) n0l hl (fun i hi => by rw [n4k i hi]; exact fz_Nd_lt (kx _)) (fun i hi hne => by
          rw [n4k i hi] at hne ⊢
          have hA := fz_Nd_A (kx (i + 1)) hne
          have e9 : hd (fz_k4 a b c d (i + 1)) = fz_rf nx rt (un :: F0) (fz_k4 a b c d (i + 1)) + 0 := hD _ hA
          rw [fz_un (fz_A_ne hA), e9]
          have := fz_rf_le nx rt (un :: F0) (fz_k4 a b c d (i + 1))
          omega) (by rw [he0, tot]; omega) hel (by rw [he0, tot]; exact DONE) 4 0 5 (by omega) (by omega)
        exact ⟨5, W⟩
      refine br_t (show nI 0 ≤ 0 by decide) ⟨hin, nm_r (fz_ca ch rfl (by omega)) ⟨by rw [E0]; exact vp_in_nI (by omega) (by omega), nm_r (fz_cs E0 (by omega) (by omega)) ⟨by rw [E1]; exact vp_in_nI (by omega) (by omega), nm_r (fz_cs E1 (by omega) (by omega)) ⟨by rw [E2]; exact vp_in_nI (by omega) (by omega), nm_r (fz_cs E2 (by omega) (by omega)) ⟨by rw [E3]; exact vp_in_nI (by omega) (by omega), nm_r (fz_cs E3 (by omega) (by omega)) ⟨hin, nm_r (e' := fz_c (fz_u en un e)) (by rw [fz_nz be, nI_clamp (by omega), fz_cu]) ⟨hin, nm_r (e' := fz_c (fz_u hd un 0)) (fz_cs1 (v := 0) rfl (by omega) (by decide)) ?_⟩⟩⟩⟩⟩⟩⟩
      by_cases z : e = 0
      · exact br_t (by rw [z]; rfl) (nm_r E0 (GO 0 (by rw [if_pos z])))
      · exact br_f (nI_ne0 (by omega) (by omega)) (nm_r E0 (GO 1 (by rw [if_neg z])))
    · -- found
      intro n hA hm
      have LE : L n = fz_gl e (fun x => L (fz_k4 a b c d x)) := by
        rw [fz_gr_gl g hA, hm.2.2.2.2]
        refine fz_gl_ext fun x x1 x4 => ?_
        refine congrArg L ?_
        refine fz_c4 (P := fun x => nx (4 * n + x - 1) = fz_k4 a b c d x) hm.1 hm.2.1 hm.2.2.1 hm.2.2.2.1 x1 x4
      refine P n un al nx en wd hd ch he F B L H (Or.inr hA) LE (fun n h => ⟨h, rfl⟩) ?_ (by omega)
      intro k hk hne
      by_cases z : k = q
      · rcases hq with hq | ⟨x, x1, x4, hq⟩
        · have := hk.1; omega
        · rw [hD k hk]
          have e1 : nx (4 * n + x - 1) = k := by
            rw [z, hq]
            exact fz_c4 (P := fun x => nx (4 * n + x - 1) = fz_k4 a b c d x) hm.1 hm.2.1 hm.2.2.1 hm.2.2.2.1 x1 x4
          have := fz_rf_kid (rt := rt) hA x1 x4 e1
          omega
      · exact hs k hk z
    · intro n hA
      exact ⟨fun i hi => fz_Nd_lt (fz_gr_kid g hA (c := i + 1) (by omega) (by omega)), fz_gr_e1 g hA⟩
  by_cases z : a + b + c + d = 0
  · refine br_t (by rw [es, z]; rfl) ?_
    by_cases y : e = 0
    · refine br_t (by rw [y]; rfl) (P 0 un al nx en wd hd ch he F B L H (Or.inl rfl) ?_ (fun n h => ⟨h, rfl⟩) ?_ (by omega))
      · rw [g.2.1]
        symm
        apply List.eq_nil_of_length_eq_zero
        rw [fz_gl_len, if_pos y]
        simp only [fz_k4]
        simp
        rw [show a = 0 by omega, show b = 0 by omega, show c = 0 by omega, show d = 0 by omega, g.2.1]
        simp
      · intro k hk hne
        refine hs k hk (fun w => ?_)
        have k0 := hk.1
        rcases hq with hq | ⟨x, x1, x4, hq⟩
        · omega
        · have : fz_k4 a b c d x = 0 := by
            unfold fz_k4
            split
            · omega
            · split
              · omega
              · split <;> omega
          omega
    · exact br_f (nI_ne0 (by omega) (by omega)) (N18 (fun h => y h.2))
  · exact br_f (by rw [es]; exact nI_ne0 (by omega) (by omega)) (N18 (fun h => z h.1))
theorem fz_al_lt (hF : fz_HF un ch F) {n : Nat} (hA : fz_A F n) : F.length < 519 := by
  have nd : (n :: F).Nodup := List.nodup_cons.mpr ⟨hA.2.2, hF.2.1⟩
  have := nd.length_le_of_subset (l₂ := List.range' 1 519) (fun x m => by
    rw [List.mem_range'_1]
    rcases List.mem_cons.mp m with e | m
    · rw [e]; have := hA.1; have := hA.2.1; omega
    · have := hF.2.2 x m; omega)
  simp only [List.length_cons, List.length_range'] at this
  omega
theorem fz_x_unlink81 {post : SX → Prop} {n h : Nat} (hn : n < 520)
    (P : ∀ (l1 l2 : List Nat) (y : Nat), B h = l1 ++ y :: n :: l2 → wX_unlink_113 post (nI n) (nI un) (nI al) fl fy (fz_c nx) (fz_c en) (fz_c wd) (fz_c hd) (fz_c (fz_u ch y (ch n))) (fz_c he) (fz_c rt) (fz_c wt) aL aD aP aY aS aT aN aR aM aQ aB) (hb : ∀ x, x ∈ B h → x < 520) (hch : ch n < 520) :
    ∀ (f : Nat) (l1 t : List Nat) (y : Nat), B h = l1 ++ y :: t → n ∈ t → fz_ll ch y (y :: t) → t.length < f → wX_unlink_81 post (nI n) (nI un) (nI al) fl fy (fz_c nx) (fz_c en) (fz_c wd) (fz_c hd) (fz_c ch) (fz_c he) (fz_c rt) (fz_c wt) aL aD aP aY aS aT aN aR aM aQ aB f (nI y)
  | 0, _, _, _, _, _, _, h => by omega
  | f + 1, l1, t, y, e, hm, hl, hf => by
    have yl : y < 520 := hb y (by rw [e]; simp)
    have hin : vp_in (nI y) 520 := vp_in_nI yl (by omega)
    have hin2 : vp_in (nI n) 520 := vp_in_nI hn (by omega)
    obtain ⟨_, y0, hl'⟩ := hl
    cases t with
    | nil => exact absurd hm (by simp)
    | cons z t =>
      have ez : ch y = z := hl'.1
      have zl : z < 520 := hb z (by rw [e]; simp)
      refine And.intro hin ?_
      rw [fz_ca ch (i := nI y) rfl (by omega), ez]
      by_cases q : z = n
      · subst q
        refine br_t rfl ⟨hin2, hin, nm_r (e' := fz_c (fz_u ch y (ch z))) ?_ (P l1 t y e)⟩
        rw [fz_ca ch (i := nI z) rfl (by omega)]
        exact fz_cs1 rfl (by omega) (by omega)
      · refine br_f (by rw [nI_eq (by omega) (by omega)]; exact q) ⟨hin, nm_r (e' := nI z) rfl ?_⟩
        refine fz_x_unlink81 hn P hb hch f (l1 ++ [y]) t z (by rw [e]; simp) ?_ ?_ (by simp only [List.length_cons] at hf; omega)
        · rcases List.mem_cons.mp hm with w | w
          · exact absurd w.symm q
          · exact w
        · rw [ez] at hl'; exact hl'
theorem fz_x_unlink {post : SX → Prop} {n : Nat} (H : fz_HP un (al + 1) nx en wd hd ch he rt F B L (fun _ => 0)) (hA : fz_A F n) (hr : hd n = 0)
    (P : ∀ (ch' he' : Nat → Nat) (B' : Nat → List Nat), fz_HP n al nx en wd hd ch' he' rt (n :: F) B' L (fun m => fz_kc nx n m) → post (nI n, nI al, fl, fy, fz_c nx, fz_c en, fz_c wd, fz_c hd, fz_c ch', fz_c he', fz_c rt, fz_c wt, aL, aD, aP, aY, aS, aT, aN, aR, aM, aQ, aB)) : wpX_unlink post (nI un, nI (al + 1), fl, fy, fz_c nx, fz_c en, fz_c wd, fz_c hd, fz_c ch, fz_c he, fz_c rt, fz_c wt, aL, aD, aP, aY, aS, aT, aN, aR, aM, aQ, aB) (nI n) := by
  obtain ⟨g, hj, hD, hFr, hB, hR, hal⟩ := id H
  have hn := hA.2.1
  have E0 : 4 * nI n = nI (4 * n) := fz_i4 n
  have E1 : 4 * nI n + 1 = nI (4 * n + 1) := fz_ix0
  have E2 : 4 * nI n + 2 = nI (4 * n + 2) := fz_ix0
  have E3 : 4 * nI n + 3 = nI (4 * n + 3) := fz_ix0
  have hin : vp_in (nI n) 520 := vp_in_nI hn (by omega)
  have unl : un < 520 := by
    rcases fz_ll_hd hFr.1 with z | z
    · omega
    · exact (hFr.2.2 un z).2
  obtain ⟨eh, hl⟩ := fz_hn_eq (nx (4 * n)) (nx (4 * n + 1)) (nx (4 * n + 2)) (nx (4 * n + 3)) (en n)
  have hb := hB (fz_h4 nx en n) hl
  have nB : n ∈ B (fz_h4 nx en n) := (hb.2.2 n).mpr ⟨hA, rfl⟩
  have bl : ∀ x, x ∈ B (fz_h4 nx en n) → x < 520 := fun x m => ((hb.2.2 x).mp m).1.2.1
  have U113 : ∀ (ch1 he1 : Nat → Nat) (l : List Nat), fz_ll ch1 un F → (∀ h, h < 256 → h ≠ fz_h4 nx en n → fz_ll ch1 (he1 h) (B h)) → fz_ll ch1 (he1 (fz_h4 nx en n)) l → l.Nodup → (∀ x, x ∈ l ↔ x ∈ B (fz_h4 nx en n) ∧ x ≠ n) → wX_unlink_113 post (nI n) (nI un) (nI (al + 1)) fl fy (fz_c nx) (fz_c en) (fz_c wd) (fz_c hd) (fz_c ch1) (fz_c he1) (fz_c rt) (fz_c wt) aL aD aP aY aS aT aN aR aM aQ aB := by
    intro ch1 he1 l c1 c2 c3 c4 c5
    have HP' := fz_free H hA hr c1 c2 c3 c4 c5
    exact And.intro hin (nm_r (fz_cs rfl (by omega) (by omega)) (nm_r (nI_pred al) (P _ _ _ HP')))
  refine And.intro (by rw [E0]; exact vp_in_nI (by omega) (by omega)) (And.intro (by rw [E1]; exact vp_in_nI (by omega) (by omega)) (And.intro (by rw [E2]; exact vp_in_nI (by omega) (by omega)) (And.intro (by rw [E3]; exact vp_in_nI (by omega) (by omega)) (And.intro hin ?_))))
  rw [fz_ca nx E0 (by omega), fz_ca nx E1 (by omega), fz_ca nx E2 (by omega), fz_ca nx E3 (by omega), fz_ca en (i := nI n) rfl (by omega)]
  refine fz_x_hash ?_
  rw [eh]
  have ih : vp_in (nI (fz_h4 nx en n)) 256 := vp_in_nI hl (by omega)
  have ehd : fz_c he (nI (fz_h4 nx en n)).toNatClampNeg = nI (he (fz_h4 nx en n)) := fz_ca he rfl (by have : fz_h4 nx en n < 256 := hl; omega)
  refine ⟨ih, ?_⟩
  show (fz_c he (nI (fz_h4 nx en n)).toNatClampNeg = _ → _) ∧ _
  have nF : ∀ x, x ∈ B (fz_h4 nx en n) → ¬ x ∈ F := fun x m => ((hb.2.2 x).mp m).1.2.2
  have nO : ∀ h, h < 256 → h ≠ fz_h4 nx en n → ∀ x, x ∈ B (fz_h4 nx en n) → ¬ x ∈ B h := fun h h1 h2 x m m' => h2 ((((hB h h1).2.2 x).mp m').2.symm.trans ((hb.2.2 x).mp m).2)
  cases hbl : B (fz_h4 nx en n) with
  | nil => rw [hbl] at nB; exact absurd nB (by simp)
  | cons y t =>
    have hb1 := hb.1
    rw [hbl] at hb1
    have hey : he (fz_h4 nx en n) = y := hb1.1
    have yl : y < 520 := bl y (by rw [hbl]; exact List.mem_cons_self ..)
    have nd := hb.2.1
    rw [hbl] at nd
    by_cases q : y = n
    · subst q
      have chl : ch y < 520 := by
        rcases fz_ll_hd hb1.2.2 with z | z
        · omega
        · exact bl _ (by rw [hbl]; exact List.mem_cons_of_mem _ z)
      refine br_t (by rw [ehd, hey]) ⟨hin, ih, nm_r (e' := fz_c (fz_u he (fz_h4 nx en y) (ch y))) ?_ ?_⟩
      · rw [fz_ca ch (i := nI y) rfl (by omega)]
        exact fz_cs1 rfl (by have : fz_h4 nx en y < 256 := hl; omega) (by omega)
      · refine U113 ch _ t hFr.1 (fun h h1 h2 => by rw [fz_un h2]; exact (hB h h1).1) (by rw [fz_us]; exact hb1.2.2) (List.nodup_cons.mp nd).2 ?_
        intro x
        rw [hbl, List.mem_cons]
        constructor
        · intro m
          exact ⟨Or.inr m, fun e => (List.nodup_cons.mp nd).1 (e ▸ m)⟩
        · rintro ⟨m | m, h2⟩
          · exact absurd m h2
          · exact m
    · have nt : n ∈ t := by
        rw [hbl] at nB
        rcases List.mem_cons.mp nB with w | w
        · exact absurd w.symm q
        · exact w
      have chl : ch n < 520 := by
        have key : ∀ (l : List Nat) (x : Nat), fz_ll ch x l → n ∈ l → (∀ z, z ∈ l → z < 520) → ch n < 520 := by
          intro l
          induction l with
          | nil => intro x _ m _; exact absurd m (by simp)
          | cons z l ihl =>
            intro x hl m hz
            rcases List.mem_cons.mp m with w | w
            · rw [w]
              rcases fz_ll_hd hl.2.2 with v | v
              · omega
              · exact hz _ (List.mem_cons_of_mem _ v)
            · exact ihl _ hl.2.2 w (fun z m => hz z (List.mem_cons_of_mem _ m))
        exact key _ _ hb.1 nB bl
      refine br_f (by rw [ehd, hey, nI_eq (by omega) (by omega)]; exact q) ⟨ih, nm_r (e' := nI y) (ehd.trans (by rw [hey])) ⟨t.length + 1, ?_⟩⟩
      refine fz_x_unlink81 (B := B) (h := fz_h4 nx en n) hn ?_ bl chl (t.length + 1) [] t y hbl nt (by rw [hey] at hb1; exact hb1) (Nat.lt_succ_self _)
      intro l1 l2 p ep
      have pm : p ∈ B (fz_h4 nx en n) := by rw [ep]; simp
      have nd2 := hb.2.1
      have ll2 := hb.1
      rw [ep] at nd2 ll2
      have nd3 : (l1 ++ p :: l2).Nodup := nd2.sublist (List.Sublist.append (List.Sublist.refl _) (List.Sublist.cons₂ _ (List.sublist_cons_self ..)))
      refine U113 _ he (l1 ++ p :: l2) (fz_ll_u (nF p pm) hFr.1) (fun h h1 h2 => fz_ll_u (nO h h1 h2 p pm) (hB h h1).1) (fz_ll_cut nd2 ll2) nd3 ?_
      intro x
      rw [ep]
      simp only [List.mem_append, List.mem_cons]
      have nn : ¬ n ∈ l1 ∧ n ≠ p ∧ ¬ n ∈ l2 := by
        rw [List.nodup_append] at nd2
        obtain ⟨_, d2, d3⟩ := nd2
        rw [List.nodup_cons, List.nodup_cons] at d2
        refine ⟨fun m => d3 n m n (by simp) rfl, fun e => d2.1 (by rw [← e]; simp), d2.2.1⟩
      constructor
      · intro m
        refine ⟨?_, ?_⟩
        · rcases m with m | m | m
          · exact Or.inl m
          · exact Or.inr (Or.inl m)
          · exact Or.inr (Or.inr (Or.inr m))
        · intro e
          subst e
          rcases m with m | m | m
          · exact nn.1 m
          · exact nn.2.1 m
          · exact nn.2.2 m
      · rintro ⟨m | m | m | m, h2⟩
        · exact Or.inl m
        · exact Or.inr (Or.inl m)
        · exact absurd m h2
        · exact Or.inr (Or.inr m)
end
end
section
/-! giving up, installing, changing -/
def fz_sd (L : Nat → List (List Nat)) : List Nat → Prop
  | [] => True
  | x :: St => (∃ m, fz_hb m (L x) ∧ St.length + 3 * m ≤ 18) ∧ fz_sd L St
theorem fz_sd_len {F : List Nat} {L : Nat → List (List Nat)} {St : List Nat} (h : fz_sd L St) (ne : ∀ x, x ∈ St → L x ≠ []) : St.length ≤ 16 := by
  cases St with
  | nil => simp
  | cons x St =>
    obtain ⟨⟨m, h1, h2⟩, _⟩ := h
    have : m ≠ 0 := fun e => by
      subst e
      exact ne x (List.mem_cons_self ..) (fz_hb_0 h1)
    simp only [List.length_cons]; omega
def fz_xt (nx : Nat → Nat) (n : Nat) : Nat → Nat → Nat
  | 0, _ => 0
  | d + 1, m => fz_i1 (nx (4 * n + (3 - d))) m + fz_xt nx n d m
theorem fz_xt_4 (nx : Nat → Nat) (n m : Nat) : fz_xt nx n 4 m = fz_kc nx n m := by
  simp only [fz_xt, fz_kc]
  simp only [Nat.sub_self, Nat.add_zero, Nat.reduceSub]
  omega
section
variable {fl fy : Int32} {nx en wd rt wt : Nat → Nat} {aL aD aP aY aT aN aR aM aQ aB : Nat → Int32} {L : Nat → List (List Nat)}
theorem fz_x_drop51 {post : SX → Prop} {J : Int32 → Int32 → Int32 → Int32 → Int32 → (Nat → Int32) → (Nat → Int32) → (Nat → Int32) → (Nat → Int32) → (Nat → Int32) → (Nat → Int32) → (Nat → Int32) → (Nat → Int32) → (Nat → Int32) → (Nat → Int32) → (Nat → Int32) → (Nat → Int32) → (Nat → Int32) → (Nat → Int32) → (Nat → Int32) → (Nat → Int32) → (Nat → Int32) → (Nat → Int32) → (Nat → Int32) → Prop} {un al n base hh : Nat} {ch he : Nat → Nat} {F : List Nat} {B : Nat → List Nat} (hn : n < 520) (kid : ∀ i, i < 4 → fz_Nd F (nx (4 * n + i)) ∧ fz_hb hh (L (nx (4 * n + i)))) (hb : base + 3 * (hh + 1) ≤ 18)
    (hJ : ∀ (hd : Nat → Nat) (aS : Nat → Int32) (St : List Nat), fz_HP un al nx en wd hd ch he rt F B L (fun _ => 0) → St.Nodup → (∀ x, x ∈ St ↔ fz_A F x ∧ hd x = 0) → fz_sk aS St → fz_sd L St → J (nI St.length) (nI un) (nI al) fl fy (fz_c nx) (fz_c en) (fz_c wd) (fz_c hd) (fz_c ch) (fz_c he) (fz_c rt) (fz_c wt) aL aD aP aY aS aT aN aR aM aQ aB) :
    ∀ (d i f : Nat) (hd : Nat → Nat) (aS : Nat → Int32) (St : List Nat), i + d = 4 → d < f → fz_HP un al nx en wd hd ch he rt F B L (fz_xt nx n d) → St.Nodup → (∀ x, x ∈ St ↔ fz_A F x ∧ hd x = 0) → fz_sk aS St → fz_sd L St → St.length ≤ base + i → wX_drop_51 post J (nI n) (nI un) (nI al) fl fy f (nI St.length) (nI (4 * n + i)) (fz_c nx) (fz_c en) (fz_c wd) (fz_c hd) (fz_c ch) (fz_c he) (fz_c rt) (fz_c wt) aL aD aP aY aS aT aN aR aM aQ aB
  | _, _, 0, _, _, _, _, h, _, _, _, _, _, _ => by omega
  | 0, i, f + 1, hd, aS, St, hi, _, H, h1, h2, h3, h4, _ => by
    have : i = 4 := by omega
    subst this
    have e4 : 4 * nI n + 4 = nI (4 * n + 4) := fz_ix0
    exact br_t (by rw [e4]; exact nI_le (Nat.le_refl _) (by omega)) (hJ hd aS St H h1 h2 h3 h4)
  | d + 1, i, f + 1, hd, aS, St, hi, hf, H, h1, h2, h3, h4, h5 => by
    have e4 : 4 * nI n + 4 = nI (4 * n + 4) := fz_ix0
    obtain ⟨kN, kh⟩ := kid i (by omega)
    have kl := fz_Nd_lt kN
    have di : 3 - d = i := by omega
    obtain ⟨g, hj, hD, hFr, hB, hR, hal⟩ := id H
    refine br_f (by rw [e4]; exact nI_ge (by omega) (by omega)) ⟨vp_in_nI (by omega) (by omega), nm_r (fz_ca nx rfl (by omega)) ?_⟩
    by_cases z : nx (4 * n + i) = 0
    · refine br_t (by rw [z]; rfl) (nm_r (nI_1 _) ?_)
      refine fz_x_drop51 hn kid hb hJ d (i + 1) f hd aS St (by omega) (by omega) ⟨g, hj, ?_, hFr, hB, hR, hal⟩ h1 h2 h3 h4 (by omega)
      intro x hx
      rw [hD x hx]
      simp only [fz_xt]
      rw [di, z, fz_i1_n (by have := hx.1; omega), Nat.zero_add]
    · have hA := fz_Nd_A kN z
      have q1 := hD _ hA
      simp only [fz_xt] at q1
      rw [di, fz_i1_s] at q1
      have q2 := fz_rf_le nx rt F (nx (4 * n + i))
      have q3 : fz_xt nx n d (nx (4 * n + i)) ≤ d := by
        clear q1 hf hi
        generalize nx (4 * n + i) = m
        induction d with
        | zero => simp [fz_xt]
        | succ d ih =>
          have := ih
          simp only [fz_xt]
          have := fz_i1_le (nx (4 * n + (3 - d))) m
          have a1 : fz_xt nx n d m ≤ d := by
            clear this
            clear ih
            rename_i _ _
            have key : ∀ d, fz_xt nx n d m ≤ d := by
              intro d
              induction d with
              | zero => simp [fz_xt]
              | succ d ih =>
                have := fz_i1_le (nx (4 * n + (3 - d))) m
                simp only [fz_xt]; omega
            exact key d
          omega
      have hin : vp_in (nI (nx (4 * n + i))) 520 := vp_in_nI kl (by omega)
      have HD' : fz_HP un al nx en wd (fz_u hd (nx (4 * n + i)) (hd (nx (4 * n + i)) - 1)) ch he rt F B L (fz_xt nx n d) := by
        refine ⟨g, hj, ?_, hFr, hB, hR, hal⟩
        intro x hx
        by_cases y : x = nx (4 * n + i)
        · rw [y, fz_us]; omega
        · rw [fz_un y, hD x hx]
          simp only [fz_xt]
          rw [di, fz_i1_n (fun w => y w.symm), Nat.zero_add]
      have notin : ¬ nx (4 * n + i) ∈ St := fun m => by
        have := ((h2 _).mp m).2; omega
      refine br_f (nI_ne0 (by omega) (by omega)) ⟨hin, hin, nm_r (e' := fz_c (fz_u hd (nx (4 * n + i)) (hd (nx (4 * n + i)) - 1))) ?_ ⟨hin, ?_⟩⟩
      · rw [fz_ca hd (i := nI (nx (4 * n + i))) rfl (by omega)]
        have e1 : nI (hd (nx (4 * n + i))) - 1 = nI (hd (nx (4 * n + i)) - 1) := by
          show _ - nI 1 = _
          rw [pk_sub (by omega)]
        rw [e1]
        exact fz_cs rfl (by omega) (by omega)
      · rw [fz_ca _ (i := nI (nx (4 * n + i))) rfl (by omega), fz_us]
        by_cases y : hd (nx (4 * n + i)) - 1 = 0
        · refine br_t (by rw [y]; rfl) (nm_r (nI_1 _) ⟨vp_in_nI (by omega) (by omega), nm_r (e' := upd aS St.length (nI (nx (4 * n + i)))) (by rw [fz_ns2 (by omega), nI_clamp (by omega)]) (nm_r (nI_1 _) ?_)⟩)
          refine fz_x_drop51 hn kid hb hJ d (i + 1) f _ _ (nx (4 * n + i) :: St) (by omega) (by omega) HD' (List.nodup_cons.mpr ⟨notin, h1⟩) ?_ ⟨pk_us, fz_sk_upd (Nat.le_refl _) h3⟩ ⟨⟨hh, kh, by omega⟩, h4⟩ (by simp only [List.length_cons]; omega)
          intro x
          rw [List.mem_cons]
          by_cases w : x = nx (4 * n + i)
          · rw [w, fz_us]
            exact ⟨fun _ => ⟨hA, y⟩, fun _ => Or.inl rfl⟩
          · rw [fz_un w, h2 x]
            exact ⟨fun m => m.elim (fun v => absurd v w) id, Or.inr⟩
        · refine br_f (nI_ne0 (by omega) (by omega)) (nm_r (nI_1 _) ?_)
          refine fz_x_drop51 hn kid hb hJ d (i + 1) f _ aS St (by omega) (by omega) HD' h1 ?_ h3 h4 (by omega)
          intro x
          by_cases w : x = nx (4 * n + i)
          · rw [w, fz_us]
            exact ⟨fun m => absurd m notin, fun m => absurd m.2 y⟩
          · rw [fz_un w]; exact h2 x
theorem fz_x_drop27 {post : SX → Prop} (P : ∀ (un al : Nat) (hd ch he : Nat → Nat) (aS : Nat → Int32) (F : List Nat) (B : Nat → List Nat), fz_HP un al nx en wd hd ch he rt F B L (fun _ => 0) → fz_stab hd F 0 → post (nI un, nI al, fl, fy, fz_c nx, fz_c en, fz_c wd, fz_c hd, fz_c ch, fz_c he, fz_c rt, fz_c wt, aL, aD, aP, aY, aS, aT, aN, aR, aM, aQ, aB)) :
    ∀ (f un al : Nat) (hd ch he : Nat → Nat) (aS : Nat → Int32) (F : List Nat) (B : Nat → List Nat) (St : List Nat), fz_HP un al nx en wd hd ch he rt F B L (fun _ => 0) → St.Nodup → (∀ x, x ∈ St ↔ fz_A F x ∧ hd x = 0) → fz_sk aS St → fz_sd L St → al < f → wX_drop_27 post f (nI St.length) (nI un) (nI al) fl fy (fz_c nx) (fz_c en) (fz_c wd) (fz_c hd) (fz_c ch) (fz_c he) (fz_c rt) (fz_c wt) aL aD aP aY aS aT aN aR aM aQ aB
  | 0, _, _, _, _, _, _, _, _, _, _, _, _, _, _, h => by omega
  | f + 1, un, al, hd, ch, he, aS, F, B, [], H, h1, h2, h3, h4, hf => by
    refine br_t (show nI 0 ≤ 0 by decide) (P un al hd ch he aS F B H ?_)
    intro x hx _
    have := h2 x
    rcases Nat.eq_zero_or_pos (hd x) with z | z
    · exact absurd (this.mpr ⟨hx, z⟩) (by simp)
    · exact z
  | f + 1, un, al, hd, ch, he, aS, F, B, n :: St, H, h1, h2, h3, h4, hf => by
    have ⟨hA, hr⟩ := (h2 n).mp (List.mem_cons_self ..)
    have g := H.1
    have hn := hA.2.1
    obtain ⟨⟨m, hb, hm⟩, h4'⟩ := h4
    have m0 : m ≠ 0 := fun e => by
      subst e
      exact fz_gr_ne g hA (fz_hb_0 hb)
    obtain ⟨hh, rfl⟩ : ∃ hh, m = hh + 1 := ⟨m - 1, by omega⟩
    have al0 : al ≠ 0 := by
      have := fz_al_lt H.2.2.2.1 hA
      have := H.2.2.2.2.2.2
      omega
    obtain ⟨al', rfl⟩ : ∃ a, al = a + 1 := ⟨al - 1, by omega⟩
    have rz : fz_rf nx rt F n = 0 := by
      have e0 : hd n = fz_rf nx rt F n + 0 := H.2.2.1 n hA
      omega
    refine br_f (nI_nle (by simp) (by simp only [List.length_cons]; omega)) (nm_r (pk_m1 St.length) ⟨vp_in_nI (by omega) (by omega), nm_r (e' := nI n) (by rw [nI_clamp (by omega)]; exact h3.1) ?_⟩)
    refine fz_x_unlink H hA hr (fun ch' he' B' H' => ?_)
    refine nm_r (fz_i4 n) ⟨5, ?_⟩
    have nd := List.nodup_cons.mp h1
    refine fz_x_drop51 (un := n) (al := al') (base := St.length) (hh := hh) (F := n :: F) (B := B') hn ?_ hm ?_ 4 0 5 hd aS St (by omega) (by omega) ?_ nd.2 ?_ h3.2 h4' (by omega)
    · intro i hi
      have k := fz_gr_kid g hA (c := i + 1) (by omega) (by omega)
      have r := fz_gr_rs g hA (c := i + 1) (by omega) (by omega)
      rw [show 4 * n + (i + 1) - 1 = 4 * n + i by omega] at k r
      refine ⟨?_, by rw [r]; exact fz_hb_rs hb⟩
      rcases k with k | k
      · exact Or.inl k
      · refine Or.inr ((fz_A_cons ?_).mpr k)
        intro e
        have := fz_rf_kid (rt := rt) hA (c := i + 1) (by omega) (by omega) (n := n) e
        omega
    · intro hd2 aS2 St2 H2 k1 k2 k3 k4
      exact fz_x_drop27 P f n al' hd2 ch' he' aS2 (n :: F) B' St2 H2 k1 k2 k3 k4 (by omega)
    · have e : fz_xt nx n 4 = fun m => fz_kc nx n m := funext fun m => fz_xt_4 nx n m
      rw [e]; exact H'
    · intro x
      have q := h2 x
      rw [List.mem_cons] at q
      constructor
      · intro mx
        have w := q.mp (Or.inr mx)
        exact ⟨(fz_A_cons (n0 := n) (n := x) (fun e => nd.1 (by rw [← e]; exact mx))).mpr w.1, w.2⟩
      · rintro ⟨w1, w2⟩
        have ne := fz_A_ne w1
        exact (q.mpr ⟨(fz_A_cons ne).mp w1, w2⟩).elim (fun e => absurd e ne) id
end
section
variable {un al : Nat} {fl fy : Int32} {nx en wd rt hd ch he wt : Nat → Nat} {aL aD aP aY aS aT aN aR aM aQ aB : Nat → Int32} {F : List Nat} {B : Nat → List Nat} {L : Nat → List (List Nat)}
theorem fz_x_drop {post : SX → Prop} {n : Nat} (H : fz_HP un al nx en wd hd ch he rt F B L (fun _ => 0)) (hN : fz_Nd F n) (hs : fz_stab hd F n)
    (P : ∀ (un al : Nat) (hd ch he : Nat → Nat) (aS : Nat → Int32) (F : List Nat) (B : Nat → List Nat), fz_HP un al nx en wd hd ch he rt F B L (fun _ => 0) → fz_stab hd F 0 → post (nI un, nI al, fl, fy, fz_c nx, fz_c en, fz_c wd, fz_c hd, fz_c ch, fz_c he, fz_c rt, fz_c wt, aL, aD, aP, aY, aS, aT, aN, aR, aM, aQ, aB)) : wpX_drop post (nI un, nI al, fl, fy, fz_c nx, fz_c en, fz_c wd, fz_c hd, fz_c ch, fz_c he, fz_c rt, fz_c wt, aL, aD, aP, aY, aS, aT, aN, aR, aM, aQ, aB) (nI n) := by
  by_cases z : n = 0
  · subst z
    exact br_t rfl (P _ _ _ _ _ _ _ _ H hs)
  · have hA := fz_Nd_A hN z
    have hn := hA.2.1
    have e0 : hd n = fz_rf nx rt F n + 0 := H.2.2.1 n hA
    have b0 := fz_rf_le nx rt F n
    refine br_f (nI_ne0 (by omega) (by omega)) ⟨vp_in_nI hn (by omega), ?_⟩
    rw [fz_ca hd rfl (by omega)]
    by_cases y : hd n = 0
    · refine br_t (by rw [y]; decide) (nm_r (e' := nI 1) rfl (nm_r (e' := upd aS 0 (nI n)) (by rw [fz_ns2 (by omega)]) ⟨al + 1, ?_⟩))
      refine fz_x_drop27 P (al + 1) un al hd ch he _ F B [n] H (by simp) ?_ ⟨pk_us, trivial⟩ ⟨⟨6, fz_gr_hb H.1 hN, by simp⟩, trivial⟩ (by omega)
      intro x
      rw [List.mem_singleton]
      constructor
      · intro e; rw [e]; exact ⟨hA, y⟩
      · rintro ⟨w1, w2⟩
        refine Classical.byContradiction fun q => ?_
        have := hs x w1 q
        omega
    · refine br_f (nI_nle (by omega) (by omega)) (P _ _ _ _ _ _ _ _ H ?_)
      intro x hx _
      by_cases w : x = n
      · rw [w]; omega
      · exact hs x hx w
theorem fz_x_install {post : SX → Prop} {s m : Nat} (H : fz_HP un al nx en wd hd ch he rt F B L (fun _ => 0)) (hs5 : s < 5) (hN : fz_Nd F m) (hs : fz_stab hd F m)
    (P : ∀ (un al : Nat) (hd ch he : Nat → Nat) (aS : Nat → Int32) (F : List Nat) (B : Nat → List Nat), fz_HP un al nx en wd hd ch he (fz_u rt s m) F B L (fun _ => 0) → fz_stab hd F 0 → post (nI un, nI al, fl, fy, fz_c nx, fz_c en, fz_c wd, fz_c hd, fz_c ch, fz_c he, fz_c (fz_u rt s m), fz_c wt, aL, aD, aP, aY, aS, aT, aN, aR, aM, aQ, aB)) : wpX_install post (nI un, nI al, fl, fy, fz_c nx, fz_c en, fz_c wd, fz_c hd, fz_c ch, fz_c he, fz_c rt, fz_c wt, aL, aD, aP, aY, aS, aT, aN, aR, aM, aQ, aB) (nI s) (nI m) := by
  obtain ⟨g, hj, hD, hFr, hB, hR, hal⟩ := id H
  have ml := fz_Nd_lt hN
  have oN := hR s hs5
  have ol := fz_Nd_lt oN
  have ins : vp_in (nI s) 5 := vp_in_nI hs5 (by omega)
  have hD0 : ∀ x, fz_A F x → hd x = fz_rf nx rt F x := fun x hx => hD x hx
  refine And.intro ins (nm_r (fz_ca rt rfl (by omega)) ?_)
  by_cases z : m = rt s
  · have e : fz_u rt s m = rt := by
      funext j
      by_cases q : j = s
      · rw [q, fz_us, z]
      · rw [fz_un q]
    refine br_t (by rw [z]) ?_
    have := P un al hd ch he aS F B (by rw [e]; exact H) (by
      intro x hx _
      by_cases q : x = m
      · rw [hD0 x hx, q]
        exact fz_rf_root hs5 z.symm
      · exact hs x hx q)
    rw [e] at this
    exact this
  · refine br_f (by rw [nI_eq (by omega) (by omega)]; exact z) ?_
    -- from here on the count of the new one stands
    have MID : ∀ hd1 : Nat → Nat, (∀ x, fz_A F x → hd1 x = hd x + fz_i1 m x) → wX_install_28 post (nI s) (nI m) (nI (rt s)) (nI un) (nI al) fl fy (fz_c nx) (fz_c en) (fz_c wd) (fz_c hd1) (fz_c ch) (fz_c he) (fz_c rt) (fz_c wt) aL aD aP aY aS aT aN aR aM aQ aB := by
      intro hd1 h1
      have rcu := fun x => fz_rc_upd (rt := rt) (v := m) hs5 x
      refine And.intro ins (nm_r (fz_cs rfl (by omega) (by omega)) ?_)
      have hR' : ∀ t, t < 5 → fz_Nd F (fz_u rt s m t) := fun t ht => by
        by_cases q : t = s
        · rw [q, fz_us]; exact hN
        · rw [fz_un q]; exact hR t ht
      by_cases y : rt s = 0
      · refine br_t (by rw [y]; rfl) (P un al hd1 ch he aS F B ⟨g, hj, ?_, hFr, hB, hR', hal⟩ ?_)
        · intro x hx
          have := rcu x
          rw [y, fz_i1_n (by have := hx.1; omega)] at this
          rw [h1 x hx, hD0 x hx]
          show _ = _ + 0
          unfold fz_rf; omega
        · intro x hx _
          rw [h1 x hx]
          by_cases q : x = m
          · rw [q, fz_i1_s]; omega
          · have := hs x hx q; omega
      · have oA := fz_Nd_A oN y
        have hin : vp_in (nI (rt s)) 520 := vp_in_nI ol (by omega)
        have o1 : 0 < hd (rt s) := by rw [hD0 _ oA]; exact fz_rf_root hs5 rfl
        have o2 := fz_rf_le nx rt F (rt s)
        have o3 := hD0 _ oA
        have o4 : hd1 (rt s) = hd (rt s) := by rw [h1 _ oA, fz_i1_n z]; omega
        refine br_f (nI_ne0 (by omega) (by omega)) ⟨hin, hin, nm_r (e' := fz_c (fz_u hd1 (rt s) (hd1 (rt s) - 1))) ?_ ?_⟩
        · rw [fz_ca hd1 (i := nI (rt s)) rfl (by omega)]
          have e1 : nI (hd1 (rt s)) - 1 = nI (hd1 (rt s) - 1) := by
            show _ - nI 1 = _
            rw [pk_sub (by omega)]
          rw [e1]
          exact fz_cs rfl (by omega) (by omega)
        · refine fz_x_drop (rt := fz_u rt s m) (L := L) (F := F) (B := B) ⟨g, hj, ?_, hFr, hB, hR', hal⟩ oN ?_ P
          · intro x hx
            have := rcu x
            show _ = _ + 0
            by_cases q : x = rt s
            · rw [q] at this ⊢
              rw [fz_i1_s, fz_i1_n z] at this
              rw [fz_us, o4, o3]
              unfold fz_rf; unfold fz_rf at o3
              omega
            · rw [fz_i1_n (fun w => q w.symm)] at this
              rw [fz_un q, h1 x hx, hD0 x hx]
              unfold fz_rf; omega
          · intro x hx hne
            rw [fz_un hne, h1 x hx]
            by_cases q : x = m
            · rw [q, fz_i1_s]; omega
            · have := hs x hx q; omega
    by_cases y : m = 0
    · subst y
      refine br_t (by decide) (MID hd ?_)
      intro x hx
      rw [fz_i1_n (by have := hx.1; omega)]; rfl
    · have mA := fz_Nd_A hN y
      have hin : vp_in (nI m) 520 := vp_in_nI ml (by omega)
      have o2 := fz_rf_le nx rt F m
      have o3 := hD0 _ mA
      refine br_f (nI_nle (by omega) (by omega)) ⟨hin, hin, nm_r (e' := fz_c (fz_u hd m (hd m + 1))) ?_ (MID _ ?_)⟩
      · rw [fz_ca hd (i := nI m) rfl (by omega), nI_1]
        exact fz_cs rfl (by omega) (by omega)
      · intro x hx
        by_cases q : x = m
        · rw [q, fz_us, fz_i1_s]
        · rw [fz_un q, fz_i1_n (fun w => q w.symm)]; rfl
def fz_kd (nx : Nat → Nat) (n l to c : Nat) : Nat := if l = c then to else if n = 0 then 0 else nx (4 * n + c - 1)
theorem fz_x_var {J : Int32 → Prop} {n l to c : Nat} {i : Int32} (hn : n < 520) (hl : l ≤ 4) (c1 : 1 ≤ c) (c4 : c ≤ 4) (hi : i = nI (4 * n + c - 1)) (hJ : J (nI (fz_kd nx n l to c))) : (nI l = nI c → J (nI to)) ∧ (¬ nI l = nI c → (nI n = 0 → J 0) ∧ (¬ nI n = 0 → (vp_in i 2080 ∧ J (fz_c nx i.toNatClampNeg)))) := by
  unfold fz_kd at hJ
  by_cases z : l = c
  · rw [if_pos z] at hJ
    exact br_t (by rw [z]) hJ
  · rw [if_neg z] at hJ
    refine br_f (by rw [nI_eq (by omega) (by omega)]; exact z) ?_
    by_cases y : n = 0
    · rw [if_pos y] at hJ
      exact br_t (by rw [y]; rfl) hJ
    · rw [if_neg y] at hJ
      refine br_f (nI_ne0 (by omega) (by omega)) ⟨by rw [hi]; exact vp_in_nI (by omega) (by omega), ?_⟩
      rw [fz_ca nx hi (by omega)]
      exact hJ
theorem fz_kd_Nd (g : fz_Gr nx en wd F L) {n l to c : Nat} (hn : fz_Nd F n) (ht : fz_Nd F to) (c1 : 1 ≤ c) (c4 : c ≤ 4) : fz_Nd F (fz_kd nx n l to c) := by
  unfold fz_kd
  split
  · exact ht
  · split
    · exact Or.inl rfl
    · exact fz_gr_kid g (fz_Nd_A hn (by assumption)) c1 c4
theorem fz_kd_L (g : fz_Gr nx en wd F L) {n l to c : Nat} (hn : fz_Nd F n) (c1 : 1 ≤ c) (c4 : c ≤ 4) : L (fz_kd nx n l to c) = if c = l then L to else fz_rs c (L n) := by
  unfold fz_kd
  by_cases z : l = c
  · rw [if_pos z, if_pos z.symm]
  · have z' : ¬ c = l := fun w => z w.symm
    rw [if_neg z, if_neg z']
    by_cases y : n = 0
    · rw [if_pos y, y, g.2.1]; rfl
    · rw [if_neg y, fz_gr_rs g (fz_Nd_A hn y) c1 c4]
theorem fz_x_variant {post : Int32 → SX → Prop} {n l to e : Nat} (H : fz_HP un al nx en wd hd ch he rt F B L (fun _ => 0)) (hn : fz_Nd F n) (hl : l ≤ 4) (ht : fz_Nd F to) (be : e ≤ 1) (hF : 0 < F.length)
    (h24 : (fz_gl e (fun x => if x = l then L to else fz_rs x (L n))).length ≤ 24) (h6 : fz_hb 6 (fz_gl e (fun x => if x = l then L to else fz_rs x (L n))))
    (hs : fz_stab hd F to) (hq : to = 0 ∨ 1 ≤ l)
    (P : ∀ (m un' al' : Nat) (nx' en' wd' hd' ch' he' : Nat → Nat) (F' : List Nat) (B' : Nat → List Nat) (L' : Nat → List (List Nat)), fz_HP un' al' nx' en' wd' hd' ch' he' rt F' B' L' (fun _ => 0) → fz_Nd F' m → L' m = fz_gl e (fun x => if x = l then L to else fz_rs x (L n)) → fz_ext F L F' L' → fz_stab hd' F' m → F.length ≤ F'.length + 1 → post (nI m) (nI un', nI al', fl, fy, fz_c nx', fz_c en', fz_c wd', fz_c hd', fz_c ch', fz_c he', fz_c rt, fz_c wt, aL, aD, aP, aY, aS, aT, aN, aR, aM, aQ, aB)) :
    wpX_variant post (nI un, nI al, fl, fy, fz_c nx, fz_c en, fz_c wd, fz_c hd, fz_c ch, fz_c he, fz_c rt, fz_c wt, aL, aD, aP, aY, aS, aT, aN, aR, aM, aQ, aB) (nI n) (nI l) (nI to) (nI e) := by
  have g := H.1
  have nl := fz_Nd_lt hn
  have E0 : 4 * nI n = nI (4 * n + 1 - 1) := fz_i4 n
  have E1 : 4 * nI n + 1 = nI (4 * n + 2 - 1) := fz_ix0
  have E2 : 4 * nI n + 2 = nI (4 * n + 3 - 1) := fz_ix0
  have E3 : 4 * nI n + 3 = nI (4 * n + 4 - 1) := fz_ix0
  have K : ∀ x, 1 ≤ x → x ≤ 4 → fz_k4 (fz_kd nx n l to 1) (fz_kd nx n l to 2) (fz_kd nx n l to 3) (fz_kd nx n l to 4) x = fz_kd nx n l to x :=
    fun x a b => fz_c4 (P := fun x => fz_k4 (fz_kd nx n l to 1) (fz_kd nx n l to 2) (fz_kd nx n l to 3) (fz_kd nx n l to 4) x = fz_kd nx n l to x) rfl rfl rfl rfl a b
  have GE : fz_gl e (fun x => L (fz_k4 (fz_kd nx n l to 1) (fz_kd nx n l to 2) (fz_kd nx n l to 3) (fz_kd nx n l to 4) x)) = fz_gl e (fun x => if x = l then L to else fz_rs x (L n)) := by
    refine fz_gl_ext fun x a b => ?_
    rw [K x a b, fz_kd_L g hn a b]
  refine fz_x_var (c := 1) (J := fun v => wX_variant_25 post (nI n) (nI l) (nI to) (nI e) v (nI un) (nI al) fl fy (fz_c nx) (fz_c en) (fz_c wd) (fz_c hd) (fz_c ch) (fz_c he) (fz_c rt) (fz_c wt) aL aD aP aY aS aT aN aR aM aQ aB) nl hl (by omega) (by omega) E0 ?_
  refine fz_x_var (c := 2) (J := fun v => wX_variant_54 post (nI n) (nI l) (nI to) (nI e) (nI (fz_kd nx n l to 1)) v (nI un) (nI al) fl fy (fz_c nx) (fz_c en) (fz_c wd) (fz_c hd) (fz_c ch) (fz_c he) (fz_c rt) (fz_c wt) aL aD aP aY aS aT aN aR aM aQ aB) nl hl (by omega) (by omega) E1 ?_
  refine fz_x_var (c := 3) (J := fun v => wX_variant_83 post (nI n) (nI l) (nI to) (nI e) (nI (fz_kd nx n l to 1)) (nI (fz_kd nx n l to 2)) v (nI un) (nI al) fl fy (fz_c nx) (fz_c en) (fz_c wd) (fz_c hd) (fz_c ch) (fz_c he) (fz_c rt) (fz_c wt) aL aD aP aY aS aT aN aR aM aQ aB) nl hl (by omega) (by omega) E2 ?_
  refine fz_x_var (c := 4) (J := fun v => wX_variant_112 post (nI e) (nI (fz_kd nx n l to 1)) (nI (fz_kd nx n l to 2)) (nI (fz_kd nx n l to 3)) v (nI un) (nI al) fl fy (fz_c nx) (fz_c en) (fz_c wd) (fz_c hd) (fz_c ch) (fz_c he) (fz_c rt) (fz_c wt) aL aD aP aY aS aT aN aR aM aQ aB) nl hl (by omega) (by omega) E3 ?_
  show wX_variant_112 post _ _ _ _ _ (nI un) (nI al) fl fy (fz_c nx) (fz_c en) (fz_c wd) (fz_c hd) (fz_c ch) (fz_c he) (fz_c rt) (fz_c wt) aL aD aP aY aS aT aN aR aM aQ aB
  unfold wX_variant_112
  refine fz_x_node (q := to) H (fz_kd_Nd g hn ht (by omega) (by omega)) (fz_kd_Nd g hn ht (by omega) (by omega)) (fz_kd_Nd g hn ht (by omega) (by omega)) (fz_kd_Nd g hn ht (by omega) (by omega)) be hF (by rw [GE]; exact h24) (by rw [GE]; exact h6) hs ?_ ?_
  · rcases hq with hq | hq
    · exact Or.inl hq
    · refine Or.inr ⟨l, hq, hl, ?_⟩
      rw [K l hq hl]
      unfold fz_kd; rw [if_pos rfl]
  · rw [GE]
    exact P
end
end
section
/-! the node of a dictionary with or without a word -/
theorem fz_rs_len (c : Nat) : ∀ D : List (List Nat), (fz_rs c D).length ≤ D.length
  | [] => by simp [fz_rs]
  | [] :: D => by have := fz_rs_len c D; simp only [fz_rs, List.length_cons]; omega
  | (x :: t) :: D => by
    have := fz_rs_len c D
    by_cases h : x = c
    · simp only [fz_rs, if_pos h, List.length_cons]; omega
    · simp only [fz_rs, if_neg h, List.length_cons]; omega
theorem fz_rw_len : ∀ (p : List Nat) (D : List (List Nat)), (fz_rw p D).length ≤ D.length
  | [], _ => Nat.le_refl _
  | c :: p, D => Nat.le_trans (fz_rw_len p (fz_rs c D)) (fz_rs_len c D)
theorem fz_hb_rw' {m : Nat} {p : List Nat} {D : List (List Nat)} (h : fz_hb m D) : fz_hb m (fz_rw p D) := fun w hw => by
  have := h _ (fz_mem_rw.mp hw)
  rw [List.length_append] at this
  omega
theorem fz_rw_chg {b : Nat} : ∀ {w : List Nat} {D : List (List Nat)} {k : Nat}, fz_lw w → k ≤ w.length → fz_rw (w.take k) (fz_chg b w D) = fz_chg b (w.drop k) (fz_rw (w.take k) D)
  | [], _, k, _, _ => by simp [fz_rw]
  | c :: r, D, 0, _, _ => rfl
  | c :: r, D, k + 1, hw, hk => by
    have ⟨a, b'⟩ := fz_lw_hd hw
    show fz_rw (r.take k) (fz_rs c (fz_chg b (c :: r) D)) = fz_chg b (r.drop k) (fz_rw (r.take k) (fz_rs c D))
    rw [← fz_rw_chg (b := b) (w := r) (D := fz_rs c D) (k := k) (fz_lw_tl hw) (by simpa using hk)]
    simp only [fz_chg]
    rw [fz_rs_gl a b', if_pos rfl]
theorem fz_take1 {w : List Nat} {k : Nat} (hk : k < w.length) : w.take (k + 1) = w.take k ++ [w.getD k 0] := by
  rw [List.take_add_one, List.getElem?_eq_getElem hk, List.getD_eq_getElem?_getD, List.getElem?_eq_getElem hk]; rfl
theorem fz_drop1 {w : List Nat} {k : Nat} (hk : k < w.length) : w.drop k = w.getD k 0 :: w.drop (k + 1) := by
  rw [List.drop_eq_getElem_cons hk, List.getD_eq_getElem?_getD, List.getElem?_eq_getElem hk]; rfl
theorem fz_lw_get {w : List Nat} {k : Nat} (hw : fz_lw w) (hk : k < w.length) : 1 ≤ w.getD k 0 ∧ w.getD k 0 ≤ 4 := by
  rw [List.getD_eq_getElem?_getD, List.getElem?_eq_getElem hk]
  exact hw _ (List.getElem_mem hk)
theorem fz_chg_step {b k : Nat} {w : List Nat} {D : List (List Nat)} (hw : fz_lw w) (hk : k < w.length) : fz_rw (w.take k) (fz_chg b w D) = fz_gl (fz_eb (fz_rw (w.take k) D)) (fun x => if x = w.getD k 0 then fz_rw (w.take (k + 1)) (fz_chg b w D) else fz_rs x (fz_rw (w.take k) D)) := by
  rw [fz_rw_chg hw (by omega), fz_rw_chg (k := k + 1) hw (by omega), fz_drop1 hk, fz_take1 hk, fz_rw_app]
  rfl
theorem fz_chg_end {b : Nat} {w : List Nat} {D : List (List Nat)} (hw : fz_lw w) : fz_rw w (fz_chg b w D) = fz_gl b (fun x => fz_rs x (fz_rw w D)) := by
  have := fz_rw_chg (b := b) (D := D) (k := w.length) hw (Nat.le_refl _)
  rw [List.take_length, List.drop_length] at this
  exact this
theorem fz_ext_tr {F F' F'' : List Nat} {L L' L'' : Nat → List (List Nat)} (h : fz_ext F L F' L') (g : fz_ext F' L' F'' L'') : fz_ext F L F'' L'' := fun n hn => by
  have ⟨a, b⟩ := h n hn
  have ⟨c, d⟩ := g n a
  exact ⟨c, d.trans b⟩
theorem fz_ext_Nd {F F' : List Nat} {L L' : Nat → List (List Nat)} (h : fz_ext F L F' L') (z : L 0 = []) (z' : L' 0 = []) {p : Nat} (hp : fz_Nd F p) : fz_Nd F' p ∧ L' p = L p := by
  rcases hp with hp | hp
  · rw [hp, z, z']; exact ⟨Or.inl rfl, rfl⟩
  · have ⟨a, b⟩ := h p hp
    exact ⟨Or.inr a, b⟩
def fz_pth (aP : Nat → Int32) (F : List Nat) (L : Nat → List (List Nat)) (w : List Nat) (D : List (List Nat)) (k : Nat) : Prop := ∀ i, i < k → ∃ p, aP i = nI p ∧ fz_Nd F p ∧ L p = fz_rw (w.take i) D
section
variable {fl fy : Int32} {rt wt : Nat → Nat} {aL aD aP aY aS aT aN aR aM aQ aB : Nat → Int32} {F0 : List Nat} {L0 : Nat → List (List Nat)}
theorem fz_x_changed79 {post : Int32 → SX → Prop} {w : List Nat} {D : List (List Nat)} {b : Nat} (hw : fz_lw w) (w5 : w.length ≤ 5) (C24 : (fz_chg b w D).length ≤ 24) (C6 : fz_hb 6 (fz_chg b w D)) (hl : fz_lr aL 0 w)
    (P : ∀ (m un al : Nat) (nx en wd hd ch he : Nat → Nat) (F : List Nat) (B : Nat → List Nat) (L : Nat → List (List Nat)), fz_HP un al nx en wd hd ch he rt F B L (fun _ => 0) → fz_Nd F m → L m = fz_chg b w D → fz_stab hd F m → fz_ext F0 L0 F L → post (nI m) (nI un, nI al, fl, fy, fz_c nx, fz_c en, fz_c wd, fz_c hd, fz_c ch, fz_c he, fz_c rt, fz_c wt, aL, aD, aP, aY, aS, aT, aN, aR, aM, aQ, aB)) :
    ∀ (k f m un al : Nat) (nx en wd hd ch he : Nat → Nat) (F : List Nat) (B : Nat → List Nat) (L : Nat → List (List Nat)), fz_HP un al nx en wd hd ch he rt F B L (fun _ => 0) → fz_Nd F m → L m = fz_rw (w.take k) (fz_chg b w D) → fz_stab hd F m → k ≤ w.length → k < f → k ≤ F.length → fz_pth aP F L w D k → fz_ext F0 L0 F L → wX_changed_79 post f (nI m) (nI k + (-1)) (nI un) (nI al) fl fy (fz_c nx) (fz_c en) (fz_c wd) (fz_c hd) (fz_c ch) (fz_c he) (fz_c rt) (fz_c wt) aL aD aP aY aS aT aN aR aM aQ aB
  | _, 0, _, _, _, _, _, _, _, _, _, _, _, _, _, _, _, _, _, h, _, _, _ => by omega
  | 0, f + 1, m, un, al, nx, en, wd, hd, ch, he, F, B, L, H, hN, hL, hs, _, _, _, _, hx =>
    br_t (by decide) (P m un al nx en wd hd ch he F B L H hN hL hs hx)
  | k + 1, f + 1, m, un, al, nx, en, wd, hd, ch, he, F, B, L, H, hN, hL, hs, hk, hf, hF, hp, hx => by
    rw [pk_m1]
    obtain ⟨p, ep, pN, pL⟩ := hp k (by omega)
    have g := H.1
    have pl := fz_Nd_lt pN
    have i7 : vp_in (nI k) 7 := vp_in_nI (by omega) (by omega)
    have i6 : vp_in (nI k) 6 := vp_in_nI (by omega) (by omega)
    have eP : aP (nI k).toNatClampNeg = nI p := by rw [nI_clamp (by omega), ep]
    have eL : aL (nI k).toNatClampNeg = nI (w.getD k 0) := by
      have := fz_lr_get hl (i := k) (by omega)
      rw [Nat.zero_add] at this
      rw [nI_clamp (by omega), this]
    have ⟨c1, c4⟩ := fz_lw_get hw (k := k) (by omega)
    have ST := fz_chg_step (b := b) (D := D) hw (k := k) (by omega)
    rw [← hL, ← pL] at ST
    have V : wX_changed_114 post (wX_changed_79 post f) (nI m) (nI k) (nI (fz_eb (L p))) (nI un) (nI al) fl fy (fz_c nx) (fz_c en) (fz_c wd) (fz_c hd) (fz_c ch) (fz_c he) (fz_c rt) (fz_c wt) aL aD aP aY aS aT aN aR aM aQ aB := by
      refine And.intro i7 (And.intro i6 ?_)
      rw [eP, eL]
      refine fz_x_variant H pN c4 hN (fz_eb_le _) (by omega) ?_ ?_ hs (Or.inr c1) ?_
      · rw [← ST]
        exact Nat.le_trans (fz_rw_len _ _) C24
      · rw [← ST]
        exact fz_hb_rw' C6
      · intro m' un' al' nx' en' wd' hd' ch' he' F' B' L' H' hN' hL' hx' hs' hF'
        rw [← ST] at hL'
        refine nm_e (fz_x_changed79 hw w5 C24 C6 hl P k f m' un' al' nx' en' wd' hd' ch' he' F' B' L' H' hN' hL' hs' (by omega) (by omega) (by omega) ?_ (fz_ext_tr hx hx'))
        intro i hi
        obtain ⟨q, eq, qN, qL⟩ := hp i (by omega)
        have ⟨a, b⟩ := fz_ext_Nd hx' g.2.1 H'.1.2.1 qN
        exact ⟨q, eq, a, b.trans qL⟩
    refine br_f (nI_pos (by omega)) ⟨i7, ?_⟩
    rw [eP]
    by_cases z : p = 0
    · refine br_t (by rw [z]; decide) ?_
      have e0 : fz_eb (L p) = 0 := by rw [z, g.2.1]; rfl
      rw [e0] at V
      exact V
    · have pA := fz_Nd_A pN z
      have een := fz_gr_en g pA
      refine br_f (nI_nle (by omega) (by omega)) ⟨i7, vp_in_nI pl (by omega), ?_⟩
      rw [fz_ca en rfl (by omega)]
      have e1 := fz_gr_e1 g pA
      by_cases y : en p = 0
      · rw [← een, y] at V
        exact br_t (by rw [y]; rfl) V
      · rw [← een, show en p = 1 by omega] at V
        exact br_f (nI_ne0 (by omega) (by omega)) V
end
section
variable {un al : Nat} {fl fy : Int32} {nx en wd rt hd ch he wt : Nat → Nat} {aL aD aP aY aS aT aN aR aM aQ aB : Nat → Int32} {F : List Nat} {B : Nat → List Nat} {L : Nat → List (List Nat)}
theorem fz_x_changed10 {post : Int32 → SX → Prop} {w : List Nat} {D : List (List Nat)} {b : Nat} (hb1 : b ≤ 1) (hw : fz_lw w) (w1 : 1 ≤ w.length) (w5 : w.length ≤ 5) (C24 : (fz_chg b w D).length ≤ 24) (C6 : fz_hb 6 (fz_chg b w D)) (hl : fz_lr aL 0 w)
    (H : fz_HP un al nx en wd hd ch he rt F B L (fun _ => 0)) (hs : fz_stab hd F 0) (hF : w.length < F.length)
    (P : ∀ (aP : Nat → Int32) (m un al : Nat) (nx en wd hd ch he : Nat → Nat) (F' : List Nat) (B' : Nat → List Nat) (L' : Nat → List (List Nat)), fz_HP un al nx en wd hd ch he rt F' B' L' (fun _ => 0) → fz_Nd F' m → L' m = fz_chg b w D → fz_stab hd F' m → fz_ext F L F' L' → post (nI m) (nI un, nI al, nI w.length, fy, fz_c nx, fz_c en, fz_c wd, fz_c hd, fz_c ch, fz_c he, fz_c rt, fz_c wt, aL, aD, aP, aY, aS, aT, aN, aR, aM, aQ, aB)) :
    ∀ (f k n : Nat) (aP : Nat → Int32), k ≤ w.length → fz_Nd F n → L n = fz_rw (w.take k) D → fz_pth aP F L w D k → w.length < f + k → wX_changed_10 post (nI b) (nI un) (nI al) (nI w.length) fy f (nI n) (nI k) (fz_c nx) (fz_c en) (fz_c wd) (fz_c hd) (fz_c ch) (fz_c he) (fz_c rt) (fz_c wt) aL aD aP aY aS aT aN aR aM aQ aB
  | 0, _, _, _, h, _, _, _, h' => by omega
  | f + 1, k, n, aP, hk, hN, hL, hp, hf => by
    have g := H.1
    have nl := fz_Nd_lt hN
    by_cases z : k = w.length
    · subst z
      rw [List.take_length] at hL
      refine br_t (nI_le (Nat.le_refl _) (by omega)) ?_
      have EE : fz_gl b (fun x => if x = 0 then L 0 else fz_rs x (L n)) = fz_rw w (fz_chg b w D) := by
        rw [fz_chg_end hw, hL]
        refine fz_gl_ext fun x x1 _ => ?_
        rw [if_neg (by omega)]
      refine fz_x_variant (l := 0) (to := 0) H hN (by omega) (Or.inl rfl) hb1 (by omega) ?_ ?_ hs (Or.inl rfl) ?_
      · rw [EE]; exact Nat.le_trans (fz_rw_len _ _) C24
      · rw [EE]; exact fz_hb_rw' C6
      · intro m' un' al' nx' en' wd' hd' ch' he' F' B' L' H' hN' hL' hx' hs' hF'
        rw [EE] at hL'
        refine nm_r (e' := nI w.length + (-1)) (Int32.sub_eq_add_neg ..) ⟨w.length + 1, ?_⟩
        refine fz_x_changed79 hw w5 C24 C6 hl (F0 := F) (L0 := L) (P aP) w.length (w.length + 1) m' un' al' nx' en' wd' hd' ch' he' F' B' L' H' hN' ?_ hs' (by omega) (by omega) (by omega) ?_ hx'
        · rw [List.take_length]; exact hL'
        · intro i hi
          obtain ⟨q, eq, qN, qL⟩ := hp i hi
          have ⟨a, b⟩ := fz_ext_Nd hx' g.2.1 H'.1.2.1 qN
          exact ⟨q, eq, a, b.trans qL⟩
    · have kl : k < w.length := by omega
      have ⟨c1, c4⟩ := fz_lw_get hw kl
      have tk := fz_take1 kl
      have hp' : fz_pth (upd aP k (nI n)) F L w D (k + 1) := by
        intro i hi
        by_cases y : i = k
        · exact ⟨n, by rw [y, pk_us], hN, by rw [y]; exact hL⟩
        · obtain ⟨q, eq, r⟩ := hp i (by omega)
          exact ⟨q, by rw [pk_un y]; exact eq, r⟩
      refine br_f (nI_ge kl (by omega)) ⟨vp_in_nI (by omega) (by omega), nm_r (e' := upd aP k (nI n)) (by rw [fz_ns2 (by omega), nI_clamp (by omega)]) ?_⟩
      by_cases y : n = 0
      · subst y
        refine br_t rfl (nm_r (nI_1 k) ?_)
        refine fz_x_changed10 hb1 hw w1 w5 C24 C6 hl H hs hF P f (k + 1) 0 _ (by omega) (Or.inl rfl) ?_ hp' (by omega)
        rw [tk, fz_rw_app, ← hL, g.2.1]; rfl
      · have hA := fz_Nd_A hN y
        have eL : aL (nI k).toNatClampNeg = nI (w.getD k 0) := by
          have := fz_lr_get hl (i := k) kl
          rw [Nat.zero_add] at this
          rw [nI_clamp (by omega), this]
        have ei : 4 * nI n + aL (nI k).toNatClampNeg - 1 = nI (4 * n + w.getD k 0 - 1) := by
          rw [eL]; exact fz_ix c1
        refine br_f (nI_ne0 (by omega) (by omega)) ⟨vp_in_nI (by omega) (by omega), by rw [ei]; exact vp_in_nI (by omega) (by omega), nm_r (fz_ca nx ei (by omega)) (nm_r (nI_1 k) ?_)⟩
        refine fz_x_changed10 hb1 hw w1 w5 C24 C6 hl H hs hF P f (k + 1) _ _ (by omega) (fz_gr_kid g hA c1 c4) ?_ hp' (by omega)
        rw [tk, fz_rw_app, ← hL, fz_gr_rs g hA c1 c4]; rfl
theorem fz_x_changed {post : Int32 → SX → Prop} {w : List Nat} {b s : Nat} (hs5 : s < 5) (hb1 : b ≤ 1) (hw : fz_lw w) (w1 : 1 ≤ w.length) (w5 : w.length ≤ 5) (C24 : (fz_chg b w (L (rt s))).length ≤ 24) (C6 : fz_hb 6 (fz_chg b w (L (rt s)))) (hl : fz_lr aL 0 w)
    (H : fz_HP un al nx en wd hd ch he rt F B L (fun _ => 0)) (hs : fz_stab hd F 0) (hF : w.length < F.length)
    (P : ∀ (aP : Nat → Int32) (m un al : Nat) (nx en wd hd ch he : Nat → Nat) (F' : List Nat) (B' : Nat → List Nat) (L' : Nat → List (List Nat)), fz_HP un al nx en wd hd ch he rt F' B' L' (fun _ => 0) → fz_Nd F' m → L' m = fz_chg b w (L (rt s)) → fz_stab hd F' m → fz_ext F L F' L' → post (nI m) (nI un, nI al, nI w.length, fy, fz_c nx, fz_c en, fz_c wd, fz_c hd, fz_c ch, fz_c he, fz_c rt, fz_c wt, aL, aD, aP, aY, aS, aT, aN, aR, aM, aQ, aB)) :
    wpX_changed post (nI un, nI al, nI w.length, fy, fz_c nx, fz_c en, fz_c wd, fz_c hd, fz_c ch, fz_c he, fz_c rt, fz_c wt, aL, aD, aP, aY, aS, aT, aN, aR, aM, aQ, aB) (nI s) (nI b) :=
  And.intro (vp_in_nI hs5 (by omega)) (nm_r (fz_ca rt rfl (by omega)) ⟨w.length + 1, fz_x_changed10 hb1 hw w1 w5 C24 C6 hl H hs hF P (w.length + 1) 0 _ aP (by omega) (H.2.2.2.2.2.1 s hs5) rfl (fun i hi => by omega) (by omega)⟩)
end
/-! room: every node that is alive is a rest of a dictionary -/
theorem fz_reach {un al : Nat} {nx en wd hd ch he rt : Nat → Nat} {F : List Nat} {B : Nat → List Nat} {L : Nat → List (List Nat)} (H : fz_HP un al nx en wd hd ch he rt F B L (fun _ => 0)) (hs : fz_stab hd F 0) : ∀ (d n : Nat) (w : List Nat), fz_A F n → w ∈ L n → 5 - w.length = d → ∃ s p, s < 5 ∧ L n = fz_rw p (L (rt s)) := by
  intro d
  induction d with
  | zero =>
    intro n w hA hm hd0
    have e0 : hd n = fz_rf nx rt F n + 0 := H.2.2.1 n hA
    have := hs n hA (by have := hA.1; omega)
    rcases fz_rf_p (nx := nx) (rt := rt) (F := F) (n := n) (by omega) with ⟨m, c, mA, c1, c4, e⟩ | ⟨s, h5, e⟩
    · have r := fz_gr_rs H.1 mA c1 c4
      rw [e] at r
      rw [r, fz_mem_rs] at hm
      have := fz_gr_hb H.1 (Or.inr mA) _ hm
      simp only [List.length_cons] at this
      omega
    · exact ⟨s, [], h5, by rw [e]; rfl⟩
  | succ d ih =>
    intro n w hA hm hd0
    have e0 : hd n = fz_rf nx rt F n + 0 := H.2.2.1 n hA
    have := hs n hA (by have := hA.1; omega)
    rcases fz_rf_p (nx := nx) (rt := rt) (F := F) (n := n) (by omega) with ⟨m, c, mA, c1, c4, e⟩ | ⟨s, h5, e⟩
    · have r := fz_gr_rs H.1 mA c1 c4
      rw [e] at r
      rw [r, fz_mem_rs] at hm
      obtain ⟨s, p, h5, q⟩ := ih m (c :: w) mA hm (by simp only [List.length_cons]; omega)
      exact ⟨s, p ++ [c], h5, by rw [r, q, fz_rw_app]; rfl⟩
    · exact ⟨s, [], h5, by rw [e]; rfl⟩
def fz_al (F : List Nat) : List Nat := (List.range' 1 519).filter (fun n => decide (¬ n ∈ F))
theorem fz_al_mem {F : List Nat} {n : Nat} : n ∈ fz_al F ↔ fz_A F n := by
  unfold fz_al fz_A
  rw [List.mem_filter, List.mem_range'_1]
  simp only [decide_eq_true_eq]
  constructor
  · rintro ⟨⟨a, b⟩, c⟩; exact ⟨by omega, by omega, c⟩
  · rintro ⟨a, b, c⟩; exact ⟨⟨by omega, by omega⟩, c⟩
theorem fz_al_nd (F : List Nat) : (fz_al F).Nodup := List.Nodup.sublist List.filter_sublist List.nodup_range'
theorem fz_al_len {un : Nat} {ch : Nat → Nat} {F : List Nat} (hF : fz_HF un ch F) : (fz_al F).length + F.length = 519 := by
  have a : (fz_al F ++ F).Nodup := by
    rw [List.nodup_append]
    refine ⟨fz_al_nd F, hF.2.1, ?_⟩
    intro x hx y hy e
    exact (fz_al_mem.mp hx).2.2 (e ▸ hy)
  have l1 := a.length_le_of_subset (l₂ := List.range' 1 519) (fun x m => by
    rw [List.mem_range'_1]
    rcases List.mem_append.mp m with m | m
    · have := fz_al_mem.mp m; have := this.1; have := (fz_al_mem.mp m).2.1; omega
    · have := hF.2.2 x m; omega)
  have l2 := (List.nodup_range' (s := 1) (n := 519)).length_le_of_subset (l₂ := fz_al F ++ F) (fun x m => by
    rw [List.mem_range'_1] at m
    rw [List.mem_append]
    by_cases z : x ∈ F
    · exact Or.inr z
    · exact Or.inl (fz_al_mem.mpr ⟨by omega, by omega, z⟩))
  simp only [List.length_append, List.length_range'] at l1 l2
  omega
theorem fz_nd_map {L : Nat → List (List Nat)} {l : List Nat} (h : l.Nodup) (inj : ∀ x, x ∈ l → ∀ y, y ∈ l → L x = L y → x = y) : (l.map L).Nodup := by
  unfold List.Nodup
  rw [List.pairwise_map]
  exact List.Pairwise.imp_of_mem (fun {a b} ha hb hne e => hne (inj a ha b hb e)) h
def fz_ks (D : List (List Nat)) : List (List (List Nat)) := D :: fz_rs 1 D :: fz_rs 2 D :: fz_rs 3 D :: fz_rs 4 D :: (D.flatMap (fun w => [fz_rw (w.take 2) D, fz_rw (w.take 3) D, fz_rw (w.take 4) D, fz_rw (w.take 5) D]))
theorem fz_ks_len (D : List (List Nat)) : (fz_ks D).length = 5 + 4 * D.length := by
  have key : ∀ (E : List (List Nat)), (E.flatMap (fun w => [fz_rw (w.take 2) D, fz_rw (w.take 3) D, fz_rw (w.take 4) D, fz_rw (w.take 5) D])).length = 4 * E.length := by
    intro E
    induction E with
    | nil => rfl
    | cons w E ih => rw [List.flatMap_cons, List.length_append, ih]; simp only [List.length_cons, List.length_nil]; omega
  unfold fz_ks
  simp only [List.length_cons, key]
  omega
theorem fz_ks_mem {D : List (List Nat)} (h : fz_sv D) (h6 : fz_hb 6 D) {p : List Nat} (hp : fz_rw p D ≠ []) : fz_rw p D ∈ fz_ks D := by
  obtain ⟨t, ht⟩ := List.exists_mem_of_ne_nil _ hp
  have hm := fz_mem_rw.mp ht
  have hl := h.2 _ hm
  have h5 := h6 _ hm
  rw [List.length_append] at h5
  match p, hm, hl, h5 with
  | [], _, _, _ => simp [fz_ks, fz_rw]
  | [c], hm, hl, h5 =>
    have ⟨c1, c4⟩ := fz_lw_hd hl
    refine fz_c4 (P := fun c => fz_rw [c] D ∈ fz_ks D) ?_ ?_ ?_ ?_ c1 c4 <;> simp [fz_ks, fz_rw]
  | c :: d :: q, hm, hl, h5 =>
    simp only [List.length_cons] at h5
    simp only [fz_ks, List.mem_cons, List.mem_flatMap]
    refine Or.inr (Or.inr (Or.inr (Or.inr (Or.inr ⟨c :: d :: q ++ t, hm, ?_⟩))))
    have e : (c :: d :: q ++ t).take (c :: d :: q).length = c :: d :: q := List.take_left
    simp only [List.length_cons] at e
    have : q.length = 0 ∨ q.length = 1 ∨ q.length = 2 ∨ q.length = 3 := by omega
    rcases this with z | z | z | z <;> rw [z] at e <;> simp only [Nat.reduceAdd] at e <;> rw [e] <;> simp
theorem fz_room {un al : Nat} {nx en wd hd ch he rt : Nat → Nat} {F : List Nat} {B : Nat → List Nat} {L : Nat → List (List Nat)} (H : fz_HP un al nx en wd hd ch he rt F B L (fun _ => 0)) (hs : fz_stab hd F 0) : 14 ≤ F.length := by
  have nd := fz_nd_map (L := L) (fz_al_nd F) (fun x hx y hy e => H.2.1 x y (fz_al_mem.mp hx) (fz_al_mem.mp hy) e)
  have sub := nd.length_le_of_subset (l₂ := fz_ks (L (rt 0)) ++ (fz_ks (L (rt 1)) ++ (fz_ks (L (rt 2)) ++ (fz_ks (L (rt 3)) ++ fz_ks (L (rt 4)))))) (fun x m => by
    obtain ⟨n, hn, rfl⟩ := List.mem_map.mp m
    have hA := fz_al_mem.mp hn
    have ne := fz_gr_ne H.1 hA
    obtain ⟨w, hw⟩ := List.exists_mem_of_ne_nil _ ne
    obtain ⟨s, p, h5, e⟩ := fz_reach H hs (5 - w.length) n w hA hw rfl
    have rN := H.2.2.2.2.2.1 s h5
    have hm : L n ∈ fz_ks (L (rt s)) := by
      rw [e] at ne ⊢
      exact fz_ks_mem (fz_gr_sv H.1 rN) (fz_gr_hb H.1 rN) ne
    have : s = 0 ∨ s = 1 ∨ s = 2 ∨ s = 3 ∨ s = 4 := by omega
    simp only [List.mem_append]
    rcases this with z | z | z | z | z <;> subst z <;> simp [hm])
  have b := fz_al_len H.2.2.2.1
  have l := fun s h => fz_gr_len H.1 (H.2.2.2.2.2.1 s h)
  have l0 := l 0 (by omega)
  have l1 := l 1 (by omega)
  have l2 := l 2 (by omega)
  have l3 := l 3 (by omega)
  have l4 := l 4 (by omega)
  simp only [List.length_map, List.length_append, fz_ks_len] at sub
  omega
end
section
/-! the component's state as a whole: five sorted lists of words with weights -/
def fz_ky (l : List (List Nat × Nat)) : List (List Nat) := l.map (fun x => x.1)
def fz_ue (E : Nat → List (List Nat × Nat)) (s : Nat) (l : List (List Nat × Nat)) : Nat → List (List Nat × Nat) := fun t => if t = s then l else E t
theorem fz_ue_s {E : Nat → List (List Nat × Nat)} {s : Nat} {l : List (List Nat × Nat)} : fz_ue E s l s = l := if_pos rfl
theorem fz_ue_n {E : Nat → List (List Nat × Nat)} {s t : Nat} {l : List (List Nat × Nat)} (h : t ≠ s) : fz_ue E s l t = E t := if_neg h
def fz_WS (wt : Nat → Nat) (E : Nat → List (List Nat × Nat)) : Prop := (∀ s, s < 5 → ∀ k, k < (E s).length → wt (24 * s + k) = ((E s).getD k ([], 0)).2) ∧ ∀ i, wt i < 100
def fz_HS (un al : Nat) (nx en wd hd ch he rt wt : Nat → Nat) (F : List Nat) (B : Nat → List Nat) (L : Nat → List (List Nat)) (E : Nat → List (List Nat × Nat)) : Prop :=
  fz_HP un al nx en wd hd ch he rt F B L (fun _ => 0) ∧ fz_stab hd F 0 ∧ (∀ s, s < 5 → L (rt s) = fz_ky (E s) ∧ ¬ [] ∈ fz_ky (E s)) ∧ fz_WS wt E
def fz_XS (u : SX) (E : Nat → List (List Nat × Nat)) : Prop :=
  ∃ (un : Nat) (al : Nat) (fl : Int32) (fy : Int32) (nx : Nat → Nat) (en : Nat → Nat) (wd : Nat → Nat) (rt : Nat → Nat) (hd : Nat → Nat) (ch : Nat → Nat) (he : Nat → Nat) (wt : Nat → Nat) (aL : Nat → Int32) (aD : Nat → Int32) (aP : Nat → Int32) (aY : Nat → Int32) (aS : Nat → Int32) (aT : Nat → Int32) (aN : Nat → Int32) (aR : Nat → Int32) (aM : Nat → Int32) (aQ : Nat → Int32) (aB : Nat → Int32) (F : List Nat) (B : Nat → List Nat) (L : Nat → List (List Nat)), u = (nI un, nI al, fl, fy, fz_c nx, fz_c en, fz_c wd, fz_c hd, fz_c ch, fz_c he, fz_c rt, fz_c wt, aL, aD, aP, aY, aS, aT, aN, aR, aM, aQ, aB) ∧ fz_HS un al nx en wd hd ch he rt wt F B L E
def fz_XSR (u : SX) (E : Nat → List (List Nat × Nat)) (w : List Nat) : Prop :=
  ∃ (un : Nat) (al : Nat) (fy : Int32) (nx : Nat → Nat) (en : Nat → Nat) (wd : Nat → Nat) (rt : Nat → Nat) (hd : Nat → Nat) (ch : Nat → Nat) (he : Nat → Nat) (wt : Nat → Nat) (aL : Nat → Int32) (aD : Nat → Int32) (aP : Nat → Int32) (aY : Nat → Int32) (aS : Nat → Int32) (aT : Nat → Int32) (aN : Nat → Int32) (aR : Nat → Int32) (aM : Nat → Int32) (aQ : Nat → Int32) (aB : Nat → Int32) (F : List Nat) (B : Nat → List Nat) (L : Nat → List (List Nat)), u = (nI un, nI al, nI w.length, fy, fz_c nx, fz_c en, fz_c wd, fz_c hd, fz_c ch, fz_c he, fz_c rt, fz_c wt, aL, aD, aP, aY, aS, aT, aN, aR, aM, aQ, aB) ∧ fz_HS un al nx en wd hd ch he rt wt F B L E ∧ fz_lr aL 0 w
theorem fz_XS_el {P : SX → Prop} {u : SX} {E : Nat → List (List Nat × Nat)} (h : fz_XS u E) (k : ∀ (un : Nat) (al : Nat) (fl : Int32) (fy : Int32) (nx : Nat → Nat) (en : Nat → Nat) (wd : Nat → Nat) (rt : Nat → Nat) (hd : Nat → Nat) (ch : Nat → Nat) (he : Nat → Nat) (wt : Nat → Nat) (aL : Nat → Int32) (aD : Nat → Int32) (aP : Nat → Int32) (aY : Nat → Int32) (aS : Nat → Int32) (aT : Nat → Int32) (aN : Nat → Int32) (aR : Nat → Int32) (aM : Nat → Int32) (aQ : Nat → Int32) (aB : Nat → Int32) (F : List Nat) (B : Nat → List Nat) (L : Nat → List (List Nat)), fz_HS un al nx en wd hd ch he rt wt F B L E → P (nI un, nI al, fl, fy, fz_c nx, fz_c en, fz_c wd, fz_c hd, fz_c ch, fz_c he, fz_c rt, fz_c wt, aL, aD, aP, aY, aS, aT, aN, aR, aM, aQ, aB)) : P u :=
  h.elim fun un h => h.elim fun al h => h.elim fun fl h => h.elim fun fy h => h.elim fun nx h => h.elim fun en h => h.elim fun wd h => h.elim fun rt h => h.elim fun hd h => h.elim fun ch h => h.elim fun he h => h.elim fun wt h => h.elim fun aL h => h.elim fun aD h => h.elim fun aP h => h.elim fun aY h => h.elim fun aS h => h.elim fun aT h => h.elim fun aN h => h.elim fun aR h => h.elim fun aM h => h.elim fun aQ h => h.elim fun aB h => h.elim fun F h => h.elim fun B h => h.elim fun L h => Eq.subst (motive := P) h.1.symm (k un al fl fy nx en wd rt hd ch he wt aL aD aP aY aS aT aN aR aM aQ aB F B L h.2)
theorem fz_XSR_el {P : SX → Prop} {u : SX} {E : Nat → List (List Nat × Nat)} {w : List Nat} (h : fz_XSR u E w) (k : ∀ (un : Nat) (al : Nat) (fy : Int32) (nx : Nat → Nat) (en : Nat → Nat) (wd : Nat → Nat) (rt : Nat → Nat) (hd : Nat → Nat) (ch : Nat → Nat) (he : Nat → Nat) (wt : Nat → Nat) (aL : Nat → Int32) (aD : Nat → Int32) (aP : Nat → Int32) (aY : Nat → Int32) (aS : Nat → Int32) (aT : Nat → Int32) (aN : Nat → Int32) (aR : Nat → Int32) (aM : Nat → Int32) (aQ : Nat → Int32) (aB : Nat → Int32) (F : List Nat) (B : Nat → List Nat) (L : Nat → List (List Nat)), fz_HS un al nx en wd hd ch he rt wt F B L E → fz_lr aL 0 w → P (nI un, nI al, nI w.length, fy, fz_c nx, fz_c en, fz_c wd, fz_c hd, fz_c ch, fz_c he, fz_c rt, fz_c wt, aL, aD, aP, aY, aS, aT, aN, aR, aM, aQ, aB)) : P u :=
  h.elim fun un h => h.elim fun al h => h.elim fun fy h => h.elim fun nx h => h.elim fun en h => h.elim fun wd h => h.elim fun rt h => h.elim fun hd h => h.elim fun ch h => h.elim fun he h => h.elim fun wt h => h.elim fun aL h => h.elim fun aD h => h.elim fun aP h => h.elim fun aY h => h.elim fun aS h => h.elim fun aT h => h.elim fun aN h => h.elim fun aR h => h.elim fun aM h => h.elim fun aQ h => h.elim fun aB h => h.elim fun F h => h.elim fun B h => h.elim fun L h => Eq.subst (motive := P) h.1.symm (k un al fy nx en wd rt hd ch he wt aL aD aP aY aS aT aN aR aM aQ aB F B L h.2.1 h.2.2)
section
variable {un al : Nat} {fl fy : Int32} {nx en wd rt hd ch he wt : Nat → Nat} {aL aD aP aY aS aT aN aR aM aQ aB : Nat → Int32} {F : List Nat} {B : Nat → List Nat} {L : Nat → List (List Nat)} {E : Nat → List (List Nat × Nat)} {w : List Nat}
theorem fz_XS_mk (h : fz_HS un al nx en wd hd ch he rt wt F B L E) : fz_XS (nI un, nI al, fl, fy, fz_c nx, fz_c en, fz_c wd, fz_c hd, fz_c ch, fz_c he, fz_c rt, fz_c wt, aL, aD, aP, aY, aS, aT, aN, aR, aM, aQ, aB) E :=
  ⟨un, al, fl, fy, nx, en, wd, rt, hd, ch, he, wt, aL, aD, aP, aY, aS, aT, aN, aR, aM, aQ, aB, F, B, L, rfl, h⟩
theorem fz_XSR_mk (h : fz_HS un al nx en wd hd ch he rt wt F B L E) (hl : fz_lr aL 0 w) : fz_XSR (nI un, nI al, nI w.length, fy, fz_c nx, fz_c en, fz_c wd, fz_c hd, fz_c ch, fz_c he, fz_c rt, fz_c wt, aL, aD, aP, aY, aS, aT, aN, aR, aM, aQ, aB) E w :=
  ⟨un, al, fy, nx, en, wd, rt, hd, ch, he, wt, aL, aD, aP, aY, aS, aT, aN, aR, aM, aQ, aB, F, B, L, rfl, h, hl⟩
end
theorem fz_XSR_XS {u : SX} {E : Nat → List (List Nat × Nat)} {w : List Nat} (h : fz_XSR u E w) : fz_XS u E :=
  fz_XSR_el (P := fun u => fz_XS u E) h (fun _ _ _ _ _ _ _ _ _ _ _ _ _ _ _ _ _ _ _ _ _ _ _ _ _ H _ => fz_XS_mk H)
theorem fz_ky_len (l : List (List Nat × Nat)) : (fz_ky l).length = l.length := by simp [fz_ky]
theorem fz_ky_get {l : List (List Nat × Nat)} {k : Nat} (h : k < l.length) : (fz_ky l)[k]? = some (l.getD k ([], 0)).1 := by
  unfold fz_ky
  rw [List.getElem?_map, List.getD_eq_getElem?_getD, List.getElem?_eq_getElem h]; rfl
/-! weights move -/
def fz_w1 (wt : Nat → Nat) (b j n : Nat) : Nat → Nat := fun i => if b + j < i ∧ i ≤ b + n then wt (i - 1) else wt i
theorem fz_w1_n (wt : Nat → Nat) (b n : Nat) : fz_w1 wt b n n = wt := by
  funext i; unfold fz_w1; rw [if_neg (by omega)]
theorem fz_w1_s (wt : Nat → Nat) {b j n : Nat} (h : j < n) : fz_u (fz_w1 wt b (j + 1) n) (b + (j + 1)) (fz_w1 wt b (j + 1) n (b + j)) = fz_w1 wt b j n := by
  funext i
  by_cases z : i = b + (j + 1)
  · rw [z, fz_us]
    unfold fz_w1
    rw [if_neg (by omega), if_pos (by omega)]
    exact congrArg wt (by omega)
  · rw [fz_un z]
    unfold fz_w1
    by_cases y : b + j < i ∧ i ≤ b + n
    · rw [if_pos y, if_pos (by omega)]
    · rw [if_neg y, if_neg (by omega)]
theorem fz_w1_lt {wt : Nat → Nat} {b j n : Nat} (h : ∀ i, wt i < 100) (i : Nat) : fz_w1 wt b j n i < 100 := by
  unfold fz_w1; split
  · exact h _
  · exact h _
def fz_w2 (wt : Nat → Nat) (b a j : Nat) : Nat → Nat := fun i => if b + a ≤ i ∧ i < b + j then wt (i + 1) else wt i
theorem fz_w2_0 (wt : Nat → Nat) (b a : Nat) : fz_w2 wt b a a = wt := by
  funext i; unfold fz_w2; rw [if_neg (by omega)]
theorem fz_w2_s (wt : Nat → Nat) {b a j : Nat} (h : a ≤ j) : fz_u (fz_w2 wt b a j) (b + j) (fz_w2 wt b a j (b + j + 1)) = fz_w2 wt b a (j + 1) := by
  funext i
  by_cases z : i = b + j
  · rw [z, fz_us]
    unfold fz_w2
    rw [if_neg (by omega), if_pos (by omega)]
  · rw [fz_un z]
    unfold fz_w2
    by_cases y : b + a ≤ i ∧ i < b + j
    · rw [if_pos y, if_pos (by omega)]
    · rw [if_neg y, if_neg (by omega)]
theorem fz_w2_lt {wt : Nat → Nat} {b a j : Nat} (h : ∀ i, wt i < 100) (i : Nat) : fz_w2 wt b a j i < 100 := by
  unfold fz_w2; split
  · exact h _
  · exact h _
def fz_w3 (wt : Nat → Nat) (a b j : Nat) : Nat → Nat := fun i => if b ≤ i ∧ i < b + j then wt (a + (i - b)) else wt i
theorem fz_w3_0 (wt : Nat → Nat) (a b : Nat) : fz_w3 wt a b 0 = wt := by
  funext i; unfold fz_w3; rw [if_neg (by omega)]
theorem fz_w3_s (wt : Nat → Nat) {a b j : Nat} (h : a + 24 ≤ b ∨ b + 24 ≤ a) (hj : j < 24) : fz_u (fz_w3 wt a b j) (b + j) (fz_w3 wt a b j (a + j)) = fz_w3 wt a b (j + 1) := by
  funext i
  by_cases z : i = b + j
  · rw [z, fz_us]
    unfold fz_w3
    rw [if_neg (by omega), if_pos (by omega)]
    exact congrArg wt (by omega)
  · rw [fz_un z]
    unfold fz_w3
    by_cases y : b ≤ i ∧ i < b + j
    · rw [if_pos y, if_pos (by omega)]
    · rw [if_neg y, if_neg (by omega)]
theorem fz_w3_lt {wt : Nat → Nat} {a b j : Nat} (h : ∀ i, wt i < 100) (i : Nat) : fz_w3 wt a b j i < 100 := by
  unfold fz_w3; split
  · exact h _
  · exact h _
theorem fz_u_lt {wt : Nat → Nat} {k g : Nat} (h : ∀ i, wt i < 100) (hg : g < 100) (i : Nat) : fz_u wt k g i < 100 := by
  unfold fz_u; split
  · exact hg
  · exact h _
def fz_ei (l : List (List Nat × Nat)) (a : Nat) (x : List Nat × Nat) : List (List Nat × Nat) := l.take a ++ x :: l.drop a
def fz_ed (l : List (List Nat × Nat)) (a : Nat) : List (List Nat × Nat) := l.take a ++ l.drop (a + 1)
theorem fz_ei_ky (l : List (List Nat × Nat)) (a : Nat) (x : List Nat × Nat) : fz_ky (fz_ei l a x) = (fz_ky l).take a ++ x.1 :: (fz_ky l).drop a := by
  simp [fz_ky, fz_ei]
theorem fz_ed_ky (l : List (List Nat × Nat)) (a : Nat) : fz_ky (fz_ed l a) = (fz_ky l).take a ++ (fz_ky l).drop (a + 1) := by
  simp [fz_ky, fz_ed]
theorem fz_ei_len {l : List (List Nat × Nat)} {a : Nat} {x : List Nat × Nat} : (fz_ei l a x).length = l.length + 1 := by
  simp [fz_ei]; omega
theorem fz_ei_get {l : List (List Nat × Nat)} {a k : Nat} {x d : List Nat × Nat} (ha : a ≤ l.length) : (fz_ei l a x).getD k d = if k < a then l.getD k d else if k = a then x else l.getD (k - 1) d := by
  unfold fz_ei
  simp only [List.getD_eq_getElem?_getD]
  by_cases h : k < a
  · rw [if_pos h, List.getElem?_append_left (by simp; omega), List.getElem?_take_of_lt h]
  · rw [if_neg h, List.getElem?_append_right (by simp; omega), List.length_take, Nat.min_eq_left ha]
    by_cases e : k = a
    · rw [if_pos e, e, Nat.sub_self]; rfl
    · rw [if_neg e]
      obtain ⟨m, rfl⟩ : ∃ m, k = a + (m + 1) := ⟨k - a - 1, by omega⟩
      rw [Nat.add_sub_cancel_left, List.getElem?_cons_succ, List.getElem?_drop, show a + (m + 1) - 1 = a + m by omega]
theorem fz_ed_get {l : List (List Nat × Nat)} {a k : Nat} {d : List Nat × Nat} (ha : a < l.length) : (fz_ed l a).getD k d = if k < a then l.getD k d else l.getD (k + 1) d := by
  unfold fz_ed
  simp only [List.getD_eq_getElem?_getD]
  by_cases h : k < a
  · rw [if_pos h, List.getElem?_append_left (by simp; omega), List.getElem?_take_of_lt h]
  · rw [if_neg h, List.getElem?_append_right (by simp; omega), List.length_take, Nat.min_eq_left (by omega), List.getElem?_drop]
    rw [show a + 1 + (k - a) = k + 1 by omega]
theorem fz_ed_len {l : List (List Nat × Nat)} {a : Nat} (ha : a < l.length) : (fz_ed l a).length = l.length - 1 := by
  simp [fz_ed]; omega
section
variable {un al : Nat} {fl fy : Int32} {nx en wd rt hd ch he wt : Nat → Nat} {aL aD aP aY aS aT aN aR aM aQ aB : Nat → Int32} {F : List Nat} {B : Nat → List Nat} {L : Nat → List (List Nat)} {E : Nat → List (List Nat × Nat)} {w : List Nat}
theorem fz_HS_Nd (H : fz_HS un al nx en wd hd ch he rt wt F B L E) {s : Nat} (h : s < 5) : fz_Nd F (rt s) := H.1.2.2.2.2.2.1 s h
theorem fz_HS_L (H : fz_HS un al nx en wd hd ch he rt wt F B L E) {s : Nat} (h : s < 5) : L (rt s) = fz_ky (E s) := (H.2.2.1 s h).1
theorem fz_HS_sv (H : fz_HS un al nx en wd hd ch he rt wt F B L E) {s : Nat} (h : s < 5) : fz_sv (fz_ky (E s)) := by
  rw [← fz_HS_L H h]; exact fz_gr_sv H.1.1 (fz_HS_Nd H h)
theorem fz_HS_24 (H : fz_HS un al nx en wd hd ch he rt wt F B L E) {s : Nat} (h : s < 5) : (E s).length ≤ 24 := by
  rw [← fz_ky_len, ← fz_HS_L H h]; exact fz_gr_len H.1.1 (fz_HS_Nd H h)
theorem fz_HS_6 (H : fz_HS un al nx en wd hd ch he rt wt F B L E) {s : Nat} (h : s < 5) : fz_hb 6 (fz_ky (E s)) := by
  rw [← fz_HS_L H h]; exact fz_gr_hb H.1.1 (fz_HS_Nd H h)
/-- a new root is installed, and weights fit -/
theorem fz_HS_in {m s : Nat} {l : List (List Nat × Nat)} {wt' : Nat → Nat} {un' al' : Nat} {nx' en' wd' hd' ch' he' : Nat → Nat} {F' F'' : List Nat} {B' : Nat → List Nat} {L' : Nat → List (List Nat)} (H : fz_HS un al nx en wd hd ch he rt wt F B L E) (hs : s < 5) (hx : fz_ext F L F'' L') (H' : fz_HP un' al' nx' en' wd' hd' ch' he' (fz_u rt s m) F' B' L' (fun _ => 0)) (st : fz_stab hd' F' 0) (hL : L' m = fz_ky l) (hn : ¬ [] ∈ fz_ky l) (hw : fz_WS wt' (fz_ue E s l)) : fz_HS un' al' nx' en' wd' hd' ch' he' (fz_u rt s m) wt' F' B' L' (fz_ue E s l) := by
  refine ⟨H', st, ?_, hw⟩
  intro t ht
  by_cases z : t = s
  · rw [z, fz_us, fz_ue_s]; exact ⟨hL, hn⟩
  · rw [fz_un z, fz_ue_n z]
    have ⟨_, b⟩ := fz_ext_Nd hx H.1.1.2.1 H'.1.2.1 (fz_HS_Nd H ht)
    rw [b]; exact H.2.2.1 t ht
theorem fz_x_enter42 {post : Int32 → SX → Prop} {s g a n : Nat} (hs : s < 5) (hn : n < 24) (h1 : ∀ i, wt i < 100)
    (K : wpX_changed (fun r u => match u with | (g1, g2, g3, g4, h1, h2, h3, h4, h5, h6, h7, h8, k1, k2, k3, k4, k5, k6, k7, k8, k9, m1, m2) => wpX_install (fun u => match u with | (g1, g2, g3, g4, h1, h2, h3, h4, h5, h6, h7, h8, k1, k2, k3, k4, k5, k6, k7, k8, k9, m1, m2) => wX_enter_96 post (nI s) (nI g) (nI a) g1 g2 g3 g4 h1 h2 h3 h4 h5 h6 h7 h8 k1 k2 k3 k4 k5 k6 k7 k8 k9 m1 m2) (g1, g2, g3, g4, h1, h2, h3, h4, h5, h6, h7, h8, k1, k2, k3, k4, k5, k6, k7, k8, k9, m1, m2) (nI s) r) (nI un, nI al, fl, fy, fz_c nx, fz_c en, fz_c wd, fz_c hd, fz_c ch, fz_c he, fz_c rt, fz_c (fz_w1 wt (24 * s) a n), aL, aD, aP, aY, aS, aT, aN, aR, aM, aQ, aB) (nI s) 1) :
    ∀ (d j f : Nat), a + d = j → j ≤ n → d < f → wX_enter_42 post (nI s) (nI g) (nI a) (nI un) (nI al) fl fy f (nI j) (fz_c nx) (fz_c en) (fz_c wd) (fz_c hd) (fz_c ch) (fz_c he) (fz_c rt) (fz_c (fz_w1 wt (24 * s) j n)) aL aD aP aY aS aT aN aR aM aQ aB
  | _, _, 0, _, _, h => by omega
  | 0, j, f + 1, hj, hjn, _ => by
    have : j = a := by omega
    subst this
    exact br_t (nI_le (Nat.le_refl _) (by omega)) K
  | d + 1, j, f + 1, hj, hjn, hf => by
    obtain ⟨i, rfl⟩ : ∃ i, j = i + 1 := ⟨j - 1, by omega⟩
    have E1 : 24 * nI s + nI (i + 1) = nI (24 * s + (i + 1)) := fz_24
    have E2 : 24 * nI s + nI (i + 1) - 1 = nI (24 * s + i) := by
      rw [E1]; show nI _ - nI 1 = _; rw [pk_sub (by omega)]; rfl
    have IH := fz_x_enter42 hs hn h1 K d i f (by omega) (by omega) (by omega)
    have lt := fz_w1_lt (b := 24 * s) (j := i + 1) (n := n) h1 (24 * s + i)
    refine br_f (nI_ge (by omega) (by omega)) ⟨by rw [E2]; exact vp_in_nI (by omega) (by omega), by rw [E1]; exact vp_in_nI (by omega) (by omega), nm_r (e' := fz_c (fz_w1 wt (24 * s) i n)) ?_ (nm_r (pk_m1 i) IH)⟩
    rw [fz_ca _ E2 (by omega), E1, nI_clamp (by omega), fz_nb (by omega), fz_cu, fz_w1_s wt (by omega)]
end
end
section
/-! a word comes in, goes out; dictionaries are copied -/
theorem fz_ky_set {l : List (List Nat × Nat)} {a g : Nat} {w : List Nat} (h : (fz_ky l)[a]? = some w) : fz_ky (l.set a (w, g)) = fz_ky l := by
  unfold fz_ky at h ⊢
  rw [List.map_set]
  apply List.ext_getElem?
  intro i
  rw [List.getElem?_set]
  by_cases z : a = i
  · subst z
    rw [if_pos rfl, h]
    have : a < (List.map (fun x => x.fst) l).length := by
      rcases Nat.lt_or_ge a (List.map (fun x => x.fst) l).length with z | z
      · exact z
      · rw [List.getElem?_eq_none z] at h; cases h
    rw [if_pos this]
  · rw [if_neg z]
theorem fz_at_get {D : List (List Nat)} {w : List Nat} (h : fz_sv D) (hm : w ∈ D) : D[fz_cb w D]? = some w := by
  have := congrArg (fun l => l[0]?) (fz_at h hm)
  simp only [List.getElem?_drop, Nat.add_zero, List.getElem?_cons_zero] at this
  exact this
theorem fz_cb_le (r : List Nat) (D : List (List Nat)) : fz_cb r D ≤ D.length := List.countP_le_length
section
variable {un al : Nat} {fl fy : Int32} {nx en wd rt hd ch he wt : Nat → Nat} {aL aD aP aY aS aT aN aR aM aQ aB : Nat → Int32} {F : List Nat} {B : Nat → List Nat} {L : Nat → List (List Nat)} {E : Nat → List (List Nat × Nat)} {w : List Nat}
theorem fz_xt_enter {post : Int32 → SX → Prop} {s g : Nat} (H : fz_HS un al nx en wd hd ch he rt wt F B L E) (hl : fz_lr aL 0 w) (hs : s < 5) (hw : fz_lw w) (w1 : 1 ≤ w.length) (w5 : w.length ≤ 5) (hg : g < 100)
    (P1 : w ∈ fz_ky (E s) → ∀ u', fz_XSR u' (fz_ue E s ((E s).set (fz_cb w (fz_ky (E s))) (w, g))) w → post (nI (fz_cb w (fz_ky (E s)))) u')
    (P2 : ¬ w ∈ fz_ky (E s) → (E s).length < 24 → ∀ u', fz_XSR u' (fz_ue E s (fz_ei (E s) (fz_cb w (fz_ky (E s))) (w, g))) w → post (nI (fz_cb w (fz_ky (E s)))) u')
    (P3 : ¬ w ∈ fz_ky (E s) → (E s).length = 24 → post (-2) (nI un, nI al, nI w.length, fy, fz_c nx, fz_c en, fz_c wd, fz_c hd, fz_c ch, fz_c he, fz_c rt, fz_c wt, aL, aD, aP, aY, aS, aT, aN, aR, aM, aQ, aB)) : wpX_enter post (nI un, nI al, nI w.length, fy, fz_c nx, fz_c en, fz_c wd, fz_c hd, fz_c ch, fz_c he, fz_c rt, fz_c wt, aL, aD, aP, aY, aS, aT, aN, aR, aM, aQ, aB) (nI s) (nI g) := by
  have G := H.1.1
  have rN := fz_HS_Nd H hs
  have eD := fz_HS_L H hs
  have sv := fz_HS_sv H hs
  have n24 := fz_HS_24 H hs
  have h6 := fz_HS_6 H hs
  have cl := fz_cb_le w (fz_ky (E s))
  rw [fz_ky_len] at cl
  have wlt := H.2.2.2.2
  have E24 : 24 * nI s + nI (fz_cb w (fz_ky (E s))) = nI (24 * s + fz_cb w (fz_ky (E s))) := fz_24
  unfold wpX_enter
  refine fz_x_has G hs hw w5 rN hl ?_ ?_
  · intro hm
    rw [eD] at hm
    have cl' := fz_cb_lt sv hm
    rw [fz_ky_len] at cl'
    refine fz_x_sizeOf G hs rN (br_f (by decide) ?_)
    unfold wX_enter_27
    refine fz_x_before G hs hw w5 rN hl (br_f (by decide) ?_)
    rw [eD]
    refine And.intro (by rw [E24]; exact vp_in_nI (by omega) (by omega)) (nm_r (fz_cb8 E24 (by omega) (by omega)) (P1 hm _ (fz_XSR_mk (F := F) (B := B) (L := L) ?_ hl)))
    refine ⟨H.1, H.2.1, ?_, ?_, fz_u_lt wlt hg⟩
    · intro t ht
      by_cases z : t = s
      · subst z
        rw [fz_ue_s, fz_ky_set (fz_at_get sv hm)]; exact H.2.2.1 t ht
      · rw [fz_ue_n z]; exact H.2.2.1 t ht
    · intro t ht k hk
      have l24 := fz_HS_24 H ht
      by_cases z : t = s
      · subst z
        rw [fz_ue_s] at hk ⊢
        rw [List.length_set] at hk
        by_cases y : k = fz_cb w (fz_ky (E t))
        · rw [y, fz_us, List.getD_eq_getElem?_getD, List.getElem?_set, if_pos rfl, if_pos cl']; rfl
        · rw [fz_un (by omega), H.2.2.2.1 t ht k hk, List.getD_eq_getElem?_getD, List.getD_eq_getElem?_getD, List.getElem?_set, if_neg (fun e => y e.symm)]
      · rw [fz_ue_n z] at hk ⊢
        rw [fz_un (by omega)]
        exact H.2.2.2.1 t ht k hk
  · intro hm
    rw [eD] at hm
    have ei := fz_ins sv hw hm
    refine fz_x_sizeOf G hs rN (br_t rfl ?_)
    rw [eD, fz_ky_len]
    by_cases q : (E s).length = 24
    · exact br_t (by rw [q]; rfl) (P3 hm q)
    · refine br_f (fun e => q ((nI_eq (a := (E s).length) (b := 24) (by omega) (by decide)).mp e)) ?_
      unfold wX_enter_27
      refine fz_x_before G hs hw w5 rN hl (br_t rfl ⟨25, ?_⟩)
      rw [eD]
      have room := fz_room H.1 H.2.1
      have key := fz_x_enter42 (post := post) (un := un) (al := al) (fl := nI w.length) (fy := fy) (nx := nx) (en := en) (wd := wd) (rt := rt) (hd := hd) (ch := ch) (he := he) (wt := wt) (aL := aL) (aD := aD) (aP := aP) (aY := aY) (aS := aS) (aT := aT) (aN := aN) (aR := aR) (aM := aM) (aQ := aQ) (aB := aB) (s := s) (g := g) (a := fz_cb w (fz_ky (E s))) (n := (E s).length) hs (by omega) wlt ?_ ((E s).length - fz_cb w (fz_ky (E s))) (E s).length 25 (by omega) (Nat.le_refl _) (by omega)
      · rw [fz_w1_n] at key
        exact key
      · refine fz_x_changed (w := w) (b := 1) (s := s) (B := B) hs (by decide) hw w1 w5 ?_ ?_ hl H.1 H.2.1 (by omega) ?_
        · rw [eD, ei]
          simp only [List.length_append, List.length_cons, List.length_take, List.length_drop, fz_ky_len]
          omega
        · rw [eD]
          intro x hx
          rw [fz_chg_mem sv hw] at hx
          rcases hx with ⟨hx, _⟩ | ⟨_, hx⟩
          · rw [hx]; omega
          · exact h6 x hx
        · intro aP' m un' al' nx' en' wd' hd' ch' he' F' B' L' H' mN mL ms mx
          refine fz_x_install H' hs mN ms ?_
          intro un2 al2 hd2 ch2 he2 aS2 F2 B2 H2 st2
          refine And.intro (by rw [E24]; exact vp_in_nI (by omega) (by omega)) (nm_r (fz_cb8 E24 (by omega) (by omega)) (P2 hm (by omega) _ (fz_XSR_mk (fz_HS_in H hs mx H2 st2 ?_ ?_ ?_) hl)))
          · rw [mL, eD, ei, fz_ei_ky]
          · rw [fz_ei_ky, ← ei, fz_chg_mem sv hw]
            rintro (⟨e, _⟩ | ⟨_, e⟩)
            · rw [← e] at w1; simp at w1
            · exact (H.2.2.1 s hs).2 e
          · refine ⟨?_, fz_u_lt (fz_w1_lt wlt) hg⟩
            intro t ht k hk
            have l24 := fz_HS_24 H ht
            by_cases z : t = s
            · subst z
              rw [fz_ue_s] at hk ⊢
              rw [fz_ei_len] at hk
              rw [fz_ei_get cl]
              by_cases y : k < fz_cb w (fz_ky (E t))
              · rw [if_pos y, fz_un (by omega)]
                unfold fz_w1
                rw [if_neg (by omega)]
                exact H.2.2.2.1 t ht k (by omega)
              · rw [if_neg y]
                by_cases y2 : k = fz_cb w (fz_ky (E t))
                · rw [if_pos y2, y2, fz_us]
                · rw [if_neg y2, fz_un (by omega)]
                  unfold fz_w1
                  rw [if_pos (by omega), ← H.2.2.2.1 t ht (k - 1) (by omega)]
                  exact congrArg wt (by omega)
            · rw [fz_ue_n z] at hk ⊢
              rw [fz_un (by omega)]
              unfold fz_w1
              rw [if_neg (by omega)]
              exact H.2.2.2.1 t ht k hk
theorem fz_x_takeOut15 {post : Int32 → SX → Prop} {s a n : Nat} (hs : s < 5) (hn : n ≤ 24) (h1 : ∀ i, wt i < 100)
    (K : ∀ f, wX_takeOut_15 post (nI s) (nI a) (nI n) (nI un) (nI al) fl fy (f + 1) (nI (n - 1)) (fz_c nx) (fz_c en) (fz_c wd) (fz_c hd) (fz_c ch) (fz_c he) (fz_c rt) (fz_c (fz_w2 wt (24 * s) a (n - 1))) aL aD aP aY aS aT aN aR aM aQ aB) :
    ∀ (d j f : Nat), j + d = n - 1 → a ≤ j → d < f → wX_takeOut_15 post (nI s) (nI a) (nI n) (nI un) (nI al) fl fy f (nI j) (fz_c nx) (fz_c en) (fz_c wd) (fz_c hd) (fz_c ch) (fz_c he) (fz_c rt) (fz_c (fz_w2 wt (24 * s) a j)) aL aD aP aY aS aT aN aR aM aQ aB
  | _, _, 0, _, _, h => by omega
  | 0, j, f + 1, hj, _, _ => by
    have : j = n - 1 := by omega
    subst this
    exact K f
  | d + 1, j, f + 1, hj, haj, hf => by
    have E1 : 24 * nI s + nI j = nI (24 * s + j) := fz_24
    have E2 : 24 * nI s + nI j + 1 = nI (24 * s + j + 1) := by rw [E1, nI_1]
    have E3 : nI n - 1 = nI (n - 1) := by show nI _ - nI 1 = _; rw [pk_sub (by omega)]
    have IH := fz_x_takeOut15 hs hn h1 K d (j + 1) f (by omega) (by omega) (by omega)
    have lt := fz_w2_lt (b := 24 * s) (a := a) (j := j) h1 (24 * s + j + 1)
    refine br_f (by rw [E3]; exact nI_ge (by omega) (by omega)) ⟨by rw [E2]; exact vp_in_nI (by omega) (by omega), by rw [E1]; exact vp_in_nI (by omega) (by omega), nm_r (e' := fz_c (fz_w2 wt (24 * s) a (j + 1))) ?_ (nm_r (nI_1 j) IH)⟩
    rw [fz_ca _ E2 (by omega), E1, nI_clamp (by omega), fz_nb (by omega), fz_cu, fz_w2_s wt haj]
theorem fz_xt_takeOut {post : Int32 → SX → Prop} {s : Nat} (H : fz_HS un al nx en wd hd ch he rt wt F B L E) (hl : fz_lr aL 0 w) (hs : s < 5) (hw : fz_lw w) (w1 : 1 ≤ w.length) (w5 : w.length ≤ 5) (hm : w ∈ fz_ky (E s))
    (P : ∀ u', fz_XSR u' (fz_ue E s (fz_ed (E s) (fz_cb w (fz_ky (E s))))) w → post (nI (fz_cb w (fz_ky (E s)))) u') : wpX_takeOut post (nI un, nI al, nI w.length, fy, fz_c nx, fz_c en, fz_c wd, fz_c hd, fz_c ch, fz_c he, fz_c rt, fz_c wt, aL, aD, aP, aY, aS, aT, aN, aR, aM, aQ, aB) (nI s) := by
  have G := H.1.1
  have rN := fz_HS_Nd H hs
  have eD := fz_HS_L H hs
  have sv := fz_HS_sv H hs
  have n24 := fz_HS_24 H hs
  have h6 := fz_HS_6 H hs
  have cl := fz_cb_lt sv hm
  rw [fz_ky_len] at cl
  have wlt := H.2.2.2.2
  have ei := fz_del sv hm
  have room := fz_room H.1 H.2.1
  unfold wpX_takeOut
  refine fz_x_before G hs hw w5 rN hl (fz_x_sizeOf G hs rN ⟨25, ?_⟩)
  rw [eD, fz_ky_len]
  have key := fz_x_takeOut15 (post := post) (un := un) (al := al) (fl := nI w.length) (fy := fy) (nx := nx) (en := en) (wd := wd) (rt := rt) (hd := hd) (ch := ch) (he := he) (wt := wt) (aL := aL) (aD := aD) (aP := aP) (aY := aY) (aS := aS) (aT := aT) (aN := aN) (aR := aR) (aM := aM) (aQ := aQ) (aB := aB) (s := s) (a := fz_cb w (fz_ky (E s))) (n := (E s).length) hs (by omega) wlt ?_ ((E s).length - 1 - fz_cb w (fz_ky (E s))) (fz_cb w (fz_ky (E s))) 25 (by omega) (Nat.le_refl _) (by omega)
  · rw [fz_w2_0] at key
    exact key
  · intro f
    have E3 : nI (E s).length - 1 = nI ((E s).length - 1) := by show nI _ - nI 1 = _; rw [pk_sub (by omega)]
    refine br_t (by rw [E3]; exact nI_le (Nat.le_refl _) (by omega)) ?_
    refine fz_x_changed (w := w) (b := 0) (s := s) (B := B) hs (by decide) hw w1 w5 ?_ ?_ hl H.1 H.2.1 (by omega) ?_
    · rw [eD, ei]
      simp only [List.length_append, List.length_take, List.length_drop, fz_ky_len]
      omega
    · rw [eD]
      intro x hx
      rw [fz_chg_mem sv hw] at hx
      rcases hx with ⟨_, hx⟩ | ⟨_, hx⟩
      · exact absurd rfl hx
      · exact h6 x hx
    · intro aP' m un' al' nx' en' wd' hd' ch' he' F' B' L' H' mN mL ms mx
      refine fz_x_install H' hs mN ms ?_
      intro un2 al2 hd2 ch2 he2 aS2 F2 B2 H2 st2
      refine P _ (fz_XSR_mk (fz_HS_in H hs mx H2 st2 ?_ ?_ ?_) hl)
      · rw [mL, eD, ei, fz_ed_ky]
      · rw [fz_ed_ky, ← ei, fz_chg_mem sv hw]
        rintro (⟨_, e⟩ | ⟨_, e⟩)
        · exact absurd rfl e
        · exact (H.2.2.1 s hs).2 e
      · refine ⟨?_, fz_w2_lt wlt⟩
        intro t ht k hk
        have l24 := fz_HS_24 H ht
        by_cases z : t = s
        · subst z
          rw [fz_ue_s] at hk ⊢
          rw [fz_ed_len cl] at hk
          rw [fz_ed_get cl]
          unfold fz_w2
          by_cases y : k < fz_cb w (fz_ky (E t))
          · rw [if_pos y, if_neg (by omega)]
            exact H.2.2.2.1 t ht k (by omega)
          · rw [if_neg y, if_pos (by omega), ← H.2.2.2.1 t ht (k + 1) (by omega)]
            exact congrArg wt (by omega)
        · rw [fz_ue_n z] at hk ⊢
          unfold fz_w2
          rw [if_neg (by omega)]
          exact H.2.2.2.1 t ht k hk
theorem fz_x_copy13 {post : SX → Prop} {a b : Nat} (ha : a < 5) (hb : b < 5) (hab : a ≠ b) (h1 : ∀ i, wt i < 100)
    (K : post (nI un, nI al, fl, fy, fz_c nx, fz_c en, fz_c wd, fz_c hd, fz_c ch, fz_c he, fz_c rt, fz_c (fz_w3 wt (24 * a) (24 * b) 24), aL, aD, aP, aY, aS, aT, aN, aR, aM, aQ, aB)) :
    ∀ (d j f : Nat), j + d = 24 → d < f → wX_copy_13 post (nI a) (nI b) (nI un) (nI al) fl fy f (nI j) (fz_c nx) (fz_c en) (fz_c wd) (fz_c hd) (fz_c ch) (fz_c he) (fz_c rt) (fz_c (fz_w3 wt (24 * a) (24 * b) j)) aL aD aP aY aS aT aN aR aM aQ aB
  | _, _, 0, _, h => by omega
  | 0, j, f + 1, hj, _ => by
    have : j = 24 := by omega
    subst this
    exact br_t (show (24 : Int32) ≤ nI 24 by decide) K
  | d + 1, j, f + 1, hj, hf => by
    have E1 : 24 * nI a + nI j = nI (24 * a + j) := fz_24
    have E2 : 24 * nI b + nI j = nI (24 * b + j) := fz_24
    have IH := fz_x_copy13 ha hb hab h1 K d (j + 1) f (by omega) (by omega)
    have lt := fz_w3_lt (a := 24 * a) (b := 24 * b) (j := j) h1 (24 * a + j)
    refine br_f (nI_ge (b := 24) (by omega) (by decide)) ⟨by rw [E1]; exact vp_in_nI (by omega) (by omega), by rw [E2]; exact vp_in_nI (by omega) (by omega), nm_r (e' := fz_c (fz_w3 wt (24 * a) (24 * b) (j + 1))) ?_ (nm_r (nI_1 j) IH)⟩
    rw [fz_ca _ E1 (by omega), E2, nI_clamp (by omega), fz_nb (by omega), fz_cu, fz_w3_s wt (by omega) (by omega)]
theorem fz_xt_copy {post : SX → Prop} {a b : Nat} (H : fz_HS un al nx en wd hd ch he rt wt F B L E) (ha : a < 5) (hb : b < 5) (hab : a ≠ b)
    (P : ∀ u', fz_XS u' (fz_ue E b (E a)) → post u') : wpX_copy post (nI un, nI al, fl, fy, fz_c nx, fz_c en, fz_c wd, fz_c hd, fz_c ch, fz_c he, fz_c rt, fz_c wt, aL, aD, aP, aY, aS, aT, aN, aR, aM, aQ, aB) (nI a) (nI b) := by
  have wlt := H.2.2.2.2
  have rN := fz_HS_Nd H ha
  have er : fz_c rt (nI a).toNatClampNeg = nI (rt a) := fz_ca rt rfl (by omega)
  refine And.intro (vp_in_nI ha (by omega)) ?_
  rw [er]
  refine fz_x_install H.1 hb rN (fun n hA _ => H.2.1 n hA (by have := hA.1; omega)) ?_
  intro un2 al2 hd2 ch2 he2 aS2 F2 B2 H2 st2
  have key := fz_x_copy13 (post := post) (un := un2) (al := al2) (fl := fl) (fy := fy) (nx := nx) (en := en) (wd := wd) (rt := fz_u rt b (rt a)) (hd := hd2) (ch := ch2) (he := he2) (wt := wt) (aL := aL) (aD := aD) (aP := aP) (aY := aY) (aS := aS2) (aT := aT) (aN := aN) (aR := aR) (aM := aM) (aQ := aQ) (aB := aB) ha hb hab wlt ?_ 24 0 25 (by omega) (by omega)
  · rw [fz_w3_0] at key
    exact ⟨25, key⟩
  · refine P _ (fz_XS_mk (fz_HS_in H hb (fun n h => ⟨h, rfl⟩) H2 st2 (fz_HS_L H ha) (H.2.2.1 a ha).2 ⟨?_, fz_w3_lt wlt⟩))
    intro t ht k hk
    unfold fz_w3
    by_cases z : t = b
    · subst z
      rw [fz_ue_s] at hk ⊢
      have l24 := fz_HS_24 H ha
      rw [if_pos (by omega), ← H.2.2.2.1 a ha k hk]
      exact congrArg wt (by omega)
    · rw [fz_ue_n z] at hk ⊢
      have l24 := fz_HS_24 H ht
      rw [if_neg (by omega)]
      exact H.2.2.2.1 t ht k hk
theorem fz_xt_inst0 {post : SX → Prop} (H : fz_HS un al nx en wd hd ch he rt wt F B L E) (P : ∀ u', fz_XS u' (fz_ue E 4 []) → post u') : wpX_install post (nI un, nI al, fl, fy, fz_c nx, fz_c en, fz_c wd, fz_c hd, fz_c ch, fz_c he, fz_c rt, fz_c wt, aL, aD, aP, aY, aS, aT, aN, aR, aM, aQ, aB) 4 0 := by
  refine fz_x_install (s := 4) (m := 0) H.1 (by decide) (Or.inl rfl) H.2.1 ?_
  intro un2 al2 hd2 ch2 he2 aS2 F2 B2 H2 st2
  refine P _ (fz_XS_mk (fz_HS_in H (by decide) (fun n h => ⟨h, rfl⟩) H2 st2 H.1.1.2.1 (by simp [fz_ky]) ⟨?_, H.2.2.2.2⟩))
  intro t ht k hk
  by_cases z : t = 4
  · subst z
    rw [fz_ue_s] at hk; simp at hk
  · rw [fz_ue_n z] at hk ⊢
    exact H.2.2.2.1 t ht k hk
theorem fz_xt_spell {post : Int32 → SX → Prop} {s k : Nat} {x : List Nat × Nat} (H : fz_HS un al nx en wd hd ch he rt wt F B L E) (hs : s < 5) (hk : (E s)[k]? = some x) (P : ∀ u', fz_XSR u' E x.1 → post (nI (fz_en x.1)) u') : wpX_spell post (nI un, nI al, fl, fy, fz_c nx, fz_c en, fz_c wd, fz_c hd, fz_c ch, fz_c he, fz_c rt, fz_c wt, aL, aD, aP, aY, aS, aT, aN, aR, aM, aQ, aB) (nI s) (nI k) := by
  refine fz_x_spell (w := x.1) H.1.1 hs (fz_HS_Nd H hs) ?_ (fun a ha => P _ (fz_XSR_mk H ha))
  rw [fz_HS_L H hs]
  unfold fz_ky
  rw [List.getElem?_map, hk]; rfl
end
end
section
/-! joining: laws of lists with keys -/
theorem fz_kp {l : List (List Nat × Nat)} (h : fz_sv (fz_ky l)) : l.Pairwise (fun a b => fz_lx a.1 b.1 = true) := List.pairwise_map.mp h.1
theorem fz_ku : ∀ {l : List (List Nat × Nat)}, l.Pairwise (fun a b => fz_lx a.1 b.1 = true) → ∀ {x y : List Nat × Nat}, x ∈ l → y ∈ l → x.1 = y.1 → x = y
  | [], _, _, _, h, _, _ => absurd h (by simp)
  | a :: l, hp, x, y, hx, hy, e => by
    rw [List.pairwise_cons] at hp
    rcases List.mem_cons.mp hx with hx | hx <;> rcases List.mem_cons.mp hy with hy | hy
    · rw [hx, hy]
    · have := hp.1 y hy
      rw [← hx, e, fz_lx_irr] at this; cases this
    · have := hp.1 x hx
      rw [← hy, e, fz_lx_irr] at this; cases this
    · exact fz_ku hp.2 hx hy e
theorem fz_mky {l : List (List Nat × Nat)} {w : List Nat} : w ∈ fz_ky l ↔ ∃ x, x ∈ l ∧ x.1 = w := by
  unfold fz_ky; rw [List.mem_map]
theorem fz_ei_mem {l : List (List Nat × Nat)} {a : Nat} {x y : List Nat × Nat} : y ∈ fz_ei l a x ↔ y = x ∨ y ∈ l := by
  unfold fz_ei
  have e := List.take_append_drop a l
  rw [List.mem_append, List.mem_cons]
  constructor
  · rintro (h | h | h)
    · exact Or.inr (List.mem_of_mem_take h)
    · exact Or.inl h
    · exact Or.inr (List.mem_of_mem_drop h)
  · rintro (h | h)
    · exact Or.inr (Or.inl h)
    · rw [← e, List.mem_append] at h
      exact h.elim Or.inl (fun h => Or.inr (Or.inr h))
theorem fz_ed_mem {l : List (List Nat × Nat)} {w : List Nat} {y : List Nat × Nat} (sv : fz_sv (fz_ky l)) (hm : w ∈ fz_ky l) : y ∈ fz_ed l (fz_cb w (fz_ky l)) ↔ y ∈ l ∧ y.1 ≠ w := by
  have cl := fz_cb_lt sv hm
  rw [fz_ky_len] at cl
  have ga := fz_at_get sv hm
  rw [fz_ky_get cl] at ga
  have g1 := Option.some.inj ga
  have e : l = l.take (fz_cb w (fz_ky l)) ++ l.getD (fz_cb w (fz_ky l)) ([], 0) :: l.drop (fz_cb w (fz_ky l) + 1) := by
    conv => lhs; rw [← List.take_append_drop (fz_cb w (fz_ky l)) l, List.drop_eq_getElem_cons cl]
    rw [List.getD_eq_getElem?_getD, List.getElem?_eq_getElem cl]; rfl
  have hp := fz_kp sv
  unfold fz_ed
  constructor
  · intro m
    have ml : y ∈ l := by
      rcases List.mem_append.mp m with m | m
      · exact List.mem_of_mem_take m
      · exact List.mem_of_mem_drop m
    refine ⟨ml, ?_⟩
    intro q
    rw [e, List.pairwise_append, List.pairwise_cons] at hp
    rcases List.mem_append.mp m with m | m
    · have := hp.2.2 y m _ (List.mem_cons_self ..)
      rw [g1, q, fz_lx_irr] at this; cases this
    · have := hp.2.1.1 y m
      rw [g1, q, fz_lx_irr] at this; cases this
  · rintro ⟨m, q⟩
    rw [e, List.mem_append, List.mem_cons] at m
    rw [List.mem_append]
    rcases m with m | m | m
    · exact Or.inl m
    · exact absurd (by rw [m]; exact g1) q
    · exact Or.inr m
theorem fz_tk {l : List (List Nat × Nat)} {k : Nat} {x : List Nat × Nat} (h : l[k]? = some x) {y : List Nat × Nat} : y ∈ l.take (k + 1) ↔ y ∈ l.take k ∨ y = x := by
  rw [List.take_add_one, h, List.mem_append]
  simp
theorem fz_tk_n {l : List (List Nat × Nat)} (hp : l.Pairwise (fun a b => fz_lx a.1 b.1 = true)) {k : Nat} {x y : List Nat × Nat} (h : l[k]? = some x) (hy : y ∈ l.take k) : y.1 ≠ x.1 := by
  intro q
  have hk : k < l.length := by
    rcases Nat.lt_or_ge k l.length with z | z
    · exact z
    · rw [List.getElem?_eq_none z] at h; cases h
  have e := List.take_append_drop k l
  rw [← e, List.pairwise_append] at hp
  have : x ∈ l.drop k := by
    rw [List.drop_eq_getElem_cons hk]
    rw [List.getElem?_eq_getElem hk] at h
    rw [Option.some.inj h]; exact List.mem_cons_self ..
  have := hp.2.2 y hy x this
  rw [q, fz_lx_irr] at this; cases this
theorem fz_XS_cg {u : SX} {E E' : Nat → List (List Nat × Nat)} (h : fz_XS u E) (e : ∀ t, t < 5 → E t = E' t) : fz_XS u E' := by
  refine fz_XS_el (P := fun u => fz_XS u E') h ?_
  intro un al fl fy nx en wd rt hd ch he wt aL aD aP aY aS aT aN aR aM aQ aB F B L H
  refine fz_XS_mk (F := F) (B := B) (L := L) ⟨H.1, H.2.1, fun s hs => by rw [← e s hs]; exact H.2.2.1 s hs, fun s hs k hk => ?_, H.2.2.2.2⟩
  rw [← e s hs] at hk ⊢
  exact H.2.2.2.1 s hs k hk
section
variable {un al : Nat} {fl fy : Int32} {nx en wd rt hd ch he wt : Nat → Nat} {aL aD aP aY aS aT aN aR aM aQ aB : Nat → Int32} {F : List Nat} {B : Nat → List Nat} {L : Nat → List (List Nat)} {E : Nat → List (List Nat × Nat)} {w : List Nat}
theorem fz_xt_has {post : Int32 → Prop} {s : Nat} (H : fz_HS un al nx en wd hd ch he rt wt F B L E) (hl : fz_lr aL 0 w) (hs : s < 5) (hw : fz_lw w) (w5 : w.length ≤ 5) (p1 : w ∈ fz_ky (E s) → post 1) (p0 : ¬ w ∈ fz_ky (E s) → post 0) : wpX_has post (nI un, nI al, nI w.length, fy, fz_c nx, fz_c en, fz_c wd, fz_c hd, fz_c ch, fz_c he, fz_c rt, fz_c wt, aL, aD, aP, aY, aS, aT, aN, aR, aM, aQ, aB) (nI s) := by
  rw [← fz_HS_L H hs] at p1 p0
  exact fz_x_has H.1.1 hs hw w5 (fz_HS_Nd H hs) hl p1 p0
end
def fz_J145 (post : Int32 → SX → Prop) (x1 x3 x4 x8 x9 x10 : Int32) (f : Nat) (k : Int32) (u : SX) : Prop := match u with
  | (g1, g2, g3, g4, h1, h2, h3, h4, h5, h6, h7, h8, k1, k2, k3, k4, k5, k6, k7, k8, k9, m1, m2) => wX_join_145 post x1 x3 x4 x8 x9 x10 f k g1 g2 g3 g4 h1 h2 h3 h4 h5 h6 h7 h8 k1 k2 k3 k4 k5 k6 k7 k8 k9 m1 m2
/-- the end of a join: the working list goes to its place -/
theorem fz_x_joinZ {post : Int32 → SX → Prop} {E : Nat → List (List Nat × Nat)} {l : List (List Nat × Nat)} {x1 x3 x8 x9 x10 : Int32} {o k : Nat} (ho : o < 4) (hx : x10 ≤ nI k)
    (P : ∀ u', fz_XS u' (fz_ue (fz_ue E 4 []) o l) → post x8 u') (f : Nat) (u : SX) (h : fz_XS u (fz_ue E 4 l)) :
    fz_J145 post x1 x3 (nI o) x8 x9 x10 (f + 1) (nI k) u := by
  refine fz_XS_el (P := fz_J145 post x1 x3 (nI o) x8 x9 x10 (f + 1) (nI k)) h ?_
  intro un al fl fy nx en wd rt hd ch he wt aL aD aP aY aS aT aN aR aM aQ aB F B L H
  refine br_t hx ?_
  refine fz_xt_copy (a := 4) (b := o) H (by decide) (by omega) (by omega) ?_
  intro u' h'
  apply fz_XS_el h'
  intro un al fl fy nx en wd rt hd ch he wt aL aD aP aY aS aT aN aR aM aQ aB F B L H
  refine fz_xt_inst0 H ?_
  intro u2 h2
  refine P u2 (fz_XS_cg h2 ?_)
  intro t ht
  unfold fz_ue
  by_cases z : t = 4
  · rw [if_pos z, if_neg (by omega), if_pos z]
  · rw [if_neg z]
    by_cases y : t = o
    · rw [if_pos y, if_pos y, if_pos rfl]
    · rw [if_neg y, if_neg y, if_neg z, if_neg z]
end
section
/-! joining: the three loops of the component -/
theorem fz_ue_ue {E : Nat → List (List Nat × Nat)} {s : Nat} {l l' : List (List Nat × Nat)} : fz_ue (fz_ue E s l) s l' = fz_ue E s l' := by
  funext t
  unfold fz_ue
  by_cases z : t = s
  · rw [if_pos z, if_pos z]
  · rw [if_neg z, if_neg z, if_neg z]
def fz_j0 (A B : List (List Nat × Nat)) (k : Nat) (l : List (List Nat × Nat)) : Prop := ∀ x, x ∈ l ↔ x ∈ A ∨ (x ∈ B.take k ∧ ¬ x.1 ∈ fz_ky A)
def fz_j1 (A B : List (List Nat × Nat)) (k : Nat) (l : List (List Nat × Nat)) : Prop := ∀ x, x ∈ l ↔ x ∈ A ∧ (x.1 ∈ fz_ky B ∨ ¬ x ∈ A.take k)
def fz_j2 (A B : List (List Nat × Nat)) (k : Nat) (l : List (List Nat × Nat)) : Prop := ∀ x, x ∈ l ↔ x ∈ A ∧ ¬ x.1 ∈ fz_ky (B.take k)
theorem fz_HS_w {un al : Nat} {nx en wd hd ch he rt wt : Nat → Nat} {F : List Nat} {B : Nat → List Nat} {L : Nat → List (List Nat)} {E : Nat → List (List Nat × Nat)} (H : fz_HS un al nx en wd hd ch he rt wt F B L E) {s : Nat} (hs : s < 5) {x : List Nat × Nat} (hx : x ∈ E s) : fz_lw x.1 ∧ 1 ≤ x.1.length ∧ x.1.length ≤ 5 := by
  have m : x.1 ∈ fz_ky (E s) := fz_mky.mpr ⟨x, hx, rfl⟩
  have a := fz_HS_6 H hs _ m
  refine ⟨(fz_HS_sv H hs).2 _ m, ?_, by omega⟩
  rcases Nat.eq_zero_or_pos x.1.length with z | z
  · rw [List.eq_nil_of_length_eq_zero z] at m
    exact absurd m (H.2.2.1 s hs).2
  · exact z
theorem fz_getx {l : List (List Nat × Nat)} {k : Nat} (h : k < l.length) : ∃ x, l[k]? = some x ∧ x ∈ l ∧ l.getD k ([], 0) = x := by
  refine ⟨l[k], List.getElem?_eq_getElem h, List.getElem_mem h, ?_⟩
  rw [List.getD_eq_getElem?_getD, List.getElem?_eq_getElem h]; rfl
theorem fz_x_join0 {post : Int32 → SX → Prop} {E : Nat → List (List Nat × Nat)} {a b o : Nat} {x8 : Int32} (ha : a < 4) (hb : b < 4) (ho : o < 4) (cap : (E a ++ (E b).filter (fun x => decide (¬ x.1 ∈ fz_ky (E a)))).length ≤ 24)
    (P : ∀ l u', fz_j0 (E a) (E b) (E b).length l → fz_XS u' (fz_ue (fz_ue E 4 []) o l) → post x8 u') :
    ∀ (d k f : Nat) (l : List (List Nat × Nat)) (u : SX), k + d = (E b).length → d < f → fz_j0 (E a) (E b) k l → fz_XS u (fz_ue E 4 l) → fz_J145 post 0 (nI b) (nI o) x8 (nI b) (nI (E b).length) f (nI k) u
  | _, _, 0, _, _, _, h, _, _ => by omega
  | 0, k, f + 1, l, u, hk, _, hi, h => by
    have : k = (E b).length := by omega
    subst this
    have b24 : (E b).length < 2 ^ 31 := by
      have := fz_XS_el (P := fun _ => (E b).length ≤ 24) h (fun un al fl fy nx en wd rt hd ch he wt aL aD aP aY aS aT aN aR aM aQ aB F B L H => by
        have := fz_HS_24 H (s := b) (by omega)
        rw [fz_ue_n (by omega)] at this; exact this)
      omega
    exact fz_x_joinZ ho (nI_le (Nat.le_refl _) b24) (fun u' h' => P l u' hi h') f u h
  | d + 1, k, f + 1, l, u, hk, hf, hi, h => by
    obtain ⟨x, ex, mx, gx⟩ := fz_getx (l := E b) (k := k) (by omega)
    refine fz_XS_el (P := fz_J145 post 0 (nI b) (nI o) x8 (nI b) (nI (E b).length) (f + 1) (nI k)) h ?_
    intro un al fl fy nx en wd rt hd ch he wt aL aD aP aY aS aT aN aR aM aQ aB F B L H
    have eb : fz_ue E 4 l b = E b := fz_ue_n (by omega)
    have ea : fz_ue E 4 l a = E a := fz_ue_n (by omega)
    have l24 := fz_HS_24 H (s := b) (by omega)
    rw [eb] at l24
    have svb := fz_HS_sv H (s := b) (by omega)
    rw [eb] at svb
    have sva := fz_HS_sv H (s := a) (by omega)
    rw [ea] at sva
    have svl := fz_HS_sv H (s := 4) (by omega)
    rw [fz_ue_s] at svl
    obtain ⟨hw, w1, w5⟩ := fz_HS_w H (s := b) (by omega) (x := x) (by rw [eb]; exact mx)
    refine br_f (nI_ge (by omega) (by omega)) ?_
    refine fz_xt_spell (x := x) H (by omega) (by rw [eb]; exact ex) ?_
    intro u' h'
    apply fz_XSR_el h'
    intro un al fy nx en wd rt hd ch he wt aL aD aP aY aS aT aN aR aM aQ aB F B L H hl
    refine br_t rfl ?_
    refine fz_xt_has (s := 4) H hl (by decide) hw w5 ?_ ?_
    · intro hm
      rw [fz_ue_s] at hm
      refine br_f (by decide) (br_f (by decide) (br_f (by decide) (nm_r (nI_1 k) ?_)))
      refine fz_x_join0 ha hb ho cap P d (k + 1) f l _ (by omega) (by omega) ?_ (fz_XS_mk H)
      intro y
      rw [hi y, fz_tk ex]
      constructor
      · rintro (q | ⟨q1, q2⟩)
        · exact Or.inl q
        · exact Or.inr ⟨Or.inl q1, q2⟩
      · rintro (q | ⟨q1 | q1, q2⟩)
        · exact Or.inl q
        · exact Or.inr ⟨q1, q2⟩
        · exfalso
          obtain ⟨z, z1, z2⟩ := fz_mky.mp hm
          rcases (hi z).mp z1 with z3 | ⟨z3, _⟩
          · exact q2 (by rw [q1, ← z2]; exact fz_mky.mpr ⟨z, z3, rfl⟩)
          · exact fz_tk_n (fz_kp svb) ex z3 z2
    · intro hn
      rw [fz_ue_s] at hn
      have E24 : 24 * nI b + nI k = nI (24 * b + k) := fz_24
      have ew : fz_c wt (24 * nI b + nI k).toNatClampNeg = nI x.2 := by
        rw [fz_ca wt E24 (by omega), H.2.2.2.1 b (by omega) k (by rw [eb]; omega), eb, gx]
      have g100 : x.2 < 100 := by
        have := H.2.2.2.1 b (by omega) k (by rw [eb]; omega)
        rw [eb, gx] at this
        rw [← this]; exact H.2.2.2.2 _
      have nA : ¬ x.1 ∈ fz_ky (E a) := fun q => by
        obtain ⟨z, z1, z2⟩ := fz_mky.mp q
        exact hn (fz_mky.mpr ⟨z, (hi z).mpr (Or.inl z1), z2⟩)
      refine br_t rfl ⟨by rw [E24]; exact vp_in_nI (by omega) (by omega), ?_⟩
      rw [ew]
      refine fz_xt_enter (s := 4) (g := x.2) H hl (by decide) hw w1 w5 g100 (fun hm => absurd (by rw [fz_ue_s] at hm; exact hm) hn) ?_ ?_
      · intro _ _ u2 h2
        rw [fz_ue_s, fz_ue_ue] at h2
        apply fz_XSR_el h2
        intro un al fy nx en wd rt hd ch he wt aL aD aP aY aS aT aN aR aM aQ aB F B L H hl
        refine nm_r (nI_1 k) (fz_x_join0 ha hb ho cap P d (k + 1) f _ _ (by omega) (by omega) ?_ (fz_XS_mk H))
        intro y
        rw [fz_ei_mem, hi y, fz_tk ex]
        constructor
        · rintro (q | q | ⟨q1, q2⟩)
          · exact Or.inr ⟨Or.inr q, by rw [q]; exact nA⟩
          · exact Or.inl q
          · exact Or.inr ⟨Or.inl q1, q2⟩
        · rintro (q | ⟨q1 | q1, q2⟩)
          · exact Or.inr (Or.inl q)
          · exact Or.inr (Or.inr ⟨q1, q2⟩)
          · exact Or.inl q1
      · intro _ h24
        exfalso
        rw [fz_ue_s] at h24
        have nd : (x :: l).Nodup := by
          rw [List.nodup_cons]
          refine ⟨fun q => hn (fz_mky.mpr ⟨x, q, rfl⟩), ?_⟩
          exact (fz_kp svl).imp (fun {p q} h e => by rw [e, fz_lx_irr] at h; cases h)
        have := nd.length_le_of_subset (l₂ := E a ++ (E b).filter (fun x => decide (¬ x.1 ∈ fz_ky (E a)))) (fun y my => by
          rw [List.mem_append, List.mem_filter]
          rcases List.mem_cons.mp my with q | q
          · rw [q]; exact Or.inr ⟨mx, by simpa using nA⟩
          · rcases (hi y).mp q with q | ⟨q1, q2⟩
            · exact Or.inl q
            · exact Or.inr ⟨List.mem_of_mem_take q1, by simpa using q2⟩)
        rw [List.length_cons, h24] at this
        omega
theorem fz_x_join1 {post : Int32 → SX → Prop} {E : Nat → List (List Nat × Nat)} {a b o : Nat} {x8 : Int32} (ha : a < 4) (hb : b < 4) (ho : o < 4)
    (P : ∀ l u', fz_j1 (E a) (E b) (E a).length l → fz_XS u' (fz_ue (fz_ue E 4 []) o l) → post x8 u') :
    ∀ (d k f : Nat) (l : List (List Nat × Nat)) (u : SX), k + d = (E a).length → d < f → fz_j1 (E a) (E b) k l → fz_XS u (fz_ue E 4 l) → fz_J145 post 1 (nI b) (nI o) x8 (nI a) (nI (E a).length) f (nI k) u
  | _, _, 0, _, _, _, h, _, _ => by omega
  | 0, k, f + 1, l, u, hk, _, hi, h => by
    have : k = (E a).length := by omega
    subst this
    have b24 : (E a).length < 2 ^ 31 := by
      have := fz_XS_el (P := fun _ => (E a).length ≤ 24) h (fun un al fl fy nx en wd rt hd ch he wt aL aD aP aY aS aT aN aR aM aQ aB F B L H => by
        have := fz_HS_24 H (s := a) (by omega)
        rw [fz_ue_n (by omega)] at this; exact this)
      omega
    exact fz_x_joinZ ho (nI_le (Nat.le_refl _) b24) (fun u' h' => P l u' hi h') f u h
  | d + 1, k, f + 1, l, u, hk, hf, hi, h => by
    obtain ⟨x, ex, mx, gx⟩ := fz_getx (l := E a) (k := k) (by omega)
    refine fz_XS_el (P := fz_J145 post 1 (nI b) (nI o) x8 (nI a) (nI (E a).length) (f + 1) (nI k)) h ?_
    intro un al fl fy nx en wd rt hd ch he wt aL aD aP aY aS aT aN aR aM aQ aB F B L H
    have eb : fz_ue E 4 l b = E b := fz_ue_n (by omega)
    have ea : fz_ue E 4 l a = E a := fz_ue_n (by omega)
    have l24 := fz_HS_24 H (s := a) (by omega)
    rw [ea] at l24
    have sva := fz_HS_sv H (s := a) (by omega)
    rw [ea] at sva
    have svl := fz_HS_sv H (s := 4) (by omega)
    rw [fz_ue_s] at svl
    obtain ⟨hw, w1, w5⟩ := fz_HS_w H (s := a) (by omega) (x := x) (by rw [ea]; exact mx)
    refine br_f (nI_ge (by omega) (by omega)) ?_
    refine fz_xt_spell (x := x) H (by omega) (by rw [ea]; exact ex) ?_
    intro u' h'
    apply fz_XSR_el h'
    intro un al fy nx en wd rt hd ch he wt aL aD aP aY aS aT aN aR aM aQ aB F B L H hl
    refine br_f (by decide) (br_t rfl ?_)
    refine fz_xt_has (s := b) H hl (by omega) hw w5 ?_ ?_
    · intro hm
      rw [eb] at hm
      refine br_f (by decide) (br_f (by decide) (nm_r (nI_1 k) ?_))
      refine fz_x_join1 ha hb ho P d (k + 1) f l _ (by omega) (by omega) ?_ (fz_XS_mk H)
      intro y
      rw [hi y, fz_tk ex]
      constructor
      · rintro ⟨q1, q2⟩
        refine ⟨q1, ?_⟩
        rcases q2 with q2 | q2
        · exact Or.inl q2
        · by_cases z : y = x
          · rw [z]; exact Or.inl hm
          · exact Or.inr (fun q => q.elim q2 z)
      · rintro ⟨q1, q2⟩
        exact ⟨q1, q2.elim Or.inl (fun q => Or.inr (fun z => q (Or.inl z)))⟩
    · intro hn
      rw [eb] at hn
      have ml : x ∈ l := (hi x).mpr ⟨mx, Or.inr (fun q => fz_tk_n (fz_kp sva) ex q rfl)⟩
      have mk : x.1 ∈ fz_ky l := fz_mky.mpr ⟨x, ml, rfl⟩
      refine br_t rfl ?_
      refine fz_xt_takeOut (s := 4) H hl (by decide) hw w1 w5 (by rw [fz_ue_s]; exact mk) ?_
      intro u2 h2
      rw [fz_ue_s, fz_ue_ue] at h2
      apply fz_XSR_el h2
      intro un al fy nx en wd rt hd ch he wt aL aD aP aY aS aT aN aR aM aQ aB F B L H hl
      refine nm_r (nI_1 k) (fz_x_join1 ha hb ho P d (k + 1) f _ _ (by omega) (by omega) ?_ (fz_XS_mk H))
      intro y
      rw [fz_ed_mem svl mk, hi y, fz_tk ex]
      constructor
      · rintro ⟨⟨q1, q2⟩, q3⟩
        refine ⟨q1, q2.elim Or.inl (fun q => Or.inr (fun z => z.elim q (fun e => q3 (by rw [e]))))⟩
      · rintro ⟨q1, q2⟩
        refine ⟨⟨q1, q2.elim Or.inl (fun q => Or.inr (fun z => q (Or.inl z)))⟩, ?_⟩
        intro e
        have : y = x := fz_ku (fz_kp sva) q1 mx e
        rcases q2 with q2 | q2
        · exact hn (by rw [← e]; exact q2)
        · exact q2 (Or.inr this)
theorem fz_x_join2 {post : Int32 → SX → Prop} {E : Nat → List (List Nat × Nat)} {a b o : Nat} {x8 : Int32} (ha : a < 4) (hb : b < 4) (ho : o < 4)
    (P : ∀ l u', fz_j2 (E a) (E b) (E b).length l → fz_XS u' (fz_ue (fz_ue E 4 []) o l) → post x8 u') :
    ∀ (d k f : Nat) (l : List (List Nat × Nat)) (u : SX), k + d = (E b).length → d < f → fz_j2 (E a) (E b) k l → fz_XS u (fz_ue E 4 l) → fz_J145 post 2 (nI b) (nI o) x8 (nI b) (nI (E b).length) f (nI k) u
  | _, _, 0, _, _, _, h, _, _ => by omega
  | 0, k, f + 1, l, u, hk, _, hi, h => by
    have : k = (E b).length := by omega
    subst this
    have b24 : (E b).length < 2 ^ 31 := by
      have := fz_XS_el (P := fun _ => (E b).length ≤ 24) h (fun un al fl fy nx en wd rt hd ch he wt aL aD aP aY aS aT aN aR aM aQ aB F B L H => by
        have := fz_HS_24 H (s := b) (by omega)
        rw [fz_ue_n (by omega)] at this; exact this)
      omega
    exact fz_x_joinZ ho (nI_le (Nat.le_refl _) b24) (fun u' h' => P l u' hi h') f u h
  | d + 1, k, f + 1, l, u, hk, hf, hi, h => by
    obtain ⟨x, ex, mx, gx⟩ := fz_getx (l := E b) (k := k) (by omega)
    refine fz_XS_el (P := fz_J145 post 2 (nI b) (nI o) x8 (nI b) (nI (E b).length) (f + 1) (nI k)) h ?_
    intro un al fl fy nx en wd rt hd ch he wt aL aD aP aY aS aT aN aR aM aQ aB F B L H
    have eb : fz_ue E 4 l b = E b := fz_ue_n (by omega)
    have l24 := fz_HS_24 H (s := b) (by omega)
    rw [eb] at l24
    have svl := fz_HS_sv H (s := 4) (by omega)
    rw [fz_ue_s] at svl
    obtain ⟨hw, w1, w5⟩ := fz_HS_w H (s := b) (by omega) (x := x) (by rw [eb]; exact mx)
    have kt : ∀ v, v ∈ fz_ky ((E b).take (k + 1)) ↔ v ∈ fz_ky ((E b).take k) ∨ v = x.1 := by
      intro v
      rw [fz_mky, fz_mky]
      constructor
      · rintro ⟨z, z1, z2⟩
        rcases (fz_tk ex).mp z1 with q | q
        · exact Or.inl ⟨z, q, z2⟩
        · exact Or.inr (by rw [← z2, q])
      · rintro (⟨z, z1, z2⟩ | q)
        · exact ⟨z, (fz_tk ex).mpr (Or.inl z1), z2⟩
        · exact ⟨x, (fz_tk ex).mpr (Or.inr rfl), q.symm⟩
    refine br_f (nI_ge (by omega) (by omega)) ?_
    refine fz_xt_spell (x := x) H (by omega) (by rw [eb]; exact ex) ?_
    intro u' h'
    apply fz_XSR_el h'
    intro un al fy nx en wd rt hd ch he wt aL aD aP aY aS aT aN aR aM aQ aB F B L H hl
    refine br_f (by decide) (br_f (by decide) (br_t rfl ?_))
    refine fz_xt_has (s := 4) H hl (by decide) hw w5 ?_ ?_
    · intro mk
      rw [fz_ue_s] at mk
      refine br_f (by decide) ?_
      refine fz_xt_takeOut (s := 4) H hl (by decide) hw w1 w5 (by rw [fz_ue_s]; exact mk) ?_
      intro u2 h2
      rw [fz_ue_s, fz_ue_ue] at h2
      apply fz_XSR_el h2
      intro un al fy nx en wd rt hd ch he wt aL aD aP aY aS aT aN aR aM aQ aB F B L H hl
      refine nm_r (nI_1 k) (fz_x_join2 ha hb ho P d (k + 1) f _ _ (by omega) (by omega) ?_ (fz_XS_mk H))
      intro y
      rw [fz_ed_mem svl mk, hi y, kt]
      constructor
      · rintro ⟨⟨q1, q2⟩, q3⟩
        exact ⟨q1, fun z => z.elim q2 q3⟩
      · rintro ⟨q1, q2⟩
        exact ⟨⟨q1, fun z => q2 (Or.inl z)⟩, fun z => q2 (Or.inr z)⟩
    · intro hn
      rw [fz_ue_s] at hn
      refine br_t rfl (nm_r (nI_1 k) ?_)
      refine fz_x_join2 ha hb ho P d (k + 1) f l _ (by omega) (by omega) ?_ (fz_XS_mk H)
      intro y
      rw [hi y, kt]
      constructor
      · rintro ⟨q1, q2⟩
        refine ⟨q1, fun z => z.elim q2 (fun e => hn ?_)⟩
        exact fz_mky.mpr ⟨y, (hi y).mpr ⟨q1, q2⟩, e⟩
      · rintro ⟨q1, q2⟩
        exact ⟨q1, fun z => q2 (Or.inl z)⟩
end
section
/-! the law of a join; the component's methods that store -/
theorem fz_sv_nd {D : List (List Nat)} (h : fz_sv D) : D.Nodup := h.1.imp (fun {p q} h e => by rw [e, fz_lx_irr] at h; cases h)
theorem fz_kp_nd {l : List (List Nat × Nat)} (h : fz_sv (fz_ky l)) : l.Nodup := (fz_kp h).imp (fun {p q} h e => by rw [e, fz_lx_irr] at h; cases h)
theorem fz_len_eq {α : Type} {A B : List α} (ha : A.Nodup) (hb : B.Nodup) (h : ∀ x, x ∈ A ↔ x ∈ B) : A.length = B.length :=
  Nat.le_antisymm (ha.length_le_of_subset fun x m => (h x).mp m) (hb.length_le_of_subset fun x m => (h x).mpr m)
theorem fz_cm_comm {D E : List (List Nat)} (hd : fz_sv D) (he : fz_sv E) : fz_cm D E = fz_cm E D := by
  unfold fz_cm
  rw [List.countP_eq_length_filter, List.countP_eq_length_filter]
  refine fz_len_eq ((fz_sv_nd hd).sublist List.filter_sublist) ((fz_sv_nd he).sublist List.filter_sublist) ?_
  intro x
  rw [List.mem_filter, List.mem_filter]
  simp only [decide_eq_true_eq]
  exact ⟨fun h => ⟨h.2, h.1⟩, fun h => ⟨h.2, h.1⟩⟩
def fz_jn (how : Nat) (A B : List (List Nat × Nat)) (x : List Nat × Nat) : Prop :=
  if how = 0 then x ∈ A ∨ (x ∈ B ∧ ¬ x.1 ∈ fz_ky A) else if how = 1 then x ∈ A ∧ x.1 ∈ fz_ky B else x ∈ A ∧ ¬ x.1 ∈ fz_ky B
def fz_du (how : Nat) (A B : List (List Nat × Nat)) : Nat :=
  if how = 0 then A.length + B.length - fz_cm (fz_ky A) (fz_ky B) else if how = 1 then fz_cm (fz_ky A) (fz_ky B) else A.length - fz_cm (fz_ky A) (fz_ky B)
theorem fz_cm_ky (A B : List (List Nat × Nat)) : fz_cm (fz_ky A) (fz_ky B) = (A.filter (fun x => decide (x.1 ∈ fz_ky B))).length := by
  unfold fz_cm
  conv => lhs; arg 2; unfold fz_ky
  rw [List.countP_map, List.countP_eq_length_filter]
  rfl
theorem fz_fl_add {α : Type} (p : α → Bool) : ∀ l : List α, (l.filter p).length + (l.filter (fun x => !p x)).length = l.length
  | [] => rfl
  | a :: l => by
    have := fz_fl_add p l
    cases h : p a <;> simp [List.filter_cons, h] <;> omega
theorem fz_fl_n (A B : List (List Nat × Nat)) : (A.filter (fun x => decide (¬ x.1 ∈ fz_ky B))).length = A.length - fz_cm (fz_ky A) (fz_ky B) := by
  have := fz_fl_add (fun x : List Nat × Nat => decide (x.1 ∈ fz_ky B)) A
  rw [← fz_cm_ky] at this
  have e : A.filter (fun x => decide (¬ x.1 ∈ fz_ky B)) = A.filter (fun x => !decide (x.1 ∈ fz_ky B)) := by
    apply List.filter_congr
    intro x _
    simp
  rw [e]
  omega
theorem fz_cap0 {A B : List (List Nat × Nat)} (ha : fz_sv (fz_ky A)) (hb : fz_sv (fz_ky B)) : (A ++ B.filter (fun x => decide (¬ x.1 ∈ fz_ky A))).length = fz_du 0 A B := by
  have c := fz_cm_comm ha hb
  have l := fz_cm_le (fz_ky B) (fz_ky A)
  rw [fz_ky_len] at l
  rw [List.length_append, fz_fl_n]
  show _ = A.length + B.length - _
  omega
theorem fz_jn_len {how : Nat} {A B l : List (List Nat × Nat)} (ha : fz_sv (fz_ky A)) (hb : fz_sv (fz_ky B)) (hl : fz_sv (fz_ky l)) (h : ∀ x, x ∈ l ↔ fz_jn how A B x) : l.length = fz_du how A B := by
  have nl := fz_kp_nd hl
  have na := fz_kp_nd ha
  have nb := fz_kp_nd hb
  by_cases z : how = 0
  · subst z
    rw [← fz_cap0 ha hb]
    refine fz_len_eq nl ?_ ?_
    · rw [List.nodup_append]
      refine ⟨na, nb.sublist List.filter_sublist, ?_⟩
      intro x hx y hy e
      rw [List.mem_filter] at hy
      have := hy.2
      simp only [decide_eq_true_eq] at this
      exact this (fz_mky.mpr ⟨x, hx, by rw [e]⟩)
    · intro x
      rw [h x, List.mem_append, List.mem_filter]
      simp only [fz_jn, if_true, decide_eq_true_eq]
  · by_cases y : how = 1
    · subst y
      show _ = fz_cm _ _
      rw [fz_cm_ky]
      refine fz_len_eq nl (na.sublist List.filter_sublist) ?_
      intro x
      rw [h x, List.mem_filter]
      simp only [fz_jn, decide_eq_true_eq]
      simp
    · have e : fz_du how A B = A.length - fz_cm (fz_ky A) (fz_ky B) := by unfold fz_du; rw [if_neg z, if_neg y]
      rw [e, ← fz_fl_n]
      refine fz_len_eq nl (na.sublist List.filter_sublist) ?_
      intro x
      rw [h x, List.mem_filter]
      unfold fz_jn
      rw [if_neg z, if_neg y]
      simp only [decide_eq_true_eq]
theorem fz_jn_un {how : Nat} {A B l l' : List (List Nat × Nat)} (hl : fz_sv (fz_ky l)) (hl' : fz_sv (fz_ky l')) (h : ∀ x, x ∈ l ↔ fz_jn how A B x) (h' : ∀ x, x ∈ l' ↔ fz_jn how A B x) : l = l' :=
  fz_uniqR (fun _ _ g => fz_lx_as g) (fz_kp hl) (fz_kp hl') (fun x => by rw [h x, h' x])
theorem fz_x_join {post : Int32 → SX → Prop} {u : SX} {E : Nat → List (List Nat × Nat)} {how a b o : Nat} (h : fz_XS u E) (h4 : E 4 = []) (hh : how < 3) (ha : a < 4) (hb : b < 4) (ho : o < 4)
    (PF : 24 < fz_du how (E a) (E b) → ∀ u', fz_XS u' E → post (-2) u')
    (P : fz_du how (E a) (E b) ≤ 24 → ∀ l u', (∀ x, x ∈ l ↔ fz_jn how (E a) (E b) x) → fz_XS u' (fz_ue E o l) → post (nI (fz_du how (E a) (E b))) u') : wpX_join post u (nI how) (nI a) (nI b) (nI o) := by
  refine fz_XS_el (P := fun u => wpX_join post u (nI how) (nI a) (nI b) (nI o)) h ?_
  intro un al fl fy nx en wd rt hd ch he wt aL aD aP aY aS aT aN aR aM aQ aB F B L H
  have G := H.1.1
  have Na := fz_HS_Nd H (s := a) (by omega)
  have Nb := fz_HS_Nd H (s := b) (by omega)
  have a24 := fz_HS_24 H (s := a) (by omega)
  have b24 := fz_HS_24 H (s := b) (by omega)
  have sva := fz_HS_sv H (s := a) (by omega)
  have svb := fz_HS_sv H (s := b) (by omega)
  have cl1 := fz_cm_le (fz_ky (E a)) (fz_ky (E b))
  rw [fz_ky_len] at cl1
  have U4 : ∀ l, fz_ue (fz_ue E 4 []) o l = fz_ue E o l := by
    intro l
    have : fz_ue E 4 [] = E := by
      funext t
      by_cases z : t = 4
      · rw [z, fz_ue_s, h4]
      · rw [fz_ue_n z]
    rw [this]
  unfold wpX_join
  refine fz_x_out0 (nI_pos' (by omega)) (nI_le (b := 2) (by omega) (by decide)) (br_t rfl ?_)
  refine fz_x_one1 ha (br_f (by decide) (fz_x_one1 hb (br_f (by decide) (fz_x_one1 ho (br_f (by decide) ⟨vp_in_nI (by omega) (by omega), vp_in_nI (by omega) (by omega), ?_⟩)))))
  rw [fz_ca rt (i := nI a) rfl (by omega), fz_ca rt (i := nI b) rfl (by omega)]
  refine fz_x_shared G Na Nb (fun aS' aT' => ?_)
  refine fz_x_sizeOf G (by omega) Na (fz_x_sizeOf G (by omega) Nb ?_)
  rw [fz_HS_L H (s := a) (by omega), fz_HS_L H (s := b) (by omega), fz_ky_len, fz_ky_len]
  have F98 : ∀ z0 : Nat, z0 = fz_du how (E a) (E b) → z0 < 100 → wX_join_98 post (nI how) (nI a) (nI b) (nI o) (nI (E a).length) (nI (E b).length) (nI z0) (nI un) (nI al) fl fy (fz_c nx) (fz_c en) (fz_c wd) (fz_c hd) (fz_c ch) (fz_c he) (fz_c rt) (fz_c wt) aL aD aP aY aS' aT' aN aR aM aQ aB := by
    intro z0 e0 hz
    by_cases q : z0 ≤ 24
    · refine br_t (nI_le (b := 24) q (by decide)) ?_
      refine fz_xt_copy (a := a) (b := 4) H (by omega) (by decide) (by omega) ?_
      intro u' h'
      rw [e0] at q ⊢
      apply fz_XS_el h'
      intro un al fl fy nx en wd rt hd ch he wt aL aD aP aY aS aT aN aR aM aQ aB F B L H
      have hq : how = 0 ∨ how = 1 ∨ how = 2 := by omega
      rcases hq with rfl | rfl | rfl
      · refine br_f (by decide) (br_f (by decide) ⟨25, ?_⟩)
        refine fz_x_join0 (x8 := nI (fz_du 0 (E a) (E b))) ha hb ho (by rw [fz_cap0 sva svb]; exact q) ?_ (E b).length 0 25 (E a) _ (by omega) (by omega) ?_ (fz_XS_mk H)
        · intro l u2 hi hx
          rw [U4] at hx
          refine P q l u2 ?_ hx
          intro x
          rw [hi x, List.take_length]
          simp only [fz_jn, if_true]
        · intro x
          simp
      · refine br_t rfl (br_t rfl ⟨25, ?_⟩)
        refine fz_x_join1 (x8 := nI (fz_du 1 (E a) (E b))) ha hb ho ?_ (E a).length 0 25 (E a) _ (by omega) (by omega) ?_ (fz_XS_mk H)
        · intro l u2 hi hx
          rw [U4] at hx
          refine P q l u2 ?_ hx
          intro x
          rw [hi x, List.take_length]
          simp only [fz_jn]
          constructor
          · rintro ⟨q1, q2⟩
            exact ⟨q1, q2.elim id (fun z => absurd q1 z)⟩
          · rintro ⟨q1, q2⟩
            exact ⟨q1, Or.inl q2⟩
        · intro x
          simp
      · refine br_f (by decide) (br_f (by decide) ⟨25, ?_⟩)
        refine fz_x_join2 (x8 := nI (fz_du 2 (E a) (E b))) ha hb ho ?_ (E b).length 0 25 (E a) _ (by omega) (by omega) ?_ (fz_XS_mk H)
        · intro l u2 hi hx
          rw [U4] at hx
          refine P q l u2 ?_ hx
          intro x
          rw [hi x, List.take_length]
          exact Iff.rfl
        · intro x
          simp [fz_ky]
    · refine br_f (nI_ge (a := 24) (by omega) (by omega)) (PF (by omega) _ (fz_XS_mk H))
  have hq : how = 0 ∨ how = 1 ∨ how = 2 := by omega
  rcases hq with rfl | rfl | rfl
  · refine br_t rfl ?_
    rw [nI_add, pk_sub (by omega)]
    exact F98 _ rfl (by omega)
  · exact br_f (by decide) (br_t rfl (F98 _ rfl (by omega)))
  · refine br_f (by decide) (br_f (by decide) ?_)
    rw [pk_sub (by omega)]
    exact F98 _ rfl (by omega)
theorem fz_x_join_n {post : Int32 → SX → Prop} {u : SX} {E : Nat → List (List Nat × Nat)} {v1 v2 v3 v4 : Int32} (h : fz_XS u E) (hn : ¬ ((∃ how, how < 3 ∧ v1 = nI how) ∧ fz_dc v2 ∧ fz_dc v3 ∧ fz_dc v4)) (P : ∀ u', fz_XS u' E → post (-1) u') : wpX_join post u v1 v2 v3 v4 := by
  refine fz_XS_el (P := fun u => wpX_join post u v1 v2 v3 v4) h ?_
  intro un al fl fy nx en wd rt hd ch he wt aL aD aP aY aS aT aN aR aM aQ aB F B L H
  have Q := P _ (fz_XS_mk (fl := fl) (fy := fy) (aL := aL) (aD := aD) (aP := aP) (aY := aY) (aS := aS) (aT := aT) (aN := aN) (aR := aR) (aM := aM) (aQ := aQ) (aB := aB) H)
  unfold wpX_join
  by_cases z1 : 0 ≤ v1 ∧ v1 ≤ 2
  · obtain ⟨k, hk, rfl⟩ := nI_of (Int32.not_lt.mpr z1.1)
    have k3 : k < 3 := by
      have := (nI_leI (a := k) (b := 2) hk (by decide)).mp z1.2
      omega
    refine fz_x_out0 z1.1 z1.2 (br_t rfl ?_)
    by_cases z2 : fz_dc v2
    · obtain ⟨s2, h2, rfl⟩ := z2
      refine fz_x_one1 h2 (br_f (by decide) ?_)
      by_cases z3 : fz_dc v3
      · obtain ⟨s3, h3, rfl⟩ := z3
        refine fz_x_one1 h3 (br_f (by decide) ?_)
        by_cases z4 : fz_dc v4
        · exact absurd ⟨⟨k, k3, rfl⟩, ⟨s2, h2, rfl⟩, ⟨s3, h3, rfl⟩, z4⟩ hn
        · exact fz_x_one0 z4 (br_t rfl Q)
      · exact fz_x_one0 z3 (br_t rfl Q)
    · exact fz_x_one0 z2 (br_t rfl Q)
  · exact fz_x_out1 z1 (br_f (by decide) Q)
/-! put and remove -/
theorem fz_x_put_n {post : Int32 → SX → Prop} {u : SX} {E : Nat → List (List Nat × Nat)} {v1 v2 v3 : Int32} (h : fz_XS u E) (hn : ¬ (fz_dc v1 ∧ (∃ w, fz_wd v2 w) ∧ (0 ≤ v3 ∧ v3 ≤ 99))) (P : ∀ u', fz_XS u' E → post (-1) u') : wpX_put post u v1 v2 v3 := by
  refine fz_XS_el (P := fun u => wpX_put post u v1 v2 v3) h ?_
  intro un al fl fy nx en wd rt hd ch he wt aL aD aP aY aS aT aN aR aM aQ aB F B L H
  unfold wpX_put
  by_cases z1 : fz_dc v1
  · obtain ⟨s, hs, rfl⟩ := z1
    refine fz_x_one1 hs (br_f (by decide) ?_)
    by_cases z2 : ∃ w, fz_wd v2 w
    · obtain ⟨w, hw⟩ := z2
      refine fz_x_wd1 hw (fun a d ha => br_f (by decide) ?_)
      refine fz_x_out1 (fun z => hn ⟨⟨s, hs, rfl⟩, ⟨w, hw⟩, z⟩) (br_f (by decide) (P _ (fz_XS_mk H)))
    · exact fz_x_wd0 z2 (fun l a d => br_t rfl (P _ (fz_XS_mk H)))
  · exact fz_x_one0 z1 (br_t rfl (P _ (fz_XS_mk H)))
theorem fz_x_put {post : Int32 → SX → Prop} {u : SX} {E : Nat → List (List Nat × Nat)} {s g : Nat} {x : Int32} {w : List Nat} (h : fz_XS u E) (hs : s < 4) (hw : fz_wd x w) (hg : g < 100)
    (P1 : w ∈ fz_ky (E s) → ∀ u', fz_XS u' (fz_ue E s ((E s).set (fz_cb w (fz_ky (E s))) (w, g))) → post (nI (fz_cb w (fz_ky (E s)))) u')
    (P2 : ¬ w ∈ fz_ky (E s) → (E s).length < 24 → ∀ u', fz_XS u' (fz_ue E s (fz_ei (E s) (fz_cb w (fz_ky (E s))) (w, g))) → post (nI (fz_cb w (fz_ky (E s)))) u')
    (P3 : ¬ w ∈ fz_ky (E s) → (E s).length = 24 → ∀ u', fz_XS u' E → post (-2) u') : wpX_put post u (nI s) x (nI g) := by
  refine fz_XS_el (P := fun u => wpX_put post u (nI s) x (nI g)) h ?_
  intro un al fl fy nx en wd rt hd ch he wt aL aD aP aY aS aT aN aR aM aQ aB F B L H
  unfold wpX_put
  refine fz_x_one1 hs (br_f (by decide) (fz_x_wd1 hw (fun a d ha => br_f (by decide) ?_)))
  refine fz_x_out0 (nI_pos' (by omega)) (nI_le (b := 99) (by omega) (by decide)) (br_t rfl ?_)
  refine fz_xt_enter H ha (by omega) hw.1.1 (List.length_pos_iff.mpr hw.2) hw.1.2.1 hg (fun q u' h' => ?_) (fun q r u' h' => ?_) (fun q r => ?_)
  · exact P1 q u' (fz_XSR_XS h')
  · exact P2 q r u' (fz_XSR_XS h')
  · exact P3 q r _ (fz_XS_mk H)
theorem fz_x_rem_n {post : Int32 → SX → Prop} {u : SX} {E : Nat → List (List Nat × Nat)} {v1 v2 : Int32} (h : fz_XS u E) (hn : ¬ ∃ s w, s < 4 ∧ v1 = nI s ∧ fz_wd v2 w ∧ w ∈ fz_ky (E s)) (P : ∀ u', fz_XS u' E → post (-1) u') : wpX_remove post u v1 v2 := by
  refine fz_XS_el (P := fun u => wpX_remove post u v1 v2) h ?_
  intro un al fl fy nx en wd rt hd ch he wt aL aD aP aY aS aT aN aR aM aQ aB F B L H
  unfold wpX_remove
  by_cases z1 : fz_dc v1
  · obtain ⟨s, hs, rfl⟩ := z1
    refine fz_x_one1 hs (br_f (by decide) ?_)
    by_cases z2 : ∃ w, fz_wd v2 w
    · obtain ⟨w, hw⟩ := z2
      refine fz_x_wd1 hw (fun a d ha => br_f (by decide) ?_)
      refine fz_xt_has (s := s) H ha (by omega) hw.1.1 hw.1.2.1 (fun q => absurd ⟨s, w, hs, rfl, hw, q⟩ hn) (fun _ => br_t rfl (P _ (fz_XS_mk H)))
    · exact fz_x_wd0 z2 (fun l a d => br_t rfl (P _ (fz_XS_mk H)))
  · exact fz_x_one0 z1 (br_t rfl (P _ (fz_XS_mk H)))
theorem fz_x_rem {post : Int32 → SX → Prop} {u : SX} {E : Nat → List (List Nat × Nat)} {s : Nat} {x : Int32} {w : List Nat} (h : fz_XS u E) (hs : s < 4) (hw : fz_wd x w) (hm : w ∈ fz_ky (E s))
    (P : ∀ u', fz_XS u' (fz_ue E s (fz_ed (E s) (fz_cb w (fz_ky (E s))))) → post (nI (fz_cb w (fz_ky (E s)))) u') : wpX_remove post u (nI s) x := by
  refine fz_XS_el (P := fun u => wpX_remove post u (nI s) x) h ?_
  intro un al fl fy nx en wd rt hd ch he wt aL aD aP aY aS aT aN aR aM aQ aB F B L H
  unfold wpX_remove
  refine fz_x_one1 hs (br_f (by decide) (fz_x_wd1 hw (fun a d ha => br_f (by decide) ?_)))
  refine fz_xt_has (s := s) H ha (by omega) hw.1.1 hw.1.2.1 (fun _ => br_f (by decide) ?_) (fun q => absurd hm q)
  refine fz_xt_takeOut H ha (by omega) hw.1.1 (List.length_pos_iff.mpr hw.2) hw.1.2.1 hm (fun u' h' => P u' (fz_XSR_XS h'))
end
section
/-! the reference's state: four sorted lists of words with weights -/
def fz_YW (bW bG bS bP : Nat → Int32) (E : Nat → List (List Nat × Nat)) : Prop :=
  (∀ s, s < 4 → bS s = nI (E s).length ∧ (E s).length ≤ 24 ∧ fz_sv (fz_ky (E s)) ∧ (∀ w, w ∈ fz_ky (E s) → 1 ≤ w.length ∧ w.length ≤ 5) ∧ (∀ x, x ∈ E s → x.2 < 100) ∧ ∀ k, k < (E s).length → bW (24 * s + k) = nI (fz_en ((E s).getD k ([], 0)).1) ∧ bG (24 * s + k) = nI ((E s).getD k ([], 0)).2) ∧ ∀ i, i ≤ 5 → bP i = nI (5 ^ i)
def fz_YS (v : SY) (E : Nat → List (List Nat × Nat)) : Prop :=
  ∃ (bW : Nat → Int32) (bG : Nat → Int32) (bS : Nat → Int32) (bN : Nat → Int32) (bV : Nat → Int32) (bF : Nat → Int32) (bZ : Nat → Int32) (bD : Nat → Int32) (bT : Nat → Int32) (bI : Nat → Int32) (bP : Nat → Int32) (bL : Nat → Int32), v = (bW, bG, bS, bN, bV, bF, bZ, bD, bT, bI, bP, bL) ∧ fz_YW bW bG bS bP E
theorem fz_YS_el {P : SY → Prop} {v : SY} {E : Nat → List (List Nat × Nat)} (h : fz_YS v E) (k : ∀ (bW : Nat → Int32) (bG : Nat → Int32) (bS : Nat → Int32) (bN : Nat → Int32) (bV : Nat → Int32) (bF : Nat → Int32) (bZ : Nat → Int32) (bD : Nat → Int32) (bT : Nat → Int32) (bI : Nat → Int32) (bP : Nat → Int32) (bL : Nat → Int32), fz_YW bW bG bS bP E → P (bW, bG, bS, bN, bV, bF, bZ, bD, bT, bI, bP, bL)) : P v :=
  h.elim fun bW h => h.elim fun bG h => h.elim fun bS h => h.elim fun bN h => h.elim fun bV h => h.elim fun bF h => h.elim fun bZ h => h.elim fun bD h => h.elim fun bT h => h.elim fun bI h => h.elim fun bP h => h.elim fun bL h => Eq.subst (motive := P) h.1.symm (k bW bG bS bN bV bF bZ bD bT bI bP bL h.2)
section
variable {bW bG bS bN bV bF bZ bD bT bI bP bL : Nat → Int32} {E : Nat → List (List Nat × Nat)}
theorem fz_YS_mk (h : fz_YW bW bG bS bP E) : fz_YS (bW, bG, bS, bN, bV, bF, bZ, bD, bT, bI, bP, bL) E := ⟨bW, bG, bS, bN, bV, bF, bZ, bD, bT, bI, bP, bL, rfl, h⟩
theorem fz_idx {D : List (List Nat)} {w : List Nat} {k : Nat} (h : fz_sv D) (hk : D[k]? = some w) : k = fz_cb w D := by
  have hm : w ∈ D := List.mem_of_getElem? hk
  have ha := fz_at_get h hm
  have hl : k < D.length := by
    rcases Nat.lt_or_ge k D.length with z | z
    · exact z
    · rw [List.getElem?_eq_none z] at hk; cases hk
  have hc := fz_cb_lt h hm
  rw [List.getElem?_eq_getElem hl] at hk
  rw [List.getElem?_eq_getElem hc] at ha
  have e : D[k] = D[fz_cb w D] := (Option.some.inj hk).trans (Option.some.inj ha).symm
  have p := List.pairwise_iff_getElem.mp h.1
  rcases Nat.lt_trichotomy k (fz_cb w D) with z | z | z
  · have := p k (fz_cb w D) hl hc z
    rw [e, fz_lx_irr] at this; cases this
  · exact z
  · have := p (fz_cb w D) k hc hl z
    rw [e, fz_lx_irr] at this; cases this
theorem fz_YW_x (Y : fz_YW bW bG bS bP E) {s k : Nat} (hs : s < 4) (hk : k < (E s).length) : ∃ w g, (E s).getD k ([], 0) = (w, g) ∧ (w, g) ∈ E s ∧ (fz_ky (E s))[k]? = some w ∧ w ∈ fz_ky (E s) ∧ fz_lw w ∧ 1 ≤ w.length ∧ w.length ≤ 5 ∧ g < 100 ∧ bW (24 * s + k) = nI (fz_en w) ∧ bG (24 * s + k) = nI g := by
  obtain ⟨_, _, sv, h5, hg, hh⟩ := Y.1 s hs
  obtain ⟨x, ex, mx, gx⟩ := fz_getx hk
  have mk : x.1 ∈ fz_ky (E s) := fz_mky.mpr ⟨x, mx, rfl⟩
  have := hh k hk
  rw [gx] at this
  have kg := fz_ky_get hk
  rw [gx] at kg
  exact ⟨x.1, x.2, gx, mx, kg, mk, sv.2 _ mk, (h5 _ mk).1, (h5 _ mk).2, hg x mx, this.1, this.2⟩
theorem fz_y_find2 {post : Int32 → Prop} (Y : fz_YW bW bG bS bP E) {s : Nat} {x : Int32} (hs : s < 4) (p1 : ∀ k, k < (E s).length → nI (fz_en ((E s).getD k ([], 0)).1) = x → post (nI k)) (p0 : (∀ k, k < (E s).length → ¬ nI (fz_en ((E s).getD k ([], 0)).1) = x) → post (-1)) :
    ∀ (d k f : Nat), k + d = (E s).length → d < f → (∀ j, j < k → ¬ nI (fz_en ((E s).getD j ([], 0)).1) = x) → wY_find_2 post (nI s) x bW bG bS bN bV bF bZ bD bT bI bP bL f (nI k)
  | _, _, 0, _, h, _ => by omega
  | d, k, f + 1, hk, hf, hn => by
    obtain ⟨eS, h24, _⟩ := Y.1 s hs
    have is : vp_in (nI s) 4 := vp_in_nI hs (by omega)
    have es : bS (nI s).toNatClampNeg = nI (E s).length := by rw [nI_clamp (by omega), eS]
    refine And.intro is ?_
    rw [es]
    cases d with
    | zero =>
      have : k = (E s).length := by omega
      subst this
      exact br_t (nI_le (Nat.le_refl _) (by omega)) (p0 hn)
    | succ d =>
      have E24 : 24 * nI s + nI k = nI (24 * s + k) := fz_24
      obtain ⟨w, g, e0, _, _, _, hw, w1, w5, _, ew, _⟩ := fz_YW_x Y hs (k := k) (by omega)
      refine br_f (nI_ge (by omega) (by omega)) ⟨by rw [E24]; exact vp_in_nI (by omega) (by omega), ?_⟩
      rw [E24, nI_clamp (by omega), ew]
      by_cases z : nI (fz_en w) = x
      · exact br_t z (p1 k (by omega) (by rw [e0]; exact z))
      · refine br_f z (nm_r (nI_1 k) (fz_y_find2 Y hs p1 p0 d (k + 1) f (by omega) (by omega) ?_))
        intro j hj
        by_cases y : j = k
        · rw [y, e0]; exact z
        · exact hn j (by omega)
theorem fz_y_find {post : Int32 → Prop} (Y : fz_YW bW bG bS bP E) {s : Nat} {x : Int32} (hs : s < 4) (p1 : ∀ k, k < (E s).length → nI (fz_en ((E s).getD k ([], 0)).1) = x → post (nI k)) (p0 : (∀ k, k < (E s).length → ¬ nI (fz_en ((E s).getD k ([], 0)).1) = x) → post (-1)) : wpY_find post (bW, bG, bS, bN, bV, bF, bZ, bD, bT, bI, bP, bL) (nI s) x :=
  Exists.intro ((E s).length + 1) (fz_y_find2 Y hs p1 p0 (E s).length 0 _ (by omega) (by omega) (fun j h => by omega))
theorem fz_y_findw {post : Int32 → Prop} (Y : fz_YW bW bG bS bP E) {s : Nat} {w : List Nat} (hs : s < 4) (hw : fz_lw w) (w5 : w.length ≤ 5) (p1 : w ∈ fz_ky (E s) → post (nI (fz_cb w (fz_ky (E s))))) (p0 : ¬ w ∈ fz_ky (E s) → post (-1)) : wpY_find post (bW, bG, bS, bN, bV, bF, bZ, bD, bT, bI, bP, bL) (nI s) (nI (fz_en w)) := by
  obtain ⟨_, _, sv, _⟩ := Y.1 s hs
  have b5 := fz_en_5 hw w5
  refine fz_y_find Y hs ?_ ?_
  · intro k hk e
    obtain ⟨v, g, e0, _, kg, mk, hv, v1, v5, _⟩ := fz_YW_x Y hs hk
    have c5 := fz_en_5 hv v5
    have e' : nI (fz_en v) = nI (fz_en w) := by rw [e0] at e; exact e
    rw [nI_eq (by omega) (by omega)] at e'
    have : v = w := fz_en_inj hv hw e'
    subst this
    have := fz_idx sv kg
    have q := p1 mk
    rw [← this] at q
    exact q
  · intro h
    refine p0 (fun m => ?_)
    have cl := fz_cb_lt sv m
    rw [fz_ky_len] at cl
    have ga := fz_at_get sv m
    rw [fz_ky_get cl] at ga
    exact h _ cl (by rw [Option.some.inj ga])
theorem fz_dk {D : List (List Nat)} {k : Nat} {w : List Nat} (h : D[k]? = some w) : D.drop k = w :: D.drop (k + 1) := by
  have hl : k < D.length := by
    rcases Nat.lt_or_ge k D.length with z | z
    · exact z
    · rw [List.getElem?_eq_none z] at h; cases h
  rw [List.drop_eq_getElem_cons hl]
  rw [List.getElem?_eq_getElem hl] at h
  rw [Option.some.inj h]
theorem fz_y_before8 {post : Int32 → Prop} (Y : fz_YW bW bG bS bP E) {s : Nat} {r : List Nat} (hs : s < 4) (hr : fz_lw r) (r5 : r.length ≤ 5) :
    ∀ (d k a f : Nat), k + d = (E s).length → d < f → post (nI (a + fz_cb r ((fz_ky (E s)).drop k))) → wY_before_8 post (nI s) (nI (fz_en r)) bW bG bS bN bV bF bZ bD bT bI bP bL f (nI a) (nI (24 * s + k))
  | _, _, _, 0, _, h, _ => by omega
  | d, k, a, f + 1, hk, hf, hp => by
    obtain ⟨eS, h24, _⟩ := Y.1 s hs
    have is : vp_in (nI s) 4 := vp_in_nI hs (by omega)
    have es : bS (nI s).toNatClampNeg = nI (E s).length := by rw [nI_clamp (by omega), eS]
    have E24 : 24 * nI s + nI (E s).length = nI (24 * s + (E s).length) := fz_24
    refine And.intro is ?_
    rw [es, E24]
    cases d with
    | zero =>
      have : k = (E s).length := by omega
      subst this
      rw [← fz_ky_len, List.drop_length] at hp
      exact br_t (nI_le (Nat.le_refl _) (by omega)) hp
    | succ d =>
      obtain ⟨w, g, e0, _, kg, _, hw, w1, w5, _, ew, _⟩ := fz_YW_x Y hs (k := k) (by omega)
      rw [fz_dk kg] at hp
      have c1 : fz_cb r (w :: (fz_ky (E s)).drop (k + 1)) = fz_cb r ((fz_ky (E s)).drop (k + 1)) + if fz_lx w r = true then 1 else 0 := by
        unfold fz_cb; rw [List.countP_cons]
      rw [c1] at hp
      refine br_f (nI_ge (by omega) (by omega)) ⟨vp_in_nI (by omega) (by omega), ?_⟩
      rw [nI_clamp (by omega), ew]
      refine fz_y_key hw w5 (fz_y_key hr r5 ?_)
      have k1 := fz_ke_lt hw w5
      have k2 := fz_ke_lt hr r5
      have kl := fz_ke_lx hw hr w5 r5
      by_cases z : fz_lx w r = true
      · rw [if_pos z] at hp
        have := kl.mpr z
        refine br_f (nI_ge this (by omega)) (nm_r (nI_1 a) (nm_r (nI_1 _) (fz_y_before8 Y hs hr r5 d (k + 1) (a + 1) f (by omega) (by omega) ?_)))
        rw [show a + 1 + fz_cb r ((fz_ky (E s)).drop (k + 1)) = a + (fz_cb r ((fz_ky (E s)).drop (k + 1)) + 1) by omega]
        exact hp
      · rw [if_neg z] at hp
        have : ¬ fz_ke 5 w < fz_ke 5 r := fun q => z (kl.mp q)
        exact br_t (nI_le (by omega) (by omega)) (nm_r (nI_1 _) (fz_y_before8 Y hs hr r5 d (k + 1) a f (by omega) (by omega) hp))
theorem fz_s24 (s : Nat) : 24 * nI s = nI (24 * s) := by
  show nI 24 * nI s = _
  rw [pk_mul]
theorem fz_y_before {post : Int32 → Prop} (Y : fz_YW bW bG bS bP E) {s : Nat} {r : List Nat} (hs : s < 4) (hr : fz_lw r) (r5 : r.length ≤ 5) (hp : post (nI (fz_cb r (fz_ky (E s))))) : wpY_before post (bW, bG, bS, bN, bV, bF, bZ, bD, bT, bI, bP, bL) (nI s) (nI (fz_en r)) := by
  unfold wpY_before
  refine nm_r (fz_s24 s) ⟨(E s).length + 1, fz_y_before8 Y hs hr r5 (E s).length 0 0 _ (by omega) (by omega) ?_⟩
  rw [Nat.zero_add, List.drop_zero]; exact hp
theorem fz_y_begin24 {post : Int32 → Prop} (Y : fz_YW bW bG bS bP E) {s : Nat} {r : List Nat} (hs : s < 4) (hr : fz_lw r) (r5 : r.length ≤ 5) :
    ∀ (d k a f : Nat), k + d = (E s).length → d < f → post (nI (a + ((fz_ky (E s)).drop k).countP (fun w => decide (w.take r.length = r)))) → wY_begin_24 post (nI s) (nI (fz_en r)) bW bG bS bN bV bF bZ bD bT bI bP bL f (nI a) (nI (24 * s + k))
  | _, _, _, 0, _, h, _ => by omega
  | d, k, a, f + 1, hk, hf, hp => by
    obtain ⟨eS, h24, _⟩ := Y.1 s hs
    have is : vp_in (nI s) 4 := vp_in_nI hs (by omega)
    have es : bS (nI s).toNatClampNeg = nI (E s).length := by rw [nI_clamp (by omega), eS]
    have E24 : 24 * nI s + nI (E s).length = nI (24 * s + (E s).length) := fz_24
    refine And.intro is ?_
    rw [es, E24]
    cases d with
    | zero =>
      have : k = (E s).length := by omega
      subst this
      rw [← fz_ky_len, List.drop_length] at hp
      exact br_t (nI_le (Nat.le_refl _) (by omega)) hp
    | succ d =>
      obtain ⟨w, g, e0, _, kg, _, hw, w1, w5, _, ew, _⟩ := fz_YW_x Y hs (k := k) (by omega)
      rw [fz_dk kg, List.countP_cons] at hp
      refine br_f (nI_ge (by omega) (by omega)) ⟨vp_in_nI (by omega) (by omega), ?_⟩
      rw [nI_clamp (by omega), ew]
      refine fz_y_begins hr r5 hw w5 (fun z => ?_) (fun z => ?_)
      · rw [if_pos (by simpa using z)] at hp
        refine br_f (by decide) (nm_r (nI_1 a) (nm_r (nI_1 _) (fz_y_begin24 Y hs hr r5 d (k + 1) (a + 1) f (by omega) (by omega) ?_)))
        rw [Nat.add_right_comm, Nat.add_assoc]
        exact hp
      · rw [if_neg (by simpa using z)] at hp
        exact br_t rfl (nm_r (nI_1 _) (fz_y_begin24 Y hs hr r5 d (k + 1) a f (by omega) (by omega) hp))
theorem fz_y_begin {post : Int32 → Prop} (Y : fz_YW bW bG bS bP E) {s : Nat} {r : List Nat} (hs : s < 4) (hr : fz_lw r) (r5 : r.length ≤ 5) (hp : post (nI (fz_rw r (fz_ky (E s))).length)) : wpY_begin post (bW, bG, bS, bN, bV, bF, bZ, bD, bT, bI, bP, bL) (nI s) (nI (fz_en r)) := by
  obtain ⟨_, _, sv, _⟩ := Y.1 s hs
  unfold wpY_begin
  refine fz_y_isD1 hs (br_f (by decide) (fz_y_row1 ⟨hr, r5, rfl⟩ (br_f (by decide) (nm_r (fz_s24 s) ⟨(E s).length + 1, ?_⟩))))
  refine fz_y_begin24 Y hs hr r5 (E s).length 0 0 _ (by omega) (by omega) ?_
  rw [Nat.zero_add, List.drop_zero, fz_cpf r sv]
  exact hp
end
end
section
/-! the reference: best, common, start -/
def fz_bb (g : Nat → Nat) (a : Nat) : Nat → Nat
  | 0 => a
  | j + 1 => if g (fz_bb g a j) < g (a + j + 1) then a + j + 1 else fz_bb g a j
theorem fz_bb_s {g : Nat → Nat} {a j x y k : Nat} (h1 : g (fz_bb g a j) = x) (h2 : g k = y) (hk : k = a + j + 1) : fz_bb g a (j + 1) = if x < y then k else fz_bb g a j := by
  subst h1 h2 hk; rfl
theorem fz_bb_in (g : Nat → Nat) (a : Nat) : ∀ j, a ≤ fz_bb g a j ∧ fz_bb g a j ≤ a + j
  | 0 => ⟨Nat.le_refl _, Nat.le_refl _⟩
  | j + 1 => by
    have := fz_bb_in g a j
    simp only [fz_bb]
    split <;> omega
theorem fz_blk {D : List (List Nat)} {r w : List Nat} {k : Nat} (h : fz_sv D) (hk : D[k]? = some w) : w.take r.length = r ↔ fz_cb r D ≤ k ∧ k < fz_cb r D + (fz_rw r D).length := by
  obtain ⟨A, C, e, hl, hA, hC⟩ := fz_block r h
  rw [e] at hk
  rcases Nat.lt_or_ge k A.length with z | z
  · rw [List.getElem?_append_left z] at hk
    have := hA w (List.mem_of_getElem? hk)
    constructor
    · intro q; exact absurd q this
    · intro q; omega
  · rw [List.getElem?_append_right z] at hk
    rcases Nat.lt_or_ge (k - A.length) (fz_rw r D).length with y | y
    · rw [List.getElem?_append_left (by simpa using y), List.getElem?_map, List.getElem?_eq_getElem y] at hk
      have := Option.some.inj hk
      constructor
      · intro _; omega
      · intro _; rw [← this]; exact List.take_left
    · rw [List.getElem?_append_right (by simpa using y)] at hk
      have := hC w (List.mem_of_getElem? hk)
      constructor
      · intro q; exact absurd q this
      · intro q; omega
theorem fz_blk_le {D : List (List Nat)} (r : List Nat) (h : fz_sv D) : fz_cb r D + (fz_rw r D).length ≤ D.length := by
  obtain ⟨A, C, e, hl, hA, hC⟩ := fz_block r h
  have := congrArg List.length e
  simp only [List.length_append, List.length_map] at this
  omega
section
variable {bW bG bS bN bV bF bZ bD bT bI bP bL : Nat → Int32} {E : Nat → List (List Nat × Nat)}
theorem fz_y_best24 {post : Int32 → Prop} (Y : fz_YW bW bG bS bP E) {s c m : Nat} {r : List Nat} (hs : s < 4) (hr : fz_lw r) (r5 : r.length ≤ 5) (ec : fz_cb r (fz_ky (E s)) = c) (em : (fz_rw r (fz_ky (E s))).length = m) (p0 : m = 0 → post 0) (p1 : 0 < m → post (nI (fz_en ((E s).getD (fz_bb (fun k => ((E s).getD k ([], 0)).2) c (m - 1)) ([], 0)).1))) :
    ∀ (d k f : Nat) (x3 : Int32), k + d = (E s).length → d < f → ((k ≤ c ∧ x3 = -1) ∨ (m = 0 ∧ x3 = -1) ∨ (∃ j, j < m ∧ x3 = nI (24 * s + fz_bb (fun k => ((E s).getD k ([], 0)).2) c j) ∧ (k = c + j + 1 ∨ (j + 1 = m ∧ c + m ≤ k)))) → wY_best_24 post (nI s) (nI (fz_en r)) bW bG bS bN bV bF bZ bD bT bI bP bL f x3 (nI (24 * s + k))
  | _, _, 0, _, _, h, _ => by omega
  | d, k, f + 1, x3, hk, hf, hi => by
    obtain ⟨eS, h24, sv, _⟩ := Y.1 s hs
    have is : vp_in (nI s) 4 := vp_in_nI hs (by omega)
    have es : bS (nI s).toNatClampNeg = nI (E s).length := by rw [nI_clamp (by omega), eS]
    have E24 : 24 * nI s + nI (E s).length = nI (24 * s + (E s).length) := fz_24
    have ble := fz_blk_le r sv
    rw [ec, em, fz_ky_len] at ble
    refine And.intro is ?_
    rw [es, E24]
    cases d with
    | zero =>
      refine br_t (nI_le (by omega) (by omega)) ?_
      rcases hi with ⟨h1, h2⟩ | ⟨h1, h2⟩ | ⟨j, hj, h2, h3⟩
      · rw [h2]; exact br_f (by decide) (p0 (by omega))
      · rw [h2]; exact br_f (by decide) (p0 h1)
      · have bi := fz_bb_in (fun k => ((E s).getD k ([], 0)).2) c j
        have jm : j = m - 1 := by omega
        obtain ⟨w, g, e0, _, kg, _, hw, w1, w5, _, ew, _⟩ := fz_YW_x Y hs (k := fz_bb (fun k => ((E s).getD k ([], 0)).2) c j) (by omega)
        rw [h2]
        refine br_t (nI_pos' (by omega)) ⟨vp_in_nI (by omega) (by omega), ?_⟩
        rw [nI_clamp (by omega), ew]
        have q := p1 (by omega)
        rw [← jm, e0] at q
        exact q
    | succ d =>
      obtain ⟨w, g, e0, _, kg, _, hw, w1, w5, g100, ew, eg⟩ := fz_YW_x Y hs (k := k) (by omega)
      have bk := fz_blk (r := r) sv kg
      rw [ec, em] at bk
      have ink : vp_in (nI (24 * s + k)) 96 := vp_in_nI (by omega) (by omega)
      refine br_f (nI_ge (by omega) (by omega)) ⟨ink, ?_⟩
      rw [nI_clamp (by omega), ew]
      refine fz_y_begins hr r5 hw w5 (fun z => ?_) (fun z => ?_)
      · have zz := bk.mp z
        refine br_f (by decide) ?_
        rcases hi with ⟨h1, h2⟩ | ⟨h1, h2⟩ | ⟨j, hj, h2, h3⟩
        · rw [h2]
          refine br_t (by decide) (nm_r (nI_1 _) (fz_y_best24 Y hs hr r5 ec em p0 p1 d (k + 1) f _ (by omega) (by omega) ?_))
          refine Or.inr (Or.inr ⟨0, by omega, ?_, Or.inl (by omega)⟩)
          have : k = c := by omega
          rw [this]; rfl
        · omega
        · have kj : k = c + j + 1 := by omega
          have bi := fz_bb_in (fun k => ((E s).getD k ([], 0)).2) c j
          obtain ⟨w', g', e0', _, _, _, _, _, _, g100', _, eg'⟩ := fz_YW_x Y hs (k := fz_bb (fun k => ((E s).getD k ([], 0)).2) c j) (by omega)
          rw [h2]
          refine br_f (nI_pos (by omega)) ⟨ink, vp_in_nI (by omega) (by omega), ?_⟩
          rw [nI_clamp (by omega), eg, eg']
          have st : fz_bb (fun k => ((E s).getD k ([], 0)).2) c (j + 1) = if g' < g then k else fz_bb (fun k => ((E s).getD k ([], 0)).2) c j :=
            fz_bb_s (by rw [e0']) (by rw [e0]) kj
          by_cases y : g ≤ g'
          · rw [if_neg (by omega)] at st
            refine br_t (nI_le y (by omega)) (nm_r (nI_1 _) (fz_y_best24 Y hs hr r5 ec em p0 p1 d (k + 1) f _ (by omega) (by omega) ?_))
            exact Or.inr (Or.inr ⟨j + 1, by omega, by rw [st], Or.inl (by omega)⟩)
          · rw [if_pos (by omega)] at st
            refine br_f (nI_ge (by omega) (by omega)) (nm_r (nI_1 _) (fz_y_best24 Y hs hr r5 ec em p0 p1 d (k + 1) f _ (by omega) (by omega) ?_))
            exact Or.inr (Or.inr ⟨j + 1, by omega, by rw [st], Or.inl (by omega)⟩)
      · have zz : ¬ (c ≤ k ∧ k < c + m) := fun q => z (bk.mpr q)
        refine br_t rfl (nm_r (nI_1 _) (fz_y_best24 Y hs hr r5 ec em p0 p1 d (k + 1) f _ (by omega) (by omega) ?_))
        rcases hi with ⟨h1, h2⟩ | ⟨h1, h2⟩ | ⟨j, hj, h2, h3⟩
        · by_cases q : k + 1 ≤ c
          · exact Or.inl ⟨q, h2⟩
          · exact Or.inr (Or.inl ⟨by omega, h2⟩)
        · exact Or.inr (Or.inl ⟨h1, h2⟩)
        · exact Or.inr (Or.inr ⟨j, hj, h2, Or.inr ⟨by omega, by omega⟩⟩)
theorem fz_y_common24 {post : Int32 → Prop} (Y : fz_YW bW bG bS bP E) {s t : Nat} (hs : s < 4) (ht : t < 4) :
    ∀ (d k a f : Nat), k + d = (E s).length → d < f → post (nI (a + fz_cm ((fz_ky (E s)).drop k) (fz_ky (E t)))) → wY_common_24 post (nI s) (nI t) bW bG bS bN bV bF bZ bD bT bI bP bL f (nI a) (nI (24 * s + k))
  | _, _, _, 0, _, h, _ => by omega
  | d, k, a, f + 1, hk, hf, hp => by
    obtain ⟨eS, h24, _⟩ := Y.1 s hs
    have t24 := (Y.1 t ht).2.1
    have is : vp_in (nI s) 4 := vp_in_nI hs (by omega)
    have es : bS (nI s).toNatClampNeg = nI (E s).length := by rw [nI_clamp (by omega), eS]
    have E24 : 24 * nI s + nI (E s).length = nI (24 * s + (E s).length) := fz_24
    refine And.intro is ?_
    rw [es, E24]
    cases d with
    | zero =>
      have : k = (E s).length := by omega
      subst this
      rw [← fz_ky_len, List.drop_length] at hp
      exact br_t (nI_le (Nat.le_refl _) (by omega)) hp
    | succ d =>
      obtain ⟨w, g, e0, _, kg, _, hw, w1, w5, _, ew, _⟩ := fz_YW_x Y hs (k := k) (by omega)
      rw [fz_dk kg] at hp
      have c1 : fz_cm (w :: (fz_ky (E s)).drop (k + 1)) (fz_ky (E t)) = fz_cm ((fz_ky (E s)).drop (k + 1)) (fz_ky (E t)) + if w ∈ fz_ky (E t) then 1 else 0 := by
        unfold fz_cm; rw [List.countP_cons]; simp
      rw [c1] at hp
      refine br_f (nI_ge (by omega) (by omega)) ⟨vp_in_nI (by omega) (by omega), ?_⟩
      rw [nI_clamp (by omega), ew]
      refine fz_y_findw Y ht hw w5 (fun z => ?_) (fun z => ?_)
      · rw [if_pos z] at hp
        have cl := fz_cb_le w (fz_ky (E t))
        rw [fz_ky_len] at cl
        refine br_f (nI_pos (by omega)) (nm_r (nI_1 a) (nm_r (nI_1 _) (fz_y_common24 Y hs ht d (k + 1) (a + 1) f (by omega) (by omega) ?_)))
        rw [Nat.add_right_comm, Nat.add_assoc]
        exact hp
      · rw [if_neg z] at hp
        exact br_t (by decide) (nm_r (nI_1 _) (fz_y_common24 Y hs ht d (k + 1) a f (by omega) (by omega) hp))
theorem fz_y_start32 {post : Int32 → Prop} (Y : fz_YW bW bG bS bP E) {s q : Nat} {w : List Nat} (hs : s < 4) (hw : fz_lw w) (w5 : w.length ≤ 5) (hq : (fz_rw (w.take q) (fz_ky (E s))).length = (E s).length) (hl : ∀ i, q < i → i ≤ w.length → (fz_rw (w.take i) (fz_ky (E s))).length < (E s).length) (hp : post (nI (fz_en (w.take q)))) :
    ∀ (j f : Nat), j ≤ w.length → q ≤ j → j < f → wY_start_32 post (nI s) bW bG bS bN bV bF bZ bD bT bI bP bL f (nI (fz_en (w.take j)))
  | _, 0, _, _, h => by omega
  | j, f + 1, hj, hqj, hf => by
    obtain ⟨eS, h24, _⟩ := Y.1 s hs
    have is : vp_in (nI s) 4 := vp_in_nI hs (by omega)
    have es : bS (nI s).toNatClampNeg = nI (E s).length := by rw [nI_clamp (by omega), eS]
    have lt := fz_lw_take j hw
    have l5 : (w.take j).length ≤ 5 := by rw [List.length_take]; omega
    have b5 := fz_en_5 lt l5
    cases j with
    | zero =>
      have : q = 0 := by omega
      subst this
      exact br_t (by simp [fz_en]; decide) hp
    | succ i =>
      have ne : w.take (i + 1) ≠ [] := by
        intro e
        have := congrArg List.length e
        rw [List.length_take] at this
        simp only [List.length_nil] at this
        omega
      refine br_f (nI_nle (fz_en_pos lt ne) (by omega)) ?_
      refine fz_y_begin Y hs lt l5 ⟨is, ?_⟩
      rw [es]
      by_cases z : q = i + 1
      · subst z
        rw [hq]
        exact br_t (nI_le (Nat.le_refl _) (by omega)) hp
      · have := hl (i + 1) (by omega) hj
        refine br_f (nI_ge this (by omega)) ⟨fz_n5, nm_r (e' := nI (fz_en (w.take i))) ?_ (fz_y_start32 Y hs hw w5 hq hl hp i f (by omega) (by omega) (by omega))⟩
        rw [show (5 : Int32) = nI 5 from rfl, pk_div (by omega) (by omega) (by omega), fz_take1 (by omega), fz_en_snoc]
        have c4 := (fz_lw_get hw (k := i) (by omega)).2
        exact congrArg nI (by omega)
end
end
section
/-! the component: best, only, start -/
section
variable {un al : Nat} {fl fy : Int32} {nx en wd rt hd ch he wt : Nat → Nat} {aL aD aP aY aS aT aN aR aM aQ aB : Nat → Int32} {F : List Nat} {B : Nat → List Nat} {L : Nat → List (List Nat)} {E : Nat → List (List Nat × Nat)}
theorem fz_x_best39 {post : Int32 → SX → Prop} (H : fz_HS un al nx en wd hd ch he rt wt F B L E) {s c m n : Nat} {r : List Nat} (hs : s < 5) (hN : fz_Nd F n) (eL : L n = fz_rw r (fz_ky (E s))) (ec : fz_cb r (fz_ky (E s)) = c) (em : (fz_rw r (fz_ky (E s))).length = m)
    (p0 : m = 0 → post 0 (nI un, nI al, fl, fy, fz_c nx, fz_c en, fz_c wd, fz_c hd, fz_c ch, fz_c he, fz_c rt, fz_c wt, aL, aD, aP, aY, aS, aT, aN, aR, aM, aQ, aB)) (p1 : 0 < m → ∀ u', fz_XS u' E → post (nI (fz_en ((E s).getD (fz_bb (fun k => ((E s).getD k ([], 0)).2) c (m - 1)) ([], 0)).1)) u') :
    ∀ (d k f q : Nat), k + d = c + m → d < f → ((k = c ∧ q = c) ∨ (∃ j, j < m ∧ k = c + j + 1 ∧ q = fz_bb (fun k => ((E s).getD k ([], 0)).2) c j)) → wX_best_39 post (nI s) (nI n) (nI c) (nI un) (nI al) fl fy (fz_c nx) (fz_c en) (fz_c wd) (fz_c hd) (fz_c ch) (fz_c he) (fz_c rt) (fz_c wt) aL aD aP aY aS aT aN aR aM aQ aB f (nI q) (nI k)
  | _, _, 0, _, _, h, _ => by omega
  | d, k, f + 1, q, hk, hf, hi => by
    have nl := fz_Nd_lt hN
    have sv := fz_HS_sv H hs
    have l24 := fz_HS_24 H hs
    have ble := fz_blk_le r sv
    rw [ec, em, fz_ky_len] at ble
    have ew : fz_c wd (nI n).toNatClampNeg = nI m := by rw [fz_ca wd rfl (by omega), fz_gr_wd H.1.1 hN, eL, em]
    have n0 : n = 0 ↔ m = 0 := by
      rw [fz_gr_0 H.1.1 hN, eL, ← em]
      exact ⟨fun e => by rw [e]; rfl, fun e => List.eq_nil_of_length_eq_zero e⟩
    refine And.intro (vp_in_nI nl (by omega)) ?_
    rw [ew, nI_add]
    cases d with
    | zero =>
      refine br_t (nI_le (by omega) (by omega)) ?_
      rcases hi with ⟨h1, h2⟩ | ⟨j, hj, h1, h2⟩
      · have m0 : m = 0 := by omega
        exact br_t (by rw [n0.mpr m0]; rfl) (p0 m0)
      · have bi := fz_bb_in (fun k => ((E s).getD k ([], 0)).2) c j
        have jm : j = m - 1 := by omega
        refine br_f (nI_ne0 (by have : n ≠ 0 := fun e => by have := n0.mp e; omega
                                omega) (by omega)) ?_
        obtain ⟨x, ex, mx, gx⟩ := fz_getx (l := E s) (k := q) (by omega)
        refine fz_xt_spell H hs ex (fun u' h' => ?_)
        have := p1 (by omega) u' (fz_XSR_XS h')
        rw [← jm, ← h2, gx] at this
        exact this
    | succ d =>
      have Ek : 24 * nI s + nI k = nI (24 * s + k) := fz_24
      have Eq : 24 * nI s + nI q = nI (24 * s + q) := fz_24
      have qb : q < (E s).length := by
        rcases hi with ⟨h1, h2⟩ | ⟨j, hj, h1, h2⟩
        · omega
        · have bi := fz_bb_in (fun k => ((E s).getD k ([], 0)).2) c j
          omega
      have w1 := H.2.2.2.1 s hs k (by omega)
      have w2 := H.2.2.2.1 s hs q qb
      have b1 := H.2.2.2.2 (24 * s + k)
      have b2 := H.2.2.2.2 (24 * s + q)
      refine br_f (nI_ge (by omega) (by omega)) ⟨by rw [Ek]; exact vp_in_nI (by omega) (by omega), by rw [Eq]; exact vp_in_nI (by omega) (by omega), ?_⟩
      rw [fz_ca wt Ek (by omega), fz_ca wt Eq (by omega)]
      have st : ∀ j, k = c + j + 1 → q = fz_bb (fun k => ((E s).getD k ([], 0)).2) c j → fz_bb (fun k => ((E s).getD k ([], 0)).2) c (j + 1) = if wt (24 * s + q) < wt (24 * s + k) then k else q := by
        intro j hj hq
        have := fz_bb_s (g := fun k => ((E s).getD k ([], 0)).2) (a := c) (j := j) (x := wt (24 * s + q)) (y := wt (24 * s + k)) (k := k) (by rw [w2, ← hq]) w1.symm hj
        rw [← hq] at this
        exact this
      by_cases y : wt (24 * s + k) ≤ wt (24 * s + q)
      · refine br_t (nI_le y (by omega)) (nm_r (nI_1 _) (fz_x_best39 H hs hN eL ec em p0 p1 d (k + 1) f q (by omega) (by omega) ?_))
        rcases hi with ⟨h1, h2⟩ | ⟨j, hj, h1, h2⟩
        · exact Or.inr ⟨0, by omega, by omega, h2⟩
        · refine Or.inr ⟨j + 1, by omega, by omega, ?_⟩
          rw [st j h1 h2, if_neg (by omega)]
      · refine br_f (nI_ge (by omega) (by omega)) (nm_r (nI_1 _) (fz_x_best39 H hs hN eL ec em p0 p1 d (k + 1) f k (by omega) (by omega) ?_))
        rcases hi with ⟨h1, h2⟩ | ⟨j, hj, h1, h2⟩
        · exfalso
          rw [h1, h2] at y
          omega
        · refine Or.inr ⟨j + 1, by omega, by omega, ?_⟩
          rw [st j h1 h2, if_pos (by omega)]
end
section
variable {fu fa fl fy : Int32} {nx en wd rt : Nat → Nat} {aH aC aE aW aL aD aP aY aS aT aN aR aM aQ aB : Nat → Int32} {F : List Nat} {L : Nat → List (List Nat)}
theorem fz_rs_sum {nx en wd : Nat → Nat} {F : List Nat} {L : Nat → List (List Nat)} (g : fz_Gr nx en wd F L) {n : Nat} (hA : fz_A F n) : (L n).length = en n + ((fz_rs 1 (L n)).length + (fz_rs 2 (L n)).length + (fz_rs 3 (L n)).length + (fz_rs 4 (L n)).length) := by
  have e1 := fz_gr_e1 g hA
  have e : L n = fz_gl (en n) (fun c => fz_rs c (L n)) := by
    conv => lhs; rw [fz_gl_of (fz_gr_sv g (Or.inr hA))]
    rw [← fz_gr_en g hA]
  have := congrArg List.length e
  rw [fz_gl_len] at this
  rw [this]
  by_cases z : en n = 0
  · rw [if_pos z]; omega
  · rw [if_neg z]; omega
theorem fz_x_only4 {post : Int32 → Prop} (g : fz_Gr nx en wd F L) {n : Nat} (hA : fz_A F n) (p1 : ∀ l, 1 ≤ l → l ≤ 4 → (fz_rs l (L n)).length = (L n).length → post (nI l)) (p0 : (∀ c, 1 ≤ c → c ≤ 4 → (fz_rs c (L n)).length < (L n).length) → post 0) :
    ∀ (d k f l : Nat), k + d = 5 → 1 ≤ k → d < f → ((l = 0 ∧ ∀ c, 1 ≤ c → c < k → fz_rs c (L n) = []) ∨ (1 ≤ l ∧ l < k ∧ fz_rs l (L n) ≠ [] ∧ en n = 0 ∧ ∀ c, 1 ≤ c → c < k → c ≠ l → fz_rs c (L n) = [])) → wX_only_4 post (nI n) fu fa fl fy (fz_c nx) (fz_c en) (fz_c wd) aH aC aE (fz_c rt) aW aL aD aP aY aS aT aN aR aM aQ aB f (nI l) (nI k)
  | _, _, 0, _, _, _, h, _ => by omega
  | d, k, f + 1, l, hk, k1, hf, hi => by
    have nl := hA.2.1
    have sum := fz_rs_sum g hA
    have e1 := fz_gr_e1 g hA
    have len0 : ∀ c, fz_rs c (L n) = [] → (fz_rs c (L n)).length = 0 := fun c h => by rw [h]; rfl
    have pos : ∀ c, fz_rs c (L n) ≠ [] → 0 < (fz_rs c (L n)).length := fun c h => List.length_pos_iff.mpr h
    have ne := List.length_pos_iff.mpr (fz_gr_ne g hA)
    cases d with
    | zero =>
      have : k = 5 := by omega
      subst this
      refine br_t (show (5 : Int32) ≤ nI 5 by decide) ?_
      rcases hi with ⟨h1, h2⟩ | ⟨h1, h2, h3, h4, h5⟩
      · subst h1
        refine p0 (fun c c1 c4 => ?_)
        rw [len0 c (h2 c c1 (by omega))]
        exact ne
      · refine p1 l h1 (by omega) ?_
        have q : l = 1 ∨ l = 2 ∨ l = 3 ∨ l = 4 := by omega
        have z : ∀ c, 1 ≤ c → c ≤ 4 → c ≠ l → (fz_rs c (L n)).length = 0 := fun c a b e => len0 c (h5 c a (by omega) e)
        rcases q with rfl | rfl | rfl | rfl
        · have := z 2 (by omega) (by omega) (by omega); have := z 3 (by omega) (by omega) (by omega); have := z 4 (by omega) (by omega) (by omega); omega
        · have := z 1 (by omega) (by omega) (by omega); have := z 3 (by omega) (by omega) (by omega); have := z 4 (by omega) (by omega) (by omega); omega
        · have := z 1 (by omega) (by omega) (by omega); have := z 2 (by omega) (by omega) (by omega); have := z 4 (by omega) (by omega) (by omega); omega
        · have := z 1 (by omega) (by omega) (by omega); have := z 2 (by omega) (by omega) (by omega); have := z 3 (by omega) (by omega) (by omega); omega
    | succ d =>
      have ei : 4 * nI n + nI k - 1 = nI (4 * n + k - 1) := fz_ix k1
      have kN := fz_gr_kid g hA k1 (by omega : k ≤ 4)
      have kl := fz_Nd_lt kN
      have kr := fz_gr_rs g hA k1 (by omega : k ≤ 4)
      have k0 := fz_gr_0 g kN
      rw [kr] at k0
      refine br_f (nI_ge (b := 5) (by omega) (by decide)) ⟨by rw [ei]; exact vp_in_nI (by omega) (by omega), ?_⟩
      rw [fz_ca nx ei (by omega)]
      by_cases z : nx (4 * n + k - 1) = 0
      · refine br_t (by rw [z]; rfl) (nm_r (nI_1 k) (fz_x_only4 g hA p1 p0 d (k + 1) f l (by omega) (by omega) (by omega) ?_))
        have kz := k0.mp z
        rcases hi with ⟨h1, h2⟩ | ⟨h1, h2, h3, h4, h5⟩
        · refine Or.inl ⟨h1, fun c c1 ck => ?_⟩
          by_cases y : c = k
          · rw [y]; exact kz
          · exact h2 c c1 (by omega)
        · refine Or.inr ⟨h1, by omega, h3, h4, fun c c1 ck cl => ?_⟩
          by_cases y : c = k
          · rw [y]; exact kz
          · exact h5 c c1 (by omega) cl
      · have kz : fz_rs k (L n) ≠ [] := fun e => z (k0.mpr e)
        refine br_f (nI_ne0 (by omega) (by omega)) ?_
        rcases hi with ⟨h1, h2⟩ | ⟨h1, h2, h3, h4, h5⟩
        · subst h1
          refine br_f (by decide) ⟨vp_in_nI nl (by omega), ?_⟩
          rw [fz_ca en rfl (by omega)]
          by_cases y : en n = 0
          · refine br_t (by rw [y]; rfl) (nm_r (nI_1 k) (fz_x_only4 g hA p1 p0 d (k + 1) f k (by omega) (by omega) (by omega) ?_))
            exact Or.inr ⟨k1, by omega, kz, y, fun c c1 ck cl => h2 c c1 (by omega)⟩
          · refine br_f (nI_ne0 (by omega) (by omega)) (p0 (fun c c1 c4 => ?_))
            have q : c = 1 ∨ c = 2 ∨ c = 3 ∨ c = 4 := by omega
            rcases q with rfl | rfl | rfl | rfl <;> omega
        · refine br_t (nI_lt (a := 0) (by omega) (by omega)) (p0 (fun c c1 c4 => ?_))
          have pl := pos l h3
          have pk := pos k kz
          have ql : l = 1 ∨ l = 2 ∨ l = 3 ∨ l = 4 := by omega
          have qk : k = 1 ∨ k = 2 ∨ k = 3 ∨ k = 4 := by omega
          have q : c = 1 ∨ c = 2 ∨ c = 3 ∨ c = 4 := by omega
          rcases ql with rfl | rfl | rfl | rfl <;> rcases qk with rfl | rfl | rfl | rfl <;> rcases q with rfl | rfl | rfl | rfl <;> omega
theorem fz_x_only {post : Int32 → Prop} (g : fz_Gr nx en wd F L) {n : Nat} (hA : fz_A F n) (p1 : ∀ l, 1 ≤ l → l ≤ 4 → (fz_rs l (L n)).length = (L n).length → post (nI l)) (p0 : (∀ c, 1 ≤ c → c ≤ 4 → (fz_rs c (L n)).length < (L n).length) → post 0) : wpX_only post (fu, fa, fl, fy, fz_c nx, fz_c en, fz_c wd, aH, aC, aE, fz_c rt, aW, aL, aD, aP, aY, aS, aT, aN, aR, aM, aQ, aB) (nI n) :=
  Exists.intro 5 (fz_x_only4 g hA p1 p0 4 1 5 0 (by omega) (by omega) (by omega) (Or.inl ⟨rfl, fun c a b => by omega⟩))
theorem fz_x_start34 {post : Int32 → Prop} (g : fz_Gr nx en wd F L) {D : List (List Nat)} (hp : ∀ p, fz_lw p → (fz_rw p D).length = D.length → (∀ c, 1 ≤ c → c ≤ 4 → (fz_rs c (fz_rw p D)).length < (fz_rw p D).length) → post (nI (fz_en p))) :
    ∀ (f n l : Nat) (p : List Nat), fz_A F n → fz_lw p → L n = fz_rw p D → (fz_rw p D).length = D.length → fz_hb f (L n) → ((1 ≤ l ∧ l ≤ 4 ∧ (fz_rs l (L n)).length = (L n).length) ∨ (l = 0 ∧ ∀ c, 1 ≤ c → c ≤ 4 → (fz_rs c (L n)).length < (L n).length)) → wX_start_34 post fu fa fl fy (fz_c nx) (fz_c en) (fz_c wd) aH aC aE (fz_c rt) aW aL aD aP aY aS aT aN aR aM aQ aB f (nI n) (nI (fz_en p)) (nI l)
  | 0, n, l, p, hA, _, _, _, hb, _ => absurd (fz_hb_0 hb) (fz_gr_ne g hA)
  | f + 1, n, l, p, hA, hpw, eL, hD, hb, hi => by
    have nl := hA.2.1
    rcases hi with ⟨l1, l4, h3⟩ | ⟨h1, h2⟩
    · have ei : 4 * nI n + nI l - 1 = nI (4 * n + l - 1) := fz_ix l1
      have kN := fz_gr_kid g hA l1 l4
      have kr := fz_gr_rs g hA l1 l4
      have ne := List.length_pos_iff.mpr (fz_gr_ne g hA)
      have kz : nx (4 * n + l - 1) ≠ 0 := by
        intro z
        rw [fz_gr_0 g kN, kr] at z
        rw [z] at h3
        simp only [List.length_nil] at h3
        omega
      have kA := fz_Nd_A kN kz
      have eL' : L (nx (4 * n + l - 1)) = fz_rw (p ++ [l]) D := by rw [kr, eL, fz_rw_app]; rfl
      have hD' : (fz_rw (p ++ [l]) D).length = D.length := by rw [← eL', kr, h3, eL, hD]
      have hpw' : fz_lw (p ++ [l]) := fz_lw_app.mpr ⟨hpw, fz_lw_cons l1 l4 fz_lw_nil⟩
      have hb' : fz_hb f (L (nx (4 * n + l - 1))) := by rw [kr]; exact fz_hb_rs hb
      refine br_f (nI_nle (by omega) (by omega)) (nm_r (e' := nI (fz_en (p ++ [l]))) ?_ ⟨by rw [ei]; exact vp_in_nI (by omega) (by omega), nm_r (fz_ca nx ei (by omega)) ?_⟩)
      · show nI 5 * nI (fz_en p) + nI l = _
        rw [pk_mul, nI_add, fz_en_snoc]
      · refine fz_x_only g kA (fun l' a b e => ?_) (fun e => ?_)
        · exact fz_x_start34 g hp f _ l' (p ++ [l]) kA hpw' eL' hD' hb' (Or.inl ⟨a, b, e⟩)
        · exact fz_x_start34 g hp f _ 0 (p ++ [l]) kA hpw' eL' hD' hb' (Or.inr ⟨rfl, e⟩)
    · subst h1
      rw [eL] at h2
      exact br_t (show nI 0 ≤ 0 by decide) (hp p hpw hD h2)
end
end
section
/-! the reference: put and remove -/
def fz_v1 (a : Nat → Int32) (b j n : Nat) : Nat → Int32 := fun i => if b + j < i ∧ i ≤ b + n then a (i - 1) else a i
theorem fz_v1_n (a : Nat → Int32) (b n : Nat) : fz_v1 a b n n = a := by
  funext i; unfold fz_v1; rw [if_neg (by omega)]
theorem fz_v1_s (a : Nat → Int32) {b j n : Nat} (h : j < n) : upd (fz_v1 a b (j + 1) n) (b + (j + 1)) (fz_v1 a b (j + 1) n (b + j)) = fz_v1 a b j n := by
  funext i
  by_cases z : i = b + (j + 1)
  · rw [z, pk_us]
    unfold fz_v1
    rw [if_neg (by omega), if_pos (by omega)]
    exact congrArg a (by omega)
  · rw [pk_un z]
    unfold fz_v1
    by_cases y : b + j < i ∧ i ≤ b + n
    · rw [if_pos y, if_pos (by omega)]
    · rw [if_neg y, if_neg (by omega)]
def fz_v2 (a : Nat → Int32) (b c j : Nat) : Nat → Int32 := fun i => if b + c ≤ i ∧ i < b + j then a (i + 1) else a i
theorem fz_v2_0 (a : Nat → Int32) (b c : Nat) : fz_v2 a b c c = a := by
  funext i; unfold fz_v2; rw [if_neg (by omega)]
theorem fz_v2_s (a : Nat → Int32) {b c j : Nat} (h : c ≤ j) : upd (fz_v2 a b c j) (b + j) (fz_v2 a b c j (b + j + 1)) = fz_v2 a b c (j + 1) := by
  funext i
  by_cases z : i = b + j
  · rw [z, pk_us]
    unfold fz_v2
    rw [if_neg (by omega), if_pos (by omega)]
  · rw [pk_un z]
    unfold fz_v2
    by_cases y : b + c ≤ i ∧ i < b + j
    · rw [if_pos y, if_pos (by omega)]
    · rw [if_neg y, if_neg (by omega)]
/-- what a dictionary's list must be -/
def fz_ok (l : List (List Nat × Nat)) : Prop := l.length ≤ 24 ∧ fz_sv (fz_ky l) ∧ (∀ w, w ∈ fz_ky l → 1 ≤ w.length ∧ w.length ≤ 5) ∧ ∀ x, x ∈ l → x.2 < 100
section
variable {bW bG bS bN bV bF bZ bD bT bI bP bL : Nat → Int32} {E : Nat → List (List Nat × Nat)}
theorem fz_YW_ok (Y : fz_YW bW bG bS bP E) {s : Nat} (hs : s < 4) : fz_ok (E s) := by
  obtain ⟨_, a, b, c, d, _⟩ := Y.1 s hs
  exact ⟨a, b, c, d⟩
theorem fz_YW_in {bW' bG' bS' : Nat → Int32} {s : Nat} {l : List (List Nat × Nat)} (Y : fz_YW bW bG bS bP E) (hok : fz_ok l) (hS : bS' s = nI l.length) (hS' : ∀ t, t < 4 → t ≠ s → bS' t = bS t)
    (h1 : ∀ k, k < l.length → bW' (24 * s + k) = nI (fz_en (l.getD k ([], 0)).1) ∧ bG' (24 * s + k) = nI (l.getD k ([], 0)).2) (h2 : ∀ t k, t < 4 → t ≠ s → k < 24 → bW' (24 * t + k) = bW (24 * t + k) ∧ bG' (24 * t + k) = bG (24 * t + k)) : fz_YW bW' bG' bS' bP (fz_ue E s l) := by
  refine ⟨?_, Y.2⟩
  intro t ht
  by_cases z : t = s
  · subst z
    rw [fz_ue_s]
    exact ⟨hS, hok.1, hok.2.1, hok.2.2.1, hok.2.2.2, h1⟩
  · rw [fz_ue_n z, hS' t ht z]
    obtain ⟨a, b, c, d, e, f⟩ := Y.1 t ht
    refine ⟨a, b, c, d, e, fun k hk => ?_⟩
    have := h2 t k ht z (by omega)
    rw [this.1, this.2]
    exact f k hk
theorem fz_ok_set {l : List (List Nat × Nat)} {w : List Nat} {g : Nat} (h : fz_ok l) (hm : w ∈ fz_ky l) (hg : g < 100) : fz_ok (l.set (fz_cb w (fz_ky l)) (w, g)) := by
  have e := fz_ky_set (g := g) (fz_at_get h.2.1 hm)
  refine ⟨by rw [List.length_set]; exact h.1, by rw [e]; exact h.2.1, by rw [e]; exact h.2.2.1, ?_⟩
  intro x mx
  rcases List.mem_or_eq_of_mem_set mx with q | q
  · exact h.2.2.2 x q
  · rw [q]; exact hg
theorem fz_ok_ins {l : List (List Nat × Nat)} {w : List Nat} {g : Nat} (h : fz_ok l) (hn : ¬ w ∈ fz_ky l) (hl : l.length < 24) (hw : fz_lw w) (w1 : 1 ≤ w.length) (w5 : w.length ≤ 5) (hg : g < 100) : fz_ok (fz_ei l (fz_cb w (fz_ky l)) (w, g)) := by
  have e : fz_ky (fz_ei l (fz_cb w (fz_ky l)) (w, g)) = fz_chg 1 w (fz_ky l) := by rw [fz_ei_ky, fz_ins h.2.1 hw hn]
  refine ⟨by rw [fz_ei_len]; omega, by rw [e]; exact fz_chg_sv h.2.1, ?_, ?_⟩
  · intro v mv
    rw [e, fz_chg_mem h.2.1 hw] at mv
    rcases mv with ⟨q, _⟩ | ⟨_, q⟩
    · rw [q]; exact ⟨w1, w5⟩
    · exact h.2.2.1 v q
  · intro x mx
    rcases fz_ei_mem.mp mx with q | q
    · rw [q]; exact hg
    · exact h.2.2.2 x q
theorem fz_ok_del {l : List (List Nat × Nat)} {w : List Nat} (h : fz_ok l) (hm : w ∈ fz_ky l) : fz_ok (fz_ed l (fz_cb w (fz_ky l))) := by
  have cl := fz_cb_lt h.2.1 hm
  rw [fz_ky_len] at cl
  have hw := h.2.1.2 w hm
  have e : fz_ky (fz_ed l (fz_cb w (fz_ky l))) = fz_chg 0 w (fz_ky l) := by rw [fz_ed_ky, fz_del h.2.1 hm]
  refine ⟨by rw [fz_ed_len cl]; have := h.1; omega, by rw [e]; exact fz_chg_sv h.2.1, ?_, ?_⟩
  · intro v mv
    rw [e, fz_chg_mem h.2.1 hw] at mv
    rcases mv with ⟨_, q⟩ | ⟨_, q⟩
    · exact absurd rfl q
    · exact h.2.2.1 v q
  · intro x mx
    exact h.2.2.2 x ((fz_ed_mem h.2.1 hm).mp mx).1
theorem fz_y_put74 {post : Int32 → SY → Prop} {s a n : Nat} {x2 x3 : Int32} (hs : s < 4) (hn : n < 24) (K : ∀ f, wY_put_74 post (nI s) x2 x3 (nI a) (f + 1) (nI (24 * s + a)) (fz_v1 bW (24 * s) a n) (fz_v1 bG (24 * s) a n) bS bN bV bF bZ bD bT bI bP bL) :
    ∀ (d j f : Nat), a + d = j → j ≤ n → d < f → wY_put_74 post (nI s) x2 x3 (nI a) f (nI (24 * s + j)) (fz_v1 bW (24 * s) j n) (fz_v1 bG (24 * s) j n) bS bN bV bF bZ bD bT bI bP bL
  | _, _, 0, _, _, h => by omega
  | 0, j, f + 1, hj, hjn, _ => by
    have : j = a := by omega
    subst this
    exact K f
  | d + 1, j, f + 1, hj, hjn, hf => by
    obtain ⟨i, rfl⟩ : ∃ i, j = i + 1 := ⟨j - 1, by omega⟩
    have E1 : 24 * nI s + nI a = nI (24 * s + a) := fz_24
    have E2 : nI (24 * s + (i + 1)) - 1 = nI (24 * s + i) := nI_pred _
    have IH := fz_y_put74 hs hn K d i f (by omega) (by omega) (by omega)
    have i1 : vp_in (nI (24 * s + (i + 1)) - 1) 96 := by rw [E2]; exact vp_in_nI (by omega) (by omega)
    have i2 : vp_in (nI (24 * s + (i + 1))) 96 := vp_in_nI (by omega) (by omega)
    refine br_f (by rw [E1]; exact nI_ge (by omega) (by omega)) ⟨i1, i2, nm_r (e' := fz_v1 bW (24 * s) i n) ?_ ⟨i1, i2, nm_r (e' := fz_v1 bG (24 * s) i n) ?_ (nm_r (pk_m1 (24 * s + i)) IH)⟩⟩
    · rw [E2, nI_clamp (by omega), nI_clamp (by omega), fz_v1_s bW (by omega)]
    · rw [E2, nI_clamp (by omega), nI_clamp (by omega), fz_v1_s bG (by omega)]
theorem fz_y_put {post : Int32 → SY → Prop} {s g : Nat} {x : Int32} {w : List Nat} (Y : fz_YW bW bG bS bP E) (hs : s < 4) (hw : fz_wd x w) (hg : g < 100)
    (P1 : w ∈ fz_ky (E s) → ∀ v', fz_YS v' (fz_ue E s ((E s).set (fz_cb w (fz_ky (E s))) (w, g))) → post (nI (fz_cb w (fz_ky (E s)))) v')
    (P2 : ¬ w ∈ fz_ky (E s) → (E s).length < 24 → ∀ v', fz_YS v' (fz_ue E s (fz_ei (E s) (fz_cb w (fz_ky (E s))) (w, g))) → post (nI (fz_cb w (fz_ky (E s)))) v')
    (P3 : ¬ w ∈ fz_ky (E s) → (E s).length = 24 → post (-2) (bW, bG, bS, bN, bV, bF, bZ, bD, bT, bI, bP, bL)) : wpY_put post (bW, bG, bS, bN, bV, bF, bZ, bD, bT, bI, bP, bL) (nI s) x (nI g) := by
  obtain ⟨eS, h24, sv, _⟩ := Y.1 s hs
  have hok := fz_YW_ok Y hs
  have cl := fz_cb_le w (fz_ky (E s))
  rw [fz_ky_len] at cl
  have is : vp_in (nI s) 4 := vp_in_nI hs (by omega)
  have es : bS (nI s).toNatClampNeg = nI (E s).length := by rw [nI_clamp (by omega), eS]
  have EA : 24 * nI s + nI (fz_cb w (fz_ky (E s))) = nI (24 * s + fz_cb w (fz_ky (E s))) := fz_24
  unfold wpY_put
  refine fz_y_isD1 hs (br_f (by decide) (fz_y_wd1 hw (br_f (by decide) (br_f (nI_pos (by omega)) (br_t (nI_le (b := 99) (by omega) (by decide)) ?_)))))
  rw [hw.1.2.2]
  refine fz_y_findw Y hs hw.1.1 hw.1.2.1 (fun hm => ?_) (fun hm => ?_)
  · have cl' := fz_cb_lt sv hm
    rw [fz_ky_len] at cl'
    refine br_t (nI_pos' (by omega)) (And.intro (by rw [EA]; exact vp_in_nI (by omega) (by omega)) (nm_r (e' := upd bG (24 * s + fz_cb w (fz_ky (E s))) (nI g)) (by rw [EA, nI_clamp (by omega)]) (P1 hm _ (fz_YS_mk ?_))))
    refine fz_YW_in Y (fz_ok_set hok hm hg) (by rw [eS, List.length_set]) (fun t _ _ => rfl) ?_ ?_
    · intro k hk
      rw [List.length_set] at hk
      have yk := (Y.1 s hs).2.2.2.2.2 k hk
      by_cases y : k = fz_cb w (fz_ky (E s))
      · have ga := fz_at_get sv hm
        rw [fz_ky_get cl'] at ga
        rw [yk.1, y, pk_us, List.getD_eq_getElem?_getD (l := (E s).set _ _), List.getElem?_set, if_pos rfl, if_pos cl', Option.some.inj ga]
        exact ⟨rfl, rfl⟩
      · have e9 : ((E s).set (fz_cb w (fz_ky (E s))) (w, g)).getD k ([], 0) = (E s).getD k ([], 0) := by
          rw [List.getD_eq_getElem?_getD, List.getElem?_set, if_neg (fun e => y e.symm), ← List.getD_eq_getElem?_getD]
        rw [pk_un (by omega), e9]
        exact yk
    · intro t k ht hts hk
      exact ⟨rfl, pk_un (by omega)⟩
  · refine br_f (by decide) ⟨is, ?_⟩
    rw [es]
    by_cases q : (E s).length = 24
    · exact br_t (by rw [q]; rfl) (P3 hm q)
    · refine br_f (fun e => q ((nI_eq (a := (E s).length) (b := 24) (by omega) (by decide)).mp e)) ?_
      refine fz_y_before Y hs hw.1.1 hw.1.2.1 ⟨is, nm_r (e' := nI (24 * s + (E s).length)) fz_24 ⟨25, ?_⟩⟩
      have key := fz_y_put74 (post := post) (bW := bW) (bG := bG) (bS := bS) (bN := bN) (bV := bV) (bF := bF) (bZ := bZ) (bD := bD) (bT := bT) (bI := bI) (bP := bP) (bL := bL) (s := s) (a := fz_cb w (fz_ky (E s))) (n := (E s).length) (x2 := nI (fz_en w)) (x3 := nI g) hs (by omega) ?_ ((E s).length - fz_cb w (fz_ky (E s))) (E s).length 25 (by omega) (Nat.le_refl _) (by omega)
      · rw [fz_v1_n, fz_v1_n] at key
        exact key
      · intro f
        refine br_t (by rw [EA]; exact nI_le (Nat.le_refl _) (by omega)) ⟨is, is, nm_r (e' := upd bS s (nI ((E s).length + 1))) (by rw [es, nI_1, nI_clamp (by omega)]) ⟨by rw [EA]; exact vp_in_nI (by omega) (by omega), nm_r (e' := upd (fz_v1 bW (24 * s) (fz_cb w (fz_ky (E s))) (E s).length) (24 * s + fz_cb w (fz_ky (E s))) (nI (fz_en w))) (by rw [EA, nI_clamp (by omega)]) (And.intro (by rw [EA]; exact vp_in_nI (by omega) (by omega)) (nm_r (e' := upd (fz_v1 bG (24 * s) (fz_cb w (fz_ky (E s))) (E s).length) (24 * s + fz_cb w (fz_ky (E s))) (nI g)) (by rw [EA, nI_clamp (by omega)]) (P2 hm (by omega) _ (fz_YS_mk ?_))))⟩⟩
        refine fz_YW_in Y (fz_ok_ins hok hm (by omega) hw.1.1 (List.length_pos_iff.mpr hw.2) hw.1.2.1 hg) (by rw [pk_us, fz_ei_len]) (fun t _ ht => pk_un ht) ?_ ?_
        · intro k hk
          rw [fz_ei_len] at hk
          rw [fz_ei_get cl]
          by_cases y : k < fz_cb w (fz_ky (E s))
          · rw [if_pos y, pk_un (by omega), pk_un (by omega)]
            unfold fz_v1
            rw [if_neg (by omega), if_neg (by omega)]
            exact (Y.1 s hs).2.2.2.2.2 k (by omega)
          · rw [if_neg y]
            by_cases y2 : k = fz_cb w (fz_ky (E s))
            · rw [if_pos y2, y2, pk_us, pk_us]
              exact ⟨rfl, rfl⟩
            · rw [if_neg y2, pk_un (by omega), pk_un (by omega)]
              unfold fz_v1
              rw [if_pos (by omega), if_pos (by omega), show 24 * s + k - 1 = 24 * s + (k - 1) by omega]
              exact (Y.1 s hs).2.2.2.2.2 (k - 1) (by omega)
        · intro t k ht hts hk
          unfold fz_v1
          rw [pk_un (by omega), pk_un (by omega), if_neg (by omega), if_neg (by omega)]
          exact ⟨rfl, rfl⟩
theorem fz_y_put_n {post : Int32 → SY → Prop} {v1 v2 v3 : Int32} (Y : fz_YW bW bG bS bP E) (hn : ¬ (fz_dc v1 ∧ (∃ w, fz_wd v2 w) ∧ (0 ≤ v3 ∧ v3 ≤ 99))) (P : post (-1) (bW, bG, bS, bN, bV, bF, bZ, bD, bT, bI, bP, bL)) : wpY_put post (bW, bG, bS, bN, bV, bF, bZ, bD, bT, bI, bP, bL) v1 v2 v3 := by
  unfold wpY_put
  by_cases z1 : fz_dc v1
  · obtain ⟨s, hs, rfl⟩ := z1
    refine fz_y_isD1 hs (br_f (by decide) ?_)
    by_cases z2 : ∃ w, fz_wd v2 w
    · obtain ⟨w, hw⟩ := z2
      refine fz_y_wd1 hw (br_f (by decide) ?_)
      by_cases z3 : v3 < 0
      · exact br_t z3 P
      · refine br_f z3 ?_
        by_cases z4 : v3 ≤ 99
        · exact absurd ⟨⟨s, hs, rfl⟩, ⟨w, hw⟩, Int32.not_lt.mp z3, z4⟩ hn
        · exact br_f z4 P
    · exact fz_y_wd0 z2 (br_t rfl P)
  · exact fz_y_isD0 z1 (br_t rfl P)
theorem fz_y_rem40 {post : Int32 → SY → Prop} {s a n : Nat} (hs : s < 4) (hn : n ≤ 24) (eS : bS s = nI (n - 1)) (K : post (nI a) (fz_v2 bW (24 * s) a (n - 1), fz_v2 bG (24 * s) a (n - 1), bS, bN, bV, bF, bZ, bD, bT, bI, bP, bL)) :
    ∀ (d j f : Nat), j + d = n - 1 → a ≤ j → d < f → wY_remove_40 post (nI s) (nI a) f (nI (24 * s + j)) (fz_v2 bW (24 * s) a j) (fz_v2 bG (24 * s) a j) bS bN bV bF bZ bD bT bI bP bL
  | _, _, 0, _, _, h => by omega
  | d, j, f + 1, hj, haj, hf => by
    have is : vp_in (nI s) 4 := vp_in_nI hs (by omega)
    have es : bS (nI s).toNatClampNeg = nI (n - 1) := by rw [nI_clamp (by omega), eS]
    have E1 : 24 * nI s + nI (n - 1) = nI (24 * s + (n - 1)) := fz_24
    refine And.intro is ?_
    rw [es, E1]
    cases d with
    | zero =>
      have : j = n - 1 := by omega
      subst this
      exact br_t (nI_le (Nat.le_refl _) (by omega)) K
    | succ d =>
      have IH := fz_y_rem40 hs hn eS K d (j + 1) f (by omega) (by omega) (by omega)
      have i1 : vp_in (nI (24 * s + j) + 1) 96 := by rw [nI_1]; exact vp_in_nI (by omega) (by omega)
      have i2 : vp_in (nI (24 * s + j)) 96 := vp_in_nI (by omega) (by omega)
      refine br_f (nI_ge (by omega) (by omega)) ⟨i1, i2, nm_r (e' := fz_v2 bW (24 * s) a (j + 1)) ?_ ⟨i1, i2, nm_r (e' := fz_v2 bG (24 * s) a (j + 1)) ?_ (nm_r (nI_1 _) IH)⟩⟩
      · rw [nI_1, nI_clamp (by omega), nI_clamp (by omega), fz_v2_s bW haj]
      · rw [nI_1, nI_clamp (by omega), nI_clamp (by omega), fz_v2_s bG haj]
theorem fz_y_rem {post : Int32 → SY → Prop} {s : Nat} {x : Int32} {w : List Nat} (Y : fz_YW bW bG bS bP E) (hs : s < 4) (hw : fz_wd x w) (hm : w ∈ fz_ky (E s))
    (P : ∀ v', fz_YS v' (fz_ue E s (fz_ed (E s) (fz_cb w (fz_ky (E s))))) → post (nI (fz_cb w (fz_ky (E s)))) v') : wpY_remove post (bW, bG, bS, bN, bV, bF, bZ, bD, bT, bI, bP, bL) (nI s) x := by
  obtain ⟨eS, h24, sv, _⟩ := Y.1 s hs
  have hok := fz_YW_ok Y hs
  have cl := fz_cb_lt sv hm
  rw [fz_ky_len] at cl
  have is : vp_in (nI s) 4 := vp_in_nI hs (by omega)
  have es : bS (nI s).toNatClampNeg = nI (E s).length := by rw [nI_clamp (by omega), eS]
  unfold wpY_remove
  refine fz_y_isD1 hs (br_f (by decide) ?_)
  rw [hw.1.2.2]
  refine fz_y_findw Y hs hw.1.1 hw.1.2.1 (fun _ => ?_) (fun q => absurd hm q)
  have e1 : nI (E s).length - 1 = nI ((E s).length - 1) := by show nI _ - nI 1 = _; rw [pk_sub (by omega)]
  refine br_t (nI_pos' (by omega)) ⟨is, is, nm_r (e' := upd bS s (nI ((E s).length - 1))) (by rw [es, e1, nI_clamp (by omega)]) (nm_r fz_24 ⟨25, ?_⟩)⟩
  have key := fz_y_rem40 (post := post) (bW := bW) (bG := bG) (bS := upd bS s (nI ((E s).length - 1))) (bN := bN) (bV := bV) (bF := bF) (bZ := bZ) (bD := bD) (bT := bT) (bI := bI) (bP := bP) (bL := bL) (s := s) (a := fz_cb w (fz_ky (E s))) (n := (E s).length) hs (by omega) pk_us ?_ ((E s).length - 1 - fz_cb w (fz_ky (E s))) (fz_cb w (fz_ky (E s))) 25 (by omega) (Nat.le_refl _) (by omega)
  · rw [fz_v2_0, fz_v2_0] at key
    exact key
  · refine P _ (fz_YS_mk ?_)
    refine fz_YW_in Y (fz_ok_del hok hm) (by rw [pk_us, fz_ed_len cl]) (fun t _ ht => pk_un ht) ?_ ?_
    · intro k hk
      rw [fz_ed_len cl] at hk
      rw [fz_ed_get cl]
      unfold fz_v2
      by_cases y : k < fz_cb w (fz_ky (E s))
      · rw [if_pos y, if_neg (by omega), if_neg (by omega)]
        exact (Y.1 s hs).2.2.2.2.2 k (by omega)
      · rw [if_neg y, if_pos (by omega), if_pos (by omega)]
        exact (Y.1 s hs).2.2.2.2.2 (k + 1) (by omega)
    · intro t k ht hts hk
      unfold fz_v2
      rw [if_neg (by omega), if_neg (by omega)]
      exact ⟨rfl, rfl⟩
theorem fz_y_rem_n {post : Int32 → SY → Prop} {v1 v2 : Int32} (Y : fz_YW bW bG bS bP E) (hn : ¬ ∃ s w, s < 4 ∧ v1 = nI s ∧ fz_wd v2 w ∧ w ∈ fz_ky (E s)) (P : post (-1) (bW, bG, bS, bN, bV, bF, bZ, bD, bT, bI, bP, bL)) : wpY_remove post (bW, bG, bS, bN, bV, bF, bZ, bD, bT, bI, bP, bL) v1 v2 := by
  unfold wpY_remove
  by_cases z1 : fz_dc v1
  · obtain ⟨s, hs, rfl⟩ := z1
    refine fz_y_isD1 hs (br_f (by decide) ?_)
    refine fz_y_find Y hs (fun k hk e => ?_) (fun _ => br_f (by decide) P)
    obtain ⟨w, g, e0, _, _, mk, hw, w1, w5, _⟩ := fz_YW_x Y hs hk
    rw [e0] at e
    exact absurd ⟨s, w, hs, rfl, ⟨⟨hw, w5, e.symm⟩, List.length_pos_iff.mp w1⟩, mk⟩ hn
  · exact fz_y_isD0 z1 (br_t rfl P)
end
end
section
/-! the reference: join -/
def fz_mg (how : Nat) : Nat → List (List Nat × Nat) → List (List Nat × Nat) → List (List Nat × Nat)
  | 0, _, _ => []
  | _ + 1, [], [] => []
  | f + 1, a :: A, [] => (if how = 1 then [] else [a]) ++ fz_mg how f A []
  | f + 1, [], b :: B => (if how = 0 then [b] else []) ++ fz_mg how f [] B
  | f + 1, a :: A, b :: B =>
    if fz_lx a.1 b.1 = true then (if how = 1 then [] else [a]) ++ fz_mg how f A (b :: B)
    else if fz_lx b.1 a.1 = true then (if how = 0 then [b] else []) ++ fz_mg how f (a :: A) B
    else (if how = 2 then [] else [a]) ++ fz_mg how f A B
theorem fz_mem_if {c : Prop} [Decidable c] {x a : List Nat × Nat} : x ∈ (if c then [] else [a]) ↔ ¬ c ∧ x = a := by
  by_cases h : c
  · rw [if_pos h]; simp [h]
  · rw [if_neg h]; simp [h]
theorem fz_mem_if' {c : Prop} [Decidable c] {x a : List Nat × Nat} : x ∈ (if c then [a] else []) ↔ c ∧ x = a := by
  by_cases h : c
  · rw [if_pos h]; simp [h]
  · rw [if_neg h]; simp [h]
theorem fz_mg_sub {how : Nat} : ∀ {f : Nat} {A B : List (List Nat × Nat)} {x : List Nat × Nat}, x ∈ fz_mg how f A B → x ∈ A ∨ x ∈ B
  | 0, _, _, _, h => by simp [fz_mg] at h
  | f + 1, [], [], _, h => by simp [fz_mg] at h
  | f + 1, a :: A, [], x, h => by
    simp only [fz_mg] at h
    rcases List.mem_append.mp h with h | h
    · rw [(fz_mem_if.mp h).2]; exact Or.inl (List.mem_cons_self ..)
    · rcases fz_mg_sub h with h | h
      · exact Or.inl (List.mem_cons_of_mem _ h)
      · exact Or.inr h
  | f + 1, [], b :: B, x, h => by
    simp only [fz_mg] at h
    rcases List.mem_append.mp h with h | h
    · rw [(fz_mem_if'.mp h).2]; exact Or.inr (List.mem_cons_self ..)
    · rcases fz_mg_sub h with h | h
      · exact Or.inl h
      · exact Or.inr (List.mem_cons_of_mem _ h)
  | f + 1, a :: A, b :: B, x, h => by
    simp only [fz_mg] at h
    by_cases z : fz_lx a.1 b.1 = true
    · rw [if_pos z] at h
      rcases List.mem_append.mp h with h | h
      · rw [(fz_mem_if.mp h).2]; exact Or.inl (List.mem_cons_self ..)
      · rcases fz_mg_sub h with h | h
        · exact Or.inl (List.mem_cons_of_mem _ h)
        · exact Or.inr h
    · rw [if_neg z] at h
      by_cases y : fz_lx b.1 a.1 = true
      · rw [if_pos y] at h
        rcases List.mem_append.mp h with h | h
        · rw [(fz_mem_if'.mp h).2]; exact Or.inr (List.mem_cons_self ..)
        · rcases fz_mg_sub h with h | h
          · exact Or.inl h
          · exact Or.inr (List.mem_cons_of_mem _ h)
      · rw [if_neg y] at h
        rcases List.mem_append.mp h with h | h
        · rw [(fz_mem_if.mp h).2]; exact Or.inl (List.mem_cons_self ..)
        · rcases fz_mg_sub h with h | h
          · exact Or.inl (List.mem_cons_of_mem _ h)
          · exact Or.inr (List.mem_cons_of_mem _ h)
def fz_ps (l : List (List Nat × Nat)) : Prop := l.Pairwise (fun a b => fz_lx a.1 b.1 = true)
theorem fz_ps_c {c : Prop} [Decidable c] {a : List Nat × Nat} {l : List (List Nat × Nat)} (h : fz_ps l) (ha : ∀ x, x ∈ l → fz_lx a.1 x.1 = true) : fz_ps ((if c then [] else [a]) ++ l) := by
  by_cases z : c
  · rw [if_pos z]; exact h
  · rw [if_neg z]; exact List.pairwise_cons.mpr ⟨ha, h⟩
theorem fz_ps_c' {c : Prop} [Decidable c] {a : List Nat × Nat} {l : List (List Nat × Nat)} (h : fz_ps l) (ha : ∀ x, x ∈ l → fz_lx a.1 x.1 = true) : fz_ps ((if c then [a] else []) ++ l) := by
  by_cases z : c
  · rw [if_pos z]; exact List.pairwise_cons.mpr ⟨ha, h⟩
  · rw [if_neg z]; exact h
theorem fz_mg_ps {how : Nat} : ∀ {f : Nat} {A B : List (List Nat × Nat)}, fz_ps A → fz_ps B → fz_ps (fz_mg how f A B)
  | 0, _, _, _, _ => List.Pairwise.nil
  | f + 1, [], [], _, _ => List.Pairwise.nil
  | f + 1, a :: A, [], ha, hb => by
    have h := List.pairwise_cons.mp ha
    simp only [fz_mg]
    refine fz_ps_c (fz_mg_ps h.2 hb) (fun x m => ?_)
    rcases fz_mg_sub m with m | m
    · exact h.1 x m
    · exact absurd m (by simp)
  | f + 1, [], b :: B, ha, hb => by
    have h := List.pairwise_cons.mp hb
    simp only [fz_mg]
    refine fz_ps_c' (fz_mg_ps ha h.2) (fun x m => ?_)
    rcases fz_mg_sub m with m | m
    · exact absurd m (by simp)
    · exact h.1 x m
  | f + 1, a :: A, b :: B, ha, hb => by
    have h := List.pairwise_cons.mp ha
    have g := List.pairwise_cons.mp hb
    simp only [fz_mg]
    by_cases z : fz_lx a.1 b.1 = true
    · rw [if_pos z]
      refine fz_ps_c (fz_mg_ps h.2 hb) (fun x m => ?_)
      rcases fz_mg_sub m with m | m
      · exact h.1 x m
      · rcases List.mem_cons.mp m with m | m
        · rw [m]; exact z
        · exact fz_lx_tr z (g.1 x m)
    · rw [if_neg z]
      by_cases y : fz_lx b.1 a.1 = true
      · rw [if_pos y]
        refine fz_ps_c' (fz_mg_ps ha g.2) (fun x m => ?_)
        rcases fz_mg_sub m with m | m
        · rcases List.mem_cons.mp m with m | m
          · rw [m]; exact y
          · exact fz_lx_tr y (h.1 x m)
        · exact g.1 x m
      · rw [if_neg y]
        have e : a.1 = b.1 := fz_lx_tot (by simpa using z) (by simpa using y)
        refine fz_ps_c (fz_mg_ps h.2 g.2) (fun x m => ?_)
        rcases fz_mg_sub m with m | m
        · exact h.1 x m
        · rw [e]; exact g.1 x m
theorem fz_kyc {a : List Nat × Nat} {A : List (List Nat × Nat)} {w : List Nat} : w ∈ fz_ky (a :: A) ↔ w = a.1 ∨ w ∈ fz_ky A := by
  unfold fz_ky; rw [List.map_cons, List.mem_cons]
theorem fz_lt_ky {a : List Nat × Nat} {A : List (List Nat × Nat)} (h : ∀ x, x ∈ A → fz_lx a.1 x.1 = true) : ¬ a.1 ∈ fz_ky A := fun m => by
  obtain ⟨x, hx, e⟩ := fz_mky.mp m
  have := h x hx
  rw [e, fz_lx_irr] at this; cases this
theorem fz_mg_mem {how : Nat} (hh : how < 3) : ∀ {f : Nat} {A B : List (List Nat × Nat)} {x : List Nat × Nat}, fz_ps A → fz_ps B → A.length + B.length < f → (x ∈ fz_mg how f A B ↔ fz_jn how A B x)
  | 0, _, _, _, _, _, h => by omega
  | f + 1, [], [], x, _, _, _ => by
    have hq : how = 0 ∨ how = 1 ∨ how = 2 := by omega
    rcases hq with rfl | rfl | rfl <;> simp [fz_mg, fz_jn]
  | f + 1, a :: A, [], x, ha, hb, hl => by
    have h := List.pairwise_cons.mp ha
    have ih := fz_mg_mem hh (f := f) (A := A) (B := []) (x := x) h.2 hb (by simp only [List.length_cons] at hl; omega)
    simp only [fz_mg]
    rw [List.mem_append, fz_mem_if, ih]
    have hq : how = 0 ∨ how = 1 ∨ how = 2 := by omega
    rcases hq with rfl | rfl | rfl <;> simp [fz_jn, fz_ky]
  | f + 1, [], b :: B, x, ha, hb, hl => by
    have g := List.pairwise_cons.mp hb
    have ih := fz_mg_mem hh (f := f) (A := []) (B := B) (x := x) ha g.2 (by simp only [List.length_cons] at hl ⊢; omega)
    simp only [fz_mg]
    rw [List.mem_append, fz_mem_if', ih]
    have hq : how = 0 ∨ how = 1 ∨ how = 2 := by omega
    rcases hq with rfl | rfl | rfl <;> simp [fz_jn, fz_ky]
  | f + 1, a :: A, b :: B, x, ha, hb, hl => by
    have h := List.pairwise_cons.mp ha
    have g := List.pairwise_cons.mp hb
    simp only [List.length_cons] at hl
    have hq : how = 0 ∨ how = 1 ∨ how = 2 := by omega
    simp only [fz_mg]
    by_cases z : fz_lx a.1 b.1 = true
    · rw [if_pos z]
      have ih := fz_mg_mem hh (f := f) (A := A) (B := b :: B) (x := x) h.2 hb (by simp only [List.length_cons]; omega)
      have nB : ¬ a.1 ∈ fz_ky (b :: B) := fz_lt_ky (fun y m => by
        rcases List.mem_cons.mp m with m | m
        · rw [m]; exact z
        · exact fz_lx_tr z (g.1 y m))
      have nx : x ∈ b :: B → x.1 ≠ a.1 := fun m e => nB (e ▸ fz_mky.mpr ⟨x, m, rfl⟩)
      rw [List.mem_append, fz_mem_if, ih]
      rcases hq with rfl | rfl | rfl
      · simp only [fz_jn, if_true]
        rw [List.mem_cons (a := x) (b := a), fz_kyc]
        constructor
        · rintro (⟨_, q⟩ | q | ⟨q1, q2⟩)
          · exact Or.inl (Or.inl q)
          · exact Or.inl (Or.inr q)
          · exact Or.inr ⟨q1, fun w => w.elim (nx q1) q2⟩
        · rintro ((q | q) | ⟨q1, q2⟩)
          · exact Or.inl ⟨by decide, q⟩
          · exact Or.inr (Or.inl q)
          · exact Or.inr (Or.inr ⟨q1, fun w => q2 (Or.inr w)⟩)
      · show _ ∨ (x ∈ A ∧ x.1 ∈ fz_ky (b :: B)) ↔ (x ∈ a :: A ∧ x.1 ∈ fz_ky (b :: B))
        rw [List.mem_cons (a := x) (b := a)]
        constructor
        · rintro (⟨q, _⟩ | ⟨q1, q2⟩)
          · exact absurd rfl q
          · exact ⟨Or.inr q1, q2⟩
        · rintro ⟨q | q, q2⟩
          · rw [q] at q2; exact absurd q2 nB
          · exact Or.inr ⟨q, q2⟩
      · show _ ∨ (x ∈ A ∧ ¬ x.1 ∈ fz_ky (b :: B)) ↔ (x ∈ a :: A ∧ ¬ x.1 ∈ fz_ky (b :: B))
        rw [List.mem_cons (a := x) (b := a)]
        constructor
        · rintro (⟨_, q⟩ | ⟨q1, q2⟩)
          · rw [q]; exact ⟨Or.inl rfl, nB⟩
          · exact ⟨Or.inr q1, q2⟩
        · rintro ⟨q | q, q2⟩
          · exact Or.inl ⟨by decide, q⟩
          · exact Or.inr ⟨q, q2⟩
    · rw [if_neg z]
      by_cases y : fz_lx b.1 a.1 = true
      · rw [if_pos y]
        have ih := fz_mg_mem hh (f := f) (A := a :: A) (B := B) (x := x) ha g.2 (by simp only [List.length_cons]; omega)
        have nA : ¬ b.1 ∈ fz_ky (a :: A) := fz_lt_ky (fun v m => by
          rcases List.mem_cons.mp m with m | m
          · rw [m]; exact y
          · exact fz_lx_tr y (h.1 v m))
        have nx : x ∈ a :: A → x.1 ≠ b.1 := fun m e => nA (e ▸ fz_mky.mpr ⟨x, m, rfl⟩)
        rw [List.mem_append, fz_mem_if', ih]
        rcases hq with rfl | rfl | rfl
        · simp only [fz_jn, if_true]
          rw [List.mem_cons (a := x) (b := b)]
          constructor
          · rintro (⟨_, q⟩ | q | ⟨q1, q2⟩)
            · rw [q]; exact Or.inr ⟨Or.inl rfl, nA⟩
            · exact Or.inl q
            · exact Or.inr ⟨Or.inr q1, q2⟩
          · rintro (q | ⟨q1 | q1, q2⟩)
            · exact Or.inr (Or.inl q)
            · exact Or.inl ⟨trivial, q1⟩
            · exact Or.inr (Or.inr ⟨q1, q2⟩)
        · show _ ∨ (x ∈ a :: A ∧ x.1 ∈ fz_ky B) ↔ (x ∈ a :: A ∧ x.1 ∈ fz_ky (b :: B))
          rw [fz_kyc]
          constructor
          · rintro (⟨q, _⟩ | ⟨q1, q2⟩)
            · exact absurd q (by decide)
            · exact ⟨q1, Or.inr q2⟩
          · rintro ⟨q1, q2 | q2⟩
            · exact absurd q2 (nx q1)
            · exact Or.inr ⟨q1, q2⟩
        · show _ ∨ (x ∈ a :: A ∧ ¬ x.1 ∈ fz_ky B) ↔ (x ∈ a :: A ∧ ¬ x.1 ∈ fz_ky (b :: B))
          rw [fz_kyc]
          constructor
          · rintro (⟨q, _⟩ | ⟨q1, q2⟩)
            · exact absurd q (by decide)
            · exact ⟨q1, fun w => w.elim (nx q1) q2⟩
          · rintro ⟨q1, q2⟩
            exact Or.inr ⟨q1, fun w => q2 (Or.inr w)⟩
      · rw [if_neg y]
        have e : a.1 = b.1 := fz_lx_tot (by simpa using z) (by simpa using y)
        have ih := fz_mg_mem hh (f := f) (A := A) (B := B) (x := x) h.2 g.2 (by omega)
        have nA := fz_lt_ky h.1
        have nB := fz_lt_ky g.1
        have xA : x ∈ A → x.1 ≠ a.1 := fun m q => nA (q ▸ fz_mky.mpr ⟨x, m, rfl⟩)
        have xB : x ∈ B → x.1 ≠ b.1 := fun m q => nB (q ▸ fz_mky.mpr ⟨x, m, rfl⟩)
        rw [List.mem_append, fz_mem_if, ih]
        rcases hq with rfl | rfl | rfl
        · simp only [fz_jn, if_true]
          rw [List.mem_cons (a := x) (b := a), List.mem_cons (a := x) (b := b), fz_kyc]
          constructor
          · rintro (⟨_, q⟩ | q | ⟨q1, q2⟩)
            · exact Or.inl (Or.inl q)
            · exact Or.inl (Or.inr q)
            · exact Or.inr ⟨Or.inr q1, fun w => w.elim (fun w => xB q1 (w.trans e)) q2⟩
          · rintro ((q | q) | ⟨q1 | q1, q2⟩)
            · exact Or.inl ⟨by decide, q⟩
            · exact Or.inr (Or.inl q)
            · exact absurd (Or.inl (by rw [q1, e])) q2
            · exact Or.inr (Or.inr ⟨q1, fun w => q2 (Or.inr w)⟩)
        · show _ ∨ (x ∈ A ∧ x.1 ∈ fz_ky B) ↔ (x ∈ a :: A ∧ x.1 ∈ fz_ky (b :: B))
          rw [List.mem_cons (a := x) (b := a), fz_kyc]
          constructor
          · rintro (⟨_, q⟩ | ⟨q1, q2⟩)
            · exact ⟨Or.inl q, Or.inl (by rw [q]; exact e)⟩
            · exact ⟨Or.inr q1, Or.inr q2⟩
          · rintro ⟨q1 | q1, q2⟩
            · exact Or.inl ⟨by decide, q1⟩
            · rcases q2 with q2 | q2
              · exact absurd (q2.trans e.symm) (xA q1)
              · exact Or.inr ⟨q1, q2⟩
        · show _ ∨ (x ∈ A ∧ ¬ x.1 ∈ fz_ky B) ↔ (x ∈ a :: A ∧ ¬ x.1 ∈ fz_ky (b :: B))
          rw [List.mem_cons (a := x) (b := a), fz_kyc]
          constructor
          · rintro (⟨q, _⟩ | ⟨q1, q2⟩)
            · exact absurd rfl q
            · exact ⟨Or.inr q1, fun w => w.elim (fun w => xA q1 (w.trans e.symm)) q2⟩
          · rintro ⟨q1 | q1, q2⟩
            · exact absurd (Or.inl (by rw [q1]; exact e)) q2
            · exact Or.inr ⟨q1, fun w => q2 (Or.inr w)⟩
end
section
/-! the reference's join: the walk -/
def fz_nr (bN bV : Nat → Int32) (l : List (List Nat × Nat)) : Prop := ∀ k, k < l.length → bN k = nI (fz_en (l.getD k ([], 0)).1) ∧ bV k = nI (l.getD k ([], 0)).2
theorem fz_nr_s {bN bV : Nat → Int32} {l : List (List Nat × Nat)} {x : List Nat × Nat} (h : fz_nr bN bV l) : fz_nr (upd bN l.length (nI (fz_en x.1))) (upd bV l.length (nI x.2)) (l ++ [x]) := by
  intro k hk
  rw [List.length_append, List.length_singleton] at hk
  rw [List.getD_eq_getElem?_getD]
  by_cases z : k = l.length
  · rw [z, pk_us, pk_us, List.getElem?_append_right (Nat.le_refl _), Nat.sub_self]
    exact ⟨rfl, rfl⟩
  · rw [pk_un z, pk_un z, List.getElem?_append_left (by omega), ← List.getD_eq_getElem?_getD]
    exact h k (by omega)
def fz_v3 (a src : Nat → Int32) (b j : Nat) : Nat → Int32 := fun i => if b ≤ i ∧ i < b + j then src (i - b) else a i
theorem fz_v3_0 (a src : Nat → Int32) (b : Nat) : fz_v3 a src b 0 = a := by
  funext i; unfold fz_v3; rw [if_neg (by omega)]
theorem fz_v3_s (a src : Nat → Int32) {b j : Nat} : upd (fz_v3 a src b j) (b + j) (src j) = fz_v3 a src b (j + 1) := by
  funext i
  by_cases z : i = b + j
  · rw [z, pk_us]
    unfold fz_v3
    rw [if_pos (by omega)]
    exact congrArg src (by omega)
  · rw [pk_un z]
    unfold fz_v3
    by_cases y : b ≤ i ∧ i < b + j
    · rw [if_pos y, if_pos (by omega)]
    · rw [if_neg y, if_neg (by omega)]
section
variable {bW bG bS bN bV bF bZ bD bT bI bP bL : Nat → Int32} {E : Nat → List (List Nat × Nat)}
theorem fz_y_j253 {post : Int32 → SY → Prop} {J : Int32 → Int32 → Int32 → (Nat → Int32) → (Nat → Int32) → (Nat → Int32) → (Nat → Int32) → (Nat → Int32) → (Nat → Int32) → (Nat → Int32) → (Nat → Int32) → (Nat → Int32) → (Nat → Int32) → (Nat → Int32) → (Nat → Int32) → Prop} {x1 x2 x3 x4 x5 : Int32} {i j kx ky : Nat} (h1 : kx < 1000000) (h2 : ky < 1000000) (hJ : J x5 (nI (if ky < kx then i else i + 1)) (nI (if kx < ky then j else j + 1)) bW bG bS bN bV bF bZ bD bT bI bP bL) : wY_join_253 post J x1 x2 x3 x4 x5 (nI i) (nI j) (nI kx) (nI ky) bW bG bS bN bV bF bZ bD bT bI bP bL := by
  rcases Nat.lt_trichotomy kx ky with z | z | z
  · rw [if_neg (by omega), if_pos z] at hJ
    exact br_f (nI_nlt (by omega) (by omega)) (nm_r (nI_1 i) (br_t (nI_lt z (by omega)) hJ))
  · rw [if_neg (by omega), if_neg (by omega)] at hJ
    exact br_f (nI_nlt (by omega) (by omega)) (nm_r (nI_1 i) (br_f (nI_nlt (by omega) (by omega)) (nm_r (nI_1 j) hJ)))
  · rw [if_pos z, if_neg (by omega)] at hJ
    exact br_t (nI_lt z (by omega)) (br_f (nI_nlt (by omega) (by omega)) (nm_r (nI_1 j) hJ))
theorem fz_y_j161 {post : Int32 → SY → Prop} {J : Int32 → Int32 → Int32 → (Nat → Int32) → (Nat → Int32) → (Nat → Int32) → (Nat → Int32) → (Nat → Int32) → (Nat → Int32) → (Nat → Int32) → (Nat → Int32) → (Nat → Int32) → (Nat → Int32) → (Nat → Int32) → (Nat → Int32) → Prop} {x1 x4 : Int32} {a b n i j kx ky : Nat} {vw vg : Int32} (ha : a < 4) (hb : b < 4) (hn : n < 48) (h1 : kx < 1000000) (h2 : ky < 1000000)
    (hB : ky < kx → j < 24 ∧ bW (24 * b + j) = vw ∧ bG (24 * b + j) = vg) (hA : ¬ ky < kx → i < 24 ∧ bW (24 * a + i) = vw ∧ bG (24 * a + i) = vg)
    (hJ : J (nI (n + 1)) (nI (if ky < kx then i else i + 1)) (nI (if kx < ky then j else j + 1)) bW bG bS (upd bN n vw) (upd bV n vg) bF bZ bD bT bI bP bL) : wY_join_161 post J x1 (nI a) (nI b) x4 (nI n) (nI i) (nI j) (nI kx) (nI ky) 1 bW bG bS bN bV bF bZ bD bT bI bP bL := by
  have Ea : 24 * nI a + nI i = nI (24 * a + i) := fz_24
  have Eb : 24 * nI b + nI j = nI (24 * b + j) := fz_24
  have i48 : vp_in (nI n) 48 := vp_in_nI hn (by omega)
  have T := fz_y_j253 (post := post) (bW := bW) (bG := bG) (bS := bS) (bN := upd bN n vw) (bV := upd bV n vg) (bF := bF) (bZ := bZ) (bD := bD) (bT := bT) (bI := bI) (bP := bP) (bL := bL) (x1 := x1) (x2 := nI a) (x3 := nI b) (x4 := x4) (x5 := nI (n + 1)) (i := i) (j := j) h1 h2 hJ
  refine br_f (by decide) ?_
  by_cases z : ky < kx
  · obtain ⟨q1, q2, q3⟩ := hB z
    have ib : vp_in (24 * nI b + nI j) 96 := by rw [Eb]; exact vp_in_nI (by omega) (by omega)
    refine br_t (nI_lt z (by omega)) ⟨ib, ?_⟩
    rw [Eb, nI_clamp (by omega), q2]
    refine And.intro i48 (nm_r (e' := upd bN n vw) (by rw [nI_clamp (by omega)]) (nm_r (nI_1 n) (br_t (nI_lt z (by omega)) ⟨ib, ?_⟩)))
    rw [Eb, nI_clamp (by omega), q3]
    exact And.intro i48 (nm_r (e' := upd bV n vg) (by rw [nI_clamp (by omega)]) T)
  · obtain ⟨q1, q2, q3⟩ := hA z
    have ib : vp_in (24 * nI a + nI i) 96 := by rw [Ea]; exact vp_in_nI (by omega) (by omega)
    refine br_f (nI_nlt (by omega) (by omega)) ⟨ib, ?_⟩
    rw [Ea, nI_clamp (by omega), q2]
    refine And.intro i48 (nm_r (e' := upd bN n vw) (by rw [nI_clamp (by omega)]) (nm_r (nI_1 n) (br_f (nI_nlt (by omega) (by omega)) ⟨ib, ?_⟩)))
    rw [Ea, nI_clamp (by omega), q3]
    exact And.intro i48 (nm_r (e' := upd bV n vg) (by rw [nI_clamp (by omega)]) T)
def fz_tk2 (how kx ky : Nat) : Prop := how = 0 ∨ (how = 1 ∧ kx = ky) ∨ (how = 2 ∧ kx < ky)
theorem fz_y_j128 {post : Int32 → SY → Prop} {J : Int32 → Int32 → Int32 → (Nat → Int32) → (Nat → Int32) → (Nat → Int32) → (Nat → Int32) → (Nat → Int32) → (Nat → Int32) → (Nat → Int32) → (Nat → Int32) → (Nat → Int32) → (Nat → Int32) → (Nat → Int32) → (Nat → Int32) → Prop} {x2 x3 x4 x5 x6 x7 : Int32} {how kx ky : Nat} (hh : how < 3) (h1 : kx < 1000000) (h2 : ky < 1000000)
    (p1 : fz_tk2 how kx ky → wY_join_161 post J (nI how) x2 x3 x4 x5 x6 x7 (nI kx) (nI ky) 1 bW bG bS bN bV bF bZ bD bT bI bP bL) (p0 : ¬ fz_tk2 how kx ky → wY_join_161 post J (nI how) x2 x3 x4 x5 x6 x7 (nI kx) (nI ky) 0 bW bG bS bN bV bF bZ bD bT bI bP bL) : wY_join_128 post J (nI how) x2 x3 x4 x5 x6 x7 (nI kx) (nI ky) bW bG bS bN bV bF bZ bD bT bI bP bL := by
  have hq : how = 0 ∨ how = 1 ∨ how = 2 := by omega
  rcases hq with rfl | rfl | rfl
  · exact br_t rfl (p1 (Or.inl rfl))
  · refine br_f (by decide) (br_t rfl ?_)
    by_cases z : kx = ky
    · exact br_t (by rw [z]) (p1 (Or.inr (Or.inl ⟨rfl, z⟩)))
    · refine br_f (by rw [nI_eq (by omega) (by omega)]; exact z) (p0 ?_)
      rintro (q | ⟨_, q⟩ | ⟨q, _⟩)
      · exact absurd q (by decide)
      · exact z q
      · exact absurd q (by decide)
  · refine br_f (by decide) (br_f (by decide) ?_)
    by_cases z : kx < ky
    · exact br_f (nI_ge z (by omega)) (p1 (Or.inr (Or.inr ⟨rfl, z⟩)))
    · refine br_t (nI_le (by omega) (by omega)) (p0 ?_)
      rintro (q | ⟨q, _⟩ | ⟨_, q⟩)
      · exact absurd q (by decide)
      · exact absurd q (by decide)
      · exact z q
/-- one turn: the keys at both places are compared -/
theorem fz_y_j64 {post : Int32 → SY → Prop} {J : Int32 → Int32 → Int32 → (Nat → Int32) → (Nat → Int32) → (Nat → Int32) → (Nat → Int32) → (Nat → Int32) → (Nat → Int32) → (Nat → Int32) → (Nat → Int32) → (Nat → Int32) → (Nat → Int32) → (Nat → Int32) → (Nat → Int32) → Prop} (Y : fz_YW bW bG bS bP E) {x4 : Int32} {how a b n i j kx ky : Nat} {vw vg : Int32} (hh : how < 3) (ha : a < 4) (hb : b < 4) (hn : n < 48)
    (ex : kx = if i < (E a).length then fz_ke 5 ((E a).getD i ([], 0)).1 else 100000) (ey : ky = if j < (E b).length then fz_ke 5 ((E b).getD j ([], 0)).1 else 100000) (hi : i ≤ (E a).length) (hj : j ≤ (E b).length)
    (hB : ky < kx → j < 24 ∧ bW (24 * b + j) = vw ∧ bG (24 * b + j) = vg) (hA : ¬ ky < kx → i < 24 ∧ bW (24 * a + i) = vw ∧ bG (24 * a + i) = vg)
    (p1 : fz_tk2 how kx ky → J (nI (n + 1)) (nI (if ky < kx then i else i + 1)) (nI (if kx < ky then j else j + 1)) bW bG bS (upd bN n vw) (upd bV n vg) bF bZ bD bT bI bP bL)
    (p0 : ¬ fz_tk2 how kx ky → J (nI n) (nI (if ky < kx then i else i + 1)) (nI (if kx < ky then j else j + 1)) bW bG bS bN bV bF bZ bD bT bI bP bL) : wY_join_64 post J (nI how) (nI a) (nI b) x4 (nI n) (nI i) (nI j) bW bG bS bN bV bF bZ bD bT bI bP bL := by
  obtain ⟨eA, a24, _⟩ := Y.1 a ha
  obtain ⟨eB, b24, _⟩ := Y.1 b hb
  have ia : vp_in (nI a) 4 := vp_in_nI ha (by omega)
  have ib : vp_in (nI b) 4 := vp_in_nI hb (by omega)
  have esa : bS (nI a).toNatClampNeg = nI (E a).length := by rw [nI_clamp (by omega), eA]
  have esb : bS (nI b).toNatClampNeg = nI (E b).length := by rw [nI_clamp (by omega), eB]
  have Ea : 24 * nI a + nI i = nI (24 * a + i) := fz_24
  have Eb : 24 * nI b + nI j = nI (24 * b + j) := fz_24
  have LAST : kx < 1000000 → ky < 1000000 → wY_join_128 post J (nI how) (nI a) (nI b) x4 (nI n) (nI i) (nI j) (nI kx) (nI ky) bW bG bS bN bV bF bZ bD bT bI bP bL := fun h1 h2 =>
    fz_y_j128 hh h1 h2 (fun q => fz_y_j161 ha hb hn h1 h2 hB hA (p1 q)) (fun q => br_t rfl (fz_y_j253 h1 h2 (p0 q)))
  have MID : kx < 1000000 → wY_join_95 post J (nI how) (nI a) (nI b) x4 (nI n) (nI i) (nI j) (nI kx) bW bG bS bN bV bF bZ bD bT bI bP bL := by
    intro h1
    refine And.intro ib ?_
    rw [esb]
    by_cases z : j < (E b).length
    · rw [if_pos z] at ey
      obtain ⟨w, g, e0, _, _, _, hw, w1, w5, _, ew, _⟩ := fz_YW_x Y hb z
      refine br_f (nI_ge z (by omega)) ⟨by rw [Eb]; exact vp_in_nI (by omega) (by omega), ?_⟩
      rw [Eb, nI_clamp (by omega), ew]
      rw [e0] at ey
      refine fz_y_key hw w5 ?_
      have := fz_ke_lt hw w5
      have e9 : ky = fz_ke 5 w := ey
      rw [← e9]
      exact LAST h1 (by omega)
    · rw [if_neg z] at ey
      refine br_t (nI_le (by omega) (by omega)) ?_
      rw [ey] at LAST
      exact LAST h1 (by omega)
  refine And.intro ia ?_
  rw [esa]
  by_cases z : i < (E a).length
  · rw [if_pos z] at ex
    obtain ⟨w, g, e0, _, _, _, hw, w1, w5, _, ew, _⟩ := fz_YW_x Y ha z
    refine br_f (nI_ge z (by omega)) ⟨by rw [Ea]; exact vp_in_nI (by omega) (by omega), ?_⟩
    rw [Ea, nI_clamp (by omega), ew]
    rw [e0] at ex
    refine fz_y_key hw w5 ?_
    have := fz_ke_lt hw w5
    have e9 : kx = fz_ke 5 w := ex
    rw [← e9]
    exact MID (by omega)
  · rw [if_neg z] at ex
    refine br_t (nI_le (by omega) (by omega)) ?_
    rw [ex] at MID
    exact MID (by omega)
theorem fz_dg1 {l : List (List Nat × Nat)} {k : Nat} (hk : k < l.length) : l.drop k = l.getD k ([], 0) :: l.drop (k + 1) := by
  rw [List.drop_eq_getElem_cons hk, List.getD_eq_getElem?_getD, List.getElem?_eq_getElem hk]; rfl
theorem fz_y_join42 {post : Int32 → SY → Prop} (Y : fz_YW bW bG bS bP E) {x4 : Int32} {how a b : Nat} {l : List (List Nat × Nat)} (hh : how < 3) (ha : a < 4) (hb : b < 4)
    (K : ∀ (bN bV : Nat → Int32) (f : Nat), fz_nr bN bV l → wY_join_42 post (nI how) (nI a) (nI b) x4 (f + 1) (nI l.length) (nI (E a).length) (nI (E b).length) bW bG bS bN bV bF bZ bD bT bI bP bL) :
    ∀ (f i j : Nat) (bN bV : Nat → Int32) (l0 : List (List Nat × Nat)), i ≤ (E a).length → j ≤ (E b).length → ((E a).length - i) + ((E b).length - j) < f → fz_nr bN bV l0 → l0.length ≤ i + j → l0 ++ fz_mg how f ((E a).drop i) ((E b).drop j) = l → wY_join_42 post (nI how) (nI a) (nI b) x4 f (nI l0.length) (nI i) (nI j) bW bG bS bN bV bF bZ bD bT bI bP bL
  | 0, _, _, _, _, _, _, _, h, _, _, _ => by omega
  | f + 1, i, j, bN, bV, l0, hi, hj, hf, hr, hl, e => by
    obtain ⟨eA, a24, sva, _⟩ := Y.1 a ha
    obtain ⟨eB, b24, svb, _⟩ := Y.1 b hb
    have ia : vp_in (nI a) 4 := vp_in_nI ha (by omega)
    have ib : vp_in (nI b) 4 := vp_in_nI hb (by omega)
    have esa : bS (nI a).toNatClampNeg = nI (E a).length := by rw [nI_clamp (by omega), eA]
    have esb : bS (nI b).toNatClampNeg = nI (E b).length := by rw [nI_clamp (by omega), eB]
    have NEXT : ∀ (i' j' : Nat) (y : List (List Nat × Nat)), i' ≤ (E a).length → j' ≤ (E b).length → (i' + j' = i + j + 1 ∨ i' + j' = i + j + 2) → i ≤ i' → j ≤ j' → (y = [] ∨ ∃ x, y = [x]) → l0 ++ (y ++ fz_mg how f ((E a).drop i') ((E b).drop j')) = l →
        (y = [] → wY_join_42 post (nI how) (nI a) (nI b) x4 f (nI l0.length) (nI i') (nI j') bW bG bS bN bV bF bZ bD bT bI bP bL) ∧ (∀ x, y = [x] → wY_join_42 post (nI how) (nI a) (nI b) x4 f (nI (l0.length + 1)) (nI i') (nI j') bW bG bS (upd bN l0.length (nI (fz_en x.1))) (upd bV l0.length (nI x.2)) bF bZ bD bT bI bP bL) := by
      intro i' j' y h1 h2 h3 h4 h5 h6 h7
      constructor
      · intro hy
        rw [hy, List.nil_append] at h7
        exact fz_y_join42 Y hh ha hb K f i' j' bN bV l0 h1 h2 (by omega) hr (by omega) h7
      · intro x hy
        rw [hy, ← List.append_assoc] at h7
        have := fz_y_join42 Y hh ha hb K f i' j' _ _ (l0 ++ [x]) h1 h2 (by omega) (fz_nr_s hr) (by rw [List.length_append, List.length_singleton]; omega) h7
        rw [List.length_append, List.length_singleton] at this
        exact this
    have TURN : (i < (E a).length ∨ j < (E b).length) → wY_join_64 post (wY_join_42 post (nI how) (nI a) (nI b) x4 f) (nI how) (nI a) (nI b) x4 (nI l0.length) (nI i) (nI j) bW bG bS bN bV bF bZ bD bT bI bP bL := by
      intro hij
      by_cases zi : i < (E a).length
      · obtain ⟨w, g, e0, _, _, _, hw, w1, w5, _, ew, eg⟩ := fz_YW_x Y ha zi
        have kw := fz_ke_lt hw w5
        by_cases zj : j < (E b).length
        · obtain ⟨v, h, f0, _, _, _, hv, v1, v5, _, ev, eh⟩ := fz_YW_x Y hb zj
          have kv := fz_ke_lt hv v5
          have l1 := fz_ke_lx hw hv w5 v5
          have l2 := fz_ke_lx hv hw v5 w5
          rw [fz_dg1 zi, fz_dg1 zj, e0, f0] at e
          simp only [fz_mg] at e
          rcases Nat.lt_trichotomy (fz_ke 5 w) (fz_ke 5 v) with q | q | q
          · rw [if_pos (l1.mp q)] at e
            have N := NEXT (i + 1) j (if how = 1 then [] else [(w, g)]) (by omega) (by omega) (by omega) (by omega) (by omega) (by by_cases hc : how = 1 <;> simp [hc]) (by rw [fz_dg1 zj, f0]; exact e)
            refine fz_y_j64 (vw := nI (fz_en w)) (vg := nI g) (kx := fz_ke 5 w) (ky := fz_ke 5 v) Y hh ha hb (by omega) (by rw [if_pos zi, e0]) (by rw [if_pos zj, f0]) hi hj (fun z => by omega) (fun _ => ⟨by omega, ew, eg⟩) ?_ ?_
            · intro t
              rw [if_neg (by omega), if_pos q]
              have : ¬ how = 1 := by rcases t with t | ⟨_, t⟩ | ⟨t, _⟩ <;> omega
              exact N.2 (w, g) (by rw [if_neg this])
            · intro t
              rw [if_neg (by omega), if_pos q]
              have : how = 1 := by
                refine Classical.byContradiction fun n => t ?_
                have : how = 0 ∨ how = 2 := by omega
                rcases this with y | y
                · exact Or.inl y
                · exact Or.inr (Or.inr ⟨y, q⟩)
              exact N.1 (by rw [if_pos this])
          · have n1 : ¬ fz_lx w v = true := fun z => by have := l1.mpr z; omega
            have n2 : ¬ fz_lx v w = true := fun z => by have := l2.mpr z; omega
            rw [if_neg n1, if_neg n2] at e
            have N := NEXT (i + 1) (j + 1) (if how = 2 then [] else [(w, g)]) (by omega) (by omega) (by omega) (by omega) (by omega) (by by_cases hc : how = 2 <;> simp [hc]) e
            refine fz_y_j64 (vw := nI (fz_en w)) (vg := nI g) (kx := fz_ke 5 w) (ky := fz_ke 5 v) Y hh ha hb (by omega) (by rw [if_pos zi, e0]) (by rw [if_pos zj, f0]) hi hj (fun z => by omega) (fun _ => ⟨by omega, ew, eg⟩) ?_ ?_
            · intro t
              rw [if_neg (by omega), if_neg (by omega)]
              have : ¬ how = 2 := by rcases t with t | ⟨t, _⟩ | ⟨_, t⟩ <;> omega
              exact N.2 (w, g) (by rw [if_neg this])
            · intro t
              rw [if_neg (by omega), if_neg (by omega)]
              have : how = 2 := by
                refine Classical.byContradiction fun n => t ?_
                have : how = 0 ∨ how = 1 := by omega
                rcases this with y | y
                · exact Or.inl y
                · exact Or.inr (Or.inl ⟨y, q⟩)
              exact N.1 (by rw [if_pos this])
          · have n1 : ¬ fz_lx w v = true := fun z => by have := l1.mpr z; omega
            rw [if_neg n1, if_pos (l2.mp q)] at e
            have N := NEXT i (j + 1) (if how = 0 then [(v, h)] else []) (by omega) (by omega) (by omega) (by omega) (by omega) (by by_cases hc : how = 0 <;> simp [hc]) (by rw [fz_dg1 zi, e0]; exact e)
            refine fz_y_j64 (vw := nI (fz_en v)) (vg := nI h) (kx := fz_ke 5 w) (ky := fz_ke 5 v) Y hh ha hb (by omega) (by rw [if_pos zi, e0]) (by rw [if_pos zj, f0]) hi hj (fun _ => ⟨by omega, ev, eh⟩) (fun z => by omega) ?_ ?_
            · intro t
              rw [if_pos q, if_neg (by omega)]
              have : how = 0 := by rcases t with t | ⟨_, t⟩ | ⟨_, t⟩ <;> omega
              exact N.2 (v, h) (by rw [if_pos this])
            · intro t
              rw [if_pos q, if_neg (by omega)]
              have : ¬ how = 0 := fun z => t (Or.inl z)
              exact N.1 (by rw [if_neg this])
        · have ej : j = (E b).length := by omega
          rw [fz_dg1 zi, e0, ej, List.drop_length] at e
          simp only [fz_mg] at e
          have N := NEXT (i + 1) j (if how = 1 then [] else [(w, g)]) (by omega) (by omega) (by omega) (by omega) (by omega) (by by_cases hc : how = 1 <;> simp [hc]) (by rw [ej, List.drop_length]; exact e)
          refine fz_y_j64 (vw := nI (fz_en w)) (vg := nI g) (kx := fz_ke 5 w) (ky := 100000) Y hh ha hb (by omega) (by rw [if_pos zi, e0]) (by rw [if_neg zj]) hi hj (fun z => by omega) (fun _ => ⟨by omega, ew, eg⟩) ?_ ?_
          · intro t
            rw [if_neg (by omega), if_pos (by omega)]
            have : ¬ how = 1 := by rcases t with t | ⟨_, t⟩ | ⟨t, _⟩ <;> omega
            exact N.2 (w, g) (by rw [if_neg this])
          · intro t
            rw [if_neg (by omega), if_pos (by omega)]
            have : how = 1 := by
              refine Classical.byContradiction fun n => t ?_
              have : how = 0 ∨ how = 2 := by omega
              rcases this with y | y
              · exact Or.inl y
              · exact Or.inr (Or.inr ⟨y, by omega⟩)
            exact N.1 (by rw [if_pos this])
      · have zj : j < (E b).length := by omega
        obtain ⟨v, h, f0, _, _, _, hv, v1, v5, _, ev, eh⟩ := fz_YW_x Y hb zj
        have kv := fz_ke_lt hv v5
        have ei : i = (E a).length := by omega
        rw [fz_dg1 zj, f0, ei, List.drop_length] at e
        simp only [fz_mg] at e
        have N := NEXT i (j + 1) (if how = 0 then [(v, h)] else []) (by omega) (by omega) (by omega) (by omega) (by omega) (by by_cases hc : how = 0 <;> simp [hc]) (by rw [ei, List.drop_length]; exact e)
        refine fz_y_j64 (vw := nI (fz_en v)) (vg := nI h) (kx := 100000) (ky := fz_ke 5 v) Y hh ha hb (by omega) (by rw [if_neg zi]) (by rw [if_pos zj, f0]) hi hj (fun _ => ⟨by omega, ev, eh⟩) (fun z => by omega) ?_ ?_
        · intro t
          rw [if_pos (by omega), if_neg (by omega)]
          have : how = 0 := by rcases t with t | ⟨_, t⟩ | ⟨_, t⟩ <;> omega
          exact N.2 (v, h) (by rw [if_pos this])
        · intro t
          rw [if_pos (by omega), if_neg (by omega)]
          have : ¬ how = 0 := fun z => t (Or.inl z)
          exact N.1 (by rw [if_neg this])
    by_cases zi : i < (E a).length
    · refine And.intro ia ?_
      rw [esa]
      exact br_t (nI_lt zi (by omega)) (TURN (Or.inl zi))
    · by_cases zj : j < (E b).length
      · refine And.intro ia ?_
        rw [esa]
        refine br_f (nI_nlt (by omega) (by omega)) ⟨ib, ?_⟩
        rw [esb]
        exact br_f (nI_ge zj (by omega)) (TURN (Or.inr zj))
      · have ei : i = (E a).length := by omega
        have ej : j = (E b).length := by omega
        rw [ei, ej, List.drop_length, List.drop_length] at e
        simp only [fz_mg, List.append_nil] at e
        subst e
        rw [ei, ej]
        exact K bN bV f hr
theorem fz_y_join298 {post : Int32 → SY → Prop} {o n : Nat} (ho : o < 4) (hn : n ≤ 24) (K : post (nI n) (fz_v3 bW bN (24 * o) n, fz_v3 bG bV (24 * o) n, bS, bN, bV, bF, bZ, bD, bT, bI, bP, bL)) :
    ∀ (d k f : Nat), k + d = n → d < f → wY_join_298 post (nI o) (nI n) f (nI k) (fz_v3 bW bN (24 * o) k) (fz_v3 bG bV (24 * o) k) bS bN bV bF bZ bD bT bI bP bL
  | _, _, 0, _, h => by omega
  | 0, k, f + 1, hk, _ => by
    have : k = n := by omega
    subst this
    exact br_t (nI_le (Nat.le_refl _) (by omega)) K
  | d + 1, k, f + 1, hk, hf => by
    have E1 : 24 * nI o + nI k = nI (24 * o + k) := fz_24
    have IH := fz_y_join298 ho hn K d (k + 1) f (by omega) (by omega)
    have i1 : vp_in (nI k) 48 := vp_in_nI (by omega) (by omega)
    have i2 : vp_in (24 * nI o + nI k) 96 := by rw [E1]; exact vp_in_nI (by omega) (by omega)
    refine br_f (nI_ge (by omega) (by omega)) ⟨i1, i2, nm_r (e' := fz_v3 bW bN (24 * o) (k + 1)) ?_ ⟨i1, i2, nm_r (e' := fz_v3 bG bV (24 * o) (k + 1)) ?_ (nm_r (nI_1 _) IH)⟩⟩
    · rw [E1, nI_clamp (by omega), nI_clamp (by omega), fz_v3_s]
    · rw [E1, nI_clamp (by omega), nI_clamp (by omega), fz_v3_s]
theorem fz_y_join {post : Int32 → SY → Prop} (Y : fz_YW bW bG bS bP E) {how a b o : Nat} {l : List (List Nat × Nat)} (hh : how < 3) (ha : a < 4) (hb : b < 4) (ho : o < 4) (el : fz_mg how 49 (E a) (E b) = l)
    (PF : 24 < l.length → ∀ v', fz_YS v' E → post (-2) v') (P : l.length ≤ 24 → ∀ v', fz_YS v' (fz_ue E o l) → post (nI l.length) v') : wpY_join post (bW, bG, bS, bN, bV, bF, bZ, bD, bT, bI, bP, bL) (nI how) (nI a) (nI b) (nI o) := by
  obtain ⟨eA, a24, sva, wa, ga, _⟩ := Y.1 a ha
  obtain ⟨eB, b24, svb, wb, gb, _⟩ := Y.1 b hb
  have ia : vp_in (nI a) 4 := vp_in_nI ha (by omega)
  have ib : vp_in (nI b) 4 := vp_in_nI hb (by omega)
  have io : vp_in (nI o) 4 := vp_in_nI ho (by omega)
  have esa : bS (nI a).toNatClampNeg = nI (E a).length := by rw [nI_clamp (by omega), eA]
  have esb : bS (nI b).toNatClampNeg = nI (E b).length := by rw [nI_clamp (by omega), eB]
  have mem : ∀ x, x ∈ l → x ∈ E a ∨ x ∈ E b := fun x m => fz_mg_sub (el ▸ m)
  have ps : fz_ps l := by rw [← el]; exact fz_mg_ps (fz_kp sva) (fz_kp svb)
  have l48 : l.length ≤ 48 := by
    have nd : l.Nodup := ps.imp (fun {p q} h e => by rw [e, fz_lx_irr] at h; cases h)
    have := nd.length_le_of_subset (l₂ := E a ++ E b) (fun x m => List.mem_append.mpr (mem x m))
    rw [List.length_append] at this
    omega
  unfold wpY_join
  refine br_f (nI_pos (by omega)) (br_f (nI_nlt (a := 2) (b := how) (by omega) (by decide)) (fz_y_isD1 ha (br_f (by decide) (fz_y_isD1 hb (br_f (by decide) (fz_y_isD1 ho (br_f (by decide) ⟨49, ?_⟩)))))))
  refine fz_y_join42 (l := l) Y hh ha hb ?_ 49 0 0 bN bV [] (by omega) (by omega) (by omega) (fun k hk => absurd hk (by simp)) (by simp) (by rw [List.nil_append, List.drop_zero, List.drop_zero]; exact el)
  intro bN bV f hr
  refine And.intro ia ?_
  rw [esa]
  refine br_f (nI_nlt (Nat.le_refl _) (by omega)) ⟨ib, ?_⟩
  rw [esb]
  refine br_t (nI_le (Nat.le_refl _) (by omega)) ?_
  by_cases z : l.length ≤ 24
  · refine br_t (nI_le (b := 24) z (by decide)) ⟨io, nm_r (e' := upd bS o (nI l.length)) (by rw [nI_clamp (by omega)]) ⟨25, ?_⟩⟩
    have key := fz_y_join298 (post := post) (bW := bW) (bG := bG) (bS := upd bS o (nI l.length)) (bN := bN) (bV := bV) (bF := bF) (bZ := bZ) (bD := bD) (bT := bT) (bI := bI) (bP := bP) (bL := bL) (o := o) (n := l.length) ho z ?_ l.length 0 25 (by omega) (by omega)
    · rw [fz_v3_0, fz_v3_0] at key
      exact key
    · refine P z _ (fz_YS_mk ?_)
      have svl : fz_sv (fz_ky l) := by
        refine ⟨List.pairwise_map.mpr ps, ?_⟩
        intro w m
        obtain ⟨x, mx, rfl⟩ := fz_mky.mp m
        rcases mem x mx with q | q
        · exact sva.2 _ (fz_mky.mpr ⟨x, q, rfl⟩)
        · exact svb.2 _ (fz_mky.mpr ⟨x, q, rfl⟩)
      refine fz_YW_in Y ⟨z, svl, ?_, ?_⟩ pk_us (fun t _ ht => pk_un ht) ?_ ?_
      · intro w m
        obtain ⟨x, mx, rfl⟩ := fz_mky.mp m
        rcases mem x mx with q | q
        · exact wa _ (fz_mky.mpr ⟨x, q, rfl⟩)
        · exact wb _ (fz_mky.mpr ⟨x, q, rfl⟩)
      · intro x mx
        rcases mem x mx with q | q
        · exact ga x q
        · exact gb x q
      · intro k hk
        unfold fz_v3
        rw [if_pos (by omega), if_pos (by omega), Nat.add_sub_cancel_left]
        exact hr k hk
      · intro t k ht hts hk
        unfold fz_v3
        rw [if_neg (by omega), if_neg (by omega)]
        exact ⟨rfl, rfl⟩
  · exact br_f (nI_ge (a := 24) (by omega) (by omega)) (PF (by omega) _ (fz_YS_mk Y))
theorem fz_y_join_n {post : Int32 → SY → Prop} {v1 v2 v3 v4 : Int32} (hn : ¬ ((∃ how, how < 3 ∧ v1 = nI how) ∧ fz_dc v2 ∧ fz_dc v3 ∧ fz_dc v4)) (P : post (-1) (bW, bG, bS, bN, bV, bF, bZ, bD, bT, bI, bP, bL)) : wpY_join post (bW, bG, bS, bN, bV, bF, bZ, bD, bT, bI, bP, bL) v1 v2 v3 v4 := by
  unfold wpY_join
  by_cases z0 : v1 < 0
  · exact br_t z0 P
  · refine br_f z0 ?_
    by_cases z1 : 2 < v1
    · exact br_t z1 P
    · refine br_f z1 ?_
      obtain ⟨k, hk, rfl⟩ := nI_of z0
      have k3 : k < 3 := by
        have := (nI_leI (a := k) (b := 2) hk (by decide)).mp (Int32.not_lt.mp z1)
        omega
      by_cases z2 : fz_dc v2
      · obtain ⟨s2, h2, rfl⟩ := z2
        refine fz_y_isD1 h2 (br_f (by decide) ?_)
        by_cases z3 : fz_dc v3
        · obtain ⟨s3, h3, rfl⟩ := z3
          refine fz_y_isD1 h3 (br_f (by decide) ?_)
          by_cases z4 : fz_dc v4
          · exact absurd ⟨⟨k, k3, rfl⟩, ⟨s2, h2, rfl⟩, ⟨s3, h3, rfl⟩, z4⟩ hn
          · exact fz_y_isD0 z4 (br_t rfl P)
        · exact fz_y_isD0 z3 (br_t rfl P)
      · exact fz_y_isD0 z2 (br_t rfl P)
end
end
section
/-! the search through the automaton: a walk with a stack of nodes and letters -/
section
variable {fu fa fl fy : Int32} {nx en wd rt : Nat → Nat} {aH aC aE aW aL aD aP aY aS aT aN aR aM aQ aB : Nat → Int32} {F : List Nat} {L : Nat → List (List Nat)}
theorem fz_x_along4 {post : Int32 → Prop} {N : Nat} (hN : N ≤ 6) : ∀ (r : List Nat) (k x f : Nat), k + r.length = N → fz_lr aY k r → r.length < f → post (nI (x * 5 ^ r.length + fz_en r)) → wX_along_4 post (nI N) fu fa fl fy (fz_c nx) (fz_c en) (fz_c wd) aH aC aE (fz_c rt) aW aL aD aP aY aS aT aN aR aM aQ aB f (nI x) (nI k)
  | _, _, _, 0, _, _, h, _ => by omega
  | [], k, x, f + 1, hk, _, _, hp => by
    simp only [List.length_nil, Nat.pow_zero, Nat.mul_one, fz_en, Nat.add_zero] at hp hk
    exact br_t (nI_le (by omega) (by omega)) hp
  | c :: r, k, x, f + 1, hk, hl, hf, hp => by
    simp only [List.length_cons] at hk hf hp
    refine br_f (nI_ge (by omega) (by omega)) ⟨vp_in_nI (by omega) (by omega), nm_r (e' := nI (5 * x + c)) ?_ (nm_r (nI_1 k) (fz_x_along4 hN r (k + 1) (5 * x + c) f (by omega) hl.2 (by omega) ?_))⟩
    · rw [nI_clamp (by omega), hl.1]
      show nI 5 * nI x + nI c = _
      rw [pk_mul, nI_add]
    · have e : (5 * x + c) * 5 ^ r.length + fz_en r = x * 5 ^ (r.length + 1) + fz_en (c :: r) := by
        simp only [fz_en, Nat.add_mul, Nat.pow_succ]
        have : 5 * x * 5 ^ r.length = x * (5 ^ r.length * 5) := by
          rw [Nat.mul_comm 5 x, Nat.mul_assoc, Nat.mul_comm 5]
        omega
      rw [e]; exact hp
theorem fz_x_along {post : Int32 → Prop} {q : List Nat} (h6 : q.length ≤ 6) (hl : fz_lr aY 0 q) (hp : post (nI (fz_en q))) : wpX_along post (fu, fa, fl, fy, fz_c nx, fz_c en, fz_c wd, aH, aC, aE, fz_c rt, aW, aL, aD, aP, aY, aS, aT, aN, aR, aM, aQ, aB) (nI q.length) :=
  Exists.intro (q.length + 1) (fz_x_along4 h6 q 0 0 _ (by omega) hl (by omega) (by rw [Nat.zero_mul, Nat.zero_add]; exact hp))
end
/-- the words with the row p ahead of them that are sought -/
noncomputable def fz_fm (fits : List Nat → Prop) (p : List Nat) (D : List (List Nat)) : List (List Nat) := (D.map (fun t => p ++ t)).filter (fun w => @decide (fits w) (Classical.propDecidable _))
theorem fz_fm_app (fits : List Nat → Prop) (p : List Nat) (A B : List (List Nat)) : fz_fm fits p (A ++ B) = fz_fm fits p A ++ fz_fm fits p B := by
  unfold fz_fm; rw [List.map_append, List.filter_append]
theorem fz_fm_cons (fits : List Nat → Prop) (p : List Nat) (c : Nat) (A : List (List Nat)) : fz_fm fits p (A.map (fun t => c :: t)) = fz_fm fits (p ++ [c]) A := by
  unfold fz_fm
  rw [List.map_map]
  congr 1
  apply List.map_congr_left
  intro t _
  simp
theorem fz_fm_none {fits : List Nat → Prop} {p : List Nat} (h : ∀ q, ¬ fits (p ++ q)) (A : List (List Nat)) : fz_fm fits p A = [] := by
  unfold fz_fm
  rw [List.filter_eq_nil_iff]
  intro w m
  obtain ⟨t, _, rfl⟩ := List.mem_map.mp m
  simp [h t]
theorem fz_fm_1 {fits : List Nat → Prop} {p : List Nat} (h : fits p) : fz_fm fits p [[]] = [p] := by
  unfold fz_fm
  simp [h]
theorem fz_fm_0 {fits : List Nat → Prop} {p : List Nat} (h : ¬ fits p) : fz_fm fits p [[]] = [] := by
  unfold fz_fm
  simp [h]
section
variable {fu fa fl fy : Int32} {nx en wd rt : Nat → Nat} {aH aC aE aW aL aD aS aT aN aB : Nat → Int32} {F : List Nat} {L : Nat → List (List Nat)}
theorem fz_x_walk25 {post : Int32 → SX → Prop} {x2 x3 x4 : Int32} {fits goes : List Nat → Prop} {Inf : List Nat → (Nat → Int32) → (Nat → Int32) → (Nat → Int32) → Prop} (g : fz_Gr nx en wd F L)
    (hdown : ∀ p c aR aM aQ, Inf (p ++ [c]) aR aM aQ → Inf p aR aM aQ)
    (hgo : ∀ (p : List Nat) (c : Nat) (aP aY aR aM aQ : Nat → Int32) (K : Int32 → SX → Prop), fz_lw p → p.length < 5 → 1 ≤ c → c ≤ 4 → fz_lr aY 0 p → Inf p aR aM aQ → (goes (p ++ [c]) → ∀ aR' aM' aQ', Inf (p ++ [c]) aR' aM' aQ' → K 1 (fu, fa, fl, fy, fz_c nx, fz_c en, fz_c wd, aH, aC, aE, fz_c rt, aW, aL, aD, aP, aY, aS, aT, aN, aR', aM', aQ', aB)) → (¬ goes (p ++ [c]) → ∀ aR' aM' aQ', Inf (p ++ [c]) aR' aM' aQ' → K 0 (fu, fa, fl, fy, fz_c nx, fz_c en, fz_c wd, aH, aC, aE, fz_c rt, aW, aL, aD, aP, aY, aS, aT, aN, aR', aM', aQ', aB)) → (x3 = 0 → wpX_step K (fu, fa, fl, fy, fz_c nx, fz_c en, fz_c wd, aH, aC, aE, fz_c rt, aW, aL, aD, aP, aY, aS, aT, aN, aR, aM, aQ, aB) (nI p.length + 1) (nI c)) ∧ (¬ x3 = 0 → wpX_row K (fu, fa, fl, fy, fz_c nx, fz_c en, fz_c wd, aH, aC, aE, fz_c rt, aW, aL, aD, aP, aY, aS, aT, aN, aR, aM, aQ, aB) (nI p.length + 1) (nI c) x4))
    (hfit : ∀ (p : List Nat) (aR aM aQ : Nat → Int32) (A B : Prop), 1 ≤ p.length → p.length ≤ 5 → Inf p aR aM aQ → (fits p → B) → (¬ fits p → A) → (x3 = 0 → (vp_in (nI p.length) 6 ∧ ((((aQ (nI p.length).toNatClampNeg) >>> (fy &&& 31)) &&& 1) = 0 → A) ∧ (¬ (((aQ (nI p.length).toNatClampNeg) >>> (fy &&& 31)) &&& 1) = 0 → B))) ∧ (¬ x3 = 0 → (vp_in ((6 * nI p.length) + fl) 36 ∧ (x4 < (aR ((6 * nI p.length) + fl).toNatClampNeg) → A) ∧ (¬ x4 < (aR ((6 * nI p.length) + fl).toNatClampNeg) → B))))
    (hpr : ∀ p, ¬ goes p → ∀ q, ¬ fits (p ++ q)) :
    ∀ (m d n : Nat) (p : List Nat), d ≤ 4 → fz_A F n → fz_hb m (L n) → p.length + m ≤ 6 → fz_lw p → ∃ T, ∀ (f x : Nat) (aP aY aR aM aQ : Nat → Int32), aP p.length = nI n → aY p.length = nI (4 - d) → fz_lr aY 0 p → Inf p aR aM aQ →
      (∀ t w, (fz_fm fits p (fz_gt (fun c => L (nx (4 * n + c - 1))) d))[t]? = some w → nI (x + t) = x2 → ∀ aP aY aR aM aQ, post (nI (fz_en w)) (fu, fa, fl, fy, fz_c nx, fz_c en, fz_c wd, aH, aC, aE, fz_c rt, aW, aL, aD, aP, aY, aS, aT, aN, aR, aM, aQ, aB)) →
      ((∀ t, t < (fz_fm fits p (fz_gt (fun c => L (nx (4 * n + c - 1))) d)).length → ¬ nI (x + t) = x2) → ∀ aP' aY' aR aM aQ, (∀ i, i < p.length → aP' i = aP i ∧ aY' i = aY i) → Inf p aR aM aQ → wX_walk_25 post x2 x3 x4 f (nI (x + (fz_fm fits p (fz_gt (fun c => L (nx (4 * n + c - 1))) d)).length)) (nI p.length + (-1)) fu fa fl fy (fz_c nx) (fz_c en) (fz_c wd) aH aC aE (fz_c rt) aW aL aD aP' aY' aS aT aN aR aM aQ aB) →
      wX_walk_25 post x2 x3 x4 (f + T) (nI x) (nI p.length) fu fa fl fy (fz_c nx) (fz_c en) (fz_c wd) aH aC aE (fz_c rt) aW aL aD aP aY aS aT aN aR aM aQ aB := by
  intro m
  induction m with
  | zero =>
    intro d n p _ hA hb
    exact absurd (fz_hb_0 hb) (fz_gr_ne g hA)
  | succ m ihm =>
    intro d
    induction d with
    | zero =>
      intro n p _ hA hb hpm hp
      have hn := hA.2.1
      have n0 := hA.1
      refine ⟨1, ?_⟩
      intro f x aP aY aR aM aQ hP hY hl hI RET CONT
      have i7 : vp_in (nI p.length) 7 := vp_in_nI (by omega) (by omega)
      refine br_f (nI_pos (by omega)) ⟨i7, nm_r (e' := nI n) (by rw [nI_clamp (by omega), hP]) (br_f (nI_ne0 (by omega) (by omega)) ⟨i7, br_t (by rw [nI_clamp (by omega), hY]; rfl) (nm_e ?_)⟩)⟩
      exact CONT (fun t ht => absurd ht (by simp [fz_gt, fz_fm])) aP aY aR aM aQ (fun i _ => ⟨rfl, rfl⟩) hI
    | succ d ihd =>
      intro n p hd4 hA hb hpm hp
      have hn := hA.2.1
      have n0 := hA.1
      obtain ⟨T1, H1⟩ := ihd n p (by omega) hA hb hpm hp
      have c1 : 1 ≤ 4 - d := by omega
      have c4 : 4 - d ≤ 4 := by omega
      have kN := fz_gr_kid g hA c1 c4
      have kl := fz_Nd_lt kN
      have kr := fz_gr_rs g hA c1 c4
      have i7 : vp_in (nI p.length) 7 := vp_in_nI (by omega) (by omega)
      have ei : 4 * nI n + nI (4 - d) - 1 = nI (4 * n + (4 - d) - 1) := fz_ix c1
      have e84 : ∀ aY : Nat → Int32, aY p.length = nI (4 - (d + 1)) → (aY (nI p.length).toNatClampNeg + 1).toInt8.toInt32 = nI (4 - d) := fun aY h => by
        rw [nI_clamp (by omega), h, nI_1, show 4 - (d + 1) + 1 = 4 - d by omega, fz_i8 (by omega)]
      have gts : fz_gt (fun c => L (nx (4 * n + c - 1))) (d + 1) = (L (nx (4 * n + (4 - d) - 1))).map (fun t => (4 - d) :: t) ++ fz_gt (fun c => L (nx (4 * n + c - 1))) d := rfl
      have ms : fz_fm fits p (fz_gt (fun c => L (nx (4 * n + c - 1))) (d + 1)) = fz_fm fits (p ++ [4 - d]) (L (nx (4 * n + (4 - d) - 1))) ++ fz_fm fits p (fz_gt (fun c => L (nx (4 * n + c - 1))) d) := by
        rw [gts, fz_fm_app, fz_fm_cons]
      -- the head of one turn, up to the node that the letter leads to
      have HEAD : ∀ (f : Nat) (x : Nat) (aP aY aR aM aQ : Nat → Int32), aP p.length = nI n → aY p.length = nI (4 - (d + 1)) →
          ((nx (4 * n + (4 - d) - 1) = 0 → wX_walk_25 post x2 x3 x4 f (nI x) (nI p.length) fu fa fl fy (fz_c nx) (fz_c en) (fz_c wd) aH aC aE (fz_c rt) aW aL aD aP (upd aY p.length (nI (4 - d))) aS aT aN aR aM aQ aB) ∧ (nx (4 * n + (4 - d) - 1) ≠ 0 → (x3 = 0 → wpX_step (fun r u => match u with | (g1, g2, g3, g4, h1, h2, h3, h4, h5, h6, h7, h8, k1, k2, k3, k4, k5, k6, k7, k8, k9, m1, m2) => wX_walk_129 post (wX_walk_25 post x2 x3 x4 f) x2 x3 x4 (nI x) (nI p.length) (nI (nx (4 * n + (4 - d) - 1))) r g1 g2 g3 g4 h1 h2 h3 h4 h5 h6 h7 h8 k1 k2 k3 k4 k5 k6 k7 k8 k9 m1 m2) (fu, fa, fl, fy, fz_c nx, fz_c en, fz_c wd, aH, aC, aE, fz_c rt, aW, aL, aD, aP, upd aY p.length (nI (4 - d)), aS, aT, aN, aR, aM, aQ, aB) (nI p.length + 1) (nI (4 - d))) ∧ (¬ x3 = 0 → wpX_row (fun r u => match u with | (g1, g2, g3, g4, h1, h2, h3, h4, h5, h6, h7, h8, k1, k2, k3, k4, k5, k6, k7, k8, k9, m1, m2) => wX_walk_129 post (wX_walk_25 post x2 x3 x4 f) x2 x3 x4 (nI x) (nI p.length) (nI (nx (4 * n + (4 - d) - 1))) r g1 g2 g3 g4 h1 h2 h3 h4 h5 h6 h7 h8 k1 k2 k3 k4 k5 k6 k7 k8 k9 m1 m2) (fu, fa, fl, fy, fz_c nx, fz_c en, fz_c wd, aH, aC, aE, fz_c rt, aW, aL, aD, aP, upd aY p.length (nI (4 - d)), aS, aT, aN, aR, aM, aQ, aB) (nI p.length + 1) (nI (4 - d)) x4))) →
          wX_walk_25 post x2 x3 x4 (f + 1) (nI x) (nI p.length) fu fa fl fy (fz_c nx) (fz_c en) (fz_c wd) aH aC aE (fz_c rt) aW aL aD aP aY aS aT aN aR aM aQ aB := by
        intro f x aP aY aR aM aQ hP hY GO
        refine br_f (nI_pos (by omega)) ⟨i7, nm_r (e' := nI n) (by rw [nI_clamp (by omega), hP]) (br_f (nI_ne0 (by omega) (by omega)) ⟨i7, br_f ?_ ⟨i7, i7, nm_r (e' := upd aY p.length (nI (4 - d))) (by rw [e84 aY hY, fz_nb (by omega), nI_clamp (by omega)]) (nm_r (e84 aY hY) ⟨by rw [ei]; exact vp_in_nI (by omega) (by omega), nm_r (fz_ca nx ei (by omega)) ?_⟩)⟩⟩)⟩
        · rw [nI_clamp (by omega), hY]
          exact fun e => by have := (nI_eq (a := 4 - (d + 1)) (b := 4) (by omega) (by decide)).mp e; omega
        · by_cases z : nx (4 * n + (4 - d) - 1) = 0
          · exact br_t (by rw [z]; rfl) (GO.1 z)
          · exact br_f (nI_ne0 (by omega) (by omega)) (GO.2 z)
      have up0 : ∀ aY : Nat → Int32, fz_lr aY 0 p → fz_lr (upd aY p.length (nI (4 - d))) 0 p := fun aY h => fz_lr_upd (Or.inr (by omega)) h
      by_cases z : nx (4 * n + (4 - d) - 1) = 0
      · -- no node there
        have m0 : fz_fm fits (p ++ [4 - d]) (L (nx (4 * n + (4 - d) - 1))) = [] := by
          rw [z, g.2.1]; rfl
        rw [m0, List.nil_append] at ms
        refine ⟨T1 + 1, ?_⟩
        intro f x aP aY aR aM aQ hP hY hl hI RET CONT
        rw [ms] at RET CONT
        refine HEAD (f + T1) x aP aY aR aM aQ hP hY ⟨fun _ => ?_, fun h => absurd z h⟩
        refine H1 f x aP _ aR aM aQ hP pk_us (up0 aY hl) hI RET (fun h aP' aY' aR' aM' aQ' fr hI' => CONT h aP' aY' aR' aM' aQ' (fun i hi => ⟨(fr i hi).1, ?_⟩) hI')
        rw [(fr i hi).2, pk_un (by omega)]
      · have kA := fz_Nd_A kN z
        have hbk : fz_hb m (L (nx (4 * n + (4 - d) - 1))) := by rw [kr]; exact fz_hb_rs hb
        have m0 : m ≠ 0 := fun e => by
          subst e
          exact fz_gr_ne g kA (fz_hb_0 hbk)
        have hpc : fz_lw (p ++ [4 - d]) := fz_lw_app.mpr ⟨hp, fz_lw_cons c1 c4 fz_lw_nil⟩
        have lpc : (p ++ [4 - d]).length = p.length + 1 := by simp
        by_cases go : goes (p ++ [4 - d])
        · obtain ⟨T2, H2⟩ := ihm 4 (nx (4 * n + (4 - d) - 1)) (p ++ [4 - d]) (by omega) kA hbk (by rw [lpc]; omega) hpc
          have gl := fz_gr_gl g kA
          have e1 := fz_gr_e1 g kA
          refine ⟨T1 + T2 + 1, ?_⟩
          intro f x aP aY aR aM aQ hP hY hl hI RET CONT
          rw [ms] at RET CONT
          rw [show f + (T1 + T2 + 1) = (f + T1 + T2) + 1 by omega]
          refine HEAD (f + T1 + T2) x aP aY aR aM aQ hP hY ⟨fun h => absurd h z, fun _ => ?_⟩
          refine hgo p (4 - d) aP (upd aY p.length (nI (4 - d))) aR aM aQ _ hp (by omega) c1 c4 (up0 aY hl) hI (fun _ aR' aM' aQ' hI' => ?_) (fun h => absurd go h)
          have E1 : nI p.length + 1 = nI (p.length + 1) := nI_1 _
          have i7' : vp_in (nI (p.length + 1)) 7 := vp_in_nI (by omega) (by omega)
          refine br_f (by decide) (nm_r E1 ⟨i7', nm_r (e' := upd aP (p.length + 1) (nI (nx (4 * n + (4 - d) - 1)))) (by rw [fz_ns2 (by omega), nI_clamp (by omega)]) ⟨i7', nm_r (e' := upd (upd aY p.length (nI (4 - d))) (p.length + 1) (nI 0)) (by rw [nI_clamp (by omega)]; exact congrArg (upd _ _) (fz_nb (n := 0) (by decide))) ⟨vp_in_nI kl (by omega), ?_⟩⟩⟩)
          rw [fz_ca en (i := nI (nx (4 * n + (4 - d) - 1))) rfl (by omega)]
          have lr2 : fz_lr (upd (upd aY p.length (nI (4 - d))) (p.length + 1) (nI 0)) 0 (p ++ [4 - d]) :=
            fz_lr_upd (Or.inr (by rw [lpc]; omega)) (fz_lr_snoc (up0 aY hl) (by rw [Nat.zero_add, pk_us]))
          -- from the node on: its own words, then the other letters
          have DEEP : ∀ x' : Nat, (∀ t w, (fz_fm fits (p ++ [4 - d]) (fz_gt (fun c => L (nx (4 * (nx (4 * n + (4 - d) - 1)) + c - 1))) 4) ++ fz_fm fits p (fz_gt (fun c => L (nx (4 * n + c - 1))) d))[t]? = some w → nI (x' + t) = x2 → ∀ aP aY aR aM aQ, post (nI (fz_en w)) (fu, fa, fl, fy, fz_c nx, fz_c en, fz_c wd, aH, aC, aE, fz_c rt, aW, aL, aD, aP, aY, aS, aT, aN, aR, aM, aQ, aB)) →
              ((∀ t, t < (fz_fm fits (p ++ [4 - d]) (fz_gt (fun c => L (nx (4 * (nx (4 * n + (4 - d) - 1)) + c - 1))) 4) ++ fz_fm fits p (fz_gt (fun c => L (nx (4 * n + c - 1))) d)).length → ¬ nI (x' + t) = x2) → ∀ aP' aY' aR aM aQ, (∀ i, i < p.length → aP' i = aP i ∧ aY' i = aY i) → Inf p aR aM aQ → wX_walk_25 post x2 x3 x4 f (nI (x' + (fz_fm fits (p ++ [4 - d]) (fz_gt (fun c => L (nx (4 * (nx (4 * n + (4 - d) - 1)) + c - 1))) 4) ++ fz_fm fits p (fz_gt (fun c => L (nx (4 * n + c - 1))) d)).length)) (nI p.length + (-1)) fu fa fl fy (fz_c nx) (fz_c en) (fz_c wd) aH aC aE (fz_c rt) aW aL aD aP' aY' aS aT aN aR aM aQ aB) →
              wX_walk_25 post x2 x3 x4 (f + T1 + T2) (nI x') (nI (p.length + 1)) fu fa fl fy (fz_c nx) (fz_c en) (fz_c wd) aH aC aE (fz_c rt) aW aL aD (upd aP (p.length + 1) (nI (nx (4 * n + (4 - d) - 1)))) (upd (upd aY p.length (nI (4 - d))) (p.length + 1) (nI 0)) aS aT aN aR' aM' aQ' aB := by
            intro x' RET' CONT'
            have G2 := H2 (f + T1) x' (upd aP (p.length + 1) (nI (nx (4 * n + (4 - d) - 1)))) (upd (upd aY p.length (nI (4 - d))) (p.length + 1) (nI 0)) aR' aM' aQ' (by rw [lpc, pk_us]) (by rw [lpc, pk_us]) lr2 hI'
            rw [lpc] at G2
            refine G2 (fun t w ht e => RET' t w ?_ e) ?_
            · have lt : t < (fz_fm fits (p ++ [4 - d]) (fz_gt (fun c => L (nx (4 * (nx (4 * n + (4 - d) - 1)) + c - 1))) 4)).length := by
                rcases Nat.lt_or_ge t (fz_fm fits (p ++ [4 - d]) (fz_gt (fun c => L (nx (4 * (nx (4 * n + (4 - d) - 1)) + c - 1))) 4)).length with q | q
                · exact q
                · rw [List.getElem?_eq_none q] at ht; cases ht
              rw [List.getElem?_append_left lt]; exact ht
            · intro hno aP3 aY3 aR3 aM3 aQ3 fr3 hI3
              rw [pk_m1]
              have f1 : aP3 p.length = nI n := by rw [(fr3 p.length (by omega)).1, pk_un (by omega), hP]
              have f2 : aY3 p.length = nI (4 - d) := by rw [(fr3 p.length (by omega)).2, pk_un (by omega), pk_us]
              have fr4 : ∀ i, i < p.length → aP3 i = aP i ∧ aY3 i = aY i := fun i hi => by
                rw [(fr3 i (by omega)).1, (fr3 i (by omega)).2, pk_un (by omega), pk_un (by omega), pk_un (by omega)]
                exact ⟨rfl, rfl⟩
              have lr3 : fz_lr aY3 0 p := by
                have key : ∀ (r : List Nat) (k : Nat), k + r.length ≤ p.length → fz_lr aY k r → fz_lr aY3 k r := by
                  intro r
                  induction r with
                  | nil => intro k _ _; trivial
                  | cons c r ih =>
                    intro k hk h
                    simp only [List.length_cons] at hk
                    exact ⟨by rw [(fr4 k (by omega)).2]; exact h.1, ih (k + 1) (by omega) h.2⟩
                exact key p 0 (by omega) hl
              refine H1 f _ aP3 aY3 aR3 aM3 aQ3 f1 f2 lr3 (hdown _ _ _ _ _ hI3) ?_ ?_
              · intro t w ht e
                refine RET' ((fz_fm fits (p ++ [4 - d]) (fz_gt (fun c => L (nx (4 * (nx (4 * n + (4 - d) - 1)) + c - 1))) 4)).length + t) w ?_ ?_
                · rw [List.getElem?_append_right (by omega), Nat.add_sub_cancel_left]; exact ht
                · rw [← Nat.add_assoc]; exact e
              · intro hno2 aP' aY' aR2 aM2 aQ2 fr hI2
                have C := CONT' (fun t ht => by
                  rw [List.length_append] at ht
                  by_cases q : t < (fz_fm fits (p ++ [4 - d]) (fz_gt (fun c => L (nx (4 * (nx (4 * n + (4 - d) - 1)) + c - 1))) 4)).length
                  · exact hno t q
                  · have := hno2 (t - (fz_fm fits (p ++ [4 - d]) (fz_gt (fun c => L (nx (4 * (nx (4 * n + (4 - d) - 1)) + c - 1))) 4)).length) (by omega)
                    rw [show x' + (fz_fm fits (p ++ [4 - d]) (fz_gt (fun c => L (nx (4 * (nx (4 * n + (4 - d) - 1)) + c - 1))) 4)).length + (t - (fz_fm fits (p ++ [4 - d]) (fz_gt (fun c => L (nx (4 * (nx (4 * n + (4 - d) - 1)) + c - 1))) 4)).length) = x' + t by omega] at this
                    exact this) aP' aY' aR2 aM2 aQ2 (fun i hi => ⟨(fr i hi).1.trans (fr4 i hi).1, (fr i hi).2.trans (fr4 i hi).2⟩) hI2
                rw [List.length_append, ← Nat.add_assoc] at C
                exact C
          have lk : ∀ y : List (List Nat), y = fz_gl (en (nx (4 * n + (4 - d) - 1))) (fun c => L (nx (4 * (nx (4 * n + (4 - d) - 1)) + c - 1))) → y = (if en (nx (4 * n + (4 - d) - 1)) = 0 then [] else [[]]) ++ fz_gt (fun c => L (nx (4 * (nx (4 * n + (4 - d) - 1)) + c - 1))) 4 := fun y h => h
          have lk2 := lk _ gl
          by_cases y : en (nx (4 * n + (4 - d) - 1)) = 0
          · rw [if_pos y, List.nil_append] at lk2
            rw [lk2] at RET CONT
            refine br_t (by rw [y]; rfl) (br_t rfl ?_)
            exact DEEP x RET CONT
          · rw [if_neg y] at lk2
            rw [lk2, fz_fm_app] at RET CONT
            refine br_f (nI_ne0 (by omega) (by omega)) ?_
            have FT := hfit (p ++ [4 - d]) aR' aM' aQ' (wX_walk_218 post (wX_walk_25 post x2 x3 x4 (f + T1 + T2)) x2 x3 x4 (nI x) (nI (p.length + 1)) fu fa fl fy (fz_c nx) (fz_c en) (fz_c wd) aH aC aE (fz_c rt) aW aL aD (upd aP (p.length + 1) (nI (nx (4 * n + (4 - d) - 1)))) (upd (upd aY p.length (nI (4 - d))) (p.length + 1) (nI 0)) aS aT aN aR' aM' aQ' aB) (wX_walk_214 post (wX_walk_25 post x2 x3 x4 (f + T1 + T2)) x2 x3 x4 (nI x) (nI (p.length + 1)) fu fa fl fy (fz_c nx) (fz_c en) (fz_c wd) aH aC aE (fz_c rt) aW aL aD (upd aP (p.length + 1) (nI (nx (4 * n + (4 - d) - 1)))) (upd (upd aY p.length (nI (4 - d))) (p.length + 1) (nI 0)) aS aT aN aR' aM' aQ' aB) (by rw [lpc]; omega) (by rw [lpc]; omega) hI'
            rw [lpc] at FT
            refine FT (fun ft => ?_) (fun nf => ?_)
            · rw [fz_fm_1 ft] at RET CONT
              refine br_f (by decide) ?_
              by_cases q : nI x = x2
              · refine br_t q ?_
                have AL := fun K : Int32 → Prop => fun hK => fz_x_along (post := K) (fu := fu) (fa := fa) (fl := fl) (fy := fy) (nx := nx) (en := en) (wd := wd) (rt := rt) (aH := aH) (aC := aC) (aE := aE) (aW := aW) (aL := aL) (aD := aD) (aP := upd aP (p.length + 1) (nI (nx (4 * n + (4 - d) - 1)))) (aS := aS) (aT := aT) (aN := aN) (aR := aR') (aM := aM') (aQ := aQ') (aB := aB) (q := p ++ [4 - d]) (by rw [lpc]; omega) lr2 hK
                rw [lpc] at AL
                exact AL _ (RET 0 (p ++ [4 - d]) rfl q _ _ _ _ _)
              · refine br_f q (nm_r (nI_1 x) (DEEP (x + 1) (fun t w ht e => RET (t + 1) w ?_ ?_) (fun hno => ?_)))
                · rw [List.append_assoc]; exact ht
                · rw [show x + (t + 1) = x + 1 + t by omega]; exact e
                · have C := CONT (fun t ht => by
                    cases t with
                    | zero => exact q
                    | succ t =>
                      have := hno t (by rw [List.append_assoc, List.length_append, List.length_singleton] at ht; omega)
                      rw [show x + 1 + t = x + (t + 1) by omega] at this
                      exact this)
                  rw [List.append_assoc, List.length_append, List.length_singleton, ← Nat.add_assoc] at C
                  exact C
            · rw [fz_fm_0 nf, List.nil_append] at RET CONT
              exact br_t rfl (DEEP x RET CONT)
        · -- passed over
          have mz : fz_fm fits (p ++ [4 - d]) (L (nx (4 * n + (4 - d) - 1))) = [] := fz_fm_none (hpr _ go) _
          rw [mz, List.nil_append] at ms
          refine ⟨T1 + 1, ?_⟩
          intro f x aP aY aR aM aQ hP hY hl hI RET CONT
          rw [ms] at RET CONT
          refine HEAD (f + T1) x aP aY aR aM aQ hP hY ⟨fun h => absurd h z, fun _ => ?_⟩
          refine hgo p (4 - d) aP (upd aY p.length (nI (4 - d))) aR aM aQ _ hp (by omega) c1 c4 (up0 aY hl) hI (fun h => absurd h go) (fun _ aR' aM' aQ' hI' => ?_)
          refine br_t rfl ?_
          refine H1 f x aP _ aR' aM' aQ' hP pk_us (up0 aY hl) (hdown _ _ _ _ _ hI') RET (fun h aP' aY' aR2 aM2 aQ2 fr hI2 => CONT h aP' aY' aR2 aM2 aQ2 (fun i hi => ⟨(fr i hi).1, ?_⟩) hI2)
          rw [(fr i hi).2, pk_un (by omega)]
end
end
section
/-! answers of a search; distances -/
def fz_an (x2 : Int32) (M : List (List Nat)) (r : Int32) : Prop := (∃ t w, M[t]? = some w ∧ nI t = x2 ∧ r = nI (fz_en w)) ∨ ((∀ t, t < M.length → ¬ nI t = x2) ∧ ((x2 = -1 ∧ r = nI M.length) ∨ (¬ x2 = -1 ∧ r = 0)))
theorem fz_an_un {x2 r r' : Int32} {M : List (List Nat)} (hM : M.length < 1000) (h : fz_an x2 M r) (h' : fz_an x2 M r') : r = r' := by
  have lt : ∀ {t w}, M[t]? = some w → t < M.length := fun {t w} e => by
    rcases Nat.lt_or_ge t M.length with z | z
    · exact z
    · rw [List.getElem?_eq_none z] at e; cases e
  rcases h with ⟨t, w, e1, e2, e3⟩ | ⟨n, e⟩
  · rcases h' with ⟨t', w', f1, f2, f3⟩ | ⟨n', _⟩
    · have := lt e1
      have := lt f1
      have : t = t' := (nI_eq (by omega) (by omega)).mp (e2.trans f2.symm)
      subst this
      rw [e1] at f1
      rw [e3, f3, Option.some.inj f1]
    · exact absurd e2 (n' t (lt e1))
  · rcases h' with ⟨t', w', f1, f2, f3⟩ | ⟨n', f⟩
    · exact absurd f2 (n t' (lt f1))
    · rcases e with ⟨a, b⟩ | ⟨a, b⟩ <;> rcases f with ⟨c, d⟩ | ⟨c, d⟩
      · rw [b, d]
      · exact absurd a c
      · exact absurd c a
      · rw [b, d]
section
variable {fu fa fl fy : Int32} {nx en wd rt : Nat → Nat} {aH aC aE aW aL aD aP aY aS aT aN aR aM aQ aB : Nat → Int32} {F : List Nat} {L : Nat → List (List Nat)}
theorem fz_x_walk {post : Int32 → SX → Prop} {x2 x3 x4 : Int32} {fits goes : List Nat → Prop} {Inf : List Nat → (Nat → Int32) → (Nat → Int32) → (Nat → Int32) → Prop} {s : Nat} (g : fz_Gr nx en wd F L) (hs : s < 5) (rN : fz_Nd F (rt s)) (h0 : ¬ [] ∈ L (rt s))
    (hdown : ∀ p c aR aM aQ, Inf (p ++ [c]) aR aM aQ → Inf p aR aM aQ)
    (hgo : ∀ (p : List Nat) (c : Nat) (aP aY aR aM aQ : Nat → Int32) (K : Int32 → SX → Prop), fz_lw p → p.length < 5 → 1 ≤ c → c ≤ 4 → fz_lr aY 0 p → Inf p aR aM aQ → (goes (p ++ [c]) → ∀ aR' aM' aQ', Inf (p ++ [c]) aR' aM' aQ' → K 1 (fu, fa, fl, fy, fz_c nx, fz_c en, fz_c wd, aH, aC, aE, fz_c rt, aW, aL, aD, aP, aY, aS, aT, aN, aR', aM', aQ', aB)) → (¬ goes (p ++ [c]) → ∀ aR' aM' aQ', Inf (p ++ [c]) aR' aM' aQ' → K 0 (fu, fa, fl, fy, fz_c nx, fz_c en, fz_c wd, aH, aC, aE, fz_c rt, aW, aL, aD, aP, aY, aS, aT, aN, aR', aM', aQ', aB)) → (x3 = 0 → wpX_step K (fu, fa, fl, fy, fz_c nx, fz_c en, fz_c wd, aH, aC, aE, fz_c rt, aW, aL, aD, aP, aY, aS, aT, aN, aR, aM, aQ, aB) (nI p.length + 1) (nI c)) ∧ (¬ x3 = 0 → wpX_row K (fu, fa, fl, fy, fz_c nx, fz_c en, fz_c wd, aH, aC, aE, fz_c rt, aW, aL, aD, aP, aY, aS, aT, aN, aR, aM, aQ, aB) (nI p.length + 1) (nI c) x4))
    (hfit : ∀ (p : List Nat) (aR aM aQ : Nat → Int32) (A B : Prop), 1 ≤ p.length → p.length ≤ 5 → Inf p aR aM aQ → (fits p → B) → (¬ fits p → A) → (x3 = 0 → (vp_in (nI p.length) 6 ∧ ((((aQ (nI p.length).toNatClampNeg) >>> (fy &&& 31)) &&& 1) = 0 → A) ∧ (¬ (((aQ (nI p.length).toNatClampNeg) >>> (fy &&& 31)) &&& 1) = 0 → B))) ∧ (¬ x3 = 0 → (vp_in ((6 * nI p.length) + fl) 36 ∧ (x4 < (aR ((6 * nI p.length) + fl).toNatClampNeg) → A) ∧ (¬ x4 < (aR ((6 * nI p.length) + fl).toNatClampNeg) → B))))
    (hpr : ∀ p, ¬ goes p → ∀ q, ¬ fits (p ++ q)) (hI : Inf [] aR aM aQ)
    (P : ∀ r aP aY aR aM aQ, fz_an x2 (fz_fm fits [] (L (rt s))) r → post r (fu, fa, fl, fy, fz_c nx, fz_c en, fz_c wd, aH, aC, aE, fz_c rt, aW, aL, aD, aP, aY, aS, aT, aN, aR, aM, aQ, aB)) : wpX_walk post (fu, fa, fl, fy, fz_c nx, fz_c en, fz_c wd, aH, aC, aE, fz_c rt, aW, aL, aD, aP, aY, aS, aT, aN, aR, aM, aQ, aB) (nI s) x2 x3 x4 := by
  have rl := fz_Nd_lt rN
  have er : fz_c rt (nI s).toNatClampNeg = nI (rt s) := fz_ca rt rfl (by omega)
  refine And.intro (vp_in_nI hs (by omega)) (nm_r (e' := upd aP 0 (nI (rt s))) (by rw [er, fz_ns (by omega)]) (nm_r (e' := upd aY 0 (nI 0)) (congrArg (upd aY 0) (fz_nb (n := 0) (by decide))) ?_))
  have FIN : ∀ (M : List (List Nat)) (f : Nat) (aP aY aR aM aQ : Nat → Int32), M = fz_fm fits [] (L (rt s)) → (∀ t, t < M.length → ¬ nI t = x2) → wX_walk_25 post x2 x3 x4 (f + 1) (nI M.length) (-1) fu fa fl fy (fz_c nx) (fz_c en) (fz_c wd) aH aC aE (fz_c rt) aW aL aD aP aY aS aT aN aR aM aQ aB := by
    intro M f aP aY aR aM aQ eM hn
    refine br_t (by decide) ?_
    by_cases z : x2 = -1
    · exact br_t z (P _ _ _ _ _ _ (Or.inr ⟨by rw [← eM]; exact hn, Or.inl ⟨z, by rw [← eM]⟩⟩))
    · exact br_f z (P _ _ _ _ _ _ (Or.inr ⟨by rw [← eM]; exact hn, Or.inr ⟨z, rfl⟩⟩))
  by_cases z : rt s = 0
  · have e0 : fz_fm fits [] (L (rt s)) = [] := by rw [z, g.2.1]; rfl
    refine ⟨2, br_f (by decide) ⟨vp_in_nI (n := 0) (by omega) (by omega), nm_r (e' := nI 0) (by rw [sb_cl0, pk_us, z]) (br_t rfl (nm_r (e' := -1) (by decide) ?_))⟩⟩
    exact FIN [] 0 _ _ _ _ _ e0.symm (fun t ht => absurd ht (by simp))
  · have rA := fz_Nd_A rN z
    obtain ⟨T, HT⟩ := fz_x_walk25 (post := post) (x2 := x2) (x3 := x3) (x4 := x4) (fits := fits) (goes := goes) (Inf := Inf) (fu := fu) (fa := fa) (fl := fl) (fy := fy) (rt := rt) (aH := aH) (aC := aC) (aE := aE) (aW := aW) (aL := aL) (aD := aD) (aS := aS) (aT := aT) (aN := aN) (aB := aB) g hdown hgo hfit hpr 6 4 (rt s) [] (by omega) rA (fz_gr_hb g rN) (by simp) fz_lw_nil
    have eM : fz_fm fits [] (fz_gt (fun c => L (nx (4 * (rt s) + c - 1))) 4) = fz_fm fits [] (L (rt s)) := by
      have e1 := fz_gr_gl g rA
      have ee : en (rt s) = 0 := by
        rw [fz_gr_en g rA]
        unfold fz_eb; rw [if_neg h0]
      rw [ee] at e1
      conv => rhs; rw [e1]
      rfl
    refine ⟨1 + T, HT 1 0 _ _ aR aM aQ pk_us pk_us trivial hI (fun t w ht e aP aY aR aM aQ => P _ _ _ _ _ _ (Or.inl ⟨t, w, by rw [← eM]; exact ht, by rw [Nat.zero_add] at e; exact e, rfl⟩)) (fun hn aP' aY' aR' aM' aQ' _ _ => ?_)⟩
    rw [Nat.zero_add]
    exact FIN _ 0 _ _ _ _ _ eM (fun t ht => by have := hn t ht; rw [Nat.zero_add] at this; exact this)
end
/-! the distance -/
def fz_dd (x y : List Nat) : Nat → Nat → Nat
  | 0, j => j
  | i + 1, 0 => i + 1
  | i + 1, j + 1 => min (min (fz_dd x y i j + (if x.getD i 0 = y.getD j 0 then 0 else 1)) (fz_dd x y i (j + 1) + 1)) (min (fz_dd x y (i + 1) j + 1) (if 1 ≤ i ∧ 1 ≤ j ∧ x.getD i 0 = y.getD (j - 1) 0 ∧ x.getD (i - 1) 0 = y.getD j 0 then fz_dd x y (i - 1) (j - 1) + 1 else fz_dd x y (i + 1) j + 1))
termination_by i j => i + j
theorem fz_dd_0 (x y : List Nat) (j : Nat) : fz_dd x y 0 j = j := by rw [fz_dd]
theorem fz_dd_i (x y : List Nat) (i : Nat) : fz_dd x y i 0 = i := by
  cases i with
  | zero => rw [fz_dd]
  | succ i => rw [fz_dd]
theorem fz_dd_le (x y : List Nat) : ∀ i j, fz_dd x y i j ≤ i + j
  | 0, j => by rw [fz_dd]; omega
  | i + 1, 0 => by rw [fz_dd]; omega
  | i + 1, j + 1 => by
    have := fz_dd_le x y i (j + 1)
    rw [fz_dd]; omega
theorem fz_dd_sym (x y : List Nat) : ∀ (n i j : Nat), i + j ≤ n → fz_dd x y i j = fz_dd y x j i := by
  intro n
  induction n with
  | zero =>
    intro i j h
    have e1 : i = 0 := by omega
    have e2 : j = 0 := by omega
    subst e1 e2
    rw [fz_dd_0, fz_dd_0]
  | succ n ih =>
    intro i j h
    cases i with
    | zero => rw [fz_dd_0, fz_dd_i]
    | succ i =>
      cases j with
      | zero => rw [fz_dd_0, fz_dd_i]
      | succ j =>
        have h1 := ih i j (by omega)
        have h2 := ih i (j + 1) (by omega)
        have h3 := ih (i + 1) j (by omega)
        have h4 := ih (i - 1) (j - 1) (by omega)
        rw [fz_dd, fz_dd, h1, h2, h3, h4]
        by_cases q : x.getD i 0 = y.getD j 0
        · rw [if_pos q, if_pos q.symm]
          by_cases c : 1 ≤ i ∧ 1 ≤ j ∧ x.getD i 0 = y.getD (j - 1) 0 ∧ x.getD (i - 1) 0 = y.getD j 0
          · rw [if_pos c, if_pos ⟨c.2.1, c.1, c.2.2.2.symm, c.2.2.1.symm⟩]; omega
          · have c2 : ¬ (1 ≤ j ∧ 1 ≤ i ∧ y.getD j 0 = x.getD (i - 1) 0 ∧ y.getD (j - 1) 0 = x.getD i 0) := fun c' => c ⟨c'.2.1, c'.1, c'.2.2.2.symm, c'.2.2.1.symm⟩
            rw [if_neg c, if_neg c2]; omega
        · have q' : ¬ y.getD j 0 = x.getD i 0 := fun e => q e.symm
          rw [if_neg q, if_neg q']
          by_cases c : 1 ≤ i ∧ 1 ≤ j ∧ x.getD i 0 = y.getD (j - 1) 0 ∧ x.getD (i - 1) 0 = y.getD j 0
          · rw [if_pos c, if_pos ⟨c.2.1, c.1, c.2.2.2.symm, c.2.2.1.symm⟩]; omega
          · have c2 : ¬ (1 ≤ j ∧ 1 ≤ i ∧ y.getD j 0 = x.getD (i - 1) 0 ∧ y.getD (j - 1) 0 = x.getD i 0) := fun c' => c ⟨c'.2.1, c'.1, c'.2.2.2.symm, c'.2.2.1.symm⟩
            rw [if_neg c, if_neg c2]; omega
theorem fz_gd_app {p q : List Nat} {i : Nat} (h : i < p.length) : (p ++ q).getD i 0 = p.getD i 0 := by
  rw [List.getD_eq_getElem?_getD, List.getD_eq_getElem?_getD, List.getElem?_append_left h]
theorem fz_dd_app (p q y : List Nat) : ∀ (n i j : Nat), i + j ≤ n → i ≤ p.length → fz_dd (p ++ q) y i j = fz_dd p y i j := by
  intro n
  induction n with
  | zero =>
    intro i j h _
    have e1 : i = 0 := by omega
    subst e1
    rw [fz_dd_0, fz_dd_0]
  | succ n ih =>
    intro i j h hi
    cases i with
    | zero => rw [fz_dd_0, fz_dd_0]
    | succ i =>
      cases j with
      | zero => rw [fz_dd_i, fz_dd_i]
      | succ j =>
        have h1 := ih i j (by omega) (by omega)
        have h2 := ih i (j + 1) (by omega) (by omega)
        have h3 := ih (i + 1) j (by omega) (by omega)
        have h4 := ih (i - 1) (j - 1) (by omega) (by omega)
        rw [fz_dd, fz_dd, h1, h2, h3, h4, fz_gd_app (by omega), fz_gd_app (show i - 1 < p.length by omega)]
def fz_lm (x y : List Nat) (i : Nat) : Nat → Nat
  | 0 => fz_dd x y i 0
  | j + 1 => min (fz_lm x y i j) (fz_dd x y i (j + 1))
theorem fz_lm_le {x y : List Nat} {i j k : Nat} (h : k ≤ j) : fz_lm x y i j ≤ fz_dd x y i k := by
  induction j with
  | zero =>
    have : k = 0 := by omega
    subst this
    exact Nat.le_refl _
  | succ j ih =>
    simp only [fz_lm]
    by_cases z : k = j + 1
    · subst z; omega
    · have := ih (by omega); omega
theorem fz_lm_app {p q y : List Nat} {i : Nat} (hi : i ≤ p.length) : ∀ j, fz_lm (p ++ q) y i j = fz_lm p y i j
  | 0 => by simp only [fz_lm]; rw [fz_dd_app p q y _ i 0 (Nat.le_refl _) hi]
  | j + 1 => by simp only [fz_lm]; rw [fz_lm_app hi j, fz_dd_app p q y _ i (j + 1) (Nat.le_refl _) hi]
def fz_nf (w : List Nat) (d : Nat) (p : List Nat) : Prop := fz_dd p w p.length w.length ≤ d
def fz_ng (w : List Nat) (d : Nat) (p : List Nat) : Prop := fz_lm p w p.length w.length ≤ d ∨ fz_lm p w (p.length - 1) w.length < d
theorem fz_prune {w : List Nat} {d : Nat} {p : List Nat} (h : ¬ fz_ng w d p) (q : List Nat) : ¬ fz_nf w d (p ++ q) := by
  have h1 : d < fz_lm p w p.length w.length := Nat.lt_of_not_le (fun z => h (Or.inl z))
  have h2 : d ≤ fz_lm p w (p.length - 1) w.length := Nat.le_of_not_lt (fun z => h (Or.inr z))
  have p0 : d < p.length := by
    have := fz_lm_le (x := p) (y := w) (i := p.length) (j := w.length) (k := 0) (by omega)
    rw [fz_dd_i] at this
    omega
  have key : ∀ (n i j : Nat), i + j ≤ n → p.length ≤ i → j ≤ w.length → d < fz_dd (p ++ q) w i j := by
    intro n
    induction n with
    | zero => intro i j a b c; omega
    | succ n ih =>
      intro i j a b c
      by_cases z : i = p.length
      · subst z
        rw [fz_dd_app p q w _ _ j (Nat.le_refl _) (Nat.le_refl _)]
        have := fz_lm_le (x := p) (y := w) (i := p.length) c
        omega
      · obtain ⟨i', rfl⟩ : ∃ i', i = i' + 1 := ⟨i - 1, by omega⟩
        cases j with
        | zero => rw [fz_dd_i]; omega
        | succ j =>
          have a1 := ih i' j (by omega) (by omega) (by omega)
          have a2 := ih i' (j + 1) (by omega) (by omega) c
          have a3 := ih (i' + 1) j (by omega) (by omega) (by omega)
          have a4 : d < fz_dd (p ++ q) w (i' - 1) (j - 1) + 1 := by
            by_cases y : i' = p.length
            · subst y
              rw [fz_dd_app p q w _ (p.length - 1) (j - 1) (Nat.le_refl _) (by omega)]
              have := fz_lm_le (x := p) (y := w) (i := p.length - 1) (j := w.length) (k := j - 1) (by omega)
              omega
            · have := ih (i' - 1) (j - 1) (by omega) (by omega) (by omega)
              omega
          rw [fz_dd]
          by_cases c2 : 1 ≤ i' ∧ 1 ≤ j ∧ (p ++ q).getD i' 0 = w.getD (j - 1) 0 ∧ (p ++ q).getD (i' - 1) 0 = w.getD j 0
          · rw [if_pos c2]; omega
          · rw [if_neg c2]; omega
  unfold fz_nf
  have := key _ (p ++ q).length w.length (Nat.le_refl _) (by rw [List.length_append]; omega) (Nat.le_refl _)
  omega
end
section
/-! near: the component's rows of distances -/
theorem fz_sb {a b j : Nat} (h : b ≤ a + j) : nI a - nI b + nI j = nI (a + j - b) := by
  have e : nI a - nI b + nI j = nI a + nI j - nI b := by grind
  rw [e, nI_add, pk_sub h]
theorem fz_x_small {post : Int32 → Prop} {a b : Nat} (ha : a < 2 ^ 31) (hb : b < 2 ^ 31) (hp : post (nI (min a b))) : wpX_smaller post (nI a) (nI b) := by
  by_cases z : b ≤ a
  · rw [Nat.min_eq_right z] at hp
    exact br_t (nI_le z ha) hp
  · rw [Nat.min_eq_left (by omega)] at hp
    exact br_f (nI_ge (by omega) hb) hp
def fz_In (w p : List Nat) (aR aM _aQ : Nat → Int32) : Prop := ∀ i, i ≤ p.length → (∀ j, j ≤ w.length → aR (6 * i + j) = nI (fz_dd p w i j)) ∧ aM i = nI (fz_lm p w i w.length)
theorem fz_In_down {w p : List Nat} {c : Nat} {aR aM aQ : Nat → Int32} (h : fz_In w (p ++ [c]) aR aM aQ) : fz_In w p aR aM aQ := by
  intro i hi
  obtain ⟨a, b⟩ := h i (by rw [List.length_append]; omega)
  refine ⟨fun j hj => ?_, ?_⟩
  · rw [a j hj, fz_dd_app p [c] w _ i j (Nat.le_refl _) hi]
  · rw [b, fz_lm_app hi]
section
variable {fu fa fl fy : Int32} {nx en wd rt : Nat → Nat} {aH aC aE aW aL aD aP aY aS aT aN aQ aB : Nat → Int32} {F : List Nat} {L : Nat → List (List Nat)}
theorem fz_x_row26 {post : Int32 → SX → Prop} {w p : List Nat} {c d : Nat} (w5 : w.length ≤ 5) (p5 : p.length < 5) (c4 : c ≤ 4) (hd : d < 100) (hl : fz_lr aL 0 w) (hy : fz_lr aY 0 p) (hp4 : fz_lw p) (hw4 : fz_lw w)
    (P1 : fz_ng w d (p ++ [c]) → ∀ aR aM, fz_In w (p ++ [c]) aR aM aQ → post 1 (fu, fa, nI w.length, fy, fz_c nx, fz_c en, fz_c wd, aH, aC, aE, fz_c rt, aW, aL, aD, aP, aY, aS, aT, aN, aR, aM, aQ, aB)) (P0 : ¬ fz_ng w d (p ++ [c]) → ∀ aR aM, fz_In w (p ++ [c]) aR aM aQ → post 0 (fu, fa, nI w.length, fy, fz_c nx, fz_c en, fz_c wd, aH, aC, aE, fz_c rt, aW, aL, aD, aP, aY, aS, aT, aN, aR, aM, aQ, aB)) :
    ∀ (e j f : Nat) (aR aM : Nat → Int32), j + e = w.length → e < f → (∀ i, i ≤ p.length → (∀ k, k ≤ w.length → aR (6 * i + k) = nI (fz_dd (p ++ [c]) w i k)) ∧ aM i = nI (fz_lm (p ++ [c]) w i w.length)) → (∀ k, k ≤ j → aR (6 * (p.length + 1) + k) = nI (fz_dd (p ++ [c]) w (p.length + 1) k)) → aM (p.length + 1) = nI (fz_lm (p ++ [c]) w (p.length + 1) j) → wX_row_26 post (nI (p.length + 1)) (nI c) (nI d) (nI (6 * (p.length + 1))) fu fa (nI w.length) fy f (nI (j + 1)) (fz_c nx) (fz_c en) (fz_c wd) aH aC aE (fz_c rt) aW aL aD aP aY aS aT aN aR aM aQ aB
  | _, _, 0, _, _, _, h, _, _, _ => by omega
  | e, j, f + 1, aR, aM, hj, hf, hold, hrow, hleast => by
    have lq : (p ++ [c]).length = p.length + 1 := by simp
    have i6 : vp_in (nI (p.length + 1)) 6 := vp_in_nI (by omega) (by omega)
    have dl := fun i k => fz_dd_le (p ++ [c]) w i k
    have ll : ∀ i, i ≤ 5 → ∀ k, fz_lm (p ++ [c]) w i k ≤ 5 := fun i hi k => by
      have := fz_lm_le (x := p ++ [c]) (y := w) (i := i) (j := k) (k := 0) (by omega)
      rw [fz_dd_i] at this; omega
    cases e with
    | zero =>
      have ej : j = w.length := by omega
      subst ej
      have IN : fz_In w (p ++ [c]) aR aM aQ := by
        intro i hi
        rw [lq] at hi
        by_cases z : i = p.length + 1
        · subst z; exact ⟨hrow, hleast⟩
        · exact hold i (by omega)
      refine br_t (nI_lt (by omega) (by omega)) ⟨i6, ?_⟩
      rw [nI_clamp (by omega), hleast]
      have b1 := ll (p.length + 1) (by omega) w.length
      by_cases z : fz_lm (p ++ [c]) w (p.length + 1) w.length ≤ d
      · exact br_t (nI_le z (by omega)) (P1 (Or.inl (by rw [lq]; exact z)) aR aM IN)
      · have E1 : nI (p.length + 1) - 1 = nI p.length := nI_pred _
        refine br_f (nI_ge (by omega) (by omega)) ⟨by rw [E1]; exact vp_in_nI (by omega) (by omega), ?_⟩
        rw [E1, nI_clamp (by omega), (hold p.length (Nat.le_refl _)).2]
        have b2 := ll p.length (by omega) w.length
        by_cases y : fz_lm (p ++ [c]) w p.length w.length < d
        · exact br_f (nI_ge y (by omega)) (P1 (Or.inr (by rw [lq]; exact y)) aR aM IN)
        · refine br_t (nI_le (by omega) (by omega)) (P0 ?_ aR aM IN)
          rintro (q | q)
          · rw [lq] at q; exact z q
          · rw [lq] at q; exact y q
    | succ e =>
      have jw : j < w.length := by omega
      have qN : (p ++ [c]).getD p.length 0 = c := by
        rw [List.getD_eq_getElem?_getD, List.getElem?_append_right (Nat.le_refl _), Nat.sub_self]; rfl
      have i1 : nI (6 * (p.length + 1)) - 7 + nI (j + 1) = nI (6 * p.length + j) := by
        have := fz_sb (a := 6 * (p.length + 1)) (b := 7) (j := j + 1) (by omega)
        rw [show 6 * (p.length + 1) + (j + 1) - 7 = 6 * p.length + j by omega] at this
        exact this
      have i2 : nI (6 * (p.length + 1)) - 6 + nI (j + 1) = nI (6 * p.length + (j + 1)) := by
        have := fz_sb (a := 6 * (p.length + 1)) (b := 6) (j := j + 1) (by omega)
        rw [show 6 * (p.length + 1) + (j + 1) - 6 = 6 * p.length + (j + 1) by omega] at this
        exact this
      have i3 : nI (6 * (p.length + 1)) - 1 + nI (j + 1) = nI (6 * (p.length + 1) + j) := by
        have := fz_sb (a := 6 * (p.length + 1)) (b := 1) (j := j + 1) (by omega)
        rw [show 6 * (p.length + 1) + (j + 1) - 1 = 6 * (p.length + 1) + j by omega] at this
        exact this
      have j1 : nI (j + 1) - 1 = nI j := nI_pred _
      have v1 : aR (nI (6 * (p.length + 1)) - 7 + nI (j + 1)).toNatClampNeg = nI (fz_dd (p ++ [c]) w p.length j) := by
        rw [i1, nI_clamp (by omega)]; exact (hold p.length (Nat.le_refl _)).1 j (by omega)
      have v2 : aR (nI (6 * (p.length + 1)) - 6 + nI (j + 1)).toNatClampNeg = nI (fz_dd (p ++ [c]) w p.length (j + 1)) := by
        rw [i2, nI_clamp (by omega)]; exact (hold p.length (Nat.le_refl _)).1 (j + 1) (by omega)
      have v3 : aR (nI (6 * (p.length + 1)) - 1 + nI (j + 1)).toNatClampNeg = nI (fz_dd (p ++ [c]) w (p.length + 1) j) := by
        rw [i3, nI_clamp (by omega)]; exact hrow j (Nat.le_refl _)
      have la : ∀ k, k < w.length → aL k = nI (w.getD k 0) := fun k hk => by
        have := fz_lr_get hl (i := k) hk
        rw [Nat.zero_add] at this; exact this
      have wb : ∀ k, k < w.length → w.getD k 0 ≤ 4 := fun k hk => (fz_lw_get hw4 hk).2
      have b1 := dl p.length j
      have b2 := dl p.length (j + 1)
      have b3 := dl (p.length + 1) j
      have b0 := dl (p.length + 1) (j + 1)
      have U : fz_dd (p ++ [c]) w (p.length + 1) (j + 1) = min (min (fz_dd (p ++ [c]) w p.length j + (if c = w.getD j 0 then 0 else 1)) (fz_dd (p ++ [c]) w p.length (j + 1) + 1)) (min (fz_dd (p ++ [c]) w (p.length + 1) j + 1) (if 1 ≤ p.length ∧ 1 ≤ j ∧ c = w.getD (j - 1) 0 ∧ (p ++ [c]).getD (p.length - 1) 0 = w.getD j 0 then fz_dd (p ++ [c]) w (p.length - 1) (j - 1) + 1 else fz_dd (p ++ [c]) w (p.length + 1) j + 1)) := by
        rw [fz_dd, qN]
      -- the value is stored, and the least one
      have S178 : ∀ v, v = fz_dd (p ++ [c]) w (p.length + 1) (j + 1) → wX_row_178 post (wX_row_26 post (nI (p.length + 1)) (nI c) (nI d) (nI (6 * (p.length + 1))) fu fa (nI w.length) fy f) (nI (p.length + 1)) (nI c) (nI d) (nI (6 * (p.length + 1))) (nI (j + 1)) (nI v) fu fa (nI w.length) fy (fz_c nx) (fz_c en) (fz_c wd) aH aC aE (fz_c rt) aW aL aD aP aY aS aT aN aR aM aQ aB := by
        intro v ev
        have i4 : nI (6 * (p.length + 1)) + nI (j + 1) = nI (6 * (p.length + 1) + (j + 1)) := nI_add _ _
        have lb := ll (p.length + 1) (by omega) j
        refine And.intro (by rw [i4]; exact vp_in_nI (by omega) (by omega)) (nm_r (e' := upd aR (6 * (p.length + 1) + (j + 1)) (nI v)) (by rw [i4, nI_clamp (by omega), fz_nb2 (by omega)]) ⟨i6, ?_⟩)
        rw [nI_clamp (by omega), hleast]
        refine fz_x_small (by omega) (by omega) ⟨i6, nm_r (e' := upd aM (p.length + 1) (nI (min (fz_lm (p ++ [c]) w (p.length + 1) j) v))) (by rw [fz_nb2 (by omega)]) (nm_r (nI_1 _) ?_)⟩
        refine fz_x_row26 w5 p5 c4 hd hl hy hp4 hw4 P1 P0 e (j + 1) f _ _ (by omega) (by omega) ?_ ?_ ?_
        · intro i hi
          refine ⟨fun k hk => ?_, ?_⟩
          · rw [pk_un (by omega)]; exact (hold i hi).1 k hk
          · rw [pk_un (by omega)]; exact (hold i hi).2
        · intro k hk
          by_cases z : k = j + 1
          · rw [z, pk_us, ev]
          · rw [pk_un (by omega)]; exact hrow k (by omega)
        · rw [pk_us, ev]; rfl
      have S66 : ∀ s0, s0 = (if c = w.getD j 0 then 0 else 1) → wX_row_66 post (wX_row_26 post (nI (p.length + 1)) (nI c) (nI d) (nI (6 * (p.length + 1))) fu fa (nI w.length) fy f) (nI (p.length + 1)) (nI c) (nI d) (nI (6 * (p.length + 1))) (nI (j + 1)) (nI s0) (nI (fz_dd (p ++ [c]) w p.length j)) fu fa (nI w.length) fy (fz_c nx) (fz_c en) (fz_c wd) aH aC aE (fz_c rt) aW aL aD aP aY aS aT aN aR aM aQ aB := by
        intro s0 es
        rw [← es] at U
        have s1 : s0 ≤ 1 := by rw [es]; split <;> omega
        refine nm_r (nI_add _ _) ⟨by rw [i2]; exact vp_in_nI (by omega) (by omega), ?_⟩
        rw [v2, nI_1]
        refine fz_x_small (by omega) (by omega) ⟨by rw [i3]; exact vp_in_nI (by omega) (by omega), ?_⟩
        rw [v3, nI_1]
        refine fz_x_small (by omega) (by omega) ?_
        by_cases z1 : p.length = 0
        · rw [if_neg (fun q => by omega)] at U
          exact br_t (nI_le (b := 1) (by omega) (by decide)) (S178 _ (by omega))
        · refine br_f (nI_ge (a := 1) (by omega) (by omega)) ?_
          by_cases z2 : j = 0
          · rw [if_neg (fun q => by omega)] at U
            exact br_t (nI_le (b := 1) (by omega) (by decide)) (S178 _ (by omega))
          · have j2 : nI (j + 1) - 2 = nI (j - 1) := by
              show nI (j + 1) - nI 2 = _
              rw [pk_sub (by omega)]
              exact congrArg nI (by omega)
            have p2 : nI (p.length + 1) - 2 = nI (p.length - 1) := by
              show nI (p.length + 1) - nI 2 = _
              rw [pk_sub (by omega)]
              exact congrArg nI (by omega)
            have i5 : nI (6 * (p.length + 1)) - 14 + nI (j + 1) = nI (6 * (p.length - 1) + (j - 1)) := by
              have := fz_sb (a := 6 * (p.length + 1)) (b := 14) (j := j + 1) (by omega)
              rw [show 6 * (p.length + 1) + (j + 1) - 14 = 6 * (p.length - 1) + (j - 1) by omega] at this
              exact this
            have pq : (p ++ [c]).getD (p.length - 1) 0 = p.getD (p.length - 1) 0 := fz_gd_app (by omega)
            have pb := (fz_lw_get hp4 (k := p.length - 1) (by omega)).2
            have ya : aY (p.length - 1) = nI (p.getD (p.length - 1) 0) := by
              have := fz_lr_get hy (i := p.length - 1) (by omega)
              rw [Nat.zero_add] at this; exact this
            have b4 := dl (p.length - 1) (j - 1)
            have wb1 := wb (j - 1) (by omega)
            have wb2 := wb j jw
            refine br_f (nI_ge (a := 1) (by omega) (by omega)) ⟨by rw [j2]; exact vp_in_nI (by omega) (by omega), ?_⟩
            rw [j2, nI_clamp (by omega), la (j - 1) (by omega)]
            by_cases z3 : w.getD (j - 1) 0 = c
            · refine br_t (by rw [z3]) ⟨by rw [j1]; exact vp_in_nI (by omega) (by omega), by rw [p2]; exact vp_in_nI (by omega) (by omega), ?_⟩
              rw [j1, nI_clamp (by omega), p2, nI_clamp (by omega), la j jw, ya]
              by_cases z4 : w.getD j 0 = p.getD (p.length - 1) 0
              · rw [if_pos ⟨by omega, by omega, z3.symm, by rw [pq]; exact z4.symm⟩] at U
                refine br_t (by rw [z4]) ⟨by rw [i5]; exact vp_in_nI (by omega) (by omega), ?_⟩
                rw [i5, nI_clamp (by omega), (hold (p.length - 1) (by omega)).1 (j - 1) (by omega), nI_1]
                exact fz_x_small (by omega) (by omega) (S178 _ (by omega))
              · rw [if_neg (fun q => z4 (by rw [← q.2.2.2, pq]))] at U
                exact br_f (by rw [nI_eq (by omega) (by omega)]; exact z4) (S178 _ (by omega))
            · rw [if_neg (fun q => z3 q.2.2.1.symm)] at U
              exact br_f (by rw [nI_eq (by omega) (by omega)]; exact z3) (S178 _ (by omega))
      have wb2 := wb j jw
      refine br_f (nI_nlt (by omega) (by omega)) ⟨by rw [i1]; exact vp_in_nI (by omega) (by omega), by rw [j1]; exact vp_in_nI (by omega) (by omega), ?_⟩
      rw [j1, nI_clamp (by omega), la j jw, v1]
      by_cases z : w.getD j 0 = c
      · exact br_t (by rw [z]) (S66 0 (by rw [if_pos z.symm]))
      · exact br_f (by rw [nI_eq (by omega) (by omega)]; exact z) (S66 1 (by rw [if_neg (fun q => z q.symm)]))
theorem fz_x_row {post : Int32 → SX → Prop} {w p : List Nat} {c d : Nat} {aR aM : Nat → Int32} (w5 : w.length ≤ 5) (p5 : p.length < 5) (c4 : c ≤ 4) (hd : d < 100) (hl : fz_lr aL 0 w) (hy : fz_lr aY 0 p) (hp4 : fz_lw p) (hw4 : fz_lw w) (hI : fz_In w p aR aM aQ)
    (P1 : fz_ng w d (p ++ [c]) → ∀ aR aM, fz_In w (p ++ [c]) aR aM aQ → post 1 (fu, fa, nI w.length, fy, fz_c nx, fz_c en, fz_c wd, aH, aC, aE, fz_c rt, aW, aL, aD, aP, aY, aS, aT, aN, aR, aM, aQ, aB)) (P0 : ¬ fz_ng w d (p ++ [c]) → ∀ aR aM, fz_In w (p ++ [c]) aR aM aQ → post 0 (fu, fa, nI w.length, fy, fz_c nx, fz_c en, fz_c wd, aH, aC, aE, fz_c rt, aW, aL, aD, aP, aY, aS, aT, aN, aR, aM, aQ, aB)) : wpX_row post (fu, fa, nI w.length, fy, fz_c nx, fz_c en, fz_c wd, aH, aC, aE, fz_c rt, aW, aL, aD, aP, aY, aS, aT, aN, aR, aM, aQ, aB) (nI p.length + 1) (nI c) (nI d) := by
  have i6 : vp_in (nI (p.length + 1)) 6 := vp_in_nI (by omega) (by omega)
  have E6 : 6 * nI (p.length + 1) = nI (6 * (p.length + 1)) := by
    show nI 6 * nI (p.length + 1) = _
    rw [pk_mul]
  rw [nI_1]
  refine nm_r (P := fun x => _) E6 ⟨vp_in_nI (by omega) (by omega), nm_r (e' := upd aR (6 * (p.length + 1)) (nI (p.length + 1))) (by rw [fz_nb2 (by omega), nI_clamp (by omega)]) ⟨i6, nm_r (e' := upd aM (p.length + 1) (nI (p.length + 1))) (by rw [fz_nb2 (by omega), nI_clamp (by omega)]) ⟨w.length + 1, ?_⟩⟩⟩
  refine fz_x_row26 w5 p5 c4 hd hl hy hp4 hw4 P1 P0 w.length 0 (w.length + 1) _ _ (by omega) (by omega) ?_ ?_ ?_
  · intro i hi
    obtain ⟨a, b⟩ := hI i hi
    refine ⟨fun k hk => ?_, ?_⟩
    · rw [pk_un (by omega), a k hk, fz_dd_app p [c] w _ i k (Nat.le_refl _) hi]
    · rw [pk_un (by omega), b, fz_lm_app hi]
  · intro k hk
    have : k = 0 := by omega
    subst this
    have e9 : upd aR (6 * (p.length + 1)) (nI (p.length + 1)) (6 * (p.length + 1) + 0) = nI (p.length + 1) := pk_us
    rw [e9, fz_dd_i]
  · rw [pk_us]
    simp only [fz_lm]
    rw [fz_dd_i]
end
end
section
/-! near: the reference's table, and the answers of both -/
theorem fz_fm_c {fits : List Nat → Prop} {w : List Nat} {D : List (List Nat)} (h : fits w) : fz_fm fits [] (w :: D) = w :: fz_fm fits [] D := by
  unfold fz_fm
  simp [h]
theorem fz_fm_n {fits : List Nat → Prop} {w : List Nat} {D : List (List Nat)} (h : ¬ fits w) : fz_fm fits [] (w :: D) = fz_fm fits [] D := by
  unfold fz_fm
  simp [h]
theorem fz_fm_len (fits : List Nat → Prop) (D : List (List Nat)) : (fz_fm fits [] D).length ≤ D.length := by
  unfold fz_fm
  exact Nat.le_trans (List.length_filter_le _ _) (by simp)
section
variable {bW bG bS bN bV bF bZ bD bI bP bL : Nat → Int32} {E : Nat → List (List Nat × Nat)}
theorem fz_y_mn {A : Int32 → Prop} {B : Prop} {d t : Nat} (hd : d < 2 ^ 31) (ht : t < 2 ^ 31) (hB : B) (h : A (nI (min d t))) : (nI d ≤ nI t → A (nI d)) ∧ (¬ nI d ≤ nI t → (B ∧ ∀ x, x = nI t → A x)) := by
  by_cases z : d ≤ t
  · rw [Nat.min_eq_left z] at h
    exact br_t (nI_le z ht) h
  · rw [Nat.min_eq_right (by omega)] at h
    exact br_f (nI_ge (by omega) hd) ⟨hB, nm_e h⟩
theorem fz_y_cell {post : Int32 → SY → Prop} {J14 : Int32 → (Nat → Int32) → (Nat → Int32) → (Nat → Int32) → (Nat → Int32) → (Nat → Int32) → (Nat → Int32) → (Nat → Int32) → (Nat → Int32) → (Nat → Int32) → (Nat → Int32) → (Nat → Int32) → (Nat → Int32) → Prop} {x y : List Nat} (hx : fz_lw x) (x5 : x.length ≤ 5) (hy : fz_lw y) (y5 : y.length ≤ 5) {i : Nat} (hi : i ≤ x.length)
    (K : ∀ bT : Nat → Int32, (∀ i', i' < i + 1 → ∀ j, j ≤ y.length → bT (7 * i' + j) = nI (fz_dd x y i' j)) → J14 (nI (i + 1)) bW bG bS bN bV bF bZ bD bT bI bP bL) :
    ∀ (e j f : Nat) (bT : Nat → Int32), j + e = y.length + 1 → e < f → (∀ i', i' < i → ∀ k, k ≤ y.length → bT (7 * i' + k) = nI (fz_dd x y i' k)) → (∀ k, k < j → bT (7 * i + k) = nI (fz_dd x y i k)) → wY_distance_23 post J14 (nI (fz_en x)) (nI (fz_en y)) (nI x.length) (nI y.length) (nI i) f (nI j) bW bG bS bN bV bF bZ bD bT bI bP bL
  | _, _, 0, _, _, h, _, _ => by omega
  | 0, j, f + 1, bT, hj, _, h1, h2 => by
    refine br_t (nI_lt (by omega) (by omega)) (nm_r (nI_1 i) (K bT ?_))
    intro i' hi' k hk
    by_cases z : i' = i
    · rw [z]; exact h2 k (by omega)
    · exact h1 i' (by omega) k hk
  | e + 1, j, f + 1, bT, hj, hf, h1, h2 => by
    have dl := fun a b => fz_dd_le x y a b
    have b0 := dl i j
    have i7 : 7 * nI i = nI (7 * i) := by
      show nI 7 * nI i = _
      rw [pk_mul]
    have ij : 7 * nI i + nI j = nI (7 * i + j) := by rw [i7, nI_add]
    have S305 : ∀ v, v = fz_dd x y i j → wY_distance_305 post J14 (wY_distance_23 post J14 (nI (fz_en x)) (nI (fz_en y)) (nI x.length) (nI y.length) (nI i) f) (nI (fz_en x)) (nI (fz_en y)) (nI x.length) (nI y.length) (nI i) (nI j) (nI v) bW bG bS bN bV bF bZ bD bT bI bP bL := by
      intro v ev
      refine And.intro (by rw [ij]; exact vp_in_nI (by omega) (by omega)) (nm_r (e' := upd bT (7 * i + j) (nI v)) (by rw [ij, nI_clamp (by omega)]) (nm_r (nI_1 j) ?_))
      refine fz_y_cell hx x5 hy y5 hi K e (j + 1) f _ (by omega) (by omega) ?_ ?_
      · intro i' hi' k hk
        rw [pk_un (by omega)]; exact h1 i' hi' k hk
      · intro k hk
        by_cases z : k = j
        · rw [z, pk_us, ev]
        · rw [pk_un (by omega)]; exact h2 k (by omega)
    refine br_f (nI_nlt (by omega) (by omega)) (nm_r (nI_add i j) ?_)
    by_cases zi : i = 0
    · subst zi
      have e0 : fz_dd x y 0 j = j := fz_dd_0 x y j
      refine br_t (show nI 0 ≤ 0 by decide) ?_
      have T131 : wY_distance_131 post J14 (wY_distance_23 post J14 (nI (fz_en x)) (nI (fz_en y)) (nI x.length) (nI y.length) (nI 0) f) (nI (fz_en x)) (nI (fz_en y)) (nI x.length) (nI y.length) (nI 0) (nI j) (nI (0 + j)) bW bG bS bN bV bF bZ bD bT bI bP bL :=
        br_t (show nI 0 ≤ 0 by decide) (br_t (show nI 0 ≤ 1 by decide) (S305 _ (by omega)))
      by_cases zj : j = 0
      · subst zj
        exact br_t (show nI 0 ≤ 0 by decide) T131
      · have ix : 7 * nI 0 + nI j - 1 = nI (7 * 0 + (j - 1)) := by
          rw [ij]; show nI _ - nI 1 = _; rw [pk_sub (by omega)]; exact congrArg nI (by omega)
        refine br_f (nI_nle (by omega) (by omega)) ⟨by rw [ix]; exact vp_in_nI (by omega) (by omega), ?_⟩
        rw [ix, nI_clamp (by omega), h2 (j - 1) (by omega), fz_dd_0, nI_1]
        refine fz_y_mn (A := fun v => wY_distance_131 post J14 _ _ _ _ _ _ _ v bW bG bS bN bV bF bZ bD bT bI bP bL) (by omega) (by omega) (vp_in_nI (by omega) (by omega)) ?_
        rw [show min (0 + j) (j - 1 + 1) = 0 + j by omega]
        exact T131
    · obtain ⟨a, rfl⟩ : ∃ a, i = a + 1 := ⟨i - 1, by omega⟩
      have ix1 : 7 * nI (a + 1) - 7 + nI j = nI (7 * a + j) := by
        rw [i7]
        have := fz_sb (a := 7 * (a + 1)) (b := 7) (j := j) (by omega)
        rw [show 7 * (a + 1) + j - 7 = 7 * a + j by omega] at this
        exact this
      have u1 := dl a j
      refine br_f (nI_nle (by omega) (by omega)) ⟨by rw [ix1]; exact vp_in_nI (by omega) (by omega), ?_⟩
      rw [ix1, nI_clamp (by omega), h1 a (by omega) j (by omega), nI_1]
      refine fz_y_mn (A := fun v => wY_distance_85 post J14 _ _ _ _ _ _ _ v bW bG bS bN bV bF bZ bD bT bI bP bL) (by omega) (by omega) (vp_in_nI (by omega) (by omega)) ?_
      by_cases zj : j = 0
      · subst zj
        have e0 : fz_dd x y (a + 1) 0 = a + 1 := fz_dd_i x y (a + 1)
        have e1 : fz_dd x y a 0 = a := fz_dd_i x y a
        refine br_t (show nI 0 ≤ 0 by decide) (br_f (nI_nle (by omega) (by omega)) (br_t (show nI 0 ≤ 0 by decide) ?_))
        by_cases z1 : a + 1 ≤ 1
        · exact br_t (nI_le (b := 1) z1 (by decide)) (S305 _ (by omega))
        · exact br_f (nI_ge (a := 1) (by omega) (by omega)) (br_t (show nI 0 ≤ 1 by decide) (S305 _ (by omega)))
      · obtain ⟨b, rfl⟩ : ∃ b, j = b + 1 := ⟨j - 1, by omega⟩
        have ix2 : 7 * nI (a + 1) + nI (b + 1) - 1 = nI (7 * (a + 1) + b) := by
          rw [ij]; show nI _ - nI 1 = _; rw [pk_sub (by omega)]; exact congrArg nI (by omega)
        have ix3 : 7 * nI (a + 1) - 8 + nI (b + 1) = nI (7 * a + b) := by
          rw [i7]
          have := fz_sb (a := 7 * (a + 1)) (b := 8) (j := b + 1) (by omega)
          rw [show 7 * (a + 1) + (b + 1) - 8 = 7 * a + b by omega] at this
          exact this
        have a1 : nI (a + 1) - 1 = nI a := nI_pred _
        have b1 : nI (b + 1) - 1 = nI b := nI_pred _
        have u2 := dl (a + 1) b
        have u3 := dl a b
        have xb := (fz_lw_get hx (k := a) (by omega)).2
        have yb := (fz_lw_get hy (k := b) (by omega)).2
        have U : fz_dd x y (a + 1) (b + 1) = min (min (fz_dd x y a b + (if x.getD a 0 = y.getD b 0 then 0 else 1)) (fz_dd x y a (b + 1) + 1)) (min (fz_dd x y (a + 1) b + 1) (if 1 ≤ a ∧ 1 ≤ b ∧ x.getD a 0 = y.getD (b - 1) 0 ∧ x.getD (a - 1) 0 = y.getD b 0 then fz_dd x y (a - 1) (b - 1) + 1 else fz_dd x y (a + 1) b + 1)) := by
          rw [fz_dd]
        refine br_f (nI_nle (by omega) (by omega)) ⟨by rw [ix2]; exact vp_in_nI (by omega) (by omega), ?_⟩
        rw [ix2, nI_clamp (by omega), h2 b (by omega), nI_1]
        refine fz_y_mn (A := fun v => wY_distance_131 post J14 _ _ _ _ _ _ _ v bW bG bS bN bV bF bZ bD bT bI bP bL) (by omega) (by omega) (vp_in_nI (by omega) (by omega)) ?_
        refine br_f (nI_nle (by omega) (by omega)) (br_f (nI_nle (by omega) (by omega)) ?_)
        rw [a1, b1]
        refine fz_y_letter hx x5 (by omega) (fz_y_letter hy y5 (by omega) ?_)
        have S212 : ∀ v, v = min (min (fz_dd x y a b + (if x.getD a 0 = y.getD b 0 then 0 else 1)) (fz_dd x y a (b + 1) + 1)) (fz_dd x y (a + 1) b + 1) → wY_distance_212 post J14 (wY_distance_23 post J14 (nI (fz_en x)) (nI (fz_en y)) (nI x.length) (nI y.length) (nI (a + 1)) f) (nI (fz_en x)) (nI (fz_en y)) (nI x.length) (nI y.length) (nI (a + 1)) (nI (b + 1)) (nI v) bW bG bS bN bV bF bZ bD bT bI bP bL := by
          intro v ev
          by_cases z1 : a = 0
          · rw [if_neg (c := 1 ≤ a ∧ _) (fun q => by omega)] at U
            exact br_t (nI_le (b := 1) (by omega) (by decide)) (S305 _ (by omega))
          · refine br_f (nI_ge (a := 1) (by omega) (by omega)) ?_
            by_cases z2 : b = 0
            · rw [if_neg (c := 1 ≤ a ∧ _) (fun q => by omega)] at U
              exact br_t (nI_le (b := 1) (by omega) (by decide)) (S305 _ (by omega))
            · have b2 : nI (b + 1) - 2 = nI (b - 1) := by
                show nI (b + 1) - nI 2 = _
                rw [pk_sub (by omega)]; exact congrArg nI (by omega)
              have a2 : nI (a + 1) - 2 = nI (a - 1) := by
                show nI (a + 1) - nI 2 = _
                rw [pk_sub (by omega)]; exact congrArg nI (by omega)
              have ix4 : 7 * nI (a + 1) - 16 + nI (b + 1) = nI (7 * (a - 1) + (b - 1)) := by
                rw [i7]
                have := fz_sb (a := 7 * (a + 1)) (b := 16) (j := b + 1) (by omega)
                rw [show 7 * (a + 1) + (b + 1) - 16 = 7 * (a - 1) + (b - 1) by omega] at this
                exact this
              have xb2 := (fz_lw_get hx (k := a - 1) (by omega)).2
              have yb2 := (fz_lw_get hy (k := b - 1) (by omega)).2
              have u4 := dl (a - 1) (b - 1)
              refine br_f (nI_ge (a := 1) (by omega) (by omega)) ?_
              rw [a1, b1, a2, b2]
              refine fz_y_letter hx x5 (by omega) (fz_y_letter hy y5 (by omega) ?_)
              by_cases z3 : x.getD a 0 = y.getD (b - 1) 0
              · refine br_t (by rw [z3]) (fz_y_letter hx x5 (by omega) (fz_y_letter hy y5 (by omega) ?_))
                by_cases z4 : x.getD (a - 1) 0 = y.getD b 0
                · rw [if_pos (c := 1 ≤ a ∧ _) ⟨by omega, by omega, z3, z4⟩] at U
                  refine br_t (by rw [z4]) ⟨by rw [ix4]; exact vp_in_nI (by omega) (by omega), ?_⟩
                  rw [ix4, nI_clamp (by omega), h1 (a - 1) (by omega) (b - 1) (by omega), nI_1]
                  refine fz_y_mn (A := fun v => wY_distance_305 post J14 _ _ _ _ _ _ _ v bW bG bS bN bV bF bZ bD bT bI bP bL) (by omega) (by omega) (vp_in_nI (by omega) (by omega)) (S305 _ (by omega))
                · rw [if_neg (c := 1 ≤ a ∧ _) (fun q => z4 q.2.2.2)] at U
                  exact br_f (by rw [nI_eq (by omega) (by omega)]; exact z4) (S305 _ (by omega))
              · rw [if_neg (c := 1 ≤ a ∧ _) (fun q => z3 q.2.2.1)] at U
                exact br_f (by rw [nI_eq (by omega) (by omega)]; exact z3) (S305 _ (by omega))
        have S165 : ∀ s0, s0 = (if x.getD a 0 = y.getD b 0 then 0 else 1) → wY_distance_165 post J14 (wY_distance_23 post J14 (nI (fz_en x)) (nI (fz_en y)) (nI x.length) (nI y.length) (nI (a + 1)) f) (nI (fz_en x)) (nI (fz_en y)) (nI x.length) (nI y.length) (nI (a + 1)) (nI (b + 1)) (nI (min (min (a + 1 + (b + 1)) (fz_dd x y a (b + 1) + 1)) (fz_dd x y (a + 1) b + 1))) (nI s0) bW bG bS bN bV bF bZ bD bT bI bP bL := by
          intro s0 es
          have s1 : s0 ≤ 1 := by rw [es]; split <;> omega
          refine And.intro (by rw [ix3]; exact vp_in_nI (by omega) (by omega)) ?_
          rw [ix3, nI_clamp (by omega), h1 a (by omega) b (by omega), nI_add]
          refine fz_y_mn (A := fun v => wY_distance_212 post J14 _ _ _ _ _ _ _ v bW bG bS bN bV bF bZ bD bT bI bP bL) (by omega) (by omega) (vp_in_nI (by omega) (by omega)) (S212 _ ?_)
          rw [← es]; omega
        by_cases z : x.getD a 0 = y.getD b 0
        · exact br_t (by rw [z]) (S165 0 (by rw [if_pos z]))
        · exact br_f (by rw [nI_eq (by omega) (by omega)]; exact z) (S165 1 (by rw [if_neg z]))
theorem fz_y_dist14 {post : Int32 → SY → Prop} {x y : List Nat} (hx : fz_lw x) (x5 : x.length ≤ 5) (hy : fz_lw y) (y5 : y.length ≤ 5) (P : ∀ bT, post (nI (fz_dd x y x.length y.length)) (bW, bG, bS, bN, bV, bF, bZ, bD, bT, bI, bP, bL)) :
    ∀ (e i f : Nat) (bT : Nat → Int32), i + e = x.length + 1 → e < f → (∀ i', i' < i → ∀ j, j ≤ y.length → bT (7 * i' + j) = nI (fz_dd x y i' j)) → wY_distance_14 post (nI (fz_en x)) (nI (fz_en y)) (nI x.length) (nI y.length) f (nI i) bW bG bS bN bV bF bZ bD bT bI bP bL
  | _, _, 0, _, _, h, _ => by omega
  | 0, i, f + 1, bT, hi, _, h => by
    have ij : 7 * nI x.length + nI y.length = nI (7 * x.length + y.length) := by
      show nI 7 * nI x.length + nI y.length = _
      rw [pk_mul, nI_add]
    refine br_t (nI_lt (by omega) (by omega)) ⟨by rw [ij]; exact vp_in_nI (by omega) (by omega), ?_⟩
    rw [ij, nI_clamp (by omega), h x.length (by omega) y.length (Nat.le_refl _)]
    exact P bT
  | e + 1, i, f + 1, bT, hi, hf, h => by
    refine br_f (nI_nlt (by omega) (by omega)) ⟨y.length + 2, ?_⟩
    refine fz_y_cell hx x5 hy y5 (by omega) (fun bT' h' => ?_) (y.length + 1) 0 (y.length + 2) bT (by omega) (by omega) h (fun k hk => by omega)
    exact fz_y_dist14 hx x5 hy y5 P e (i + 1) f bT' (by omega) (by omega) h'
theorem fz_y_dist {post : Int32 → SY → Prop} {x y : List Nat} {bT : Nat → Int32} (hx : fz_lw x) (x5 : x.length ≤ 5) (hy : fz_lw y) (y5 : y.length ≤ 5) (P : ∀ bT, post (nI (fz_dd x y x.length y.length)) (bW, bG, bS, bN, bV, bF, bZ, bD, bT, bI, bP, bL)) : wpY_distance post (bW, bG, bS, bN, bV, bF, bZ, bD, bT, bI, bP, bL) (nI (fz_en x)) (nI (fz_en y)) := by
  unfold wpY_distance
  refine fz_y_len hx x5 (fz_y_len hy y5 ⟨x.length + 2, ?_⟩)
  exact fz_y_dist14 hx x5 hy y5 P (x.length + 1) 0 (x.length + 2) bT (by omega) (by omega) (fun i hi => by omega)
theorem fz_y_near34 {post : Int32 → SY → Prop} (Y : fz_YW bW bG bS bP E) {s d : Nat} {w : List Nat} {x4 : Int32} (hs : s < 4) (hw : fz_lw w) (w5 : w.length ≤ 5) (hd : d < 100) (P : ∀ r bT, fz_an x4 (fz_fm (fz_nf w d) [] (fz_ky (E s))) r → post r (bW, bG, bS, bN, bV, bF, bZ, bD, bT, bI, bP, bL)) :
    ∀ (e k f t : Nat) (bT : Nat → Int32), k + e = (E s).length → e < f → (∀ t', t' < t → ¬ nI t' = x4) → (fz_fm (fz_nf w d) [] (fz_ky (E s))).drop t = fz_fm (fz_nf w d) [] ((fz_ky (E s)).drop k) → t ≤ (fz_fm (fz_nf w d) [] (fz_ky (E s))).length → wY_near_34 post (nI s) (nI (fz_en w)) (nI d) x4 f (nI t) (nI (24 * s + k)) bW bG bS bN bV bF bZ bD bT bI bP bL
  | _, _, 0, _, _, _, h, _, _, _ => by omega
  | e, k, f + 1, t, bT, hk, hf, hn, hM, ht => by
    obtain ⟨eS, h24, _⟩ := Y.1 s hs
    have is : vp_in (nI s) 4 := vp_in_nI hs (by omega)
    have es : bS (nI s).toNatClampNeg = nI (E s).length := by rw [nI_clamp (by omega), eS]
    have E24 : 24 * nI s + nI (E s).length = nI (24 * s + (E s).length) := fz_24
    refine And.intro is ?_
    rw [es, E24]
    cases e with
    | zero =>
      have : k = (E s).length := by omega
      subst this
      have tl : t = (fz_fm (fz_nf w d) [] (fz_ky (E s))).length := by
        rw [← fz_ky_len, List.drop_length] at hM
        have := congrArg List.length hM
        rw [List.length_drop] at this
        have e0 : (fz_fm (fz_nf w d) [] []).length = 0 := rfl
        omega
      refine br_t (nI_le (Nat.le_refl _) (by omega)) ?_
      by_cases z : x4 = -1
      · exact br_t z (P _ _ (Or.inr ⟨by rw [← tl]; exact hn, Or.inl ⟨z, by rw [← tl]⟩⟩))
      · exact br_f z (P _ _ (Or.inr ⟨by rw [← tl]; exact hn, Or.inr ⟨z, rfl⟩⟩))
    | succ e =>
      obtain ⟨v, g, e0, _, kg, _, hv, v1, v5, _, ev, _⟩ := fz_YW_x Y hs (k := k) (by omega)
      rw [fz_dk kg] at hM
      refine br_f (nI_ge (by omega) (by omega)) ⟨vp_in_nI (by omega) (by omega), ?_⟩
      rw [nI_clamp (by omega), ev]
      refine fz_y_dist hw w5 hv v5 (fun bT' => ?_)
      have dl := fz_dd_le w v w.length v.length
      have sy := fz_dd_sym w v _ w.length v.length (Nat.le_refl _)
      by_cases z : fz_dd w v w.length v.length ≤ d
      · have fv : fz_nf w d v := by unfold fz_nf; rw [← sy]; exact z
        rw [fz_fm_c fv] at hM
        have gt : (fz_fm (fz_nf w d) [] (fz_ky (E s)))[t]? = some v := by
          have := congrArg (fun l => l[0]?) hM
          simp only [List.getElem?_drop, Nat.add_zero, List.getElem?_cons_zero] at this
          exact this
        refine br_t (nI_le z (by omega)) ?_
        by_cases q : nI t = x4
        · refine br_t q ⟨vp_in_nI (by omega) (by omega), ?_⟩
          rw [ev]
          exact P _ _ (Or.inl ⟨t, v, gt, q, rfl⟩)
        · refine br_f q (nm_r (nI_1 t) (nm_r (nI_1 _) (fz_y_near34 Y hs hw w5 hd P e (k + 1) f (t + 1) bT' (by omega) (by omega) ?_ ?_ ?_)))
          · intro t' h'
            by_cases y : t' = t
            · rw [y]; exact q
            · exact hn t' (by omega)
          · rw [← List.drop_drop, hM]; rfl
          · rcases Nat.lt_or_ge t (fz_fm (fz_nf w d) [] (fz_ky (E s))).length with y | y
            · omega
            · rw [List.getElem?_eq_none y] at gt; cases gt
      · have fv : ¬ fz_nf w d v := by unfold fz_nf; rw [← sy]; exact z
        rw [fz_fm_n fv] at hM
        exact br_f (nI_ge (by omega) (by omega)) (nm_r (nI_1 _) (fz_y_near34 Y hs hw w5 hd P e (k + 1) f t bT' (by omega) (by omega) hn hM ht))
theorem fz_y_near {post : Int32 → SY → Prop} {bT : Nat → Int32} (Y : fz_YW bW bG bS bP E) {s d : Nat} {w : List Nat} {x x4 : Int32} (hs : s < 4) (hw : fz_wd x w) (hd : d < 3) (P : ∀ r bT, fz_an x4 (fz_fm (fz_nf w d) [] (fz_ky (E s))) r → post r (bW, bG, bS, bN, bV, bF, bZ, bD, bT, bI, bP, bL)) : wpY_near post (bW, bG, bS, bN, bV, bF, bZ, bD, bT, bI, bP, bL) (nI s) x (nI d) x4 := by
  unfold wpY_near
  refine fz_y_isD1 hs (br_f (by decide) (fz_y_wd1 hw (br_f (by decide) (br_f (nI_pos (by omega)) (br_t (nI_le (b := 2) (by omega) (by decide)) (nm_r (fz_s24 s) ⟨(E s).length + 1, ?_⟩))))))
  rw [hw.1.2.2]
  exact fz_y_near34 Y hs hw.1.1 hw.1.2.1 (by omega) P (E s).length 0 _ 0 bT (by omega) (by omega) (fun t h => by omega) rfl (by omega)
theorem fz_y_near_n {post : Int32 → SY → Prop} {bT : Nat → Int32} {v1 v2 v3 v4 : Int32} (hn : ¬ (fz_dc v1 ∧ (∃ w, fz_wd v2 w) ∧ (0 ≤ v3 ∧ v3 ≤ 2))) (P : post (-1) (bW, bG, bS, bN, bV, bF, bZ, bD, bT, bI, bP, bL)) : wpY_near post (bW, bG, bS, bN, bV, bF, bZ, bD, bT, bI, bP, bL) v1 v2 v3 v4 := by
  unfold wpY_near
  by_cases z1 : fz_dc v1
  · obtain ⟨s, hs, rfl⟩ := z1
    refine fz_y_isD1 hs (br_f (by decide) ?_)
    by_cases z2 : ∃ w, fz_wd v2 w
    · obtain ⟨w, hw⟩ := z2
      refine fz_y_wd1 hw (br_f (by decide) ?_)
      by_cases z3 : v3 < 0
      · exact br_t z3 P
      · refine br_f z3 ?_
        by_cases z4 : v3 ≤ 2
        · exact absurd ⟨⟨s, hs, rfl⟩, ⟨w, hw⟩, Int32.not_lt.mp z3, z4⟩ hn
        · exact br_f z4 P
    · exact fz_y_wd0 z2 (br_t rfl P)
  · exact fz_y_isD0 z1 (br_t rfl P)
end
/-! the component -/
section
variable {un al : Nat} {fl fy : Int32} {nx en wd rt hd ch he wt : Nat → Nat} {aL aD aP aY aS aT aN aR aM aQ aB : Nat → Int32} {F : List Nat} {B : Nat → List Nat} {L : Nat → List (List Nat)} {E : Nat → List (List Nat × Nat)}
theorem fz_x_near30 {post : Int32 → SX → Prop} (H : fz_HS un al nx en wd hd ch he rt wt F B L E) {s d : Nat} {w : List Nat} {x4 : Int32} (hs : s < 4) (hw : fz_lw w) (w5 : w.length ≤ 5) (h100 : d < 100) (hl : fz_lr aL 0 w) (P : ∀ r u', fz_an x4 (fz_fm (fz_nf w d) [] (fz_ky (E s))) r → fz_XS u' E → post r u') :
    ∀ (e j f : Nat) (aR : Nat → Int32), j + e = w.length + 1 → e < f → (∀ k, k < j → aR k = nI k) → wX_near_30 post (nI s) (nI d) x4 (nI un) (nI al) (nI w.length) fy f (nI j) (fz_c nx) (fz_c en) (fz_c wd) (fz_c hd) (fz_c ch) (fz_c he) (fz_c rt) (fz_c wt) aL aD aP aY aS aT aN aR aM aQ aB
  | _, _, 0, _, _, h, _ => by omega
  | 0, j, f + 1, aR, hj, _, h => by
    refine br_t (nI_lt (by omega) (by omega)) (nm_r (e' := upd aM 0 (nI 0)) (congrArg (upd aM 0) (fz_nb (n := 0) (by decide))) ?_)
    refine fz_x_walk (fits := fz_nf w d) (goes := fz_ng w d) (Inf := fz_In w) (F := F) (L := L) H.1.1 (by omega) (fz_HS_Nd H (by omega)) (by rw [fz_HS_L H (by omega)]; exact (H.2.2.1 s (by omega)).2) (fun p c aR aM aQ h => fz_In_down h) ?_ ?_ (fun p h q => fz_prune h q) ?_ ?_
    · intro p c aP aY aR aM aQ K hp p5 c1 c4 hy hI K1 K0
      refine br_f (by decide) ?_
      exact fz_x_row w5 p5 c4 h100 hl hy hp hw hI (fun q aR' aM' hI' => K1 q aR' aM' aQ hI') (fun q aR' aM' hI' => K0 q aR' aM' aQ hI')
    · intro p aR aM aQ A B p1 p5 hI hB hA
      have ix : 6 * nI p.length + nI w.length = nI (6 * p.length + w.length) := by
        show nI 6 * nI p.length + nI w.length = _
        rw [pk_mul, nI_add]
      have dl := fz_dd_le p w p.length w.length
      refine br_f (by decide) ⟨by rw [ix]; exact vp_in_nI (by omega) (by omega), ?_⟩
      rw [ix, nI_clamp (by omega), (hI p.length (Nat.le_refl _)).1 w.length (Nat.le_refl _)]
      by_cases z : fz_dd p w p.length w.length ≤ d
      · exact br_f (nI_nlt z (by omega)) (hB z)
      · exact br_t (nI_lt (by omega) (by omega)) (hA z)
    · intro i hi
      have : i = 0 := by simpa using hi
      subst this
      refine ⟨fun k hk => ?_, ?_⟩
      · rw [fz_dd_0, Nat.mul_zero, Nat.zero_add]; exact h k (by omega)
      · rw [pk_us]
        have l0 := fz_lm_le (x := []) (y := w) (i := 0) (j := w.length) (k := 0) (by omega)
        rw [fz_dd_0] at l0
        rw [show fz_lm [] w 0 w.length = 0 by omega]
    · intro r aP aY aR aM aQ han
      rw [fz_HS_L H (by omega)] at han
      exact P r _ han (fz_XS_mk H)
  | e + 1, j, f + 1, aR, hj, hf, h => by
    refine br_f (nI_nlt (by omega) (by omega)) ⟨vp_in_nI (by omega) (by omega), nm_r (e' := upd aR j (nI j)) (by rw [fz_nb2 (by omega), nI_clamp (by omega)]) (nm_r (nI_1 j) (fz_x_near30 H hs hw w5 h100 hl P e (j + 1) f _ (by omega) (by omega) ?_))⟩
    intro k hk
    by_cases z : k = j
    · rw [z, pk_us]
    · rw [pk_un z]; exact h k (by omega)
end
end
section
/-! patterns: numbers of base seven, what fits, sets of places -/
def fz_e7 : List Nat → Nat
  | [] => 0
  | c :: t => c * 7 ^ t.length + fz_e7 t
theorem fz_e7_app : ∀ a b : List Nat, fz_e7 (a ++ b) = fz_e7 a * 7 ^ b.length + fz_e7 b
  | [], b => by simp [fz_e7]
  | c :: a, b => by
    simp only [List.cons_append, fz_e7, fz_e7_app a b, List.length_append, Nat.pow_add, Nat.add_mul, Nat.mul_assoc]
    omega
theorem fz_e7_snoc (a : List Nat) (c : Nat) : fz_e7 (a ++ [c]) = 7 * fz_e7 a + c := by
  rw [fz_e7_app]; simp [fz_e7]; omega
def fz_pv (w : List Nat) : Prop := ∀ c, c ∈ w → 1 ≤ c ∧ c ≤ 6
theorem fz_p7 (n : Nat) : 0 < 7 ^ n := Nat.pow_pos (by decide)
theorem fz_p7_le {a b : Nat} (h : a ≤ b) : 7 ^ a ≤ 7 ^ b := Nat.pow_le_pow_right (by decide) h
theorem fz_e7_lt : ∀ {w : List Nat}, (∀ c, c ∈ w → c < 7) → fz_e7 w < 7 ^ w.length
  | [], _ => by simp [fz_e7]
  | c :: t, h => by
    have i := fz_e7_lt (w := t) (fun d m => h d (List.mem_cons_of_mem _ m))
    have hc := h c (List.mem_cons_self ..)
    have hm := Nat.mul_le_mul_right (7 ^ t.length) (show c ≤ 6 by omega)
    simp only [fz_e7, List.length_cons, Nat.pow_succ]
    omega
def fz_d7 : Nat → Nat → List Nat
  | 0, _ => []
  | f + 1, x => if x = 0 then [] else fz_d7 f (x / 7) ++ [x % 7]
theorem fz_d7_len : ∀ f x : Nat, (fz_d7 f x).length ≤ f
  | 0, _ => by simp [fz_d7]
  | f + 1, x => by
    have := fz_d7_len f (x / 7)
    by_cases h : x = 0
    · simp [fz_d7, h]
    · simp [fz_d7, h]; omega
theorem fz_d7_7 : ∀ (f x c : Nat), c ∈ fz_d7 f x → c < 7
  | 0, _, _, h => by simp [fz_d7] at h
  | f + 1, x, c, h => by
    by_cases z : x = 0
    · simp [fz_d7, z] at h
    · simp only [fz_d7, if_neg z, List.mem_append, List.mem_singleton] at h
      rcases h with h | h
      · exact fz_d7_7 f _ c h
      · omega
theorem fz_e7_d7 : ∀ f x : Nat, x < 7 ^ f → fz_e7 (fz_d7 f x) = x
  | 0, x, h => by
    have : x = 0 := by simpa using h
    simp [fz_d7, fz_e7, this]
  | f + 1, x, h => by
    by_cases z : x = 0
    · simp [fz_d7, z, fz_e7]
    · simp only [fz_d7, if_neg z]
      rw [fz_e7_snoc, fz_e7_d7 f (x / 7) (by rw [Nat.pow_succ] at h; omega)]
      omega
theorem fz_d7_ne {f x : Nat} (hf : 0 < f) (h : x ≠ 0) : fz_d7 f x ≠ [] := by
  obtain ⟨g, rfl⟩ : ∃ g, f = g + 1 := ⟨f - 1, by omega⟩
  simp [fz_d7, h]
theorem fz_e7_take {w : List Nat} (h : ∀ c, c ∈ w → c < 7) {k : Nat} (hk : k < w.length) : fz_e7 (w.take (k + 1)) / 7 = fz_e7 (w.take k) ∧ fz_e7 (w.take (k + 1)) % 7 = w.getD k 0 := by
  have c7 : w.getD k 0 < 7 := by
    rw [List.getD_eq_getElem?_getD, List.getElem?_eq_getElem hk]
    exact h _ (List.getElem_mem hk)
  rw [fz_take1 hk, fz_e7_snoc]
  constructor <;> omega
/-! what a pattern fits -/
def fz_mt : List Nat → List Nat → Bool
  | [], [] => true
  | [], _ :: _ => false
  | q :: P, [] => decide (q = 6) && fz_mt P []
  | q :: P, c :: w => if q = 6 then (fz_mt P (c :: w) || fz_mt (q :: P) w) else ((decide (q = 5) || decide (q = c)) && fz_mt P w)
termination_by P w => P.length + w.length
theorem fz_mt_n (q : Nat) (P : List Nat) : fz_mt (q :: P) [] = (decide (q = 6) && fz_mt P []) := by rw [fz_mt]
theorem fz_mt_6 (P : List Nat) (c : Nat) (w : List Nat) : fz_mt (6 :: P) (c :: w) = (fz_mt P (c :: w) || fz_mt (6 :: P) w) := by rw [fz_mt, if_pos rfl]
theorem fz_mt_c {q : Nat} (h : q ≠ 6) (P : List Nat) (c : Nat) (w : List Nat) : fz_mt (q :: P) (c :: w) = ((decide (q = 5) || decide (q = c)) && fz_mt P w) := by rw [fz_mt, if_neg h]
theorem fz_mt_e (w : List Nat) : fz_mt [] w = true ↔ w = [] := by
  cases w with
  | nil => simp [fz_mt]
  | cons c w => simp [fz_mt]
theorem fz_mt_skip {P w : List Nat} (h : fz_mt P w = true) : fz_mt (6 :: P) w = true := by
  cases w with
  | nil => rw [fz_mt_n, h]; rfl
  | cons c w => rw [fz_mt_6, h]; rfl
/-- some place of the set goes on with q -/
def fz_R (pt : List Nat) (s : Nat) (q : List Nat) : Prop := ∃ t, t ≤ pt.length ∧ s.testBit t = true ∧ fz_mt (pt.drop t) q = true
def fz_clk (pt : List Nat) (s : Nat) : Nat → Nat
  | 0 => s
  | t + 1 => if (fz_clk pt s t).testBit t = true ∧ pt.getD t 0 = 6 then fz_clk pt s t ||| 2 ^ (t + 1) else fz_clk pt s t
def fz_cl (pt : List Nat) (s : Nat) : Nat := fz_clk pt s pt.length
def fz_st1 (a t q c : Nat) : Nat := if q = c ∨ q = 5 then a ||| 2 ^ (t + 1) else a
def fz_st2 (a t q : Nat) : Nat := if q = 6 then a ||| 2 ^ t else a
def fz_stk (pt : List Nat) (s c : Nat) : Nat → Nat
  | 0 => 0
  | t + 1 => if s.testBit t = true then fz_st2 (fz_st1 (fz_stk pt s c t) t (pt.getD t 0) c) t (pt.getD t 0) else fz_stk pt s c t
def fz_ss (pt p : List Nat) : Nat := p.foldl (fun s c => fz_cl pt (fz_stk pt s c pt.length)) (fz_cl pt 1)
theorem fz_ss_s (pt p : List Nat) (c : Nat) : fz_ss pt (p ++ [c]) = fz_cl pt (fz_stk pt (fz_ss pt p) c pt.length) := by
  unfold fz_ss; rw [List.foldl_append]; rfl
theorem fz_tb (a k j : Nat) : (a ||| 2 ^ k).testBit j = (a.testBit j || decide (k = j)) := by rw [Nat.testBit_or, Nat.testBit_two_pow]
theorem fz_or128 {a k : Nat} (ha : a < 128) (hk : k ≤ 6) : a ||| 2 ^ k < 128 :=
  Nat.or_lt_two_pow (n := 7) ha (Nat.pow_lt_pow_right (by decide) (by omega))
theorem fz_clk_lt {pt : List Nat} {s : Nat} (h : s < 128) : ∀ {t : Nat}, t ≤ 6 → fz_clk pt s t < 128
  | 0, _ => h
  | t + 1, ht => by
    have := fz_clk_lt (pt := pt) h (t := t) (by omega)
    simp only [fz_clk]
    split
    · exact fz_or128 this ht
    · exact this
theorem fz_stk_lt {pt : List Nat} {s c : Nat} : ∀ {t : Nat}, t ≤ 6 → fz_stk pt s c t < 128
  | 0, _ => (show 0 < 128 by decide)
  | t + 1, ht => by
    have := fz_stk_lt (pt := pt) (s := s) (c := c) (t := t) (by omega)
    simp only [fz_stk]
    split
    · have a : fz_st1 (fz_stk pt s c t) t (pt.getD t 0) c < 128 := by
        unfold fz_st1; split
        · exact fz_or128 this ht
        · exact this
      unfold fz_st2; split
      · exact fz_or128 a (by omega)
      · exact a
    · exact this
theorem fz_cl_lt {pt : List Nat} {s : Nat} (h : s < 128) (h6 : pt.length ≤ 6) : fz_cl pt s < 128 := fz_clk_lt h h6
theorem fz_ss_lt {pt : List Nat} (h6 : pt.length ≤ 6) (p : List Nat) : fz_ss pt p < 128 := by
  by_cases z : p = []
  · subst z; exact fz_cl_lt (by decide) h6
  · obtain ⟨v, c, rfl⟩ := fz_snoc z
    rw [fz_ss_s]; exact fz_cl_lt (fz_stk_lt h6) h6
theorem fz_clk_sub {pt : List Nat} {s : Nat} {j : Nat} (h : s.testBit j = true) : ∀ t, (fz_clk pt s t).testBit j = true
  | 0 => h
  | t + 1 => by
    have := fz_clk_sub (pt := pt) h t
    simp only [fz_clk]
    split
    · rw [fz_tb, this]; rfl
    · exact this
theorem fz_clk_hi {pt : List Nat} {s : Nat} {j : Nat} : ∀ {t u : Nat}, t ≤ u → j ≤ t → (fz_clk pt s u).testBit j = (fz_clk pt s t).testBit j
  | t, u, h, hj => by
    induction u with
    | zero =>
      have : t = 0 := by omega
      subst this; rfl
    | succ u ih =>
      by_cases z : t = u + 1
      · rw [z]
      · rw [← ih (by omega)]
        simp only [fz_clk]
        split
        · rw [fz_tb]
          have : decide (u + 1 = j) = false := by simp; omega
          rw [this, Bool.or_false]
        · rfl
def fz_cd (pt : List Nat) (s : Nat) : Prop := ∀ t, t < pt.length → s.testBit t = true → pt.getD t 0 = 6 → s.testBit (t + 1) = true
theorem fz_cl_cd (pt : List Nat) (s : Nat) : fz_cd pt (fz_cl pt s) := by
  intro t ht hb h6
  unfold fz_cl at hb ⊢
  rw [fz_clk_hi (t := t) (by omega) (Nat.le_refl _)] at hb
  rw [fz_clk_hi (t := t + 1) (by omega) (Nat.le_refl _)]
  simp only [fz_clk]
  rw [if_pos ⟨hb, h6⟩, fz_tb]
  simp
theorem fz_ss_cd (pt p : List Nat) : fz_cd pt (fz_ss pt p) := by
  by_cases z : p = []
  · subst z; exact fz_cl_cd pt 1
  · obtain ⟨v, c, rfl⟩ := fz_snoc z
    rw [fz_ss_s]; exact fz_cl_cd pt _
theorem fz_clk_R {pt : List Nat} {s : Nat} {q : List Nat} : ∀ {t : Nat}, t ≤ pt.length → fz_R pt (fz_clk pt s t) q → fz_R pt s q
  | 0, _, h => h
  | t + 1, ht, h => by
    refine fz_clk_R (t := t) (by omega) ?_
    simp only [fz_clk] at h
    split at h
    · rename_i c
      obtain ⟨j, hj, hb, hm⟩ := h
      rw [fz_tb, Bool.or_eq_true] at hb
      rcases hb with hb | hb
      · exact ⟨j, hj, hb, hm⟩
      · have : t + 1 = j := by simpa using hb
        subst this
        refine ⟨t, by omega, c.1, ?_⟩
        rw [fz_drop1 (by omega), c.2]
        exact fz_mt_skip hm
    · exact h
theorem fz_cl_R {pt : List Nat} {s : Nat} {q : List Nat} : fz_R pt (fz_cl pt s) q ↔ fz_R pt s q := by
  constructor
  · exact fz_clk_R (Nat.le_refl _)
  · rintro ⟨t, h1, h2, h3⟩
    exact ⟨t, h1, fz_clk_sub h2 _, h3⟩
theorem fz_cl_0 {pt : List Nat} {s : Nat} : fz_cl pt s = 0 ↔ s = 0 := by
  constructor
  · intro h
    refine Classical.byContradiction fun z => ?_
    obtain ⟨j, hj⟩ := Nat.exists_testBit_of_ne_zero z
    have := fz_clk_sub (pt := pt) hj pt.length
    unfold fz_cl at h
    rw [h, Nat.zero_testBit] at this
    cases this
  · intro h
    subst h
    have : ∀ t, fz_clk pt 0 t = 0 := by
      intro t
      induction t with
      | zero => rfl
      | succ t ih => simp [fz_clk, ih]
    exact this _
theorem fz_stk_bit {pt : List Nat} {s c j : Nat} : ∀ {t : Nat}, (fz_stk pt s c t).testBit j = true ↔ ∃ i, i < t ∧ s.testBit i = true ∧ (((pt.getD i 0 = c ∨ pt.getD i 0 = 5) ∧ j = i + 1) ∨ (pt.getD i 0 = 6 ∧ j = i))
  | 0 => by simp [fz_stk]
  | t + 1 => by
    have ih := fz_stk_bit (pt := pt) (s := s) (c := c) (j := j) (t := t)
    have st : ∀ a, (fz_st2 (fz_st1 a t (pt.getD t 0) c) t (pt.getD t 0)).testBit j = true ↔ a.testBit j = true ∨ (((pt.getD t 0 = c ∨ pt.getD t 0 = 5) ∧ j = t + 1) ∨ (pt.getD t 0 = 6 ∧ j = t)) := by
      intro a
      have s1 : (fz_st1 a t (pt.getD t 0) c).testBit j = true ↔ a.testBit j = true ∨ ((pt.getD t 0 = c ∨ pt.getD t 0 = 5) ∧ j = t + 1) := by
        unfold fz_st1
        by_cases z : pt.getD t 0 = c ∨ pt.getD t 0 = 5
        · rw [if_pos z, fz_tb, Bool.or_eq_true, decide_eq_true_eq]
          exact ⟨fun h => h.elim Or.inl (fun h => Or.inr ⟨z, h.symm⟩), fun h => h.elim Or.inl (fun h => Or.inr h.2.symm)⟩
        · rw [if_neg z]
          exact ⟨Or.inl, fun h => h.elim id (fun h => absurd h.1 z)⟩
      have s2 : ∀ b, (fz_st2 b t (pt.getD t 0)).testBit j = true ↔ b.testBit j = true ∨ (pt.getD t 0 = 6 ∧ j = t) := by
        intro b
        unfold fz_st2
        by_cases z : pt.getD t 0 = 6
        · rw [if_pos z, fz_tb, Bool.or_eq_true, decide_eq_true_eq]
          exact ⟨fun h => h.elim Or.inl (fun h => Or.inr ⟨z, h.symm⟩), fun h => h.elim Or.inl (fun h => Or.inr h.2.symm)⟩
        · rw [if_neg z]
          exact ⟨Or.inl, fun h => h.elim id (fun h => absurd h.1 z)⟩
      rw [s2, s1, or_assoc]
    simp only [fz_stk]
    by_cases z : s.testBit t = true
    · rw [if_pos z, st, ih]
      constructor
      · rintro (⟨i, a, b⟩ | h)
        · exact ⟨i, by omega, b⟩
        · exact ⟨t, by omega, z, h⟩
      · rintro ⟨i, a, b, d⟩
        by_cases y : i = t
        · subst y; exact Or.inr d
        · exact Or.inl ⟨i, by omega, b, d⟩
    · rw [if_neg z, ih]
      constructor
      · rintro ⟨i, a, b⟩
        exact ⟨i, by omega, b⟩
      · rintro ⟨i, a, b, d⟩
        by_cases y : i = t
        · subst y; exact absurd b z
        · exact ⟨i, by omega, b, d⟩
theorem fz_st_R {pt : List Nat} {s c : Nat} {q : List Nat} (hc : c ≤ 4) (cd : fz_cd pt s) : fz_R pt s (c :: q) ↔ fz_R pt (fz_stk pt s c pt.length) q := by
  constructor
  · rintro ⟨t, h1, h2, h3⟩
    have key : ∀ (d t : Nat), t + d = pt.length → s.testBit t = true → fz_mt (pt.drop t) (c :: q) = true → fz_R pt (fz_stk pt s c pt.length) q := by
      intro d
      induction d with
      | zero =>
        intro t e _ h3
        rw [show t = pt.length by omega, List.drop_length, fz_mt_e] at h3
        cases h3
      | succ d ih =>
        intro t e h2 h3
        have tl : t < pt.length := by omega
        rw [fz_drop1 tl] at h3
        by_cases z : pt.getD t 0 = 6
        · rw [z, fz_mt_6, Bool.or_eq_true] at h3
          rcases h3 with h3 | h3
          · exact ih (t + 1) (by omega) (cd t tl h2 z) h3
          · refine ⟨t, by omega, fz_stk_bit.mpr ⟨t, tl, h2, Or.inr ⟨z, rfl⟩⟩, ?_⟩
            rw [fz_drop1 tl, z]; exact h3
        · rw [fz_mt_c z, Bool.and_eq_true, Bool.or_eq_true, decide_eq_true_eq, decide_eq_true_eq] at h3
          exact ⟨t + 1, by omega, fz_stk_bit.mpr ⟨t, tl, h2, Or.inl ⟨h3.1.symm, rfl⟩⟩, h3.2⟩
    exact key (pt.length - t) t (by omega) h2 h3
  · rintro ⟨j, h1, h2, h3⟩
    obtain ⟨t, tl, hb, h⟩ := fz_stk_bit.mp h2
    refine ⟨t, by omega, hb, ?_⟩
    rcases h with ⟨h, e⟩ | ⟨h, e⟩
    · subst e
      have z : pt.getD t 0 ≠ 6 := by rcases h with h | h <;> omega
      rw [fz_drop1 tl, fz_mt_c z, h3, Bool.and_true, Bool.or_eq_true, decide_eq_true_eq, decide_eq_true_eq]
      exact h.symm
    · subst e
      rw [fz_drop1 tl, h] at h3 ⊢
      rw [fz_mt_6, h3, Bool.or_true]
theorem fz_ss_R {pt : List Nat} : ∀ (n : Nat) (p q : List Nat), p.length = n → fz_lw p → (fz_R pt (fz_ss pt p) q ↔ fz_mt pt (p ++ q) = true)
  | 0, p, q, e, _ => by
    have : p = [] := List.eq_nil_of_length_eq_zero e
    subst this
    show fz_R pt (fz_cl pt 1) q ↔ _
    rw [fz_cl_R]
    constructor
    · rintro ⟨t, h1, h2, h3⟩
      have : t = 0 := Nat.testBit_one_eq_true_iff_self_eq_zero.mp h2
      subst this
      exact h3
    · intro h
      exact ⟨0, by omega, rfl, h⟩
  | n + 1, p, q, e, hp => by
    have z : p ≠ [] := fun h => by subst h; simp at e
    obtain ⟨v, c, rfl⟩ := fz_snoc z
    have ⟨h1, h2⟩ := fz_lw_app.mp hp
    have lv : v.length = n := by simpa using e
    rw [fz_ss_s, fz_cl_R, ← fz_st_R (fz_lw_hd h2).2 (fz_ss_cd pt v), fz_ss_R n v (c :: q) lv h1]
    simp
theorem fz_ss_end {pt p : List Nat} (hp : fz_lw p) : (fz_ss pt p).testBit pt.length = true ↔ fz_mt pt p = true := by
  have h := fz_ss_R (pt := pt) _ p [] rfl hp
  rw [List.append_nil] at h
  rw [← h]
  constructor
  · intro b
    exact ⟨pt.length, Nat.le_refl _, b, by rw [List.drop_length]; simp [fz_mt]⟩
  · rintro ⟨t, h1, h2, h3⟩
    have key : ∀ (d t : Nat), t + d = pt.length → (fz_ss pt p).testBit t = true → fz_mt (pt.drop t) [] = true → (fz_ss pt p).testBit pt.length = true := by
      intro d
      induction d with
      | zero =>
        intro t e h2 _
        rw [show t = pt.length by omega] at h2; exact h2
      | succ d ih =>
        intro t e h2 h3
        have tl : t < pt.length := by omega
        rw [fz_drop1 tl, fz_mt_n, Bool.and_eq_true, decide_eq_true_eq] at h3
        exact ih (t + 1) (by omega) (fz_ss_cd pt p t tl h2 h3.1) h3.2
    exact key (pt.length - t) t (by omega) h2 h3
theorem fz_ss_no {pt p : List Nat} (hp : fz_lw p) (h : fz_ss pt p = 0) (q : List Nat) : ¬ fz_mt pt (p ++ q) = true := by
  rw [← fz_ss_R _ p q rfl hp, h]
  rintro ⟨t, _, h2, _⟩
  rw [Nat.zero_testBit] at h2; cases h2
end
section
/-! match: the component -/
theorem fz_sl5 : ∀ n, n < 32 → ((nI n &&& 31).toBitVec.smod 32).toNat = n := by decide +kernel
theorem fz_or (a b : Nat) : nI a ||| nI b = nI (a ||| b) := by
  apply Int32.toBitVec_inj.1
  show BitVec.ofNat 32 a ||| BitVec.ofNat 32 b = BitVec.ofNat 32 (a ||| b)
  apply BitVec.eq_of_getLsbD_eq
  intro i hi
  simp [hi]
theorem fz_bit {s t : Nat} (hs : s < 128) (ht : t < 32) : ((nI s >>> (nI t &&& 31)) &&& 1) = 0 ↔ ¬ s.testBit t = true := by
  rw [pk_shrN (by omega) _ t (fz_sl5 t ht), pk_andN (Nat.lt_of_le_of_lt (Nat.div_le_self _ _) (by omega)) (m := 1) 1 (by decide), ← nI_0, nI_eq (by omega) (by omega), Nat.testBit_eq_decide_div_mod_eq]
  generalize s / 2 ^ t = z
  rw [decide_eq_true_eq]
  omega
theorem fz_shl (n t : Nat) (hn : n ≤ 2) (ht : t ≤ 6) : nI n <<< (nI t &&& 31) = nI (n * 2 ^ t) := by
  have : 2 ^ t ≤ 2 ^ 6 := Nat.pow_le_pow_right (by decide) ht
  have h2 : n * 2 ^ t ≤ 2 * 2 ^ 6 := Nat.mul_le_mul hn this
  exact pk_shlN _ t (fz_sl5 t (by omega)) (by omega)
theorem fz_or2 (a t : Nat) (ht : t ≤ 6) : nI a ||| ((2 : Int32) <<< (nI t &&& 31)) = nI (a ||| 2 ^ (t + 1)) := by
  have e := fz_shl 2 t (by omega) ht
  have e' : (2 : Int32) <<< (nI t &&& 31) = nI (2 * 2 ^ t) := e
  rw [e', fz_or, Nat.pow_succ, Nat.mul_comm]
theorem fz_or1 (a t : Nat) (ht : t ≤ 6) : nI a ||| ((1 : Int32) <<< (nI t &&& 31)) = nI (a ||| 2 ^ t) := by
  have e := fz_shl 1 t (by omega) ht
  have e' : (1 : Int32) <<< (nI t &&& 31) = nI (1 * 2 ^ t) := e
  rw [e', fz_or, Nat.one_mul]
section
variable {fu fa fl fy : Int32} {nx en wd rt : Nat → Nat} {aH aC aE aW aL aD aP aY aS aT aN aR aM aQ aB : Nat → Int32} {F : List Nat} {L : Nat → List (List Nat)}
theorem fz_x_close4 {post : Int32 → Prop} {pt : List Nat} {s : Nat} (h6 : pt.length ≤ 6) (hs : s < 128) (hl : fz_lr aB 0 pt) (hv : fz_pv pt) (hp : post (nI (fz_cl pt s))) :
    ∀ (d t f : Nat), t + d = pt.length → d < f → wX_close_4 post fu fa fl (nI pt.length) (fz_c nx) (fz_c en) (fz_c wd) aH aC aE (fz_c rt) aW aL aD aP aY aS aT aN aR aM aQ aB f (nI (fz_clk pt s t)) (nI t)
  | _, _, 0, _, h => by omega
  | 0, t, f + 1, ht, _ => by
    have : t = pt.length := by omega
    subst this
    exact br_t (nI_le (Nat.le_refl _) (by omega)) hp
  | d + 1, t, f + 1, ht, hf => by
    have tl : t < pt.length := by omega
    have IH := fz_x_close4 h6 hs hl hv hp d (t + 1) f (by omega) (by omega)
    have lt := fz_clk_lt (pt := pt) hs (t := t) (by omega)
    have la : aB (nI t).toNatClampNeg = nI (pt.getD t 0) := by
      have := fz_lr_get hl (i := t) tl
      rw [Nat.zero_add] at this
      rw [nI_clamp (by omega), this]
    have c6 : pt.getD t 0 ≤ 6 := by
      rw [List.getD_eq_getElem?_getD, List.getElem?_eq_getElem tl]
      exact (hv _ (List.getElem_mem tl)).2
    have bi := fz_bit lt (show t < 32 by omega)
    refine br_f (nI_ge (by omega) (by omega)) ?_
    simp only [fz_clk] at IH
    by_cases z : (fz_clk pt s t).testBit t = true
    · refine br_f (fun q => bi.mp q z) ⟨vp_in_nI (by omega) (by omega), ?_⟩
      rw [la]
      by_cases y : pt.getD t 0 = 6
      · rw [if_pos ⟨z, y⟩] at IH
        exact br_t (by rw [y]; rfl) (nm_r (fz_or2 _ t (by omega)) (nm_r (nI_1 t) IH))
      · rw [if_neg (fun q => y q.2)] at IH
        exact br_f (fun q => y ((nI_eq (a := pt.getD t 0) (b := 6) (by omega) (by decide)).mp q)) (nm_r (nI_1 t) IH)
    · rw [if_neg (fun q => z q.1)] at IH
      exact br_t (bi.mpr z) (nm_r (nI_1 t) IH)
theorem fz_x_close {post : Int32 → Prop} {pt : List Nat} {s : Nat} (h6 : pt.length ≤ 6) (hs : s < 128) (hl : fz_lr aB 0 pt) (hv : fz_pv pt) (hp : post (nI (fz_cl pt s))) : wpX_close post (fu, fa, fl, nI pt.length, fz_c nx, fz_c en, fz_c wd, aH, aC, aE, fz_c rt, aW, aL, aD, aP, aY, aS, aT, aN, aR, aM, aQ, aB) (nI s) :=
  Exists.intro (pt.length + 1) (fz_x_close4 h6 hs hl hv hp pt.length 0 _ (by omega) (by omega))
theorem fz_x_step5 {post : Int32 → SX → Prop} {pt : List Nat} {s c i : Nat} (h6 : pt.length ≤ 6) (i1 : 1 ≤ i) (i5 : i ≤ 5) (c4 : c ≤ 4) (hs : s < 128) (hq : aQ (i - 1) = nI s) (hl : fz_lr aB 0 pt) (hv : fz_pv pt)
    (P1 : fz_stk pt s c pt.length ≠ 0 → post 1 (fu, fa, fl, nI pt.length, fz_c nx, fz_c en, fz_c wd, aH, aC, aE, fz_c rt, aW, aL, aD, aP, aY, aS, aT, aN, aR, aM, upd aQ i (nI (fz_cl pt (fz_stk pt s c pt.length))), aB)) (P0 : fz_stk pt s c pt.length = 0 → post 0 (fu, fa, fl, nI pt.length, fz_c nx, fz_c en, fz_c wd, aH, aC, aE, fz_c rt, aW, aL, aD, aP, aY, aS, aT, aN, aR, aM, upd aQ i (nI (fz_cl pt (fz_stk pt s c pt.length))), aB)) :
    ∀ (d t f : Nat), t + d = pt.length → d < f → wX_step_5 post (nI i) (nI c) fu fa fl (nI pt.length) (fz_c nx) (fz_c en) (fz_c wd) aH aC aE (fz_c rt) aW aL aD aP aY aS aT aN aR aM aQ aB f (nI (fz_stk pt s c t)) (nI t)
  | _, _, 0, _, h => by omega
  | 0, t, f + 1, ht, _ => by
    have : t = pt.length := by omega
    subst this
    have lt := fz_stk_lt (pt := pt) (s := s) (c := c) (t := pt.length) h6
    have cl := fz_cl_lt lt h6
    refine br_t (nI_le (Nat.le_refl _) (by omega)) (fz_x_close h6 lt hl hv ⟨vp_in_nI (by omega) (by omega), nm_r (e' := upd aQ i (nI (fz_cl pt (fz_stk pt s c pt.length)))) (by rw [fz_nb2 (by omega), nI_clamp (by omega)]) ?_⟩)
    by_cases z : fz_stk pt s c pt.length = 0
    · exact br_t (by rw [z]; rfl) (P0 z)
    · exact br_f (nI_ne0 (by omega) (by omega)) (P1 z)
  | d + 1, t, f + 1, ht, hf => by
    have tl : t < pt.length := by omega
    have IH := fz_x_step5 h6 i1 i5 c4 hs hq hl hv P1 P0 d (t + 1) f (by omega) (by omega)
    have la : aB (nI t).toNatClampNeg = nI (pt.getD t 0) := by
      have := fz_lr_get hl (i := t) tl
      rw [Nat.zero_add] at this
      rw [nI_clamp (by omega), this]
    have c6 : pt.getD t 0 ≤ 6 := by
      rw [List.getD_eq_getElem?_getD, List.getElem?_eq_getElem tl]
      exact (hv _ (List.getElem_mem tl)).2
    have E1 : nI i - 1 = nI (i - 1) := by show nI i - nI 1 = _; rw [pk_sub (by omega)]
    have bi := fz_bit hs (show t < 32 by omega)
    refine br_f (nI_ge (by omega) (by omega)) ⟨by rw [E1]; exact vp_in_nI (by omega) (by omega), ?_⟩
    rw [E1, nI_clamp (by omega), hq]
    simp only [fz_stk] at IH
    by_cases z : s.testBit t = true
    · rw [if_pos z] at IH
      refine br_f (fun q => bi.mp q z) ⟨vp_in_nI (by omega) (by omega), nm_r la ?_⟩
      have S61 : ∀ a, fz_st1 (fz_stk pt s c t) t (pt.getD t 0) c = a → wX_step_61 post (wX_step_5 post (nI i) (nI c) fu fa fl (nI pt.length) (fz_c nx) (fz_c en) (fz_c wd) aH aC aE (fz_c rt) aW aL aD aP aY aS aT aN aR aM aQ aB f) (nI i) (nI c) (nI a) (nI t) (nI (pt.getD t 0)) fu fa fl (nI pt.length) (fz_c nx) (fz_c en) (fz_c wd) aH aC aE (fz_c rt) aW aL aD aP aY aS aT aN aR aM aQ aB := by
        intro a ea
        rw [ea] at IH
        unfold fz_st2 at IH
        by_cases y : pt.getD t 0 = 6
        · rw [if_pos y] at IH
          exact br_t (by rw [y]; rfl) (nm_r (fz_or1 _ t (by omega)) (nm_r (nI_1 t) IH))
        · rw [if_neg y] at IH
          exact br_f (fun q => y ((nI_eq (a := pt.getD t 0) (b := 6) (by omega) (by decide)).mp q)) (nm_r (nI_1 t) IH)
      by_cases y1 : pt.getD t 0 = c
      · refine br_t (by rw [y1]) (nm_r (fz_or2 _ t (by omega)) (S61 _ ?_))
        unfold fz_st1; rw [if_pos (Or.inl y1)]
      · refine br_f (by rw [nI_eq (by omega) (by omega)]; exact y1) ?_
        by_cases y2 : pt.getD t 0 = 5
        · refine br_t (by rw [y2]; rfl) (nm_r (fz_or2 _ t (by omega)) (S61 _ ?_))
          unfold fz_st1; rw [if_pos (Or.inr y2)]
        · refine br_f (fun q => y2 ((nI_eq (a := pt.getD t 0) (b := 5) (by omega) (by decide)).mp q)) (S61 _ ?_)
          unfold fz_st1; rw [if_neg (fun q => q.elim y1 y2)]
    · rw [if_neg z] at IH
      exact br_t (bi.mpr z) (nm_r (nI_1 t) IH)
end
def fz_Im (pt p : List Nat) (_aR _aM aQ : Nat → Int32) : Prop := fz_lw p ∧ ∀ i, i ≤ p.length → aQ i = nI (fz_ss pt (p.take i))
def fz_mf (pt p : List Nat) : Prop := fz_mt pt p = true
def fz_mg2 (pt p : List Nat) : Prop := fz_lw p → fz_ss pt p ≠ 0
theorem fz_Im_down {pt p : List Nat} {c : Nat} {aR aM aQ : Nat → Int32} (h : fz_Im pt (p ++ [c]) aR aM aQ) : fz_Im pt p aR aM aQ := by
  refine ⟨(fz_lw_app.mp h.1).1, fun i hi => ?_⟩
  rw [h.2 i (by rw [List.length_append]; omega), List.take_append_of_le_length hi]
section
variable {un al : Nat} {fl fy : Int32} {nx en wd rt hd ch he wt : Nat → Nat} {aL aD aP aY aS aT aN aR aM aQ aB : Nat → Int32} {F : List Nat} {B : Nat → List Nat} {L : Nat → List (List Nat)} {E : Nat → List (List Nat × Nat)}
theorem fz_x_matchW {post : Int32 → SX → Prop} (H : fz_HS un al nx en wd hd ch he rt wt F B L E) {s : Nat} {pt : List Nat} {x3 : Int32} (hs : s < 4) (h6 : pt.length ≤ 6) (hv : fz_pv pt) (hl : fz_lr aB 0 pt) (h0 : aQ 0 = nI (fz_cl pt 1)) (P : ∀ r u', fz_an x3 (fz_fm (fz_mf pt) [] (fz_ky (E s))) r → fz_XS u' E → post r u') : wpX_walk post (nI un, nI al, fl, nI pt.length, fz_c nx, fz_c en, fz_c wd, fz_c hd, fz_c ch, fz_c he, fz_c rt, fz_c wt, aL, aD, aP, aY, aS, aT, aN, aR, aM, aQ, aB) (nI s) x3 0 0 := by
  refine fz_x_walk (fits := fz_mf pt) (goes := fz_mg2 pt) (Inf := fz_Im pt) (F := F) (L := L) H.1.1 (by omega) (fz_HS_Nd H (by omega)) (by rw [fz_HS_L H (by omega)]; exact (H.2.2.1 s (by omega)).2) (fun p c aR aM aQ h => fz_Im_down h) ?_ ?_ ?_ ?_ ?_
  · intro p c aP aY aR aM aQ K hp p5 c1 c4 hy hI K1 K0
    have hpc : fz_lw (p ++ [c]) := fz_lw_app.mpr ⟨hp, fz_lw_cons c1 c4 fz_lw_nil⟩
    have lt := fz_ss_lt h6 p
    have INF : ∀ aQ', aQ' = upd aQ (p.length + 1) (nI (fz_cl pt (fz_stk pt (fz_ss pt p) c pt.length))) → fz_Im pt (p ++ [c]) aR aM aQ' := by
      intro aQ' e
      refine ⟨hpc, fun i hi => ?_⟩
      rw [List.length_append, List.length_singleton] at hi
      by_cases z : i = p.length + 1
      · have tk : (p ++ [c]).take (p.length + 1) = p ++ [c] := by
          have : p.length + 1 = (p ++ [c]).length := by simp
          rw [this, List.take_length]
        rw [e, z, pk_us, tk, fz_ss_s]
      · rw [e, pk_un z, List.take_append_of_le_length (by omega)]
        exact hI.2 i (by omega)
    refine br_t rfl ?_
    rw [nI_1]
    refine Exists.intro (pt.length + 1) (fz_x_step5 h6 (by omega) (by omega) c4 lt (by have := hI.2 p.length (Nat.le_refl _); rw [List.take_length] at this; exact this) hl hv (fun z => K1 ?_ aR aM _ (INF _ rfl)) (fun z => K0 ?_ aR aM _ (INF _ rfl)) pt.length 0 _ (by omega) (by omega))
    · intro _ q
      rw [fz_ss_s, fz_cl_0] at q
      exact z q
    · intro q
      refine q hpc ?_
      rw [fz_ss_s, fz_cl_0]; exact z
  · intro p aR aM aQ A B p1 p5 hI hB hA
    have lt := fz_ss_lt h6 p
    have e1 : aQ p.length = nI (fz_ss pt p) := by
      have := hI.2 p.length (Nat.le_refl _)
      rw [List.take_length] at this; exact this
    refine br_t rfl ⟨vp_in_nI (by omega) (by omega), ?_⟩
    rw [nI_clamp (by omega), e1]
    have bi := fz_bit lt (show pt.length < 32 by omega)
    have en := fz_ss_end (pt := pt) hI.1
    by_cases z : (fz_ss pt p).testBit pt.length = true
    · exact br_f (fun q => bi.mp q z) (hB (en.mp z))
    · exact br_t (bi.mpr z) (hA (fun q => z (en.mpr q)))
  · intro p h q hf
    have : fz_lw p ∧ fz_ss pt p = 0 := by
      refine Classical.byContradiction fun n => h (fun lw z => n ⟨lw, z⟩)
    exact fz_ss_no this.1 this.2 q hf
  · refine ⟨fz_lw_nil, fun i hi => ?_⟩
    have : i = 0 := by simpa using hi
    subst this
    exact h0
  · intro r aP aY aR aM aQ han
    rw [fz_HS_L H (by omega)] at han
    exact P r _ han (fz_XS_mk H)
end
end
section
/-! match: patterns taken apart; the reference's table -/
def fz_pt (x : Int32) (pt : List Nat) : Prop := fz_pv pt ∧ 1 ≤ pt.length ∧ pt.length ≤ 6 ∧ x = nI (fz_e7 pt)
theorem fz_pv7 {pt : List Nat} (h : fz_pv pt) : ∀ c, c ∈ pt → c < 7 := fun c m => by have := h c m; omega
theorem fz_e7_6 {pt : List Nat} (h : ∀ c, c ∈ pt → c < 7) (h6 : pt.length ≤ 6) : fz_e7 pt < 117649 := Nat.lt_of_lt_of_le (fz_e7_lt h) (fz_p7_le (b := 6) h6)
theorem fz_e7_pos {pt : List Nat} (h : fz_pv pt) (h1 : pt ≠ []) : 0 < fz_e7 pt := by
  cases pt with
  | nil => exact absurd rfl h1
  | cons c t =>
    have := (h c (List.mem_cons_self ..)).1
    have := Nat.mul_le_mul_right (7 ^ t.length) this
    have := fz_p7 t.length
    simp only [fz_e7]; omega
theorem fz_d7_e7 : ∀ (f : Nat) (w : List Nat), fz_pv w → w.length ≤ f → fz_d7 f (fz_e7 w) = w
  | 0, w, _, h => by
    have : w = [] := List.eq_nil_of_length_eq_zero (by omega)
    subst this; rfl
  | f + 1, w, hw, h => by
    by_cases z : w = []
    · subst z; simp [fz_e7, fz_d7]
    · obtain ⟨v, c, rfl⟩ := fz_snoc z
      have hc := hw c (by simp)
      have hv : fz_pv v := fun d m => hw d (List.mem_append.mpr (Or.inl m))
      simp only [List.length_append, List.length_cons, List.length_nil] at h
      rw [fz_e7_snoc]
      simp only [fz_d7, if_neg (show ¬ 7 * fz_e7 v + c = 0 by omega)]
      rw [show (7 * fz_e7 v + c) / 7 = fz_e7 v by omega, show (7 * fz_e7 v + c) % 7 = c by omega, fz_d7_e7 f v hv (by omega)]
theorem fz_pt_in {x : Int32} {pt : List Nat} (h : fz_pt x pt) : ¬ x < 1 ∧ x < 117649 := by
  obtain ⟨h1, h2, h3, rfl⟩ := h
  have a := fz_e7_6 (fz_pv7 h1) h3
  have b := fz_e7_pos h1 (List.length_pos_iff.mp h2)
  exact ⟨nI_nlt (b := 1) b (by omega), nI_lt (b := 117649) a (by decide)⟩
theorem fz_pt_d7 {j : Nat} (h0 : 0 < j) (hj : j < 117649) : (∃ pt, fz_pt (nI j) pt) ↔ ¬ 0 ∈ fz_d7 6 j := by
  constructor
  · rintro ⟨w, h1, h2, h3, h4⟩ m
    have := fz_e7_6 (fz_pv7 h1) h3
    have e : j = fz_e7 w := (nI_eq (by omega) (by omega)).mp h4
    rw [e, fz_d7_e7 6 w h1 h3] at m
    have := (h1 0 m).1
    omega
  · intro h
    refine ⟨fz_d7 6 j, ?_, List.length_pos_iff.mpr (fz_d7_ne (by omega) (by omega)), fz_d7_len 6 j, by rw [fz_e7_d7 6 j hj]⟩
    intro c m
    have := fz_d7_7 6 j c m
    have : c ≠ 0 := fun e => h (e ▸ m)
    omega
section
variable {fu fa fl fy : Int32} {nx en wd rt : Nat → Nat} {aH aC aE aW aL aD aP aY aS aT aN aR aM aQ aB : Nat → Int32} {F : List Nat} {L : Nat → List (List Nat)}
theorem fz_x_match29 {post : Int32 → SX → Prop} {x1 x2 x3 : Int32} : ∀ (f g j a : Nat), j < 7 ^ g → g ≤ 6 → g < f → (∀ x5 : Int32, x5 = nI (a + (fz_d7 g j).length) - 1 → ∃ n65, wX_match_65 post x1 x3 fu fa fl (nI (a + (fz_d7 g j).length)) n65 x2 x5 (fz_c nx) (fz_c en) (fz_c wd) aH aC aE (fz_c rt) aW aL aD aP aY aS aT aN aR aM aQ aB) → wX_match_29 post x1 x2 x3 fu fa fl (fz_c nx) (fz_c en) (fz_c wd) aH aC aE (fz_c rt) aW aL aD aP aY aS aT aN aR aM aQ aB f (nI j) (nI a)
  | 0, _, _, _, _, _, h, _ => by omega
  | f + 1, g, j, a, hj, h6, hf, K => by
    by_cases z : j = 0
    · subst z
      have e0 : (fz_d7 g 0).length = 0 := by cases g <;> simp [fz_d7]
      rw [e0] at K
      exact br_t (show nI 0 ≤ 0 by decide) K
    · have g0 : g ≠ 0 := fun e => by subst e; simp at hj; omega
      obtain ⟨i, rfl⟩ : ∃ i, g = i + 1 := ⟨g - 1, by omega⟩
      have b := fz_p7_le (a := i + 1) (b := 6) h6
      have b' : 7 ^ (i + 1) ≤ 117649 := b
      have ed : nI j / 7 = nI (j / 7) := pk_div (d := 7) (by omega) (by omega) (by omega)
      have el : a + (fz_d7 (i + 1) j).length = a + 1 + (fz_d7 i (j / 7)).length := by simp [fz_d7, z]; omega
      rw [el] at K
      refine br_f (nI_nle (by omega) (by omega)) (nm_r (nI_1 a) ⟨fz_n7, nm_r ed ?_⟩)
      exact fz_x_match29 f i (j / 7) (a + 1) (by rw [Nat.pow_succ] at hj; omega) (by omega) (by omega) K
theorem fz_x_match65 {post : Int32 → SX → Prop} {x1 x3 : Int32} {pt : List Nat} (h6 : pt.length ≤ 6) (h7 : ∀ c, c ∈ pt → c < 7) (H0 : 0 ∈ pt → ∀ aB, post (-1) (fu, fa, fl, nI pt.length, fz_c nx, fz_c en, fz_c wd, aH, aC, aE, fz_c rt, aW, aL, aD, aP, aY, aS, aT, aN, aR, aM, aQ, aB)) (H1 : ¬ 0 ∈ pt → ∀ (aB : Nat → Int32) (f : Nat), fz_lr aB 0 pt → wX_match_65 post x1 x3 fu fa fl (nI pt.length) (f + 1) (nI 0) (-1) (fz_c nx) (fz_c en) (fz_c wd) aH aC aE (fz_c rt) aW aL aD aP aY aS aT aN aR aM aQ aB) :
    ∀ (k f : Nat) (aB : Nat → Int32), k ≤ pt.length → k < f → fz_lr aB k (pt.drop k) → ¬ 0 ∈ pt.drop k → wX_match_65 post x1 x3 fu fa fl (nI pt.length) f (nI (fz_e7 (pt.take k))) (nI k + (-1)) (fz_c nx) (fz_c en) (fz_c wd) aH aC aE (fz_c rt) aW aL aD aP aY aS aT aN aR aM aQ aB
  | _, 0, _, _, h, _, _ => by omega
  | 0, f + 1, aB, _, _, hl, hz => by
    rw [List.drop_zero] at hl hz
    exact H1 hz aB f hl
  | k + 1, f + 1, aB, hk, hf, hl, hz => by
    have kl : k < pt.length := by omega
    have ⟨e1, e2⟩ := fz_e7_take h7 kl
    have b : fz_e7 (pt.take (k + 1)) < 117649 := fz_e7_6 (fun c m => h7 c (List.mem_of_mem_take m)) (by rw [List.length_take]; omega)
    have er : nI (fz_e7 (pt.take (k + 1))) - nI (fz_e7 (pt.take (k + 1))) / 7 * 7 = nI (pt.getD k 0) := by
      have := pk_rem (a := fz_e7 (pt.take (k + 1))) (d := 7) (by omega) (by omega) (by omega)
      rw [e2] at this; exact this
    have ed : nI (fz_e7 (pt.take (k + 1))) / 7 = nI (fz_e7 (pt.take k)) := by
      have := pk_div (a := fz_e7 (pt.take (k + 1))) (d := 7) (by omega) (by omega) (by omega)
      rw [e1] at this; exact this
    have c7 : pt.getD k 0 < 7 := by
      rw [List.getD_eq_getElem?_getD, List.getElem?_eq_getElem kl]
      exact h7 _ (List.getElem_mem kl)
    have cm : pt.getD k 0 ∈ pt := by
      rw [List.getD_eq_getElem?_getD, List.getElem?_eq_getElem kl]
      exact List.getElem_mem kl
    have i6 : vp_in (nI k) 6 := vp_in_nI (by omega) (by omega)
    rw [pk_m1]
    refine br_f (nI_pos (by omega)) ⟨fz_n7, i6, nm_r (e' := upd aB k (nI (pt.getD k 0))) (by rw [er, fz_nb2 (by omega), nI_clamp (by omega)]) ⟨i6, ?_⟩⟩
    have ev : upd aB k (nI (pt.getD k 0)) (nI k).toNatClampNeg = nI (pt.getD k 0) := by rw [nI_clamp (by omega), pk_us]
    rw [ev]
    by_cases z : pt.getD k 0 = 0
    · exact br_t (by rw [z]; rfl) (H0 (z ▸ cm) _)
    · refine br_f (nI_ne0 (by omega) (by omega)) ⟨fz_n7, nm_r ed (nm_e (fz_x_match65 h6 h7 H0 H1 k f _ (by omega) (by omega) ?_ ?_))⟩
      · rw [fz_drop1 kl]
        exact ⟨pk_us, fz_lr_upd (Or.inl (by omega)) hl⟩
      · rw [fz_drop1 kl, List.mem_cons]
        rintro (q | q)
        · exact z q.symm
        · exact hz q
end
section
variable {un al : Nat} {fl fy : Int32} {nx en wd rt hd ch he wt : Nat → Nat} {aL aD aP aY aS aT aN aR aM aQ aB : Nat → Int32} {F : List Nat} {B : Nat → List Nat} {L : Nat → List (List Nat)} {E : Nat → List (List Nat × Nat)}
theorem fz_x_match {post : Int32 → SX → Prop} (H : fz_HS un al nx en wd hd ch he rt wt F B L E) {s : Nat} {x x3 : Int32} {pt : List Nat} (hs : s < 4) (hp : fz_pt x pt) (P : ∀ r u', fz_an x3 (fz_fm (fz_mf pt) [] (fz_ky (E s))) r → fz_XS u' E → post r u') : wpX_match post (nI un, nI al, fl, fy, fz_c nx, fz_c en, fz_c wd, fz_c hd, fz_c ch, fz_c he, fz_c rt, fz_c wt, aL, aD, aP, aY, aS, aT, aN, aR, aM, aQ, aB) (nI s) x x3 := by
  have ⟨a, b⟩ := fz_pt_in hp
  obtain ⟨h1, h2, h3, rfl⟩ := hp
  have l7 := fz_e7_6 (fz_pv7 h1) h3
  have ed := fz_d7_e7 6 pt h1 h3
  have z0 : ¬ 0 ∈ pt := fun m => by have := (h1 0 m).1; omega
  unfold wpX_match
  refine fz_x_one1 hs (br_f (by decide) (br_f a (br_t b ⟨7, ?_⟩)))
  refine fz_x_match29 7 6 (fz_e7 pt) 0 l7 (by omega) (by omega) ?_
  rw [ed, Nat.zero_add]
  intro x5 e5
  refine ⟨pt.length + 1, ?_⟩
  have key := fz_x_match65 (post := post) (fu := nI un) (fa := nI al) (fl := fl) (nx := nx) (en := en) (wd := wd) (rt := rt) (aH := fz_c hd) (aC := fz_c ch) (aE := fz_c he) (aW := fz_c wt) (aL := aL) (aD := aD) (aP := aP) (aY := aY) (aS := aS) (aT := aT) (aN := aN) (aR := aR) (aM := aM) (aQ := aQ) (x1 := nI s) (x3 := x3) (pt := pt) h3 (fz_pv7 h1) (fun m => absurd m z0) ?_ pt.length (pt.length + 1) aB (Nat.le_refl _) (by omega) (by rw [List.drop_length]; trivial) (by rw [List.drop_length]; simp)
  · rw [List.take_length] at key
    rw [e5, Int32.sub_eq_add_neg]
    exact key
  · intro _ aB' f hl
    have c1 := fz_cl_lt (pt := pt) (s := 1) (by decide) h3
    refine br_t (by decide) (fz_x_close (s := 1) h3 (by decide) hl h1 (nm_r (e' := upd aQ 0 (nI (fz_cl pt 1))) (by rw [fz_nb2 (by omega)]) ?_))
    exact fz_x_matchW H hs h3 h1 hl pk_us P
theorem fz_x_match_n {post : Int32 → SX → Prop} (H : fz_HS un al nx en wd hd ch he rt wt F B L E) {v1 v2 v3 : Int32} (hn : ¬ (fz_dc v1 ∧ ∃ pt, fz_pt v2 pt)) (P : ∀ u', fz_XS u' E → post (-1) u') : wpX_match post (nI un, nI al, fl, fy, fz_c nx, fz_c en, fz_c wd, fz_c hd, fz_c ch, fz_c he, fz_c rt, fz_c wt, aL, aD, aP, aY, aS, aT, aN, aR, aM, aQ, aB) v1 v2 v3 := by
  unfold wpX_match
  by_cases z1 : fz_dc v1
  · obtain ⟨s, hs, rfl⟩ := z1
    refine fz_x_one1 hs (br_f (by decide) ?_)
    by_cases z2 : v2 < 1
    · exact br_t z2 (P _ (fz_XS_mk H))
    · refine br_f z2 ?_
      by_cases z3 : v2 < 117649
      · have n0 : ¬ v2 < 0 := fun q => z2 (by
          rw [Int32.lt_iff_toInt_lt] at q ⊢
          have e0 : (0 : Int32).toInt = 0 := by decide
          have e1 : (1 : Int32).toInt = 1 := by decide
          omega)
        obtain ⟨j, hj, rfl⟩ := nI_of n0
        have j0 : 0 < j := by
          rcases Nat.eq_zero_or_pos j with q | q
          · subst q; exact absurd (by decide) z2
          · exact q
        have jl : j < 117649 := (nI_ltI hj (by decide)).mp (show nI j < nI 117649 from z3)
        have zz : 0 ∈ fz_d7 6 j := Classical.byContradiction fun q => hn ⟨⟨s, hs, rfl⟩, (fz_pt_d7 j0 jl).mpr q⟩
        refine br_t z3 ⟨7, fz_x_match29 7 6 j 0 jl (by omega) (by omega) ?_⟩
        rw [Nat.zero_add]
        intro x5 e5
        refine ⟨(fz_d7 6 j).length + 1, ?_⟩
        have key := fz_x_match65 (post := post) (fu := nI un) (fa := nI al) (fl := fl) (nx := nx) (en := en) (wd := wd) (rt := rt) (aH := fz_c hd) (aC := fz_c ch) (aE := fz_c he) (aW := fz_c wt) (aL := aL) (aD := aD) (aP := aP) (aY := aY) (aS := aS) (aT := aT) (aN := aN) (aR := aR) (aM := aM) (aQ := aQ) (x1 := nI s) (x3 := v3) (pt := fz_d7 6 j) (fz_d7_len 6 j) (fz_d7_7 6 j) (fun _ aB => P _ (fz_XS_mk H)) (fun m => absurd zz m) (fz_d7 6 j).length ((fz_d7 6 j).length + 1) aB (Nat.le_refl _) (by omega) (by rw [List.drop_length]; trivial) (by rw [List.drop_length]; simp)
        rw [List.take_length, fz_e7_d7 6 j jl] at key
        rw [e5, Int32.sub_eq_add_neg]
        exact key
      · exact br_f z3 (P _ (fz_XS_mk H))
  · exact fz_x_one0 z1 (br_t rfl (P _ (fz_XS_mk H)))
end
/-! the reference -/
theorem fz_y_pat14 {post : Int32 → Prop} : ∀ (n f j : Nat), f ≤ 6 → j < 7 ^ f → f < n → (¬ 0 ∈ fz_d7 f j → post 1) → (0 ∈ fz_d7 f j → post 0) → wY_isPattern_14 post n (nI j)
  | 0, _, _, _, _, h, _, _ => by omega
  | n + 1, f, j, h5, hj, hn, p1, p0 => by
    by_cases z : j = 0
    · subst z
      refine br_t (show nI 0 ≤ 0 by decide) (p1 ?_)
      cases f <;> simp [fz_d7]
    · have b : 7 ^ f ≤ 117649 := fz_p7_le (b := 6) h5
      have f0 : f ≠ 0 := fun e => by subst e; simp at hj; omega
      obtain ⟨g, rfl⟩ : ∃ g, f = g + 1 := ⟨f - 1, by omega⟩
      have er : nI j - nI j / 7 * 7 = nI (j % 7) := pk_rem (d := 7) (by omega) (by omega) (by omega)
      have ed : nI j / 7 = nI (j / 7) := pk_div (d := 7) (by omega) (by omega) (by omega)
      simp only [fz_d7, if_neg z, List.mem_append, List.mem_singleton] at p1 p0
      refine br_f (nI_nle (by omega) (by omega)) ⟨fz_n7, ?_⟩
      rw [er]
      by_cases zz : j % 7 = 0
      · exact br_t (by rw [zz]; rfl) (p0 (Or.inr zz.symm))
      · refine br_f (nI_ne0 (by omega) (by omega)) ⟨fz_n7, nm_r ed ?_⟩
        refine fz_y_pat14 n g (j / 7) (by omega) (by rw [Nat.pow_succ] at hj; omega) (by omega) (fun h => p1 ?_) (fun h => p0 (Or.inl h))
        rintro (h' | h')
        · exact h h'
        · omega
theorem fz_y_pat1 {post : Int32 → Prop} {x : Int32} {pt : List Nat} (h : fz_pt x pt) (hp : post 1) : wpY_isPattern post x := by
  have ⟨a, b⟩ := fz_pt_in h
  have e0 := fz_e7_pos h.1 (List.length_pos_iff.mp h.2.1)
  have l7 := fz_e7_6 (fz_pv7 h.1) h.2.2.1
  have q := (fz_pt_d7 e0 l7).mp ⟨pt, h.1, h.2.1, h.2.2.1, rfl⟩
  rw [h.2.2.2] at b ⊢
  exact br_f (nI_nle e0 (by omega)) (br_t b ⟨7, fz_y_pat14 7 6 (fz_e7 pt) (by omega) l7 (by omega) (fun _ => hp) (fun m => absurd m q)⟩)
theorem fz_y_pat0 {post : Int32 → Prop} {x : Int32} (h : ¬ ∃ pt, fz_pt x pt) (hp : post 0) : wpY_isPattern post x := by
  by_cases a : x ≤ 0
  · exact br_t a hp
  · by_cases b : x < 117649
    · have n0 : ¬ x < 0 := fun q => a (Int32.le_of_lt q)
      obtain ⟨j, hj, rfl⟩ := nI_of n0
      have j0 : 0 < j := by
        rcases Nat.eq_zero_or_pos j with q | q
        · subst q; exact absurd (by decide) a
        · exact q
      have jl : j < 117649 := (nI_ltI hj (by decide)).mp (show nI j < nI 117649 from b)
      exact br_f a (br_t b ⟨7, fz_y_pat14 7 6 j (by omega) jl (by omega) (fun m => absurd ((fz_pt_d7 j0 jl).mpr m) h) (fun _ => hp)⟩)
    · exact br_f a (br_f b hp)
theorem fz_y_dig4 {post : Int32 → Prop} : ∀ (n : Nat) (w : List Nat) (a : Nat), fz_pv w → w.length ≤ 6 → w.length < n → post (nI (a + w.length)) → wY_digits_4 post n (nI a) (nI (fz_e7 w))
  | 0, _, _, _, _, h, _ => by omega
  | n + 1, w, a, hw, h5, hn, hp => by
    by_cases z : w = []
    · subst z
      exact br_t (show nI 0 ≤ 0 by decide) hp
    · have b := fz_e7_6 (fz_pv7 hw) h5
      have pp := fz_e7_pos hw z
      obtain ⟨v, c, rfl⟩ := fz_snoc z
      have hc := hw c (by simp)
      have h1 : fz_pv v := fun d m => hw d (List.mem_append.mpr (Or.inl m))
      have hl : (v ++ [c]).length = v.length + 1 := by simp
      rw [hl] at h5 hn hp
      have e5 : nI (fz_e7 (v ++ [c])) / 7 = nI (fz_e7 v) := by
        have := pk_div (a := fz_e7 (v ++ [c])) (d := 7) (by omega) (by omega) (by omega)
        rw [show (7 : Int32) = nI 7 from rfl, this, fz_e7_snoc]
        exact congrArg nI (by omega)
      refine br_f (nI_nle pp (by omega)) (nm_r (nI_1 a) ⟨fz_n7, nm_r e5 ?_⟩)
      exact fz_y_dig4 n v (a + 1) h1 (by omega) (by omega) (by rw [show a + 1 + v.length = a + (v.length + 1) by omega]; exact hp)
def fz_b (b : Bool) : Nat := if b = true then 1 else 0
theorem fz_b_le (b : Bool) : fz_b b ≤ 1 := by cases b <;> decide
theorem fz_b_0 {b : Bool} : fz_b b = 0 ↔ b = false := by cases b <;> decide
/-- the table's cell: whether the last i digits fit the last j letters -/
def fz_mc (pt w : List Nat) (i j : Nat) : Bool := fz_mt (pt.drop (pt.length - i)) (w.drop (w.length - j))
theorem fz_mc_0 (pt w : List Nat) {j : Nat} (hj : j ≤ w.length) : fz_mc pt w 0 j = decide (j = 0) := by
  unfold fz_mc
  rw [Nat.sub_zero, List.drop_length]
  cases j with
  | zero => rw [Nat.sub_zero, List.drop_length]; simp [fz_mt]
  | succ j =>
    rw [fz_drop1 (show w.length - (j + 1) < w.length by omega)]
    simp [fz_mt]
theorem fz_mc_dr {pt : List Nat} {i : Nat} (hi : i < pt.length) : pt.drop (pt.length - (i + 1)) = pt.getD (pt.length - (i + 1)) 0 :: pt.drop (pt.length - i) := by
  rw [fz_drop1 (by omega), show pt.length - (i + 1) + 1 = pt.length - i by omega]
theorem fz_mc_i0 {pt w : List Nat} {i : Nat} (hi : i < pt.length) : fz_mc pt w (i + 1) 0 = (decide (pt.getD (pt.length - (i + 1)) 0 = 6) && fz_mc pt w i 0) := by
  unfold fz_mc
  rw [fz_mc_dr hi, Nat.sub_zero, List.drop_length, fz_mt_n]
theorem fz_mc_6 {pt w : List Nat} {i j : Nat} (hi : i < pt.length) (hj : j < w.length) (h : pt.getD (pt.length - (i + 1)) 0 = 6) : fz_mc pt w (i + 1) (j + 1) = (fz_mc pt w i (j + 1) || fz_mc pt w (i + 1) j) := by
  unfold fz_mc
  rw [fz_mc_dr hi, h, fz_mc_dr hj, fz_mt_6]
theorem fz_mc_c {pt w : List Nat} {i j : Nat} (hi : i < pt.length) (hj : j < w.length) (h : pt.getD (pt.length - (i + 1)) 0 ≠ 6) : fz_mc pt w (i + 1) (j + 1) = ((decide (pt.getD (pt.length - (i + 1)) 0 = 5) || decide (pt.getD (pt.length - (i + 1)) 0 = w.getD (w.length - (j + 1)) 0)) && fz_mc pt w i j) := by
  unfold fz_mc
  rw [fz_mc_dr hi, fz_mc_dr hj, fz_mt_c h]
section
variable {bW bG bS bN bV bF bZ bD bT bP bL : Nat → Int32} {E : Nat → List (List Nat × Nat)}
theorem fz_y_mcell {post : Int32 → SY → Prop} {J17 : Int32 → Int32 → (Nat → Int32) → (Nat → Int32) → (Nat → Int32) → (Nat → Int32) → (Nat → Int32) → (Nat → Int32) → (Nat → Int32) → (Nat → Int32) → (Nat → Int32) → (Nat → Int32) → (Nat → Int32) → (Nat → Int32) → Prop} {pt w : List Nat} (hw : fz_lw w) (w5 : w.length ≤ 5) (hv : fz_pv pt) (p6 : pt.length ≤ 6) {i c : Nat} {x5 : Int32} (hi : i ≤ pt.length) (hc0 : i = 0 → c = 0) (hc : 0 < i → c = pt.getD (pt.length - i) 0)
    (K : ∀ bI : Nat → Int32, (∀ i', i' < i + 1 → ∀ j, j ≤ w.length → bI (7 * i' + j) = nI (fz_b (fz_mc pt w i' j))) → J17 x5 (nI (i + 1)) bW bG bS bN bV bF bZ bD bT bI bP bL) :
    ∀ (e j f : Nat) (bI : Nat → Int32), j + e = w.length + 1 → e < f → (∀ i', i' < i → ∀ k, k ≤ w.length → bI (7 * i' + k) = nI (fz_b (fz_mc pt w i' k))) → (∀ k, k < j → bI (7 * i + k) = nI (fz_b (fz_mc pt w i k))) → wY_matches_54 post J17 (nI (fz_en w)) (nI pt.length) (nI w.length) x5 (nI i) (nI c) f (nI j) bW bG bS bN bV bF bZ bD bT bI bP bL
  | _, _, 0, _, _, h, _, _ => by omega
  | 0, j, f + 1, bI, hj, _, h1, h2 => by
    refine br_t (nI_lt (by omega) (by omega)) (nm_r (nI_1 i) (K bI ?_))
    intro i' hi' k hk
    by_cases z : i' = i
    · rw [z]; exact h2 k (by omega)
    · exact h1 i' (by omega) k hk
  | e + 1, j, f + 1, bI, hj, hf, h1, h2 => by
    have i7 : 7 * nI i = nI (7 * i) := by
      show nI 7 * nI i = _
      rw [pk_mul]
    have ij : 7 * nI i + nI j = nI (7 * i + j) := by rw [i7, nI_add]
    have inij : vp_in (7 * nI i + nI j) 49 := by rw [ij]; exact vp_in_nI (by omega) (by omega)
    have c6 : c ≤ 6 := by
      rcases Nat.eq_zero_or_pos i with z | z
      · rw [hc0 z]; omega
      · rw [hc z, List.getD_eq_getElem?_getD, List.getElem?_eq_getElem (show pt.length - i < pt.length by omega)]
        exact (hv _ (List.getElem_mem _)).2
    have NEXT : ∀ v : Nat, v = fz_b (fz_mc pt w i j) → wY_matches_54 post J17 (nI (fz_en w)) (nI pt.length) (nI w.length) x5 (nI i) (nI c) f (nI (j + 1)) bW bG bS bN bV bF bZ bD bT (upd bI (7 * i + j) (nI v)) bP bL := by
      intro v ev
      refine fz_y_mcell hw w5 hv p6 hi hc0 hc K e (j + 1) f _ (by omega) (by omega) ?_ ?_
      · intro i' hi' k hk
        rw [pk_un (by omega)]; exact h1 i' hi' k hk
      · intro k hk
        by_cases z : k = j
        · rw [z, pk_us, ev]
        · rw [pk_un (by omega)]; exact h2 k (by omega)
    have ST1 : fz_mc pt w i j = true → vp_in (7 * nI i + nI j) 49 ∧ ∀ a, a = upd bI (7 * nI i + nI j).toNatClampNeg (vp_nar .boolean 1) → ∀ y, y = nI j + 1 → wY_matches_54 post J17 (nI (fz_en w)) (nI pt.length) (nI w.length) x5 (nI i) (nI c) f y bW bG bS bN bV bF bZ bD bT a bP bL := by
      intro h
      refine ⟨inij, nm_r (e' := upd bI (7 * i + j) (nI 1)) (by rw [ij, nI_clamp (by omega)]; rfl) (nm_r (nI_1 j) (NEXT 1 (by rw [h]; rfl)))⟩
    have ST0 : fz_mc pt w i j = false → vp_in (7 * nI i + nI j) 49 ∧ ∀ a, a = upd bI (7 * nI i + nI j).toNatClampNeg (vp_nar .boolean 0) → ∀ y, y = nI j + 1 → wY_matches_54 post J17 (nI (fz_en w)) (nI pt.length) (nI w.length) x5 (nI i) (nI c) f y bW bG bS bN bV bF bZ bD bT a bP bL := by
      intro h
      refine ⟨inij, nm_r (e' := upd bI (7 * i + j) (nI 0)) (by rw [ij, nI_clamp (by omega)]; rfl) (nm_r (nI_1 j) (NEXT 0 (by rw [h]; rfl)))⟩
    by_cases zi : i = 0
    · subst zi
      have ce : c = 0 := hc0 rfl
      subst ce
      have v0 := fz_mc_0 pt w (j := j) (by omega)
      refine br_f (nI_nlt (by omega) (by omega)) (br_t (show nI 0 ≤ 0 by decide) (br_f (by decide) (br_t rfl ?_)))
      by_cases zj : j = 0
      · exact br_t (by rw [zj]; rfl) (ST1 (by rw [v0]; simp [zj]))
      · exact br_f (nI_ne0 (by omega) (by omega)) (ST0 (by rw [v0]; simp [zj]))
    · obtain ⟨a, rfl⟩ : ∃ a, i = a + 1 := ⟨i - 1, by omega⟩
      have ce := hc (by omega)
      have ine : ¬ nI (a + 1) = 0 := nI_ne0 (by omega) (by omega)
      have F171 : ∀ one row : Nat, one ≤ 1 → row ≤ 1 → (fz_mc pt w (a + 1) j = true ↔ one = 1 ∨ row = 1) → wY_matches_171 post J17 (wY_matches_54 post J17 (nI (fz_en w)) (nI pt.length) (nI w.length) x5 (nI (a + 1)) (nI c) f) (nI (fz_en w)) (nI pt.length) (nI w.length) x5 (nI (a + 1)) (nI c) (nI j) (nI one) (nI row) bW bG bS bN bV bF bZ bD bT bI bP bL := by
        intro one row o1 r1 hv
        have nf : ¬ (one = 1 ∨ row = 1) → fz_mc pt w (a + 1) j = false := fun q => by
          cases hh : fz_mc pt w (a + 1) j with
          | false => rfl
          | true => exact absurd (hv.mp hh) q
        refine br_f ine ?_
        by_cases y : one = 0
        · refine br_t (by rw [y]; rfl) ?_
          by_cases y2 : row = 0
          · exact br_t (by rw [y2]; rfl) (ST0 (nf (by omega)))
          · exact br_f (nI_ne0 (by omega) (by omega)) (ST1 (hv.mpr (Or.inr (by omega))))
        · exact br_f (nI_ne0 (by omega) (by omega)) (ST1 (hv.mpr (Or.inl (by omega))))
      have ix7 : 7 * nI (a + 1) - 7 + nI j = nI (7 * a + j) := by
        rw [i7]
        have := fz_sb (a := 7 * (a + 1)) (b := 7) (j := j) (by omega)
        rw [show 7 * (a + 1) + j - 7 = 7 * a + j by omega] at this
        exact this
      refine br_f (nI_nlt (by omega) (by omega)) (br_f (nI_nle (by omega) (by omega)) ?_)
      by_cases zj : j = 0
      · subst zj
        have v0 := fz_mc_i0 (w := w) (show a < pt.length by omega)
        rw [← ce] at v0
        refine br_t (show nI 0 ≤ 0 by decide) ?_
        by_cases y : c = 6
        · refine br_t (by rw [y]; rfl) ⟨by rw [ix7]; exact vp_in_nI (by omega) (by omega), ?_⟩
          rw [ix7, nI_clamp (by omega), h1 a (by omega) 0 (by omega)]
          rw [y] at v0
          cases hh : fz_mc pt w a 0 with
          | false => exact br_t rfl (br_t (show nI 0 ≤ 0 by decide) (F171 0 0 (by omega) (by omega) (by rw [v0, hh]; simp)))
          | true => exact br_f (by decide) (F171 0 1 (by omega) (by omega) (by rw [v0, hh]; simp))
        · refine br_f (fun q => y ((nI_eq (a := c) (b := 6) (by omega) (by decide)).mp q)) (F171 0 0 (by omega) (by omega) (by rw [v0]; simp [y]))
      · obtain ⟨b, rfl⟩ : ∃ b, j = b + 1 := ⟨j - 1, by omega⟩
        have ix8 : 7 * nI (a + 1) - 8 + nI (b + 1) = nI (7 * a + b) := by
          rw [i7]
          have := fz_sb (a := 7 * (a + 1)) (b := 8) (j := b + 1) (by omega)
          rw [show 7 * (a + 1) + (b + 1) - 8 = 7 * a + b by omega] at this
          exact this
        have ix1 : 7 * nI (a + 1) + nI (b + 1) - 1 = nI (7 * (a + 1) + b) := by
          rw [ij]; show nI _ - nI 1 = _; rw [pk_sub (by omega)]; exact congrArg nI (by omega)
        have wl : nI w.length - nI (b + 1) = nI (w.length - (b + 1)) := pk_sub (by omega)
        have wb := (fz_lw_get hw (k := w.length - (b + 1)) (by omega)).2
        -- the part behind 'one'
        have F115 : ∀ one : Nat, one ≤ 1 → (c ≠ 6 → (fz_mc pt w (a + 1) (b + 1) = true ↔ one = 1)) → (c = 6 → one = 0) → wY_matches_115 post J17 (wY_matches_54 post J17 (nI (fz_en w)) (nI pt.length) (nI w.length) x5 (nI (a + 1)) (nI c) f) (nI (fz_en w)) (nI pt.length) (nI w.length) x5 (nI (a + 1)) (nI c) (nI (b + 1)) (nI one) bW bG bS bN bV bF bZ bD bT bI bP bL := by
          intro one o1 q1 q2
          by_cases y : c = 6
          · have v6 := fz_mc_6 (show a < pt.length by omega) (show b < w.length by omega) (by rw [← ce]; exact y)
            have o0 := q2 y
            subst o0
            refine br_t (by rw [y]; rfl) ⟨by rw [ix7]; exact vp_in_nI (by omega) (by omega), ?_⟩
            rw [ix7, nI_clamp (by omega), h1 a (by omega) (b + 1) (by omega)]
            cases hh : fz_mc pt w a (b + 1) with
            | true => exact br_f (by decide) (F171 0 1 (by omega) (by omega) (by rw [v6, hh]; simp))
            | false =>
              refine br_t rfl (br_f (nI_nle (by omega) (by omega)) ⟨by rw [ix1]; exact vp_in_nI (by omega) (by omega), ?_⟩)
              rw [ix1, nI_clamp (by omega), h2 b (by omega)]
              cases hh2 : fz_mc pt w (a + 1) b with
              | true => exact br_f (by decide) (F171 0 1 (by omega) (by omega) (by rw [v6, hh, hh2]; simp))
              | false => exact br_t rfl (F171 0 0 (by omega) (by omega) (by rw [v6, hh, hh2]; simp))
          · refine br_f (fun q => y ((nI_eq (a := c) (b := 6) (by omega) (by decide)).mp q)) (F171 one 0 o1 (by omega) (by rw [q1 y]; simp))
        refine br_f (nI_nle (by omega) (by omega)) ⟨by rw [ix8]; exact vp_in_nI (by omega) (by omega), ?_⟩
        rw [ix8, nI_clamp (by omega), h1 a (by omega) b (by omega)]
        have vc := fun h : c ≠ 6 => fz_mc_c (w := w) (show a < pt.length by omega) (show b < w.length by omega) (by rw [← ce]; exact h)
        rw [← ce] at vc
        cases hh : fz_mc pt w a b with
        | false => exact br_t rfl (F115 0 (by omega) (fun h => by rw [vc h, hh]; simp) (fun _ => rfl))
        | true =>
          refine br_f (by decide) ?_
          by_cases y5 : c = 5
          · exact br_t (by rw [y5]; rfl) (F115 1 (by omega) (fun h => by rw [vc h, hh]; simp [y5]) (fun h => by omega))
          · refine br_f (fun q => y5 ((nI_eq (a := c) (b := 5) (by omega) (by decide)).mp q)) ?_
            rw [wl]
            refine fz_y_letter hw w5 (by omega) ?_
            by_cases y6 : c = w.getD (w.length - (b + 1)) 0
            · exact br_t (by rw [y6]) (F115 1 (by omega) (fun h => by rw [vc h, hh]; simp [y6]) (fun h => by omega))
            · exact br_f (by rw [nI_eq (by omega) (by omega)]; exact y6) (F115 0 (by omega) (fun h => by rw [vc h, hh, decide_eq_false y5, decide_eq_false y6]; simp) (fun _ => rfl))
theorem fz_y_mat17 {post : Int32 → SY → Prop} {pt w : List Nat} (hw : fz_lw w) (w5 : w.length ≤ 5) (hv : fz_pv pt) (p6 : pt.length ≤ 6) (P : ∀ bI, post (nI (fz_b (fz_mt pt w))) (bW, bG, bS, bN, bV, bF, bZ, bD, bT, bI, bP, bL)) :
    ∀ (e i f : Nat) (bI : Nat → Int32), i + e = pt.length + 1 → e < f → (∀ i', i' < i → ∀ j, j ≤ w.length → bI (7 * i' + j) = nI (fz_b (fz_mc pt w i' j))) → wY_matches_17 post (nI (fz_en w)) (nI pt.length) (nI w.length) f (nI (fz_e7 (pt.take (pt.length - (i - 1))))) (nI i) bW bG bS bN bV bF bZ bD bT bI bP bL
  | _, _, 0, _, _, h, _ => by omega
  | 0, i, f + 1, bI, hi, _, h => by
    have ij : 7 * nI pt.length + nI w.length = nI (7 * pt.length + w.length) := by
      show nI 7 * nI pt.length + nI w.length = _
      rw [pk_mul, nI_add]
    have e0 : fz_mc pt w pt.length w.length = fz_mt pt w := by unfold fz_mc; rw [Nat.sub_self, Nat.sub_self]; rfl
    refine br_t (nI_lt (by omega) (by omega)) ⟨by rw [ij]; exact vp_in_nI (by omega) (by omega), ?_⟩
    rw [ij, nI_clamp (by omega), h pt.length (by omega) w.length (Nat.le_refl _), e0]
    refine ⟨?_, P bI⟩
    cases fz_mt pt w <;> rfl
  | e + 1, i, f + 1, bI, hi, hf, h => by
    refine br_f (nI_nlt (by omega) (by omega)) ?_
    by_cases z : i = 0
    · subst z
      refine br_t rfl (br_t (show nI 0 ≤ 0 by decide) ⟨w.length + 2, ?_⟩)
      refine fz_y_mcell (c := 0) hw w5 hv p6 (by omega) (fun _ => rfl) (fun q => by omega) (fun bI' h' => ?_) (w.length + 1) 0 (w.length + 2) bI (by omega) (by omega) h (fun k hk => by omega)
      exact fz_y_mat17 hw w5 hv p6 P e 1 f bI' (by omega) (by omega) h'
    · obtain ⟨a, rfl⟩ : ∃ a, i = a + 1 := ⟨i - 1, by omega⟩
      have al : a < pt.length := by omega
      rw [Nat.add_sub_cancel]
      have tk := fz_e7_take (fz_pv7 hv) (k := pt.length - (a + 1)) (by omega)
      rw [show pt.length - (a + 1) + 1 = pt.length - a by omega] at tk
      have b : fz_e7 (pt.take (pt.length - a)) < 117649 := fz_e7_6 (fun c m => fz_pv7 hv c (List.mem_of_mem_take m)) (by rw [List.length_take]; omega)
      have er : nI (fz_e7 (pt.take (pt.length - a))) - nI (fz_e7 (pt.take (pt.length - a))) / 7 * 7 = nI (pt.getD (pt.length - (a + 1)) 0) := by
        have := pk_rem (a := fz_e7 (pt.take (pt.length - a))) (d := 7) (by omega) (by omega) (by omega)
        rw [tk.2] at this; exact this
      have ed : nI (fz_e7 (pt.take (pt.length - a))) / 7 = nI (fz_e7 (pt.take (pt.length - (a + 1)))) := by
        have := pk_div (a := fz_e7 (pt.take (pt.length - a))) (d := 7) (by omega) (by omega) (by omega)
        rw [tk.1] at this; exact this
      refine br_f (nI_ne0 (by omega) (by omega)) ⟨fz_n7, ?_⟩
      rw [er]
      refine br_f (nI_nle (by omega) (by omega)) ⟨fz_n7, nm_r ed ⟨w.length + 2, ?_⟩⟩
      refine fz_y_mcell (c := pt.getD (pt.length - (a + 1)) 0) hw w5 hv p6 (by omega) (fun q => by omega) (fun _ => rfl) (fun bI' h' => ?_) (w.length + 1) 0 (w.length + 2) bI (by omega) (by omega) h (fun k hk => by omega)
      have := fz_y_mat17 hw w5 hv p6 P e (a + 1 + 1) f bI' (by omega) (by omega) h'
      rw [Nat.add_sub_cancel] at this
      exact this
theorem fz_y_matches {post : Int32 → SY → Prop} {pt w : List Nat} {bI : Nat → Int32} (hw : fz_lw w) (w5 : w.length ≤ 5) (hv : fz_pv pt) (p6 : pt.length ≤ 6) (P : ∀ bI, post (nI (fz_b (fz_mt pt w))) (bW, bG, bS, bN, bV, bF, bZ, bD, bT, bI, bP, bL)) : wpY_matches post (bW, bG, bS, bN, bV, bF, bZ, bD, bT, bI, bP, bL) (nI (fz_e7 pt)) (nI (fz_en w)) := by
  unfold wpY_matches
  refine Exists.intro 7 (fz_y_dig4 7 pt 0 hv p6 (by omega) ?_)
  rw [Nat.zero_add]
  refine fz_y_len hw w5 ⟨pt.length + 2, ?_⟩
  have := fz_y_mat17 (bW := bW) (bG := bG) (bS := bS) (bN := bN) (bV := bV) (bF := bF) (bZ := bZ) (bD := bD) (bT := bT) (bP := bP) (bL := bL) hw w5 hv p6 P (pt.length + 1) 0 (pt.length + 2) bI (by omega) (by omega) (fun i hi => by omega)
  rw [show pt.length - (0 - 1) = pt.length by omega, List.take_length] at this
  exact this
theorem fz_y_match25 {post : Int32 → SY → Prop} (Y : fz_YW bW bG bS bP E) {s : Nat} {pt : List Nat} {x4 : Int32} (hs : s < 4) (hv : fz_pv pt) (p6 : pt.length ≤ 6) (P : ∀ r bI, fz_an x4 (fz_fm (fz_mf pt) [] (fz_ky (E s))) r → post r (bW, bG, bS, bN, bV, bF, bZ, bD, bT, bI, bP, bL)) :
    ∀ (e k f t : Nat) (bI : Nat → Int32), k + e = (E s).length → e < f → (∀ t', t' < t → ¬ nI t' = x4) → (fz_fm (fz_mf pt) [] (fz_ky (E s))).drop t = fz_fm (fz_mf pt) [] ((fz_ky (E s)).drop k) → t ≤ (fz_fm (fz_mf pt) [] (fz_ky (E s))).length → wY_match_25 post (nI s) (nI (fz_e7 pt)) x4 f (nI t) (nI (24 * s + k)) bW bG bS bN bV bF bZ bD bT bI bP bL
  | _, _, 0, _, _, _, h, _, _, _ => by omega
  | e, k, f + 1, t, bI, hk, hf, hn, hM, ht => by
    obtain ⟨eS, h24, _⟩ := Y.1 s hs
    have is : vp_in (nI s) 4 := vp_in_nI hs (by omega)
    have es : bS (nI s).toNatClampNeg = nI (E s).length := by rw [nI_clamp (by omega), eS]
    have E24 : 24 * nI s + nI (E s).length = nI (24 * s + (E s).length) := fz_24
    refine And.intro is ?_
    rw [es, E24]
    cases e with
    | zero =>
      have : k = (E s).length := by omega
      subst this
      have tl : t = (fz_fm (fz_mf pt) [] (fz_ky (E s))).length := by
        rw [← fz_ky_len, List.drop_length] at hM
        have := congrArg List.length hM
        rw [List.length_drop] at this
        have e0 : (fz_fm (fz_mf pt) [] []).length = 0 := rfl
        omega
      refine br_t (nI_le (Nat.le_refl _) (by omega)) ?_
      by_cases z : x4 = -1
      · exact br_t z (P _ _ (Or.inr ⟨by rw [← tl]; exact hn, Or.inl ⟨z, by rw [← tl]⟩⟩))
      · exact br_f z (P _ _ (Or.inr ⟨by rw [← tl]; exact hn, Or.inr ⟨z, rfl⟩⟩))
    | succ e =>
      obtain ⟨v, g, e0, _, kg, _, hv', v1, v5, _, ev, _⟩ := fz_YW_x Y hs (k := k) (by omega)
      rw [fz_dk kg] at hM
      refine br_f (nI_ge (by omega) (by omega)) ⟨vp_in_nI (by omega) (by omega), ?_⟩
      rw [nI_clamp (by omega), ev]
      refine fz_y_matches hv' v5 hv p6 (fun bI' => ?_)
      cases hh : fz_mt pt v with
      | true =>
        have fv : fz_mf pt v := hh
        rw [fz_fm_c fv] at hM
        have gt : (fz_fm (fz_mf pt) [] (fz_ky (E s)))[t]? = some v := by
          have := congrArg (fun l => l[0]?) hM
          simp only [List.getElem?_drop, Nat.add_zero, List.getElem?_cons_zero] at this
          exact this
        refine br_f (by decide) ?_
        by_cases q : nI t = x4
        · refine br_t q ⟨vp_in_nI (by omega) (by omega), ?_⟩
          rw [ev]
          exact P _ _ (Or.inl ⟨t, v, gt, q, rfl⟩)
        · refine br_f q (nm_r (nI_1 t) (nm_r (nI_1 _) (fz_y_match25 Y hs hv p6 P e (k + 1) f (t + 1) bI' (by omega) (by omega) ?_ ?_ ?_)))
          · intro t' h'
            by_cases y : t' = t
            · rw [y]; exact q
            · exact hn t' (by omega)
          · rw [← List.drop_drop, hM]; rfl
          · rcases Nat.lt_or_ge t (fz_fm (fz_mf pt) [] (fz_ky (E s))).length with y | y
            · omega
            · rw [List.getElem?_eq_none y] at gt; cases gt
      | false =>
        have fv : ¬ fz_mf pt v := by unfold fz_mf; rw [hh]; decide
        rw [fz_fm_n fv] at hM
        exact br_t rfl (nm_r (nI_1 _) (fz_y_match25 Y hs hv p6 P e (k + 1) f t bI' (by omega) (by omega) hn hM ht))
theorem fz_y_match {post : Int32 → SY → Prop} {bI : Nat → Int32} (Y : fz_YW bW bG bS bP E) {s : Nat} {pt : List Nat} {x x4 : Int32} (hs : s < 4) (hp : fz_pt x pt) (P : ∀ r bI, fz_an x4 (fz_fm (fz_mf pt) [] (fz_ky (E s))) r → post r (bW, bG, bS, bN, bV, bF, bZ, bD, bT, bI, bP, bL)) : wpY_match post (bW, bG, bS, bN, bV, bF, bZ, bD, bT, bI, bP, bL) (nI s) x x4 := by
  unfold wpY_match
  refine fz_y_isD1 hs (br_f (by decide) (fz_y_pat1 hp (br_f (by decide) (nm_r (fz_s24 s) ⟨(E s).length + 1, ?_⟩))))
  rw [hp.2.2.2]
  exact fz_y_match25 Y hs hp.1 hp.2.2.1 P (E s).length 0 _ 0 bI (by omega) (by omega) (fun t h => by omega) rfl (by omega)
theorem fz_y_match_n {post : Int32 → SY → Prop} {bI : Nat → Int32} {v1 v2 v3 : Int32} (hn : ¬ (fz_dc v1 ∧ ∃ pt, fz_pt v2 pt)) (P : post (-1) (bW, bG, bS, bN, bV, bF, bZ, bD, bT, bI, bP, bL)) : wpY_match post (bW, bG, bS, bN, bV, bF, bZ, bD, bT, bI, bP, bL) v1 v2 v3 := by
  unfold wpY_match
  by_cases z1 : fz_dc v1
  · obtain ⟨s, hs, rfl⟩ := z1
    exact fz_y_isD1 hs (br_f (by decide) (fz_y_pat0 (fun q => hn ⟨⟨s, hs, rfl⟩, q⟩) (br_t rfl P)))
  · exact fz_y_isD0 z1 (br_t rfl P)
end
end
section
/-! states: the component counts nodes -/
def fz_rl (E : Nat → List (List Nat × Nat)) (T : Nat → Prop) (R : List (List Nat)) : Prop := R ≠ [] ∧ ∃ s, s < 4 ∧ T s ∧ ∃ p, R = fz_rw p (fz_ky (E s))
def fz_cnt (E : Nat → List (List Nat × Nat)) (T : Nat → Prop) (c : Nat) : Prop := ∃ S : List (List (List Nat)), S.Nodup ∧ (∀ R, R ∈ S ↔ fz_rl E T R) ∧ c = S.length
theorem fz_cnt_un {E : Nat → List (List Nat × Nat)} {T : Nat → Prop} {c c' : Nat} (h : fz_cnt E T c) (h' : fz_cnt E T c') : c = c' := by
  obtain ⟨S, n, m, e⟩ := h
  obtain ⟨S', n', m', e'⟩ := h'
  rw [e, e']
  exact fz_len_eq n n' (fun R => by rw [m, m'])
theorem fz_rw_c {p : List Nat} {D : List (List Nat)} (h : fz_sv D) (hne : fz_rw p D ≠ []) : fz_lw p := by
  obtain ⟨t, ht⟩ := List.exists_mem_of_ne_nil _ hne
  exact (fz_lw_app.mp (h.2 _ (fz_mem_rw.mp ht))).1
/-- the node behind a row -/
theorem fz_gr_rw {nx en wd : Nat → Nat} {F : List Nat} {L : Nat → List (List Nat)} (g : fz_Gr nx en wd F L) {C : Nat → Prop} (hC : ∀ n, C n → fz_A F n → ∀ c, 1 ≤ c → c ≤ 4 → C (nx (4 * n + c - 1))) : ∀ (p : List Nat) (n : Nat), fz_lw p → fz_Nd F n → C n → fz_rw p (L n) ≠ [] → ∃ m, fz_A F m ∧ C m ∧ L m = fz_rw p (L n)
  | [], n, _, hN, hc, hne => ⟨n, fz_Nd_A hN (fun z => hne (by subst z; exact g.2.1)), hc, rfl⟩
  | c :: p, n, hp, hN, hc, hne => by
    have ⟨c1, c4⟩ := fz_lw_hd hp
    have z : n ≠ 0 := fun z => hne (by subst z; rw [g.2.1, fz_rw_nil])
    have hA := fz_Nd_A hN z
    have e : fz_rw (c :: p) (L n) = fz_rw p (L (nx (4 * n + c - 1))) := by rw [fz_gr_rs g hA c1 c4]; rfl
    rw [e] at hne ⊢
    exact fz_gr_rw g hC p _ (fz_lw_tl hp) (fz_gr_kid g hA c1 c4) (hC n hc hA c c1 c4) hne
section
variable {un al : Nat} {fl fy : Int32} {nx en wd rt hd ch he wt : Nat → Nat} {aL aD aP aY aS aT aN aR aM aQ aB : Nat → Int32} {F : List Nat} {B : Nat → List Nat} {L : Nat → List (List Nat)} {E : Nat → List (List Nat × Nat)}
theorem fz_cnt_all (H : fz_HS un al nx en wd hd ch he rt wt F B L E) (h4 : E 4 = []) : fz_cnt E (fun _ => True) al := by
  have g := H.1.1
  refine ⟨(fz_al F).map L, fz_nd_map (fz_al_nd F) (fun x hx y hy e => H.1.2.1 x y (fz_al_mem.mp hx) (fz_al_mem.mp hy) e), ?_, ?_⟩
  · intro R
    rw [List.mem_map]
    constructor
    · rintro ⟨n, hn, rfl⟩
      have hA := fz_al_mem.mp hn
      have ne := fz_gr_ne g hA
      obtain ⟨w, hw⟩ := List.exists_mem_of_ne_nil _ ne
      obtain ⟨s, p, h5, e⟩ := fz_reach H.1 H.2.1 (5 - w.length) n w hA hw rfl
      rw [fz_HS_L H h5] at e
      refine ⟨ne, s, ?_, trivial, p, e⟩
      rcases Nat.lt_or_ge s 4 with z | z
      · exact z
      · have : s = 4 := by omega
        subst this
        rw [h4] at e
        have e0 : fz_rw p (fz_ky []) = [] := fz_rw_nil p
        exact absurd (e.trans e0) ne
    · rintro ⟨ne, s, hs, _, p, e⟩
      rw [← fz_HS_L H (s := s) (by omega)] at e
      have ne' : fz_rw p (L (rt s)) ≠ [] := by rw [← e]; exact ne
      have rN := fz_HS_Nd H (s := s) (by omega)
      obtain ⟨m, mA, _, mL⟩ := fz_gr_rw g (C := fun _ => True) (fun _ _ _ _ _ _ => trivial) p (rt s) (fz_rw_c (fz_gr_sv g rN) ne') rN trivial ne'
      exact ⟨m, fz_al_mem.mpr mA, by rw [mL, e]⟩
  · rw [List.length_map]
    have := fz_al_len H.1.2.2.2.1
    have := H.1.2.2.2.2.2.2
    omega
end
def fz_pk (nx : Nat → Nat) (n : Nat) : Nat → Nat → List Nat → List Nat
  | 0, _, St => St
  | d + 1, l, St => fz_pk nx n d (l + 1) (nx (4 * n + l) :: St)
theorem fz_pk_len {nx : Nat → Nat} {n : Nat} : ∀ (d l : Nat) (St : List Nat), (fz_pk nx n d l St).length = St.length + d
  | 0, _, _ => rfl
  | d + 1, l, St => by
    rw [fz_pk, fz_pk_len d]
    simp only [List.length_cons]; omega
/-- which nodes have been seen -/
def fz_se (aN : Nat → Int32) (S : List Nat) : Prop := ∀ n, n < 520 → aN n = nI (if n ∈ S then 1 else 0)
section
variable {fu fa fl fy : Int32} {nx en wd rt : Nat → Nat} {aH aC aE aW aL aD aP aY aT aR aM aQ aB : Nat → Int32} {F : List Nat} {L : Nat → List (List Nat)}
theorem fz_x_st111 {post : Int32 → SX → Prop} {J : Int32 → Int32 → (Nat → Int32) → (Nat → Int32) → (Nat → Int32) → (Nat → Int32) → (Nat → Int32) → (Nat → Int32) → (Nat → Int32) → (Nat → Int32) → (Nat → Int32) → (Nat → Int32) → (Nat → Int32) → (Nat → Int32) → (Nat → Int32) → (Nat → Int32) → (Nat → Int32) → (Nat → Int32) → (Nat → Int32) → (Nat → Int32) → (Nat → Int32) → Prop} {x3 : Int32} {n : Nat} {aN : Nat → Int32} (hn : n < 520) (kl : ∀ l, l < 4 → nx (4 * n + l) < 520) :
    ∀ (d l f : Nat) (St : List Nat) (aS : Nat → Int32), l + d = 4 → d < f → St.length + d ≤ 40 → fz_sk aS St → (∀ aS', fz_sk aS' (fz_pk nx n d l St) → J (nI (fz_pk nx n d l St).length) x3 (fz_c nx) (fz_c en) (fz_c wd) aH aC aE (fz_c rt) aW aL aD aP aY aS' aT aN aR aM aQ aB) → wX_states_111 post J x3 (nI n) fu fa fl fy f (nI St.length) (nI (4 * n + l)) (fz_c nx) (fz_c en) (fz_c wd) aH aC aE (fz_c rt) aW aL aD aP aY aS aT aN aR aM aQ aB
  | _, _, 0, _, _, _, h, _, _, _ => by omega
  | 0, l, f + 1, St, aS, hl, _, _, h1, hJ => by
    have : l = 4 := by omega
    subst this
    have e4 : 4 * nI n + 4 = nI (4 * n + 4) := fz_ix0
    exact br_t (by rw [e4]; exact nI_le (Nat.le_refl _) (by omega)) (hJ aS h1)
  | d + 1, l, f + 1, St, aS, hl, hf, h40, h1, hJ => by
    have e4 : 4 * nI n + 4 = nI (4 * n + 4) := fz_ix0
    have b1 := kl l (by omega)
    refine br_f (by rw [e4]; exact nI_ge (by omega) (by omega)) (nm_r (nI_1 _) ⟨vp_in_nI (by omega) (by omega), vp_in_nI (by omega) (by omega), nm_r (e' := upd aS St.length (nI (nx (4 * n + l)))) (by rw [fz_ca nx rfl (by omega), fz_ns (by omega), nI_clamp (by omega)]) (nm_r (nI_1 _) ?_)⟩)
    exact fz_x_st111 hn kl d (l + 1) f (nx (4 * n + l) :: St) _ (by omega) (by omega) (by simp only [List.length_cons]; omega) ⟨pk_us, fz_sk_upd (Nat.le_refl _) h1⟩ hJ
theorem fz_x_st61 {post : Int32 → SX → Prop} (g : fz_Gr nx en wd F L) {r0 : Nat} (P : ∀ (S : List Nat) (aS aN : Nat → Int32), S.Nodup → (∀ n, n ∈ S → fz_A F n ∧ ∃ p, L n = fz_rw p (L r0)) → (∀ n, n ∈ S → ∀ c, 1 ≤ c → c ≤ 4 → nx (4 * n + c - 1) = 0 ∨ nx (4 * n + c - 1) ∈ S) → (r0 = 0 ∨ r0 ∈ S) → post (nI S.length) (fu, fa, fl, fy, fz_c nx, fz_c en, fz_c wd, aH, aC, aE, fz_c rt, aW, aL, aD, aP, aY, aS, aT, aN, aR, aM, aQ, aB)) :
    ∀ (f : Nat) (St S : List Nat) (aS aN : Nat → Int32), 4 * (519 - S.length) + St.length < f → S.Nodup → (∀ n, n ∈ S → fz_A F n ∧ ∃ p, L n = fz_rw p (L r0)) → (∀ n, n ∈ S → ∀ c, 1 ≤ c → c ≤ 4 → nx (4 * n + c - 1) = 0 ∨ nx (4 * n + c - 1) ∈ S ∨ nx (4 * n + c - 1) ∈ St) → (r0 = 0 ∨ r0 ∈ S ∨ r0 ∈ St) → (∀ n, n ∈ St → fz_Nd F n ∧ ∃ p, L n = fz_rw p (L r0)) → fz_sk aS St → fz_sd L St → St.length ≤ 19 → fz_se aN S → wX_states_61 post fu fa fl fy f (nI St.length) (nI S.length) (fz_c nx) (fz_c en) (fz_c wd) aH aC aE (fz_c rt) aW aL aD aP aY aS aT aN aR aM aQ aB
  | 0, _, _, _, _, h, _, _, _, _, _, _, _, _, _ => by omega
  | f + 1, [], S, aS, aN, _, hS, h1, h2, h3, _, _, _, _, _ => by
    refine br_t (show nI 0 ≤ 0 by decide) (P S aS aN hS h1 (fun n m c a b => ?_) ?_)
    · rcases h2 n m c a b with q | q | q
      · exact Or.inl q
      · exact Or.inr q
      · exact absurd q (by simp)
    · rcases h3 with q | q | q
      · exact Or.inl q
      · exact Or.inr q
      · exact absurd q (by simp)
  | f + 1, n :: St, S, aS, aN, hf, hS, h1, h2, h3, h4, h5, h6, h7, h8 => by
    obtain ⟨nN, np⟩ := h4 n (List.mem_cons_self ..)
    have nl := fz_Nd_lt nN
    have S519 : ∀ S' : List Nat, S'.Nodup → (∀ x, x ∈ S' → fz_A F x) → S'.length ≤ 519 := by
      intro S' nd hA
      have := nd.length_le_of_subset (l₂ := List.range' 1 519) (fun x m => by
        rw [List.mem_range'_1]
        have := hA x m
        have := this.1
        have := (hA x m).2.1
        omega)
      simpa using this
    have s5 := S519 S hS (fun x m => (h1 x m).1)
    obtain ⟨⟨m, hb, hm⟩, h6'⟩ := h6
    simp only [List.length_cons] at hf h7
    have STAY : (n = 0 ∨ n ∈ S) → wX_states_61 post fu fa fl fy f (nI St.length) (nI S.length) (fz_c nx) (fz_c en) (fz_c wd) aH aC aE (fz_c rt) aW aL aD aP aY aS aT aN aR aM aQ aB := by
      intro hn
      refine fz_x_st61 g P f St S aS aN (by omega) hS h1 ?_ ?_ (fun x mx => h4 x (List.mem_cons_of_mem _ mx)) h5.2 h6' (by omega) h8
      · intro x mx c a b
        rcases h2 x mx c a b with q | q | q
        · exact Or.inl q
        · exact Or.inr (Or.inl q)
        · rcases List.mem_cons.mp q with q | q
          · rcases hn with z | z
            · exact Or.inl (q.trans z)
            · exact Or.inr (Or.inl (by rw [q]; exact z))
          · exact Or.inr (Or.inr q)
      · rcases h3 with q | q | q
        · exact Or.inl q
        · exact Or.inr (Or.inl q)
        · rcases List.mem_cons.mp q with q | q
          · rcases hn with z | z
            · exact Or.inl (q.trans z)
            · exact Or.inr (Or.inl (by rw [q]; exact z))
          · exact Or.inr (Or.inr q)
    refine br_f (nI_nle (by simp) (by simp only [List.length_cons]; omega)) (nm_r (pk_m1 St.length) ⟨vp_in_nI (by omega) (by omega), nm_r (e' := nI n) (by rw [nI_clamp (by omega)]; exact h5.1) ?_⟩)
    by_cases z : n = 0
    · exact br_t (by rw [z]; rfl) (STAY (Or.inl z))
    · have nA := fz_Nd_A nN z
      refine br_f (nI_ne0 (by omega) (by omega)) ⟨vp_in_nI nl (by omega), ?_⟩
      rw [nI_clamp (by omega), h8 n nl]
      by_cases y : n ∈ S
      · rw [if_pos y]
        exact br_f (by decide) (STAY (Or.inr y))
      · rw [if_neg y]
        have m0 : m ≠ 0 := fun e => by
          subst e
          exact fz_gr_ne g nA (fz_hb_0 hb)
        obtain ⟨hh, rfl⟩ : ∃ hh, m = hh + 1 := ⟨m - 1, by omega⟩
        have nd' : (n :: S).Nodup := List.nodup_cons.mpr ⟨y, hS⟩
        have s6 := S519 (n :: S) nd' (fun x mx => by
          rcases List.mem_cons.mp mx with q | q
          · rw [q]; exact nA
          · exact (h1 x q).1)
        simp only [List.length_cons] at s6
        have kN : ∀ l, l < 4 → fz_Nd F (nx (4 * n + l)) := fun l h => fz_gr_kid g nA (c := l + 1) (by omega) (by omega)
        have kr : ∀ l, l < 4 → L (nx (4 * n + l)) = fz_rs (l + 1) (L n) := fun l h => fz_gr_rs g nA (c := l + 1) (by omega) (by omega)
        have kp : ∀ l, l < 4 → ∃ p, L (nx (4 * n + l)) = fz_rw p (L r0) := fun l h => by
          obtain ⟨p, e⟩ := np
          exact ⟨p ++ [l + 1], by rw [kr l h, e, fz_rw_app]; rfl⟩
        have kh : ∀ l, l < 4 → fz_hb hh (L (nx (4 * n + l))) := fun l h => by rw [kr l h]; exact fz_hb_rs hb
        refine br_t rfl ⟨vp_in_nI nl (by omega), nm_r (e' := upd aN n (nI 1)) rfl (nm_r (nI_1 _) (nm_r (fz_i4 n) ⟨5, ?_⟩))⟩
        refine fz_x_st111 nl (fun l h => fz_Nd_lt (kN l h)) 4 0 5 St aS (by omega) (by omega) (by omega) h5.2 ?_
        intro aS' k1
        have PK : fz_pk nx n 4 0 St = nx (4 * n + 3) :: nx (4 * n + 2) :: nx (4 * n + 1) :: nx (4 * n) :: St := rfl
        rw [PK] at k1 ⊢
        have key := fz_x_st61 g P f (nx (4 * n + 3) :: nx (4 * n + 2) :: nx (4 * n + 1) :: nx (4 * n) :: St) (n :: S) aS' (upd aN n (nI 1)) (by simp only [List.length_cons]; omega) nd' ?_ ?_ ?_ ?_ k1 ?_ (by simp only [List.length_cons]; omega) ?_
        · exact key
        · intro x mx
          rcases List.mem_cons.mp mx with q | q
          · rw [q]; exact ⟨nA, np⟩
          · exact h1 x q
        · intro x mx c a b
          rcases List.mem_cons.mp mx with q | q
          · subst q
            refine Or.inr (Or.inr ?_)
            refine fz_c4 (P := fun c => nx (4 * x + c - 1) ∈ nx (4 * x + 3) :: nx (4 * x + 2) :: nx (4 * x + 1) :: nx (4 * x) :: St) ?_ ?_ ?_ ?_ a b
            · show nx (4 * x) ∈ _; simp
            · show nx (4 * x + 1) ∈ _; simp
            · show nx (4 * x + 2) ∈ _; simp
            · show nx (4 * x + 3) ∈ _; simp
          · rcases h2 x q c a b with q | q | q
            · exact Or.inl q
            · exact Or.inr (Or.inl (List.mem_cons_of_mem _ q))
            · rcases List.mem_cons.mp q with q | q
              · exact Or.inr (Or.inl (by rw [q]; exact List.mem_cons_self ..))
              · exact Or.inr (Or.inr (by simp [q]))
        · rcases h3 with q | q | q
          · exact Or.inl q
          · exact Or.inr (Or.inl (List.mem_cons_of_mem _ q))
          · rcases List.mem_cons.mp q with q | q
            · exact Or.inr (Or.inl (by rw [q]; exact List.mem_cons_self ..))
            · exact Or.inr (Or.inr (by simp [q]))
        · intro x mx
          simp only [List.mem_cons] at mx
          rcases mx with q | q | q | q | q
          · rw [q]; exact ⟨kN 3 (by omega), kp 3 (by omega)⟩
          · rw [q]; exact ⟨kN 2 (by omega), kp 2 (by omega)⟩
          · rw [q]; exact ⟨kN 1 (by omega), kp 1 (by omega)⟩
          · rw [q]; exact ⟨kN 0 (by omega), kp 0 (by omega)⟩
          · exact h4 x (List.mem_cons_of_mem _ q)
        · simp only [fz_sd, List.length_cons]
          exact ⟨⟨hh, kh 3 (by omega), by omega⟩, ⟨hh, kh 2 (by omega), by omega⟩, ⟨hh, kh 1 (by omega), by omega⟩, ⟨hh, kh 0 (by omega), by omega⟩, h6'⟩
        · intro x hx
          by_cases q : x = n
          · rw [q, pk_us, if_pos (List.mem_cons_self ..)]
          · rw [pk_un q, h8 x hx]
            have : x ∈ n :: S ↔ x ∈ S := by simp [q]
            by_cases w : x ∈ S
            · rw [if_pos w, if_pos (this.mpr w)]
            · rw [if_neg w, if_neg (fun v => w (this.mp v))]
theorem fz_x_st22 {post : Int32 → SX → Prop} {x1 : Int32} {aS : Nat → Int32} (K : ∀ (aN : Nat → Int32) (f : Nat), fz_se aN [] → wX_states_22 post x1 fu fa fl fy (f + 1) (nI 520) (fz_c nx) (fz_c en) (fz_c wd) aH aC aE (fz_c rt) aW aL aD aP aY aS aT aN aR aM aQ aB) :
    ∀ (d j f : Nat) (aN : Nat → Int32), j + d = 520 → d < f → (∀ n, n < j → aN n = nI 0) → wX_states_22 post x1 fu fa fl fy f (nI j) (fz_c nx) (fz_c en) (fz_c wd) aH aC aE (fz_c rt) aW aL aD aP aY aS aT aN aR aM aQ aB
  | _, _, 0, _, _, h, _ => by omega
  | 0, j, f + 1, aN, hj, _, h => by
    have : j = 520 := by omega
    subst this
    exact K aN f (fun n hn => by rw [h n hn]; rfl)
  | d + 1, j, f + 1, aN, hj, hf, h => by
    refine br_f (nI_ge (b := 520) (by omega) (by decide)) ⟨vp_in_nI (by omega) (by omega), nm_r (e' := upd aN j (nI 0)) (by rw [nI_clamp (by omega)]; rfl) (nm_r (nI_1 j) (fz_x_st22 K d (j + 1) f _ (by omega) (by omega) ?_))⟩
    intro n hn
    by_cases z : n = j
    · rw [z, pk_us]
    · rw [pk_un z]; exact h n (by omega)
end
section
variable {un al : Nat} {fl fy : Int32} {nx en wd rt hd ch he wt : Nat → Nat} {aL aD aP aY aS aT aN aR aM aQ aB : Nat → Int32} {F : List Nat} {B : Nat → List Nat} {L : Nat → List (List Nat)} {E : Nat → List (List Nat × Nat)}
theorem fz_x_states {post : Int32 → SX → Prop} (H : fz_HS un al nx en wd hd ch he rt wt F B L E) (h4 : E 4 = []) {v1 : Int32} (PA : v1 = -1 → ∀ c u', fz_cnt E (fun _ => True) c → c < 1000 → fz_XS u' E → post (nI c) u') (P1 : ∀ s, s < 4 → v1 = nI s → ∀ c u', fz_cnt E (fun t => t = s) c → c < 1000 → fz_XS u' E → post (nI c) u') (PN : v1 ≠ -1 → ¬ fz_dc v1 → ∀ u', fz_XS u' E → post (-1) u') : wpX_states post (nI un, nI al, fl, fy, fz_c nx, fz_c en, fz_c wd, fz_c hd, fz_c ch, fz_c he, fz_c rt, fz_c wt, aL, aD, aP, aY, aS, aT, aN, aR, aM, aQ, aB) v1 := by
  have g := H.1.1
  unfold wpX_states
  by_cases z : v1 = -1
  · have := H.1.2.2.2.2.2.2
    exact br_t z (PA z al _ (fz_cnt_all H h4) (by omega) (fz_XS_mk H))
  · refine br_f z ?_
    by_cases y : fz_dc v1
    · obtain ⟨s, hs, rfl⟩ := y
      refine fz_x_one1 hs (br_f (by decide) ⟨521, ?_⟩)
      have rN := fz_HS_Nd H (s := s) (by omega)
      have rl := fz_Nd_lt rN
      refine fz_x_st22 (fun aN f hse => ?_) 520 0 521 aN (by omega) (by omega) (fun n hn => by omega)
      refine br_t (show (520 : Int32) ≤ nI 520 by decide) (nm_r (e' := nI 1) rfl ⟨vp_in_nI (by omega) (by omega), nm_r (e' := upd aS 0 (nI (rt s))) (by rw [fz_ca rt rfl (by omega), fz_ns (by omega)]) ⟨4 * 519 + 2, ?_⟩⟩)
      refine fz_x_st61 g (r0 := rt s) ?_ (4 * 519 + 2) [rt s] [] _ aN (by simp) (by simp) (fun n m => absurd m (by simp)) (fun n m => absurd m (by simp)) (Or.inr (Or.inr (List.mem_singleton.mpr rfl))) ?_ ⟨pk_us, trivial⟩ ⟨⟨6, fz_gr_hb g rN, by simp⟩, trivial⟩ (by simp) hse
      · intro S aS' aN' hS k1 k2 k3
        have nd := fz_nd_map (L := L) hS (fun x hx y hy e => H.1.2.1 x y (k1 x hx).1 (k1 y hy).1 e)
        have s5 : S.length ≤ 519 := by
          have := hS.length_le_of_subset (l₂ := List.range' 1 519) (fun x m => by
            rw [List.mem_range'_1]
            have := (k1 x m).1.1
            have := (k1 x m).1.2.1
            omega)
          simpa using this
        refine P1 s hs rfl S.length _ ⟨S.map L, nd, ?_, by rw [List.length_map]⟩ (by omega) (fz_XS_mk H)
        intro R
        rw [List.mem_map]
        constructor
        · rintro ⟨n, hn, rfl⟩
          obtain ⟨nA, p, e⟩ := k1 n hn
          rw [fz_HS_L H (by omega)] at e
          exact ⟨fz_gr_ne g nA, s, hs, rfl, p, e⟩
        · rintro ⟨ne, t, ht, rfl, p, e⟩
          rw [← fz_HS_L H (s := t) (by omega)] at e
          have ne' : fz_rw p (L (rt t)) ≠ [] := by rw [← e]; exact ne
          obtain ⟨m, mA, mC, mL⟩ := fz_gr_rw g (C := fun n => n = 0 ∨ n ∈ S) (fun n hn hA c a b => by
            rcases hn with q | q
            · have := hA.1; omega
            · exact k2 n q c a b) p (rt t) (fz_rw_c (fz_gr_sv g rN) ne') rN k3 ne'
          refine ⟨m, ?_, by rw [mL, e]⟩
          rcases mC with q | q
          · have := mA.1; omega
          · exact q
      · intro n m
        rw [List.mem_singleton] at m
        rw [m]
        exact ⟨rN, [], rfl⟩
    · exact fz_x_one0 y (br_t rfl (PN z y _ (fz_XS_mk H)))
end
end
section
/-! states: the reference gathers sets of rests -/
def fz_rp (bF bZ bD bL : Nat → Int32) (E : Nat → List (List Nat × Nat)) (q : Nat) (R : List (List Nat)) : Prop :=
  ∃ t f dep, t < 4 ∧ f + R.length ≤ (E t).length ∧ dep ≤ 5 ∧ bF q = nI (24 * t + f) ∧ bD q = nI dep ∧ bZ q = nI R.length ∧ ∀ i, i < R.length → ∃ w, (fz_ky (E t))[f + i]? = some w ∧ dep ≤ w.length ∧ R[i]? = some (w.drop dep) ∧ bL (24 * t + (f + i)) = nI w.length
section
variable {bW bG bS bN bV bT bI bP : Nat → Int32} {E : Nat → List (List Nat × Nat)}
theorem fz_YW_w (Y : fz_YW bW bG bS bP E) {s k : Nat} {w : List Nat} (hs : s < 4) (h : (fz_ky (E s))[k]? = some w) : k < (E s).length ∧ k < 24 ∧ fz_lw w ∧ 1 ≤ w.length ∧ w.length ≤ 5 ∧ bW (24 * s + k) = nI (fz_en w) := by
  have hk : k < (E s).length := by
    rcases Nat.lt_or_ge k (E s).length with z | z
    · exact z
    · rw [List.getElem?_eq_none (by rw [fz_ky_len]; exact z)] at h; cases h
  have h24 := (Y.1 s hs).2.1
  obtain ⟨v, g, e0, _, kg, _, hv, v1, v5, _, ev, _⟩ := fz_YW_x Y hs hk
  rw [kg] at h
  have : v = w := Option.some.inj h
  subst this
  exact ⟨hk, by omega, hv, v1, v5, ev⟩
theorem fz_y_rest {post : Int32 → Prop} {bF bZ bD bL : Nat → Int32} (Y : fz_YW bW bG bS bP E) {t k dep : Nat} {w : List Nat} {x y : Int32} (ht : t < 4) (h : (fz_ky (E t))[k]? = some w) (hl : bL (24 * t + k) = nI w.length) (hd : dep ≤ w.length) (ex : x = nI (24 * t + k)) (ey : y = nI dep) (hp : post (nI (fz_en (w.drop dep)))) : wpY_rest post (bW, bG, bS, bN, bV, bF, bZ, bD, bT, bI, bP, bL) x y := by
  obtain ⟨hk, k24, hw, w1, w5, ew⟩ := fz_YW_w Y ht h
  subst ex ey
  have ip : vp_in (nI (24 * t + k)) 96 := vp_in_nI (by omega) (by omega)
  have ec : (nI (24 * t + k)).toNatClampNeg = 24 * t + k := nI_clamp (by omega)
  have es : nI w.length - nI dep = nI (w.length - dep) := pk_sub hd
  have b1 := fz_en_5 hw w5
  have b2 := fz_p5_b (e := w.length - dep) (by omega)
  have b3 := fz_p5 (w.length - dep)
  have bp : bP (nI (w.length - dep)).toNatClampNeg = nI (5 ^ (w.length - dep)) := by rw [nI_clamp (by omega)]; exact Y.2 _ (by omega)
  refine And.intro ip (And.intro ip ?_)
  rw [ec, hl, es, bp, ew]
  refine ⟨vp_in_nI (by omega) (by omega), nI_ne0 b3 (by omega), ?_⟩
  rw [pk_rem (by omega) b3 (by omega), fz_en_drop hw]
  exact hp
theorem fz_y_same19 {post : Int32 → Prop} {bF bZ bD bL : Nat → Int32} (Y : fz_YW bW bG bS bP E) {p q : Nat} {R R' : List (List Nat)} (hp5 : p < 500) (hq5 : q < 500) (rp : fz_rp bF bZ bD bL E p R) (rq : fz_rp bF bZ bD bL E q R') (hlen : R.length = R'.length) (p1 : R = R' → post 1) (p0 : R ≠ R' → post 0) :
    ∀ (d k f : Nat), k + d = R.length → d < f → (∀ i, i < k → R[i]? = R'[i]?) → wY_sameSet_19 post (nI p) (nI q) bW bG bS bN bV bF bZ bD bT bI bP bL f (nI k)
  | _, _, 0, _, h, _ => by omega
  | d, k, f + 1, hk, hf, hs => by
    obtain ⟨t, fi, dep, ht, hfl, d5, eF, eD, eZ, hi⟩ := rp
    obtain ⟨t', fi', dep', ht', hfl', d5', eF', eD', eZ', hi'⟩ := rq
    have t24 := (Y.1 t ht).2.1
    have t24' := (Y.1 t' ht').2.1
    have ip : vp_in (nI p) 500 := vp_in_nI hp5 (by omega)
    have iq : vp_in (nI q) 500 := vp_in_nI hq5 (by omega)
    have cp : (nI p).toNatClampNeg = p := nI_clamp (by omega)
    have cq : (nI q).toNatClampNeg = q := nI_clamp (by omega)
    refine And.intro ip ?_
    rw [cp, eZ]
    cases d with
    | zero =>
      have : k = R.length := by omega
      subst this
      refine br_t (nI_le (Nat.le_refl _) (by omega)) (p1 ?_)
      apply List.ext_getElem?
      intro i
      rcases Nat.lt_or_ge i R.length with z | z
      · exact hs i z
      · rw [List.getElem?_eq_none z, List.getElem?_eq_none (by omega)]
    | succ d =>
      obtain ⟨w, w1, w2, w3, w4⟩ := hi k (by omega)
      obtain ⟨v, v1, v2, v3, v4⟩ := hi' k (by omega)
      obtain ⟨_, _, lw, _, l5, _⟩ := fz_YW_w Y ht w1
      obtain ⟨_, _, lv, _, m5, _⟩ := fz_YW_w Y ht' v1
      have c1 := fz_en_5 (fz_lw_drop dep lw) (by rw [List.length_drop]; omega)
      have c2 := fz_en_5 (fz_lw_drop dep' lv) (by rw [List.length_drop]; omega)
      refine br_f (nI_ge (by omega) (by omega)) ⟨ip, ip, ?_⟩
      refine fz_y_rest Y ht w1 w4 w2 (by rw [eF, nI_add, Nat.add_assoc]) eD ⟨iq, iq, ?_⟩
      rw [cq]
      refine fz_y_rest Y ht' v1 v4 v2 (by rw [eF', nI_add, Nat.add_assoc]) eD' ?_
      by_cases z : w.drop dep = v.drop dep'
      · refine br_t (by rw [z]) (nm_r (nI_1 k) (fz_y_same19 Y hp5 hq5 ⟨t, fi, dep, ht, hfl, d5, eF, eD, eZ, hi⟩ ⟨t', fi', dep', ht', hfl', d5', eF', eD', eZ', hi'⟩ hlen p1 p0 d (k + 1) f (by omega) (by omega) ?_))
        intro i h
        by_cases y : i = k
        · rw [y, w3, v3, z]
        · exact hs i (by omega)
      · refine br_f ?_ (p0 ?_)
        · rw [nI_eq (by omega) (by omega)]
          exact fun e => z (fz_en_inj (fz_lw_drop dep lw) (fz_lw_drop dep' lv) e)
        · intro e
          rw [e, v3] at w3
          exact z (Option.some.inj w3).symm
theorem fz_y_same {post : Int32 → Prop} {bF bZ bD bL : Nat → Int32} (Y : fz_YW bW bG bS bP E) {p q : Nat} {R R' : List (List Nat)} (hp5 : p < 500) (hq5 : q < 500) (rp : fz_rp bF bZ bD bL E p R) (rq : fz_rp bF bZ bD bL E q R') (p1 : R = R' → post 1) (p0 : R ≠ R' → post 0) : wpY_sameSet post (bW, bG, bS, bN, bV, bF, bZ, bD, bT, bI, bP, bL) (nI p) (nI q) := by
  have l1 : R.length ≤ 24 := by
    obtain ⟨t, fi, dep, ht, hfl, _⟩ := rp
    have := (Y.1 t ht).2.1; omega
  have l2 : R'.length ≤ 24 := by
    obtain ⟨t, fi, dep, ht, hfl, _⟩ := rq
    have := (Y.1 t ht).2.1; omega
  have e1 : bZ (nI p).toNatClampNeg = nI R.length := by
    obtain ⟨t, fi, dep, ht, hfl, d5, eF, eD, eZ, hi⟩ := rp
    rw [nI_clamp (by omega)]; exact eZ
  have e2 : bZ (nI q).toNatClampNeg = nI R'.length := by
    obtain ⟨t, fi, dep, ht, hfl, d5, eF, eD, eZ, hi⟩ := rq
    rw [nI_clamp (by omega)]; exact eZ
  refine And.intro (vp_in_nI hp5 (by omega)) (And.intro (vp_in_nI hq5 (by omega)) ?_)
  rw [e1, e2]
  by_cases z : R.length = R'.length
  · exact br_t (by rw [z]) ⟨R.length + 1, fz_y_same19 Y hp5 hq5 rp rq z p1 p0 R.length 0 _ (by omega) (by omega) (fun i h => by omega)⟩
  · refine br_f (by rw [nI_eq (by omega) (by omega)]; exact z) (p0 (fun e => z (by rw [e])))
theorem fz_y_new2 {post : Int32 → Prop} {bF bZ bD bL : Nat → Int32} (Y : fz_YW bW bG bS bP E) {G : List (List (List Nat))} {R : List (List Nat)} (h5 : G.length < 500) (hG : ∀ q R, G[q]? = some R → fz_rp bF bZ bD bL E q R) (hR : fz_rp bF bZ bD bL E G.length R) (p1 : ¬ R ∈ G → post 1) (p0 : R ∈ G → post 0) :
    ∀ (d q f : Nat), q + d = G.length → d < f → (∀ i, i < q → ¬ G[i]? = some R) → wY_isNew_2 post (nI G.length) bW bG bS bN bV bF bZ bD bT bI bP bL f (nI q)
  | _, _, 0, _, h, _ => by omega
  | 0, q, f + 1, hq, _, hn => by
    have : q = G.length := by omega
    subst this
    refine br_t (nI_le (Nat.le_refl _) (by omega)) (p1 (fun m => ?_))
    obtain ⟨i, hi⟩ := List.mem_iff_getElem?.mp m
    have : i < G.length := by
      rcases Nat.lt_or_ge i G.length with z | z
      · exact z
      · rw [List.getElem?_eq_none z] at hi; cases hi
    exact hn i this hi
  | d + 1, q, f + 1, hq, hf, hn => by
    have ql : q < G.length := by omega
    have gq : G[q]? = some G[q] := List.getElem?_eq_getElem ql
    refine br_f (nI_ge (by omega) (by omega)) (fz_y_same Y h5 (by omega) hR (hG q _ gq) (fun e => ?_) (fun e => ?_))
    · exact br_f (by decide) (p0 (by rw [e]; exact List.getElem_mem ql))
    · refine br_t rfl (nm_r (nI_1 q) (fz_y_new2 Y h5 hG hR p1 p0 d (q + 1) f (by omega) (by omega) ?_))
      intro i hi
      by_cases z : i = q
      · rw [z, gq]
        exact fun h => e (Option.some.inj h).symm
      · exact hn i (by omega)
theorem fz_y_sf {post : Int32 → Prop} {bF bZ bD bL : Nat → Int32} (Y : fz_YW bW bG bS bP E) {s j k d : Nat} {w v : List Nat} (hs : s < 4) (hj : (fz_ky (E s))[j]? = some w) (hk : (fz_ky (E s))[k]? = some v) (lj : bL (24 * s + j) = nI w.length) (lk : bL (24 * s + k) = nI v.length) (hd : d ≤ v.length) (p1 : w.take d = v.take d → post 1) (p0 : ¬ w.take d = v.take d → post 0) : wpY_sameFront post (bW, bG, bS, bN, bV, bF, bZ, bD, bT, bI, bP, bL) (nI (24 * s + j)) (nI (24 * s + k)) (nI d) := by
  obtain ⟨j1, j2, lw, _, w5, ew⟩ := fz_YW_w Y hs hj
  obtain ⟨k1, k2, lv, _, v5, ev⟩ := fz_YW_w Y hs hk
  have ij : vp_in (nI (24 * s + j)) 96 := vp_in_nI (by omega) (by omega)
  have ik : vp_in (nI (24 * s + k)) 96 := vp_in_nI (by omega) (by omega)
  have cj : (nI (24 * s + j)).toNatClampNeg = 24 * s + j := nI_clamp (by omega)
  have ck : (nI (24 * s + k)).toNatClampNeg = 24 * s + k := nI_clamp (by omega)
  refine And.intro ij ?_
  rw [cj, ck, lj, lk, ew, ev]
  by_cases z : w.length < d
  · refine br_t (nI_lt z (by omega)) (p0 (fun e => ?_))
    have := congrArg List.length e
    rw [List.length_take, List.length_take] at this
    omega
  · have e1 : nI w.length - nI d = nI (w.length - d) := pk_sub (by omega)
    have e2 : nI v.length - nI d = nI (v.length - d) := pk_sub hd
    have b1 : bP (nI (w.length - d)).toNatClampNeg = nI (5 ^ (w.length - d)) := by rw [nI_clamp (by omega)]; exact Y.2 _ (by omega)
    have b2 : bP (nI (v.length - d)).toNatClampNeg = nI (5 ^ (v.length - d)) := by rw [nI_clamp (by omega)]; exact Y.2 _ (by omega)
    have c1 := fz_p5_b (e := w.length - d) (by omega)
    have c2 := fz_p5 (w.length - d)
    have c3 := fz_p5_b (e := v.length - d) (by omega)
    have c4 := fz_p5 (v.length - d)
    have u1 := fz_en_5 lw w5
    have u2 := fz_en_5 lv v5
    rw [e1, e2, b1, b2]
    refine br_f (nI_nlt (by omega) (by omega)) ⟨ij, ij, vp_in_nI (by omega) (by omega), nI_ne0 c2 (by omega), ik, ik, vp_in_nI (by omega) (by omega), nI_ne0 c4 (by omega), ?_⟩
    rw [pk_div (by omega) c2 (by omega), pk_div (by omega) c4 (by omega), fz_en_take lw (by omega), fz_en_take lv hd]
    have t1 := fz_en_5 (fz_lw_take d lw) (by rw [List.length_take]; omega)
    have t2 := fz_en_5 (fz_lw_take d lv) (by rw [List.length_take]; omega)
    by_cases y : w.take d = v.take d
    · exact br_t (by rw [y]) (p1 y)
    · refine br_f ?_ (p0 y)
      rw [nI_eq (by omega) (by omega)]
      exact fun e => y (fz_en_inj (fz_lw_take d lw) (fz_lw_take d lv) e)
/-! one set of rests -/
theorem fz_rp_n {bF bZ bD bL : Nat → Int32} {q N : Nat} {R : List (List Nat)} {a b c : Int32} (h : fz_rp bF bZ bD bL E q R) (hq : q < N) : fz_rp (upd bF N a) (upd bZ N b) (upd bD N c) bL E q R := by
  obtain ⟨t, f, dep, h1, h2, h3, h4, h5, h6, h7⟩ := h
  exact ⟨t, f, dep, h1, h2, h3, by rw [pk_un (by omega)]; exact h4, by rw [pk_un (by omega)]; exact h5, by rw [pk_un (by omega)]; exact h6, h7⟩
theorem fz_blk_get {D : List (List Nat)} {r : List Nat} (h : fz_sv D) {i : Nat} (hi : i < (fz_rw r D).length) : D[fz_cb r D + i]? = some (r ++ (fz_rw r D)[i]) := by
  obtain ⟨A, C, e, hl, hA, hC⟩ := fz_block r h
  have : D[fz_cb r D + i]? = (A ++ ((fz_rw r D).map (fun t => r ++ t) ++ C))[fz_cb r D + i]? := congrArg (fun l => l[fz_cb r D + i]?) e
  rw [this, ← hl, List.getElem?_append_right (by omega), Nat.add_sub_cancel_left, List.getElem?_append_left (by simpa using hi), List.getElem?_map, List.getElem?_eq_getElem hi]
  rfl
theorem fz_y_g136 {post : Int32 → SY → Prop} {J57 J67 : Int32 → Int32 → (Nat → Int32) → (Nat → Int32) → (Nat → Int32) → (Nat → Int32) → (Nat → Int32) → (Nat → Int32) → (Nat → Int32) → (Nat → Int32) → (Nat → Int32) → (Nat → Int32) → (Nat → Int32) → (Nat → Int32) → Prop} {bF bZ bD bL : Nat → Int32} (Y : fz_YW bW bG bS bP E) {s k d : Nat} {x4 : Int32} {w : List Nat} {G : List (List (List Nat))} (hs : s < 4) (h5 : G.length < 500) (hk : (fz_ky (E s))[k]? = some w) (hd : d ≤ w.length) (ec : fz_cb (w.take d) (fz_ky (E s)) = k) (hL : ∀ i v, (fz_ky (E s))[i]? = some v → bL (24 * s + i) = nI v.length) (hG : ∀ q R, G[q]? = some R → fz_rp bF bZ bD bL E q R)
    (P : ∀ bF bZ bD, (∀ q R, G[q]? = some R → fz_rp bF bZ bD bL E q R) → fz_rp bF bZ bD bL E G.length (fz_rw (w.take d) (fz_ky (E s))) → (fz_rw (w.take d) (fz_ky (E s)) ∈ G → J67 (nI G.length) (nI (d + 1)) bW bG bS bN bV bF bZ bD bT bI bP bL) ∧ (¬ fz_rw (w.take d) (fz_ky (E s)) ∈ G → J67 (nI (G.length + 1)) (nI (d + 1)) bW bG bS bN bV bF bZ bD bT bI bP bL)) :
    wY_gather_136 post J57 J67 (nI s) (nI G.length) x4 (nI (24 * s + k)) (nI d) (nI (24 * s + (k + (fz_rw (w.take d) (fz_ky (E s))).length))) bW bG bS bN bV bF bZ bD bT bI bP bL := by
  obtain ⟨k1, k2, lw, w1, w5, ew⟩ := fz_YW_w Y hs hk
  have sv := (Y.1 s hs).2.2.1
  have h24 := (Y.1 s hs).2.1
  have ble := fz_blk_le (w.take d) sv
  rw [ec, fz_ky_len] at ble
  have iN : vp_in (nI G.length) 500 := vp_in_nI h5 (by omega)
  have cN : (nI G.length).toNatClampNeg = G.length := nI_clamp (by omega)
  have es : nI (24 * s + (k + (fz_rw (w.take d) (fz_ky (E s))).length)) - nI (24 * s + k) = nI (fz_rw (w.take d) (fz_ky (E s))).length := by
    rw [pk_sub (by omega)]; exact congrArg nI (by omega)
  have lt : (w.take d).length = d := by rw [List.length_take]; omega
  have NR : fz_rp (upd bF G.length (nI (24 * s + k))) (upd bZ G.length (nI (fz_rw (w.take d) (fz_ky (E s))).length)) (upd bD G.length (nI d)) bL E G.length (fz_rw (w.take d) (fz_ky (E s))) := by
    refine ⟨s, k, d, hs, ble, by omega, pk_us, pk_us, pk_us, fun i hi => ?_⟩
    have bg := fz_blk_get sv hi
    rw [ec] at bg
    refine ⟨_, bg, ?_, ?_, hL _ _ bg⟩
    · rw [List.length_append, lt]; omega
    · rw [List.getElem?_eq_getElem hi]
      have : (w.take d ++ (fz_rw (w.take d) (fz_ky (E s)))[i]).drop d = (fz_rw (w.take d) (fz_ky (E s)))[i] := by
        conv => lhs; arg 1; rw [← lt]
        exact List.drop_left
      rw [this]
  have OR : ∀ q R, G[q]? = some R → fz_rp (upd bF G.length (nI (24 * s + k))) (upd bZ G.length (nI (fz_rw (w.take d) (fz_ky (E s))).length)) (upd bD G.length (nI d)) bL E q R := fun q R h => by
    refine fz_rp_n (hG q R h) ?_
    rcases Nat.lt_or_ge q G.length with z | z
    · exact z
    · rw [List.getElem?_eq_none z] at h; cases h
  obtain ⟨Pa, Pb⟩ := P _ _ _ OR NR
  refine And.intro iN (nm_r (e' := upd bF G.length (nI (24 * s + k))) (by rw [cN]) ⟨iN, nm_r (e' := upd bD G.length (nI d)) (by rw [cN]) ⟨iN, nm_r (e' := upd bZ G.length (nI (fz_rw (w.take d) (fz_ky (E s))).length)) (by rw [cN, es]) ?_⟩⟩)
  refine Exists.intro (G.length + 1) (fz_y_new2 Y h5 OR NR (fun n => ?_) (fun m => ?_) G.length 0 _ (by omega) (by omega) (fun i h => by omega))
  · exact br_f (by decide) (nm_r (nI_1 _) (nm_r (nI_1 d) (Pb n)))
  · exact br_t rfl (nm_r (nI_1 d) (Pa m))
theorem fz_y_g110 {post : Int32 → SY → Prop} {J57 J67 : Int32 → Int32 → (Nat → Int32) → (Nat → Int32) → (Nat → Int32) → (Nat → Int32) → (Nat → Int32) → (Nat → Int32) → (Nat → Int32) → (Nat → Int32) → (Nat → Int32) → (Nat → Int32) → (Nat → Int32) → (Nat → Int32) → Prop} {bF bZ bD bL : Nat → Int32} (Y : fz_YW bW bG bS bP E) {s k d : Nat} {x3 : Int32} {w : List Nat} (hs : s < 4) (hk : (fz_ky (E s))[k]? = some w) (hd : d ≤ w.length) (ec : fz_cb (w.take d) (fz_ky (E s)) = k) (hL : ∀ i v, (fz_ky (E s))[i]? = some v → bL (24 * s + i) = nI v.length)
    (K : wY_gather_136 post J57 J67 (nI s) x3 (nI (24 * s + (E s).length)) (nI (24 * s + k)) (nI d) (nI (24 * s + (k + (fz_rw (w.take d) (fz_ky (E s))).length))) bW bG bS bN bV bF bZ bD bT bI bP bL) :
    ∀ (e j f : Nat), j + e = k + (fz_rw (w.take d) (fz_ky (E s))).length → k ≤ j → e < f → wY_gather_110 post J57 J67 (nI s) x3 (nI (24 * s + (E s).length)) (nI (24 * s + k)) (nI d) bW bG bS bN bV bF bZ bD bT bI bP bL f (nI (24 * s + j))
  | _, _, 0, _, _, h => by omega
  | e, j, f + 1, hj, hkj, hf => by
    have sv := (Y.1 s hs).2.2.1
    have h24 := (Y.1 s hs).2.1
    have ble := fz_blk_le (w.take d) sv
    rw [ec, fz_ky_len] at ble
    have lt : (w.take d).length = d := by rw [List.length_take]; omega
    by_cases z : j = (E s).length
    · have je : j = k + (fz_rw (w.take d) (fz_ky (E s))).length := by omega
      rw [← je] at K
      exact br_t (nI_le (by omega) (by omega)) K
    · have jl : j < (E s).length := by omega
      obtain ⟨v, g, e0, _, kg, _⟩ := fz_YW_x Y hs jl
      have bk := fz_blk (r := w.take d) sv kg
      rw [ec, lt] at bk
      refine br_f (nI_ge (by omega) (by omega)) (fz_y_sf Y hs kg hk (hL j v kg) (hL k w hk) hd (fun q => ?_) (fun q => ?_))
      · have := bk.mp q
        cases e with
        | zero => omega
        | succ e => exact br_f (by decide) (nm_r (nI_1 _) (fz_y_g110 Y hs hk hd ec hL K e (j + 1) f (by omega) (by omega) (by omega)))
      · have je : j = k + (fz_rw (w.take d) (fz_ky (E s))).length := by
          rcases Nat.lt_or_ge j (k + (fz_rw (w.take d) (fz_ky (E s))).length) with y | y
          · exact absurd (bk.mpr ⟨hkj, y⟩) q
          · omega
        rw [← je] at K
        exact br_t rfl K
/-! what has been gathered ahead of word k, letter d -/
def fz_gi (E : Nat → List (List Nat × Nat)) (s : Nat) (G0 G : List (List (List Nat))) (k d : Nat) : Prop :=
  G.Nodup ∧ (∀ R, R ∈ G → R ∈ G0 ∨ (R ≠ [] ∧ ∃ p, R = fz_rw p (fz_ky (E s)))) ∧ (∀ R, R ∈ G0 → R ∈ G) ∧ (∀ k' d' w, (fz_ky (E s))[k']? = some w → d' ≤ w.length → (k' < k ∨ (k' = k ∧ d' < d)) → fz_rw (w.take d') (fz_ky (E s)) ∈ G) ∧ G.length ≤ G0.length + (if k = 0 then d else 1 + 5 * k + (d - 1))
theorem fz_gi_s {s : Nat} {G0 G : List (List (List Nat))} {k d : Nat} {w : List Nat} (h : fz_gi E s G0 G k d) (hk : (fz_ky (E s))[k]? = some w) (hm : fz_rw (w.take d) (fz_ky (E s)) ∈ G) : fz_gi E s G0 G k (d + 1) := by
  obtain ⟨h1, h2, h3, h4, h5⟩ := h
  refine ⟨h1, h2, h3, fun k' d' v hv hd' hl => ?_, ?_⟩
  · by_cases z : k' = k ∧ d' = d
    · obtain ⟨rfl, rfl⟩ := z
      rw [hk] at hv
      rw [← Option.some.inj hv]; exact hm
    · exact h4 k' d' v hv hd' (by omega)
  · by_cases z : k = 0
    · rw [if_pos z] at h5 ⊢; omega
    · rw [if_neg z] at h5 ⊢; omega
theorem fz_gi_a {s : Nat} {G0 G : List (List (List Nat))} {k d : Nat} {w : List Nat} (h : fz_gi E s G0 G k d) (hk : (fz_ky (E s))[k]? = some w) (hkd : k = 0 ∨ 1 ≤ d) (hd : d ≤ w.length) (hn : ¬ fz_rw (w.take d) (fz_ky (E s)) ∈ G) : fz_gi E s G0 (G ++ [fz_rw (w.take d) (fz_ky (E s))]) k (d + 1) := by
  obtain ⟨h1, h2, h3, h4, h5⟩ := h
  refine ⟨?_, ?_, fun R m => List.mem_append.mpr (Or.inl (h3 R m)), fun k' d' v hv hd' hl => ?_, ?_⟩
  · rw [List.nodup_append]
    refine ⟨h1, by simp, fun x hx y hy e => ?_⟩
    rw [List.mem_singleton] at hy
    exact hn (by rw [← hy, ← e]; exact hx)
  · intro R m
    rcases List.mem_append.mp m with m | m
    · exact h2 R m
    · rw [List.mem_singleton] at m
      refine Or.inr ⟨?_, w.take d, m⟩
      rw [m]
      refine List.ne_nil_of_mem (a := w.drop d) ?_
      rw [fz_mem_rw, List.take_append_drop]
      exact List.mem_of_getElem? hk
  · by_cases z : k' = k ∧ d' = d
    · obtain ⟨rfl, rfl⟩ := z
      rw [hk] at hv
      rw [← Option.some.inj hv]
      exact List.mem_append.mpr (Or.inr (List.mem_singleton.mpr rfl))
    · exact List.mem_append.mpr (Or.inl (h4 k' d' v hv hd' (by omega)))
  · rw [List.length_append, List.length_singleton]
    by_cases z : k = 0
    · rw [if_pos z] at h5 ⊢; omega
    · rw [if_neg z] at h5 ⊢; omega
theorem fz_gi_k {s : Nat} {G0 G : List (List (List Nat))} {k d : Nat} {w : List Nat} (h : fz_gi E s G0 G k d) (hk : (fz_ky (E s))[k]? = some w) (hd : d = w.length + 1) (w5 : w.length ≤ 5) : fz_gi E s G0 G (k + 1) 0 := by
  obtain ⟨h1, h2, h3, h4, h5⟩ := h
  refine ⟨h1, h2, h3, fun k' d' v hv hd' hl => ?_, ?_⟩
  · refine h4 k' d' v hv hd' ?_
    by_cases z : k' = k
    · subst z
      rw [hk] at hv
      rw [← Option.some.inj hv] at hd'
      exact Or.inr ⟨rfl, by omega⟩
    · exact Or.inl (by omega)
  · rw [if_neg (by omega)]
    by_cases z : k = 0
    · rw [if_pos z] at h5; omega
    · rw [if_neg z] at h5; omega
theorem fz_y_g67 {post : Int32 → SY → Prop} {J57 : Int32 → Int32 → (Nat → Int32) → (Nat → Int32) → (Nat → Int32) → (Nat → Int32) → (Nat → Int32) → (Nat → Int32) → (Nat → Int32) → (Nat → Int32) → (Nat → Int32) → (Nat → Int32) → (Nat → Int32) → (Nat → Int32) → Prop} {bL : Nat → Int32} (Y : fz_YW bW bG bS bP E) {s k : Nat} {w : List Nat} {G0 : List (List (List Nat))} (hs : s < 4) (hG0 : G0.length ≤ 363) (hk : (fz_ky (E s))[k]? = some w) (hL : ∀ i v, (fz_ky (E s))[i]? = some v → bL (24 * s + i) = nI v.length)
    (K : ∀ (G : List (List (List Nat))) (bF bZ bD : Nat → Int32), fz_gi E s G0 G (k + 1) 0 → (∀ q R, G[q]? = some R → fz_rp bF bZ bD bL E q R) → J57 (nI G.length) (nI (24 * s + (k + 1))) bW bG bS bN bV bF bZ bD bT bI bP bL) :
    ∀ (e d f : Nat) (G : List (List (List Nat))) (bF bZ bD : Nat → Int32), d + e = w.length + 1 → e < f → fz_gi E s G0 G k d → (∀ q R, G[q]? = some R → fz_rp bF bZ bD bL E q R) → wY_gather_67 post J57 (nI s) (nI (24 * s + (E s).length)) (nI (24 * s + k)) f (nI G.length) (nI d) bW bG bS bN bV bF bZ bD bT bI bP bL
  | _, _, 0, _, _, _, _, _, h, _, _ => by omega
  | e, d, f + 1, G, bF, bZ, bD, hd, hf, hgi, hG => by
    obtain ⟨k1, k2, lw, w1, w5, ew⟩ := fz_YW_w Y hs hk
    have sv := (Y.1 s hs).2.2.1
    have ik : vp_in (nI (24 * s + k)) 96 := vp_in_nI (by omega) (by omega)
    have ck : (nI (24 * s + k)).toNatClampNeg = 24 * s + k := nI_clamp (by omega)
    have gl : G.length < 500 := by
      have := hgi.2.2.2.2
      by_cases z : k = 0
      · rw [if_pos z] at this; omega
      · rw [if_neg z] at this; omega
    refine And.intro ik ?_
    rw [ck, hL k w hk]
    cases e with
    | zero =>
      exact br_t (nI_lt (by omega) (by omega)) (nm_r (nI_1 _) (K G bF bZ bD (fz_gi_k hgi hk (by omega) w5) hG))
    | succ e =>
      have dl : d ≤ w.length := by omega
      have lt : (w.take d).length = d := by rw [List.length_take]; omega
      have bk := (fz_blk (r := w.take d) sv hk).mp (by rw [lt])
      have GO : (k = 0 ∨ 1 ≤ d) → fz_cb (w.take d) (fz_ky (E s)) = k → ∃ n110, wY_gather_110 post J57 (wY_gather_67 post J57 (nI s) (nI (24 * s + (E s).length)) (nI (24 * s + k)) f) (nI s) (nI G.length) (nI (24 * s + (E s).length)) (nI (24 * s + k)) (nI d) bW bG bS bN bV bF bZ bD bT bI bP bL n110 (nI (24 * s + k)) := by
        intro hkd ec
        refine ⟨(fz_rw (w.take d) (fz_ky (E s))).length + 1, fz_y_g110 Y hs hk dl ec hL ?_ _ k _ rfl (Nat.le_refl _) (by omega)⟩
        refine fz_y_g136 Y hs gl hk dl ec hL hG ?_
        intro bF' bZ' bD' OR NR
        constructor
        · intro hm
          exact fz_y_g67 Y hs hG0 hk hL K e (d + 1) f G bF' bZ' bD' (by omega) (by omega) (fz_gi_s hgi hk hm) OR
        · intro hn
          have key := fz_y_g67 (post := post) Y hs hG0 hk hL K e (d + 1) f (G ++ [fz_rw (w.take d) (fz_ky (E s))]) bF' bZ' bD' (by omega) (by omega) (fz_gi_a hgi hk hkd dl hn) (fun q R hq => by
            rcases Nat.lt_or_ge q G.length with z | z
            · rw [List.getElem?_append_left z] at hq; exact OR q R hq
            · have qe : q = G.length := by
                rcases Nat.lt_or_ge q (G.length + 1) with y | y
                · omega
                · rw [List.getElem?_eq_none (by rw [List.length_append, List.length_singleton]; omega)] at hq; cases hq
              subst qe
              rw [List.getElem?_append_right (Nat.le_refl _), Nat.sub_self] at hq
              have : fz_rw (w.take d) (fz_ky (E s)) = R := Option.some.inj hq
              rw [← this]; exact NR)
          rw [List.length_append, List.length_singleton] at key
          exact key
      refine br_f (nI_nlt (by omega) (by omega)) ?_
      rw [fz_s24]
      by_cases z : k = 0
      · refine br_t (nI_le (by omega) (by omega)) (GO (Or.inl z) (by omega))
      · have km : nI (24 * s + k) - 1 = nI (24 * s + (k - 1)) := by
          show nI _ - nI 1 = _
          rw [pk_sub (by omega)]; exact congrArg nI (by omega)
        obtain ⟨v, g, e0, _, kg, _⟩ := fz_YW_x Y hs (k := k - 1) (by omega)
        have bk' := fz_blk (r := w.take d) sv kg
        rw [lt] at bk'
        refine br_f (nI_ge (by omega) (by omega)) ?_
        rw [km]
        refine fz_y_sf Y hs kg hk (hL _ _ kg) (hL k w hk) dl (fun q => ?_) (fun q => ?_)
        · have dv : d ≤ v.length := by
            have := congrArg List.length q
            rw [List.length_take, lt] at this
            omega
          have hm := hgi.2.2.2.1 (k - 1) d v kg dv (Or.inl (by omega))
          rw [q] at hm
          exact br_f (by decide) (nm_r (nI_1 d) (fz_y_g67 Y hs hG0 hk hL K e (d + 1) f G bF bZ bD (by omega) (by omega) (fz_gi_s hgi hk hm) hG))
        · have d1 : 1 ≤ d := by
            rcases Nat.eq_zero_or_pos d with y | y
            · subst y; exact absurd (by simp) q
            · exact y
          have nb : ¬ (fz_cb (w.take d) (fz_ky (E s)) ≤ k - 1 ∧ k - 1 < fz_cb (w.take d) (fz_ky (E s)) + (fz_rw (w.take d) (fz_ky (E s))).length) := fun h => q (bk'.mpr h)
          exact br_t rfl (GO (Or.inr d1) (by omega))
theorem fz_y_g57 {post : Int32 → SY → Prop} {bL : Nat → Int32} (Y : fz_YW bW bG bS bP E) {s : Nat} {G0 : List (List (List Nat))} (hs : s < 4) (hG0 : G0.length ≤ 363) (hL : ∀ i v, (fz_ky (E s))[i]? = some v → bL (24 * s + i) = nI v.length)
    (P : ∀ (G : List (List (List Nat))) (bF bZ bD : Nat → Int32), fz_gi E s G0 G (E s).length 0 → (∀ q R, G[q]? = some R → fz_rp bF bZ bD bL E q R) → post (nI G.length) (bW, bG, bS, bN, bV, bF, bZ, bD, bT, bI, bP, bL)) :
    ∀ (e k f : Nat) (G : List (List (List Nat))) (bF bZ bD : Nat → Int32), k + e = (E s).length → e < f → fz_gi E s G0 G k 0 → (∀ q R, G[q]? = some R → fz_rp bF bZ bD bL E q R) → wY_gather_57 post (nI s) (nI (24 * s + (E s).length)) f (nI G.length) (nI (24 * s + k)) bW bG bS bN bV bF bZ bD bT bI bP bL
  | _, _, 0, _, _, _, _, _, h, _, _ => by omega
  | 0, k, f + 1, G, bF, bZ, bD, hk, _, hgi, hG => by
    have h24 := (Y.1 s hs).2.1
    have : k = (E s).length := by omega
    subst this
    exact br_t (nI_le (Nat.le_refl _) (by omega)) (P G bF bZ bD hgi hG)
  | e + 1, k, f + 1, G, bF, bZ, bD, hk, hf, hgi, hG => by
    have h24 := (Y.1 s hs).2.1
    obtain ⟨w, g, e0, _, kg, _, _, w1, w5, _⟩ := fz_YW_x Y hs (k := k) (by omega)
    refine br_f (nI_ge (by omega) (by omega)) ⟨w.length + 2, ?_⟩
    refine fz_y_g67 Y hs hG0 kg hL (fun G' bF' bZ' bD' h' hG' => ?_) (w.length + 1) 0 (w.length + 2) G bF bZ bD (by omega) (by omega) hgi hG
    exact fz_y_g57 Y hs hG0 hL P e (k + 1) f G' bF' bZ' bD' (by omega) (by omega) h' hG'
theorem fz_rp_L {bF bZ bD bL : Nat → Int32} (Y : fz_YW bW bG bS bP E) {s k q : Nat} {w : List Nat} {R : List (List Nat)} (hs : s < 4) (hk : (fz_ky (E s))[k]? = some w) (h : fz_rp bF bZ bD bL E q R) : fz_rp bF bZ bD (upd bL (24 * s + k) (nI w.length)) E q R := by
  obtain ⟨k1, k2, _⟩ := fz_YW_w Y hs hk
  obtain ⟨t, f, dep, h1, h2, h3, h4, h5, h6, h7⟩ := h
  have t24 := (Y.1 t h1).2.1
  refine ⟨t, f, dep, h1, h2, h3, h4, h5, h6, fun i hi => ?_⟩
  obtain ⟨v, v1, v2, v3, v4⟩ := h7 i hi
  refine ⟨v, v1, v2, v3, ?_⟩
  by_cases z : 24 * t + (f + i) = 24 * s + k
  · have e1 : t = s := by omega
    have e2 : f + i = k := by omega
    subst e1
    rw [e2, hk] at v1
    rw [z, pk_us, Option.some.inj v1]
  · rw [pk_un z]; exact v4
theorem fz_y_gather21 {post : Int32 → SY → Prop} {bF bZ bD : Nat → Int32} (Y : fz_YW bW bG bS bP E) {s : Nat} {G0 : List (List (List Nat))} (hs : s < 4) (hG0 : G0.length ≤ 363) (nd : G0.Nodup)
    (P : ∀ (G : List (List (List Nat))) (bF bZ bD bL : Nat → Int32), fz_gi E s G0 G (E s).length 0 → (∀ q R, G[q]? = some R → fz_rp bF bZ bD bL E q R) → post (nI G.length) (bW, bG, bS, bN, bV, bF, bZ, bD, bT, bI, bP, bL)) :
    ∀ (e k f : Nat) (bL : Nat → Int32), k + e = (E s).length → e < f → (∀ q R, G0[q]? = some R → fz_rp bF bZ bD bL E q R) → (∀ i v, i < k → (fz_ky (E s))[i]? = some v → bL (24 * s + i) = nI v.length) → wY_gather_21 post (nI s) (nI G0.length) (nI (24 * s + (E s).length)) f (nI (24 * s + k)) bW bG bS bN bV bF bZ bD bT bI bP bL
  | _, _, 0, _, _, h, _, _ => by omega
  | 0, k, f + 1, bL, hk, _, hG, hL => by
    have h24 := (Y.1 s hs).2.1
    have : k = (E s).length := by omega
    subst this
    refine br_t (nI_le (Nat.le_refl _) (by omega)) (nm_r (fz_s24 s) ⟨(E s).length + 1, ?_⟩)
    refine fz_y_g57 (bL := bL) (G0 := G0) Y hs hG0 (fun i v hv => hL i v (fz_YW_w Y hs hv).1 hv) (fun G bF bZ bD h hG => P G bF bZ bD bL h hG) (E s).length 0 ((E s).length + 1) G0 bF bZ bD (by omega) (by omega) ?_ hG
    exact ⟨nd, fun R m => Or.inl m, fun R m => m, fun k' d' w _ _ h => by omega, by omega⟩
  | e + 1, k, f + 1, bL, hk, hf, hG, hL => by
    have h24 := (Y.1 s hs).2.1
    obtain ⟨w, g, e0, _, kg, _, hw, w1, w5, _, ew, _⟩ := fz_YW_x Y hs (k := k) (by omega)
    have ik : vp_in (nI (24 * s + k)) 96 := vp_in_nI (by omega) (by omega)
    have ck : (nI (24 * s + k)).toNatClampNeg = 24 * s + k := nI_clamp (by omega)
    refine br_f (nI_ge (by omega) (by omega)) ⟨ik, ?_⟩
    rw [ck, ew]
    refine fz_y_len hw w5 ⟨ik, nm_r (e' := upd bL (24 * s + k) (nI w.length)) rfl (nm_r (nI_1 _) ?_)⟩
    refine fz_y_gather21 Y hs hG0 nd P e (k + 1) f _ (by omega) (by omega) (fun q R h => fz_rp_L Y hs kg (hG q R h)) ?_
    intro i v hi hv
    by_cases z : i = k
    · subst z
      rw [kg] at hv
      rw [pk_us, Option.some.inj hv]
    · rw [pk_un (by omega)]; exact hL i v (by omega) hv
theorem fz_y_gather {post : Int32 → SY → Prop} {bF bZ bD bL : Nat → Int32} (Y : fz_YW bW bG bS bP E) {s : Nat} {G0 : List (List (List Nat))} (hs : s < 4) (hG0 : G0.length ≤ 363) (nd : G0.Nodup) (hG : ∀ q R, G0[q]? = some R → fz_rp bF bZ bD bL E q R)
    (P : ∀ (G : List (List (List Nat))) (bF bZ bD bL : Nat → Int32), G.Nodup → (∀ R, R ∈ G ↔ R ∈ G0 ∨ (R ≠ [] ∧ ∃ p, R = fz_rw p (fz_ky (E s)))) → G.length ≤ G0.length + 121 → (∀ q R, G[q]? = some R → fz_rp bF bZ bD bL E q R) → post (nI G.length) (bW, bG, bS, bN, bV, bF, bZ, bD, bT, bI, bP, bL)) : wpY_gather post (bW, bG, bS, bN, bV, bF, bZ, bD, bT, bI, bP, bL) (nI s) (nI G0.length) := by
  obtain ⟨eS, h24, sv, _⟩ := Y.1 s hs
  have es : bS (nI s).toNatClampNeg = nI (E s).length := by rw [nI_clamp (by omega), eS]
  refine And.intro (vp_in_nI hs (by omega)) (nm_r (e' := nI (24 * s + (E s).length)) (by rw [es]; exact fz_24) (nm_r (fz_s24 s) ⟨(E s).length + 1, ?_⟩))
  refine fz_y_gather21 Y hs hG0 nd (fun G bF bZ bD bL h hG => ?_) (E s).length 0 _ bL (by omega) (by omega) hG (fun i v h => by omega)
  obtain ⟨h1, h2, h3, h4, h5⟩ := h
  refine P G bF bZ bD bL h1 (fun R => ⟨h2 R, fun m => ?_⟩) ?_ hG
  · rcases m with m | ⟨ne, p, e⟩
    · exact h3 R m
    · subst e
      have hi : 0 < (fz_rw p (fz_ky (E s))).length := List.length_pos_iff.mpr ne
      have bg := fz_blk_get sv hi
      have lt : (p ++ (fz_rw p (fz_ky (E s)))[0]).take p.length = p := List.take_left
      have kk := (fz_YW_w Y hs bg).1
      have := h4 _ p.length _ bg (by rw [List.length_append]; omega) (Or.inl kk)
      rw [lt] at this
      exact this
  · by_cases z : (E s).length = 0
    · rw [if_pos z] at h5; omega
    · rw [if_neg z] at h5; omega
theorem fz_y_states16 {post : Int32 → SY → Prop} (Y : fz_YW bW bG bS bP E) {v1 : Int32} (P : ∀ c v', fz_cnt E (fun t => v1 = -1 ∨ v1 = nI t) c → fz_YS v' E → post (nI c) v') :
    ∀ (e t f : Nat) (G : List (List (List Nat))) (bF bZ bD bL : Nat → Int32), t + e = 4 → e < f → G.Nodup → (∀ R, R ∈ G ↔ R ≠ [] ∧ ∃ s, s < t ∧ (v1 = -1 ∨ v1 = nI s) ∧ ∃ p, R = fz_rw p (fz_ky (E s))) → G.length ≤ 121 * t → (∀ q R, G[q]? = some R → fz_rp bF bZ bD bL E q R) → wY_states_16 post v1 f (nI G.length) (nI t) bW bG bS bN bV bF bZ bD bT bI bP bL
  | _, _, 0, _, _, _, _, _, _, h, _, _, _, _ => by omega
  | 0, t, f + 1, G, bF, bZ, bD, bL, ht, _, nd, hm, hl, hG => by
    have : t = 4 := by omega
    subst this
    refine br_t (show (4 : Int32) ≤ nI 4 by decide) (P G.length _ ⟨G, nd, fun R => ?_, rfl⟩ (fz_YS_mk Y))
    rw [hm]
    exact Iff.rfl
  | e + 1, t, f + 1, G, bF, bZ, bD, bL, ht, hf, nd, hm, hl, hG => by
    have GA : (v1 = -1 ∨ v1 = nI t) → wY_states_31 post (wY_states_16 post v1 f) v1 (nI G.length) (nI t) bW bG bS bN bV bF bZ bD bT bI bP bL := by
      intro hv
      refine fz_y_gather Y (by omega) (by omega) nd hG (fun G' bF' bZ' bD' bL' nd' hm' hl' hG' => ?_)
      refine nm_r (nI_1 t) (fz_y_states16 Y P e (t + 1) f G' bF' bZ' bD' bL' (by omega) (by omega) nd' ?_ (by omega) hG')
      intro R
      rw [hm', hm]
      constructor
      · rintro (⟨ne, s, hs, hT, p, ep⟩ | ⟨ne, p, ep⟩)
        · exact ⟨ne, s, by omega, hT, p, ep⟩
        · exact ⟨ne, t, by omega, hv, p, ep⟩
      · rintro ⟨ne, s, hs, hT, p, ep⟩
        by_cases z : s = t
        · subst z; exact Or.inr ⟨ne, p, ep⟩
        · exact Or.inl ⟨ne, s, by omega, hT, p, ep⟩
    refine br_f (nI_ge (b := 4) (by omega) (by decide)) ?_
    by_cases z : v1 = -1
    · exact br_t z (GA (Or.inl z))
    · refine br_f z ?_
      by_cases y : v1 = nI t
      · exact br_t y (GA (Or.inr y))
      · refine br_f y (nm_r (nI_1 t) (fz_y_states16 Y P e (t + 1) f G bF bZ bD bL (by omega) (by omega) nd ?_ (by omega) hG))
        intro R
        rw [hm]
        constructor
        · rintro ⟨ne, s, hs, hT, p, ep⟩
          exact ⟨ne, s, by omega, hT, p, ep⟩
        · rintro ⟨ne, s, hs, hT, p, ep⟩
          by_cases w : s = t
          · subst w
            rcases hT with q | q
            · exact absurd q z
            · exact absurd q y
          · exact ⟨ne, s, by omega, hT, p, ep⟩
theorem fz_y_states {post : Int32 → SY → Prop} {bF bZ bD bL : Nat → Int32} (Y : fz_YW bW bG bS bP E) {v1 : Int32} (hv : v1 = -1 ∨ fz_dc v1) (P : ∀ c v', fz_cnt E (fun t => v1 = -1 ∨ v1 = nI t) c → fz_YS v' E → post (nI c) v') : wpY_states post (bW, bG, bS, bN, bV, bF, bZ, bD, bT, bI, bP, bL) v1 := by
  unfold wpY_states
  have b1 : ¬ v1 < -1 := by
    rcases hv with q | ⟨s, hs, q⟩
    · rw [q]; decide
    · rw [q]
      intro h
      have := nI_pos (n := s) (by omega)
      exact this (Int32.lt_trans h (by decide))
  have b2 : v1 ≤ 3 := by
    rcases hv with q | ⟨s, hs, q⟩
    · rw [q]; decide
    · rw [q]; exact nI_le (b := 3) (by omega) (by decide)
  refine br_f b1 (br_t b2 ⟨5, ?_⟩)
  exact fz_y_states16 Y P 4 0 5 [] bF bZ bD bL (by omega) (by omega) (by simp) (fun R => ⟨fun m => absurd m (by simp), fun ⟨_, s, hs, _⟩ => by omega⟩) (by simp) (fun q R h => by simp at h)
theorem fz_y_states_n {post : Int32 → SY → Prop} {bF bZ bD bL : Nat → Int32} {v1 : Int32} (h1 : v1 ≠ -1) (h2 : ¬ fz_dc v1) (P : post (-1) (bW, bG, bS, bN, bV, bF, bZ, bD, bT, bI, bP, bL)) : wpY_states post (bW, bG, bS, bN, bV, bF, bZ, bD, bT, bI, bP, bL) v1 := by
  unfold wpY_states
  by_cases z : v1 < -1
  · exact br_t z P
  · refine br_f z ?_
    by_cases y : v1 ≤ 3
    · exfalso
      have n0 : ¬ v1 < 0 := by
        intro q
        rw [Int32.lt_iff_toInt_lt] at q z
        have e0 : (0 : Int32).toInt = 0 := by decide
        have e1 : (-1 : Int32).toInt = -1 := by decide
        apply h1
        apply Int32.toInt_inj.mp
        omega
      have := fz_dc_n h2 n0
      rw [Int32.le_iff_toInt_le] at this y
      have e3 : (3 : Int32).toInt = 3 := by decide
      have e4 : (4 : Int32).toInt = 4 := by decide
      omega
    · exact br_f y P
end
end
section
/-! the relation: both sides hold the same lists; the working dictionary is empty -/
def i_Rel (_ : Nat) (u : SX) (v : SY) : Prop := ∃ E : Nat → List (List Nat × Nat), fz_XS u E ∧ fz_YS v E ∧ E 4 = []
theorem i_up {k : Nat} {u : SX} {v : SY} (h : i_Rel k u v) : i_Rel (k + 5) u v := h
def fz_ic (j : Nat) : Nat → Nat := fun i => if 1 ≤ i ∧ i < j then i + 1 else 0
theorem fz_ic_1 : fz_ic 1 = fun _ => 0 := by
  funext i; unfold fz_ic; rw [if_neg (by omega)]
theorem fz_ic_s {j : Nat} (h : 1 ≤ j) : fz_u (fz_ic j) j (j + 1) = fz_ic (j + 1) := by
  funext i
  by_cases z : i = j
  · rw [z, fz_us]; unfold fz_ic; rw [if_pos (by omega)]
  · rw [fz_un z]
    unfold fz_ic
    by_cases y : 1 ≤ i ∧ i < j
    · rw [if_pos y, if_pos (by omega)]
    · rw [if_neg y, if_neg (by omega)]
theorem fz_ic_ll : ∀ (n s : Nat), s + (n + 1) = 520 → 1 ≤ s → fz_ll (fz_u (fz_ic 520) 519 0) s (List.range' s (n + 1))
  | 0, s, h, _ => by
    have : s = 519 := by omega
    subst this
    exact ⟨rfl, by decide, by rw [fz_us]; rfl⟩
  | n + 1, s, h, h1 => by
    rw [List.range'_succ]
    refine ⟨rfl, by omega, ?_⟩
    rw [fz_un (by omega)]
    have e : fz_ic 520 s = s + 1 := by unfold fz_ic; rw [if_pos (by omega)]
    rw [e]
    exact fz_ic_ll n (s + 1) (by omega) (by omega)
theorem fz_x_init {post : SX → Prop} {fu fa fl fy : Int32} {aA aB aC aD aE aF aG aH aI aJ aK aL aM aN aO aP aQ aR : Nat → Int32} (K : post (fu, fa, fl, fy, aA, aB, aC, aD, fz_c (fz_u (fz_ic 520) 519 0), aE, aF, aG, aH, aI, aJ, aK, aL, aM, aN, aO, aP, aQ, aR)) :
    ∀ (d j f : Nat), j + d = 520 → 1 ≤ j → d < f → wX_init_169 post fu fa fl fy f (nI j) aA aB aC aD (fz_c (fz_ic j)) aE aF aG aH aI aJ aK aL aM aN aO aP aQ aR
  | _, _, 0, _, _, h => by omega
  | 0, j, f + 1, hj, _, _ => by
    have : j = 520 := by omega
    subst this
    exact br_t (show (520 : Int32) ≤ nI 520 by decide) (nm_r (e' := fz_c (fz_u (fz_ic 520) 519 0)) (by rw [← fz_cu]; exact congrArg (upd _ 519) (fz_ns (n := 0) (by decide))) K)
  | d + 1, j, f + 1, hj, h1, hf => by
    have IH := fz_x_init K d (j + 1) f (by omega) (by omega) (by omega)
    refine br_f (nI_ge (b := 520) (by omega) (by decide)) ⟨vp_in_nI (by omega) (by omega), nm_r (e' := fz_c (fz_ic (j + 1))) ?_ (nm_r (nI_1 j) IH)⟩
    rw [nI_1, fz_ns2 (by omega), nI_clamp (by omega), fz_cu, fz_ic_s h1]
theorem fz_H0 : fz_HS 1 0 (fun _ => 0) (fun _ => 0) (fun _ => 0) (fun _ => 0) (fz_u (fz_ic 520) 519 0) (fun _ => 0) (fun _ => 0) (fun _ => 0) (List.range' 1 519) (fun _ => []) (fun _ => []) (fun _ => []) := by
  have nA : ∀ n, ¬ fz_A (List.range' 1 519) n := fun n h => h.2.2 (by rw [List.mem_range'_1]; have := h.1; have := h.2.1; omega)
  refine ⟨⟨⟨rfl, rfl, fun n h => absurd h (nA n)⟩, fun n m h => absurd h (nA n), fun n h => absurd h (nA n), ⟨fz_ic_ll 518 1 (by omega) (by omega), List.nodup_range', ?_⟩, ?_, fun s _ => Or.inl rfl, ?_⟩, fun n h => absurd h (nA n), fun s _ => ⟨rfl, by simp [fz_ky]⟩, fun s _ k hk => absurd hk (by simp), fun i => (show 0 < 100 by decide)⟩
  · intro n m
    rw [List.mem_range'_1] at m
    omega
  · intro h _
    exact ⟨rfl, List.Pairwise.nil, fun n => ⟨fun m => absurd m (by simp), fun m => absurd m.1 (nA n)⟩⟩
  · simp
theorem fz_Y0 : fz_YW (fun _ => 0) (fun _ => 0) (fun _ => 0) (upd (upd (upd (upd (upd (upd (fun _ => 0) 0 1) 1 5) 2 25) 3 125) 4 625) 5 3125) (fun _ => []) := by
  refine ⟨fun s _ => ⟨rfl, by simp, fz_sv_nil, fun w m => absurd m (by simp [fz_ky]), fun x m => absurd m (by simp), fun k hk => absurd hk (by simp)⟩, ?_⟩
  intro i hi
  have : i = 0 ∨ i = 1 ∨ i = 2 ∨ i = 3 ∨ i = 4 ∨ i = 5 := by omega
  rcases this with rfl | rfl | rfl | rfl | rfl | rfl <;> rfl
theorem i_vc0 : wpX_init (fun u => wpY_init (fun v => i_Rel 0 u v)) := by
  have key := fz_x_init (post := fun u => wpY_init (fun v => i_Rel 0 u v)) (fu := 1) (fa := 0) (fl := 0) (fy := 0) (aA := fun _ => 0) (aB := fun _ => 0) (aC := fun _ => 0) (aD := fun _ => 0) (aE := fun _ => 0) (aF := fun _ => 0) (aG := fun _ => 0) (aH := fun _ => 0) (aI := fun _ => 0) (aJ := fun _ => 0) (aK := fun _ => 0) (aL := fun _ => 0) (aM := fun _ => 0) (aN := fun _ => 0) (aO := fun _ => 0) (aP := fun _ => 0) (aQ := fun _ => 0) (aR := fun _ => 0) ?_ 519 1 520 (by omega) (by omega) (by omega)
  · rw [fz_ic_1] at key
    exact Exists.intro 520 key
  · exact nm_e (nm_e (nm_e (nm_e (nm_e (nm_e ⟨fun _ => [], fz_XS_mk fz_H0, fz_YS_mk fz_Y0, rfl⟩)))))
/-! the methods that change -/
theorem i_vc_put {k : Nat} {u : SX} {v : SY} (I : i_Rel k u v) (hk : k + 5 ≤ 2560) (v1 : Int32) (v2 : Int32) (v3 : Int32) : wpX_put (fun r u' => wpY_put (fun r' v' => r' = r ∧ i_Rel (k + 5) u' v') v v1 v2 v3) u v1 v2 v3 := by
  obtain ⟨E, hX, hY, h4⟩ := I
  refine fz_YS_el (P := fun v => wpX_put (fun r u' => wpY_put (fun r' v' => r' = r ∧ i_Rel (k + 5) u' v') v v1 v2 v3) u v1 v2 v3) hY ?_
  intro bW bG bS bN bV bF bZ bD bT bI bP bL Y
  by_cases z : fz_dc v1 ∧ (∃ w, fz_wd v2 w) ∧ (0 ≤ v3 ∧ v3 ≤ 99)
  · obtain ⟨⟨s, hs, rfl⟩, ⟨w, hw⟩, h0, h99⟩ := z
    obtain ⟨g, hg, rfl⟩ := nI_of (Int32.not_lt.mpr h0)
    have g100 : g < 100 := by
      have := (nI_leI (a := g) (b := 99) hg (by decide)).mp h99
      omega
    have e4 : ∀ l, fz_ue E s l 4 = [] := fun l => by rw [fz_ue_n (by omega)]; exact h4
    refine fz_x_put hX hs hw g100 (fun q u' hu => ?_) (fun q q2 u' hu => ?_) (fun q q2 u' hu => ?_)
    · exact fz_y_put Y hs hw g100 (fun _ v' hv => ⟨rfl, _, hu, hv, e4 _⟩) (fun n => absurd q n) (fun n => absurd q n)
    · exact fz_y_put Y hs hw g100 (fun n => absurd n q) (fun _ _ v' hv => ⟨rfl, _, hu, hv, e4 _⟩) (fun _ n => by omega)
    · exact fz_y_put Y hs hw g100 (fun n => absurd n q) (fun _ n => by omega) (fun _ _ => ⟨rfl, E, hu, fz_YS_mk Y, h4⟩)
  · exact fz_x_put_n hX z (fun u' hu => fz_y_put_n Y z ⟨rfl, E, hu, fz_YS_mk Y, h4⟩)
theorem i_vc_remove {k : Nat} {u : SX} {v : SY} (I : i_Rel k u v) (hk : k + 5 ≤ 2560) (v1 : Int32) (v2 : Int32) : wpX_remove (fun r u' => wpY_remove (fun r' v' => r' = r ∧ i_Rel (k + 5) u' v') v v1 v2) u v1 v2 := by
  obtain ⟨E, hX, hY, h4⟩ := I
  refine fz_YS_el (P := fun v => wpX_remove (fun r u' => wpY_remove (fun r' v' => r' = r ∧ i_Rel (k + 5) u' v') v v1 v2) u v1 v2) hY ?_
  intro bW bG bS bN bV bF bZ bD bT bI bP bL Y
  by_cases z : ∃ s w, s < 4 ∧ v1 = nI s ∧ fz_wd v2 w ∧ w ∈ fz_ky (E s)
  · obtain ⟨s, w, hs, rfl, hw, hm⟩ := z
    exact fz_x_rem hX hs hw hm (fun u' hu => fz_y_rem Y hs hw hm (fun v' hv => ⟨rfl, _, hu, hv, by rw [fz_ue_n (by omega)]; exact h4⟩))
  · exact fz_x_rem_n hX z (fun u' hu => fz_y_rem_n Y z ⟨rfl, E, hu, fz_YS_mk Y, h4⟩)
theorem i_vc_join {k : Nat} {u : SX} {v : SY} (I : i_Rel k u v) (hk : k + 5 ≤ 2560) (v1 : Int32) (v2 : Int32) (v3 : Int32) (v4 : Int32) : wpX_join (fun r u' => wpY_join (fun r' v' => r' = r ∧ i_Rel (k + 5) u' v') v v1 v2 v3 v4) u v1 v2 v3 v4 := by
  obtain ⟨E, hX, hY, h4⟩ := I
  refine fz_YS_el (P := fun v => wpX_join (fun r u' => wpY_join (fun r' v' => r' = r ∧ i_Rel (k + 5) u' v') v v1 v2 v3 v4) u v1 v2 v3 v4) hY ?_
  intro bW bG bS bN bV bF bZ bD bT bI bP bL Y
  by_cases z : (∃ how, how < 3 ∧ v1 = nI how) ∧ fz_dc v2 ∧ fz_dc v3 ∧ fz_dc v4
  · obtain ⟨⟨how, hh, rfl⟩, ⟨a, ha, rfl⟩, ⟨b, hb, rfl⟩, ⟨o, ho, rfl⟩⟩ := z
    obtain ⟨_, a24, sva, _⟩ := Y.1 a ha
    obtain ⟨_, b24, svb, _⟩ := Y.1 b hb
    have mem : ∀ x, x ∈ fz_mg how 49 (E a) (E b) ↔ fz_jn how (E a) (E b) x := fun x => fz_mg_mem hh (fz_kp sva) (fz_kp svb) (by omega)
    have svm : fz_sv (fz_ky (fz_mg how 49 (E a) (E b))) := by
      refine ⟨List.pairwise_map.mpr (fz_mg_ps (fz_kp sva) (fz_kp svb)), ?_⟩
      intro w m
      obtain ⟨x, mx, rfl⟩ := fz_mky.mp m
      rcases fz_mg_sub mx with q | q
      · exact sva.2 _ (fz_mky.mpr ⟨x, q, rfl⟩)
      · exact svb.2 _ (fz_mky.mpr ⟨x, q, rfl⟩)
    have len := fz_jn_len sva svb svm mem
    refine fz_x_join hX h4 hh ha hb ho (fun q u' hu => ?_) (fun q l u' hl hu => ?_)
    · exact fz_y_join Y hh ha hb ho rfl (fun _ v' hv => ⟨rfl, E, hu, hv, h4⟩) (fun n => by omega)
    · have svl : fz_sv (fz_ky l) := fz_XS_el (P := fun _ => fz_sv (fz_ky l)) hu (fun un al fl fy nx en wd rt hd ch he wt aL aD aP aY aS aT aN aR aM aQ aB F B L H => by
        have := fz_HS_sv H (s := o) (by omega)
        rw [fz_ue_s] at this; exact this)
      have e := fz_jn_un svl svm hl mem
      refine fz_y_join Y hh ha hb ho rfl (fun n => by omega) (fun _ v' hv => ⟨by rw [len], _, hu, ?_, ?_⟩)
      · rw [e]; exact hv
      · rw [fz_ue_n (by omega)]; exact h4
  · exact fz_x_join_n hX z (fun u' hu => fz_y_join_n z ⟨rfl, E, hu, fz_YS_mk Y, h4⟩)
/-! the methods that read -/
theorem i_vc_size {k : Nat} {u : SX} {v : SY} (I : i_Rel k u v) (hk : k + 5 ≤ 2560) (v1 : Int32) : wpX_size (fun r => wpY_size (fun r' => r' = r ∧ i_Rel (k + 5) u v) v v1) u v1 := by
  have I' : i_Rel (k + 5) u v := I
  obtain ⟨E, hX, hY, h4⟩ := I
  revert I'
  refine fz_YS_el (P := fun v => i_Rel (k + 5) u v → wpX_size (fun r => wpY_size (fun r' => r' = r ∧ i_Rel (k + 5) u v) v v1) u v1) hY ?_
  intro bW bG bS bN bV bF bZ bD bT bI bP bL Y
  refine fz_XS_el (P := fun u => i_Rel (k + 5) u _ → wpX_size (fun r => wpY_size (fun r' => r' = r ∧ i_Rel (k + 5) u _) _ v1) u v1) hX ?_
  intro un al fl fy nx en wd rt hd ch he wt aL aD aP aY aS aT aN aR aM aQ aB F B L H I'
  unfold wpX_size
  by_cases z : fz_dc v1
  · obtain ⟨s, hs, rfl⟩ := z
    refine fz_x_one1 hs (br_f (by decide) (fz_x_sizeOf H.1.1 (by omega) (fz_HS_Nd H (by omega)) ?_))
    rw [fz_HS_L H (by omega), fz_ky_len]
    unfold wpY_size
    refine fz_y_isD1 hs (br_f (by decide) ⟨vp_in_nI hs (by omega), ?_⟩)
    rw [nI_clamp (by omega), (Y.1 s hs).1]
    exact ⟨rfl, I'⟩
  · refine fz_x_one0 z (br_t rfl ?_)
    unfold wpY_size
    exact fz_y_isD0 z (br_t rfl ⟨rfl, I'⟩)
theorem i_vc_rank {k : Nat} {u : SX} {v : SY} (I : i_Rel k u v) (hk : k + 5 ≤ 2560) (v1 : Int32) (v2 : Int32) : wpX_rank (fun r u' => wpY_rank (fun r' => r' = r ∧ i_Rel (k + 5) u' v) v v1 v2) u v1 v2 := by
  obtain ⟨E, hX, hY, h4⟩ := I
  refine fz_YS_el (P := fun v => wpX_rank (fun r u' => wpY_rank (fun r' => r' = r ∧ i_Rel (k + 5) u' v) v v1 v2) u v1 v2) hY ?_
  intro bW bG bS bN bV bF bZ bD bT bI bP bL Y
  refine fz_XS_el (P := fun u => wpX_rank (fun r u' => wpY_rank (fun r' => r' = r ∧ i_Rel (k + 5) u' _) _ v1 v2) u v1 v2) hX ?_
  intro un al fl fy nx en wd rt hd ch he wt aL aD aP aY aS aT aN aR aM aQ aB F B L H
  unfold wpX_rank
  by_cases z : fz_dc v1
  · obtain ⟨s, hs, rfl⟩ := z
    refine fz_x_one1 hs (br_f (by decide) ?_)
    by_cases z2 : ∃ w, fz_row v2 w
    · obtain ⟨w, hw⟩ := z2
      refine fz_x_split1 hw (fun a d ha => br_f (by decide) (fz_x_before H.1.1 (by omega) hw.1 hw.2.1 (fz_HS_Nd H (by omega)) ha ?_))
      rw [fz_HS_L H (by omega)]
      unfold wpY_rank
      refine fz_y_isD1 hs (br_f (by decide) (fz_y_row1 hw (br_f (by decide) ?_)))
      rw [hw.2.2]
      exact fz_y_before Y hs hw.1 hw.2.1 ⟨rfl, E, fz_XS_mk H, fz_YS_mk Y, h4⟩
    · refine fz_x_split0 z2 (fun l a d => br_t rfl ?_)
      unfold wpY_rank
      exact fz_y_isD1 hs (br_f (by decide) (fz_y_row0 z2 (br_t rfl ⟨rfl, E, fz_XS_mk H, fz_YS_mk Y, h4⟩)))
  · refine fz_x_one0 z (br_t rfl ?_)
    unfold wpY_rank
    exact fz_y_isD0 z (br_t rfl ⟨rfl, E, fz_XS_mk H, fz_YS_mk Y, h4⟩)
theorem i_vc_begin {k : Nat} {u : SX} {v : SY} (I : i_Rel k u v) (hk : k + 5 ≤ 2560) (v1 : Int32) (v2 : Int32) : wpX_begin (fun r u' => wpY_begin (fun r' => r' = r ∧ i_Rel (k + 5) u' v) v v1 v2) u v1 v2 := by
  obtain ⟨E, hX, hY, h4⟩ := I
  refine fz_YS_el (P := fun v => wpX_begin (fun r u' => wpY_begin (fun r' => r' = r ∧ i_Rel (k + 5) u' v) v v1 v2) u v1 v2) hY ?_
  intro bW bG bS bN bV bF bZ bD bT bI bP bL Y
  refine fz_XS_el (P := fun u => wpX_begin (fun r u' => wpY_begin (fun r' => r' = r ∧ i_Rel (k + 5) u' _) _ v1 v2) u v1 v2) hX ?_
  intro un al fl fy nx en wd rt hd ch he wt aL aD aP aY aS aT aN aR aM aQ aB F B L H
  unfold wpX_begin
  by_cases z : fz_dc v1
  · obtain ⟨s, hs, rfl⟩ := z
    refine fz_x_one1 hs (br_f (by decide) ?_)
    by_cases z2 : ∃ w, fz_row v2 w
    · obtain ⟨w, hw⟩ := z2
      refine fz_x_split1 hw (fun a d ha => br_f (by decide) (fz_x_behind H.1.1 (by omega) hw.1 hw.2.1 (fz_HS_Nd H (by omega)) ha (fun m hm e => ?_)))
      have ml := fz_Nd_lt hm
      refine ⟨vp_in_nI ml (by omega), ?_⟩
      rw [fz_ca wd rfl (by omega), fz_gr_wd H.1.1 hm, e, fz_HS_L H (by omega), hw.2.2]
      exact fz_y_begin Y hs hw.1 hw.2.1 ⟨rfl, E, fz_XS_mk H, fz_YS_mk Y, h4⟩
    · refine fz_x_split0 z2 (fun l a d => br_t rfl ?_)
      unfold wpY_begin
      exact fz_y_isD1 hs (br_f (by decide) (fz_y_row0 z2 (br_t rfl ⟨rfl, E, fz_XS_mk H, fz_YS_mk Y, h4⟩)))
  · refine fz_x_one0 z (br_t rfl ?_)
    unfold wpY_begin
    exact fz_y_isD0 z (br_t rfl ⟨rfl, E, fz_XS_mk H, fz_YS_mk Y, h4⟩)
theorem i_vc_best {k : Nat} {u : SX} {v : SY} (I : i_Rel k u v) (hk : k + 5 ≤ 2560) (v1 : Int32) (v2 : Int32) : wpX_best (fun r u' => wpY_best (fun r' => r' = r ∧ i_Rel (k + 5) u' v) v v1 v2) u v1 v2 := by
  obtain ⟨E, hX, hY, h4⟩ := I
  refine fz_YS_el (P := fun v => wpX_best (fun r u' => wpY_best (fun r' => r' = r ∧ i_Rel (k + 5) u' v) v v1 v2) u v1 v2) hY ?_
  intro bW bG bS bN bV bF bZ bD bT bI bP bL Y
  refine fz_XS_el (P := fun u => wpX_best (fun r u' => wpY_best (fun r' => r' = r ∧ i_Rel (k + 5) u' _) _ v1 v2) u v1 v2) hX ?_
  intro un al fl fy nx en wd rt hd ch he wt aL aD aP aY aS aT aN aR aM aQ aB F B L H
  unfold wpX_best
  by_cases z : fz_dc v1
  · obtain ⟨s, hs, rfl⟩ := z
    refine fz_x_one1 hs (br_f (by decide) ?_)
    by_cases z2 : ∃ w, fz_row v2 w
    · obtain ⟨w, hw⟩ := z2
      refine fz_x_split1 hw (fun a d ha => br_f (by decide) (fz_x_behind H.1.1 (by omega) hw.1 hw.2.1 (fz_HS_Nd H (by omega)) ha (fun m hm e => ?_)))
      refine fz_x_before H.1.1 (by omega) hw.1 hw.2.1 (fz_HS_Nd H (by omega)) ha ?_
      rw [fz_HS_L H (by omega)] at e ⊢
      have GY : ∀ (r : Int32) (u' : SX), fz_XS u' E → ((fz_rw w (fz_ky (E s))).length = 0 → r = 0) → (0 < (fz_rw w (fz_ky (E s))).length → r = nI (fz_en ((E s).getD (fz_bb (fun k => ((E s).getD k ([], 0)).2) (fz_cb w (fz_ky (E s))) ((fz_rw w (fz_ky (E s))).length - 1)) ([], 0)).1)) → wpY_best (fun r' => r' = r ∧ i_Rel (k + 5) u' (bW, bG, bS, bN, bV, bF, bZ, bD, bT, bI, bP, bL)) (bW, bG, bS, bN, bV, bF, bZ, bD, bT, bI, bP, bL) (nI s) v2 := by
        intro r u' hu q0 q1
        unfold wpY_best
        refine fz_y_isD1 hs (br_f (by decide) (fz_y_row1 hw (br_f (by decide) (nm_r (fz_s24 s) ⟨(E s).length + 1, ?_⟩))))
        rw [hw.2.2]
        exact fz_y_best24 Y hs hw.1 hw.2.1 rfl rfl (fun q => ⟨(q0 q).symm, E, hu, fz_YS_mk Y, h4⟩) (fun q => ⟨(q1 q).symm, E, hu, fz_YS_mk Y, h4⟩) (E s).length 0 _ _ (by omega) (by omega) (Or.inl ⟨by omega, rfl⟩)
      refine ⟨(fz_rw w (fz_ky (E s))).length + 1, fz_x_best39 H (by omega) hm e rfl rfl (fun q => ?_) (fun q u' hu => ?_) (fz_rw w (fz_ky (E s))).length _ _ _ rfl (by omega) (Or.inl ⟨rfl, rfl⟩)⟩
      · exact GY 0 _ (fz_XS_mk H) (fun _ => rfl) (fun q2 => by omega)
      · exact GY _ u' hu (fun q2 => by omega) (fun _ => rfl)
    · refine fz_x_split0 z2 (fun l a d => br_t rfl ?_)
      unfold wpY_best
      exact fz_y_isD1 hs (br_f (by decide) (fz_y_row0 z2 (br_t rfl ⟨rfl, E, fz_XS_mk H, fz_YS_mk Y, h4⟩)))
  · refine fz_x_one0 z (br_t rfl ?_)
    unfold wpY_best
    exact fz_y_isD0 z (br_t rfl ⟨rfl, E, fz_XS_mk H, fz_YS_mk Y, h4⟩)
theorem i_vc_word {k : Nat} {u : SX} {v : SY} (I : i_Rel k u v) (hk : k + 5 ≤ 2560) (v1 : Int32) (v2 : Int32) : wpX_word (fun r u' => wpY_word (fun r' => r' = r ∧ i_Rel (k + 5) u' v) v v1 v2) u v1 v2 := by
  obtain ⟨E, hX, hY, h4⟩ := I
  refine fz_YS_el (P := fun v => wpX_word (fun r u' => wpY_word (fun r' => r' = r ∧ i_Rel (k + 5) u' v) v v1 v2) u v1 v2) hY ?_
  intro bW bG bS bN bV bF bZ bD bT bI bP bL Y
  refine fz_XS_el (P := fun u => wpX_word (fun r u' => wpY_word (fun r' => r' = r ∧ i_Rel (k + 5) u' _) _ v1 v2) u v1 v2) hX ?_
  intro un al fl fy nx en wd rt hd ch he wt aL aD aP aY aS aT aN aR aM aQ aB F B L H
  unfold wpX_word wpX_isPlace
  by_cases z : fz_dc v1
  · obtain ⟨s, hs, rfl⟩ := z
    refine fz_x_one1 hs (br_f (by decide) ?_)
    by_cases z2 : v2 < 0
    · refine br_t z2 (br_t rfl ?_)
      unfold wpY_word
      exact fz_y_isD1 hs (br_f (by decide) (br_t z2 ⟨rfl, E, fz_XS_mk H, fz_YS_mk Y, h4⟩))
    · obtain ⟨j, hj, rfl⟩ := nI_of z2
      have l24 := (Y.1 s hs).2.1
      have eS := (Y.1 s hs).1
      refine br_f z2 (fz_x_sizeOf H.1.1 (by omega) (fz_HS_Nd H (by omega)) ?_)
      rw [fz_HS_L H (by omega), fz_ky_len]
      by_cases z3 : j < (E s).length
      · refine br_f (nI_ge z3 (by omega)) (br_f (by decide) ?_)
        obtain ⟨x, ex, mx, gx⟩ := fz_getx z3
        refine fz_xt_spell H (by omega) ex (fun u' h' => ?_)
        have q : wpY_word (fun r' => r' = nI (fz_en x.1) ∧ i_Rel (k + 5) u' (bW, bG, bS, bN, bV, bF, bZ, bD, bT, bI, bP, bL)) (bW, bG, bS, bN, bV, bF, bZ, bD, bT, bI, bP, bL) (nI s) (nI j) := by
          unfold wpY_word
          refine fz_y_isD1 hs (br_f (by decide) (br_f z2 ⟨vp_in_nI hs (by omega), ?_⟩))
          rw [nI_clamp (by omega), eS]
          have E24 : 24 * nI s + nI j = nI (24 * s + j) := fz_24
          refine br_t (nI_lt z3 (by omega)) ⟨by rw [E24]; exact vp_in_nI (by omega) (by omega), ?_⟩
          rw [E24, nI_clamp (by omega), ((Y.1 s hs).2.2.2.2.2 j z3).1, gx]
          exact ⟨rfl, E, fz_XSR_XS h', fz_YS_mk Y, h4⟩
        exact q
      · refine br_t (nI_le (by omega) (by omega)) (br_t rfl ?_)
        unfold wpY_word
        refine fz_y_isD1 hs (br_f (by decide) (br_f z2 ⟨vp_in_nI hs (by omega), ?_⟩))
        rw [nI_clamp (by omega), eS]
        exact br_f (nI_nlt (by omega) (by omega)) ⟨rfl, E, fz_XS_mk H, fz_YS_mk Y, h4⟩
  · refine fz_x_one0 z (br_t rfl (br_t rfl ?_))
    unfold wpY_word
    exact fz_y_isD0 z (br_t rfl ⟨rfl, E, fz_XS_mk H, fz_YS_mk Y, h4⟩)
theorem i_vc_weight {k : Nat} {u : SX} {v : SY} (I : i_Rel k u v) (hk : k + 5 ≤ 2560) (v1 : Int32) (v2 : Int32) : wpX_weight (fun r => wpY_weight (fun r' => r' = r ∧ i_Rel (k + 5) u v) v v1 v2) u v1 v2 := by
  obtain ⟨E, hX, hY, h4⟩ := I
  refine fz_YS_el (P := fun v => wpX_weight (fun r => wpY_weight (fun r' => r' = r ∧ i_Rel (k + 5) u v) v v1 v2) u v1 v2) hY ?_
  intro bW bG bS bN bV bF bZ bD bT bI bP bL Y
  refine fz_XS_el (P := fun u => wpX_weight (fun r => wpY_weight (fun r' => r' = r ∧ i_Rel (k + 5) u _) _ v1 v2) u v1 v2) hX ?_
  intro un al fl fy nx en wd rt hd ch he wt aL aD aP aY aS aT aN aR aM aQ aB F B L H
  have R : ∀ r : Int32, r = r ∧ i_Rel (k + 5) (nI un, nI al, fl, fy, fz_c nx, fz_c en, fz_c wd, fz_c hd, fz_c ch, fz_c he, fz_c rt, fz_c wt, aL, aD, aP, aY, aS, aT, aN, aR, aM, aQ, aB) (bW, bG, bS, bN, bV, bF, bZ, bD, bT, bI, bP, bL) := fun r => ⟨rfl, E, fz_XS_mk H, fz_YS_mk Y, h4⟩
  unfold wpX_weight wpX_isPlace
  by_cases z : fz_dc v1
  · obtain ⟨s, hs, rfl⟩ := z
    refine fz_x_one1 hs (br_f (by decide) ?_)
    by_cases z2 : v2 < 0
    · refine br_t z2 (br_t rfl ?_)
      unfold wpY_weight
      exact fz_y_isD1 hs (br_f (by decide) (br_t z2 (R _)))
    · obtain ⟨j, hj, rfl⟩ := nI_of z2
      have l24 := (Y.1 s hs).2.1
      have eS := (Y.1 s hs).1
      refine br_f z2 (fz_x_sizeOf H.1.1 (by omega) (fz_HS_Nd H (by omega)) ?_)
      rw [fz_HS_L H (by omega), fz_ky_len]
      have E24 : 24 * nI s + nI j = nI (24 * s + j) := fz_24
      by_cases z3 : j < (E s).length
      · refine br_f (nI_ge z3 (by omega)) (br_f (by decide) ⟨by rw [E24]; exact vp_in_nI (by omega) (by omega), ?_⟩)
        rw [fz_ca wt E24 (by omega), H.2.2.2.1 s (by omega) j z3]
        unfold wpY_weight
        refine fz_y_isD1 hs (br_f (by decide) (br_f z2 ⟨vp_in_nI hs (by omega), ?_⟩))
        rw [nI_clamp (by omega), eS]
        refine br_t (nI_lt z3 (by omega)) ⟨by rw [E24]; exact vp_in_nI (by omega) (by omega), ?_⟩
        rw [E24, nI_clamp (by omega), ((Y.1 s hs).2.2.2.2.2 j z3).2]
        exact R _
      · refine br_t (nI_le (by omega) (by omega)) (br_t rfl ?_)
        unfold wpY_weight
        refine fz_y_isD1 hs (br_f (by decide) (br_f z2 ⟨vp_in_nI hs (by omega), ?_⟩))
        rw [nI_clamp (by omega), eS]
        exact br_f (nI_nlt (by omega) (by omega)) (R _)
  · refine fz_x_one0 z (br_t rfl (br_t rfl ?_))
    unfold wpY_weight
    exact fz_y_isD0 z (br_t rfl (R _))
theorem i_vc_common {k : Nat} {u : SX} {v : SY} (I : i_Rel k u v) (hk : k + 5 ≤ 2560) (v1 : Int32) (v2 : Int32) : wpX_common (fun r u' => wpY_common (fun r' => r' = r ∧ i_Rel (k + 5) u' v) v v1 v2) u v1 v2 := by
  obtain ⟨E, hX, hY, h4⟩ := I
  refine fz_YS_el (P := fun v => wpX_common (fun r u' => wpY_common (fun r' => r' = r ∧ i_Rel (k + 5) u' v) v v1 v2) u v1 v2) hY ?_
  intro bW bG bS bN bV bF bZ bD bT bI bP bL Y
  refine fz_XS_el (P := fun u => wpX_common (fun r u' => wpY_common (fun r' => r' = r ∧ i_Rel (k + 5) u' _) _ v1 v2) u v1 v2) hX ?_
  intro un al fl fy nx en wd rt hd ch he wt aL aD aP aY aS aT aN aR aM aQ aB F B L H
  unfold wpX_common
  by_cases z : fz_dc v1
  · obtain ⟨s, hs, rfl⟩ := z
    refine fz_x_one1 hs (br_f (by decide) ?_)
    by_cases z2 : fz_dc v2
    · obtain ⟨t, ht, rfl⟩ := z2
      refine fz_x_one1 ht (br_f (by decide) ⟨vp_in_nI (by omega) (by omega), vp_in_nI (by omega) (by omega), ?_⟩)
      rw [fz_ca rt (i := nI s) rfl (by omega), fz_ca rt (i := nI t) rfl (by omega)]
      refine fz_x_shared H.1.1 (fz_HS_Nd H (by omega)) (fz_HS_Nd H (by omega)) (fun aS' aT' => ?_)
      rw [fz_HS_L H (by omega), fz_HS_L H (by omega)]
      have q : wpY_common (fun r' => r' = nI (fz_cm (fz_ky (E s)) (fz_ky (E t))) ∧ i_Rel (k + 5) (nI un, nI al, fl, fy, fz_c nx, fz_c en, fz_c wd, fz_c hd, fz_c ch, fz_c he, fz_c rt, fz_c wt, aL, aD, aP, aY, aS', aT', aN, aR, aM, aQ, aB) (bW, bG, bS, bN, bV, bF, bZ, bD, bT, bI, bP, bL)) (bW, bG, bS, bN, bV, bF, bZ, bD, bT, bI, bP, bL) (nI s) (nI t) := by
        unfold wpY_common
        refine fz_y_isD1 hs (br_f (by decide) (fz_y_isD1 ht (br_f (by decide) (nm_r (fz_s24 s) ⟨(E s).length + 1, ?_⟩))))
        refine fz_y_common24 Y hs ht (E s).length 0 0 _ (by omega) (by omega) ?_
        rw [Nat.zero_add, List.drop_zero]
        exact ⟨rfl, E, fz_XS_mk H, fz_YS_mk Y, h4⟩
      exact q
    · refine fz_x_one0 z2 (br_t rfl ?_)
      unfold wpY_common
      exact fz_y_isD1 hs (br_f (by decide) (fz_y_isD0 z2 (br_t rfl ⟨rfl, E, fz_XS_mk H, fz_YS_mk Y, h4⟩)))
  · refine fz_x_one0 z (br_t rfl ?_)
    unfold wpY_common
    exact fz_y_isD0 z (br_t rfl ⟨rfl, E, fz_XS_mk H, fz_YS_mk Y, h4⟩)
theorem fz_pf_all {D : List (List Nat)} {p w : List Nat} (h : fz_sv D) (hl : (fz_rw p D).length = D.length) (hw : w ∈ D) : w.take p.length = p := by
  rw [← fz_cpf p h] at hl
  have := List.countP_eq_length.mp hl w hw
  simpa using this
theorem i_vc_start {k : Nat} {u : SX} {v : SY} (I : i_Rel k u v) (hk : k + 5 ≤ 2560) (v1 : Int32) : wpX_start (fun r => wpY_start (fun r' => r' = r ∧ i_Rel (k + 5) u v) v v1) u v1 := by
  obtain ⟨E, hX, hY, h4⟩ := I
  refine fz_YS_el (P := fun v => wpX_start (fun r => wpY_start (fun r' => r' = r ∧ i_Rel (k + 5) u v) v v1) u v1) hY ?_
  intro bW bG bS bN bV bF bZ bD bT bI bP bL Y
  refine fz_XS_el (P := fun u => wpX_start (fun r => wpY_start (fun r' => r' = r ∧ i_Rel (k + 5) u _) _ v1) u v1) hX ?_
  intro un al fl fy nx en wd rt hd ch he wt aL aD aP aY aS aT aN aR aM aQ aB F B L H
  have R : ∀ r : Int32, r = r ∧ i_Rel (k + 5) (nI un, nI al, fl, fy, fz_c nx, fz_c en, fz_c wd, fz_c hd, fz_c ch, fz_c he, fz_c rt, fz_c wt, aL, aD, aP, aY, aS, aT, aN, aR, aM, aQ, aB) (bW, bG, bS, bN, bV, bF, bZ, bD, bT, bI, bP, bL) := fun r => ⟨rfl, E, fz_XS_mk H, fz_YS_mk Y, h4⟩
  unfold wpX_start
  by_cases z : fz_dc v1
  · obtain ⟨s, hs, rfl⟩ := z
    have eL := fz_HS_L H (s := s) (by omega)
    have rN := fz_HS_Nd H (s := s) (by omega)
    have rl := fz_Nd_lt rN
    obtain ⟨eS, l24, sv, w15, _⟩ := Y.1 s hs
    refine fz_x_one1 hs (br_f (by decide) ⟨vp_in_nI (by omega) (by omega), nm_r (fz_ca rt rfl (by omega)) ?_⟩)
    by_cases r0 : rt s = 0
    · have e0 : (E s).length = 0 := by
        rw [← fz_ky_len, ← eL, r0, H.1.1.2.1]; rfl
      refine br_t (by rw [r0]; rfl) ⟨1, br_t (by decide) ?_⟩
      unfold wpY_start
      refine fz_y_isD1 hs (br_f (by decide) ⟨vp_in_nI hs (by omega), ?_⟩)
      rw [nI_clamp (by omega), eS, e0]
      exact br_t rfl ⟨1, br_t (by decide) (R _)⟩
    · have rA := fz_Nd_A rN r0
      have ne : 0 < (E s).length := by
        have := List.length_pos_iff.mpr (fz_gr_ne H.1.1 rA)
        rw [eL, fz_ky_len] at this; exact this
      refine br_f (nI_ne0 (by omega) (by omega)) ?_
      have YP : ∀ p, fz_lw p → (fz_rw p (fz_ky (E s))).length = (fz_ky (E s)).length → (∀ c, 1 ≤ c → c ≤ 4 → (fz_rs c (fz_rw p (fz_ky (E s)))).length < (fz_rw p (fz_ky (E s))).length) → wpY_start (fun r' => r' = nI (fz_en p) ∧ i_Rel (k + 5) (nI un, nI al, fl, fy, fz_c nx, fz_c en, fz_c wd, fz_c hd, fz_c ch, fz_c he, fz_c rt, fz_c wt, aL, aD, aP, aY, aS, aT, aN, aR, aM, aQ, aB) (bW, bG, bS, bN, bV, bF, bZ, bD, bT, bI, bP, bL)) (bW, bG, bS, bN, bV, bF, bZ, bD, bT, bI, bP, bL) (nI s) := by
        intro p hp h1 h2
        unfold wpY_start
        refine fz_y_isD1 hs (br_f (by decide) ⟨vp_in_nI hs (by omega), ?_⟩)
        rw [nI_clamp (by omega), eS]
        obtain ⟨w, g, e0, _, kg, mk, hw, w1, w5, _, ew, _⟩ := fz_YW_x Y hs ne
        refine br_f (nI_ne0 ne (by omega)) ⟨by rw [fz_s24]; exact vp_in_nI (by omega) (by omega), nm_r (e' := nI (fz_en w)) (by rw [fz_s24, nI_clamp (by omega)]; exact ew) ⟨w.length + 1, ?_⟩⟩
        have pf := fz_pf_all sv h1 mk
        have pl : p.length ≤ w.length := by
          have := congrArg List.length pf
          rw [List.length_take] at this
          omega
        have key := fz_y_start32 (post := fun r' => r' = nI (fz_en p) ∧ i_Rel (k + 5) (nI un, nI al, fl, fy, fz_c nx, fz_c en, fz_c wd, fz_c hd, fz_c ch, fz_c he, fz_c rt, fz_c wt, aL, aD, aP, aY, aS, aT, aN, aR, aM, aQ, aB) (bW, bG, bS, bN, bV, bF, bZ, bD, bT, bI, bP, bL)) (bN := bN) (bV := bV) (bF := bF) (bZ := bZ) (bD := bD) (bT := bT) (bI := bI) (bL := bL) Y (s := s) (q := p.length) (w := w) hs hw w5 (by rw [pf, h1, fz_ky_len]) ?_ (by rw [pf]; exact R _) w.length (w.length + 1) (Nat.le_refl _) pl (by omega)
        · rw [List.take_length] at key
          exact key
        · intro i hi1 hi2
          have hc := fz_lw_get hw (k := p.length) (by omega)
          have e1 : w.take i = p ++ (w.getD p.length 0 :: ((w.drop (p.length + 1)).take (i - p.length - 1))) := by
            have t1 : w.take i = w.take p.length ++ (w.drop p.length).take (i - p.length) := by
              rw [show i = p.length + (i - p.length) by omega, List.take_add, show p.length + (i - p.length) - p.length = i - p.length by omega]
            rw [t1, pf, fz_drop1 (by omega), show i - p.length = (i - p.length - 1) + 1 by omega]
            rfl
          rw [e1, fz_rw_app]
          have l1 := fz_rw_len ((w.drop (p.length + 1)).take (i - p.length - 1)) (fz_rs (w.getD p.length 0) (fz_rw p (fz_ky (E s))))
          have l2 := h2 _ hc.1 hc.2
          rw [h1, fz_ky_len] at l2
          exact Nat.lt_of_le_of_lt l1 l2
      have ST : ∀ l, ((1 ≤ l ∧ l ≤ 4 ∧ (fz_rs l (L (rt s))).length = (L (rt s)).length) ∨ (l = 0 ∧ ∀ c, 1 ≤ c → c ≤ 4 → (fz_rs c (L (rt s))).length < (L (rt s)).length)) → ∃ n34, wX_start_34 (fun r => wpY_start (fun r' => r' = r ∧ i_Rel (k + 5) (nI un, nI al, fl, fy, fz_c nx, fz_c en, fz_c wd, fz_c hd, fz_c ch, fz_c he, fz_c rt, fz_c wt, aL, aD, aP, aY, aS, aT, aN, aR, aM, aQ, aB) (bW, bG, bS, bN, bV, bF, bZ, bD, bT, bI, bP, bL)) (bW, bG, bS, bN, bV, bF, bZ, bD, bT, bI, bP, bL) (nI s)) (nI un) (nI al) fl fy (fz_c nx) (fz_c en) (fz_c wd) (fz_c hd) (fz_c ch) (fz_c he) (fz_c rt) (fz_c wt) aL aD aP aY aS aT aN aR aM aQ aB n34 (nI (rt s)) 0 (nI l) := fun l hl =>
        ⟨6, fz_x_start34 H.1.1 (D := fz_ky (E s)) YP 6 (rt s) l [] rA fz_lw_nil eL rfl (fz_gr_hb H.1.1 rN) hl⟩
      exact fz_x_only H.1.1 rA (fun l a b e => ST l (Or.inl ⟨a, b, e⟩)) (fun e => ST 0 (Or.inr ⟨rfl, e⟩))
  · refine fz_x_one0 z (br_t rfl ?_)
    unfold wpY_start
    exact fz_y_isD0 z (br_t rfl (R _))
end
section
/-! the owed ones that are left: near, match, states -/
theorem i_vc_near {k : Nat} {u : SX} {v : SY} (I : i_Rel k u v) (hk : k + 5 ≤ 2560) (v1 : Int32) (v2 : Int32) (v3 : Int32) (v4 : Int32) : wpX_near (fun r u' => wpY_near (fun r' v' => r' = r ∧ i_Rel (k + 5) u' v') v v1 v2 v3 v4) u v1 v2 v3 v4 := by
  obtain ⟨E, hX, hY, h4⟩ := I
  refine fz_YS_el (P := fun v => wpX_near (fun r u' => wpY_near (fun r' v' => r' = r ∧ i_Rel (k + 5) u' v') v v1 v2 v3 v4) u v1 v2 v3 v4) hY ?_
  intro bW bG bS bN bV bF bZ bD bT bI bP bL Y
  refine fz_XS_el (P := fun u => wpX_near (fun r u' => wpY_near (fun r' v' => r' = r ∧ i_Rel (k + 5) u' v') _ v1 v2 v3 v4) u v1 v2 v3 v4) hX ?_
  intro un al fl fy nx en wd rt hd ch he wt aL aD aP aY aS aT aN aR aM aQ aB F B L H
  have NO : ¬ (fz_dc v1 ∧ (∃ w, fz_wd v2 w) ∧ (0 ≤ v3 ∧ v3 ≤ 2)) → ∀ u', fz_XS u' E → wpY_near (fun r' v' => r' = -1 ∧ i_Rel (k + 5) u' v') (bW, bG, bS, bN, bV, bF, bZ, bD, bT, bI, bP, bL) v1 v2 v3 v4 := fun hn u' hu => fz_y_near_n hn ⟨rfl, E, hu, fz_YS_mk Y, h4⟩
  unfold wpX_near
  by_cases z1 : fz_dc v1
  · obtain ⟨s, hs, rfl⟩ := z1
    refine fz_x_one1 hs (br_f (by decide) ?_)
    by_cases z2 : ∃ w, fz_wd v2 w
    · obtain ⟨w, hw⟩ := z2
      refine fz_x_wd1 hw (fun a d ha => br_f (by decide) ?_)
      by_cases z3 : 0 ≤ v3 ∧ v3 ≤ 2
      · obtain ⟨m, hm, rfl⟩ := nI_of (Int32.not_lt.mpr z3.1)
        have m3 : m < 3 := by
          have := (nI_leI (a := m) (b := 2) hm (by decide)).mp z3.2
          omega
        have len24 := (Y.1 s hs).2.1
        have ml := fz_fm_len (fz_nf w m) (fz_ky (E s))
        rw [fz_ky_len] at ml
        refine fz_x_out0 z3.1 z3.2 (br_t rfl ⟨w.length + 2, ?_⟩)
        refine fz_x_near30 H hs hw.1.1 hw.1.2.1 (by omega) ha (fun r u' han hu => ?_) (w.length + 1) 0 (w.length + 2) aR (by omega) (by omega) (fun k hk => by omega)
        exact fz_y_near Y hs hw m3 (fun r' bT' han' => ⟨fz_an_un (by omega) han' han, E, hu, fz_YS_mk Y, h4⟩)
      · exact fz_x_out1 z3 (br_f (by decide) (NO (fun q => z3 q.2.2) _ (fz_XS_mk H)))
    · exact fz_x_wd0 z2 (fun l a d => br_t rfl (NO (fun q => z2 q.2.1) _ (fz_XS_mk H)))
  · exact fz_x_one0 z1 (br_t rfl (NO (fun q => z1 q.1) _ (fz_XS_mk H)))
theorem i_vc_match {k : Nat} {u : SX} {v : SY} (I : i_Rel k u v) (hk : k + 5 ≤ 2560) (v1 : Int32) (v2 : Int32) (v3 : Int32) : wpX_match (fun r u' => wpY_match (fun r' v' => r' = r ∧ i_Rel (k + 5) u' v') v v1 v2 v3) u v1 v2 v3 := by
  obtain ⟨E, hX, hY, h4⟩ := I
  refine fz_YS_el (P := fun v => wpX_match (fun r u' => wpY_match (fun r' v' => r' = r ∧ i_Rel (k + 5) u' v') v v1 v2 v3) u v1 v2 v3) hY ?_
  intro bW bG bS bN bV bF bZ bD bT bI bP bL Y
  refine fz_XS_el (P := fun u => wpX_match (fun r u' => wpY_match (fun r' v' => r' = r ∧ i_Rel (k + 5) u' v') _ v1 v2 v3) u v1 v2 v3) hX ?_
  intro un al fl fy nx en wd rt hd ch he wt aL aD aP aY aS aT aN aR aM aQ aB F B L H
  by_cases z : fz_dc v1 ∧ ∃ pt, fz_pt v2 pt
  · obtain ⟨⟨s, hs, rfl⟩, ⟨pt, hp⟩⟩ := z
    have len24 := (Y.1 s hs).2.1
    have ml := fz_fm_len (fz_mf pt) (fz_ky (E s))
    rw [fz_ky_len] at ml
    exact fz_x_match H hs hp (fun r u' han hu => fz_y_match Y hs hp (fun r' bI' han' => ⟨fz_an_un (by omega) han' han, E, hu, fz_YS_mk Y, h4⟩))
  · exact fz_x_match_n H z (fun u' hu => fz_y_match_n z ⟨rfl, E, hu, fz_YS_mk Y, h4⟩)
theorem i_vc_states {k : Nat} {u : SX} {v : SY} (I : i_Rel k u v) (hk : k + 5 ≤ 2560) (v1 : Int32) : wpX_states (fun r u' => wpY_states (fun r' v' => r' = r ∧ i_Rel (k + 5) u' v') v v1) u v1 := by
  obtain ⟨E, hX, hY, h4⟩ := I
  refine fz_YS_el (P := fun v => wpX_states (fun r u' => wpY_states (fun r' v' => r' = r ∧ i_Rel (k + 5) u' v') v v1) u v1) hY ?_
  intro bW bG bS bN bV bF bZ bD bT bI bP bL Y
  refine fz_XS_el (P := fun u => wpX_states (fun r u' => wpY_states (fun r' v' => r' = r ∧ i_Rel (k + 5) u' v') _ v1) u v1) hX ?_
  intro un al fl fy nx en wd rt hd ch he wt aL aD aP aY aS aT aN aR aM aQ aB F B L H
  refine fz_x_states H h4 (fun hv c u' hc _ hu => ?_) (fun s hs hv c u' hc _ hu => ?_) (fun n1 n2 u' hu => ?_)
  · refine fz_y_states Y (Or.inl hv) (fun c' v' hc' hv' => ⟨?_, E, hu, hv', h4⟩)
    have : fz_cnt E (fun _ => True) c' := by
      obtain ⟨S, a, b, e⟩ := hc'
      refine ⟨S, a, fun R => ?_, e⟩
      rw [b R]
      exact ⟨fun ⟨ne, s, hs, _, p⟩ => ⟨ne, s, hs, trivial, p⟩, fun ⟨ne, s, hs, _, p⟩ => ⟨ne, s, hs, Or.inl hv, p⟩⟩
    rw [fz_cnt_un this hc]
  · refine fz_y_states Y (Or.inr ⟨s, hs, hv⟩) (fun c' v' hc' hv' => ⟨?_, E, hu, hv', h4⟩)
    have : fz_cnt E (fun t => t = s) c' := by
      obtain ⟨S, a, b, e⟩ := hc'
      refine ⟨S, a, fun R => ?_, e⟩
      rw [b R]
      constructor
      · rintro ⟨ne, t, ht, hT, p⟩
        refine ⟨ne, t, ht, ?_, p⟩
        rcases hT with q | q
        · rw [hv] at q
          exact absurd q (fun q => nI_pos (n := s) (by omega) (by rw [q]; decide))
        · rw [hv] at q
          exact ((nI_eq (by omega) (by omega)).mp q).symm
      · rintro ⟨ne, t, ht, hT, p⟩
        exact ⟨ne, t, ht, Or.inr (by rw [hv, hT]), p⟩
    rw [fz_cnt_un this hc]
  · exact fz_y_states_n n1 n2 ⟨rfl, E, hu, fz_YS_mk Y, h4⟩
end
