section
/-! pure rows to paste: stores, nI and lN arithmetic, masks, shifts, narrowing, branches by naturals (pk_le, pk_lt, pk_eq), loops (lp1 .. lp16: the measure of the state; rp1 ..: recursion), negatives. Take what you need -/
theorem pk_us {f : Nat → Int32} {k : Nat} {x : Int32} : upd f k x k = x := if_pos rfl
theorem pk_un {f : Nat → Int32} {k j : Nat} {x : Int32} (h : j ≠ k) : upd f k x j = f j := if_neg h
theorem pk_uLs {f : Nat → Int64} {k : Nat} {x : Int64} : vp_updL f k x k = x := if_pos rfl
theorem pk_uLn {f : Nat → Int64} {k j : Nat} {x : Int64} (h : j ≠ k) : vp_updL f k x j = f j := if_neg h
theorem pk_sub {a b : Nat} (h : b ≤ a) : nI a - nI b = nI (a - b) := by
  obtain ⟨c, rfl⟩ : ∃ c, a = c + b := ⟨a - b, by omega⟩
  rw [← nI_add, Int32.add_sub_cancel, Nat.add_sub_cancel]
theorem pk_m1 (n : Nat) : nI (n + 1) + (-1) = nI n := by
  rw [← nI_1, Int32.add_assoc, show (1 : Int32) + (-1) = 0 from rfl, Int32.add_zero]
theorem pk_mul (a b : Nat) : nI a * nI b = nI (a * b) := (Int32.ofNat_mul a b).symm
theorem pk_div {a d : Nat} (ha : a < 2 ^ 31) (h0 : 0 < d) (hd : d < 2 ^ 31) : nI a / nI d = nI (a / d) := by
  apply Int32.toInt_inj.mp
  rw [lg_idiv_nonneg (by rw [nI_toInt ha]; omega) (by rw [nI_toInt hd]; omega), nI_toInt ha, nI_toInt hd, nI_toInt (Nat.lt_of_le_of_lt (Nat.div_le_self a d) ha)]
  first | rfl | exact (Int.natCast_ediv _ _).symm
theorem pk_rem {a d : Nat} (ha : a < 2 ^ 31) (h0 : 0 < d) (hd : d < 2 ^ 31) : nI a - nI a / nI d * nI d = nI (a % d) := by
  rw [pk_div ha h0 hd, pk_mul, pk_sub (Nat.div_mul_le_self a d)]
  exact congrArg nI (by have := Nat.div_add_mod' a d; omega)
theorem pk_sub_toInt {a b : Nat} (ha : a < 2 ^ 30) (hb : b < 2 ^ 30) : (nI a - nI b).toInt = (a : Int) - b := by
  rw [Int32.toInt_sub, nI_toInt (by omega), nI_toInt (by omega)]
  exact Int.bmod_eq_of_le (by omega) (by omega)
theorem pk_sneg {a b : Nat} (hb : b < 2 ^ 30) (h : a < b) : nI a - nI b < 0 := by
  rw [Int32.lt_iff_toInt_lt, pk_sub_toInt (by omega) hb, show (0 : Int32).toInt = 0 from by decide]
  omega
theorem pk_ix (x : Int32) {n : Nat} (hn : n < 2 ^ 31) : x < 0 ∨ nI n ≤ x ∨ ∃ j : Nat, j < n ∧ x = nI j := by
  by_cases h : x < 0
  · exact Or.inl h
  · obtain ⟨j, hj, rfl⟩ := nI_of h
    by_cases h2 : j < n
    · exact Or.inr (Or.inr ⟨j, h2, rfl⟩)
    · exact Or.inr (Or.inl (nI_le (by omega) hj))
theorem pk_le {x y : Int32} {A B : Prop} (a b : Nat) (f : a ≤ b → A) (g : b < a → B) (hx : x = nI a := by rfl) (hy : y = nI b := by rfl) (ha : a < 2 ^ 31 := by omega) (hb : b < 2 ^ 31 := by omega) : (x ≤ y → A) ∧ (¬ x ≤ y → B) := by
  subst hx hy
  rw [nI_leI ha hb]
  exact ⟨f, fun z => g (by omega)⟩
theorem pk_lt {x y : Int32} {A B : Prop} (a b : Nat) (f : a < b → A) (g : b ≤ a → B) (hx : x = nI a := by rfl) (hy : y = nI b := by rfl) (ha : a < 2 ^ 31 := by omega) (hb : b < 2 ^ 31 := by omega) : (x < y → A) ∧ (¬ x < y → B) := by
  subst hx hy
  rw [nI_ltI ha hb]
  exact ⟨f, fun z => g (by omega)⟩
theorem pk_eq {x y : Int32} {A B : Prop} (a b : Nat) (f : a = b → A) (g : a ≠ b → B) (hx : x = nI a := by rfl) (hy : y = nI b := by rfl) (ha : a < 2 ^ 31 := by omega) (hb : b < 2 ^ 31 := by omega) : (x = y → A) ∧ (¬ x = y → B) := by
  subst hx hy
  rw [nI_eq ha hb]
  exact ⟨f, g⟩
theorem pk_in {x : Int32} (n N : Nat) (h : n < N) (hx : x = nI n := by rfl) (hN : N < 2 ^ 31 := by omega) : vp_in x N := by
  subst hx
  exact vp_in_nI h hN
theorem pk_cl {x : Int32} (n : Nat) (hx : x = nI n := by rfl) (h : n < 2 ^ 31 := by omega) : x.toNatClampNeg = n := by
  subst hx
  exact nI_clamp h
theorem pk_tn {n : Nat} (h : n < 2 ^ 32) : (nI n).toBitVec.toNat = n := Nat.mod_eq_of_lt h
theorem pk_and (x : Int32) {m : Int32} (k : Nat) (hm : m.toBitVec.toNat = 2 ^ k - 1) : x &&& m = nI (x.toBitVec.toNat % 2 ^ k) := by
  apply Int32.toBitVec_inj.mp
  apply BitVec.eq_of_toNat_eq
  rw [Int32.toBitVec_and, BitVec.toNat_and, hm, Nat.and_two_pow_sub_one_eq_mod]
  show _ = (BitVec.ofNat 32 _).toNat
  rw [BitVec.toNat_ofNat]
  exact (Nat.mod_eq_of_lt (Nat.lt_of_le_of_lt (Nat.mod_le _ _) x.toBitVec.isLt)).symm
theorem pk_andN {n : Nat} (h : n < 2 ^ 32) {m : Int32} (k : Nat) (hm : m.toBitVec.toNat = 2 ^ k - 1) : nI n &&& m = nI (n % 2 ^ k) := by
  rw [pk_and _ k hm, pk_tn h]
theorem pk_andE (x : Int32) {m : Int32} (k : Nat) (hm : m.toBitVec.toNat = 2 ^ k - 1) : ∃ j : Nat, j < 2 ^ k ∧ x &&& m = nI j := ⟨_, Nat.mod_lt _ (Nat.two_pow_pos k), pk_and x k hm⟩
theorem pk_andIn (x : Int32) {m : Int32} (k : Nat) (hm : m.toBitVec.toNat = 2 ^ k - 1) (hk : k ≤ 30) : vp_in (x &&& m) (2 ^ k) := by
  obtain ⟨j, hj, e⟩ := pk_andE x k hm
  rw [e]
  exact vp_in_nI hj (Nat.lt_of_le_of_lt (Nat.pow_le_pow_right (by decide) hk) (by decide))
theorem pk_shl (a s : Int32) (k : Nat) (hs : (s.toBitVec.smod 32).toNat = k) : (a <<< s).toBitVec.toNat = a.toBitVec.toNat * 2 ^ k % 2 ^ 32 := by
  show (a.toBitVec <<< (s.toBitVec.smod 32).toNat).toNat = _
  rw [hs, BitVec.toNat_shiftLeft, Nat.shiftLeft_eq]
theorem pk_shlN {n : Nat} (s : Int32) (k : Nat) (hs : (s.toBitVec.smod 32).toNat = k) (h : n * 2 ^ k < 2 ^ 32) : nI n <<< s = nI (n * 2 ^ k) := by
  apply Int32.toBitVec_inj.mp
  apply BitVec.eq_of_toNat_eq
  have hn : n < 2 ^ 32 := Nat.lt_of_le_of_lt (Nat.le_mul_of_pos_right n (Nat.two_pow_pos k)) h
  rw [pk_shl _ _ k hs, pk_tn hn, pk_tn h, Nat.mod_eq_of_lt h]
theorem pk_shr (a s : Int32) (k : Nat) (hs : (s.toBitVec.smod 32).toNat = k) : (a >>> s).toInt = a.toInt >>> k := by
  show (a.toBitVec.sshiftRight (s.toBitVec.smod 32).toNat).toInt = _
  rw [hs, BitVec.toInt_sshiftRight]
  rfl
theorem pk_shrN {n : Nat} (h : n < 2 ^ 31) (s : Int32) (k : Nat) (hs : (s.toBitVec.smod 32).toNat = k) : nI n >>> s = nI (n / 2 ^ k) := by
  apply Int32.toInt_inj.mp
  have h2 : n / 2 ^ k ≤ n := Nat.div_le_self _ _
  rw [pk_shr _ _ k hs, nI_toInt h, nI_toInt (by omega), Int.shiftRight_eq_div_pow]
  rfl
theorem pk_ushr (x s : Int32) (k : Nat) (hs : ((s.toUInt32 &&& Int32.toUInt32 31).toBitVec % 32).toNat = k) : (x.toUInt32 >>> (s.toUInt32 &&& Int32.toUInt32 31)).toInt32.toBitVec.toNat = x.toBitVec.toNat / 2 ^ k := by
  have e : (x.toUInt32 >>> (s.toUInt32 &&& Int32.toUInt32 31)).toInt32.toBitVec = x.toBitVec >>> k := by
    rw [← hs]
    exact UInt32.toBitVec_shiftRight _ _
  rw [e, BitVec.toNat_ushiftRight, Nat.shiftRight_eq_div_pow]
theorem pk_ushrN {n : Nat} (hn : n < 2 ^ 32) (s : Int32) (k : Nat) (hs : ((s.toUInt32 &&& Int32.toUInt32 31).toBitVec % 32).toNat = k) : ((nI n).toUInt32 >>> (s.toUInt32 &&& Int32.toUInt32 31)).toInt32 = nI (n / 2 ^ k) := by
  apply Int32.toBitVec_inj.mp
  apply BitVec.eq_of_toNat_eq
  rw [pk_ushr _ s k hs, pk_tn hn, pk_tn (Nat.lt_of_le_of_lt (Nat.div_le_self _ _) hn)]
theorem pk_nb (z : Int32) : narrow .byte (.int z.toInt8.toInt32) = .int z.toInt8.toInt32 := congrArg Value.int (by simp)
theorem pk_ns (z : Int32) : narrow .short (.int z.toInt16.toInt32) = .int z.toInt16.toInt32 := congrArg Value.int (by simp)
theorem pk_fb (r : Int32) : fits .byte (.int r.toInt8.toInt32) = true := by
  have ⟨a, b⟩ := lg_i2b_range r
  have h1 : (-128 : Int32).toInt = -128 := by decide
  have h2 : (127 : Int32).toInt = 127 := by decide
  simp only [fits, Bool.and_eq_true, decide_eq_true_eq, Int32.le_iff_toInt_le, h1, h2]
  omega
theorem pk_fs (r : Int32) : fits .short (.int r.toInt16.toInt32) = true := by
  have ⟨a, b⟩ := lg_i2s_range r
  have h1 : (-32768 : Int32).toInt = -32768 := by decide
  have h2 : (32767 : Int32).toInt = 32767 := by decide
  simp only [fits, Bool.and_eq_true, decide_eq_true_eq, Int32.le_iff_toInt_le, h1, h2]
  omega
theorem pk_charN {q : Nat} (hq : q < 65536) : narrow .char (.int (nI q)) = .int (nI q) ∧ fits .char (.int (nI q)) = true := by
  constructor
  · have e : (nI q).toUInt32.toUInt16.toUInt32.toInt32 = nI q := by
      apply Int32.toBitVec_inj.mp
      apply BitVec.eq_of_toNat_eq
      show (nI q).toUInt32.toUInt16.toUInt32.toNat = q % 2 ^ 32
      rw [UInt16.toNat_toUInt32, UInt32.toNat_toUInt16, show (nI q).toUInt32.toNat = q % 2 ^ 32 from rfl]
      omega
    exact congrArg Value.int e
  · have a : (0 : Int32) ≤ nI q := nI_pos' (by omega)
    have b : nI q ≤ 65535 := nI_le (b := 65535) (by omega) (by decide)
    show (decide ((0 : Int32) ≤ nI q) && decide (nI q ≤ 65535)) = true
    rw [decide_eq_true a, decide_eq_true b]
    rfl
theorem pk_char (x : Int32) : (x.toUInt32 % 65536).toInt32 = nI (x.toBitVec.toNat % 65536) := by
  apply Int32.toBitVec_inj.mp
  apply BitVec.eq_of_toNat_eq
  rw [pk_tn (by omega)]
  show (x.toUInt32 % 65536).toNat = _
  rw [UInt32.toNat_mod]
  rfl
theorem pk_nc (x : Int32) : narrow .char (.int (x.toUInt32 % 65536).toInt32) = .int (x.toUInt32 % 65536).toInt32 := by
  rw [pk_char]
  exact (pk_charN (Nat.mod_lt _ (by decide))).1
theorem pk_fc (x : Int32) : fits .char (.int (x.toUInt32 % 65536).toInt32) = true := by
  rw [pk_char]
  exact (pk_charN (Nat.mod_lt _ (by decide))).2
theorem pk_vb (z : Int32) : vp_nar .byte z.toInt8.toInt32 = z.toInt8.toInt32 := by rw [vp_nar_byte]; simp
theorem pk_vs (z : Int32) : vp_nar .short z.toInt16.toInt32 = z.toInt16.toInt32 := by rw [vp_nar_short]; simp
theorem pk_vc (z : Int32) : vp_nar .char (z.toUInt32 % 65536).toInt32 = (z.toUInt32 % 65536).toInt32 := Value.int.inj (pk_nc z)
theorem pk_lT {n : Nat} (h : n < 2 ^ 63) : (lN n).toInt = (n : Int) := lg_ofNat_toInt h
theorem pk_lLT {a b : Nat} (ha : a < 2 ^ 63) (hb : b < 2 ^ 63) : lN a < lN b ↔ a < b := by
  rw [Int64.lt_iff_toInt_lt, pk_lT ha, pk_lT hb]; omega
theorem pk_lLE {a b : Nat} (ha : a < 2 ^ 63) (hb : b < 2 ^ 63) : lN a ≤ lN b ↔ a ≤ b := by
  rw [Int64.le_iff_toInt_le, pk_lT ha, pk_lT hb]; omega
theorem pk_lEQ {a b : Nat} (ha : a < 2 ^ 63) (hb : b < 2 ^ 63) : lN a = lN b ↔ a = b := by
  rw [← Int64.toInt_inj, pk_lT ha, pk_lT hb]; omega
theorem pk_lOf {x : Int64} (h : ¬ x < 0) : ∃ k : Nat, k < 2 ^ 63 ∧ x = lN k := by
  rw [Int64.lt_iff_toInt_lt] at h
  have h0 : (0 : Int64).toInt = 0 := by decide
  have hx := Int64.toInt_lt x
  refine ⟨x.toInt.toNat, by omega, Int64.toInt_inj.mp ?_⟩
  rw [pk_lT (by omega)]
  omega
theorem pk_lDiv {a b : Nat} (ha : a < 2 ^ 63) (h0 : 0 < b) (hb : b < 2 ^ 63) : lN a / lN b = lN (a / b) := by
  apply Int64.toInt_inj.mp
  rw [lg_ldiv_nonneg (by rw [pk_lT ha]; omega) (by rw [pk_lT hb]; omega), pk_lT ha, pk_lT hb, pk_lT (Nat.lt_of_le_of_lt (Nat.div_le_self a b) ha)]
  rfl
theorem pk_lRem {a b : Nat} (ha : a < 2 ^ 63) (h0 : 0 < b) (hb : b < 2 ^ 63) : lN a - lN a / lN b * lN b = lN (a % b) := by
  rw [pk_lDiv ha h0 hb, lN_mul, lN_sub (Nat.div_mul_le_self a b)]
  exact congrArg lN (by have := Nat.div_add_mod' a b; omega)
theorem pk_loop {σ : Type} (W : Nat → Nat → σ → Prop) (I : Nat → σ → Prop) (e i0 : Nat) (s : σ) (hi : i0 ≤ e) (h0 : I i0 s) (hx : ∀ n s, I e s → W (n + 1) e s)
    (hs : ∀ n i s, i < e → I i s → (∀ s', I (i + 1) s' → W n (i + 1) s') → W (n + 1) i s) : ∃ n, W n i0 s :=
  ⟨e + 1, loop_i W I e hx hs (e + 1) i0 s hi (by omega) h0⟩
theorem pk_loopD {σ : Type} (W : Nat → Nat → σ → Prop) (I : Nat → σ → Prop) (hx : ∀ n s, I 0 s → W (n + 1) 0 s)
    (hs : ∀ n i s, I (i + 1) s → (∀ s', I i s' → W n i s') → W (n + 1) (i + 1) s) : ∀ (e : Nat) (s : σ), I e s → W (e + 1) e s := by
  intro e
  induction e with
  | zero => exact fun s h => hx 0 s h
  | succ e ih => exact fun s h => hs (e + 1) e s h (fun s' h' => ih s' h')
theorem lp1 {A1 : Type} (W : Nat → A1 → Prop) (I : A1 → Prop) (μ : A1 → Nat) (hs : ∀ (n : Nat) (a1 : A1), I a1 → (∀ (b1 : A1), I b1 → μ b1 < μ a1 → W n b1) → W (n + 1) a1) (a1 : A1) (h : I a1) : ∃ n, W n a1 :=
  loop_m (σ := A1) (fun n s => W n s) (fun s => I s) (fun s => μ s) (fun n s hI hk => hs n s hI (fun b1 h9 hm => hk b1 h9 hm)) a1 h
theorem lp2 {A1 A2 : Type} (W : Nat → A1 → A2 → Prop) (I : A1 → A2 → Prop) (μ : A1 → A2 → Nat) (hs : ∀ (n : Nat) (a1 : A1) (a2 : A2), I a1 a2 → (∀ (b1 : A1) (b2 : A2), I b1 b2 → μ b1 b2 < μ a1 a2 → W n b1 b2) → W (n + 1) a1 a2) (a1 : A1) (a2 : A2) (h : I a1 a2) : ∃ n, W n a1 a2 :=
  loop_m (σ := A1 × A2) (fun n s => W n s.1 s.2) (fun s => I s.1 s.2) (fun s => μ s.1 s.2) (fun n s hI hk => hs n s.1 s.2 hI (fun b1 b2 h9 hm => hk (b1, b2) h9 hm)) (a1, a2) h
theorem lp3 {A1 A2 A3 : Type} (W : Nat → A1 → A2 → A3 → Prop) (I : A1 → A2 → A3 → Prop) (μ : A1 → A2 → A3 → Nat) (hs : ∀ (n : Nat) (a1 : A1) (a2 : A2) (a3 : A3), I a1 a2 a3 → (∀ (b1 : A1) (b2 : A2) (b3 : A3), I b1 b2 b3 → μ b1 b2 b3 < μ a1 a2 a3 → W n b1 b2 b3) → W (n + 1) a1 a2 a3) (a1 : A1) (a2 : A2) (a3 : A3) (h : I a1 a2 a3) : ∃ n, W n a1 a2 a3 :=
  loop_m (σ := A1 × A2 × A3) (fun n s => W n s.1 s.2.1 s.2.2) (fun s => I s.1 s.2.1 s.2.2) (fun s => μ s.1 s.2.1 s.2.2) (fun n s hI hk => hs n s.1 s.2.1 s.2.2 hI (fun b1 b2 b3 h9 hm => hk (b1, b2, b3) h9 hm)) (a1, a2, a3) h
theorem lp4 {A1 A2 A3 A4 : Type} (W : Nat → A1 → A2 → A3 → A4 → Prop) (I : A1 → A2 → A3 → A4 → Prop) (μ : A1 → A2 → A3 → A4 → Nat) (hs : ∀ (n : Nat) (a1 : A1) (a2 : A2) (a3 : A3) (a4 : A4), I a1 a2 a3 a4 → (∀ (b1 : A1) (b2 : A2) (b3 : A3) (b4 : A4), I b1 b2 b3 b4 → μ b1 b2 b3 b4 < μ a1 a2 a3 a4 → W n b1 b2 b3 b4) → W (n + 1) a1 a2 a3 a4) (a1 : A1) (a2 : A2) (a3 : A3) (a4 : A4) (h : I a1 a2 a3 a4) : ∃ n, W n a1 a2 a3 a4 :=
  loop_m (σ := A1 × A2 × A3 × A4) (fun n s => W n s.1 s.2.1 s.2.2.1 s.2.2.2) (fun s => I s.1 s.2.1 s.2.2.1 s.2.2.2) (fun s => μ s.1 s.2.1 s.2.2.1 s.2.2.2) (fun n s hI hk => hs n s.1 s.2.1 s.2.2.1 s.2.2.2 hI (fun b1 b2 b3 b4 h9 hm => hk (b1, b2, b3, b4) h9 hm)) (a1, a2, a3, a4) h
theorem lp5 {A1 A2 A3 A4 A5 : Type} (W : Nat → A1 → A2 → A3 → A4 → A5 → Prop) (I : A1 → A2 → A3 → A4 → A5 → Prop) (μ : A1 → A2 → A3 → A4 → A5 → Nat) (hs : ∀ (n : Nat) (a1 : A1) (a2 : A2) (a3 : A3) (a4 : A4) (a5 : A5), I a1 a2 a3 a4 a5 → (∀ (b1 : A1) (b2 : A2) (b3 : A3) (b4 : A4) (b5 : A5), I b1 b2 b3 b4 b5 → μ b1 b2 b3 b4 b5 < μ a1 a2 a3 a4 a5 → W n b1 b2 b3 b4 b5) → W (n + 1) a1 a2 a3 a4 a5) (a1 : A1) (a2 : A2) (a3 : A3) (a4 : A4) (a5 : A5) (h : I a1 a2 a3 a4 a5) : ∃ n, W n a1 a2 a3 a4 a5 :=
  loop_m (σ := A1 × A2 × A3 × A4 × A5) (fun n s => W n s.1 s.2.1 s.2.2.1 s.2.2.2.1 s.2.2.2.2) (fun s => I s.1 s.2.1 s.2.2.1 s.2.2.2.1 s.2.2.2.2) (fun s => μ s.1 s.2.1 s.2.2.1 s.2.2.2.1 s.2.2.2.2) (fun n s hI hk => hs n s.1 s.2.1 s.2.2.1 s.2.2.2.1 s.2.2.2.2 hI (fun b1 b2 b3 b4 b5 h9 hm => hk (b1, b2, b3, b4, b5) h9 hm)) (a1, a2, a3, a4, a5) h
theorem lp6 {A1 A2 A3 A4 A5 A6 : Type} (W : Nat → A1 → A2 → A3 → A4 → A5 → A6 → Prop) (I : A1 → A2 → A3 → A4 → A5 → A6 → Prop) (μ : A1 → A2 → A3 → A4 → A5 → A6 → Nat) (hs : ∀ (n : Nat) (a1 : A1) (a2 : A2) (a3 : A3) (a4 : A4) (a5 : A5) (a6 : A6), I a1 a2 a3 a4 a5 a6 → (∀ (b1 : A1) (b2 : A2) (b3 : A3) (b4 : A4) (b5 : A5) (b6 : A6), I b1 b2 b3 b4 b5 b6 → μ b1 b2 b3 b4 b5 b6 < μ a1 a2 a3 a4 a5 a6 → W n b1 b2 b3 b4 b5 b6) → W (n + 1) a1 a2 a3 a4 a5 a6) (a1 : A1) (a2 : A2) (a3 : A3) (a4 : A4) (a5 : A5) (a6 : A6) (h : I a1 a2 a3 a4 a5 a6) : ∃ n, W n a1 a2 a3 a4 a5 a6 :=
  loop_m (σ := A1 × A2 × A3 × A4 × A5 × A6) (fun n s => W n s.1 s.2.1 s.2.2.1 s.2.2.2.1 s.2.2.2.2.1 s.2.2.2.2.2) (fun s => I s.1 s.2.1 s.2.2.1 s.2.2.2.1 s.2.2.2.2.1 s.2.2.2.2.2) (fun s => μ s.1 s.2.1 s.2.2.1 s.2.2.2.1 s.2.2.2.2.1 s.2.2.2.2.2) (fun n s hI hk => hs n s.1 s.2.1 s.2.2.1 s.2.2.2.1 s.2.2.2.2.1 s.2.2.2.2.2 hI (fun b1 b2 b3 b4 b5 b6 h9 hm => hk (b1, b2, b3, b4, b5, b6) h9 hm)) (a1, a2, a3, a4, a5, a6) h
theorem lp7 {A1 A2 A3 A4 A5 A6 A7 : Type} (W : Nat → A1 → A2 → A3 → A4 → A5 → A6 → A7 → Prop) (I : A1 → A2 → A3 → A4 → A5 → A6 → A7 → Prop) (μ : A1 → A2 → A3 → A4 → A5 → A6 → A7 → Nat) (hs : ∀ (n : Nat) (a1 : A1) (a2 : A2) (a3 : A3) (a4 : A4) (a5 : A5) (a6 : A6) (a7 : A7), I a1 a2 a3 a4 a5 a6 a7 → (∀ (b1 : A1) (b2 : A2) (b3 : A3) (b4 : A4) (b5 : A5) (b6 : A6) (b7 : A7), I b1 b2 b3 b4 b5 b6 b7 → μ b1 b2 b3 b4 b5 b6 b7 < μ a1 a2 a3 a4 a5 a6 a7 → W n b1 b2 b3 b4 b5 b6 b7) → W (n + 1) a1 a2 a3 a4 a5 a6 a7) (a1 : A1) (a2 : A2) (a3 : A3) (a4 : A4) (a5 : A5) (a6 : A6) (a7 : A7) (h : I a1 a2 a3 a4 a5 a6 a7) : ∃ n, W n a1 a2 a3 a4 a5 a6 a7 :=
  loop_m (σ := A1 × A2 × A3 × A4 × A5 × A6 × A7) (fun n s => W n s.1 s.2.1 s.2.2.1 s.2.2.2.1 s.2.2.2.2.1 s.2.2.2.2.2.1 s.2.2.2.2.2.2) (fun s => I s.1 s.2.1 s.2.2.1 s.2.2.2.1 s.2.2.2.2.1 s.2.2.2.2.2.1 s.2.2.2.2.2.2) (fun s => μ s.1 s.2.1 s.2.2.1 s.2.2.2.1 s.2.2.2.2.1 s.2.2.2.2.2.1 s.2.2.2.2.2.2) (fun n s hI hk => hs n s.1 s.2.1 s.2.2.1 s.2.2.2.1 s.2.2.2.2.1 s.2.2.2.2.2.1 s.2.2.2.2.2.2 hI (fun b1 b2 b3 b4 b5 b6 b7 h9 hm => hk (b1, b2, b3, b4, b5, b6, b7) h9 hm)) (a1, a2, a3, a4, a5, a6, a7) h
theorem lp8 {A1 A2 A3 A4 A5 A6 A7 A8 : Type} (W : Nat → A1 → A2 → A3 → A4 → A5 → A6 → A7 → A8 → Prop) (I : A1 → A2 → A3 → A4 → A5 → A6 → A7 → A8 → Prop) (μ : A1 → A2 → A3 → A4 → A5 → A6 → A7 → A8 → Nat) (hs : ∀ (n : Nat) (a1 : A1) (a2 : A2) (a3 : A3) (a4 : A4) (a5 : A5) (a6 : A6) (a7 : A7) (a8 : A8), I a1 a2 a3 a4 a5 a6 a7 a8 → (∀ (b1 : A1) (b2 : A2) (b3 : A3) (b4 : A4) (b5 : A5) (b6 : A6) (b7 : A7) (b8 : A8), I b1 b2 b3 b4 b5 b6 b7 b8 → μ b1 b2 b3 b4 b5 b6 b7 b8 < μ a1 a2 a3 a4 a5 a6 a7 a8 → W n b1 b2 b3 b4 b5 b6 b7 b8) → W (n + 1) a1 a2 a3 a4 a5 a6 a7 a8) (a1 : A1) (a2 : A2) (a3 : A3) (a4 : A4) (a5 : A5) (a6 : A6) (a7 : A7) (a8 : A8) (h : I a1 a2 a3 a4 a5 a6 a7 a8) : ∃ n, W n a1 a2 a3 a4 a5 a6 a7 a8 :=
  loop_m (σ := A1 × A2 × A3 × A4 × A5 × A6 × A7 × A8) (fun n s => W n s.1 s.2.1 s.2.2.1 s.2.2.2.1 s.2.2.2.2.1 s.2.2.2.2.2.1 s.2.2.2.2.2.2.1 s.2.2.2.2.2.2.2) (fun s => I s.1 s.2.1 s.2.2.1 s.2.2.2.1 s.2.2.2.2.1 s.2.2.2.2.2.1 s.2.2.2.2.2.2.1 s.2.2.2.2.2.2.2) (fun s => μ s.1 s.2.1 s.2.2.1 s.2.2.2.1 s.2.2.2.2.1 s.2.2.2.2.2.1 s.2.2.2.2.2.2.1 s.2.2.2.2.2.2.2) (fun n s hI hk => hs n s.1 s.2.1 s.2.2.1 s.2.2.2.1 s.2.2.2.2.1 s.2.2.2.2.2.1 s.2.2.2.2.2.2.1 s.2.2.2.2.2.2.2 hI (fun b1 b2 b3 b4 b5 b6 b7 b8 h9 hm => hk (b1, b2, b3, b4, b5, b6, b7, b8) h9 hm)) (a1, a2, a3, a4, a5, a6, a7, a8) h
theorem lp9 {A1 A2 A3 A4 A5 A6 A7 A8 A9 : Type} (W : Nat → A1 → A2 → A3 → A4 → A5 → A6 → A7 → A8 → A9 → Prop) (I : A1 → A2 → A3 → A4 → A5 → A6 → A7 → A8 → A9 → Prop) (μ : A1 → A2 → A3 → A4 → A5 → A6 → A7 → A8 → A9 → Nat) (hs : ∀ (n : Nat) (a1 : A1) (a2 : A2) (a3 : A3) (a4 : A4) (a5 : A5) (a6 : A6) (a7 : A7) (a8 : A8) (a9 : A9), I a1 a2 a3 a4 a5 a6 a7 a8 a9 → (∀ (b1 : A1) (b2 : A2) (b3 : A3) (b4 : A4) (b5 : A5) (b6 : A6) (b7 : A7) (b8 : A8) (b9 : A9), I b1 b2 b3 b4 b5 b6 b7 b8 b9 → μ b1 b2 b3 b4 b5 b6 b7 b8 b9 < μ a1 a2 a3 a4 a5 a6 a7 a8 a9 → W n b1 b2 b3 b4 b5 b6 b7 b8 b9) → W (n + 1) a1 a2 a3 a4 a5 a6 a7 a8 a9) (a1 : A1) (a2 : A2) (a3 : A3) (a4 : A4) (a5 : A5) (a6 : A6) (a7 : A7) (a8 : A8) (a9 : A9) (h : I a1 a2 a3 a4 a5 a6 a7 a8 a9) : ∃ n, W n a1 a2 a3 a4 a5 a6 a7 a8 a9 :=
  loop_m (σ := A1 × A2 × A3 × A4 × A5 × A6 × A7 × A8 × A9) (fun n s => W n s.1 s.2.1 s.2.2.1 s.2.2.2.1 s.2.2.2.2.1 s.2.2.2.2.2.1 s.2.2.2.2.2.2.1 s.2.2.2.2.2.2.2.1 s.2.2.2.2.2.2.2.2) (fun s => I s.1 s.2.1 s.2.2.1 s.2.2.2.1 s.2.2.2.2.1 s.2.2.2.2.2.1 s.2.2.2.2.2.2.1 s.2.2.2.2.2.2.2.1 s.2.2.2.2.2.2.2.2) (fun s => μ s.1 s.2.1 s.2.2.1 s.2.2.2.1 s.2.2.2.2.1 s.2.2.2.2.2.1 s.2.2.2.2.2.2.1 s.2.2.2.2.2.2.2.1 s.2.2.2.2.2.2.2.2) (fun n s hI hk => hs n s.1 s.2.1 s.2.2.1 s.2.2.2.1 s.2.2.2.2.1 s.2.2.2.2.2.1 s.2.2.2.2.2.2.1 s.2.2.2.2.2.2.2.1 s.2.2.2.2.2.2.2.2 hI (fun b1 b2 b3 b4 b5 b6 b7 b8 b9 h9 hm => hk (b1, b2, b3, b4, b5, b6, b7, b8, b9) h9 hm)) (a1, a2, a3, a4, a5, a6, a7, a8, a9) h
theorem lp10 {A1 A2 A3 A4 A5 A6 A7 A8 A9 A10 : Type} (W : Nat → A1 → A2 → A3 → A4 → A5 → A6 → A7 → A8 → A9 → A10 → Prop) (I : A1 → A2 → A3 → A4 → A5 → A6 → A7 → A8 → A9 → A10 → Prop) (μ : A1 → A2 → A3 → A4 → A5 → A6 → A7 → A8 → A9 → A10 → Nat) (hs : ∀ (n : Nat) (a1 : A1) (a2 : A2) (a3 : A3) (a4 : A4) (a5 : A5) (a6 : A6) (a7 : A7) (a8 : A8) (a9 : A9) (a10 : A10), I a1 a2 a3 a4 a5 a6 a7 a8 a9 a10 → (∀ (b1 : A1) (b2 : A2) (b3 : A3) (b4 : A4) (b5 : A5) (b6 : A6) (b7 : A7) (b8 : A8) (b9 : A9) (b10 : A10), I b1 b2 b3 b4 b5 b6 b7 b8 b9 b10 → μ b1 b2 b3 b4 b5 b6 b7 b8 b9 b10 < μ a1 a2 a3 a4 a5 a6 a7 a8 a9 a10 → W n b1 b2 b3 b4 b5 b6 b7 b8 b9 b10) → W (n + 1) a1 a2 a3 a4 a5 a6 a7 a8 a9 a10) (a1 : A1) (a2 : A2) (a3 : A3) (a4 : A4) (a5 : A5) (a6 : A6) (a7 : A7) (a8 : A8) (a9 : A9) (a10 : A10) (h : I a1 a2 a3 a4 a5 a6 a7 a8 a9 a10) : ∃ n, W n a1 a2 a3 a4 a5 a6 a7 a8 a9 a10 :=
  loop_m (σ := A1 × A2 × A3 × A4 × A5 × A6 × A7 × A8 × A9 × A10) (fun n s => W n s.1 s.2.1 s.2.2.1 s.2.2.2.1 s.2.2.2.2.1 s.2.2.2.2.2.1 s.2.2.2.2.2.2.1 s.2.2.2.2.2.2.2.1 s.2.2.2.2.2.2.2.2.1 s.2.2.2.2.2.2.2.2.2) (fun s => I s.1 s.2.1 s.2.2.1 s.2.2.2.1 s.2.2.2.2.1 s.2.2.2.2.2.1 s.2.2.2.2.2.2.1 s.2.2.2.2.2.2.2.1 s.2.2.2.2.2.2.2.2.1 s.2.2.2.2.2.2.2.2.2) (fun s => μ s.1 s.2.1 s.2.2.1 s.2.2.2.1 s.2.2.2.2.1 s.2.2.2.2.2.1 s.2.2.2.2.2.2.1 s.2.2.2.2.2.2.2.1 s.2.2.2.2.2.2.2.2.1 s.2.2.2.2.2.2.2.2.2) (fun n s hI hk => hs n s.1 s.2.1 s.2.2.1 s.2.2.2.1 s.2.2.2.2.1 s.2.2.2.2.2.1 s.2.2.2.2.2.2.1 s.2.2.2.2.2.2.2.1 s.2.2.2.2.2.2.2.2.1 s.2.2.2.2.2.2.2.2.2 hI (fun b1 b2 b3 b4 b5 b6 b7 b8 b9 b10 h9 hm => hk (b1, b2, b3, b4, b5, b6, b7, b8, b9, b10) h9 hm)) (a1, a2, a3, a4, a5, a6, a7, a8, a9, a10) h
theorem lp11 {A1 A2 A3 A4 A5 A6 A7 A8 A9 A10 A11 : Type} (W : Nat → A1 → A2 → A3 → A4 → A5 → A6 → A7 → A8 → A9 → A10 → A11 → Prop) (I : A1 → A2 → A3 → A4 → A5 → A6 → A7 → A8 → A9 → A10 → A11 → Prop) (μ : A1 → A2 → A3 → A4 → A5 → A6 → A7 → A8 → A9 → A10 → A11 → Nat) (hs : ∀ (n : Nat) (a1 : A1) (a2 : A2) (a3 : A3) (a4 : A4) (a5 : A5) (a6 : A6) (a7 : A7) (a8 : A8) (a9 : A9) (a10 : A10) (a11 : A11), I a1 a2 a3 a4 a5 a6 a7 a8 a9 a10 a11 → (∀ (b1 : A1) (b2 : A2) (b3 : A3) (b4 : A4) (b5 : A5) (b6 : A6) (b7 : A7) (b8 : A8) (b9 : A9) (b10 : A10) (b11 : A11), I b1 b2 b3 b4 b5 b6 b7 b8 b9 b10 b11 → μ b1 b2 b3 b4 b5 b6 b7 b8 b9 b10 b11 < μ a1 a2 a3 a4 a5 a6 a7 a8 a9 a10 a11 → W n b1 b2 b3 b4 b5 b6 b7 b8 b9 b10 b11) → W (n + 1) a1 a2 a3 a4 a5 a6 a7 a8 a9 a10 a11) (a1 : A1) (a2 : A2) (a3 : A3) (a4 : A4) (a5 : A5) (a6 : A6) (a7 : A7) (a8 : A8) (a9 : A9) (a10 : A10) (a11 : A11) (h : I a1 a2 a3 a4 a5 a6 a7 a8 a9 a10 a11) : ∃ n, W n a1 a2 a3 a4 a5 a6 a7 a8 a9 a10 a11 :=
  loop_m (σ := A1 × A2 × A3 × A4 × A5 × A6 × A7 × A8 × A9 × A10 × A11) (fun n s => W n s.1 s.2.1 s.2.2.1 s.2.2.2.1 s.2.2.2.2.1 s.2.2.2.2.2.1 s.2.2.2.2.2.2.1 s.2.2.2.2.2.2.2.1 s.2.2.2.2.2.2.2.2.1 s.2.2.2.2.2.2.2.2.2.1 s.2.2.2.2.2.2.2.2.2.2) (fun s => I s.1 s.2.1 s.2.2.1 s.2.2.2.1 s.2.2.2.2.1 s.2.2.2.2.2.1 s.2.2.2.2.2.2.1 s.2.2.2.2.2.2.2.1 s.2.2.2.2.2.2.2.2.1 s.2.2.2.2.2.2.2.2.2.1 s.2.2.2.2.2.2.2.2.2.2) (fun s => μ s.1 s.2.1 s.2.2.1 s.2.2.2.1 s.2.2.2.2.1 s.2.2.2.2.2.1 s.2.2.2.2.2.2.1 s.2.2.2.2.2.2.2.1 s.2.2.2.2.2.2.2.2.1 s.2.2.2.2.2.2.2.2.2.1 s.2.2.2.2.2.2.2.2.2.2) (fun n s hI hk => hs n s.1 s.2.1 s.2.2.1 s.2.2.2.1 s.2.2.2.2.1 s.2.2.2.2.2.1 s.2.2.2.2.2.2.1 s.2.2.2.2.2.2.2.1 s.2.2.2.2.2.2.2.2.1 s.2.2.2.2.2.2.2.2.2.1 s.2.2.2.2.2.2.2.2.2.2 hI (fun b1 b2 b3 b4 b5 b6 b7 b8 b9 b10 b11 h9 hm => hk (b1, b2, b3, b4, b5, b6, b7, b8, b9, b10, b11) h9 hm)) (a1, a2, a3, a4, a5, a6, a7, a8, a9, a10, a11) h
theorem lp12 {A1 A2 A3 A4 A5 A6 A7 A8 A9 A10 A11 A12 : Type} (W : Nat → A1 → A2 → A3 → A4 → A5 → A6 → A7 → A8 → A9 → A10 → A11 → A12 → Prop) (I : A1 → A2 → A3 → A4 → A5 → A6 → A7 → A8 → A9 → A10 → A11 → A12 → Prop) (μ : A1 → A2 → A3 → A4 → A5 → A6 → A7 → A8 → A9 → A10 → A11 → A12 → Nat) (hs : ∀ (n : Nat) (a1 : A1) (a2 : A2) (a3 : A3) (a4 : A4) (a5 : A5) (a6 : A6) (a7 : A7) (a8 : A8) (a9 : A9) (a10 : A10) (a11 : A11) (a12 : A12), I a1 a2 a3 a4 a5 a6 a7 a8 a9 a10 a11 a12 → (∀ (b1 : A1) (b2 : A2) (b3 : A3) (b4 : A4) (b5 : A5) (b6 : A6) (b7 : A7) (b8 : A8) (b9 : A9) (b10 : A10) (b11 : A11) (b12 : A12), I b1 b2 b3 b4 b5 b6 b7 b8 b9 b10 b11 b12 → μ b1 b2 b3 b4 b5 b6 b7 b8 b9 b10 b11 b12 < μ a1 a2 a3 a4 a5 a6 a7 a8 a9 a10 a11 a12 → W n b1 b2 b3 b4 b5 b6 b7 b8 b9 b10 b11 b12) → W (n + 1) a1 a2 a3 a4 a5 a6 a7 a8 a9 a10 a11 a12) (a1 : A1) (a2 : A2) (a3 : A3) (a4 : A4) (a5 : A5) (a6 : A6) (a7 : A7) (a8 : A8) (a9 : A9) (a10 : A10) (a11 : A11) (a12 : A12) (h : I a1 a2 a3 a4 a5 a6 a7 a8 a9 a10 a11 a12) : ∃ n, W n a1 a2 a3 a4 a5 a6 a7 a8 a9 a10 a11 a12 :=
  loop_m (σ := A1 × A2 × A3 × A4 × A5 × A6 × A7 × A8 × A9 × A10 × A11 × A12) (fun n s => W n s.1 s.2.1 s.2.2.1 s.2.2.2.1 s.2.2.2.2.1 s.2.2.2.2.2.1 s.2.2.2.2.2.2.1 s.2.2.2.2.2.2.2.1 s.2.2.2.2.2.2.2.2.1 s.2.2.2.2.2.2.2.2.2.1 s.2.2.2.2.2.2.2.2.2.2.1 s.2.2.2.2.2.2.2.2.2.2.2) (fun s => I s.1 s.2.1 s.2.2.1 s.2.2.2.1 s.2.2.2.2.1 s.2.2.2.2.2.1 s.2.2.2.2.2.2.1 s.2.2.2.2.2.2.2.1 s.2.2.2.2.2.2.2.2.1 s.2.2.2.2.2.2.2.2.2.1 s.2.2.2.2.2.2.2.2.2.2.1 s.2.2.2.2.2.2.2.2.2.2.2) (fun s => μ s.1 s.2.1 s.2.2.1 s.2.2.2.1 s.2.2.2.2.1 s.2.2.2.2.2.1 s.2.2.2.2.2.2.1 s.2.2.2.2.2.2.2.1 s.2.2.2.2.2.2.2.2.1 s.2.2.2.2.2.2.2.2.2.1 s.2.2.2.2.2.2.2.2.2.2.1 s.2.2.2.2.2.2.2.2.2.2.2) (fun n s hI hk => hs n s.1 s.2.1 s.2.2.1 s.2.2.2.1 s.2.2.2.2.1 s.2.2.2.2.2.1 s.2.2.2.2.2.2.1 s.2.2.2.2.2.2.2.1 s.2.2.2.2.2.2.2.2.1 s.2.2.2.2.2.2.2.2.2.1 s.2.2.2.2.2.2.2.2.2.2.1 s.2.2.2.2.2.2.2.2.2.2.2 hI (fun b1 b2 b3 b4 b5 b6 b7 b8 b9 b10 b11 b12 h9 hm => hk (b1, b2, b3, b4, b5, b6, b7, b8, b9, b10, b11, b12) h9 hm)) (a1, a2, a3, a4, a5, a6, a7, a8, a9, a10, a11, a12) h
theorem lp13 {A1 A2 A3 A4 A5 A6 A7 A8 A9 A10 A11 A12 A13 : Type} (W : Nat → A1 → A2 → A3 → A4 → A5 → A6 → A7 → A8 → A9 → A10 → A11 → A12 → A13 → Prop) (I : A1 → A2 → A3 → A4 → A5 → A6 → A7 → A8 → A9 → A10 → A11 → A12 → A13 → Prop) (μ : A1 → A2 → A3 → A4 → A5 → A6 → A7 → A8 → A9 → A10 → A11 → A12 → A13 → Nat) (hs : ∀ (n : Nat) (a1 : A1) (a2 : A2) (a3 : A3) (a4 : A4) (a5 : A5) (a6 : A6) (a7 : A7) (a8 : A8) (a9 : A9) (a10 : A10) (a11 : A11) (a12 : A12) (a13 : A13), I a1 a2 a3 a4 a5 a6 a7 a8 a9 a10 a11 a12 a13 → (∀ (b1 : A1) (b2 : A2) (b3 : A3) (b4 : A4) (b5 : A5) (b6 : A6) (b7 : A7) (b8 : A8) (b9 : A9) (b10 : A10) (b11 : A11) (b12 : A12) (b13 : A13), I b1 b2 b3 b4 b5 b6 b7 b8 b9 b10 b11 b12 b13 → μ b1 b2 b3 b4 b5 b6 b7 b8 b9 b10 b11 b12 b13 < μ a1 a2 a3 a4 a5 a6 a7 a8 a9 a10 a11 a12 a13 → W n b1 b2 b3 b4 b5 b6 b7 b8 b9 b10 b11 b12 b13) → W (n + 1) a1 a2 a3 a4 a5 a6 a7 a8 a9 a10 a11 a12 a13) (a1 : A1) (a2 : A2) (a3 : A3) (a4 : A4) (a5 : A5) (a6 : A6) (a7 : A7) (a8 : A8) (a9 : A9) (a10 : A10) (a11 : A11) (a12 : A12) (a13 : A13) (h : I a1 a2 a3 a4 a5 a6 a7 a8 a9 a10 a11 a12 a13) : ∃ n, W n a1 a2 a3 a4 a5 a6 a7 a8 a9 a10 a11 a12 a13 :=
  loop_m (σ := A1 × A2 × A3 × A4 × A5 × A6 × A7 × A8 × A9 × A10 × A11 × A12 × A13) (fun n s => W n s.1 s.2.1 s.2.2.1 s.2.2.2.1 s.2.2.2.2.1 s.2.2.2.2.2.1 s.2.2.2.2.2.2.1 s.2.2.2.2.2.2.2.1 s.2.2.2.2.2.2.2.2.1 s.2.2.2.2.2.2.2.2.2.1 s.2.2.2.2.2.2.2.2.2.2.1 s.2.2.2.2.2.2.2.2.2.2.2.1 s.2.2.2.2.2.2.2.2.2.2.2.2) (fun s => I s.1 s.2.1 s.2.2.1 s.2.2.2.1 s.2.2.2.2.1 s.2.2.2.2.2.1 s.2.2.2.2.2.2.1 s.2.2.2.2.2.2.2.1 s.2.2.2.2.2.2.2.2.1 s.2.2.2.2.2.2.2.2.2.1 s.2.2.2.2.2.2.2.2.2.2.1 s.2.2.2.2.2.2.2.2.2.2.2.1 s.2.2.2.2.2.2.2.2.2.2.2.2) (fun s => μ s.1 s.2.1 s.2.2.1 s.2.2.2.1 s.2.2.2.2.1 s.2.2.2.2.2.1 s.2.2.2.2.2.2.1 s.2.2.2.2.2.2.2.1 s.2.2.2.2.2.2.2.2.1 s.2.2.2.2.2.2.2.2.2.1 s.2.2.2.2.2.2.2.2.2.2.1 s.2.2.2.2.2.2.2.2.2.2.2.1 s.2.2.2.2.2.2.2.2.2.2.2.2) (fun n s hI hk => hs n s.1 s.2.1 s.2.2.1 s.2.2.2.1 s.2.2.2.2.1 s.2.2.2.2.2.1 s.2.2.2.2.2.2.1 s.2.2.2.2.2.2.2.1 s.2.2.2.2.2.2.2.2.1 s.2.2.2.2.2.2.2.2.2.1 s.2.2.2.2.2.2.2.2.2.2.1 s.2.2.2.2.2.2.2.2.2.2.2.1 s.2.2.2.2.2.2.2.2.2.2.2.2 hI (fun b1 b2 b3 b4 b5 b6 b7 b8 b9 b10 b11 b12 b13 h9 hm => hk (b1, b2, b3, b4, b5, b6, b7, b8, b9, b10, b11, b12, b13) h9 hm)) (a1, a2, a3, a4, a5, a6, a7, a8, a9, a10, a11, a12, a13) h
theorem lp14 {A1 A2 A3 A4 A5 A6 A7 A8 A9 A10 A11 A12 A13 A14 : Type} (W : Nat → A1 → A2 → A3 → A4 → A5 → A6 → A7 → A8 → A9 → A10 → A11 → A12 → A13 → A14 → Prop) (I : A1 → A2 → A3 → A4 → A5 → A6 → A7 → A8 → A9 → A10 → A11 → A12 → A13 → A14 → Prop) (μ : A1 → A2 → A3 → A4 → A5 → A6 → A7 → A8 → A9 → A10 → A11 → A12 → A13 → A14 → Nat) (hs : ∀ (n : Nat) (a1 : A1) (a2 : A2) (a3 : A3) (a4 : A4) (a5 : A5) (a6 : A6) (a7 : A7) (a8 : A8) (a9 : A9) (a10 : A10) (a11 : A11) (a12 : A12) (a13 : A13) (a14 : A14), I a1 a2 a3 a4 a5 a6 a7 a8 a9 a10 a11 a12 a13 a14 → (∀ (b1 : A1) (b2 : A2) (b3 : A3) (b4 : A4) (b5 : A5) (b6 : A6) (b7 : A7) (b8 : A8) (b9 : A9) (b10 : A10) (b11 : A11) (b12 : A12) (b13 : A13) (b14 : A14), I b1 b2 b3 b4 b5 b6 b7 b8 b9 b10 b11 b12 b13 b14 → μ b1 b2 b3 b4 b5 b6 b7 b8 b9 b10 b11 b12 b13 b14 < μ a1 a2 a3 a4 a5 a6 a7 a8 a9 a10 a11 a12 a13 a14 → W n b1 b2 b3 b4 b5 b6 b7 b8 b9 b10 b11 b12 b13 b14) → W (n + 1) a1 a2 a3 a4 a5 a6 a7 a8 a9 a10 a11 a12 a13 a14) (a1 : A1) (a2 : A2) (a3 : A3) (a4 : A4) (a5 : A5) (a6 : A6) (a7 : A7) (a8 : A8) (a9 : A9) (a10 : A10) (a11 : A11) (a12 : A12) (a13 : A13) (a14 : A14) (h : I a1 a2 a3 a4 a5 a6 a7 a8 a9 a10 a11 a12 a13 a14) : ∃ n, W n a1 a2 a3 a4 a5 a6 a7 a8 a9 a10 a11 a12 a13 a14 :=
  loop_m (σ := A1 × A2 × A3 × A4 × A5 × A6 × A7 × A8 × A9 × A10 × A11 × A12 × A13 × A14) (fun n s => W n s.1 s.2.1 s.2.2.1 s.2.2.2.1 s.2.2.2.2.1 s.2.2.2.2.2.1 s.2.2.2.2.2.2.1 s.2.2.2.2.2.2.2.1 s.2.2.2.2.2.2.2.2.1 s.2.2.2.2.2.2.2.2.2.1 s.2.2.2.2.2.2.2.2.2.2.1 s.2.2.2.2.2.2.2.2.2.2.2.1 s.2.2.2.2.2.2.2.2.2.2.2.2.1 s.2.2.2.2.2.2.2.2.2.2.2.2.2) (fun s => I s.1 s.2.1 s.2.2.1 s.2.2.2.1 s.2.2.2.2.1 s.2.2.2.2.2.1 s.2.2.2.2.2.2.1 s.2.2.2.2.2.2.2.1 s.2.2.2.2.2.2.2.2.1 s.2.2.2.2.2.2.2.2.2.1 s.2.2.2.2.2.2.2.2.2.2.1 s.2.2.2.2.2.2.2.2.2.2.2.1 s.2.2.2.2.2.2.2.2.2.2.2.2.1 s.2.2.2.2.2.2.2.2.2.2.2.2.2) (fun s => μ s.1 s.2.1 s.2.2.1 s.2.2.2.1 s.2.2.2.2.1 s.2.2.2.2.2.1 s.2.2.2.2.2.2.1 s.2.2.2.2.2.2.2.1 s.2.2.2.2.2.2.2.2.1 s.2.2.2.2.2.2.2.2.2.1 s.2.2.2.2.2.2.2.2.2.2.1 s.2.2.2.2.2.2.2.2.2.2.2.1 s.2.2.2.2.2.2.2.2.2.2.2.2.1 s.2.2.2.2.2.2.2.2.2.2.2.2.2) (fun n s hI hk => hs n s.1 s.2.1 s.2.2.1 s.2.2.2.1 s.2.2.2.2.1 s.2.2.2.2.2.1 s.2.2.2.2.2.2.1 s.2.2.2.2.2.2.2.1 s.2.2.2.2.2.2.2.2.1 s.2.2.2.2.2.2.2.2.2.1 s.2.2.2.2.2.2.2.2.2.2.1 s.2.2.2.2.2.2.2.2.2.2.2.1 s.2.2.2.2.2.2.2.2.2.2.2.2.1 s.2.2.2.2.2.2.2.2.2.2.2.2.2 hI (fun b1 b2 b3 b4 b5 b6 b7 b8 b9 b10 b11 b12 b13 b14 h9 hm => hk (b1, b2, b3, b4, b5, b6, b7, b8, b9, b10, b11, b12, b13, b14) h9 hm)) (a1, a2, a3, a4, a5, a6, a7, a8, a9, a10, a11, a12, a13, a14) h
theorem lp15 {A1 A2 A3 A4 A5 A6 A7 A8 A9 A10 A11 A12 A13 A14 A15 : Type} (W : Nat → A1 → A2 → A3 → A4 → A5 → A6 → A7 → A8 → A9 → A10 → A11 → A12 → A13 → A14 → A15 → Prop) (I : A1 → A2 → A3 → A4 → A5 → A6 → A7 → A8 → A9 → A10 → A11 → A12 → A13 → A14 → A15 → Prop) (μ : A1 → A2 → A3 → A4 → A5 → A6 → A7 → A8 → A9 → A10 → A11 → A12 → A13 → A14 → A15 → Nat) (hs : ∀ (n : Nat) (a1 : A1) (a2 : A2) (a3 : A3) (a4 : A4) (a5 : A5) (a6 : A6) (a7 : A7) (a8 : A8) (a9 : A9) (a10 : A10) (a11 : A11) (a12 : A12) (a13 : A13) (a14 : A14) (a15 : A15), I a1 a2 a3 a4 a5 a6 a7 a8 a9 a10 a11 a12 a13 a14 a15 → (∀ (b1 : A1) (b2 : A2) (b3 : A3) (b4 : A4) (b5 : A5) (b6 : A6) (b7 : A7) (b8 : A8) (b9 : A9) (b10 : A10) (b11 : A11) (b12 : A12) (b13 : A13) (b14 : A14) (b15 : A15), I b1 b2 b3 b4 b5 b6 b7 b8 b9 b10 b11 b12 b13 b14 b15 → μ b1 b2 b3 b4 b5 b6 b7 b8 b9 b10 b11 b12 b13 b14 b15 < μ a1 a2 a3 a4 a5 a6 a7 a8 a9 a10 a11 a12 a13 a14 a15 → W n b1 b2 b3 b4 b5 b6 b7 b8 b9 b10 b11 b12 b13 b14 b15) → W (n + 1) a1 a2 a3 a4 a5 a6 a7 a8 a9 a10 a11 a12 a13 a14 a15) (a1 : A1) (a2 : A2) (a3 : A3) (a4 : A4) (a5 : A5) (a6 : A6) (a7 : A7) (a8 : A8) (a9 : A9) (a10 : A10) (a11 : A11) (a12 : A12) (a13 : A13) (a14 : A14) (a15 : A15) (h : I a1 a2 a3 a4 a5 a6 a7 a8 a9 a10 a11 a12 a13 a14 a15) : ∃ n, W n a1 a2 a3 a4 a5 a6 a7 a8 a9 a10 a11 a12 a13 a14 a15 :=
  loop_m (σ := A1 × A2 × A3 × A4 × A5 × A6 × A7 × A8 × A9 × A10 × A11 × A12 × A13 × A14 × A15) (fun n s => W n s.1 s.2.1 s.2.2.1 s.2.2.2.1 s.2.2.2.2.1 s.2.2.2.2.2.1 s.2.2.2.2.2.2.1 s.2.2.2.2.2.2.2.1 s.2.2.2.2.2.2.2.2.1 s.2.2.2.2.2.2.2.2.2.1 s.2.2.2.2.2.2.2.2.2.2.1 s.2.2.2.2.2.2.2.2.2.2.2.1 s.2.2.2.2.2.2.2.2.2.2.2.2.1 s.2.2.2.2.2.2.2.2.2.2.2.2.2.1 s.2.2.2.2.2.2.2.2.2.2.2.2.2.2) (fun s => I s.1 s.2.1 s.2.2.1 s.2.2.2.1 s.2.2.2.2.1 s.2.2.2.2.2.1 s.2.2.2.2.2.2.1 s.2.2.2.2.2.2.2.1 s.2.2.2.2.2.2.2.2.1 s.2.2.2.2.2.2.2.2.2.1 s.2.2.2.2.2.2.2.2.2.2.1 s.2.2.2.2.2.2.2.2.2.2.2.1 s.2.2.2.2.2.2.2.2.2.2.2.2.1 s.2.2.2.2.2.2.2.2.2.2.2.2.2.1 s.2.2.2.2.2.2.2.2.2.2.2.2.2.2) (fun s => μ s.1 s.2.1 s.2.2.1 s.2.2.2.1 s.2.2.2.2.1 s.2.2.2.2.2.1 s.2.2.2.2.2.2.1 s.2.2.2.2.2.2.2.1 s.2.2.2.2.2.2.2.2.1 s.2.2.2.2.2.2.2.2.2.1 s.2.2.2.2.2.2.2.2.2.2.1 s.2.2.2.2.2.2.2.2.2.2.2.1 s.2.2.2.2.2.2.2.2.2.2.2.2.1 s.2.2.2.2.2.2.2.2.2.2.2.2.2.1 s.2.2.2.2.2.2.2.2.2.2.2.2.2.2) (fun n s hI hk => hs n s.1 s.2.1 s.2.2.1 s.2.2.2.1 s.2.2.2.2.1 s.2.2.2.2.2.1 s.2.2.2.2.2.2.1 s.2.2.2.2.2.2.2.1 s.2.2.2.2.2.2.2.2.1 s.2.2.2.2.2.2.2.2.2.1 s.2.2.2.2.2.2.2.2.2.2.1 s.2.2.2.2.2.2.2.2.2.2.2.1 s.2.2.2.2.2.2.2.2.2.2.2.2.1 s.2.2.2.2.2.2.2.2.2.2.2.2.2.1 s.2.2.2.2.2.2.2.2.2.2.2.2.2.2 hI (fun b1 b2 b3 b4 b5 b6 b7 b8 b9 b10 b11 b12 b13 b14 b15 h9 hm => hk (b1, b2, b3, b4, b5, b6, b7, b8, b9, b10, b11, b12, b13, b14, b15) h9 hm)) (a1, a2, a3, a4, a5, a6, a7, a8, a9, a10, a11, a12, a13, a14, a15) h
theorem lp16 {A1 A2 A3 A4 A5 A6 A7 A8 A9 A10 A11 A12 A13 A14 A15 A16 : Type} (W : Nat → A1 → A2 → A3 → A4 → A5 → A6 → A7 → A8 → A9 → A10 → A11 → A12 → A13 → A14 → A15 → A16 → Prop) (I : A1 → A2 → A3 → A4 → A5 → A6 → A7 → A8 → A9 → A10 → A11 → A12 → A13 → A14 → A15 → A16 → Prop) (μ : A1 → A2 → A3 → A4 → A5 → A6 → A7 → A8 → A9 → A10 → A11 → A12 → A13 → A14 → A15 → A16 → Nat) (hs : ∀ (n : Nat) (a1 : A1) (a2 : A2) (a3 : A3) (a4 : A4) (a5 : A5) (a6 : A6) (a7 : A7) (a8 : A8) (a9 : A9) (a10 : A10) (a11 : A11) (a12 : A12) (a13 : A13) (a14 : A14) (a15 : A15) (a16 : A16), I a1 a2 a3 a4 a5 a6 a7 a8 a9 a10 a11 a12 a13 a14 a15 a16 → (∀ (b1 : A1) (b2 : A2) (b3 : A3) (b4 : A4) (b5 : A5) (b6 : A6) (b7 : A7) (b8 : A8) (b9 : A9) (b10 : A10) (b11 : A11) (b12 : A12) (b13 : A13) (b14 : A14) (b15 : A15) (b16 : A16), I b1 b2 b3 b4 b5 b6 b7 b8 b9 b10 b11 b12 b13 b14 b15 b16 → μ b1 b2 b3 b4 b5 b6 b7 b8 b9 b10 b11 b12 b13 b14 b15 b16 < μ a1 a2 a3 a4 a5 a6 a7 a8 a9 a10 a11 a12 a13 a14 a15 a16 → W n b1 b2 b3 b4 b5 b6 b7 b8 b9 b10 b11 b12 b13 b14 b15 b16) → W (n + 1) a1 a2 a3 a4 a5 a6 a7 a8 a9 a10 a11 a12 a13 a14 a15 a16) (a1 : A1) (a2 : A2) (a3 : A3) (a4 : A4) (a5 : A5) (a6 : A6) (a7 : A7) (a8 : A8) (a9 : A9) (a10 : A10) (a11 : A11) (a12 : A12) (a13 : A13) (a14 : A14) (a15 : A15) (a16 : A16) (h : I a1 a2 a3 a4 a5 a6 a7 a8 a9 a10 a11 a12 a13 a14 a15 a16) : ∃ n, W n a1 a2 a3 a4 a5 a6 a7 a8 a9 a10 a11 a12 a13 a14 a15 a16 :=
  loop_m (σ := A1 × A2 × A3 × A4 × A5 × A6 × A7 × A8 × A9 × A10 × A11 × A12 × A13 × A14 × A15 × A16) (fun n s => W n s.1 s.2.1 s.2.2.1 s.2.2.2.1 s.2.2.2.2.1 s.2.2.2.2.2.1 s.2.2.2.2.2.2.1 s.2.2.2.2.2.2.2.1 s.2.2.2.2.2.2.2.2.1 s.2.2.2.2.2.2.2.2.2.1 s.2.2.2.2.2.2.2.2.2.2.1 s.2.2.2.2.2.2.2.2.2.2.2.1 s.2.2.2.2.2.2.2.2.2.2.2.2.1 s.2.2.2.2.2.2.2.2.2.2.2.2.2.1 s.2.2.2.2.2.2.2.2.2.2.2.2.2.2.1 s.2.2.2.2.2.2.2.2.2.2.2.2.2.2.2) (fun s => I s.1 s.2.1 s.2.2.1 s.2.2.2.1 s.2.2.2.2.1 s.2.2.2.2.2.1 s.2.2.2.2.2.2.1 s.2.2.2.2.2.2.2.1 s.2.2.2.2.2.2.2.2.1 s.2.2.2.2.2.2.2.2.2.1 s.2.2.2.2.2.2.2.2.2.2.1 s.2.2.2.2.2.2.2.2.2.2.2.1 s.2.2.2.2.2.2.2.2.2.2.2.2.1 s.2.2.2.2.2.2.2.2.2.2.2.2.2.1 s.2.2.2.2.2.2.2.2.2.2.2.2.2.2.1 s.2.2.2.2.2.2.2.2.2.2.2.2.2.2.2) (fun s => μ s.1 s.2.1 s.2.2.1 s.2.2.2.1 s.2.2.2.2.1 s.2.2.2.2.2.1 s.2.2.2.2.2.2.1 s.2.2.2.2.2.2.2.1 s.2.2.2.2.2.2.2.2.1 s.2.2.2.2.2.2.2.2.2.1 s.2.2.2.2.2.2.2.2.2.2.1 s.2.2.2.2.2.2.2.2.2.2.2.1 s.2.2.2.2.2.2.2.2.2.2.2.2.1 s.2.2.2.2.2.2.2.2.2.2.2.2.2.1 s.2.2.2.2.2.2.2.2.2.2.2.2.2.2.1 s.2.2.2.2.2.2.2.2.2.2.2.2.2.2.2) (fun n s hI hk => hs n s.1 s.2.1 s.2.2.1 s.2.2.2.1 s.2.2.2.2.1 s.2.2.2.2.2.1 s.2.2.2.2.2.2.1 s.2.2.2.2.2.2.2.1 s.2.2.2.2.2.2.2.2.1 s.2.2.2.2.2.2.2.2.2.1 s.2.2.2.2.2.2.2.2.2.2.1 s.2.2.2.2.2.2.2.2.2.2.2.1 s.2.2.2.2.2.2.2.2.2.2.2.2.1 s.2.2.2.2.2.2.2.2.2.2.2.2.2.1 s.2.2.2.2.2.2.2.2.2.2.2.2.2.2.1 s.2.2.2.2.2.2.2.2.2.2.2.2.2.2.2 hI (fun b1 b2 b3 b4 b5 b6 b7 b8 b9 b10 b11 b12 b13 b14 b15 b16 h9 hm => hk (b1, b2, b3, b4, b5, b6, b7, b8, b9, b10, b11, b12, b13, b14, b15, b16) h9 hm)) (a1, a2, a3, a4, a5, a6, a7, a8, a9, a10, a11, a12, a13, a14, a15, a16) h
theorem pk_least (P : Nat → Prop) (h : ∃ k, P k) : ∃ k, P k ∧ ∀ j, j < k → ¬ P j := by
  obtain ⟨k, hk⟩ := h
  induction k using Nat.strongRecOn with
  | ind k ih =>
    by_cases e : ∃ j, j < k ∧ P j
    · obtain ⟨j, hj, pj⟩ := e
      exact ih j hj pj
    · exact ⟨k, hk, fun j hj pj => e ⟨j, hj, pj⟩⟩
theorem rp1 {ρ A1 : Type} (W : Nat → (ρ → Prop) → A1 → Prop) (ok : A1 → Prop) (μ : A1 → Nat) (val : A1 → ρ)
    (hs : ∀ (d : Nat) (post : ρ → Prop) (a1 : A1), ok a1 → post (val a1) → (∀ (post' : ρ → Prop) (b1 : A1), ok b1 → μ b1 < μ a1 → post' (val b1) → W d post' b1) → W (d + 1) post a1) :
    ∀ (d : Nat) (post : ρ → Prop) (a1 : A1), ok a1 → μ a1 < d → post (val a1) → W d post a1 := by
  intro d
  induction d with
  | zero => intro post a1 _ h; omega
  | succ d ih =>
    intro post a1 ho hm hp
    exact hs d post a1 ho hp (fun post' b1 ho' hm' hp' => ih post' b1 ho' (by omega) hp')
theorem rp2 {ρ A1 A2 : Type} (W : Nat → (ρ → Prop) → A1 → A2 → Prop) (ok : A1 → A2 → Prop) (μ : A1 → A2 → Nat) (val : A1 → A2 → ρ)
    (hs : ∀ (d : Nat) (post : ρ → Prop) (a1 : A1) (a2 : A2), ok a1 a2 → post (val a1 a2) → (∀ (post' : ρ → Prop) (b1 : A1) (b2 : A2), ok b1 b2 → μ b1 b2 < μ a1 a2 → post' (val b1 b2) → W d post' b1 b2) → W (d + 1) post a1 a2) :
    ∀ (d : Nat) (post : ρ → Prop) (a1 : A1) (a2 : A2), ok a1 a2 → μ a1 a2 < d → post (val a1 a2) → W d post a1 a2 := by
  intro d
  induction d with
  | zero => intro post a1 a2 _ h; omega
  | succ d ih =>
    intro post a1 a2 ho hm hp
    exact hs d post a1 a2 ho hp (fun post' b1 b2 ho' hm' hp' => ih post' b1 b2 ho' (by omega) hp')
theorem rp3 {ρ A1 A2 A3 : Type} (W : Nat → (ρ → Prop) → A1 → A2 → A3 → Prop) (ok : A1 → A2 → A3 → Prop) (μ : A1 → A2 → A3 → Nat) (val : A1 → A2 → A3 → ρ)
    (hs : ∀ (d : Nat) (post : ρ → Prop) (a1 : A1) (a2 : A2) (a3 : A3), ok a1 a2 a3 → post (val a1 a2 a3) → (∀ (post' : ρ → Prop) (b1 : A1) (b2 : A2) (b3 : A3), ok b1 b2 b3 → μ b1 b2 b3 < μ a1 a2 a3 → post' (val b1 b2 b3) → W d post' b1 b2 b3) → W (d + 1) post a1 a2 a3) :
    ∀ (d : Nat) (post : ρ → Prop) (a1 : A1) (a2 : A2) (a3 : A3), ok a1 a2 a3 → μ a1 a2 a3 < d → post (val a1 a2 a3) → W d post a1 a2 a3 := by
  intro d
  induction d with
  | zero => intro post a1 a2 a3 _ h; omega
  | succ d ih =>
    intro post a1 a2 a3 ho hm hp
    exact hs d post a1 a2 a3 ho hp (fun post' b1 b2 b3 ho' hm' hp' => ih post' b1 b2 b3 ho' (by omega) hp')
theorem rp4 {ρ A1 A2 A3 A4 : Type} (W : Nat → (ρ → Prop) → A1 → A2 → A3 → A4 → Prop) (ok : A1 → A2 → A3 → A4 → Prop) (μ : A1 → A2 → A3 → A4 → Nat) (val : A1 → A2 → A3 → A4 → ρ)
    (hs : ∀ (d : Nat) (post : ρ → Prop) (a1 : A1) (a2 : A2) (a3 : A3) (a4 : A4), ok a1 a2 a3 a4 → post (val a1 a2 a3 a4) → (∀ (post' : ρ → Prop) (b1 : A1) (b2 : A2) (b3 : A3) (b4 : A4), ok b1 b2 b3 b4 → μ b1 b2 b3 b4 < μ a1 a2 a3 a4 → post' (val b1 b2 b3 b4) → W d post' b1 b2 b3 b4) → W (d + 1) post a1 a2 a3 a4) :
    ∀ (d : Nat) (post : ρ → Prop) (a1 : A1) (a2 : A2) (a3 : A3) (a4 : A4), ok a1 a2 a3 a4 → μ a1 a2 a3 a4 < d → post (val a1 a2 a3 a4) → W d post a1 a2 a3 a4 := by
  intro d
  induction d with
  | zero => intro post a1 a2 a3 a4 _ h; omega
  | succ d ih =>
    intro post a1 a2 a3 a4 ho hm hp
    exact hs d post a1 a2 a3 a4 ho hp (fun post' b1 b2 b3 b4 ho' hm' hp' => ih post' b1 b2 b3 b4 ho' (by omega) hp')
theorem rp5 {ρ A1 A2 A3 A4 A5 : Type} (W : Nat → (ρ → Prop) → A1 → A2 → A3 → A4 → A5 → Prop) (ok : A1 → A2 → A3 → A4 → A5 → Prop) (μ : A1 → A2 → A3 → A4 → A5 → Nat) (val : A1 → A2 → A3 → A4 → A5 → ρ)
    (hs : ∀ (d : Nat) (post : ρ → Prop) (a1 : A1) (a2 : A2) (a3 : A3) (a4 : A4) (a5 : A5), ok a1 a2 a3 a4 a5 → post (val a1 a2 a3 a4 a5) → (∀ (post' : ρ → Prop) (b1 : A1) (b2 : A2) (b3 : A3) (b4 : A4) (b5 : A5), ok b1 b2 b3 b4 b5 → μ b1 b2 b3 b4 b5 < μ a1 a2 a3 a4 a5 → post' (val b1 b2 b3 b4 b5) → W d post' b1 b2 b3 b4 b5) → W (d + 1) post a1 a2 a3 a4 a5) :
    ∀ (d : Nat) (post : ρ → Prop) (a1 : A1) (a2 : A2) (a3 : A3) (a4 : A4) (a5 : A5), ok a1 a2 a3 a4 a5 → μ a1 a2 a3 a4 a5 < d → post (val a1 a2 a3 a4 a5) → W d post a1 a2 a3 a4 a5 := by
  intro d
  induction d with
  | zero => intro post a1 a2 a3 a4 a5 _ h; omega
  | succ d ih =>
    intro post a1 a2 a3 a4 a5 ho hm hp
    exact hs d post a1 a2 a3 a4 a5 ho hp (fun post' b1 b2 b3 b4 b5 ho' hm' hp' => ih post' b1 b2 b3 b4 b5 ho' (by omega) hp')
theorem rp6 {ρ A1 A2 A3 A4 A5 A6 : Type} (W : Nat → (ρ → Prop) → A1 → A2 → A3 → A4 → A5 → A6 → Prop) (ok : A1 → A2 → A3 → A4 → A5 → A6 → Prop) (μ : A1 → A2 → A3 → A4 → A5 → A6 → Nat) (val : A1 → A2 → A3 → A4 → A5 → A6 → ρ)
    (hs : ∀ (d : Nat) (post : ρ → Prop) (a1 : A1) (a2 : A2) (a3 : A3) (a4 : A4) (a5 : A5) (a6 : A6), ok a1 a2 a3 a4 a5 a6 → post (val a1 a2 a3 a4 a5 a6) → (∀ (post' : ρ → Prop) (b1 : A1) (b2 : A2) (b3 : A3) (b4 : A4) (b5 : A5) (b6 : A6), ok b1 b2 b3 b4 b5 b6 → μ b1 b2 b3 b4 b5 b6 < μ a1 a2 a3 a4 a5 a6 → post' (val b1 b2 b3 b4 b5 b6) → W d post' b1 b2 b3 b4 b5 b6) → W (d + 1) post a1 a2 a3 a4 a5 a6) :
    ∀ (d : Nat) (post : ρ → Prop) (a1 : A1) (a2 : A2) (a3 : A3) (a4 : A4) (a5 : A5) (a6 : A6), ok a1 a2 a3 a4 a5 a6 → μ a1 a2 a3 a4 a5 a6 < d → post (val a1 a2 a3 a4 a5 a6) → W d post a1 a2 a3 a4 a5 a6 := by
  intro d
  induction d with
  | zero => intro post a1 a2 a3 a4 a5 a6 _ h; omega
  | succ d ih =>
    intro post a1 a2 a3 a4 a5 a6 ho hm hp
    exact hs d post a1 a2 a3 a4 a5 a6 ho hp (fun post' b1 b2 b3 b4 b5 b6 ho' hm' hp' => ih post' b1 b2 b3 b4 b5 b6 ho' (by omega) hp')
theorem rec_p {σ ρ : Type} (W : Nat → (ρ → Prop) → σ → Prop) (ok : σ → Prop) (μ : σ → Nat) (val : σ → ρ)
    (hs : ∀ d s post, ok s → post (val s) → (∀ s' post', ok s' → μ s' < μ s → post' (val s') → W d post' s') → W (d + 1) post s) :
    ∀ d s post, ok s → μ s < d → post (val s) → W d post s := by
  intro d
  induction d with
  | zero => intro s post _ h; omega
  | succ d ih =>
    intro s post ho hm hp
    exact hs d s post ho hp (fun s' post' ho' hm' hp' => ih s' post' ho' (by omega) hp')
theorem rec_q {σ ρ : Type} (W : Nat → (ρ → Prop) → σ → Prop) (ok : σ → Prop) (μ : σ → Nat) (Q : σ → ρ → Prop)
    (hs : ∀ d s post, ok s → (∀ r, Q s r → post r) → (∀ s' post', ok s' → μ s' < μ s → (∀ r, Q s' r → post' r) → W d post' s') → W (d + 1) post s) :
    ∀ d s post, ok s → μ s < d → (∀ r, Q s r → post r) → W d post s := by
  intro d
  induction d with
  | zero => intro s post _ h; omega
  | succ d ih =>
    intro s post ho hm hp
    exact hs d s post ho hp (fun s' post' ho' hm' hp' => ih s' post' ho' (by omega) hp')
def bx_sum (f : Nat → Int32) : Nat → Int32
  | 0 => 0
  | n + 1 => bx_sum f n + f n
theorem ek_u {A : Prop} {B : Nat → Prop} {k N : Nat} (hk : k < N) (h : B k) : (some k = none → A) ∧ (∀ y : Nat, some k = some y → (y < N ∧ B y)) :=
  ⟨fun z => absurd z (Option.some_ne_none k), fun _ e => (by cases e; exact ⟨hk, h⟩)⟩
theorem ek_nu {A : Prop} {B : Nat → Prop} (h : A) : ((none : Option Nat) = none → A) ∧ (∀ y : Nat, (none : Option Nat) = some y → B y) :=
  ⟨fun _ => h, fun _ e => (by cases e)⟩
theorem ek_if {c d A B : Prop} (e : c ↔ d) (f : d → A) (g : ¬ d → B) : (c → A) ∧ (¬ c → B) :=
  ⟨fun z => f (e.mp z), fun z => g (fun y => z (e.mpr y))⟩
theorem ek_v {α : Sort _} {P : α → Prop} {a b : α} (e : a = b) (h : P b) : P a := e ▸ h
theorem co_some {x : Option Nat} {A : Prop} {B : Nat → Prop} (i : Nat) (h : B i) (hx : x = some i := by rfl) : (x = none → A) ∧ (∀ y : Nat, x = some y → B y) := by
  subst hx
  exact ⟨fun e => (nomatch e), fun y e => Option.some.inj e ▸ h⟩
theorem co_none {x : Option Nat} {A : Prop} {B : Nat → Prop} (h : A) (hx : x = none := by rfl) : (x = none → A) ∧ (∀ y : Nat, x = some y → B y) := by
  subst hx
  exact ⟨fun _ => h, fun y e => (nomatch e)⟩
theorem co_any {x : Option Nat} {A : Prop} {B : Nat → Prop} (hn : x = none → A) (hs : ∀ i : Nat, x = some i → B i) : (x = none → A) ∧ (∀ y : Nat, x = some y → B y) := ⟨hn, hs⟩
theorem co_2 {P : Nat → Prop} (h0 : P 0) (h1 : P 1) {i : Nat} (hi : i < 2) : P i :=
  match i, hi with
  | 0, _ => h0
  | 1, _ => h1
theorem co_3 {P : Nat → Prop} (h0 : P 0) (h1 : P 1) (h2 : P 2) {i : Nat} (hi : i < 3) : P i :=
  match i, hi with
  | 0, _ => h0
  | 1, _ => h1
  | 2, _ => h2
theorem co_4 {P : Nat → Prop} (h0 : P 0) (h1 : P 1) (h2 : P 2) (h3 : P 3) {i : Nat} (hi : i < 4) : P i :=
  match i, hi with
  | 0, _ => h0
  | 1, _ => h1
  | 2, _ => h2
  | 3, _ => h3
theorem co_dec {N : Nat} {P : Nat → Prop} [DecidablePred P] (h : (List.range N).all (fun i => decide (P i)) = true) {i : Nat} (hi : i < N) : P i := by
  have := List.all_eq_true.mp h i (List.mem_range.mpr hi)
  exact of_decide_eq_true this
theorem co_tab {α : Type} {l : List α} {d : α} {P : α → Prop} (h : ∀ a, a ∈ l → P a) {i : Nat} (hi : i < l.length) : P (l.getD i d) := by
  rw [List.getD_eq_getElem?_getD, List.getElem?_eq_getElem hi]
  exact h _ (List.getElem_mem hi)
theorem pk_mu {x : Int32} {L : Nat} (h0 : ¬ x < 0) (h : ¬ nI L ≤ x) (hL : L < 2 ^ 31) : ∃ j : Nat, j < L ∧ x = nI j ∧ x + 1 = nI (j + 1) ∧ x.toNatClampNeg = j ∧ L - (x + 1).toNatClampNeg < L - x.toNatClampNeg := by
  obtain ⟨j, hj, rfl⟩ := nI_of h0
  have hl : j < L := Nat.not_le.mp fun q => h (nI_le q hj)
  refine ⟨j, hl, rfl, nI_1 j, nI_clamp hj, ?_⟩
  rw [nI_1, nI_clamp (by omega), nI_clamp hj]
  omega
theorem op_s {α : Type} {r : Option α} {A : Prop} {B : α → Prop} {y : α} (h : r = some y) (b : B y) : (r = none → A) ∧ ∀ z, r = some z → B z :=
  ⟨fun e => (by rw [h] at e; cases e), fun z e => (by rw [h] at e; cases e; exact b)⟩
def l_holds {α : Type} (a : Nat → Option Nat) (LP : List Nat) (p : Nat → α) (c : Nat) (b : Nat → α) : Prop :=
  ∀ j, j < c → ∃ y, a j = some y ∧ y ∈ LP ∧ p y = b j
theorem l_holds_0 {α : Type} {a : Nat → Option Nat} {LP : List Nat} {p b : Nat → α} : l_holds a LP p 0 b := fun j h => absurd h (Nat.not_lt_zero j)
theorem l_in_new (LP : List Nat) (q : Nat) : q ∈ LP ++ [q] := List.mem_append.mpr (Or.inr (List.mem_singleton.mpr rfl))
def l_sum (b : Nat → Int32) : Nat → Int32
  | 0 => 0
  | k + 1 => l_sum b k + b k
theorem sb_shr0 (x : Int32) : x >>> ((0 : Int32) &&& 31) = x := by
  rw [show ((0 : Int32) &&& 31) = 0 by decide]
  simp
theorem sb_shl0 (x : Int32) : x <<< ((0 : Int32) &&& 31) = x := by
  rw [show ((0 : Int32) &&& 31) = 0 by decide]
  simp
theorem sb_cl0 : (0 : Int32).toNatClampNeg = 0 := by decide
theorem sb_m1 {p : Nat} (h : 0 < p) : nI p + (-1) = nI (p - 1) := by
  obtain ⟨q, rfl⟩ : ∃ q, p = q + 1 := ⟨p - 1, by omega⟩
  exact pk_m1 q
def sb_b (c : Nat) : Int32 := (nI c).toInt8.toInt32
theorem sb_byte : ∀ c, c < 256 → sb_b c &&& 255 = nI c ∧ ((nI c).toUInt32 % 65536).toInt32 = nI c ∧ nI c ≤ 255 := by decide +kernel
def sb_Fit (a : Nat → Int32) : Prop := ∀ j, fits .byte (.int (a j)) = true
def sb_Lat (t : Nat → Nat) (n : Nat) (a : Nat → Int32) : Prop := ∀ j, j < n → t j < 256 ∧ a j = sb_b (t j)
theorem sb_fitB (c : Nat) : fits .byte (.int (sb_b c)) = true := pk_fb _
theorem sb_fit0 : sb_Fit (fun _ => 0) := fun _ => by
  show fits .byte (.int 0) = true
  decide
theorem sb_fitU {a : Nat → Int32} {k : Nat} {x : Int32} (h : sb_Fit a) (hx : fits .byte (.int x) = true) : sb_Fit (upd a k x) := by
  intro j
  by_cases e : j = k
  · subst e
    rw [pk_us]
    exact hx
  · rw [pk_un e]
    exact h j
def sb_cat (t : Nat → Nat) (n : Nat) (s : Nat → Nat) : Nat → Nat := fun j => if j < n then t j else s (j - n)
theorem sb_cat_lo {t s : Nat → Nat} {n j : Nat} (h : j < n) : sb_cat t n s j = t j := if_pos h
theorem sb_cat_hi {t s : Nat → Nat} {n j : Nat} : sb_cat t n s (n + j) = s j := by
  show (if n + j < n then t (n + j) else s (n + j - n)) = s j
  rw [if_neg (by omega), Nat.add_sub_cancel_left]
theorem sb_latPut {t s : Nat → Nat} {n w : Nat} {a a' : Nat → Int32} (h : sb_Lat t n a) (hk : ∀ j, j < n → a' j = a j) (hs : ∀ i, i < w → s i < 256 ∧ a' (n + i) = sb_b (s i)) : sb_Lat (sb_cat t n s) (n + w) a' := by
  intro j hj
  by_cases e : j < n
  · rw [sb_cat_lo e, hk j e]
    exact h j e
  · obtain ⟨i, rfl⟩ : ∃ i, j = n + i := ⟨j - n, by omega⟩
    rw [sb_cat_hi]
    exact hs i (by omega)
theorem sb_latKeep {t : Nat → Nat} {n : Nat} {a a' : Nat → Int32} (h : sb_Lat t n a) (hk : ∀ j, j < n → a' j = a j) : sb_Lat t n a' := fun j hj => by
  rw [hk j hj]
  exact h j hj
def sb_cap (q m : Nat) : Nat := if q ≤ m then m else if 2 * m + 2 < q then q else 2 * m + 2
def sb_Room (q m mc ms : Nat) : Prop := q ≤ m ∨ (1 ≤ mc ∧ sb_cap q m ≤ ms ∧ sb_cap q m ≤ 65536)
theorem sb_cap_ge (q m : Nat) : q ≤ sb_cap q m := by
  unfold sb_cap
  split
  · omega
  · split <;> omega
theorem sb_cap_gem (q m : Nat) : m ≤ sb_cap q m := by
  unfold sb_cap
  split
  · omega
  · split <;> omega
theorem sb_cap_le {q m mc ms : Nat} (hm : m ≤ 65536) (hr : sb_Room q m mc ms) : sb_cap q m ≤ 65536 := by
  rcases hr with h | h
  · rw [sb_cap, if_pos h]
    exact hm
  · exact h.2.2
theorem sb_at {P : Int32 → Prop} {x y : Int32} (e : x = y) (h : P y) : P x := e ▸ h
def sb_dg (w : Nat) : Nat := if w < 10 then 1 else if w < 100 then 2 else if w < 1000 then 3 else if w < 10000 then 4 else if w < 100000 then 5 else if w < 1000000 then 6 else if w < 10000000 then 7 else if w < 100000000 then 8 else if w < 1000000000 then 9 else 10
def sb_dec (v : Nat) : Nat → Nat := fun i => 48 + v / 10 ^ (sb_dg v - 1 - i) % 10
theorem sb_dg_in (w : Nat) : 1 ≤ sb_dg w ∧ sb_dg w ≤ 10 := by
  unfold sb_dg
  constructor <;> (repeat' split) <;> omega
theorem sb_dg100 {w : Nat} (h : 100 ≤ w) (hw : w < 2 ^ 31) : sb_dg w = sb_dg (w / 100) + 2 := by
  rw [sb_dg, sb_dg, if_neg (show ¬ w < 10 by omega), if_neg (show ¬ w < 100 by omega)]
  by_cases h3 : w < 1000
  · rw [if_pos h3, if_pos (show w / 100 < 10 by omega)]
  rw [if_neg h3, if_neg (show ¬ w / 100 < 10 by omega)]
  by_cases h4 : w < 10000
  · rw [if_pos h4, if_pos (show w / 100 < 100 by omega)]
  rw [if_neg h4, if_neg (show ¬ w / 100 < 100 by omega)]
  by_cases h5 : w < 100000
  · rw [if_pos h5, if_pos (show w / 100 < 1000 by omega)]
  rw [if_neg h5, if_neg (show ¬ w / 100 < 1000 by omega)]
  by_cases h6 : w < 1000000
  · rw [if_pos h6, if_pos (show w / 100 < 10000 by omega)]
  rw [if_neg h6, if_neg (show ¬ w / 100 < 10000 by omega)]
  by_cases h7 : w < 10000000
  · rw [if_pos h7, if_pos (show w / 100 < 100000 by omega)]
  rw [if_neg h7, if_neg (show ¬ w / 100 < 100000 by omega)]
  by_cases h8 : w < 100000000
  · rw [if_pos h8, if_pos (show w / 100 < 1000000 by omega)]
  rw [if_neg h8, if_neg (show ¬ w / 100 < 1000000 by omega)]
  by_cases h9 : w < 1000000000
  · rw [if_pos h9, if_pos (show w / 100 < 10000000 by omega)]
  rw [if_neg h9, if_neg (show ¬ w / 100 < 10000000 by omega)]
  rw [if_pos (show w / 100 < 100000000 by omega)]
theorem sb_negT {w : Nat} (h : w < 2 ^ 31) : (-nI w).toInt = -(w : Int) := by
  rw [Int32.toInt_neg, nI_toInt h]
  exact Int.bmod_eq_of_le (by omega) (by omega)
theorem sb_nle {a b : Nat} (ha : a < 2 ^ 31) (hb : b < 2 ^ 31) : -nI a ≤ -nI b ↔ b ≤ a := by
  rw [Int32.le_iff_toInt_le, sb_negT ha, sb_negT hb]
  omega
theorem sb_nlt {a b : Nat} (ha : a < 2 ^ 31) (hb : b < 2 ^ 31) : -nI a < -nI b ↔ b < a := by
  rw [Int32.lt_iff_toInt_lt, sb_negT ha, sb_negT hb]
  omega
theorem sb_cmp {A B : Prop} {x : Int32} (v c : Nat) (f : c ≤ v → A) (g : v < c → B) (hv : v < 2 ^ 31) (hx : x = -nI c := by rfl) (hc : c < 2 ^ 31 := by omega) : (-nI v ≤ x → A) ∧ (¬ -nI v ≤ x → B) := by
  subst hx
  rw [sb_nle hv hc]
  exact ⟨f, fun z => g (by omega)⟩
theorem sb_ndiv {w : Nat} (hw : w < 2 ^ 31) : (-nI w) / 100 = -nI (w / 100) := by
  apply Int32.toInt_inj.mp
  have h100 : (100 : Int32).toInt = 100 := by decide
  rw [Int32.toInt_div, sb_negT hw, h100, sb_negT (by omega), Int.neg_tdiv, Int.tdiv_eq_ediv_of_nonneg (by omega), Int.bmod_eq_of_le (by omega) (by omega)]
  omega
theorem sb_nrem {w : Nat} (hw : w < 2 ^ 31) : (-nI (w / 100)) * 100 - (-nI w) = nI (w % 100) := by
  have h := pk_rem (a := w) (d := 100) hw (by decide) (by decide)
  rw [pk_div hw (by decide) (by decide)] at h
  rw [← h]
  show (-nI (w / 100)) * nI 100 - (-nI w) = nI w - nI (w / 100) * nI 100
  rw [Int32.neg_mul, Int32.sub_neg, Int32.add_comm, ← Int32.sub_eq_add_neg]
end
section
theorem s_l : ∀ n, n < 32 → ((nI n &&& 31).toBitVec.smod 32).toNat = n := by decide +kernel
noncomputable def b01 (P : Prop) : Nat := @ite Nat P (Classical.propDecidable P) 1 0
theorem b01_t {P : Prop} (h : P) : b01 P = 1 := by unfold b01; rw [if_pos h]
theorem b01_f {P : Prop} (h : ¬ P) : b01 P = 0 := by unfold b01; rw [if_neg h]
theorem b01_le (P : Prop) : b01 P ≤ 1 := by
  rcases Classical.em P with h | h
  · rw [b01_t h]; omega
  · rw [b01_f h]; omega
theorem b01_mono {P Q : Prop} (h : P → Q) : b01 P ≤ b01 Q := by
  rcases Classical.em P with hp | hp
  · rw [b01_t hp, b01_t (h hp)]; omega
  · rw [b01_f hp]; omega
theorem b01_iff {P Q : Prop} (h : P ↔ Q) : b01 P = b01 Q := Nat.le_antisymm (b01_mono h.mp) (b01_mono h.mpr)
noncomputable def cn (P : Nat → Prop) : Nat → Nat
  | 0 => 0
  | k + 1 => cn P k + b01 (P k)
theorem cn_t {P : Nat → Prop} {k : Nat} (h : P k) : cn P (k + 1) = cn P k + 1 := by simp only [cn, b01_t h]
theorem cn_f {P : Nat → Prop} {k : Nat} (h : ¬ P k) : cn P (k + 1) = cn P k := by simp only [cn, b01_f h, Nat.add_zero]
theorem cn_mono {P Q : Nat → Prop} : ∀ {N : Nat}, (∀ k, k < N → P k → Q k) → cn P N ≤ cn Q N
  | 0, _ => Nat.le_refl _
  | N + 1, h => by
    have a := cn_mono (P := P) (Q := Q) (N := N) (fun k hk => h k (by omega))
    have b := b01_mono (h N (by omega))
    simp only [cn]; omega
theorem cn_le (P : Nat → Prop) : ∀ N, cn P N ≤ N
  | 0 => Nat.le_refl _
  | N + 1 => by have := cn_le P N; have := b01_le (P N); simp only [cn]; omega
theorem cn_eq {P Q : Nat → Prop} {N : Nat} (h : ∀ k, k < N → (P k ↔ Q k)) : cn P N = cn Q N :=
  Nat.le_antisymm (cn_mono fun k hk => (h k hk).mp) (cn_mono fun k hk => (h k hk).mpr)
theorem cn_lt {P Q : Nat → Prop} {a : Nat} (hp : ¬ P a) (hq : Q a) : ∀ {N : Nat}, (∀ k, k < N → P k → Q k) → a < N → cn P N < cn Q N
  | 0, _, h => by omega
  | N + 1, h, ha => by
    simp only [cn]
    rcases Nat.lt_or_ge a N with z | z
    · have x := cn_lt hp hq (N := N) (fun k hk => h k (by omega)) z
      have b := b01_mono (h N (by omega))
      omega
    · have e : a = N := by omega
      subst e
      have x := cn_mono (P := P) (Q := Q) (N := a) (fun k hk => h k (by omega))
      rw [b01_t hq, b01_f hp]; omega
theorem cn_zero {P : Nat → Prop} {N : Nat} (h : ∀ k, k < N → ¬ P k) : cn P N = 0 := by
  have a : cn P N = cn (fun _ => False) N := cn_eq fun k hk => ⟨fun z => h k hk z, fun z => z.elim⟩
  have b : ∀ n, cn (fun _ => False) n = 0 := by
    intro n
    induction n with
    | zero => rfl
    | succ n ih => rw [cn_f (fun z => z), ih]
  rw [a, b]
theorem cn_step {P : Nat → Prop} : ∀ {a b : Nat}, a ≤ b → cn P a ≤ cn P b ∧ cn P b ≤ cn P a + (b - a)
  | a, b, h => by
    obtain ⟨d, rfl⟩ : ∃ d, b = a + d := ⟨b - a, by omega⟩
    clear h
    induction d with
    | zero => exact ⟨Nat.le_refl _, Nat.le_add_right _ _⟩
    | succ d ih =>
      have := b01_le (P (a + d))
      show cn P a ≤ cn P (a + d) + b01 (P (a + d)) ∧ cn P (a + d) + b01 (P (a + d)) ≤ cn P a + (a + (d + 1) - a)
      omega
/-- nothing of P in [a, b) -/
theorem cn_none {P : Nat → Prop} {a b : Nat} (hab : a ≤ b) (h : ∀ k, a ≤ k → k < b → ¬ P k) : cn P b = cn P a := by
  obtain ⟨d, rfl⟩ : ∃ d, b = a + d := ⟨b - a, by omega⟩
  clear hab
  induction d with
  | zero => rfl
  | succ d ih =>
    have := ih (fun k h1 h2 => h k h1 (by omega))
    show cn P (a + d) + b01 (P (a + d)) = cn P a
    rw [b01_f (h (a + d) (by omega) (by omega)), this]; rfl
theorem cn_sp1 {P Q : Nat → Prop} {p q : Nat} (hpq : p < q) (h0 : ∀ j, j < p → (P j ↔ Q j)) (hp : P p) (hn : ∀ j, p < j → j < q → ¬ P j) : cn P q = cn Q p + 1 := by
  rw [cn_none (a := p + 1) (by omega) (fun k h1 h2 => hn k (by omega) h2), cn_t hp, cn_eq h0]
theorem cn_sp0 {P Q : Nat → Prop} {p q : Nat} (hpq : p < q) (h0 : ∀ j, j < p → (P j ↔ Q j)) (hn : ∀ j, p ≤ j → j < q → ¬ P j) : cn P q = cn Q p := by
  rw [cn_none (a := p) (by omega) hn, cn_eq h0]
theorem cn_ivt {P : Nat → Prop} {c : Nat} : ∀ {q : Nat}, c < cn P q → ∃ j, j < q ∧ P j ∧ cn P j = c
  | 0, h => by simp only [cn] at h; omega
  | q + 1, h => by
    rcases Nat.lt_or_ge c (cn P q) with z | z
    · obtain ⟨j, a, b, d⟩ := cn_ivt z
      exact ⟨j, by omega, b, d⟩
    · rcases Classical.em (P q) with hp | hp
      · rw [cn_t hp] at h
        exact ⟨q, by omega, hp, by omega⟩
      · rw [cn_f hp] at h; omega
theorem cn_inj {P : Nat → Prop} {i j : Nat} (hi : P i) (hj : P j) (e : cn P i = cn P j) : i = j := by
  rcases Nat.lt_trichotomy i j with h | h | h
  · have a := (cn_step (P := P) (a := i + 1) (b := j) (by omega)).1
    rw [cn_t hi] at a; omega
  · exact h
  · have a := (cn_step (P := P) (a := j + 1) (b := i) (by omega)).1
    rw [cn_t hj] at a; omega
theorem cn_lt_of {P : Nat → Prop} {j q : Nat} (hj : P j) (h : j < q) : cn P j < cn P q := by
  have a := (cn_step (P := P) (a := j + 1) (b := q) (by omega)).1
  rw [cn_t hj] at a; omega
/-- heights -/
def hz_H (A : Nat → Nat) : Nat → Int
  | 0 => 0
  | i + 1 => hz_H A i + (A i : Int) - 1
theorem hz_s (A : Nat → Nat) (i : Nat) : hz_H A (i + 1) = hz_H A i + (A i : Int) - 1 := rfl
theorem hz_cg {A B : Nat → Nat} : ∀ {n : Nat}, (∀ j, j < n → A j = B j) → hz_H A n = hz_H B n
  | 0, _ => rfl
  | n + 1, h => by rw [hz_s, hz_s, hz_cg (n := n) (fun j hj => h j (by omega)), h n (by omega)]
theorem hz_bd {A : Nat → Nat} (hA : ∀ j, A j ≤ 3) : ∀ n : Nat, -(n : Int) ≤ hz_H A n ∧ hz_H A n ≤ 2 * (n : Int)
  | 0 => ⟨by simp [hz_H], by simp [hz_H]⟩
  | n + 1 => by
    have := hz_bd hA n
    have := hA n
    rw [hz_s]; omega
def hz_an (A : Nat → Nat) (j q : Nat) : Prop := j < q ∧ ∀ r, j < r → r ≤ q → hz_H A j ≤ hz_H A r
def hz_en (A : Nat → Nat) (p e : Nat) : Prop := p < e ∧ hz_H A e = hz_H A p - 1 ∧ ∀ r, p < r → r < e → hz_H A p ≤ hz_H A r
def hz_ch (A : Nat → Nat) (p k q : Nat) : Prop := p < q ∧ k < A p ∧ hz_H A q = hz_H A p + A p - 1 - k ∧ ∀ j, p < j → j < q → hz_H A q < hz_H A j
def hz_bl (L : Nat → Prop) (A : Nat → Nat) (j q : Nat) : Prop := L j ∧ hz_an A j q ∧ ∃ r, j < r ∧ r ≤ q ∧ hz_H A r = hz_H A j
theorem hz_en_u {A : Nat → Nat} {p e e' : Nat} (h : hz_en A p e) (h' : hz_en A p e') : e = e' := by
  obtain ⟨a, b, c⟩ := h
  obtain ⟨a', b', c'⟩ := h'
  rcases Nat.lt_trichotomy e e' with z | z | z
  · have := c' e a z; omega
  · exact z
  · have := c e' a' z; omega
theorem hz_ch0 {A : Nat → Nat} {p : Nat} (h : 0 < A p) : hz_ch A p 0 (p + 1) := by
  refine ⟨by omega, h, ?_, fun j h1 h2 => by omega⟩
  rw [hz_s]; simp
theorem hz_en0 {A : Nat → Nat} {p : Nat} (h : A p = 0) : hz_en A p (p + 1) := by
  refine ⟨by omega, ?_, fun j h1 h2 => by omega⟩
  rw [hz_s, h]; simp
theorem hz_chs {A : Nat → Nat} {p k q e : Nat} (h : hz_ch A p k q) (he : hz_en A q e) (hk : k + 1 < A p) : hz_ch A p (k + 1) e := by
  obtain ⟨a, b, c, d⟩ := h
  obtain ⟨a', b', c'⟩ := he
  refine ⟨by omega, hk, by omega, fun j h1 h2 => ?_⟩
  rcases Nat.lt_trichotomy j q with z | z | z
  · have := d j h1 z; omega
  · subst z; omega
  · have := c' j z h2; omega
theorem hz_che {A : Nat → Nat} {p k q e : Nat} (h : hz_ch A p k q) (he : hz_en A q e) (hk : k + 1 = A p) : hz_en A p e := by
  obtain ⟨a, b, c, d⟩ := h
  obtain ⟨a', b', c'⟩ := he
  refine ⟨by omega, by omega, fun j h1 h2 => ?_⟩
  rcases Nat.lt_trichotomy j q with z | z | z
  · have := d j h1 z; omega
  · subst z; omega
  · have := c' j z h2; omega
/-- the first place below a height is one below -/
theorem hz_first {A : Nat → Nat} {p : Nat} {L : Int} (hp : L ≤ hz_H A p) : ∀ {e : Nat}, p < e → hz_H A e < L → ∃ q, p < q ∧ q ≤ e ∧ hz_H A q = L - 1 ∧ ∀ r, p ≤ r → r < q → L ≤ hz_H A r
  | 0, h, _ => by omega
  | e + 1, h, he => by
    rcases Classical.em (∃ r, p < r ∧ r ≤ e ∧ hz_H A r < L) with ⟨r, h1, h2, h3⟩ | hn
    · rcases Nat.lt_or_ge p e with z | z
      · rcases Classical.em (hz_H A e < L) with y | y
        · obtain ⟨q, a, b, c, d⟩ := hz_first hp z y
          exact ⟨q, a, by omega, c, d⟩
        · have hr : r < e := by
            rcases Nat.lt_or_ge r e with x | x
            · exact x
            · have : r = e := by omega
              subst this; omega
          obtain ⟨q, a, b, c, d⟩ := hz_first hp h1 h3
          exact ⟨q, a, by omega, c, d⟩
      · omega
    · have hall : ∀ r, p ≤ r → r < e + 1 → L ≤ hz_H A r := by
        intro r h1 h2
        rcases Nat.lt_or_ge p r with z | z
        · rcases Classical.em (hz_H A r < L) with y | y
          · exact (hn ⟨r, z, by omega, y⟩).elim
          · omega
        · have : r = p := by omega
          subst this; exact hp
      refine ⟨e + 1, h, Nat.le_refl _, ?_, hall⟩
      have := hall e (by omega) (by omega)
      rw [hz_s] at he ⊢
      omega
  termination_by e => e
theorem hz_en_ex {A : Nat → Nat} {s e i : Nat} (h : hz_en A s e) (h1 : s ≤ i) (h2 : i < e) : ∃ q, hz_en A i q ∧ q ≤ e := by
  obtain ⟨a, b, c⟩ := h
  have hi : hz_H A s ≤ hz_H A i := by
    rcases Nat.lt_or_ge s i with z | z
    · exact c i z h2
    · have : i = s := by omega
      subst this; omega
  obtain ⟨q, q1, q2, q3, q4⟩ := hz_first (A := A) (p := i) (L := hz_H A i) (by omega) h2 (by omega)
  exact ⟨q, ⟨q1, q3, fun r r1 r2 => q4 r (by omega) r2⟩, q2⟩
theorem hz_ch_u {A : Nat → Nat} {p k p' k' q : Nat} (h : hz_ch A p k q) (h' : hz_ch A p' k' q) : p = p' ∧ k = k' := by
  obtain ⟨a, b, c, d⟩ := h
  obtain ⟨a', b', c', d'⟩ := h'
  have : p = p' := by
    rcases Nat.lt_trichotomy p p' with z | z | z
    · have := d p' z a'; omega
    · exact z
    · have := d' p z a; omega
  subst this
  exact ⟨rfl, by omega⟩
theorem hz_ch_an {A : Nat → Nat} {p k q : Nat} (h : hz_ch A p k q) : hz_an A p q := by
  obtain ⟨a, b, c, d⟩ := h
  refine ⟨a, fun r h1 h2 => ?_⟩
  rcases Nat.lt_or_ge r q with z | z
  · have := d r h1 z; omega
  · have : r = q := by omega
    subst this; omega
theorem hz_an_tr {A : Nat → Nat} {i j q : Nat} (h : hz_an A i j) (h' : hz_an A j q) : hz_an A i q := by
  refine ⟨Nat.lt_trans h.1 h'.1, fun r h1 h2 => ?_⟩
  rcases Nat.lt_or_ge j r with z | z
  · have := h'.2 r z h2
    have := h.2 j h.1 (Nat.le_refl _)
    omega
  · exact h.2 r h1 z
theorem hz_an_ch {A : Nat → Nat} {p k q j : Nat} (h : hz_ch A p k q) : hz_an A j q ↔ j = p ∨ hz_an A j p := by
  constructor
  · intro g
    rcases Nat.lt_trichotomy j p with z | z | z
    · exact Or.inr ⟨z, fun r h1 h2 => g.2 r h1 (by have := h.1; omega)⟩
    · exact Or.inl z
    · have a := h.2.2.2 j z g.1
      have b := g.2 q g.1 (Nat.le_refl _)
      omega
  · intro g
    rcases g with rfl | g
    · exact hz_ch_an h
    · exact hz_an_tr g (hz_ch_an h)
theorem hz_bl_ch {L : Nat → Prop} {A : Nat → Nat} {p k q j : Nat} (h : hz_ch A p k q) : hz_bl L A j q ↔ hz_bl L A j p ∨ (j = p ∧ L p ∧ k + 1 = A p) := by
  have hq := h.2.2.1
  have hk := h.2.1
  have hpq := h.1
  have han := hz_ch_an h
  have hge : ∀ r, p < r → r ≤ q → hz_H A q ≤ hz_H A r := fun r h1 h2 => by
    rcases Nat.lt_or_ge r q with z | z
    · have := h.2.2.2 r h1 z; omega
    · have : r = q := by omega
      subst this; omega
  constructor
  · intro ⟨g1, g2, r, r1, r2, r3⟩
    rcases (hz_an_ch h).mp g2 with rfl | g
    · have := hge r r1 r2
      exact Or.inr ⟨rfl, g1, by omega⟩
    · refine Or.inl ⟨g1, g, ?_⟩
      rcases Nat.lt_or_ge p r with z | z
      · have a := hge r z r2
        have b := g.2 p g.1 (Nat.le_refl _)
        exact ⟨p, g.1, Nat.le_refl _, by omega⟩
      · exact ⟨r, r1, z, r3⟩
  · intro g
    rcases g with ⟨g1, g2, r, r1, r2, r3⟩ | ⟨rfl, g1, g2⟩
    · exact ⟨g1, hz_an_tr g2 han, r, r1, by omega, r3⟩
    · exact ⟨g1, han, q, hpq, Nat.le_refl _, by omega⟩
theorem hz_bl_bl {L : Nat → Prop} {A : Nat → Nat} {i j q : Nat} (h : hz_an A j q) (hij : i < j) : hz_bl L A i j ↔ hz_bl L A i q := by
  constructor
  · intro ⟨g1, g2, r, r1, r2, r3⟩
    exact ⟨g1, hz_an_tr g2 h, r, r1, by have := h.1; omega, r3⟩
  · intro ⟨g1, g2, r, r1, r2, r3⟩
    have hij' : hz_an A i j := ⟨hij, fun r h1 h2 => g2.2 r h1 (by have := h.1; omega)⟩
    refine ⟨g1, hij', ?_⟩
    rcases Nat.lt_or_ge j r with z | z
    · have a := h.2 r z r2
      have b := hij'.2 j hij (Nat.le_refl _)
      exact ⟨j, hij, Nat.le_refl _, by omega⟩
    · exact ⟨r, r1, z, r3⟩
/-- nesting, scope size -/
noncomputable def hz_ns (A : Nat → Nat) (s q : Nat) : Nat := cn (fun j => s ≤ j ∧ hz_an A j q) q + 1
noncomputable def hz_bc (L : Nat → Prop) (A : Nat → Nat) (s q : Nat) : Nat := cn (fun j => s ≤ j ∧ hz_bl L A j q) q
theorem hz_ns_0 {A : Nat → Nat} {s : Nat} : hz_ns A s s = 1 := by
  unfold hz_ns
  rw [cn_zero (fun k hk z => by omega)]
theorem hz_bc_0 {L : Nat → Prop} {A : Nat → Nat} {s : Nat} : hz_bc L A s s = 0 := cn_zero (fun k hk z => by omega)
theorem hz_ns_ch {A : Nat → Nat} {s p k q : Nat} (hs : s ≤ p) (h : hz_ch A p k q) : hz_ns A s q = hz_ns A s p + 1 := by
  unfold hz_ns
  rw [cn_sp1 (Q := fun j => s ≤ j ∧ hz_an A j p) h.1]
  · intro j hj
    rw [hz_an_ch h]
    constructor
    · intro ⟨a, b⟩
      exact ⟨a, b.elim (fun z => by omega) id⟩
    · intro ⟨a, b⟩
      exact ⟨a, Or.inr b⟩
  · exact ⟨hs, hz_ch_an h⟩
  · intro j h1 h2 z
    rcases (hz_an_ch h).mp z.2 with y | y
    · omega
    · have := y.1; omega
theorem hz_bc_ch1 {L : Nat → Prop} {A : Nat → Nat} {s p k q : Nat} (hs : s ≤ p) (h : hz_ch A p k q) (hl : L p) (hk : k + 1 = A p) : hz_bc L A s q = hz_bc L A s p + 1 := by
  unfold hz_bc
  rw [cn_sp1 (Q := fun j => s ≤ j ∧ hz_bl L A j p) h.1]
  · intro j hj
    rw [hz_bl_ch h]
    constructor
    · intro ⟨a, b⟩
      exact ⟨a, b.elim id (fun z => by omega)⟩
    · intro ⟨a, b⟩
      exact ⟨a, Or.inl b⟩
  · exact ⟨hs, (hz_bl_ch h).mpr (Or.inr ⟨rfl, hl, hk⟩)⟩
  · intro j h1 h2 z
    rcases (hz_bl_ch h).mp z.2 with y | y
    · have := y.2.1.1; omega
    · omega
theorem hz_bc_ch0 {L : Nat → Prop} {A : Nat → Nat} {s p k q : Nat} (h : hz_ch A p k q) (hl : ¬ (L p ∧ k + 1 = A p)) : hz_bc L A s q = hz_bc L A s p := by
  unfold hz_bc
  rw [cn_sp0 (Q := fun j => s ≤ j ∧ hz_bl L A j p) h.1]
  · intro j hj
    rw [hz_bl_ch h]
    constructor
    · intro ⟨a, b⟩
      exact ⟨a, b.elim id (fun z => by omega)⟩
    · intro ⟨a, b⟩
      exact ⟨a, Or.inl b⟩
  · intro j h1 h2 z
    rcases (hz_bl_ch h).mp z.2 with y | y
    · have := y.2.1.1; omega
    · exact hl y.2
/-- the binder's own number is its place among the binders at q -/
theorem hz_bc_at {L : Nat → Prop} {A : Nat → Nat} {s j q : Nat} (h : hz_an A j q) : hz_bc L A s j = cn (fun i => s ≤ i ∧ hz_bl L A i q) j := by
  unfold hz_bc
  exact cn_eq fun i hi => by rw [hz_bl_bl h hi]
theorem hz_bc_ex {L : Nat → Prop} {A : Nat → Nat} {s q c : Nat} (h : c < hz_bc L A s q) : ∃ j, s ≤ j ∧ hz_bl L A j q ∧ hz_bc L A s j = c := by
  obtain ⟨j, h1, h2, h3⟩ := cn_ivt h
  exact ⟨j, h2.1, h2.2, by rw [hz_bc_at h2.2.2.1]; exact h3⟩
theorem hz_bc_lt {L : Nat → Prop} {A : Nat → Nat} {s j q : Nat} (hs : s ≤ j) (h : hz_bl L A j q) : hz_bc L A s j < hz_bc L A s q := by
  rw [hz_bc_at h.2.1]
  exact cn_lt_of (P := fun i => s ≤ i ∧ hz_bl L A i q) ⟨hs, h⟩ h.2.1.1
theorem hz_bc_u {L : Nat → Prop} {A : Nat → Nat} {s i j q : Nat} (hi : s ≤ i) (hj : s ≤ j) (h : hz_bl L A i q) (h' : hz_bl L A j q) (e : hz_bc L A s i = hz_bc L A s j) : i = j := by
  rw [hz_bc_at h.2.1, hz_bc_at h'.2.1] at e
  exact cn_inj (P := fun i => s ≤ i ∧ hz_bl L A i q) ⟨hi, h⟩ ⟨hj, h'⟩ e
end
section
/-- parameters of f, by X's signature table -/
def sp_n (S : Nat → Int32) (f : Nat) : Nat := if S (3 * f) = -1 then 0 else if S (3 * f + 1) = -1 then 1 else 2
def sp_ar (S : Nat → Int32) (o a : Int32) : Nat := if o = 6 then sp_n S a.toNatClampNeg else if o = 1 ∨ o = 2 ∨ o = 7 then 0 else if o = 9 ∨ o = 10 ∨ o = 11 ∨ o = 13 then 1 else if o = 4 then 3 else 2
def sp_A (S op arg : Nat → Int32) : Nat → Nat := fun i => sp_ar S (op i) (arg i)
def sp_ct (S : Nat → Int32) (o a τ : Int32) (k : Nat) : Int32 := if o = 4 then (if k = 0 then 0 else τ) else if o = 5 then (if k = 0 then a else τ) else if o = 6 then S (3 * a.toNatClampNeg + k) else if o = 8 then (if k = 1 then τ else if τ = 2 then 0 else 1) else if o = 9 then (if τ = 0 then 2 else 3) else if o = 10 then τ else if o = 11 then a else if o = 13 then 1 else 0
def sp_L (op : Nat → Int32) : Nat → Prop := fun j => op j = 5
def sp_ty (τ : Int32) : Prop := τ = 0 ∨ τ = 1 ∨ τ = 2 ∨ τ = 3
noncomputable def sp_sc (S op arg : Nat → Int32) (f s q : Nat) : Nat := sp_n S f + hz_bc (sp_L op) (sp_A S op arg) s q
def sp_vt (S op arg : Nat → Int32) (f s q v : Nat) (τ : Int32) : Prop := (v < sp_n S f ∧ τ = S (3 * f + v)) ∨ (∃ j, s ≤ j ∧ hz_bl (sp_L op) (sp_A S op arg) j q ∧ sp_sc S op arg f s j = v ∧ τ = arg j)
theorem sp_n_le (S : Nat → Int32) (f : Nat) : sp_n S f ≤ 2 := by unfold sp_n; split <;> (try split) <;> omega
theorem sp_ar_le (S : Nat → Int32) (o a : Int32) : sp_ar S o a ≤ 3 := by
  unfold sp_ar
  have := sp_n_le S a.toNatClampNeg
  repeat (first | omega | split)
theorem sp_A_le (S op arg : Nat → Int32) (i : Nat) : sp_A S op arg i ≤ 3 := sp_ar_le _ _ _
theorem sp_A_5 {S op arg : Nat → Int32} {i : Nat} (h : op i = 5) : sp_A S op arg i = 2 := by unfold sp_A sp_ar; rw [h]; rfl
/-- what an operation must satisfy -/
def sp_opk (nf : Nat) (S op arg ty : Nat → Int32) (f s q : Nat) : Prop :=
  (op q = 1 ∧ ty q = 0) ∨ (op q = 2 ∧ ∃ v, arg q = nI v ∧ sp_vt S op arg f s q v (ty q)) ∨ (op q = 3 ∧ ty q = 0 ∧ sp_ty (arg q)) ∨ op q = 4 ∨ (op q = 5 ∧ sp_ty (arg q) ∧ sp_sc S op arg f s q < 8) ∨
  (op q = 6 ∧ ∃ g, g < nf ∧ arg q = nI g ∧ ty q = S (3 * g + 2)) ∨ (op q = 7 ∧ (ty q = 2 ∨ ty q = 3)) ∨ (op q = 8 ∧ (ty q = 2 ∨ ty q = 3)) ∨ (op q = 9 ∧ (ty q = 0 ∨ ty q = 1)) ∨ (op q = 10 ∧ (ty q = 2 ∨ ty q = 3)) ∨
  (op q = 11 ∧ ty q = 0 ∧ (arg q = 2 ∨ arg q = 3)) ∨ (op q = 12 ∧ ty q = 1) ∨ (op q = 13 ∧ ty q = 0 ∧ (arg q = 0 ∨ arg q = 1))
def sp_tok (nf : Nat) (S op arg ty scp : Nat → Int32) (f s q : Nat) : Prop :=
  (∀ j, s < j → j ≤ q → hz_H (sp_A S op arg) s ≤ hz_H (sp_A S op arg) j) ∧
  ((q = s ∧ ty q = S (3 * f + 2)) ∨ (∃ p k, s ≤ p ∧ hz_ch (sp_A S op arg) p k q ∧ ty q = sp_ct S (op p) (arg p) (ty p) k)) ∧
  sp_ty (ty q) ∧ scp q = nI (sp_sc S op arg f s q) ∧ sp_sc S op arg f s q ≤ 8 ∧ hz_ns (sp_A S op arg) s q ≤ 10 ∧ (0 < sp_A S op arg q → hz_ns (sp_A S op arg) s q < 10) ∧ sp_opk nf S op arg ty f s q
/-- the token's facts, for all arrays that agree up to it -/
def sp_TK (nf : Nat) (S op arg ty scp : Nat → Int32) (f s q : Nat) : Prop :=
  ∀ S' op' arg' ty' scp' : Nat → Int32, (∀ g, g < 3 * nf → S' g = S g) → (∀ j, j ≤ q → op' j = op j ∧ arg' j = arg j ∧ ty' j = ty j ∧ scp' j = scp j) → sp_tok nf S' op' arg' ty' scp' f s q
theorem sp_opk_up {nf : Nat} {S op arg ty : Nat → Int32} {f s q : Nat} (h : sp_opk nf S op arg ty f s q) : sp_opk (nf + 1) S op arg ty f s q := by
  unfold sp_opk at h ⊢
  rcases h with h | h | h | h | h | ⟨h, g, hg, h'⟩ | h
  · exact Or.inl h
  · exact Or.inr (Or.inl h)
  · exact Or.inr (Or.inr (Or.inl h))
  · exact Or.inr (Or.inr (Or.inr (Or.inl h)))
  · exact Or.inr (Or.inr (Or.inr (Or.inr (Or.inl h))))
  · exact Or.inr (Or.inr (Or.inr (Or.inr (Or.inr (Or.inl ⟨h, g, by omega, h'⟩)))))
  · exact Or.inr (Or.inr (Or.inr (Or.inr (Or.inr (Or.inr h)))))
theorem sp_TK_up {nf : Nat} {S S1 op arg ty scp : Nat → Int32} {f s q : Nat} (h : sp_TK nf S op arg ty scp f s q) (e : ∀ g, g < 3 * nf → S1 g = S g) : sp_TK (nf + 1) S1 op arg ty scp f s q := by
  intro S' op' arg' ty' scp' hS ha
  obtain ⟨a, b, c, d, e1, f1, g1, h1⟩ := h S' op' arg' ty' scp' (fun g hg => by rw [hS g (by omega), e g hg]) ha
  exact ⟨a, b, c, d, e1, f1, g1, sp_opk_up h1⟩
theorem sp_TK_cg {nf : Nat} {S op arg ty scp op1 arg1 ty1 scp1 : Nat → Int32} {f s q : Nat} (h : sp_TK nf S op arg ty scp f s q) (e : ∀ j, j ≤ q → op1 j = op j ∧ arg1 j = arg j ∧ ty1 j = ty j ∧ scp1 j = scp j) : sp_TK nf S op1 arg1 ty1 scp1 f s q := by
  intro S' op' arg' ty' scp' hS ha
  refine h S' op' arg' ty' scp' hS (fun j hj => ?_)
  obtain ⟨a, b, c, d⟩ := ha j hj
  obtain ⟨a', b', c', d'⟩ := e j hj
  exact ⟨a.trans a', b.trans b', c.trans c', d.trans d'⟩
theorem sp_TK_use {nf : Nat} {S op arg ty scp : Nat → Int32} {f s q : Nat} (h : sp_TK nf S op arg ty scp f s q) : sp_tok nf S op arg ty scp f s q := h S op arg ty scp (fun _ _ => rfl) (fun _ _ => ⟨rfl, rfl, rfl, rfl⟩)
/-- a hole of the open body at stack place h -/
def sp_hole (S op arg ty : Nat → Int32) (f s t h : Nat) (hT hN hS hV : Int32) : Prop :=
  sp_ty hT ∧ ∃ n w : Nat, hS = nI n ∧ n ≤ 8 ∧ w < 4 ^ n ∧ hV = nI w ∧
  ((t = s ∧ h = 0 ∧ hT = S (3 * f + 2) ∧ hN = 1 ∧ n = sp_n S f ∧ ∀ v, v < n → nI (w / 4 ^ v % 4) = S (3 * f + v)) ∨
   (∃ p k, s ≤ p ∧ p < t ∧ k < sp_A S op arg p ∧ hz_H (sp_A S op arg) p + sp_A S op arg p - 1 - k = hz_H (sp_A S op arg) s + h ∧ (∀ j, p < j → j < t → hz_H (sp_A S op arg) s + h < hz_H (sp_A S op arg) j) ∧
     hT = sp_ct S (op p) (arg p) (ty p) k ∧ hN = nI (hz_ns (sp_A S op arg) s p + 1) ∧ hz_ns (sp_A S op arg) s p < 10 ∧ n = sp_sc S op arg f s p + (if op p = 5 ∧ k = 1 then 1 else 0) ∧
     ∀ v τ, (sp_vt S op arg f s p v τ ∨ (op p = 5 ∧ k = 1 ∧ v = sp_sc S op arg f s p ∧ τ = arg p)) → nI (w / 4 ^ v % 4) = τ))
def sp_want (S op arg ty : Nat → Int32) (f s t : Nat) (τ : Int32) : Prop := (t = s ∧ τ = S (3 * f + 2)) ∨ (∃ p k, s ≤ p ∧ hz_ch (sp_A S op arg) p k t ∧ τ = sp_ct S (op p) (arg p) (ty p) k)
theorem sp_let {S op arg : Nat → Int32} {p k : Nat} : (sp_L op p ∧ k + 1 = sp_A S op arg p) ↔ (op p = 5 ∧ k = 1) := by
  constructor
  · intro ⟨a, b⟩
    have a' : op p = 5 := a
    rw [sp_A_5 a'] at b
    exact ⟨a', by omega⟩
  · intro ⟨a, b⟩
    exact ⟨a, by rw [sp_A_5 a]; omega⟩
theorem sp_sc_ch {S op arg : Nat → Int32} {f s p k q : Nat} (hs : s ≤ p) (h : hz_ch (sp_A S op arg) p k q) : sp_sc S op arg f s q = sp_sc S op arg f s p + (if op p = 5 ∧ k = 1 then 1 else 0) := by
  unfold sp_sc
  by_cases z : op p = 5 ∧ k = 1
  · rw [if_pos z]
    have z' := (sp_let (S := S) (arg := arg)).mpr z
    rw [hz_bc_ch1 hs h z'.1 z'.2]; omega
  · rw [if_neg z, hz_bc_ch0 h (fun y => z (sp_let.mp y))]; omega
theorem sp_vt_ch {S op arg : Nat → Int32} {f s p k q v : Nat} {τ : Int32} (hs : s ≤ p) (h : hz_ch (sp_A S op arg) p k q) : sp_vt S op arg f s q v τ ↔ (sp_vt S op arg f s p v τ ∨ (op p = 5 ∧ k = 1 ∧ v = sp_sc S op arg f s p ∧ τ = arg p)) := by
  unfold sp_vt
  constructor
  · intro g
    rcases g with g | ⟨j, g1, g2, g3, g4⟩
    · exact Or.inl (Or.inl g)
    · rcases (hz_bl_ch h).mp g2 with y | ⟨rfl, y⟩
      · exact Or.inl (Or.inr ⟨j, g1, y, g3, g4⟩)
      · have y' := sp_let.mp y
        exact Or.inr ⟨y'.1, y'.2, g3.symm, g4⟩
  · intro g
    rcases g with (g | ⟨j, g1, g2, g3, g4⟩) | ⟨g1, g2, g3, g4⟩
    · exact Or.inl g
    · exact Or.inr ⟨j, g1, (hz_bl_ch h).mpr (Or.inl g2), g3, g4⟩
    · have y := (sp_let (S := S) (arg := arg)).mpr ⟨g1, g2⟩
      exact Or.inr ⟨p, hs, (hz_bl_ch h).mpr (Or.inr ⟨rfl, y.1, y.2⟩), g3.symm, g4⟩
theorem sp_vt_0 {S op arg : Nat → Int32} {f s v : Nat} {τ : Int32} : sp_vt S op arg f s s v τ ↔ (v < sp_n S f ∧ τ = S (3 * f + v)) := by
  unfold sp_vt
  constructor
  · intro g
    rcases g with g | ⟨j, g1, g2, g3, g4⟩
    · exact g
    · have := g2.2.1.1; omega
  · exact Or.inl
theorem sp_vt_ex {S op arg : Nat → Int32} {f s q v : Nat} (h : v < sp_sc S op arg f s q) : ∃ τ, sp_vt S op arg f s q v τ := by
  rcases Nat.lt_or_ge v (sp_n S f) with z | z
  · exact ⟨_, Or.inl ⟨z, rfl⟩⟩
  · unfold sp_sc at h
    obtain ⟨j, h1, h2, h3⟩ := hz_bc_ex (c := v - sp_n S f) (by omega : v - sp_n S f < hz_bc (sp_L op) (sp_A S op arg) s q)
    exact ⟨arg j, Or.inr ⟨j, h1, h2, by unfold sp_sc; omega, rfl⟩⟩
theorem sp_vt_lt {S op arg : Nat → Int32} {f s q v : Nat} {τ : Int32} (h : sp_vt S op arg f s q v τ) : v < sp_sc S op arg f s q := by
  unfold sp_sc
  rcases h with ⟨z, -⟩ | ⟨j, h1, h2, h3, -⟩
  · omega
  · have := hz_bc_lt h1 h2
    unfold sp_sc at h3; omega
theorem sp_vt_u {S op arg : Nat → Int32} {f s q v : Nat} {τ τ' : Int32} (h : sp_vt S op arg f s q v τ) (h' : sp_vt S op arg f s q v τ') : τ = τ' := by
  rcases h with ⟨z, e⟩ | ⟨j, h1, h2, h3, e⟩
  · rcases h' with ⟨z', e'⟩ | ⟨j', h1', h2', h3', e'⟩
    · rw [e, e']
    · unfold sp_sc at h3'; omega
  · rcases h' with ⟨z', e'⟩ | ⟨j', h1', h2', h3', e'⟩
    · unfold sp_sc at h3; omega
    · unfold sp_sc at h3 h3'
      have : j = j' := hz_bc_u h1 h1' h2 h2' (by omega)
      rw [e, e', this]
theorem sp_top {S op arg ty : Nat → Int32} {f s t h : Nat} {hT hN hS hV : Int32} (g : sp_hole S op arg ty f s t h hT hN hS hV) (e : hz_H (sp_A S op arg) s + h = hz_H (sp_A S op arg) t) :
    sp_ty hT ∧ sp_want S op arg ty f s t hT ∧ hN = nI (hz_ns (sp_A S op arg) s t) ∧ hz_ns (sp_A S op arg) s t ≤ 10 ∧ hS = nI (sp_sc S op arg f s t) ∧ sp_sc S op arg f s t ≤ 8 ∧
    ∃ w, w < 4 ^ sp_sc S op arg f s t ∧ hV = nI w ∧ ∀ v τ, sp_vt S op arg f s t v τ → nI (w / 4 ^ v % 4) = τ := by
  obtain ⟨g0, n, w, g1, g2, g3, g4, g5⟩ := g
  rcases g5 with ⟨rfl, a, b, c, rfl, d⟩ | ⟨p, k, a1, a2, a3, a4, a5, a6, a7, a8, rfl, a10⟩
  · have e0 : sp_sc S op arg f t t = sp_n S f := by unfold sp_sc; rw [hz_bc_0]; rfl
    refine ⟨g0, Or.inl ⟨rfl, b⟩, by rw [hz_ns_0]; exact c, by rw [hz_ns_0]; omega, by rw [e0]; exact g1, by rw [e0]; exact g2, w, by rw [e0]; exact g3, g4, fun v τ hv => ?_⟩
    obtain ⟨hv1, hv2⟩ := sp_vt_0.mp hv
    rw [hv2]; exact d v hv1
  · have hc : hz_ch (sp_A S op arg) p k t := ⟨a2, a3, by omega, fun j h1 h2 => by have := a5 j h1 h2; omega⟩
    have e1 := sp_sc_ch (f := f) a1 hc
    have e2 := hz_ns_ch a1 hc
    refine ⟨g0, Or.inr ⟨p, k, a1, hc, a6⟩, by rw [e2]; exact a7, by omega, by rw [e1]; exact g1, by rw [e1]; exact g2, w, by rw [e1]; exact g3, g4, fun v τ hv => ?_⟩
    exact a10 v τ ((sp_vt_ch a1 hc).mp hv)
end
section
def uf_R (p : Nat → Nat) : Nat → Nat → Nat
  | 0, v => v
  | n + 1, v => if p v = v then v else uf_R p n (p v)
def uf_r (p : Nat → Nat) (v : Nat) : Nat := uf_R p (v + 1) v
theorem uf_R_eq {p : Nat → Nat} (hp : ∀ v, p v ≤ v) : ∀ n m v, v < n → v < m → uf_R p n v = uf_R p m v
  | 0, _, _, h, _ => absurd h (Nat.not_lt_zero _)
  | _ + 1, 0, _, _, h => absurd h (Nat.not_lt_zero _)
  | n + 1, m + 1, v, h1, h2 => by
    by_cases z : p v = v
    · simp only [uf_R, z, if_true]
    · simp only [uf_R, if_neg z]
      have := hp v
      exact uf_R_eq hp n m (p v) (by omega) (by omega)
theorem uf_r_fix {p : Nat → Nat} {v : Nat} (h : p v = v) : uf_r p v = v := by simp only [uf_r, uf_R, h, if_true]
theorem uf_r_up {p : Nat → Nat} (hp : ∀ v, p v ≤ v) {v : Nat} : uf_r p v = uf_r p (p v) := by
  by_cases z : p v = v
  · rw [z]
  · have := hp v
    show uf_R p (v + 1) v = uf_R p (p v + 1) (p v)
    simp only [uf_R, if_neg z]
    exact uf_R_eq hp v (p v + 1) (p v) (by omega) (by omega)
theorem uf_r_le {p : Nat → Nat} (hp : ∀ v, p v ≤ v) : ∀ n v, v < n → uf_r p v ≤ v ∧ p (uf_r p v) = uf_r p v
  | 0, _, h => absurd h (Nat.not_lt_zero _)
  | n + 1, v, h => by
    by_cases z : p v = v
    · rw [uf_r_fix z]; exact ⟨Nat.le_refl _, z⟩
    · have h1 := hp v
      have h2 := uf_r_le hp n (p v) (by omega)
      rw [uf_r_up hp]
      exact ⟨by omega, h2.2⟩
theorem uf_le {p : Nat → Nat} (hp : ∀ v, p v ≤ v) (v : Nat) : uf_r p v ≤ v := (uf_r_le hp (v + 1) v (by omega)).1
theorem uf_fx {p : Nat → Nat} (hp : ∀ v, p v ≤ v) (v : Nat) : p (uf_r p v) = uf_r p v := (uf_r_le hp (v + 1) v (by omega)).2
theorem uf_col {p col : Nat → Nat} (hp : ∀ v, p v ≤ v) (hc : ∀ v, col (p v) = col v) : ∀ n v, v < n → col (uf_r p v) = col v
  | 0, _, h => absurd h (Nat.not_lt_zero _)
  | n + 1, v, h => by
    by_cases z : p v = v
    · rw [uf_r_fix z]
    · have h1 := hp v
      rw [uf_r_up hp, uf_col hp hc n (p v) (by omega), hc]
/-- join b under a (a < b, both roots) -/
def uf_J (p : Nat → Nat) (a b : Nat) : Nat → Nat := fun v => if v = b then a else p v
theorem uf_J_le {p : Nat → Nat} {a b : Nat} (hp : ∀ v, p v ≤ v) (h : a < b) : ∀ v, uf_J p a b v ≤ v := by
  intro v
  unfold uf_J
  split
  · omega
  · exact hp v
theorem uf_J_r {p : Nat → Nat} {a b : Nat} (hp : ∀ v, p v ≤ v) (h : a < b) (ha : p a = a) (hb : p b = b) : ∀ n v, v < n → uf_r (uf_J p a b) v = if uf_r p v = b then a else uf_r p v
  | 0, _, h => absurd h (Nat.not_lt_zero _)
  | n + 1, v, hv => by
    have hJ := uf_J_le hp h
    have ja : uf_J p a b a = a := by
      unfold uf_J
      rw [if_neg (by omega)]; exact ha
    by_cases z : v = b
    · subst z
      have jv : uf_J p a v v = a := by unfold uf_J; rw [if_pos rfl]
      rw [uf_r_up hJ, jv, uf_r_fix ja, uf_r_fix hb, if_pos rfl]
    · have jv : uf_J p a b v = p v := by unfold uf_J; rw [if_neg z]
      by_cases y : p v = v
      · have jv' : uf_J p a b v = v := by rw [jv, y]
        rw [uf_r_fix jv', uf_r_fix y, if_neg z]
      · have h1 := hp v
        rw [uf_r_up hJ, jv, uf_J_r hp h ha hb n (p v) (by omega), ← uf_r_up hp]
def uf_E (p : Nat → Nat) (v w : Nat) : Prop := uf_r p v = uf_r p w
noncomputable def uf_c (p : Nat → Nat) : Nat := cn (fun v => p v = v) 240
theorem uf_c_pos {p : Nat → Nat} (hp : ∀ v, p v ≤ v) : 0 < uf_c p := by
  have h0 : p 0 = 0 := by have := hp 0; omega
  have := cn_lt_of (P := fun v => p v = v) (j := 0) (q := 240) h0 (by omega)
  unfold uf_c; omega
theorem uf_c_le (p : Nat → Nat) : uf_c p ≤ 240 := cn_le _ _
theorem uf_J_c {p : Nat → Nat} {a b : Nat} (h : a < b) (hb : p b = b) (h2 : b < 240) : uf_c (uf_J p a b) < uf_c p := by
  unfold uf_c
  refine cn_lt (Q := fun v => p v = v) (a := b) ?_ hb (fun k hk z => ?_) h2
  · unfold uf_J
    rw [if_pos rfl]; omega
  · unfold uf_J at z
    by_cases y : k = b
    · rw [y]; exact hb
    · rw [if_neg y] at z; exact z
def uf_ok (col p : Nat → Nat) (par : Nat → Int32) : Prop := (∀ v, p v ≤ v) ∧ (∀ v, col (p v) = col v) ∧ (∀ v, v < 240 → par v = nI (p v))
/-- how the classes grow -/
def uf_G (col p : Nat → Nat) (ch : Int32) (p' : Nat → Nat) (par' : Nat → Int32) (ch' : Int32) : Prop :=
  uf_ok col p' par' ∧ (∀ v w, uf_E p v w → uf_E p' v w) ∧ ((p' = p ∧ ch' = ch) ∨ (ch' = 1 ∧ uf_c p' < uf_c p))
theorem uf_G_rf {col p : Nat → Nat} {par : Nat → Int32} {ch : Int32} (h : uf_ok col p par) : uf_G col p ch p par ch := ⟨h, fun _ _ z => z, Or.inl ⟨rfl, rfl⟩⟩
theorem uf_G_tr {col p p1 p2 : Nat → Nat} {par1 par2 : Nat → Int32} {ch ch1 ch2 : Int32} (h : uf_G col p ch p1 par1 ch1) (h' : uf_G col p1 ch1 p2 par2 ch2) : uf_G col p ch p2 par2 ch2 := by
  obtain ⟨a, b, c⟩ := h
  obtain ⟨a', b', c'⟩ := h'
  refine ⟨a', fun v w z => b' v w (b v w z), ?_⟩
  rcases c with ⟨rfl, rfl⟩ | ⟨rfl, c⟩
  · exact c'
  · rcases c' with ⟨rfl, rfl⟩ | ⟨rfl, c'⟩
    · exact Or.inr ⟨rfl, c⟩
    · exact Or.inr ⟨rfl, by omega⟩
/-- one union, purely -/
theorem uf_un {col p : Nat → Nat} {par : Nat → Int32} {ch : Int32} {x y a b : Nat} (h : uf_ok col p par) (hab : a < b) (hb : b < 240) (hc : col x = col y)
    (e : (uf_r p x = a ∧ uf_r p y = b) ∨ (uf_r p x = b ∧ uf_r p y = a)) : uf_G col p ch (uf_J p a b) (upd par b (nI a)) 1 ∧ uf_E (uf_J p a b) x y := by
  obtain ⟨h1, h2, h3⟩ := h
  have hx := uf_fx h1 x
  have hy := uf_fx h1 y
  have cx := uf_col h1 h2 (x + 1) x (by omega)
  have cy := uf_col h1 h2 (y + 1) y (by omega)
  have pa : p a = a := by rcases e with ⟨e1, e2⟩ | ⟨e1, e2⟩ <;> rw [e1] at hx <;> rw [e2] at hy <;> assumption
  have pb : p b = b := by rcases e with ⟨e1, e2⟩ | ⟨e1, e2⟩ <;> rw [e1] at hx <;> rw [e2] at hy <;> assumption
  have cab : col a = col b := by rcases e with ⟨e1, e2⟩ | ⟨e1, e2⟩ <;> rw [e1] at cx <;> rw [e2] at cy <;> omega
  have R := fun v => uf_J_r h1 hab pa pb (v + 1) v (by omega)
  refine ⟨⟨⟨uf_J_le h1 hab, fun v => ?_, fun v hv => ?_⟩, fun v w z => ?_, Or.inr ⟨rfl, uf_J_c hab pb hb⟩⟩, ?_⟩
  · unfold uf_J
    by_cases z : v = b
    · rw [if_pos z, z, cab]
    · rw [if_neg z, h2]
  · by_cases z : v = b
    · subst z
      rw [pk_us]; unfold uf_J; rw [if_pos rfl]
    · rw [pk_un z, h3 v hv]; unfold uf_J; rw [if_neg z]
  · unfold uf_E at z ⊢
    rw [R, R, z]
  · unfold uf_E
    rw [R, R]
    rcases e with ⟨e1, e2⟩ | ⟨e1, e2⟩
    · rw [e1, e2, if_pos rfl, if_neg (by omega)]
    · rw [e1, e2, if_pos rfl, if_neg (by omega)]
section
variable {f_functionLimit f_tokenLimit f_cellLimit f_depthLimit f_functions f_accepted f_placed f_openBody f_holeCount f_nextRegion f_changed f_freeCell f_active f_calls f_taskTop f_valueTop f_releasing f_outcome f_peakUsed f_resultSize : Int32} {a_sigType a_params a_kept a_start a_finished a_tokOp a_tokArg a_tokType a_tokScope a_end a_holeType a_holeNest a_holeScope a_holeVars a_parent a_region a_sigRegions a_allRegions a_cellA a_cellB a_link a_live a_frameFunction a_vars a_saved a_env a_regionFirst a_tasks a_values a_used a_result : Nat → Int32}
theorem ux_find4 {post : Int32 → Prop} {col p : Nat → Nat} (h : uf_ok col p a_parent) : ∀ n v k : Nat, k + v < 240 → v < n → post (nI (uf_r p v)) → wX_find_4 post f_functionLimit f_tokenLimit f_cellLimit f_depthLimit f_functions f_accepted f_placed f_openBody f_holeCount f_nextRegion f_changed f_freeCell f_active f_calls f_taskTop f_valueTop f_releasing f_outcome f_peakUsed f_resultSize a_sigType a_params a_kept a_start a_finished a_tokOp a_tokArg a_tokType a_tokScope a_end a_holeType a_holeNest a_holeScope a_holeVars a_parent a_region a_sigRegions a_allRegions a_cellA a_cellB a_link a_live a_frameFunction a_vars a_saved a_env a_regionFirst a_tasks a_values a_used a_result n (nI v) (nI k)
  | 0, _, _, _, h, _ => absurd h (Nat.not_lt_zero _)
  | n + 1, v, k, h1, h2, hp => by
    have hk : ¬ (240 : Int32) ≤ nI k := nI_ge (b := 240) (by omega) (by decide)
    have cl : (nI v).toNatClampNeg = v := nI_clamp (by omega)
    have hv := h.2.2 v (by omega)
    refine br_f hk ⟨vp_in_nI (by omega) (by decide), ?_⟩
    rw [cl, hv]
    by_cases z : p v = v
    · rw [uf_r_fix z] at hp
      exact br_t (by rw [z]) hp
    · have hle := h.1 v
      refine br_f (fun y => z ((nI_eq (by omega) (by omega)).mp y)) ⟨vp_in_nI (by omega) (by decide), nm_e (nm_r (nI_1 k) ?_)⟩
      exact ux_find4 h n (p v) (k + 1) (by omega) (by omega) (by rw [← uf_r_up h.1]; exact hp)
theorem ux_find {post : Int32 → Prop} {col p : Nat → Nat} {v : Nat} (h : uf_ok col p a_parent) (hv : v < 240) (hp : post (nI (uf_r p v))) : wpX_find post (f_functionLimit, f_tokenLimit, f_cellLimit, f_depthLimit, f_functions, f_accepted, f_placed, f_openBody, f_holeCount, f_nextRegion, f_changed, f_freeCell, f_active, f_calls, f_taskTop, f_valueTop, f_releasing, f_outcome, f_peakUsed, f_resultSize, a_sigType, a_params, a_kept, a_start, a_finished, a_tokOp, a_tokArg, a_tokType, a_tokScope, a_end, a_holeType, a_holeNest, a_holeScope, a_holeVars, a_parent, a_region, a_sigRegions, a_allRegions, a_cellA, a_cellB, a_link, a_live, a_frameFunction, a_vars, a_saved, a_env, a_regionFirst, a_tasks, a_values, a_used, a_result) (nI v) :=
  ⟨v + 1, ux_find4 h (v + 1) v 0 (by omega) (by omega) hp⟩
theorem ux_union {post : SX → Prop} {col p : Nat → Nat} {x y : Nat} (h : uf_ok col p a_parent) (hx : x < 240) (hy : y < 240) (hc : col x = col y)
    (k : ∀ p' par' ch', uf_G col p f_changed p' par' ch' → uf_E p' x y → post (f_functionLimit, f_tokenLimit, f_cellLimit, f_depthLimit, f_functions, f_accepted, f_placed, f_openBody, f_holeCount, f_nextRegion, ch', f_freeCell, f_active, f_calls, f_taskTop, f_valueTop, f_releasing, f_outcome, f_peakUsed, f_resultSize, a_sigType, a_params, a_kept, a_start, a_finished, a_tokOp, a_tokArg, a_tokType, a_tokScope, a_end, a_holeType, a_holeNest, a_holeScope, a_holeVars, par', a_region, a_sigRegions, a_allRegions, a_cellA, a_cellB, a_link, a_live, a_frameFunction, a_vars, a_saved, a_env, a_regionFirst, a_tasks, a_values, a_used, a_result)) : wpX_union post (f_functionLimit, f_tokenLimit, f_cellLimit, f_depthLimit, f_functions, f_accepted, f_placed, f_openBody, f_holeCount, f_nextRegion, f_changed, f_freeCell, f_active, f_calls, f_taskTop, f_valueTop, f_releasing, f_outcome, f_peakUsed, f_resultSize, a_sigType, a_params, a_kept, a_start, a_finished, a_tokOp, a_tokArg, a_tokType, a_tokScope, a_end, a_holeType, a_holeNest, a_holeScope, a_holeVars, a_parent, a_region, a_sigRegions, a_allRegions, a_cellA, a_cellB, a_link, a_live, a_frameFunction, a_vars, a_saved, a_env, a_regionFirst, a_tasks, a_values, a_used, a_result) (nI x) (nI y) := by
  have lx := uf_le h.1 x
  have ly := uf_le h.1 y
  refine ux_find h hx (ux_find h hy ?_)
  rcases Nat.lt_trichotomy (uf_r p x) (uf_r p y) with z | z | z
  · obtain ⟨g1, g2⟩ := uf_un (ch := f_changed) h z (by omega) hc (Or.inl ⟨rfl, rfl⟩)
    refine br_f ?_ (br_f ?_ ⟨vp_in_nI (by omega) (by decide), nm_e ?_⟩)
    · exact fun e => by have := (nI_eq (by omega) (by omega)).mp e; omega
    · exact nI_ge z (by omega)
    · rw [nI_clamp (by omega)]; exact k _ _ _ g1 g2
  · exact br_t (by rw [z]) (k p a_parent f_changed (uf_G_rf h) z)
  · obtain ⟨g1, g2⟩ := uf_un (ch := f_changed) h z (by omega) hc (Or.inr ⟨rfl, rfl⟩)
    refine br_f ?_ (br_t ?_ ⟨vp_in_nI (by omega) (by decide), nm_e ?_⟩)
    · exact fun e => by have := (nI_eq (by omega) (by omega)).mp e; omega
    · exact nI_le (by omega) (by omega)
    · rw [nI_clamp (by omega)]; exact k _ _ _ g1 g2
theorem ux_unify {post : SX → Prop} {col p : Nat → Nat} {x y : Nat} (h : uf_ok col p a_parent) (hx : x + 1 < 240) (hy : y + 1 < 240) (hc : col x = col y) (hc' : col (x + 1) = col (y + 1))
    (k : ∀ p' par' ch', uf_G col p f_changed p' par' ch' → uf_E p' x y → uf_E p' (x + 1) (y + 1) → post (f_functionLimit, f_tokenLimit, f_cellLimit, f_depthLimit, f_functions, f_accepted, f_placed, f_openBody, f_holeCount, f_nextRegion, ch', f_freeCell, f_active, f_calls, f_taskTop, f_valueTop, f_releasing, f_outcome, f_peakUsed, f_resultSize, a_sigType, a_params, a_kept, a_start, a_finished, a_tokOp, a_tokArg, a_tokType, a_tokScope, a_end, a_holeType, a_holeNest, a_holeScope, a_holeVars, par', a_region, a_sigRegions, a_allRegions, a_cellA, a_cellB, a_link, a_live, a_frameFunction, a_vars, a_saved, a_env, a_regionFirst, a_tasks, a_values, a_used, a_result)) : wpX_unify post (f_functionLimit, f_tokenLimit, f_cellLimit, f_depthLimit, f_functions, f_accepted, f_placed, f_openBody, f_holeCount, f_nextRegion, f_changed, f_freeCell, f_active, f_calls, f_taskTop, f_valueTop, f_releasing, f_outcome, f_peakUsed, f_resultSize, a_sigType, a_params, a_kept, a_start, a_finished, a_tokOp, a_tokArg, a_tokType, a_tokScope, a_end, a_holeType, a_holeNest, a_holeScope, a_holeVars, a_parent, a_region, a_sigRegions, a_allRegions, a_cellA, a_cellB, a_link, a_live, a_frameFunction, a_vars, a_saved, a_env, a_regionFirst, a_tasks, a_values, a_used, a_result) (nI x) (nI y) := by
  unfold wpX_unify
  refine ux_union h (by omega) (by omega) hc (fun p1 par1 ch1 a1 b1 => ?_)
  show wpX_union _ (f_functionLimit, f_tokenLimit, f_cellLimit, f_depthLimit, f_functions, f_accepted, f_placed, f_openBody, f_holeCount, f_nextRegion, ch1, f_freeCell, f_active, f_calls, f_taskTop, f_valueTop, f_releasing, f_outcome, f_peakUsed, f_resultSize, a_sigType, a_params, a_kept, a_start, a_finished, a_tokOp, a_tokArg, a_tokType, a_tokScope, a_end, a_holeType, a_holeNest, a_holeScope, a_holeVars, par1, a_region, a_sigRegions, a_allRegions, a_cellA, a_cellB, a_link, a_live, a_frameFunction, a_vars, a_saved, a_env, a_regionFirst, a_tasks, a_values, a_used, a_result) (nI x + 1) (nI y + 1)
  rw [nI_1, nI_1]
  exact ux_union a1.1 hx hy hc' (fun p2 par2 ch2 a2 b2 => k p2 par2 ch2 (uf_G_tr a1 a2) (a2.2.1 _ _ b1) b2)
end
end
section
/-- signature facts of function f -/
def sp_sf (S : Nat → Int32) (f : Nat) : Prop := sp_ty (S (3 * f + 2)) ∧ (S (3 * f) = -1 ∨ sp_ty (S (3 * f))) ∧ (S (3 * f + 1) = -1 ∨ sp_ty (S (3 * f + 1))) ∧ (S (3 * f) = -1 → S (3 * f + 1) = -1)
/-- a closed program: all bodies finished; en is the end of every token -/
def pc_ok (nf t : Nat) (S op arg ty scp : Nat → Int32) (sN fo en : Nat → Nat) : Prop :=
  t ≤ 96 ∧ nf ≤ 8 ∧ (∀ f, f < nf → sp_sf S f) ∧
  (∀ f, f < nf → sN f < t ∧ en (sN f) ≤ t ∧ ∀ q, q < t → (fo q = f ↔ (sN f ≤ q ∧ q < en (sN f)))) ∧
  (∀ q, q < t → fo q < nf ∧ sp_tok nf S op arg ty scp (fo q) (sN (fo q)) q ∧ hz_en (sp_A S op arg) q (en q))
section
variable {nf t : Nat} {S op arg ty scp : Nat → Int32} {sN fo en : Nat → Nat}
theorem pc_fo (P : pc_ok nf t S op arg ty scp sN fo en) {q : Nat} (h : q < t) : fo q < nf := (P.2.2.2.2 q h).1
theorem pc_tok (P : pc_ok nf t S op arg ty scp sN fo en) {q : Nat} (h : q < t) : sp_tok nf S op arg ty scp (fo q) (sN (fo q)) q := (P.2.2.2.2 q h).2.1
theorem pc_en (P : pc_ok nf t S op arg ty scp sN fo en) {q : Nat} (h : q < t) : hz_en (sp_A S op arg) q (en q) := (P.2.2.2.2 q h).2.2
theorem pc_in (P : pc_ok nf t S op arg ty scp sN fo en) {q : Nat} (h : q < t) : sN (fo q) ≤ q ∧ q < en (sN (fo q)) := ((P.2.2.2.1 (fo q) (pc_fo P h)).2.2 q h).mp rfl
theorem pc_sN (P : pc_ok nf t S op arg ty scp sN fo en) {f : Nat} (h : f < nf) : sN f < t ∧ en (sN f) ≤ t := ⟨(P.2.2.2.1 f h).1, (P.2.2.2.1 f h).2.1⟩
theorem pc_mem (P : pc_ok nf t S op arg ty scp sN fo en) {f q : Nat} (h : f < nf) (h1 : sN f ≤ q) (h2 : q < en (sN f)) : q < t ∧ fo q = f := by
  have a := P.2.2.2.1 f h
  have : q < t := by omega
  exact ⟨this, (a.2.2 q this).mpr ⟨h1, h2⟩⟩
theorem pc_foS (P : pc_ok nf t S op arg ty scp sN fo en) {f : Nat} (h : f < nf) : fo (sN f) = f := by
  have a := pc_sN P h
  exact (pc_mem P h (Nat.le_refl _) (pc_en P a.1).1).2
/-- ends nest -/
theorem pc_end (P : pc_ok nf t S op arg ty scp sN fo en) {q : Nat} (h : q < t) : q < en q ∧ en q ≤ en (sN (fo q)) ∧ en q ≤ t := by
  have a := pc_en P h
  have b := pc_in P h
  have c := pc_sN P (pc_fo P h)
  have d := pc_en P c.1
  obtain ⟨e, e1, e2⟩ := hz_en_ex d b.1 b.2
  have := hz_en_u a e1
  have := a.1
  omega
theorem pc_desc (P : pc_ok nf t S op arg ty scp sN fo en) {q c : Nat} (h : q < t) (h1 : q ≤ c) (h2 : c < en q) : c < t ∧ fo c = fo q := by
  have a := pc_end P h
  have b := pc_in P h
  exact pc_mem P (pc_fo P h) (by omega) (by omega)
/-- what a child has -/
def pc_ch (t : Nat) (S op arg ty : Nat → Int32) (sN fo en : Nat → Nat) (q k c : Nat) : Prop :=
  hz_ch (sp_A S op arg) q k c ∧ q < c ∧ c < en q ∧ c < t ∧ fo c = fo q ∧ en c ≤ en q ∧ ty c = sp_ct S (op q) (arg q) (ty q) k
theorem pc_ch_of (P : pc_ok nf t S op arg ty scp sN fo en) {q k c : Nat} (h : q < t) (hc : hz_ch (sp_A S op arg) q k c) : pc_ch t S op arg ty sN fo en q k c := by
  have a := pc_en P h
  have han := hz_ch_an hc
  have lt : c < en q := by
    rcases Nat.lt_or_ge c (en q) with z | z
    · exact z
    · have := han.2 (en q) a.1 z
      have := a.2.1
      omega
  have d := pc_desc P h (Nat.le_of_lt hc.1) lt
  obtain ⟨e, e1, e2⟩ := hz_en_ex a (Nat.le_of_lt hc.1) lt
  have e3 := hz_en_u e1 (pc_en P d.1)
  refine ⟨hc, hc.1, lt, d.1, d.2, by omega, ?_⟩
  have T := pc_tok P d.1
  have b := pc_in P h
  rcases T.2.1 with ⟨z, -⟩ | ⟨p, k', -, z2, z3⟩
  · rw [d.2] at z
    have := hc.1; omega
  · obtain ⟨rfl, rfl⟩ := hz_ch_u z2 hc
    exact z3
theorem pc_c0 (P : pc_ok nf t S op arg ty scp sN fo en) {q : Nat} (h : q < t) (k : 0 < sp_A S op arg q) : pc_ch t S op arg ty sN fo en q 0 (q + 1) := pc_ch_of P h (hz_ch0 k)
theorem pc_c1 (P : pc_ok nf t S op arg ty scp sN fo en) {q : Nat} (h : q < t) (k : 1 < sp_A S op arg q) : pc_ch t S op arg ty sN fo en q 1 (en (q + 1)) := by
  have a := pc_c0 P h (by omega)
  exact pc_ch_of P h (hz_chs a.1 (pc_en P a.2.2.2.1) k)
theorem pc_c2 (P : pc_ok nf t S op arg ty scp sN fo en) {q : Nat} (h : q < t) (k : 2 < sp_A S op arg q) : pc_ch t S op arg ty sN fo en q 2 (en (en (q + 1))) := by
  have a := pc_c1 P h (by omega)
  exact pc_ch_of P h (hz_chs a.1 (pc_en P a.2.2.2.1) k)
theorem pc_e0 (P : pc_ok nf t S op arg ty scp sN fo en) {q : Nat} (h : q < t) (k : sp_A S op arg q = 0) : en q = q + 1 := hz_en_u (pc_en P h) (hz_en0 k)
theorem pc_e1 (P : pc_ok nf t S op arg ty scp sN fo en) {q : Nat} (h : q < t) (k : sp_A S op arg q = 1) : en q = en (q + 1) := by
  have a := pc_c0 P h (by omega)
  exact hz_en_u (pc_en P h) (hz_che a.1 (pc_en P a.2.2.2.1) (by omega))
theorem pc_e2 (P : pc_ok nf t S op arg ty scp sN fo en) {q : Nat} (h : q < t) (k : sp_A S op arg q = 2) : en q = en (en (q + 1)) := by
  have a := pc_c1 P h (by omega)
  exact hz_en_u (pc_en P h) (hz_che a.1 (pc_en P a.2.2.2.1) (by omega))
theorem pc_e3 (P : pc_ok nf t S op arg ty scp sN fo en) {q : Nat} (h : q < t) (k : sp_A S op arg q = 3) : en q = en (en (en (q + 1))) := by
  have a := pc_c2 P h (by omega)
  exact hz_en_u (pc_en P h) (hz_che a.1 (pc_en P a.2.2.2.1) (by omega))
/-- binding, by ends -/
theorem pc_bl (P : pc_ok nf t S op arg ty scp sN fo en) {j i : Nat} (hi : i < t) (hj : j < i) : hz_bl (sp_L op) (sp_A S op arg) j i ↔ (op j = 5 ∧ en (j + 1) ≤ i ∧ i < en j) := by
  have ej := pc_en P (show j < t by omega)
  constructor
  · intro ⟨g1, g2, r, r1, r2, r3⟩
    have h5 : op j = 5 := g1
    have hA : sp_A S op arg j = 2 := sp_A_5 h5
    have c0 := pc_c0 P (show j < t by omega) (by omega)
    have e0 := pc_en P c0.2.2.2.1
    have hH := hz_s (sp_A S op arg) j
    refine ⟨h5, ?_, ?_⟩
    · rcases Nat.lt_or_ge i (en (j + 1)) with z | z
      · have hne : r ≠ j + 1 := fun y => by rw [y] at r3; omega
        have := e0.2.2 r (by omega) (by omega)
        omega
      · exact z
    · rcases Nat.lt_or_ge i (en j) with z | z
      · exact z
      · have a := g2.2 (en j) ej.1 z
        have b := ej.2.1
        omega
  · intro ⟨h5, g1, g2⟩
    have hA : sp_A S op arg j = 2 := sp_A_5 h5
    have c0 := pc_c0 P (show j < t by omega) (by omega)
    have e0 := pc_en P c0.2.2.2.1
    have hH := hz_s (sp_A S op arg) j
    refine ⟨h5, ⟨hj, fun r r1 r2 => ej.2.2 r r1 (by omega)⟩, en (j + 1), ?_, g1, ?_⟩
    · have := e0.1; omega
    · have := e0.2.1; omega
theorem pc_scp (P : pc_ok nf t S op arg ty scp sN fo en) {q : Nat} (h : q < t) : scp q = nI (sp_sc S op arg (fo q) (sN (fo q)) q) ∧ sp_sc S op arg (fo q) (sN (fo q)) q ≤ 8 := ⟨(pc_tok P h).2.2.2.1, (pc_tok P h).2.2.2.2.1⟩
theorem pc_opk (P : pc_ok nf t S op arg ty scp sN fo en) {q : Nat} (h : q < t) : sp_opk nf S op arg ty (fo q) (sN (fo q)) q := (pc_tok P h).2.2.2.2.2.2.2
theorem pc_ty (P : pc_ok nf t S op arg ty scp sN fo en) {q : Nat} (h : q < t) : sp_ty (ty q) := (pc_tok P h).2.2.1
/-- the operation's cases, for branching -/
def pc_cs (nf : Nat) (S op arg ty : Nat → Int32) (f s q : Nat) : Prop := sp_opk nf S op arg ty f s q
/-- a VAR token: parameter or LET -/
def pc_var (S op arg ty : Nat → Int32) (sN fo : Nat → Nat) (q v : Nat) : Prop :=
  (v < sp_n S (fo q) ∧ ty q = S (3 * fo q + v)) ∨ (sp_n S (fo q) ≤ v ∧ ∃ j, sN (fo q) ≤ j ∧ j < q ∧ hz_bl (sp_L op) (sp_A S op arg) j q ∧ sp_sc S op arg (fo q) (sN (fo q)) j = v ∧ ty q = arg j)
theorem pc_var_of (P : pc_ok nf t S op arg ty scp sN fo en) {q : Nat} (h : q < t) (h2 : op q = 2) : ∃ v, v < 8 ∧ v < sp_sc S op arg (fo q) (sN (fo q)) q ∧ arg q = nI v ∧ pc_var S op arg ty sN fo q v := by
  have K := pc_opk P h
  have hs := (pc_scp P h).2
  unfold sp_opk at K
  rw [h2] at K
  rcases K with ⟨z, -⟩ | ⟨-, v, e, K⟩ | ⟨z, -⟩ | z | ⟨z, -⟩ | ⟨z, -⟩ | ⟨z, -⟩ | ⟨z, -⟩ | ⟨z, -⟩ | ⟨z, -⟩ | ⟨z, -⟩ | ⟨z, -⟩ | ⟨z, -⟩
  · exact absurd z (by decide)
  · have lt := sp_vt_lt K
    refine ⟨v, by omega, lt, e, ?_⟩
    rcases K with K | ⟨j, k1, k2, k3, k4⟩
    · exact Or.inl K
    · refine Or.inr ⟨?_, j, k1, k2.2.1.1, k2, k3, k4⟩
      rw [← k3]; unfold sp_sc; omega
  all_goals exact absurd z (by decide)
end
end
section
def sp_o13 (o : Int32) : Prop := o = 1 ∨ o = 2 ∨ o = 3 ∨ o = 4 ∨ o = 5 ∨ o = 6 ∨ o = 7 ∨ o = 8 ∨ o = 9 ∨ o = 10 ∨ o = 11 ∨ o = 12 ∨ o = 13
theorem sp_opk_13 {nf : Nat} {S op arg ty : Nat → Int32} {f s q : Nat} (h : sp_opk nf S op arg ty f s q) : sp_o13 (op q) := by
  unfold sp_opk at h
  unfold sp_o13
  rcases h with ⟨z, -⟩ | ⟨z, -⟩ | ⟨z, -⟩ | z | ⟨z, -⟩ | ⟨z, -⟩ | ⟨z, -⟩ | ⟨z, -⟩ | ⟨z, -⟩ | ⟨z, -⟩ | ⟨z, -⟩ | ⟨z, -⟩ | ⟨z, -⟩
  · exact Or.inl z
  · exact Or.inr (Or.inl z)
  · exact Or.inr (Or.inr (Or.inl z))
  · exact Or.inr (Or.inr (Or.inr (Or.inl z)))
  · exact Or.inr (Or.inr (Or.inr (Or.inr (Or.inl z))))
  · exact Or.inr (Or.inr (Or.inr (Or.inr (Or.inr (Or.inl z)))))
  · exact Or.inr (Or.inr (Or.inr (Or.inr (Or.inr (Or.inr (Or.inl z))))))
  · exact Or.inr (Or.inr (Or.inr (Or.inr (Or.inr (Or.inr (Or.inr (Or.inl z)))))))
  · exact Or.inr (Or.inr (Or.inr (Or.inr (Or.inr (Or.inr (Or.inr (Or.inr (Or.inl z))))))))
  · exact Or.inr (Or.inr (Or.inr (Or.inr (Or.inr (Or.inr (Or.inr (Or.inr (Or.inr (Or.inl z)))))))))
  · exact Or.inr (Or.inr (Or.inr (Or.inr (Or.inr (Or.inr (Or.inr (Or.inr (Or.inr (Or.inr (Or.inl z))))))))))
  · exact Or.inr (Or.inr (Or.inr (Or.inr (Or.inr (Or.inr (Or.inr (Or.inr (Or.inr (Or.inr (Or.inr (Or.inl z)))))))))))
  · exact Or.inr (Or.inr (Or.inr (Or.inr (Or.inr (Or.inr (Or.inr (Or.inr (Or.inr (Or.inr (Or.inr (Or.inr z)))))))))))
/-- a call's argument -/
theorem sp_opk_6 {nf : Nat} {S op arg ty : Nat → Int32} {f s q : Nat} (h : sp_opk nf S op arg ty f s q) (h6 : op q = 6) : ∃ g, g < nf ∧ arg q = nI g ∧ ty q = S (3 * g + 2) := by
  unfold sp_opk at h
  rw [h6] at h
  rcases h with ⟨z, -⟩ | ⟨z, -⟩ | ⟨z, -⟩ | z | ⟨z, -⟩ | ⟨z, y⟩ | ⟨z, -⟩ | ⟨z, -⟩ | ⟨z, -⟩ | ⟨z, -⟩ | ⟨z, -⟩ | ⟨z, -⟩ | ⟨z, -⟩
  case inr.inr.inr.inr.inr.inl => exact y
  all_goals exact absurd z (by decide)
def zi : Nat → Int32
  | 0 => -1
  | i + 1 => nI i
theorem zi_m1 (i : Nat) : nI i + (-1) = zi i := by
  cases i with
  | zero => rfl
  | succ i => exact pk_m1 i
theorem zi_s1 (i : Nat) : nI i - 1 = zi i := by
  cases i with
  | zero => rfl
  | succ i => exact nI_pred i
section
variable {f_functionLimit f_tokenLimit f_cellLimit f_depthLimit f_functions f_accepted f_placed f_openBody f_holeCount f_nextRegion f_changed f_freeCell f_active f_calls f_taskTop f_valueTop f_releasing f_outcome f_peakUsed f_resultSize : Int32} {a_sigType a_params a_kept a_start a_finished a_tokOp a_tokArg a_tokType a_tokScope a_end a_holeType a_holeNest a_holeScope a_holeVars a_parent a_region a_sigRegions a_allRegions a_cellA a_cellB a_link a_live a_frameFunction a_vars a_saved a_env a_regionFirst a_tasks a_values a_used a_result : Nat → Int32}
theorem ux_arity {post : Int32 → Prop} {o a : Int32} (ho : sp_o13 o) (h6 : o = 6 → ∃ g, g < 8 ∧ a = nI g ∧ a_params g = nI (sp_n a_sigType g)) (hp : post (nI (sp_ar a_sigType o a))) : wpX_arity post (f_functionLimit, f_tokenLimit, f_cellLimit, f_depthLimit, f_functions, f_accepted, f_placed, f_openBody, f_holeCount, f_nextRegion, f_changed, f_freeCell, f_active, f_calls, f_taskTop, f_valueTop, f_releasing, f_outcome, f_peakUsed, f_resultSize, a_sigType, a_params, a_kept, a_start, a_finished, a_tokOp, a_tokArg, a_tokType, a_tokScope, a_end, a_holeType, a_holeNest, a_holeScope, a_holeVars, a_parent, a_region, a_sigRegions, a_allRegions, a_cellA, a_cellB, a_link, a_live, a_frameFunction, a_vars, a_saved, a_env, a_regionFirst, a_tasks, a_values, a_used, a_result) o a := by
  rcases ho with rfl | rfl | rfl | rfl | rfl | rfl | rfl | rfl | rfl | rfl | rfl | rfl | rfl
  · exact (br_f (by decide) (br_f (by decide) (br_t (by decide) (hp))))
  · exact (br_f (by decide) (br_f (by decide) (br_f (by decide) (br_t (by decide) (hp)))))
  · exact (br_f (by decide) (br_f (by decide) (br_f (by decide) (br_f (by decide) (br_t (by decide) (hp))))))
  · exact (br_f (by decide) (br_f (by decide) (br_f (by decide) (br_f (by decide) (br_f (by decide) (br_t (by decide) (hp)))))))
  · exact (br_f (by decide) (br_f (by decide) (br_f (by decide) (br_f (by decide) (br_f (by decide) (br_f (by decide) (br_t (by decide) (hp))))))))
  · obtain ⟨g, g1, g2, g3⟩ := h6 rfl
    subst g2
    have e : sp_ar a_sigType 6 (nI g) = sp_n a_sigType g := by
      show sp_n a_sigType (nI g).toNatClampNeg = _
      rw [nI_clamp (by omega)]
    rw [e, ← g3] at hp
    refine (br_f (by decide) (br_f (by decide) (br_f (by decide) (br_f (by decide) (br_f (by decide) (br_f (by decide) (br_f (by decide) (br_t (by decide) (⟨vp_in_nI (by omega) (by decide), ?_⟩)))))))))
    rw [nI_clamp (by omega)]; exact hp
  · exact (br_f (by decide) (br_f (by decide) (br_f (by decide) (br_f (by decide) (br_f (by decide) (br_f (by decide) (br_f (by decide) (br_f (by decide) (br_t (by decide) (hp))))))))))
  · exact (br_f (by decide) (br_f (by decide) (br_f (by decide) (br_f (by decide) (br_f (by decide) (br_f (by decide) (br_f (by decide) (br_f (by decide) (br_f (by decide) (br_t (by decide) (hp)))))))))))
  · exact (br_f (by decide) (br_f (by decide) (br_f (by decide) (br_f (by decide) (br_f (by decide) (br_f (by decide) (br_f (by decide) (br_f (by decide) (br_f (by decide) (br_f (by decide) (br_t (by decide) (hp))))))))))))
  · exact (br_f (by decide) (br_f (by decide) (br_f (by decide) (br_f (by decide) (br_f (by decide) (br_f (by decide) (br_f (by decide) (br_f (by decide) (br_f (by decide) (br_f (by decide) (br_f (by decide) (br_t (by decide) (hp)))))))))))))
  · exact (br_f (by decide) (br_f (by decide) (br_f (by decide) (br_f (by decide) (br_f (by decide) (br_f (by decide) (br_f (by decide) (br_f (by decide) (br_f (by decide) (br_f (by decide) (br_f (by decide) (br_f (by decide) (br_t (by decide) (hp))))))))))))))
  · exact (br_f (by decide) (br_f (by decide) (br_f (by decide) (br_f (by decide) (br_f (by decide) (br_f (by decide) (br_f (by decide) (br_f (by decide) (br_f (by decide) (br_f (by decide) (br_f (by decide) (br_f (by decide) (br_f (by decide) (br_t (by decide) (hp)))))))))))))))
  · exact (br_f (by decide) (br_t (by decide) (hp)))
end
section
variable {f_functionLimit f_tokenLimit f_cellLimit f_depthLimit f_functions f_accepted f_placed f_openBody f_holeCount f_nextRegion f_changed f_freeCell f_active f_calls f_taskTop f_valueTop f_releasing f_outcome f_peakUsed f_resultSize : Int32} {a_sigType a_params a_kept a_start a_finished a_tokOp a_tokArg a_tokType a_tokScope a_end a_holeType a_holeNest a_holeScope a_holeVars a_parent a_region a_sigRegions a_allRegions a_cellA a_cellB a_link a_live a_frameFunction a_vars a_saved a_env a_regionFirst a_tasks a_values a_used a_result : Nat → Int32}
variable {nf t : Nat} {sN fo en : Nat → Nat}
/-- arity of a placed token -/
theorem ux_arTok {post : Int32 → Prop} {q : Nat} (P : pc_ok nf t a_sigType a_tokOp a_tokArg a_tokType a_tokScope sN fo en) (hp : ∀ f, f < nf → a_params f = nI (sp_n a_sigType f)) (h : q < t) (k : post (nI ((sp_A a_sigType a_tokOp a_tokArg) q))) : wpX_arity post (f_functionLimit, f_tokenLimit, f_cellLimit, f_depthLimit, f_functions, f_accepted, f_placed, f_openBody, f_holeCount, f_nextRegion, f_changed, f_freeCell, f_active, f_calls, f_taskTop, f_valueTop, f_releasing, f_outcome, f_peakUsed, f_resultSize, a_sigType, a_params, a_kept, a_start, a_finished, a_tokOp, a_tokArg, a_tokType, a_tokScope, a_end, a_holeType, a_holeNest, a_holeScope, a_holeVars, a_parent, a_region, a_sigRegions, a_allRegions, a_cellA, a_cellB, a_link, a_live, a_frameFunction, a_vars, a_saved, a_env, a_regionFirst, a_tasks, a_values, a_used, a_result) (a_tokOp q) (a_tokArg q) := by
  have K := pc_opk P h
  refine ux_arity (sp_opk_13 K) (fun h6 => ?_) k
  obtain ⟨g, g1, g2, -⟩ := sp_opk_6 K h6
  exact ⟨g, by have := P.2.1; omega, g2, hp g g1⟩
theorem ux_link35 {post : SX → Prop} {i m : Nat} (P : pc_ok nf t a_sigType a_tokOp a_tokArg a_tokType a_tokScope sN fo en) (h : i < t) (he : ∀ q, i < q → q < t → a_end q = nI (en q))
    (hJ : wX_linkTokens_7 post f_functionLimit f_tokenLimit f_cellLimit f_depthLimit f_functions f_accepted f_placed f_openBody f_holeCount f_nextRegion f_changed f_freeCell f_active f_calls f_taskTop f_valueTop f_releasing f_outcome f_peakUsed f_resultSize m (zi i) a_sigType a_params a_kept a_start a_finished a_tokOp a_tokArg a_tokType a_tokScope (upd a_end i (nI (en i))) a_holeType a_holeNest a_holeScope a_holeVars a_parent a_region a_sigRegions a_allRegions a_cellA a_cellB a_link a_live a_frameFunction a_vars a_saved a_env a_regionFirst a_tasks a_values a_used a_result) : ∀ n k e : Nat, (sp_A a_sigType a_tokOp a_tokArg) i < n + k → ((k = (sp_A a_sigType a_tokOp a_tokArg) i ∧ e = en i) ∨ (k < (sp_A a_sigType a_tokOp a_tokArg) i ∧ hz_ch (sp_A a_sigType a_tokOp a_tokArg) i k e)) → wX_linkTokens_35 post (wX_linkTokens_7 post f_functionLimit f_tokenLimit f_cellLimit f_depthLimit f_functions f_accepted f_placed f_openBody f_holeCount f_nextRegion f_changed f_freeCell f_active f_calls f_taskTop f_valueTop f_releasing f_outcome f_peakUsed f_resultSize m) (nI i) (nI ((sp_A a_sigType a_tokOp a_tokArg) i)) f_functionLimit f_tokenLimit f_cellLimit f_depthLimit f_functions f_accepted f_placed f_openBody f_holeCount f_nextRegion f_changed f_freeCell f_active f_calls f_taskTop f_valueTop f_releasing f_outcome f_peakUsed f_resultSize a_sigType a_params a_kept a_start a_finished a_tokOp a_tokArg a_tokType a_tokScope a_end a_holeType a_holeNest a_holeScope a_holeVars a_parent a_region a_sigRegions a_allRegions a_cellA a_cellB a_link a_live a_frameFunction a_vars a_saved a_env a_regionFirst a_tasks a_values a_used a_result n (nI e) (nI k)
  | 0, k, e, h1, h2 => by
    rcases h2 with ⟨h2, -⟩ | ⟨h2, -⟩ <;> omega
  | n + 1, k, e, h1, h2 => by
    have ht := P.1
    have hA := sp_A_le a_sigType a_tokOp a_tokArg i
    rcases h2 with ⟨rfl, rfl⟩ | ⟨h2, h3⟩
    · refine br_t (nI_le (Nat.le_refl _) (by omega)) ⟨vp_in_nI (by omega) (by decide), nm_e (nm_r (zi_m1 i) ?_)⟩
      rw [nI_clamp (by omega)]; exact hJ
    · have c := pc_ch_of P h h3
      have hc := c.2.2.2.1
      refine br_f (nI_ge h2 (by omega)) ⟨vp_in_nI (by omega) (by decide), nm_r (e' := nI (en e)) ?_ (nm_r (nI_1 k) ?_)⟩
      · rw [nI_clamp (by omega)]; exact he e c.2.1 hc
      · refine ux_link35 P h he hJ n (k + 1) (en e) (by omega) ?_
        rcases Nat.lt_or_ge (k + 1) ((sp_A a_sigType a_tokOp a_tokArg) i) with z | z
        · exact Or.inr ⟨z, hz_chs h3 (pc_en P hc) z⟩
        · have z' : k + 1 = (sp_A a_sigType a_tokOp a_tokArg) i := by omega
          exact Or.inl ⟨z', hz_en_u (hz_che h3 (pc_en P hc) z') (pc_en P h)⟩
theorem ux_link7 {post : SX → Prop} (P : pc_ok nf t a_sigType a_tokOp a_tokArg a_tokType a_tokScope sN fo en) (hp : ∀ f, f < nf → a_params f = nI (sp_n a_sigType f)) (k : ∀ a_end : Nat → Int32, (∀ q, q < t → a_end q = nI (en q)) → post (f_functionLimit, f_tokenLimit, f_cellLimit, f_depthLimit, f_functions, f_accepted, f_placed, f_openBody, f_holeCount, f_nextRegion, f_changed, f_freeCell, f_active, f_calls, f_taskTop, f_valueTop, f_releasing, f_outcome, f_peakUsed, f_resultSize, a_sigType, a_params, a_kept, a_start, a_finished, a_tokOp, a_tokArg, a_tokType, a_tokScope, a_end, a_holeType, a_holeNest, a_holeScope, a_holeVars, a_parent, a_region, a_sigRegions, a_allRegions, a_cellA, a_cellB, a_link, a_live, a_frameFunction, a_vars, a_saved, a_env, a_regionFirst, a_tasks, a_values, a_used, a_result)) :
    ∀ (i n : Nat) (a_end : Nat → Int32), i ≤ t → i < n → (∀ q, i ≤ q → q < t → a_end q = nI (en q)) → wX_linkTokens_7 post f_functionLimit f_tokenLimit f_cellLimit f_depthLimit f_functions f_accepted f_placed f_openBody f_holeCount f_nextRegion f_changed f_freeCell f_active f_calls f_taskTop f_valueTop f_releasing f_outcome f_peakUsed f_resultSize n (zi i) a_sigType a_params a_kept a_start a_finished a_tokOp a_tokArg a_tokType a_tokScope a_end a_holeType a_holeNest a_holeScope a_holeVars a_parent a_region a_sigRegions a_allRegions a_cellA a_cellB a_link a_live a_frameFunction a_vars a_saved a_env a_regionFirst a_tasks a_values a_used a_result
  | _, 0, _, _, h, _ => absurd h (Nat.not_lt_zero _)
  | 0, n + 1, a_end, h1, h2, h3 => br_t (by decide) (k a_end (fun q hq => h3 q (by omega) hq))
  | i + 1, n + 1, a_end, h1, h2, h3 => by
    have ht := P.1
    rw [show zi (i + 1) = nI i from rfl]
    refine br_f (nI_pos (by omega)) ⟨vp_in_nI (by omega) (by decide), vp_in_nI (by omega) (by decide), ?_⟩
    rw [nI_clamp (by omega)]
    refine ux_arTok P hp (by omega) (nm_r (nI_1 i) ⟨(sp_A a_sigType a_tokOp a_tokArg) i + 1, ?_⟩)
    refine ux_link35 P (by omega) (fun q h4 h5 => h3 q (by omega) h5) ?_ ((sp_A a_sigType a_tokOp a_tokArg) i + 1) 0 (i + 1) (by omega) ?_
    · refine ux_link7 P hp k i n _ (by omega) (by omega) (fun q h4 h5 => ?_)
      by_cases z : q = i
      · rw [z, pk_us]
      · rw [pk_un z]; exact h3 q (by omega) h5
    · rcases Nat.eq_zero_or_pos ((sp_A a_sigType a_tokOp a_tokArg) i) with z | z
      · exact Or.inl ⟨z.symm, hz_en_u (hz_en0 z) (pc_en P (by omega))⟩
      · exact Or.inr ⟨z, hz_ch0 z⟩
theorem ux_link {post : SX → Prop} (P : pc_ok nf t a_sigType a_tokOp a_tokArg a_tokType a_tokScope sN fo en) (hp : ∀ f, f < nf → a_params f = nI (sp_n a_sigType f)) (hpl : f_placed = nI t) (k : ∀ a_end : Nat → Int32, (∀ q, q < t → a_end q = nI (en q)) → post (f_functionLimit, f_tokenLimit, f_cellLimit, f_depthLimit, f_functions, f_accepted, f_placed, f_openBody, f_holeCount, f_nextRegion, f_changed, f_freeCell, f_active, f_calls, f_taskTop, f_valueTop, f_releasing, f_outcome, f_peakUsed, f_resultSize, a_sigType, a_params, a_kept, a_start, a_finished, a_tokOp, a_tokArg, a_tokType, a_tokScope, a_end, a_holeType, a_holeNest, a_holeScope, a_holeVars, a_parent, a_region, a_sigRegions, a_allRegions, a_cellA, a_cellB, a_link, a_live, a_frameFunction, a_vars, a_saved, a_env, a_regionFirst, a_tasks, a_values, a_used, a_result)) : wpX_linkTokens post (f_functionLimit, f_tokenLimit, f_cellLimit, f_depthLimit, f_functions, f_accepted, f_placed, f_openBody, f_holeCount, f_nextRegion, f_changed, f_freeCell, f_active, f_calls, f_taskTop, f_valueTop, f_releasing, f_outcome, f_peakUsed, f_resultSize, a_sigType, a_params, a_kept, a_start, a_finished, a_tokOp, a_tokArg, a_tokType, a_tokScope, a_end, a_holeType, a_holeNest, a_holeScope, a_holeVars, a_parent, a_region, a_sigRegions, a_allRegions, a_cellA, a_cellB, a_link, a_live, a_frameFunction, a_vars, a_saved, a_env, a_regionFirst, a_tasks, a_values, a_used, a_result) := by
  subst hpl
  exact nm_r (zi_s1 t) ⟨t + 1, ux_link7 P hp k t (t + 1) a_end (Nat.le_refl _) (by omega) (fun q h1 h2 => by omega)⟩
/-- the slot of the caller -/
def pc_sl (S : Nat → Int32) (en : Nat → Nat) (g i s : Nat) : Option Nat := if s < 2 then (if 1 ≤ sp_n S g then some (2 * (i + 1) + s % 2) else none) else if s < 4 then (if 2 ≤ sp_n S g then some (2 * en (i + 1) + s % 2) else none) else some (2 * i + s % 2)
def oI : Option Nat → Int32
  | none => -1
  | some v => nI v
theorem ux_slot {post : Int32 → Prop} {i g s : Nat} (P : pc_ok nf t a_sigType a_tokOp a_tokArg a_tokType a_tokScope sN fo en) (hp : ∀ f, f < nf → a_params f = nI (sp_n a_sigType f)) (he : ∀ q, q < t → a_end q = nI (en q)) (hi : i < t) (h6 : a_tokOp i = 6) (hg : g < nf) (ha : a_tokArg i = nI g) (hs : s < 6)
    (k : post (oI (pc_sl a_sigType en g i s))) : wpX_callSlot post (f_functionLimit, f_tokenLimit, f_cellLimit, f_depthLimit, f_functions, f_accepted, f_placed, f_openBody, f_holeCount, f_nextRegion, f_changed, f_freeCell, f_active, f_calls, f_taskTop, f_valueTop, f_releasing, f_outcome, f_peakUsed, f_resultSize, a_sigType, a_params, a_kept, a_start, a_finished, a_tokOp, a_tokArg, a_tokType, a_tokScope, a_end, a_holeType, a_holeNest, a_holeScope, a_holeVars, a_parent, a_region, a_sigRegions, a_allRegions, a_cellA, a_cellB, a_link, a_live, a_frameFunction, a_vars, a_saved, a_env, a_regionFirst, a_tasks, a_values, a_used, a_result) (nI i) (nI s) := by
  have ht := P.1
  have hn := P.2.1
  have hA : (sp_A a_sigType a_tokOp a_tokArg) i = sp_n a_sigType g := by
    unfold sp_A sp_ar
    rw [h6, ha, nI_clamp (by omega)]; rfl
  have e1 : a_tokArg (nI i).toNatClampNeg = nI g := by rw [nI_clamp (by omega)]; exact ha
  have hle := sp_n_le a_sigType g
  have e2 : nI s &&& 1 = nI (s % 2) := pk_andN (by omega) 1 (by decide)
  refine ⟨vp_in_nI (by omega) (by decide), ?_⟩
  rw [e1]
  refine ⟨vp_in_nI (by omega) (by decide), nm_r (e' := nI (sp_n a_sigType g)) ?_ (nm_r e2 ?_)⟩
  · rw [nI_clamp (by omega)]; exact hp g hg
  have t2 : ∀ a b : Nat, (2 * nI a) + nI b = nI (2 * a + b) := fun a b => by
    show nI 2 * nI a + nI b = _
    rw [pk_mul, nI_add]
  rcases Nat.lt_or_ge s 4 with z | z
  · refine br_t (nI_lt (b := 4) z (by decide)) ?_
    rcases Nat.lt_or_ge s 2 with y | y
    · refine br_t (nI_lt (b := 2) y (by decide)) ?_
      unfold pc_sl at k
      rw [if_pos y] at k
      rcases Nat.lt_or_ge (sp_n a_sigType g) 1 with x | x
      · rw [if_neg (by omega)] at k
        exact br_f (nI_ge (b := 1) x (by decide)) k
      · rw [if_pos x] at k
        refine br_t (nI_le (a := 1) x (by omega)) ?_
        rw [nI_1, t2]; exact k
    · refine br_f (nI_nlt (b := 2) y (by omega)) ?_
      unfold pc_sl at k
      rw [if_neg (by omega), if_pos z] at k
      rcases Nat.lt_or_ge (sp_n a_sigType g) 2 with x | x
      · rw [if_neg (by omega)] at k
        exact br_f (nI_ge (b := 2) x (by decide)) k
      · rw [if_pos x] at k
        have c0 := pc_c0 P hi (by omega)
        have hc := c0.2.2.2.1
        refine br_t (nI_le (a := 2) x (by omega)) ?_
        rw [nI_1]
        refine ⟨vp_in_nI (by omega) (by decide), ?_⟩
        rw [nI_clamp (by omega), he _ hc, t2]; exact k
  · refine br_f (nI_nlt (b := 4) z (by omega)) ?_
    unfold pc_sl at k
    rw [if_neg (by omega), if_neg (by omega)] at k
    rw [t2]; exact k
end
end
section
def kd_S (τ : Int32) : Nat := if τ = 2 then 2 else if τ = 3 then 3 else 0
def kd_P (τ : Int32) : Nat := if τ = 1 ∨ τ = 3 then 1 else 0
theorem kd_S_lt (τ : Int32) : kd_S τ < 4 := by unfold kd_S; split <;> (try split) <;> omega
theorem kd_P_lt (τ : Int32) : kd_P τ < 4 := by unfold kd_P; split <;> omega
def pc_kz (S ty : Nat → Int32) (v : Nat) : Nat := if v < 192 then (if v % 2 = 0 then kd_S (ty (v / 2)) else kd_P (ty (v / 2))) else (if v % 2 = 0 then kd_S (S (3 * ((v - 192) / 6) + (v - 192) % 6 / 2)) else kd_P (S (3 * ((v - 192) / 6) + (v - 192) % 6 / 2)))
def pc_fz (fo : Nat → Nat) (v : Nat) : Nat := if v < 192 then fo (v / 2) else (v - 192) / 6
def pc_col (S ty : Nat → Int32) (fo : Nat → Nat) (v : Nat) : Nat := 4 * pc_fz fo v + pc_kz S ty v
theorem pc_kz_lt (S ty : Nat → Int32) (v : Nat) : pc_kz S ty v < 4 := by
  unfold pc_kz
  have := kd_S_lt (ty (v / 2))
  have := kd_P_lt (ty (v / 2))
  have := kd_S_lt (S (3 * ((v - 192) / 6) + (v - 192) % 6 / 2))
  have := kd_P_lt (S (3 * ((v - 192) / 6) + (v - 192) % 6 / 2))
  repeat (first | assumption | split)
theorem pc_col_eq {S ty : Nat → Int32} {fo : Nat → Nat} {v w : Nat} (h : pc_col S ty fo v = pc_col S ty fo w) : pc_fz fo v = pc_fz fo w ∧ pc_kz S ty v = pc_kz S ty w := by
  have := pc_kz_lt S ty v
  have := pc_kz_lt S ty w
  unfold pc_col at h
  omega
theorem kz_t0 {S ty : Nat → Int32} {i : Nat} (h : i < 96) : pc_kz S ty (2 * i) = kd_S (ty i) := by
  unfold pc_kz
  rw [if_pos (by omega), if_pos (by omega), show 2 * i / 2 = i by omega]
theorem kz_t1 {S ty : Nat → Int32} {i : Nat} (h : i < 96) : pc_kz S ty (2 * i + 1) = kd_P (ty i) := by
  unfold pc_kz
  rw [if_pos (by omega), if_neg (by omega), show (2 * i + 1) / 2 = i by omega]
theorem kz_s0 {S ty : Nat → Int32} {f j : Nat} (h : j < 3) : pc_kz S ty (192 + 6 * f + 2 * j) = kd_S (S (3 * f + j)) := by
  unfold pc_kz
  rw [if_neg (by omega), if_pos (by omega), show (192 + 6 * f + 2 * j - 192) / 6 = f by omega, show (192 + 6 * f + 2 * j - 192) % 6 / 2 = j by omega]
theorem kz_s1 {S ty : Nat → Int32} {f j : Nat} (h : j < 3) : pc_kz S ty (192 + 6 * f + 2 * j + 1) = kd_P (S (3 * f + j)) := by
  unfold pc_kz
  rw [if_neg (by omega), if_neg (by omega), show (192 + 6 * f + 2 * j + 1 - 192) / 6 = f by omega, show (192 + 6 * f + 2 * j + 1 - 192) % 6 / 2 = j by omega]
theorem fz_t0 {fo : Nat → Nat} {i : Nat} (h : i < 96) : pc_fz fo (2 * i) = fo i := by
  unfold pc_fz
  rw [if_pos (by omega), show 2 * i / 2 = i by omega]
theorem fz_t1 {fo : Nat → Nat} {i : Nat} (h : i < 96) : pc_fz fo (2 * i + 1) = fo i := by
  unfold pc_fz
  rw [if_pos (by omega), show (2 * i + 1) / 2 = i by omega]
theorem fz_s {fo : Nat → Nat} {f s : Nat} (h : s < 6) : pc_fz fo (192 + 6 * f + s) = f := by
  unfold pc_fz
  rw [if_neg (by omega)]; omega
/-- two places of one function and one type -/
theorem col_tt {S ty : Nat → Int32} {fo : Nat → Nat} {i j : Nat} (hi : i < 96) (hj : j < 96) (hf : fo i = fo j) (ht : ty i = ty j) : pc_col S ty fo (2 * i) = pc_col S ty fo (2 * j) ∧ pc_col S ty fo (2 * i + 1) = pc_col S ty fo (2 * j + 1) := by
  unfold pc_col
  rw [kz_t0 hi, kz_t0 hj, kz_t1 hi, kz_t1 hj, fz_t0 hi, fz_t0 hj, fz_t1 hi, fz_t1 hj, hf, ht]
  exact ⟨rfl, rfl⟩
theorem col_ts {S ty : Nat → Int32} {fo : Nat → Nat} {i f j : Nat} (hi : i < 96) (hj : j < 3) (hf : fo i = f) (ht : ty i = S (3 * f + j)) : pc_col S ty fo (2 * i) = pc_col S ty fo (192 + 6 * f + 2 * j) ∧ pc_col S ty fo (2 * i + 1) = pc_col S ty fo (192 + 6 * f + 2 * j + 1) := by
  unfold pc_col
  rw [kz_t0 hi, kz_s0 hj, kz_t1 hi, kz_s1 hj, fz_t0 hi, fz_t1 hi, fz_s (f := f) (s := 2 * j) (by omega), Nat.add_assoc (192 + 6 * f), fz_s (f := f) (s := 2 * j + 1) (by omega), hf, ht]
  exact ⟨rfl, rfl⟩
theorem col_pp {S ty : Nat → Int32} {fo : Nat → Nat} {i j : Nat} (hi : i < 96) (hj : j < 96) (hf : fo i = fo j) (ht : kd_P (ty i) = kd_P (ty j)) : pc_col S ty fo (2 * i + 1) = pc_col S ty fo (2 * j + 1) := by
  unfold pc_col
  rw [kz_t1 hi, kz_t1 hj, fz_t1 hi, fz_t1 hj, hf, ht]
def uf_EE (p : Nat → Nat) (x y : Nat) : Prop := uf_E p x y ∧ uf_E p (x + 1) (y + 1)
/-- the constraints of token i -/
def ri_cst (S op arg ty : Nat → Int32) (sN fo en : Nat → Nat) (p : Nat → Nat) (i : Nat) : Prop :=
  (op i = 2 → ∀ v, arg i = nI v → v < 8 → (v < sp_n S (fo i) → uf_EE p (2 * i) (192 + 6 * fo i + 2 * v)) ∧ (∀ j, sN (fo i) ≤ j → hz_bl (sp_L op) (sp_A S op arg) j i → sp_sc S op arg (fo i) (sN (fo i)) j = v → uf_EE p (2 * i) (2 * (j + 1)))) ∧
  (op i = 4 → uf_EE p (2 * i) (2 * en (i + 1)) ∧ uf_EE p (2 * i) (2 * en (en (i + 1)))) ∧ (op i = 5 → uf_EE p (2 * i) (2 * en (i + 1))) ∧
  (op i = 8 → uf_EE p (2 * i) (2 * en (i + 1)) ∧ (ty i = 3 → uf_E p (2 * i + 1) (2 * (i + 1) + 1))) ∧ (op i = 9 → ty i = 1 → uf_E p (2 * i + 1) (2 * (i + 1) + 1)) ∧ (op i = 10 → uf_EE p (2 * i) (2 * (i + 1)))
theorem uf_EE_up {p p' : Nat → Nat} {x y : Nat} (h : ∀ v w, uf_E p v w → uf_E p' v w) (e : uf_EE p x y) : uf_EE p' x y := ⟨h _ _ e.1, h _ _ e.2⟩
theorem ri_cst_up {S op arg ty : Nat → Int32} {sN fo en p p' : Nat → Nat} {i : Nat} (h : ∀ v w, uf_E p v w → uf_E p' v w) (c : ri_cst S op arg ty sN fo en p i) : ri_cst S op arg ty sN fo en p' i := by
  obtain ⟨c1, c2, c3, c4, c5, c6⟩ := c
  refine ⟨fun z v e l => ⟨fun y => uf_EE_up h ((c1 z v e l).1 y), fun j a b d => uf_EE_up h ((c1 z v e l).2 j a b d)⟩, fun z => ⟨uf_EE_up h (c2 z).1, uf_EE_up h (c2 z).2⟩, fun z => uf_EE_up h (c3 z), fun z => ⟨uf_EE_up h (c4 z).1, fun y => h _ _ ((c4 z).2 y)⟩, fun z y => h _ _ (c5 z y), fun z => uf_EE_up h (c6 z)⟩
theorem ne_lit {x a b : Int32} {P : Prop} (h : x = a) (hab : a ≠ b) : x = b → P := fun z => absurd (h.symm.trans z) hab
section
variable {f_functionLimit f_tokenLimit f_cellLimit f_depthLimit f_functions f_accepted f_placed f_openBody f_holeCount f_nextRegion f_changed f_freeCell f_active f_calls f_taskTop f_valueTop f_releasing f_outcome f_peakUsed f_resultSize : Int32} {a_sigType a_params a_kept a_start a_finished a_tokOp a_tokArg a_tokType a_tokScope a_end a_holeType a_holeNest a_holeScope a_holeVars a_parent a_region a_sigRegions a_allRegions a_cellA a_cellB a_link a_live a_frameFunction a_vars a_saved a_env a_regionFirst a_tasks a_values a_used a_result : Nat → Int32}
variable {nf t : Nat} {sN fo en : Nat → Nat}
theorem ux_bind35 {post : Int32 → Prop} {i v j0 : Nat} (P : pc_ok nf t a_sigType a_tokOp a_tokArg a_tokType a_tokScope sN fo en) (hst : ∀ f, f < nf → a_start f = nI (sN f)) (he : ∀ q, q < t → a_end q = nI (en q)) (hi : i < t) (hv : v < 8)
    (h0 : sN (fo i) ≤ j0) (hb : hz_bl (sp_L a_tokOp) (sp_A a_sigType a_tokOp a_tokArg) j0 i) (hc : sp_sc a_sigType a_tokOp a_tokArg (fo i) (sN (fo i)) (j0) = v) (k : post (nI (2 * (j0 + 1)))) : ∀ n j : Nat, j < n → j < i → j0 ≤ j → wX_binder_35 post (nI (fo i)) (nI i) (nI v) f_functionLimit f_tokenLimit f_cellLimit f_depthLimit f_functions f_accepted f_placed f_openBody f_holeCount f_nextRegion f_changed f_freeCell f_active f_calls f_taskTop f_valueTop f_releasing f_outcome f_peakUsed f_resultSize a_sigType a_params a_kept a_start a_finished a_tokOp a_tokArg a_tokType a_tokScope a_end a_holeType a_holeNest a_holeScope a_holeVars a_parent a_region a_sigRegions a_allRegions a_cellA a_cellB a_link a_live a_frameFunction a_vars a_saved a_env a_regionFirst a_tasks a_values a_used a_result n (nI j)
  | 0, _, h, _, _ => absurd h (Nat.not_lt_zero _)
  | n + 1, j, h1, h2, h3 => by
    have ht := P.1
    have hn := P.2.1
    have hf := pc_fo P hi
    have hin := pc_in P hi
    have hjt : j < t := by omega
    have fj : fo j = fo i := by
      have := pc_end P hi
      exact (pc_mem P hf (by omega) (by omega)).2
    have st : a_start (nI (fo i)).toNatClampNeg = nI (sN (fo i)) := by rw [nI_clamp (by omega)]; exact hst _ hf
    have sj := pc_scp P hjt
    rw [fj] at sj
    have cj : (nI j).toNatClampNeg = j := nI_clamp (by omega)
    refine ⟨vp_in_nI (by omega) (by decide), ?_⟩
    rw [st]
    refine br_f (nI_nlt (by omega) (by omega)) ⟨vp_in_nI (by omega) (by decide), ?_⟩
    rw [cj]
    have back : ¬ j = j0 → wX_binder_35 post (nI (fo i)) (nI i) (nI v) f_functionLimit f_tokenLimit f_cellLimit f_depthLimit f_functions f_accepted f_placed f_openBody f_holeCount f_nextRegion f_changed f_freeCell f_active f_calls f_taskTop f_valueTop f_releasing f_outcome f_peakUsed f_resultSize a_sigType a_params a_kept a_start a_finished a_tokOp a_tokArg a_tokType a_tokScope a_end a_holeType a_holeNest a_holeScope a_holeVars a_parent a_region a_sigRegions a_allRegions a_cellA a_cellB a_link a_live a_frameFunction a_vars a_saved a_env a_regionFirst a_tasks a_values a_used a_result n (nI j + (-1)) := fun ne => by
      rw [zi_m1]
      obtain ⟨j', rfl⟩ : ∃ j', j = j' + 1 := ⟨j - 1, by omega⟩
      exact ux_bind35 P hst he hi hv h0 hb hc k n j' (by omega) (by omega) (by omega)
    by_cases h5 : a_tokOp j = 5
    · refine br_t h5 ⟨vp_in_nI (by omega) (by decide), ?_⟩
      by_cases hs : sp_sc a_sigType a_tokOp a_tokArg (fo i) (sN (fo i)) (j) = v
      · refine br_t (by rw [sj.1, hs]) ?_
        have c0 := pc_c0 P hjt (by rw [sp_A_5 h5]; omega)
        have cj1 : (nI j + 1).toNatClampNeg = j + 1 := by rw [nI_1, nI_clamp (by omega)]
        refine br_f (by decide) ⟨by rw [nI_1]; exact vp_in_nI (by omega) (by decide), ?_⟩
        rw [cj1, he _ c0.2.2.2.1]
        have ee := pc_end P c0.2.2.2.1
        have ej := pc_end P hjt
        rcases Nat.lt_or_ge i (en (j + 1)) with z | z
        · refine br_t (nI_lt z (by omega)) (nm_e (back (fun y => ?_)))
          subst y
          have := ((pc_bl P hi h2).mp hb).2.1
          omega
        · refine br_f (nI_nlt z (by omega)) ⟨vp_in_nI (by omega) (by decide), ?_⟩
          rw [cj, he j hjt]
          rcases Nat.lt_or_ge i (en j) with y | y
          · have bj := (pc_bl P hi h2).mpr ⟨h5, z, y⟩
            have ej0 : j = j0 := by
              unfold sp_sc at hs hc
              exact hz_bc_u (by omega) h0 bj hb (by omega)
            subst ej0
            refine br_f (nI_ge y (by omega)) ?_
            rw [nI_1]
            have : (2 : Int32) * nI (j + 1) = nI (2 * (j + 1)) := pk_mul 2 (j + 1)
            rw [this]; exact k
          · refine br_t (nI_le y (by omega)) (nm_e (back (fun w => ?_)))
            subst w
            have := ((pc_bl P hi h2).mp hb).2.2
            omega
      · refine br_f (fun z => hs ?_) ?_
        · rw [sj.1] at z
          exact (nI_eq (by omega) (by omega)).mp z
        · exact br_t (by decide) (nm_e (back (fun y => hs (by rw [y]; exact hc))))
    · exact br_f h5 (br_t (by decide) (nm_e (back (fun y => h5 (by rw [y]; exact hb.1)))))
theorem ux_bind {post : Int32 → Prop} {i v : Nat} (P : pc_ok nf t a_sigType a_tokOp a_tokArg a_tokType a_tokScope sN fo en) (hp : ∀ f, f < nf → a_params f = nI (sp_n a_sigType f)) (hst : ∀ f, f < nf → a_start f = nI (sN f)) (he : ∀ q, q < t → a_end q = nI (en q)) (hi : i < t) (hv : v < 8) (ha : a_tokArg i = nI v)
    (hvar : pc_var a_sigType a_tokOp a_tokArg a_tokType sN fo i v) (k1 : v < sp_n a_sigType (fo i) → post (nI (192 + 6 * fo i + 2 * v)))
    (k2 : ∀ j, sN (fo i) ≤ j → j < i → hz_bl (sp_L a_tokOp) (sp_A a_sigType a_tokOp a_tokArg) j i → sp_sc a_sigType a_tokOp a_tokArg (fo i) (sN (fo i)) (j) = v → post (nI (2 * (j + 1)))) : wpX_binder post (f_functionLimit, f_tokenLimit, f_cellLimit, f_depthLimit, f_functions, f_accepted, f_placed, f_openBody, f_holeCount, f_nextRegion, f_changed, f_freeCell, f_active, f_calls, f_taskTop, f_valueTop, f_releasing, f_outcome, f_peakUsed, f_resultSize, a_sigType, a_params, a_kept, a_start, a_finished, a_tokOp, a_tokArg, a_tokType, a_tokScope, a_end, a_holeType, a_holeNest, a_holeScope, a_holeVars, a_parent, a_region, a_sigRegions, a_allRegions, a_cellA, a_cellB, a_link, a_live, a_frameFunction, a_vars, a_saved, a_env, a_regionFirst, a_tasks, a_values, a_used, a_result) (nI (fo i)) (nI i) := by
  have ht := P.1
  have hn := P.2.1
  have hf := pc_fo P hi
  have hle := sp_n_le a_sigType (fo i)
  refine ⟨vp_in_nI (by omega) (by decide), nm_r (e' := nI v) (by rw [nI_clamp (by omega)]; exact ha) ⟨vp_in_nI (by omega) (by decide), ?_⟩⟩
  rw [nI_clamp (by omega), hp _ hf]
  rcases hvar with ⟨z, -⟩ | ⟨z, j, j1, j2, j3, j4, -⟩
  · refine br_f (nI_ge z (by omega)) ?_
    have e : (192 : Int32) + 6 * nI (fo i) + 2 * nI v = nI (192 + 6 * fo i + 2 * v) := by
      show nI 192 + nI 6 * nI (fo i) + nI 2 * nI v = _
      rw [pk_mul, pk_mul, nI_add, nI_add]
    rw [e]; exact k1 z
  · obtain ⟨i', rfl⟩ : ∃ i', i = i' + 1 := ⟨i - 1, by omega⟩
    exact br_t (nI_le z (by omega)) (nm_r (nI_pred i') ⟨i' + 1, ux_bind35 P hst he hi hv j1 j3 j4 (k2 j j1 j2 j3 j4) (i' + 1) i' (by omega) (by omega) (by omega)⟩)
end
end
section
section
variable {f_functionLimit f_tokenLimit f_cellLimit f_depthLimit f_functions f_accepted f_placed f_openBody f_holeCount f_nextRegion f_changed f_freeCell f_active f_calls f_taskTop f_valueTop f_releasing f_outcome f_peakUsed f_resultSize : Int32} {a_sigType a_params a_kept a_start a_finished a_tokOp a_tokArg a_tokType a_tokScope a_end a_holeType a_holeNest a_holeScope a_holeVars a_parent a_region a_sigRegions a_allRegions a_cellA a_cellB a_link a_live a_frameFunction a_vars a_saved a_env a_regionFirst a_tasks a_values a_used a_result : Nat → Int32}
variable {nf t : Nat} {sN fo en : Nat → Nat}
theorem two_nI (a : Nat) : (2 : Int32) * nI a = nI (2 * a) := pk_mul 2 a
theorem ux_utok {post : SX → Prop} {p : Nat → Nat} {i : Nat} (P : pc_ok nf t a_sigType a_tokOp a_tokArg a_tokType a_tokScope sN fo en) (hp : ∀ f, f < nf → a_params f = nI (sp_n a_sigType f)) (hst : ∀ f, f < nf → a_start f = nI (sN f)) (he : ∀ q, q < t → a_end q = nI (en q)) (hi : i < t) (U : uf_ok (pc_col a_sigType a_tokType fo) p a_parent)
    (k : ∀ p' par' ch', uf_G (pc_col a_sigType a_tokType fo) p f_changed p' par' ch' → ri_cst a_sigType a_tokOp a_tokArg a_tokType sN fo en p' i → post (f_functionLimit, f_tokenLimit, f_cellLimit, f_depthLimit, f_functions, f_accepted, f_placed, f_openBody, f_holeCount, f_nextRegion, ch', f_freeCell, f_active, f_calls, f_taskTop, f_valueTop, f_releasing, f_outcome, f_peakUsed, f_resultSize, a_sigType, a_params, a_kept, a_start, a_finished, a_tokOp, a_tokArg, a_tokType, a_tokScope, a_end, a_holeType, a_holeNest, a_holeScope, a_holeVars, par', a_region, a_sigRegions, a_allRegions, a_cellA, a_cellB, a_link, a_live, a_frameFunction, a_vars, a_saved, a_env, a_regionFirst, a_tasks, a_values, a_used, a_result)) : wpX_unifyToken post (f_functionLimit, f_tokenLimit, f_cellLimit, f_depthLimit, f_functions, f_accepted, f_placed, f_openBody, f_holeCount, f_nextRegion, f_changed, f_freeCell, f_active, f_calls, f_taskTop, f_valueTop, f_releasing, f_outcome, f_peakUsed, f_resultSize, a_sigType, a_params, a_kept, a_start, a_finished, a_tokOp, a_tokArg, a_tokType, a_tokScope, a_end, a_holeType, a_holeNest, a_holeScope, a_holeVars, a_parent, a_region, a_sigRegions, a_allRegions, a_cellA, a_cellB, a_link, a_live, a_frameFunction, a_vars, a_saved, a_env, a_regionFirst, a_tasks, a_values, a_used, a_result) (nI (fo i)) (nI i) := by
  have ht := P.1
  have hn := P.2.1
  have hf := pc_fo P hi
  have ci : (nI i).toNatClampNeg = i := nI_clamp (by omega)
  have ci1 : (nI (i + 1)).toNatClampNeg = i + 1 := nI_clamp (by omega)
  have K := pc_opk P hi
  refine nm_r (nI_1 i) ⟨vp_in_nI (by omega) (by decide), ?_⟩
  rw [ci]
  have none : ∀ o, a_tokOp i = o → o ≠ 2 → o ≠ 4 → o ≠ 5 → o ≠ 8 → o ≠ 9 → o ≠ 10 → post (f_functionLimit, f_tokenLimit, f_cellLimit, f_depthLimit, f_functions, f_accepted, f_placed, f_openBody, f_holeCount, f_nextRegion, f_changed, f_freeCell, f_active, f_calls, f_taskTop, f_valueTop, f_releasing, f_outcome, f_peakUsed, f_resultSize, a_sigType, a_params, a_kept, a_start, a_finished, a_tokOp, a_tokArg, a_tokType, a_tokScope, a_end, a_holeType, a_holeNest, a_holeScope, a_holeVars, a_parent, a_region, a_sigRegions, a_allRegions, a_cellA, a_cellB, a_link, a_live, a_frameFunction, a_vars, a_saved, a_env, a_regionFirst, a_tasks, a_values, a_used, a_result) := fun o ho n2 n4 n5 n8 n9 n10 =>
    k p a_parent f_changed (uf_G_rf U) ⟨ne_lit ho n2, ne_lit ho n4, ne_lit ho n5, ne_lit ho n8, ne_lit ho n9, ne_lit ho n10⟩
  have K13 := sp_opk_13 K
  rcases K13 with h | h | h | h | h | h | h | h | h | h | h | h | h
  · exact nm_r h (br_t (by decide) (none 1 h (by decide) (by decide) (by decide) (by decide) (by decide) (by decide)))
  · -- VAR
    obtain ⟨v, v1, v2, v3, v4⟩ := pc_var_of P hi h
    refine nm_r h (br_f (by decide) (br_f (by decide) (br_t (by decide) (?_))))
    refine ux_bind P hp hst he hi v1 v3 v4 (fun z => ?_) (fun j j1 j2 j3 j4 => ?_)
    · have c := v4.elim (fun y => y) (fun y => by omega)
      have cc := col_ts (S := a_sigType) (ty := a_tokType) (fo := fo) (i := i) (f := fo i) (j := v) (by omega) (by have := sp_n_le a_sigType (fo i); omega) rfl c.2
      rw [two_nI]
      refine ux_unify U (by omega) (by have := sp_n_le a_sigType (fo i); omega) cc.1 cc.2 (fun p' par' ch' g e1 e2 => k p' par' ch' g ⟨fun _ v' ev lv => ?_, ne_lit h (by decide), ne_lit h (by decide), ne_lit h (by decide), ne_lit h (by decide), ne_lit h (by decide)⟩)
      have : v' = v := (nI_eq (by omega) (by omega)).mp (ev.symm.trans v3)
      subst this
      refine ⟨fun _ => ⟨e1, e2⟩, fun j j1 j2 j3 => ?_⟩
      exfalso
      rw [← j3] at z
      unfold sp_sc at z; omega
    · have ge : sp_n a_sigType (fo i) ≤ v := by rw [← j4]; unfold sp_sc; omega
      have c := v4.elim (fun y => absurd y.1 (by omega)) (fun y => y)
      obtain ⟨-, j', j1', j2', j3', j4', j5'⟩ := c
      have ej : j' = j := by
        unfold sp_sc at j4 j4'
        exact hz_bc_u j1' j1 j3' j3 (by omega)
      subst ej
      have h5 : a_tokOp j' = 5 := j3.1
      have c0 := pc_c0 P (show j' < t by omega) (by rw [sp_A_5 h5]; omega)
      have tc : a_tokType (j' + 1) = a_tokArg j' := by
        rw [c0.2.2.2.2.2.2, h5]; rfl
      have fj : fo (j' + 1) = fo i := by
        have b := ((pc_bl P hi j2).mp j3).2.2
        have d := pc_desc P (show j' < t by omega) (show j' ≤ i by omega) b
        rw [c0.2.2.2.2.1, d.2]
      have cc := col_tt (S := a_sigType) (ty := a_tokType) (fo := fo) (i := i) (j := j' + 1) (by omega) (by have := c0.2.2.2.1; omega) fj.symm (by rw [tc, j5'])
      rw [two_nI]
      refine ux_unify U (by omega) (by omega) cc.1 cc.2 (fun p' par' ch' g e1 e2 => k p' par' ch' g ⟨fun _ v' ev lv => ?_, ne_lit h (by decide), ne_lit h (by decide), ne_lit h (by decide), ne_lit h (by decide), ne_lit h (by decide)⟩)
      have : v' = v := (nI_eq (by omega) (by omega)).mp (ev.symm.trans v3)
      subst this
      refine ⟨fun y => absurd y (by omega), fun j'' a1 a2 a3 => ?_⟩
      have : j'' = j' := by
        unfold sp_sc at j4 a3
        exact hz_bc_u a1 j1 a2 j3 (by omega)
      subst this
      exact ⟨e1, e2⟩
  · exact nm_r h (br_f (by decide) (br_f (by decide) (br_f (by decide) (br_t (by decide) (none 3 h (by decide) (by decide) (by decide) (by decide) (by decide) (by decide))))))
  · -- IF
    have hA : (sp_A a_sigType a_tokOp a_tokArg) i = 3 := by unfold sp_A sp_ar; rw [h]; rfl
    have c0 := pc_c0 P hi (by omega)
    have c1 := pc_c1 P hi (by omega)
    have c2 := pc_c2 P hi (by omega)
    have t1 : a_tokType (en (i + 1)) = a_tokType i := by rw [c1.2.2.2.2.2.2, h]; rfl
    have t2 : a_tokType (en (en (i + 1))) = a_tokType i := by rw [c2.2.2.2.2.2.2, h]; rfl
    have l0 := c0.2.2.2.1
    have l1 := c1.2.2.2.1
    have l2 := c2.2.2.2.1
    have k1 := col_tt (S := a_sigType) (ty := a_tokType) (fo := fo) (i := i) (j := en (i + 1)) (by omega) (by omega) c1.2.2.2.2.1.symm t1.symm
    have k2 := col_tt (S := a_sigType) (ty := a_tokType) (fo := fo) (i := i) (j := en (en (i + 1))) (by omega) (by omega) c2.2.2.2.2.1.symm t2.symm
    have cl1 : (nI (en (i + 1))).toNatClampNeg = en (i + 1) := nI_clamp (by omega)
    refine nm_r h (br_f (by decide) (br_f (by decide) (br_f (by decide) (br_f (by decide) (br_t (by decide) (⟨vp_in_nI (by omega) (by decide), nm_r (e' := nI (en (i + 1))) (by rw [ci1]; exact he _ l0) ?_⟩))))))
    rw [two_nI i, two_nI (en (i + 1))]
    refine ux_unify U (by omega) (by omega) k1.1 k1.2 (fun p1 par1 ch1 g1 e1 e1' => ?_)
    show vp_in (nI (en (i + 1))) 100 ∧ wpX_unify _ (f_functionLimit, f_tokenLimit, f_cellLimit, f_depthLimit, f_functions, f_accepted, f_placed, f_openBody, f_holeCount, f_nextRegion, ch1, f_freeCell, f_active, f_calls, f_taskTop, f_valueTop, f_releasing, f_outcome, f_peakUsed, f_resultSize, a_sigType, a_params, a_kept, a_start, a_finished, a_tokOp, a_tokArg, a_tokType, a_tokScope, a_end, a_holeType, a_holeNest, a_holeScope, a_holeVars, par1, a_region, a_sigRegions, a_allRegions, a_cellA, a_cellB, a_link, a_live, a_frameFunction, a_vars, a_saved, a_env, a_regionFirst, a_tasks, a_values, a_used, a_result) (nI (2 * i)) (2 * a_end (nI (en (i + 1))).toNatClampNeg)
    rw [cl1, he _ l1, two_nI]
    refine ⟨vp_in_nI (by omega) (by decide), ux_unify g1.1 (by omega) (by omega) k2.1 k2.2 (fun p2 par2 ch2 g2 e2 e2' => ?_)⟩
    exact k p2 par2 ch2 (uf_G_tr g1 g2) ⟨ne_lit h (by decide), fun _ => ⟨uf_EE_up g2.2.1 ⟨e1, e1'⟩, ⟨e2, e2'⟩⟩, ne_lit h (by decide), ne_lit h (by decide), ne_lit h (by decide), ne_lit h (by decide)⟩
  · -- LET
    have hA : (sp_A a_sigType a_tokOp a_tokArg) i = 2 := sp_A_5 h
    have c0 := pc_c0 P hi (by omega)
    have c1 := pc_c1 P hi (by omega)
    have t1 : a_tokType (en (i + 1)) = a_tokType i := by rw [c1.2.2.2.2.2.2, h]; rfl
    have l0 := c0.2.2.2.1
    have l1 := c1.2.2.2.1
    have k1 := col_tt (S := a_sigType) (ty := a_tokType) (fo := fo) (i := i) (j := en (i + 1)) (by omega) (by omega) c1.2.2.2.2.1.symm t1.symm
    refine nm_r h (br_f (by decide) (br_f (by decide) (br_f (by decide) (br_f (by decide) (br_f (by decide) (br_t (by decide) (⟨vp_in_nI (by omega) (by decide), ?_⟩)))))))
    rw [ci1, he _ l0, two_nI i, two_nI (en (i + 1))]
    refine ux_unify U (by omega) (by omega) k1.1 k1.2 (fun p1 par1 ch1 g1 e1 e1' => ?_)
    exact k p1 par1 ch1 g1 ⟨ne_lit h (by decide), ne_lit h (by decide), fun _ => ⟨e1, e1'⟩, ne_lit h (by decide), ne_lit h (by decide), ne_lit h (by decide)⟩
  · exact nm_r h (br_f (by decide) (br_f (by decide) (br_f (by decide) (br_f (by decide) (br_f (by decide) (br_f (by decide) (br_t (by decide) (none 6 h (by decide) (by decide) (by decide) (by decide) (by decide) (by decide)))))))))
  · exact nm_r h (br_f (by decide) (br_f (by decide) (br_f (by decide) (br_f (by decide) (br_f (by decide) (br_f (by decide) (br_f (by decide) (br_t (by decide) (none 7 h (by decide) (by decide) (by decide) (by decide) (by decide) (by decide))))))))))
  · -- CONS
    have hA : (sp_A a_sigType a_tokOp a_tokArg) i = 2 := by unfold sp_A sp_ar; rw [h]; rfl
    have c0 := pc_c0 P hi (by omega)
    have c1 := pc_c1 P hi (by omega)
    have t1 : a_tokType (en (i + 1)) = a_tokType i := by rw [c1.2.2.2.2.2.2, h]; rfl
    have l0 := c0.2.2.2.1
    have l1 := c1.2.2.2.1
    have k1 := col_tt (S := a_sigType) (ty := a_tokType) (fo := fo) (i := i) (j := en (i + 1)) (by omega) (by omega) c1.2.2.2.2.1.symm t1.symm
    refine nm_r h (br_f (by decide) (br_f (by decide) (br_f (by decide) (br_f (by decide) (br_f (by decide) (br_f (by decide) (br_f (by decide) (br_f (by decide) (br_t (by decide) (⟨vp_in_nI (by omega) (by decide), ?_⟩))))))))))
    rw [ci1, he _ l0, two_nI i, two_nI (en (i + 1))]
    refine ux_unify U (by omega) (by omega) k1.1 k1.2 (fun p1 par1 ch1 g1 e1 e1' => ?_)
    show vp_in (nI i) 100 ∧ ((a_tokType i = 3 → wpX_union _ (f_functionLimit, f_tokenLimit, f_cellLimit, f_depthLimit, f_functions, f_accepted, f_placed, f_openBody, f_holeCount, f_nextRegion, ch1, f_freeCell, f_active, f_calls, f_taskTop, f_valueTop, f_releasing, f_outcome, f_peakUsed, f_resultSize, a_sigType, a_params, a_kept, a_start, a_finished, a_tokOp, a_tokArg, a_tokType, a_tokScope, a_end, a_holeType, a_holeNest, a_holeScope, a_holeVars, par1, a_region, a_sigRegions, a_allRegions, a_cellA, a_cellB, a_link, a_live, a_frameFunction, a_vars, a_saved, a_env, a_regionFirst, a_tasks, a_values, a_used, a_result) (nI (2 * i) + 1) (2 * nI (i + 1) + 1)) ∧ (¬ a_tokType i = 3 → post (f_functionLimit, f_tokenLimit, f_cellLimit, f_depthLimit, f_functions, f_accepted, f_placed, f_openBody, f_holeCount, f_nextRegion, ch1, f_freeCell, f_active, f_calls, f_taskTop, f_valueTop, f_releasing, f_outcome, f_peakUsed, f_resultSize, a_sigType, a_params, a_kept, a_start, a_finished, a_tokOp, a_tokArg, a_tokType, a_tokScope, a_end, a_holeType, a_holeNest, a_holeScope, a_holeVars, par1, a_region, a_sigRegions, a_allRegions, a_cellA, a_cellB, a_link, a_live, a_frameFunction, a_vars, a_saved, a_env, a_regionFirst, a_tasks, a_values, a_used, a_result)))
    rw [two_nI (i + 1), nI_1, nI_1]
    refine ⟨vp_in_nI (by omega) (by decide), br_c (fun h3 => ?_) (fun h3 => ?_)⟩
    · have t0 : a_tokType (i + 1) = 1 := by rw [c0.2.2.2.2.2.2, h, h3]; rfl
      refine ux_union g1.1 (by omega) (by omega) (col_pp (by omega) (by omega) c0.2.2.2.2.1.symm (by rw [h3, t0]; rfl)) (fun p2 par2 ch2 g2 e2 => ?_)
      exact k p2 par2 ch2 (uf_G_tr g1 g2) ⟨ne_lit h (by decide), ne_lit h (by decide), ne_lit h (by decide), fun _ => ⟨uf_EE_up g2.2.1 ⟨e1, e1'⟩, fun _ => e2⟩, ne_lit h (by decide), ne_lit h (by decide)⟩
    · exact k p1 par1 ch1 g1 ⟨ne_lit h (by decide), ne_lit h (by decide), ne_lit h (by decide), fun _ => ⟨⟨e1, e1'⟩, fun z => absurd z h3⟩, ne_lit h (by decide), ne_lit h (by decide)⟩
  · -- HEAD
    have hA : (sp_A a_sigType a_tokOp a_tokArg) i = 1 := by unfold sp_A sp_ar; rw [h]; rfl
    have c0 := pc_c0 P hi (by omega)
    have l0 := c0.2.2.2.1
    refine nm_r h (br_f (by decide) (br_f (by decide) (br_f (by decide) (br_f (by decide) (br_f (by decide) (br_f (by decide) (br_f (by decide) (br_f (by decide) (br_f (by decide) (br_t (by decide) (⟨vp_in_nI (by omega) (by decide), ?_⟩)))))))))))
    rw [two_nI i, two_nI (i + 1), nI_1, nI_1]
    refine br_c (fun h3 => ?_) (fun h3 => ?_)
    · have t0 : a_tokType (i + 1) = 3 := by rw [c0.2.2.2.2.2.2, h, h3]; rfl
      refine ux_union U (by omega) (by omega) (col_pp (by omega) (by omega) c0.2.2.2.2.1.symm (by rw [h3, t0]; rfl)) (fun p2 par2 ch2 g2 e2 => ?_)
      exact k p2 par2 ch2 g2 ⟨ne_lit h (by decide), ne_lit h (by decide), ne_lit h (by decide), ne_lit h (by decide), fun _ _ => e2, ne_lit h (by decide)⟩
    · exact k p a_parent f_changed (uf_G_rf U) ⟨ne_lit h (by decide), ne_lit h (by decide), ne_lit h (by decide), ne_lit h (by decide), fun _ z => absurd z h3, ne_lit h (by decide)⟩
  · -- TAIL
    have hA : (sp_A a_sigType a_tokOp a_tokArg) i = 1 := by unfold sp_A sp_ar; rw [h]; rfl
    have c0 := pc_c0 P hi (by omega)
    have l0 := c0.2.2.2.1
    have t0 : a_tokType (i + 1) = a_tokType i := by rw [c0.2.2.2.2.2.2, h]; rfl
    have k1 := col_tt (S := a_sigType) (ty := a_tokType) (fo := fo) (i := i) (j := i + 1) (by omega) (by omega) c0.2.2.2.2.1.symm t0.symm
    refine nm_r h (br_f (by decide) (br_f (by decide) (br_f (by decide) (br_f (by decide) (br_f (by decide) (br_f (by decide) (br_f (by decide) (br_f (by decide) (br_f (by decide) (br_f (by decide) (br_t (by decide) (?_))))))))))))
    rw [two_nI i, two_nI (i + 1)]
    refine ux_unify U (by omega) (by omega) k1.1 k1.2 (fun p1 par1 ch1 g1 e1 e1' => ?_)
    exact k p1 par1 ch1 g1 ⟨ne_lit h (by decide), ne_lit h (by decide), ne_lit h (by decide), ne_lit h (by decide), ne_lit h (by decide), fun _ => ⟨e1, e1'⟩⟩
  · exact nm_r h (br_f (by decide) (br_t (by decide) (none 11 h (by decide) (by decide) (by decide) (by decide) (by decide) (by decide))))
  · exact nm_r h (br_f (by decide) (br_t (by decide) (none 12 h (by decide) (by decide) (by decide) (by decide) (by decide) (by decide))))
  · exact nm_r h (br_f (by decide) (br_t (by decide) (none 13 h (by decide) (by decide) (by decide) (by decide) (by decide) (by decide))))
theorem ux_ubody26 {post : SX → Prop} {f : Nat} (P : pc_ok nf t a_sigType a_tokOp a_tokArg a_tokType a_tokScope sN fo en) (hp : ∀ f, f < nf → a_params f = nI (sp_n a_sigType f)) (hst : ∀ f, f < nf → a_start f = nI (sN f)) (he : ∀ q, q < t → a_end q = nI (en q)) (hf : f < nf) :
    ∀ (n i : Nat) (p : Nat → Nat) (a_parent : Nat → Int32) (f_changed : Int32), sN f ≤ i → i ≤ en (sN f) → en (sN f) < n + i → uf_ok (pc_col a_sigType a_tokType fo) p a_parent →
    (∀ p' par' ch', uf_G (pc_col a_sigType a_tokType fo) p f_changed p' par' ch' → (∀ q, i ≤ q → q < en (sN f) → ri_cst a_sigType a_tokOp a_tokArg a_tokType sN fo en p' q) → post (f_functionLimit, f_tokenLimit, f_cellLimit, f_depthLimit, f_functions, f_accepted, f_placed, f_openBody, f_holeCount, f_nextRegion, ch', f_freeCell, f_active, f_calls, f_taskTop, f_valueTop, f_releasing, f_outcome, f_peakUsed, f_resultSize, a_sigType, a_params, a_kept, a_start, a_finished, a_tokOp, a_tokArg, a_tokType, a_tokScope, a_end, a_holeType, a_holeNest, a_holeScope, a_holeVars, par', a_region, a_sigRegions, a_allRegions, a_cellA, a_cellB, a_link, a_live, a_frameFunction, a_vars, a_saved, a_env, a_regionFirst, a_tasks, a_values, a_used, a_result)) → wX_unifyBody_26 post (nI f) (nI (sN f)) n (nI i) f_functionLimit f_tokenLimit f_cellLimit f_depthLimit f_functions f_accepted f_placed f_openBody f_holeCount f_nextRegion f_changed f_freeCell f_active f_calls f_taskTop f_valueTop f_releasing f_outcome f_peakUsed f_resultSize a_sigType a_params a_kept a_start a_finished a_tokOp a_tokArg a_tokType a_tokScope a_end a_holeType a_holeNest a_holeScope a_holeVars a_parent a_region a_sigRegions a_allRegions a_cellA a_cellB a_link a_live a_frameFunction a_vars a_saved a_env a_regionFirst a_tasks a_values a_used a_result
  | 0, i, p, _, _, _, h2, h3, _, _ => by omega
  | n + 1, i, p, a_parent, f_changed, h1, h2, h3, U, k => by
    have ht := P.1
    have hs := pc_sN P hf
    refine ⟨vp_in_nI (by omega) (by decide), ?_⟩
    rw [nI_clamp (by omega), he _ hs.1]
    rcases Nat.lt_or_ge i (en (sN f)) with z | z
    · obtain ⟨m1, m2⟩ := pc_mem P hf h1 z
      refine br_f (nI_ge z (by omega)) ?_
      rw [← m2]
      refine ux_utok P hp hst he m1 U (fun p1 par1 ch1 g1 c1 => nm_r (nI_1 i) ?_)
      rw [m2]
      refine ux_ubody26 P hp hst he hf n (i + 1) p1 par1 ch1 (by omega) (by omega) (by omega) g1.1 (fun p2 par2 ch2 g2 c2 => k p2 par2 ch2 (uf_G_tr g1 g2) (fun q q1 q2 => ?_))
      rcases Nat.lt_or_ge i q with y | y
      · exact c2 q y q2
      · have : q = i := by omega
        subst this
        exact ri_cst_up g2.2.1 c1
    · refine br_t (nI_le z (by omega)) (k p a_parent f_changed (uf_G_rf U) (fun q q1 q2 => by omega))
def ri_bod (S op arg ty : Nat → Int32) (sN fo en p : Nat → Nat) (f : Nat) : Prop := uf_EE p (2 * sN f) (192 + 6 * f + 4) ∧ ∀ q, sN f ≤ q → q < en (sN f) → ri_cst S op arg ty sN fo en p q
theorem ri_bod_up {S op arg ty : Nat → Int32} {sN fo en p p' : Nat → Nat} {f : Nat} (h : ∀ v w, uf_E p v w → uf_E p' v w) (c : ri_bod S op arg ty sN fo en p f) : ri_bod S op arg ty sN fo en p' f := ⟨uf_EE_up h c.1, fun q h1 h2 => ri_cst_up h (c.2 q h1 h2)⟩
theorem ux_ubody {post : SX → Prop} {p : Nat → Nat} {f : Nat} (P : pc_ok nf t a_sigType a_tokOp a_tokArg a_tokType a_tokScope sN fo en) (hp : ∀ f, f < nf → a_params f = nI (sp_n a_sigType f)) (hst : ∀ f, f < nf → a_start f = nI (sN f)) (he : ∀ q, q < t → a_end q = nI (en q)) (hf : f < nf) (U : uf_ok (pc_col a_sigType a_tokType fo) p a_parent)
    (k : ∀ p' par' ch', uf_G (pc_col a_sigType a_tokType fo) p f_changed p' par' ch' → ri_bod a_sigType a_tokOp a_tokArg a_tokType sN fo en p' f → post (f_functionLimit, f_tokenLimit, f_cellLimit, f_depthLimit, f_functions, f_accepted, f_placed, f_openBody, f_holeCount, f_nextRegion, ch', f_freeCell, f_active, f_calls, f_taskTop, f_valueTop, f_releasing, f_outcome, f_peakUsed, f_resultSize, a_sigType, a_params, a_kept, a_start, a_finished, a_tokOp, a_tokArg, a_tokType, a_tokScope, a_end, a_holeType, a_holeNest, a_holeScope, a_holeVars, par', a_region, a_sigRegions, a_allRegions, a_cellA, a_cellB, a_link, a_live, a_frameFunction, a_vars, a_saved, a_env, a_regionFirst, a_tasks, a_values, a_used, a_result)) : wpX_unifyBody post (f_functionLimit, f_tokenLimit, f_cellLimit, f_depthLimit, f_functions, f_accepted, f_placed, f_openBody, f_holeCount, f_nextRegion, f_changed, f_freeCell, f_active, f_calls, f_taskTop, f_valueTop, f_releasing, f_outcome, f_peakUsed, f_resultSize, a_sigType, a_params, a_kept, a_start, a_finished, a_tokOp, a_tokArg, a_tokType, a_tokScope, a_end, a_holeType, a_holeNest, a_holeScope, a_holeVars, a_parent, a_region, a_sigRegions, a_allRegions, a_cellA, a_cellB, a_link, a_live, a_frameFunction, a_vars, a_saved, a_env, a_regionFirst, a_tasks, a_values, a_used, a_result) (nI f) := by
  have ht := P.1
  have hn := P.2.1
  have hs := pc_sN P hf
  have T := pc_tok P hs.1
  have fs := pc_foS P hf
  rw [fs] at T
  have ty2 : a_tokType (sN f) = a_sigType (3 * f + 2) := by
    rcases T.2.1 with ⟨-, z⟩ | ⟨q, k', z1, z2, -⟩
    · exact z
    · have := z2.1; omega
  have cc := col_ts (S := a_sigType) (ty := a_tokType) (fo := fo) (i := sN f) (f := f) (j := 2) (by omega) (by omega) fs ty2
  have e6 : (192 : Int32) + 6 * nI f + 4 = nI (192 + 6 * f + 4) := by
    show nI 192 + nI 6 * nI f + nI 4 = _
    rw [pk_mul, nI_add, nI_add]
  refine ⟨vp_in_nI (by omega) (by decide), nm_r (e' := nI (sN f)) (by rw [nI_clamp (by omega)]; exact hst f hf) ?_⟩
  rw [two_nI, e6]
  refine ux_unify U (by omega) (by omega) cc.1 cc.2 (fun p1 par1 ch1 g1 e1 e2 => ⟨en (sN f) + 1, ?_⟩)
  exact ux_ubody26 P hp hst he hf _ (sN f) p1 par1 ch1 (Nat.le_refl _) (Nat.le_of_lt (pc_end P hs.1).1) (by omega) g1.1 (fun p2 par2 ch2 g2 c2 => k p2 par2 ch2 (uf_G_tr g1 g2) ⟨uf_EE_up g2.2.1 ⟨e1, e2⟩, c2⟩)
end
end
section
theorem uf_G_sq {col p p1 p2 : Nat → Nat} {par1 par2 : Nat → Int32} {ch ch1 ch2 : Int32} (h : uf_G col p ch p1 par1 ch1) (h' : uf_G col p1 ch1 p2 par2 ch2) (e : p2 = p) : p1 = p ∧ p2 = p1 := by
  subst e
  rcases h.2.2 with ⟨a, -⟩ | ⟨-, a⟩
  · exact ⟨a, a.symm⟩
  · rcases h'.2.2 with ⟨b, -⟩ | ⟨-, b⟩
    · subst b; omega
    · omega
/-- closure of one pair of slots -/
def ri_clp (S : Nat → Int32) (en p : Nat → Nat) (g i s r : Nat) : Prop := ∀ x y, pc_sl S en g i s = some x → pc_sl S en g i r = some y → uf_E p (192 + 6 * g + s) (192 + 6 * g + r) → uf_E p x y
def ri_cli (S : Nat → Int32) (en p : Nat → Nat) (g i : Nat) : Prop := ∀ s r, s < 6 → r < s → ri_clp S en p g i s r
section
variable {nf t : Nat} {S op arg ty scp : Nat → Int32} {sN fo en : Nat → Nat}
theorem pc_sl_kz (P : pc_ok nf t S op arg ty scp sN fo en) {i g s x : Nat} (hi : i < t) (h6 : op i = 6) (hg : g < nf) (ha : arg i = nI g) (hs : s < 6) (e : pc_sl S en g i s = some x) :
    x < 192 ∧ x / 2 < t ∧ pc_kz S ty x = pc_kz S ty (192 + 6 * g + s) ∧ pc_fz fo x = fo i := by
  have ht := P.1
  have hn := P.2.1
  have hA : sp_A S op arg i = sp_n S g := by
    unfold sp_A sp_ar
    rw [h6, ha, nI_clamp (by omega)]; rfl
  have hct : ∀ k, sp_ct S (op i) (arg i) (ty i) k = S (3 * g + k) := by
    intro k
    unfold sp_ct
    rw [h6, ha, nI_clamp (by omega)]; rfl
  have K := sp_opk_6 (pc_opk P hi) h6
  have t2 : ty i = S (3 * g + 2) := by
    obtain ⟨g', a, b, c⟩ := K
    have : g' = g := (nI_eq (by omega) (by omega)).mp (b.symm.trans ha)
    subst this; exact c
  unfold pc_sl at e
  rcases Nat.lt_or_ge s 2 with y | y
  · rw [if_pos y] at e
    by_cases x1 : 1 ≤ sp_n S g
    · rw [if_pos x1] at e
      have c0 := pc_c0 P hi (by omega)
      have l0 := c0.2.2.2.1
      have e' := Option.some.inj e
      have tc := c0.2.2.2.2.2.2
      rw [hct] at tc
      rcases (by omega : s = 0 ∨ s = 1) with rfl | rfl
      · have e'' : x = 2 * (i + 1) := by omega
        subst e''
        refine ⟨by omega, by omega, ?_, by rw [fz_t0 (by omega)]; exact c0.2.2.2.2.1⟩
        rw [kz_t0 (by omega), tc]; exact (kz_s0 (j := 0) (by omega)).symm
      · have e'' : x = 2 * (i + 1) + 1 := by omega
        subst e''
        refine ⟨by omega, by omega, ?_, by rw [fz_t1 (by omega)]; exact c0.2.2.2.2.1⟩
        rw [kz_t1 (by omega), tc]; exact (kz_s1 (j := 0) (by omega)).symm
    · rw [if_neg x1] at e; exact absurd e (by simp)
  · rw [if_neg (by omega)] at e
    rcases Nat.lt_or_ge s 4 with z | z
    · rw [if_pos z] at e
      by_cases x1 : 2 ≤ sp_n S g
      · rw [if_pos x1] at e
        have c0 := pc_c1 P hi (by omega)
        have l0 := c0.2.2.2.1
        have e' := Option.some.inj e
        have tc := c0.2.2.2.2.2.2
        rw [hct] at tc
        rcases (by omega : s = 2 ∨ s = 3) with rfl | rfl
        · have e'' : x = 2 * en (i + 1) := by omega
          subst e''
          refine ⟨by omega, by omega, ?_, by rw [fz_t0 (by omega)]; exact c0.2.2.2.2.1⟩
          rw [kz_t0 (by omega), tc]; exact (kz_s0 (j := 1) (by omega)).symm
        · have e'' : x = 2 * en (i + 1) + 1 := by omega
          subst e''
          refine ⟨by omega, by omega, ?_, by rw [fz_t1 (by omega)]; exact c0.2.2.2.2.1⟩
          rw [kz_t1 (by omega), tc]; exact (kz_s1 (j := 1) (by omega)).symm
      · rw [if_neg x1] at e; exact absurd e (by simp)
    · rw [if_neg (by omega)] at e
      have e' := Option.some.inj e
      rcases (by omega : s = 4 ∨ s = 5) with rfl | rfl
      · have e'' : x = 2 * i := by omega
        subst e''
        refine ⟨by omega, by omega, ?_, by rw [fz_t0 (by omega)]⟩
        rw [kz_t0 (by omega), t2]; exact (kz_s0 (j := 2) (by omega)).symm
      · have e'' : x = 2 * i + 1 := by omega
        subst e''
        refine ⟨by omega, by omega, ?_, by rw [fz_t1 (by omega)]⟩
        rw [kz_t1 (by omega), t2]; exact (kz_s1 (j := 2) (by omega)).symm
end
theorem oI_nn {x : Option Nat} (h : ∀ v, x = some v → v < 2 ^ 31) : (oI x < 0 ↔ x = none) := by
  cases x with
  | none => exact ⟨fun _ => rfl, fun _ => by decide⟩
  | some v =>
    constructor
    · intro z
      exact absurd z (nI_pos (h v rfl))
    · intro z; exact absurd z (by simp)
section
variable {f_functionLimit f_tokenLimit f_cellLimit f_depthLimit f_functions f_accepted f_placed f_openBody f_holeCount f_nextRegion f_changed f_freeCell f_active f_calls f_taskTop f_valueTop f_releasing f_outcome f_peakUsed f_resultSize : Int32} {a_sigType a_params a_kept a_start a_finished a_tokOp a_tokArg a_tokType a_tokScope a_end a_holeType a_holeNest a_holeScope a_holeVars a_parent a_region a_sigRegions a_allRegions a_cellA a_cellB a_link a_live a_frameFunction a_vars a_saved a_env a_regionFirst a_tasks a_values a_used a_result : Nat → Int32}
variable {nf t : Nat} {sN fo en : Nat → Nat}
theorem ux_inst33 {post : SX → Prop} {i g s m : Nat} (P : pc_ok nf t a_sigType a_tokOp a_tokArg a_tokType a_tokScope sN fo en) (hp : ∀ f, f < nf → a_params f = nI (sp_n a_sigType f)) (hst : ∀ f, f < nf → a_start f = nI (sN f)) (he : ∀ q, q < t → a_end q = nI (en q)) (hi : i < t) (h6 : a_tokOp i = 6) (hg : g < nf) (ha : a_tokArg i = nI g) (hs : s < 6) :
    ∀ (n r : Nat) (p : Nat → Nat) (a_parent : Nat → Int32) (f_changed : Int32), r ≤ s → s < n + r → uf_ok (pc_col a_sigType a_tokType fo) p a_parent →
    (∀ p' par' ch', uf_G (pc_col a_sigType a_tokType fo) p f_changed p' par' ch' → (p' = p → ∀ r', r ≤ r' → r' < s → ri_clp a_sigType en p' g i s r') → wX_instantiate_16 post (nI i) (nI (192 + 6 * g)) m (nI (s + 1)) f_functionLimit f_tokenLimit f_cellLimit f_depthLimit f_functions f_accepted f_placed f_openBody f_holeCount f_nextRegion ch' f_freeCell f_active f_calls f_taskTop f_valueTop f_releasing f_outcome f_peakUsed f_resultSize a_sigType a_params a_kept a_start a_finished a_tokOp a_tokArg a_tokType a_tokScope a_end a_holeType a_holeNest a_holeScope a_holeVars par' a_region a_sigRegions a_allRegions a_cellA a_cellB a_link a_live a_frameFunction a_vars a_saved a_env a_regionFirst a_tasks a_values a_used a_result) →
    wX_instantiate_33 post (wX_instantiate_16 post (nI i) (nI (192 + 6 * g)) m) (nI i) (nI (192 + 6 * g)) (nI s) (oI (pc_sl a_sigType en g i s)) n (nI r) f_functionLimit f_tokenLimit f_cellLimit f_depthLimit f_functions f_accepted f_placed f_openBody f_holeCount f_nextRegion f_changed f_freeCell f_active f_calls f_taskTop f_valueTop f_releasing f_outcome f_peakUsed f_resultSize a_sigType a_params a_kept a_start a_finished a_tokOp a_tokArg a_tokType a_tokScope a_end a_holeType a_holeNest a_holeScope a_holeVars a_parent a_region a_sigRegions a_allRegions a_cellA a_cellB a_link a_live a_frameFunction a_vars a_saved a_env a_regionFirst a_tasks a_values a_used a_result
  | 0, r, p, _, _, h2, h3, _, _ => by omega
  | n + 1, r, p, a_parent, f_changed, h1, h2, U, k => by
    have ht := P.1
    have hn := P.2.1
    rcases Nat.lt_or_ge r s with z | z
    · refine br_f (nI_ge z (by omega)) ?_
      cases ex : pc_sl a_sigType en g i s with
      | none =>
        refine br_t (by decide) (nm_r (nI_1 s) (k p a_parent f_changed (uf_G_rf U) (fun _ r' _ _ x y e1 e2 => ?_)))
        rw [ex] at e1; exact absurd e1 (by simp)
      | some x =>
        obtain ⟨x1, x2, x3, x4⟩ := pc_sl_kz P hi h6 hg ha hs ex
        refine br_f (nI_pos (by omega)) (ux_slot P hp he hi h6 hg ha (by omega) ?_)
        have next : ∀ p' par' ch', uf_G (pc_col a_sigType a_tokType fo) p f_changed p' par' ch' → (p' = p → ri_clp a_sigType en p' g i s r) → wX_instantiate_33 post (wX_instantiate_16 post (nI i) (nI (192 + 6 * g)) m) (nI i) (nI (192 + 6 * g)) (nI s) (nI x) n (nI r + 1) f_functionLimit f_tokenLimit f_cellLimit f_depthLimit f_functions f_accepted f_placed f_openBody f_holeCount f_nextRegion ch' f_freeCell f_active f_calls f_taskTop f_valueTop f_releasing f_outcome f_peakUsed f_resultSize a_sigType a_params a_kept a_start a_finished a_tokOp a_tokArg a_tokType a_tokScope a_end a_holeType a_holeNest a_holeScope a_holeVars par' a_region a_sigRegions a_allRegions a_cellA a_cellB a_link a_live a_frameFunction a_vars a_saved a_env a_regionFirst a_tasks a_values a_used a_result := by
          intro p' par' ch' g1 c1
          rw [nI_1]
          have ih := ux_inst33 (post := post) (i := i) (g := g) (s := s) (m := m) P hp hst he hi h6 hg ha hs n (r + 1) p' par' ch' (by omega) (by omega) g1.1 (fun p2 par2 ch2 g2 c2 => k p2 par2 ch2 (uf_G_tr g1 g2) (fun e r' r1 r2 => ?_))
          · rw [ex] at ih; exact ih
          · obtain ⟨ea, eb⟩ := uf_G_sq g1 g2 e
            rcases Nat.lt_or_ge r r' with y | y
            · exact c2 eb r' (by omega) r2
            · have : r' = r := by omega
              subst this
              rw [eb]; exact c1 ea
        cases ey : pc_sl a_sigType en g i r with
        | none =>
          refine br_t (by decide) (nm_e (next p a_parent f_changed (uf_G_rf U) (fun _ x' y' e1 e2 => ?_)))
          rw [ey] at e2; exact absurd e2 (by simp)
        | some y =>
          obtain ⟨y1, y2, y3, y4⟩ := pc_sl_kz P hi h6 hg ha (by omega) ey
          refine br_f (nI_pos (by omega)) ?_
          rw [nI_add, nI_add]
          refine ux_find U (by omega) (ux_find U (by omega) ?_)
          have l1 := uf_le U.1 (192 + 6 * g + s)
          have l2 := uf_le U.1 (192 + 6 * g + r)
          by_cases w : uf_r p (192 + 6 * g + s) = uf_r p (192 + 6 * g + r)
          · refine br_t (by rw [w]) ?_
            have cs := uf_col U.1 U.2.1 _ (192 + 6 * g + s) (Nat.lt_succ_self _)
            have cr := uf_col U.1 U.2.1 _ (192 + 6 * g + r) (Nat.lt_succ_self _)
            rw [w, cr] at cs
            have cq := pc_col_eq cs
            have cxy : (pc_col a_sigType a_tokType fo) x = (pc_col a_sigType a_tokType fo) y := by
              unfold pc_col
              rw [x3, y3, x4, y4, cq.2]
            refine ux_union U (by omega) (by omega) cxy (fun p' par' ch' g1 e1 => nm_e (next p' par' ch' g1 (fun _ x' y' e1' e2' _ => ?_)))
            rw [ex] at e1'
            rw [ey] at e2'
            rw [← Option.some.inj e1', ← Option.some.inj e2']; exact e1
          · refine br_f (fun q => w ((nI_eq (by omega) (by omega)).mp q)) (nm_e (next p a_parent f_changed (uf_G_rf U) (fun _ x' y' e1 e2 e3 => absurd e3 w)))
    · exact br_t (nI_le z (by omega)) (nm_r (nI_1 s) (k p a_parent f_changed (uf_G_rf U) (fun _ r' r1 r2 => by omega)))
theorem ux_inst16 {post : SX → Prop} {i g : Nat} (P : pc_ok nf t a_sigType a_tokOp a_tokArg a_tokType a_tokScope sN fo en) (hp : ∀ f, f < nf → a_params f = nI (sp_n a_sigType f)) (hst : ∀ f, f < nf → a_start f = nI (sN f)) (he : ∀ q, q < t → a_end q = nI (en q)) (hi : i < t) (h6 : a_tokOp i = 6) (hg : g < nf) (ha : a_tokArg i = nI g) :
    ∀ (n s : Nat) (p : Nat → Nat) (a_parent : Nat → Int32) (f_changed : Int32), s ≤ 6 → 6 < n + s → uf_ok (pc_col a_sigType a_tokType fo) p a_parent →
    (∀ p' par' ch', uf_G (pc_col a_sigType a_tokType fo) p f_changed p' par' ch' → (p' = p → ∀ s' r', s ≤ s' → s' < 6 → r' < s' → ri_clp a_sigType en p' g i s' r') → post (f_functionLimit, f_tokenLimit, f_cellLimit, f_depthLimit, f_functions, f_accepted, f_placed, f_openBody, f_holeCount, f_nextRegion, ch', f_freeCell, f_active, f_calls, f_taskTop, f_valueTop, f_releasing, f_outcome, f_peakUsed, f_resultSize, a_sigType, a_params, a_kept, a_start, a_finished, a_tokOp, a_tokArg, a_tokType, a_tokScope, a_end, a_holeType, a_holeNest, a_holeScope, a_holeVars, par', a_region, a_sigRegions, a_allRegions, a_cellA, a_cellB, a_link, a_live, a_frameFunction, a_vars, a_saved, a_env, a_regionFirst, a_tasks, a_values, a_used, a_result)) →
    wX_instantiate_16 post (nI i) (nI (192 + 6 * g)) n (nI s) f_functionLimit f_tokenLimit f_cellLimit f_depthLimit f_functions f_accepted f_placed f_openBody f_holeCount f_nextRegion f_changed f_freeCell f_active f_calls f_taskTop f_valueTop f_releasing f_outcome f_peakUsed f_resultSize a_sigType a_params a_kept a_start a_finished a_tokOp a_tokArg a_tokType a_tokScope a_end a_holeType a_holeNest a_holeScope a_holeVars a_parent a_region a_sigRegions a_allRegions a_cellA a_cellB a_link a_live a_frameFunction a_vars a_saved a_env a_regionFirst a_tasks a_values a_used a_result
  | 0, s, p, _, _, h2, h3, _, _ => by omega
  | n + 1, s, p, a_parent, f_changed, h1, h2, U, k => by
    rcases Nat.lt_or_ge s 6 with z | z
    · refine br_f (nI_ge (b := 6) z (by decide)) (ux_slot P hp he hi h6 hg ha z ⟨s + 1, ?_⟩)
      refine ux_inst33 P hp hst he hi h6 hg ha z (s + 1) 0 p a_parent f_changed (by omega) (by omega) U (fun p1 par1 ch1 g1 c1 => ?_)
      refine ux_inst16 P hp hst he hi h6 hg ha n (s + 1) p1 par1 ch1 (by omega) (by omega) g1.1 (fun p2 par2 ch2 g2 c2 => k p2 par2 ch2 (uf_G_tr g1 g2) (fun e s' r' s1 s2 s3 => ?_))
      obtain ⟨ea, eb⟩ := uf_G_sq g1 g2 e
      rcases Nat.lt_or_ge s s' with y | y
      · exact c2 eb s' r' (by omega) s2 s3
      · have : s' = s := by omega
        subst this
        rw [eb]; exact c1 ea r' (by omega) s3
    · exact br_t (nI_le (a := 6) z (by omega)) (k p a_parent f_changed (uf_G_rf U) (fun _ s' r' _ _ _ => by omega))
theorem ux_inst {post : SX → Prop} {p : Nat → Nat} {i g : Nat} (P : pc_ok nf t a_sigType a_tokOp a_tokArg a_tokType a_tokScope sN fo en) (hp : ∀ f, f < nf → a_params f = nI (sp_n a_sigType f)) (hst : ∀ f, f < nf → a_start f = nI (sN f)) (he : ∀ q, q < t → a_end q = nI (en q)) (hi : i < t) (h6 : a_tokOp i = 6) (hg : g < nf) (ha : a_tokArg i = nI g) (U : uf_ok (pc_col a_sigType a_tokType fo) p a_parent)
    (k : ∀ p' par' ch', uf_G (pc_col a_sigType a_tokType fo) p f_changed p' par' ch' → (p' = p → ri_cli a_sigType en p' g i) → post (f_functionLimit, f_tokenLimit, f_cellLimit, f_depthLimit, f_functions, f_accepted, f_placed, f_openBody, f_holeCount, f_nextRegion, ch', f_freeCell, f_active, f_calls, f_taskTop, f_valueTop, f_releasing, f_outcome, f_peakUsed, f_resultSize, a_sigType, a_params, a_kept, a_start, a_finished, a_tokOp, a_tokArg, a_tokType, a_tokScope, a_end, a_holeType, a_holeNest, a_holeScope, a_holeVars, par', a_region, a_sigRegions, a_allRegions, a_cellA, a_cellB, a_link, a_live, a_frameFunction, a_vars, a_saved, a_env, a_regionFirst, a_tasks, a_values, a_used, a_result)) : wpX_instantiate post (f_functionLimit, f_tokenLimit, f_cellLimit, f_depthLimit, f_functions, f_accepted, f_placed, f_openBody, f_holeCount, f_nextRegion, f_changed, f_freeCell, f_active, f_calls, f_taskTop, f_valueTop, f_releasing, f_outcome, f_peakUsed, f_resultSize, a_sigType, a_params, a_kept, a_start, a_finished, a_tokOp, a_tokArg, a_tokType, a_tokScope, a_end, a_holeType, a_holeNest, a_holeScope, a_holeVars, a_parent, a_region, a_sigRegions, a_allRegions, a_cellA, a_cellB, a_link, a_live, a_frameFunction, a_vars, a_saved, a_env, a_regionFirst, a_tasks, a_values, a_used, a_result) (nI i) := by
  have ht := P.1
  have hn := P.2.1
  refine ⟨vp_in_nI (by omega) (by decide), nm_r (e' := nI (192 + 6 * g)) ?_ ⟨7, ?_⟩⟩
  · rw [nI_clamp (by omega), ha]
    show nI 192 + nI 6 * nI g = _
    rw [pk_mul, nI_add]
  · refine ux_inst16 P hp hst he hi h6 hg ha 7 1 p a_parent f_changed (by omega) (by omega) U (fun p' par' ch' g1 c1 => k p' par' ch' g1 (fun e s r s1 s2 => ?_))
    exact c1 e s r (by omega) s1 s2
/-- closure at all calls from i on -/
def ri_cl (S op arg : Nat → Int32) (en p : Nat → Nat) (i t : Nat) : Prop := ∀ q g, i ≤ q → q < t → op q = 6 → arg q = nI g → g < 8 → ri_cli S en p g q
theorem ux_inf78 {post : SX → Prop} {r m : Nat} (P : pc_ok nf t a_sigType a_tokOp a_tokArg a_tokType a_tokScope sN fo en) (hp : ∀ f, f < nf → a_params f = nI (sp_n a_sigType f)) (hst : ∀ f, f < nf → a_start f = nI (sN f)) (he : ∀ q, q < t → a_end q = nI (en q)) (hpl : f_placed = nI t) :
    ∀ (n i : Nat) (p : Nat → Nat) (a_parent : Nat → Int32) (f_changed : Int32), i ≤ t → t < n + i → uf_ok (pc_col a_sigType a_tokType fo) p a_parent →
    (∀ p' par' ch', uf_G (pc_col a_sigType a_tokType fo) p f_changed p' par' ch' → (p' = p → ri_cl a_sigType a_tokOp a_tokArg en p' i t) → wX_inferRegions_57 post m (nI (r + 1)) f_functionLimit f_tokenLimit f_cellLimit f_depthLimit f_functions f_accepted f_placed f_openBody f_holeCount f_nextRegion ch' f_freeCell f_active f_calls f_taskTop f_valueTop f_releasing f_outcome f_peakUsed f_resultSize a_sigType a_params a_kept a_start a_finished a_tokOp a_tokArg a_tokType a_tokScope a_end a_holeType a_holeNest a_holeScope a_holeVars par' a_region a_sigRegions a_allRegions a_cellA a_cellB a_link a_live a_frameFunction a_vars a_saved a_env a_regionFirst a_tasks a_values a_used a_result) →
    wX_inferRegions_78 post (wX_inferRegions_57 post m) (nI r) n (nI i) f_functionLimit f_tokenLimit f_cellLimit f_depthLimit f_functions f_accepted f_placed f_openBody f_holeCount f_nextRegion f_changed f_freeCell f_active f_calls f_taskTop f_valueTop f_releasing f_outcome f_peakUsed f_resultSize a_sigType a_params a_kept a_start a_finished a_tokOp a_tokArg a_tokType a_tokScope a_end a_holeType a_holeNest a_holeScope a_holeVars a_parent a_region a_sigRegions a_allRegions a_cellA a_cellB a_link a_live a_frameFunction a_vars a_saved a_env a_regionFirst a_tasks a_values a_used a_result
  | 0, i, p, _, _, h2, h3, _, _ => by omega
  | n + 1, i, p, a_parent, f_changed, h1, h2, U, k => by
    have ht := P.1
    have hn := P.2.1
    rcases Nat.lt_or_ge i t with z | z
    · refine br_f (by rw [hpl]; exact nI_ge z (by omega)) ⟨vp_in_nI (by omega) (by decide), ?_⟩
      rw [nI_clamp (by omega)]
      by_cases h6 : a_tokOp i = 6
      · obtain ⟨g, hg, ha, -⟩ := sp_opk_6 (pc_opk P z) h6
        refine br_t h6 (ux_inst P hp hst he z h6 hg ha U (fun p1 par1 ch1 g1 c1 => nm_r (nI_1 i) ?_))
        refine ux_inf78 P hp hst he hpl n (i + 1) p1 par1 ch1 (by omega) (by omega) g1.1 (fun p2 par2 ch2 g2 c2 => k p2 par2 ch2 (uf_G_tr g1 g2) (fun e q g' q1 q2 q3 q4 q5 => ?_))
        obtain ⟨ea, eb⟩ := uf_G_sq g1 g2 e
        rcases Nat.lt_or_ge i q with y | y
        · exact c2 eb q g' (by omega) q2 q3 q4 q5
        · have : q = i := by omega
          subst this
          have : g' = g := (nI_eq (by omega) (by omega)).mp (q4.symm.trans ha)
          subst this
          rw [eb]; exact c1 ea
      · refine br_f h6 (nm_r (nI_1 i) ?_)
        refine ux_inf78 P hp hst he hpl n (i + 1) p a_parent f_changed (by omega) (by omega) U (fun p2 par2 ch2 g2 c2 => k p2 par2 ch2 g2 (fun e q g' q1 q2 q3 q4 q5 => ?_))
        rcases Nat.lt_or_ge i q with y | y
        · exact c2 e q g' (by omega) q2 q3 q4 q5
        · have : q = i := by omega
          subst this
          exact absurd q3 h6
    · exact br_t (by rw [hpl]; exact nI_le z (by omega)) (nm_r (nI_1 r) (k p a_parent f_changed (uf_G_rf U) (fun _ q g' q1 q2 => by omega)))
theorem ux_inf57 {post : SX → Prop} (P : pc_ok nf t a_sigType a_tokOp a_tokArg a_tokType a_tokScope sN fo en) (hp : ∀ f, f < nf → a_params f = nI (sp_n a_sigType f)) (hst : ∀ f, f < nf → a_start f = nI (sN f)) (he : ∀ q, q < t → a_end q = nI (en q)) (hpl : f_placed = nI t) {PP : (Nat → Nat) → Prop} (up : ∀ p p', (∀ v w, uf_E p v w → uf_E p' v w) → PP p → PP p')
    (k : ∀ p' par' ch', uf_ok (pc_col a_sigType a_tokType fo) p' par' → PP p' → ri_cl a_sigType a_tokOp a_tokArg en p' 0 t → ∃ n116 : Nat, wX_inferRegions_116 post n116 0 f_functionLimit f_tokenLimit f_cellLimit f_depthLimit f_functions f_accepted f_placed f_openBody f_holeCount f_nextRegion ch' f_freeCell f_active f_calls f_taskTop f_valueTop f_releasing f_outcome f_peakUsed f_resultSize a_sigType a_params a_kept a_start a_finished a_tokOp a_tokArg a_tokType a_tokScope a_end a_holeType a_holeNest a_holeScope a_holeVars par' a_region a_sigRegions a_allRegions a_cellA a_cellB a_link a_live a_frameFunction a_vars a_saved a_env a_regionFirst a_tasks a_values a_used a_result) :
    ∀ (n r : Nat) (p : Nat → Nat) (a_parent : Nat → Int32) (f_changed : Int32), r ≤ 240 → 240 < n + r → uf_ok (pc_col a_sigType a_tokType fo) p a_parent → PP p → ((f_changed = 0 ∧ ri_cl a_sigType a_tokOp a_tokArg en p 0 t) ∨ (f_changed = 1 ∧ uf_c p + r ≤ 240)) →
    wX_inferRegions_57 post n (nI r) f_functionLimit f_tokenLimit f_cellLimit f_depthLimit f_functions f_accepted f_placed f_openBody f_holeCount f_nextRegion f_changed f_freeCell f_active f_calls f_taskTop f_valueTop f_releasing f_outcome f_peakUsed f_resultSize a_sigType a_params a_kept a_start a_finished a_tokOp a_tokArg a_tokType a_tokScope a_end a_holeType a_holeNest a_holeScope a_holeVars a_parent a_region a_sigRegions a_allRegions a_cellA a_cellB a_link a_live a_frameFunction a_vars a_saved a_env a_regionFirst a_tasks a_values a_used a_result
  | 0, r, p, _, _, h2, h3, _, _, _ => by omega
  | n + 1, r, p, a_parent, f_changed, h1, h2, U, hPP, h3 => by
    rcases Nat.lt_or_ge r 240 with z | z
    · refine br_f (nI_ge (b := 240) z (by decide)) ?_
      rcases h3 with ⟨h3, h4⟩ | ⟨h3, h4⟩
      · exact br_t h3 (k p a_parent f_changed U hPP h4)
      · refine br_f (by rw [h3]; decide) ⟨t + 1, ?_⟩
        refine ux_inf78 P hp hst he hpl (t + 1) 0 p a_parent 0 (by omega) (by omega) U (fun p' par' ch' g1 c1 => ?_)
        refine ux_inf57 P hp hst he hpl up k n (r + 1) p' par' ch' (by omega) (by omega) g1.1 (up p p' g1.2.1 hPP) ?_
        rcases g1.2.2 with ⟨e1, e2⟩ | ⟨e1, e2⟩
        · exact Or.inl ⟨e2, c1 e1⟩
        · exact Or.inr ⟨e1, by omega⟩
    · refine br_t (nI_le (a := 240) z (by omega)) ?_
      rcases h3 with ⟨h3, h4⟩ | ⟨h3, h4⟩
      · exact k p a_parent f_changed U hPP h4
      · have := uf_c_pos U.1
        omega
end
end
section
def ri_N (kz fz p : Nat → Nat) (f n : Nat) (reg : Nat → Int32) (D : Nat → Prop) : Prop :=
  n ≤ 230 ∧ (∀ v, v < 240 → fz v = f → reg v = -1 ∨ ∃ m, m < n ∧ reg v = nI m) ∧
  (∀ v, v < 240 → fz v = f → reg v ≠ -1 → reg v = reg (uf_r p v) ∧ kz v ≠ 0) ∧
  (∀ v w, v < 240 → w < 240 → fz v = f → fz w = f → p v = v → p w = w → reg v ≠ -1 → reg v = reg w → v = w) ∧
  (∀ v, D v → v < 240 ∧ fz v = f ∧ reg v ≠ -1) ∧ (∀ m, m < n → ∃ v, D v ∧ reg v = nI m)
def ri_M (fz : Nat → Nat) (f : Nat) (reg reg' : Nat → Int32) : Prop := (∀ w, w < 240 → fz w = f → reg w ≠ -1 → reg' w = reg w) ∧ (∀ w, fz w ≠ f → reg' w = reg w)
theorem ri_M_rf {fz : Nat → Nat} {f : Nat} {reg : Nat → Int32} : ri_M fz f reg reg := ⟨fun _ _ _ _ => rfl, fun _ _ => rfl⟩
theorem ri_M_tr {fz : Nat → Nat} {f : Nat} {r1 r2 r3 : Nat → Int32} (h : ri_M fz f r1 r2) (h' : ri_M fz f r2 r3) : ri_M fz f r1 r3 :=
  ⟨fun w hw hf z => by rw [h'.1 w hw hf (by rw [h.1 w hw hf z]; exact z), h.1 w hw hf z], fun w z => by rw [h'.2 w z, h.2 w z]⟩
theorem nI_nm1 {n : Nat} (h : n < 2 ^ 31) : nI n ≠ -1 := fun z => by
  have a := nI_pos h
  rw [z] at a
  exact a (by decide)
theorem ri_N_st {kz fz p : Nat → Nat} {f n n' v r : Nat} {reg reg' : Nat → Int32} {D : Nat → Prop} {c : Int32} (hp : ∀ v, p v ≤ v) (N : ri_N kz fz p f n reg D) (hv : v < 240) (fv : fz v = f) (kv : kz v ≠ 0) (er : uf_r p v = r) (fr : fz r = f) (kr : kz r ≠ 0)
    (hc : (reg r = c ∧ c ≠ -1 ∧ n' = n) ∨ (reg r = -1 ∧ c = nI n ∧ n' = n + 1)) (hn : n' ≤ 230) (h1 : ∀ w, w = v ∨ w = r → reg' w = c) (h2 : ∀ w, w ≠ v → w ≠ r → reg' w = reg w) :
    ri_N kz fz p f n' reg' (fun w => D w ∨ w = v) ∧ ri_M fz f reg reg' := by
  obtain ⟨N0, N1, N2, N3, N4, N5⟩ := N
  have pr : p r = r := by rw [← er]; exact uf_fx hp v
  have lr : r < 240 := by have := uf_le hp v; omega
  have rr : uf_r p r = r := uf_r_fix pr
  have cn1 : c ≠ -1 := by
    rcases hc with ⟨-, a, -⟩ | ⟨-, a, -⟩
    · exact a
    · rw [a]; exact nI_nm1 (by omega)
  have cr : ∃ m, m < n' ∧ c = nI m := by
    rcases hc with ⟨a, b, d⟩ | ⟨a, b, d⟩
    · rcases N1 r lr fr with y | ⟨m, m1, m2⟩
      · exact absurd (a.symm.trans y) b
      · exact ⟨m, by omega, a.symm.trans m2⟩
    · exact ⟨n, by omega, b⟩
  -- numbered slots keep their number
  have keep : ∀ w, w < 240 → fz w = f → reg w ≠ -1 → reg' w = reg w := by
    intro w lw fw hw
    by_cases z1 : w = v
    · have a := (N2 w lw fw hw).1
      rw [z1, er] at a
      rw [h1 w (Or.inl z1), z1, a]
      rcases hc with ⟨b, -, -⟩ | ⟨b, -, -⟩
      · exact b.symm
      · rw [z1, a, b] at hw
        exact absurd rfl hw
    · by_cases z2 : w = r
      · rw [h1 w (Or.inr z2), z2]
        rcases hc with ⟨b, -, -⟩ | ⟨b, -, -⟩
        · exact b.symm
        · rw [z2, b] at hw
          exact absurd rfl hw
      · exact h2 w z1 z2
  have vroot : p v = v → v = r := fun z => by rw [← er]; exact (uf_r_fix z).symm
  refine ⟨⟨hn, fun w lw fw => ?_, fun w lw fw hw => ?_, fun w1 w2 l1 l2 f1 f2 p1 p2 hw e => ?_, fun w hw => ?_, fun m hm => ?_⟩, ⟨keep, fun w hw => ?_⟩⟩
  · by_cases z : w = v ∨ w = r
    · rw [h1 w z]; exact Or.inr cr
    · rw [h2 w (fun y => z (Or.inl y)) (fun y => z (Or.inr y))]
      rcases N1 w lw fw with y | ⟨m, m1, m2⟩
      · exact Or.inl y
      · exact Or.inr ⟨m, by omega, m2⟩
  · by_cases z1 : w = v
    · refine ⟨?_, by rw [z1]; exact kv⟩
      rw [h1 w (Or.inl z1), z1, er, h1 r (Or.inr rfl)]
    · by_cases z2 : w = r
      · refine ⟨?_, by rw [z2]; exact kr⟩
        rw [h1 w (Or.inr z2), z2, rr, h1 r (Or.inr rfl)]
      · have e := h2 w z1 z2
        rw [e] at hw
        obtain ⟨a, b⟩ := N2 w lw fw hw
        refine ⟨?_, b⟩
        rw [e, a]
        have lq : uf_r p w < 240 := by have := uf_le hp w; omega
        by_cases y : uf_r p w = r
        · rw [y, h1 r (Or.inr rfl)]
          rcases hc with ⟨x, -, -⟩ | ⟨x, -, -⟩
          · exact x
          · rw [a, y, x] at hw
            exact absurd rfl hw
        · have y' : uf_r p w ≠ v := fun q => by
            have pv : p v = v := by rw [← q]; exact uf_fx hp w
            exact y (q.trans (vroot pv))
          rw [h2 _ y' y]
  · have rt : ∀ w, p w = w → (w = v ∨ w = r) → w = r := fun w pw z => by
      rcases z with z | z
      · rw [z]; exact vroot (by rw [← z]; exact pw)
      · exact z
    by_cases z1 : w1 = v ∨ w1 = r
    · have e1 := rt w1 p1 z1
      by_cases z2 : w2 = v ∨ w2 = r
      · rw [e1, rt w2 p2 z2]
      · exfalso
        rw [h1 w1 z1, h2 w2 (fun y => z2 (Or.inl y)) (fun y => z2 (Or.inr y))] at e
        rcases hc with ⟨x, x1, -⟩ | ⟨x, x1, -⟩
        · have := N3 r w2 lr l2 fr f2 pr p2 (by rw [x]; exact x1) (by rw [x]; exact e)
          exact z2 (Or.inr this.symm)
        · rcases N1 w2 l2 f2 with y | ⟨m, m1, m2⟩
          · rw [y] at e; exact cn1 e
          · rw [x1, m2] at e
            have := (nI_eq (by omega) (by omega)).mp e
            omega
    · have e1 := h2 w1 (fun y => z1 (Or.inl y)) (fun y => z1 (Or.inr y))
      by_cases z2 : w2 = v ∨ w2 = r
      · exfalso
        have e2 := rt w2 p2 z2
        rw [e1, h1 w2 z2] at e
        rcases hc with ⟨x, x1, -⟩ | ⟨x, x1, -⟩
        · have := N3 w1 r l1 lr f1 fr p1 pr (by rw [e]; exact x1) (by rw [x]; exact e)
          exact z1 (Or.inr this)
        · rcases N1 w1 l1 f1 with y | ⟨m, m1, m2⟩
          · rw [y] at e; exact cn1 e.symm
          · rw [x1, m2] at e
            have := (nI_eq (by omega) (by omega)).mp e
            omega
      · rw [e1] at hw e
        rw [h2 w2 (fun y => z2 (Or.inl y)) (fun y => z2 (Or.inr y))] at e
        exact N3 w1 w2 l1 l2 f1 f2 p1 p2 hw e
  · rcases hw with hw | hw
    · obtain ⟨a, b, d⟩ := N4 w hw
      exact ⟨a, b, by rw [keep w a b d]; exact d⟩
    · rw [hw]
      exact ⟨hv, fv, by rw [h1 v (Or.inl rfl)]; exact cn1⟩
  · rcases Nat.lt_or_ge m n with z | z
    · obtain ⟨w, w1, w2⟩ := N5 m z
      obtain ⟨a, b, d⟩ := N4 w w1
      exact ⟨w, Or.inl w1, by rw [keep w a b d]; exact w2⟩
    · rcases hc with ⟨-, -, y⟩ | ⟨-, y1, y2⟩
      · omega
      · have : m = n := by omega
        subst this
        exact ⟨v, Or.inr rfl, by rw [h1 v (Or.inl rfl)]; exact y1⟩
  · exact h2 w (fun z => hw (by rw [z]; exact fv)) (fun z => hw (by rw [z]; exact fr))
section
variable {f_functionLimit f_tokenLimit f_cellLimit f_depthLimit f_functions f_accepted f_placed f_openBody f_holeCount f_nextRegion f_changed f_freeCell f_active f_calls f_taskTop f_valueTop f_releasing f_outcome f_peakUsed f_resultSize : Int32} {a_sigType a_params a_kept a_start a_finished a_tokOp a_tokArg a_tokType a_tokScope a_end a_holeType a_holeNest a_holeScope a_holeVars a_parent a_region a_sigRegions a_allRegions a_cellA a_cellB a_link a_live a_frameFunction a_vars a_saved a_env a_regionFirst a_tasks a_values a_used a_result : Nat → Int32}
variable {fo : Nat → Nat}
theorem ux_nslot {post : SX → Prop} {p : Nat → Nat} {f n v : Nat} {D : Nat → Prop} (U : uf_ok (pc_col a_sigType a_tokType fo) p a_parent) (hnx : f_nextRegion = nI n) (N : ri_N (pc_kz a_sigType a_tokType) (pc_fz fo) p f n a_region D) (hv : v < 240) (fv : (pc_fz fo) v = f) (kv : (pc_kz a_sigType a_tokType) v ≠ 0) (hn : n < 230)
    (k : ∀ n' reg', n ≤ n' → n' ≤ n + 1 → ri_N (pc_kz a_sigType a_tokType) (pc_fz fo) p f n' reg' (fun w => D w ∨ w = v) → ri_M (pc_fz fo) f a_region reg' → post (f_functionLimit, f_tokenLimit, f_cellLimit, f_depthLimit, f_functions, f_accepted, f_placed, f_openBody, f_holeCount, nI n', f_changed, f_freeCell, f_active, f_calls, f_taskTop, f_valueTop, f_releasing, f_outcome, f_peakUsed, f_resultSize, a_sigType, a_params, a_kept, a_start, a_finished, a_tokOp, a_tokArg, a_tokType, a_tokScope, a_end, a_holeType, a_holeNest, a_holeScope, a_holeVars, a_parent, reg', a_sigRegions, a_allRegions, a_cellA, a_cellB, a_link, a_live, a_frameFunction, a_vars, a_saved, a_env, a_regionFirst, a_tasks, a_values, a_used, a_result)) : wpX_numberSlot post (f_functionLimit, f_tokenLimit, f_cellLimit, f_depthLimit, f_functions, f_accepted, f_placed, f_openBody, f_holeCount, f_nextRegion, f_changed, f_freeCell, f_active, f_calls, f_taskTop, f_valueTop, f_releasing, f_outcome, f_peakUsed, f_resultSize, a_sigType, a_params, a_kept, a_start, a_finished, a_tokOp, a_tokArg, a_tokType, a_tokScope, a_end, a_holeType, a_holeNest, a_holeScope, a_holeVars, a_parent, a_region, a_sigRegions, a_allRegions, a_cellA, a_cellB, a_link, a_live, a_frameFunction, a_vars, a_saved, a_env, a_regionFirst, a_tasks, a_values, a_used, a_result) (nI v) := by
  subst hnx
  have hle := uf_le U.1 v
  have cc := pc_col_eq (uf_col U.1 U.2.1 _ v (Nat.lt_succ_self _))
  have fr : (pc_fz fo) (uf_r p v) = f := by rw [cc.1, fv]
  have kr : (pc_kz a_sigType a_tokType) (uf_r p v) ≠ 0 := by rw [cc.2]; exact kv
  refine ux_find U hv ⟨vp_in_nI (by omega) (by decide), ?_⟩
  rw [nI_clamp (by omega)]
  have cl : (nI (uf_r p v)).toNatClampNeg = uf_r p v := nI_clamp (by omega)
  have clv : (nI v).toNatClampNeg = v := nI_clamp (by omega)
  rcases N.2.1 (uf_r p v) (by omega) fr with z | ⟨m, m1, m2⟩
  · refine br_f (by rw [z]; decide) ⟨vp_in_nI (by omega) (by decide), nm_e (nm_r (nI_1 n) ⟨vp_in_nI (by omega) (by decide), vp_in_nI (by omega) (by decide), nm_e ?_⟩)⟩
    rw [cl, clv]
    have S := ri_N_st (c := nI n) (n' := n + 1) (reg' := upd (upd a_region (uf_r p v) (nI n)) v (upd a_region (uf_r p v) (nI n) (uf_r p v))) U.1 N hv fv kv rfl fr kr (Or.inr ⟨z, rfl, rfl⟩) (by omega) ?_ ?_
    · exact k (n + 1) _ (by omega) (by omega) S.1 S.2
    · intro w hw
      rw [pk_us]
      by_cases y : w = v
      · rw [y, pk_us]
      · rw [pk_un y]
        rcases hw with hw | hw
        · exact absurd hw y
        · rw [hw, pk_us]
    · intro w h1 h2
      rw [pk_un h1, pk_un h2]
  · refine br_t (by rw [m2]; exact nI_pos' (by omega)) ⟨vp_in_nI (by omega) (by decide), vp_in_nI (by omega) (by decide), nm_e ?_⟩
    rw [cl, clv]
    have S := ri_N_st (c := a_region (uf_r p v)) (n' := n) (reg' := upd a_region v (a_region (uf_r p v))) U.1 N hv fv kv rfl fr kr (Or.inl ⟨rfl, by rw [m2]; exact nI_nm1 (by omega), rfl⟩) (by omega) ?_ ?_
    · exact k n _ (by omega) (by omega) S.1 S.2
    · intro w hw
      by_cases y : w = v
      · rw [y, pk_us]
      · rw [pk_un y]
        rcases hw with hw | hw
        · exact absurd hw y
        · rw [hw]
    · intro w h1 h2
      rw [pk_un h1]
theorem kd_S_c {τ : Int32} : (τ = 2 ∧ kd_S τ = 2 ∧ kd_P τ = 0) ∨ (τ = 3 ∧ kd_S τ = 3 ∧ kd_P τ = 1) ∨ (τ = 1 ∧ kd_S τ = 0 ∧ kd_P τ = 1) ∨ (τ ≠ 1 ∧ τ ≠ 2 ∧ τ ≠ 3 ∧ kd_S τ = 0 ∧ kd_P τ = 0) := by
  by_cases h2 : τ = 2
  · subst h2; exact Or.inl ⟨rfl, rfl, rfl⟩
  · by_cases h3 : τ = 3
    · subst h3; exact Or.inr (Or.inl ⟨rfl, rfl, rfl⟩)
    · by_cases h1 : τ = 1
      · subst h1; exact Or.inr (Or.inr (Or.inl ⟨rfl, rfl, rfl⟩))
      · refine Or.inr (Or.inr (Or.inr ⟨h1, h2, h3, ?_, ?_⟩))
        · unfold kd_S; rw [if_neg h2, if_neg h3]
        · unfold kd_P; rw [if_neg (fun z => z.elim h1 h3)]
/-- a place: its two slots -/
theorem ux_nplace {post : SX → Prop} {p : Nat → Nat} {f n z : Nat} {τ : Int32} {D : Nat → Prop} (U : uf_ok (pc_col a_sigType a_tokType fo) p a_parent) (hnx : f_nextRegion = nI n) (N : ri_N (pc_kz a_sigType a_tokType) (pc_fz fo) p f n a_region D) (hz : z + 1 < 240) (f0 : (pc_fz fo) z = f) (f1 : (pc_fz fo) (z + 1) = f) (k0 : (pc_kz a_sigType a_tokType) z = kd_S τ) (k1 : (pc_kz a_sigType a_tokType) (z + 1) = kd_P τ) (hn : n < 228)
    (k : ∀ n' reg' (D' : Nat → Prop), n ≤ n' → n' ≤ n + 2 → ri_N (pc_kz a_sigType a_tokType) (pc_fz fo) p f n' reg' D' → ri_M (pc_fz fo) f a_region reg' → (∀ w, D w → D' w) → (kd_S τ ≠ 0 → D' z) → (kd_P τ ≠ 0 → D' (z + 1)) → (∀ w, D' w → D w ∨ ((w = z ∨ w = z + 1) ∧ (pc_kz a_sigType a_tokType) w ≠ 0)) → post (f_functionLimit, f_tokenLimit, f_cellLimit, f_depthLimit, f_functions, f_accepted, f_placed, f_openBody, f_holeCount, nI n', f_changed, f_freeCell, f_active, f_calls, f_taskTop, f_valueTop, f_releasing, f_outcome, f_peakUsed, f_resultSize, a_sigType, a_params, a_kept, a_start, a_finished, a_tokOp, a_tokArg, a_tokType, a_tokScope, a_end, a_holeType, a_holeNest, a_holeScope, a_holeVars, a_parent, reg', a_sigRegions, a_allRegions, a_cellA, a_cellB, a_link, a_live, a_frameFunction, a_vars, a_saved, a_env, a_regionFirst, a_tasks, a_values, a_used, a_result)) : wpX_numberPlace post (f_functionLimit, f_tokenLimit, f_cellLimit, f_depthLimit, f_functions, f_accepted, f_placed, f_openBody, f_holeCount, f_nextRegion, f_changed, f_freeCell, f_active, f_calls, f_taskTop, f_valueTop, f_releasing, f_outcome, f_peakUsed, f_resultSize, a_sigType, a_params, a_kept, a_start, a_finished, a_tokOp, a_tokArg, a_tokType, a_tokScope, a_end, a_holeType, a_holeNest, a_holeScope, a_holeVars, a_parent, a_region, a_sigRegions, a_allRegions, a_cellA, a_cellB, a_link, a_live, a_frameFunction, a_vars, a_saved, a_env, a_regionFirst, a_tasks, a_values, a_used, a_result) (nI z) τ := by
  rcases kd_S_c (τ := τ) with ⟨h, hs, hp⟩ | ⟨h, hs, hp⟩ | ⟨h, hs, hp⟩ | ⟨h1, h2, h3, hs, hp⟩
  · subst h
    have kz0 : (pc_kz a_sigType a_tokType) z ≠ 0 := by rw [k0, hs]; omega
    refine (br_t (by decide) (ux_nslot U hnx N (by omega) f0 kz0 (by omega) (fun n' reg' a b c d => ?_)))
    refine (br_f (by decide) (br_f (by decide) (k n' reg' _ a (by omega) c d (fun w hw => Or.inl hw) (fun _ => Or.inr rfl) (fun y => absurd hp y) (fun w hw => hw.elim Or.inl (fun e => Or.inr ⟨Or.inl e, by rw [e]; exact kz0⟩)))))
  · subst h
    have kz0 : (pc_kz a_sigType a_tokType) z ≠ 0 := by rw [k0, hs]; omega
    have kz1 : (pc_kz a_sigType a_tokType) (z + 1) ≠ 0 := by rw [k1, hp]; omega
    refine (br_f (by decide) (br_t (by decide) (ux_nslot U hnx N (by omega) f0 kz0 (by omega) (fun n' reg' a b c d => ?_))))
    refine (br_f (by decide) (br_t (by decide) (?_)))
    show wpX_numberSlot _ (f_functionLimit, f_tokenLimit, f_cellLimit, f_depthLimit, f_functions, f_accepted, f_placed, f_openBody, f_holeCount, nI n', f_changed, f_freeCell, f_active, f_calls, f_taskTop, f_valueTop, f_releasing, f_outcome, f_peakUsed, f_resultSize, a_sigType, a_params, a_kept, a_start, a_finished, a_tokOp, a_tokArg, a_tokType, a_tokScope, a_end, a_holeType, a_holeNest, a_holeScope, a_holeVars, a_parent, reg', a_sigRegions, a_allRegions, a_cellA, a_cellB, a_link, a_live, a_frameFunction, a_vars, a_saved, a_env, a_regionFirst, a_tasks, a_values, a_used, a_result) (nI z + 1)
    rw [nI_1]
    refine ux_nslot U rfl c (by omega) f1 kz1 (by omega) (fun n2 reg2 a2 b2 c2 d2 => ?_)
    exact k n2 reg2 _ (by omega) (by omega) c2 (ri_M_tr d d2) (fun w hw => Or.inl (Or.inl hw)) (fun _ => Or.inl (Or.inr rfl)) (fun _ => Or.inr rfl) (fun w hw => hw.elim (fun q => q.elim Or.inl (fun e => Or.inr ⟨Or.inl e, by rw [e]; exact kz0⟩)) (fun e => Or.inr ⟨Or.inr e, by rw [e]; exact kz1⟩))
  · subst h
    have kz1 : (pc_kz a_sigType a_tokType) (z + 1) ≠ 0 := by rw [k1, hp]; omega
    refine (br_f (by decide) (br_f (by decide) (br_t (by decide) (?_))))
    show wpX_numberSlot _ (f_functionLimit, f_tokenLimit, f_cellLimit, f_depthLimit, f_functions, f_accepted, f_placed, f_openBody, f_holeCount, f_nextRegion, f_changed, f_freeCell, f_active, f_calls, f_taskTop, f_valueTop, f_releasing, f_outcome, f_peakUsed, f_resultSize, a_sigType, a_params, a_kept, a_start, a_finished, a_tokOp, a_tokArg, a_tokType, a_tokScope, a_end, a_holeType, a_holeNest, a_holeScope, a_holeVars, a_parent, a_region, a_sigRegions, a_allRegions, a_cellA, a_cellB, a_link, a_live, a_frameFunction, a_vars, a_saved, a_env, a_regionFirst, a_tasks, a_values, a_used, a_result) (nI z + 1)
    rw [nI_1]
    refine ux_nslot U hnx N (by omega) f1 kz1 (by omega) (fun n2 reg2 a2 b2 c2 d2 => ?_)
    exact k n2 reg2 _ (by omega) (by omega) c2 d2 (fun w hw => Or.inl hw) (fun y => absurd hs y) (fun _ => Or.inr rfl) (fun w hw => hw.elim Or.inl (fun e => Or.inr ⟨Or.inr e, by rw [e]; exact kz1⟩))
  · refine br_f h2 (br_f h3 (br_f h1 (br_f h3 ?_)))
    subst hnx
    exact k n a_region D (by omega) (by omega) N ri_M_rf (fun w hw => hw) (fun y => absurd hs y) (fun y => absurd hp y) (fun w hw => Or.inl hw)
end
end
section
def ri_F (kz fz p sN en : Nat → Nat) (f : Nat) (reg : Nat → Int32) (n1 n2 : Nat) : Prop :=
  n1 ≤ n2 ∧ n2 ≤ 200 ∧ (∀ q b, sN f ≤ q → q < en (sN f) → b < 2 → kz (2 * q + b) ≠ 0 → ∃ m, m < n2 ∧ reg (2 * q + b) = nI m) ∧
  (∀ s, s < 6 → kz (192 + 6 * f + s) ≠ 0 → ∃ m, m < n1 ∧ reg (192 + 6 * f + s) = nI m) ∧
  (∀ v, v < 240 → fz v = f → reg v ≠ -1 → reg v = reg (uf_r p v) ∧ kz v ≠ 0) ∧
  (∀ v w, v < 240 → w < 240 → fz v = f → fz w = f → p v = v → p w = w → reg v ≠ -1 → reg v = reg w → v = w) ∧
  (∀ m, m < n1 → ∃ s, s < 6 ∧ kz (192 + 6 * f + s) ≠ 0 ∧ reg (192 + 6 * f + s) = nI m)
theorem ri_F_cg {kz fz p sN en : Nat → Nat} {f n1 n2 : Nat} {reg reg' : Nat → Int32} (h : ri_F kz fz p sN en f reg n1 n2) (hs : ∀ s, s < 6 → fz (192 + 6 * f + s) = f) (hq : ∀ q b, sN f ≤ q → q < en (sN f) → b < 2 → fz (2 * q + b) = f)
    (hr : ∀ v, v < 240 → fz (uf_r p v) = fz v) (e : ∀ w, fz w = f → reg' w = reg w) : ri_F kz fz p sN en f reg' n1 n2 := by
  obtain ⟨h1, h2, h3, h4, h5, h6, h7⟩ := h
  refine ⟨h1, h2, fun q b a c d g => ?_, fun s a c => ?_, fun v a b c => ?_, fun v w a b c d g i j l => ?_, fun m hm => ?_⟩
  · rw [e _ (hq q b a c d)]; exact h3 q b a c d g
  · rw [e _ (hs s a)]; exact h4 s a c
  · rw [e _ b] at c ⊢
    rw [e _ (by rw [hr v a]; exact b)]
    exact h5 v a b c
  · rw [e _ c] at j l
    rw [e _ d] at l
    exact h6 v w a b c d g i j l
  · obtain ⟨s, s1, s2, s3⟩ := h7 m hm
    exact ⟨s, s1, s2, by rw [e _ (hs s s1)]; exact s3⟩
section
variable {f_functionLimit f_tokenLimit f_cellLimit f_depthLimit f_functions f_accepted f_placed f_openBody f_holeCount f_nextRegion f_changed f_freeCell f_active f_calls f_taskTop f_valueTop f_releasing f_outcome f_peakUsed f_resultSize : Int32} {a_sigType a_params a_kept a_start a_finished a_tokOp a_tokArg a_tokType a_tokScope a_end a_holeType a_holeNest a_holeScope a_holeVars a_parent a_region a_sigRegions a_allRegions a_cellA a_cellB a_link a_live a_frameFunction a_vars a_saved a_env a_regionFirst a_tasks a_values a_used a_result : Nat → Int32}
variable {nf t : Nat} {sN fo en : Nat → Nat}
theorem ux_nr61 {post : SX → Prop} {p : Nat → Nat} {f : Nat} (P : pc_ok nf t a_sigType a_tokOp a_tokArg a_tokType a_tokScope sN fo en) (hp : ∀ f, f < nf → a_params f = nI (sp_n a_sigType f)) (hst : ∀ f, f < nf → a_start f = nI (sN f)) (he : ∀ q, q < t → a_end q = nI (en q)) (hf : f < nf) (U : uf_ok (pc_col a_sigType a_tokType fo) p a_parent) :
    ∀ (n i nx : Nat) (a_region : Nat → Int32) (D : Nat → Prop), sN f ≤ i → i ≤ en (sN f) → en (sN f) < n + i → nx ≤ 6 + 2 * (i - sN f) → ri_N (pc_kz a_sigType a_tokType) (pc_fz fo) p f nx a_region D →
    (∀ nx' reg' (D' : Nat → Prop), nx ≤ nx' → nx' ≤ 200 → ri_N (pc_kz a_sigType a_tokType) (pc_fz fo) p f nx' reg' D' → ri_M (pc_fz fo) f a_region reg' → (∀ w, D w → D' w) → (∀ q, i ≤ q → q < en (sN f) → (kd_S (a_tokType q) ≠ 0 → D' (2 * q)) ∧ (kd_P (a_tokType q) ≠ 0 → D' (2 * q + 1))) →
      post (f_functionLimit, f_tokenLimit, f_cellLimit, f_depthLimit, f_functions, f_accepted, f_placed, f_openBody, f_holeCount, nI nx', f_changed, f_freeCell, f_active, f_calls, f_taskTop, f_valueTop, f_releasing, f_outcome, f_peakUsed, f_resultSize, a_sigType, a_params, a_kept, a_start, a_finished, a_tokOp, a_tokArg, a_tokType, a_tokScope, a_end, a_holeType, a_holeNest, a_holeScope, a_holeVars, a_parent, reg', a_sigRegions, upd a_allRegions f (nI nx'), a_cellA, a_cellB, a_link, a_live, a_frameFunction, a_vars, a_saved, a_env, a_regionFirst, a_tasks, a_values, a_used, a_result)) →
    wX_numberRegions_61 post (nI f) n (nI i) f_functionLimit f_tokenLimit f_cellLimit f_depthLimit f_functions f_accepted f_placed f_openBody f_holeCount (nI nx) f_changed f_freeCell f_active f_calls f_taskTop f_valueTop f_releasing f_outcome f_peakUsed f_resultSize a_sigType a_params a_kept a_start a_finished a_tokOp a_tokArg a_tokType a_tokScope a_end a_holeType a_holeNest a_holeScope a_holeVars a_parent a_region a_sigRegions a_allRegions a_cellA a_cellB a_link a_live a_frameFunction a_vars a_saved a_env a_regionFirst a_tasks a_values a_used a_result
  | 0, i, _, _, _, _, h2, h3, _, _, _ => by omega
  | n + 1, i, nx, a_region, D, h1, h2, h3, h4, N, k => by
    have ht := P.1
    have hn := P.2.1
    have hs := pc_sN P hf
    have cf : (nI f).toNatClampNeg = f := nI_clamp (by omega)
    refine ⟨vp_in_nI (by omega) (by decide), ?_⟩
    rw [cf, hst f hf]
    refine ⟨vp_in_nI (by omega) (by decide), ?_⟩
    rw [nI_clamp (by omega), he _ hs.1]
    rcases Nat.lt_or_ge i (en (sN f)) with z | z
    · obtain ⟨m1, m2⟩ := pc_mem P hf h1 z
      refine br_f (nI_ge z (by omega)) ⟨vp_in_nI (by omega) (by decide), ?_⟩
      rw [nI_clamp (by omega)]
      have e2 : (2 : Int32) * nI i = nI (2 * i) := pk_mul 2 i
      rw [e2]
      refine ux_nplace (τ := a_tokType i) U rfl N (by omega) (by rw [fz_t0 (by omega)]; exact m2) (by rw [fz_t1 (by omega)]; exact m2) (kz_t0 (by omega)) (kz_t1 (by omega)) (by omega) (fun n1 reg1 D1 a1 a2 a3 a4 a5 a6 a7 a8 => nm_r (nI_1 i) ?_)
      refine ux_nr61 P hp hst he hf U n (i + 1) n1 reg1 D1 (by omega) (by omega) (by omega) (by omega) a3 (fun n2 reg2 D2 b1 b2 b3 b4 b5 b6 => ?_)
      refine k n2 reg2 D2 (by omega) b2 b3 (ri_M_tr a4 b4) (fun w hw => b5 w (a5 w hw)) (fun q q1 q2 => ?_)
      rcases Nat.lt_or_ge i q with y | y
      · exact b6 q y q2
      · have : q = i := by omega
        subst this
        exact ⟨fun w => b5 _ (a6 w), fun w => b5 _ (a7 w)⟩
    · refine br_t (nI_le z (by omega)) ⟨vp_in_nI (by omega) (by decide), nm_e ?_⟩
      exact k nx a_region D (Nat.le_refl _) (by omega) N ri_M_rf (fun w hw => hw) (fun q q1 q2 => by omega)
theorem ux_nr7 {post : SX → Prop} {p : Nat → Nat} {f : Nat} (P : pc_ok nf t a_sigType a_tokOp a_tokArg a_tokType a_tokScope sN fo en) (hp : ∀ f, f < nf → a_params f = nI (sp_n a_sigType f)) (hst : ∀ f, f < nf → a_start f = nI (sN f)) (he : ∀ q, q < t → a_end q = nI (en q)) (hf : f < nf) (U : uf_ok (pc_col a_sigType a_tokType fo) p a_parent) :
    ∀ (n j nx : Nat) (a_region : Nat → Int32) (D : Nat → Prop), j ≤ 3 → 3 < n + j → nx ≤ 2 * j → ri_N (pc_kz a_sigType a_tokType) (pc_fz fo) p f nx a_region D →
    (∀ nx' reg' (D' : Nat → Prop), nx ≤ nx' → nx' ≤ 6 → ri_N (pc_kz a_sigType a_tokType) (pc_fz fo) p f nx' reg' D' → ri_M (pc_fz fo) f a_region reg' → (∀ w, D w → D' w) → (∀ j', j ≤ j' → j' < 3 → (kd_S (a_sigType (3 * f + j')) ≠ 0 → D' (192 + 6 * f + 2 * j')) ∧ (kd_P (a_sigType (3 * f + j')) ≠ 0 → D' (192 + 6 * f + 2 * j' + 1))) →
      (∀ w, D' w → D w ∨ ∃ s, s < 6 ∧ w = 192 + 6 * f + s ∧ (pc_kz a_sigType a_tokType) w ≠ 0) →
      ∃ n61 : Nat, wX_numberRegions_61 post (nI f) n61 (nI (sN f)) f_functionLimit f_tokenLimit f_cellLimit f_depthLimit f_functions f_accepted f_placed f_openBody f_holeCount (nI nx') f_changed f_freeCell f_active f_calls f_taskTop f_valueTop f_releasing f_outcome f_peakUsed f_resultSize a_sigType a_params a_kept a_start a_finished a_tokOp a_tokArg a_tokType a_tokScope a_end a_holeType a_holeNest a_holeScope a_holeVars a_parent reg' (upd a_sigRegions f (nI nx')) a_allRegions a_cellA a_cellB a_link a_live a_frameFunction a_vars a_saved a_env a_regionFirst a_tasks a_values a_used a_result) →
    wX_numberRegions_7 post (nI f) n (nI j) f_functionLimit f_tokenLimit f_cellLimit f_depthLimit f_functions f_accepted f_placed f_openBody f_holeCount (nI nx) f_changed f_freeCell f_active f_calls f_taskTop f_valueTop f_releasing f_outcome f_peakUsed f_resultSize a_sigType a_params a_kept a_start a_finished a_tokOp a_tokArg a_tokType a_tokScope a_end a_holeType a_holeNest a_holeScope a_holeVars a_parent a_region a_sigRegions a_allRegions a_cellA a_cellB a_link a_live a_frameFunction a_vars a_saved a_env a_regionFirst a_tasks a_values a_used a_result
  | 0, i, _, _, _, h2, h3, _, _, _ => by omega
  | n + 1, j, nx, a_region, D, h1, h2, h3, N, k => by
    have ht := P.1
    have hn := P.2.1
    have cf : (nI f).toNatClampNeg = f := nI_clamp (by omega)
    rcases Nat.lt_or_ge j 3 with z | z
    · have e1 : (3 : Int32) * nI f + nI j = nI (3 * f + j) := by
        show nI 3 * nI f + nI j = _
        rw [pk_mul, nI_add]
      have e2 : (192 : Int32) + 6 * nI f + 2 * nI j = nI (192 + 6 * f + 2 * j) := by
        show nI 192 + nI 6 * nI f + nI 2 * nI j = _
        rw [pk_mul, pk_mul, nI_add, nI_add]
      refine br_f (nI_ge (b := 3) z (by decide)) ?_
      rw [e1, e2]
      refine ⟨vp_in_nI (by omega) (by decide), ?_⟩
      rw [nI_clamp (by omega)]
      refine ux_nplace (τ := a_sigType (3 * f + j)) U rfl N (by omega) (fz_s (by omega)) (by rw [Nat.add_assoc (192 + 6 * f)]; exact fz_s (by omega)) (kz_s0 z) (kz_s1 z) (by omega) (fun n1 reg1 D1 a1 a2 a3 a4 a5 a6 a7 a8 => nm_r (nI_1 j) ?_)
      refine ux_nr7 P hp hst he hf U n (j + 1) n1 reg1 D1 (by omega) (by omega) (by omega) a3 (fun n2 reg2 D2 b1 b2 b3 b4 b5 b6 b7 => ?_)
      refine k n2 reg2 D2 (by omega) b2 b3 (ri_M_tr a4 b4) (fun w hw => b5 w (a5 w hw)) (fun q q1 q2 => ?_) (fun w hw => ?_)
      · rcases Nat.lt_or_ge j q with y | y
        · exact b6 q y q2
        · have : q = j := by omega
          subst this
          exact ⟨fun w => b5 _ (a6 w), fun w => b5 _ (a7 w)⟩
      · rcases b7 w hw with y | y
        · rcases a8 w y with x | ⟨x, x2⟩
          · exact Or.inl x
          · rcases x with x | x
            · exact Or.inr ⟨2 * j, by omega, x, x2⟩
            · exact Or.inr ⟨2 * j + 1, by omega, by omega, x2⟩
        · exact Or.inr y
    · refine br_t (nI_le (a := 3) z (by omega)) ⟨vp_in_nI (by omega) (by decide), nm_e ⟨vp_in_nI (by omega) (by decide), nm_r (e' := nI (sN f)) ?_ ?_⟩⟩
      · rw [cf]; exact hst f hf
      · rw [cf]
        exact k nx a_region D (Nat.le_refl _) (by omega) N ri_M_rf (fun w hw => hw) (fun q q1 q2 => by omega) (fun w hw => Or.inl hw)
theorem ux_nreg {post : SX → Prop} {p : Nat → Nat} {f : Nat} (P : pc_ok nf t a_sigType a_tokOp a_tokArg a_tokType a_tokScope sN fo en) (hp : ∀ f, f < nf → a_params f = nI (sp_n a_sigType f)) (hst : ∀ f, f < nf → a_start f = nI (sN f)) (he : ∀ q, q < t → a_end q = nI (en q)) (hf : f < nf) (U : uf_ok (pc_col a_sigType a_tokType fo) p a_parent) (h0 : ∀ v, v < 240 → (pc_fz fo) v = f → a_region v = -1)
    (k : ∀ nx' reg' n1 n2, ri_F (pc_kz a_sigType a_tokType) (pc_fz fo) p sN en f reg' n1 n2 → (∀ w, (pc_fz fo) w ≠ f → reg' w = a_region w) → post (f_functionLimit, f_tokenLimit, f_cellLimit, f_depthLimit, f_functions, f_accepted, f_placed, f_openBody, f_holeCount, nx', f_changed, f_freeCell, f_active, f_calls, f_taskTop, f_valueTop, f_releasing, f_outcome, f_peakUsed, f_resultSize, a_sigType, a_params, a_kept, a_start, a_finished, a_tokOp, a_tokArg, a_tokType, a_tokScope, a_end, a_holeType, a_holeNest, a_holeScope, a_holeVars, a_parent, reg', upd a_sigRegions f (nI n1), upd a_allRegions f (nI n2), a_cellA, a_cellB, a_link, a_live, a_frameFunction, a_vars, a_saved, a_env, a_regionFirst, a_tasks, a_values, a_used, a_result)) : wpX_numberRegions post (f_functionLimit, f_tokenLimit, f_cellLimit, f_depthLimit, f_functions, f_accepted, f_placed, f_openBody, f_holeCount, f_nextRegion, f_changed, f_freeCell, f_active, f_calls, f_taskTop, f_valueTop, f_releasing, f_outcome, f_peakUsed, f_resultSize, a_sigType, a_params, a_kept, a_start, a_finished, a_tokOp, a_tokArg, a_tokType, a_tokScope, a_end, a_holeType, a_holeNest, a_holeScope, a_holeVars, a_parent, a_region, a_sigRegions, a_allRegions, a_cellA, a_cellB, a_link, a_live, a_frameFunction, a_vars, a_saved, a_env, a_regionFirst, a_tasks, a_values, a_used, a_result) (nI f) := by
  have ht := P.1
  have hn := P.2.1
  have hs := pc_sN P hf
  have ee := pc_end P hs.1
  refine ⟨4, ux_nr7 P hp hst he hf U 4 0 0 a_region (fun _ => False) (by omega) (by omega) (by omega) ?_ (fun n1 reg1 D1 a1 a2 a3 a4 a5 a6 a7 => ⟨en (sN f) + 1, ?_⟩)⟩
  · exact ⟨by omega, fun v h1 h2 => Or.inl (h0 v h1 h2), fun v h1 h2 h3 => absurd (h0 v h1 h2) h3, fun v w h1 h2 h3 h4 _ _ h5 => absurd (h0 v h1 h3) h5, fun v h => h.elim, fun m hm => by omega⟩
  · refine ux_nr61 P hp hst he hf U _ (sN f) n1 reg1 D1 (Nat.le_refl _) (Nat.le_of_lt ee.1) (by omega) (by omega) a3 (fun n2 reg2 D2 b1 b2 b3 b4 b5 b6 => ?_)
    refine k (nI n2) reg2 n1 n2 ⟨b1, b2, fun q b q1 q2 q3 q4 => ?_, fun s s1 s2 => ?_, b3.2.2.1, b3.2.2.2.1, fun m hm => ?_⟩ (fun w hw => by rw [b4.2 w hw, a4.2 w hw])
    · have dq : D2 (2 * q + b) := by
        obtain ⟨m1, m2⟩ := pc_mem P hf q1 q2
        rcases (by omega : b = 0 ∨ b = 1) with rfl | rfl
        · rw [Nat.add_zero, kz_t0 (by omega)] at q4
          exact (b6 q q1 q2).1 q4
        · rw [kz_t1 (by omega)] at q4
          exact (b6 q q1 q2).2 q4
      obtain ⟨d1, d2, d3⟩ := b3.2.2.2.2.1 _ dq
      rcases b3.2.1 _ d1 d2 with z | z
      · exact absurd z d3
      · exact z
    · have ds : D1 (192 + 6 * f + s) := by
        obtain ⟨j, b, j1, b1, e⟩ : ∃ j b, j < 3 ∧ b < 2 ∧ s = 2 * j + b := ⟨s / 2, s % 2, by omega, by omega, by omega⟩
        subst e
        rcases (by omega : b = 0 ∨ b = 1) with rfl | rfl
        · rw [Nat.add_zero] at s2 ⊢
          rw [kz_s0 j1] at s2
          exact (a6 j (by omega) j1).1 s2
        · rw [← Nat.add_assoc] at s2 ⊢
          rw [kz_s1 j1] at s2
          exact (a6 j (by omega) j1).2 s2
      obtain ⟨d1, d2, d3⟩ := a3.2.2.2.2.1 _ ds
      rcases a3.2.1 _ d1 d2 with z | ⟨m, m1, m2⟩
      · exact absurd z d3
      · exact ⟨m, m1, by rw [b4.1 _ d1 d2 d3]; exact m2⟩
    · obtain ⟨w, w1, w2⟩ := a3.2.2.2.2.2 m hm
      obtain ⟨d1, d2, d3⟩ := a3.2.2.2.2.1 _ w1
      rcases a7 w w1 with y | ⟨s, s1, s2, s3⟩
      · exact y.elim
      · subst s2
        exact ⟨s, s1, s3, by rw [b4.1 _ d1 d2 d3]; exact w2⟩
/-- all functions numbered below f -/
def ri_D (kz fz p sN en : Nat → Nat) (f : Nat) (reg sgR alR : Nat → Int32) : Prop := (∀ g, g < f → ∃ n1 n2, sgR g = nI n1 ∧ alR g = nI n2 ∧ ri_F kz fz p sN en g reg n1 n2) ∧ (∀ v, v < 240 → f ≤ fz v → reg v = -1)
theorem ux_inf116 {post : SX → Prop} {p : Nat → Nat} (P : pc_ok nf t a_sigType a_tokOp a_tokArg a_tokType a_tokScope sN fo en) (hp : ∀ f, f < nf → a_params f = nI (sp_n a_sigType f)) (hst : ∀ f, f < nf → a_start f = nI (sN f)) (he : ∀ q, q < t → a_end q = nI (en q)) (hnf : f_functions = nI nf) (U : uf_ok (pc_col a_sigType a_tokType fo) p a_parent)
    (k : ∀ nx' reg' sg' al', ri_D (pc_kz a_sigType a_tokType) (pc_fz fo) p sN en nf reg' sg' al' → post (f_functionLimit, f_tokenLimit, f_cellLimit, f_depthLimit, f_functions, f_accepted, f_placed, f_openBody, f_holeCount, nx', f_changed, f_freeCell, f_active, f_calls, f_taskTop, f_valueTop, f_releasing, f_outcome, f_peakUsed, f_resultSize, a_sigType, a_params, a_kept, a_start, a_finished, a_tokOp, a_tokArg, a_tokType, a_tokScope, a_end, a_holeType, a_holeNest, a_holeScope, a_holeVars, a_parent, reg', sg', al', a_cellA, a_cellB, a_link, a_live, a_frameFunction, a_vars, a_saved, a_env, a_regionFirst, a_tasks, a_values, a_used, a_result)) :
    ∀ (n f : Nat) (f_nextRegion : Int32) (a_region a_sigRegions a_allRegions : Nat → Int32), f ≤ nf → nf < n + f → ri_D (pc_kz a_sigType a_tokType) (pc_fz fo) p sN en f a_region a_sigRegions a_allRegions → wX_inferRegions_116 post n (nI f) f_functionLimit f_tokenLimit f_cellLimit f_depthLimit f_functions f_accepted f_placed f_openBody f_holeCount f_nextRegion f_changed f_freeCell f_active f_calls f_taskTop f_valueTop f_releasing f_outcome f_peakUsed f_resultSize a_sigType a_params a_kept a_start a_finished a_tokOp a_tokArg a_tokType a_tokScope a_end a_holeType a_holeNest a_holeScope a_holeVars a_parent a_region a_sigRegions a_allRegions a_cellA a_cellB a_link a_live a_frameFunction a_vars a_saved a_env a_regionFirst a_tasks a_values a_used a_result
  | 0, f, _, _, _, _, h1, h2, _ => by omega
  | n + 1, f, f_nextRegion, a_region, a_sigRegions, a_allRegions, h1, h2, h3 => by
    have hn := P.2.1
    rcases Nat.lt_or_ge f nf with z | z
    · refine br_f (by rw [hnf]; exact nI_ge z (by omega)) ?_
      refine ux_nreg P hp hst he z U (fun v v1 v2 => h3.2 v v1 (by omega)) (fun nx' reg' n1 n2 a1 a2 => nm_r (nI_1 f) ?_)
      refine ux_inf116 P hp hst he hnf U k n (f + 1) nx' reg' _ _ (by omega) (by omega) ⟨fun g hg => ?_, fun v v1 v2 => ?_⟩
      · by_cases y : g = f
        · subst y
          exact ⟨n1, n2, pk_us, pk_us, a1⟩
        · obtain ⟨m1, m2, c1, c2, c3⟩ := h3.1 g (by omega)
          refine ⟨m1, m2, by rw [pk_un y]; exact c1, by rw [pk_un y]; exact c2, ri_F_cg c3 (fun s hs => fz_s hs) (fun q b q1 q2 q3 => ?_) (fun v hv => ?_) (fun w hw => a2 w (by omega))⟩
          · obtain ⟨d1, d2⟩ := pc_mem P (show g < nf by omega) q1 q2
            have := P.1
            rcases (by omega : b = 0 ∨ b = 1) with rfl | rfl
            · rw [Nat.add_zero, fz_t0 (by omega)]; exact d2
            · rw [fz_t1 (by omega)]; exact d2
          · exact (pc_col_eq (uf_col U.1 U.2.1 _ v (Nat.lt_succ_self _))).1
      · rw [a2 v (by omega)]; exact h3.2 v v1 (by omega)
    · have : f = nf := by omega
      subst this
      exact br_t (by rw [hnf]; exact nI_le z (by omega)) (k f_nextRegion a_region a_sigRegions a_allRegions h3)
theorem ux_inf31 {post : SX → Prop} (P : pc_ok nf t a_sigType a_tokOp a_tokArg a_tokType a_tokScope sN fo en) (hp : ∀ f, f < nf → a_params f = nI (sp_n a_sigType f)) (hst : ∀ f, f < nf → a_start f = nI (sN f)) (he : ∀ q, q < t → a_end q = nI (en q)) (hpl : f_placed = nI t) (hnf : f_functions = nI nf) (h0 : ∀ v, v < 240 → a_region v = -1)
    (k : ∀ p par' ch' nx' reg' sg' al', uf_ok (pc_col a_sigType a_tokType fo) p par' → (∀ f, f < nf → ri_bod a_sigType a_tokOp a_tokArg a_tokType sN fo en p f) → ri_cl a_sigType a_tokOp a_tokArg en p 0 t → ri_D (pc_kz a_sigType a_tokType) (pc_fz fo) p sN en nf reg' sg' al' → post (f_functionLimit, f_tokenLimit, f_cellLimit, f_depthLimit, f_functions, f_accepted, f_placed, f_openBody, f_holeCount, nx', ch', f_freeCell, f_active, f_calls, f_taskTop, f_valueTop, f_releasing, f_outcome, f_peakUsed, f_resultSize, a_sigType, a_params, a_kept, a_start, a_finished, a_tokOp, a_tokArg, a_tokType, a_tokScope, a_end, a_holeType, a_holeNest, a_holeScope, a_holeVars, par', reg', sg', al', a_cellA, a_cellB, a_link, a_live, a_frameFunction, a_vars, a_saved, a_env, a_regionFirst, a_tasks, a_values, a_used, a_result)) :
    ∀ (n f : Nat) (p : Nat → Nat) (a_parent : Nat → Int32) (f_changed : Int32), f ≤ nf → nf < n + f → uf_ok (pc_col a_sigType a_tokType fo) p a_parent → (∀ g, g < f → ri_bod a_sigType a_tokOp a_tokArg a_tokType sN fo en p g) → wX_inferRegions_31 post n (nI f) f_functionLimit f_tokenLimit f_cellLimit f_depthLimit f_functions f_accepted f_placed f_openBody f_holeCount f_nextRegion f_changed f_freeCell f_active f_calls f_taskTop f_valueTop f_releasing f_outcome f_peakUsed f_resultSize a_sigType a_params a_kept a_start a_finished a_tokOp a_tokArg a_tokType a_tokScope a_end a_holeType a_holeNest a_holeScope a_holeVars a_parent a_region a_sigRegions a_allRegions a_cellA a_cellB a_link a_live a_frameFunction a_vars a_saved a_env a_regionFirst a_tasks a_values a_used a_result
  | 0, f, p, _, _, h1, h2, _, _ => by omega
  | n + 1, f, p, a_parent, f_changed, h1, h2, U, h3 => by
    have hn := P.2.1
    rcases Nat.lt_or_ge f nf with z | z
    · refine br_f (by rw [hnf]; exact nI_ge z (by omega)) ?_
      refine ux_ubody P hp hst he z U (fun p' par' ch' g1 b1 => nm_r (nI_1 f) ?_)
      refine ux_inf31 P hp hst he hpl hnf h0 k n (f + 1) p' par' ch' (by omega) (by omega) g1.1 (fun g hg => ?_)
      by_cases y : g = f
      · subst y; exact b1
      · exact ri_bod_up g1.2.1 (h3 g (by omega))
    · have : f = nf := by omega
      subst this
      refine br_t (by rw [hnf]; exact nI_le z (by omega)) ⟨241, ?_⟩
      refine ux_inf57 P hp hst he hpl (PP := fun p => ∀ g, g < f → ri_bod a_sigType a_tokOp a_tokArg a_tokType sN fo en p g) (fun p p' h1 h2 g hg => ri_bod_up h1 (h2 g hg)) (fun p' par' ch' U' b' c' => ⟨f + 1, ?_⟩) 241 0 p a_parent 1 (by omega) (by omega) U h3 (Or.inr ⟨rfl, by have := uf_c_le p; omega⟩)
      exact ux_inf116 P hp hst he hnf U' (fun nx' reg' sg' al' d => k p' par' ch' nx' reg' sg' al' U' b' c' d) (f + 1) 0 _ _ _ _ (by omega) (by omega) ⟨fun g hg => by omega, fun v v1 _ => h0 v v1⟩
theorem ux_inf2 {post : SX → Prop} (P : pc_ok nf t a_sigType a_tokOp a_tokArg a_tokType a_tokScope sN fo en) (hp : ∀ f, f < nf → a_params f = nI (sp_n a_sigType f)) (hst : ∀ f, f < nf → a_start f = nI (sN f)) (he : ∀ q, q < t → a_end q = nI (en q)) (hpl : f_placed = nI t) (hnf : f_functions = nI nf)
    (k : ∀ p par' ch' nx' reg' sg' al', uf_ok (pc_col a_sigType a_tokType fo) p par' → (∀ f, f < nf → ri_bod a_sigType a_tokOp a_tokArg a_tokType sN fo en p f) → ri_cl a_sigType a_tokOp a_tokArg en p 0 t → ri_D (pc_kz a_sigType a_tokType) (pc_fz fo) p sN en nf reg' sg' al' → post (f_functionLimit, f_tokenLimit, f_cellLimit, f_depthLimit, f_functions, f_accepted, f_placed, f_openBody, f_holeCount, nx', ch', f_freeCell, f_active, f_calls, f_taskTop, f_valueTop, f_releasing, f_outcome, f_peakUsed, f_resultSize, a_sigType, a_params, a_kept, a_start, a_finished, a_tokOp, a_tokArg, a_tokType, a_tokScope, a_end, a_holeType, a_holeNest, a_holeScope, a_holeVars, par', reg', sg', al', a_cellA, a_cellB, a_link, a_live, a_frameFunction, a_vars, a_saved, a_env, a_regionFirst, a_tasks, a_values, a_used, a_result)) :
    ∀ (n v : Nat) (a_parent a_region : Nat → Int32), v ≤ 240 → 240 < n + v → (∀ w, w < v → a_parent w = nI w ∧ a_region w = -1) → wX_inferRegions_2 post f_functionLimit f_tokenLimit f_cellLimit f_depthLimit f_functions f_accepted f_placed f_openBody f_holeCount f_nextRegion f_changed f_freeCell f_active f_calls f_taskTop f_valueTop f_releasing f_outcome f_peakUsed f_resultSize n (nI v) a_sigType a_params a_kept a_start a_finished a_tokOp a_tokArg a_tokType a_tokScope a_end a_holeType a_holeNest a_holeScope a_holeVars a_parent a_region a_sigRegions a_allRegions a_cellA a_cellB a_link a_live a_frameFunction a_vars a_saved a_env a_regionFirst a_tasks a_values a_used a_result
  | 0, v, _, _, h1, h2, _ => by omega
  | n + 1, v, a_parent, a_region, h1, h2, h3 => by
    rcases Nat.lt_or_ge v 240 with z | z
    · refine br_f (nI_ge (b := 240) z (by decide)) ⟨vp_in_nI z (by decide), nm_e ⟨vp_in_nI z (by decide), nm_e (nm_r (nI_1 v) ?_)⟩⟩
      rw [nI_clamp (by omega)]
      refine ux_inf2 P hp hst he hpl hnf k n (v + 1) _ _ (by omega) (by omega) (fun w hw => ?_)
      by_cases y : w = v
      · rw [y, pk_us, pk_us]; exact ⟨rfl, rfl⟩
      · rw [pk_un y, pk_un y]; exact h3 w (by omega)
    · have : v = 240 := by omega
      subst this
      refine br_t (nI_le (a := 240) z (by decide)) ⟨nf + 1, ?_⟩
      exact ux_inf31 P hp hst he hpl hnf (fun v hv => (h3 v hv).2) k (nf + 1) 0 id a_parent f_changed (by omega) (by omega) ⟨fun v => Nat.le_refl _, fun v => rfl, fun v hv => (h3 v hv).1⟩ (fun g hg => by omega)
theorem ux_infer {post : SX → Prop} (P : pc_ok nf t a_sigType a_tokOp a_tokArg a_tokType a_tokScope sN fo en) (hp : ∀ f, f < nf → a_params f = nI (sp_n a_sigType f)) (hst : ∀ f, f < nf → a_start f = nI (sN f)) (he : ∀ q, q < t → a_end q = nI (en q)) (hpl : f_placed = nI t) (hnf : f_functions = nI nf)
    (k : ∀ p par' ch' nx' reg' sg' al', uf_ok (pc_col a_sigType a_tokType fo) p par' → (∀ f, f < nf → ri_bod a_sigType a_tokOp a_tokArg a_tokType sN fo en p f) → ri_cl a_sigType a_tokOp a_tokArg en p 0 t → ri_D (pc_kz a_sigType a_tokType) (pc_fz fo) p sN en nf reg' sg' al' → post (f_functionLimit, f_tokenLimit, f_cellLimit, f_depthLimit, f_functions, f_accepted, f_placed, f_openBody, f_holeCount, nx', ch', f_freeCell, f_active, f_calls, f_taskTop, f_valueTop, f_releasing, f_outcome, f_peakUsed, f_resultSize, a_sigType, a_params, a_kept, a_start, a_finished, a_tokOp, a_tokArg, a_tokType, a_tokScope, a_end, a_holeType, a_holeNest, a_holeScope, a_holeVars, par', reg', sg', al', a_cellA, a_cellB, a_link, a_live, a_frameFunction, a_vars, a_saved, a_env, a_regionFirst, a_tasks, a_values, a_used, a_result)) : wpX_inferRegions post (f_functionLimit, f_tokenLimit, f_cellLimit, f_depthLimit, f_functions, f_accepted, f_placed, f_openBody, f_holeCount, f_nextRegion, f_changed, f_freeCell, f_active, f_calls, f_taskTop, f_valueTop, f_releasing, f_outcome, f_peakUsed, f_resultSize, a_sigType, a_params, a_kept, a_start, a_finished, a_tokOp, a_tokArg, a_tokType, a_tokScope, a_end, a_holeType, a_holeNest, a_holeScope, a_holeVars, a_parent, a_region, a_sigRegions, a_allRegions, a_cellA, a_cellB, a_link, a_live, a_frameFunction, a_vars, a_saved, a_env, a_regionFirst, a_tasks, a_values, a_used, a_result) :=
  ⟨241, ux_inf2 P hp hst he hpl hnf k 241 0 a_parent a_region (by omega) (by omega) (fun w hw => by omega)⟩
end
end
section
/-- equal regions of two places of one type -/
def rg_SP (reg : Nat → Int32) (τ : Int32) (z w : Nat) : Prop := (kd_S τ ≠ 0 → reg z = reg w) ∧ (kd_P τ ≠ 0 → reg (z + 1) = reg (w + 1))
def rg_cst (S op arg ty : Nat → Int32) (sN fo en : Nat → Nat) (reg : Nat → Int32) (i : Nat) : Prop :=
  (op i = 2 → ∀ v, arg i = nI v → v < 8 → (v < sp_n S (fo i) → ty i = S (3 * fo i + v) → rg_SP reg (ty i) (2 * i) (192 + 6 * fo i + 2 * v)) ∧ (∀ j, sN (fo i) ≤ j → hz_bl (sp_L op) (sp_A S op arg) j i → sp_sc S op arg (fo i) (sN (fo i)) j = v → ty i = arg j → rg_SP reg (ty i) (2 * i) (2 * (j + 1)))) ∧
  (op i = 4 → rg_SP reg (ty i) (2 * i) (2 * en (i + 1)) ∧ rg_SP reg (ty i) (2 * i) (2 * en (en (i + 1)))) ∧ (op i = 5 → rg_SP reg (ty i) (2 * i) (2 * en (i + 1))) ∧
  (op i = 8 → rg_SP reg (ty i) (2 * i) (2 * en (i + 1)) ∧ (ty i = 3 → reg (2 * i + 1) = reg (2 * (i + 1) + 1))) ∧ (op i = 9 → ty i = 1 → reg (2 * i + 1) = reg (2 * (i + 1) + 1)) ∧ (op i = 10 → rg_SP reg (ty i) (2 * i) (2 * (i + 1)))
/-- what the inference gives -/
def rg_ok (nf t : Nat) (S op arg ty : Nat → Int32) (sN fo en sg al : Nat → Nat) (reg sgR alR : Nat → Int32) : Prop :=
  (∀ f, f < nf → sgR f = nI (sg f) ∧ alR f = nI (al f) ∧ sg f ≤ al f ∧ al f ≤ 200) ∧
  (∀ q b, q < t → b < 2 → pc_kz S ty (2 * q + b) ≠ 0 → ∃ m, m < al (fo q) ∧ reg (2 * q + b) = nI m) ∧
  (∀ f s, f < nf → s < 6 → (pc_kz S ty (192 + 6 * f + s) ≠ 0 → ∃ m, m < sg f ∧ reg (192 + 6 * f + s) = nI m) ∧ (pc_kz S ty (192 + 6 * f + s) = 0 → reg (192 + 6 * f + s) = -1)) ∧
  (∀ q, q < t → rg_cst S op arg ty sN fo en reg q) ∧
  (∀ f, f < nf → rg_SP reg (S (3 * f + 2)) (2 * sN f) (192 + 6 * f + 4)) ∧
  (∀ q g s r x y, q < t → op q = 6 → arg q = nI g → g < nf → s < 6 → r < 6 → pc_kz S ty (192 + 6 * g + s) ≠ 0 → pc_kz S ty (192 + 6 * g + r) ≠ 0 → reg (192 + 6 * g + s) = reg (192 + 6 * g + r) → pc_sl S en g q s = some x → pc_sl S en g q r = some y → reg x = reg y) ∧
  (∀ q b m, q < t → b < 2 → pc_kz S ty (2 * q + b) ≠ 0 → reg (2 * q + b) = nI m → m < sg (fo q) → ∃ s, s < 6 ∧ pc_kz S ty (192 + 6 * fo q + s) = pc_kz S ty (2 * q + b) ∧ reg (192 + 6 * fo q + s) = nI m) ∧
  (∀ f m, f < nf → m < sg f → ∃ s, s < 6 ∧ pc_kz S ty (192 + 6 * f + s) ≠ 0 ∧ reg (192 + 6 * f + s) = nI m)
theorem rg_of {nf t : Nat} {S op arg ty scp : Nat → Int32} {sN fo en p : Nat → Nat} {par reg sgR alR : Nat → Int32} (P : pc_ok nf t S op arg ty scp sN fo en) (U : uf_ok (pc_col S ty fo) p par)
    (B : ∀ f, f < nf → ri_bod S op arg ty sN fo en p f) (C : ri_cl S op arg en p 0 t) (D : ri_D (pc_kz S ty) (pc_fz fo) p sN en nf reg sgR alR) : ∃ sg al, rg_ok nf t S op arg ty sN fo en sg al reg sgR alR := by
  have ht := P.1
  have hn := P.2.1
  have cc : ∀ v, pc_fz fo (uf_r p v) = pc_fz fo v ∧ pc_kz S ty (uf_r p v) = pc_kz S ty v := fun v => pc_col_eq (uf_col U.1 U.2.1 _ v (Nat.lt_succ_self _))
  have F : ∀ f, f < nf → sgR f = nI (sgR f).toNatClampNeg ∧ alR f = nI (alR f).toNatClampNeg ∧ ri_F (pc_kz S ty) (pc_fz fo) p sN en f reg (sgR f).toNatClampNeg (alR f).toNatClampNeg := by
    intro f hf
    obtain ⟨n1, n2, e1, e2, e3⟩ := D.1 f hf
    have := e3.1
    have := e3.2.1
    rw [e1, e2, nI_clamp (by omega), nI_clamp (by omega)]
    exact ⟨rfl, rfl, e3⟩
  have E1 : ∀ f v w, f < nf → v < 240 → w < 240 → pc_fz fo v = f → pc_fz fo w = f → reg v ≠ -1 → reg w ≠ -1 → uf_E p v w → reg v = reg w := by
    intro f v w hf lv lw fv fw hv hw e
    have a := ((F f hf).2.2.2.2.2.2.1 v lv fv hv).1
    have b := ((F f hf).2.2.2.2.2.2.1 w lw fw hw).1
    rw [a, b, e]
  have E2 : ∀ f v w, f < nf → v < 240 → w < 240 → pc_fz fo v = f → pc_fz fo w = f → reg v ≠ -1 → reg v = reg w → uf_E p v w ∧ pc_kz S ty v = pc_kz S ty w := by
    intro f v w hf lv lw fv fw hv e
    have a := ((F f hf).2.2.2.2.2.2.1 v lv fv hv).1
    have b := ((F f hf).2.2.2.2.2.2.1 w lw fw (by rw [← e]; exact hv)).1
    have l1 := uf_le U.1 v
    have l2 := uf_le U.1 w
    have r := (F f hf).2.2.2.2.2.2.2.1 (uf_r p v) (uf_r p w) (by omega) (by omega) (by rw [(cc v).1]; exact fv) (by rw [(cc w).1]; exact fw) (uf_fx U.1 v) (uf_fx U.1 w) (by rw [← a]; exact hv) (by rw [← a, ← b]; exact e)
    exact ⟨r, by rw [← (cc v).2, r, (cc w).2]⟩
  have T1 : ∀ q b, q < t → b < 2 → pc_kz S ty (2 * q + b) ≠ 0 → ∃ m, m < (alR (fo q)).toNatClampNeg ∧ reg (2 * q + b) = nI m := by
    intro q b hq hb hk
    have i := pc_in P hq
    exact (F (fo q) (pc_fo P hq)).2.2.2.2.1 q b i.1 i.2 hb hk
  have T2 : ∀ f s, f < nf → s < 6 → pc_kz S ty (192 + 6 * f + s) ≠ 0 → ∃ m, m < (sgR f).toNatClampNeg ∧ reg (192 + 6 * f + s) = nI m := fun f s hf hs hk => (F f hf).2.2.2.2.2.1 s hs hk
  have al2 : ∀ f, f < nf → (alR f).toNatClampNeg ≤ 200 := fun f hf => (F f hf).2.2.2.1
  have sg2 : ∀ f, f < nf → (sgR f).toNatClampNeg ≤ (alR f).toNatClampNeg := fun f hf => (F f hf).2.2.1
  have N1 : ∀ q b, q < t → b < 2 → pc_kz S ty (2 * q + b) ≠ 0 → reg (2 * q + b) ≠ -1 := by
    intro q b hq hb hk
    obtain ⟨m, m1, m2⟩ := T1 q b hq hb hk
    have := al2 _ (pc_fo P hq)
    rw [m2]; exact nI_nm1 (by omega)
  have N2 : ∀ f s, f < nf → s < 6 → pc_kz S ty (192 + 6 * f + s) ≠ 0 → reg (192 + 6 * f + s) ≠ -1 := by
    intro f s hf hs hk
    obtain ⟨m, m1, m2⟩ := T2 f s hf hs hk
    have := al2 f hf
    have := sg2 f hf
    rw [m2]; exact nI_nm1 (by omega)
  have fzb : ∀ q b, q < t → b < 2 → pc_fz fo (2 * q + b) = fo q := by
    intro q b hq hb
    rcases (by omega : b = 0 ∨ b = 1) with rfl | rfl
    · exact fz_t0 (by omega)
    · exact fz_t1 (by omega)
  -- two token places
  have TT : ∀ i j, i < t → j < t → fo i = fo j → ty i = ty j → uf_EE p (2 * i) (2 * j) → rg_SP reg (ty i) (2 * i) (2 * j) := by
    intro i j hi hj hf hty e
    refine ⟨fun k => ?_, fun k => ?_⟩
    · have k1 : pc_kz S ty (2 * i + 0) ≠ 0 := by rw [Nat.add_zero, kz_t0 (by omega)]; exact k
      have k2 : pc_kz S ty (2 * j + 0) ≠ 0 := by rw [Nat.add_zero, kz_t0 (by omega), ← hty]; exact k
      exact E1 (fo i) (2 * i) (2 * j) (pc_fo P hi) (by omega) (by omega) (fzb i 0 hi (by omega)) (by rw [hf]; exact fzb j 0 hj (by omega)) (N1 i 0 hi (by omega) k1) (N1 j 0 hj (by omega) k2) e.1
    · have k1 : pc_kz S ty (2 * i + 1) ≠ 0 := by rw [kz_t1 (by omega)]; exact k
      have k2 : pc_kz S ty (2 * j + 1) ≠ 0 := by rw [kz_t1 (by omega), ← hty]; exact k
      exact E1 (fo i) (2 * i + 1) (2 * j + 1) (pc_fo P hi) (by omega) (by omega) (fzb i 1 hi (by omega)) (by rw [hf]; exact fzb j 1 hj (by omega)) (N1 i 1 hi (by omega) k1) (N1 j 1 hj (by omega) k2) e.2
  have TP : ∀ i j, i < t → j < t → fo i = fo j → kd_P (ty i) ≠ 0 → kd_P (ty j) ≠ 0 → uf_E p (2 * i + 1) (2 * j + 1) → reg (2 * i + 1) = reg (2 * j + 1) := by
    intro i j hi hj hf h1 h2 e
    have k1 : pc_kz S ty (2 * i + 1) ≠ 0 := by rw [kz_t1 (by omega)]; exact h1
    have k2 : pc_kz S ty (2 * j + 1) ≠ 0 := by rw [kz_t1 (by omega)]; exact h2
    exact E1 (fo i) (2 * i + 1) (2 * j + 1) (pc_fo P hi) (by omega) (by omega) (fzb i 1 hi (by omega)) (by rw [hf]; exact fzb j 1 hj (by omega)) (N1 i 1 hi (by omega) k1) (N1 j 1 hj (by omega) k2) e
  have TS : ∀ i j, i < t → j < 3 → ty i = S (3 * fo i + j) → uf_EE p (2 * i) (192 + 6 * fo i + 2 * j) → rg_SP reg (ty i) (2 * i) (192 + 6 * fo i + 2 * j) := by
    intro i j hi hj hty e
    have hf := pc_fo P hi
    refine ⟨fun k => ?_, fun k => ?_⟩
    · have k1 : pc_kz S ty (2 * i + 0) ≠ 0 := by rw [Nat.add_zero, kz_t0 (by omega)]; exact k
      have k2 : pc_kz S ty (192 + 6 * fo i + 2 * j) ≠ 0 := by rw [kz_s0 hj, ← hty]; exact k
      exact E1 (fo i) (2 * i) _ hf (by omega) (by omega) (fzb i 0 hi (by omega)) (fz_s (by omega)) (N1 i 0 hi (by omega) k1) (N2 _ _ hf (by omega) k2) e.1
    · have k1 : pc_kz S ty (2 * i + 1) ≠ 0 := by rw [kz_t1 (by omega)]; exact k
      have k2 : pc_kz S ty (192 + 6 * fo i + 2 * j + 1) ≠ 0 := by rw [kz_s1 hj, ← hty]; exact k
      have ea : 192 + 6 * fo i + 2 * j + 1 = 192 + 6 * fo i + (2 * j + 1) := by omega
      have e2 := e.2
      rw [ea] at k2 e2 ⊢
      exact E1 (fo i) (2 * i + 1) _ hf (by omega) (by omega) (fzb i 1 hi (by omega)) (fz_s (by omega)) (N1 i 1 hi (by omega) k1) (N2 _ _ hf (by omega) k2) e2
  refine ⟨fun f => (sgR f).toNatClampNeg, fun f => (alR f).toNatClampNeg, fun f hf => ⟨(F f hf).1, (F f hf).2.1, sg2 f hf, al2 f hf⟩, T1, fun f s hf hs => ⟨T2 f s hf hs, fun hk => ?_⟩, fun i hi => ?_, fun f hf => ?_, ?_, ?_, fun f m hf hm => (F f hf).2.2.2.2.2.2.2.2 m hm⟩
  · by_cases z : reg (192 + 6 * f + s) = -1
    · exact z
    · exact absurd hk ((F f hf).2.2.2.2.2.2.1 _ (by omega) (fz_s hs) z).2
  · have hin := pc_in P hi
    obtain ⟨c1, c2, c3, c4, c5, c6⟩ := (B (fo i) (pc_fo P hi)).2 i hin.1 hin.2
    refine ⟨fun h v e l => ⟨fun y w => ?_, fun j j1 j2 j3 w => ?_⟩, fun h => ?_, fun h => ?_, fun h => ?_, fun h w => ?_, fun h => ?_⟩
    · exact TS i v hi (by have := sp_n_le S (fo i); omega) w ((c1 h v e l).1 y)
    · have h5 : op j = 5 := j2.1
      have lj : j < i := j2.2.1.1
      have c0 := pc_c0 P (show j < t by omega) (by rw [sp_A_5 h5]; omega)
      have tc : ty (j + 1) = arg j := by rw [c0.2.2.2.2.2.2, h5]; rfl
      have b := ((pc_bl P hi lj).mp j2).2.2
      have d := pc_desc P (show j < t by omega) (show j ≤ i by omega) b
      exact TT i (j + 1) hi c0.2.2.2.1 (by rw [c0.2.2.2.2.1, d.2]) (by rw [tc, w]) ((c1 h v e l).2 j j1 j2 j3)
    · have hA : sp_A S op arg i = 3 := by unfold sp_A sp_ar; rw [h]; rfl
      have d1 := pc_c1 P hi (by omega)
      have d2 := pc_c2 P hi (by omega)
      exact ⟨TT i _ hi d1.2.2.2.1 d1.2.2.2.2.1.symm (by rw [d1.2.2.2.2.2.2, h]; rfl) (c2 h).1, TT i _ hi d2.2.2.2.1 d2.2.2.2.2.1.symm (by rw [d2.2.2.2.2.2.2, h]; rfl) (c2 h).2⟩
    · have hA : sp_A S op arg i = 2 := sp_A_5 h
      have d1 := pc_c1 P hi (by omega)
      exact TT i _ hi d1.2.2.2.1 d1.2.2.2.2.1.symm (by rw [d1.2.2.2.2.2.2, h]; rfl) (c3 h)
    · have hA : sp_A S op arg i = 2 := by unfold sp_A sp_ar; rw [h]; rfl
      have d0 := pc_c0 P hi (by omega)
      have d1 := pc_c1 P hi (by omega)
      refine ⟨TT i _ hi d1.2.2.2.1 d1.2.2.2.2.1.symm (by rw [d1.2.2.2.2.2.2, h]; rfl) (c4 h).1, fun h3 => ?_⟩
      have t0 : ty (i + 1) = 1 := by rw [d0.2.2.2.2.2.2, h, h3]; rfl
      exact TP i (i + 1) hi d0.2.2.2.1 d0.2.2.2.2.1.symm (by rw [h3]; decide) (by rw [t0]; decide) ((c4 h).2 h3)
    · have hA : sp_A S op arg i = 1 := by unfold sp_A sp_ar; rw [h]; rfl
      have d0 := pc_c0 P hi (by omega)
      have t0 : ty (i + 1) = 3 := by rw [d0.2.2.2.2.2.2, h, w]; rfl
      exact TP i (i + 1) hi d0.2.2.2.1 d0.2.2.2.2.1.symm (by rw [w]; decide) (by rw [t0]; decide) (c5 h w)
    · have hA : sp_A S op arg i = 1 := by unfold sp_A sp_ar; rw [h]; rfl
      have d0 := pc_c0 P hi (by omega)
      exact TT i _ hi d0.2.2.2.1 d0.2.2.2.2.1.symm (by rw [d0.2.2.2.2.2.2, h]; rfl) (c6 h)
  · have hs := pc_sN P hf
    have fs := pc_foS P hf
    have T := pc_tok P hs.1
    rw [fs] at T
    have ty2 : ty (sN f) = S (3 * f + 2) := by
      rcases T.2.1 with ⟨-, z⟩ | ⟨q, k', z1, z2, -⟩
      · exact z
      · have := z2.1; omega
    have := TS (sN f) 2 hs.1 (by omega) (by rw [fs]; exact ty2) (by rw [fs]; exact (B f hf).1)
    rw [fs, ty2] at this
    exact this
  · intro q g s r x y hq h6 ha hg hs hr ks kr e ex ey
    have a := E2 g (192 + 6 * g + s) (192 + 6 * g + r) hg (by omega) (by omega) (fz_s hs) (fz_s hr) (N2 g s hg hs ks) e
    have hgen : ∀ s r x y, s < 6 → r < s → pc_kz S ty (192 + 6 * g + s) ≠ 0 → pc_kz S ty (192 + 6 * g + r) ≠ 0 → uf_E p (192 + 6 * g + s) (192 + 6 * g + r) → pc_sl S en g q s = some x → pc_sl S en g q r = some y → reg x = reg y := by
      intro s r x y hs hr ks kr e ex ey
      have c := C q g (by omega) hq h6 ha (by omega) s r hs hr x y ex ey e
      obtain ⟨x1, x2, x3, x4⟩ := pc_sl_kz P hq h6 hg ha hs ex
      obtain ⟨y1, y2, y3, y4⟩ := pc_sl_kz P hq h6 hg ha (by omega) ey
      have dx : x = 2 * (x / 2) + x % 2 := by omega
      have dy : y = 2 * (y / 2) + y % 2 := by omega
      have nx : reg x ≠ -1 := by
        rw [dx]; exact N1 _ _ x2 (by omega) (by rw [← dx, x3]; exact ks)
      have ny : reg y ≠ -1 := by
        rw [dy]; exact N1 _ _ y2 (by omega) (by rw [← dy, y3]; exact kr)
      exact E1 (fo q) x y (pc_fo P hq) (by omega) (by omega) x4 y4 nx ny c
    rcases Nat.lt_trichotomy r s with z | z | z
    · exact hgen s r x y hs z ks kr a.1 ex ey
    · subst z
      rw [ex] at ey
      rw [Option.some.inj ey]
    · exact (hgen r s y x hr z kr ks a.1.symm ey ex).symm
  · intro q b m hq hb hk em hm
    have hf := pc_fo P hq
    obtain ⟨s, s1, s2, s3⟩ := (F (fo q) hf).2.2.2.2.2.2.2.2 m hm
    have a := E2 (fo q) (192 + 6 * fo q + s) (2 * q + b) hf (by omega) (by omega) (fz_s s1) (fzb q b hq hb) (N2 _ s hf s1 s2) (by rw [s3, em])
    exact ⟨s, s1, a.2, s3⟩
end
section
def hz_scn (A : Nat → Nat) (p q r : Nat) : Prop := (r = 0 ∧ ∃ j, p < j ∧ j ≤ q ∧ hz_H A j < hz_H A p) ∨ (0 < r ∧ (r : Int) = hz_H A q - hz_H A p + 1 ∧ ∀ j, p < j → j ≤ q → hz_H A p ≤ hz_H A j)
theorem hz_scn_an {A : Nat → Nat} {p q r : Nat} (h : hz_scn A p q r) (hp : p < q) : 0 < r ↔ hz_an A p q := by
  rcases h with ⟨h1, j, h2, h3, h4⟩ | ⟨h1, h2, h3⟩
  · constructor
    · intro z; omega
    · intro z
      have := z.2 j h2 h3; omega
  · exact ⟨fun _ => ⟨hp, h3⟩, fun _ => h1⟩
def sp_tv (nf t : Nat) (op arg : Nat → Int32) : Prop := ∀ q, q < t → sp_o13 (op q) ∧ (op q = 6 → ∃ g, g < nf ∧ arg q = nI g)
def sp_ys (nf : Nat) (S par res : Nat → Int32) : Prop := nf ≤ 8 ∧ ∀ f, f < nf → par (2 * f) = S (3 * f) ∧ par (2 * f + 1) = S (3 * f + 1) ∧ res f = S (3 * f + 2)
theorem nd_step (m a : Nat) : nI (m + 1) + (nI a - 1) = nI (m + a) := by
  have e : nI (m + 1) + (nI a - 1) = nI m + nI a := by
    rw [← nI_1]
    grind
  rw [e, nI_add]
section
variable {g_maxFunctions g_maxTokens g_maxCells g_maxDepth g_functions g_tokens g_open g_accepted g_made g_used g_most g_last g_answer g_calls g_depth : Int32} {b_result b_param b_start b_finished b_tokOp b_tokArg b_tokType b_first b_second b_cellKind b_freed b_fn b_born b_actual b_value b_known : Nat → Int32}
variable {nf t : Nat} {S : Nat → Int32}
theorem uy_params {post : Int32 → Prop} {f : Nat} (Z : sp_ys nf S b_param b_result) (hf : f < nf) (k : post (nI (sp_n S f))) : wpY_params post (g_maxFunctions, g_maxTokens, g_maxCells, g_maxDepth, g_functions, g_tokens, g_open, g_accepted, g_made, g_used, g_most, g_last, g_answer, g_calls, g_depth, b_result, b_param, b_start, b_finished, b_tokOp, b_tokArg, b_tokType, b_first, b_second, b_cellKind, b_freed, b_fn, b_born, b_actual, b_value, b_known) (nI f) := by
  have hn := Z.1
  have e := Z.2 f hf
  have e2 : (2 : Int32) * nI f = nI (2 * f) := pk_mul 2 f
  unfold sp_n at k
  refine ⟨by rw [e2]; exact vp_in_nI (by omega) (by decide), ?_⟩
  rw [e2, nI_1, nI_clamp (by omega), nI_clamp (by omega), e.1, e.2.1]
  by_cases z : S (3 * f) = -1
  · rw [if_pos z] at k
    exact br_t z k
  · rw [if_neg z] at k
    refine br_f z ⟨vp_in_nI (by omega) (by decide), ?_⟩
    by_cases y : S (3 * f + 1) = -1
    · rw [if_pos y] at k
      exact br_t y k
    · rw [if_neg y] at k
      exact br_f y k
theorem uy_holesOf {post : Int32 → Prop} {o a : Int32} (Z : sp_ys nf S b_param b_result) (ho : sp_o13 o) (h6 : o = 6 → ∃ g, g < nf ∧ a = nI g) (k : post (nI (sp_ar S o a))) : wpY_holesOf post (g_maxFunctions, g_maxTokens, g_maxCells, g_maxDepth, g_functions, g_tokens, g_open, g_accepted, g_made, g_used, g_most, g_last, g_answer, g_calls, g_depth, b_result, b_param, b_start, b_finished, b_tokOp, b_tokArg, b_tokType, b_first, b_second, b_cellKind, b_freed, b_fn, b_born, b_actual, b_value, b_known) o a := by
  rcases ho with rfl | rfl | rfl | rfl | rfl | rfl | rfl | rfl | rfl | rfl | rfl | rfl | rfl
  · exact (br_f (by decide) (br_t (by decide) (k)))
  · exact (br_f (by decide) (br_f (by decide) (br_t (by decide) (k))))
  · exact (br_f (by decide) (br_f (by decide) (br_f (by decide) (br_f (by decide) (br_f (by decide) (br_f (by decide) (br_f (by decide) (br_f (by decide) (br_f (by decide) (k))))))))))
  · exact (br_f (by decide) (br_f (by decide) (br_f (by decide) (br_f (by decide) (br_f (by decide) (br_f (by decide) (br_f (by decide) (br_f (by decide) (br_t (by decide) (k))))))))))
  · exact (br_f (by decide) (br_f (by decide) (br_f (by decide) (br_f (by decide) (br_f (by decide) (br_f (by decide) (br_f (by decide) (br_f (by decide) (br_f (by decide) (k))))))))))
  · obtain ⟨g, g1, g2⟩ := h6 rfl
    subst g2
    have hn := Z.1
    have e : sp_ar S 6 (nI g) = sp_n S g := by
      show sp_n S (nI g).toNatClampNeg = _
      rw [nI_clamp (by omega)]
    rw [e] at k
    exact (br_t (by decide) (uy_params Z g1 k))
  · exact (br_f (by decide) (br_f (by decide) (br_f (by decide) (br_t (by decide) (k)))))
  · exact (br_f (by decide) (br_f (by decide) (br_f (by decide) (br_f (by decide) (br_f (by decide) (br_f (by decide) (br_f (by decide) (br_f (by decide) (br_f (by decide) (k))))))))))
  · exact (br_f (by decide) (br_f (by decide) (br_f (by decide) (br_f (by decide) (br_t (by decide) (k))))))
  · exact (br_f (by decide) (br_f (by decide) (br_f (by decide) (br_f (by decide) (br_f (by decide) (br_t (by decide) (k)))))))
  · exact (br_f (by decide) (br_f (by decide) (br_f (by decide) (br_f (by decide) (br_f (by decide) (br_f (by decide) (br_t (by decide) (k))))))))
  · exact (br_f (by decide) (br_f (by decide) (br_f (by decide) (br_f (by decide) (br_f (by decide) (br_f (by decide) (br_f (by decide) (br_f (by decide) (br_f (by decide) (k))))))))))
  · exact (br_f (by decide) (br_f (by decide) (br_f (by decide) (br_f (by decide) (br_f (by decide) (br_f (by decide) (br_f (by decide) (br_t (by decide) (k)))))))))
theorem uy_hTok {post : Int32 → Prop} {q : Nat} (Z : sp_ys nf S b_param b_result) (V : sp_tv nf t b_tokOp b_tokArg) (hq : q < t) (k : post (nI ((sp_A S b_tokOp b_tokArg) q))) : wpY_holesOf post (g_maxFunctions, g_maxTokens, g_maxCells, g_maxDepth, g_functions, g_tokens, g_open, g_accepted, g_made, g_used, g_most, g_last, g_answer, g_calls, g_depth, b_result, b_param, b_start, b_finished, b_tokOp, b_tokArg, b_tokType, b_first, b_second, b_cellKind, b_freed, b_fn, b_born, b_actual, b_value, b_known) (b_tokOp q) (b_tokArg q) := uy_holesOf Z (V q hq).1 (V q hq).2 k
theorem uy_scan5 {post : Int32 → Prop} {p q : Nat} (Z : sp_ys nf S b_param b_result) (V : sp_tv nf t b_tokOp b_tokArg) (ht : t ≤ 96) (hq : q ≤ t) (k : ∀ r, hz_scn (sp_A S b_tokOp b_tokArg) p q r → post (nI r)) : ∀ n i nd : Nat, p ≤ i → i ≤ q → q < n + i → hz_scn (sp_A S b_tokOp b_tokArg) p i nd → wY_scan_5 post (nI q) g_maxFunctions g_maxTokens g_maxCells g_maxDepth g_functions g_tokens g_open g_accepted g_made g_used g_most g_last g_answer g_calls g_depth b_result b_param b_start b_finished b_tokOp b_tokArg b_tokType b_first b_second b_cellKind b_freed b_fn b_born b_actual b_value b_known n (nI nd) (nI i)
  | 0, i, nd, h1, h2, h3, _ => by omega
  | n + 1, i, nd, h1, h2, h3, h4 => by
    have bi := hz_bd (sp_A_le S b_tokOp b_tokArg) i
    have bp := hz_bd (sp_A_le S b_tokOp b_tokArg) p
    have hnd : nd < 1000 := by
      rcases h4 with ⟨h4, -⟩ | ⟨h4, h5, -⟩ <;> omega
    rcases Nat.lt_or_ge i q with z | z
    · refine br_f (nI_ge z (by omega)) ?_
      rcases Nat.eq_zero_or_pos nd with y | y
      · subst y
        refine br_t (by decide) (k 0 ?_)
        rcases h4 with ⟨h4, j, j1, j2, j3⟩ | ⟨h4, h5, -⟩
        · exact Or.inl ⟨rfl, j, j1, by omega, j3⟩
        · omega
      · obtain ⟨m, rfl⟩ : ∃ m, nd = m + 1 := ⟨nd - 1, by omega⟩
        refine br_f (nI_nle (by omega) (by omega)) ⟨vp_in_nI (by omega) (by decide), vp_in_nI (by omega) (by decide), ?_⟩
        rw [nI_clamp (by omega)]
        refine uy_hTok Z V (by omega) (nm_r (nd_step m ((sp_A S b_tokOp b_tokArg) i)) (nm_r (nI_1 i) ?_))
        refine uy_scan5 Z V ht hq k n (i + 1) (m + (sp_A S b_tokOp b_tokArg) i) (by omega) (by omega) (by omega) ?_
        have hs := hz_s (sp_A S b_tokOp b_tokArg) i
        rcases h4 with ⟨h4, -⟩ | ⟨h4, h5, h6⟩
        · omega
        · rcases Nat.eq_zero_or_pos (m + (sp_A S b_tokOp b_tokArg) i) with x | x
          · exact Or.inl ⟨x, i + 1, by omega, by omega, by omega⟩
          · refine Or.inr ⟨x, by omega, fun j j1 j2 => ?_⟩
            rcases Nat.lt_or_ge j (i + 1) with w | w
            · exact h6 j j1 (by omega)
            · have : j = i + 1 := by omega
              subst this
              omega
    · have : i = q := by omega
      subst this
      exact br_t (nI_le (Nat.le_refl _) (by omega)) (k nd h4)
theorem uy_scan {post : Int32 → Prop} {p q : Nat} (Z : sp_ys nf S b_param b_result) (V : sp_tv nf t b_tokOp b_tokArg) (ht : t ≤ 96) (hp : p ≤ q) (hq : q ≤ t) (k : ∀ r, hz_scn (sp_A S b_tokOp b_tokArg) p q r → post (nI r)) : wpY_scan post (g_maxFunctions, g_maxTokens, g_maxCells, g_maxDepth, g_functions, g_tokens, g_open, g_accepted, g_made, g_used, g_most, g_last, g_answer, g_calls, g_depth, b_result, b_param, b_start, b_finished, b_tokOp, b_tokArg, b_tokType, b_first, b_second, b_cellKind, b_freed, b_fn, b_born, b_actual, b_value, b_known) (nI p) (nI q) :=
  ⟨q + 1, uy_scan5 Z V ht hq k (q + 1) p 1 (Nat.le_refl _) hp (by omega) (Or.inr ⟨by omega, by omega, fun j j1 j2 => by omega⟩)⟩
theorem uy_holeType {post : Int32 → Prop} {p k : Nat} (Z : sp_ys nf S b_param b_result) (V : sp_tv nf t b_tokOp b_tokArg) (ht : t ≤ 96) (hp : p < t) (hk : k < (sp_A S b_tokOp b_tokArg) p) (h8 : b_tokOp p = 8 → b_tokType p = 2 ∨ b_tokType p = 3) (K : post (sp_ct S (b_tokOp p) (b_tokArg p) (b_tokType p) k)) : wpY_holeType post (g_maxFunctions, g_maxTokens, g_maxCells, g_maxDepth, g_functions, g_tokens, g_open, g_accepted, g_made, g_used, g_most, g_last, g_answer, g_calls, g_depth, b_result, b_param, b_start, b_finished, b_tokOp, b_tokArg, b_tokType, b_first, b_second, b_cellKind, b_freed, b_fn, b_born, b_actual, b_value, b_known) (nI p) (nI k) := by
  have hn := Z.1
  have cp : (nI p).toNatClampNeg = p := nI_clamp (by omega)
  have hin : vp_in (nI p) 96 := vp_in_nI (by omega) (by decide)
  refine ⟨hin, ?_⟩
  rw [cp]
  have hA3 := sp_A_le S b_tokOp b_tokArg p
  obtain ⟨v1, v2⟩ := V p hp
  have hAo : ∀ o, b_tokOp p = o → sp_ar S o (b_tokArg p) = (sp_A S b_tokOp b_tokArg) p := fun o ho => by unfold sp_A; rw [ho]
  rcases v1 with h | h | h | h | h | h | h | h | h | h | h | h | h
  · have := hAo _ h
    have e : sp_ar S 1 (b_tokArg p) = 0 := rfl
    omega
  · have := hAo _ h
    have e : sp_ar S 2 (b_tokArg p) = 0 := rfl
    omega
  · rw [h] at K ⊢
    exact nm_e ⟨hin, nm_e (br_f (by decide) (br_f (by decide) (br_f (by decide) (br_f (by decide) (br_f (by decide) (br_f (by decide) (br_f (by decide) (br_f (by decide) (br_f (by decide) (br_f (by decide) (K)))))))))))⟩
  · rw [h] at K ⊢
    refine nm_e ⟨hin, nm_e (br_f (by decide) (br_f (by decide) (br_f (by decide) (br_f (by decide) (br_f (by decide) (?_))))))⟩
    refine br_t (by decide) ?_
    rcases Nat.eq_zero_or_pos k with z | z
    · subst z
      exact (br_f (by decide) (br_f (by decide) (br_f (by decide) (br_f (by decide) (br_f (by decide) (K))))))
    · refine br_t (nI_lt (a := 0) z (by omega)) ?_
      have e : sp_ct S 4 (b_tokArg p) (b_tokType p) k = b_tokType p := by
        show (if k = 0 then (0 : Int32) else b_tokType p) = _
        rw [if_neg (by omega)]
      rw [e] at K; exact K
  · rw [h] at K ⊢
    refine nm_e ⟨hin, nm_e (br_f (by decide) (br_f (by decide) (br_t (by decide) (?_))))⟩
    rcases Nat.eq_zero_or_pos k with z | z
    · subst z
      refine br_t (by decide) ⟨hin, ?_⟩
      exact K
    · have e : sp_ct S 5 (b_tokArg p) (b_tokType p) k = b_tokType p := by
        show (if k = 0 then b_tokArg p else b_tokType p) = _
        rw [if_neg (by omega)]
      rw [e] at K
      exact br_f (nI_ne0 z (by omega)) (br_t (by decide) K)
  · obtain ⟨g, g1, g2⟩ := v2 h
    have e3 := Z.2 g g1
    have eA := hAo _ h
    have e0 : sp_ar S 6 (nI g) = sp_n S g := by
      show sp_n S (nI g).toNatClampNeg = _
      rw [nI_clamp (by omega)]
    rw [g2, e0] at eA
    have hle := sp_n_le S g
    have ek : (2 : Int32) * nI g + nI k = nI (2 * g + k) := by
      show nI 2 * nI g + nI k = _
      rw [pk_mul, nI_add]
    have ec : sp_ct S 6 (nI g) (b_tokType p) k = S (3 * g + k) := by
      show S (3 * (nI g).toNatClampNeg + k) = _
      rw [nI_clamp (by omega)]
    rw [h, g2, ec] at K
    rw [h]
    refine nm_e ⟨hin, nm_e (br_t (by decide) ⟨hin, ?_⟩)⟩
    rw [g2, ek]
    refine ⟨vp_in_nI (by omega) (by decide), ?_⟩
    rw [nI_clamp (by omega)]
    rcases (by omega : k = 0 ∨ k = 1) with rfl | rfl
    · rw [Nat.add_zero, e3.1]; exact K
    · rw [e3.2.1]; exact K
  · have := hAo _ h
    have e : sp_ar S 7 (b_tokArg p) = 0 := rfl
    omega
  · have eA := hAo _ h
    have e0 : sp_ar S 8 (b_tokArg p) = 2 := rfl
    have h8' := h8 h
    rw [h] at K ⊢
    refine nm_e ⟨hin, nm_e (br_f (by decide) (br_f (by decide) (br_f (by decide) (br_f (by decide) (br_f (by decide) (br_f (by decide) (?_)))))))⟩
    refine br_t (by decide) ?_
    rcases (by omega : k = 0 ∨ k = 1) with rfl | rfl
    · refine (br_f (by decide) (br_f (by decide) (br_f (by decide) (br_t (by decide) (?_)))))
      rcases h8' with w | w
      · rw [w] at K ⊢
        exact (br_f (by decide) (K))
      · rw [w] at K ⊢
        exact (br_t (by decide) (K))
    · exact br_t (by decide) K
  · rw [h] at K ⊢
    refine nm_e ⟨hin, nm_e (br_f (by decide) (br_f (by decide) (br_f (by decide) (br_f (by decide) (br_f (by decide) (br_f (by decide) (br_f (by decide) (br_t (by decide) ?_))))))))⟩
    have e : sp_ct S 9 (b_tokArg p) (b_tokType p) k = if b_tokType p = 0 then 2 else 3 := rfl
    rw [e] at K
    refine br_c (fun z => ?_) (fun z => ?_)
    · rw [if_pos z] at K; exact K
    · rw [if_neg z] at K; exact K
  · rw [h] at K ⊢
    exact nm_e ⟨hin, nm_e (br_f (by decide) (br_f (by decide) (br_f (by decide) (br_f (by decide) (br_t (by decide) (K))))))⟩
  · rw [h] at K ⊢
    refine nm_e ⟨hin, nm_e (br_f (by decide) (br_t (by decide) (⟨hin, ?_⟩)))⟩
    exact K
  · rw [h] at K ⊢
    exact nm_e ⟨hin, nm_e (br_f (by decide) (br_f (by decide) (br_f (by decide) (br_f (by decide) (br_f (by decide) (br_f (by decide) (br_f (by decide) (br_f (by decide) (br_f (by decide) (br_f (by decide) (K)))))))))))⟩
  · rw [h] at K ⊢
    exact nm_e ⟨hin, nm_e (br_f (by decide) (br_f (by decide) (br_f (by decide) (br_f (by decide) (br_f (by decide) (br_f (by decide) (br_f (by decide) (br_f (by decide) (br_t (by decide) (K))))))))))⟩
end
end
section
section
variable {g_maxFunctions g_maxTokens g_maxCells g_maxDepth g_functions g_tokens g_open g_accepted g_made g_used g_most g_last g_answer g_calls g_depth : Int32} {b_result b_param b_start b_finished b_tokOp b_tokArg b_tokType b_first b_second b_cellKind b_freed b_fn b_born b_actual b_value b_known : Nat → Int32}
variable {nf t f s : Nat} {S : Nat → Int32}
theorem uy_want2 {post : Int32 → Prop} {p k : Nat} (Z : sp_ys nf S b_param b_result) (V : sp_tv nf t b_tokOp b_tokArg) (ht : t ≤ 96) (htok : g_tokens = nI t) (hc : hz_ch (sp_A S b_tokOp b_tokArg) p k t) (h8 : b_tokOp p = 8 → b_tokType p = 2 ∨ b_tokType p = 3) (K : post (sp_ct S (b_tokOp p) (b_tokArg p) (b_tokType p) k)) : ∀ n i : Nat, p < i → i ≤ t → t < n + i → wY_want_21 post g_maxFunctions g_maxTokens g_maxCells g_maxDepth g_functions g_tokens g_open g_accepted g_made g_used g_most g_last g_answer g_calls g_depth b_result b_param b_start b_finished b_tokOp b_tokArg b_tokType b_first b_second b_cellKind b_freed b_fn b_born b_actual b_value b_known n (nI p) (nI i)
  | 0, i, h1, h2, h3 => by omega
  | n + 1, i, h1, h2, h3 => by
    have hpt := hc.1
    rcases Nat.lt_or_ge i t with z | z
    · refine br_f (by rw [htok]; exact nI_ge z (by omega)) ?_
      rw [htok]
      refine uy_scan Z V ht (by omega) (Nat.le_refl _) (fun r hr => ?_)
      have hr0 : r = 0 := by
        rcases Nat.eq_zero_or_pos r with y | y
        · exact y
        · have a := ((hz_scn_an hr z).mp y)
          have b := hc.2.2.2 i h1 z
          have d := a.2 t z (Nat.le_refl _)
          omega
      subst hr0
      rw [← htok]
      exact br_t (by decide) (nm_r (nI_1 i) (uy_want2 Z V ht htok hc h8 K n (i + 1) (by omega) (by omega) (by omega)))
    · have e : i = t := by omega
      subst e
      have hin : vp_in (nI p) 96 := vp_in_nI (by omega) (by decide)
      refine br_t (by rw [htok]; exact nI_le (Nat.le_refl _) (by omega)) (br_t (nI_pos' (by omega)) ⟨hin, hin, ?_⟩)
      rw [nI_clamp (by omega)]
      refine uy_hTok Z V (by omega) ?_
      rw [htok]
      refine uy_scan Z V ht (by omega) (Nat.le_refl _) (fun r hr => nm_r (e' := nI k) ?_ ?_)
      · have hA := sp_A_le S b_tokOp b_tokArg p
        have a := hc.2.1
        have b := hc.2.2.1
        rcases hr with ⟨-, j, j1, j2, j3⟩ | ⟨r1, r2, -⟩
        · have := (hz_ch_an hc).2 j j1 j2; omega
        · rw [pk_sub (by omega)]
          have : (sp_A S b_tokOp b_tokArg) p - r = k := by omega
          rw [this]
      · rw [← htok]
        exact uy_holeType Z V ht hpt hc.2.1 h8 K
theorem uy_want1 {post : Int32 → Prop} {p k : Nat} (Z : sp_ys nf S b_param b_result) (V : sp_tv nf t b_tokOp b_tokArg) (ht : t ≤ 96) (htok : g_tokens = nI t) (hc : hz_ch (sp_A S b_tokOp b_tokArg) p k t) (h8 : b_tokOp p = 8 → b_tokType p = 2 ∨ b_tokType p = 3) (K : post (sp_ct S (b_tokOp p) (b_tokArg p) (b_tokType p) k)) : ∀ (n i : Nat) (x : Int32), i ≤ p → t < n + i → wY_want_21 post g_maxFunctions g_maxTokens g_maxCells g_maxDepth g_functions g_tokens g_open g_accepted g_made g_used g_most g_last g_answer g_calls g_depth b_result b_param b_start b_finished b_tokOp b_tokArg b_tokType b_first b_second b_cellKind b_freed b_fn b_born b_actual b_value b_known n x (nI i)
  | 0, i, x, h1, h2 => by have := hc.1; omega
  | n + 1, i, x, h1, h2 => by
    have hpt := hc.1
    refine br_f (by rw [htok]; exact nI_ge (by omega) (by omega)) ?_
    rw [htok]
    refine uy_scan Z V ht (by omega) (Nat.le_refl _) (fun r hr => ?_)
    rw [← htok]
    rcases Nat.lt_or_ge i p with z | z
    · refine br_c (fun _ => nm_r (nI_1 i) ?_) (fun _ => nm_r (nI_1 i) ?_)
      · exact uy_want1 Z V ht htok hc h8 K n (i + 1) x (by omega) (by omega)
      · exact uy_want1 Z V ht htok hc h8 K n (i + 1) (nI i) (by omega) (by omega)
    · have e : i = p := by omega
      subst e
      have a := (hz_scn_an hr hpt).mpr (hz_ch_an hc)
      have b : r < 1000 := by
        have bi := hz_bd (sp_A_le S b_tokOp b_tokArg) i
        have bp := hz_bd (sp_A_le S b_tokOp b_tokArg) t
        rcases hr with ⟨h4, -⟩ | ⟨h4, h5, -⟩ <;> omega
      exact br_f (nI_nle a (by omega)) (nm_r (nI_1 i) (uy_want2 Z V ht htok hc h8 K n (i + 1) (by omega) (by omega) (by omega)))
theorem uy_want {post : Int32 → Prop} {τ : Int32} (Z : sp_ys nf S b_param b_result) (V : sp_tv nf t b_tokOp b_tokArg) (ht : t ≤ 96) (htok : g_tokens = nI t) (hf : f < nf) (ho : g_open = nI f) (hst : b_start f = nI s) (hs : s ≤ t) (hW : sp_want S b_tokOp b_tokArg b_tokType f s t τ) (h8 : ∀ p, p < t → b_tokOp p = 8 → b_tokType p = 2 ∨ b_tokType p = 3) (K : post τ) : wpY_want post (g_maxFunctions, g_maxTokens, g_maxCells, g_maxDepth, g_functions, g_tokens, g_open, g_accepted, g_made, g_used, g_most, g_last, g_answer, g_calls, g_depth, b_result, b_param, b_start, b_finished, b_tokOp, b_tokArg, b_tokType, b_first, b_second, b_cellKind, b_freed, b_fn, b_born, b_actual, b_value, b_known) := by
  have hn := Z.1
  subst ho
  have cf : (nI f).toNatClampNeg = f := nI_clamp (by omega)
  refine br_t (nI_pos' (by omega)) ⟨vp_in_nI (by omega) (by decide), nm_r (e' := nI s) (by rw [cf]; exact hst) ?_⟩
  rcases hW with ⟨e1, e2⟩ | ⟨p, k, h1, h2, h3⟩
  · subst e1
    refine ⟨1, br_t (by rw [htok]; exact nI_le (Nat.le_refl _) (by omega)) (br_f (by decide) ⟨vp_in_nI (by omega) (by decide), ?_⟩)⟩
    rw [cf, (Z.2 f hf).2.2, ← e2]; exact K
  · rw [h3] at K
    exact ⟨t + 1, uy_want1 Z V ht htok h2 (h8 p h2.1) K (t + 1) s _ h1 (by omega)⟩
theorem uy_holes {post : Int32 → Prop} {m : Nat} (Z : sp_ys nf S b_param b_result) (V : sp_tv nf t b_tokOp b_tokArg) (ht : t ≤ 96) (htok : g_tokens = nI t) (hf : f < nf) (ho : g_open = nI f) (hst : b_start f = nI s) (hs : s ≤ t) (hm : (m : Int) = hz_H (sp_A S b_tokOp b_tokArg) t - hz_H (sp_A S b_tokOp b_tokArg) s + 1) (hb : ∀ j, s < j → j ≤ t → hz_H (sp_A S b_tokOp b_tokArg) s ≤ hz_H (sp_A S b_tokOp b_tokArg) j) (K : post (nI m)) : wpY_holes post (g_maxFunctions, g_maxTokens, g_maxCells, g_maxDepth, g_functions, g_tokens, g_open, g_accepted, g_made, g_used, g_most, g_last, g_answer, g_calls, g_depth, b_result, b_param, b_start, b_finished, b_tokOp, b_tokArg, b_tokType, b_first, b_second, b_cellKind, b_freed, b_fn, b_born, b_actual, b_value, b_known) := by
  have hn := Z.1
  subst ho
  have cf : (nI f).toNatClampNeg = f := nI_clamp (by omega)
  refine br_t (nI_pos' (by omega)) ⟨vp_in_nI (by omega) (by decide), ?_⟩
  rw [cf, hst, htok]
  refine uy_scan Z V ht hs (Nat.le_refl _) (fun r hr => ?_)
  rcases hr with ⟨-, j, j1, j2, j3⟩ | ⟨r1, r2, -⟩
  · have := hb j j1 j2; omega
  · have : r = m := by omega
    subst this; exact K
/-- the binder of variable x at q -/
theorem uy_bind15 {post : Int32 → Prop} {q : Nat} {x : Int32} (Z : sp_ys nf S b_param b_result) (V : sp_tv nf t b_tokOp b_tokArg) (ht : t ≤ 96) (hq : q ≤ t)
    (k1 : ∀ j, s ≤ j → hz_bl (sp_L b_tokOp) (sp_A S b_tokOp b_tokArg) j q → nI (sp_sc S b_tokOp b_tokArg f s j) = x → post (nI j)) (k2 : (∀ j, s ≤ j → hz_bl (sp_L b_tokOp) (sp_A S b_tokOp b_tokArg) j q → nI (sp_sc S b_tokOp b_tokArg f s j) ≠ x) → post (-1)) :
    ∀ n i c : Nat, s ≤ i → i ≤ q → q < n + i → c = sp_n S f + cn (fun j => s ≤ j ∧ hz_bl (sp_L b_tokOp) (sp_A S b_tokOp b_tokArg) j q) i → (∀ j, s ≤ j → j < i → hz_bl (sp_L b_tokOp) (sp_A S b_tokOp b_tokArg) j q → nI (sp_sc S b_tokOp b_tokArg f s j) ≠ x) → wY_binder_15 post (nI q) x g_maxFunctions g_maxTokens g_maxCells g_maxDepth g_functions g_tokens g_open g_accepted g_made g_used g_most g_last g_answer g_calls g_depth b_result b_param b_start b_finished b_tokOp b_tokArg b_tokType b_first b_second b_cellKind b_freed b_fn b_born b_actual b_value b_known n (nI c) (nI i)
  | 0, i, c, h1, h2, h3, _, _ => by omega
  | n + 1, i, c, h1, h2, h3, h4, h5 => by
    rcases Nat.lt_or_ge i q with z | z
    · refine br_f (nI_ge z (by omega)) ⟨vp_in_nI (by omega) (by decide), ?_⟩
      rw [nI_clamp (by omega)]
      have skip : ¬ hz_bl (sp_L b_tokOp) (sp_A S b_tokOp b_tokArg) i q → wY_binder_15 post (nI q) x g_maxFunctions g_maxTokens g_maxCells g_maxDepth g_functions g_tokens g_open g_accepted g_made g_used g_most g_last g_answer g_calls g_depth b_result b_param b_start b_finished b_tokOp b_tokArg b_tokType b_first b_second b_cellKind b_freed b_fn b_born b_actual b_value b_known n (nI c) (nI i + 1) := by
        intro hb
        rw [nI_1]
        refine uy_bind15 Z V ht hq k1 k2 n (i + 1) c (by omega) (by omega) (by omega) ?_ (fun j j1 j2 j3 => ?_)
        · rw [cn_f (P := fun j => s ≤ j ∧ hz_bl (sp_L b_tokOp) (sp_A S b_tokOp b_tokArg) j q) (fun w => hb w.2)]; exact h4
        · rcases Nat.lt_or_ge j i with y | y
          · exact h5 j j1 y j3
          · have : j = i := by omega
            subst this
            exact absurd j3 hb
      by_cases ho : b_tokOp i = 5
      · have hA : (sp_A S b_tokOp b_tokArg) i = 2 := sp_A_5 ho
        have hH := hz_s (sp_A S b_tokOp b_tokArg) i
        refine br_t ho (uy_scan Z V ht (by omega) hq (fun r hr => ?_))
        have hrb : r < 1000 := by
          have bi := hz_bd (sp_A_le S b_tokOp b_tokArg) i
          have bp := hz_bd (sp_A_le S b_tokOp b_tokArg) q
          rcases hr with ⟨h4, -⟩ | ⟨h4, h5, -⟩ <;> omega
        have han := hz_scn_an hr z
        rcases Nat.eq_zero_or_pos r with y | y
        · subst y
          exact br_t (by decide) (nm_e (skip (fun w => by have := han.mpr w.2.1; omega)))
        · refine br_f (nI_nle y (by omega)) ?_
          rw [nI_1 i]
          refine uy_scan Z V ht (by omega) hq (fun r2 hr2 => ?_)
          have hr2b : r2 < 1000 := by
            have bi := hz_bd (sp_A_le S b_tokOp b_tokArg) (i + 1)
            have bp := hz_bd (sp_A_le S b_tokOp b_tokArg) q
            rcases hr2 with ⟨h4, -⟩ | ⟨h4, h5, -⟩ <;> omega
          have an := han.mp y
          rcases Nat.eq_zero_or_pos r2 with w | w
          · have bl : hz_bl (sp_L b_tokOp) (sp_A S b_tokOp b_tokArg) i q := by
              refine ⟨ho, an, ?_⟩
              rcases hr2 with ⟨-, j, j1, j2, j3⟩ | ⟨j1, -⟩
              · have := an.2 j (by omega) j2
                exact ⟨j, by omega, j2, by omega⟩
              · omega
            have esc : sp_sc S b_tokOp b_tokArg f s i = c := by
              rw [h4]; unfold sp_sc; rw [hz_bc_at an]
            subst w
            refine br_t (by decide) (br_c (fun e => k1 i h1 bl (by rw [esc]; exact e)) (fun e => nm_r (nI_1 c) ?_))
            refine nm_e ?_
            refine uy_bind15 Z V ht hq k1 k2 n (i + 1) (c + 1) (by omega) (by omega) (by omega) ?_ (fun j j1 j2 j3 => ?_)
            · rw [cn_t (P := fun j => s ≤ j ∧ hz_bl (sp_L b_tokOp) (sp_A S b_tokOp b_tokArg) j q) ⟨h1, bl⟩]; omega
            · rcases Nat.lt_or_ge j i with v | v
              · exact h5 j j1 v j3
              · have : j = i := by omega
                subst this
                rw [esc]; exact e
          · refine br_f (nI_ne0 w (by omega)) ?_
            refine nm_e (Eq.mp (by rw [nI_1 i]) (skip (fun v => ?_)))
            obtain ⟨-, -, j, j1, j2, j3⟩ := v
            rcases hr2 with ⟨u1, -⟩ | ⟨-, -, u3⟩
            · omega
            · have hj : i + 1 < j := by
                rcases Nat.lt_or_ge (i + 1) j with u | u
                · exact u
                · have : j = i + 1 := by omega
                  subst this
                  omega
              have := u3 j hj j2
              omega
      · exact br_f ho (nm_e (skip (fun w => ho w.1)))
    · have : i = q := by omega
      subst this
      refine br_t (nI_le (Nat.le_refl _) (by omega)) (k2 (fun j j1 j2 => h5 j j1 j2.2.1.1 j2))
theorem uy_bind {post : Int32 → Prop} {q : Nat} {x : Int32} (Z : sp_ys nf S b_param b_result) (V : sp_tv nf t b_tokOp b_tokArg) (ht : t ≤ 96) (hq : q ≤ t) (hf : f < nf) (hst : b_start f = nI s) (hs : s ≤ q)
    (k1 : ∀ j, s ≤ j → hz_bl (sp_L b_tokOp) (sp_A S b_tokOp b_tokArg) j q → nI (sp_sc S b_tokOp b_tokArg f s j) = x → post (nI j)) (k2 : (∀ j, s ≤ j → hz_bl (sp_L b_tokOp) (sp_A S b_tokOp b_tokArg) j q → nI (sp_sc S b_tokOp b_tokArg f s j) ≠ x) → post (-1)) : wpY_binder post (g_maxFunctions, g_maxTokens, g_maxCells, g_maxDepth, g_functions, g_tokens, g_open, g_accepted, g_made, g_used, g_most, g_last, g_answer, g_calls, g_depth, b_result, b_param, b_start, b_finished, b_tokOp, b_tokArg, b_tokType, b_first, b_second, b_cellKind, b_freed, b_fn, b_born, b_actual, b_value, b_known) (nI f) (nI q) x := by
  have hn := Z.1
  unfold wpY_binder
  refine uy_params Z hf ?_
  refine ⟨vp_in_nI (by omega) (by decide), nm_r (e' := nI s) (by rw [nI_clamp (by omega)]; exact hst) ⟨q + 1, ?_⟩⟩
  refine uy_bind15 Z V ht hq k1 k2 (q + 1) s _ (Nat.le_refl _) hs (by omega) ?_ (fun j j1 j2 => by omega)
  rw [cn_zero (fun k hk w => by omega), Nat.add_zero]
theorem uy_varType {post : Int32 → Prop} {x : Int32} (Z : sp_ys nf S b_param b_result) (V : sp_tv nf t b_tokOp b_tokArg) (ht : t ≤ 96) (htok : g_tokens = nI t) (hf : f < nf) (ho : g_open = nI f) (hst : b_start f = nI s) (hs : s ≤ t) (k1 : ∀ v τ, x = nI v → v < 2 ^ 31 → sp_vt S b_tokOp b_tokArg f s t v τ → post τ) (k2 : (∀ v τ, v < 100 → x = nI v → ¬ sp_vt S b_tokOp b_tokArg f s t v τ) → post (-1)) : wpY_varType post (g_maxFunctions, g_maxTokens, g_maxCells, g_maxDepth, g_functions, g_tokens, g_open, g_accepted, g_made, g_used, g_most, g_last, g_answer, g_calls, g_depth, b_result, b_param, b_start, b_finished, b_tokOp, b_tokArg, b_tokType, b_first, b_second, b_cellKind, b_freed, b_fn, b_born, b_actual, b_value, b_known) x := by
  have hn := Z.1
  subst ho
  have hle := sp_n_le S f
  have hbc : ∀ j, j ≤ t → sp_sc S b_tokOp b_tokArg f s j < 100 := fun j hj => by
    unfold sp_sc hz_bc
    have := cn_le (fun i => s ≤ i ∧ hz_bl (sp_L b_tokOp) (sp_A S b_tokOp b_tokArg) i j) j
    omega
  have w39 : (∀ v, v < sp_n S f → x ≠ nI v) → wY_varType_39 post x g_maxFunctions g_maxTokens g_maxCells g_maxDepth g_functions g_tokens (nI f) g_accepted g_made g_used g_most g_last g_answer g_calls g_depth b_result b_param b_start b_finished b_tokOp b_tokArg b_tokType b_first b_second b_cellKind b_freed b_fn b_born b_actual b_value b_known := by
    intro hx
    subst htok
    refine uy_bind Z V ht (Nat.le_refl _) hf hst hs (fun j j1 j2 j3 => ?_) (fun h => ?_)
    · have lj := j2.2.1.1
      refine br_t (nI_pos' (by omega)) ⟨vp_in_nI (by omega) (by decide), ?_⟩
      rw [nI_clamp (by omega)]
      exact k1 _ _ j3.symm (by have := hbc j (by omega); omega) (Or.inr ⟨j, j1, j2, rfl, rfl⟩)
    · refine br_f (by decide) (k2 (fun v τ hv e hvt => ?_))
      rcases hvt with ⟨z, -⟩ | ⟨j, j1, j2, j3, -⟩
      · exact hx v z e
      · exact h j j1 j2 (by rw [j3]; exact e.symm)
  refine br_t (nI_pos' (by omega)) (br_c (fun hneg => w39 (fun v hv e => ?_)) (fun hpos => ?_))
  · rw [e] at hneg
    exact absurd hneg (nI_pos (by omega))
  · obtain ⟨v, v1, v2⟩ := nI_of hpos
    subst v2
    refine uy_params Z hf ?_
    rcases Nat.lt_or_ge v (sp_n S f) with z | z
    · refine br_f (nI_ge z (by omega)) ?_
      have ek : (2 : Int32) * nI f + nI v = nI (2 * f + v) := by
        show nI 2 * nI f + nI v = _
        rw [pk_mul, nI_add]
      rw [ek]
      refine ⟨vp_in_nI (by omega) (by decide), ?_⟩
      rw [nI_clamp (by omega)]
      have e : b_param (2 * f + v) = S (3 * f + v) := by
        rcases (by omega : v = 0 ∨ v = 1) with rfl | rfl
        · exact (Z.2 f hf).1
        · exact (Z.2 f hf).2.1
      rw [e]
      exact k1 v _ rfl (by omega) (Or.inl ⟨z, rfl⟩)
    · refine br_t (nI_le z v1) (w39 (fun v' hv' e => ?_))
      have := (nI_eq v1 (by omega)).mp e
      omega
end
end
section
theorem vz_2 (v : Nat) : (2 : Int32) * nI v = nI (2 * v) := pk_mul 2 v
theorem vz_p4 (v : Nat) : 2 ^ (2 * v) = 4 ^ v := by rw [Nat.pow_mul]
theorem vz_b {v : Nat} (h : v ≤ 8) : 4 ^ v ≤ 65536 := by
  have := Nat.pow_le_pow_right (n := 4) (by omega) h
  have e : 4 ^ 8 = 65536 := by decide
  omega
theorem vz_get {w v : Nat} (hw : w < 65536) (hv : v < 8) : (nI w >>> ((2 * nI v) &&& 31)) &&& 3 = nI (w / 4 ^ v % 4) := by
  rw [vz_2, pk_shrN (by omega) _ (2 * v) (s_l (2 * v) (by omega)), vz_p4]
  have : w / 4 ^ v ≤ w := Nat.div_le_self _ _
  exact pk_andN (by omega) 2 (by decide)
theorem vz_orN {a b k : Nat} (h : a < 2 ^ k) : nI a ||| nI (b * 2 ^ k) = nI (a + b * 2 ^ k) := by
  have e : a + b * 2 ^ k = a ||| b * 2 ^ k := by
    have := Nat.two_pow_add_eq_or_of_lt h b
    rw [Nat.mul_comm b, Nat.add_comm, this, Nat.or_comm]
  rw [e]
  apply Int32.toBitVec_inj.mp
  show BitVec.ofNat 32 a ||| BitVec.ofNat 32 (b * 2 ^ k) = BitVec.ofNat 32 (a ||| b * 2 ^ k)
  rw [BitVec.ofNat_or]
theorem vz_or {w α n : Nat} (hw : w < 4 ^ n) (hn : n < 8) (ha : α < 4) : nI w ||| (nI α <<< ((2 * nI n) &&& 31)) = nI (w + α * 4 ^ n) := by
  have b := vz_b (v := n) (by omega)
  have c : α * 4 ^ n ≤ 3 * 4 ^ n := Nat.mul_le_mul_right _ (by omega)
  rw [vz_2, pk_shlN _ (2 * n) (s_l (2 * n) (by omega)) (by rw [vz_p4]; omega), vz_p4, ← vz_p4 n, vz_orN (by rw [vz_p4]; exact hw)]
theorem vz_lo {w α n v : Nat} (hv : v < n) : (w + α * 4 ^ n) / 4 ^ v % 4 = w / 4 ^ v % 4 := by
  obtain ⟨d, rfl⟩ : ∃ d, n = v + (d + 1) := ⟨n - v - 1, by omega⟩
  have e : α * 4 ^ (v + (d + 1)) = 4 ^ v * (4 * (α * 4 ^ d)) := by
    rw [Nat.pow_add, Nat.pow_succ]
    grind
  rw [e, Nat.add_mul_div_left _ _ (Nat.pow_pos (by omega))]
  omega
theorem vz_hi {w α n : Nat} (hw : w < 4 ^ n) (ha : α < 4) : (w + α * 4 ^ n) / 4 ^ n % 4 = α := by
  rw [Nat.add_mul_div_right _ _ (Nat.pow_pos (by omega)), Nat.div_eq_of_lt hw]
  omega
theorem vz_lt {w α n : Nat} (hw : w < 4 ^ n) (ha : α < 4) : w + α * 4 ^ n < 4 ^ (n + 1) := by
  have c : α * 4 ^ n ≤ 3 * 4 ^ n := Nat.mul_le_mul_right _ (by omega)
  rw [Nat.pow_succ]; omega
theorem ty_iff {a : Int32} : sp_ty a ↔ (¬ a < 0 ∧ ¬ 3 < a) := by
  constructor
  · rintro (rfl | rfl | rfl | rfl) <;> exact ⟨by decide, by decide⟩
  · intro ⟨h1, h2⟩
    obtain ⟨j, j1, j2⟩ := nI_of2 (x := a) (M := 3) (n := 3) (by decide) h1 (Int32.not_lt.mp h2)
    subst j2
    rcases (by omega : j = 0 ∨ j = 1 ∨ j = 2 ∨ j = 3) with rfl | rfl | rfl | rfl
    · exact Or.inl rfl
    · exact Or.inr (Or.inl rfl)
    · exact Or.inr (Or.inr (Or.inl rfl))
    · exact Or.inr (Or.inr (Or.inr rfl))
theorem ty_nat {a : Int32} (h : sp_ty a) : ∃ α, α < 4 ∧ a = nI α := by
  rcases h with rfl | rfl | rfl | rfl
  · exact ⟨0, by omega, rfl⟩
  · exact ⟨1, by omega, rfl⟩
  · exact ⟨2, by omega, rfl⟩
  · exact ⟨3, by omega, rfl⟩
def pt_af (nf : Nat) (sc : Nat) (o a : Int32) : Prop := (o = 2 → ∃ v, a = nI v ∧ v < sc) ∧ (o = 3 ∨ o = 5 → sp_ty a) ∧ (o = 6 → ∃ g, g < nf ∧ a = nI g) ∧ (o = 11 → a = 2 ∨ a = 3) ∧ (o = 13 → a = 0 ∨ a = 1)
def pt_tf (S : Nat → Int32) (vt : Nat → Int32 → Prop) (W o a : Int32) : Prop := (o = 2 → ∀ v, a = nI v → v < 100 → vt v W) ∧ (o = 6 → ∀ g, a = nI g → g < 8 → S (3 * g + 2) = W) ∧ (o = 7 ∨ o = 8 ∨ o = 10 → W = 2 ∨ W = 3) ∧ (o = 9 → W = 0 ∨ W = 1) ∧ (o = 12 → W = 1) ∧ (o = 1 ∨ o = 3 ∨ o = 11 ∨ o = 13 → W = 0)
section
variable {f_functionLimit f_tokenLimit f_cellLimit f_depthLimit f_functions f_accepted f_placed f_openBody f_holeCount f_nextRegion f_changed f_freeCell f_active f_calls f_taskTop f_valueTop f_releasing f_outcome f_peakUsed f_resultSize : Int32} {a_sigType a_params a_kept a_start a_finished a_tokOp a_tokArg a_tokType a_tokScope a_end a_holeType a_holeNest a_holeScope a_holeVars a_parent a_region a_sigRegions a_allRegions a_cellA a_cellB a_link a_live a_frameFunction a_vars a_saved a_env a_regionFirst a_tasks a_values a_used a_result : Nat → Int32}
/-- the top hole -/
def pt_top (nf t m : Nat) (sc ns w : Nat) (vt : Nat → Int32 → Prop) (W hT hN hS hV : Int32) : Prop := m < 97 ∧ hT = W ∧ hN = nI ns ∧ ns ≤ 10 ∧ hS = nI sc ∧ sc ≤ 8 ∧ hV = nI w ∧ w < 4 ^ sc ∧ (∀ v τ, vt v τ → v < sc ∧ nI (w / 4 ^ v % 4) = τ) ∧ (∀ v, v < sc → ∃ τ, vt v τ) ∧ (∀ v τ τ', vt v τ → vt v τ' → τ = τ')
variable {nf t m sc ns w : Nat} {vt : Nat → Int32 → Prop} {W : Int32}
theorem ux_varType {post : Int32 → Prop} {x : Int32} (T : pt_top nf t m sc ns w vt W (a_holeType m) (a_holeNest m) (a_holeScope m) (a_holeVars m)) (hc : f_holeCount = nI (m + 1)) (ho : ¬ f_openBody < 0) (k1 : ∀ v τ, x = nI v → v < 100 → vt v τ → post τ) (k2 : (∀ v τ, v < 100 → x = nI v → ¬ vt v τ) → post (-1)) : wpX_varType post (f_functionLimit, f_tokenLimit, f_cellLimit, f_depthLimit, f_functions, f_accepted, f_placed, f_openBody, f_holeCount, f_nextRegion, f_changed, f_freeCell, f_active, f_calls, f_taskTop, f_valueTop, f_releasing, f_outcome, f_peakUsed, f_resultSize, a_sigType, a_params, a_kept, a_start, a_finished, a_tokOp, a_tokArg, a_tokType, a_tokScope, a_end, a_holeType, a_holeNest, a_holeScope, a_holeVars, a_parent, a_region, a_sigRegions, a_allRegions, a_cellA, a_cellB, a_link, a_live, a_frameFunction, a_vars, a_saved, a_env, a_regionFirst, a_tasks, a_values, a_used, a_result) x := by
  obtain ⟨t0, t1, t2, t3, t4, t5, t6, t7, t8, t9, t10⟩ := T
  have hm : (nI (m + 1) - 1).toNatClampNeg = m := by rw [nI_pred, nI_clamp (by omega)]
  have b := vz_b t5
  subst hc
  refine br_f ho (br_t (nI_lt (a := 0) (by omega) (by omega)) (br_c (fun hneg => k2 (fun v τ lv e _ => ?_)) (fun hpos => ?_)))
  · rw [e] at hneg
    exact absurd hneg (nI_pos (by omega))
  · obtain ⟨v, v1, v2⟩ := nI_of hpos
    subst v2
    refine ⟨by rw [nI_pred]; exact vp_in_nI (by omega) (by decide), ?_⟩
    rw [hm, t4, t6]
    rcases Nat.lt_or_ge v sc with z | z
    · refine br_t (nI_lt z (by omega)) ⟨by rw [nI_pred]; exact vp_in_nI (by omega) (by decide), ?_⟩
      obtain ⟨τ, hτ⟩ := t9 v z
      rw [vz_get (by omega) (by omega), (t8 v τ hτ).2]
      exact k1 v τ rfl (by omega) hτ
    · refine br_f (nI_nlt z v1) (k2 (fun v' τ lv e hv => ?_))
      have : v = v' := (nI_eq v1 (by omega)).mp e
      have := (t8 v' τ hv).1
      omega
theorem ux_argFits {post : Int32 → Prop} {o a : Int32} (T : pt_top nf t m sc ns w vt W (a_holeType m) (a_holeNest m) (a_holeScope m) (a_holeVars m)) (hc : f_holeCount = nI (m + 1)) (hnf : f_functions = nI nf) (hn : nf ≤ 8) (ho : sp_o13 o) (k1 : pt_af nf sc o a → post 1) (k0 : ¬ pt_af nf sc o a → post 0) : wpX_argFits post (f_functionLimit, f_tokenLimit, f_cellLimit, f_depthLimit, f_functions, f_accepted, f_placed, f_openBody, f_holeCount, f_nextRegion, f_changed, f_freeCell, f_active, f_calls, f_taskTop, f_valueTop, f_releasing, f_outcome, f_peakUsed, f_resultSize, a_sigType, a_params, a_kept, a_start, a_finished, a_tokOp, a_tokArg, a_tokType, a_tokScope, a_end, a_holeType, a_holeNest, a_holeScope, a_holeVars, a_parent, a_region, a_sigRegions, a_allRegions, a_cellA, a_cellB, a_link, a_live, a_frameFunction, a_vars, a_saved, a_env, a_regionFirst, a_tasks, a_values, a_used, a_result) o a := by
  obtain ⟨t0, t1, t2, t3, t4, t5, t6, t7, t8, t9, t10⟩ := T
  have hm : (nI (m + 1) - 1).toNatClampNeg = m := by rw [nI_pred, nI_clamp (by omega)]
  subst hc
  subst hnf
  unfold pt_af at k1 k0
  rcases ho with rfl | rfl | rfl | rfl | rfl | rfl | rfl | rfl | rfl | rfl | rfl | rfl | rfl
  · exact (br_t (by decide) (k1 ⟨fun z => absurd z (by decide), fun z => absurd z (by decide), fun z => absurd z (by decide), fun z => absurd z (by decide), fun z => absurd z (by decide)⟩))
  · refine (br_f (by decide) (br_f (by decide) (br_t (by decide) (br_c (fun hneg => k0 (fun q => ?_)) (fun hpos => ?_)))))
    · obtain ⟨v, e, hv⟩ := q.1 rfl
      rw [e] at hneg
      exact absurd hneg (nI_pos (by omega))
    · obtain ⟨v, v1, v2⟩ := nI_of hpos
      subst v2
      refine ⟨by rw [nI_pred]; exact vp_in_nI (by omega) (by decide), ?_⟩
      rw [hm, t4]
      rcases Nat.lt_or_ge v sc with z | z
      · exact br_f (nI_ge z (by omega)) (k1 ⟨fun _ => ⟨v, rfl, z⟩, fun z => absurd z (by decide), fun z => absurd z (by decide), fun z => absurd z (by decide), fun z => absurd z (by decide)⟩)
      · refine br_t (nI_le z v1) (k0 (fun q => ?_))
        obtain ⟨v', e, hv⟩ := q.1 rfl
        have := (nI_eq v1 (by omega)).mp e
        omega
  · have hty := ty_iff (a := a)
    refine (br_f (by decide) (br_f (by decide) (br_f (by decide) (br_t (by decide) (br_c (fun h1 => k0 (fun q => (hty.mp (q.2.1 (by decide))).1 h1)) (fun h1 => br_c (fun h2 => k0 (fun q => (hty.mp (q.2.1 (by decide))).2 h2)) (fun h2 => k1 ⟨fun z => absurd z (by decide), fun _ => hty.mpr ⟨h1, h2⟩, fun z => absurd z (by decide), fun z => absurd z (by decide), fun z => absurd z (by decide)⟩)))))))
  · exact (br_f (by decide) (br_f (by decide) (br_f (by decide) (br_f (by decide) (br_t (by decide) (k1 ⟨fun z => absurd z (by decide), fun z => absurd z (by decide), fun z => absurd z (by decide), fun z => absurd z (by decide), fun z => absurd z (by decide)⟩))))))
  · have hty := ty_iff (a := a)
    refine (br_f (by decide) (br_f (by decide) (br_f (by decide) (br_f (by decide) (br_f (by decide) (br_t (by decide) (br_c (fun h1 => k0 (fun q => (hty.mp (q.2.1 (by decide))).1 h1)) (fun h1 => br_c (fun h2 => k0 (fun q => (hty.mp (q.2.1 (by decide))).2 h2)) (fun h2 => k1 ⟨fun z => absurd z (by decide), fun _ => hty.mpr ⟨h1, h2⟩, fun z => absurd z (by decide), fun z => absurd z (by decide), fun z => absurd z (by decide)⟩)))))))))
  · refine (br_f (by decide) (br_f (by decide) (br_f (by decide) (br_f (by decide) (br_f (by decide) (br_f (by decide) (br_t (by decide) (br_c (fun hneg => k0 (fun q => ?_)) (fun hpos => ?_)))))))))
    · obtain ⟨v, hv, e⟩ := q.2.2.1 rfl
      rw [e] at hneg
      exact absurd hneg (nI_pos (by omega))
    · obtain ⟨v, v1, v2⟩ := nI_of hpos
      subst v2
      rcases Nat.lt_or_ge v nf with z | z
      · exact br_f (nI_ge z (by omega)) (k1 ⟨fun z => absurd z (by decide), fun z => absurd z (by decide), fun _ => ⟨v, z, rfl⟩, fun z => absurd z (by decide), fun z => absurd z (by decide)⟩)
      · refine br_t (nI_le z v1) (k0 (fun q => ?_))
        obtain ⟨v', hv, e⟩ := q.2.2.1 rfl
        have := (nI_eq v1 (by omega)).mp e
        omega
  · exact (br_f (by decide) (br_f (by decide) (br_f (by decide) (br_f (by decide) (br_f (by decide) (br_f (by decide) (br_f (by decide) (br_t (by decide) (k1 ⟨fun z => absurd z (by decide), fun z => absurd z (by decide), fun z => absurd z (by decide), fun z => absurd z (by decide), fun z => absurd z (by decide)⟩)))))))))
  · exact (br_f (by decide) (br_f (by decide) (br_f (by decide) (br_f (by decide) (br_f (by decide) (br_f (by decide) (br_f (by decide) (br_f (by decide) (br_t (by decide) (k1 ⟨fun z => absurd z (by decide), fun z => absurd z (by decide), fun z => absurd z (by decide), fun z => absurd z (by decide), fun z => absurd z (by decide)⟩))))))))))
  · exact (br_f (by decide) (br_f (by decide) (br_f (by decide) (br_f (by decide) (br_f (by decide) (br_f (by decide) (br_f (by decide) (br_f (by decide) (br_f (by decide) (br_t (by decide) (k1 ⟨fun z => absurd z (by decide), fun z => absurd z (by decide), fun z => absurd z (by decide), fun z => absurd z (by decide), fun z => absurd z (by decide)⟩)))))))))))
  · exact (br_f (by decide) (br_f (by decide) (br_f (by decide) (br_f (by decide) (br_f (by decide) (br_f (by decide) (br_f (by decide) (br_f (by decide) (br_f (by decide) (br_f (by decide) (br_t (by decide) (k1 ⟨fun z => absurd z (by decide), fun z => absurd z (by decide), fun z => absurd z (by decide), fun z => absurd z (by decide), fun z => absurd z (by decide)⟩))))))))))))
  · refine (br_f (by decide) (br_f (by decide) (br_f (by decide) (br_f (by decide) (br_f (by decide) (br_f (by decide) (br_f (by decide) (br_f (by decide) (br_f (by decide) (br_f (by decide) (br_f (by decide) (br_t (by decide) (br_c (fun h => k1 ⟨fun z => absurd z (by decide), fun z => absurd z (by decide), fun z => absurd z (by decide), fun _ => Or.inl h, fun z => absurd z (by decide)⟩) (fun h => br_c (fun h' => k1 ⟨fun z => absurd z (by decide), fun z => absurd z (by decide), fun z => absurd z (by decide), fun _ => Or.inr h', fun z => absurd z (by decide)⟩) (fun h' => k0 (fun q => (q.2.2.2.1 rfl).elim h h'))))))))))))))))
  · exact (br_f (by decide) (br_f (by decide) (br_f (by decide) (br_f (by decide) (br_f (by decide) (br_f (by decide) (br_f (by decide) (br_f (by decide) (br_f (by decide) (br_f (by decide) (br_f (by decide) (br_f (by decide) (br_t (by decide) (k1 ⟨fun z => absurd z (by decide), fun z => absurd z (by decide), fun z => absurd z (by decide), fun z => absurd z (by decide), fun z => absurd z (by decide)⟩))))))))))))))
  · refine (br_f (by decide) (br_f (by decide) (br_f (by decide) (br_f (by decide) (br_f (by decide) (br_f (by decide) (br_f (by decide) (br_f (by decide) (br_f (by decide) (br_f (by decide) (br_f (by decide) (br_f (by decide) (br_f (by decide) (br_t (by decide) (br_c (fun h => k1 ⟨fun z => absurd z (by decide), fun z => absurd z (by decide), fun z => absurd z (by decide), fun z => absurd z (by decide), fun _ => Or.inl h⟩) (fun h => br_c (fun h' => k1 ⟨fun z => absurd z (by decide), fun z => absurd z (by decide), fun z => absurd z (by decide), fun z => absurd z (by decide), fun _ => Or.inr h'⟩) (fun h' => k0 (fun q => (q.2.2.2.2 rfl).elim h h'))))))))))))))))))
theorem ux_typeFits {post : Int32 → Prop} {o a : Int32} (T : pt_top nf t m sc ns w vt W (a_holeType m) (a_holeNest m) (a_holeScope m) (a_holeVars m)) (hc : f_holeCount = nI (m + 1)) (hob : ¬ f_openBody < 0) (hn : nf ≤ 8) (ho : sp_o13 o) (hA : pt_af nf sc o a) (k1 : pt_tf a_sigType vt W o a → post 1) (k0 : ¬ pt_tf a_sigType vt W o a → post 0) : wpX_typeFits post (f_functionLimit, f_tokenLimit, f_cellLimit, f_depthLimit, f_functions, f_accepted, f_placed, f_openBody, f_holeCount, f_nextRegion, f_changed, f_freeCell, f_active, f_calls, f_taskTop, f_valueTop, f_releasing, f_outcome, f_peakUsed, f_resultSize, a_sigType, a_params, a_kept, a_start, a_finished, a_tokOp, a_tokArg, a_tokType, a_tokScope, a_end, a_holeType, a_holeNest, a_holeScope, a_holeVars, a_parent, a_region, a_sigRegions, a_allRegions, a_cellA, a_cellB, a_link, a_live, a_frameFunction, a_vars, a_saved, a_env, a_regionFirst, a_tasks, a_values, a_used, a_result) o a := by
  have T' := T
  obtain ⟨t0, t1, t2, t3, t4, t5, t6, t7, t8, t9, t10⟩ := T'
  have hm : (f_holeCount - 1).toNatClampNeg = m := by rw [hc, nI_pred, nI_clamp (by omega)]
  refine ⟨by rw [hc, nI_pred]; exact vp_in_nI (by omega) (by decide), nm_r (e' := W) (by rw [hm]; exact t1) ?_⟩
  unfold pt_tf at k1 k0
  unfold pt_af at hA
  rcases ho with rfl | rfl | rfl | rfl | rfl | rfl | rfl | rfl | rfl | rfl | rfl | rfl | rfl
  · exact (br_t (by decide) (br_c (fun h => k1 ⟨(fun z => absurd z (by decide)), (fun z => absurd z (by decide)), (fun z => absurd z (by decide)), (fun z => absurd z (by decide)), (fun z => absurd z (by decide)), fun _ => h⟩) (fun h => k0 (fun q => h (q.2.2.2.2.2 (by decide))))))
  · refine (br_f (by decide) (br_f (by decide) (br_t (by decide) (ux_varType T hc hob (fun v τ e lv hv => ?_) (fun h => ?_)))))
    · refine br_c (fun h => k1 ⟨fun _ v' e' lv' => ?_, (fun z => absurd z (by decide)), (fun z => absurd z (by decide)), (fun z => absurd z (by decide)), (fun z => absurd z (by decide)), (fun z => absurd z (by decide))⟩) (fun h => k0 (fun q => h (t10 v W τ (q.1 rfl v e lv) hv)))
      have : v' = v := (nI_eq (by omega) (by omega)).mp (e'.symm.trans e)
      subst this
      rw [h]; exact hv
    · obtain ⟨v, e, hv⟩ := hA.1 rfl
      obtain ⟨τ, hτ⟩ := t9 v hv
      exact absurd hτ (h v τ (by omega) e)
  · exact (br_f (by decide) (br_f (by decide) (br_f (by decide) (br_t (by decide) (br_c (fun h => k1 ⟨(fun z => absurd z (by decide)), (fun z => absurd z (by decide)), (fun z => absurd z (by decide)), (fun z => absurd z (by decide)), (fun z => absurd z (by decide)), fun _ => h⟩) (fun h => k0 (fun q => h (q.2.2.2.2.2 (by decide)))))))))
  · exact (br_f (by decide) (br_f (by decide) (br_f (by decide) (br_f (by decide) (br_t (by decide) (k1 ⟨(fun z => absurd z (by decide)), (fun z => absurd z (by decide)), (fun z => absurd z (by decide)), (fun z => absurd z (by decide)), (fun z => absurd z (by decide)), (fun z => absurd z (by decide))⟩))))))
  · exact (br_f (by decide) (br_f (by decide) (br_f (by decide) (br_f (by decide) (br_f (by decide) (br_t (by decide) (k1 ⟨(fun z => absurd z (by decide)), (fun z => absurd z (by decide)), (fun z => absurd z (by decide)), (fun z => absurd z (by decide)), (fun z => absurd z (by decide)), (fun z => absurd z (by decide))⟩)))))))
  · obtain ⟨g, g1, g2⟩ := hA.2.2.1 rfl
    subst g2
    have e : (3 : Int32) * nI g + 2 = nI (3 * g + 2) := by
      show nI 3 * nI g + nI 2 = _
      rw [pk_mul, nI_add]
    rw [e]
    refine (br_f (by decide) (br_f (by decide) (br_f (by decide) (br_f (by decide) (br_f (by decide) (br_f (by decide) (br_t (by decide) (⟨vp_in_nI (by omega) (by decide), ?_⟩))))))))
    rw [nI_clamp (by omega)]
    refine br_c (fun h => k1 ⟨(fun z => absurd z (by decide)), fun _ g' e' l' => ?_, (fun z => absurd z (by decide)), (fun z => absurd z (by decide)), (fun z => absurd z (by decide)), (fun z => absurd z (by decide))⟩) (fun h => k0 (fun q => h (q.2.1 rfl g rfl (by omega)).symm))
    have : g = g' := (nI_eq (by omega) (by omega)).mp e'
    subst this
    exact h.symm
  · exact (br_f (by decide) (br_f (by decide) (br_f (by decide) (br_f (by decide) (br_f (by decide) (br_f (by decide) (br_f (by decide) (br_t (by decide) (br_c (fun h => k1 ⟨(fun z => absurd z (by decide)), (fun z => absurd z (by decide)), fun _ => Or.inl h, (fun z => absurd z (by decide)), (fun z => absurd z (by decide)), (fun z => absurd z (by decide))⟩) (fun h => br_c (fun h' => k1 ⟨(fun z => absurd z (by decide)), (fun z => absurd z (by decide)), fun _ => Or.inr h', (fun z => absurd z (by decide)), (fun z => absurd z (by decide)), (fun z => absurd z (by decide))⟩) (fun h' => k0 (fun q => (q.2.2.1 (by decide)).elim h h'))))))))))))
  · exact (br_f (by decide) (br_f (by decide) (br_f (by decide) (br_f (by decide) (br_f (by decide) (br_f (by decide) (br_f (by decide) (br_f (by decide) (br_t (by decide) (br_c (fun h => k1 ⟨(fun z => absurd z (by decide)), (fun z => absurd z (by decide)), fun _ => Or.inl h, (fun z => absurd z (by decide)), (fun z => absurd z (by decide)), (fun z => absurd z (by decide))⟩) (fun h => br_c (fun h' => k1 ⟨(fun z => absurd z (by decide)), (fun z => absurd z (by decide)), fun _ => Or.inr h', (fun z => absurd z (by decide)), (fun z => absurd z (by decide)), (fun z => absurd z (by decide))⟩) (fun h' => k0 (fun q => (q.2.2.1 (by decide)).elim h h')))))))))))))
  · exact (br_f (by decide) (br_f (by decide) (br_f (by decide) (br_f (by decide) (br_f (by decide) (br_f (by decide) (br_f (by decide) (br_f (by decide) (br_f (by decide) (br_t (by decide) (br_c (fun h => k1 ⟨(fun z => absurd z (by decide)), (fun z => absurd z (by decide)), (fun z => absurd z (by decide)), fun _ => Or.inl h, (fun z => absurd z (by decide)), (fun z => absurd z (by decide))⟩) (fun h => br_c (fun h' => k1 ⟨(fun z => absurd z (by decide)), (fun z => absurd z (by decide)), (fun z => absurd z (by decide)), fun _ => Or.inr h', (fun z => absurd z (by decide)), (fun z => absurd z (by decide))⟩) (fun h' => k0 (fun q => (q.2.2.2.1 rfl).elim h h'))))))))))))))
  · exact (br_f (by decide) (br_f (by decide) (br_f (by decide) (br_f (by decide) (br_f (by decide) (br_f (by decide) (br_f (by decide) (br_f (by decide) (br_f (by decide) (br_f (by decide) (br_t (by decide) (br_c (fun h => k1 ⟨(fun z => absurd z (by decide)), (fun z => absurd z (by decide)), fun _ => Or.inl h, (fun z => absurd z (by decide)), (fun z => absurd z (by decide)), (fun z => absurd z (by decide))⟩) (fun h => br_c (fun h' => k1 ⟨(fun z => absurd z (by decide)), (fun z => absurd z (by decide)), fun _ => Or.inr h', (fun z => absurd z (by decide)), (fun z => absurd z (by decide)), (fun z => absurd z (by decide))⟩) (fun h' => k0 (fun q => (q.2.2.1 (by decide)).elim h h')))))))))))))))
  · exact (br_f (by decide) (br_f (by decide) (br_f (by decide) (br_f (by decide) (br_f (by decide) (br_f (by decide) (br_f (by decide) (br_f (by decide) (br_f (by decide) (br_f (by decide) (br_f (by decide) (br_t (by decide) (br_c (fun h => k1 ⟨(fun z => absurd z (by decide)), (fun z => absurd z (by decide)), (fun z => absurd z (by decide)), (fun z => absurd z (by decide)), (fun z => absurd z (by decide)), fun _ => h⟩) (fun h => k0 (fun q => h (q.2.2.2.2.2 (by decide)))))))))))))))))
  · exact (br_f (by decide) (br_f (by decide) (br_f (by decide) (br_f (by decide) (br_f (by decide) (br_f (by decide) (br_f (by decide) (br_f (by decide) (br_f (by decide) (br_f (by decide) (br_f (by decide) (br_f (by decide) (br_t (by decide) (br_c (fun h => k1 ⟨(fun z => absurd z (by decide)), (fun z => absurd z (by decide)), (fun z => absurd z (by decide)), (fun z => absurd z (by decide)), fun _ => h, (fun z => absurd z (by decide))⟩) (fun h => k0 (fun q => h (q.2.2.2.2.1 rfl)))))))))))))))))
  · exact (br_f (by decide) (br_t (by decide) (br_c (fun h => k1 ⟨(fun z => absurd z (by decide)), (fun z => absurd z (by decide)), (fun z => absurd z (by decide)), (fun z => absurd z (by decide)), (fun z => absurd z (by decide)), fun _ => h⟩) (fun h => k0 (fun q => h (q.2.2.2.2.2 (by decide)))))))
theorem ux_ref0 {post : Int32 → Prop} {o a : Int32} (ho : ¬ sp_o13 o) (k : post (-2)) : wpX_refusal post (f_functionLimit, f_tokenLimit, f_cellLimit, f_depthLimit, f_functions, f_accepted, f_placed, f_openBody, f_holeCount, f_nextRegion, f_changed, f_freeCell, f_active, f_calls, f_taskTop, f_valueTop, f_releasing, f_outcome, f_peakUsed, f_resultSize, a_sigType, a_params, a_kept, a_start, a_finished, a_tokOp, a_tokArg, a_tokType, a_tokScope, a_end, a_holeType, a_holeNest, a_holeScope, a_holeVars, a_parent, a_region, a_sigRegions, a_allRegions, a_cellA, a_cellB, a_link, a_live, a_frameFunction, a_vars, a_saved, a_env, a_regionFirst, a_tasks, a_values, a_used, a_result) o a := by
  refine br_c (fun _ => k) (fun h1 => br_c (fun h2 => ?_) (fun _ => k))
  exfalso
  apply ho
  obtain ⟨j, j1, j2⟩ := nI_of2 (x := o) (M := 13) (n := 13) (by decide) (fun z => h1 (by
    have a := Int32.lt_iff_toInt_lt.mp z
    exact Int32.lt_iff_toInt_lt.mpr (by
      have e0 : (0 : Int32).toInt = 0 := by decide
      have e1 : (1 : Int32).toInt = 1 := by decide
      rw [e0] at a; rw [e1]; omega))) h2
  subst j2
  have j0 : j ≠ 0 := fun z => by
    subst z
    exact h1 (by decide)
  unfold sp_o13
  rcases (by omega : j = 1 ∨ j = 2 ∨ j = 3 ∨ j = 4 ∨ j = 5 ∨ j = 6 ∨ j = 7 ∨ j = 8 ∨ j = 9 ∨ j = 10 ∨ j = 11 ∨ j = 12 ∨ j = 13) with rfl | rfl | rfl | rfl | rfl | rfl | rfl | rfl | rfl | rfl | rfl | rfl | rfl <;> decide
theorem o13_in {o : Int32} (h : sp_o13 o) : ¬ o < 1 ∧ o ≤ 13 := by
  rcases h with rfl | rfl | rfl | rfl | rfl | rfl | rfl | rfl | rfl | rfl | rfl | rfl | rfl <;> decide
/-- refusals, by the first test that fails -/
theorem ux_ref {post : Int32 → Prop} {o a : Int32} {tl : Nat} (T : pt_top nf t m sc ns w vt W (a_holeType m) (a_holeNest m) (a_holeScope m) (a_holeVars m)) (hc : f_holeCount = nI (m + 1)) (hob : ¬ f_openBody < 0) (hnf : f_functions = nI nf) (hn : nf ≤ 8) (hpa : ∀ g, g < nf → a_params g = nI (sp_n a_sigType g)) (hpl : f_placed = nI t) (ht : t ≤ 96) (htl : f_tokenLimit = nI tl) (htl2 : tl ≤ 96) (ho : sp_o13 o)
    (k2 : ¬ pt_af nf sc o a → post (-2)) (k5 : pt_af nf sc o a → ¬ pt_tf a_sigType vt W o a → post (-5))
    (k6 : pt_af nf sc o a → pt_tf a_sigType vt W o a → ((o = 5 ∧ 8 ≤ sc) ∨ (0 < sp_ar a_sigType o a ∧ 10 ≤ ns)) → post (-6))
    (k3 : pt_af nf sc o a → pt_tf a_sigType vt W o a → ¬ (o = 5 ∧ 8 ≤ sc) → ¬ (0 < sp_ar a_sigType o a ∧ 10 ≤ ns) → tl < t + (m + 1) + sp_ar a_sigType o a → post (-3))
    (k0 : pt_af nf sc o a → pt_tf a_sigType vt W o a → ¬ (o = 5 ∧ 8 ≤ sc) → ¬ (0 < sp_ar a_sigType o a ∧ 10 ≤ ns) → t + (m + 1) + sp_ar a_sigType o a ≤ tl → post 0) : wpX_refusal post (f_functionLimit, f_tokenLimit, f_cellLimit, f_depthLimit, f_functions, f_accepted, f_placed, f_openBody, f_holeCount, f_nextRegion, f_changed, f_freeCell, f_active, f_calls, f_taskTop, f_valueTop, f_releasing, f_outcome, f_peakUsed, f_resultSize, a_sigType, a_params, a_kept, a_start, a_finished, a_tokOp, a_tokArg, a_tokType, a_tokScope, a_end, a_holeType, a_holeNest, a_holeScope, a_holeVars, a_parent, a_region, a_sigRegions, a_allRegions, a_cellA, a_cellB, a_link, a_live, a_frameFunction, a_vars, a_saved, a_env, a_regionFirst, a_tasks, a_values, a_used, a_result) o a := by
  have T' := T
  obtain ⟨t0, t1, t2, t3, t4, t5, t6, t7, t8, t9, t10⟩ := T'
  have hin := o13_in ho
  refine br_f hin.1 (br_t hin.2 (ux_argFits T hc hnf hn ho (fun ha => br_f (by decide) ?_) (fun ha => br_t rfl (k2 ha))))
  refine ux_typeFits T hc hob hn ho ha (fun htf => br_f (by decide) ?_) (fun htf => br_t rfl (k5 ha htf))
  refine nm_r (e' := nI m) (by rw [hc, nI_pred]) (ux_arity ho (fun h6 => ?_) ?_)
  · obtain ⟨g, g1, g2⟩ := ha.2.2.1 h6
    exact ⟨g, by omega, g2, hpa g g1⟩
  have hA := sp_ar_le a_sigType o a
  have cm : (nI m).toNatClampNeg = m := nI_clamp (by omega)
  have w72 : ¬ (o = 5 ∧ 8 ≤ sc) → wX_refusal_72 post (nI m) (nI (sp_ar a_sigType o a)) f_functionLimit f_tokenLimit f_cellLimit f_depthLimit f_functions f_accepted f_placed f_openBody f_holeCount f_nextRegion f_changed f_freeCell f_active f_calls f_taskTop f_valueTop f_releasing f_outcome f_peakUsed f_resultSize a_sigType a_params a_kept a_start a_finished a_tokOp a_tokArg a_tokType a_tokScope a_end a_holeType a_holeNest a_holeScope a_holeVars a_parent a_region a_sigRegions a_allRegions a_cellA a_cellB a_link a_live a_frameFunction a_vars a_saved a_env a_regionFirst a_tasks a_values a_used a_result := by
    intro n5
    have w91 : ¬ (0 < sp_ar a_sigType o a ∧ 10 ≤ ns) → wX_refusal_91 post (nI (sp_ar a_sigType o a)) f_functionLimit f_tokenLimit f_cellLimit f_depthLimit f_functions f_accepted f_placed f_openBody f_holeCount f_nextRegion f_changed f_freeCell f_active f_calls f_taskTop f_valueTop f_releasing f_outcome f_peakUsed f_resultSize a_sigType a_params a_kept a_start a_finished a_tokOp a_tokArg a_tokType a_tokScope a_end a_holeType a_holeNest a_holeScope a_holeVars a_parent a_region a_sigRegions a_allRegions a_cellA a_cellB a_link a_live a_frameFunction a_vars a_saved a_env a_regionFirst a_tasks a_values a_used a_result := by
      intro n10
      have e : f_placed + f_holeCount + nI (sp_ar a_sigType o a) = nI (t + (m + 1) + sp_ar a_sigType o a) := by rw [hpl, hc, nI_add, nI_add]
      unfold wX_refusal_91
      rw [e, htl]
      rcases Nat.lt_or_ge tl (t + (m + 1) + sp_ar a_sigType o a) with z | z
      · exact br_f (nI_ge z (by omega)) (k3 ha htf n5 n10 z)
      · exact br_t (nI_le z (by omega)) (k0 ha htf n5 n10 z)
    rcases Nat.eq_zero_or_pos (sp_ar a_sigType o a) with z | z
    · refine br_t (by rw [z]; decide) (w91 (fun q => by omega))
    · refine br_f (nI_nle z (by omega)) ⟨vp_in_nI (by omega) (by decide), ?_⟩
      rw [cm, t2]
      rcases Nat.lt_or_ge ns 10 with y | y
      · exact br_t (nI_lt (b := 10) y (by decide)) (w91 (fun q => by omega))
      · exact br_f (nI_nlt (b := 10) y (by omega)) (k6 ha htf (Or.inr ⟨z, y⟩))
  by_cases h5 : o = 5
  · refine br_t h5 ⟨vp_in_nI (by omega) (by decide), ?_⟩
    rw [cm, t4]
    rcases Nat.lt_or_ge sc 8 with y | y
    · exact br_t (nI_lt (b := 8) y (by decide)) (w72 (fun q => by omega))
    · exact br_f (nI_nlt (b := 8) y (by omega)) (k6 ha htf (Or.inl ⟨h5, y⟩))
  · exact br_f h5 (w72 (fun q => h5 q.1))
end
end
section
section
variable {f_functionLimit f_tokenLimit f_cellLimit f_depthLimit f_functions f_accepted f_placed f_openBody f_holeCount f_nextRegion f_changed f_freeCell f_active f_calls f_taskTop f_valueTop f_releasing f_outcome f_peakUsed f_resultSize : Int32} {a_sigType a_params a_kept a_start a_finished a_tokOp a_tokArg a_tokType a_tokScope a_end a_holeType a_holeNest a_holeScope a_holeVars a_parent a_region a_sigRegions a_allRegions a_cellA a_cellB a_link a_live a_frameFunction a_vars a_saved a_env a_regionFirst a_tasks a_values a_used a_result : Nat → Int32}
theorem ux_ctype {post : Int32 → Prop} {o a τ : Int32} {k : Nat} (ho : sp_o13 o) (hk : k < sp_ar a_sigType o a) (h6 : o = 6 → ∃ g, g < 8 ∧ a = nI g) (K : post (sp_ct a_sigType o a τ k)) : wpX_childType post (f_functionLimit, f_tokenLimit, f_cellLimit, f_depthLimit, f_functions, f_accepted, f_placed, f_openBody, f_holeCount, f_nextRegion, f_changed, f_freeCell, f_active, f_calls, f_taskTop, f_valueTop, f_releasing, f_outcome, f_peakUsed, f_resultSize, a_sigType, a_params, a_kept, a_start, a_finished, a_tokOp, a_tokArg, a_tokType, a_tokScope, a_end, a_holeType, a_holeNest, a_holeScope, a_holeVars, a_parent, a_region, a_sigRegions, a_allRegions, a_cellA, a_cellB, a_link, a_live, a_frameFunction, a_vars, a_saved, a_env, a_regionFirst, a_tasks, a_values, a_used, a_result) o a τ (nI k) := by
  have hle := sp_ar_le a_sigType o a
  rcases ho with rfl | rfl | rfl | rfl | rfl | rfl | rfl | rfl | rfl | rfl | rfl | rfl | rfl
  · exact (br_t (by decide) (K))
  · exact (br_t (by decide) (K))
  · exact (br_t (by decide) (K))
  · have e : sp_ct a_sigType 4 a τ k = if k = 0 then 0 else τ := rfl
    rw [e] at K
    refine (br_f (by decide) (br_f (by decide) (br_t (by decide) (?_))))
    rcases Nat.eq_zero_or_pos k with z | z
    · rw [if_pos z] at K
      subst z
      exact br_t (by decide) K
    · rw [if_neg (by omega)] at K
      exact br_f (nI_ne0 z (by omega)) K
  · have e : sp_ct a_sigType 5 a τ k = if k = 0 then a else τ := rfl
    rw [e] at K
    refine (br_f (by decide) (br_f (by decide) (br_f (by decide) (br_t (by decide) (?_)))))
    rcases Nat.eq_zero_or_pos k with z | z
    · rw [if_pos z] at K
      subst z
      exact br_t (by decide) K
    · rw [if_neg (by omega)] at K
      exact br_f (nI_ne0 z (by omega)) K
  · obtain ⟨g, g1, g2⟩ := h6 rfl
    subst g2
    have e : sp_ct a_sigType 6 (nI g) τ k = a_sigType (3 * (nI g).toNatClampNeg + k) := rfl
    rw [e, nI_clamp (by omega)] at K
    have ek : (3 : Int32) * nI g + nI k = nI (3 * g + k) := by
      show nI 3 * nI g + nI k = _
      rw [pk_mul, nI_add]
    have e0 : sp_ar a_sigType 6 (nI g) = sp_n a_sigType (nI g).toNatClampNeg := rfl
    have hle2 := sp_n_le a_sigType (nI g).toNatClampNeg
    refine (br_f (by decide) (br_f (by decide) (br_f (by decide) (br_f (by decide) (br_t (by decide) (?_))))))
    rw [ek]
    refine ⟨vp_in_nI (by omega) (by decide), ?_⟩
    rw [nI_clamp (by omega)]; exact K
  · have e : sp_ar a_sigType 7 a = 0 := rfl
    omega
  · have e : sp_ct a_sigType 8 a τ k = if k = 1 then τ else if τ = 2 then 0 else 1 := rfl
    have e0 : sp_ar a_sigType 8 a = 2 := rfl
    rw [e] at K
    refine (br_f (by decide) (br_f (by decide) (br_f (by decide) (br_f (by decide) (br_f (by decide) (br_f (by decide) (br_t (by decide) (?_))))))))
    rcases (by omega : k = 0 ∨ k = 1) with rfl | rfl
    · refine br_f (by decide) (br_c (fun z => ?_) (fun z => ?_))
      · rw [if_neg (by decide), if_pos z] at K; exact K
      · rw [if_neg (by decide), if_neg z] at K; exact K
    · exact br_t (by decide) K
  · have e : sp_ct a_sigType 9 a τ k = if τ = 0 then 2 else 3 := rfl
    rw [e] at K
    refine (br_f (by decide) (br_f (by decide) (br_f (by decide) (br_f (by decide) (br_f (by decide) (br_f (by decide) (br_f (by decide) (br_t (by decide) (br_c (fun z => ?_) (fun z => ?_))))))))))
    · rw [if_pos z] at K; exact K
    · rw [if_neg z] at K; exact K
  · exact (br_f (by decide) (br_f (by decide) (br_f (by decide) (br_f (by decide) (br_f (by decide) (br_f (by decide) (br_f (by decide) (br_f (by decide) (br_t (by decide) (K))))))))))
  · exact (br_f (by decide) (br_f (by decide) (br_f (by decide) (br_f (by decide) (br_f (by decide) (br_f (by decide) (br_f (by decide) (br_f (by decide) (br_f (by decide) (br_t (by decide) (K)))))))))))
  · exact (br_f (by decide) (br_f (by decide) (br_f (by decide) (br_f (by decide) (br_f (by decide) (br_f (by decide) (br_f (by decide) (br_f (by decide) (br_f (by decide) (br_f (by decide) (br_t (by decide) (K))))))))))))
  · exact (br_f (by decide) (br_f (by decide) (br_f (by decide) (br_f (by decide) (br_f (by decide) (br_f (by decide) (br_f (by decide) (br_f (by decide) (br_f (by decide) (br_f (by decide) (br_f (by decide) (br_t (by decide) (K)))))))))))))
theorem ux_pushHole {post : SX → Prop} {m : Nat} {x1 x2 x3 x4 : Int32} (hm : m < 100) (k : post (f_functionLimit, f_tokenLimit, f_cellLimit, f_depthLimit, f_functions, f_accepted, f_placed, f_openBody, nI (m + 1), f_nextRegion, f_changed, f_freeCell, f_active, f_calls, f_taskTop, f_valueTop, f_releasing, f_outcome, f_peakUsed, f_resultSize, a_sigType, a_params, a_kept, a_start, a_finished, a_tokOp, a_tokArg, a_tokType, a_tokScope, a_end, upd a_holeType m x1, upd a_holeNest m x2, upd a_holeScope m x3, upd a_holeVars m x4, a_parent, a_region, a_sigRegions, a_allRegions, a_cellA, a_cellB, a_link, a_live, a_frameFunction, a_vars, a_saved, a_env, a_regionFirst, a_tasks, a_values, a_used, a_result)) : wpX_pushHole post (f_functionLimit, f_tokenLimit, f_cellLimit, f_depthLimit, f_functions, f_accepted, f_placed, f_openBody, nI m, f_nextRegion, f_changed, f_freeCell, f_active, f_calls, f_taskTop, f_valueTop, f_releasing, f_outcome, f_peakUsed, f_resultSize, a_sigType, a_params, a_kept, a_start, a_finished, a_tokOp, a_tokArg, a_tokType, a_tokScope, a_end, a_holeType, a_holeNest, a_holeScope, a_holeVars, a_parent, a_region, a_sigRegions, a_allRegions, a_cellA, a_cellB, a_link, a_live, a_frameFunction, a_vars, a_saved, a_env, a_regionFirst, a_tasks, a_values, a_used, a_result) x1 x2 x3 x4 := by
  have hin : vp_in (nI m) 100 := vp_in_nI hm (by decide)
  have cm : (nI m).toNatClampNeg = m := nI_clamp (by omega)
  refine ⟨hin, nm_e ⟨hin, nm_e ⟨hin, nm_e ⟨hin, nm_e (nm_r (nI_1 m) ?_)⟩⟩⟩⟩
  rw [cm]; exact k
/-- the new holes of a token, child c at m + (A - 1 - c) -/
def pt_new (S : Nat → Int32) (o a τ ne sc vs : Int32) (A m j : Nat) (hT hN hS hV hT' hN' hS' hV' : Nat → Int32) : Prop :=
  (∀ h, h < m → hT' h = hT h ∧ hN' h = hN h ∧ hS' h = hS h ∧ hV' h = hV h) ∧
  (∀ c, j ≤ c → c < A → hT' (m + (A - 1 - c)) = sp_ct S o a τ c ∧ hN' (m + (A - 1 - c)) = ne + 1 ∧ hS' (m + (A - 1 - c)) = (if o = 5 ∧ c = 1 then sc + 1 else sc) ∧ hV' (m + (A - 1 - c)) = (if o = 5 ∧ c = 1 then vs ||| (a <<< ((2 * sc) &&& 31)) else vs))
theorem ux_place118 {post : SX → Prop} {o a τ ne sc vs : Int32} {m A : Nat} {hT hN hS hV : Nat → Int32} (hA : A = sp_ar a_sigType o a) (hm : m < 97) (ho : sp_o13 o) (h6 : o = 6 → ∃ g, g < 8 ∧ a = nI g)
    (k : ∀ hT' hN' hS' hV', pt_new a_sigType o a τ ne sc vs A m 0 hT hN hS hV hT' hN' hS' hV' → post (f_functionLimit, f_tokenLimit, f_cellLimit, f_depthLimit, f_functions, f_accepted, f_placed, f_openBody, nI (m + A), f_nextRegion, f_changed, f_freeCell, f_active, f_calls, f_taskTop, f_valueTop, f_releasing, f_outcome, f_peakUsed, f_resultSize, a_sigType, a_params, a_kept, a_start, a_finished, a_tokOp, a_tokArg, a_tokType, a_tokScope, a_end, hT', hN', hS', hV', a_parent, a_region, a_sigRegions, a_allRegions, a_cellA, a_cellB, a_link, a_live, a_frameFunction, a_vars, a_saved, a_env, a_regionFirst, a_tasks, a_values, a_used, a_result)) :
    ∀ (j n : Nat) (a_holeType a_holeNest a_holeScope a_holeVars : Nat → Int32), j ≤ A → j < n → pt_new a_sigType o a τ ne sc vs A m j hT hN hS hV a_holeType a_holeNest a_holeScope a_holeVars → wX_place_118 post o a τ ne sc vs n (zi j) f_functionLimit f_tokenLimit f_cellLimit f_depthLimit f_functions f_accepted f_placed f_openBody (nI (m + (A - j))) f_nextRegion f_changed f_freeCell f_active f_calls f_taskTop f_valueTop f_releasing f_outcome f_peakUsed f_resultSize a_sigType a_params a_kept a_start a_finished a_tokOp a_tokArg a_tokType a_tokScope a_end a_holeType a_holeNest a_holeScope a_holeVars a_parent a_region a_sigRegions a_allRegions a_cellA a_cellB a_link a_live a_frameFunction a_vars a_saved a_env a_regionFirst a_tasks a_values a_used a_result
  | _, 0, _, _, _, _, _, h, _ => absurd h (Nat.not_lt_zero _)
  | 0, n + 1, _, _, _, _, h1, h2, h3 => br_t (by decide) (k _ _ _ _ h3)
  | j + 1, n + 1, a_holeType, a_holeNest, a_holeScope, a_holeVars, h1, h2, h3 => by
    have hle := sp_ar_le a_sigType o a
    rw [show zi (j + 1) = nI j from rfl]
    have next : ∀ s' v', (s' = if o = 5 ∧ j = 1 then sc + 1 else sc) → (v' = if o = 5 ∧ j = 1 then vs ||| (a <<< ((2 * sc) &&& 31)) else vs) →
        wX_place_118 post o a τ ne sc vs n (nI j + (-1)) f_functionLimit f_tokenLimit f_cellLimit f_depthLimit f_functions f_accepted f_placed f_openBody (nI (m + (A - (j + 1)) + 1)) f_nextRegion f_changed f_freeCell f_active f_calls f_taskTop f_valueTop f_releasing f_outcome f_peakUsed f_resultSize a_sigType a_params a_kept a_start a_finished a_tokOp a_tokArg a_tokType a_tokScope a_end (upd a_holeType (m + (A - (j + 1))) (sp_ct a_sigType o a τ j)) (upd a_holeNest (m + (A - (j + 1))) (ne + 1)) (upd a_holeScope (m + (A - (j + 1))) s') (upd a_holeVars (m + (A - (j + 1))) v') a_parent a_region a_sigRegions a_allRegions a_cellA a_cellB a_link a_live a_frameFunction a_vars a_saved a_env a_regionFirst a_tasks a_values a_used a_result := by
      intro s' v' hs' hv'
      have ea : m + (A - (j + 1)) + 1 = m + (A - j) := by omega
      rw [zi_m1, ea]
      refine ux_place118 hA hm ho h6 k j n _ _ _ _ (by omega) (by omega) ⟨fun h hh => ?_, fun c c1 c2 => ?_⟩
      · rw [pk_un (by omega), pk_un (by omega), pk_un (by omega), pk_un (by omega)]; exact h3.1 h hh
      · by_cases z : c = j
        · subst z
          have e : m + (A - (c + 1)) = m + (A - 1 - c) := by omega
          rw [e, pk_us, pk_us, pk_us, pk_us]
          exact ⟨rfl, rfl, hs', hv'⟩
        · rw [pk_un (by omega), pk_un (by omega), pk_un (by omega), pk_un (by omega)]; exact h3.2 c (by omega) c2
    refine br_f (nI_pos (by omega)) (ux_ctype ho (by omega) h6 ?_)
    have w171 : ¬ (o = 5 ∧ j = 1) → wX_place_171 post (wX_place_118 post o a τ ne sc vs n) o a τ ne sc vs (nI j) (sp_ct a_sigType o a τ j) f_functionLimit f_tokenLimit f_cellLimit f_depthLimit f_functions f_accepted f_placed f_openBody (nI (m + (A - (j + 1)))) f_nextRegion f_changed f_freeCell f_active f_calls f_taskTop f_valueTop f_releasing f_outcome f_peakUsed f_resultSize a_sigType a_params a_kept a_start a_finished a_tokOp a_tokArg a_tokType a_tokScope a_end a_holeType a_holeNest a_holeScope a_holeVars a_parent a_region a_sigRegions a_allRegions a_cellA a_cellB a_link a_live a_frameFunction a_vars a_saved a_env a_regionFirst a_tasks a_values a_used a_result := by
      intro hn
      unfold wX_place_171
      refine ux_pushHole (by omega) ?_
      refine nm_e (next sc vs ?_ ?_)
      · rw [if_neg hn]
      · rw [if_neg hn]
    by_cases h5 : o = 5
    · refine br_t h5 ?_
      by_cases h1' : j = 1
      · refine br_t (by rw [h1']; rfl) (ux_pushHole (by omega) (nm_e (next _ _ ?_ ?_)))
        · rw [if_pos ⟨h5, h1'⟩]
        · rw [if_pos ⟨h5, h1'⟩]
      · exact br_f (fun z => h1' ((nI_eq (b := 1) (by omega) (by omega)).mp z)) (w171 (fun q => h1' q.2))
    · exact br_f h5 (w171 (fun q => h5 q.1))
theorem ux_place {post : SX → Prop} {o a : Int32} {m t A : Nat} (hA : A = sp_ar a_sigType o a) (hm : m < 97) (ht : t < 96) (ho : sp_o13 o) (h6 : o = 6 → ∃ g, g < 8 ∧ a = nI g ∧ a_params g = nI (sp_n a_sigType g))
    (k : ∀ hT' hN' hS' hV', pt_new a_sigType o a (a_holeType m) (a_holeNest m) (a_holeScope m) (a_holeVars m) A m 0 a_holeType a_holeNest a_holeScope a_holeVars hT' hN' hS' hV' →
      post (f_functionLimit, f_tokenLimit, f_cellLimit, f_depthLimit, f_functions, f_accepted, nI (t + 1), f_openBody, nI (m + A), f_nextRegion, f_changed, f_freeCell, f_active, f_calls, f_taskTop, f_valueTop, f_releasing, f_outcome, f_peakUsed, f_resultSize, a_sigType, a_params, a_kept, a_start, a_finished, upd a_tokOp t o, upd a_tokArg t a, upd a_tokType t (a_holeType m), upd a_tokScope t (a_holeScope m), a_end, hT', hN', hS', hV', a_parent, a_region, a_sigRegions, a_allRegions, a_cellA, a_cellB, a_link, a_live, a_frameFunction, a_vars, a_saved, a_env, a_regionFirst, a_tasks, a_values, a_used, a_result)) :
    wpX_place post (f_functionLimit, f_tokenLimit, f_cellLimit, f_depthLimit, f_functions, f_accepted, nI t, f_openBody, nI (m + 1), f_nextRegion, f_changed, f_freeCell, f_active, f_calls, f_taskTop, f_valueTop, f_releasing, f_outcome, f_peakUsed, f_resultSize, a_sigType, a_params, a_kept, a_start, a_finished, a_tokOp, a_tokArg, a_tokType, a_tokScope, a_end, a_holeType, a_holeNest, a_holeScope, a_holeVars, a_parent, a_region, a_sigRegions, a_allRegions, a_cellA, a_cellB, a_link, a_live, a_frameFunction, a_vars, a_saved, a_env, a_regionFirst, a_tasks, a_values, a_used, a_result) o a := by
  have hin : vp_in (nI m) 100 := vp_in_nI (by omega) (by decide)
  have cm : (nI m).toNatClampNeg = m := nI_clamp (by omega)
  have hit : vp_in (nI t) 100 := vp_in_nI (by omega) (by decide)
  have ct : (nI t).toNatClampNeg = t := nI_clamp (by omega)
  have hle := sp_ar_le a_sigType o a
  refine nm_r (nI_pred m) ⟨hin, ?_⟩
  rw [cm]
  refine nm_e ⟨hin, nm_e ⟨hin, nm_e ⟨hin, nm_e ⟨hit, ?_⟩⟩⟩⟩
  rw [ct]
  refine nm_e ⟨hit, nm_e ⟨hit, nm_e ⟨hit, nm_e (nm_r (nI_1 t) ?_)⟩⟩⟩
  refine ux_arity ho h6 ?_
  rw [← hA]
  refine nm_r (zi_s1 A) ⟨A + 1, ?_⟩
  have e0 : nI m = nI (m + (A - A)) := by rw [Nat.sub_self, Nat.add_zero]
  rw [e0]
  exact ux_place118 hA hm ho (fun z => by obtain ⟨g, g1, g2, -⟩ := h6 z; exact ⟨g, g1, g2⟩) k A (A + 1) a_holeType a_holeNest a_holeScope a_holeVars (Nat.le_refl _) (by omega) ⟨fun h _ => ⟨rfl, rfl, rfl, rfl⟩, fun c c1 c2 => by omega⟩
end
end
section
section
variable {g_maxFunctions g_maxTokens g_maxCells g_maxDepth g_functions g_tokens g_open g_accepted g_made g_used g_most g_last g_answer g_calls g_depth : Int32} {b_result b_param b_start b_finished b_tokOp b_tokArg b_tokType b_first b_second b_cellKind b_freed b_fn b_born b_actual b_value b_known : Nat → Int32}
variable {nf t f s tl sc ns m : Nat} {S : Nat → Int32} {W : Int32} {vt : Nat → Int32 → Prop}
theorem uy_124 {post : Int32 → SY → Prop} {o a r : Int32} (Z : sp_ys nf S b_param b_result) (ho : sp_o13 o) (ha : pt_af nf sc o a) (h2 : o = 2 → ∃ v, a = nI v ∧ v < 100 ∧ vt v r) (hu : ∀ v τ τ', vt v τ → vt v τ' → τ = τ')
    (W1 : pt_tf S vt W o a → wY_put_279 post o a W 1 g_maxFunctions g_maxTokens g_maxCells g_maxDepth g_functions g_tokens g_open g_accepted g_made g_used g_most g_last g_answer g_calls g_depth b_result b_param b_start b_finished b_tokOp b_tokArg b_tokType b_first b_second b_cellKind b_freed b_fn b_born b_actual b_value b_known) (W0 : ¬ pt_tf S vt W o a → wY_put_279 post o a W 0 g_maxFunctions g_maxTokens g_maxCells g_maxDepth g_functions g_tokens g_open g_accepted g_made g_used g_most g_last g_answer g_calls g_depth b_result b_param b_start b_finished b_tokOp b_tokArg b_tokType b_first b_second b_cellKind b_freed b_fn b_born b_actual b_value b_known) : wY_put_124 post o a W r g_maxFunctions g_maxTokens g_maxCells g_maxDepth g_functions g_tokens g_open g_accepted g_made g_used g_most g_last g_answer g_calls g_depth b_result b_param b_start b_finished b_tokOp b_tokArg b_tokType b_first b_second b_cellKind b_freed b_fn b_born b_actual b_value b_known := by
  have hn := Z.1
  unfold pt_tf at W1 W0
  rcases ho with rfl | rfl | rfl | rfl | rfl | rfl | rfl | rfl | rfl | rfl | rfl | rfl | rfl
  · exact (br_f (by decide) (br_f (by decide) (br_f (by decide) (br_f (by decide) (br_f (by decide) (br_f (by decide) (br_f (by decide) (br_f (by decide) (br_f (by decide) (br_c (fun h => W1 ⟨(fun z => absurd z (by decide)), (fun z => absurd z (by decide)), (fun z => absurd z (by decide)), (fun z => absurd z (by decide)), (fun z => absurd z (by decide)), fun _ => h⟩) (fun h => W0 (fun q => h (q.2.2.2.2.2 (by decide))))))))))))))
  · obtain ⟨v, e, lv, hv⟩ := h2 rfl
    refine (br_t (by decide) (br_c (fun h => W1 ⟨fun _ v' e' lv' => ?_, (fun z => absurd z (by decide)), (fun z => absurd z (by decide)), (fun z => absurd z (by decide)), (fun z => absurd z (by decide)), (fun z => absurd z (by decide))⟩) (fun h => W0 (fun q => h (hu v r W hv (q.1 rfl v e lv))))))
    have : v' = v := (nI_eq (by omega) (by omega)).mp (e'.symm.trans e)
    subst this
    rw [← h]; exact hv
  · exact (br_f (by decide) (br_f (by decide) (br_f (by decide) (br_f (by decide) (br_f (by decide) (br_f (by decide) (br_f (by decide) (br_f (by decide) (br_f (by decide) (br_c (fun h => W1 ⟨(fun z => absurd z (by decide)), (fun z => absurd z (by decide)), (fun z => absurd z (by decide)), (fun z => absurd z (by decide)), (fun z => absurd z (by decide)), fun _ => h⟩) (fun h => W0 (fun q => h (q.2.2.2.2.2 (by decide))))))))))))))
  · exact (br_f (by decide) (br_f (by decide) (br_f (by decide) (br_f (by decide) (br_f (by decide) (br_f (by decide) (br_f (by decide) (br_t (by decide) (W1 ⟨(fun z => absurd z (by decide)), (fun z => absurd z (by decide)), (fun z => absurd z (by decide)), (fun z => absurd z (by decide)), (fun z => absurd z (by decide)), (fun z => absurd z (by decide))⟩)))))))))
  · exact (br_f (by decide) (br_f (by decide) (br_f (by decide) (br_f (by decide) (br_f (by decide) (br_f (by decide) (br_f (by decide) (br_f (by decide) (br_t (by decide) (W1 ⟨(fun z => absurd z (by decide)), (fun z => absurd z (by decide)), (fun z => absurd z (by decide)), (fun z => absurd z (by decide)), (fun z => absurd z (by decide)), (fun z => absurd z (by decide))⟩))))))))))
  · obtain ⟨g, g1, g2⟩ := ha.2.2.1 rfl
    subst g2
    refine (br_f (by decide) (br_t (by decide) (⟨vp_in_nI (by omega) (by decide), ?_⟩)))
    rw [nI_clamp (by omega), (Z.2 g g1).2.2]
    refine br_c (fun h => W1 ⟨(fun z => absurd z (by decide)), fun _ g' e' l' => ?_, (fun z => absurd z (by decide)), (fun z => absurd z (by decide)), (fun z => absurd z (by decide)), (fun z => absurd z (by decide))⟩) (fun h => W0 (fun q => h (q.2.1 rfl g rfl (by omega))))
    have : g = g' := (nI_eq (by omega) (by omega)).mp e'
    subst this
    exact h
  · exact (br_f (by decide) (br_f (by decide) (br_t (by decide) (br_c (fun h => W1 ⟨(fun z => absurd z (by decide)), (fun z => absurd z (by decide)), fun _ => Or.inl h, (fun z => absurd z (by decide)), (fun z => absurd z (by decide)), (fun z => absurd z (by decide))⟩) (fun h => br_c (fun h' => W1 ⟨(fun z => absurd z (by decide)), (fun z => absurd z (by decide)), fun _ => Or.inr h', (fun z => absurd z (by decide)), (fun z => absurd z (by decide)), (fun z => absurd z (by decide))⟩) (fun h' => W0 (fun q => (q.2.2.1 (by decide)).elim h h')))))))
  · exact (br_f (by decide) (br_f (by decide) (br_f (by decide) (br_t (by decide) (br_c (fun h => W1 ⟨(fun z => absurd z (by decide)), (fun z => absurd z (by decide)), fun _ => Or.inl h, (fun z => absurd z (by decide)), (fun z => absurd z (by decide)), (fun z => absurd z (by decide))⟩) (fun h => br_c (fun h' => W1 ⟨(fun z => absurd z (by decide)), (fun z => absurd z (by decide)), fun _ => Or.inr h', (fun z => absurd z (by decide)), (fun z => absurd z (by decide)), (fun z => absurd z (by decide))⟩) (fun h' => W0 (fun q => (q.2.2.1 (by decide)).elim h h'))))))))
  · exact (br_f (by decide) (br_f (by decide) (br_f (by decide) (br_f (by decide) (br_f (by decide) (br_t (by decide) (br_c (fun h => W1 ⟨(fun z => absurd z (by decide)), (fun z => absurd z (by decide)), (fun z => absurd z (by decide)), fun _ => Or.inl h, (fun z => absurd z (by decide)), (fun z => absurd z (by decide))⟩) (fun h => br_c (fun h' => W1 ⟨(fun z => absurd z (by decide)), (fun z => absurd z (by decide)), (fun z => absurd z (by decide)), fun _ => Or.inr h', (fun z => absurd z (by decide)), (fun z => absurd z (by decide))⟩) (fun h' => W0 (fun q => (q.2.2.2.1 rfl).elim h h'))))))))))
  · exact (br_f (by decide) (br_f (by decide) (br_f (by decide) (br_f (by decide) (br_t (by decide) (br_c (fun h => W1 ⟨(fun z => absurd z (by decide)), (fun z => absurd z (by decide)), fun _ => Or.inl h, (fun z => absurd z (by decide)), (fun z => absurd z (by decide)), (fun z => absurd z (by decide))⟩) (fun h => br_c (fun h' => W1 ⟨(fun z => absurd z (by decide)), (fun z => absurd z (by decide)), fun _ => Or.inr h', (fun z => absurd z (by decide)), (fun z => absurd z (by decide)), (fun z => absurd z (by decide))⟩) (fun h' => W0 (fun q => (q.2.2.1 (by decide)).elim h h')))))))))
  · exact (br_f (by decide) (br_f (by decide) (br_f (by decide) (br_f (by decide) (br_f (by decide) (br_f (by decide) (br_f (by decide) (br_f (by decide) (br_f (by decide) (br_c (fun h => W1 ⟨(fun z => absurd z (by decide)), (fun z => absurd z (by decide)), (fun z => absurd z (by decide)), (fun z => absurd z (by decide)), (fun z => absurd z (by decide)), fun _ => h⟩) (fun h => W0 (fun q => h (q.2.2.2.2.2 (by decide))))))))))))))
  · exact (br_f (by decide) (br_f (by decide) (br_f (by decide) (br_f (by decide) (br_f (by decide) (br_f (by decide) (br_t (by decide) (br_c (fun h => W1 ⟨(fun z => absurd z (by decide)), (fun z => absurd z (by decide)), (fun z => absurd z (by decide)), (fun z => absurd z (by decide)), fun _ => h, (fun z => absurd z (by decide))⟩) (fun h => W0 (fun q => h (q.2.2.2.2.1 rfl)))))))))))
  · exact (br_f (by decide) (br_f (by decide) (br_f (by decide) (br_f (by decide) (br_f (by decide) (br_f (by decide) (br_f (by decide) (br_f (by decide) (br_f (by decide) (br_c (fun h => W1 ⟨(fun z => absurd z (by decide)), (fun z => absurd z (by decide)), (fun z => absurd z (by decide)), (fun z => absurd z (by decide)), (fun z => absurd z (by decide)), fun _ => h⟩) (fun h => W0 (fun q => h (q.2.2.2.2.2 (by decide))))))))))))))
theorem uy_47 {post : Int32 → SY → Prop} {o a r : Int32} (Z : sp_ys nf S b_param b_result) (hnf : g_functions = nI nf) (ho : sp_o13 o) (h2 : o = 2 → ∃ v, a = nI v ∧ v < sc)
    (K1 : pt_af nf sc o a → wY_put_124 post o a W r g_maxFunctions g_maxTokens g_maxCells g_maxDepth g_functions g_tokens g_open g_accepted g_made g_used g_most g_last g_answer g_calls g_depth b_result b_param b_start b_finished b_tokOp b_tokArg b_tokType b_first b_second b_cellKind b_freed b_fn b_born b_actual b_value b_known) (K0 : ¬ pt_af nf sc o a → post (-2) (g_maxFunctions, g_maxTokens, g_maxCells, g_maxDepth, g_functions, g_tokens, g_open, g_accepted, g_made, g_used, g_most, g_last, g_answer, g_calls, g_depth, b_result, b_param, b_start, b_finished, b_tokOp, b_tokArg, b_tokType, b_first, b_second, b_cellKind, b_freed, b_fn, b_born, b_actual, b_value, b_known)) : wY_put_47 post o a W r g_maxFunctions g_maxTokens g_maxCells g_maxDepth g_functions g_tokens g_open g_accepted g_made g_used g_most g_last g_answer g_calls g_depth b_result b_param b_start b_finished b_tokOp b_tokArg b_tokType b_first b_second b_cellKind b_freed b_fn b_born b_actual b_value b_known := by
  have hn := Z.1
  subst hnf
  unfold pt_af at K1 K0
  rcases ho with rfl | rfl | rfl | rfl | rfl | rfl | rfl | rfl | rfl | rfl | rfl | rfl | rfl
  · exact (br_f (by decide) (br_f (by decide) (br_f (by decide) (br_f (by decide) (br_f (by decide) (K1 ⟨(fun z => absurd z (by decide)), (fun z => absurd z (by decide)), (fun z => absurd z (by decide)), (fun z => absurd z (by decide)), (fun z => absurd z (by decide))⟩))))))
  · exact (br_f (by decide) (br_f (by decide) (br_f (by decide) (br_f (by decide) (br_f (by decide) (K1 ⟨fun _ => h2 rfl, (fun z => absurd z (by decide)), (fun z => absurd z (by decide)), (fun z => absurd z (by decide)), (fun z => absurd z (by decide))⟩))))))
  · have hty := ty_iff (a := a)
    refine (br_t (by decide) (br_c (fun h1 => K0 (fun q => (hty.mp (q.2.1 (by decide))).1 h1)) (fun h1 => br_c (fun h2 => ?_) (fun h2 => K0 (fun q => h2 (Int32.not_lt.mp (hty.mp (q.2.1 (by decide))).2))))))
    exact (br_f (by decide) (br_f (by decide) (br_f (by decide) (K1 ⟨(fun z => absurd z (by decide)), fun _ => hty.mpr ⟨h1, Int32.not_lt.mpr h2⟩, (fun z => absurd z (by decide)), (fun z => absurd z (by decide)), (fun z => absurd z (by decide))⟩))))
  · exact (br_f (by decide) (br_f (by decide) (br_f (by decide) (br_f (by decide) (br_f (by decide) (K1 ⟨(fun z => absurd z (by decide)), (fun z => absurd z (by decide)), (fun z => absurd z (by decide)), (fun z => absurd z (by decide)), (fun z => absurd z (by decide))⟩))))))
  · have hty := ty_iff (a := a)
    refine (br_f (by decide) (br_t (by decide) (br_c (fun h1 => K0 (fun q => (hty.mp (q.2.1 (by decide))).1 h1)) (fun h1 => br_c (fun h2 => ?_) (fun h2 => K0 (fun q => h2 (Int32.not_lt.mp (hty.mp (q.2.1 (by decide))).2)))))))
    exact (br_f (by decide) (br_f (by decide) (br_f (by decide) (K1 ⟨(fun z => absurd z (by decide)), fun _ => hty.mpr ⟨h1, Int32.not_lt.mpr h2⟩, (fun z => absurd z (by decide)), (fun z => absurd z (by decide)), (fun z => absurd z (by decide))⟩))))
  · refine (br_f (by decide) (br_f (by decide) (br_t (by decide) (br_c (fun hneg => K0 (fun q => ?_)) (fun hpos => ?_)))))
    · obtain ⟨v, hv, e⟩ := q.2.2.1 rfl
      rw [e] at hneg
      exact absurd hneg (nI_pos (by omega))
    · obtain ⟨v, v1, v2⟩ := nI_of hpos
      subst v2
      rcases Nat.lt_or_ge v nf with z | z
      · refine br_t (nI_lt z (by omega)) ?_
        exact (br_f (by decide) (br_f (by decide) (K1 ⟨(fun z => absurd z (by decide)), (fun z => absurd z (by decide)), fun _ => ⟨v, z, rfl⟩, (fun z => absurd z (by decide)), (fun z => absurd z (by decide))⟩)))
      · refine br_f (nI_nlt z v1) (K0 (fun q => ?_))
        obtain ⟨v', hv, e⟩ := q.2.2.1 rfl
        have := (nI_eq v1 (by omega)).mp e
        omega
  · exact (br_f (by decide) (br_f (by decide) (br_f (by decide) (br_f (by decide) (br_f (by decide) (K1 ⟨(fun z => absurd z (by decide)), (fun z => absurd z (by decide)), (fun z => absurd z (by decide)), (fun z => absurd z (by decide)), (fun z => absurd z (by decide))⟩))))))
  · exact (br_f (by decide) (br_f (by decide) (br_f (by decide) (br_f (by decide) (br_f (by decide) (K1 ⟨(fun z => absurd z (by decide)), (fun z => absurd z (by decide)), (fun z => absurd z (by decide)), (fun z => absurd z (by decide)), (fun z => absurd z (by decide))⟩))))))
  · exact (br_f (by decide) (br_f (by decide) (br_f (by decide) (br_f (by decide) (br_f (by decide) (K1 ⟨(fun z => absurd z (by decide)), (fun z => absurd z (by decide)), (fun z => absurd z (by decide)), (fun z => absurd z (by decide)), (fun z => absurd z (by decide))⟩))))))
  · exact (br_f (by decide) (br_f (by decide) (br_f (by decide) (br_f (by decide) (br_f (by decide) (K1 ⟨(fun z => absurd z (by decide)), (fun z => absurd z (by decide)), (fun z => absurd z (by decide)), (fun z => absurd z (by decide)), (fun z => absurd z (by decide))⟩))))))
  · refine (br_f (by decide) (br_f (by decide) (br_f (by decide) (br_t (by decide) (br_c (fun h => ?_) (fun h => br_c (fun h' => ?_) (fun h' => K0 (fun q => (q.2.2.2.1 rfl).elim h h'))))))))
    · exact (br_f (by decide) (K1 ⟨(fun z => absurd z (by decide)), (fun z => absurd z (by decide)), (fun z => absurd z (by decide)), fun _ => Or.inl h, (fun z => absurd z (by decide))⟩))
    · exact (br_f (by decide) (K1 ⟨(fun z => absurd z (by decide)), (fun z => absurd z (by decide)), (fun z => absurd z (by decide)), fun _ => Or.inr h', (fun z => absurd z (by decide))⟩))
  · exact (br_f (by decide) (br_f (by decide) (br_f (by decide) (br_f (by decide) (br_f (by decide) (K1 ⟨(fun z => absurd z (by decide)), (fun z => absurd z (by decide)), (fun z => absurd z (by decide)), (fun z => absurd z (by decide)), (fun z => absurd z (by decide))⟩))))))
  · exact (br_f (by decide) (br_f (by decide) (br_f (by decide) (br_f (by decide) (br_t (by decide) (br_c (fun h => K1 ⟨(fun z => absurd z (by decide)), (fun z => absurd z (by decide)), (fun z => absurd z (by decide)), (fun z => absurd z (by decide)), fun _ => Or.inl h⟩) (fun h => br_c (fun h' => K1 ⟨(fun z => absurd z (by decide)), (fun z => absurd z (by decide)), (fun z => absurd z (by decide)), (fun z => absurd z (by decide)), fun _ => Or.inr h'⟩) (fun h' => K0 (fun q => (q.2.2.2.2 rfl).elim h h')))))))))
/-- the count of open ancestors -/
theorem uy_309 {post : Int32 → SY → Prop} {o a : Int32} {A' : Nat} (Z : sp_ys nf S b_param b_result) (V : sp_tv nf t b_tokOp b_tokArg) (ht : t ≤ 96) (htok : g_tokens = nI t) (hf : f < nf) (ho : g_open = nI f) (hst : b_start f = nI s) (hs : s ≤ t) (K : wY_put_309 post o a W (nI A') g_maxFunctions g_maxTokens g_maxCells g_maxDepth g_functions g_tokens g_open g_accepted g_made g_used g_most g_last g_answer g_calls g_depth b_result b_param b_start b_finished b_tokOp b_tokArg b_tokType b_first b_second b_cellKind b_freed b_fn b_born b_actual b_value b_known 1 (nI (hz_ns (sp_A S b_tokOp b_tokArg) s t)) (nI t)) : ∀ n i c : Nat, s ≤ i → i ≤ t → t < n + i → c = cn (fun j => s ≤ j ∧ hz_an (sp_A S b_tokOp b_tokArg) j t) i + 1 → wY_put_309 post o a W (nI A') g_maxFunctions g_maxTokens g_maxCells g_maxDepth g_functions g_tokens g_open g_accepted g_made g_used g_most g_last g_answer g_calls g_depth b_result b_param b_start b_finished b_tokOp b_tokArg b_tokType b_first b_second b_cellKind b_freed b_fn b_born b_actual b_value b_known n (nI c) (nI i)
  | 0, i, c, h1, h2, h3, _ => by omega
  | n + 1, i, c, h1, h2, h3, h4 => by
    rcases Nat.lt_or_ge i t with z | z
    · refine br_f (by rw [htok]; exact nI_ge z (by omega)) ?_
      rw [htok]
      refine uy_scan Z V ht (by omega) (Nat.le_refl _) (fun r hr => ?_)
      rw [← htok]
      have han := hz_scn_an hr z
      rcases Nat.eq_zero_or_pos r with y | y
      · subst y
        refine br_t (by decide) (nm_r (nI_1 i) (uy_309 Z V ht htok hf ho hst hs K n (i + 1) c (by omega) (by omega) (by omega) ?_))
        rw [cn_f (P := fun j => s ≤ j ∧ hz_an (sp_A S b_tokOp b_tokArg) j t) (fun q => by have := han.mpr q.2; omega)]; exact h4
      · have hrb : r < 1000 := by
          have bi := hz_bd (sp_A_le S b_tokOp b_tokArg) i
          have bp := hz_bd (sp_A_le S b_tokOp b_tokArg) t
          rcases hr with ⟨h4, -⟩ | ⟨h4, h5, -⟩ <;> omega
        refine br_f (nI_nle y (by omega)) (nm_r (nI_1 c) (nm_r (nI_1 i) (uy_309 Z V ht htok hf ho hst hs K n (i + 1) (c + 1) (by omega) (by omega) (by omega) ?_)))
        rw [cn_t (P := fun j => s ≤ j ∧ hz_an (sp_A S b_tokOp b_tokArg) j t) ⟨h1, han.mp y⟩]; omega
    · have e : i = t := by omega
      subst e
      have ec : c = hz_ns (sp_A S b_tokOp b_tokArg) s i := h4
      rw [ec]
      refine br_t (by rw [htok]; exact nI_le (Nat.le_refl _) (by omega)) ?_
      exact K.1 (by rw [htok]; exact nI_le (Nat.le_refl _) (by omega))
theorem uy_put {post : Int32 → SY → Prop} {o a : Int32} (Z : sp_ys nf S b_param b_result) (V : sp_tv nf t b_tokOp b_tokArg) (ht : t ≤ 96) (htok : g_tokens = nI t) (hf : f < nf) (ho : g_open = nI f) (hst : b_start f = nI s) (hs : s ≤ t) (hnf : g_functions = nI nf) (htl : g_maxTokens = nI tl) (htl2 : tl ≤ 96) (hm : ((m + 1 : Nat) : Int) = hz_H (sp_A S b_tokOp b_tokArg) t - hz_H (sp_A S b_tokOp b_tokArg) s + 1) (hb : ∀ j, s < j → j ≤ t → hz_H (sp_A S b_tokOp b_tokArg) s ≤ hz_H (sp_A S b_tokOp b_tokArg) j)
    (hW : sp_want S b_tokOp b_tokArg b_tokType f s t W) (h8 : ∀ p, p < t → b_tokOp p = 8 → b_tokType p = 2 ∨ b_tokType p = 3) (hvt : ∀ v τ, sp_vt S b_tokOp b_tokArg f s t v τ → sp_ty τ) (hns : hz_ns (sp_A S b_tokOp b_tokArg) s t ≤ 10) (hop : sp_o13 o)
    (k2 : ¬ pt_af nf (sp_sc S b_tokOp b_tokArg f s t) o a → post (-2) (g_maxFunctions, g_maxTokens, g_maxCells, g_maxDepth, g_functions, g_tokens, g_open, g_accepted, g_made, g_used, g_most, g_last, g_answer, g_calls, g_depth, b_result, b_param, b_start, b_finished, b_tokOp, b_tokArg, b_tokType, b_first, b_second, b_cellKind, b_freed, b_fn, b_born, b_actual, b_value, b_known)) (k5 : pt_af nf (sp_sc S b_tokOp b_tokArg f s t) o a → ¬ pt_tf S (sp_vt S b_tokOp b_tokArg f s t) W o a → post (-5) (g_maxFunctions, g_maxTokens, g_maxCells, g_maxDepth, g_functions, g_tokens, g_open, g_accepted, g_made, g_used, g_most, g_last, g_answer, g_calls, g_depth, b_result, b_param, b_start, b_finished, b_tokOp, b_tokArg, b_tokType, b_first, b_second, b_cellKind, b_freed, b_fn, b_born, b_actual, b_value, b_known))
    (k6 : pt_af nf (sp_sc S b_tokOp b_tokArg f s t) o a → pt_tf S (sp_vt S b_tokOp b_tokArg f s t) W o a → ((o = 5 ∧ 8 ≤ sp_sc S b_tokOp b_tokArg f s t) ∨ (0 < sp_ar S o a ∧ 10 ≤ hz_ns (sp_A S b_tokOp b_tokArg) s t)) → post (-6) (g_maxFunctions, g_maxTokens, g_maxCells, g_maxDepth, g_functions, g_tokens, g_open, g_accepted, g_made, g_used, g_most, g_last, g_answer, g_calls, g_depth, b_result, b_param, b_start, b_finished, b_tokOp, b_tokArg, b_tokType, b_first, b_second, b_cellKind, b_freed, b_fn, b_born, b_actual, b_value, b_known))
    (k3 : pt_af nf (sp_sc S b_tokOp b_tokArg f s t) o a → pt_tf S (sp_vt S b_tokOp b_tokArg f s t) W o a → ¬ (o = 5 ∧ 8 ≤ sp_sc S b_tokOp b_tokArg f s t) → ¬ (0 < sp_ar S o a ∧ 10 ≤ hz_ns (sp_A S b_tokOp b_tokArg) s t) → tl < t + (m + 1) + sp_ar S o a → post (-3) (g_maxFunctions, g_maxTokens, g_maxCells, g_maxDepth, g_functions, g_tokens, g_open, g_accepted, g_made, g_used, g_most, g_last, g_answer, g_calls, g_depth, b_result, b_param, b_start, b_finished, b_tokOp, b_tokArg, b_tokType, b_first, b_second, b_cellKind, b_freed, b_fn, b_born, b_actual, b_value, b_known))
    (k0 : pt_af nf (sp_sc S b_tokOp b_tokArg f s t) o a → pt_tf S (sp_vt S b_tokOp b_tokArg f s t) W o a → ¬ (o = 5 ∧ 8 ≤ sp_sc S b_tokOp b_tokArg f s t) → ¬ (0 < sp_ar S o a ∧ 10 ≤ hz_ns (sp_A S b_tokOp b_tokArg) s t) → t + (m + 1) + sp_ar S o a ≤ tl →
      wpY_holes (fun r => (r = 0 → (vp_in g_open 8 ∧ ∀ fin', fin' = upd b_finished g_open.toNatClampNeg (vp_nar .boolean 1) → post r (g_maxFunctions, g_maxTokens, g_maxCells, g_maxDepth, g_functions, nI (t + 1), (-1), g_accepted, g_made, g_used, g_most, g_last, g_answer, g_calls, g_depth, b_result, b_param, b_start, fin', upd b_tokOp t o, upd b_tokArg t a, upd b_tokType t W, b_first, b_second, b_cellKind, b_freed, b_fn, b_born, b_actual, b_value, b_known))) ∧ (¬ r = 0 → post r (g_maxFunctions, g_maxTokens, g_maxCells, g_maxDepth, g_functions, nI (t + 1), g_open, g_accepted, g_made, g_used, g_most, g_last, g_answer, g_calls, g_depth, b_result, b_param, b_start, b_finished, upd b_tokOp t o, upd b_tokArg t a, upd b_tokType t W, b_first, b_second, b_cellKind, b_freed, b_fn, b_born, b_actual, b_value, b_known))) (g_maxFunctions, g_maxTokens, g_maxCells, g_maxDepth, g_functions, nI (t + 1), g_open, g_accepted, g_made, g_used, g_most, g_last, g_answer, g_calls, g_depth, b_result, b_param, b_start, b_finished, upd b_tokOp t o, upd b_tokArg t a, upd b_tokType t W, b_first, b_second, b_cellKind, b_freed, b_fn, b_born, b_actual, b_value, b_known)) :
    wpY_put post (g_maxFunctions, g_maxTokens, g_maxCells, g_maxDepth, g_functions, g_tokens, g_open, g_accepted, g_made, g_used, g_most, g_last, g_answer, g_calls, g_depth, b_result, b_param, b_start, b_finished, b_tokOp, b_tokArg, b_tokType, b_first, b_second, b_cellKind, b_freed, b_fn, b_born, b_actual, b_value, b_known) o a := by
  have hn := Z.1
  have hin := o13_in hop
  have hle := sp_ar_le S o a
  have hsc : sp_sc S b_tokOp b_tokArg f s t < 100 := by
    unfold sp_sc hz_bc
    have := cn_le (fun i => s ≤ i ∧ hz_bl (sp_L b_tokOp) (sp_A S b_tokOp b_tokArg) i t) t
    have := sp_n_le S f
    omega
  have cf : (nI f).toNatClampNeg = f := nI_clamp (by omega)
  have hopen : (0 : Int32) ≤ g_open := by rw [ho]; exact nI_pos' (by omega)
  refine br_t hopen (br_f hin.1 (br_t hin.2 (uy_want Z V ht htok hf ho hst hs hW h8 ?_)))
  -- the tail behind the type check
  have w370 : pt_af nf (sp_sc S b_tokOp b_tokArg f s t) o a → pt_tf S (sp_vt S b_tokOp b_tokArg f s t) W o a → ¬ (o = 5 ∧ 8 ≤ sp_sc S b_tokOp b_tokArg f s t) → ¬ (0 < sp_ar S o a ∧ 10 ≤ hz_ns (sp_A S b_tokOp b_tokArg) s t) → wY_put_370 post o a W (nI (sp_ar S o a)) g_maxFunctions g_maxTokens g_maxCells g_maxDepth g_functions g_tokens g_open g_accepted g_made g_used g_most g_last g_answer g_calls g_depth b_result b_param b_start b_finished b_tokOp b_tokArg b_tokType b_first b_second b_cellKind b_freed b_fn b_born b_actual b_value b_known := by
    intro ha htf n5 n10
    unfold wY_put_370
    refine uy_holes Z V ht htok hf ho hst hs hm hb ?_
    have e : g_tokens + nI (m + 1) + nI (sp_ar S o a) = nI (t + (m + 1) + sp_ar S o a) := by rw [htok, nI_add, nI_add]
    have hbm : m < 1000 := by
      have bi := hz_bd (sp_A_le S b_tokOp b_tokArg) s
      have bp := hz_bd (sp_A_le S b_tokOp b_tokArg) t
      omega
    rcases Nat.lt_or_ge tl (t + (m + 1) + sp_ar S o a) with z | z
    · refine br_f ?_ (k3 ha htf n5 n10 z)
      rw [e, htl]; exact nI_ge z (by omega)
    · refine br_t ?_ ?_
      · rw [e, htl]; exact nI_le z (by omega)
      · have hit : vp_in g_tokens 96 := by rw [htok]; exact vp_in_nI (by omega) (by decide)
        have ct : g_tokens.toNatClampNeg = t := by rw [htok]; exact nI_clamp (by omega)
        refine ⟨hit, ?_⟩
        rw [ct]
        refine nm_e ⟨hit, nm_e ⟨hit, nm_e (nm_r (e' := nI (t + 1)) (by rw [htok]; exact nI_1 t) ?_)⟩⟩
        exact k0 ha htf n5 n10 z
  have w355 : pt_af nf (sp_sc S b_tokOp b_tokArg f s t) o a → pt_tf S (sp_vt S b_tokOp b_tokArg f s t) W o a → ¬ (o = 5 ∧ 8 ≤ sp_sc S b_tokOp b_tokArg f s t) → wY_put_355 post o a W (nI (sp_ar S o a)) (nI (hz_ns (sp_A S b_tokOp b_tokArg) s t)) g_maxFunctions g_maxTokens g_maxCells g_maxDepth g_functions g_tokens g_open g_accepted g_made g_used g_most g_last g_answer g_calls g_depth b_result b_param b_start b_finished b_tokOp b_tokArg b_tokType b_first b_second b_cellKind b_freed b_fn b_born b_actual b_value b_known := by
    intro ha htf n5
    rcases Nat.eq_zero_or_pos (sp_ar S o a) with z | z
    · exact br_t (by rw [z]; decide) (w370 ha htf n5 (fun q => by omega))
    · refine br_f (nI_nle z (by omega)) ?_
      by_cases y : hz_ns (sp_A S b_tokOp b_tokArg) s t = 10
      · exact br_t (by rw [y]; rfl) (k6 ha htf (Or.inr ⟨z, by omega⟩))
      · exact br_f (fun q => y ((nI_eq (b := 10) (by omega) (by omega)).mp q)) (w370 ha htf n5 (fun q => by omega))
  have w279 : pt_af nf (sp_sc S b_tokOp b_tokArg f s t) o a → pt_tf S (sp_vt S b_tokOp b_tokArg f s t) W o a → wY_put_279 post o a W 1 g_maxFunctions g_maxTokens g_maxCells g_maxDepth g_functions g_tokens g_open g_accepted g_made g_used g_most g_last g_answer g_calls g_depth b_result b_param b_start b_finished b_tokOp b_tokArg b_tokType b_first b_second b_cellKind b_freed b_fn b_born b_actual b_value b_known := by
    intro ha htf
    refine br_f (by decide) (uy_holesOf Z hop ha.2.2.1 ⟨by rw [ho]; exact vp_in_nI (by omega) (by decide), nm_r (e' := nI s) (by rw [ho, cf]; exact hst) ⟨t + 1, ?_⟩⟩)
    refine uy_309 Z V ht htok hf ho hst hs ?_ (t + 1) s 1 (Nat.le_refl _) hs (by omega) (by rw [cn_zero (fun k hk q => by omega)])
    refine br_t (by rw [htok]; exact nI_le (Nat.le_refl _) (by omega)) ?_
    by_cases h5 : o = 5
    · refine br_t h5 (uy_varType Z V ht htok hf ho hst hs (fun v τ e lv hv => ?_) (fun h => ?_))
      · have : v = 7 := (nI_eq lv (by omega)).mp e.symm
        subst this
        have l7 := sp_vt_lt hv
        have ty := hvt _ _ hv
        refine br_f (fun q => ?_) (k6 ha htf (Or.inl ⟨h5, by omega⟩))
        rw [q] at ty
        rcases ty with w | w | w | w <;> exact absurd w (by decide)
      · refine br_t rfl (w355 ha htf (fun q => ?_))
        obtain ⟨τ, hτ⟩ := sp_vt_ex (show 7 < sp_sc S b_tokOp b_tokArg f s t by omega)
        exact h 7 τ (by omega) rfl hτ
    · exact br_f h5 (w355 ha htf (fun q => h5 q.1))
  have w0 : pt_af nf (sp_sc S b_tokOp b_tokArg f s t) o a → ¬ pt_tf S (sp_vt S b_tokOp b_tokArg f s t) W o a → wY_put_279 post o a W 0 g_maxFunctions g_maxTokens g_maxCells g_maxDepth g_functions g_tokens g_open g_accepted g_made g_used g_most g_last g_answer g_calls g_depth b_result b_param b_start b_finished b_tokOp b_tokArg b_tokType b_first b_second b_cellKind b_freed b_fn b_born b_actual b_value b_known := fun ha htf => br_t rfl (k5 ha htf)
  have w47 : ∀ r, (o = 2 → ∃ v, a = nI v ∧ v < sp_sc S b_tokOp b_tokArg f s t) → (o = 2 → ∃ v, a = nI v ∧ v < 100 ∧ sp_vt S b_tokOp b_tokArg f s t v r) → wY_put_47 post o a W r g_maxFunctions g_maxTokens g_maxCells g_maxDepth g_functions g_tokens g_open g_accepted g_made g_used g_most g_last g_answer g_calls g_depth b_result b_param b_start b_finished b_tokOp b_tokArg b_tokType b_first b_second b_cellKind b_freed b_fn b_born b_actual b_value b_known := fun r h2 h2' =>
    uy_47 Z hnf hop h2 (fun ha => uy_124 Z hop ha h2' (fun v τ τ' x y => sp_vt_u x y) (w279 ha) (w0 ha)) k2
  refine uy_varType Z V ht htok hf ho hst hs (fun v τ e lv hv => ?_) (fun h => ?_)
  · have l := sp_vt_lt hv
    by_cases h2 : o = 2
    · refine br_t h2 (br_f (fun q => ?_) (w47 τ (fun _ => ⟨v, e, l⟩) (fun _ => ⟨v, e, by omega, hv⟩)))
      have ty := hvt _ _ hv
      rw [q] at ty
      rcases ty with w | w | w | w <;> exact absurd w (by decide)
    · exact br_f h2 (w47 τ (fun q => absurd q h2) (fun q => absurd q h2))
  · by_cases h2 : o = 2
    · refine br_t h2 (br_t rfl (k2 (fun q => ?_)))
      obtain ⟨v, e, l⟩ := q.1 h2
      obtain ⟨τ, hτ⟩ := sp_vt_ex l
      exact h v τ (by omega) e hτ
    · exact br_f h2 (w47 (-1) (fun q => absurd q h2) (fun q => absurd q h2))
theorem uy_put0 {post : Int32 → SY → Prop} {o a : Int32} (ho : ¬ sp_o13 o) (hop : 0 ≤ g_open) (k : post (-2) (g_maxFunctions, g_maxTokens, g_maxCells, g_maxDepth, g_functions, g_tokens, g_open, g_accepted, g_made, g_used, g_most, g_last, g_answer, g_calls, g_depth, b_result, b_param, b_start, b_finished, b_tokOp, b_tokArg, b_tokType, b_first, b_second, b_cellKind, b_freed, b_fn, b_born, b_actual, b_value, b_known)) : wpY_put post (g_maxFunctions, g_maxTokens, g_maxCells, g_maxDepth, g_functions, g_tokens, g_open, g_accepted, g_made, g_used, g_most, g_last, g_answer, g_calls, g_depth, b_result, b_param, b_start, b_finished, b_tokOp, b_tokArg, b_tokType, b_first, b_second, b_cellKind, b_freed, b_fn, b_born, b_actual, b_value, b_known) o a := by
  refine br_t hop (br_c (fun _ => k) (fun h1 => br_c (fun h2 => ?_) (fun _ => k)))
  exfalso
  apply ho
  obtain ⟨j, j1, j2⟩ := nI_of2 (x := o) (M := 13) (n := 13) (by decide) (fun z => h1 (by
    have a := Int32.lt_iff_toInt_lt.mp z
    exact Int32.lt_iff_toInt_lt.mpr (by
      have e0 : (0 : Int32).toInt = 0 := by decide
      have e1 : (1 : Int32).toInt = 1 := by decide
      rw [e0] at a; rw [e1]; omega))) h2
  subst j2
  have j0 : j ≠ 0 := fun z => by
    subst z
    exact h1 (by decide)
  unfold sp_o13
  rcases (by omega : j = 1 ∨ j = 2 ∨ j = 3 ∨ j = 4 ∨ j = 5 ∨ j = 6 ∨ j = 7 ∨ j = 8 ∨ j = 9 ∨ j = 10 ∨ j = 11 ∨ j = 12 ∨ j = 13) with rfl | rfl | rfl | rfl | rfl | rfl | rfl | rfl | rfl | rfl | rfl | rfl | rfl <;> decide
end
end
section
def kk (τ : Int32) : Int32 := if τ = 1 then 2 else if τ = 2 then 4 else if τ = 3 then 10 else 0
def rr_num (nf fl t tl cl dl : Nat) (acc : Int32) : Prop := 1 ≤ fl ∧ fl ≤ 8 ∧ 16 ≤ tl ∧ tl ≤ 96 ∧ 8 ≤ cl ∧ cl ≤ 64 ∧ 4 ≤ dl ∧ dl ≤ 24 ∧ nf ≤ fl ∧ t ≤ tl ∧ (acc = 0 ∨ acc = 1)
def rr_sig (nf : Nat) (S pa ke par res : Nat → Int32) : Prop := sp_ys nf S par res ∧ ∀ f, f < nf → pa f = nI (sp_n S f) ∧ ke f = (kk (S (3 * f + 2)) ||| kk (S (3 * f))) ||| kk (S (3 * f + 1)) ∧ sp_sf S f ∧ (f = 0 → (S 0 = -1 ∨ S 0 = 0) ∧ (S 1 = -1 ∨ S 1 = 0))
def rr_ag (nf n : Nat) (S op arg ty S' op' arg' ty' : Nat → Int32) : Prop := (∀ g, g < 3 * nf → S' g = S g) ∧ (∀ j, j < n → op' j = op j ∧ arg' j = arg j ∧ ty' j = ty j)
def rr_bod (nf t : Nat) (ob : Int32) (S st fin op arg ty scp : Nat → Int32) (fo : Nat → Nat) : Prop :=
  (∀ q, q < t → fo q < nf ∧ ∃ s, st (fo q) = nI s ∧ s ≤ q ∧ sp_TK nf S op arg ty scp (fo q) s q) ∧ (∀ q, q < t → fin (fo q) = 1 ∨ ob = nI (fo q)) ∧
  (∀ f, f < nf → fin f = 0 ∨ (fin f = 1 ∧ ∃ s e, st f = nI s ∧ s < e ∧ e ≤ t ∧ (∀ S' op' arg' ty', rr_ag nf e S op arg ty S' op' arg' ty' → hz_en (sp_A S' op' arg') s e) ∧ ∀ q, q < t → (fo q = f ↔ (s ≤ q ∧ q < e)))) ∧ (∀ f, nf ≤ f → f < 8 → fin f = 0)
def rr_opn (nf t tl : Nat) (ob hc : Int32) (S st fin op arg ty hT hN hS hV : Nat → Int32) (fo : Nat → Nat) (f s m : Nat) : Prop :=
  f < nf ∧ ob = nI f ∧ fin f = 0 ∧ st f = nI s ∧ s ≤ t ∧ hc = nI (m + 1) ∧ t + (m + 1) ≤ tl ∧ (∀ q, s ≤ q → q < t → fo q = f) ∧
  ∀ S' op' arg' ty', rr_ag nf t S op arg ty S' op' arg' ty' → (∀ j, s < j → j ≤ t → hz_H (sp_A S' op' arg') s ≤ hz_H (sp_A S' op' arg') j) ∧ ((m + 1 : Nat) : Int) = hz_H (sp_A S' op' arg') t - hz_H (sp_A S' op' arg') s + 1 ∧
    ∀ h, h ≤ m → sp_hole S' op' arg' ty' f s t h (hT h) (hN h) (hS h) (hV h)
def rr_open (nf t tl : Nat) (ob hc : Int32) (S st fin op arg ty hT hN hS hV : Nat → Int32) (fo : Nat → Nat) : Prop := (ob = -1 ∧ hc = 0) ∨ ∃ f s m, rr_opn nf t tl ob hc S st fin op arg ty hT hN hS hV fo f s m
def rr_acc (nf t : Nat) (acc ob : Int32) (S st op arg ty scp en' reg sgR alR : Nat → Int32) (fo : Nat → Nat) : Prop :=
  acc = 1 → ob = -1 ∧ 0 < nf ∧ ∃ sN en sg al, pc_ok nf t S op arg ty scp sN fo en ∧ (∀ f, f < nf → st f = nI (sN f)) ∧ (∀ q, q < t → en' q = nI (en q)) ∧ rg_ok nf t S op arg ty sN fo en sg al reg sgR alR
/-- a chain of Y's cells -/
def dq_ch (md : Nat) (se : Nat → Int32) : List Nat → Int32 → Prop
  | [], y => y = -1
  | e :: l, y => y = nI e ∧ e < md ∧ dq_ch md se l (se e)
def dq_res (md : Nat) (τ rs an : Int32) (rr fi se : Nat → Int32) : Prop :=
  (τ = 0 → rs = 1 ∧ rr 0 = an) ∧ (τ = 1 → rs = 2 ∧ ∃ d, d < md ∧ an = nI d ∧ rr 0 = fi d ∧ rr 1 = se d) ∧
  (τ = 2 → ∃ l, dq_ch md se l an ∧ l.length ≤ 64 ∧ l.length ≤ md ∧ rs = nI l.length ∧ ∀ j d, l[j]? = some d → rr j = fi d) ∧
  (τ = 3 → ∃ l, dq_ch md se l an ∧ l.length ≤ 64 ∧ l.length ≤ md ∧ rs = nI (2 * l.length) ∧ ∀ j d, l[j]? = some d → ∃ e, e < md ∧ fi d = nI e ∧ rr (2 * j) = fi e ∧ rr (2 * j + 1) = se e)
def rr_dyn (acc τ oc pk rs made mo la an : Int32) (us rr fi se ck fr : Nat → Int32) : Prop :=
  oc = la ∧ pk = mo ∧ ∃ md, made = nI md ∧ md ≤ 9600 ∧ (∀ e, e < md → ck e = 1 ∨ ck e = 2 ∨ ck e = 3) ∧ (∀ k, 1 ≤ k → k ≤ 3 → us k = nI (cn (fun e => ck e = nI k ∧ fr e = 0) md)) ∧ (la ≠ 1 → rs = 0) ∧ (la = 1 → acc = 1 ∧ sp_ty τ ∧ dq_res md τ rs an rr fi se)
def rr_all (f_functionLimit : Int32) (f_tokenLimit : Int32) (f_cellLimit : Int32) (f_depthLimit : Int32) (f_functions : Int32) (f_accepted : Int32) (f_placed : Int32) (f_openBody : Int32) (f_holeCount : Int32) (f_nextRegion : Int32) (f_changed : Int32) (f_freeCell : Int32) (f_active : Int32) (f_calls : Int32) (f_taskTop : Int32) (f_valueTop : Int32) (f_releasing : Int32) (f_outcome : Int32) (f_peakUsed : Int32) (f_resultSize : Int32) (a_sigType : Nat → Int32) (a_params : Nat → Int32) (a_kept : Nat → Int32) (a_start : Nat → Int32) (a_finished : Nat → Int32) (a_tokOp : Nat → Int32) (a_tokArg : Nat → Int32) (a_tokType : Nat → Int32) (a_tokScope : Nat → Int32) (a_end : Nat → Int32) (a_holeType : Nat → Int32) (a_holeNest : Nat → Int32) (a_holeScope : Nat → Int32) (a_holeVars : Nat → Int32) (a_parent : Nat → Int32) (a_region : Nat → Int32) (a_sigRegions : Nat → Int32) (a_allRegions : Nat → Int32) (a_cellA : Nat → Int32) (a_cellB : Nat → Int32) (a_link : Nat → Int32) (a_live : Nat → Int32) (a_frameFunction : Nat → Int32) (a_vars : Nat → Int32) (a_saved : Nat → Int32) (a_env : Nat → Int32) (a_regionFirst : Nat → Int32) (a_tasks : Nat → Int32) (a_values : Nat → Int32) (a_used : Nat → Int32) (a_result : Nat → Int32) (g_maxFunctions : Int32) (g_maxTokens : Int32) (g_maxCells : Int32) (g_maxDepth : Int32) (g_functions : Int32) (g_tokens : Int32) (g_open : Int32) (g_accepted : Int32) (g_made : Int32) (g_used : Int32) (g_most : Int32) (g_last : Int32) (g_answer : Int32) (g_calls : Int32) (g_depth : Int32) (b_result : Nat → Int32) (b_param : Nat → Int32) (b_start : Nat → Int32) (b_finished : Nat → Int32) (b_tokOp : Nat → Int32) (b_tokArg : Nat → Int32) (b_tokType : Nat → Int32) (b_first : Nat → Int32) (b_second : Nat → Int32) (b_cellKind : Nat → Int32) (b_freed : Nat → Int32) (b_fn : Nat → Int32) (b_born : Nat → Int32) (b_actual : Nat → Int32) (b_value : Nat → Int32) (b_known : Nat → Int32) : Prop :=
  (∃ nf fl t tl cl dl fo, (rr_num nf fl t tl cl dl f_accepted ∧ f_functionLimit = nI fl ∧ g_maxFunctions = nI fl ∧ f_tokenLimit = nI tl ∧ g_maxTokens = nI tl ∧ f_cellLimit = nI cl ∧ g_maxCells = nI cl ∧ f_depthLimit = nI dl ∧ g_maxDepth = nI dl ∧ f_functions = nI nf ∧ g_functions = nI nf ∧ f_placed = nI t ∧ g_tokens = nI t) ∧
    rr_sig nf a_sigType a_params a_kept b_param b_result ∧ rr_bod nf t f_openBody a_sigType a_start a_finished a_tokOp a_tokArg a_tokType a_tokScope fo ∧
    rr_open nf t tl f_openBody f_holeCount a_sigType a_start a_finished a_tokOp a_tokArg a_tokType a_holeType a_holeNest a_holeScope a_holeVars fo ∧
    rr_acc nf t f_accepted f_openBody a_sigType a_start a_tokOp a_tokArg a_tokType a_tokScope a_end a_region a_sigRegions a_allRegions fo) ∧
  (f_openBody = g_open ∧ f_accepted = g_accepted ∧ a_start = b_start ∧ a_finished = b_finished ∧ a_tokOp = b_tokOp ∧ a_tokArg = b_tokArg ∧ a_tokType = b_tokType) ∧
  rr_dyn f_accepted (b_result 0) f_outcome f_peakUsed f_resultSize g_made g_most g_last g_answer a_used a_result b_first b_second b_cellKind b_freed
def i_Rel (k : Nat) (u : SX) (v : SY) : Prop := match u, v with | (f_functionLimit, f_tokenLimit, f_cellLimit, f_depthLimit, f_functions, f_accepted, f_placed, f_openBody, f_holeCount, f_nextRegion, f_changed, f_freeCell, f_active, f_calls, f_taskTop, f_valueTop, f_releasing, f_outcome, f_peakUsed, f_resultSize, a_sigType, a_params, a_kept, a_start, a_finished, a_tokOp, a_tokArg, a_tokType, a_tokScope, a_end, a_holeType, a_holeNest, a_holeScope, a_holeVars, a_parent, a_region, a_sigRegions, a_allRegions, a_cellA, a_cellB, a_link, a_live, a_frameFunction, a_vars, a_saved, a_env, a_regionFirst, a_tasks, a_values, a_used, a_result), (g_maxFunctions, g_maxTokens, g_maxCells, g_maxDepth, g_functions, g_tokens, g_open, g_accepted, g_made, g_used, g_most, g_last, g_answer, g_calls, g_depth, b_result, b_param, b_start, b_finished, b_tokOp, b_tokArg, b_tokType, b_first, b_second, b_cellKind, b_freed, b_fn, b_born, b_actual, b_value, b_known) => rr_all f_functionLimit f_tokenLimit f_cellLimit f_depthLimit f_functions f_accepted f_placed f_openBody f_holeCount f_nextRegion f_changed f_freeCell f_active f_calls f_taskTop f_valueTop f_releasing f_outcome f_peakUsed f_resultSize a_sigType a_params a_kept a_start a_finished a_tokOp a_tokArg a_tokType a_tokScope a_end a_holeType a_holeNest a_holeScope a_holeVars a_parent a_region a_sigRegions a_allRegions a_cellA a_cellB a_link a_live a_frameFunction a_vars a_saved a_env a_regionFirst a_tasks a_values a_used a_result g_maxFunctions g_maxTokens g_maxCells g_maxDepth g_functions g_tokens g_open g_accepted g_made g_used g_most g_last g_answer g_calls g_depth b_result b_param b_start b_finished b_tokOp b_tokArg b_tokType b_first b_second b_cellKind b_freed b_fn b_born b_actual b_value b_known
theorem i_up {k : Nat} {u : SX} {v : SY} (h : i_Rel k u v) : i_Rel (k + 4) u v := h
theorem zz_el {k : Nat} {u : SX} {v : SY} {P : SX → SY → Prop} (I : i_Rel k u v) (h : ∀ (f_functionLimit : Int32) (f_tokenLimit : Int32) (f_cellLimit : Int32) (f_depthLimit : Int32) (f_functions : Int32) (f_accepted : Int32) (f_placed : Int32) (f_openBody : Int32) (f_holeCount : Int32) (f_nextRegion : Int32) (f_changed : Int32) (f_freeCell : Int32) (f_active : Int32) (f_calls : Int32) (f_taskTop : Int32) (f_valueTop : Int32) (f_releasing : Int32) (f_outcome : Int32) (f_peakUsed : Int32) (f_resultSize : Int32) (a_sigType : Nat → Int32) (a_params : Nat → Int32) (a_kept : Nat → Int32) (a_start : Nat → Int32) (a_finished : Nat → Int32) (a_tokOp : Nat → Int32) (a_tokArg : Nat → Int32) (a_tokType : Nat → Int32) (a_tokScope : Nat → Int32) (a_end : Nat → Int32) (a_holeType : Nat → Int32) (a_holeNest : Nat → Int32) (a_holeScope : Nat → Int32) (a_holeVars : Nat → Int32) (a_parent : Nat → Int32) (a_region : Nat → Int32) (a_sigRegions : Nat → Int32) (a_allRegions : Nat → Int32) (a_cellA : Nat → Int32) (a_cellB : Nat → Int32) (a_link : Nat → Int32) (a_live : Nat → Int32) (a_frameFunction : Nat → Int32) (a_vars : Nat → Int32) (a_saved : Nat → Int32) (a_env : Nat → Int32) (a_regionFirst : Nat → Int32) (a_tasks : Nat → Int32) (a_values : Nat → Int32) (a_used : Nat → Int32) (a_result : Nat → Int32) (g_maxFunctions : Int32) (g_maxTokens : Int32) (g_maxCells : Int32) (g_maxDepth : Int32) (g_functions : Int32) (g_tokens : Int32) (g_open : Int32) (g_accepted : Int32) (g_made : Int32) (g_used : Int32) (g_most : Int32) (g_last : Int32) (g_answer : Int32) (g_calls : Int32) (g_depth : Int32) (b_result : Nat → Int32) (b_param : Nat → Int32) (b_start : Nat → Int32) (b_finished : Nat → Int32) (b_tokOp : Nat → Int32) (b_tokArg : Nat → Int32) (b_tokType : Nat → Int32) (b_first : Nat → Int32) (b_second : Nat → Int32) (b_cellKind : Nat → Int32) (b_freed : Nat → Int32) (b_fn : Nat → Int32) (b_born : Nat → Int32) (b_actual : Nat → Int32) (b_value : Nat → Int32) (b_known : Nat → Int32), rr_all f_functionLimit f_tokenLimit f_cellLimit f_depthLimit f_functions f_accepted f_placed f_openBody f_holeCount f_nextRegion f_changed f_freeCell f_active f_calls f_taskTop f_valueTop f_releasing f_outcome f_peakUsed f_resultSize a_sigType a_params a_kept a_start a_finished a_tokOp a_tokArg a_tokType a_tokScope a_end a_holeType a_holeNest a_holeScope a_holeVars a_parent a_region a_sigRegions a_allRegions a_cellA a_cellB a_link a_live a_frameFunction a_vars a_saved a_env a_regionFirst a_tasks a_values a_used a_result g_maxFunctions g_maxTokens g_maxCells g_maxDepth g_functions g_tokens g_open g_accepted g_made g_used g_most g_last g_answer g_calls g_depth b_result b_param b_start b_finished b_tokOp b_tokArg b_tokType b_first b_second b_cellKind b_freed b_fn b_born b_actual b_value b_known → P (f_functionLimit, f_tokenLimit, f_cellLimit, f_depthLimit, f_functions, f_accepted, f_placed, f_openBody, f_holeCount, f_nextRegion, f_changed, f_freeCell, f_active, f_calls, f_taskTop, f_valueTop, f_releasing, f_outcome, f_peakUsed, f_resultSize, a_sigType, a_params, a_kept, a_start, a_finished, a_tokOp, a_tokArg, a_tokType, a_tokScope, a_end, a_holeType, a_holeNest, a_holeScope, a_holeVars, a_parent, a_region, a_sigRegions, a_allRegions, a_cellA, a_cellB, a_link, a_live, a_frameFunction, a_vars, a_saved, a_env, a_regionFirst, a_tasks, a_values, a_used, a_result) (g_maxFunctions, g_maxTokens, g_maxCells, g_maxDepth, g_functions, g_tokens, g_open, g_accepted, g_made, g_used, g_most, g_last, g_answer, g_calls, g_depth, b_result, b_param, b_start, b_finished, b_tokOp, b_tokArg, b_tokType, b_first, b_second, b_cellKind, b_freed, b_fn, b_born, b_actual, b_value, b_known)) : P u v := by
  obtain ⟨f_functionLimit, f_tokenLimit, f_cellLimit, f_depthLimit, f_functions, f_accepted, f_placed, f_openBody, f_holeCount, f_nextRegion, f_changed, f_freeCell, f_active, f_calls, f_taskTop, f_valueTop, f_releasing, f_outcome, f_peakUsed, f_resultSize, a_sigType, a_params, a_kept, a_start, a_finished, a_tokOp, a_tokArg, a_tokType, a_tokScope, a_end, a_holeType, a_holeNest, a_holeScope, a_holeVars, a_parent, a_region, a_sigRegions, a_allRegions, a_cellA, a_cellB, a_link, a_live, a_frameFunction, a_vars, a_saved, a_env, a_regionFirst, a_tasks, a_values, a_used, a_result⟩ := u
  obtain ⟨g_maxFunctions, g_maxTokens, g_maxCells, g_maxDepth, g_functions, g_tokens, g_open, g_accepted, g_made, g_used, g_most, g_last, g_answer, g_calls, g_depth, b_result, b_param, b_start, b_finished, b_tokOp, b_tokArg, b_tokType, b_first, b_second, b_cellKind, b_freed, b_fn, b_born, b_actual, b_value, b_known⟩ := v
  exact h _ _ _ _ _ _ _ _ _ _ _ _ _ _ _ _ _ _ _ _ _ _ _ _ _ _ _ _ _ _ _ _ _ _ _ _ _ _ _ _ _ _ _ _ _ _ _ _ _ _ _ _ _ _ _ _ _ _ _ _ _ _ _ _ _ _ _ _ _ _ _ _ _ _ _ _ _ _ _ _ _ _ I
end
section
section
variable {nf t tl : Nat} {ob hc : Int32} {S st fin op arg ty scp hT hN hS hV : Nat → Int32} {fo : Nat → Nat}
theorem rr_ag_rf : rr_ag nf t S op arg ty S op arg ty := ⟨fun _ _ => rfl, fun _ _ => ⟨rfl, rfl, rfl⟩⟩
theorem rr_tk (B : rr_bod nf t ob S st fin op arg ty scp fo) {q : Nat} (h : q < t) : ∃ s, st (fo q) = nI s ∧ s ≤ q ∧ sp_tok nf S op arg ty scp (fo q) s q := by
  obtain ⟨-, s, s1, s2, s3⟩ := B.1 q h
  exact ⟨s, s1, s2, sp_TK_use s3⟩
theorem rr_tv (B : rr_bod nf t ob S st fin op arg ty scp fo) : sp_tv nf t op arg := by
  intro q h
  obtain ⟨s, -, -, T⟩ := rr_tk B h
  have K := T.2.2.2.2.2.2.2
  refine ⟨sp_opk_13 K, fun h6 => ?_⟩
  obtain ⟨g, g1, g2, -⟩ := sp_opk_6 K h6
  exact ⟨g, g1, g2⟩
theorem rr_h8 (B : rr_bod nf t ob S st fin op arg ty scp fo) : ∀ p, p < t → op p = 8 → ty p = 2 ∨ ty p = 3 := by
  intro q h h8
  obtain ⟨s, -, -, T⟩ := rr_tk B h
  have K := T.2.2.2.2.2.2.2
  unfold sp_opk at K
  rw [h8] at K
  rcases K with ⟨z, -⟩ | ⟨z, -⟩ | ⟨z, -⟩ | z | ⟨z, -⟩ | ⟨z, -⟩ | ⟨z, -⟩ | ⟨-, z⟩ | ⟨z, -⟩ | ⟨z, -⟩ | ⟨z, -⟩ | ⟨z, -⟩ | ⟨z, -⟩
  case inr.inr.inr.inr.inr.inr.inr.inl => exact z
  all_goals exact absurd z (by decide)
theorem rr_a5 (B : rr_bod nf t ob S st fin op arg ty scp fo) : ∀ p, p < t → op p = 5 → sp_ty (arg p) := by
  intro q h h8
  obtain ⟨s, -, -, T⟩ := rr_tk B h
  have K := T.2.2.2.2.2.2.2
  unfold sp_opk at K
  rw [h8] at K
  rcases K with ⟨z, -⟩ | ⟨z, -⟩ | ⟨z, -⟩ | z | ⟨-, z, -⟩ | ⟨z, -⟩ | ⟨z, -⟩ | ⟨z, -⟩ | ⟨z, -⟩ | ⟨z, -⟩ | ⟨z, -⟩ | ⟨z, -⟩ | ⟨z, -⟩
  case inr.inr.inr.inr.inl => exact z
  all_goals exact absurd z (by decide)
theorem sf_ty {f v : Nat} (h : sp_sf S f) (hv : v < sp_n S f) : sp_ty (S (3 * f + v)) := by
  obtain ⟨h1, h2, h3, h4⟩ := h
  unfold sp_n at hv
  by_cases z : S (3 * f) = -1
  · rw [if_pos z] at hv; omega
  · rw [if_neg z] at hv
    by_cases y : S (3 * f + 1) = -1
    · rw [if_pos y] at hv
      have : v = 0 := by omega
      subst this
      exact h2.elim (fun w => absurd w z) id
    · rw [if_neg y] at hv
      rcases (by omega : v = 0 ∨ v = 1) with rfl | rfl
      · exact h2.elim (fun w => absurd w z) id
      · exact h3.elim (fun w => absurd w y) id
theorem rr_vt {f s q : Nat} (B : rr_bod nf t ob S st fin op arg ty scp fo) (hq : q ≤ t) (hf : sp_sf S f) : ∀ v τ, sp_vt S op arg f s q v τ → sp_ty τ := by
  intro v τ h
  rcases h with ⟨h1, h2⟩ | ⟨j, h1, h2, h3, h4⟩
  · rw [h2]; exact sf_ty hf h1
  · rw [h4]
    have := h2.2.1.1
    exact rr_a5 B j (by omega) h2.1
theorem rr_top {f s m : Nat} (O : rr_opn nf t tl ob hc S st fin op arg ty hT hN hS hV fo f s m) (ht : tl ≤ 96) :
    (∃ w, pt_top nf t m (sp_sc S op arg f s t) (hz_ns (sp_A S op arg) s t) w (sp_vt S op arg f s t) (hT m) (hT m) (hN m) (hS m) (hV m)) ∧ sp_want S op arg ty f s t (hT m) ∧ sp_ty (hT m) ∧ hz_ns (sp_A S op arg) s t ≤ 10 ∧
    (∀ j, s < j → j ≤ t → hz_H (sp_A S op arg) s ≤ hz_H (sp_A S op arg) j) ∧ ((m + 1 : Nat) : Int) = hz_H (sp_A S op arg) t - hz_H (sp_A S op arg) s + 1 := by
  obtain ⟨h1, h2, h3, h4, h5, h6, h7, h8, h9⟩ := O
  obtain ⟨g1, g2, g3⟩ := h9 S op arg ty rr_ag_rf
  obtain ⟨k1, k2, k3, k4, k5, k6, w, k7, k8, k9⟩ := sp_top (g3 m (Nat.le_refl _)) (by omega)
  exact ⟨⟨w, by omega, rfl, k3, k4, k5, k6, k8, k7, fun v τ hv => ⟨sp_vt_lt hv, k9 v τ hv⟩, fun v hv => sp_vt_ex hv, fun v τ τ' a b => sp_vt_u a b⟩, k2, k1, k4, g1, g2⟩
end
theorem i_vc_placed {k : Nat} {u : SX} {v : SY} (I : i_Rel k u v) (hk : k + 4 ≤ 2052) : wpX_placed (fun r => wpY_placed (fun r' => r' = r ∧ i_Rel (k + 4) u v) v) u := by
  refine zz_el (P := fun u v => wpX_placed (fun r => wpY_placed (fun r' => r' = r ∧ i_Rel (k + 4) u v) v) u) I ?_
  intro f_functionLimit f_tokenLimit f_cellLimit f_depthLimit f_functions f_accepted f_placed f_openBody f_holeCount f_nextRegion f_changed f_freeCell f_active f_calls f_taskTop f_valueTop f_releasing f_outcome f_peakUsed f_resultSize a_sigType a_params a_kept a_start a_finished a_tokOp a_tokArg a_tokType a_tokScope a_end a_holeType a_holeNest a_holeScope a_holeVars a_parent a_region a_sigRegions a_allRegions a_cellA a_cellB a_link a_live a_frameFunction a_vars a_saved a_env a_regionFirst a_tasks a_values a_used a_result g_maxFunctions g_maxTokens g_maxCells g_maxDepth g_functions g_tokens g_open g_accepted g_made g_used g_most g_last g_answer g_calls g_depth b_result b_param b_start b_finished b_tokOp b_tokArg b_tokType b_first b_second b_cellKind b_freed b_fn b_born b_actual b_value b_known R
  have R' := R
  obtain ⟨⟨nf, fl, t, tl, cl, dl, fo, ⟨hN, n1, n2, n3, n4, n5, n6, n7, n8, n9, n10, n11, n12⟩, hS, hB, hO, hA⟩, ⟨q1, q2, q3, q4, q5, q6, q7⟩, hD⟩ := R
  exact ⟨n12.trans n11.symm, R'⟩
theorem i_vc_status {k : Nat} {u : SX} {v : SY} (I : i_Rel k u v) (hk : k + 4 ≤ 2052) : wpX_status (fun r => wpY_status (fun r' => r' = r ∧ i_Rel (k + 4) u v) v) u := by
  refine zz_el (P := fun u v => wpX_status (fun r => wpY_status (fun r' => r' = r ∧ i_Rel (k + 4) u v) v) u) I ?_
  intro f_functionLimit f_tokenLimit f_cellLimit f_depthLimit f_functions f_accepted f_placed f_openBody f_holeCount f_nextRegion f_changed f_freeCell f_active f_calls f_taskTop f_valueTop f_releasing f_outcome f_peakUsed f_resultSize a_sigType a_params a_kept a_start a_finished a_tokOp a_tokArg a_tokType a_tokScope a_end a_holeType a_holeNest a_holeScope a_holeVars a_parent a_region a_sigRegions a_allRegions a_cellA a_cellB a_link a_live a_frameFunction a_vars a_saved a_env a_regionFirst a_tasks a_values a_used a_result g_maxFunctions g_maxTokens g_maxCells g_maxDepth g_functions g_tokens g_open g_accepted g_made g_used g_most g_last g_answer g_calls g_depth b_result b_param b_start b_finished b_tokOp b_tokArg b_tokType b_first b_second b_cellKind b_freed b_fn b_born b_actual b_value b_known R
  have R' := R
  obtain ⟨⟨nf, fl, t, tl, cl, dl, fo, ⟨hN, n1, n2, n3, n4, n5, n6, n7, n8, n9, n10, n11, n12⟩, hS, hB, hO, hA⟩, ⟨q1, q2, q3, q4, q5, q6, q7⟩, hD⟩ := R
  exact ⟨hD.1.symm, R'⟩
theorem i_vc_peak {k : Nat} {u : SX} {v : SY} (I : i_Rel k u v) (hk : k + 4 ≤ 2052) : wpX_peak (fun r => wpY_peak (fun r' => r' = r ∧ i_Rel (k + 4) u v) v) u := by
  refine zz_el (P := fun u v => wpX_peak (fun r => wpY_peak (fun r' => r' = r ∧ i_Rel (k + 4) u v) v) u) I ?_
  intro f_functionLimit f_tokenLimit f_cellLimit f_depthLimit f_functions f_accepted f_placed f_openBody f_holeCount f_nextRegion f_changed f_freeCell f_active f_calls f_taskTop f_valueTop f_releasing f_outcome f_peakUsed f_resultSize a_sigType a_params a_kept a_start a_finished a_tokOp a_tokArg a_tokType a_tokScope a_end a_holeType a_holeNest a_holeScope a_holeVars a_parent a_region a_sigRegions a_allRegions a_cellA a_cellB a_link a_live a_frameFunction a_vars a_saved a_env a_regionFirst a_tasks a_values a_used a_result g_maxFunctions g_maxTokens g_maxCells g_maxDepth g_functions g_tokens g_open g_accepted g_made g_used g_most g_last g_answer g_calls g_depth b_result b_param b_start b_finished b_tokOp b_tokArg b_tokType b_first b_second b_cellKind b_freed b_fn b_born b_actual b_value b_known R
  have R' := R
  obtain ⟨⟨nf, fl, t, tl, cl, dl, fo, ⟨hN, n1, n2, n3, n4, n5, n6, n7, n8, n9, n10, n11, n12⟩, hS, hB, hO, hA⟩, ⟨q1, q2, q3, q4, q5, q6, q7⟩, hD⟩ := R
  exact ⟨hD.2.1.symm, R'⟩
theorem i_vc_holes {k : Nat} {u : SX} {v : SY} (I : i_Rel k u v) (hk : k + 4 ≤ 2052) : wpX_holes (fun r => wpY_holes (fun r' => r' = r ∧ i_Rel (k + 4) u v) v) u := by
  refine zz_el (P := fun u v => wpX_holes (fun r => wpY_holes (fun r' => r' = r ∧ i_Rel (k + 4) u v) v) u) I ?_
  intro f_functionLimit f_tokenLimit f_cellLimit f_depthLimit f_functions f_accepted f_placed f_openBody f_holeCount f_nextRegion f_changed f_freeCell f_active f_calls f_taskTop f_valueTop f_releasing f_outcome f_peakUsed f_resultSize a_sigType a_params a_kept a_start a_finished a_tokOp a_tokArg a_tokType a_tokScope a_end a_holeType a_holeNest a_holeScope a_holeVars a_parent a_region a_sigRegions a_allRegions a_cellA a_cellB a_link a_live a_frameFunction a_vars a_saved a_env a_regionFirst a_tasks a_values a_used a_result g_maxFunctions g_maxTokens g_maxCells g_maxDepth g_functions g_tokens g_open g_accepted g_made g_used g_most g_last g_answer g_calls g_depth b_result b_param b_start b_finished b_tokOp b_tokArg b_tokType b_first b_second b_cellKind b_freed b_fn b_born b_actual b_value b_known R
  have R' := R
  obtain ⟨⟨nf, fl, t, tl, cl, dl, fo, ⟨hN, n1, n2, n3, n4, n5, n6, n7, n8, n9, n10, n11, n12⟩, hS, hB, hO, hA⟩, ⟨q1, q2, q3, q4, q5, q6, q7⟩, hD⟩ := R
  subst q1 q3 q4 q5 q6 q7
  unfold wpX_holes
  dsimp only
  rcases hO with ⟨o1, o2⟩ | ⟨f, s, m, O⟩
  · exact br_f (by rw [o1]; decide) ⟨o2.symm, R'⟩
  · have T := rr_top O hN.2.2.2.1
    have tv := rr_tv hB
    obtain ⟨h1, h2, h3, h4, h5, h6, h7, h8, h9⟩ := O
    have htl := hN.2.2.2.1
    exact uy_holes hS.1 tv (by omega) n12 h1 h2 h4 h5 T.2.2.2.2.2 T.2.2.2.2.1 ⟨h6.symm, R'⟩
theorem i_vc_want {k : Nat} {u : SX} {v : SY} (I : i_Rel k u v) (hk : k + 4 ≤ 2052) : wpX_want (fun r => wpY_want (fun r' => r' = r ∧ i_Rel (k + 4) u v) v) u := by
  refine zz_el (P := fun u v => wpX_want (fun r => wpY_want (fun r' => r' = r ∧ i_Rel (k + 4) u v) v) u) I ?_
  intro f_functionLimit f_tokenLimit f_cellLimit f_depthLimit f_functions f_accepted f_placed f_openBody f_holeCount f_nextRegion f_changed f_freeCell f_active f_calls f_taskTop f_valueTop f_releasing f_outcome f_peakUsed f_resultSize a_sigType a_params a_kept a_start a_finished a_tokOp a_tokArg a_tokType a_tokScope a_end a_holeType a_holeNest a_holeScope a_holeVars a_parent a_region a_sigRegions a_allRegions a_cellA a_cellB a_link a_live a_frameFunction a_vars a_saved a_env a_regionFirst a_tasks a_values a_used a_result g_maxFunctions g_maxTokens g_maxCells g_maxDepth g_functions g_tokens g_open g_accepted g_made g_used g_most g_last g_answer g_calls g_depth b_result b_param b_start b_finished b_tokOp b_tokArg b_tokType b_first b_second b_cellKind b_freed b_fn b_born b_actual b_value b_known R
  have R' := R
  obtain ⟨⟨nf, fl, t, tl, cl, dl, fo, ⟨hN, n1, n2, n3, n4, n5, n6, n7, n8, n9, n10, n11, n12⟩, hS, hB, hO, hA⟩, ⟨q1, q2, q3, q4, q5, q6, q7⟩, hD⟩ := R
  subst q1 q3 q4 q5 q6 q7
  rcases hO with ⟨o1, o2⟩ | ⟨f, s, m, O⟩
  · exact br_t (by rw [o1]; decide) (br_f (by rw [o1]; decide) ⟨rfl, R'⟩)
  · have T := rr_top O hN.2.2.2.1
    have tv := rr_tv hB
    have b8 := rr_h8 hB
    obtain ⟨h1, h2, h3, h4, h5, h6, h7, h8, h9⟩ := O
    have htl := hN.2.2.2.1
    have hnf := hS.1.1
    refine br_f (by rw [h2]; exact nI_pos (by omega)) (br_t (by rw [h6]; exact nI_lt (a := 0) (by omega) (by omega)) ?_)
    rw [h6, nI_pred, nI_clamp (by omega), ← h6]
    refine ⟨vp_in_nI (by omega) (by decide), ?_⟩
    exact uy_want hS.1 tv (by omega) n12 h1 h2 h4 h5 T.2.1 b8 ⟨rfl, R'⟩
theorem i_vc_varType {k : Nat} {u : SX} {v : SY} (I : i_Rel k u v) (hk : k + 4 ≤ 2052) (v1 : Int32) : wpX_varType (fun r => wpY_varType (fun r' => r' = r ∧ i_Rel (k + 4) u v) v v1) u v1 := by
  refine zz_el (P := fun u v => wpX_varType (fun r => wpY_varType (fun r' => r' = r ∧ i_Rel (k + 4) u v) v v1) u v1) I ?_
  intro f_functionLimit f_tokenLimit f_cellLimit f_depthLimit f_functions f_accepted f_placed f_openBody f_holeCount f_nextRegion f_changed f_freeCell f_active f_calls f_taskTop f_valueTop f_releasing f_outcome f_peakUsed f_resultSize a_sigType a_params a_kept a_start a_finished a_tokOp a_tokArg a_tokType a_tokScope a_end a_holeType a_holeNest a_holeScope a_holeVars a_parent a_region a_sigRegions a_allRegions a_cellA a_cellB a_link a_live a_frameFunction a_vars a_saved a_env a_regionFirst a_tasks a_values a_used a_result g_maxFunctions g_maxTokens g_maxCells g_maxDepth g_functions g_tokens g_open g_accepted g_made g_used g_most g_last g_answer g_calls g_depth b_result b_param b_start b_finished b_tokOp b_tokArg b_tokType b_first b_second b_cellKind b_freed b_fn b_born b_actual b_value b_known R
  have R' := R
  obtain ⟨⟨nf, fl, t, tl, cl, dl, fo, ⟨hN, n1, n2, n3, n4, n5, n6, n7, n8, n9, n10, n11, n12⟩, hS, hB, hO, hA⟩, ⟨q1, q2, q3, q4, q5, q6, q7⟩, hD⟩ := R
  subst q1 q3 q4 q5 q6 q7
  rcases hO with ⟨o1, o2⟩ | ⟨f, s, m, O⟩
  · exact br_t (by rw [o1]; decide) (br_f (by rw [o1]; decide) ⟨rfl, R'⟩)
  · have T := rr_top O hN.2.2.2.1
    have tv := rr_tv hB
    obtain ⟨h1, h2, h3, h4, h5, h6, h7, h8, h9⟩ := O
    have htl := hN.2.2.2.1
    have hnf := hS.1.1
    obtain ⟨w, T1⟩ := T.1
    refine ux_varType T1 h6 (by rw [h2]; exact nI_pos (by omega)) (fun x τ e lx hx => ?_) (fun h => ?_)
    · refine uy_varType hS.1 tv (by omega) n12 h1 h2 h4 h5 (fun x' τ' e' lx' hx' => ⟨?_, R'⟩) (fun h => absurd hx (h x τ lx e))
      have : x' = x := (nI_eq lx' (by omega)).mp (e'.symm.trans e)
      subst this
      exact sp_vt_u hx' hx
    · refine uy_varType hS.1 tv (by omega) n12 h1 h2 h4 h5 (fun x' τ' e' lx' hx' => ?_) (fun _ => ⟨rfl, R'⟩)
      have := sp_vt_lt hx'
      have := T1.2.2.2.2.2.1
      exact absurd hx' (h x' τ' (by omega) e')
end
section
section
variable {g_maxFunctions g_maxTokens g_maxCells g_maxDepth g_functions g_tokens g_open g_accepted g_made g_used g_most g_last g_answer g_calls g_depth : Int32} {b_result b_param b_start b_finished b_tokOp b_tokArg b_tokType b_first b_second b_cellKind b_freed b_fn b_born b_actual b_value b_known : Nat → Int32}
theorem uy_inUse4 {post : Int32 → Prop} {md : Nat} {x : Int32} (hmd : g_made = nI md) (h96 : md ≤ 9600) (K : post (nI (cn (fun e => b_cellKind e = x ∧ b_freed e = 0) md))) : ∀ n i c : Nat, i ≤ md → md < n + i → c = cn (fun e => b_cellKind e = x ∧ b_freed e = 0) i → wY_inUse_4 post x g_maxFunctions g_maxTokens g_maxCells g_maxDepth g_functions g_tokens g_open g_accepted g_made g_used g_most g_last g_answer g_calls g_depth b_result b_param b_start b_finished b_tokOp b_tokArg b_tokType b_first b_second b_cellKind b_freed b_fn b_born b_actual b_value b_known n (nI c) (nI i)
  | 0, i, c, h1, h2, _ => by omega
  | n + 1, i, c, h1, h2, h3 => by
    rcases Nat.lt_or_ge i md with z | z
    · refine br_f (by rw [hmd]; exact nI_ge z (by omega)) ⟨vp_in_nI (by omega) (by decide), ?_⟩
      rw [nI_clamp (by omega)]
      by_cases h : b_cellKind i = x
      · refine br_t h ⟨vp_in_nI (by omega) (by decide), ?_⟩
        by_cases h' : b_freed i = 0
        · refine br_t h' (nm_r (nI_1 c) (nm_r (nI_1 i) (uy_inUse4 hmd h96 K n (i + 1) (c + 1) (by omega) (by omega) ?_)))
          rw [cn_t (P := fun e => b_cellKind e = x ∧ b_freed e = 0) ⟨h, h'⟩, h3]
        · refine br_f h' (nm_r (nI_1 i) (uy_inUse4 hmd h96 K n (i + 1) c (by omega) (by omega) ?_))
          rw [cn_f (P := fun e => b_cellKind e = x ∧ b_freed e = 0) (fun q => h' q.2), h3]
      · refine br_f h (nm_r (nI_1 i) (uy_inUse4 hmd h96 K n (i + 1) c (by omega) (by omega) ?_))
        rw [cn_f (P := fun e => b_cellKind e = x ∧ b_freed e = 0) (fun q => h q.1), h3]
    · have : i = md := by omega
      subst this
      refine br_t (by rw [hmd]; exact nI_le (Nat.le_refl _) (by omega)) ?_
      rw [h3]; exact K
theorem uy_size51 {post : Int32 → Prop} {md : Nat} (hmd : g_made = nI md) (h96 : md ≤ 9600) : ∀ (l : List Nat) (n c : Nat) (y : Int32), dq_ch md b_second l y → c + l.length ≤ md → l.length < n → wY_size_76 post (nI (c + l.length)) g_maxFunctions g_maxTokens g_maxCells g_maxDepth g_functions g_tokens g_open g_accepted g_made g_used g_most g_last g_answer g_calls g_depth b_result b_param b_start b_finished b_tokOp b_tokArg b_tokType b_first b_second b_cellKind b_freed b_fn b_born b_actual b_value b_known → wY_size_51 post g_maxFunctions g_maxTokens g_maxCells g_maxDepth g_functions g_tokens g_open g_accepted g_made g_used g_most g_last g_answer g_calls g_depth b_result b_param b_start b_finished b_tokOp b_tokArg b_tokType b_first b_second b_cellKind b_freed b_fn b_born b_actual b_value b_known n (nI c) y
  | _, 0, c, y, h1, h2, h3, _ => by omega
  | [], n + 1, c, y, h1, h2, h3, K => by
    have h1' : y = -1 := h1
    subst h1'
    exact br_c (fun _ => K) (fun _ => br_t (by decide) K)
  | e :: l, n + 1, c, y, h1, h2, h3, K => by
    obtain ⟨e1, e2, e3⟩ := h1
    subst e1
    have hl : (e :: l).length = l.length + 1 := rfl
    refine br_f (by rw [hmd]; exact nI_ge (by omega) (by omega)) (br_f (nI_pos (by omega)) ⟨vp_in_nI (by omega) (by decide), ?_⟩)
    rw [nI_clamp (by omega)]
    refine nm_e (nm_r (nI_1 c) (uy_size51 hmd h96 l n (c + 1) _ e3 (by omega) (by omega) ?_))
    have : c + 1 + l.length = c + (e :: l).length := by omega
    rw [this]; exact K
theorem uy_size {post : Int32 → Prop} {acc oc pk rs : Int32} {us rr : Nat → Int32} (D : rr_dyn acc (b_result 0) oc pk rs g_made g_most g_last g_answer us rr b_first b_second b_cellKind b_freed) (K : post rs) : wpY_size post (g_maxFunctions, g_maxTokens, g_maxCells, g_maxDepth, g_functions, g_tokens, g_open, g_accepted, g_made, g_used, g_most, g_last, g_answer, g_calls, g_depth, b_result, b_param, b_start, b_finished, b_tokOp, b_tokArg, b_tokType, b_first, b_second, b_cellKind, b_freed, b_fn, b_born, b_actual, b_value, b_known) := by
  obtain ⟨-, -, md, d1, d2, -, -, d3, d4⟩ := D
  by_cases h1 : g_last = 1
  · refine br_t h1 ?_
    obtain ⟨-, hty, r0, r1, r2, r3⟩ := d4 h1
    rcases hty with h | h | h | h
    · exact br_t h (br_t h (by rw [(r0 h).1] at K; exact K))
    · refine br_f (by rw [h]; decide) (br_t h (br_f (by rw [h]; decide) (by rw [(r1 h).1] at K; exact K)))
    · obtain ⟨l, l1, l2, l3, l4, -⟩ := r2 h
      refine br_f (by rw [h]; decide) (br_f (by rw [h]; decide) ⟨l.length + 1, uy_size51 d1 d2 l (l.length + 1) 0 _ l1 (by omega) (by omega) ?_⟩)
      rw [l4] at K
      rw [Nat.zero_add]
      exact br_t h K
    · obtain ⟨l, l1, l2, l3, l4, -⟩ := r3 h
      refine br_f (by rw [h]; decide) (br_f (by rw [h]; decide) ⟨l.length + 1, uy_size51 d1 d2 l (l.length + 1) 0 _ l1 (by omega) (by omega) ?_⟩)
      rw [l4] at K
      rw [Nat.zero_add]
      refine br_f (by rw [h]; decide) ?_
      rw [vz_2]; exact K
  · refine br_f h1 ?_
    rw [d3 h1] at K; exact K
theorem uy_item90 {post : Int32 → Prop} {md : Nat} {x : Int32} {i : Nat} (hi : i < 2 ^ 30) (h96 : md ≤ 9600) : ∀ (l : List Nat) (n j : Nat) (y : Int32) (d : Nat), dq_ch md b_second l y → j ≤ i → l[i - j]? = some d → l.length < n → (∀ n', d < md → wY_item_90 post x (nI i) g_maxFunctions g_maxTokens g_maxCells g_maxDepth g_functions g_tokens g_open g_accepted g_made g_used g_most g_last g_answer g_calls g_depth b_result b_param b_start b_finished b_tokOp b_tokArg b_tokType b_first b_second b_cellKind b_freed b_fn b_born b_actual b_value b_known (n' + 1) (nI d) (nI i)) → wY_item_90 post x (nI i) g_maxFunctions g_maxTokens g_maxCells g_maxDepth g_functions g_tokens g_open g_accepted g_made g_used g_most g_last g_answer g_calls g_depth b_result b_param b_start b_finished b_tokOp b_tokArg b_tokType b_first b_second b_cellKind b_freed b_fn b_born b_actual b_value b_known n y (nI j)
  | _, 0, j, y, d, _, _, _, h, _ => by omega
  | [], n + 1, j, y, d, _, _, h, _, _ => by simp at h
  | e :: l, n + 1, j, y, d, h1, h2, h3, h4, K => by
    obtain ⟨e1, e2, e3⟩ := h1
    subst e1
    have hl : (e :: l).length = l.length + 1 := rfl
    rcases Nat.lt_or_ge j i with z | z
    · refine br_f (nI_ge z (by omega)) ⟨vp_in_nI (by omega) (by decide), ?_⟩
      rw [nI_clamp (by omega)]
      refine nm_e (nm_r (nI_1 j) (uy_item90 hi h96 l n (j + 1) _ d e3 (by omega) ?_ (by omega) K))
      obtain ⟨q, hq⟩ : ∃ q, i - j = q + 1 := ⟨i - j - 1, by omega⟩
      rw [hq] at h3
      have hq' : i - (j + 1) = q := by omega
      rw [hq']
      simpa using h3
    · have : j = i := by omega
      subst this
      rw [Nat.sub_self] at h3
      have : e = d := by simpa using h3
      subst this
      exact K n e2
end
theorem i_vc_inUse {k : Nat} {u : SX} {v : SY} (I : i_Rel k u v) (hk : k + 4 ≤ 2052) (v1 : Int32) : wpX_inUse (fun r => wpY_inUse (fun r' => r' = r ∧ i_Rel (k + 4) u v) v v1) u v1 := by
  refine zz_el (P := fun u v => wpX_inUse (fun r => wpY_inUse (fun r' => r' = r ∧ i_Rel (k + 4) u v) v v1) u v1) I ?_
  intro f_functionLimit f_tokenLimit f_cellLimit f_depthLimit f_functions f_accepted f_placed f_openBody f_holeCount f_nextRegion f_changed f_freeCell f_active f_calls f_taskTop f_valueTop f_releasing f_outcome f_peakUsed f_resultSize a_sigType a_params a_kept a_start a_finished a_tokOp a_tokArg a_tokType a_tokScope a_end a_holeType a_holeNest a_holeScope a_holeVars a_parent a_region a_sigRegions a_allRegions a_cellA a_cellB a_link a_live a_frameFunction a_vars a_saved a_env a_regionFirst a_tasks a_values a_used a_result g_maxFunctions g_maxTokens g_maxCells g_maxDepth g_functions g_tokens g_open g_accepted g_made g_used g_most g_last g_answer g_calls g_depth b_result b_param b_start b_finished b_tokOp b_tokArg b_tokType b_first b_second b_cellKind b_freed b_fn b_born b_actual b_value b_known R
  have R' := R
  obtain ⟨⟨nf, fl, t, tl, cl, dl, fo, ⟨hN, n1, n2, n3, n4, n5, n6, n7, n8, n9, n10, n11, n12⟩, hS, hB, hO, hA⟩, ⟨q1, q2, q3, q4, q5, q6, q7⟩, hD⟩ := R
  obtain ⟨-, -, md, d1, d2, d3, d4, -, -⟩ := hD
  have Y : ∀ post : Int32 → Prop, post (nI (cn (fun e => b_cellKind e = v1 ∧ b_freed e = 0) md)) → wpY_inUse post (g_maxFunctions, g_maxTokens, g_maxCells, g_maxDepth, g_functions, g_tokens, g_open, g_accepted, g_made, g_used, g_most, g_last, g_answer, g_calls, g_depth, b_result, b_param, b_start, b_finished, b_tokOp, b_tokArg, b_tokType, b_first, b_second, b_cellKind, b_freed, b_fn, b_born, b_actual, b_value, b_known) v1 := fun post K => ⟨md + 1, uy_inUse4 d1 d2 K (md + 1) 0 0 (by omega) (by omega) rfl⟩
  have Z : v1 ≠ 1 → v1 ≠ 2 → v1 ≠ 3 → cn (fun e => b_cellKind e = v1 ∧ b_freed e = 0) md = 0 := fun h1 h2 h3 => cn_zero (fun e he q => by
    rcases d3 e he with w | w | w
    · exact h1 (q.1.symm.trans w)
    · exact h2 (q.1.symm.trans w)
    · exact h3 (q.1.symm.trans w))
  by_cases h1 : v1 = 1
  · subst h1
    refine (br_f (by decide) (br_t (by decide) (⟨vp_in_nI (n := 1) (by decide) (by decide), Y _ ⟨?_, R'⟩⟩)))
    exact (d4 1 (by omega) (by omega)).symm
  by_cases h2 : v1 = 2
  · subst h2
    refine (br_f (by decide) (br_t (by decide) (⟨vp_in_nI (n := 2) (by decide) (by decide), Y _ ⟨?_, R'⟩⟩)))
    exact (d4 2 (by omega) (by omega)).symm
  by_cases h3 : v1 = 3
  · subst h3
    refine (br_f (by decide) (br_t (by decide) (⟨vp_in_nI (n := 3) (by decide) (by decide), Y _ ⟨?_, R'⟩⟩)))
    exact (d4 3 (by omega) (by omega)).symm
  have z := Z h1 h2 h3
  refine br_c (fun _ => Y _ ⟨by rw [z]; rfl, R'⟩) (fun a => br_c (fun b => ?_) (fun _ => Y _ ⟨by rw [z]; rfl, R'⟩))
  exfalso
  have e0 : ¬ v1 < 0 := fun w => a (by
    have c := Int32.lt_iff_toInt_lt.mp w
    have e0 : (0 : Int32).toInt = 0 := by decide
    have e1 : (1 : Int32).toInt = 1 := by decide
    rw [e0] at c
    exact Int32.lt_iff_toInt_lt.mpr (by rw [e1]; omega))
  obtain ⟨j, j1, j2⟩ := nI_of2 (x := v1) (M := 3) (n := 3) (by decide) e0 b
  subst j2
  rcases (by omega : j = 0 ∨ j = 1 ∨ j = 2 ∨ j = 3) with rfl | rfl | rfl | rfl
  · exact a (by decide)
  · exact h1 rfl
  · exact h2 rfl
  · exact h3 rfl
theorem i_vc_size {k : Nat} {u : SX} {v : SY} (I : i_Rel k u v) (hk : k + 4 ≤ 2052) : wpX_size (fun r => wpY_size (fun r' => r' = r ∧ i_Rel (k + 4) u v) v) u := by
  refine zz_el (P := fun u v => wpX_size (fun r => wpY_size (fun r' => r' = r ∧ i_Rel (k + 4) u v) v) u) I ?_
  intro f_functionLimit f_tokenLimit f_cellLimit f_depthLimit f_functions f_accepted f_placed f_openBody f_holeCount f_nextRegion f_changed f_freeCell f_active f_calls f_taskTop f_valueTop f_releasing f_outcome f_peakUsed f_resultSize a_sigType a_params a_kept a_start a_finished a_tokOp a_tokArg a_tokType a_tokScope a_end a_holeType a_holeNest a_holeScope a_holeVars a_parent a_region a_sigRegions a_allRegions a_cellA a_cellB a_link a_live a_frameFunction a_vars a_saved a_env a_regionFirst a_tasks a_values a_used a_result g_maxFunctions g_maxTokens g_maxCells g_maxDepth g_functions g_tokens g_open g_accepted g_made g_used g_most g_last g_answer g_calls g_depth b_result b_param b_start b_finished b_tokOp b_tokArg b_tokType b_first b_second b_cellKind b_freed b_fn b_born b_actual b_value b_known R
  have R' := R
  obtain ⟨⟨nf, fl, t, tl, cl, dl, fo, ⟨hN, n1, n2, n3, n4, n5, n6, n7, n8, n9, n10, n11, n12⟩, hS, hB, hO, hA⟩, ⟨q1, q2, q3, q4, q5, q6, q7⟩, hD⟩ := R
  unfold wpX_size
  dsimp only
  exact uy_size hD ⟨rfl, R'⟩
theorem i_vc_item {k : Nat} {u : SX} {v : SY} (I : i_Rel k u v) (hk : k + 4 ≤ 2052) (v1 : Int32) : wpX_item (fun r => wpY_item (fun r' => r' = r ∧ i_Rel (k + 4) u v) v v1) u v1 := by
  refine zz_el (P := fun u v => wpX_item (fun r => wpY_item (fun r' => r' = r ∧ i_Rel (k + 4) u v) v v1) u v1) I ?_
  intro f_functionLimit f_tokenLimit f_cellLimit f_depthLimit f_functions f_accepted f_placed f_openBody f_holeCount f_nextRegion f_changed f_freeCell f_active f_calls f_taskTop f_valueTop f_releasing f_outcome f_peakUsed f_resultSize a_sigType a_params a_kept a_start a_finished a_tokOp a_tokArg a_tokType a_tokScope a_end a_holeType a_holeNest a_holeScope a_holeVars a_parent a_region a_sigRegions a_allRegions a_cellA a_cellB a_link a_live a_frameFunction a_vars a_saved a_env a_regionFirst a_tasks a_values a_used a_result g_maxFunctions g_maxTokens g_maxCells g_maxDepth g_functions g_tokens g_open g_accepted g_made g_used g_most g_last g_answer g_calls g_depth b_result b_param b_start b_finished b_tokOp b_tokArg b_tokType b_first b_second b_cellKind b_freed b_fn b_born b_actual b_value b_known R
  have R' := R
  obtain ⟨⟨nf, fl, t, tl, cl, dl, fo, ⟨hN, n1, n2, n3, n4, n5, n6, n7, n8, n9, n10, n11, n12⟩, hS, hB, hO, hA⟩, ⟨q1, q2, q3, q4, q5, q6, q7⟩, hD⟩ := R
  refine br_c (fun h => br_t h ⟨rfl, R'⟩) (fun h => ?_)
  obtain ⟨i, i1, i2⟩ := nI_of h
  subst i2
  refine br_c (fun hlt => ?_) (fun hlt => br_f h (uy_size hD (br_f hlt ⟨rfl, R'⟩)))
  have hD' := hD
  obtain ⟨-, -, md, d1, d2, -, -, d3, d4⟩ := hD
  by_cases hl : g_last = 1
  · obtain ⟨-, hty, r0, r1, r2, r3⟩ := d4 hl
    rcases hty with w | w | w | w
    · obtain ⟨a1, a2⟩ := r0 w
      have i0 : i = 0 := by
        rw [a1] at hlt
        have := (nI_ltI (b := 1) i1 (by omega)).mp hlt
        omega
      subst i0
      refine ⟨vp_in_nI (by omega) (by decide), br_f h (uy_size hD' (br_t hlt (br_t w ⟨?_, R'⟩)))⟩
      exact a2.symm
    · obtain ⟨a1, d, a2, a3, a4, a5⟩ := r1 w
      have i0 : i < 2 := by
        rw [a1] at hlt
        exact (nI_ltI (b := 2) i1 (by omega)).mp hlt
      subst a3
      have cd : (nI d).toNatClampNeg = d := nI_clamp (by omega)
      refine ⟨vp_in_nI (by omega) (by decide), br_f h (uy_size hD' (br_t hlt (br_f (by rw [w]; decide) (br_t w ?_))))⟩
      rw [cd, nI_clamp i1]
      rcases (by omega : i = 0 ∨ i = 1) with rfl | rfl
      · exact br_t rfl ⟨vp_in_nI (by omega) (by decide), a4.symm, R'⟩
      · exact br_f (by decide) ⟨vp_in_nI (by omega) (by decide), a5.symm, R'⟩
    · obtain ⟨l, l1, l2, l3, l4, l5⟩ := r2 w
      have il : i < l.length := by
        rw [l4] at hlt
        exact (nI_ltI i1 (by omega)).mp hlt
      refine ⟨vp_in_nI (by omega) (by decide), br_f h (uy_size hD' (br_t hlt (br_f (by rw [w]; decide) (br_f (by rw [w]; decide) (br_t w ⟨l.length + 1, ?_⟩)))))⟩
      obtain ⟨d, hd⟩ : ∃ d, l[i]? = some d := ⟨l[i], List.getElem?_eq_getElem il⟩
      refine uy_item90 (i := i) (by omega) d2 l (l.length + 1) 0 _ d l1 (by omega) hd (by omega) (fun n' ld => ?_)
      refine br_t (nI_le (Nat.le_refl _) i1) (br_t w ⟨vp_in_nI (by omega) (by decide), ?_, R'⟩)
      rw [nI_clamp (by omega), nI_clamp i1]; exact (l5 i d hd).symm
    · obtain ⟨l, l1, l2, l3, l4, l5⟩ := r3 w
      have il : i < 2 * l.length := by
        rw [l4] at hlt
        exact (nI_ltI i1 (by omega)).mp hlt
      have e2 : nI i / 2 = nI (i / 2) := pk_div (d := 2) i1 (by omega) (by omega)
      have e3 : nI i - nI i / 2 * 2 = nI (i % 2) := pk_rem (d := 2) i1 (by omega) (by omega)
      refine ⟨vp_in_nI (by omega) (by decide), br_f h (uy_size hD' (br_t hlt (br_f (by rw [w]; decide) (br_f (by rw [w]; decide) (br_f (by rw [w]; decide) ⟨by decide, nm_r e2 ⟨l.length + 1, ?_⟩⟩)))))⟩
      obtain ⟨d, hd⟩ : ∃ d, l[i / 2]? = some d := ⟨l[i / 2], List.getElem?_eq_getElem (by omega)⟩
      obtain ⟨e, x1, x2, x3, x4⟩ := l5 (i / 2) d hd
      refine uy_item90 (i := i / 2) (by omega) d2 l (l.length + 1) 0 _ d l1 (by omega) hd (by omega) (fun n' ld => ?_)
      refine br_t (nI_le (Nat.le_refl _) (by omega)) (br_f (by rw [w]; decide) ⟨by decide, ?_⟩)
      have cd : (nI d).toNatClampNeg = d := nI_clamp (by omega)
      have ce : (nI e).toNatClampNeg = e := nI_clamp (by omega)
      rw [e3, cd, x2, ce, nI_clamp i1]
      rcases (by omega : i % 2 = 0 ∨ i % 2 = 1) with y | y
      · have hi2 : i = 2 * (i / 2) := by omega
        refine br_t (by rw [y]; rfl) ⟨vp_in_nI (by omega) (by decide), vp_in_nI (by omega) (by decide), ?_, R'⟩
        rw [hi2]; exact x3.symm
      · have hi2 : i = 2 * (i / 2) + 1 := by omega
        refine br_f (by rw [y]; decide) ⟨vp_in_nI (by omega) (by decide), vp_in_nI (by omega) (by decide), ?_, R'⟩
        rw [hi2]; exact x4.symm
  · rw [d3 hl] at hlt
    exact absurd hlt h
end
section
theorem i32_01 {x : Int32} : (1 ≤ x ↔ 0 < x) ∧ (x < 1 ↔ x ≤ 0) := by
  have e0 : (0 : Int32).toInt = 0 := by decide
  have e1 : (1 : Int32).toInt = 1 := by decide
  rw [Int32.le_iff_toInt_le, Int32.lt_iff_toInt_lt, Int32.lt_iff_toInt_lt, Int32.le_iff_toInt_le, e0, e1]
  omega
section
variable {nf t tl : Nat} {ob hc : Int32} {S S1 pa ke par res st fin op arg ty scp hT hN hS hV : Nat → Int32} {fo : Nat → Nat} {r p0 p1 : Int32}
theorem rr_ag_up {n : Nat} {S' op' arg' ty' : Nat → Int32} (e : ∀ g, g < 3 * nf → S1 g = S g) (h : rr_ag (nf + 1) n S1 op arg ty S' op' arg' ty') : rr_ag nf n S op arg ty S' op' arg' ty' := ⟨fun g hg => by rw [h.1 g (by omega), e g hg], h.2⟩
theorem sp_n_cg {f : Nat} (h0 : S1 (3 * f) = S (3 * f)) (h1 : S1 (3 * f + 1) = S (3 * f + 1)) : sp_n S1 f = sp_n S f := by unfold sp_n; rw [h0, h1]
theorem rr_bod_decl (h8 : nf < 8) (e : ∀ g, g < 3 * nf → S1 g = S g) (B : rr_bod nf t ob S st fin op arg ty scp fo) : rr_bod (nf + 1) t ob S1 st fin op arg ty scp fo := by
  obtain ⟨b1, b2, b3, b4⟩ := B
  refine ⟨fun q hq => ?_, b2, fun f hf => ?_, fun f h1 h2 => b4 f (by omega) h2⟩
  · obtain ⟨a1, s, a2, a3, a4⟩ := b1 q hq
    exact ⟨by omega, s, a2, a3, sp_TK_up a4 e⟩
  · rcases Nat.lt_or_ge f nf with z | z
    · rcases b3 f z with y | ⟨y, s, e', y1, y2, y3, y4, y5⟩
      · exact Or.inl y
      · exact Or.inr ⟨y, s, e', y1, y2, y3, fun S' op' arg' ty' ha => y4 S' op' arg' ty' (rr_ag_up e ha), y5⟩
    · exact Or.inl (b4 f z (by omega))
theorem rr_open_decl (e : ∀ g, g < 3 * nf → S1 g = S g) (O : rr_open nf t tl ob hc S st fin op arg ty hT hN hS hV fo) : rr_open (nf + 1) t tl ob hc S1 st fin op arg ty hT hN hS hV fo := by
  rcases O with O | ⟨f, s, m, h1, h2, h3, h4, h5, h6, h7, h8, h9⟩
  · exact Or.inl O
  · exact Or.inr ⟨f, s, m, by omega, h2, h3, h4, h5, h6, h7, h8, fun S' op' arg' ty' ha => h9 S' op' arg' ty' (rr_ag_up e ha)⟩
theorem rr_sig_decl (h8 : nf < 8) (G : rr_sig nf S pa ke par res) (tr : sp_ty r) (t0 : p0 = -1 ∨ sp_ty p0) (t1 : p1 = -1 ∨ sp_ty p1) (t2 : p0 = -1 → p1 = -1) (tm : nf = 0 → (p0 = -1 ∨ p0 = 0) ∧ (p1 = -1 ∨ p1 = 0)) {c : Nat} (hc : c = if p0 = -1 then 0 else if p1 = -1 then 1 else 2) :
    rr_sig (nf + 1) (upd (upd (upd S (3 * nf) p0) (3 * nf + 1) p1) (3 * nf + 2) r) (upd pa nf (nI c)) (upd ke nf ((kk r ||| kk p0) ||| kk p1)) (upd (upd par (2 * nf) p0) (2 * nf + 1) p1) (upd res nf r) := by
  obtain ⟨⟨g0, g1⟩, g2⟩ := G
  have s0 : upd (upd (upd S (3 * nf) p0) (3 * nf + 1) p1) (3 * nf + 2) r (3 * nf) = p0 := by rw [pk_un (by omega), pk_un (by omega), pk_us]
  have s1 : upd (upd (upd S (3 * nf) p0) (3 * nf + 1) p1) (3 * nf + 2) r (3 * nf + 1) = p1 := by rw [pk_un (by omega), pk_us]
  have s2 : upd (upd (upd S (3 * nf) p0) (3 * nf + 1) p1) (3 * nf + 2) r (3 * nf + 2) = r := pk_us
  have so : ∀ g, g < 3 * nf → upd (upd (upd S (3 * nf) p0) (3 * nf + 1) p1) (3 * nf + 2) r g = S g := fun g hg => by rw [pk_un (by omega), pk_un (by omega), pk_un (by omega)]
  refine ⟨⟨by omega, fun f hf => ?_⟩, fun f hf => ?_⟩
  · by_cases z : f = nf
    · subst z
      rw [s0, s1, s2, pk_us, pk_us, pk_un (by omega), pk_us]
      exact ⟨rfl, rfl, rfl⟩
    · rw [so _ (by omega), so _ (by omega), so _ (by omega), pk_un (by omega), pk_un (by omega), pk_un (by omega), pk_un (by omega), pk_un z]
      exact g1 f (by omega)
  · by_cases z : f = nf
    · subst z
      refine ⟨?_, ?_, ?_, fun h0 => ?_⟩
      · rw [pk_us, hc]
        unfold sp_n
        rw [s0, s1]
      · rw [s0, s1, s2, pk_us]
      · unfold sp_sf
        rw [s0, s1, s2]
        exact ⟨tr, t0, t1, t2⟩
      · have a := tm h0
        subst h0
        rw [show upd (upd (upd S (3 * 0) p0) (3 * 0 + 1) p1) (3 * 0 + 2) r 0 = p0 from s0, show upd (upd (upd S (3 * 0) p0) (3 * 0 + 1) p1) (3 * 0 + 2) r 1 = p1 from s1]
        exact a
    · obtain ⟨a1, a2, a3, a4⟩ := g2 f (by omega)
      refine ⟨?_, ?_, ?_, fun h0 => ?_⟩
      · rw [pk_un z, sp_n_cg (so _ (by omega)) (so _ (by omega))]; exact a1
      · rw [so _ (by omega), so _ (by omega), so _ (by omega), pk_un z]; exact a2
      · unfold sp_sf
        rw [so _ (by omega), so _ (by omega), so _ (by omega)]; exact a3
      · rw [so _ (by omega), so _ (by omega)]; exact a4 h0
end
section
variable {f_functionLimit f_tokenLimit f_cellLimit f_depthLimit f_functions f_accepted f_placed f_openBody f_holeCount f_nextRegion f_changed f_freeCell f_active f_calls f_taskTop f_valueTop f_releasing f_outcome f_peakUsed f_resultSize : Int32} {a_sigType a_params a_kept a_start a_finished a_tokOp a_tokArg a_tokType a_tokScope a_end a_holeType a_holeNest a_holeScope a_holeVars a_parent a_region a_sigRegions a_allRegions a_cellA a_cellB a_link a_live a_frameFunction a_vars a_saved a_env a_regionFirst a_tasks a_values a_used a_result : Nat → Int32}
theorem ux_kinds {post : Int32 → Prop} {τ : Int32} (K : post (kk τ)) : wpX_kindsOf post (f_functionLimit, f_tokenLimit, f_cellLimit, f_depthLimit, f_functions, f_accepted, f_placed, f_openBody, f_holeCount, f_nextRegion, f_changed, f_freeCell, f_active, f_calls, f_taskTop, f_valueTop, f_releasing, f_outcome, f_peakUsed, f_resultSize, a_sigType, a_params, a_kept, a_start, a_finished, a_tokOp, a_tokArg, a_tokType, a_tokScope, a_end, a_holeType, a_holeNest, a_holeScope, a_holeVars, a_parent, a_region, a_sigRegions, a_allRegions, a_cellA, a_cellB, a_link, a_live, a_frameFunction, a_vars, a_saved, a_env, a_regionFirst, a_tasks, a_values, a_used, a_result) τ := by
  unfold kk at K
  refine br_c (fun z => ?_) (fun z => br_c (fun y => ?_) (fun y => br_c (fun x => ?_) (fun x => ?_)))
  · rw [if_pos z] at K; exact K
  · rw [if_neg z, if_pos y] at K; exact K
  · rw [if_neg z, if_neg y, if_pos x] at K; exact K
  · rw [if_neg z, if_neg y, if_neg x] at K; exact K
theorem ux_decl152 {post : Int32 → SX → Prop} {nf c : Nat} {x1 x2 x3 : Int32} (h : nf < 8) (k : post (nI nf) (f_functionLimit, f_tokenLimit, f_cellLimit, f_depthLimit, nI (nf + 1), f_accepted, f_placed, f_openBody, f_holeCount, f_nextRegion, f_changed, f_freeCell, f_active, f_calls, f_taskTop, f_valueTop, f_releasing, f_outcome, f_peakUsed, f_resultSize, a_sigType, upd a_params nf (nI c), upd a_kept nf ((kk x1 ||| kk x2) ||| kk x3), a_start, a_finished, a_tokOp, a_tokArg, a_tokType, a_tokScope, a_end, a_holeType, a_holeNest, a_holeScope, a_holeVars, a_parent, a_region, a_sigRegions, a_allRegions, a_cellA, a_cellB, a_link, a_live, a_frameFunction, a_vars, a_saved, a_env, a_regionFirst, a_tasks, a_values, a_used, a_result)) : wX_declare_152 post x1 x2 x3 (nI nf) (nI c) (nI nf) f_functionLimit f_tokenLimit f_cellLimit f_depthLimit (nI nf) f_accepted f_placed f_openBody f_holeCount f_nextRegion f_changed f_freeCell f_active f_calls f_taskTop f_valueTop f_releasing f_outcome f_peakUsed f_resultSize a_sigType a_params a_kept a_start a_finished a_tokOp a_tokArg a_tokType a_tokScope a_end a_holeType a_holeNest a_holeScope a_holeVars a_parent a_region a_sigRegions a_allRegions a_cellA a_cellB a_link a_live a_frameFunction a_vars a_saved a_env a_regionFirst a_tasks a_values a_used a_result := by
  have hin : vp_in (nI nf) 8 := vp_in_nI h (by decide)
  have cn : (nI nf).toNatClampNeg = nf := nI_clamp (by omega)
  refine ⟨hin, nm_e ?_⟩
  rw [cn]
  refine ux_kinds (ux_kinds (ux_kinds ⟨hin, nm_e (nm_r (nI_1 nf) k)⟩))
theorem ux_decl87 {post : Int32 → SX → Prop} {nf c : Nat} {x1 x2 x3 : Int32} (h : nf < 8) (hc : c = if x2 = -1 then 0 else if x3 = -1 then 1 else 2)
    (k : post (nI nf) (f_functionLimit, f_tokenLimit, f_cellLimit, f_depthLimit, nI (nf + 1), f_accepted, f_placed, f_openBody, f_holeCount, f_nextRegion, f_changed, f_freeCell, f_active, f_calls, f_taskTop, f_valueTop, f_releasing, f_outcome, f_peakUsed, f_resultSize, upd (upd (upd a_sigType (3 * nf) x2) (3 * nf + 1) x3) (3 * nf + 2) x1, upd a_params nf (nI c), upd a_kept nf ((kk x1 ||| kk x2) ||| kk x3), a_start, a_finished, a_tokOp, a_tokArg, a_tokType, a_tokScope, a_end, a_holeType, a_holeNest, a_holeScope, a_holeVars, a_parent, a_region, a_sigRegions, a_allRegions, a_cellA, a_cellB, a_link, a_live, a_frameFunction, a_vars, a_saved, a_env, a_regionFirst, a_tasks, a_values, a_used, a_result)) : wX_declare_87 post x1 x2 x3 f_functionLimit f_tokenLimit f_cellLimit f_depthLimit (nI nf) f_accepted f_placed f_openBody f_holeCount f_nextRegion f_changed f_freeCell f_active f_calls f_taskTop f_valueTop f_releasing f_outcome f_peakUsed f_resultSize a_sigType a_params a_kept a_start a_finished a_tokOp a_tokArg a_tokType a_tokScope a_end a_holeType a_holeNest a_holeScope a_holeVars a_parent a_region a_sigRegions a_allRegions a_cellA a_cellB a_link a_live a_frameFunction a_vars a_saved a_env a_regionFirst a_tasks a_values a_used a_result := by
  have e0 : (3 : Int32) * nI nf = nI (3 * nf) := pk_mul 3 nf
  have e1 : nI (3 * nf) + 1 = nI (3 * nf + 1) := nI_1 _
  have e2 : nI (3 * nf) + 2 = nI (3 * nf + 2) := nI_add _ 2
  unfold wX_declare_87
  rw [e0, e1, e2, nI_clamp (by omega), nI_clamp (by omega), nI_clamp (by omega)]
  refine ⟨vp_in_nI (by omega) (by decide), nm_e ⟨vp_in_nI (by omega) (by decide), nm_e ⟨vp_in_nI (by omega) (by decide), nm_e ?_⟩⟩⟩
  refine br_c (fun z => ?_) (fun z => br_c (fun y => ?_) (fun y => ?_))
  · rw [if_pos z] at hc
    subst hc
    exact ux_decl152 h k
  · rw [if_neg z, if_pos y] at hc
    subst hc
    exact ux_decl152 h k
  · rw [if_neg z, if_neg y] at hc
    subst hc
    exact ux_decl152 h k
end
theorem i_vc_declare {k : Nat} {u : SX} {v : SY} (I : i_Rel k u v) (hk : k + 4 ≤ 2052) (v1 : Int32) (v2 : Int32) (v3 : Int32) : wpX_declare (fun r u' => wpY_declare (fun r' v' => r' = r ∧ i_Rel (k + 4) u' v') v v1 v2 v3) u v1 v2 v3 := by
  refine zz_el (P := fun u v => wpX_declare (fun r u' => wpY_declare (fun r' v' => r' = r ∧ i_Rel (k + 4) u' v') v v1 v2 v3) u v1 v2 v3) I ?_
  intro f_functionLimit f_tokenLimit f_cellLimit f_depthLimit f_functions f_accepted f_placed f_openBody f_holeCount f_nextRegion f_changed f_freeCell f_active f_calls f_taskTop f_valueTop f_releasing f_outcome f_peakUsed f_resultSize a_sigType a_params a_kept a_start a_finished a_tokOp a_tokArg a_tokType a_tokScope a_end a_holeType a_holeNest a_holeScope a_holeVars a_parent a_region a_sigRegions a_allRegions a_cellA a_cellB a_link a_live a_frameFunction a_vars a_saved a_env a_regionFirst a_tasks a_values a_used a_result g_maxFunctions g_maxTokens g_maxCells g_maxDepth g_functions g_tokens g_open g_accepted g_made g_used g_most g_last g_answer g_calls g_depth b_result b_param b_start b_finished b_tokOp b_tokArg b_tokType b_first b_second b_cellKind b_freed b_fn b_born b_actual b_value b_known R
  have R' := R
  obtain ⟨⟨nf, fl, t, tl, cl, dl, fo, ⟨hN, n1, n2, n3, n4, n5, n6, n7, n8, n9, n10, n11, n12⟩, hS, hB, hO, hA⟩, ⟨q1, q2, q3, q4, q5, q6, q7⟩, hD⟩ := R
  subst q1 q2 q3 q4 q5 q6 q7
  refine br_c (fun a => ?_) (fun a => br_f a ⟨rfl, R'⟩)
  refine br_c (fun c1 => br_t a (br_t c1 ⟨rfl, R'⟩)) (fun c1 => ?_)
  refine br_c (fun c2 => br_t a (br_f c1 (br_t c2 ⟨rfl, R'⟩))) (fun c2 => ?_)
  refine br_c (fun c3 => br_t a (br_f c1 (br_f c2 (br_t c3 ⟨rfl, R'⟩)))) (fun c3 => ?_)
  refine br_c (fun c4 => br_t a (br_f c1 (br_f c2 (br_f c3 (br_t c4 ⟨rfl, R'⟩))))) (fun c4 => ?_)
  refine br_c (fun c5 => br_t a (br_f c1 (br_f c2 (br_f c3 (br_f c4 (br_t c5 ⟨rfl, R'⟩)))))) (fun c5 => ?_)
  refine br_c (fun c6' => ?_) (fun c6' => br_t a (br_f c1 (br_f c2 (br_f c3 (br_f c4 (br_f c5 (br_t (Int32.not_le.mp c6') ⟨rfl, R'⟩)))))))
  have c6 : ¬ 3 < v3 := Int32.not_lt.mpr c6'
  -- both sides behind the argument checks
  have tail : (v2 = -1 → v3 = -1) → wX_declare_55 (fun r u' => wY_declare_52 (fun r' v' => r' = r ∧ i_Rel (k + 4) u' v') v1 v2 v3 g_maxFunctions g_maxTokens g_maxCells g_maxDepth g_functions g_tokens f_openBody f_accepted g_made g_used g_most g_last g_answer g_calls g_depth b_result b_param a_start a_finished a_tokOp a_tokArg a_tokType b_first b_second b_cellKind b_freed b_fn b_born b_actual b_value b_known) v1 v2 v3 f_functionLimit f_tokenLimit f_cellLimit f_depthLimit f_functions f_accepted f_placed f_openBody f_holeCount f_nextRegion f_changed f_freeCell f_active f_calls f_taskTop f_valueTop f_releasing f_outcome f_peakUsed f_resultSize a_sigType a_params a_kept a_start a_finished a_tokOp a_tokArg a_tokType a_tokScope a_end a_holeType a_holeNest a_holeScope a_holeVars a_parent a_region a_sigRegions a_allRegions a_cellA a_cellB a_link a_live a_frameFunction a_vars a_saved a_env a_regionFirst a_tasks a_values a_used a_result := by
    intro hpp
    subst n1 n2 n9 n10
    have hfl := hN.1
    have hfl2 := hN.2.1
    have hle := hN.2.2.2.2.2.2.2.2.1
    rcases Nat.lt_or_ge nf fl with z | z
    · refine br_t (nI_lt z (by omega)) ?_
      have ne : ¬ nI nf = nI fl := fun q => by have := (nI_eq (by omega) (by omega)).mp q; omega
      have tt : ∀ x : Int32, ¬ x < -1 → ¬ 3 < x → (x = -1 ∨ sp_ty x) := fun x h1 h2 => by
        by_cases y : x < 0
        · refine Or.inl ?_
          have e0 : (0 : Int32).toInt = 0 := by decide
          have e1 : (-1 : Int32).toInt = -1 := by decide
          rw [Int32.lt_iff_toInt_lt, e1] at h1
          rw [Int32.lt_iff_toInt_lt, e0] at y
          apply Int32.toInt_inj.mp
          rw [e1]; omega
        · exact Or.inr (ty_iff.mpr ⟨y, h2⟩)
      have fin : ((nf = 0 → (v2 = -1 ∨ v2 = 0) ∧ (v3 = -1 ∨ v3 = 0))) → wX_declare_87 (fun r u' => wY_declare_86 (fun r' v' => r' = r ∧ i_Rel (k + 4) u' v') v1 v2 v3 (nI fl) g_maxTokens g_maxCells g_maxDepth (nI nf) g_tokens f_openBody f_accepted g_made g_used g_most g_last g_answer g_calls g_depth b_result b_param a_start a_finished a_tokOp a_tokArg a_tokType b_first b_second b_cellKind b_freed b_fn b_born b_actual b_value b_known) v1 v2 v3 (nI fl) f_tokenLimit f_cellLimit f_depthLimit (nI nf) f_accepted f_placed f_openBody f_holeCount f_nextRegion f_changed f_freeCell f_active f_calls f_taskTop f_valueTop f_releasing f_outcome f_peakUsed f_resultSize a_sigType a_params a_kept a_start a_finished a_tokOp a_tokArg a_tokType a_tokScope a_end a_holeType a_holeNest a_holeScope a_holeVars a_parent a_region a_sigRegions a_allRegions a_cellA a_cellB a_link a_live a_frameFunction a_vars a_saved a_env a_regionFirst a_tasks a_values a_used a_result := by
        intro hm
        refine ux_decl87 (by omega) rfl ?_
        have e0 : (2 : Int32) * nI nf = nI (2 * nf) := pk_mul 2 nf
        have e1 : nI (2 * nf) + 1 = nI (2 * nf + 1) := nI_1 _
        show wY_declare_86 _ v1 v2 v3 (nI fl) g_maxTokens g_maxCells g_maxDepth (nI nf) g_tokens f_openBody f_accepted g_made g_used g_most g_last g_answer g_calls g_depth b_result b_param a_start a_finished a_tokOp a_tokArg a_tokType b_first b_second b_cellKind b_freed b_fn b_born b_actual b_value b_known
        unfold wY_declare_86
        rw [e0, e1, nI_clamp (by omega), nI_clamp (by omega), nI_clamp (by omega)]
        refine ⟨vp_in_nI (by omega) (by decide), nm_e ⟨vp_in_nI (by omega) (by decide), nm_e ⟨vp_in_nI (by omega) (by decide), nm_e (nm_r (nI_1 nf) ⟨nI_pred nf, ?_⟩)⟩⟩⟩
        have so : ∀ g, g < 3 * nf → upd (upd (upd a_sigType (3 * nf) v2) (3 * nf + 1) v3) (3 * nf + 2) v1 g = a_sigType g := fun g hg => by rw [pk_un (by omega), pk_un (by omega), pk_un (by omega)]
        refine ⟨⟨nf + 1, fl, t, tl, cl, dl, fo, ⟨?_, rfl, rfl, n3, n4, n5, n6, n7, n8, rfl, rfl, n11, n12⟩, rr_sig_decl (by omega) hS (ty_iff.mpr ⟨c1, c2⟩) (tt v2 c3 c4) (tt v3 c5 c6) hpp hm rfl, rr_bod_decl (by omega) so hB, rr_open_decl so hO, fun h => ?_⟩, ⟨rfl, rfl, rfl, rfl, rfl, rfl, rfl⟩, ?_⟩
        · obtain ⟨x1, x2, x3, x4, x5, x6, x7, x8, x9, x10, x11⟩ := hN
          exact ⟨x1, x2, x3, x4, x5, x6, x7, x8, by omega, x10, x11⟩
        · rw [a] at h; exact absurd h (by decide)
        · obtain ⟨d1, d2, md, d3, d4, d5, d6, d7, d8⟩ := hD
          refine ⟨d1, d2, md, d3, d4, d5, d6, d7, fun hl => ?_⟩
          have := (d8 hl).1
          rw [a] at this; exact absurd this (by decide)
      by_cases y : nf = 0
      · subst y
        refine br_t rfl (br_c (fun w => br_f ne (br_t rfl (br_t (i32_01.1.mpr w) ⟨rfl, R'⟩))) (fun w => br_c (fun x => ?_) (fun x => br_f ne (br_t rfl (br_f (fun q => w (i32_01.1.mp q)) (br_f (fun q => x (i32_01.2.mp q)) ⟨rfl, R'⟩))))))
        have key := fin (fun _ => ⟨?_, ?_⟩)
        · have K2 := fun (P : Prop) (h : P) => h
          refine Eq.mp ?_ key
          congr 1
          funext r u'
          refine propext ⟨fun h => br_f ne (br_t rfl (br_f (fun q => w (i32_01.1.mp q)) (br_t (i32_01.2.mpr x) h))), fun h => ?_⟩
          exact ((((h.2 ne).1 rfl).2 (fun q => w (i32_01.1.mp q))).1 (i32_01.2.mpr x))
        · rcases tt v2 c3 c4 with q | q
          · exact Or.inl q
          · refine Or.inr ?_
            rcases q with q | q | q | q
            · exact q
            all_goals exact absurd (by rw [q]; decide) w
        · rcases tt v3 c5 c6 with q | q
          · exact Or.inl q
          · refine Or.inr ?_
            rcases q with q | q | q | q
            · exact q
            all_goals exact absurd x (by rw [q]; decide)
      · have n0 : ¬ nI nf = 0 := nI_ne0 (by omega) (by omega)
        refine br_f n0 ?_
        have key := fin (fun q => absurd q y)
        refine Eq.mp ?_ key
        congr 1
        funext r u'
        exact propext ⟨fun h => br_f ne (br_f n0 h), fun h => (h.2 ne).2 n0⟩
    · have e : nf = fl := by omega
      subst e
      exact br_f (nI_nlt z (by omega)) (br_t rfl ⟨rfl, R'⟩)
  refine br_c (fun c7 => br_c (fun c8 => ?_) (fun c8 => br_t a (br_f c1 (br_f c2 (br_f c3 (br_f c4 (br_f c5 (br_f c6 (br_t c7 (br_f c8 ⟨rfl, R'⟩)))))))))) (fun c7 => ?_)
  · refine Eq.mp ?_ (tail (fun _ => c8))
    congr 1
    funext r u'
    exact propext ⟨fun h => br_t a (br_f c1 (br_f c2 (br_f c3 (br_f c4 (br_f c5 (br_f c6 (br_t c7 (br_t c8 h)))))))), fun h => ((((((((h.1 a).2 c1).2 c2).2 c3).2 c4).2 c5).2 c6).1 c7).1 c8⟩
  · refine Eq.mp ?_ (tail (fun q => absurd q c7))
    congr 1
    funext r u'
    exact propext ⟨fun h => br_t a (br_f c1 (br_f c2 (br_f c3 (br_f c4 (br_f c5 (br_f c6 (br_f c7 h))))))), fun h => ((((((((h.1 a).2 c1).2 c2).2 c3).2 c4).2 c5).2 c6).2 c7)⟩
end
section
section
variable {f_functionLimit f_tokenLimit f_cellLimit f_depthLimit f_functions f_accepted f_placed f_openBody f_holeCount f_nextRegion f_changed f_freeCell f_active f_calls f_taskTop f_valueTop f_releasing f_outcome f_peakUsed f_resultSize : Int32} {a_sigType a_params a_kept a_start a_finished a_tokOp a_tokArg a_tokType a_tokScope a_end a_holeType a_holeNest a_holeScope a_holeVars a_parent a_region a_sigRegions a_allRegions a_cellA a_cellB a_link a_live a_frameFunction a_vars a_saved a_env a_regionFirst a_tasks a_values a_used a_result : Nat → Int32}
theorem ux_begin74 {post : Int32 → SX → Prop} {f : Nat} (hf : f < 8) (hp : a_params f = nI (sp_n a_sigType f)) (hsf : sp_sf a_sigType f)
    (k : ∀ w, w < 4 ^ sp_n a_sigType f → (∀ v, v < sp_n a_sigType f → nI (w / 4 ^ v % 4) = a_sigType (3 * f + v)) → post 0 (f_functionLimit, f_tokenLimit, f_cellLimit, f_depthLimit, f_functions, f_accepted, f_placed, f_openBody, nI 1, f_nextRegion, f_changed, f_freeCell, f_active, f_calls, f_taskTop, f_valueTop, f_releasing, f_outcome, f_peakUsed, f_resultSize, a_sigType, a_params, a_kept, a_start, a_finished, a_tokOp, a_tokArg, a_tokType, a_tokScope, a_end, upd a_holeType 0 (a_sigType (3 * f + 2)), upd a_holeNest 0 1, upd a_holeScope 0 (nI (sp_n a_sigType f)), upd a_holeVars 0 (nI w), a_parent, a_region, a_sigRegions, a_allRegions, a_cellA, a_cellB, a_link, a_live, a_frameFunction, a_vars, a_saved, a_env, a_regionFirst, a_tasks, a_values, a_used, a_result)) :
    ∀ n j w : Nat, j ≤ sp_n a_sigType f → sp_n a_sigType f < n + j → w < 4 ^ j → (∀ v, v < j → nI (w / 4 ^ v % 4) = a_sigType (3 * f + v)) → wX_begin_74 post (nI f) f_functionLimit f_tokenLimit f_cellLimit f_depthLimit f_functions f_accepted f_placed f_openBody f_holeCount f_nextRegion f_changed f_freeCell f_active f_calls f_taskTop f_valueTop f_releasing f_outcome f_peakUsed f_resultSize a_sigType a_params a_kept a_start a_finished a_tokOp a_tokArg a_tokType a_tokScope a_end a_holeType a_holeNest a_holeScope a_holeVars a_parent a_region a_sigRegions a_allRegions a_cellA a_cellB a_link a_live a_frameFunction a_vars a_saved a_env a_regionFirst a_tasks a_values a_used a_result n (nI w) (nI j)
  | 0, j, w, h1, h2, _, _ => by omega
  | n + 1, j, w, h1, h2, h3, h4 => by
    have hle := sp_n_le a_sigType f
    have cf : (nI f).toNatClampNeg = f := nI_clamp (by omega)
    have hin : vp_in (nI f) 8 := vp_in_nI hf (by decide)
    refine ⟨hin, ?_⟩
    rw [cf, hp]
    rcases Nat.lt_or_ge j (sp_n a_sigType f) with z | z
    · have ek : (3 : Int32) * nI f + nI j = nI (3 * f + j) := by
        show nI 3 * nI f + nI j = _
        rw [pk_mul, nI_add]
      obtain ⟨α, a1, a2⟩ := ty_nat (sf_ty hsf z)
      refine br_f (nI_ge z (by omega)) ?_
      rw [ek]
      refine ⟨vp_in_nI (by omega) (by decide), nm_r (e' := nI (w + α * 4 ^ j)) ?_ (nm_r (nI_1 j) ?_)⟩
      · rw [nI_clamp (by omega), a2]; exact vz_or h3 (by omega) a1
      · refine ux_begin74 hf hp hsf k n (j + 1) (w + α * 4 ^ j) (by omega) (by omega) (vz_lt h3 a1) (fun v hv => ?_)
        rcases Nat.lt_or_ge v j with y | y
        · rw [vz_lo y]; exact h4 v y
        · have : v = j := by omega
          subst this
          rw [vz_hi h3 a1, a2]
    · have : j = sp_n a_sigType f := by omega
      subst this
      have ek : (3 : Int32) * nI f + 2 = nI (3 * f + 2) := by
        show nI 3 * nI f + nI 2 = _
        rw [pk_mul, nI_add]
      refine br_t (nI_le (Nat.le_refl _) (by omega)) ?_
      rw [ek]
      refine ⟨vp_in_nI (by omega) (by decide), hin, ?_⟩
      rw [nI_clamp (by omega)]
      exact ux_pushHole (m := 0) (by omega) (k w h3 h4)
end
theorem i_vc_begin {k : Nat} {u : SX} {v : SY} (I : i_Rel k u v) (hk : k + 4 ≤ 2052) (v1 : Int32) : wpX_begin (fun r u' => wpY_begin (fun r' v' => r' = r ∧ i_Rel (k + 4) u' v') v v1) u v1 := by
  refine zz_el (P := fun u v => wpX_begin (fun r u' => wpY_begin (fun r' v' => r' = r ∧ i_Rel (k + 4) u' v') v v1) u v1) I ?_
  intro f_functionLimit f_tokenLimit f_cellLimit f_depthLimit f_functions f_accepted f_placed f_openBody f_holeCount f_nextRegion f_changed f_freeCell f_active f_calls f_taskTop f_valueTop f_releasing f_outcome f_peakUsed f_resultSize a_sigType a_params a_kept a_start a_finished a_tokOp a_tokArg a_tokType a_tokScope a_end a_holeType a_holeNest a_holeScope a_holeVars a_parent a_region a_sigRegions a_allRegions a_cellA a_cellB a_link a_live a_frameFunction a_vars a_saved a_env a_regionFirst a_tasks a_values a_used a_result g_maxFunctions g_maxTokens g_maxCells g_maxDepth g_functions g_tokens g_open g_accepted g_made g_used g_most g_last g_answer g_calls g_depth b_result b_param b_start b_finished b_tokOp b_tokArg b_tokType b_first b_second b_cellKind b_freed b_fn b_born b_actual b_value b_known R
  have R' := R
  obtain ⟨⟨nf, fl, t, tl, cl, dl, fo, ⟨hN, n1, n2, n3, n4, n5, n6, n7, n8, n9, n10, n11, n12⟩, hS, hB, hO, hA⟩, ⟨q1, q2, q3, q4, q5, q6, q7⟩, hD⟩ := R
  subst q1 q2 q3 q4 q5 q6 q7
  refine br_c (fun a => ?_) (fun a => br_f a ⟨rfl, R'⟩)
  refine br_c (fun b => ?_) (fun b => br_t a (br_f b ⟨rfl, R'⟩))
  refine br_c (fun c => br_t a (br_t b (br_t c ⟨rfl, R'⟩))) (fun c => ?_)
  obtain ⟨f, f1, f2⟩ := nI_of c
  subst f2
  have hnf := hS.1.1
  subst n9 n10
  rcases Nat.lt_or_ge f nf with z | z
  case inr => exact br_t (nI_le z f1) (br_t a (br_t b (br_f c (br_t (nI_le z f1) ⟨rfl, R'⟩))))
  have nz : ¬ nI nf ≤ nI f := nI_ge z (by omega)
  have hin : vp_in (nI f) 8 := vp_in_nI (by omega) (by decide)
  have cf : (nI f).toNatClampNeg = f := nI_clamp f1
  refine br_f nz ⟨hin, ?_⟩
  rw [cf]
  rcases hB.2.2.1 f z with h0 | ⟨h1, -⟩
  case inr =>
    have n0 : ¬ a_finished f = 0 := by rw [h1]; decide
    refine br_f n0 (br_t a (br_t b (br_f c (br_f nz ⟨hin, ?_⟩))))
    rw [cf]; exact br_f n0 ⟨rfl, R'⟩
  refine br_t h0 ?_
  have htl := hN.2.2.2.1
  have htt := hN.2.2.2.2.2.2.2.2.2.1
  subst n3 n4 n11 n12
  rcases Nat.lt_or_ge t tl with y | y
  case inr =>
    have e : t = tl := by omega
    subst e
    refine br_f (nI_nlt (Nat.le_refl _) (by omega)) (br_t a (br_t b (br_f c (br_f nz ⟨hin, ?_⟩))))
    rw [cf]
    exact br_t h0 (br_t rfl ⟨rfl, R'⟩)
  have hob : f_openBody = -1 ∧ f_holeCount = 0 := by
    rcases hO with O | ⟨f', s, m, O⟩
    · exact O
    · rw [O.2.1] at b
      have := O.1
      exact absurd b (nI_pos (by omega))
  obtain ⟨g1, g2, g3, g4⟩ := hS.2 f z
  refine br_t (nI_lt y (by omega)) ⟨hin, nm_e ⟨sp_n a_sigType f + 1, ?_⟩⟩
  refine ux_begin74 (by omega) g1 g3 (fun w w1 w2 => ?_) (sp_n a_sigType f + 1) 0 0 (by omega) (by omega) (by simp) (fun v hv => by omega)
  refine br_t a (br_t b (br_f c (br_f nz ⟨hin, ?_⟩)))
  rw [cf]
  refine br_t h0 (br_f (fun q => by have := (nI_eq (by omega) (by omega)).mp q; omega) ⟨hin, nm_e ⟨rfl, ?_⟩⟩)
  have nof : ∀ q, q < t → fo q ≠ f := fun q hq e => by
    rcases hB.2.1 q hq with h | h
    · rw [e, h0] at h; exact absurd h (by decide)
    · rw [hob.1] at h
      exact absurd h.symm (nI_nm1 (by have := (hB.1 q hq).1; omega))
  refine ⟨⟨nf, fl, t, tl, cl, dl, fo, ⟨hN, n1, n2, rfl, rfl, n5, n6, n7, n8, rfl, rfl, rfl, rfl⟩, hS, ⟨fun q hq => ?_, fun q hq => ?_, fun g hg => ?_, hB.2.2.2⟩, Or.inr ⟨f, t, 0, z, rfl, h0, pk_us, Nat.le_refl _, rfl, by omega, fun q h1 h2 => by omega, fun S' op' arg' ty' ha => ⟨fun j h1 h2 => by omega, by omega, fun h hh => ?_⟩⟩, fun h => ?_⟩, ⟨rfl, rfl, rfl, rfl, rfl, rfl, rfl⟩, hD⟩
  · rw [pk_un (nof q hq)]
    exact hB.1 q hq
  · rcases hB.2.1 q hq with h | h
    · exact Or.inl h
    · rw [hob.1] at h
      exact absurd h.symm (nI_nm1 (by have := (hB.1 q hq).1; omega))
  · rcases hB.2.2.1 g hg with h | ⟨h, s, e, x1, x2, x3, x4, x5⟩
    · exact Or.inl h
    · have ne : g ≠ f := fun q => by rw [q, h0] at h; exact absurd h (by decide)
      refine Or.inr ⟨h, s, e, by rw [pk_un ne]; exact x1, x2, x3, x4, fun q hq => ?_⟩
      exact x5 q hq
  · have : h = 0 := by omega
    subst this
    rw [pk_us, pk_us, pk_us, pk_us]
    have es : ∀ g, g < 3 * nf → S' g = a_sigType g := ha.1
    have en : sp_n S' f = sp_n a_sigType f := sp_n_cg (es _ (by omega)) (es _ (by omega))
    have hle := sp_n_le a_sigType f
    refine ⟨by have := g3.1; exact this, sp_n a_sigType f, w, rfl, by omega, w1, rfl, Or.inl ⟨rfl, rfl, (es _ (by omega)).symm, rfl, en.symm, fun v hv => ?_⟩⟩
    rw [es _ (by omega)]; exact w2 v hv
  · rw [a] at h; exact absurd h (by decide)
theorem i_vc_drop {k : Nat} {u : SX} {v : SY} (I : i_Rel k u v) (hk : k + 4 ≤ 2052) : wpX_drop (fun r u' => wpY_drop (fun r' v' => r' = r ∧ i_Rel (k + 4) u' v') v) u := by
  refine zz_el (P := fun u v => wpX_drop (fun r u' => wpY_drop (fun r' v' => r' = r ∧ i_Rel (k + 4) u' v') v) u) I ?_
  intro f_functionLimit f_tokenLimit f_cellLimit f_depthLimit f_functions f_accepted f_placed f_openBody f_holeCount f_nextRegion f_changed f_freeCell f_active f_calls f_taskTop f_valueTop f_releasing f_outcome f_peakUsed f_resultSize a_sigType a_params a_kept a_start a_finished a_tokOp a_tokArg a_tokType a_tokScope a_end a_holeType a_holeNest a_holeScope a_holeVars a_parent a_region a_sigRegions a_allRegions a_cellA a_cellB a_link a_live a_frameFunction a_vars a_saved a_env a_regionFirst a_tasks a_values a_used a_result g_maxFunctions g_maxTokens g_maxCells g_maxDepth g_functions g_tokens g_open g_accepted g_made g_used g_most g_last g_answer g_calls g_depth b_result b_param b_start b_finished b_tokOp b_tokArg b_tokType b_first b_second b_cellKind b_freed b_fn b_born b_actual b_value b_known R
  have R' := R
  obtain ⟨⟨nf, fl, t, tl, cl, dl, fo, ⟨hN, n1, n2, n3, n4, n5, n6, n7, n8, n9, n10, n11, n12⟩, hS, hB, hO, hA⟩, ⟨q1, q2, q3, q4, q5, q6, q7⟩, hD⟩ := R
  subst q1 q2 q3 q4 q5 q6 q7
  rcases hO with ⟨o1, o2⟩ | ⟨f, s, m, h1, h2, h3, h4, h5, h6, h7, h8, h9⟩
  · have n0 : ¬ (0 : Int32) ≤ f_openBody := by rw [o1]; decide
    exact br_f n0 (br_f n0 ⟨rfl, R'⟩)
  have hnf := hS.1.1
  subst h2
  have hin : vp_in (nI f) 8 := vp_in_nI (by omega) (by decide)
  have cf : (nI f).toNatClampNeg = f := nI_clamp (by omega)
  have p0 : (0 : Int32) ≤ nI f := nI_pos' (by omega)
  refine br_t p0 ⟨hin, ?_⟩
  rw [cf, h4]
  refine nm_e (br_t p0 ⟨hin, ?_⟩)
  rw [cf, h4]
  refine nm_e ⟨rfl, ?_⟩
  have nof : ∀ q, q < s → fo q ≠ f := fun q hq e => by
    obtain ⟨-, s', x1, x2, -⟩ := hB.1 q (by omega)
    rw [e, h4] at x1
    have htl := hN.2.2.2.1
    have htt := hN.2.2.2.2.2.2.2.2.2.1
    have := (nI_eq (by omega) (by omega)).mp x1
    omega
  refine ⟨⟨nf, fl, s, tl, cl, dl, fo, ⟨?_, n1, n2, n3, n4, n5, n6, n7, n8, n9, n10, rfl, rfl⟩, hS, ⟨fun q hq => hB.1 q (by omega), fun q hq => ?_, fun g hg => ?_, hB.2.2.2⟩, Or.inl ⟨rfl, rfl⟩, fun h => ?_⟩, ⟨rfl, rfl, rfl, rfl, rfl, rfl, rfl⟩, hD⟩
  · obtain ⟨x1, x2, x3, x4, x5, x6, x7, x8, x9, x10, x11⟩ := hN
    exact ⟨x1, x2, x3, x4, x5, x6, x7, x8, x9, by omega, x11⟩
  · rcases hB.2.1 q (by omega) with h | h
    · exact Or.inl h
    · exfalso
      have := (nI_eq (by omega) (by have := (hB.1 q (by omega)).1; omega)).mp h
      exact nof q hq this.symm
  · rcases hB.2.2.1 g hg with h | ⟨h, s', e, x1, x2, x3, x4, x5⟩
    · exact Or.inl h
    · refine Or.inr ⟨h, s', e, x1, x2, ?_, x4, fun q hq => x5 q (by omega)⟩
      rcases Nat.lt_or_ge s e with y | y
      · exfalso
        have a1 := (x5 (e - 1) (by omega)).mpr ⟨by omega, by omega⟩
        have a2 := h8 (e - 1) (by omega) (by omega)
        rw [a1] at a2
        rw [a2, h3] at h
        exact absurd h (by decide)
      · exact y
  · have := (hA h).1
    exact absurd this (nI_nm1 (by omega))
end
section
section
variable {nf t tl f s m : Nat} {ob hc o a : Int32} {S st fin op arg ty scp hT hN hS hV hT' hN' hS' hV' : Nat → Int32} {fo fo' : Nat → Nat}
theorem rr_gh {S' op' arg' ty' : Nat → Int32} (O : rr_opn nf t tl ob hc S st fin op arg ty hT hN hS hV fo f s m) (ht : tl ≤ 96) (ag : rr_ag nf t S op arg ty S' op' arg' ty') :
    sp_sc S' op' arg' f s t = sp_sc S op arg f s t ∧ hz_ns (sp_A S' op' arg') s t = hz_ns (sp_A S op arg) s t ∧ (∀ v τ, sp_vt S op arg f s t v τ → sp_vt S' op' arg' f s t v τ) := by
  obtain ⟨h1, h2, h3, h4, h5, h6, h7, h8, h9⟩ := O
  obtain ⟨g1, g2, g3⟩ := h9 S op arg ty rr_ag_rf
  obtain ⟨g1', g2', g3'⟩ := h9 S' op' arg' ty' ag
  obtain ⟨k1, k2, k3, k4, k5, k6, w, k7, k8, k9⟩ := sp_top (g3 m (Nat.le_refl _)) (by omega)
  obtain ⟨k1', k2', k3', k4', k5', k6', w', k7', k8', k9'⟩ := sp_top (g3' m (Nat.le_refl _)) (by omega)
  have e1 : sp_sc S' op' arg' f s t = sp_sc S op arg f s t := (nI_eq (by omega) (by omega)).mp (k5'.symm.trans k5)
  have e2 : hz_ns (sp_A S' op' arg') s t = hz_ns (sp_A S op arg) s t := (nI_eq (by omega) (by omega)).mp (k3'.symm.trans k3)
  have b1 := vz_b k6
  have b2 := vz_b k6'
  have e3 : w' = w := (nI_eq (by omega) (by omega)).mp (k8'.symm.trans k8)
  subst e3
  refine ⟨e1, e2, fun v τ hv => ?_⟩
  have l := sp_vt_lt hv
  rw [← e1] at l
  obtain ⟨τ', hτ'⟩ := sp_vt_ex l
  have : τ' = τ := (k9' v τ' hτ').symm.trans (k9 v τ hv)
  rw [← this]; exact hτ'
theorem sp_ar_ag {S' : Nat → Int32} {sc : Nat} (hn : nf ≤ 8) (ha : pt_af nf sc o a) (e : ∀ g, g < 3 * nf → S' g = S g) : sp_ar S' o a = sp_ar S o a := by
  unfold sp_ar
  by_cases h6 : o = 6
  · obtain ⟨g, g1, g2⟩ := ha.2.2.1 h6
    rw [if_pos h6, if_pos h6, g2, nI_clamp (by omega)]
    exact sp_n_cg (e _ (by omega)) (e _ (by omega))
  · rw [if_neg h6, if_neg h6]
theorem rr_put_tok (O : rr_opn nf t tl ob hc S st fin op arg ty hT hN hS hV fo f s m) (ht : tl ≤ 96) (hn : nf ≤ 8) (ho : sp_o13 o) (ha : pt_af nf (sp_sc S op arg f s t) o a) (htf : pt_tf S (sp_vt S op arg f s t) (hT m) o a) (n5 : ¬ (o = 5 ∧ 8 ≤ sp_sc S op arg f s t)) (n10 : ¬ (0 < sp_ar S o a ∧ 10 ≤ hz_ns (sp_A S op arg) s t)) :
    sp_TK nf S (upd op t o) (upd arg t a) (upd ty t (hT m)) (upd scp t (hS m)) f s t := by
  intro S' op' arg' ty' scp' hS' hag
  have ag : rr_ag nf t S op arg ty S' op' arg' ty' := by
    refine ⟨hS', fun j hj => ?_⟩
    have x := hag j (by omega)
    rw [pk_un (by omega), pk_un (by omega), pk_un (by omega)] at x
    exact ⟨x.1, x.2.1, x.2.2.1⟩
  have et := hag t (Nat.le_refl _)
  rw [pk_us, pk_us, pk_us, pk_us] at et
  obtain ⟨et1, et2, et3, et4⟩ := et
  obtain ⟨e1, e2, e3⟩ := rr_gh O ht ag
  obtain ⟨h1, h2, h3, h4, h5, h6, h7, h8, h9⟩ := O
  obtain ⟨g1', g2', g3'⟩ := h9 S' op' arg' ty' ag
  obtain ⟨k1', k2', k3', k4', k5', k6', w', k7', k8', k9'⟩ := sp_top (g3' m (Nat.le_refl _)) (by omega)
  have eA : sp_A S' op' arg' t = sp_ar S o a := by
    unfold sp_A
    rw [et1, et2]
    exact sp_ar_ag hn ha hS'
  refine ⟨g1', ?_, by rw [et3]; exact k1', by rw [et4]; exact k5', k6', k4', fun h => ?_, ?_⟩
  · rw [et3]; exact k2'
  · rw [eA] at h
    rw [e2]
    rcases Nat.lt_or_ge (hz_ns (sp_A S op arg) s t) 10 with z | z
    · exact z
    · exact absurd ⟨h, z⟩ n10
  · unfold sp_opk
    rw [et1, et2, et3]
    obtain ⟨a2, a3, a6, a11, a13⟩ := ha
    obtain ⟨t2, t6, t7, t9, t12, t1⟩ := htf
    have hsc8 : sp_sc S op arg f s t ≤ 8 := by rw [← e1]; exact k6'
    rcases ho with h | h | h | h | h | h | h | h | h | h | h | h | h
    · exact Or.inl ⟨h, t1 (Or.inl h)⟩
    · obtain ⟨v, v1, v2⟩ := a2 h
      exact Or.inr (Or.inl ⟨h, v, v1, e3 v _ (t2 h v v1 (by omega))⟩)
    · exact Or.inr (Or.inr (Or.inl ⟨h, t1 (Or.inr (Or.inl h)), a3 (Or.inl h)⟩))
    · exact Or.inr (Or.inr (Or.inr (Or.inl h)))
    · refine Or.inr (Or.inr (Or.inr (Or.inr (Or.inl ⟨h, a3 (Or.inr h), ?_⟩))))
      rw [e1]
      rcases Nat.lt_or_ge (sp_sc S op arg f s t) 8 with z | z
      · exact z
      · exact absurd ⟨h, z⟩ n5
    · obtain ⟨g, g1, g2⟩ := a6 h
      refine Or.inr (Or.inr (Or.inr (Or.inr (Or.inr (Or.inl ⟨h, g, g1, g2, ?_⟩)))))
      rw [hS' _ (by omega)]; exact (t6 h g g2 (by omega)).symm
    · exact Or.inr (Or.inr (Or.inr (Or.inr (Or.inr (Or.inr (Or.inl ⟨h, t7 (Or.inl h)⟩))))))
    · exact Or.inr (Or.inr (Or.inr (Or.inr (Or.inr (Or.inr (Or.inr (Or.inl ⟨h, t7 (Or.inr (Or.inl h))⟩)))))))
    · exact Or.inr (Or.inr (Or.inr (Or.inr (Or.inr (Or.inr (Or.inr (Or.inr (Or.inl ⟨h, t9 h⟩))))))))
    · exact Or.inr (Or.inr (Or.inr (Or.inr (Or.inr (Or.inr (Or.inr (Or.inr (Or.inr (Or.inl ⟨h, t7 (Or.inr (Or.inr h))⟩)))))))))
    · exact Or.inr (Or.inr (Or.inr (Or.inr (Or.inr (Or.inr (Or.inr (Or.inr (Or.inr (Or.inr (Or.inl ⟨h, t1 (Or.inr (Or.inr (Or.inl h))), a11 h⟩))))))))))
    · exact Or.inr (Or.inr (Or.inr (Or.inr (Or.inr (Or.inr (Or.inr (Or.inr (Or.inr (Or.inr (Or.inr (Or.inl ⟨h, t12 h⟩)))))))))))
    · exact Or.inr (Or.inr (Or.inr (Or.inr (Or.inr (Or.inr (Or.inr (Or.inr (Or.inr (Or.inr (Or.inr (Or.inr ⟨h, t1 (Or.inr (Or.inr (Or.inr h))), a13 h⟩)))))))))))
theorem rr_bod_put {S : Nat → Int32} {o1 a1 y1 s1 : Int32} (O : rr_opn nf t tl ob hc S st fin op arg ty hT hN hS hV fo f s m) (B : rr_bod nf t ob S st fin op arg ty scp fo) (T : sp_TK nf S (upd op t o1) (upd arg t a1) (upd ty t y1) (upd scp t s1) f s t) (hfo : ∀ q, q < t → fo' q = fo q) (hft : fo' t = f) :
    rr_bod nf (t + 1) ob S st fin (upd op t o1) (upd arg t a1) (upd ty t y1) (upd scp t s1) fo' := by
  obtain ⟨h1, h2, h3, h4, h5, h6, h7, h8, h9⟩ := O
  obtain ⟨b1, b2, b3, b4⟩ := B
  refine ⟨fun q hq => ?_, fun q hq => ?_, fun g hg => ?_, b4⟩
  · rcases Nat.lt_or_ge q t with z | z
    · rw [hfo q z]
      obtain ⟨x1, s', x2, x3, x4⟩ := b1 q z
      exact ⟨x1, s', x2, x3, sp_TK_cg x4 (fun j hj => by rw [pk_un (by omega), pk_un (by omega), pk_un (by omega), pk_un (by omega)]; exact ⟨rfl, rfl, rfl, rfl⟩)⟩
    · have : q = t := by omega
      subst this
      rw [hft]
      exact ⟨h1, s, h4, h5, T⟩
  · rcases Nat.lt_or_ge q t with z | z
    · rw [hfo q z]; exact b2 q z
    · have : q = t := by omega
      subst this
      rw [hft]; exact Or.inr h2
  · rcases b3 g hg with h | ⟨h, s', e, x1, x2, x3, x4, x5⟩
    · exact Or.inl h
    · refine Or.inr ⟨h, s', e, x1, x2, by omega, fun S' op' arg' ty' ag => x4 S' op' arg' ty' ⟨ag.1, fun j hj => ?_⟩, fun q hq => ?_⟩
      · have := ag.2 j hj
        rw [pk_un (by omega), pk_un (by omega), pk_un (by omega)] at this
        exact this
      · rcases Nat.lt_or_ge q t with z | z
        · rw [hfo q z]; exact x5 q z
        · have : q = t := by omega
          subst this
          rw [hft]
          constructor
          · intro w
            rw [w, h] at h3
            exact absurd h3 (by decide)
          · intro w; omega
theorem rr_bod_fin {S op1 arg1 ty1 scp1 : Nat → Int32} (hf : f < nf) (hn : nf ≤ 8) (ht : t < 96) (hs4 : st f = nI s) (hst : s ≤ t) (h0 : fin f = 0) (hs8 : ∀ q, s ≤ q → q < t + 1 → fo' q = f) (B : rr_bod nf (t + 1) (nI f) S st fin op1 arg1 ty1 scp1 fo')
    (E : ∀ S' op' arg' ty', rr_ag nf (t + 1) S op1 arg1 ty1 S' op' arg' ty' → hz_en (sp_A S' op' arg') s (t + 1)) : rr_bod nf (t + 1) (-1) S st (upd fin f 1) op1 arg1 ty1 scp1 fo' := by
  obtain ⟨b1, b2, b3, b4⟩ := B
  refine ⟨b1, fun q hq => Or.inl ?_, fun g hg => ?_, fun g g1 g2 => ?_⟩
  · by_cases z : fo' q = f
    · rw [z, pk_us]
    · rw [pk_un z]
      rcases b2 q hq with h | h
      · exact h
      · have := (nI_eq (by omega) (by have := (b1 q hq).1; omega)).mp h
        exact absurd this.symm z
  · by_cases z : g = f
    · subst z
      refine Or.inr ⟨pk_us, s, t + 1, hs4, by omega, Nat.le_refl _, E, fun q hq => ⟨fun w => ?_, fun w => hs8 q w.1 w.2⟩⟩
      obtain ⟨-, s', x1, x2, -⟩ := b1 q hq
      rw [w, hs4] at x1
      have := (nI_eq (by omega) (by omega)).mp x1
      omega
    · rw [pk_un z]; exact b3 g hg
  · rw [pk_un (by omega)]; exact b4 g g1 g2
theorem rr_put_H {S' op' arg' ty' : Nat → Int32} {o1 a1 y1 : Int32} {A' : Nat} (O : rr_opn nf t tl ob hc S st fin op arg ty hT hN hS hV fo f s m) (eA : sp_A S' op' arg' t = A') (ag : rr_ag nf (t + 1) S (upd op t o1) (upd arg t a1) (upd ty t y1) S' op' arg' ty') :
    rr_ag nf t S op arg ty S' op' arg' ty' ∧ op' t = o1 ∧ arg' t = a1 ∧ ty' t = y1 ∧ (∀ j, s < j → j ≤ t → hz_H (sp_A S' op' arg') s ≤ hz_H (sp_A S' op' arg') j) ∧ hz_H (sp_A S' op' arg') t = hz_H (sp_A S' op' arg') s + m ∧ hz_H (sp_A S' op' arg') (t + 1) = hz_H (sp_A S' op' arg') s + m + A' - 1 := by
  have ag' : rr_ag nf t S op arg ty S' op' arg' ty' := ⟨ag.1, fun j hj => by
    have := ag.2 j (by omega)
    rw [pk_un (by omega), pk_un (by omega), pk_un (by omega)] at this
    exact this⟩
  have et := ag.2 t (by omega)
  rw [pk_us, pk_us, pk_us] at et
  obtain ⟨h1, h2, h3, h4, h5, h6, h7, h8, h9⟩ := O
  obtain ⟨g1, g2, g3⟩ := h9 S' op' arg' ty' ag'
  have hH := hz_s (sp_A S' op' arg') t
  rw [eA] at hH
  exact ⟨ag', et.1, et.2.1, et.2.2, g1, by omega, by omega⟩
theorem rr_opn_put {A' : Nat} (O : rr_opn nf t tl ob hc S st fin op arg ty hT hN hS hV fo f s m) (ht : tl ≤ 96) (hn : nf ≤ 8) (ho : sp_o13 o) (ha : pt_af nf (sp_sc S op arg f s t) o a) (n5 : ¬ (o = 5 ∧ 8 ≤ sp_sc S op arg f s t)) (n10 : ¬ (0 < sp_ar S o a ∧ 10 ≤ hz_ns (sp_A S op arg) s t)) (hA : A' = sp_ar S o a) (hpos : 0 < m + A') (hroom : t + (m + 1) + A' ≤ tl)
    (hty : ∀ c, c < A' → sp_ty (sp_ct S o a (hT m) c)) (N : pt_new S o a (hT m) (hN m) (hS m) (hV m) A' m 0 hT hN hS hV hT' hN' hS' hV') (hfo : ∀ q, q < t → fo' q = fo q) (hft : fo' t = f) :
    rr_opn nf (t + 1) tl ob (nI (m + A')) S st fin (upd op t o) (upd arg t a) (upd ty t (hT m)) hT' hN' hS' hV' fo' f s (m + A' - 1) := by
  have O' := O
  obtain ⟨h1, h2, h3, h4, h5, h6, h7, h8, h9⟩ := O
  have em : m + A' - 1 + 1 = m + A' := by omega
  refine ⟨h1, h2, h3, h4, by omega, by rw [em], by omega, fun q q1 q2 => ?_, fun S' op' arg' ty' ag => ?_⟩
  · rcases Nat.lt_or_ge q t with z | z
    · rw [hfo q z]; exact h8 q q1 z
    · have : q = t := by omega
      subst this; exact hft
  have hS3 := ag.1
  have eA : sp_A S' op' arg' t = A' := by
    have et := ag.2 t (by omega)
    rw [pk_us, pk_us, pk_us] at et
    unfold sp_A
    rw [et.1, et.2.1, hA]
    exact sp_ar_ag hn ha ag.1
  obtain ⟨ag', et1, et2, et3, gH, gt, gt1⟩ := rr_put_H O' eA ag
  obtain ⟨e1, e2, e3⟩ := rr_gh O' ht ag'
  obtain ⟨g1', g2', g3'⟩ := h9 S' op' arg' ty' ag'
  obtain ⟨k1', k2', k3', k4', k5', k6', w', k7', k8', k9'⟩ := sp_top (g3' m (Nat.le_refl _)) (by omega)
  refine ⟨fun j j1 j2 => ?_, by omega, fun h hh => ?_⟩
  · rcases Nat.lt_or_ge t j with z | z
    · have : j = t + 1 := by omega
      subst this; omega
    · exact gH j j1 z
  rcases Nat.lt_or_ge h m with z | z
  · -- an old hole
    obtain ⟨n1, n2, n3, n4⟩ := N.1 h z
    rw [n1, n2, n3, n4]
    obtain ⟨x0, n, w, x1, x2, x3, x4, x5⟩ := g3' h (by omega)
    refine ⟨x0, n, w, x1, x2, x3, x4, ?_⟩
    rcases x5 with ⟨y1, y2, -⟩ | ⟨p, k, y1, y2, y3, y4, y5, y6⟩
    · exfalso
      rw [y1] at gt; omega
    · refine Or.inr ⟨p, k, y1, by omega, y3, y4, fun j j1 j2 => ?_, y6⟩
      rcases Nat.lt_or_ge j t with v | v
      · exact y5 j j1 v
      · have : j = t := by omega
        subst this; omega
  · -- a new hole
    obtain ⟨c, c1, c2⟩ : ∃ c, c < A' ∧ h = m + (A' - 1 - c) := ⟨A' - 1 - (h - m), by omega, by omega⟩
    subst c2
    obtain ⟨n1, n2, n3, n4⟩ := N.2 c (by omega) c1
    rw [n1, n2, n3, n4]
    have b1 := vz_b k6'
    have hns : hz_ns (sp_A S' op' arg') s t < 10 := by
      rw [e2]
      rcases Nat.lt_or_ge (hz_ns (sp_A S op arg) s t) 10 with z | z
      · exact z
      · exact absurd ⟨by omega, z⟩ n10
    have ect : sp_ct S o a (hT m) c = sp_ct S' (op' t) (arg' t) (ty' t) c := by
      rw [et1, et2, et3]
      unfold sp_ct
      by_cases h6 : o = 6
      · obtain ⟨g, g1, g2⟩ := ha.2.2.1 h6
        have hc2 : c < 2 := by
          have e6 : sp_ar S o a = sp_n S a.toNatClampNeg := by unfold sp_ar; rw [if_pos h6]
          have := sp_n_le S a.toNatClampNeg
          omega
        rw [h6, g2, nI_clamp (by omega)]
        show S (3 * g + c) = S' (3 * g + c)
        exact (hS3 _ (by omega)).symm
      · rw [if_neg h6, if_neg h6]
    by_cases hl : o = 5 ∧ c = 1
    · rw [if_pos hl, if_pos hl, k5', k8']
      obtain ⟨α, α1, α2⟩ := ty_nat (ha.2.1 (Or.inr hl.1))
      have hsc : sp_sc S' op' arg' f s t < 8 := by
        rw [e1]
        rcases Nat.lt_or_ge (sp_sc S op arg f s t) 8 with z | z
        · exact z
        · exact absurd ⟨hl.1, z⟩ n5
      rw [α2, vz_or k7' hsc α1, nI_1]
      refine ⟨by rw [α2] at hty; exact hty c c1, sp_sc S' op' arg' f s t + 1, w' + α * 4 ^ sp_sc S' op' arg' f s t, rfl, by omega, vz_lt k7' α1, rfl, Or.inr ⟨t, c, h5, by omega, by omega, by omega, fun j j1 j2 => by omega, by rw [α2] at ect; exact ect, by rw [k3', nI_1], hns, ?_, fun v τ hv => ?_⟩⟩
      · rw [et1, if_pos hl]
      · rcases hv with hv | ⟨-, -, v1, v2⟩
        · rw [vz_lo (sp_vt_lt hv)]; exact k9' v τ hv
        · rw [v1, vz_hi k7' α1, v2, et2, α2]
    · rw [if_neg hl, if_neg hl]
      refine ⟨hty c c1, sp_sc S' op' arg' f s t, w', k5', k6', k7', k8', Or.inr ⟨t, c, h5, by omega, by omega, by omega, fun j j1 j2 => by omega, ect, by rw [k3', nI_1], hns, ?_, fun v τ hv => ?_⟩⟩
      · rw [et1, if_neg hl]; rfl
      · rcases hv with hv | ⟨v0, v0', -⟩
        · exact k9' v τ hv
        · rw [et1] at v0
          exact absurd ⟨v0, v0'⟩ hl
end
end
section
section
variable {g_maxFunctions g_maxTokens g_maxCells g_maxDepth g_functions g_tokens g_open g_accepted g_made g_used g_most g_last g_answer g_calls g_depth : Int32} {b_result b_param b_start b_finished b_tokOp b_tokArg b_tokType b_first b_second b_cellKind b_freed b_fn b_born b_actual b_value b_known : Nat → Int32}
variable {nf t f s : Nat} {S : Nat → Int32}
theorem uy_holesG {post : Int32 → Prop} (Z : sp_ys nf S b_param b_result) (V : sp_tv nf t b_tokOp b_tokArg) (ht : t ≤ 96) (htok : g_tokens = nI t) (hf : f < nf) (ho : g_open = nI f) (hst : b_start f = nI s) (hs : s ≤ t) (K : ∀ r, hz_scn (sp_A S b_tokOp b_tokArg) s t r → post (nI r)) : wpY_holes post (g_maxFunctions, g_maxTokens, g_maxCells, g_maxDepth, g_functions, g_tokens, g_open, g_accepted, g_made, g_used, g_most, g_last, g_answer, g_calls, g_depth, b_result, b_param, b_start, b_finished, b_tokOp, b_tokArg, b_tokType, b_first, b_second, b_cellKind, b_freed, b_fn, b_born, b_actual, b_value, b_known) := by
  have hn := Z.1
  subst ho
  have cf : (nI f).toNatClampNeg = f := nI_clamp (by omega)
  refine br_t (nI_pos' (by omega)) ⟨vp_in_nI (by omega) (by decide), ?_⟩
  rw [cf, hst, htok]
  exact uy_scan Z V ht hs (Nat.le_refl _) K
end
theorem ct_ty {nf sc : Nat} {S : Nat → Int32} {o a W : Int32} {c : Nat} (hn : nf ≤ 8) (hsf : ∀ g, g < nf → sp_sf S g) (hW : sp_ty W) (ha : pt_af nf sc o a) (hc : c < sp_ar S o a) : sp_ty (sp_ct S o a W c) := by
  unfold sp_ct
  have t0 : sp_ty 0 := Or.inl rfl
  have t1 : sp_ty 1 := Or.inr (Or.inl rfl)
  have t2 : sp_ty 2 := Or.inr (Or.inr (Or.inl rfl))
  have t3 : sp_ty 3 := Or.inr (Or.inr (Or.inr rfl))
  by_cases h4 : o = 4
  · rw [if_pos h4]
    by_cases z : c = 0
    · rw [if_pos z]; exact t0
    · rw [if_neg z]; exact hW
  rw [if_neg h4]
  by_cases h5 : o = 5
  · rw [if_pos h5]
    by_cases z : c = 0
    · rw [if_pos z]; exact ha.2.1 (Or.inr h5)
    · rw [if_neg z]; exact hW
  rw [if_neg h5]
  by_cases h6 : o = 6
  · rw [if_pos h6]
    obtain ⟨g, g1, g2⟩ := ha.2.2.1 h6
    have e6 : sp_ar S o a = sp_n S a.toNatClampNeg := by unfold sp_ar; rw [if_pos h6]
    rw [e6] at hc
    rw [g2, nI_clamp (by omega)] at hc ⊢
    exact sf_ty (hsf g g1) hc
  rw [if_neg h6]
  by_cases h8 : o = 8
  · rw [if_pos h8]
    by_cases z : c = 1
    · rw [if_pos z]; exact hW
    · rw [if_neg z]
      by_cases y : W = 2
      · rw [if_pos y]; exact t0
      · rw [if_neg y]; exact t1
  rw [if_neg h8]
  by_cases h9 : o = 9
  · rw [if_pos h9]
    by_cases y : W = 0
    · rw [if_pos y]; exact t2
    · rw [if_neg y]; exact t3
  rw [if_neg h9]
  by_cases h10 : o = 10
  · rw [if_pos h10]; exact hW
  rw [if_neg h10]
  by_cases h11 : o = 11
  · rw [if_pos h11]
    rcases ha.2.2.2.1 h11 with w | w
    · rw [w]; exact t2
    · rw [w]; exact t3
  rw [if_neg h11]
  by_cases h13 : o = 13
  · rw [if_pos h13]; exact t1
  · rw [if_neg h13]; exact t0
theorem vp_b1 : vp_nar .boolean 1 = 1 := by rfl
theorem i_vc_put {k : Nat} {u : SX} {v : SY} (I : i_Rel k u v) (hk : k + 4 ≤ 2052) (v1 : Int32) (v2 : Int32) : wpX_put (fun r u' => wpY_put (fun r' v' => r' = r ∧ i_Rel (k + 4) u' v') v v1 v2) u v1 v2 := by
  refine zz_el (P := fun u v => wpX_put (fun r u' => wpY_put (fun r' v' => r' = r ∧ i_Rel (k + 4) u' v') v v1 v2) u v1 v2) I ?_
  intro f_functionLimit f_tokenLimit f_cellLimit f_depthLimit f_functions f_accepted f_placed f_openBody f_holeCount f_nextRegion f_changed f_freeCell f_active f_calls f_taskTop f_valueTop f_releasing f_outcome f_peakUsed f_resultSize a_sigType a_params a_kept a_start a_finished a_tokOp a_tokArg a_tokType a_tokScope a_end a_holeType a_holeNest a_holeScope a_holeVars a_parent a_region a_sigRegions a_allRegions a_cellA a_cellB a_link a_live a_frameFunction a_vars a_saved a_env a_regionFirst a_tasks a_values a_used a_result g_maxFunctions g_maxTokens g_maxCells g_maxDepth g_functions g_tokens g_open g_accepted g_made g_used g_most g_last g_answer g_calls g_depth b_result b_param b_start b_finished b_tokOp b_tokArg b_tokType b_first b_second b_cellKind b_freed b_fn b_born b_actual b_value b_known R
  have R' := R
  obtain ⟨⟨nf, fl, t, tl, cl, dl, fo, ⟨hN, n1, n2, n3, n4, n5, n6, n7, n8, n9, n10, n11, n12⟩, hS, hB, hO, hA⟩, ⟨q1, q2, q3, q4, q5, q6, q7⟩, hD⟩ := R
  subst q1 q2 q3 q4 q5 q6 q7
  rcases hO with ⟨o1, o2⟩ | ⟨f, s, m, O⟩
  · have n0 : ¬ (0 : Int32) ≤ f_openBody := by rw [o1]; decide
    exact br_f n0 (br_f n0 ⟨rfl, R'⟩)
  have htl := hN.2.2.2.1
  have hnf := hS.1.1
  have T := rr_top O htl
  have tv := rr_tv hB
  have b8 := rr_h8 hB
  have hsf : ∀ g, g < nf → sp_sf a_sigType g := fun g hg => (hS.2 g hg).2.2.1
  have O' := O
  obtain ⟨h1, h2, h3, h4, h5, h6, h7, h8, h9⟩ := O
  obtain ⟨⟨w, T1⟩, T2, T3, T4, T5, T6⟩ := T
  have hvt := rr_vt (f := f) (s := s) hB (Nat.le_refl t) (hsf f h1)
  subst h2 h6 n11 n12 n3 n4 n9 n10
  have p0 : (0 : Int32) ≤ nI f := nI_pos' (by omega)
  have hob : ¬ nI f < 0 := nI_pos (by omega)
  by_cases ho : sp_o13 v1
  case neg => exact br_t p0 (ux_ref0 ho (br_f (by decide) (uy_put0 ho p0 ⟨rfl, R'⟩)))
  refine br_t p0 (ux_ref T1 rfl hob rfl hnf (fun g hg => (hS.2 g hg).1) rfl (by omega) rfl htl ho (fun a2 => br_f (by decide) ?_) (fun ha a5 => br_f (by decide) ?_) (fun ha htf a6 => br_f (by decide) ?_) (fun ha htf x5 x10 a3 => br_f (by decide) ?_) (fun ha htf x5 x10 a0 => br_t rfl ?_))
  · exact uy_put hS.1 tv (by omega) rfl h1 rfl h4 h5 rfl rfl htl T6 T5 T2 b8 hvt T4 ho (fun _ => ⟨rfl, R'⟩) (fun ha => absurd ha a2) (fun ha => absurd ha a2) (fun ha => absurd ha a2) (fun ha => absurd ha a2)
  · exact uy_put hS.1 tv (by omega) rfl h1 rfl h4 h5 rfl rfl htl T6 T5 T2 b8 hvt T4 ho (fun z => absurd ha z) (fun _ _ => ⟨rfl, R'⟩) (fun _ z => absurd z a5) (fun _ z => absurd z a5) (fun _ z => absurd z a5)
  · exact uy_put hS.1 tv (by omega) rfl h1 rfl h4 h5 rfl rfl htl T6 T5 T2 b8 hvt T4 ho (fun z => absurd ha z) (fun _ z => absurd htf z) (fun _ _ _ => ⟨rfl, R'⟩) (fun _ _ z y => (a6.elim z y).elim) (fun _ _ z y => (a6.elim z y).elim)
  · exact uy_put hS.1 tv (by omega) rfl h1 rfl h4 h5 rfl rfl htl T6 T5 T2 b8 hvt T4 ho (fun z => absurd ha z) (fun _ z => absurd htf z) (fun _ _ z => (z.elim x5 x10).elim) (fun _ _ _ _ _ => ⟨rfl, R'⟩) (fun _ _ _ _ z => by omega)
  · refine ux_place (A := sp_ar a_sigType v1 v2) rfl T1.1 (by omega) ho (fun z6 => ?_) (fun hT' hN' hS' hV' N => ?_)
    · obtain ⟨g, g1, g2⟩ := ha.2.2.1 z6
      exact ⟨g, by omega, g2, (hS.2 g g1).1⟩
    have TK := rr_put_tok (scp := a_tokScope) O' htl hnf ho ha htf x5 x10
    have hfo : ∀ q, q < t → (fun q => if q = t then f else fo q) q = fo q := fun q hq => by
      show (if q = t then f else fo q) = fo q
      rw [if_neg (by omega)]
    have hft : (fun q => if q = t then f else fo q) t = f := by
      show (if t = t then f else fo t) = f
      rw [if_pos rfl]
    generalize (fun q => if q = t then f else fo q) = fo' at hfo hft
    have B1 := rr_bod_put (fo' := fo') O' hB TK hfo hft
    have tv1 := rr_tv B1
    have eA : ∀ S' op' arg' ty', rr_ag nf (t + 1) a_sigType (upd a_tokOp t v1) (upd a_tokArg t v2) (upd a_tokType t (a_holeType m)) S' op' arg' ty' → sp_A S' op' arg' t = sp_ar a_sigType v1 v2 := fun S' op' arg' ty' ag => by
      have et := ag.2 t (by omega)
      rw [pk_us, pk_us, pk_us] at et
      unfold sp_A
      rw [et.1, et.2.1]
      exact sp_ar_ag hnf ha ag.1
    have HH := rr_put_H (o1 := v1) (a1 := v2) (y1 := a_holeType m) O' (eA _ _ _ _ rr_ag_rf) rr_ag_rf
    obtain ⟨-, -, -, -, gH, gt, gt1⟩ := HH
    have hin : vp_in (nI f) 8 := vp_in_nI (by omega) (by decide)
    have cf : (nI f).toNatClampNeg = f := nI_clamp (by omega)
    rcases Nat.eq_zero_or_pos (m + sp_ar a_sigType v1 v2) with z | z
    · refine br_t (by rw [z]; rfl) ⟨hin, ?_⟩
      rw [cf, vp_b1, z]
      refine nm_e (uy_put hS.1 tv (by omega) rfl h1 rfl h4 h5 rfl rfl htl T6 T5 T2 b8 hvt T4 ho (fun z => absurd ha z) (fun _ z => absurd htf z) (fun _ _ z => (z.elim x5 x10).elim) (fun _ _ _ _ z => by omega) (fun _ _ _ _ _ => ?_))
      refine uy_holesG hS.1 tv1 (by omega) rfl h1 rfl h4 (by omega) (fun r hr => ?_)
      have r0 : r = 0 := by
        rcases hr with ⟨hr, -⟩ | ⟨-, -, hr⟩
        · exact hr
        · have := hr (t + 1) (by omega) (Nat.le_refl _)
          omega
      subst r0
      refine br_t rfl ⟨hin, ?_⟩
      rw [cf, vp_b1]
      refine nm_e ⟨rfl, ⟨nf, fl, t + 1, tl, cl, dl, fo', ⟨?_, n1, n2, rfl, rfl, n5, n6, n7, n8, rfl, rfl, rfl, rfl⟩, hS, ?_, Or.inl ⟨rfl, rfl⟩, fun h => ?_⟩, ⟨rfl, rfl, rfl, rfl, rfl, rfl, rfl⟩, hD⟩
      · obtain ⟨y1, y2, y3, y4, y5, y6, y7, y8, y9, y10, y11⟩ := hN
        exact ⟨y1, y2, y3, y4, y5, y6, y7, y8, y9, by omega, y11⟩
      · refine rr_bod_fin h1 hnf (by omega) h4 h5 h3 (fun q a1 a2 => ?_) B1 (fun S' op' arg' ty' ag => ?_)
        · rcases Nat.lt_or_ge q t with y | y
          · rw [hfo q y]; exact h8 q a1 y
          · have : q = t := by omega
            subst this; exact hft
        · obtain ⟨-, -, -, -, jH, jt, jt1⟩ := rr_put_H O' (eA _ _ _ _ ag) ag
          exact ⟨by omega, by omega, fun r r1 r2 => jH r r1 (by omega)⟩
      · exact absurd (hA h).1 (nI_nm1 (by omega))
    · have nz : ¬ nI (m + sp_ar a_sigType v1 v2) = 0 := nI_ne0 z (by have := sp_ar_le a_sigType v1 v2; have := T1.1; omega)
      refine br_f nz (uy_put hS.1 tv (by omega) rfl h1 rfl h4 h5 rfl rfl htl T6 T5 T2 b8 hvt T4 ho (fun z => absurd ha z) (fun _ z => absurd htf z) (fun _ _ z => (z.elim x5 x10).elim) (fun _ _ _ _ z => by omega) (fun _ _ _ _ _ => ?_))
      refine uy_holesG hS.1 tv1 (by omega) rfl h1 rfl h4 (by omega) (fun r hr => ?_)
      have r0 : r = m + sp_ar a_sigType v1 v2 := by
        rcases hr with ⟨-, j, j1, j2, j3⟩ | ⟨-, hr, -⟩
        · rcases Nat.lt_or_ge t j with y | y
          · have : j = t + 1 := by omega
            subst this; omega
          · have := gH j j1 y; omega
        · omega
      subst r0
      refine br_f nz ⟨rfl, ⟨nf, fl, t + 1, tl, cl, dl, fo', ⟨?_, n1, n2, rfl, rfl, n5, n6, n7, n8, rfl, rfl, rfl, rfl⟩, hS, B1, Or.inr ⟨f, s, m + sp_ar a_sigType v1 v2 - 1, ?_⟩, fun h => ?_⟩, ⟨rfl, rfl, rfl, rfl, rfl, rfl, rfl⟩, hD⟩
      · obtain ⟨y1, y2, y3, y4, y5, y6, y7, y8, y9, y10, y11⟩ := hN
        exact ⟨y1, y2, y3, y4, y5, y6, y7, y8, y9, by omega, y11⟩
      · exact rr_opn_put O' htl hnf ho ha x5 x10 rfl z (by omega) (fun c hc => ct_ty hnf hsf T3 ha hc) N hfo hft
      · exact absurd (hA h).1 (nI_nm1 (by omega))
end
section
theorem xy_clamp (x : Int32) {lo hi : Nat} (h : lo ≤ hi) (hh : hi < 1000) : ∃ c, lo ≤ c ∧ c ≤ hi ∧ (∀ (post : Int32 → Prop) (u : SX), post (nI c) → wpX_clamp post u x (nI lo) (nI hi)) ∧ (∀ (post : Int32 → Prop) (v : SY), post (nI c) → wpY_clamp post v x (nI lo) (nI hi)) := by
  by_cases h1 : nI lo ≤ x
  · by_cases h2 : x ≤ nI hi
    · have hn : ¬ x < 0 := by
        rw [Int32.lt_iff_toInt_lt]
        rw [Int32.le_iff_toInt_le, nI_toInt (by omega)] at h1
        have e0 : (0 : Int32).toInt = 0 := by decide
        rw [e0]; omega
      obtain ⟨c, c1, c2⟩ := nI_of2 (x := x) (M := nI hi) (n := hi) (nI_toInt (by omega)) hn h2
      subst c2
      have c3 := (nI_leI (by omega) (by omega)).mp h1
      exact ⟨c, c3, c1, fun post u k => br_t h1 (br_t h2 k), fun post u k => br_t h1 (br_t h2 k)⟩
    · exact ⟨hi, h, Nat.le_refl _, fun post u k => br_t h1 (br_f h2 k), fun post u k => br_t h1 (br_f h2 k)⟩
  · exact ⟨lo, Nat.le_refl _, h, fun post u k => br_f h1 k, fun post u k => br_f h1 k⟩
theorem i_vc0 (k0 : Int32) (k1 : Int32) (k2 : Int32) (k3 : Int32) : wpX_init (fun u => wpY_init (fun v => i_Rel 4 u v) k0 k1 k2 k3) k0 k1 k2 k3 := by
  obtain ⟨a, a1, a2, a3, a4⟩ := xy_clamp k0 (lo := 1) (hi := 8) (by omega) (by omega)
  obtain ⟨b, b1, b2, b3, b4⟩ := xy_clamp k1 (lo := 16) (hi := 96) (by omega) (by omega)
  obtain ⟨c, c1, c2, c3, c4⟩ := xy_clamp k2 (lo := 8) (hi := 64) (by omega) (by omega)
  obtain ⟨d, d1, d2, d3, d4⟩ := xy_clamp k3 (lo := 4) (hi := 24) (by omega) (by omega)
  unfold wpX_init
  refine a3 _ _ (b3 _ _ (c3 _ _ (d3 _ _ ?_)))
  unfold wpY_init
  refine a4 _ _ (b4 _ _ (c4 _ _ (d4 _ _ ?_)))
  refine ⟨⟨0, a, 0, b, c, d, fun _ => 0, ⟨⟨a1, a2, b1, b2, c1, c2, d1, d2, by omega, by omega, Or.inl rfl⟩, rfl, rfl, rfl, rfl, rfl, rfl, rfl, rfl, rfl, rfl, rfl, rfl⟩, ⟨⟨by omega, fun f hf => by omega⟩, fun f hf => by omega⟩, ⟨fun q hq => by omega, fun q hq => by omega, fun f hf => by omega, fun f _ _ => rfl⟩, Or.inl ⟨rfl, rfl⟩, fun h => absurd h (by decide)⟩, ⟨rfl, rfl, rfl, rfl, rfl, rfl, rfl⟩, rfl, rfl, 0, rfl, by omega, fun e he => by omega, fun k _ _ => rfl, fun _ => rfl, fun h => absurd h (by decide)⟩
section
variable {f_functionLimit f_tokenLimit f_cellLimit f_depthLimit f_functions f_accepted f_placed f_openBody f_holeCount f_nextRegion f_changed f_freeCell f_active f_calls f_taskTop f_valueTop f_releasing f_outcome f_peakUsed f_resultSize : Int32} {a_sigType a_params a_kept a_start a_finished a_tokOp a_tokArg a_tokType a_tokScope a_end a_holeType a_holeNest a_holeScope a_holeVars a_parent a_region a_sigRegions a_allRegions a_cellA a_cellB a_link a_live a_frameFunction a_vars a_saved a_env a_regionFirst a_tasks a_values a_used a_result : Nat → Int32}
theorem ux_accN {post : Int32 → SX → Prop} {nf f0 : Nat} (hn : nf ≤ 8) (hnf : f_functions = nI nf) (h0 : f0 < nf) (h1 : a_finished f0 = 0) (h2 : ∀ g, g < f0 → ¬ a_finished g = 0) (k : post (-2) (f_functionLimit, f_tokenLimit, f_cellLimit, f_depthLimit, f_functions, f_accepted, f_placed, f_openBody, f_holeCount, f_nextRegion, f_changed, f_freeCell, f_active, f_calls, f_taskTop, f_valueTop, f_releasing, f_outcome, f_peakUsed, f_resultSize, a_sigType, a_params, a_kept, a_start, a_finished, a_tokOp, a_tokArg, a_tokType, a_tokScope, a_end, a_holeType, a_holeNest, a_holeScope, a_holeVars, a_parent, a_region, a_sigRegions, a_allRegions, a_cellA, a_cellB, a_link, a_live, a_frameFunction, a_vars, a_saved, a_env, a_regionFirst, a_tasks, a_values, a_used, a_result)) : ∀ n i : Nat, i ≤ f0 → f0 < n + i → wX_accept_29 post f_functionLimit f_tokenLimit f_cellLimit f_depthLimit f_functions f_accepted f_placed f_openBody f_holeCount f_nextRegion f_changed f_freeCell f_active f_calls f_taskTop f_valueTop f_releasing f_outcome f_peakUsed f_resultSize a_sigType a_params a_kept a_start a_finished a_tokOp a_tokArg a_tokType a_tokScope a_end a_holeType a_holeNest a_holeScope a_holeVars a_parent a_region a_sigRegions a_allRegions a_cellA a_cellB a_link a_live a_frameFunction a_vars a_saved a_env a_regionFirst a_tasks a_values a_used a_result n (nI i)
  | 0, i, h3, h4 => by omega
  | n + 1, i, h3, h4 => by
    refine br_f (by rw [hnf]; exact nI_ge (by omega) (by omega)) ⟨vp_in_nI (by omega) (by decide), ?_⟩
    rw [nI_clamp (by omega)]
    rcases Nat.lt_or_ge i f0 with z | z
    · exact br_f (h2 i z) (nm_r (nI_1 i) (ux_accN hn hnf h0 h1 h2 k n (i + 1) (by omega) (by omega)))
    · have : i = f0 := by omega
      subst this
      exact br_t h1 k
theorem ux_accY {post : Int32 → SX → Prop} {nf : Nat} (hn : nf ≤ 8) (hnf : f_functions = nI nf) (h2 : ∀ g, g < nf → ¬ a_finished g = 0) (k : wX_accept_29 post f_functionLimit f_tokenLimit f_cellLimit f_depthLimit f_functions f_accepted f_placed f_openBody f_holeCount f_nextRegion f_changed f_freeCell f_active f_calls f_taskTop f_valueTop f_releasing f_outcome f_peakUsed f_resultSize a_sigType a_params a_kept a_start a_finished a_tokOp a_tokArg a_tokType a_tokScope a_end a_holeType a_holeNest a_holeScope a_holeVars a_parent a_region a_sigRegions a_allRegions a_cellA a_cellB a_link a_live a_frameFunction a_vars a_saved a_env a_regionFirst a_tasks a_values a_used a_result 1 (nI nf)) : ∀ n i : Nat, i ≤ nf → nf < n + i → wX_accept_29 post f_functionLimit f_tokenLimit f_cellLimit f_depthLimit f_functions f_accepted f_placed f_openBody f_holeCount f_nextRegion f_changed f_freeCell f_active f_calls f_taskTop f_valueTop f_releasing f_outcome f_peakUsed f_resultSize a_sigType a_params a_kept a_start a_finished a_tokOp a_tokArg a_tokType a_tokScope a_end a_holeType a_holeNest a_holeScope a_holeVars a_parent a_region a_sigRegions a_allRegions a_cellA a_cellB a_link a_live a_frameFunction a_vars a_saved a_env a_regionFirst a_tasks a_values a_used a_result n (nI i)
  | 0, i, h3, h4 => by omega
  | n + 1, i, h3, h4 => by
    rcases Nat.lt_or_ge i nf with z | z
    · refine br_f (by rw [hnf]; exact nI_ge z (by omega)) ⟨vp_in_nI (by omega) (by decide), ?_⟩
      rw [nI_clamp (by omega)]
      exact br_f (h2 i z) (nm_r (nI_1 i) (ux_accY hn hnf h2 k n (i + 1) (by omega) (by omega)))
    · have : i = nf := by omega
      subst this
      have hl : f_functions ≤ nI i := by rw [hnf]; exact nI_le (Nat.le_refl _) (by omega)
      exact br_t hl (k.1 hl)
end
section
variable {g_maxFunctions g_maxTokens g_maxCells g_maxDepth g_functions g_tokens g_open g_accepted g_made g_used g_most g_last g_answer g_calls g_depth : Int32} {b_result b_param b_start b_finished b_tokOp b_tokArg b_tokType b_first b_second b_cellKind b_freed b_fn b_born b_actual b_value b_known : Nat → Int32}
theorem uy_accN {post : Int32 → SY → Prop} {nf f0 : Nat} (hn : nf ≤ 8) (hnf : g_functions = nI nf) (h0 : f0 < nf) (h1 : b_finished f0 = 0) (h2 : ∀ g, g < f0 → ¬ b_finished g = 0) (k : post (-2) (g_maxFunctions, g_maxTokens, g_maxCells, g_maxDepth, g_functions, g_tokens, g_open, g_accepted, g_made, g_used, g_most, g_last, g_answer, g_calls, g_depth, b_result, b_param, b_start, b_finished, b_tokOp, b_tokArg, b_tokType, b_first, b_second, b_cellKind, b_freed, b_fn, b_born, b_actual, b_value, b_known)) : ∀ n i : Nat, i ≤ f0 → f0 < n + i → wY_accept_29 post g_maxFunctions g_maxTokens g_maxCells g_maxDepth g_functions g_tokens g_open g_accepted g_made g_used g_most g_last g_answer g_calls g_depth b_result b_param b_start b_finished b_tokOp b_tokArg b_tokType b_first b_second b_cellKind b_freed b_fn b_born b_actual b_value b_known n (nI i)
  | 0, i, h3, h4 => by omega
  | n + 1, i, h3, h4 => by
    refine br_f (by rw [hnf]; exact nI_ge (by omega) (by omega)) ⟨vp_in_nI (by omega) (by decide), ?_⟩
    rw [nI_clamp (by omega)]
    rcases Nat.lt_or_ge i f0 with z | z
    · exact br_f (h2 i z) (nm_r (nI_1 i) (uy_accN hn hnf h0 h1 h2 k n (i + 1) (by omega) (by omega)))
    · have : i = f0 := by omega
      subst this
      exact br_t h1 k
theorem uy_accY {post : Int32 → SY → Prop} {nf : Nat} (hn : nf ≤ 8) (hnf : g_functions = nI nf) (h2 : ∀ g, g < nf → ¬ b_finished g = 0) (k : post 0 (g_maxFunctions, g_maxTokens, g_maxCells, g_maxDepth, g_functions, g_tokens, g_open, 1, g_made, g_used, g_most, g_last, g_answer, g_calls, g_depth, b_result, b_param, b_start, b_finished, b_tokOp, b_tokArg, b_tokType, b_first, b_second, b_cellKind, b_freed, b_fn, b_born, b_actual, b_value, b_known)) : ∀ n i : Nat, i ≤ nf → nf < n + i → wY_accept_29 post g_maxFunctions g_maxTokens g_maxCells g_maxDepth g_functions g_tokens g_open g_accepted g_made g_used g_most g_last g_answer g_calls g_depth b_result b_param b_start b_finished b_tokOp b_tokArg b_tokType b_first b_second b_cellKind b_freed b_fn b_born b_actual b_value b_known n (nI i)
  | 0, i, h3, h4 => by omega
  | n + 1, i, h3, h4 => by
    rcases Nat.lt_or_ge i nf with z | z
    · refine br_f (by rw [hnf]; exact nI_ge z (by omega)) ⟨vp_in_nI (by omega) (by decide), ?_⟩
      rw [nI_clamp (by omega)]
      exact br_f (h2 i z) (nm_r (nI_1 i) (uy_accY hn hnf h2 k n (i + 1) (by omega) (by omega)))
    · have : i = nf := by omega
      subst this
      exact br_t (by rw [hnf]; exact nI_le (Nat.le_refl _) (by omega)) k
end
theorem rr_close {nf t : Nat} {ob : Int32} {S st fin op arg ty scp : Nat → Int32} {fo : Nat → Nat} (ht : t ≤ 96) (hn : nf ≤ 8) (hsf : ∀ f, f < nf → sp_sf S f) (B : rr_bod nf t ob S st fin op arg ty scp fo) (F : ∀ f, f < nf → ¬ fin f = 0) :
    ∃ sN en, pc_ok nf t S op arg ty scp sN fo en ∧ ∀ f, f < nf → st f = nI (sN f) := by
  have B3 : ∀ f, f < nf → ∃ s e, st f = nI s ∧ s < e ∧ e ≤ t ∧ hz_en (sp_A S op arg) s e ∧ ∀ q, q < t → (fo q = f ↔ (s ≤ q ∧ q < e)) := by
    intro f hf
    rcases B.2.2.1 f hf with h | ⟨-, s, e, x1, x2, x3, x4, x5⟩
    · exact absurd h (F f hf)
    · exact ⟨s, e, x1, x2, x3, x4 _ _ _ _ rr_ag_rf, x5⟩
  have EX : ∀ q, q < t → ∃ e, hz_en (sp_A S op arg) q e := by
    intro q hq
    obtain ⟨s, e, x1, x2, x3, x4, x5⟩ := B3 (fo q) (B.1 q hq).1
    have y := (x5 q hq).mp rfl
    obtain ⟨e', e1, -⟩ := hz_en_ex x4 y.1 y.2
    exact ⟨e', e1⟩
  have EC : ∃ en : Nat → Nat, ∀ q, q < t → hz_en (sp_A S op arg) q (en q) := by
    refine ⟨fun q => @dite Nat (q < t) (Classical.propDecidable _) (fun h => Classical.choose (EX q h)) (fun _ => 0), fun q hq => ?_⟩
    show hz_en _ q (@dite Nat (q < t) (Classical.propDecidable _) (fun h => Classical.choose (EX q h)) (fun _ => 0))
    rw [dif_pos hq]
    exact Classical.choose_spec (EX q hq)
  obtain ⟨en, hen⟩ := EC
  have SN : ∀ f, f < nf → st f = nI (st f).toNatClampNeg := by
    intro f hf
    obtain ⟨s, e, x1, x2, x3, x4, x5⟩ := B3 f hf
    rw [x1, nI_clamp (by omega)]
  refine ⟨fun f => (st f).toNatClampNeg, en, ⟨ht, hn, hsf, fun f hf => ?_, fun q hq => ?_⟩, SN⟩
  · obtain ⟨s, e, x1, x2, x3, x4, x5⟩ := B3 f hf
    have es : (st f).toNatClampNeg = s := by rw [x1, nI_clamp (by omega)]
    have ee : en s = e := hz_en_u (hen s (by omega)) x4
    show (st f).toNatClampNeg < t ∧ en (st f).toNatClampNeg ≤ t ∧ ∀ q, q < t → (fo q = f ↔ ((st f).toNatClampNeg ≤ q ∧ q < en (st f).toNatClampNeg))
    rw [es, ee]
    exact ⟨by omega, x3, x5⟩
  · obtain ⟨y1, s, y2, y3, y4⟩ := B.1 q hq
    refine ⟨y1, ?_, hen q hq⟩
    have es : (st (fo q)).toNatClampNeg = s := by rw [y2, nI_clamp (by omega)]
    show sp_tok nf S op arg ty scp (fo q) (st (fo q)).toNatClampNeg q
    rw [es]
    exact sp_TK_use y4
theorem i_vc_accept {k : Nat} {u : SX} {v : SY} (I : i_Rel k u v) (hk : k + 4 ≤ 2052) : wpX_accept (fun r u' => wpY_accept (fun r' v' => r' = r ∧ i_Rel (k + 4) u' v') v) u := by
  refine zz_el (P := fun u v => wpX_accept (fun r u' => wpY_accept (fun r' v' => r' = r ∧ i_Rel (k + 4) u' v') v) u) I ?_
  intro f_functionLimit f_tokenLimit f_cellLimit f_depthLimit f_functions f_accepted f_placed f_openBody f_holeCount f_nextRegion f_changed f_freeCell f_active f_calls f_taskTop f_valueTop f_releasing f_outcome f_peakUsed f_resultSize a_sigType a_params a_kept a_start a_finished a_tokOp a_tokArg a_tokType a_tokScope a_end a_holeType a_holeNest a_holeScope a_holeVars a_parent a_region a_sigRegions a_allRegions a_cellA a_cellB a_link a_live a_frameFunction a_vars a_saved a_env a_regionFirst a_tasks a_values a_used a_result g_maxFunctions g_maxTokens g_maxCells g_maxDepth g_functions g_tokens g_open g_accepted g_made g_used g_most g_last g_answer g_calls g_depth b_result b_param b_start b_finished b_tokOp b_tokArg b_tokType b_first b_second b_cellKind b_freed b_fn b_born b_actual b_value b_known R
  have R' := R
  obtain ⟨⟨nf, fl, t, tl, cl, dl, fo, ⟨hN, n1, n2, n3, n4, n5, n6, n7, n8, n9, n10, n11, n12⟩, hS, hB, hO, hA⟩, ⟨q1, q2, q3, q4, q5, q6, q7⟩, hD⟩ := R
  subst q1 q2 q3 q4 q5 q6 q7
  have htl := hN.2.2.2.1
  have htt := hN.2.2.2.2.2.2.2.2.2.1
  have hnf := hS.1.1
  subst n9 n10
  refine br_c (fun a => ?_) (fun a => br_f a ⟨rfl, R'⟩)
  refine br_c (fun b => br_t a (br_t b ⟨rfl, R'⟩)) (fun b => ?_)
  have hpos : 0 < nf := by
    rcases Nat.eq_zero_or_pos nf with z | z
    · subst z; exact absurd rfl b
    · exact z
  refine br_c (fun c => ?_) (fun c => br_t a (br_f b (br_f c ⟨rfl, R'⟩)))
  have hob : f_openBody = -1 ∧ f_holeCount = 0 := by
    rcases hO with O | ⟨f', s, m, O⟩
    · exact O
    · rw [O.2.1] at c
      have := O.1
      exact absurd c (nI_pos (by omega))
  rcases Classical.em (∀ g, g < nf → ¬ a_finished g = 0) with F | F
  · obtain ⟨sN, en, P, hst⟩ := rr_close (by omega) hnf (fun f hf => (hS.2 f hf).2.2.1) hB F
    have hp : ∀ f, f < nf → a_params f = nI (sp_n a_sigType f) := fun f hf => (hS.2 f hf).1
    refine ⟨nf + 1, ux_accY hnf rfl F ?_ (nf + 1) 0 (by omega) (by omega)⟩
    refine br_t (nI_le (Nat.le_refl _) (by omega)) ?_
    refine ux_link P hp n11 (fun a_end he => ?_)
    refine ux_infer P hp hst he n11 rfl (fun p par' ch' nx' reg' sg' al' U BD CL D => ?_)
    refine br_t a (br_f b (br_t c ⟨nf + 1, uy_accY hnf rfl F ⟨rfl, ?_⟩ (nf + 1) 0 (by omega) (by omega)⟩))
    obtain ⟨sg, al, G⟩ := rg_of P U BD CL D
    refine ⟨⟨nf, fl, t, tl, cl, dl, fo, ⟨?_, n1, n2, n3, n4, n5, n6, n7, n8, rfl, rfl, n11, n12⟩, hS, hB, hO, fun _ => ⟨hob.1, hpos, sN, en, sg, al, P, hst, he, G⟩⟩, ⟨rfl, rfl, rfl, rfl, rfl, rfl, rfl⟩, ?_⟩
    · obtain ⟨y1, y2, y3, y4, y5, y6, y7, y8, y9, y10, y11⟩ := hN
      exact ⟨y1, y2, y3, y4, y5, y6, y7, y8, y9, y10, Or.inr rfl⟩
    · obtain ⟨d1, d2, md, d3, d4, d5, d6, d7, d8⟩ := hD
      refine ⟨d1, d2, md, d3, d4, d5, d6, d7, fun hl => ?_⟩
      have := (d8 hl).1
      rw [a] at this; exact absurd this (by decide)
  · have F' : ∃ f0, (f0 < nf ∧ a_finished f0 = 0) ∧ ∀ g, g < f0 → ¬ (g < nf ∧ a_finished g = 0) := by
      refine pk_least (fun f0 => f0 < nf ∧ a_finished f0 = 0) ?_
      rcases Classical.em (∃ k, k < nf ∧ a_finished k = 0) with z | z
      · exact z
      · exact absurd (fun g hg h0 => z ⟨g, hg, h0⟩) F
    obtain ⟨f0, ⟨x1, x2⟩, x3⟩ := F'
    have x4 : ∀ g, g < f0 → ¬ a_finished g = 0 := fun g hg h0 => x3 g hg ⟨by omega, h0⟩
    refine ⟨nf + 1, ux_accN hnf rfl x1 x2 x4 ?_ (nf + 1) 0 (by omega) (by omega)⟩
    exact br_t a (br_f b (br_t c ⟨nf + 1, uy_accN hnf rfl x1 x2 x4 ⟨rfl, R'⟩ (nf + 1) 0 (by omega) (by omega)⟩))
end
section
section
variable {f_functionLimit f_tokenLimit f_cellLimit f_depthLimit f_functions f_accepted f_placed f_openBody f_holeCount f_nextRegion f_changed f_freeCell f_active f_calls f_taskTop f_valueTop f_releasing f_outcome f_peakUsed f_resultSize : Int32} {a_sigType a_params a_kept a_start a_finished a_tokOp a_tokArg a_tokType a_tokScope a_end a_holeType a_holeNest a_holeScope a_holeVars a_parent a_region a_sigRegions a_allRegions a_cellA a_cellB a_link a_live a_frameFunction a_vars a_saved a_env a_regionFirst a_tasks a_values a_used a_result : Nat → Int32}
theorem ux_push {post : SX → Prop} {vt : Nat} {x : Int32} (h : vt < 512) (k : post (f_functionLimit, f_tokenLimit, f_cellLimit, f_depthLimit, f_functions, f_accepted, f_placed, f_openBody, f_holeCount, f_nextRegion, f_changed, f_freeCell, f_active, f_calls, f_taskTop, nI (vt + 1), f_releasing, f_outcome, f_peakUsed, f_resultSize, a_sigType, a_params, a_kept, a_start, a_finished, a_tokOp, a_tokArg, a_tokType, a_tokScope, a_end, a_holeType, a_holeNest, a_holeScope, a_holeVars, a_parent, a_region, a_sigRegions, a_allRegions, a_cellA, a_cellB, a_link, a_live, a_frameFunction, a_vars, a_saved, a_env, a_regionFirst, a_tasks, upd a_values vt x, a_used, a_result)) : wpX_push post (f_functionLimit, f_tokenLimit, f_cellLimit, f_depthLimit, f_functions, f_accepted, f_placed, f_openBody, f_holeCount, f_nextRegion, f_changed, f_freeCell, f_active, f_calls, f_taskTop, nI vt, f_releasing, f_outcome, f_peakUsed, f_resultSize, a_sigType, a_params, a_kept, a_start, a_finished, a_tokOp, a_tokArg, a_tokType, a_tokScope, a_end, a_holeType, a_holeNest, a_holeScope, a_holeVars, a_parent, a_region, a_sigRegions, a_allRegions, a_cellA, a_cellB, a_link, a_live, a_frameFunction, a_vars, a_saved, a_env, a_regionFirst, a_tasks, a_values, a_used, a_result) x := by
  refine br_t (nI_lt (b := 512) h (by decide)) ⟨vp_in_nI h (by decide), ?_⟩
  rw [nI_clamp (by omega)]
  exact nm_e (nm_r (nI_1 vt) k)
theorem ux_pop {post : Int32 → SX → Prop} {vt : Nat} (h : vt < 512) (k : post (a_values vt) (f_functionLimit, f_tokenLimit, f_cellLimit, f_depthLimit, f_functions, f_accepted, f_placed, f_openBody, f_holeCount, f_nextRegion, f_changed, f_freeCell, f_active, f_calls, f_taskTop, nI vt, f_releasing, f_outcome, f_peakUsed, f_resultSize, a_sigType, a_params, a_kept, a_start, a_finished, a_tokOp, a_tokArg, a_tokType, a_tokScope, a_end, a_holeType, a_holeNest, a_holeScope, a_holeVars, a_parent, a_region, a_sigRegions, a_allRegions, a_cellA, a_cellB, a_link, a_live, a_frameFunction, a_vars, a_saved, a_env, a_regionFirst, a_tasks, a_values, a_used, a_result)) : wpX_pop post (f_functionLimit, f_tokenLimit, f_cellLimit, f_depthLimit, f_functions, f_accepted, f_placed, f_openBody, f_holeCount, f_nextRegion, f_changed, f_freeCell, f_active, f_calls, f_taskTop, nI (vt + 1), f_releasing, f_outcome, f_peakUsed, f_resultSize, a_sigType, a_params, a_kept, a_start, a_finished, a_tokOp, a_tokArg, a_tokType, a_tokScope, a_end, a_holeType, a_holeNest, a_holeScope, a_holeVars, a_parent, a_region, a_sigRegions, a_allRegions, a_cellA, a_cellB, a_link, a_live, a_frameFunction, a_vars, a_saved, a_env, a_regionFirst, a_tasks, a_values, a_used, a_result) := by
  refine br_t (nI_lt (a := 0) (by omega) (by omega)) (nm_r (nI_pred vt) ⟨vp_in_nI h (by decide), ?_⟩)
  rw [nI_clamp (by omega)]; exact k
theorem ux_task {post : SX → Prop} {tt : Nat} {x : Int32} (h : tt < 1024) (k : post (f_functionLimit, f_tokenLimit, f_cellLimit, f_depthLimit, f_functions, f_accepted, f_placed, f_openBody, f_holeCount, f_nextRegion, f_changed, f_freeCell, f_active, f_calls, nI (tt + 1), f_valueTop, f_releasing, f_outcome, f_peakUsed, f_resultSize, a_sigType, a_params, a_kept, a_start, a_finished, a_tokOp, a_tokArg, a_tokType, a_tokScope, a_end, a_holeType, a_holeNest, a_holeScope, a_holeVars, a_parent, a_region, a_sigRegions, a_allRegions, a_cellA, a_cellB, a_link, a_live, a_frameFunction, a_vars, a_saved, a_env, a_regionFirst, upd a_tasks tt x, a_values, a_used, a_result)) : wpX_pushTask post (f_functionLimit, f_tokenLimit, f_cellLimit, f_depthLimit, f_functions, f_accepted, f_placed, f_openBody, f_holeCount, f_nextRegion, f_changed, f_freeCell, f_active, f_calls, nI tt, f_valueTop, f_releasing, f_outcome, f_peakUsed, f_resultSize, a_sigType, a_params, a_kept, a_start, a_finished, a_tokOp, a_tokArg, a_tokType, a_tokScope, a_end, a_holeType, a_holeNest, a_holeScope, a_holeVars, a_parent, a_region, a_sigRegions, a_allRegions, a_cellA, a_cellB, a_link, a_live, a_frameFunction, a_vars, a_saved, a_env, a_regionFirst, a_tasks, a_values, a_used, a_result) x := by
  refine br_t (nI_lt (b := 1024) h (by decide)) ⟨vp_in_nI h (by decide), ?_⟩
  rw [nI_clamp (by omega)]
  exact nm_e (nm_r (nI_1 tt) k)
end
def ru_A (u u1 : SX) : Prop := ∀ post : SX → Prop, post u1 → wpX_advance post u
def ru_E (u : SX) (i : Nat) (u1 : SX) : Prop := ∀ post : SX → Prop, post u1 → wpX_evaluate post u (nI i)
def ru_C (u : SX) (i : Nat) (u1 : SX) : Prop := ∀ post : SX → Prop, post u1 → wpX_complete post u (nI i)
def ru_L (u u1 : SX) : Prop := ∀ post : SX → Prop, post u1 → wpX_leave post u
section
variable {f_functionLimit f_tokenLimit f_cellLimit f_depthLimit f_functions f_accepted f_placed f_openBody f_holeCount f_nextRegion f_changed f_freeCell f_active f_calls f_taskTop f_valueTop f_releasing f_outcome f_peakUsed f_resultSize : Int32} {a_sigType a_params a_kept a_start a_finished a_tokOp a_tokArg a_tokType a_tokScope a_end a_holeType a_holeNest a_holeScope a_holeVars a_parent a_region a_sigRegions a_allRegions a_cellA a_cellB a_link a_live a_frameFunction a_vars a_saved a_env a_regionFirst a_tasks a_values a_used a_result : Nat → Int32}
variable {u1 : SX} {tt i : Nat}
theorem ru_advE (h : a_tasks tt = nI (2 * i)) (hi : i < 100) (ht : tt < 1024) (E : ru_E (f_functionLimit, f_tokenLimit, f_cellLimit, f_depthLimit, f_functions, f_accepted, f_placed, f_openBody, f_holeCount, f_nextRegion, f_changed, f_freeCell, f_active, f_calls, nI tt, f_valueTop, f_releasing, f_outcome, f_peakUsed, f_resultSize, a_sigType, a_params, a_kept, a_start, a_finished, a_tokOp, a_tokArg, a_tokType, a_tokScope, a_end, a_holeType, a_holeNest, a_holeScope, a_holeVars, a_parent, a_region, a_sigRegions, a_allRegions, a_cellA, a_cellB, a_link, a_live, a_frameFunction, a_vars, a_saved, a_env, a_regionFirst, a_tasks, a_values, a_used, a_result) i u1) : ru_A (f_functionLimit, f_tokenLimit, f_cellLimit, f_depthLimit, f_functions, f_accepted, f_placed, f_openBody, f_holeCount, f_nextRegion, f_changed, f_freeCell, f_active, f_calls, nI (tt + 1), f_valueTop, f_releasing, f_outcome, f_peakUsed, f_resultSize, a_sigType, a_params, a_kept, a_start, a_finished, a_tokOp, a_tokArg, a_tokType, a_tokScope, a_end, a_holeType, a_holeNest, a_holeScope, a_holeVars, a_parent, a_region, a_sigRegions, a_allRegions, a_cellA, a_cellB, a_link, a_live, a_frameFunction, a_vars, a_saved, a_env, a_regionFirst, a_tasks, a_values, a_used, a_result) u1 := by
  intro post hp
  have e1 : nI (2 * i) &&& 1 = nI (2 * i % 2) := pk_andN (by omega) 1 (by decide)
  have e2 : nI (2 * i) >>> ((1 : Int32) &&& 31) = nI (2 * i / 2 ^ 1) := pk_shrN (by omega) _ 1 (by decide)
  have e1' : nI (2 * i) &&& 1 = 0 := by rw [e1, show 2 * i % 2 = 0 by omega]; rfl
  have e2' : nI (2 * i) >>> ((1 : Int32) &&& 31) = nI i := by rw [e2, show 2 * i / 2 ^ 1 = i by omega]
  refine br_t (nI_lt (a := 0) (by omega) (by omega)) (nm_r (nI_pred tt) ⟨vp_in_nI ht (by decide), nm_r (e' := nI (2 * i)) (by rw [nI_clamp (by omega)]; exact h) ?_⟩)
  refine br_t (nI_pos' (by omega)) (br_t e1' ?_)
  rw [e2']
  refine E _ ?_
  obtain ⟨f_functionLimit, f_tokenLimit, f_cellLimit, f_depthLimit, f_functions, f_accepted, f_placed, f_openBody, f_holeCount, f_nextRegion, f_changed, f_freeCell, f_active, f_calls, f_taskTop, f_valueTop, f_releasing, f_outcome, f_peakUsed, f_resultSize, a_sigType, a_params, a_kept, a_start, a_finished, a_tokOp, a_tokArg, a_tokType, a_tokScope, a_end, a_holeType, a_holeNest, a_holeScope, a_holeVars, a_parent, a_region, a_sigRegions, a_allRegions, a_cellA, a_cellB, a_link, a_live, a_frameFunction, a_vars, a_saved, a_env, a_regionFirst, a_tasks, a_values, a_used, a_result⟩ := u1
  exact hp
theorem ru_advC (h : a_tasks tt = nI (2 * i + 1)) (hi : i < 100) (ht : tt < 1024) (E : ru_C (f_functionLimit, f_tokenLimit, f_cellLimit, f_depthLimit, f_functions, f_accepted, f_placed, f_openBody, f_holeCount, f_nextRegion, f_changed, f_freeCell, f_active, f_calls, nI tt, f_valueTop, f_releasing, f_outcome, f_peakUsed, f_resultSize, a_sigType, a_params, a_kept, a_start, a_finished, a_tokOp, a_tokArg, a_tokType, a_tokScope, a_end, a_holeType, a_holeNest, a_holeScope, a_holeVars, a_parent, a_region, a_sigRegions, a_allRegions, a_cellA, a_cellB, a_link, a_live, a_frameFunction, a_vars, a_saved, a_env, a_regionFirst, a_tasks, a_values, a_used, a_result) i u1) : ru_A (f_functionLimit, f_tokenLimit, f_cellLimit, f_depthLimit, f_functions, f_accepted, f_placed, f_openBody, f_holeCount, f_nextRegion, f_changed, f_freeCell, f_active, f_calls, nI (tt + 1), f_valueTop, f_releasing, f_outcome, f_peakUsed, f_resultSize, a_sigType, a_params, a_kept, a_start, a_finished, a_tokOp, a_tokArg, a_tokType, a_tokScope, a_end, a_holeType, a_holeNest, a_holeScope, a_holeVars, a_parent, a_region, a_sigRegions, a_allRegions, a_cellA, a_cellB, a_link, a_live, a_frameFunction, a_vars, a_saved, a_env, a_regionFirst, a_tasks, a_values, a_used, a_result) u1 := by
  intro post hp
  have e1 : nI (2 * i + 1) &&& 1 = nI ((2 * i + 1) % 2) := pk_andN (by omega) 1 (by decide)
  have e2 : nI (2 * i + 1) >>> ((1 : Int32) &&& 31) = nI ((2 * i + 1) / 2 ^ 1) := pk_shrN (by omega) _ 1 (by decide)
  have e1' : ¬ nI (2 * i + 1) &&& 1 = 0 := by rw [e1, show (2 * i + 1) % 2 = 1 by omega]; decide
  have e2' : nI (2 * i + 1) >>> ((1 : Int32) &&& 31) = nI i := by rw [e2, show (2 * i + 1) / 2 ^ 1 = i by omega]
  refine br_t (nI_lt (a := 0) (by omega) (by omega)) (nm_r (nI_pred tt) ⟨vp_in_nI ht (by decide), nm_r (e' := nI (2 * i + 1)) (by rw [nI_clamp (by omega)]; exact h) ?_⟩)
  refine br_t (nI_pos' (by omega)) (br_f e1' ?_)
  rw [e2']
  refine E _ ?_
  obtain ⟨f_functionLimit, f_tokenLimit, f_cellLimit, f_depthLimit, f_functions, f_accepted, f_placed, f_openBody, f_holeCount, f_nextRegion, f_changed, f_freeCell, f_active, f_calls, f_taskTop, f_valueTop, f_releasing, f_outcome, f_peakUsed, f_resultSize, a_sigType, a_params, a_kept, a_start, a_finished, a_tokOp, a_tokArg, a_tokType, a_tokScope, a_end, a_holeType, a_holeNest, a_holeScope, a_holeVars, a_parent, a_region, a_sigRegions, a_allRegions, a_cellA, a_cellB, a_link, a_live, a_frameFunction, a_vars, a_saved, a_env, a_regionFirst, a_tasks, a_values, a_used, a_result⟩ := u1
  exact hp
theorem ru_advL (h : a_tasks tt = -1) (ht : tt < 1024) (E : ru_L (f_functionLimit, f_tokenLimit, f_cellLimit, f_depthLimit, f_functions, f_accepted, f_placed, f_openBody, f_holeCount, f_nextRegion, f_changed, f_freeCell, f_active, f_calls, nI tt, f_valueTop, f_releasing, f_outcome, f_peakUsed, f_resultSize, a_sigType, a_params, a_kept, a_start, a_finished, a_tokOp, a_tokArg, a_tokType, a_tokScope, a_end, a_holeType, a_holeNest, a_holeScope, a_holeVars, a_parent, a_region, a_sigRegions, a_allRegions, a_cellA, a_cellB, a_link, a_live, a_frameFunction, a_vars, a_saved, a_env, a_regionFirst, a_tasks, a_values, a_used, a_result) u1) : ru_A (f_functionLimit, f_tokenLimit, f_cellLimit, f_depthLimit, f_functions, f_accepted, f_placed, f_openBody, f_holeCount, f_nextRegion, f_changed, f_freeCell, f_active, f_calls, nI (tt + 1), f_valueTop, f_releasing, f_outcome, f_peakUsed, f_resultSize, a_sigType, a_params, a_kept, a_start, a_finished, a_tokOp, a_tokArg, a_tokType, a_tokScope, a_end, a_holeType, a_holeNest, a_holeScope, a_holeVars, a_parent, a_region, a_sigRegions, a_allRegions, a_cellA, a_cellB, a_link, a_live, a_frameFunction, a_vars, a_saved, a_env, a_regionFirst, a_tasks, a_values, a_used, a_result) u1 := by
  intro post hp
  refine br_t (nI_lt (a := 0) (by omega) (by omega)) (nm_r (nI_pred tt) ⟨vp_in_nI ht (by decide), nm_r (e' := -1) (by rw [nI_clamp (by omega)]; exact h) ?_⟩)
  refine br_f (by decide) ?_
  refine E _ ?_
  obtain ⟨f_functionLimit, f_tokenLimit, f_cellLimit, f_depthLimit, f_functions, f_accepted, f_placed, f_openBody, f_holeCount, f_nextRegion, f_changed, f_freeCell, f_active, f_calls, f_taskTop, f_valueTop, f_releasing, f_outcome, f_peakUsed, f_resultSize, a_sigType, a_params, a_kept, a_start, a_finished, a_tokOp, a_tokArg, a_tokType, a_tokScope, a_end, a_holeType, a_holeNest, a_holeScope, a_holeVars, a_parent, a_region, a_sigRegions, a_allRegions, a_cellA, a_cellB, a_link, a_live, a_frameFunction, a_vars, a_saved, a_env, a_regionFirst, a_tasks, a_values, a_used, a_result⟩ := u1
  exact hp
end
section
variable {f_functionLimit f_tokenLimit f_cellLimit f_depthLimit f_functions f_accepted f_placed f_openBody f_holeCount f_nextRegion f_changed f_freeCell f_active f_calls f_taskTop f_valueTop f_releasing f_outcome f_peakUsed f_resultSize : Int32} {a_sigType a_params a_kept a_start a_finished a_tokOp a_tokArg a_tokType a_tokScope a_end a_holeType a_holeNest a_holeScope a_holeVars a_parent a_region a_sigRegions a_allRegions a_cellA a_cellB a_link a_live a_frameFunction a_vars a_saved a_env a_regionFirst a_tasks a_values a_used a_result : Nat → Int32}
variable {nf t tt vt D i : Nat} {sN fo en : Nat → Nat}
theorem re_const (hi : i < 100) (h : a_tokOp i = 1) (hv : vt < 512) : ru_E (f_functionLimit, f_tokenLimit, f_cellLimit, f_depthLimit, f_functions, f_accepted, f_placed, f_openBody, f_holeCount, f_nextRegion, f_changed, f_freeCell, f_active, f_calls, f_taskTop, nI vt, f_releasing, f_outcome, f_peakUsed, f_resultSize, a_sigType, a_params, a_kept, a_start, a_finished, a_tokOp, a_tokArg, a_tokType, a_tokScope, a_end, a_holeType, a_holeNest, a_holeScope, a_holeVars, a_parent, a_region, a_sigRegions, a_allRegions, a_cellA, a_cellB, a_link, a_live, a_frameFunction, a_vars, a_saved, a_env, a_regionFirst, a_tasks, a_values, a_used, a_result) i (f_functionLimit, f_tokenLimit, f_cellLimit, f_depthLimit, f_functions, f_accepted, f_placed, f_openBody, f_holeCount, f_nextRegion, f_changed, f_freeCell, f_active, f_calls, f_taskTop, nI (vt + 1), f_releasing, f_outcome, f_peakUsed, f_resultSize, a_sigType, a_params, a_kept, a_start, a_finished, a_tokOp, a_tokArg, a_tokType, a_tokScope, a_end, a_holeType, a_holeNest, a_holeScope, a_holeVars, a_parent, a_region, a_sigRegions, a_allRegions, a_cellA, a_cellB, a_link, a_live, a_frameFunction, a_vars, a_saved, a_env, a_regionFirst, a_tasks, upd a_values vt (a_tokArg i), a_used, a_result) := by
  intro post hp
  have hin : vp_in (nI i) 100 := vp_in_nI hi (by decide)
  refine ⟨hin, ?_⟩
  rw [nI_clamp (by omega), h]
  exact nm_e ⟨hin, nm_e (br_t (by decide) (ux_push hv hp))⟩
theorem re_nil (hi : i < 100) (h : a_tokOp i = 7) (hv : vt < 512) : ru_E (f_functionLimit, f_tokenLimit, f_cellLimit, f_depthLimit, f_functions, f_accepted, f_placed, f_openBody, f_holeCount, f_nextRegion, f_changed, f_freeCell, f_active, f_calls, f_taskTop, nI vt, f_releasing, f_outcome, f_peakUsed, f_resultSize, a_sigType, a_params, a_kept, a_start, a_finished, a_tokOp, a_tokArg, a_tokType, a_tokScope, a_end, a_holeType, a_holeNest, a_holeScope, a_holeVars, a_parent, a_region, a_sigRegions, a_allRegions, a_cellA, a_cellB, a_link, a_live, a_frameFunction, a_vars, a_saved, a_env, a_regionFirst, a_tasks, a_values, a_used, a_result) i (f_functionLimit, f_tokenLimit, f_cellLimit, f_depthLimit, f_functions, f_accepted, f_placed, f_openBody, f_holeCount, f_nextRegion, f_changed, f_freeCell, f_active, f_calls, f_taskTop, nI (vt + 1), f_releasing, f_outcome, f_peakUsed, f_resultSize, a_sigType, a_params, a_kept, a_start, a_finished, a_tokOp, a_tokArg, a_tokType, a_tokScope, a_end, a_holeType, a_holeNest, a_holeScope, a_holeVars, a_parent, a_region, a_sigRegions, a_allRegions, a_cellA, a_cellB, a_link, a_live, a_frameFunction, a_vars, a_saved, a_env, a_regionFirst, a_tasks, upd a_values vt (-1), a_used, a_result) := by
  intro post hp
  have hin : vp_in (nI i) 100 := vp_in_nI hi (by decide)
  refine ⟨hin, ?_⟩
  rw [nI_clamp (by omega), h]
  exact nm_e ⟨hin, nm_e (br_f (by decide) (br_f (by decide) (br_t (by decide) (ux_push hv hp))))⟩
theorem act8 (D v : Nat) : (8 : Int32) * (nI (D + 1) - 1) + nI v = nI (8 * D + v) := by
  rw [nI_pred]
  show nI 8 * nI D + nI v = _
  rw [pk_mul, nI_add]
theorem re_var {v : Nat} (hi : i < 100) (h : a_tokOp i = 2) (ha : a_tokArg i = nI v) (hv8 : v < 8) (hD : D < 24) (hv : vt < 512) : ru_E (f_functionLimit, f_tokenLimit, f_cellLimit, f_depthLimit, f_functions, f_accepted, f_placed, f_openBody, f_holeCount, f_nextRegion, f_changed, f_freeCell, nI (D + 1), f_calls, f_taskTop, nI vt, f_releasing, f_outcome, f_peakUsed, f_resultSize, a_sigType, a_params, a_kept, a_start, a_finished, a_tokOp, a_tokArg, a_tokType, a_tokScope, a_end, a_holeType, a_holeNest, a_holeScope, a_holeVars, a_parent, a_region, a_sigRegions, a_allRegions, a_cellA, a_cellB, a_link, a_live, a_frameFunction, a_vars, a_saved, a_env, a_regionFirst, a_tasks, a_values, a_used, a_result) i (f_functionLimit, f_tokenLimit, f_cellLimit, f_depthLimit, f_functions, f_accepted, f_placed, f_openBody, f_holeCount, f_nextRegion, f_changed, f_freeCell, nI (D + 1), f_calls, f_taskTop, nI (vt + 1), f_releasing, f_outcome, f_peakUsed, f_resultSize, a_sigType, a_params, a_kept, a_start, a_finished, a_tokOp, a_tokArg, a_tokType, a_tokScope, a_end, a_holeType, a_holeNest, a_holeScope, a_holeVars, a_parent, a_region, a_sigRegions, a_allRegions, a_cellA, a_cellB, a_link, a_live, a_frameFunction, a_vars, a_saved, a_env, a_regionFirst, a_tasks, upd a_values vt (a_vars (8 * D + v)), a_used, a_result) := by
  intro post hp
  have hin : vp_in (nI i) 100 := vp_in_nI hi (by decide)
  refine ⟨hin, ?_⟩
  rw [nI_clamp (by omega), h, ha]
  refine nm_e ⟨hin, nm_e (br_f (by decide) (br_t (by decide) (?_)))⟩
  rw [act8, nI_clamp (by omega)]
  exact ⟨vp_in_nI (by omega) (by decide), ux_push hv hp⟩
theorem re_br0 (P : pc_ok nf t a_sigType a_tokOp a_tokArg a_tokType a_tokScope sN fo en) (hp : ∀ f, f < nf → a_params f = nI (sp_n a_sigType f)) (hi : i < t) (n1 : a_tokOp i ≠ 1) (n2 : a_tokOp i ≠ 2) (n7 : a_tokOp i ≠ 7) (hA : (sp_A a_sigType a_tokOp a_tokArg) i = 0) (ht : tt < 1020) : ru_E (f_functionLimit, f_tokenLimit, f_cellLimit, f_depthLimit, f_functions, f_accepted, f_placed, f_openBody, f_holeCount, f_nextRegion, f_changed, f_freeCell, f_active, f_calls, nI tt, f_valueTop, f_releasing, f_outcome, f_peakUsed, f_resultSize, a_sigType, a_params, a_kept, a_start, a_finished, a_tokOp, a_tokArg, a_tokType, a_tokScope, a_end, a_holeType, a_holeNest, a_holeScope, a_holeVars, a_parent, a_region, a_sigRegions, a_allRegions, a_cellA, a_cellB, a_link, a_live, a_frameFunction, a_vars, a_saved, a_env, a_regionFirst, a_tasks, a_values, a_used, a_result) i (f_functionLimit, f_tokenLimit, f_cellLimit, f_depthLimit, f_functions, f_accepted, f_placed, f_openBody, f_holeCount, f_nextRegion, f_changed, f_freeCell, f_active, f_calls, nI (tt + 1), f_valueTop, f_releasing, f_outcome, f_peakUsed, f_resultSize, a_sigType, a_params, a_kept, a_start, a_finished, a_tokOp, a_tokArg, a_tokType, a_tokScope, a_end, a_holeType, a_holeNest, a_holeScope, a_holeVars, a_parent, a_region, a_sigRegions, a_allRegions, a_cellA, a_cellB, a_link, a_live, a_frameFunction, a_vars, a_saved, a_env, a_regionFirst, upd a_tasks tt (nI (2 * i + 1)), a_values, a_used, a_result) := by
  intro post hpo
  have htt := P.1
  have hin : vp_in (nI i) 100 := vp_in_nI (by omega) (by decide)
  have e : (2 : Int32) * nI i + 1 = nI (2 * i + 1) := by rw [vz_2, nI_1]
  refine ⟨hin, ?_⟩
  rw [nI_clamp (by omega)]
  refine nm_e ⟨hin, nm_e (br_f n1 (br_f n2 (br_f n7 ?_)))⟩
  rw [e]
  refine ux_task (by omega) (ux_arTok P hp hi ?_)
  rw [hA]
  exact br_f (by decide) (br_t (by decide) hpo)
theorem re_br1 (P : pc_ok nf t a_sigType a_tokOp a_tokArg a_tokType a_tokScope sN fo en) (hp : ∀ f, f < nf → a_params f = nI (sp_n a_sigType f)) (hi : i < t) (n1 : a_tokOp i ≠ 1) (n2 : a_tokOp i ≠ 2) (n7 : a_tokOp i ≠ 7) (hA : (sp_A a_sigType a_tokOp a_tokArg) i = 1 ∨ (sp_A a_sigType a_tokOp a_tokArg) i = 3 ∨ a_tokOp i = 5) (ht : tt < 1020) : ru_E (f_functionLimit, f_tokenLimit, f_cellLimit, f_depthLimit, f_functions, f_accepted, f_placed, f_openBody, f_holeCount, f_nextRegion, f_changed, f_freeCell, f_active, f_calls, nI tt, f_valueTop, f_releasing, f_outcome, f_peakUsed, f_resultSize, a_sigType, a_params, a_kept, a_start, a_finished, a_tokOp, a_tokArg, a_tokType, a_tokScope, a_end, a_holeType, a_holeNest, a_holeScope, a_holeVars, a_parent, a_region, a_sigRegions, a_allRegions, a_cellA, a_cellB, a_link, a_live, a_frameFunction, a_vars, a_saved, a_env, a_regionFirst, a_tasks, a_values, a_used, a_result) i (f_functionLimit, f_tokenLimit, f_cellLimit, f_depthLimit, f_functions, f_accepted, f_placed, f_openBody, f_holeCount, f_nextRegion, f_changed, f_freeCell, f_active, f_calls, nI (tt + 2), f_valueTop, f_releasing, f_outcome, f_peakUsed, f_resultSize, a_sigType, a_params, a_kept, a_start, a_finished, a_tokOp, a_tokArg, a_tokType, a_tokScope, a_end, a_holeType, a_holeNest, a_holeScope, a_holeVars, a_parent, a_region, a_sigRegions, a_allRegions, a_cellA, a_cellB, a_link, a_live, a_frameFunction, a_vars, a_saved, a_env, a_regionFirst, upd (upd a_tasks tt (nI (2 * i + 1))) (tt + 1) (nI (2 * (i + 1))), a_values, a_used, a_result) := by
  intro post hpo
  have htt := P.1
  have hin : vp_in (nI i) 100 := vp_in_nI (by omega) (by decide)
  have e : (2 : Int32) * nI i + 1 = nI (2 * i + 1) := by rw [vz_2, nI_1]
  have hA3 := sp_A_le a_sigType a_tokOp a_tokArg i
  refine ⟨hin, ?_⟩
  rw [nI_clamp (by omega)]
  refine nm_e ⟨hin, nm_e (br_f n1 (br_f n2 (br_f n7 ?_)))⟩
  rw [e]
  refine ux_task (by omega) (ux_arTok P hp hi ?_)
  have fin : 0 < (sp_A a_sigType a_tokOp a_tokArg) i → wX_evaluate_111 post (nI i) (nI ((sp_A a_sigType a_tokOp a_tokArg) i)) f_functionLimit f_tokenLimit f_cellLimit f_depthLimit f_functions f_accepted f_placed f_openBody f_holeCount f_nextRegion f_changed f_freeCell f_active f_calls (nI (tt + 1)) f_valueTop f_releasing f_outcome f_peakUsed f_resultSize a_sigType a_params a_kept a_start a_finished a_tokOp a_tokArg a_tokType a_tokScope a_end a_holeType a_holeNest a_holeScope a_holeVars a_parent a_region a_sigRegions a_allRegions a_cellA a_cellB a_link a_live a_frameFunction a_vars a_saved a_env a_regionFirst (upd a_tasks tt (nI (2 * i + 1))) a_values a_used a_result := by
    intro hpos
    refine br_f (nI_nle hpos (by omega)) ?_
    rw [nI_1, vz_2]
    exact ux_task (by omega) hpo
  rcases hA with h | h | h
  · exact br_f (by rw [h]; decide) (fin (by omega))
  · exact br_f (by rw [h]; decide) (fin (by omega))
  · have h2 : (sp_A a_sigType a_tokOp a_tokArg) i = 2 := sp_A_5 h
    exact br_t (by rw [h2]; rfl) (br_t h (fin (by omega)))
theorem re_br2 (P : pc_ok nf t a_sigType a_tokOp a_tokArg a_tokType a_tokScope sN fo en) (hp : ∀ f, f < nf → a_params f = nI (sp_n a_sigType f)) (he : ∀ q, q < t → a_end q = nI (en q)) (hi : i < t) (n1 : a_tokOp i ≠ 1) (n2 : a_tokOp i ≠ 2) (n7 : a_tokOp i ≠ 7) (hA : (sp_A a_sigType a_tokOp a_tokArg) i = 2) (n5 : a_tokOp i ≠ 5) (ht : tt < 1020) : ru_E (f_functionLimit, f_tokenLimit, f_cellLimit, f_depthLimit, f_functions, f_accepted, f_placed, f_openBody, f_holeCount, f_nextRegion, f_changed, f_freeCell, f_active, f_calls, nI tt, f_valueTop, f_releasing, f_outcome, f_peakUsed, f_resultSize, a_sigType, a_params, a_kept, a_start, a_finished, a_tokOp, a_tokArg, a_tokType, a_tokScope, a_end, a_holeType, a_holeNest, a_holeScope, a_holeVars, a_parent, a_region, a_sigRegions, a_allRegions, a_cellA, a_cellB, a_link, a_live, a_frameFunction, a_vars, a_saved, a_env, a_regionFirst, a_tasks, a_values, a_used, a_result) i (f_functionLimit, f_tokenLimit, f_cellLimit, f_depthLimit, f_functions, f_accepted, f_placed, f_openBody, f_holeCount, f_nextRegion, f_changed, f_freeCell, f_active, f_calls, nI (tt + 3), f_valueTop, f_releasing, f_outcome, f_peakUsed, f_resultSize, a_sigType, a_params, a_kept, a_start, a_finished, a_tokOp, a_tokArg, a_tokType, a_tokScope, a_end, a_holeType, a_holeNest, a_holeScope, a_holeVars, a_parent, a_region, a_sigRegions, a_allRegions, a_cellA, a_cellB, a_link, a_live, a_frameFunction, a_vars, a_saved, a_env, a_regionFirst, upd (upd (upd a_tasks tt (nI (2 * i + 1))) (tt + 1) (nI (2 * en (i + 1)))) (tt + 2) (nI (2 * (i + 1))), a_values, a_used, a_result) := by
  intro post hpo
  have htt := P.1
  have hin : vp_in (nI i) 100 := vp_in_nI (by omega) (by decide)
  have e : (2 : Int32) * nI i + 1 = nI (2 * i + 1) := by rw [vz_2, nI_1]
  have c0 := pc_c0 P hi (by omega)
  have l0 := c0.2.2.2.1
  refine ⟨hin, ?_⟩
  rw [nI_clamp (by omega)]
  refine nm_e ⟨hin, nm_e (br_f n1 (br_f n2 (br_f n7 ?_)))⟩
  rw [e]
  refine ux_task (by omega) (ux_arTok P hp hi ?_)
  rw [hA]
  refine br_t (by decide) (br_f n5 ?_)
  rw [nI_1]
  refine ⟨vp_in_nI (by omega) (by decide), ?_⟩
  rw [nI_clamp (by omega), he _ l0, vz_2]
  refine ux_task (by omega) ?_
  refine br_f (by decide) ?_
  rw [nI_1, vz_2]
  exact ux_task (by omega) hpo
end
end
section
def mth (kd a b : Int32) : Int32 := if kd = 0 then a + b else if kd = 1 then a - b else if kd = 2 then a * b else if b ≤ a then 0 else 1
section
variable {f_functionLimit f_tokenLimit f_cellLimit f_depthLimit f_functions f_accepted f_placed f_openBody f_holeCount f_nextRegion f_changed f_freeCell f_active f_calls f_taskTop f_valueTop f_releasing f_outcome f_peakUsed f_resultSize : Int32} {a_sigType a_params a_kept a_start a_finished a_tokOp a_tokArg a_tokType a_tokScope a_end a_holeType a_holeNest a_holeScope a_holeVars a_parent a_region a_sigRegions a_allRegions a_cellA a_cellB a_link a_live a_frameFunction a_vars a_saved a_env a_regionFirst a_tasks a_values a_used a_result : Nat → Int32}
variable {nf t tt vt D i : Nat} {sN fo en : Nat → Nat}
theorem rc_math (hi : i < 100) (h : a_tokOp i = 3) (hv : vt + 1 < 512) : ru_C (f_functionLimit, f_tokenLimit, f_cellLimit, f_depthLimit, f_functions, f_accepted, f_placed, f_openBody, f_holeCount, f_nextRegion, f_changed, f_freeCell, f_active, f_calls, f_taskTop, nI (vt + 2), f_releasing, f_outcome, f_peakUsed, f_resultSize, a_sigType, a_params, a_kept, a_start, a_finished, a_tokOp, a_tokArg, a_tokType, a_tokScope, a_end, a_holeType, a_holeNest, a_holeScope, a_holeVars, a_parent, a_region, a_sigRegions, a_allRegions, a_cellA, a_cellB, a_link, a_live, a_frameFunction, a_vars, a_saved, a_env, a_regionFirst, a_tasks, a_values, a_used, a_result) i (f_functionLimit, f_tokenLimit, f_cellLimit, f_depthLimit, f_functions, f_accepted, f_placed, f_openBody, f_holeCount, f_nextRegion, f_changed, f_freeCell, f_active, f_calls, f_taskTop, nI (vt + 1), f_releasing, f_outcome, f_peakUsed, f_resultSize, a_sigType, a_params, a_kept, a_start, a_finished, a_tokOp, a_tokArg, a_tokType, a_tokScope, a_end, a_holeType, a_holeNest, a_holeScope, a_holeVars, a_parent, a_region, a_sigRegions, a_allRegions, a_cellA, a_cellB, a_link, a_live, a_frameFunction, a_vars, a_saved, a_env, a_regionFirst, a_tasks, upd a_values vt (mth (a_tokArg i) (a_values vt) (a_values (vt + 1))), a_used, a_result) := by
  intro post hpo
  have hin : vp_in (nI i) 100 := vp_in_nI hi (by decide)
  refine ⟨hin, ?_⟩
  rw [nI_clamp (by omega), h]
  refine nm_e (br_f (by decide) (br_f (by decide) (br_t (by decide) (⟨hin, ?_⟩))))
  unfold wpX_compute
  refine ux_pop (vt := vt + 1) (by omega) (ux_pop (vt := vt) (by omega) ?_)
  unfold mth at hpo
  refine br_c (fun z => ?_) (fun z => br_c (fun y => ?_) (fun y => br_c (fun x => ?_) (fun x => br_c (fun w => ?_) (fun w => ?_))))
  · rw [if_pos z] at hpo; exact ux_push (by omega) hpo
  · rw [if_neg z, if_pos y] at hpo; exact ux_push (by omega) hpo
  · rw [if_neg z, if_neg y, if_pos x] at hpo; exact ux_push (by omega) hpo
  · rw [if_neg z, if_neg y, if_neg x, if_pos w] at hpo; exact ux_push (by omega) hpo
  · rw [if_neg z, if_neg y, if_neg x, if_neg w] at hpo; exact ux_push (by omega) hpo
theorem rc_if (P : pc_ok nf t a_sigType a_tokOp a_tokArg a_tokType a_tokScope sN fo en) (he : ∀ q, q < t → a_end q = nI (en q)) (hi : i < t) (h : a_tokOp i = 4) (hv : vt < 512) (ht : tt < 1024) : ru_C (f_functionLimit, f_tokenLimit, f_cellLimit, f_depthLimit, f_functions, f_accepted, f_placed, f_openBody, f_holeCount, f_nextRegion, f_changed, f_freeCell, f_active, f_calls, nI tt, nI (vt + 1), f_releasing, f_outcome, f_peakUsed, f_resultSize, a_sigType, a_params, a_kept, a_start, a_finished, a_tokOp, a_tokArg, a_tokType, a_tokScope, a_end, a_holeType, a_holeNest, a_holeScope, a_holeVars, a_parent, a_region, a_sigRegions, a_allRegions, a_cellA, a_cellB, a_link, a_live, a_frameFunction, a_vars, a_saved, a_env, a_regionFirst, a_tasks, a_values, a_used, a_result) i (f_functionLimit, f_tokenLimit, f_cellLimit, f_depthLimit, f_functions, f_accepted, f_placed, f_openBody, f_holeCount, f_nextRegion, f_changed, f_freeCell, f_active, f_calls, nI (tt + 1), nI vt, f_releasing, f_outcome, f_peakUsed, f_resultSize, a_sigType, a_params, a_kept, a_start, a_finished, a_tokOp, a_tokArg, a_tokType, a_tokScope, a_end, a_holeType, a_holeNest, a_holeScope, a_holeVars, a_parent, a_region, a_sigRegions, a_allRegions, a_cellA, a_cellB, a_link, a_live, a_frameFunction, a_vars, a_saved, a_env, a_regionFirst, upd a_tasks tt (nI (2 * (if a_values vt = 0 then en (en (i + 1)) else en (i + 1)))), a_values, a_used, a_result) := by
  intro post hpo
  have htt := P.1
  have hA : (sp_A a_sigType a_tokOp a_tokArg) i = 3 := by unfold sp_A sp_ar; rw [h]; rfl
  have c0 := pc_c0 P hi (by omega)
  have c1 := pc_c1 P hi (by omega)
  have l0 := c0.2.2.2.1
  have l1 := c1.2.2.2.1
  have hin : vp_in (nI i) 100 := vp_in_nI (by omega) (by decide)
  refine ⟨hin, ?_⟩
  rw [nI_clamp (by omega), h, nI_1]
  refine nm_e (br_f (by decide) (br_f (by decide) (br_f (by decide) (br_t (by decide) (⟨vp_in_nI (by omega) (by decide), nm_r (e' := nI (en (i + 1))) (by rw [nI_clamp (by omega)]; exact he _ l0) ?_⟩)))))
  refine ux_pop hv ?_
  refine br_c (fun z => ⟨vp_in_nI (by omega) (by decide), ?_⟩) (fun z => ?_)
  · rw [if_pos z] at hpo
    rw [nI_clamp (by omega), he _ l1, vz_2]
    exact ux_task ht hpo
  · rw [if_neg z] at hpo
    rw [vz_2]
    exact ux_task ht hpo
theorem rc_let {sc : Nat} (P : pc_ok nf t a_sigType a_tokOp a_tokArg a_tokType a_tokScope sN fo en) (he : ∀ q, q < t → a_end q = nI (en q)) (hi : i < t) (h : a_tokOp i = 5) (hs : a_tokScope i = nI sc) (hs8 : sc < 8) (hD : D < 24) (hv : vt < 512) (ht : tt < 1024) : ru_C (f_functionLimit, f_tokenLimit, f_cellLimit, f_depthLimit, f_functions, f_accepted, f_placed, f_openBody, f_holeCount, f_nextRegion, f_changed, f_freeCell, nI (D + 1), f_calls, nI tt, nI (vt + 1), f_releasing, f_outcome, f_peakUsed, f_resultSize, a_sigType, a_params, a_kept, a_start, a_finished, a_tokOp, a_tokArg, a_tokType, a_tokScope, a_end, a_holeType, a_holeNest, a_holeScope, a_holeVars, a_parent, a_region, a_sigRegions, a_allRegions, a_cellA, a_cellB, a_link, a_live, a_frameFunction, a_vars, a_saved, a_env, a_regionFirst, a_tasks, a_values, a_used, a_result) i (f_functionLimit, f_tokenLimit, f_cellLimit, f_depthLimit, f_functions, f_accepted, f_placed, f_openBody, f_holeCount, f_nextRegion, f_changed, f_freeCell, nI (D + 1), f_calls, nI (tt + 1), nI vt, f_releasing, f_outcome, f_peakUsed, f_resultSize, a_sigType, a_params, a_kept, a_start, a_finished, a_tokOp, a_tokArg, a_tokType, a_tokScope, a_end, a_holeType, a_holeNest, a_holeScope, a_holeVars, a_parent, a_region, a_sigRegions, a_allRegions, a_cellA, a_cellB, a_link, a_live, a_frameFunction, upd a_vars (8 * D + sc) (a_values vt), a_saved, a_env, a_regionFirst, upd a_tasks tt (nI (2 * en (i + 1))), a_values, a_used, a_result) := by
  intro post hpo
  have htt := P.1
  have hA : (sp_A a_sigType a_tokOp a_tokArg) i = 2 := sp_A_5 h
  have c0 := pc_c0 P hi (by omega)
  have l0 := c0.2.2.2.1
  have hin : vp_in (nI i) 100 := vp_in_nI (by omega) (by decide)
  refine ⟨hin, ?_⟩
  rw [nI_clamp (by omega), h, hs]
  refine nm_e (br_f (by decide) (br_f (by decide) (br_f (by decide) (br_f (by decide) (br_t (by decide) (⟨hin, ?_⟩))))))
  refine ux_pop hv ?_
  rw [act8, nI_clamp (by omega), nI_1]
  refine ⟨vp_in_nI (by omega) (by decide), nm_e ⟨vp_in_nI (by omega) (by decide), ?_⟩⟩
  rw [nI_clamp (by omega), he _ l0, vz_2]
  exact ux_task ht hpo
theorem rc_isnil (hi : i < 100) (h : a_tokOp i = 11) (hv : vt < 512) : ru_C (f_functionLimit, f_tokenLimit, f_cellLimit, f_depthLimit, f_functions, f_accepted, f_placed, f_openBody, f_holeCount, f_nextRegion, f_changed, f_freeCell, f_active, f_calls, f_taskTop, nI (vt + 1), f_releasing, f_outcome, f_peakUsed, f_resultSize, a_sigType, a_params, a_kept, a_start, a_finished, a_tokOp, a_tokArg, a_tokType, a_tokScope, a_end, a_holeType, a_holeNest, a_holeScope, a_holeVars, a_parent, a_region, a_sigRegions, a_allRegions, a_cellA, a_cellB, a_link, a_live, a_frameFunction, a_vars, a_saved, a_env, a_regionFirst, a_tasks, a_values, a_used, a_result) i (f_functionLimit, f_tokenLimit, f_cellLimit, f_depthLimit, f_functions, f_accepted, f_placed, f_openBody, f_holeCount, f_nextRegion, f_changed, f_freeCell, f_active, f_calls, f_taskTop, nI (vt + 1), f_releasing, f_outcome, f_peakUsed, f_resultSize, a_sigType, a_params, a_kept, a_start, a_finished, a_tokOp, a_tokArg, a_tokType, a_tokScope, a_end, a_holeType, a_holeNest, a_holeScope, a_holeVars, a_parent, a_region, a_sigRegions, a_allRegions, a_cellA, a_cellB, a_link, a_live, a_frameFunction, a_vars, a_saved, a_env, a_regionFirst, a_tasks, upd a_values vt (if 0 ≤ a_values vt then 0 else 1), a_used, a_result) := by
  intro post hpo
  have hin : vp_in (nI i) 100 := vp_in_nI hi (by decide)
  refine ⟨hin, ?_⟩
  rw [nI_clamp (by omega), h]
  refine nm_e (br_f (by decide) (br_f (by decide) (br_f (by decide) (br_f (by decide) (br_f (by decide) (br_f (by decide) (br_f (by decide) (br_f (by decide) (br_f (by decide) (br_f (by decide) (br_t (by decide) (?_))))))))))))
  refine ux_pop hv ?_
  refine br_c (fun z => ?_) (fun z => ?_)
  · rw [if_pos z] at hpo; exact ux_push hv hpo
  · rw [if_neg z] at hpo; exact ux_push hv hpo
/-- which part is read -/
def rd_2 (o a : Int32) : Prop := o = 10 ∨ (o = 13 ∧ a = 1)
theorem ux_read {post : SX → Prop} (hi : i < 100) (hv : vt < 512) (K0 : ¬ rd_2 (a_tokOp i) (a_tokArg i) → wX_read_42 post (a_values vt) 0 f_functionLimit f_tokenLimit f_cellLimit f_depthLimit f_functions f_accepted f_placed f_openBody f_holeCount f_nextRegion f_changed f_freeCell f_active f_calls f_taskTop (nI vt) f_releasing f_outcome f_peakUsed f_resultSize a_sigType a_params a_kept a_start a_finished a_tokOp a_tokArg a_tokType a_tokScope a_end a_holeType a_holeNest a_holeScope a_holeVars a_parent a_region a_sigRegions a_allRegions a_cellA a_cellB a_link a_live a_frameFunction a_vars a_saved a_env a_regionFirst a_tasks a_values a_used a_result) (K1 : rd_2 (a_tokOp i) (a_tokArg i) → wX_read_42 post (a_values vt) 1 f_functionLimit f_tokenLimit f_cellLimit f_depthLimit f_functions f_accepted f_placed f_openBody f_holeCount f_nextRegion f_changed f_freeCell f_active f_calls f_taskTop (nI vt) f_releasing f_outcome f_peakUsed f_resultSize a_sigType a_params a_kept a_start a_finished a_tokOp a_tokArg a_tokType a_tokScope a_end a_holeType a_holeNest a_holeScope a_holeVars a_parent a_region a_sigRegions a_allRegions a_cellA a_cellB a_link a_live a_frameFunction a_vars a_saved a_env a_regionFirst a_tasks a_values a_used a_result) : wpX_read post (f_functionLimit, f_tokenLimit, f_cellLimit, f_depthLimit, f_functions, f_accepted, f_placed, f_openBody, f_holeCount, f_nextRegion, f_changed, f_freeCell, f_active, f_calls, f_taskTop, nI (vt + 1), f_releasing, f_outcome, f_peakUsed, f_resultSize, a_sigType, a_params, a_kept, a_start, a_finished, a_tokOp, a_tokArg, a_tokType, a_tokScope, a_end, a_holeType, a_holeNest, a_holeScope, a_holeVars, a_parent, a_region, a_sigRegions, a_allRegions, a_cellA, a_cellB, a_link, a_live, a_frameFunction, a_vars, a_saved, a_env, a_regionFirst, a_tasks, a_values, a_used, a_result) (nI i) := by
  have hin : vp_in (nI i) 100 := vp_in_nI hi (by decide)
  unfold wpX_read
  refine ux_pop hv ⟨hin, ?_⟩
  rw [nI_clamp (by omega)]
  unfold rd_2 at K0 K1
  refine br_c (fun z => K1 (Or.inl z)) (fun z => ⟨hin, br_c (fun y => ⟨hin, br_c (fun x => K1 (Or.inr ⟨y, x⟩)) (fun x => K0 (fun q => q.elim z (fun w => x w.2)))⟩) (fun y => K0 (fun q => q.elim z (fun w => y w.1)))⟩)
theorem rc_read_of {u1 : SX} (hi : i < 100) (h : a_tokOp i = 9 ∨ a_tokOp i = 10 ∨ a_tokOp i = 13) (E : ∀ post : SX → Prop, post u1 → wpX_read post (f_functionLimit, f_tokenLimit, f_cellLimit, f_depthLimit, f_functions, f_accepted, f_placed, f_openBody, f_holeCount, f_nextRegion, f_changed, f_freeCell, f_active, f_calls, f_taskTop, f_valueTop, f_releasing, f_outcome, f_peakUsed, f_resultSize, a_sigType, a_params, a_kept, a_start, a_finished, a_tokOp, a_tokArg, a_tokType, a_tokScope, a_end, a_holeType, a_holeNest, a_holeScope, a_holeVars, a_parent, a_region, a_sigRegions, a_allRegions, a_cellA, a_cellB, a_link, a_live, a_frameFunction, a_vars, a_saved, a_env, a_regionFirst, a_tasks, a_values, a_used, a_result) (nI i)) : ru_C (f_functionLimit, f_tokenLimit, f_cellLimit, f_depthLimit, f_functions, f_accepted, f_placed, f_openBody, f_holeCount, f_nextRegion, f_changed, f_freeCell, f_active, f_calls, f_taskTop, f_valueTop, f_releasing, f_outcome, f_peakUsed, f_resultSize, a_sigType, a_params, a_kept, a_start, a_finished, a_tokOp, a_tokArg, a_tokType, a_tokScope, a_end, a_holeType, a_holeNest, a_holeScope, a_holeVars, a_parent, a_region, a_sigRegions, a_allRegions, a_cellA, a_cellB, a_link, a_live, a_frameFunction, a_vars, a_saved, a_env, a_regionFirst, a_tasks, a_values, a_used, a_result) i u1 := by
  intro post hpo
  have hin : vp_in (nI i) 100 := vp_in_nI hi (by decide)
  refine ⟨hin, ?_⟩
  rw [nI_clamp (by omega)]
  have fin : wX_complete_193 post (nI i) f_functionLimit f_tokenLimit f_cellLimit f_depthLimit f_functions f_accepted f_placed f_openBody f_holeCount f_nextRegion f_changed f_freeCell f_active f_calls f_taskTop f_valueTop f_releasing f_outcome f_peakUsed f_resultSize a_sigType a_params a_kept a_start a_finished a_tokOp a_tokArg a_tokType a_tokScope a_end a_holeType a_holeNest a_holeScope a_holeVars a_parent a_region a_sigRegions a_allRegions a_cellA a_cellB a_link a_live a_frameFunction a_vars a_saved a_env a_regionFirst a_tasks a_values a_used a_result := by
    unfold wX_complete_193
    refine E _ ?_
    obtain ⟨f_functionLimit, f_tokenLimit, f_cellLimit, f_depthLimit, f_functions, f_accepted, f_placed, f_openBody, f_holeCount, f_nextRegion, f_changed, f_freeCell, f_active, f_calls, f_taskTop, f_valueTop, f_releasing, f_outcome, f_peakUsed, f_resultSize, a_sigType, a_params, a_kept, a_start, a_finished, a_tokOp, a_tokArg, a_tokType, a_tokScope, a_end, a_holeType, a_holeNest, a_holeScope, a_holeVars, a_parent, a_region, a_sigRegions, a_allRegions, a_cellA, a_cellB, a_link, a_live, a_frameFunction, a_vars, a_saved, a_env, a_regionFirst, a_tasks, a_values, a_used, a_result⟩ := u1
    exact hpo
  rcases h with h | h | h
  · rw [h]; exact nm_e (br_f (by decide) (br_f (by decide) (br_f (by decide) (br_f (by decide) (br_f (by decide) (br_f (by decide) (br_f (by decide) (br_f (by decide) (br_t (by decide) (fin))))))))))
  · rw [h]; exact nm_e (br_f (by decide) (br_f (by decide) (br_f (by decide) (br_f (by decide) (br_f (by decide) (br_f (by decide) (br_f (by decide) (br_f (by decide) (br_f (by decide) (br_t (by decide) (fin)))))))))))
  · rw [h]; exact nm_e (br_f (by decide) (br_t (by decide) (fin)))
theorem rc_readE (hi : i < 100) (h : a_tokOp i = 9 ∨ a_tokOp i = 10 ∨ a_tokOp i = 13) (hv : vt < 512) (hx : a_values vt = -1) : ru_C (f_functionLimit, f_tokenLimit, f_cellLimit, f_depthLimit, f_functions, f_accepted, f_placed, f_openBody, f_holeCount, f_nextRegion, f_changed, f_freeCell, f_active, f_calls, f_taskTop, nI (vt + 1), f_releasing, f_outcome, f_peakUsed, f_resultSize, a_sigType, a_params, a_kept, a_start, a_finished, a_tokOp, a_tokArg, a_tokType, a_tokScope, a_end, a_holeType, a_holeNest, a_holeScope, a_holeVars, a_parent, a_region, a_sigRegions, a_allRegions, a_cellA, a_cellB, a_link, a_live, a_frameFunction, a_vars, a_saved, a_env, a_regionFirst, a_tasks, a_values, a_used, a_result) i (f_functionLimit, f_tokenLimit, f_cellLimit, f_depthLimit, f_functions, f_accepted, f_placed, f_openBody, f_holeCount, f_nextRegion, f_changed, f_freeCell, f_active, f_calls, f_taskTop, nI vt, f_releasing, 2, f_peakUsed, f_resultSize, a_sigType, a_params, a_kept, a_start, a_finished, a_tokOp, a_tokArg, a_tokType, a_tokScope, a_end, a_holeType, a_holeNest, a_holeScope, a_holeVars, a_parent, a_region, a_sigRegions, a_allRegions, a_cellA, a_cellB, a_link, a_live, a_frameFunction, a_vars, a_saved, a_env, a_regionFirst, a_tasks, a_values, a_used, a_result) := by
  refine rc_read_of hi h (fun post hpo => ux_read hi hv (fun _ => ?_) (fun _ => ?_))
  · rw [hx]; exact br_f (by decide) hpo
  · rw [hx]; exact br_f (by decide) hpo
theorem rc_read {c cl : Nat} {x : Int32} (hi : i < 100) (h : a_tokOp i = 9 ∨ a_tokOp i = 10 ∨ a_tokOp i = 13) (hv : vt < 512) (hx : a_values vt = nI c) (hcl : f_cellLimit = nI cl) (hc : c < cl) (hl64 : cl ≤ 64) (hlv : a_live c = 1)
    (e0 : ¬ rd_2 (a_tokOp i) (a_tokArg i) → x = a_cellA c) (e1 : rd_2 (a_tokOp i) (a_tokArg i) → x = a_cellB c) : ru_C (f_functionLimit, f_tokenLimit, f_cellLimit, f_depthLimit, f_functions, f_accepted, f_placed, f_openBody, f_holeCount, f_nextRegion, f_changed, f_freeCell, f_active, f_calls, f_taskTop, nI (vt + 1), f_releasing, f_outcome, f_peakUsed, f_resultSize, a_sigType, a_params, a_kept, a_start, a_finished, a_tokOp, a_tokArg, a_tokType, a_tokScope, a_end, a_holeType, a_holeNest, a_holeScope, a_holeVars, a_parent, a_region, a_sigRegions, a_allRegions, a_cellA, a_cellB, a_link, a_live, a_frameFunction, a_vars, a_saved, a_env, a_regionFirst, a_tasks, a_values, a_used, a_result) i (f_functionLimit, f_tokenLimit, f_cellLimit, f_depthLimit, f_functions, f_accepted, f_placed, f_openBody, f_holeCount, f_nextRegion, f_changed, f_freeCell, f_active, f_calls, f_taskTop, nI (vt + 1), f_releasing, f_outcome, f_peakUsed, f_resultSize, a_sigType, a_params, a_kept, a_start, a_finished, a_tokOp, a_tokArg, a_tokType, a_tokScope, a_end, a_holeType, a_holeNest, a_holeScope, a_holeVars, a_parent, a_region, a_sigRegions, a_allRegions, a_cellA, a_cellB, a_link, a_live, a_frameFunction, a_vars, a_saved, a_env, a_regionFirst, a_tasks, upd a_values vt x, a_used, a_result) := by
  have hin : vp_in (nI c) 64 := vp_in_nI (by omega) (by decide)
  have cc : (nI c).toNatClampNeg = c := nI_clamp (by omega)
  refine rc_read_of hi h (fun post hpo => ux_read hi hv (fun q => ?_) (fun q => ?_))
  · rw [hx]
    refine br_t (nI_pos' (by omega)) (br_f (by rw [hcl]; exact nI_ge hc (by omega)) ⟨hin, ?_⟩)
    rw [cc, hlv]
    refine (br_f (by decide) (br_t (by decide) (⟨hin, ?_⟩)))
    rw [e0 q] at hpo
    exact ux_push hv hpo
  · rw [hx]
    refine br_t (nI_pos' (by omega)) (br_f (by rw [hcl]; exact nI_ge hc (by omega)) ⟨hin, ?_⟩)
    rw [cc, hlv]
    refine (br_f (by decide) (br_f (by decide) (⟨hin, ?_⟩)))
    rw [e1 q] at hpo
    exact ux_push hv hpo
theorem rc_make_of {u1 : SX} (hi : i < 100) (h : a_tokOp i = 8 ∨ a_tokOp i = 12) (E : ∀ post : SX → Prop, post u1 → wpX_make post (f_functionLimit, f_tokenLimit, f_cellLimit, f_depthLimit, f_functions, f_accepted, f_placed, f_openBody, f_holeCount, f_nextRegion, f_changed, f_freeCell, f_active, f_calls, f_taskTop, f_valueTop, f_releasing, f_outcome, f_peakUsed, f_resultSize, a_sigType, a_params, a_kept, a_start, a_finished, a_tokOp, a_tokArg, a_tokType, a_tokScope, a_end, a_holeType, a_holeNest, a_holeScope, a_holeVars, a_parent, a_region, a_sigRegions, a_allRegions, a_cellA, a_cellB, a_link, a_live, a_frameFunction, a_vars, a_saved, a_env, a_regionFirst, a_tasks, a_values, a_used, a_result) (nI i)) : ru_C (f_functionLimit, f_tokenLimit, f_cellLimit, f_depthLimit, f_functions, f_accepted, f_placed, f_openBody, f_holeCount, f_nextRegion, f_changed, f_freeCell, f_active, f_calls, f_taskTop, f_valueTop, f_releasing, f_outcome, f_peakUsed, f_resultSize, a_sigType, a_params, a_kept, a_start, a_finished, a_tokOp, a_tokArg, a_tokType, a_tokScope, a_end, a_holeType, a_holeNest, a_holeScope, a_holeVars, a_parent, a_region, a_sigRegions, a_allRegions, a_cellA, a_cellB, a_link, a_live, a_frameFunction, a_vars, a_saved, a_env, a_regionFirst, a_tasks, a_values, a_used, a_result) i u1 := by
  intro post hpo
  have hin : vp_in (nI i) 100 := vp_in_nI hi (by decide)
  refine ⟨hin, ?_⟩
  rw [nI_clamp (by omega)]
  have fin : wX_complete_162 post (nI i) f_functionLimit f_tokenLimit f_cellLimit f_depthLimit f_functions f_accepted f_placed f_openBody f_holeCount f_nextRegion f_changed f_freeCell f_active f_calls f_taskTop f_valueTop f_releasing f_outcome f_peakUsed f_resultSize a_sigType a_params a_kept a_start a_finished a_tokOp a_tokArg a_tokType a_tokScope a_end a_holeType a_holeNest a_holeScope a_holeVars a_parent a_region a_sigRegions a_allRegions a_cellA a_cellB a_link a_live a_frameFunction a_vars a_saved a_env a_regionFirst a_tasks a_values a_used a_result := by
    unfold wX_complete_162
    refine E _ ?_
    obtain ⟨f_functionLimit, f_tokenLimit, f_cellLimit, f_depthLimit, f_functions, f_accepted, f_placed, f_openBody, f_holeCount, f_nextRegion, f_changed, f_freeCell, f_active, f_calls, f_taskTop, f_valueTop, f_releasing, f_outcome, f_peakUsed, f_resultSize, a_sigType, a_params, a_kept, a_start, a_finished, a_tokOp, a_tokArg, a_tokType, a_tokScope, a_end, a_holeType, a_holeNest, a_holeScope, a_holeVars, a_parent, a_region, a_sigRegions, a_allRegions, a_cellA, a_cellB, a_link, a_live, a_frameFunction, a_vars, a_saved, a_env, a_regionFirst, a_tasks, a_values, a_used, a_result⟩ := u1
    exact hpo
  rcases h with h | h
  · rw [h]; exact nm_e (br_f (by decide) (br_f (by decide) (br_f (by decide) (br_f (by decide) (br_f (by decide) (br_f (by decide) (br_f (by decide) (br_t (by decide) (fin)))))))))
  · rw [h]; exact nm_e (br_f (by decide) (br_f (by decide) (br_f (by decide) (br_f (by decide) (br_f (by decide) (br_f (by decide) (br_f (by decide) (br_f (by decide) (br_f (by decide) (br_f (by decide) (br_f (by decide) (br_t (by decide) (fin)))))))))))))
theorem rc_makeF {n cl : Nat} (hi : i < 100) (h : a_tokOp i = 8 ∨ a_tokOp i = 12) (hv : vt + 1 < 512) (hcl : f_cellLimit = nI cl) (hu : a_used 1 + a_used 2 + a_used 3 = nI n) (hn : cl ≤ n) (hn2 : n < 1000) : ru_C (f_functionLimit, f_tokenLimit, f_cellLimit, f_depthLimit, f_functions, f_accepted, f_placed, f_openBody, f_holeCount, f_nextRegion, f_changed, f_freeCell, f_active, f_calls, f_taskTop, nI (vt + 2), f_releasing, f_outcome, f_peakUsed, f_resultSize, a_sigType, a_params, a_kept, a_start, a_finished, a_tokOp, a_tokArg, a_tokType, a_tokScope, a_end, a_holeType, a_holeNest, a_holeScope, a_holeVars, a_parent, a_region, a_sigRegions, a_allRegions, a_cellA, a_cellB, a_link, a_live, a_frameFunction, a_vars, a_saved, a_env, a_regionFirst, a_tasks, a_values, a_used, a_result) i (f_functionLimit, f_tokenLimit, f_cellLimit, f_depthLimit, f_functions, f_accepted, f_placed, f_openBody, f_holeCount, f_nextRegion, f_changed, f_freeCell, f_active, f_calls, f_taskTop, nI vt, f_releasing, 3, f_peakUsed, f_resultSize, a_sigType, a_params, a_kept, a_start, a_finished, a_tokOp, a_tokArg, a_tokType, a_tokScope, a_end, a_holeType, a_holeNest, a_holeScope, a_holeVars, a_parent, a_region, a_sigRegions, a_allRegions, a_cellA, a_cellB, a_link, a_live, a_frameFunction, a_vars, a_saved, a_env, a_regionFirst, a_tasks, a_values, a_used, a_result) := by
  refine rc_make_of hi h (fun post hpo => ?_)
  unfold wpX_make
  refine ux_pop (vt := vt + 1) (by omega) (ux_pop (vt := vt) (by omega) (nm_r hu ?_))
  exact br_t (by rw [hcl]; exact nI_le hn (by omega)) hpo
theorem rc_make {n cl c m R κ : Nat} {pk' : Int32} (hi : i < 100) (h : a_tokOp i = 8 ∨ a_tokOp i = 12) (hv : vt + 1 < 512) (hcl : f_cellLimit = nI cl) (hu : a_used 1 + a_used 2 + a_used 3 = nI n) (hn : n < cl) (hl64 : cl ≤ 64) (hfc : f_freeCell = nI c) (hc : c < 64) (hact : f_active = nI (D + 1)) (hD : D < 24)
    (hκ : a_tokType i = nI κ) (hκ3 : κ < 4) (hreg : a_region (if κ = 1 then 2 * i + 1 else 2 * i) = nI m) (hm : m < 200) (hi96 : i < 96) (henv : a_env (200 * D + m) = nI R) (hR : R < 4800) (hpk : pk' = if nI (n + 1) ≤ f_peakUsed then f_peakUsed else nI (n + 1)) :
    ru_C (f_functionLimit, f_tokenLimit, f_cellLimit, f_depthLimit, f_functions, f_accepted, f_placed, f_openBody, f_holeCount, f_nextRegion, f_changed, f_freeCell, f_active, f_calls, f_taskTop, nI (vt + 2), f_releasing, f_outcome, f_peakUsed, f_resultSize, a_sigType, a_params, a_kept, a_start, a_finished, a_tokOp, a_tokArg, a_tokType, a_tokScope, a_end, a_holeType, a_holeNest, a_holeScope, a_holeVars, a_parent, a_region, a_sigRegions, a_allRegions, a_cellA, a_cellB, a_link, a_live, a_frameFunction, a_vars, a_saved, a_env, a_regionFirst, a_tasks, a_values, a_used, a_result) i (f_functionLimit, f_tokenLimit, f_cellLimit, f_depthLimit, f_functions, f_accepted, f_placed, f_openBody, f_holeCount, f_nextRegion, f_changed, a_link c, f_active, f_calls, f_taskTop, nI (vt + 1), f_releasing, f_outcome, pk', f_resultSize, a_sigType, a_params, a_kept, a_start, a_finished, a_tokOp, a_tokArg, a_tokType, a_tokScope, a_end, a_holeType, a_holeNest, a_holeScope, a_holeVars, a_parent, a_region, a_sigRegions, a_allRegions, upd a_cellA c (a_values vt), upd a_cellB c (a_values (vt + 1)), upd a_link c (a_regionFirst R), upd a_live c 1, a_frameFunction, a_vars, a_saved, a_env, upd a_regionFirst R (nI c), a_tasks, upd a_values vt (nI c), upd a_used κ (a_used κ + 1), a_result) := by
  subst hfc hact
  refine rc_make_of hi h (fun post hpo => ?_)
  have hin : vp_in (nI i) 100 := vp_in_nI hi (by decide)
  have cc : (nI c).toNatClampNeg = c := nI_clamp (by omega)
  have hcin : vp_in (nI c) 64 := vp_in_nI hc (by decide)
  have cR : (nI R).toNatClampNeg = R := nI_clamp (by omega)
  have hRin : vp_in (nI R) 4800 := vp_in_nI hR (by decide)
  have cκ : (nI κ).toNatClampNeg = κ := nI_clamp (by omega)
  have hκin : vp_in (nI κ) 4 := vp_in_nI hκ3 (by decide)
  have e200 : (200 : Int32) * (nI (D + 1) - 1) + nI m = nI (200 * D + m) := by
    rw [nI_pred]
    show nI 200 * nI D + nI m = _
    rw [pk_mul, nI_add]
  have en1 : nI n + 1 = nI (n + 1) := nI_1 n
  unfold wpX_make
  refine ux_pop (vt := vt + 1) (by omega) (ux_pop (vt := vt) (by omega) (nm_r hu ?_))
  refine br_f (by rw [hcl]; exact nI_ge hn (by omega)) (br_t (nI_pos' (by omega)) ⟨hin, nm_r (e' := nI κ) (by rw [nI_clamp (by omega)]; exact hκ) ?_⟩)
  have w79 : ∀ z : Nat, z < 240 → a_region z = nI m → wX_make_79 post (a_values (vt + 1)) (a_values vt) (nI n) (nI κ) (nI z) f_functionLimit f_tokenLimit f_cellLimit f_depthLimit f_functions f_accepted f_placed f_openBody f_holeCount f_nextRegion f_changed (nI c) (nI (D + 1)) f_calls f_taskTop (nI vt) f_releasing f_outcome f_peakUsed f_resultSize a_sigType a_params a_kept a_start a_finished a_tokOp a_tokArg a_tokType a_tokScope a_end a_holeType a_holeNest a_holeScope a_holeVars a_parent a_region a_sigRegions a_allRegions a_cellA a_cellB a_link a_live a_frameFunction a_vars a_saved a_env a_regionFirst a_tasks a_values a_used a_result := by
    intro z hz hrz
    refine ⟨vp_in_nI hz (by decide), ?_⟩
    rw [nI_clamp (n := z) (by omega), hrz, e200]
    refine ⟨vp_in_nI (by omega) (by decide), ?_⟩
    rw [nI_clamp (n := 200 * D + m) (by omega), henv]
    refine ⟨hcin, ?_⟩
    rw [cc]
    refine nm_e ⟨hRin, ?_⟩
    rw [cR]
    refine ⟨hcin, nm_e ⟨hRin, nm_e ⟨hcin, nm_e ?_⟩⟩⟩
    refine ⟨hcin, ?_⟩
    rw [cc, vp_b1]
    refine nm_e ⟨hcin, nm_e ⟨hκin, ?_⟩⟩
    rw [cκ]
    refine ⟨hκin, nm_e ?_⟩
    refine br_c (fun y => ?_) (fun y => nm_e ?_)
    · rw [en1] at y
      rw [if_pos y] at hpk
      subst hpk
      exact ux_push (by omega) hpo
    · rw [en1] at y
      rw [if_neg y] at hpk
      subst hpk
      rw [en1]
      exact ux_push (by omega) hpo
  by_cases z : κ = 1
  · rw [if_pos z] at hreg
    refine br_t (by rw [z]; rfl) ?_
    rw [vz_2, nI_1]
    exact w79 _ (by omega) hreg
  · rw [if_neg z] at hreg
    refine br_f (fun q => z ((nI_eq (b := 1) (by omega) (by omega)).mp q)) ?_
    rw [vz_2]
    exact w79 _ (by omega) hreg
end
end
section
/-- position of child k -/
def cp (en : Nat → Nat) (p : Nat) : Nat → Nat
  | 0 => p + 1
  | k + 1 => en (cp en p k)
def nx_ok (op : Nat → Int32) (en : Nat → Nat) (kn vl : Nat → Int32) (b p k : Nat) : Prop := (op p = 4 → k = 1 → vl (b + (p + 1)) ≠ 0) ∧ (op p = 4 → k = 2 → vl (b + (p + 1)) = 0) ∧ kn (b + cp en p k) = 0
noncomputable def nx_st (A : Nat → Nat) (op : Nat → Int32) (en : Nat → Nat) (kn vl : Nat → Int32) (b p : Nat) : Option Nat :=
  @ite _ (0 < A p ∧ nx_ok op en kn vl b p 0) (Classical.propDecidable _) (some (cp en p 0)) (@ite _ (1 < A p ∧ nx_ok op en kn vl b p 1) (Classical.propDecidable _) (some (cp en p 1)) (@ite _ (2 < A p ∧ nx_ok op en kn vl b p 2) (Classical.propDecidable _) (some (cp en p 2)) none))
noncomputable def nx (A : Nat → Nat) (op : Nat → Int32) (en : Nat → Nat) (kn vl : Nat → Int32) (b : Nat) : Nat → Nat → Nat
  | 0, p => p
  | n + 1, p => match nx_st A op en kn vl b p with
    | none => p
    | some c => nx A op en kn vl b n c
section
variable {A en : Nat → Nat} {op kn vl : Nat → Int32} {b p : Nat}
theorem nx_none {n : Nat} (h : nx_st A op en kn vl b p = none) : nx A op en kn vl b (n + 1) p = p := by simp only [nx, h]
theorem nx_some {n c : Nat} (h : nx_st A op en kn vl b p = some c) : nx A op en kn vl b (n + 1) p = nx A op en kn vl b n c := by simp only [nx, h]
theorem nx_st_some {k : Nat} (hk : k < A p) (hA : A p ≤ 3) (h : nx_ok op en kn vl b p k) (hb : ∀ j, j < k → ¬ nx_ok op en kn vl b p j) : nx_st A op en kn vl b p = some (cp en p k) := by
  unfold nx_st
  rcases (by omega : k = 0 ∨ k = 1 ∨ k = 2) with rfl | rfl | rfl
  · rw [if_pos ⟨hk, h⟩]
  · rw [if_neg (fun q => hb 0 (by omega) q.2), if_pos ⟨hk, h⟩]
  · rw [if_neg (fun q => hb 0 (by omega) q.2), if_neg (fun q => hb 1 (by omega) q.2), if_pos ⟨hk, h⟩]
theorem nx_st_none (hb : ∀ j, j < A p → ¬ nx_ok op en kn vl b p j) : nx_st A op en kn vl b p = none := by
  unfold nx_st
  rw [if_neg (fun q => hb 0 q.1 q.2), if_neg (fun q => hb 1 q.1 q.2), if_neg (fun q => hb 2 q.1 q.2)]
end
section
variable {g_maxFunctions g_maxTokens g_maxCells g_maxDepth g_functions g_tokens g_open g_accepted g_made g_used g_most g_last g_answer g_calls g_depth : Int32} {b_result b_param b_start b_finished b_tokOp b_tokArg b_tokType b_first b_second b_cellKind b_freed b_fn b_born b_actual b_value b_known : Nat → Int32}
variable {nf t : Nat} {S scp : Nat → Int32} {sN fo en : Nat → Nat}
theorem pc_tv (P : pc_ok nf t S b_tokOp b_tokArg b_tokType scp sN fo en) : sp_tv nf t b_tokOp b_tokArg := fun q hq => ⟨sp_opk_13 (pc_opk P hq), fun h6 => by
  obtain ⟨g, g1, g2, -⟩ := sp_opk_6 (pc_opk P hq) h6
  exact ⟨g, g1, g2⟩⟩
theorem pc_cp (P : pc_ok nf t S b_tokOp b_tokArg b_tokType scp sN fo en) {p : Nat} (hp : p < t) : ∀ k, k < (sp_A S b_tokOp b_tokArg) p → pc_ch t S b_tokOp b_tokArg b_tokType sN fo en p k (cp en p k)
  | 0, h => pc_c0 P hp h
  | k + 1, h => by
    have ih := pc_cp P hp k (by omega)
    exact pc_ch_of P hp (hz_chs ih.1 (pc_en P ih.2.2.2.1) h)
theorem uy_endOf4 {post : Int32 → Prop} {q : Nat} (Z : sp_ys nf S b_param b_result) (P : pc_ok nf t S b_tokOp b_tokArg b_tokType scp sN fo en) (htok : g_tokens = nI t) (hq : q < t) (K : post (nI (en q))) : ∀ n i nd : Nat, q ≤ i → i < en q → t < n + i → (nd : Int) = hz_H (sp_A S b_tokOp b_tokArg) i - hz_H (sp_A S b_tokOp b_tokArg) q + 1 → wY_endOf_4 post g_maxFunctions g_maxTokens g_maxCells g_maxDepth g_functions g_tokens g_open g_accepted g_made g_used g_most g_last g_answer g_calls g_depth b_result b_param b_start b_finished b_tokOp b_tokArg b_tokType b_first b_second b_cellKind b_freed b_fn b_born b_actual b_value b_known n (nI nd) (nI i)
  | 0, i, nd, h1, h2, h3, _ => by have := pc_end P hq; omega
  | n + 1, i, nd, h1, h2, h3, h4 => by
    have ht := P.1
    have ee := pc_end P hq
    have hen := pc_en P hq
    have hi : hz_H (sp_A S b_tokOp b_tokArg) q ≤ hz_H (sp_A S b_tokOp b_tokArg) i := by
      rcases Nat.lt_or_ge q i with z | z
      · exact hen.2.2 i z h2
      · have : i = q := by omega
        subst this; omega
    obtain ⟨m, rfl⟩ : ∃ m, nd = m + 1 := ⟨nd - 1, by omega⟩
    have hH := hz_s (sp_A S b_tokOp b_tokArg) i
    have hb := hz_bd (sp_A_le S b_tokOp b_tokArg) i
    have hb2 := hz_bd (sp_A_le S b_tokOp b_tokArg) q
    have hA3 := sp_A_le S b_tokOp b_tokArg i
    refine br_f (by rw [htok]; exact nI_ge (by omega) (by omega)) ⟨vp_in_nI (by omega) (by decide), vp_in_nI (by omega) (by decide), ?_⟩
    rw [nI_clamp (by omega)]
    refine uy_hTok Z (pc_tv P) (by omega) (nm_r (nd_step m ((sp_A S b_tokOp b_tokArg) i)) ?_)
    rcases Nat.eq_zero_or_pos (m + (sp_A S b_tokOp b_tokArg) i) with z | z
    · refine br_t (by rw [z]; rfl) ?_
      have e : en q = i + 1 := by
        refine hz_en_u hen ⟨by omega, by omega, fun r r1 r2 => hen.2.2 r r1 (by omega)⟩
      rw [nI_1, ← e]; exact K
    · refine br_f (nI_ne0 z (by omega)) (nm_r (nI_1 i) (uy_endOf4 Z P htok hq K n (i + 1) (m + (sp_A S b_tokOp b_tokArg) i) (by omega) ?_ (by omega) (by omega)))
      rcases Nat.lt_or_ge (i + 1) (en q) with y | y
      · exact y
      · have e : en q = i + 1 := by omega
        have := hen.2.1
        rw [e] at this; omega
/-- the end of a position, also past the last token -/
theorem uy_endOf {post : Int32 → Prop} {q : Nat} (Z : sp_ys nf S b_param b_result) (P : pc_ok nf t S b_tokOp b_tokArg b_tokType scp sN fo en) (htok : g_tokens = nI t) (hq : q ≤ t) (K : ∀ r, r ≤ t → (q < t → r = en q) → (t ≤ q → r = t) → post (nI r)) : wpY_endOf post (g_maxFunctions, g_maxTokens, g_maxCells, g_maxDepth, g_functions, g_tokens, g_open, g_accepted, g_made, g_used, g_most, g_last, g_answer, g_calls, g_depth, b_result, b_param, b_start, b_finished, b_tokOp, b_tokArg, b_tokType, b_first, b_second, b_cellKind, b_freed, b_fn, b_born, b_actual, b_value, b_known) (nI q) := by
  have ht := P.1
  rcases Nat.lt_or_ge q t with z | z
  · have ee := pc_end P z
    exact ⟨t + 1, uy_endOf4 Z P htok z (K _ ee.2.2 (fun _ => rfl) (fun y => by omega)) (t + 1) q 1 (Nat.le_refl _) ee.1 (by omega) (by omega)⟩
  · refine ⟨1, br_t (by rw [htok]; exact nI_le z (by omega)) ?_⟩
    rw [htok]; exact K t (Nat.le_refl _) (fun y => by omega) (fun _ => rfl)
theorem uy_next64 {post : Int32 → Prop} {p b d m : Nat} (Z : sp_ys nf S b_param b_result) (P : pc_ok nf t S b_tokOp b_tokArg b_tokType scp sN fo en) (htok : g_tokens = nI t) (hp : p < t) (hb : b + 97 ≤ 2328) (hd : d < 10)
    (hs : ∀ k, k < (sp_A S b_tokOp b_tokArg) p → nx_ok b_tokOp en b_known b_value b p k → (∀ j, j < k → ¬ nx_ok b_tokOp en b_known b_value b p j) → wY_next_29 post (nI b) g_maxFunctions g_maxTokens g_maxCells g_maxDepth g_functions g_tokens g_open g_accepted g_made g_used g_most g_last g_answer g_calls g_depth b_result b_param b_start b_finished b_tokOp b_tokArg b_tokType b_first b_second b_cellKind b_freed b_fn b_born b_actual b_value b_known m (nI (cp en p k)) (nI (d + 1)))
    (hn : (∀ j, j < (sp_A S b_tokOp b_tokArg) p → ¬ nx_ok b_tokOp en b_known b_value b p j) → post (nI p)) :
    ∀ n k : Nat, k ≤ (sp_A S b_tokOp b_tokArg) p → (sp_A S b_tokOp b_tokArg) p < n + k → (∀ j, j < k → ¬ nx_ok b_tokOp en b_known b_value b p j) → wY_next_64 post (wY_next_29 post (nI b) g_maxFunctions g_maxTokens g_maxCells g_maxDepth g_functions g_tokens g_open g_accepted g_made g_used g_most g_last g_answer g_calls g_depth b_result b_param b_start b_finished b_tokOp b_tokArg b_tokType b_first b_second b_cellKind b_freed b_fn b_born b_actual b_value b_known m) (nI b) (nI p) (nI d) (nI ((sp_A S b_tokOp b_tokArg) p)) g_maxFunctions g_maxTokens g_maxCells g_maxDepth g_functions g_tokens g_open g_accepted g_made g_used g_most g_last g_answer g_calls g_depth b_result b_param b_start b_finished b_tokOp b_tokArg b_tokType b_first b_second b_cellKind b_freed b_fn b_born b_actual b_value b_known n (nI (cp en p k)) (-1) (nI k)
  | 0, k, h1, h2, _ => by omega
  | n + 1, k, h1, h2, h3 => by
    have ht := P.1
    have hA3 := sp_A_le S b_tokOp b_tokArg p
    rcases Nat.lt_or_ge k ((sp_A S b_tokOp b_tokArg) p) with z | z
    · have C := pc_cp P hp k z
      have lc := C.2.2.2.1
      have pin : vp_in (nI p) 96 := vp_in_nI (by omega) (by decide)
      refine br_f (nI_ge z (by omega)) (br_f (by decide) ⟨pin, ?_⟩)
      rw [nI_clamp (n := p) (by omega)]
      -- behind the choice
      have w151 : ∀ x6 : Int32, (wY_next_64 post (wY_next_29 post (nI b) g_maxFunctions g_maxTokens g_maxCells g_maxDepth g_functions g_tokens g_open g_accepted g_made g_used g_most g_last g_answer g_calls g_depth b_result b_param b_start b_finished b_tokOp b_tokArg b_tokType b_first b_second b_cellKind b_freed b_fn b_born b_actual b_value b_known m) (nI b) (nI p) (nI d) (nI ((sp_A S b_tokOp b_tokArg) p)) g_maxFunctions g_maxTokens g_maxCells g_maxDepth g_functions g_tokens g_open g_accepted g_made g_used g_most g_last g_answer g_calls g_depth b_result b_param b_start b_finished b_tokOp b_tokArg b_tokType b_first b_second b_cellKind b_freed b_fn b_born b_actual b_value b_known n (nI (cp en p (k + 1))) x6 (nI (k + 1))) → wY_next_151 post (wY_next_29 post (nI b) g_maxFunctions g_maxTokens g_maxCells g_maxDepth g_functions g_tokens g_open g_accepted g_made g_used g_most g_last g_answer g_calls g_depth b_result b_param b_start b_finished b_tokOp b_tokArg b_tokType b_first b_second b_cellKind b_freed b_fn b_born b_actual b_value b_known m) (wY_next_64 post (wY_next_29 post (nI b) g_maxFunctions g_maxTokens g_maxCells g_maxDepth g_functions g_tokens g_open g_accepted g_made g_used g_most g_last g_answer g_calls g_depth b_result b_param b_start b_finished b_tokOp b_tokArg b_tokType b_first b_second b_cellKind b_freed b_fn b_born b_actual b_value b_known m) (nI b) (nI p) (nI d) (nI ((sp_A S b_tokOp b_tokArg) p)) g_maxFunctions g_maxTokens g_maxCells g_maxDepth g_functions g_tokens g_open g_accepted g_made g_used g_most g_last g_answer g_calls g_depth b_result b_param b_start b_finished b_tokOp b_tokArg b_tokType b_first b_second b_cellKind b_freed b_fn b_born b_actual b_value b_known n) (nI b) (nI p) (nI d) (nI ((sp_A S b_tokOp b_tokArg) p)) (nI (cp en p k)) x6 (nI k) g_maxFunctions g_maxTokens g_maxCells g_maxDepth g_functions g_tokens g_open g_accepted g_made g_used g_most g_last g_answer g_calls g_depth b_result b_param b_start b_finished b_tokOp b_tokArg b_tokType b_first b_second b_cellKind b_freed b_fn b_born b_actual b_value b_known := by
        intro x6 h
        unfold wY_next_151
        refine uy_endOf Z P htok (by omega) (fun r r1 r2 _ => nm_r (nI_1 k) ?_)
        rw [r2 lc]; exact h
      have skip : ¬ nx_ok b_tokOp en b_known b_value b p k → wY_next_151 post (wY_next_29 post (nI b) g_maxFunctions g_maxTokens g_maxCells g_maxDepth g_functions g_tokens g_open g_accepted g_made g_used g_most g_last g_answer g_calls g_depth b_result b_param b_start b_finished b_tokOp b_tokArg b_tokType b_first b_second b_cellKind b_freed b_fn b_born b_actual b_value b_known m) (wY_next_64 post (wY_next_29 post (nI b) g_maxFunctions g_maxTokens g_maxCells g_maxDepth g_functions g_tokens g_open g_accepted g_made g_used g_most g_last g_answer g_calls g_depth b_result b_param b_start b_finished b_tokOp b_tokArg b_tokType b_first b_second b_cellKind b_freed b_fn b_born b_actual b_value b_known m) (nI b) (nI p) (nI d) (nI ((sp_A S b_tokOp b_tokArg) p)) g_maxFunctions g_maxTokens g_maxCells g_maxDepth g_functions g_tokens g_open g_accepted g_made g_used g_most g_last g_answer g_calls g_depth b_result b_param b_start b_finished b_tokOp b_tokArg b_tokType b_first b_second b_cellKind b_freed b_fn b_born b_actual b_value b_known n) (nI b) (nI p) (nI d) (nI ((sp_A S b_tokOp b_tokArg) p)) (nI (cp en p k)) (-1) (nI k) g_maxFunctions g_maxTokens g_maxCells g_maxDepth g_functions g_tokens g_open g_accepted g_made g_used g_most g_last g_answer g_calls g_depth b_result b_param b_start b_finished b_tokOp b_tokArg b_tokType b_first b_second b_cellKind b_freed b_fn b_born b_actual b_value b_known := by
        intro hnk
        refine w151 (-1) (uy_next64 Z P htok hp hb hd hs hn n (k + 1) (by omega) (by omega) (fun j hj => ?_))
        rcases Nat.lt_or_ge j k with y | y
        · exact h3 j y
        · have : j = k := by omega
          subst this; exact hnk
      have take : nx_ok b_tokOp en b_known b_value b p k → wY_next_151 post (wY_next_29 post (nI b) g_maxFunctions g_maxTokens g_maxCells g_maxDepth g_functions g_tokens g_open g_accepted g_made g_used g_most g_last g_answer g_calls g_depth b_result b_param b_start b_finished b_tokOp b_tokArg b_tokType b_first b_second b_cellKind b_freed b_fn b_born b_actual b_value b_known m) (wY_next_64 post (wY_next_29 post (nI b) g_maxFunctions g_maxTokens g_maxCells g_maxDepth g_functions g_tokens g_open g_accepted g_made g_used g_most g_last g_answer g_calls g_depth b_result b_param b_start b_finished b_tokOp b_tokArg b_tokType b_first b_second b_cellKind b_freed b_fn b_born b_actual b_value b_known m) (nI b) (nI p) (nI d) (nI ((sp_A S b_tokOp b_tokArg) p)) g_maxFunctions g_maxTokens g_maxCells g_maxDepth g_functions g_tokens g_open g_accepted g_made g_used g_most g_last g_answer g_calls g_depth b_result b_param b_start b_finished b_tokOp b_tokArg b_tokType b_first b_second b_cellKind b_freed b_fn b_born b_actual b_value b_known n) (nI b) (nI p) (nI d) (nI ((sp_A S b_tokOp b_tokArg) p)) (nI (cp en p k)) (nI (cp en p k)) (nI k) g_maxFunctions g_maxTokens g_maxCells g_maxDepth g_functions g_tokens g_open g_accepted g_made g_used g_most g_last g_answer g_calls g_depth b_result b_param b_start b_finished b_tokOp b_tokArg b_tokType b_first b_second b_cellKind b_freed b_fn b_born b_actual b_value b_known := by
        intro hok
        refine w151 _ ?_
        have fin : wY_next_165 post (wY_next_29 post (nI b) g_maxFunctions g_maxTokens g_maxCells g_maxDepth g_functions g_tokens g_open g_accepted g_made g_used g_most g_last g_answer g_calls g_depth b_result b_param b_start b_finished b_tokOp b_tokArg b_tokType b_first b_second b_cellKind b_freed b_fn b_born b_actual b_value b_known m) (nI b) (nI p) (nI d) (nI (cp en p k)) g_maxFunctions g_maxTokens g_maxCells g_maxDepth g_functions g_tokens g_open g_accepted g_made g_used g_most g_last g_answer g_calls g_depth b_result b_param b_start b_finished b_tokOp b_tokArg b_tokType b_first b_second b_cellKind b_freed b_fn b_born b_actual b_value b_known := br_t (nI_pos' (by omega)) (nm_r (nI_1 d) (hs k z hok h3))
        obtain ⟨n', rfl⟩ : ∃ n', n = n' + 1 := ⟨n - 1, by omega⟩
        exact br_c (fun _ => fin) (fun _ => br_t (nI_pos' (by omega)) fin)
      have ebc : nI b + nI (cp en p k) = nI (b + cp en p k) := nI_add _ _
      have w123 : ((b_tokOp p = 4 → k = 1 → b_value (b + (p + 1)) ≠ 0) ∧ (b_tokOp p = 4 → k = 2 → b_value (b + (p + 1)) = 0)) → wY_next_128 post (wY_next_29 post (nI b) g_maxFunctions g_maxTokens g_maxCells g_maxDepth g_functions g_tokens g_open g_accepted g_made g_used g_most g_last g_answer g_calls g_depth b_result b_param b_start b_finished b_tokOp b_tokArg b_tokType b_first b_second b_cellKind b_freed b_fn b_born b_actual b_value b_known m) (wY_next_64 post (wY_next_29 post (nI b) g_maxFunctions g_maxTokens g_maxCells g_maxDepth g_functions g_tokens g_open g_accepted g_made g_used g_most g_last g_answer g_calls g_depth b_result b_param b_start b_finished b_tokOp b_tokArg b_tokType b_first b_second b_cellKind b_freed b_fn b_born b_actual b_value b_known m) (nI b) (nI p) (nI d) (nI ((sp_A S b_tokOp b_tokArg) p)) g_maxFunctions g_maxTokens g_maxCells g_maxDepth g_functions g_tokens g_open g_accepted g_made g_used g_most g_last g_answer g_calls g_depth b_result b_param b_start b_finished b_tokOp b_tokArg b_tokType b_first b_second b_cellKind b_freed b_fn b_born b_actual b_value b_known n) (nI b) (nI p) (nI d) (nI ((sp_A S b_tokOp b_tokArg) p)) (nI (cp en p k)) (-1) (nI k) 1 g_maxFunctions g_maxTokens g_maxCells g_maxDepth g_functions g_tokens g_open g_accepted g_made g_used g_most g_last g_answer g_calls g_depth b_result b_param b_start b_finished b_tokOp b_tokArg b_tokType b_first b_second b_cellKind b_freed b_fn b_born b_actual b_value b_known := by
        intro hw
        refine br_f (by decide) ?_
        rw [ebc]
        refine ⟨vp_in_nI (by omega) (by decide), ?_⟩
        rw [nI_clamp (by omega)]
        exact br_c (fun y => take ⟨hw.1, hw.2, y⟩) (fun y => skip (fun q => y q.2.2))
      have w128 : ¬ nx_ok b_tokOp en b_known b_value b p k → wY_next_128 post (wY_next_29 post (nI b) g_maxFunctions g_maxTokens g_maxCells g_maxDepth g_functions g_tokens g_open g_accepted g_made g_used g_most g_last g_answer g_calls g_depth b_result b_param b_start b_finished b_tokOp b_tokArg b_tokType b_first b_second b_cellKind b_freed b_fn b_born b_actual b_value b_known m) (wY_next_64 post (wY_next_29 post (nI b) g_maxFunctions g_maxTokens g_maxCells g_maxDepth g_functions g_tokens g_open g_accepted g_made g_used g_most g_last g_answer g_calls g_depth b_result b_param b_start b_finished b_tokOp b_tokArg b_tokType b_first b_second b_cellKind b_freed b_fn b_born b_actual b_value b_known m) (nI b) (nI p) (nI d) (nI ((sp_A S b_tokOp b_tokArg) p)) g_maxFunctions g_maxTokens g_maxCells g_maxDepth g_functions g_tokens g_open g_accepted g_made g_used g_most g_last g_answer g_calls g_depth b_result b_param b_start b_finished b_tokOp b_tokArg b_tokType b_first b_second b_cellKind b_freed b_fn b_born b_actual b_value b_known n) (nI b) (nI p) (nI d) (nI ((sp_A S b_tokOp b_tokArg) p)) (nI (cp en p k)) (-1) (nI k) 0 g_maxFunctions g_maxTokens g_maxCells g_maxDepth g_functions g_tokens g_open g_accepted g_made g_used g_most g_last g_answer g_calls g_depth b_result b_param b_start b_finished b_tokOp b_tokArg b_tokType b_first b_second b_cellKind b_freed b_fn b_born b_actual b_value b_known := fun hnk => br_t (by decide) (skip hnk)
      have evp : nI b + nI p + 1 = nI (b + (p + 1)) := by rw [nI_add, nI_1, Nat.add_assoc]
      refine br_c (fun h4 => ?_) (fun h4 => w123 ⟨fun q => absurd q h4, fun q => absurd q h4⟩)
      have hA : (sp_A S b_tokOp b_tokArg) p = 3 := by unfold sp_A sp_ar; rw [h4]; rfl
      rcases (by omega : k = 0 ∨ k = 1 ∨ k = 2) with e | e | e
      · subst e
        exact br_t (by decide) (w123 ⟨fun _ q => absurd q (by decide), fun _ q => absurd q (by decide)⟩)
      · subst e
        refine br_f (by decide) (br_t (by decide) ?_)
        unfold wY_next_102
        rw [evp, nI_clamp (n := b + (p + 1)) (by omega)]
        refine ⟨vp_in_nI (by omega) (by decide), br_c (fun y => br_f (by decide) (w128 (fun q => q.1 h4 rfl y))) (fun y => br_t rfl (w123 ⟨fun _ _ => y, fun _ q => absurd q (by decide)⟩))⟩
      · subst e
        refine br_f (by decide) (br_f (by decide) ?_)
        unfold wY_next_102
        rw [evp, nI_clamp (n := b + (p + 1)) (by omega)]
        refine ⟨vp_in_nI (by omega) (by decide), br_c (fun y => br_t rfl (w123 ⟨fun _ q => absurd q (by decide), fun _ _ => y⟩)) (fun y => br_f (by decide) (w128 (fun q => y (q.2.1 h4 rfl))))⟩
    · have : k = (sp_A S b_tokOp b_tokArg) p := by omega
      exact br_t (nI_le z (by omega)) (br_f (by decide) (hn (fun j hj => h3 j (by omega))))
theorem uy_next29 {post : Int32 → Prop} {b : Nat} (Z : sp_ys nf S b_param b_result) (P : pc_ok nf t S b_tokOp b_tokArg b_tokType scp sN fo en) (htok : g_tokens = nI t) (hb : b + 97 ≤ 2328) : ∀ n p d : Nat, p < t → d ≤ 10 → 10 < n + d → post (nI (nx (sp_A S b_tokOp b_tokArg) b_tokOp en b_known b_value b (10 - d) p)) → wY_next_29 post (nI b) g_maxFunctions g_maxTokens g_maxCells g_maxDepth g_functions g_tokens g_open g_accepted g_made g_used g_most g_last g_answer g_calls g_depth b_result b_param b_start b_finished b_tokOp b_tokArg b_tokType b_first b_second b_cellKind b_freed b_fn b_born b_actual b_value b_known n (nI p) (nI d)
  | 0, p, d, h1, h2, h3, _ => by omega
  | n + 1, p, d, h1, h2, h3, K => by
    have ht := P.1
    have hA3 := sp_A_le S b_tokOp b_tokArg p
    rcases Nat.lt_or_ge d 10 with z | z
    · have pin : vp_in (nI p) 96 := vp_in_nI (by omega) (by decide)
      refine br_f (nI_ge (b := 10) z (by decide)) ⟨pin, pin, ?_⟩
      rw [nI_clamp (n := p) (by omega)]
      refine uy_hTok Z (pc_tv P) h1 (nm_r (nI_1 p) ⟨(sp_A S b_tokOp b_tokArg) p + 1, ?_⟩)
      have ed : 10 - d = (10 - (d + 1)) + 1 := by omega
      rw [ed] at K
      refine uy_next64 Z P htok h1 hb z (fun k k1 k2 k3 => ?_) (fun h => ?_) ((sp_A S b_tokOp b_tokArg) p + 1) 0 (by omega) (by omega) (fun j hj => by omega)
      · rw [nx_some (nx_st_some k1 hA3 k2 k3)] at K
        exact uy_next29 Z P htok hb n _ (d + 1) (pc_cp P h1 k k1).2.2.2.1 (by omega) (by omega) K
      · rw [nx_none (nx_st_none h)] at K
        exact K
    · have : d = 10 := by omega
      subst this
      exact br_t (by decide) K
theorem uy_next {post : Int32 → Prop} {D f : Nat} (Z : sp_ys nf S b_param b_result) (P : pc_ok nf t S b_tokOp b_tokArg b_tokType scp sN fo en) (htok : g_tokens = nI t) (hst : ∀ f, f < nf → b_start f = nI (sN f)) (hdep : g_depth = nI (D + 1)) (hD : D < 24) (hf : f < nf) (hfn : b_fn D = nI f) (K : post (nI (nx (sp_A S b_tokOp b_tokArg) b_tokOp en b_known b_value (D * 97) 10 (sN f)))) : wpY_next post (g_maxFunctions, g_maxTokens, g_maxCells, g_maxDepth, g_functions, g_tokens, g_open, g_accepted, g_made, g_used, g_most, g_last, g_answer, g_calls, g_depth, b_result, b_param, b_start, b_finished, b_tokOp, b_tokArg, b_tokType, b_first, b_second, b_cellKind, b_freed, b_fn, b_born, b_actual, b_value, b_known) := by
  have hn := P.2.1
  have e1 : (nI (D + 1) - 1) * 97 = nI (D * 97) := by
    rw [nI_pred]
    exact pk_mul D 97
  subst hdep
  refine nm_r e1 ?_
  rw [nI_pred, nI_clamp (n := D) (by omega), hfn, nI_clamp (n := f) (by omega), hst f hf]
  exact ⟨vp_in_nI (by omega) (by decide), vp_in_nI (by omega) (by decide), nm_e ⟨11, uy_next29 Z P htok (by omega) 11 (sN f) 0 (pc_sN P hf).1 (by omega) (by omega) K⟩⟩
end
end
section
def yw_E (v v1 : SY) : Prop := ∀ post : SY → Prop, post v1 → wpY_evaluate post v
def yw_L (rl : Int32) (v v1 : SY) : Prop := ∀ post : SY → Prop, post v1 → wpY_leave post v rl
section
variable {g_maxFunctions g_maxTokens g_maxCells g_maxDepth g_functions g_tokens g_open g_accepted g_made g_used g_most g_last g_answer g_calls g_depth : Int32} {b_result b_param b_start b_finished b_tokOp b_tokArg b_tokType b_first b_second b_cellKind b_freed b_fn b_born b_actual b_value b_known : Nat → Int32}
variable {nf t D f i : Nat} {S scp : Nat → Int32} {sN fo en : Nat → Nat}
theorem uy_566 {post : SY → Prop} {b : Nat} {x : Int32} (h : b + i < 2328) (k : post (g_maxFunctions, g_maxTokens, g_maxCells, g_maxDepth, g_functions, g_tokens, g_open, g_accepted, g_made, g_used, g_most, g_last, g_answer, g_calls, g_depth, b_result, b_param, b_start, b_finished, b_tokOp, b_tokArg, b_tokType, b_first, b_second, b_cellKind, b_freed, b_fn, b_born, b_actual, upd b_value (b + i) x, upd b_known (b + i) 1)) : wY_evaluate_566 post (nI i) (nI b) x g_maxFunctions g_maxTokens g_maxCells g_maxDepth g_functions g_tokens g_open g_accepted g_made g_used g_most g_last g_answer g_calls g_depth b_result b_param b_start b_finished b_tokOp b_tokArg b_tokType b_first b_second b_cellKind b_freed b_fn b_born b_actual b_value b_known := by
  unfold wY_evaluate_566
  rw [nI_add, nI_clamp (by omega), vp_b1]
  exact ⟨vp_in_nI h (by decide), nm_e ⟨vp_in_nI h (by decide), nm_e k⟩⟩
theorem ye_const (Z : sp_ys nf S b_param b_result) (P : pc_ok nf t S b_tokOp b_tokArg b_tokType scp sN fo en) (htok : g_tokens = nI t) (hst : ∀ f, f < nf → b_start f = nI (sN f)) (hD : D < 24) (hf : f < nf) (hfn : b_fn D = nI f) (hi : i < t) (hnx : nx (sp_A S b_tokOp b_tokArg) b_tokOp en b_known b_value (D * 97) 10 (sN f) = i) (h : b_tokOp i = 1) : yw_E (g_maxFunctions, g_maxTokens, g_maxCells, g_maxDepth, g_functions, g_tokens, g_open, g_accepted, g_made, g_used, g_most, g_last, g_answer, g_calls, nI (D + 1), b_result, b_param, b_start, b_finished, b_tokOp, b_tokArg, b_tokType, b_first, b_second, b_cellKind, b_freed, b_fn, b_born, b_actual, b_value, b_known) (g_maxFunctions, g_maxTokens, g_maxCells, g_maxDepth, g_functions, g_tokens, g_open, g_accepted, g_made, g_used, g_most, g_last, g_answer, g_calls, nI (D + 1), b_result, b_param, b_start, b_finished, b_tokOp, b_tokArg, b_tokType, b_first, b_second, b_cellKind, b_freed, b_fn, b_born, b_actual, upd b_value (D * 97 + i) (b_tokArg i), upd b_known (D * 97 + i) 1) := by
  intro post hpo
  have ht := P.1
  have hn := P.2.1
  have e1 : (nI (D + 1) - 1) * 97 = nI (D * 97) := by
    rw [nI_pred]
    exact pk_mul D 97
  have iin : vp_in (nI i) 96 := vp_in_nI (by omega) (by decide)
  have evp : nI (D * 97) + nI i + 1 = nI (D * 97 + (i + 1)) := by rw [nI_add, nI_1, Nat.add_assoc]
  unfold wpY_evaluate
  refine uy_next Z P htok hst rfl hD hf hfn ?_
  rw [hnx]
  refine nm_r e1 ⟨iin, ?_⟩
  rw [nI_clamp (n := i) (by omega)]
  refine nm_e ⟨iin, nm_e ?_⟩
  rw [nI_1 i]
  refine uy_endOf Z P htok (by omega) (fun e2 l2 h2 h2' => uy_endOf Z P htok l2 (fun e3 l3 h3 h3' => ?_))
  rw [evp, nI_add (D * 97) e2, nI_add (D * 97) e3, nI_clamp (n := D * 97 + (i + 1)) (by omega), nI_clamp (n := D * 97 + e2) (by omega), nI_clamp (n := D * 97 + e3) (by omega)]
  refine ⟨vp_in_nI (by omega) (by decide), nm_e ⟨vp_in_nI (by omega) (by decide), nm_e ⟨vp_in_nI (by omega) (by decide), nm_e ?_⟩⟩⟩
  rw [h]
  exact (br_t (by decide) (uy_566 (by omega) hpo))
theorem ye_nil (Z : sp_ys nf S b_param b_result) (P : pc_ok nf t S b_tokOp b_tokArg b_tokType scp sN fo en) (htok : g_tokens = nI t) (hst : ∀ f, f < nf → b_start f = nI (sN f)) (hD : D < 24) (hf : f < nf) (hfn : b_fn D = nI f) (hi : i < t) (hnx : nx (sp_A S b_tokOp b_tokArg) b_tokOp en b_known b_value (D * 97) 10 (sN f) = i) (h : b_tokOp i = 7) : yw_E (g_maxFunctions, g_maxTokens, g_maxCells, g_maxDepth, g_functions, g_tokens, g_open, g_accepted, g_made, g_used, g_most, g_last, g_answer, g_calls, nI (D + 1), b_result, b_param, b_start, b_finished, b_tokOp, b_tokArg, b_tokType, b_first, b_second, b_cellKind, b_freed, b_fn, b_born, b_actual, b_value, b_known) (g_maxFunctions, g_maxTokens, g_maxCells, g_maxDepth, g_functions, g_tokens, g_open, g_accepted, g_made, g_used, g_most, g_last, g_answer, g_calls, nI (D + 1), b_result, b_param, b_start, b_finished, b_tokOp, b_tokArg, b_tokType, b_first, b_second, b_cellKind, b_freed, b_fn, b_born, b_actual, upd b_value (D * 97 + i) (-1), upd b_known (D * 97 + i) 1) := by
  intro post hpo
  have ht := P.1
  have hn := P.2.1
  have e1 : (nI (D + 1) - 1) * 97 = nI (D * 97) := by
    rw [nI_pred]
    exact pk_mul D 97
  have iin : vp_in (nI i) 96 := vp_in_nI (by omega) (by decide)
  have evp : nI (D * 97) + nI i + 1 = nI (D * 97 + (i + 1)) := by rw [nI_add, nI_1, Nat.add_assoc]
  unfold wpY_evaluate
  refine uy_next Z P htok hst rfl hD hf hfn ?_
  rw [hnx]
  refine nm_r e1 ⟨iin, ?_⟩
  rw [nI_clamp (n := i) (by omega)]
  refine nm_e ⟨iin, nm_e ?_⟩
  rw [nI_1 i]
  refine uy_endOf Z P htok (by omega) (fun e2 l2 h2 h2' => uy_endOf Z P htok l2 (fun e3 l3 h3 h3' => ?_))
  rw [evp, nI_add (D * 97) e2, nI_add (D * 97) e3, nI_clamp (n := D * 97 + (i + 1)) (by omega), nI_clamp (n := D * 97 + e2) (by omega), nI_clamp (n := D * 97 + e3) (by omega)]
  refine ⟨vp_in_nI (by omega) (by decide), nm_e ⟨vp_in_nI (by omega) (by decide), nm_e ⟨vp_in_nI (by omega) (by decide), nm_e ?_⟩⟩⟩
  rw [h]
  exact (br_f (by decide) (br_f (by decide) (br_f (by decide) (br_f (by decide) (br_f (by decide) (br_f (by decide) (br_t (by decide) (uy_566 (by omega) hpo))))))))
theorem ye_isnil (Z : sp_ys nf S b_param b_result) (P : pc_ok nf t S b_tokOp b_tokArg b_tokType scp sN fo en) (htok : g_tokens = nI t) (hst : ∀ f, f < nf → b_start f = nI (sN f)) (hD : D < 24) (hf : f < nf) (hfn : b_fn D = nI f) (hi : i < t) (hnx : nx (sp_A S b_tokOp b_tokArg) b_tokOp en b_known b_value (D * 97) 10 (sN f) = i) (h : b_tokOp i = 11) : yw_E (g_maxFunctions, g_maxTokens, g_maxCells, g_maxDepth, g_functions, g_tokens, g_open, g_accepted, g_made, g_used, g_most, g_last, g_answer, g_calls, nI (D + 1), b_result, b_param, b_start, b_finished, b_tokOp, b_tokArg, b_tokType, b_first, b_second, b_cellKind, b_freed, b_fn, b_born, b_actual, b_value, b_known) (g_maxFunctions, g_maxTokens, g_maxCells, g_maxDepth, g_functions, g_tokens, g_open, g_accepted, g_made, g_used, g_most, g_last, g_answer, g_calls, nI (D + 1), b_result, b_param, b_start, b_finished, b_tokOp, b_tokArg, b_tokType, b_first, b_second, b_cellKind, b_freed, b_fn, b_born, b_actual, upd b_value (D * 97 + i) (if 0 ≤ b_value (D * 97 + (i + 1)) then 0 else 1), upd b_known (D * 97 + i) 1) := by
  intro post hpo
  have ht := P.1
  have hn := P.2.1
  have e1 : (nI (D + 1) - 1) * 97 = nI (D * 97) := by
    rw [nI_pred]
    exact pk_mul D 97
  have iin : vp_in (nI i) 96 := vp_in_nI (by omega) (by decide)
  have evp : nI (D * 97) + nI i + 1 = nI (D * 97 + (i + 1)) := by rw [nI_add, nI_1, Nat.add_assoc]
  unfold wpY_evaluate
  refine uy_next Z P htok hst rfl hD hf hfn ?_
  rw [hnx]
  refine nm_r e1 ⟨iin, ?_⟩
  rw [nI_clamp (n := i) (by omega)]
  refine nm_e ⟨iin, nm_e ?_⟩
  rw [nI_1 i]
  refine uy_endOf Z P htok (by omega) (fun e2 l2 h2 h2' => uy_endOf Z P htok l2 (fun e3 l3 h3 h3' => ?_))
  rw [evp, nI_add (D * 97) e2, nI_add (D * 97) e3, nI_clamp (n := D * 97 + (i + 1)) (by omega), nI_clamp (n := D * 97 + e2) (by omega), nI_clamp (n := D * 97 + e3) (by omega)]
  refine ⟨vp_in_nI (by omega) (by decide), nm_e ⟨vp_in_nI (by omega) (by decide), nm_e ⟨vp_in_nI (by omega) (by decide), nm_e ?_⟩⟩⟩
  rw [h]
  refine (br_f (by decide) (br_f (by decide) (br_f (by decide) (br_f (by decide) (br_f (by decide) (br_f (by decide) (br_f (by decide) (br_t (by decide) (br_c (fun z => ?_) (fun z => ?_))))))))))
  · rw [if_pos z] at hpo; exact uy_566 (by omega) hpo
  · rw [if_neg z] at hpo; exact uy_566 (by omega) hpo
theorem ye_math (Z : sp_ys nf S b_param b_result) (P : pc_ok nf t S b_tokOp b_tokArg b_tokType scp sN fo en) (htok : g_tokens = nI t) (hst : ∀ f, f < nf → b_start f = nI (sN f)) (hD : D < 24) (hf : f < nf) (hfn : b_fn D = nI f) (hi : i < t) (hnx : nx (sp_A S b_tokOp b_tokArg) b_tokOp en b_known b_value (D * 97) 10 (sN f) = i) (h : b_tokOp i = 3) : yw_E (g_maxFunctions, g_maxTokens, g_maxCells, g_maxDepth, g_functions, g_tokens, g_open, g_accepted, g_made, g_used, g_most, g_last, g_answer, g_calls, nI (D + 1), b_result, b_param, b_start, b_finished, b_tokOp, b_tokArg, b_tokType, b_first, b_second, b_cellKind, b_freed, b_fn, b_born, b_actual, b_value, b_known) (g_maxFunctions, g_maxTokens, g_maxCells, g_maxDepth, g_functions, g_tokens, g_open, g_accepted, g_made, g_used, g_most, g_last, g_answer, g_calls, nI (D + 1), b_result, b_param, b_start, b_finished, b_tokOp, b_tokArg, b_tokType, b_first, b_second, b_cellKind, b_freed, b_fn, b_born, b_actual, upd b_value (D * 97 + i) (mth (b_tokArg i) (b_value (D * 97 + (i + 1))) (b_value (D * 97 + en (i + 1)))), upd b_known (D * 97 + i) 1) := by
  intro post hpo
  have ht := P.1
  have hn := P.2.1
  have e1 : (nI (D + 1) - 1) * 97 = nI (D * 97) := by
    rw [nI_pred]
    exact pk_mul D 97
  have iin : vp_in (nI i) 96 := vp_in_nI (by omega) (by decide)
  have evp : nI (D * 97) + nI i + 1 = nI (D * 97 + (i + 1)) := by rw [nI_add, nI_1, Nat.add_assoc]
  unfold wpY_evaluate
  refine uy_next Z P htok hst rfl hD hf hfn ?_
  rw [hnx]
  refine nm_r e1 ⟨iin, ?_⟩
  rw [nI_clamp (n := i) (by omega)]
  refine nm_e ⟨iin, nm_e ?_⟩
  rw [nI_1 i]
  refine uy_endOf Z P htok (by omega) (fun e2 l2 h2 h2' => uy_endOf Z P htok l2 (fun e3 l3 h3 h3' => ?_))
  rw [evp, nI_add (D * 97) e2, nI_add (D * 97) e3, nI_clamp (n := D * 97 + (i + 1)) (by omega), nI_clamp (n := D * 97 + e2) (by omega), nI_clamp (n := D * 97 + e3) (by omega)]
  refine ⟨vp_in_nI (by omega) (by decide), nm_e ⟨vp_in_nI (by omega) (by decide), nm_e ⟨vp_in_nI (by omega) (by decide), nm_e ?_⟩⟩⟩
  have hA : (sp_A S b_tokOp b_tokArg) i = 2 := by unfold sp_A sp_ar; rw [h]; rfl
  have c0 := pc_c0 P hi (by omega)
  have E2 := h2 c0.2.2.2.1
  subst E2
  rw [h]
  unfold mth at hpo
  refine (br_f (by decide) (br_f (by decide) (br_t (by decide) (br_c (fun z => ?_) (fun z => br_c (fun y => ?_) (fun y => br_c (fun x => ?_) (fun x => br_c (fun w => ?_) (fun w => ?_))))))))
  · rw [if_pos z] at hpo; exact uy_566 (by omega) hpo
  · rw [if_neg z, if_pos y] at hpo; exact uy_566 (by omega) hpo
  · rw [if_neg z, if_neg y, if_pos x] at hpo; exact uy_566 (by omega) hpo
  · rw [if_neg z, if_neg y, if_neg x, if_pos w] at hpo; exact uy_566 (by omega) hpo
  · rw [if_neg z, if_neg y, if_neg x, if_neg w] at hpo; exact uy_566 (by omega) hpo
theorem ye_if (Z : sp_ys nf S b_param b_result) (P : pc_ok nf t S b_tokOp b_tokArg b_tokType scp sN fo en) (htok : g_tokens = nI t) (hst : ∀ f, f < nf → b_start f = nI (sN f)) (hD : D < 24) (hf : f < nf) (hfn : b_fn D = nI f) (hi : i < t) (hnx : nx (sp_A S b_tokOp b_tokArg) b_tokOp en b_known b_value (D * 97) 10 (sN f) = i) (h : b_tokOp i = 4) : yw_E (g_maxFunctions, g_maxTokens, g_maxCells, g_maxDepth, g_functions, g_tokens, g_open, g_accepted, g_made, g_used, g_most, g_last, g_answer, g_calls, nI (D + 1), b_result, b_param, b_start, b_finished, b_tokOp, b_tokArg, b_tokType, b_first, b_second, b_cellKind, b_freed, b_fn, b_born, b_actual, b_value, b_known) (g_maxFunctions, g_maxTokens, g_maxCells, g_maxDepth, g_functions, g_tokens, g_open, g_accepted, g_made, g_used, g_most, g_last, g_answer, g_calls, nI (D + 1), b_result, b_param, b_start, b_finished, b_tokOp, b_tokArg, b_tokType, b_first, b_second, b_cellKind, b_freed, b_fn, b_born, b_actual, upd b_value (D * 97 + i) (if b_value (D * 97 + (i + 1)) = 0 then b_value (D * 97 + en (en (i + 1))) else b_value (D * 97 + en (i + 1))), upd b_known (D * 97 + i) 1) := by
  intro post hpo
  have ht := P.1
  have hn := P.2.1
  have e1 : (nI (D + 1) - 1) * 97 = nI (D * 97) := by
    rw [nI_pred]
    exact pk_mul D 97
  have iin : vp_in (nI i) 96 := vp_in_nI (by omega) (by decide)
  have evp : nI (D * 97) + nI i + 1 = nI (D * 97 + (i + 1)) := by rw [nI_add, nI_1, Nat.add_assoc]
  unfold wpY_evaluate
  refine uy_next Z P htok hst rfl hD hf hfn ?_
  rw [hnx]
  refine nm_r e1 ⟨iin, ?_⟩
  rw [nI_clamp (n := i) (by omega)]
  refine nm_e ⟨iin, nm_e ?_⟩
  rw [nI_1 i]
  refine uy_endOf Z P htok (by omega) (fun e2 l2 h2 h2' => uy_endOf Z P htok l2 (fun e3 l3 h3 h3' => ?_))
  rw [evp, nI_add (D * 97) e2, nI_add (D * 97) e3, nI_clamp (n := D * 97 + (i + 1)) (by omega), nI_clamp (n := D * 97 + e2) (by omega), nI_clamp (n := D * 97 + e3) (by omega)]
  refine ⟨vp_in_nI (by omega) (by decide), nm_e ⟨vp_in_nI (by omega) (by decide), nm_e ⟨vp_in_nI (by omega) (by decide), nm_e ?_⟩⟩⟩
  have hA : (sp_A S b_tokOp b_tokArg) i = 3 := by unfold sp_A sp_ar; rw [h]; rfl
  have c0 := pc_c0 P hi (by omega)
  have c1 := pc_c1 P hi (by omega)
  have E2 := h2 c0.2.2.2.1
  subst E2
  have E3 := h3 c1.2.2.2.1
  subst E3
  rw [h]
  refine (br_f (by decide) (br_f (by decide) (br_f (by decide) (br_t (by decide) (br_c (fun z => ?_) (fun z => ?_))))))
  · rw [if_pos z] at hpo; exact uy_566 (by omega) hpo
  · rw [if_neg z] at hpo; exact uy_566 (by omega) hpo
theorem ye_let (Z : sp_ys nf S b_param b_result) (P : pc_ok nf t S b_tokOp b_tokArg b_tokType scp sN fo en) (htok : g_tokens = nI t) (hst : ∀ f, f < nf → b_start f = nI (sN f)) (hD : D < 24) (hf : f < nf) (hfn : b_fn D = nI f) (hi : i < t) (hnx : nx (sp_A S b_tokOp b_tokArg) b_tokOp en b_known b_value (D * 97) 10 (sN f) = i) (h : b_tokOp i = 5) : yw_E (g_maxFunctions, g_maxTokens, g_maxCells, g_maxDepth, g_functions, g_tokens, g_open, g_accepted, g_made, g_used, g_most, g_last, g_answer, g_calls, nI (D + 1), b_result, b_param, b_start, b_finished, b_tokOp, b_tokArg, b_tokType, b_first, b_second, b_cellKind, b_freed, b_fn, b_born, b_actual, b_value, b_known) (g_maxFunctions, g_maxTokens, g_maxCells, g_maxDepth, g_functions, g_tokens, g_open, g_accepted, g_made, g_used, g_most, g_last, g_answer, g_calls, nI (D + 1), b_result, b_param, b_start, b_finished, b_tokOp, b_tokArg, b_tokType, b_first, b_second, b_cellKind, b_freed, b_fn, b_born, b_actual, upd b_value (D * 97 + i) (b_value (D * 97 + en (i + 1))), upd b_known (D * 97 + i) 1) := by
  intro post hpo
  have ht := P.1
  have hn := P.2.1
  have e1 : (nI (D + 1) - 1) * 97 = nI (D * 97) := by
    rw [nI_pred]
    exact pk_mul D 97
  have iin : vp_in (nI i) 96 := vp_in_nI (by omega) (by decide)
  have evp : nI (D * 97) + nI i + 1 = nI (D * 97 + (i + 1)) := by rw [nI_add, nI_1, Nat.add_assoc]
  unfold wpY_evaluate
  refine uy_next Z P htok hst rfl hD hf hfn ?_
  rw [hnx]
  refine nm_r e1 ⟨iin, ?_⟩
  rw [nI_clamp (n := i) (by omega)]
  refine nm_e ⟨iin, nm_e ?_⟩
  rw [nI_1 i]
  refine uy_endOf Z P htok (by omega) (fun e2 l2 h2 h2' => uy_endOf Z P htok l2 (fun e3 l3 h3 h3' => ?_))
  rw [evp, nI_add (D * 97) e2, nI_add (D * 97) e3, nI_clamp (n := D * 97 + (i + 1)) (by omega), nI_clamp (n := D * 97 + e2) (by omega), nI_clamp (n := D * 97 + e3) (by omega)]
  refine ⟨vp_in_nI (by omega) (by decide), nm_e ⟨vp_in_nI (by omega) (by decide), nm_e ⟨vp_in_nI (by omega) (by decide), nm_e ?_⟩⟩⟩
  have hA : (sp_A S b_tokOp b_tokArg) i = 2 := sp_A_5 h
  have c0 := pc_c0 P hi (by omega)
  have E2 := h2 c0.2.2.2.1
  subst E2
  rw [h]
  exact (br_f (by decide) (br_f (by decide) (br_f (by decide) (br_f (by decide) (br_t (by decide) (uy_566 (by omega) hpo))))))
theorem ye_var (Z : sp_ys nf S b_param b_result) (P : pc_ok nf t S b_tokOp b_tokArg b_tokType scp sN fo en) (htok : g_tokens = nI t) (hst : ∀ f, f < nf → b_start f = nI (sN f)) (hD : D < 24) (hf : f < nf) (hfn : b_fn D = nI f) (hi : i < t) (hnx : nx (sp_A S b_tokOp b_tokArg) b_tokOp en b_known b_value (D * 97) 10 (sN f) = i) {v : Nat} {x : Int32} (hfo : f = fo i) (h : b_tokOp i = 2) (ha : b_tokArg i = nI v) (hv8 : v < 8) (hvar : pc_var S b_tokOp b_tokArg b_tokType sN fo i v) (k1 : v < sp_n S (fo i) → x = b_actual (2 * D + v)) (k2 : ∀ j, sN (fo i) ≤ j → hz_bl (sp_L b_tokOp) (sp_A S b_tokOp b_tokArg) j i → sp_sc S b_tokOp b_tokArg (fo i) (sN (fo i)) j = v → x = b_value (D * 97 + (j + 1))) : yw_E (g_maxFunctions, g_maxTokens, g_maxCells, g_maxDepth, g_functions, g_tokens, g_open, g_accepted, g_made, g_used, g_most, g_last, g_answer, g_calls, nI (D + 1), b_result, b_param, b_start, b_finished, b_tokOp, b_tokArg, b_tokType, b_first, b_second, b_cellKind, b_freed, b_fn, b_born, b_actual, b_value, b_known) (g_maxFunctions, g_maxTokens, g_maxCells, g_maxDepth, g_functions, g_tokens, g_open, g_accepted, g_made, g_used, g_most, g_last, g_answer, g_calls, nI (D + 1), b_result, b_param, b_start, b_finished, b_tokOp, b_tokArg, b_tokType, b_first, b_second, b_cellKind, b_freed, b_fn, b_born, b_actual, upd b_value (D * 97 + i) x, upd b_known (D * 97 + i) 1) := by
  intro post hpo
  have ht := P.1
  have hn := P.2.1
  have e1 : (nI (D + 1) - 1) * 97 = nI (D * 97) := by
    rw [nI_pred]
    exact pk_mul D 97
  have iin : vp_in (nI i) 96 := vp_in_nI (by omega) (by decide)
  have evp : nI (D * 97) + nI i + 1 = nI (D * 97 + (i + 1)) := by rw [nI_add, nI_1, Nat.add_assoc]
  unfold wpY_evaluate
  refine uy_next Z P htok hst rfl hD hf hfn ?_
  rw [hnx]
  refine nm_r e1 ⟨iin, ?_⟩
  rw [nI_clamp (n := i) (by omega)]
  refine nm_e ⟨iin, nm_e ?_⟩
  rw [nI_1 i]
  refine uy_endOf Z P htok (by omega) (fun e2 l2 h2 h2' => uy_endOf Z P htok l2 (fun e3 l3 h3 h3' => ?_))
  rw [evp, nI_add (D * 97) e2, nI_add (D * 97) e3, nI_clamp (n := D * 97 + (i + 1)) (by omega), nI_clamp (n := D * 97 + e2) (by omega), nI_clamp (n := D * 97 + e3) (by omega)]
  refine ⟨vp_in_nI (by omega) (by decide), nm_e ⟨vp_in_nI (by omega) (by decide), nm_e ⟨vp_in_nI (by omega) (by decide), nm_e ?_⟩⟩⟩
  subst hfo
  have hle := sp_n_le S (fo i)
  have hin := pc_in P hi
  rw [h, ha]
  refine (br_f (by decide) (br_t (by decide) (?_)))
  have e2 : (2 : Int32) * (nI (D + 1) - 1) + nI v = nI (2 * D + v) := by
    rw [nI_pred]
    show nI 2 * nI D + nI v = _
    rw [pk_mul, nI_add]
  rw [e2, nI_pred, nI_clamp (n := D) (by omega), hfn]
  refine ⟨vp_in_nI (by omega) (by decide), uy_bind Z (pc_tv P) ht (Nat.le_of_lt hi) hf (hst _ hf) hin.1 (fun j j1 j2 j3 => ?_) (fun hno => ?_)⟩
  · have lj := j2.2.1.1
    have sj : sp_sc S b_tokOp b_tokArg (fo i) (sN (fo i)) j = v := by
      have lt := hz_bc_lt j1 j2
      have s8 := (pc_scp P hi).2
      have : sp_sc S b_tokOp b_tokArg (fo i) (sN (fo i)) j < 100 := by unfold sp_sc at s8 ⊢; omega
      exact (nI_eq (by omega) (by omega)).mp j3
    have ej : nI (D * 97) + nI j + 1 = nI (D * 97 + (j + 1)) := by rw [nI_add, nI_1, Nat.add_assoc]
    rw [ej, nI_clamp (n := D * 97 + (j + 1)) (by omega)]
    refine br_t (nI_pos' (by omega)) ⟨vp_in_nI (by omega) (by decide), ?_⟩
    rw [k2 j j1 j2 sj] at hpo
    exact uy_566 (by omega) hpo
  · rcases hvar with ⟨z, -⟩ | ⟨z, j, j1, j2, j3, j4, -⟩
    · refine br_f (by decide) ⟨vp_in_nI (by omega) (by decide), ?_⟩
      rw [nI_clamp (n := 2 * D + v) (by omega)]
      rw [k1 z] at hpo
      exact uy_566 (by omega) hpo
    · exact absurd (by rw [j4]) (hno j j1 j3)
theorem ye_readE (Z : sp_ys nf S b_param b_result) (P : pc_ok nf t S b_tokOp b_tokArg b_tokType scp sN fo en) (htok : g_tokens = nI t) (hst : ∀ f, f < nf → b_start f = nI (sN f)) (hD : D < 24) (hf : f < nf) (hfn : b_fn D = nI f) (hi : i < t) (hnx : nx (sp_A S b_tokOp b_tokArg) b_tokOp en b_known b_value (D * 97) 10 (sN f) = i) (h : b_tokOp i = 9 ∨ b_tokOp i = 10) (hx : b_value (D * 97 + (i + 1)) = -1) : yw_E (g_maxFunctions, g_maxTokens, g_maxCells, g_maxDepth, g_functions, g_tokens, g_open, g_accepted, g_made, g_used, g_most, g_last, g_answer, g_calls, nI (D + 1), b_result, b_param, b_start, b_finished, b_tokOp, b_tokArg, b_tokType, b_first, b_second, b_cellKind, b_freed, b_fn, b_born, b_actual, b_value, b_known) (g_maxFunctions, g_maxTokens, g_maxCells, g_maxDepth, g_functions, g_tokens, g_open, g_accepted, g_made, g_used, g_most, 2, g_answer, g_calls, nI (D + 1), b_result, b_param, b_start, b_finished, b_tokOp, b_tokArg, b_tokType, b_first, b_second, b_cellKind, b_freed, b_fn, b_born, b_actual, b_value, b_known) := by
  intro post hpo
  have ht := P.1
  have hn := P.2.1
  have e1 : (nI (D + 1) - 1) * 97 = nI (D * 97) := by
    rw [nI_pred]
    exact pk_mul D 97
  have iin : vp_in (nI i) 96 := vp_in_nI (by omega) (by decide)
  have evp : nI (D * 97) + nI i + 1 = nI (D * 97 + (i + 1)) := by rw [nI_add, nI_1, Nat.add_assoc]
  unfold wpY_evaluate
  refine uy_next Z P htok hst rfl hD hf hfn ?_
  rw [hnx]
  refine nm_r e1 ⟨iin, ?_⟩
  rw [nI_clamp (n := i) (by omega)]
  refine nm_e ⟨iin, nm_e ?_⟩
  rw [nI_1 i]
  refine uy_endOf Z P htok (by omega) (fun e2 l2 h2 h2' => uy_endOf Z P htok l2 (fun e3 l3 h3 h3' => ?_))
  rw [evp, nI_add (D * 97) e2, nI_add (D * 97) e3, nI_clamp (n := D * 97 + (i + 1)) (by omega), nI_clamp (n := D * 97 + e2) (by omega), nI_clamp (n := D * 97 + e3) (by omega)]
  refine ⟨vp_in_nI (by omega) (by decide), nm_e ⟨vp_in_nI (by omega) (by decide), nm_e ⟨vp_in_nI (by omega) (by decide), nm_e ?_⟩⟩⟩
  rw [hx]
  rcases h with h | h
  · rw [h]
    exact (br_f (by decide) (br_f (by decide) (br_f (by decide) (br_f (by decide) (br_f (by decide) (br_f (by decide) (br_f (by decide) (br_f (by decide) (br_f (by decide) (br_f (by decide) (br_f (by decide) (br_f (by decide) (br_f (by decide) hpo)))))))))))))
  · rw [h]
    exact (br_f (by decide) (br_f (by decide) (br_f (by decide) (br_f (by decide) (br_f (by decide) (br_f (by decide) (br_f (by decide) (br_f (by decide) (br_f (by decide) (br_f (by decide) (br_f (by decide) (br_f (by decide) (br_f (by decide) hpo)))))))))))))
theorem ye_read {e md : Nat} {x : Int32} (Z : sp_ys nf S b_param b_result) (P : pc_ok nf t S b_tokOp b_tokArg b_tokType scp sN fo en) (htok : g_tokens = nI t) (hst : ∀ f, f < nf → b_start f = nI (sN f)) (hD : D < 24) (hf : f < nf) (hfn : b_fn D = nI f) (hi : i < t) (hnx : nx (sp_A S b_tokOp b_tokArg) b_tokOp en b_known b_value (D * 97) 10 (sN f) = i) (h : b_tokOp i = 9 ∨ b_tokOp i = 10 ∨ (b_tokOp i = 13 ∧ (b_tokArg i = 0 ∨ b_tokArg i = 1))) (hx : b_value (D * 97 + (i + 1)) = nI e) (hmd : g_made = nI md) (he : e < md) (hm96 : md ≤ 9600) (hfr : b_freed e = 0)
    (x0 : ¬ rd_2 (b_tokOp i) (b_tokArg i) → x = b_first e) (x1 : rd_2 (b_tokOp i) (b_tokArg i) → x = b_second e) : yw_E (g_maxFunctions, g_maxTokens, g_maxCells, g_maxDepth, g_functions, g_tokens, g_open, g_accepted, g_made, g_used, g_most, 0, g_answer, g_calls, nI (D + 1), b_result, b_param, b_start, b_finished, b_tokOp, b_tokArg, b_tokType, b_first, b_second, b_cellKind, b_freed, b_fn, b_born, b_actual, b_value, b_known) (g_maxFunctions, g_maxTokens, g_maxCells, g_maxDepth, g_functions, g_tokens, g_open, g_accepted, g_made, g_used, g_most, 0, g_answer, g_calls, nI (D + 1), b_result, b_param, b_start, b_finished, b_tokOp, b_tokArg, b_tokType, b_first, b_second, b_cellKind, b_freed, b_fn, b_born, b_actual, upd b_value (D * 97 + i) x, upd b_known (D * 97 + i) 1) := by
  intro post hpo
  have ht := P.1
  have hn := P.2.1
  have e1 : (nI (D + 1) - 1) * 97 = nI (D * 97) := by
    rw [nI_pred]
    exact pk_mul D 97
  have iin : vp_in (nI i) 96 := vp_in_nI (by omega) (by decide)
  have evp : nI (D * 97) + nI i + 1 = nI (D * 97 + (i + 1)) := by rw [nI_add, nI_1, Nat.add_assoc]
  unfold wpY_evaluate
  refine uy_next Z P htok hst rfl hD hf hfn ?_
  rw [hnx]
  refine nm_r e1 ⟨iin, ?_⟩
  rw [nI_clamp (n := i) (by omega)]
  refine nm_e ⟨iin, nm_e ?_⟩
  rw [nI_1 i]
  refine uy_endOf Z P htok (by omega) (fun e2 l2 h2 h2' => uy_endOf Z P htok l2 (fun e3 l3 h3 h3' => ?_))
  rw [evp, nI_add (D * 97) e2, nI_add (D * 97) e3, nI_clamp (n := D * 97 + (i + 1)) (by omega), nI_clamp (n := D * 97 + e2) (by omega), nI_clamp (n := D * 97 + e3) (by omega)]
  refine ⟨vp_in_nI (by omega) (by decide), nm_e ⟨vp_in_nI (by omega) (by decide), nm_e ⟨vp_in_nI (by omega) (by decide), nm_e ?_⟩⟩⟩
  rw [hx]
  have ein : vp_in (nI e) 9600 := vp_in_nI (by omega) (by decide)
  have ce : (nI e).toNatClampNeg = e := nI_clamp (by omega)
  have w539 : x = b_first e → wY_evaluate_539 post (nI i) (nI (D * 97)) (nI e) g_maxFunctions g_maxTokens g_maxCells g_maxDepth g_functions g_tokens g_open g_accepted g_made g_used g_most 0 g_answer g_calls (nI (D + 1)) b_result b_param b_start b_finished b_tokOp b_tokArg b_tokType b_first b_second b_cellKind b_freed b_fn b_born b_actual b_value b_known := by
    intro hxe
    refine ⟨ein, ?_⟩
    rw [ce]
    rw [hxe] at hpo
    exact br_t rfl (uy_566 (by omega) hpo)
  have w549 : x = b_second e → wY_evaluate_549 post (nI i) (nI (D * 97)) (nI e) g_maxFunctions g_maxTokens g_maxCells g_maxDepth g_functions g_tokens g_open g_accepted g_made g_used g_most 0 g_answer g_calls (nI (D + 1)) b_result b_param b_start b_finished b_tokOp b_tokArg b_tokType b_first b_second b_cellKind b_freed b_fn b_born b_actual b_value b_known := by
    intro hxe
    refine ⟨ein, ?_⟩
    rw [ce]
    rw [hxe] at hpo
    exact br_t rfl (uy_566 (by omega) hpo)
  have w489 : ∀ o, b_tokOp i = o → (o = 9 ∨ o = 10 ∨ (o = 13 ∧ (b_tokArg i = 0 ∨ b_tokArg i = 1))) → wY_evaluate_489 post (nI i) (nI (D * 97)) o (b_tokArg i) 0 (nI e) g_maxFunctions g_maxTokens g_maxCells g_maxDepth g_functions g_tokens g_open g_accepted g_made g_used g_most 0 g_answer g_calls (nI (D + 1)) b_result b_param b_start b_finished b_tokOp b_tokArg b_tokType b_first b_second b_cellKind b_freed b_fn b_born b_actual b_value b_known := by
    intro o ho hh
    unfold rd_2 at x0 x1
    rw [ho] at x0 x1
    refine br_f (nI_pos (by omega)) (br_f (by rw [hmd]; exact nI_ge he (by omega)) ⟨ein, ?_⟩)
    rw [ce]
    refine br_t hfr ?_
    rcases hh with rfl | rfl | ⟨rfl, ha⟩
    · exact (br_t (by decide) (w539 (x0 (fun q => q.elim (fun w => absurd w (by decide)) (fun w => absurd w.1 (by decide))))))
    · exact (br_f (by decide) (br_f (by decide) (w549 (x1 (Or.inl rfl)))))
    · rcases ha with ha | ha
      · rw [ha] at x0 ⊢
        exact (br_f (by decide) (br_t (by decide) (br_t (by decide) (w539 (x0 (fun q => q.elim (fun w => absurd w (by decide)) (fun w => absurd w.2 (by decide))))))))
      · rw [ha] at x1 ⊢
        exact (br_f (by decide) (br_t (by decide) (br_f (by decide) (w549 (x1 (Or.inr ⟨rfl, rfl⟩))))))
  rcases h with h | h | ⟨h, ha⟩
  · have W := w489 _ h (Or.inl rfl)
    rw [h]
    exact (br_f (by decide) (br_f (by decide) (br_f (by decide) (br_f (by decide) (br_f (by decide) (br_f (by decide) (br_f (by decide) (br_f (by decide) (br_f (by decide) (br_f (by decide) (br_f (by decide) (br_t (nI_pos' (by omega)) W))))))))))))
  · have W := w489 _ h (Or.inr (Or.inl rfl))
    rw [h]
    exact (br_f (by decide) (br_f (by decide) (br_f (by decide) (br_f (by decide) (br_f (by decide) (br_f (by decide) (br_f (by decide) (br_f (by decide) (br_f (by decide) (br_f (by decide) (br_f (by decide) (br_t (nI_pos' (by omega)) W))))))))))))
  · have W := w489 _ h (Or.inr (Or.inr ⟨rfl, ha⟩))
    rw [h]
    exact (br_f (by decide) (br_f (by decide) (br_f (by decide) (br_f (by decide) (br_f (by decide) (br_f (by decide) (br_f (by decide) (br_f (by decide) (br_f (by decide) (br_f (by decide) (br_t (by decide) (W))))))))))))
theorem ye_makeF (Z : sp_ys nf S b_param b_result) (P : pc_ok nf t S b_tokOp b_tokArg b_tokType scp sN fo en) (htok : g_tokens = nI t) (hst : ∀ f, f < nf → b_start f = nI (sN f)) (hD : D < 24) (hf : f < nf) (hfn : b_fn D = nI f) (hi : i < t) (hnx : nx (sp_A S b_tokOp b_tokArg) b_tokOp en b_known b_value (D * 97) 10 (sN f) = i) {cl : Nat} (h : b_tokOp i = 8 ∨ b_tokOp i = 12) (hu : g_used = g_maxCells) : yw_E (g_maxFunctions, g_maxTokens, g_maxCells, g_maxDepth, g_functions, g_tokens, g_open, g_accepted, g_made, g_used, g_most, g_last, g_answer, g_calls, nI (D + 1), b_result, b_param, b_start, b_finished, b_tokOp, b_tokArg, b_tokType, b_first, b_second, b_cellKind, b_freed, b_fn, b_born, b_actual, b_value, b_known) (g_maxFunctions, g_maxTokens, g_maxCells, g_maxDepth, g_functions, g_tokens, g_open, g_accepted, g_made, g_used, g_most, 3, g_answer, g_calls, nI (D + 1), b_result, b_param, b_start, b_finished, b_tokOp, b_tokArg, b_tokType, b_first, b_second, b_cellKind, b_freed, b_fn, b_born, b_actual, b_value, b_known) := by
  intro post hpo
  have ht := P.1
  have hn := P.2.1
  have e1 : (nI (D + 1) - 1) * 97 = nI (D * 97) := by
    rw [nI_pred]
    exact pk_mul D 97
  have iin : vp_in (nI i) 96 := vp_in_nI (by omega) (by decide)
  have evp : nI (D * 97) + nI i + 1 = nI (D * 97 + (i + 1)) := by rw [nI_add, nI_1, Nat.add_assoc]
  unfold wpY_evaluate
  refine uy_next Z P htok hst rfl hD hf hfn ?_
  rw [hnx]
  refine nm_r e1 ⟨iin, ?_⟩
  rw [nI_clamp (n := i) (by omega)]
  refine nm_e ⟨iin, nm_e ?_⟩
  rw [nI_1 i]
  refine uy_endOf Z P htok (by omega) (fun e2 l2 h2 h2' => uy_endOf Z P htok l2 (fun e3 l3 h3 h3' => ?_))
  rw [evp, nI_add (D * 97) e2, nI_add (D * 97) e3, nI_clamp (n := D * 97 + (i + 1)) (by omega), nI_clamp (n := D * 97 + e2) (by omega), nI_clamp (n := D * 97 + e3) (by omega)]
  refine ⟨vp_in_nI (by omega) (by decide), nm_e ⟨vp_in_nI (by omega) (by decide), nm_e ⟨vp_in_nI (by omega) (by decide), nm_e ?_⟩⟩⟩
  rcases h with h | h
  · rw [h]
    exact (br_f (by decide) (br_f (by decide) (br_f (by decide) (br_f (by decide) (br_f (by decide) (br_f (by decide) (br_f (by decide) (br_f (by decide) (br_t (by decide) (br_t hu hpo))))))))))
  · rw [h]
    exact (br_f (by decide) (br_f (by decide) (br_f (by decide) (br_f (by decide) (br_f (by decide) (br_f (by decide) (br_f (by decide) (br_f (by decide) (br_f (by decide) (br_t (by decide) (br_t hu hpo)))))))))))
theorem ty_byte {τ : Int32} (h : τ = 1 ∨ τ = 2 ∨ τ = 3) : vp_nar .byte τ.toInt8.toInt32 = τ := by
  rcases h with rfl | rfl | rfl <;> (rw [vp_nar_byte]; decide)
theorem vp_b0 : vp_nar .boolean 0 = 0 := by rfl
theorem ye_make {md n : Nat} {mo' : Int32} (Z : sp_ys nf S b_param b_result) (P : pc_ok nf t S b_tokOp b_tokArg b_tokType scp sN fo en) (htok : g_tokens = nI t) (hst : ∀ f, f < nf → b_start f = nI (sN f)) (hD : D < 24) (hf : f < nf) (hfn : b_fn D = nI f) (hi : i < t) (hnx : nx (sp_A S b_tokOp b_tokArg) b_tokOp en b_known b_value (D * 97) 10 (sN f) = i) (h : b_tokOp i = 8 ∨ b_tokOp i = 12) (hu : g_used = nI n) (hnu : ¬ nI n = g_maxCells) (hn1000 : n < 1000) (hmd : g_made = nI md) (hm96 : md < 9600) (hty : b_tokType i = 1 ∨ b_tokType i = 2 ∨ b_tokType i = 3) (hmo : mo' = if nI (n + 1) ≤ g_most then g_most else nI (n + 1)) :
    yw_E (g_maxFunctions, g_maxTokens, g_maxCells, g_maxDepth, g_functions, g_tokens, g_open, g_accepted, g_made, g_used, g_most, g_last, g_answer, g_calls, nI (D + 1), b_result, b_param, b_start, b_finished, b_tokOp, b_tokArg, b_tokType, b_first, b_second, b_cellKind, b_freed, b_fn, b_born, b_actual, b_value, b_known) (g_maxFunctions, g_maxTokens, g_maxCells, g_maxDepth, g_functions, g_tokens, g_open, g_accepted, nI (md + 1), nI (n + 1), mo', g_last, g_answer, g_calls, nI (D + 1), b_result, b_param, b_start, b_finished, b_tokOp, b_tokArg, b_tokType, upd b_first md (b_value (D * 97 + (i + 1))), upd b_second md (b_value (D * 97 + en (i + 1))), upd b_cellKind md (b_tokType i), upd b_freed md 0, b_fn, b_born, b_actual, upd b_value (D * 97 + i) (nI md), upd b_known (D * 97 + i) 1) := by
  subst hmd hu
  intro post hpo
  have ht := P.1
  have hn := P.2.1
  have e1 : (nI (D + 1) - 1) * 97 = nI (D * 97) := by
    rw [nI_pred]
    exact pk_mul D 97
  have iin : vp_in (nI i) 96 := vp_in_nI (by omega) (by decide)
  have evp : nI (D * 97) + nI i + 1 = nI (D * 97 + (i + 1)) := by rw [nI_add, nI_1, Nat.add_assoc]
  unfold wpY_evaluate
  refine uy_next Z P htok hst rfl hD hf hfn ?_
  rw [hnx]
  refine nm_r e1 ⟨iin, ?_⟩
  rw [nI_clamp (n := i) (by omega)]
  refine nm_e ⟨iin, nm_e ?_⟩
  rw [nI_1 i]
  refine uy_endOf Z P htok (by omega) (fun e2 l2 h2 h2' => uy_endOf Z P htok l2 (fun e3 l3 h3 h3' => ?_))
  rw [evp, nI_add (D * 97) e2, nI_add (D * 97) e3, nI_clamp (n := D * 97 + (i + 1)) (by omega), nI_clamp (n := D * 97 + e2) (by omega), nI_clamp (n := D * 97 + e3) (by omega)]
  refine ⟨vp_in_nI (by omega) (by decide), nm_e ⟨vp_in_nI (by omega) (by decide), nm_e ⟨vp_in_nI (by omega) (by decide), nm_e ?_⟩⟩⟩
  have hA : (sp_A S b_tokOp b_tokArg) i = 2 := by
    rcases h with h | h
    · unfold sp_A sp_ar; rw [h]; rfl
    · unfold sp_A sp_ar; rw [h]; rfl
  have c0 := pc_c0 P hi (by omega)
  have E2 := h2 c0.2.2.2.1
  subst E2
  have min : vp_in (nI md) 9600 := vp_in_nI hm96 (by decide)
  have cm : (nI md).toNatClampNeg = md := nI_clamp (by omega)
  have W : wY_evaluate_357 post (nI i) (nI (D * 97)) (b_value (D * 97 + (i + 1))) (b_value (D * 97 + en (i + 1))) g_maxFunctions g_maxTokens g_maxCells g_maxDepth g_functions g_tokens g_open g_accepted (nI md) (nI n) g_most g_last g_answer g_calls (nI (D + 1)) b_result b_param b_start b_finished b_tokOp b_tokArg b_tokType b_first b_second b_cellKind b_freed b_fn b_born b_actual b_value b_known := by
    refine br_f hnu ⟨min, ?_⟩
    rw [cm, nI_clamp (n := i) (by omega), ty_byte hty, vp_b0]
    refine nm_e ⟨min, nm_e ⟨iin, min, nm_e ⟨min, nm_e (nm_r (nI_1 md) (nm_r (nI_1 n) ?_))⟩⟩⟩
    refine br_c (fun z => ?_) (fun z => ?_)
    · rw [if_pos z] at hmo
      subst hmo
      exact uy_566 (by omega) hpo
    · rw [if_neg z] at hmo
      subst hmo
      exact uy_566 (by omega) hpo
  rcases h with h | h
  · rw [h]
    exact (br_f (by decide) (br_f (by decide) (br_f (by decide) (br_f (by decide) (br_f (by decide) (br_f (by decide) (br_f (by decide) (br_f (by decide) (br_t (by decide) (W))))))))))
  · rw [h]
    exact (br_f (by decide) (br_f (by decide) (br_f (by decide) (br_f (by decide) (br_f (by decide) (br_f (by decide) (br_f (by decide) (br_f (by decide) (br_f (by decide) (br_t (by decide) (W)))))))))))
/-- the new row of known -/
def yz_kn (kn : Nat → Int32) (d : Nat) : Nat → Int32 := fun j => if d * 97 ≤ j ∧ j < d * 97 + 97 then 0 else kn j
def yz_e (en : Nat → Nat) (t q : Nat) : Nat := if q < t then en q else t
theorem uy_enter52 {post : SY → Prop} {d c : Nat} (hd : d < 24) (K : post (g_maxFunctions, g_maxTokens, g_maxCells, g_maxDepth, g_functions, g_tokens, g_open, g_accepted, g_made, g_used, g_most, g_last, g_answer, nI (c + 1), nI (d + 1), b_result, b_param, b_start, b_finished, b_tokOp, b_tokArg, b_tokType, b_first, b_second, b_cellKind, b_freed, b_fn, b_born, b_actual, b_value, yz_kn b_known d)) :
    ∀ (n i : Nat) (kn : Nat → Int32), i ≤ 97 → 97 < n + i → (∀ j, j < i → kn (d * 97 + j) = 0) → (∀ j, j < d * 97 ∨ d * 97 + 97 ≤ j → kn j = b_known j) → wY_enter_52 post g_maxFunctions g_maxTokens g_maxCells g_maxDepth g_functions g_tokens g_open g_accepted g_made g_used g_most g_last g_answer (nI c) (nI d) n (nI i) b_result b_param b_start b_finished b_tokOp b_tokArg b_tokType b_first b_second b_cellKind b_freed b_fn b_born b_actual b_value kn
  | 0, i, kn, h1, h2, _, _ => by omega
  | n + 1, i, kn, h1, h2, h3, h4 => by
    rcases Nat.lt_or_ge i 97 with z | z
    · have e : nI d * 97 + nI i = nI (d * 97 + i) := by
        show nI d * nI 97 + nI i = _
        rw [pk_mul, nI_add]
      refine br_f (nI_ge (b := 97) z (by decide)) ?_
      rw [e, nI_clamp (n := d * 97 + i) (by omega), vp_b0]
      refine ⟨vp_in_nI (by omega) (by decide), nm_e (nm_r (nI_1 i) (uy_enter52 hd K n (i + 1) _ (by omega) (by omega) (fun j hj => ?_) (fun j hj => ?_)))⟩
      · by_cases y : j = i
        · rw [y, pk_us]
        · rw [pk_un (by omega)]; exact h3 j (by omega)
      · rw [pk_un (by omega)]; exact h4 j hj
    · have : i = 97 := by omega
      subst this
      have e : kn = yz_kn b_known d := by
        funext j
        unfold yz_kn
        by_cases y : d * 97 ≤ j ∧ j < d * 97 + 97
        · rw [if_pos y]
          obtain ⟨m, rfl⟩ : ∃ m, j = d * 97 + m := ⟨j - d * 97, by omega⟩
          exact h3 m (by omega)
        · rw [if_neg y]; exact h4 j (by omega)
      subst e
      exact br_t (by decide) (nm_r (nI_1 d) (nm_r (nI_1 c) K))
theorem uy_enter {post : SY → Prop} {d c g : Nat} {x y : Int32} (hd : d < 24) (K : post (g_maxFunctions, g_maxTokens, g_maxCells, g_maxDepth, g_functions, g_tokens, g_open, g_accepted, g_made, g_used, g_most, g_last, g_answer, nI (c + 1), nI (d + 1), b_result, b_param, b_start, b_finished, b_tokOp, b_tokArg, b_tokType, b_first, b_second, b_cellKind, b_freed, upd b_fn d (nI g), upd b_born d g_made, upd (upd b_actual (2 * d) x) (2 * d + 1) y, b_value, yz_kn b_known d)) :
    wpY_enter post (g_maxFunctions, g_maxTokens, g_maxCells, g_maxDepth, g_functions, g_tokens, g_open, g_accepted, g_made, g_used, g_most, g_last, g_answer, nI c, nI d, b_result, b_param, b_start, b_finished, b_tokOp, b_tokArg, b_tokType, b_first, b_second, b_cellKind, b_freed, b_fn, b_born, b_actual, b_value, b_known) (nI g) x y := by
  have din : vp_in (nI d) 24 := vp_in_nI hd (by decide)
  have cd : (nI d).toNatClampNeg = d := nI_clamp (by omega)
  have e2 : (2 : Int32) * nI d = nI (2 * d) := pk_mul 2 d
  unfold wpY_enter
  dsimp only
  rw [cd, e2, nI_1, nI_clamp (n := 2 * d) (by omega), nI_clamp (n := 2 * d + 1) (by omega)]
  refine ⟨din, nm_e ⟨din, nm_e ⟨vp_in_nI (by omega) (by decide), nm_e ⟨vp_in_nI (by omega) (by decide), nm_e ⟨98, ?_⟩⟩⟩⟩⟩
  exact uy_enter52 hd K 98 0 b_known (by omega) (by omega) (fun j hj => by omega) (fun j _ => rfl)
theorem ye_call4 (Z : sp_ys nf S b_param b_result) (P : pc_ok nf t S b_tokOp b_tokArg b_tokType scp sN fo en) (htok : g_tokens = nI t) (hst : ∀ f, f < nf → b_start f = nI (sN f)) (hD : D < 24) (hf : f < nf) (hfn : b_fn D = nI f) (hi : i < t) (hnx : nx (sp_A S b_tokOp b_tokArg) b_tokOp en b_known b_value (D * 97) 10 (sN f) = i) (h : b_tokOp i = 6) (hc : g_calls = 200) : yw_E (g_maxFunctions, g_maxTokens, g_maxCells, g_maxDepth, g_functions, g_tokens, g_open, g_accepted, g_made, g_used, g_most, g_last, g_answer, g_calls, nI (D + 1), b_result, b_param, b_start, b_finished, b_tokOp, b_tokArg, b_tokType, b_first, b_second, b_cellKind, b_freed, b_fn, b_born, b_actual, b_value, b_known) (g_maxFunctions, g_maxTokens, g_maxCells, g_maxDepth, g_functions, g_tokens, g_open, g_accepted, g_made, g_used, g_most, 4, g_answer, g_calls, nI (D + 1), b_result, b_param, b_start, b_finished, b_tokOp, b_tokArg, b_tokType, b_first, b_second, b_cellKind, b_freed, b_fn, b_born, b_actual, b_value, b_known) := by
  intro post hpo
  have ht := P.1
  have hn := P.2.1
  have e1 : (nI (D + 1) - 1) * 97 = nI (D * 97) := by
    rw [nI_pred]
    exact pk_mul D 97
  have iin : vp_in (nI i) 96 := vp_in_nI (by omega) (by decide)
  have evp : nI (D * 97) + nI i + 1 = nI (D * 97 + (i + 1)) := by rw [nI_add, nI_1, Nat.add_assoc]
  unfold wpY_evaluate
  refine uy_next Z P htok hst rfl hD hf hfn ?_
  rw [hnx]
  refine nm_r e1 ⟨iin, ?_⟩
  rw [nI_clamp (n := i) (by omega)]
  refine nm_e ⟨iin, nm_e ?_⟩
  rw [nI_1 i]
  refine uy_endOf Z P htok (by omega) (fun e2 l2 h2 h2' => uy_endOf Z P htok l2 (fun e3 l3 h3 h3' => ?_))
  rw [evp, nI_add (D * 97) e2, nI_add (D * 97) e3, nI_clamp (n := D * 97 + (i + 1)) (by omega), nI_clamp (n := D * 97 + e2) (by omega), nI_clamp (n := D * 97 + e3) (by omega)]
  refine ⟨vp_in_nI (by omega) (by decide), nm_e ⟨vp_in_nI (by omega) (by decide), nm_e ⟨vp_in_nI (by omega) (by decide), nm_e ?_⟩⟩⟩
  rw [h]
  exact (br_f (by decide) (br_f (by decide) (br_f (by decide) (br_f (by decide) (br_f (by decide) (br_t (by decide) (br_t hc hpo)))))))
theorem ye_call5 (Z : sp_ys nf S b_param b_result) (P : pc_ok nf t S b_tokOp b_tokArg b_tokType scp sN fo en) (htok : g_tokens = nI t) (hst : ∀ f, f < nf → b_start f = nI (sN f)) (hD : D < 24) (hf : f < nf) (hfn : b_fn D = nI f) (hi : i < t) (hnx : nx (sp_A S b_tokOp b_tokArg) b_tokOp en b_known b_value (D * 97) 10 (sN f) = i) (h : b_tokOp i = 6) (hc : ¬ g_calls = 200) (hd : nI (D + 1) = g_maxDepth) : yw_E (g_maxFunctions, g_maxTokens, g_maxCells, g_maxDepth, g_functions, g_tokens, g_open, g_accepted, g_made, g_used, g_most, g_last, g_answer, g_calls, nI (D + 1), b_result, b_param, b_start, b_finished, b_tokOp, b_tokArg, b_tokType, b_first, b_second, b_cellKind, b_freed, b_fn, b_born, b_actual, b_value, b_known) (g_maxFunctions, g_maxTokens, g_maxCells, g_maxDepth, g_functions, g_tokens, g_open, g_accepted, g_made, g_used, g_most, 5, g_answer, g_calls, nI (D + 1), b_result, b_param, b_start, b_finished, b_tokOp, b_tokArg, b_tokType, b_first, b_second, b_cellKind, b_freed, b_fn, b_born, b_actual, b_value, b_known) := by
  intro post hpo
  have ht := P.1
  have hn := P.2.1
  have e1 : (nI (D + 1) - 1) * 97 = nI (D * 97) := by
    rw [nI_pred]
    exact pk_mul D 97
  have iin : vp_in (nI i) 96 := vp_in_nI (by omega) (by decide)
  have evp : nI (D * 97) + nI i + 1 = nI (D * 97 + (i + 1)) := by rw [nI_add, nI_1, Nat.add_assoc]
  unfold wpY_evaluate
  refine uy_next Z P htok hst rfl hD hf hfn ?_
  rw [hnx]
  refine nm_r e1 ⟨iin, ?_⟩
  rw [nI_clamp (n := i) (by omega)]
  refine nm_e ⟨iin, nm_e ?_⟩
  rw [nI_1 i]
  refine uy_endOf Z P htok (by omega) (fun e2 l2 h2 h2' => uy_endOf Z P htok l2 (fun e3 l3 h3 h3' => ?_))
  rw [evp, nI_add (D * 97) e2, nI_add (D * 97) e3, nI_clamp (n := D * 97 + (i + 1)) (by omega), nI_clamp (n := D * 97 + e2) (by omega), nI_clamp (n := D * 97 + e3) (by omega)]
  refine ⟨vp_in_nI (by omega) (by decide), nm_e ⟨vp_in_nI (by omega) (by decide), nm_e ⟨vp_in_nI (by omega) (by decide), nm_e ?_⟩⟩⟩
  rw [h]
  exact (br_f (by decide) (br_f (by decide) (br_f (by decide) (br_f (by decide) (br_f (by decide) (br_t (by decide) (br_f hc (br_t hd hpo))))))))
theorem ye_call {c g : Nat} (Z : sp_ys nf S b_param b_result) (P : pc_ok nf t S b_tokOp b_tokArg b_tokType scp sN fo en) (htok : g_tokens = nI t) (hst : ∀ f, f < nf → b_start f = nI (sN f)) (hD : D < 24) (hf : f < nf) (hfn : b_fn D = nI f) (hi : i < t) (hnx : nx (sp_A S b_tokOp b_tokArg) b_tokOp en b_known b_value (D * 97) 10 (sN f) = i) (h : b_tokOp i = 6) (ha : b_tokArg i = nI g) (hc : c < 200) (hd : ¬ nI (D + 1) = g_maxDepth) (hD1 : D + 1 < 24) :
    yw_E (g_maxFunctions, g_maxTokens, g_maxCells, g_maxDepth, g_functions, g_tokens, g_open, g_accepted, g_made, g_used, g_most, g_last, g_answer, nI c, nI (D + 1), b_result, b_param, b_start, b_finished, b_tokOp, b_tokArg, b_tokType, b_first, b_second, b_cellKind, b_freed, b_fn, b_born, b_actual, b_value, b_known) (g_maxFunctions, g_maxTokens, g_maxCells, g_maxDepth, g_functions, g_tokens, g_open, g_accepted, g_made, g_used, g_most, g_last, g_answer, nI (c + 1), nI (D + 2), b_result, b_param, b_start, b_finished, b_tokOp, b_tokArg, b_tokType, b_first, b_second, b_cellKind, b_freed, upd b_fn (D + 1) (nI g), upd b_born (D + 1) g_made, upd (upd b_actual (2 * (D + 1)) (b_value (D * 97 + (i + 1)))) (2 * (D + 1) + 1) (b_value (D * 97 + yz_e en t (i + 1))), b_value, yz_kn b_known (D + 1)) := by
  intro post hpo
  have ht := P.1
  have hn := P.2.1
  have e1 : (nI (D + 1) - 1) * 97 = nI (D * 97) := by
    rw [nI_pred]
    exact pk_mul D 97
  have iin : vp_in (nI i) 96 := vp_in_nI (by omega) (by decide)
  have evp : nI (D * 97) + nI i + 1 = nI (D * 97 + (i + 1)) := by rw [nI_add, nI_1, Nat.add_assoc]
  unfold wpY_evaluate
  refine uy_next Z P htok hst rfl hD hf hfn ?_
  rw [hnx]
  refine nm_r e1 ⟨iin, ?_⟩
  rw [nI_clamp (n := i) (by omega)]
  refine nm_e ⟨iin, nm_e ?_⟩
  rw [nI_1 i]
  refine uy_endOf Z P htok (by omega) (fun e2 l2 h2 h2' => uy_endOf Z P htok l2 (fun e3 l3 h3 h3' => ?_))
  rw [evp, nI_add (D * 97) e2, nI_add (D * 97) e3, nI_clamp (n := D * 97 + (i + 1)) (by omega), nI_clamp (n := D * 97 + e2) (by omega), nI_clamp (n := D * 97 + e3) (by omega)]
  refine ⟨vp_in_nI (by omega) (by decide), nm_e ⟨vp_in_nI (by omega) (by decide), nm_e ⟨vp_in_nI (by omega) (by decide), nm_e ?_⟩⟩⟩
  have E2 : e2 = yz_e en t (i + 1) := by
    unfold yz_e
    rcases Nat.lt_or_ge (i + 1) t with z | z
    · rw [if_pos z]; exact h2 z
    · rw [if_neg (by omega)]; exact h2' z
  subst E2
  rw [h, ha]
  refine (br_f (by decide) (br_f (by decide) (br_f (by decide) (br_f (by decide) (br_f (by decide) (br_t (by decide) (br_f (fun q => by have := (nI_eq (b := 200) (by omega) (by omega)).mp q; omega) (br_f hd ?_))))))))
  exact uy_enter hD1 hpo
end
end
section
def hi_ch (lk : Nat → Int32) : List Nat → Int32 → Prop
  | [], x => x = -1
  | c :: l, x => x = nI c ∧ hi_ch lk l (lk c)
def vr_R (μ : Nat → Nat) (n : Nat) (x y : Int32) : Prop := (x = -1 ∧ y = -1) ∨ ∃ e, e < n ∧ y = nI e ∧ x = nI (μ e)
/-- contents of a cell of kind κ: x1 x2 in X, y1 y2 in Y -/
def hi_K (μ : Nat → Nat) (n : Nat) (κ x1 x2 y1 y2 : Int32) : Prop := (κ = 1 → x1 = y1 ∧ x2 = y2) ∧ (κ = 2 → x1 = y1 ∧ vr_R μ n x2 y2) ∧ (κ = 3 → vr_R μ n x1 y1 ∧ vr_R μ n x2 y2)
def hi_hp (cl md : Nat) (fc : Int32) (cA cB lk lv fi se ck fr : Nat → Int32) (μ : Nat → Nat) (al : Nat → Prop) (FL : List Nat) : Prop :=
  (∀ e, e < md → (ck e = 1 ∨ ck e = 2 ∨ ck e = 3) ∧ (fr e = 0 ∨ fr e = 1)) ∧
  (∀ e, e < md → al e → fr e = 0 ∧ μ e < cl ∧ lv (μ e) = 1 ∧ μ e ∉ FL ∧ hi_K μ e (ck e) (cA (μ e)) (cB (μ e)) (fi e) (se e)) ∧
  (∀ e e', e < md → e' < md → al e → al e' → μ e = μ e' → e = e') ∧ hi_ch lk FL fc ∧ FL.Nodup ∧ (∀ c, c ∈ FL → c < cl) ∧ FL.length + cn al md = cl
def hi_ct (cl md : Nat) (us : Nat → Int32) (uy : Int32) (ck fr : Nat → Int32) : Prop :=
  uy = nI (cn (fun e => fr e = 0) md) ∧ cn (fun e => fr e = 0) md ≤ cl ∧ ∀ k, 1 ≤ k → k ≤ 3 → us k = nI (cn (fun e => ck e = nI k ∧ fr e = 0) md)
def hr_ok (md : Nat) (lk rF : Nat → Int32) (μ rg : Nat → Nat) (al OP : Nat → Prop) : Prop :=
  (∀ e, e < md → al e → OP (rg e)) ∧ ∀ R, OP R → ∃ L, hi_ch lk L (rF R) ∧ L.Nodup ∧ ∀ c, c ∈ L ↔ ∃ e, e < md ∧ al e ∧ rg e = R ∧ μ e = c
def uN (f : Nat → Nat) (k x : Nat) : Nat → Nat := fun j => if j = k then x else f j
theorem uN_s {f : Nat → Nat} {k x : Nat} : uN f k x k = x := if_pos rfl
theorem uN_n {f : Nat → Nat} {k x j : Nat} (h : j ≠ k) : uN f k x j = f j := if_neg h
theorem hi_ch_cg {lk lk' : Nat → Int32} : ∀ {l : List Nat} {x : Int32}, (∀ c, c ∈ l → lk' c = lk c) → hi_ch lk l x → hi_ch lk' l x
  | [], _, _, h => h
  | c :: l, x, e, h => ⟨h.1, by rw [e c (List.mem_cons_self)]; exact hi_ch_cg (fun d hd => e d (List.mem_cons_of_mem _ hd)) h.2⟩
theorem vr_R_cg {μ μ' : Nat → Nat} {n : Nat} {x y : Int32} (e : ∀ j, j < n → μ' j = μ j) (h : vr_R μ n x y) : vr_R μ' n x y := by
  rcases h with h | ⟨j, h1, h2, h3⟩
  · exact Or.inl h
  · exact Or.inr ⟨j, h1, h2, by rw [e j h1]; exact h3⟩
theorem vr_R_up {μ : Nat → Nat} {n m : Nat} {x y : Int32} (e : n ≤ m) (h : vr_R μ n x y) : vr_R μ m x y := by
  rcases h with h | ⟨j, h1, h2, h3⟩
  · exact Or.inl h
  · exact Or.inr ⟨j, by omega, h2, h3⟩
theorem hi_K_cg {μ μ' : Nat → Nat} {n : Nat} {κ x1 x2 y1 y2 : Int32} (e : ∀ j, j < n → μ' j = μ j) (h : hi_K μ n κ x1 x2 y1 y2) : hi_K μ' n κ x1 x2 y1 y2 :=
  ⟨h.1, fun z => ⟨(h.2.1 z).1, vr_R_cg e (h.2.1 z).2⟩, fun z => ⟨vr_R_cg e (h.2.2 z).1, vr_R_cg e (h.2.2 z).2⟩⟩
section
variable {cl md : Nat} {fc uy : Int32} {cA cB lk lv fi se ck fr us rF : Nat → Int32} {μ rg : Nat → Nat} {al OP : Nat → Prop} {FL : List Nat}
theorem hi_free (H : hi_hp cl md fc cA cB lk lv fi se ck fr μ al FL) (h : cn (fun e => fr e = 0) md < cl) : ∃ c FL', FL = c :: FL' ∧ fc = nI c ∧ c < cl := by
  obtain ⟨h1, h2, h3, h4, h5, h6, h7⟩ := H
  have le : cn al md ≤ cn (fun e => fr e = 0) md := cn_mono (fun e he ha => (h2 e he ha).1)
  cases FL with
  | nil =>
    exfalso
    simp at h7; omega
  | cons c l => exact ⟨c, l, rfl, h4.1, h6 c (List.mem_cons_self)⟩
theorem hi_alloc {c : Nat} {z κ x1 x2 y1 y2 : Int32} (H : hi_hp cl md fc cA cB lk lv fi se ck fr μ al (c :: FL)) (hκ : κ = 1 ∨ κ = 2 ∨ κ = 3) (K : hi_K μ md κ x1 x2 y1 y2) :
    hi_hp cl (md + 1) (lk c) (upd cA c x1) (upd cB c x2) (upd lk c z) (upd lv c 1) (upd fi md y1) (upd se md y2) (upd ck md κ) (upd fr md 0) (uN μ md c) (fun e => e = md ∨ al e) FL := by
  obtain ⟨h1, h2, h3, h4, h5, h6, h7⟩ := H
  have cnd := List.nodup_cons.mp h5
  have ne : ∀ e, e < md → al e → μ e ≠ c := fun e he ha q => (h2 e he ha).2.2.2.1 (by rw [q]; exact List.mem_cons_self)
  refine ⟨fun e he => ?_, fun e he ha => ?_, fun e e' he he' ha ha' q => ?_, ?_, cnd.2, fun d hd => h6 d (List.mem_cons_of_mem _ hd), ?_⟩
  · by_cases y : e = md
    · rw [y, pk_us, pk_us]; exact ⟨hκ, Or.inl rfl⟩
    · rw [pk_un y, pk_un y]; exact h1 e (by omega)
  · by_cases y : e = md
    · rw [y, pk_us, pk_us, pk_us, pk_us, uN_s, pk_us, pk_us, pk_us]
      exact ⟨rfl, h6 c (List.mem_cons_self), rfl, cnd.1, hi_K_cg (fun j hj => uN_n (by omega)) K⟩
    · have ha' : al e := ha.elim (fun q => absurd q y) id
      obtain ⟨a1, a2, a3, a4, a5⟩ := h2 e (by omega) ha'
      have nc := ne e (by omega) ha'
      rw [pk_un y, pk_un y, pk_un y, pk_un y, uN_n y, pk_un nc, pk_un nc, pk_un nc]
      exact ⟨a1, a2, a3, fun q => a4 (List.mem_cons_of_mem _ q), hi_K_cg (fun j hj => uN_n (by omega)) a5⟩
  · by_cases y : e = md
    · by_cases y' : e' = md
      · rw [y, y']
      · have ha2 : al e' := ha'.elim (fun q => absurd q y') id
        rw [y, uN_s, uN_n y'] at q
        exact absurd q.symm (ne e' (by omega) ha2)
    · have ha1 : al e := ha.elim (fun q => absurd q y) id
      by_cases y' : e' = md
      · rw [y', uN_s, uN_n y] at q
        exact absurd q (ne e (by omega) ha1)
      · have ha2 : al e' := ha'.elim (fun q => absurd q y') id
        rw [uN_n y, uN_n y'] at q
        exact h3 e e' (by omega) (by omega) ha1 ha2 q
  · exact hi_ch_cg (fun d hd => pk_un (fun q => cnd.1 (by rw [← q]; exact hd))) h4.2
  · rw [cn_t (P := fun e => e = md ∨ al e) (Or.inl rfl), cn_eq (P := fun e => e = md ∨ al e) (Q := al) (fun e he => ⟨fun q => q.elim (fun w => by omega) id, Or.inr⟩)]
    simp at h7
    omega
theorem hr_alloc {c R : Nat} (H : hi_hp cl md fc cA cB lk lv fi se ck fr μ al (c :: FL)) (G : hr_ok md lk rF μ rg al OP) (hR : OP R) :
    hr_ok (md + 1) (upd lk c (rF R)) (upd rF R (nI c)) (uN μ md c) (uN rg md R) (fun e => e = md ∨ al e) OP := by
  obtain ⟨h1, h2, h3, h4, h5, h6, h7⟩ := H
  obtain ⟨g1, g2⟩ := G
  have ne : ∀ e, e < md → al e → μ e ≠ c := fun e he ha q => (h2 e he ha).2.2.2.1 (by rw [q]; exact List.mem_cons_self)
  refine ⟨fun e he ha => ?_, fun R' hR' => ?_⟩
  · by_cases y : e = md
    · rw [y, uN_s]; exact hR
    · rw [uN_n y]; exact g1 e (by omega) (ha.elim (fun q => absurd q y) id)
  · obtain ⟨L, l1, l2, l3⟩ := g2 R' hR'
    have cL : c ∉ L := fun q => by
      obtain ⟨e, e1, e2, e3, e4⟩ := (l3 c).mp q
      exact ne e e1 e2 e4
    have ch : hi_ch (upd lk c (rF R)) L (rF R') := hi_ch_cg (fun d hd => pk_un (fun q => cL (by rw [← q]; exact hd))) l1
    by_cases y : R' = R
    · subst y
      refine ⟨c :: L, ⟨pk_us, by rw [pk_us]; exact ch⟩, List.nodup_cons.mpr ⟨cL, l2⟩, fun d => ?_⟩
      constructor
      · intro q
        rcases List.mem_cons.mp q with q | q
        · exact ⟨md, by omega, Or.inl rfl, uN_s, by rw [uN_s, q]⟩
        · obtain ⟨e, e1, e2, e3, e4⟩ := (l3 d).mp q
          exact ⟨e, by omega, Or.inr e2, by rw [uN_n (by omega)]; exact e3, by rw [uN_n (by omega)]; exact e4⟩
      · intro ⟨e, e1, e2, e3, e4⟩
        by_cases x : e = md
        · rw [x, uN_s] at e4
          rw [← e4]; exact List.mem_cons_self
        · rw [uN_n x] at e3 e4
          exact List.mem_cons_of_mem _ ((l3 d).mpr ⟨e, by omega, e2.elim (fun q => absurd q x) id, e3, e4⟩)
    · refine ⟨L, by rw [pk_un y]; exact ch, l2, fun d => ?_⟩
      constructor
      · intro q
        obtain ⟨e, e1, e2, e3, e4⟩ := (l3 d).mp q
        exact ⟨e, by omega, Or.inr e2, by rw [uN_n (by omega)]; exact e3, by rw [uN_n (by omega)]; exact e4⟩
      · intro ⟨e, e1, e2, e3, e4⟩
        by_cases x : e = md
        · rw [x, uN_s] at e3
          exact absurd e3.symm y
        · rw [uN_n x] at e3 e4
          exact (l3 d).mpr ⟨e, by omega, e2.elim (fun q => absurd q x) id, e3, e4⟩
theorem cn_del {P : Nat → Prop} {a : Nat} : ∀ {N : Nat}, a < N → P a → cn (fun e => P e ∧ e ≠ a) N + 1 = cn P N
  | 0, h, _ => by omega
  | N + 1, h, hp => by
    simp only [cn]
    rcases Nat.lt_or_ge a N with z | z
    · have ih := cn_del z hp
      have : b01 (P N ∧ N ≠ a) = b01 (P N) := b01_iff ⟨fun q => q.1, fun q => ⟨q, by omega⟩⟩
      omega
    · have e : a = N := by omega
      subst e
      rw [b01_t hp, b01_f (fun q => q.2 rfl), cn_eq (P := fun e => P e ∧ e ≠ a) (Q := P) (fun k hk => ⟨fun q => q.1, fun q => ⟨q, by omega⟩⟩)]
/-- free the cell of e0 -/
theorem hi_free1 {e0 : Nat} (H : hi_hp cl md fc cA cB lk lv fi se ck fr μ al FL) (h0 : e0 < md) (a0 : al e0) : hi_hp cl md (nI (μ e0)) cA cB (upd lk (μ e0) fc) (upd lv (μ e0) 0) fi se ck fr μ (fun e => al e ∧ e ≠ e0) (μ e0 :: FL) := by
  obtain ⟨h1, h2, h3, h4, h5, h6, h7⟩ := H
  have x0 := h2 e0 h0 a0
  refine ⟨h1, fun e he ha => ?_, fun e e' he he' ha ha' q => h3 e e' he he' ha.1 ha'.1 q, ⟨rfl, ?_⟩, List.nodup_cons.mpr ⟨x0.2.2.2.1, h5⟩, fun c hc => ?_, ?_⟩
  · obtain ⟨a1, a2, a3, a4, a5⟩ := h2 e he ha.1
    have ne : μ e ≠ μ e0 := fun q => ha.2 (h3 e e0 he h0 ha.1 a0 q)
    rw [pk_un ne]
    refine ⟨a1, a2, a3, fun q => ?_, a5⟩
    rcases List.mem_cons.mp q with q | q
    · exact ne q
    · exact a4 q
  · rw [pk_us]
    exact hi_ch_cg (fun d hd => pk_un (fun q => x0.2.2.2.1 (by rw [← q]; exact hd))) h4
  · rcases List.mem_cons.mp hc with q | q
    · rw [q]; exact x0.2.1
    · exact h6 c q
  · have := cn_del h0 a0
    rw [List.length_cons]
    omega
theorem hr_free1 {e0 R : Nat} {L : List Nat} (H : hi_hp cl md fc cA cB lk lv fi se ck fr μ al FL) (G : hr_ok md lk rF μ rg al OP) (h0 : e0 < md) (a0 : al e0) (r0 : rg e0 = R) (hL : hi_ch lk (μ e0 :: L) (rF R)) (hnd : (μ e0 :: L).Nodup) (hm : ∀ c, c ∈ μ e0 :: L ↔ ∃ e, e < md ∧ al e ∧ rg e = R ∧ μ e = c) :
    hr_ok md (upd lk (μ e0) fc) (upd rF R (lk (μ e0))) μ rg (fun e => al e ∧ e ≠ e0) OP ∧ hi_ch (upd lk (μ e0) fc) L (upd rF R (lk (μ e0)) R) ∧ L.Nodup ∧ ∀ c, c ∈ L ↔ ∃ e, e < md ∧ (al e ∧ e ≠ e0) ∧ rg e = R ∧ μ e = c := by
  obtain ⟨h1, h2, h3, h4, h5, h6, h7⟩ := H
  obtain ⟨g1, g2⟩ := G
  have nd := List.nodup_cons.mp hnd
  have c1 : hi_ch (upd lk (μ e0) fc) L (upd rF R (lk (μ e0)) R) := by
    rw [pk_us]
    exact hi_ch_cg (fun d hd => pk_un (fun q => nd.1 (by rw [← q]; exact hd))) hL.2
  have c2 : ∀ c, c ∈ L ↔ ∃ e, e < md ∧ (al e ∧ e ≠ e0) ∧ rg e = R ∧ μ e = c := by
    intro c
    constructor
    · intro q
      obtain ⟨e, e1, e2, e3, e4⟩ := (hm c).mp (List.mem_cons_of_mem _ q)
      refine ⟨e, e1, ⟨e2, fun w => ?_⟩, e3, e4⟩
      rw [w] at e4
      exact nd.1 (by rw [e4]; exact q)
    · intro ⟨e, e1, e2, e3, e4⟩
      rcases List.mem_cons.mp ((hm c).mpr ⟨e, e1, e2.1, e3, e4⟩) with q | q
      · exact absurd (h3 e e0 e1 h0 e2.1 a0 (e4.trans q)) e2.2
      · exact q
  refine ⟨⟨fun e he ha => g1 e he ha.1, fun R' hR' => ?_⟩, c1, nd.2, c2⟩
  by_cases y : R' = R
  · subst y
    exact ⟨L, c1, nd.2, c2⟩
  · obtain ⟨L', l1, l2, l3⟩ := g2 R' hR'
    have cL : μ e0 ∉ L' := fun q => by
      obtain ⟨e, e1, e2, e3, e4⟩ := (l3 _).mp q
      have := h3 e e0 e1 h0 e2 a0 e4
      rw [this, r0] at e3
      exact y e3.symm
    refine ⟨L', by rw [pk_un y]; exact hi_ch_cg (fun d hd => pk_un (fun q => cL (by rw [← q]; exact hd))) l1, l2, fun d => ?_⟩
    constructor
    · intro q
      obtain ⟨e, e1, e2, e3, e4⟩ := (l3 d).mp q
      refine ⟨e, e1, ⟨e2, fun w => ?_⟩, e3, e4⟩
      rw [w, r0] at e3
      exact y e3.symm
    · intro ⟨e, e1, e2, e3, e4⟩
      exact (l3 d).mpr ⟨e, e1, e2.1, e3, e4⟩
/-- a list of different numbers below n is short -/
theorem nd_len : ∀ {n : Nat} {l : List Nat}, l.Nodup → (∀ c, c ∈ l → c < n) → l.length ≤ n
  | 0, l, _, h => by
    cases l with
    | nil => exact Nat.le_refl _
    | cons c l => exact absurd (h c (List.mem_cons_self)) (Nat.not_lt_zero _)
  | n + 1, l, hn, h => by
    by_cases z : n ∈ l
    · have hp : (l.erase n).length ≤ n := nd_len (hn.erase n) (fun c hc => by
        have a := h c (List.mem_of_mem_erase hc)
        have b : c ≠ n := fun q => by
          subst q
          exact (List.Nodup.not_mem_erase hn) hc
        omega)
      rw [List.length_erase_of_mem z] at hp
      omega
    · have := nd_len hn (n := n) (fun c hc => by
        have a := h c hc
        have b : c ≠ n := fun q => z (by rw [← q]; exact hc)
        omega)
      omega
end
/-- typed values -/
def vr_P (md : Nat) (ck : Nat → Int32) (rg : Nat → Nat) (al : Nat → Prop) (Q : Int32) (e : Nat) : Prop := e < md ∧ al e ∧ ck e = 1 ∧ nI (rg e) = Q
def vr_L (md : Nat) (se ck : Nat → Int32) (rg : Nat → Nat) (al : Nat → Prop) (κ R : Int32) (Q : Nat → Prop) : List Nat → Int32 → Prop
  | [], y => y = -1
  | e :: l, y => y = nI e ∧ (e < md ∧ al e ∧ ck e = κ ∧ nI (rg e) = R ∧ Q e) ∧ vr_L md se ck rg al κ R Q l (se e)
def vr_V (md : Nat) (fi se ck : Nat → Int32) (μ rg : Nat → Nat) (al : Nat → Prop) (τ R Q x y : Int32) : Prop :=
  (τ = 0 → x = y) ∧ (τ = 1 → ∃ e, vr_P md ck rg al Q e ∧ y = nI e ∧ x = nI (μ e)) ∧ (τ = 2 → vr_R μ md x y ∧ ∃ l, vr_L md se ck rg al 2 R (fun _ => True) l y) ∧
  (τ = 3 → vr_R μ md x y ∧ ∃ l, vr_L md se ck rg al 3 R (fun e => ∃ e', fi e = nI e' ∧ vr_P md ck rg al Q e') l y)
/-- old cells are as they were -/
def hx_E (md : Nat) (fi se ck fr : Nat → Int32) (μ rg : Nat → Nat) (al : Nat → Prop) (md' : Nat) (fi' se' ck' fr' : Nat → Int32) (μ' rg' : Nat → Nat) (al' : Nat → Prop) : Prop :=
  md ≤ md' ∧ ∀ e, e < md → fi' e = fi e ∧ se' e = se e ∧ ck' e = ck e ∧ fr' e = fr e ∧ μ' e = μ e ∧ rg' e = rg e ∧ (al' e ↔ al e)
section
variable {md md' : Nat} {fi se ck fr fi' se' ck' fr' : Nat → Int32} {μ rg μ' rg' : Nat → Nat} {al al' : Nat → Prop}
theorem hx_rf : hx_E md fi se ck fr μ rg al md fi se ck fr μ rg al := ⟨Nat.le_refl _, fun _ _ => ⟨rfl, rfl, rfl, rfl, rfl, rfl, Iff.rfl⟩⟩
theorem hx_tr {m2 : Nat} {fi2 se2 ck2 fr2 : Nat → Int32} {μ2 rg2 : Nat → Nat} {al2 : Nat → Prop} (h : hx_E md fi se ck fr μ rg al md' fi' se' ck' fr' μ' rg' al') (h' : hx_E md' fi' se' ck' fr' μ' rg' al' m2 fi2 se2 ck2 fr2 μ2 rg2 al2) : hx_E md fi se ck fr μ rg al m2 fi2 se2 ck2 fr2 μ2 rg2 al2 :=
  ⟨Nat.le_trans h.1 h'.1, fun e he => by
    obtain ⟨a1, a2, a3, a4, a5, a6, a7⟩ := h.2 e he
    obtain ⟨b1, b2, b3, b4, b5, b6, b7⟩ := h'.2 e (Nat.lt_of_lt_of_le he h.1)
    exact ⟨b1.trans a1, b2.trans a2, b3.trans a3, b4.trans a4, b5.trans a5, b6.trans a6, b7.trans a7⟩⟩
/-- values survive when their cells do -/
theorem vr_L_map {κ R : Int32} {Q Q' : Nat → Prop} (hle : md ≤ md') (hse : ∀ e, e < md → se' e = se e ∧ ck' e = ck e ∧ rg' e = rg e) (hal : ∀ e, e < md → al e → nI (rg e) = R → al' e) (hQ : ∀ e, e < md → Q e → Q' e) : ∀ {l : List Nat} {y : Int32}, vr_L md se ck rg al κ R Q l y → vr_L md' se' ck' rg' al' κ R Q' l y
  | [], _, h => h
  | e :: l, y, h => by
    obtain ⟨h1, ⟨h2, h3, h4, h5, h6⟩, h7⟩ := h
    obtain ⟨a1, a2, a3⟩ := hse e h2
    refine ⟨h1, ⟨by omega, hal e h2 h3 h5, by rw [a2]; exact h4, by rw [a3]; exact h5, hQ e h2 h6⟩, ?_⟩
    rw [a1]
    exact vr_L_map hle hse hal hQ h7
theorem vr_map {τ R Q x y : Int32} (hle : md ≤ md') (hE : ∀ e, e < md → fi' e = fi e ∧ se' e = se e ∧ ck' e = ck e ∧ μ' e = μ e ∧ rg' e = rg e) (hal : ∀ e, e < md → al e → ((kd_S τ ≠ 0 ∧ nI (rg e) = R) ∨ (kd_P τ ≠ 0 ∧ nI (rg e) = Q)) → al' e)
    (h : vr_V md fi se ck μ rg al τ R Q x y) : vr_V md' fi' se' ck' μ' rg' al' τ R Q x y := by
  obtain ⟨h0, h1, h2, h3⟩ := h
  have RR : vr_R μ md x y → vr_R μ' md' x y := fun q => vr_R_up hle (vr_R_cg (fun j hj => (hE j hj).2.2.2.1) q)
  refine ⟨h0, fun z => ?_, fun z => ?_, fun z => ?_⟩
  · obtain ⟨e, ⟨e1, e2, e3, e4⟩, e5, e6⟩ := h1 z
    obtain ⟨a1, a2, a3, a4, a5⟩ := hE e e1
    exact ⟨e, ⟨by omega, hal e e1 e2 (Or.inr ⟨by rw [z]; decide, e4⟩), by rw [a3]; exact e3, by rw [a5]; exact e4⟩, e5, by rw [a4]; exact e6⟩
  · obtain ⟨r, l, hl⟩ := h2 z
    exact ⟨RR r, l, vr_L_map hle (fun e he => ⟨(hE e he).2.1, (hE e he).2.2.1, (hE e he).2.2.2.2⟩) (fun e he ha hr => hal e he ha (Or.inl ⟨by rw [z]; decide, hr⟩)) (fun e he q => q) hl⟩
  · obtain ⟨r, l, hl⟩ := h3 z
    refine ⟨RR r, l, vr_L_map hle (fun e he => ⟨(hE e he).2.1, (hE e he).2.2.1, (hE e he).2.2.2.2⟩) (fun e he ha hr => hal e he ha (Or.inl ⟨by rw [z]; decide, hr⟩)) (fun e he q => ?_) hl⟩
    obtain ⟨e', q1, q2, q3, q4, q5⟩ := q
    obtain ⟨a1, a2, a3, a4, a5⟩ := hE e' q2
    exact ⟨e', by rw [(hE e he).1]; exact q1, by omega, hal e' q2 q3 (Or.inr ⟨by rw [z]; decide, q5⟩), by rw [a3]; exact q4, by rw [a5]; exact q5⟩
theorem vr_up {τ R Q x y : Int32} (E : hx_E md fi se ck fr μ rg al md' fi' se' ck' fr' μ' rg' al') (h : vr_V md fi se ck μ rg al τ R Q x y) : vr_V md' fi' se' ck' μ' rg' al' τ R Q x y :=
  vr_map E.1 (fun e he => by obtain ⟨a1, a2, a3, a4, a5, a6, a7⟩ := E.2 e he; exact ⟨a1, a2, a3, a5, a6⟩) (fun e he ha _ => (E.2 e he).2.2.2.2.2.2.mpr ha) h
theorem vr_reg {τ R Q R' Q' x y : Int32} (h : vr_V md fi se ck μ rg al τ R Q x y) (hR : kd_S τ ≠ 0 → R' = R) (hQ : kd_P τ ≠ 0 → Q' = Q) : vr_V md fi se ck μ rg al τ R' Q' x y := by
  obtain ⟨h0, h1, h2, h3⟩ := h
  refine ⟨h0, fun z => ?_, fun z => ?_, fun z => ?_⟩
  · rw [hQ (by rw [z]; decide)]; exact h1 z
  · rw [hR (by rw [z]; decide)]; exact h2 z
  · rw [hR (by rw [z]; decide), hQ (by rw [z]; decide)]; exact h3 z
theorem vr_int {R Q x : Int32} : vr_V md fi se ck μ rg al 0 R Q x x := ⟨fun _ => rfl, fun z => absurd z (by decide), fun z => absurd z (by decide), fun z => absurd z (by decide)⟩
theorem vr_nil {τ R Q : Int32} (h : τ = 2 ∨ τ = 3) : vr_V md fi se ck μ rg al τ R Q (-1) (-1) := by
  rcases h with rfl | rfl
  · exact ⟨fun z => absurd z (by decide), fun z => absurd z (by decide), fun _ => ⟨Or.inl ⟨rfl, rfl⟩, [], rfl⟩, fun z => absurd z (by decide)⟩
  · exact ⟨fun z => absurd z (by decide), fun z => absurd z (by decide), fun z => absurd z (by decide), fun _ => ⟨Or.inl ⟨rfl, rfl⟩, [], rfl⟩⟩
end
end
section
def xz_ev (ev : Nat → Int32) (b n : Nat) : Nat → Int32 := fun j => if b ≤ j ∧ j < b + n then nI j else ev j
def xz_rF (rF : Nat → Int32) (b n : Nat) : Nat → Int32 := fun j => if b ≤ j ∧ j < b + n then -1 else rF j
/-- a signature slot of some kind has a slot in the caller -/
theorem sl_ex {S ty : Nat → Int32} {en : Nat → Nat} {g i s : Nat} (hsf : sp_sf S g) (hs : s < 6) (hk : pc_kz S ty (192 + 6 * g + s) ≠ 0) : ∃ x, pc_sl S en g i s = some x := by
  have k0 : kd_S (-1) = 0 := by decide
  have k1 : kd_P (-1) = 0 := by decide
  unfold pc_sl
  rcases Nat.lt_or_ge s 2 with z | z
  · rw [if_pos z]
    have h0 : S (3 * g) ≠ -1 := fun q => by
      rcases (by omega : s = 0 ∨ s = 1) with rfl | rfl
      · have := kz_s0 (S := S) (ty := ty) (f := g) (j := 0) (by omega)
        rw [show 192 + 6 * g + 2 * 0 = 192 + 6 * g + 0 from rfl, show 3 * g + 0 = 3 * g from rfl, q, k0] at this
        exact hk this
      · have := kz_s1 (S := S) (ty := ty) (f := g) (j := 0) (by omega)
        rw [show 192 + 6 * g + 2 * 0 + 1 = 192 + 6 * g + 1 from rfl, show 3 * g + 0 = 3 * g from rfl, q, k1] at this
        exact hk this
    have hn : 1 ≤ sp_n S g := by
      unfold sp_n
      rw [if_neg h0]
      split <;> omega
    rw [if_pos hn]
    exact ⟨_, rfl⟩
  · rw [if_neg (by omega)]
    rcases Nat.lt_or_ge s 4 with y | y
    · rw [if_pos y]
      have h1 : S (3 * g + 1) ≠ -1 := fun q => by
        rcases (by omega : s = 2 ∨ s = 3) with rfl | rfl
        · have := kz_s0 (S := S) (ty := ty) (f := g) (j := 1) (by omega)
          rw [show 192 + 6 * g + 2 * 1 = 192 + 6 * g + 2 from rfl, q, k0] at this
          exact hk this
        · have := kz_s1 (S := S) (ty := ty) (f := g) (j := 1) (by omega)
          rw [show 192 + 6 * g + 2 * 1 + 1 = 192 + 6 * g + 3 from rfl, q, k1] at this
          exact hk this
      have h0 : S (3 * g) ≠ -1 := fun q => h1 (hsf.2.2.2 q)
      have hn : 2 ≤ sp_n S g := by
        unfold sp_n
        rw [if_neg h0, if_neg h1]; omega
      rw [if_pos hn]
      exact ⟨_, rfl⟩
    · rw [if_neg (by omega)]
      exact ⟨_, rfl⟩
section
variable {f_functionLimit f_tokenLimit f_cellLimit f_depthLimit f_functions f_accepted f_placed f_openBody f_holeCount f_nextRegion f_changed f_freeCell f_active f_calls f_taskTop f_valueTop f_releasing f_outcome f_peakUsed f_resultSize : Int32} {a_sigType a_params a_kept a_start a_finished a_tokOp a_tokArg a_tokType a_tokScope a_end a_holeType a_holeNest a_holeScope a_holeVars a_parent a_region a_sigRegions a_allRegions a_cellA a_cellB a_link a_live a_frameFunction a_vars a_saved a_env a_regionFirst a_tasks a_values a_used a_result : Nat → Int32}
variable {nf t d c tt g i al0 : Nat} {sN fo en sg al : Nat → Nat}
theorem ux_ent12 {post : SX → Prop} {x2 : Int32} (hg : g < 8) (hd : d < 24) (ha : a_allRegions g = nI al0) (ha2 : al0 ≤ 200)
    (K : wX_enter_12 post (nI g) x2 (nI (200 * d)) f_functionLimit f_tokenLimit f_cellLimit f_depthLimit f_functions f_accepted f_placed f_openBody f_holeCount f_nextRegion f_changed f_freeCell f_active f_calls f_taskTop f_valueTop f_releasing f_outcome f_peakUsed f_resultSize 1 (nI al0) a_sigType a_params a_kept a_start a_finished a_tokOp a_tokArg a_tokType a_tokScope a_end a_holeType a_holeNest a_holeScope a_holeVars a_parent a_region a_sigRegions a_allRegions a_cellA a_cellB a_link a_live a_frameFunction a_vars a_saved (xz_ev a_env (200 * d) al0) (xz_rF a_regionFirst (200 * d) al0) a_tasks a_values a_used a_result) :
    ∀ (n k : Nat) (ev rF : Nat → Int32), k ≤ al0 → al0 < n + k → (∀ j, 200 * d ≤ j → j < 200 * d + k → ev j = nI j ∧ rF j = -1) → (∀ j, j < 200 * d ∨ 200 * d + k ≤ j → ev j = a_env j ∧ rF j = a_regionFirst j) → wX_enter_12 post (nI g) x2 (nI (200 * d)) f_functionLimit f_tokenLimit f_cellLimit f_depthLimit f_functions f_accepted f_placed f_openBody f_holeCount f_nextRegion f_changed f_freeCell f_active f_calls f_taskTop f_valueTop f_releasing f_outcome f_peakUsed f_resultSize n (nI k) a_sigType a_params a_kept a_start a_finished a_tokOp a_tokArg a_tokType a_tokScope a_end a_holeType a_holeNest a_holeScope a_holeVars a_parent a_region a_sigRegions a_allRegions a_cellA a_cellB a_link a_live a_frameFunction a_vars a_saved ev rF a_tasks a_values a_used a_result
  | 0, k, ev, rF, h1, h2, _, _ => by omega
  | n + 1, k, ev, rF, h1, h2, h3, h4 => by
    have cg : (nI g).toNatClampNeg = g := nI_clamp (by omega)
    rcases Nat.lt_or_ge k al0 with z | z
    · refine ⟨vp_in_nI hg (by decide), ?_⟩
      rw [cg, ha, nI_add, nI_clamp (n := 200 * d + k) (by omega)]
      refine br_f (nI_ge z (by omega)) ⟨vp_in_nI (by omega) (by decide), nm_e ⟨vp_in_nI (by omega) (by decide), nm_e (nm_r (nI_1 k) ?_)⟩⟩
      refine ux_ent12 hg hd ha ha2 K n (k + 1) _ _ (by omega) (by omega) (fun j j1 j2 => ?_) (fun j hj => ?_)
      · by_cases y : j = 200 * d + k
        · rw [y, pk_us, pk_us]; exact ⟨rfl, rfl⟩
        · rw [pk_un y, pk_un y]; exact h3 j j1 (by omega)
      · rw [pk_un (by omega), pk_un (by omega)]; exact h4 j (by omega)
    · have e : k = al0 := by omega
      subst e
      have e1 : ev = xz_ev a_env (200 * d) k := by
        funext j
        unfold xz_ev
        by_cases y : 200 * d ≤ j ∧ j < 200 * d + k
        · rw [if_pos y]; exact (h3 j y.1 y.2).1
        · rw [if_neg y]; exact (h4 j (by omega)).1
      have e2 : rF = xz_rF a_regionFirst (200 * d) k := by
        funext j
        unfold xz_rF
        by_cases y : 200 * d ≤ j ∧ j < 200 * d + k
        · rw [if_pos y]; exact (h3 j y.1 y.2).2
        · rw [if_neg y]; exact (h4 j (by omega)).2
      subst e1 e2
      have hl : a_allRegions (nI g).toNatClampNeg ≤ nI k := by rw [cg, ha]; exact nI_le (Nat.le_refl _) (by omega)
      exact ⟨K.1, br_t hl (K.2.1 hl)⟩
/-- what passRegions leaves: ev before, ev' behind -/
def ps_F (S ty : Nat → Int32) (en : Nat → Nat) (reg : Nat → Int32) (g i d s0 : Nat) (ev ev' : Nat → Int32) : Prop :=
  (∀ j, j < 200 * d ∨ 200 * d + 200 ≤ j → ev' j = ev j) ∧ (∀ k, k < 200 → (∀ s, s < s0 → pc_kz S ty (192 + 6 * g + s) ≠ 0 → reg (192 + 6 * g + s) ≠ nI k) → ev' (200 * d + k) = ev (200 * d + k)) ∧
  (∀ s x m, s < s0 → pc_kz S ty (192 + 6 * g + s) ≠ 0 → pc_sl S en g i s = some x → reg (192 + 6 * g + s) = nI m → m < 200 → ev' (200 * d + m) = ev (200 * (d - 1) + (reg x).toNatClampNeg))
theorem ux_pass12 (P : pc_ok nf t a_sigType a_tokOp a_tokArg a_tokType a_tokScope sN fo en) (G : rg_ok nf t a_sigType a_tokOp a_tokArg a_tokType sN fo en sg al a_region a_sigRegions a_allRegions) (hp : ∀ f, f < nf → a_params f = nI (sp_n a_sigType f)) (he : ∀ q, q < t → a_end q = nI (en q)) (hi : i < t) (h6 : a_tokOp i = 6) (hg : g < nf) (ha : a_tokArg i = nI g) (hd : d < 24) (hd1 : 1 ≤ d) :
    ∀ (n s : Nat) (ev : Nat → Int32), s ≤ 6 → 6 < n + s → ps_F a_sigType a_tokType en a_region g i d s a_env ev →
    ∃ ev', ps_F a_sigType a_tokType en a_region g i d 6 a_env ev' ∧ ∀ post : SX → Prop, post (f_functionLimit, f_tokenLimit, f_cellLimit, f_depthLimit, f_functions, f_accepted, f_placed, f_openBody, f_holeCount, f_nextRegion, f_changed, f_freeCell, nI d, f_calls, f_taskTop, f_valueTop, f_releasing, f_outcome, f_peakUsed, f_resultSize, a_sigType, a_params, a_kept, a_start, a_finished, a_tokOp, a_tokArg, a_tokType, a_tokScope, a_end, a_holeType, a_holeNest, a_holeScope, a_holeVars, a_parent, a_region, a_sigRegions, a_allRegions, a_cellA, a_cellB, a_link, a_live, a_frameFunction, a_vars, a_saved, ev', a_regionFirst, a_tasks, a_values, a_used, a_result) → wX_passRegions_12 post (nI g) (nI i) (nI (200 * d)) f_functionLimit f_tokenLimit f_cellLimit f_depthLimit f_functions f_accepted f_placed f_openBody f_holeCount f_nextRegion f_changed f_freeCell (nI d) f_calls f_taskTop f_valueTop f_releasing f_outcome f_peakUsed f_resultSize n (nI s) a_sigType a_params a_kept a_start a_finished a_tokOp a_tokArg a_tokType a_tokScope a_end a_holeType a_holeNest a_holeScope a_holeVars a_parent a_region a_sigRegions a_allRegions a_cellA a_cellB a_link a_live a_frameFunction a_vars a_saved ev a_regionFirst a_tasks a_values a_used a_result
  | 0, s, ev, h1, h2, _ => by omega
  | n + 1, s, ev, h1, h2, F => by
    have ht := P.1
    have hn := P.2.1
    rcases Nat.lt_or_ge s 6 with z | z
    · have e1 : (192 : Int32) + 6 * nI g + nI s = nI (192 + 6 * g + s) := by
        show nI 192 + nI 6 * nI g + nI s = _
        rw [pk_mul, nI_add, nI_add]
      have cs : (nI (192 + 6 * g + s)).toNatClampNeg = 192 + 6 * g + s := nI_clamp (by omega)
      obtain ⟨G1, G2, G3, G4, G5, G6, G7⟩ := G
      have g3 := G3 g s hg z
      by_cases k0 : (pc_kz a_sigType a_tokType) (192 + 6 * g + s) = 0
      · -- no kind: nothing
        have r0 := g3.2 k0
        have F' : ps_F a_sigType a_tokType en a_region g i d (s + 1) a_env ev := by
          refine ⟨F.1, fun k hk h => F.2.1 k hk (fun s' hs' => h s' (by omega)), fun s' x m hs' hk hx hr hm => ?_⟩
          by_cases y : s' = s
          · rw [y] at hk; exact absurd k0 hk
          · exact F.2.2 s' x m (by omega) hk hx hr hm
        obtain ⟨ev', q1, q2⟩ := ux_pass12 P ⟨G1, G2, G3, G4, G5, G6, G7⟩ hp he hi h6 hg ha hd hd1 n (s + 1) ev (by omega) (by omega) F'
        refine ⟨ev', q1, fun post hpo => br_f (nI_ge (b := 6) z (by decide)) ?_⟩
        rw [e1, cs]
        refine ⟨vp_in_nI (by omega) (by decide), nm_r r0 (ux_slot P hp he hi h6 hg ha z (br_t (by decide) (nm_r (nI_1 s) (q2 post hpo))))⟩
      · obtain ⟨m, m1, m2⟩ := g3.1 k0
        obtain ⟨x, hx⟩ := sl_ex (en := en) (i := i) (P.2.2.1 g hg) z k0
        obtain ⟨x1, x2, x3, x4⟩ := pc_sl_kz P hi h6 hg ha z hx
        have dx : x = 2 * (x / 2) + x % 2 := by omega
        obtain ⟨mx, mx1, mx2⟩ := G2 (x / 2) (x % 2) x2 (by omega) (by rw [← dx, x3]; exact k0)
        rw [← dx] at mx2
        have a1 := (G1 g hg).2.2
        have a2 := (G1 (fo (x / 2)) (pc_fo P x2)).2.2
        have e3 : nI (200 * d) - 200 + nI mx = nI (200 * (d - 1) + mx) := by
          have : nI (200 * d) - nI 200 = nI (200 * d - 200) := pk_sub (by omega)
          show nI (200 * d) - nI 200 + nI mx = _
          rw [this, nI_add]
          have : 200 * d - 200 + mx = 200 * (d - 1) + mx := by omega
          rw [this]
        have lo : ev (200 * (d - 1) + mx) = a_env (200 * (d - 1) + mx) := F.1 _ (by omega)
        have F' : ps_F a_sigType a_tokType en a_region g i d (s + 1) a_env (upd ev (200 * d + m) (a_env (200 * (d - 1) + mx))) := by
          refine ⟨fun j hj => by rw [pk_un (by omega)]; exact F.1 j hj, fun k hk h => ?_, fun s' x' m' hs' hk hx' hr hm => ?_⟩
          · have nk : m ≠ k := fun q => h s (by omega) k0 (by rw [← q]; exact m2)
            rw [pk_un (by omega)]
            exact F.2.1 k hk (fun s' hs' => h s' (by omega))
          · by_cases w : m' = m
            · subst w
              rw [pk_us]
              have := G6 i g s s' x x' hi h6 ha hg z (by omega) k0 hk (by rw [m2, hr]) hx hx'
              rw [← this, mx2, nI_clamp (by omega)]
            · rw [pk_un (by omega)]
              have : s' ≠ s := fun q => by
                subst q
                exact w ((nI_eq (by omega) (by omega)).mp (hr.symm.trans m2))
              exact F.2.2 s' x' m' (by omega) hk hx' hr hm
        obtain ⟨ev', q1, q2⟩ := ux_pass12 P ⟨G1, G2, G3, G4, G5, G6, G7⟩ hp he hi h6 hg ha hd hd1 n (s + 1) _ (by omega) (by omega) F'
        refine ⟨ev', q1, fun post hpo => br_f (nI_ge (b := 6) z (by decide)) ?_⟩
        rw [e1, cs]
        refine ⟨vp_in_nI (by omega) (by decide), nm_r m2 (ux_slot P hp he hi h6 hg ha z ?_)⟩
        rw [hx, show oI (some x) = nI x from rfl]
        refine br_f (nI_pos (by omega)) (br_f (nI_pos (n := x) (by omega)) ⟨vp_in_nI (by omega) (by decide), ?_⟩)
        rw [nI_clamp (n := x) (by omega), mx2, e3, nI_add, nI_clamp (n := 200 * d + m) (by omega), nI_clamp (n := 200 * (d - 1) + mx) (by omega), lo]
        refine br_f (nI_pos (by omega)) ⟨vp_in_nI (by omega) (by decide), vp_in_nI (by omega) (by decide), vp_in_nI (by omega) (by decide), nm_e (nm_r (nI_1 s) (q2 post hpo))⟩
    · have : s = 6 := by omega
      subst this
      exact ⟨ev, F, fun post hpo => br_t (by decide) hpo⟩
theorem ux_pass (P : pc_ok nf t a_sigType a_tokOp a_tokArg a_tokType a_tokScope sN fo en) (G : rg_ok nf t a_sigType a_tokOp a_tokArg a_tokType sN fo en sg al a_region a_sigRegions a_allRegions) (hp : ∀ f, f < nf → a_params f = nI (sp_n a_sigType f)) (he : ∀ q, q < t → a_end q = nI (en q)) (hi : i < t) (h6 : a_tokOp i = 6) (hg : g < nf) (ha : a_tokArg i = nI g) (hd : d < 24) (hd1 : 1 ≤ d) :
    ∃ ev', ps_F a_sigType a_tokType en a_region g i d 6 a_env ev' ∧ ∀ post : SX → Prop, post (f_functionLimit, f_tokenLimit, f_cellLimit, f_depthLimit, f_functions, f_accepted, f_placed, f_openBody, f_holeCount, f_nextRegion, f_changed, f_freeCell, nI d, f_calls, f_taskTop, f_valueTop, f_releasing, f_outcome, f_peakUsed, f_resultSize, a_sigType, a_params, a_kept, a_start, a_finished, a_tokOp, a_tokArg, a_tokType, a_tokScope, a_end, a_holeType, a_holeNest, a_holeScope, a_holeVars, a_parent, a_region, a_sigRegions, a_allRegions, a_cellA, a_cellB, a_link, a_live, a_frameFunction, a_vars, a_saved, ev', a_regionFirst, a_tasks, a_values, a_used, a_result) → wpX_passRegions post (f_functionLimit, f_tokenLimit, f_cellLimit, f_depthLimit, f_functions, f_accepted, f_placed, f_openBody, f_holeCount, f_nextRegion, f_changed, f_freeCell, nI d, f_calls, f_taskTop, f_valueTop, f_releasing, f_outcome, f_peakUsed, f_resultSize, a_sigType, a_params, a_kept, a_start, a_finished, a_tokOp, a_tokArg, a_tokType, a_tokScope, a_end, a_holeType, a_holeNest, a_holeScope, a_holeVars, a_parent, a_region, a_sigRegions, a_allRegions, a_cellA, a_cellB, a_link, a_live, a_frameFunction, a_vars, a_saved, a_env, a_regionFirst, a_tasks, a_values, a_used, a_result) (nI g) (nI i) := by
  obtain ⟨ev', q1, q2⟩ := ux_pass12 P G hp he hi h6 hg ha hd hd1 7 0 a_env (by omega) (by omega) ⟨fun _ _ => rfl, fun _ _ _ => rfl, fun s _ _ hs => by omega⟩
  refine ⟨ev', q1, fun post hpo => nm_r (e' := nI (200 * d)) (pk_mul 200 d) ⟨7, q2 post hpo⟩⟩
def xz_sv (sv us : Nat → Int32) (d : Nat) : Nat → Int32 := upd (upd (upd sv (4 * d + 1) (us 1)) (4 * d + 2) (us 2)) (4 * d + 3) (us 3)
theorem ux_ent72 {post : SX → Prop} (hg : g < 8) (hd : d < 24) (ht : tt < 1020) (hst : a_start g = nI (sN g))
    (K : post (f_functionLimit, f_tokenLimit, f_cellLimit, f_depthLimit, f_functions, f_accepted, f_placed, f_openBody, f_holeCount, f_nextRegion, f_changed, f_freeCell, nI (d + 1), nI (c + 1), nI (tt + 2), f_valueTop, f_releasing, f_outcome, f_peakUsed, f_resultSize, a_sigType, a_params, a_kept, a_start, a_finished, a_tokOp, a_tokArg, a_tokType, a_tokScope, a_end, a_holeType, a_holeNest, a_holeScope, a_holeVars, a_parent, a_region, a_sigRegions, a_allRegions, a_cellA, a_cellB, a_link, a_live, upd a_frameFunction d (nI g), a_vars, xz_sv a_saved a_used d, a_env, a_regionFirst, upd (upd a_tasks tt (-1)) (tt + 1) (nI (2 * sN g)), a_values, a_used, a_result)) :
    wX_enter_72 post (nI g) f_functionLimit f_tokenLimit f_cellLimit f_depthLimit f_functions f_accepted f_placed f_openBody f_holeCount f_nextRegion f_changed f_freeCell (nI d) (nI c) (nI tt) f_valueTop f_releasing f_outcome f_peakUsed f_resultSize 4 1 a_sigType a_params a_kept a_start a_finished a_tokOp a_tokArg a_tokType a_tokScope a_end a_holeType a_holeNest a_holeScope a_holeVars a_parent a_region a_sigRegions a_allRegions a_cellA a_cellB a_link a_live a_frameFunction a_vars a_saved a_env a_regionFirst a_tasks a_values a_used a_result := by
  have e : ∀ k : Nat, (4 : Int32) * nI d + nI k = nI (4 * d + k) := fun k => by
    show nI 4 * nI d + nI k = _
    rw [pk_mul, nI_add]
  have step : ∀ (k n : Nat) (sv : Nat → Int32), 1 ≤ k → k ≤ 3 → wX_enter_72 post (nI g) f_functionLimit f_tokenLimit f_cellLimit f_depthLimit f_functions f_accepted f_placed f_openBody f_holeCount f_nextRegion f_changed f_freeCell (nI d) (nI c) (nI tt) f_valueTop f_releasing f_outcome f_peakUsed f_resultSize n (nI (k + 1)) a_sigType a_params a_kept a_start a_finished a_tokOp a_tokArg a_tokType a_tokScope a_end a_holeType a_holeNest a_holeScope a_holeVars a_parent a_region a_sigRegions a_allRegions a_cellA a_cellB a_link a_live a_frameFunction a_vars (upd sv (4 * d + k) (a_used k)) a_env a_regionFirst a_tasks a_values a_used a_result → wX_enter_72 post (nI g) f_functionLimit f_tokenLimit f_cellLimit f_depthLimit f_functions f_accepted f_placed f_openBody f_holeCount f_nextRegion f_changed f_freeCell (nI d) (nI c) (nI tt) f_valueTop f_releasing f_outcome f_peakUsed f_resultSize (n + 1) (nI k) a_sigType a_params a_kept a_start a_finished a_tokOp a_tokArg a_tokType a_tokScope a_end a_holeType a_holeNest a_holeScope a_holeVars a_parent a_region a_sigRegions a_allRegions a_cellA a_cellB a_link a_live a_frameFunction a_vars sv a_env a_regionFirst a_tasks a_values a_used a_result := by
    intro k n sv h1 h2 h
    refine br_f (nI_nlt (a := 3) h2 (by omega)) ⟨vp_in_nI (by omega) (by decide), ?_⟩
    rw [e k, nI_clamp (n := k) (by omega), nI_clamp (n := 4 * d + k) (by omega)]
    exact ⟨vp_in_nI (by omega) (by decide), nm_e (nm_r (nI_1 k) h)⟩
  refine step 1 3 a_saved (by omega) (by omega) (step 2 2 _ (by omega) (by omega) (step 3 1 _ (by omega) (by omega) ?_))
  refine br_t (by decide) ⟨vp_in_nI hd (by decide), ?_⟩
  rw [nI_clamp (n := d) (by omega)]
  refine nm_e (nm_r (nI_1 d) (nm_r (nI_1 c) ?_))
  refine ux_task (by omega) ⟨vp_in_nI hg (by decide), ?_⟩
  rw [nI_clamp (n := g) (by omega), hst, vz_2]
  exact ux_task (by omega) K
theorem ux_enter (P : pc_ok nf t a_sigType a_tokOp a_tokArg a_tokType a_tokScope sN fo en) (G : rg_ok nf t a_sigType a_tokOp a_tokArg a_tokType sN fo en sg al a_region a_sigRegions a_allRegions) (hp : ∀ f, f < nf → a_params f = nI (sp_n a_sigType f)) (he : ∀ q, q < t → a_end q = nI (en q)) (hst : ∀ f, f < nf → a_start f = nI (sN f)) (hi : i < t) (h6 : a_tokOp i = 6) (hg : g < nf) (ha : a_tokArg i = nI g) (hd : d < 24) (hd1 : 1 ≤ d) (ht : tt < 1020) :
    ∃ ev', ps_F a_sigType a_tokType en a_region g i d 6 (xz_ev a_env (200 * d) (al g)) ev' ∧ ∀ post : SX → Prop, post (f_functionLimit, f_tokenLimit, f_cellLimit, f_depthLimit, f_functions, f_accepted, f_placed, f_openBody, f_holeCount, f_nextRegion, f_changed, f_freeCell, nI (d + 1), nI (c + 1), nI (tt + 2), f_valueTop, f_releasing, f_outcome, f_peakUsed, f_resultSize, a_sigType, a_params, a_kept, a_start, a_finished, a_tokOp, a_tokArg, a_tokType, a_tokScope, a_end, a_holeType, a_holeNest, a_holeScope, a_holeVars, a_parent, a_region, a_sigRegions, a_allRegions, a_cellA, a_cellB, a_link, a_live, upd a_frameFunction d (nI g), a_vars, xz_sv a_saved a_used d, ev', xz_rF a_regionFirst (200 * d) (al g), upd (upd a_tasks tt (-1)) (tt + 1) (nI (2 * sN g)), a_values, a_used, a_result) → wpX_enter post (f_functionLimit, f_tokenLimit, f_cellLimit, f_depthLimit, f_functions, f_accepted, f_placed, f_openBody, f_holeCount, f_nextRegion, f_changed, f_freeCell, nI d, nI c, nI tt, f_valueTop, f_releasing, f_outcome, f_peakUsed, f_resultSize, a_sigType, a_params, a_kept, a_start, a_finished, a_tokOp, a_tokArg, a_tokType, a_tokScope, a_end, a_holeType, a_holeNest, a_holeScope, a_holeVars, a_parent, a_region, a_sigRegions, a_allRegions, a_cellA, a_cellB, a_link, a_live, a_frameFunction, a_vars, a_saved, a_env, a_regionFirst, a_tasks, a_values, a_used, a_result) (nI g) (nI i) := by
  have hn := P.2.1
  have ht96 := P.1
  have g1 := G.1 g hg
  obtain ⟨ev', q1, q2⟩ := ux_pass (f_functionLimit := f_functionLimit) (f_tokenLimit := f_tokenLimit) (f_cellLimit := f_cellLimit) (f_depthLimit := f_depthLimit) (f_functions := f_functions) (f_accepted := f_accepted) (f_placed := f_placed) (f_openBody := f_openBody) (f_holeCount := f_holeCount) (f_nextRegion := f_nextRegion) (f_changed := f_changed) (f_freeCell := f_freeCell) (f_calls := nI c) (f_taskTop := nI tt) (f_valueTop := f_valueTop) (f_releasing := f_releasing) (f_outcome := f_outcome) (f_peakUsed := f_peakUsed) (f_resultSize := f_resultSize) (a_sigType := a_sigType) (a_params := a_params) (a_kept := a_kept) (a_start := a_start) (a_finished := a_finished) (a_tokOp := a_tokOp) (a_tokArg := a_tokArg) (a_tokType := a_tokType) (a_tokScope := a_tokScope) (a_end := a_end) (a_holeType := a_holeType) (a_holeNest := a_holeNest) (a_holeScope := a_holeScope) (a_holeVars := a_holeVars) (a_parent := a_parent) (a_region := a_region) (a_sigRegions := a_sigRegions) (a_allRegions := a_allRegions) (a_cellA := a_cellA) (a_cellB := a_cellB) (a_link := a_link) (a_live := a_live) (a_frameFunction := a_frameFunction) (a_vars := a_vars) (a_saved := a_saved) (a_env := xz_ev a_env (200 * d) (al g)) (a_regionFirst := xz_rF a_regionFirst (200 * d) (al g)) (a_tasks := a_tasks) (a_values := a_values) (a_used := a_used) (a_result := a_result) P G hp he hi h6 hg ha hd hd1
  refine ⟨ev', q1, fun post hpo => nm_r (e' := nI (200 * d)) (pk_mul 200 d) ⟨al g + 1, ?_⟩⟩
  refine ux_ent12 (by omega) hd g1.2.1 g1.2.2.2 ?_ (al g + 1) 0 a_env a_regionFirst (by omega) (by omega) (fun j j1 j2 => by omega) (fun j _ => ⟨rfl, rfl⟩)
  refine ⟨vp_in_nI (by omega) (by decide), ?_⟩
  rw [nI_clamp (n := g) (by omega), g1.2.1]
  refine br_t (nI_le (Nat.le_refl _) (by omega)) (br_f (nI_pos (by omega)) (br_f (nI_nle hd1 (by omega)) (q2 _ ⟨4, ux_ent72 (by omega) hd ht (hst g hg) hpo⟩)))
theorem ux_enter0 (P : pc_ok nf t a_sigType a_tokOp a_tokArg a_tokType a_tokScope sN fo en) (G : rg_ok nf t a_sigType a_tokOp a_tokArg a_tokType sN fo en sg al a_region a_sigRegions a_allRegions) (hst : ∀ f, f < nf → a_start f = nI (sN f)) (hg : g < nf) (hd : d < 24) (ht : tt < 1020) {post : SX → Prop} {ev' : Nat → Int32} (hev : ev' = xz_ev a_env (200 * d) (al g)) (hpo : post (f_functionLimit, f_tokenLimit, f_cellLimit, f_depthLimit, f_functions, f_accepted, f_placed, f_openBody, f_holeCount, f_nextRegion, f_changed, f_freeCell, nI (d + 1), nI (c + 1), nI (tt + 2), f_valueTop, f_releasing, f_outcome, f_peakUsed, f_resultSize, a_sigType, a_params, a_kept, a_start, a_finished, a_tokOp, a_tokArg, a_tokType, a_tokScope, a_end, a_holeType, a_holeNest, a_holeScope, a_holeVars, a_parent, a_region, a_sigRegions, a_allRegions, a_cellA, a_cellB, a_link, a_live, upd a_frameFunction d (nI g), a_vars, xz_sv a_saved a_used d, ev', xz_rF a_regionFirst (200 * d) (al g), upd (upd a_tasks tt (-1)) (tt + 1) (nI (2 * sN g)), a_values, a_used, a_result)) : wpX_enter post (f_functionLimit, f_tokenLimit, f_cellLimit, f_depthLimit, f_functions, f_accepted, f_placed, f_openBody, f_holeCount, f_nextRegion, f_changed, f_freeCell, nI d, nI c, nI tt, f_valueTop, f_releasing, f_outcome, f_peakUsed, f_resultSize, a_sigType, a_params, a_kept, a_start, a_finished, a_tokOp, a_tokArg, a_tokType, a_tokScope, a_end, a_holeType, a_holeNest, a_holeScope, a_holeVars, a_parent, a_region, a_sigRegions, a_allRegions, a_cellA, a_cellB, a_link, a_live, a_frameFunction, a_vars, a_saved, a_env, a_regionFirst, a_tasks, a_values, a_used, a_result) (nI g) (-1) := by
  subst hev
  have hn := P.2.1
  have g1 := G.1 g hg
  refine nm_r (e' := nI (200 * d)) (pk_mul 200 d) ⟨al g + 1, ?_⟩
  refine ux_ent12 (by omega) hd g1.2.1 g1.2.2.2 ?_ (al g + 1) 0 a_env a_regionFirst (by omega) (by omega) (fun j j1 j2 => by omega) (fun j _ => ⟨rfl, rfl⟩)
  refine ⟨vp_in_nI (by omega) (by decide), ?_⟩
  rw [nI_clamp (n := g) (by omega), g1.2.1]
  exact br_t (nI_le (Nat.le_refl _) (by omega)) (br_t (by decide) ⟨4, ux_ent72 (by omega) hd ht (hst g hg) hpo⟩)
end
end
section
/-- type τ contains kind k -/
def ct_k (τ : Int32) (k : Nat) : Prop := τ = nI k ∨ (τ = 3 ∧ k = 1)
def kc_k (S : Nat → Int32) (f k : Nat) : Prop := ct_k (S (3 * f + 2)) k ∨ ct_k (S (3 * f)) k ∨ ct_k (S (3 * f + 1)) k
def tv5 (a : Nat) : Int32 := if a = 0 then -1 else nI (a - 1)
theorem kc_tab : ∀ a, a < 5 → ∀ b, b < 5 → ∀ c, c < 5 → ∀ k, k < 4 → (decide (((((kk (tv5 a) ||| kk (tv5 b)) ||| kk (tv5 c)) >>> (nI k &&& 31)) &&& 1) = 0) || decide (k = 0)) = (decide (¬ ((tv5 a = nI k ∨ (tv5 a = 3 ∧ k = 1)) ∨ (tv5 b = nI k ∨ (tv5 b = 3 ∧ k = 1)) ∨ (tv5 c = nI k ∨ (tv5 c = 3 ∧ k = 1)))) || decide (k = 0)) := by decide +kernel
theorem tv5_of {τ : Int32} (h : τ = -1 ∨ sp_ty τ) : ∃ a, a < 5 ∧ τ = tv5 a := by
  rcases h with h | h | h | h | h
  · exact ⟨0, by omega, h⟩
  · exact ⟨1, by omega, h⟩
  · exact ⟨2, by omega, h⟩
  · exact ⟨3, by omega, h⟩
  · exact ⟨4, by omega, h⟩
theorem kc_bit {S : Nat → Int32} {ke : Int32} {f k : Nat} (hsf : sp_sf S f) (hke : ke = (kk (S (3 * f + 2)) ||| kk (S (3 * f))) ||| kk (S (3 * f + 1))) (h1 : 1 ≤ k) (h3 : k ≤ 3) : ((ke >>> (nI k &&& 31)) &&& 1) = 0 ↔ ¬ kc_k S f k := by
  obtain ⟨a, a1, a2⟩ := tv5_of (Or.inr hsf.1)
  obtain ⟨b, b1, b2⟩ := tv5_of hsf.2.1
  obtain ⟨c, c1, c2⟩ := tv5_of hsf.2.2.1
  have T := kc_tab a a1 b b1 c c1 k (by omega)
  have k0 : decide (k = 0) = false := decide_eq_false (by omega)
  rw [k0, Bool.or_false, Bool.or_false] at T
  unfold kc_k ct_k
  rw [hke, a2, b2, c2]
  exact decide_eq_decide.mp T
section
variable {f_functionLimit f_tokenLimit f_cellLimit f_depthLimit f_functions f_accepted f_placed f_openBody f_holeCount f_nextRegion f_changed f_freeCell f_active f_calls f_taskTop f_valueTop f_releasing f_outcome f_peakUsed f_resultSize : Int32} {a_sigType a_params a_kept a_start a_finished a_tokOp a_tokArg a_tokType a_tokScope a_end a_holeType a_holeNest a_holeScope a_holeVars a_parent a_region a_sigRegions a_allRegions a_cellA a_cellB a_link a_live a_frameFunction a_vars a_saved a_env a_regionFirst a_tasks a_values a_used a_result : Nat → Int32}
variable {nf t d c tt vt g i n : Nat} {sN fo en sg al : Nat → Nat} {u1 : SX}
theorem ux_call49 (hd : d < 24) (hv : vt + 2 < 512) : ∀ (n m : Nat) (vr : Nat → Int32), n ≤ 2 → n < m →
    ∃ vr' : Nat → Int32, (∀ j, j < 8 * d ∨ 8 * d + n ≤ j → vr' j = vr j) ∧ (∀ k, k < n → vr' (8 * d + k) = a_values (vt + k)) ∧
      ∀ u1 : SX, (∀ post : SX → Prop, post u1 → wpX_enter post (f_functionLimit, f_tokenLimit, f_cellLimit, f_depthLimit, f_functions, f_accepted, f_placed, f_openBody, f_holeCount, f_nextRegion, f_changed, f_freeCell, nI d, f_calls, f_taskTop, nI vt, f_releasing, f_outcome, f_peakUsed, f_resultSize, a_sigType, a_params, a_kept, a_start, a_finished, a_tokOp, a_tokArg, a_tokType, a_tokScope, a_end, a_holeType, a_holeNest, a_holeScope, a_holeVars, a_parent, a_region, a_sigRegions, a_allRegions, a_cellA, a_cellB, a_link, a_live, a_frameFunction, vr', a_saved, a_env, a_regionFirst, a_tasks, a_values, a_used, a_result) (nI g) (nI i)) → ∀ post : SX → Prop, post u1 → wX_call_49 post (nI i) (nI g) m (zi n) f_functionLimit f_tokenLimit f_cellLimit f_depthLimit f_functions f_accepted f_placed f_openBody f_holeCount f_nextRegion f_changed f_freeCell (nI d) f_calls f_taskTop (nI (vt + n)) f_releasing f_outcome f_peakUsed f_resultSize a_sigType a_params a_kept a_start a_finished a_tokOp a_tokArg a_tokType a_tokScope a_end a_holeType a_holeNest a_holeScope a_holeVars a_parent a_region a_sigRegions a_allRegions a_cellA a_cellB a_link a_live a_frameFunction vr a_saved a_env a_regionFirst a_tasks a_values a_used a_result
  | _, 0, _, _, h => absurd h (Nat.not_lt_zero _)
  | 0, m + 1, vr, h1, h2 => by
    refine ⟨vr, fun _ _ => rfl, fun k hk => by omega, fun u1 E post hpo => br_t (by decide) (E _ ?_)⟩
    obtain ⟨f_functionLimit, f_tokenLimit, f_cellLimit, f_depthLimit, f_functions, f_accepted, f_placed, f_openBody, f_holeCount, f_nextRegion, f_changed, f_freeCell, f_active, f_calls, f_taskTop, f_valueTop, f_releasing, f_outcome, f_peakUsed, f_resultSize, a_sigType, a_params, a_kept, a_start, a_finished, a_tokOp, a_tokArg, a_tokType, a_tokScope, a_end, a_holeType, a_holeNest, a_holeScope, a_holeVars, a_parent, a_region, a_sigRegions, a_allRegions, a_cellA, a_cellB, a_link, a_live, a_frameFunction, a_vars, a_saved, a_env, a_regionFirst, a_tasks, a_values, a_used, a_result⟩ := u1
    exact hpo
  | n + 1, m + 1, vr, h1, h2 => by
    obtain ⟨vr', q1, q2, q3⟩ := ux_call49 hd hv n m (upd vr (8 * d + n) (a_values (vt + n))) (by omega) (by omega)
    refine ⟨vr', fun j hj => ?_, fun k hk => ?_, fun u1 E post hpo => ?_⟩
    · rw [q1 j (by omega), pk_un (by omega)]
    · rcases Nat.lt_or_ge k n with z | z
      · exact q2 k z
      · have : k = n := by omega
        subst this
        rw [q1 _ (by omega), pk_us]
    · rw [show zi (n + 1) = nI n from rfl]
      have e : (8 : Int32) * nI d + nI n = nI (8 * d + n) := by
        show nI 8 * nI d + nI n = _
        rw [pk_mul, nI_add]
      refine br_f (nI_pos (by omega)) (ux_pop (vt := vt + n) (by omega) ?_)
      rw [e, nI_clamp (n := 8 * d + n) (by omega)]
      exact ⟨vp_in_nI (by omega) (by decide), nm_e (nm_r (zi_m1 n) (q3 u1 E post hpo))⟩
theorem rc_call4 (hi : i < 100) (h : a_tokOp i = 6) (hc : 200 ≤ c) (hc2 : c < 1000) : ru_C (f_functionLimit, f_tokenLimit, f_cellLimit, f_depthLimit, f_functions, f_accepted, f_placed, f_openBody, f_holeCount, f_nextRegion, f_changed, f_freeCell, f_active, nI c, f_taskTop, f_valueTop, f_releasing, f_outcome, f_peakUsed, f_resultSize, a_sigType, a_params, a_kept, a_start, a_finished, a_tokOp, a_tokArg, a_tokType, a_tokScope, a_end, a_holeType, a_holeNest, a_holeScope, a_holeVars, a_parent, a_region, a_sigRegions, a_allRegions, a_cellA, a_cellB, a_link, a_live, a_frameFunction, a_vars, a_saved, a_env, a_regionFirst, a_tasks, a_values, a_used, a_result) i (f_functionLimit, f_tokenLimit, f_cellLimit, f_depthLimit, f_functions, f_accepted, f_placed, f_openBody, f_holeCount, f_nextRegion, f_changed, f_freeCell, f_active, nI c, f_taskTop, f_valueTop, f_releasing, 4, f_peakUsed, f_resultSize, a_sigType, a_params, a_kept, a_start, a_finished, a_tokOp, a_tokArg, a_tokType, a_tokScope, a_end, a_holeType, a_holeNest, a_holeScope, a_holeVars, a_parent, a_region, a_sigRegions, a_allRegions, a_cellA, a_cellB, a_link, a_live, a_frameFunction, a_vars, a_saved, a_env, a_regionFirst, a_tasks, a_values, a_used, a_result) := by
  intro post hpo
  have hin : vp_in (nI i) 100 := vp_in_nI hi (by decide)
  refine ⟨hin, ?_⟩
  rw [nI_clamp (n := i) (by omega), h]
  refine nm_e (br_f (by decide) (br_f (by decide) (br_f (by decide) (br_f (by decide) (br_f (by decide) (br_t (by decide) (?_)))))))
  exact br_f (nI_nlt (b := 200) hc (by omega)) hpo
theorem rc_call5 {dl : Nat} (hi : i < 100) (h : a_tokOp i = 6) (hc : c < 200) (hdl : f_depthLimit = nI dl) (hd : dl ≤ d) (hd2 : d < 1000) : ru_C (f_functionLimit, f_tokenLimit, f_cellLimit, f_depthLimit, f_functions, f_accepted, f_placed, f_openBody, f_holeCount, f_nextRegion, f_changed, f_freeCell, nI d, nI c, f_taskTop, f_valueTop, f_releasing, f_outcome, f_peakUsed, f_resultSize, a_sigType, a_params, a_kept, a_start, a_finished, a_tokOp, a_tokArg, a_tokType, a_tokScope, a_end, a_holeType, a_holeNest, a_holeScope, a_holeVars, a_parent, a_region, a_sigRegions, a_allRegions, a_cellA, a_cellB, a_link, a_live, a_frameFunction, a_vars, a_saved, a_env, a_regionFirst, a_tasks, a_values, a_used, a_result) i (f_functionLimit, f_tokenLimit, f_cellLimit, f_depthLimit, f_functions, f_accepted, f_placed, f_openBody, f_holeCount, f_nextRegion, f_changed, f_freeCell, nI d, nI c, f_taskTop, f_valueTop, f_releasing, 5, f_peakUsed, f_resultSize, a_sigType, a_params, a_kept, a_start, a_finished, a_tokOp, a_tokArg, a_tokType, a_tokScope, a_end, a_holeType, a_holeNest, a_holeScope, a_holeVars, a_parent, a_region, a_sigRegions, a_allRegions, a_cellA, a_cellB, a_link, a_live, a_frameFunction, a_vars, a_saved, a_env, a_regionFirst, a_tasks, a_values, a_used, a_result) := by
  intro post hpo
  have hin : vp_in (nI i) 100 := vp_in_nI hi (by decide)
  refine ⟨hin, ?_⟩
  rw [nI_clamp (n := i) (by omega), h]
  refine nm_e (br_f (by decide) (br_f (by decide) (br_f (by decide) (br_f (by decide) (br_f (by decide) (br_t (by decide) (?_)))))))
  exact br_t (nI_lt (b := 200) hc (by decide)) (br_f (by rw [hdl]; exact nI_nlt hd (by omega)) hpo)
theorem rc_call {dl : Nat} (P : pc_ok nf t a_sigType a_tokOp a_tokArg a_tokType a_tokScope sN fo en) (G : rg_ok nf t a_sigType a_tokOp a_tokArg a_tokType sN fo en sg al a_region a_sigRegions a_allRegions) (hp : ∀ f, f < nf → a_params f = nI (sp_n a_sigType f)) (he : ∀ q, q < t → a_end q = nI (en q)) (hst : ∀ f, f < nf → a_start f = nI (sN f)) (hi : i < t) (h6 : a_tokOp i = 6) (hg : g < nf) (ha : a_tokArg i = nI g) (hd1 : 1 ≤ d) (ht : tt < 1020) (hc : c < 200) (hdl : f_depthLimit = nI dl) (hdd : d < dl) (hdl2 : dl ≤ 24) (hv : vt + 2 < 512) :
    ∃ ev' vr', ps_F a_sigType a_tokType en a_region g i d 6 (xz_ev a_env (200 * d) (al g)) ev' ∧ (∀ j, j < 8 * d ∨ 8 * d + sp_n a_sigType g ≤ j → vr' j = a_vars j) ∧ (∀ k, k < sp_n a_sigType g → vr' (8 * d + k) = a_values (vt + k)) ∧
    ru_C (f_functionLimit, f_tokenLimit, f_cellLimit, f_depthLimit, f_functions, f_accepted, f_placed, f_openBody, f_holeCount, f_nextRegion, f_changed, f_freeCell, nI d, nI c, nI tt, nI (vt + sp_n a_sigType g), f_releasing, f_outcome, f_peakUsed, f_resultSize, a_sigType, a_params, a_kept, a_start, a_finished, a_tokOp, a_tokArg, a_tokType, a_tokScope, a_end, a_holeType, a_holeNest, a_holeScope, a_holeVars, a_parent, a_region, a_sigRegions, a_allRegions, a_cellA, a_cellB, a_link, a_live, a_frameFunction, a_vars, a_saved, a_env, a_regionFirst, a_tasks, a_values, a_used, a_result) i (f_functionLimit, f_tokenLimit, f_cellLimit, f_depthLimit, f_functions, f_accepted, f_placed, f_openBody, f_holeCount, f_nextRegion, f_changed, f_freeCell, nI (d + 1), nI (c + 1), nI (tt + 2), nI vt, f_releasing, f_outcome, f_peakUsed, f_resultSize, a_sigType, a_params, a_kept, a_start, a_finished, a_tokOp, a_tokArg, a_tokType, a_tokScope, a_end, a_holeType, a_holeNest, a_holeScope, a_holeVars, a_parent, a_region, a_sigRegions, a_allRegions, a_cellA, a_cellB, a_link, a_live, upd a_frameFunction d (nI g), vr', xz_sv a_saved a_used d, ev', xz_rF a_regionFirst (200 * d) (al g), upd (upd a_tasks tt (-1)) (tt + 1) (nI (2 * sN g)), a_values, a_used, a_result) := by
  have hn := P.2.1
  have ht96 := P.1
  have hle := sp_n_le a_sigType g
  obtain ⟨vr', q1, q2, q3⟩ := ux_call49 (f_functionLimit := f_functionLimit) (f_tokenLimit := f_tokenLimit) (f_cellLimit := f_cellLimit) (f_depthLimit := f_depthLimit) (f_functions := f_functions) (f_accepted := f_accepted) (f_placed := f_placed) (f_openBody := f_openBody) (f_holeCount := f_holeCount) (f_nextRegion := f_nextRegion) (f_changed := f_changed) (f_freeCell := f_freeCell) (f_calls := nI c) (f_taskTop := nI tt) (f_releasing := f_releasing) (f_outcome := f_outcome) (f_peakUsed := f_peakUsed) (f_resultSize := f_resultSize) (a_sigType := a_sigType) (a_params := a_params) (a_kept := a_kept) (a_start := a_start) (a_finished := a_finished) (a_tokOp := a_tokOp) (a_tokArg := a_tokArg) (a_tokType := a_tokType) (a_tokScope := a_tokScope) (a_end := a_end) (a_holeType := a_holeType) (a_holeNest := a_holeNest) (a_holeScope := a_holeScope) (a_holeVars := a_holeVars) (a_parent := a_parent) (a_region := a_region) (a_sigRegions := a_sigRegions) (a_allRegions := a_allRegions) (a_cellA := a_cellA) (a_cellB := a_cellB) (a_link := a_link) (a_live := a_live) (a_frameFunction := a_frameFunction) (a_saved := a_saved) (a_env := a_env) (a_regionFirst := a_regionFirst) (a_tasks := a_tasks) (a_values := a_values) (a_used := a_used) (a_result := a_result) (g := g) (i := i) (d := d) (vt := vt) (by omega) hv (sp_n a_sigType g) (sp_n a_sigType g + 1) a_vars hle (by omega)
  obtain ⟨ev', r1, r2⟩ := ux_enter (f_functionLimit := f_functionLimit) (f_tokenLimit := f_tokenLimit) (f_cellLimit := f_cellLimit) (f_depthLimit := f_depthLimit) (f_functions := f_functions) (f_accepted := f_accepted) (f_placed := f_placed) (f_openBody := f_openBody) (f_holeCount := f_holeCount) (f_nextRegion := f_nextRegion) (f_changed := f_changed) (f_freeCell := f_freeCell) (f_valueTop := nI vt) (f_releasing := f_releasing) (f_outcome := f_outcome) (f_peakUsed := f_peakUsed) (f_resultSize := f_resultSize) (a_sigType := a_sigType) (a_params := a_params) (a_kept := a_kept) (a_start := a_start) (a_finished := a_finished) (a_tokOp := a_tokOp) (a_tokArg := a_tokArg) (a_tokType := a_tokType) (a_tokScope := a_tokScope) (a_end := a_end) (a_holeType := a_holeType) (a_holeNest := a_holeNest) (a_holeScope := a_holeScope) (a_holeVars := a_holeVars) (a_parent := a_parent) (a_region := a_region) (a_sigRegions := a_sigRegions) (a_allRegions := a_allRegions) (a_cellA := a_cellA) (a_cellB := a_cellB) (a_link := a_link) (a_live := a_live) (a_frameFunction := a_frameFunction) (a_vars := vr') (a_saved := a_saved) (a_env := a_env) (a_regionFirst := a_regionFirst) (a_tasks := a_tasks) (a_values := a_values) (a_used := a_used) (a_result := a_result) (c := c) (tt := tt) P G hp he hst hi h6 hg ha (by omega) hd1 ht
  refine ⟨ev', vr', r1, q1, q2, fun post hpo => ?_⟩
  have hin : vp_in (nI i) 100 := vp_in_nI (by omega) (by decide)
  refine ⟨hin, ?_⟩
  rw [nI_clamp (n := i) (by omega), h6]
  refine nm_e (br_f (by decide) (br_f (by decide) (br_f (by decide) (br_f (by decide) (br_f (by decide) (br_t (by decide) (?_)))))))
  refine br_t (nI_lt (b := 200) hc (by decide)) (br_t (by rw [hdl]; exact nI_lt hdd (by omega)) ⟨hin, nm_r (e' := nI g) (by rw [nI_clamp (n := i) (by omega)]; exact ha) ⟨vp_in_nI (by omega) (by decide), nm_r (e' := zi (sp_n a_sigType g)) (by rw [nI_clamp (n := g) (by omega), hp g hg]; exact zi_s1 _) ⟨sp_n a_sigType g + 1, ?_⟩⟩⟩)
  exact q3 _ r2 _ hpo
end
section
variable {f_functionLimit f_tokenLimit f_cellLimit f_depthLimit f_functions f_accepted f_placed f_openBody f_holeCount f_nextRegion f_changed f_freeCell f_active f_calls f_taskTop f_valueTop f_releasing f_outcome f_peakUsed f_resultSize : Int32} {a_sigType a_params a_kept a_start a_finished a_tokOp a_tokArg a_tokType a_tokScope a_end a_holeType a_holeNest a_holeScope a_holeVars a_parent a_region a_sigRegions a_allRegions a_cellA a_cellB a_link a_live a_frameFunction a_vars a_saved a_env a_regionFirst a_tasks a_values a_used a_result : Nat → Int32}
variable {cl md d R f : Nat} {uy : Int32} {fi se ck fr : Nat → Int32} {μ rg : Nat → Nat} {OP : Nat → Prop}
theorem ux_free2 (hcl : cl ≤ 64) (hR : R < 4800) (hOP : OP R) : ∀ (L : List Nat) (n k : Nat) (fc : Int32) (lk lv rF : Nat → Int32) (al : Nat → Prop) (FL : List Nat), hi_hp cl md fc a_cellA a_cellB lk lv fi se ck fr μ al FL → hr_ok md lk rF μ rg al OP → hi_ch lk L (rF R) → L.Nodup → (∀ c, c ∈ L ↔ ∃ e, e < md ∧ al e ∧ rg e = R ∧ μ e = c) → k + L.length ≤ 64 → L.length < n →
    ∃ (fc' : Int32) (lk' lv' rF' : Nat → Int32) (al' : Nat → Prop) (FL' : List Nat), hi_hp cl md fc' a_cellA a_cellB lk' lv' fi se ck fr μ al' FL' ∧ hr_ok md lk' rF' μ rg al' OP ∧ (∀ e, e < md → (al' e ↔ (al e ∧ rg e ≠ R))) ∧
      ∀ post : SX → Prop, post (f_functionLimit, f_tokenLimit, f_cellLimit, f_depthLimit, f_functions, f_accepted, f_placed, f_openBody, f_holeCount, f_nextRegion, f_changed, fc', f_active, f_calls, f_taskTop, f_valueTop, f_releasing, f_outcome, f_peakUsed, f_resultSize, a_sigType, a_params, a_kept, a_start, a_finished, a_tokOp, a_tokArg, a_tokType, a_tokScope, a_end, a_holeType, a_holeNest, a_holeScope, a_holeVars, a_parent, a_region, a_sigRegions, a_allRegions, a_cellA, a_cellB, lk', lv', a_frameFunction, a_vars, a_saved, a_env, rF', a_tasks, a_values, a_used, a_result) → wX_freeRegion_2 post (nI R) f_functionLimit f_tokenLimit f_cellLimit f_depthLimit f_functions f_accepted f_placed f_openBody f_holeCount f_nextRegion f_changed f_active f_calls f_taskTop f_valueTop f_releasing f_outcome f_peakUsed f_resultSize n (nI k) fc a_sigType a_params a_kept a_start a_finished a_tokOp a_tokArg a_tokType a_tokScope a_end a_holeType a_holeNest a_holeScope a_holeVars a_parent a_region a_sigRegions a_allRegions a_cellA a_cellB lk lv a_frameFunction a_vars a_saved a_env rF a_tasks a_values a_used a_result
  | [], 0, _, _, _, _, _, _, _, _, _, _, _, _, _, h => absurd h (Nat.not_lt_zero _)
  | c :: L, 0, _, _, _, _, _, _, _, _, _, _, _, _, _, h => absurd h (Nat.not_lt_zero _)
  | [], n + 1, k, fc, lk, lv, rF, al, FL, H, G, hc, hnd, hm, hk, hn => by
    have hc' : rF R = -1 := hc
    refine ⟨fc, lk, lv, rF, al, FL, H, G, fun e he => ⟨fun q => ⟨q, fun w => ?_⟩, fun q => q.1⟩, fun post hpo => br_c (fun _ => hpo) (fun _ => ⟨vp_in_nI hR (by decide), br_t ?_ hpo⟩)⟩
    · have := (hm (μ e)).mpr ⟨e, he, q, w, rfl⟩
      simp at this
    · rw [nI_clamp (n := R) (by omega), hc']; decide
  | c :: L, n + 1, k, fc, lk, lv, rF, al, FL, H, G, hc, hnd, hm, hk, hn => by
    obtain ⟨e0, x1, x2, x3, x4⟩ := (hm c).mp (List.mem_cons_self)
    subst x4
    have lc : μ e0 < 64 := by have := (H.2.1 e0 x1 x2).2.1; omega
    have hl : (μ e0 :: L).length = L.length + 1 := rfl
    obtain ⟨g1, g2, g3, g4⟩ := hr_free1 H G x1 x2 x3 hc hnd hm
    obtain ⟨fc', lk', lv', rF', al', FL', y1, y2, y3, y4⟩ := ux_free2 hcl hR hOP L n (k + 1) (nI (μ e0)) (upd lk (μ e0) fc) (upd lv (μ e0) 0) (upd rF R (lk (μ e0))) (fun e => al e ∧ e ≠ e0) (μ e0 :: FL) (hi_free1 H x1 x2) g1 g2 g3 g4 (by omega) (by omega)
    refine ⟨fc', lk', lv', rF', al', FL', y1, y2, fun e he => ?_, fun post hpo => ?_⟩
    · rw [y3 e he]
      constructor
      · intro q; exact ⟨q.1.1, q.2⟩
      · intro q
        exact ⟨⟨q.1, fun w => q.2 (by rw [w]; exact x3)⟩, q.2⟩
    · have cR : (nI R).toNatClampNeg = R := nI_clamp (by omega)
      have cc : (nI (μ e0)).toNatClampNeg = μ e0 := nI_clamp (by omega)
      have Rin : vp_in (nI R) 4800 := vp_in_nI hR (by decide)
      have cin : vp_in (nI (μ e0)) 64 := vp_in_nI lc (by decide)
      have hf : rF R = nI (μ e0) := hc.1
      refine br_f (nI_ge (b := 64) (by omega) (by decide)) ⟨Rin, ?_⟩
      rw [cR, hf]
      refine br_f (nI_pos (by omega)) ⟨Rin, nm_e ⟨cin, Rin, ?_⟩⟩
      rw [cc, vp_b0]
      exact nm_e ⟨cin, nm_e ⟨cin, nm_e (nm_r (nI_1 k) (y4 post hpo))⟩⟩
theorem ux_free {fc : Int32} {lk lv rF : Nat → Int32} {al : Nat → Prop} {FL : List Nat} (hcl : cl ≤ 64) (hR : R < 4800) (hOP : OP R) (H : hi_hp cl md fc a_cellA a_cellB lk lv fi se ck fr μ al FL) (G : hr_ok md lk rF μ rg al OP) :
    ∃ (fc' : Int32) (lk' lv' rF' : Nat → Int32) (al' : Nat → Prop) (FL' : List Nat), hi_hp cl md fc' a_cellA a_cellB lk' lv' fi se ck fr μ al' FL' ∧ hr_ok md lk' rF' μ rg al' OP ∧ (∀ e, e < md → (al' e ↔ (al e ∧ rg e ≠ R))) ∧
      ∀ post : SX → Prop, post (f_functionLimit, f_tokenLimit, f_cellLimit, f_depthLimit, f_functions, f_accepted, f_placed, f_openBody, f_holeCount, f_nextRegion, f_changed, fc', f_active, f_calls, f_taskTop, f_valueTop, f_releasing, f_outcome, f_peakUsed, f_resultSize, a_sigType, a_params, a_kept, a_start, a_finished, a_tokOp, a_tokArg, a_tokType, a_tokScope, a_end, a_holeType, a_holeNest, a_holeScope, a_holeVars, a_parent, a_region, a_sigRegions, a_allRegions, a_cellA, a_cellB, lk', lv', a_frameFunction, a_vars, a_saved, a_env, rF', a_tasks, a_values, a_used, a_result) → wpX_freeRegion post (f_functionLimit, f_tokenLimit, f_cellLimit, f_depthLimit, f_functions, f_accepted, f_placed, f_openBody, f_holeCount, f_nextRegion, f_changed, fc, f_active, f_calls, f_taskTop, f_valueTop, f_releasing, f_outcome, f_peakUsed, f_resultSize, a_sigType, a_params, a_kept, a_start, a_finished, a_tokOp, a_tokArg, a_tokType, a_tokScope, a_end, a_holeType, a_holeNest, a_holeScope, a_holeVars, a_parent, a_region, a_sigRegions, a_allRegions, a_cellA, a_cellB, lk, lv, a_frameFunction, a_vars, a_saved, a_env, rF, a_tasks, a_values, a_used, a_result) (nI R) := by
  obtain ⟨L, l1, l2, l3⟩ := G.2 R hOP
  have ll : L.length ≤ 64 := nd_len l2 (fun c hc => by
    obtain ⟨e, e1, e2, e3, e4⟩ := (l3 c).mp hc
    have := (H.2.1 e e1 e2).2.1
    omega)
  obtain ⟨fc', lk', lv', rF', al', FL', y1, y2, y3, y4⟩ := ux_free2 (f_functionLimit := f_functionLimit) (f_tokenLimit := f_tokenLimit) (f_cellLimit := f_cellLimit) (f_depthLimit := f_depthLimit) (f_functions := f_functions) (f_accepted := f_accepted) (f_placed := f_placed) (f_openBody := f_openBody) (f_holeCount := f_holeCount) (f_nextRegion := f_nextRegion) (f_changed := f_changed) (f_active := f_active) (f_calls := f_calls) (f_taskTop := f_taskTop) (f_valueTop := f_valueTop) (f_releasing := f_releasing) (f_outcome := f_outcome) (f_peakUsed := f_peakUsed) (f_resultSize := f_resultSize) (a_sigType := a_sigType) (a_params := a_params) (a_kept := a_kept) (a_start := a_start) (a_finished := a_finished) (a_tokOp := a_tokOp) (a_tokArg := a_tokArg) (a_tokType := a_tokType) (a_tokScope := a_tokScope) (a_end := a_end) (a_holeType := a_holeType) (a_holeNest := a_holeNest) (a_holeScope := a_holeScope) (a_holeVars := a_holeVars) (a_parent := a_parent) (a_region := a_region) (a_sigRegions := a_sigRegions) (a_allRegions := a_allRegions) (a_cellA := a_cellA) (a_cellB := a_cellB) (a_frameFunction := a_frameFunction) (a_vars := a_vars) (a_saved := a_saved) (a_env := a_env) (a_tasks := a_tasks) (a_values := a_values) (a_used := a_used) (a_result := a_result) hcl hR hOP L (L.length + 1) 0 fc lk lv rF al FL H G l1 l2 l3 (by omega) (by omega)
  exact ⟨fc', lk', lv', rF', al', FL', y1, y2, y3, fun post hpo => ⟨L.length + 1, y4 post hpo⟩⟩
theorem ux_lv87 {al0 : Nat} (hcl : cl ≤ 64) (hd : d < 24) (hf : f < 8) (ha : a_allRegions f = nI al0) (ha2 : al0 ≤ 200) : ∀ (n k : Nat) (fc : Int32) (lk lv rF : Nat → Int32) (al : Nat → Prop) (FL : List Nat), k ≤ al0 → al0 < n + k → (∀ k', k ≤ k' → k' < al0 → OP (200 * d + k')) → hi_hp cl md fc a_cellA a_cellB lk lv fi se ck fr μ al FL → hr_ok md lk rF μ rg al OP →
    ∃ (fc' : Int32) (lk' lv' rF' : Nat → Int32) (al' : Nat → Prop) (FL' : List Nat), hi_hp cl md fc' a_cellA a_cellB lk' lv' fi se ck fr μ al' FL' ∧ hr_ok md lk' rF' μ rg al' OP ∧ (∀ e, e < md → (al' e ↔ (al e ∧ ¬ (200 * d + k ≤ rg e ∧ rg e < 200 * d + al0)))) ∧
      ∀ post : SX → Prop, wX_leave_117 post f_functionLimit f_tokenLimit f_cellLimit f_depthLimit f_functions f_accepted f_placed f_openBody f_holeCount f_nextRegion f_changed fc' (nI d) f_calls f_taskTop f_valueTop f_releasing f_outcome f_peakUsed f_resultSize a_sigType a_params a_kept a_start a_finished a_tokOp a_tokArg a_tokType a_tokScope a_end a_holeType a_holeNest a_holeScope a_holeVars a_parent a_region a_sigRegions a_allRegions a_cellA a_cellB lk' lv' a_frameFunction a_vars a_saved a_env rF' a_tasks a_values a_used a_result → wX_leave_87 post (nI f) n (nI k) f_functionLimit f_tokenLimit f_cellLimit f_depthLimit f_functions f_accepted f_placed f_openBody f_holeCount f_nextRegion f_changed fc (nI d) f_calls f_taskTop f_valueTop f_releasing f_outcome f_peakUsed f_resultSize a_sigType a_params a_kept a_start a_finished a_tokOp a_tokArg a_tokType a_tokScope a_end a_holeType a_holeNest a_holeScope a_holeVars a_parent a_region a_sigRegions a_allRegions a_cellA a_cellB lk lv a_frameFunction a_vars a_saved a_env rF a_tasks a_values a_used a_result
  | 0, k, _, _, _, _, _, _, h1, h2, _, _, _ => by omega
  | n + 1, k, fc, lk, lv, rF, al, FL, h1, h2, h3, H, G => by
    have fin : vp_in (nI f) 8 := vp_in_nI hf (by decide)
    have cf : (nI f).toNatClampNeg = f := nI_clamp (by omega)
    rcases Nat.lt_or_ge k al0 with z | z
    · obtain ⟨fc1, lk1, lv1, rF1, al1, FL1, y1, y2, y3, y4⟩ := ux_free (f_functionLimit := f_functionLimit) (f_tokenLimit := f_tokenLimit) (f_cellLimit := f_cellLimit) (f_depthLimit := f_depthLimit) (f_functions := f_functions) (f_accepted := f_accepted) (f_placed := f_placed) (f_openBody := f_openBody) (f_holeCount := f_holeCount) (f_nextRegion := f_nextRegion) (f_changed := f_changed) (f_active := nI d) (f_calls := f_calls) (f_taskTop := f_taskTop) (f_valueTop := f_valueTop) (f_releasing := f_releasing) (f_outcome := f_outcome) (f_peakUsed := f_peakUsed) (f_resultSize := f_resultSize) (a_sigType := a_sigType) (a_params := a_params) (a_kept := a_kept) (a_start := a_start) (a_finished := a_finished) (a_tokOp := a_tokOp) (a_tokArg := a_tokArg) (a_tokType := a_tokType) (a_tokScope := a_tokScope) (a_end := a_end) (a_holeType := a_holeType) (a_holeNest := a_holeNest) (a_holeScope := a_holeScope) (a_holeVars := a_holeVars) (a_parent := a_parent) (a_region := a_region) (a_sigRegions := a_sigRegions) (a_allRegions := a_allRegions) (a_cellA := a_cellA) (a_cellB := a_cellB) (a_frameFunction := a_frameFunction) (a_vars := a_vars) (a_saved := a_saved) (a_env := a_env) (a_tasks := a_tasks) (a_values := a_values) (a_used := a_used) (a_result := a_result) (R := 200 * d + k) hcl (by omega) (h3 k (Nat.le_refl _) z) H G
      obtain ⟨fc', lk', lv', rF', al', FL', x1, x2, x3, x4⟩ := ux_lv87 hcl hd hf ha ha2 n (k + 1) fc1 lk1 lv1 rF1 al1 FL1 (by omega) (by omega) (fun k' a b => h3 k' (by omega) b) y1 y2
      refine ⟨fc', lk', lv', rF', al', FL', x1, x2, fun e he => ?_, fun post hpo => ⟨fin, ?_⟩⟩
      · rw [x3 e he, y3 e he]
        constructor
        · intro q; exact ⟨q.1.1, fun w => by have := q.1.2; have := q.2; omega⟩
        · intro q; exact ⟨⟨q.1, fun w => q.2 (by omega)⟩, fun w => q.2 (by omega)⟩
      · rw [cf, ha]
        have e : (200 : Int32) * nI d + nI k = nI (200 * d + k) := by
          show nI 200 * nI d + nI k = _
          rw [pk_mul, nI_add]
        refine br_f (nI_ge z (by omega)) ?_
        rw [e]
        exact y4 _ (nm_r (nI_1 k) (x4 post hpo))
    · refine ⟨fc, lk, lv, rF, al, FL, H, G, fun e he => ⟨fun q => ⟨q, fun w => by omega⟩, fun q => q.1⟩, fun post hpo => ⟨fin, ?_⟩⟩
      rw [cf, ha]
      exact br_t (nI_le z (by omega)) hpo
/-- used counts behind a leave -/
theorem ux_lv37 {n1 : Nat} (hf : f < 8) (hd : d < 24) (hsf : sp_sf a_sigType f) (hke : a_kept f = (kk (a_sigType (3 * f + 2)) ||| kk (a_sigType (3 * f))) ||| kk (a_sigType (3 * f + 1))) (hsg : a_sigRegions f = nI n1) : ∀ (n k : Nat) (us : Nat → Int32), 1 ≤ k → k ≤ 4 → 4 < n + k →
    ∃ us' : Nat → Int32, (∀ j, j < k → us' j = us j) ∧ (∀ j, k ≤ j → j ≤ 3 → (kc_k a_sigType f j → us' j = us j) ∧ (¬ kc_k a_sigType f j → us' j = a_saved (4 * d + j))) ∧
      ∀ post : SX → Prop, (∃ n87 : Nat, wX_leave_87 post (nI f) n87 (nI n1) f_functionLimit f_tokenLimit f_cellLimit f_depthLimit f_functions f_accepted f_placed f_openBody f_holeCount f_nextRegion f_changed f_freeCell (nI d) f_calls f_taskTop f_valueTop f_releasing f_outcome f_peakUsed f_resultSize a_sigType a_params a_kept a_start a_finished a_tokOp a_tokArg a_tokType a_tokScope a_end a_holeType a_holeNest a_holeScope a_holeVars a_parent a_region a_sigRegions a_allRegions a_cellA a_cellB a_link a_live a_frameFunction a_vars a_saved a_env a_regionFirst a_tasks a_values us' a_result) → wX_leave_37 post (nI f) f_functionLimit f_tokenLimit f_cellLimit f_depthLimit f_functions f_accepted f_placed f_openBody f_holeCount f_nextRegion f_changed f_freeCell (nI d) f_calls f_taskTop f_valueTop f_releasing f_outcome f_peakUsed f_resultSize n (nI k) a_sigType a_params a_kept a_start a_finished a_tokOp a_tokArg a_tokType a_tokScope a_end a_holeType a_holeNest a_holeScope a_holeVars a_parent a_region a_sigRegions a_allRegions a_cellA a_cellB a_link a_live a_frameFunction a_vars a_saved a_env a_regionFirst a_tasks a_values us a_result
  | 0, k, _, h0, h1, h2 => by omega
  | n + 1, k, us, h0, h1, h2 => by
    have fin : vp_in (nI f) 8 := vp_in_nI hf (by decide)
    have cf : (nI f).toNatClampNeg = f := nI_clamp (by omega)
    rcases Nat.lt_or_ge 3 k with z | z
    · refine ⟨us, fun _ _ => rfl, fun j j1 j2 => by omega, fun post hpo => br_t (nI_lt (a := 3) z (by omega)) ⟨fin, nm_r (e' := nI n1) (by rw [cf]; exact hsg) hpo⟩⟩
    · have kb := kc_bit (S := a_sigType) (f := f) (k := k) hsf hke h0 z
      have nz : ¬ (3 : Int32) < nI k := nI_nlt (a := 3) z (by omega)
      rcases Classical.em (kc_k a_sigType f k) with w | w
      · obtain ⟨us', q1, q2, q3⟩ := ux_lv37 hf hd hsf hke hsg n (k + 1) us (by omega) (by omega) (by omega)
        refine ⟨us', fun j hj => q1 j (by omega), fun j j1 j2 => ?_, fun post hpo => br_f nz ⟨fin, ?_⟩⟩
        · rcases Nat.lt_or_ge k j with y | y
          · exact q2 j y j2
          · have : j = k := by omega
            subst this
            exact ⟨fun _ => q1 j (by omega), fun v => absurd w v⟩
        · rw [cf]
          exact br_f (fun v => kb.mp v w) (nm_r (nI_1 k) (q3 post hpo))
      · obtain ⟨us', q1, q2, q3⟩ := ux_lv37 hf hd hsf hke hsg n (k + 1) (upd us k (a_saved (4 * d + k))) (by omega) (by omega) (by omega)
        refine ⟨us', fun j hj => by rw [q1 j (by omega), pk_un (by omega)], fun j j1 j2 => ?_, fun post hpo => br_f nz ⟨fin, ?_⟩⟩
        · rcases Nat.lt_or_ge k j with y | y
          · have := q2 j y j2
            rw [pk_un (by omega)] at this
            exact this
          · have : j = k := by omega
            subst this
            exact ⟨fun v => absurd v w, fun _ => by rw [q1 j (by omega), pk_us]⟩
        · have e : (4 : Int32) * nI d + nI k = nI (4 * d + k) := by
            show nI 4 * nI d + nI k = _
            rw [pk_mul, nI_add]
          rw [cf]
          refine br_t (kb.mpr w) ?_
          rw [e, nI_clamp (n := 4 * d + k) (by omega), nI_clamp (n := k) (by omega)]
          exact ⟨vp_in_nI (by omega) (by decide), vp_in_nI (by omega) (by decide), nm_e (nm_r (nI_1 k) (q3 post hpo))⟩
/-- leave, keeping all -/
theorem ux_leaveK {post : SX → Prop} (hd : d < 24) (h : wX_leave_117 post f_functionLimit f_tokenLimit f_cellLimit f_depthLimit f_functions f_accepted f_placed f_openBody f_holeCount f_nextRegion f_changed f_freeCell (nI d) f_calls f_taskTop f_valueTop 0 f_outcome f_peakUsed f_resultSize a_sigType a_params a_kept a_start a_finished a_tokOp a_tokArg a_tokType a_tokScope a_end a_holeType a_holeNest a_holeScope a_holeVars a_parent a_region a_sigRegions a_allRegions a_cellA a_cellB a_link a_live a_frameFunction a_vars a_saved a_env a_regionFirst a_tasks a_values a_used a_result) : wpX_leave post (f_functionLimit, f_tokenLimit, f_cellLimit, f_depthLimit, f_functions, f_accepted, f_placed, f_openBody, f_holeCount, f_nextRegion, f_changed, f_freeCell, nI (d + 1), f_calls, f_taskTop, f_valueTop, 0, f_outcome, f_peakUsed, f_resultSize, a_sigType, a_params, a_kept, a_start, a_finished, a_tokOp, a_tokArg, a_tokType, a_tokScope, a_end, a_holeType, a_holeNest, a_holeScope, a_holeVars, a_parent, a_region, a_sigRegions, a_allRegions, a_cellA, a_cellB, a_link, a_live, a_frameFunction, a_vars, a_saved, a_env, a_regionFirst, a_tasks, a_values, a_used, a_result) :=
  br_t (nI_lt (a := 0) (by omega) (by omega)) (nm_r (nI_pred d) ⟨vp_in_nI hd (by decide), nm_e (br_t rfl h)⟩)
/-- leave, with release -/
theorem ux_leaveR {n1 al0 : Nat} {fc : Int32} {lk lv rF : Nat → Int32} {al : Nat → Prop} {FL : List Nat} (hcl : cl ≤ 64) (hf : f < 8) (hd : d < 24) (hff : a_frameFunction d = nI f) (hsf : sp_sf a_sigType f) (hke : a_kept f = (kk (a_sigType (3 * f + 2)) ||| kk (a_sigType (3 * f))) ||| kk (a_sigType (3 * f + 1))) (hsg : a_sigRegions f = nI n1) (ha : a_allRegions f = nI al0) (hn1 : n1 ≤ al0) (ha2 : al0 ≤ 200)
    (hOP : ∀ k', n1 ≤ k' → k' < al0 → OP (200 * d + k')) (H : hi_hp cl md fc a_cellA a_cellB lk lv fi se ck fr μ al FL) (G : hr_ok md lk rF μ rg al OP) :
    ∃ (us' : Nat → Int32) (fc' : Int32) (lk' lv' rF' : Nat → Int32) (al' : Nat → Prop) (FL' : List Nat), (∀ j, 1 ≤ j → j ≤ 3 → (kc_k a_sigType f j → us' j = a_used j) ∧ (¬ kc_k a_sigType f j → us' j = a_saved (4 * d + j))) ∧ hi_hp cl md fc' a_cellA a_cellB lk' lv' fi se ck fr μ al' FL' ∧ hr_ok md lk' rF' μ rg al' OP ∧ (∀ e, e < md → (al' e ↔ (al e ∧ ¬ (200 * d + n1 ≤ rg e ∧ rg e < 200 * d + al0)))) ∧
      ∀ post : SX → Prop, wX_leave_117 post f_functionLimit f_tokenLimit f_cellLimit f_depthLimit f_functions f_accepted f_placed f_openBody f_holeCount f_nextRegion f_changed fc' (nI d) f_calls f_taskTop f_valueTop 1 f_outcome f_peakUsed f_resultSize a_sigType a_params a_kept a_start a_finished a_tokOp a_tokArg a_tokType a_tokScope a_end a_holeType a_holeNest a_holeScope a_holeVars a_parent a_region a_sigRegions a_allRegions a_cellA a_cellB lk' lv' a_frameFunction a_vars a_saved a_env rF' a_tasks a_values us' a_result → wpX_leave post (f_functionLimit, f_tokenLimit, f_cellLimit, f_depthLimit, f_functions, f_accepted, f_placed, f_openBody, f_holeCount, f_nextRegion, f_changed, fc, nI (d + 1), f_calls, f_taskTop, f_valueTop, 1, f_outcome, f_peakUsed, f_resultSize, a_sigType, a_params, a_kept, a_start, a_finished, a_tokOp, a_tokArg, a_tokType, a_tokScope, a_end, a_holeType, a_holeNest, a_holeScope, a_holeVars, a_parent, a_region, a_sigRegions, a_allRegions, a_cellA, a_cellB, lk, lv, a_frameFunction, a_vars, a_saved, a_env, rF, a_tasks, a_values, a_used, a_result) := by
  obtain ⟨us', q1, q2, q3⟩ := ux_lv37 (f_functionLimit := f_functionLimit) (f_tokenLimit := f_tokenLimit) (f_cellLimit := f_cellLimit) (f_depthLimit := f_depthLimit) (f_functions := f_functions) (f_accepted := f_accepted) (f_placed := f_placed) (f_openBody := f_openBody) (f_holeCount := f_holeCount) (f_nextRegion := f_nextRegion) (f_changed := f_changed) (f_freeCell := fc) (f_calls := f_calls) (f_taskTop := f_taskTop) (f_valueTop := f_valueTop) (f_releasing := 1) (f_outcome := f_outcome) (f_peakUsed := f_peakUsed) (f_resultSize := f_resultSize) (a_sigType := a_sigType) (a_params := a_params) (a_kept := a_kept) (a_start := a_start) (a_finished := a_finished) (a_tokOp := a_tokOp) (a_tokArg := a_tokArg) (a_tokType := a_tokType) (a_tokScope := a_tokScope) (a_end := a_end) (a_holeType := a_holeType) (a_holeNest := a_holeNest) (a_holeScope := a_holeScope) (a_holeVars := a_holeVars) (a_parent := a_parent) (a_region := a_region) (a_sigRegions := a_sigRegions) (a_allRegions := a_allRegions) (a_cellA := a_cellA) (a_cellB := a_cellB) (a_link := lk) (a_live := lv) (a_frameFunction := a_frameFunction) (a_vars := a_vars) (a_saved := a_saved) (a_env := a_env) (a_regionFirst := rF) (a_tasks := a_tasks) (a_values := a_values) (a_result := a_result) hf hd hsf hke hsg 5 1 a_used (by omega) (by omega) (by omega)
  obtain ⟨fc', lk', lv', rF', al', FL', x1, x2, x3, x4⟩ := ux_lv87 (f_functionLimit := f_functionLimit) (f_tokenLimit := f_tokenLimit) (f_cellLimit := f_cellLimit) (f_depthLimit := f_depthLimit) (f_functions := f_functions) (f_accepted := f_accepted) (f_placed := f_placed) (f_openBody := f_openBody) (f_holeCount := f_holeCount) (f_nextRegion := f_nextRegion) (f_changed := f_changed) (f_calls := f_calls) (f_taskTop := f_taskTop) (f_valueTop := f_valueTop) (f_releasing := 1) (f_outcome := f_outcome) (f_peakUsed := f_peakUsed) (f_resultSize := f_resultSize) (a_sigType := a_sigType) (a_params := a_params) (a_kept := a_kept) (a_start := a_start) (a_finished := a_finished) (a_tokOp := a_tokOp) (a_tokArg := a_tokArg) (a_tokType := a_tokType) (a_tokScope := a_tokScope) (a_end := a_end) (a_holeType := a_holeType) (a_holeNest := a_holeNest) (a_holeScope := a_holeScope) (a_holeVars := a_holeVars) (a_parent := a_parent) (a_region := a_region) (a_sigRegions := a_sigRegions) (a_allRegions := a_allRegions) (a_cellA := a_cellA) (a_cellB := a_cellB) (a_frameFunction := a_frameFunction) (a_vars := a_vars) (a_saved := a_saved) (a_env := a_env) (a_tasks := a_tasks) (a_values := a_values) (a_used := us') (a_result := a_result) hcl hd hf ha ha2 (al0 + 1) n1 fc lk lv rF al FL hn1 (by omega) hOP H G
  refine ⟨us', fc', lk', lv', rF', al', FL', q2, x1, x2, x3, fun post hpo => ?_⟩
  exact br_t (nI_lt (a := 0) (by omega) (by omega)) (nm_r (nI_pred d) ⟨vp_in_nI hd (by decide), nm_r (e' := nI f) (by rw [nI_clamp (n := d) (by omega)]; exact hff) (br_f (by decide) ⟨5, q3 post ⟨al0 + 1, x4 post hpo⟩⟩)⟩)
end
end
section
section
variable {g_maxFunctions g_maxTokens g_maxCells g_maxDepth g_functions g_tokens g_open g_accepted g_made g_used g_most g_last g_answer g_calls g_depth : Int32} {b_result b_param b_start b_finished b_tokOp b_tokArg b_tokType b_first b_second b_cellKind b_freed b_fn b_born b_actual b_value b_known : Nat → Int32}
variable {nf t md bo D f : Nat} {v : Int32} {S scp : Nat → Int32} {sN fo en : Nat → Nat}
theorem uy_cont {post : Int32 → Prop} {τ : Int32} {k : Nat} (hk : k < 1000) (k1 : ct_k τ k → post 1) (k0 : ¬ ct_k τ k → post 0) : wpY_contains post (g_maxFunctions, g_maxTokens, g_maxCells, g_maxDepth, g_functions, g_tokens, g_open, g_accepted, g_made, g_used, g_most, g_last, g_answer, g_calls, g_depth, b_result, b_param, b_start, b_finished, b_tokOp, b_tokArg, b_tokType, b_first, b_second, b_cellKind, b_freed, b_fn, b_born, b_actual, b_value, b_known) τ (nI k) := by
  unfold ct_k at k1 k0
  refine br_c (fun z => k1 (Or.inl z)) (fun z => br_c (fun y => br_c (fun x => k1 (Or.inr ⟨y, (nI_eq (b := 1) (by omega) (by omega)).mp x⟩)) (fun x => k0 (fun q => q.elim z (fun w => x (by rw [w.2]; rfl))))) (fun y => k0 (fun q => q.elim z (fun w => y w.1))))
/-- one kind freed from c on -/
def yf_1 (md c : Nat) (κ : Int32) (ck fr fr' : Nat → Int32) : Prop := (∀ e, c ≤ e → e < md → ck e = κ → fr e = 0 → fr' e = 1) ∧ (∀ e, (e < c ∨ md ≤ e ∨ ck e ≠ κ ∨ fr e ≠ 0) → fr' e = fr e)
theorem uy_lv118 {k : Nat} (hm : md ≤ 9600) : ∀ (n c : Nat) (fr : Nat → Int32), c ≤ md → md < n + c →
    ∃ fr' : Nat → Int32, yf_1 md c (nI k) b_cellKind fr fr' ∧ ∀ (post : SY → Prop) (m : Nat), wY_leave_37 post 1 (nI f) v g_maxFunctions g_maxTokens g_maxCells g_maxDepth g_functions g_tokens g_open g_accepted (nI md) g_most g_last g_answer g_calls (nI (D + 1)) m (nI (k + 1)) (nI (cn (fun e => fr' e = 0) md)) b_result b_param b_start b_finished b_tokOp b_tokArg b_tokType b_first b_second b_cellKind fr' b_fn b_born b_actual b_value b_known → wY_leave_118 post (wY_leave_37 post 1 (nI f) v g_maxFunctions g_maxTokens g_maxCells g_maxDepth g_functions g_tokens g_open g_accepted (nI md) g_most g_last g_answer g_calls (nI (D + 1)) m) 1 (nI f) v (nI k) 0 g_maxFunctions g_maxTokens g_maxCells g_maxDepth g_functions g_tokens g_open g_accepted (nI md) g_most g_last g_answer g_calls (nI (D + 1)) n (nI c) (nI (cn (fun e => fr e = 0) md)) b_result b_param b_start b_finished b_tokOp b_tokArg b_tokType b_first b_second b_cellKind fr b_fn b_born b_actual b_value b_known
  | 0, c, fr, h1, h2 => by omega
  | n + 1, c, fr, h1, h2 => by
    rcases Nat.lt_or_ge c md with z | z
    · have cin : vp_in (nI c) 9600 := vp_in_nI (by omega) (by decide)
      have cc : (nI c).toNatClampNeg = c := nI_clamp (by omega)
      have skip : (b_cellKind c ≠ nI k ∨ fr c ≠ 0) → ∃ fr' : Nat → Int32, yf_1 md c (nI k) b_cellKind fr fr' ∧ ∀ (post : SY → Prop) (m : Nat), wY_leave_37 post 1 (nI f) v g_maxFunctions g_maxTokens g_maxCells g_maxDepth g_functions g_tokens g_open g_accepted (nI md) g_most g_last g_answer g_calls (nI (D + 1)) m (nI (k + 1)) (nI (cn (fun e => fr' e = 0) md)) b_result b_param b_start b_finished b_tokOp b_tokArg b_tokType b_first b_second b_cellKind fr' b_fn b_born b_actual b_value b_known → wY_leave_118 post (wY_leave_37 post 1 (nI f) v g_maxFunctions g_maxTokens g_maxCells g_maxDepth g_functions g_tokens g_open g_accepted (nI md) g_most g_last g_answer g_calls (nI (D + 1)) m) 1 (nI f) v (nI k) 0 g_maxFunctions g_maxTokens g_maxCells g_maxDepth g_functions g_tokens g_open g_accepted (nI md) g_most g_last g_answer g_calls (nI (D + 1)) n (nI (c + 1)) (nI (cn (fun e => fr e = 0) md)) b_result b_param b_start b_finished b_tokOp b_tokArg b_tokType b_first b_second b_cellKind fr b_fn b_born b_actual b_value b_known := by
        intro hs
        obtain ⟨fr', q1, q2⟩ := uy_lv118 hm n (c + 1) fr (by omega) (by omega)
        refine ⟨fr', ⟨fun e e1 e2 e3 e4 => ?_, fun e he => ?_⟩, q2⟩
        · have : e ≠ c := fun q => by
            rw [q] at e3 e4
            exact hs.elim (fun w => w e3) (fun w => w e4)
          exact q1.1 e (by omega) e2 e3 e4
        · exact q1.2 e (by
            rcases he with he | he | he
            · exact Or.inl (by omega)
            · exact Or.inr (Or.inl he)
            · exact Or.inr (Or.inr he))
      by_cases h3 : b_cellKind c = nI k
      · by_cases h4 : fr c = 0
        · obtain ⟨fr', q1, q2⟩ := uy_lv118 hm n (c + 1) (upd fr c 1) (by omega) (by omega)
          refine ⟨fr', ⟨fun e e1 e2 e3 e4 => ?_, fun e he => ?_⟩, fun post m hpo => ?_⟩
          · by_cases y : e = c
            · rw [y, q1.2 c (Or.inl (by omega)), pk_us]
            · exact q1.1 e (by omega) e2 e3 (by rw [pk_un y]; exact e4)
          · have y : e ≠ c := fun q => by
              rw [q] at he
              rcases he with he | he | he | he
              · omega
              · omega
              · exact he h3
              · exact he h4
            rw [q1.2 e (by
              rcases he with he | he | he | he
              · exact Or.inl (by omega)
              · exact Or.inr (Or.inl he)
              · exact Or.inr (Or.inr (Or.inl he))
              · exact Or.inr (Or.inr (Or.inr (by rw [pk_un y]; exact he)))), pk_un y]
          · have hcn : cn (fun e => upd fr c 1 e = 0) md + 1 = cn (fun e => fr e = 0) md := by
              rw [← cn_del (P := fun e => fr e = 0) z h4]
              rw [cn_eq (P := fun e => upd fr c 1 e = 0) (Q := fun e => fr e = 0 ∧ e ≠ c) (fun e he => ?_)]
              by_cases y : e = c
              · rw [y, pk_us]
                exact ⟨fun q => absurd q (by decide), fun q => absurd rfl q.2⟩
              · rw [pk_un y]
                exact ⟨fun q => ⟨q, y⟩, fun q => q.1⟩
            have hus : (nI (cn (fun e => fr e = 0) md)) - 1 = (nI (cn (fun e => upd fr c 1 e = 0) md)) := by
              rw [← hcn, nI_pred]
            refine br_f (nI_ge z (by omega)) (br_t rfl ⟨cin, ?_⟩)
            rw [cc]
            refine br_t h3 ⟨cin, br_t h4 ⟨cin, ?_⟩⟩
            rw [vp_b1]
            exact nm_e (nm_r hus (nm_r (nI_1 c) (q2 post m hpo)))
        · obtain ⟨fr', q1, q2⟩ := skip (Or.inr h4)
          refine ⟨fr', q1, fun post m hpo => br_f (nI_ge z (by omega)) (br_t rfl ⟨cin, ?_⟩)⟩
          rw [cc]
          exact br_t h3 ⟨cin, br_f h4 (nm_r (nI_1 c) (q2 post m hpo))⟩
      · obtain ⟨fr', q1, q2⟩ := skip (Or.inl h3)
        refine ⟨fr', q1, fun post m hpo => br_f (nI_ge z (by omega)) (br_t rfl ⟨cin, ?_⟩)⟩
        rw [cc]
        exact br_f h3 (nm_r (nI_1 c) (q2 post m hpo))
    · refine ⟨fr, ⟨fun e e1 e2 => by omega, fun e he => rfl⟩, fun post m hpo => br_t (nI_le z (by omega)) (nm_r (nI_1 k) hpo)⟩
/-- all kinds from k on that f doesn't keep -/
def yf_k (S : Nat → Int32) (f md bo k : Nat) (ck fr fr' : Nat → Int32) : Prop :=
  (∀ e j, bo ≤ e → e < md → fr e = 0 → k ≤ j → j ≤ 3 → ck e = nI j → ¬ kc_k S f j → fr' e = 1) ∧ (∀ e, (e < bo ∨ md ≤ e ∨ fr e ≠ 0 ∨ ∀ j, k ≤ j → j ≤ 3 → ck e = nI j → kc_k S f j) → fr' e = fr e)
theorem uy_lv37 (Z : sp_ys nf S b_param b_result) (hf : f < nf) (hm : md ≤ 9600) (hD : D < 24) (hbo : b_born D = nI bo) (hb : bo ≤ md) : ∀ (n k : Nat) (fr : Nat → Int32), 1 ≤ k → k ≤ 4 → 4 < n + k →
    ∃ fr' : Nat → Int32, yf_k S f md bo k b_cellKind fr fr' ∧ ∀ post : SY → Prop, wY_leave_184 post v g_maxFunctions g_maxTokens g_maxCells g_maxDepth g_functions g_tokens g_open g_accepted (nI md) ((nI (cn (fun e => fr' e = 0) md))) g_most g_last g_answer g_calls (nI (D + 1)) b_result b_param b_start b_finished b_tokOp b_tokArg b_tokType b_first b_second b_cellKind fr' b_fn b_born b_actual b_value b_known → wY_leave_37 post 1 (nI f) v g_maxFunctions g_maxTokens g_maxCells g_maxDepth g_functions g_tokens g_open g_accepted (nI md) g_most g_last g_answer g_calls (nI (D + 1)) n (nI k) (nI (cn (fun e => fr e = 0) md)) b_result b_param b_start b_finished b_tokOp b_tokArg b_tokType b_first b_second b_cellKind fr b_fn b_born b_actual b_value b_known
  | 0, k, fr, h0, h1, h2 => by omega
  | n + 1, k, fr, h0, h1, h2 => by
    have hn := Z.1
    rcases Nat.lt_or_ge 3 k with z | z
    · exact ⟨fr, ⟨fun e j _ _ _ h4 h5 => by omega, fun e _ => rfl⟩, fun post hpo => br_t (nI_lt (a := 3) z (by omega)) hpo⟩
    · have nz : ¬ (3 : Int32) < nI k := nI_nlt (a := 3) z (by omega)
      have fin : vp_in (nI f) 8 := vp_in_nI (by omega) (by decide)
      have cf : (nI f).toNatClampNeg = f := nI_clamp (by omega)
      have e2 : (2 : Int32) * nI f = nI (2 * f) := pk_mul 2 f
      have zf := Z.2 f hf
      have din : vp_in (nI (D + 1) - 1) 24 := by rw [nI_pred]; exact vp_in_nI hD (by decide)
      have cb : b_born (nI (D + 1) - 1).toNatClampNeg = nI bo := by rw [nI_pred, nI_clamp (by omega)]; exact hbo
      -- the three tests
      have tests : ∀ (post : SY → Prop) (fr : Nat → Int32), (kc_k S f k → wY_leave_98 post (wY_leave_37 post 1 (nI f) v g_maxFunctions g_maxTokens g_maxCells g_maxDepth g_functions g_tokens g_open g_accepted (nI md) g_most g_last g_answer g_calls (nI (D + 1)) n) 1 (nI f) v (nI k) g_maxFunctions g_maxTokens g_maxCells g_maxDepth g_functions g_tokens g_open g_accepted (nI md) ((nI (cn (fun e => fr e = 0) md))) g_most g_last g_answer g_calls (nI (D + 1)) b_result b_param b_start b_finished b_tokOp b_tokArg b_tokType b_first b_second b_cellKind fr b_fn b_born b_actual b_value b_known) → (¬ kc_k S f k → wY_leave_103 post (wY_leave_37 post 1 (nI f) v g_maxFunctions g_maxTokens g_maxCells g_maxDepth g_functions g_tokens g_open g_accepted (nI md) g_most g_last g_answer g_calls (nI (D + 1)) n) 1 (nI f) v (nI k) 0 g_maxFunctions g_maxTokens g_maxCells g_maxDepth g_functions g_tokens g_open g_accepted (nI md) ((nI (cn (fun e => fr e = 0) md))) g_most g_last g_answer g_calls (nI (D + 1)) b_result b_param b_start b_finished b_tokOp b_tokArg b_tokType b_first b_second b_cellKind fr b_fn b_born b_actual b_value b_known) → wY_leave_37 post 1 (nI f) v g_maxFunctions g_maxTokens g_maxCells g_maxDepth g_functions g_tokens g_open g_accepted (nI md) g_most g_last g_answer g_calls (nI (D + 1)) (n + 1) (nI k) (nI (cn (fun e => fr e = 0) md)) b_result b_param b_start b_finished b_tokOp b_tokArg b_tokType b_first b_second b_cellKind fr b_fn b_born b_actual b_value b_known := by
        intro post fr hs hns
        unfold kc_k at hs hns
        refine br_f nz (br_f (by decide) ⟨fin, ?_⟩)
        rw [cf, zf.2.2]
        refine uy_cont (by omega) (fun q => br_f (by decide) (hs (Or.inl q))) (fun q1 => br_t rfl ?_)
        rw [e2, nI_clamp (n := 2 * f) (by omega), zf.1]
        refine ⟨vp_in_nI (by omega) (by decide), uy_cont (by omega) (fun q => br_f (by decide) (hs (Or.inr (Or.inl q)))) (fun q2 => br_t rfl ?_)⟩
        rw [nI_1, nI_clamp (n := 2 * f + 1) (by omega), zf.2.1]
        refine ⟨vp_in_nI (by omega) (by decide), uy_cont (by omega) (fun q => br_f (by decide) (hs (Or.inr (Or.inr q)))) (fun q3 => br_t rfl (hns (fun w => w.elim q1 (fun w => w.elim q2 q3))))⟩
      rcases Classical.em (kc_k S f k) with w | w
      · obtain ⟨fr', q1, q2⟩ := uy_lv37 Z hf hm hD hbo hb n (k + 1) fr (by omega) (by omega) (by omega)
        refine ⟨fr', ⟨fun e j h3 h4 h5 h6 h7 h8 h9 => ?_, fun e he => ?_⟩, fun post hpo => tests post fr (fun _ => ?_) (fun q => absurd w q)⟩
        · have : j ≠ k := fun q => by rw [q] at h9; exact h9 w
          exact q1.1 e j h3 h4 h5 (by omega) h7 h8 h9
        · refine q1.2 e ?_
          rcases he with he | he | he | he
          · exact Or.inl he
          · exact Or.inr (Or.inl he)
          · exact Or.inr (Or.inr (Or.inl he))
          · exact Or.inr (Or.inr (Or.inr (fun j h6 h7 h8 => he j (by omega) h7 h8)))
        · refine ⟨din, nm_r cb ⟨1, ?_⟩⟩
          exact br_c (fun _ => nm_r (nI_1 k) (q2 post hpo)) (fun _ => br_f (by decide) (nm_r (nI_1 k) (q2 post hpo)))
      · obtain ⟨fr1, p1, p2⟩ := uy_lv118 (f := f) (v := v) (D := D) (k := k) (g_maxFunctions := g_maxFunctions) (g_maxTokens := g_maxTokens) (g_maxCells := g_maxCells) (g_maxDepth := g_maxDepth) (g_functions := g_functions) (g_tokens := g_tokens) (g_open := g_open) (g_accepted := g_accepted) (g_most := g_most) (g_last := g_last) (g_answer := g_answer) (g_calls := g_calls) (b_result := b_result) (b_param := b_param) (b_start := b_start) (b_finished := b_finished) (b_tokOp := b_tokOp) (b_tokArg := b_tokArg) (b_tokType := b_tokType) (b_first := b_first) (b_second := b_second) (b_cellKind := b_cellKind) (b_fn := b_fn) (b_born := b_born) (b_actual := b_actual) (b_value := b_value) (b_known := b_known) hm (md + 1) bo fr hb (by omega)
        obtain ⟨fr', q1, q2⟩ := uy_lv37 Z hf hm hD hbo hb n (k + 1) fr1 (by omega) (by omega) (by omega)
        refine ⟨fr', ⟨fun e j h3 h4 h5 h6 h7 h8 h9 => ?_, fun e he => ?_⟩, fun post hpo => tests post fr (fun q => absurd q w) (fun _ => ⟨din, nm_r cb ⟨md + 1, p2 post n (q2 post hpo)⟩⟩)⟩
        · by_cases y : j = k
          · rw [y] at h8
            have a := p1.1 e h3 h4 h8 h5
            rw [q1.2 e (Or.inr (Or.inr (Or.inl (by rw [a]; decide)))), a]
          · have a := p1.2 e (Or.inr (Or.inr (Or.inl (fun q => y ((nI_eq (by omega) (by omega)).mp (h8.symm.trans q))))))
            exact q1.1 e j h3 h4 (by rw [a]; exact h5) (by omega) h7 h8 h9
        · have a : fr1 e = fr e := by
            refine p1.2 e ?_
            rcases he with he | he | he | he
            · exact Or.inl he
            · exact Or.inr (Or.inl he)
            · exact Or.inr (Or.inr (Or.inr he))
            · refine Or.inr (Or.inr (Or.inl (fun q => w (he k (Nat.le_refl _) z q))))
          rw [q1.2 e ?_, a]
          rcases he with he | he | he | he
          · exact Or.inl he
          · exact Or.inr (Or.inl he)
          · exact Or.inr (Or.inr (Or.inl (by rw [a]; exact he)))
          · exact Or.inr (Or.inr (Or.inr (fun j h6 h7 h8 => he j (by omega) h7 h8)))
theorem uy_leaveR (Z : sp_ys nf S b_param b_result) (P : pc_ok nf t S b_tokOp b_tokArg b_tokType scp sN fo en) (hst : ∀ f, f < nf → b_start f = nI (sN f)) (hf : f < nf) (hm : md ≤ 9600) (hD : D < 24) (hfn : b_fn D = nI f) (hbo : b_born D = nI bo) (hb : bo ≤ md) (hv : b_value (D * 97 + sN f) = v) :
    ∃ fr' : Nat → Int32, yf_k S f md bo 1 b_cellKind b_freed fr' ∧ ∀ post : SY → Prop, wY_leave_184 post v g_maxFunctions g_maxTokens g_maxCells g_maxDepth g_functions g_tokens g_open g_accepted (nI md) ((nI (cn (fun e => fr' e = 0) md))) g_most g_last g_answer g_calls (nI (D + 1)) b_result b_param b_start b_finished b_tokOp b_tokArg b_tokType b_first b_second b_cellKind fr' b_fn b_born b_actual b_value b_known → wpY_leave post (g_maxFunctions, g_maxTokens, g_maxCells, g_maxDepth, g_functions, g_tokens, g_open, g_accepted, nI md, (nI (cn (fun e => b_freed e = 0) md)), g_most, g_last, g_answer, g_calls, nI (D + 1), b_result, b_param, b_start, b_finished, b_tokOp, b_tokArg, b_tokType, b_first, b_second, b_cellKind, b_freed, b_fn, b_born, b_actual, b_value, b_known) 1 := by
  have hn := P.2.1
  have hs := pc_sN P hf
  have ht := P.1
  obtain ⟨fr', q1, q2⟩ := uy_lv37 (v := v) (g_maxFunctions := g_maxFunctions) (g_maxTokens := g_maxTokens) (g_maxCells := g_maxCells) (g_maxDepth := g_maxDepth) (g_functions := g_functions) (g_tokens := g_tokens) (g_open := g_open) (g_accepted := g_accepted) (g_most := g_most) (g_last := g_last) (g_answer := g_answer) (g_calls := g_calls) (b_result := b_result) (b_param := b_param) (b_start := b_start) (b_finished := b_finished) (b_tokOp := b_tokOp) (b_tokArg := b_tokArg) (b_tokType := b_tokType) (b_first := b_first) (b_second := b_second) (b_cellKind := b_cellKind) (b_fn := b_fn) (b_born := b_born) (b_actual := b_actual) (b_value := b_value) (b_known := b_known) Z hf hm hD hbo hb 5 1 b_freed (by omega) (by omega) (by omega)
  refine ⟨fr', q1, fun post hpo => ?_⟩
  have e1 : (nI (D + 1) - 1) * 97 + nI (sN f) = nI (D * 97 + sN f) := by
    rw [nI_pred]
    show nI D * nI 97 + nI (sN f) = _
    rw [pk_mul, nI_add]
  refine ⟨by rw [nI_pred]; exact vp_in_nI hD (by decide), nm_r (e' := nI f) (by rw [nI_pred, nI_clamp (by omega)]; exact hfn) ⟨vp_in_nI (by omega) (by decide), ?_⟩⟩
  rw [nI_clamp (n := f) (by omega), hst f hf, e1, nI_clamp (n := D * 97 + sN f) (by omega)]
  exact ⟨vp_in_nI (by omega) (by decide), nm_r hv ⟨5, q2 post hpo⟩⟩
theorem uy_leaveK {post : SY → Prop} (P : pc_ok nf t S b_tokOp b_tokArg b_tokType scp sN fo en) (hst : ∀ f, f < nf → b_start f = nI (sN f)) (hf : f < nf) (hD : D < 24) (hfn : b_fn D = nI f) (hv : b_value (D * 97 + sN f) = v) (h : wY_leave_184 post v g_maxFunctions g_maxTokens g_maxCells g_maxDepth g_functions g_tokens g_open g_accepted g_made g_used g_most g_last g_answer g_calls (nI (D + 1)) b_result b_param b_start b_finished b_tokOp b_tokArg b_tokType b_first b_second b_cellKind b_freed b_fn b_born b_actual b_value b_known) : wpY_leave post (g_maxFunctions, g_maxTokens, g_maxCells, g_maxDepth, g_functions, g_tokens, g_open, g_accepted, g_made, g_used, g_most, g_last, g_answer, g_calls, nI (D + 1), b_result, b_param, b_start, b_finished, b_tokOp, b_tokArg, b_tokType, b_first, b_second, b_cellKind, b_freed, b_fn, b_born, b_actual, b_value, b_known) 0 := by
  have hn := P.2.1
  have hs := pc_sN P hf
  have ht := P.1
  have e1 : (nI (D + 1) - 1) * 97 + nI (sN f) = nI (D * 97 + sN f) := by
    rw [nI_pred]
    show nI D * nI 97 + nI (sN f) = _
    rw [pk_mul, nI_add]
  refine ⟨by rw [nI_pred]; exact vp_in_nI hD (by decide), nm_r (e' := nI f) (by rw [nI_pred, nI_clamp (by omega)]; exact hfn) ⟨vp_in_nI (by omega) (by decide), ?_⟩⟩
  rw [nI_clamp (n := f) (by omega), hst f hf, e1, nI_clamp (n := D * 97 + sN f) (by omega)]
  refine ⟨vp_in_nI (by omega) (by decide), nm_r hv ⟨1, ?_⟩⟩
  exact (br_f (by decide) (br_t (by decide) (h)))
theorem uy_184 {post : SY → Prop} {i : Nat} (Z : sp_ys nf S b_param b_result) (P : pc_ok nf t S b_tokOp b_tokArg b_tokType scp sN fo en) (htok : g_tokens = nI t) (hst : ∀ f, f < nf → b_start f = nI (sN f)) (hD : D < 23) (hf : f < nf) (hfn : b_fn D = nI f) (hi : i < t) (hnx : nx (sp_A S b_tokOp b_tokArg) b_tokOp en b_known b_value (D * 97) 10 (sN f) = i)
    (K : post (g_maxFunctions, g_maxTokens, g_maxCells, g_maxDepth, g_functions, g_tokens, g_open, g_accepted, g_made, g_used, g_most, g_last, g_answer, g_calls, nI (D + 1), b_result, b_param, b_start, b_finished, b_tokOp, b_tokArg, b_tokType, b_first, b_second, b_cellKind, b_freed, b_fn, b_born, b_actual, upd b_value (D * 97 + i) v, upd b_known (D * 97 + i) 1)) : wY_leave_184 post v g_maxFunctions g_maxTokens g_maxCells g_maxDepth g_functions g_tokens g_open g_accepted g_made g_used g_most g_last g_answer g_calls (nI (D + 2)) b_result b_param b_start b_finished b_tokOp b_tokArg b_tokType b_first b_second b_cellKind b_freed b_fn b_born b_actual b_value b_known := by
  have ht := P.1
  refine nm_r (nI_pred (D + 1)) (br_f (nI_ne0 (by omega) (by omega)) ?_)
  refine uy_next Z P htok hst rfl (by omega) hf hfn ?_
  rw [hnx]
  have e1 : (nI (D + 1) - 1) * 97 + nI i = nI (D * 97 + i) := by
    rw [nI_pred]
    show nI D * nI 97 + nI i = _
    rw [pk_mul, nI_add]
  rw [e1, nI_clamp (n := D * 97 + i) (by omega), vp_b1]
  exact ⟨vp_in_nI (by omega) (by decide), nm_e ⟨vp_in_nI (by omega) (by decide), nm_e K⟩⟩
theorem uy_1840 {post : SY → Prop} (K : post (g_maxFunctions, g_maxTokens, g_maxCells, g_maxDepth, g_functions, g_tokens, g_open, g_accepted, g_made, g_used, g_most, 1, v, g_calls, 0, b_result, b_param, b_start, b_finished, b_tokOp, b_tokArg, b_tokType, b_first, b_second, b_cellKind, b_freed, b_fn, b_born, b_actual, b_value, b_known)) : wY_leave_184 post v g_maxFunctions g_maxTokens g_maxCells g_maxDepth g_functions g_tokens g_open g_accepted g_made g_used g_most g_last g_answer g_calls (nI 1) b_result b_param b_start b_finished b_tokOp b_tokArg b_tokType b_first b_second b_cellKind b_freed b_fn b_born b_actual b_value b_known := nm_r (e' := 0) (by decide) (br_t rfl K)
end
end
section
section
variable {f_functionLimit f_tokenLimit f_cellLimit f_depthLimit f_functions f_accepted f_placed f_openBody f_holeCount f_nextRegion f_changed f_freeCell f_active f_calls f_taskTop f_valueTop f_releasing f_outcome f_peakUsed f_resultSize : Int32} {a_sigType a_params a_kept a_start a_finished a_tokOp a_tokArg a_tokType a_tokScope a_end a_holeType a_holeNest a_holeScope a_holeVars a_parent a_region a_sigRegions a_allRegions a_cellA a_cellB a_link a_live a_frameFunction a_vars a_saved a_env a_regionFirst a_tasks a_values a_used a_result : Nat → Int32}
variable {vt cl : Nat}
theorem ux_emit {post : SX → Prop} {rs : Nat} {x : Int32} (h : rs < 128) (K : post (f_functionLimit, f_tokenLimit, f_cellLimit, f_depthLimit, f_functions, f_accepted, f_placed, f_openBody, f_holeCount, f_nextRegion, f_changed, f_freeCell, f_active, f_calls, f_taskTop, f_valueTop, f_releasing, f_outcome, f_peakUsed, nI (rs + 1), a_sigType, a_params, a_kept, a_start, a_finished, a_tokOp, a_tokArg, a_tokType, a_tokScope, a_end, a_holeType, a_holeNest, a_holeScope, a_holeVars, a_parent, a_region, a_sigRegions, a_allRegions, a_cellA, a_cellB, a_link, a_live, a_frameFunction, a_vars, a_saved, a_env, a_regionFirst, a_tasks, a_values, a_used, upd a_result rs x)) : wpX_emit post (f_functionLimit, f_tokenLimit, f_cellLimit, f_depthLimit, f_functions, f_accepted, f_placed, f_openBody, f_holeCount, f_nextRegion, f_changed, f_freeCell, f_active, f_calls, f_taskTop, f_valueTop, f_releasing, f_outcome, f_peakUsed, nI rs, a_sigType, a_params, a_kept, a_start, a_finished, a_tokOp, a_tokArg, a_tokType, a_tokScope, a_end, a_holeType, a_holeNest, a_holeScope, a_holeVars, a_parent, a_region, a_sigRegions, a_allRegions, a_cellA, a_cellB, a_link, a_live, a_frameFunction, a_vars, a_saved, a_env, a_regionFirst, a_tasks, a_values, a_used, a_result) x := by
  refine br_t (nI_lt (b := 128) h (by decide)) ⟨vp_in_nI h (by decide), ?_⟩
  rw [nI_clamp (by omega)]
  exact nm_e (nm_r (nI_1 rs) K)
theorem ux_emitP {post : SX → Prop} {rs c : Nat} (hcl : f_cellLimit = nI cl) (hc : c < cl) (h64 : cl ≤ 64) (h : rs + 1 < 128) (K : post (f_functionLimit, f_tokenLimit, f_cellLimit, f_depthLimit, f_functions, f_accepted, f_placed, f_openBody, f_holeCount, f_nextRegion, f_changed, f_freeCell, f_active, f_calls, f_taskTop, f_valueTop, f_releasing, f_outcome, f_peakUsed, nI (rs + 2), a_sigType, a_params, a_kept, a_start, a_finished, a_tokOp, a_tokArg, a_tokType, a_tokScope, a_end, a_holeType, a_holeNest, a_holeScope, a_holeVars, a_parent, a_region, a_sigRegions, a_allRegions, a_cellA, a_cellB, a_link, a_live, a_frameFunction, a_vars, a_saved, a_env, a_regionFirst, a_tasks, a_values, a_used, upd (upd a_result rs (a_cellA c)) (rs + 1) (a_cellB c))) : wpX_emitPair post (f_functionLimit, f_tokenLimit, f_cellLimit, f_depthLimit, f_functions, f_accepted, f_placed, f_openBody, f_holeCount, f_nextRegion, f_changed, f_freeCell, f_active, f_calls, f_taskTop, f_valueTop, f_releasing, f_outcome, f_peakUsed, nI rs, a_sigType, a_params, a_kept, a_start, a_finished, a_tokOp, a_tokArg, a_tokType, a_tokScope, a_end, a_holeType, a_holeNest, a_holeScope, a_holeVars, a_parent, a_region, a_sigRegions, a_allRegions, a_cellA, a_cellB, a_link, a_live, a_frameFunction, a_vars, a_saved, a_env, a_regionFirst, a_tasks, a_values, a_used, a_result) (nI c) := by
  have cin : vp_in (nI c) 64 := vp_in_nI (by omega) (by decide)
  have cc : (nI c).toNatClampNeg = c := nI_clamp (by omega)
  refine br_f (nI_pos (by omega)) (br_t (by rw [hcl]; exact nI_lt hc (by omega)) ⟨cin, ?_⟩)
  rw [cc]
  refine ux_emit (by omega) ⟨cin, ?_⟩
  exact ux_emit (rs := rs + 1) h K
theorem ux_emitL2 : ∀ (cs : List Nat) (n k rs : Nat) (rr : Nat → Int32) (x : Int32), hi_ch a_cellB cs x → (∀ c, c ∈ cs → c < 64) → k + cs.length ≤ 64 → rs + cs.length ≤ 128 → cs.length < n →
    ∃ rr' : Nat → Int32, (∀ j, j < rs → rr' j = rr j) ∧ (∀ (j c : Nat), cs[j]? = some c → rr' (rs + j) = a_cellA c) ∧ ∀ post : SX → Prop, post (f_functionLimit, f_tokenLimit, f_cellLimit, f_depthLimit, f_functions, f_accepted, f_placed, f_openBody, f_holeCount, f_nextRegion, f_changed, f_freeCell, f_active, f_calls, f_taskTop, f_valueTop, f_releasing, f_outcome, f_peakUsed, nI (rs + cs.length), a_sigType, a_params, a_kept, a_start, a_finished, a_tokOp, a_tokArg, a_tokType, a_tokScope, a_end, a_holeType, a_holeNest, a_holeScope, a_holeVars, a_parent, a_region, a_sigRegions, a_allRegions, a_cellA, a_cellB, a_link, a_live, a_frameFunction, a_vars, a_saved, a_env, a_regionFirst, a_tasks, a_values, a_used, rr') → wX_emitList_5 post 2 n x (nI k) f_functionLimit f_tokenLimit f_cellLimit f_depthLimit f_functions f_accepted f_placed f_openBody f_holeCount f_nextRegion f_changed f_freeCell f_active f_calls f_taskTop f_valueTop f_releasing f_outcome f_peakUsed (nI rs) a_sigType a_params a_kept a_start a_finished a_tokOp a_tokArg a_tokType a_tokScope a_end a_holeType a_holeNest a_holeScope a_holeVars a_parent a_region a_sigRegions a_allRegions a_cellA a_cellB a_link a_live a_frameFunction a_vars a_saved a_env a_regionFirst a_tasks a_values a_used rr
  | _, 0, _, _, _, _, _, _, _, _, h => by omega
  | [], n + 1, k, rs, rr, x, h1, h2, h3, h4, h5 => by
    have e : x = -1 := h1
    subst e
    exact ⟨rr, fun _ _ => rfl, fun j c h => by simp at h, fun post hpo => br_c (fun _ => hpo) (fun _ => br_t (by decide) hpo)⟩
  | c :: cs, n + 1, k, rs, rr, x, h1, h2, h3, h4, h5 => by
    obtain ⟨e, h1'⟩ := h1
    subst e
    have hl : (c :: cs).length = cs.length + 1 := rfl
    have lc := h2 c (List.mem_cons_self)
    obtain ⟨rr', q1, q2, q3⟩ := ux_emitL2 cs n (k + 1) (rs + 1) (upd rr rs (a_cellA c)) (a_cellB c) h1' (fun d hd => h2 d (List.mem_cons_of_mem _ hd)) (by omega) (by omega) (by omega)
    have cin : vp_in (nI c) 64 := vp_in_nI lc (by decide)
    have cc : (nI c).toNatClampNeg = c := nI_clamp (by omega)
    refine ⟨rr', fun j hj => by rw [q1 j (by omega), pk_un (by omega)], fun j d hd => ?_, fun post hpo => ?_⟩
    · cases j with
      | zero =>
        have : c = d := by simpa using hd
        subst this
        rw [Nat.add_zero, q1 rs (by omega), pk_us]
      | succ j =>
        have hd' : cs[j]? = some d := by simpa using hd
        have := q2 j d hd'
        rw [show rs + (j + 1) = rs + 1 + j by omega]; exact this
    · refine br_f (nI_ge (b := 64) (by omega) (by decide)) (br_f (nI_pos (by omega)) (br_t rfl ⟨cin, ?_⟩))
      rw [cc]
      refine ux_emit (by omega) ⟨cin, nm_e (nm_r (nI_1 k) (q3 post ?_))⟩
      rw [show rs + 1 + cs.length = rs + (c :: cs).length by omega]; exact hpo
theorem ux_emitL3 (hcl : f_cellLimit = nI cl) (h64 : cl ≤ 64) : ∀ (cs ps : List Nat) (n k rs : Nat) (rr : Nat → Int32) (x : Int32), hi_ch a_cellB cs x → (∀ c, c ∈ cs → c < 64) → cs.length = ps.length → (∀ (j c p : Nat), cs[j]? = some c → ps[j]? = some p → a_cellA c = nI p ∧ p < cl) → k + cs.length ≤ 64 → rs + 2 * cs.length ≤ 128 → cs.length < n →
    ∃ rr' : Nat → Int32, (∀ j, j < rs → rr' j = rr j) ∧ (∀ (j p : Nat), ps[j]? = some p → rr' (rs + 2 * j) = a_cellA p ∧ rr' (rs + 2 * j + 1) = a_cellB p) ∧ ∀ post : SX → Prop, post (f_functionLimit, f_tokenLimit, f_cellLimit, f_depthLimit, f_functions, f_accepted, f_placed, f_openBody, f_holeCount, f_nextRegion, f_changed, f_freeCell, f_active, f_calls, f_taskTop, f_valueTop, f_releasing, f_outcome, f_peakUsed, nI (rs + 2 * cs.length), a_sigType, a_params, a_kept, a_start, a_finished, a_tokOp, a_tokArg, a_tokType, a_tokScope, a_end, a_holeType, a_holeNest, a_holeScope, a_holeVars, a_parent, a_region, a_sigRegions, a_allRegions, a_cellA, a_cellB, a_link, a_live, a_frameFunction, a_vars, a_saved, a_env, a_regionFirst, a_tasks, a_values, a_used, rr') → wX_emitList_5 post 3 n x (nI k) f_functionLimit f_tokenLimit f_cellLimit f_depthLimit f_functions f_accepted f_placed f_openBody f_holeCount f_nextRegion f_changed f_freeCell f_active f_calls f_taskTop f_valueTop f_releasing f_outcome f_peakUsed (nI rs) a_sigType a_params a_kept a_start a_finished a_tokOp a_tokArg a_tokType a_tokScope a_end a_holeType a_holeNest a_holeScope a_holeVars a_parent a_region a_sigRegions a_allRegions a_cellA a_cellB a_link a_live a_frameFunction a_vars a_saved a_env a_regionFirst a_tasks a_values a_used rr
  | _, _, 0, _, _, _, _, _, _, _, _, _, _, h => by omega
  | [], ps, n + 1, k, rs, rr, x, h1, h2, hlen, hp, h3, h4, h5 => by
    have e : x = -1 := h1
    subst e
    have hps : ps = [] := by
      cases ps with
      | nil => rfl
      | cons _ _ => simp at hlen
    subst hps
    exact ⟨rr, fun _ _ => rfl, fun j c h => by simp at h, fun post hpo => br_c (fun _ => hpo) (fun _ => br_t (by decide) hpo)⟩
  | c :: cs, [], n + 1, k, rs, rr, x, h1, h2, hlen, hp, h3, h4, h5 => by simp at hlen
  | c :: cs, p :: ps, n + 1, k, rs, rr, x, h1, h2, hlen, hp, h3, h4, h5 => by
    obtain ⟨e, h1'⟩ := h1
    subst e
    have hl : (c :: cs).length = cs.length + 1 := rfl
    have hlen' : cs.length = ps.length := by simpa using hlen
    have lc := h2 c (List.mem_cons_self)
    obtain ⟨p1, p2⟩ := hp 0 c p rfl rfl
    obtain ⟨rr', q1, q2, q3⟩ := ux_emitL3 hcl h64 cs ps n (k + 1) (rs + 2) (upd (upd rr rs (a_cellA p)) (rs + 1) (a_cellB p)) (a_cellB c) h1' (fun d hd => h2 d (List.mem_cons_of_mem _ hd)) hlen' (fun j c' p' a b => hp (j + 1) c' p' (by simpa using a) (by simpa using b)) (by omega) (by omega) (by omega)
    have cin : vp_in (nI c) 64 := vp_in_nI lc (by decide)
    have cc : (nI c).toNatClampNeg = c := nI_clamp (by omega)
    refine ⟨rr', fun j hj => by rw [q1 j (by omega), pk_un (by omega), pk_un (by omega)], fun j d hd => ?_, fun post hpo => ?_⟩
    · cases j with
      | zero =>
        have : p = d := by simpa using hd
        subst this
        rw [Nat.mul_zero, Nat.add_zero, q1 rs (by omega), q1 (rs + 1) (by omega), pk_us, pk_un (by omega), pk_us]
        exact ⟨rfl, rfl⟩
      | succ j =>
        have hd' : ps[j]? = some d := by simpa using hd
        have := q2 j d hd'
        rw [show rs + 2 * (j + 1) = rs + 2 + 2 * j by omega]; exact this
    · refine br_f (nI_ge (b := 64) (by omega) (by decide)) (br_f (nI_pos (by omega)) (br_f (by decide) ⟨cin, ?_⟩))
      rw [cc, p1]
      refine ux_emitP hcl p2 h64 (by omega) ⟨cin, nm_e (nm_r (nI_1 k) (q3 post ?_))⟩
      rw [show rs + 2 + 2 * cs.length = rs + 2 * (c :: cs).length by omega]; exact hpo
/-- the leave of the first activation -/
theorem ux_117 {post : SX → Prop} {d : Nat} (hd : 0 < d) (h2 : d < 100) (K : post (f_functionLimit, f_tokenLimit, f_cellLimit, f_depthLimit, f_functions, f_accepted, f_placed, f_openBody, f_holeCount, f_nextRegion, f_changed, f_freeCell, nI d, f_calls, f_taskTop, f_valueTop, f_releasing, f_outcome, f_peakUsed, f_resultSize, a_sigType, a_params, a_kept, a_start, a_finished, a_tokOp, a_tokArg, a_tokType, a_tokScope, a_end, a_holeType, a_holeNest, a_holeScope, a_holeVars, a_parent, a_region, a_sigRegions, a_allRegions, a_cellA, a_cellB, a_link, a_live, a_frameFunction, a_vars, a_saved, a_env, a_regionFirst, a_tasks, a_values, a_used, a_result)) : wX_leave_117 post f_functionLimit f_tokenLimit f_cellLimit f_depthLimit f_functions f_accepted f_placed f_openBody f_holeCount f_nextRegion f_changed f_freeCell (nI d) f_calls f_taskTop f_valueTop f_releasing f_outcome f_peakUsed f_resultSize a_sigType a_params a_kept a_start a_finished a_tokOp a_tokArg a_tokType a_tokScope a_end a_holeType a_holeNest a_holeScope a_holeVars a_parent a_region a_sigRegions a_allRegions a_cellA a_cellB a_link a_live a_frameFunction a_vars a_saved a_env a_regionFirst a_tasks a_values a_used a_result := br_f (nI_ne0 hd (by omega)) K
theorem ux_1170 {post : SX → Prop} {τ : Int32} (hv : vt < 512) (hτ : a_sigType 2 = τ) (K0 : τ = 0 → wpX_emit (fun u => match u with | (f_functionLimit, f_tokenLimit, f_cellLimit, f_depthLimit, f_functions, f_accepted, f_placed, f_openBody, f_holeCount, f_nextRegion, f_changed, f_freeCell, f_active, f_calls, f_taskTop, f_valueTop, f_releasing, f_outcome, f_peakUsed, f_resultSize, a_sigType, a_params, a_kept, a_start, a_finished, a_tokOp, a_tokArg, a_tokType, a_tokScope, a_end, a_holeType, a_holeNest, a_holeScope, a_holeVars, a_parent, a_region, a_sigRegions, a_allRegions, a_cellA, a_cellB, a_link, a_live, a_frameFunction, a_vars, a_saved, a_env, a_regionFirst, a_tasks, a_values, a_used, a_result) => post (f_functionLimit, f_tokenLimit, f_cellLimit, f_depthLimit, f_functions, f_accepted, f_placed, f_openBody, f_holeCount, f_nextRegion, f_changed, f_freeCell, f_active, f_calls, f_taskTop, f_valueTop, f_releasing, 1, f_peakUsed, f_resultSize, a_sigType, a_params, a_kept, a_start, a_finished, a_tokOp, a_tokArg, a_tokType, a_tokScope, a_end, a_holeType, a_holeNest, a_holeScope, a_holeVars, a_parent, a_region, a_sigRegions, a_allRegions, a_cellA, a_cellB, a_link, a_live, a_frameFunction, a_vars, a_saved, a_env, a_regionFirst, a_tasks, a_values, a_used, a_result)) (f_functionLimit, f_tokenLimit, f_cellLimit, f_depthLimit, f_functions, f_accepted, f_placed, f_openBody, f_holeCount, f_nextRegion, f_changed, f_freeCell, 0, f_calls, f_taskTop, nI vt, f_releasing, f_outcome, f_peakUsed, f_resultSize, a_sigType, a_params, a_kept, a_start, a_finished, a_tokOp, a_tokArg, a_tokType, a_tokScope, a_end, a_holeType, a_holeNest, a_holeScope, a_holeVars, a_parent, a_region, a_sigRegions, a_allRegions, a_cellA, a_cellB, a_link, a_live, a_frameFunction, a_vars, a_saved, a_env, a_regionFirst, a_tasks, a_values, a_used, a_result) (a_values vt)) (K1 : τ = 1 → wpX_emitPair (fun u => match u with | (f_functionLimit, f_tokenLimit, f_cellLimit, f_depthLimit, f_functions, f_accepted, f_placed, f_openBody, f_holeCount, f_nextRegion, f_changed, f_freeCell, f_active, f_calls, f_taskTop, f_valueTop, f_releasing, f_outcome, f_peakUsed, f_resultSize, a_sigType, a_params, a_kept, a_start, a_finished, a_tokOp, a_tokArg, a_tokType, a_tokScope, a_end, a_holeType, a_holeNest, a_holeScope, a_holeVars, a_parent, a_region, a_sigRegions, a_allRegions, a_cellA, a_cellB, a_link, a_live, a_frameFunction, a_vars, a_saved, a_env, a_regionFirst, a_tasks, a_values, a_used, a_result) => post (f_functionLimit, f_tokenLimit, f_cellLimit, f_depthLimit, f_functions, f_accepted, f_placed, f_openBody, f_holeCount, f_nextRegion, f_changed, f_freeCell, f_active, f_calls, f_taskTop, f_valueTop, f_releasing, 1, f_peakUsed, f_resultSize, a_sigType, a_params, a_kept, a_start, a_finished, a_tokOp, a_tokArg, a_tokType, a_tokScope, a_end, a_holeType, a_holeNest, a_holeScope, a_holeVars, a_parent, a_region, a_sigRegions, a_allRegions, a_cellA, a_cellB, a_link, a_live, a_frameFunction, a_vars, a_saved, a_env, a_regionFirst, a_tasks, a_values, a_used, a_result)) (f_functionLimit, f_tokenLimit, f_cellLimit, f_depthLimit, f_functions, f_accepted, f_placed, f_openBody, f_holeCount, f_nextRegion, f_changed, f_freeCell, 0, f_calls, f_taskTop, nI vt, f_releasing, f_outcome, f_peakUsed, f_resultSize, a_sigType, a_params, a_kept, a_start, a_finished, a_tokOp, a_tokArg, a_tokType, a_tokScope, a_end, a_holeType, a_holeNest, a_holeScope, a_holeVars, a_parent, a_region, a_sigRegions, a_allRegions, a_cellA, a_cellB, a_link, a_live, a_frameFunction, a_vars, a_saved, a_env, a_regionFirst, a_tasks, a_values, a_used, a_result) (a_values vt))
    (K2 : τ ≠ 0 → τ ≠ 1 → ∃ n5 : Nat, wX_emitList_5 (fun u => match u with | (f_functionLimit, f_tokenLimit, f_cellLimit, f_depthLimit, f_functions, f_accepted, f_placed, f_openBody, f_holeCount, f_nextRegion, f_changed, f_freeCell, f_active, f_calls, f_taskTop, f_valueTop, f_releasing, f_outcome, f_peakUsed, f_resultSize, a_sigType, a_params, a_kept, a_start, a_finished, a_tokOp, a_tokArg, a_tokType, a_tokScope, a_end, a_holeType, a_holeNest, a_holeScope, a_holeVars, a_parent, a_region, a_sigRegions, a_allRegions, a_cellA, a_cellB, a_link, a_live, a_frameFunction, a_vars, a_saved, a_env, a_regionFirst, a_tasks, a_values, a_used, a_result) => post (f_functionLimit, f_tokenLimit, f_cellLimit, f_depthLimit, f_functions, f_accepted, f_placed, f_openBody, f_holeCount, f_nextRegion, f_changed, f_freeCell, f_active, f_calls, f_taskTop, f_valueTop, f_releasing, 1, f_peakUsed, f_resultSize, a_sigType, a_params, a_kept, a_start, a_finished, a_tokOp, a_tokArg, a_tokType, a_tokScope, a_end, a_holeType, a_holeNest, a_holeScope, a_holeVars, a_parent, a_region, a_sigRegions, a_allRegions, a_cellA, a_cellB, a_link, a_live, a_frameFunction, a_vars, a_saved, a_env, a_regionFirst, a_tasks, a_values, a_used, a_result)) τ n5 (a_values vt) 0 f_functionLimit f_tokenLimit f_cellLimit f_depthLimit f_functions f_accepted f_placed f_openBody f_holeCount f_nextRegion f_changed f_freeCell 0 f_calls f_taskTop (nI vt) f_releasing f_outcome f_peakUsed f_resultSize a_sigType a_params a_kept a_start a_finished a_tokOp a_tokArg a_tokType a_tokScope a_end a_holeType a_holeNest a_holeScope a_holeVars a_parent a_region a_sigRegions a_allRegions a_cellA a_cellB a_link a_live a_frameFunction a_vars a_saved a_env a_regionFirst a_tasks a_values a_used a_result) : wX_leave_117 post f_functionLimit f_tokenLimit f_cellLimit f_depthLimit f_functions f_accepted f_placed f_openBody f_holeCount f_nextRegion f_changed f_freeCell 0 f_calls f_taskTop (nI (vt + 1)) f_releasing f_outcome f_peakUsed f_resultSize a_sigType a_params a_kept a_start a_finished a_tokOp a_tokArg a_tokType a_tokScope a_end a_holeType a_holeNest a_holeScope a_holeVars a_parent a_region a_sigRegions a_allRegions a_cellA a_cellB a_link a_live a_frameFunction a_vars a_saved a_env a_regionFirst a_tasks a_values a_used a_result := by
  refine br_t rfl ?_
  unfold wpX_collect
  refine ux_pop hv (nm_r hτ ?_)
  refine br_c (fun z => K0 z) (fun z => br_c (fun y => K1 y) (fun y => K2 z y))
end
end
section
def rj_X (post : Int32 → SX → Prop) (n : Nat) (x : Int32) (u : SX) : Prop := match u with | (f_functionLimit, f_tokenLimit, f_cellLimit, f_depthLimit, f_functions, f_accepted, f_placed, f_openBody, f_holeCount, f_nextRegion, f_changed, f_freeCell, f_active, f_calls, f_taskTop, f_valueTop, f_releasing, f_outcome, f_peakUsed, f_resultSize, a_sigType, a_params, a_kept, a_start, a_finished, a_tokOp, a_tokArg, a_tokType, a_tokScope, a_end, a_holeType, a_holeNest, a_holeScope, a_holeVars, a_parent, a_region, a_sigRegions, a_allRegions, a_cellA, a_cellB, a_link, a_live, a_frameFunction, a_vars, a_saved, a_env, a_regionFirst, a_tasks, a_values, a_used, a_result) => wX_run_42 post n x f_functionLimit f_tokenLimit f_cellLimit f_depthLimit f_functions f_accepted f_placed f_openBody f_holeCount f_nextRegion f_changed f_freeCell f_active f_calls f_taskTop f_valueTop f_releasing f_outcome f_peakUsed f_resultSize a_sigType a_params a_kept a_start a_finished a_tokOp a_tokArg a_tokType a_tokScope a_end a_holeType a_holeNest a_holeScope a_holeVars a_parent a_region a_sigRegions a_allRegions a_cellA a_cellB a_link a_live a_frameFunction a_vars a_saved a_env a_regionFirst a_tasks a_values a_used a_result
def rj_Y (post : Int32 → SY → Prop) (rl : Int32) (n : Nat) (y : Int32) (v : SY) : Prop := match v with | (g_maxFunctions, g_maxTokens, g_maxCells, g_maxDepth, g_functions, g_tokens, g_open, g_accepted, g_made, g_used, g_most, g_last, g_answer, g_calls, g_depth, b_result, b_param, b_start, b_finished, b_tokOp, b_tokArg, b_tokType, b_first, b_second, b_cellKind, b_freed, b_fn, b_born, b_actual, b_value, b_known) => wY_run_50 post rl n y g_maxFunctions g_maxTokens g_maxCells g_maxDepth g_functions g_tokens g_open g_accepted g_made g_used g_most g_last g_answer g_calls g_depth b_result b_param b_start b_finished b_tokOp b_tokArg b_tokType b_first b_second b_cellKind b_freed b_fn b_born b_actual b_value b_known
/-- both runs end, with one answer, in related states -/
def rj (FIN : Int32 → SX → SY → Prop) (rl : Int32) (x4 : Nat) (u : SX) (y4 : Nat) (v : SY) : Prop :=
  ∃ r u' v', FIN r u' v' ∧ (∀ (post : Int32 → SX → Prop) (n : Nat), 40000 < n + x4 → post r u' → rj_X post n (nI x4) u) ∧ (∀ (post : Int32 → SY → Prop) (n : Nat), 20000 < n + y4 → post r v' → rj_Y post rl n (nI y4) v)
section
variable {f_functionLimit f_tokenLimit f_cellLimit f_depthLimit f_functions f_accepted f_placed f_openBody f_holeCount f_nextRegion f_changed f_freeCell f_active f_calls f_taskTop f_valueTop f_releasing f_outcome f_peakUsed f_resultSize : Int32} {a_sigType a_params a_kept a_start a_finished a_tokOp a_tokArg a_tokType a_tokScope a_end a_holeType a_holeNest a_holeScope a_holeVars a_parent a_region a_sigRegions a_allRegions a_cellA a_cellB a_link a_live a_frameFunction a_vars a_saved a_env a_regionFirst a_tasks a_values a_used a_result : Nat → Int32}
variable {g_maxFunctions g_maxTokens g_maxCells g_maxDepth g_functions g_tokens g_open g_accepted g_made g_used g_most g_last g_answer g_calls g_depth : Int32} {b_result b_param b_start b_finished b_tokOp b_tokArg b_tokType b_first b_second b_cellKind b_freed b_fn b_born b_actual b_value b_known : Nat → Int32}
variable {FIN : Int32 → SX → SY → Prop} {rl : Int32} {x4 y4 : Nat} {u u1 : SX} {v v1 : SY}
theorem rj_xs (hx : x4 < 40000) (h : ru_A (f_functionLimit, f_tokenLimit, f_cellLimit, f_depthLimit, f_functions, f_accepted, f_placed, f_openBody, f_holeCount, f_nextRegion, f_changed, f_freeCell, f_active, f_calls, f_taskTop, f_valueTop, f_releasing, 0, f_peakUsed, f_resultSize, a_sigType, a_params, a_kept, a_start, a_finished, a_tokOp, a_tokArg, a_tokType, a_tokScope, a_end, a_holeType, a_holeNest, a_holeScope, a_holeVars, a_parent, a_region, a_sigRegions, a_allRegions, a_cellA, a_cellB, a_link, a_live, a_frameFunction, a_vars, a_saved, a_env, a_regionFirst, a_tasks, a_values, a_used, a_result) u1) (k : rj FIN rl (x4 + 1) u1 y4 v) : rj FIN rl x4 (f_functionLimit, f_tokenLimit, f_cellLimit, f_depthLimit, f_functions, f_accepted, f_placed, f_openBody, f_holeCount, f_nextRegion, f_changed, f_freeCell, f_active, f_calls, f_taskTop, f_valueTop, f_releasing, 0, f_peakUsed, f_resultSize, a_sigType, a_params, a_kept, a_start, a_finished, a_tokOp, a_tokArg, a_tokType, a_tokScope, a_end, a_holeType, a_holeNest, a_holeScope, a_holeVars, a_parent, a_region, a_sigRegions, a_allRegions, a_cellA, a_cellB, a_link, a_live, a_frameFunction, a_vars, a_saved, a_env, a_regionFirst, a_tasks, a_values, a_used, a_result) y4 v := by
  obtain ⟨r, u', v', F, a, b⟩ := k
  refine ⟨r, u', v', F, fun post n hn hp => ?_, b⟩
  obtain ⟨m, rfl⟩ : ∃ m, n = m + 1 := ⟨n - 1, by omega⟩
  refine br_f (nI_ge (b := 40000) hx (by decide)) (br_t rfl (h _ ?_))
  have A := a post m (by omega) hp
  obtain ⟨f_functionLimit, f_tokenLimit, f_cellLimit, f_depthLimit, f_functions, f_accepted, f_placed, f_openBody, f_holeCount, f_nextRegion, f_changed, f_freeCell, f_active, f_calls, f_taskTop, f_valueTop, f_releasing, f_outcome, f_peakUsed, f_resultSize, a_sigType, a_params, a_kept, a_start, a_finished, a_tokOp, a_tokArg, a_tokType, a_tokScope, a_end, a_holeType, a_holeNest, a_holeScope, a_holeVars, a_parent, a_region, a_sigRegions, a_allRegions, a_cellA, a_cellB, a_link, a_live, a_frameFunction, a_vars, a_saved, a_env, a_regionFirst, a_tasks, a_values, a_used, a_result⟩ := u1
  exact nm_r (nI_1 x4) A
theorem rj_ye {D f s : Nat} (hy : y4 < 20000) (hD : D < 24) (hf : f < 8) (hs : s < 97) (hfn : b_fn D = nI f) (hst : b_start f = nI s) (hk : b_known (D * 97 + s) = 0) (h : yw_E (g_maxFunctions, g_maxTokens, g_maxCells, g_maxDepth, g_functions, g_tokens, g_open, g_accepted, g_made, g_used, g_most, 0, g_answer, g_calls, nI (D + 1), b_result, b_param, b_start, b_finished, b_tokOp, b_tokArg, b_tokType, b_first, b_second, b_cellKind, b_freed, b_fn, b_born, b_actual, b_value, b_known) v1) (k : rj FIN rl x4 u (y4 + 1) v1) : rj FIN rl x4 u y4 (g_maxFunctions, g_maxTokens, g_maxCells, g_maxDepth, g_functions, g_tokens, g_open, g_accepted, g_made, g_used, g_most, 0, g_answer, g_calls, nI (D + 1), b_result, b_param, b_start, b_finished, b_tokOp, b_tokArg, b_tokType, b_first, b_second, b_cellKind, b_freed, b_fn, b_born, b_actual, b_value, b_known) := by
  obtain ⟨r, u', v', F, a, b⟩ := k
  refine ⟨r, u', v', F, a, fun post n hn hp => ?_⟩
  obtain ⟨m, rfl⟩ : ∃ m, n = m + 1 := ⟨n - 1, by omega⟩
  have B := b post m (by omega) hp
  have e1 : nI D * 97 + nI s = nI (D * 97 + s) := by
    show nI D * nI 97 + nI s = _
    rw [pk_mul, nI_add]
  refine br_f (nI_ge (b := 20000) hy (by decide)) (br_t rfl ?_)
  rw [nI_pred, nI_clamp (n := D) (by omega), hfn, nI_clamp (n := f) (by omega), hst, e1, nI_clamp (n := D * 97 + s) (by omega)]
  refine ⟨vp_in_nI hD (by decide), vp_in_nI hf (by decide), vp_in_nI (by omega) (by decide), br_t hk (h _ ?_)⟩
  obtain ⟨g_maxFunctions, g_maxTokens, g_maxCells, g_maxDepth, g_functions, g_tokens, g_open, g_accepted, g_made, g_used, g_most, g_last, g_answer, g_calls, g_depth, b_result, b_param, b_start, b_finished, b_tokOp, b_tokArg, b_tokType, b_first, b_second, b_cellKind, b_freed, b_fn, b_born, b_actual, b_value, b_known⟩ := v1
  exact nm_r (nI_1 y4) B
theorem rj_yl {D f s : Nat} (hy : y4 < 20000) (hD : D < 24) (hf : f < 8) (hs : s < 97) (hfn : b_fn D = nI f) (hst : b_start f = nI s) (hk : ¬ b_known (D * 97 + s) = 0) (h : yw_L rl (g_maxFunctions, g_maxTokens, g_maxCells, g_maxDepth, g_functions, g_tokens, g_open, g_accepted, g_made, g_used, g_most, 0, g_answer, g_calls, nI (D + 1), b_result, b_param, b_start, b_finished, b_tokOp, b_tokArg, b_tokType, b_first, b_second, b_cellKind, b_freed, b_fn, b_born, b_actual, b_value, b_known) v1) (k : rj FIN rl x4 u (y4 + 1) v1) : rj FIN rl x4 u y4 (g_maxFunctions, g_maxTokens, g_maxCells, g_maxDepth, g_functions, g_tokens, g_open, g_accepted, g_made, g_used, g_most, 0, g_answer, g_calls, nI (D + 1), b_result, b_param, b_start, b_finished, b_tokOp, b_tokArg, b_tokType, b_first, b_second, b_cellKind, b_freed, b_fn, b_born, b_actual, b_value, b_known) := by
  obtain ⟨r, u', v', F, a, b⟩ := k
  refine ⟨r, u', v', F, a, fun post n hn hp => ?_⟩
  obtain ⟨m, rfl⟩ : ∃ m, n = m + 1 := ⟨n - 1, by omega⟩
  have B := b post m (by omega) hp
  have e1 : nI D * 97 + nI s = nI (D * 97 + s) := by
    show nI D * nI 97 + nI s = _
    rw [pk_mul, nI_add]
  refine br_f (nI_ge (b := 20000) hy (by decide)) (br_t rfl ?_)
  rw [nI_pred, nI_clamp (n := D) (by omega), hfn, nI_clamp (n := f) (by omega), hst, e1, nI_clamp (n := D * 97 + s) (by omega)]
  refine ⟨vp_in_nI hD (by decide), vp_in_nI hf (by decide), vp_in_nI (by omega) (by decide), br_f hk (h _ ?_)⟩
  obtain ⟨g_maxFunctions, g_maxTokens, g_maxCells, g_maxDepth, g_functions, g_tokens, g_open, g_accepted, g_made, g_used, g_most, g_last, g_answer, g_calls, g_depth, b_result, b_param, b_start, b_finished, b_tokOp, b_tokArg, b_tokType, b_first, b_second, b_cellKind, b_freed, b_fn, b_born, b_actual, b_value, b_known⟩ := v1
  exact nm_r (nI_1 y4) B
theorem rj_fin {oc : Int32} (hx : x4 ≤ 40000) (hy : y4 ≤ 20000) (ho : ¬ oc = 0) (F : FIN oc (f_functionLimit, f_tokenLimit, f_cellLimit, f_depthLimit, f_functions, f_accepted, f_placed, f_openBody, f_holeCount, f_nextRegion, f_changed, f_freeCell, f_active, f_calls, f_taskTop, f_valueTop, f_releasing, oc, f_peakUsed, f_resultSize, a_sigType, a_params, a_kept, a_start, a_finished, a_tokOp, a_tokArg, a_tokType, a_tokScope, a_end, a_holeType, a_holeNest, a_holeScope, a_holeVars, a_parent, a_region, a_sigRegions, a_allRegions, a_cellA, a_cellB, a_link, a_live, a_frameFunction, a_vars, a_saved, a_env, a_regionFirst, a_tasks, a_values, a_used, a_result) (g_maxFunctions, g_maxTokens, g_maxCells, g_maxDepth, g_functions, g_tokens, g_open, g_accepted, g_made, g_used, g_most, oc, g_answer, g_calls, g_depth, b_result, b_param, b_start, b_finished, b_tokOp, b_tokArg, b_tokType, b_first, b_second, b_cellKind, b_freed, b_fn, b_born, b_actual, b_value, b_known)) : rj FIN rl x4 (f_functionLimit, f_tokenLimit, f_cellLimit, f_depthLimit, f_functions, f_accepted, f_placed, f_openBody, f_holeCount, f_nextRegion, f_changed, f_freeCell, f_active, f_calls, f_taskTop, f_valueTop, f_releasing, oc, f_peakUsed, f_resultSize, a_sigType, a_params, a_kept, a_start, a_finished, a_tokOp, a_tokArg, a_tokType, a_tokScope, a_end, a_holeType, a_holeNest, a_holeScope, a_holeVars, a_parent, a_region, a_sigRegions, a_allRegions, a_cellA, a_cellB, a_link, a_live, a_frameFunction, a_vars, a_saved, a_env, a_regionFirst, a_tasks, a_values, a_used, a_result) y4 (g_maxFunctions, g_maxTokens, g_maxCells, g_maxDepth, g_functions, g_tokens, g_open, g_accepted, g_made, g_used, g_most, oc, g_answer, g_calls, g_depth, b_result, b_param, b_start, b_finished, b_tokOp, b_tokArg, b_tokType, b_first, b_second, b_cellKind, b_freed, b_fn, b_born, b_actual, b_value, b_known) := by
  refine ⟨oc, _, _, F, fun post n hn hp => ?_, fun post n hn hp => ?_⟩
  · obtain ⟨m, rfl⟩ : ∃ m, n = m + 1 := ⟨n - 1, by omega⟩
    exact br_c (fun _ => hp) (fun _ => br_f ho hp)
  · obtain ⟨m, rfl⟩ : ∃ m, n = m + 1 := ⟨n - 1, by omega⟩
    exact br_c (fun _ => hp) (fun _ => br_f ho hp)
end
end
section
def ev_H (cl : Nat) (rl : Int32) (OP : Nat → Prop) (fc : Int32) (cA cB lk lv rF us : Nat → Int32) (uy : Int32) (fi se ck fr : Nat → Int32) (md : Nat) (mu rg : Nat → Nat) (av : Nat → Prop) (FL : List Nat) : Prop :=
  hi_hp cl md fc cA cB lk lv fi se ck fr mu av FL ∧ hi_ct cl md us uy ck fr ∧ (rl = 1 → hr_ok md lk rF mu rg av OP)
def er (ev reg : Nat → Int32) (D z : Nat) : Int32 := ev (200 * D + (reg z).toNatClampNeg)
def ev_F (f D : Nat) (al : Nat → Nat) (OP : Nat → Prop) (fF ev fn : Nat → Int32) : Prop := fF D = nI f ∧ fn D = nI f ∧ (∀ r, r < al f → ∃ R, ev (200 * D + r) = nI R ∧ OP R) ∧ (∀ R, OP R → R < 200 * (D + 1))
def ev_N (S op arg reg : Nat → Int32) (f s i D md : Nat) (fi se ck : Nat → Int32) (mu rg : Nat → Nat) (av : Nat → Prop) (ev vr ac vl : Nat → Int32) : Prop :=
  (∀ v, v < sp_n S f → vr_V md fi se ck mu rg av (S (3 * f + v)) (er ev reg D (192 + 6 * f + 2 * v)) (er ev reg D (192 + 6 * f + 2 * v + 1)) (vr (8 * D + v)) (ac (2 * D + v))) ∧
  (∀ j, s ≤ j → hz_bl (sp_L op) (sp_A S op arg) j i → vr_V md fi se ck mu rg av (arg j) (er ev reg D (2 * (j + 1))) (er ev reg D (2 * (j + 1) + 1)) (vr (8 * D + sp_sc S op arg f s j)) (vl (D * 97 + (j + 1))))
/-- the way of Y's search from the root to i -/
def ev_P (A : Nat → Nat) (op : Nat → Int32) (en : Nat → Nat) (s i D ns : Nat) (kn0 vl0 : Nat → Int32) : Prop :=
  ∀ kn vl : Nat → Int32, (∀ j, j < 97 → (j < i ∨ en i ≤ j) → kn (D * 97 + j) = kn0 (D * 97 + j) ∧ vl (D * 97 + j) = vl0 (D * 97 + j)) → kn (D * 97 + i) = 0 → kn (D * 97 + s) = 0 ∧ nx A op en kn vl (D * 97) 10 s = nx A op en kn vl (D * 97) (11 - ns) i
def k_X (D tt vt sc : Nat) (tk va vr ev sv fF tk' va' vr' ev' sv' fF' : Nat → Int32) : Prop :=
  (∀ j, j < tt → tk' j = tk j) ∧ (∀ j, j < vt → va' j = va j) ∧ (∀ j, j < 8 * D + sc → vr' j = vr j) ∧ (∀ j, j < 200 * (D + 1) → ev' j = ev j) ∧ (∀ j, j < 4 * (D + 1) → sv' j = sv j) ∧ (∀ j, j < D + 1 → fF' j = fF j)
def k_Y (D a b : Nat) (fn bo ac vl kn fn' bo' ac' vl' kn' : Nat → Int32) : Prop :=
  (∀ j, j < D + 1 → fn' j = fn j ∧ bo' j = bo j) ∧ (∀ j, j < 2 * (D + 1) → ac' j = ac j) ∧ (∀ j, j < 97 * (D + 1) → (j < D * 97 + a ∨ D * 97 + b ≤ j) → vl' j = vl j ∧ kn' j = kn j)
/-- new live cells lie in regions of slots of their kind -/
def ev_C (rl : Int32) (S ty reg : Nat → Int32) (fo : Nat → Nat) (t f D md : Nat) (ev ck' : Nat → Int32) (md' : Nat) (rg' : Nat → Nat) (av' : Nat → Prop) : Prop :=
  rl = 1 → ∀ e, md ≤ e → e < md' → av' e → ∃ q b, q < t ∧ fo q = f ∧ b < 2 ∧ nI (pc_kz S ty (2 * q + b)) = ck' e ∧ nI (rg' e) = er ev reg D (2 * q + b)
def rs_S (clX dlX clY dlY tok : Int32) (S pa ke st op arg ty scp en' reg sgR alR res par : Nat → Int32) (nf t cl dl : Nat) (rl : Int32) (sN fo en sg al : Nat → Nat) : Prop :=
  pc_ok nf t S op arg ty scp sN fo en ∧ rg_ok nf t S op arg ty sN fo en sg al reg sgR alR ∧ (∀ f, f < nf → pa f = nI (sp_n S f)) ∧ (∀ f, f < nf → ke f = (kk (S (3 * f + 2)) ||| kk (S (3 * f))) ||| kk (S (3 * f + 1))) ∧ (∀ q, q < t → en' q = nI (en q)) ∧ (∀ f, f < nf → st f = nI (sN f)) ∧ sp_ys nf S par res ∧
  clX = nI cl ∧ clY = nI cl ∧ 8 ≤ cl ∧ cl ≤ 64 ∧ dlX = nI dl ∧ dlY = nI dl ∧ 4 ≤ dl ∧ dl ≤ 24 ∧ tok = nI t ∧ (rl = 0 ∨ rl = 1)
/-- what holds when token i is about to be evaluated -/
def ev_pre (f_functionLimit f_tokenLimit f_cellLimit f_depthLimit f_functions f_accepted f_placed f_openBody f_holeCount f_nextRegion f_changed g_maxFunctions g_maxTokens g_maxCells g_maxDepth g_functions g_tokens g_open g_accepted g_answer : Int32) (a_sigType a_params a_kept a_start a_finished a_tokOp a_tokArg a_tokType a_tokScope a_end a_holeType a_holeNest a_holeScope a_holeVars a_parent a_region a_sigRegions a_allRegions a_result b_result b_param b_finished : Nat → Int32) (nf t cl dl : Nat) (rl : Int32) (sN fo en sg al : Nat → Nat) (FIN : Int32 → SX → SY → Prop) (i D c tt vt x4 y4 : Nat) (OP : Nat → Prop) (f_freeCell f_peakUsed g_used : Int32) (a_cellA a_cellB a_link a_live a_frameFunction a_vars a_saved a_env a_regionFirst a_tasks a_values a_used b_first b_second b_cellKind b_freed b_fn b_born b_actual b_value b_known : Nat → Int32) (md : Nat) (mu rg : Nat → Nat) (av : Nat → Prop) (FL : List Nat) : Prop :=
  (i < t ∧ D < dl ∧ 1 ≤ c ∧ c ≤ 200 ∧ tt ≤ 40 * (D + 1) + 2 * (hz_ns (sp_A a_sigType a_tokOp a_tokArg) (sN (fo (i))) (i)) ∧ vt ≤ 20 * (D + 1) + (hz_ns (sp_A a_sigType a_tokOp a_tokArg) (sN (fo (i))) (i)) ∧ x4 + 2 * (en i - i) ≤ 193 * c ∧ y4 + (en i - i) ≤ 97 * c ∧ 2 * md + (en i - i) ≤ 95 * c + 1) ∧
  a_tasks tt = nI (2 * i) ∧ ev_F (fo i) D al OP a_frameFunction a_env b_fn ∧ ev_H cl rl OP f_freeCell a_cellA a_cellB a_link a_live a_regionFirst a_used g_used b_first b_second b_cellKind b_freed md mu rg av FL ∧ ev_N a_sigType a_tokOp a_tokArg a_region (fo i) (sN (fo i)) i D md b_first b_second b_cellKind mu rg av a_env a_vars b_actual b_value ∧
  (∀ j, i ≤ j → j < en i → b_known (D * 97 + j) = 0) ∧ ev_P (sp_A a_sigType a_tokOp a_tokArg) a_tokOp en (sN (fo i)) i D (hz_ns (sp_A a_sigType a_tokOp a_tokArg) (sN (fo (i))) (i)) b_known b_value
def ev_num (n D c c' x4 x4' y4 y4' md md' : Nat) : Prop := c ≤ c' ∧ c' ≤ 200 ∧ x4' + 193 * c ≤ x4 + 2 * n + 193 * c' ∧ y4' + 97 * c ≤ y4 + n + 97 * c' ∧ 2 * md' + 95 * c + 1 ≤ 2 * md + n + 95 * c'
def ev_post (f_functionLimit f_tokenLimit f_cellLimit f_depthLimit f_functions f_accepted f_placed f_openBody f_holeCount f_nextRegion f_changed g_maxFunctions g_maxTokens g_maxCells g_maxDepth g_functions g_tokens g_open g_accepted g_answer : Int32) (a_sigType a_params a_kept a_start a_finished a_tokOp a_tokArg a_tokType a_tokScope a_end a_holeType a_holeNest a_holeScope a_holeVars a_parent a_region a_sigRegions a_allRegions a_result b_result b_param b_finished : Nat → Int32) (nf t cl dl : Nat) (rl : Int32) (sN fo en sg al : Nat → Nat) (FIN : Int32 → SX → SY → Prop) (i D c tt vt x4 y4 : Nat) (OP : Nat → Prop) (f_freeCell f_peakUsed g_used : Int32) (a_cellA a_cellB a_link a_live a_frameFunction a_vars a_saved a_env a_regionFirst a_tasks a_values a_used b_first b_second b_cellKind b_freed b_fn b_born b_actual b_value b_known : Nat → Int32) (md : Nat) (mu rg : Nat → Nat) (av : Nat → Prop) (FL : List Nat) (c' x4' y4' : Nat) (f_freeCell' f_peakUsed' g_used' : Int32) (a_cellA' a_cellB' a_link' a_live' a_frameFunction' a_vars' a_saved' a_env' a_regionFirst' a_tasks' a_values' a_used' b_first' b_second' b_cellKind' b_freed' b_fn' b_born' b_actual' b_value' b_known' : Nat → Int32) (md' : Nat) (mu' rg' : Nat → Nat) (av' : Nat → Prop) (FL' : List Nat) : Prop :=
  ev_num (en i - i) D c c' x4 x4' y4 y4' md md' ∧ k_X D tt vt (sp_sc a_sigType a_tokOp a_tokArg (fo (i)) (sN (fo (i))) (i)) a_tasks a_values a_vars a_env a_saved a_frameFunction a_tasks' a_values' a_vars' a_env' a_saved' a_frameFunction' ∧
  k_Y D i (en i) b_fn b_born b_actual b_value b_known b_fn' b_born' b_actual' b_value' b_known' ∧ b_known' (D * 97 + i) = 1 ∧ ev_H cl rl OP f_freeCell' a_cellA' a_cellB' a_link' a_live' a_regionFirst' a_used' g_used' b_first' b_second' b_cellKind' b_freed' md' mu' rg' av' FL' ∧
  hx_E md b_first b_second b_cellKind b_freed mu rg av md' b_first' b_second' b_cellKind' b_freed' mu' rg' av' ∧ vr_V md' b_first' b_second' b_cellKind' mu' rg' av' (a_tokType i) (er a_env a_region D (2 * i)) (er a_env a_region D (2 * i + 1)) (a_values' vt) (b_value' (D * 97 + i)) ∧
  ev_C rl a_sigType a_tokType a_region fo t (fo i) D md a_env b_cellKind' md' rg' av'
def EVp (f_functionLimit f_tokenLimit f_cellLimit f_depthLimit f_functions f_accepted f_placed f_openBody f_holeCount f_nextRegion f_changed g_maxFunctions g_maxTokens g_maxCells g_maxDepth g_functions g_tokens g_open g_accepted g_answer : Int32) (a_sigType a_params a_kept a_start a_finished a_tokOp a_tokArg a_tokType a_tokScope a_end a_holeType a_holeNest a_holeScope a_holeVars a_parent a_region a_sigRegions a_allRegions a_result b_result b_param b_finished : Nat → Int32) (nf t cl dl : Nat) (rl : Int32) (sN fo en sg al : Nat → Nat) (FIN : Int32 → SX → SY → Prop) (N : Nat) : Prop := ∀ (i D c tt vt x4 y4 : Nat) (OP : Nat → Prop) (f_freeCell f_peakUsed g_used : Int32) (a_cellA a_cellB a_link a_live a_frameFunction a_vars a_saved a_env a_regionFirst a_tasks a_values a_used b_first b_second b_cellKind b_freed b_fn b_born b_actual b_value b_known : Nat → Int32) (md : Nat) (mu rg : Nat → Nat) (av : Nat → Prop) (FL : List Nat), (200 - c) * 100 + (en i - i) ≤ N → ev_pre f_functionLimit f_tokenLimit f_cellLimit f_depthLimit f_functions f_accepted f_placed f_openBody f_holeCount f_nextRegion f_changed g_maxFunctions g_maxTokens g_maxCells g_maxDepth g_functions g_tokens g_open g_accepted g_answer a_sigType a_params a_kept a_start a_finished a_tokOp a_tokArg a_tokType a_tokScope a_end a_holeType a_holeNest a_holeScope a_holeVars a_parent a_region a_sigRegions a_allRegions a_result b_result b_param b_finished nf t cl dl rl sN fo en sg al FIN i D c tt vt x4 y4 OP f_freeCell f_peakUsed g_used a_cellA a_cellB a_link a_live a_frameFunction a_vars a_saved a_env a_regionFirst a_tasks a_values a_used b_first b_second b_cellKind b_freed b_fn b_born b_actual b_value b_known md mu rg av FL →
  (∀ (c' x4' y4' : Nat) (f_freeCell' f_peakUsed' g_used' : Int32) (a_cellA' a_cellB' a_link' a_live' a_frameFunction' a_vars' a_saved' a_env' a_regionFirst' a_tasks' a_values' a_used' b_first' b_second' b_cellKind' b_freed' b_fn' b_born' b_actual' b_value' b_known' : Nat → Int32) (md' : Nat) (mu' rg' : Nat → Nat) (av' : Nat → Prop) (FL' : List Nat), ev_post f_functionLimit f_tokenLimit f_cellLimit f_depthLimit f_functions f_accepted f_placed f_openBody f_holeCount f_nextRegion f_changed g_maxFunctions g_maxTokens g_maxCells g_maxDepth g_functions g_tokens g_open g_accepted g_answer a_sigType a_params a_kept a_start a_finished a_tokOp a_tokArg a_tokType a_tokScope a_end a_holeType a_holeNest a_holeScope a_holeVars a_parent a_region a_sigRegions a_allRegions a_result b_result b_param b_finished nf t cl dl rl sN fo en sg al FIN i D c tt vt x4 y4 OP f_freeCell f_peakUsed g_used a_cellA a_cellB a_link a_live a_frameFunction a_vars a_saved a_env a_regionFirst a_tasks a_values a_used b_first b_second b_cellKind b_freed b_fn b_born b_actual b_value b_known md mu rg av FL c' x4' y4' f_freeCell' f_peakUsed' g_used' a_cellA' a_cellB' a_link' a_live' a_frameFunction' a_vars' a_saved' a_env' a_regionFirst' a_tasks' a_values' a_used' b_first' b_second' b_cellKind' b_freed' b_fn' b_born' b_actual' b_value' b_known' md' mu' rg' av' FL' → rj FIN rl x4' (f_functionLimit, f_tokenLimit, f_cellLimit, f_depthLimit, f_functions, f_accepted, f_placed, f_openBody, f_holeCount, f_nextRegion, f_changed, f_freeCell', nI (D + 1), nI (c'), nI (tt), nI (vt + 1), rl, 0, f_peakUsed', 0, a_sigType, a_params, a_kept, a_start, a_finished, a_tokOp, a_tokArg, a_tokType, a_tokScope, a_end, a_holeType, a_holeNest, a_holeScope, a_holeVars, a_parent, a_region, a_sigRegions, a_allRegions, a_cellA', a_cellB', a_link', a_live', a_frameFunction', a_vars', a_saved', a_env', a_regionFirst', a_tasks', a_values', a_used', a_result) y4' (g_maxFunctions, g_maxTokens, g_maxCells, g_maxDepth, g_functions, g_tokens, g_open, g_accepted, nI md', g_used', f_peakUsed', 0, g_answer, nI (c'), nI (D + 1), b_result, b_param, a_start, b_finished, a_tokOp, a_tokArg, a_tokType, b_first', b_second', b_cellKind', b_freed', b_fn', b_born', b_actual', b_value', b_known')) → rj FIN rl x4 (f_functionLimit, f_tokenLimit, f_cellLimit, f_depthLimit, f_functions, f_accepted, f_placed, f_openBody, f_holeCount, f_nextRegion, f_changed, f_freeCell, nI (D + 1), nI (c), nI (tt + 1), nI (vt), rl, 0, f_peakUsed, 0, a_sigType, a_params, a_kept, a_start, a_finished, a_tokOp, a_tokArg, a_tokType, a_tokScope, a_end, a_holeType, a_holeNest, a_holeScope, a_holeVars, a_parent, a_region, a_sigRegions, a_allRegions, a_cellA, a_cellB, a_link, a_live, a_frameFunction, a_vars, a_saved, a_env, a_regionFirst, a_tasks, a_values, a_used, a_result) y4 (g_maxFunctions, g_maxTokens, g_maxCells, g_maxDepth, g_functions, g_tokens, g_open, g_accepted, nI md, g_used, f_peakUsed, 0, g_answer, nI (c), nI (D + 1), b_result, b_param, a_start, b_finished, a_tokOp, a_tokArg, a_tokType, b_first, b_second, b_cellKind, b_freed, b_fn, b_born, b_actual, b_value, b_known)
section
variable {D tt vt sc tt2 vt2 sc2 : Nat} {tk va vr ev sv fF tk1 va1 vr1 ev1 sv1 fF1 tk2 va2 vr2 ev2 sv2 fF2 : Nat → Int32}
theorem k_X_rf : k_X D tt vt sc tk va vr ev sv fF tk va vr ev sv fF := ⟨fun _ _ => rfl, fun _ _ => rfl, fun _ _ => rfl, fun _ _ => rfl, fun _ _ => rfl, fun _ _ => rfl⟩
theorem k_X_tr (h : k_X D tt vt sc tk va vr ev sv fF tk1 va1 vr1 ev1 sv1 fF1) (h' : k_X D tt2 vt2 sc2 tk1 va1 vr1 ev1 sv1 fF1 tk2 va2 vr2 ev2 sv2 fF2) (a : tt ≤ tt2) (b : vt ≤ vt2) (c : sc ≤ sc2) : k_X D tt vt sc tk va vr ev sv fF tk2 va2 vr2 ev2 sv2 fF2 :=
  ⟨fun j hj => (h'.1 j (by omega)).trans (h.1 j hj), fun j hj => (h'.2.1 j (by omega)).trans (h.2.1 j hj), fun j hj => (h'.2.2.1 j (by omega)).trans (h.2.2.1 j hj), fun j hj => (h'.2.2.2.1 j hj).trans (h.2.2.2.1 j hj), fun j hj => (h'.2.2.2.2.1 j hj).trans (h.2.2.2.2.1 j hj), fun j hj => (h'.2.2.2.2.2 j hj).trans (h.2.2.2.2.2 j hj)⟩
end
section
variable {D a b a2 b2 a3 b3 : Nat} {fn bo ac vl kn fn1 bo1 ac1 vl1 kn1 fn2 bo2 ac2 vl2 kn2 : Nat → Int32}
theorem k_Y_rf : k_Y D a b fn bo ac vl kn fn bo ac vl kn := ⟨fun _ _ => ⟨rfl, rfl⟩, fun _ _ => rfl, fun _ _ _ => ⟨rfl, rfl⟩⟩
theorem k_Y_tr (h : k_Y D a b fn bo ac vl kn fn1 bo1 ac1 vl1 kn1) (h' : k_Y D a2 b2 fn1 bo1 ac1 vl1 kn1 fn2 bo2 ac2 vl2 kn2) (ha : a3 ≤ a) (hb : b ≤ b3) (ha2 : a3 ≤ a2) (hb2 : b2 ≤ b3) : k_Y D a3 b3 fn bo ac vl kn fn2 bo2 ac2 vl2 kn2 :=
  ⟨fun j hj => ⟨(h'.1 j hj).1.trans (h.1 j hj).1, (h'.1 j hj).2.trans (h.1 j hj).2⟩, fun j hj => (h'.2.1 j hj).trans (h.2.1 j hj), fun j hj hd => ⟨(h'.2.2 j hj (by omega)).1.trans (h.2.2 j hj (by omega)).1, (h'.2.2 j hj (by omega)).2.trans (h.2.2 j hj (by omega)).2⟩⟩
theorem k_Y_up (h : k_Y D a b fn bo ac vl kn fn1 bo1 ac1 vl1 kn1) (ha : a3 ≤ a) (hb : b ≤ b3) : k_Y D a3 b3 fn bo ac vl kn fn1 bo1 ac1 vl1 kn1 := k_Y_tr h k_Y_rf ha hb (a2 := a3) (b2 := b3) (Nat.le_refl _) (Nat.le_refl _)
end
end
section
section
variable {A : Nat → Nat} {op kn0 vl0 kn vl : Nat → Int32} {en : Nat → Nat} {s i D ns : Nat}
theorem ev_nx (h : ev_P A op en s i D ns kn0 vl0) (hns : ns ≤ 10) (hag : ∀ j, j < 97 → (j < i ∨ en i ≤ j) → kn (D * 97 + j) = kn0 (D * 97 + j) ∧ vl (D * 97 + j) = vl0 (D * 97 + j)) (hk : kn (D * 97 + i) = 0) (hst : nx_st A op en kn vl (D * 97) i = none) : kn (D * 97 + s) = 0 ∧ nx A op en kn vl (D * 97) 10 s = i := by
  obtain ⟨h1, h2⟩ := h kn vl hag hk
  refine ⟨h1, ?_⟩
  rw [h2]
  obtain ⟨m, hm⟩ : ∃ m, 11 - ns = m + 1 := ⟨10 - ns, by omega⟩
  rw [hm, nx_none hst]
theorem ev_P_cg (h : ev_P A op en s i D ns kn0 vl0) (hag : ∀ j, j < 97 → (j < i ∨ en i ≤ j) → kn (D * 97 + j) = kn0 (D * 97 + j) ∧ vl (D * 97 + j) = vl0 (D * 97 + j)) : ev_P A op en s i D ns kn vl :=
  fun kn' vl' h1 h2 => h kn' vl' (fun j j1 j2 => ⟨(h1 j j1 j2).1.trans (hag j j1 j2).1, (h1 j j1 j2).2.trans (hag j j1 j2).2⟩) h2
/-- the way to a child -/
theorem ev_P_ch {k c : Nat} (h : ev_P A op en s i D ns kn vl) (hns : ns ≤ 10) (hA : A i ≤ 3) (hk : k < A i) (hc : c = cp en i k) (hic : i < c) (hce : en c ≤ en i) (hcc : c < en c) (hi97 : en i ≤ 97) (hki : kn (D * 97 + i) = 0)
    (hpos : ∀ j, j < k → i < cp en i j ∧ cp en i j < c) (h4a : op i = 4 → k = 1 → vl (D * 97 + (i + 1)) ≠ 0) (h4b : op i = 4 → k = 2 → vl (D * 97 + (i + 1)) = 0) (hb : ∀ j, j < k → kn (D * 97 + cp en i j) ≠ 0 ∨ (op i = 4 ∧ j = 1 ∧ vl (D * 97 + (i + 1)) = 0)) : ev_P A op en s c D (ns + 1) kn vl := by
  intro kn' vl' h1 h2
  have hki' : kn' (D * 97 + i) = 0 := by rw [(h1 i (by omega) (Or.inl hic)).1]; exact hki
  obtain ⟨a1, a2⟩ := h kn' vl' (fun j j1 j2 => h1 j j1 (by omega)) hki'
  refine ⟨a1, ?_⟩
  rw [a2]
  obtain ⟨m, hm⟩ : ∃ m, 11 - ns = m + 1 := ⟨10 - ns, by omega⟩
  have hm' : 11 - (ns + 1) = m := by omega
  have v1 : 0 < k → vl' (D * 97 + (i + 1)) = vl (D * 97 + (i + 1)) := fun hk0 => by
    have := hpos 0 hk0
    have e0 : cp en i 0 = i + 1 := rfl
    exact (h1 (i + 1) (by omega) (Or.inl (by omega))).2
  have ok : nx_ok op en kn' vl' (D * 97) i k := by
    refine ⟨fun o k1 => ?_, fun o k2 => ?_, ?_⟩
    · rw [v1 (by omega)]; exact h4a o k1
    · rw [v1 (by omega)]; exact h4b o k2
    · rw [← hc]; exact h2
  have nb : ∀ j, j < k → ¬ nx_ok op en kn' vl' (D * 97) i j := fun j hj q => by
    have pj := hpos j hj
    rcases hb j hj with w | ⟨w1, w2, w3⟩
    · refine w ?_
      rw [← (h1 (cp en i j) (by omega) (Or.inl pj.2)).1]; exact q.2.2
    · exact q.1 w1 w2 (by rw [v1 (by omega)]; exact w3)
  rw [hm, hm', nx_some (nx_st_some hk hA ok nb), hc]
end
section
variable {S op arg reg : Nat → Int32} {f s i c k D md md' sc a b : Nat} {fi se ck fr fi' se' ck' fr' : Nat → Int32} {mu rg mu' rg' : Nat → Nat} {av av' : Nat → Prop} {ev vr ac vl ev' vr' ac' vl' tk va sv fF tk' va' sv' fF' fn bo kn fn' bo' kn' : Nat → Int32} {tt vt : Nat}
theorem er_cg {z : Nat} {m : Nat} (h : ∀ j, j < 200 * (D + 1) → ev' j = ev j) (hm : reg z = nI m) (hm2 : m < 200) : er ev' reg D z = er ev reg D z := by
  unfold er
  rw [hm, nI_clamp (by omega)]
  exact h _ (by omega)
theorem ev_N_ch (h : ev_N S op arg reg f s i D md fi se ck mu rg av ev vr ac vl) (hs : s ≤ i) (hc : hz_ch (sp_A S op arg) i k c) (hl : ¬ (op i = 5 ∧ k = 1)) : ev_N S op arg reg f s c D md fi se ck mu rg av ev vr ac vl := by
  refine ⟨h.1, fun j j1 j2 => ?_⟩
  rcases (hz_bl_ch hc).mp j2 with w | ⟨rfl, w⟩
  · exact h.2 j j1 w
  · exact absurd (sp_let.mp w) hl
theorem ev_N_let (h : ev_N S op arg reg f s i D md fi se ck mu rg av ev vr ac vl) (hs : s ≤ i) (hc : hz_ch (sp_A S op arg) i k c) {x : Int32} (hx : vr_V md fi se ck mu rg av (arg i) (er ev reg D (2 * (i + 1))) (er ev reg D (2 * (i + 1) + 1)) x (vl (D * 97 + (i + 1)))) :
    ev_N S op arg reg f s c D md fi se ck mu rg av ev (upd vr (8 * D + sp_sc S op arg f s i) x) ac vl := by
  refine ⟨fun v hv => ?_, fun j j1 j2 => ?_⟩
  · have : sp_n S f ≤ sp_sc S op arg f s i := by unfold sp_sc; omega
    rw [pk_un (by omega)]; exact h.1 v hv
  · rcases (hz_bl_ch hc).mp j2 with w | ⟨rfl, w⟩
    · have lt := hz_bc_lt j1 w
      have : sp_sc S op arg f s j < sp_sc S op arg f s i := by unfold sp_sc; omega
      rw [pk_un (by omega)]; exact h.2 j j1 w
    · rw [pk_us]; exact hx
theorem ev_N_keep (h : ev_N S op arg reg f s i D md fi se ck mu rg av ev vr ac vl) (kx : k_X D tt vt sc tk va vr ev sv fF tk' va' vr' ev' sv' fF') (ky : k_Y D a b fn bo ac vl kn fn' bo' ac' vl' kn') (hx : hx_E md fi se ck fr mu rg av md' fi' se' ck' fr' mu' rg' av') (hsc : sp_sc S op arg f s i ≤ sc) (hia : i < a) (hi : i < 97) :
    ev_N S op arg reg f s i D md' fi' se' ck' mu' rg' av' ev vr' ac' vl' := by
  have hle := sp_n_le S f
  refine ⟨fun v hv => ?_, fun j j1 j2 => ?_⟩
  · have : v < sp_sc S op arg f s i := by unfold sp_sc; omega
    rw [kx.2.2.1 _ (by omega), ky.2.1 _ (by omega)]
    exact vr_up hx (h.1 v hv)
  · have lt := hz_bc_lt j1 j2
    have lj := j2.2.1.1
    have : sp_sc S op arg f s j < sp_sc S op arg f s i := by unfold sp_sc; omega
    rw [kx.2.2.1 _ (by omega), (ky.2.2 _ (by omega) (Or.inl (by omega))).1]
    exact vr_up hx (h.2 j j1 j2)
/-- the environment's regions don't change -/
theorem ev_N_env (h : ev_N S op arg reg f s i D md fi se ck mu rg av ev vr ac vl) (e : ∀ z, er ev' reg D z = er ev reg D z) : ev_N S op arg reg f s i D md fi se ck mu rg av ev' vr ac vl :=
  ⟨fun v hv => by rw [e, e]; exact h.1 v hv, fun j j1 j2 => by rw [e, e]; exact h.2 j j1 j2⟩
end
theorem ev_F_keep {f D tt vt sc a b : Nat} {al : Nat → Nat} {OP : Nat → Prop} {tk va vr ev sv fF tk' va' vr' ev' sv' fF' fn bo ac vl kn fn' bo' ac' vl' kn' : Nat → Int32} (hal : al f ≤ 200) (h : ev_F f D al OP fF ev fn) (kx : k_X D tt vt sc tk va vr ev sv fF tk' va' vr' ev' sv' fF') (ky : k_Y D a b fn bo ac vl kn fn' bo' ac' vl' kn') : ev_F f D al OP fF' ev' fn' := by
  obtain ⟨h1, h2, h3, h4⟩ := h
  refine ⟨by rw [kx.2.2.2.2.2 D (by omega)]; exact h1, by rw [(ky.1 D (by omega)).1]; exact h2, fun r hr => ?_, h4⟩
  obtain ⟨R, r1, r2⟩ := h3 r hr
  exact ⟨R, by rw [kx.2.2.2.1 _ (by omega)]; exact r1, r2⟩
end
section
section
variable {f_functionLimit f_tokenLimit f_cellLimit f_depthLimit f_functions f_accepted f_placed f_openBody f_holeCount f_nextRegion f_changed g_maxFunctions g_maxTokens g_maxCells g_maxDepth g_functions g_tokens g_open g_accepted g_answer : Int32} {a_sigType a_params a_kept a_start a_finished a_tokOp a_tokArg a_tokType a_tokScope a_end a_holeType a_holeNest a_holeScope a_holeVars a_parent a_region a_sigRegions a_allRegions a_result b_result b_param b_finished : Nat → Int32} {nf t cl dl : Nat} {rl : Int32} {sN fo en sg al : Nat → Nat} {FIN : Int32 → SX → SY → Prop} {f_freeCell f_peakUsed g_used : Int32} {a_cellA a_cellB a_link a_live a_frameFunction a_vars a_saved a_env a_regionFirst a_tasks a_values a_used b_first b_second b_cellKind b_freed b_fn b_born b_actual b_value b_known : Nat → Int32} {md : Nat} {mu rg : Nat → Nat} {av : Nat → Prop} {FL : List Nat} {f_freeCell' f_peakUsed' g_used' : Int32} {a_cellA' a_cellB' a_link' a_live' a_frameFunction' a_vars' a_saved' a_env' a_regionFirst' a_tasks' a_values' a_used' b_first' b_second' b_cellKind' b_freed' b_fn' b_born' b_actual' b_value' b_known' : Nat → Int32} {md' : Nat} {mu' rg' : Nat → Nat} {av' : Nat → Prop} {FL' : List Nat}
variable {i D c tt vt x4 y4 N c' x4' y4' : Nat} {OP : Nat → Prop}
/-- regions of used slots don't change with the arrays above -/
theorem er_tok {D q b : Nat} {ev ev' : Nat → Int32} (S : rs_S f_cellLimit f_depthLimit g_maxCells g_maxDepth g_tokens a_sigType a_params a_kept a_start a_tokOp a_tokArg a_tokType a_tokScope a_end a_region a_sigRegions a_allRegions b_result b_param nf t cl dl rl sN fo en sg al) (h : ∀ j, j < 200 * (D + 1) → ev' j = ev j) (hq : q < t) (hb : b < 2) (hk : pc_kz a_sigType a_tokType (2 * q + b) ≠ 0) : er ev' a_region D (2 * q + b) = er ev a_region D (2 * q + b) := by
  obtain ⟨m, m1, m2⟩ := S.2.1.2.1 q b hq hb hk
  have := (S.2.1.1 (fo q) (pc_fo S.1 hq)).2.2.2
  exact er_cg h m2 (by omega)
theorem er_sig {D f s : Nat} {ev ev' : Nat → Int32} (S : rs_S f_cellLimit f_depthLimit g_maxCells g_maxDepth g_tokens a_sigType a_params a_kept a_start a_tokOp a_tokArg a_tokType a_tokScope a_end a_region a_sigRegions a_allRegions b_result b_param nf t cl dl rl sN fo en sg al) (h : ∀ j, j < 200 * (D + 1) → ev' j = ev j) (hf : f < nf) (hs : s < 6) (hk : pc_kz a_sigType a_tokType (192 + 6 * f + s) ≠ 0) : er ev' a_region D (192 + 6 * f + s) = er ev a_region D (192 + 6 * f + s) := by
  obtain ⟨m, m1, m2⟩ := (S.2.1.2.2.1 f s hf hs).1 hk
  have := S.2.1.1 f hf
  exact er_cg h m2 (by omega)
theorem vr_tok {D q md : Nat} {fi se ck ev ev' : Nat → Int32} {mu rg : Nat → Nat} {av : Nat → Prop} {x y : Int32} (S : rs_S f_cellLimit f_depthLimit g_maxCells g_maxDepth g_tokens a_sigType a_params a_kept a_start a_tokOp a_tokArg a_tokType a_tokScope a_end a_region a_sigRegions a_allRegions b_result b_param nf t cl dl rl sN fo en sg al) (h : ∀ j, j < 200 * (D + 1) → ev' j = ev j) (hq : q < t) (H : vr_V md fi se ck mu rg av (a_tokType q) (er ev' a_region D (2 * q)) (er ev' a_region D (2 * q + 1)) x y) : vr_V md fi se ck mu rg av (a_tokType q) (er ev a_region D (2 * q)) (er ev a_region D (2 * q + 1)) x y := by
  have ht := S.1.1
  refine vr_reg H (fun k => ?_) (fun k => ?_)
  · exact (er_tok (b := 0) S h hq (by omega) (by rw [Nat.add_zero, kz_t0 (by omega)]; exact k)).symm
  · exact (er_tok (b := 1) S h hq (by omega) (by rw [kz_t1 (by omega)]; exact k)).symm
theorem ev_N_env2 {D q md : Nat} {fi se ck ev ev' vr ac vl : Nat → Int32} {mu rg : Nat → Nat} {av : Nat → Prop} (S : rs_S f_cellLimit f_depthLimit g_maxCells g_maxDepth g_tokens a_sigType a_params a_kept a_start a_tokOp a_tokArg a_tokType a_tokScope a_end a_region a_sigRegions a_allRegions b_result b_param nf t cl dl rl sN fo en sg al) (h : ∀ j, j < 200 * (D + 1) → ev' j = ev j) (hq : q < t) (H : ev_N a_sigType a_tokOp a_tokArg a_region (fo q) (sN (fo q)) q D md fi se ck mu rg av ev vr ac vl) : ev_N a_sigType a_tokOp a_tokArg a_region (fo q) (sN (fo q)) q D md fi se ck mu rg av ev' vr ac vl := by
  have ht := S.1.1
  have hf := pc_fo S.1 hq
  have hle := sp_n_le a_sigType (fo q)
  refine ⟨fun v hv => vr_reg (H.1 v hv) (fun k => ?_) (fun k => ?_), fun j j1 j2 => ?_⟩
  · exact er_sig (s := 2 * v) S h hf (by omega) (by rw [kz_s0 (by omega)]; exact k)
  · have := er_sig (f := fo q) (s := 2 * v + 1) S h hf (by omega) (by rw [← Nat.add_assoc, kz_s1 (by omega)]; exact k)
    rw [← Nat.add_assoc] at this
    exact this
  · have lj := j2.2.1.1
    have h5 : a_tokOp j = 5 := j2.1
    have c0 := pc_c0 S.1 (show j < t by omega) (by rw [sp_A_5 h5]; omega)
    have tc : a_tokType (j + 1) = a_tokArg j := by rw [c0.2.2.2.2.2.2, h5]; rfl
    have lc := c0.2.2.2.1
    refine vr_reg (H.2 j j1 j2) (fun k => ?_) (fun k => ?_)
    · exact er_tok (b := 0) S h lc (by omega) (by rw [Nat.add_zero, kz_t0 (by omega), tc]; exact k)
    · exact er_tok (b := 1) S h lc (by omega) (by rw [kz_t1 (by omega), tc]; exact k)
/-- new cells, put together -/
theorem ev_C_tr {D f md md1 md2 : Nat} {fi1 se1 ck1 fr1 fi2 se2 ck2 fr2 ev ev1 : Nat → Int32} {mu1 rg1 mu2 rg2 : Nat → Nat} {av1 av2 : Nat → Prop} (S : rs_S f_cellLimit f_depthLimit g_maxCells g_maxDepth g_tokens a_sigType a_params a_kept a_start a_tokOp a_tokArg a_tokType a_tokScope a_end a_region a_sigRegions a_allRegions b_result b_param nf t cl dl rl sN fo en sg al) (h : ∀ j, j < 200 * (D + 1) → ev1 j = ev j) (hck : ∀ e, e < md2 → ck2 e = 1 ∨ ck2 e = 2 ∨ ck2 e = 3)
    (A1 : ev_C rl a_sigType a_tokType a_region fo t f D md ev ck1 md1 rg1 av1) (A2 : ev_C rl a_sigType a_tokType a_region fo t f D md1 ev1 ck2 md2 rg2 av2) (E : hx_E md1 fi1 se1 ck1 fr1 mu1 rg1 av1 md2 fi2 se2 ck2 fr2 mu2 rg2 av2) : ev_C rl a_sigType a_tokType a_region fo t f D md ev ck2 md2 rg2 av2 := by
  intro hr e e1 e2 ea
  rcases Nat.lt_or_ge e md1 with z | z
  · obtain ⟨x1, x2, x3, x4, x5, x6, x7⟩ := E.2 e z
    obtain ⟨q, b, q1, q2, q3, q4, q5⟩ := A1 hr e e1 z (x7.mp ea)
    exact ⟨q, b, q1, q2, q3, q4.trans x3.symm, by rw [x6]; exact q5⟩
  · obtain ⟨q, b, q1, q2, q3, q4, q5⟩ := A2 hr e z e2 ea
    refine ⟨q, b, q1, q2, q3, q4, q5.trans (er_tok S h q1 q3 (fun k0 => ?_))⟩
    rw [k0] at q4
    rcases hck e e2 with w | w | w
    · rw [w] at q4; exact absurd q4 (by decide)
    · rw [w] at q4; exact absurd q4 (by decide)
    · rw [w] at q4; exact absurd q4 (by decide)
theorem ev_C_0 {D f md : Nat} {ev ck : Nat → Int32} {rg : Nat → Nat} {av : Nat → Prop} : ev_C rl a_sigType a_tokType a_region fo t f D md ev ck md rg av := fun _ e e1 e2 => by omega
/-- behind the first child -/
def ev_m1 (f_functionLimit f_tokenLimit f_cellLimit f_depthLimit f_functions f_accepted f_placed f_openBody f_holeCount f_nextRegion f_changed g_maxFunctions g_maxTokens g_maxCells g_maxDepth g_functions g_tokens g_open g_accepted g_answer : Int32) (a_sigType a_params a_kept a_start a_finished a_tokOp a_tokArg a_tokType a_tokScope a_end a_holeType a_holeNest a_holeScope a_holeVars a_parent a_region a_sigRegions a_allRegions a_result b_result b_param b_finished : Nat → Int32) (nf t cl dl : Nat) (rl : Int32) (sN fo en sg al : Nat → Nat) (FIN : Int32 → SX → SY → Prop) (i D c tt vt x4 y4 : Nat) (OP : Nat → Prop) (f_freeCell f_peakUsed g_used : Int32) (a_cellA a_cellB a_link a_live a_frameFunction a_vars a_saved a_env a_regionFirst a_tasks a_values a_used b_first b_second b_cellKind b_freed b_fn b_born b_actual b_value b_known : Nat → Int32) (md : Nat) (mu rg : Nat → Nat) (av : Nat → Prop) (FL : List Nat) (c' x4' y4' : Nat) (f_freeCell' f_peakUsed' g_used' : Int32) (a_cellA' a_cellB' a_link' a_live' a_frameFunction' a_vars' a_saved' a_env' a_regionFirst' a_tasks' a_values' a_used' b_first' b_second' b_cellKind' b_freed' b_fn' b_born' b_actual' b_value' b_known' : Nat → Int32) (md' : Nat) (mu' rg' : Nat → Nat) (av' : Nat → Prop) (FL' : List Nat) : Prop :=
  (c ≤ c' ∧ c' ≤ 200 ∧ x4' + 193 * c ≤ x4 + 1 + 2 * (en (i + 1) - (i + 1)) + 193 * c' ∧ y4' + 97 * c ≤ y4 + (en (i + 1) - (i + 1)) + 97 * c' ∧ 2 * md' + 95 * c + 1 ≤ 2 * md + (en (i + 1) - (i + 1)) + 95 * c') ∧ a_tasks' tt = nI (2 * i + 1) ∧
  k_X D tt vt (sp_sc a_sigType a_tokOp a_tokArg (fo (i)) (sN (fo (i))) (i)) a_tasks a_values a_vars a_env a_saved a_frameFunction a_tasks' a_values' a_vars' a_env' a_saved' a_frameFunction' ∧
  k_Y D (i + 1) (en (i + 1)) b_fn b_born b_actual b_value b_known b_fn' b_born' b_actual' b_value' b_known' ∧ b_known' (D * 97 + (i + 1)) = 1 ∧ ev_H cl rl OP f_freeCell' a_cellA' a_cellB' a_link' a_live' a_regionFirst' a_used' g_used' b_first' b_second' b_cellKind' b_freed' md' mu' rg' av' FL' ∧
  hx_E md b_first b_second b_cellKind b_freed mu rg av md' b_first' b_second' b_cellKind' b_freed' mu' rg' av' ∧ vr_V md' b_first' b_second' b_cellKind' mu' rg' av' (a_tokType (i + 1)) (er a_env a_region D (2 * (i + 1))) (er a_env a_region D (2 * (i + 1) + 1)) (a_values' vt) (b_value' (D * 97 + (i + 1))) ∧
  ev_C rl a_sigType a_tokType a_region fo t (fo i) D md a_env b_cellKind' md' rg' av'
theorem ev_one (S : rs_S f_cellLimit f_depthLimit g_maxCells g_maxDepth g_tokens a_sigType a_params a_kept a_start a_tokOp a_tokArg a_tokType a_tokScope a_end a_region a_sigRegions a_allRegions b_result b_param nf t cl dl rl sN fo en sg al) (IH : EVp f_functionLimit f_tokenLimit f_cellLimit f_depthLimit f_functions f_accepted f_placed f_openBody f_holeCount f_nextRegion f_changed g_maxFunctions g_maxTokens g_maxCells g_maxDepth g_functions g_tokens g_open g_accepted g_answer a_sigType a_params a_kept a_start a_finished a_tokOp a_tokArg a_tokType a_tokScope a_end a_holeType a_holeNest a_holeScope a_holeVars a_parent a_region a_sigRegions a_allRegions a_result b_result b_param b_finished nf t cl dl rl sN fo en sg al FIN N) (pre : ev_pre f_functionLimit f_tokenLimit f_cellLimit f_depthLimit f_functions f_accepted f_placed f_openBody f_holeCount f_nextRegion f_changed g_maxFunctions g_maxTokens g_maxCells g_maxDepth g_functions g_tokens g_open g_accepted g_answer a_sigType a_params a_kept a_start a_finished a_tokOp a_tokArg a_tokType a_tokScope a_end a_holeType a_holeNest a_holeScope a_holeVars a_parent a_region a_sigRegions a_allRegions a_result b_result b_param b_finished nf t cl dl rl sN fo en sg al FIN i D c tt vt x4 y4 OP f_freeCell f_peakUsed g_used a_cellA a_cellB a_link a_live a_frameFunction a_vars a_saved a_env a_regionFirst a_tasks a_values a_used b_first b_second b_cellKind b_freed b_fn b_born b_actual b_value b_known md mu rg av FL) (hN : (200 - c) * 100 + (en i - i) ≤ N + 1) (hA : (sp_A a_sigType a_tokOp a_tokArg) i = 1 ∨ (sp_A a_sigType a_tokOp a_tokArg) i = 3 ∨ a_tokOp i = 5) (o1 : a_tokOp i ≠ 1) (o2 : a_tokOp i ≠ 2) (o7 : a_tokOp i ≠ 7)
    (K : ∀ (c' x4' y4' : Nat) (f_freeCell' f_peakUsed' g_used' : Int32) (a_cellA' a_cellB' a_link' a_live' a_frameFunction' a_vars' a_saved' a_env' a_regionFirst' a_tasks' a_values' a_used' b_first' b_second' b_cellKind' b_freed' b_fn' b_born' b_actual' b_value' b_known' : Nat → Int32) (md' : Nat) (mu' rg' : Nat → Nat) (av' : Nat → Prop) (FL' : List Nat), ev_m1 f_functionLimit f_tokenLimit f_cellLimit f_depthLimit f_functions f_accepted f_placed f_openBody f_holeCount f_nextRegion f_changed g_maxFunctions g_maxTokens g_maxCells g_maxDepth g_functions g_tokens g_open g_accepted g_answer a_sigType a_params a_kept a_start a_finished a_tokOp a_tokArg a_tokType a_tokScope a_end a_holeType a_holeNest a_holeScope a_holeVars a_parent a_region a_sigRegions a_allRegions a_result b_result b_param b_finished nf t cl dl rl sN fo en sg al FIN i D c tt vt x4 y4 OP f_freeCell f_peakUsed g_used a_cellA a_cellB a_link a_live a_frameFunction a_vars a_saved a_env a_regionFirst a_tasks a_values a_used b_first b_second b_cellKind b_freed b_fn b_born b_actual b_value b_known md mu rg av FL c' x4' y4' f_freeCell' f_peakUsed' g_used' a_cellA' a_cellB' a_link' a_live' a_frameFunction' a_vars' a_saved' a_env' a_regionFirst' a_tasks' a_values' a_used' b_first' b_second' b_cellKind' b_freed' b_fn' b_born' b_actual' b_value' b_known' md' mu' rg' av' FL' → rj FIN rl x4' (f_functionLimit, f_tokenLimit, f_cellLimit, f_depthLimit, f_functions, f_accepted, f_placed, f_openBody, f_holeCount, f_nextRegion, f_changed, f_freeCell', nI (D + 1), nI (c'), nI (tt + 1), nI (vt + 1), rl, 0, f_peakUsed', 0, a_sigType, a_params, a_kept, a_start, a_finished, a_tokOp, a_tokArg, a_tokType, a_tokScope, a_end, a_holeType, a_holeNest, a_holeScope, a_holeVars, a_parent, a_region, a_sigRegions, a_allRegions, a_cellA', a_cellB', a_link', a_live', a_frameFunction', a_vars', a_saved', a_env', a_regionFirst', a_tasks', a_values', a_used', a_result) y4' (g_maxFunctions, g_maxTokens, g_maxCells, g_maxDepth, g_functions, g_tokens, g_open, g_accepted, nI md', g_used', f_peakUsed', 0, g_answer, nI (c'), nI (D + 1), b_result, b_param, a_start, b_finished, a_tokOp, a_tokArg, a_tokType, b_first', b_second', b_cellKind', b_freed', b_fn', b_born', b_actual', b_value', b_known')) : rj FIN rl x4 (f_functionLimit, f_tokenLimit, f_cellLimit, f_depthLimit, f_functions, f_accepted, f_placed, f_openBody, f_holeCount, f_nextRegion, f_changed, f_freeCell, nI (D + 1), nI (c), nI (tt + 1), nI (vt), rl, 0, f_peakUsed, 0, a_sigType, a_params, a_kept, a_start, a_finished, a_tokOp, a_tokArg, a_tokType, a_tokScope, a_end, a_holeType, a_holeNest, a_holeScope, a_holeVars, a_parent, a_region, a_sigRegions, a_allRegions, a_cellA, a_cellB, a_link, a_live, a_frameFunction, a_vars, a_saved, a_env, a_regionFirst, a_tasks, a_values, a_used, a_result) y4 (g_maxFunctions, g_maxTokens, g_maxCells, g_maxDepth, g_functions, g_tokens, g_open, g_accepted, nI md, g_used, f_peakUsed, 0, g_answer, nI (c), nI (D + 1), b_result, b_param, a_start, b_finished, a_tokOp, a_tokArg, a_tokType, b_first, b_second, b_cellKind, b_freed, b_fn, b_born, b_actual, b_value, b_known) := by
  have ht := S.1.1
  obtain ⟨⟨p1, p2, p3, p4, p5, p6, p7, p8, p9⟩, ht0, hF, hH, hNv, hk0, hP⟩ := pre
  have dl24 := S.2.2.2.2.2.2.2.2.2.2.2.2.2.2.1
  have hA0 : 0 < (sp_A a_sigType a_tokOp a_tokArg) i := by
    rcases hA with h | h | h
    · omega
    · omega
    · rw [sp_A_5 h]; omega
  have C := pc_c0 S.1 p1 hA0
  obtain ⟨c1, c2, c3, c4, c5, c6, c7⟩ := C
  have ei := pc_end S.1 p1
  have ec := pc_end S.1 c4
  have inn := pc_in S.1 p1
  have T := pc_tok S.1 p1
  have ns10 := T.2.2.2.2.2.2.1 hA0
  have nsc : (hz_ns (sp_A a_sigType a_tokOp a_tokArg) (sN (fo (i + 1))) (i + 1)) = (hz_ns (sp_A a_sigType a_tokOp a_tokArg) (sN (fo (i))) (i)) + 1 := by rw [c5]; exact hz_ns_ch inn.1 c1
  have scc : (sp_sc a_sigType a_tokOp a_tokArg (fo (i)) (sN (fo (i))) (i)) ≤ (sp_sc a_sigType a_tokOp a_tokArg (fo (i + 1)) (sN (fo (i + 1))) (i + 1)) := by rw [c5, sp_sc_ch inn.1 c1]; omega
  refine rj_xs (by omega) (ru_advE ht0 (by omega) (by omega) (re_br1 S.1 S.2.2.1 p1 o1 o2 o7 hA (by omega))) ?_
  refine IH (i + 1) D c (tt + 1) vt (x4 + 1) y4 OP _ _ _ _ _ _ _ _ _ _ _ _ _ _ _ _ _ _ _ _ _ _ _ _ _ _ _ _ _ (by omega) ⟨⟨c4, p2, p3, p4, by omega, by omega, by omega, by omega, by omega⟩, pk_us, by rw [c5]; exact hF, hH, ?_, fun j j1 j2 => hk0 j (by omega) (by omega), ?_⟩ (fun c' x4' y4' f_freeCell' f_peakUsed' g_used' a_cellA' a_cellB' a_link' a_live' a_frameFunction' a_vars' a_saved' a_env' a_regionFirst' a_tasks' a_values' a_used' b_first' b_second' b_cellKind' b_freed' b_fn' b_born' b_actual' b_value' b_known' md' mu' rg' av' FL' post => K c' x4' y4' f_freeCell' f_peakUsed' g_used' a_cellA' a_cellB' a_link' a_live' a_frameFunction' a_vars' a_saved' a_env' a_regionFirst' a_tasks' a_values' a_used' b_first' b_second' b_cellKind' b_freed' b_fn' b_born' b_actual' b_value' b_known' md' mu' rg' av' FL' ?_)
  · rw [c5]; exact ev_N_ch hNv inn.1 c1 (fun q => by omega)
  · rw [nsc, c5]
    exact ev_P_ch hP (by omega) (sp_A_le _ _ _ _) hA0 rfl (by omega) c6 ec.1 (by omega) (hk0 i (Nat.le_refl _) ei.1) (fun j hj => by omega) (fun _ q => absurd q (by decide)) (fun _ q => absurd q (by decide)) (fun j hj => by omega)
  · obtain ⟨⟨r1, r2, r3, r4, r5⟩, r6, r7, r8, r9, r10, r11, r12⟩ := post
    refine ⟨⟨r1, r2, by omega, by omega, by omega⟩, ?_, ?_, r7, r8, r9, r10, r11, by rw [c5] at r12; exact r12⟩
    · rw [r6.1 tt (by omega), pk_un (by omega), pk_us]
    · refine k_X_tr (tt2 := tt + 1) (vt2 := vt) (sc2 := (sp_sc a_sigType a_tokOp a_tokArg (fo (i + 1)) (sN (fo (i + 1))) (i + 1))) ⟨fun j hj => ?_, fun _ _ => rfl, fun _ _ => rfl, fun _ _ => rfl, fun _ _ => rfl, fun _ _ => rfl⟩ r6 (by omega) (Nat.le_refl _) scc
      rw [pk_un (by omega), pk_un (by omega)]
end
end
section
section
variable {f_functionLimit f_tokenLimit f_cellLimit f_depthLimit f_functions f_accepted f_placed f_openBody f_holeCount f_nextRegion f_changed g_maxFunctions g_maxTokens g_maxCells g_maxDepth g_functions g_tokens g_open g_accepted g_answer : Int32} {a_sigType a_params a_kept a_start a_finished a_tokOp a_tokArg a_tokType a_tokScope a_end a_holeType a_holeNest a_holeScope a_holeVars a_parent a_region a_sigRegions a_allRegions a_result b_result b_param b_finished : Nat → Int32} {nf t cl dl : Nat} {rl : Int32} {sN fo en sg al : Nat → Nat} {FIN : Int32 → SX → SY → Prop} {f_freeCell f_peakUsed g_used : Int32} {a_cellA a_cellB a_link a_live a_frameFunction a_vars a_saved a_env a_regionFirst a_tasks a_values a_used b_first b_second b_cellKind b_freed b_fn b_born b_actual b_value b_known : Nat → Int32} {md : Nat} {mu rg : Nat → Nat} {av : Nat → Prop} {FL : List Nat} {f_freeCell' f_peakUsed' g_used' : Int32} {a_cellA' a_cellB' a_link' a_live' a_frameFunction' a_vars' a_saved' a_env' a_regionFirst' a_tasks' a_values' a_used' b_first' b_second' b_cellKind' b_freed' b_fn' b_born' b_actual' b_value' b_known' : Nat → Int32} {md' : Nat} {mu' rg' : Nat → Nat} {av' : Nat → Prop} {FL' : List Nat}
variable {i D c tt vt x4 y4 N c' x4' y4' : Nat} {OP : Nat → Prop}
/-- behind both children -/
def ev_m2 (f_functionLimit f_tokenLimit f_cellLimit f_depthLimit f_functions f_accepted f_placed f_openBody f_holeCount f_nextRegion f_changed g_maxFunctions g_maxTokens g_maxCells g_maxDepth g_functions g_tokens g_open g_accepted g_answer : Int32) (a_sigType a_params a_kept a_start a_finished a_tokOp a_tokArg a_tokType a_tokScope a_end a_holeType a_holeNest a_holeScope a_holeVars a_parent a_region a_sigRegions a_allRegions a_result b_result b_param b_finished : Nat → Int32) (nf t cl dl : Nat) (rl : Int32) (sN fo en sg al : Nat → Nat) (FIN : Int32 → SX → SY → Prop) (i D c tt vt x4 y4 : Nat) (OP : Nat → Prop) (f_freeCell f_peakUsed g_used : Int32) (a_cellA a_cellB a_link a_live a_frameFunction a_vars a_saved a_env a_regionFirst a_tasks a_values a_used b_first b_second b_cellKind b_freed b_fn b_born b_actual b_value b_known : Nat → Int32) (md : Nat) (mu rg : Nat → Nat) (av : Nat → Prop) (FL : List Nat) (c' x4' y4' : Nat) (f_freeCell' f_peakUsed' g_used' : Int32) (a_cellA' a_cellB' a_link' a_live' a_frameFunction' a_vars' a_saved' a_env' a_regionFirst' a_tasks' a_values' a_used' b_first' b_second' b_cellKind' b_freed' b_fn' b_born' b_actual' b_value' b_known' : Nat → Int32) (md' : Nat) (mu' rg' : Nat → Nat) (av' : Nat → Prop) (FL' : List Nat) : Prop :=
  (c ≤ c' ∧ c' ≤ 200 ∧ x4' + 193 * c + 1 ≤ x4 + 2 * (en i - i) + 193 * c' ∧ y4' + 97 * c + 1 ≤ y4 + (en i - i) + 97 * c' ∧ 2 * md' + 95 * c + 3 ≤ 2 * md + (en i - i) + 95 * c') ∧ a_tasks' tt = nI (2 * i + 1) ∧
  k_X D tt vt (sp_sc a_sigType a_tokOp a_tokArg (fo (i)) (sN (fo (i))) (i)) a_tasks a_values a_vars a_env a_saved a_frameFunction a_tasks' a_values' a_vars' a_env' a_saved' a_frameFunction' ∧
  k_Y D (i + 1) (en i) b_fn b_born b_actual b_value b_known b_fn' b_born' b_actual' b_value' b_known' ∧ b_known' (D * 97 + (i + 1)) = 1 ∧ b_known' (D * 97 + en (i + 1)) = 1 ∧ ev_H cl rl OP f_freeCell' a_cellA' a_cellB' a_link' a_live' a_regionFirst' a_used' g_used' b_first' b_second' b_cellKind' b_freed' md' mu' rg' av' FL' ∧
  hx_E md b_first b_second b_cellKind b_freed mu rg av md' b_first' b_second' b_cellKind' b_freed' mu' rg' av' ∧ vr_V md' b_first' b_second' b_cellKind' mu' rg' av' (a_tokType (i + 1)) (er a_env a_region D (2 * (i + 1))) (er a_env a_region D (2 * (i + 1) + 1)) (a_values' vt) (b_value' (D * 97 + (i + 1))) ∧ vr_V md' b_first' b_second' b_cellKind' mu' rg' av' (a_tokType (en (i + 1))) (er a_env a_region D (2 * en (i + 1))) (er a_env a_region D (2 * en (i + 1) + 1)) (a_values' (vt + 1)) (b_value' (D * 97 + en (i + 1))) ∧
  ev_C rl a_sigType a_tokType a_region fo t (fo i) D md a_env b_cellKind' md' rg' av'
theorem ev_two (S : rs_S f_cellLimit f_depthLimit g_maxCells g_maxDepth g_tokens a_sigType a_params a_kept a_start a_tokOp a_tokArg a_tokType a_tokScope a_end a_region a_sigRegions a_allRegions b_result b_param nf t cl dl rl sN fo en sg al) (IH : EVp f_functionLimit f_tokenLimit f_cellLimit f_depthLimit f_functions f_accepted f_placed f_openBody f_holeCount f_nextRegion f_changed g_maxFunctions g_maxTokens g_maxCells g_maxDepth g_functions g_tokens g_open g_accepted g_answer a_sigType a_params a_kept a_start a_finished a_tokOp a_tokArg a_tokType a_tokScope a_end a_holeType a_holeNest a_holeScope a_holeVars a_parent a_region a_sigRegions a_allRegions a_result b_result b_param b_finished nf t cl dl rl sN fo en sg al FIN N) (pre : ev_pre f_functionLimit f_tokenLimit f_cellLimit f_depthLimit f_functions f_accepted f_placed f_openBody f_holeCount f_nextRegion f_changed g_maxFunctions g_maxTokens g_maxCells g_maxDepth g_functions g_tokens g_open g_accepted g_answer a_sigType a_params a_kept a_start a_finished a_tokOp a_tokArg a_tokType a_tokScope a_end a_holeType a_holeNest a_holeScope a_holeVars a_parent a_region a_sigRegions a_allRegions a_result b_result b_param b_finished nf t cl dl rl sN fo en sg al FIN i D c tt vt x4 y4 OP f_freeCell f_peakUsed g_used a_cellA a_cellB a_link a_live a_frameFunction a_vars a_saved a_env a_regionFirst a_tasks a_values a_used b_first b_second b_cellKind b_freed b_fn b_born b_actual b_value b_known md mu rg av FL) (hN : (200 - c) * 100 + (en i - i) ≤ N + 1) (hA : (sp_A a_sigType a_tokOp a_tokArg) i = 2) (o5 : a_tokOp i ≠ 5) (o4 : a_tokOp i ≠ 4) (o1 : a_tokOp i ≠ 1) (o2 : a_tokOp i ≠ 2) (o7 : a_tokOp i ≠ 7)
    (K : ∀ (c' x4' y4' : Nat) (f_freeCell' f_peakUsed' g_used' : Int32) (a_cellA' a_cellB' a_link' a_live' a_frameFunction' a_vars' a_saved' a_env' a_regionFirst' a_tasks' a_values' a_used' b_first' b_second' b_cellKind' b_freed' b_fn' b_born' b_actual' b_value' b_known' : Nat → Int32) (md' : Nat) (mu' rg' : Nat → Nat) (av' : Nat → Prop) (FL' : List Nat), ev_m2 f_functionLimit f_tokenLimit f_cellLimit f_depthLimit f_functions f_accepted f_placed f_openBody f_holeCount f_nextRegion f_changed g_maxFunctions g_maxTokens g_maxCells g_maxDepth g_functions g_tokens g_open g_accepted g_answer a_sigType a_params a_kept a_start a_finished a_tokOp a_tokArg a_tokType a_tokScope a_end a_holeType a_holeNest a_holeScope a_holeVars a_parent a_region a_sigRegions a_allRegions a_result b_result b_param b_finished nf t cl dl rl sN fo en sg al FIN i D c tt vt x4 y4 OP f_freeCell f_peakUsed g_used a_cellA a_cellB a_link a_live a_frameFunction a_vars a_saved a_env a_regionFirst a_tasks a_values a_used b_first b_second b_cellKind b_freed b_fn b_born b_actual b_value b_known md mu rg av FL c' x4' y4' f_freeCell' f_peakUsed' g_used' a_cellA' a_cellB' a_link' a_live' a_frameFunction' a_vars' a_saved' a_env' a_regionFirst' a_tasks' a_values' a_used' b_first' b_second' b_cellKind' b_freed' b_fn' b_born' b_actual' b_value' b_known' md' mu' rg' av' FL' → rj FIN rl x4' (f_functionLimit, f_tokenLimit, f_cellLimit, f_depthLimit, f_functions, f_accepted, f_placed, f_openBody, f_holeCount, f_nextRegion, f_changed, f_freeCell', nI (D + 1), nI (c'), nI (tt + 1), nI (vt + 2), rl, 0, f_peakUsed', 0, a_sigType, a_params, a_kept, a_start, a_finished, a_tokOp, a_tokArg, a_tokType, a_tokScope, a_end, a_holeType, a_holeNest, a_holeScope, a_holeVars, a_parent, a_region, a_sigRegions, a_allRegions, a_cellA', a_cellB', a_link', a_live', a_frameFunction', a_vars', a_saved', a_env', a_regionFirst', a_tasks', a_values', a_used', a_result) y4' (g_maxFunctions, g_maxTokens, g_maxCells, g_maxDepth, g_functions, g_tokens, g_open, g_accepted, nI md', g_used', f_peakUsed', 0, g_answer, nI (c'), nI (D + 1), b_result, b_param, a_start, b_finished, a_tokOp, a_tokArg, a_tokType, b_first', b_second', b_cellKind', b_freed', b_fn', b_born', b_actual', b_value', b_known')) : rj FIN rl x4 (f_functionLimit, f_tokenLimit, f_cellLimit, f_depthLimit, f_functions, f_accepted, f_placed, f_openBody, f_holeCount, f_nextRegion, f_changed, f_freeCell, nI (D + 1), nI (c), nI (tt + 1), nI (vt), rl, 0, f_peakUsed, 0, a_sigType, a_params, a_kept, a_start, a_finished, a_tokOp, a_tokArg, a_tokType, a_tokScope, a_end, a_holeType, a_holeNest, a_holeScope, a_holeVars, a_parent, a_region, a_sigRegions, a_allRegions, a_cellA, a_cellB, a_link, a_live, a_frameFunction, a_vars, a_saved, a_env, a_regionFirst, a_tasks, a_values, a_used, a_result) y4 (g_maxFunctions, g_maxTokens, g_maxCells, g_maxDepth, g_functions, g_tokens, g_open, g_accepted, nI md, g_used, f_peakUsed, 0, g_answer, nI (c), nI (D + 1), b_result, b_param, a_start, b_finished, a_tokOp, a_tokArg, a_tokType, b_first, b_second, b_cellKind, b_freed, b_fn, b_born, b_actual, b_value, b_known) := by
  have ht := S.1.1
  obtain ⟨⟨p1, p2, p3, p4, p5, p6, p7, p8, p9⟩, ht0, hF, hH, hNv, hk0, hP⟩ := pre
  have dl24 := S.2.2.2.2.2.2.2.2.2.2.2.2.2.2.1
  have C := pc_c0 S.1 p1 (by omega)
  obtain ⟨c1, c2, c3, c4, c5, c6, c7⟩ := C
  have C' := pc_c1 S.1 p1 (by omega)
  obtain ⟨d1, d2, d3, d4, d5, d6, d7⟩ := C'
  have ei := pc_end S.1 p1
  have ec := pc_end S.1 c4
  have ed := pc_end S.1 d4
  have e2 := pc_e2 S.1 p1 hA
  have inn := pc_in S.1 p1
  have T := pc_tok S.1 p1
  have ns10 := T.2.2.2.2.2.2.1 (by omega)
  have nsc : (hz_ns (sp_A a_sigType a_tokOp a_tokArg) (sN (fo (i + 1))) (i + 1)) = (hz_ns (sp_A a_sigType a_tokOp a_tokArg) (sN (fo (i))) (i)) + 1 := by rw [c5]; exact hz_ns_ch inn.1 c1
  have nsd : (hz_ns (sp_A a_sigType a_tokOp a_tokArg) (sN (fo (en (i + 1)))) (en (i + 1))) = (hz_ns (sp_A a_sigType a_tokOp a_tokArg) (sN (fo (i))) (i)) + 1 := by rw [d5]; exact hz_ns_ch inn.1 d1
  have scc : (sp_sc a_sigType a_tokOp a_tokArg (fo (i)) (sN (fo (i))) (i)) ≤ (sp_sc a_sigType a_tokOp a_tokArg (fo (i + 1)) (sN (fo (i + 1))) (i + 1)) := by rw [c5, sp_sc_ch inn.1 c1]; omega
  have scd : (sp_sc a_sigType a_tokOp a_tokArg (fo (i)) (sN (fo (i))) (i)) ≤ (sp_sc a_sigType a_tokOp a_tokArg (fo (en (i + 1))) (sN (fo (en (i + 1)))) (en (i + 1))) := by rw [d5, sp_sc_ch inn.1 d1]; omega
  have al200 := (S.2.1.1 (fo i) (pc_fo S.1 p1)).2.2.2
  refine rj_xs (by omega) (ru_advE ht0 (by omega) (by omega) (re_br2 S.1 S.2.2.1 S.2.2.2.2.1 p1 o1 o2 o7 hA o5 (by omega))) ?_
  refine IH (i + 1) D c (tt + 2) vt (x4 + 1) y4 OP _ _ _ _ _ _ _ _ _ _ _ _ _ _ _ _ _ _ _ _ _ _ _ _ _ _ _ _ _ (by omega) ⟨⟨c4, p2, p3, p4, by omega, by omega, by omega, by omega, by omega⟩, pk_us, by rw [c5]; exact hF, hH, ?_, fun j j1 j2 => hk0 j (by omega) (by omega), ?_⟩ (fun cQ xQ yQ f_freeCell1 f_peakUsed1 g_used1 a_cellA1 a_cellB1 a_link1 a_live1 a_frameFunction1 a_vars1 a_saved1 a_env1 a_regionFirst1 a_tasks1 a_values1 a_used1 b_first1 b_second1 b_cellKind1 b_freed1 b_fn1 b_born1 b_actual1 b_value1 b_known1 md1 mu1 rg1 av1 FL1 post => ?_)
  · rw [c5]; exact ev_N_ch hNv inn.1 c1 (fun q => by omega)
  · rw [nsc, c5]
    exact ev_P_ch hP (by omega) (sp_A_le _ _ _ _) (k := 0) (by omega) rfl (by omega) c6 ec.1 (by omega) (hk0 i (Nat.le_refl _) ei.1) (fun j hj => by omega) (fun _ q => absurd q (by decide)) (fun _ q => absurd q (by decide)) (fun j hj => by omega)
  obtain ⟨⟨r1, r2, r3, r4, r5⟩, r6, r7, r8, r9, r10, r11, r12⟩ := post
  have t1 : a_tasks1 (tt + 1) = nI (2 * en (i + 1)) := by rw [r6.1 (tt + 1) (by omega), pk_un (by omega), pk_us]
  have t0 : a_tasks1 tt = nI (2 * i + 1) := by rw [r6.1 tt (by omega), pk_un (by omega), pk_un (by omega), pk_us]
  have kx1 : k_X D tt vt (sp_sc a_sigType a_tokOp a_tokArg (fo (i)) (sN (fo (i))) (i)) a_tasks a_values a_vars a_env a_saved a_frameFunction a_tasks1 a_values1 a_vars1 a_env1 a_saved1 a_frameFunction1 := by
    refine k_X_tr (tt2 := tt + 2) (vt2 := vt) (sc2 := (sp_sc a_sigType a_tokOp a_tokArg (fo (i + 1)) (sN (fo (i + 1))) (i + 1))) ⟨fun j hj => ?_, fun _ _ => rfl, fun _ _ => rfl, fun _ _ => rfl, fun _ _ => rfl, fun _ _ => rfl⟩ r6 (by omega) (Nat.le_refl _) scc
    rw [pk_un (by omega), pk_un (by omega), pk_un (by omega)]
  have kin : ∀ j, j < 97 → (j < i + 1 ∨ en (i + 1) ≤ j) → b_known1 (D * 97 + j) = b_known (D * 97 + j) ∧ b_value1 (D * 97 + j) = b_value (D * 97 + j) := fun j j1 j2 => ⟨(r7.2.2 _ (by omega) (by omega)).2, (r7.2.2 _ (by omega) (by omega)).1⟩
  refine IH (en (i + 1)) D cQ (tt + 1) (vt + 1) xQ yQ OP _ _ _ _ _ _ _ _ _ _ _ _ _ _ _ _ _ _ _ _ _ _ _ _ _ _ _ _ _ (by omega) ⟨⟨d4, p2, by omega, r2, by omega, by omega, by omega, by omega, by omega⟩, t1, by rw [d5]; exact ev_F_keep al200 hF kx1 r7, r9, ?_, fun j j1 j2 => by rw [(kin j (by omega) (by omega)).1]; exact hk0 j (by omega) (by omega), ?_⟩ (fun c' x4' y4' f_freeCell' f_peakUsed' g_used' a_cellA' a_cellB' a_link' a_live' a_frameFunction' a_vars' a_saved' a_env' a_regionFirst' a_tasks' a_values' a_used' b_first' b_second' b_cellKind' b_freed' b_fn' b_born' b_actual' b_value' b_known' md' mu' rg' av' FL' post => K c' x4' y4' f_freeCell' f_peakUsed' g_used' a_cellA' a_cellB' a_link' a_live' a_frameFunction' a_vars' a_saved' a_env' a_regionFirst' a_tasks' a_values' a_used' b_first' b_second' b_cellKind' b_freed' b_fn' b_born' b_actual' b_value' b_known' md' mu' rg' av' FL' ?_)
  · rw [d5]
    exact ev_N_ch (ev_N_env2 S kx1.2.2.2.1 p1 (ev_N_keep hNv kx1 r7 r10 (Nat.le_refl _) (by omega) (by omega))) inn.1 d1 (fun q => o5 q.1)
  · rw [nsd, d5]
    refine ev_P_ch (ev_P_cg hP (fun j j1 j2 => kin j j1 (by omega))) (by omega) (sp_A_le _ _ _ _) (k := 1) (by omega) rfl (by omega) d6 ed.1 (by omega) ?_ (fun j hj => ?_) (fun q => absurd q o4) (fun q => absurd q o4) (fun j hj => Or.inl ?_)
    · rw [(kin i (by omega) (by omega)).1]; exact hk0 i (Nat.le_refl _) ei.1
    · have : j = 0 := by omega
      subst this
      exact ⟨by show i < i + 1; omega, by show i + 1 < en (i + 1); omega⟩
    · have : j = 0 := by omega
      subst this
      show b_known1 (D * 97 + (i + 1)) ≠ 0
      rw [r8]; decide
  · obtain ⟨⟨s1, s2, s3, s4, s5⟩, s6, s7, s8, s9, s10, s11, s12⟩ := post
    refine ⟨⟨by omega, s2, by omega, by omega, by omega⟩, ?_, k_X_tr kx1 s6 (by omega) (by omega) scd, k_Y_tr r7 s7 (Nat.le_refl _) (by omega) (by omega) (by omega), ?_, s8, s9, hx_tr r10 s10, ?_, ?_, ?_⟩
    · rw [s6.1 tt (by omega)]; exact t0
    · rw [(s7.2.2 (D * 97 + (i + 1)) (by omega) (Or.inl (by omega))).2]; exact r8
    · rw [s6.2.1 vt (by omega), (s7.2.2 (D * 97 + (i + 1)) (by omega) (Or.inl (by omega))).1]
      exact vr_up s10 r11
    · exact vr_tok S kx1.2.2.2.1 d4 s11
    · rw [c5] at r12
      rw [d5] at s12
      exact ev_C_tr S kx1.2.2.2.1 (fun e he => (s9.1.1 e he).1) r12 s12 s10
end
end
section
section
variable {f_functionLimit f_tokenLimit f_cellLimit f_depthLimit f_functions f_accepted f_placed f_openBody f_holeCount f_nextRegion f_changed g_maxFunctions g_maxTokens g_maxCells g_maxDepth g_functions g_tokens g_open g_accepted g_answer : Int32} {a_sigType a_params a_kept a_start a_finished a_tokOp a_tokArg a_tokType a_tokScope a_end a_holeType a_holeNest a_holeScope a_holeVars a_parent a_region a_sigRegions a_allRegions a_result b_result b_param b_finished : Nat → Int32} {nf t cl dl : Nat} {rl : Int32} {sN fo en sg al : Nat → Nat} {FIN : Int32 → SX → SY → Prop} {f_freeCell f_peakUsed g_used : Int32} {a_cellA a_cellB a_link a_live a_frameFunction a_vars a_saved a_env a_regionFirst a_tasks a_values a_used b_first b_second b_cellKind b_freed b_fn b_born b_actual b_value b_known : Nat → Int32} {md : Nat} {mu rg : Nat → Nat} {av : Nat → Prop} {FL : List Nat} {f_freeCell1 f_peakUsed1 g_used1 : Int32} {a_cellA1 a_cellB1 a_link1 a_live1 a_frameFunction1 a_vars1 a_saved1 a_env1 a_regionFirst1 a_tasks1 a_values1 a_used1 b_first1 b_second1 b_cellKind1 b_freed1 b_fn1 b_born1 b_actual1 b_value1 b_known1 : Nat → Int32} {md1 : Nat} {mu1 rg1 : Nat → Nat} {av1 : Nat → Prop} {FL1 : List Nat}
variable {i D c tt vt x4 y4 N cQ xQ yQ vm : Nat} {OP : Nat → Prop} {x y : Int32}
/-- where Y's search stops at i -/
theorem ev_at (S : rs_S f_cellLimit f_depthLimit g_maxCells g_maxDepth g_tokens a_sigType a_params a_kept a_start a_tokOp a_tokArg a_tokType a_tokScope a_end a_region a_sigRegions a_allRegions b_result b_param nf t cl dl rl sN fo en sg al) (pre : ev_pre f_functionLimit f_tokenLimit f_cellLimit f_depthLimit f_functions f_accepted f_placed f_openBody f_holeCount f_nextRegion f_changed g_maxFunctions g_maxTokens g_maxCells g_maxDepth g_functions g_tokens g_open g_accepted g_answer a_sigType a_params a_kept a_start a_finished a_tokOp a_tokArg a_tokType a_tokScope a_end a_holeType a_holeNest a_holeScope a_holeVars a_parent a_region a_sigRegions a_allRegions a_result b_result b_param b_finished nf t cl dl rl sN fo en sg al FIN i D c tt vt x4 y4 OP f_freeCell f_peakUsed g_used a_cellA a_cellB a_link a_live a_frameFunction a_vars a_saved a_env a_regionFirst a_tasks a_values a_used b_first b_second b_cellKind b_freed b_fn b_born b_actual b_value b_known md mu rg av FL) (ky : k_Y D (i + 1) (en i) b_fn b_born b_actual b_value b_known b_fn1 b_born1 b_actual1 b_value1 b_known1) (hst : nx_st (sp_A a_sigType a_tokOp a_tokArg) a_tokOp en b_known1 b_value1 (D * 97) i = none) :
    b_known1 (D * 97 + sN (fo i)) = 0 ∧ nx (sp_A a_sigType a_tokOp a_tokArg) a_tokOp en b_known1 b_value1 (D * 97) 10 (sN (fo i)) = i ∧ b_fn1 D = nI (fo i) ∧ b_known1 (D * 97 + i) = 0 := by
  have ht := S.1.1
  obtain ⟨⟨p1, p2, p3, p4, p5, p6, p7, p8, p9⟩, ht0, hF, hH, hNv, hk0, hP⟩ := pre
  have ei := pc_end S.1 p1
  have k0 : b_known1 (D * 97 + i) = 0 := by rw [(ky.2.2 (D * 97 + i) (by omega) (Or.inl (by omega))).2]; exact hk0 i (Nat.le_refl _) ei.1
  obtain ⟨a, b⟩ := ev_nx (kn := b_known1) (vl := b_value1) hP (pc_tok S.1 p1).2.2.2.2.2.1 (fun j j1 j2 => ⟨(ky.2.2 _ (by omega) (by omega)).2, (ky.2.2 _ (by omega) (by omega)).1⟩) k0 hst
  exact ⟨a, b, by rw [(ky.1 D (by omega)).1]; exact hF.2.1, k0⟩
/-- a token whose value is made of its children's, the heap as it is -/
theorem ev_fin (S : rs_S f_cellLimit f_depthLimit g_maxCells g_maxDepth g_tokens a_sigType a_params a_kept a_start a_tokOp a_tokArg a_tokType a_tokScope a_end a_region a_sigRegions a_allRegions b_result b_param nf t cl dl rl sN fo en sg al) (pre : ev_pre f_functionLimit f_tokenLimit f_cellLimit f_depthLimit f_functions f_accepted f_placed f_openBody f_holeCount f_nextRegion f_changed g_maxFunctions g_maxTokens g_maxCells g_maxDepth g_functions g_tokens g_open g_accepted g_answer a_sigType a_params a_kept a_start a_finished a_tokOp a_tokArg a_tokType a_tokScope a_end a_holeType a_holeNest a_holeScope a_holeVars a_parent a_region a_sigRegions a_allRegions a_result b_result b_param b_finished nf t cl dl rl sN fo en sg al FIN i D c tt vt x4 y4 OP f_freeCell f_peakUsed g_used a_cellA a_cellB a_link a_live a_frameFunction a_vars a_saved a_env a_regionFirst a_tasks a_values a_used b_first b_second b_cellKind b_freed b_fn b_born b_actual b_value b_known md mu rg av FL) (hm : c ≤ cQ ∧ cQ ≤ 200 ∧ xQ + 193 * c + 1 ≤ x4 + 2 * (en i - i) + 193 * cQ ∧ yQ + 97 * c + 1 ≤ y4 + (en i - i) + 97 * cQ ∧ 2 * md1 + 95 * c + 1 ≤ 2 * md + (en i - i) + 95 * cQ) (kx : k_X D tt vt (sp_sc a_sigType a_tokOp a_tokArg (fo (i)) (sN (fo (i))) (i)) a_tasks a_values a_vars a_env a_saved a_frameFunction a_tasks1 a_values1 a_vars1 a_env1 a_saved1 a_frameFunction1) (ky : k_Y D (i + 1) (en i) b_fn b_born b_actual b_value b_known b_fn1 b_born1 b_actual1 b_value1 b_known1) (hh : ev_H cl rl OP f_freeCell1 a_cellA1 a_cellB1 a_link1 a_live1 a_regionFirst1 a_used1 g_used1 b_first1 b_second1 b_cellKind1 b_freed1 md1 mu1 rg1 av1 FL1) (hx : hx_E md b_first b_second b_cellKind b_freed mu rg av md1 b_first1 b_second1 b_cellKind1 b_freed1 mu1 rg1 av1) (hC : ev_C rl a_sigType a_tokType a_region fo t (fo i) D md a_env b_cellKind1 md1 rg1 av1) (hst : nx_st (sp_A a_sigType a_tokOp a_tokArg) a_tokOp en b_known1 b_value1 (D * 97) i = none)
    (hX : ru_A (f_functionLimit, f_tokenLimit, f_cellLimit, f_depthLimit, f_functions, f_accepted, f_placed, f_openBody, f_holeCount, f_nextRegion, f_changed, f_freeCell1, nI (D + 1), nI (cQ), nI (tt + 1), nI (vm), rl, 0, f_peakUsed1, 0, a_sigType, a_params, a_kept, a_start, a_finished, a_tokOp, a_tokArg, a_tokType, a_tokScope, a_end, a_holeType, a_holeNest, a_holeScope, a_holeVars, a_parent, a_region, a_sigRegions, a_allRegions, a_cellA1, a_cellB1, a_link1, a_live1, a_frameFunction1, a_vars1, a_saved1, a_env1, a_regionFirst1, a_tasks1, a_values1, a_used1, a_result) (f_functionLimit, f_tokenLimit, f_cellLimit, f_depthLimit, f_functions, f_accepted, f_placed, f_openBody, f_holeCount, f_nextRegion, f_changed, f_freeCell1, nI (D + 1), nI cQ, nI tt, nI (vt + 1), rl, 0, f_peakUsed1, 0, a_sigType, a_params, a_kept, a_start, a_finished, a_tokOp, a_tokArg, a_tokType, a_tokScope, a_end, a_holeType, a_holeNest, a_holeScope, a_holeVars, a_parent, a_region, a_sigRegions, a_allRegions, a_cellA1, a_cellB1, a_link1, a_live1, a_frameFunction1, a_vars1, a_saved1, a_env1, a_regionFirst1, a_tasks1, upd a_values1 vt x, a_used1, a_result))
    (hY : nx (sp_A a_sigType a_tokOp a_tokArg) a_tokOp en b_known1 b_value1 (D * 97) 10 (sN (fo i)) = i → b_fn1 D = nI (fo i) → yw_E (g_maxFunctions, g_maxTokens, g_maxCells, g_maxDepth, g_functions, g_tokens, g_open, g_accepted, nI md1, g_used1, f_peakUsed1, 0, g_answer, nI (cQ), nI (D + 1), b_result, b_param, a_start, b_finished, a_tokOp, a_tokArg, a_tokType, b_first1, b_second1, b_cellKind1, b_freed1, b_fn1, b_born1, b_actual1, b_value1, b_known1) (g_maxFunctions, g_maxTokens, g_maxCells, g_maxDepth, g_functions, g_tokens, g_open, g_accepted, nI md1, g_used1, f_peakUsed1, 0, g_answer, nI cQ, nI (D + 1), b_result, b_param, a_start, b_finished, a_tokOp, a_tokArg, a_tokType, b_first1, b_second1, b_cellKind1, b_freed1, b_fn1, b_born1, b_actual1, upd b_value1 (D * 97 + i) y, upd b_known1 (D * 97 + i) 1))
    (hV : vr_V md1 b_first1 b_second1 b_cellKind1 mu1 rg1 av1 (a_tokType i) (er a_env a_region D (2 * i)) (er a_env a_region D (2 * i + 1)) (x) (y)) (K : ∀ (c' x4' y4' : Nat) (f_freeCell' f_peakUsed' g_used' : Int32) (a_cellA' a_cellB' a_link' a_live' a_frameFunction' a_vars' a_saved' a_env' a_regionFirst' a_tasks' a_values' a_used' b_first' b_second' b_cellKind' b_freed' b_fn' b_born' b_actual' b_value' b_known' : Nat → Int32) (md' : Nat) (mu' rg' : Nat → Nat) (av' : Nat → Prop) (FL' : List Nat), ev_post f_functionLimit f_tokenLimit f_cellLimit f_depthLimit f_functions f_accepted f_placed f_openBody f_holeCount f_nextRegion f_changed g_maxFunctions g_maxTokens g_maxCells g_maxDepth g_functions g_tokens g_open g_accepted g_answer a_sigType a_params a_kept a_start a_finished a_tokOp a_tokArg a_tokType a_tokScope a_end a_holeType a_holeNest a_holeScope a_holeVars a_parent a_region a_sigRegions a_allRegions a_result b_result b_param b_finished nf t cl dl rl sN fo en sg al FIN i D c tt vt x4 y4 OP f_freeCell f_peakUsed g_used a_cellA a_cellB a_link a_live a_frameFunction a_vars a_saved a_env a_regionFirst a_tasks a_values a_used b_first b_second b_cellKind b_freed b_fn b_born b_actual b_value b_known md mu rg av FL c' x4' y4' f_freeCell' f_peakUsed' g_used' a_cellA' a_cellB' a_link' a_live' a_frameFunction' a_vars' a_saved' a_env' a_regionFirst' a_tasks' a_values' a_used' b_first' b_second' b_cellKind' b_freed' b_fn' b_born' b_actual' b_value' b_known' md' mu' rg' av' FL' → rj FIN rl x4' (f_functionLimit, f_tokenLimit, f_cellLimit, f_depthLimit, f_functions, f_accepted, f_placed, f_openBody, f_holeCount, f_nextRegion, f_changed, f_freeCell', nI (D + 1), nI (c'), nI (tt), nI (vt + 1), rl, 0, f_peakUsed', 0, a_sigType, a_params, a_kept, a_start, a_finished, a_tokOp, a_tokArg, a_tokType, a_tokScope, a_end, a_holeType, a_holeNest, a_holeScope, a_holeVars, a_parent, a_region, a_sigRegions, a_allRegions, a_cellA', a_cellB', a_link', a_live', a_frameFunction', a_vars', a_saved', a_env', a_regionFirst', a_tasks', a_values', a_used', a_result) y4' (g_maxFunctions, g_maxTokens, g_maxCells, g_maxDepth, g_functions, g_tokens, g_open, g_accepted, nI md', g_used', f_peakUsed', 0, g_answer, nI (c'), nI (D + 1), b_result, b_param, a_start, b_finished, a_tokOp, a_tokArg, a_tokType, b_first', b_second', b_cellKind', b_freed', b_fn', b_born', b_actual', b_value', b_known')) : rj FIN rl xQ (f_functionLimit, f_tokenLimit, f_cellLimit, f_depthLimit, f_functions, f_accepted, f_placed, f_openBody, f_holeCount, f_nextRegion, f_changed, f_freeCell1, nI (D + 1), nI (cQ), nI (tt + 1), nI (vm), rl, 0, f_peakUsed1, 0, a_sigType, a_params, a_kept, a_start, a_finished, a_tokOp, a_tokArg, a_tokType, a_tokScope, a_end, a_holeType, a_holeNest, a_holeScope, a_holeVars, a_parent, a_region, a_sigRegions, a_allRegions, a_cellA1, a_cellB1, a_link1, a_live1, a_frameFunction1, a_vars1, a_saved1, a_env1, a_regionFirst1, a_tasks1, a_values1, a_used1, a_result) yQ (g_maxFunctions, g_maxTokens, g_maxCells, g_maxDepth, g_functions, g_tokens, g_open, g_accepted, nI md1, g_used1, f_peakUsed1, 0, g_answer, nI (cQ), nI (D + 1), b_result, b_param, a_start, b_finished, a_tokOp, a_tokArg, a_tokType, b_first1, b_second1, b_cellKind1, b_freed1, b_fn1, b_born1, b_actual1, b_value1, b_known1) := by
  have ht := S.1.1
  have hn := S.1.2.1
  obtain ⟨a1, a2, a3, a4⟩ := ev_at S pre ky hst
  obtain ⟨⟨p1, p2, p3, p4, p5, p6, p7, p8, p9⟩, ht0, hF, hH, hNv, hk0, hP⟩ := pre
  have dl24 := S.2.2.2.2.2.2.2.2.2.2.2.2.2.2.1
  have ei := pc_end S.1 p1
  have hf := pc_fo S.1 p1
  have hsN := pc_sN S.1 hf
  refine rj_xs (by omega) hX (rj_ye (by omega) (by omega) (show fo i < 8 by omega) (show sN (fo i) < 97 by omega) a3 (S.2.2.2.2.2.1 _ hf) a1 (hY a2 a3) ?_)
  refine K cQ (xQ + 1) (yQ + 1) _ _ _ _ _ _ _ _ _ _ _ _ _ _ _ _ _ _ _ _ _ _ _ _ md1 mu1 rg1 av1 FL1 ⟨⟨hm.1, hm.2.1, by omega, by omega, hm.2.2.2.2⟩, ?_, ?_, pk_us, hh, hx, ?_, hC⟩
  · exact k_X_tr (tt2 := tt) (vt2 := vt) (sc2 := (sp_sc a_sigType a_tokOp a_tokArg (fo (i)) (sN (fo (i))) (i))) kx ⟨fun _ _ => rfl, fun j hj => pk_un (by omega), fun _ _ => rfl, fun _ _ => rfl, fun _ _ => rfl, fun _ _ => rfl⟩ (Nat.le_refl _) (Nat.le_refl _) (Nat.le_refl _)
  · refine k_Y_tr (a3 := i) (b3 := en i) ky (a2 := i) (b2 := en i) ⟨fun _ _ => ⟨rfl, rfl⟩, fun _ _ => rfl, fun j j1 j2 => ⟨pk_un (by omega), pk_un (by omega)⟩⟩ (by omega) (Nat.le_refl _) (Nat.le_refl _) (Nat.le_refl _)
  · rw [pk_us, pk_us]; exact hV
end
section
variable {f_functionLimit f_tokenLimit f_cellLimit f_depthLimit f_functions f_accepted f_placed f_openBody f_holeCount f_nextRegion f_changed g_maxFunctions g_maxTokens g_maxCells g_maxDepth g_functions g_tokens g_open g_accepted g_answer : Int32} {a_sigType a_params a_kept a_start a_finished a_tokOp a_tokArg a_tokType a_tokScope a_end a_holeType a_holeNest a_holeScope a_holeVars a_parent a_region a_sigRegions a_allRegions a_result b_result b_param b_finished : Nat → Int32} {nf t cl dl : Nat} {rl : Int32} {sN fo en sg al : Nat → Nat} {FIN : Int32 → SX → SY → Prop} {f_freeCell f_peakUsed g_used : Int32} {a_cellA a_cellB a_link a_live a_frameFunction a_vars a_saved a_env a_regionFirst a_tasks a_values a_used b_first b_second b_cellKind b_freed b_fn b_born b_actual b_value b_known : Nat → Int32} {md : Nat} {mu rg : Nat → Nat} {av : Nat → Prop} {FL : List Nat}
variable {i D c tt vt x4 y4 : Nat} {OP : Nat → Prop} {x y : Int32}
theorem ev_const (S : rs_S f_cellLimit f_depthLimit g_maxCells g_maxDepth g_tokens a_sigType a_params a_kept a_start a_tokOp a_tokArg a_tokType a_tokScope a_end a_region a_sigRegions a_allRegions b_result b_param nf t cl dl rl sN fo en sg al) (pre : ev_pre f_functionLimit f_tokenLimit f_cellLimit f_depthLimit f_functions f_accepted f_placed f_openBody f_holeCount f_nextRegion f_changed g_maxFunctions g_maxTokens g_maxCells g_maxDepth g_functions g_tokens g_open g_accepted g_answer a_sigType a_params a_kept a_start a_finished a_tokOp a_tokArg a_tokType a_tokScope a_end a_holeType a_holeNest a_holeScope a_holeVars a_parent a_region a_sigRegions a_allRegions a_result b_result b_param b_finished nf t cl dl rl sN fo en sg al FIN i D c tt vt x4 y4 OP f_freeCell f_peakUsed g_used a_cellA a_cellB a_link a_live a_frameFunction a_vars a_saved a_env a_regionFirst a_tasks a_values a_used b_first b_second b_cellKind b_freed b_fn b_born b_actual b_value b_known md mu rg av FL) (h : a_tokOp i = 1) (K : ∀ (c' x4' y4' : Nat) (f_freeCell' f_peakUsed' g_used' : Int32) (a_cellA' a_cellB' a_link' a_live' a_frameFunction' a_vars' a_saved' a_env' a_regionFirst' a_tasks' a_values' a_used' b_first' b_second' b_cellKind' b_freed' b_fn' b_born' b_actual' b_value' b_known' : Nat → Int32) (md' : Nat) (mu' rg' : Nat → Nat) (av' : Nat → Prop) (FL' : List Nat), ev_post f_functionLimit f_tokenLimit f_cellLimit f_depthLimit f_functions f_accepted f_placed f_openBody f_holeCount f_nextRegion f_changed g_maxFunctions g_maxTokens g_maxCells g_maxDepth g_functions g_tokens g_open g_accepted g_answer a_sigType a_params a_kept a_start a_finished a_tokOp a_tokArg a_tokType a_tokScope a_end a_holeType a_holeNest a_holeScope a_holeVars a_parent a_region a_sigRegions a_allRegions a_result b_result b_param b_finished nf t cl dl rl sN fo en sg al FIN i D c tt vt x4 y4 OP f_freeCell f_peakUsed g_used a_cellA a_cellB a_link a_live a_frameFunction a_vars a_saved a_env a_regionFirst a_tasks a_values a_used b_first b_second b_cellKind b_freed b_fn b_born b_actual b_value b_known md mu rg av FL c' x4' y4' f_freeCell' f_peakUsed' g_used' a_cellA' a_cellB' a_link' a_live' a_frameFunction' a_vars' a_saved' a_env' a_regionFirst' a_tasks' a_values' a_used' b_first' b_second' b_cellKind' b_freed' b_fn' b_born' b_actual' b_value' b_known' md' mu' rg' av' FL' → rj FIN rl x4' (f_functionLimit, f_tokenLimit, f_cellLimit, f_depthLimit, f_functions, f_accepted, f_placed, f_openBody, f_holeCount, f_nextRegion, f_changed, f_freeCell', nI (D + 1), nI (c'), nI (tt), nI (vt + 1), rl, 0, f_peakUsed', 0, a_sigType, a_params, a_kept, a_start, a_finished, a_tokOp, a_tokArg, a_tokType, a_tokScope, a_end, a_holeType, a_holeNest, a_holeScope, a_holeVars, a_parent, a_region, a_sigRegions, a_allRegions, a_cellA', a_cellB', a_link', a_live', a_frameFunction', a_vars', a_saved', a_env', a_regionFirst', a_tasks', a_values', a_used', a_result) y4' (g_maxFunctions, g_maxTokens, g_maxCells, g_maxDepth, g_functions, g_tokens, g_open, g_accepted, nI md', g_used', f_peakUsed', 0, g_answer, nI (c'), nI (D + 1), b_result, b_param, a_start, b_finished, a_tokOp, a_tokArg, a_tokType, b_first', b_second', b_cellKind', b_freed', b_fn', b_born', b_actual', b_value', b_known')) : rj FIN rl x4 (f_functionLimit, f_tokenLimit, f_cellLimit, f_depthLimit, f_functions, f_accepted, f_placed, f_openBody, f_holeCount, f_nextRegion, f_changed, f_freeCell, nI (D + 1), nI (c), nI (tt + 1), nI (vt), rl, 0, f_peakUsed, 0, a_sigType, a_params, a_kept, a_start, a_finished, a_tokOp, a_tokArg, a_tokType, a_tokScope, a_end, a_holeType, a_holeNest, a_holeScope, a_holeVars, a_parent, a_region, a_sigRegions, a_allRegions, a_cellA, a_cellB, a_link, a_live, a_frameFunction, a_vars, a_saved, a_env, a_regionFirst, a_tasks, a_values, a_used, a_result) y4 (g_maxFunctions, g_maxTokens, g_maxCells, g_maxDepth, g_functions, g_tokens, g_open, g_accepted, nI md, g_used, f_peakUsed, 0, g_answer, nI (c), nI (D + 1), b_result, b_param, a_start, b_finished, a_tokOp, a_tokArg, a_tokType, b_first, b_second, b_cellKind, b_freed, b_fn, b_born, b_actual, b_value, b_known) := by
  have ht := S.1.1
  have pre' := pre
  obtain ⟨⟨p1, p2, p3, p4, p5, p6, p7, p8, p9⟩, ht0, hF, hH, hNv, hk0, hP⟩ := pre
  have dl24 := S.2.2.2.2.2.2.2.2.2.2.2.2.2.2.1
  have ns10 := (pc_tok S.1 p1).2.2.2.2.2.1
  have hA : (sp_A a_sigType a_tokOp a_tokArg) i = 0 := by unfold sp_A sp_ar; rw [h]; rfl
  have e0 := pc_e0 S.1 p1 hA
  have hf := pc_fo S.1 p1
  have hty : a_tokType i = 0 := by
    have K := pc_opk S.1 p1
    unfold sp_opk at K
    rw [h] at K
    rcases K with ⟨-, z⟩ | ⟨z, -⟩ | ⟨z, -⟩ | z | ⟨z, -⟩ | ⟨z, -⟩ | ⟨z, -⟩ | ⟨z, -⟩ | ⟨z, -⟩ | ⟨z, -⟩ | ⟨z, -⟩ | ⟨z, -⟩ | ⟨z, -⟩
    case inl => exact z
    all_goals exact absurd z (by decide)
  refine ev_fin (vm := vt) (x := a_tokArg i) (y := a_tokArg i) S pre' ⟨Nat.le_refl _, p4, by omega, by omega, by omega⟩ k_X_rf k_Y_rf hH hx_rf ev_C_0 (nx_st_none (fun j hj => by omega)) (ru_advE ht0 (by omega) (by omega) (re_const (by omega) h (by omega))) (fun q1 q2 => ye_const S.2.2.2.2.2.2.1 S.1 S.2.2.2.2.2.2.2.2.2.2.2.2.2.2.2.1 S.2.2.2.2.2.1 (by omega) hf q2 p1 q1 h) (by rw [hty]; exact vr_int) K
theorem ev_nil (S : rs_S f_cellLimit f_depthLimit g_maxCells g_maxDepth g_tokens a_sigType a_params a_kept a_start a_tokOp a_tokArg a_tokType a_tokScope a_end a_region a_sigRegions a_allRegions b_result b_param nf t cl dl rl sN fo en sg al) (pre : ev_pre f_functionLimit f_tokenLimit f_cellLimit f_depthLimit f_functions f_accepted f_placed f_openBody f_holeCount f_nextRegion f_changed g_maxFunctions g_maxTokens g_maxCells g_maxDepth g_functions g_tokens g_open g_accepted g_answer a_sigType a_params a_kept a_start a_finished a_tokOp a_tokArg a_tokType a_tokScope a_end a_holeType a_holeNest a_holeScope a_holeVars a_parent a_region a_sigRegions a_allRegions a_result b_result b_param b_finished nf t cl dl rl sN fo en sg al FIN i D c tt vt x4 y4 OP f_freeCell f_peakUsed g_used a_cellA a_cellB a_link a_live a_frameFunction a_vars a_saved a_env a_regionFirst a_tasks a_values a_used b_first b_second b_cellKind b_freed b_fn b_born b_actual b_value b_known md mu rg av FL) (h : a_tokOp i = 7) (K : ∀ (c' x4' y4' : Nat) (f_freeCell' f_peakUsed' g_used' : Int32) (a_cellA' a_cellB' a_link' a_live' a_frameFunction' a_vars' a_saved' a_env' a_regionFirst' a_tasks' a_values' a_used' b_first' b_second' b_cellKind' b_freed' b_fn' b_born' b_actual' b_value' b_known' : Nat → Int32) (md' : Nat) (mu' rg' : Nat → Nat) (av' : Nat → Prop) (FL' : List Nat), ev_post f_functionLimit f_tokenLimit f_cellLimit f_depthLimit f_functions f_accepted f_placed f_openBody f_holeCount f_nextRegion f_changed g_maxFunctions g_maxTokens g_maxCells g_maxDepth g_functions g_tokens g_open g_accepted g_answer a_sigType a_params a_kept a_start a_finished a_tokOp a_tokArg a_tokType a_tokScope a_end a_holeType a_holeNest a_holeScope a_holeVars a_parent a_region a_sigRegions a_allRegions a_result b_result b_param b_finished nf t cl dl rl sN fo en sg al FIN i D c tt vt x4 y4 OP f_freeCell f_peakUsed g_used a_cellA a_cellB a_link a_live a_frameFunction a_vars a_saved a_env a_regionFirst a_tasks a_values a_used b_first b_second b_cellKind b_freed b_fn b_born b_actual b_value b_known md mu rg av FL c' x4' y4' f_freeCell' f_peakUsed' g_used' a_cellA' a_cellB' a_link' a_live' a_frameFunction' a_vars' a_saved' a_env' a_regionFirst' a_tasks' a_values' a_used' b_first' b_second' b_cellKind' b_freed' b_fn' b_born' b_actual' b_value' b_known' md' mu' rg' av' FL' → rj FIN rl x4' (f_functionLimit, f_tokenLimit, f_cellLimit, f_depthLimit, f_functions, f_accepted, f_placed, f_openBody, f_holeCount, f_nextRegion, f_changed, f_freeCell', nI (D + 1), nI (c'), nI (tt), nI (vt + 1), rl, 0, f_peakUsed', 0, a_sigType, a_params, a_kept, a_start, a_finished, a_tokOp, a_tokArg, a_tokType, a_tokScope, a_end, a_holeType, a_holeNest, a_holeScope, a_holeVars, a_parent, a_region, a_sigRegions, a_allRegions, a_cellA', a_cellB', a_link', a_live', a_frameFunction', a_vars', a_saved', a_env', a_regionFirst', a_tasks', a_values', a_used', a_result) y4' (g_maxFunctions, g_maxTokens, g_maxCells, g_maxDepth, g_functions, g_tokens, g_open, g_accepted, nI md', g_used', f_peakUsed', 0, g_answer, nI (c'), nI (D + 1), b_result, b_param, a_start, b_finished, a_tokOp, a_tokArg, a_tokType, b_first', b_second', b_cellKind', b_freed', b_fn', b_born', b_actual', b_value', b_known')) : rj FIN rl x4 (f_functionLimit, f_tokenLimit, f_cellLimit, f_depthLimit, f_functions, f_accepted, f_placed, f_openBody, f_holeCount, f_nextRegion, f_changed, f_freeCell, nI (D + 1), nI (c), nI (tt + 1), nI (vt), rl, 0, f_peakUsed, 0, a_sigType, a_params, a_kept, a_start, a_finished, a_tokOp, a_tokArg, a_tokType, a_tokScope, a_end, a_holeType, a_holeNest, a_holeScope, a_holeVars, a_parent, a_region, a_sigRegions, a_allRegions, a_cellA, a_cellB, a_link, a_live, a_frameFunction, a_vars, a_saved, a_env, a_regionFirst, a_tasks, a_values, a_used, a_result) y4 (g_maxFunctions, g_maxTokens, g_maxCells, g_maxDepth, g_functions, g_tokens, g_open, g_accepted, nI md, g_used, f_peakUsed, 0, g_answer, nI (c), nI (D + 1), b_result, b_param, a_start, b_finished, a_tokOp, a_tokArg, a_tokType, b_first, b_second, b_cellKind, b_freed, b_fn, b_born, b_actual, b_value, b_known) := by
  have ht := S.1.1
  have pre' := pre
  obtain ⟨⟨p1, p2, p3, p4, p5, p6, p7, p8, p9⟩, ht0, hF, hH, hNv, hk0, hP⟩ := pre
  have dl24 := S.2.2.2.2.2.2.2.2.2.2.2.2.2.2.1
  have ns10 := (pc_tok S.1 p1).2.2.2.2.2.1
  have hA : (sp_A a_sigType a_tokOp a_tokArg) i = 0 := by unfold sp_A sp_ar; rw [h]; rfl
  have e0 := pc_e0 S.1 p1 hA
  have hf := pc_fo S.1 p1
  have hty : a_tokType i = 2 ∨ a_tokType i = 3 := by
    have K := pc_opk S.1 p1
    unfold sp_opk at K
    rw [h] at K
    rcases K with ⟨z, -⟩ | ⟨z, -⟩ | ⟨z, -⟩ | z | ⟨z, -⟩ | ⟨z, -⟩ | ⟨-, z⟩ | ⟨z, -⟩ | ⟨z, -⟩ | ⟨z, -⟩ | ⟨z, -⟩ | ⟨z, -⟩ | ⟨z, -⟩
    case inr.inr.inr.inr.inr.inr.inl => exact z
    all_goals exact absurd z (by decide)
  refine ev_fin (vm := vt) (x := -1) (y := -1) S pre' ⟨Nat.le_refl _, p4, by omega, by omega, by omega⟩ k_X_rf k_Y_rf hH hx_rf ev_C_0 (nx_st_none (fun j hj => by omega)) (ru_advE ht0 (by omega) (by omega) (re_nil (by omega) h (by omega))) (fun q1 q2 => ye_nil S.2.2.2.2.2.2.1 S.1 S.2.2.2.2.2.2.2.2.2.2.2.2.2.2.2.1 S.2.2.2.2.2.1 (by omega) hf q2 p1 q1 h) (vr_nil hty) K
theorem ev_var (S : rs_S f_cellLimit f_depthLimit g_maxCells g_maxDepth g_tokens a_sigType a_params a_kept a_start a_tokOp a_tokArg a_tokType a_tokScope a_end a_region a_sigRegions a_allRegions b_result b_param nf t cl dl rl sN fo en sg al) (pre : ev_pre f_functionLimit f_tokenLimit f_cellLimit f_depthLimit f_functions f_accepted f_placed f_openBody f_holeCount f_nextRegion f_changed g_maxFunctions g_maxTokens g_maxCells g_maxDepth g_functions g_tokens g_open g_accepted g_answer a_sigType a_params a_kept a_start a_finished a_tokOp a_tokArg a_tokType a_tokScope a_end a_holeType a_holeNest a_holeScope a_holeVars a_parent a_region a_sigRegions a_allRegions a_result b_result b_param b_finished nf t cl dl rl sN fo en sg al FIN i D c tt vt x4 y4 OP f_freeCell f_peakUsed g_used a_cellA a_cellB a_link a_live a_frameFunction a_vars a_saved a_env a_regionFirst a_tasks a_values a_used b_first b_second b_cellKind b_freed b_fn b_born b_actual b_value b_known md mu rg av FL) (h : a_tokOp i = 2) (K : ∀ (c' x4' y4' : Nat) (f_freeCell' f_peakUsed' g_used' : Int32) (a_cellA' a_cellB' a_link' a_live' a_frameFunction' a_vars' a_saved' a_env' a_regionFirst' a_tasks' a_values' a_used' b_first' b_second' b_cellKind' b_freed' b_fn' b_born' b_actual' b_value' b_known' : Nat → Int32) (md' : Nat) (mu' rg' : Nat → Nat) (av' : Nat → Prop) (FL' : List Nat), ev_post f_functionLimit f_tokenLimit f_cellLimit f_depthLimit f_functions f_accepted f_placed f_openBody f_holeCount f_nextRegion f_changed g_maxFunctions g_maxTokens g_maxCells g_maxDepth g_functions g_tokens g_open g_accepted g_answer a_sigType a_params a_kept a_start a_finished a_tokOp a_tokArg a_tokType a_tokScope a_end a_holeType a_holeNest a_holeScope a_holeVars a_parent a_region a_sigRegions a_allRegions a_result b_result b_param b_finished nf t cl dl rl sN fo en sg al FIN i D c tt vt x4 y4 OP f_freeCell f_peakUsed g_used a_cellA a_cellB a_link a_live a_frameFunction a_vars a_saved a_env a_regionFirst a_tasks a_values a_used b_first b_second b_cellKind b_freed b_fn b_born b_actual b_value b_known md mu rg av FL c' x4' y4' f_freeCell' f_peakUsed' g_used' a_cellA' a_cellB' a_link' a_live' a_frameFunction' a_vars' a_saved' a_env' a_regionFirst' a_tasks' a_values' a_used' b_first' b_second' b_cellKind' b_freed' b_fn' b_born' b_actual' b_value' b_known' md' mu' rg' av' FL' → rj FIN rl x4' (f_functionLimit, f_tokenLimit, f_cellLimit, f_depthLimit, f_functions, f_accepted, f_placed, f_openBody, f_holeCount, f_nextRegion, f_changed, f_freeCell', nI (D + 1), nI (c'), nI (tt), nI (vt + 1), rl, 0, f_peakUsed', 0, a_sigType, a_params, a_kept, a_start, a_finished, a_tokOp, a_tokArg, a_tokType, a_tokScope, a_end, a_holeType, a_holeNest, a_holeScope, a_holeVars, a_parent, a_region, a_sigRegions, a_allRegions, a_cellA', a_cellB', a_link', a_live', a_frameFunction', a_vars', a_saved', a_env', a_regionFirst', a_tasks', a_values', a_used', a_result) y4' (g_maxFunctions, g_maxTokens, g_maxCells, g_maxDepth, g_functions, g_tokens, g_open, g_accepted, nI md', g_used', f_peakUsed', 0, g_answer, nI (c'), nI (D + 1), b_result, b_param, a_start, b_finished, a_tokOp, a_tokArg, a_tokType, b_first', b_second', b_cellKind', b_freed', b_fn', b_born', b_actual', b_value', b_known')) : rj FIN rl x4 (f_functionLimit, f_tokenLimit, f_cellLimit, f_depthLimit, f_functions, f_accepted, f_placed, f_openBody, f_holeCount, f_nextRegion, f_changed, f_freeCell, nI (D + 1), nI (c), nI (tt + 1), nI (vt), rl, 0, f_peakUsed, 0, a_sigType, a_params, a_kept, a_start, a_finished, a_tokOp, a_tokArg, a_tokType, a_tokScope, a_end, a_holeType, a_holeNest, a_holeScope, a_holeVars, a_parent, a_region, a_sigRegions, a_allRegions, a_cellA, a_cellB, a_link, a_live, a_frameFunction, a_vars, a_saved, a_env, a_regionFirst, a_tasks, a_values, a_used, a_result) y4 (g_maxFunctions, g_maxTokens, g_maxCells, g_maxDepth, g_functions, g_tokens, g_open, g_accepted, nI md, g_used, f_peakUsed, 0, g_answer, nI (c), nI (D + 1), b_result, b_param, a_start, b_finished, a_tokOp, a_tokArg, a_tokType, b_first, b_second, b_cellKind, b_freed, b_fn, b_born, b_actual, b_value, b_known) := by
  have ht := S.1.1
  have pre' := pre
  obtain ⟨⟨p1, p2, p3, p4, p5, p6, p7, p8, p9⟩, ht0, hF, hH, hNv, hk0, hP⟩ := pre
  have dl24 := S.2.2.2.2.2.2.2.2.2.2.2.2.2.2.1
  have ns10 := (pc_tok S.1 p1).2.2.2.2.2.1
  have hA : (sp_A a_sigType a_tokOp a_tokArg) i = 0 := by unfold sp_A sp_ar; rw [h]; rfl
  have e0 := pc_e0 S.1 p1 hA
  have hf := pc_fo S.1 p1
  obtain ⟨v, v1, v2, v3, v4⟩ := pc_var_of S.1 p1 h
  have CS := (S.2.1.2.2.2.1 i p1).1 h v v3 v1
  have key : ∃ y, vr_V md b_first b_second b_cellKind mu rg av (a_tokType i) (er a_env a_region D (2 * i)) (er a_env a_region D (2 * i + 1)) (a_vars (8 * D + v)) (y) ∧ (v < sp_n a_sigType (fo i) → y = b_actual (2 * D + v)) ∧ (∀ j, sN (fo i) ≤ j → hz_bl (sp_L a_tokOp) (sp_A a_sigType a_tokOp a_tokArg) j i → sp_sc a_sigType a_tokOp a_tokArg (fo i) (sN (fo i)) j = v → y = b_value (D * 97 + (j + 1))) := by
    rcases v4 with ⟨z, zt⟩ | ⟨z, j, j1, j2, j3, j4, j5⟩
    · refine ⟨b_actual (2 * D + v), ?_, fun _ => rfl, fun j j1 j2 j3 => ?_⟩
      · have a := hNv.1 v z
        have sp := CS.1 z zt
        rw [← zt] at a
        exact vr_reg a (fun k => by unfold er; rw [sp.1 k]) (fun k => by unfold er; rw [sp.2 k])
      · rw [← j3] at z
        unfold sp_sc at z; omega
    · refine ⟨b_value (D * 97 + (j + 1)), ?_, fun q => by omega, fun j' k1 k2 k3 => ?_⟩
      · have a := hNv.2 j j1 j3
        have sp := CS.2 j j1 j3 j4 j5
        rw [j4, ← j5] at a
        exact vr_reg a (fun k => by unfold er; rw [sp.1 k]) (fun k => by unfold er; rw [sp.2 k])
      · have : j' = j := by
          unfold sp_sc at j4 k3
          exact hz_bc_u k1 j1 k2 j3 (by omega)
        rw [this]
  obtain ⟨y, y1, y2, y3⟩ := key
  refine ev_fin (vm := vt) (x := a_vars (8 * D + v)) (y := y) S pre' ⟨Nat.le_refl _, p4, by omega, by omega, by omega⟩ k_X_rf k_Y_rf hH hx_rf ev_C_0 (nx_st_none (fun j hj => by omega)) (ru_advE ht0 (by omega) (by omega) (re_var (by omega) h v3 v1 (by omega) (by omega))) (fun q1 q2 => ye_var S.2.2.2.2.2.2.1 S.1 S.2.2.2.2.2.2.2.2.2.2.2.2.2.2.2.1 S.2.2.2.2.2.1 (by omega) hf q2 p1 q1 rfl h v3 v1 v4 y2 y3) y1 K
end
end
section
def ev_S (f_functionLimit f_tokenLimit f_cellLimit f_depthLimit f_functions f_accepted f_placed f_openBody f_holeCount f_nextRegion f_changed g_maxFunctions g_maxTokens g_maxCells g_maxDepth g_functions g_tokens g_open g_accepted g_answer : Int32) (a_sigType a_params a_kept a_start a_finished a_tokOp a_tokArg a_tokType a_tokScope a_end a_holeType a_holeNest a_holeScope a_holeVars a_parent a_region a_sigRegions a_allRegions a_result b_result b_param b_finished : Nat → Int32) (nf t cl dl : Nat) (rl : Int32) (sN fo en sg al : Nat → Nat) (FIN : Int32 → SX → SY → Prop) : Prop := ∀ (oc : Int32) (D c tt vt : Nat) (f_freeCell f_peakUsed g_used : Int32) (a_cellA a_cellB a_link a_live a_frameFunction a_vars a_saved a_env a_regionFirst a_tasks a_values a_used b_first b_second b_cellKind b_freed b_fn b_born b_actual b_value b_known : Nat → Int32) (md : Nat) (mu rg : Nat → Nat) (av : Nat → Prop) (FL : List Nat), oc ≠ 0 → oc ≠ 1 → md ≤ 9600 → (∀ e, e < md → b_cellKind e = 1 ∨ b_cellKind e = 2 ∨ b_cellKind e = 3) → hi_ct cl md a_used g_used b_cellKind b_freed → FIN oc (f_functionLimit, f_tokenLimit, f_cellLimit, f_depthLimit, f_functions, f_accepted, f_placed, f_openBody, f_holeCount, f_nextRegion, f_changed, f_freeCell, nI (D), nI (c), nI (tt), nI (vt), rl, oc, f_peakUsed, 0, a_sigType, a_params, a_kept, a_start, a_finished, a_tokOp, a_tokArg, a_tokType, a_tokScope, a_end, a_holeType, a_holeNest, a_holeScope, a_holeVars, a_parent, a_region, a_sigRegions, a_allRegions, a_cellA, a_cellB, a_link, a_live, a_frameFunction, a_vars, a_saved, a_env, a_regionFirst, a_tasks, a_values, a_used, a_result) (g_maxFunctions, g_maxTokens, g_maxCells, g_maxDepth, g_functions, g_tokens, g_open, g_accepted, nI md, g_used, f_peakUsed, oc, g_answer, nI (c), nI (D), b_result, b_param, a_start, b_finished, a_tokOp, a_tokArg, a_tokType, b_first, b_second, b_cellKind, b_freed, b_fn, b_born, b_actual, b_value, b_known)
section
variable {f_functionLimit f_tokenLimit f_cellLimit f_depthLimit f_functions f_accepted f_placed f_openBody f_holeCount f_nextRegion f_changed g_maxFunctions g_maxTokens g_maxCells g_maxDepth g_functions g_tokens g_open g_accepted g_answer : Int32} {a_sigType a_params a_kept a_start a_finished a_tokOp a_tokArg a_tokType a_tokScope a_end a_holeType a_holeNest a_holeScope a_holeVars a_parent a_region a_sigRegions a_allRegions a_result b_result b_param b_finished : Nat → Int32} {nf t cl dl : Nat} {rl : Int32} {sN fo en sg al : Nat → Nat} {FIN : Int32 → SX → SY → Prop} {f_freeCell f_peakUsed g_used : Int32} {a_cellA a_cellB a_link a_live a_frameFunction a_vars a_saved a_env a_regionFirst a_tasks a_values a_used b_first b_second b_cellKind b_freed b_fn b_born b_actual b_value b_known : Nat → Int32} {md : Nat} {mu rg : Nat → Nat} {av : Nat → Prop} {FL : List Nat} {f_freeCell1 f_peakUsed1 g_used1 : Int32} {a_cellA1 a_cellB1 a_link1 a_live1 a_frameFunction1 a_vars1 a_saved1 a_env1 a_regionFirst1 a_tasks1 a_values1 a_used1 b_first1 b_second1 b_cellKind1 b_freed1 b_fn1 b_born1 b_actual1 b_value1 b_known1 : Nat → Int32} {md1 : Nat} {mu1 rg1 : Nat → Nat} {av1 : Nat → Prop} {FL1 : List Nat}
variable {i D c tt vt x4 y4 N cQ xQ yQ vm vn : Nat} {OP : Nat → Prop} {oc : Int32}
/-- both stop at i -/
theorem ev_stop (S : rs_S f_cellLimit f_depthLimit g_maxCells g_maxDepth g_tokens a_sigType a_params a_kept a_start a_tokOp a_tokArg a_tokType a_tokScope a_end a_region a_sigRegions a_allRegions b_result b_param nf t cl dl rl sN fo en sg al) (FS : ev_S f_functionLimit f_tokenLimit f_cellLimit f_depthLimit f_functions f_accepted f_placed f_openBody f_holeCount f_nextRegion f_changed g_maxFunctions g_maxTokens g_maxCells g_maxDepth g_functions g_tokens g_open g_accepted g_answer a_sigType a_params a_kept a_start a_finished a_tokOp a_tokArg a_tokType a_tokScope a_end a_holeType a_holeNest a_holeScope a_holeVars a_parent a_region a_sigRegions a_allRegions a_result b_result b_param b_finished nf t cl dl rl sN fo en sg al FIN) (pre : ev_pre f_functionLimit f_tokenLimit f_cellLimit f_depthLimit f_functions f_accepted f_placed f_openBody f_holeCount f_nextRegion f_changed g_maxFunctions g_maxTokens g_maxCells g_maxDepth g_functions g_tokens g_open g_accepted g_answer a_sigType a_params a_kept a_start a_finished a_tokOp a_tokArg a_tokType a_tokScope a_end a_holeType a_holeNest a_holeScope a_holeVars a_parent a_region a_sigRegions a_allRegions a_result b_result b_param b_finished nf t cl dl rl sN fo en sg al FIN i D c tt vt x4 y4 OP f_freeCell f_peakUsed g_used a_cellA a_cellB a_link a_live a_frameFunction a_vars a_saved a_env a_regionFirst a_tasks a_values a_used b_first b_second b_cellKind b_freed b_fn b_born b_actual b_value b_known md mu rg av FL) (hm : cQ ≤ 200 ∧ xQ + 193 * c + 1 ≤ x4 + 2 * (en i - i) + 193 * cQ ∧ yQ + 97 * c + 1 ≤ y4 + (en i - i) + 97 * cQ ∧ 2 * md1 + 95 * c + 1 ≤ 2 * md + (en i - i) + 95 * cQ) (ky : k_Y D (i + 1) (en i) b_fn b_born b_actual b_value b_known b_fn1 b_born1 b_actual1 b_value1 b_known1) (hh : ev_H cl rl OP f_freeCell1 a_cellA1 a_cellB1 a_link1 a_live1 a_regionFirst1 a_used1 g_used1 b_first1 b_second1 b_cellKind1 b_freed1 md1 mu1 rg1 av1 FL1) (hst : nx_st (sp_A a_sigType a_tokOp a_tokArg) a_tokOp en b_known1 b_value1 (D * 97) i = none) (o0 : oc ≠ 0) (o1 : oc ≠ 1)
    (hX : ru_A (f_functionLimit, f_tokenLimit, f_cellLimit, f_depthLimit, f_functions, f_accepted, f_placed, f_openBody, f_holeCount, f_nextRegion, f_changed, f_freeCell1, nI (D + 1), nI (cQ), nI (tt + 1), nI (vm), rl, 0, f_peakUsed1, 0, a_sigType, a_params, a_kept, a_start, a_finished, a_tokOp, a_tokArg, a_tokType, a_tokScope, a_end, a_holeType, a_holeNest, a_holeScope, a_holeVars, a_parent, a_region, a_sigRegions, a_allRegions, a_cellA1, a_cellB1, a_link1, a_live1, a_frameFunction1, a_vars1, a_saved1, a_env1, a_regionFirst1, a_tasks1, a_values1, a_used1, a_result) (f_functionLimit, f_tokenLimit, f_cellLimit, f_depthLimit, f_functions, f_accepted, f_placed, f_openBody, f_holeCount, f_nextRegion, f_changed, f_freeCell1, nI (D + 1), nI (cQ), nI (tt), nI (vn), rl, oc, f_peakUsed1, 0, a_sigType, a_params, a_kept, a_start, a_finished, a_tokOp, a_tokArg, a_tokType, a_tokScope, a_end, a_holeType, a_holeNest, a_holeScope, a_holeVars, a_parent, a_region, a_sigRegions, a_allRegions, a_cellA1, a_cellB1, a_link1, a_live1, a_frameFunction1, a_vars1, a_saved1, a_env1, a_regionFirst1, a_tasks1, a_values1, a_used1, a_result)) (hY : nx (sp_A a_sigType a_tokOp a_tokArg) a_tokOp en b_known1 b_value1 (D * 97) 10 (sN (fo i)) = i → b_fn1 D = nI (fo i) → yw_E (g_maxFunctions, g_maxTokens, g_maxCells, g_maxDepth, g_functions, g_tokens, g_open, g_accepted, nI md1, g_used1, f_peakUsed1, 0, g_answer, nI (cQ), nI (D + 1), b_result, b_param, a_start, b_finished, a_tokOp, a_tokArg, a_tokType, b_first1, b_second1, b_cellKind1, b_freed1, b_fn1, b_born1, b_actual1, b_value1, b_known1) (g_maxFunctions, g_maxTokens, g_maxCells, g_maxDepth, g_functions, g_tokens, g_open, g_accepted, nI md1, g_used1, f_peakUsed1, oc, g_answer, nI (cQ), nI (D + 1), b_result, b_param, a_start, b_finished, a_tokOp, a_tokArg, a_tokType, b_first1, b_second1, b_cellKind1, b_freed1, b_fn1, b_born1, b_actual1, b_value1, b_known1)) : rj FIN rl xQ (f_functionLimit, f_tokenLimit, f_cellLimit, f_depthLimit, f_functions, f_accepted, f_placed, f_openBody, f_holeCount, f_nextRegion, f_changed, f_freeCell1, nI (D + 1), nI (cQ), nI (tt + 1), nI (vm), rl, 0, f_peakUsed1, 0, a_sigType, a_params, a_kept, a_start, a_finished, a_tokOp, a_tokArg, a_tokType, a_tokScope, a_end, a_holeType, a_holeNest, a_holeScope, a_holeVars, a_parent, a_region, a_sigRegions, a_allRegions, a_cellA1, a_cellB1, a_link1, a_live1, a_frameFunction1, a_vars1, a_saved1, a_env1, a_regionFirst1, a_tasks1, a_values1, a_used1, a_result) yQ (g_maxFunctions, g_maxTokens, g_maxCells, g_maxDepth, g_functions, g_tokens, g_open, g_accepted, nI md1, g_used1, f_peakUsed1, 0, g_answer, nI (cQ), nI (D + 1), b_result, b_param, a_start, b_finished, a_tokOp, a_tokArg, a_tokType, b_first1, b_second1, b_cellKind1, b_freed1, b_fn1, b_born1, b_actual1, b_value1, b_known1) := by
  have ht := S.1.1
  have hn := S.1.2.1
  obtain ⟨a1, a2, a3, a4⟩ := ev_at S pre ky hst
  obtain ⟨⟨p1, p2, p3, p4, p5, p6, p7, p8, p9⟩, ht0, hF, hH, hNv, hk0, hP⟩ := pre
  have dl24 := S.2.2.2.2.2.2.2.2.2.2.2.2.2.2.1
  have ei := pc_end S.1 p1
  have hf := pc_fo S.1 p1
  have hsN := pc_sN S.1 hf
  refine rj_xs (by omega) hX (rj_ye (by omega) (by omega) (show fo i < 8 by omega) (show sN (fo i) < 97 by omega) a3 (S.2.2.2.2.2.1 _ hf) a1 (hY a2 a3) ?_)
  exact rj_fin (by omega) (by omega) o0 (FS oc (D + 1) cQ tt vn f_freeCell1 f_peakUsed1 g_used1 a_cellA1 a_cellB1 a_link1 a_live1 a_frameFunction1 a_vars1 a_saved1 a_env1 a_regionFirst1 a_tasks1 a_values1 a_used1 b_first1 b_second1 b_cellKind1 b_freed1 b_fn1 b_born1 b_actual1 b_value1 b_known1 md1 mu1 rg1 av1 FL1 o0 o1 (by omega) (fun e he => (hh.1.1 e he).1) hh.2.1)
end
section
variable {f_functionLimit f_tokenLimit f_cellLimit f_depthLimit f_functions f_accepted f_placed f_openBody f_holeCount f_nextRegion f_changed g_maxFunctions g_maxTokens g_maxCells g_maxDepth g_functions g_tokens g_open g_accepted g_answer : Int32} {a_sigType a_params a_kept a_start a_finished a_tokOp a_tokArg a_tokType a_tokScope a_end a_holeType a_holeNest a_holeScope a_holeVars a_parent a_region a_sigRegions a_allRegions a_result b_result b_param b_finished : Nat → Int32} {nf t cl dl : Nat} {rl : Int32} {sN fo en sg al : Nat → Nat} {FIN : Int32 → SX → SY → Prop} {f_freeCell f_peakUsed g_used : Int32} {a_cellA a_cellB a_link a_live a_frameFunction a_vars a_saved a_env a_regionFirst a_tasks a_values a_used b_first b_second b_cellKind b_freed b_fn b_born b_actual b_value b_known : Nat → Int32} {md : Nat} {mu rg : Nat → Nat} {av : Nat → Prop} {FL : List Nat}
variable {i D c tt vt x4 y4 N : Nat} {OP : Nat → Prop}
theorem nx2 {A : Nat → Nat} {op kn vl : Nat → Int32} {en : Nat → Nat} {b i : Nat} (hA : A i = 2) (h0 : kn (b + (i + 1)) = 1) (h1 : kn (b + en (i + 1)) = 1) : nx_st A op en kn vl b i = none := by
  refine nx_st_none (fun j hj q => ?_)
  rcases (by omega : j = 0 ∨ j = 1) with rfl | rfl
  · have q2 : kn (b + (i + 1)) = 0 := q.2.2
    rw [h0] at q2; exact absurd q2 (by decide)
  · have q2 : kn (b + en (i + 1)) = 0 := q.2.2
    rw [h1] at q2; exact absurd q2 (by decide)
theorem nx1 {A : Nat → Nat} {op kn vl : Nat → Int32} {en : Nat → Nat} {b i : Nat} (hA : A i = 1) (h0 : kn (b + (i + 1)) = 1) : nx_st A op en kn vl b i = none := by
  refine nx_st_none (fun j hj q => ?_)
  have e : j = 0 := by omega
  subst e
  have q2 : kn (b + (i + 1)) = 0 := q.2.2
  rw [h0] at q2; exact absurd q2 (by decide)
theorem ev_math (S : rs_S f_cellLimit f_depthLimit g_maxCells g_maxDepth g_tokens a_sigType a_params a_kept a_start a_tokOp a_tokArg a_tokType a_tokScope a_end a_region a_sigRegions a_allRegions b_result b_param nf t cl dl rl sN fo en sg al) (FS : ev_S f_functionLimit f_tokenLimit f_cellLimit f_depthLimit f_functions f_accepted f_placed f_openBody f_holeCount f_nextRegion f_changed g_maxFunctions g_maxTokens g_maxCells g_maxDepth g_functions g_tokens g_open g_accepted g_answer a_sigType a_params a_kept a_start a_finished a_tokOp a_tokArg a_tokType a_tokScope a_end a_holeType a_holeNest a_holeScope a_holeVars a_parent a_region a_sigRegions a_allRegions a_result b_result b_param b_finished nf t cl dl rl sN fo en sg al FIN) (IH : EVp f_functionLimit f_tokenLimit f_cellLimit f_depthLimit f_functions f_accepted f_placed f_openBody f_holeCount f_nextRegion f_changed g_maxFunctions g_maxTokens g_maxCells g_maxDepth g_functions g_tokens g_open g_accepted g_answer a_sigType a_params a_kept a_start a_finished a_tokOp a_tokArg a_tokType a_tokScope a_end a_holeType a_holeNest a_holeScope a_holeVars a_parent a_region a_sigRegions a_allRegions a_result b_result b_param b_finished nf t cl dl rl sN fo en sg al FIN N) (pre : ev_pre f_functionLimit f_tokenLimit f_cellLimit f_depthLimit f_functions f_accepted f_placed f_openBody f_holeCount f_nextRegion f_changed g_maxFunctions g_maxTokens g_maxCells g_maxDepth g_functions g_tokens g_open g_accepted g_answer a_sigType a_params a_kept a_start a_finished a_tokOp a_tokArg a_tokType a_tokScope a_end a_holeType a_holeNest a_holeScope a_holeVars a_parent a_region a_sigRegions a_allRegions a_result b_result b_param b_finished nf t cl dl rl sN fo en sg al FIN i D c tt vt x4 y4 OP f_freeCell f_peakUsed g_used a_cellA a_cellB a_link a_live a_frameFunction a_vars a_saved a_env a_regionFirst a_tasks a_values a_used b_first b_second b_cellKind b_freed b_fn b_born b_actual b_value b_known md mu rg av FL) (hN : (200 - c) * 100 + (en i - i) ≤ N + 1) (h : a_tokOp i = 3) (K : ∀ (c' x4' y4' : Nat) (f_freeCell' f_peakUsed' g_used' : Int32) (a_cellA' a_cellB' a_link' a_live' a_frameFunction' a_vars' a_saved' a_env' a_regionFirst' a_tasks' a_values' a_used' b_first' b_second' b_cellKind' b_freed' b_fn' b_born' b_actual' b_value' b_known' : Nat → Int32) (md' : Nat) (mu' rg' : Nat → Nat) (av' : Nat → Prop) (FL' : List Nat), ev_post f_functionLimit f_tokenLimit f_cellLimit f_depthLimit f_functions f_accepted f_placed f_openBody f_holeCount f_nextRegion f_changed g_maxFunctions g_maxTokens g_maxCells g_maxDepth g_functions g_tokens g_open g_accepted g_answer a_sigType a_params a_kept a_start a_finished a_tokOp a_tokArg a_tokType a_tokScope a_end a_holeType a_holeNest a_holeScope a_holeVars a_parent a_region a_sigRegions a_allRegions a_result b_result b_param b_finished nf t cl dl rl sN fo en sg al FIN i D c tt vt x4 y4 OP f_freeCell f_peakUsed g_used a_cellA a_cellB a_link a_live a_frameFunction a_vars a_saved a_env a_regionFirst a_tasks a_values a_used b_first b_second b_cellKind b_freed b_fn b_born b_actual b_value b_known md mu rg av FL c' x4' y4' f_freeCell' f_peakUsed' g_used' a_cellA' a_cellB' a_link' a_live' a_frameFunction' a_vars' a_saved' a_env' a_regionFirst' a_tasks' a_values' a_used' b_first' b_second' b_cellKind' b_freed' b_fn' b_born' b_actual' b_value' b_known' md' mu' rg' av' FL' → rj FIN rl x4' (f_functionLimit, f_tokenLimit, f_cellLimit, f_depthLimit, f_functions, f_accepted, f_placed, f_openBody, f_holeCount, f_nextRegion, f_changed, f_freeCell', nI (D + 1), nI (c'), nI (tt), nI (vt + 1), rl, 0, f_peakUsed', 0, a_sigType, a_params, a_kept, a_start, a_finished, a_tokOp, a_tokArg, a_tokType, a_tokScope, a_end, a_holeType, a_holeNest, a_holeScope, a_holeVars, a_parent, a_region, a_sigRegions, a_allRegions, a_cellA', a_cellB', a_link', a_live', a_frameFunction', a_vars', a_saved', a_env', a_regionFirst', a_tasks', a_values', a_used', a_result) y4' (g_maxFunctions, g_maxTokens, g_maxCells, g_maxDepth, g_functions, g_tokens, g_open, g_accepted, nI md', g_used', f_peakUsed', 0, g_answer, nI (c'), nI (D + 1), b_result, b_param, a_start, b_finished, a_tokOp, a_tokArg, a_tokType, b_first', b_second', b_cellKind', b_freed', b_fn', b_born', b_actual', b_value', b_known')) : rj FIN rl x4 (f_functionLimit, f_tokenLimit, f_cellLimit, f_depthLimit, f_functions, f_accepted, f_placed, f_openBody, f_holeCount, f_nextRegion, f_changed, f_freeCell, nI (D + 1), nI (c), nI (tt + 1), nI (vt), rl, 0, f_peakUsed, 0, a_sigType, a_params, a_kept, a_start, a_finished, a_tokOp, a_tokArg, a_tokType, a_tokScope, a_end, a_holeType, a_holeNest, a_holeScope, a_holeVars, a_parent, a_region, a_sigRegions, a_allRegions, a_cellA, a_cellB, a_link, a_live, a_frameFunction, a_vars, a_saved, a_env, a_regionFirst, a_tasks, a_values, a_used, a_result) y4 (g_maxFunctions, g_maxTokens, g_maxCells, g_maxDepth, g_functions, g_tokens, g_open, g_accepted, nI md, g_used, f_peakUsed, 0, g_answer, nI (c), nI (D + 1), b_result, b_param, a_start, b_finished, a_tokOp, a_tokArg, a_tokType, b_first, b_second, b_cellKind, b_freed, b_fn, b_born, b_actual, b_value, b_known) := by
  have ht := S.1.1
  have hA : (sp_A a_sigType a_tokOp a_tokArg) i = 2 := by unfold sp_A sp_ar; rw [h]; rfl
  refine ev_two S IH pre hN hA (by rw [h]; decide) (by rw [h]; decide) (by rw [h]; decide) (by rw [h]; decide) (by rw [h]; decide) (fun c' x4' y4' f_freeCell' f_peakUsed' g_used' a_cellA' a_cellB' a_link' a_live' a_frameFunction' a_vars' a_saved' a_env' a_regionFirst' a_tasks' a_values' a_used' b_first' b_second' b_cellKind' b_freed' b_fn' b_born' b_actual' b_value' b_known' md' mu' rg' av' FL' m2 => ?_)
  obtain ⟨⟨m1, m2, m3, m4, m5⟩, mt, kx, ky, kn0, kn1, hh, hx, hv0, hv1, hC⟩ := m2
  have pre' := pre
  obtain ⟨⟨p1, p2, p3, p4, p5, p6, p7, p8, p9⟩, ht0, hF, hH, hNv, hk0, hP⟩ := pre
  have dl24 := S.2.2.2.2.2.2.2.2.2.2.2.2.2.2.1
  have ns10 := (pc_tok S.1 p1).2.2.2.2.2.1
  have hf := pc_fo S.1 p1
  have c0 := pc_c0 S.1 p1 (by omega)
  have c1 := pc_c1 S.1 p1 (by omega)
  have e0 : a_values' vt = b_value' (D * 97 + (i + 1)) := hv0.1 (by rw [c0.2.2.2.2.2.2, h]; rfl)
  have e1 : a_values' (vt + 1) = b_value' (D * 97 + en (i + 1)) := hv1.1 (by rw [c1.2.2.2.2.2.2, h]; rfl)
  have hty : a_tokType i = 0 := by
    have K := pc_opk S.1 p1
    unfold sp_opk at K
    rw [h] at K
    rcases K with ⟨z, -⟩ | ⟨z, -⟩ | ⟨-, z, -⟩ | z | ⟨z, -⟩ | ⟨z, -⟩ | ⟨z, -⟩ | ⟨z, -⟩ | ⟨z, -⟩ | ⟨z, -⟩ | ⟨z, -⟩ | ⟨z, -⟩ | ⟨z, -⟩
    case inr.inr.inl => exact z
    all_goals exact absurd z (by decide)
  refine ev_fin (vm := vt + 2) (x := mth (a_tokArg i) (a_values' vt) (a_values' (vt + 1))) (y := mth (a_tokArg i) (b_value' (D * 97 + (i + 1))) (b_value' (D * 97 + en (i + 1)))) S pre' ⟨m1, m2, m3, m4, by omega⟩ kx ky hh hx hC (nx2 hA kn0 kn1) (ru_advC mt (by omega) (by omega) (rc_math (by omega) h (by omega))) (fun q1 q2 => ye_math S.2.2.2.2.2.2.1 S.1 S.2.2.2.2.2.2.2.2.2.2.2.2.2.2.2.1 S.2.2.2.2.2.1 (by omega) hf q2 p1 q1 h) ?_ K
  rw [hty, e0, e1]; exact vr_int
theorem vr_c2 {md : Nat} {fi se ck : Nat → Int32} {mu rg : Nat → Nat} {av : Nat → Prop} {R Q x y : Int32} (hm : md ≤ 9600) (h : vr_V md fi se ck mu rg av 2 R Q x y) : (x = -1 ∧ y = -1) ∨ ∃ e l, y = nI e ∧ x = nI (mu e) ∧ e < md ∧ av e ∧ ck e = 2 ∧ nI (rg e) = R ∧ vr_L md se ck rg av 2 R (fun _ => True) l (se e) := by
  obtain ⟨r, l, hl⟩ := h.2.2.1 rfl
  cases l with
  | nil =>
    have hy : y = -1 := hl
    rcases r with w | ⟨e, w1, w2, w3⟩
    · exact Or.inl w
    · rw [hy] at w2
      exact absurd w2.symm (nI_nm1 (by omega))
  | cons e l =>
    obtain ⟨h1, ⟨h2, h3, h4, h5, -⟩, h7⟩ := hl
    rcases r with ⟨w1, w2⟩ | ⟨e', w1, w2, w3⟩
    · rw [w2] at h1
      exact absurd h1.symm (nI_nm1 (by omega))
    · have : e' = e := (nI_eq (by omega) (by omega)).mp (w2.symm.trans h1)
      subst this
      exact Or.inr ⟨e', l, h1, w3, h2, h3, h4, h5, h7⟩
theorem vr_c3 {md : Nat} {fi se ck : Nat → Int32} {mu rg : Nat → Nat} {av : Nat → Prop} {R Q x y : Int32} (hm : md ≤ 9600) (h : vr_V md fi se ck mu rg av 3 R Q x y) : (x = -1 ∧ y = -1) ∨ ∃ e l, y = nI e ∧ x = nI (mu e) ∧ e < md ∧ av e ∧ ck e = 3 ∧ nI (rg e) = R ∧ (∃ e', fi e = nI e' ∧ vr_P md ck rg av Q e') ∧ vr_L md se ck rg av 3 R (fun e => ∃ e', fi e = nI e' ∧ vr_P md ck rg av Q e') l (se e) := by
  obtain ⟨r, l, hl⟩ := h.2.2.2 rfl
  cases l with
  | nil =>
    have hy : y = -1 := hl
    rcases r with w | ⟨e, w1, w2, w3⟩
    · exact Or.inl w
    · rw [hy] at w2
      exact absurd w2.symm (nI_nm1 (by omega))
  | cons e l =>
    obtain ⟨h1, ⟨h2, h3, h4, h5, h6⟩, h7⟩ := hl
    rcases r with ⟨w1, w2⟩ | ⟨e', w1, w2, w3⟩
    · rw [w2] at h1
      exact absurd h1.symm (nI_nm1 (by omega))
    · have : e' = e := (nI_eq (by omega) (by omega)).mp (w2.symm.trans h1)
      subst this
      exact Or.inr ⟨e', l, h1, w3, h2, h3, h4, h5, h6, h7⟩
theorem ev_isnil (S : rs_S f_cellLimit f_depthLimit g_maxCells g_maxDepth g_tokens a_sigType a_params a_kept a_start a_tokOp a_tokArg a_tokType a_tokScope a_end a_region a_sigRegions a_allRegions b_result b_param nf t cl dl rl sN fo en sg al) (FS : ev_S f_functionLimit f_tokenLimit f_cellLimit f_depthLimit f_functions f_accepted f_placed f_openBody f_holeCount f_nextRegion f_changed g_maxFunctions g_maxTokens g_maxCells g_maxDepth g_functions g_tokens g_open g_accepted g_answer a_sigType a_params a_kept a_start a_finished a_tokOp a_tokArg a_tokType a_tokScope a_end a_holeType a_holeNest a_holeScope a_holeVars a_parent a_region a_sigRegions a_allRegions a_result b_result b_param b_finished nf t cl dl rl sN fo en sg al FIN) (IH : EVp f_functionLimit f_tokenLimit f_cellLimit f_depthLimit f_functions f_accepted f_placed f_openBody f_holeCount f_nextRegion f_changed g_maxFunctions g_maxTokens g_maxCells g_maxDepth g_functions g_tokens g_open g_accepted g_answer a_sigType a_params a_kept a_start a_finished a_tokOp a_tokArg a_tokType a_tokScope a_end a_holeType a_holeNest a_holeScope a_holeVars a_parent a_region a_sigRegions a_allRegions a_result b_result b_param b_finished nf t cl dl rl sN fo en sg al FIN N) (pre : ev_pre f_functionLimit f_tokenLimit f_cellLimit f_depthLimit f_functions f_accepted f_placed f_openBody f_holeCount f_nextRegion f_changed g_maxFunctions g_maxTokens g_maxCells g_maxDepth g_functions g_tokens g_open g_accepted g_answer a_sigType a_params a_kept a_start a_finished a_tokOp a_tokArg a_tokType a_tokScope a_end a_holeType a_holeNest a_holeScope a_holeVars a_parent a_region a_sigRegions a_allRegions a_result b_result b_param b_finished nf t cl dl rl sN fo en sg al FIN i D c tt vt x4 y4 OP f_freeCell f_peakUsed g_used a_cellA a_cellB a_link a_live a_frameFunction a_vars a_saved a_env a_regionFirst a_tasks a_values a_used b_first b_second b_cellKind b_freed b_fn b_born b_actual b_value b_known md mu rg av FL) (hN : (200 - c) * 100 + (en i - i) ≤ N + 1) (h : a_tokOp i = 11) (K : ∀ (c' x4' y4' : Nat) (f_freeCell' f_peakUsed' g_used' : Int32) (a_cellA' a_cellB' a_link' a_live' a_frameFunction' a_vars' a_saved' a_env' a_regionFirst' a_tasks' a_values' a_used' b_first' b_second' b_cellKind' b_freed' b_fn' b_born' b_actual' b_value' b_known' : Nat → Int32) (md' : Nat) (mu' rg' : Nat → Nat) (av' : Nat → Prop) (FL' : List Nat), ev_post f_functionLimit f_tokenLimit f_cellLimit f_depthLimit f_functions f_accepted f_placed f_openBody f_holeCount f_nextRegion f_changed g_maxFunctions g_maxTokens g_maxCells g_maxDepth g_functions g_tokens g_open g_accepted g_answer a_sigType a_params a_kept a_start a_finished a_tokOp a_tokArg a_tokType a_tokScope a_end a_holeType a_holeNest a_holeScope a_holeVars a_parent a_region a_sigRegions a_allRegions a_result b_result b_param b_finished nf t cl dl rl sN fo en sg al FIN i D c tt vt x4 y4 OP f_freeCell f_peakUsed g_used a_cellA a_cellB a_link a_live a_frameFunction a_vars a_saved a_env a_regionFirst a_tasks a_values a_used b_first b_second b_cellKind b_freed b_fn b_born b_actual b_value b_known md mu rg av FL c' x4' y4' f_freeCell' f_peakUsed' g_used' a_cellA' a_cellB' a_link' a_live' a_frameFunction' a_vars' a_saved' a_env' a_regionFirst' a_tasks' a_values' a_used' b_first' b_second' b_cellKind' b_freed' b_fn' b_born' b_actual' b_value' b_known' md' mu' rg' av' FL' → rj FIN rl x4' (f_functionLimit, f_tokenLimit, f_cellLimit, f_depthLimit, f_functions, f_accepted, f_placed, f_openBody, f_holeCount, f_nextRegion, f_changed, f_freeCell', nI (D + 1), nI (c'), nI (tt), nI (vt + 1), rl, 0, f_peakUsed', 0, a_sigType, a_params, a_kept, a_start, a_finished, a_tokOp, a_tokArg, a_tokType, a_tokScope, a_end, a_holeType, a_holeNest, a_holeScope, a_holeVars, a_parent, a_region, a_sigRegions, a_allRegions, a_cellA', a_cellB', a_link', a_live', a_frameFunction', a_vars', a_saved', a_env', a_regionFirst', a_tasks', a_values', a_used', a_result) y4' (g_maxFunctions, g_maxTokens, g_maxCells, g_maxDepth, g_functions, g_tokens, g_open, g_accepted, nI md', g_used', f_peakUsed', 0, g_answer, nI (c'), nI (D + 1), b_result, b_param, a_start, b_finished, a_tokOp, a_tokArg, a_tokType, b_first', b_second', b_cellKind', b_freed', b_fn', b_born', b_actual', b_value', b_known')) : rj FIN rl x4 (f_functionLimit, f_tokenLimit, f_cellLimit, f_depthLimit, f_functions, f_accepted, f_placed, f_openBody, f_holeCount, f_nextRegion, f_changed, f_freeCell, nI (D + 1), nI (c), nI (tt + 1), nI (vt), rl, 0, f_peakUsed, 0, a_sigType, a_params, a_kept, a_start, a_finished, a_tokOp, a_tokArg, a_tokType, a_tokScope, a_end, a_holeType, a_holeNest, a_holeScope, a_holeVars, a_parent, a_region, a_sigRegions, a_allRegions, a_cellA, a_cellB, a_link, a_live, a_frameFunction, a_vars, a_saved, a_env, a_regionFirst, a_tasks, a_values, a_used, a_result) y4 (g_maxFunctions, g_maxTokens, g_maxCells, g_maxDepth, g_functions, g_tokens, g_open, g_accepted, nI md, g_used, f_peakUsed, 0, g_answer, nI (c), nI (D + 1), b_result, b_param, a_start, b_finished, a_tokOp, a_tokArg, a_tokType, b_first, b_second, b_cellKind, b_freed, b_fn, b_born, b_actual, b_value, b_known) := by
  have ht := S.1.1
  have hA : (sp_A a_sigType a_tokOp a_tokArg) i = 1 := by unfold sp_A sp_ar; rw [h]; rfl
  refine ev_one S IH pre hN (Or.inl hA) (by rw [h]; decide) (by rw [h]; decide) (by rw [h]; decide) (fun c' x4' y4' f_freeCell' f_peakUsed' g_used' a_cellA' a_cellB' a_link' a_live' a_frameFunction' a_vars' a_saved' a_env' a_regionFirst' a_tasks' a_values' a_used' b_first' b_second' b_cellKind' b_freed' b_fn' b_born' b_actual' b_value' b_known' md' mu' rg' av' FL' m2 => ?_)
  obtain ⟨⟨m1, m2, m3, m4, m5⟩, mt, kx, ky, kn0, hh, hx, hv0, hC⟩ := m2
  have pre' := pre
  obtain ⟨⟨p1, p2, p3, p4, p5, p6, p7, p8, p9⟩, ht0, hF, hH, hNv, hk0, hP⟩ := pre
  have dl24 := S.2.2.2.2.2.2.2.2.2.2.2.2.2.2.1
  have ns10 := (pc_tok S.1 p1).2.2.2.2.2.1
  have hf := pc_fo S.1 p1
  have c0 := pc_c0 S.1 p1 (by omega)
  have l0 := c0.2.2.2.1
  have ee := pc_e1 S.1 p1 hA
  have ec := pc_end S.1 l0
  have hty : a_tokType i = 0 ∧ (a_tokArg i = 2 ∨ a_tokArg i = 3) := by
    have K := pc_opk S.1 p1
    unfold sp_opk at K
    rw [h] at K
    rcases K with ⟨z, -⟩ | ⟨z, -⟩ | ⟨z, -⟩ | z | ⟨z, -⟩ | ⟨z, -⟩ | ⟨z, -⟩ | ⟨z, -⟩ | ⟨z, -⟩ | ⟨z, -⟩ | ⟨-, z⟩ | ⟨z, -⟩ | ⟨z, -⟩
    case inr.inr.inr.inr.inr.inr.inr.inr.inr.inr.inl => exact z
    all_goals exact absurd z (by decide)
  have tc : a_tokType (i + 1) = a_tokArg i := by rw [c0.2.2.2.2.2.2, h]; rfl
  have md96 : md' ≤ 9600 := by omega
  have hcl := S.2.2.2.2.2.2.2.2.2.2.1
  have rr : (a_values' vt = -1 ∧ b_value' (D * 97 + (i + 1)) = -1) ∨ ∃ e, b_value' (D * 97 + (i + 1)) = nI e ∧ a_values' vt = nI (mu' e) ∧ e < md' ∧ av' e := by
    rw [tc] at hv0
    rcases hty.2 with w | w
    · rw [w] at hv0
      rcases vr_c2 md96 hv0 with z | ⟨e, l, z1, z2, z3, z4, -⟩
      · exact Or.inl z
      · exact Or.inr ⟨e, z1, z2, z3, z4⟩
    · rw [w] at hv0
      rcases vr_c3 md96 hv0 with z | ⟨e, l, z1, z2, z3, z4, -⟩
      · exact Or.inl z
      · exact Or.inr ⟨e, z1, z2, z3, z4⟩
  have eq : (if 0 ≤ a_values' vt then (0 : Int32) else 1) = (if 0 ≤ b_value' (D * 97 + (i + 1)) then 0 else 1) := by
    rcases rr with ⟨w1, w2⟩ | ⟨e, w2, w3, w4, w5⟩
    · rw [w1, w2]
    · have := (hh.1.2.1 e w4 w5).2.1
      rw [w2, w3, if_pos (nI_pos' (by omega)), if_pos (nI_pos' (by omega))]
  refine ev_fin (vm := vt + 1) (x := if 0 ≤ a_values' vt then (0 : Int32) else 1) (y := if 0 ≤ b_value' (D * 97 + (i + 1)) then (0 : Int32) else 1) S pre' ⟨m1, m2, by omega, by omega, by omega⟩ kx (k_Y_up ky (Nat.le_refl _) (by omega)) hh hx hC (nx1 hA kn0) (ru_advC mt (by omega) (by omega) (rc_isnil (by omega) h (by omega))) (fun q1 q2 => ye_isnil S.2.2.2.2.2.2.1 S.1 S.2.2.2.2.2.2.2.2.2.2.2.2.2.2.2.1 S.2.2.2.2.2.1 (by omega) hf q2 p1 q1 h) ?_ K
  rw [hty.1, eq]; exact vr_int
end
end
section
section
variable {f_functionLimit f_tokenLimit f_cellLimit f_depthLimit f_functions f_accepted f_placed f_openBody f_holeCount f_nextRegion f_changed g_maxFunctions g_maxTokens g_maxCells g_maxDepth g_functions g_tokens g_open g_accepted g_answer : Int32} {a_sigType a_params a_kept a_start a_finished a_tokOp a_tokArg a_tokType a_tokScope a_end a_holeType a_holeNest a_holeScope a_holeVars a_parent a_region a_sigRegions a_allRegions a_result b_result b_param b_finished : Nat → Int32} {nf t cl dl : Nat} {rl : Int32} {sN fo en sg al : Nat → Nat} {FIN : Int32 → SX → SY → Prop} {f_freeCell f_peakUsed g_used : Int32} {a_cellA a_cellB a_link a_live a_frameFunction a_vars a_saved a_env a_regionFirst a_tasks a_values a_used b_first b_second b_cellKind b_freed b_fn b_born b_actual b_value b_known : Nat → Int32} {md : Nat} {mu rg : Nat → Nat} {av : Nat → Prop} {FL : List Nat}
variable {i D c tt vt x4 y4 N : Nat} {OP : Nat → Prop}
theorem ev_read (S : rs_S f_cellLimit f_depthLimit g_maxCells g_maxDepth g_tokens a_sigType a_params a_kept a_start a_tokOp a_tokArg a_tokType a_tokScope a_end a_region a_sigRegions a_allRegions b_result b_param nf t cl dl rl sN fo en sg al) (FS : ev_S f_functionLimit f_tokenLimit f_cellLimit f_depthLimit f_functions f_accepted f_placed f_openBody f_holeCount f_nextRegion f_changed g_maxFunctions g_maxTokens g_maxCells g_maxDepth g_functions g_tokens g_open g_accepted g_answer a_sigType a_params a_kept a_start a_finished a_tokOp a_tokArg a_tokType a_tokScope a_end a_holeType a_holeNest a_holeScope a_holeVars a_parent a_region a_sigRegions a_allRegions a_result b_result b_param b_finished nf t cl dl rl sN fo en sg al FIN) (IH : EVp f_functionLimit f_tokenLimit f_cellLimit f_depthLimit f_functions f_accepted f_placed f_openBody f_holeCount f_nextRegion f_changed g_maxFunctions g_maxTokens g_maxCells g_maxDepth g_functions g_tokens g_open g_accepted g_answer a_sigType a_params a_kept a_start a_finished a_tokOp a_tokArg a_tokType a_tokScope a_end a_holeType a_holeNest a_holeScope a_holeVars a_parent a_region a_sigRegions a_allRegions a_result b_result b_param b_finished nf t cl dl rl sN fo en sg al FIN N) (pre : ev_pre f_functionLimit f_tokenLimit f_cellLimit f_depthLimit f_functions f_accepted f_placed f_openBody f_holeCount f_nextRegion f_changed g_maxFunctions g_maxTokens g_maxCells g_maxDepth g_functions g_tokens g_open g_accepted g_answer a_sigType a_params a_kept a_start a_finished a_tokOp a_tokArg a_tokType a_tokScope a_end a_holeType a_holeNest a_holeScope a_holeVars a_parent a_region a_sigRegions a_allRegions a_result b_result b_param b_finished nf t cl dl rl sN fo en sg al FIN i D c tt vt x4 y4 OP f_freeCell f_peakUsed g_used a_cellA a_cellB a_link a_live a_frameFunction a_vars a_saved a_env a_regionFirst a_tasks a_values a_used b_first b_second b_cellKind b_freed b_fn b_born b_actual b_value b_known md mu rg av FL) (hN : (200 - c) * 100 + (en i - i) ≤ N + 1) (h : a_tokOp i = 9 ∨ a_tokOp i = 10 ∨ a_tokOp i = 13) (K : ∀ (c' x4' y4' : Nat) (f_freeCell' f_peakUsed' g_used' : Int32) (a_cellA' a_cellB' a_link' a_live' a_frameFunction' a_vars' a_saved' a_env' a_regionFirst' a_tasks' a_values' a_used' b_first' b_second' b_cellKind' b_freed' b_fn' b_born' b_actual' b_value' b_known' : Nat → Int32) (md' : Nat) (mu' rg' : Nat → Nat) (av' : Nat → Prop) (FL' : List Nat), ev_post f_functionLimit f_tokenLimit f_cellLimit f_depthLimit f_functions f_accepted f_placed f_openBody f_holeCount f_nextRegion f_changed g_maxFunctions g_maxTokens g_maxCells g_maxDepth g_functions g_tokens g_open g_accepted g_answer a_sigType a_params a_kept a_start a_finished a_tokOp a_tokArg a_tokType a_tokScope a_end a_holeType a_holeNest a_holeScope a_holeVars a_parent a_region a_sigRegions a_allRegions a_result b_result b_param b_finished nf t cl dl rl sN fo en sg al FIN i D c tt vt x4 y4 OP f_freeCell f_peakUsed g_used a_cellA a_cellB a_link a_live a_frameFunction a_vars a_saved a_env a_regionFirst a_tasks a_values a_used b_first b_second b_cellKind b_freed b_fn b_born b_actual b_value b_known md mu rg av FL c' x4' y4' f_freeCell' f_peakUsed' g_used' a_cellA' a_cellB' a_link' a_live' a_frameFunction' a_vars' a_saved' a_env' a_regionFirst' a_tasks' a_values' a_used' b_first' b_second' b_cellKind' b_freed' b_fn' b_born' b_actual' b_value' b_known' md' mu' rg' av' FL' → rj FIN rl x4' (f_functionLimit, f_tokenLimit, f_cellLimit, f_depthLimit, f_functions, f_accepted, f_placed, f_openBody, f_holeCount, f_nextRegion, f_changed, f_freeCell', nI (D + 1), nI (c'), nI (tt), nI (vt + 1), rl, 0, f_peakUsed', 0, a_sigType, a_params, a_kept, a_start, a_finished, a_tokOp, a_tokArg, a_tokType, a_tokScope, a_end, a_holeType, a_holeNest, a_holeScope, a_holeVars, a_parent, a_region, a_sigRegions, a_allRegions, a_cellA', a_cellB', a_link', a_live', a_frameFunction', a_vars', a_saved', a_env', a_regionFirst', a_tasks', a_values', a_used', a_result) y4' (g_maxFunctions, g_maxTokens, g_maxCells, g_maxDepth, g_functions, g_tokens, g_open, g_accepted, nI md', g_used', f_peakUsed', 0, g_answer, nI (c'), nI (D + 1), b_result, b_param, a_start, b_finished, a_tokOp, a_tokArg, a_tokType, b_first', b_second', b_cellKind', b_freed', b_fn', b_born', b_actual', b_value', b_known')) : rj FIN rl x4 (f_functionLimit, f_tokenLimit, f_cellLimit, f_depthLimit, f_functions, f_accepted, f_placed, f_openBody, f_holeCount, f_nextRegion, f_changed, f_freeCell, nI (D + 1), nI (c), nI (tt + 1), nI (vt), rl, 0, f_peakUsed, 0, a_sigType, a_params, a_kept, a_start, a_finished, a_tokOp, a_tokArg, a_tokType, a_tokScope, a_end, a_holeType, a_holeNest, a_holeScope, a_holeVars, a_parent, a_region, a_sigRegions, a_allRegions, a_cellA, a_cellB, a_link, a_live, a_frameFunction, a_vars, a_saved, a_env, a_regionFirst, a_tasks, a_values, a_used, a_result) y4 (g_maxFunctions, g_maxTokens, g_maxCells, g_maxDepth, g_functions, g_tokens, g_open, g_accepted, nI md, g_used, f_peakUsed, 0, g_answer, nI (c), nI (D + 1), b_result, b_param, a_start, b_finished, a_tokOp, a_tokArg, a_tokType, b_first, b_second, b_cellKind, b_freed, b_fn, b_born, b_actual, b_value, b_known) := by
  have ht := S.1.1
  have hA : (sp_A a_sigType a_tokOp a_tokArg) i = 1 := by
    rcases h with h | h | h
    · unfold sp_A sp_ar; rw [h]; rfl
    · unfold sp_A sp_ar; rw [h]; rfl
    · unfold sp_A sp_ar; rw [h]; rfl
  have n17 : a_tokOp i ≠ 1 ∧ a_tokOp i ≠ 2 ∧ a_tokOp i ≠ 7 := by
    rcases h with h | h | h
    · rw [h]; decide
    · rw [h]; decide
    · rw [h]; decide
  refine ev_one S IH pre hN (Or.inl hA) n17.1 n17.2.1 n17.2.2 (fun c' x4' y4' f_freeCell' f_peakUsed' g_used' a_cellA' a_cellB' a_link' a_live' a_frameFunction' a_vars' a_saved' a_env' a_regionFirst' a_tasks' a_values' a_used' b_first' b_second' b_cellKind' b_freed' b_fn' b_born' b_actual' b_value' b_known' md' mu' rg' av' FL' m2 => ?_)
  obtain ⟨⟨m1, m2, m3, m4, m5⟩, mt, kx, ky, kn0, hh, hx, hv0, hC⟩ := m2
  have pre' := pre
  obtain ⟨⟨p1, p2, p3, p4, p5, p6, p7, p8, p9⟩, ht0, hF, hH, hNv, hk0, hP⟩ := pre
  have dl24 := S.2.2.2.2.2.2.2.2.2.2.2.2.2.2.1
  have ns10 := (pc_tok S.1 p1).2.2.2.2.2.1
  have hf := pc_fo S.1 p1
  have c0 := pc_c0 S.1 p1 (by omega)
  have l0 := c0.2.2.2.1
  have ee := pc_e1 S.1 p1 hA
  have ec := pc_end S.1 l0
  have md96 : md' ≤ 9600 := by omega
  have hcl := S.2.2.2.2.2.2.2.2.2.2.1
  have KO := pc_opk S.1 p1
  have CS := S.2.1.2.2.2.1 i p1
  -- an empty list
  have EM : a_tokOp i = 9 ∨ a_tokOp i = 10 → a_values' vt = -1 → b_value' (D * 97 + (i + 1)) = -1 → rj FIN rl x4' (f_functionLimit, f_tokenLimit, f_cellLimit, f_depthLimit, f_functions, f_accepted, f_placed, f_openBody, f_holeCount, f_nextRegion, f_changed, f_freeCell', nI (D + 1), nI (c'), nI (tt + 1), nI (vt + 1), rl, 0, f_peakUsed', 0, a_sigType, a_params, a_kept, a_start, a_finished, a_tokOp, a_tokArg, a_tokType, a_tokScope, a_end, a_holeType, a_holeNest, a_holeScope, a_holeVars, a_parent, a_region, a_sigRegions, a_allRegions, a_cellA', a_cellB', a_link', a_live', a_frameFunction', a_vars', a_saved', a_env', a_regionFirst', a_tasks', a_values', a_used', a_result) y4' (g_maxFunctions, g_maxTokens, g_maxCells, g_maxDepth, g_functions, g_tokens, g_open, g_accepted, nI md', g_used', f_peakUsed', 0, g_answer, nI (c'), nI (D + 1), b_result, b_param, a_start, b_finished, a_tokOp, a_tokArg, a_tokType, b_first', b_second', b_cellKind', b_freed', b_fn', b_born', b_actual', b_value', b_known') := by
    intro ho w1 w2
    exact ev_stop (vm := vt + 1) (vn := vt) (oc := 2) S FS pre' ⟨m2, by omega, by omega, by omega⟩ (k_Y_up ky (Nat.le_refl _) (by omega)) hh (nx1 hA kn0) (by decide) (by decide) (ru_advC mt (by omega) (by omega) (rc_readE (by omega) h (by omega) w1)) (fun q1 q2 => ye_readE S.2.2.2.2.2.2.1 S.1 S.2.2.2.2.2.2.2.2.2.2.2.2.2.2.2.1 S.2.2.2.2.2.1 (by omega) hf q2 p1 q1 ho w2)
  -- a cell
  have OK : ∀ (e : Nat) (x y : Int32), b_value' (D * 97 + (i + 1)) = nI e → a_values' vt = nI (mu' e) → e < md' → av' e → (¬ rd_2 (a_tokOp i) (a_tokArg i) → x = a_cellA' (mu' e) ∧ y = b_first' e) → (rd_2 (a_tokOp i) (a_tokArg i) → x = a_cellB' (mu' e) ∧ y = b_second' e) → (a_tokOp i = 9 ∨ a_tokOp i = 10 ∨ (a_tokOp i = 13 ∧ (a_tokArg i = 0 ∨ a_tokArg i = 1))) → vr_V md' b_first' b_second' b_cellKind' mu' rg' av' (a_tokType i) (er a_env a_region D (2 * i)) (er a_env a_region D (2 * i + 1)) (x) (y) → rj FIN rl x4' (f_functionLimit, f_tokenLimit, f_cellLimit, f_depthLimit, f_functions, f_accepted, f_placed, f_openBody, f_holeCount, f_nextRegion, f_changed, f_freeCell', nI (D + 1), nI (c'), nI (tt + 1), nI (vt + 1), rl, 0, f_peakUsed', 0, a_sigType, a_params, a_kept, a_start, a_finished, a_tokOp, a_tokArg, a_tokType, a_tokScope, a_end, a_holeType, a_holeNest, a_holeScope, a_holeVars, a_parent, a_region, a_sigRegions, a_allRegions, a_cellA', a_cellB', a_link', a_live', a_frameFunction', a_vars', a_saved', a_env', a_regionFirst', a_tasks', a_values', a_used', a_result) y4' (g_maxFunctions, g_maxTokens, g_maxCells, g_maxDepth, g_functions, g_tokens, g_open, g_accepted, nI md', g_used', f_peakUsed', 0, g_answer, nI (c'), nI (D + 1), b_result, b_param, a_start, b_finished, a_tokOp, a_tokArg, a_tokType, b_first', b_second', b_cellKind', b_freed', b_fn', b_born', b_actual', b_value', b_known') := by
    intro e x y w1 w2 w3 w4 r0 r1 ho hV
    obtain ⟨g1, g2, g3, g4, g5⟩ := hh.1.2.1 e w3 w4
    exact ev_fin (vm := vt + 1) (x := x) (y := y) S pre' ⟨m1, m2, by omega, by omega, by omega⟩ kx (k_Y_up ky (Nat.le_refl _) (by omega)) hh hx hC (nx1 hA kn0) (ru_advC mt (by omega) (by omega) (rc_read (by omega) h (by omega) w2 S.2.2.2.2.2.2.2.1 g2 hcl g3 (fun q => (r0 q).1) (fun q => (r1 q).1))) (fun q1 q2 => ye_read S.2.2.2.2.2.2.1 S.1 S.2.2.2.2.2.2.2.2.2.2.2.2.2.2.2.1 S.2.2.2.2.2.1 (by omega) hf q2 p1 q1 ho w1 rfl w3 md96 g1 (fun q => (r0 q).2) (fun q => (r1 q).2)) hV K
  have hK : ∀ e, e < md' → av' e → hi_K mu' e (b_cellKind' e) (a_cellA' (mu' e)) (a_cellB' (mu' e)) (b_first' e) (b_second' e) := fun e a b => (hh.1.2.1 e a b).2.2.2.2
  rcases h with h | h | h
  · -- HEAD
    have nrd : ¬ rd_2 (a_tokOp i) (a_tokArg i) := by
      rw [h]
      exact fun q => q.elim (fun w => absurd w (by decide)) (fun w => absurd w.1 (by decide))
    have hty : a_tokType i = 0 ∨ a_tokType i = 1 := by
      unfold sp_opk at KO
      rw [h] at KO
      rcases KO with ⟨z, -⟩ | ⟨z, -⟩ | ⟨z, -⟩ | z | ⟨z, -⟩ | ⟨z, -⟩ | ⟨z, -⟩ | ⟨z, -⟩ | ⟨-, z⟩ | ⟨z, -⟩ | ⟨z, -⟩ | ⟨z, -⟩ | ⟨z, -⟩
      case inr.inr.inr.inr.inr.inr.inr.inr.inl => exact z
      all_goals exact absurd z (by decide)
    rcases hty with w | w
    · have tc : a_tokType (i + 1) = 2 := by rw [c0.2.2.2.2.2.2, h, w]; rfl
      rw [tc] at hv0
      rcases vr_c2 md96 hv0 with z | ⟨e, l, z1, z2, z3, z4, z5, z6, z7⟩
      · exact EM (Or.inl h) z.1 z.2
      · have k2 := ((hK e z3 z4).2.1 z5).1
        refine OK e _ _ z1 z2 z3 z4 (fun _ => ⟨rfl, rfl⟩) (fun q => absurd q nrd) (Or.inl h) ?_
        rw [w, k2]; exact vr_int
    · have tc : a_tokType (i + 1) = 3 := by rw [c0.2.2.2.2.2.2, h, w]; rfl
      rw [tc] at hv0
      rcases vr_c3 md96 hv0 with z | ⟨e, l, z1, z2, z3, z4, z5, z6, ⟨e', z7, z8⟩, z9⟩
      · exact EM (Or.inl h) z.1 z.2
      · have k3 := ((hK e z3 z4).2.2 z5).1
        have sp := CS.2.2.2.2.1 h w
        refine OK e _ _ z1 z2 z3 z4 (fun _ => ⟨rfl, rfl⟩) (fun q => absurd q nrd) (Or.inl h) ?_
        rw [w]
        refine ⟨fun q => absurd q (by decide), fun _ => ⟨e', ⟨z8.1, z8.2.1, z8.2.2.1, ?_⟩, z7, ?_⟩, fun q => absurd q (by decide), fun q => absurd q (by decide)⟩
        · rw [z8.2.2.2]; unfold er; rw [sp]
        · rcases k3 with ⟨v1, v2⟩ | ⟨e2, v1, v2, v3⟩
          · rw [z7] at v2
            exact absurd v2 (nI_nm1 (by have := z8.1; omega))
          · have : e2 = e' := (nI_eq (by omega) (by have := z8.1; omega)).mp (v2.symm.trans z7)
            rw [v3, this]
  · -- TAIL
    have rd : rd_2 (a_tokOp i) (a_tokArg i) := Or.inl h
    have hty : a_tokType i = 2 ∨ a_tokType i = 3 := by
      unfold sp_opk at KO
      rw [h] at KO
      rcases KO with ⟨z, -⟩ | ⟨z, -⟩ | ⟨z, -⟩ | z | ⟨z, -⟩ | ⟨z, -⟩ | ⟨z, -⟩ | ⟨z, -⟩ | ⟨z, -⟩ | ⟨-, z⟩ | ⟨z, -⟩ | ⟨z, -⟩ | ⟨z, -⟩
      case inr.inr.inr.inr.inr.inr.inr.inr.inr.inl => exact z
      all_goals exact absurd z (by decide)
    have tc : a_tokType (i + 1) = a_tokType i := by rw [c0.2.2.2.2.2.2, h]; rfl
    have sp := CS.2.2.2.2.2 h
    rw [tc] at hv0
    have hv1 : vr_V md' b_first' b_second' b_cellKind' mu' rg' av' (a_tokType i) (er a_env a_region D (2 * i)) (er a_env a_region D (2 * i + 1)) (a_values' vt) (b_value' (D * 97 + (i + 1))) := vr_reg hv0 (fun k => by unfold er; rw [sp.1 k]) (fun k => by unfold er; rw [sp.2 k])
    rcases hty with w | w
    · rw [w] at hv1
      rcases vr_c2 md96 hv1 with z | ⟨e, l, z1, z2, z3, z4, z5, z6, z7⟩
      · exact EM (Or.inr h) z.1 z.2
      · have k2 := ((hK e z3 z4).2.1 z5).2
        refine OK e _ _ z1 z2 z3 z4 (fun q => absurd rd q) (fun _ => ⟨rfl, rfl⟩) (Or.inr (Or.inl h)) ?_
        rw [w]
        exact ⟨fun q => absurd q (by decide), fun q => absurd q (by decide), fun _ => ⟨vr_R_up (by omega) k2, l, z7⟩, fun q => absurd q (by decide)⟩
    · rw [w] at hv1
      rcases vr_c3 md96 hv1 with z | ⟨e, l, z1, z2, z3, z4, z5, z6, z8, z9⟩
      · exact EM (Or.inr h) z.1 z.2
      · have k3 := ((hK e z3 z4).2.2 z5).2
        refine OK e _ _ z1 z2 z3 z4 (fun q => absurd rd q) (fun _ => ⟨rfl, rfl⟩) (Or.inr (Or.inl h)) ?_
        rw [w]
        exact ⟨fun q => absurd q (by decide), fun q => absurd q (by decide), fun q => absurd q (by decide), fun _ => ⟨vr_R_up (by omega) k3, l, z9⟩⟩
  · -- PART
    have hty : a_tokType i = 0 ∧ (a_tokArg i = 0 ∨ a_tokArg i = 1) := by
      unfold sp_opk at KO
      rw [h] at KO
      rcases KO with ⟨z, -⟩ | ⟨z, -⟩ | ⟨z, -⟩ | z | ⟨z, -⟩ | ⟨z, -⟩ | ⟨z, -⟩ | ⟨z, -⟩ | ⟨z, -⟩ | ⟨z, -⟩ | ⟨z, -⟩ | ⟨z, -⟩ | ⟨-, z⟩
      case inr.inr.inr.inr.inr.inr.inr.inr.inr.inr.inr.inr => exact z
      all_goals exact absurd z (by decide)
    have tc : a_tokType (i + 1) = 1 := by rw [c0.2.2.2.2.2.2, h]; rfl
    rw [tc] at hv0
    obtain ⟨e, ⟨z3, z4, z5, z6⟩, z1, z2⟩ := hv0.2.1 rfl
    have k1 := (hK e z3 z4).1 z5
    rcases Classical.em (rd_2 (a_tokOp i) (a_tokArg i)) with rd | rd
    · refine OK e _ _ z1 z2 z3 z4 (fun q => absurd rd q) (fun _ => ⟨rfl, rfl⟩) (Or.inr (Or.inr ⟨h, hty.2⟩)) ?_
      rw [hty.1, k1.2]; exact vr_int
    · refine OK e _ _ z1 z2 z3 z4 (fun _ => ⟨rfl, rfl⟩) (fun q => absurd q rd) (Or.inr (Or.inr ⟨h, hty.2⟩)) ?_
      rw [hty.1, k1.1]; exact vr_int
end
end
section
theorem cn_s3 {ck fr : Nat → Int32} : ∀ {N : Nat}, (∀ e, e < N → ck e = 1 ∨ ck e = 2 ∨ ck e = 3) → cn (fun e => ck e = nI 1 ∧ fr e = 0) N + cn (fun e => ck e = nI 2 ∧ fr e = 0) N + cn (fun e => ck e = nI 3 ∧ fr e = 0) N = cn (fun e => fr e = 0) N
  | 0, _ => rfl
  | N + 1, h => by
    have ih := cn_s3 (fr := fr) (N := N) (fun e he => h e (by omega))
    have d12 : (1 : Int32) ≠ nI 2 := by decide
    have d13 : (1 : Int32) ≠ nI 3 := by decide
    have d21 : (2 : Int32) ≠ nI 1 := by decide
    have d23 : (2 : Int32) ≠ nI 3 := by decide
    have d31 : (3 : Int32) ≠ nI 1 := by decide
    have d32 : (3 : Int32) ≠ nI 2 := by decide
    rcases Classical.em (fr N = 0) with z | z
    · rcases h N (by omega) with w | w | w
      · rw [cn_t (P := fun e => ck e = nI 1 ∧ fr e = 0) ⟨w, z⟩, cn_f (P := fun e => ck e = nI 2 ∧ fr e = 0) (fun q => d12 (w.symm.trans q.1)), cn_f (P := fun e => ck e = nI 3 ∧ fr e = 0) (fun q => d13 (w.symm.trans q.1)), cn_t (P := fun e => fr e = 0) z]
        omega
      · rw [cn_f (P := fun e => ck e = nI 1 ∧ fr e = 0) (fun q => d21 (w.symm.trans q.1)), cn_t (P := fun e => ck e = nI 2 ∧ fr e = 0) ⟨w, z⟩, cn_f (P := fun e => ck e = nI 3 ∧ fr e = 0) (fun q => d23 (w.symm.trans q.1)), cn_t (P := fun e => fr e = 0) z]
        omega
      · rw [cn_f (P := fun e => ck e = nI 1 ∧ fr e = 0) (fun q => d31 (w.symm.trans q.1)), cn_f (P := fun e => ck e = nI 2 ∧ fr e = 0) (fun q => d32 (w.symm.trans q.1)), cn_t (P := fun e => ck e = nI 3 ∧ fr e = 0) ⟨w, z⟩, cn_t (P := fun e => fr e = 0) z]
        omega
    · rw [cn_f (P := fun e => ck e = nI 1 ∧ fr e = 0) (fun q => z q.2), cn_f (P := fun e => ck e = nI 2 ∧ fr e = 0) (fun q => z q.2), cn_f (P := fun e => ck e = nI 3 ∧ fr e = 0) (fun q => z q.2), cn_f (P := fun e => fr e = 0) z]
      exact ih
theorem ct_sum {cl md : Nat} {us : Nat → Int32} {uy : Int32} {ck fr : Nat → Int32} (h : hi_ct cl md us uy ck fr) (hck : ∀ e, e < md → ck e = 1 ∨ ck e = 2 ∨ ck e = 3) : us 1 + us 2 + us 3 = nI (cn (fun e => fr e = 0) md) := by
  rw [h.2.2 1 (by omega) (by omega), h.2.2 2 (by omega) (by omega), h.2.2 3 (by omega) (by omega), nI_add, nI_add, cn_s3 hck]
theorem ct_alloc {cl md κ : Nat} {us : Nat → Int32} {uy : Int32} {ck fr : Nat → Int32} (h : hi_ct cl md us uy ck fr) (hk1 : 1 ≤ κ) (hk3 : κ ≤ 3) (hn : cn (fun e => fr e = 0) md < cl) : hi_ct cl (md + 1) (upd us κ (us κ + 1)) (nI (cn (fun e => fr e = 0) md + 1)) (upd ck md (nI κ)) (upd fr md 0) := by
  have e0 : cn (fun e => upd fr md 0 e = 0) (md + 1) = cn (fun e => fr e = 0) md + 1 := by
    rw [cn_t (P := fun e => upd fr md 0 e = 0) pk_us]
    rw [cn_eq (P := fun e => upd fr md 0 e = 0) (Q := fun e => fr e = 0) (fun e he => by rw [pk_un (by omega)])]
  refine ⟨by rw [e0], by rw [e0]; omega, fun k k1 k3 => ?_⟩
  have e1 : cn (fun e => upd ck md (nI κ) e = nI k ∧ upd fr md 0 e = 0) md = cn (fun e => ck e = nI k ∧ fr e = 0) md := cn_eq (fun e he => by rw [pk_un (by omega), pk_un (by omega)])
  by_cases z : k = κ
  · subst z
    rw [pk_us, cn_t (P := fun e => upd ck md (nI k) e = nI k ∧ upd fr md 0 e = 0) ⟨pk_us, pk_us⟩, e1, h.2.2 k k1 k3, nI_1]
  · rw [pk_un z, cn_f (P := fun e => upd ck md (nI κ) e = nI k ∧ upd fr md 0 e = 0) (fun q => z ?_), e1]
    · exact h.2.2 k k1 k3
    · have := q.1
      rw [pk_us] at this
      exact ((nI_eq (by omega) (by omega)).mp this).symm
section
variable {f_functionLimit f_tokenLimit f_cellLimit f_depthLimit f_functions f_accepted f_placed f_openBody f_holeCount f_nextRegion f_changed g_maxFunctions g_maxTokens g_maxCells g_maxDepth g_functions g_tokens g_open g_accepted g_answer : Int32} {a_sigType a_params a_kept a_start a_finished a_tokOp a_tokArg a_tokType a_tokScope a_end a_holeType a_holeNest a_holeScope a_holeVars a_parent a_region a_sigRegions a_allRegions a_result b_result b_param b_finished : Nat → Int32} {nf t cl dl : Nat} {rl : Int32} {sN fo en sg al : Nat → Nat} {FIN : Int32 → SX → SY → Prop} {f_freeCell f_peakUsed g_used : Int32} {a_cellA a_cellB a_link a_live a_frameFunction a_vars a_saved a_env a_regionFirst a_tasks a_values a_used b_first b_second b_cellKind b_freed b_fn b_born b_actual b_value b_known : Nat → Int32} {md : Nat} {mu rg : Nat → Nat} {av : Nat → Prop} {FL : List Nat}
variable {i D c tt vt x4 y4 N : Nat} {OP : Nat → Prop}
theorem ev_make (S : rs_S f_cellLimit f_depthLimit g_maxCells g_maxDepth g_tokens a_sigType a_params a_kept a_start a_tokOp a_tokArg a_tokType a_tokScope a_end a_region a_sigRegions a_allRegions b_result b_param nf t cl dl rl sN fo en sg al) (FS : ev_S f_functionLimit f_tokenLimit f_cellLimit f_depthLimit f_functions f_accepted f_placed f_openBody f_holeCount f_nextRegion f_changed g_maxFunctions g_maxTokens g_maxCells g_maxDepth g_functions g_tokens g_open g_accepted g_answer a_sigType a_params a_kept a_start a_finished a_tokOp a_tokArg a_tokType a_tokScope a_end a_holeType a_holeNest a_holeScope a_holeVars a_parent a_region a_sigRegions a_allRegions a_result b_result b_param b_finished nf t cl dl rl sN fo en sg al FIN) (IH : EVp f_functionLimit f_tokenLimit f_cellLimit f_depthLimit f_functions f_accepted f_placed f_openBody f_holeCount f_nextRegion f_changed g_maxFunctions g_maxTokens g_maxCells g_maxDepth g_functions g_tokens g_open g_accepted g_answer a_sigType a_params a_kept a_start a_finished a_tokOp a_tokArg a_tokType a_tokScope a_end a_holeType a_holeNest a_holeScope a_holeVars a_parent a_region a_sigRegions a_allRegions a_result b_result b_param b_finished nf t cl dl rl sN fo en sg al FIN N) (pre : ev_pre f_functionLimit f_tokenLimit f_cellLimit f_depthLimit f_functions f_accepted f_placed f_openBody f_holeCount f_nextRegion f_changed g_maxFunctions g_maxTokens g_maxCells g_maxDepth g_functions g_tokens g_open g_accepted g_answer a_sigType a_params a_kept a_start a_finished a_tokOp a_tokArg a_tokType a_tokScope a_end a_holeType a_holeNest a_holeScope a_holeVars a_parent a_region a_sigRegions a_allRegions a_result b_result b_param b_finished nf t cl dl rl sN fo en sg al FIN i D c tt vt x4 y4 OP f_freeCell f_peakUsed g_used a_cellA a_cellB a_link a_live a_frameFunction a_vars a_saved a_env a_regionFirst a_tasks a_values a_used b_first b_second b_cellKind b_freed b_fn b_born b_actual b_value b_known md mu rg av FL) (hN : (200 - c) * 100 + (en i - i) ≤ N + 1) (h : a_tokOp i = 8 ∨ a_tokOp i = 12) (K : ∀ (c' x4' y4' : Nat) (f_freeCell' f_peakUsed' g_used' : Int32) (a_cellA' a_cellB' a_link' a_live' a_frameFunction' a_vars' a_saved' a_env' a_regionFirst' a_tasks' a_values' a_used' b_first' b_second' b_cellKind' b_freed' b_fn' b_born' b_actual' b_value' b_known' : Nat → Int32) (md' : Nat) (mu' rg' : Nat → Nat) (av' : Nat → Prop) (FL' : List Nat), ev_post f_functionLimit f_tokenLimit f_cellLimit f_depthLimit f_functions f_accepted f_placed f_openBody f_holeCount f_nextRegion f_changed g_maxFunctions g_maxTokens g_maxCells g_maxDepth g_functions g_tokens g_open g_accepted g_answer a_sigType a_params a_kept a_start a_finished a_tokOp a_tokArg a_tokType a_tokScope a_end a_holeType a_holeNest a_holeScope a_holeVars a_parent a_region a_sigRegions a_allRegions a_result b_result b_param b_finished nf t cl dl rl sN fo en sg al FIN i D c tt vt x4 y4 OP f_freeCell f_peakUsed g_used a_cellA a_cellB a_link a_live a_frameFunction a_vars a_saved a_env a_regionFirst a_tasks a_values a_used b_first b_second b_cellKind b_freed b_fn b_born b_actual b_value b_known md mu rg av FL c' x4' y4' f_freeCell' f_peakUsed' g_used' a_cellA' a_cellB' a_link' a_live' a_frameFunction' a_vars' a_saved' a_env' a_regionFirst' a_tasks' a_values' a_used' b_first' b_second' b_cellKind' b_freed' b_fn' b_born' b_actual' b_value' b_known' md' mu' rg' av' FL' → rj FIN rl x4' (f_functionLimit, f_tokenLimit, f_cellLimit, f_depthLimit, f_functions, f_accepted, f_placed, f_openBody, f_holeCount, f_nextRegion, f_changed, f_freeCell', nI (D + 1), nI (c'), nI (tt), nI (vt + 1), rl, 0, f_peakUsed', 0, a_sigType, a_params, a_kept, a_start, a_finished, a_tokOp, a_tokArg, a_tokType, a_tokScope, a_end, a_holeType, a_holeNest, a_holeScope, a_holeVars, a_parent, a_region, a_sigRegions, a_allRegions, a_cellA', a_cellB', a_link', a_live', a_frameFunction', a_vars', a_saved', a_env', a_regionFirst', a_tasks', a_values', a_used', a_result) y4' (g_maxFunctions, g_maxTokens, g_maxCells, g_maxDepth, g_functions, g_tokens, g_open, g_accepted, nI md', g_used', f_peakUsed', 0, g_answer, nI (c'), nI (D + 1), b_result, b_param, a_start, b_finished, a_tokOp, a_tokArg, a_tokType, b_first', b_second', b_cellKind', b_freed', b_fn', b_born', b_actual', b_value', b_known')) : rj FIN rl x4 (f_functionLimit, f_tokenLimit, f_cellLimit, f_depthLimit, f_functions, f_accepted, f_placed, f_openBody, f_holeCount, f_nextRegion, f_changed, f_freeCell, nI (D + 1), nI (c), nI (tt + 1), nI (vt), rl, 0, f_peakUsed, 0, a_sigType, a_params, a_kept, a_start, a_finished, a_tokOp, a_tokArg, a_tokType, a_tokScope, a_end, a_holeType, a_holeNest, a_holeScope, a_holeVars, a_parent, a_region, a_sigRegions, a_allRegions, a_cellA, a_cellB, a_link, a_live, a_frameFunction, a_vars, a_saved, a_env, a_regionFirst, a_tasks, a_values, a_used, a_result) y4 (g_maxFunctions, g_maxTokens, g_maxCells, g_maxDepth, g_functions, g_tokens, g_open, g_accepted, nI md, g_used, f_peakUsed, 0, g_answer, nI (c), nI (D + 1), b_result, b_param, a_start, b_finished, a_tokOp, a_tokArg, a_tokType, b_first, b_second, b_cellKind, b_freed, b_fn, b_born, b_actual, b_value, b_known) := by
  have ht := S.1.1
  have hn8 := S.1.2.1
  have hA : (sp_A a_sigType a_tokOp a_tokArg) i = 2 := by
    rcases h with h | h
    · unfold sp_A sp_ar; rw [h]; rfl
    · unfold sp_A sp_ar; rw [h]; rfl
  have n17 : a_tokOp i ≠ 5 ∧ a_tokOp i ≠ 4 ∧ a_tokOp i ≠ 1 ∧ a_tokOp i ≠ 2 ∧ a_tokOp i ≠ 7 := by
    rcases h with h | h
    · rw [h]; decide
    · rw [h]; decide
  refine ev_two S IH pre hN hA n17.1 n17.2.1 n17.2.2.1 n17.2.2.2.1 n17.2.2.2.2 (fun c' x4' y4' f_freeCell' f_peakUsed' g_used' a_cellA' a_cellB' a_link' a_live' a_frameFunction' a_vars' a_saved' a_env' a_regionFirst' a_tasks' a_values' a_used' b_first' b_second' b_cellKind' b_freed' b_fn' b_born' b_actual' b_value' b_known' md' mu' rg' av' FL' m2 => ?_)
  obtain ⟨⟨m1, m2, m3, m4, m5⟩, mt, kx, ky, kn0, kn1, hh, hx, hv0, hv1, hC⟩ := m2
  have pre' := pre
  obtain ⟨⟨p1, p2, p3, p4, p5, p6, p7, p8, p9⟩, ht0, hF, hH, hNv, hk0, hP⟩ := pre
  have dl24 := S.2.2.2.2.2.2.2.2.2.2.2.2.2.2.1
  have ns10 := (pc_tok S.1 p1).2.2.2.2.2.1
  have hf := pc_fo S.1 p1
  have hsN := pc_sN S.1 hf
  have ei := pc_end S.1 p1
  have c0 := pc_c0 S.1 p1 (by omega)
  have c1 := pc_c1 S.1 p1 (by omega)
  have hcl := S.2.2.2.2.2.2.2.2.2.2.1
  have hcX := S.2.2.2.2.2.2.2.1
  have hcY := S.2.2.2.2.2.2.2.2.1
  have KO := pc_opk S.1 p1
  have CS := S.2.1.2.2.2.1 i p1
  have hck : ∀ e, e < md' → b_cellKind' e = 1 ∨ b_cellKind' e = 2 ∨ b_cellKind' e = 3 := fun e he => (hh.1.1 e he).1
  have hsum := ct_sum hh.2.1 hck
  have hnle := hh.2.1.2.1
  have hty : (a_tokType i = 1 ∧ a_tokOp i = 12) ∨ ((a_tokType i = 2 ∨ a_tokType i = 3) ∧ a_tokOp i = 8) := by
    unfold sp_opk at KO
    rcases h with h | h
    · rw [h] at KO
      rcases KO with ⟨z, -⟩ | ⟨z, -⟩ | ⟨z, -⟩ | z | ⟨z, -⟩ | ⟨z, -⟩ | ⟨z, -⟩ | ⟨-, z⟩ | ⟨z, -⟩ | ⟨z, -⟩ | ⟨z, -⟩ | ⟨z, -⟩ | ⟨z, -⟩
      case inr.inr.inr.inr.inr.inr.inr.inl => exact Or.inr ⟨z, h⟩
      all_goals exact absurd z (by decide)
    · rw [h] at KO
      rcases KO with ⟨z, -⟩ | ⟨z, -⟩ | ⟨z, -⟩ | z | ⟨z, -⟩ | ⟨z, -⟩ | ⟨z, -⟩ | ⟨z, -⟩ | ⟨z, -⟩ | ⟨z, -⟩ | ⟨z, -⟩ | ⟨-, z⟩ | ⟨z, -⟩
      case inr.inr.inr.inr.inr.inr.inr.inr.inr.inr.inr.inr.inl => exact Or.inl ⟨z, h⟩
      all_goals exact absurd z (by decide)
  obtain ⟨κ, κ1, κ3, eκ⟩ : ∃ κ : Nat, 1 ≤ κ ∧ κ ≤ 3 ∧ a_tokType i = nI κ := by
    rcases hty with ⟨w, -⟩ | ⟨w | w, -⟩
    · exact ⟨1, by omega, by omega, w⟩
    · exact ⟨2, by omega, by omega, w⟩
    · exact ⟨3, by omega, by omega, w⟩
  -- no room
  rcases Nat.lt_or_ge (cn (fun e => b_freed' e = 0) md') cl with room | room
  case inr =>
    have ecl : cn (fun e => b_freed' e = 0) md' = cl := by omega
    exact ev_stop (vm := vt + 2) (vn := vt) (oc := 3) S FS pre' ⟨m2, by omega, by omega, by omega⟩ ky hh (nx2 hA kn0 kn1) (by decide) (by decide) (ru_advC mt (by omega) (by omega) (rc_makeF (by omega) h (by omega) hcX hsum room (by omega))) (fun q1 q2 => ye_makeF (cl := cl) S.2.2.2.2.2.2.1 S.1 S.2.2.2.2.2.2.2.2.2.2.2.2.2.2.2.1 S.2.2.2.2.2.1 (by omega) hf q2 p1 q1 h (by rw [hh.2.1.1, ecl, hcY]))
  obtain ⟨a1, a2, a3, a4⟩ := ev_at S pre' ky (nx2 hA kn0 kn1)
  obtain ⟨cc, FL2, eFL, efc, lcc⟩ := hi_free hh.1 room
  subst eFL
  -- the region
  have kzz : pc_kz a_sigType a_tokType (if κ = 1 then 2 * i + 1 else 2 * i) = κ := by
    rcases (by omega : κ = 1 ∨ κ = 2 ∨ κ = 3) with rfl | rfl | rfl
    · rw [if_pos rfl, kz_t1 (by omega), eκ]; rfl
    · rw [if_neg (by omega), kz_t0 (by omega), eκ]; rfl
    · rw [if_neg (by omega), kz_t0 (by omega), eκ]; rfl
  obtain ⟨bb, lbb, ebb⟩ : ∃ b, b < 2 ∧ (if κ = 1 then 2 * i + 1 else 2 * i) = 2 * i + b := by
    by_cases z : κ = 1
    · exact ⟨1, by omega, by rw [if_pos z]⟩
    · exact ⟨0, by omega, by rw [if_neg z]; rfl⟩
  obtain ⟨m, lm, em⟩ := S.2.1.2.1 i bb p1 lbb (by rw [← ebb, kzz]; omega)
  have al200 := (S.2.1.1 (fo i) hf).2.2.2
  obtain ⟨R, eR, oR⟩ := hF.2.2.1 m lm
  have lR := hF.2.2.2 R oR
  have eR' : a_env' (200 * D + m) = nI R := by rw [kx.2.2.2.1 _ (by omega)]; exact eR
  have erz : er a_env a_region D (2 * i + bb) = nI R := by
    unfold er
    rw [em, nI_clamp (by omega)]; exact eR
  -- the contents
  have hK : hi_K mu' md' (nI κ) (a_values' vt) (a_values' (vt + 1)) (b_value' (D * 97 + (i + 1))) (b_value' (D * 97 + en (i + 1))) := by
    rcases hty with ⟨w, ho⟩ | ⟨w | w, ho⟩
    · have t0 : a_tokType (i + 1) = 0 := by rw [c0.2.2.2.2.2.2, ho]; rfl
      have t1 : a_tokType (en (i + 1)) = 0 := by rw [c1.2.2.2.2.2.2, ho]; rfl
      rw [← eκ, w]
      exact ⟨fun _ => ⟨hv0.1 t0, hv1.1 t1⟩, fun q => absurd q (by decide), fun q => absurd q (by decide)⟩
    · have t0 : a_tokType (i + 1) = 0 := by rw [c0.2.2.2.2.2.2, ho, w]; rfl
      have t1 : a_tokType (en (i + 1)) = 2 := by rw [c1.2.2.2.2.2.2, ho, w]; rfl
      rw [← eκ, w]
      exact ⟨fun q => absurd q (by decide), fun _ => ⟨hv0.1 t0, (hv1.2.2.1 t1).1⟩, fun q => absurd q (by decide)⟩
    · have t0 : a_tokType (i + 1) = 1 := by rw [c0.2.2.2.2.2.2, ho, w]; rfl
      have t1 : a_tokType (en (i + 1)) = 3 := by rw [c1.2.2.2.2.2.2, ho, w]; rfl
      rw [← eκ, w]
      obtain ⟨e, g1, g2, g3⟩ := hv0.2.1 t0
      exact ⟨fun q => absurd q (by decide), fun q => absurd q (by decide), fun _ => ⟨Or.inr ⟨e, g1.1, g2, g3⟩, (hv1.2.2.2 t1).1⟩⟩
  have hκI : nI κ = 1 ∨ nI κ = 2 ∨ nI κ = 3 := by
    rcases (by omega : κ = 1 ∨ κ = 2 ∨ κ = 3) with rfl | rfl | rfl
    · exact Or.inl rfl
    · exact Or.inr (Or.inl rfl)
    · exact Or.inr (Or.inr rfl)
  have E2 : hx_E md' b_first' b_second' b_cellKind' b_freed' mu' rg' av' (md' + 1) (upd b_first' md' (b_value' (D * 97 + (i + 1)))) (upd b_second' md' (b_value' (D * 97 + en (i + 1)))) (upd b_cellKind' md' (nI κ)) (upd b_freed' md' 0) (uN mu' md' cc) (uN rg' md' R) (fun e => e = md' ∨ av' e) := by
    refine ⟨by omega, fun e he => ?_⟩
    have ne : e ≠ md' := by omega
    exact ⟨pk_un ne, pk_un ne, pk_un ne, pk_un ne, uN_n ne, uN_n ne, ⟨fun q => q.elim (fun w => absurd w ne) id, Or.inr⟩⟩
  have md96 : md' < 9600 := by omega
  -- the steps
  refine rj_xs (by omega) (ru_advC mt (by omega) (by omega) (rc_make (n := cn (fun e => b_freed' e = 0) md') (cl := cl) (c := cc) (m := m) (R := R) (κ := κ) (D := D) (by omega) h (by omega) hcX hsum room hcl efc (by omega) rfl (by omega) eκ (by omega) (by rw [ebb]; exact em) (by omega) (by omega) eR' (by omega) rfl)) ?_
  refine rj_ye (by omega) (by omega) (show fo i < 8 by omega) (show sN (fo i) < 97 by omega) a3 (S.2.2.2.2.2.1 _ hf) a1 (ye_make (md := md') (n := cn (fun e => b_freed' e = 0) md') S.2.2.2.2.2.2.1 S.1 S.2.2.2.2.2.2.2.2.2.2.2.2.2.2.2.1 S.2.2.2.2.2.1 (by omega) hf a3 p1 a2 h hh.2.1.1 (fun q => by rw [hcY] at q; have := (nI_eq (by omega) (by omega)).mp q; omega) (by omega) rfl md96 (by rw [eκ]; exact hκI) rfl) ?_
  rw [eκ]
  refine K c' (x4' + 1) (y4' + 1) _ _ _ _ _ _ _ _ _ _ _ _ _ _ _ _ _ _ _ _ _ _ _ _ (md' + 1) (uN mu' md' cc) (uN rg' md' R) (fun e => e = md' ∨ av' e) FL2 ⟨⟨m1, m2, by omega, by omega, by omega⟩, ?_, ?_, pk_us, ⟨hi_alloc hh.1 hκI hK, ct_alloc hh.2.1 κ1 κ3 room, fun r1 => hr_alloc hh.1 (hh.2.2 r1) oR⟩, hx_tr hx E2, ?_, ?_⟩
  · exact k_X_tr (tt2 := tt) (vt2 := vt) (sc2 := (sp_sc a_sigType a_tokOp a_tokArg (fo (i)) (sN (fo (i))) (i))) kx ⟨fun _ _ => rfl, fun j hj => pk_un (by omega), fun _ _ => rfl, fun _ _ => rfl, fun _ _ => rfl, fun _ _ => rfl⟩ (Nat.le_refl _) (Nat.le_refl _) (Nat.le_refl _)
  · refine k_Y_tr (a3 := i) (b3 := en i) ky (a2 := i) (b2 := en i) ⟨fun _ _ => ⟨rfl, rfl⟩, fun _ _ => rfl, fun j j1 j2 => ⟨pk_un (by omega), pk_un (by omega)⟩⟩ (by omega) (Nat.le_refl _) (Nat.le_refl _) (Nat.le_refl _)
  · -- the new value
    rw [pk_us, pk_us]
    have RV : vr_R (uN mu' md' cc) (md' + 1) (nI cc) (nI md') := Or.inr ⟨md', by omega, rfl, by rw [uN_s]⟩
    rcases hty with ⟨w, ho⟩ | ⟨w | w, ho⟩
    · have k1 : κ = 1 := (nI_eq (b := 1) (by omega) (by omega)).mp (eκ.symm.trans w)
      subst k1
      have b1 : bb = 1 := by rw [if_pos rfl] at ebb; omega
      subst b1
      rw [w]
      exact ⟨fun q => absurd q (by decide), fun _ => ⟨md', ⟨by omega, Or.inl rfl, pk_us, by rw [uN_s]; exact erz.symm⟩, rfl, by rw [uN_s]⟩, fun q => absurd q (by decide), fun q => absurd q (by decide)⟩
    · have k1 : κ = 2 := (nI_eq (b := 2) (by omega) (by omega)).mp (eκ.symm.trans w)
      subst k1
      have b1 : bb = 0 := by rw [if_neg (by omega)] at ebb; omega
      subst b1
      have t1 : a_tokType (en (i + 1)) = 2 := by rw [c1.2.2.2.2.2.2, ho, w]; rfl
      have sp := (CS.2.2.2.1 ho).1
      rw [t1] at hv1
      have hv2 := vr_up E2 (vr_reg (R' := er a_env a_region D (2 * i)) (Q' := er a_env a_region D (2 * i + 1)) hv1 (fun k => by unfold er; rw [sp.1 (by rw [w]; exact k)]) (fun k => absurd rfl k))
      obtain ⟨-, l, hl⟩ := hv2.2.2.1 rfl
      rw [w]
      refine ⟨fun q => absurd q (by decide), fun q => absurd q (by decide), fun _ => ⟨RV, md' :: l, rfl, ⟨by omega, Or.inl rfl, pk_us, by rw [uN_s]; exact erz.symm, trivial⟩, ?_⟩, fun q => absurd q (by decide)⟩
      rw [pk_us]; exact hl
    · have k1 : κ = 3 := (nI_eq (b := 3) (by omega) (by omega)).mp (eκ.symm.trans w)
      subst k1
      have b1 : bb = 0 := by rw [if_neg (by omega)] at ebb; omega
      subst b1
      have t0 : a_tokType (i + 1) = 1 := by rw [c0.2.2.2.2.2.2, ho, w]; rfl
      have t1 : a_tokType (en (i + 1)) = 3 := by rw [c1.2.2.2.2.2.2, ho, w]; rfl
      have sp := (CS.2.2.2.1 ho).1
      have sq := (CS.2.2.2.1 ho).2 w
      rw [t1] at hv1
      rw [t0] at hv0
      have hv2 := vr_up E2 (vr_reg (R' := er a_env a_region D (2 * i)) (Q' := er a_env a_region D (2 * i + 1)) hv1 (fun k => by unfold er; rw [sp.1 (by rw [w]; exact k)]) (fun k => by unfold er; rw [sp.2 (by rw [w]; exact k)]))
      have hw0 := vr_up E2 hv0
      obtain ⟨-, l, hl⟩ := hv2.2.2.2 rfl
      obtain ⟨e', g1, g2, g3⟩ := hw0.2.1 rfl
      rw [w]
      refine ⟨fun q => absurd q (by decide), fun q => absurd q (by decide), fun q => absurd q (by decide), fun _ => ⟨RV, md' :: l, rfl, ⟨by omega, Or.inl rfl, pk_us, by rw [uN_s]; exact erz.symm, e', by rw [pk_us]; exact g2, g1.1, g1.2.1, g1.2.2.1, ?_⟩, ?_⟩⟩
      · rw [g1.2.2.2]; unfold er; rw [sq]
      · rw [pk_us]; exact hl
  · -- its region
    intro r1 e e1 e2 ea
    by_cases z : e = md'
    · subst z
      refine ⟨i, bb, p1, rfl, lbb, ?_, ?_⟩
      · rw [pk_us, ← ebb, kzz]
      · rw [uN_s]; exact erz.symm
    · obtain ⟨q, b, q1, q2, q3, q4, q5⟩ := hC r1 e e1 (by omega) (ea.elim (fun w => absurd w z) id)
      exact ⟨q, b, q1, q2, q3, by rw [pk_un z]; exact q4, by rw [uN_n z]; exact q5⟩
end
end
section
section
variable {f_functionLimit f_tokenLimit f_cellLimit f_depthLimit f_functions f_accepted f_placed f_openBody f_holeCount f_nextRegion f_changed g_maxFunctions g_maxTokens g_maxCells g_maxDepth g_functions g_tokens g_open g_accepted g_answer : Int32} {a_sigType a_params a_kept a_start a_finished a_tokOp a_tokArg a_tokType a_tokScope a_end a_holeType a_holeNest a_holeScope a_holeVars a_parent a_region a_sigRegions a_allRegions a_result b_result b_param b_finished : Nat → Int32} {nf t cl dl : Nat} {rl : Int32} {sN fo en sg al : Nat → Nat} {FIN : Int32 → SX → SY → Prop} {f_freeCell f_peakUsed g_used : Int32} {a_cellA a_cellB a_link a_live a_frameFunction a_vars a_saved a_env a_regionFirst a_tasks a_values a_used b_first b_second b_cellKind b_freed b_fn b_born b_actual b_value b_known : Nat → Int32} {md : Nat} {mu rg : Nat → Nat} {av : Nat → Prop} {FL : List Nat}
variable {i D c tt vt x4 y4 N : Nat} {OP : Nat → Prop}
theorem ev_let (S : rs_S f_cellLimit f_depthLimit g_maxCells g_maxDepth g_tokens a_sigType a_params a_kept a_start a_tokOp a_tokArg a_tokType a_tokScope a_end a_region a_sigRegions a_allRegions b_result b_param nf t cl dl rl sN fo en sg al) (FS : ev_S f_functionLimit f_tokenLimit f_cellLimit f_depthLimit f_functions f_accepted f_placed f_openBody f_holeCount f_nextRegion f_changed g_maxFunctions g_maxTokens g_maxCells g_maxDepth g_functions g_tokens g_open g_accepted g_answer a_sigType a_params a_kept a_start a_finished a_tokOp a_tokArg a_tokType a_tokScope a_end a_holeType a_holeNest a_holeScope a_holeVars a_parent a_region a_sigRegions a_allRegions a_result b_result b_param b_finished nf t cl dl rl sN fo en sg al FIN) (IH : EVp f_functionLimit f_tokenLimit f_cellLimit f_depthLimit f_functions f_accepted f_placed f_openBody f_holeCount f_nextRegion f_changed g_maxFunctions g_maxTokens g_maxCells g_maxDepth g_functions g_tokens g_open g_accepted g_answer a_sigType a_params a_kept a_start a_finished a_tokOp a_tokArg a_tokType a_tokScope a_end a_holeType a_holeNest a_holeScope a_holeVars a_parent a_region a_sigRegions a_allRegions a_result b_result b_param b_finished nf t cl dl rl sN fo en sg al FIN N) (pre : ev_pre f_functionLimit f_tokenLimit f_cellLimit f_depthLimit f_functions f_accepted f_placed f_openBody f_holeCount f_nextRegion f_changed g_maxFunctions g_maxTokens g_maxCells g_maxDepth g_functions g_tokens g_open g_accepted g_answer a_sigType a_params a_kept a_start a_finished a_tokOp a_tokArg a_tokType a_tokScope a_end a_holeType a_holeNest a_holeScope a_holeVars a_parent a_region a_sigRegions a_allRegions a_result b_result b_param b_finished nf t cl dl rl sN fo en sg al FIN i D c tt vt x4 y4 OP f_freeCell f_peakUsed g_used a_cellA a_cellB a_link a_live a_frameFunction a_vars a_saved a_env a_regionFirst a_tasks a_values a_used b_first b_second b_cellKind b_freed b_fn b_born b_actual b_value b_known md mu rg av FL) (hN : (200 - c) * 100 + (en i - i) ≤ N + 1) (h : a_tokOp i = 5) (K : ∀ (c' x4' y4' : Nat) (f_freeCell' f_peakUsed' g_used' : Int32) (a_cellA' a_cellB' a_link' a_live' a_frameFunction' a_vars' a_saved' a_env' a_regionFirst' a_tasks' a_values' a_used' b_first' b_second' b_cellKind' b_freed' b_fn' b_born' b_actual' b_value' b_known' : Nat → Int32) (md' : Nat) (mu' rg' : Nat → Nat) (av' : Nat → Prop) (FL' : List Nat), ev_post f_functionLimit f_tokenLimit f_cellLimit f_depthLimit f_functions f_accepted f_placed f_openBody f_holeCount f_nextRegion f_changed g_maxFunctions g_maxTokens g_maxCells g_maxDepth g_functions g_tokens g_open g_accepted g_answer a_sigType a_params a_kept a_start a_finished a_tokOp a_tokArg a_tokType a_tokScope a_end a_holeType a_holeNest a_holeScope a_holeVars a_parent a_region a_sigRegions a_allRegions a_result b_result b_param b_finished nf t cl dl rl sN fo en sg al FIN i D c tt vt x4 y4 OP f_freeCell f_peakUsed g_used a_cellA a_cellB a_link a_live a_frameFunction a_vars a_saved a_env a_regionFirst a_tasks a_values a_used b_first b_second b_cellKind b_freed b_fn b_born b_actual b_value b_known md mu rg av FL c' x4' y4' f_freeCell' f_peakUsed' g_used' a_cellA' a_cellB' a_link' a_live' a_frameFunction' a_vars' a_saved' a_env' a_regionFirst' a_tasks' a_values' a_used' b_first' b_second' b_cellKind' b_freed' b_fn' b_born' b_actual' b_value' b_known' md' mu' rg' av' FL' → rj FIN rl x4' (f_functionLimit, f_tokenLimit, f_cellLimit, f_depthLimit, f_functions, f_accepted, f_placed, f_openBody, f_holeCount, f_nextRegion, f_changed, f_freeCell', nI (D + 1), nI (c'), nI (tt), nI (vt + 1), rl, 0, f_peakUsed', 0, a_sigType, a_params, a_kept, a_start, a_finished, a_tokOp, a_tokArg, a_tokType, a_tokScope, a_end, a_holeType, a_holeNest, a_holeScope, a_holeVars, a_parent, a_region, a_sigRegions, a_allRegions, a_cellA', a_cellB', a_link', a_live', a_frameFunction', a_vars', a_saved', a_env', a_regionFirst', a_tasks', a_values', a_used', a_result) y4' (g_maxFunctions, g_maxTokens, g_maxCells, g_maxDepth, g_functions, g_tokens, g_open, g_accepted, nI md', g_used', f_peakUsed', 0, g_answer, nI (c'), nI (D + 1), b_result, b_param, a_start, b_finished, a_tokOp, a_tokArg, a_tokType, b_first', b_second', b_cellKind', b_freed', b_fn', b_born', b_actual', b_value', b_known')) : rj FIN rl x4 (f_functionLimit, f_tokenLimit, f_cellLimit, f_depthLimit, f_functions, f_accepted, f_placed, f_openBody, f_holeCount, f_nextRegion, f_changed, f_freeCell, nI (D + 1), nI (c), nI (tt + 1), nI (vt), rl, 0, f_peakUsed, 0, a_sigType, a_params, a_kept, a_start, a_finished, a_tokOp, a_tokArg, a_tokType, a_tokScope, a_end, a_holeType, a_holeNest, a_holeScope, a_holeVars, a_parent, a_region, a_sigRegions, a_allRegions, a_cellA, a_cellB, a_link, a_live, a_frameFunction, a_vars, a_saved, a_env, a_regionFirst, a_tasks, a_values, a_used, a_result) y4 (g_maxFunctions, g_maxTokens, g_maxCells, g_maxDepth, g_functions, g_tokens, g_open, g_accepted, nI md, g_used, f_peakUsed, 0, g_answer, nI (c), nI (D + 1), b_result, b_param, a_start, b_finished, a_tokOp, a_tokArg, a_tokType, b_first, b_second, b_cellKind, b_freed, b_fn, b_born, b_actual, b_value, b_known) := by
  have ht := S.1.1
  have hn8 := S.1.2.1
  have hA : (sp_A a_sigType a_tokOp a_tokArg) i = 2 := sp_A_5 h
  refine ev_one S IH pre hN (Or.inr (Or.inr h)) (by rw [h]; decide) (by rw [h]; decide) (by rw [h]; decide) (fun cQ xQ yQ f_freeCell1 f_peakUsed1 g_used1 a_cellA1 a_cellB1 a_link1 a_live1 a_frameFunction1 a_vars1 a_saved1 a_env1 a_regionFirst1 a_tasks1 a_values1 a_used1 b_first1 b_second1 b_cellKind1 b_freed1 b_fn1 b_born1 b_actual1 b_value1 b_known1 md1 mu1 rg1 av1 FL1 mm => ?_)
  obtain ⟨⟨m1, m2, m3, m4, m5⟩, mt, kx, ky, kn0, hh, hx, hv0, hC⟩ := mm
  have pre' := pre
  obtain ⟨⟨p1, p2, p3, p4, p5, p6, p7, p8, p9⟩, ht0, hF, hH, hNv, hk0, hP⟩ := pre
  have dl24 := S.2.2.2.2.2.2.2.2.2.2.2.2.2.2.1
  have hf := pc_fo S.1 p1
  have hsN := pc_sN S.1 hf
  have al200 := (S.2.1.1 (fo i) hf).2.2.2
  obtain ⟨c1, c2, c3, c4, c5, c6, c7⟩ := pc_c0 S.1 p1 (by omega)
  obtain ⟨d1, d2, d3, d4, d5, d6, d7⟩ := pc_c1 S.1 p1 (by omega)
  have ei := pc_end S.1 p1
  have ec := pc_end S.1 c4
  have ed := pc_end S.1 d4
  have e2 := pc_e2 S.1 p1 hA
  have inn := pc_in S.1 p1
  have T := pc_tok S.1 p1
  have ns10 := T.2.2.2.2.2.2.1 (by omega)
  have nsd : (hz_ns (sp_A a_sigType a_tokOp a_tokArg) (sN (fo (en (i + 1)))) (en (i + 1))) = (hz_ns (sp_A a_sigType a_tokOp a_tokArg) (sN (fo (i))) (i)) + 1 := by rw [d5]; exact hz_ns_ch inn.1 d1
  have scd : (sp_sc a_sigType a_tokOp a_tokArg (fo (en (i + 1))) (sN (fo (en (i + 1)))) (en (i + 1))) = (sp_sc a_sigType a_tokOp a_tokArg (fo (i)) (sN (fo (i))) (i)) + 1 := by rw [d5, sp_sc_ch inn.1 d1, if_pos ⟨h, rfl⟩]
  have hs8 : (sp_sc a_sigType a_tokOp a_tokArg (fo (i)) (sN (fo (i))) (i)) < 8 := by
    have K := pc_opk S.1 p1
    unfold sp_opk at K
    rw [h] at K
    rcases K with ⟨z, -⟩ | ⟨z, -⟩ | ⟨z, -⟩ | z | ⟨-, -, z⟩ | ⟨z, -⟩ | ⟨z, -⟩ | ⟨z, -⟩ | ⟨z, -⟩ | ⟨z, -⟩ | ⟨z, -⟩ | ⟨z, -⟩ | ⟨z, -⟩
    case inr.inr.inr.inr.inl => exact z
    all_goals exact absurd z (by decide)
  have tc : a_tokType (i + 1) = a_tokArg i := by rw [c7, h]; rfl
  have td : a_tokType (en (i + 1)) = a_tokType i := by rw [d7, h]; rfl
  have CS := (S.2.1.2.2.2.1 i p1).2.2.1 h
  rw [tc] at hv0
  have kin : ∀ j, j < 97 → (j < i + 1 ∨ en (i + 1) ≤ j) → b_known1 (D * 97 + j) = b_known (D * 97 + j) ∧ b_value1 (D * 97 + j) = b_value (D * 97 + j) := fun j j1 j2 => ⟨(ky.2.2 _ (by omega) (by omega)).2, (ky.2.2 _ (by omega) (by omega)).1⟩
  refine rj_xs (by omega) (ru_advC mt (by omega) (by omega) (rc_let S.1 S.2.2.2.2.1 p1 h (pc_scp S.1 p1).1 hs8 (by omega) (by omega) (by omega))) ?_
  have kxv : k_X D tt vt (sp_sc a_sigType a_tokOp a_tokArg (fo (i)) (sN (fo (i))) (i)) a_tasks a_values a_vars a_env a_saved a_frameFunction (upd a_tasks1 tt (nI (2 * en (i + 1)))) a_values1 (upd a_vars1 (8 * D + (sp_sc a_sigType a_tokOp a_tokArg (fo (i)) (sN (fo (i))) (i))) (a_values1 vt)) a_env1 a_saved1 a_frameFunction1 :=
    k_X_tr (tt2 := tt) (vt2 := vt) (sc2 := (sp_sc a_sigType a_tokOp a_tokArg (fo (i)) (sN (fo (i))) (i))) kx ⟨fun j hj => pk_un (by omega), fun _ _ => rfl, fun j hj => pk_un (by omega), fun _ _ => rfl, fun _ _ => rfl, fun _ _ => rfl⟩ (Nat.le_refl _) (Nat.le_refl _) (Nat.le_refl _)
  refine IH (en (i + 1)) D cQ tt vt (xQ + 1) yQ OP _ _ _ _ _ _ _ _ _ _ _ _ _ _ _ _ _ _ _ _ _ _ _ _ _ _ _ _ _ (by omega) ⟨⟨d4, p2, by omega, m2, by omega, by omega, by omega, by omega, by omega⟩, pk_us, by rw [d5]; exact ev_F_keep al200 hF kx ky, hh, ?_, fun j j1 j2 => by rw [(kin j (by omega) (by omega)).1]; exact hk0 j (by omega) (by omega), ?_⟩ (fun c' x4' y4' f_freeCell' f_peakUsed' g_used' a_cellA' a_cellB' a_link' a_live' a_frameFunction' a_vars' a_saved' a_env' a_regionFirst' a_tasks' a_values' a_used' b_first' b_second' b_cellKind' b_freed' b_fn' b_born' b_actual' b_value' b_known' md' mu' rg' av' FL' post => ?_)
  · have N1 := ev_N_let (ev_N_keep hNv kx ky hx (Nat.le_refl _) (by omega) (by omega)) inn.1 d1 hv0
    rw [← d5] at N1
    exact ev_N_env2 S kx.2.2.2.1 d4 (by rw [d5] at N1 ⊢; exact N1)
  · rw [nsd, d5]
    refine ev_P_ch (ev_P_cg hP (fun j j1 j2 => kin j j1 (by omega))) (by omega) (sp_A_le _ _ _ _) (k := 1) (by omega) rfl (by omega) d6 ed.1 (by omega) ?_ (fun j hj => ?_) (fun q => absurd (h.symm.trans q) (by decide)) (fun q => absurd (h.symm.trans q) (by decide)) (fun j hj => Or.inl ?_)
    · rw [(kin i (by omega) (by omega)).1]; exact hk0 i (Nat.le_refl _) ei.1
    · have : j = 0 := by omega
      subst this
      exact ⟨by show i < i + 1; omega, by show i + 1 < en (i + 1); omega⟩
    · have : j = 0 := by omega
      subst this
      show b_known1 (D * 97 + (i + 1)) ≠ 0
      rw [kn0]; decide
  · obtain ⟨⟨s1, s2, s3, s4, s5⟩, s6, s7, s8, s9, s10, s11, s12⟩ := post
    have kY : k_Y D (i + 1) (en i) b_fn b_born b_actual b_value b_known b_fn' b_born' b_actual' b_value' b_known' := k_Y_tr ky s7 (Nat.le_refl _) (by omega) (by omega) (by omega)
    have kn0' : b_known' (D * 97 + (i + 1)) = 1 := by rw [(s7.2.2 (D * 97 + (i + 1)) (by omega) (Or.inl (by omega))).2]; exact kn0
    obtain ⟨a1, a2, a3, a4⟩ := ev_at S pre' kY (nx2 hA kn0' s8)
    refine rj_ye (by omega) (by omega) (show fo i < 8 by omega) (show sN (fo i) < 97 by omega) a3 (S.2.2.2.2.2.1 _ hf) a1 (ye_let S.2.2.2.2.2.2.1 S.1 S.2.2.2.2.2.2.2.2.2.2.2.2.2.2.2.1 S.2.2.2.2.2.1 (by omega) hf a3 p1 a2 h) ?_
    refine K c' x4' (y4' + 1) _ _ _ _ _ _ _ _ _ _ _ _ _ _ _ _ _ _ _ _ _ _ _ _ md' mu' rg' av' FL' ⟨⟨by omega, s2, by omega, by omega, by omega⟩, k_X_tr kxv s6 (Nat.le_refl _) (Nat.le_refl _) (by omega), ?_, pk_us, s9, hx_tr hx s10, ?_, ?_⟩
    · refine k_Y_tr (a3 := i) (b3 := en i) kY (a2 := i) (b2 := en i) ⟨fun _ _ => ⟨rfl, rfl⟩, fun _ _ => rfl, fun j j1 j2 => ⟨pk_un (by omega), pk_un (by omega)⟩⟩ (by omega) (Nat.le_refl _) (Nat.le_refl _) (Nat.le_refl _)
    · rw [pk_us]
      have v1 := vr_tok S kx.2.2.2.1 d4 s11
      rw [td] at v1
      exact vr_reg v1 (fun k => by unfold er; rw [CS.1 k]) (fun k => by unfold er; rw [CS.2 k])
    · rw [d5] at s12
      exact ev_C_tr S kx.2.2.2.1 (fun e he => (s9.1.1 e he).1) hC s12 s10
theorem nx3 {A : Nat → Nat} {op kn vl : Nat → Int32} {en : Nat → Nat} {b i : Nat} (hA : A i = 3) (h4 : op i = 4) (h0 : kn (b + (i + 1)) = 1) (h1 : vl (b + (i + 1)) ≠ 0 → kn (b + en (i + 1)) = 1) (h2 : vl (b + (i + 1)) = 0 → kn (b + en (en (i + 1))) = 1) : nx_st A op en kn vl b i = none := by
  refine nx_st_none (fun j hj q => ?_)
  rcases (by omega : j = 0 ∨ j = 1 ∨ j = 2) with rfl | rfl | rfl
  · have q2 : kn (b + (i + 1)) = 0 := q.2.2
    rw [h0] at q2; exact absurd q2 (by decide)
  · have q2 : kn (b + en (i + 1)) = 0 := q.2.2
    rw [h1 (q.1 h4 rfl)] at q2; exact absurd q2 (by decide)
  · have q2 : kn (b + en (en (i + 1))) = 0 := q.2.2
    rw [h2 (q.2.1 h4 rfl)] at q2; exact absurd q2 (by decide)
theorem ev_if (S : rs_S f_cellLimit f_depthLimit g_maxCells g_maxDepth g_tokens a_sigType a_params a_kept a_start a_tokOp a_tokArg a_tokType a_tokScope a_end a_region a_sigRegions a_allRegions b_result b_param nf t cl dl rl sN fo en sg al) (FS : ev_S f_functionLimit f_tokenLimit f_cellLimit f_depthLimit f_functions f_accepted f_placed f_openBody f_holeCount f_nextRegion f_changed g_maxFunctions g_maxTokens g_maxCells g_maxDepth g_functions g_tokens g_open g_accepted g_answer a_sigType a_params a_kept a_start a_finished a_tokOp a_tokArg a_tokType a_tokScope a_end a_holeType a_holeNest a_holeScope a_holeVars a_parent a_region a_sigRegions a_allRegions a_result b_result b_param b_finished nf t cl dl rl sN fo en sg al FIN) (IH : EVp f_functionLimit f_tokenLimit f_cellLimit f_depthLimit f_functions f_accepted f_placed f_openBody f_holeCount f_nextRegion f_changed g_maxFunctions g_maxTokens g_maxCells g_maxDepth g_functions g_tokens g_open g_accepted g_answer a_sigType a_params a_kept a_start a_finished a_tokOp a_tokArg a_tokType a_tokScope a_end a_holeType a_holeNest a_holeScope a_holeVars a_parent a_region a_sigRegions a_allRegions a_result b_result b_param b_finished nf t cl dl rl sN fo en sg al FIN N) (pre : ev_pre f_functionLimit f_tokenLimit f_cellLimit f_depthLimit f_functions f_accepted f_placed f_openBody f_holeCount f_nextRegion f_changed g_maxFunctions g_maxTokens g_maxCells g_maxDepth g_functions g_tokens g_open g_accepted g_answer a_sigType a_params a_kept a_start a_finished a_tokOp a_tokArg a_tokType a_tokScope a_end a_holeType a_holeNest a_holeScope a_holeVars a_parent a_region a_sigRegions a_allRegions a_result b_result b_param b_finished nf t cl dl rl sN fo en sg al FIN i D c tt vt x4 y4 OP f_freeCell f_peakUsed g_used a_cellA a_cellB a_link a_live a_frameFunction a_vars a_saved a_env a_regionFirst a_tasks a_values a_used b_first b_second b_cellKind b_freed b_fn b_born b_actual b_value b_known md mu rg av FL) (hN : (200 - c) * 100 + (en i - i) ≤ N + 1) (h : a_tokOp i = 4) (K : ∀ (c' x4' y4' : Nat) (f_freeCell' f_peakUsed' g_used' : Int32) (a_cellA' a_cellB' a_link' a_live' a_frameFunction' a_vars' a_saved' a_env' a_regionFirst' a_tasks' a_values' a_used' b_first' b_second' b_cellKind' b_freed' b_fn' b_born' b_actual' b_value' b_known' : Nat → Int32) (md' : Nat) (mu' rg' : Nat → Nat) (av' : Nat → Prop) (FL' : List Nat), ev_post f_functionLimit f_tokenLimit f_cellLimit f_depthLimit f_functions f_accepted f_placed f_openBody f_holeCount f_nextRegion f_changed g_maxFunctions g_maxTokens g_maxCells g_maxDepth g_functions g_tokens g_open g_accepted g_answer a_sigType a_params a_kept a_start a_finished a_tokOp a_tokArg a_tokType a_tokScope a_end a_holeType a_holeNest a_holeScope a_holeVars a_parent a_region a_sigRegions a_allRegions a_result b_result b_param b_finished nf t cl dl rl sN fo en sg al FIN i D c tt vt x4 y4 OP f_freeCell f_peakUsed g_used a_cellA a_cellB a_link a_live a_frameFunction a_vars a_saved a_env a_regionFirst a_tasks a_values a_used b_first b_second b_cellKind b_freed b_fn b_born b_actual b_value b_known md mu rg av FL c' x4' y4' f_freeCell' f_peakUsed' g_used' a_cellA' a_cellB' a_link' a_live' a_frameFunction' a_vars' a_saved' a_env' a_regionFirst' a_tasks' a_values' a_used' b_first' b_second' b_cellKind' b_freed' b_fn' b_born' b_actual' b_value' b_known' md' mu' rg' av' FL' → rj FIN rl x4' (f_functionLimit, f_tokenLimit, f_cellLimit, f_depthLimit, f_functions, f_accepted, f_placed, f_openBody, f_holeCount, f_nextRegion, f_changed, f_freeCell', nI (D + 1), nI (c'), nI (tt), nI (vt + 1), rl, 0, f_peakUsed', 0, a_sigType, a_params, a_kept, a_start, a_finished, a_tokOp, a_tokArg, a_tokType, a_tokScope, a_end, a_holeType, a_holeNest, a_holeScope, a_holeVars, a_parent, a_region, a_sigRegions, a_allRegions, a_cellA', a_cellB', a_link', a_live', a_frameFunction', a_vars', a_saved', a_env', a_regionFirst', a_tasks', a_values', a_used', a_result) y4' (g_maxFunctions, g_maxTokens, g_maxCells, g_maxDepth, g_functions, g_tokens, g_open, g_accepted, nI md', g_used', f_peakUsed', 0, g_answer, nI (c'), nI (D + 1), b_result, b_param, a_start, b_finished, a_tokOp, a_tokArg, a_tokType, b_first', b_second', b_cellKind', b_freed', b_fn', b_born', b_actual', b_value', b_known')) : rj FIN rl x4 (f_functionLimit, f_tokenLimit, f_cellLimit, f_depthLimit, f_functions, f_accepted, f_placed, f_openBody, f_holeCount, f_nextRegion, f_changed, f_freeCell, nI (D + 1), nI (c), nI (tt + 1), nI (vt), rl, 0, f_peakUsed, 0, a_sigType, a_params, a_kept, a_start, a_finished, a_tokOp, a_tokArg, a_tokType, a_tokScope, a_end, a_holeType, a_holeNest, a_holeScope, a_holeVars, a_parent, a_region, a_sigRegions, a_allRegions, a_cellA, a_cellB, a_link, a_live, a_frameFunction, a_vars, a_saved, a_env, a_regionFirst, a_tasks, a_values, a_used, a_result) y4 (g_maxFunctions, g_maxTokens, g_maxCells, g_maxDepth, g_functions, g_tokens, g_open, g_accepted, nI md, g_used, f_peakUsed, 0, g_answer, nI (c), nI (D + 1), b_result, b_param, a_start, b_finished, a_tokOp, a_tokArg, a_tokType, b_first, b_second, b_cellKind, b_freed, b_fn, b_born, b_actual, b_value, b_known) := by
  have ht := S.1.1
  have hn8 := S.1.2.1
  have hA : (sp_A a_sigType a_tokOp a_tokArg) i = 3 := by unfold sp_A sp_ar; rw [h]; rfl
  refine ev_one S IH pre hN (Or.inr (Or.inl hA)) (by rw [h]; decide) (by rw [h]; decide) (by rw [h]; decide) (fun cQ xQ yQ f_freeCell1 f_peakUsed1 g_used1 a_cellA1 a_cellB1 a_link1 a_live1 a_frameFunction1 a_vars1 a_saved1 a_env1 a_regionFirst1 a_tasks1 a_values1 a_used1 b_first1 b_second1 b_cellKind1 b_freed1 b_fn1 b_born1 b_actual1 b_value1 b_known1 md1 mu1 rg1 av1 FL1 mm => ?_)
  obtain ⟨⟨m1, m2, m3, m4, m5⟩, mt, kx, ky, kn0, hh, hx, hv0, hC⟩ := mm
  have pre' := pre
  obtain ⟨⟨p1, p2, p3, p4, p5, p6, p7, p8, p9⟩, ht0, hF, hH, hNv, hk0, hP⟩ := pre
  have dl24 := S.2.2.2.2.2.2.2.2.2.2.2.2.2.2.1
  have hf := pc_fo S.1 p1
  have hsN := pc_sN S.1 hf
  have al200 := (S.2.1.1 (fo i) hf).2.2.2
  obtain ⟨c1, c2, c3, c4, c5, c6, c7⟩ := pc_c0 S.1 p1 (by omega)
  have D1 := pc_c1 S.1 p1 (by omega)
  have D2 := pc_c2 S.1 p1 (by omega)
  have ei := pc_end S.1 p1
  have ec := pc_end S.1 c4
  have ed1 := pc_end S.1 D1.2.2.2.1
  have ed2 := pc_end S.1 D2.2.2.2.1
  have e3 := pc_e3 S.1 p1 hA
  have inn := pc_in S.1 p1
  have T := pc_tok S.1 p1
  have ns10 := T.2.2.2.2.2.2.1 (by omega)
  have tc : a_tokType (i + 1) = 0 := by rw [c7, h]; rfl
  have e0 : a_values1 vt = b_value1 (D * 97 + (i + 1)) := hv0.1 tc
  have CS := (S.2.1.2.2.2.1 i p1).2.1 h
  have kin : ∀ j, j < 97 → (j < i + 1 ∨ en (i + 1) ≤ j) → b_known1 (D * 97 + j) = b_known (D * 97 + j) ∧ b_value1 (D * 97 + j) = b_value (D * 97 + j) := fun j j1 j2 => ⟨(ky.2.2 _ (by omega) (by omega)).2, (ky.2.2 _ (by omega) (by omega)).1⟩
  have dle : en (en (i + 1)) < en i := D2.2.2.1
  refine rj_xs (by omega) (ru_advC mt (by omega) (by omega) (rc_if S.1 S.2.2.2.2.1 p1 h (by omega) (by omega))) ?_
  -- the chosen part
  have go : ∀ (k d : Nat), (k = 1 ∨ k = 2) → d = cp en i k → (k = 1 → b_value1 (D * 97 + (i + 1)) ≠ 0) → (k = 2 → b_value1 (D * 97 + (i + 1)) = 0) → pc_ch t a_sigType a_tokOp a_tokArg a_tokType sN fo en i k d → en (i + 1) ≤ d → rg_SP a_region (a_tokType i) (2 * i) (2 * d) → a_tokType d = a_tokType i →
      rj FIN rl (xQ + 1) (f_functionLimit, f_tokenLimit, f_cellLimit, f_depthLimit, f_functions, f_accepted, f_placed, f_openBody, f_holeCount, f_nextRegion, f_changed, f_freeCell1, nI (D + 1), nI cQ, nI (tt + 1), nI vt, rl, 0, f_peakUsed1, 0, a_sigType, a_params, a_kept, a_start, a_finished, a_tokOp, a_tokArg, a_tokType, a_tokScope, a_end, a_holeType, a_holeNest, a_holeScope, a_holeVars, a_parent, a_region, a_sigRegions, a_allRegions, a_cellA1, a_cellB1, a_link1, a_live1, a_frameFunction1, a_vars1, a_saved1, a_env1, a_regionFirst1, upd a_tasks1 tt (nI (2 * d)), a_values1, a_used1, a_result) yQ (g_maxFunctions, g_maxTokens, g_maxCells, g_maxDepth, g_functions, g_tokens, g_open, g_accepted, nI md1, g_used1, f_peakUsed1, 0, g_answer, nI (cQ), nI (D + 1), b_result, b_param, a_start, b_finished, a_tokOp, a_tokArg, a_tokType, b_first1, b_second1, b_cellKind1, b_freed1, b_fn1, b_born1, b_actual1, b_value1, b_known1) := by
    intro k d hk hd v1 v2 DD hge SP td
    obtain ⟨d1, d2, d3, d4, d5, d6, d7⟩ := DD
    have ed := pc_end S.1 d4
    have nsd : (hz_ns (sp_A a_sigType a_tokOp a_tokArg) (sN (fo (d))) (d)) = (hz_ns (sp_A a_sigType a_tokOp a_tokArg) (sN (fo (i))) (i)) + 1 := by rw [d5]; exact hz_ns_ch inn.1 d1
    have scd : (sp_sc a_sigType a_tokOp a_tokArg (fo (i)) (sN (fo (i))) (i)) ≤ (sp_sc a_sigType a_tokOp a_tokArg (fo (d)) (sN (fo (d))) (d)) := by rw [d5, sp_sc_ch inn.1 d1]; omega
    have kxv : k_X D tt vt (sp_sc a_sigType a_tokOp a_tokArg (fo (i)) (sN (fo (i))) (i)) a_tasks a_values a_vars a_env a_saved a_frameFunction (upd a_tasks1 tt (nI (2 * d))) a_values1 a_vars1 a_env1 a_saved1 a_frameFunction1 :=
      k_X_tr (tt2 := tt) (vt2 := vt) (sc2 := (sp_sc a_sigType a_tokOp a_tokArg (fo (i)) (sN (fo (i))) (i))) kx ⟨fun j hj => pk_un (by omega), fun _ _ => rfl, fun _ _ => rfl, fun _ _ => rfl, fun _ _ => rfl, fun _ _ => rfl⟩ (Nat.le_refl _) (Nat.le_refl _) (Nat.le_refl _)
    refine IH d D cQ tt vt (xQ + 1) yQ OP _ _ _ _ _ _ _ _ _ _ _ _ _ _ _ _ _ _ _ _ _ _ _ _ _ _ _ _ _ (by omega) ⟨⟨d4, p2, by omega, m2, by omega, by omega, by omega, by omega, by omega⟩, pk_us, by rw [d5]; exact ev_F_keep al200 hF kx ky, hh, ?_, fun j j1 j2 => by rw [(kin j (by omega) (by omega)).1]; exact hk0 j (by omega) (by omega), ?_⟩ (fun c' x4' y4' f_freeCell' f_peakUsed' g_used' a_cellA' a_cellB' a_link' a_live' a_frameFunction' a_vars' a_saved' a_env' a_regionFirst' a_tasks' a_values' a_used' b_first' b_second' b_cellKind' b_freed' b_fn' b_born' b_actual' b_value' b_known' md' mu' rg' av' FL' post => ?_)
    · rw [d5]
      exact ev_N_ch (ev_N_env2 S kx.2.2.2.1 p1 (ev_N_keep hNv kx ky hx (Nat.le_refl _) (by omega) (by omega))) inn.1 d1 (fun q => absurd (h.symm.trans q.1) (by decide))
    · rw [nsd, d5]
      refine ev_P_ch (ev_P_cg hP (fun j j1 j2 => kin j j1 (by omega))) (by omega) (sp_A_le _ _ _ _) (k := k) (by omega) hd (by omega) d6 ed.1 (by omega) ?_ (fun j hj => ?_) (fun _ q => v1 q) (fun _ q => v2 q) (fun j hj => ?_)
      · rw [(kin i (by omega) (by omega)).1]; exact hk0 i (Nat.le_refl _) ei.1
      · rcases (by omega : j = 0 ∨ j = 1) with rfl | rfl
        · exact ⟨by show i < i + 1; omega, by show i + 1 < d; omega⟩
        · have k2 : k = 2 := by omega
          subst k2
          rw [hd]
          exact ⟨by show i < en (i + 1); omega, by show en (i + 1) < en (en (i + 1)); omega⟩
      · rcases (by omega : j = 0 ∨ j = 1) with rfl | rfl
        · refine Or.inl ?_
          show b_known1 (D * 97 + (i + 1)) ≠ 0
          rw [kn0]; decide
        · exact Or.inr ⟨h, rfl, v2 (by omega)⟩
    · obtain ⟨⟨s1, s2, s3, s4, s5⟩, s6, s7, s8, s9, s10, s11, s12⟩ := post
      have kY : k_Y D (i + 1) (en i) b_fn b_born b_actual b_value b_known b_fn' b_born' b_actual' b_value' b_known' := k_Y_tr ky s7 (Nat.le_refl _) (by omega) (by omega) (by omega)
      have at0 := s7.2.2 (D * 97 + (i + 1)) (by omega) (Or.inl (by omega))
      have kn0' : b_known' (D * 97 + (i + 1)) = 1 := by rw [at0.2]; exact kn0
      have nst : nx_st (sp_A a_sigType a_tokOp a_tokArg) a_tokOp en b_known' b_value' (D * 97) i = none := by
        refine nx3 hA h kn0' (fun q => ?_) (fun q => ?_)
        · rw [at0.1] at q
          have k1 : k = 1 := by
            rcases hk with w | w
            · exact w
            · exact absurd (v2 w) q
          subst k1
          rw [hd] at s8; exact s8
        · rw [at0.1] at q
          have k1 : k = 2 := by
            rcases hk with w | w
            · exact absurd q (v1 w)
            · exact w
          subst k1
          rw [hd] at s8; exact s8
      obtain ⟨a1, a2, a3, a4⟩ := ev_at S pre' kY nst
      have ey : (if b_value' (D * 97 + (i + 1)) = 0 then b_value' (D * 97 + en (en (i + 1))) else b_value' (D * 97 + en (i + 1))) = b_value' (D * 97 + d) := by
        rw [at0.1]
        rcases hk with w | w
        · subst w
          rw [if_neg (v1 rfl), hd]; rfl
        · subst w
          rw [if_pos (v2 rfl), hd]; rfl
      refine rj_ye (by omega) (by omega) (show fo i < 8 by omega) (show sN (fo i) < 97 by omega) a3 (S.2.2.2.2.2.1 _ hf) a1 (ye_if S.2.2.2.2.2.2.1 S.1 S.2.2.2.2.2.2.2.2.2.2.2.2.2.2.2.1 S.2.2.2.2.2.1 (by omega) hf a3 p1 a2 h) ?_
      refine K c' x4' (y4' + 1) _ _ _ _ _ _ _ _ _ _ _ _ _ _ _ _ _ _ _ _ _ _ _ _ md' mu' rg' av' FL' ⟨⟨by omega, s2, by omega, by omega, by omega⟩, k_X_tr kxv s6 (Nat.le_refl _) (Nat.le_refl _) (by omega), ?_, pk_us, s9, hx_tr hx s10, ?_, ?_⟩
      · refine k_Y_tr (a3 := i) (b3 := en i) kY (a2 := i) (b2 := en i) ⟨fun _ _ => ⟨rfl, rfl⟩, fun _ _ => rfl, fun j j1 j2 => ⟨pk_un (by omega), pk_un (by omega)⟩⟩ (by omega) (Nat.le_refl _) (Nat.le_refl _) (Nat.le_refl _)
      · rw [pk_us, ey]
        have w1 := vr_tok S kx.2.2.2.1 d4 s11
        rw [td] at w1
        exact vr_reg w1 (fun q => by unfold er; rw [SP.1 q]) (fun q => by unfold er; rw [SP.2 q])
      · rw [d5] at s12
        exact ev_C_tr S kx.2.2.2.1 (fun e he => (s9.1.1 e he).1) hC s12 s10
  rw [e0]
  by_cases z : b_value1 (D * 97 + (i + 1)) = 0
  · rw [if_pos z]
    exact go 2 _ (Or.inr rfl) rfl (fun q => absurd q (by decide)) (fun _ => z) D2 (by omega) CS.2 (by rw [D2.2.2.2.2.2.2, h]; rfl)
  · rw [if_neg z]
    exact go 1 _ (Or.inl rfl) rfl (fun _ => z) (fun q => absurd q (by decide)) D1 (Nat.le_refl _) CS.1 (by rw [D1.2.2.2.2.2.2, h]; rfl)
end
end
section
section
variable {nf t g i d : Nat} {S op arg ty scp reg sgR alR ev ev1 : Nat → Int32} {sN fo en sg al : Nat → Nat}
/-- a signature slot in the new frame is the caller's slot in the old one -/
theorem cl_er (P : pc_ok nf t S op arg ty scp sN fo en) (G : rg_ok nf t S op arg ty sN fo en sg al reg sgR alR) (hi : i < t) (h6 : op i = 6) (hg : g < nf) (ha : arg i = nI g) (hd1 : 1 ≤ d) (F : ps_F S ty en reg g i d 6 (xz_ev ev (200 * d) (al g)) ev1) {s x : Nat} (hs : s < 6) (hk : pc_kz S ty (192 + 6 * g + s) ≠ 0) (hx : pc_sl S en g i s = some x) : er ev1 reg d (192 + 6 * g + s) = er ev reg (d - 1) x := by
  obtain ⟨m, m1, m2⟩ := (G.2.2.1 g s hg hs).1 hk
  have g1 := G.1 g hg
  obtain ⟨x1, x2, x3, x4⟩ := pc_sl_kz P hi h6 hg ha hs hx
  have dx : x = 2 * (x / 2) + x % 2 := by omega
  obtain ⟨mx, mx1, mx2⟩ := G.2.1 (x / 2) (x % 2) x2 (by omega) (by rw [← dx, x3]; exact hk)
  rw [← dx] at mx2
  have g2 := G.1 (fo (x / 2)) (pc_fo P x2)
  unfold er
  rw [m2, nI_clamp (by omega), F.2.2 s x m hs hk hx m2 (by omega), mx2, nI_clamp (by omega)]
  unfold xz_ev
  rw [if_neg (by omega)]
/-- the regions of the new frame -/
theorem cl_env (P : pc_ok nf t S op arg ty scp sN fo en) (G : rg_ok nf t S op arg ty sN fo en sg al reg sgR alR) (hi : i < t) (h6 : op i = 6) (hg : g < nf) (ha : arg i = nI g) (hd1 : 1 ≤ d) (F : ps_F S ty en reg g i d 6 (xz_ev ev (200 * d) (al g)) ev1) {r : Nat} (hr : r < al g) : (sg g ≤ r ∧ ev1 (200 * d + r) = nI (200 * d + r)) ∨ (r < sg g ∧ ∃ s x, s < 6 ∧ pc_kz S ty (192 + 6 * g + s) ≠ 0 ∧ pc_sl S en g i s = some x ∧ reg (192 + 6 * g + s) = nI r ∧ ev1 (200 * d + r) = er ev reg (d - 1) x) := by
  have g1 := G.1 g hg
  rcases Nat.lt_or_ge r (sg g) with z | z
  · obtain ⟨s, s1, s2, s3⟩ := G.2.2.2.2.2.2.2 g r hg z
    obtain ⟨x, hx⟩ := sl_ex (en := en) (i := i) (P.2.2.1 g hg) s1 s2
    refine Or.inr ⟨z, s, x, s1, s2, hx, s3, ?_⟩
    have e := cl_er P G hi h6 hg ha hd1 F s1 s2 hx
    rw [← e]
    unfold er
    rw [s3, nI_clamp (by omega)]
  · refine Or.inl ⟨z, ?_⟩
    rw [F.2.1 r (by omega) (fun s hs hk q => ?_)]
    · unfold xz_ev
      rw [if_pos ⟨by omega, by omega⟩]
    · obtain ⟨m, m1, m2⟩ := (G.2.2.1 g s hg hs).1 hk
      rw [m2] at q
      have := (nI_eq (by omega) (by omega)).mp q
      omega
theorem cl_low (P : pc_ok nf t S op arg ty scp sN fo en) (G : rg_ok nf t S op arg ty sN fo en sg al reg sgR alR) (hi : i < t) (h6 : op i = 6) (hg : g < nf) (ha : arg i = nI g) (hd1 : 1 ≤ d) (F : ps_F S ty en reg g i d 6 (xz_ev ev (200 * d) (al g)) ev1) {j : Nat} (hj : j < 200 * d) : ev1 j = ev j := by
  rw [F.1 j (Or.inl hj)]
  unfold xz_ev
  rw [if_neg (by omega)]
end
/-- regions that are open in the callee -/
def op_c (OP : Nat → Prop) (d sg al : Nat) : Nat → Prop := fun R => OP R ∨ (200 * d + sg ≤ R ∧ R < 200 * d + al)
theorem hr_enter {md d sg al : Nat} {lk rF : Nat → Int32} {mu rg : Nat → Nat} {av OP : Nat → Prop} (H : hr_ok md lk rF mu rg av OP) (hO : ∀ R, OP R → R < 200 * d) : hr_ok md lk (xz_rF rF (200 * d) al) mu rg av (op_c OP d sg al) := by
  refine ⟨fun e he ha => Or.inl (H.1 e he ha), fun R hR => ?_⟩
  rcases hR with hR | hR
  · obtain ⟨L, l1, l2, l3⟩ := H.2 R hR
    have := hO R hR
    refine ⟨L, ?_, l2, l3⟩
    unfold xz_rF
    rw [if_neg (by omega)]; exact l1
  · refine ⟨[], ?_, List.nodup_nil, fun c => ⟨fun q => by simp at q, fun ⟨e, e1, e2, e3, e4⟩ => ?_⟩⟩
    · show xz_rF rF (200 * d) al R = -1
      unfold xz_rF
      rw [if_pos ⟨by omega, by omega⟩]
    · have := hO _ (H.1 e e1 e2)
      omega
theorem kc_of {S ty : Nat → Int32} {g s k : Nat} (hs : s < 6) (hk : pc_kz S ty (192 + 6 * g + s) = k) (h0 : k ≠ 0) : kc_k S g k := by
  have ks : ∀ τ : Int32, kd_S τ = k → ct_k τ k := fun τ h => by
    rcases kd_S_c (τ := τ) with ⟨w, w1, -⟩ | ⟨w, w1, -⟩ | ⟨w, w1, -⟩ | ⟨-, -, -, w1, -⟩
    · rw [← h, w1]; exact Or.inl w
    · rw [← h, w1]; exact Or.inl w
    · omega
    · omega
  have kp : ∀ τ : Int32, kd_P τ = k → ct_k τ k := fun τ h => by
    rcases kd_S_c (τ := τ) with ⟨w, -, w1⟩ | ⟨w, -, w1⟩ | ⟨w, -, w1⟩ | ⟨-, -, -, -, w1⟩
    · omega
    · rw [← h, w1]; exact Or.inr ⟨w, rfl⟩
    · rw [← h, w1]; exact Or.inl w
    · omega
  obtain ⟨j, b, j1, b1, e⟩ : ∃ j b, j < 3 ∧ b < 2 ∧ s = 2 * j + b := ⟨s / 2, s % 2, by omega, by omega, by omega⟩
  subst e
  have ct : ct_k (S (3 * g + j)) k := by
    rcases (by omega : b = 0 ∨ b = 1) with rfl | rfl
    · rw [Nat.add_zero, kz_s0 j1] at hk; exact ks _ hk
    · rw [← Nat.add_assoc, kz_s1 j1] at hk; exact kp _ hk
  rcases (by omega : j = 0 ∨ j = 1 ∨ j = 2) with rfl | rfl | rfl
  · exact Or.inr (Or.inl ct)
  · exact Or.inr (Or.inr ct)
  · exact Or.inl ct
/-- counts behind a leave with release -/
theorem ct_leave {cl m0 md : Nat} {S us0 us us' ck0 fr0 ck fr fr' : Nat → Int32} {uy : Int32} {g : Nat} (h0 : ∀ k, 1 ≤ k → k ≤ 3 → us0 k = nI (cn (fun e => ck0 e = nI k ∧ fr0 e = 0) m0)) (h : hi_ct cl md us uy ck fr) (hle : m0 ≤ md) (hold : ∀ e, e < m0 → ck e = ck0 e ∧ fr e = fr0 e)
    (hu : ∀ j, 1 ≤ j → j ≤ 3 → (kc_k S g j → us' j = us j) ∧ (¬ kc_k S g j → us' j = us0 j)) (Y : yf_k S g md m0 1 ck fr fr') : hi_ct cl md us' (nI (cn (fun e => fr' e = 0) md)) ck fr' := by
  have sub : ∀ e, e < md → fr' e = 0 → fr e = 0 := fun e he z => by
    rcases Classical.em (fr e = 0) with w | w
    · exact w
    · rw [Y.2 e (Or.inr (Or.inr (Or.inl w)))] at z; exact z
  refine ⟨rfl, Nat.le_trans (cn_mono sub) h.2.1, fun k k1 k3 => ?_⟩
  rcases Classical.em (kc_k S g k) with w | w
  · rw [(hu k k1 k3).1 w, h.2.2 k k1 k3]
    refine congrArg nI (cn_eq (fun e he => ⟨fun q => ⟨q.1, ?_⟩, fun q => ⟨q.1, sub e he q.2⟩⟩))
    rw [Y.2 e (Or.inr (Or.inr (Or.inr (fun j j1 j3 ej => ?_)))), q.2]
    have : j = k := (nI_eq (by omega) (by omega)).mp (ej.symm.trans q.1)
    rw [this]; exact w
  · rw [(hu k k1 k3).2 w, h0 k k1 k3]
    refine congrArg nI ?_
    rw [cn_none (P := fun e => ck e = nI k ∧ fr' e = 0) hle (fun e e1 e2 q => ?_)]
    · refine cn_eq (fun e he => ?_)
      obtain ⟨a, b⟩ := hold e he
      rw [a, Y.2 e (Or.inl he), b]
    · have z := sub e e2 q.2
      have := Y.1 e k e1 e2 z k1 k3 q.1 w
      rw [this] at q
      exact absurd q.2 (by decide)
theorem hi_hp_fr {cl md : Nat} {fc : Int32} {cA cB lk lv fi se ck fr fr' : Nat → Int32} {mu : Nat → Nat} {av : Nat → Prop} {FL : List Nat} (H : hi_hp cl md fc cA cB lk lv fi se ck fr mu av FL) (h01 : ∀ e, e < md → fr' e = 0 ∨ fr' e = 1) (ha : ∀ e, e < md → av e → fr' e = 0) : hi_hp cl md fc cA cB lk lv fi se ck fr' mu av FL := by
  obtain ⟨h1, h2, h3, h4, h5, h6, h7⟩ := H
  exact ⟨fun e he => ⟨(h1 e he).1, h01 e he⟩, fun e he a => ⟨ha e he a, (h2 e he a).2⟩, h3, h4, h5, h6, h7⟩
theorem hr_weak {md : Nat} {lk rF : Nat → Int32} {mu rg : Nat → Nat} {av OP OP' : Nat → Prop} (H : hr_ok md lk rF mu rg av OP) (h1 : ∀ R, OP' R → OP R) (h2 : ∀ e, e < md → av e → OP' (rg e)) : hr_ok md lk rF mu rg av OP' := ⟨h2, fun R hR => H.2 R (h1 R hR)⟩
end
section
section
variable {f_functionLimit f_tokenLimit f_cellLimit f_depthLimit f_functions f_accepted f_placed f_openBody f_holeCount f_nextRegion f_changed g_maxFunctions g_maxTokens g_maxCells g_maxDepth g_functions g_tokens g_open g_accepted g_answer : Int32} {a_sigType a_params a_kept a_start a_finished a_tokOp a_tokArg a_tokType a_tokScope a_end a_holeType a_holeNest a_holeScope a_holeVars a_parent a_region a_sigRegions a_allRegions a_result b_result b_param b_finished : Nat → Int32} {nf t cl dl : Nat} {rl : Int32} {sN fo en sg al : Nat → Nat} {FIN : Int32 → SX → SY → Prop} {f_freeCell f_peakUsed g_used : Int32} {a_cellA a_cellB a_link a_live a_frameFunction a_vars a_saved a_env a_regionFirst a_tasks a_values a_used b_first b_second b_cellKind b_freed b_fn b_born b_actual b_value b_known : Nat → Int32} {md : Nat} {mu rg : Nat → Nat} {av : Nat → Prop} {FL : List Nat}
variable {i D c tt vt x4 y4 N g : Nat} {OP : Nat → Prop}
/-- behind the arguments of a call -/
def ev_mc (f_functionLimit f_tokenLimit f_cellLimit f_depthLimit f_functions f_accepted f_placed f_openBody f_holeCount f_nextRegion f_changed g_maxFunctions g_maxTokens g_maxCells g_maxDepth g_functions g_tokens g_open g_accepted g_answer : Int32) (a_sigType a_params a_kept a_start a_finished a_tokOp a_tokArg a_tokType a_tokScope a_end a_holeType a_holeNest a_holeScope a_holeVars a_parent a_region a_sigRegions a_allRegions a_result b_result b_param b_finished : Nat → Int32) (nf t cl dl : Nat) (rl : Int32) (sN fo en sg al : Nat → Nat) (FIN : Int32 → SX → SY → Prop) (g i D c tt vt x4 y4 : Nat) (OP : Nat → Prop) (f_freeCell f_peakUsed g_used : Int32) (a_cellA a_cellB a_link a_live a_frameFunction a_vars a_saved a_env a_regionFirst a_tasks a_values a_used b_first b_second b_cellKind b_freed b_fn b_born b_actual b_value b_known : Nat → Int32) (md : Nat) (mu rg : Nat → Nat) (av : Nat → Prop) (FL : List Nat) (c' x4' y4' : Nat) (f_freeCell' f_peakUsed' g_used' : Int32) (a_cellA' a_cellB' a_link' a_live' a_frameFunction' a_vars' a_saved' a_env' a_regionFirst' a_tasks' a_values' a_used' b_first' b_second' b_cellKind' b_freed' b_fn' b_born' b_actual' b_value' b_known' : Nat → Int32) (md' : Nat) (mu' rg' : Nat → Nat) (av' : Nat → Prop) (FL' : List Nat) : Prop :=
  (c ≤ c' ∧ c' ≤ 200 ∧ x4' + 193 * c + 1 ≤ x4 + 2 * (en i - i) + 193 * c' ∧ y4' + 97 * c + 1 ≤ y4 + (en i - i) + 97 * c' ∧ 2 * md' + 95 * c + 1 ≤ 2 * md + (en i - i) + 95 * c') ∧ a_tasks' tt = nI (2 * i + 1) ∧
  k_X D tt vt (sp_sc a_sigType a_tokOp a_tokArg (fo (i)) (sN (fo (i))) (i)) a_tasks a_values a_vars a_env a_saved a_frameFunction a_tasks' a_values' a_vars' a_env' a_saved' a_frameFunction' ∧
  k_Y D (i + 1) (en i) b_fn b_born b_actual b_value b_known b_fn' b_born' b_actual' b_value' b_known' ∧ nx_st (sp_A a_sigType a_tokOp a_tokArg) a_tokOp en b_known' b_value' (D * 97) i = none ∧ ev_H cl rl OP f_freeCell' a_cellA' a_cellB' a_link' a_live' a_regionFirst' a_used' g_used' b_first' b_second' b_cellKind' b_freed' md' mu' rg' av' FL' ∧
  hx_E md b_first b_second b_cellKind b_freed mu rg av md' b_first' b_second' b_cellKind' b_freed' mu' rg' av' ∧
  (∀ k, k < sp_n a_sigType g → vr_V md' b_first' b_second' b_cellKind' mu' rg' av' (a_sigType (3 * g + k)) (er a_env a_region D (2 * cp en i k)) (er a_env a_region D (2 * cp en i k + 1)) (a_values' (vt + k)) (b_value' (D * 97 + cp en i k))) ∧
  ev_C rl a_sigType a_tokType a_region fo t (fo i) D md a_env b_cellKind' md' rg' av'
theorem ev_args (S : rs_S f_cellLimit f_depthLimit g_maxCells g_maxDepth g_tokens a_sigType a_params a_kept a_start a_tokOp a_tokArg a_tokType a_tokScope a_end a_region a_sigRegions a_allRegions b_result b_param nf t cl dl rl sN fo en sg al) (IH : EVp f_functionLimit f_tokenLimit f_cellLimit f_depthLimit f_functions f_accepted f_placed f_openBody f_holeCount f_nextRegion f_changed g_maxFunctions g_maxTokens g_maxCells g_maxDepth g_functions g_tokens g_open g_accepted g_answer a_sigType a_params a_kept a_start a_finished a_tokOp a_tokArg a_tokType a_tokScope a_end a_holeType a_holeNest a_holeScope a_holeVars a_parent a_region a_sigRegions a_allRegions a_result b_result b_param b_finished nf t cl dl rl sN fo en sg al FIN N) (pre : ev_pre f_functionLimit f_tokenLimit f_cellLimit f_depthLimit f_functions f_accepted f_placed f_openBody f_holeCount f_nextRegion f_changed g_maxFunctions g_maxTokens g_maxCells g_maxDepth g_functions g_tokens g_open g_accepted g_answer a_sigType a_params a_kept a_start a_finished a_tokOp a_tokArg a_tokType a_tokScope a_end a_holeType a_holeNest a_holeScope a_holeVars a_parent a_region a_sigRegions a_allRegions a_result b_result b_param b_finished nf t cl dl rl sN fo en sg al FIN i D c tt vt x4 y4 OP f_freeCell f_peakUsed g_used a_cellA a_cellB a_link a_live a_frameFunction a_vars a_saved a_env a_regionFirst a_tasks a_values a_used b_first b_second b_cellKind b_freed b_fn b_born b_actual b_value b_known md mu rg av FL) (hN : (200 - c) * 100 + (en i - i) ≤ N + 1) (h : a_tokOp i = 6) (hg : g < nf) (ha : a_tokArg i = nI g)
    (K : ∀ (c' x4' y4' : Nat) (f_freeCell' f_peakUsed' g_used' : Int32) (a_cellA' a_cellB' a_link' a_live' a_frameFunction' a_vars' a_saved' a_env' a_regionFirst' a_tasks' a_values' a_used' b_first' b_second' b_cellKind' b_freed' b_fn' b_born' b_actual' b_value' b_known' : Nat → Int32) (md' : Nat) (mu' rg' : Nat → Nat) (av' : Nat → Prop) (FL' : List Nat), ev_mc f_functionLimit f_tokenLimit f_cellLimit f_depthLimit f_functions f_accepted f_placed f_openBody f_holeCount f_nextRegion f_changed g_maxFunctions g_maxTokens g_maxCells g_maxDepth g_functions g_tokens g_open g_accepted g_answer a_sigType a_params a_kept a_start a_finished a_tokOp a_tokArg a_tokType a_tokScope a_end a_holeType a_holeNest a_holeScope a_holeVars a_parent a_region a_sigRegions a_allRegions a_result b_result b_param b_finished nf t cl dl rl sN fo en sg al FIN g i D c tt vt x4 y4 OP f_freeCell f_peakUsed g_used a_cellA a_cellB a_link a_live a_frameFunction a_vars a_saved a_env a_regionFirst a_tasks a_values a_used b_first b_second b_cellKind b_freed b_fn b_born b_actual b_value b_known md mu rg av FL c' x4' y4' f_freeCell' f_peakUsed' g_used' a_cellA' a_cellB' a_link' a_live' a_frameFunction' a_vars' a_saved' a_env' a_regionFirst' a_tasks' a_values' a_used' b_first' b_second' b_cellKind' b_freed' b_fn' b_born' b_actual' b_value' b_known' md' mu' rg' av' FL' → rj FIN rl x4' (f_functionLimit, f_tokenLimit, f_cellLimit, f_depthLimit, f_functions, f_accepted, f_placed, f_openBody, f_holeCount, f_nextRegion, f_changed, f_freeCell', nI (D + 1), nI (c'), nI (tt + 1), nI (vt + sp_n a_sigType g), rl, 0, f_peakUsed', 0, a_sigType, a_params, a_kept, a_start, a_finished, a_tokOp, a_tokArg, a_tokType, a_tokScope, a_end, a_holeType, a_holeNest, a_holeScope, a_holeVars, a_parent, a_region, a_sigRegions, a_allRegions, a_cellA', a_cellB', a_link', a_live', a_frameFunction', a_vars', a_saved', a_env', a_regionFirst', a_tasks', a_values', a_used', a_result) y4' (g_maxFunctions, g_maxTokens, g_maxCells, g_maxDepth, g_functions, g_tokens, g_open, g_accepted, nI md', g_used', f_peakUsed', 0, g_answer, nI (c'), nI (D + 1), b_result, b_param, a_start, b_finished, a_tokOp, a_tokArg, a_tokType, b_first', b_second', b_cellKind', b_freed', b_fn', b_born', b_actual', b_value', b_known')) : rj FIN rl x4 (f_functionLimit, f_tokenLimit, f_cellLimit, f_depthLimit, f_functions, f_accepted, f_placed, f_openBody, f_holeCount, f_nextRegion, f_changed, f_freeCell, nI (D + 1), nI (c), nI (tt + 1), nI (vt), rl, 0, f_peakUsed, 0, a_sigType, a_params, a_kept, a_start, a_finished, a_tokOp, a_tokArg, a_tokType, a_tokScope, a_end, a_holeType, a_holeNest, a_holeScope, a_holeVars, a_parent, a_region, a_sigRegions, a_allRegions, a_cellA, a_cellB, a_link, a_live, a_frameFunction, a_vars, a_saved, a_env, a_regionFirst, a_tasks, a_values, a_used, a_result) y4 (g_maxFunctions, g_maxTokens, g_maxCells, g_maxDepth, g_functions, g_tokens, g_open, g_accepted, nI md, g_used, f_peakUsed, 0, g_answer, nI (c), nI (D + 1), b_result, b_param, a_start, b_finished, a_tokOp, a_tokArg, a_tokType, b_first, b_second, b_cellKind, b_freed, b_fn, b_born, b_actual, b_value, b_known) := by
  have ht := S.1.1
  have hn8 := S.1.2.1
  have hA : (sp_A a_sigType a_tokOp a_tokArg) i = sp_n a_sigType g := by
    unfold sp_A sp_ar
    rw [h, ha, nI_clamp (by omega)]; rfl
  have hct : ∀ k, sp_ct a_sigType (a_tokOp i) (a_tokArg i) (a_tokType i) k = a_sigType (3 * g + k) := by
    intro k
    unfold sp_ct
    rw [h, ha, nI_clamp (by omega)]; rfl
  have hle := sp_n_le a_sigType g
  have pre' := pre
  obtain ⟨⟨p1, p2, p3, p4, p5, p6, p7, p8, p9⟩, ht0, hF, hH, hNv, hk0, hP⟩ := pre
  have dl24 := S.2.2.2.2.2.2.2.2.2.2.2.2.2.2.1
  have ns10 := (pc_tok S.1 p1).2.2.2.2.2.1
  rcases (by omega : sp_n a_sigType g = 0 ∨ sp_n a_sigType g = 1 ∨ sp_n a_sigType g = 2) with z | z | z
  · have e0 := pc_e0 S.1 p1 (by omega)
    refine rj_xs (by omega) (ru_advE ht0 (by omega) (by omega) (re_br0 S.1 S.2.2.1 p1 (by rw [h]; decide) (by rw [h]; decide) (by rw [h]; decide) (by omega) (by omega))) ?_
    rw [z] at K
    refine K c (x4 + 1) y4 _ _ _ _ _ _ _ _ _ _ _ _ _ _ _ _ _ _ _ _ _ _ _ _ md mu rg av FL ⟨⟨Nat.le_refl _, p4, by omega, by omega, by omega⟩, pk_us, ⟨fun j hj => pk_un (by omega), fun _ _ => rfl, fun _ _ => rfl, fun _ _ => rfl, fun _ _ => rfl, fun _ _ => rfl⟩, k_Y_rf, nx_st_none (fun j hj => by omega), hH, hx_rf, fun k hk => by omega, ev_C_0⟩
  · refine ev_one S IH pre' hN (Or.inl (by omega)) (by rw [h]; decide) (by rw [h]; decide) (by rw [h]; decide) (fun c' x4' y4' f_freeCell' f_peakUsed' g_used' a_cellA' a_cellB' a_link' a_live' a_frameFunction' a_vars' a_saved' a_env' a_regionFirst' a_tasks' a_values' a_used' b_first' b_second' b_cellKind' b_freed' b_fn' b_born' b_actual' b_value' b_known' md' mu' rg' av' FL' mm => ?_)
    obtain ⟨⟨m1, m2, m3, m4, m5⟩, mt, kx, ky, kn0, hh, hx, hv0, hC⟩ := mm
    have c0 := pc_c0 S.1 p1 (by omega)
    have ee := pc_e1 S.1 p1 (by omega)
    have ec := pc_end S.1 c0.2.2.2.1
    have K1 := K c' x4' y4' f_freeCell' f_peakUsed' g_used' a_cellA' a_cellB' a_link' a_live' a_frameFunction' a_vars' a_saved' a_env' a_regionFirst' a_tasks' a_values' a_used' b_first' b_second' b_cellKind' b_freed' b_fn' b_born' b_actual' b_value' b_known' md' mu' rg' av' FL' ⟨⟨m1, m2, by omega, by omega, by omega⟩, mt, kx, k_Y_up ky (Nat.le_refl _) (by omega), nx1 (by omega) kn0, hh, hx, fun k hk => ?_, hC⟩
    · rw [z] at K1; exact K1
    · have : k = 0 := by omega
      subst this
      have tc := c0.2.2.2.2.2.2
      rw [hct] at tc
      rw [← tc]; exact hv0
  · refine ev_two S IH pre' hN (by omega) (by rw [h]; decide) (by rw [h]; decide) (by rw [h]; decide) (by rw [h]; decide) (by rw [h]; decide) (fun c' x4' y4' f_freeCell' f_peakUsed' g_used' a_cellA' a_cellB' a_link' a_live' a_frameFunction' a_vars' a_saved' a_env' a_regionFirst' a_tasks' a_values' a_used' b_first' b_second' b_cellKind' b_freed' b_fn' b_born' b_actual' b_value' b_known' md' mu' rg' av' FL' mm => ?_)
    obtain ⟨⟨m1, m2, m3, m4, m5⟩, mt, kx, ky, kn0, kn1, hh, hx, hv0, hv1, hC⟩ := mm
    have c0 := pc_c0 S.1 p1 (by omega)
    have c1 := pc_c1 S.1 p1 (by omega)
    have K1 := K c' x4' y4' f_freeCell' f_peakUsed' g_used' a_cellA' a_cellB' a_link' a_live' a_frameFunction' a_vars' a_saved' a_env' a_regionFirst' a_tasks' a_values' a_used' b_first' b_second' b_cellKind' b_freed' b_fn' b_born' b_actual' b_value' b_known' md' mu' rg' av' FL' ⟨⟨m1, m2, m3, m4, by omega⟩, mt, kx, ky, nx2 (by omega) kn0 kn1, hh, hx, fun k hk => ?_, hC⟩
    · rw [z] at K1; exact K1
    · rcases (by omega : k = 0 ∨ k = 1) with rfl | rfl
      · have tc := c0.2.2.2.2.2.2
        rw [hct] at tc
        rw [← tc]; exact hv0
      · have tc := c1.2.2.2.2.2.2
        rw [hct] at tc
        rw [← tc]; exact hv1
end
end
section
section
variable {f_functionLimit f_tokenLimit f_cellLimit f_depthLimit f_functions f_accepted f_placed f_openBody f_holeCount f_nextRegion f_changed g_maxFunctions g_maxTokens g_maxCells g_maxDepth g_functions g_tokens g_open g_accepted g_answer : Int32} {a_sigType a_params a_kept a_start a_finished a_tokOp a_tokArg a_tokType a_tokScope a_end a_holeType a_holeNest a_holeScope a_holeVars a_parent a_region a_sigRegions a_allRegions a_result b_result b_param b_finished : Nat → Int32} {nf t cl dl : Nat} {rl : Int32} {sN fo en sg al : Nat → Nat} {FIN : Int32 → SX → SY → Prop} {f_freeCell1 f_peakUsed1 g_used1 : Int32} {a_cellA1 a_cellB1 a_link1 a_live1 a_frameFunction1 a_vars1 a_saved1 a_env1 a_regionFirst1 a_tasks1 a_values1 a_used1 b_first1 b_second1 b_cellKind1 b_freed1 b_fn1 b_born1 b_actual1 b_value1 b_known1 : Nat → Int32} {md1 : Nat} {mu1 rg1 : Nat → Nat} {av1 : Nat → Prop} {FL1 : List Nat} {f_freeCell2 f_peakUsed2 g_used2 : Int32} {a_cellA2 a_cellB2 a_link2 a_live2 a_frameFunction2 a_vars2 a_saved2 a_env2 a_regionFirst2 a_tasks2 a_values2 a_used2 b_first2 b_second2 b_cellKind2 b_freed2 b_fn2 b_born2 b_actual2 b_value2 b_known2 : Nat → Int32} {md2 : Nat} {mu2 rg2 : Nat → Nat} {av2 : Nat → Prop} {FL2 : List Nat}
variable {i D c2 tt vt x2 y2 g : Nat} {OP : Nat → Prop} {ee ev0 : Nat → Int32}
theorem ev_ret (S : rs_S f_cellLimit f_depthLimit g_maxCells g_maxDepth g_tokens a_sigType a_params a_kept a_start a_tokOp a_tokArg a_tokType a_tokScope a_end a_region a_sigRegions a_allRegions b_result b_param nf t cl dl rl sN fo en sg al) (hg : g < nf) (hi : i < t) (hD : D + 1 < 24) (hx2 : x2 < 40000) (hy2 : y2 < 20000) (hm2 : md2 ≤ 9600) (htt : tt < 1024) (hta : a_tasks2 tt = -1) (hff : a_frameFunction2 (D + 1) = nI g) (hfn : b_fn2 (D + 1) = nI g) (hfn0 : b_fn2 D = nI (fo i)) (hbo : b_born2 (D + 1) = nI md1)
    (hsv : ∀ k, 1 ≤ k → k ≤ 3 → a_saved2 (4 * (D + 1) + k) = a_used1 k) (h0 : ∀ k, 1 ≤ k → k ≤ 3 → a_used1 k = nI (cn (fun e => b_cellKind1 e = nI k ∧ b_freed1 e = 0) md1)) (hkr : b_known2 ((D + 1) * 97 + sN g) = 1) (hnx : nx (sp_A a_sigType a_tokOp a_tokArg) a_tokOp en b_known2 b_value2 (D * 97) 10 (sN (fo i)) = i)
    (hh : ev_H cl rl (op_c OP (D + 1) (sg g) (al g)) f_freeCell2 a_cellA2 a_cellB2 a_link2 a_live2 a_regionFirst2 a_used2 g_used2 b_first2 b_second2 b_cellKind2 b_freed2 md2 mu2 rg2 av2 FL2) (hOP : ∀ R, OP R → R < 200 * (D + 1)) (hO1 : rl = 1 → ∀ e, e < md1 → av1 e → OP (rg1 e)) (hx : hx_E md1 b_first1 b_second1 b_cellKind1 b_freed1 mu1 rg1 av1 md2 b_first2 b_second2 b_cellKind2 b_freed2 mu2 rg2 av2)
    (hC : rl = 1 → ∀ e, md1 ≤ e → e < md2 → av2 e → (200 * (D + 1) + sg g ≤ rg2 e ∧ rg2 e < 200 * (D + 1) + al g) ∨ ∃ k, 1 ≤ k ∧ k ≤ 3 ∧ b_cellKind2 e = nI k ∧ kc_k a_sigType g k)
    (K : ∀ (fc3 : Int32) (lk3 lv3 rF3 us3 : Nat → Int32) (uy3 : Int32) (fr3 : Nat → Int32) (av3 : Nat → Prop) (FL3 : List Nat), ((ev_H cl rl OP fc3 a_cellA2 a_cellB2 lk3 lv3 rF3 us3 uy3 b_first2 b_second2 b_cellKind2 fr3 md2 mu2 rg2 av3 FL3) ∧ hx_E md1 b_first1 b_second1 b_cellKind1 b_freed1 mu1 rg1 av1 md2 b_first2 b_second2 b_cellKind2 fr3 mu2 rg2 av3 ∧ (∀ e, e < md2 → av2 e → (rl = 1 → rg2 e < 200 * (D + 1)) → av3 e) ∧ (∀ e, e < md2 → av3 e → av2 e) ∧ (rl = 1 → ∀ e, e < md2 → av3 e → OP (rg2 e))) → rj FIN rl (x2 + 1) (f_functionLimit, f_tokenLimit, f_cellLimit, f_depthLimit, f_functions, f_accepted, f_placed, f_openBody, f_holeCount, f_nextRegion, f_changed, fc3, nI (D + 1), nI c2, nI tt, nI (vt + 1), rl, 0, f_peakUsed2, 0, a_sigType, a_params, a_kept, a_start, a_finished, a_tokOp, a_tokArg, a_tokType, a_tokScope, a_end, a_holeType, a_holeNest, a_holeScope, a_holeVars, a_parent, a_region, a_sigRegions, a_allRegions, a_cellA2, a_cellB2, lk3, lv3, a_frameFunction2, a_vars2, a_saved2, a_env2, rF3, a_tasks2, a_values2, us3, a_result) (y2 + 1) (g_maxFunctions, g_maxTokens, g_maxCells, g_maxDepth, g_functions, g_tokens, g_open, g_accepted, nI md2, uy3, f_peakUsed2, 0, g_answer, nI c2, nI (D + 1), b_result, b_param, a_start, b_finished, a_tokOp, a_tokArg, a_tokType, b_first2, b_second2, b_cellKind2, fr3, b_fn2, b_born2, b_actual2, upd b_value2 (D * 97 + i) (b_value2 ((D + 1) * 97 + sN g)), upd b_known2 (D * 97 + i) 1)) : rj FIN rl x2 (f_functionLimit, f_tokenLimit, f_cellLimit, f_depthLimit, f_functions, f_accepted, f_placed, f_openBody, f_holeCount, f_nextRegion, f_changed, f_freeCell2, nI (D + 2), nI (c2), nI (tt + 1), nI (vt + 1), rl, 0, f_peakUsed2, 0, a_sigType, a_params, a_kept, a_start, a_finished, a_tokOp, a_tokArg, a_tokType, a_tokScope, a_end, a_holeType, a_holeNest, a_holeScope, a_holeVars, a_parent, a_region, a_sigRegions, a_allRegions, a_cellA2, a_cellB2, a_link2, a_live2, a_frameFunction2, a_vars2, a_saved2, a_env2, a_regionFirst2, a_tasks2, a_values2, a_used2, a_result) y2 (g_maxFunctions, g_maxTokens, g_maxCells, g_maxDepth, g_functions, g_tokens, g_open, g_accepted, nI md2, g_used2, f_peakUsed2, 0, g_answer, nI (c2), nI (D + 2), b_result, b_param, a_start, b_finished, a_tokOp, a_tokArg, a_tokType, b_first2, b_second2, b_cellKind2, b_freed2, b_fn2, b_born2, b_actual2, b_value2, b_known2) := by
  have ht := S.1.1
  have hn := S.1.2.1
  have hsN := pc_sN S.1 hg
  have hf := pc_fo S.1 hi
  have hcl := S.2.2.2.2.2.2.2.2.2.2.1
  have rl01 := S.2.2.2.2.2.2.2.2.2.2.2.2.2.2.2.2
  have htok := S.2.2.2.2.2.2.2.2.2.2.2.2.2.2.2.1
  have eu := hh.2.1.1
  subst eu
  rcases rl01 with r | r
  · subst r
    refine rj_xs hx2 (ru_advL hta htt (fun post hpo => ux_leaveK (by omega) (ux_117 (d := D + 1) (by omega) (by omega) hpo))) ?_
    refine rj_yl hy2 (show D + 1 < 24 by omega) (show g < 8 by omega) (show sN g < 97 by omega) hfn (S.2.2.2.2.2.1 g hg) (by rw [hkr]; decide) (fun post hpo => uy_leaveK (v := b_value2 ((D + 1) * 97 + sN g)) S.1 S.2.2.2.2.2.1 hg (by omega) hfn rfl (uy_184 S.2.2.2.2.2.2.1 S.1 htok S.2.2.2.2.2.1 (by omega) hf hfn0 hi hnx hpo)) ?_
    exact K f_freeCell2 a_link2 a_live2 a_regionFirst2 a_used2 _ b_freed2 av2 FL2 ⟨⟨hh.1, hh.2.1, fun q => absurd q (by decide)⟩, hx, fun _ _ q _ => q, fun _ _ q => q, fun q => absurd q (by decide)⟩
  · subst r
    have hr := hh.2.2 rfl
    have gr := S.2.1.1 g hg
    obtain ⟨us3, fc3, lk3, lv3, rF3, av3, FL3, u1, u2, u3, u4, u5⟩ := ux_leaveR (f_functionLimit := f_functionLimit) (f_tokenLimit := f_tokenLimit) (f_cellLimit := f_cellLimit) (f_depthLimit := f_depthLimit) (f_functions := f_functions) (f_accepted := f_accepted) (f_placed := f_placed) (f_openBody := f_openBody) (f_holeCount := f_holeCount) (f_nextRegion := f_nextRegion) (f_changed := f_changed) (f_calls := nI c2) (f_taskTop := nI tt) (f_valueTop := nI (vt + 1)) (f_outcome := 0) (f_peakUsed := f_peakUsed2) (f_resultSize := 0) (a_sigType := a_sigType) (a_params := a_params) (a_kept := a_kept) (a_start := a_start) (a_finished := a_finished) (a_tokOp := a_tokOp) (a_tokArg := a_tokArg) (a_tokType := a_tokType) (a_tokScope := a_tokScope) (a_end := a_end) (a_holeType := a_holeType) (a_holeNest := a_holeNest) (a_holeScope := a_holeScope) (a_holeVars := a_holeVars) (a_parent := a_parent) (a_region := a_region) (a_sigRegions := a_sigRegions) (a_allRegions := a_allRegions) (a_cellA := a_cellA2) (a_cellB := a_cellB2) (a_frameFunction := a_frameFunction2) (a_vars := a_vars2) (a_saved := a_saved2) (a_env := a_env2) (a_tasks := a_tasks2) (a_values := a_values2) (a_used := a_used2) (a_result := a_result) (d := D + 1) (f := g) (OP := op_c OP (D + 1) (sg g) (al g)) hcl (by omega) (by omega) hff (S.1.2.2.1 g hg) (S.2.2.2.1 g hg) gr.1 gr.2.1 gr.2.2.1 gr.2.2.2 (fun k' a b => Or.inr ⟨by omega, by omega⟩) hh.1 hr
    obtain ⟨fr3, w1, w2⟩ := uy_leaveR (f := g) (md := md2) (bo := md1) (D := D + 1) (v := b_value2 ((D + 1) * 97 + sN g)) (g_maxFunctions := g_maxFunctions) (g_maxTokens := g_maxTokens) (g_maxCells := g_maxCells) (g_maxDepth := g_maxDepth) (g_functions := g_functions) (g_tokens := g_tokens) (g_open := g_open) (g_accepted := g_accepted) (g_most := f_peakUsed2) (g_last := 0) (g_answer := g_answer) (g_calls := nI c2) (b_result := b_result) (b_param := b_param) (b_start := a_start) (b_finished := b_finished) (b_tokOp := a_tokOp) (b_tokArg := a_tokArg) (b_tokType := a_tokType) (b_first := b_first2) (b_second := b_second2) (b_cellKind := b_cellKind2) (b_freed := b_freed2) (b_fn := b_fn2) (b_born := b_born2) (b_actual := b_actual2) (b_value := b_value2) (b_known := b_known2) S.2.2.2.2.2.2.1 S.1 S.2.2.2.2.2.1 hg hm2 (by omega) hfn hbo hx.1 rfl
    refine rj_xs hx2 (ru_advL hta htt (fun post hpo => u5 post (ux_117 (d := D + 1) (by omega) (by omega) hpo))) ?_
    refine rj_yl hy2 (show D + 1 < 24 by omega) (show g < 8 by omega) (show sN g < 97 by omega) hfn (S.2.2.2.2.2.1 g hg) (by rw [hkr]; decide) (fun post hpo => w2 post (uy_184 S.2.2.2.2.2.2.1 S.1 htok S.2.2.2.2.2.1 (by omega) hf hfn0 hi hnx hpo)) ?_
    have alive : ∀ e, e < md2 → (av3 e ↔ (av2 e ∧ ¬ (200 * (D + 1) + sg g ≤ rg2 e ∧ rg2 e < 200 * (D + 1) + al g))) := u4
    have fr01 : ∀ e, e < md2 → fr3 e = 0 ∨ fr3 e = 1 := fun e he => by
      rcases Classical.em (fr3 e = b_freed2 e) with q | q
      · rw [q]; exact (hh.1.1 e he).2
      · refine Or.inr ?_
        rcases Classical.em (∃ j, 1 ≤ j ∧ j ≤ 3 ∧ b_cellKind2 e = nI j ∧ ¬ kc_k a_sigType g j) with ⟨j, j1, j3, ej, nj⟩ | nj
        · rcases Nat.lt_or_ge e md1 with y | y
          · exact absurd (w1.2 e (Or.inl y)) q
          · rcases Classical.em (b_freed2 e = 0) with z | z
            · exact w1.1 e j y he z j1 j3 ej nj
            · exact absurd (w1.2 e (Or.inr (Or.inr (Or.inl z)))) q
        · refine absurd (w1.2 e (Or.inr (Or.inr (Or.inr (fun j j1 j3 ej => ?_))))) q
          rcases Classical.em (kc_k a_sigType g j) with z | z
          · exact z
          · exact absurd ⟨j, j1, j3, ej, z⟩ nj
    have frA : ∀ e, e < md2 → av3 e → fr3 e = 0 := fun e he ha => by
      have a2 := (alive e he).mp ha
      have f2 := (hh.1.2.1 e he a2.1).1
      rcases Nat.lt_or_ge e md1 with y | y
      · rw [w1.2 e (Or.inl y)]; exact f2
      · rcases hC rfl e y he a2.1 with z | ⟨k, k1, k3, ek, kk⟩
        · exact absurd z a2.2
        · rw [w1.2 e (Or.inr (Or.inr (Or.inr (fun j j1 j3 ej => ?_))))]
          · exact f2
          · have : j = k := (nI_eq (by omega) (by omega)).mp (ej.symm.trans ek)
            rw [this]; exact kk
    have inOP : ∀ e, e < md2 → av3 e → OP (rg2 e) := fun e he ha => by
      have a2 := (alive e he).mp ha
      rcases hr.1 e he a2.1 with z | z
      · exact z
      · exact absurd z a2.2
    refine K fc3 lk3 lv3 rF3 us3 _ fr3 av3 FL3 ⟨⟨hi_hp_fr u2 fr01 frA, ct_leave h0 hh.2.1 hx.1 (fun e he => ⟨(hx.2 e he).2.2.1, (hx.2 e he).2.2.2.1⟩) (fun j j1 j3 => ⟨(u1 j j1 j3).1, fun q => by rw [(u1 j j1 j3).2 q, hsv j j1 j3]⟩) w1, fun _ => hr_weak u3 (fun R hR => Or.inl hR) inOP⟩, ⟨hx.1, fun e he => ?_⟩, fun e he ha hl => (alive e he).mpr ⟨ha, fun q => by have := hl rfl; omega⟩, fun e he ha => ((alive e he).mp ha).1, fun _ => inOP⟩
    obtain ⟨q1, q2, q3, q4, q5, q6, q7⟩ := hx.2 e he
    have hle := hx.1
    refine ⟨q1, q2, q3, by rw [w1.2 e (Or.inl he)]; exact q4, q5, q6, ?_⟩
    rw [alive e (by omega), q7]
    refine ⟨fun q => q.1, fun q => ⟨q, fun z => ?_⟩⟩
    have := hOP _ (hO1 rfl e he q)
    rw [q6] at z
    omega
end
end
section
section
variable {f_functionLimit f_tokenLimit f_cellLimit f_depthLimit f_functions f_accepted f_placed f_openBody f_holeCount f_nextRegion f_changed g_maxFunctions g_maxTokens g_maxCells g_maxDepth g_functions g_tokens g_open g_accepted g_answer : Int32} {a_sigType a_params a_kept a_start a_finished a_tokOp a_tokArg a_tokType a_tokScope a_end a_holeType a_holeNest a_holeScope a_holeVars a_parent a_region a_sigRegions a_allRegions a_result b_result b_param b_finished : Nat → Int32} {nf t cl dl : Nat} {rl : Int32} {sN fo en sg al : Nat → Nat} {FIN : Int32 → SX → SY → Prop} {f_freeCell f_peakUsed g_used : Int32} {a_cellA a_cellB a_link a_live a_frameFunction a_vars a_saved a_env a_regionFirst a_tasks a_values a_used b_first b_second b_cellKind b_freed b_fn b_born b_actual b_value b_known : Nat → Int32} {md : Nat} {mu rg : Nat → Nat} {av : Nat → Prop} {FL : List Nat}
variable {i D c tt vt x4 y4 N : Nat} {OP : Nat → Prop}
theorem ev_call (S : rs_S f_cellLimit f_depthLimit g_maxCells g_maxDepth g_tokens a_sigType a_params a_kept a_start a_tokOp a_tokArg a_tokType a_tokScope a_end a_region a_sigRegions a_allRegions b_result b_param nf t cl dl rl sN fo en sg al) (FS : ev_S f_functionLimit f_tokenLimit f_cellLimit f_depthLimit f_functions f_accepted f_placed f_openBody f_holeCount f_nextRegion f_changed g_maxFunctions g_maxTokens g_maxCells g_maxDepth g_functions g_tokens g_open g_accepted g_answer a_sigType a_params a_kept a_start a_finished a_tokOp a_tokArg a_tokType a_tokScope a_end a_holeType a_holeNest a_holeScope a_holeVars a_parent a_region a_sigRegions a_allRegions a_result b_result b_param b_finished nf t cl dl rl sN fo en sg al FIN) (IH : EVp f_functionLimit f_tokenLimit f_cellLimit f_depthLimit f_functions f_accepted f_placed f_openBody f_holeCount f_nextRegion f_changed g_maxFunctions g_maxTokens g_maxCells g_maxDepth g_functions g_tokens g_open g_accepted g_answer a_sigType a_params a_kept a_start a_finished a_tokOp a_tokArg a_tokType a_tokScope a_end a_holeType a_holeNest a_holeScope a_holeVars a_parent a_region a_sigRegions a_allRegions a_result b_result b_param b_finished nf t cl dl rl sN fo en sg al FIN N) (pre : ev_pre f_functionLimit f_tokenLimit f_cellLimit f_depthLimit f_functions f_accepted f_placed f_openBody f_holeCount f_nextRegion f_changed g_maxFunctions g_maxTokens g_maxCells g_maxDepth g_functions g_tokens g_open g_accepted g_answer a_sigType a_params a_kept a_start a_finished a_tokOp a_tokArg a_tokType a_tokScope a_end a_holeType a_holeNest a_holeScope a_holeVars a_parent a_region a_sigRegions a_allRegions a_result b_result b_param b_finished nf t cl dl rl sN fo en sg al FIN i D c tt vt x4 y4 OP f_freeCell f_peakUsed g_used a_cellA a_cellB a_link a_live a_frameFunction a_vars a_saved a_env a_regionFirst a_tasks a_values a_used b_first b_second b_cellKind b_freed b_fn b_born b_actual b_value b_known md mu rg av FL) (hN : (200 - c) * 100 + (en i - i) ≤ N + 1) (h : a_tokOp i = 6) (K : ∀ (c' x4' y4' : Nat) (f_freeCell' f_peakUsed' g_used' : Int32) (a_cellA' a_cellB' a_link' a_live' a_frameFunction' a_vars' a_saved' a_env' a_regionFirst' a_tasks' a_values' a_used' b_first' b_second' b_cellKind' b_freed' b_fn' b_born' b_actual' b_value' b_known' : Nat → Int32) (md' : Nat) (mu' rg' : Nat → Nat) (av' : Nat → Prop) (FL' : List Nat), ev_post f_functionLimit f_tokenLimit f_cellLimit f_depthLimit f_functions f_accepted f_placed f_openBody f_holeCount f_nextRegion f_changed g_maxFunctions g_maxTokens g_maxCells g_maxDepth g_functions g_tokens g_open g_accepted g_answer a_sigType a_params a_kept a_start a_finished a_tokOp a_tokArg a_tokType a_tokScope a_end a_holeType a_holeNest a_holeScope a_holeVars a_parent a_region a_sigRegions a_allRegions a_result b_result b_param b_finished nf t cl dl rl sN fo en sg al FIN i D c tt vt x4 y4 OP f_freeCell f_peakUsed g_used a_cellA a_cellB a_link a_live a_frameFunction a_vars a_saved a_env a_regionFirst a_tasks a_values a_used b_first b_second b_cellKind b_freed b_fn b_born b_actual b_value b_known md mu rg av FL c' x4' y4' f_freeCell' f_peakUsed' g_used' a_cellA' a_cellB' a_link' a_live' a_frameFunction' a_vars' a_saved' a_env' a_regionFirst' a_tasks' a_values' a_used' b_first' b_second' b_cellKind' b_freed' b_fn' b_born' b_actual' b_value' b_known' md' mu' rg' av' FL' → rj FIN rl x4' (f_functionLimit, f_tokenLimit, f_cellLimit, f_depthLimit, f_functions, f_accepted, f_placed, f_openBody, f_holeCount, f_nextRegion, f_changed, f_freeCell', nI (D + 1), nI (c'), nI (tt), nI (vt + 1), rl, 0, f_peakUsed', 0, a_sigType, a_params, a_kept, a_start, a_finished, a_tokOp, a_tokArg, a_tokType, a_tokScope, a_end, a_holeType, a_holeNest, a_holeScope, a_holeVars, a_parent, a_region, a_sigRegions, a_allRegions, a_cellA', a_cellB', a_link', a_live', a_frameFunction', a_vars', a_saved', a_env', a_regionFirst', a_tasks', a_values', a_used', a_result) y4' (g_maxFunctions, g_maxTokens, g_maxCells, g_maxDepth, g_functions, g_tokens, g_open, g_accepted, nI md', g_used', f_peakUsed', 0, g_answer, nI (c'), nI (D + 1), b_result, b_param, a_start, b_finished, a_tokOp, a_tokArg, a_tokType, b_first', b_second', b_cellKind', b_freed', b_fn', b_born', b_actual', b_value', b_known')) : rj FIN rl x4 (f_functionLimit, f_tokenLimit, f_cellLimit, f_depthLimit, f_functions, f_accepted, f_placed, f_openBody, f_holeCount, f_nextRegion, f_changed, f_freeCell, nI (D + 1), nI (c), nI (tt + 1), nI (vt), rl, 0, f_peakUsed, 0, a_sigType, a_params, a_kept, a_start, a_finished, a_tokOp, a_tokArg, a_tokType, a_tokScope, a_end, a_holeType, a_holeNest, a_holeScope, a_holeVars, a_parent, a_region, a_sigRegions, a_allRegions, a_cellA, a_cellB, a_link, a_live, a_frameFunction, a_vars, a_saved, a_env, a_regionFirst, a_tasks, a_values, a_used, a_result) y4 (g_maxFunctions, g_maxTokens, g_maxCells, g_maxDepth, g_functions, g_tokens, g_open, g_accepted, nI md, g_used, f_peakUsed, 0, g_answer, nI (c), nI (D + 1), b_result, b_param, a_start, b_finished, a_tokOp, a_tokArg, a_tokType, b_first, b_second, b_cellKind, b_freed, b_fn, b_born, b_actual, b_value, b_known) := by
  have ht := S.1.1
  have hn8 := S.1.2.1
  have pre' := pre
  obtain ⟨⟨p1, p2, p3, p4, p5, p6, p7, p8, p9⟩, ht0, hF, hH, hNv, hk0, hP⟩ := pre
  obtain ⟨g, hg, ha, hty⟩ := sp_opk_6 (pc_opk S.1 p1) h
  have dl24 := S.2.2.2.2.2.2.2.2.2.2.2.2.2.2.1
  have hdX := S.2.2.2.2.2.2.2.2.2.2.2.1
  have hdY := S.2.2.2.2.2.2.2.2.2.2.2.2.1
  have hf := pc_fo S.1 p1
  have hsN := pc_sN S.1 hf
  have gN := pc_sN S.1 hg
  have gE := pc_end S.1 gN.1
  have gfo := pc_foS S.1 hg
  have ei := pc_end S.1 p1
  have T := pc_tok S.1 p1
  have ns10 := T.2.2.2.2.2.1
  have hle := sp_n_le a_sigType g
  have gG := S.2.1.1 g hg
  have al200 := (S.2.1.1 (fo i) hf).2.2.2
  have hA : (sp_A a_sigType a_tokOp a_tokArg) i = sp_n a_sigType g := by
    unfold sp_A sp_ar
    rw [h, ha, nI_clamp (by omega)]; rfl
  refine ev_args S IH pre' hN h hg ha (fun cQ xQ yQ f_freeCell1 f_peakUsed1 g_used1 a_cellA1 a_cellB1 a_link1 a_live1 a_frameFunction1 a_vars1 a_saved1 a_env1 a_regionFirst1 a_tasks1 a_values1 a_used1 b_first1 b_second1 b_cellKind1 b_freed1 b_fn1 b_born1 b_actual1 b_value1 b_known1 md1 mu1 rg1 av1 FL1 mm => ?_)
  obtain ⟨⟨m1, m2, m3, m4, m5⟩, mt, kx, ky, nst, hh, hx, hv, hC⟩ := mm
  obtain ⟨a1, a2, a3, a4⟩ := ev_at S pre' ky nst
  rcases Nat.lt_or_ge cQ 200 with zc | zc
  case inr =>
    have e200 : cQ = 200 := by omega
    exact ev_stop (vm := vt + sp_n a_sigType g) (vn := vt + sp_n a_sigType g) (oc := 4) S FS pre' ⟨m2, by omega, by omega, by omega⟩ ky hh nst (by decide) (by decide) (ru_advC mt (by omega) (by omega) (rc_call4 (by omega) h zc (by omega))) (fun q1 q2 => ye_call4 S.2.2.2.2.2.2.1 S.1 S.2.2.2.2.2.2.2.2.2.2.2.2.2.2.2.1 S.2.2.2.2.2.1 (by omega) hf q2 p1 q1 h (by rw [e200]; rfl))
  rcases Nat.lt_or_ge (D + 1) dl with zd | zd
  case inr =>
    have eD : D + 1 = dl := by omega
    exact ev_stop (vm := vt + sp_n a_sigType g) (vn := vt + sp_n a_sigType g) (oc := 5) S FS pre' ⟨m2, by omega, by omega, by omega⟩ ky hh nst (by decide) (by decide) (ru_advC mt (by omega) (by omega) (rc_call5 (by omega) h zc hdX zd (by omega))) (fun q1 q2 => ye_call5 S.2.2.2.2.2.2.1 S.1 S.2.2.2.2.2.2.2.2.2.2.2.2.2.2.2.1 S.2.2.2.2.2.1 (by omega) hf q2 p1 q1 h (fun q => by have := (nI_eq (b := 200) (by omega) (by omega)).mp q; omega) (by rw [eD, hdY]))
  obtain ⟨ev1, vr1, F, v1, v2, hX⟩ := rc_call (f_functionLimit := f_functionLimit) (f_tokenLimit := f_tokenLimit) (f_cellLimit := f_cellLimit) (f_depthLimit := f_depthLimit) (f_functions := f_functions) (f_accepted := f_accepted) (f_placed := f_placed) (f_openBody := f_openBody) (f_holeCount := f_holeCount) (f_nextRegion := f_nextRegion) (f_changed := f_changed) (f_freeCell := f_freeCell1) (f_releasing := rl) (f_outcome := 0) (f_peakUsed := f_peakUsed1) (f_resultSize := 0) (a_sigType := a_sigType) (a_params := a_params) (a_kept := a_kept) (a_start := a_start) (a_finished := a_finished) (a_tokOp := a_tokOp) (a_tokArg := a_tokArg) (a_tokType := a_tokType) (a_tokScope := a_tokScope) (a_end := a_end) (a_holeType := a_holeType) (a_holeNest := a_holeNest) (a_holeScope := a_holeScope) (a_holeVars := a_holeVars) (a_parent := a_parent) (a_region := a_region) (a_sigRegions := a_sigRegions) (a_allRegions := a_allRegions) (a_cellA := a_cellA1) (a_cellB := a_cellB1) (a_link := a_link1) (a_live := a_live1) (a_frameFunction := a_frameFunction1) (a_vars := a_vars1) (a_saved := a_saved1) (a_env := a_env1) (a_regionFirst := a_regionFirst1) (a_tasks := a_tasks1) (a_values := a_values1) (a_used := a_used1) (a_result := a_result) (d := D + 1) (c := cQ) (tt := tt) (vt := vt) S.1 S.2.1 S.2.2.1 S.2.2.2.2.1 S.2.2.2.2.2.1 p1 h hg ha (by omega) (by omega) zc hdX zd dl24 (by omega)
  have cer : ∀ {s x : Nat}, s < 6 → pc_kz a_sigType a_tokType (192 + 6 * g + s) ≠ 0 → pc_sl a_sigType en g i s = some x → er ev1 a_region (D + 1) (192 + 6 * g + s) = er a_env1 a_region D x := fun hs hk hx' => cl_er S.1 S.2.1 p1 h hg ha (by omega) F hs hk hx'
  have cenv := fun {r : Nat} (hr : r < al g) => cl_env S.1 S.2.1 p1 h hg ha (by omega) F hr
  have clow : ∀ j, j < 200 * (D + 1) → ev1 j = a_env1 j := fun j hj => cl_low S.1 S.2.1 p1 h hg ha (by omega) F hj
  -- a caller's slot in the two environments
  have erx : ∀ {s x : Nat}, s < 6 → pc_kz a_sigType a_tokType (192 + 6 * g + s) ≠ 0 → pc_sl a_sigType en g i s = some x → er a_env1 a_region D x = er a_env a_region D x := fun {s x} hs hk hx' => by
    obtain ⟨x1, x2, x3, x4'⟩ := pc_sl_kz S.1 p1 h hg ha hs hx'
    have dx : x = 2 * (x / 2) + x % 2 := by omega
    rw [dx]
    exact er_tok S kx.2.2.2.1 x2 (by omega) (by rw [← dx, x3]; exact hk)
  have hOP : ∀ R, OP R → R < 200 * (D + 1) := hF.2.2.2
  refine rj_xs (by omega) (ru_advC mt (by omega) (by omega) hX) ?_
  refine rj_ye (by omega) (by omega) (show fo i < 8 by omega) (show sN (fo i) < 97 by omega) a3 (S.2.2.2.2.2.1 _ hf) a1 (ye_call (g := g) S.2.2.2.2.2.2.1 S.1 S.2.2.2.2.2.2.2.2.2.2.2.2.2.2.2.1 S.2.2.2.2.2.1 (by omega) hf a3 p1 a2 h ha zc (fun q => by rw [hdY] at q; have := (nI_eq (by omega) (by omega)).mp q; omega) (by omega)) ?_
  have rootns : (hz_ns (sp_A a_sigType a_tokOp a_tokArg) (sN (fo (sN g))) (sN g)) = 1 := by rw [gfo]; exact hz_ns_0
  refine IH (sN g) (D + 1) (cQ + 1) (tt + 1) vt (xQ + 1) (yQ + 1) (op_c OP (D + 1) (sg g) (al g)) _ _ _ _ _ _ _ _ _ _ _ _ _ _ _ _ _ _ _ _ _ _ _ _ md1 mu1 rg1 av1 FL1 (by omega) ⟨⟨gN.1, zd, by omega, by omega, by omega, by omega, by omega, by omega, by omega⟩, pk_us, ?_, ⟨hh.1, hh.2.1, fun r => hr_enter (hh.2.2 r) hOP⟩, ?_, fun j j1 j2 => ?_, ?_⟩ (fun c2 x2 y2 f_freeCell2 f_peakUsed2 g_used2 a_cellA2 a_cellB2 a_link2 a_live2 a_frameFunction2 a_vars2 a_saved2 a_env2 a_regionFirst2 a_tasks2 a_values2 a_used2 b_first2 b_second2 b_cellKind2 b_freed2 b_fn2 b_born2 b_actual2 b_value2 b_known2 md2 mu2 rg2 av2 FL2 post => ?_)
  · -- the frame
    rw [gfo]
    refine ⟨pk_us, pk_us, fun r hr => ?_, fun R hR => ?_⟩
    · rcases cenv hr with ⟨z1, z2⟩ | ⟨z1, s, x, s1, s2, s3, s4, s5⟩
      · exact ⟨200 * (D + 1) + r, z2, Or.inr ⟨by omega, by omega⟩⟩
      · have s6 : ev1 (200 * (D + 1) + r) = er a_env a_region D x := s5.trans (erx s1 s2 s3)
        obtain ⟨x1, x2, x3, x4'⟩ := pc_sl_kz S.1 p1 h hg ha s1 s3
        have dx : x = 2 * (x / 2) + x % 2 := by omega
        obtain ⟨mx, mx1, mx2⟩ := S.2.1.2.1 (x / 2) (x % 2) x2 (by omega) (by rw [← dx, x3]; exact s2)
        rw [← dx] at mx2
        have fx : fo (x / 2) = fo i := by
          have : pc_fz fo x = fo (x / 2) := by unfold pc_fz; rw [if_pos x1]
          rw [← this]; exact x4'
        rw [fx] at mx1
        obtain ⟨R, e1, e2⟩ := hF.2.2.1 mx mx1
        refine ⟨R, ?_, Or.inl e2⟩
        rw [s6]
        unfold er
        rw [mx2, nI_clamp (by omega)]; exact e1
    · rcases hR with hR | hR
      · have := hOP R hR; omega
      · omega
  · -- the variables
    rw [gfo]
    refine ⟨fun v hv' => ?_, fun j j1 j2 => ?_⟩
    · have A1 := hv v hv'
      have e1 : vr1 (8 * (D + 1) + v) = a_values1 (vt + v) := v2 v hv'
      have e2 : upd (upd b_actual1 (2 * (D + 1)) (b_value1 (D * 97 + (i + 1)))) (2 * (D + 1) + 1) (b_value1 (D * 97 + yz_e en t (i + 1))) (2 * (D + 1) + v) = b_value1 (D * 97 + cp en i v) := by
        rcases (by omega : v = 0 ∨ v = 1) with rfl | rfl
        · rw [pk_un (by omega)]; exact pk_us
        · rw [pk_us]
          have c0 := pc_c0 S.1 p1 (by omega)
          unfold yz_e
          rw [if_pos c0.2.2.2.1]; rfl
      have psl : ∀ b, b < 2 → pc_sl a_sigType en g i (2 * v + b) = some (2 * cp en i v + b) := by
        intro b hb
        unfold pc_sl
        rcases (by omega : v = 0 ∨ v = 1) with rfl | rfl
        · rw [if_pos (by omega), if_pos (by omega)]
          have : (2 * 0 + b) % 2 = b := by omega
          rw [this]; rfl
        · rw [if_neg (by omega), if_pos (by omega), if_pos (by omega)]
          have : (2 * 1 + b) % 2 = b := by omega
          rw [this]; rfl
      show vr_V md1 b_first1 b_second1 b_cellKind1 mu1 rg1 av1 (a_sigType (3 * g + v)) (er ev1 a_region (D + 1) (192 + 6 * g + 2 * v)) (er ev1 a_region (D + 1) (192 + 6 * g + 2 * v + 1)) (vr1 (8 * (D + 1) + v)) (upd (upd b_actual1 (2 * (D + 1)) (b_value1 (D * 97 + (i + 1)))) (2 * (D + 1) + 1) (b_value1 (D * 97 + yz_e en t (i + 1))) (2 * (D + 1) + v))
      rw [e1, e2]
      refine vr_reg A1 (fun k => ?_) (fun k => ?_)
      · have kz0 : pc_kz a_sigType a_tokType (192 + 6 * g + 2 * v) ≠ 0 := by rw [kz_s0 (by omega)]; exact k
        have := psl 0 (by omega)
        rw [Nat.add_zero, Nat.add_zero] at this
        exact (cer (by omega) kz0 this).trans (erx (by omega) kz0 this)
      · have kz1 : pc_kz a_sigType a_tokType (192 + 6 * g + (2 * v + 1)) ≠ 0 := by rw [← Nat.add_assoc, kz_s1 (by omega)]; exact k
        have r := (cer (by omega) kz1 (psl 1 (by omega))).trans (erx (by omega) kz1 (psl 1 (by omega)))
        rw [← Nat.add_assoc] at r
        exact r
    · have := j2.2.1.1
      omega
  · show yz_kn b_known1 (D + 1) ((D + 1) * 97 + j) = 0
    unfold yz_kn
    rw [if_pos ⟨by omega, by omega⟩]
  · rw [rootns, gfo]
    exact fun kn vl _ k0 => ⟨k0, rfl⟩
  · -- the return
    obtain ⟨⟨s1, s2, s3, s4, s5⟩, s6, s7, s8, s9, s10, s11, s12⟩ := post
    rw [gfo] at s12
    have k2row : ∀ j, j < 97 → b_known2 (D * 97 + j) = b_known1 (D * 97 + j) ∧ b_value2 (D * 97 + j) = b_value1 (D * 97 + j) := fun j hj => by
      have w := s7.2.2 (D * 97 + j) (by omega) (Or.inl (by omega))
      refine ⟨?_, w.1⟩
      rw [w.2]
      show yz_kn b_known1 (D + 1) (D * 97 + j) = b_known1 (D * 97 + j)
      unfold yz_kn
      rw [if_neg (by omega)]
    have kY : k_Y D (i + 1) (en i) b_fn b_born b_actual b_value b_known b_fn2 b_born2 b_actual2 b_value2 b_known2 := by
      refine k_Y_tr (a2 := i + 1) (b2 := en i) ky ⟨fun j hj => ?_, fun j hj => ?_, fun j j1 j2 => ?_⟩ (Nat.le_refl _) (Nat.le_refl _) (Nat.le_refl _) (Nat.le_refl _)
      · have w := s7.1 j (by omega)
        rw [w.1, w.2]
        exact ⟨pk_un (by omega), pk_un (by omega)⟩
      · rw [s7.2.1 j (by omega)]
        show upd (upd b_actual1 (2 * (D + 1)) (b_value1 (D * 97 + (i + 1)))) (2 * (D + 1) + 1) (b_value1 (D * 97 + yz_e en t (i + 1))) j = b_actual1 j
        rw [pk_un (by omega), pk_un (by omega)]
      · have w := s7.2.2 j (by omega) (Or.inl (by omega))
        refine ⟨w.1, ?_⟩
        rw [w.2]
        show yz_kn b_known1 (D + 1) j = b_known1 j
        unfold yz_kn
        rw [if_neg (by omega)]
    have nst2 : nx_st (sp_A a_sigType a_tokOp a_tokArg) a_tokOp en b_known2 b_value2 (D * 97) i = none := by
      refine nx_st_none (fun j hj q => ?_)
      have cj := pc_cp S.1 p1 j hj
      have lj := cj.2.2.2.1
      have : ¬ nx_ok a_tokOp en b_known1 b_value1 (D * 97) i j := fun q' => by
        have e6 : a_tokOp i ≠ 4 := by rw [h]; decide
        have a3' := sp_A_le a_sigType a_tokOp a_tokArg i
        obtain ⟨k, k1, k2, k3⟩ : ∃ k, k < (sp_A a_sigType a_tokOp a_tokArg) i ∧ nx_ok a_tokOp en b_known1 b_value1 (D * 97) i k ∧ ∀ l, l < k → ¬ nx_ok a_tokOp en b_known1 b_value1 (D * 97) i l := by
          obtain ⟨k, ⟨k1, k2⟩, k3⟩ := pk_least (fun k => k < (sp_A a_sigType a_tokOp a_tokArg) i ∧ nx_ok a_tokOp en b_known1 b_value1 (D * 97) i k) ⟨j, hj, q'⟩
          exact ⟨k, k1, k2, fun l hl ql => k3 l hl ⟨by omega, ql⟩⟩
        have := nx_st_some k1 a3' k2 k3
        rw [nst] at this
        exact absurd this (by simp)
      refine this ⟨fun o => absurd (h.symm.trans o) (by decide), fun o => absurd (h.symm.trans o) (by decide), ?_⟩
      rw [← (k2row (cp en i j) (by omega)).1]; exact q.2.2
    obtain ⟨b1, b2, b3, b4⟩ := ev_at S pre' kY nst2
    -- cells made by the callee
    have cells : rl = 1 → ∀ e, md1 ≤ e → e < md2 → av2 e → (200 * (D + 1) + sg g ≤ rg2 e ∧ rg2 e < 200 * (D + 1) + al g) ∨ ∃ s x k, s < 6 ∧ 1 ≤ k ∧ k ≤ 3 ∧ pc_kz a_sigType a_tokType (192 + 6 * g + s) = k ∧ b_cellKind2 e = nI k ∧ pc_sl a_sigType en g i s = some x ∧ nI (rg2 e) = er a_env a_region D x := by
      intro r e e1 e2 ea
      obtain ⟨q, b, q1, q2, q3, q4, q5⟩ := s12 r e e1 e2 ea
      have hO := (s9.2.2 r).1 e e2 ea
      have rlt : rg2 e < 4800 := by
        rcases hO with w | w
        · have := hOP _ w; omega
        · omega
      have kne : pc_kz a_sigType a_tokType (2 * q + b) ≠ 0 ∧ pc_kz a_sigType a_tokType (2 * q + b) ≤ 3 := by
        have l4 := pc_kz_lt a_sigType a_tokType (2 * q + b)
        refine ⟨fun w => ?_, by omega⟩
        rw [w] at q4
        rcases (s9.1.1 e e2).1 with v | v | v
        · rw [v] at q4; exact absurd q4 (by decide)
        · rw [v] at q4; exact absurd q4 (by decide)
        · rw [v] at q4; exact absurd q4 (by decide)
      obtain ⟨m, lm, em⟩ := S.2.1.2.1 q b q1 q3 kne.1
      rw [q2] at lm
      have q6 : nI (rg2 e) = ev1 (200 * (D + 1) + m) := by
        rw [q5]
        unfold er
        rw [em, nI_clamp (by omega)]
      rcases cenv lm with ⟨z1, z2⟩ | ⟨z1, -⟩
      · rw [z2] at q6
        have := (nI_eq (by omega) (by omega)).mp q6
        exact Or.inl ⟨by omega, by omega⟩
      · obtain ⟨s, t1, t2, t3⟩ := S.2.1.2.2.2.2.2.2.1 q b m q1 q3 kne.1 em (by rw [q2]; exact z1)
        rw [q2] at t2 t3
        have kns : pc_kz a_sigType a_tokType (192 + 6 * g + s) ≠ 0 := by rw [t2]; exact kne.1
        obtain ⟨x, hx'⟩ := sl_ex (en := en) (i := i) (S.1.2.2.1 g hg) t1 kns
        refine Or.inr ⟨s, x, _, t1, by omega, kne.2, t2, q4.symm, hx', ?_⟩
        rw [q6, ← erx t1 kns hx', ← cer t1 kns hx']
        unfold er
        rw [t3, nI_clamp (by omega)]
    have hus1 : ∀ k, 1 ≤ k → k ≤ 3 → a_used1 k = nI (cn (fun e => b_cellKind1 e = nI k ∧ b_freed1 e = 0) md1) := hh.2.1.2.2
    refine ev_ret (g := g) (md1 := md1) (a_used1 := a_used1) (OP := OP) S hg p1 (by omega) (by omega) (by omega) (by omega) (by omega) ?_ ?_ ?_ b3 ?_ (fun k k1 k3 => ?_) hus1 s8 b2 s9 hOP (fun r e he ha' => (hh.2.2 r).1 e he ha') s10 (fun r e e1 e2 ea => ?_) (fun fc3 lk3 lv3 rF3 us3 uy3 fr3 av3 FL3 R => ?_)
    · rw [s6.1 tt (by omega), pk_un (by omega), pk_us]
    · rw [s6.2.2.2.2.2 (D + 1) (by omega)]; exact pk_us
    · rw [(s7.1 (D + 1) (by omega)).1]; exact pk_us
    · rw [(s7.1 (D + 1) (by omega)).2]; exact pk_us
    · rw [s6.2.2.2.2.1 _ (by omega)]
      unfold xz_sv
      rcases (by omega : k = 1 ∨ k = 2 ∨ k = 3) with rfl | rfl | rfl
      · rw [pk_un (by omega), pk_un (by omega), pk_us]
      · rw [pk_un (by omega), pk_us]
      · rw [pk_us]
    · rcases cells r e e1 e2 ea with w | ⟨s, x, k, w1, w2, w3, w4, w5, w6, w7⟩
      · exact Or.inl w
      · exact Or.inr ⟨k, w2, w3, w5, kc_of w1 w4 (by omega)⟩
    · obtain ⟨R1, R2, R3, R4, R5⟩ := R
      refine K c2 (x2 + 1) (y2 + 1) _ _ _ _ _ _ _ _ _ _ _ _ _ _ _ _ _ _ _ _ _ _ _ _ md2 mu2 rg2 av3 FL3 ⟨⟨by omega, s2, by omega, by omega, by omega⟩, ?_, ?_, pk_us, R1, hx_tr hx R2, ?_, ?_⟩
      · refine k_X_tr (tt2 := tt) (vt2 := vt) (sc2 := (sp_sc a_sigType a_tokOp a_tokArg (fo (i)) (sN (fo (i))) (i))) kx ⟨fun j hj => ?_, fun j hj => s6.2.1 j hj, fun j hj => ?_, fun j hj => ?_, fun j hj => ?_, fun j hj => ?_⟩ (Nat.le_refl _) (Nat.le_refl _) (Nat.le_refl _)
        · rw [s6.1 j (by omega), pk_un (by omega), pk_un (by omega)]
        · have sc8 := (pc_scp S.1 p1).2
          rw [s6.2.2.1 j (by omega)]; exact v1 j (Or.inl (by omega))
        · rw [s6.2.2.2.1 j (by omega)]; exact clow j hj
        · rw [s6.2.2.2.2.1 j (by omega)]
          unfold xz_sv
          rw [pk_un (by omega), pk_un (by omega), pk_un (by omega)]
        · rw [s6.2.2.2.2.2 j (by omega), pk_un (by omega)]
      · refine k_Y_tr (a3 := i) (b3 := en i) kY (a2 := i) (b2 := en i) ⟨fun _ _ => ⟨rfl, rfl⟩, fun _ _ => rfl, fun j j1 j2 => ⟨pk_un (by omega), pk_un (by omega)⟩⟩ (by omega) (Nat.le_refl _) (Nat.le_refl _) (Nat.le_refl _)
      · -- the value
        rw [pk_us]
        have tr : a_tokType (sN g) = a_sigType (3 * g + 2) := by
          have T2 := pc_tok S.1 gN.1
          rw [gfo] at T2
          rcases T2.2.1 with ⟨-, z⟩ | ⟨q, k', z1, z2, -⟩
          · exact z
          · have := z2.1; omega
        have sp := S.2.1.2.2.2.2.1 g hg
        rw [tr] at s11
        have reg0 : ∀ b, b < 2 → pc_kz a_sigType a_tokType (192 + 6 * g + (4 + b)) ≠ 0 → er ev1 a_region (D + 1) (192 + 6 * g + (4 + b)) = er a_env a_region D (2 * i + b) := fun b hb hk => by
          have psl : pc_sl a_sigType en g i (4 + b) = some (2 * i + b) := by
            unfold pc_sl
            rw [if_neg (by omega), if_neg (by omega)]
            have : (4 + b) % 2 = b := by omega
            rw [this]
          exact (cer (by omega) hk psl).trans (erx (by omega) hk psl)
        have kS : kd_S (a_sigType (3 * g + 2)) ≠ 0 → pc_kz a_sigType a_tokType (192 + 6 * g + (4 + 0)) ≠ 0 := fun k => by
          have := kz_s0 (S := a_sigType) (ty := a_tokType) (f := g) (j := 2) (by omega)
          rw [show 192 + 6 * g + (4 + 0) = 192 + 6 * g + 2 * 2 from rfl, this]; exact k
        have kP : kd_P (a_sigType (3 * g + 2)) ≠ 0 → pc_kz a_sigType a_tokType (192 + 6 * g + (4 + 1)) ≠ 0 := fun k => by
          have := kz_s1 (S := a_sigType) (ty := a_tokType) (f := g) (j := 2) (by omega)
          rw [show 192 + 6 * g + (4 + 1) = 192 + 6 * g + 2 * 2 + 1 from rfl, this]; exact k
        have V2 : vr_V md2 b_first2 b_second2 b_cellKind2 mu2 rg2 av2 (a_tokType i) (er a_env a_region D (2 * i)) (er a_env a_region D (2 * i + 1)) (a_values2 vt) (b_value2 ((D + 1) * 97 + sN g)) := by
          rw [hty]
          refine vr_reg s11 (fun k => ?_) (fun k => ?_)
          · rw [← Nat.add_zero (2 * i), ← reg0 0 (by omega) (kS k)]
            unfold er
            rw [← sp.1 k]
          · rw [← reg0 1 (by omega) (kP k)]
            unfold er
            rw [← sp.2 k]
        refine vr_map (Nat.le_refl _) (fun e _ => ⟨rfl, rfl, rfl, rfl, rfl⟩) (fun e he ha' hr => R3 e he ha' (fun rr => ?_)) V2
        -- its cells lie below the frame
        have low : ∀ (b : Nat), b < 2 → pc_kz a_sigType a_tokType (2 * i + b) ≠ 0 → nI (rg2 e) = er a_env a_region D (2 * i + b) → rg2 e < 4800 → rg2 e < 200 * (D + 1) := fun b hb hk q hlt => by
          obtain ⟨m, lm, em⟩ := S.2.1.2.1 i b p1 hb hk
          obtain ⟨R0, e1, e2⟩ := hF.2.2.1 m lm
          have l0 := hOP R0 e2
          have : er a_env a_region D (2 * i + b) = nI R0 := by
            unfold er
            rw [em, nI_clamp (by omega)]; exact e1
          rw [this] at q
          have := (nI_eq (by omega) (by omega)).mp q
          omega
        have rlt : rg2 e < 4800 := by
          rcases (s9.2.2 rr).1 e he ha' with w | w
          · have := hOP _ w; omega
          · omega
        rcases hr with ⟨k, q⟩ | ⟨k, q⟩
        · exact low 0 (by omega) (by rw [Nat.add_zero, kz_t0 (by omega)]; exact k) q rlt
        · exact low 1 (by omega) (by rw [kz_t1 (by omega)]; exact k) q rlt
      · -- its new cells
        intro r e e1 e2 ea
        have ea2 := R4 e e2 ea
        rcases Nat.lt_or_ge e md1 with z | z
        · obtain ⟨x1, x2', x3, x4', x5, x6, x7⟩ := s10.2 e z
          obtain ⟨q, b, q1, q2, q3, q4, q5⟩ := hC r e e1 z (x7.mp ea2)
          exact ⟨q, b, q1, q2, q3, q4.trans x3.symm, by rw [x6]; exact q5⟩
        · rcases cells r e z e2 ea2 with w | ⟨s, x, k, w1, w2, w3, w4, w5, w6, w7⟩
          · have := hOP _ (R5 r e e2 ea)
            omega
          · obtain ⟨x1, x2', x3, x4'⟩ := pc_sl_kz S.1 p1 h hg ha w1 w6
            have dx : x = 2 * (x / 2) + x % 2 := by omega
            have fx : fo (x / 2) = fo i := by
              have : pc_fz fo x = fo (x / 2) := by unfold pc_fz; rw [if_pos x1]
              rw [← this]; exact x4'
            refine ⟨x / 2, x % 2, x2', fx, by omega, ?_, ?_⟩
            · rw [← dx, x3, w4]; exact w5.symm
            · rw [← dx]; exact w7
end
end
section
section
variable {f_functionLimit f_tokenLimit f_cellLimit f_depthLimit f_functions f_accepted f_placed f_openBody f_holeCount f_nextRegion f_changed g_maxFunctions g_maxTokens g_maxCells g_maxDepth g_functions g_tokens g_open g_accepted g_answer : Int32} {a_sigType a_params a_kept a_start a_finished a_tokOp a_tokArg a_tokType a_tokScope a_end a_holeType a_holeNest a_holeScope a_holeVars a_parent a_region a_sigRegions a_allRegions a_result b_result b_param b_finished : Nat → Int32} {nf t cl dl : Nat} {rl : Int32} {sN fo en sg al : Nat → Nat} {FIN : Int32 → SX → SY → Prop}
theorem ev_all (S : rs_S f_cellLimit f_depthLimit g_maxCells g_maxDepth g_tokens a_sigType a_params a_kept a_start a_tokOp a_tokArg a_tokType a_tokScope a_end a_region a_sigRegions a_allRegions b_result b_param nf t cl dl rl sN fo en sg al) (FS : ev_S f_functionLimit f_tokenLimit f_cellLimit f_depthLimit f_functions f_accepted f_placed f_openBody f_holeCount f_nextRegion f_changed g_maxFunctions g_maxTokens g_maxCells g_maxDepth g_functions g_tokens g_open g_accepted g_answer a_sigType a_params a_kept a_start a_finished a_tokOp a_tokArg a_tokType a_tokScope a_end a_holeType a_holeNest a_holeScope a_holeVars a_parent a_region a_sigRegions a_allRegions a_result b_result b_param b_finished nf t cl dl rl sN fo en sg al FIN) : ∀ N, EVp f_functionLimit f_tokenLimit f_cellLimit f_depthLimit f_functions f_accepted f_placed f_openBody f_holeCount f_nextRegion f_changed g_maxFunctions g_maxTokens g_maxCells g_maxDepth g_functions g_tokens g_open g_accepted g_answer a_sigType a_params a_kept a_start a_finished a_tokOp a_tokArg a_tokType a_tokScope a_end a_holeType a_holeNest a_holeScope a_holeVars a_parent a_region a_sigRegions a_allRegions a_result b_result b_param b_finished nf t cl dl rl sN fo en sg al FIN N
  | 0 => by
    intro i D c tt vt x4 y4 OP f_freeCell f_peakUsed g_used a_cellA a_cellB a_link a_live a_frameFunction a_vars a_saved a_env a_regionFirst a_tasks a_values a_used b_first b_second b_cellKind b_freed b_fn b_born b_actual b_value b_known md mu rg av FL hN pre K
    have p1 := pre.1.1
    have := pc_end S.1 p1
    omega
  | N + 1 => by
    intro i D c tt vt x4 y4 OP f_freeCell f_peakUsed g_used a_cellA a_cellB a_link a_live a_frameFunction a_vars a_saved a_env a_regionFirst a_tasks a_values a_used b_first b_second b_cellKind b_freed b_fn b_born b_actual b_value b_known md mu rg av FL hN pre K
    have IH := ev_all S FS N
    have p1 := pre.1.1
    rcases sp_opk_13 (pc_opk S.1 p1) with h | h | h | h | h | h | h | h | h | h | h | h | h
    · exact ev_const S pre h K
    · exact ev_var S pre h K
    · exact ev_math S FS IH pre hN h K
    · exact ev_if S FS IH pre hN h K
    · exact ev_let S FS IH pre hN h K
    · exact ev_call S FS IH pre hN h K
    · exact ev_nil S pre h K
    · exact ev_make S FS IH pre hN (Or.inl h) K
    · exact ev_read S FS IH pre hN (Or.inl h) K
    · exact ev_read S FS IH pre hN (Or.inr (Or.inl h)) K
    · exact ev_isnil S FS IH pre hN h K
    · exact ev_make S FS IH pre hN (Or.inr h) K
    · exact ev_read S FS IH pre hN (Or.inr (Or.inr h)) K
end
end
section
/-- the free list after a reset -/
def rz_lk (cl : Nat) (lk lk' : Nat → Int32) : Prop := ∀ c, c < cl → lk' c = (if c + 1 < cl then nI (c + 1) else -1)
section
variable {f_functionLimit f_tokenLimit f_cellLimit f_depthLimit f_functions f_accepted f_placed f_openBody f_holeCount f_nextRegion f_changed f_freeCell f_active f_calls f_taskTop f_valueTop f_releasing f_outcome f_peakUsed f_resultSize : Int32} {a_sigType a_params a_kept a_start a_finished a_tokOp a_tokArg a_tokType a_tokScope a_end a_holeType a_holeNest a_holeScope a_holeVars a_parent a_region a_sigRegions a_allRegions a_cellA a_cellB a_link a_live a_frameFunction a_vars a_saved a_env a_regionFirst a_tasks a_values a_used a_result : Nat → Int32}
variable {cl : Nat}
theorem ux_reset57 (hcl : f_cellLimit = nI cl) (h64 : cl ≤ 64) : ∀ (n k : Nat) (lk lv : Nat → Int32), k ≤ cl → cl < n + k → (∀ c, c < k → lk c = (if c + 1 < cl then nI (c + 1) else -1) ∧ lv c = 0) →
    ∃ lk' lv' : Nat → Int32, (∀ c, c < cl → lk' c = (if c + 1 < cl then nI (c + 1) else -1) ∧ lv' c = 0) ∧ ∀ post : SX → Prop, post (f_functionLimit, f_tokenLimit, f_cellLimit, f_depthLimit, f_functions, f_accepted, f_placed, f_openBody, f_holeCount, f_nextRegion, f_changed, 0, f_active, f_calls, f_taskTop, f_valueTop, f_releasing, f_outcome, f_peakUsed, f_resultSize, a_sigType, a_params, a_kept, a_start, a_finished, a_tokOp, a_tokArg, a_tokType, a_tokScope, a_end, a_holeType, a_holeNest, a_holeScope, a_holeVars, a_parent, a_region, a_sigRegions, a_allRegions, a_cellA, a_cellB, lk', lv', a_frameFunction, a_vars, a_saved, a_env, a_regionFirst, a_tasks, a_values, a_used, a_result) → wX_reset_57 post f_functionLimit f_tokenLimit f_cellLimit f_depthLimit f_functions f_accepted f_placed f_openBody f_holeCount f_nextRegion f_changed f_freeCell f_active f_calls f_taskTop f_valueTop f_releasing f_outcome f_peakUsed f_resultSize n (nI k) a_sigType a_params a_kept a_start a_finished a_tokOp a_tokArg a_tokType a_tokScope a_end a_holeType a_holeNest a_holeScope a_holeVars a_parent a_region a_sigRegions a_allRegions a_cellA a_cellB lk lv a_frameFunction a_vars a_saved a_env a_regionFirst a_tasks a_values a_used a_result
  | 0, k, _, _, h1, h2, _ => by omega
  | n + 1, k, lk, lv, h1, h2, h3 => by
    rcases Nat.lt_or_ge k cl with z | z
    · have kin : vp_in (nI k) 64 := vp_in_nI (by omega) (by decide)
      have ck : (nI k).toNatClampNeg = k := nI_clamp (by omega)
      obtain ⟨lk', lv', q1, q2⟩ := ux_reset57 hcl h64 n (k + 1) (upd lk k (if k + 1 < cl then nI (k + 1) else -1)) (upd lv k 0) (by omega) (by omega) (fun c hc => by
        by_cases y : c = k
        · rw [y, pk_us, pk_us]; exact ⟨rfl, rfl⟩
        · rw [pk_un y, pk_un y]; exact h3 c (by omega))
      refine ⟨lk', lv', q1, fun post hpo => br_f (by rw [hcl]; exact nI_ge z (by omega)) ⟨kin, ?_⟩⟩
      rw [ck, vp_b0]
      have H := q2 post hpo
      refine nm_e ?_
      rw [nI_1, hcl]
      rcases Nat.lt_or_ge (k + 1) cl with y | y
      · rw [if_pos y] at H
        exact br_f (nI_ge y (by omega)) ⟨kin, nm_e (nm_e (by rw [← hcl]; exact H))⟩
      · rw [if_neg (by omega)] at H
        exact br_t (nI_le y (by omega)) ⟨kin, nm_e (nm_e (by rw [← hcl]; exact H))⟩
    · exact ⟨lk, lv, fun c hc => h3 c (by omega), fun post hpo => br_t (by rw [hcl]; exact nI_le z (by omega)) hpo⟩
theorem ux_reset37 (hcl : f_cellLimit = nI cl) (h64 : cl ≤ 64) : ∀ (n k : Nat) (us : Nat → Int32), k ≤ 4 → 4 < n + k → (∀ c, c < k → us c = 0) →
    ∃ us' lk' lv' : Nat → Int32, (∀ c, c < 4 → us' c = 0) ∧ (∀ c, c < cl → lk' c = (if c + 1 < cl then nI (c + 1) else -1) ∧ lv' c = 0) ∧ ∀ post : SX → Prop, post (f_functionLimit, f_tokenLimit, f_cellLimit, f_depthLimit, f_functions, f_accepted, f_placed, f_openBody, f_holeCount, f_nextRegion, f_changed, 0, f_active, f_calls, f_taskTop, f_valueTop, f_releasing, f_outcome, f_peakUsed, f_resultSize, a_sigType, a_params, a_kept, a_start, a_finished, a_tokOp, a_tokArg, a_tokType, a_tokScope, a_end, a_holeType, a_holeNest, a_holeScope, a_holeVars, a_parent, a_region, a_sigRegions, a_allRegions, a_cellA, a_cellB, lk', lv', a_frameFunction, a_vars, a_saved, a_env, a_regionFirst, a_tasks, a_values, us', a_result) → wX_reset_37 post f_functionLimit f_tokenLimit f_cellLimit f_depthLimit f_functions f_accepted f_placed f_openBody f_holeCount f_nextRegion f_changed f_freeCell f_active f_calls f_taskTop f_valueTop f_releasing f_outcome f_peakUsed f_resultSize n (nI k) a_sigType a_params a_kept a_start a_finished a_tokOp a_tokArg a_tokType a_tokScope a_end a_holeType a_holeNest a_holeScope a_holeVars a_parent a_region a_sigRegions a_allRegions a_cellA a_cellB a_link a_live a_frameFunction a_vars a_saved a_env a_regionFirst a_tasks a_values us a_result
  | 0, k, _, h1, h2, _ => by omega
  | n + 1, k, us, h1, h2, h3 => by
    rcases Nat.lt_or_ge k 4 with z | z
    · obtain ⟨us', lk', lv', q0, q1, q2⟩ := ux_reset37 hcl h64 n (k + 1) (upd us k 0) (by omega) (by omega) (fun c hc => by
        by_cases y : c = k
        · rw [y, pk_us]
        · rw [pk_un y]; exact h3 c (by omega))
      refine ⟨us', lk', lv', q0, q1, fun post hpo => br_f (nI_ge (b := 4) z (by decide)) ⟨vp_in_nI z (by decide), ?_⟩⟩
      rw [nI_clamp (n := k) (by omega)]
      exact nm_e (nm_r (nI_1 k) (q2 post hpo))
    · obtain ⟨lk', lv', q1, q2⟩ := ux_reset57 (f_functionLimit := f_functionLimit) (f_tokenLimit := f_tokenLimit) (f_cellLimit := f_cellLimit) (f_depthLimit := f_depthLimit) (f_functions := f_functions) (f_accepted := f_accepted) (f_placed := f_placed) (f_openBody := f_openBody) (f_holeCount := f_holeCount) (f_nextRegion := f_nextRegion) (f_changed := f_changed) (f_freeCell := f_freeCell) (f_active := f_active) (f_calls := f_calls) (f_taskTop := f_taskTop) (f_valueTop := f_valueTop) (f_releasing := f_releasing) (f_outcome := f_outcome) (f_peakUsed := f_peakUsed) (f_resultSize := f_resultSize) (a_sigType := a_sigType) (a_params := a_params) (a_kept := a_kept) (a_start := a_start) (a_finished := a_finished) (a_tokOp := a_tokOp) (a_tokArg := a_tokArg) (a_tokType := a_tokType) (a_tokScope := a_tokScope) (a_end := a_end) (a_holeType := a_holeType) (a_holeNest := a_holeNest) (a_holeScope := a_holeScope) (a_holeVars := a_holeVars) (a_parent := a_parent) (a_region := a_region) (a_sigRegions := a_sigRegions) (a_allRegions := a_allRegions) (a_cellA := a_cellA) (a_cellB := a_cellB) (a_frameFunction := a_frameFunction) (a_vars := a_vars) (a_saved := a_saved) (a_env := a_env) (a_regionFirst := a_regionFirst) (a_tasks := a_tasks) (a_values := a_values) (a_used := us) (a_result := a_result) hcl h64 (cl + 1) 0 a_link a_live (by omega) (by omega) (fun c hc => by omega)
      refine ⟨us, lk', lv', fun c hc => h3 c (by omega), q1, fun post hpo => br_t (nI_le (a := 4) z (by omega)) ⟨cl + 1, q2 post hpo⟩⟩
theorem ux_reset (hcl : f_cellLimit = nI cl) (h64 : cl ≤ 64) :
    ∃ us' lk' lv' : Nat → Int32, (∀ c, c < 4 → us' c = 0) ∧ (∀ c, c < cl → lk' c = (if c + 1 < cl then nI (c + 1) else -1) ∧ lv' c = 0) ∧ ∀ post : SX → Prop, post (f_functionLimit, f_tokenLimit, f_cellLimit, f_depthLimit, f_functions, f_accepted, f_placed, f_openBody, f_holeCount, f_nextRegion, f_changed, 0, 0, 0, 0, 0, f_releasing, 0, 0, 0, a_sigType, a_params, a_kept, a_start, a_finished, a_tokOp, a_tokArg, a_tokType, a_tokScope, a_end, a_holeType, a_holeNest, a_holeScope, a_holeVars, a_parent, a_region, a_sigRegions, a_allRegions, a_cellA, a_cellB, lk', lv', a_frameFunction, a_vars, a_saved, a_env, a_regionFirst, a_tasks, a_values, us', a_result) → wpX_reset post (f_functionLimit, f_tokenLimit, f_cellLimit, f_depthLimit, f_functions, f_accepted, f_placed, f_openBody, f_holeCount, f_nextRegion, f_changed, f_freeCell, f_active, f_calls, f_taskTop, f_valueTop, f_releasing, f_outcome, f_peakUsed, f_resultSize, a_sigType, a_params, a_kept, a_start, a_finished, a_tokOp, a_tokArg, a_tokType, a_tokScope, a_end, a_holeType, a_holeNest, a_holeScope, a_holeVars, a_parent, a_region, a_sigRegions, a_allRegions, a_cellA, a_cellB, a_link, a_live, a_frameFunction, a_vars, a_saved, a_env, a_regionFirst, a_tasks, a_values, a_used, a_result) := by
  obtain ⟨us', lk', lv', q0, q1, q2⟩ := ux_reset37 (f_functionLimit := f_functionLimit) (f_tokenLimit := f_tokenLimit) (f_cellLimit := f_cellLimit) (f_depthLimit := f_depthLimit) (f_functions := f_functions) (f_accepted := f_accepted) (f_placed := f_placed) (f_openBody := f_openBody) (f_holeCount := f_holeCount) (f_nextRegion := f_nextRegion) (f_changed := f_changed) (f_freeCell := f_freeCell) (f_active := 0) (f_calls := 0) (f_taskTop := 0) (f_valueTop := 0) (f_releasing := f_releasing) (f_outcome := 0) (f_peakUsed := 0) (f_resultSize := 0) (a_sigType := a_sigType) (a_params := a_params) (a_kept := a_kept) (a_start := a_start) (a_finished := a_finished) (a_tokOp := a_tokOp) (a_tokArg := a_tokArg) (a_tokType := a_tokType) (a_tokScope := a_tokScope) (a_end := a_end) (a_holeType := a_holeType) (a_holeNest := a_holeNest) (a_holeScope := a_holeScope) (a_holeVars := a_holeVars) (a_parent := a_parent) (a_region := a_region) (a_sigRegions := a_sigRegions) (a_allRegions := a_allRegions) (a_cellA := a_cellA) (a_cellB := a_cellB) (a_link := a_link) (a_live := a_live) (a_frameFunction := a_frameFunction) (a_vars := a_vars) (a_saved := a_saved) (a_env := a_env) (a_regionFirst := a_regionFirst) (a_tasks := a_tasks) (a_values := a_values) (a_result := a_result) hcl h64 5 0 a_used (by omega) (by omega) (fun c hc => by omega)
  exact ⟨us', lk', lv', q0, q1, fun post hpo => ⟨5, q2 post hpo⟩⟩
end
theorem hi_ch_rng {lk : Nat → Int32} {cl : Nat} (h : ∀ c, c < cl → lk c = (if c + 1 < cl then nI (c + 1) else -1)) : ∀ n c, c + n = cl → 0 < n → hi_ch lk (List.range' c n) (nI c)
  | 0, _, _, h0 => absurd h0 (Nat.lt_irrefl _)
  | n + 1, c, h1, _ => by
    refine ⟨rfl, ?_⟩
    rcases Nat.eq_zero_or_pos n with z | z
    · subst z
      rw [h c (by omega), if_neg (by omega)]; rfl
    · rw [h c (by omega), if_pos (by omega)]
      exact hi_ch_rng h n (c + 1) (by omega) z
end
section
theorem nd_map {f : Nat → Nat} : ∀ {l : List Nat}, l.Nodup → (∀ a, a ∈ l → ∀ b, b ∈ l → f a = f b → a = b) → (l.map f).Nodup
  | [], _, _ => List.nodup_nil
  | c :: l, hn, h => by
    have hc := List.nodup_cons.mp hn
    refine List.nodup_cons.mpr ⟨fun q => ?_, nd_map hc.2 (fun a ha b hb => h a (List.mem_cons_of_mem _ ha) b (List.mem_cons_of_mem _ hb))⟩
    obtain ⟨b, b1, b2⟩ := List.mem_map.mp q
    have := h b (List.mem_cons_of_mem _ b1) c (List.mem_cons_self) b2
    subst this
    exact hc.1 b1
section
variable {md cl : Nat} {cA cB fi se ck : Nat → Int32} {mu rg : Nat → Nat} {av Q : Nat → Prop} {κ R : Int32}
theorem ls_all (hK : ∀ e, e < md → av e → hi_K mu e (ck e) (cA (mu e)) (cB (mu e)) (fi e) (se e)) (hm : md ≤ 9600) (hκ : κ = 2 ∨ κ = 3) : ∀ (l : List Nat) (x y : Int32), vr_L md se ck rg av κ R Q l y → vr_R mu md x y →
    hi_ch cB (l.map mu) x ∧ dq_ch md se l y ∧ l.Nodup ∧ (∀ d, d ∈ l → d < md ∧ av d ∧ ck d = κ ∧ Q d) ∧ (∀ d, d ∈ l → ∃ e0, y = nI e0 ∧ e0 < md ∧ d ≤ e0)
  | [], x, y, h, r => by
    have hy : y = -1 := h
    subst hy
    have hx : x = -1 := by
      rcases r with w | ⟨e, w1, w2, w3⟩
      · exact w.1
      · exact absurd w2.symm (nI_nm1 (by omega))
    exact ⟨hx, rfl, List.nodup_nil, fun d hd => by simp at hd, fun d hd => by simp at hd⟩
  | e :: l, x, y, h, r => by
    obtain ⟨h1, ⟨h2, h3, h4, h5, h6⟩, h7⟩ := h
    subst h1
    have hx : x = nI (mu e) := by
      rcases r with ⟨-, w⟩ | ⟨e', w1, w2, w3⟩
      · exact absurd w (nI_nm1 (by omega))
      · have : e' = e := (nI_eq (by omega) (by omega)).mp w2.symm
        rw [w3, this]
    have rb : vr_R mu e (cB (mu e)) (se e) := by
      have k := hK e h2 h3
      rcases hκ with w | w
      · exact (k.2.1 (h4.trans w)).2
      · exact (k.2.2 (h4.trans w)).2
    obtain ⟨a1, a2, a3, a4, a5⟩ := ls_all hK hm hκ l _ _ h7 (vr_R_up (by omega) rb)
    have lt : ∀ d, d ∈ l → d < e := fun d hd => by
      obtain ⟨e0, x1, x2, x3⟩ := a5 d hd
      rcases rb with ⟨-, w⟩ | ⟨e', w1, w2, w3⟩
      · rw [x1] at w
        exact absurd w (nI_nm1 (by omega))
      · have : e' = e0 := (nI_eq (by omega) (by omega)).mp (w2.symm.trans x1)
        omega
    refine ⟨⟨hx, a1⟩, ⟨rfl, h2, a2⟩, List.nodup_cons.mpr ⟨fun q => by have := lt e q; omega, a3⟩, fun d hd => ?_, fun d hd => ?_⟩
    · rcases List.mem_cons.mp hd with q | q
      · rw [q]; exact ⟨h2, h3, h4, h6⟩
      · exact a4 d q
    · rcases List.mem_cons.mp hd with q | q
      · exact ⟨e, rfl, h2, by omega⟩
      · have := lt d q
        exact ⟨e, rfl, h2, by omega⟩
end
section
variable {f_functionLimit f_tokenLimit f_cellLimit f_depthLimit f_functions f_accepted f_placed f_openBody f_holeCount f_nextRegion f_changed f_freeCell f_active f_calls f_taskTop f_valueTop f_releasing f_outcome f_peakUsed f_resultSize : Int32} {a_sigType a_params a_kept a_start a_finished a_tokOp a_tokArg a_tokType a_tokScope a_end a_holeType a_holeNest a_holeScope a_holeVars a_parent a_region a_sigRegions a_allRegions a_cellA a_cellB a_link a_live a_frameFunction a_vars a_saved a_env a_regionFirst a_tasks a_values a_used a_result : Nat → Int32}
variable {cl md : Nat} {fi se ck : Nat → Int32} {mu rg : Nat → Nat} {av : Nat → Prop} {τ R Q y : Int32}
theorem col_X (hcl : f_cellLimit = nI cl) (h64 : cl ≤ 64) (hm : md ≤ 9600) (hmu : ∀ e, e < md → av e → mu e < cl) (hinj : ∀ e e', e < md → e' < md → av e → av e' → mu e = mu e' → e = e') (hK : ∀ e, e < md → av e → hi_K mu e (ck e) (a_cellA (mu e)) (a_cellB (mu e)) (fi e) (se e)) (hτ : a_sigType 2 = τ) (hty : sp_ty τ)
    (V : vr_V md fi se ck mu rg av τ R Q (a_values 0) y) : ∃ (rs : Int32) (rr : Nat → Int32), dq_res md τ rs y rr fi se ∧ ∀ post : SX → Prop, post (f_functionLimit, f_tokenLimit, f_cellLimit, f_depthLimit, f_functions, f_accepted, f_placed, f_openBody, f_holeCount, f_nextRegion, f_changed, f_freeCell, 0, f_calls, f_taskTop, 0, f_releasing, 1, f_peakUsed, rs, a_sigType, a_params, a_kept, a_start, a_finished, a_tokOp, a_tokArg, a_tokType, a_tokScope, a_end, a_holeType, a_holeNest, a_holeScope, a_holeVars, a_parent, a_region, a_sigRegions, a_allRegions, a_cellA, a_cellB, a_link, a_live, a_frameFunction, a_vars, a_saved, a_env, a_regionFirst, a_tasks, a_values, a_used, rr) → wX_leave_117 post f_functionLimit f_tokenLimit f_cellLimit f_depthLimit f_functions f_accepted f_placed f_openBody f_holeCount f_nextRegion f_changed f_freeCell 0 f_calls f_taskTop (nI 1) f_releasing f_outcome f_peakUsed 0 a_sigType a_params a_kept a_start a_finished a_tokOp a_tokArg a_tokType a_tokScope a_end a_holeType a_holeNest a_holeScope a_holeVars a_parent a_region a_sigRegions a_allRegions a_cellA a_cellB a_link a_live a_frameFunction a_vars a_saved a_env a_regionFirst a_tasks a_values a_used a_result := by
  rcases hty with w | w | w | w
  · -- INT
    have e := V.1 w
    refine ⟨1, upd a_result 0 (a_values 0), ⟨fun _ => ⟨rfl, by rw [pk_us]; exact e⟩, fun q => absurd (w.symm.trans q) (by decide), fun q => absurd (w.symm.trans q) (by decide), fun q => absurd (w.symm.trans q) (by decide)⟩, fun post hpo => ?_⟩
    refine ux_1170 (vt := 0) (by omega) hτ (fun _ => ux_emit (rs := 0) (by omega) hpo) (fun q => absurd (w.symm.trans q) (by decide)) (fun q => absurd w q)
  · -- PAIR
    obtain ⟨e, ⟨e1, e2, e3, e4⟩, e5, e6⟩ := V.2.1 w
    have k := (hK e e1 e2).1 e3
    refine ⟨2, upd (upd a_result 0 (a_cellA (mu e))) 1 (a_cellB (mu e)), ⟨fun q => absurd (w.symm.trans q) (by decide), fun _ => ⟨rfl, e, e1, e5, by rw [pk_un (by omega), pk_us]; exact k.1, by rw [pk_us]; exact k.2⟩, fun q => absurd (w.symm.trans q) (by decide), fun q => absurd (w.symm.trans q) (by decide)⟩, fun post hpo => ?_⟩
    refine ux_1170 (vt := 0) (by omega) hτ (fun q => absurd (w.symm.trans q) (by decide)) (fun _ => ?_) (fun _ q => absurd w q)
    rw [e6]
    exact ux_emitP (rs := 0) hcl (hmu e e1 e2) h64 (by omega) hpo
  · -- LIST
    obtain ⟨r, l, hl⟩ := V.2.2.1 w
    obtain ⟨a1, a2, a3, a4, a5⟩ := ls_all hK hm (Or.inl rfl) l _ _ hl r
    have nd : (l.map mu).Nodup := nd_map a3 (fun a ha b hb q => hinj a b (a4 a ha).1 (a4 b hb).1 (a4 a ha).2.1 (a4 b hb).2.1 q)
    have b64 : ∀ c, c ∈ l.map mu → c < cl := fun c hc => by
      obtain ⟨d, d1, d2⟩ := List.mem_map.mp hc
      rw [← d2]; exact hmu d (a4 d d1).1 (a4 d d1).2.1
    have len : (l.map mu).length ≤ cl := nd_len nd b64
    have ll : (l.map mu).length = l.length := List.length_map _
    have lmd : l.length ≤ md := nd_len a3 (fun d hd => (a4 d hd).1)
    obtain ⟨rr, r1, r2, r3⟩ := ux_emitL2 (f_functionLimit := f_functionLimit) (f_tokenLimit := f_tokenLimit) (f_cellLimit := f_cellLimit) (f_depthLimit := f_depthLimit) (f_functions := f_functions) (f_accepted := f_accepted) (f_placed := f_placed) (f_openBody := f_openBody) (f_holeCount := f_holeCount) (f_nextRegion := f_nextRegion) (f_changed := f_changed) (f_freeCell := f_freeCell) (f_active := 0) (f_calls := f_calls) (f_taskTop := f_taskTop) (f_valueTop := 0) (f_releasing := f_releasing) (f_outcome := f_outcome) (f_peakUsed := f_peakUsed) (a_sigType := a_sigType) (a_params := a_params) (a_kept := a_kept) (a_start := a_start) (a_finished := a_finished) (a_tokOp := a_tokOp) (a_tokArg := a_tokArg) (a_tokType := a_tokType) (a_tokScope := a_tokScope) (a_end := a_end) (a_holeType := a_holeType) (a_holeNest := a_holeNest) (a_holeScope := a_holeScope) (a_holeVars := a_holeVars) (a_parent := a_parent) (a_region := a_region) (a_sigRegions := a_sigRegions) (a_allRegions := a_allRegions) (a_cellA := a_cellA) (a_cellB := a_cellB) (a_link := a_link) (a_live := a_live) (a_frameFunction := a_frameFunction) (a_vars := a_vars) (a_saved := a_saved) (a_env := a_env) (a_regionFirst := a_regionFirst) (a_tasks := a_tasks) (a_values := a_values) (a_used := a_used) (l.map mu) (l.length + 1) 0 0 a_result (a_values 0) a1 (fun c hc => by have := b64 c hc; omega) (by omega) (by omega) (by omega)
    refine ⟨nI l.length, rr, ⟨fun q => absurd (w.symm.trans q) (by decide), fun q => absurd (w.symm.trans q) (by decide), fun _ => ⟨l, a2, by omega, lmd, rfl, fun j d hd => ?_⟩, fun q => absurd (w.symm.trans q) (by decide)⟩, fun post hpo => ?_⟩
    · have hd' : (l.map mu)[j]? = some (mu d) := by rw [List.getElem?_map, hd]; rfl
      have := r2 j (mu d) hd'
      rw [Nat.zero_add] at this
      have md' := a4 d (List.mem_of_getElem? hd)
      rw [this]
      exact ((hK d md'.1 md'.2.1).2.1 md'.2.2.1).1
    · refine ux_1170 (vt := 0) (by omega) hτ (fun q => absurd (w.symm.trans q) (by decide)) (fun q => absurd (w.symm.trans q) (by decide)) (fun _ _ => ⟨l.length + 1, ?_⟩)
      rw [w]
      refine r3 _ ?_
      rw [ll, Nat.zero_add]
      exact hpo
  · -- PLIST
    obtain ⟨r, l, hl⟩ := V.2.2.2 w
    obtain ⟨a1, a2, a3, a4, a5⟩ := ls_all hK hm (Or.inr rfl) l _ _ hl r
    have nd : (l.map mu).Nodup := nd_map a3 (fun a ha b hb q => hinj a b (a4 a ha).1 (a4 b hb).1 (a4 a ha).2.1 (a4 b hb).2.1 q)
    have b64 : ∀ c, c ∈ l.map mu → c < cl := fun c hc => by
      obtain ⟨d, d1, d2⟩ := List.mem_map.mp hc
      rw [← d2]; exact hmu d (a4 d d1).1 (a4 d d1).2.1
    have len : (l.map mu).length ≤ cl := nd_len nd b64
    have ll : (l.map mu).length = l.length := List.length_map _
    have lmd : l.length ≤ md := nd_len a3 (fun d hd => (a4 d hd).1)
    have pp : ∀ d, d ∈ l → ∃ e', fi d = nI e' ∧ (fi d).toNatClampNeg = e' ∧ e' < md ∧ av e' ∧ ck e' = 1 ∧ a_cellA (mu d) = nI (mu e') := fun d hd => by
      obtain ⟨d1, d2, d3, e', d4, d5, d6, d7, d8⟩ := a4 d hd
      refine ⟨e', d4, by rw [d4, nI_clamp (by omega)], d5, d6, d7, ?_⟩
      rcases ((hK d d1 d2).2.2 d3).1 with ⟨-, v⟩ | ⟨e2, v1, v2, v3⟩
      · rw [d4] at v
        exact absurd v (nI_nm1 (by omega))
      · have : e2 = e' := (nI_eq (by omega) (by omega)).mp (v2.symm.trans d4)
        rw [v3, this]
    have gm : ∀ (f : Nat → Nat) (j v : Nat), (l.map f)[j]? = some v → ∃ d, l[j]? = some d ∧ f d = v := fun f j v hv => by
      rw [List.getElem?_map] at hv
      cases hd : l[j]? with
      | none => rw [hd] at hv; exact absurd hv (by simp)
      | some d => rw [hd] at hv; exact ⟨d, rfl, by simpa using hv⟩
    have hcp : ∀ (j c p : Nat), (l.map mu)[j]? = some c → (l.map (fun d => mu (fi d).toNatClampNeg))[j]? = some p → a_cellA c = nI p ∧ p < cl := by
      intro j c p hc hp
      obtain ⟨d, d1, d2⟩ := gm _ _ _ hc
      obtain ⟨d', d1', d2'⟩ := gm _ _ _ hp
      have : d' = d := by
        rw [d1] at d1'
        exact (Option.some.inj d1').symm
      subst this
      obtain ⟨e', p1, p2, p3, p4, p5, p6⟩ := pp d' (List.mem_of_getElem? d1)
      rw [← d2, ← d2', p2]
      exact ⟨p6, hmu e' p3 p4⟩
    obtain ⟨rr, r1, r2, r3⟩ := ux_emitL3 (f_functionLimit := f_functionLimit) (f_tokenLimit := f_tokenLimit) (f_cellLimit := f_cellLimit) (f_depthLimit := f_depthLimit) (f_functions := f_functions) (f_accepted := f_accepted) (f_placed := f_placed) (f_openBody := f_openBody) (f_holeCount := f_holeCount) (f_nextRegion := f_nextRegion) (f_changed := f_changed) (f_freeCell := f_freeCell) (f_active := 0) (f_calls := f_calls) (f_taskTop := f_taskTop) (f_valueTop := 0) (f_releasing := f_releasing) (f_outcome := f_outcome) (f_peakUsed := f_peakUsed) (a_sigType := a_sigType) (a_params := a_params) (a_kept := a_kept) (a_start := a_start) (a_finished := a_finished) (a_tokOp := a_tokOp) (a_tokArg := a_tokArg) (a_tokType := a_tokType) (a_tokScope := a_tokScope) (a_end := a_end) (a_holeType := a_holeType) (a_holeNest := a_holeNest) (a_holeScope := a_holeScope) (a_holeVars := a_holeVars) (a_parent := a_parent) (a_region := a_region) (a_sigRegions := a_sigRegions) (a_allRegions := a_allRegions) (a_cellA := a_cellA) (a_cellB := a_cellB) (a_link := a_link) (a_live := a_live) (a_frameFunction := a_frameFunction) (a_vars := a_vars) (a_saved := a_saved) (a_env := a_env) (a_regionFirst := a_regionFirst) (a_tasks := a_tasks) (a_values := a_values) (a_used := a_used) hcl h64 (l.map mu) (l.map (fun d => mu (fi d).toNatClampNeg)) (l.length + 1) 0 0 a_result (a_values 0) a1 (fun c hc => by have := b64 c hc; omega) (by rw [List.length_map, List.length_map]) hcp (by omega) (by omega) (by omega)
    · refine ⟨nI (2 * l.length), rr, ⟨fun q => absurd (w.symm.trans q) (by decide), fun q => absurd (w.symm.trans q) (by decide), fun q => absurd (w.symm.trans q) (by decide), fun _ => ⟨l, a2, by omega, lmd, rfl, fun j d hd => ?_⟩⟩, fun post hpo => ?_⟩
      · obtain ⟨e', p1, p2, p3, p4, p5, p6⟩ := pp d (List.mem_of_getElem? hd)
        have hd' : (l.map (fun d => mu (fi d).toNatClampNeg))[j]? = some (mu e') := by
          rw [List.getElem?_map, hd]
          show some (mu (fi d).toNatClampNeg) = _
          rw [p2]
        have q := r2 j (mu e') hd'
        rw [Nat.zero_add] at q
        have k1 := (hK e' p3 p4).1 p5
        exact ⟨e', p3, p1, q.1.trans k1.1, q.2.trans k1.2⟩
      · refine ux_1170 (vt := 0) (by omega) hτ (fun q => absurd (w.symm.trans q) (by decide)) (fun q => absurd (w.symm.trans q) (by decide)) (fun _ _ => ⟨l.length + 1, ?_⟩)
        rw [w]
        refine r3 _ ?_
        rw [ll, Nat.zero_add]
        exact hpo
end
end
section
/-- what the end of the first activation must give -/
def ev_D (f_functionLimit f_tokenLimit f_cellLimit f_depthLimit f_functions f_accepted f_placed f_openBody f_holeCount f_nextRegion f_changed g_maxFunctions g_maxTokens g_maxCells g_maxDepth g_functions g_tokens g_open g_accepted g_answer : Int32) (a_sigType a_params a_kept a_start a_finished a_tokOp a_tokArg a_tokType a_tokScope a_end a_holeType a_holeNest a_holeScope a_holeVars a_parent a_region a_sigRegions a_allRegions a_result b_result b_param b_finished : Nat → Int32) (nf t cl dl : Nat) (rl : Int32) (sN fo en sg al : Nat → Nat) (FIN : Int32 → SX → SY → Prop) : Prop := ∀ (c2 : Nat) (f_freeCell2 f_peakUsed2 g_used2 : Int32) (a_cellA2 a_cellB2 a_link2 a_live2 a_frameFunction2 a_vars2 a_saved2 a_env2 a_regionFirst2 a_tasks2 a_values2 a_used2 b_first2 b_second2 b_cellKind2 b_freed2 b_fn2 b_born2 b_actual2 b_value2 b_known2 : Nat → Int32) (md2 : Nat) (mu2 rg2 : Nat → Nat) (av2 : Nat → Prop) (FL2 : List Nat) (fc3 : Int32) (lk3 lv3 rF3 us3 : Nat → Int32) (uy3 : Int32) (fr3 : Nat → Int32) (rs : Int32) (rr : Nat → Int32), md2 ≤ 9600 → (∀ e, e < md2 → b_cellKind2 e = 1 ∨ b_cellKind2 e = 2 ∨ b_cellKind2 e = 3) → hi_ct cl md2 us3 uy3 b_cellKind2 fr3 → dq_res md2 (a_sigType 2) rs (b_value2 (0 * 97 + sN 0)) rr b_first2 b_second2 →
  FIN 1 (f_functionLimit, f_tokenLimit, f_cellLimit, f_depthLimit, f_functions, f_accepted, f_placed, f_openBody, f_holeCount, f_nextRegion, f_changed, fc3, 0, nI c2, nI 0, 0, rl, 1, f_peakUsed2, rs, a_sigType, a_params, a_kept, a_start, a_finished, a_tokOp, a_tokArg, a_tokType, a_tokScope, a_end, a_holeType, a_holeNest, a_holeScope, a_holeVars, a_parent, a_region, a_sigRegions, a_allRegions, a_cellA2, a_cellB2, lk3, lv3, a_frameFunction2, a_vars2, a_saved2, a_env2, rF3, a_tasks2, a_values2, us3, rr)
    (g_maxFunctions, g_maxTokens, g_maxCells, g_maxDepth, g_functions, g_tokens, g_open, g_accepted, nI md2, uy3, f_peakUsed2, 1, b_value2 (0 * 97 + sN 0), nI c2, 0, b_result, b_param, a_start, b_finished, a_tokOp, a_tokArg, a_tokType, b_first2, b_second2, b_cellKind2, fr3, b_fn2, b_born2, b_actual2, b_value2, b_known2)
section
variable {f_functionLimit f_tokenLimit f_cellLimit f_depthLimit f_functions f_accepted f_placed f_openBody f_holeCount f_nextRegion f_changed g_maxFunctions g_maxTokens g_maxCells g_maxDepth g_functions g_tokens g_open g_accepted g_answer : Int32} {a_sigType a_params a_kept a_start a_finished a_tokOp a_tokArg a_tokType a_tokScope a_end a_holeType a_holeNest a_holeScope a_holeVars a_parent a_region a_sigRegions a_allRegions a_result b_result b_param b_finished : Nat → Int32} {nf t cl dl : Nat} {rl : Int32} {sN fo en sg al : Nat → Nat} {FIN : Int32 → SX → SY → Prop} {f_freeCell f_peakUsed g_used : Int32} {a_cellA a_cellB a_link a_live a_frameFunction a_vars a_saved a_env a_regionFirst a_tasks a_values a_used b_first b_second b_cellKind b_freed b_fn b_born b_actual b_value b_known : Nat → Int32} {md : Nat} {mu rg : Nat → Nat} {av : Nat → Prop} {FL : List Nat}
variable {v1 v2 : Int32} {us lk lv : Nat → Int32}
theorem run_J (S : rs_S f_cellLimit f_depthLimit g_maxCells g_maxDepth g_tokens a_sigType a_params a_kept a_start a_tokOp a_tokArg a_tokType a_tokScope a_end a_region a_sigRegions a_allRegions b_result b_param nf t cl dl rl sN fo en sg al) (FS : ev_S f_functionLimit f_tokenLimit f_cellLimit f_depthLimit f_functions f_accepted f_placed f_openBody f_holeCount f_nextRegion f_changed g_maxFunctions g_maxTokens g_maxCells g_maxDepth g_functions g_tokens g_open g_accepted g_answer a_sigType a_params a_kept a_start a_finished a_tokOp a_tokArg a_tokType a_tokScope a_end a_holeType a_holeNest a_holeScope a_holeVars a_parent a_region a_sigRegions a_allRegions a_result b_result b_param b_finished nf t cl dl rl sN fo en sg al FIN) (FD : ev_D f_functionLimit f_tokenLimit f_cellLimit f_depthLimit f_functions f_accepted f_placed f_openBody f_holeCount f_nextRegion f_changed g_maxFunctions g_maxTokens g_maxCells g_maxDepth g_functions g_tokens g_open g_accepted g_answer a_sigType a_params a_kept a_start a_finished a_tokOp a_tokArg a_tokType a_tokScope a_end a_holeType a_holeNest a_holeScope a_holeVars a_parent a_region a_sigRegions a_allRegions a_result b_result b_param b_finished nf t cl dl rl sN fo en sg al FIN) (h0 : 0 < nf) (hm0 : a_sigType 0 = -1 ∨ a_sigType 0 = 0) (hm1 : a_sigType 1 = -1 ∨ a_sigType 1 = 0) (hus : ∀ c, c < 4 → us c = 0) (hlk : ∀ c, c < cl → lk c = (if c + 1 < cl then nI (c + 1) else -1) ∧ lv c = 0) : rj FIN rl 0 (f_functionLimit, f_tokenLimit, f_cellLimit, f_depthLimit, f_functions, f_accepted, f_placed, f_openBody, f_holeCount, f_nextRegion, f_changed, 0, nI 1, nI 1, nI 2, nI 0, rl, 0, 0, 0, a_sigType, a_params, a_kept, a_start, a_finished, a_tokOp, a_tokArg, a_tokType, a_tokScope, a_end, a_holeType, a_holeNest, a_holeScope, a_holeVars, a_parent, a_region, a_sigRegions, a_allRegions, a_cellA, a_cellB, lk, lv, upd a_frameFunction 0 (nI 0), upd (upd a_vars 0 v1) 1 v2, xz_sv a_saved us 0, xz_ev a_env (200 * 0) (al 0), xz_rF a_regionFirst (200 * 0) (al 0), upd (upd a_tasks 0 (-1)) 1 (nI (2 * sN 0)), a_values, us, a_result) 0 (g_maxFunctions, g_maxTokens, g_maxCells, g_maxDepth, g_functions, g_tokens, g_open, g_accepted, nI 0, 0, 0, 0, g_answer, nI 1, nI 1, b_result, b_param, a_start, b_finished, a_tokOp, a_tokArg, a_tokType, b_first, b_second, b_cellKind, b_freed, upd b_fn 0 (nI 0), upd b_born 0 (nI 0), upd (upd b_actual (2 * 0) v1) (2 * 0 + 1) v2, b_value, yz_kn b_known 0) := by
  have ht := S.1.1
  have hn8 := S.1.2.1
  have dl4 := S.2.2.2.2.2.2.2.2.2.2.2.2.2.1
  have dl24 := S.2.2.2.2.2.2.2.2.2.2.2.2.2.2.1
  have hcl8 := S.2.2.2.2.2.2.2.2.2.1
  have hcl := S.2.2.2.2.2.2.2.2.2.2.1
  have hcX := S.2.2.2.2.2.2.2.1
  have rl01 := S.2.2.2.2.2.2.2.2.2.2.2.2.2.2.2.2
  have gN := pc_sN S.1 h0
  have gE := pc_end S.1 gN.1
  have gfo := pc_foS S.1 h0
  have gG := S.2.1.1 0 h0
  have rootns : (hz_ns (sp_A a_sigType a_tokOp a_tokArg) (sN (fo (sN 0))) (sN 0)) = 1 := by rw [gfo]; exact hz_ns_0
  have tr : a_tokType (sN 0) = a_sigType 2 := by
    have T2 := pc_tok S.1 gN.1
    rw [gfo] at T2
    rcases T2.2.1 with ⟨-, z⟩ | ⟨q, k', z1, z2, -⟩
    · exact z
    · have := z2.1; omega
  refine ev_all S FS 20000 (sN 0) 0 1 1 0 0 0 (fun R => R < al 0) _ _ _ _ _ _ _ _ _ _ _ _ _ _ _ _ _ _ _ _ _ _ _ _ 0 (fun _ => 0) (fun _ => 0) (fun _ => False) (List.range' 0 cl) (by omega) ⟨⟨gN.1, by omega, by omega, by omega, by omega, by omega, by omega, by omega, by omega⟩, pk_us, ?_, ⟨⟨fun e he => by omega, fun e he => by omega, fun e e' he => by omega, hi_ch_rng (fun c hc => (hlk c hc).1) cl 0 (by omega) (by omega), List.nodup_range', fun c hc => ?_, ?_⟩, ⟨rfl, by show 0 ≤ cl; omega, fun k k1 k3 => ?_⟩, fun _ => ⟨fun e he => by omega, fun R hR => ⟨[], ?_, List.nodup_nil, fun c => ⟨fun q => by simp at q, fun ⟨e, e1, _⟩ => by omega⟩⟩⟩⟩, ?_, fun j j1 j2 => ?_, ?_⟩ (fun c2 x2 y2 f_freeCell2 f_peakUsed2 g_used2 a_cellA2 a_cellB2 a_link2 a_live2 a_frameFunction2 a_vars2 a_saved2 a_env2 a_regionFirst2 a_tasks2 a_values2 a_used2 b_first2 b_second2 b_cellKind2 b_freed2 b_fn2 b_born2 b_actual2 b_value2 b_known2 md2 mu2 rg2 av2 FL2 post => ?_)
  · rw [gfo]
    refine ⟨pk_us, pk_us, fun r hr => ⟨r, ?_, hr⟩, fun R hR => by omega⟩
    show xz_ev a_env (200 * 0) (al 0) (200 * 0 + r) = nI r
    unfold xz_ev
    rw [if_pos ⟨by omega, by omega⟩, show 200 * 0 + r = r by omega]
  · rw [List.mem_range'_1] at hc; omega
  · rw [List.length_range']; rfl
  · exact hus k (by omega)
  · show xz_rF a_regionFirst (200 * 0) (al 0) R = -1
    unfold xz_rF
    rw [if_pos ⟨by omega, by omega⟩]
  · rw [gfo]
    refine ⟨fun v hv => ?_, fun j j1 j2 => by have := j2.2.1.1; omega⟩
    have hle := sp_n_le a_sigType 0
    have t0 : a_sigType (3 * 0 + v) = 0 := by
      unfold sp_n at hv
      by_cases z : a_sigType (3 * 0) = -1
      · rw [if_pos z] at hv; omega
      · rw [if_neg z] at hv
        have s0 : a_sigType 0 = 0 := hm0.elim (fun w => absurd w z) id
        by_cases y : a_sigType (3 * 0 + 1) = -1
        · rw [if_pos y] at hv
          have : v = 0 := by omega
          subst this; exact s0
        · have s1 : a_sigType 1 = 0 := hm1.elim (fun w => absurd w y) id
          rw [if_neg y] at hv
          rcases (by omega : v = 0 ∨ v = 1) with rfl | rfl
          · exact s0
          · exact s1
    rw [t0]
    have ex : upd (upd a_vars 0 v1) 1 v2 (8 * 0 + v) = upd (upd b_actual (2 * 0) v1) (2 * 0 + 1) v2 (2 * 0 + v) := by
      have l0 : ∀ f : Nat → Int32, upd (upd f 0 v1) 1 v2 0 = v1 := fun f => by rw [pk_un (by omega), pk_us]
      have l1 : ∀ f : Nat → Int32, upd (upd f 0 v1) 1 v2 1 = v2 := fun f => pk_us
      rcases (by omega : v = 0 ∨ v = 1) with rfl | rfl
      · exact (l0 a_vars).trans (l0 b_actual).symm
      · exact (l1 a_vars).trans (l1 b_actual).symm
    rw [ex]; exact vr_int
  · show yz_kn b_known 0 (0 * 97 + j) = 0
    unfold yz_kn
    rw [if_pos ⟨by omega, by omega⟩]
  · rw [rootns, gfo]
    exact fun kn vl _ k0 => ⟨k0, rfl⟩
  · obtain ⟨⟨s1, s2, s3, s4, s5⟩, s6, s7, s8, s9, s10, s11, s12⟩ := post
    rw [gfo] at s12
    rw [tr] at s11
    have hta : a_tasks2 0 = -1 := by rw [s6.1 0 (by omega), pk_un (by omega), pk_us]
    have hff : a_frameFunction2 0 = nI 0 := by rw [s6.2.2.2.2.2 0 (by omega)]; exact pk_us
    have hfn : b_fn2 0 = nI 0 := by rw [(s7.1 0 (by omega)).1]; exact pk_us
    have hbo : b_born2 0 = nI 0 := by rw [(s7.1 0 (by omega)).2]; exact pk_us
    have md96 : md2 ≤ 9600 := by omega
    have hck : ∀ e, e < md2 → b_cellKind2 e = 1 ∨ b_cellKind2 e = 2 ∨ b_cellKind2 e = 3 := fun e he => (s9.1.1 e he).1
    have hty : sp_ty (a_sigType 2) := (S.1.2.2.1 0 h0).1
    have eu := s9.2.1.1
    subst eu
    have hkr : ¬ b_known2 (0 * 97 + sN 0) = 0 := by rw [s8]; decide
    rcases rl01 with r | r
    · subst r
      obtain ⟨rs, rr, q1, q2⟩ := col_X (f_functionLimit := f_functionLimit) (f_tokenLimit := f_tokenLimit) (f_cellLimit := f_cellLimit) (f_depthLimit := f_depthLimit) (f_functions := f_functions) (f_accepted := f_accepted) (f_placed := f_placed) (f_openBody := f_openBody) (f_holeCount := f_holeCount) (f_nextRegion := f_nextRegion) (f_changed := f_changed) (f_freeCell := f_freeCell2) (f_calls := nI c2) (f_taskTop := nI 0) (f_releasing := 0) (f_outcome := 0) (f_peakUsed := f_peakUsed2) (a_sigType := a_sigType) (a_params := a_params) (a_kept := a_kept) (a_start := a_start) (a_finished := a_finished) (a_tokOp := a_tokOp) (a_tokArg := a_tokArg) (a_tokType := a_tokType) (a_tokScope := a_tokScope) (a_end := a_end) (a_holeType := a_holeType) (a_holeNest := a_holeNest) (a_holeScope := a_holeScope) (a_holeVars := a_holeVars) (a_parent := a_parent) (a_region := a_region) (a_sigRegions := a_sigRegions) (a_allRegions := a_allRegions) (a_cellA := a_cellA2) (a_cellB := a_cellB2) (a_link := a_link2) (a_live := a_live2) (a_frameFunction := a_frameFunction2) (a_vars := a_vars2) (a_saved := a_saved2) (a_env := a_env2) (a_regionFirst := a_regionFirst2) (a_tasks := a_tasks2) (a_values := a_values2) (a_used := a_used2) (a_result := a_result) hcX hcl md96 (fun e he ha => (s9.1.2.1 e he ha).2.1) s9.1.2.2.1 (fun e he ha => (s9.1.2.1 e he ha).2.2.2.2) rfl hty s11
      refine rj_xs (by omega) (ru_advL (tt := 0) hta (by omega) (fun post hpo => ux_leaveK (d := 0) (by omega) (q2 post hpo))) ?_
      refine rj_yl (D := 0) (by omega) (by omega) (show 0 < 8 by omega) (show sN 0 < 97 by omega) hfn (S.2.2.2.2.2.1 0 h0) hkr (fun post hpo => uy_leaveK (v := b_value2 (0 * 97 + sN 0)) S.1 S.2.2.2.2.2.1 h0 (by omega) hfn rfl (uy_1840 hpo)) ?_
      exact rj_fin (by omega) (by omega) (by decide) (FD c2 f_freeCell2 f_peakUsed2 0 a_cellA2 a_cellB2 a_link2 a_live2 a_frameFunction2 a_vars2 a_saved2 a_env2 a_regionFirst2 a_tasks2 a_values2 a_used2 b_first2 b_second2 b_cellKind2 b_freed2 b_fn2 b_born2 b_actual2 b_value2 b_known2 md2 mu2 rg2 av2 FL2 f_freeCell2 a_link2 a_live2 a_regionFirst2 a_used2 _ b_freed2 rs rr md96 hck s9.2.1 q1)
    · subst r
      have hr := s9.2.2 rfl
      obtain ⟨us3, fc3, lk3, lv3, rF3, av3, FL3, u1, u2, u3, u4, u5⟩ := ux_leaveR (f_functionLimit := f_functionLimit) (f_tokenLimit := f_tokenLimit) (f_cellLimit := f_cellLimit) (f_depthLimit := f_depthLimit) (f_functions := f_functions) (f_accepted := f_accepted) (f_placed := f_placed) (f_openBody := f_openBody) (f_holeCount := f_holeCount) (f_nextRegion := f_nextRegion) (f_changed := f_changed) (f_calls := nI c2) (f_taskTop := nI 0) (f_valueTop := nI (0 + 1)) (f_outcome := 0) (f_peakUsed := f_peakUsed2) (f_resultSize := 0) (a_sigType := a_sigType) (a_params := a_params) (a_kept := a_kept) (a_start := a_start) (a_finished := a_finished) (a_tokOp := a_tokOp) (a_tokArg := a_tokArg) (a_tokType := a_tokType) (a_tokScope := a_tokScope) (a_end := a_end) (a_holeType := a_holeType) (a_holeNest := a_holeNest) (a_holeScope := a_holeScope) (a_holeVars := a_holeVars) (a_parent := a_parent) (a_region := a_region) (a_sigRegions := a_sigRegions) (a_allRegions := a_allRegions) (a_cellA := a_cellA2) (a_cellB := a_cellB2) (a_frameFunction := a_frameFunction2) (a_vars := a_vars2) (a_saved := a_saved2) (a_env := a_env2) (a_tasks := a_tasks2) (a_values := a_values2) (a_used := a_used2) (a_result := a_result) (d := 0) (f := 0) (OP := fun R => R < al 0) hcl (by omega) (by omega) hff (S.1.2.2.1 0 h0) (S.2.2.2.1 0 h0) gG.1 gG.2.1 gG.2.2.1 gG.2.2.2 (fun k' a b => by show 200 * 0 + k' < al 0; omega) s9.1 hr
      obtain ⟨fr3, w1, w2⟩ := uy_leaveR (f := 0) (md := md2) (bo := 0) (D := 0) (v := b_value2 (0 * 97 + sN 0)) (g_maxFunctions := g_maxFunctions) (g_maxTokens := g_maxTokens) (g_maxCells := g_maxCells) (g_maxDepth := g_maxDepth) (g_functions := g_functions) (g_tokens := g_tokens) (g_open := g_open) (g_accepted := g_accepted) (g_most := f_peakUsed2) (g_last := 0) (g_answer := g_answer) (g_calls := nI c2) (b_result := b_result) (b_param := b_param) (b_start := a_start) (b_finished := b_finished) (b_tokOp := a_tokOp) (b_tokArg := a_tokArg) (b_tokType := a_tokType) (b_first := b_first2) (b_second := b_second2) (b_cellKind := b_cellKind2) (b_freed := b_freed2) (b_fn := b_fn2) (b_born := b_born2) (b_actual := b_actual2) (b_value := b_value2) (b_known := b_known2) S.2.2.2.2.2.2.1 S.1 S.2.2.2.2.2.1 h0 md96 (by omega) hfn hbo (by omega) rfl
      obtain ⟨rs, rr, q1, q2⟩ := col_X (f_functionLimit := f_functionLimit) (f_tokenLimit := f_tokenLimit) (f_cellLimit := f_cellLimit) (f_depthLimit := f_depthLimit) (f_functions := f_functions) (f_accepted := f_accepted) (f_placed := f_placed) (f_openBody := f_openBody) (f_holeCount := f_holeCount) (f_nextRegion := f_nextRegion) (f_changed := f_changed) (f_freeCell := fc3) (f_calls := nI c2) (f_taskTop := nI 0) (f_releasing := 1) (f_outcome := 0) (f_peakUsed := f_peakUsed2) (a_sigType := a_sigType) (a_params := a_params) (a_kept := a_kept) (a_start := a_start) (a_finished := a_finished) (a_tokOp := a_tokOp) (a_tokArg := a_tokArg) (a_tokType := a_tokType) (a_tokScope := a_tokScope) (a_end := a_end) (a_holeType := a_holeType) (a_holeNest := a_holeNest) (a_holeScope := a_holeScope) (a_holeVars := a_holeVars) (a_parent := a_parent) (a_region := a_region) (a_sigRegions := a_sigRegions) (a_allRegions := a_allRegions) (a_cellA := a_cellA2) (a_cellB := a_cellB2) (a_link := lk3) (a_live := lv3) (a_frameFunction := a_frameFunction2) (a_vars := a_vars2) (a_saved := a_saved2) (a_env := a_env2) (a_regionFirst := rF3) (a_tasks := a_tasks2) (a_values := a_values2) (a_used := us3) (a_result := a_result) hcX hcl md96 (fun e he ha => (s9.1.2.1 e he ha).2.1) s9.1.2.2.1 (fun e he ha => (s9.1.2.1 e he ha).2.2.2.2) rfl hty s11
      refine rj_xs (by omega) (ru_advL (tt := 0) hta (by omega) (fun post hpo => u5 post (q2 post hpo))) ?_
      refine rj_yl (D := 0) (by omega) (by omega) (show 0 < 8 by omega) (show sN 0 < 97 by omega) hfn (S.2.2.2.2.2.1 0 h0) hkr (fun post hpo => w2 post (uy_1840 hpo)) ?_
      have C3 := ct_leave (us0 := fun _ => nI 0) (ck0 := b_cellKind2) (fr0 := b_freed2) (m0 := 0) (us' := us3) (fun k k1 k3 => rfl) s9.2.1 (by omega) (fun e he => by omega) (fun j j1 j3 => ⟨(u1 j j1 j3).1, fun q => ?_⟩) w1
      · exact rj_fin (by omega) (by omega) (by decide) (FD c2 f_freeCell2 f_peakUsed2 0 a_cellA2 a_cellB2 a_link2 a_live2 a_frameFunction2 a_vars2 a_saved2 a_env2 a_regionFirst2 a_tasks2 a_values2 a_used2 b_first2 b_second2 b_cellKind2 b_freed2 b_fn2 b_born2 b_actual2 b_value2 b_known2 md2 mu2 rg2 av2 FL2 fc3 lk3 lv3 rF3 us3 _ fr3 rs rr md96 hck C3 q1)
      · rw [(u1 j j1 j3).2 q, s6.2.2.2.2.1 _ (by omega)]
        have hu := hus j (by omega)
        unfold xz_sv
        rcases (by omega : j = 1 ∨ j = 2 ∨ j = 3) with rfl | rfl | rfl
        · rw [pk_un (by omega), pk_un (by omega), pk_us]; exact hu
        · rw [pk_un (by omega), pk_us]; exact hu
        · rw [pk_us]; exact hu
end
end
section
theorem i_run {k : Nat} {u : SX} {v : SY} (I : i_Rel k u v) (rl : Int32) (hrl : rl = 0 ∨ rl = 1) (v1 v2 : Int32) : ∃ r u' v', i_Rel 0 u' v' ∧ (∀ post : Int32 → SX → Prop, post r u' → wpX_run post u v1 v2 rl) ∧ (∀ post : Int32 → SY → Prop, post r v' → wpY_run post v v1 v2 rl) := by
  refine zz_el (P := fun u v => ∃ r u' v', i_Rel 0 u' v' ∧ (∀ post : Int32 → SX → Prop, post r u' → wpX_run post u v1 v2 rl) ∧ (∀ post : Int32 → SY → Prop, post r v' → wpY_run post v v1 v2 rl)) I ?_
  intro f_functionLimit f_tokenLimit f_cellLimit f_depthLimit f_functions f_accepted f_placed f_openBody f_holeCount f_nextRegion f_changed f_freeCell f_active f_calls f_taskTop f_valueTop f_releasing f_outcome f_peakUsed f_resultSize a_sigType a_params a_kept a_start a_finished a_tokOp a_tokArg a_tokType a_tokScope a_end a_holeType a_holeNest a_holeScope a_holeVars a_parent a_region a_sigRegions a_allRegions a_cellA a_cellB a_link a_live a_frameFunction a_vars a_saved a_env a_regionFirst a_tasks a_values a_used a_result g_maxFunctions g_maxTokens g_maxCells g_maxDepth g_functions g_tokens g_open g_accepted g_made g_used g_most g_last g_answer g_calls g_depth b_result b_param b_start b_finished b_tokOp b_tokArg b_tokType b_first b_second b_cellKind b_freed b_fn b_born b_actual b_value b_known R
  have R' := R
  obtain ⟨⟨nf, fl, t, tl, cl, dl, fo, ⟨hN, n1, n2, n3, n4, n5, n6, n7, n8, n9, n10, n11, n12⟩, hS, hB, hO, hA⟩, ⟨q1, q2, q3, q4, q5, q6, q7⟩, hD⟩ := R
  subst q1 q2 q3 q4 q5 q6 q7
  have acc := hN.2.2.2.2.2.2.2.2.2.2
  rcases acc with a | a
  · exact ⟨-4, (f_functionLimit, f_tokenLimit, f_cellLimit, f_depthLimit, f_functions, f_accepted, f_placed, f_openBody, f_holeCount, f_nextRegion, f_changed, f_freeCell, f_active, f_calls, f_taskTop, f_valueTop, f_releasing, f_outcome, f_peakUsed, f_resultSize, a_sigType, a_params, a_kept, a_start, a_finished, a_tokOp, a_tokArg, a_tokType, a_tokScope, a_end, a_holeType, a_holeNest, a_holeScope, a_holeVars, a_parent, a_region, a_sigRegions, a_allRegions, a_cellA, a_cellB, a_link, a_live, a_frameFunction, a_vars, a_saved, a_env, a_regionFirst, a_tasks, a_values, a_used, a_result), (g_maxFunctions, g_maxTokens, g_maxCells, g_maxDepth, g_functions, g_tokens, f_openBody, f_accepted, g_made, g_used, g_most, g_last, g_answer, g_calls, g_depth, b_result, b_param, a_start, a_finished, a_tokOp, a_tokArg, a_tokType, b_first, b_second, b_cellKind, b_freed, b_fn, b_born, b_actual, b_value, b_known), R', fun post hp => br_t a hp, fun post hp => br_t a hp⟩
  have na : ¬ f_accepted = 0 := by rw [a]; decide
  obtain ⟨hob, hpos, sN, en, sg, al, P, hst, he, G⟩ := hA a
  have hcl8 := hN.2.2.2.2.1
  have hcl := hN.2.2.2.2.2.1
  have hdl4 := hN.2.2.2.2.2.2.1
  have hdl := hN.2.2.2.2.2.2.2.1
  obtain ⟨us, lk, lv, u1, u2, u3⟩ := ux_reset (f_functionLimit := f_functionLimit) (f_tokenLimit := f_tokenLimit) (f_cellLimit := f_cellLimit) (f_depthLimit := f_depthLimit) (f_functions := f_functions) (f_accepted := f_accepted) (f_placed := f_placed) (f_openBody := f_openBody) (f_holeCount := f_holeCount) (f_nextRegion := f_nextRegion) (f_changed := f_changed) (f_freeCell := f_freeCell) (f_active := f_active) (f_calls := f_calls) (f_taskTop := f_taskTop) (f_valueTop := f_valueTop) (f_releasing := f_releasing) (f_outcome := f_outcome) (f_peakUsed := f_peakUsed) (f_resultSize := f_resultSize) (a_sigType := a_sigType) (a_params := a_params) (a_kept := a_kept) (a_start := a_start) (a_finished := a_finished) (a_tokOp := a_tokOp) (a_tokArg := a_tokArg) (a_tokType := a_tokType) (a_tokScope := a_tokScope) (a_end := a_end) (a_holeType := a_holeType) (a_holeNest := a_holeNest) (a_holeScope := a_holeScope) (a_holeVars := a_holeVars) (a_parent := a_parent) (a_region := a_region) (a_sigRegions := a_sigRegions) (a_allRegions := a_allRegions) (a_cellA := a_cellA) (a_cellB := a_cellB) (a_link := a_link) (a_live := a_live) (a_frameFunction := a_frameFunction) (a_vars := a_vars) (a_saved := a_saved) (a_env := a_env) (a_regionFirst := a_regionFirst) (a_tasks := a_tasks) (a_values := a_values) (a_used := a_used) (a_result := a_result) n5 hcl
  have ST : rs_S f_cellLimit f_depthLimit g_maxCells g_maxDepth g_tokens a_sigType a_params a_kept a_start a_tokOp a_tokArg a_tokType a_tokScope a_end a_region a_sigRegions a_allRegions b_result b_param nf t cl dl rl sN fo en sg al := ⟨P, G, fun f hf => (hS.2 f hf).1, fun f hf => (hS.2 f hf).2.1, he, hst, hS.1, n5, n6, hcl8, hcl, n7, n8, hdl4, hdl, n12, hrl⟩
  have R1 := R'.1
  have res0 : b_result 0 = a_sigType 2 := (hS.1.2 0 hpos).2.2
  have ty2 : sp_ty (a_sigType 2) := (P.2.2.1 0 hpos).1
  have main := (hS.2 0 hpos).2.2.2 rfl
  have FS : ev_S f_functionLimit f_tokenLimit f_cellLimit f_depthLimit f_functions f_accepted f_placed f_openBody f_holeCount f_nextRegion f_changed g_maxFunctions g_maxTokens g_maxCells g_maxDepth g_functions g_tokens f_openBody f_accepted g_answer a_sigType a_params a_kept a_start a_finished a_tokOp a_tokArg a_tokType a_tokScope a_end a_holeType a_holeNest a_holeScope a_holeVars a_parent a_region a_sigRegions a_allRegions a_result b_result b_param a_finished nf t cl dl rl sN fo en sg al (fun _ u' v' => i_Rel 0 u' v') := by
    intro oc D c tt vt f_freeCell f_peakUsed g_used a_cellA a_cellB a_link a_live a_frameFunction a_vars a_saved a_env a_regionFirst a_tasks a_values a_used b_first b_second b_cellKind b_freed b_fn b_born b_actual b_value b_known md mu rg av FL o0 o1 hm hck hct
    exact ⟨R1, ⟨rfl, rfl, rfl, rfl, rfl, rfl, rfl⟩, rfl, rfl, md, rfl, hm, hck, hct.2.2, fun _ => rfl, fun q => absurd q o1⟩
  have FD : ev_D f_functionLimit f_tokenLimit f_cellLimit f_depthLimit f_functions f_accepted f_placed f_openBody f_holeCount f_nextRegion f_changed g_maxFunctions g_maxTokens g_maxCells g_maxDepth g_functions g_tokens f_openBody f_accepted g_answer a_sigType a_params a_kept a_start a_finished a_tokOp a_tokArg a_tokType a_tokScope a_end a_holeType a_holeNest a_holeScope a_holeVars a_parent a_region a_sigRegions a_allRegions a_result b_result b_param a_finished nf t cl dl rl sN fo en sg al (fun _ u' v' => i_Rel 0 u' v') := by
    intro c2 f_freeCell2 f_peakUsed2 g_used2 a_cellA2 a_cellB2 a_link2 a_live2 a_frameFunction2 a_vars2 a_saved2 a_env2 a_regionFirst2 a_tasks2 a_values2 a_used2 b_first2 b_second2 b_cellKind2 b_freed2 b_fn2 b_born2 b_actual2 b_value2 b_known2 md2 mu2 rg2 av2 FL2 fc3 lk3 lv3 rF3 us3 uy3 fr3 rs rr hm hck hct hres
    exact ⟨R1, ⟨rfl, rfl, rfl, rfl, rfl, rfl, rfl⟩, rfl, rfl, md2, rfl, hm, hck, hct.2.2, fun q => absurd rfl q, fun _ => ⟨a, by rw [res0]; exact ty2, by rw [res0]; exact hres⟩⟩
  have J := run_J (a_frameFunction := a_frameFunction) (a_vars := a_vars) (a_saved := a_saved) (a_env := a_env) (a_regionFirst := a_regionFirst) (a_tasks := a_tasks) (a_values := a_values) (a_cellA := a_cellA) (a_cellB := a_cellB) (b_first := b_first) (b_second := b_second) (b_cellKind := b_cellKind) (b_freed := b_freed) (b_fn := b_fn) (b_born := b_born) (b_actual := b_actual) (b_value := b_value) (b_known := b_known) (v1 := v1) (v2 := v2) ST FS FD hpos main.1 main.2 u1 u2
  obtain ⟨r, u', v', F, hX, hY⟩ := J
  refine ⟨r, u', v', F, fun post hp => br_f na (u3 _ ?_), fun post hp => br_f na ?_⟩
  · have nar : narrow .boolean (.int rl) = .int rl ∧ fits .boolean (.int rl) = true := by
      rcases hrl with w | w
      · rw [w]; exact ⟨rfl, rfl⟩
      · rw [w]; exact ⟨rfl, rfl⟩
    refine ⟨nar.1, nar.2, nm_e (nm_e ?_)⟩
    exact ux_enter0 (d := 0) (c := 0) (tt := 0) (g := 0) P G hst hpos (by omega) (by omega) rfl ⟨40001, hX post 40001 (by omega) hp⟩
  · exact uy_enter (d := 0) (c := 0) (g := 0) (by omega) ⟨20001, hY post 20001 (by omega) hp⟩
theorem i_vc_keep {k : Nat} {u : SX} {v : SY} (I : i_Rel k u v) (hk : k + 4 ≤ 2052) (v1 : Int32) (v2 : Int32) : wpX_keep (fun r u' => wpY_keep (fun r' v' => r' = r ∧ i_Rel (k + 4) u' v') v v1 v2) u v1 v2 := by
  obtain ⟨r, u', v', F, hX, hY⟩ := i_run I 0 (Or.inl rfl) v1 v2
  obtain ⟨f_functionLimit, f_tokenLimit, f_cellLimit, f_depthLimit, f_functions, f_accepted, f_placed, f_openBody, f_holeCount, f_nextRegion, f_changed, f_freeCell, f_active, f_calls, f_taskTop, f_valueTop, f_releasing, f_outcome, f_peakUsed, f_resultSize, a_sigType, a_params, a_kept, a_start, a_finished, a_tokOp, a_tokArg, a_tokType, a_tokScope, a_end, a_holeType, a_holeNest, a_holeScope, a_holeVars, a_parent, a_region, a_sigRegions, a_allRegions, a_cellA, a_cellB, a_link, a_live, a_frameFunction, a_vars, a_saved, a_env, a_regionFirst, a_tasks, a_values, a_used, a_result⟩ := u
  unfold wpX_keep
  refine hX _ ?_
  obtain ⟨f_functionLimit', f_tokenLimit', f_cellLimit', f_depthLimit', f_functions', f_accepted', f_placed', f_openBody', f_holeCount', f_nextRegion', f_changed', f_freeCell', f_active', f_calls', f_taskTop', f_valueTop', f_releasing', f_outcome', f_peakUsed', f_resultSize', a_sigType', a_params', a_kept', a_start', a_finished', a_tokOp', a_tokArg', a_tokType', a_tokScope', a_end', a_holeType', a_holeNest', a_holeScope', a_holeVars', a_parent', a_region', a_sigRegions', a_allRegions', a_cellA', a_cellB', a_link', a_live', a_frameFunction', a_vars', a_saved', a_env', a_regionFirst', a_tasks', a_values', a_used', a_result'⟩ := u'
  obtain ⟨g_maxFunctions, g_maxTokens, g_maxCells, g_maxDepth, g_functions, g_tokens, g_open, g_accepted, g_made, g_used, g_most, g_last, g_answer, g_calls, g_depth, b_result, b_param, b_start, b_finished, b_tokOp, b_tokArg, b_tokType, b_first, b_second, b_cellKind, b_freed, b_fn, b_born, b_actual, b_value, b_known⟩ := v
  dsimp only
  unfold wpY_keep
  refine hY _ ?_
  obtain ⟨g_maxFunctions', g_maxTokens', g_maxCells', g_maxDepth', g_functions', g_tokens', g_open', g_accepted', g_made', g_used', g_most', g_last', g_answer', g_calls', g_depth', b_result', b_param', b_start', b_finished', b_tokOp', b_tokArg', b_tokType', b_first', b_second', b_cellKind', b_freed', b_fn', b_born', b_actual', b_value', b_known'⟩ := v'
  exact ⟨rfl, F⟩
theorem i_vc_regions {k : Nat} {u : SX} {v : SY} (I : i_Rel k u v) (hk : k + 4 ≤ 2052) (v1 : Int32) (v2 : Int32) : wpX_regions (fun r u' => wpY_regions (fun r' v' => r' = r ∧ i_Rel (k + 4) u' v') v v1 v2) u v1 v2 := by
  obtain ⟨r, u', v', F, hX, hY⟩ := i_run I 1 (Or.inr rfl) v1 v2
  obtain ⟨f_functionLimit, f_tokenLimit, f_cellLimit, f_depthLimit, f_functions, f_accepted, f_placed, f_openBody, f_holeCount, f_nextRegion, f_changed, f_freeCell, f_active, f_calls, f_taskTop, f_valueTop, f_releasing, f_outcome, f_peakUsed, f_resultSize, a_sigType, a_params, a_kept, a_start, a_finished, a_tokOp, a_tokArg, a_tokType, a_tokScope, a_end, a_holeType, a_holeNest, a_holeScope, a_holeVars, a_parent, a_region, a_sigRegions, a_allRegions, a_cellA, a_cellB, a_link, a_live, a_frameFunction, a_vars, a_saved, a_env, a_regionFirst, a_tasks, a_values, a_used, a_result⟩ := u
  unfold wpX_regions
  refine hX _ ?_
  obtain ⟨f_functionLimit', f_tokenLimit', f_cellLimit', f_depthLimit', f_functions', f_accepted', f_placed', f_openBody', f_holeCount', f_nextRegion', f_changed', f_freeCell', f_active', f_calls', f_taskTop', f_valueTop', f_releasing', f_outcome', f_peakUsed', f_resultSize', a_sigType', a_params', a_kept', a_start', a_finished', a_tokOp', a_tokArg', a_tokType', a_tokScope', a_end', a_holeType', a_holeNest', a_holeScope', a_holeVars', a_parent', a_region', a_sigRegions', a_allRegions', a_cellA', a_cellB', a_link', a_live', a_frameFunction', a_vars', a_saved', a_env', a_regionFirst', a_tasks', a_values', a_used', a_result'⟩ := u'
  obtain ⟨g_maxFunctions, g_maxTokens, g_maxCells, g_maxDepth, g_functions, g_tokens, g_open, g_accepted, g_made, g_used, g_most, g_last, g_answer, g_calls, g_depth, b_result, b_param, b_start, b_finished, b_tokOp, b_tokArg, b_tokType, b_first, b_second, b_cellKind, b_freed, b_fn, b_born, b_actual, b_value, b_known⟩ := v
  dsimp only
  unfold wpY_regions
  refine hY _ ?_
  obtain ⟨g_maxFunctions', g_maxTokens', g_maxCells', g_maxDepth', g_functions', g_tokens', g_open', g_accepted', g_made', g_used', g_most', g_last', g_answer', g_calls', g_depth', b_result', b_param', b_start', b_finished', b_tokOp', b_tokArg', b_tokType', b_first', b_second', b_cellKind', b_freed', b_fn', b_born', b_actual', b_value', b_known'⟩ := v'
  exact ⟨rfl, F⟩
end
