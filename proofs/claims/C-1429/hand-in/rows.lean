section
/-! pure rows to paste: stores, nI and lN arithmetic, masks, shifts, narrowing, branches by naturals (pk_le, pk_lt, pk_eq), loops (lp1 .. lp16: the measure of the state; rp1 ..: recursion), negatives. Take what you need -/
theorem pk_us {f : Nat → Int32} {k : Nat} {x : Int32} : upd f k x k = x := if_pos rfl
theorem pk_un {f : Nat → Int32} {k j : Nat} {x : Int32} (h : j ≠ k) : upd f k x j = f j := if_neg h
theorem pk_uLs {f : Nat → Int64} {k : Nat} {x : Int64} : vp_updL f k x k = x := if_pos rfl
theorem pk_uLn {f : Nat → Int64} {k j : Nat} {x : Int64} (h : j ≠ k) : vp_updL f k x j = f j := if_neg h
theorem pk_sub {a b : Nat} (h : b ≤ a) : nI a - nI b = nI (a - b) := by
  obtain ⟨c, rfl⟩ : ∃ c, a = c + b := ⟨a - b, by omega⟩
  rw [← nI_add, Int32.add_sub_cancel, Nat.add_sub_cancel]
theorem pk_m1 (n : Nat) : nI (n + 1) + (-1) = nI n := by
  rw [← nI_1, Int32.add_assoc, show (1 : Int32) + (-1) = 0 from rfl, Int32.add_zero]
theorem pk_mul (a b : Nat) : nI a * nI b = nI (a * b) := (Int32.ofNat_mul a b).symm
theorem pk_div {a d : Nat} (ha : a < 2 ^ 31) (h0 : 0 < d) (hd : d < 2 ^ 31) : nI a / nI d = nI (a / d) := by
  apply Int32.toInt_inj.mp
  rw [lg_idiv_nonneg (by rw [nI_toInt ha]; omega) (by rw [nI_toInt hd]; omega), nI_toInt ha, nI_toInt hd, nI_toInt (Nat.lt_of_le_of_lt (Nat.div_le_self a d) ha)]
  first | rfl | exact (Int.natCast_ediv _ _).symm
theorem pk_rem {a d : Nat} (ha : a < 2 ^ 31) (h0 : 0 < d) (hd : d < 2 ^ 31) : nI a - nI a / nI d * nI d = nI (a % d) := by
  rw [pk_div ha h0 hd, pk_mul, pk_sub (Nat.div_mul_le_self a d)]
  exact congrArg nI (by have := Nat.div_add_mod' a d; omega)
theorem pk_sub_toInt {a b : Nat} (ha : a < 2 ^ 30) (hb : b < 2 ^ 30) : (nI a - nI b).toInt = (a : Int) - b := by
  rw [Int32.toInt_sub, nI_toInt (by omega), nI_toInt (by omega)]
  exact Int.bmod_eq_of_le (by omega) (by omega)
theorem pk_sneg {a b : Nat} (hb : b < 2 ^ 30) (h : a < b) : nI a - nI b < 0 := by
  rw [Int32.lt_iff_toInt_lt, pk_sub_toInt (by omega) hb, show (0 : Int32).toInt = 0 from by decide]
  omega
theorem pk_ix (x : Int32) {n : Nat} (hn : n < 2 ^ 31) : x < 0 ∨ nI n ≤ x ∨ ∃ j : Nat, j < n ∧ x = nI j := by
  by_cases h : x < 0
  · exact Or.inl h
  · obtain ⟨j, hj, rfl⟩ := nI_of h
    by_cases h2 : j < n
    · exact Or.inr (Or.inr ⟨j, h2, rfl⟩)
    · exact Or.inr (Or.inl (nI_le (by omega) hj))
theorem pk_le {x y : Int32} {A B : Prop} (a b : Nat) (f : a ≤ b → A) (g : b < a → B) (hx : x = nI a := by rfl) (hy : y = nI b := by rfl) (ha : a < 2 ^ 31 := by omega) (hb : b < 2 ^ 31 := by omega) : (x ≤ y → A) ∧ (¬ x ≤ y → B) := by
  subst hx hy
  rw [nI_leI ha hb]
  exact ⟨f, fun z => g (by omega)⟩
theorem pk_lt {x y : Int32} {A B : Prop} (a b : Nat) (f : a < b → A) (g : b ≤ a → B) (hx : x = nI a := by rfl) (hy : y = nI b := by rfl) (ha : a < 2 ^ 31 := by omega) (hb : b < 2 ^ 31 := by omega) : (x < y → A) ∧ (¬ x < y → B) := by
  subst hx hy
  rw [nI_ltI ha hb]
  exact ⟨f, fun z => g (by omega)⟩
theorem pk_eq {x y : Int32} {A B : Prop} (a b : Nat) (f : a = b → A) (g : a ≠ b → B) (hx : x = nI a := by rfl) (hy : y = nI b := by rfl) (ha : a < 2 ^ 31 := by omega) (hb : b < 2 ^ 31 := by omega) : (x = y → A) ∧ (¬ x = y → B) := by
  subst hx hy
  rw [nI_eq ha hb]
  exact ⟨f, g⟩
theorem pk_in {x : Int32} (n N : Nat) (h : n < N) (hx : x = nI n := by rfl) (hN : N < 2 ^ 31 := by omega) : vp_in x N := by
  subst hx
  exact vp_in_nI h hN
theorem pk_cl {x : Int32} (n : Nat) (hx : x = nI n := by rfl) (h : n < 2 ^ 31 := by omega) : x.toNatClampNeg = n := by
  subst hx
  exact nI_clamp h
theorem pk_tn {n : Nat} (h : n < 2 ^ 32) : (nI n).toBitVec.toNat = n := Nat.mod_eq_of_lt h
theorem pk_and (x : Int32) {m : Int32} (k : Nat) (hm : m.toBitVec.toNat = 2 ^ k - 1) : x &&& m = nI (x.toBitVec.toNat % 2 ^ k) := by
  apply Int32.toBitVec_inj.mp
  apply BitVec.eq_of_toNat_eq
  rw [Int32.toBitVec_and, BitVec.toNat_and, hm, Nat.and_two_pow_sub_one_eq_mod]
  show _ = (BitVec.ofNat 32 _).toNat
  rw [BitVec.toNat_ofNat]
  exact (Nat.mod_eq_of_lt (Nat.lt_of_le_of_lt (Nat.mod_le _ _) x.toBitVec.isLt)).symm
theorem pk_andN {n : Nat} (h : n < 2 ^ 32) {m : Int32} (k : Nat) (hm : m.toBitVec.toNat = 2 ^ k - 1) : nI n &&& m = nI (n % 2 ^ k) := by
  rw [pk_and _ k hm, pk_tn h]
theorem pk_andE (x : Int32) {m : Int32} (k : Nat) (hm : m.toBitVec.toNat = 2 ^ k - 1) : ∃ j : Nat, j < 2 ^ k ∧ x &&& m = nI j := ⟨_, Nat.mod_lt _ (Nat.two_pow_pos k), pk_and x k hm⟩
theorem pk_andIn (x : Int32) {m : Int32} (k : Nat) (hm : m.toBitVec.toNat = 2 ^ k - 1) (hk : k ≤ 30) : vp_in (x &&& m) (2 ^ k) := by
  obtain ⟨j, hj, e⟩ := pk_andE x k hm
  rw [e]
  exact vp_in_nI hj (Nat.lt_of_le_of_lt (Nat.pow_le_pow_right (by decide) hk) (by decide))
theorem pk_shl (a s : Int32) (k : Nat) (hs : (s.toBitVec.smod 32).toNat = k) : (a <<< s).toBitVec.toNat = a.toBitVec.toNat * 2 ^ k % 2 ^ 32 := by
  show (a.toBitVec <<< (s.toBitVec.smod 32).toNat).toNat = _
  rw [hs, BitVec.toNat_shiftLeft, Nat.shiftLeft_eq]
theorem pk_shlN {n : Nat} (s : Int32) (k : Nat) (hs : (s.toBitVec.smod 32).toNat = k) (h : n * 2 ^ k < 2 ^ 32) : nI n <<< s = nI (n * 2 ^ k) := by
  apply Int32.toBitVec_inj.mp
  apply BitVec.eq_of_toNat_eq
  have hn : n < 2 ^ 32 := Nat.lt_of_le_of_lt (Nat.le_mul_of_pos_right n (Nat.two_pow_pos k)) h
  rw [pk_shl _ _ k hs, pk_tn hn, pk_tn h, Nat.mod_eq_of_lt h]
theorem pk_shr (a s : Int32) (k : Nat) (hs : (s.toBitVec.smod 32).toNat = k) : (a >>> s).toInt = a.toInt >>> k := by
  show (a.toBitVec.sshiftRight (s.toBitVec.smod 32).toNat).toInt = _
  rw [hs, BitVec.toInt_sshiftRight]
  rfl
theorem pk_shrN {n : Nat} (h : n < 2 ^ 31) (s : Int32) (k : Nat) (hs : (s.toBitVec.smod 32).toNat = k) : nI n >>> s = nI (n / 2 ^ k) := by
  apply Int32.toInt_inj.mp
  have h2 : n / 2 ^ k ≤ n := Nat.div_le_self _ _
  rw [pk_shr _ _ k hs, nI_toInt h, nI_toInt (by omega), Int.shiftRight_eq_div_pow]
  rfl
theorem pk_ushr (x s : Int32) (k : Nat) (hs : ((s.toUInt32 &&& Int32.toUInt32 31).toBitVec % 32).toNat = k) : (x.toUInt32 >>> (s.toUInt32 &&& Int32.toUInt32 31)).toInt32.toBitVec.toNat = x.toBitVec.toNat / 2 ^ k := by
  have e : (x.toUInt32 >>> (s.toUInt32 &&& Int32.toUInt32 31)).toInt32.toBitVec = x.toBitVec >>> k := by
    rw [← hs]
    exact UInt32.toBitVec_shiftRight _ _
  rw [e, BitVec.toNat_ushiftRight, Nat.shiftRight_eq_div_pow]
theorem pk_ushrN {n : Nat} (hn : n < 2 ^ 32) (s : Int32) (k : Nat) (hs : ((s.toUInt32 &&& Int32.toUInt32 31).toBitVec % 32).toNat = k) : ((nI n).toUInt32 >>> (s.toUInt32 &&& Int32.toUInt32 31)).toInt32 = nI (n / 2 ^ k) := by
  apply Int32.toBitVec_inj.mp
  apply BitVec.eq_of_toNat_eq
  rw [pk_ushr _ s k hs, pk_tn hn, pk_tn (Nat.lt_of_le_of_lt (Nat.div_le_self _ _) hn)]
theorem pk_nb (z : Int32) : narrow .byte (.int z.toInt8.toInt32) = .int z.toInt8.toInt32 := congrArg Value.int (by simp)
theorem pk_ns (z : Int32) : narrow .short (.int z.toInt16.toInt32) = .int z.toInt16.toInt32 := congrArg Value.int (by simp)
theorem pk_fb (r : Int32) : fits .byte (.int r.toInt8.toInt32) = true := by
  have ⟨a, b⟩ := lg_i2b_range r
  have h1 : (-128 : Int32).toInt = -128 := by decide
  have h2 : (127 : Int32).toInt = 127 := by decide
  simp only [fits, Bool.and_eq_true, decide_eq_true_eq, Int32.le_iff_toInt_le, h1, h2]
  omega
theorem pk_fs (r : Int32) : fits .short (.int r.toInt16.toInt32) = true := by
  have ⟨a, b⟩ := lg_i2s_range r
  have h1 : (-32768 : Int32).toInt = -32768 := by decide
  have h2 : (32767 : Int32).toInt = 32767 := by decide
  simp only [fits, Bool.and_eq_true, decide_eq_true_eq, Int32.le_iff_toInt_le, h1, h2]
  omega
theorem pk_charN {q : Nat} (hq : q < 65536) : narrow .char (.int (nI q)) = .int (nI q) ∧ fits .char (.int (nI q)) = true := by
  constructor
  · have e : (nI q).toUInt32.toUInt16.toUInt32.toInt32 = nI q := by
      apply Int32.toBitVec_inj.mp
      apply BitVec.eq_of_toNat_eq
      show (nI q).toUInt32.toUInt16.toUInt32.toNat = q % 2 ^ 32
      rw [UInt16.toNat_toUInt32, UInt32.toNat_toUInt16, show (nI q).toUInt32.toNat = q % 2 ^ 32 from rfl]
      omega
    exact congrArg Value.int e
  · have a : (0 : Int32) ≤ nI q := nI_pos' (by omega)
    have b : nI q ≤ 65535 := nI_le (b := 65535) (by omega) (by decide)
    show (decide ((0 : Int32) ≤ nI q) && decide (nI q ≤ 65535)) = true
    rw [decide_eq_true a, decide_eq_true b]
    rfl
theorem pk_char (x : Int32) : (x.toUInt32 % 65536).toInt32 = nI (x.toBitVec.toNat % 65536) := by
  apply Int32.toBitVec_inj.mp
  apply BitVec.eq_of_toNat_eq
  rw [pk_tn (by omega)]
  show (x.toUInt32 % 65536).toNat = _
  rw [UInt32.toNat_mod]
  rfl
theorem pk_nc (x : Int32) : narrow .char (.int (x.toUInt32 % 65536).toInt32) = .int (x.toUInt32 % 65536).toInt32 := by
  rw [pk_char]
  exact (pk_charN (Nat.mod_lt _ (by decide))).1
theorem pk_fc (x : Int32) : fits .char (.int (x.toUInt32 % 65536).toInt32) = true := by
  rw [pk_char]
  exact (pk_charN (Nat.mod_lt _ (by decide))).2
theorem pk_vb (z : Int32) : vp_nar .byte z.toInt8.toInt32 = z.toInt8.toInt32 := by rw [vp_nar_byte]; simp
theorem pk_vs (z : Int32) : vp_nar .short z.toInt16.toInt32 = z.toInt16.toInt32 := by rw [vp_nar_short]; simp
theorem pk_vc (z : Int32) : vp_nar .char (z.toUInt32 % 65536).toInt32 = (z.toUInt32 % 65536).toInt32 := Value.int.inj (pk_nc z)
theorem pk_lT {n : Nat} (h : n < 2 ^ 63) : (lN n).toInt = (n : Int) := lg_ofNat_toInt h
theorem pk_lLT {a b : Nat} (ha : a < 2 ^ 63) (hb : b < 2 ^ 63) : lN a < lN b ↔ a < b := by
  rw [Int64.lt_iff_toInt_lt, pk_lT ha, pk_lT hb]; omega
theorem pk_lLE {a b : Nat} (ha : a < 2 ^ 63) (hb : b < 2 ^ 63) : lN a ≤ lN b ↔ a ≤ b := by
  rw [Int64.le_iff_toInt_le, pk_lT ha, pk_lT hb]; omega
theorem pk_lEQ {a b : Nat} (ha : a < 2 ^ 63) (hb : b < 2 ^ 63) : lN a = lN b ↔ a = b := by
  rw [← Int64.toInt_inj, pk_lT ha, pk_lT hb]; omega
theorem pk_lOf {x : Int64} (h : ¬ x < 0) : ∃ k : Nat, k < 2 ^ 63 ∧ x = lN k := by
  rw [Int64.lt_iff_toInt_lt] at h
  have h0 : (0 : Int64).toInt = 0 := by decide
  have hx := Int64.toInt_lt x
  refine ⟨x.toInt.toNat, by omega, Int64.toInt_inj.mp ?_⟩
  rw [pk_lT (by omega)]
  omega
theorem pk_lDiv {a b : Nat} (ha : a < 2 ^ 63) (h0 : 0 < b) (hb : b < 2 ^ 63) : lN a / lN b = lN (a / b) := by
  apply Int64.toInt_inj.mp
  rw [lg_ldiv_nonneg (by rw [pk_lT ha]; omega) (by rw [pk_lT hb]; omega), pk_lT ha, pk_lT hb, pk_lT (Nat.lt_of_le_of_lt (Nat.div_le_self a b) ha)]
  rfl
theorem pk_lRem {a b : Nat} (ha : a < 2 ^ 63) (h0 : 0 < b) (hb : b < 2 ^ 63) : lN a - lN a / lN b * lN b = lN (a % b) := by
  rw [pk_lDiv ha h0 hb, lN_mul, lN_sub (Nat.div_mul_le_self a b)]
  exact congrArg lN (by have := Nat.div_add_mod' a b; omega)
theorem pk_loop {σ : Type} (W : Nat → Nat → σ → Prop) (I : Nat → σ → Prop) (e i0 : Nat) (s : σ) (hi : i0 ≤ e) (h0 : I i0 s) (hx : ∀ n s, I e s → W (n + 1) e s)
    (hs : ∀ n i s, i < e → I i s → (∀ s', I (i + 1) s' → W n (i + 1) s') → W (n + 1) i s) : ∃ n, W n i0 s :=
  ⟨e + 1, loop_i W I e hx hs (e + 1) i0 s hi (by omega) h0⟩
theorem pk_loopD {σ : Type} (W : Nat → Nat → σ → Prop) (I : Nat → σ → Prop) (hx : ∀ n s, I 0 s → W (n + 1) 0 s)
    (hs : ∀ n i s, I (i + 1) s → (∀ s', I i s' → W n i s') → W (n + 1) (i + 1) s) : ∀ (e : Nat) (s : σ), I e s → W (e + 1) e s := by
  intro e
  induction e with
  | zero => exact fun s h => hx 0 s h
  | succ e ih => exact fun s h => hs (e + 1) e s h (fun s' h' => ih s' h')
theorem lp1 {A1 : Type} (W : Nat → A1 → Prop) (I : A1 → Prop) (μ : A1 → Nat) (hs : ∀ (n : Nat) (a1 : A1), I a1 → (∀ (b1 : A1), I b1 → μ b1 < μ a1 → W n b1) → W (n + 1) a1) (a1 : A1) (h : I a1) : ∃ n, W n a1 :=
  loop_m (σ := A1) (fun n s => W n s) (fun s => I s) (fun s => μ s) (fun n s hI hk => hs n s hI (fun b1 h9 hm => hk b1 h9 hm)) a1 h
theorem lp2 {A1 A2 : Type} (W : Nat → A1 → A2 → Prop) (I : A1 → A2 → Prop) (μ : A1 → A2 → Nat) (hs : ∀ (n : Nat) (a1 : A1) (a2 : A2), I a1 a2 → (∀ (b1 : A1) (b2 : A2), I b1 b2 → μ b1 b2 < μ a1 a2 → W n b1 b2) → W (n + 1) a1 a2) (a1 : A1) (a2 : A2) (h : I a1 a2) : ∃ n, W n a1 a2 :=
  loop_m (σ := A1 × A2) (fun n s => W n s.1 s.2) (fun s => I s.1 s.2) (fun s => μ s.1 s.2) (fun n s hI hk => hs n s.1 s.2 hI (fun b1 b2 h9 hm => hk (b1, b2) h9 hm)) (a1, a2) h
theorem lp3 {A1 A2 A3 : Type} (W : Nat → A1 → A2 → A3 → Prop) (I : A1 → A2 → A3 → Prop) (μ : A1 → A2 → A3 → Nat) (hs : ∀ (n : Nat) (a1 : A1) (a2 : A2) (a3 : A3), I a1 a2 a3 → (∀ (b1 : A1) (b2 : A2) (b3 : A3), I b1 b2 b3 → μ b1 b2 b3 < μ a1 a2 a3 → W n b1 b2 b3) → W (n + 1) a1 a2 a3) (a1 : A1) (a2 : A2) (a3 : A3) (h : I a1 a2 a3) : ∃ n, W n a1 a2 a3 :=
  loop_m (σ := A1 × A2 × A3) (fun n s => W n s.1 s.2.1 s.2.2) (fun s => I s.1 s.2.1 s.2.2) (fun s => μ s.1 s.2.1 s.2.2) (fun n s hI hk => hs n s.1 s.2.1 s.2.2 hI (fun b1 b2 b3 h9 hm => hk (b1, b2, b3) h9 hm)) (a1, a2, a3) h
theorem lp4 {A1 A2 A3 A4 : Type} (W : Nat → A1 → A2 → A3 → A4 → Prop) (I : A1 → A2 → A3 → A4 → Prop) (μ : A1 → A2 → A3 → A4 → Nat) (hs : ∀ (n : Nat) (a1 : A1) (a2 : A2) (a3 : A3) (a4 : A4), I a1 a2 a3 a4 → (∀ (b1 : A1) (b2 : A2) (b3 : A3) (b4 : A4), I b1 b2 b3 b4 → μ b1 b2 b3 b4 < μ a1 a2 a3 a4 → W n b1 b2 b3 b4) → W (n + 1) a1 a2 a3 a4) (a1 : A1) (a2 : A2) (a3 : A3) (a4 : A4) (h : I a1 a2 a3 a4) : ∃ n, W n a1 a2 a3 a4 :=
  loop_m (σ := A1 × A2 × A3 × A4) (fun n s => W n s.1 s.2.1 s.2.2.1 s.2.2.2) (fun s => I s.1 s.2.1 s.2.2.1 s.2.2.2) (fun s => μ s.1 s.2.1 s.2.2.1 s.2.2.2) (fun n s hI hk => hs n s.1 s.2.1 s.2.2.1 s.2.2.2 hI (fun b1 b2 b3 b4 h9 hm => hk (b1, b2, b3, b4) h9 hm)) (a1, a2, a3, a4) h
theorem lp5 {A1 A2 A3 A4 A5 : Type} (W : Nat → A1 → A2 → A3 → A4 → A5 → Prop) (I : A1 → A2 → A3 → A4 → A5 → Prop) (μ : A1 → A2 → A3 → A4 → A5 → Nat) (hs : ∀ (n : Nat) (a1 : A1) (a2 : A2) (a3 : A3) (a4 : A4) (a5 : A5), I a1 a2 a3 a4 a5 → (∀ (b1 : A1) (b2 : A2) (b3 : A3) (b4 : A4) (b5 : A5), I b1 b2 b3 b4 b5 → μ b1 b2 b3 b4 b5 < μ a1 a2 a3 a4 a5 → W n b1 b2 b3 b4 b5) → W (n + 1) a1 a2 a3 a4 a5) (a1 : A1) (a2 : A2) (a3 : A3) (a4 : A4) (a5 : A5) (h : I a1 a2 a3 a4 a5) : ∃ n, W n a1 a2 a3 a4 a5 :=
  loop_m (σ := A1 × A2 × A3 × A4 × A5) (fun n s => W n s.1 s.2.1 s.2.2.1 s.2.2.2.1 s.2.2.2.2) (fun s => I s.1 s.2.1 s.2.2.1 s.2.2.2.1 s.2.2.2.2) (fun s => μ s.1 s.2.1 s.2.2.1 s.2.2.2.1 s.2.2.2.2) (fun n s hI hk => hs n s.1 s.2.1 s.2.2.1 s.2.2.2.1 s.2.2.2.2 hI (fun b1 b2 b3 b4 b5 h9 hm => hk (b1, b2, b3, b4, b5) h9 hm)) (a1, a2, a3, a4, a5) h
theorem lp6 {A1 A2 A3 A4 A5 A6 : Type} (W : Nat → A1 → A2 → A3 → A4 → A5 → A6 → Prop) (I : A1 → A2 → A3 → A4 → A5 → A6 → Prop) (μ : A1 → A2 → A3 → A4 → A5 → A6 → Nat) (hs : ∀ (n : Nat) (a1 : A1) (a2 : A2) (a3 : A3) (a4 : A4) (a5 : A5) (a6 : A6), I a1 a2 a3 a4 a5 a6 → (∀ (b1 : A1) (b2 : A2) (b3 : A3) (b4 : A4) (b5 : A5) (b6 : A6), I b1 b2 b3 b4 b5 b6 → μ b1 b2 b3 b4 b5 b6 < μ a1 a2 a3 a4 a5 a6 → W n b1 b2 b3 b4 b5 b6) → W (n + 1) a1 a2 a3 a4 a5 a6) (a1 : A1) (a2 : A2) (a3 : A3) (a4 : A4) (a5 : A5) (a6 : A6) (h : I a1 a2 a3 a4 a5 a6) : ∃ n, W n a1 a2 a3 a4 a5 a6 :=
  loop_m (σ := A1 × A2 × A3 × A4 × A5 × A6) (fun n s => W n s.1 s.2.1 s.2.2.1 s.2.2.2.1 s.2.2.2.2.1 s.2.2.2.2.2) (fun s => I s.1 s.2.1 s.2.2.1 s.2.2.2.1 s.2.2.2.2.1 s.2.2.2.2.2) (fun s => μ s.1 s.2.1 s.2.2.1 s.2.2.2.1 s.2.2.2.2.1 s.2.2.2.2.2) (fun n s hI hk => hs n s.1 s.2.1 s.2.2.1 s.2.2.2.1 s.2.2.2.2.1 s.2.2.2.2.2 hI (fun b1 b2 b3 b4 b5 b6 h9 hm => hk (b1, b2, b3, b4, b5, b6) h9 hm)) (a1, a2, a3, a4, a5, a6) h
theorem lp7 {A1 A2 A3 A4 A5 A6 A7 : Type} (W : Nat → A1 → A2 → A3 → A4 → A5 → A6 → A7 → Prop) (I : A1 → A2 → A3 → A4 → A5 → A6 → A7 → Prop) (μ : A1 → A2 → A3 → A4 → A5 → A6 → A7 → Nat) (hs : ∀ (n : Nat) (a1 : A1) (a2 : A2) (a3 : A3) (a4 : A4) (a5 : A5) (a6 : A6) (a7 : A7), I a1 a2 a3 a4 a5 a6 a7 → (∀ (b1 : A1) (b2 : A2) (b3 : A3) (b4 : A4) (b5 : A5) (b6 : A6) (b7 : A7), I b1 b2 b3 b4 b5 b6 b7 → μ b1 b2 b3 b4 b5 b6 b7 < μ a1 a2 a3 a4 a5 a6 a7 → W n b1 b2 b3 b4 b5 b6 b7) → W (n + 1) a1 a2 a3 a4 a5 a6 a7) (a1 : A1) (a2 : A2) (a3 : A3) (a4 : A4) (a5 : A5) (a6 : A6) (a7 : A7) (h : I a1 a2 a3 a4 a5 a6 a7) : ∃ n, W n a1 a2 a3 a4 a5 a6 a7 :=
  loop_m (σ := A1 × A2 × A3 × A4 × A5 × A6 × A7) (fun n s => W n s.1 s.2.1 s.2.2.1 s.2.2.2.1 s.2.2.2.2.1 s.2.2.2.2.2.1 s.2.2.2.2.2.2) (fun s => I s.1 s.2.1 s.2.2.1 s.2.2.2.1 s.2.2.2.2.1 s.2.2.2.2.2.1 s.2.2.2.2.2.2) (fun s => μ s.1 s.2.1 s.2.2.1 s.2.2.2.1 s.2.2.2.2.1 s.2.2.2.2.2.1 s.2.2.2.2.2.2) (fun n s hI hk => hs n s.1 s.2.1 s.2.2.1 s.2.2.2.1 s.2.2.2.2.1 s.2.2.2.2.2.1 s.2.2.2.2.2.2 hI (fun b1 b2 b3 b4 b5 b6 b7 h9 hm => hk (b1, b2, b3, b4, b5, b6, b7) h9 hm)) (a1, a2, a3, a4, a5, a6, a7) h
theorem lp8 {A1 A2 A3 A4 A5 A6 A7 A8 : Type} (W : Nat → A1 → A2 → A3 → A4 → A5 → A6 → A7 → A8 → Prop) (I : A1 → A2 → A3 → A4 → A5 → A6 → A7 → A8 → Prop) (μ : A1 → A2 → A3 → A4 → A5 → A6 → A7 → A8 → Nat) (hs : ∀ (n : Nat) (a1 : A1) (a2 : A2) (a3 : A3) (a4 : A4) (a5 : A5) (a6 : A6) (a7 : A7) (a8 : A8), I a1 a2 a3 a4 a5 a6 a7 a8 → (∀ (b1 : A1) (b2 : A2) (b3 : A3) (b4 : A4) (b5 : A5) (b6 : A6) (b7 : A7) (b8 : A8), I b1 b2 b3 b4 b5 b6 b7 b8 → μ b1 b2 b3 b4 b5 b6 b7 b8 < μ a1 a2 a3 a4 a5 a6 a7 a8 → W n b1 b2 b3 b4 b5 b6 b7 b8) → W (n + 1) a1 a2 a3 a4 a5 a6 a7 a8) (a1 : A1) (a2 : A2) (a3 : A3) (a4 : A4) (a5 : A5) (a6 : A6) (a7 : A7) (a8 : A8) (h : I a1 a2 a3 a4 a5 a6 a7 a8) : ∃ n, W n a1 a2 a3 a4 a5 a6 a7 a8 :=
  loop_m (σ := A1 × A2 × A3 × A4 × A5 × A6 × A7 × A8) (fun n s => W n s.1 s.2.1 s.2.2.1 s.2.2.2.1 s.2.2.2.2.1 s.2.2.2.2.2.1 s.2.2.2.2.2.2.1 s.2.2.2.2.2.2.2) (fun s => I s.1 s.2.1 s.2.2.1 s.2.2.2.1 s.2.2.2.2.1 s.2.2.2.2.2.1 s.2.2.2.2.2.2.1 s.2.2.2.2.2.2.2) (fun s => μ s.1 s.2.1 s.2.2.1 s.2.2.2.1 s.2.2.2.2.1 s.2.2.2.2.2.1 s.2.2.2.2.2.2.1 s.2.2.2.2.2.2.2) (fun n s hI hk => hs n s.1 s.2.1 s.2.2.1 s.2.2.2.1 s.2.2.2.2.1 s.2.2.2.2.2.1 s.2.2.2.2.2.2.1 s.2.2.2.2.2.2.2 hI (fun b1 b2 b3 b4 b5 b6 b7 b8 h9 hm => hk (b1, b2, b3, b4, b5, b6, b7, b8) h9 hm)) (a1, a2, a3, a4, a5, a6, a7, a8) h
theorem lp9 {A1 A2 A3 A4 A5 A6 A7 A8 A9 : Type} (W : Nat → A1 → A2 → A3 → A4 → A5 → A6 → A7 → A8 → A9 → Prop) (I : A1 → A2 → A3 → A4 → A5 → A6 → A7 → A8 → A9 → Prop) (μ : A1 → A2 → A3 → A4 → A5 → A6 → A7 → A8 → A9 → Nat) (hs : ∀ (n : Nat) (a1 : A1) (a2 : A2) (a3 : A3) (a4 : A4) (a5 : A5) (a6 : A6) (a7 : A7) (a8 : A8) (a9 : A9), I a1 a2 a3 a4 a5 a6 a7 a8 a9 → (∀ (b1 : A1) (b2 : A2) (b3 : A3) (b4 : A4) (b5 : A5) (b6 : A6) (b7 : A7) (b8 : A8) (b9 : A9), I b1 b2 b3 b4 b5 b6 b7 b8 b9 → μ b1 b2 b3 b4 b5 b6 b7 b8 b9 < μ a1 a2 a3 a4 a5 a6 a7 a8 a9 → W n b1 b2 b3 b4 b5 b6 b7 b8 b9) → W (n + 1) a1 a2 a3 a4 a5 a6 a7 a8 a9) (a1 : A1) (a2 : A2) (a3 : A3) (a4 : A4) (a5 : A5) (a6 : A6) (a7 : A7) (a8 : A8) (a9 : A9) (h : I a1 a2 a3 a4 a5 a6 a7 a8 a9) : ∃ n, W n a1 a2 a3 a4 a5 a6 a7 a8 a9 :=
  loop_m (σ := A1 × A2 × A3 × A4 × A5 × A6 × A7 × A8 × A9) (fun n s => W n s.1 s.2.1 s.2.2.1 s.2.2.2.1 s.2.2.2.2.1 s.2.2.2.2.2.1 s.2.2.2.2.2.2.1 s.2.2.2.2.2.2.2.1 s.2.2.2.2.2.2.2.2) (fun s => I s.1 s.2.1 s.2.2.1 s.2.2.2.1 s.2.2.2.2.1 s.2.2.2.2.2.1 s.2.2.2.2.2.2.1 s.2.2.2.2.2.2.2.1 s.2.2.2.2.2.2.2.2) (fun s => μ s.1 s.2.1 s.2.2.1 s.2.2.2.1 s.2.2.2.2.1 s.2.2.2.2.2.1 s.2.2.2.2.2.2.1 s.2.2.2.2.2.2.2.1 s.2.2.2.2.2.2.2.2) (fun n s hI hk => hs n s.1 s.2.1 s.2.2.1 s.2.2.2.1 s.2.2.2.2.1 s.2.2.2.2.2.1 s.2.2.2.2.2.2.1 s.2.2.2.2.2.2.2.1 s.2.2.2.2.2.2.2.2 hI (fun b1 b2 b3 b4 b5 b6 b7 b8 b9 h9 hm => hk (b1, b2, b3, b4, b5, b6, b7, b8, b9) h9 hm)) (a1, a2, a3, a4, a5, a6, a7, a8, a9) h
theorem lp10 {A1 A2 A3 A4 A5 A6 A7 A8 A9 A10 : Type} (W : Nat → A1 → A2 → A3 → A4 → A5 → A6 → A7 → A8 → A9 → A10 → Prop) (I : A1 → A2 → A3 → A4 → A5 → A6 → A7 → A8 → A9 → A10 → Prop) (μ : A1 → A2 → A3 → A4 → A5 → A6 → A7 → A8 → A9 → A10 → Nat) (hs : ∀ (n : Nat) (a1 : A1) (a2 : A2) (a3 : A3) (a4 : A4) (a5 : A5) (a6 : A6) (a7 : A7) (a8 : A8) (a9 : A9) (a10 : A10), I a1 a2 a3 a4 a5 a6 a7 a8 a9 a10 → (∀ (b1 : A1) (b2 : A2) (b3 : A3) (b4 : A4) (b5 : A5) (b6 : A6) (b7 : A7) (b8 : A8) (b9 : A9) (b10 : A10), I b1 b2 b3 b4 b5 b6 b7 b8 b9 b10 → μ b1 b2 b3 b4 b5 b6 b7 b8 b9 b10 < μ a1 a2 a3 a4 a5 a6 a7 a8 a9 a10 → W n b1 b2 b3 b4 b5 b6 b7 b8 b9 b10) → W (n + 1) a1 a2 a3 a4 a5 a6 a7 a8 a9 a10) (a1 : A1) (a2 : A2) (a3 : A3) (a4 : A4) (a5 : A5) (a6 : A6) (a7 : A7) (a8 : A8) (a9 : A9) (a10 : A10) (h : I a1 a2 a3 a4 a5 a6 a7 a8 a9 a10) : ∃ n, W n a1 a2 a3 a4 a5 a6 a7 a8 a9 a10 :=
  loop_m (σ := A1 × A2 × A3 × A4 × A5 × A6 × A7 × A8 × A9 × A10) (fun n s => W n s.1 s.2.1 s.2.2.1 s.2.2.2.1 s.2.2.2.2.1 s.2.2.2.2.2.1 s.2.2.2.2.2.2.1 s.2.2.2.2.2.2.2.1 s.2.2.2.2.2.2.2.2.1 s.2.2.2.2.2.2.2.2.2) (fun s => I s.1 s.2.1 s.2.2.1 s.2.2.2.1 s.2.2.2.2.1 s.2.2.2.2.2.1 s.2.2.2.2.2.2.1 s.2.2.2.2.2.2.2.1 s.2.2.2.2.2.2.2.2.1 s.2.2.2.2.2.2.2.2.2) (fun s => μ s.1 s.2.1 s.2.2.1 s.2.2.2.1 s.2.2.2.2.1 s.2.2.2.2.2.1 s.2.2.2.2.2.2.1 s.2.2.2.2.2.2.2.1 s.2.2.2.2.2.2.2.2.1 s.2.2.2.2.2.2.2.2.2) (fun n s hI hk => hs n s.1 s.2.1 s.2.2.1 s.2.2.2.1 s.2.2.2.2.1 s.2.2.2.2.2.1 s.2.2.2.2.2.2.1 s.2.2.2.2.2.2.2.1 s.2.2.2.2.2.2.2.2.1 s.2.2.2.2.2.2.2.2.2 hI (fun b1 b2 b3 b4 b5 b6 b7 b8 b9 b10 h9 hm => hk (b1, b2, b3, b4, b5, b6, b7, b8, b9, b10) h9 hm)) (a1, a2, a3, a4, a5, a6, a7, a8, a9, a10) h
theorem lp11 {A1 A2 A3 A4 A5 A6 A7 A8 A9 A10 A11 : Type} (W : Nat → A1 → A2 → A3 → A4 → A5 → A6 → A7 → A8 → A9 → A10 → A11 → Prop) (I : A1 → A2 → A3 → A4 → A5 → A6 → A7 → A8 → A9 → A10 → A11 → Prop) (μ : A1 → A2 → A3 → A4 → A5 → A6 → A7 → A8 → A9 → A10 → A11 → Nat) (hs : ∀ (n : Nat) (a1 : A1) (a2 : A2) (a3 : A3) (a4 : A4) (a5 : A5) (a6 : A6) (a7 : A7) (a8 : A8) (a9 : A9) (a10 : A10) (a11 : A11), I a1 a2 a3 a4 a5 a6 a7 a8 a9 a10 a11 → (∀ (b1 : A1) (b2 : A2) (b3 : A3) (b4 : A4) (b5 : A5) (b6 : A6) (b7 : A7) (b8 : A8) (b9 : A9) (b10 : A10) (b11 : A11), I b1 b2 b3 b4 b5 b6 b7 b8 b9 b10 b11 → μ b1 b2 b3 b4 b5 b6 b7 b8 b9 b10 b11 < μ a1 a2 a3 a4 a5 a6 a7 a8 a9 a10 a11 → W n b1 b2 b3 b4 b5 b6 b7 b8 b9 b10 b11) → W (n + 1) a1 a2 a3 a4 a5 a6 a7 a8 a9 a10 a11) (a1 : A1) (a2 : A2) (a3 : A3) (a4 : A4) (a5 : A5) (a6 : A6) (a7 : A7) (a8 : A8) (a9 : A9) (a10 : A10) (a11 : A11) (h : I a1 a2 a3 a4 a5 a6 a7 a8 a9 a10 a11) : ∃ n, W n a1 a2 a3 a4 a5 a6 a7 a8 a9 a10 a11 :=
  loop_m (σ := A1 × A2 × A3 × A4 × A5 × A6 × A7 × A8 × A9 × A10 × A11) (fun n s => W n s.1 s.2.1 s.2.2.1 s.2.2.2.1 s.2.2.2.2.1 s.2.2.2.2.2.1 s.2.2.2.2.2.2.1 s.2.2.2.2.2.2.2.1 s.2.2.2.2.2.2.2.2.1 s.2.2.2.2.2.2.2.2.2.1 s.2.2.2.2.2.2.2.2.2.2) (fun s => I s.1 s.2.1 s.2.2.1 s.2.2.2.1 s.2.2.2.2.1 s.2.2.2.2.2.1 s.2.2.2.2.2.2.1 s.2.2.2.2.2.2.2.1 s.2.2.2.2.2.2.2.2.1 s.2.2.2.2.2.2.2.2.2.1 s.2.2.2.2.2.2.2.2.2.2) (fun s => μ s.1 s.2.1 s.2.2.1 s.2.2.2.1 s.2.2.2.2.1 s.2.2.2.2.2.1 s.2.2.2.2.2.2.1 s.2.2.2.2.2.2.2.1 s.2.2.2.2.2.2.2.2.1 s.2.2.2.2.2.2.2.2.2.1 s.2.2.2.2.2.2.2.2.2.2) (fun n s hI hk => hs n s.1 s.2.1 s.2.2.1 s.2.2.2.1 s.2.2.2.2.1 s.2.2.2.2.2.1 s.2.2.2.2.2.2.1 s.2.2.2.2.2.2.2.1 s.2.2.2.2.2.2.2.2.1 s.2.2.2.2.2.2.2.2.2.1 s.2.2.2.2.2.2.2.2.2.2 hI (fun b1 b2 b3 b4 b5 b6 b7 b8 b9 b10 b11 h9 hm => hk (b1, b2, b3, b4, b5, b6, b7, b8, b9, b10, b11) h9 hm)) (a1, a2, a3, a4, a5, a6, a7, a8, a9, a10, a11) h
theorem lp12 {A1 A2 A3 A4 A5 A6 A7 A8 A9 A10 A11 A12 : Type} (W : Nat → A1 → A2 → A3 → A4 → A5 → A6 → A7 → A8 → A9 → A10 → A11 → A12 → Prop) (I : A1 → A2 → A3 → A4 → A5 → A6 → A7 → A8 → A9 → A10 → A11 → A12 → Prop) (μ : A1 → A2 → A3 → A4 → A5 → A6 → A7 → A8 → A9 → A10 → A11 → A12 → Nat) (hs : ∀ (n : Nat) (a1 : A1) (a2 : A2) (a3 : A3) (a4 : A4) (a5 : A5) (a6 : A6) (a7 : A7) (a8 : A8) (a9 : A9) (a10 : A10) (a11 : A11) (a12 : A12), I a1 a2 a3 a4 a5 a6 a7 a8 a9 a10 a11 a12 → (∀ (b1 : A1) (b2 : A2) (b3 : A3) (b4 : A4) (b5 : A5) (b6 : A6) (b7 : A7) (b8 : A8) (b9 : A9) (b10 : A10) (b11 : A11) (b12 : A12), I b1 b2 b3 b4 b5 b6 b7 b8 b9 b10 b11 b12 → μ b1 b2 b3 b4 b5 b6 b7 b8 b9 b10 b11 b12 < μ a1 a2 a3 a4 a5 a6 a7 a8 a9 a10 a11 a12 → W n b1 b2 b3 b4 b5 b6 b7 b8 b9 b10 b11 b12) → W (n + 1) a1 a2 a3 a4 a5 a6 a7 a8 a9 a10 a11 a12) (a1 : A1) (a2 : A2) (a3 : A3) (a4 : A4) (a5 : A5) (a6 : A6) (a7 : A7) (a8 : A8) (a9 : A9) (a10 : A10) (a11 : A11) (a12 : A12) (h : I a1 a2 a3 a4 a5 a6 a7 a8 a9 a10 a11 a12) : ∃ n, W n a1 a2 a3 a4 a5 a6 a7 a8 a9 a10 a11 a12 :=
  loop_m (σ := A1 × A2 × A3 × A4 × A5 × A6 × A7 × A8 × A9 × A10 × A11 × A12) (fun n s => W n s.1 s.2.1 s.2.2.1 s.2.2.2.1 s.2.2.2.2.1 s.2.2.2.2.2.1 s.2.2.2.2.2.2.1 s.2.2.2.2.2.2.2.1 s.2.2.2.2.2.2.2.2.1 s.2.2.2.2.2.2.2.2.2.1 s.2.2.2.2.2.2.2.2.2.2.1 s.2.2.2.2.2.2.2.2.2.2.2) (fun s => I s.1 s.2.1 s.2.2.1 s.2.2.2.1 s.2.2.2.2.1 s.2.2.2.2.2.1 s.2.2.2.2.2.2.1 s.2.2.2.2.2.2.2.1 s.2.2.2.2.2.2.2.2.1 s.2.2.2.2.2.2.2.2.2.1 s.2.2.2.2.2.2.2.2.2.2.1 s.2.2.2.2.2.2.2.2.2.2.2) (fun s => μ s.1 s.2.1 s.2.2.1 s.2.2.2.1 s.2.2.2.2.1 s.2.2.2.2.2.1 s.2.2.2.2.2.2.1 s.2.2.2.2.2.2.2.1 s.2.2.2.2.2.2.2.2.1 s.2.2.2.2.2.2.2.2.2.1 s.2.2.2.2.2.2.2.2.2.2.1 s.2.2.2.2.2.2.2.2.2.2.2) (fun n s hI hk => hs n s.1 s.2.1 s.2.2.1 s.2.2.2.1 s.2.2.2.2.1 s.2.2.2.2.2.1 s.2.2.2.2.2.2.1 s.2.2.2.2.2.2.2.1 s.2.2.2.2.2.2.2.2.1 s.2.2.2.2.2.2.2.2.2.1 s.2.2.2.2.2.2.2.2.2.2.1 s.2.2.2.2.2.2.2.2.2.2.2 hI (fun b1 b2 b3 b4 b5 b6 b7 b8 b9 b10 b11 b12 h9 hm => hk (b1, b2, b3, b4, b5, b6, b7, b8, b9, b10, b11, b12) h9 hm)) (a1, a2, a3, a4, a5, a6, a7, a8, a9, a10, a11, a12) h
theorem lp13 {A1 A2 A3 A4 A5 A6 A7 A8 A9 A10 A11 A12 A13 : Type} (W : Nat → A1 → A2 → A3 → A4 → A5 → A6 → A7 → A8 → A9 → A10 → A11 → A12 → A13 → Prop) (I : A1 → A2 → A3 → A4 → A5 → A6 → A7 → A8 → A9 → A10 → A11 → A12 → A13 → Prop) (μ : A1 → A2 → A3 → A4 → A5 → A6 → A7 → A8 → A9 → A10 → A11 → A12 → A13 → Nat) (hs : ∀ (n : Nat) (a1 : A1) (a2 : A2) (a3 : A3) (a4 : A4) (a5 : A5) (a6 : A6) (a7 : A7) (a8 : A8) (a9 : A9) (a10 : A10) (a11 : A11) (a12 : A12) (a13 : A13), I a1 a2 a3 a4 a5 a6 a7 a8 a9 a10 a11 a12 a13 → (∀ (b1 : A1) (b2 : A2) (b3 : A3) (b4 : A4) (b5 : A5) (b6 : A6) (b7 : A7) (b8 : A8) (b9 : A9) (b10 : A10) (b11 : A11) (b12 : A12) (b13 : A13), I b1 b2 b3 b4 b5 b6 b7 b8 b9 b10 b11 b12 b13 → μ b1 b2 b3 b4 b5 b6 b7 b8 b9 b10 b11 b12 b13 < μ a1 a2 a3 a4 a5 a6 a7 a8 a9 a10 a11 a12 a13 → W n b1 b2 b3 b4 b5 b6 b7 b8 b9 b10 b11 b12 b13) → W (n + 1) a1 a2 a3 a4 a5 a6 a7 a8 a9 a10 a11 a12 a13) (a1 : A1) (a2 : A2) (a3 : A3) (a4 : A4) (a5 : A5) (a6 : A6) (a7 : A7) (a8 : A8) (a9 : A9) (a10 : A10) (a11 : A11) (a12 : A12) (a13 : A13) (h : I a1 a2 a3 a4 a5 a6 a7 a8 a9 a10 a11 a12 a13) : ∃ n, W n a1 a2 a3 a4 a5 a6 a7 a8 a9 a10 a11 a12 a13 :=
  loop_m (σ := A1 × A2 × A3 × A4 × A5 × A6 × A7 × A8 × A9 × A10 × A11 × A12 × A13) (fun n s => W n s.1 s.2.1 s.2.2.1 s.2.2.2.1 s.2.2.2.2.1 s.2.2.2.2.2.1 s.2.2.2.2.2.2.1 s.2.2.2.2.2.2.2.1 s.2.2.2.2.2.2.2.2.1 s.2.2.2.2.2.2.2.2.2.1 s.2.2.2.2.2.2.2.2.2.2.1 s.2.2.2.2.2.2.2.2.2.2.2.1 s.2.2.2.2.2.2.2.2.2.2.2.2) (fun s => I s.1 s.2.1 s.2.2.1 s.2.2.2.1 s.2.2.2.2.1 s.2.2.2.2.2.1 s.2.2.2.2.2.2.1 s.2.2.2.2.2.2.2.1 s.2.2.2.2.2.2.2.2.1 s.2.2.2.2.2.2.2.2.2.1 s.2.2.2.2.2.2.2.2.2.2.1 s.2.2.2.2.2.2.2.2.2.2.2.1 s.2.2.2.2.2.2.2.2.2.2.2.2) (fun s => μ s.1 s.2.1 s.2.2.1 s.2.2.2.1 s.2.2.2.2.1 s.2.2.2.2.2.1 s.2.2.2.2.2.2.1 s.2.2.2.2.2.2.2.1 s.2.2.2.2.2.2.2.2.1 s.2.2.2.2.2.2.2.2.2.1 s.2.2.2.2.2.2.2.2.2.2.1 s.2.2.2.2.2.2.2.2.2.2.2.1 s.2.2.2.2.2.2.2.2.2.2.2.2) (fun n s hI hk => hs n s.1 s.2.1 s.2.2.1 s.2.2.2.1 s.2.2.2.2.1 s.2.2.2.2.2.1 s.2.2.2.2.2.2.1 s.2.2.2.2.2.2.2.1 s.2.2.2.2.2.2.2.2.1 s.2.2.2.2.2.2.2.2.2.1 s.2.2.2.2.2.2.2.2.2.2.1 s.2.2.2.2.2.2.2.2.2.2.2.1 s.2.2.2.2.2.2.2.2.2.2.2.2 hI (fun b1 b2 b3 b4 b5 b6 b7 b8 b9 b10 b11 b12 b13 h9 hm => hk (b1, b2, b3, b4, b5, b6, b7, b8, b9, b10, b11, b12, b13) h9 hm)) (a1, a2, a3, a4, a5, a6, a7, a8, a9, a10, a11, a12, a13) h
theorem lp14 {A1 A2 A3 A4 A5 A6 A7 A8 A9 A10 A11 A12 A13 A14 : Type} (W : Nat → A1 → A2 → A3 → A4 → A5 → A6 → A7 → A8 → A9 → A10 → A11 → A12 → A13 → A14 → Prop) (I : A1 → A2 → A3 → A4 → A5 → A6 → A7 → A8 → A9 → A10 → A11 → A12 → A13 → A14 → Prop) (μ : A1 → A2 → A3 → A4 → A5 → A6 → A7 → A8 → A9 → A10 → A11 → A12 → A13 → A14 → Nat) (hs : ∀ (n : Nat) (a1 : A1) (a2 : A2) (a3 : A3) (a4 : A4) (a5 : A5) (a6 : A6) (a7 : A7) (a8 : A8) (a9 : A9) (a10 : A10) (a11 : A11) (a12 : A12) (a13 : A13) (a14 : A14), I a1 a2 a3 a4 a5 a6 a7 a8 a9 a10 a11 a12 a13 a14 → (∀ (b1 : A1) (b2 : A2) (b3 : A3) (b4 : A4) (b5 : A5) (b6 : A6) (b7 : A7) (b8 : A8) (b9 : A9) (b10 : A10) (b11 : A11) (b12 : A12) (b13 : A13) (b14 : A14), I b1 b2 b3 b4 b5 b6 b7 b8 b9 b10 b11 b12 b13 b14 → μ b1 b2 b3 b4 b5 b6 b7 b8 b9 b10 b11 b12 b13 b14 < μ a1 a2 a3 a4 a5 a6 a7 a8 a9 a10 a11 a12 a13 a14 → W n b1 b2 b3 b4 b5 b6 b7 b8 b9 b10 b11 b12 b13 b14) → W (n + 1) a1 a2 a3 a4 a5 a6 a7 a8 a9 a10 a11 a12 a13 a14) (a1 : A1) (a2 : A2) (a3 : A3) (a4 : A4) (a5 : A5) (a6 : A6) (a7 : A7) (a8 : A8) (a9 : A9) (a10 : A10) (a11 : A11) (a12 : A12) (a13 : A13) (a14 : A14) (h : I a1 a2 a3 a4 a5 a6 a7 a8 a9 a10 a11 a12 a13 a14) : ∃ n, W n a1 a2 a3 a4 a5 a6 a7 a8 a9 a10 a11 a12 a13 a14 :=
  loop_m (σ := A1 × A2 × A3 × A4 × A5 × A6 × A7 × A8 × A9 × A10 × A11 × A12 × A13 × A14) (fun n s => W n s.1 s.2.1 s.2.2.1 s.2.2.2.1 s.2.2.2.2.1 s.2.2.2.2.2.1 s.2.2.2.2.2.2.1 s.2.2.2.2.2.2.2.1 s.2.2.2.2.2.2.2.2.1 s.2.2.2.2.2.2.2.2.2.1 s.2.2.2.2.2.2.2.2.2.2.1 s.2.2.2.2.2.2.2.2.2.2.2.1 s.2.2.2.2.2.2.2.2.2.2.2.2.1 s.2.2.2.2.2.2.2.2.2.2.2.2.2) (fun s => I s.1 s.2.1 s.2.2.1 s.2.2.2.1 s.2.2.2.2.1 s.2.2.2.2.2.1 s.2.2.2.2.2.2.1 s.2.2.2.2.2.2.2.1 s.2.2.2.2.2.2.2.2.1 s.2.2.2.2.2.2.2.2.2.1 s.2.2.2.2.2.2.2.2.2.2.1 s.2.2.2.2.2.2.2.2.2.2.2.1 s.2.2.2.2.2.2.2.2.2.2.2.2.1 s.2.2.2.2.2.2.2.2.2.2.2.2.2) (fun s => μ s.1 s.2.1 s.2.2.1 s.2.2.2.1 s.2.2.2.2.1 s.2.2.2.2.2.1 s.2.2.2.2.2.2.1 s.2.2.2.2.2.2.2.1 s.2.2.2.2.2.2.2.2.1 s.2.2.2.2.2.2.2.2.2.1 s.2.2.2.2.2.2.2.2.2.2.1 s.2.2.2.2.2.2.2.2.2.2.2.1 s.2.2.2.2.2.2.2.2.2.2.2.2.1 s.2.2.2.2.2.2.2.2.2.2.2.2.2) (fun n s hI hk => hs n s.1 s.2.1 s.2.2.1 s.2.2.2.1 s.2.2.2.2.1 s.2.2.2.2.2.1 s.2.2.2.2.2.2.1 s.2.2.2.2.2.2.2.1 s.2.2.2.2.2.2.2.2.1 s.2.2.2.2.2.2.2.2.2.1 s.2.2.2.2.2.2.2.2.2.2.1 s.2.2.2.2.2.2.2.2.2.2.2.1 s.2.2.2.2.2.2.2.2.2.2.2.2.1 s.2.2.2.2.2.2.2.2.2.2.2.2.2 hI (fun b1 b2 b3 b4 b5 b6 b7 b8 b9 b10 b11 b12 b13 b14 h9 hm => hk (b1, b2, b3, b4, b5, b6, b7, b8, b9, b10, b11, b12, b13, b14) h9 hm)) (a1, a2, a3, a4, a5, a6, a7, a8, a9, a10, a11, a12, a13, a14) h
theorem lp15 {A1 A2 A3 A4 A5 A6 A7 A8 A9 A10 A11 A12 A13 A14 A15 : Type} (W : Nat → A1 → A2 → A3 → A4 → A5 → A6 → A7 → A8 → A9 → A10 → A11 → A12 → A13 → A14 → A15 → Prop) (I : A1 → A2 → A3 → A4 → A5 → A6 → A7 → A8 → A9 → A10 → A11 → A12 → A13 → A14 → A15 → Prop) (μ : A1 → A2 → A3 → A4 → A5 → A6 → A7 → A8 → A9 → A10 → A11 → A12 → A13 → A14 → A15 → Nat) (hs : ∀ (n : Nat) (a1 : A1) (a2 : A2) (a3 : A3) (a4 : A4) (a5 : A5) (a6 : A6) (a7 : A7) (a8 : A8) (a9 : A9) (a10 : A10) (a11 : A11) (a12 : A12) (a13 : A13) (a14 : A14) (a15 : A15), I a1 a2 a3 a4 a5 a6 a7 a8 a9 a10 a11 a12 a13 a14 a15 → (∀ (b1 : A1) (b2 : A2) (b3 : A3) (b4 : A4) (b5 : A5) (b6 : A6) (b7 : A7) (b8 : A8) (b9 : A9) (b10 : A10) (b11 : A11) (b12 : A12) (b13 : A13) (b14 : A14) (b15 : A15), I b1 b2 b3 b4 b5 b6 b7 b8 b9 b10 b11 b12 b13 b14 b15 → μ b1 b2 b3 b4 b5 b6 b7 b8 b9 b10 b11 b12 b13 b14 b15 < μ a1 a2 a3 a4 a5 a6 a7 a8 a9 a10 a11 a12 a13 a14 a15 → W n b1 b2 b3 b4 b5 b6 b7 b8 b9 b10 b11 b12 b13 b14 b15) → W (n + 1) a1 a2 a3 a4 a5 a6 a7 a8 a9 a10 a11 a12 a13 a14 a15) (a1 : A1) (a2 : A2) (a3 : A3) (a4 : A4) (a5 : A5) (a6 : A6) (a7 : A7) (a8 : A8) (a9 : A9) (a10 : A10) (a11 : A11) (a12 : A12) (a13 : A13) (a14 : A14) (a15 : A15) (h : I a1 a2 a3 a4 a5 a6 a7 a8 a9 a10 a11 a12 a13 a14 a15) : ∃ n, W n a1 a2 a3 a4 a5 a6 a7 a8 a9 a10 a11 a12 a13 a14 a15 :=
  loop_m (σ := A1 × A2 × A3 × A4 × A5 × A6 × A7 × A8 × A9 × A10 × A11 × A12 × A13 × A14 × A15) (fun n s => W n s.1 s.2.1 s.2.2.1 s.2.2.2.1 s.2.2.2.2.1 s.2.2.2.2.2.1 s.2.2.2.2.2.2.1 s.2.2.2.2.2.2.2.1 s.2.2.2.2.2.2.2.2.1 s.2.2.2.2.2.2.2.2.2.1 s.2.2.2.2.2.2.2.2.2.2.1 s.2.2.2.2.2.2.2.2.2.2.2.1 s.2.2.2.2.2.2.2.2.2.2.2.2.1 s.2.2.2.2.2.2.2.2.2.2.2.2.2.1 s.2.2.2.2.2.2.2.2.2.2.2.2.2.2) (fun s => I s.1 s.2.1 s.2.2.1 s.2.2.2.1 s.2.2.2.2.1 s.2.2.2.2.2.1 s.2.2.2.2.2.2.1 s.2.2.2.2.2.2.2.1 s.2.2.2.2.2.2.2.2.1 s.2.2.2.2.2.2.2.2.2.1 s.2.2.2.2.2.2.2.2.2.2.1 s.2.2.2.2.2.2.2.2.2.2.2.1 s.2.2.2.2.2.2.2.2.2.2.2.2.1 s.2.2.2.2.2.2.2.2.2.2.2.2.2.1 s.2.2.2.2.2.2.2.2.2.2.2.2.2.2) (fun s => μ s.1 s.2.1 s.2.2.1 s.2.2.2.1 s.2.2.2.2.1 s.2.2.2.2.2.1 s.2.2.2.2.2.2.1 s.2.2.2.2.2.2.2.1 s.2.2.2.2.2.2.2.2.1 s.2.2.2.2.2.2.2.2.2.1 s.2.2.2.2.2.2.2.2.2.2.1 s.2.2.2.2.2.2.2.2.2.2.2.1 s.2.2.2.2.2.2.2.2.2.2.2.2.1 s.2.2.2.2.2.2.2.2.2.2.2.2.2.1 s.2.2.2.2.2.2.2.2.2.2.2.2.2.2) (fun n s hI hk => hs n s.1 s.2.1 s.2.2.1 s.2.2.2.1 s.2.2.2.2.1 s.2.2.2.2.2.1 s.2.2.2.2.2.2.1 s.2.2.2.2.2.2.2.1 s.2.2.2.2.2.2.2.2.1 s.2.2.2.2.2.2.2.2.2.1 s.2.2.2.2.2.2.2.2.2.2.1 s.2.2.2.2.2.2.2.2.2.2.2.1 s.2.2.2.2.2.2.2.2.2.2.2.2.1 s.2.2.2.2.2.2.2.2.2.2.2.2.2.1 s.2.2.2.2.2.2.2.2.2.2.2.2.2.2 hI (fun b1 b2 b3 b4 b5 b6 b7 b8 b9 b10 b11 b12 b13 b14 b15 h9 hm => hk (b1, b2, b3, b4, b5, b6, b7, b8, b9, b10, b11, b12, b13, b14, b15) h9 hm)) (a1, a2, a3, a4, a5, a6, a7, a8, a9, a10, a11, a12, a13, a14, a15) h
theorem lp16 {A1 A2 A3 A4 A5 A6 A7 A8 A9 A10 A11 A12 A13 A14 A15 A16 : Type} (W : Nat → A1 → A2 → A3 → A4 → A5 → A6 → A7 → A8 → A9 → A10 → A11 → A12 → A13 → A14 → A15 → A16 → Prop) (I : A1 → A2 → A3 → A4 → A5 → A6 → A7 → A8 → A9 → A10 → A11 → A12 → A13 → A14 → A15 → A16 → Prop) (μ : A1 → A2 → A3 → A4 → A5 → A6 → A7 → A8 → A9 → A10 → A11 → A12 → A13 → A14 → A15 → A16 → Nat) (hs : ∀ (n : Nat) (a1 : A1) (a2 : A2) (a3 : A3) (a4 : A4) (a5 : A5) (a6 : A6) (a7 : A7) (a8 : A8) (a9 : A9) (a10 : A10) (a11 : A11) (a12 : A12) (a13 : A13) (a14 : A14) (a15 : A15) (a16 : A16), I a1 a2 a3 a4 a5 a6 a7 a8 a9 a10 a11 a12 a13 a14 a15 a16 → (∀ (b1 : A1) (b2 : A2) (b3 : A3) (b4 : A4) (b5 : A5) (b6 : A6) (b7 : A7) (b8 : A8) (b9 : A9) (b10 : A10) (b11 : A11) (b12 : A12) (b13 : A13) (b14 : A14) (b15 : A15) (b16 : A16), I b1 b2 b3 b4 b5 b6 b7 b8 b9 b10 b11 b12 b13 b14 b15 b16 → μ b1 b2 b3 b4 b5 b6 b7 b8 b9 b10 b11 b12 b13 b14 b15 b16 < μ a1 a2 a3 a4 a5 a6 a7 a8 a9 a10 a11 a12 a13 a14 a15 a16 → W n b1 b2 b3 b4 b5 b6 b7 b8 b9 b10 b11 b12 b13 b14 b15 b16) → W (n + 1) a1 a2 a3 a4 a5 a6 a7 a8 a9 a10 a11 a12 a13 a14 a15 a16) (a1 : A1) (a2 : A2) (a3 : A3) (a4 : A4) (a5 : A5) (a6 : A6) (a7 : A7) (a8 : A8) (a9 : A9) (a10 : A10) (a11 : A11) (a12 : A12) (a13 : A13) (a14 : A14) (a15 : A15) (a16 : A16) (h : I a1 a2 a3 a4 a5 a6 a7 a8 a9 a10 a11 a12 a13 a14 a15 a16) : ∃ n, W n a1 a2 a3 a4 a5 a6 a7 a8 a9 a10 a11 a12 a13 a14 a15 a16 :=
  loop_m (σ := A1 × A2 × A3 × A4 × A5 × A6 × A7 × A8 × A9 × A10 × A11 × A12 × A13 × A14 × A15 × A16) (fun n s => W n s.1 s.2.1 s.2.2.1 s.2.2.2.1 s.2.2.2.2.1 s.2.2.2.2.2.1 s.2.2.2.2.2.2.1 s.2.2.2.2.2.2.2.1 s.2.2.2.2.2.2.2.2.1 s.2.2.2.2.2.2.2.2.2.1 s.2.2.2.2.2.2.2.2.2.2.1 s.2.2.2.2.2.2.2.2.2.2.2.1 s.2.2.2.2.2.2.2.2.2.2.2.2.1 s.2.2.2.2.2.2.2.2.2.2.2.2.2.1 s.2.2.2.2.2.2.2.2.2.2.2.2.2.2.1 s.2.2.2.2.2.2.2.2.2.2.2.2.2.2.2) (fun s => I s.1 s.2.1 s.2.2.1 s.2.2.2.1 s.2.2.2.2.1 s.2.2.2.2.2.1 s.2.2.2.2.2.2.1 s.2.2.2.2.2.2.2.1 s.2.2.2.2.2.2.2.2.1 s.2.2.2.2.2.2.2.2.2.1 s.2.2.2.2.2.2.2.2.2.2.1 s.2.2.2.2.2.2.2.2.2.2.2.1 s.2.2.2.2.2.2.2.2.2.2.2.2.1 s.2.2.2.2.2.2.2.2.2.2.2.2.2.1 s.2.2.2.2.2.2.2.2.2.2.2.2.2.2.1 s.2.2.2.2.2.2.2.2.2.2.2.2.2.2.2) (fun s => μ s.1 s.2.1 s.2.2.1 s.2.2.2.1 s.2.2.2.2.1 s.2.2.2.2.2.1 s.2.2.2.2.2.2.1 s.2.2.2.2.2.2.2.1 s.2.2.2.2.2.2.2.2.1 s.2.2.2.2.2.2.2.2.2.1 s.2.2.2.2.2.2.2.2.2.2.1 s.2.2.2.2.2.2.2.2.2.2.2.1 s.2.2.2.2.2.2.2.2.2.2.2.2.1 s.2.2.2.2.2.2.2.2.2.2.2.2.2.1 s.2.2.2.2.2.2.2.2.2.2.2.2.2.2.1 s.2.2.2.2.2.2.2.2.2.2.2.2.2.2.2) (fun n s hI hk => hs n s.1 s.2.1 s.2.2.1 s.2.2.2.1 s.2.2.2.2.1 s.2.2.2.2.2.1 s.2.2.2.2.2.2.1 s.2.2.2.2.2.2.2.1 s.2.2.2.2.2.2.2.2.1 s.2.2.2.2.2.2.2.2.2.1 s.2.2.2.2.2.2.2.2.2.2.1 s.2.2.2.2.2.2.2.2.2.2.2.1 s.2.2.2.2.2.2.2.2.2.2.2.2.1 s.2.2.2.2.2.2.2.2.2.2.2.2.2.1 s.2.2.2.2.2.2.2.2.2.2.2.2.2.2.1 s.2.2.2.2.2.2.2.2.2.2.2.2.2.2.2 hI (fun b1 b2 b3 b4 b5 b6 b7 b8 b9 b10 b11 b12 b13 b14 b15 b16 h9 hm => hk (b1, b2, b3, b4, b5, b6, b7, b8, b9, b10, b11, b12, b13, b14, b15, b16) h9 hm)) (a1, a2, a3, a4, a5, a6, a7, a8, a9, a10, a11, a12, a13, a14, a15, a16) h
theorem pk_least (P : Nat → Prop) (h : ∃ k, P k) : ∃ k, P k ∧ ∀ j, j < k → ¬ P j := by
  obtain ⟨k, hk⟩ := h
  induction k using Nat.strongRecOn with
  | ind k ih =>
    by_cases e : ∃ j, j < k ∧ P j
    · obtain ⟨j, hj, pj⟩ := e
      exact ih j hj pj
    · exact ⟨k, hk, fun j hj pj => e ⟨j, hj, pj⟩⟩
theorem rp1 {ρ A1 : Type} (W : Nat → (ρ → Prop) → A1 → Prop) (ok : A1 → Prop) (μ : A1 → Nat) (val : A1 → ρ)
    (hs : ∀ (d : Nat) (post : ρ → Prop) (a1 : A1), ok a1 → post (val a1) → (∀ (post' : ρ → Prop) (b1 : A1), ok b1 → μ b1 < μ a1 → post' (val b1) → W d post' b1) → W (d + 1) post a1) :
    ∀ (d : Nat) (post : ρ → Prop) (a1 : A1), ok a1 → μ a1 < d → post (val a1) → W d post a1 := by
  intro d
  induction d with
  | zero => intro post a1 _ h; omega
  | succ d ih =>
    intro post a1 ho hm hp
    exact hs d post a1 ho hp (fun post' b1 ho' hm' hp' => ih post' b1 ho' (by omega) hp')
theorem rp2 {ρ A1 A2 : Type} (W : Nat → (ρ → Prop) → A1 → A2 → Prop) (ok : A1 → A2 → Prop) (μ : A1 → A2 → Nat) (val : A1 → A2 → ρ)
    (hs : ∀ (d : Nat) (post : ρ → Prop) (a1 : A1) (a2 : A2), ok a1 a2 → post (val a1 a2) → (∀ (post' : ρ → Prop) (b1 : A1) (b2 : A2), ok b1 b2 → μ b1 b2 < μ a1 a2 → post' (val b1 b2) → W d post' b1 b2) → W (d + 1) post a1 a2) :
    ∀ (d : Nat) (post : ρ → Prop) (a1 : A1) (a2 : A2), ok a1 a2 → μ a1 a2 < d → post (val a1 a2) → W d post a1 a2 := by
  intro d
  induction d with
  | zero => intro post a1 a2 _ h; omega
  | succ d ih =>
    intro post a1 a2 ho hm hp
    exact hs d post a1 a2 ho hp (fun post' b1 b2 ho' hm' hp' => ih post' b1 b2 ho' (by omega) hp')
theorem rp3 {ρ A1 A2 A3 : Type} (W : Nat → (ρ → Prop) → A1 → A2 → A3 → Prop) (ok : A1 → A2 → A3 → Prop) (μ : A1 → A2 → A3 → Nat) (val : A1 → A2 → A3 → ρ)
    (hs : ∀ (d : Nat) (post : ρ → Prop) (a1 : A1) (a2 : A2) (a3 : A3), ok a1 a2 a3 → post (val a1 a2 a3) → (∀ (post' : ρ → Prop) (b1 : A1) (b2 : A2) (b3 : A3), ok b1 b2 b3 → μ b1 b2 b3 < μ a1 a2 a3 → post' (val b1 b2 b3) → W d post' b1 b2 b3) → W (d + 1) post a1 a2 a3) :
    ∀ (d : Nat) (post : ρ → Prop) (a1 : A1) (a2 : A2) (a3 : A3), ok a1 a2 a3 → μ a1 a2 a3 < d → post (val a1 a2 a3) → W d post a1 a2 a3 := by
  intro d
  induction d with
  | zero => intro post a1 a2 a3 _ h; omega
  | succ d ih =>
    intro post a1 a2 a3 ho hm hp
    exact hs d post a1 a2 a3 ho hp (fun post' b1 b2 b3 ho' hm' hp' => ih post' b1 b2 b3 ho' (by omega) hp')
theorem rp4 {ρ A1 A2 A3 A4 : Type} (W : Nat → (ρ → Prop) → A1 → A2 → A3 → A4 → Prop) (ok : A1 → A2 → A3 → A4 → Prop) (μ : A1 → A2 → A3 → A4 → Nat) (val : A1 → A2 → A3 → A4 → ρ)
    (hs : ∀ (d : Nat) (post : ρ → Prop) (a1 : A1) (a2 : A2) (a3 : A3) (a4 : A4), ok a1 a2 a3 a4 → post (val a1 a2 a3 a4) → (∀ (post' : ρ → Prop) (b1 : A1) (b2 : A2) (b3 : A3) (b4 : A4), ok b1 b2 b3 b4 → μ b1 b2 b3 b4 < μ a1 a2 a3 a4 → post' (val b1 b2 b3 b4) → W d post' b1 b2 b3 b4) → W (d + 1) post a1 a2 a3 a4) :
    ∀ (d : Nat) (post : ρ → Prop) (a1 : A1) (a2 : A2) (a3 : A3) (a4 : A4), ok a1 a2 a3 a4 → μ a1 a2 a3 a4 < d → post (val a1 a2 a3 a4) → W d post a1 a2 a3 a4 := by
  intro d
  induction d with
  | zero => intro post a1 a2 a3 a4 _ h; omega
  | succ d ih =>
    intro post a1 a2 a3 a4 ho hm hp
    exact hs d post a1 a2 a3 a4 ho hp (fun post' b1 b2 b3 b4 ho' hm' hp' => ih post' b1 b2 b3 b4 ho' (by omega) hp')
theorem rp5 {ρ A1 A2 A3 A4 A5 : Type} (W : Nat → (ρ → Prop) → A1 → A2 → A3 → A4 → A5 → Prop) (ok : A1 → A2 → A3 → A4 → A5 → Prop) (μ : A1 → A2 → A3 → A4 → A5 → Nat) (val : A1 → A2 → A3 → A4 → A5 → ρ)
    (hs : ∀ (d : Nat) (post : ρ → Prop) (a1 : A1) (a2 : A2) (a3 : A3) (a4 : A4) (a5 : A5), ok a1 a2 a3 a4 a5 → post (val a1 a2 a3 a4 a5) → (∀ (post' : ρ → Prop) (b1 : A1) (b2 : A2) (b3 : A3) (b4 : A4) (b5 : A5), ok b1 b2 b3 b4 b5 → μ b1 b2 b3 b4 b5 < μ a1 a2 a3 a4 a5 → post' (val b1 b2 b3 b4 b5) → W d post' b1 b2 b3 b4 b5) → W (d + 1) post a1 a2 a3 a4 a5) :
    ∀ (d : Nat) (post : ρ → Prop) (a1 : A1) (a2 : A2) (a3 : A3) (a4 : A4) (a5 : A5), ok a1 a2 a3 a4 a5 → μ a1 a2 a3 a4 a5 < d → post (val a1 a2 a3 a4 a5) → W d post a1 a2 a3 a4 a5 := by
  intro d
  induction d with
  | zero => intro post a1 a2 a3 a4 a5 _ h; omega
  | succ d ih =>
    intro post a1 a2 a3 a4 a5 ho hm hp
    exact hs d post a1 a2 a3 a4 a5 ho hp (fun post' b1 b2 b3 b4 b5 ho' hm' hp' => ih post' b1 b2 b3 b4 b5 ho' (by omega) hp')
theorem rp6 {ρ A1 A2 A3 A4 A5 A6 : Type} (W : Nat → (ρ → Prop) → A1 → A2 → A3 → A4 → A5 → A6 → Prop) (ok : A1 → A2 → A3 → A4 → A5 → A6 → Prop) (μ : A1 → A2 → A3 → A4 → A5 → A6 → Nat) (val : A1 → A2 → A3 → A4 → A5 → A6 → ρ)
    (hs : ∀ (d : Nat) (post : ρ → Prop) (a1 : A1) (a2 : A2) (a3 : A3) (a4 : A4) (a5 : A5) (a6 : A6), ok a1 a2 a3 a4 a5 a6 → post (val a1 a2 a3 a4 a5 a6) → (∀ (post' : ρ → Prop) (b1 : A1) (b2 : A2) (b3 : A3) (b4 : A4) (b5 : A5) (b6 : A6), ok b1 b2 b3 b4 b5 b6 → μ b1 b2 b3 b4 b5 b6 < μ a1 a2 a3 a4 a5 a6 → post' (val b1 b2 b3 b4 b5 b6) → W d post' b1 b2 b3 b4 b5 b6) → W (d + 1) post a1 a2 a3 a4 a5 a6) :
    ∀ (d : Nat) (post : ρ → Prop) (a1 : A1) (a2 : A2) (a3 : A3) (a4 : A4) (a5 : A5) (a6 : A6), ok a1 a2 a3 a4 a5 a6 → μ a1 a2 a3 a4 a5 a6 < d → post (val a1 a2 a3 a4 a5 a6) → W d post a1 a2 a3 a4 a5 a6 := by
  intro d
  induction d with
  | zero => intro post a1 a2 a3 a4 a5 a6 _ h; omega
  | succ d ih =>
    intro post a1 a2 a3 a4 a5 a6 ho hm hp
    exact hs d post a1 a2 a3 a4 a5 a6 ho hp (fun post' b1 b2 b3 b4 b5 b6 ho' hm' hp' => ih post' b1 b2 b3 b4 b5 b6 ho' (by omega) hp')
theorem rec_p {σ ρ : Type} (W : Nat → (ρ → Prop) → σ → Prop) (ok : σ → Prop) (μ : σ → Nat) (val : σ → ρ)
    (hs : ∀ d s post, ok s → post (val s) → (∀ s' post', ok s' → μ s' < μ s → post' (val s') → W d post' s') → W (d + 1) post s) :
    ∀ d s post, ok s → μ s < d → post (val s) → W d post s := by
  intro d
  induction d with
  | zero => intro s post _ h; omega
  | succ d ih =>
    intro s post ho hm hp
    exact hs d s post ho hp (fun s' post' ho' hm' hp' => ih s' post' ho' (by omega) hp')
theorem rec_q {σ ρ : Type} (W : Nat → (ρ → Prop) → σ → Prop) (ok : σ → Prop) (μ : σ → Nat) (Q : σ → ρ → Prop)
    (hs : ∀ d s post, ok s → (∀ r, Q s r → post r) → (∀ s' post', ok s' → μ s' < μ s → (∀ r, Q s' r → post' r) → W d post' s') → W (d + 1) post s) :
    ∀ d s post, ok s → μ s < d → (∀ r, Q s r → post r) → W d post s := by
  intro d
  induction d with
  | zero => intro s post _ h; omega
  | succ d ih =>
    intro s post ho hm hp
    exact hs d s post ho hp (fun s' post' ho' hm' hp' => ih s' post' ho' (by omega) hp')
def bx_sum (f : Nat → Int32) : Nat → Int32
  | 0 => 0
  | n + 1 => bx_sum f n + f n
theorem ek_u {A : Prop} {B : Nat → Prop} {k N : Nat} (hk : k < N) (h : B k) : (some k = none → A) ∧ (∀ y : Nat, some k = some y → (y < N ∧ B y)) :=
  ⟨fun z => absurd z (Option.some_ne_none k), fun _ e => (by cases e; exact ⟨hk, h⟩)⟩
theorem ek_nu {A : Prop} {B : Nat → Prop} (h : A) : ((none : Option Nat) = none → A) ∧ (∀ y : Nat, (none : Option Nat) = some y → B y) :=
  ⟨fun _ => h, fun _ e => (by cases e)⟩
theorem ek_if {c d A B : Prop} (e : c ↔ d) (f : d → A) (g : ¬ d → B) : (c → A) ∧ (¬ c → B) :=
  ⟨fun z => f (e.mp z), fun z => g (fun y => z (e.mpr y))⟩
theorem ek_v {α : Sort _} {P : α → Prop} {a b : α} (e : a = b) (h : P b) : P a := e ▸ h
theorem co_some {x : Option Nat} {A : Prop} {B : Nat → Prop} (i : Nat) (h : B i) (hx : x = some i := by rfl) : (x = none → A) ∧ (∀ y : Nat, x = some y → B y) := by
  subst hx
  exact ⟨fun e => (nomatch e), fun y e => Option.some.inj e ▸ h⟩
theorem co_none {x : Option Nat} {A : Prop} {B : Nat → Prop} (h : A) (hx : x = none := by rfl) : (x = none → A) ∧ (∀ y : Nat, x = some y → B y) := by
  subst hx
  exact ⟨fun _ => h, fun y e => (nomatch e)⟩
theorem co_any {x : Option Nat} {A : Prop} {B : Nat → Prop} (hn : x = none → A) (hs : ∀ i : Nat, x = some i → B i) : (x = none → A) ∧ (∀ y : Nat, x = some y → B y) := ⟨hn, hs⟩
theorem co_2 {P : Nat → Prop} (h0 : P 0) (h1 : P 1) {i : Nat} (hi : i < 2) : P i :=
  match i, hi with
  | 0, _ => h0
  | 1, _ => h1
theorem co_3 {P : Nat → Prop} (h0 : P 0) (h1 : P 1) (h2 : P 2) {i : Nat} (hi : i < 3) : P i :=
  match i, hi with
  | 0, _ => h0
  | 1, _ => h1
  | 2, _ => h2
theorem co_4 {P : Nat → Prop} (h0 : P 0) (h1 : P 1) (h2 : P 2) (h3 : P 3) {i : Nat} (hi : i < 4) : P i :=
  match i, hi with
  | 0, _ => h0
  | 1, _ => h1
  | 2, _ => h2
  | 3, _ => h3
theorem co_dec {N : Nat} {P : Nat → Prop} [DecidablePred P] (h : (List.range N).all (fun i => decide (P i)) = true) {i : Nat} (hi : i < N) : P i := by
  have := List.all_eq_true.mp h i (List.mem_range.mpr hi)
  exact of_decide_eq_true this
theorem co_tab {α : Type} {l : List α} {d : α} {P : α → Prop} (h : ∀ a, a ∈ l → P a) {i : Nat} (hi : i < l.length) : P (l.getD i d) := by
  rw [List.getD_eq_getElem?_getD, List.getElem?_eq_getElem hi]
  exact h _ (List.getElem_mem hi)
theorem pk_mu {x : Int32} {L : Nat} (h0 : ¬ x < 0) (h : ¬ nI L ≤ x) (hL : L < 2 ^ 31) : ∃ j : Nat, j < L ∧ x = nI j ∧ x + 1 = nI (j + 1) ∧ x.toNatClampNeg = j ∧ L - (x + 1).toNatClampNeg < L - x.toNatClampNeg := by
  obtain ⟨j, hj, rfl⟩ := nI_of h0
  have hl : j < L := Nat.not_le.mp fun q => h (nI_le q hj)
  refine ⟨j, hl, rfl, nI_1 j, nI_clamp hj, ?_⟩
  rw [nI_1, nI_clamp (by omega), nI_clamp hj]
  omega
theorem op_s {α : Type} {r : Option α} {A : Prop} {B : α → Prop} {y : α} (h : r = some y) (b : B y) : (r = none → A) ∧ ∀ z, r = some z → B z :=
  ⟨fun e => (by rw [h] at e; cases e), fun z e => (by rw [h] at e; cases e; exact b)⟩
def l_holds {α : Type} (a : Nat → Option Nat) (LP : List Nat) (p : Nat → α) (c : Nat) (b : Nat → α) : Prop :=
  ∀ j, j < c → ∃ y, a j = some y ∧ y ∈ LP ∧ p y = b j
theorem l_holds_0 {α : Type} {a : Nat → Option Nat} {LP : List Nat} {p b : Nat → α} : l_holds a LP p 0 b := fun j h => absurd h (Nat.not_lt_zero j)
theorem l_in_new (LP : List Nat) (q : Nat) : q ∈ LP ++ [q] := List.mem_append.mpr (Or.inr (List.mem_singleton.mpr rfl))
def l_sum (b : Nat → Int32) : Nat → Int32
  | 0 => 0
  | k + 1 => l_sum b k + b k
theorem sb_shr0 (x : Int32) : x >>> ((0 : Int32) &&& 31) = x := by
  rw [show ((0 : Int32) &&& 31) = 0 by decide]
  simp
theorem sb_shl0 (x : Int32) : x <<< ((0 : Int32) &&& 31) = x := by
  rw [show ((0 : Int32) &&& 31) = 0 by decide]
  simp
theorem sb_cl0 : (0 : Int32).toNatClampNeg = 0 := by decide
theorem sb_m1 {p : Nat} (h : 0 < p) : nI p + (-1) = nI (p - 1) := by
  obtain ⟨q, rfl⟩ : ∃ q, p = q + 1 := ⟨p - 1, by omega⟩
  exact pk_m1 q
def sb_b (c : Nat) : Int32 := (nI c).toInt8.toInt32
theorem sb_byte : ∀ c, c < 256 → sb_b c &&& 255 = nI c ∧ ((nI c).toUInt32 % 65536).toInt32 = nI c ∧ nI c ≤ 255 := by decide +kernel
def sb_Fit (a : Nat → Int32) : Prop := ∀ j, fits .byte (.int (a j)) = true
def sb_Lat (t : Nat → Nat) (n : Nat) (a : Nat → Int32) : Prop := ∀ j, j < n → t j < 256 ∧ a j = sb_b (t j)
theorem sb_fitB (c : Nat) : fits .byte (.int (sb_b c)) = true := pk_fb _
theorem sb_fit0 : sb_Fit (fun _ => 0) := fun _ => by
  show fits .byte (.int 0) = true
  decide
theorem sb_fitU {a : Nat → Int32} {k : Nat} {x : Int32} (h : sb_Fit a) (hx : fits .byte (.int x) = true) : sb_Fit (upd a k x) := by
  intro j
  by_cases e : j = k
  · subst e
    rw [pk_us]
    exact hx
  · rw [pk_un e]
    exact h j
def sb_cat (t : Nat → Nat) (n : Nat) (s : Nat → Nat) : Nat → Nat := fun j => if j < n then t j else s (j - n)
theorem sb_cat_lo {t s : Nat → Nat} {n j : Nat} (h : j < n) : sb_cat t n s j = t j := if_pos h
theorem sb_cat_hi {t s : Nat → Nat} {n j : Nat} : sb_cat t n s (n + j) = s j := by
  show (if n + j < n then t (n + j) else s (n + j - n)) = s j
  rw [if_neg (by omega), Nat.add_sub_cancel_left]
theorem sb_latPut {t s : Nat → Nat} {n w : Nat} {a a' : Nat → Int32} (h : sb_Lat t n a) (hk : ∀ j, j < n → a' j = a j) (hs : ∀ i, i < w → s i < 256 ∧ a' (n + i) = sb_b (s i)) : sb_Lat (sb_cat t n s) (n + w) a' := by
  intro j hj
  by_cases e : j < n
  · rw [sb_cat_lo e, hk j e]
    exact h j e
  · obtain ⟨i, rfl⟩ : ∃ i, j = n + i := ⟨j - n, by omega⟩
    rw [sb_cat_hi]
    exact hs i (by omega)
theorem sb_latKeep {t : Nat → Nat} {n : Nat} {a a' : Nat → Int32} (h : sb_Lat t n a) (hk : ∀ j, j < n → a' j = a j) : sb_Lat t n a' := fun j hj => by
  rw [hk j hj]
  exact h j hj
def sb_cap (q m : Nat) : Nat := if q ≤ m then m else if 2 * m + 2 < q then q else 2 * m + 2
def sb_Room (q m mc ms : Nat) : Prop := q ≤ m ∨ (1 ≤ mc ∧ sb_cap q m ≤ ms ∧ sb_cap q m ≤ 65536)
theorem sb_cap_ge (q m : Nat) : q ≤ sb_cap q m := by
  unfold sb_cap
  split
  · omega
  · split <;> omega
theorem sb_cap_gem (q m : Nat) : m ≤ sb_cap q m := by
  unfold sb_cap
  split
  · omega
  · split <;> omega
theorem sb_cap_le {q m mc ms : Nat} (hm : m ≤ 65536) (hr : sb_Room q m mc ms) : sb_cap q m ≤ 65536 := by
  rcases hr with h | h
  · rw [sb_cap, if_pos h]
    exact hm
  · exact h.2.2
theorem sb_at {P : Int32 → Prop} {x y : Int32} (e : x = y) (h : P y) : P x := e ▸ h
def sb_dg (w : Nat) : Nat := if w < 10 then 1 else if w < 100 then 2 else if w < 1000 then 3 else if w < 10000 then 4 else if w < 100000 then 5 else if w < 1000000 then 6 else if w < 10000000 then 7 else if w < 100000000 then 8 else if w < 1000000000 then 9 else 10
def sb_dec (v : Nat) : Nat → Nat := fun i => 48 + v / 10 ^ (sb_dg v - 1 - i) % 10
theorem sb_dg_in (w : Nat) : 1 ≤ sb_dg w ∧ sb_dg w ≤ 10 := by
  unfold sb_dg
  constructor <;> (repeat' split) <;> omega
theorem sb_dg100 {w : Nat} (h : 100 ≤ w) (hw : w < 2 ^ 31) : sb_dg w = sb_dg (w / 100) + 2 := by
  rw [sb_dg, sb_dg, if_neg (show ¬ w < 10 by omega), if_neg (show ¬ w < 100 by omega)]
  by_cases h3 : w < 1000
  · rw [if_pos h3, if_pos (show w / 100 < 10 by omega)]
  rw [if_neg h3, if_neg (show ¬ w / 100 < 10 by omega)]
  by_cases h4 : w < 10000
  · rw [if_pos h4, if_pos (show w / 100 < 100 by omega)]
  rw [if_neg h4, if_neg (show ¬ w / 100 < 100 by omega)]
  by_cases h5 : w < 100000
  · rw [if_pos h5, if_pos (show w / 100 < 1000 by omega)]
  rw [if_neg h5, if_neg (show ¬ w / 100 < 1000 by omega)]
  by_cases h6 : w < 1000000
  · rw [if_pos h6, if_pos (show w / 100 < 10000 by omega)]
  rw [if_neg h6, if_neg (show ¬ w / 100 < 10000 by omega)]
  by_cases h7 : w < 10000000
  · rw [if_pos h7, if_pos (show w / 100 < 100000 by omega)]
  rw [if_neg h7, if_neg (show ¬ w / 100 < 100000 by omega)]
  by_cases h8 : w < 100000000
  · rw [if_pos h8, if_pos (show w / 100 < 1000000 by omega)]
  rw [if_neg h8, if_neg (show ¬ w / 100 < 1000000 by omega)]
  by_cases h9 : w < 1000000000
  · rw [if_pos h9, if_pos (show w / 100 < 10000000 by omega)]
  rw [if_neg h9, if_neg (show ¬ w / 100 < 10000000 by omega)]
  rw [if_pos (show w / 100 < 100000000 by omega)]
theorem sb_negT {w : Nat} (h : w < 2 ^ 31) : (-nI w).toInt = -(w : Int) := by
  rw [Int32.toInt_neg, nI_toInt h]
  exact Int.bmod_eq_of_le (by omega) (by omega)
theorem sb_nle {a b : Nat} (ha : a < 2 ^ 31) (hb : b < 2 ^ 31) : -nI a ≤ -nI b ↔ b ≤ a := by
  rw [Int32.le_iff_toInt_le, sb_negT ha, sb_negT hb]
  omega
theorem sb_nlt {a b : Nat} (ha : a < 2 ^ 31) (hb : b < 2 ^ 31) : -nI a < -nI b ↔ b < a := by
  rw [Int32.lt_iff_toInt_lt, sb_negT ha, sb_negT hb]
  omega
theorem sb_cmp {A B : Prop} {x : Int32} (v c : Nat) (f : c ≤ v → A) (g : v < c → B) (hv : v < 2 ^ 31) (hx : x = -nI c := by rfl) (hc : c < 2 ^ 31 := by omega) : (-nI v ≤ x → A) ∧ (¬ -nI v ≤ x → B) := by
  subst hx
  rw [sb_nle hv hc]
  exact ⟨f, fun z => g (by omega)⟩
theorem sb_ndiv {w : Nat} (hw : w < 2 ^ 31) : (-nI w) / 100 = -nI (w / 100) := by
  apply Int32.toInt_inj.mp
  have h100 : (100 : Int32).toInt = 100 := by decide
  rw [Int32.toInt_div, sb_negT hw, h100, sb_negT (by omega), Int.neg_tdiv, Int.tdiv_eq_ediv_of_nonneg (by omega), Int.bmod_eq_of_le (by omega) (by omega)]
  omega
theorem sb_nrem {w : Nat} (hw : w < 2 ^ 31) : (-nI (w / 100)) * 100 - (-nI w) = nI (w % 100) := by
  have h := pk_rem (a := w) (d := 100) hw (by decide) (by decide)
  rw [pk_div hw (by decide) (by decide)] at h
  rw [← h]
  show (-nI (w / 100)) * nI 100 - (-nI w) = nI w - nI (w / 100) * nI 100
  rw [Int32.neg_mul, Int32.sub_neg, Int32.add_comm, ← Int32.sub_eq_add_neg]
end
section
/-! rows on bits, shifts and unsigned numbers, to paste: each family out of a closed proof of our own, whole with what it rests on; each by itself clean at Lean in its own claim (generation 39, form 5). Take a family whole -/
/-! ===== Int32 by its bits: bt x i ===== -/
def bt (x : Int32) (i : Nat) : Bool := x.toBitVec.getLsbD i
theorem b_ext {x y : Int32} (h : ∀ i, i < 32 → bt x i = bt y i) : x = y := Int32.toBitVec_inj.mp (BitVec.eq_of_getLsbD_eq (fun i hi => h i hi))
theorem b_or (x y : Int32) (i : Nat) : bt (x ||| y) i = (bt x i || bt y i) := by unfold bt; rw [Int32.toBitVec_or, BitVec.getLsbD_or]
theorem b_and (x y : Int32) (i : Nat) : bt (x &&& y) i = (bt x i && bt y i) := by unfold bt; rw [Int32.toBitVec_and, BitVec.getLsbD_and]
theorem b_xor (x y : Int32) (i : Nat) : bt (x ^^^ y) i = (bt x i ^^ bt y i) := by unfold bt; rw [Int32.toBitVec_xor, BitVec.getLsbD_xor]
theorem b_big {x : Int32} {i : Nat} (h : 32 ≤ i) : bt x i = false := BitVec.getLsbD_of_ge _ _ h
theorem b_255 (i : Nat) : bt 255 i = decide (i < 8) := by
  rcases Nat.lt_or_ge i 32 with h | h
  · exact (by decide +kernel : ∀ i, i < 32 → bt 255 i = decide (i < 8)) i h
  · rw [b_big h, decide_eq_false (by omega)]
theorem b_65535 (i : Nat) : bt 65535 i = decide (i < 16) := by
  rcases Nat.lt_or_ge i 32 with h | h
  · exact (by decide +kernel : ∀ i, i < 32 → bt 65535 i = decide (i < 16)) i h
  · rw [b_big h, decide_eq_false (by omega)]
theorem b_m1 : ∀ i, i < 32 → bt (-1) i = true := by decide +kernel
theorem b_0 (i : Nat) : bt 0 i = false := BitVec.getLsbD_zero
theorem s_l : ∀ n, n < 32 → ((nI n &&& 31).toBitVec.smod 32).toNat = n := by decide +kernel
theorem s_u : ∀ n, n < 32 → (((nI n).toUInt32 &&& Int32.toUInt32 31).toBitVec % 32).toNat = n := by decide +kernel
theorem b_shl (n : Nat) (hn : n < 32) (x : Int32) {i : Nat} (hi : i < 32) : bt (x <<< (nI n &&& 31)) i = (decide (n ≤ i) && bt x (i - n)) := by
  unfold bt
  rw [Int32.toBitVec_shiftLeft]
  show (x.toBitVec <<< ((nI n &&& 31).toBitVec.smod 32).toNat).getLsbD i = _
  rw [s_l n hn, BitVec.getLsbD_shiftLeft]
  rcases Nat.lt_or_ge i n with h | h
  · simp [h, Nat.not_le.mpr h]
  · simp [hi, h, Nat.not_lt.mpr h]
theorem b_ushr (n : Nat) (hn : n < 32) (x : Int32) (i : Nat) : bt ((x.toUInt32 >>> ((nI n).toUInt32 &&& Int32.toUInt32 31)).toInt32) i = bt x (n + i) := by
  show (x.toUInt32 >>> ((nI n).toUInt32 &&& Int32.toUInt32 31)).toBitVec.getLsbD i = x.toUInt32.toBitVec.getLsbD (n + i)
  rw [UInt32.toBitVec_shiftRight]
  show (x.toUInt32.toBitVec >>> (((nI n).toUInt32 &&& Int32.toUInt32 31).toBitVec % 32).toNat).getLsbD i = _
  rw [s_u n hn, BitVec.getLsbD_ushiftRight]
theorem b_sshr (n : Nat) (hn : n < 32) (x : Int32) {i : Nat} (hi : i < 32) : bt (x >>> (nI n &&& 31)) i = if n + i < 32 then bt x (n + i) else bt x 31 := by
  unfold bt
  rw [Int32.toBitVec_shiftRight]
  show (x.toBitVec.sshiftRight ((nI n &&& 31).toBitVec.smod 32).toNat).getLsbD i = _
  rw [s_l n hn, BitVec.getLsbD_sshiftRight, BitVec.msb_eq_getLsbD_last]
  simp [hi]
theorem b_shl8 (x : Int32) {i : Nat} (hi : i < 32) : bt (x <<< ((8 : Int32) &&& 31)) i = (decide (8 ≤ i) && bt x (i - 8)) := b_shl 8 (by omega) x hi
theorem b_shl16 (x : Int32) {i : Nat} (hi : i < 32) : bt (x <<< ((16 : Int32) &&& 31)) i = (decide (16 ≤ i) && bt x (i - 16)) := b_shl 16 (by omega) x hi
theorem b_shl24 (x : Int32) {i : Nat} (hi : i < 32) : bt (x <<< ((24 : Int32) &&& 31)) i = (decide (24 ≤ i) && bt x (i - 24)) := b_shl 24 (by omega) x hi
theorem b_sshr8 (x : Int32) {i : Nat} (hi : i < 32) : bt (x >>> ((8 : Int32) &&& 31)) i = if 8 + i < 32 then bt x (8 + i) else bt x 31 := b_sshr 8 (by omega) x hi
/-! ===== nI under and, xor, >>>, one bit, 65535 ===== -/
theorem nx_and (a b : Nat) : nI a &&& nI b = nI (a &&& b) := by
  apply Int32.toBitVec_inj.1
  show BitVec.ofNat 32 a &&& BitVec.ofNat 32 b = BitVec.ofNat 32 (a &&& b)
  apply BitVec.eq_of_getLsbD_eq
  intro i hi
  simp [hi]
theorem nx_xor (a b : Nat) : nI a ^^^ nI b = nI (a ^^^ b) := by
  apply Int32.toBitVec_inj.1
  show BitVec.ofNat 32 a ^^^ BitVec.ofNat 32 b = BitVec.ofNat 32 (a ^^^ b)
  apply BitVec.eq_of_getLsbD_eq
  intro i hi
  simp [hi]
theorem nx_cnt : ∀ j : Fin 32, (UInt32.ofNat j.val &&& Int32.toUInt32 31).toNat % 32 = j.val := by decide +kernel
theorem nx_ush {k j : Nat} (hk : k < 65536) (hj : j < 32) : ((nI k).toUInt32 >>> ((nI j).toUInt32 &&& Int32.toUInt32 31)).toInt32 = nI (k >>> j) := by
  have hs : k >>> j ≤ k := by
    rw [Nat.shiftRight_eq_div_pow]
    exact Nat.div_le_self _ _
  have e2 : UInt32.ofNat k >>> (UInt32.ofNat j &&& Int32.toUInt32 31) = UInt32.ofNat (k >>> j) := by
    apply UInt32.toNat_inj.1
    have h1 : (UInt32.ofNat k).toNat = k := Nat.mod_eq_of_lt (by omega)
    have h2 : (UInt32.ofNat (k >>> j)).toNat = k >>> j := Nat.mod_eq_of_lt (by omega)
    rw [UInt32.toNat_shiftRight, nx_cnt ⟨j, hj⟩, h1, h2]
  show (UInt32.ofNat k >>> (UInt32.ofNat j &&& Int32.toUInt32 31)).toInt32 = _
  rw [e2]
  rfl
theorem nx_bit {k j : Nat} (hk : k < 65536) (hj : j < 16) : (((nI k).toUInt32 >>> ((nI j).toUInt32 &&& Int32.toUInt32 31)).toInt32 &&& 1) = 0 ↔ k.testBit j = false := by
  rw [nx_ush hk (by omega)]
  show nI (k >>> j) &&& nI 1 = 0 ↔ _
  rw [nx_and, Nat.and_one_is_mod, ← nI_0, nI_eq (by omega) (by omega), Nat.testBit_eq_decide_div_mod_eq, Nat.shiftRight_eq_div_pow, decide_eq_false_iff_not]
  generalize k / 2 ^ j = z
  omega
theorem nx_mod (k : Nat) : nI k &&& 65535 = nI (k % 65536) := by
  show nI k &&& nI 65535 = _
  rw [nx_and, show (65535 : Nat) = 2 ^ 16 - 1 from rfl, Nat.and_two_pow_sub_one_eq_mod]
theorem nx_m16 {k : Nat} (h : k < 65536) : nI k &&& 65535 = nI k := by rw [nx_mod, Nat.mod_eq_of_lt h]
theorem nx_mask (x : Int32) : ∃ k, k < 65536 ∧ x &&& 65535 = nI k := by
  have e : x = nI x.toBitVec.toNat := by
    apply Int32.toBitVec_inj.1
    show x.toBitVec = BitVec.ofNat 32 x.toBitVec.toNat
    simp
  refine ⟨x.toBitVec.toNat % 65536, Nat.mod_lt _ (by omega), ?_⟩
  rw [← nx_mod, ← e]
/-! ===== Int32 as a set of bits: test, set ===== -/
def nf_M (m : Int32) : Nat := 4294967296 - m.toBitVec.toNat
theorem nf_sh : ∀ l, l < 32 → ((1 : Int32) <<< (nI l &&& 31)).toBitVec = BitVec.twoPow 32 l := by decide +kernel
theorem nf_sl : ∀ l, l < 32 → (((nI l).toUInt32 &&& Int32.toUInt32 31).toBitVec % 32).toNat = l := by decide +kernel
theorem nf_tp : ∀ l, l < 32 → BitVec.twoPow 32 l ≠ 0#32 := by decide +kernel
theorem nf_bit (m : Int32) (l : Nat) (hl : l < 32) : ((m.toUInt32 >>> ((nI l).toUInt32 &&& Int32.toUInt32 31)).toInt32 &&& 1) = 0 ↔ (m &&& ((1 : Int32) <<< (nI l &&& 31))) = 0 := by
  have e : ((m.toUInt32 >>> ((nI l).toUInt32 &&& Int32.toUInt32 31)).toInt32).toBitVec = m.toBitVec >>> l := by
    show m.toBitVec >>> (((nI l).toUInt32 &&& Int32.toUInt32 31).toBitVec % 32) = m.toBitVec >>> l
    rw [BitVec.ushiftRight_eq', nf_sl l hl]
  rw [← Int32.toBitVec_inj, ← Int32.toBitVec_inj, Int32.toBitVec_and, Int32.toBitVec_and, nf_sh l hl, e, BitVec.and_twoPow]
  show (m.toBitVec >>> l &&& 1#32) = 0#32 ↔ _ = 0#32
  rw [BitVec.and_one_eq_setWidth_ofBool_getLsbD, BitVec.getLsbD_ushiftRight, Nat.add_zero]
  cases hb : m.toBitVec.getLsbD l
  · exact ⟨fun _ => by simp, fun _ => by decide⟩
  · exact ⟨fun z => absurd z (by decide), fun z => absurd ((if_pos rfl).symm.trans z) (nf_tp l hl)⟩
theorem nf_gr (m k : Int32) (h : m &&& k = 0) (hk : k ≠ 0) : nf_M (m ||| k) < nf_M m := by
  have hm := m.toBitVec.isLt
  have hm' := (m ||| k).toBitVec.isLt
  have h1 : m.toBitVec.toNat ≤ (m ||| k).toBitVec.toNat := by
    rw [Int32.toBitVec_or, BitVec.toNat_or]
    exact Nat.left_le_or
  have h2 : m.toBitVec.toNat ≠ (m ||| k).toBitVec.toNat := by
    intro e
    have e2 : m = m ||| k := Int32.toBitVec_inj.mp (BitVec.eq_of_toNat_eq e)
    apply hk
    apply Int32.toBitVec_inj.mp
    show k.toBitVec = 0#32
    apply BitVec.eq_of_getLsbD_eq
    intro i hi
    have a : m.toBitVec.getLsbD i = (m.toBitVec.getLsbD i || k.toBitVec.getLsbD i) := by rw [← BitVec.getLsbD_or, ← Int32.toBitVec_or, ← e2]
    have b : (m.toBitVec.getLsbD i && k.toBitVec.getLsbD i) = false := by
      rw [← BitVec.getLsbD_and, ← Int32.toBitVec_and, h]
      exact BitVec.getLsbD_zero
    rw [BitVec.getLsbD_zero]
    revert a b
    cases m.toBitVec.getLsbD i <;> cases k.toBitVec.getLsbD i <;> simp
  unfold nf_M
  omega
/-! ===== a byte read unsigned ===== -/
theorem bp_b (x : Int32) : x.toInt8.toInt32 &&& 255 = x &&& 255 := by
  apply Int32.toBitVec_inj.mp
  rw [Int32.toBitVec_and, Int32.toBitVec_and, Int8.toBitVec_toInt32, Int32.toBitVec_toInt8]
  apply BitVec.eq_of_getLsbD_eq
  intro i hi
  rw [BitVec.getLsbD_and, BitVec.getLsbD_and]
  have hm : ∀ i < 32, 8 ≤ i → (255 : Int32).toBitVec.getLsbD i = false := by decide
  rcases Nat.lt_or_ge i 8 with z | z
  · rw [BitVec.getLsbD_signExtend, BitVec.getLsbD_signExtend, if_pos z, if_pos hi]
    simp only [z, hi, decide_true, Bool.true_and]
  · rw [hm i hi z]; simp
/-! ===== the char cast and 65535 ===== -/
theorem em_w (v : Int32) : ∃ w : Nat, w < 65536 ∧ (v.toUInt32 % 65536).toInt32 = nI w ∧ v &&& 65535 = nI w := by
  have hr := lw_u16_r v
  have h0 : (0 : Int32).toInt = 0 := by decide
  obtain ⟨w, h1, h2⟩ := nI_of (x := lw_u16 v) (by rw [Int32.lt_iff_toInt_lt]; omega)
  have h3 : (v.toUInt32 % 65536).toInt32 = nI w := h2
  rw [h2, nI_toInt h1] at hr
  exact ⟨w, by omega, h3, by rw [← lg_i2c_mask, ← lg_i2c_nf, h3]⟩
/-! ===== Int64 as a set of bits: test, set, clear ===== -/
theorem ts_nf {x : Bool} (h : ¬ x = false) : x = true := by cases x <;> first | rfl | exact absurd rfl h
theorem ts_nt {x : Bool} (h : ¬ x = true) : x = false := by cases x <;> first | rfl | exact absurd rfl h
theorem ts_bit {w : Int64} {s : UInt64} {j : Nat} (hj : j < 64) (hs : s.toNat = j) : ((w.toUInt64 >>> s).toInt64 &&& 1) = 0 ↔ w.toBitVec.getLsbD j = false := by
  have e : (w.toUInt64 >>> s).toInt64.toBitVec = w.toBitVec >>> j := by
    apply BitVec.eq_of_toNat_eq
    show (w.toUInt64 >>> s).toNat = _
    rw [UInt64.toNat_shiftRight, hs, Nat.mod_eq_of_lt hj, BitVec.toNat_ushiftRight]
    rfl
  rw [← Int64.toBitVec_inj, Int64.toBitVec_and, e]
  show w.toBitVec >>> j &&& 1#64 = 0#64 ↔ _
  constructor
  · intro h
    have t := congrArg (fun x => x.getLsbD 0) h
    simpa using t
  · intro h
    apply BitVec.eq_of_getLsbD_eq
    intro i hi
    cases i with
    | zero => simp [h]
    | succ i => simp
theorem ts_or {w m : Int64} {j : Nat} (hj : j < 64) (hm : m.toBitVec = BitVec.twoPow 64 j) : (w ||| m) = w ↔ w.toBitVec.getLsbD j = true := by
  rw [← Int64.toBitVec_inj, Int64.toBitVec_or, hm]
  constructor
  · intro h
    have t := congrArg (fun x => x.getLsbD j) h
    simp only [BitVec.getLsbD_or, BitVec.getLsbD_twoPow] at t
    simpa [hj] using t.symm
  · intro h
    apply BitVec.eq_of_getLsbD_eq
    intro i hi
    rw [BitVec.getLsbD_or, BitVec.getLsbD_twoPow]
    by_cases e : j = i
    · subst e; rw [h, Bool.true_or]
    · simp [e]
theorem ts_and {w m : Int64} {j : Nat} (hj : j < 64) (hm : m.toBitVec = BitVec.twoPow 64 j) : (w &&& (m ^^^ (-1))) = w ↔ w.toBitVec.getLsbD j = false := by
  have ha : (-1 : Int64).toBitVec = BitVec.allOnes 64 := by decide
  rw [← Int64.toBitVec_inj, Int64.toBitVec_and, Int64.toBitVec_xor, hm, ha]
  constructor
  · intro h
    have t := congrArg (fun x => x.getLsbD j) h
    simp only [BitVec.getLsbD_and, BitVec.getLsbD_xor, BitVec.getLsbD_twoPow, BitVec.getLsbD_allOnes] at t
    simpa [hj] using t.symm
  · intro h
    apply BitVec.eq_of_getLsbD_eq
    intro i hi
    rw [BitVec.getLsbD_and, BitVec.getLsbD_xor, BitVec.getLsbD_twoPow, BitVec.getLsbD_allOnes]
    by_cases e : j = i
    · subst e; rw [h, Bool.false_and]
    · simp [e, hi]
/-! ===== lN n to 2^64: shifts, and, or, masks, one bit ===== -/
theorem wb_tb (n : Nat) : (lN n).toBitVec = BitVec.ofNat 64 n := rfl
theorem wb_inj {a b : Int64} (h : a.toBitVec = b.toBitVec) : a = b := Int64.toBitVec_inj.mp h
theorem wb_tn {n : Nat} (h : n < 2 ^ 64) : (lN n).toBitVec.toNat = n := by rw [wb_tb, BitVec.toNat_ofNat, Nat.mod_eq_of_lt h]
theorem wb_of (x : Int64) : ∃ n, n < 2 ^ 64 ∧ x = lN n := ⟨x.toBitVec.toNat, x.toBitVec.isLt, wb_inj (by rw [wb_tb]; simp)⟩
theorem wb_of32 (x : Int32) : ∃ n, n < 2 ^ 32 ∧ x = nI n := ⟨x.toBitVec.toNat, x.toBitVec.isLt, Int32.toBitVec_inj.mp (by show _ = BitVec.ofNat 32 _; simp)⟩
theorem wb_c : ∀ k, k < 64 → ((nI k).toInt64 &&& 63) = lN k := by decide +kernel
theorem wb_cu : ∀ k, k < 64 → ((nI k).toInt64.toUInt64 &&& Int64.toUInt64 63) = UInt64.ofNat k := by decide +kernel
theorem wb_sm : ∀ k, k < 64 → (BitVec.ofNat 64 k).smod 64 = BitVec.ofNat 64 k := by decide +kernel
theorem wb_pw {a b : Nat} (h : a ≤ b) : 2 ^ b = 2 ^ a * 2 ^ (b - a) := by rw [← Nat.pow_add]; congr 1; omega
theorem wb_lt2 {a b : Nat} (h : a < b) : 2 ^ a < 2 ^ b := Nat.pow_lt_pow_right (by decide) h
theorem wb_mod (n : Nat) : lN n = lN (n % 2 ^ 64) := wb_inj (by rw [wb_tb, wb_tb]; apply BitVec.eq_of_toNat_eq; rw [BitVec.toNat_ofNat, BitVec.toNat_ofNat, Nat.mod_mod])
theorem wb_shr {n k : Nat} (hn : n < 2 ^ 64) (hk : k < 64) : ((lN n).toUInt64 >>> ((nI k).toInt64.toUInt64 &&& Int64.toUInt64 63)).toInt64 = lN (n / 2 ^ k) := by
  rw [wb_cu k hk]
  apply wb_inj
  apply BitVec.eq_of_toNat_eq
  show ((lN n).toUInt64 >>> UInt64.ofNat k).toNat = (BitVec.ofNat 64 _).toNat
  have h1 : (UInt64.ofNat k).toNat = k := by
    show (BitVec.ofNat 64 k).toNat = k
    rw [BitVec.toNat_ofNat, Nat.mod_eq_of_lt (by omega)]
  have h2 : (lN n).toUInt64.toNat = n := wb_tn hn
  rw [UInt64.toNat_shiftRight, h1, h2, Nat.mod_eq_of_lt hk, Nat.shiftRight_eq_div_pow, BitVec.toNat_ofNat, Nat.mod_eq_of_lt (Nat.lt_of_le_of_lt (Nat.div_le_self _ _) hn)]
theorem wb_shl (n : Nat) {k : Nat} (hk : k < 64) : lN n <<< ((nI k).toInt64 &&& 63) = lN (n * 2 ^ k) := by
  rw [wb_c k hk]
  apply wb_inj
  rw [Int64.toBitVec_shiftLeft, wb_tb, wb_tb, wb_tb, wb_sm k hk]
  apply BitVec.eq_of_toNat_eq
  rw [BitVec.shiftLeft_eq', BitVec.toNat_shiftLeft, BitVec.toNat_ofNat, BitVec.toNat_ofNat, BitVec.toNat_ofNat, Nat.mod_eq_of_lt (show k < 2 ^ 64 by omega), Nat.shiftLeft_eq, Nat.mul_mod, Nat.mod_mod, ← Nat.mul_mod]
theorem wb_and {a b : Nat} (ha : a < 2 ^ 64) (hb : b < 2 ^ 64) : lN a &&& lN b = lN (a &&& b) := by
  apply wb_inj
  rw [Int64.toBitVec_and, wb_tb, wb_tb, wb_tb]
  apply BitVec.eq_of_toNat_eq
  rw [BitVec.toNat_and, BitVec.toNat_ofNat, BitVec.toNat_ofNat, BitVec.toNat_ofNat, Nat.mod_eq_of_lt ha, Nat.mod_eq_of_lt hb, Nat.mod_eq_of_lt (Nat.and_lt_two_pow _ hb)]
theorem wb_or {a b : Nat} (ha : a < 2 ^ 64) (hb : b < 2 ^ 64) : lN a ||| lN b = lN (a ||| b) := by
  apply wb_inj
  rw [Int64.toBitVec_or, wb_tb, wb_tb, wb_tb]
  apply BitVec.eq_of_toNat_eq
  rw [BitVec.toNat_or, BitVec.toNat_ofNat, BitVec.toNat_ofNat, BitVec.toNat_ofNat, Nat.mod_eq_of_lt ha, Nat.mod_eq_of_lt hb, Nat.mod_eq_of_lt (Nat.or_lt_two_pow ha hb)]
theorem wb_mask {n k : Nat} (hn : n < 2 ^ 64) (hk : k < 64) : lN n &&& lN (2 ^ k - 1) = lN (n % 2 ^ k) := by
  rw [wb_and hn (by have := wb_lt2 hk; omega), Nat.and_two_pow_sub_one_eq_mod]
theorem wb_a1 {n : Nat} (hn : n < 2 ^ 64) : lN n &&& 1 = lN (n % 2) := wb_mask (k := 1) hn (by decide)
theorem wb_bit {n k : Nat} (hn : n < 2 ^ 64) (hk : k < 64) : ((lN n).toUInt64 >>> ((nI k).toInt64.toUInt64 &&& Int64.toUInt64 63)).toInt64 &&& 1 = lN (n / 2 ^ k % 2) := by
  rw [wb_shr hn hk, wb_a1 (Nat.lt_of_le_of_lt (Nat.div_le_self _ _) hn)]
theorem wb_xor {q k : Nat} (hk : k < 63) (h : 2 ^ k ≤ q) (h2 : q < 2 ^ (k + 1)) : lN q ^^^ lN (2 ^ k) = lN (q - 2 ^ k) := by
  obtain ⟨r, rfl⟩ : ∃ r, q = 2 ^ k + r := ⟨q - 2 ^ k, by omega⟩
  have hr : r < 2 ^ k := by rw [Nat.pow_succ] at h2; omega
  have hx : (2 ^ k + r) ^^^ 2 ^ k = r := by
    apply Nat.eq_of_testBit_eq
    intro i
    rw [Nat.testBit_xor, Nat.testBit_two_pow]
    rcases Nat.lt_trichotomy i k with h | h | h
    · rw [Nat.testBit_two_pow_add_gt h]
      simp [show ¬ k = i by omega]
    · subst h
      rw [Nat.testBit_two_pow_add_eq]
      simp
    · have a1 : 2 ^ (k + 1) ≤ 2 ^ i := Nat.pow_le_pow_right (by decide) h
      rw [Nat.testBit_lt_two_pow (show 2 ^ k + r < 2 ^ i by omega), Nat.testBit_lt_two_pow (show r < 2 ^ i by omega)]
      simp [show ¬ k = i by omega]
  have b1 := wb_lt2 (show k + 1 < 64 by omega)
  have b2 := wb_lt2 (show k < 64 by omega)
  apply wb_inj
  rw [Int64.toBitVec_xor, wb_tb, wb_tb, wb_tb]
  apply BitVec.eq_of_toNat_eq
  rw [BitVec.toNat_xor, BitVec.toNat_ofNat, BitVec.toNat_ofNat, BitVec.toNat_ofNat, Nat.mod_eq_of_lt (by omega : 2 ^ k + r < 2 ^ 64), Nat.mod_eq_of_lt b2, hx, Nat.add_sub_cancel_left, Nat.mod_eq_of_lt (by omega)]
/-! ===== lN: masks, 'or' of parts that don't overlap is a sum ===== -/
theorem u_tn {n : Nat} (h : n < 2 ^ 64) : (UInt64.ofNat n).toNat = n := Nat.mod_eq_of_lt h
theorem g_and {a b c : Nat} (ha : a < 2 ^ 64) (hb : b < 2 ^ 64) (hc : a &&& b = c) : lN a &&& lN b = lN c := by
  subst hc
  have h : UInt64.ofNat a &&& UInt64.ofNat b = UInt64.ofNat (a &&& b) := UInt64.toNat_inj.mp (by rw [UInt64.toNat_and, u_tn ha, u_tn hb, u_tn (Nat.and_lt_two_pow a hb)])
  have h2 := congrArg UInt64.toInt64 h
  exact h2
theorem g_and1 {a : Nat} (ha : a < 2 ^ 64) : lN a &&& 1 = lN (a % 2) := g_and (b := 1) ha (by decide) (Nat.and_two_pow_sub_one_eq_mod a 1)
theorem g_mask {a s p : Nat} (hp : 2 ^ s = p) (hs : s < 64) (ha : a < 2 ^ 64) : lN a &&& lN (p - 1) = lN (a % p) := by
  subst hp
  have := Nat.pow_lt_pow_right (show 1 < 2 by decide) hs
  exact g_and ha (by omega) (Nat.and_two_pow_sub_one_eq_mod a s)
theorem g_or {k p a b : Nat} (hp : 2 ^ k = p) (ha : a < p) (h : b * p + a < 2 ^ 64) : lN (b * p) ||| lN a = lN (b * p + a) := by
  subst hp
  have h1 : b * 2 ^ k ||| a = b * 2 ^ k + a := by rw [← Nat.shiftLeft_eq, Nat.shiftLeft_add_eq_or_of_lt ha]
  have h3 : UInt64.ofNat (b * 2 ^ k) ||| UInt64.ofNat a = UInt64.ofNat (b * 2 ^ k + a) := UInt64.toNat_inj.mp (by rw [UInt64.toNat_or, u_tn (by omega), u_tn (by omega), u_tn h, h1])
  have h2 := congrArg UInt64.toInt64 h3
  exact h2
theorem g_or' {k p a b : Nat} (hp : 2 ^ k = p) (ha : a < p) (h : a + b * p < 2 ^ 64) : lN a ||| lN (b * p) = lN (a + b * p) := by
  rw [Int64.or_comm, g_or hp ha (by omega), Nat.add_comm]
theorem g_ushr {a k p : Nat} {y : UInt64} (hy : y = UInt64.ofNat k) (hk : k < 64) (hp : 2 ^ k = p) (ha : a < 2 ^ 64) : ((lN a).toUInt64 >>> y).toInt64 = lN (a / p) := by
  subst hy hp
  have h : UInt64.ofNat a >>> UInt64.ofNat k = UInt64.ofNat (a / 2 ^ k) := UInt64.toNat_inj.mp (by rw [UInt64.toNat_shiftRight, u_tn ha, u_tn (by omega), u_tn (Nat.lt_of_le_of_lt (Nat.div_le_self _ _) ha), Nat.mod_eq_of_lt hk, Nat.shiftRight_eq_div_pow])
  have h2 := congrArg UInt64.toInt64 h
  exact h2
theorem g_shl {a k p : Nat} {y : Int64} (hy : y.toBitVec.smod 64 = BitVec.ofNat 64 k) (hk : k < 64) (hp : 2 ^ k = p) (ha : a < 2 ^ 64) : lN a <<< y = lN (a * p) := by
  subst hp
  apply Int64.toBitVec_inj.mp
  rw [Int64.toBitVec_shiftLeft, hy]
  apply BitVec.eq_of_toNat_eq
  have hb : (lN a).toBitVec.toNat = a := Nat.mod_eq_of_lt ha
  have hk' : (BitVec.ofNat 64 k).toNat = k := Nat.mod_eq_of_lt (by omega)
  have h : ((lN a).toBitVec <<< BitVec.ofNat 64 k).toNat = (a * 2 ^ k) % 2 ^ 64 := by simp only [BitVec.shiftLeft_eq', BitVec.toNat_shiftLeft, hb, hk', Nat.shiftLeft_eq]
  exact h
/-! ===== lN to 2^62 under >> and >>> ===== -/
theorem pf_lI {a : Nat} (h : a < 2 ^ 63) : (lN a).toInt = (a : Int) := lg_ofNat_toInt h
theorem pf_shr {a d : Nat} {D : Int64} (hD : (D.toBitVec.smod 64).toNat = d) (h : a < 2 ^ 62) : lN a >>> D = lN (a / 2 ^ d) := by
  have hd : a / 2 ^ d ≤ a := Nat.div_le_self _ _
  apply Int64.toInt_inj.mp
  have e : (lN a >>> D).toInt = (lN a).toInt >>> d := by
    rw [← hD]
    exact BitVec.toInt_sshiftRight ..
  rw [e, Int.shiftRight_eq_div_pow, pf_lI (by omega), pf_lI (by omega)]
  rfl
theorem pf_ushr {a d : Nat} {D : UInt64} (hD : D.toNat % 64 = d) (h : a < 2 ^ 62) : ((lN a).toUInt64 >>> D).toInt64 = lN (a / 2 ^ d) := by
  have hd : a / 2 ^ d ≤ a := Nat.div_le_self _ _
  have e : (lN a).toUInt64 >>> D = UInt64.ofNat (a / 2 ^ d) := UInt64.toNat_inj.mp (by
    rw [UInt64.toNat_shiftRight, hD, Nat.shiftRight_eq_div_pow, UInt64.toNat_ofNat']
    show (UInt64.ofNat a).toNat / 2 ^ d = _
    rw [UInt64.toNat_ofNat', Nat.mod_eq_of_lt (by omega), Nat.mod_eq_of_lt (by omega)])
  rw [e]
  rfl
theorem pf_andw (x : Int64) : ∃ m, m < 2 ^ 32 ∧ x &&& 4294967295 = lN m := ⟨x.toBitVec.toNat % 2 ^ 32, Nat.mod_lt _ (by decide), Int64.toBitVec_inj.mp (BitVec.eq_of_toNat_eq (by
  show (x.toBitVec &&& 4294967295#64).toNat = (BitVec.ofNat 64 (x.toBitVec.toNat % 2 ^ 32)).toNat
  rw [BitVec.toNat_and, show (4294967295#64).toNat = 2 ^ 32 - 1 from by decide, Nat.and_two_pow_sub_one_eq_mod, BitVec.toNat_ofNat]
  omega))⟩
/-! ===== Int64 as an unsigned number: uN x ===== -/
def uN (x : Int64) : Nat := x.toUInt64.toNat
theorem uN_lt (x : Int64) : uN x < 18446744073709551616 := x.toUInt64.toNat_lt
theorem uN_inj {x y : Int64} (h : uN x = uN y) : x = y := congrArg UInt64.toInt64 (UInt64.toNat_inj.mp h)
theorem uN_add (x y : Int64) : uN (x + y) = (uN x + uN y) % 18446744073709551616 := by
  show (x.toUInt64 + y.toUInt64).toNat = _
  exact UInt64.toNat_add _ _
theorem uN_mul (x y : Int64) : uN (x * y) = (uN x * uN y) % 18446744073709551616 := by
  show (x.toUInt64 * y.toUInt64).toNat = _
  exact UInt64.toNat_mul _ _
theorem uN_shl (x : Int64) : uN (x <<< ((1 : Int32).toInt64 &&& 63)) = (2 * uN x) % 18446744073709551616 := by
  have h : (((1 : Int32).toInt64 &&& 63).toBitVec.smod 64).toNat = 1 := by decide
  show (x.toBitVec <<< (((1 : Int32).toInt64 &&& 63).toBitVec.smod 64).toNat).toNat = _
  rw [h, BitVec.toNat_shiftLeft, Nat.shiftLeft_eq, Nat.mul_comm]
  rfl
theorem uN_shr (x : Int64) (s : UInt64) : uN (x.toUInt64 >>> s).toInt64 = uN x / 2 ^ (s.toNat % 64) := by
  show (x.toUInt64 >>> s).toNat = _
  rw [UInt64.toNat_shiftRight, Nat.shiftRight_eq_div_pow]
  rfl
theorem uN_s32 (x : Int64) : uN (x.toUInt64 >>> ((32 : Int32).toInt64.toUInt64 &&& Int64.toUInt64 63)).toInt64 = uN x / 4294967296 := by
  have h : ((32 : Int32).toInt64.toUInt64 &&& Int64.toUInt64 63).toNat % 64 = 32 := by decide
  rw [uN_shr, h]
theorem uN_s63 (x : Int64) : uN (x.toUInt64 >>> ((63 : Int32).toInt64.toUInt64 &&& Int64.toUInt64 63)).toInt64 = uN x / 9223372036854775808 := by
  have h : ((63 : Int32).toInt64.toUInt64 &&& Int64.toUInt64 63).toNat % 64 = 63 := by decide
  rw [uN_shr, h]
theorem uN_lo (x : Int64) : uN (x &&& 4294967295) = uN x % 4294967296 := by
  show (x.toUInt64 &&& Int64.toUInt64 4294967295).toNat = _
  rw [UInt64.toNat_and]
  exact Nat.and_two_pow_sub_one_eq_mod _ 32
theorem uN_bit (x : Int64) : (x &&& 1) = 0 ↔ uN x % 2 = 0 := by
  have h : uN (x &&& 1) = uN x % 2 := by
    show (x.toUInt64 &&& Int64.toUInt64 1).toNat = _
    rw [UInt64.toNat_and]
    exact Nat.and_two_pow_sub_one_eq_mod _ 1
  rw [← h]
  exact ⟨fun z => by rw [z]; rfl, fun z => uN_inj (z.trans rfl)⟩
theorem uN_or {x y : Int64} (hy : uN y < 2) : uN ((x <<< ((1 : Int32).toInt64 &&& 63)) ||| y) = (2 * uN x) % 18446744073709551616 + uN y := by
  have h1 : uN ((x <<< ((1 : Int32).toInt64 &&& 63)) ||| y) = uN (x <<< ((1 : Int32).toInt64 &&& 63)) ||| uN y := UInt64.toNat_or _ _
  have h2 : (2 * uN x) % 18446744073709551616 = 2 ^ 1 * (uN x % 9223372036854775808) := by omega
  rw [h1, uN_shl, h2]
  exact (Nat.two_pow_add_eq_or_of_lt (i := 1) hy _).symm
theorem nat_xor {a : Nat} (h : a < 18446744073709551616) : a ^^^ 2 ^ 63 = (a + 9223372036854775808) % 18446744073709551616 := by
  have h1 : (a ^^^ 2 ^ 63) % 2 ^ 63 = a % 2 ^ 63 := by rw [Nat.xor_mod_two_pow, Nat.mod_self, Nat.xor_zero]
  have h2 : (a ^^^ 2 ^ 63) / 2 ^ 63 = (a / 2 ^ 63) ^^^ 1 := by rw [Nat.xor_div_two_pow, Nat.div_self (Nat.two_pow_pos 63)]
  have h3 : a / 2 ^ 63 = 0 ∨ a / 2 ^ 63 = 1 := by omega
  generalize a ^^^ 2 ^ 63 = t at h1 h2
  rcases h3 with h3 | h3
  · rw [h3] at h2
    have h2 : t / 2 ^ 63 = 1 := h2
    omega
  · rw [h3] at h2
    have h2 : t / 2 ^ 63 = 0 := h2
    omega
theorem uN_xor (x : Int64) : uN (x ^^^ (-9223372036854775808)) = (uN x + 9223372036854775808) % 18446744073709551616 := by
  rw [← nat_xor (uN_lt x)]
  exact UInt64.toNat_xor _ _
theorem uN_int (x : Int64) : x.toInt = if 2 * uN x < 18446744073709551616 then (uN x : Int) else (uN x : Int) - 18446744073709551616 := BitVec.toInt_eq_toNat_cond _
theorem uN_le (x y : Int64) : (x ^^^ (-9223372036854775808)) ≤ (y ^^^ (-9223372036854775808)) ↔ uN x ≤ uN y := by
  have hx := uN_lt x
  have hy := uN_lt y
  rw [Int64.le_iff_toInt_le, uN_int, uN_int, uN_xor, uN_xor]
  omega
theorem uN_sk (x : Int64) {k : Nat} (hk : k < 64) : uN (x.toUInt64 >>> ((nI k).toInt64.toUInt64 &&& Int64.toUInt64 63)).toInt64 = uN x / 2 ^ k := by
  have h : ((nI k).toInt64.toUInt64 &&& Int64.toUInt64 63).toNat % 64 = k := by
    rw [nI_l (by omega), UInt64.toNat_and]
    have e : (lN k).toUInt64.toNat = k % 2 ^ 64 := rfl
    have e2 : (Int64.toUInt64 63).toNat = 2 ^ 6 - 1 := by decide
    rw [e, e2, Nat.and_two_pow_sub_one_eq_mod]
    omega
  rw [uN_shr, h]
/-! ===== unsigned comparison by xor with the least ===== -/
theorem lN_bv (n : Nat) : (lN n).toBitVec = BitVec.ofNat 64 n := rfl
theorem lN_nat {n : Nat} (h : n < 2 ^ 64) : (lN n).toBitVec.toNat = n := by rw [lN_bv, BitVec.toNat_ofNat]; exact Nat.mod_eq_of_lt h
theorem lN_xor (a b : Nat) : lN a ^^^ lN b = lN (a ^^^ b) := by
  apply Int64.toBitVec_inj.mp; rw [Int64.toBitVec_xor, lN_bv, lN_bv, lN_bv]; apply BitVec.eq_of_getLsbD_eq; intro i hi; simp [BitVec.getLsbD_ofNat, Nat.testBit_xor, hi]
theorem lN_ti {m : Nat} (h : m < 2 ^ 64) : (lN m).toInt = if m < 2 ^ 63 then (m : Int) else (m : Int) - 2 ^ 64 := by
  have c := BitVec.toInt_eq_toNat_cond (lN m).toBitVec
  rw [lN_nat h] at c
  show (lN m).toBitVec.toInt = _
  rw [c]
  split <;> split <;> omega
theorem xor63 {x : Nat} (h : x < 2 ^ 63) : x ^^^ 2 ^ 63 = 2 ^ 63 + x := by
  apply Nat.eq_of_testBit_eq
  intro i
  rw [Nat.testBit_xor, Nat.testBit_two_pow]
  rcases Nat.lt_trichotomy i 63 with z | z | z
  · rw [Nat.testBit_two_pow_add_gt z, decide_eq_false (by omega)]; simp
  · subst z; rw [Nat.testBit_two_pow_add_eq]; simp
  · have hp : 2 ^ 64 ≤ 2 ^ i := Nat.pow_le_pow_right (by decide) z
    rw [Nat.testBit_lt_two_pow (show x < 2 ^ i by omega), Nat.testBit_lt_two_pow (show 2 ^ 63 + x < 2 ^ i by omega), decide_eq_false (by omega)]; rfl
theorem xorS {a : Nat} (h : a < 2 ^ 64) : (lN a ^^^ (-9223372036854775808)).toInt = (a : Int) - 2 ^ 63 := by
  rw [show (-9223372036854775808 : Int64) = lN (2 ^ 63) from by decide +kernel, lN_xor]
  rcases Nat.lt_or_ge a (2 ^ 63) with z | z
  · rw [xor63 z, lN_ti (by omega), if_neg (by omega)]; omega
  · obtain ⟨x, rfl⟩ : ∃ x, a = 2 ^ 63 + x := ⟨a - 2 ^ 63, by omega⟩
    rw [← xor63 (by omega), Nat.xor_assoc, Nat.xor_self, Nat.xor_zero, lN_ti (by omega), if_pos (by omega), xor63 (by omega)]; omega
theorem ultL {a b : Nat} (ha : a < 2 ^ 64) (hb : b < 2 ^ 64) : ((lN b ^^^ (-9223372036854775808)) ≤ (lN a ^^^ (-9223372036854775808))) ↔ b ≤ a := by
  rw [Int64.le_iff_toInt_le, xorS ha, xorS hb]; omega
/-! ===== Int64 masks of n low bits ===== -/
theorem cr_bits (W U M : BitVec 64) : ((W &&& U) &&& (U &&& (M ^^^ BitVec.allOnes 64))) = 0#64 ↔ (W &&& U) &&& M = W &&& U := by
  constructor
  · intro h
    apply BitVec.eq_of_getLsbD_eq
    intro i hi
    have e := congrArg (fun x => BitVec.getLsbD x i) h
    simp only [BitVec.getLsbD_and, BitVec.getLsbD_xor, BitVec.getLsbD_allOnes, BitVec.getLsbD_zero, hi, decide_true] at e ⊢
    revert e
    cases W.getLsbD i <;> cases U.getLsbD i <;> cases M.getLsbD i <;> decide
  · intro h
    apply BitVec.eq_of_getLsbD_eq
    intro i hi
    have e := congrArg (fun x => BitVec.getLsbD x i) h
    simp only [BitVec.getLsbD_and, BitVec.getLsbD_xor, BitVec.getLsbD_allOnes, BitVec.getLsbD_zero, hi, decide_true] at e ⊢
    revert e
    cases W.getLsbD i <;> cases U.getLsbD i <;> cases M.getLsbD i <;> decide
theorem cr_mask (w U m : Int64) (n : Nat) (hm : m.toBitVec.toNat = 2 ^ n - 1) : ((w &&& U) &&& (U &&& (m ^^^ (-1)))) = 0 ↔ (w &&& U).toBitVec.toNat < 2 ^ n := by
  have e0 : (-1 : Int64).toBitVec = BitVec.allOnes 64 := by decide
  have z0 : (0 : Int64).toBitVec = 0#64 := by decide
  rw [← Int64.toBitVec_inj, z0, Int64.toBitVec_and, Int64.toBitVec_and, Int64.toBitVec_and, Int64.toBitVec_xor, e0, cr_bits]
  generalize w.toBitVec &&& U.toBitVec = T
  rw [← BitVec.toNat_inj, BitVec.toNat_and, hm, Nat.and_two_pow_sub_one_eq_mod]
  constructor
  · intro h
    have t := Nat.mod_lt T.toNat (Nat.two_pow_pos n)
    rw [h] at t
    exact t
  · exact Nat.mod_eq_of_lt
theorem cr_shr (t : Int64) (x : UInt64) (n : Nat) (hx : x.toNat % 64 = n) : (t.toUInt64 >>> x).toInt64 = 0 ↔ t.toBitVec.toNat < 2 ^ n := by
  rw [← Int64.toBitVec_inj, ← BitVec.toNat_inj]
  show (t.toUInt64 >>> x).toNat = 0 ↔ t.toUInt64.toNat < 2 ^ n
  rw [UInt64.toNat_shiftRight, hx, Nat.shiftRight_eq_div_pow]
  constructor
  · intro h
    have d : t.toUInt64.toNat / 2 ^ n < 1 := by
      rw [h]
      decide
    have e := (Nat.div_lt_iff_lt_mul (Nat.two_pow_pos n)).mp d
    rw [Nat.one_mul] at e
    exact e
  · exact Nat.div_eq_of_lt
theorem cr_amt (s : Int64) : ∃ n, n < 64 ∧ s &&& 63 = lN n ∧ (s.toUInt64 &&& Int64.toUInt64 63).toNat % 64 = n := by
  have e : (s.toUInt64 &&& Int64.toUInt64 63).toNat = s.toUInt64.toNat % 2 ^ 6 := by
    rw [UInt64.toNat_and, show (Int64.toUInt64 63).toNat = 2 ^ 6 - 1 from by decide, Nat.and_two_pow_sub_one_eq_mod]
  refine ⟨s.toUInt64.toNat % 2 ^ 6, by omega, ?_, by omega⟩
  rw [← Int64.toBitVec_inj, ← BitVec.toNat_inj]
  show (s.toUInt64 &&& Int64.toUInt64 63).toNat = (BitVec.ofNat 64 (s.toUInt64.toNat % 2 ^ 6)).toNat
  rw [e, BitVec.toNat_ofNat]
  omega
end
section
/-! costs, what an instruction takes and adds -/
def zc_cst (o : Nat) : Nat := if o = 5 then 3 else if o = 6 then 0 else if o = 7 then 0 else if o = 18 then 8 else if o = 21 then 4 else if o = 23 then 5 else 1
def zc_tk (o : Nat) : Nat := if o = 5 then 1 else if o = 7 then 1 else if o = 8 then 2 else if o = 9 then 2 else if o = 10 then 2 else if o = 11 then 2 else if o = 12 then 2 else if o = 13 then 1 else if o = 14 then 1 else if o = 15 then 2 else if o = 17 then 1 else if o = 18 then 3 else if o = 19 then 1 else if o = 20 then 1 else if o = 21 then 1 else if o = 23 then 3 else 0
def zc_ad (o : Nat) : Nat := if o = 7 then 0 else if o = 13 then 2 else if o = 14 then 0 else if o = 15 then 2 else if o = 16 then 0 else if o = 17 then 0 else if o = 18 then 2 else if o = 19 then 0 else if o = 20 then 0 else if o = 21 then 0 else if o = 23 then 0 else 1
def zc_cl (o : Nat) : Nat := if o = 16 then 1 else if o = 17 then 1 else if o = 18 then 1 else if o = 19 then 1 else if o = 20 then 1 else if o = 22 then 1 else 0
def zc_mx (o : Nat) : Nat := if o = 6 then 5 else if o = 7 then 8 else 0
/-- what a cell costs -/
def zc_cc (o : Nat) (w : Bool) : Nat := if o = 6 then (if w = true then 2 else 5) else if o = 7 then (if w = true then 3 else 8) else 0
theorem zc_cc_le (o : Nat) (w : Bool) : zc_cc o w ≤ zc_mx o := by
  unfold zc_cc zc_mx; cases w <;> (repeat' split) <;> simp_all
theorem zc_24 {P : Nat → Prop}
(h0 : P 0) (h1 : P 1) (h2 : P 2) (h3 : P 3) (h4 : P 4) (h5 : P 5) (h6 : P 6) (h7 : P 7) (h8 : P 8) (h9 : P 9) (h10 : P 10) (h11 : P 11) (h12 : P 12) (h13 : P 13) (h14 : P 14) (h15 : P 15) (h16 : P 16) (h17 : P 17) (h18 : P 18) (h19 : P 19) (h20 : P 20) (h21 : P 21) (h22 : P 22) (h23 : P 23) : ∀ o, o < 24 → P o
  | 0, _ => h0
  | 1, _ => h1
  | 2, _ => h2
  | 3, _ => h3
  | 4, _ => h4
  | 5, _ => h5
  | 6, _ => h6
  | 7, _ => h7
  | 8, _ => h8
  | 9, _ => h9
  | 10, _ => h10
  | 11, _ => h11
  | 12, _ => h12
  | 13, _ => h13
  | 14, _ => h14
  | 15, _ => h15
  | 16, _ => h16
  | 17, _ => h17
  | 18, _ => h18
  | 19, _ => h19
  | 20, _ => h20
  | 21, _ => h21
  | 22, _ => h22
  | 23, _ => h23
  | n + 24, h => absurd h (by omega)
theorem xw_cost {post : Int32 → Prop} {o : Nat} (ho : o < 24) (h : post (nI (zc_cst o))) : wpX_cost post (nI o) :=
  zc_24 (P := fun o => post (nI (zc_cst o)) → wpX_cost post (nI o))
    (fun h => (br_t (by decide) h))
    (fun h => (br_t (by decide) h))
    (fun h => (br_t (by decide) h))
    (fun h => (br_t (by decide) h))
    (fun h => (br_t (by decide) h))
    (fun h => (br_f (by decide) (br_f (by decide) (br_t (by decide) h))))
    (fun h => (br_f (by decide) (br_f (by decide) (br_f (by decide) (br_t (by decide) h)))))
    (fun h => (br_f (by decide) (br_f (by decide) (br_f (by decide) (br_f (by decide) (br_t (by decide) h))))))
    (fun h => (br_f (by decide) (br_f (by decide) (br_f (by decide) (br_f (by decide) (br_f (by decide) (br_t (by decide) h)))))))
    (fun h => (br_f (by decide) (br_f (by decide) (br_f (by decide) (br_f (by decide) (br_f (by decide) (br_f (by decide) (br_t (by decide) h))))))))
    (fun h => (br_f (by decide) (br_f (by decide) (br_f (by decide) (br_f (by decide) (br_f (by decide) (br_f (by decide) (br_f (by decide) (br_t (by decide) h)))))))))
    (fun h => (br_f (by decide) (br_f (by decide) (br_f (by decide) (br_f (by decide) (br_f (by decide) (br_f (by decide) (br_f (by decide) (br_f (by decide) (br_t (by decide) h))))))))))
    (fun h => (br_f (by decide) (br_f (by decide) (br_f (by decide) (br_f (by decide) (br_f (by decide) (br_f (by decide) (br_f (by decide) (br_f (by decide) (br_f (by decide) (br_t (by decide) h)))))))))))
    (fun h => (br_f (by decide) (br_f (by decide) (br_f (by decide) (br_f (by decide) (br_f (by decide) (br_f (by decide) (br_f (by decide) (br_f (by decide) (br_f (by decide) (br_f (by decide) (br_t (by decide) h))))))))))))
    (fun h => (br_f (by decide) (br_f (by decide) (br_f (by decide) (br_f (by decide) (br_f (by decide) (br_f (by decide) (br_f (by decide) (br_f (by decide) (br_f (by decide) (br_f (by decide) (br_f (by decide) (br_t (by decide) h)))))))))))))
    (fun h => (br_f (by decide) (br_f (by decide) (br_f (by decide) (br_f (by decide) (br_f (by decide) (br_f (by decide) (br_f (by decide) (br_f (by decide) (br_f (by decide) (br_f (by decide) (br_f (by decide) (br_f (by decide) (br_t (by decide) h))))))))))))))
    (fun h => (br_f (by decide) (br_f (by decide) (br_f (by decide) (br_f (by decide) (br_f (by decide) (br_f (by decide) (br_f (by decide) (br_f (by decide) (br_f (by decide) (br_f (by decide) (br_f (by decide) (br_f (by decide) (br_f (by decide) (br_t (by decide) h)))))))))))))))
    (fun h => (br_f (by decide) (br_f (by decide) (br_f (by decide) (br_f (by decide) (br_f (by decide) (br_f (by decide) (br_f (by decide) (br_f (by decide) (br_f (by decide) (br_f (by decide) (br_f (by decide) (br_f (by decide) (br_f (by decide) (br_f (by decide) (br_t (by decide) h))))))))))))))))
    (fun h => (br_f (by decide) (br_f (by decide) (br_f (by decide) (br_f (by decide) (br_f (by decide) (br_f (by decide) (br_f (by decide) (br_f (by decide) (br_f (by decide) (br_f (by decide) (br_f (by decide) (br_f (by decide) (br_f (by decide) (br_f (by decide) (br_f (by decide) (br_t (by decide) h)))))))))))))))))
    (fun h => (br_f (by decide) (br_f (by decide) (br_f (by decide) (br_f (by decide) (br_f (by decide) (br_f (by decide) (br_f (by decide) (br_f (by decide) (br_f (by decide) (br_f (by decide) (br_f (by decide) (br_f (by decide) (br_f (by decide) (br_f (by decide) (br_f (by decide) (br_f (by decide) (br_t (by decide) h))))))))))))))))))
    (fun h => (br_f (by decide) (br_f (by decide) (br_f (by decide) (br_f (by decide) (br_f (by decide) (br_f (by decide) (br_f (by decide) (br_f (by decide) (br_f (by decide) (br_f (by decide) (br_f (by decide) (br_f (by decide) (br_f (by decide) (br_f (by decide) (br_f (by decide) (br_f (by decide) (br_f (by decide) (br_t (by decide) h)))))))))))))))))))
    (fun h => (br_f (by decide) (br_f (by decide) (br_f (by decide) (br_f (by decide) (br_f (by decide) (br_f (by decide) (br_f (by decide) (br_f (by decide) (br_f (by decide) (br_f (by decide) (br_f (by decide) (br_f (by decide) (br_f (by decide) (br_f (by decide) (br_f (by decide) (br_f (by decide) (br_f (by decide) (br_f (by decide) (br_t (by decide) h))))))))))))))))))))
    (fun h => (br_f (by decide) (br_f (by decide) (br_f (by decide) (br_f (by decide) (br_f (by decide) (br_f (by decide) (br_f (by decide) (br_f (by decide) (br_f (by decide) (br_f (by decide) (br_f (by decide) (br_f (by decide) (br_f (by decide) (br_f (by decide) (br_f (by decide) (br_f (by decide) (br_f (by decide) (br_f (by decide) (br_f (by decide) (br_t (by decide) h)))))))))))))))))))))
    (fun h => (br_f (by decide) (br_f (by decide) (br_f (by decide) (br_f (by decide) (br_f (by decide) (br_f (by decide) (br_f (by decide) (br_f (by decide) (br_f (by decide) (br_f (by decide) (br_f (by decide) (br_f (by decide) (br_f (by decide) (br_f (by decide) (br_f (by decide) (br_f (by decide) (br_f (by decide) (br_f (by decide) (br_f (by decide) (br_f (by decide) (br_t (by decide) h))))))))))))))))))))))
    o ho h
theorem xw_takes {post : Int32 → Prop} {o : Nat} (ho : o < 24) (h : post (nI (zc_tk o))) : wpX_takes post (nI o) :=
  zc_24 (P := fun o => post (nI (zc_tk o)) → wpX_takes post (nI o))
    (fun h => (br_t (by decide) h))
    (fun h => (br_t (by decide) h))
    (fun h => (br_t (by decide) h))
    (fun h => (br_t (by decide) h))
    (fun h => (br_t (by decide) h))
    (fun h => (br_f (by decide) (br_f (by decide) (br_t (by decide) h))))
    (fun h => (br_f (by decide) (br_f (by decide) (br_f (by decide) (br_t (by decide) h)))))
    (fun h => (br_f (by decide) (br_f (by decide) (br_f (by decide) (br_f (by decide) (br_t (by decide) h))))))
    (fun h => (br_f (by decide) (br_f (by decide) (br_f (by decide) (br_f (by decide) (br_f (by decide) (br_t (by decide) h)))))))
    (fun h => (br_f (by decide) (br_f (by decide) (br_f (by decide) (br_f (by decide) (br_f (by decide) (br_f (by decide) (br_t (by decide) h))))))))
    (fun h => (br_f (by decide) (br_f (by decide) (br_f (by decide) (br_f (by decide) (br_f (by decide) (br_f (by decide) (br_f (by decide) (br_t (by decide) h)))))))))
    (fun h => (br_f (by decide) (br_f (by decide) (br_f (by decide) (br_f (by decide) (br_f (by decide) (br_f (by decide) (br_f (by decide) (br_f (by decide) (br_t (by decide) h))))))))))
    (fun h => (br_f (by decide) (br_f (by decide) (br_f (by decide) (br_f (by decide) (br_f (by decide) (br_f (by decide) (br_f (by decide) (br_f (by decide) (br_f (by decide) (br_t (by decide) h)))))))))))
    (fun h => (br_f (by decide) (br_f (by decide) (br_f (by decide) (br_f (by decide) (br_f (by decide) (br_f (by decide) (br_f (by decide) (br_f (by decide) (br_f (by decide) (br_f (by decide) (br_t (by decide) h))))))))))))
    (fun h => (br_f (by decide) (br_f (by decide) (br_f (by decide) (br_f (by decide) (br_f (by decide) (br_f (by decide) (br_f (by decide) (br_f (by decide) (br_f (by decide) (br_f (by decide) (br_f (by decide) (br_t (by decide) h)))))))))))))
    (fun h => (br_f (by decide) (br_f (by decide) (br_f (by decide) (br_f (by decide) (br_f (by decide) (br_f (by decide) (br_f (by decide) (br_f (by decide) (br_f (by decide) (br_f (by decide) (br_f (by decide) (br_f (by decide) (br_t (by decide) h))))))))))))))
    (fun h => (br_f (by decide) (br_f (by decide) (br_f (by decide) (br_f (by decide) (br_f (by decide) (br_f (by decide) (br_f (by decide) (br_f (by decide) (br_f (by decide) (br_f (by decide) (br_f (by decide) (br_f (by decide) (br_f (by decide) (br_t (by decide) h)))))))))))))))
    (fun h => (br_f (by decide) (br_f (by decide) (br_f (by decide) (br_f (by decide) (br_f (by decide) (br_f (by decide) (br_f (by decide) (br_f (by decide) (br_f (by decide) (br_f (by decide) (br_f (by decide) (br_f (by decide) (br_f (by decide) (br_f (by decide) (br_t (by decide) h))))))))))))))))
    (fun h => (br_f (by decide) (br_f (by decide) (br_f (by decide) (br_f (by decide) (br_f (by decide) (br_f (by decide) (br_f (by decide) (br_f (by decide) (br_f (by decide) (br_f (by decide) (br_f (by decide) (br_f (by decide) (br_f (by decide) (br_f (by decide) (br_f (by decide) (br_t (by decide) h)))))))))))))))))
    (fun h => (br_f (by decide) (br_f (by decide) (br_f (by decide) (br_f (by decide) (br_f (by decide) (br_f (by decide) (br_f (by decide) (br_f (by decide) (br_f (by decide) (br_f (by decide) (br_f (by decide) (br_f (by decide) (br_f (by decide) (br_f (by decide) (br_f (by decide) (br_f (by decide) (br_t (by decide) h))))))))))))))))))
    (fun h => (br_f (by decide) (br_f (by decide) (br_f (by decide) (br_f (by decide) (br_f (by decide) (br_f (by decide) (br_f (by decide) (br_f (by decide) (br_f (by decide) (br_f (by decide) (br_f (by decide) (br_f (by decide) (br_f (by decide) (br_f (by decide) (br_f (by decide) (br_f (by decide) (br_f (by decide) (br_t (by decide) h)))))))))))))))))))
    (fun h => (br_f (by decide) (br_f (by decide) (br_f (by decide) (br_f (by decide) (br_f (by decide) (br_f (by decide) (br_f (by decide) (br_f (by decide) (br_f (by decide) (br_f (by decide) (br_f (by decide) (br_f (by decide) (br_f (by decide) (br_f (by decide) (br_f (by decide) (br_f (by decide) (br_f (by decide) (br_f (by decide) (br_t (by decide) h))))))))))))))))))))
    (fun h => (br_f (by decide) (br_f (by decide) (br_f (by decide) (br_f (by decide) (br_f (by decide) (br_f (by decide) (br_f (by decide) (br_f (by decide) (br_f (by decide) (br_f (by decide) (br_f (by decide) (br_f (by decide) (br_f (by decide) (br_f (by decide) (br_f (by decide) (br_f (by decide) (br_f (by decide) (br_f (by decide) (br_f (by decide) (br_t (by decide) h)))))))))))))))))))))
    (fun h => (br_f (by decide) (br_f (by decide) (br_f (by decide) (br_f (by decide) (br_f (by decide) (br_f (by decide) (br_f (by decide) (br_f (by decide) (br_f (by decide) (br_f (by decide) (br_f (by decide) (br_f (by decide) (br_f (by decide) (br_f (by decide) (br_f (by decide) (br_f (by decide) (br_f (by decide) (br_f (by decide) (br_f (by decide) (br_f (by decide) (br_t (by decide) h))))))))))))))))))))))
    o ho h
theorem xw_adds {post : Int32 → Prop} {o : Nat} (ho : o < 24) (h : post (nI (zc_ad o))) : wpX_adds post (nI o) :=
  zc_24 (P := fun o => post (nI (zc_ad o)) → wpX_adds post (nI o))
    (fun h => (br_t (by decide) h))
    (fun h => (br_t (by decide) h))
    (fun h => (br_t (by decide) h))
    (fun h => (br_t (by decide) h))
    (fun h => (br_t (by decide) h))
    (fun h => (br_t (by decide) h))
    (fun h => (br_t (by decide) h))
    (fun h => (br_f (by decide) (br_f (by decide) (br_t (by decide) h))))
    (fun h => (br_f (by decide) (br_f (by decide) (br_f (by decide) (br_t (by decide) h)))))
    (fun h => (br_f (by decide) (br_f (by decide) (br_f (by decide) (br_f (by decide) (br_t (by decide) h))))))
    (fun h => (br_f (by decide) (br_f (by decide) (br_f (by decide) (br_f (by decide) (br_f (by decide) (br_t (by decide) h)))))))
    (fun h => (br_f (by decide) (br_f (by decide) (br_f (by decide) (br_f (by decide) (br_f (by decide) (br_f (by decide) (br_t (by decide) h))))))))
    (fun h => (br_f (by decide) (br_f (by decide) (br_f (by decide) (br_f (by decide) (br_f (by decide) (br_f (by decide) (br_f (by decide) (br_t (by decide) h)))))))))
    (fun h => (br_f (by decide) (br_f (by decide) (br_f (by decide) (br_f (by decide) (br_f (by decide) (br_f (by decide) (br_f (by decide) (br_f (by decide) (br_t (by decide) h))))))))))
    (fun h => (br_f (by decide) (br_f (by decide) (br_f (by decide) (br_f (by decide) (br_f (by decide) (br_f (by decide) (br_f (by decide) (br_f (by decide) (br_f (by decide) (br_t (by decide) h)))))))))))
    (fun h => (br_f (by decide) (br_f (by decide) (br_f (by decide) (br_f (by decide) (br_f (by decide) (br_f (by decide) (br_f (by decide) (br_f (by decide) (br_f (by decide) (br_f (by decide) (br_t (by decide) h))))))))))))
    (fun h => (br_f (by decide) (br_f (by decide) (br_f (by decide) (br_f (by decide) (br_f (by decide) (br_f (by decide) (br_f (by decide) (br_f (by decide) (br_f (by decide) (br_f (by decide) (br_f (by decide) (br_t (by decide) h)))))))))))))
    (fun h => (br_f (by decide) (br_f (by decide) (br_f (by decide) (br_f (by decide) (br_f (by decide) (br_f (by decide) (br_f (by decide) (br_f (by decide) (br_f (by decide) (br_f (by decide) (br_f (by decide) (br_f (by decide) (br_t (by decide) h))))))))))))))
    (fun h => (br_f (by decide) (br_f (by decide) (br_f (by decide) (br_f (by decide) (br_f (by decide) (br_f (by decide) (br_f (by decide) (br_f (by decide) (br_f (by decide) (br_f (by decide) (br_f (by decide) (br_f (by decide) (br_f (by decide) (br_t (by decide) h)))))))))))))))
    (fun h => (br_f (by decide) (br_f (by decide) (br_f (by decide) (br_f (by decide) (br_f (by decide) (br_f (by decide) (br_f (by decide) (br_f (by decide) (br_f (by decide) (br_f (by decide) (br_f (by decide) (br_f (by decide) (br_f (by decide) (br_f (by decide) (br_t (by decide) h))))))))))))))))
    (fun h => (br_f (by decide) (br_f (by decide) (br_f (by decide) (br_f (by decide) (br_f (by decide) (br_f (by decide) (br_f (by decide) (br_f (by decide) (br_f (by decide) (br_f (by decide) (br_f (by decide) (br_f (by decide) (br_f (by decide) (br_f (by decide) (br_f (by decide) (br_t (by decide) h)))))))))))))))))
    (fun h => (br_f (by decide) (br_f (by decide) (br_f (by decide) (br_f (by decide) (br_f (by decide) (br_f (by decide) (br_f (by decide) (br_f (by decide) (br_f (by decide) (br_f (by decide) (br_f (by decide) (br_f (by decide) (br_f (by decide) (br_f (by decide) (br_f (by decide) (br_f (by decide) (br_t (by decide) h))))))))))))))))))
    (fun h => (br_f (by decide) (br_f (by decide) (br_f (by decide) (br_f (by decide) (br_f (by decide) (br_f (by decide) (br_f (by decide) (br_f (by decide) (br_f (by decide) (br_f (by decide) (br_f (by decide) (br_f (by decide) (br_f (by decide) (br_f (by decide) (br_f (by decide) (br_f (by decide) (br_f (by decide) (br_t (by decide) h)))))))))))))))))))
    (fun h => (br_f (by decide) (br_f (by decide) (br_f (by decide) (br_f (by decide) (br_f (by decide) (br_f (by decide) (br_f (by decide) (br_f (by decide) (br_f (by decide) (br_f (by decide) (br_f (by decide) (br_f (by decide) (br_f (by decide) (br_f (by decide) (br_f (by decide) (br_f (by decide) (br_f (by decide) (br_f (by decide) (br_t (by decide) h))))))))))))))))))))
    o ho h
theorem xw_closes {post : Int32 → Prop} {o : Nat} (ho : o < 24) (h : post (nI (zc_cl o))) : wpX_closes post (nI o) :=
  zc_24 (P := fun o => post (nI (zc_cl o)) → wpX_closes post (nI o))
    (fun h => (br_t (by decide) (br_f (by decide) h)))
    (fun h => (br_t (by decide) (br_f (by decide) h)))
    (fun h => (br_t (by decide) (br_f (by decide) h)))
    (fun h => (br_t (by decide) (br_f (by decide) h)))
    (fun h => (br_t (by decide) (br_f (by decide) h)))
    (fun h => (br_t (by decide) (br_f (by decide) h)))
    (fun h => (br_t (by decide) (br_f (by decide) h)))
    (fun h => (br_t (by decide) (br_f (by decide) h)))
    (fun h => (br_t (by decide) (br_f (by decide) h)))
    (fun h => (br_t (by decide) (br_f (by decide) h)))
    (fun h => (br_t (by decide) (br_f (by decide) h)))
    (fun h => (br_t (by decide) (br_f (by decide) h)))
    (fun h => (br_t (by decide) (br_f (by decide) h)))
    (fun h => (br_t (by decide) (br_f (by decide) h)))
    (fun h => (br_t (by decide) (br_f (by decide) h)))
    (fun h => (br_t (by decide) (br_f (by decide) h)))
    (fun h => (br_f (by decide) (br_t (by decide) h)))
    (fun h => (br_f (by decide) (br_t (by decide) h)))
    (fun h => (br_f (by decide) (br_t (by decide) h)))
    (fun h => (br_f (by decide) (br_t (by decide) h)))
    (fun h => (br_f (by decide) (br_t (by decide) h)))
    (fun h => (br_f (by decide) (br_f (by decide) (br_f (by decide) h))))
    (fun h => (br_f (by decide) (br_f (by decide) (br_t (by decide) h))))
    (fun h => (br_f (by decide) (br_f (by decide) (br_f (by decide) h))))
    o ho h
theorem yw_takes {post : Int32 → Prop} {o : Nat} (ho : o < 24) (h : post (nI (zc_tk o))) : wpY_takes post (nI o) :=
  zc_24 (P := fun o => post (nI (zc_tk o)) → wpY_takes post (nI o))
    (fun h => (br_t (by decide) (br_f (by decide) (br_f (by decide) (br_f (by decide) (br_f (by decide) (br_f (by decide) (br_f (by decide) (br_f (by decide) (br_f (by decide) (br_t (by decide) h)))))))))))
    (fun h => (br_t (by decide) (br_f (by decide) (br_f (by decide) (br_f (by decide) (br_f (by decide) (br_f (by decide) (br_f (by decide) (br_f (by decide) (br_f (by decide) (br_t (by decide) h)))))))))))
    (fun h => (br_t (by decide) (br_f (by decide) (br_f (by decide) (br_f (by decide) (br_f (by decide) (br_f (by decide) (br_f (by decide) (br_f (by decide) (br_f (by decide) (br_t (by decide) h)))))))))))
    (fun h => (br_t (by decide) (br_f (by decide) (br_f (by decide) (br_f (by decide) (br_f (by decide) (br_f (by decide) (br_f (by decide) (br_f (by decide) (br_f (by decide) (br_t (by decide) h)))))))))))
    (fun h => (br_t (by decide) (br_f (by decide) (br_f (by decide) (br_f (by decide) (br_f (by decide) (br_f (by decide) (br_f (by decide) (br_f (by decide) (br_f (by decide) (br_t (by decide) h)))))))))))
    (fun h => (br_t (by decide) (br_f (by decide) (br_f (by decide) (br_f (by decide) (br_t (by decide) h))))))
    (fun h => (br_t (by decide) (br_f (by decide) (br_f (by decide) (br_f (by decide) (br_f (by decide) (br_f (by decide) (br_f (by decide) (br_f (by decide) (br_f (by decide) (br_t (by decide) h)))))))))))
    (fun h => (br_t (by decide) (br_f (by decide) (br_f (by decide) (br_f (by decide) (br_f (by decide) (br_t (by decide) h)))))))
    (fun h => (br_f (by decide) (br_t (by decide) h)))
    (fun h => (br_f (by decide) (br_t (by decide) h)))
    (fun h => (br_f (by decide) (br_t (by decide) h)))
    (fun h => (br_f (by decide) (br_t (by decide) h)))
    (fun h => (br_f (by decide) (br_t (by decide) h)))
    (fun h => (br_f (by decide) (br_f (by decide) (br_f (by decide) (br_f (by decide) (br_f (by decide) (br_f (by decide) (br_f (by decide) (br_t (by decide) h)))))))))
    (fun h => (br_f (by decide) (br_f (by decide) (br_f (by decide) (br_f (by decide) (br_f (by decide) (br_f (by decide) (br_f (by decide) (br_f (by decide) (br_t (by decide) h))))))))))
    (fun h => (br_f (by decide) (br_f (by decide) (br_t (by decide) h))))
    (fun h => (br_f (by decide) (br_f (by decide) (br_f (by decide) (br_f (by decide) (br_f (by decide) (br_f (by decide) (br_f (by decide) (br_f (by decide) (br_f (by decide) (br_f (by decide) (br_t (by decide) h))))))))))))
    (fun h => (br_f (by decide) (br_f (by decide) (br_f (by decide) (br_f (by decide) (br_f (by decide) (br_f (by decide) (br_f (by decide) (br_f (by decide) (br_f (by decide) (br_t (by decide) h)))))))))))
    (fun h => (br_f (by decide) (br_f (by decide) (br_f (by decide) (br_t (by decide) h)))))
    (fun h => (br_f (by decide) (br_f (by decide) (br_f (by decide) (br_f (by decide) (br_f (by decide) (br_f (by decide) (br_f (by decide) (br_f (by decide) (br_f (by decide) (br_f (by decide) (br_f (by decide) (br_f (by decide) h)))))))))))))
    (fun h => (br_f (by decide) (br_f (by decide) (br_f (by decide) (br_f (by decide) (br_f (by decide) (br_f (by decide) (br_f (by decide) (br_f (by decide) (br_f (by decide) (br_f (by decide) (br_f (by decide) (br_f (by decide) h)))))))))))))
    (fun h => (br_f (by decide) (br_f (by decide) (br_f (by decide) (br_f (by decide) (br_f (by decide) (br_f (by decide) (br_f (by decide) (br_f (by decide) (br_f (by decide) (br_f (by decide) (br_f (by decide) (br_f (by decide) h)))))))))))))
    (fun h => (br_f (by decide) (br_f (by decide) (br_f (by decide) (br_f (by decide) (br_f (by decide) (br_f (by decide) (br_f (by decide) (br_f (by decide) (br_f (by decide) (br_f (by decide) (br_f (by decide) (br_t (by decide) h)))))))))))))
    (fun h => (br_f (by decide) (br_f (by decide) (br_f (by decide) (br_f (by decide) (br_t (by decide) h))))))
    o ho h
theorem yw_adds {post : Int32 → Prop} {o : Nat} (ho : o < 24) (h : post (nI (zc_ad o))) : wpY_adds post (nI o) :=
  zc_24 (P := fun o => post (nI (zc_ad o)) → wpY_adds post (nI o))
    (fun h => (br_f (by decide) (br_f (by decide) (br_f (by decide) (br_f (by decide) (br_f (by decide) (br_f (by decide) (br_f (by decide) (br_t (by decide) (br_f (by decide) h))))))))))
    (fun h => (br_f (by decide) (br_f (by decide) (br_f (by decide) (br_f (by decide) (br_f (by decide) (br_f (by decide) (br_f (by decide) (br_t (by decide) (br_f (by decide) h))))))))))
    (fun h => (br_f (by decide) (br_f (by decide) (br_f (by decide) (br_f (by decide) (br_f (by decide) (br_f (by decide) (br_f (by decide) (br_t (by decide) (br_f (by decide) h))))))))))
    (fun h => (br_f (by decide) (br_f (by decide) (br_f (by decide) (br_f (by decide) (br_f (by decide) (br_f (by decide) (br_f (by decide) (br_t (by decide) (br_f (by decide) h))))))))))
    (fun h => (br_f (by decide) (br_f (by decide) (br_f (by decide) (br_f (by decide) (br_f (by decide) (br_f (by decide) (br_f (by decide) (br_t (by decide) (br_f (by decide) h))))))))))
    (fun h => (br_f (by decide) (br_f (by decide) (br_f (by decide) (br_f (by decide) (br_f (by decide) (br_f (by decide) (br_f (by decide) (br_t (by decide) (br_f (by decide) h))))))))))
    (fun h => (br_f (by decide) (br_f (by decide) (br_f (by decide) (br_f (by decide) (br_f (by decide) (br_f (by decide) (br_f (by decide) (br_t (by decide) (br_f (by decide) h))))))))))
    (fun h => (br_f (by decide) (br_f (by decide) (br_f (by decide) (br_t (by decide) h)))))
    (fun h => (br_f (by decide) (br_f (by decide) (br_f (by decide) (br_f (by decide) (br_f (by decide) (br_f (by decide) (br_f (by decide) (br_t (by decide) (br_f (by decide) h))))))))))
    (fun h => (br_f (by decide) (br_f (by decide) (br_f (by decide) (br_f (by decide) (br_f (by decide) (br_f (by decide) (br_f (by decide) (br_t (by decide) (br_f (by decide) h))))))))))
    (fun h => (br_f (by decide) (br_f (by decide) (br_f (by decide) (br_f (by decide) (br_f (by decide) (br_f (by decide) (br_f (by decide) (br_t (by decide) (br_f (by decide) h))))))))))
    (fun h => (br_f (by decide) (br_f (by decide) (br_f (by decide) (br_f (by decide) (br_f (by decide) (br_f (by decide) (br_f (by decide) (br_t (by decide) (br_f (by decide) h))))))))))
    (fun h => (br_f (by decide) (br_f (by decide) (br_f (by decide) (br_f (by decide) (br_f (by decide) (br_f (by decide) (br_f (by decide) (br_t (by decide) (br_f (by decide) h))))))))))
    (fun h => (br_t (by decide) h))
    (fun h => (br_f (by decide) (br_f (by decide) (br_f (by decide) (br_f (by decide) (br_t (by decide) h))))))
    (fun h => (br_f (by decide) (br_t (by decide) h)))
    (fun h => (br_f (by decide) (br_f (by decide) (br_f (by decide) (br_f (by decide) (br_f (by decide) (br_t (by decide) h)))))))
    (fun h => (br_f (by decide) (br_f (by decide) (br_f (by decide) (br_f (by decide) (br_f (by decide) (br_f (by decide) (br_t (by decide) h))))))))
    (fun h => (br_f (by decide) (br_f (by decide) (br_t (by decide) h))))
    (fun h => (br_f (by decide) (br_f (by decide) (br_f (by decide) (br_f (by decide) (br_f (by decide) (br_f (by decide) (br_f (by decide) (br_f (by decide) (br_t (by decide) h))))))))))
    (fun h => (br_f (by decide) (br_f (by decide) (br_f (by decide) (br_f (by decide) (br_f (by decide) (br_f (by decide) (br_f (by decide) (br_f (by decide) (br_t (by decide) h))))))))))
    (fun h => (br_f (by decide) (br_f (by decide) (br_f (by decide) (br_f (by decide) (br_f (by decide) (br_f (by decide) (br_f (by decide) (br_f (by decide) (br_t (by decide) h))))))))))
    (fun h => (br_f (by decide) (br_f (by decide) (br_f (by decide) (br_f (by decide) (br_f (by decide) (br_f (by decide) (br_f (by decide) (br_f (by decide) (br_f (by decide) (br_f (by decide) h)))))))))))
    (fun h => (br_f (by decide) (br_f (by decide) (br_f (by decide) (br_f (by decide) (br_f (by decide) (br_f (by decide) (br_f (by decide) (br_f (by decide) (br_f (by decide) (br_t (by decide) h)))))))))))
    o ho h

section
variable {x_limit x_pending x_journal x_refund x_mails x_ring x_kept x_version x_events x_depth x_self x_left x_pc x_sp x_base x_lastStatus x_lastResult x_lastUsed x_lastCalls : Int32} {x_digest x_warm : Int64} {x_op x_arg x_length x_blockLength x_blockCost x_blockMost x_blockNeed x_blockRise x_state x_journalCell x_journalOld x_mailTo x_mailFrom x_mailAmount x_mailArg x_oldCell x_oldValue x_oldCount x_eventAccount x_eventTag x_eventValue x_frameSelf x_frameCaller x_frameAmount x_frameArg x_frameGiven x_frameLeft x_framePc x_frameSp x_frameJournal x_frameEvents x_frameRefund x_frameMails x_stack : Nat → Int32} {x_weight x_oldDigest x_frameWarm : Nat → Int64}
variable {y_limit y_eventCount y_waiting y_refund y_depth y_ended y_answer y_rest y_begun y_result y_used y_calls y_version y_kept : Int32} {y_ops y_bs y_lengths y_now y_copies y_older y_before y_warm y_warmCopies y_eventCopies y_messageCopies y_refundCopies y_events y_messages y_self y_caller y_amounts y_arguments y_given y_left y_at y_tops y_stack : Nat → Int32}
theorem yw_costs {post : Int32 → Prop} {c : Nat} (hc : c < 24) (w : Bool) (hw : y_warm c = if w = true then 1 else 0) {o : Nat} (ho : o < 24) (h : post (nI (zc_cst o + zc_cc o w))) : wpY_costs post (y_limit, y_eventCount, y_waiting, y_refund, y_depth, y_ended, y_answer, y_rest, y_begun, y_result, y_used, y_calls, y_version, y_kept, x_op, x_arg, y_lengths, y_now, y_copies, y_older, y_before, y_warm, y_warmCopies, y_eventCopies, y_messageCopies, y_refundCopies, y_events, y_messages, y_self, y_caller, y_amounts, y_arguments, y_given, y_left, y_at, y_tops, y_stack) (nI o) (nI c) := by
  have hin : vp_in (nI c) 24 := vp_in_nI hc (by omega)
  have hcl : (nI c).toNatClampNeg = c := nI_clamp (by omega)
  refine zc_24 (P := fun o => post (nI (zc_cst o + zc_cc o w)) → wpY_costs post (y_limit, y_eventCount, y_waiting, y_refund, y_depth, y_ended, y_answer, y_rest, y_begun, y_result, y_used, y_calls, y_version, y_kept, x_op, x_arg, y_lengths, y_now, y_copies, y_older, y_before, y_warm, y_warmCopies, y_eventCopies, y_messageCopies, y_refundCopies, y_events, y_messages, y_self, y_caller, y_amounts, y_arguments, y_given, y_left, y_at, y_tops, y_stack) (nI o) (nI c))
    (fun h => (br_t (by decide) h))
    (fun h => (br_t (by decide) h))
    (fun h => (br_t (by decide) h))
    (fun h => (br_t (by decide) h))
    (fun h => (br_t (by decide) h))
    (fun h => (br_f (by decide) (br_f (by decide) (br_t (by decide) h))))
    (fun h => (br_f (by decide) (br_f (by decide) (br_f (by decide) (br_t (by decide) ⟨hin, by rw [hcl, hw]; cases w <;> first | exact br_t (by decide) h | exact br_f (by decide) h⟩)))))
    (fun h => (br_f (by decide) (br_f (by decide) (br_f (by decide) (br_f (by decide) (br_t (by decide) ⟨hin, by rw [hcl, hw]; cases w <;> first | exact br_t (by decide) h | exact br_f (by decide) h⟩))))))
    (fun h => (br_f (by decide) (br_f (by decide) (br_f (by decide) (br_f (by decide) (br_f (by decide) (br_t (by decide) h)))))))
    (fun h => (br_f (by decide) (br_f (by decide) (br_f (by decide) (br_f (by decide) (br_f (by decide) (br_f (by decide) (br_t (by decide) h))))))))
    (fun h => (br_f (by decide) (br_f (by decide) (br_f (by decide) (br_f (by decide) (br_f (by decide) (br_f (by decide) (br_f (by decide) (br_t (by decide) h)))))))))
    (fun h => (br_f (by decide) (br_f (by decide) (br_f (by decide) (br_f (by decide) (br_f (by decide) (br_f (by decide) (br_f (by decide) (br_f (by decide) (br_t (by decide) h))))))))))
    (fun h => (br_f (by decide) (br_f (by decide) (br_f (by decide) (br_f (by decide) (br_f (by decide) (br_f (by decide) (br_f (by decide) (br_f (by decide) (br_f (by decide) (br_t (by decide) h)))))))))))
    (fun h => (br_f (by decide) (br_f (by decide) (br_f (by decide) (br_f (by decide) (br_f (by decide) (br_f (by decide) (br_f (by decide) (br_f (by decide) (br_f (by decide) (br_f (by decide) (br_t (by decide) h))))))))))))
    (fun h => (br_f (by decide) (br_f (by decide) (br_f (by decide) (br_f (by decide) (br_f (by decide) (br_f (by decide) (br_f (by decide) (br_f (by decide) (br_f (by decide) (br_f (by decide) (br_f (by decide) (br_t (by decide) h)))))))))))))
    (fun h => (br_f (by decide) (br_f (by decide) (br_f (by decide) (br_f (by decide) (br_f (by decide) (br_f (by decide) (br_f (by decide) (br_f (by decide) (br_f (by decide) (br_f (by decide) (br_f (by decide) (br_f (by decide) (br_t (by decide) h))))))))))))))
    (fun h => (br_f (by decide) (br_f (by decide) (br_f (by decide) (br_f (by decide) (br_f (by decide) (br_f (by decide) (br_f (by decide) (br_f (by decide) (br_f (by decide) (br_f (by decide) (br_f (by decide) (br_f (by decide) (br_f (by decide) (br_t (by decide) h)))))))))))))))
    (fun h => (br_f (by decide) (br_f (by decide) (br_f (by decide) (br_f (by decide) (br_f (by decide) (br_f (by decide) (br_f (by decide) (br_f (by decide) (br_f (by decide) (br_f (by decide) (br_f (by decide) (br_f (by decide) (br_f (by decide) (br_f (by decide) (br_t (by decide) h))))))))))))))))
    (fun h => (br_f (by decide) (br_f (by decide) (br_f (by decide) (br_f (by decide) (br_f (by decide) (br_f (by decide) (br_f (by decide) (br_f (by decide) (br_f (by decide) (br_f (by decide) (br_f (by decide) (br_f (by decide) (br_f (by decide) (br_f (by decide) (br_f (by decide) (br_t (by decide) h)))))))))))))))))
    (fun h => (br_f (by decide) (br_f (by decide) (br_f (by decide) (br_f (by decide) (br_f (by decide) (br_f (by decide) (br_f (by decide) (br_f (by decide) (br_f (by decide) (br_f (by decide) (br_f (by decide) (br_f (by decide) (br_f (by decide) (br_f (by decide) (br_f (by decide) (br_f (by decide) (br_t (by decide) h))))))))))))))))))
    (fun h => (br_f (by decide) (br_f (by decide) (br_f (by decide) (br_f (by decide) (br_f (by decide) (br_f (by decide) (br_f (by decide) (br_f (by decide) (br_f (by decide) (br_f (by decide) (br_f (by decide) (br_f (by decide) (br_f (by decide) (br_f (by decide) (br_f (by decide) (br_f (by decide) (br_f (by decide) (br_t (by decide) h)))))))))))))))))))
    (fun h => (br_f (by decide) (br_f (by decide) (br_f (by decide) (br_f (by decide) (br_f (by decide) (br_f (by decide) (br_f (by decide) (br_f (by decide) (br_f (by decide) (br_f (by decide) (br_f (by decide) (br_f (by decide) (br_f (by decide) (br_f (by decide) (br_f (by decide) (br_f (by decide) (br_f (by decide) (br_f (by decide) (br_t (by decide) h))))))))))))))))))))
    (fun h => (br_f (by decide) (br_f (by decide) (br_f (by decide) (br_f (by decide) (br_f (by decide) (br_f (by decide) (br_f (by decide) (br_f (by decide) (br_f (by decide) (br_f (by decide) (br_f (by decide) (br_f (by decide) (br_f (by decide) (br_f (by decide) (br_f (by decide) (br_f (by decide) (br_f (by decide) (br_f (by decide) (br_f (by decide) (br_t (by decide) h)))))))))))))))))))))
    (fun h => (br_f (by decide) (br_f (by decide) (br_f (by decide) (br_f (by decide) (br_f (by decide) (br_f (by decide) (br_f (by decide) (br_f (by decide) (br_f (by decide) (br_f (by decide) (br_f (by decide) (br_f (by decide) (br_f (by decide) (br_f (by decide) (br_f (by decide) (br_f (by decide) (br_f (by decide) (br_f (by decide) (br_f (by decide) (br_f (by decide) (br_t (by decide) h))))))))))))))))))))))

    o ho h
theorem yw_isAcc {post : Int32 → Prop} {x : Int32} (h1 : ∀ a : Nat, a < 6 → x = nI a → post 1) (h0 : (x < 0 ∨ 6 ≤ x) → post 0) : wpY_isAccount post x := by
  rcases pk_ix x (n := 6) (by omega) with h | h | ⟨j, hj, rfl⟩
  · exact br_t h (h0 (Or.inl h))
  · have h' : (6 : Int32) ≤ x := h
    exact br_c (fun _ => h0 (Or.inr h')) (fun _ => br_t h' (h0 (Or.inr h')))
  · exact br_f (nI_pos (by omega)) (br_f (nI_ge (b := 6) hj (by decide)) (h1 j hj rfl))
theorem xw_outside {post : Int32 → Prop} {x y : Int32} (h0 : ¬ x < 0 → x < y → post 0) (h1 : (x < 0 ∨ ¬ x < y) → post 1) : wpX_outside post x y := by
  refine br_c (fun hx => ?_) (fun hx => ?_)
  · have hx' : ¬ x < 0 := Int32.not_lt.mpr hx
    exact br_c (fun hy => ⟨rfl, h0 hx' hy⟩) (fun hy => ⟨rfl, h1 (Or.inr hy)⟩)
  · have hx' : x < 0 := Int32.not_le.mp hx
    exact br_c (fun hy => ⟨rfl, h1 (Or.inl hx')⟩) (fun hy => ⟨rfl, h1 (Or.inl hx')⟩)
/-- outside, against a natural bound -/
theorem xw_outN {post : Int32 → Prop} {x : Int32} {n : Nat} (hn : n < 2 ^ 31) (h0 : ∀ a : Nat, a < n → x = nI a → post 0) (h1 : (x < 0 ∨ nI n ≤ x) → post 1) : wpX_outside post x (nI n) := by
  rcases pk_ix x hn with h | h | ⟨j, hj, rfl⟩
  · exact xw_outside (fun a _ => absurd h a) (fun _ => h1 (Or.inl h))
  · exact xw_outside (fun _ b => absurd b (Int32.not_lt.mpr h)) (fun _ => h1 (Or.inr h))
  · exact xw_outside (fun _ _ => h0 j hj rfl) (fun a => a.elim (fun b => absurd b (nI_pos (by omega))) (fun b => absurd (nI_lt hj hn) b))
end
/-! narrowing -/
theorem zn_b {n : Nat} (h : n < 128) : (nI n).toInt8.toInt32 = nI n := by
  have := co_dec (N := 128) (P := fun n => (nI n).toInt8.toInt32 = nI n) (by decide +kernel) h
  exact this
theorem zn_s {n : Nat} (h : n < 1000) : (nI n).toInt16.toInt32 = nI n := by
  have := co_dec (N := 1000) (P := fun n => (nI n).toInt16.toInt32 = nI n) (by decide +kernel) h
  exact this
theorem zn_nb {n : Nat} (h : n < 128) : vp_nar .byte (nI n) = nI n := by rw [vp_nar_byte, zn_b h]
theorem zn_nbb {n : Nat} (h : n < 128) : vp_nar .byte (nI n).toInt8.toInt32 = nI n := by rw [zn_b h, zn_nb h]
theorem zn_nss {n : Nat} (h : n < 1000) : vp_nar .short (nI n).toInt16.toInt32 = nI n := by rw [vp_nar_short, zn_s h, zn_s h]
theorem zn_m1 : vp_nar .byte (-1 : Int32).toInt8.toInt32 = -1 := by rw [vp_nar_byte]; decide
theorem zn_b0 : vp_nar .boolean 0 = 0 := rfl
theorem zn_b1 : vp_nar .boolean 1 = 1 := rfl
/-! the two low bits of an argument -/
def zq_q (b : Int32) : Nat := b.toBitVec.toNat % 2 ^ 2
theorem zq_and (b : Int32) : b &&& 3 = nI (zq_q b) := pk_and b 2 (by decide)
theorem zq_lt (b : Int32) : zq_q b < 4 := Nat.mod_lt _ (by decide)
/-! Nat functions -/
def zm_u (f : Nat → Nat) (k x : Nat) : Nat → Nat := fun j => if j = k then x else f j
theorem zm_us {f : Nat → Nat} {k x : Nat} : zm_u f k x k = x := if_pos rfl
theorem zm_un {f : Nat → Nat} {k j x : Nat} (h : j ≠ k) : zm_u f k x j = f j := if_neg h
def zm_s (a : Nat → Nat) : Nat → Nat
  | 0 => 0
  | n + 1 => zm_s a n + a n
theorem zm_sc {a b : Nat → Nat} : ∀ {n : Nat}, (∀ g, g < n → a g = b g) → zm_s a n = zm_s b n
  | 0, _ => rfl
  | n + 1, h => by
    show zm_s a n + a n = zm_s b n + b n
    rw [zm_sc (n := n) (fun g hg => h g (by omega)), h n (by omega)]
theorem zm_su {a : Nat → Nat} {n x : Nat} : zm_s (zm_u a n x) n = zm_s a n := zm_sc fun g hg => zm_un (by omega)
theorem zm_su1 {a : Nat → Nat} {n x : Nat} : zm_s (zm_u a n x) (n + 1) = zm_s a n + x := by
  show zm_s (zm_u a n x) n + zm_u a n x n = _
  rw [zm_su, zm_us]
/-! updates -/
theorem zu_cc {f : Nat → Int32} {k : Nat} {x y : Int32} : upd (upd f k x) k y = upd f k y := by
  funext j; unfold upd; split <;> rfl
theorem zu_id {f : Nat → Int32} {k : Nat} : upd f k (f k) = f := by
  funext j; unfold upd; split
  · next h => rw [h]
  · rfl
theorem zu_comm {f : Nat → Int32} {k l : Nat} {x y : Int32} (h : k ≠ l) : upd (upd f k x) l y = upd (upd f l y) k x := by
  funext j; unfold upd; split
  · next h1 => rw [if_neg (by omega)]
  · rfl
end
section
/-! the store: the digest, the journal, entries of a version -/
/-- the reference's place of a number to the component's -/
def zs_px (i : Nat) : Nat := 5 * (i / 5) + (i % 5 + 1) % 5
theorem zs_px_lt {i : Nat} (h : i < 30) : zs_px i < 30 := by unfold zs_px; omega
theorem zs_px_b {a : Nat} : zs_px (5 * a + 4) = 5 * a := by unfold zs_px; omega
theorem zs_px_c {a k : Nat} (h : k < 4) : zs_px (5 * a + k) = 5 * a + 1 + k := by unfold zs_px; omega
theorem zs_px_inj {i j : Nat} (h : zs_px i = zs_px j) : i = j := by unfold zs_px at h; omega
def zs_pw : Nat → Int64
  | 0 => 1
  | n + 1 => zs_pw n * 31
def zs_H (s : Nat → Int32) : Nat → Int64
  | 0 => 1
  | n + 1 => zs_H s n * 31 + (s n).toInt64
theorem zs_r1 (a x p t : Int64) : (a + x * p) * 31 + t = a * 31 + t + x * (p * 31) := by grind
theorem zs_r2 (a v t : Int64) : a + v = a + t + (v - t) * 1 := by grind
theorem zs_H_upd (s : Nat → Int32) (c : Nat) (v : Int32) : ∀ n, zs_H (upd s c v) n = if c < n then zs_H s n + (v.toInt64 - (s c).toInt64) * zs_pw (n - 1 - c) else zs_H s n := by
  intro n
  induction n with
  | zero => rw [if_neg (by omega)]; rfl
  | succ n ih =>
    show zs_H (upd s c v) n * 31 + ((upd s c v) n).toInt64 = _
    rw [ih]
    by_cases h : c < n
    · rw [if_pos h, if_pos (by omega), pk_un (by omega)]
      have e : n + 1 - 1 - c = (n - 1 - c) + 1 := by omega
      rw [e]
      exact zs_r1 _ _ _ _
    · rw [if_neg h]
      by_cases h2 : c = n
      · subst h2
        rw [if_pos (by omega), pk_us]
        have e : c + 1 - 1 - c = 0 := by omega
        rw [e]
        exact zs_r2 _ _ _
      · rw [if_neg (by omega), pk_un (by omega)]
        rfl
def zs_W (w : Nat → Int64) : Prop := ∀ c, c < 30 → w c = zs_pw (29 - c)
theorem zs_H30 {s : Nat → Int32} {w : Nat → Int64} (hw : zs_W w) {c : Nat} (hc : c < 30) (v : Int32) : zs_H s 30 + (v.toInt64 - (s c).toInt64) * w c = zs_H (upd s c v) 30 := by
  rw [zs_H_upd, if_pos hc, hw c hc]
/-- balances are within -/
def zs_V (s : Nat → Int32) : Prop := ∀ a, a < 6 → ∃ b : Nat, b ≤ 1000000000 ∧ s (5 * a) = nI b
theorem zs_V_c {s : Nat → Int32} (h : zs_V s) {c : Nat} {v : Int32} (hv : c % 5 = 0 → ∃ b : Nat, b ≤ 1000000000 ∧ v = nI b) : zs_V (upd s c v) := by
  intro a ha
  by_cases e : 5 * a = c
  · rw [← e, pk_us]; exact hv (by omega)
  · rw [pk_un e]; exact h a ha
/-! undoing -/
def zj_U (jc jo : Nat → Int32) (t : Nat) : Nat → (Nat → Int32) → (Nat → Int32)
  | 0, s => s
  | n + 1, s => zj_U jc jo t n (upd s (jc (t + n)).toNatClampNeg (jo (t + n)))
theorem zj_U_congr {jc jo jc' jo' : Nat → Int32} {t : Nat} : ∀ {n : Nat} {s : Nat → Int32}, (∀ k, t ≤ k → k < t + n → jc' k = jc k ∧ jo' k = jo k) → zj_U jc' jo' t n s = zj_U jc jo t n s
  | 0, _, _ => rfl
  | n + 1, s, h => by
    show zj_U jc' jo' t n _ = zj_U jc jo t n _
    rw [(h (t + n) (by omega) (by omega)).1, (h (t + n) (by omega) (by omega)).2]
    exact zj_U_congr fun k h1 h2 => h k h1 (by omega)
theorem zj_U_push {jc jo : Nat → Int32} {t n J c : Nat} {s : Nat → Int32} {v : Int32} (hJ : J = t + n) (hc : c < 2 ^ 31) : zj_U (upd jc J (nI c)) (upd jo J (s c)) t (n + 1) (upd s c v) = zj_U jc jo t n s := by
  subst hJ
  show zj_U _ _ t n _ = _
  rw [pk_us, pk_us, nI_clamp hc, zu_cc, zu_id]
  exact zj_U_congr fun k h1 h2 => ⟨pk_un (by omega), pk_un (by omega)⟩
theorem zj_U_comp {jc jo : Nat → Int32} {t n : Nat} : ∀ (m : Nat) (s : Nat → Int32), zj_U jc jo t n (zj_U jc jo (t + n) m s) = zj_U jc jo t (n + m) s
  | 0, _ => rfl
  | m + 1, s => by
    show zj_U jc jo t n (zj_U jc jo (t + n) m _) = zj_U jc jo t (n + m) _
    rw [zj_U_comp m, Nat.add_assoc]
    rfl
/-- entries of the journal are cells, old balances are within -/
def zj_E (jc jo : Nat → Int32) (J : Nat) : Prop := ∀ k, k < J → ∃ c : Nat, c < 30 ∧ jc k = nI c ∧ (c % 5 = 0 → ∃ b : Nat, b ≤ 1000000000 ∧ jo k = nI b)
theorem zj_E_push {jc jo : Nat → Int32} {J c : Nat} {v : Int32} (h : zj_E jc jo J) (hc : c < 30) (hv : c % 5 = 0 → ∃ b : Nat, b ≤ 1000000000 ∧ v = nI b) : zj_E (upd jc J (nI c)) (upd jo J v) (J + 1) := by
  intro k hk
  by_cases e : k = J
  · subst e; exact ⟨c, hc, pk_us, fun z => by rw [pk_us]; exact hv z⟩
  · rw [pk_un e, pk_un e]; exact h k (by omega)
theorem zj_E_le {jc jo : Nat → Int32} {J J' : Nat} (h : zj_E jc jo J) (hJ : J' ≤ J) : zj_E jc jo J' := fun k hk => h k (by omega)
theorem zj_U_V {jc jo : Nat → Int32} {J t : Nat} (h : zj_E jc jo J) : ∀ {n : Nat} {s : Nat → Int32}, t + n ≤ J → zs_V s → zs_V (zj_U jc jo t n s)
  | 0, _, _, hs => hs
  | n + 1, s, hJ, hs => by
    obtain ⟨c, hc, e, hv⟩ := h (t + n) (by omega)
    refine zj_U_V h (n := n) (by omega) ?_
    rw [e, nI_clamp (by omega)]
    exact zs_V_c hs hv
theorem zj_U_at {jc jo : Nat → Int32} {t : Nat} : ∀ {n : Nat} {s s' : Nat → Int32} {c : Nat}, s c = s' c → zj_U jc jo t n s c = zj_U jc jo t n s' c
  | 0, _, _, _, h => h
  | n + 1, s, s', c, h => by
    refine zj_U_at (n := n) ?_
    by_cases e : c = (jc (t + n)).toNatClampNeg
    · rw [e, pk_us, pk_us]
    · rw [pk_un e, pk_un e, h]
/-- a write of a cell that the journal holds is lost -/
theorem zj_U_in {jc jo : Nat → Int32} {t : Nat} {c : Nat} {v : Int32} : ∀ {n : Nat} {s : Nat → Int32}, (∃ k, k < n ∧ (jc (t + k)).toNatClampNeg = c) → zj_U jc jo t n (upd s c v) = zj_U jc jo t n s
  | 0, _, h => by obtain ⟨k, hk, _⟩ := h; omega
  | n + 1, s, h => by
    show zj_U jc jo t n _ = zj_U jc jo t n _
    by_cases e : (jc (t + n)).toNatClampNeg = c
    · rw [e, zu_cc]
    · rw [zu_comm (fun z => e z.symm)]
      refine zj_U_in ?_
      obtain ⟨k, hk, hc⟩ := h
      refine ⟨k, ?_, hc⟩
      by_cases e2 : k = n
      · subst e2; exact absurd hc e
      · omega
theorem zj_U_out {jc jo : Nat → Int32} {t : Nat} {c : Nat} {v : Int32} : ∀ {n : Nat} {s : Nat → Int32}, (∀ k, k < n → (jc (t + k)).toNatClampNeg ≠ c) → zj_U jc jo t n (upd s c v) = upd (zj_U jc jo t n s) c v
  | 0, _, _ => rfl
  | n + 1, s, h => by
    show zj_U jc jo t n _ = upd (zj_U jc jo t n _) c v
    rw [zu_comm (fun z => h n (by omega) z.symm)]
    exact zj_U_out fun k hk => h k (by omega)
/-! a version's entries -/
def zv_A (oc ov : Nat → Int32) (b : Nat) : Nat → (Nat → Int32) → (Nat → Int32)
  | 0, s => s
  | n + 1, s => upd (zv_A oc ov b n s) (oc (b + n)).toNatClampNeg (ov (b + n))
theorem zv_A_congr {oc ov oc' ov' : Nat → Int32} {b : Nat} {s : Nat → Int32} : ∀ {n : Nat}, (∀ k, b ≤ k → k < b + n → oc' k = oc k ∧ ov' k = ov k) → zv_A oc' ov' b n s = zv_A oc ov b n s
  | 0, _ => rfl
  | n + 1, h => by
    show upd (zv_A oc' ov' b n s) _ _ = upd (zv_A oc ov b n s) _ _
    rw [(h (b + n) (by omega) (by omega)).1, (h (b + n) (by omega) (by omega)).2, zv_A_congr (n := n) fun k h1 h2 => h k h1 (by omega)]
theorem zv_A_push {oc ov : Nat → Int32} {b n c : Nat} {v : Int32} {s : Nat → Int32} (hc : c < 2 ^ 31) : zv_A (upd oc (b + n) (nI c)) (upd ov (b + n) v) b (n + 1) s = upd (zv_A oc ov b n s) c v := by
  show upd (zv_A _ _ b n s) _ _ = _
  rw [pk_us, pk_us, nI_clamp hc, zv_A_congr (n := n) fun k h1 h2 => ⟨pk_un (by omega), pk_un (by omega)⟩]
end
section
/-! the relation, part by part -/
def zb_o (op : Nat → Int32) (k : Nat) : Nat := (op k).toNatClampNeg
def zb_O (op : Nat → Int32) : Prop := ∀ k, k < 168 → op k = nI (zb_o op k) ∧ zb_o op k < 24
def zb_sc (op : Nat → Int32) (i : Nat) : Nat → Nat
  | 0 => 0
  | t + 1 => zb_sc op i t + zc_cst (zb_o op (i + t))
def zb_sm (op : Nat → Int32) (i : Nat) : Nat → Nat
  | 0 => 0
  | t + 1 => zb_sm op i t + zc_mx (zb_o op (i + t))
def zb_hs (op : Nat → Int32) (i : Nat) : Nat → Int
  | 0 => 0
  | t + 1 => zb_hs op i t - (zc_tk (zb_o op (i + t)) : Int) + (zc_ad (zb_o op (i + t)) : Int)
/-- heights fit from i on, l instructions, for a height with need nd and rise rs -/
def zb_HO (op : Nat → Int32) (i l nd rs : Nat) : Prop := ∀ h : Nat, nd ≤ h → h + rs ≤ 6 → ∀ t, t < l → (zc_tk (zb_o op (i + t)) : Int) ≤ (h : Int) + zb_hs op i t ∧ (h : Int) + zb_hs op i (t + 1) ≤ 6
def zb_K (op arg : Nat → Int32) (n i k l c m nd rs : Nat) : Prop :=
  k + l ≤ n ∧ (∀ t, t + 1 < l → zc_cl (zb_o op (i + t)) = 0) ∧ c = zb_sc op i l ∧ m = c + zb_sm op i l ∧ zb_HO op i l nd rs ∧
  (zb_o op (i + l - 1) = 16 ∨ zb_o op (i + l - 1) = 19 ∨ zb_o op (i + l - 1) = 20 ∨ k + l < n) ∧
  ((zb_o op (i + l - 1) = 16 ∨ zb_o op (i + l - 1) = 17) → ∃ j, j < n ∧ arg (i + l - 1) = nI j)
def zb_B (op arg bl bc bm bn br : Nat → Int32) (n i k : Nat) : Prop :=
  bl i = 0 ∨ ∃ l c m nd rs : Nat, 0 < l ∧ l ≤ 24 ∧ c ≤ 400 ∧ m ≤ 400 ∧ nd ≤ 100 ∧ rs ≤ 100 ∧ bl i = nI l ∧ bc i = nI c ∧ bm i = nI m ∧ bn i = nI nd ∧ br i = nI rs ∧ zb_K op arg n i k l c m nd rs
def zr_PG (ln : Nat → Nat) (op arg len bl bc bm bn br ylen : Nat → Int32) : Prop :=
  zb_O op ∧ (∀ a, a < 6 → ln a ≤ 24 ∧ len a = nI (ln a) ∧ ylen a = nI (ln a)) ∧ ∀ a, a < 6 → ∀ k, k < ln a → zb_B op arg bl bc bm bn br (ln a) (24 * a + k) k
def zr_ST (s : Nat → Int32) (w : Nat → Int64) (now : Nat → Int32) : Prop :=
  zs_W w ∧ zs_V s ∧ ∀ k, k < 30 → now k = s (zs_px k)
def zr_JR (J : Nat) (jc jo s B : Nat → Int32) (jn : Nat → Nat) (d : Nat) (copies : Nat → Int32) : Prop :=
  zj_E jc jo J ∧ zj_U jc jo 0 J s = B ∧ (∀ g, g < d → jn g ≤ J ∧ ∀ k, k < 30 → copies (30 * g + k) = zj_U jc jo (jn g) (J - jn g) s (zs_px k)) ∧ ∀ i j, i ≤ j → j < d → jn i ≤ jn j
def zr_WM (w : Int64) (yw : Nat → Int32) : Prop := ∀ k, k < 24 → yw k = if w.toBitVec.getLsbD k = true then 1 else 0
def zr_F1 (d : Nat) (sf gv : Nat → Nat) (xs ys xc yc xa ya xr yr xg yg : Nat → Int32) : Prop :=
  ∀ g, g < d → sf g < 6 ∧ xs g = nI (sf g) ∧ ys g = nI (sf g) ∧ xc g = yc g ∧ xa g = ya g ∧ xr g = yr g ∧ xg g = nI (gv g) ∧ yg g = nI (gv g) ∧ gv g ≤ 400
def zr_F2 (d : Nat) (jn ml : Nat → Nat) (xe ye xm ym xr yr xj : Nat → Int32) (xw : Nat → Int64) (yw : Nat → Int32) : Prop :=
  ∀ g, g < d → (∃ e : Nat, e ≤ 20 ∧ xe g = nI e ∧ ye g = nI e) ∧ xm g = nI (ml g) ∧ ym g = nI (ml g) ∧ (∃ r : Nat, r ≤ 4 * jn g ∧ xr g = nI r ∧ yr g = nI r) ∧ xj g = nI (jn g) ∧ zr_WM (xw g) (fun k => yw (24 * g + k))
def zr_MO (d : Nat) (ml : Nat → Nat) (W : Nat) : Prop := (∀ g, g < d → ml g ≤ W) ∧ ∀ i j, i ≤ j → j < d → ml i ≤ ml j
def zr_FB (f : Nat) (ln sf gv kk hh pp : Nat → Nat) (xl yl xp yp xq : Nat → Int32) : Prop :=
  ∀ g, g < f → xl g = nI (kk g + gv (g + 1)) ∧ yl g = nI (kk g + gv (g + 1)) ∧ kk g + gv (g + 1) ≤ gv g ∧ xp g = nI (pp g) ∧ yp g = nI (pp g) ∧ pp g < ln (sf g) ∧ xq g = nI (7 * g + hh g)
def zr_SS (f : Nat) (hh : Nat → Nat) (xs tops ys : Nat → Int32) : Prop := ∀ g, g < f → tops g = nI (hh g) ∧ hh g ≤ 4 ∧ ∀ j, j < hh g → ys (6 * g + j) = xs (7 * g + j)
def zr_S1 (f h : Nat) (xs tops ys : Nat → Int32) : Prop := tops f = nI h ∧ h ≤ 6 ∧ ∀ j, j < h → ys (6 * f + j) = xs (7 * f + j)
def zr_TP (f s p L : Nat) (ln sf : Nat → Nat) (yl yp : Nat → Int32) : Prop := f < 5 ∧ sf f = s ∧ s < 6 ∧ yl f = nI L ∧ yp f = nI p ∧ p < ln s
def zr_BG (N G J0 J W L h f r : Nat) (kk hh gv jn : Nat → Nat) : Prop :=
  4 * (J + 2 * W) + L + h + 2 * f + zm_s kk f + zm_s hh f ≤ 410 ∧ 2 * (L + zm_s kk f) + f + W ≤ N ∧ L + zm_s kk f ≤ G ∧ G ≤ 400 ∧ gv 0 = G ∧ jn 0 = J0 ∧ W ≤ 6 ∧ r ≤ 4 * J ∧ L ≤ gv f
def zr_BD (N G J0 J W L r st : Nat) : Prop :=
  4 * (J + 2 * W) + L ≤ 410 ∧ 2 * L + W ≤ N ∧ L ≤ G ∧ G ≤ 400 ∧ W ≤ 6 ∧ r ≤ 4 * J ∧ st ≤ 3 ∧ (st ≠ 0 → J = J0)
def zr_ML (to fr am ar msg : Nat → Int32) : Prop :=
  ∀ k, k < 6 → (∃ a : Nat, a < 6 ∧ to k = nI a ∧ msg (4 * k) = nI a) ∧ msg (4 * k + 1) = am k ∧ msg (4 * k + 2) = ar k ∧ (∃ b : Nat, b < 6 ∧ fr k = nI b ∧ msg (4 * k + 3) = nI b)
def zr_EV (e : Nat) (xa xt xv ev : Nat → Int32) : Prop := e ≤ 20 ∧ ∀ k, k < 20 → ev (3 * k) = xa k ∧ ev (3 * k + 1) = xt k ∧ ev (3 * k + 2) = xv k
def zv_sl (rg i : Nat) : Nat := (rg + 6 - i) % 6
def zv_V (oc ov cn : Nat → Int32) (rg : Nat) : Nat → (Nat → Int32) → (Nat → Int32)
  | 0, B => B
  | i + 1, B => zv_A oc ov (30 * zv_sl rg i) (cn (zv_sl rg i)).toNatClampNeg (zv_V oc ov cn rg i B)
def zv_I (B : Nat → Int32) (rg : Nat) (oc ov cn : Nat → Int32) (od : Nat → Int64) (older : Nat → Int32) (i : Nat) : Prop :=
  (∃ c : Nat, c ≤ 30 ∧ cn (zv_sl rg i) = nI c ∧ ∀ t, t < c → ∃ x : Nat, x < 30 ∧ oc (30 * zv_sl rg i + t) = nI x) ∧
  zs_V (zv_V oc ov cn rg (i + 1) B) ∧ od (zv_sl rg i) = zs_H (zv_V oc ov cn rg (i + 1) B) 30 ∧ ∀ k, k < 30 → older (30 * i + k) = zv_V oc ov cn rg (i + 1) B (zs_px k)
def zr_VS (B : Nat → Int32) (ring kept : Int32) (oc ov cn : Nat → Int32) (od : Nat → Int64) (older : Nat → Int32) : Prop :=
  ∃ rg kp : Nat, ring = nI rg ∧ kept = nI kp ∧ rg < 6 ∧ kp ≤ 6 ∧ ∀ i, i < kp → zv_I B rg oc ov cn od older i
def zr_MI (lim pend y6 : Int32) : Prop := (∃ l : Nat, 20 ≤ l ∧ l ≤ 400 ∧ lim = nI l) ∧ ∃ pd : Nat, pd ≤ 24 ∧ pend = nI pd ∧ y6 = nI pd
def zr_BF (B before : Nat → Int32) : Prop := ∀ k, k < 30 → before k = B (zs_px k)
def zr_R (y_result : Int32) (x_op x_arg : Nat → Int32) (ln : Nat → Nat) (B : Nat → Int32) (N G J0 lx px s p h L : Nat) (u : SX) (v : SY) : Prop := ∃ (f J W e r : Nat) (sf gv jn ml kk hh pp : Nat → Nat) (x_pending : Int32) (x_warm : Int64) (x_ring x_kept x_version x_lastResult x_lastUsed x_lastCalls x_limit : Int32) (x_length x_blockLength x_blockCost x_blockMost x_blockNeed x_blockRise x_state : Nat → Int32) (x_weight : Nat → Int64) (x_journalCell x_journalOld x_mailTo x_mailFrom x_mailAmount x_mailArg x_oldCell x_oldValue x_oldCount : Nat → Int32) (x_oldDigest : Nat → Int64) (x_eventAccount x_eventTag x_eventValue x_frameSelf x_frameCaller x_frameAmount x_frameArg x_frameGiven x_frameLeft x_framePc x_frameSp x_frameJournal x_frameEvents : Nat → Int32) (x_frameWarm : Nat → Int64) (x_frameRefund x_frameMails x_stack : Nat → Int32) (y_ended y_answer y_rest y_used y_calls : Int32) (y_lengths y_now y_copies y_older y_before y_warm y_warmCopies y_eventCopies y_messageCopies y_refundCopies y_events y_messages y_self y_caller y_amounts y_arguments y_given y_left y_at y_tops y_stack : Nat → Int32), u = (x_limit, x_pending, zs_H x_state 30, nI J, x_warm, nI r, nI W, x_ring, x_kept, x_version, nI e, nI (f + 1), nI s, nI lx, nI px, nI (7 * f + h), nI (7 * f), -1, x_lastResult, x_lastUsed, x_lastCalls, x_op, x_arg, x_length, x_blockLength, x_blockCost, x_blockMost, x_blockNeed, x_blockRise, x_state, x_weight, x_journalCell, x_journalOld, x_mailTo, x_mailFrom, x_mailAmount, x_mailArg, x_oldCell, x_oldValue, x_oldCount, x_oldDigest, x_eventAccount, x_eventTag, x_eventValue, x_frameSelf, x_frameCaller, x_frameAmount, x_frameArg, x_frameGiven, x_frameLeft, x_framePc, x_frameSp, x_frameJournal, x_frameEvents, x_frameWarm, x_frameRefund, x_frameMails, x_stack) ∧ v = (x_limit, nI e, nI W, nI r, nI (f + 1), y_ended, y_answer, y_rest, x_lastCalls, y_result, y_used, y_calls, x_version, x_kept, x_op, x_arg, y_lengths, y_now, y_copies, y_older, y_before, y_warm, y_warmCopies, y_eventCopies, y_messageCopies, y_refundCopies, y_events, y_messages, y_self, y_caller, y_amounts, y_arguments, y_given, y_left, y_at, y_tops, y_stack) ∧ zr_PG ln x_op x_arg x_length x_blockLength x_blockCost x_blockMost x_blockNeed x_blockRise y_lengths ∧ zr_ST x_state x_weight y_now ∧ zr_JR J x_journalCell x_journalOld x_state B jn (f + 1) y_copies ∧ zr_WM x_warm y_warm ∧ zr_F1 (f + 1) sf gv x_frameSelf y_self x_frameCaller y_caller x_frameAmount y_amounts x_frameArg y_arguments x_frameGiven y_given ∧ zr_F2 (f + 1) jn ml x_frameEvents y_eventCopies x_frameMails y_messageCopies x_frameRefund y_refundCopies x_frameJournal x_frameWarm y_warmCopies ∧ zr_MO (f + 1) ml W ∧ zr_FB f ln sf gv kk hh pp x_frameLeft y_left x_framePc y_at x_frameSp ∧ zr_SS f hh x_stack y_tops y_stack ∧ zr_S1 f h x_stack y_tops y_stack ∧ zr_TP f s p L ln sf y_left y_at ∧ zr_BG N G J0 J W L h f r kk hh gv jn ∧ zr_ML x_mailTo x_mailFrom x_mailAmount x_mailArg y_messages ∧ zr_EV e x_eventAccount x_eventTag x_eventValue y_events ∧ zr_VS B x_ring x_kept x_oldCell x_oldValue x_oldCount x_oldDigest y_older ∧ zr_MI x_limit x_pending (y_lengths 6) ∧ zr_BF B y_before
theorem zr_R_mk {y_result : Int32} {x_op x_arg : Nat → Int32} {ln : Nat → Nat} {B : Nat → Int32} {N G J0 lx px s p h L : Nat} {f J W e r : Nat} {sf gv jn ml kk hh pp : Nat → Nat} {x_pending : Int32} {x_warm : Int64} {x_ring x_kept x_version x_lastResult x_lastUsed x_lastCalls x_limit : Int32} {x_length x_blockLength x_blockCost x_blockMost x_blockNeed x_blockRise x_state : Nat → Int32} {x_weight : Nat → Int64} {x_journalCell x_journalOld x_mailTo x_mailFrom x_mailAmount x_mailArg x_oldCell x_oldValue x_oldCount : Nat → Int32} {x_oldDigest : Nat → Int64} {x_eventAccount x_eventTag x_eventValue x_frameSelf x_frameCaller x_frameAmount x_frameArg x_frameGiven x_frameLeft x_framePc x_frameSp x_frameJournal x_frameEvents : Nat → Int32} {x_frameWarm : Nat → Int64} {x_frameRefund x_frameMails x_stack : Nat → Int32} {y_ended y_answer y_rest y_used y_calls : Int32} {y_lengths y_now y_copies y_older y_before y_warm y_warmCopies y_eventCopies y_messageCopies y_refundCopies y_events y_messages y_self y_caller y_amounts y_arguments y_given y_left y_at y_tops y_stack : Nat → Int32} (hPG : zr_PG ln x_op x_arg x_length x_blockLength x_blockCost x_blockMost x_blockNeed x_blockRise y_lengths) (hST : zr_ST x_state x_weight y_now) (hJR : zr_JR J x_journalCell x_journalOld x_state B jn (f + 1) y_copies) (hWM : zr_WM x_warm y_warm) (hF1 : zr_F1 (f + 1) sf gv x_frameSelf y_self x_frameCaller y_caller x_frameAmount y_amounts x_frameArg y_arguments x_frameGiven y_given) (hF2 : zr_F2 (f + 1) jn ml x_frameEvents y_eventCopies x_frameMails y_messageCopies x_frameRefund y_refundCopies x_frameJournal x_frameWarm y_warmCopies) (hMO : zr_MO (f + 1) ml W) (hFB : zr_FB f ln sf gv kk hh pp x_frameLeft y_left x_framePc y_at x_frameSp) (hSS : zr_SS f hh x_stack y_tops y_stack) (hS1 : zr_S1 f h x_stack y_tops y_stack) (hTP : zr_TP f s p L ln sf y_left y_at) (hBG : zr_BG N G J0 J W L h f r kk hh gv jn) (hML : zr_ML x_mailTo x_mailFrom x_mailAmount x_mailArg y_messages) (hEV : zr_EV e x_eventAccount x_eventTag x_eventValue y_events) (hVS : zr_VS B x_ring x_kept x_oldCell x_oldValue x_oldCount x_oldDigest y_older) (hMI : zr_MI x_limit x_pending (y_lengths 6)) (hBF : zr_BF B y_before) : zr_R y_result x_op x_arg ln B N G J0 lx px s p h L (x_limit, x_pending, zs_H x_state 30, nI J, x_warm, nI r, nI W, x_ring, x_kept, x_version, nI e, nI (f + 1), nI s, nI lx, nI px, nI (7 * f + h), nI (7 * f), -1, x_lastResult, x_lastUsed, x_lastCalls, x_op, x_arg, x_length, x_blockLength, x_blockCost, x_blockMost, x_blockNeed, x_blockRise, x_state, x_weight, x_journalCell, x_journalOld, x_mailTo, x_mailFrom, x_mailAmount, x_mailArg, x_oldCell, x_oldValue, x_oldCount, x_oldDigest, x_eventAccount, x_eventTag, x_eventValue, x_frameSelf, x_frameCaller, x_frameAmount, x_frameArg, x_frameGiven, x_frameLeft, x_framePc, x_frameSp, x_frameJournal, x_frameEvents, x_frameWarm, x_frameRefund, x_frameMails, x_stack) (x_limit, nI e, nI W, nI r, nI (f + 1), y_ended, y_answer, y_rest, x_lastCalls, y_result, y_used, y_calls, x_version, x_kept, x_op, x_arg, y_lengths, y_now, y_copies, y_older, y_before, y_warm, y_warmCopies, y_eventCopies, y_messageCopies, y_refundCopies, y_events, y_messages, y_self, y_caller, y_amounts, y_arguments, y_given, y_left, y_at, y_tops, y_stack) :=
  Exists.intro _ (Exists.intro _ (Exists.intro _ (Exists.intro _ (Exists.intro _ (Exists.intro _ (Exists.intro _ (Exists.intro _ (Exists.intro _ (Exists.intro _ (Exists.intro _ (Exists.intro _ (Exists.intro _ (Exists.intro _ (Exists.intro _ (Exists.intro _ (Exists.intro _ (Exists.intro _ (Exists.intro _ (Exists.intro _ (Exists.intro _ (Exists.intro _ (Exists.intro _ (Exists.intro _ (Exists.intro _ (Exists.intro _ (Exists.intro _ (Exists.intro _ (Exists.intro _ (Exists.intro _ (Exists.intro _ (Exists.intro _ (Exists.intro _ (Exists.intro _ (Exists.intro _ (Exists.intro _ (Exists.intro _ (Exists.intro _ (Exists.intro _ (Exists.intro _ (Exists.intro _ (Exists.intro _ (Exists.intro _ (Exists.intro _ (Exists.intro _ (Exists.intro _ (Exists.intro _ (Exists.intro _ (Exists.intro _ (Exists.intro _ (Exists.intro _ (Exists.intro _ (Exists.intro _ (Exists.intro _ (Exists.intro _ (Exists.intro _ (Exists.intro _ (Exists.intro _ (Exists.intro _ (Exists.intro _ (Exists.intro _ (Exists.intro _ (Exists.intro _ (Exists.intro _ (Exists.intro _ (Exists.intro _ (Exists.intro _ (Exists.intro _ (Exists.intro _ (Exists.intro _ (Exists.intro _ (Exists.intro _ (Exists.intro _ (Exists.intro _ (Exists.intro _ (Exists.intro _ (Exists.intro _ (Exists.intro _ (Exists.intro _ (Exists.intro _ (Exists.intro _ (Exists.intro _ (And.intro rfl (And.intro rfl (And.intro hPG (And.intro hST (And.intro hJR (And.intro hWM (And.intro hF1 (And.intro hF2 (And.intro hMO (And.intro hFB (And.intro hSS (And.intro hS1 (And.intro hTP (And.intro hBG (And.intro hML (And.intro hEV (And.intro hVS (And.intro hMI hBF)))))))))))))))))))))))))))))))))))))))))))))))))))))))))))))))))))))))))))))))))))))))))))))))))))
theorem zr_R_el {P : SX → SY → Prop} {y_result : Int32} {x_op x_arg : Nat → Int32} {ln : Nat → Nat} {B : Nat → Int32} {N G J0 lx px s p h L : Nat} {u : SX} {v : SY} (H : ∀ (f J W e r : Nat) (sf gv jn ml kk hh pp : Nat → Nat) (x_pending : Int32) (x_warm : Int64) (x_ring x_kept x_version x_lastResult x_lastUsed x_lastCalls x_limit : Int32) (x_length x_blockLength x_blockCost x_blockMost x_blockNeed x_blockRise x_state : Nat → Int32) (x_weight : Nat → Int64) (x_journalCell x_journalOld x_mailTo x_mailFrom x_mailAmount x_mailArg x_oldCell x_oldValue x_oldCount : Nat → Int32) (x_oldDigest : Nat → Int64) (x_eventAccount x_eventTag x_eventValue x_frameSelf x_frameCaller x_frameAmount x_frameArg x_frameGiven x_frameLeft x_framePc x_frameSp x_frameJournal x_frameEvents : Nat → Int32) (x_frameWarm : Nat → Int64) (x_frameRefund x_frameMails x_stack : Nat → Int32) (y_ended y_answer y_rest y_used y_calls : Int32) (y_lengths y_now y_copies y_older y_before y_warm y_warmCopies y_eventCopies y_messageCopies y_refundCopies y_events y_messages y_self y_caller y_amounts y_arguments y_given y_left y_at y_tops y_stack : Nat → Int32), zr_PG ln x_op x_arg x_length x_blockLength x_blockCost x_blockMost x_blockNeed x_blockRise y_lengths → zr_ST x_state x_weight y_now → zr_JR J x_journalCell x_journalOld x_state B jn (f + 1) y_copies → zr_WM x_warm y_warm → zr_F1 (f + 1) sf gv x_frameSelf y_self x_frameCaller y_caller x_frameAmount y_amounts x_frameArg y_arguments x_frameGiven y_given → zr_F2 (f + 1) jn ml x_frameEvents y_eventCopies x_frameMails y_messageCopies x_frameRefund y_refundCopies x_frameJournal x_frameWarm y_warmCopies → zr_MO (f + 1) ml W → zr_FB f ln sf gv kk hh pp x_frameLeft y_left x_framePc y_at x_frameSp → zr_SS f hh x_stack y_tops y_stack → zr_S1 f h x_stack y_tops y_stack → zr_TP f s p L ln sf y_left y_at → zr_BG N G J0 J W L h f r kk hh gv jn → zr_ML x_mailTo x_mailFrom x_mailAmount x_mailArg y_messages → zr_EV e x_eventAccount x_eventTag x_eventValue y_events → zr_VS B x_ring x_kept x_oldCell x_oldValue x_oldCount x_oldDigest y_older → zr_MI x_limit x_pending (y_lengths 6) → zr_BF B y_before → P (x_limit, x_pending, zs_H x_state 30, nI J, x_warm, nI r, nI W, x_ring, x_kept, x_version, nI e, nI (f + 1), nI s, nI lx, nI px, nI (7 * f + h), nI (7 * f), -1, x_lastResult, x_lastUsed, x_lastCalls, x_op, x_arg, x_length, x_blockLength, x_blockCost, x_blockMost, x_blockNeed, x_blockRise, x_state, x_weight, x_journalCell, x_journalOld, x_mailTo, x_mailFrom, x_mailAmount, x_mailArg, x_oldCell, x_oldValue, x_oldCount, x_oldDigest, x_eventAccount, x_eventTag, x_eventValue, x_frameSelf, x_frameCaller, x_frameAmount, x_frameArg, x_frameGiven, x_frameLeft, x_framePc, x_frameSp, x_frameJournal, x_frameEvents, x_frameWarm, x_frameRefund, x_frameMails, x_stack) (x_limit, nI e, nI W, nI r, nI (f + 1), y_ended, y_answer, y_rest, x_lastCalls, y_result, y_used, y_calls, x_version, x_kept, x_op, x_arg, y_lengths, y_now, y_copies, y_older, y_before, y_warm, y_warmCopies, y_eventCopies, y_messageCopies, y_refundCopies, y_events, y_messages, y_self, y_caller, y_amounts, y_arguments, y_given, y_left, y_at, y_tops, y_stack)) (I : zr_R y_result x_op x_arg ln B N G J0 lx px s p h L u v) : P u v :=
  Exists.elim I fun f I => Exists.elim I fun J I => Exists.elim I fun W I => Exists.elim I fun e I => Exists.elim I fun r I => Exists.elim I fun sf I => Exists.elim I fun gv I => Exists.elim I fun jn I => Exists.elim I fun ml I => Exists.elim I fun kk I => Exists.elim I fun hh I => Exists.elim I fun pp I => Exists.elim I fun x_pending I => Exists.elim I fun x_warm I => Exists.elim I fun x_ring I => Exists.elim I fun x_kept I => Exists.elim I fun x_version I => Exists.elim I fun x_lastResult I => Exists.elim I fun x_lastUsed I => Exists.elim I fun x_lastCalls I => Exists.elim I fun x_limit I => Exists.elim I fun x_length I => Exists.elim I fun x_blockLength I => Exists.elim I fun x_blockCost I => Exists.elim I fun x_blockMost I => Exists.elim I fun x_blockNeed I => Exists.elim I fun x_blockRise I => Exists.elim I fun x_state I => Exists.elim I fun x_weight I => Exists.elim I fun x_journalCell I => Exists.elim I fun x_journalOld I => Exists.elim I fun x_mailTo I => Exists.elim I fun x_mailFrom I => Exists.elim I fun x_mailAmount I => Exists.elim I fun x_mailArg I => Exists.elim I fun x_oldCell I => Exists.elim I fun x_oldValue I => Exists.elim I fun x_oldCount I => Exists.elim I fun x_oldDigest I => Exists.elim I fun x_eventAccount I => Exists.elim I fun x_eventTag I => Exists.elim I fun x_eventValue I => Exists.elim I fun x_frameSelf I => Exists.elim I fun x_frameCaller I => Exists.elim I fun x_frameAmount I => Exists.elim I fun x_frameArg I => Exists.elim I fun x_frameGiven I => Exists.elim I fun x_frameLeft I => Exists.elim I fun x_framePc I => Exists.elim I fun x_frameSp I => Exists.elim I fun x_frameJournal I => Exists.elim I fun x_frameEvents I => Exists.elim I fun x_frameWarm I => Exists.elim I fun x_frameRefund I => Exists.elim I fun x_frameMails I => Exists.elim I fun x_stack I => Exists.elim I fun y_ended I => Exists.elim I fun y_answer I => Exists.elim I fun y_rest I => Exists.elim I fun y_used I => Exists.elim I fun y_calls I => Exists.elim I fun y_lengths I => Exists.elim I fun y_now I => Exists.elim I fun y_copies I => Exists.elim I fun y_older I => Exists.elim I fun y_before I => Exists.elim I fun y_warm I => Exists.elim I fun y_warmCopies I => Exists.elim I fun y_eventCopies I => Exists.elim I fun y_messageCopies I => Exists.elim I fun y_refundCopies I => Exists.elim I fun y_events I => Exists.elim I fun y_messages I => Exists.elim I fun y_self I => Exists.elim I fun y_caller I => Exists.elim I fun y_amounts I => Exists.elim I fun y_arguments I => Exists.elim I fun y_given I => Exists.elim I fun y_left I => Exists.elim I fun y_at I => Exists.elim I fun y_tops I => Exists.elim I fun y_stack I => by
    obtain ⟨hu, hv, hPG, hST, hJR, hWM, hF1, hF2, hMO, hFB, hSS, hS1, hTP, hBG, hML, hEV, hVS, hMI, hBF⟩ := I
    subst hu; subst hv
    exact H f J W e r sf gv jn ml kk hh pp x_pending x_warm x_ring x_kept x_version x_lastResult x_lastUsed x_lastCalls x_limit x_length x_blockLength x_blockCost x_blockMost x_blockNeed x_blockRise x_state x_weight x_journalCell x_journalOld x_mailTo x_mailFrom x_mailAmount x_mailArg x_oldCell x_oldValue x_oldCount x_oldDigest x_eventAccount x_eventTag x_eventValue x_frameSelf x_frameCaller x_frameAmount x_frameArg x_frameGiven x_frameLeft x_framePc x_frameSp x_frameJournal x_frameEvents x_frameWarm x_frameRefund x_frameMails x_stack y_ended y_answer y_rest y_used y_calls y_lengths y_now y_copies y_older y_before y_warm y_warmCopies y_eventCopies y_messageCopies y_refundCopies y_events y_messages y_self y_caller y_amounts y_arguments y_given y_left y_at y_tops y_stack hPG hST hJR hWM hF1 hF2 hMO hFB hSS hS1 hTP hBG hML hEV hVS hMI hBF
def zr_D (y_result : Int32) (x_op x_arg : Nat → Int32) (ln : Nat → Nat) (B : Nat → Int32) (N G J0 st : Nat) (u : SX) (v : SY) : Prop := ∃ (J W e r L : Nat) (x_pending : Int32) (x_warm : Int64) (x_ring x_kept x_version x_self x_left x_pc x_sp x_base x_lastResult x_lastCalls x_limit : Int32) (x_length x_blockLength x_blockCost x_blockMost x_blockNeed x_blockRise x_state : Nat → Int32) (x_weight : Nat → Int64) (x_journalCell x_journalOld x_mailTo x_mailFrom x_mailAmount x_mailArg x_oldCell x_oldValue x_oldCount : Nat → Int32) (x_oldDigest : Nat → Int64) (x_eventAccount x_eventTag x_eventValue x_frameSelf x_frameCaller x_frameAmount x_frameArg x_frameGiven x_frameLeft x_framePc x_frameSp x_frameJournal x_frameEvents : Nat → Int32) (x_frameWarm : Nat → Int64) (x_frameRefund x_frameMails x_stack : Nat → Int32) (y_used y_calls : Int32) (y_lengths y_now y_copies y_older y_before y_warm y_warmCopies y_eventCopies y_messageCopies y_refundCopies y_events y_messages y_self y_caller y_amounts y_arguments y_given y_left y_at y_tops y_stack : Nat → Int32), u = (x_limit, x_pending, zs_H x_state 30, nI J, x_warm, nI r, nI W, x_ring, x_kept, x_version, nI e, 0, x_self, x_left, x_pc, x_sp, x_base, nI st, x_lastResult, nI (G - L), x_lastCalls, x_op, x_arg, x_length, x_blockLength, x_blockCost, x_blockMost, x_blockNeed, x_blockRise, x_state, x_weight, x_journalCell, x_journalOld, x_mailTo, x_mailFrom, x_mailAmount, x_mailArg, x_oldCell, x_oldValue, x_oldCount, x_oldDigest, x_eventAccount, x_eventTag, x_eventValue, x_frameSelf, x_frameCaller, x_frameAmount, x_frameArg, x_frameGiven, x_frameLeft, x_framePc, x_frameSp, x_frameJournal, x_frameEvents, x_frameWarm, x_frameRefund, x_frameMails, x_stack) ∧ v = (x_limit, nI e, nI W, nI r, 0, nI st, x_lastResult, nI L, x_lastCalls, y_result, y_used, y_calls, x_version, x_kept, x_op, x_arg, y_lengths, y_now, y_copies, y_older, y_before, y_warm, y_warmCopies, y_eventCopies, y_messageCopies, y_refundCopies, y_events, y_messages, y_self, y_caller, y_amounts, y_arguments, y_given, y_left, y_at, y_tops, y_stack) ∧ zr_PG ln x_op x_arg x_length x_blockLength x_blockCost x_blockMost x_blockNeed x_blockRise y_lengths ∧ zr_ST x_state x_weight y_now ∧ zr_JR J x_journalCell x_journalOld x_state B (fun _ => 0) 0 y_copies ∧ zr_WM x_warm y_warm ∧ zr_BD N G J0 J W L r st ∧ zr_ML x_mailTo x_mailFrom x_mailAmount x_mailArg y_messages ∧ zr_EV e x_eventAccount x_eventTag x_eventValue y_events ∧ zr_VS B x_ring x_kept x_oldCell x_oldValue x_oldCount x_oldDigest y_older ∧ zr_MI x_limit x_pending (y_lengths 6) ∧ zr_BF B y_before
theorem zr_D_mk {y_result : Int32} {x_op x_arg : Nat → Int32} {ln : Nat → Nat} {B : Nat → Int32} {N G J0 st : Nat} {J W e r L : Nat} {x_pending : Int32} {x_warm : Int64} {x_ring x_kept x_version x_self x_left x_pc x_sp x_base x_lastResult x_lastCalls x_limit : Int32} {x_length x_blockLength x_blockCost x_blockMost x_blockNeed x_blockRise x_state : Nat → Int32} {x_weight : Nat → Int64} {x_journalCell x_journalOld x_mailTo x_mailFrom x_mailAmount x_mailArg x_oldCell x_oldValue x_oldCount : Nat → Int32} {x_oldDigest : Nat → Int64} {x_eventAccount x_eventTag x_eventValue x_frameSelf x_frameCaller x_frameAmount x_frameArg x_frameGiven x_frameLeft x_framePc x_frameSp x_frameJournal x_frameEvents : Nat → Int32} {x_frameWarm : Nat → Int64} {x_frameRefund x_frameMails x_stack : Nat → Int32} {y_used y_calls : Int32} {y_lengths y_now y_copies y_older y_before y_warm y_warmCopies y_eventCopies y_messageCopies y_refundCopies y_events y_messages y_self y_caller y_amounts y_arguments y_given y_left y_at y_tops y_stack : Nat → Int32} (hPG : zr_PG ln x_op x_arg x_length x_blockLength x_blockCost x_blockMost x_blockNeed x_blockRise y_lengths) (hST : zr_ST x_state x_weight y_now) (hJR : zr_JR J x_journalCell x_journalOld x_state B (fun _ => 0) 0 y_copies) (hWM : zr_WM x_warm y_warm) (hBD : zr_BD N G J0 J W L r st) (hML : zr_ML x_mailTo x_mailFrom x_mailAmount x_mailArg y_messages) (hEV : zr_EV e x_eventAccount x_eventTag x_eventValue y_events) (hVS : zr_VS B x_ring x_kept x_oldCell x_oldValue x_oldCount x_oldDigest y_older) (hMI : zr_MI x_limit x_pending (y_lengths 6)) (hBF : zr_BF B y_before) : zr_D y_result x_op x_arg ln B N G J0 st (x_limit, x_pending, zs_H x_state 30, nI J, x_warm, nI r, nI W, x_ring, x_kept, x_version, nI e, 0, x_self, x_left, x_pc, x_sp, x_base, nI st, x_lastResult, nI (G - L), x_lastCalls, x_op, x_arg, x_length, x_blockLength, x_blockCost, x_blockMost, x_blockNeed, x_blockRise, x_state, x_weight, x_journalCell, x_journalOld, x_mailTo, x_mailFrom, x_mailAmount, x_mailArg, x_oldCell, x_oldValue, x_oldCount, x_oldDigest, x_eventAccount, x_eventTag, x_eventValue, x_frameSelf, x_frameCaller, x_frameAmount, x_frameArg, x_frameGiven, x_frameLeft, x_framePc, x_frameSp, x_frameJournal, x_frameEvents, x_frameWarm, x_frameRefund, x_frameMails, x_stack) (x_limit, nI e, nI W, nI r, 0, nI st, x_lastResult, nI L, x_lastCalls, y_result, y_used, y_calls, x_version, x_kept, x_op, x_arg, y_lengths, y_now, y_copies, y_older, y_before, y_warm, y_warmCopies, y_eventCopies, y_messageCopies, y_refundCopies, y_events, y_messages, y_self, y_caller, y_amounts, y_arguments, y_given, y_left, y_at, y_tops, y_stack) :=
  Exists.intro _ (Exists.intro _ (Exists.intro _ (Exists.intro _ (Exists.intro _ (Exists.intro _ (Exists.intro _ (Exists.intro _ (Exists.intro _ (Exists.intro _ (Exists.intro _ (Exists.intro _ (Exists.intro _ (Exists.intro _ (Exists.intro _ (Exists.intro _ (Exists.intro _ (Exists.intro _ (Exists.intro _ (Exists.intro _ (Exists.intro _ (Exists.intro _ (Exists.intro _ (Exists.intro _ (Exists.intro _ (Exists.intro _ (Exists.intro _ (Exists.intro _ (Exists.intro _ (Exists.intro _ (Exists.intro _ (Exists.intro _ (Exists.intro _ (Exists.intro _ (Exists.intro _ (Exists.intro _ (Exists.intro _ (Exists.intro _ (Exists.intro _ (Exists.intro _ (Exists.intro _ (Exists.intro _ (Exists.intro _ (Exists.intro _ (Exists.intro _ (Exists.intro _ (Exists.intro _ (Exists.intro _ (Exists.intro _ (Exists.intro _ (Exists.intro _ (Exists.intro _ (Exists.intro _ (Exists.intro _ (Exists.intro _ (Exists.intro _ (Exists.intro _ (Exists.intro _ (Exists.intro _ (Exists.intro _ (Exists.intro _ (Exists.intro _ (Exists.intro _ (Exists.intro _ (Exists.intro _ (Exists.intro _ (Exists.intro _ (Exists.intro _ (Exists.intro _ (Exists.intro _ (Exists.intro _ (Exists.intro _ (Exists.intro _ (Exists.intro _ (Exists.intro _ (Exists.intro _ (And.intro rfl (And.intro rfl (And.intro hPG (And.intro hST (And.intro hJR (And.intro hWM (And.intro hBD (And.intro hML (And.intro hEV (And.intro hVS (And.intro hMI hBF))))))))))))))))))))))))))))))))))))))))))))))))))))))))))))))))))))))))))))))))))))))
theorem zr_D_el {P : SX → SY → Prop} {y_result : Int32} {x_op x_arg : Nat → Int32} {ln : Nat → Nat} {B : Nat → Int32} {N G J0 st : Nat} {u : SX} {v : SY} (H : ∀ (J W e r L : Nat) (x_pending : Int32) (x_warm : Int64) (x_ring x_kept x_version x_self x_left x_pc x_sp x_base x_lastResult x_lastCalls x_limit : Int32) (x_length x_blockLength x_blockCost x_blockMost x_blockNeed x_blockRise x_state : Nat → Int32) (x_weight : Nat → Int64) (x_journalCell x_journalOld x_mailTo x_mailFrom x_mailAmount x_mailArg x_oldCell x_oldValue x_oldCount : Nat → Int32) (x_oldDigest : Nat → Int64) (x_eventAccount x_eventTag x_eventValue x_frameSelf x_frameCaller x_frameAmount x_frameArg x_frameGiven x_frameLeft x_framePc x_frameSp x_frameJournal x_frameEvents : Nat → Int32) (x_frameWarm : Nat → Int64) (x_frameRefund x_frameMails x_stack : Nat → Int32) (y_used y_calls : Int32) (y_lengths y_now y_copies y_older y_before y_warm y_warmCopies y_eventCopies y_messageCopies y_refundCopies y_events y_messages y_self y_caller y_amounts y_arguments y_given y_left y_at y_tops y_stack : Nat → Int32), zr_PG ln x_op x_arg x_length x_blockLength x_blockCost x_blockMost x_blockNeed x_blockRise y_lengths → zr_ST x_state x_weight y_now → zr_JR J x_journalCell x_journalOld x_state B (fun _ => 0) 0 y_copies → zr_WM x_warm y_warm → zr_BD N G J0 J W L r st → zr_ML x_mailTo x_mailFrom x_mailAmount x_mailArg y_messages → zr_EV e x_eventAccount x_eventTag x_eventValue y_events → zr_VS B x_ring x_kept x_oldCell x_oldValue x_oldCount x_oldDigest y_older → zr_MI x_limit x_pending (y_lengths 6) → zr_BF B y_before → P (x_limit, x_pending, zs_H x_state 30, nI J, x_warm, nI r, nI W, x_ring, x_kept, x_version, nI e, 0, x_self, x_left, x_pc, x_sp, x_base, nI st, x_lastResult, nI (G - L), x_lastCalls, x_op, x_arg, x_length, x_blockLength, x_blockCost, x_blockMost, x_blockNeed, x_blockRise, x_state, x_weight, x_journalCell, x_journalOld, x_mailTo, x_mailFrom, x_mailAmount, x_mailArg, x_oldCell, x_oldValue, x_oldCount, x_oldDigest, x_eventAccount, x_eventTag, x_eventValue, x_frameSelf, x_frameCaller, x_frameAmount, x_frameArg, x_frameGiven, x_frameLeft, x_framePc, x_frameSp, x_frameJournal, x_frameEvents, x_frameWarm, x_frameRefund, x_frameMails, x_stack) (x_limit, nI e, nI W, nI r, 0, nI st, x_lastResult, nI L, x_lastCalls, y_result, y_used, y_calls, x_version, x_kept, x_op, x_arg, y_lengths, y_now, y_copies, y_older, y_before, y_warm, y_warmCopies, y_eventCopies, y_messageCopies, y_refundCopies, y_events, y_messages, y_self, y_caller, y_amounts, y_arguments, y_given, y_left, y_at, y_tops, y_stack)) (I : zr_D y_result x_op x_arg ln B N G J0 st u v) : P u v :=
  Exists.elim I fun J I => Exists.elim I fun W I => Exists.elim I fun e I => Exists.elim I fun r I => Exists.elim I fun L I => Exists.elim I fun x_pending I => Exists.elim I fun x_warm I => Exists.elim I fun x_ring I => Exists.elim I fun x_kept I => Exists.elim I fun x_version I => Exists.elim I fun x_self I => Exists.elim I fun x_left I => Exists.elim I fun x_pc I => Exists.elim I fun x_sp I => Exists.elim I fun x_base I => Exists.elim I fun x_lastResult I => Exists.elim I fun x_lastCalls I => Exists.elim I fun x_limit I => Exists.elim I fun x_length I => Exists.elim I fun x_blockLength I => Exists.elim I fun x_blockCost I => Exists.elim I fun x_blockMost I => Exists.elim I fun x_blockNeed I => Exists.elim I fun x_blockRise I => Exists.elim I fun x_state I => Exists.elim I fun x_weight I => Exists.elim I fun x_journalCell I => Exists.elim I fun x_journalOld I => Exists.elim I fun x_mailTo I => Exists.elim I fun x_mailFrom I => Exists.elim I fun x_mailAmount I => Exists.elim I fun x_mailArg I => Exists.elim I fun x_oldCell I => Exists.elim I fun x_oldValue I => Exists.elim I fun x_oldCount I => Exists.elim I fun x_oldDigest I => Exists.elim I fun x_eventAccount I => Exists.elim I fun x_eventTag I => Exists.elim I fun x_eventValue I => Exists.elim I fun x_frameSelf I => Exists.elim I fun x_frameCaller I => Exists.elim I fun x_frameAmount I => Exists.elim I fun x_frameArg I => Exists.elim I fun x_frameGiven I => Exists.elim I fun x_frameLeft I => Exists.elim I fun x_framePc I => Exists.elim I fun x_frameSp I => Exists.elim I fun x_frameJournal I => Exists.elim I fun x_frameEvents I => Exists.elim I fun x_frameWarm I => Exists.elim I fun x_frameRefund I => Exists.elim I fun x_frameMails I => Exists.elim I fun x_stack I => Exists.elim I fun y_used I => Exists.elim I fun y_calls I => Exists.elim I fun y_lengths I => Exists.elim I fun y_now I => Exists.elim I fun y_copies I => Exists.elim I fun y_older I => Exists.elim I fun y_before I => Exists.elim I fun y_warm I => Exists.elim I fun y_warmCopies I => Exists.elim I fun y_eventCopies I => Exists.elim I fun y_messageCopies I => Exists.elim I fun y_refundCopies I => Exists.elim I fun y_events I => Exists.elim I fun y_messages I => Exists.elim I fun y_self I => Exists.elim I fun y_caller I => Exists.elim I fun y_amounts I => Exists.elim I fun y_arguments I => Exists.elim I fun y_given I => Exists.elim I fun y_left I => Exists.elim I fun y_at I => Exists.elim I fun y_tops I => Exists.elim I fun y_stack I => by
    obtain ⟨hu, hv, hPG, hST, hJR, hWM, hBD, hML, hEV, hVS, hMI, hBF⟩ := I
    subst hu; subst hv
    exact H J W e r L x_pending x_warm x_ring x_kept x_version x_self x_left x_pc x_sp x_base x_lastResult x_lastCalls x_limit x_length x_blockLength x_blockCost x_blockMost x_blockNeed x_blockRise x_state x_weight x_journalCell x_journalOld x_mailTo x_mailFrom x_mailAmount x_mailArg x_oldCell x_oldValue x_oldCount x_oldDigest x_eventAccount x_eventTag x_eventValue x_frameSelf x_frameCaller x_frameAmount x_frameArg x_frameGiven x_frameLeft x_framePc x_frameSp x_frameJournal x_frameEvents x_frameWarm x_frameRefund x_frameMails x_stack y_used y_calls y_lengths y_now y_copies y_older y_before y_warm y_warmCopies y_eventCopies y_messageCopies y_refundCopies y_events y_messages y_self y_caller y_amounts y_arguments y_given y_left y_at y_tops y_stack hPG hST hJR hWM hBD hML hEV hVS hMI hBF
end
section
/-! walks of the component: the store, a call's begin and end -/
section
variable {x_limit x_pending x_journal x_refund x_mails x_ring x_kept x_version x_events x_depth x_self x_left x_pc x_sp x_base x_lastStatus x_lastResult x_lastUsed x_lastCalls : Int32} {x_digest x_warm : Int64} {x_op x_arg x_length x_blockLength x_blockCost x_blockMost x_blockNeed x_blockRise x_state x_journalCell x_journalOld x_mailTo x_mailFrom x_mailAmount x_mailArg x_oldCell x_oldValue x_oldCount x_eventAccount x_eventTag x_eventValue x_frameSelf x_frameCaller x_frameAmount x_frameArg x_frameGiven x_frameLeft x_framePc x_frameSp x_frameJournal x_frameEvents x_frameRefund x_frameMails x_stack : Nat → Int32} {x_weight x_oldDigest x_frameWarm : Nat → Int64}
theorem xw_place {post : SX → Prop} {c : Nat} {v : Int32} (hW : zs_W x_weight) (hc : c < 30) (hp : post (x_limit, x_pending, zs_H (upd x_state c v) 30, x_journal, x_warm, x_refund, x_mails, x_ring, x_kept, x_version, x_events, x_depth, x_self, x_left, x_pc, x_sp, x_base, x_lastStatus, x_lastResult, x_lastUsed, x_lastCalls, x_op, x_arg, x_length, x_blockLength, x_blockCost, x_blockMost, x_blockNeed, x_blockRise, upd x_state c v, x_weight, x_journalCell, x_journalOld, x_mailTo, x_mailFrom, x_mailAmount, x_mailArg, x_oldCell, x_oldValue, x_oldCount, x_oldDigest, x_eventAccount, x_eventTag, x_eventValue, x_frameSelf, x_frameCaller, x_frameAmount, x_frameArg, x_frameGiven, x_frameLeft, x_framePc, x_frameSp, x_frameJournal, x_frameEvents, x_frameWarm, x_frameRefund, x_frameMails, x_stack)) : wpX_place post (x_limit, x_pending, zs_H x_state 30, x_journal, x_warm, x_refund, x_mails, x_ring, x_kept, x_version, x_events, x_depth, x_self, x_left, x_pc, x_sp, x_base, x_lastStatus, x_lastResult, x_lastUsed, x_lastCalls, x_op, x_arg, x_length, x_blockLength, x_blockCost, x_blockMost, x_blockNeed, x_blockRise, x_state, x_weight, x_journalCell, x_journalOld, x_mailTo, x_mailFrom, x_mailAmount, x_mailArg, x_oldCell, x_oldValue, x_oldCount, x_oldDigest, x_eventAccount, x_eventTag, x_eventValue, x_frameSelf, x_frameCaller, x_frameAmount, x_frameArg, x_frameGiven, x_frameLeft, x_framePc, x_frameSp, x_frameJournal, x_frameEvents, x_frameWarm, x_frameRefund, x_frameMails, x_stack) (nI c) v := by
  have hi : vp_in (nI c) 30 := vp_in_nI hc (by omega)
  have e : (nI c).toNatClampNeg = c := nI_clamp (by omega)
  unfold wpX_place
  dsimp only
  rw [e]
  exact ⟨hi, nm_e ⟨hi, nm_r (zs_H30 hW hc v) ⟨hi, nm_e hp⟩⟩⟩
theorem xw_write {post : SX → Prop} {c J : Nat} {v : Int32} (hW : zs_W x_weight) (hc : c < 30) (hJ : J < 160) (hp : post (x_limit, x_pending, zs_H (upd x_state c v) 30, nI (J + 1), x_warm, x_refund, x_mails, x_ring, x_kept, x_version, x_events, x_depth, x_self, x_left, x_pc, x_sp, x_base, x_lastStatus, x_lastResult, x_lastUsed, x_lastCalls, x_op, x_arg, x_length, x_blockLength, x_blockCost, x_blockMost, x_blockNeed, x_blockRise, upd x_state c v, x_weight, upd x_journalCell J (nI c), upd x_journalOld J (x_state c), x_mailTo, x_mailFrom, x_mailAmount, x_mailArg, x_oldCell, x_oldValue, x_oldCount, x_oldDigest, x_eventAccount, x_eventTag, x_eventValue, x_frameSelf, x_frameCaller, x_frameAmount, x_frameArg, x_frameGiven, x_frameLeft, x_framePc, x_frameSp, x_frameJournal, x_frameEvents, x_frameWarm, x_frameRefund, x_frameMails, x_stack)) : wpX_write post (x_limit, x_pending, zs_H x_state 30, nI J, x_warm, x_refund, x_mails, x_ring, x_kept, x_version, x_events, x_depth, x_self, x_left, x_pc, x_sp, x_base, x_lastStatus, x_lastResult, x_lastUsed, x_lastCalls, x_op, x_arg, x_length, x_blockLength, x_blockCost, x_blockMost, x_blockNeed, x_blockRise, x_state, x_weight, x_journalCell, x_journalOld, x_mailTo, x_mailFrom, x_mailAmount, x_mailArg, x_oldCell, x_oldValue, x_oldCount, x_oldDigest, x_eventAccount, x_eventTag, x_eventValue, x_frameSelf, x_frameCaller, x_frameAmount, x_frameArg, x_frameGiven, x_frameLeft, x_framePc, x_frameSp, x_frameJournal, x_frameEvents, x_frameWarm, x_frameRefund, x_frameMails, x_stack) (nI c) v := by
  have hi : vp_in (nI c) 30 := vp_in_nI hc (by omega)
  have hj : vp_in (nI J) 160 := vp_in_nI hJ (by omega)
  have e : (nI c).toNatClampNeg = c := nI_clamp (by omega)
  have e2 : (nI J).toNatClampNeg = J := nI_clamp (by omega)
  unfold wpX_write
  dsimp only
  rw [e, e2, zn_nbb (by omega : c < 128)]
  exact ⟨hi, nm_e ⟨hj, nm_e (nm_r (nI_1 J) ⟨hj, nm_e (xw_place hW hc hp)⟩)⟩⟩
theorem xw_undo0 {post : SX → Prop} {ev : Int32} {J t : Nat} (hW : zs_W x_weight) (hE : zj_E x_journalCell x_journalOld J) (hJ : J ≤ 160) : ∀ (k : Nat) (s : Nat → Int32), t + k ≤ J → post (x_limit, x_pending, zs_H (zj_U x_journalCell x_journalOld t k s) 30, nI t, x_warm, x_refund, x_mails, x_ring, x_kept, x_version, ev, x_depth, x_self, x_left, x_pc, x_sp, x_base, x_lastStatus, x_lastResult, x_lastUsed, x_lastCalls, x_op, x_arg, x_length, x_blockLength, x_blockCost, x_blockMost, x_blockNeed, x_blockRise, zj_U x_journalCell x_journalOld t k s, x_weight, x_journalCell, x_journalOld, x_mailTo, x_mailFrom, x_mailAmount, x_mailArg, x_oldCell, x_oldValue, x_oldCount, x_oldDigest, x_eventAccount, x_eventTag, x_eventValue, x_frameSelf, x_frameCaller, x_frameAmount, x_frameArg, x_frameGiven, x_frameLeft, x_framePc, x_frameSp, x_frameJournal, x_frameEvents, x_frameWarm, x_frameRefund, x_frameMails, x_stack) → wX_undo_0 post (nI t) ev (k + 1) x_limit x_pending (zs_H s 30) (nI (t + k)) x_warm x_refund x_mails x_ring x_kept x_version x_events x_depth x_self x_left x_pc x_sp x_base x_lastStatus x_lastResult x_lastUsed x_lastCalls x_op x_arg x_length x_blockLength x_blockCost x_blockMost x_blockNeed x_blockRise s x_weight x_journalCell x_journalOld x_mailTo x_mailFrom x_mailAmount x_mailArg x_oldCell x_oldValue x_oldCount x_oldDigest x_eventAccount x_eventTag x_eventValue x_frameSelf x_frameCaller x_frameAmount x_frameArg x_frameGiven x_frameLeft x_framePc x_frameSp x_frameJournal x_frameEvents x_frameWarm x_frameRefund x_frameMails x_stack := by
  intro k
  induction k with
  | zero => intro s hk hp; exact br_t (nI_le (Nat.le_refl t) (by omega)) hp
  | succ k ih =>
    intro s hk hp
    obtain ⟨c, hc, ec, _⟩ := hE (t + k) (by omega)
    have hj : vp_in (nI (t + k)) 160 := vp_in_nI (by omega) (by omega)
    refine br_f (nI_ge (a := t) (b := t + (k + 1)) (by omega) (by omega)) (nm_r (e' := nI (t + k)) (nI_pred (t + k)) ⟨hj, hj, ?_⟩)
    rw [nI_clamp (by omega : t + k < 2 ^ 31), ec]
    refine xw_place hW hc ?_
    refine ih _ (by omega) ?_
    have e : zj_U x_journalCell x_journalOld t (k + 1) s = zj_U x_journalCell x_journalOld t k (upd s c (x_journalOld (t + k))) := by
      show zj_U _ _ t k _ = _
      rw [ec, nI_clamp (by omega)]
    rw [← e]
    exact hp
theorem xw_undo {post : SX → Prop} {ev : Int32} {J t : Nat} (hW : zs_W x_weight) (hE : zj_E x_journalCell x_journalOld J) (hJ : J ≤ 160) (ht : t ≤ J) (hp : post (x_limit, x_pending, zs_H (zj_U x_journalCell x_journalOld t (J - t) x_state) 30, nI t, x_warm, x_refund, x_mails, x_ring, x_kept, x_version, ev, x_depth, x_self, x_left, x_pc, x_sp, x_base, x_lastStatus, x_lastResult, x_lastUsed, x_lastCalls, x_op, x_arg, x_length, x_blockLength, x_blockCost, x_blockMost, x_blockNeed, x_blockRise, zj_U x_journalCell x_journalOld t (J - t) x_state, x_weight, x_journalCell, x_journalOld, x_mailTo, x_mailFrom, x_mailAmount, x_mailArg, x_oldCell, x_oldValue, x_oldCount, x_oldDigest, x_eventAccount, x_eventTag, x_eventValue, x_frameSelf, x_frameCaller, x_frameAmount, x_frameArg, x_frameGiven, x_frameLeft, x_framePc, x_frameSp, x_frameJournal, x_frameEvents, x_frameWarm, x_frameRefund, x_frameMails, x_stack)) : wpX_undo post (x_limit, x_pending, zs_H x_state 30, nI J, x_warm, x_refund, x_mails, x_ring, x_kept, x_version, x_events, x_depth, x_self, x_left, x_pc, x_sp, x_base, x_lastStatus, x_lastResult, x_lastUsed, x_lastCalls, x_op, x_arg, x_length, x_blockLength, x_blockCost, x_blockMost, x_blockNeed, x_blockRise, x_state, x_weight, x_journalCell, x_journalOld, x_mailTo, x_mailFrom, x_mailAmount, x_mailArg, x_oldCell, x_oldValue, x_oldCount, x_oldDigest, x_eventAccount, x_eventTag, x_eventValue, x_frameSelf, x_frameCaller, x_frameAmount, x_frameArg, x_frameGiven, x_frameLeft, x_framePc, x_frameSp, x_frameJournal, x_frameEvents, x_frameWarm, x_frameRefund, x_frameMails, x_stack) (nI t) ev := by
  obtain ⟨k, rfl⟩ : ∃ k, J = t + k := ⟨J - t, by omega⟩
  rw [show t + k - t = k by omega] at hp
  exact ⟨k + 1, xw_undo0 hW hE hJ k x_state (Nat.le_refl _) hp⟩
theorem xw_e245 {post : Int32 → SX → Prop} {a d J : Nat} {am en : Int32} (hW : zs_W x_weight) (ha : a < 6) (hd : d < 5) (hJ : J < 160)
    (hp : post 1 (x_limit, x_pending, zs_H (upd x_state (5 * a) (x_state (5 * a) + am)) 30, nI (J + 1), x_warm, x_refund, x_mails, x_ring, x_kept, x_version, x_events, nI (d + 1), nI a, en, 0, nI (7 * d), nI (7 * d), x_lastStatus, x_lastResult, x_lastUsed, x_lastCalls + 1, x_op, x_arg, x_length, x_blockLength, x_blockCost, x_blockMost, x_blockNeed, x_blockRise, upd x_state (5 * a) (x_state (5 * a) + am), x_weight, upd x_journalCell J (nI (5 * a)), upd x_journalOld J (x_state (5 * a)), x_mailTo, x_mailFrom, x_mailAmount, x_mailArg, x_oldCell, x_oldValue, x_oldCount, x_oldDigest, x_eventAccount, x_eventTag, x_eventValue, x_frameSelf, x_frameCaller, x_frameAmount, x_frameArg, x_frameGiven, x_frameLeft, x_framePc, x_frameSp, x_frameJournal, x_frameEvents, x_frameWarm, x_frameRefund, x_frameMails, x_stack)) :
    wX_enter_245 post (nI a) am en x_limit x_pending (zs_H x_state 30) (nI J) x_warm x_refund x_mails x_ring x_kept x_version x_events (nI d) x_self x_left x_pc x_sp x_base x_lastStatus x_lastResult x_lastUsed x_lastCalls x_op x_arg x_length x_blockLength x_blockCost x_blockMost x_blockNeed x_blockRise x_state x_weight x_journalCell x_journalOld x_mailTo x_mailFrom x_mailAmount x_mailArg x_oldCell x_oldValue x_oldCount x_oldDigest x_eventAccount x_eventTag x_eventValue x_frameSelf x_frameCaller x_frameAmount x_frameArg x_frameGiven x_frameLeft x_framePc x_frameSp x_frameJournal x_frameEvents x_frameWarm x_frameRefund x_frameMails x_stack := by
  have e5 : (5 : Int32) * nI a = nI (5 * a) := pk_mul 5 a
  have e7 : (7 : Int32) * nI d = nI (7 * d) := pk_mul 7 d
  unfold wX_enter_245
  rw [e5, nI_clamp (by omega : 5 * a < 2 ^ 31)]
  refine ⟨vp_in_nI (by omega) (by omega), xw_write hW (by omega) hJ ?_⟩
  exact nm_r e7 (nm_r (nI_1 d) (nm_e hp))
theorem xw_e101 {post : Int32 → SX → Prop} {a d J e r W : Nat} {cl am ar en : Int32} (ha : a < 6) (hd : d < 5) (hJ : J < 160) (he : e ≤ 20) (hr : r ≤ 640) (hw : W ≤ 6) (hcl : vp_nar .byte cl.toInt8.toInt32 = cl)
    (h1 : cl < 0 → wX_enter_245 post (nI a) am en x_limit x_pending (zs_H x_state 30) (nI J) x_warm (nI r) (nI W) x_ring x_kept x_version (nI e) (nI d) x_self x_left x_pc x_sp x_base x_lastStatus x_lastResult x_lastUsed x_lastCalls x_op x_arg x_length x_blockLength x_blockCost x_blockMost x_blockNeed x_blockRise x_state x_weight x_journalCell x_journalOld x_mailTo x_mailFrom x_mailAmount x_mailArg x_oldCell x_oldValue x_oldCount x_oldDigest x_eventAccount x_eventTag x_eventValue (upd x_frameSelf d (nI a)) (upd x_frameCaller d cl) (upd x_frameAmount d am) (upd x_frameArg d ar) (upd x_frameGiven d en) x_frameLeft x_framePc x_frameSp (upd x_frameJournal d (nI J)) (upd x_frameEvents d (nI e)) (vp_updL x_frameWarm d x_warm) (upd x_frameRefund d (nI r)) (upd x_frameMails d (nI W)) x_stack)
    (h2 : ¬ cl < 0 → (vp_in (5 * cl) 30 ∧ (wpX_write (fun u => match u with | (x_limit, x_pending, x_digest, x_journal, x_warm, x_refund, x_mails, x_ring, x_kept, x_version, x_events, x_depth, x_self, x_left, x_pc, x_sp, x_base, x_lastStatus, x_lastResult, x_lastUsed, x_lastCalls, x_op, x_arg, x_length, x_blockLength, x_blockCost, x_blockMost, x_blockNeed, x_blockRise, x_state, x_weight, x_journalCell, x_journalOld, x_mailTo, x_mailFrom, x_mailAmount, x_mailArg, x_oldCell, x_oldValue, x_oldCount, x_oldDigest, x_eventAccount, x_eventTag, x_eventValue, x_frameSelf, x_frameCaller, x_frameAmount, x_frameArg, x_frameGiven, x_frameLeft, x_framePc, x_frameSp, x_frameJournal, x_frameEvents, x_frameWarm, x_frameRefund, x_frameMails, x_stack) => (wX_enter_245 post (nI a) am en x_limit x_pending x_digest x_journal x_warm x_refund x_mails x_ring x_kept x_version x_events x_depth x_self x_left x_pc x_sp x_base x_lastStatus x_lastResult x_lastUsed x_lastCalls x_op x_arg x_length x_blockLength x_blockCost x_blockMost x_blockNeed x_blockRise x_state x_weight x_journalCell x_journalOld x_mailTo x_mailFrom x_mailAmount x_mailArg x_oldCell x_oldValue x_oldCount x_oldDigest x_eventAccount x_eventTag x_eventValue x_frameSelf x_frameCaller x_frameAmount x_frameArg x_frameGiven x_frameLeft x_framePc x_frameSp x_frameJournal x_frameEvents x_frameWarm x_frameRefund x_frameMails x_stack)) (x_limit, x_pending, zs_H x_state 30, nI J, x_warm, nI r, nI W, x_ring, x_kept, x_version, nI e, nI d, x_self, x_left, x_pc, x_sp, x_base, x_lastStatus, x_lastResult, x_lastUsed, x_lastCalls, x_op, x_arg, x_length, x_blockLength, x_blockCost, x_blockMost, x_blockNeed, x_blockRise, x_state, x_weight, x_journalCell, x_journalOld, x_mailTo, x_mailFrom, x_mailAmount, x_mailArg, x_oldCell, x_oldValue, x_oldCount, x_oldDigest, x_eventAccount, x_eventTag, x_eventValue, upd x_frameSelf d (nI a), upd x_frameCaller d cl, upd x_frameAmount d am, upd x_frameArg d ar, upd x_frameGiven d en, x_frameLeft, x_framePc, x_frameSp, upd x_frameJournal d (nI J), upd x_frameEvents d (nI e), vp_updL x_frameWarm d x_warm, upd x_frameRefund d (nI r), upd x_frameMails d (nI W), x_stack) (5 * cl) ((x_state (5 * cl).toNatClampNeg) - am)))) :
    wX_enter_101 post (nI a) cl am ar en x_limit x_pending (zs_H x_state 30) (nI J) x_warm (nI r) (nI W) x_ring x_kept x_version (nI e) (nI d) x_self x_left x_pc x_sp x_base x_lastStatus x_lastResult x_lastUsed x_lastCalls x_op x_arg x_length x_blockLength x_blockCost x_blockMost x_blockNeed x_blockRise x_state x_weight x_journalCell x_journalOld x_mailTo x_mailFrom x_mailAmount x_mailArg x_oldCell x_oldValue x_oldCount x_oldDigest x_eventAccount x_eventTag x_eventValue x_frameSelf x_frameCaller x_frameAmount x_frameArg x_frameGiven x_frameLeft x_framePc x_frameSp x_frameJournal x_frameEvents x_frameWarm x_frameRefund x_frameMails x_stack := by
  have hi : vp_in (nI d) 5 := vp_in_nI hd (by omega)
  unfold wX_enter_101
  rw [nI_clamp (by omega : d < 2 ^ 31), zn_nbb (by omega : a < 128), zn_nbb (by omega : e < 128), zn_nbb (by omega : W < 128), zn_nss (by omega : J < 1000), zn_nss (by omega : r < 1000), hcl]
  exact ⟨hi, nm_e ⟨hi, nm_e ⟨hi, nm_e ⟨hi, nm_e ⟨hi, nm_e ⟨hi, nm_e ⟨hi, nm_e ⟨hi, nm_e ⟨hi, nm_e ⟨hi, nm_e (br_c h1 h2)⟩⟩⟩⟩⟩⟩⟩⟩⟩⟩
/-- the end of a call, the outermost -/
theorem xw_f72z {post : SX → Prop} {st x : Int32} (hp : post (x_limit, x_pending, x_digest, x_journal, x_warm, x_refund, x_mails, x_ring, x_kept, x_version, x_events, 0, x_self, x_left, x_pc, x_sp, x_base, st, x, x_frameGiven 0 - x_left, x_lastCalls, x_op, x_arg, x_length, x_blockLength, x_blockCost, x_blockMost, x_blockNeed, x_blockRise, x_state, x_weight, x_journalCell, x_journalOld, x_mailTo, x_mailFrom, x_mailAmount, x_mailArg, x_oldCell, x_oldValue, x_oldCount, x_oldDigest, x_eventAccount, x_eventTag, x_eventValue, x_frameSelf, x_frameCaller, x_frameAmount, x_frameArg, x_frameGiven, x_frameLeft, x_framePc, x_frameSp, x_frameJournal, x_frameEvents, x_frameWarm, x_frameRefund, x_frameMails, x_stack)) : wX_finish_72 post st x (nI 0) x_limit x_pending x_digest x_journal x_warm x_refund x_mails x_ring x_kept x_version x_events x_depth x_self x_left x_pc x_sp x_base x_lastStatus x_lastResult x_lastUsed x_lastCalls x_op x_arg x_length x_blockLength x_blockCost x_blockMost x_blockNeed x_blockRise x_state x_weight x_journalCell x_journalOld x_mailTo x_mailFrom x_mailAmount x_mailArg x_oldCell x_oldValue x_oldCount x_oldDigest x_eventAccount x_eventTag x_eventValue x_frameSelf x_frameCaller x_frameAmount x_frameArg x_frameGiven x_frameLeft x_framePc x_frameSp x_frameJournal x_frameEvents x_frameWarm x_frameRefund x_frameMails x_stack := by
  unfold wX_finish_72
  rw [nI_clamp (by omega : 0 < 2 ^ 31)]
  exact ⟨vp_in_nI (by omega) (by omega), nm_e (br_t rfl hp)⟩
theorem xw_f72s {post : SX → Prop} {st : Nat} {x : Int32} {g s p q k gv L : Nat} (hg : g < 4) (hst : st < 4) (hL : L ≤ gv) (hgv : k + gv ≤ 400) (hq : q + 2 ≤ 35) (e1 : x_frameSelf g = nI s) (e2 : x_framePc g = nI p) (e3 : x_frameSp g = nI q) (e4 : x_frameLeft g = nI (k + gv)) (e5 : x_frameGiven (g + 1) = nI gv)
    (hp : post (x_limit, x_pending, x_digest, x_journal, x_warm, x_refund, x_mails, x_ring, x_kept, x_version, x_events, nI (g + 1), nI s, nI (k + L), nI p, nI (q + 2), nI (7 * g), x_lastStatus, x_lastResult, x_lastUsed, x_lastCalls, x_op, x_arg, x_length, x_blockLength, x_blockCost, x_blockMost, x_blockNeed, x_blockRise, x_state, x_weight, x_journalCell, x_journalOld, x_mailTo, x_mailFrom, x_mailAmount, x_mailArg, x_oldCell, x_oldValue, x_oldCount, x_oldDigest, x_eventAccount, x_eventTag, x_eventValue, x_frameSelf, x_frameCaller, x_frameAmount, x_frameArg, x_frameGiven, x_frameLeft, x_framePc, x_frameSp, x_frameJournal, x_frameEvents, x_frameWarm, x_frameRefund, x_frameMails, upd (upd x_stack q x) (q + 1) (if st = 0 then 1 else 0))) : wX_finish_72 post (nI st) x (nI (g + 1)) x_limit x_pending x_digest x_journal x_warm x_refund x_mails x_ring x_kept x_version x_events x_depth x_self (nI L) x_pc x_sp x_base x_lastStatus x_lastResult x_lastUsed x_lastCalls x_op x_arg x_length x_blockLength x_blockCost x_blockMost x_blockNeed x_blockRise x_state x_weight x_journalCell x_journalOld x_mailTo x_mailFrom x_mailAmount x_mailArg x_oldCell x_oldValue x_oldCount x_oldDigest x_eventAccount x_eventTag x_eventValue x_frameSelf x_frameCaller x_frameAmount x_frameArg x_frameGiven x_frameLeft x_framePc x_frameSp x_frameJournal x_frameEvents x_frameWarm x_frameRefund x_frameMails x_stack := by
  have hi : vp_in (nI g) 5 := vp_in_nI (by omega) (by omega)
  have e7 : (7 : Int32) * nI g = nI (7 * g) := pk_mul 7 g
  have eu : x_frameGiven (g + 1) - nI L = nI (gv - L) := by rw [e5]; exact pk_sub hL
  have el : x_frameLeft g - nI (gv - L) = nI (k + L) := by
    rw [e4, pk_sub (by omega)]
    exact congrArg nI (by omega)
  have hne : ¬ nI (g + 1) = 0 := nI_ne0 (by omega) (by omega)
  have eg : (nI g).toNatClampNeg = g := nI_clamp (by omega)
  have eq0 : (nI q).toNatClampNeg = q := nI_clamp (by omega)
  have eq1 : (nI (q + 1)).toNatClampNeg = q + 1 := nI_clamp (by omega)
  have hq0 : vp_in (nI q) 35 := vp_in_nI (by omega) (by omega)
  have hq1 : vp_in (nI (q + 1)) 35 := vp_in_nI (by omega) (by omega)
  unfold wX_finish_72
  rw [nI_clamp (by omega : g + 1 < 2 ^ 31)]
  refine ⟨vp_in_nI (by omega) (by omega), nm_r eu (br_f hne (nm_r (e' := nI g) (pk_m1 g) ?_))⟩
  rw [eg]
  refine ⟨hi, nm_r e1 (nm_r e7 ⟨hi, nm_r e2 ⟨hi, nm_r e3 ⟨hi, nm_r el (nm_r (e' := nI (q + 1)) (nI_1 q) ?_)⟩⟩⟩)⟩
  rw [eq0]
  refine ⟨hq0, nm_e (nm_r (e' := nI (q + 2)) (nI_1 (q + 1)) ?_)⟩
  rw [eq1]
  by_cases z : st = 0
  · subst z; exact br_t rfl ⟨hq1, nm_e hp⟩
  · rw [if_neg z] at hp
    exact br_f (nI_ne0 (by omega) (by omega)) ⟨hq1, nm_e hp⟩
theorem xw_f22 {post : SX → Prop} {st : Nat} {x : Int32} {f J t ev rr mm : Nat} (hW : zs_W x_weight) (hE : zj_E x_journalCell x_journalOld J) (hJ : J ≤ 160) (ht : t ≤ J) (hf : f < 5) (hst : st < 4) (h0 : 0 < st) (e1 : x_frameJournal f = nI t) (e2 : x_frameEvents f = nI ev) (e3 : x_frameRefund f = nI rr) (e4 : x_frameMails f = nI mm)
    (hp : wX_finish_72 post (nI st) x (nI f) x_limit x_pending (zs_H (zj_U x_journalCell x_journalOld t (J - t) x_state) 30) (nI t) (x_frameWarm f) (nI rr) (nI mm) x_ring x_kept x_version (nI ev) x_depth x_self x_left x_pc x_sp x_base x_lastStatus x_lastResult x_lastUsed x_lastCalls x_op x_arg x_length x_blockLength x_blockCost x_blockMost x_blockNeed x_blockRise (zj_U x_journalCell x_journalOld t (J - t) x_state) x_weight x_journalCell x_journalOld x_mailTo x_mailFrom x_mailAmount x_mailArg x_oldCell x_oldValue x_oldCount x_oldDigest x_eventAccount x_eventTag x_eventValue x_frameSelf x_frameCaller x_frameAmount x_frameArg x_frameGiven x_frameLeft x_framePc x_frameSp x_frameJournal x_frameEvents x_frameWarm x_frameRefund x_frameMails x_stack) : wX_finish_22 post (nI st) x (nI f) x_limit x_pending (zs_H x_state 30) (nI J) x_warm x_refund x_mails x_ring x_kept x_version x_events x_depth x_self x_left x_pc x_sp x_base x_lastStatus x_lastResult x_lastUsed x_lastCalls x_op x_arg x_length x_blockLength x_blockCost x_blockMost x_blockNeed x_blockRise x_state x_weight x_journalCell x_journalOld x_mailTo x_mailFrom x_mailAmount x_mailArg x_oldCell x_oldValue x_oldCount x_oldDigest x_eventAccount x_eventTag x_eventValue x_frameSelf x_frameCaller x_frameAmount x_frameArg x_frameGiven x_frameLeft x_framePc x_frameSp x_frameJournal x_frameEvents x_frameWarm x_frameRefund x_frameMails x_stack := by
  have hi : vp_in (nI f) 5 := vp_in_nI hf (by omega)
  have ef : (nI f).toNatClampNeg = f := nI_clamp (by omega)
  refine br_f (nI_ne0 h0 (by omega)) ⟨hi, hi, ?_⟩
  rw [ef, e1, e2]
  refine xw_undo hW hE hJ ht ?_
  exact ⟨hi, nm_e ⟨hi, nm_r e3 ⟨hi, nm_r e4 hp⟩⟩⟩
theorem xw_finish {post : SX → Prop} {st : Nat} {x : Int32} {f : Nat} (hst : st < 4) (hf : f < 5) (h2 : (st = 2 ∨ st = 3) → wX_finish_22 post (nI st) x (nI f) x_limit x_pending x_digest x_journal x_warm x_refund x_mails x_ring x_kept x_version x_events (nI (f + 1)) x_self 0 x_pc x_sp x_base x_lastStatus x_lastResult x_lastUsed x_lastCalls x_op x_arg x_length x_blockLength x_blockCost x_blockMost x_blockNeed x_blockRise x_state x_weight x_journalCell x_journalOld x_mailTo x_mailFrom x_mailAmount x_mailArg x_oldCell x_oldValue x_oldCount x_oldDigest x_eventAccount x_eventTag x_eventValue x_frameSelf x_frameCaller x_frameAmount x_frameArg x_frameGiven x_frameLeft x_framePc x_frameSp x_frameJournal x_frameEvents x_frameWarm x_frameRefund x_frameMails x_stack) (h0 : st < 2 → wX_finish_22 post (nI st) x (nI f) x_limit x_pending x_digest x_journal x_warm x_refund x_mails x_ring x_kept x_version x_events (nI (f + 1)) x_self x_left x_pc x_sp x_base x_lastStatus x_lastResult x_lastUsed x_lastCalls x_op x_arg x_length x_blockLength x_blockCost x_blockMost x_blockNeed x_blockRise x_state x_weight x_journalCell x_journalOld x_mailTo x_mailFrom x_mailAmount x_mailArg x_oldCell x_oldValue x_oldCount x_oldDigest x_eventAccount x_eventTag x_eventValue x_frameSelf x_frameCaller x_frameAmount x_frameArg x_frameGiven x_frameLeft x_framePc x_frameSp x_frameJournal x_frameEvents x_frameWarm x_frameRefund x_frameMails x_stack) : wpX_finish post (x_limit, x_pending, x_digest, x_journal, x_warm, x_refund, x_mails, x_ring, x_kept, x_version, x_events, nI (f + 1), x_self, x_left, x_pc, x_sp, x_base, x_lastStatus, x_lastResult, x_lastUsed, x_lastCalls, x_op, x_arg, x_length, x_blockLength, x_blockCost, x_blockMost, x_blockNeed, x_blockRise, x_state, x_weight, x_journalCell, x_journalOld, x_mailTo, x_mailFrom, x_mailAmount, x_mailArg, x_oldCell, x_oldValue, x_oldCount, x_oldDigest, x_eventAccount, x_eventTag, x_eventValue, x_frameSelf, x_frameCaller, x_frameAmount, x_frameArg, x_frameGiven, x_frameLeft, x_framePc, x_frameSp, x_frameJournal, x_frameEvents, x_frameWarm, x_frameRefund, x_frameMails, x_stack) (nI st) x := by
  unfold wpX_finish
  dsimp only
  refine nm_r (e' := nI f) (nI_pred f) ?_
  refine pk_eq st 2 (fun e => ?_) (fun n2 => pk_eq st 3 (fun e => ?_) (fun n3 => ?_))
  · exact h2 (Or.inl e)
  · exact h2 (Or.inr e)
  · exact h0 (by omega)
end
end
section
/-! walks of the reference: the stack, a call's begin and end -/
/-- n numbers copied from src (at off) to the front of dst -/
def zy_c (dst src : Nat → Int32) (off n : Nat) : Nat → Int32 := fun j => if j < n then src (off + j) else dst j
theorem zy_c0 {dst src : Nat → Int32} {off : Nat} : zy_c dst src off 0 = dst := by
  funext j; exact if_neg (by omega)
theorem zy_cS {dst src : Nat → Int32} {off n : Nat} : upd (zy_c dst src off n) n (src (off + n)) = zy_c dst src off (n + 1) := by
  funext j; unfold upd zy_c
  by_cases h : j = n
  · rw [if_pos h, if_pos (by omega), h]
  · rw [if_neg h]
    by_cases h2 : j < n
    · rw [if_pos h2, if_pos (by omega)]
    · rw [if_neg h2, if_neg (by omega)]
/-- n numbers copied from the front of src to dst (at off) -/
def zy_p (dst src : Nat → Int32) (off n : Nat) : Nat → Int32 := fun j => if off ≤ j ∧ j < off + n then src (j - off) else dst j
theorem zy_p0 {dst src : Nat → Int32} {off : Nat} : zy_p dst src off 0 = dst := by
  funext j; exact if_neg (by omega)
theorem zy_pS {dst src : Nat → Int32} {off n : Nat} : upd (zy_p dst src off n) (off + n) (src n) = zy_p dst src off (n + 1) := by
  funext j; unfold upd zy_p
  by_cases h : j = off + n
  · rw [if_pos h, if_pos (by omega), h]; congr 1; omega
  · rw [if_neg h]
    by_cases h2 : off ≤ j ∧ j < off + n
    · rw [if_pos h2, if_pos (by omega)]
    · rw [if_neg h2, if_neg (by omega)]
theorem zy_p_in {dst src : Nat → Int32} {off n k : Nat} (h : k < n) : zy_p dst src off n (off + k) = src k := by
  unfold zy_p; rw [if_pos (by omega)]; congr 1; omega
theorem zy_p_out {dst src : Nat → Int32} {off n j : Nat} (h : j < off ∨ off + n ≤ j) : zy_p dst src off n j = dst j := if_neg (by omega)
/-- 0 or 1 -/
def zy_01 (a : Nat → Int32) (off n : Nat) : Prop := ∀ k, k < n → a (off + k) = 0 ∨ a (off + k) = 1
theorem zy_nar {x : Int32} (h : x = 0 ∨ x = 1) : vp_nar .boolean x = x := by rcases h with h | h <;> rw [h] <;> rfl
section
variable {y_limit y_eventCount y_waiting y_refund y_depth y_ended y_answer y_rest y_begun y_result y_used y_calls y_version y_kept : Int32} {y_ops y_bs y_lengths y_now y_copies y_older y_before y_warm y_warmCopies y_eventCopies y_messageCopies y_refundCopies y_events y_messages y_self y_caller y_amounts y_arguments y_given y_left y_at y_tops y_stack : Nat → Int32}
variable {x_op x_arg : Nat → Int32}
theorem yw_push {post : SY → Prop} {f h : Nat} {v : Int32} (hf : f < 5) (hh : h < 6) (et : y_tops f = nI h) (hp : post (y_limit, y_eventCount, y_waiting, y_refund, nI (f + 1), y_ended, y_answer, y_rest, y_begun, y_result, y_used, y_calls, y_version, y_kept, x_op, x_arg, y_lengths, y_now, y_copies, y_older, y_before, y_warm, y_warmCopies, y_eventCopies, y_messageCopies, y_refundCopies, y_events, y_messages, y_self, y_caller, y_amounts, y_arguments, y_given, y_left, y_at, upd y_tops f (nI (h + 1)), upd y_stack (6 * f + h) v)) : wpY_push post (y_limit, y_eventCount, y_waiting, y_refund, nI (f + 1), y_ended, y_answer, y_rest, y_begun, y_result, y_used, y_calls, y_version, y_kept, x_op, x_arg, y_lengths, y_now, y_copies, y_older, y_before, y_warm, y_warmCopies, y_eventCopies, y_messageCopies, y_refundCopies, y_events, y_messages, y_self, y_caller, y_amounts, y_arguments, y_given, y_left, y_at, y_tops, y_stack) v := by
  have hi : vp_in (nI f) 5 := vp_in_nI hf (by omega)
  have e1 : nI (f + 1) - 1 = nI f := nI_pred f
  have e6 : (6 : Int32) * nI f + nI h = nI (6 * f + h) := by rw [show (6 : Int32) * nI f = nI (6 * f) from pk_mul 6 f]; exact nI_add _ _
  unfold wpY_push
  dsimp only
  rw [e1, nI_clamp (by omega : f < 2 ^ 31), et, e6, nI_clamp (by omega : 6 * f + h < 2 ^ 31)]
  exact ⟨hi, hi, nm_r (congrArg (upd y_tops f) (nI_1 h)) ⟨vp_in_nI (by omega) (by omega), nm_e hp⟩⟩
theorem yw_pop {post : Int32 → SY → Prop} {f h : Nat} (hf : f < 5) (hh : h < 6) (et : y_tops f = nI (h + 1)) (hp : post (y_stack (6 * f + h)) (y_limit, y_eventCount, y_waiting, y_refund, nI (f + 1), y_ended, y_answer, y_rest, y_begun, y_result, y_used, y_calls, y_version, y_kept, x_op, x_arg, y_lengths, y_now, y_copies, y_older, y_before, y_warm, y_warmCopies, y_eventCopies, y_messageCopies, y_refundCopies, y_events, y_messages, y_self, y_caller, y_amounts, y_arguments, y_given, y_left, y_at, upd y_tops f (nI h), y_stack)) : wpY_pop post (y_limit, y_eventCount, y_waiting, y_refund, nI (f + 1), y_ended, y_answer, y_rest, y_begun, y_result, y_used, y_calls, y_version, y_kept, x_op, x_arg, y_lengths, y_now, y_copies, y_older, y_before, y_warm, y_warmCopies, y_eventCopies, y_messageCopies, y_refundCopies, y_events, y_messages, y_self, y_caller, y_amounts, y_arguments, y_given, y_left, y_at, y_tops, y_stack) := by
  have hi : vp_in (nI f) 5 := vp_in_nI hf (by omega)
  have e1 : nI (f + 1) - 1 = nI f := nI_pred f
  have e2 : nI (h + 1) - 1 = nI h := nI_pred h
  have e6 : (6 : Int32) * nI f + nI h = nI (6 * f + h) := by rw [show (6 : Int32) * nI f = nI (6 * f) from pk_mul 6 f]; exact nI_add _ _
  unfold wpY_pop
  dsimp only
  rw [e1, nI_clamp (by omega : f < 2 ^ 31), et, e2, e6, nI_clamp (by omega : 6 * f + h < 2 ^ 31)]
  exact ⟨hi, hi, nm_e ⟨vp_in_nI (by omega) (by omega), hp⟩⟩
theorem yw_giveBack {post : SY → Prop} {f h k gv L : Nat} {en : Int32} (hf : f < 5) (hh : h + 2 ≤ 6) (hL : L ≤ gv) (et : y_tops f = nI h) (el : y_left f = nI (k + gv)) (hen : en = nI (gv - L)) (st : Nat) (hst : st < 5)
    (hp : post (y_limit, y_eventCount, y_waiting, y_refund, nI (f + 1), nI st, y_answer, y_rest, y_begun, y_result, y_used, y_calls, y_version, y_kept, x_op, x_arg, y_lengths, y_now, y_copies, y_older, y_before, y_warm, y_warmCopies, y_eventCopies, y_messageCopies, y_refundCopies, y_events, y_messages, y_self, y_caller, y_amounts, y_arguments, y_given, upd y_left f (nI (k + L)), y_at, upd (upd y_tops f (nI (h + 1))) f (nI (h + 2)), upd (upd y_stack (6 * f + h) y_answer) (6 * f + (h + 1)) (if st = 0 then 1 else 0))) : wpY_giveBack post (y_limit, y_eventCount, y_waiting, y_refund, nI (f + 1), nI st, y_answer, y_rest, y_begun, y_result, y_used, y_calls, y_version, y_kept, x_op, x_arg, y_lengths, y_now, y_copies, y_older, y_before, y_warm, y_warmCopies, y_eventCopies, y_messageCopies, y_refundCopies, y_events, y_messages, y_self, y_caller, y_amounts, y_arguments, y_given, y_left, y_at, y_tops, y_stack) en := by
  have hi : vp_in (nI f) 5 := vp_in_nI hf (by omega)
  have e1 : nI (f + 1) - 1 = nI f := nI_pred f
  have e2 : y_left f - en = nI (k + L) := by
    rw [el, hen, pk_sub (by omega)]; exact congrArg nI (by omega)
  unfold wpY_giveBack
  dsimp only
  rw [e1, nI_clamp (by omega : f < 2 ^ 31), e2]
  refine ⟨hi, hi, nm_e ?_⟩
  refine yw_push hf (by omega) et ?_
  by_cases z : st = 0
  · subst z
    exact br_t rfl (yw_push hf (by omega) pk_us hp)
  · rw [if_neg z] at hp
    exact br_f (nI_ne0 (by omega) (by omega)) (yw_push hf (by omega) pk_us hp)
/-! save -/
theorem yw_save36 {post : SY → Prop} {d : Nat} (hd : d < 5) (h01 : zy_01 y_warm 0 24) (hp : post (y_limit, y_eventCount, y_waiting, y_refund, nI d, y_ended, y_answer, y_rest, y_begun, y_result, y_used, y_calls, y_version, y_kept, x_op, x_arg, y_lengths, y_now, y_copies, y_older, y_before, y_warm, zy_p y_warmCopies y_warm (24 * d) 24, upd y_eventCopies d y_eventCount, upd y_messageCopies d y_waiting, upd y_refundCopies d y_refund, y_events, y_messages, y_self, y_caller, y_amounts, y_arguments, y_given, y_left, y_at, y_tops, y_stack)) : ∀ k i, i + k = 24 → wY_save_36 post y_limit y_eventCount y_waiting y_refund (nI d) y_ended y_answer y_rest y_begun y_result y_used y_calls y_version y_kept (k + 1) (nI i) x_op x_arg y_lengths y_now y_copies y_older y_before y_warm (zy_p y_warmCopies y_warm (24 * d) i) y_eventCopies y_messageCopies y_refundCopies y_events y_messages y_self y_caller y_amounts y_arguments y_given y_left y_at y_tops y_stack := by
  have hi : vp_in (nI d) 5 := vp_in_nI hd (by omega)
  have ed : (nI d).toNatClampNeg = d := nI_clamp (by omega)
  intro k
  induction k with
  | zero =>
    intro i hk
    have e : i = 24 := by omega
    subst e
    refine br_t (nI_le (a := 24) (b := 24) (by omega) (by omega)) ?_
    rw [ed]
    exact ⟨hi, nm_e ⟨hi, nm_e ⟨hi, nm_e hp⟩⟩⟩
  | succ k ih =>
    intro i hk
    have e24 : (24 : Int32) * nI d + nI i = nI (24 * d + i) := by rw [show (24 : Int32) * nI d = nI (24 * d) from pk_mul 24 d]; exact nI_add _ _
    refine br_f (nI_ge (a := i) (b := 24) (by omega) (by omega)) ?_
    rw [e24, nI_clamp (by omega : i < 2 ^ 31), nI_clamp (by omega : 24 * d + i < 2 ^ 31)]
    have hz := h01 i (by omega)
    rw [Nat.zero_add] at hz
    rw [zy_nar hz, zy_pS]
    exact ⟨vp_in_nI (by omega) (by omega), vp_in_nI (by omega) (by omega), nm_e (nm_r (nI_1 i) (ih (i + 1) (by omega)))⟩
theorem yw_save2 {post : SY → Prop} {d : Nat} (hd : d < 5) (h01 : zy_01 y_warm 0 24) (hp : post (y_limit, y_eventCount, y_waiting, y_refund, nI d, y_ended, y_answer, y_rest, y_begun, y_result, y_used, y_calls, y_version, y_kept, x_op, x_arg, y_lengths, y_now, zy_p y_copies y_now (30 * d) 30, y_older, y_before, y_warm, zy_p y_warmCopies y_warm (24 * d) 24, upd y_eventCopies d y_eventCount, upd y_messageCopies d y_waiting, upd y_refundCopies d y_refund, y_events, y_messages, y_self, y_caller, y_amounts, y_arguments, y_given, y_left, y_at, y_tops, y_stack)) : ∀ k i, i + k = 30 → wY_save_2 post y_limit y_eventCount y_waiting y_refund (nI d) y_ended y_answer y_rest y_begun y_result y_used y_calls y_version y_kept (k + 1) (nI i) x_op x_arg y_lengths y_now (zy_p y_copies y_now (30 * d) i) y_older y_before y_warm y_warmCopies y_eventCopies y_messageCopies y_refundCopies y_events y_messages y_self y_caller y_amounts y_arguments y_given y_left y_at y_tops y_stack := by
  intro k
  induction k with
  | zero =>
    intro i hk
    have e : i = 30 := by omega
    subst e
    refine br_t (nI_le (a := 30) (b := 30) (by omega) (by omega)) ⟨25, ?_⟩
    have := yw_save36 (y_copies := zy_p y_copies y_now (30 * d) 30) hd h01 hp 24 0 (by omega)
    rw [zy_p0] at this
    exact this
  | succ k ih =>
    intro i hk
    have e30 : (30 : Int32) * nI d + nI i = nI (30 * d + i) := by rw [show (30 : Int32) * nI d = nI (30 * d) from pk_mul 30 d]; exact nI_add _ _
    refine br_f (nI_ge (a := i) (b := 30) (by omega) (by omega)) ?_
    rw [e30, nI_clamp (by omega : i < 2 ^ 31), nI_clamp (by omega : 30 * d + i < 2 ^ 31), zy_pS]
    exact ⟨vp_in_nI (by omega) (by omega), vp_in_nI (by omega) (by omega), nm_e (nm_r (nI_1 i) (ih (i + 1) (by omega)))⟩
theorem yw_save {post : SY → Prop} {d : Nat} (hd : d < 5) (h01 : zy_01 y_warm 0 24) (hp : post (y_limit, y_eventCount, y_waiting, y_refund, nI d, y_ended, y_answer, y_rest, y_begun, y_result, y_used, y_calls, y_version, y_kept, x_op, x_arg, y_lengths, y_now, zy_p y_copies y_now (30 * d) 30, y_older, y_before, y_warm, zy_p y_warmCopies y_warm (24 * d) 24, upd y_eventCopies d y_eventCount, upd y_messageCopies d y_waiting, upd y_refundCopies d y_refund, y_events, y_messages, y_self, y_caller, y_amounts, y_arguments, y_given, y_left, y_at, y_tops, y_stack)) : wpY_save post (y_limit, y_eventCount, y_waiting, y_refund, nI d, y_ended, y_answer, y_rest, y_begun, y_result, y_used, y_calls, y_version, y_kept, x_op, x_arg, y_lengths, y_now, y_copies, y_older, y_before, y_warm, y_warmCopies, y_eventCopies, y_messageCopies, y_refundCopies, y_events, y_messages, y_self, y_caller, y_amounts, y_arguments, y_given, y_left, y_at, y_tops, y_stack) := by
  refine ⟨31, ?_⟩
  have := yw_save2 hd h01 hp 30 0 (by omega)
  rw [zy_p0] at this
  exact this
/-! end -/
theorem yw_e87 {post : SY → Prop} {f : Nat} (hf : f < 5) (h01 : zy_01 y_warmCopies (24 * f) 24) (hp : wY_end_158 post y_limit (y_eventCopies f) (y_messageCopies f) (y_refundCopies f) (nI f) y_ended y_answer y_rest y_begun y_result y_used y_calls y_version y_kept x_op x_arg y_lengths y_now y_copies y_older y_before (zy_c y_warm y_warmCopies (24 * f) 24) y_warmCopies y_eventCopies y_messageCopies y_refundCopies y_events y_messages y_self y_caller y_amounts y_arguments y_given y_left y_at y_tops y_stack) : ∀ k i, i + k = 24 → wY_end_87 post y_limit y_eventCount y_waiting y_refund (nI f) y_ended y_answer y_rest y_begun y_result y_used y_calls y_version y_kept (k + 1) (nI i) x_op x_arg y_lengths y_now y_copies y_older y_before (zy_c y_warm y_warmCopies (24 * f) i) y_warmCopies y_eventCopies y_messageCopies y_refundCopies y_events y_messages y_self y_caller y_amounts y_arguments y_given y_left y_at y_tops y_stack := by
  have hi : vp_in (nI f) 5 := vp_in_nI hf (by omega)
  have ed : (nI f).toNatClampNeg = f := nI_clamp (by omega)
  intro k
  induction k with
  | zero =>
    intro i hk
    have e : i = 24 := by omega
    subst e
    refine br_t (nI_le (a := 24) (b := 24) (by omega) (by omega)) ?_
    rw [ed]
    exact ⟨hi, nm_e ⟨hi, nm_e ⟨hi, nm_e hp⟩⟩⟩
  | succ k ih =>
    intro i hk
    have e24 : (24 : Int32) * nI f + nI i = nI (24 * f + i) := by rw [show (24 : Int32) * nI f = nI (24 * f) from pk_mul 24 f]; exact nI_add _ _
    refine br_f (nI_ge (a := i) (b := 24) (by omega) (by omega)) ?_
    rw [e24, nI_clamp (by omega : i < 2 ^ 31), nI_clamp (by omega : 24 * f + i < 2 ^ 31), zy_nar (h01 i (by omega)), zy_cS]
    exact ⟨vp_in_nI (by omega) (by omega), vp_in_nI (by omega) (by omega), nm_e (nm_r (nI_1 i) (ih (i + 1) (by omega)))⟩
theorem yw_e53 {post : SY → Prop} {f : Nat} (hf : f < 5) (h01 : zy_01 y_warmCopies (24 * f) 24) (hp : wY_end_158 post y_limit (y_eventCopies f) (y_messageCopies f) (y_refundCopies f) (nI f) y_ended y_answer y_rest y_begun y_result y_used y_calls y_version y_kept x_op x_arg y_lengths (zy_c y_now y_copies (30 * f) 30) y_copies y_older y_before (zy_c y_warm y_warmCopies (24 * f) 24) y_warmCopies y_eventCopies y_messageCopies y_refundCopies y_events y_messages y_self y_caller y_amounts y_arguments y_given y_left y_at y_tops y_stack) : ∀ k i, i + k = 30 → wY_end_53 post y_limit y_eventCount y_waiting y_refund (nI f) y_ended y_answer y_rest y_begun y_result y_used y_calls y_version y_kept (k + 1) (nI i) x_op x_arg y_lengths (zy_c y_now y_copies (30 * f) i) y_copies y_older y_before y_warm y_warmCopies y_eventCopies y_messageCopies y_refundCopies y_events y_messages y_self y_caller y_amounts y_arguments y_given y_left y_at y_tops y_stack := by
  intro k
  induction k with
  | zero =>
    intro i hk
    have e : i = 30 := by omega
    subst e
    refine br_t (nI_le (a := 30) (b := 30) (by omega) (by omega)) ⟨25, ?_⟩
    have := yw_e87 (y_eventCount := y_eventCount) (y_waiting := y_waiting) (y_refund := y_refund) (y_now := zy_c y_now y_copies (30 * f) 30) hf h01 hp 24 0 (by omega)
    rw [zy_c0] at this
    exact this
  | succ k ih =>
    intro i hk
    have e30 : (30 : Int32) * nI f + nI i = nI (30 * f + i) := by rw [show (30 : Int32) * nI f = nI (30 * f) from pk_mul 30 f]; exact nI_add _ _
    refine br_f (nI_ge (a := i) (b := 30) (by omega) (by omega)) ?_
    rw [e30, nI_clamp (by omega : i < 2 ^ 31), nI_clamp (by omega : 30 * f + i < 2 ^ 31), zy_cS]
    exact ⟨vp_in_nI (by omega) (by omega), vp_in_nI (by omega) (by omega), nm_e (nm_r (nI_1 i) (ih (i + 1) (by omega)))⟩
theorem yw_e44 {post : SY → Prop} {st f : Nat} {z0 : Int32} (hst : st < 5) (hf : f < 5) (h01 : zy_01 y_warmCopies (24 * f) 24) (h0 : st = 0 → wY_end_158 post y_limit y_eventCount y_waiting y_refund (nI f) y_ended y_answer z0 y_begun y_result y_used y_calls y_version y_kept x_op x_arg y_lengths y_now y_copies y_older y_before y_warm y_warmCopies y_eventCopies y_messageCopies y_refundCopies y_events y_messages y_self y_caller y_amounts y_arguments y_given y_left y_at y_tops y_stack) (h1 : st ≠ 0 → wY_end_158 post y_limit (y_eventCopies f) (y_messageCopies f) (y_refundCopies f) (nI f) y_ended y_answer z0 y_begun y_result y_used y_calls y_version y_kept x_op x_arg y_lengths (zy_c y_now y_copies (30 * f) 30) y_copies y_older y_before (zy_c y_warm y_warmCopies (24 * f) 24) y_warmCopies y_eventCopies y_messageCopies y_refundCopies y_events y_messages y_self y_caller y_amounts y_arguments y_given y_left y_at y_tops y_stack) : wY_end_44 post (nI st) z0 y_limit y_eventCount y_waiting y_refund (nI f) y_ended y_answer y_rest y_begun y_result y_used y_calls y_version y_kept x_op x_arg y_lengths y_now y_copies y_older y_before y_warm y_warmCopies y_eventCopies y_messageCopies y_refundCopies y_events y_messages y_self y_caller y_amounts y_arguments y_given y_left y_at y_tops y_stack := by
  refine pk_eq st 0 (fun e => h0 e) (fun n => ⟨31, ?_⟩)
  have := yw_e53 (y_eventCount := y_eventCount) (y_waiting := y_waiting) (y_refund := y_refund) (y_rest := z0) hf h01 (h1 n) 30 0 (by omega)
  rw [zy_c0] at this
  exact this
theorem yw_end {post : SY → Prop} {st f : Nat} {x : Int32} (hst : st < 4) (hf : f < 5) (h2 : (st = 2 ∨ st = 3) → wY_end_44 post (nI st) 0 y_limit y_eventCount y_waiting y_refund (nI f) (nI st) x y_rest y_begun y_result y_used y_calls y_version y_kept x_op x_arg y_lengths y_now y_copies y_older y_before y_warm y_warmCopies y_eventCopies y_messageCopies y_refundCopies y_events y_messages y_self y_caller y_amounts y_arguments y_given y_left y_at y_tops y_stack) (h0 : st < 2 → wY_end_44 post (nI st) (y_left f) y_limit y_eventCount y_waiting y_refund (nI f) (nI st) x y_rest y_begun y_result y_used y_calls y_version y_kept x_op x_arg y_lengths y_now y_copies y_older y_before y_warm y_warmCopies y_eventCopies y_messageCopies y_refundCopies y_events y_messages y_self y_caller y_amounts y_arguments y_given y_left y_at y_tops y_stack) : wpY_end post (y_limit, y_eventCount, y_waiting, y_refund, nI (f + 1), y_ended, y_answer, y_rest, y_begun, y_result, y_used, y_calls, y_version, y_kept, x_op, x_arg, y_lengths, y_now, y_copies, y_older, y_before, y_warm, y_warmCopies, y_eventCopies, y_messageCopies, y_refundCopies, y_events, y_messages, y_self, y_caller, y_amounts, y_arguments, y_given, y_left, y_at, y_tops, y_stack) (nI st) x := by
  unfold wpY_end
  dsimp only
  refine nm_r (e' := nI f) (nI_pred f) ?_
  rw [nI_clamp (by omega : f < 2 ^ 31)]
  refine pk_eq st 2 (fun e => ?_) (fun n2 => pk_eq st 3 (fun e => ?_) (fun n3 => ?_))
  · exact h2 (Or.inl e)
  · exact h2 (Or.inr e)
  · exact ⟨vp_in_nI hf (by omega), h0 (by omega)⟩
theorem yw_158z {post : SY → Prop} (hp : post (y_limit, y_eventCount, y_waiting, y_refund, 0, y_ended, y_answer, y_rest, y_begun, y_result, y_used, y_calls, y_version, y_kept, x_op, x_arg, y_lengths, y_now, y_copies, y_older, y_before, y_warm, y_warmCopies, y_eventCopies, y_messageCopies, y_refundCopies, y_events, y_messages, y_self, y_caller, y_amounts, y_arguments, y_given, y_left, y_at, y_tops, y_stack)) : wY_end_158 post y_limit y_eventCount y_waiting y_refund (nI 0) y_ended y_answer y_rest y_begun y_result y_used y_calls y_version y_kept x_op x_arg y_lengths y_now y_copies y_older y_before y_warm y_warmCopies y_eventCopies y_messageCopies y_refundCopies y_events y_messages y_self y_caller y_amounts y_arguments y_given y_left y_at y_tops y_stack := br_t (nI_le (a := 0) (b := 0) (by omega) (by omega)) hp
theorem yw_158s {post : SY → Prop} {g h k gv L st : Nat} (hg : g < 4) (hh : h + 2 ≤ 6) (hL : L ≤ gv) (et : y_tops g = nI h) (el : y_left g = nI (k + gv)) (eg : y_given (g + 1) = nI gv) (hst : st < 5)
    (hp : post (y_limit, y_eventCount, y_waiting, y_refund, nI (g + 1), nI st, y_answer, nI L, y_begun, y_result, y_used, y_calls, y_version, y_kept, x_op, x_arg, y_lengths, y_now, y_copies, y_older, y_before, y_warm, y_warmCopies, y_eventCopies, y_messageCopies, y_refundCopies, y_events, y_messages, y_self, y_caller, y_amounts, y_arguments, y_given, upd y_left g (nI (k + L)), y_at, upd (upd y_tops g (nI (h + 1))) g (nI (h + 2)), upd (upd y_stack (6 * g + h) y_answer) (6 * g + (h + 1)) (if st = 0 then 1 else 0))) : wY_end_158 post y_limit y_eventCount y_waiting y_refund (nI (g + 1)) (nI st) y_answer (nI L) y_begun y_result y_used y_calls y_version y_kept x_op x_arg y_lengths y_now y_copies y_older y_before y_warm y_warmCopies y_eventCopies y_messageCopies y_refundCopies y_events y_messages y_self y_caller y_amounts y_arguments y_given y_left y_at y_tops y_stack := by
  refine br_f (nI_nle (by omega) (by omega)) ⟨vp_in_nI (by omega) (by omega), ?_⟩
  rw [nI_clamp (by omega : g + 1 < 2 ^ 31)]
  exact yw_giveBack (by omega) hh hL et el (by rw [eg]; exact pk_sub hL) st hst hp
end
end
section
/-! laws of the parts -/
theorem zl_SS_x {f k : Nat} {hh : Nat → Nat} {xs tops ys : Nat → Int32} {v : Int32} (h : zr_SS f hh xs tops ys) (hk : 7 * f ≤ k) : zr_SS f hh (upd xs k v) tops ys := by
  intro g hg
  obtain ⟨a, b, c⟩ := h g hg
  exact ⟨a, b, fun j hj => by rw [pk_un (by omega)]; exact c j hj⟩
theorem zl_SS_y {f k : Nat} {hh : Nat → Nat} {xs tops ys : Nat → Int32} {v : Int32} (h : zr_SS f hh xs tops ys) (hk : 6 * f ≤ k) : zr_SS f hh xs tops (upd ys k v) := by
  intro g hg
  obtain ⟨a, b, c⟩ := h g hg
  exact ⟨a, b, fun j hj => by rw [pk_un (by omega)]; exact c j hj⟩
theorem zl_SS_t {f k : Nat} {hh : Nat → Nat} {xs tops ys : Nat → Int32} {v : Int32} (h : zr_SS f hh xs tops ys) (hk : f ≤ k) : zr_SS f hh xs (upd tops k v) ys := by
  intro g hg
  obtain ⟨a, b, c⟩ := h g hg
  exact ⟨by rw [pk_un (by omega)]; exact a, b, c⟩
/-- the stacks of a running frame and of those below -/
def zl_S (f h : Nat) (hh : Nat → Nat) (xs tops ys : Nat → Int32) : Prop := zr_SS f hh xs tops ys ∧ zr_S1 f h xs tops ys
theorem zl_pop {f h : Nat} {hh : Nat → Nat} {xs tops ys : Nat → Int32} (H : zl_S f (h + 1) hh xs tops ys) : zl_S f h hh xs (upd tops f (nI h)) ys := by
  obtain ⟨hS, h1, h2, h3⟩ := H
  exact ⟨zl_SS_t hS (Nat.le_refl f), pk_us, by omega, fun j hj => h3 j (by omega)⟩
theorem zl_push {f h : Nat} {hh : Nat → Nat} {xs tops ys : Nat → Int32} {v : Int32} (H : zl_S f h hh xs tops ys) (hh6 : h < 6) : zl_S f (h + 1) hh (upd xs (7 * f + h) v) (upd tops f (nI (h + 1))) (upd ys (6 * f + h) v) := by
  obtain ⟨hS, h1, h2, h3⟩ := H
  refine ⟨zl_SS_t (zl_SS_y (zl_SS_x hS (by omega)) (by omega)) (Nat.le_refl f), pk_us, by omega, fun j hj => ?_⟩
  by_cases e : j = h
  · subst e; rw [pk_us, pk_us]
  · rw [pk_un (by omega), pk_un (by omega)]; exact h3 j (by omega)
theorem zl_at {f h : Nat} {hh : Nat → Nat} {xs tops ys : Nat → Int32} (H : zl_S f h hh xs tops ys) {j : Nat} (hj : j < h) : ys (6 * f + j) = xs (7 * f + j) := H.2.2.2 j hj
theorem zl_tp {f h : Nat} {hh : Nat → Nat} {xs tops ys : Nat → Int32} (H : zl_S f h hh xs tops ys) : tops f = nI h := H.2.1
theorem zl_FB {f k : Nat} {ln sf gv kk hh pp : Nat → Nat} {xl yl xp yp xq : Nat → Int32} {v w : Int32} (h : zr_FB f ln sf gv kk hh pp xl yl xp yp xq) : zr_FB f ln sf gv kk hh pp xl (upd yl f v) xp (upd yp f w) xq := by
  intro g hg
  obtain ⟨a, b, c, d, e, i, j⟩ := h g hg
  exact ⟨a, by rw [pk_un (by omega)]; exact b, c, d, by rw [pk_un (by omega)]; exact e, i, j⟩
theorem zl_FBl {f : Nat} {ln sf gv kk hh pp : Nat → Nat} {xl yl xp yp xq : Nat → Int32} {v : Int32} (h : zr_FB f ln sf gv kk hh pp xl yl xp yp xq) : zr_FB f ln sf gv kk hh pp xl (upd yl f v) xp yp xq := by
  intro g hg
  obtain ⟨a, b, c, d, e, i, j⟩ := h g hg
  exact ⟨a, by rw [pk_un (by omega)]; exact b, c, d, e, i, j⟩
/-! a write of the store -/
theorem zl_ST {s now : Nat → Int32} {w : Nat → Int64} {i c : Nat} {v : Int32} (h : zr_ST s w now) (hi : zs_px i = c) (hv : c % 5 = 0 → ∃ b : Nat, b ≤ 1000000000 ∧ v = nI b) : zr_ST (upd s c v) w (upd now i v) := by
  obtain ⟨h1, h2, h3⟩ := h
  refine ⟨h1, zs_V_c h2 hv, fun k hk => ?_⟩
  by_cases e : k = i
  · subst e; rw [pk_us, hi, pk_us]
  · rw [pk_un e, pk_un (fun z => e (zs_px_inj (z.trans hi.symm)))]; exact h3 k hk
theorem zl_JR {J d c : Nat} {jc jo s B copies : Nat → Int32} {jn : Nat → Nat} {v : Int32} (h : zr_JR J jc jo s B jn d copies) (hV : zs_V s) (hc : c < 30) : zr_JR (J + 1) (upd jc J (nI c)) (upd jo J (s c)) (upd s c v) B jn d copies := by
  obtain ⟨h1, h2, h3, h4⟩ := h
  refine ⟨zj_E_push h1 hc fun z => ?_, ?_, fun g hg => ⟨by have := (h3 g hg).1; omega, fun k hk => ?_⟩, h4⟩
  · obtain ⟨b, hb, e⟩ := hV (c / 5) (by omega)
    have e5 : 5 * (c / 5) = c := by omega
    rw [e5] at e
    exact ⟨b, hb, e⟩
  · rw [zj_U_push (t := 0) (n := J) (by omega) (by omega)]; exact h2
  · obtain ⟨a, b⟩ := h3 g hg
    have e : J + 1 - jn g = (J - jn g) + 1 := by omega
    rw [e, zj_U_push (t := jn g) (n := J - jn g) (by omega) (by omega)]
    exact b k hk
/-- undoing to the frame d -/
theorem zl_JRu {J d : Nat} {jc jo s B copies : Nat → Int32} {jn : Nat → Nat} (h : zr_JR J jc jo s B jn (d + 1) copies) : zr_JR (jn d) jc jo (zj_U jc jo (jn d) (J - jn d) s) B jn d copies := by
  obtain ⟨h1, h2, h3, h4⟩ := h
  have hd := (h3 d (by omega)).1
  refine ⟨zj_E_le h1 hd, ?_, fun g hg => ⟨h4 g d (by omega) (by omega), fun k hk => ?_⟩, fun i j hi hj => h4 i j hi (by omega)⟩
  · have := zj_U_comp (jc := jc) (jo := jo) (t := 0) (n := jn d) (J - jn d) s
    rw [Nat.zero_add] at this
    rw [this, show jn d + (J - jn d) = J by omega]
    exact h2
  · obtain ⟨a, b⟩ := h3 g (by omega)
    have hgd := h4 g d (by omega) (by omega)
    have := zj_U_comp (jc := jc) (jo := jo) (t := jn g) (n := jn d - jn g) (J - jn d) s
    rw [show jn g + (jn d - jn g) = jn d by omega] at this
    rw [this, show jn d - jn g + (J - jn d) = J - jn g by omega]
    exact b k hk
theorem zl_JRd {J d : Nat} {jc jo s B copies : Nat → Int32} {jn : Nat → Nat} (h : zr_JR J jc jo s B jn (d + 1) copies) : zr_JR J jc jo s B jn d copies :=
  ⟨h.1, h.2.1, fun g hg => h.2.2.1 g (by omega), fun i j hi hj => h.2.2.2 i j hi (by omega)⟩
theorem zl_JR0 {J : Nat} {jc jo s B copies copies' : Nat → Int32} {jn jn' : Nat → Nat} (h : zr_JR J jc jo s B jn 0 copies) : zr_JR J jc jo s B jn' 0 copies' :=
  ⟨h.1, h.2.1, fun g hg => absurd hg (by omega), fun i j hi hj => absurd hj (by omega)⟩
theorem zl_STu {J d : Nat} {jc jo s B copies now : Nat → Int32} {w : Nat → Int64} {jn : Nat → Nat} (h : zr_JR J jc jo s B jn (d + 1) copies) (hS : zr_ST s w now) : zr_ST (zj_U jc jo (jn d) (J - jn d) s) w (zy_c now copies (30 * d) 30) := by
  obtain ⟨h1, h2, h3⟩ := hS
  have hd := (h.2.2.1 d (by omega)).1
  refine ⟨h1, zj_U_V h.1 (by omega) h2, fun k hk => ?_⟩
  unfold zy_c
  rw [if_pos hk]
  exact (h.2.2.1 d (by omega)).2 k hk
/-- a new frame: the copies -/
theorem zl_JRe {J d : Nat} {jc jo s B copies now : Nat → Int32} {jn : Nat → Nat} (h : zr_JR J jc jo s B jn d copies) (hN : ∀ k, k < 30 → now k = s (zs_px k)) : zr_JR J jc jo s B (zm_u jn d J) (d + 1) (zy_p copies now (30 * d) 30) := by
  obtain ⟨h1, h2, h3, h4⟩ := h
  refine ⟨h1, h2, fun g hg => ?_, fun i j hi hj => ?_⟩
  · by_cases e : g = d
    · subst e
      rw [zm_us]
      refine ⟨Nat.le_refl J, fun k hk => ?_⟩
      rw [zy_p_in hk, Nat.sub_self]
      exact hN k hk
    · rw [zm_un e]
      obtain ⟨a, b⟩ := h3 g (by omega)
      refine ⟨a, fun k hk => ?_⟩
      rw [zy_p_out (by omega)]
      exact b k hk
  · by_cases e : j = d
    · subst e
      rw [zm_us]
      by_cases e2 : i = j
      · subst e2; rw [zm_us]; exact Nat.le_refl J
      · rw [zm_un e2]; exact (h3 i (by omega)).1
    · rw [zm_un e, zm_un (by omega)]; exact h4 i j hi (by omega)
/-- the frame of an empty program holds no copies -/
theorem zl_F1e {d a en : Nat} {sf gv : Nat → Nat} {xs ys xc yc xa ya xr yr xg yg : Nat → Int32} {cl am ar : Int32} (h : zr_F1 d sf gv xs ys xc yc xa ya xr yr xg yg) (ha : a < 6) (hen : en ≤ 400) : zr_F1 (d + 1) (zm_u sf d a) (zm_u gv d en) (upd xs d (nI a)) (upd ys d (nI a)) (upd xc d cl) (upd yc d cl) (upd xa d am) (upd ya d am) (upd xr d ar) (upd yr d ar) (upd xg d (nI en)) (upd yg d (nI en)) := by
  intro g hg
  by_cases e : g = d
  · subst e
    rw [pk_us, pk_us, pk_us, pk_us, pk_us, pk_us, pk_us, pk_us, pk_us, pk_us, zm_us, zm_us]
    exact ⟨ha, rfl, rfl, rfl, rfl, rfl, rfl, rfl, hen⟩
  · rw [pk_un e, pk_un e, pk_un e, pk_un e, pk_un e, pk_un e, pk_un e, pk_un e, pk_un e, pk_un e, zm_un e, zm_un e]
    exact h g (by omega)
theorem zl_WM01 {w : Int64} {yw : Nat → Int32} (h : zr_WM w yw) : zy_01 yw 0 24 := by
  intro k hk
  rw [Nat.zero_add, h k hk]
  split
  · exact Or.inr rfl
  · exact Or.inl rfl
theorem zl_F2e {d J W e r : Nat} {jn ml : Nat → Nat} {xe ye xm ym xr yr xj : Nat → Int32} {xw : Nat → Int64} {yw ywarm : Nat → Int32} {w : Int64} (h : zr_F2 d jn ml xe ye xm ym xr yr xj xw yw) (he : e ≤ 20) (hr : r ≤ 4 * J) (hw : zr_WM w ywarm) : zr_F2 (d + 1) (zm_u jn d J) (zm_u ml d W) (upd xe d (nI e)) (upd ye d (nI e)) (upd xm d (nI W)) (upd ym d (nI W)) (upd xr d (nI r)) (upd yr d (nI r)) (upd xj d (nI J)) (vp_updL xw d w) (zy_p yw ywarm (24 * d) 24) := by
  intro g hg
  by_cases e : g = d
  · subst e
    rw [pk_us, pk_us, pk_us, pk_us, pk_us, pk_us, pk_us, pk_uLs, zm_us, zm_us]
    refine ⟨⟨_, he, rfl, rfl⟩, rfl, rfl, ⟨_, hr, rfl, rfl⟩, rfl, fun k hk => ?_⟩
    show zy_p yw ywarm (24 * g) 24 (24 * g + k) = _
    rw [zy_p_in hk]
    exact hw k hk
  · rw [pk_un e, pk_un e, pk_un e, pk_un e, pk_un e, pk_un e, pk_un e, pk_uLn e, zm_un e, zm_un e]
    obtain ⟨h1, h2, h3, h4, h5, h6⟩ := h g (by omega)
    refine ⟨h1, h2, h3, h4, h5, fun k hk => ?_⟩
    show zy_p yw ywarm (24 * d) 24 (24 * g + k) = _
    rw [zy_p_out (by omega)]
    exact h6 k hk
theorem zl_MOe {d W : Nat} {ml : Nat → Nat} (h : zr_MO d ml W) : zr_MO (d + 1) (zm_u ml d W) W := by
  refine ⟨fun g hg => ?_, fun i j hi hj => ?_⟩
  · by_cases e : g = d
    · subst e; rw [zm_us]; exact Nat.le_refl W
    · rw [zm_un e]; exact h.1 g (by omega)
  · by_cases e : j = d
    · subst e
      rw [zm_us]
      by_cases e2 : i = j
      · subst e2; rw [zm_us]; exact Nat.le_refl W
      · rw [zm_un e2]; exact h.1 i (by omega)
    · rw [zm_un e, zm_un (by omega)]; exact h.2 i j hi (by omega)
/-- a running frame is put by: its registers go to the arrays -/
theorem zl_FBs {f s p L en h : Nat} {ln sf gv kk hh pp : Nat → Nat} {xl yl xp yp xq : Nat → Int32} (H : zr_FB f ln sf gv kk hh pp xl yl xp yp xq) (hT : zr_TP f s p L ln sf yl yp) (hen : en ≤ L) (hL : L ≤ gv f) : zr_FB (f + 1) ln sf (zm_u gv (f + 1) en) (zm_u kk f (L - en)) (zm_u hh f h) (zm_u pp f p) (upd xl f (nI L)) yl (upd xp f (nI p)) yp (upd xq f (nI (7 * f + h))) := by
  intro g hg
  obtain ⟨t1, t2, t3, t4, t5, t6⟩ := hT
  by_cases e : g = f
  · subst e
    rw [pk_us, pk_us, pk_us, zm_us, zm_us, zm_us, zm_us, zm_un (by omega : g ≠ g + 1), show L - en + en = L by omega, t2]
    exact ⟨rfl, t4, hL, rfl, t5, t6, rfl⟩
  · rw [pk_un e, pk_un e, pk_un e, zm_un e, zm_un e, zm_un e, zm_un (by omega : g + 1 ≠ f + 1), zm_un (by omega : g ≠ f + 1)]
    exact H g (by omega)
theorem zl_SSs {f h : Nat} {hh : Nat → Nat} {xs tops ys : Nat → Int32} (H : zl_S f h hh xs tops ys) (h4 : h ≤ 4) : zr_SS (f + 1) (zm_u hh f h) xs tops ys := by
  intro g hg
  by_cases e : g = f
  · subst e
    rw [zm_us]
    exact ⟨H.2.1, h4, H.2.2.2⟩
  · rw [zm_un e]; exact H.1 g (by omega)
theorem zl_WMc {w : Int64} {yw ywc : Nat → Int32} {d : Nat} (h : zr_WM w (fun k => ywc (24 * d + k))) : zr_WM w (zy_c yw ywc (24 * d) 24) := by
  intro k hk
  unfold zy_c
  rw [if_pos hk]
  exact h k hk
theorem zl_WMc01 {w : Int64} {ywc : Nat → Int32} {d : Nat} (h : zr_WM w (fun k => ywc (24 * d + k))) : zy_01 ywc (24 * d) 24 := by
  intro k hk
  have := h k hk
  dsimp only at this
  rw [this]
  split
  · exact Or.inr rfl
  · exact Or.inl rfl
/-! warm bits -/
theorem zw_one : ∀ j : Fin 24, ((1 : Int64) <<< ((nI j.val).toInt64 &&& 63)).toBitVec = BitVec.twoPow 64 j.val := by decide +kernel
theorem zw_set {w : Int64} {yw : Nat → Int32} {j : Nat} (h : zr_WM w yw) (hj : j < 24) : zr_WM (w ||| ((1 : Int64) <<< ((nI j).toInt64 &&& 63))) (upd yw j 1) := by
  intro k hk
  have e := zw_one ⟨j, hj⟩
  dsimp only at e
  rw [Int64.toBitVec_or, e, BitVec.getLsbD_or, BitVec.getLsbD_twoPow]
  by_cases z : k = j
  · subst z
    rw [pk_us]
    have : k < 64 := by omega
    simp [this]
  · rw [pk_un z, h k hk]
    have z' : ¬ j = k := fun q => z q.symm
    simp [z']
theorem zw_bit {w : Int64} {j : Nat} (hj : j < 24) : ((w.toUInt64 >>> ((nI j).toInt64.toUInt64 &&& Int64.toUInt64 63)).toInt64 &&& 1) = 0 ↔ w.toBitVec.getLsbD j = false := by
  rw [wb_cu j (by omega)]
  exact ts_bit (by omega) (u_tn (by omega))
end
section
/-! a call begins: enter and begin -/
def zs_b (s : Nat → Int32) (a : Nat) : Nat := (s (5 * a)).toNatClampNeg
theorem zs_be {s : Nat → Int32} (h : zs_V s) {a : Nat} (ha : a < 6) : s (5 * a) = nI (zs_b s a) ∧ zs_b s a ≤ 1000000000 := by
  obtain ⟨b, hb, e⟩ := h a ha
  unfold zs_b
  rw [e, nI_clamp (by omega)]
  exact ⟨rfl, hb⟩
theorem zn_m1ne {c : Nat} (h : c < 6) : ¬ (-1 : Int32) = nI c := fun e => absurd (show (-1 : Int32) < 0 by decide) (by rw [e]; exact nI_pos (by omega))
/-- the call isn't denied -/
def zl_P (s : Nat → Int32) (a d : Nat) (cl am : Int32) : Prop := ∃ q : Nat, q < 2 ^ 31 ∧ am = nI q ∧ q + zs_b s a ≤ 1000000000 ∧ d ≠ 5 ∧ ∀ c : Nat, c < 6 → cl = nI c → q ≤ zs_b s c
section
variable {x_limit x_pending x_journal x_refund x_mails x_ring x_kept x_version x_events x_depth x_self x_left x_pc x_sp x_base x_lastStatus x_lastResult x_lastUsed x_lastCalls : Int32} {x_digest x_warm : Int64} {x_op x_arg x_length x_blockLength x_blockCost x_blockMost x_blockNeed x_blockRise x_state x_journalCell x_journalOld x_mailTo x_mailFrom x_mailAmount x_mailArg x_oldCell x_oldValue x_oldCount x_eventAccount x_eventTag x_eventValue x_frameSelf x_frameCaller x_frameAmount x_frameArg x_frameGiven x_frameLeft x_framePc x_frameSp x_frameJournal x_frameEvents x_frameRefund x_frameMails x_stack : Nat → Int32} {x_weight x_oldDigest x_frameWarm : Nat → Int64}
variable {y_limit y_eventCount y_waiting y_refund y_depth y_ended y_answer y_rest y_begun y_result y_used y_calls y_version y_kept : Int32} {y_ops y_bs y_lengths y_now y_copies y_older y_before y_warm y_warmCopies y_eventCopies y_messageCopies y_refundCopies y_events y_messages y_self y_caller y_amounts y_arguments y_given y_left y_at y_tops y_stack : Nat → Int32}
theorem xw_enterG {post : Int32 → SX → Prop} {a d : Nat} {cl am ar en : Int32} (hV : zs_V x_state) (ha : a < 6) (hd : d ≤ 5) (hcl : cl = -1 ∨ ∃ c : Nat, c < 6 ∧ cl = nI c)
    (h0 : ¬ zl_P x_state a d cl am → post 0 (x_limit, x_pending, x_digest, x_journal, x_warm, x_refund, x_mails, x_ring, x_kept, x_version, x_events, nI d, x_self, x_left, x_pc, x_sp, x_base, x_lastStatus, x_lastResult, x_lastUsed, x_lastCalls, x_op, x_arg, x_length, x_blockLength, x_blockCost, x_blockMost, x_blockNeed, x_blockRise, x_state, x_weight, x_journalCell, x_journalOld, x_mailTo, x_mailFrom, x_mailAmount, x_mailArg, x_oldCell, x_oldValue, x_oldCount, x_oldDigest, x_eventAccount, x_eventTag, x_eventValue, x_frameSelf, x_frameCaller, x_frameAmount, x_frameArg, x_frameGiven, x_frameLeft, x_framePc, x_frameSp, x_frameJournal, x_frameEvents, x_frameWarm, x_frameRefund, x_frameMails, x_stack)) (h1 : zl_P x_state a d cl am → wX_enter_47 post (nI a) cl am ar en x_limit x_pending x_digest x_journal x_warm x_refund x_mails x_ring x_kept x_version x_events (nI d) x_self x_left x_pc x_sp x_base x_lastStatus x_lastResult x_lastUsed x_lastCalls x_op x_arg x_length x_blockLength x_blockCost x_blockMost x_blockNeed x_blockRise x_state x_weight x_journalCell x_journalOld x_mailTo x_mailFrom x_mailAmount x_mailArg x_oldCell x_oldValue x_oldCount x_oldDigest x_eventAccount x_eventTag x_eventValue x_frameSelf x_frameCaller x_frameAmount x_frameArg x_frameGiven x_frameLeft x_framePc x_frameSp x_frameJournal x_frameEvents x_frameWarm x_frameRefund x_frameMails x_stack) : wpX_enter post (x_limit, x_pending, x_digest, x_journal, x_warm, x_refund, x_mails, x_ring, x_kept, x_version, x_events, nI d, x_self, x_left, x_pc, x_sp, x_base, x_lastStatus, x_lastResult, x_lastUsed, x_lastCalls, x_op, x_arg, x_length, x_blockLength, x_blockCost, x_blockMost, x_blockNeed, x_blockRise, x_state, x_weight, x_journalCell, x_journalOld, x_mailTo, x_mailFrom, x_mailAmount, x_mailArg, x_oldCell, x_oldValue, x_oldCount, x_oldDigest, x_eventAccount, x_eventTag, x_eventValue, x_frameSelf, x_frameCaller, x_frameAmount, x_frameArg, x_frameGiven, x_frameLeft, x_framePc, x_frameSp, x_frameJournal, x_frameEvents, x_frameWarm, x_frameRefund, x_frameMails, x_stack) (nI a) cl am ar en := by
  have e5 : (5 : Int32) * nI a = nI (5 * a) := pk_mul 5 a
  obtain ⟨eb, hb⟩ := zs_be hV ha
  have es : (1000000000 : Int32) - x_state (5 * a) = nI (1000000000 - zs_b x_state a) := by rw [eb]; exact pk_sub (a := 1000000000) hb
  unfold wpX_enter
  dsimp only
  rw [e5, nI_clamp (by omega : 5 * a < 2 ^ 31), es]
  refine br_c (fun hneg => h0 ?_) (fun hpos => ?_)
  · rintro ⟨q, hq, e, _⟩
    rw [e] at hneg
    exact nI_pos hq hneg
  obtain ⟨q, hq, rfl⟩ := nI_of hpos
  refine pk_eq d 5 (fun e => h0 ?_) (fun hd5 => ⟨vp_in_nI (by omega) (by omega), ?_⟩)
  · rintro ⟨_, _, _, _, h5, _⟩; exact h5 e
  refine pk_le q (1000000000 - zs_b x_state a) (fun hle => ?_) (fun hgt => h0 ?_)
  · rcases hcl with rfl | ⟨c, hc, rfl⟩
    · exact br_t (by decide) (h1 ⟨q, hq, rfl, by omega, hd5, fun c hc e => absurd e (zn_m1ne hc)⟩)
    · have e5c : (5 : Int32) * nI c = nI (5 * c) := pk_mul 5 c
      obtain ⟨ec, hbc⟩ := zs_be hV hc
      rw [e5c, nI_clamp (by omega : 5 * c < 2 ^ 31), ec]
      refine br_f (nI_pos (by omega)) ⟨vp_in_nI (by omega) (by omega), ?_⟩
      refine pk_le q (zs_b x_state c) (fun hq2 => h1 ⟨q, hq, rfl, by omega, hd5, fun c' hc' e => ?_⟩) (fun hq2 => h0 ?_)
      · have := (nI_eq (by omega) (by omega)).mp e
        subst this; exact hq2
      · rintro ⟨q', hq', e, _, _, hall⟩
        have := (nI_eq hq hq').mp e
        subst this
        exact absurd (hall c hc rfl) (by omega)
  · rintro ⟨q', hq', e, hle, _⟩
    have := (nI_eq hq hq').mp e
    subst this
    omega
theorem yw_beginG {post : Int32 → SY → Prop} {a d l : Nat} {cl am ar en : Int32} (hV : zs_V x_state) (hN : ∀ k, k < 30 → y_now k = x_state (zs_px k)) (ha : a < 6) (hd : d ≤ 5) (hcl : cl = -1 ∨ ∃ c : Nat, c < 6 ∧ cl = nI c) (hl : y_lengths a = nI l) (hl24 : l ≤ 24) (h01 : zy_01 y_warm 0 24)
    (h0 : ¬ zl_P x_state a d cl am → post 0 (y_limit, y_eventCount, y_waiting, y_refund, nI d, 4, 0, en, y_begun, y_result, y_used, y_calls, y_version, y_kept, x_op, x_arg, y_lengths, y_now, y_copies, y_older, y_before, y_warm, y_warmCopies, y_eventCopies, y_messageCopies, y_refundCopies, y_events, y_messages, y_self, y_caller, y_amounts, y_arguments, y_given, y_left, y_at, y_tops, y_stack))
    (h1 : zl_P x_state a d cl am → l = 0 → wY_begin_99 post (nI a) am ar cl en y_limit y_eventCount y_waiting y_refund (nI d) 0 0 en (y_begun + 1) y_result y_used y_calls y_version y_kept x_op x_arg y_lengths y_now y_copies y_older y_before y_warm y_warmCopies y_eventCopies y_messageCopies y_refundCopies y_events y_messages y_self y_caller y_amounts y_arguments y_given y_left y_at y_tops y_stack)
    (h2 : zl_P x_state a d cl am → 0 < l → wY_begin_99 post (nI a) am ar cl en y_limit y_eventCount y_waiting y_refund (nI d) 0 0 en (y_begun + 1) y_result y_used y_calls y_version y_kept x_op x_arg y_lengths y_now (zy_p y_copies y_now (30 * d) 30) y_older y_before y_warm (zy_p y_warmCopies y_warm (24 * d) 24) (upd y_eventCopies d y_eventCount) (upd y_messageCopies d y_waiting) (upd y_refundCopies d y_refund) y_events y_messages y_self y_caller y_amounts y_arguments y_given y_left y_at y_tops y_stack) :
    wpY_begin post (y_limit, y_eventCount, y_waiting, y_refund, nI d, y_ended, y_answer, y_rest, y_begun, y_result, y_used, y_calls, y_version, y_kept, x_op, x_arg, y_lengths, y_now, y_copies, y_older, y_before, y_warm, y_warmCopies, y_eventCopies, y_messageCopies, y_refundCopies, y_events, y_messages, y_self, y_caller, y_amounts, y_arguments, y_given, y_left, y_at, y_tops, y_stack) (nI a) am ar cl en := by
  have e5 : (5 : Int32) * nI a + 4 = nI (5 * a + 4) := by rw [show (5 : Int32) * nI a = nI (5 * a) from pk_mul 5 a]; exact nI_add _ 4
  obtain ⟨eb, hb⟩ := zs_be hV ha
  have en' : y_now (5 * a + 4) = nI (zs_b x_state a) := by rw [hN _ (by omega), zs_px_b, eb]
  unfold wpY_begin
  dsimp only
  refine br_c (fun hneg => h0 ?_) (fun hpos => ?_)
  · rintro ⟨q, hq, e, _⟩
    rw [e] at hneg
    exact nI_pos hq hneg
  obtain ⟨q, hq, rfl⟩ := nI_of hpos
  have main : (∀ c : Nat, c < 6 → cl = nI c → q ≤ zs_b x_state c) → wY_begin_40 post (nI a) (nI q) ar cl en y_limit y_eventCount y_waiting y_refund (nI d) 4 0 en y_begun y_result y_used y_calls y_version y_kept x_op x_arg y_lengths y_now y_copies y_older y_before y_warm y_warmCopies y_eventCopies y_messageCopies y_refundCopies y_events y_messages y_self y_caller y_amounts y_arguments y_given y_left y_at y_tops y_stack := by
    intro hcc
    unfold wY_begin_40
    rw [e5, nI_clamp (by omega : 5 * a + 4 < 2 ^ 31), en', nI_l (by omega), nI_l hq, lN_add]
    refine ⟨vp_in_nI (by omega) (by omega), ?_⟩
    have hlt : ((1000000000 : Int64) < lN (zs_b x_state a + q)) ↔ 1000000000 < zs_b x_state a + q := pk_lLT (a := 1000000000) (by omega) (by omega)
    refine br_c (fun h => h0 ?_) (fun h => ?_)
    · rintro ⟨q', hq', e, hle, _⟩
      have e2 := (nI_eq hq hq').mp e
      subst e2
      have := hlt.mp h
      omega
    · have hle : ¬ 1000000000 < zs_b x_state a + q := fun z => h (hlt.mpr z)
      refine pk_eq d 5 (fun e => h0 ?_) (fun hd5 => nm_e ⟨vp_in_nI (by omega) (by omega), ?_⟩)
      · rintro ⟨_, _, _, _, h5, _⟩; exact h5 e
      have hP : zl_P x_state a d cl (nI q) := ⟨q, hq, rfl, by omega, hd5, hcc⟩
      rw [nI_clamp (by omega : a < 2 ^ 31), hl]
      refine pk_le l 0 (fun h => h1 hP (by omega)) (fun h => ?_)
      exact yw_save (by omega) h01 (h2 hP h)
  rcases hcl with rfl | ⟨c, hc, rfl⟩
  · exact br_t (by decide) (main fun c hc e => absurd e (zn_m1ne hc))
  · have e5c : (5 : Int32) * nI c + 4 = nI (5 * c + 4) := by rw [show (5 : Int32) * nI c = nI (5 * c) from pk_mul 5 c]; exact nI_add _ 4
    obtain ⟨ec, hbc⟩ := zs_be hV hc
    have enc : y_now (5 * c + 4) = nI (zs_b x_state c) := by rw [hN _ (by omega), zs_px_b, ec]
    rw [e5c, nI_clamp (by omega : 5 * c + 4 < 2 ^ 31), enc]
    refine br_f (nI_pos (by omega)) ⟨vp_in_nI (by omega) (by omega), ?_⟩
    refine pk_lt (zs_b x_state c) q (fun hlt => h0 ?_) (fun hge => main fun c' hc' e => ?_)
    · rintro ⟨q', hq', e, _, _, hall⟩
      have := (nI_eq hq hq').mp e
      subst this
      exact absurd (hall c hc rfl) (by omega)
    · have := (nI_eq (by omega) (by omega)).mp e
      subst this; exact hge
theorem yw_b119e {post : Int32 → SY → Prop} {a : Nat} {cl am ar en : Int32} (ha : a < 6) (hl : y_lengths a = 0) (hp : post 0 (y_limit, y_eventCount, y_waiting, y_refund, y_depth, y_ended, y_answer, y_rest, y_begun, y_result, y_used, y_calls, y_version, y_kept, x_op, x_arg, y_lengths, upd y_now (5 * a + 4) (y_now (5 * a + 4) + am), y_copies, y_older, y_before, y_warm, y_warmCopies, y_eventCopies, y_messageCopies, y_refundCopies, y_events, y_messages, y_self, y_caller, y_amounts, y_arguments, y_given, y_left, y_at, y_tops, y_stack)) : wY_begin_119 post (nI a) am ar cl en y_limit y_eventCount y_waiting y_refund y_depth y_ended y_answer y_rest y_begun y_result y_used y_calls y_version y_kept x_op x_arg y_lengths y_now y_copies y_older y_before y_warm y_warmCopies y_eventCopies y_messageCopies y_refundCopies y_events y_messages y_self y_caller y_amounts y_arguments y_given y_left y_at y_tops y_stack := by
  have e5 : (5 : Int32) * nI a + 4 = nI (5 * a + 4) := by rw [show (5 : Int32) * nI a = nI (5 * a) from pk_mul 5 a]; exact nI_add _ 4
  unfold wY_begin_119
  rw [e5, nI_clamp (by omega : 5 * a + 4 < 2 ^ 31), nI_clamp (by omega : a < 2 ^ 31)]
  have hi : vp_in (nI (5 * a + 4)) 30 := vp_in_nI (by omega) (by omega)
  exact ⟨hi, hi, nm_e ⟨vp_in_nI (by omega) (by omega), br_t hl hp⟩⟩
theorem yw_b119n {post : Int32 → SY → Prop} {a d : Nat} {cl am ar en : Int32} (ha : a < 6) (hd : d < 5) (hl : ¬ y_lengths a = 0) (hp : post 1 (y_limit, y_eventCount, y_waiting, y_refund, nI (d + 1), y_ended, y_answer, y_rest, y_begun, y_result, y_used, y_calls, y_version, y_kept, x_op, x_arg, y_lengths, upd y_now (5 * a + 4) (y_now (5 * a + 4) + am), y_copies, y_older, y_before, y_warm, y_warmCopies, y_eventCopies, y_messageCopies, y_refundCopies, y_events, y_messages, upd y_self d (nI a), upd y_caller d cl, upd y_amounts d am, upd y_arguments d ar, upd y_given d en, upd y_left d en, upd y_at d 0, upd y_tops d 0, y_stack)) : wY_begin_119 post (nI a) am ar cl en y_limit y_eventCount y_waiting y_refund (nI d) y_ended y_answer y_rest y_begun y_result y_used y_calls y_version y_kept x_op x_arg y_lengths y_now y_copies y_older y_before y_warm y_warmCopies y_eventCopies y_messageCopies y_refundCopies y_events y_messages y_self y_caller y_amounts y_arguments y_given y_left y_at y_tops y_stack := by
  have e5 : (5 : Int32) * nI a + 4 = nI (5 * a + 4) := by rw [show (5 : Int32) * nI a = nI (5 * a) from pk_mul 5 a]; exact nI_add _ 4
  have hdi : vp_in (nI d) 5 := vp_in_nI hd (by omega)
  unfold wY_begin_119
  rw [e5, nI_clamp (by omega : 5 * a + 4 < 2 ^ 31), nI_clamp (by omega : a < 2 ^ 31), nI_clamp (by omega : d < 2 ^ 31)]
  have hi : vp_in (nI (5 * a + 4)) 30 := vp_in_nI (by omega) (by omega)
  exact ⟨hi, hi, nm_e ⟨vp_in_nI (by omega) (by omega), br_f hl ⟨hdi, nm_e ⟨hdi, nm_e ⟨hdi, nm_e ⟨hdi, nm_e ⟨hdi, nm_e ⟨hdi, nm_e ⟨hdi, nm_e ⟨hdi, nm_e (nm_r (nI_1 d) hp)⟩⟩⟩⟩⟩⟩⟩⟩⟩⟩
theorem yw_b99a {post : Int32 → SY → Prop} {a : Nat} {am ar en : Int32} (hp : wY_begin_119 post (nI a) am ar (-1) en y_limit y_eventCount y_waiting y_refund y_depth y_ended y_answer y_rest y_begun y_result y_used y_calls y_version y_kept x_op x_arg y_lengths y_now y_copies y_older y_before y_warm y_warmCopies y_eventCopies y_messageCopies y_refundCopies y_events y_messages y_self y_caller y_amounts y_arguments y_given y_left y_at y_tops y_stack) : wY_begin_99 post (nI a) am ar (-1) en y_limit y_eventCount y_waiting y_refund y_depth y_ended y_answer y_rest y_begun y_result y_used y_calls y_version y_kept x_op x_arg y_lengths y_now y_copies y_older y_before y_warm y_warmCopies y_eventCopies y_messageCopies y_refundCopies y_events y_messages y_self y_caller y_amounts y_arguments y_given y_left y_at y_tops y_stack := br_t (by decide) hp
theorem yw_b99b {post : Int32 → SY → Prop} {a c : Nat} {am ar en : Int32} (hc : c < 6) (hp : wY_begin_119 post (nI a) am ar (nI c) en y_limit y_eventCount y_waiting y_refund y_depth y_ended y_answer y_rest y_begun y_result y_used y_calls y_version y_kept x_op x_arg y_lengths (upd y_now (5 * c + 4) (y_now (5 * c + 4) - am)) y_copies y_older y_before y_warm y_warmCopies y_eventCopies y_messageCopies y_refundCopies y_events y_messages y_self y_caller y_amounts y_arguments y_given y_left y_at y_tops y_stack) : wY_begin_99 post (nI a) am ar (nI c) en y_limit y_eventCount y_waiting y_refund y_depth y_ended y_answer y_rest y_begun y_result y_used y_calls y_version y_kept x_op x_arg y_lengths y_now y_copies y_older y_before y_warm y_warmCopies y_eventCopies y_messageCopies y_refundCopies y_events y_messages y_self y_caller y_amounts y_arguments y_given y_left y_at y_tops y_stack := by
  have e5 : (5 : Int32) * nI c + 4 = nI (5 * c + 4) := by rw [show (5 : Int32) * nI c = nI (5 * c) from pk_mul 5 c]; exact nI_add _ 4
  unfold wY_begin_99
  rw [e5, nI_clamp (by omega : 5 * c + 4 < 2 ^ 31)]
  have hi : vp_in (nI (5 * c + 4)) 30 := vp_in_nI (by omega) (by omega)
  exact br_f (nI_pos (by omega)) ⟨hi, hi, nm_e hp⟩
theorem xw_e47z {post : Int32 → SX → Prop} {a : Nat} {cl am ar en : Int32} (hp : wX_enter_101 post (nI a) cl am ar en x_limit x_pending x_digest x_journal x_warm x_refund x_mails x_ring x_kept x_version x_events (nI 0) x_self x_left x_pc x_sp x_base x_lastStatus x_lastResult x_lastUsed x_lastCalls x_op x_arg x_length x_blockLength x_blockCost x_blockMost x_blockNeed x_blockRise x_state x_weight x_journalCell x_journalOld x_mailTo x_mailFrom x_mailAmount x_mailArg x_oldCell x_oldValue x_oldCount x_oldDigest x_eventAccount x_eventTag x_eventValue x_frameSelf x_frameCaller x_frameAmount x_frameArg x_frameGiven x_frameLeft x_framePc x_frameSp x_frameJournal x_frameEvents x_frameWarm x_frameRefund x_frameMails x_stack) : wX_enter_47 post (nI a) cl am ar en x_limit x_pending x_digest x_journal x_warm x_refund x_mails x_ring x_kept x_version x_events (nI 0) x_self x_left x_pc x_sp x_base x_lastStatus x_lastResult x_lastUsed x_lastCalls x_op x_arg x_length x_blockLength x_blockCost x_blockMost x_blockNeed x_blockRise x_state x_weight x_journalCell x_journalOld x_mailTo x_mailFrom x_mailAmount x_mailArg x_oldCell x_oldValue x_oldCount x_oldDigest x_eventAccount x_eventTag x_eventValue x_frameSelf x_frameCaller x_frameAmount x_frameArg x_frameGiven x_frameLeft x_framePc x_frameSp x_frameJournal x_frameEvents x_frameWarm x_frameRefund x_frameMails x_stack := br_t (nI_le (a := 0) (b := 0) (by omega) (by omega)) hp
theorem xw_e47s {post : Int32 → SX → Prop} {a f p q : Nat} {cl am ar en : Int32} (hf : f < 5) (hpc : p < 128) (hq : q < 128) (hp : wX_enter_101 post (nI a) cl am ar en x_limit x_pending x_digest x_journal x_warm x_refund x_mails x_ring x_kept x_version x_events (nI (f + 1)) x_self x_left (nI p) (nI q) x_base x_lastStatus x_lastResult x_lastUsed x_lastCalls x_op x_arg x_length x_blockLength x_blockCost x_blockMost x_blockNeed x_blockRise x_state x_weight x_journalCell x_journalOld x_mailTo x_mailFrom x_mailAmount x_mailArg x_oldCell x_oldValue x_oldCount x_oldDigest x_eventAccount x_eventTag x_eventValue x_frameSelf x_frameCaller x_frameAmount x_frameArg x_frameGiven (upd x_frameLeft f x_left) (upd x_framePc f (nI p)) (upd x_frameSp f (nI q)) x_frameJournal x_frameEvents x_frameWarm x_frameRefund x_frameMails x_stack) : wX_enter_47 post (nI a) cl am ar en x_limit x_pending x_digest x_journal x_warm x_refund x_mails x_ring x_kept x_version x_events (nI (f + 1)) x_self x_left (nI p) (nI q) x_base x_lastStatus x_lastResult x_lastUsed x_lastCalls x_op x_arg x_length x_blockLength x_blockCost x_blockMost x_blockNeed x_blockRise x_state x_weight x_journalCell x_journalOld x_mailTo x_mailFrom x_mailAmount x_mailArg x_oldCell x_oldValue x_oldCount x_oldDigest x_eventAccount x_eventTag x_eventValue x_frameSelf x_frameCaller x_frameAmount x_frameArg x_frameGiven x_frameLeft x_framePc x_frameSp x_frameJournal x_frameEvents x_frameWarm x_frameRefund x_frameMails x_stack := by
  have hi : vp_in (nI f) 5 := vp_in_nI hf (by omega)
  unfold wX_enter_47
  rw [nI_pred f, nI_clamp (by omega : f < 2 ^ 31), zn_nbb hpc, zn_nbb hq]
  exact br_f (nI_nle (by omega) (by omega)) ⟨hi, nm_e ⟨hi, nm_e ⟨hi, nm_e hp⟩⟩⟩
theorem zl_enter {a d l J e r W : Nat} {B : Nat → Int32} {cl am ar en : Int32} (hST : zr_ST x_state x_weight y_now) (hP : zl_P x_state a d cl am) (ha : a < 6) (hd : d ≤ 5) (hJ : J + 2 ≤ 160) (he : e ≤ 20) (hr : r ≤ 640) (hw : W ≤ 6) (hcl : cl = -1 ∨ ∃ c : Nat, c < 6 ∧ cl = nI c) (hl : y_lengths a = nI l) (hl24 : l ≤ 24) (h01 : zy_01 y_warm 0 24) :
    ∃ (S jc jo nw : Nat → Int32) (J' : Nat), zr_ST S x_weight nw ∧ (∀ (jn : Nat → Nat) (d' : Nat) (cp : Nat → Int32), zr_JR J x_journalCell x_journalOld x_state B jn d' cp → zr_JR J' jc jo S B jn d' cp) ∧ J < J' ∧ J' ≤ J + 2 ∧ (cl = -1 → J' = J + 1) ∧
      (∀ post : Int32 → SX → Prop, post 1 (x_limit, x_pending, zs_H S 30, nI J', x_warm, nI r, nI W, x_ring, x_kept, x_version, nI e, nI (d + 1), nI a, en, 0, nI (7 * d), nI (7 * d), x_lastStatus, x_lastResult, x_lastUsed, x_lastCalls + 1, x_op, x_arg, x_length, x_blockLength, x_blockCost, x_blockMost, x_blockNeed, x_blockRise, S, x_weight, jc, jo, x_mailTo, x_mailFrom, x_mailAmount, x_mailArg, x_oldCell, x_oldValue, x_oldCount, x_oldDigest, x_eventAccount, x_eventTag, x_eventValue, upd x_frameSelf d (nI a), upd x_frameCaller d cl, upd x_frameAmount d am, upd x_frameArg d ar, upd x_frameGiven d en, x_frameLeft, x_framePc, x_frameSp, upd x_frameJournal d (nI J), upd x_frameEvents d (nI e), vp_updL x_frameWarm d x_warm, upd x_frameRefund d (nI r), upd x_frameMails d (nI W), x_stack) → wX_enter_101 post (nI a) cl am ar en x_limit x_pending (zs_H x_state 30) (nI J) x_warm (nI r) (nI W) x_ring x_kept x_version (nI e) (nI d) x_self x_left x_pc x_sp x_base x_lastStatus x_lastResult x_lastUsed x_lastCalls x_op x_arg x_length x_blockLength x_blockCost x_blockMost x_blockNeed x_blockRise x_state x_weight x_journalCell x_journalOld x_mailTo x_mailFrom x_mailAmount x_mailArg x_oldCell x_oldValue x_oldCount x_oldDigest x_eventAccount x_eventTag x_eventValue x_frameSelf x_frameCaller x_frameAmount x_frameArg x_frameGiven x_frameLeft x_framePc x_frameSp x_frameJournal x_frameEvents x_frameWarm x_frameRefund x_frameMails x_stack) ∧
      (∀ post : Int32 → SY → Prop, l = 0 → post 0 (y_limit, y_eventCount, y_waiting, y_refund, nI d, 0, 0, en, y_begun + 1, y_result, y_used, y_calls, y_version, y_kept, x_op, x_arg, y_lengths, nw, y_copies, y_older, y_before, y_warm, y_warmCopies, y_eventCopies, y_messageCopies, y_refundCopies, y_events, y_messages, y_self, y_caller, y_amounts, y_arguments, y_given, y_left, y_at, y_tops, y_stack) → wpY_begin post (y_limit, y_eventCount, y_waiting, y_refund, nI d, y_ended, y_answer, y_rest, y_begun, y_result, y_used, y_calls, y_version, y_kept, x_op, x_arg, y_lengths, y_now, y_copies, y_older, y_before, y_warm, y_warmCopies, y_eventCopies, y_messageCopies, y_refundCopies, y_events, y_messages, y_self, y_caller, y_amounts, y_arguments, y_given, y_left, y_at, y_tops, y_stack) (nI a) am ar cl en) ∧
      (∀ post : Int32 → SY → Prop, 0 < l → post 1 (y_limit, y_eventCount, y_waiting, y_refund, nI (d + 1), 0, 0, en, y_begun + 1, y_result, y_used, y_calls, y_version, y_kept, x_op, x_arg, y_lengths, nw, zy_p y_copies y_now (30 * d) 30, y_older, y_before, y_warm, zy_p y_warmCopies y_warm (24 * d) 24, upd y_eventCopies d y_eventCount, upd y_messageCopies d y_waiting, upd y_refundCopies d y_refund, y_events, y_messages, upd y_self d (nI a), upd y_caller d cl, upd y_amounts d am, upd y_arguments d ar, upd y_given d en, upd y_left d en, upd y_at d 0, upd y_tops d 0, y_stack) → wpY_begin post (y_limit, y_eventCount, y_waiting, y_refund, nI d, y_ended, y_answer, y_rest, y_begun, y_result, y_used, y_calls, y_version, y_kept, x_op, x_arg, y_lengths, y_now, y_copies, y_older, y_before, y_warm, y_warmCopies, y_eventCopies, y_messageCopies, y_refundCopies, y_events, y_messages, y_self, y_caller, y_amounts, y_arguments, y_given, y_left, y_at, y_tops, y_stack) (nI a) am ar cl en) := by
  obtain ⟨hW, hV, hN⟩ := hST
  obtain ⟨q, hq, eam, hqa, hd5, hqc⟩ := id hP
  obtain ⟨eb, hb⟩ := zs_be hV ha
  have hd4 : d < 5 := by omega
  have hl0 : l = 0 → y_lengths a = 0 := fun z => by rw [hl, z]; rfl
  have hln : 0 < l → ¬ y_lengths a = 0 := fun z => by rw [hl]; exact nI_ne0 z (by omega)
  rcases hcl with rfl | ⟨c, hc, rfl⟩
  · refine ⟨upd x_state (5 * a) (x_state (5 * a) + am), upd x_journalCell J (nI (5 * a)), upd x_journalOld J (x_state (5 * a)), upd y_now (5 * a + 4) (y_now (5 * a + 4) + am), J + 1, ?_, fun jn d' cp h => zl_JR h hV (by omega), by omega, by omega, fun _ => rfl, fun post hp => ?_, fun post z hp => ?_, fun post z hp => ?_⟩
    · have e4 : y_now (5 * a + 4) = x_state (5 * a) := by rw [hN _ (by omega), zs_px_b]
      rw [e4]
      refine zl_ST ⟨hW, hV, hN⟩ zs_px_b fun _ => ⟨zs_b x_state a + q, by omega, ?_⟩
      rw [eb, eam]; exact nI_add _ _
    · refine xw_e101 ha hd4 (by omega) he hr hw zn_m1 (fun _ => ?_) (fun z => absurd (by decide) z)
      exact xw_e245 hW ha hd4 (by omega) hp
    · refine yw_beginG hV hN ha hd (Or.inl rfl) hl hl24 h01 (fun n => absurd hP n) (fun _ _ => ?_) (fun _ z' => absurd z' (by omega))
      exact yw_b99a (yw_b119e ha (hl0 z) hp)
    · refine yw_beginG hV hN ha hd (Or.inl rfl) hl hl24 h01 (fun n => absurd hP n) (fun _ z' => absurd z' (by omega)) (fun _ _ => ?_)
      exact yw_b99a (yw_b119n ha hd4 (hln z) hp)
  · obtain ⟨ec, hbc⟩ := zs_be hV hc
    have hqc' := hqc c hc rfl
    have e5c : (5 : Int32) * nI c = nI (5 * c) := pk_mul 5 c
    have e4c : y_now (5 * c + 4) = x_state (5 * c) := by rw [hN _ (by omega), zs_px_b]
    have hST1 : zr_ST (upd x_state (5 * c) (x_state (5 * c) - am)) x_weight (upd y_now (5 * c + 4) (y_now (5 * c + 4) - am)) := by
      rw [e4c]
      refine zl_ST ⟨hW, hV, hN⟩ zs_px_b fun _ => ⟨zs_b x_state c - q, by omega, ?_⟩
      rw [ec, eam]; exact pk_sub hqc'
    obtain ⟨_, hV1, hN1⟩ := id hST1
    have e41 : (upd y_now (5 * c + 4) (y_now (5 * c + 4) - am)) (5 * a + 4) = (upd x_state (5 * c) (x_state (5 * c) - am)) (5 * a) := by rw [hN1 _ (by omega), zs_px_b]
    refine ⟨upd (upd x_state (5 * c) (x_state (5 * c) - am)) (5 * a) ((upd x_state (5 * c) (x_state (5 * c) - am)) (5 * a) + am), upd (upd x_journalCell J (nI (5 * c))) (J + 1) (nI (5 * a)), upd (upd x_journalOld J (x_state (5 * c))) (J + 1) ((upd x_state (5 * c) (x_state (5 * c) - am)) (5 * a)), upd (upd y_now (5 * c + 4) (y_now (5 * c + 4) - am)) (5 * a + 4) ((upd y_now (5 * c + 4) (y_now (5 * c + 4) - am)) (5 * a + 4) + am), J + 1 + 1, ?_, fun jn d' cp h => zl_JR (zl_JR h hV (by omega)) hV1 (by omega), by omega, by omega, fun z => absurd z.symm (zn_m1ne hc), fun post hp => ?_, fun post z hp => ?_, fun post z hp => ?_⟩
    · rw [e41]
      refine zl_ST hST1 zs_px_b fun _ => ?_
      by_cases ca : 5 * a = 5 * c
      · have : a = c := by omega
        subst this
        refine ⟨zs_b x_state a, hb, ?_⟩
        rw [pk_us, eam, eb, pk_sub hqc', nI_add]
        exact congrArg nI (by omega)
      · refine ⟨zs_b x_state a + q, by omega, ?_⟩
        rw [pk_un ca, eb, eam]; exact nI_add _ _
    · refine xw_e101 ha hd4 (by omega) he hr hw (zn_nbb (by omega)) (fun z => absurd z (nI_pos (by omega))) (fun _ => ?_)
      rw [e5c, nI_clamp (by omega : 5 * c < 2 ^ 31)]
      refine ⟨vp_in_nI (by omega) (by omega), xw_write hW (by omega) (by omega) ?_⟩
      exact xw_e245 hW ha hd4 (by omega) hp
    · refine yw_beginG hV hN ha hd (Or.inr ⟨c, hc, rfl⟩) hl hl24 h01 (fun n => absurd hP n) (fun _ _ => ?_) (fun _ z' => absurd z' (by omega))
      exact yw_b99b hc (yw_b119e ha (hl0 z) hp)
    · refine yw_beginG hV hN ha hd (Or.inr ⟨c, hc, rfl⟩) hl hl24 h01 (fun n => absurd hP n) (fun _ z' => absurd z' (by omega)) (fun _ _ => ?_)
      exact yw_b99b hc (yw_b119n ha hd4 (hln z) hp)
end
end
section
/-! the reference's step, to its dispatch -/
theorem zc_tk3 {o : Nat} (ho : o < 24) : zc_tk o ≤ 3 := co_dec (N := 24) (P := fun o => zc_tk o ≤ 3) (by decide) ho
theorem zc_ad2 {o : Nat} (ho : o < 24) : zc_ad o ≤ 2 := co_dec (N := 24) (P := fun o => zc_ad o ≤ 2) (by decide) ho
theorem zc_cst8 {o : Nat} (ho : o < 24) : zc_cst o ≤ 8 := co_dec (N := 24) (P := fun o => zc_cst o ≤ 8) (by decide) ho
theorem zc_mx8 {o : Nat} (ho : o < 24) : zc_mx o ≤ 8 := co_dec (N := 24) (P := fun o => zc_mx o ≤ 8) (by decide) ho
theorem zc_cm8 {o : Nat} (ho : o < 24) : zc_cst o + zc_mx o ≤ 8 := co_dec (N := 24) (P := fun o => zc_cst o + zc_mx o ≤ 8) (by decide) ho
theorem zc_cs20 {o : Nat} (ho : o < 24) (w : Bool) : zc_cst o + zc_cc o w ≤ 8 := by
  have h2 := zc_cc_le o w
  have h3 := zc_cm8 ho
  omega
def zy_nx (o p : Nat) (b top : Int32) : Int32 := if o = 16 then b else if o = 17 then (if top = 0 then b else nI (p + 1)) else nI (p + 1)
section
variable {y_limit y_eventCount y_waiting y_refund y_depth y_ended y_answer y_rest y_begun y_result y_used y_calls y_version y_kept : Int32} {y_ops y_bs y_lengths y_now y_copies y_older y_before y_warm y_warmCopies y_eventCopies y_messageCopies y_refundCopies y_events y_messages y_self y_caller y_amounts y_arguments y_given y_left y_at y_tops y_stack : Nat → Int32}
variable {x_op x_arg : Nat → Int32}
theorem yw_step0 {post : SY → Prop} {f s p L h o : Nat} {w : Bool} (hf : f < 5) (hs : s < 6) (hp24 : p < 24) (es : y_self f = nI s) (ep : y_at f = nI p) (el : y_left f = nI L) (et : y_tops f = nI h) (eo : x_op (24 * s + p) = nI o) (ho : o < 24) (hL : L ≤ 400) (hh : h ≤ 6)
    (hw : y_warm (4 * s + zq_q (x_arg (24 * s + p))) = if w = true then 1 else 0)
    (hO : L < zc_cst o + zc_cc o w → wpY_end post (y_limit, y_eventCount, y_waiting, y_refund, nI (f + 1), y_ended, y_answer, y_rest, y_begun, y_result, y_used, y_calls, y_version, y_kept, x_op, x_arg, y_lengths, y_now, y_copies, y_older, y_before, y_warm, y_warmCopies, y_eventCopies, y_messageCopies, y_refundCopies, y_events, y_messages, y_self, y_caller, y_amounts, y_arguments, y_given, y_left, y_at, y_tops, y_stack) 2 0)
    (hF : zc_cst o + zc_cc o w ≤ L → ¬ (zc_tk o ≤ h ∧ h - zc_tk o + zc_ad o ≤ 6) → wY_step_126 post (nI f) (nI (24 * s + p)) (nI o) (nI (4 * s + zq_q (x_arg (24 * s + p)))) y_limit y_eventCount y_waiting y_refund (nI (f + 1)) y_ended y_answer y_rest y_begun y_result y_used y_calls y_version y_kept x_op x_arg y_lengths y_now y_copies y_older y_before y_warm y_warmCopies y_eventCopies y_messageCopies y_refundCopies y_events y_messages y_self y_caller y_amounts y_arguments y_given (upd y_left f (nI (L - (zc_cst o + zc_cc o w)))) y_at y_tops y_stack)
    (hG : zc_cst o + zc_cc o w ≤ L → zc_tk o ≤ h → h - zc_tk o + zc_ad o ≤ 6 → wY_step_127 post (nI f) (nI (24 * s + p)) (nI o) (nI (4 * s + zq_q (x_arg (24 * s + p)))) 1 y_limit y_eventCount y_waiting y_refund (nI (f + 1)) y_ended y_answer y_rest y_begun y_result y_used y_calls y_version y_kept x_op x_arg y_lengths y_now y_copies y_older y_before y_warm y_warmCopies y_eventCopies y_messageCopies y_refundCopies y_events y_messages y_self y_caller y_amounts y_arguments y_given (upd y_left f (nI (L - (zc_cst o + zc_cc o w)))) y_at y_tops y_stack) :
    wpY_step post (y_limit, y_eventCount, y_waiting, y_refund, nI (f + 1), y_ended, y_answer, y_rest, y_begun, y_result, y_used, y_calls, y_version, y_kept, x_op, x_arg, y_lengths, y_now, y_copies, y_older, y_before, y_warm, y_warmCopies, y_eventCopies, y_messageCopies, y_refundCopies, y_events, y_messages, y_self, y_caller, y_amounts, y_arguments, y_given, y_left, y_at, y_tops, y_stack) := by
  have hi : vp_in (nI f) 5 := vp_in_nI hf (by omega)
  have ef : (nI f).toNatClampNeg = f := nI_clamp (by omega)
  have eA : (24 : Int32) * nI s + nI p = nI (24 * s + p) := by rw [show (24 : Int32) * nI s = nI (24 * s) from pk_mul 24 s]; exact nI_add _ _
  have hA : vp_in (nI (24 * s + p)) 168 := vp_in_nI (by omega) (by omega)
  have eAc : (nI (24 * s + p)).toNatClampNeg = 24 * s + p := nI_clamp (by omega)
  have hq := zq_lt (x_arg (24 * s + p))
  have e4 : (4 : Int32) * nI s + (x_arg (24 * s + p) &&& 3) = nI (4 * s + zq_q (x_arg (24 * s + p))) := by
    rw [show (4 : Int32) * nI s = nI (4 * s) from pk_mul 4 s, zq_and]; exact nI_add _ _
  have htk := zc_tk3 ho
  have had := zc_ad2 ho
  have hcs := zc_cs20 ho w
  unfold wpY_step
  dsimp only
  refine nm_r (e' := nI f) (nI_pred f) ?_
  rw [ef, es, ep]
  refine ⟨hi, hi, nm_r eA ⟨?_, ?_⟩⟩
  · exact hA
  rw [eAc]
  refine nm_r eo ⟨hi, hA, nm_r e4 ?_⟩
  refine yw_costs (by omega) w hw ho ⟨hi, ?_⟩
  rw [el]
  refine pk_le _ L (fun hc => ?_) (fun hc => hO hc)
  refine ⟨hi, hi, nm_r (congrArg (upd y_left f) (pk_sub hc)) ⟨hi, yw_takes ho ?_⟩⟩
  rw [et]
  refine pk_lt h (zc_tk o) (fun hlt => hF hc (by omega)) (fun hge => ⟨hi, yw_takes ho (yw_adds ho ?_)⟩)
  rw [pk_sub hge, nI_add]
  exact pk_lt 6 (h - zc_tk o + zc_ad o) (fun hlt => hF hc (by omega)) (fun hle => hG hc hge hle)
theorem yw_s126 {post : SY → Prop} {f A o : Nat} {c : Int32} (hf : f < 5) (hA : A < 168) (hp : wpY_end post (y_limit, y_eventCount, y_waiting, y_refund, y_depth, y_ended, y_answer, y_rest, y_begun, y_result, y_used, y_calls, y_version, y_kept, x_op, x_arg, y_lengths, y_now, y_copies, y_older, y_before, y_warm, y_warmCopies, y_eventCopies, y_messageCopies, y_refundCopies, y_events, y_messages, y_self, y_caller, y_amounts, y_arguments, y_given, y_left, y_at, y_tops, y_stack) 3 0) : wY_step_126 post (nI f) (nI A) (nI o) c y_limit y_eventCount y_waiting y_refund y_depth y_ended y_answer y_rest y_begun y_result y_used y_calls y_version y_kept x_op x_arg y_lengths y_now y_copies y_older y_before y_warm y_warmCopies y_eventCopies y_messageCopies y_refundCopies y_events y_messages y_self y_caller y_amounts y_arguments y_given y_left y_at y_tops y_stack := by
  have hi : vp_in (nI f) 5 := vp_in_nI hf (by omega)
  have hAi : vp_in (nI A) 168 := vp_in_nI hA (by omega)
  have s202 : ∀ (x7 z : Int32), wY_step_202 post (nI f) (nI A) (nI o) c 0 x7 z y_limit y_eventCount y_waiting y_refund y_depth y_ended y_answer y_rest y_begun y_result y_used y_calls y_version y_kept x_op x_arg y_lengths y_now y_copies y_older y_before y_warm y_warmCopies y_eventCopies y_messageCopies y_refundCopies y_events y_messages y_self y_caller y_amounts y_arguments y_given y_left y_at y_tops y_stack := fun x7 z => br_t rfl hp
  have s185 : ∀ x7 : Int32, wY_step_185 post (nI f) (nI A) (nI o) c 0 x7 y_limit y_eventCount y_waiting y_refund y_depth y_ended y_answer y_rest y_begun y_result y_used y_calls y_version y_kept x_op x_arg y_lengths y_now y_copies y_older y_before y_warm y_warmCopies y_eventCopies y_messageCopies y_refundCopies y_events y_messages y_self y_caller y_amounts y_arguments y_given y_left y_at y_tops y_stack := fun x7 => br_c (fun _ => s202 x7 1) (fun _ => br_c (fun _ => s202 x7 1) (fun _ => s202 x7 0))
  have s177 : wY_step_177 post (nI f) (nI A) (nI o) c 0 y_limit y_eventCount y_waiting y_refund y_depth y_ended y_answer y_rest y_begun y_result y_used y_calls y_version y_kept x_op x_arg y_lengths y_now y_copies y_older y_before y_warm y_warmCopies y_eventCopies y_messageCopies y_refundCopies y_events y_messages y_self y_caller y_amounts y_arguments y_given y_left y_at y_tops y_stack := ⟨hAi, nm_e (s185 _)⟩
  exact ⟨hi, nm_e (br_c (fun _ => s177) (fun _ => br_c (fun _ => br_t rfl (s185 _)) (fun _ => s185 _)))⟩
theorem yw_s202 {post : SY → Prop} {f s A o l : Nat} {c x7 : Int32} (hf : f < 5) (hs : s < 6) (es : y_self f = nI s) (hl : y_lengths s = nI l) (hl24 : l ≤ 24)
    (h1 : ∀ j : Nat, j < l → x7 = nI j → wY_step_242 post (nI f) (nI A) (nI o) c (nI j) 0 y_limit y_eventCount y_waiting y_refund y_depth y_ended y_answer y_rest y_begun y_result y_used y_calls y_version y_kept x_op x_arg y_lengths y_now y_copies y_older y_before y_warm y_warmCopies y_eventCopies y_messageCopies y_refundCopies y_events y_messages y_self y_caller y_amounts y_arguments y_given y_left y_at y_tops y_stack) (h0 : (¬ ∃ j : Nat, j < l ∧ x7 = nI j) → wpY_end post (y_limit, y_eventCount, y_waiting, y_refund, y_depth, y_ended, y_answer, y_rest, y_begun, y_result, y_used, y_calls, y_version, y_kept, x_op, x_arg, y_lengths, y_now, y_copies, y_older, y_before, y_warm, y_warmCopies, y_eventCopies, y_messageCopies, y_refundCopies, y_events, y_messages, y_self, y_caller, y_amounts, y_arguments, y_given, y_left, y_at, y_tops, y_stack) 3 0) : wY_step_202 post (nI f) (nI A) (nI o) c 1 x7 0 y_limit y_eventCount y_waiting y_refund y_depth y_ended y_answer y_rest y_begun y_result y_used y_calls y_version y_kept x_op x_arg y_lengths y_now y_copies y_older y_before y_warm y_warmCopies y_eventCopies y_messageCopies y_refundCopies y_events y_messages y_self y_caller y_amounts y_arguments y_given y_left y_at y_tops y_stack := by
  have hi : vp_in (nI f) 5 := vp_in_nI hf (by omega)
  have ef : (nI f).toNatClampNeg = f := nI_clamp (by omega)
  refine br_f (by decide) (br_t rfl ?_)
  rw [ef, es, nI_clamp (by omega : s < 2 ^ 31), hl]
  rcases pk_ix x7 (n := l) (by omega) with h | h | ⟨j, hj, rfl⟩
  · refine br_t h (h0 ?_)
    rintro ⟨j, hj, e⟩
    rw [e] at h
    exact nI_pos (by omega) h
  · have hn : ¬ ∃ j : Nat, j < l ∧ x7 = nI j := by
      rintro ⟨j, hj, e⟩
      rw [e] at h
      exact nI_ge hj (by omega) h
    exact br_c (fun _ => h0 hn) (fun _ => ⟨hi, vp_in_nI (by omega) (by omega), br_f (Int32.not_lt.mpr h) (h0 hn)⟩)
  · exact br_f (nI_pos (by omega)) ⟨hi, vp_in_nI (by omega) (by omega), br_t (nI_lt hj (by omega)) (h1 j hj rfl)⟩
theorem yw_s127 {post : SY → Prop} {f s p A o l h : Nat} {c : Int32} (hf : f < 5) (hs : s < 6) (ho : o < 24) (hA : A < 168) (es : y_self f = nI s) (ep : y_at f = nI p) (et : y_tops f = nI h) (hh : h ≤ 6) (hh1 : o = 17 → 0 < h) (hl : y_lengths s = nI l) (hl24 : l ≤ 24) (n19 : o ≠ 19) (n20 : o ≠ 20)
    (h1 : ∀ j : Nat, j < l → zy_nx o p (x_arg A) (y_stack (6 * f + (h - 1))) = nI j → wY_step_242 post (nI f) (nI A) (nI o) c (nI j) 0 y_limit y_eventCount y_waiting y_refund y_depth y_ended y_answer y_rest y_begun y_result y_used y_calls y_version y_kept x_op x_arg y_lengths y_now y_copies y_older y_before y_warm y_warmCopies y_eventCopies y_messageCopies y_refundCopies y_events y_messages y_self y_caller y_amounts y_arguments y_given y_left y_at y_tops y_stack) (h0 : (¬ ∃ j : Nat, j < l ∧ zy_nx o p (x_arg A) (y_stack (6 * f + (h - 1))) = nI j) → wpY_end post (y_limit, y_eventCount, y_waiting, y_refund, y_depth, y_ended, y_answer, y_rest, y_begun, y_result, y_used, y_calls, y_version, y_kept, x_op, x_arg, y_lengths, y_now, y_copies, y_older, y_before, y_warm, y_warmCopies, y_eventCopies, y_messageCopies, y_refundCopies, y_events, y_messages, y_self, y_caller, y_amounts, y_arguments, y_given, y_left, y_at, y_tops, y_stack) 3 0) : wY_step_127 post (nI f) (nI A) (nI o) c 1 y_limit y_eventCount y_waiting y_refund y_depth y_ended y_answer y_rest y_begun y_result y_used y_calls y_version y_kept x_op x_arg y_lengths y_now y_copies y_older y_before y_warm y_warmCopies y_eventCopies y_messageCopies y_refundCopies y_events y_messages y_self y_caller y_amounts y_arguments y_given y_left y_at y_tops y_stack := by
  have hi : vp_in (nI f) 5 := vp_in_nI hf (by omega)
  have ef : (nI f).toNatClampNeg = f := nI_clamp (by omega)
  have hAi : vp_in (nI A) 168 := vp_in_nI hA (by omega)
  have eA : (nI A).toNatClampNeg = A := nI_clamp (by omega)
  have m19 : ¬ nI o = 19 := fun e => n19 ((nI_eq (b := 19) (by omega) (by omega)).mp e)
  have m20 : ¬ nI o = 20 := fun e => n20 ((nI_eq (b := 20) (by omega) (by omega)).mp e)
  have s185 : ∀ x7 : Int32, zy_nx o p (x_arg A) (y_stack (6 * f + (h - 1))) = x7 → wY_step_185 post (nI f) (nI A) (nI o) c 1 x7 y_limit y_eventCount y_waiting y_refund y_depth y_ended y_answer y_rest y_begun y_result y_used y_calls y_version y_kept x_op x_arg y_lengths y_now y_copies y_older y_before y_warm y_warmCopies y_eventCopies y_messageCopies y_refundCopies y_events y_messages y_self y_caller y_amounts y_arguments y_given y_left y_at y_tops y_stack := by
    intro x7 e
    subst e
    exact br_f m19 (br_f m20 (yw_s202 hf hs es hl hl24 h1 h0))
  refine ⟨hi, nm_r (e' := nI (p + 1)) (by rw [ef, ep]; exact nI_1 p) ?_⟩
  refine pk_eq o 16 (fun e => ?_) (fun n16 => pk_eq o 17 (fun e => ?_) (fun n17 => ?_))
  · refine ⟨hAi, nm_e ?_⟩
    rw [eA]
    exact s185 _ (if_pos e)
  · refine br_f (by decide) ?_
    have e6 : ((6 : Int32) * nI f + nI h) - 1 = nI (6 * f + (h - 1)) := by
      rw [show (6 : Int32) * nI f = nI (6 * f) from pk_mul 6 f, nI_add, show 6 * f + h = (6 * f + (h - 1)) + 1 by have := hh1 e; omega]
      exact nI_pred _
    rw [ef, et, e6, nI_clamp (by omega : 6 * f + (h - 1) < 2 ^ 31)]
    refine ⟨hi, vp_in_nI (by omega) (by omega), br_c (fun z => ⟨hAi, nm_e ?_⟩) (fun z => ?_)⟩
    · rw [eA]
      refine s185 _ ?_
      unfold zy_nx
      rw [if_neg n16, if_pos e, if_pos z]
    · refine s185 _ ?_
      unfold zy_nx
      rw [if_neg n16, if_pos e, if_neg z]
  · refine s185 _ ?_
    unfold zy_nx
    rw [if_neg n16, if_neg n17]
theorem yw_s127e {post : SY → Prop} {f p A o : Nat} {c : Int32} (hf : f < 5) (ho : o = 19 ∨ o = 20) (ep : y_at f = nI p) (hp : wY_step_242 post (nI f) (nI A) (nI o) c (nI (p + 1)) 1 y_limit y_eventCount y_waiting y_refund y_depth y_ended y_answer y_rest y_begun y_result y_used y_calls y_version y_kept x_op x_arg y_lengths y_now y_copies y_older y_before y_warm y_warmCopies y_eventCopies y_messageCopies y_refundCopies y_events y_messages y_self y_caller y_amounts y_arguments y_given y_left y_at y_tops y_stack) : wY_step_127 post (nI f) (nI A) (nI o) c 1 y_limit y_eventCount y_waiting y_refund y_depth y_ended y_answer y_rest y_begun y_result y_used y_calls y_version y_kept x_op x_arg y_lengths y_now y_copies y_older y_before y_warm y_warmCopies y_eventCopies y_messageCopies y_refundCopies y_events y_messages y_self y_caller y_amounts y_arguments y_given y_left y_at y_tops y_stack := by
  have hi : vp_in (nI f) 5 := vp_in_nI hf (by omega)
  have ef : (nI f).toNatClampNeg = f := nI_clamp (by omega)
  refine ⟨hi, nm_r (e' := nI (p + 1)) (by rw [ef, ep]; exact nI_1 p) ?_⟩
  rcases ho with rfl | rfl
  · exact br_f (by decide) (br_f (by decide) (br_t rfl (br_f (by decide) (br_f (by decide) hp))))
  · exact br_f (by decide) (br_f (by decide) (br_f (by decide) (br_t rfl (br_f (by decide) (br_f (by decide) hp)))))
theorem yw_242s {post : SY → Prop} {f A o j : Nat} {c : Int32} (hf : f < 5) (hA : A < 168) (ho : o < 8) (hp : wpY_simple post (y_limit, y_eventCount, y_waiting, y_refund, y_depth, y_ended, y_answer, y_rest, y_begun, y_result, y_used, y_calls, y_version, y_kept, x_op, x_arg, y_lengths, y_now, y_copies, y_older, y_before, y_warm, y_warmCopies, y_eventCopies, y_messageCopies, y_refundCopies, y_events, y_messages, y_self, y_caller, y_amounts, y_arguments, y_given, y_left, upd y_at f (nI j), y_tops, y_stack) (nI o) (x_arg A) c) : wY_step_242 post (nI f) (nI A) (nI o) c (nI j) 0 y_limit y_eventCount y_waiting y_refund y_depth y_ended y_answer y_rest y_begun y_result y_used y_calls y_version y_kept x_op x_arg y_lengths y_now y_copies y_older y_before y_warm y_warmCopies y_eventCopies y_messageCopies y_refundCopies y_events y_messages y_self y_caller y_amounts y_arguments y_given y_left y_at y_tops y_stack := by
  have hi : vp_in (nI f) 5 := vp_in_nI hf (by omega)
  refine ⟨hi, nm_r (congrArg (fun k => upd y_at k (nI j)) (nI_clamp (by omega : f < 2 ^ 31))) (br_t rfl (br_f (nI_ge (b := 8) ho (by decide)) ⟨vp_in_nI hA (by omega), ?_⟩))⟩
  rw [nI_clamp (by omega : A < 2 ^ 31)]
  exact hp
theorem yw_242m {post : SY → Prop} {f A o j : Nat} {c : Int32} (hf : f < 5) (ho : 8 ≤ o) (ho2 : o < 18) (hp : wpY_onStack post (y_limit, y_eventCount, y_waiting, y_refund, y_depth, y_ended, y_answer, y_rest, y_begun, y_result, y_used, y_calls, y_version, y_kept, x_op, x_arg, y_lengths, y_now, y_copies, y_older, y_before, y_warm, y_warmCopies, y_eventCopies, y_messageCopies, y_refundCopies, y_events, y_messages, y_self, y_caller, y_amounts, y_arguments, y_given, y_left, upd y_at f (nI j), y_tops, y_stack) (nI o)) : wY_step_242 post (nI f) (nI A) (nI o) c (nI j) 0 y_limit y_eventCount y_waiting y_refund y_depth y_ended y_answer y_rest y_begun y_result y_used y_calls y_version y_kept x_op x_arg y_lengths y_now y_copies y_older y_before y_warm y_warmCopies y_eventCopies y_messageCopies y_refundCopies y_events y_messages y_self y_caller y_amounts y_arguments y_given y_left y_at y_tops y_stack := by
  have hi : vp_in (nI f) 5 := vp_in_nI hf (by omega)
  exact ⟨hi, nm_r (congrArg (fun k => upd y_at k (nI j)) (nI_clamp (by omega : f < 2 ^ 31))) (br_t rfl (br_t (nI_le (a := 8) ho (by omega)) (br_f (nI_ge (b := 18) ho2 (by decide)) hp)))⟩
theorem yw_242o {post : SY → Prop} {f A o j : Nat} {c : Int32} (hf : f < 5) (hA : A < 168) (ho : 18 ≤ o) (ho2 : o < 24) (hp : wpY_other post (y_limit, y_eventCount, y_waiting, y_refund, y_depth, y_ended, y_answer, y_rest, y_begun, y_result, y_used, y_calls, y_version, y_kept, x_op, x_arg, y_lengths, y_now, y_copies, y_older, y_before, y_warm, y_warmCopies, y_eventCopies, y_messageCopies, y_refundCopies, y_events, y_messages, y_self, y_caller, y_amounts, y_arguments, y_given, y_left, upd y_at f (nI j), y_tops, y_stack) (nI o) (x_arg A)) : wY_step_242 post (nI f) (nI A) (nI o) c (nI j) 0 y_limit y_eventCount y_waiting y_refund y_depth y_ended y_answer y_rest y_begun y_result y_used y_calls y_version y_kept x_op x_arg y_lengths y_now y_copies y_older y_before y_warm y_warmCopies y_eventCopies y_messageCopies y_refundCopies y_events y_messages y_self y_caller y_amounts y_arguments y_given y_left y_at y_tops y_stack := by
  have hi : vp_in (nI f) 5 := vp_in_nI hf (by omega)
  refine ⟨hi, nm_r (congrArg (fun k => upd y_at k (nI j)) (nI_clamp (by omega : f < 2 ^ 31))) (br_t rfl (br_t (nI_le (a := 8) (by omega) (by omega)) (br_t (nI_le (a := 18) ho (by omega)) ⟨vp_in_nI hA (by omega), ?_⟩)))⟩
  rw [nI_clamp (by omega : A < 2 ^ 31)]
  exact hp
theorem yw_242e {post : SY → Prop} {f A o j h : Nat} {c : Int32} (hf : f < 5) (hh : h < 6) (ho : o = 19 ∨ o = 20) (et : y_tops f = nI (h + 1)) (hp : wpY_end post (y_limit, y_eventCount, y_waiting, y_refund, nI (f + 1), y_ended, y_answer, y_rest, y_begun, y_result, y_used, y_calls, y_version, y_kept, x_op, x_arg, y_lengths, y_now, y_copies, y_older, y_before, y_warm, y_warmCopies, y_eventCopies, y_messageCopies, y_refundCopies, y_events, y_messages, y_self, y_caller, y_amounts, y_arguments, y_given, y_left, upd y_at f (nI j), upd y_tops f (nI h), y_stack) (nI (o - 19)) (y_stack (6 * f + h))) : wY_step_242 post (nI f) (nI A) (nI o) c (nI j) 1 y_limit y_eventCount y_waiting y_refund (nI (f + 1)) y_ended y_answer y_rest y_begun y_result y_used y_calls y_version y_kept x_op x_arg y_lengths y_now y_copies y_older y_before y_warm y_warmCopies y_eventCopies y_messageCopies y_refundCopies y_events y_messages y_self y_caller y_amounts y_arguments y_given y_left y_at y_tops y_stack := by
  have hi : vp_in (nI f) 5 := vp_in_nI hf (by omega)
  refine ⟨hi, nm_r (congrArg (fun k => upd y_at k (nI j)) (nI_clamp (by omega : f < 2 ^ 31))) (br_f (by decide) (yw_pop hf hh et ?_))⟩
  rcases ho with rfl | rfl
  · exact br_t rfl hp
  · exact br_f (by decide) hp
end
end
section
/-! the walks of the single instructions -/
def zo_bin (o : Nat) (x y : Int32) : Int32 := if o = 8 then x + y else if o = 9 then x - y else if o = 10 then x * y else if o = 11 then (if y ≤ x then 0 else 1) else (if x = y then 1 else 0)

section
variable {x_limit x_pending x_journal x_refund x_mails x_ring x_kept x_version x_events x_depth x_self x_left x_pc x_sp x_base x_lastStatus x_lastResult x_lastUsed x_lastCalls : Int32} {x_digest x_warm : Int64} {x_op x_arg x_length x_blockLength x_blockCost x_blockMost x_blockNeed x_blockRise x_state x_journalCell x_journalOld x_mailTo x_mailFrom x_mailAmount x_mailArg x_oldCell x_oldValue x_oldCount x_eventAccount x_eventTag x_eventValue x_frameSelf x_frameCaller x_frameAmount x_frameArg x_frameGiven x_frameLeft x_framePc x_frameSp x_frameJournal x_frameEvents x_frameRefund x_frameMails x_stack : Nat → Int32} {x_weight x_oldDigest x_frameWarm : Nat → Int64}
variable {y_limit y_eventCount y_waiting y_refund y_depth y_ended y_answer y_rest y_begun y_result y_used y_calls y_version y_kept : Int32} {y_ops y_bs y_lengths y_now y_copies y_older y_before y_warm y_warmCopies y_eventCopies y_messageCopies y_refundCopies y_events y_messages y_self y_caller y_amounts y_arguments y_given y_left y_at y_tops y_stack : Nat → Int32}
theorem xw_in1 {q : Nat} (h : q < 35) : vp_in (nI (q + 1) - 1) 35 := by rw [nI_pred]; exact vp_in_nI h (by omega)
theorem xw_p0 {post : SX → Prop} {f q : Nat} {b : Int32} (hf : f < 5) (hq : q < 35) (hp : post (x_limit, x_pending, x_digest, x_journal, x_warm, x_refund, x_mails, x_ring, x_kept, x_version, x_events, nI (f + 1), x_self, x_left, x_pc, nI (q + 1), x_base, x_lastStatus, x_lastResult, x_lastUsed, x_lastCalls, x_op, x_arg, x_length, x_blockLength, x_blockCost, x_blockMost, x_blockNeed, x_blockRise, x_state, x_weight, x_journalCell, x_journalOld, x_mailTo, x_mailFrom, x_mailAmount, x_mailArg, x_oldCell, x_oldValue, x_oldCount, x_oldDigest, x_eventAccount, x_eventTag, x_eventValue, x_frameSelf, x_frameCaller, x_frameAmount, x_frameArg, x_frameGiven, x_frameLeft, x_framePc, x_frameSp, x_frameJournal, x_frameEvents, x_frameWarm, x_frameRefund, x_frameMails, upd x_stack q b)) : wpX_plain post (x_limit, x_pending, x_digest, x_journal, x_warm, x_refund, x_mails, x_ring, x_kept, x_version, x_events, nI (f + 1), x_self, x_left, x_pc, nI q, x_base, x_lastStatus, x_lastResult, x_lastUsed, x_lastCalls, x_op, x_arg, x_length, x_blockLength, x_blockCost, x_blockMost, x_blockNeed, x_blockRise, x_state, x_weight, x_journalCell, x_journalOld, x_mailTo, x_mailFrom, x_mailAmount, x_mailArg, x_oldCell, x_oldValue, x_oldCount, x_oldDigest, x_eventAccount, x_eventTag, x_eventValue, x_frameSelf, x_frameCaller, x_frameAmount, x_frameArg, x_frameGiven, x_frameLeft, x_framePc, x_frameSp, x_frameJournal, x_frameEvents, x_frameWarm, x_frameRefund, x_frameMails, x_stack) (nI 0) b := by
  have hi : vp_in (nI f) 5 := vp_in_nI hf (by omega)
  have hj : vp_in (nI q) 35 := vp_in_nI hq (by omega)
  unfold wpX_plain
  dsimp only
  rw [nI_clamp (by omega : q < 2 ^ 31)]
  exact nm_r (e' := nI f) (nI_pred f) (br_f (by decide) (br_f (by decide) (br_t (by decide) (nm_r (nI_1 q) ⟨hj, nm_e hp⟩))))
theorem xw_p1 {post : SX → Prop} {f q : Nat} {b : Int32} (hf : f < 5) (hq : q < 35) (hp : post (x_limit, x_pending, x_digest, x_journal, x_warm, x_refund, x_mails, x_ring, x_kept, x_version, x_events, nI (f + 1), x_self, x_left, x_pc, nI (q + 1), x_base, x_lastStatus, x_lastResult, x_lastUsed, x_lastCalls, x_op, x_arg, x_length, x_blockLength, x_blockCost, x_blockMost, x_blockNeed, x_blockRise, x_state, x_weight, x_journalCell, x_journalOld, x_mailTo, x_mailFrom, x_mailAmount, x_mailArg, x_oldCell, x_oldValue, x_oldCount, x_oldDigest, x_eventAccount, x_eventTag, x_eventValue, x_frameSelf, x_frameCaller, x_frameAmount, x_frameArg, x_frameGiven, x_frameLeft, x_framePc, x_frameSp, x_frameJournal, x_frameEvents, x_frameWarm, x_frameRefund, x_frameMails, upd x_stack q (x_frameArg f))) : wpX_plain post (x_limit, x_pending, x_digest, x_journal, x_warm, x_refund, x_mails, x_ring, x_kept, x_version, x_events, nI (f + 1), x_self, x_left, x_pc, nI q, x_base, x_lastStatus, x_lastResult, x_lastUsed, x_lastCalls, x_op, x_arg, x_length, x_blockLength, x_blockCost, x_blockMost, x_blockNeed, x_blockRise, x_state, x_weight, x_journalCell, x_journalOld, x_mailTo, x_mailFrom, x_mailAmount, x_mailArg, x_oldCell, x_oldValue, x_oldCount, x_oldDigest, x_eventAccount, x_eventTag, x_eventValue, x_frameSelf, x_frameCaller, x_frameAmount, x_frameArg, x_frameGiven, x_frameLeft, x_framePc, x_frameSp, x_frameJournal, x_frameEvents, x_frameWarm, x_frameRefund, x_frameMails, x_stack) (nI 1) b := by
  have hi : vp_in (nI f) 5 := vp_in_nI hf (by omega)
  have hj : vp_in (nI q) 35 := vp_in_nI hq (by omega)
  unfold wpX_plain
  dsimp only
  rw [nI_clamp (by omega : q < 2 ^ 31)]
  exact nm_r (e' := nI f) (nI_pred f) (br_f (by decide) (br_f (by decide) (br_f (by decide) (br_t (by decide) (nm_r (nI_1 q) ⟨hi, hj, nm_r (congrArg (fun k => upd x_stack q (x_frameArg k)) (nI_clamp (by omega : f < 2 ^ 31))) hp⟩)))))
theorem xw_p2 {post : SX → Prop} {f q : Nat} {b : Int32} (hf : f < 5) (hq : q < 35) (hp : post (x_limit, x_pending, x_digest, x_journal, x_warm, x_refund, x_mails, x_ring, x_kept, x_version, x_events, nI (f + 1), x_self, x_left, x_pc, nI (q + 1), x_base, x_lastStatus, x_lastResult, x_lastUsed, x_lastCalls, x_op, x_arg, x_length, x_blockLength, x_blockCost, x_blockMost, x_blockNeed, x_blockRise, x_state, x_weight, x_journalCell, x_journalOld, x_mailTo, x_mailFrom, x_mailAmount, x_mailArg, x_oldCell, x_oldValue, x_oldCount, x_oldDigest, x_eventAccount, x_eventTag, x_eventValue, x_frameSelf, x_frameCaller, x_frameAmount, x_frameArg, x_frameGiven, x_frameLeft, x_framePc, x_frameSp, x_frameJournal, x_frameEvents, x_frameWarm, x_frameRefund, x_frameMails, upd x_stack q (x_frameCaller f))) : wpX_plain post (x_limit, x_pending, x_digest, x_journal, x_warm, x_refund, x_mails, x_ring, x_kept, x_version, x_events, nI (f + 1), x_self, x_left, x_pc, nI q, x_base, x_lastStatus, x_lastResult, x_lastUsed, x_lastCalls, x_op, x_arg, x_length, x_blockLength, x_blockCost, x_blockMost, x_blockNeed, x_blockRise, x_state, x_weight, x_journalCell, x_journalOld, x_mailTo, x_mailFrom, x_mailAmount, x_mailArg, x_oldCell, x_oldValue, x_oldCount, x_oldDigest, x_eventAccount, x_eventTag, x_eventValue, x_frameSelf, x_frameCaller, x_frameAmount, x_frameArg, x_frameGiven, x_frameLeft, x_framePc, x_frameSp, x_frameJournal, x_frameEvents, x_frameWarm, x_frameRefund, x_frameMails, x_stack) (nI 2) b := by
  have hi : vp_in (nI f) 5 := vp_in_nI hf (by omega)
  have hj : vp_in (nI q) 35 := vp_in_nI hq (by omega)
  unfold wpX_plain
  dsimp only
  rw [nI_clamp (by omega : q < 2 ^ 31)]
  exact nm_r (e' := nI f) (nI_pred f) (br_f (by decide) (br_f (by decide) (br_f (by decide) (br_f (by decide) (br_t (by decide) (nm_r (nI_1 q) ⟨hi, hj, nm_r (congrArg (fun k => upd x_stack q (x_frameCaller k)) (nI_clamp (by omega : f < 2 ^ 31))) hp⟩))))))
theorem xw_p3 {post : SX → Prop} {f q : Nat} {b : Int32} (hf : f < 5) (hq : q < 35) (hp : post (x_limit, x_pending, x_digest, x_journal, x_warm, x_refund, x_mails, x_ring, x_kept, x_version, x_events, nI (f + 1), x_self, x_left, x_pc, nI (q + 1), x_base, x_lastStatus, x_lastResult, x_lastUsed, x_lastCalls, x_op, x_arg, x_length, x_blockLength, x_blockCost, x_blockMost, x_blockNeed, x_blockRise, x_state, x_weight, x_journalCell, x_journalOld, x_mailTo, x_mailFrom, x_mailAmount, x_mailArg, x_oldCell, x_oldValue, x_oldCount, x_oldDigest, x_eventAccount, x_eventTag, x_eventValue, x_frameSelf, x_frameCaller, x_frameAmount, x_frameArg, x_frameGiven, x_frameLeft, x_framePc, x_frameSp, x_frameJournal, x_frameEvents, x_frameWarm, x_frameRefund, x_frameMails, upd x_stack q x_self)) : wpX_plain post (x_limit, x_pending, x_digest, x_journal, x_warm, x_refund, x_mails, x_ring, x_kept, x_version, x_events, nI (f + 1), x_self, x_left, x_pc, nI q, x_base, x_lastStatus, x_lastResult, x_lastUsed, x_lastCalls, x_op, x_arg, x_length, x_blockLength, x_blockCost, x_blockMost, x_blockNeed, x_blockRise, x_state, x_weight, x_journalCell, x_journalOld, x_mailTo, x_mailFrom, x_mailAmount, x_mailArg, x_oldCell, x_oldValue, x_oldCount, x_oldDigest, x_eventAccount, x_eventTag, x_eventValue, x_frameSelf, x_frameCaller, x_frameAmount, x_frameArg, x_frameGiven, x_frameLeft, x_framePc, x_frameSp, x_frameJournal, x_frameEvents, x_frameWarm, x_frameRefund, x_frameMails, x_stack) (nI 3) b := by
  have hi : vp_in (nI f) 5 := vp_in_nI hf (by omega)
  have hj : vp_in (nI q) 35 := vp_in_nI hq (by omega)
  unfold wpX_plain
  dsimp only
  rw [nI_clamp (by omega : q < 2 ^ 31)]
  exact nm_r (e' := nI f) (nI_pred f) (br_f (by decide) (br_f (by decide) (br_f (by decide) (br_f (by decide) (br_f (by decide) (br_t (by decide) (nm_r (nI_1 q) ⟨hj, nm_e hp⟩)))))))
theorem xw_p4 {post : SX → Prop} {f q : Nat} {b : Int32} (hf : f < 5) (hq : q < 35) (hp : post (x_limit, x_pending, x_digest, x_journal, x_warm, x_refund, x_mails, x_ring, x_kept, x_version, x_events, nI (f + 1), x_self, x_left, x_pc, nI (q + 1), x_base, x_lastStatus, x_lastResult, x_lastUsed, x_lastCalls, x_op, x_arg, x_length, x_blockLength, x_blockCost, x_blockMost, x_blockNeed, x_blockRise, x_state, x_weight, x_journalCell, x_journalOld, x_mailTo, x_mailFrom, x_mailAmount, x_mailArg, x_oldCell, x_oldValue, x_oldCount, x_oldDigest, x_eventAccount, x_eventTag, x_eventValue, x_frameSelf, x_frameCaller, x_frameAmount, x_frameArg, x_frameGiven, x_frameLeft, x_framePc, x_frameSp, x_frameJournal, x_frameEvents, x_frameWarm, x_frameRefund, x_frameMails, upd x_stack q (x_frameAmount f))) : wpX_plain post (x_limit, x_pending, x_digest, x_journal, x_warm, x_refund, x_mails, x_ring, x_kept, x_version, x_events, nI (f + 1), x_self, x_left, x_pc, nI q, x_base, x_lastStatus, x_lastResult, x_lastUsed, x_lastCalls, x_op, x_arg, x_length, x_blockLength, x_blockCost, x_blockMost, x_blockNeed, x_blockRise, x_state, x_weight, x_journalCell, x_journalOld, x_mailTo, x_mailFrom, x_mailAmount, x_mailArg, x_oldCell, x_oldValue, x_oldCount, x_oldDigest, x_eventAccount, x_eventTag, x_eventValue, x_frameSelf, x_frameCaller, x_frameAmount, x_frameArg, x_frameGiven, x_frameLeft, x_framePc, x_frameSp, x_frameJournal, x_frameEvents, x_frameWarm, x_frameRefund, x_frameMails, x_stack) (nI 4) b := by
  have hi : vp_in (nI f) 5 := vp_in_nI hf (by omega)
  have hj : vp_in (nI q) 35 := vp_in_nI hq (by omega)
  unfold wpX_plain
  dsimp only
  rw [nI_clamp (by omega : q < 2 ^ 31)]
  exact nm_r (e' := nI f) (nI_pred f) (br_f (by decide) (br_f (by decide) (br_f (by decide) (br_f (by decide) (br_f (by decide) (br_f (by decide) (br_t (by decide) (nm_r (nI_1 q) ⟨hi, hj, nm_r (congrArg (fun k => upd x_stack q (x_frameAmount k)) (nI_clamp (by omega : f < 2 ^ 31))) hp⟩))))))))
theorem xw_p22 {post : SX → Prop} {f q : Nat} {b : Int32} (hf : f < 5) (hq : q < 35) (hp : post (x_limit, x_pending, x_digest, x_journal, x_warm, x_refund, x_mails, x_ring, x_kept, x_version, x_events, nI (f + 1), x_self, x_left, x_pc, nI (q + 1), x_base, x_lastStatus, x_lastResult, x_lastUsed, x_lastCalls, x_op, x_arg, x_length, x_blockLength, x_blockCost, x_blockMost, x_blockNeed, x_blockRise, x_state, x_weight, x_journalCell, x_journalOld, x_mailTo, x_mailFrom, x_mailAmount, x_mailArg, x_oldCell, x_oldValue, x_oldCount, x_oldDigest, x_eventAccount, x_eventTag, x_eventValue, x_frameSelf, x_frameCaller, x_frameAmount, x_frameArg, x_frameGiven, x_frameLeft, x_framePc, x_frameSp, x_frameJournal, x_frameEvents, x_frameWarm, x_frameRefund, x_frameMails, upd x_stack q x_left)) : wpX_plain post (x_limit, x_pending, x_digest, x_journal, x_warm, x_refund, x_mails, x_ring, x_kept, x_version, x_events, nI (f + 1), x_self, x_left, x_pc, nI q, x_base, x_lastStatus, x_lastResult, x_lastUsed, x_lastCalls, x_op, x_arg, x_length, x_blockLength, x_blockCost, x_blockMost, x_blockNeed, x_blockRise, x_state, x_weight, x_journalCell, x_journalOld, x_mailTo, x_mailFrom, x_mailAmount, x_mailArg, x_oldCell, x_oldValue, x_oldCount, x_oldDigest, x_eventAccount, x_eventTag, x_eventValue, x_frameSelf, x_frameCaller, x_frameAmount, x_frameArg, x_frameGiven, x_frameLeft, x_framePc, x_frameSp, x_frameJournal, x_frameEvents, x_frameWarm, x_frameRefund, x_frameMails, x_stack) (nI 22) b := by
  have hi : vp_in (nI f) 5 := vp_in_nI hf (by omega)
  have hj : vp_in (nI q) 35 := vp_in_nI hq (by omega)
  unfold wpX_plain
  dsimp only
  rw [nI_clamp (by omega : q < 2 ^ 31)]
  exact nm_r (e' := nI f) (nI_pred f) (br_f (by decide) (br_f (by decide) (br_f (by decide) (br_f (by decide) (br_f (by decide) (br_f (by decide) (br_f (by decide) (br_f (by decide) (br_f (by decide) (br_f (by decide) (br_f (by decide) (br_f (by decide) (br_f (by decide) (br_f (by decide) (br_f (by decide) (br_f (by decide) (br_f (by decide) (br_f (by decide) (br_f (by decide) (br_f (by decide) (br_f (by decide) (br_f (by decide) (br_f (by decide) (br_f (by decide) (br_t (by decide) (nm_r (nI_1 q) ⟨hj, nm_e hp⟩))))))))))))))))))))))))))

theorem xw_p5 {post : SX → Prop} {f q : Nat} {b : Int32} (hf : f < 5) (hq : q < 35) (h1 : ∀ a : Nat, a < 6 → x_stack q = nI a → post (x_limit, x_pending, x_digest, x_journal, x_warm, x_refund, x_mails, x_ring, x_kept, x_version, x_events, nI (f + 1), x_self, x_left, x_pc, nI (q + 1), x_base, x_lastStatus, x_lastResult, x_lastUsed, x_lastCalls, x_op, x_arg, x_length, x_blockLength, x_blockCost, x_blockMost, x_blockNeed, x_blockRise, x_state, x_weight, x_journalCell, x_journalOld, x_mailTo, x_mailFrom, x_mailAmount, x_mailArg, x_oldCell, x_oldValue, x_oldCount, x_oldDigest, x_eventAccount, x_eventTag, x_eventValue, x_frameSelf, x_frameCaller, x_frameAmount, x_frameArg, x_frameGiven, x_frameLeft, x_framePc, x_frameSp, x_frameJournal, x_frameEvents, x_frameWarm, x_frameRefund, x_frameMails, upd x_stack q (x_state (5 * a)))) (h0 : (x_stack q < 0 ∨ 6 ≤ x_stack q) → post (x_limit, x_pending, x_digest, x_journal, x_warm, x_refund, x_mails, x_ring, x_kept, x_version, x_events, nI (f + 1), x_self, x_left, x_pc, nI (q + 1), x_base, x_lastStatus, x_lastResult, x_lastUsed, x_lastCalls, x_op, x_arg, x_length, x_blockLength, x_blockCost, x_blockMost, x_blockNeed, x_blockRise, x_state, x_weight, x_journalCell, x_journalOld, x_mailTo, x_mailFrom, x_mailAmount, x_mailArg, x_oldCell, x_oldValue, x_oldCount, x_oldDigest, x_eventAccount, x_eventTag, x_eventValue, x_frameSelf, x_frameCaller, x_frameAmount, x_frameArg, x_frameGiven, x_frameLeft, x_framePc, x_frameSp, x_frameJournal, x_frameEvents, x_frameWarm, x_frameRefund, x_frameMails, upd x_stack q 0)) : wpX_plain post (x_limit, x_pending, x_digest, x_journal, x_warm, x_refund, x_mails, x_ring, x_kept, x_version, x_events, nI (f + 1), x_self, x_left, x_pc, nI (q + 1), x_base, x_lastStatus, x_lastResult, x_lastUsed, x_lastCalls, x_op, x_arg, x_length, x_blockLength, x_blockCost, x_blockMost, x_blockNeed, x_blockRise, x_state, x_weight, x_journalCell, x_journalOld, x_mailTo, x_mailFrom, x_mailAmount, x_mailArg, x_oldCell, x_oldValue, x_oldCount, x_oldDigest, x_eventAccount, x_eventTag, x_eventValue, x_frameSelf, x_frameCaller, x_frameAmount, x_frameArg, x_frameGiven, x_frameLeft, x_framePc, x_frameSp, x_frameJournal, x_frameEvents, x_frameWarm, x_frameRefund, x_frameMails, x_stack) (nI 5) b := by
  have hj : vp_in (nI (q + 1) - 1) 35 := xw_in1 hq
  have e1 : (nI (q + 1) - 1).toNatClampNeg = q := by rw [nI_pred]; exact nI_clamp (by omega)
  unfold wpX_plain
  dsimp only
  rw [e1]
  refine nm_r (e' := nI f) (nI_pred f) (br_f (by decide) (br_f (by decide) (br_f (by decide) (br_f (by decide) (br_f (by decide) (br_f (by decide) (br_f (by decide) (br_t (by decide) ⟨hj, nm_e ?_⟩))))))))

  refine xw_outN (n := 6) (by omega) (fun a ha e => ?_) (fun h => ?_)
  · refine br_t rfl ?_
    have e5 : (5 : Int32) * x_stack q = nI (5 * a) := by rw [e]; exact pk_mul 5 a
    rw [e5, nI_clamp (by omega : 5 * a < 2 ^ 31)]
    exact ⟨vp_in_nI (by omega) (by omega), hj, nm_e (h1 a ha e)⟩
  · exact br_f (by decide) ⟨hj, nm_e (h0 h)⟩
theorem xw_p13 {post : SX → Prop} {f q : Nat} {b : Int32} (hf : f < 5) (hq : q + 1 < 35) (hp : post (x_limit, x_pending, x_digest, x_journal, x_warm, x_refund, x_mails, x_ring, x_kept, x_version, x_events, nI (f + 1), x_self, x_left, x_pc, nI (q + 2), x_base, x_lastStatus, x_lastResult, x_lastUsed, x_lastCalls, x_op, x_arg, x_length, x_blockLength, x_blockCost, x_blockMost, x_blockNeed, x_blockRise, x_state, x_weight, x_journalCell, x_journalOld, x_mailTo, x_mailFrom, x_mailAmount, x_mailArg, x_oldCell, x_oldValue, x_oldCount, x_oldDigest, x_eventAccount, x_eventTag, x_eventValue, x_frameSelf, x_frameCaller, x_frameAmount, x_frameArg, x_frameGiven, x_frameLeft, x_framePc, x_frameSp, x_frameJournal, x_frameEvents, x_frameWarm, x_frameRefund, x_frameMails, upd x_stack (q + 1) (x_stack q))) : wpX_plain post (x_limit, x_pending, x_digest, x_journal, x_warm, x_refund, x_mails, x_ring, x_kept, x_version, x_events, nI (f + 1), x_self, x_left, x_pc, nI (q + 1), x_base, x_lastStatus, x_lastResult, x_lastUsed, x_lastCalls, x_op, x_arg, x_length, x_blockLength, x_blockCost, x_blockMost, x_blockNeed, x_blockRise, x_state, x_weight, x_journalCell, x_journalOld, x_mailTo, x_mailFrom, x_mailAmount, x_mailArg, x_oldCell, x_oldValue, x_oldCount, x_oldDigest, x_eventAccount, x_eventTag, x_eventValue, x_frameSelf, x_frameCaller, x_frameAmount, x_frameArg, x_frameGiven, x_frameLeft, x_framePc, x_frameSp, x_frameJournal, x_frameEvents, x_frameWarm, x_frameRefund, x_frameMails, x_stack) (nI 13) b := by
  have hj : vp_in (nI (q + 1) - 1) 35 := xw_in1 (by omega)
  have e1 : (nI (q + 1) - 1).toNatClampNeg = q := by rw [nI_pred]; exact nI_clamp (by omega)
  unfold wpX_plain
  dsimp only
  rw [e1, nI_clamp (by omega : q + 1 < 2 ^ 31)]
  exact nm_r (e' := nI f) (nI_pred f) (br_f (by decide) (br_f (by decide) (br_f (by decide) (br_f (by decide) (br_f (by decide) (br_f (by decide) (br_f (by decide) (br_f (by decide) (br_f (by decide) (br_f (by decide) (br_f (by decide) (br_f (by decide) (br_f (by decide) (br_f (by decide) (br_f (by decide) (br_t (by decide) ⟨hj, vp_in_nI hq (by omega), nm_e (nm_r (nI_1 (q + 1)) hp)⟩))))))))))))))))

theorem xw_p14 {post : SX → Prop} {f q : Nat} {b : Int32} (hp : post (x_limit, x_pending, x_digest, x_journal, x_warm, x_refund, x_mails, x_ring, x_kept, x_version, x_events, nI (f + 1), x_self, x_left, x_pc, nI q, x_base, x_lastStatus, x_lastResult, x_lastUsed, x_lastCalls, x_op, x_arg, x_length, x_blockLength, x_blockCost, x_blockMost, x_blockNeed, x_blockRise, x_state, x_weight, x_journalCell, x_journalOld, x_mailTo, x_mailFrom, x_mailAmount, x_mailArg, x_oldCell, x_oldValue, x_oldCount, x_oldDigest, x_eventAccount, x_eventTag, x_eventValue, x_frameSelf, x_frameCaller, x_frameAmount, x_frameArg, x_frameGiven, x_frameLeft, x_framePc, x_frameSp, x_frameJournal, x_frameEvents, x_frameWarm, x_frameRefund, x_frameMails, x_stack)) : wpX_plain post (x_limit, x_pending, x_digest, x_journal, x_warm, x_refund, x_mails, x_ring, x_kept, x_version, x_events, nI (f + 1), x_self, x_left, x_pc, nI (q + 1), x_base, x_lastStatus, x_lastResult, x_lastUsed, x_lastCalls, x_op, x_arg, x_length, x_blockLength, x_blockCost, x_blockMost, x_blockNeed, x_blockRise, x_state, x_weight, x_journalCell, x_journalOld, x_mailTo, x_mailFrom, x_mailAmount, x_mailArg, x_oldCell, x_oldValue, x_oldCount, x_oldDigest, x_eventAccount, x_eventTag, x_eventValue, x_frameSelf, x_frameCaller, x_frameAmount, x_frameArg, x_frameGiven, x_frameLeft, x_framePc, x_frameSp, x_frameJournal, x_frameEvents, x_frameWarm, x_frameRefund, x_frameMails, x_stack) (nI 14) b := by
  unfold wpX_plain
  dsimp only
  exact nm_r (e' := nI f) (nI_pred f) (br_f (by decide) (br_f (by decide) (br_f (by decide) (br_f (by decide) (br_f (by decide) (br_f (by decide) (br_f (by decide) (br_f (by decide) (br_f (by decide) (br_f (by decide) (br_f (by decide) (br_f (by decide) (br_f (by decide) (br_f (by decide) (br_f (by decide) (br_f (by decide) (br_t (by decide) (nm_r (nI_pred q) hp))))))))))))))))))

theorem xw_p15 {post : SX → Prop} {f q : Nat} {b : Int32} (hq : q + 1 < 35) (hp : post (x_limit, x_pending, x_digest, x_journal, x_warm, x_refund, x_mails, x_ring, x_kept, x_version, x_events, nI (f + 1), x_self, x_left, x_pc, nI (q + 2), x_base, x_lastStatus, x_lastResult, x_lastUsed, x_lastCalls, x_op, x_arg, x_length, x_blockLength, x_blockCost, x_blockMost, x_blockNeed, x_blockRise, x_state, x_weight, x_journalCell, x_journalOld, x_mailTo, x_mailFrom, x_mailAmount, x_mailArg, x_oldCell, x_oldValue, x_oldCount, x_oldDigest, x_eventAccount, x_eventTag, x_eventValue, x_frameSelf, x_frameCaller, x_frameAmount, x_frameArg, x_frameGiven, x_frameLeft, x_framePc, x_frameSp, x_frameJournal, x_frameEvents, x_frameWarm, x_frameRefund, x_frameMails, upd (upd x_stack (q + 1) (x_stack q)) q (x_stack (q + 1)))) : wpX_plain post (x_limit, x_pending, x_digest, x_journal, x_warm, x_refund, x_mails, x_ring, x_kept, x_version, x_events, nI (f + 1), x_self, x_left, x_pc, nI (q + 2), x_base, x_lastStatus, x_lastResult, x_lastUsed, x_lastCalls, x_op, x_arg, x_length, x_blockLength, x_blockCost, x_blockMost, x_blockNeed, x_blockRise, x_state, x_weight, x_journalCell, x_journalOld, x_mailTo, x_mailFrom, x_mailAmount, x_mailArg, x_oldCell, x_oldValue, x_oldCount, x_oldDigest, x_eventAccount, x_eventTag, x_eventValue, x_frameSelf, x_frameCaller, x_frameAmount, x_frameArg, x_frameGiven, x_frameLeft, x_framePc, x_frameSp, x_frameJournal, x_frameEvents, x_frameWarm, x_frameRefund, x_frameMails, x_stack) (nI 15) b := by
  have hj : vp_in (nI (q + 2) - 1) 35 := xw_in1 hq
  have e1 : (nI (q + 2) - 1).toNatClampNeg = q + 1 := by rw [nI_pred]; exact nI_clamp (by omega)
  have e2' : nI (q + 2) - 2 = nI q := pk_sub (a := q + 2) (b := 2) (by omega)
  have e2 : (nI (q + 2) - 2).toNatClampNeg = q := by rw [e2']; exact nI_clamp (by omega)
  have hk : vp_in (nI (q + 2) - 2) 35 := by rw [e2']; exact vp_in_nI (by omega) (by omega)
  unfold wpX_plain
  dsimp only
  rw [e1, e2]
  exact nm_r (e' := nI f) (nI_pred f) (br_f (by decide) (br_f (by decide) (br_f (by decide) (br_f (by decide) (br_f (by decide) (br_f (by decide) (br_f (by decide) (br_f (by decide) (br_f (by decide) (br_f (by decide) (br_f (by decide) (br_f (by decide) (br_f (by decide) (br_f (by decide) (br_f (by decide) (br_f (by decide) (br_f (by decide) (br_t (by decide) ⟨hj, nm_e ⟨hk, hj, nm_e ⟨hk, nm_e hp⟩⟩⟩))))))))))))))))))

theorem xw_binary {post : SX → Prop} {q o : Nat} (hq : q + 1 < 35) (ho : 8 ≤ o) (ho2 : o ≤ 12) (hp : post (x_limit, x_pending, x_digest, x_journal, x_warm, x_refund, x_mails, x_ring, x_kept, x_version, x_events, x_depth, x_self, x_left, x_pc, nI (q + 1), x_base, x_lastStatus, x_lastResult, x_lastUsed, x_lastCalls, x_op, x_arg, x_length, x_blockLength, x_blockCost, x_blockMost, x_blockNeed, x_blockRise, x_state, x_weight, x_journalCell, x_journalOld, x_mailTo, x_mailFrom, x_mailAmount, x_mailArg, x_oldCell, x_oldValue, x_oldCount, x_oldDigest, x_eventAccount, x_eventTag, x_eventValue, x_frameSelf, x_frameCaller, x_frameAmount, x_frameArg, x_frameGiven, x_frameLeft, x_framePc, x_frameSp, x_frameJournal, x_frameEvents, x_frameWarm, x_frameRefund, x_frameMails, upd x_stack q (zo_bin o (x_stack q) (x_stack (q + 1))))) : wpX_binary post (x_limit, x_pending, x_digest, x_journal, x_warm, x_refund, x_mails, x_ring, x_kept, x_version, x_events, x_depth, x_self, x_left, x_pc, nI (q + 2), x_base, x_lastStatus, x_lastResult, x_lastUsed, x_lastCalls, x_op, x_arg, x_length, x_blockLength, x_blockCost, x_blockMost, x_blockNeed, x_blockRise, x_state, x_weight, x_journalCell, x_journalOld, x_mailTo, x_mailFrom, x_mailAmount, x_mailArg, x_oldCell, x_oldValue, x_oldCount, x_oldDigest, x_eventAccount, x_eventTag, x_eventValue, x_frameSelf, x_frameCaller, x_frameAmount, x_frameArg, x_frameGiven, x_frameLeft, x_framePc, x_frameSp, x_frameJournal, x_frameEvents, x_frameWarm, x_frameRefund, x_frameMails, x_stack) (nI o) := by
  have hj : vp_in (nI (q + 2) - 1) 35 := xw_in1 hq
  have e1 : (nI (q + 2) - 1).toNatClampNeg = q + 1 := by rw [nI_pred]; exact nI_clamp (by omega)
  have hk : vp_in (nI (q + 1) - 1) 35 := xw_in1 (by omega)
  have e2 : (nI (q + 1) - 1).toNatClampNeg = q := by rw [nI_pred]; exact nI_clamp (by omega)
  unfold wpX_binary
  dsimp only
  rw [e1]
  refine nm_r (e' := nI (q + 1)) (nI_pred (q + 1)) ⟨hj, nm_e ⟨hk, ?_⟩⟩
  rw [e2]
  refine nm_e ?_
  unfold zo_bin at hp
  refine br_f (nI_ge (b := 8) (a := 7) (by omega) (by omega) |> fun _ => nI_nlt (b := 8) ho (by omega)) ?_
  refine pk_lt 11 o (fun h => ?_) (fun h => ?_)
  · rw [if_neg (by omega), if_neg (by omega), if_neg (by omega), if_neg (by omega)] at hp
    refine br_c (fun z => ⟨hk, nm_e ?_⟩) (fun z => ⟨hk, nm_e ?_⟩)
    · rw [if_pos z] at hp; exact hp
    · rw [if_neg z] at hp; exact hp
  · refine pk_eq o 8 (fun e => ⟨hk, nm_e ?_⟩) (fun n8 => ?_)
    · rw [if_pos e] at hp; exact hp
    rw [if_neg n8] at hp
    refine pk_eq o 9 (fun e => ⟨hk, nm_e ?_⟩) (fun n9 => ?_)
    · rw [if_pos e] at hp; exact hp
    rw [if_neg n9] at hp
    refine pk_eq o 10 (fun e => ⟨hk, nm_e ?_⟩) (fun n10 => ?_)
    · rw [if_pos e] at hp; exact hp
    rw [if_neg n10] at hp
    have e11 : o = 11 := by omega
    rw [if_pos e11] at hp
    refine pk_eq o 11 (fun e => ?_) (fun n11 => absurd e11 n11)
    refine br_c (fun z => ⟨hk, nm_e ?_⟩) (fun z => ⟨hk, nm_e ?_⟩)
    · rw [if_pos z] at hp; exact hp
    · rw [if_neg z] at hp; exact hp
theorem xw_p8 {post : SX → Prop} {f q : Nat} {b : Int32} (hq : q + 1 < 35) (hp : post (x_limit, x_pending, x_digest, x_journal, x_warm, x_refund, x_mails, x_ring, x_kept, x_version, x_events, nI (f + 1), x_self, x_left, x_pc, nI (q + 1), x_base, x_lastStatus, x_lastResult, x_lastUsed, x_lastCalls, x_op, x_arg, x_length, x_blockLength, x_blockCost, x_blockMost, x_blockNeed, x_blockRise, x_state, x_weight, x_journalCell, x_journalOld, x_mailTo, x_mailFrom, x_mailAmount, x_mailArg, x_oldCell, x_oldValue, x_oldCount, x_oldDigest, x_eventAccount, x_eventTag, x_eventValue, x_frameSelf, x_frameCaller, x_frameAmount, x_frameArg, x_frameGiven, x_frameLeft, x_framePc, x_frameSp, x_frameJournal, x_frameEvents, x_frameWarm, x_frameRefund, x_frameMails, upd x_stack q (zo_bin 8 (x_stack q) (x_stack (q + 1))))) : wpX_plain post (x_limit, x_pending, x_digest, x_journal, x_warm, x_refund, x_mails, x_ring, x_kept, x_version, x_events, nI (f + 1), x_self, x_left, x_pc, nI (q + 2), x_base, x_lastStatus, x_lastResult, x_lastUsed, x_lastCalls, x_op, x_arg, x_length, x_blockLength, x_blockCost, x_blockMost, x_blockNeed, x_blockRise, x_state, x_weight, x_journalCell, x_journalOld, x_mailTo, x_mailFrom, x_mailAmount, x_mailArg, x_oldCell, x_oldValue, x_oldCount, x_oldDigest, x_eventAccount, x_eventTag, x_eventValue, x_frameSelf, x_frameCaller, x_frameAmount, x_frameArg, x_frameGiven, x_frameLeft, x_framePc, x_frameSp, x_frameJournal, x_frameEvents, x_frameWarm, x_frameRefund, x_frameMails, x_stack) (nI 8) b := by
  unfold wpX_plain
  dsimp only
  exact nm_r (e' := nI f) (nI_pred f) (br_f (by decide) (br_f (by decide) (br_f (by decide) (br_f (by decide) (br_f (by decide) (br_f (by decide) (br_f (by decide) (br_f (by decide) (br_f (by decide) (br_f (by decide) (br_t (by decide) (xw_binary (o := 8) hq (by omega) (by omega) hp))))))))))))
theorem xw_p9 {post : SX → Prop} {f q : Nat} {b : Int32} (hq : q + 1 < 35) (hp : post (x_limit, x_pending, x_digest, x_journal, x_warm, x_refund, x_mails, x_ring, x_kept, x_version, x_events, nI (f + 1), x_self, x_left, x_pc, nI (q + 1), x_base, x_lastStatus, x_lastResult, x_lastUsed, x_lastCalls, x_op, x_arg, x_length, x_blockLength, x_blockCost, x_blockMost, x_blockNeed, x_blockRise, x_state, x_weight, x_journalCell, x_journalOld, x_mailTo, x_mailFrom, x_mailAmount, x_mailArg, x_oldCell, x_oldValue, x_oldCount, x_oldDigest, x_eventAccount, x_eventTag, x_eventValue, x_frameSelf, x_frameCaller, x_frameAmount, x_frameArg, x_frameGiven, x_frameLeft, x_framePc, x_frameSp, x_frameJournal, x_frameEvents, x_frameWarm, x_frameRefund, x_frameMails, upd x_stack q (zo_bin 9 (x_stack q) (x_stack (q + 1))))) : wpX_plain post (x_limit, x_pending, x_digest, x_journal, x_warm, x_refund, x_mails, x_ring, x_kept, x_version, x_events, nI (f + 1), x_self, x_left, x_pc, nI (q + 2), x_base, x_lastStatus, x_lastResult, x_lastUsed, x_lastCalls, x_op, x_arg, x_length, x_blockLength, x_blockCost, x_blockMost, x_blockNeed, x_blockRise, x_state, x_weight, x_journalCell, x_journalOld, x_mailTo, x_mailFrom, x_mailAmount, x_mailArg, x_oldCell, x_oldValue, x_oldCount, x_oldDigest, x_eventAccount, x_eventTag, x_eventValue, x_frameSelf, x_frameCaller, x_frameAmount, x_frameArg, x_frameGiven, x_frameLeft, x_framePc, x_frameSp, x_frameJournal, x_frameEvents, x_frameWarm, x_frameRefund, x_frameMails, x_stack) (nI 9) b := by
  unfold wpX_plain
  dsimp only
  exact nm_r (e' := nI f) (nI_pred f) (br_f (by decide) (br_f (by decide) (br_f (by decide) (br_f (by decide) (br_f (by decide) (br_f (by decide) (br_f (by decide) (br_f (by decide) (br_f (by decide) (br_f (by decide) (br_f (by decide) (br_t (by decide) (xw_binary (o := 9) hq (by omega) (by omega) hp)))))))))))))
theorem xw_p10 {post : SX → Prop} {f q : Nat} {b : Int32} (hq : q + 1 < 35) (hp : post (x_limit, x_pending, x_digest, x_journal, x_warm, x_refund, x_mails, x_ring, x_kept, x_version, x_events, nI (f + 1), x_self, x_left, x_pc, nI (q + 1), x_base, x_lastStatus, x_lastResult, x_lastUsed, x_lastCalls, x_op, x_arg, x_length, x_blockLength, x_blockCost, x_blockMost, x_blockNeed, x_blockRise, x_state, x_weight, x_journalCell, x_journalOld, x_mailTo, x_mailFrom, x_mailAmount, x_mailArg, x_oldCell, x_oldValue, x_oldCount, x_oldDigest, x_eventAccount, x_eventTag, x_eventValue, x_frameSelf, x_frameCaller, x_frameAmount, x_frameArg, x_frameGiven, x_frameLeft, x_framePc, x_frameSp, x_frameJournal, x_frameEvents, x_frameWarm, x_frameRefund, x_frameMails, upd x_stack q (zo_bin 10 (x_stack q) (x_stack (q + 1))))) : wpX_plain post (x_limit, x_pending, x_digest, x_journal, x_warm, x_refund, x_mails, x_ring, x_kept, x_version, x_events, nI (f + 1), x_self, x_left, x_pc, nI (q + 2), x_base, x_lastStatus, x_lastResult, x_lastUsed, x_lastCalls, x_op, x_arg, x_length, x_blockLength, x_blockCost, x_blockMost, x_blockNeed, x_blockRise, x_state, x_weight, x_journalCell, x_journalOld, x_mailTo, x_mailFrom, x_mailAmount, x_mailArg, x_oldCell, x_oldValue, x_oldCount, x_oldDigest, x_eventAccount, x_eventTag, x_eventValue, x_frameSelf, x_frameCaller, x_frameAmount, x_frameArg, x_frameGiven, x_frameLeft, x_framePc, x_frameSp, x_frameJournal, x_frameEvents, x_frameWarm, x_frameRefund, x_frameMails, x_stack) (nI 10) b := by
  unfold wpX_plain
  dsimp only
  exact nm_r (e' := nI f) (nI_pred f) (br_f (by decide) (br_f (by decide) (br_f (by decide) (br_f (by decide) (br_f (by decide) (br_f (by decide) (br_f (by decide) (br_f (by decide) (br_f (by decide) (br_f (by decide) (br_f (by decide) (br_f (by decide) (br_t (by decide) (xw_binary (o := 10) hq (by omega) (by omega) hp))))))))))))))
theorem xw_p11 {post : SX → Prop} {f q : Nat} {b : Int32} (hq : q + 1 < 35) (hp : post (x_limit, x_pending, x_digest, x_journal, x_warm, x_refund, x_mails, x_ring, x_kept, x_version, x_events, nI (f + 1), x_self, x_left, x_pc, nI (q + 1), x_base, x_lastStatus, x_lastResult, x_lastUsed, x_lastCalls, x_op, x_arg, x_length, x_blockLength, x_blockCost, x_blockMost, x_blockNeed, x_blockRise, x_state, x_weight, x_journalCell, x_journalOld, x_mailTo, x_mailFrom, x_mailAmount, x_mailArg, x_oldCell, x_oldValue, x_oldCount, x_oldDigest, x_eventAccount, x_eventTag, x_eventValue, x_frameSelf, x_frameCaller, x_frameAmount, x_frameArg, x_frameGiven, x_frameLeft, x_framePc, x_frameSp, x_frameJournal, x_frameEvents, x_frameWarm, x_frameRefund, x_frameMails, upd x_stack q (zo_bin 11 (x_stack q) (x_stack (q + 1))))) : wpX_plain post (x_limit, x_pending, x_digest, x_journal, x_warm, x_refund, x_mails, x_ring, x_kept, x_version, x_events, nI (f + 1), x_self, x_left, x_pc, nI (q + 2), x_base, x_lastStatus, x_lastResult, x_lastUsed, x_lastCalls, x_op, x_arg, x_length, x_blockLength, x_blockCost, x_blockMost, x_blockNeed, x_blockRise, x_state, x_weight, x_journalCell, x_journalOld, x_mailTo, x_mailFrom, x_mailAmount, x_mailArg, x_oldCell, x_oldValue, x_oldCount, x_oldDigest, x_eventAccount, x_eventTag, x_eventValue, x_frameSelf, x_frameCaller, x_frameAmount, x_frameArg, x_frameGiven, x_frameLeft, x_framePc, x_frameSp, x_frameJournal, x_frameEvents, x_frameWarm, x_frameRefund, x_frameMails, x_stack) (nI 11) b := by
  unfold wpX_plain
  dsimp only
  exact nm_r (e' := nI f) (nI_pred f) (br_f (by decide) (br_f (by decide) (br_f (by decide) (br_f (by decide) (br_f (by decide) (br_f (by decide) (br_f (by decide) (br_f (by decide) (br_f (by decide) (br_f (by decide) (br_f (by decide) (br_f (by decide) (br_f (by decide) (br_t (by decide) (xw_binary (o := 11) hq (by omega) (by omega) hp)))))))))))))))
theorem xw_p12 {post : SX → Prop} {f q : Nat} {b : Int32} (hq : q + 1 < 35) (hp : post (x_limit, x_pending, x_digest, x_journal, x_warm, x_refund, x_mails, x_ring, x_kept, x_version, x_events, nI (f + 1), x_self, x_left, x_pc, nI (q + 1), x_base, x_lastStatus, x_lastResult, x_lastUsed, x_lastCalls, x_op, x_arg, x_length, x_blockLength, x_blockCost, x_blockMost, x_blockNeed, x_blockRise, x_state, x_weight, x_journalCell, x_journalOld, x_mailTo, x_mailFrom, x_mailAmount, x_mailArg, x_oldCell, x_oldValue, x_oldCount, x_oldDigest, x_eventAccount, x_eventTag, x_eventValue, x_frameSelf, x_frameCaller, x_frameAmount, x_frameArg, x_frameGiven, x_frameLeft, x_framePc, x_frameSp, x_frameJournal, x_frameEvents, x_frameWarm, x_frameRefund, x_frameMails, upd x_stack q (zo_bin 12 (x_stack q) (x_stack (q + 1))))) : wpX_plain post (x_limit, x_pending, x_digest, x_journal, x_warm, x_refund, x_mails, x_ring, x_kept, x_version, x_events, nI (f + 1), x_self, x_left, x_pc, nI (q + 2), x_base, x_lastStatus, x_lastResult, x_lastUsed, x_lastCalls, x_op, x_arg, x_length, x_blockLength, x_blockCost, x_blockMost, x_blockNeed, x_blockRise, x_state, x_weight, x_journalCell, x_journalOld, x_mailTo, x_mailFrom, x_mailAmount, x_mailArg, x_oldCell, x_oldValue, x_oldCount, x_oldDigest, x_eventAccount, x_eventTag, x_eventValue, x_frameSelf, x_frameCaller, x_frameAmount, x_frameArg, x_frameGiven, x_frameLeft, x_framePc, x_frameSp, x_frameJournal, x_frameEvents, x_frameWarm, x_frameRefund, x_frameMails, x_stack) (nI 12) b := by
  unfold wpX_plain
  dsimp only
  exact nm_r (e' := nI f) (nI_pred f) (br_f (by decide) (br_f (by decide) (br_f (by decide) (br_f (by decide) (br_f (by decide) (br_f (by decide) (br_f (by decide) (br_f (by decide) (br_f (by decide) (br_f (by decide) (br_f (by decide) (br_f (by decide) (br_f (by decide) (br_f (by decide) (br_t (by decide) (xw_binary (o := 12) hq (by omega) (by omega) hp))))))))))))))))

theorem xw_cellCost {post : Int32 → Prop} {s o : Nat} {b : Int32} (hs : s < 6) (ho : o < 24) (hp : post (nI (zc_cc o (x_warm.toBitVec.getLsbD (4 * s + zq_q b))))) : wpX_cellCost post (x_limit, x_pending, x_digest, x_journal, x_warm, x_refund, x_mails, x_ring, x_kept, x_version, x_events, x_depth, nI s, x_left, x_pc, x_sp, x_base, x_lastStatus, x_lastResult, x_lastUsed, x_lastCalls, x_op, x_arg, x_length, x_blockLength, x_blockCost, x_blockMost, x_blockNeed, x_blockRise, x_state, x_weight, x_journalCell, x_journalOld, x_mailTo, x_mailFrom, x_mailAmount, x_mailArg, x_oldCell, x_oldValue, x_oldCount, x_oldDigest, x_eventAccount, x_eventTag, x_eventValue, x_frameSelf, x_frameCaller, x_frameAmount, x_frameArg, x_frameGiven, x_frameLeft, x_framePc, x_frameSp, x_frameJournal, x_frameEvents, x_frameWarm, x_frameRefund, x_frameMails, x_stack) (nI o) b := by
  have hq := zq_lt b
  have e4 : (4 : Int32) * nI s + (b &&& 3) = nI (4 * s + zq_q b) := by
    rw [show (4 : Int32) * nI s = nI (4 * s) from pk_mul 4 s, zq_and]; exact nI_add _ _
  unfold wpX_cellCost
  dsimp only
  rw [e4]
  have hb := zw_bit (w := x_warm) (j := 4 * s + zq_q b) (by omega)
  unfold zc_cc at hp
  refine br_c (fun z => ?_) (fun z => ?_)
  · rw [hb.mp z] at hp
    refine pk_eq o 6 (fun e => br_t rfl ?_) (fun n6 => pk_eq o 7 (fun e => br_t rfl ?_) (fun n7 => ?_))
    · rw [if_pos e] at hp; exact hp
    · rw [if_neg n6, if_pos e] at hp; exact hp
    · rw [if_neg n6, if_neg n7] at hp; exact hp
  · have hb' : x_warm.toBitVec.getLsbD (4 * s + zq_q b) = true := ts_nf (fun y => z (hb.mpr y))
    rw [hb'] at hp
    refine pk_eq o 6 (fun e => br_f (by decide) ?_) (fun n6 => pk_eq o 7 (fun e => br_f (by decide) ?_) (fun n7 => ?_))
    · rw [if_pos e] at hp; exact hp
    · rw [if_neg n6, if_pos e] at hp; exact hp
    · rw [if_neg n6, if_neg n7] at hp; exact hp
theorem xw_useCell6 {post : SX → Prop} {s q lx o : Nat} {b : Int32} (hs : s < 6) (ho : o = 6) (hq : q < 35) (hl : zc_cc o (x_warm.toBitVec.getLsbD (4 * s + zq_q b)) ≤ lx) (hp : post (x_limit, x_pending, x_digest, x_journal, x_warm ||| ((1 : Int64) <<< ((nI (4 * s + zq_q b)).toInt64 &&& 63)), x_refund, x_mails, x_ring, x_kept, x_version, x_events, x_depth, nI s, nI (lx - zc_cc o (x_warm.toBitVec.getLsbD (4 * s + zq_q b))), x_pc, nI (q + 1), x_base, x_lastStatus, x_lastResult, x_lastUsed, x_lastCalls, x_op, x_arg, x_length, x_blockLength, x_blockCost, x_blockMost, x_blockNeed, x_blockRise, x_state, x_weight, x_journalCell, x_journalOld, x_mailTo, x_mailFrom, x_mailAmount, x_mailArg, x_oldCell, x_oldValue, x_oldCount, x_oldDigest, x_eventAccount, x_eventTag, x_eventValue, x_frameSelf, x_frameCaller, x_frameAmount, x_frameArg, x_frameGiven, x_frameLeft, x_framePc, x_frameSp, x_frameJournal, x_frameEvents, x_frameWarm, x_frameRefund, x_frameMails, upd x_stack q (x_state (5 * s + 1 + zq_q b)))) : wpX_useCell post (x_limit, x_pending, x_digest, x_journal, x_warm, x_refund, x_mails, x_ring, x_kept, x_version, x_events, x_depth, nI s, nI lx, x_pc, nI q, x_base, x_lastStatus, x_lastResult, x_lastUsed, x_lastCalls, x_op, x_arg, x_length, x_blockLength, x_blockCost, x_blockMost, x_blockNeed, x_blockRise, x_state, x_weight, x_journalCell, x_journalOld, x_mailTo, x_mailFrom, x_mailAmount, x_mailArg, x_oldCell, x_oldValue, x_oldCount, x_oldDigest, x_eventAccount, x_eventTag, x_eventValue, x_frameSelf, x_frameCaller, x_frameAmount, x_frameArg, x_frameGiven, x_frameLeft, x_framePc, x_frameSp, x_frameJournal, x_frameEvents, x_frameWarm, x_frameRefund, x_frameMails, x_stack) (nI o) b := by
  have hq4 := zq_lt b
  have e5 : (5 : Int32) * nI s + 1 + nI (zq_q b) = nI (5 * s + 1 + zq_q b) := by
    rw [show (5 : Int32) * nI s = nI (5 * s) from pk_mul 5 s, nI_1, nI_add]
  have e4 : (4 : Int32) * nI s + nI (zq_q b) = nI (4 * s + zq_q b) := by rw [show (4 : Int32) * nI s = nI (4 * s) from pk_mul 4 s, nI_add]
  have hj : vp_in (nI q) 35 := vp_in_nI hq (by omega)
  have hc : vp_in (nI (5 * s + 1 + zq_q b)) 30 := vp_in_nI (by omega) (by omega)
  unfold wpX_useCell
  dsimp only
  refine nm_r (zq_and b) ?_
  rw [e5, e4]
  refine nm_e (xw_cellCost hs (by omega) (nm_r (pk_sub hl) (nm_e ?_)))
  rw [nI_clamp (by omega : q < 2 ^ 31), nI_clamp (by omega : 5 * s + 1 + zq_q b < 2 ^ 31)]
  subst ho
  exact br_t rfl (nm_r (nI_1 q) ⟨hc, hj, nm_e hp⟩)
theorem xw_useCell7 {post : SX → Prop} {s q lx o J r : Nat} {b : Int32} (hW : zs_W x_weight) (hs : s < 6) (ho : o = 7) (hq : q < 35) (hJ : J < 160) (hl : zc_cc o (x_warm.toBitVec.getLsbD (4 * s + zq_q b)) ≤ lx) (hp : post (x_limit, x_pending, zs_H (upd x_state (5 * s + 1 + zq_q b) (x_stack q)) 30, nI (J + 1), x_warm ||| ((1 : Int64) <<< ((nI (4 * s + zq_q b)).toInt64 &&& 63)), nI (if x_stack q = 0 then (if x_state (5 * s + 1 + zq_q b) = 0 then r else r + 4) else r), x_mails, x_ring, x_kept, x_version, x_events, x_depth, nI s, nI (lx - zc_cc o (x_warm.toBitVec.getLsbD (4 * s + zq_q b))), x_pc, nI q, x_base, x_lastStatus, x_lastResult, x_lastUsed, x_lastCalls, x_op, x_arg, x_length, x_blockLength, x_blockCost, x_blockMost, x_blockNeed, x_blockRise, upd x_state (5 * s + 1 + zq_q b) (x_stack q), x_weight, upd x_journalCell J (nI (5 * s + 1 + zq_q b)), upd x_journalOld J (x_state (5 * s + 1 + zq_q b)), x_mailTo, x_mailFrom, x_mailAmount, x_mailArg, x_oldCell, x_oldValue, x_oldCount, x_oldDigest, x_eventAccount, x_eventTag, x_eventValue, x_frameSelf, x_frameCaller, x_frameAmount, x_frameArg, x_frameGiven, x_frameLeft, x_framePc, x_frameSp, x_frameJournal, x_frameEvents, x_frameWarm, x_frameRefund, x_frameMails, x_stack)) : wpX_useCell post (x_limit, x_pending, zs_H x_state 30, nI J, x_warm, nI r, x_mails, x_ring, x_kept, x_version, x_events, x_depth, nI s, nI lx, x_pc, nI (q + 1), x_base, x_lastStatus, x_lastResult, x_lastUsed, x_lastCalls, x_op, x_arg, x_length, x_blockLength, x_blockCost, x_blockMost, x_blockNeed, x_blockRise, x_state, x_weight, x_journalCell, x_journalOld, x_mailTo, x_mailFrom, x_mailAmount, x_mailArg, x_oldCell, x_oldValue, x_oldCount, x_oldDigest, x_eventAccount, x_eventTag, x_eventValue, x_frameSelf, x_frameCaller, x_frameAmount, x_frameArg, x_frameGiven, x_frameLeft, x_framePc, x_frameSp, x_frameJournal, x_frameEvents, x_frameWarm, x_frameRefund, x_frameMails, x_stack) (nI o) b := by
  have hq4 := zq_lt b
  have e5 : (5 : Int32) * nI s + 1 + nI (zq_q b) = nI (5 * s + 1 + zq_q b) := by
    rw [show (5 : Int32) * nI s = nI (5 * s) from pk_mul 5 s, nI_1, nI_add]
  have e4 : (4 : Int32) * nI s + nI (zq_q b) = nI (4 * s + zq_q b) := by rw [show (4 : Int32) * nI s = nI (4 * s) from pk_mul 4 s, nI_add]
  have hj : vp_in (nI (q + 1) - 1) 35 := xw_in1 hq
  have e1 : (nI (q + 1) - 1).toNatClampNeg = q := by rw [nI_pred]; exact nI_clamp (by omega)
  have hc : vp_in (nI (5 * s + 1 + zq_q b)) 30 := vp_in_nI (by omega) (by omega)
  unfold wpX_useCell
  dsimp only
  refine nm_r (zq_and b) ?_
  rw [e5, e4]
  refine nm_e (xw_cellCost hs (by omega) (nm_r (pk_sub hl) (nm_e ?_)))
  rw [e1, nI_clamp (by omega : 5 * s + 1 + zq_q b < 2 ^ 31)]
  subst ho
  refine br_f (by decide) (nm_r (nI_pred q) ⟨hj, nm_e ?_⟩)
  refine br_c (fun z => ⟨hc, br_c (fun y => ?_) (fun y => nm_r (e' := nI (r + 4)) (nI_add r 4) ?_)⟩) (fun z => ?_)
  · rw [if_pos z, if_pos y] at hp
    exact xw_write hW (by omega) hJ hp
  · rw [if_pos z, if_neg y] at hp
    exact xw_write hW (by omega) hJ hp
  · rw [if_neg z] at hp
    exact xw_write hW (by omega) hJ hp
theorem xw_p6 {post : SX → Prop} {f q : Nat} {b : Int32} (hp : wpX_useCell post (x_limit, x_pending, x_digest, x_journal, x_warm, x_refund, x_mails, x_ring, x_kept, x_version, x_events, nI (f + 1), x_self, x_left, x_pc, nI q, x_base, x_lastStatus, x_lastResult, x_lastUsed, x_lastCalls, x_op, x_arg, x_length, x_blockLength, x_blockCost, x_blockMost, x_blockNeed, x_blockRise, x_state, x_weight, x_journalCell, x_journalOld, x_mailTo, x_mailFrom, x_mailAmount, x_mailArg, x_oldCell, x_oldValue, x_oldCount, x_oldDigest, x_eventAccount, x_eventTag, x_eventValue, x_frameSelf, x_frameCaller, x_frameAmount, x_frameArg, x_frameGiven, x_frameLeft, x_framePc, x_frameSp, x_frameJournal, x_frameEvents, x_frameWarm, x_frameRefund, x_frameMails, x_stack) (nI 6) b) : wpX_plain post (x_limit, x_pending, x_digest, x_journal, x_warm, x_refund, x_mails, x_ring, x_kept, x_version, x_events, nI (f + 1), x_self, x_left, x_pc, nI q, x_base, x_lastStatus, x_lastResult, x_lastUsed, x_lastCalls, x_op, x_arg, x_length, x_blockLength, x_blockCost, x_blockMost, x_blockNeed, x_blockRise, x_state, x_weight, x_journalCell, x_journalOld, x_mailTo, x_mailFrom, x_mailAmount, x_mailArg, x_oldCell, x_oldValue, x_oldCount, x_oldDigest, x_eventAccount, x_eventTag, x_eventValue, x_frameSelf, x_frameCaller, x_frameAmount, x_frameArg, x_frameGiven, x_frameLeft, x_framePc, x_frameSp, x_frameJournal, x_frameEvents, x_frameWarm, x_frameRefund, x_frameMails, x_stack) (nI 6) b := by
  unfold wpX_plain
  dsimp only
  exact nm_r (e' := nI f) (nI_pred f) (br_f (by decide) (br_f (by decide) (br_f (by decide) (br_f (by decide) (br_f (by decide) (br_f (by decide) (br_f (by decide) (br_f (by decide) (br_t (by decide) hp)))))))))

theorem xw_p7 {post : SX → Prop} {f q : Nat} {b : Int32} (hp : wpX_useCell post (x_limit, x_pending, x_digest, x_journal, x_warm, x_refund, x_mails, x_ring, x_kept, x_version, x_events, nI (f + 1), x_self, x_left, x_pc, nI q, x_base, x_lastStatus, x_lastResult, x_lastUsed, x_lastCalls, x_op, x_arg, x_length, x_blockLength, x_blockCost, x_blockMost, x_blockNeed, x_blockRise, x_state, x_weight, x_journalCell, x_journalOld, x_mailTo, x_mailFrom, x_mailAmount, x_mailArg, x_oldCell, x_oldValue, x_oldCount, x_oldDigest, x_eventAccount, x_eventTag, x_eventValue, x_frameSelf, x_frameCaller, x_frameAmount, x_frameArg, x_frameGiven, x_frameLeft, x_framePc, x_frameSp, x_frameJournal, x_frameEvents, x_frameWarm, x_frameRefund, x_frameMails, x_stack) (nI 7) b) : wpX_plain post (x_limit, x_pending, x_digest, x_journal, x_warm, x_refund, x_mails, x_ring, x_kept, x_version, x_events, nI (f + 1), x_self, x_left, x_pc, nI q, x_base, x_lastStatus, x_lastResult, x_lastUsed, x_lastCalls, x_op, x_arg, x_length, x_blockLength, x_blockCost, x_blockMost, x_blockNeed, x_blockRise, x_state, x_weight, x_journalCell, x_journalOld, x_mailTo, x_mailFrom, x_mailAmount, x_mailArg, x_oldCell, x_oldValue, x_oldCount, x_oldDigest, x_eventAccount, x_eventTag, x_eventValue, x_frameSelf, x_frameCaller, x_frameAmount, x_frameArg, x_frameGiven, x_frameLeft, x_framePc, x_frameSp, x_frameJournal, x_frameEvents, x_frameWarm, x_frameRefund, x_frameMails, x_stack) (nI 7) b := by
  unfold wpX_plain
  dsimp only
  exact nm_r (e' := nI f) (nI_pred f) (br_f (by decide) (br_f (by decide) (br_f (by decide) (br_f (by decide) (br_f (by decide) (br_f (by decide) (br_f (by decide) (br_f (by decide) (br_f (by decide) (br_t (by decide) hp))))))))))

theorem xw_p21 {post : SX → Prop} {f q e s : Nat} {b : Int32} (hs : s < 6) (hq : q < 35) (he : e ≤ 20) (h1 : e = 20 → post (x_limit, x_pending, x_digest, x_journal, x_warm, x_refund, x_mails, x_ring, x_kept, x_version, nI e, nI (f + 1), nI s, x_left, x_pc, nI q, x_base, x_lastStatus, x_lastResult, x_lastUsed, x_lastCalls, x_op, x_arg, x_length, x_blockLength, x_blockCost, x_blockMost, x_blockNeed, x_blockRise, x_state, x_weight, x_journalCell, x_journalOld, x_mailTo, x_mailFrom, x_mailAmount, x_mailArg, x_oldCell, x_oldValue, x_oldCount, x_oldDigest, x_eventAccount, x_eventTag, x_eventValue, x_frameSelf, x_frameCaller, x_frameAmount, x_frameArg, x_frameGiven, x_frameLeft, x_framePc, x_frameSp, x_frameJournal, x_frameEvents, x_frameWarm, x_frameRefund, x_frameMails, x_stack)) (h2 : e < 20 → post (x_limit, x_pending, x_digest, x_journal, x_warm, x_refund, x_mails, x_ring, x_kept, x_version, nI (e + 1), nI (f + 1), nI s, x_left, x_pc, nI q, x_base, x_lastStatus, x_lastResult, x_lastUsed, x_lastCalls, x_op, x_arg, x_length, x_blockLength, x_blockCost, x_blockMost, x_blockNeed, x_blockRise, x_state, x_weight, x_journalCell, x_journalOld, x_mailTo, x_mailFrom, x_mailAmount, x_mailArg, x_oldCell, x_oldValue, x_oldCount, x_oldDigest, upd x_eventAccount e (nI s), upd x_eventTag e b, upd x_eventValue e (x_stack q), x_frameSelf, x_frameCaller, x_frameAmount, x_frameArg, x_frameGiven, x_frameLeft, x_framePc, x_frameSp, x_frameJournal, x_frameEvents, x_frameWarm, x_frameRefund, x_frameMails, x_stack)) : wpX_plain post (x_limit, x_pending, x_digest, x_journal, x_warm, x_refund, x_mails, x_ring, x_kept, x_version, nI e, nI (f + 1), nI s, x_left, x_pc, nI (q + 1), x_base, x_lastStatus, x_lastResult, x_lastUsed, x_lastCalls, x_op, x_arg, x_length, x_blockLength, x_blockCost, x_blockMost, x_blockNeed, x_blockRise, x_state, x_weight, x_journalCell, x_journalOld, x_mailTo, x_mailFrom, x_mailAmount, x_mailArg, x_oldCell, x_oldValue, x_oldCount, x_oldDigest, x_eventAccount, x_eventTag, x_eventValue, x_frameSelf, x_frameCaller, x_frameAmount, x_frameArg, x_frameGiven, x_frameLeft, x_framePc, x_frameSp, x_frameJournal, x_frameEvents, x_frameWarm, x_frameRefund, x_frameMails, x_stack) (nI 21) b := by
  have hj : vp_in (nI (q + 1) - 1) 35 := xw_in1 hq
  have e1 : (nI (q + 1) - 1).toNatClampNeg = q := by rw [nI_pred]; exact nI_clamp (by omega)
  have main : wpX_log post (x_limit, x_pending, x_digest, x_journal, x_warm, x_refund, x_mails, x_ring, x_kept, x_version, nI e, nI (f + 1), nI s, x_left, x_pc, nI (q + 1), x_base, x_lastStatus, x_lastResult, x_lastUsed, x_lastCalls, x_op, x_arg, x_length, x_blockLength, x_blockCost, x_blockMost, x_blockNeed, x_blockRise, x_state, x_weight, x_journalCell, x_journalOld, x_mailTo, x_mailFrom, x_mailAmount, x_mailArg, x_oldCell, x_oldValue, x_oldCount, x_oldDigest, x_eventAccount, x_eventTag, x_eventValue, x_frameSelf, x_frameCaller, x_frameAmount, x_frameArg, x_frameGiven, x_frameLeft, x_framePc, x_frameSp, x_frameJournal, x_frameEvents, x_frameWarm, x_frameRefund, x_frameMails, x_stack) b := by
    unfold wpX_log
    dsimp only
    rw [e1, zn_nbb (by omega : s < 128), nI_clamp (by omega : e < 2 ^ 31)]
    refine nm_r (nI_pred q) ⟨hj, nm_e ?_⟩
    refine pk_eq e 20 (fun z => h1 z) (fun z => ?_)
    have hi : vp_in (nI e) 20 := vp_in_nI (by omega) (by omega)
    exact ⟨hi, nm_e ⟨hi, nm_e (nm_r (nI_1 e) ⟨hi, nm_e (h2 (by omega))⟩)⟩⟩
  unfold wpX_plain
  dsimp only
  exact nm_r (e' := nI f) (nI_pred f) (br_f (by decide) (br_f (by decide) (br_f (by decide) (br_f (by decide) (br_f (by decide) (br_f (by decide) (br_f (by decide) (br_f (by decide) (br_f (by decide) (br_f (by decide) (br_f (by decide) (br_f (by decide) (br_f (by decide) (br_f (by decide) (br_f (by decide) (br_f (by decide) (br_f (by decide) (br_f (by decide) (br_f (by decide) (br_f (by decide) (br_f (by decide) (br_f (by decide) (br_f (by decide) (br_t (by decide) main))))))))))))))))))))))))

theorem xw_p23 {post : SX → Prop} {f q W s : Nat} {b : Int32} (hs : s < 6) (hq : q + 2 < 35) (hW : W ≤ 6) (h1 : (W = 6 ∨ x_stack q < 0 ∨ 6 ≤ x_stack q) → post (x_limit, x_pending, x_digest, x_journal, x_warm, x_refund, nI W, x_ring, x_kept, x_version, x_events, nI (f + 1), nI s, x_left, x_pc, nI q, x_base, x_lastStatus, x_lastResult, x_lastUsed, x_lastCalls, x_op, x_arg, x_length, x_blockLength, x_blockCost, x_blockMost, x_blockNeed, x_blockRise, x_state, x_weight, x_journalCell, x_journalOld, x_mailTo, x_mailFrom, x_mailAmount, x_mailArg, x_oldCell, x_oldValue, x_oldCount, x_oldDigest, x_eventAccount, x_eventTag, x_eventValue, x_frameSelf, x_frameCaller, x_frameAmount, x_frameArg, x_frameGiven, x_frameLeft, x_framePc, x_frameSp, x_frameJournal, x_frameEvents, x_frameWarm, x_frameRefund, x_frameMails, x_stack)) (h2 : ∀ a : Nat, W < 6 → a < 6 → x_stack q = nI a → post (x_limit, x_pending, x_digest, x_journal, x_warm, x_refund, nI (W + 1), x_ring, x_kept, x_version, x_events, nI (f + 1), nI s, x_left, x_pc, nI q, x_base, x_lastStatus, x_lastResult, x_lastUsed, x_lastCalls, x_op, x_arg, x_length, x_blockLength, x_blockCost, x_blockMost, x_blockNeed, x_blockRise, x_state, x_weight, x_journalCell, x_journalOld, upd x_mailTo W (nI a), upd x_mailFrom W (nI s), upd x_mailAmount W (x_stack (q + 1)), upd x_mailArg W (x_stack (q + 2)), x_oldCell, x_oldValue, x_oldCount, x_oldDigest, x_eventAccount, x_eventTag, x_eventValue, x_frameSelf, x_frameCaller, x_frameAmount, x_frameArg, x_frameGiven, x_frameLeft, x_framePc, x_frameSp, x_frameJournal, x_frameEvents, x_frameWarm, x_frameRefund, x_frameMails, x_stack)) : wpX_plain post (x_limit, x_pending, x_digest, x_journal, x_warm, x_refund, nI W, x_ring, x_kept, x_version, x_events, nI (f + 1), nI s, x_left, x_pc, nI (q + 3), x_base, x_lastStatus, x_lastResult, x_lastUsed, x_lastCalls, x_op, x_arg, x_length, x_blockLength, x_blockCost, x_blockMost, x_blockNeed, x_blockRise, x_state, x_weight, x_journalCell, x_journalOld, x_mailTo, x_mailFrom, x_mailAmount, x_mailArg, x_oldCell, x_oldValue, x_oldCount, x_oldDigest, x_eventAccount, x_eventTag, x_eventValue, x_frameSelf, x_frameCaller, x_frameAmount, x_frameArg, x_frameGiven, x_frameLeft, x_framePc, x_frameSp, x_frameJournal, x_frameEvents, x_frameWarm, x_frameRefund, x_frameMails, x_stack) (nI 23) b := by
  have main : wpX_send post (x_limit, x_pending, x_digest, x_journal, x_warm, x_refund, nI W, x_ring, x_kept, x_version, x_events, nI (f + 1), nI s, x_left, x_pc, nI (q + 3), x_base, x_lastStatus, x_lastResult, x_lastUsed, x_lastCalls, x_op, x_arg, x_length, x_blockLength, x_blockCost, x_blockMost, x_blockNeed, x_blockRise, x_state, x_weight, x_journalCell, x_journalOld, x_mailTo, x_mailFrom, x_mailAmount, x_mailArg, x_oldCell, x_oldValue, x_oldCount, x_oldDigest, x_eventAccount, x_eventTag, x_eventValue, x_frameSelf, x_frameCaller, x_frameAmount, x_frameArg, x_frameGiven, x_frameLeft, x_framePc, x_frameSp, x_frameJournal, x_frameEvents, x_frameWarm, x_frameRefund, x_frameMails, x_stack) := by
    unfold wpX_send
    dsimp only
    have a1 : (nI (q + 3) - 1).toNatClampNeg = q + 2 := by rw [nI_pred]; exact nI_clamp (by omega)
    have a2 : (nI (q + 2) - 1).toNatClampNeg = q + 1 := by rw [nI_pred]; exact nI_clamp (by omega)
    have a3 : (nI (q + 1) - 1).toNatClampNeg = q := by rw [nI_pred]; exact nI_clamp (by omega)
    rw [a1]
    refine nm_r (e' := nI (q + 2)) (nI_pred (q + 2)) ⟨xw_in1 hq, nm_e (nm_r (e' := nI (q + 1)) (nI_pred (q + 1)) ⟨xw_in1 (by omega), ?_⟩)⟩
    rw [a2]
    refine nm_e (nm_r (e' := nI q) (nI_pred q) ⟨xw_in1 (by omega), ?_⟩)
    rw [a3]
    refine nm_e (pk_eq W 6 (fun z => h1 (Or.inl z)) (fun z => ?_))
    refine xw_outN (n := 6) (by omega) (fun a ha ea => br_t rfl ?_) (fun h => br_f (by decide) (h1 (Or.inr h)))
    have hi : vp_in (nI W) 6 := vp_in_nI (by omega) (by omega)
    rw [nI_clamp (by omega : W < 2 ^ 31), zn_nbb (by omega : s < 128), ea, zn_nbb (by omega : a < 128)]
    exact ⟨hi, nm_e ⟨hi, nm_e ⟨hi, nm_e (nm_r (nI_1 W) ⟨hi, nm_e (h2 a (by omega) ha ea)⟩)⟩⟩⟩
  unfold wpX_plain
  dsimp only
  exact nm_r (e' := nI f) (nI_pred f) (br_f (by decide) (br_f (by decide) (br_f (by decide) (br_f (by decide) (br_f (by decide) (br_f (by decide) (br_f (by decide) (br_f (by decide) (br_f (by decide) (br_f (by decide) (br_f (by decide) (br_f (by decide) (br_f (by decide) (br_f (by decide) (br_f (by decide) (br_f (by decide) (br_f (by decide) (br_f (by decide) (br_f (by decide) (br_f (by decide) (br_f (by decide) (br_f (by decide) (br_f (by decide) (br_f (by decide) (br_f (by decide) (br_t (by decide) main))))))))))))))))))))))))))

/-! the reference's -/

theorem yw_m0 {post : SY → Prop} {f s h : Nat} {b c : Int32} (hf : f < 5) (hh : h < 6) (et : y_tops f = nI h) (hp : post (y_limit, y_eventCount, y_waiting, y_refund, nI (f + 1), y_ended, y_answer, y_rest, y_begun, y_result, y_used, y_calls, y_version, y_kept, x_op, x_arg, y_lengths, y_now, y_copies, y_older, y_before, y_warm, y_warmCopies, y_eventCopies, y_messageCopies, y_refundCopies, y_events, y_messages, y_self, y_caller, y_amounts, y_arguments, y_given, y_left, y_at, upd y_tops f (nI (h + 1)), upd y_stack (6 * f + h) b)) : wpY_simple post (y_limit, y_eventCount, y_waiting, y_refund, nI (f + 1), y_ended, y_answer, y_rest, y_begun, y_result, y_used, y_calls, y_version, y_kept, x_op, x_arg, y_lengths, y_now, y_copies, y_older, y_before, y_warm, y_warmCopies, y_eventCopies, y_messageCopies, y_refundCopies, y_events, y_messages, y_self, y_caller, y_amounts, y_arguments, y_given, y_left, y_at, y_tops, y_stack) (nI 0) b c := by
  have hi : vp_in (nI f) 5 := vp_in_nI hf (by omega)
  have ef : (nI f).toNatClampNeg = f := nI_clamp (by omega)
  unfold wpY_simple
  dsimp only
  refine nm_r (e' := nI f) (nI_pred f) ?_
  rw [ef]
  refine ⟨hi, nm_e ?_⟩
  exact (br_f (by decide) (br_f (by decide) (br_t (by decide) (yw_push hf hh et hp))))
theorem yw_m1 {post : SY → Prop} {f s h : Nat} {b c : Int32} (hf : f < 5) (hh : h < 6) (et : y_tops f = nI h) (hp : post (y_limit, y_eventCount, y_waiting, y_refund, nI (f + 1), y_ended, y_answer, y_rest, y_begun, y_result, y_used, y_calls, y_version, y_kept, x_op, x_arg, y_lengths, y_now, y_copies, y_older, y_before, y_warm, y_warmCopies, y_eventCopies, y_messageCopies, y_refundCopies, y_events, y_messages, y_self, y_caller, y_amounts, y_arguments, y_given, y_left, y_at, upd y_tops f (nI (h + 1)), upd y_stack (6 * f + h) (y_arguments f))) : wpY_simple post (y_limit, y_eventCount, y_waiting, y_refund, nI (f + 1), y_ended, y_answer, y_rest, y_begun, y_result, y_used, y_calls, y_version, y_kept, x_op, x_arg, y_lengths, y_now, y_copies, y_older, y_before, y_warm, y_warmCopies, y_eventCopies, y_messageCopies, y_refundCopies, y_events, y_messages, y_self, y_caller, y_amounts, y_arguments, y_given, y_left, y_at, y_tops, y_stack) (nI 1) b c := by
  have hi : vp_in (nI f) 5 := vp_in_nI hf (by omega)
  have ef : (nI f).toNatClampNeg = f := nI_clamp (by omega)
  unfold wpY_simple
  dsimp only
  refine nm_r (e' := nI f) (nI_pred f) ?_
  rw [ef]
  refine ⟨hi, nm_e ?_⟩
  exact (br_f (by decide) (br_f (by decide) (br_f (by decide) (br_t (by decide) ⟨hi, yw_push hf hh et hp⟩))))
theorem yw_m2 {post : SY → Prop} {f s h : Nat} {b c : Int32} (hf : f < 5) (hh : h < 6) (et : y_tops f = nI h) (hp : post (y_limit, y_eventCount, y_waiting, y_refund, nI (f + 1), y_ended, y_answer, y_rest, y_begun, y_result, y_used, y_calls, y_version, y_kept, x_op, x_arg, y_lengths, y_now, y_copies, y_older, y_before, y_warm, y_warmCopies, y_eventCopies, y_messageCopies, y_refundCopies, y_events, y_messages, y_self, y_caller, y_amounts, y_arguments, y_given, y_left, y_at, upd y_tops f (nI (h + 1)), upd y_stack (6 * f + h) (y_caller f))) : wpY_simple post (y_limit, y_eventCount, y_waiting, y_refund, nI (f + 1), y_ended, y_answer, y_rest, y_begun, y_result, y_used, y_calls, y_version, y_kept, x_op, x_arg, y_lengths, y_now, y_copies, y_older, y_before, y_warm, y_warmCopies, y_eventCopies, y_messageCopies, y_refundCopies, y_events, y_messages, y_self, y_caller, y_amounts, y_arguments, y_given, y_left, y_at, y_tops, y_stack) (nI 2) b c := by
  have hi : vp_in (nI f) 5 := vp_in_nI hf (by omega)
  have ef : (nI f).toNatClampNeg = f := nI_clamp (by omega)
  unfold wpY_simple
  dsimp only
  refine nm_r (e' := nI f) (nI_pred f) ?_
  rw [ef]
  refine ⟨hi, nm_e ?_⟩
  exact (br_f (by decide) (br_f (by decide) (br_f (by decide) (br_f (by decide) (br_t (by decide) ⟨hi, yw_push hf hh et hp⟩)))))
theorem yw_m3 {post : SY → Prop} {f s h : Nat} {b c : Int32} (hf : f < 5) (hh : h < 6) (et : y_tops f = nI h) (hp : post (y_limit, y_eventCount, y_waiting, y_refund, nI (f + 1), y_ended, y_answer, y_rest, y_begun, y_result, y_used, y_calls, y_version, y_kept, x_op, x_arg, y_lengths, y_now, y_copies, y_older, y_before, y_warm, y_warmCopies, y_eventCopies, y_messageCopies, y_refundCopies, y_events, y_messages, y_self, y_caller, y_amounts, y_arguments, y_given, y_left, y_at, upd y_tops f (nI (h + 1)), upd y_stack (6 * f + h) (y_self f))) : wpY_simple post (y_limit, y_eventCount, y_waiting, y_refund, nI (f + 1), y_ended, y_answer, y_rest, y_begun, y_result, y_used, y_calls, y_version, y_kept, x_op, x_arg, y_lengths, y_now, y_copies, y_older, y_before, y_warm, y_warmCopies, y_eventCopies, y_messageCopies, y_refundCopies, y_events, y_messages, y_self, y_caller, y_amounts, y_arguments, y_given, y_left, y_at, y_tops, y_stack) (nI 3) b c := by
  have hi : vp_in (nI f) 5 := vp_in_nI hf (by omega)
  have ef : (nI f).toNatClampNeg = f := nI_clamp (by omega)
  unfold wpY_simple
  dsimp only
  refine nm_r (e' := nI f) (nI_pred f) ?_
  rw [ef]
  refine ⟨hi, nm_e ?_⟩
  exact (br_f (by decide) (br_f (by decide) (br_f (by decide) (br_f (by decide) (br_f (by decide) (br_t (by decide) ⟨hi, yw_push hf hh et hp⟩))))))
theorem yw_m4 {post : SY → Prop} {f s h : Nat} {b c : Int32} (hf : f < 5) (hh : h < 6) (et : y_tops f = nI h) (hp : post (y_limit, y_eventCount, y_waiting, y_refund, nI (f + 1), y_ended, y_answer, y_rest, y_begun, y_result, y_used, y_calls, y_version, y_kept, x_op, x_arg, y_lengths, y_now, y_copies, y_older, y_before, y_warm, y_warmCopies, y_eventCopies, y_messageCopies, y_refundCopies, y_events, y_messages, y_self, y_caller, y_amounts, y_arguments, y_given, y_left, y_at, upd y_tops f (nI (h + 1)), upd y_stack (6 * f + h) (y_amounts f))) : wpY_simple post (y_limit, y_eventCount, y_waiting, y_refund, nI (f + 1), y_ended, y_answer, y_rest, y_begun, y_result, y_used, y_calls, y_version, y_kept, x_op, x_arg, y_lengths, y_now, y_copies, y_older, y_before, y_warm, y_warmCopies, y_eventCopies, y_messageCopies, y_refundCopies, y_events, y_messages, y_self, y_caller, y_amounts, y_arguments, y_given, y_left, y_at, y_tops, y_stack) (nI 4) b c := by
  have hi : vp_in (nI f) 5 := vp_in_nI hf (by omega)
  have ef : (nI f).toNatClampNeg = f := nI_clamp (by omega)
  unfold wpY_simple
  dsimp only
  refine nm_r (e' := nI f) (nI_pred f) ?_
  rw [ef]
  refine ⟨hi, nm_e ?_⟩
  exact (br_f (by decide) (br_f (by decide) (br_f (by decide) (br_f (by decide) (br_f (by decide) (br_f (by decide) (br_t (by decide) ⟨hi, yw_push hf hh et hp⟩)))))))

theorem yw_m5 {post : SY → Prop} {f h : Nat} {b c : Int32} (hf : f < 5) (hh : h < 6) (et : y_tops f = nI (h + 1)) (h1 : ∀ a : Nat, a < 6 → y_stack (6 * f + h) = nI a → post (y_limit, y_eventCount, y_waiting, y_refund, nI (f + 1), y_ended, y_answer, y_rest, y_begun, y_result, y_used, y_calls, y_version, y_kept, x_op, x_arg, y_lengths, y_now, y_copies, y_older, y_before, y_warm, y_warmCopies, y_eventCopies, y_messageCopies, y_refundCopies, y_events, y_messages, y_self, y_caller, y_amounts, y_arguments, y_given, y_left, y_at, upd (upd y_tops f (nI h)) f (nI (h + 1)), upd y_stack (6 * f + h) (y_now (5 * a + 4)))) (h0 : (y_stack (6 * f + h) < 0 ∨ 6 ≤ y_stack (6 * f + h)) → post (y_limit, y_eventCount, y_waiting, y_refund, nI (f + 1), y_ended, y_answer, y_rest, y_begun, y_result, y_used, y_calls, y_version, y_kept, x_op, x_arg, y_lengths, y_now, y_copies, y_older, y_before, y_warm, y_warmCopies, y_eventCopies, y_messageCopies, y_refundCopies, y_events, y_messages, y_self, y_caller, y_amounts, y_arguments, y_given, y_left, y_at, upd (upd y_tops f (nI h)) f (nI (h + 1)), upd y_stack (6 * f + h) 0)) : wpY_simple post (y_limit, y_eventCount, y_waiting, y_refund, nI (f + 1), y_ended, y_answer, y_rest, y_begun, y_result, y_used, y_calls, y_version, y_kept, x_op, x_arg, y_lengths, y_now, y_copies, y_older, y_before, y_warm, y_warmCopies, y_eventCopies, y_messageCopies, y_refundCopies, y_events, y_messages, y_self, y_caller, y_amounts, y_arguments, y_given, y_left, y_at, y_tops, y_stack) (nI 5) b c := by
  have hi : vp_in (nI f) 5 := vp_in_nI hf (by omega)
  have ef : (nI f).toNatClampNeg = f := nI_clamp (by omega)
  unfold wpY_simple
  dsimp only
  refine nm_r (e' := nI f) (nI_pred f) ?_
  rw [ef]
  refine ⟨hi, nm_e ?_⟩
  refine (br_f (by decide) (br_f (by decide) (br_f (by decide) (br_f (by decide) (br_f (by decide) (br_f (by decide) (br_f (by decide) (br_t (by decide) (yw_pop hf hh et ?_)))))))))

  refine yw_isAcc (fun a ha ea => ?_) (fun h => br_t rfl (yw_push hf hh pk_us (h0 h)))
  refine br_f (by decide) ?_
  have e5 : (5 : Int32) * y_stack (6 * f + h) + 4 = nI (5 * a + 4) := by rw [ea, show (5 : Int32) * nI a = nI (5 * a) from pk_mul 5 a]; exact nI_add _ 4
  rw [e5, nI_clamp (by omega : 5 * a + 4 < 2 ^ 31)]
  exact ⟨vp_in_nI (by omega) (by omega), yw_push hf hh pk_us (h1 a ha ea)⟩
theorem yw_m6 {post : SY → Prop} {f s h c : Nat} {b : Int32} (hf : f < 5) (hs : s < 6) (hc : c < 24) (hh : h < 6) (es : y_self f = nI s) (et : y_tops f = nI h) (hp : post (y_limit, y_eventCount, y_waiting, y_refund, nI (f + 1), y_ended, y_answer, y_rest, y_begun, y_result, y_used, y_calls, y_version, y_kept, x_op, x_arg, y_lengths, y_now, y_copies, y_older, y_before, upd y_warm c 1, y_warmCopies, y_eventCopies, y_messageCopies, y_refundCopies, y_events, y_messages, y_self, y_caller, y_amounts, y_arguments, y_given, y_left, y_at, upd y_tops f (nI (h + 1)), upd y_stack (6 * f + h) (y_now (5 * s + zq_q b)))) : wpY_simple post (y_limit, y_eventCount, y_waiting, y_refund, nI (f + 1), y_ended, y_answer, y_rest, y_begun, y_result, y_used, y_calls, y_version, y_kept, x_op, x_arg, y_lengths, y_now, y_copies, y_older, y_before, y_warm, y_warmCopies, y_eventCopies, y_messageCopies, y_refundCopies, y_events, y_messages, y_self, y_caller, y_amounts, y_arguments, y_given, y_left, y_at, y_tops, y_stack) (nI 6) b (nI c) := by
  have hi : vp_in (nI f) 5 := vp_in_nI hf (by omega)
  have ef : (nI f).toNatClampNeg = f := nI_clamp (by omega)
  have hq := zq_lt b
  have e5 : (5 : Int32) * nI s + (b &&& 3) = nI (5 * s + zq_q b) := by rw [show (5 : Int32) * nI s = nI (5 * s) from pk_mul 5 s, zq_and]; exact nI_add _ _
  unfold wpY_simple
  dsimp only
  refine nm_r (e' := nI f) (nI_pred f) ?_
  rw [ef, es]
  refine ⟨hi, nm_r e5 ?_⟩
  rw [nI_clamp (by omega : c < 2 ^ 31), nI_clamp (by omega : 5 * s + zq_q b < 2 ^ 31), zn_b1]
  exact (br_f (by decide) (br_f (by decide) (br_f (by decide) (br_f (by decide) (br_f (by decide) (br_f (by decide) (br_f (by decide) (br_f (by decide) (br_t (by decide) ⟨vp_in_nI hc (by omega), nm_e ⟨vp_in_nI (by omega) (by omega), yw_push hf hh et hp⟩⟩)))))))))

theorem yw_m7 {post : SY → Prop} {f s h c r : Nat} {b : Int32} (hf : f < 5) (hs : s < 6) (hc : c < 24) (hh : h < 6) (es : y_self f = nI s) (et : y_tops f = nI (h + 1)) (hp : post (y_limit, y_eventCount, y_waiting, nI (if y_stack (6 * f + h) = 0 then (if y_now (5 * s + zq_q b) = 0 then r else r + 4) else r), nI (f + 1), y_ended, y_answer, y_rest, y_begun, y_result, y_used, y_calls, y_version, y_kept, x_op, x_arg, y_lengths, upd y_now (5 * s + zq_q b) (y_stack (6 * f + h)), y_copies, y_older, y_before, upd y_warm c 1, y_warmCopies, y_eventCopies, y_messageCopies, y_refundCopies, y_events, y_messages, y_self, y_caller, y_amounts, y_arguments, y_given, y_left, y_at, upd y_tops f (nI h), y_stack)) : wpY_simple post (y_limit, y_eventCount, y_waiting, nI r, nI (f + 1), y_ended, y_answer, y_rest, y_begun, y_result, y_used, y_calls, y_version, y_kept, x_op, x_arg, y_lengths, y_now, y_copies, y_older, y_before, y_warm, y_warmCopies, y_eventCopies, y_messageCopies, y_refundCopies, y_events, y_messages, y_self, y_caller, y_amounts, y_arguments, y_given, y_left, y_at, y_tops, y_stack) (nI 7) b (nI c) := by
  have hi : vp_in (nI f) 5 := vp_in_nI hf (by omega)
  have ef : (nI f).toNatClampNeg = f := nI_clamp (by omega)
  have hq := zq_lt b
  have e5 : (5 : Int32) * nI s + (b &&& 3) = nI (5 * s + zq_q b) := by rw [show (5 : Int32) * nI s = nI (5 * s) from pk_mul 5 s, zq_and]; exact nI_add _ _
  have h5 : vp_in (nI (5 * s + zq_q b)) 30 := vp_in_nI (by omega) (by omega)
  unfold wpY_simple
  dsimp only
  refine nm_r (e' := nI f) (nI_pred f) ?_
  rw [ef, es]
  refine ⟨hi, nm_r e5 ?_⟩
  rw [nI_clamp (by omega : c < 2 ^ 31), nI_clamp (by omega : 5 * s + zq_q b < 2 ^ 31), zn_b1]
  refine (br_f (by decide) (br_t (by decide) ⟨vp_in_nI hc (by omega), nm_e (yw_pop hf hh et ?_)⟩))

  refine br_c (fun z => ⟨h5, br_c (fun y => ⟨h5, nm_e ?_⟩) (fun y => nm_r (e' := nI (r + 4)) (nI_add r 4) ⟨h5, nm_e ?_⟩)⟩) (fun z => ⟨h5, nm_e ?_⟩)
  · rw [if_pos z, if_pos y] at hp; exact hp
  · rw [if_pos z, if_neg y] at hp; exact hp
  · rw [if_neg z] at hp; exact hp
end
end
section
/-! further walks of the reference's instructions; instructions in lockstep -/
section
variable {y_limit y_eventCount y_waiting y_refund y_depth y_ended y_answer y_rest y_begun y_result y_used y_calls y_version y_kept : Int32} {y_ops y_bs y_lengths y_now y_copies y_older y_before y_warm y_warmCopies y_eventCopies y_messageCopies y_refundCopies y_events y_messages y_self y_caller y_amounts y_arguments y_given y_left y_at y_tops y_stack : Nat → Int32}
variable {x_op x_arg : Nat → Int32}
theorem yw_s16 {post : SY → Prop} (hp : post (y_limit, y_eventCount, y_waiting, y_refund, y_depth, y_ended, y_answer, y_rest, y_begun, y_result, y_used, y_calls, y_version, y_kept, x_op, x_arg, y_lengths, y_now, y_copies, y_older, y_before, y_warm, y_warmCopies, y_eventCopies, y_messageCopies, y_refundCopies, y_events, y_messages, y_self, y_caller, y_amounts, y_arguments, y_given, y_left, y_at, y_tops, y_stack)) : wpY_onStack post (y_limit, y_eventCount, y_waiting, y_refund, y_depth, y_ended, y_answer, y_rest, y_begun, y_result, y_used, y_calls, y_version, y_kept, x_op, x_arg, y_lengths, y_now, y_copies, y_older, y_before, y_warm, y_warmCopies, y_eventCopies, y_messageCopies, y_refundCopies, y_events, y_messages, y_self, y_caller, y_amounts, y_arguments, y_given, y_left, y_at, y_tops, y_stack) (nI 16) := br_t rfl hp
theorem yw_s14 {post : SY → Prop} {f h o : Nat} (hf : f < 5) (hh : h < 6) (ho : o = 14 ∨ o = 17) (et : y_tops f = nI (h + 1)) (hp : post (y_limit, y_eventCount, y_waiting, y_refund, nI (f + 1), y_ended, y_answer, y_rest, y_begun, y_result, y_used, y_calls, y_version, y_kept, x_op, x_arg, y_lengths, y_now, y_copies, y_older, y_before, y_warm, y_warmCopies, y_eventCopies, y_messageCopies, y_refundCopies, y_events, y_messages, y_self, y_caller, y_amounts, y_arguments, y_given, y_left, y_at, upd y_tops f (nI h), y_stack)) : wpY_onStack post (y_limit, y_eventCount, y_waiting, y_refund, nI (f + 1), y_ended, y_answer, y_rest, y_begun, y_result, y_used, y_calls, y_version, y_kept, x_op, x_arg, y_lengths, y_now, y_copies, y_older, y_before, y_warm, y_warmCopies, y_eventCopies, y_messageCopies, y_refundCopies, y_events, y_messages, y_self, y_caller, y_amounts, y_arguments, y_given, y_left, y_at, y_tops, y_stack) (nI o) := by
  rcases ho with rfl | rfl
  · exact br_f (by decide) (yw_pop hf hh et (br_f (by decide) (br_f (by decide) (br_t rfl hp))))
  · exact br_f (by decide) (yw_pop hf hh et (br_f (by decide) (br_f (by decide) (br_f (by decide) (br_t rfl hp)))))
theorem yw_s13 {post : SY → Prop} {f h : Nat} (hf : f < 5) (hh : h + 1 < 6) (et : y_tops f = nI (h + 1)) (hp : post (y_limit, y_eventCount, y_waiting, y_refund, nI (f + 1), y_ended, y_answer, y_rest, y_begun, y_result, y_used, y_calls, y_version, y_kept, x_op, x_arg, y_lengths, y_now, y_copies, y_older, y_before, y_warm, y_warmCopies, y_eventCopies, y_messageCopies, y_refundCopies, y_events, y_messages, y_self, y_caller, y_amounts, y_arguments, y_given, y_left, y_at, upd (upd (upd y_tops f (nI h)) f (nI (h + 1))) f (nI (h + 2)), upd (upd y_stack (6 * f + h) (y_stack (6 * f + h))) (6 * f + (h + 1)) (y_stack (6 * f + h)))) : wpY_onStack post (y_limit, y_eventCount, y_waiting, y_refund, nI (f + 1), y_ended, y_answer, y_rest, y_begun, y_result, y_used, y_calls, y_version, y_kept, x_op, x_arg, y_lengths, y_now, y_copies, y_older, y_before, y_warm, y_warmCopies, y_eventCopies, y_messageCopies, y_refundCopies, y_events, y_messages, y_self, y_caller, y_amounts, y_arguments, y_given, y_left, y_at, y_tops, y_stack) (nI 13) :=
  br_f (by decide) (yw_pop hf (by omega) et (br_t rfl (yw_push hf (by omega) pk_us (yw_push hf hh pk_us (br_t rfl hp)))))
theorem yw_s15 {post : SY → Prop} {f h : Nat} (hf : f < 5) (hh : h + 1 < 6) (et : y_tops f = nI (h + 2)) (hp : post (y_limit, y_eventCount, y_waiting, y_refund, nI (f + 1), y_ended, y_answer, y_rest, y_begun, y_result, y_used, y_calls, y_version, y_kept, x_op, x_arg, y_lengths, y_now, y_copies, y_older, y_before, y_warm, y_warmCopies, y_eventCopies, y_messageCopies, y_refundCopies, y_events, y_messages, y_self, y_caller, y_amounts, y_arguments, y_given, y_left, y_at, upd (upd (upd (upd y_tops f (nI (h + 1))) f (nI h)) f (nI (h + 1))) f (nI (h + 2)), upd (upd y_stack (6 * f + h) (y_stack (6 * f + (h + 1)))) (6 * f + (h + 1)) (y_stack (6 * f + h)))) : wpY_onStack post (y_limit, y_eventCount, y_waiting, y_refund, nI (f + 1), y_ended, y_answer, y_rest, y_begun, y_result, y_used, y_calls, y_version, y_kept, x_op, x_arg, y_lengths, y_now, y_copies, y_older, y_before, y_warm, y_warmCopies, y_eventCopies, y_messageCopies, y_refundCopies, y_events, y_messages, y_self, y_caller, y_amounts, y_arguments, y_given, y_left, y_at, y_tops, y_stack) (nI 15) :=
  br_f (by decide) (yw_pop hf hh et (br_f (by decide) (br_f (by decide) (br_f (by decide) (br_f (by decide) (yw_pop hf (by omega) pk_us (br_t rfl (yw_push hf (by omega) pk_us (yw_push hf hh pk_us hp)))))))))
theorem yw_sb {post : SY → Prop} {f h o : Nat} (hf : f < 5) (hh : h + 1 < 6) (ho : 8 ≤ o) (ho2 : o ≤ 12) (et : y_tops f = nI (h + 2)) (hp : post (y_limit, y_eventCount, y_waiting, y_refund, nI (f + 1), y_ended, y_answer, y_rest, y_begun, y_result, y_used, y_calls, y_version, y_kept, x_op, x_arg, y_lengths, y_now, y_copies, y_older, y_before, y_warm, y_warmCopies, y_eventCopies, y_messageCopies, y_refundCopies, y_events, y_messages, y_self, y_caller, y_amounts, y_arguments, y_given, y_left, y_at, upd (upd (upd y_tops f (nI (h + 1))) f (nI h)) f (nI (h + 1)), upd y_stack (6 * f + h) (zo_bin o (y_stack (6 * f + h)) (y_stack (6 * f + (h + 1)))))) : wpY_onStack post (y_limit, y_eventCount, y_waiting, y_refund, nI (f + 1), y_ended, y_answer, y_rest, y_begun, y_result, y_used, y_calls, y_version, y_kept, x_op, x_arg, y_lengths, y_now, y_copies, y_older, y_before, y_warm, y_warmCopies, y_eventCopies, y_messageCopies, y_refundCopies, y_events, y_messages, y_self, y_caller, y_amounts, y_arguments, y_given, y_left, y_at, y_tops, y_stack) (nI o) := by
  have ne : ∀ k : Nat, 12 < k → k < 24 → ¬ nI o = nI k := fun k h1 h2 e => by have := (nI_eq (by omega) (by omega)).mp e; omega
  refine br_f (ne 16 (by omega) (by omega)) (yw_pop hf hh et (br_f (ne 13 (by omega) (by omega)) (br_f (ne 13 (by omega) (by omega)) (br_f (ne 14 (by omega) (by omega)) (br_f (ne 17 (by omega) (by omega)) (yw_pop hf (by omega) pk_us (br_f (ne 15 (by omega) (by omega)) ?_)))))))
  unfold zo_bin at hp
  refine pk_eq o 8 (fun e => ?_) (fun n8 => ?_)
  · rw [if_pos e] at hp; exact yw_push hf (by omega) pk_us hp
  rw [if_neg n8] at hp
  refine pk_eq o 9 (fun e => ?_) (fun n9 => ?_)
  · rw [if_pos e] at hp; exact yw_push hf (by omega) pk_us hp
  rw [if_neg n9] at hp
  refine pk_eq o 10 (fun e => ?_) (fun n10 => ?_)
  · rw [if_pos e] at hp; exact yw_push hf (by omega) pk_us hp
  rw [if_neg n10] at hp
  refine pk_eq o 11 (fun e => ?_) (fun n11 => ?_)
  · rw [if_pos e] at hp
    refine br_c (fun z => ?_) (fun z => ?_)
    · rw [if_pos z] at hp; exact yw_push hf (by omega) pk_us hp
    · rw [if_neg z] at hp; exact yw_push hf (by omega) pk_us hp
  · rw [if_neg n11] at hp
    refine br_c (fun z => ?_) (fun z => ?_)
    · rw [if_pos z] at hp; exact yw_push hf (by omega) pk_us hp
    · rw [if_neg z] at hp; exact yw_push hf (by omega) pk_us hp
theorem yw_o22 {post : SY → Prop} {f h : Nat} {b : Int32} (hf : f < 5) (hh : h < 6) (et : y_tops f = nI h) (hp : post (y_limit, y_eventCount, y_waiting, y_refund, nI (f + 1), y_ended, y_answer, y_rest, y_begun, y_result, y_used, y_calls, y_version, y_kept, x_op, x_arg, y_lengths, y_now, y_copies, y_older, y_before, y_warm, y_warmCopies, y_eventCopies, y_messageCopies, y_refundCopies, y_events, y_messages, y_self, y_caller, y_amounts, y_arguments, y_given, y_left, y_at, upd y_tops f (nI (h + 1)), upd y_stack (6 * f + h) (y_left f))) : wpY_other post (y_limit, y_eventCount, y_waiting, y_refund, nI (f + 1), y_ended, y_answer, y_rest, y_begun, y_result, y_used, y_calls, y_version, y_kept, x_op, x_arg, y_lengths, y_now, y_copies, y_older, y_before, y_warm, y_warmCopies, y_eventCopies, y_messageCopies, y_refundCopies, y_events, y_messages, y_self, y_caller, y_amounts, y_arguments, y_given, y_left, y_at, y_tops, y_stack) (nI 22) b := by
  have hi : vp_in (nI f) 5 := vp_in_nI hf (by omega)
  have ef : (nI f).toNatClampNeg = f := nI_clamp (by omega)
  unfold wpY_other
  dsimp only
  refine nm_r (e' := nI f) (nI_pred f) (br_t rfl ⟨hi, ?_⟩)
  rw [ef]
  exact yw_push hf hh et hp
theorem yw_o21 {post : SY → Prop} {f h e : Nat} {b : Int32} (hf : f < 5) (hh : h < 6) (he : e ≤ 20) (et : y_tops f = nI (h + 1)) (h1 : e = 20 → post (y_limit, nI e, y_waiting, y_refund, nI (f + 1), y_ended, y_answer, y_rest, y_begun, y_result, y_used, y_calls, y_version, y_kept, x_op, x_arg, y_lengths, y_now, y_copies, y_older, y_before, y_warm, y_warmCopies, y_eventCopies, y_messageCopies, y_refundCopies, y_events, y_messages, y_self, y_caller, y_amounts, y_arguments, y_given, y_left, y_at, upd y_tops f (nI h), y_stack)) (h2 : e < 20 → post (y_limit, nI (e + 1), y_waiting, y_refund, nI (f + 1), y_ended, y_answer, y_rest, y_begun, y_result, y_used, y_calls, y_version, y_kept, x_op, x_arg, y_lengths, y_now, y_copies, y_older, y_before, y_warm, y_warmCopies, y_eventCopies, y_messageCopies, y_refundCopies, upd (upd (upd y_events (3 * e) (y_self f)) (3 * e + 1) b) (3 * e + 2) (y_stack (6 * f + h)), y_messages, y_self, y_caller, y_amounts, y_arguments, y_given, y_left, y_at, upd y_tops f (nI h), y_stack)) : wpY_other post (y_limit, nI e, y_waiting, y_refund, nI (f + 1), y_ended, y_answer, y_rest, y_begun, y_result, y_used, y_calls, y_version, y_kept, x_op, x_arg, y_lengths, y_now, y_copies, y_older, y_before, y_warm, y_warmCopies, y_eventCopies, y_messageCopies, y_refundCopies, y_events, y_messages, y_self, y_caller, y_amounts, y_arguments, y_given, y_left, y_at, y_tops, y_stack) (nI 21) b := by
  have hi : vp_in (nI f) 5 := vp_in_nI hf (by omega)
  have ef : (nI f).toNatClampNeg = f := nI_clamp (by omega)
  unfold wpY_other
  dsimp only
  refine nm_r (e' := nI f) (nI_pred f) (br_f (by decide) (br_t rfl (yw_pop hf hh et ?_)))
  refine pk_le 20 e (fun h => h1 (by omega)) (fun h => ⟨hi, ?_⟩)
  have e3 : (3 : Int32) * nI e = nI (3 * e) := pk_mul 3 e
  have e31 : nI (3 * e) + 1 = nI (3 * e + 1) := nI_add _ 1
  have e32 : nI (3 * e) + 2 = nI (3 * e + 2) := nI_add _ 2
  rw [e3, e31, e32, ef, nI_clamp (by omega : 3 * e < 2 ^ 31), nI_clamp (by omega : 3 * e + 1 < 2 ^ 31), nI_clamp (by omega : 3 * e + 2 < 2 ^ 31)]
  exact ⟨vp_in_nI (by omega) (by omega), nm_e ⟨vp_in_nI (by omega) (by omega), nm_e (nm_r (nI_1 e) ⟨vp_in_nI (by omega) (by omega), nm_e (h2 h)⟩)⟩⟩
theorem yw_o23 {post : SY → Prop} {f h W : Nat} {b : Int32} (hf : f < 5) (hh : h + 2 < 6) (hW : W ≤ 6) (et : y_tops f = nI (h + 3)) (h1 : (W = 6 ∨ y_stack (6 * f + h) < 0 ∨ 6 ≤ y_stack (6 * f + h)) → post (y_limit, y_eventCount, nI W, y_refund, nI (f + 1), y_ended, y_answer, y_rest, y_begun, y_result, y_used, y_calls, y_version, y_kept, x_op, x_arg, y_lengths, y_now, y_copies, y_older, y_before, y_warm, y_warmCopies, y_eventCopies, y_messageCopies, y_refundCopies, y_events, y_messages, y_self, y_caller, y_amounts, y_arguments, y_given, y_left, y_at, upd (upd (upd y_tops f (nI (h + 2))) f (nI (h + 1))) f (nI h), y_stack)) (h2 : ∀ a : Nat, W < 6 → a < 6 → y_stack (6 * f + h) = nI a → post (y_limit, y_eventCount, nI (W + 1), y_refund, nI (f + 1), y_ended, y_answer, y_rest, y_begun, y_result, y_used, y_calls, y_version, y_kept, x_op, x_arg, y_lengths, y_now, y_copies, y_older, y_before, y_warm, y_warmCopies, y_eventCopies, y_messageCopies, y_refundCopies, y_events, upd (upd (upd (upd y_messages (4 * W) (nI a)) (4 * W + 1) (y_stack (6 * f + (h + 1)))) (4 * W + 2) (y_stack (6 * f + (h + 2)))) (4 * W + 3) (y_self f), y_self, y_caller, y_amounts, y_arguments, y_given, y_left, y_at, upd (upd (upd y_tops f (nI (h + 2))) f (nI (h + 1))) f (nI h), y_stack)) : wpY_other post (y_limit, y_eventCount, nI W, y_refund, nI (f + 1), y_ended, y_answer, y_rest, y_begun, y_result, y_used, y_calls, y_version, y_kept, x_op, x_arg, y_lengths, y_now, y_copies, y_older, y_before, y_warm, y_warmCopies, y_eventCopies, y_messageCopies, y_refundCopies, y_events, y_messages, y_self, y_caller, y_amounts, y_arguments, y_given, y_left, y_at, y_tops, y_stack) (nI 23) b := by
  have hi : vp_in (nI f) 5 := vp_in_nI hf (by omega)
  have ef : (nI f).toNatClampNeg = f := nI_clamp (by omega)
  unfold wpY_other
  dsimp only
  refine nm_r (e' := nI f) (nI_pred f) (br_f (by decide) (br_f (by decide) (yw_pop hf hh et (yw_pop hf (by omega) pk_us (yw_pop hf (by omega) pk_us (br_t rfl ⟨hi, ?_⟩))))))
  rw [ef]
  unfold wpY_send
  dsimp only
  refine pk_eq W 6 (fun h => h1 (Or.inl h)) (fun hn => yw_isAcc (fun a ha ea => br_f (by decide) ?_) (fun h => br_t rfl (h1 (Or.inr h))))
  have e4 : (4 : Int32) * nI W = nI (4 * W) := pk_mul 4 W
  have e41 : nI (4 * W) + 1 = nI (4 * W + 1) := nI_add _ 1
  have e42 : nI (4 * W) + 2 = nI (4 * W + 2) := nI_add _ 2
  have e43 : nI (4 * W) + 3 = nI (4 * W + 3) := nI_add _ 3
  rw [e4, e41, e42, e43, nI_clamp (by omega : 4 * W < 2 ^ 31), nI_clamp (by omega : 4 * W + 1 < 2 ^ 31), nI_clamp (by omega : 4 * W + 2 < 2 ^ 31), nI_clamp (by omega : 4 * W + 3 < 2 ^ 31), ea]
  exact ⟨vp_in_nI (by omega) (by omega), nm_e ⟨vp_in_nI (by omega) (by omega), nm_e ⟨vp_in_nI (by omega) (by omega), nm_e (nm_r (nI_1 W) ⟨vp_in_nI (by omega) (by omega), nm_e (h2 a (by omega) ha ea)⟩)⟩⟩⟩
end
theorem zl_TP {f s p L p' L' : Nat} {ln sf : Nat → Nat} {yl yp : Nat → Int32} (h : zr_TP f s p L ln sf yl yp) (hp : p' < ln s) : zr_TP f s p' L' ln sf (upd yl f (nI L')) (upd yp f (nI p')) :=
  ⟨h.1, h.2.1, h.2.2.1, pk_us, pk_us, hp⟩
section
variable {x_limit x_pending x_journal x_refund x_mails x_ring x_kept x_version x_events x_depth x_self x_left x_pc x_sp x_base x_lastStatus x_lastResult x_lastUsed x_lastCalls : Int32} {x_digest x_warm : Int64} {x_op x_arg x_length x_blockLength x_blockCost x_blockMost x_blockNeed x_blockRise x_state x_journalCell x_journalOld x_mailTo x_mailFrom x_mailAmount x_mailArg x_oldCell x_oldValue x_oldCount x_eventAccount x_eventTag x_eventValue x_frameSelf x_frameCaller x_frameAmount x_frameArg x_frameGiven x_frameLeft x_framePc x_frameSp x_frameJournal x_frameEvents x_frameRefund x_frameMails x_stack : Nat → Int32} {x_weight x_oldDigest x_frameWarm : Nat → Int64}
variable {y_limit y_eventCount y_waiting y_refund y_depth y_ended y_answer y_rest y_begun y_result y_used y_calls y_version y_kept : Int32} {y_ops y_bs y_lengths y_now y_copies y_older y_before y_warm y_warmCopies y_eventCopies y_messageCopies y_refundCopies y_events y_messages y_self y_caller y_amounts y_arguments y_given y_left y_at y_tops y_stack : Nat → Int32}
variable {N G J0 lx px s p h L f J W e r : Nat} {ln sf gv jn ml kk hh pp : Nat → Nat} {B : Nat → Int32}
/-- what is wanted of a running state at every step -/
theorem zk_un (hPG : zr_PG ln x_op x_arg x_length x_blockLength x_blockCost x_blockMost x_blockNeed x_blockRise y_lengths) (hST : zr_ST x_state x_weight y_now) (hJR : zr_JR J x_journalCell x_journalOld x_state B jn (f + 1) y_copies) (hWM : zr_WM x_warm y_warm) (hF1 : zr_F1 (f + 1) sf gv x_frameSelf y_self x_frameCaller y_caller x_frameAmount y_amounts x_frameArg y_arguments x_frameGiven y_given) (hF2 : zr_F2 (f + 1) jn ml x_frameEvents y_eventCopies x_frameMails y_messageCopies x_frameRefund y_refundCopies x_frameJournal x_frameWarm y_warmCopies) (hMO : zr_MO (f + 1) ml W) (hFB : zr_FB f ln sf gv kk hh pp x_frameLeft y_left x_framePc y_at x_frameSp) (hSS : zr_SS f hh x_stack y_tops y_stack) (hS1 : zr_S1 f h x_stack y_tops y_stack) (hTP : zr_TP f s p L ln sf y_left y_at) (hBG : zr_BG N G J0 J W L h f r kk hh gv jn) (hML : zr_ML x_mailTo x_mailFrom x_mailAmount x_mailArg y_messages) (hEV : zr_EV e x_eventAccount x_eventTag x_eventValue y_events) (hVS : zr_VS B x_ring x_kept x_oldCell x_oldValue x_oldCount x_oldDigest y_older) (hMI : zr_MI x_limit x_pending (y_lengths 6)) (hBF : zr_BF B y_before) : f < 5 ∧ s < 6 ∧ p < 24 ∧ y_self f = nI s ∧ y_at f = nI p ∧ y_left f = nI L ∧ y_tops f = nI h ∧ y_lengths s = nI (ln s) ∧ ln s ≤ 24 ∧ L ≤ 400 ∧ h ≤ 6 ∧ (y_warm (4 * s + zq_q (x_arg (24 * s + p))) = if (x_warm.toBitVec.getLsbD (4 * s + zq_q (x_arg (24 * s + p)))) = true then 1 else 0) ∧ x_op (24 * s + p) = nI (zb_o x_op (24 * s + p)) ∧ zb_o x_op (24 * s + p) < 24 ∧ p < ln s ∧ x_length s = nI (ln s) := by
  obtain ⟨t1, t2, t3, t4, t5, t6⟩ := hTP
  obtain ⟨g1, g2, g3⟩ := hPG
  obtain ⟨l1, l2, l3⟩ := g2 s t3
  obtain ⟨f1, f2, f3, _⟩ := hF1 f (by omega)
  obtain ⟨b1, b2, b3, b4, _⟩ := hBG
  have hq := zq_lt (x_arg (24 * s + p))
  obtain ⟨o1, o2⟩ := g1 (24 * s + p) (by omega)
  exact ⟨t1, t3, by omega, by rw [f3, t2], t5, t4, hS1.1, l3, l1, by omega, hS1.2.1, hWM _ (by omega), o1, o2, t6, l2⟩
theorem zk_stk (hPG : zr_PG ln x_op x_arg x_length x_blockLength x_blockCost x_blockMost x_blockNeed x_blockRise y_lengths) (hST : zr_ST x_state x_weight y_now) (hJR : zr_JR J x_journalCell x_journalOld x_state B jn (f + 1) y_copies) (hWM : zr_WM x_warm y_warm) (hF1 : zr_F1 (f + 1) sf gv x_frameSelf y_self x_frameCaller y_caller x_frameAmount y_amounts x_frameArg y_arguments x_frameGiven y_given) (hF2 : zr_F2 (f + 1) jn ml x_frameEvents y_eventCopies x_frameMails y_messageCopies x_frameRefund y_refundCopies x_frameJournal x_frameWarm y_warmCopies) (hMO : zr_MO (f + 1) ml W) (hFB : zr_FB f ln sf gv kk hh pp x_frameLeft y_left x_framePc y_at x_frameSp) (hSS : zr_SS f hh x_stack y_tops y_stack) (hS1 : zr_S1 f h x_stack y_tops y_stack) (hTP : zr_TP f s p L ln sf y_left y_at) (hBG : zr_BG N G J0 J W L h f r kk hh gv jn) (hML : zr_ML x_mailTo x_mailFrom x_mailAmount x_mailArg y_messages) (hEV : zr_EV e x_eventAccount x_eventTag x_eventValue y_events) (hVS : zr_VS B x_ring x_kept x_oldCell x_oldValue x_oldCount x_oldDigest y_older) (hMI : zr_MI x_limit x_pending (y_lengths 6)) (hBF : zr_BF B y_before) {N' h' c p' : Nat} {xs tops ys : Nat → Int32} (hN : N = N' + 1) (hS : zl_S f h' hh xs tops ys) (hc : c ≤ L) (h0 : 0 < c) (hb : h' ≤ h + c) (hp : p' < ln s) : zr_R y_result x_op x_arg ln B N' G J0 lx px s p' h' (L - c) (x_limit, x_pending, zs_H x_state 30, nI J, x_warm, nI r, nI W, x_ring, x_kept, x_version, nI e, nI (f + 1), nI s, nI lx, nI px, nI (7 * f + h'), nI (7 * f), -1, x_lastResult, x_lastUsed, x_lastCalls, x_op, x_arg, x_length, x_blockLength, x_blockCost, x_blockMost, x_blockNeed, x_blockRise, x_state, x_weight, x_journalCell, x_journalOld, x_mailTo, x_mailFrom, x_mailAmount, x_mailArg, x_oldCell, x_oldValue, x_oldCount, x_oldDigest, x_eventAccount, x_eventTag, x_eventValue, x_frameSelf, x_frameCaller, x_frameAmount, x_frameArg, x_frameGiven, x_frameLeft, x_framePc, x_frameSp, x_frameJournal, x_frameEvents, x_frameWarm, x_frameRefund, x_frameMails, xs) (x_limit, nI e, nI W, nI r, nI (f + 1), y_ended, y_answer, y_rest, x_lastCalls, y_result, y_used, y_calls, x_version, x_kept, x_op, x_arg, y_lengths, y_now, y_copies, y_older, y_before, y_warm, y_warmCopies, y_eventCopies, y_messageCopies, y_refundCopies, y_events, y_messages, y_self, y_caller, y_amounts, y_arguments, y_given, upd y_left f (nI (L - c)), upd y_at f (nI p'), tops, ys) := by
  refine zr_R_mk hPG hST hJR hWM hF1 hF2 hMO (zl_FB (k := 0) hFB) hS.1 hS.2 (zl_TP hTP hp) ?_ hML hEV hVS hMI hBF
  obtain ⟨b1, b2, b3, b4, b5, b6, b7, b8, b9⟩ := hBG
  exact ⟨by omega, by omega, by omega, b4, b5, b6, b7, b8, by omega⟩
theorem yk_A (hPG : zr_PG ln x_op x_arg x_length x_blockLength x_blockCost x_blockMost x_blockNeed x_blockRise y_lengths) (hST : zr_ST x_state x_weight y_now) (hJR : zr_JR J x_journalCell x_journalOld x_state B jn (f + 1) y_copies) (hWM : zr_WM x_warm y_warm) (hF1 : zr_F1 (f + 1) sf gv x_frameSelf y_self x_frameCaller y_caller x_frameAmount y_amounts x_frameArg y_arguments x_frameGiven y_given) (hF2 : zr_F2 (f + 1) jn ml x_frameEvents y_eventCopies x_frameMails y_messageCopies x_frameRefund y_refundCopies x_frameJournal x_frameWarm y_warmCopies) (hMO : zr_MO (f + 1) ml W) (hFB : zr_FB f ln sf gv kk hh pp x_frameLeft y_left x_framePc y_at x_frameSp) (hSS : zr_SS f hh x_stack y_tops y_stack) (hS1 : zr_S1 f h x_stack y_tops y_stack) (hTP : zr_TP f s p L ln sf y_left y_at) (hBG : zr_BG N G J0 J W L h f r kk hh gv jn) (hML : zr_ML x_mailTo x_mailFrom x_mailAmount x_mailArg y_messages) (hEV : zr_EV e x_eventAccount x_eventTag x_eventValue y_events) (hVS : zr_VS B x_ring x_kept x_oldCell x_oldValue x_oldCount x_oldDigest y_older) (hMI : zr_MI x_limit x_pending (y_lengths 6)) (hBF : zr_BF B y_before) {post : SY → Prop} {o : Nat} (eo : zb_o x_op (24 * s + p) = o) (n16 : o ≠ 16) (n17 : o ≠ 17) (n19 : o ≠ 19) (n20 : o ≠ 20) (hnx : p + 1 < ln s) (htk : zc_tk o ≤ h) (had : h - zc_tk o + zc_ad o ≤ 6) (hc : zc_cst o + zc_cc o (x_warm.toBitVec.getLsbD (4 * s + zq_q (x_arg (24 * s + p)))) ≤ L) (hp : wY_step_242 post (nI f) (nI (24 * s + p)) (nI o) (nI (4 * s + zq_q (x_arg (24 * s + p)))) (nI (p + 1)) 0 x_limit (nI e) (nI W) (nI r) (nI (f + 1)) y_ended y_answer y_rest x_lastCalls y_result y_used y_calls x_version x_kept x_op x_arg y_lengths y_now y_copies y_older y_before y_warm y_warmCopies y_eventCopies y_messageCopies y_refundCopies y_events y_messages y_self y_caller y_amounts y_arguments y_given (upd y_left f (nI (L - (zc_cst o + zc_cc o (x_warm.toBitVec.getLsbD (4 * s + zq_q (x_arg (24 * s + p)))))))) y_at y_tops y_stack) : wpY_step post (x_limit, nI e, nI W, nI r, nI (f + 1), y_ended, y_answer, y_rest, x_lastCalls, y_result, y_used, y_calls, x_version, x_kept, x_op, x_arg, y_lengths, y_now, y_copies, y_older, y_before, y_warm, y_warmCopies, y_eventCopies, y_messageCopies, y_refundCopies, y_events, y_messages, y_self, y_caller, y_amounts, y_arguments, y_given, y_left, y_at, y_tops, y_stack) := by
  obtain ⟨hf, hs, hp24, es, ep, el, et, hln, hln24, hL, hh6, hw, eop, ho, _⟩ := zk_un hPG hST hJR hWM hF1 hF2 hMO hFB hSS hS1 hTP hBG hML hEV hVS hMI hBF
  rw [eo] at eop ho
  refine yw_step0 hf hs hp24 es ep el et eop ho hL hh6 hw (fun z => absurd hc (by omega)) (fun _ z => absurd ⟨htk, had⟩ z) (fun _ _ _ => ?_)
  refine yw_s127 hf hs ho (by omega) es ep et hh6 (fun z => absurd z n17) hln hln24 n19 n20 (fun j hj e => ?_) (fun z => ?_)
  · have e2 : zy_nx o p (x_arg (24 * s + p)) (y_stack (6 * f + (h - 1))) = nI (p + 1) := by unfold zy_nx; rw [if_neg n16, if_neg n17]
    rw [e2] at e
    have := (nI_eq (by omega) (by omega)).mp e
    subst this
    exact hp
  · exfalso
    refine z ⟨p + 1, hnx, ?_⟩
    unfold zy_nx; rw [if_neg n16, if_neg n17]
theorem lk_0 (hPG : zr_PG ln x_op x_arg x_length x_blockLength x_blockCost x_blockMost x_blockNeed x_blockRise y_lengths) (hST : zr_ST x_state x_weight y_now) (hJR : zr_JR J x_journalCell x_journalOld x_state B jn (f + 1) y_copies) (hWM : zr_WM x_warm y_warm) (hF1 : zr_F1 (f + 1) sf gv x_frameSelf y_self x_frameCaller y_caller x_frameAmount y_amounts x_frameArg y_arguments x_frameGiven y_given) (hF2 : zr_F2 (f + 1) jn ml x_frameEvents y_eventCopies x_frameMails y_messageCopies x_frameRefund y_refundCopies x_frameJournal x_frameWarm y_warmCopies) (hMO : zr_MO (f + 1) ml W) (hFB : zr_FB f ln sf gv kk hh pp x_frameLeft y_left x_framePc y_at x_frameSp) (hSS : zr_SS f hh x_stack y_tops y_stack) (hS1 : zr_S1 f h x_stack y_tops y_stack) (hTP : zr_TP f s p L ln sf y_left y_at) (hBG : zr_BG N G J0 J W L h f r kk hh gv jn) (hML : zr_ML x_mailTo x_mailFrom x_mailAmount x_mailArg y_messages) (hEV : zr_EV e x_eventAccount x_eventTag x_eventValue y_events) (hVS : zr_VS B x_ring x_kept x_oldCell x_oldValue x_oldCount x_oldDigest y_older) (hMI : zr_MI x_limit x_pending (y_lengths 6)) (hBF : zr_BF B y_before) {N' : Nat} (hN : N = N' + 1) (eo : zb_o x_op (24 * s + p) = 0) (hnx : p + 1 < ln s) (htk : zc_tk 0 ≤ h) (had : h - zc_tk 0 + zc_ad 0 ≤ 6) (hc : zc_cst 0 + zc_cc 0 (x_warm.toBitVec.getLsbD (4 * s + zq_q (x_arg (24 * s + p)))) ≤ L) (hcx : zc_cc 0 (x_warm.toBitVec.getLsbD (4 * s + zq_q (x_arg (24 * s + p)))) ≤ lx) (hlx : 0 = 22 → lx = L - 1) : ∃ (u' : SX) (v' : SY), zr_R y_result x_op x_arg ln B N' G J0 (lx - zc_cc 0 (x_warm.toBitVec.getLsbD (4 * s + zq_q (x_arg (24 * s + p))))) px s (p + 1) (h - zc_tk 0 + zc_ad 0) (L - (zc_cst 0 + zc_cc 0 (x_warm.toBitVec.getLsbD (4 * s + zq_q (x_arg (24 * s + p)))))) u' v' ∧ (∀ post : SX → Prop, post u' → wpX_plain post (x_limit, x_pending, zs_H x_state 30, nI J, x_warm, nI r, nI W, x_ring, x_kept, x_version, nI e, nI (f + 1), nI s, nI lx, nI px, nI (7 * f + h), nI (7 * f), -1, x_lastResult, x_lastUsed, x_lastCalls, x_op, x_arg, x_length, x_blockLength, x_blockCost, x_blockMost, x_blockNeed, x_blockRise, x_state, x_weight, x_journalCell, x_journalOld, x_mailTo, x_mailFrom, x_mailAmount, x_mailArg, x_oldCell, x_oldValue, x_oldCount, x_oldDigest, x_eventAccount, x_eventTag, x_eventValue, x_frameSelf, x_frameCaller, x_frameAmount, x_frameArg, x_frameGiven, x_frameLeft, x_framePc, x_frameSp, x_frameJournal, x_frameEvents, x_frameWarm, x_frameRefund, x_frameMails, x_stack) (nI 0) (x_arg (24 * s + p))) ∧ (∀ post : SY → Prop, post v' → wpY_step post (x_limit, nI e, nI W, nI r, nI (f + 1), y_ended, y_answer, y_rest, x_lastCalls, y_result, y_used, y_calls, x_version, x_kept, x_op, x_arg, y_lengths, y_now, y_copies, y_older, y_before, y_warm, y_warmCopies, y_eventCopies, y_messageCopies, y_refundCopies, y_events, y_messages, y_self, y_caller, y_amounts, y_arguments, y_given, y_left, y_at, y_tops, y_stack)) := by
  have YA : ∀ post : SY → Prop, wY_step_242 post (nI f) (nI (24 * s + p)) (nI 0) (nI (4 * s + zq_q (x_arg (24 * s + p)))) (nI (p + 1)) 0 x_limit (nI e) (nI W) (nI r) (nI (f + 1)) y_ended y_answer y_rest x_lastCalls y_result y_used y_calls x_version x_kept x_op x_arg y_lengths y_now y_copies y_older y_before y_warm y_warmCopies y_eventCopies y_messageCopies y_refundCopies y_events y_messages y_self y_caller y_amounts y_arguments y_given (upd y_left f (nI (L - (zc_cst 0 + zc_cc 0 (x_warm.toBitVec.getLsbD (4 * s + zq_q (x_arg (24 * s + p)))))))) y_at y_tops y_stack → wpY_step post (x_limit, nI e, nI W, nI r, nI (f + 1), y_ended, y_answer, y_rest, x_lastCalls, y_result, y_used, y_calls, x_version, x_kept, x_op, x_arg, y_lengths, y_now, y_copies, y_older, y_before, y_warm, y_warmCopies, y_eventCopies, y_messageCopies, y_refundCopies, y_events, y_messages, y_self, y_caller, y_amounts, y_arguments, y_given, y_left, y_at, y_tops, y_stack) := fun post hp => yk_A hPG hST hJR hWM hF1 hF2 hMO hFB hSS hS1 hTP hBG hML hEV hVS hMI hBF eo (by decide) (by decide) (by decide) (by decide) hnx htk had hc hp
  obtain ⟨hf, hs, hp24, es, ep, el, et, hln, hln24, hL, hh6, hw, eop, ho, hpl, _⟩ := zk_un hPG hST hJR hWM hF1 hF2 hMO hFB hSS hS1 hTP hBG hML hEV hVS hMI hBF
  have hA : 24 * s + p < 168 := by omega
  have hq4 := zq_lt (x_arg (24 * s + p))
  have eh : h - zc_tk 0 + zc_ad 0 = h + 1 := rfl
  rw [eh] at had ⊢
  have ec : zc_cst 0 + zc_cc 0 (x_warm.toBitVec.getLsbD (4 * s + zq_q (x_arg (24 * s + p)))) = 1 := rfl
  have ex : lx - zc_cc 0 (x_warm.toBitVec.getLsbD (4 * s + zq_q (x_arg (24 * s + p)))) = lx := rfl
  rw [ec] at hc ⊢
  rw [ex]
  refine ⟨(x_limit, x_pending, zs_H x_state 30, nI J, x_warm, nI r, nI W, x_ring, x_kept, x_version, nI e, nI (f + 1), nI s, nI lx, nI px, nI (7 * f + (h + 1)), nI (7 * f), -1, x_lastResult, x_lastUsed, x_lastCalls, x_op, x_arg, x_length, x_blockLength, x_blockCost, x_blockMost, x_blockNeed, x_blockRise, x_state, x_weight, x_journalCell, x_journalOld, x_mailTo, x_mailFrom, x_mailAmount, x_mailArg, x_oldCell, x_oldValue, x_oldCount, x_oldDigest, x_eventAccount, x_eventTag, x_eventValue, x_frameSelf, x_frameCaller, x_frameAmount, x_frameArg, x_frameGiven, x_frameLeft, x_framePc, x_frameSp, x_frameJournal, x_frameEvents, x_frameWarm, x_frameRefund, x_frameMails, upd x_stack (7 * f + h) (x_arg (24 * s + p))), (x_limit, nI e, nI W, nI r, nI (f + 1), y_ended, y_answer, y_rest, x_lastCalls, y_result, y_used, y_calls, x_version, x_kept, x_op, x_arg, y_lengths, y_now, y_copies, y_older, y_before, y_warm, y_warmCopies, y_eventCopies, y_messageCopies, y_refundCopies, y_events, y_messages, y_self, y_caller, y_amounts, y_arguments, y_given, upd y_left f (nI (L - 1)), upd y_at f (nI (p + 1)), upd y_tops f (nI (h + 1)), upd y_stack (6 * f + h) (x_arg (24 * s + p))), zk_stk hPG hST hJR hWM hF1 hF2 hMO hFB hSS hS1 hTP hBG hML hEV hVS hMI hBF hN (zl_push ⟨hSS, hS1⟩ (by omega)) hc (by omega) (by omega) hnx, fun post hp => ?_, fun post hp => ?_⟩
  · exact xw_p0 hf (by omega) hp
  · exact YA post (yw_242s hf hA (by omega) (yw_m0 (s := s) hf (by omega) et hp))
theorem lk_1 (hPG : zr_PG ln x_op x_arg x_length x_blockLength x_blockCost x_blockMost x_blockNeed x_blockRise y_lengths) (hST : zr_ST x_state x_weight y_now) (hJR : zr_JR J x_journalCell x_journalOld x_state B jn (f + 1) y_copies) (hWM : zr_WM x_warm y_warm) (hF1 : zr_F1 (f + 1) sf gv x_frameSelf y_self x_frameCaller y_caller x_frameAmount y_amounts x_frameArg y_arguments x_frameGiven y_given) (hF2 : zr_F2 (f + 1) jn ml x_frameEvents y_eventCopies x_frameMails y_messageCopies x_frameRefund y_refundCopies x_frameJournal x_frameWarm y_warmCopies) (hMO : zr_MO (f + 1) ml W) (hFB : zr_FB f ln sf gv kk hh pp x_frameLeft y_left x_framePc y_at x_frameSp) (hSS : zr_SS f hh x_stack y_tops y_stack) (hS1 : zr_S1 f h x_stack y_tops y_stack) (hTP : zr_TP f s p L ln sf y_left y_at) (hBG : zr_BG N G J0 J W L h f r kk hh gv jn) (hML : zr_ML x_mailTo x_mailFrom x_mailAmount x_mailArg y_messages) (hEV : zr_EV e x_eventAccount x_eventTag x_eventValue y_events) (hVS : zr_VS B x_ring x_kept x_oldCell x_oldValue x_oldCount x_oldDigest y_older) (hMI : zr_MI x_limit x_pending (y_lengths 6)) (hBF : zr_BF B y_before) {N' : Nat} (hN : N = N' + 1) (eo : zb_o x_op (24 * s + p) = 1) (hnx : p + 1 < ln s) (htk : zc_tk 1 ≤ h) (had : h - zc_tk 1 + zc_ad 1 ≤ 6) (hc : zc_cst 1 + zc_cc 1 (x_warm.toBitVec.getLsbD (4 * s + zq_q (x_arg (24 * s + p)))) ≤ L) (hcx : zc_cc 1 (x_warm.toBitVec.getLsbD (4 * s + zq_q (x_arg (24 * s + p)))) ≤ lx) (hlx : 1 = 22 → lx = L - 1) : ∃ (u' : SX) (v' : SY), zr_R y_result x_op x_arg ln B N' G J0 (lx - zc_cc 1 (x_warm.toBitVec.getLsbD (4 * s + zq_q (x_arg (24 * s + p))))) px s (p + 1) (h - zc_tk 1 + zc_ad 1) (L - (zc_cst 1 + zc_cc 1 (x_warm.toBitVec.getLsbD (4 * s + zq_q (x_arg (24 * s + p)))))) u' v' ∧ (∀ post : SX → Prop, post u' → wpX_plain post (x_limit, x_pending, zs_H x_state 30, nI J, x_warm, nI r, nI W, x_ring, x_kept, x_version, nI e, nI (f + 1), nI s, nI lx, nI px, nI (7 * f + h), nI (7 * f), -1, x_lastResult, x_lastUsed, x_lastCalls, x_op, x_arg, x_length, x_blockLength, x_blockCost, x_blockMost, x_blockNeed, x_blockRise, x_state, x_weight, x_journalCell, x_journalOld, x_mailTo, x_mailFrom, x_mailAmount, x_mailArg, x_oldCell, x_oldValue, x_oldCount, x_oldDigest, x_eventAccount, x_eventTag, x_eventValue, x_frameSelf, x_frameCaller, x_frameAmount, x_frameArg, x_frameGiven, x_frameLeft, x_framePc, x_frameSp, x_frameJournal, x_frameEvents, x_frameWarm, x_frameRefund, x_frameMails, x_stack) (nI 1) (x_arg (24 * s + p))) ∧ (∀ post : SY → Prop, post v' → wpY_step post (x_limit, nI e, nI W, nI r, nI (f + 1), y_ended, y_answer, y_rest, x_lastCalls, y_result, y_used, y_calls, x_version, x_kept, x_op, x_arg, y_lengths, y_now, y_copies, y_older, y_before, y_warm, y_warmCopies, y_eventCopies, y_messageCopies, y_refundCopies, y_events, y_messages, y_self, y_caller, y_amounts, y_arguments, y_given, y_left, y_at, y_tops, y_stack)) := by
  have YA : ∀ post : SY → Prop, wY_step_242 post (nI f) (nI (24 * s + p)) (nI 1) (nI (4 * s + zq_q (x_arg (24 * s + p)))) (nI (p + 1)) 0 x_limit (nI e) (nI W) (nI r) (nI (f + 1)) y_ended y_answer y_rest x_lastCalls y_result y_used y_calls x_version x_kept x_op x_arg y_lengths y_now y_copies y_older y_before y_warm y_warmCopies y_eventCopies y_messageCopies y_refundCopies y_events y_messages y_self y_caller y_amounts y_arguments y_given (upd y_left f (nI (L - (zc_cst 1 + zc_cc 1 (x_warm.toBitVec.getLsbD (4 * s + zq_q (x_arg (24 * s + p)))))))) y_at y_tops y_stack → wpY_step post (x_limit, nI e, nI W, nI r, nI (f + 1), y_ended, y_answer, y_rest, x_lastCalls, y_result, y_used, y_calls, x_version, x_kept, x_op, x_arg, y_lengths, y_now, y_copies, y_older, y_before, y_warm, y_warmCopies, y_eventCopies, y_messageCopies, y_refundCopies, y_events, y_messages, y_self, y_caller, y_amounts, y_arguments, y_given, y_left, y_at, y_tops, y_stack) := fun post hp => yk_A hPG hST hJR hWM hF1 hF2 hMO hFB hSS hS1 hTP hBG hML hEV hVS hMI hBF eo (by decide) (by decide) (by decide) (by decide) hnx htk had hc hp
  obtain ⟨hf, hs, hp24, es, ep, el, et, hln, hln24, hL, hh6, hw, eop, ho, hpl, _⟩ := zk_un hPG hST hJR hWM hF1 hF2 hMO hFB hSS hS1 hTP hBG hML hEV hVS hMI hBF
  have hA : 24 * s + p < 168 := by omega
  have hq4 := zq_lt (x_arg (24 * s + p))
  have eh : h - zc_tk 1 + zc_ad 1 = h + 1 := rfl
  rw [eh] at had ⊢
  have ec : zc_cst 1 + zc_cc 1 (x_warm.toBitVec.getLsbD (4 * s + zq_q (x_arg (24 * s + p)))) = 1 := rfl
  have ex : lx - zc_cc 1 (x_warm.toBitVec.getLsbD (4 * s + zq_q (x_arg (24 * s + p)))) = lx := rfl
  rw [ec] at hc ⊢
  rw [ex]
  refine ⟨(x_limit, x_pending, zs_H x_state 30, nI J, x_warm, nI r, nI W, x_ring, x_kept, x_version, nI e, nI (f + 1), nI s, nI lx, nI px, nI (7 * f + (h + 1)), nI (7 * f), -1, x_lastResult, x_lastUsed, x_lastCalls, x_op, x_arg, x_length, x_blockLength, x_blockCost, x_blockMost, x_blockNeed, x_blockRise, x_state, x_weight, x_journalCell, x_journalOld, x_mailTo, x_mailFrom, x_mailAmount, x_mailArg, x_oldCell, x_oldValue, x_oldCount, x_oldDigest, x_eventAccount, x_eventTag, x_eventValue, x_frameSelf, x_frameCaller, x_frameAmount, x_frameArg, x_frameGiven, x_frameLeft, x_framePc, x_frameSp, x_frameJournal, x_frameEvents, x_frameWarm, x_frameRefund, x_frameMails, upd x_stack (7 * f + h) (x_frameArg f)), (x_limit, nI e, nI W, nI r, nI (f + 1), y_ended, y_answer, y_rest, x_lastCalls, y_result, y_used, y_calls, x_version, x_kept, x_op, x_arg, y_lengths, y_now, y_copies, y_older, y_before, y_warm, y_warmCopies, y_eventCopies, y_messageCopies, y_refundCopies, y_events, y_messages, y_self, y_caller, y_amounts, y_arguments, y_given, upd y_left f (nI (L - 1)), upd y_at f (nI (p + 1)), upd y_tops f (nI (h + 1)), upd y_stack (6 * f + h) (x_frameArg f)), zk_stk hPG hST hJR hWM hF1 hF2 hMO hFB hSS hS1 hTP hBG hML hEV hVS hMI hBF hN (zl_push ⟨hSS, hS1⟩ (by omega)) hc (by omega) (by omega) hnx, fun post hp => ?_, fun post hp => ?_⟩
  · exact xw_p1 hf (by omega) hp
  · rw [(hF1 f (by omega)).2.2.2.2.2.1] at hp
    exact YA post (yw_242s hf hA (by omega) (yw_m1 (s := s) hf (by omega) et hp))
theorem lk_2 (hPG : zr_PG ln x_op x_arg x_length x_blockLength x_blockCost x_blockMost x_blockNeed x_blockRise y_lengths) (hST : zr_ST x_state x_weight y_now) (hJR : zr_JR J x_journalCell x_journalOld x_state B jn (f + 1) y_copies) (hWM : zr_WM x_warm y_warm) (hF1 : zr_F1 (f + 1) sf gv x_frameSelf y_self x_frameCaller y_caller x_frameAmount y_amounts x_frameArg y_arguments x_frameGiven y_given) (hF2 : zr_F2 (f + 1) jn ml x_frameEvents y_eventCopies x_frameMails y_messageCopies x_frameRefund y_refundCopies x_frameJournal x_frameWarm y_warmCopies) (hMO : zr_MO (f + 1) ml W) (hFB : zr_FB f ln sf gv kk hh pp x_frameLeft y_left x_framePc y_at x_frameSp) (hSS : zr_SS f hh x_stack y_tops y_stack) (hS1 : zr_S1 f h x_stack y_tops y_stack) (hTP : zr_TP f s p L ln sf y_left y_at) (hBG : zr_BG N G J0 J W L h f r kk hh gv jn) (hML : zr_ML x_mailTo x_mailFrom x_mailAmount x_mailArg y_messages) (hEV : zr_EV e x_eventAccount x_eventTag x_eventValue y_events) (hVS : zr_VS B x_ring x_kept x_oldCell x_oldValue x_oldCount x_oldDigest y_older) (hMI : zr_MI x_limit x_pending (y_lengths 6)) (hBF : zr_BF B y_before) {N' : Nat} (hN : N = N' + 1) (eo : zb_o x_op (24 * s + p) = 2) (hnx : p + 1 < ln s) (htk : zc_tk 2 ≤ h) (had : h - zc_tk 2 + zc_ad 2 ≤ 6) (hc : zc_cst 2 + zc_cc 2 (x_warm.toBitVec.getLsbD (4 * s + zq_q (x_arg (24 * s + p)))) ≤ L) (hcx : zc_cc 2 (x_warm.toBitVec.getLsbD (4 * s + zq_q (x_arg (24 * s + p)))) ≤ lx) (hlx : 2 = 22 → lx = L - 1) : ∃ (u' : SX) (v' : SY), zr_R y_result x_op x_arg ln B N' G J0 (lx - zc_cc 2 (x_warm.toBitVec.getLsbD (4 * s + zq_q (x_arg (24 * s + p))))) px s (p + 1) (h - zc_tk 2 + zc_ad 2) (L - (zc_cst 2 + zc_cc 2 (x_warm.toBitVec.getLsbD (4 * s + zq_q (x_arg (24 * s + p)))))) u' v' ∧ (∀ post : SX → Prop, post u' → wpX_plain post (x_limit, x_pending, zs_H x_state 30, nI J, x_warm, nI r, nI W, x_ring, x_kept, x_version, nI e, nI (f + 1), nI s, nI lx, nI px, nI (7 * f + h), nI (7 * f), -1, x_lastResult, x_lastUsed, x_lastCalls, x_op, x_arg, x_length, x_blockLength, x_blockCost, x_blockMost, x_blockNeed, x_blockRise, x_state, x_weight, x_journalCell, x_journalOld, x_mailTo, x_mailFrom, x_mailAmount, x_mailArg, x_oldCell, x_oldValue, x_oldCount, x_oldDigest, x_eventAccount, x_eventTag, x_eventValue, x_frameSelf, x_frameCaller, x_frameAmount, x_frameArg, x_frameGiven, x_frameLeft, x_framePc, x_frameSp, x_frameJournal, x_frameEvents, x_frameWarm, x_frameRefund, x_frameMails, x_stack) (nI 2) (x_arg (24 * s + p))) ∧ (∀ post : SY → Prop, post v' → wpY_step post (x_limit, nI e, nI W, nI r, nI (f + 1), y_ended, y_answer, y_rest, x_lastCalls, y_result, y_used, y_calls, x_version, x_kept, x_op, x_arg, y_lengths, y_now, y_copies, y_older, y_before, y_warm, y_warmCopies, y_eventCopies, y_messageCopies, y_refundCopies, y_events, y_messages, y_self, y_caller, y_amounts, y_arguments, y_given, y_left, y_at, y_tops, y_stack)) := by
  have YA : ∀ post : SY → Prop, wY_step_242 post (nI f) (nI (24 * s + p)) (nI 2) (nI (4 * s + zq_q (x_arg (24 * s + p)))) (nI (p + 1)) 0 x_limit (nI e) (nI W) (nI r) (nI (f + 1)) y_ended y_answer y_rest x_lastCalls y_result y_used y_calls x_version x_kept x_op x_arg y_lengths y_now y_copies y_older y_before y_warm y_warmCopies y_eventCopies y_messageCopies y_refundCopies y_events y_messages y_self y_caller y_amounts y_arguments y_given (upd y_left f (nI (L - (zc_cst 2 + zc_cc 2 (x_warm.toBitVec.getLsbD (4 * s + zq_q (x_arg (24 * s + p)))))))) y_at y_tops y_stack → wpY_step post (x_limit, nI e, nI W, nI r, nI (f + 1), y_ended, y_answer, y_rest, x_lastCalls, y_result, y_used, y_calls, x_version, x_kept, x_op, x_arg, y_lengths, y_now, y_copies, y_older, y_before, y_warm, y_warmCopies, y_eventCopies, y_messageCopies, y_refundCopies, y_events, y_messages, y_self, y_caller, y_amounts, y_arguments, y_given, y_left, y_at, y_tops, y_stack) := fun post hp => yk_A hPG hST hJR hWM hF1 hF2 hMO hFB hSS hS1 hTP hBG hML hEV hVS hMI hBF eo (by decide) (by decide) (by decide) (by decide) hnx htk had hc hp
  obtain ⟨hf, hs, hp24, es, ep, el, et, hln, hln24, hL, hh6, hw, eop, ho, hpl, _⟩ := zk_un hPG hST hJR hWM hF1 hF2 hMO hFB hSS hS1 hTP hBG hML hEV hVS hMI hBF
  have hA : 24 * s + p < 168 := by omega
  have hq4 := zq_lt (x_arg (24 * s + p))
  have eh : h - zc_tk 2 + zc_ad 2 = h + 1 := rfl
  rw [eh] at had ⊢
  have ec : zc_cst 2 + zc_cc 2 (x_warm.toBitVec.getLsbD (4 * s + zq_q (x_arg (24 * s + p)))) = 1 := rfl
  have ex : lx - zc_cc 2 (x_warm.toBitVec.getLsbD (4 * s + zq_q (x_arg (24 * s + p)))) = lx := rfl
  rw [ec] at hc ⊢
  rw [ex]
  refine ⟨(x_limit, x_pending, zs_H x_state 30, nI J, x_warm, nI r, nI W, x_ring, x_kept, x_version, nI e, nI (f + 1), nI s, nI lx, nI px, nI (7 * f + (h + 1)), nI (7 * f), -1, x_lastResult, x_lastUsed, x_lastCalls, x_op, x_arg, x_length, x_blockLength, x_blockCost, x_blockMost, x_blockNeed, x_blockRise, x_state, x_weight, x_journalCell, x_journalOld, x_mailTo, x_mailFrom, x_mailAmount, x_mailArg, x_oldCell, x_oldValue, x_oldCount, x_oldDigest, x_eventAccount, x_eventTag, x_eventValue, x_frameSelf, x_frameCaller, x_frameAmount, x_frameArg, x_frameGiven, x_frameLeft, x_framePc, x_frameSp, x_frameJournal, x_frameEvents, x_frameWarm, x_frameRefund, x_frameMails, upd x_stack (7 * f + h) (x_frameCaller f)), (x_limit, nI e, nI W, nI r, nI (f + 1), y_ended, y_answer, y_rest, x_lastCalls, y_result, y_used, y_calls, x_version, x_kept, x_op, x_arg, y_lengths, y_now, y_copies, y_older, y_before, y_warm, y_warmCopies, y_eventCopies, y_messageCopies, y_refundCopies, y_events, y_messages, y_self, y_caller, y_amounts, y_arguments, y_given, upd y_left f (nI (L - 1)), upd y_at f (nI (p + 1)), upd y_tops f (nI (h + 1)), upd y_stack (6 * f + h) (x_frameCaller f)), zk_stk hPG hST hJR hWM hF1 hF2 hMO hFB hSS hS1 hTP hBG hML hEV hVS hMI hBF hN (zl_push ⟨hSS, hS1⟩ (by omega)) hc (by omega) (by omega) hnx, fun post hp => ?_, fun post hp => ?_⟩
  · exact xw_p2 hf (by omega) hp
  · rw [(hF1 f (by omega)).2.2.2.1] at hp
    exact YA post (yw_242s hf hA (by omega) (yw_m2 (s := s) hf (by omega) et hp))
theorem lk_3 (hPG : zr_PG ln x_op x_arg x_length x_blockLength x_blockCost x_blockMost x_blockNeed x_blockRise y_lengths) (hST : zr_ST x_state x_weight y_now) (hJR : zr_JR J x_journalCell x_journalOld x_state B jn (f + 1) y_copies) (hWM : zr_WM x_warm y_warm) (hF1 : zr_F1 (f + 1) sf gv x_frameSelf y_self x_frameCaller y_caller x_frameAmount y_amounts x_frameArg y_arguments x_frameGiven y_given) (hF2 : zr_F2 (f + 1) jn ml x_frameEvents y_eventCopies x_frameMails y_messageCopies x_frameRefund y_refundCopies x_frameJournal x_frameWarm y_warmCopies) (hMO : zr_MO (f + 1) ml W) (hFB : zr_FB f ln sf gv kk hh pp x_frameLeft y_left x_framePc y_at x_frameSp) (hSS : zr_SS f hh x_stack y_tops y_stack) (hS1 : zr_S1 f h x_stack y_tops y_stack) (hTP : zr_TP f s p L ln sf y_left y_at) (hBG : zr_BG N G J0 J W L h f r kk hh gv jn) (hML : zr_ML x_mailTo x_mailFrom x_mailAmount x_mailArg y_messages) (hEV : zr_EV e x_eventAccount x_eventTag x_eventValue y_events) (hVS : zr_VS B x_ring x_kept x_oldCell x_oldValue x_oldCount x_oldDigest y_older) (hMI : zr_MI x_limit x_pending (y_lengths 6)) (hBF : zr_BF B y_before) {N' : Nat} (hN : N = N' + 1) (eo : zb_o x_op (24 * s + p) = 3) (hnx : p + 1 < ln s) (htk : zc_tk 3 ≤ h) (had : h - zc_tk 3 + zc_ad 3 ≤ 6) (hc : zc_cst 3 + zc_cc 3 (x_warm.toBitVec.getLsbD (4 * s + zq_q (x_arg (24 * s + p)))) ≤ L) (hcx : zc_cc 3 (x_warm.toBitVec.getLsbD (4 * s + zq_q (x_arg (24 * s + p)))) ≤ lx) (hlx : 3 = 22 → lx = L - 1) : ∃ (u' : SX) (v' : SY), zr_R y_result x_op x_arg ln B N' G J0 (lx - zc_cc 3 (x_warm.toBitVec.getLsbD (4 * s + zq_q (x_arg (24 * s + p))))) px s (p + 1) (h - zc_tk 3 + zc_ad 3) (L - (zc_cst 3 + zc_cc 3 (x_warm.toBitVec.getLsbD (4 * s + zq_q (x_arg (24 * s + p)))))) u' v' ∧ (∀ post : SX → Prop, post u' → wpX_plain post (x_limit, x_pending, zs_H x_state 30, nI J, x_warm, nI r, nI W, x_ring, x_kept, x_version, nI e, nI (f + 1), nI s, nI lx, nI px, nI (7 * f + h), nI (7 * f), -1, x_lastResult, x_lastUsed, x_lastCalls, x_op, x_arg, x_length, x_blockLength, x_blockCost, x_blockMost, x_blockNeed, x_blockRise, x_state, x_weight, x_journalCell, x_journalOld, x_mailTo, x_mailFrom, x_mailAmount, x_mailArg, x_oldCell, x_oldValue, x_oldCount, x_oldDigest, x_eventAccount, x_eventTag, x_eventValue, x_frameSelf, x_frameCaller, x_frameAmount, x_frameArg, x_frameGiven, x_frameLeft, x_framePc, x_frameSp, x_frameJournal, x_frameEvents, x_frameWarm, x_frameRefund, x_frameMails, x_stack) (nI 3) (x_arg (24 * s + p))) ∧ (∀ post : SY → Prop, post v' → wpY_step post (x_limit, nI e, nI W, nI r, nI (f + 1), y_ended, y_answer, y_rest, x_lastCalls, y_result, y_used, y_calls, x_version, x_kept, x_op, x_arg, y_lengths, y_now, y_copies, y_older, y_before, y_warm, y_warmCopies, y_eventCopies, y_messageCopies, y_refundCopies, y_events, y_messages, y_self, y_caller, y_amounts, y_arguments, y_given, y_left, y_at, y_tops, y_stack)) := by
  have YA : ∀ post : SY → Prop, wY_step_242 post (nI f) (nI (24 * s + p)) (nI 3) (nI (4 * s + zq_q (x_arg (24 * s + p)))) (nI (p + 1)) 0 x_limit (nI e) (nI W) (nI r) (nI (f + 1)) y_ended y_answer y_rest x_lastCalls y_result y_used y_calls x_version x_kept x_op x_arg y_lengths y_now y_copies y_older y_before y_warm y_warmCopies y_eventCopies y_messageCopies y_refundCopies y_events y_messages y_self y_caller y_amounts y_arguments y_given (upd y_left f (nI (L - (zc_cst 3 + zc_cc 3 (x_warm.toBitVec.getLsbD (4 * s + zq_q (x_arg (24 * s + p)))))))) y_at y_tops y_stack → wpY_step post (x_limit, nI e, nI W, nI r, nI (f + 1), y_ended, y_answer, y_rest, x_lastCalls, y_result, y_used, y_calls, x_version, x_kept, x_op, x_arg, y_lengths, y_now, y_copies, y_older, y_before, y_warm, y_warmCopies, y_eventCopies, y_messageCopies, y_refundCopies, y_events, y_messages, y_self, y_caller, y_amounts, y_arguments, y_given, y_left, y_at, y_tops, y_stack) := fun post hp => yk_A hPG hST hJR hWM hF1 hF2 hMO hFB hSS hS1 hTP hBG hML hEV hVS hMI hBF eo (by decide) (by decide) (by decide) (by decide) hnx htk had hc hp
  obtain ⟨hf, hs, hp24, es, ep, el, et, hln, hln24, hL, hh6, hw, eop, ho, hpl, _⟩ := zk_un hPG hST hJR hWM hF1 hF2 hMO hFB hSS hS1 hTP hBG hML hEV hVS hMI hBF
  have hA : 24 * s + p < 168 := by omega
  have hq4 := zq_lt (x_arg (24 * s + p))
  have eh : h - zc_tk 3 + zc_ad 3 = h + 1 := rfl
  rw [eh] at had ⊢
  have ec : zc_cst 3 + zc_cc 3 (x_warm.toBitVec.getLsbD (4 * s + zq_q (x_arg (24 * s + p)))) = 1 := rfl
  have ex : lx - zc_cc 3 (x_warm.toBitVec.getLsbD (4 * s + zq_q (x_arg (24 * s + p)))) = lx := rfl
  rw [ec] at hc ⊢
  rw [ex]
  refine ⟨(x_limit, x_pending, zs_H x_state 30, nI J, x_warm, nI r, nI W, x_ring, x_kept, x_version, nI e, nI (f + 1), nI s, nI lx, nI px, nI (7 * f + (h + 1)), nI (7 * f), -1, x_lastResult, x_lastUsed, x_lastCalls, x_op, x_arg, x_length, x_blockLength, x_blockCost, x_blockMost, x_blockNeed, x_blockRise, x_state, x_weight, x_journalCell, x_journalOld, x_mailTo, x_mailFrom, x_mailAmount, x_mailArg, x_oldCell, x_oldValue, x_oldCount, x_oldDigest, x_eventAccount, x_eventTag, x_eventValue, x_frameSelf, x_frameCaller, x_frameAmount, x_frameArg, x_frameGiven, x_frameLeft, x_framePc, x_frameSp, x_frameJournal, x_frameEvents, x_frameWarm, x_frameRefund, x_frameMails, upd x_stack (7 * f + h) (nI s)), (x_limit, nI e, nI W, nI r, nI (f + 1), y_ended, y_answer, y_rest, x_lastCalls, y_result, y_used, y_calls, x_version, x_kept, x_op, x_arg, y_lengths, y_now, y_copies, y_older, y_before, y_warm, y_warmCopies, y_eventCopies, y_messageCopies, y_refundCopies, y_events, y_messages, y_self, y_caller, y_amounts, y_arguments, y_given, upd y_left f (nI (L - 1)), upd y_at f (nI (p + 1)), upd y_tops f (nI (h + 1)), upd y_stack (6 * f + h) (nI s)), zk_stk hPG hST hJR hWM hF1 hF2 hMO hFB hSS hS1 hTP hBG hML hEV hVS hMI hBF hN (zl_push ⟨hSS, hS1⟩ (by omega)) hc (by omega) (by omega) hnx, fun post hp => ?_, fun post hp => ?_⟩
  · exact xw_p3 hf (by omega) hp
  · have ev : nI s = y_self f := es.symm
    have hp2 : post (x_limit, nI e, nI W, nI r, nI (f + 1), y_ended, y_answer, y_rest, x_lastCalls, y_result, y_used, y_calls, x_version, x_kept, x_op, x_arg, y_lengths, y_now, y_copies, y_older, y_before, y_warm, y_warmCopies, y_eventCopies, y_messageCopies, y_refundCopies, y_events, y_messages, y_self, y_caller, y_amounts, y_arguments, y_given, upd y_left f (nI (L - 1)), upd y_at f (nI (p + 1)), upd y_tops f (nI (h + 1)), upd y_stack (6 * f + h) (y_self f)) := by rw [es]; exact hp
    exact YA post (yw_242s hf hA (by omega) (yw_m3 (s := s) hf (by omega) et hp2))
theorem lk_4 (hPG : zr_PG ln x_op x_arg x_length x_blockLength x_blockCost x_blockMost x_blockNeed x_blockRise y_lengths) (hST : zr_ST x_state x_weight y_now) (hJR : zr_JR J x_journalCell x_journalOld x_state B jn (f + 1) y_copies) (hWM : zr_WM x_warm y_warm) (hF1 : zr_F1 (f + 1) sf gv x_frameSelf y_self x_frameCaller y_caller x_frameAmount y_amounts x_frameArg y_arguments x_frameGiven y_given) (hF2 : zr_F2 (f + 1) jn ml x_frameEvents y_eventCopies x_frameMails y_messageCopies x_frameRefund y_refundCopies x_frameJournal x_frameWarm y_warmCopies) (hMO : zr_MO (f + 1) ml W) (hFB : zr_FB f ln sf gv kk hh pp x_frameLeft y_left x_framePc y_at x_frameSp) (hSS : zr_SS f hh x_stack y_tops y_stack) (hS1 : zr_S1 f h x_stack y_tops y_stack) (hTP : zr_TP f s p L ln sf y_left y_at) (hBG : zr_BG N G J0 J W L h f r kk hh gv jn) (hML : zr_ML x_mailTo x_mailFrom x_mailAmount x_mailArg y_messages) (hEV : zr_EV e x_eventAccount x_eventTag x_eventValue y_events) (hVS : zr_VS B x_ring x_kept x_oldCell x_oldValue x_oldCount x_oldDigest y_older) (hMI : zr_MI x_limit x_pending (y_lengths 6)) (hBF : zr_BF B y_before) {N' : Nat} (hN : N = N' + 1) (eo : zb_o x_op (24 * s + p) = 4) (hnx : p + 1 < ln s) (htk : zc_tk 4 ≤ h) (had : h - zc_tk 4 + zc_ad 4 ≤ 6) (hc : zc_cst 4 + zc_cc 4 (x_warm.toBitVec.getLsbD (4 * s + zq_q (x_arg (24 * s + p)))) ≤ L) (hcx : zc_cc 4 (x_warm.toBitVec.getLsbD (4 * s + zq_q (x_arg (24 * s + p)))) ≤ lx) (hlx : 4 = 22 → lx = L - 1) : ∃ (u' : SX) (v' : SY), zr_R y_result x_op x_arg ln B N' G J0 (lx - zc_cc 4 (x_warm.toBitVec.getLsbD (4 * s + zq_q (x_arg (24 * s + p))))) px s (p + 1) (h - zc_tk 4 + zc_ad 4) (L - (zc_cst 4 + zc_cc 4 (x_warm.toBitVec.getLsbD (4 * s + zq_q (x_arg (24 * s + p)))))) u' v' ∧ (∀ post : SX → Prop, post u' → wpX_plain post (x_limit, x_pending, zs_H x_state 30, nI J, x_warm, nI r, nI W, x_ring, x_kept, x_version, nI e, nI (f + 1), nI s, nI lx, nI px, nI (7 * f + h), nI (7 * f), -1, x_lastResult, x_lastUsed, x_lastCalls, x_op, x_arg, x_length, x_blockLength, x_blockCost, x_blockMost, x_blockNeed, x_blockRise, x_state, x_weight, x_journalCell, x_journalOld, x_mailTo, x_mailFrom, x_mailAmount, x_mailArg, x_oldCell, x_oldValue, x_oldCount, x_oldDigest, x_eventAccount, x_eventTag, x_eventValue, x_frameSelf, x_frameCaller, x_frameAmount, x_frameArg, x_frameGiven, x_frameLeft, x_framePc, x_frameSp, x_frameJournal, x_frameEvents, x_frameWarm, x_frameRefund, x_frameMails, x_stack) (nI 4) (x_arg (24 * s + p))) ∧ (∀ post : SY → Prop, post v' → wpY_step post (x_limit, nI e, nI W, nI r, nI (f + 1), y_ended, y_answer, y_rest, x_lastCalls, y_result, y_used, y_calls, x_version, x_kept, x_op, x_arg, y_lengths, y_now, y_copies, y_older, y_before, y_warm, y_warmCopies, y_eventCopies, y_messageCopies, y_refundCopies, y_events, y_messages, y_self, y_caller, y_amounts, y_arguments, y_given, y_left, y_at, y_tops, y_stack)) := by
  have YA : ∀ post : SY → Prop, wY_step_242 post (nI f) (nI (24 * s + p)) (nI 4) (nI (4 * s + zq_q (x_arg (24 * s + p)))) (nI (p + 1)) 0 x_limit (nI e) (nI W) (nI r) (nI (f + 1)) y_ended y_answer y_rest x_lastCalls y_result y_used y_calls x_version x_kept x_op x_arg y_lengths y_now y_copies y_older y_before y_warm y_warmCopies y_eventCopies y_messageCopies y_refundCopies y_events y_messages y_self y_caller y_amounts y_arguments y_given (upd y_left f (nI (L - (zc_cst 4 + zc_cc 4 (x_warm.toBitVec.getLsbD (4 * s + zq_q (x_arg (24 * s + p)))))))) y_at y_tops y_stack → wpY_step post (x_limit, nI e, nI W, nI r, nI (f + 1), y_ended, y_answer, y_rest, x_lastCalls, y_result, y_used, y_calls, x_version, x_kept, x_op, x_arg, y_lengths, y_now, y_copies, y_older, y_before, y_warm, y_warmCopies, y_eventCopies, y_messageCopies, y_refundCopies, y_events, y_messages, y_self, y_caller, y_amounts, y_arguments, y_given, y_left, y_at, y_tops, y_stack) := fun post hp => yk_A hPG hST hJR hWM hF1 hF2 hMO hFB hSS hS1 hTP hBG hML hEV hVS hMI hBF eo (by decide) (by decide) (by decide) (by decide) hnx htk had hc hp
  obtain ⟨hf, hs, hp24, es, ep, el, et, hln, hln24, hL, hh6, hw, eop, ho, hpl, _⟩ := zk_un hPG hST hJR hWM hF1 hF2 hMO hFB hSS hS1 hTP hBG hML hEV hVS hMI hBF
  have hA : 24 * s + p < 168 := by omega
  have hq4 := zq_lt (x_arg (24 * s + p))
  have eh : h - zc_tk 4 + zc_ad 4 = h + 1 := rfl
  rw [eh] at had ⊢
  have ec : zc_cst 4 + zc_cc 4 (x_warm.toBitVec.getLsbD (4 * s + zq_q (x_arg (24 * s + p)))) = 1 := rfl
  have ex : lx - zc_cc 4 (x_warm.toBitVec.getLsbD (4 * s + zq_q (x_arg (24 * s + p)))) = lx := rfl
  rw [ec] at hc ⊢
  rw [ex]
  refine ⟨(x_limit, x_pending, zs_H x_state 30, nI J, x_warm, nI r, nI W, x_ring, x_kept, x_version, nI e, nI (f + 1), nI s, nI lx, nI px, nI (7 * f + (h + 1)), nI (7 * f), -1, x_lastResult, x_lastUsed, x_lastCalls, x_op, x_arg, x_length, x_blockLength, x_blockCost, x_blockMost, x_blockNeed, x_blockRise, x_state, x_weight, x_journalCell, x_journalOld, x_mailTo, x_mailFrom, x_mailAmount, x_mailArg, x_oldCell, x_oldValue, x_oldCount, x_oldDigest, x_eventAccount, x_eventTag, x_eventValue, x_frameSelf, x_frameCaller, x_frameAmount, x_frameArg, x_frameGiven, x_frameLeft, x_framePc, x_frameSp, x_frameJournal, x_frameEvents, x_frameWarm, x_frameRefund, x_frameMails, upd x_stack (7 * f + h) (x_frameAmount f)), (x_limit, nI e, nI W, nI r, nI (f + 1), y_ended, y_answer, y_rest, x_lastCalls, y_result, y_used, y_calls, x_version, x_kept, x_op, x_arg, y_lengths, y_now, y_copies, y_older, y_before, y_warm, y_warmCopies, y_eventCopies, y_messageCopies, y_refundCopies, y_events, y_messages, y_self, y_caller, y_amounts, y_arguments, y_given, upd y_left f (nI (L - 1)), upd y_at f (nI (p + 1)), upd y_tops f (nI (h + 1)), upd y_stack (6 * f + h) (x_frameAmount f)), zk_stk hPG hST hJR hWM hF1 hF2 hMO hFB hSS hS1 hTP hBG hML hEV hVS hMI hBF hN (zl_push ⟨hSS, hS1⟩ (by omega)) hc (by omega) (by omega) hnx, fun post hp => ?_, fun post hp => ?_⟩
  · exact xw_p4 hf (by omega) hp
  · rw [(hF1 f (by omega)).2.2.2.2.1] at hp
    exact YA post (yw_242s hf hA (by omega) (yw_m4 (s := s) hf (by omega) et hp))
theorem lk_22 (hPG : zr_PG ln x_op x_arg x_length x_blockLength x_blockCost x_blockMost x_blockNeed x_blockRise y_lengths) (hST : zr_ST x_state x_weight y_now) (hJR : zr_JR J x_journalCell x_journalOld x_state B jn (f + 1) y_copies) (hWM : zr_WM x_warm y_warm) (hF1 : zr_F1 (f + 1) sf gv x_frameSelf y_self x_frameCaller y_caller x_frameAmount y_amounts x_frameArg y_arguments x_frameGiven y_given) (hF2 : zr_F2 (f + 1) jn ml x_frameEvents y_eventCopies x_frameMails y_messageCopies x_frameRefund y_refundCopies x_frameJournal x_frameWarm y_warmCopies) (hMO : zr_MO (f + 1) ml W) (hFB : zr_FB f ln sf gv kk hh pp x_frameLeft y_left x_framePc y_at x_frameSp) (hSS : zr_SS f hh x_stack y_tops y_stack) (hS1 : zr_S1 f h x_stack y_tops y_stack) (hTP : zr_TP f s p L ln sf y_left y_at) (hBG : zr_BG N G J0 J W L h f r kk hh gv jn) (hML : zr_ML x_mailTo x_mailFrom x_mailAmount x_mailArg y_messages) (hEV : zr_EV e x_eventAccount x_eventTag x_eventValue y_events) (hVS : zr_VS B x_ring x_kept x_oldCell x_oldValue x_oldCount x_oldDigest y_older) (hMI : zr_MI x_limit x_pending (y_lengths 6)) (hBF : zr_BF B y_before) {N' : Nat} (hN : N = N' + 1) (eo : zb_o x_op (24 * s + p) = 22) (hnx : p + 1 < ln s) (htk : zc_tk 22 ≤ h) (had : h - zc_tk 22 + zc_ad 22 ≤ 6) (hc : zc_cst 22 + zc_cc 22 (x_warm.toBitVec.getLsbD (4 * s + zq_q (x_arg (24 * s + p)))) ≤ L) (hcx : zc_cc 22 (x_warm.toBitVec.getLsbD (4 * s + zq_q (x_arg (24 * s + p)))) ≤ lx) (hlx : 22 = 22 → lx = L - 1) : ∃ (u' : SX) (v' : SY), zr_R y_result x_op x_arg ln B N' G J0 (lx - zc_cc 22 (x_warm.toBitVec.getLsbD (4 * s + zq_q (x_arg (24 * s + p))))) px s (p + 1) (h - zc_tk 22 + zc_ad 22) (L - (zc_cst 22 + zc_cc 22 (x_warm.toBitVec.getLsbD (4 * s + zq_q (x_arg (24 * s + p)))))) u' v' ∧ (∀ post : SX → Prop, post u' → wpX_plain post (x_limit, x_pending, zs_H x_state 30, nI J, x_warm, nI r, nI W, x_ring, x_kept, x_version, nI e, nI (f + 1), nI s, nI lx, nI px, nI (7 * f + h), nI (7 * f), -1, x_lastResult, x_lastUsed, x_lastCalls, x_op, x_arg, x_length, x_blockLength, x_blockCost, x_blockMost, x_blockNeed, x_blockRise, x_state, x_weight, x_journalCell, x_journalOld, x_mailTo, x_mailFrom, x_mailAmount, x_mailArg, x_oldCell, x_oldValue, x_oldCount, x_oldDigest, x_eventAccount, x_eventTag, x_eventValue, x_frameSelf, x_frameCaller, x_frameAmount, x_frameArg, x_frameGiven, x_frameLeft, x_framePc, x_frameSp, x_frameJournal, x_frameEvents, x_frameWarm, x_frameRefund, x_frameMails, x_stack) (nI 22) (x_arg (24 * s + p))) ∧ (∀ post : SY → Prop, post v' → wpY_step post (x_limit, nI e, nI W, nI r, nI (f + 1), y_ended, y_answer, y_rest, x_lastCalls, y_result, y_used, y_calls, x_version, x_kept, x_op, x_arg, y_lengths, y_now, y_copies, y_older, y_before, y_warm, y_warmCopies, y_eventCopies, y_messageCopies, y_refundCopies, y_events, y_messages, y_self, y_caller, y_amounts, y_arguments, y_given, y_left, y_at, y_tops, y_stack)) := by
  have YA : ∀ post : SY → Prop, wY_step_242 post (nI f) (nI (24 * s + p)) (nI 22) (nI (4 * s + zq_q (x_arg (24 * s + p)))) (nI (p + 1)) 0 x_limit (nI e) (nI W) (nI r) (nI (f + 1)) y_ended y_answer y_rest x_lastCalls y_result y_used y_calls x_version x_kept x_op x_arg y_lengths y_now y_copies y_older y_before y_warm y_warmCopies y_eventCopies y_messageCopies y_refundCopies y_events y_messages y_self y_caller y_amounts y_arguments y_given (upd y_left f (nI (L - (zc_cst 22 + zc_cc 22 (x_warm.toBitVec.getLsbD (4 * s + zq_q (x_arg (24 * s + p)))))))) y_at y_tops y_stack → wpY_step post (x_limit, nI e, nI W, nI r, nI (f + 1), y_ended, y_answer, y_rest, x_lastCalls, y_result, y_used, y_calls, x_version, x_kept, x_op, x_arg, y_lengths, y_now, y_copies, y_older, y_before, y_warm, y_warmCopies, y_eventCopies, y_messageCopies, y_refundCopies, y_events, y_messages, y_self, y_caller, y_amounts, y_arguments, y_given, y_left, y_at, y_tops, y_stack) := fun post hp => yk_A hPG hST hJR hWM hF1 hF2 hMO hFB hSS hS1 hTP hBG hML hEV hVS hMI hBF eo (by decide) (by decide) (by decide) (by decide) hnx htk had hc hp
  obtain ⟨hf, hs, hp24, es, ep, el, et, hln, hln24, hL, hh6, hw, eop, ho, hpl, _⟩ := zk_un hPG hST hJR hWM hF1 hF2 hMO hFB hSS hS1 hTP hBG hML hEV hVS hMI hBF
  have hA : 24 * s + p < 168 := by omega
  have hq4 := zq_lt (x_arg (24 * s + p))
  have eh : h - zc_tk 22 + zc_ad 22 = h + 1 := rfl
  rw [eh] at had ⊢
  have ec : zc_cst 22 + zc_cc 22 (x_warm.toBitVec.getLsbD (4 * s + zq_q (x_arg (24 * s + p)))) = 1 := rfl
  have ex : lx - zc_cc 22 (x_warm.toBitVec.getLsbD (4 * s + zq_q (x_arg (24 * s + p)))) = lx := rfl
  rw [ec] at hc ⊢
  rw [ex]
  have el2 : lx = L - 1 := hlx rfl
  refine ⟨(x_limit, x_pending, zs_H x_state 30, nI J, x_warm, nI r, nI W, x_ring, x_kept, x_version, nI e, nI (f + 1), nI s, nI lx, nI px, nI (7 * f + (h + 1)), nI (7 * f), -1, x_lastResult, x_lastUsed, x_lastCalls, x_op, x_arg, x_length, x_blockLength, x_blockCost, x_blockMost, x_blockNeed, x_blockRise, x_state, x_weight, x_journalCell, x_journalOld, x_mailTo, x_mailFrom, x_mailAmount, x_mailArg, x_oldCell, x_oldValue, x_oldCount, x_oldDigest, x_eventAccount, x_eventTag, x_eventValue, x_frameSelf, x_frameCaller, x_frameAmount, x_frameArg, x_frameGiven, x_frameLeft, x_framePc, x_frameSp, x_frameJournal, x_frameEvents, x_frameWarm, x_frameRefund, x_frameMails, upd x_stack (7 * f + h) (nI lx)), (x_limit, nI e, nI W, nI r, nI (f + 1), y_ended, y_answer, y_rest, x_lastCalls, y_result, y_used, y_calls, x_version, x_kept, x_op, x_arg, y_lengths, y_now, y_copies, y_older, y_before, y_warm, y_warmCopies, y_eventCopies, y_messageCopies, y_refundCopies, y_events, y_messages, y_self, y_caller, y_amounts, y_arguments, y_given, upd y_left f (nI (L - 1)), upd y_at f (nI (p + 1)), upd y_tops f (nI (h + 1)), upd y_stack (6 * f + h) (nI lx)), zk_stk hPG hST hJR hWM hF1 hF2 hMO hFB hSS hS1 hTP hBG hML hEV hVS hMI hBF hN (zl_push ⟨hSS, hS1⟩ (by omega)) hc (by omega) (by omega) hnx, fun post hp => ?_, fun post hp => ?_⟩
  · exact xw_p22 hf (by omega) hp
  · have hp2 : post (x_limit, nI e, nI W, nI r, nI (f + 1), y_ended, y_answer, y_rest, x_lastCalls, y_result, y_used, y_calls, x_version, x_kept, x_op, x_arg, y_lengths, y_now, y_copies, y_older, y_before, y_warm, y_warmCopies, y_eventCopies, y_messageCopies, y_refundCopies, y_events, y_messages, y_self, y_caller, y_amounts, y_arguments, y_given, upd y_left f (nI (L - 1)), upd y_at f (nI (p + 1)), upd y_tops f (nI (h + 1)), upd y_stack (6 * f + h) ((upd y_left f (nI (L - 1))) f)) := by rw [pk_us, ← el2]; rw [← el2] at hp; exact hp
    exact YA post (yw_242o hf hA (by omega) (by omega) (yw_o22 hf (by omega) et hp2))
theorem lk_14 (hPG : zr_PG ln x_op x_arg x_length x_blockLength x_blockCost x_blockMost x_blockNeed x_blockRise y_lengths) (hST : zr_ST x_state x_weight y_now) (hJR : zr_JR J x_journalCell x_journalOld x_state B jn (f + 1) y_copies) (hWM : zr_WM x_warm y_warm) (hF1 : zr_F1 (f + 1) sf gv x_frameSelf y_self x_frameCaller y_caller x_frameAmount y_amounts x_frameArg y_arguments x_frameGiven y_given) (hF2 : zr_F2 (f + 1) jn ml x_frameEvents y_eventCopies x_frameMails y_messageCopies x_frameRefund y_refundCopies x_frameJournal x_frameWarm y_warmCopies) (hMO : zr_MO (f + 1) ml W) (hFB : zr_FB f ln sf gv kk hh pp x_frameLeft y_left x_framePc y_at x_frameSp) (hSS : zr_SS f hh x_stack y_tops y_stack) (hS1 : zr_S1 f h x_stack y_tops y_stack) (hTP : zr_TP f s p L ln sf y_left y_at) (hBG : zr_BG N G J0 J W L h f r kk hh gv jn) (hML : zr_ML x_mailTo x_mailFrom x_mailAmount x_mailArg y_messages) (hEV : zr_EV e x_eventAccount x_eventTag x_eventValue y_events) (hVS : zr_VS B x_ring x_kept x_oldCell x_oldValue x_oldCount x_oldDigest y_older) (hMI : zr_MI x_limit x_pending (y_lengths 6)) (hBF : zr_BF B y_before) {N' : Nat} (hN : N = N' + 1) (eo : zb_o x_op (24 * s + p) = 14) (hnx : p + 1 < ln s) (htk : zc_tk 14 ≤ h) (had : h - zc_tk 14 + zc_ad 14 ≤ 6) (hc : zc_cst 14 + zc_cc 14 (x_warm.toBitVec.getLsbD (4 * s + zq_q (x_arg (24 * s + p)))) ≤ L) (hcx : zc_cc 14 (x_warm.toBitVec.getLsbD (4 * s + zq_q (x_arg (24 * s + p)))) ≤ lx) (hlx : 14 = 22 → lx = L - 1) : ∃ (u' : SX) (v' : SY), zr_R y_result x_op x_arg ln B N' G J0 (lx - zc_cc 14 (x_warm.toBitVec.getLsbD (4 * s + zq_q (x_arg (24 * s + p))))) px s (p + 1) (h - zc_tk 14 + zc_ad 14) (L - (zc_cst 14 + zc_cc 14 (x_warm.toBitVec.getLsbD (4 * s + zq_q (x_arg (24 * s + p)))))) u' v' ∧ (∀ post : SX → Prop, post u' → wpX_plain post (x_limit, x_pending, zs_H x_state 30, nI J, x_warm, nI r, nI W, x_ring, x_kept, x_version, nI e, nI (f + 1), nI s, nI lx, nI px, nI (7 * f + h), nI (7 * f), -1, x_lastResult, x_lastUsed, x_lastCalls, x_op, x_arg, x_length, x_blockLength, x_blockCost, x_blockMost, x_blockNeed, x_blockRise, x_state, x_weight, x_journalCell, x_journalOld, x_mailTo, x_mailFrom, x_mailAmount, x_mailArg, x_oldCell, x_oldValue, x_oldCount, x_oldDigest, x_eventAccount, x_eventTag, x_eventValue, x_frameSelf, x_frameCaller, x_frameAmount, x_frameArg, x_frameGiven, x_frameLeft, x_framePc, x_frameSp, x_frameJournal, x_frameEvents, x_frameWarm, x_frameRefund, x_frameMails, x_stack) (nI 14) (x_arg (24 * s + p))) ∧ (∀ post : SY → Prop, post v' → wpY_step post (x_limit, nI e, nI W, nI r, nI (f + 1), y_ended, y_answer, y_rest, x_lastCalls, y_result, y_used, y_calls, x_version, x_kept, x_op, x_arg, y_lengths, y_now, y_copies, y_older, y_before, y_warm, y_warmCopies, y_eventCopies, y_messageCopies, y_refundCopies, y_events, y_messages, y_self, y_caller, y_amounts, y_arguments, y_given, y_left, y_at, y_tops, y_stack)) := by
  have YA : ∀ post : SY → Prop, wY_step_242 post (nI f) (nI (24 * s + p)) (nI 14) (nI (4 * s + zq_q (x_arg (24 * s + p)))) (nI (p + 1)) 0 x_limit (nI e) (nI W) (nI r) (nI (f + 1)) y_ended y_answer y_rest x_lastCalls y_result y_used y_calls x_version x_kept x_op x_arg y_lengths y_now y_copies y_older y_before y_warm y_warmCopies y_eventCopies y_messageCopies y_refundCopies y_events y_messages y_self y_caller y_amounts y_arguments y_given (upd y_left f (nI (L - (zc_cst 14 + zc_cc 14 (x_warm.toBitVec.getLsbD (4 * s + zq_q (x_arg (24 * s + p)))))))) y_at y_tops y_stack → wpY_step post (x_limit, nI e, nI W, nI r, nI (f + 1), y_ended, y_answer, y_rest, x_lastCalls, y_result, y_used, y_calls, x_version, x_kept, x_op, x_arg, y_lengths, y_now, y_copies, y_older, y_before, y_warm, y_warmCopies, y_eventCopies, y_messageCopies, y_refundCopies, y_events, y_messages, y_self, y_caller, y_amounts, y_arguments, y_given, y_left, y_at, y_tops, y_stack) := fun post hp => yk_A hPG hST hJR hWM hF1 hF2 hMO hFB hSS hS1 hTP hBG hML hEV hVS hMI hBF eo (by decide) (by decide) (by decide) (by decide) hnx htk had hc hp
  obtain ⟨hf, hs, hp24, es, ep, el, et, hln, hln24, hL, hh6, hw, eop, ho, hpl, _⟩ := zk_un hPG hST hJR hWM hF1 hF2 hMO hFB hSS hS1 hTP hBG hML hEV hVS hMI hBF
  have hA : 24 * s + p < 168 := by omega
  have hq4 := zq_lt (x_arg (24 * s + p))
  obtain ⟨h0, rfl⟩ : ∃ h0, h = h0 + 1 := ⟨h - 1, by have : zc_tk 14 = 1 := rfl; omega⟩
  have eh : h0 + 1 - zc_tk 14 + zc_ad 14 = h0 := by show h0 + 1 - 1 + 0 = h0; omega
  rw [eh] at had ⊢
  have ec : zc_cst 14 + zc_cc 14 (x_warm.toBitVec.getLsbD (4 * s + zq_q (x_arg (24 * s + p)))) = 1 := rfl
  have ex : lx - zc_cc 14 (x_warm.toBitVec.getLsbD (4 * s + zq_q (x_arg (24 * s + p)))) = lx := rfl
  rw [ec] at hc ⊢
  rw [ex]
  refine ⟨(x_limit, x_pending, zs_H x_state 30, nI J, x_warm, nI r, nI W, x_ring, x_kept, x_version, nI e, nI (f + 1), nI s, nI lx, nI px, nI (7 * f + (h0)), nI (7 * f), -1, x_lastResult, x_lastUsed, x_lastCalls, x_op, x_arg, x_length, x_blockLength, x_blockCost, x_blockMost, x_blockNeed, x_blockRise, x_state, x_weight, x_journalCell, x_journalOld, x_mailTo, x_mailFrom, x_mailAmount, x_mailArg, x_oldCell, x_oldValue, x_oldCount, x_oldDigest, x_eventAccount, x_eventTag, x_eventValue, x_frameSelf, x_frameCaller, x_frameAmount, x_frameArg, x_frameGiven, x_frameLeft, x_framePc, x_frameSp, x_frameJournal, x_frameEvents, x_frameWarm, x_frameRefund, x_frameMails, x_stack), (x_limit, nI e, nI W, nI r, nI (f + 1), y_ended, y_answer, y_rest, x_lastCalls, y_result, y_used, y_calls, x_version, x_kept, x_op, x_arg, y_lengths, y_now, y_copies, y_older, y_before, y_warm, y_warmCopies, y_eventCopies, y_messageCopies, y_refundCopies, y_events, y_messages, y_self, y_caller, y_amounts, y_arguments, y_given, upd y_left f (nI (L - 1)), upd y_at f (nI (p + 1)), upd y_tops f (nI h0), y_stack), zk_stk hPG hST hJR hWM hF1 hF2 hMO hFB hSS hS1 hTP hBG hML hEV hVS hMI hBF hN (zl_pop ⟨hSS, hS1⟩) hc (by omega) (by omega) hnx, fun post hp => ?_, fun post hp => ?_⟩
  · exact xw_p14 hp
  · exact YA post (yw_242m hf (by omega) (by omega) (yw_s14 hf (by omega) (Or.inl rfl) et hp))
theorem lk_13 (hPG : zr_PG ln x_op x_arg x_length x_blockLength x_blockCost x_blockMost x_blockNeed x_blockRise y_lengths) (hST : zr_ST x_state x_weight y_now) (hJR : zr_JR J x_journalCell x_journalOld x_state B jn (f + 1) y_copies) (hWM : zr_WM x_warm y_warm) (hF1 : zr_F1 (f + 1) sf gv x_frameSelf y_self x_frameCaller y_caller x_frameAmount y_amounts x_frameArg y_arguments x_frameGiven y_given) (hF2 : zr_F2 (f + 1) jn ml x_frameEvents y_eventCopies x_frameMails y_messageCopies x_frameRefund y_refundCopies x_frameJournal x_frameWarm y_warmCopies) (hMO : zr_MO (f + 1) ml W) (hFB : zr_FB f ln sf gv kk hh pp x_frameLeft y_left x_framePc y_at x_frameSp) (hSS : zr_SS f hh x_stack y_tops y_stack) (hS1 : zr_S1 f h x_stack y_tops y_stack) (hTP : zr_TP f s p L ln sf y_left y_at) (hBG : zr_BG N G J0 J W L h f r kk hh gv jn) (hML : zr_ML x_mailTo x_mailFrom x_mailAmount x_mailArg y_messages) (hEV : zr_EV e x_eventAccount x_eventTag x_eventValue y_events) (hVS : zr_VS B x_ring x_kept x_oldCell x_oldValue x_oldCount x_oldDigest y_older) (hMI : zr_MI x_limit x_pending (y_lengths 6)) (hBF : zr_BF B y_before) {N' : Nat} (hN : N = N' + 1) (eo : zb_o x_op (24 * s + p) = 13) (hnx : p + 1 < ln s) (htk : zc_tk 13 ≤ h) (had : h - zc_tk 13 + zc_ad 13 ≤ 6) (hc : zc_cst 13 + zc_cc 13 (x_warm.toBitVec.getLsbD (4 * s + zq_q (x_arg (24 * s + p)))) ≤ L) (hcx : zc_cc 13 (x_warm.toBitVec.getLsbD (4 * s + zq_q (x_arg (24 * s + p)))) ≤ lx) (hlx : 13 = 22 → lx = L - 1) : ∃ (u' : SX) (v' : SY), zr_R y_result x_op x_arg ln B N' G J0 (lx - zc_cc 13 (x_warm.toBitVec.getLsbD (4 * s + zq_q (x_arg (24 * s + p))))) px s (p + 1) (h - zc_tk 13 + zc_ad 13) (L - (zc_cst 13 + zc_cc 13 (x_warm.toBitVec.getLsbD (4 * s + zq_q (x_arg (24 * s + p)))))) u' v' ∧ (∀ post : SX → Prop, post u' → wpX_plain post (x_limit, x_pending, zs_H x_state 30, nI J, x_warm, nI r, nI W, x_ring, x_kept, x_version, nI e, nI (f + 1), nI s, nI lx, nI px, nI (7 * f + h), nI (7 * f), -1, x_lastResult, x_lastUsed, x_lastCalls, x_op, x_arg, x_length, x_blockLength, x_blockCost, x_blockMost, x_blockNeed, x_blockRise, x_state, x_weight, x_journalCell, x_journalOld, x_mailTo, x_mailFrom, x_mailAmount, x_mailArg, x_oldCell, x_oldValue, x_oldCount, x_oldDigest, x_eventAccount, x_eventTag, x_eventValue, x_frameSelf, x_frameCaller, x_frameAmount, x_frameArg, x_frameGiven, x_frameLeft, x_framePc, x_frameSp, x_frameJournal, x_frameEvents, x_frameWarm, x_frameRefund, x_frameMails, x_stack) (nI 13) (x_arg (24 * s + p))) ∧ (∀ post : SY → Prop, post v' → wpY_step post (x_limit, nI e, nI W, nI r, nI (f + 1), y_ended, y_answer, y_rest, x_lastCalls, y_result, y_used, y_calls, x_version, x_kept, x_op, x_arg, y_lengths, y_now, y_copies, y_older, y_before, y_warm, y_warmCopies, y_eventCopies, y_messageCopies, y_refundCopies, y_events, y_messages, y_self, y_caller, y_amounts, y_arguments, y_given, y_left, y_at, y_tops, y_stack)) := by
  have YA : ∀ post : SY → Prop, wY_step_242 post (nI f) (nI (24 * s + p)) (nI 13) (nI (4 * s + zq_q (x_arg (24 * s + p)))) (nI (p + 1)) 0 x_limit (nI e) (nI W) (nI r) (nI (f + 1)) y_ended y_answer y_rest x_lastCalls y_result y_used y_calls x_version x_kept x_op x_arg y_lengths y_now y_copies y_older y_before y_warm y_warmCopies y_eventCopies y_messageCopies y_refundCopies y_events y_messages y_self y_caller y_amounts y_arguments y_given (upd y_left f (nI (L - (zc_cst 13 + zc_cc 13 (x_warm.toBitVec.getLsbD (4 * s + zq_q (x_arg (24 * s + p)))))))) y_at y_tops y_stack → wpY_step post (x_limit, nI e, nI W, nI r, nI (f + 1), y_ended, y_answer, y_rest, x_lastCalls, y_result, y_used, y_calls, x_version, x_kept, x_op, x_arg, y_lengths, y_now, y_copies, y_older, y_before, y_warm, y_warmCopies, y_eventCopies, y_messageCopies, y_refundCopies, y_events, y_messages, y_self, y_caller, y_amounts, y_arguments, y_given, y_left, y_at, y_tops, y_stack) := fun post hp => yk_A hPG hST hJR hWM hF1 hF2 hMO hFB hSS hS1 hTP hBG hML hEV hVS hMI hBF eo (by decide) (by decide) (by decide) (by decide) hnx htk had hc hp
  obtain ⟨hf, hs, hp24, es, ep, el, et, hln, hln24, hL, hh6, hw, eop, ho, hpl, _⟩ := zk_un hPG hST hJR hWM hF1 hF2 hMO hFB hSS hS1 hTP hBG hML hEV hVS hMI hBF
  have hA : 24 * s + p < 168 := by omega
  have hq4 := zq_lt (x_arg (24 * s + p))
  obtain ⟨h0, rfl⟩ : ∃ h0, h = h0 + 1 := ⟨h - 1, by have : zc_tk 13 = 1 := rfl; omega⟩
  have eh : h0 + 1 - zc_tk 13 + zc_ad 13 = h0 + 2 := by show h0 + 1 - 1 + 2 = h0 + 2; omega
  rw [eh] at had ⊢
  have ec : zc_cst 13 + zc_cc 13 (x_warm.toBitVec.getLsbD (4 * s + zq_q (x_arg (24 * s + p)))) = 1 := rfl
  have ex : lx - zc_cc 13 (x_warm.toBitVec.getLsbD (4 * s + zq_q (x_arg (24 * s + p)))) = lx := rfl
  rw [ec] at hc ⊢
  rw [ex]
  have ev := hS1.2.2 h0 (by omega)
  have hS := zl_push (v := x_stack (7 * f + h0)) (zl_push (v := x_stack (7 * f + h0)) (zl_pop ⟨hSS, hS1⟩) (by omega)) (by omega)
  rw [zu_id] at hS
  refine ⟨(x_limit, x_pending, zs_H x_state 30, nI J, x_warm, nI r, nI W, x_ring, x_kept, x_version, nI e, nI (f + 1), nI s, nI lx, nI px, nI (7 * f + (h0 + 2)), nI (7 * f), -1, x_lastResult, x_lastUsed, x_lastCalls, x_op, x_arg, x_length, x_blockLength, x_blockCost, x_blockMost, x_blockNeed, x_blockRise, x_state, x_weight, x_journalCell, x_journalOld, x_mailTo, x_mailFrom, x_mailAmount, x_mailArg, x_oldCell, x_oldValue, x_oldCount, x_oldDigest, x_eventAccount, x_eventTag, x_eventValue, x_frameSelf, x_frameCaller, x_frameAmount, x_frameArg, x_frameGiven, x_frameLeft, x_framePc, x_frameSp, x_frameJournal, x_frameEvents, x_frameWarm, x_frameRefund, x_frameMails, upd x_stack (7 * f + (h0 + 1)) (x_stack (7 * f + h0))), (x_limit, nI e, nI W, nI r, nI (f + 1), y_ended, y_answer, y_rest, x_lastCalls, y_result, y_used, y_calls, x_version, x_kept, x_op, x_arg, y_lengths, y_now, y_copies, y_older, y_before, y_warm, y_warmCopies, y_eventCopies, y_messageCopies, y_refundCopies, y_events, y_messages, y_self, y_caller, y_amounts, y_arguments, y_given, upd y_left f (nI (L - 1)), upd y_at f (nI (p + 1)), upd (upd (upd y_tops f (nI h0)) f (nI (h0 + 1))) f (nI (h0 + 2)), upd (upd y_stack (6 * f + h0) (x_stack (7 * f + h0))) (6 * f + (h0 + 1)) (x_stack (7 * f + h0))), zk_stk hPG hST hJR hWM hF1 hF2 hMO hFB hSS hS1 hTP hBG hML hEV hVS hMI hBF hN hS hc (by omega) (by omega) hnx, fun post hp => ?_, fun post hp => ?_⟩
  · exact xw_p13 (q := 7 * f + h0) hf (by omega) hp
  · rw [← ev] at hp
    exact YA post (yw_242m hf (by omega) (by omega) (yw_s13 hf (by omega) et hp))
theorem lk_15 (hPG : zr_PG ln x_op x_arg x_length x_blockLength x_blockCost x_blockMost x_blockNeed x_blockRise y_lengths) (hST : zr_ST x_state x_weight y_now) (hJR : zr_JR J x_journalCell x_journalOld x_state B jn (f + 1) y_copies) (hWM : zr_WM x_warm y_warm) (hF1 : zr_F1 (f + 1) sf gv x_frameSelf y_self x_frameCaller y_caller x_frameAmount y_amounts x_frameArg y_arguments x_frameGiven y_given) (hF2 : zr_F2 (f + 1) jn ml x_frameEvents y_eventCopies x_frameMails y_messageCopies x_frameRefund y_refundCopies x_frameJournal x_frameWarm y_warmCopies) (hMO : zr_MO (f + 1) ml W) (hFB : zr_FB f ln sf gv kk hh pp x_frameLeft y_left x_framePc y_at x_frameSp) (hSS : zr_SS f hh x_stack y_tops y_stack) (hS1 : zr_S1 f h x_stack y_tops y_stack) (hTP : zr_TP f s p L ln sf y_left y_at) (hBG : zr_BG N G J0 J W L h f r kk hh gv jn) (hML : zr_ML x_mailTo x_mailFrom x_mailAmount x_mailArg y_messages) (hEV : zr_EV e x_eventAccount x_eventTag x_eventValue y_events) (hVS : zr_VS B x_ring x_kept x_oldCell x_oldValue x_oldCount x_oldDigest y_older) (hMI : zr_MI x_limit x_pending (y_lengths 6)) (hBF : zr_BF B y_before) {N' : Nat} (hN : N = N' + 1) (eo : zb_o x_op (24 * s + p) = 15) (hnx : p + 1 < ln s) (htk : zc_tk 15 ≤ h) (had : h - zc_tk 15 + zc_ad 15 ≤ 6) (hc : zc_cst 15 + zc_cc 15 (x_warm.toBitVec.getLsbD (4 * s + zq_q (x_arg (24 * s + p)))) ≤ L) (hcx : zc_cc 15 (x_warm.toBitVec.getLsbD (4 * s + zq_q (x_arg (24 * s + p)))) ≤ lx) (hlx : 15 = 22 → lx = L - 1) : ∃ (u' : SX) (v' : SY), zr_R y_result x_op x_arg ln B N' G J0 (lx - zc_cc 15 (x_warm.toBitVec.getLsbD (4 * s + zq_q (x_arg (24 * s + p))))) px s (p + 1) (h - zc_tk 15 + zc_ad 15) (L - (zc_cst 15 + zc_cc 15 (x_warm.toBitVec.getLsbD (4 * s + zq_q (x_arg (24 * s + p)))))) u' v' ∧ (∀ post : SX → Prop, post u' → wpX_plain post (x_limit, x_pending, zs_H x_state 30, nI J, x_warm, nI r, nI W, x_ring, x_kept, x_version, nI e, nI (f + 1), nI s, nI lx, nI px, nI (7 * f + h), nI (7 * f), -1, x_lastResult, x_lastUsed, x_lastCalls, x_op, x_arg, x_length, x_blockLength, x_blockCost, x_blockMost, x_blockNeed, x_blockRise, x_state, x_weight, x_journalCell, x_journalOld, x_mailTo, x_mailFrom, x_mailAmount, x_mailArg, x_oldCell, x_oldValue, x_oldCount, x_oldDigest, x_eventAccount, x_eventTag, x_eventValue, x_frameSelf, x_frameCaller, x_frameAmount, x_frameArg, x_frameGiven, x_frameLeft, x_framePc, x_frameSp, x_frameJournal, x_frameEvents, x_frameWarm, x_frameRefund, x_frameMails, x_stack) (nI 15) (x_arg (24 * s + p))) ∧ (∀ post : SY → Prop, post v' → wpY_step post (x_limit, nI e, nI W, nI r, nI (f + 1), y_ended, y_answer, y_rest, x_lastCalls, y_result, y_used, y_calls, x_version, x_kept, x_op, x_arg, y_lengths, y_now, y_copies, y_older, y_before, y_warm, y_warmCopies, y_eventCopies, y_messageCopies, y_refundCopies, y_events, y_messages, y_self, y_caller, y_amounts, y_arguments, y_given, y_left, y_at, y_tops, y_stack)) := by
  have YA : ∀ post : SY → Prop, wY_step_242 post (nI f) (nI (24 * s + p)) (nI 15) (nI (4 * s + zq_q (x_arg (24 * s + p)))) (nI (p + 1)) 0 x_limit (nI e) (nI W) (nI r) (nI (f + 1)) y_ended y_answer y_rest x_lastCalls y_result y_used y_calls x_version x_kept x_op x_arg y_lengths y_now y_copies y_older y_before y_warm y_warmCopies y_eventCopies y_messageCopies y_refundCopies y_events y_messages y_self y_caller y_amounts y_arguments y_given (upd y_left f (nI (L - (zc_cst 15 + zc_cc 15 (x_warm.toBitVec.getLsbD (4 * s + zq_q (x_arg (24 * s + p)))))))) y_at y_tops y_stack → wpY_step post (x_limit, nI e, nI W, nI r, nI (f + 1), y_ended, y_answer, y_rest, x_lastCalls, y_result, y_used, y_calls, x_version, x_kept, x_op, x_arg, y_lengths, y_now, y_copies, y_older, y_before, y_warm, y_warmCopies, y_eventCopies, y_messageCopies, y_refundCopies, y_events, y_messages, y_self, y_caller, y_amounts, y_arguments, y_given, y_left, y_at, y_tops, y_stack) := fun post hp => yk_A hPG hST hJR hWM hF1 hF2 hMO hFB hSS hS1 hTP hBG hML hEV hVS hMI hBF eo (by decide) (by decide) (by decide) (by decide) hnx htk had hc hp
  obtain ⟨hf, hs, hp24, es, ep, el, et, hln, hln24, hL, hh6, hw, eop, ho, hpl, _⟩ := zk_un hPG hST hJR hWM hF1 hF2 hMO hFB hSS hS1 hTP hBG hML hEV hVS hMI hBF
  have hA : 24 * s + p < 168 := by omega
  have hq4 := zq_lt (x_arg (24 * s + p))
  obtain ⟨h0, rfl⟩ : ∃ h0, h = h0 + 2 := ⟨h - 2, by have : zc_tk 15 = 2 := rfl; omega⟩
  have eh : h0 + 2 - zc_tk 15 + zc_ad 15 = h0 + 2 := by show h0 + 2 - 2 + 2 = h0 + 2; omega
  rw [eh] at had ⊢
  have ec : zc_cst 15 + zc_cc 15 (x_warm.toBitVec.getLsbD (4 * s + zq_q (x_arg (24 * s + p)))) = 1 := rfl
  have ex : lx - zc_cc 15 (x_warm.toBitVec.getLsbD (4 * s + zq_q (x_arg (24 * s + p)))) = lx := rfl
  rw [ec] at hc ⊢
  rw [ex]
  have ev0 := hS1.2.2 h0 (by omega)
  have ev1 := hS1.2.2 (h0 + 1) (by omega)
  have hS := zl_push (v := x_stack (7 * f + h0)) (zl_push (v := x_stack (7 * f + (h0 + 1))) (zl_pop (zl_pop ⟨hSS, hS1⟩)) (by omega)) (by omega)
  rw [zu_comm (by omega : 7 * f + h0 ≠ 7 * f + (h0 + 1))] at hS
  refine ⟨(x_limit, x_pending, zs_H x_state 30, nI J, x_warm, nI r, nI W, x_ring, x_kept, x_version, nI e, nI (f + 1), nI s, nI lx, nI px, nI (7 * f + (h0 + 2)), nI (7 * f), -1, x_lastResult, x_lastUsed, x_lastCalls, x_op, x_arg, x_length, x_blockLength, x_blockCost, x_blockMost, x_blockNeed, x_blockRise, x_state, x_weight, x_journalCell, x_journalOld, x_mailTo, x_mailFrom, x_mailAmount, x_mailArg, x_oldCell, x_oldValue, x_oldCount, x_oldDigest, x_eventAccount, x_eventTag, x_eventValue, x_frameSelf, x_frameCaller, x_frameAmount, x_frameArg, x_frameGiven, x_frameLeft, x_framePc, x_frameSp, x_frameJournal, x_frameEvents, x_frameWarm, x_frameRefund, x_frameMails, upd (upd x_stack (7 * f + (h0 + 1)) (x_stack (7 * f + h0))) (7 * f + h0) (x_stack (7 * f + (h0 + 1)))), (x_limit, nI e, nI W, nI r, nI (f + 1), y_ended, y_answer, y_rest, x_lastCalls, y_result, y_used, y_calls, x_version, x_kept, x_op, x_arg, y_lengths, y_now, y_copies, y_older, y_before, y_warm, y_warmCopies, y_eventCopies, y_messageCopies, y_refundCopies, y_events, y_messages, y_self, y_caller, y_amounts, y_arguments, y_given, upd y_left f (nI (L - 1)), upd y_at f (nI (p + 1)), upd (upd (upd (upd y_tops f (nI (h0 + 1))) f (nI h0)) f (nI (h0 + 1))) f (nI (h0 + 2)), upd (upd y_stack (6 * f + h0) (x_stack (7 * f + (h0 + 1)))) (6 * f + (h0 + 1)) (x_stack (7 * f + h0))), zk_stk hPG hST hJR hWM hF1 hF2 hMO hFB hSS hS1 hTP hBG hML hEV hVS hMI hBF hN hS hc (by omega) (by omega) hnx, fun post hp => ?_, fun post hp => ?_⟩
  · exact xw_p15 (q := 7 * f + h0) (by omega) hp
  · rw [← ev0, ← ev1] at hp
    exact YA post (yw_242m hf (by omega) (by omega) (yw_s15 hf (by omega) et hp))
theorem lk_8 (hPG : zr_PG ln x_op x_arg x_length x_blockLength x_blockCost x_blockMost x_blockNeed x_blockRise y_lengths) (hST : zr_ST x_state x_weight y_now) (hJR : zr_JR J x_journalCell x_journalOld x_state B jn (f + 1) y_copies) (hWM : zr_WM x_warm y_warm) (hF1 : zr_F1 (f + 1) sf gv x_frameSelf y_self x_frameCaller y_caller x_frameAmount y_amounts x_frameArg y_arguments x_frameGiven y_given) (hF2 : zr_F2 (f + 1) jn ml x_frameEvents y_eventCopies x_frameMails y_messageCopies x_frameRefund y_refundCopies x_frameJournal x_frameWarm y_warmCopies) (hMO : zr_MO (f + 1) ml W) (hFB : zr_FB f ln sf gv kk hh pp x_frameLeft y_left x_framePc y_at x_frameSp) (hSS : zr_SS f hh x_stack y_tops y_stack) (hS1 : zr_S1 f h x_stack y_tops y_stack) (hTP : zr_TP f s p L ln sf y_left y_at) (hBG : zr_BG N G J0 J W L h f r kk hh gv jn) (hML : zr_ML x_mailTo x_mailFrom x_mailAmount x_mailArg y_messages) (hEV : zr_EV e x_eventAccount x_eventTag x_eventValue y_events) (hVS : zr_VS B x_ring x_kept x_oldCell x_oldValue x_oldCount x_oldDigest y_older) (hMI : zr_MI x_limit x_pending (y_lengths 6)) (hBF : zr_BF B y_before) {N' : Nat} (hN : N = N' + 1) (eo : zb_o x_op (24 * s + p) = 8) (hnx : p + 1 < ln s) (htk : zc_tk 8 ≤ h) (had : h - zc_tk 8 + zc_ad 8 ≤ 6) (hc : zc_cst 8 + zc_cc 8 (x_warm.toBitVec.getLsbD (4 * s + zq_q (x_arg (24 * s + p)))) ≤ L) (hcx : zc_cc 8 (x_warm.toBitVec.getLsbD (4 * s + zq_q (x_arg (24 * s + p)))) ≤ lx) (hlx : 8 = 22 → lx = L - 1) : ∃ (u' : SX) (v' : SY), zr_R y_result x_op x_arg ln B N' G J0 (lx - zc_cc 8 (x_warm.toBitVec.getLsbD (4 * s + zq_q (x_arg (24 * s + p))))) px s (p + 1) (h - zc_tk 8 + zc_ad 8) (L - (zc_cst 8 + zc_cc 8 (x_warm.toBitVec.getLsbD (4 * s + zq_q (x_arg (24 * s + p)))))) u' v' ∧ (∀ post : SX → Prop, post u' → wpX_plain post (x_limit, x_pending, zs_H x_state 30, nI J, x_warm, nI r, nI W, x_ring, x_kept, x_version, nI e, nI (f + 1), nI s, nI lx, nI px, nI (7 * f + h), nI (7 * f), -1, x_lastResult, x_lastUsed, x_lastCalls, x_op, x_arg, x_length, x_blockLength, x_blockCost, x_blockMost, x_blockNeed, x_blockRise, x_state, x_weight, x_journalCell, x_journalOld, x_mailTo, x_mailFrom, x_mailAmount, x_mailArg, x_oldCell, x_oldValue, x_oldCount, x_oldDigest, x_eventAccount, x_eventTag, x_eventValue, x_frameSelf, x_frameCaller, x_frameAmount, x_frameArg, x_frameGiven, x_frameLeft, x_framePc, x_frameSp, x_frameJournal, x_frameEvents, x_frameWarm, x_frameRefund, x_frameMails, x_stack) (nI 8) (x_arg (24 * s + p))) ∧ (∀ post : SY → Prop, post v' → wpY_step post (x_limit, nI e, nI W, nI r, nI (f + 1), y_ended, y_answer, y_rest, x_lastCalls, y_result, y_used, y_calls, x_version, x_kept, x_op, x_arg, y_lengths, y_now, y_copies, y_older, y_before, y_warm, y_warmCopies, y_eventCopies, y_messageCopies, y_refundCopies, y_events, y_messages, y_self, y_caller, y_amounts, y_arguments, y_given, y_left, y_at, y_tops, y_stack)) := by
  have YA : ∀ post : SY → Prop, wY_step_242 post (nI f) (nI (24 * s + p)) (nI 8) (nI (4 * s + zq_q (x_arg (24 * s + p)))) (nI (p + 1)) 0 x_limit (nI e) (nI W) (nI r) (nI (f + 1)) y_ended y_answer y_rest x_lastCalls y_result y_used y_calls x_version x_kept x_op x_arg y_lengths y_now y_copies y_older y_before y_warm y_warmCopies y_eventCopies y_messageCopies y_refundCopies y_events y_messages y_self y_caller y_amounts y_arguments y_given (upd y_left f (nI (L - (zc_cst 8 + zc_cc 8 (x_warm.toBitVec.getLsbD (4 * s + zq_q (x_arg (24 * s + p)))))))) y_at y_tops y_stack → wpY_step post (x_limit, nI e, nI W, nI r, nI (f + 1), y_ended, y_answer, y_rest, x_lastCalls, y_result, y_used, y_calls, x_version, x_kept, x_op, x_arg, y_lengths, y_now, y_copies, y_older, y_before, y_warm, y_warmCopies, y_eventCopies, y_messageCopies, y_refundCopies, y_events, y_messages, y_self, y_caller, y_amounts, y_arguments, y_given, y_left, y_at, y_tops, y_stack) := fun post hp => yk_A hPG hST hJR hWM hF1 hF2 hMO hFB hSS hS1 hTP hBG hML hEV hVS hMI hBF eo (by decide) (by decide) (by decide) (by decide) hnx htk had hc hp
  obtain ⟨hf, hs, hp24, es, ep, el, et, hln, hln24, hL, hh6, hw, eop, ho, hpl, _⟩ := zk_un hPG hST hJR hWM hF1 hF2 hMO hFB hSS hS1 hTP hBG hML hEV hVS hMI hBF
  have hA : 24 * s + p < 168 := by omega
  have hq4 := zq_lt (x_arg (24 * s + p))
  obtain ⟨h0, rfl⟩ : ∃ h0, h = h0 + 2 := ⟨h - 2, by have : zc_tk 8 = 2 := rfl; omega⟩
  have eh : h0 + 2 - zc_tk 8 + zc_ad 8 = h0 + 1 := by show h0 + 2 - 2 + 1 = h0 + 1; omega
  rw [eh] at had ⊢
  have ec : zc_cst 8 + zc_cc 8 (x_warm.toBitVec.getLsbD (4 * s + zq_q (x_arg (24 * s + p)))) = 1 := rfl
  have ex : lx - zc_cc 8 (x_warm.toBitVec.getLsbD (4 * s + zq_q (x_arg (24 * s + p)))) = lx := rfl
  rw [ec] at hc ⊢
  rw [ex]
  have ev0 := hS1.2.2 h0 (by omega)
  have ev1 := hS1.2.2 (h0 + 1) (by omega)
  refine ⟨(x_limit, x_pending, zs_H x_state 30, nI J, x_warm, nI r, nI W, x_ring, x_kept, x_version, nI e, nI (f + 1), nI s, nI lx, nI px, nI (7 * f + (h0 + 1)), nI (7 * f), -1, x_lastResult, x_lastUsed, x_lastCalls, x_op, x_arg, x_length, x_blockLength, x_blockCost, x_blockMost, x_blockNeed, x_blockRise, x_state, x_weight, x_journalCell, x_journalOld, x_mailTo, x_mailFrom, x_mailAmount, x_mailArg, x_oldCell, x_oldValue, x_oldCount, x_oldDigest, x_eventAccount, x_eventTag, x_eventValue, x_frameSelf, x_frameCaller, x_frameAmount, x_frameArg, x_frameGiven, x_frameLeft, x_framePc, x_frameSp, x_frameJournal, x_frameEvents, x_frameWarm, x_frameRefund, x_frameMails, upd x_stack (7 * f + h0) (zo_bin 8 (x_stack (7 * f + h0)) (x_stack (7 * f + (h0 + 1))))), (x_limit, nI e, nI W, nI r, nI (f + 1), y_ended, y_answer, y_rest, x_lastCalls, y_result, y_used, y_calls, x_version, x_kept, x_op, x_arg, y_lengths, y_now, y_copies, y_older, y_before, y_warm, y_warmCopies, y_eventCopies, y_messageCopies, y_refundCopies, y_events, y_messages, y_self, y_caller, y_amounts, y_arguments, y_given, upd y_left f (nI (L - 1)), upd y_at f (nI (p + 1)), upd (upd (upd y_tops f (nI (h0 + 1))) f (nI h0)) f (nI (h0 + 1)), upd y_stack (6 * f + h0) (zo_bin 8 (x_stack (7 * f + h0)) (x_stack (7 * f + (h0 + 1))))), zk_stk hPG hST hJR hWM hF1 hF2 hMO hFB hSS hS1 hTP hBG hML hEV hVS hMI hBF hN (zl_push (zl_pop (zl_pop ⟨hSS, hS1⟩)) (by omega)) hc (by omega) (by omega) hnx, fun post hp => ?_, fun post hp => ?_⟩
  · exact xw_p8 (q := 7 * f + h0) (by omega) hp
  · rw [← ev0, ← ev1] at hp
    exact YA post (yw_242m hf (by omega) (by omega) (yw_sb hf (by omega) (by omega) (by omega) et hp))
theorem lk_9 (hPG : zr_PG ln x_op x_arg x_length x_blockLength x_blockCost x_blockMost x_blockNeed x_blockRise y_lengths) (hST : zr_ST x_state x_weight y_now) (hJR : zr_JR J x_journalCell x_journalOld x_state B jn (f + 1) y_copies) (hWM : zr_WM x_warm y_warm) (hF1 : zr_F1 (f + 1) sf gv x_frameSelf y_self x_frameCaller y_caller x_frameAmount y_amounts x_frameArg y_arguments x_frameGiven y_given) (hF2 : zr_F2 (f + 1) jn ml x_frameEvents y_eventCopies x_frameMails y_messageCopies x_frameRefund y_refundCopies x_frameJournal x_frameWarm y_warmCopies) (hMO : zr_MO (f + 1) ml W) (hFB : zr_FB f ln sf gv kk hh pp x_frameLeft y_left x_framePc y_at x_frameSp) (hSS : zr_SS f hh x_stack y_tops y_stack) (hS1 : zr_S1 f h x_stack y_tops y_stack) (hTP : zr_TP f s p L ln sf y_left y_at) (hBG : zr_BG N G J0 J W L h f r kk hh gv jn) (hML : zr_ML x_mailTo x_mailFrom x_mailAmount x_mailArg y_messages) (hEV : zr_EV e x_eventAccount x_eventTag x_eventValue y_events) (hVS : zr_VS B x_ring x_kept x_oldCell x_oldValue x_oldCount x_oldDigest y_older) (hMI : zr_MI x_limit x_pending (y_lengths 6)) (hBF : zr_BF B y_before) {N' : Nat} (hN : N = N' + 1) (eo : zb_o x_op (24 * s + p) = 9) (hnx : p + 1 < ln s) (htk : zc_tk 9 ≤ h) (had : h - zc_tk 9 + zc_ad 9 ≤ 6) (hc : zc_cst 9 + zc_cc 9 (x_warm.toBitVec.getLsbD (4 * s + zq_q (x_arg (24 * s + p)))) ≤ L) (hcx : zc_cc 9 (x_warm.toBitVec.getLsbD (4 * s + zq_q (x_arg (24 * s + p)))) ≤ lx) (hlx : 9 = 22 → lx = L - 1) : ∃ (u' : SX) (v' : SY), zr_R y_result x_op x_arg ln B N' G J0 (lx - zc_cc 9 (x_warm.toBitVec.getLsbD (4 * s + zq_q (x_arg (24 * s + p))))) px s (p + 1) (h - zc_tk 9 + zc_ad 9) (L - (zc_cst 9 + zc_cc 9 (x_warm.toBitVec.getLsbD (4 * s + zq_q (x_arg (24 * s + p)))))) u' v' ∧ (∀ post : SX → Prop, post u' → wpX_plain post (x_limit, x_pending, zs_H x_state 30, nI J, x_warm, nI r, nI W, x_ring, x_kept, x_version, nI e, nI (f + 1), nI s, nI lx, nI px, nI (7 * f + h), nI (7 * f), -1, x_lastResult, x_lastUsed, x_lastCalls, x_op, x_arg, x_length, x_blockLength, x_blockCost, x_blockMost, x_blockNeed, x_blockRise, x_state, x_weight, x_journalCell, x_journalOld, x_mailTo, x_mailFrom, x_mailAmount, x_mailArg, x_oldCell, x_oldValue, x_oldCount, x_oldDigest, x_eventAccount, x_eventTag, x_eventValue, x_frameSelf, x_frameCaller, x_frameAmount, x_frameArg, x_frameGiven, x_frameLeft, x_framePc, x_frameSp, x_frameJournal, x_frameEvents, x_frameWarm, x_frameRefund, x_frameMails, x_stack) (nI 9) (x_arg (24 * s + p))) ∧ (∀ post : SY → Prop, post v' → wpY_step post (x_limit, nI e, nI W, nI r, nI (f + 1), y_ended, y_answer, y_rest, x_lastCalls, y_result, y_used, y_calls, x_version, x_kept, x_op, x_arg, y_lengths, y_now, y_copies, y_older, y_before, y_warm, y_warmCopies, y_eventCopies, y_messageCopies, y_refundCopies, y_events, y_messages, y_self, y_caller, y_amounts, y_arguments, y_given, y_left, y_at, y_tops, y_stack)) := by
  have YA : ∀ post : SY → Prop, wY_step_242 post (nI f) (nI (24 * s + p)) (nI 9) (nI (4 * s + zq_q (x_arg (24 * s + p)))) (nI (p + 1)) 0 x_limit (nI e) (nI W) (nI r) (nI (f + 1)) y_ended y_answer y_rest x_lastCalls y_result y_used y_calls x_version x_kept x_op x_arg y_lengths y_now y_copies y_older y_before y_warm y_warmCopies y_eventCopies y_messageCopies y_refundCopies y_events y_messages y_self y_caller y_amounts y_arguments y_given (upd y_left f (nI (L - (zc_cst 9 + zc_cc 9 (x_warm.toBitVec.getLsbD (4 * s + zq_q (x_arg (24 * s + p)))))))) y_at y_tops y_stack → wpY_step post (x_limit, nI e, nI W, nI r, nI (f + 1), y_ended, y_answer, y_rest, x_lastCalls, y_result, y_used, y_calls, x_version, x_kept, x_op, x_arg, y_lengths, y_now, y_copies, y_older, y_before, y_warm, y_warmCopies, y_eventCopies, y_messageCopies, y_refundCopies, y_events, y_messages, y_self, y_caller, y_amounts, y_arguments, y_given, y_left, y_at, y_tops, y_stack) := fun post hp => yk_A hPG hST hJR hWM hF1 hF2 hMO hFB hSS hS1 hTP hBG hML hEV hVS hMI hBF eo (by decide) (by decide) (by decide) (by decide) hnx htk had hc hp
  obtain ⟨hf, hs, hp24, es, ep, el, et, hln, hln24, hL, hh6, hw, eop, ho, hpl, _⟩ := zk_un hPG hST hJR hWM hF1 hF2 hMO hFB hSS hS1 hTP hBG hML hEV hVS hMI hBF
  have hA : 24 * s + p < 168 := by omega
  have hq4 := zq_lt (x_arg (24 * s + p))
  obtain ⟨h0, rfl⟩ : ∃ h0, h = h0 + 2 := ⟨h - 2, by have : zc_tk 9 = 2 := rfl; omega⟩
  have eh : h0 + 2 - zc_tk 9 + zc_ad 9 = h0 + 1 := by show h0 + 2 - 2 + 1 = h0 + 1; omega
  rw [eh] at had ⊢
  have ec : zc_cst 9 + zc_cc 9 (x_warm.toBitVec.getLsbD (4 * s + zq_q (x_arg (24 * s + p)))) = 1 := rfl
  have ex : lx - zc_cc 9 (x_warm.toBitVec.getLsbD (4 * s + zq_q (x_arg (24 * s + p)))) = lx := rfl
  rw [ec] at hc ⊢
  rw [ex]
  have ev0 := hS1.2.2 h0 (by omega)
  have ev1 := hS1.2.2 (h0 + 1) (by omega)
  refine ⟨(x_limit, x_pending, zs_H x_state 30, nI J, x_warm, nI r, nI W, x_ring, x_kept, x_version, nI e, nI (f + 1), nI s, nI lx, nI px, nI (7 * f + (h0 + 1)), nI (7 * f), -1, x_lastResult, x_lastUsed, x_lastCalls, x_op, x_arg, x_length, x_blockLength, x_blockCost, x_blockMost, x_blockNeed, x_blockRise, x_state, x_weight, x_journalCell, x_journalOld, x_mailTo, x_mailFrom, x_mailAmount, x_mailArg, x_oldCell, x_oldValue, x_oldCount, x_oldDigest, x_eventAccount, x_eventTag, x_eventValue, x_frameSelf, x_frameCaller, x_frameAmount, x_frameArg, x_frameGiven, x_frameLeft, x_framePc, x_frameSp, x_frameJournal, x_frameEvents, x_frameWarm, x_frameRefund, x_frameMails, upd x_stack (7 * f + h0) (zo_bin 9 (x_stack (7 * f + h0)) (x_stack (7 * f + (h0 + 1))))), (x_limit, nI e, nI W, nI r, nI (f + 1), y_ended, y_answer, y_rest, x_lastCalls, y_result, y_used, y_calls, x_version, x_kept, x_op, x_arg, y_lengths, y_now, y_copies, y_older, y_before, y_warm, y_warmCopies, y_eventCopies, y_messageCopies, y_refundCopies, y_events, y_messages, y_self, y_caller, y_amounts, y_arguments, y_given, upd y_left f (nI (L - 1)), upd y_at f (nI (p + 1)), upd (upd (upd y_tops f (nI (h0 + 1))) f (nI h0)) f (nI (h0 + 1)), upd y_stack (6 * f + h0) (zo_bin 9 (x_stack (7 * f + h0)) (x_stack (7 * f + (h0 + 1))))), zk_stk hPG hST hJR hWM hF1 hF2 hMO hFB hSS hS1 hTP hBG hML hEV hVS hMI hBF hN (zl_push (zl_pop (zl_pop ⟨hSS, hS1⟩)) (by omega)) hc (by omega) (by omega) hnx, fun post hp => ?_, fun post hp => ?_⟩
  · exact xw_p9 (q := 7 * f + h0) (by omega) hp
  · rw [← ev0, ← ev1] at hp
    exact YA post (yw_242m hf (by omega) (by omega) (yw_sb hf (by omega) (by omega) (by omega) et hp))
theorem lk_10 (hPG : zr_PG ln x_op x_arg x_length x_blockLength x_blockCost x_blockMost x_blockNeed x_blockRise y_lengths) (hST : zr_ST x_state x_weight y_now) (hJR : zr_JR J x_journalCell x_journalOld x_state B jn (f + 1) y_copies) (hWM : zr_WM x_warm y_warm) (hF1 : zr_F1 (f + 1) sf gv x_frameSelf y_self x_frameCaller y_caller x_frameAmount y_amounts x_frameArg y_arguments x_frameGiven y_given) (hF2 : zr_F2 (f + 1) jn ml x_frameEvents y_eventCopies x_frameMails y_messageCopies x_frameRefund y_refundCopies x_frameJournal x_frameWarm y_warmCopies) (hMO : zr_MO (f + 1) ml W) (hFB : zr_FB f ln sf gv kk hh pp x_frameLeft y_left x_framePc y_at x_frameSp) (hSS : zr_SS f hh x_stack y_tops y_stack) (hS1 : zr_S1 f h x_stack y_tops y_stack) (hTP : zr_TP f s p L ln sf y_left y_at) (hBG : zr_BG N G J0 J W L h f r kk hh gv jn) (hML : zr_ML x_mailTo x_mailFrom x_mailAmount x_mailArg y_messages) (hEV : zr_EV e x_eventAccount x_eventTag x_eventValue y_events) (hVS : zr_VS B x_ring x_kept x_oldCell x_oldValue x_oldCount x_oldDigest y_older) (hMI : zr_MI x_limit x_pending (y_lengths 6)) (hBF : zr_BF B y_before) {N' : Nat} (hN : N = N' + 1) (eo : zb_o x_op (24 * s + p) = 10) (hnx : p + 1 < ln s) (htk : zc_tk 10 ≤ h) (had : h - zc_tk 10 + zc_ad 10 ≤ 6) (hc : zc_cst 10 + zc_cc 10 (x_warm.toBitVec.getLsbD (4 * s + zq_q (x_arg (24 * s + p)))) ≤ L) (hcx : zc_cc 10 (x_warm.toBitVec.getLsbD (4 * s + zq_q (x_arg (24 * s + p)))) ≤ lx) (hlx : 10 = 22 → lx = L - 1) : ∃ (u' : SX) (v' : SY), zr_R y_result x_op x_arg ln B N' G J0 (lx - zc_cc 10 (x_warm.toBitVec.getLsbD (4 * s + zq_q (x_arg (24 * s + p))))) px s (p + 1) (h - zc_tk 10 + zc_ad 10) (L - (zc_cst 10 + zc_cc 10 (x_warm.toBitVec.getLsbD (4 * s + zq_q (x_arg (24 * s + p)))))) u' v' ∧ (∀ post : SX → Prop, post u' → wpX_plain post (x_limit, x_pending, zs_H x_state 30, nI J, x_warm, nI r, nI W, x_ring, x_kept, x_version, nI e, nI (f + 1), nI s, nI lx, nI px, nI (7 * f + h), nI (7 * f), -1, x_lastResult, x_lastUsed, x_lastCalls, x_op, x_arg, x_length, x_blockLength, x_blockCost, x_blockMost, x_blockNeed, x_blockRise, x_state, x_weight, x_journalCell, x_journalOld, x_mailTo, x_mailFrom, x_mailAmount, x_mailArg, x_oldCell, x_oldValue, x_oldCount, x_oldDigest, x_eventAccount, x_eventTag, x_eventValue, x_frameSelf, x_frameCaller, x_frameAmount, x_frameArg, x_frameGiven, x_frameLeft, x_framePc, x_frameSp, x_frameJournal, x_frameEvents, x_frameWarm, x_frameRefund, x_frameMails, x_stack) (nI 10) (x_arg (24 * s + p))) ∧ (∀ post : SY → Prop, post v' → wpY_step post (x_limit, nI e, nI W, nI r, nI (f + 1), y_ended, y_answer, y_rest, x_lastCalls, y_result, y_used, y_calls, x_version, x_kept, x_op, x_arg, y_lengths, y_now, y_copies, y_older, y_before, y_warm, y_warmCopies, y_eventCopies, y_messageCopies, y_refundCopies, y_events, y_messages, y_self, y_caller, y_amounts, y_arguments, y_given, y_left, y_at, y_tops, y_stack)) := by
  have YA : ∀ post : SY → Prop, wY_step_242 post (nI f) (nI (24 * s + p)) (nI 10) (nI (4 * s + zq_q (x_arg (24 * s + p)))) (nI (p + 1)) 0 x_limit (nI e) (nI W) (nI r) (nI (f + 1)) y_ended y_answer y_rest x_lastCalls y_result y_used y_calls x_version x_kept x_op x_arg y_lengths y_now y_copies y_older y_before y_warm y_warmCopies y_eventCopies y_messageCopies y_refundCopies y_events y_messages y_self y_caller y_amounts y_arguments y_given (upd y_left f (nI (L - (zc_cst 10 + zc_cc 10 (x_warm.toBitVec.getLsbD (4 * s + zq_q (x_arg (24 * s + p)))))))) y_at y_tops y_stack → wpY_step post (x_limit, nI e, nI W, nI r, nI (f + 1), y_ended, y_answer, y_rest, x_lastCalls, y_result, y_used, y_calls, x_version, x_kept, x_op, x_arg, y_lengths, y_now, y_copies, y_older, y_before, y_warm, y_warmCopies, y_eventCopies, y_messageCopies, y_refundCopies, y_events, y_messages, y_self, y_caller, y_amounts, y_arguments, y_given, y_left, y_at, y_tops, y_stack) := fun post hp => yk_A hPG hST hJR hWM hF1 hF2 hMO hFB hSS hS1 hTP hBG hML hEV hVS hMI hBF eo (by decide) (by decide) (by decide) (by decide) hnx htk had hc hp
  obtain ⟨hf, hs, hp24, es, ep, el, et, hln, hln24, hL, hh6, hw, eop, ho, hpl, _⟩ := zk_un hPG hST hJR hWM hF1 hF2 hMO hFB hSS hS1 hTP hBG hML hEV hVS hMI hBF
  have hA : 24 * s + p < 168 := by omega
  have hq4 := zq_lt (x_arg (24 * s + p))
  obtain ⟨h0, rfl⟩ : ∃ h0, h = h0 + 2 := ⟨h - 2, by have : zc_tk 10 = 2 := rfl; omega⟩
  have eh : h0 + 2 - zc_tk 10 + zc_ad 10 = h0 + 1 := by show h0 + 2 - 2 + 1 = h0 + 1; omega
  rw [eh] at had ⊢
  have ec : zc_cst 10 + zc_cc 10 (x_warm.toBitVec.getLsbD (4 * s + zq_q (x_arg (24 * s + p)))) = 1 := rfl
  have ex : lx - zc_cc 10 (x_warm.toBitVec.getLsbD (4 * s + zq_q (x_arg (24 * s + p)))) = lx := rfl
  rw [ec] at hc ⊢
  rw [ex]
  have ev0 := hS1.2.2 h0 (by omega)
  have ev1 := hS1.2.2 (h0 + 1) (by omega)
  refine ⟨(x_limit, x_pending, zs_H x_state 30, nI J, x_warm, nI r, nI W, x_ring, x_kept, x_version, nI e, nI (f + 1), nI s, nI lx, nI px, nI (7 * f + (h0 + 1)), nI (7 * f), -1, x_lastResult, x_lastUsed, x_lastCalls, x_op, x_arg, x_length, x_blockLength, x_blockCost, x_blockMost, x_blockNeed, x_blockRise, x_state, x_weight, x_journalCell, x_journalOld, x_mailTo, x_mailFrom, x_mailAmount, x_mailArg, x_oldCell, x_oldValue, x_oldCount, x_oldDigest, x_eventAccount, x_eventTag, x_eventValue, x_frameSelf, x_frameCaller, x_frameAmount, x_frameArg, x_frameGiven, x_frameLeft, x_framePc, x_frameSp, x_frameJournal, x_frameEvents, x_frameWarm, x_frameRefund, x_frameMails, upd x_stack (7 * f + h0) (zo_bin 10 (x_stack (7 * f + h0)) (x_stack (7 * f + (h0 + 1))))), (x_limit, nI e, nI W, nI r, nI (f + 1), y_ended, y_answer, y_rest, x_lastCalls, y_result, y_used, y_calls, x_version, x_kept, x_op, x_arg, y_lengths, y_now, y_copies, y_older, y_before, y_warm, y_warmCopies, y_eventCopies, y_messageCopies, y_refundCopies, y_events, y_messages, y_self, y_caller, y_amounts, y_arguments, y_given, upd y_left f (nI (L - 1)), upd y_at f (nI (p + 1)), upd (upd (upd y_tops f (nI (h0 + 1))) f (nI h0)) f (nI (h0 + 1)), upd y_stack (6 * f + h0) (zo_bin 10 (x_stack (7 * f + h0)) (x_stack (7 * f + (h0 + 1))))), zk_stk hPG hST hJR hWM hF1 hF2 hMO hFB hSS hS1 hTP hBG hML hEV hVS hMI hBF hN (zl_push (zl_pop (zl_pop ⟨hSS, hS1⟩)) (by omega)) hc (by omega) (by omega) hnx, fun post hp => ?_, fun post hp => ?_⟩
  · exact xw_p10 (q := 7 * f + h0) (by omega) hp
  · rw [← ev0, ← ev1] at hp
    exact YA post (yw_242m hf (by omega) (by omega) (yw_sb hf (by omega) (by omega) (by omega) et hp))
theorem lk_11 (hPG : zr_PG ln x_op x_arg x_length x_blockLength x_blockCost x_blockMost x_blockNeed x_blockRise y_lengths) (hST : zr_ST x_state x_weight y_now) (hJR : zr_JR J x_journalCell x_journalOld x_state B jn (f + 1) y_copies) (hWM : zr_WM x_warm y_warm) (hF1 : zr_F1 (f + 1) sf gv x_frameSelf y_self x_frameCaller y_caller x_frameAmount y_amounts x_frameArg y_arguments x_frameGiven y_given) (hF2 : zr_F2 (f + 1) jn ml x_frameEvents y_eventCopies x_frameMails y_messageCopies x_frameRefund y_refundCopies x_frameJournal x_frameWarm y_warmCopies) (hMO : zr_MO (f + 1) ml W) (hFB : zr_FB f ln sf gv kk hh pp x_frameLeft y_left x_framePc y_at x_frameSp) (hSS : zr_SS f hh x_stack y_tops y_stack) (hS1 : zr_S1 f h x_stack y_tops y_stack) (hTP : zr_TP f s p L ln sf y_left y_at) (hBG : zr_BG N G J0 J W L h f r kk hh gv jn) (hML : zr_ML x_mailTo x_mailFrom x_mailAmount x_mailArg y_messages) (hEV : zr_EV e x_eventAccount x_eventTag x_eventValue y_events) (hVS : zr_VS B x_ring x_kept x_oldCell x_oldValue x_oldCount x_oldDigest y_older) (hMI : zr_MI x_limit x_pending (y_lengths 6)) (hBF : zr_BF B y_before) {N' : Nat} (hN : N = N' + 1) (eo : zb_o x_op (24 * s + p) = 11) (hnx : p + 1 < ln s) (htk : zc_tk 11 ≤ h) (had : h - zc_tk 11 + zc_ad 11 ≤ 6) (hc : zc_cst 11 + zc_cc 11 (x_warm.toBitVec.getLsbD (4 * s + zq_q (x_arg (24 * s + p)))) ≤ L) (hcx : zc_cc 11 (x_warm.toBitVec.getLsbD (4 * s + zq_q (x_arg (24 * s + p)))) ≤ lx) (hlx : 11 = 22 → lx = L - 1) : ∃ (u' : SX) (v' : SY), zr_R y_result x_op x_arg ln B N' G J0 (lx - zc_cc 11 (x_warm.toBitVec.getLsbD (4 * s + zq_q (x_arg (24 * s + p))))) px s (p + 1) (h - zc_tk 11 + zc_ad 11) (L - (zc_cst 11 + zc_cc 11 (x_warm.toBitVec.getLsbD (4 * s + zq_q (x_arg (24 * s + p)))))) u' v' ∧ (∀ post : SX → Prop, post u' → wpX_plain post (x_limit, x_pending, zs_H x_state 30, nI J, x_warm, nI r, nI W, x_ring, x_kept, x_version, nI e, nI (f + 1), nI s, nI lx, nI px, nI (7 * f + h), nI (7 * f), -1, x_lastResult, x_lastUsed, x_lastCalls, x_op, x_arg, x_length, x_blockLength, x_blockCost, x_blockMost, x_blockNeed, x_blockRise, x_state, x_weight, x_journalCell, x_journalOld, x_mailTo, x_mailFrom, x_mailAmount, x_mailArg, x_oldCell, x_oldValue, x_oldCount, x_oldDigest, x_eventAccount, x_eventTag, x_eventValue, x_frameSelf, x_frameCaller, x_frameAmount, x_frameArg, x_frameGiven, x_frameLeft, x_framePc, x_frameSp, x_frameJournal, x_frameEvents, x_frameWarm, x_frameRefund, x_frameMails, x_stack) (nI 11) (x_arg (24 * s + p))) ∧ (∀ post : SY → Prop, post v' → wpY_step post (x_limit, nI e, nI W, nI r, nI (f + 1), y_ended, y_answer, y_rest, x_lastCalls, y_result, y_used, y_calls, x_version, x_kept, x_op, x_arg, y_lengths, y_now, y_copies, y_older, y_before, y_warm, y_warmCopies, y_eventCopies, y_messageCopies, y_refundCopies, y_events, y_messages, y_self, y_caller, y_amounts, y_arguments, y_given, y_left, y_at, y_tops, y_stack)) := by
  have YA : ∀ post : SY → Prop, wY_step_242 post (nI f) (nI (24 * s + p)) (nI 11) (nI (4 * s + zq_q (x_arg (24 * s + p)))) (nI (p + 1)) 0 x_limit (nI e) (nI W) (nI r) (nI (f + 1)) y_ended y_answer y_rest x_lastCalls y_result y_used y_calls x_version x_kept x_op x_arg y_lengths y_now y_copies y_older y_before y_warm y_warmCopies y_eventCopies y_messageCopies y_refundCopies y_events y_messages y_self y_caller y_amounts y_arguments y_given (upd y_left f (nI (L - (zc_cst 11 + zc_cc 11 (x_warm.toBitVec.getLsbD (4 * s + zq_q (x_arg (24 * s + p)))))))) y_at y_tops y_stack → wpY_step post (x_limit, nI e, nI W, nI r, nI (f + 1), y_ended, y_answer, y_rest, x_lastCalls, y_result, y_used, y_calls, x_version, x_kept, x_op, x_arg, y_lengths, y_now, y_copies, y_older, y_before, y_warm, y_warmCopies, y_eventCopies, y_messageCopies, y_refundCopies, y_events, y_messages, y_self, y_caller, y_amounts, y_arguments, y_given, y_left, y_at, y_tops, y_stack) := fun post hp => yk_A hPG hST hJR hWM hF1 hF2 hMO hFB hSS hS1 hTP hBG hML hEV hVS hMI hBF eo (by decide) (by decide) (by decide) (by decide) hnx htk had hc hp
  obtain ⟨hf, hs, hp24, es, ep, el, et, hln, hln24, hL, hh6, hw, eop, ho, hpl, _⟩ := zk_un hPG hST hJR hWM hF1 hF2 hMO hFB hSS hS1 hTP hBG hML hEV hVS hMI hBF
  have hA : 24 * s + p < 168 := by omega
  have hq4 := zq_lt (x_arg (24 * s + p))
  obtain ⟨h0, rfl⟩ : ∃ h0, h = h0 + 2 := ⟨h - 2, by have : zc_tk 11 = 2 := rfl; omega⟩
  have eh : h0 + 2 - zc_tk 11 + zc_ad 11 = h0 + 1 := by show h0 + 2 - 2 + 1 = h0 + 1; omega
  rw [eh] at had ⊢
  have ec : zc_cst 11 + zc_cc 11 (x_warm.toBitVec.getLsbD (4 * s + zq_q (x_arg (24 * s + p)))) = 1 := rfl
  have ex : lx - zc_cc 11 (x_warm.toBitVec.getLsbD (4 * s + zq_q (x_arg (24 * s + p)))) = lx := rfl
  rw [ec] at hc ⊢
  rw [ex]
  have ev0 := hS1.2.2 h0 (by omega)
  have ev1 := hS1.2.2 (h0 + 1) (by omega)
  refine ⟨(x_limit, x_pending, zs_H x_state 30, nI J, x_warm, nI r, nI W, x_ring, x_kept, x_version, nI e, nI (f + 1), nI s, nI lx, nI px, nI (7 * f + (h0 + 1)), nI (7 * f), -1, x_lastResult, x_lastUsed, x_lastCalls, x_op, x_arg, x_length, x_blockLength, x_blockCost, x_blockMost, x_blockNeed, x_blockRise, x_state, x_weight, x_journalCell, x_journalOld, x_mailTo, x_mailFrom, x_mailAmount, x_mailArg, x_oldCell, x_oldValue, x_oldCount, x_oldDigest, x_eventAccount, x_eventTag, x_eventValue, x_frameSelf, x_frameCaller, x_frameAmount, x_frameArg, x_frameGiven, x_frameLeft, x_framePc, x_frameSp, x_frameJournal, x_frameEvents, x_frameWarm, x_frameRefund, x_frameMails, upd x_stack (7 * f + h0) (zo_bin 11 (x_stack (7 * f + h0)) (x_stack (7 * f + (h0 + 1))))), (x_limit, nI e, nI W, nI r, nI (f + 1), y_ended, y_answer, y_rest, x_lastCalls, y_result, y_used, y_calls, x_version, x_kept, x_op, x_arg, y_lengths, y_now, y_copies, y_older, y_before, y_warm, y_warmCopies, y_eventCopies, y_messageCopies, y_refundCopies, y_events, y_messages, y_self, y_caller, y_amounts, y_arguments, y_given, upd y_left f (nI (L - 1)), upd y_at f (nI (p + 1)), upd (upd (upd y_tops f (nI (h0 + 1))) f (nI h0)) f (nI (h0 + 1)), upd y_stack (6 * f + h0) (zo_bin 11 (x_stack (7 * f + h0)) (x_stack (7 * f + (h0 + 1))))), zk_stk hPG hST hJR hWM hF1 hF2 hMO hFB hSS hS1 hTP hBG hML hEV hVS hMI hBF hN (zl_push (zl_pop (zl_pop ⟨hSS, hS1⟩)) (by omega)) hc (by omega) (by omega) hnx, fun post hp => ?_, fun post hp => ?_⟩
  · exact xw_p11 (q := 7 * f + h0) (by omega) hp
  · rw [← ev0, ← ev1] at hp
    exact YA post (yw_242m hf (by omega) (by omega) (yw_sb hf (by omega) (by omega) (by omega) et hp))
theorem lk_12 (hPG : zr_PG ln x_op x_arg x_length x_blockLength x_blockCost x_blockMost x_blockNeed x_blockRise y_lengths) (hST : zr_ST x_state x_weight y_now) (hJR : zr_JR J x_journalCell x_journalOld x_state B jn (f + 1) y_copies) (hWM : zr_WM x_warm y_warm) (hF1 : zr_F1 (f + 1) sf gv x_frameSelf y_self x_frameCaller y_caller x_frameAmount y_amounts x_frameArg y_arguments x_frameGiven y_given) (hF2 : zr_F2 (f + 1) jn ml x_frameEvents y_eventCopies x_frameMails y_messageCopies x_frameRefund y_refundCopies x_frameJournal x_frameWarm y_warmCopies) (hMO : zr_MO (f + 1) ml W) (hFB : zr_FB f ln sf gv kk hh pp x_frameLeft y_left x_framePc y_at x_frameSp) (hSS : zr_SS f hh x_stack y_tops y_stack) (hS1 : zr_S1 f h x_stack y_tops y_stack) (hTP : zr_TP f s p L ln sf y_left y_at) (hBG : zr_BG N G J0 J W L h f r kk hh gv jn) (hML : zr_ML x_mailTo x_mailFrom x_mailAmount x_mailArg y_messages) (hEV : zr_EV e x_eventAccount x_eventTag x_eventValue y_events) (hVS : zr_VS B x_ring x_kept x_oldCell x_oldValue x_oldCount x_oldDigest y_older) (hMI : zr_MI x_limit x_pending (y_lengths 6)) (hBF : zr_BF B y_before) {N' : Nat} (hN : N = N' + 1) (eo : zb_o x_op (24 * s + p) = 12) (hnx : p + 1 < ln s) (htk : zc_tk 12 ≤ h) (had : h - zc_tk 12 + zc_ad 12 ≤ 6) (hc : zc_cst 12 + zc_cc 12 (x_warm.toBitVec.getLsbD (4 * s + zq_q (x_arg (24 * s + p)))) ≤ L) (hcx : zc_cc 12 (x_warm.toBitVec.getLsbD (4 * s + zq_q (x_arg (24 * s + p)))) ≤ lx) (hlx : 12 = 22 → lx = L - 1) : ∃ (u' : SX) (v' : SY), zr_R y_result x_op x_arg ln B N' G J0 (lx - zc_cc 12 (x_warm.toBitVec.getLsbD (4 * s + zq_q (x_arg (24 * s + p))))) px s (p + 1) (h - zc_tk 12 + zc_ad 12) (L - (zc_cst 12 + zc_cc 12 (x_warm.toBitVec.getLsbD (4 * s + zq_q (x_arg (24 * s + p)))))) u' v' ∧ (∀ post : SX → Prop, post u' → wpX_plain post (x_limit, x_pending, zs_H x_state 30, nI J, x_warm, nI r, nI W, x_ring, x_kept, x_version, nI e, nI (f + 1), nI s, nI lx, nI px, nI (7 * f + h), nI (7 * f), -1, x_lastResult, x_lastUsed, x_lastCalls, x_op, x_arg, x_length, x_blockLength, x_blockCost, x_blockMost, x_blockNeed, x_blockRise, x_state, x_weight, x_journalCell, x_journalOld, x_mailTo, x_mailFrom, x_mailAmount, x_mailArg, x_oldCell, x_oldValue, x_oldCount, x_oldDigest, x_eventAccount, x_eventTag, x_eventValue, x_frameSelf, x_frameCaller, x_frameAmount, x_frameArg, x_frameGiven, x_frameLeft, x_framePc, x_frameSp, x_frameJournal, x_frameEvents, x_frameWarm, x_frameRefund, x_frameMails, x_stack) (nI 12) (x_arg (24 * s + p))) ∧ (∀ post : SY → Prop, post v' → wpY_step post (x_limit, nI e, nI W, nI r, nI (f + 1), y_ended, y_answer, y_rest, x_lastCalls, y_result, y_used, y_calls, x_version, x_kept, x_op, x_arg, y_lengths, y_now, y_copies, y_older, y_before, y_warm, y_warmCopies, y_eventCopies, y_messageCopies, y_refundCopies, y_events, y_messages, y_self, y_caller, y_amounts, y_arguments, y_given, y_left, y_at, y_tops, y_stack)) := by
  have YA : ∀ post : SY → Prop, wY_step_242 post (nI f) (nI (24 * s + p)) (nI 12) (nI (4 * s + zq_q (x_arg (24 * s + p)))) (nI (p + 1)) 0 x_limit (nI e) (nI W) (nI r) (nI (f + 1)) y_ended y_answer y_rest x_lastCalls y_result y_used y_calls x_version x_kept x_op x_arg y_lengths y_now y_copies y_older y_before y_warm y_warmCopies y_eventCopies y_messageCopies y_refundCopies y_events y_messages y_self y_caller y_amounts y_arguments y_given (upd y_left f (nI (L - (zc_cst 12 + zc_cc 12 (x_warm.toBitVec.getLsbD (4 * s + zq_q (x_arg (24 * s + p)))))))) y_at y_tops y_stack → wpY_step post (x_limit, nI e, nI W, nI r, nI (f + 1), y_ended, y_answer, y_rest, x_lastCalls, y_result, y_used, y_calls, x_version, x_kept, x_op, x_arg, y_lengths, y_now, y_copies, y_older, y_before, y_warm, y_warmCopies, y_eventCopies, y_messageCopies, y_refundCopies, y_events, y_messages, y_self, y_caller, y_amounts, y_arguments, y_given, y_left, y_at, y_tops, y_stack) := fun post hp => yk_A hPG hST hJR hWM hF1 hF2 hMO hFB hSS hS1 hTP hBG hML hEV hVS hMI hBF eo (by decide) (by decide) (by decide) (by decide) hnx htk had hc hp
  obtain ⟨hf, hs, hp24, es, ep, el, et, hln, hln24, hL, hh6, hw, eop, ho, hpl, _⟩ := zk_un hPG hST hJR hWM hF1 hF2 hMO hFB hSS hS1 hTP hBG hML hEV hVS hMI hBF
  have hA : 24 * s + p < 168 := by omega
  have hq4 := zq_lt (x_arg (24 * s + p))
  obtain ⟨h0, rfl⟩ : ∃ h0, h = h0 + 2 := ⟨h - 2, by have : zc_tk 12 = 2 := rfl; omega⟩
  have eh : h0 + 2 - zc_tk 12 + zc_ad 12 = h0 + 1 := by show h0 + 2 - 2 + 1 = h0 + 1; omega
  rw [eh] at had ⊢
  have ec : zc_cst 12 + zc_cc 12 (x_warm.toBitVec.getLsbD (4 * s + zq_q (x_arg (24 * s + p)))) = 1 := rfl
  have ex : lx - zc_cc 12 (x_warm.toBitVec.getLsbD (4 * s + zq_q (x_arg (24 * s + p)))) = lx := rfl
  rw [ec] at hc ⊢
  rw [ex]
  have ev0 := hS1.2.2 h0 (by omega)
  have ev1 := hS1.2.2 (h0 + 1) (by omega)
  refine ⟨(x_limit, x_pending, zs_H x_state 30, nI J, x_warm, nI r, nI W, x_ring, x_kept, x_version, nI e, nI (f + 1), nI s, nI lx, nI px, nI (7 * f + (h0 + 1)), nI (7 * f), -1, x_lastResult, x_lastUsed, x_lastCalls, x_op, x_arg, x_length, x_blockLength, x_blockCost, x_blockMost, x_blockNeed, x_blockRise, x_state, x_weight, x_journalCell, x_journalOld, x_mailTo, x_mailFrom, x_mailAmount, x_mailArg, x_oldCell, x_oldValue, x_oldCount, x_oldDigest, x_eventAccount, x_eventTag, x_eventValue, x_frameSelf, x_frameCaller, x_frameAmount, x_frameArg, x_frameGiven, x_frameLeft, x_framePc, x_frameSp, x_frameJournal, x_frameEvents, x_frameWarm, x_frameRefund, x_frameMails, upd x_stack (7 * f + h0) (zo_bin 12 (x_stack (7 * f + h0)) (x_stack (7 * f + (h0 + 1))))), (x_limit, nI e, nI W, nI r, nI (f + 1), y_ended, y_answer, y_rest, x_lastCalls, y_result, y_used, y_calls, x_version, x_kept, x_op, x_arg, y_lengths, y_now, y_copies, y_older, y_before, y_warm, y_warmCopies, y_eventCopies, y_messageCopies, y_refundCopies, y_events, y_messages, y_self, y_caller, y_amounts, y_arguments, y_given, upd y_left f (nI (L - 1)), upd y_at f (nI (p + 1)), upd (upd (upd y_tops f (nI (h0 + 1))) f (nI h0)) f (nI (h0 + 1)), upd y_stack (6 * f + h0) (zo_bin 12 (x_stack (7 * f + h0)) (x_stack (7 * f + (h0 + 1))))), zk_stk hPG hST hJR hWM hF1 hF2 hMO hFB hSS hS1 hTP hBG hML hEV hVS hMI hBF hN (zl_push (zl_pop (zl_pop ⟨hSS, hS1⟩)) (by omega)) hc (by omega) (by omega) hnx, fun post hp => ?_, fun post hp => ?_⟩
  · exact xw_p12 (q := 7 * f + h0) (by omega) hp
  · rw [← ev0, ← ev1] at hp
    exact YA post (yw_242m hf (by omega) (by omega) (yw_sb hf (by omega) (by omega) (by omega) et hp))

end
end
section
/-! the instructions that touch more than the stack -/
theorem zl_EV {e s : Nat} {xa xt xv ev : Nat → Int32} {b x : Int32} (h : zr_EV e xa xt xv ev) (he : e < 20) : zr_EV (e + 1) (upd xa e (nI s)) (upd xt e b) (upd xv e x) (upd (upd (upd ev (3 * e) (nI s)) (3 * e + 1) b) (3 * e + 2) x) := by
  refine ⟨by omega, fun k hk => ?_⟩
  by_cases z : k = e
  · subst z
    rw [pk_us, pk_us, pk_us, pk_us, pk_un (by omega), pk_un (by omega), pk_us, pk_un (by omega), pk_us]
    exact ⟨rfl, rfl, rfl⟩
  · rw [pk_un z, pk_un z, pk_un z, pk_un (by omega), pk_un (by omega), pk_un (by omega), pk_un (by omega), pk_un (by omega), pk_un (by omega), pk_un (by omega), pk_un (by omega), pk_un (by omega)]
    exact h.2 k hk
theorem zl_ML {W a s : Nat} {to fr am ar msg : Nat → Int32} {x y : Int32} (h : zr_ML to fr am ar msg) (ha : a < 6) (hs : s < 6) : zr_ML (upd to W (nI a)) (upd fr W (nI s)) (upd am W x) (upd ar W y) (upd (upd (upd (upd msg (4 * W) (nI a)) (4 * W + 1) x) (4 * W + 2) y) (4 * W + 3) (nI s)) := by
  intro k hk
  by_cases z : k = W
  · subst z
    rw [pk_us, pk_us, pk_us, pk_us, pk_us, pk_un (by omega), pk_un (by omega), pk_un (by omega), pk_us, pk_un (by omega), pk_un (by omega), pk_us, pk_un (by omega), pk_us]
    exact ⟨⟨a, ha, rfl, rfl⟩, rfl, rfl, ⟨s, hs, rfl, rfl⟩⟩
  · rw [pk_un z, pk_un z, pk_un z, pk_un z, pk_un (by omega), pk_un (by omega), pk_un (by omega), pk_un (by omega), pk_un (by omega), pk_un (by omega), pk_un (by omega), pk_un (by omega), pk_un (by omega), pk_un (by omega), pk_un (by omega), pk_un (by omega), pk_un (by omega), pk_un (by omega), pk_un (by omega), pk_un (by omega)]
    exact h k hk
theorem zl_MOw {d W : Nat} {ml : Nat → Nat} (h : zr_MO d ml W) : zr_MO d ml (W + 1) := ⟨fun g hg => Nat.le_succ_of_le (h.1 g hg), h.2⟩
section
variable {x_limit x_pending x_journal x_refund x_mails x_ring x_kept x_version x_events x_depth x_self x_left x_pc x_sp x_base x_lastStatus x_lastResult x_lastUsed x_lastCalls : Int32} {x_digest x_warm : Int64} {x_op x_arg x_length x_blockLength x_blockCost x_blockMost x_blockNeed x_blockRise x_state x_journalCell x_journalOld x_mailTo x_mailFrom x_mailAmount x_mailArg x_oldCell x_oldValue x_oldCount x_eventAccount x_eventTag x_eventValue x_frameSelf x_frameCaller x_frameAmount x_frameArg x_frameGiven x_frameLeft x_framePc x_frameSp x_frameJournal x_frameEvents x_frameRefund x_frameMails x_stack : Nat → Int32} {x_weight x_oldDigest x_frameWarm : Nat → Int64}
variable {y_limit y_eventCount y_waiting y_refund y_depth y_ended y_answer y_rest y_begun y_result y_used y_calls y_version y_kept : Int32} {y_ops y_bs y_lengths y_now y_copies y_older y_before y_warm y_warmCopies y_eventCopies y_messageCopies y_refundCopies y_events y_messages y_self y_caller y_amounts y_arguments y_given y_left y_at y_tops y_stack : Nat → Int32}
variable {N G J0 lx px s p h L f J W e r : Nat} {ln sf gv jn ml kk hh pp : Nat → Nat} {B : Nat → Int32}
theorem lk_5 (hPG : zr_PG ln x_op x_arg x_length x_blockLength x_blockCost x_blockMost x_blockNeed x_blockRise y_lengths) (hST : zr_ST x_state x_weight y_now) (hJR : zr_JR J x_journalCell x_journalOld x_state B jn (f + 1) y_copies) (hWM : zr_WM x_warm y_warm) (hF1 : zr_F1 (f + 1) sf gv x_frameSelf y_self x_frameCaller y_caller x_frameAmount y_amounts x_frameArg y_arguments x_frameGiven y_given) (hF2 : zr_F2 (f + 1) jn ml x_frameEvents y_eventCopies x_frameMails y_messageCopies x_frameRefund y_refundCopies x_frameJournal x_frameWarm y_warmCopies) (hMO : zr_MO (f + 1) ml W) (hFB : zr_FB f ln sf gv kk hh pp x_frameLeft y_left x_framePc y_at x_frameSp) (hSS : zr_SS f hh x_stack y_tops y_stack) (hS1 : zr_S1 f h x_stack y_tops y_stack) (hTP : zr_TP f s p L ln sf y_left y_at) (hBG : zr_BG N G J0 J W L h f r kk hh gv jn) (hML : zr_ML x_mailTo x_mailFrom x_mailAmount x_mailArg y_messages) (hEV : zr_EV e x_eventAccount x_eventTag x_eventValue y_events) (hVS : zr_VS B x_ring x_kept x_oldCell x_oldValue x_oldCount x_oldDigest y_older) (hMI : zr_MI x_limit x_pending (y_lengths 6)) (hBF : zr_BF B y_before) {N' : Nat} (hN : N = N' + 1) (eo : zb_o x_op (24 * s + p) = 5) (hnx : p + 1 < ln s) (htk : zc_tk 5 ≤ h) (had : h - zc_tk 5 + zc_ad 5 ≤ 6) (hc : zc_cst 5 + zc_cc 5 (x_warm.toBitVec.getLsbD (4 * s + zq_q (x_arg (24 * s + p)))) ≤ L) (hcx : zc_cc 5 (x_warm.toBitVec.getLsbD (4 * s + zq_q (x_arg (24 * s + p)))) ≤ lx) (hlx : 5 = 22 → lx = L - 1) : ∃ (u' : SX) (v' : SY), zr_R y_result x_op x_arg ln B N' G J0 (lx - zc_cc 5 (x_warm.toBitVec.getLsbD (4 * s + zq_q (x_arg (24 * s + p))))) px s (p + 1) (h - zc_tk 5 + zc_ad 5) (L - (zc_cst 5 + zc_cc 5 (x_warm.toBitVec.getLsbD (4 * s + zq_q (x_arg (24 * s + p)))))) u' v' ∧ (∀ post : SX → Prop, post u' → wpX_plain post (x_limit, x_pending, zs_H x_state 30, nI J, x_warm, nI r, nI W, x_ring, x_kept, x_version, nI e, nI (f + 1), nI s, nI lx, nI px, nI (7 * f + h), nI (7 * f), -1, x_lastResult, x_lastUsed, x_lastCalls, x_op, x_arg, x_length, x_blockLength, x_blockCost, x_blockMost, x_blockNeed, x_blockRise, x_state, x_weight, x_journalCell, x_journalOld, x_mailTo, x_mailFrom, x_mailAmount, x_mailArg, x_oldCell, x_oldValue, x_oldCount, x_oldDigest, x_eventAccount, x_eventTag, x_eventValue, x_frameSelf, x_frameCaller, x_frameAmount, x_frameArg, x_frameGiven, x_frameLeft, x_framePc, x_frameSp, x_frameJournal, x_frameEvents, x_frameWarm, x_frameRefund, x_frameMails, x_stack) (nI 5) (x_arg (24 * s + p))) ∧ (∀ post : SY → Prop, post v' → wpY_step post (x_limit, nI e, nI W, nI r, nI (f + 1), y_ended, y_answer, y_rest, x_lastCalls, y_result, y_used, y_calls, x_version, x_kept, x_op, x_arg, y_lengths, y_now, y_copies, y_older, y_before, y_warm, y_warmCopies, y_eventCopies, y_messageCopies, y_refundCopies, y_events, y_messages, y_self, y_caller, y_amounts, y_arguments, y_given, y_left, y_at, y_tops, y_stack)) := by
  have YA : ∀ post : SY → Prop, wY_step_242 post (nI f) (nI (24 * s + p)) (nI 5) (nI (4 * s + zq_q (x_arg (24 * s + p)))) (nI (p + 1)) 0 x_limit (nI e) (nI W) (nI r) (nI (f + 1)) y_ended y_answer y_rest x_lastCalls y_result y_used y_calls x_version x_kept x_op x_arg y_lengths y_now y_copies y_older y_before y_warm y_warmCopies y_eventCopies y_messageCopies y_refundCopies y_events y_messages y_self y_caller y_amounts y_arguments y_given (upd y_left f (nI (L - (zc_cst 5 + zc_cc 5 (x_warm.toBitVec.getLsbD (4 * s + zq_q (x_arg (24 * s + p)))))))) y_at y_tops y_stack → wpY_step post (x_limit, nI e, nI W, nI r, nI (f + 1), y_ended, y_answer, y_rest, x_lastCalls, y_result, y_used, y_calls, x_version, x_kept, x_op, x_arg, y_lengths, y_now, y_copies, y_older, y_before, y_warm, y_warmCopies, y_eventCopies, y_messageCopies, y_refundCopies, y_events, y_messages, y_self, y_caller, y_amounts, y_arguments, y_given, y_left, y_at, y_tops, y_stack) := fun post hp => yk_A hPG hST hJR hWM hF1 hF2 hMO hFB hSS hS1 hTP hBG hML hEV hVS hMI hBF eo (by decide) (by decide) (by decide) (by decide) hnx htk had hc hp
  obtain ⟨hf, hs, hp24, es, ep, el, et, hln, hln24, hL, hh6, hw, eop, ho, hpl, _⟩ := zk_un hPG hST hJR hWM hF1 hF2 hMO hFB hSS hS1 hTP hBG hML hEV hVS hMI hBF
  have hA : 24 * s + p < 168 := by omega
  have hq4 := zq_lt (x_arg (24 * s + p))
  obtain ⟨h0, rfl⟩ : ∃ h0, h = h0 + 1 := ⟨h - 1, by have : zc_tk 5 = 1 := rfl; omega⟩
  have eh : h0 + 1 - zc_tk 5 + zc_ad 5 = h0 + 1 := by show h0 + 1 - 1 + 1 = h0 + 1; omega
  rw [eh] at had ⊢
  have ec : zc_cst 5 + zc_cc 5 (x_warm.toBitVec.getLsbD (4 * s + zq_q (x_arg (24 * s + p)))) = 3 := rfl
  have ex : lx - zc_cc 5 (x_warm.toBitVec.getLsbD (4 * s + zq_q (x_arg (24 * s + p)))) = lx := rfl
  rw [ec] at hc ⊢
  rw [ex]
  have ev := hS1.2.2 h0 (by omega)
  have hN30 := hST.2.2
  rcases pk_ix (x_stack (7 * f + h0)) (n := 6) (by omega) with hz | hz | ⟨a, ha, ea⟩
  · refine ⟨(x_limit, x_pending, zs_H x_state 30, nI J, x_warm, nI r, nI W, x_ring, x_kept, x_version, nI e, nI (f + 1), nI s, nI lx, nI px, nI (7 * f + (h0 + 1)), nI (7 * f), -1, x_lastResult, x_lastUsed, x_lastCalls, x_op, x_arg, x_length, x_blockLength, x_blockCost, x_blockMost, x_blockNeed, x_blockRise, x_state, x_weight, x_journalCell, x_journalOld, x_mailTo, x_mailFrom, x_mailAmount, x_mailArg, x_oldCell, x_oldValue, x_oldCount, x_oldDigest, x_eventAccount, x_eventTag, x_eventValue, x_frameSelf, x_frameCaller, x_frameAmount, x_frameArg, x_frameGiven, x_frameLeft, x_framePc, x_frameSp, x_frameJournal, x_frameEvents, x_frameWarm, x_frameRefund, x_frameMails, upd x_stack (7 * f + h0) 0), (x_limit, nI e, nI W, nI r, nI (f + 1), y_ended, y_answer, y_rest, x_lastCalls, y_result, y_used, y_calls, x_version, x_kept, x_op, x_arg, y_lengths, y_now, y_copies, y_older, y_before, y_warm, y_warmCopies, y_eventCopies, y_messageCopies, y_refundCopies, y_events, y_messages, y_self, y_caller, y_amounts, y_arguments, y_given, upd y_left f (nI (L - 3)), upd y_at f (nI (p + 1)), upd (upd y_tops f (nI h0)) f (nI (h0 + 1)), upd y_stack (6 * f + h0) 0), zk_stk hPG hST hJR hWM hF1 hF2 hMO hFB hSS hS1 hTP hBG hML hEV hVS hMI hBF hN (zl_push (zl_pop ⟨hSS, hS1⟩) (by omega)) hc (by omega) (by omega) hnx, fun post hp => ?_, fun post hp => ?_⟩
    · refine xw_p5 (q := 7 * f + h0) hf (by omega) (fun a ha ea => ?_) (fun _ => hp)
      exfalso
      rw [ea] at hz
      exact nI_pos (by omega) hz
    · refine YA post (yw_242s hf hA (by omega) (yw_m5 hf (by omega) et (fun a ha ea => ?_) (fun _ => hp)))
      exfalso
      rw [ev] at ea
      rw [ea] at hz
      exact nI_pos (by omega) hz
  · refine ⟨(x_limit, x_pending, zs_H x_state 30, nI J, x_warm, nI r, nI W, x_ring, x_kept, x_version, nI e, nI (f + 1), nI s, nI lx, nI px, nI (7 * f + (h0 + 1)), nI (7 * f), -1, x_lastResult, x_lastUsed, x_lastCalls, x_op, x_arg, x_length, x_blockLength, x_blockCost, x_blockMost, x_blockNeed, x_blockRise, x_state, x_weight, x_journalCell, x_journalOld, x_mailTo, x_mailFrom, x_mailAmount, x_mailArg, x_oldCell, x_oldValue, x_oldCount, x_oldDigest, x_eventAccount, x_eventTag, x_eventValue, x_frameSelf, x_frameCaller, x_frameAmount, x_frameArg, x_frameGiven, x_frameLeft, x_framePc, x_frameSp, x_frameJournal, x_frameEvents, x_frameWarm, x_frameRefund, x_frameMails, upd x_stack (7 * f + h0) 0), (x_limit, nI e, nI W, nI r, nI (f + 1), y_ended, y_answer, y_rest, x_lastCalls, y_result, y_used, y_calls, x_version, x_kept, x_op, x_arg, y_lengths, y_now, y_copies, y_older, y_before, y_warm, y_warmCopies, y_eventCopies, y_messageCopies, y_refundCopies, y_events, y_messages, y_self, y_caller, y_amounts, y_arguments, y_given, upd y_left f (nI (L - 3)), upd y_at f (nI (p + 1)), upd (upd y_tops f (nI h0)) f (nI (h0 + 1)), upd y_stack (6 * f + h0) 0), zk_stk hPG hST hJR hWM hF1 hF2 hMO hFB hSS hS1 hTP hBG hML hEV hVS hMI hBF hN (zl_push (zl_pop ⟨hSS, hS1⟩) (by omega)) hc (by omega) (by omega) hnx, fun post hp => ?_, fun post hp => ?_⟩
    · refine xw_p5 (q := 7 * f + h0) hf (by omega) (fun a ha ea => ?_) (fun _ => hp)
      exfalso
      rw [ea] at hz
      exact nI_ge ha (by omega) hz
    · refine YA post (yw_242s hf hA (by omega) (yw_m5 hf (by omega) et (fun a ha ea => ?_) (fun _ => hp)))
      exfalso
      rw [ev] at ea
      rw [ea] at hz
      exact nI_ge ha (by omega) hz
  · refine ⟨(x_limit, x_pending, zs_H x_state 30, nI J, x_warm, nI r, nI W, x_ring, x_kept, x_version, nI e, nI (f + 1), nI s, nI lx, nI px, nI (7 * f + (h0 + 1)), nI (7 * f), -1, x_lastResult, x_lastUsed, x_lastCalls, x_op, x_arg, x_length, x_blockLength, x_blockCost, x_blockMost, x_blockNeed, x_blockRise, x_state, x_weight, x_journalCell, x_journalOld, x_mailTo, x_mailFrom, x_mailAmount, x_mailArg, x_oldCell, x_oldValue, x_oldCount, x_oldDigest, x_eventAccount, x_eventTag, x_eventValue, x_frameSelf, x_frameCaller, x_frameAmount, x_frameArg, x_frameGiven, x_frameLeft, x_framePc, x_frameSp, x_frameJournal, x_frameEvents, x_frameWarm, x_frameRefund, x_frameMails, upd x_stack (7 * f + h0) (x_state (5 * a))), (x_limit, nI e, nI W, nI r, nI (f + 1), y_ended, y_answer, y_rest, x_lastCalls, y_result, y_used, y_calls, x_version, x_kept, x_op, x_arg, y_lengths, y_now, y_copies, y_older, y_before, y_warm, y_warmCopies, y_eventCopies, y_messageCopies, y_refundCopies, y_events, y_messages, y_self, y_caller, y_amounts, y_arguments, y_given, upd y_left f (nI (L - 3)), upd y_at f (nI (p + 1)), upd (upd y_tops f (nI h0)) f (nI (h0 + 1)), upd y_stack (6 * f + h0) (x_state (5 * a))), zk_stk hPG hST hJR hWM hF1 hF2 hMO hFB hSS hS1 hTP hBG hML hEV hVS hMI hBF hN (zl_push (zl_pop ⟨hSS, hS1⟩) (by omega)) hc (by omega) (by omega) hnx, fun post hp => ?_, fun post hp => ?_⟩
    · refine xw_p5 (q := 7 * f + h0) hf (by omega) (fun a' ha' ea' => ?_) (fun hz => ?_)
      · rw [ea] at ea'
        have := (nI_eq (by omega) (by omega)).mp ea'
        subst this
        exact hp
      · exfalso
        rw [ea] at hz
        rcases hz with hz | hz
        · exact nI_pos (by omega) hz
        · exact nI_ge (b := 6) ha (by omega) hz
    · refine YA post (yw_242s hf hA (by omega) (yw_m5 hf (by omega) et (fun a' ha' ea' => ?_) (fun hz => ?_)))
      · rw [ev, ea] at ea'
        have := (nI_eq (by omega) (by omega)).mp ea'
        subst this
        have e4 : y_now (5 * a + 4) = x_state (5 * a) := by rw [hN30 _ (by omega), zs_px_b]
        rw [e4]
        exact hp
      · exfalso
        rw [ev, ea] at hz
        rcases hz with hz | hz
        · exact nI_pos (by omega) hz
        · exact nI_ge (b := 6) ha (by omega) hz
theorem lk_6 (hPG : zr_PG ln x_op x_arg x_length x_blockLength x_blockCost x_blockMost x_blockNeed x_blockRise y_lengths) (hST : zr_ST x_state x_weight y_now) (hJR : zr_JR J x_journalCell x_journalOld x_state B jn (f + 1) y_copies) (hWM : zr_WM x_warm y_warm) (hF1 : zr_F1 (f + 1) sf gv x_frameSelf y_self x_frameCaller y_caller x_frameAmount y_amounts x_frameArg y_arguments x_frameGiven y_given) (hF2 : zr_F2 (f + 1) jn ml x_frameEvents y_eventCopies x_frameMails y_messageCopies x_frameRefund y_refundCopies x_frameJournal x_frameWarm y_warmCopies) (hMO : zr_MO (f + 1) ml W) (hFB : zr_FB f ln sf gv kk hh pp x_frameLeft y_left x_framePc y_at x_frameSp) (hSS : zr_SS f hh x_stack y_tops y_stack) (hS1 : zr_S1 f h x_stack y_tops y_stack) (hTP : zr_TP f s p L ln sf y_left y_at) (hBG : zr_BG N G J0 J W L h f r kk hh gv jn) (hML : zr_ML x_mailTo x_mailFrom x_mailAmount x_mailArg y_messages) (hEV : zr_EV e x_eventAccount x_eventTag x_eventValue y_events) (hVS : zr_VS B x_ring x_kept x_oldCell x_oldValue x_oldCount x_oldDigest y_older) (hMI : zr_MI x_limit x_pending (y_lengths 6)) (hBF : zr_BF B y_before) {N' : Nat} (hN : N = N' + 1) (eo : zb_o x_op (24 * s + p) = 6) (hnx : p + 1 < ln s) (htk : zc_tk 6 ≤ h) (had : h - zc_tk 6 + zc_ad 6 ≤ 6) (hc : zc_cst 6 + zc_cc 6 (x_warm.toBitVec.getLsbD (4 * s + zq_q (x_arg (24 * s + p)))) ≤ L) (hcx : zc_cc 6 (x_warm.toBitVec.getLsbD (4 * s + zq_q (x_arg (24 * s + p)))) ≤ lx) (hlx : 6 = 22 → lx = L - 1) : ∃ (u' : SX) (v' : SY), zr_R y_result x_op x_arg ln B N' G J0 (lx - zc_cc 6 (x_warm.toBitVec.getLsbD (4 * s + zq_q (x_arg (24 * s + p))))) px s (p + 1) (h - zc_tk 6 + zc_ad 6) (L - (zc_cst 6 + zc_cc 6 (x_warm.toBitVec.getLsbD (4 * s + zq_q (x_arg (24 * s + p)))))) u' v' ∧ (∀ post : SX → Prop, post u' → wpX_plain post (x_limit, x_pending, zs_H x_state 30, nI J, x_warm, nI r, nI W, x_ring, x_kept, x_version, nI e, nI (f + 1), nI s, nI lx, nI px, nI (7 * f + h), nI (7 * f), -1, x_lastResult, x_lastUsed, x_lastCalls, x_op, x_arg, x_length, x_blockLength, x_blockCost, x_blockMost, x_blockNeed, x_blockRise, x_state, x_weight, x_journalCell, x_journalOld, x_mailTo, x_mailFrom, x_mailAmount, x_mailArg, x_oldCell, x_oldValue, x_oldCount, x_oldDigest, x_eventAccount, x_eventTag, x_eventValue, x_frameSelf, x_frameCaller, x_frameAmount, x_frameArg, x_frameGiven, x_frameLeft, x_framePc, x_frameSp, x_frameJournal, x_frameEvents, x_frameWarm, x_frameRefund, x_frameMails, x_stack) (nI 6) (x_arg (24 * s + p))) ∧ (∀ post : SY → Prop, post v' → wpY_step post (x_limit, nI e, nI W, nI r, nI (f + 1), y_ended, y_answer, y_rest, x_lastCalls, y_result, y_used, y_calls, x_version, x_kept, x_op, x_arg, y_lengths, y_now, y_copies, y_older, y_before, y_warm, y_warmCopies, y_eventCopies, y_messageCopies, y_refundCopies, y_events, y_messages, y_self, y_caller, y_amounts, y_arguments, y_given, y_left, y_at, y_tops, y_stack)) := by
  have YA : ∀ post : SY → Prop, wY_step_242 post (nI f) (nI (24 * s + p)) (nI 6) (nI (4 * s + zq_q (x_arg (24 * s + p)))) (nI (p + 1)) 0 x_limit (nI e) (nI W) (nI r) (nI (f + 1)) y_ended y_answer y_rest x_lastCalls y_result y_used y_calls x_version x_kept x_op x_arg y_lengths y_now y_copies y_older y_before y_warm y_warmCopies y_eventCopies y_messageCopies y_refundCopies y_events y_messages y_self y_caller y_amounts y_arguments y_given (upd y_left f (nI (L - (zc_cst 6 + zc_cc 6 (x_warm.toBitVec.getLsbD (4 * s + zq_q (x_arg (24 * s + p)))))))) y_at y_tops y_stack → wpY_step post (x_limit, nI e, nI W, nI r, nI (f + 1), y_ended, y_answer, y_rest, x_lastCalls, y_result, y_used, y_calls, x_version, x_kept, x_op, x_arg, y_lengths, y_now, y_copies, y_older, y_before, y_warm, y_warmCopies, y_eventCopies, y_messageCopies, y_refundCopies, y_events, y_messages, y_self, y_caller, y_amounts, y_arguments, y_given, y_left, y_at, y_tops, y_stack) := fun post hp => yk_A hPG hST hJR hWM hF1 hF2 hMO hFB hSS hS1 hTP hBG hML hEV hVS hMI hBF eo (by decide) (by decide) (by decide) (by decide) hnx htk had hc hp
  obtain ⟨hf, hs, hp24, es, ep, el, et, hln, hln24, hL, hh6, hw, eop, ho, hpl, _⟩ := zk_un hPG hST hJR hWM hF1 hF2 hMO hFB hSS hS1 hTP hBG hML hEV hVS hMI hBF
  have hA : 24 * s + p < 168 := by omega
  have hq4 := zq_lt (x_arg (24 * s + p))
  have eh : h - zc_tk 6 + zc_ad 6 = h + 1 := rfl
  rw [eh] at had ⊢
  have hce : 2 ≤ zc_cst 6 + zc_cc 6 (x_warm.toBitVec.getLsbD (4 * s + zq_q (x_arg (24 * s + p)))) := by cases (x_warm.toBitVec.getLsbD (4 * s + zq_q (x_arg (24 * s + p)))) <;> decide
  have hN30 := hST.2.2
  have e4 : y_now (5 * s + zq_q (x_arg (24 * s + p))) = x_state (5 * s + 1 + zq_q (x_arg (24 * s + p))) := by rw [hN30 _ (by omega), zs_px_c hq4]
  have hS := zl_push (v := x_state (5 * s + 1 + zq_q (x_arg (24 * s + p)))) ⟨hSS, hS1⟩ (by omega)
  refine ⟨(x_limit, x_pending, zs_H x_state 30, nI J, x_warm ||| ((1 : Int64) <<< ((nI (4 * s + zq_q (x_arg (24 * s + p)))).toInt64 &&& 63)), nI r, nI W, x_ring, x_kept, x_version, nI e, nI (f + 1), nI s, nI (lx - zc_cc 6 (x_warm.toBitVec.getLsbD (4 * s + zq_q (x_arg (24 * s + p))))), nI px, nI (7 * f + (h + 1)), nI (7 * f), -1, x_lastResult, x_lastUsed, x_lastCalls, x_op, x_arg, x_length, x_blockLength, x_blockCost, x_blockMost, x_blockNeed, x_blockRise, x_state, x_weight, x_journalCell, x_journalOld, x_mailTo, x_mailFrom, x_mailAmount, x_mailArg, x_oldCell, x_oldValue, x_oldCount, x_oldDigest, x_eventAccount, x_eventTag, x_eventValue, x_frameSelf, x_frameCaller, x_frameAmount, x_frameArg, x_frameGiven, x_frameLeft, x_framePc, x_frameSp, x_frameJournal, x_frameEvents, x_frameWarm, x_frameRefund, x_frameMails, upd x_stack (7 * f + h) (x_state (5 * s + 1 + zq_q (x_arg (24 * s + p))))), (x_limit, nI e, nI W, nI r, nI (f + 1), y_ended, y_answer, y_rest, x_lastCalls, y_result, y_used, y_calls, x_version, x_kept, x_op, x_arg, y_lengths, y_now, y_copies, y_older, y_before, upd y_warm (4 * s + zq_q (x_arg (24 * s + p))) 1, y_warmCopies, y_eventCopies, y_messageCopies, y_refundCopies, y_events, y_messages, y_self, y_caller, y_amounts, y_arguments, y_given, upd y_left f (nI (L - (zc_cst 6 + zc_cc 6 (x_warm.toBitVec.getLsbD (4 * s + zq_q (x_arg (24 * s + p))))))), upd y_at f (nI (p + 1)), upd y_tops f (nI (h + 1)), upd y_stack (6 * f + h) (x_state (5 * s + 1 + zq_q (x_arg (24 * s + p))))), zr_R_mk hPG hST hJR (zw_set hWM (by omega)) hF1 hF2 hMO (zl_FB (k := 0) hFB) hS.1 hS.2 (zl_TP hTP hnx) ?_ hML hEV hVS hMI hBF, fun post hp => ?_, fun post hp => ?_⟩
  · obtain ⟨b1, b2, b3, b4, b5, b6, b7, b8, b9⟩ := hBG
    exact ⟨by omega, by omega, by omega, b4, b5, b6, b7, b8, by omega⟩
  · exact xw_p6 (xw_useCell6 (q := 7 * f + h) hs rfl (by omega) hcx hp)
  · refine YA post (yw_242s hf hA (by omega) (yw_m6 hf hs (by omega) (by omega) es et ?_))
    rw [e4]
    exact hp
theorem lk_7 (hPG : zr_PG ln x_op x_arg x_length x_blockLength x_blockCost x_blockMost x_blockNeed x_blockRise y_lengths) (hST : zr_ST x_state x_weight y_now) (hJR : zr_JR J x_journalCell x_journalOld x_state B jn (f + 1) y_copies) (hWM : zr_WM x_warm y_warm) (hF1 : zr_F1 (f + 1) sf gv x_frameSelf y_self x_frameCaller y_caller x_frameAmount y_amounts x_frameArg y_arguments x_frameGiven y_given) (hF2 : zr_F2 (f + 1) jn ml x_frameEvents y_eventCopies x_frameMails y_messageCopies x_frameRefund y_refundCopies x_frameJournal x_frameWarm y_warmCopies) (hMO : zr_MO (f + 1) ml W) (hFB : zr_FB f ln sf gv kk hh pp x_frameLeft y_left x_framePc y_at x_frameSp) (hSS : zr_SS f hh x_stack y_tops y_stack) (hS1 : zr_S1 f h x_stack y_tops y_stack) (hTP : zr_TP f s p L ln sf y_left y_at) (hBG : zr_BG N G J0 J W L h f r kk hh gv jn) (hML : zr_ML x_mailTo x_mailFrom x_mailAmount x_mailArg y_messages) (hEV : zr_EV e x_eventAccount x_eventTag x_eventValue y_events) (hVS : zr_VS B x_ring x_kept x_oldCell x_oldValue x_oldCount x_oldDigest y_older) (hMI : zr_MI x_limit x_pending (y_lengths 6)) (hBF : zr_BF B y_before) {N' : Nat} (hN : N = N' + 1) (eo : zb_o x_op (24 * s + p) = 7) (hnx : p + 1 < ln s) (htk : zc_tk 7 ≤ h) (had : h - zc_tk 7 + zc_ad 7 ≤ 6) (hc : zc_cst 7 + zc_cc 7 (x_warm.toBitVec.getLsbD (4 * s + zq_q (x_arg (24 * s + p)))) ≤ L) (hcx : zc_cc 7 (x_warm.toBitVec.getLsbD (4 * s + zq_q (x_arg (24 * s + p)))) ≤ lx) (hlx : 7 = 22 → lx = L - 1) : ∃ (u' : SX) (v' : SY), zr_R y_result x_op x_arg ln B N' G J0 (lx - zc_cc 7 (x_warm.toBitVec.getLsbD (4 * s + zq_q (x_arg (24 * s + p))))) px s (p + 1) (h - zc_tk 7 + zc_ad 7) (L - (zc_cst 7 + zc_cc 7 (x_warm.toBitVec.getLsbD (4 * s + zq_q (x_arg (24 * s + p)))))) u' v' ∧ (∀ post : SX → Prop, post u' → wpX_plain post (x_limit, x_pending, zs_H x_state 30, nI J, x_warm, nI r, nI W, x_ring, x_kept, x_version, nI e, nI (f + 1), nI s, nI lx, nI px, nI (7 * f + h), nI (7 * f), -1, x_lastResult, x_lastUsed, x_lastCalls, x_op, x_arg, x_length, x_blockLength, x_blockCost, x_blockMost, x_blockNeed, x_blockRise, x_state, x_weight, x_journalCell, x_journalOld, x_mailTo, x_mailFrom, x_mailAmount, x_mailArg, x_oldCell, x_oldValue, x_oldCount, x_oldDigest, x_eventAccount, x_eventTag, x_eventValue, x_frameSelf, x_frameCaller, x_frameAmount, x_frameArg, x_frameGiven, x_frameLeft, x_framePc, x_frameSp, x_frameJournal, x_frameEvents, x_frameWarm, x_frameRefund, x_frameMails, x_stack) (nI 7) (x_arg (24 * s + p))) ∧ (∀ post : SY → Prop, post v' → wpY_step post (x_limit, nI e, nI W, nI r, nI (f + 1), y_ended, y_answer, y_rest, x_lastCalls, y_result, y_used, y_calls, x_version, x_kept, x_op, x_arg, y_lengths, y_now, y_copies, y_older, y_before, y_warm, y_warmCopies, y_eventCopies, y_messageCopies, y_refundCopies, y_events, y_messages, y_self, y_caller, y_amounts, y_arguments, y_given, y_left, y_at, y_tops, y_stack)) := by
  have YA : ∀ post : SY → Prop, wY_step_242 post (nI f) (nI (24 * s + p)) (nI 7) (nI (4 * s + zq_q (x_arg (24 * s + p)))) (nI (p + 1)) 0 x_limit (nI e) (nI W) (nI r) (nI (f + 1)) y_ended y_answer y_rest x_lastCalls y_result y_used y_calls x_version x_kept x_op x_arg y_lengths y_now y_copies y_older y_before y_warm y_warmCopies y_eventCopies y_messageCopies y_refundCopies y_events y_messages y_self y_caller y_amounts y_arguments y_given (upd y_left f (nI (L - (zc_cst 7 + zc_cc 7 (x_warm.toBitVec.getLsbD (4 * s + zq_q (x_arg (24 * s + p)))))))) y_at y_tops y_stack → wpY_step post (x_limit, nI e, nI W, nI r, nI (f + 1), y_ended, y_answer, y_rest, x_lastCalls, y_result, y_used, y_calls, x_version, x_kept, x_op, x_arg, y_lengths, y_now, y_copies, y_older, y_before, y_warm, y_warmCopies, y_eventCopies, y_messageCopies, y_refundCopies, y_events, y_messages, y_self, y_caller, y_amounts, y_arguments, y_given, y_left, y_at, y_tops, y_stack) := fun post hp => yk_A hPG hST hJR hWM hF1 hF2 hMO hFB hSS hS1 hTP hBG hML hEV hVS hMI hBF eo (by decide) (by decide) (by decide) (by decide) hnx htk had hc hp
  obtain ⟨hf, hs, hp24, es, ep, el, et, hln, hln24, hL, hh6, hw, eop, ho, hpl, _⟩ := zk_un hPG hST hJR hWM hF1 hF2 hMO hFB hSS hS1 hTP hBG hML hEV hVS hMI hBF
  have hA : 24 * s + p < 168 := by omega
  have hq4 := zq_lt (x_arg (24 * s + p))
  obtain ⟨h0, rfl⟩ : ∃ h0, h = h0 + 1 := ⟨h - 1, by have : zc_tk 7 = 1 := rfl; omega⟩
  have eh : h0 + 1 - zc_tk 7 + zc_ad 7 = h0 := by show h0 + 1 - 1 + 0 = h0; omega
  rw [eh] at had ⊢
  have hce : 3 ≤ zc_cst 7 + zc_cc 7 (x_warm.toBitVec.getLsbD (4 * s + zq_q (x_arg (24 * s + p)))) := by cases (x_warm.toBitVec.getLsbD (4 * s + zq_q (x_arg (24 * s + p)))) <;> decide
  have hN30 := hST.2.2
  have e4 : y_now (5 * s + zq_q (x_arg (24 * s + p))) = x_state (5 * s + 1 + zq_q (x_arg (24 * s + p))) := by rw [hN30 _ (by omega), zs_px_c hq4]
  have ev := hS1.2.2 h0 (by omega)
  have hS := zl_pop ⟨hSS, hS1⟩
  have hrf : (if x_stack (7 * f + h0) = 0 then (if x_state (5 * s + 1 + zq_q (x_arg (24 * s + p))) = 0 then r else r + 4) else r) ≤ r + 4 := by (repeat' split) <;> omega
  have hJ : J < 160 := by obtain ⟨b1, _⟩ := hBG; omega
  refine ⟨(x_limit, x_pending, zs_H (upd x_state (5 * s + 1 + zq_q (x_arg (24 * s + p))) (x_stack (7 * f + h0))) 30, nI (J + 1), x_warm ||| ((1 : Int64) <<< ((nI (4 * s + zq_q (x_arg (24 * s + p)))).toInt64 &&& 63)), nI (if x_stack (7 * f + h0) = 0 then (if x_state (5 * s + 1 + zq_q (x_arg (24 * s + p))) = 0 then r else r + 4) else r), nI W, x_ring, x_kept, x_version, nI e, nI (f + 1), nI s, nI (lx - zc_cc 7 (x_warm.toBitVec.getLsbD (4 * s + zq_q (x_arg (24 * s + p))))), nI px, nI (7 * f + h0), nI (7 * f), -1, x_lastResult, x_lastUsed, x_lastCalls, x_op, x_arg, x_length, x_blockLength, x_blockCost, x_blockMost, x_blockNeed, x_blockRise, upd x_state (5 * s + 1 + zq_q (x_arg (24 * s + p))) (x_stack (7 * f + h0)), x_weight, upd x_journalCell J (nI (5 * s + 1 + zq_q (x_arg (24 * s + p)))), upd x_journalOld J (x_state (5 * s + 1 + zq_q (x_arg (24 * s + p)))), x_mailTo, x_mailFrom, x_mailAmount, x_mailArg, x_oldCell, x_oldValue, x_oldCount, x_oldDigest, x_eventAccount, x_eventTag, x_eventValue, x_frameSelf, x_frameCaller, x_frameAmount, x_frameArg, x_frameGiven, x_frameLeft, x_framePc, x_frameSp, x_frameJournal, x_frameEvents, x_frameWarm, x_frameRefund, x_frameMails, x_stack), (x_limit, nI e, nI W, nI (if x_stack (7 * f + h0) = 0 then (if x_state (5 * s + 1 + zq_q (x_arg (24 * s + p))) = 0 then r else r + 4) else r), nI (f + 1), y_ended, y_answer, y_rest, x_lastCalls, y_result, y_used, y_calls, x_version, x_kept, x_op, x_arg, y_lengths, upd y_now (5 * s + zq_q (x_arg (24 * s + p))) (x_stack (7 * f + h0)), y_copies, y_older, y_before, upd y_warm (4 * s + zq_q (x_arg (24 * s + p))) 1, y_warmCopies, y_eventCopies, y_messageCopies, y_refundCopies, y_events, y_messages, y_self, y_caller, y_amounts, y_arguments, y_given, upd y_left f (nI (L - (zc_cst 7 + zc_cc 7 (x_warm.toBitVec.getLsbD (4 * s + zq_q (x_arg (24 * s + p))))))), upd y_at f (nI (p + 1)), upd y_tops f (nI h0), y_stack), zr_R_mk hPG (zl_ST hST (zs_px_c hq4) (fun z => absurd z (by omega))) (zl_JR hJR hST.2.1 (by omega)) (zw_set hWM (by omega)) hF1 hF2 hMO (zl_FB (k := 0) hFB) hS.1 hS.2 (zl_TP hTP hnx) ?_ hML hEV hVS hMI hBF, fun post hp => ?_, fun post hp => ?_⟩
  · obtain ⟨b1, b2, b3, b4, b5, b6, b7, b8, b9⟩ := hBG
    exact ⟨by omega, by omega, by omega, b4, b5, b6, b7, by omega, by omega⟩
  · exact xw_p7 (xw_useCell7 (q := 7 * f + h0) hST.1 hs rfl (by omega) hJ hcx hp)
  · refine YA post (yw_242s hf hA (by omega) (yw_m7 hf hs (by omega) (by omega) es et ?_))
    rw [e4, ev]
    exact hp
theorem lk_21 (hPG : zr_PG ln x_op x_arg x_length x_blockLength x_blockCost x_blockMost x_blockNeed x_blockRise y_lengths) (hST : zr_ST x_state x_weight y_now) (hJR : zr_JR J x_journalCell x_journalOld x_state B jn (f + 1) y_copies) (hWM : zr_WM x_warm y_warm) (hF1 : zr_F1 (f + 1) sf gv x_frameSelf y_self x_frameCaller y_caller x_frameAmount y_amounts x_frameArg y_arguments x_frameGiven y_given) (hF2 : zr_F2 (f + 1) jn ml x_frameEvents y_eventCopies x_frameMails y_messageCopies x_frameRefund y_refundCopies x_frameJournal x_frameWarm y_warmCopies) (hMO : zr_MO (f + 1) ml W) (hFB : zr_FB f ln sf gv kk hh pp x_frameLeft y_left x_framePc y_at x_frameSp) (hSS : zr_SS f hh x_stack y_tops y_stack) (hS1 : zr_S1 f h x_stack y_tops y_stack) (hTP : zr_TP f s p L ln sf y_left y_at) (hBG : zr_BG N G J0 J W L h f r kk hh gv jn) (hML : zr_ML x_mailTo x_mailFrom x_mailAmount x_mailArg y_messages) (hEV : zr_EV e x_eventAccount x_eventTag x_eventValue y_events) (hVS : zr_VS B x_ring x_kept x_oldCell x_oldValue x_oldCount x_oldDigest y_older) (hMI : zr_MI x_limit x_pending (y_lengths 6)) (hBF : zr_BF B y_before) {N' : Nat} (hN : N = N' + 1) (eo : zb_o x_op (24 * s + p) = 21) (hnx : p + 1 < ln s) (htk : zc_tk 21 ≤ h) (had : h - zc_tk 21 + zc_ad 21 ≤ 6) (hc : zc_cst 21 + zc_cc 21 (x_warm.toBitVec.getLsbD (4 * s + zq_q (x_arg (24 * s + p)))) ≤ L) (hcx : zc_cc 21 (x_warm.toBitVec.getLsbD (4 * s + zq_q (x_arg (24 * s + p)))) ≤ lx) (hlx : 21 = 22 → lx = L - 1) : ∃ (u' : SX) (v' : SY), zr_R y_result x_op x_arg ln B N' G J0 (lx - zc_cc 21 (x_warm.toBitVec.getLsbD (4 * s + zq_q (x_arg (24 * s + p))))) px s (p + 1) (h - zc_tk 21 + zc_ad 21) (L - (zc_cst 21 + zc_cc 21 (x_warm.toBitVec.getLsbD (4 * s + zq_q (x_arg (24 * s + p)))))) u' v' ∧ (∀ post : SX → Prop, post u' → wpX_plain post (x_limit, x_pending, zs_H x_state 30, nI J, x_warm, nI r, nI W, x_ring, x_kept, x_version, nI e, nI (f + 1), nI s, nI lx, nI px, nI (7 * f + h), nI (7 * f), -1, x_lastResult, x_lastUsed, x_lastCalls, x_op, x_arg, x_length, x_blockLength, x_blockCost, x_blockMost, x_blockNeed, x_blockRise, x_state, x_weight, x_journalCell, x_journalOld, x_mailTo, x_mailFrom, x_mailAmount, x_mailArg, x_oldCell, x_oldValue, x_oldCount, x_oldDigest, x_eventAccount, x_eventTag, x_eventValue, x_frameSelf, x_frameCaller, x_frameAmount, x_frameArg, x_frameGiven, x_frameLeft, x_framePc, x_frameSp, x_frameJournal, x_frameEvents, x_frameWarm, x_frameRefund, x_frameMails, x_stack) (nI 21) (x_arg (24 * s + p))) ∧ (∀ post : SY → Prop, post v' → wpY_step post (x_limit, nI e, nI W, nI r, nI (f + 1), y_ended, y_answer, y_rest, x_lastCalls, y_result, y_used, y_calls, x_version, x_kept, x_op, x_arg, y_lengths, y_now, y_copies, y_older, y_before, y_warm, y_warmCopies, y_eventCopies, y_messageCopies, y_refundCopies, y_events, y_messages, y_self, y_caller, y_amounts, y_arguments, y_given, y_left, y_at, y_tops, y_stack)) := by
  have YA : ∀ post : SY → Prop, wY_step_242 post (nI f) (nI (24 * s + p)) (nI 21) (nI (4 * s + zq_q (x_arg (24 * s + p)))) (nI (p + 1)) 0 x_limit (nI e) (nI W) (nI r) (nI (f + 1)) y_ended y_answer y_rest x_lastCalls y_result y_used y_calls x_version x_kept x_op x_arg y_lengths y_now y_copies y_older y_before y_warm y_warmCopies y_eventCopies y_messageCopies y_refundCopies y_events y_messages y_self y_caller y_amounts y_arguments y_given (upd y_left f (nI (L - (zc_cst 21 + zc_cc 21 (x_warm.toBitVec.getLsbD (4 * s + zq_q (x_arg (24 * s + p)))))))) y_at y_tops y_stack → wpY_step post (x_limit, nI e, nI W, nI r, nI (f + 1), y_ended, y_answer, y_rest, x_lastCalls, y_result, y_used, y_calls, x_version, x_kept, x_op, x_arg, y_lengths, y_now, y_copies, y_older, y_before, y_warm, y_warmCopies, y_eventCopies, y_messageCopies, y_refundCopies, y_events, y_messages, y_self, y_caller, y_amounts, y_arguments, y_given, y_left, y_at, y_tops, y_stack) := fun post hp => yk_A hPG hST hJR hWM hF1 hF2 hMO hFB hSS hS1 hTP hBG hML hEV hVS hMI hBF eo (by decide) (by decide) (by decide) (by decide) hnx htk had hc hp
  obtain ⟨hf, hs, hp24, es, ep, el, et, hln, hln24, hL, hh6, hw, eop, ho, hpl, _⟩ := zk_un hPG hST hJR hWM hF1 hF2 hMO hFB hSS hS1 hTP hBG hML hEV hVS hMI hBF
  have hA : 24 * s + p < 168 := by omega
  have hq4 := zq_lt (x_arg (24 * s + p))
  obtain ⟨h0, rfl⟩ : ∃ h0, h = h0 + 1 := ⟨h - 1, by have : zc_tk 21 = 1 := rfl; omega⟩
  have eh : h0 + 1 - zc_tk 21 + zc_ad 21 = h0 := by show h0 + 1 - 1 + 0 = h0; omega
  rw [eh] at had ⊢
  have ec : zc_cst 21 + zc_cc 21 (x_warm.toBitVec.getLsbD (4 * s + zq_q (x_arg (24 * s + p)))) = 4 := rfl
  have ex : lx - zc_cc 21 (x_warm.toBitVec.getLsbD (4 * s + zq_q (x_arg (24 * s + p)))) = lx := rfl
  rw [ec] at hc ⊢
  rw [ex]
  have ev := hS1.2.2 h0 (by omega)
  have he20 := hEV.1
  by_cases z : e = 20
  · refine ⟨(x_limit, x_pending, zs_H x_state 30, nI J, x_warm, nI r, nI W, x_ring, x_kept, x_version, nI e, nI (f + 1), nI s, nI lx, nI px, nI (7 * f + h0), nI (7 * f), -1, x_lastResult, x_lastUsed, x_lastCalls, x_op, x_arg, x_length, x_blockLength, x_blockCost, x_blockMost, x_blockNeed, x_blockRise, x_state, x_weight, x_journalCell, x_journalOld, x_mailTo, x_mailFrom, x_mailAmount, x_mailArg, x_oldCell, x_oldValue, x_oldCount, x_oldDigest, x_eventAccount, x_eventTag, x_eventValue, x_frameSelf, x_frameCaller, x_frameAmount, x_frameArg, x_frameGiven, x_frameLeft, x_framePc, x_frameSp, x_frameJournal, x_frameEvents, x_frameWarm, x_frameRefund, x_frameMails, x_stack), (x_limit, nI e, nI W, nI r, nI (f + 1), y_ended, y_answer, y_rest, x_lastCalls, y_result, y_used, y_calls, x_version, x_kept, x_op, x_arg, y_lengths, y_now, y_copies, y_older, y_before, y_warm, y_warmCopies, y_eventCopies, y_messageCopies, y_refundCopies, y_events, y_messages, y_self, y_caller, y_amounts, y_arguments, y_given, upd y_left f (nI (L - 4)), upd y_at f (nI (p + 1)), upd y_tops f (nI h0), y_stack), zk_stk hPG hST hJR hWM hF1 hF2 hMO hFB hSS hS1 hTP hBG hML hEV hVS hMI hBF hN (zl_pop ⟨hSS, hS1⟩) hc (by omega) (by omega) hnx, fun post hp => ?_, fun post hp => ?_⟩
    · exact xw_p21 (q := 7 * f + h0) hs (by omega) he20 (fun _ => hp) (fun y => absurd z (by omega))
    · exact YA post (yw_242o hf hA (by omega) (by omega) (yw_o21 hf (by omega) he20 et (fun _ => hp) (fun y => absurd z (by omega))))
  · have hS := zl_pop ⟨hSS, hS1⟩
    refine ⟨(x_limit, x_pending, zs_H x_state 30, nI J, x_warm, nI r, nI W, x_ring, x_kept, x_version, nI (e + 1), nI (f + 1), nI s, nI lx, nI px, nI (7 * f + h0), nI (7 * f), -1, x_lastResult, x_lastUsed, x_lastCalls, x_op, x_arg, x_length, x_blockLength, x_blockCost, x_blockMost, x_blockNeed, x_blockRise, x_state, x_weight, x_journalCell, x_journalOld, x_mailTo, x_mailFrom, x_mailAmount, x_mailArg, x_oldCell, x_oldValue, x_oldCount, x_oldDigest, upd x_eventAccount e (nI s), upd x_eventTag e (x_arg (24 * s + p)), upd x_eventValue e (x_stack (7 * f + h0)), x_frameSelf, x_frameCaller, x_frameAmount, x_frameArg, x_frameGiven, x_frameLeft, x_framePc, x_frameSp, x_frameJournal, x_frameEvents, x_frameWarm, x_frameRefund, x_frameMails, x_stack), (x_limit, nI (e + 1), nI W, nI r, nI (f + 1), y_ended, y_answer, y_rest, x_lastCalls, y_result, y_used, y_calls, x_version, x_kept, x_op, x_arg, y_lengths, y_now, y_copies, y_older, y_before, y_warm, y_warmCopies, y_eventCopies, y_messageCopies, y_refundCopies, upd (upd (upd y_events (3 * e) (nI s)) (3 * e + 1) (x_arg (24 * s + p))) (3 * e + 2) (x_stack (7 * f + h0)), y_messages, y_self, y_caller, y_amounts, y_arguments, y_given, upd y_left f (nI (L - 4)), upd y_at f (nI (p + 1)), upd y_tops f (nI h0), y_stack), zr_R_mk hPG hST hJR hWM hF1 hF2 hMO (zl_FB (k := 0) hFB) hS.1 hS.2 (zl_TP hTP hnx) ?_ hML (zl_EV hEV (by omega)) hVS hMI hBF, fun post hp => ?_, fun post hp => ?_⟩
    · obtain ⟨b1, b2, b3, b4, b5, b6, b7, b8, b9⟩ := hBG
      exact ⟨by omega, by omega, by omega, b4, b5, b6, b7, b8, by omega⟩
    · exact xw_p21 (q := 7 * f + h0) hs (by omega) he20 (fun y => absurd y z) (fun _ => hp)
    · refine YA post (yw_242o hf hA (by omega) (by omega) (yw_o21 hf (by omega) he20 et (fun y => absurd y z) (fun _ => ?_)))
      rw [ev, es]
      exact hp
theorem lk_23 (hPG : zr_PG ln x_op x_arg x_length x_blockLength x_blockCost x_blockMost x_blockNeed x_blockRise y_lengths) (hST : zr_ST x_state x_weight y_now) (hJR : zr_JR J x_journalCell x_journalOld x_state B jn (f + 1) y_copies) (hWM : zr_WM x_warm y_warm) (hF1 : zr_F1 (f + 1) sf gv x_frameSelf y_self x_frameCaller y_caller x_frameAmount y_amounts x_frameArg y_arguments x_frameGiven y_given) (hF2 : zr_F2 (f + 1) jn ml x_frameEvents y_eventCopies x_frameMails y_messageCopies x_frameRefund y_refundCopies x_frameJournal x_frameWarm y_warmCopies) (hMO : zr_MO (f + 1) ml W) (hFB : zr_FB f ln sf gv kk hh pp x_frameLeft y_left x_framePc y_at x_frameSp) (hSS : zr_SS f hh x_stack y_tops y_stack) (hS1 : zr_S1 f h x_stack y_tops y_stack) (hTP : zr_TP f s p L ln sf y_left y_at) (hBG : zr_BG N G J0 J W L h f r kk hh gv jn) (hML : zr_ML x_mailTo x_mailFrom x_mailAmount x_mailArg y_messages) (hEV : zr_EV e x_eventAccount x_eventTag x_eventValue y_events) (hVS : zr_VS B x_ring x_kept x_oldCell x_oldValue x_oldCount x_oldDigest y_older) (hMI : zr_MI x_limit x_pending (y_lengths 6)) (hBF : zr_BF B y_before) {N' : Nat} (hN : N = N' + 1) (eo : zb_o x_op (24 * s + p) = 23) (hnx : p + 1 < ln s) (htk : zc_tk 23 ≤ h) (had : h - zc_tk 23 + zc_ad 23 ≤ 6) (hc : zc_cst 23 + zc_cc 23 (x_warm.toBitVec.getLsbD (4 * s + zq_q (x_arg (24 * s + p)))) ≤ L) (hcx : zc_cc 23 (x_warm.toBitVec.getLsbD (4 * s + zq_q (x_arg (24 * s + p)))) ≤ lx) (hlx : 23 = 22 → lx = L - 1) : ∃ (u' : SX) (v' : SY), zr_R y_result x_op x_arg ln B N' G J0 (lx - zc_cc 23 (x_warm.toBitVec.getLsbD (4 * s + zq_q (x_arg (24 * s + p))))) px s (p + 1) (h - zc_tk 23 + zc_ad 23) (L - (zc_cst 23 + zc_cc 23 (x_warm.toBitVec.getLsbD (4 * s + zq_q (x_arg (24 * s + p)))))) u' v' ∧ (∀ post : SX → Prop, post u' → wpX_plain post (x_limit, x_pending, zs_H x_state 30, nI J, x_warm, nI r, nI W, x_ring, x_kept, x_version, nI e, nI (f + 1), nI s, nI lx, nI px, nI (7 * f + h), nI (7 * f), -1, x_lastResult, x_lastUsed, x_lastCalls, x_op, x_arg, x_length, x_blockLength, x_blockCost, x_blockMost, x_blockNeed, x_blockRise, x_state, x_weight, x_journalCell, x_journalOld, x_mailTo, x_mailFrom, x_mailAmount, x_mailArg, x_oldCell, x_oldValue, x_oldCount, x_oldDigest, x_eventAccount, x_eventTag, x_eventValue, x_frameSelf, x_frameCaller, x_frameAmount, x_frameArg, x_frameGiven, x_frameLeft, x_framePc, x_frameSp, x_frameJournal, x_frameEvents, x_frameWarm, x_frameRefund, x_frameMails, x_stack) (nI 23) (x_arg (24 * s + p))) ∧ (∀ post : SY → Prop, post v' → wpY_step post (x_limit, nI e, nI W, nI r, nI (f + 1), y_ended, y_answer, y_rest, x_lastCalls, y_result, y_used, y_calls, x_version, x_kept, x_op, x_arg, y_lengths, y_now, y_copies, y_older, y_before, y_warm, y_warmCopies, y_eventCopies, y_messageCopies, y_refundCopies, y_events, y_messages, y_self, y_caller, y_amounts, y_arguments, y_given, y_left, y_at, y_tops, y_stack)) := by
  have YA : ∀ post : SY → Prop, wY_step_242 post (nI f) (nI (24 * s + p)) (nI 23) (nI (4 * s + zq_q (x_arg (24 * s + p)))) (nI (p + 1)) 0 x_limit (nI e) (nI W) (nI r) (nI (f + 1)) y_ended y_answer y_rest x_lastCalls y_result y_used y_calls x_version x_kept x_op x_arg y_lengths y_now y_copies y_older y_before y_warm y_warmCopies y_eventCopies y_messageCopies y_refundCopies y_events y_messages y_self y_caller y_amounts y_arguments y_given (upd y_left f (nI (L - (zc_cst 23 + zc_cc 23 (x_warm.toBitVec.getLsbD (4 * s + zq_q (x_arg (24 * s + p)))))))) y_at y_tops y_stack → wpY_step post (x_limit, nI e, nI W, nI r, nI (f + 1), y_ended, y_answer, y_rest, x_lastCalls, y_result, y_used, y_calls, x_version, x_kept, x_op, x_arg, y_lengths, y_now, y_copies, y_older, y_before, y_warm, y_warmCopies, y_eventCopies, y_messageCopies, y_refundCopies, y_events, y_messages, y_self, y_caller, y_amounts, y_arguments, y_given, y_left, y_at, y_tops, y_stack) := fun post hp => yk_A hPG hST hJR hWM hF1 hF2 hMO hFB hSS hS1 hTP hBG hML hEV hVS hMI hBF eo (by decide) (by decide) (by decide) (by decide) hnx htk had hc hp
  obtain ⟨hf, hs, hp24, es, ep, el, et, hln, hln24, hL, hh6, hw, eop, ho, hpl, _⟩ := zk_un hPG hST hJR hWM hF1 hF2 hMO hFB hSS hS1 hTP hBG hML hEV hVS hMI hBF
  have hA : 24 * s + p < 168 := by omega
  have hq4 := zq_lt (x_arg (24 * s + p))
  obtain ⟨h0, rfl⟩ : ∃ h0, h = h0 + 3 := ⟨h - 3, by have : zc_tk 23 = 3 := rfl; omega⟩
  have eh : h0 + 3 - zc_tk 23 + zc_ad 23 = h0 := by show h0 + 3 - 3 + 0 = h0; omega
  rw [eh] at had ⊢
  have ec : zc_cst 23 + zc_cc 23 (x_warm.toBitVec.getLsbD (4 * s + zq_q (x_arg (24 * s + p)))) = 5 := rfl
  have ex : lx - zc_cc 23 (x_warm.toBitVec.getLsbD (4 * s + zq_q (x_arg (24 * s + p)))) = lx := rfl
  rw [ec] at hc ⊢
  rw [ex]
  have ev0 := hS1.2.2 h0 (by omega)
  have ev1 := hS1.2.2 (h0 + 1) (by omega)
  have ev2 := hS1.2.2 (h0 + 2) (by omega)
  have hW6 : W ≤ 6 := by obtain ⟨_, _, _, _, _, _, b7, _⟩ := hBG; exact b7
  have hS := zl_pop (zl_pop (zl_pop ⟨hSS, hS1⟩))
  by_cases z : W = 6 ∨ x_stack (7 * f + h0) < 0 ∨ 6 ≤ x_stack (7 * f + h0)
  · refine ⟨(x_limit, x_pending, zs_H x_state 30, nI J, x_warm, nI r, nI W, x_ring, x_kept, x_version, nI e, nI (f + 1), nI s, nI lx, nI px, nI (7 * f + h0), nI (7 * f), -1, x_lastResult, x_lastUsed, x_lastCalls, x_op, x_arg, x_length, x_blockLength, x_blockCost, x_blockMost, x_blockNeed, x_blockRise, x_state, x_weight, x_journalCell, x_journalOld, x_mailTo, x_mailFrom, x_mailAmount, x_mailArg, x_oldCell, x_oldValue, x_oldCount, x_oldDigest, x_eventAccount, x_eventTag, x_eventValue, x_frameSelf, x_frameCaller, x_frameAmount, x_frameArg, x_frameGiven, x_frameLeft, x_framePc, x_frameSp, x_frameJournal, x_frameEvents, x_frameWarm, x_frameRefund, x_frameMails, x_stack), (x_limit, nI e, nI W, nI r, nI (f + 1), y_ended, y_answer, y_rest, x_lastCalls, y_result, y_used, y_calls, x_version, x_kept, x_op, x_arg, y_lengths, y_now, y_copies, y_older, y_before, y_warm, y_warmCopies, y_eventCopies, y_messageCopies, y_refundCopies, y_events, y_messages, y_self, y_caller, y_amounts, y_arguments, y_given, upd y_left f (nI (L - 5)), upd y_at f (nI (p + 1)), upd (upd (upd y_tops f (nI (h0 + 2))) f (nI (h0 + 1))) f (nI h0), y_stack), zk_stk hPG hST hJR hWM hF1 hF2 hMO hFB hSS hS1 hTP hBG hML hEV hVS hMI hBF hN hS hc (by omega) (by omega) hnx, fun post hp => ?_, fun post hp => ?_⟩
    · refine xw_p23 (q := 7 * f + h0) hs (by omega) hW6 (fun _ => hp) (fun a hw ha ea => ?_)
      exfalso
      rw [ea] at z
      rcases z with z | z | z
      · omega
      · exact nI_pos (by omega) z
      · exact nI_ge (b := 6) ha (by omega) z
    · refine YA post (yw_242o hf hA (by omega) (by omega) (yw_o23 hf (by omega) hW6 et (fun _ => hp) (fun a hw ha ea => ?_)))
      exfalso
      rw [ev0] at ea
      rw [ea] at z
      rcases z with z | z | z
      · omega
      · exact nI_pos (by omega) z
      · exact nI_ge (b := 6) ha (by omega) z
  · rcases pk_ix (x_stack (7 * f + h0)) (n := 6) (by omega) with hz | hz | ⟨a, ha, ea⟩
    · exact absurd (Or.inr (Or.inl hz)) z
    · exact absurd (Or.inr (Or.inr hz)) z
    refine ⟨(x_limit, x_pending, zs_H x_state 30, nI J, x_warm, nI r, nI (W + 1), x_ring, x_kept, x_version, nI e, nI (f + 1), nI s, nI lx, nI px, nI (7 * f + h0), nI (7 * f), -1, x_lastResult, x_lastUsed, x_lastCalls, x_op, x_arg, x_length, x_blockLength, x_blockCost, x_blockMost, x_blockNeed, x_blockRise, x_state, x_weight, x_journalCell, x_journalOld, upd x_mailTo W (nI a), upd x_mailFrom W (nI s), upd x_mailAmount W (x_stack (7 * f + (h0 + 1))), upd x_mailArg W (x_stack (7 * f + (h0 + 2))), x_oldCell, x_oldValue, x_oldCount, x_oldDigest, x_eventAccount, x_eventTag, x_eventValue, x_frameSelf, x_frameCaller, x_frameAmount, x_frameArg, x_frameGiven, x_frameLeft, x_framePc, x_frameSp, x_frameJournal, x_frameEvents, x_frameWarm, x_frameRefund, x_frameMails, x_stack), (x_limit, nI e, nI (W + 1), nI r, nI (f + 1), y_ended, y_answer, y_rest, x_lastCalls, y_result, y_used, y_calls, x_version, x_kept, x_op, x_arg, y_lengths, y_now, y_copies, y_older, y_before, y_warm, y_warmCopies, y_eventCopies, y_messageCopies, y_refundCopies, y_events, upd (upd (upd (upd y_messages (4 * W) (nI a)) (4 * W + 1) (x_stack (7 * f + (h0 + 1)))) (4 * W + 2) (x_stack (7 * f + (h0 + 2)))) (4 * W + 3) (nI s), y_self, y_caller, y_amounts, y_arguments, y_given, upd y_left f (nI (L - 5)), upd y_at f (nI (p + 1)), upd (upd (upd y_tops f (nI (h0 + 2))) f (nI (h0 + 1))) f (nI h0), y_stack), zr_R_mk hPG hST hJR hWM hF1 hF2 (zl_MOw hMO) (zl_FB (k := 0) hFB) hS.1 hS.2 (zl_TP hTP hnx) ?_ (zl_ML hML ha hs) hEV hVS hMI hBF, fun post hp => ?_, fun post hp => ?_⟩
    · obtain ⟨b1, b2, b3, b4, b5, b6, b7, b8, b9⟩ := hBG
      exact ⟨by omega, by omega, by omega, b4, b5, b6, by omega, b8, by omega⟩
    · refine xw_p23 (q := 7 * f + h0) hs (by omega) hW6 (fun y => absurd y z) (fun a' hw ha' ea' => ?_)
      rw [ea] at ea'
      have := (nI_eq (by omega) (by omega)).mp ea'
      subst this
      exact hp
    · refine YA post (yw_242o hf hA (by omega) (by omega) (yw_o23 hf (by omega) hW6 et (fun y => ?_) (fun a' hw ha' ea' => ?_)))
      · rw [ev0] at y
        exact absurd y z
      · rw [ev0, ea] at ea'
        have := (nI_eq (by omega) (by omega)).mp ea'
        subst this
        rw [ev1, ev2, es]
        exact hp
theorem lk_x (hPG : zr_PG ln x_op x_arg x_length x_blockLength x_blockCost x_blockMost x_blockNeed x_blockRise y_lengths) (hST : zr_ST x_state x_weight y_now) (hJR : zr_JR J x_journalCell x_journalOld x_state B jn (f + 1) y_copies) (hWM : zr_WM x_warm y_warm) (hF1 : zr_F1 (f + 1) sf gv x_frameSelf y_self x_frameCaller y_caller x_frameAmount y_amounts x_frameArg y_arguments x_frameGiven y_given) (hF2 : zr_F2 (f + 1) jn ml x_frameEvents y_eventCopies x_frameMails y_messageCopies x_frameRefund y_refundCopies x_frameJournal x_frameWarm y_warmCopies) (hMO : zr_MO (f + 1) ml W) (hFB : zr_FB f ln sf gv kk hh pp x_frameLeft y_left x_framePc y_at x_frameSp) (hSS : zr_SS f hh x_stack y_tops y_stack) (hS1 : zr_S1 f h x_stack y_tops y_stack) (hTP : zr_TP f s p L ln sf y_left y_at) (hBG : zr_BG N G J0 J W L h f r kk hh gv jn) (hML : zr_ML x_mailTo x_mailFrom x_mailAmount x_mailArg y_messages) (hEV : zr_EV e x_eventAccount x_eventTag x_eventValue y_events) (hVS : zr_VS B x_ring x_kept x_oldCell x_oldValue x_oldCount x_oldDigest y_older) (hMI : zr_MI x_limit x_pending (y_lengths 6)) (hBF : zr_BF B y_before) {N' : Nat} (hN : N = N' + 1) (hnx : p + 1 < ln s) {o : Nat} (ho : o < 24) (eo : zb_o x_op (24 * s + p) = o) (hpl : o < 16 ∨ 20 < o) (htk : zc_tk o ≤ h) (had : h - zc_tk o + zc_ad o ≤ 6) (hc : zc_cst o + zc_cc o (x_warm.toBitVec.getLsbD (4 * s + zq_q (x_arg (24 * s + p)))) ≤ L) (hcx : zc_cc o (x_warm.toBitVec.getLsbD (4 * s + zq_q (x_arg (24 * s + p)))) ≤ lx) (hlx : o = 22 → lx = L - 1) : ∃ (u' : SX) (v' : SY), zr_R y_result x_op x_arg ln B N' G J0 (lx - zc_cc o (x_warm.toBitVec.getLsbD (4 * s + zq_q (x_arg (24 * s + p))))) px s (p + 1) (h - zc_tk o + zc_ad o) (L - (zc_cst o + zc_cc o (x_warm.toBitVec.getLsbD (4 * s + zq_q (x_arg (24 * s + p)))))) u' v' ∧ (∀ post : SX → Prop, post u' → wpX_plain post (x_limit, x_pending, zs_H x_state 30, nI J, x_warm, nI r, nI W, x_ring, x_kept, x_version, nI e, nI (f + 1), nI s, nI lx, nI px, nI (7 * f + h), nI (7 * f), -1, x_lastResult, x_lastUsed, x_lastCalls, x_op, x_arg, x_length, x_blockLength, x_blockCost, x_blockMost, x_blockNeed, x_blockRise, x_state, x_weight, x_journalCell, x_journalOld, x_mailTo, x_mailFrom, x_mailAmount, x_mailArg, x_oldCell, x_oldValue, x_oldCount, x_oldDigest, x_eventAccount, x_eventTag, x_eventValue, x_frameSelf, x_frameCaller, x_frameAmount, x_frameArg, x_frameGiven, x_frameLeft, x_framePc, x_frameSp, x_frameJournal, x_frameEvents, x_frameWarm, x_frameRefund, x_frameMails, x_stack) (nI o) (x_arg (24 * s + p))) ∧ (∀ post : SY → Prop, post v' → wpY_step post (x_limit, nI e, nI W, nI r, nI (f + 1), y_ended, y_answer, y_rest, x_lastCalls, y_result, y_used, y_calls, x_version, x_kept, x_op, x_arg, y_lengths, y_now, y_copies, y_older, y_before, y_warm, y_warmCopies, y_eventCopies, y_messageCopies, y_refundCopies, y_events, y_messages, y_self, y_caller, y_amounts, y_arguments, y_given, y_left, y_at, y_tops, y_stack)) := by
  revert eo hpl htk had hc hcx hlx
  refine zc_24 (P := fun o => zb_o x_op (24 * s + p) = o → (o < 16 ∨ 20 < o) → zc_tk o ≤ h → h - zc_tk o + zc_ad o ≤ 6 → zc_cst o + zc_cc o (x_warm.toBitVec.getLsbD (4 * s + zq_q (x_arg (24 * s + p)))) ≤ L → zc_cc o (x_warm.toBitVec.getLsbD (4 * s + zq_q (x_arg (24 * s + p)))) ≤ lx → (o = 22 → lx = L - 1) → ∃ (u' : SX) (v' : SY), zr_R y_result x_op x_arg ln B N' G J0 (lx - zc_cc o (x_warm.toBitVec.getLsbD (4 * s + zq_q (x_arg (24 * s + p))))) px s (p + 1) (h - zc_tk o + zc_ad o) (L - (zc_cst o + zc_cc o (x_warm.toBitVec.getLsbD (4 * s + zq_q (x_arg (24 * s + p)))))) u' v' ∧ (∀ post : SX → Prop, post u' → wpX_plain post (x_limit, x_pending, zs_H x_state 30, nI J, x_warm, nI r, nI W, x_ring, x_kept, x_version, nI e, nI (f + 1), nI s, nI lx, nI px, nI (7 * f + h), nI (7 * f), -1, x_lastResult, x_lastUsed, x_lastCalls, x_op, x_arg, x_length, x_blockLength, x_blockCost, x_blockMost, x_blockNeed, x_blockRise, x_state, x_weight, x_journalCell, x_journalOld, x_mailTo, x_mailFrom, x_mailAmount, x_mailArg, x_oldCell, x_oldValue, x_oldCount, x_oldDigest, x_eventAccount, x_eventTag, x_eventValue, x_frameSelf, x_frameCaller, x_frameAmount, x_frameArg, x_frameGiven, x_frameLeft, x_framePc, x_frameSp, x_frameJournal, x_frameEvents, x_frameWarm, x_frameRefund, x_frameMails, x_stack) (nI o) (x_arg (24 * s + p))) ∧ (∀ post : SY → Prop, post v' → wpY_step post (x_limit, nI e, nI W, nI r, nI (f + 1), y_ended, y_answer, y_rest, x_lastCalls, y_result, y_used, y_calls, x_version, x_kept, x_op, x_arg, y_lengths, y_now, y_copies, y_older, y_before, y_warm, y_warmCopies, y_eventCopies, y_messageCopies, y_refundCopies, y_events, y_messages, y_self, y_caller, y_amounts, y_arguments, y_given, y_left, y_at, y_tops, y_stack)))
    (fun eo _ htk had hc hcx hlx => lk_0 hPG hST hJR hWM hF1 hF2 hMO hFB hSS hS1 hTP hBG hML hEV hVS hMI hBF hN eo hnx htk had hc hcx hlx)
    (fun eo _ htk had hc hcx hlx => lk_1 hPG hST hJR hWM hF1 hF2 hMO hFB hSS hS1 hTP hBG hML hEV hVS hMI hBF hN eo hnx htk had hc hcx hlx)
    (fun eo _ htk had hc hcx hlx => lk_2 hPG hST hJR hWM hF1 hF2 hMO hFB hSS hS1 hTP hBG hML hEV hVS hMI hBF hN eo hnx htk had hc hcx hlx)
    (fun eo _ htk had hc hcx hlx => lk_3 hPG hST hJR hWM hF1 hF2 hMO hFB hSS hS1 hTP hBG hML hEV hVS hMI hBF hN eo hnx htk had hc hcx hlx)
    (fun eo _ htk had hc hcx hlx => lk_4 hPG hST hJR hWM hF1 hF2 hMO hFB hSS hS1 hTP hBG hML hEV hVS hMI hBF hN eo hnx htk had hc hcx hlx)
    (fun eo _ htk had hc hcx hlx => lk_5 hPG hST hJR hWM hF1 hF2 hMO hFB hSS hS1 hTP hBG hML hEV hVS hMI hBF hN eo hnx htk had hc hcx hlx)
    (fun eo _ htk had hc hcx hlx => lk_6 hPG hST hJR hWM hF1 hF2 hMO hFB hSS hS1 hTP hBG hML hEV hVS hMI hBF hN eo hnx htk had hc hcx hlx)
    (fun eo _ htk had hc hcx hlx => lk_7 hPG hST hJR hWM hF1 hF2 hMO hFB hSS hS1 hTP hBG hML hEV hVS hMI hBF hN eo hnx htk had hc hcx hlx)
    (fun eo _ htk had hc hcx hlx => lk_8 hPG hST hJR hWM hF1 hF2 hMO hFB hSS hS1 hTP hBG hML hEV hVS hMI hBF hN eo hnx htk had hc hcx hlx)
    (fun eo _ htk had hc hcx hlx => lk_9 hPG hST hJR hWM hF1 hF2 hMO hFB hSS hS1 hTP hBG hML hEV hVS hMI hBF hN eo hnx htk had hc hcx hlx)
    (fun eo _ htk had hc hcx hlx => lk_10 hPG hST hJR hWM hF1 hF2 hMO hFB hSS hS1 hTP hBG hML hEV hVS hMI hBF hN eo hnx htk had hc hcx hlx)
    (fun eo _ htk had hc hcx hlx => lk_11 hPG hST hJR hWM hF1 hF2 hMO hFB hSS hS1 hTP hBG hML hEV hVS hMI hBF hN eo hnx htk had hc hcx hlx)
    (fun eo _ htk had hc hcx hlx => lk_12 hPG hST hJR hWM hF1 hF2 hMO hFB hSS hS1 hTP hBG hML hEV hVS hMI hBF hN eo hnx htk had hc hcx hlx)
    (fun eo _ htk had hc hcx hlx => lk_13 hPG hST hJR hWM hF1 hF2 hMO hFB hSS hS1 hTP hBG hML hEV hVS hMI hBF hN eo hnx htk had hc hcx hlx)
    (fun eo _ htk had hc hcx hlx => lk_14 hPG hST hJR hWM hF1 hF2 hMO hFB hSS hS1 hTP hBG hML hEV hVS hMI hBF hN eo hnx htk had hc hcx hlx)
    (fun eo _ htk had hc hcx hlx => lk_15 hPG hST hJR hWM hF1 hF2 hMO hFB hSS hS1 hTP hBG hML hEV hVS hMI hBF hN eo hnx htk had hc hcx hlx)
    (fun _ z => absurd z (by omega))
    (fun _ z => absurd z (by omega))
    (fun _ z => absurd z (by omega))
    (fun _ z => absurd z (by omega))
    (fun _ z => absurd z (by omega))
    (fun eo _ htk had hc hcx hlx => lk_21 hPG hST hJR hWM hF1 hF2 hMO hFB hSS hS1 hTP hBG hML hEV hVS hMI hBF hN eo hnx htk had hc hcx hlx)
    (fun eo _ htk had hc hcx hlx => lk_22 hPG hST hJR hWM hF1 hF2 hMO hFB hSS hS1 hTP hBG hML hEV hVS hMI hBF hN eo hnx htk had hc hcx hlx)
    (fun eo _ htk had hc hcx hlx => lk_23 hPG hST hJR hWM hF1 hF2 hMO hFB hSS hS1 hTP hBG hML hEV hVS hMI hBF hN eo hnx htk had hc hcx hlx)
    o ho

end
end
section
/-! the end of a call: finish and end -/
section
variable {x_limit x_pending x_journal x_refund x_mails x_ring x_kept x_version x_events x_depth x_self x_left x_pc x_sp x_base x_lastStatus x_lastResult x_lastUsed x_lastCalls : Int32} {x_digest x_warm : Int64} {x_op x_arg x_length x_blockLength x_blockCost x_blockMost x_blockNeed x_blockRise x_state x_journalCell x_journalOld x_mailTo x_mailFrom x_mailAmount x_mailArg x_oldCell x_oldValue x_oldCount x_eventAccount x_eventTag x_eventValue x_frameSelf x_frameCaller x_frameAmount x_frameArg x_frameGiven x_frameLeft x_framePc x_frameSp x_frameJournal x_frameEvents x_frameRefund x_frameMails x_stack : Nat → Int32} {x_weight x_oldDigest x_frameWarm : Nat → Int64}
variable {y_limit y_eventCount y_waiting y_refund y_depth y_ended y_answer y_rest y_begun y_result y_used y_calls y_version y_kept : Int32} {y_ops y_bs y_lengths y_now y_copies y_older y_before y_warm y_warmCopies y_eventCopies y_messageCopies y_refundCopies y_events y_messages y_self y_caller y_amounts y_arguments y_given y_left y_at y_tops y_stack : Nat → Int32}
variable {N G J0 lx px s p h L f J W e r : Nat} {ln sf gv jn ml kk hh pp : Nat → Nat} {B : Nat → Int32}

theorem zk_rest {st Lr : Nat} {x : Int32} (hf : f < 5) (hST : zr_ST x_state x_weight y_now) (hJR : zr_JR J x_journalCell x_journalOld x_state B jn (f + 1) y_copies) (hWM : zr_WM x_warm y_warm) (hF2 : zr_F2 (f + 1) jn ml x_frameEvents y_eventCopies x_frameMails y_messageCopies x_frameRefund y_refundCopies x_frameJournal x_frameWarm y_warmCopies) (hMO : zr_MO (f + 1) ml W) (hEV : zr_EV e x_eventAccount x_eventTag x_eventValue y_events) (hJ : J ≤ 160) (hr : r ≤ 4 * J) (hst : st < 4) : ∃ (S nw yw : Nat → Int32) (wm : Int64) (J' W' e' r' : Nat), zr_ST S x_weight nw ∧ zr_JR J' x_journalCell x_journalOld S B jn f y_copies ∧ zr_WM wm yw ∧ W' ≤ W ∧ (∀ g, g < f → ml g ≤ W') ∧ J' ≤ J ∧ r' ≤ 4 * J' ∧ e' ≤ 20 ∧ (st ≠ 0 → J' = jn f) ∧
    (∀ post : SX → Prop, wX_finish_72 post (nI st) x (nI f) x_limit x_pending (zs_H S 30) (nI J') wm (nI r') (nI W') x_ring x_kept x_version (nI e') (nI (f + 1)) x_self (nI Lr) x_pc x_sp x_base (-1) x_lastResult x_lastUsed x_lastCalls x_op x_arg x_length x_blockLength x_blockCost x_blockMost x_blockNeed x_blockRise S x_weight x_journalCell x_journalOld x_mailTo x_mailFrom x_mailAmount x_mailArg x_oldCell x_oldValue x_oldCount x_oldDigest x_eventAccount x_eventTag x_eventValue x_frameSelf x_frameCaller x_frameAmount x_frameArg x_frameGiven x_frameLeft x_framePc x_frameSp x_frameJournal x_frameEvents x_frameWarm x_frameRefund x_frameMails x_stack → wX_finish_22 post (nI st) x (nI f) x_limit x_pending (zs_H x_state 30) (nI J) x_warm (nI r) (nI W) x_ring x_kept x_version (nI e) (nI (f + 1)) x_self (nI Lr) x_pc x_sp x_base (-1) x_lastResult x_lastUsed x_lastCalls x_op x_arg x_length x_blockLength x_blockCost x_blockMost x_blockNeed x_blockRise x_state x_weight x_journalCell x_journalOld x_mailTo x_mailFrom x_mailAmount x_mailArg x_oldCell x_oldValue x_oldCount x_oldDigest x_eventAccount x_eventTag x_eventValue x_frameSelf x_frameCaller x_frameAmount x_frameArg x_frameGiven x_frameLeft x_framePc x_frameSp x_frameJournal x_frameEvents x_frameWarm x_frameRefund x_frameMails x_stack) ∧
    (∀ post : SY → Prop, wY_end_158 post x_limit (nI e') (nI W') (nI r') (nI f) (nI st) x (nI Lr) x_lastCalls y_result y_used y_calls x_version x_kept x_op x_arg y_lengths nw y_copies y_older y_before yw y_warmCopies y_eventCopies y_messageCopies y_refundCopies y_events y_messages y_self y_caller y_amounts y_arguments y_given y_left y_at y_tops y_stack → wY_end_44 post (nI st) (nI Lr) x_limit (nI e) (nI W) (nI r) (nI f) (nI st) x y_rest x_lastCalls y_result y_used y_calls x_version x_kept x_op x_arg y_lengths y_now y_copies y_older y_before y_warm y_warmCopies y_eventCopies y_messageCopies y_refundCopies y_events y_messages y_self y_caller y_amounts y_arguments y_given y_left y_at y_tops y_stack) := by
  obtain ⟨⟨e1, he1, xe1, ye1⟩, xm, ym, ⟨r1, hr1, xr1, yr1⟩, xj, hwc⟩ := hF2 f (by omega)
  by_cases z : st = 0
  · subst z
    refine ⟨x_state, y_now, y_warm, x_warm, J, W, e, r, hST, zl_JRd hJR, hWM, Nat.le_refl _, fun g hg => hMO.1 g (by omega), Nat.le_refl _, hr, hEV.1, fun n => absurd rfl n, fun post hp => ?_, fun post hp => ?_⟩
    · exact br_t rfl hp
    · exact yw_e44 (by omega) hf (zl_WMc01 hwc) (fun _ => hp) (fun n => absurd rfl n)
  · have hjf := (hJR.2.2.1 f (by omega)).1
    refine ⟨zj_U x_journalCell x_journalOld (jn f) (J - jn f) x_state, zy_c y_now y_copies (30 * f) 30, zy_c y_warm y_warmCopies (24 * f) 24, x_frameWarm f, jn f, ml f, e1, r1, zl_STu hJR hST, zl_JRu hJR, zl_WMc hwc, hMO.1 f (by omega), fun g hg => hMO.2 g f (by omega) (by omega), hjf, hr1, he1, fun _ => rfl, fun post hp => ?_, fun post hp => ?_⟩
    · exact xw_f22 hST.1 hJR.1 hJ hjf hf hst (by omega) xj xe1 xr1 xm hp
    · refine yw_e44 (by omega) hf (zl_WMc01 hwc) (fun n => absurd n z) (fun _ => ?_)
      rw [ye1, ym, yr1]
      exact hp
/-- the outermost call ends -/
theorem zk_end0 {st Lr : Nat} {x : Int32} (hPG : zr_PG ln x_op x_arg x_length x_blockLength x_blockCost x_blockMost x_blockNeed x_blockRise y_lengths) (hST : zr_ST x_state x_weight y_now) (hJR : zr_JR J x_journalCell x_journalOld x_state B jn (f + 1) y_copies) (hWM : zr_WM x_warm y_warm) (hF1 : zr_F1 (f + 1) sf gv x_frameSelf y_self x_frameCaller y_caller x_frameAmount y_amounts x_frameArg y_arguments x_frameGiven y_given) (hF2 : zr_F2 (f + 1) jn ml x_frameEvents y_eventCopies x_frameMails y_messageCopies x_frameRefund y_refundCopies x_frameJournal x_frameWarm y_warmCopies) (hMO : zr_MO (f + 1) ml W) (hFB : zr_FB f ln sf gv kk hh pp x_frameLeft y_left x_framePc y_at x_frameSp) (hSS : zr_SS f hh x_stack y_tops y_stack) (hBG : zr_BG N G J0 J W Lr h f r kk hh gv jn) (hML : zr_ML x_mailTo x_mailFrom x_mailAmount x_mailArg y_messages) (hEV : zr_EV e x_eventAccount x_eventTag x_eventValue y_events) (hVS : zr_VS B x_ring x_kept x_oldCell x_oldValue x_oldCount x_oldDigest y_older) (hMI : zr_MI x_limit x_pending (y_lengths 6)) (hBF : zr_BF B y_before) (hf0 : f = 0) (hst : st < 4) (hl : st < 2 → x_left = nI Lr ∧ y_left f = nI Lr) (hl2 : 2 ≤ st → Lr = 0) : ∃ (u' : SX) (v' : SY), zr_D y_result x_op x_arg ln B N G J0 st u' v' ∧ (∀ post : SX → Prop, post u' → wpX_finish post (x_limit, x_pending, zs_H x_state 30, nI J, x_warm, nI r, nI W, x_ring, x_kept, x_version, nI e, nI (f + 1), x_self, x_left, x_pc, x_sp, x_base, -1, x_lastResult, x_lastUsed, x_lastCalls, x_op, x_arg, x_length, x_blockLength, x_blockCost, x_blockMost, x_blockNeed, x_blockRise, x_state, x_weight, x_journalCell, x_journalOld, x_mailTo, x_mailFrom, x_mailAmount, x_mailArg, x_oldCell, x_oldValue, x_oldCount, x_oldDigest, x_eventAccount, x_eventTag, x_eventValue, x_frameSelf, x_frameCaller, x_frameAmount, x_frameArg, x_frameGiven, x_frameLeft, x_framePc, x_frameSp, x_frameJournal, x_frameEvents, x_frameWarm, x_frameRefund, x_frameMails, x_stack) (nI st) x) ∧ (∀ post : SY → Prop, post v' → wpY_end post (x_limit, nI e, nI W, nI r, nI (f + 1), y_ended, y_answer, y_rest, x_lastCalls, y_result, y_used, y_calls, x_version, x_kept, x_op, x_arg, y_lengths, y_now, y_copies, y_older, y_before, y_warm, y_warmCopies, y_eventCopies, y_messageCopies, y_refundCopies, y_events, y_messages, y_self, y_caller, y_amounts, y_arguments, y_given, y_left, y_at, y_tops, y_stack) (nI st) x) := by
  obtain ⟨b1, b2, b3, b4, b5, b6, b7, b8, b9⟩ := hBG
  obtain ⟨S, nw, yw, wm, J', W', e', r', kST, kJR, kWM, kW, kml, kJ, kr, ke, kst, kX, kY⟩ := zk_rest (Lr := Lr) (x := x) (y_rest := y_rest) (x_self := x_self) (x_pc := x_pc) (x_sp := x_sp) (x_base := x_base) (x_lastResult := x_lastResult) (x_lastUsed := x_lastUsed) (x_lastCalls := x_lastCalls) (x_limit := x_limit) (x_pending := x_pending) (x_ring := x_ring) (x_kept := x_kept) (x_version := x_version) (x_op := x_op) (x_arg := x_arg) (x_length := x_length) (x_blockLength := x_blockLength) (x_blockCost := x_blockCost) (x_blockMost := x_blockMost) (x_blockNeed := x_blockNeed) (x_blockRise := x_blockRise) (x_mailTo := x_mailTo) (x_mailFrom := x_mailFrom) (x_mailAmount := x_mailAmount) (x_mailArg := x_mailArg) (x_oldCell := x_oldCell) (x_oldValue := x_oldValue) (x_oldCount := x_oldCount) (x_oldDigest := x_oldDigest) (x_frameSelf := x_frameSelf) (x_frameCaller := x_frameCaller) (x_frameAmount := x_frameAmount) (x_frameArg := x_frameArg) (x_frameGiven := x_frameGiven) (x_frameLeft := x_frameLeft) (x_framePc := x_framePc) (x_frameSp := x_frameSp) (x_stack := x_stack) (y_result := y_result) (y_used := y_used) (y_calls := y_calls) (y_lengths := y_lengths) (y_older := y_older) (y_before := y_before) (y_messages := y_messages) (y_self := y_self) (y_caller := y_caller) (y_amounts := y_amounts) (y_arguments := y_arguments) (y_given := y_given) (y_left := y_left) (y_at := y_at) (y_tops := y_tops) (y_stack := y_stack) (by omega) hST hJR hWM hF2 hMO hEV (by omega) b8 hst
  subst hf0
  obtain ⟨_, _, _, _, _, _, xg, yg, _⟩ := hF1 0 (by omega)
  have e0 : zm_s kk 0 = 0 := rfl
  have e1 : zm_s hh 0 = 0 := rfl
  refine ⟨(x_limit, x_pending, zs_H S 30, nI J', wm, nI r', nI W', x_ring, x_kept, x_version, nI e', 0, x_self, nI Lr, x_pc, x_sp, x_base, nI st, x, nI (G - Lr), x_lastCalls, x_op, x_arg, x_length, x_blockLength, x_blockCost, x_blockMost, x_blockNeed, x_blockRise, S, x_weight, x_journalCell, x_journalOld, x_mailTo, x_mailFrom, x_mailAmount, x_mailArg, x_oldCell, x_oldValue, x_oldCount, x_oldDigest, x_eventAccount, x_eventTag, x_eventValue, x_frameSelf, x_frameCaller, x_frameAmount, x_frameArg, x_frameGiven, x_frameLeft, x_framePc, x_frameSp, x_frameJournal, x_frameEvents, x_frameWarm, x_frameRefund, x_frameMails, x_stack), (x_limit, nI e', nI W', nI r', 0, nI st, x, nI Lr, x_lastCalls, y_result, y_used, y_calls, x_version, x_kept, x_op, x_arg, y_lengths, nw, y_copies, y_older, y_before, yw, y_warmCopies, y_eventCopies, y_messageCopies, y_refundCopies, y_events, y_messages, y_self, y_caller, y_amounts, y_arguments, y_given, y_left, y_at, y_tops, y_stack), ?_, fun post hp => ?_, fun post hp => ?_⟩
  · exact zr_D_mk hPG kST (zl_JR0 kJR) kWM ⟨by omega, by omega, by omega, b4, by omega, kr, by omega, fun n => by rw [kst n, b6]⟩ hML ⟨ke, hEV.2⟩ hVS hMI hBF
  · have main : wX_finish_22 post (nI st) x (nI 0) x_limit x_pending (zs_H x_state 30) (nI J) x_warm (nI r) (nI W) x_ring x_kept x_version (nI e) (nI (0 + 1)) x_self (nI Lr) x_pc x_sp x_base (-1) x_lastResult x_lastUsed x_lastCalls x_op x_arg x_length x_blockLength x_blockCost x_blockMost x_blockNeed x_blockRise x_state x_weight x_journalCell x_journalOld x_mailTo x_mailFrom x_mailAmount x_mailArg x_oldCell x_oldValue x_oldCount x_oldDigest x_eventAccount x_eventTag x_eventValue x_frameSelf x_frameCaller x_frameAmount x_frameArg x_frameGiven x_frameLeft x_framePc x_frameSp x_frameJournal x_frameEvents x_frameWarm x_frameRefund x_frameMails x_stack := by
      refine kX post (xw_f72z ?_)
      have eu : x_frameGiven 0 - nI Lr = nI (G - Lr) := by rw [xg, b5]; exact pk_sub (by omega)
      rw [eu]
      exact hp
    refine xw_finish hst (by omega) (fun z => ?_) (fun z => ?_)
    · have := hl2 (by omega)
      subst this
      exact main
    · rw [(hl z).1]
      exact main
  · refine yw_end hst (by omega) (fun z => ?_) (fun z => ?_)
    · have := hl2 (by omega)
      subst this
      exact kY post (yw_158z hp)
    · rw [(hl z).2]
      exact kY post (yw_158z hp)
/-- an inner call ends -/
theorem zk_ends {st Lr g N' : Nat} {x : Int32} (hPG : zr_PG ln x_op x_arg x_length x_blockLength x_blockCost x_blockMost x_blockNeed x_blockRise y_lengths) (hST : zr_ST x_state x_weight y_now) (hJR : zr_JR J x_journalCell x_journalOld x_state B jn (f + 1) y_copies) (hWM : zr_WM x_warm y_warm) (hF1 : zr_F1 (f + 1) sf gv x_frameSelf y_self x_frameCaller y_caller x_frameAmount y_amounts x_frameArg y_arguments x_frameGiven y_given) (hF2 : zr_F2 (f + 1) jn ml x_frameEvents y_eventCopies x_frameMails y_messageCopies x_frameRefund y_refundCopies x_frameJournal x_frameWarm y_warmCopies) (hMO : zr_MO (f + 1) ml W) (hFB : zr_FB f ln sf gv kk hh pp x_frameLeft y_left x_framePc y_at x_frameSp) (hSS : zr_SS f hh x_stack y_tops y_stack) (hBG : zr_BG N G J0 J W Lr h f r kk hh gv jn) (hML : zr_ML x_mailTo x_mailFrom x_mailAmount x_mailArg y_messages) (hEV : zr_EV e x_eventAccount x_eventTag x_eventValue y_events) (hVS : zr_VS B x_ring x_kept x_oldCell x_oldValue x_oldCount x_oldDigest y_older) (hMI : zr_MI x_limit x_pending (y_lengths 6)) (hBF : zr_BF B y_before) (hN : N = N' + 1) (hf : f < 5) (hfg : f = g + 1) (hst : st < 4) (hl : st < 2 → x_left = nI Lr ∧ y_left f = nI Lr) (hl2 : 2 ≤ st → Lr = 0) (hgv : Lr ≤ gv f) : ∃ (u' : SX) (v' : SY), zr_R y_result x_op x_arg ln B N' G J0 (kk g + Lr) (pp g) (sf g) (pp g) (hh g + 2) (kk g + Lr) u' v' ∧ (∀ post : SX → Prop, post u' → wpX_finish post (x_limit, x_pending, zs_H x_state 30, nI J, x_warm, nI r, nI W, x_ring, x_kept, x_version, nI e, nI (f + 1), x_self, x_left, x_pc, x_sp, x_base, -1, x_lastResult, x_lastUsed, x_lastCalls, x_op, x_arg, x_length, x_blockLength, x_blockCost, x_blockMost, x_blockNeed, x_blockRise, x_state, x_weight, x_journalCell, x_journalOld, x_mailTo, x_mailFrom, x_mailAmount, x_mailArg, x_oldCell, x_oldValue, x_oldCount, x_oldDigest, x_eventAccount, x_eventTag, x_eventValue, x_frameSelf, x_frameCaller, x_frameAmount, x_frameArg, x_frameGiven, x_frameLeft, x_framePc, x_frameSp, x_frameJournal, x_frameEvents, x_frameWarm, x_frameRefund, x_frameMails, x_stack) (nI st) x) ∧ (∀ post : SY → Prop, post v' → wpY_end post (x_limit, nI e, nI W, nI r, nI (f + 1), y_ended, y_answer, y_rest, x_lastCalls, y_result, y_used, y_calls, x_version, x_kept, x_op, x_arg, y_lengths, y_now, y_copies, y_older, y_before, y_warm, y_warmCopies, y_eventCopies, y_messageCopies, y_refundCopies, y_events, y_messages, y_self, y_caller, y_amounts, y_arguments, y_given, y_left, y_at, y_tops, y_stack) (nI st) x) := by
  obtain ⟨b1, b2, b3, b4, b5, b6, b7, b8, b9⟩ := hBG
  obtain ⟨S, nw, yw, wm, J', W', e', r', kST, kJR, kWM, kW, kml, kJ, kr, ke, kst, kX, kY⟩ := zk_rest (Lr := Lr) (x := x) (y_rest := y_rest) (x_self := x_self) (x_pc := x_pc) (x_sp := x_sp) (x_base := x_base) (x_lastResult := x_lastResult) (x_lastUsed := x_lastUsed) (x_lastCalls := x_lastCalls) (x_limit := x_limit) (x_pending := x_pending) (x_ring := x_ring) (x_kept := x_kept) (x_version := x_version) (x_op := x_op) (x_arg := x_arg) (x_length := x_length) (x_blockLength := x_blockLength) (x_blockCost := x_blockCost) (x_blockMost := x_blockMost) (x_blockNeed := x_blockNeed) (x_blockRise := x_blockRise) (x_mailTo := x_mailTo) (x_mailFrom := x_mailFrom) (x_mailAmount := x_mailAmount) (x_mailArg := x_mailArg) (x_oldCell := x_oldCell) (x_oldValue := x_oldValue) (x_oldCount := x_oldCount) (x_oldDigest := x_oldDigest) (x_frameSelf := x_frameSelf) (x_frameCaller := x_frameCaller) (x_frameAmount := x_frameAmount) (x_frameArg := x_frameArg) (x_frameGiven := x_frameGiven) (x_frameLeft := x_frameLeft) (x_framePc := x_framePc) (x_frameSp := x_frameSp) (x_stack := x_stack) (y_result := y_result) (y_used := y_used) (y_calls := y_calls) (y_lengths := y_lengths) (y_older := y_older) (y_before := y_before) (y_messages := y_messages) (y_self := y_self) (y_caller := y_caller) (y_amounts := y_amounts) (y_arguments := y_arguments) (y_given := y_given) (y_left := y_left) (y_at := y_at) (y_tops := y_tops) (y_stack := y_stack) (by omega) hST hJR hWM hF2 hMO hEV (by omega) b8 hst
  subst hfg
  obtain ⟨_, _, _, _, _, _, xg, yg, _⟩ := hF1 (g + 1) (by omega)
  obtain ⟨sf6, xs, ys, _, _, _, _, _, hg400⟩ := hF1 g (by omega)
  obtain ⟨fl, yl, hkg, xp, yp, hpp, xq⟩ := hFB g (by omega)
  obtain ⟨yt, hh4, hst2⟩ := hSS g (by omega)
  have e0 : zm_s kk (g + 1) = zm_s kk g + kk g := rfl
  have e1 : zm_s hh (g + 1) = zm_s hh g + hh g := rfl
  have hS : zl_S g (hh g) hh x_stack y_tops y_stack := ⟨fun i hi => hSS i (by omega), yt, by omega, hst2⟩
  have hS2 := zl_push (v := if st = 0 then 1 else 0) (zl_push (v := x) hS (by omega)) (by omega)
  refine ⟨(x_limit, x_pending, zs_H S 30, nI J', wm, nI r', nI W', x_ring, x_kept, x_version, nI e', nI (g + 1), nI (sf g), nI (kk g + Lr), nI (pp g), nI (7 * g + (hh g + 2)), nI (7 * g), -1, x_lastResult, x_lastUsed, x_lastCalls, x_op, x_arg, x_length, x_blockLength, x_blockCost, x_blockMost, x_blockNeed, x_blockRise, S, x_weight, x_journalCell, x_journalOld, x_mailTo, x_mailFrom, x_mailAmount, x_mailArg, x_oldCell, x_oldValue, x_oldCount, x_oldDigest, x_eventAccount, x_eventTag, x_eventValue, x_frameSelf, x_frameCaller, x_frameAmount, x_frameArg, x_frameGiven, x_frameLeft, x_framePc, x_frameSp, x_frameJournal, x_frameEvents, x_frameWarm, x_frameRefund, x_frameMails, upd (upd x_stack (7 * g + hh g) x) (7 * g + (hh g + 1)) (if st = 0 then 1 else 0)), (x_limit, nI e', nI W', nI r', nI (g + 1), nI st, x, nI Lr, x_lastCalls, y_result, y_used, y_calls, x_version, x_kept, x_op, x_arg, y_lengths, nw, y_copies, y_older, y_before, yw, y_warmCopies, y_eventCopies, y_messageCopies, y_refundCopies, y_events, y_messages, y_self, y_caller, y_amounts, y_arguments, y_given, upd y_left g (nI (kk g + Lr)), y_at, upd (upd y_tops g (nI (hh g + 1))) g (nI (hh g + 2)), upd (upd y_stack (6 * g + hh g) x) (6 * g + (hh g + 1)) (if st = 0 then 1 else 0)), ?_, fun post hp => ?_, fun post hp => ?_⟩
  · refine zr_R_mk (pp := pp) hPG kST kJR kWM (fun i hi => hF1 i (by omega)) (fun i hi => hF2 i (by omega)) ⟨kml, fun i j hi hj => hMO.2 i j hi (by omega)⟩ (zl_FBl (fun i hi => hFB i (by omega))) hS2.1 hS2.2 ⟨by omega, rfl, sf6, pk_us, yp, hpp⟩ ?_ hML ⟨ke, hEV.2⟩ hVS hMI hBF
    exact ⟨by omega, by omega, by omega, b4, b5, b6, by omega, kr, by omega⟩
  · have main : wX_finish_22 post (nI st) x (nI (g + 1)) x_limit x_pending (zs_H x_state 30) (nI J) x_warm (nI r) (nI W) x_ring x_kept x_version (nI e) (nI (g + 1 + 1)) x_self (nI Lr) x_pc x_sp x_base (-1) x_lastResult x_lastUsed x_lastCalls x_op x_arg x_length x_blockLength x_blockCost x_blockMost x_blockNeed x_blockRise x_state x_weight x_journalCell x_journalOld x_mailTo x_mailFrom x_mailAmount x_mailArg x_oldCell x_oldValue x_oldCount x_oldDigest x_eventAccount x_eventTag x_eventValue x_frameSelf x_frameCaller x_frameAmount x_frameArg x_frameGiven x_frameLeft x_framePc x_frameSp x_frameJournal x_frameEvents x_frameWarm x_frameRefund x_frameMails x_stack := by
      refine kX post (xw_f72s (q := 7 * g + hh g) (by omega) hst hgv (by omega) (by omega) xs xp xq fl xg ?_)
      exact hp
    refine xw_finish hst (by omega) (fun z => ?_) (fun z => ?_)
    · have := hl2 (by omega)
      subst this
      exact main
    · rw [(hl z).1]
      exact main
  · refine yw_end hst (by omega) (fun z => ?_) (fun z => ?_)
    · have := hl2 (by omega)
      subst this
      exact kY post (yw_158s (by omega) (by omega) hgv yt yl yg (by omega) hp)
    · rw [(hl z).2]
      exact kY post (yw_158s (by omega) (by omega) hgv yt yl yg (by omega) hp)
end
end
section
/-! walks of the control instructions, the two loops -/
def zo_en (b : Int32) (l : Nat) : Nat := if b ≤ 0 then l else if nI l ≤ b then l else b.toNatClampNeg
theorem zo_en3 {b : Int32} {l : Nat} (h1 : ¬ b ≤ 0) (h2 : ¬ nI l ≤ b) (hl : l < 2 ^ 31) : zo_en b l < l ∧ b = nI (zo_en b l) := by
  have hb : ¬ b < 0 := fun z => h1 (Int32.le_of_lt z)
  obtain ⟨j, hj, rfl⟩ := nI_of hb
  unfold zo_en
  rw [if_neg h1, if_neg h2, nI_clamp hj]
  refine ⟨?_, rfl⟩
  rw [nI_leI hl hj] at h2
  omega
theorem zo_enle {b : Int32} {l : Nat} (hl : l < 2 ^ 31) : zo_en b l ≤ l := by
  by_cases h1 : b ≤ 0
  · unfold zo_en; rw [if_pos h1]; exact Nat.le_refl l
  · by_cases h2 : nI l ≤ b
    · unfold zo_en; rw [if_neg h1, if_pos h2]; exact Nat.le_refl l
    · exact Nat.le_of_lt (zo_en3 h1 h2 hl).1
def zx_F (post : Int32 → SX → Prop) (n : Nat) (u : SX) : Prop := match u with
  | (x_limit, x_pending, x_digest, x_journal, x_warm, x_refund, x_mails, x_ring, x_kept, x_version, x_events, x_depth, x_self, x_left, x_pc, x_sp, x_base, x_lastStatus, x_lastResult, x_lastUsed, x_lastCalls, x_op, x_arg, x_length, x_blockLength, x_blockCost, x_blockMost, x_blockNeed, x_blockRise, x_state, x_weight, x_journalCell, x_journalOld, x_mailTo, x_mailFrom, x_mailAmount, x_mailArg, x_oldCell, x_oldValue, x_oldCount, x_oldDigest, x_eventAccount, x_eventTag, x_eventValue, x_frameSelf, x_frameCaller, x_frameAmount, x_frameArg, x_frameGiven, x_frameLeft, x_framePc, x_frameSp, x_frameJournal, x_frameEvents, x_frameWarm, x_frameRefund, x_frameMails, x_stack) => wX_finishAll_5 post n x_limit x_pending x_digest x_journal x_warm x_refund x_mails x_ring x_kept x_version x_events x_depth x_self x_left x_pc x_sp x_base x_lastStatus x_lastResult x_lastUsed x_lastCalls x_op x_arg x_length x_blockLength x_blockCost x_blockMost x_blockNeed x_blockRise x_state x_weight x_journalCell x_journalOld x_mailTo x_mailFrom x_mailAmount x_mailArg x_oldCell x_oldValue x_oldCount x_oldDigest x_eventAccount x_eventTag x_eventValue x_frameSelf x_frameCaller x_frameAmount x_frameArg x_frameGiven x_frameLeft x_framePc x_frameSp x_frameJournal x_frameEvents x_frameWarm x_frameRefund x_frameMails x_stack
def zy_F (post : SY → Prop) (n : Nat) (v : SY) : Prop := match v with
  | (y_limit, y_eventCount, y_waiting, y_refund, y_depth, y_ended, y_answer, y_rest, y_begun, y_result, y_used, y_calls, y_version, y_kept, x_op, x_arg, y_lengths, y_now, y_copies, y_older, y_before, y_warm, y_warmCopies, y_eventCopies, y_messageCopies, y_refundCopies, y_events, y_messages, y_self, y_caller, y_amounts, y_arguments, y_given, y_left, y_at, y_tops, y_stack) => (y_depth ≤ 0 → wY_perform_18 post n 0 y_limit y_eventCount y_waiting y_refund y_depth y_ended y_answer y_rest y_begun y_result y_used y_calls y_version y_kept x_op x_arg y_lengths y_now y_copies y_older y_before y_warm y_warmCopies y_eventCopies y_messageCopies y_refundCopies y_events y_messages y_self y_caller y_amounts y_arguments y_given y_left y_at y_tops y_stack) ∧ (¬ y_depth ≤ 0 → wY_perform_18 post n 1 y_limit y_eventCount y_waiting y_refund y_depth y_ended y_answer y_rest y_begun y_result y_used y_calls y_version y_kept x_op x_arg y_lengths y_now y_copies y_older y_before y_warm y_warmCopies y_eventCopies y_messageCopies y_refundCopies y_events y_messages y_self y_caller y_amounts y_arguments y_given y_left y_at y_tops y_stack)
def zx_go (u u' : SX) : Prop := ∀ (post : Int32 → SX → Prop) (n : Nat), zx_F post n u' → ∃ n', zx_F post n' u
def zy_go (v v' : SY) : Prop := ∀ (post : SY → Prop) (n : Nat), zy_F post n v' → ∃ n', zy_F post n' v
theorem zx_rf (u : SX) : zx_go u u := fun _ n h => ⟨n, h⟩
theorem zy_rf (v : SY) : zy_go v v := fun _ n h => ⟨n, h⟩
theorem zx_tr {u v w : SX} (h : zx_go u v) (k : zx_go v w) : zx_go u w := fun post n hn => by
  obtain ⟨m, hm⟩ := k post n hn
  exact h post m hm
theorem zy_tr {u v w : SY} (h : zy_go u v) (k : zy_go v w) : zy_go u w := fun post n hn => by
  obtain ⟨m, hm⟩ := k post n hn
  exact h post m hm
section
variable {x_limit x_pending x_journal x_refund x_mails x_ring x_kept x_version x_events x_depth x_self x_left x_pc x_sp x_base x_lastStatus x_lastResult x_lastUsed x_lastCalls : Int32} {x_digest x_warm : Int64} {x_op x_arg x_length x_blockLength x_blockCost x_blockMost x_blockNeed x_blockRise x_state x_journalCell x_journalOld x_mailTo x_mailFrom x_mailAmount x_mailArg x_oldCell x_oldValue x_oldCount x_eventAccount x_eventTag x_eventValue x_frameSelf x_frameCaller x_frameAmount x_frameArg x_frameGiven x_frameLeft x_framePc x_frameSp x_frameJournal x_frameEvents x_frameRefund x_frameMails x_stack : Nat → Int32} {x_weight x_oldDigest x_frameWarm : Nat → Int64}
variable {y_limit y_eventCount y_waiting y_refund y_depth y_ended y_answer y_rest y_begun y_result y_used y_calls y_version y_kept : Int32} {y_ops y_bs y_lengths y_now y_copies y_older y_before y_warm y_warmCopies y_eventCopies y_messageCopies y_refundCopies y_events y_messages y_self y_caller y_amounts y_arguments y_given y_left y_at y_tops y_stack : Nat → Int32}
theorem zx_st {u' : SX} (h : ∀ post : SX → Prop, post u' → wpX_advance post (x_limit, x_pending, x_digest, x_journal, x_warm, x_refund, x_mails, x_ring, x_kept, x_version, x_events, x_depth, x_self, x_left, x_pc, x_sp, x_base, -1, x_lastResult, x_lastUsed, x_lastCalls, x_op, x_arg, x_length, x_blockLength, x_blockCost, x_blockMost, x_blockNeed, x_blockRise, x_state, x_weight, x_journalCell, x_journalOld, x_mailTo, x_mailFrom, x_mailAmount, x_mailArg, x_oldCell, x_oldValue, x_oldCount, x_oldDigest, x_eventAccount, x_eventTag, x_eventValue, x_frameSelf, x_frameCaller, x_frameAmount, x_frameArg, x_frameGiven, x_frameLeft, x_framePc, x_frameSp, x_frameJournal, x_frameEvents, x_frameWarm, x_frameRefund, x_frameMails, x_stack)) : zx_go (x_limit, x_pending, x_digest, x_journal, x_warm, x_refund, x_mails, x_ring, x_kept, x_version, x_events, x_depth, x_self, x_left, x_pc, x_sp, x_base, -1, x_lastResult, x_lastUsed, x_lastCalls, x_op, x_arg, x_length, x_blockLength, x_blockCost, x_blockMost, x_blockNeed, x_blockRise, x_state, x_weight, x_journalCell, x_journalOld, x_mailTo, x_mailFrom, x_mailAmount, x_mailArg, x_oldCell, x_oldValue, x_oldCount, x_oldDigest, x_eventAccount, x_eventTag, x_eventValue, x_frameSelf, x_frameCaller, x_frameAmount, x_frameArg, x_frameGiven, x_frameLeft, x_framePc, x_frameSp, x_frameJournal, x_frameEvents, x_frameWarm, x_frameRefund, x_frameMails, x_stack) u' := fun post n hn => ⟨n + 1, br_f (by decide) (h (zx_F post n) hn)⟩
theorem zy_st {f : Nat} {v' : SY} (hf : f < 5) (h : ∀ post : SY → Prop, post v' → wpY_step post (y_limit, y_eventCount, y_waiting, y_refund, nI (f + 1), y_ended, y_answer, y_rest, y_begun, y_result, y_used, y_calls, y_version, y_kept, x_op, x_arg, y_lengths, y_now, y_copies, y_older, y_before, y_warm, y_warmCopies, y_eventCopies, y_messageCopies, y_refundCopies, y_events, y_messages, y_self, y_caller, y_amounts, y_arguments, y_given, y_left, y_at, y_tops, y_stack)) : zy_go (y_limit, y_eventCount, y_waiting, y_refund, nI (f + 1), y_ended, y_answer, y_rest, y_begun, y_result, y_used, y_calls, y_version, y_kept, x_op, x_arg, y_lengths, y_now, y_copies, y_older, y_before, y_warm, y_warmCopies, y_eventCopies, y_messageCopies, y_refundCopies, y_events, y_messages, y_self, y_caller, y_amounts, y_arguments, y_given, y_left, y_at, y_tops, y_stack) v' := fun post n hn => ⟨n + 1, br_f (nI_nle (by omega) (by omega)) (br_f (by decide) (h (zy_F post n) hn))⟩
theorem xw_c16 {post : SX → Prop} {b : Int32} (hp : post (x_limit, x_pending, x_digest, x_journal, x_warm, x_refund, x_mails, x_ring, x_kept, x_version, x_events, x_depth, x_self, x_left, b, x_sp, x_base, x_lastStatus, x_lastResult, x_lastUsed, x_lastCalls, x_op, x_arg, x_length, x_blockLength, x_blockCost, x_blockMost, x_blockNeed, x_blockRise, x_state, x_weight, x_journalCell, x_journalOld, x_mailTo, x_mailFrom, x_mailAmount, x_mailArg, x_oldCell, x_oldValue, x_oldCount, x_oldDigest, x_eventAccount, x_eventTag, x_eventValue, x_frameSelf, x_frameCaller, x_frameAmount, x_frameArg, x_frameGiven, x_frameLeft, x_framePc, x_frameSp, x_frameJournal, x_frameEvents, x_frameWarm, x_frameRefund, x_frameMails, x_stack)) : wpX_control post (x_limit, x_pending, x_digest, x_journal, x_warm, x_refund, x_mails, x_ring, x_kept, x_version, x_events, x_depth, x_self, x_left, x_pc, x_sp, x_base, x_lastStatus, x_lastResult, x_lastUsed, x_lastCalls, x_op, x_arg, x_length, x_blockLength, x_blockCost, x_blockMost, x_blockNeed, x_blockRise, x_state, x_weight, x_journalCell, x_journalOld, x_mailTo, x_mailFrom, x_mailAmount, x_mailArg, x_oldCell, x_oldValue, x_oldCount, x_oldDigest, x_eventAccount, x_eventTag, x_eventValue, x_frameSelf, x_frameCaller, x_frameAmount, x_frameArg, x_frameGiven, x_frameLeft, x_framePc, x_frameSp, x_frameJournal, x_frameEvents, x_frameWarm, x_frameRefund, x_frameMails, x_stack) (nI 16) b := br_t rfl hp
theorem xw_c17 {post : SX → Prop} {q : Nat} {b : Int32} (hq : q < 35) (h1 : x_stack q = 0 → post (x_limit, x_pending, x_digest, x_journal, x_warm, x_refund, x_mails, x_ring, x_kept, x_version, x_events, x_depth, x_self, x_left, b, nI q, x_base, x_lastStatus, x_lastResult, x_lastUsed, x_lastCalls, x_op, x_arg, x_length, x_blockLength, x_blockCost, x_blockMost, x_blockNeed, x_blockRise, x_state, x_weight, x_journalCell, x_journalOld, x_mailTo, x_mailFrom, x_mailAmount, x_mailArg, x_oldCell, x_oldValue, x_oldCount, x_oldDigest, x_eventAccount, x_eventTag, x_eventValue, x_frameSelf, x_frameCaller, x_frameAmount, x_frameArg, x_frameGiven, x_frameLeft, x_framePc, x_frameSp, x_frameJournal, x_frameEvents, x_frameWarm, x_frameRefund, x_frameMails, x_stack)) (h0 : ¬ x_stack q = 0 → post (x_limit, x_pending, x_digest, x_journal, x_warm, x_refund, x_mails, x_ring, x_kept, x_version, x_events, x_depth, x_self, x_left, x_pc, nI q, x_base, x_lastStatus, x_lastResult, x_lastUsed, x_lastCalls, x_op, x_arg, x_length, x_blockLength, x_blockCost, x_blockMost, x_blockNeed, x_blockRise, x_state, x_weight, x_journalCell, x_journalOld, x_mailTo, x_mailFrom, x_mailAmount, x_mailArg, x_oldCell, x_oldValue, x_oldCount, x_oldDigest, x_eventAccount, x_eventTag, x_eventValue, x_frameSelf, x_frameCaller, x_frameAmount, x_frameArg, x_frameGiven, x_frameLeft, x_framePc, x_frameSp, x_frameJournal, x_frameEvents, x_frameWarm, x_frameRefund, x_frameMails, x_stack)) : wpX_control post (x_limit, x_pending, x_digest, x_journal, x_warm, x_refund, x_mails, x_ring, x_kept, x_version, x_events, x_depth, x_self, x_left, x_pc, nI (q + 1), x_base, x_lastStatus, x_lastResult, x_lastUsed, x_lastCalls, x_op, x_arg, x_length, x_blockLength, x_blockCost, x_blockMost, x_blockNeed, x_blockRise, x_state, x_weight, x_journalCell, x_journalOld, x_mailTo, x_mailFrom, x_mailAmount, x_mailArg, x_oldCell, x_oldValue, x_oldCount, x_oldDigest, x_eventAccount, x_eventTag, x_eventValue, x_frameSelf, x_frameCaller, x_frameAmount, x_frameArg, x_frameGiven, x_frameLeft, x_framePc, x_frameSp, x_frameJournal, x_frameEvents, x_frameWarm, x_frameRefund, x_frameMails, x_stack) (nI 17) b := by
  have hj : vp_in (nI (q + 1) - 1) 35 := xw_in1 hq
  have e1 : (nI (q + 1) - 1).toNatClampNeg = q := by rw [nI_pred]; exact nI_clamp (by omega)
  unfold wpX_control
  dsimp only
  rw [e1]
  exact br_f (by decide) (br_t rfl (nm_r (nI_pred q) ⟨hj, br_c h1 h0⟩))
theorem xw_c19 {post : SX → Prop} {q o : Nat} {b : Int32} (hq : q < 35) (ho : o = 19 ∨ o = 20) (hp : wpX_finish post (x_limit, x_pending, x_digest, x_journal, x_warm, x_refund, x_mails, x_ring, x_kept, x_version, x_events, x_depth, x_self, x_left, x_pc, nI q, x_base, x_lastStatus, x_lastResult, x_lastUsed, x_lastCalls, x_op, x_arg, x_length, x_blockLength, x_blockCost, x_blockMost, x_blockNeed, x_blockRise, x_state, x_weight, x_journalCell, x_journalOld, x_mailTo, x_mailFrom, x_mailAmount, x_mailArg, x_oldCell, x_oldValue, x_oldCount, x_oldDigest, x_eventAccount, x_eventTag, x_eventValue, x_frameSelf, x_frameCaller, x_frameAmount, x_frameArg, x_frameGiven, x_frameLeft, x_framePc, x_frameSp, x_frameJournal, x_frameEvents, x_frameWarm, x_frameRefund, x_frameMails, x_stack) (nI (o - 19)) (x_stack q)) : wpX_control post (x_limit, x_pending, x_digest, x_journal, x_warm, x_refund, x_mails, x_ring, x_kept, x_version, x_events, x_depth, x_self, x_left, x_pc, nI (q + 1), x_base, x_lastStatus, x_lastResult, x_lastUsed, x_lastCalls, x_op, x_arg, x_length, x_blockLength, x_blockCost, x_blockMost, x_blockNeed, x_blockRise, x_state, x_weight, x_journalCell, x_journalOld, x_mailTo, x_mailFrom, x_mailAmount, x_mailArg, x_oldCell, x_oldValue, x_oldCount, x_oldDigest, x_eventAccount, x_eventTag, x_eventValue, x_frameSelf, x_frameCaller, x_frameAmount, x_frameArg, x_frameGiven, x_frameLeft, x_framePc, x_frameSp, x_frameJournal, x_frameEvents, x_frameWarm, x_frameRefund, x_frameMails, x_stack) (nI o) b := by
  have hj : vp_in (nI (q + 1) - 1) 35 := xw_in1 hq
  have e1 : (nI (q + 1) - 1).toNatClampNeg = q := by rw [nI_pred]; exact nI_clamp (by omega)
  unfold wpX_control
  dsimp only
  rw [e1]
  rcases ho with rfl | rfl
  · exact br_f (by decide) (br_f (by decide) (br_f (by decide) (nm_r (nI_pred q) ⟨hj, nm_e (br_t rfl hp)⟩)))
  · exact br_f (by decide) (br_f (by decide) (br_f (by decide) (nm_r (nI_pred q) ⟨hj, nm_e (br_f (by decide) hp)⟩)))
theorem xw_c18 {post : SX → Prop} {q lx : Nat} {b : Int32} (hq : q + 2 < 35) (hl : lx < 2 ^ 31) (hp : wX_control_126 post (x_stack (q + 2)) (x_stack (q + 1)) (x_stack q) (nI (zo_en b lx)) x_limit x_pending x_digest x_journal x_warm x_refund x_mails x_ring x_kept x_version x_events x_depth x_self (nI lx) x_pc (nI q) x_base x_lastStatus x_lastResult x_lastUsed x_lastCalls x_op x_arg x_length x_blockLength x_blockCost x_blockMost x_blockNeed x_blockRise x_state x_weight x_journalCell x_journalOld x_mailTo x_mailFrom x_mailAmount x_mailArg x_oldCell x_oldValue x_oldCount x_oldDigest x_eventAccount x_eventTag x_eventValue x_frameSelf x_frameCaller x_frameAmount x_frameArg x_frameGiven x_frameLeft x_framePc x_frameSp x_frameJournal x_frameEvents x_frameWarm x_frameRefund x_frameMails x_stack) : wpX_control post (x_limit, x_pending, x_digest, x_journal, x_warm, x_refund, x_mails, x_ring, x_kept, x_version, x_events, x_depth, x_self, nI lx, x_pc, nI (q + 3), x_base, x_lastStatus, x_lastResult, x_lastUsed, x_lastCalls, x_op, x_arg, x_length, x_blockLength, x_blockCost, x_blockMost, x_blockNeed, x_blockRise, x_state, x_weight, x_journalCell, x_journalOld, x_mailTo, x_mailFrom, x_mailAmount, x_mailArg, x_oldCell, x_oldValue, x_oldCount, x_oldDigest, x_eventAccount, x_eventTag, x_eventValue, x_frameSelf, x_frameCaller, x_frameAmount, x_frameArg, x_frameGiven, x_frameLeft, x_framePc, x_frameSp, x_frameJournal, x_frameEvents, x_frameWarm, x_frameRefund, x_frameMails, x_stack) (nI 18) b := by
  have a1 : (nI (q + 3) - 1).toNatClampNeg = q + 2 := by rw [nI_pred]; exact nI_clamp (by omega)
  have a2 : (nI (q + 2) - 1).toNatClampNeg = q + 1 := by rw [nI_pred]; exact nI_clamp (by omega)
  have a3 : (nI (q + 1) - 1).toNatClampNeg = q := by rw [nI_pred]; exact nI_clamp (by omega)
  unfold wpX_control
  dsimp only
  rw [a1]
  refine br_f (by decide) (br_f (by decide) (br_t rfl (nm_r (e' := nI (q + 2)) (nI_pred (q + 2)) ⟨xw_in1 hq, nm_e (nm_r (e' := nI (q + 1)) (nI_pred (q + 1)) ⟨xw_in1 (by omega), ?_⟩)⟩)))
  rw [a2]
  refine nm_e (nm_r (e' := nI q) (nI_pred q) ⟨xw_in1 (by omega), ?_⟩)
  rw [a3]
  refine nm_e (br_c (fun z => ?_) (fun z => br_c (fun y => ?_) (fun y => ?_)))
  · have : zo_en b lx = lx := if_pos z
    rw [this] at hp
    exact hp
  · have : zo_en b lx = lx := by unfold zo_en; rw [if_neg z, if_pos y]
    rw [this] at hp
    exact hp
  · rw [← (zo_en3 z y hl).2] at hp
    exact hp
theorem xw_161 {post : SX → Prop} {q : Nat} (hq : q + 1 < 35) (hp : post (x_limit, x_pending, x_digest, x_journal, x_warm, x_refund, x_mails, x_ring, x_kept, x_version, x_events, x_depth, x_self, x_left, x_pc, nI (q + 2), x_base, x_lastStatus, x_lastResult, x_lastUsed, x_lastCalls, x_op, x_arg, x_length, x_blockLength, x_blockCost, x_blockMost, x_blockNeed, x_blockRise, x_state, x_weight, x_journalCell, x_journalOld, x_mailTo, x_mailFrom, x_mailAmount, x_mailArg, x_oldCell, x_oldValue, x_oldCount, x_oldDigest, x_eventAccount, x_eventTag, x_eventValue, x_frameSelf, x_frameCaller, x_frameAmount, x_frameArg, x_frameGiven, x_frameLeft, x_framePc, x_frameSp, x_frameJournal, x_frameEvents, x_frameWarm, x_frameRefund, x_frameMails, upd (upd x_stack q 0) (q + 1) 0)) : wX_control_160 post x_limit x_pending x_digest x_journal x_warm x_refund x_mails x_ring x_kept x_version x_events x_depth x_self x_left x_pc (nI q) x_base x_lastStatus x_lastResult x_lastUsed x_lastCalls x_op x_arg x_length x_blockLength x_blockCost x_blockMost x_blockNeed x_blockRise x_state x_weight x_journalCell x_journalOld x_mailTo x_mailFrom x_mailAmount x_mailArg x_oldCell x_oldValue x_oldCount x_oldDigest x_eventAccount x_eventTag x_eventValue x_frameSelf x_frameCaller x_frameAmount x_frameArg x_frameGiven x_frameLeft x_framePc x_frameSp x_frameJournal x_frameEvents x_frameWarm x_frameRefund x_frameMails x_stack := by
  refine br_t rfl (nm_r (e' := nI (q + 1)) (nI_1 q) ⟨vp_in_nI (by omega) (by omega), ?_⟩)
  rw [nI_clamp (by omega : q < 2 ^ 31)]
  refine nm_e (nm_r (e' := nI (q + 2)) (nI_1 (q + 1)) ⟨vp_in_nI (by omega) (by omega), ?_⟩)
  rw [nI_clamp (by omega : q + 1 < 2 ^ 31)]
  exact nm_e hp
theorem yw_o185 {post : SY → Prop} {f L : Nat} {x4 x5 x6 : Int32} (hf : f < 5) (el : y_left f = nI L) (hp : wY_other_191 post (nI f) x4 x5 x6 (nI L) y_limit y_eventCount y_waiting y_refund y_depth y_ended y_answer y_rest y_begun y_result y_used y_calls y_version y_kept x_op x_arg y_lengths y_now y_copies y_older y_before y_warm y_warmCopies y_eventCopies y_messageCopies y_refundCopies y_events y_messages y_self y_caller y_amounts y_arguments y_given y_left y_at y_tops y_stack) : wY_other_185 post (nI f) x4 x5 x6 y_limit y_eventCount y_waiting y_refund y_depth y_ended y_answer y_rest y_begun y_result y_used y_calls y_version y_kept x_op x_arg y_lengths y_now y_copies y_older y_before y_warm y_warmCopies y_eventCopies y_messageCopies y_refundCopies y_events y_messages y_self y_caller y_amounts y_arguments y_given y_left y_at y_tops y_stack := by
  refine ⟨vp_in_nI hf (by omega), ?_⟩
  rw [nI_clamp (by omega : f < 2 ^ 31), el]
  exact hp
theorem yw_o18 {post : SY → Prop} {f h L : Nat} {b : Int32} (hf : f < 5) (hh : h + 2 < 6) (hL : L < 2 ^ 31) (et : y_tops f = nI (h + 3)) (el : y_left f = nI L)
    (h1 : (y_stack (6 * f + h) < 0 ∨ 6 ≤ y_stack (6 * f + h)) → post (y_limit, y_eventCount, y_waiting, y_refund, nI (f + 1), y_ended, y_answer, y_rest, y_begun, y_result, y_used, y_calls, y_version, y_kept, x_op, x_arg, y_lengths, y_now, y_copies, y_older, y_before, y_warm, y_warmCopies, y_eventCopies, y_messageCopies, y_refundCopies, y_events, y_messages, y_self, y_caller, y_amounts, y_arguments, y_given, y_left, y_at, upd (upd (upd (upd (upd y_tops f (nI (h + 2))) f (nI (h + 1))) f (nI h)) f (nI (h + 1))) f (nI (h + 2)), upd (upd y_stack (6 * f + h) 0) (6 * f + (h + 1)) 0))
    (h2 : ∀ a : Nat, a < 6 → y_stack (6 * f + h) = nI a → wY_other_191 post (nI f) (y_stack (6 * f + (h + 2))) (y_stack (6 * f + (h + 1))) (nI a) (nI (zo_en b L)) y_limit y_eventCount y_waiting y_refund (nI (f + 1)) y_ended y_answer y_rest y_begun y_result y_used y_calls y_version y_kept x_op x_arg y_lengths y_now y_copies y_older y_before y_warm y_warmCopies y_eventCopies y_messageCopies y_refundCopies y_events y_messages y_self y_caller y_amounts y_arguments y_given y_left y_at (upd (upd (upd y_tops f (nI (h + 2))) f (nI (h + 1))) f (nI h)) y_stack) : wpY_other post (y_limit, y_eventCount, y_waiting, y_refund, nI (f + 1), y_ended, y_answer, y_rest, y_begun, y_result, y_used, y_calls, y_version, y_kept, x_op, x_arg, y_lengths, y_now, y_copies, y_older, y_before, y_warm, y_warmCopies, y_eventCopies, y_messageCopies, y_refundCopies, y_events, y_messages, y_self, y_caller, y_amounts, y_arguments, y_given, y_left, y_at, y_tops, y_stack) (nI 18) b := by
  have hi : vp_in (nI f) 5 := vp_in_nI hf (by omega)
  have ef : (nI f).toNatClampNeg = f := nI_clamp (by omega)
  unfold wpY_other
  dsimp only
  refine nm_r (e' := nI f) (nI_pred f) (br_f (by decide) (br_f (by decide) (yw_pop hf hh et (yw_pop hf (by omega) pk_us (yw_pop hf (by omega) pk_us (br_f (by decide) ?_))))))
  refine yw_isAcc (fun a ha ea => br_f (by decide) ?_) (fun hz => br_t rfl (yw_push hf (by omega) pk_us (yw_push hf (by omega) pk_us (h1 hz))))
  have H := h2 a ha ea
  rw [← ea] at H
  refine br_c (fun z => ?_) (fun z => ⟨hi, br_c (fun y => ?_) (fun y => ?_)⟩)
  · exact yw_o185 hf el (by rw [show zo_en b L = L from if_pos z] at H; exact H)
  · have y' : nI L ≤ b := by
      have y2 : y_left (nI f).toNatClampNeg ≤ b := y
      rw [ef, el] at y2; exact y2
    exact yw_o185 hf el (by rw [show zo_en b L = L by unfold zo_en; rw [if_neg z, if_pos y']] at H; exact H)
  · have y' : ¬ nI L ≤ b := by
      have y2 : ¬ y_left (nI f).toNatClampNeg ≤ b := y
      rw [ef, el] at y2; exact y2
    rw [← (zo_en3 z y' hL).2] at H
    exact H
/-- the frame of an empty program ends at once -/
theorem xw_empty {u' : SX} {f a : Nat} {en : Int32} (ha : a < 6) (hl : x_length a = 0) (h : ∀ post : SX → Prop, post u' → wpX_finish post (x_limit, x_pending, x_digest, x_journal, x_warm, x_refund, x_mails, x_ring, x_kept, x_version, x_events, x_depth, nI a, x_left, x_pc, x_sp, x_base, -1, x_lastResult, x_lastUsed, x_lastCalls, x_op, x_arg, x_length, x_blockLength, x_blockCost, x_blockMost, x_blockNeed, x_blockRise, x_state, x_weight, x_journalCell, x_journalOld, x_mailTo, x_mailFrom, x_mailAmount, x_mailArg, x_oldCell, x_oldValue, x_oldCount, x_oldDigest, x_eventAccount, x_eventTag, x_eventValue, x_frameSelf, x_frameCaller, x_frameAmount, x_frameArg, x_frameGiven, x_frameLeft, x_framePc, x_frameSp, x_frameJournal, x_frameEvents, x_frameWarm, x_frameRefund, x_frameMails, x_stack) 0 0) : zx_go (x_limit, x_pending, x_digest, x_journal, x_warm, x_refund, x_mails, x_ring, x_kept, x_version, x_events, x_depth, nI a, x_left, x_pc, x_sp, x_base, -1, x_lastResult, x_lastUsed, x_lastCalls, x_op, x_arg, x_length, x_blockLength, x_blockCost, x_blockMost, x_blockNeed, x_blockRise, x_state, x_weight, x_journalCell, x_journalOld, x_mailTo, x_mailFrom, x_mailAmount, x_mailArg, x_oldCell, x_oldValue, x_oldCount, x_oldDigest, x_eventAccount, x_eventTag, x_eventValue, x_frameSelf, x_frameCaller, x_frameAmount, x_frameArg, x_frameGiven, x_frameLeft, x_framePc, x_frameSp, x_frameJournal, x_frameEvents, x_frameWarm, x_frameRefund, x_frameMails, x_stack) u' := by
  refine zx_st fun post hp => ?_
  unfold wpX_advance
  dsimp only
  refine nm_e ⟨vp_in_nI ha (by omega), ?_⟩
  rw [nI_clamp (by omega : a < 2 ^ 31)]
  exact br_t hl (h _ hp)
end
theorem zl_F1x {d : Nat} {sf gv : Nat → Nat} {xs ys xc yc xa ya xr yr xg yg : Nat → Int32} {v1 v2 v3 v4 v5 : Int32} (h : zr_F1 d sf gv xs ys xc yc xa ya xr yr xg yg) : zr_F1 d sf gv (upd xs d v1) ys (upd xc d v2) yc (upd xa d v3) ya (upd xr d v4) yr (upd xg d v5) yg := by
  intro g hg
  have e : g ≠ d := by omega
  rw [pk_un e, pk_un e, pk_un e, pk_un e, pk_un e]
  exact h g hg
theorem zl_F2x {d : Nat} {jn ml : Nat → Nat} {xe ye xm ym xr yr xj : Nat → Int32} {xw : Nat → Int64} {yw : Nat → Int32} {v1 v2 v3 v4 : Int32} {w : Int64} (h : zr_F2 d jn ml xe ye xm ym xr yr xj xw yw) : zr_F2 d jn ml (upd xe d v1) ye (upd xm d v2) ym (upd xr d v3) yr (upd xj d v4) (vp_updL xw d w) yw := by
  intro g hg
  have e : g ≠ d := by omega
  rw [pk_un e, pk_un e, pk_un e, pk_un e, pk_uLn e]
  exact h g hg
theorem zl_FBx {f : Nat} {ln sf gv kk hh pp : Nat → Nat} {xl yl xp yp xq : Nat → Int32} {v1 v2 v3 : Int32} (h : zr_FB f ln sf gv kk hh pp xl yl xp yp xq) : zr_FB f ln sf gv kk hh pp (upd xl f v1) yl (upd xp f v2) yp (upd xq f v3) := by
  intro g hg
  have e : g ≠ f := by omega
  rw [pk_un e, pk_un e, pk_un e]
  exact h g hg
theorem zl_FBsf {f a : Nat} {ln sf gv kk hh pp : Nat → Nat} {xl yl xp yp xq : Nat → Int32} (h : zr_FB f ln sf gv kk hh pp xl yl xp yp xq) : zr_FB f ln (zm_u sf f a) gv kk hh pp xl yl xp yp xq := by
  intro g hg
  rw [zm_un (by omega)]
  exact h g hg
end
section
/-! control instructions in lockstep -/
def zr_Out (y_result : Int32) (x_op x_arg : Nat → Int32) (ln : Nat → Nat) (B : Nat → Int32) (N G J0 : Nat) (u : SX) (v : SY) : Prop :=
  (∃ N' s p h L : Nat, N' < N ∧ zr_R y_result x_op x_arg ln B N' G J0 L p s p h L u v) ∨ ∃ st N' : Nat, N' ≤ N ∧ zr_D y_result x_op x_arg ln B N' G J0 st u v
theorem zr_Out_mono {y_result : Int32} {x_op x_arg : Nat → Int32} {ln : Nat → Nat} {B : Nat → Int32} {N N2 G J0 : Nat} {u : SX} {v : SY} (h : zr_Out y_result x_op x_arg ln B N G J0 u v) (hN : N ≤ N2) : zr_Out y_result x_op x_arg ln B N2 G J0 u v := by
  rcases h with ⟨N', s, p, h, L, hl, hR⟩ | ⟨st, N', hl, hD⟩
  · exact Or.inl ⟨N', s, p, h, L, by omega, hR⟩
  · exact Or.inr ⟨st, N', by omega, hD⟩
section
variable {x_limit x_pending x_journal x_refund x_mails x_ring x_kept x_version x_events x_depth x_self x_left x_pc x_sp x_base x_lastStatus x_lastResult x_lastUsed x_lastCalls : Int32} {x_digest x_warm : Int64} {x_op x_arg x_length x_blockLength x_blockCost x_blockMost x_blockNeed x_blockRise x_state x_journalCell x_journalOld x_mailTo x_mailFrom x_mailAmount x_mailArg x_oldCell x_oldValue x_oldCount x_eventAccount x_eventTag x_eventValue x_frameSelf x_frameCaller x_frameAmount x_frameArg x_frameGiven x_frameLeft x_framePc x_frameSp x_frameJournal x_frameEvents x_frameRefund x_frameMails x_stack : Nat → Int32} {x_weight x_oldDigest x_frameWarm : Nat → Int64}
variable {y_limit y_eventCount y_waiting y_refund y_depth y_ended y_answer y_rest y_begun y_result y_used y_calls y_version y_kept : Int32} {y_ops y_bs y_lengths y_now y_copies y_older y_before y_warm y_warmCopies y_eventCopies y_messageCopies y_refundCopies y_events y_messages y_self y_caller y_amounts y_arguments y_given y_left y_at y_tops y_stack : Nat → Int32}
variable {N G J0 lx px s p h L f J W e r : Nat} {ln sf gv jn ml kk hh pp : Nat → Nat} {B : Nat → Int32}
theorem zl_BG {N' L' h' : Nat} (hBG : zr_BG N G J0 J W L h f r kk hh gv jn) (hN : N ≤ N') (hL : L' ≤ L) (hh' : h' + L' ≤ h + L) : zr_BG N' G J0 J W L' h' f r kk hh gv jn := by
  obtain ⟨b1, b2, b3, b4, b5, b6, b7, b8, b9⟩ := hBG
  exact ⟨by omega, by omega, by omega, b4, b5, b6, b7, b8, by omega⟩
theorem zk_fin {st Lr : Nat} {x : Int32} (hPG : zr_PG ln x_op x_arg x_length x_blockLength x_blockCost x_blockMost x_blockNeed x_blockRise y_lengths) (hST : zr_ST x_state x_weight y_now) (hJR : zr_JR J x_journalCell x_journalOld x_state B jn (f + 1) y_copies) (hWM : zr_WM x_warm y_warm) (hF1 : zr_F1 (f + 1) sf gv x_frameSelf y_self x_frameCaller y_caller x_frameAmount y_amounts x_frameArg y_arguments x_frameGiven y_given) (hF2 : zr_F2 (f + 1) jn ml x_frameEvents y_eventCopies x_frameMails y_messageCopies x_frameRefund y_refundCopies x_frameJournal x_frameWarm y_warmCopies) (hMO : zr_MO (f + 1) ml W) (hFB : zr_FB f ln sf gv kk hh pp x_frameLeft y_left x_framePc y_at x_frameSp) (hSS : zr_SS f hh x_stack y_tops y_stack) (hBG : zr_BG N G J0 J W Lr h f r kk hh gv jn) (hML : zr_ML x_mailTo x_mailFrom x_mailAmount x_mailArg y_messages) (hEV : zr_EV e x_eventAccount x_eventTag x_eventValue y_events) (hVS : zr_VS B x_ring x_kept x_oldCell x_oldValue x_oldCount x_oldDigest y_older) (hMI : zr_MI x_limit x_pending (y_lengths 6)) (hBF : zr_BF B y_before) (hf : f < 5) (hst : st < 4) (hl : st < 2 → x_left = nI Lr ∧ y_left f = nI Lr) (hl2 : 2 ≤ st → Lr = 0) : ∃ (u' : SX) (v' : SY), zr_Out y_result x_op x_arg ln B N G J0 u' v' ∧ (∀ post : SX → Prop, post u' → wpX_finish post (x_limit, x_pending, zs_H x_state 30, nI J, x_warm, nI r, nI W, x_ring, x_kept, x_version, nI e, nI (f + 1), x_self, x_left, x_pc, x_sp, x_base, -1, x_lastResult, x_lastUsed, x_lastCalls, x_op, x_arg, x_length, x_blockLength, x_blockCost, x_blockMost, x_blockNeed, x_blockRise, x_state, x_weight, x_journalCell, x_journalOld, x_mailTo, x_mailFrom, x_mailAmount, x_mailArg, x_oldCell, x_oldValue, x_oldCount, x_oldDigest, x_eventAccount, x_eventTag, x_eventValue, x_frameSelf, x_frameCaller, x_frameAmount, x_frameArg, x_frameGiven, x_frameLeft, x_framePc, x_frameSp, x_frameJournal, x_frameEvents, x_frameWarm, x_frameRefund, x_frameMails, x_stack) (nI st) x) ∧ (∀ post : SY → Prop, post v' → wpY_end post (x_limit, nI e, nI W, nI r, nI (f + 1), y_ended, y_answer, y_rest, x_lastCalls, y_result, y_used, y_calls, x_version, x_kept, x_op, x_arg, y_lengths, y_now, y_copies, y_older, y_before, y_warm, y_warmCopies, y_eventCopies, y_messageCopies, y_refundCopies, y_events, y_messages, y_self, y_caller, y_amounts, y_arguments, y_given, y_left, y_at, y_tops, y_stack) (nI st) x) := by
  rcases Nat.eq_zero_or_pos f with h0 | h0
  · obtain ⟨u', v', h1, h2, h3⟩ := zk_end0 (st := st) (x := x) (y_rest := y_rest) (y_ended := y_ended) (y_answer := y_answer) (x_self := x_self) (x_pc := x_pc) (x_sp := x_sp) (x_base := x_base) (x_lastResult := x_lastResult) (x_lastUsed := x_lastUsed) (x_lastCalls := x_lastCalls) (x_version := x_version) (y_result := y_result) (y_used := y_used) (y_calls := y_calls) hPG hST hJR hWM hF1 hF2 hMO hFB hSS hBG hML hEV hVS hMI hBF h0 hst hl hl2
    exact ⟨u', v', Or.inr ⟨st, N, Nat.le_refl _, h1⟩, h2, h3⟩
  · have hgv : Lr ≤ gv f := hBG.2.2.2.2.2.2.2.2
    have hNf : f ≤ N := by obtain ⟨b1, b2, _⟩ := hBG; omega
    obtain ⟨u', v', h1, h2, h3⟩ := zk_ends (st := st) (x := x) (g := f - 1) (N' := N - 1) (y_rest := y_rest) (y_ended := y_ended) (y_answer := y_answer) (x_self := x_self) (x_pc := x_pc) (x_sp := x_sp) (x_base := x_base) (x_lastResult := x_lastResult) (x_lastUsed := x_lastUsed) (x_lastCalls := x_lastCalls) (x_version := x_version) (y_result := y_result) (y_used := y_used) (y_calls := y_calls) hPG hST hJR hWM hF1 hF2 hMO hFB hSS hBG hML hEV hVS hMI hBF (by omega) hf (by omega) hst hl hl2 hgv
    exact ⟨u', v', Or.inl ⟨N - 1, _, _, _, _, by omega, h1⟩, h2, h3⟩
theorem yk_N (hPG : zr_PG ln x_op x_arg x_length x_blockLength x_blockCost x_blockMost x_blockNeed x_blockRise y_lengths) (hST : zr_ST x_state x_weight y_now) (hJR : zr_JR J x_journalCell x_journalOld x_state B jn (f + 1) y_copies) (hWM : zr_WM x_warm y_warm) (hF1 : zr_F1 (f + 1) sf gv x_frameSelf y_self x_frameCaller y_caller x_frameAmount y_amounts x_frameArg y_arguments x_frameGiven y_given) (hF2 : zr_F2 (f + 1) jn ml x_frameEvents y_eventCopies x_frameMails y_messageCopies x_frameRefund y_refundCopies x_frameJournal x_frameWarm y_warmCopies) (hMO : zr_MO (f + 1) ml W) (hFB : zr_FB f ln sf gv kk hh pp x_frameLeft y_left x_framePc y_at x_frameSp) (hSS : zr_SS f hh x_stack y_tops y_stack) (hS1 : zr_S1 f h x_stack y_tops y_stack) (hTP : zr_TP f s p L ln sf y_left y_at) (hBG : zr_BG N G J0 J W L h f r kk hh gv jn) (hML : zr_ML x_mailTo x_mailFrom x_mailAmount x_mailArg y_messages) (hEV : zr_EV e x_eventAccount x_eventTag x_eventValue y_events) (hVS : zr_VS B x_ring x_kept x_oldCell x_oldValue x_oldCount x_oldDigest y_older) (hMI : zr_MI x_limit x_pending (y_lengths 6)) (hBF : zr_BF B y_before) {post : SY → Prop} {o j : Nat} (eo : zb_o x_op (24 * s + p) = o) (n19 : o ≠ 19) (n20 : o ≠ 20) (hj : j < ln s) (enx : zy_nx o p (x_arg (24 * s + p)) (y_stack (6 * f + (h - 1))) = nI j) (htk : zc_tk o ≤ h) (had : h - zc_tk o + zc_ad o ≤ 6) (hc : zc_cst o + zc_cc o (x_warm.toBitVec.getLsbD (4 * s + zq_q (x_arg (24 * s + p)))) ≤ L) (hp : wY_step_242 post (nI f) (nI (24 * s + p)) (nI o) (nI (4 * s + zq_q (x_arg (24 * s + p)))) (nI j) 0 x_limit (nI e) (nI W) (nI r) (nI (f + 1)) y_ended y_answer y_rest x_lastCalls y_result y_used y_calls x_version x_kept x_op x_arg y_lengths y_now y_copies y_older y_before y_warm y_warmCopies y_eventCopies y_messageCopies y_refundCopies y_events y_messages y_self y_caller y_amounts y_arguments y_given (upd y_left f (nI (L - (zc_cst o + zc_cc o (x_warm.toBitVec.getLsbD (4 * s + zq_q (x_arg (24 * s + p)))))))) y_at y_tops y_stack) : wpY_step post (x_limit, nI e, nI W, nI r, nI (f + 1), y_ended, y_answer, y_rest, x_lastCalls, y_result, y_used, y_calls, x_version, x_kept, x_op, x_arg, y_lengths, y_now, y_copies, y_older, y_before, y_warm, y_warmCopies, y_eventCopies, y_messageCopies, y_refundCopies, y_events, y_messages, y_self, y_caller, y_amounts, y_arguments, y_given, y_left, y_at, y_tops, y_stack) := by
  obtain ⟨hf, hs, hp24, es, ep, el, et, hln, hln24, hL, hh6, hw, eop, ho, _⟩ := zk_un hPG hST hJR hWM hF1 hF2 hMO hFB hSS hS1 hTP hBG hML hEV hVS hMI hBF
  rw [eo] at eop ho
  refine yw_step0 hf hs hp24 es ep el et eop ho hL hh6 hw (fun z => absurd hc (by omega)) (fun _ z => absurd ⟨htk, had⟩ z) (fun _ _ _ => ?_)
  refine yw_s127 hf hs ho (by omega) es ep et hh6 (fun z => ?_) hln hln24 n19 n20 (fun j' hj' e => ?_) (fun z => absurd ⟨j, hj, enx⟩ z)
  · have e17 : zc_tk 17 = 1 := rfl
    rw [z, e17] at htk
    omega
  · rw [enx] at e
    have := (nI_eq (by omega) (by omega)).mp e
    subst this
    exact hp
theorem yk_E (hPG : zr_PG ln x_op x_arg x_length x_blockLength x_blockCost x_blockMost x_blockNeed x_blockRise y_lengths) (hST : zr_ST x_state x_weight y_now) (hJR : zr_JR J x_journalCell x_journalOld x_state B jn (f + 1) y_copies) (hWM : zr_WM x_warm y_warm) (hF1 : zr_F1 (f + 1) sf gv x_frameSelf y_self x_frameCaller y_caller x_frameAmount y_amounts x_frameArg y_arguments x_frameGiven y_given) (hF2 : zr_F2 (f + 1) jn ml x_frameEvents y_eventCopies x_frameMails y_messageCopies x_frameRefund y_refundCopies x_frameJournal x_frameWarm y_warmCopies) (hMO : zr_MO (f + 1) ml W) (hFB : zr_FB f ln sf gv kk hh pp x_frameLeft y_left x_framePc y_at x_frameSp) (hSS : zr_SS f hh x_stack y_tops y_stack) (hS1 : zr_S1 f h x_stack y_tops y_stack) (hTP : zr_TP f s p L ln sf y_left y_at) (hBG : zr_BG N G J0 J W L h f r kk hh gv jn) (hML : zr_ML x_mailTo x_mailFrom x_mailAmount x_mailArg y_messages) (hEV : zr_EV e x_eventAccount x_eventTag x_eventValue y_events) (hVS : zr_VS B x_ring x_kept x_oldCell x_oldValue x_oldCount x_oldDigest y_older) (hMI : zr_MI x_limit x_pending (y_lengths 6)) (hBF : zr_BF B y_before) {post : SY → Prop} {o : Nat} (eo : zb_o x_op (24 * s + p) = o) (h19 : o = 19 ∨ o = 20) (htk : zc_tk o ≤ h) (had : h - zc_tk o + zc_ad o ≤ 6) (hc : zc_cst o + zc_cc o (x_warm.toBitVec.getLsbD (4 * s + zq_q (x_arg (24 * s + p)))) ≤ L) (hp : wY_step_242 post (nI f) (nI (24 * s + p)) (nI o) (nI (4 * s + zq_q (x_arg (24 * s + p)))) (nI (p + 1)) 1 x_limit (nI e) (nI W) (nI r) (nI (f + 1)) y_ended y_answer y_rest x_lastCalls y_result y_used y_calls x_version x_kept x_op x_arg y_lengths y_now y_copies y_older y_before y_warm y_warmCopies y_eventCopies y_messageCopies y_refundCopies y_events y_messages y_self y_caller y_amounts y_arguments y_given (upd y_left f (nI (L - (zc_cst o + zc_cc o (x_warm.toBitVec.getLsbD (4 * s + zq_q (x_arg (24 * s + p)))))))) y_at y_tops y_stack) : wpY_step post (x_limit, nI e, nI W, nI r, nI (f + 1), y_ended, y_answer, y_rest, x_lastCalls, y_result, y_used, y_calls, x_version, x_kept, x_op, x_arg, y_lengths, y_now, y_copies, y_older, y_before, y_warm, y_warmCopies, y_eventCopies, y_messageCopies, y_refundCopies, y_events, y_messages, y_self, y_caller, y_amounts, y_arguments, y_given, y_left, y_at, y_tops, y_stack) := by
  obtain ⟨hf, hs, hp24, es, ep, el, et, hln, hln24, hL, hh6, hw, eop, ho, _⟩ := zk_un hPG hST hJR hWM hF1 hF2 hMO hFB hSS hS1 hTP hBG hML hEV hVS hMI hBF
  rw [eo] at eop ho
  refine yw_step0 hf hs hp24 es ep el et eop ho hL hh6 hw (fun z => absurd hc (by omega)) (fun _ z => absurd ⟨htk, had⟩ z) (fun _ _ _ => ?_)
  exact yw_s127e hf h19 ep hp
theorem yk_O (hPG : zr_PG ln x_op x_arg x_length x_blockLength x_blockCost x_blockMost x_blockNeed x_blockRise y_lengths) (hST : zr_ST x_state x_weight y_now) (hJR : zr_JR J x_journalCell x_journalOld x_state B jn (f + 1) y_copies) (hWM : zr_WM x_warm y_warm) (hF1 : zr_F1 (f + 1) sf gv x_frameSelf y_self x_frameCaller y_caller x_frameAmount y_amounts x_frameArg y_arguments x_frameGiven y_given) (hF2 : zr_F2 (f + 1) jn ml x_frameEvents y_eventCopies x_frameMails y_messageCopies x_frameRefund y_refundCopies x_frameJournal x_frameWarm y_warmCopies) (hMO : zr_MO (f + 1) ml W) (hFB : zr_FB f ln sf gv kk hh pp x_frameLeft y_left x_framePc y_at x_frameSp) (hSS : zr_SS f hh x_stack y_tops y_stack) (hS1 : zr_S1 f h x_stack y_tops y_stack) (hTP : zr_TP f s p L ln sf y_left y_at) (hBG : zr_BG N G J0 J W L h f r kk hh gv jn) (hML : zr_ML x_mailTo x_mailFrom x_mailAmount x_mailArg y_messages) (hEV : zr_EV e x_eventAccount x_eventTag x_eventValue y_events) (hVS : zr_VS B x_ring x_kept x_oldCell x_oldValue x_oldCount x_oldDigest y_older) (hMI : zr_MI x_limit x_pending (y_lengths 6)) (hBF : zr_BF B y_before) {post : SY → Prop} {o : Nat} (eo : zb_o x_op (24 * s + p) = o) (hc : L < zc_cst o + zc_cc o (x_warm.toBitVec.getLsbD (4 * s + zq_q (x_arg (24 * s + p))))) (hp : wpY_end post (x_limit, nI e, nI W, nI r, nI (f + 1), y_ended, y_answer, y_rest, x_lastCalls, y_result, y_used, y_calls, x_version, x_kept, x_op, x_arg, y_lengths, y_now, y_copies, y_older, y_before, y_warm, y_warmCopies, y_eventCopies, y_messageCopies, y_refundCopies, y_events, y_messages, y_self, y_caller, y_amounts, y_arguments, y_given, y_left, y_at, y_tops, y_stack) 2 0) : wpY_step post (x_limit, nI e, nI W, nI r, nI (f + 1), y_ended, y_answer, y_rest, x_lastCalls, y_result, y_used, y_calls, x_version, x_kept, x_op, x_arg, y_lengths, y_now, y_copies, y_older, y_before, y_warm, y_warmCopies, y_eventCopies, y_messageCopies, y_refundCopies, y_events, y_messages, y_self, y_caller, y_amounts, y_arguments, y_given, y_left, y_at, y_tops, y_stack) := by
  obtain ⟨hf, hs, hp24, es, ep, el, et, hln, hln24, hL, hh6, hw, eop, ho, _⟩ := zk_un hPG hST hJR hWM hF1 hF2 hMO hFB hSS hS1 hTP hBG hML hEV hVS hMI hBF
  rw [eo] at eop ho
  exact yw_step0 hf hs hp24 es ep el et eop ho hL hh6 hw (fun _ => hp) (fun z _ => absurd hc (by omega)) (fun z _ _ => absurd hc (by omega))
theorem yk_F (hPG : zr_PG ln x_op x_arg x_length x_blockLength x_blockCost x_blockMost x_blockNeed x_blockRise y_lengths) (hST : zr_ST x_state x_weight y_now) (hJR : zr_JR J x_journalCell x_journalOld x_state B jn (f + 1) y_copies) (hWM : zr_WM x_warm y_warm) (hF1 : zr_F1 (f + 1) sf gv x_frameSelf y_self x_frameCaller y_caller x_frameAmount y_amounts x_frameArg y_arguments x_frameGiven y_given) (hF2 : zr_F2 (f + 1) jn ml x_frameEvents y_eventCopies x_frameMails y_messageCopies x_frameRefund y_refundCopies x_frameJournal x_frameWarm y_warmCopies) (hMO : zr_MO (f + 1) ml W) (hFB : zr_FB f ln sf gv kk hh pp x_frameLeft y_left x_framePc y_at x_frameSp) (hSS : zr_SS f hh x_stack y_tops y_stack) (hS1 : zr_S1 f h x_stack y_tops y_stack) (hTP : zr_TP f s p L ln sf y_left y_at) (hBG : zr_BG N G J0 J W L h f r kk hh gv jn) (hML : zr_ML x_mailTo x_mailFrom x_mailAmount x_mailArg y_messages) (hEV : zr_EV e x_eventAccount x_eventTag x_eventValue y_events) (hVS : zr_VS B x_ring x_kept x_oldCell x_oldValue x_oldCount x_oldDigest y_older) (hMI : zr_MI x_limit x_pending (y_lengths 6)) (hBF : zr_BF B y_before) {post : SY → Prop} {o : Nat} (eo : zb_o x_op (24 * s + p) = o) (hc : zc_cst o + zc_cc o (x_warm.toBitVec.getLsbD (4 * s + zq_q (x_arg (24 * s + p)))) ≤ L) (hbad : ¬ (zc_tk o ≤ h ∧ h - zc_tk o + zc_ad o ≤ 6) ∨ (o ≠ 19 ∧ o ≠ 20 ∧ ¬ ∃ j : Nat, j < ln s ∧ zy_nx o p (x_arg (24 * s + p)) (y_stack (6 * f + (h - 1))) = nI j)) (hp : wpY_end post (x_limit, nI e, nI W, nI r, nI (f + 1), y_ended, y_answer, y_rest, x_lastCalls, y_result, y_used, y_calls, x_version, x_kept, x_op, x_arg, y_lengths, y_now, y_copies, y_older, y_before, y_warm, y_warmCopies, y_eventCopies, y_messageCopies, y_refundCopies, y_events, y_messages, y_self, y_caller, y_amounts, y_arguments, y_given, upd y_left f (nI (L - (zc_cst o + zc_cc o (x_warm.toBitVec.getLsbD (4 * s + zq_q (x_arg (24 * s + p))))))), y_at, y_tops, y_stack) 3 0) : wpY_step post (x_limit, nI e, nI W, nI r, nI (f + 1), y_ended, y_answer, y_rest, x_lastCalls, y_result, y_used, y_calls, x_version, x_kept, x_op, x_arg, y_lengths, y_now, y_copies, y_older, y_before, y_warm, y_warmCopies, y_eventCopies, y_messageCopies, y_refundCopies, y_events, y_messages, y_self, y_caller, y_amounts, y_arguments, y_given, y_left, y_at, y_tops, y_stack) := by
  obtain ⟨hf, hs, hp24, es, ep, el, et, hln, hln24, hL, hh6, hw, eop, ho, _⟩ := zk_un hPG hST hJR hWM hF1 hF2 hMO hFB hSS hS1 hTP hBG hML hEV hVS hMI hBF
  rw [eo] at eop ho
  refine yw_step0 hf hs hp24 es ep el et eop ho hL hh6 hw (fun z => absurd hc (by omega)) (fun _ _ => yw_s126 hf (by omega) hp) (fun _ htk had => ?_)
  rcases hbad with z | ⟨n19, n20, z⟩
  · exact absurd ⟨htk, had⟩ z
  refine yw_s127 hf hs ho (by omega) es ep et hh6 (fun z => ?_) hln hln24 n19 n20 (fun j' hj' e => absurd ⟨j', hj', e⟩ z) (fun _ => hp)
  have e17 : zc_tk 17 = 1 := rfl
  rw [z, e17] at htk
  omega

theorem lk_16 (hPG : zr_PG ln x_op x_arg x_length x_blockLength x_blockCost x_blockMost x_blockNeed x_blockRise y_lengths) (hST : zr_ST x_state x_weight y_now) (hJR : zr_JR J x_journalCell x_journalOld x_state B jn (f + 1) y_copies) (hWM : zr_WM x_warm y_warm) (hF1 : zr_F1 (f + 1) sf gv x_frameSelf y_self x_frameCaller y_caller x_frameAmount y_amounts x_frameArg y_arguments x_frameGiven y_given) (hF2 : zr_F2 (f + 1) jn ml x_frameEvents y_eventCopies x_frameMails y_messageCopies x_frameRefund y_refundCopies x_frameJournal x_frameWarm y_warmCopies) (hMO : zr_MO (f + 1) ml W) (hFB : zr_FB f ln sf gv kk hh pp x_frameLeft y_left x_framePc y_at x_frameSp) (hSS : zr_SS f hh x_stack y_tops y_stack) (hS1 : zr_S1 f h x_stack y_tops y_stack) (hTP : zr_TP f s p L ln sf y_left y_at) (hBG : zr_BG N G J0 J W L h f r kk hh gv jn) (hML : zr_ML x_mailTo x_mailFrom x_mailAmount x_mailArg y_messages) (hEV : zr_EV e x_eventAccount x_eventTag x_eventValue y_events) (hVS : zr_VS B x_ring x_kept x_oldCell x_oldValue x_oldCount x_oldDigest y_older) (hMI : zr_MI x_limit x_pending (y_lengths 6)) (hBF : zr_BF B y_before) (hlx : lx = L - 1) (eo : zb_o x_op (24 * s + p) = 16) {j : Nat} (hj : j < ln s) (ea : x_arg (24 * s + p) = nI j) (hc : 1 ≤ L) : ∃ (u1 u2 : SX) (v1 : SY), (∀ post : SX → Prop, post u1 → wpX_control post (x_limit, x_pending, zs_H x_state 30, nI J, x_warm, nI r, nI W, x_ring, x_kept, x_version, nI e, nI (f + 1), nI s, nI lx, nI px, nI (7 * f + h), nI (7 * f), -1, x_lastResult, x_lastUsed, x_lastCalls, x_op, x_arg, x_length, x_blockLength, x_blockCost, x_blockMost, x_blockNeed, x_blockRise, x_state, x_weight, x_journalCell, x_journalOld, x_mailTo, x_mailFrom, x_mailAmount, x_mailArg, x_oldCell, x_oldValue, x_oldCount, x_oldDigest, x_eventAccount, x_eventTag, x_eventValue, x_frameSelf, x_frameCaller, x_frameAmount, x_frameArg, x_frameGiven, x_frameLeft, x_framePc, x_frameSp, x_frameJournal, x_frameEvents, x_frameWarm, x_frameRefund, x_frameMails, x_stack) (nI 16) (x_arg (24 * s + p))) ∧ zx_go u1 u2 ∧ zr_Out y_result x_op x_arg ln B N G J0 u2 v1 ∧ (∀ post : SY → Prop, post v1 → wpY_step post (x_limit, nI e, nI W, nI r, nI (f + 1), y_ended, y_answer, y_rest, x_lastCalls, y_result, y_used, y_calls, x_version, x_kept, x_op, x_arg, y_lengths, y_now, y_copies, y_older, y_before, y_warm, y_warmCopies, y_eventCopies, y_messageCopies, y_refundCopies, y_events, y_messages, y_self, y_caller, y_amounts, y_arguments, y_given, y_left, y_at, y_tops, y_stack)) := by

  obtain ⟨hf, hs, hp24, es, ep, el, et, hln, hln24, hL, hh6, hw, eop, ho, hpl, _⟩ := zk_un hPG hST hJR hWM hF1 hF2 hMO hFB hSS hS1 hTP hBG hML hEV hVS hMI hBF
  have hNL : 2 ≤ N := by obtain ⟨b1, b2, _⟩ := hBG; omega
  refine ⟨(x_limit, x_pending, zs_H x_state 30, nI J, x_warm, nI r, nI W, x_ring, x_kept, x_version, nI e, nI (f + 1), nI s, nI lx, nI j, nI (7 * f + h), nI (7 * f), -1, x_lastResult, x_lastUsed, x_lastCalls, x_op, x_arg, x_length, x_blockLength, x_blockCost, x_blockMost, x_blockNeed, x_blockRise, x_state, x_weight, x_journalCell, x_journalOld, x_mailTo, x_mailFrom, x_mailAmount, x_mailArg, x_oldCell, x_oldValue, x_oldCount, x_oldDigest, x_eventAccount, x_eventTag, x_eventValue, x_frameSelf, x_frameCaller, x_frameAmount, x_frameArg, x_frameGiven, x_frameLeft, x_framePc, x_frameSp, x_frameJournal, x_frameEvents, x_frameWarm, x_frameRefund, x_frameMails, x_stack), (x_limit, x_pending, zs_H x_state 30, nI J, x_warm, nI r, nI W, x_ring, x_kept, x_version, nI e, nI (f + 1), nI s, nI lx, nI j, nI (7 * f + h), nI (7 * f), -1, x_lastResult, x_lastUsed, x_lastCalls, x_op, x_arg, x_length, x_blockLength, x_blockCost, x_blockMost, x_blockNeed, x_blockRise, x_state, x_weight, x_journalCell, x_journalOld, x_mailTo, x_mailFrom, x_mailAmount, x_mailArg, x_oldCell, x_oldValue, x_oldCount, x_oldDigest, x_eventAccount, x_eventTag, x_eventValue, x_frameSelf, x_frameCaller, x_frameAmount, x_frameArg, x_frameGiven, x_frameLeft, x_framePc, x_frameSp, x_frameJournal, x_frameEvents, x_frameWarm, x_frameRefund, x_frameMails, x_stack), (x_limit, nI e, nI W, nI r, nI (f + 1), y_ended, y_answer, y_rest, x_lastCalls, y_result, y_used, y_calls, x_version, x_kept, x_op, x_arg, y_lengths, y_now, y_copies, y_older, y_before, y_warm, y_warmCopies, y_eventCopies, y_messageCopies, y_refundCopies, y_events, y_messages, y_self, y_caller, y_amounts, y_arguments, y_given, upd y_left f (nI (L - 1)), upd y_at f (nI j), y_tops, y_stack), fun post hp => ?_, zx_rf _, Or.inl ⟨N - 1, s, j, h, L - 1, by omega, ?_⟩, fun post hp => ?_⟩
  · refine xw_c16 ?_
    rw [ea]
    exact hp
  · subst hlx
    exact zk_stk hPG hST hJR hWM hF1 hF2 hMO hFB hSS hS1 hTP hBG hML hEV hVS hMI hBF (by omega) ⟨hSS, hS1⟩ hc (by omega) (by omega) hj
  · exact yk_N hPG hST hJR hWM hF1 hF2 hMO hFB hSS hS1 hTP hBG hML hEV hVS hMI hBF eo (by decide) (by decide) hj ea (Nat.zero_le _) hh6 hc (yw_242m hf (by omega) (by omega) (yw_s16 hp))
theorem lk_17 (hPG : zr_PG ln x_op x_arg x_length x_blockLength x_blockCost x_blockMost x_blockNeed x_blockRise y_lengths) (hST : zr_ST x_state x_weight y_now) (hJR : zr_JR J x_journalCell x_journalOld x_state B jn (f + 1) y_copies) (hWM : zr_WM x_warm y_warm) (hF1 : zr_F1 (f + 1) sf gv x_frameSelf y_self x_frameCaller y_caller x_frameAmount y_amounts x_frameArg y_arguments x_frameGiven y_given) (hF2 : zr_F2 (f + 1) jn ml x_frameEvents y_eventCopies x_frameMails y_messageCopies x_frameRefund y_refundCopies x_frameJournal x_frameWarm y_warmCopies) (hMO : zr_MO (f + 1) ml W) (hFB : zr_FB f ln sf gv kk hh pp x_frameLeft y_left x_framePc y_at x_frameSp) (hSS : zr_SS f hh x_stack y_tops y_stack) (hS1 : zr_S1 f h x_stack y_tops y_stack) (hTP : zr_TP f s p L ln sf y_left y_at) (hBG : zr_BG N G J0 J W L h f r kk hh gv jn) (hML : zr_ML x_mailTo x_mailFrom x_mailAmount x_mailArg y_messages) (hEV : zr_EV e x_eventAccount x_eventTag x_eventValue y_events) (hVS : zr_VS B x_ring x_kept x_oldCell x_oldValue x_oldCount x_oldDigest y_older) (hMI : zr_MI x_limit x_pending (y_lengths 6)) (hBF : zr_BF B y_before) (hlx : lx = L - 1) (hpx : px = p + 1) (eo : zb_o x_op (24 * s + p) = 17) {j : Nat} (hj : j < ln s) (htk : 1 ≤ h) (enx : zy_nx 17 p (x_arg (24 * s + p)) (x_stack (7 * f + (h - 1))) = nI j) (hc : 1 ≤ L) : ∃ (u1 u2 : SX) (v1 : SY), (∀ post : SX → Prop, post u1 → wpX_control post (x_limit, x_pending, zs_H x_state 30, nI J, x_warm, nI r, nI W, x_ring, x_kept, x_version, nI e, nI (f + 1), nI s, nI lx, nI px, nI (7 * f + h), nI (7 * f), -1, x_lastResult, x_lastUsed, x_lastCalls, x_op, x_arg, x_length, x_blockLength, x_blockCost, x_blockMost, x_blockNeed, x_blockRise, x_state, x_weight, x_journalCell, x_journalOld, x_mailTo, x_mailFrom, x_mailAmount, x_mailArg, x_oldCell, x_oldValue, x_oldCount, x_oldDigest, x_eventAccount, x_eventTag, x_eventValue, x_frameSelf, x_frameCaller, x_frameAmount, x_frameArg, x_frameGiven, x_frameLeft, x_framePc, x_frameSp, x_frameJournal, x_frameEvents, x_frameWarm, x_frameRefund, x_frameMails, x_stack) (nI 17) (x_arg (24 * s + p))) ∧ zx_go u1 u2 ∧ zr_Out y_result x_op x_arg ln B N G J0 u2 v1 ∧ (∀ post : SY → Prop, post v1 → wpY_step post (x_limit, nI e, nI W, nI r, nI (f + 1), y_ended, y_answer, y_rest, x_lastCalls, y_result, y_used, y_calls, x_version, x_kept, x_op, x_arg, y_lengths, y_now, y_copies, y_older, y_before, y_warm, y_warmCopies, y_eventCopies, y_messageCopies, y_refundCopies, y_events, y_messages, y_self, y_caller, y_amounts, y_arguments, y_given, y_left, y_at, y_tops, y_stack)) := by

  obtain ⟨hf, hs, hp24, es, ep, el, et, hln, hln24, hL, hh6, hw, eop, ho, hpl, _⟩ := zk_un hPG hST hJR hWM hF1 hF2 hMO hFB hSS hS1 hTP hBG hML hEV hVS hMI hBF
  have hNL : 2 ≤ N := by obtain ⟨b1, b2, _⟩ := hBG; omega
  have ev := hS1.2.2 (h - 1) (by omega)
  have enx' := enx
  rw [← ev] at enx'
  have YA : ∀ post : SY → Prop, wY_step_242 post (nI f) (nI (24 * s + p)) (nI 17) (nI (4 * s + zq_q (x_arg (24 * s + p)))) (nI j) 0 x_limit (nI e) (nI W) (nI r) (nI (f + 1)) y_ended y_answer y_rest x_lastCalls y_result y_used y_calls x_version x_kept x_op x_arg y_lengths y_now y_copies y_older y_before y_warm y_warmCopies y_eventCopies y_messageCopies y_refundCopies y_events y_messages y_self y_caller y_amounts y_arguments y_given (upd y_left f (nI (L - 1))) y_at y_tops y_stack → wpY_step post (x_limit, nI e, nI W, nI r, nI (f + 1), y_ended, y_answer, y_rest, x_lastCalls, y_result, y_used, y_calls, x_version, x_kept, x_op, x_arg, y_lengths, y_now, y_copies, y_older, y_before, y_warm, y_warmCopies, y_eventCopies, y_messageCopies, y_refundCopies, y_events, y_messages, y_self, y_caller, y_amounts, y_arguments, y_given, y_left, y_at, y_tops, y_stack) := fun post hp => yk_N hPG hST hJR hWM hF1 hF2 hMO hFB hSS hS1 hTP hBG hML hEV hVS hMI hBF eo (by decide) (by decide) hj enx' htk (by show h - 1 + 0 ≤ 6; omega) hc hp
  obtain ⟨h0, rfl⟩ : ∃ h0, h = h0 + 1 := ⟨h - 1, by omega⟩
  have e01 : h0 + 1 - 1 = h0 := by omega
  rw [e01] at enx
  refine ⟨(x_limit, x_pending, zs_H x_state 30, nI J, x_warm, nI r, nI W, x_ring, x_kept, x_version, nI e, nI (f + 1), nI s, nI lx, nI j, nI (7 * f + h0), nI (7 * f), -1, x_lastResult, x_lastUsed, x_lastCalls, x_op, x_arg, x_length, x_blockLength, x_blockCost, x_blockMost, x_blockNeed, x_blockRise, x_state, x_weight, x_journalCell, x_journalOld, x_mailTo, x_mailFrom, x_mailAmount, x_mailArg, x_oldCell, x_oldValue, x_oldCount, x_oldDigest, x_eventAccount, x_eventTag, x_eventValue, x_frameSelf, x_frameCaller, x_frameAmount, x_frameArg, x_frameGiven, x_frameLeft, x_framePc, x_frameSp, x_frameJournal, x_frameEvents, x_frameWarm, x_frameRefund, x_frameMails, x_stack), (x_limit, x_pending, zs_H x_state 30, nI J, x_warm, nI r, nI W, x_ring, x_kept, x_version, nI e, nI (f + 1), nI s, nI lx, nI j, nI (7 * f + h0), nI (7 * f), -1, x_lastResult, x_lastUsed, x_lastCalls, x_op, x_arg, x_length, x_blockLength, x_blockCost, x_blockMost, x_blockNeed, x_blockRise, x_state, x_weight, x_journalCell, x_journalOld, x_mailTo, x_mailFrom, x_mailAmount, x_mailArg, x_oldCell, x_oldValue, x_oldCount, x_oldDigest, x_eventAccount, x_eventTag, x_eventValue, x_frameSelf, x_frameCaller, x_frameAmount, x_frameArg, x_frameGiven, x_frameLeft, x_framePc, x_frameSp, x_frameJournal, x_frameEvents, x_frameWarm, x_frameRefund, x_frameMails, x_stack), (x_limit, nI e, nI W, nI r, nI (f + 1), y_ended, y_answer, y_rest, x_lastCalls, y_result, y_used, y_calls, x_version, x_kept, x_op, x_arg, y_lengths, y_now, y_copies, y_older, y_before, y_warm, y_warmCopies, y_eventCopies, y_messageCopies, y_refundCopies, y_events, y_messages, y_self, y_caller, y_amounts, y_arguments, y_given, upd y_left f (nI (L - 1)), upd y_at f (nI j), upd y_tops f (nI h0), y_stack), fun post hp => ?_, zx_rf _, Or.inl ⟨N - 1, s, j, h0, L - 1, by omega, ?_⟩, fun post hp => ?_⟩
  · unfold zy_nx at enx
    rw [if_neg (by omega), if_pos rfl] at enx
    refine xw_c17 (q := 7 * f + h0) (by omega) (fun z => ?_) (fun z => ?_)
    · rw [if_pos z] at enx
      rw [enx]; exact hp
    · rw [if_neg z] at enx
      rw [hpx, enx]; exact hp
  · subst hlx
    exact zk_stk hPG hST hJR hWM hF1 hF2 hMO hFB hSS hS1 hTP hBG hML hEV hVS hMI hBF (by omega) (zl_pop ⟨hSS, hS1⟩) hc (by omega) (by omega) hj
  · exact YA post (yw_242m hf (by omega) (by omega) (yw_s14 hf (by omega) (Or.inr rfl) et hp))
theorem lk_19 (hPG : zr_PG ln x_op x_arg x_length x_blockLength x_blockCost x_blockMost x_blockNeed x_blockRise y_lengths) (hST : zr_ST x_state x_weight y_now) (hJR : zr_JR J x_journalCell x_journalOld x_state B jn (f + 1) y_copies) (hWM : zr_WM x_warm y_warm) (hF1 : zr_F1 (f + 1) sf gv x_frameSelf y_self x_frameCaller y_caller x_frameAmount y_amounts x_frameArg y_arguments x_frameGiven y_given) (hF2 : zr_F2 (f + 1) jn ml x_frameEvents y_eventCopies x_frameMails y_messageCopies x_frameRefund y_refundCopies x_frameJournal x_frameWarm y_warmCopies) (hMO : zr_MO (f + 1) ml W) (hFB : zr_FB f ln sf gv kk hh pp x_frameLeft y_left x_framePc y_at x_frameSp) (hSS : zr_SS f hh x_stack y_tops y_stack) (hS1 : zr_S1 f h x_stack y_tops y_stack) (hTP : zr_TP f s p L ln sf y_left y_at) (hBG : zr_BG N G J0 J W L h f r kk hh gv jn) (hML : zr_ML x_mailTo x_mailFrom x_mailAmount x_mailArg y_messages) (hEV : zr_EV e x_eventAccount x_eventTag x_eventValue y_events) (hVS : zr_VS B x_ring x_kept x_oldCell x_oldValue x_oldCount x_oldDigest y_older) (hMI : zr_MI x_limit x_pending (y_lengths 6)) (hBF : zr_BF B y_before) (hlx : lx = L - 1) {o : Nat} (h19 : o = 19 ∨ o = 20) (eo : zb_o x_op (24 * s + p) = o) (htk : 1 ≤ h) (hc : 1 ≤ L) : ∃ (u1 u2 : SX) (v1 : SY), (∀ post : SX → Prop, post u1 → wpX_control post (x_limit, x_pending, zs_H x_state 30, nI J, x_warm, nI r, nI W, x_ring, x_kept, x_version, nI e, nI (f + 1), nI s, nI lx, nI px, nI (7 * f + h), nI (7 * f), -1, x_lastResult, x_lastUsed, x_lastCalls, x_op, x_arg, x_length, x_blockLength, x_blockCost, x_blockMost, x_blockNeed, x_blockRise, x_state, x_weight, x_journalCell, x_journalOld, x_mailTo, x_mailFrom, x_mailAmount, x_mailArg, x_oldCell, x_oldValue, x_oldCount, x_oldDigest, x_eventAccount, x_eventTag, x_eventValue, x_frameSelf, x_frameCaller, x_frameAmount, x_frameArg, x_frameGiven, x_frameLeft, x_framePc, x_frameSp, x_frameJournal, x_frameEvents, x_frameWarm, x_frameRefund, x_frameMails, x_stack) (nI o) (x_arg (24 * s + p))) ∧ zx_go u1 u2 ∧ zr_Out y_result x_op x_arg ln B N G J0 u2 v1 ∧ (∀ post : SY → Prop, post v1 → wpY_step post (x_limit, nI e, nI W, nI r, nI (f + 1), y_ended, y_answer, y_rest, x_lastCalls, y_result, y_used, y_calls, x_version, x_kept, x_op, x_arg, y_lengths, y_now, y_copies, y_older, y_before, y_warm, y_warmCopies, y_eventCopies, y_messageCopies, y_refundCopies, y_events, y_messages, y_self, y_caller, y_amounts, y_arguments, y_given, y_left, y_at, y_tops, y_stack)) := by

  obtain ⟨hf, hs, hp24, es, ep, el, et, hln, hln24, hL, hh6, hw, eop, ho, hpl, _⟩ := zk_un hPG hST hJR hWM hF1 hF2 hMO hFB hSS hS1 hTP hBG hML hEV hVS hMI hBF
  have ec : zc_cst o + zc_cc o (x_warm.toBitVec.getLsbD (4 * s + zq_q (x_arg (24 * s + p)))) = 1 := by rcases h19 with rfl | rfl <;> rfl
  have etk : zc_tk o = 1 := by rcases h19 with rfl | rfl <;> rfl
  have ead : zc_ad o = 0 := by rcases h19 with rfl | rfl <;> rfl
  have YA : ∀ post : SY → Prop, wY_step_242 post (nI f) (nI (24 * s + p)) (nI o) (nI (4 * s + zq_q (x_arg (24 * s + p)))) (nI (p + 1)) 1 x_limit (nI e) (nI W) (nI r) (nI (f + 1)) y_ended y_answer y_rest x_lastCalls y_result y_used y_calls x_version x_kept x_op x_arg y_lengths y_now y_copies y_older y_before y_warm y_warmCopies y_eventCopies y_messageCopies y_refundCopies y_events y_messages y_self y_caller y_amounts y_arguments y_given (upd y_left f (nI (L - 1))) y_at y_tops y_stack → wpY_step post (x_limit, nI e, nI W, nI r, nI (f + 1), y_ended, y_answer, y_rest, x_lastCalls, y_result, y_used, y_calls, x_version, x_kept, x_op, x_arg, y_lengths, y_now, y_copies, y_older, y_before, y_warm, y_warmCopies, y_eventCopies, y_messageCopies, y_refundCopies, y_events, y_messages, y_self, y_caller, y_amounts, y_arguments, y_given, y_left, y_at, y_tops, y_stack) := fun post hp => yk_E hPG hST hJR hWM hF1 hF2 hMO hFB hSS hS1 hTP hBG hML hEV hVS hMI hBF eo h19 (by omega) (by omega) (by omega) (by rw [ec]; exact hp)
  obtain ⟨h0, rfl⟩ : ∃ h0, h = h0 + 1 := ⟨h - 1, by omega⟩
  have ev := hS1.2.2 h0 (by omega)
  obtain ⟨u', v', hO, hX, hY⟩ := zk_fin (st := o - 19) (Lr := L - 1) (h := 0) (x := x_stack (7 * f + h0)) (x_left := nI lx) (y_rest := y_rest) (y_ended := y_ended) (y_answer := y_answer) (x_self := nI s) (x_pc := nI px) (x_sp := nI (7 * f + h0)) (x_base := nI (7 * f)) (x_lastResult := x_lastResult) (x_lastUsed := x_lastUsed) (x_lastCalls := x_lastCalls) (x_version := x_version) (y_result := y_result) (y_used := y_used) (y_calls := y_calls) (y_left := upd y_left f (nI (L - 1))) (y_at := upd y_at f (nI (p + 1))) (y_tops := upd y_tops f (nI h0)) hPG hST hJR hWM hF1 hF2 hMO (zl_FB (k := 0) hFB) (zl_SS_t hSS (Nat.le_refl f)) (zl_BG hBG (Nat.le_refl _) (by omega) (by omega)) hML hEV hVS hMI hBF hf (by omega) (fun _ => ⟨by rw [hlx], pk_us⟩) (fun z => absurd h19 (by omega))
  refine ⟨u', u', v', fun post hp => ?_, zx_rf _, hO, fun post hp => ?_⟩
  · exact xw_c19 (q := 7 * f + h0) (by omega) h19 (hX post hp)
  · refine YA post (yw_242e hf (by omega) h19 et ?_)
    rw [ev]
    exact hY post hp
end
end
section
/-! CALL in lockstep -/

section
variable {x_limit x_pending x_journal x_refund x_mails x_ring x_kept x_version x_events x_depth x_self x_left x_pc x_sp x_base x_lastStatus x_lastResult x_lastUsed x_lastCalls : Int32} {x_digest x_warm : Int64} {x_op x_arg x_length x_blockLength x_blockCost x_blockMost x_blockNeed x_blockRise x_state x_journalCell x_journalOld x_mailTo x_mailFrom x_mailAmount x_mailArg x_oldCell x_oldValue x_oldCount x_eventAccount x_eventTag x_eventValue x_frameSelf x_frameCaller x_frameAmount x_frameArg x_frameGiven x_frameLeft x_framePc x_frameSp x_frameJournal x_frameEvents x_frameRefund x_frameMails x_stack : Nat → Int32} {x_weight x_oldDigest x_frameWarm : Nat → Int64}
variable {y_limit y_eventCount y_waiting y_refund y_depth y_ended y_answer y_rest y_begun y_result y_used y_calls y_version y_kept : Int32} {y_ops y_bs y_lengths y_now y_copies y_older y_before y_warm y_warmCopies y_eventCopies y_messageCopies y_refundCopies y_events y_messages y_self y_caller y_amounts y_arguments y_given y_left y_at y_tops y_stack : Nat → Int32}
variable {N G J0 lx px s p h L f J W e r : Nat} {ln sf gv jn ml kk hh pp : Nat → Nat} {B : Nat → Int32}
theorem xw_126a {post : SX → Prop} {a : Nat} {x3 x4 z0 : Int32} (ha : a < 6) (hp : wpX_enter (fun r u => match u with | (x_limit, x_pending, x_digest, x_journal, x_warm, x_refund, x_mails, x_ring, x_kept, x_version, x_events, x_depth, x_self, x_left, x_pc, x_sp, x_base, x_lastStatus, x_lastResult, x_lastUsed, x_lastCalls, x_op, x_arg, x_length, x_blockLength, x_blockCost, x_blockMost, x_blockNeed, x_blockRise, x_state, x_weight, x_journalCell, x_journalOld, x_mailTo, x_mailFrom, x_mailAmount, x_mailArg, x_oldCell, x_oldValue, x_oldCount, x_oldDigest, x_eventAccount, x_eventTag, x_eventValue, x_frameSelf, x_frameCaller, x_frameAmount, x_frameArg, x_frameGiven, x_frameLeft, x_framePc, x_frameSp, x_frameJournal, x_frameEvents, x_frameWarm, x_frameRefund, x_frameMails, x_stack) => ((r = 0 → wX_control_160 post x_limit x_pending x_digest x_journal x_warm x_refund x_mails x_ring x_kept x_version x_events x_depth x_self x_left x_pc x_sp x_base x_lastStatus x_lastResult x_lastUsed x_lastCalls x_op x_arg x_length x_blockLength x_blockCost x_blockMost x_blockNeed x_blockRise x_state x_weight x_journalCell x_journalOld x_mailTo x_mailFrom x_mailAmount x_mailArg x_oldCell x_oldValue x_oldCount x_oldDigest x_eventAccount x_eventTag x_eventValue x_frameSelf x_frameCaller x_frameAmount x_frameArg x_frameGiven x_frameLeft x_framePc x_frameSp x_frameJournal x_frameEvents x_frameWarm x_frameRefund x_frameMails x_stack) ∧ (¬ r = 0 → wX_control_161 post 1 x_limit x_pending x_digest x_journal x_warm x_refund x_mails x_ring x_kept x_version x_events x_depth x_self x_left x_pc x_sp x_base x_lastStatus x_lastResult x_lastUsed x_lastCalls x_op x_arg x_length x_blockLength x_blockCost x_blockMost x_blockNeed x_blockRise x_state x_weight x_journalCell x_journalOld x_mailTo x_mailFrom x_mailAmount x_mailArg x_oldCell x_oldValue x_oldCount x_oldDigest x_eventAccount x_eventTag x_eventValue x_frameSelf x_frameCaller x_frameAmount x_frameArg x_frameGiven x_frameLeft x_framePc x_frameSp x_frameJournal x_frameEvents x_frameWarm x_frameRefund x_frameMails x_stack))) (x_limit, x_pending, x_digest, x_journal, x_warm, x_refund, x_mails, x_ring, x_kept, x_version, x_events, x_depth, x_self, x_left, x_pc, x_sp, x_base, x_lastStatus, x_lastResult, x_lastUsed, x_lastCalls, x_op, x_arg, x_length, x_blockLength, x_blockCost, x_blockMost, x_blockNeed, x_blockRise, x_state, x_weight, x_journalCell, x_journalOld, x_mailTo, x_mailFrom, x_mailAmount, x_mailArg, x_oldCell, x_oldValue, x_oldCount, x_oldDigest, x_eventAccount, x_eventTag, x_eventValue, x_frameSelf, x_frameCaller, x_frameAmount, x_frameArg, x_frameGiven, x_frameLeft, x_framePc, x_frameSp, x_frameJournal, x_frameEvents, x_frameWarm, x_frameRefund, x_frameMails, x_stack) (nI a) x_self x4 x3 z0) : wX_control_126 post x3 x4 (nI a) z0 x_limit x_pending x_digest x_journal x_warm x_refund x_mails x_ring x_kept x_version x_events x_depth x_self x_left x_pc x_sp x_base x_lastStatus x_lastResult x_lastUsed x_lastCalls x_op x_arg x_length x_blockLength x_blockCost x_blockMost x_blockNeed x_blockRise x_state x_weight x_journalCell x_journalOld x_mailTo x_mailFrom x_mailAmount x_mailArg x_oldCell x_oldValue x_oldCount x_oldDigest x_eventAccount x_eventTag x_eventValue x_frameSelf x_frameCaller x_frameAmount x_frameArg x_frameGiven x_frameLeft x_framePc x_frameSp x_frameJournal x_frameEvents x_frameWarm x_frameRefund x_frameMails x_stack := by
  refine xw_outN (n := 6) (by omega) (fun a' ha' e => br_t rfl hp) (fun h => ?_)
  exfalso
  rcases h with h | h
  · exact nI_pos (by omega) h
  · exact nI_ge (b := 6) ha (by omega) h
theorem xw_126n {post : SX → Prop} {x3 x4 x5 z0 : Int32} (hx : x5 < 0 ∨ 6 ≤ x5) (hp : wX_control_160 post x_limit x_pending x_digest x_journal x_warm x_refund x_mails x_ring x_kept x_version x_events x_depth x_self x_left x_pc x_sp x_base x_lastStatus x_lastResult x_lastUsed x_lastCalls x_op x_arg x_length x_blockLength x_blockCost x_blockMost x_blockNeed x_blockRise x_state x_weight x_journalCell x_journalOld x_mailTo x_mailFrom x_mailAmount x_mailArg x_oldCell x_oldValue x_oldCount x_oldDigest x_eventAccount x_eventTag x_eventValue x_frameSelf x_frameCaller x_frameAmount x_frameArg x_frameGiven x_frameLeft x_framePc x_frameSp x_frameJournal x_frameEvents x_frameWarm x_frameRefund x_frameMails x_stack) : wX_control_126 post x3 x4 x5 z0 x_limit x_pending x_digest x_journal x_warm x_refund x_mails x_ring x_kept x_version x_events x_depth x_self x_left x_pc x_sp x_base x_lastStatus x_lastResult x_lastUsed x_lastCalls x_op x_arg x_length x_blockLength x_blockCost x_blockMost x_blockNeed x_blockRise x_state x_weight x_journalCell x_journalOld x_mailTo x_mailFrom x_mailAmount x_mailArg x_oldCell x_oldValue x_oldCount x_oldDigest x_eventAccount x_eventTag x_eventValue x_frameSelf x_frameCaller x_frameAmount x_frameArg x_frameGiven x_frameLeft x_framePc x_frameSp x_frameJournal x_frameEvents x_frameWarm x_frameRefund x_frameMails x_stack := by
  refine xw_outN (n := 6) (by omega) (fun a' ha' e => ?_) (fun h => br_f (by decide) hp)
  exfalso
  rw [e] at hx
  rcases hx with h | h
  · exact nI_pos (by omega) h
  · exact nI_ge (b := 6) ha' (by omega) h
theorem yw_191 {post : SY → Prop} {f s : Nat} {x4 x5 x6 z0 : Int32} (hf : f < 5) (es : y_self f = nI s) (hp : wpY_begin (fun r u => (r = 0 → wpY_giveBack post u 0) ∧ (¬ r = 0 → post u)) (y_limit, y_eventCount, y_waiting, y_refund, y_depth, y_ended, y_answer, y_rest, y_begun, y_result, y_used, y_calls, y_version, y_kept, x_op, x_arg, y_lengths, y_now, y_copies, y_older, y_before, y_warm, y_warmCopies, y_eventCopies, y_messageCopies, y_refundCopies, y_events, y_messages, y_self, y_caller, y_amounts, y_arguments, y_given, y_left, y_at, y_tops, y_stack) x6 x5 x4 (nI s) z0) : wY_other_191 post (nI f) x4 x5 x6 z0 y_limit y_eventCount y_waiting y_refund y_depth y_ended y_answer y_rest y_begun y_result y_used y_calls y_version y_kept x_op x_arg y_lengths y_now y_copies y_older y_before y_warm y_warmCopies y_eventCopies y_messageCopies y_refundCopies y_events y_messages y_self y_caller y_amounts y_arguments y_given y_left y_at y_tops y_stack := by
  refine ⟨vp_in_nI hf (by omega), ?_⟩
  rw [nI_clamp (by omega : f < 2 ^ 31), es]
  exact hp
theorem zk_call (hPG : zr_PG ln x_op x_arg x_length x_blockLength x_blockCost x_blockMost x_blockNeed x_blockRise y_lengths) (hST : zr_ST x_state x_weight y_now) (hJR : zr_JR J x_journalCell x_journalOld x_state B jn (f + 1) y_copies) (hWM : zr_WM x_warm y_warm) (hF1 : zr_F1 (f + 1) sf gv x_frameSelf y_self x_frameCaller y_caller x_frameAmount y_amounts x_frameArg y_arguments x_frameGiven y_given) (hF2 : zr_F2 (f + 1) jn ml x_frameEvents y_eventCopies x_frameMails y_messageCopies x_frameRefund y_refundCopies x_frameJournal x_frameWarm y_warmCopies) (hMO : zr_MO (f + 1) ml W) (hFB : zr_FB f ln sf gv kk hh pp x_frameLeft y_left x_framePc y_at x_frameSp) (hSS : zr_SS f hh x_stack y_tops y_stack) (hS1 : zr_S1 f h x_stack y_tops y_stack) (hTP : zr_TP f s p L ln sf y_left y_at) (hBG : zr_BG N G J0 J W L h f r kk hh gv jn) (hML : zr_ML x_mailTo x_mailFrom x_mailAmount x_mailArg y_messages) (hEV : zr_EV e x_eventAccount x_eventTag x_eventValue y_events) (hVS : zr_VS B x_ring x_kept x_oldCell x_oldValue x_oldCount x_oldDigest y_older) (hMI : zr_MI x_limit x_pending (y_lengths 6)) (hBF : zr_BF B y_before) {a en : Nat} {am ar : Int32} (ha : a < 6) (hen : en ≤ L) (hh4 : h ≤ 4) (hb1 : 4 * (J + 2 * W) + L + h + 2 * f + zm_s kk f + zm_s hh f + 11 ≤ 410) (hb2 : 2 * (L + zm_s kk f) + f + W + 16 ≤ N) : ∃ (u1 u2 : SX) (v1 : SY), (∀ post : SX → Prop, post u1 → wX_control_126 post ar am (nI a) (nI en) x_limit x_pending (zs_H x_state 30) (nI J) x_warm (nI r) (nI W) x_ring x_kept x_version (nI e) (nI (f + 1)) (nI s) (nI L) (nI p) (nI (7 * f + h)) (nI (7 * f)) (-1) x_lastResult x_lastUsed x_lastCalls x_op x_arg x_length x_blockLength x_blockCost x_blockMost x_blockNeed x_blockRise x_state x_weight x_journalCell x_journalOld x_mailTo x_mailFrom x_mailAmount x_mailArg x_oldCell x_oldValue x_oldCount x_oldDigest x_eventAccount x_eventTag x_eventValue x_frameSelf x_frameCaller x_frameAmount x_frameArg x_frameGiven x_frameLeft x_framePc x_frameSp x_frameJournal x_frameEvents x_frameWarm x_frameRefund x_frameMails x_stack) ∧ zx_go u1 u2 ∧ zr_Out y_result x_op x_arg ln B N G J0 u2 v1 ∧ (∀ post : SY → Prop, post v1 → wY_other_191 post (nI f) ar am (nI a) (nI en) x_limit (nI e) (nI W) (nI r) (nI (f + 1)) y_ended y_answer y_rest x_lastCalls y_result y_used y_calls x_version x_kept x_op x_arg y_lengths y_now y_copies y_older y_before y_warm y_warmCopies y_eventCopies y_messageCopies y_refundCopies y_events y_messages y_self y_caller y_amounts y_arguments y_given y_left y_at y_tops y_stack) := by
  obtain ⟨hf, hs, hp24, es, ep, el, et, hln, hln24, hL, hh6, hw, eop, ho, hpl, hxl⟩ := zk_un hPG hST hJR hWM hF1 hF2 hMO hFB hSS hS1 hTP hBG hML hEV hVS hMI hBF
  obtain ⟨b1, b2, b3, b4, b5, b6, b7, b8, b9⟩ := id hBG
  obtain ⟨la24, xla, yla⟩ := hPG.2.1 a ha
  have hS : zl_S f h hh x_stack y_tops y_stack := ⟨hSS, hS1⟩
  by_cases hP : zl_P x_state a (f + 1) (nI s) am
  · have hf4 : f + 1 < 5 := by obtain ⟨_, _, _, _, h5, _⟩ := hP; omega
    obtain ⟨S, jc, jo, nw, J', kST, kJR, kJ1, kJ2, _, kX, kYe, kYn⟩ := zl_enter (d := f + 1) (l := ln a) (J := J) (e := e) (r := r) (W := W) (B := B) (cl := nI s) (am := am) (ar := ar) (en := nI en) (x_limit := x_limit) (x_pending := x_pending) (x_warm := x_warm) (x_ring := x_ring) (x_kept := x_kept) (x_version := x_version) (x_self := nI s) (x_left := nI L) (x_pc := nI p) (x_sp := nI (7 * f + h)) (x_base := nI (7 * f)) (x_lastStatus := -1) (x_lastResult := x_lastResult) (x_lastUsed := x_lastUsed) (x_lastCalls := x_lastCalls) (x_op := x_op) (x_arg := x_arg) (x_length := x_length) (x_blockLength := x_blockLength) (x_blockCost := x_blockCost) (x_blockMost := x_blockMost) (x_blockNeed := x_blockNeed) (x_blockRise := x_blockRise) (x_state := x_state) (x_weight := x_weight) (x_journalCell := x_journalCell) (x_journalOld := x_journalOld) (x_mailTo := x_mailTo) (x_mailFrom := x_mailFrom) (x_mailAmount := x_mailAmount) (x_mailArg := x_mailArg) (x_oldCell := x_oldCell) (x_oldValue := x_oldValue) (x_oldCount := x_oldCount) (x_oldDigest := x_oldDigest) (x_eventAccount := x_eventAccount) (x_eventTag := x_eventTag) (x_eventValue := x_eventValue) (x_frameSelf := x_frameSelf) (x_frameCaller := x_frameCaller) (x_frameAmount := x_frameAmount) (x_frameArg := x_frameArg) (x_frameGiven := x_frameGiven) (x_frameLeft := upd x_frameLeft f (nI L)) (x_framePc := upd x_framePc f (nI p)) (x_frameSp := upd x_frameSp f (nI (7 * f + h))) (x_frameJournal := x_frameJournal) (x_frameEvents := x_frameEvents) (x_frameWarm := x_frameWarm) (x_frameRefund := x_frameRefund) (x_frameMails := x_frameMails) (x_stack := x_stack) (y_limit := x_limit) (y_eventCount := nI e) (y_waiting := nI W) (y_refund := nI r) (y_ended := y_ended) (y_answer := y_answer) (y_rest := y_rest) (y_begun := x_lastCalls) (y_result := y_result) (y_used := y_used) (y_calls := y_calls) (y_version := x_version) (y_kept := x_kept) (y_lengths := y_lengths) (y_now := y_now) (y_copies := y_copies) (y_older := y_older) (y_before := y_before) (y_warm := y_warm) (y_warmCopies := y_warmCopies) (y_eventCopies := y_eventCopies) (y_messageCopies := y_messageCopies) (y_refundCopies := y_refundCopies) (y_events := y_events) (y_messages := y_messages) (y_self := y_self) (y_caller := y_caller) (y_amounts := y_amounts) (y_arguments := y_arguments) (y_given := y_given) (y_left := y_left) (y_at := y_at) (y_tops := y_tops) (y_stack := y_stack) hST hP ha (by omega) (by omega) hEV.1 (by omega) b7 (Or.inr ⟨s, hs, rfl⟩) yla la24 (zl_WM01 hWM)
    have WX : ∀ post : SX → Prop, post (x_limit, x_pending, zs_H S 30, nI J', x_warm, nI r, nI W, x_ring, x_kept, x_version, nI e, nI ((f + 1) + 1), nI a, (nI en), 0, nI (7 * (f + 1)), nI (7 * (f + 1)), -1, x_lastResult, x_lastUsed, x_lastCalls + 1, x_op, x_arg, x_length, x_blockLength, x_blockCost, x_blockMost, x_blockNeed, x_blockRise, S, x_weight, jc, jo, x_mailTo, x_mailFrom, x_mailAmount, x_mailArg, x_oldCell, x_oldValue, x_oldCount, x_oldDigest, x_eventAccount, x_eventTag, x_eventValue, upd x_frameSelf (f + 1) (nI a), upd x_frameCaller (f + 1) (nI s), upd x_frameAmount (f + 1) am, upd x_frameArg (f + 1) ar, upd x_frameGiven (f + 1) (nI en), upd x_frameLeft f (nI L), upd x_framePc f (nI p), upd x_frameSp f (nI (7 * f + h)), upd x_frameJournal (f + 1) (nI J), upd x_frameEvents (f + 1) (nI e), vp_updL x_frameWarm (f + 1) x_warm, upd x_frameRefund (f + 1) (nI r), upd x_frameMails (f + 1) (nI W), x_stack) → wX_control_126 post ar am (nI a) (nI en) x_limit x_pending (zs_H x_state 30) (nI J) x_warm (nI r) (nI W) x_ring x_kept x_version (nI e) (nI (f + 1)) (nI s) (nI L) (nI p) (nI (7 * f + h)) (nI (7 * f)) (-1) x_lastResult x_lastUsed x_lastCalls x_op x_arg x_length x_blockLength x_blockCost x_blockMost x_blockNeed x_blockRise x_state x_weight x_journalCell x_journalOld x_mailTo x_mailFrom x_mailAmount x_mailArg x_oldCell x_oldValue x_oldCount x_oldDigest x_eventAccount x_eventTag x_eventValue x_frameSelf x_frameCaller x_frameAmount x_frameArg x_frameGiven x_frameLeft x_framePc x_frameSp x_frameJournal x_frameEvents x_frameWarm x_frameRefund x_frameMails x_stack := by
      intro post hp
      refine xw_126a ha (xw_enterG hST.2.1 ha (by omega) (Or.inr ⟨s, hs, rfl⟩) (fun n => absurd hP n) (fun _ => ?_))
      refine xw_e47s hf (by omega) (by omega) (kX _ ?_)
      exact br_f (by decide) (br_f (by decide) hp)
    by_cases l0 : ln a = 0
    · have hS2 := zl_push (v := (1 : Int32)) (zl_push (v := (0 : Int32)) hS (by omega)) (by omega)
      refine ⟨_, (x_limit, x_pending, zs_H S 30, nI J', x_warm, nI r, nI W, x_ring, x_kept, x_version, nI e, nI (f + 1), nI s, nI L, nI p, nI (7 * f + (h + 2)), nI (7 * f), -1, x_lastResult, x_lastUsed, x_lastCalls + 1, x_op, x_arg, x_length, x_blockLength, x_blockCost, x_blockMost, x_blockNeed, x_blockRise, S, x_weight, jc, jo, x_mailTo, x_mailFrom, x_mailAmount, x_mailArg, x_oldCell, x_oldValue, x_oldCount, x_oldDigest, x_eventAccount, x_eventTag, x_eventValue, upd x_frameSelf (f + 1) (nI a), upd x_frameCaller (f + 1) (nI s), upd x_frameAmount (f + 1) am, upd x_frameArg (f + 1) ar, upd x_frameGiven (f + 1) (nI en), upd x_frameLeft f (nI L), upd x_framePc f (nI p), upd x_frameSp f (nI (7 * f + h)), upd x_frameJournal (f + 1) (nI J), upd x_frameEvents (f + 1) (nI e), vp_updL x_frameWarm (f + 1) x_warm, upd x_frameRefund (f + 1) (nI r), upd x_frameMails (f + 1) (nI W), upd (upd x_stack (7 * f + h) 0) (7 * f + (h + 1)) 1), (x_limit, nI e, nI W, nI r, nI (f + 1), 0, 0, (nI en), x_lastCalls + 1, y_result, y_used, y_calls, x_version, x_kept, x_op, x_arg, y_lengths, nw, y_copies, y_older, y_before, y_warm, y_warmCopies, y_eventCopies, y_messageCopies, y_refundCopies, y_events, y_messages, y_self, y_caller, y_amounts, y_arguments, y_given, upd y_left f (nI L), y_at, upd (upd y_tops f (nI (h + 1))) f (nI (h + 2)), upd (upd y_stack (6 * f + h) 0) (6 * f + (h + 1)) 1), WX, ?_, Or.inl ⟨N - 1, s, p, h + 2, L, by omega, ?_⟩, fun post hp => ?_⟩
      · refine xw_empty (f := f) (en := 0) ha (by rw [xla, l0]; rfl) fun post hp => ?_
        refine xw_finish (st := 0) (f := f + 1) (by omega) (by omega) (fun z => absurd z (by omega)) (fun _ => br_t rfl ?_)
        refine xw_f72s (st := 0) (g := f) (s := s) (p := p) (q := 7 * f + h) (k := L - en) (gv := en) (L := en) (by omega) (by omega) (Nat.le_refl _) (by omega) (by omega) ?_ pk_us pk_us ?_ pk_us ?_
        · rw [pk_un (by omega), (hF1 f (by omega)).2.1, hTP.2.1]
        · rw [pk_us, show L - en + en = L by omega]
        · rw [show L - en + en = L by omega]
          exact hp
      · refine zr_R_mk (sf := sf) (gv := gv) (jn := jn) (ml := ml) (kk := kk) (hh := hh) (pp := pp) hPG kST (kJR _ _ _ hJR) hWM (zl_F1x hF1) (zl_F2x hF2) hMO (zl_FBx (zl_FBl hFB)) hS2.1 hS2.2 ⟨hf, hTP.2.1, hs, pk_us, ep, hpl⟩ ?_ hML hEV hVS hMI hBF
        exact ⟨by omega, by omega, by omega, b4, b5, b6, b7, by omega, by omega⟩
      · refine yw_191 hf es (kYe _ l0 (br_t rfl ?_))
        refine yw_giveBack (k := L) (gv := 0) (L := 0) hf (by omega) (Nat.le_refl _) et el rfl 0 (by omega) ?_
        exact hp
    · refine ⟨_, _, (x_limit, nI e, nI W, nI r, nI ((f + 1) + 1), 0, 0, (nI en), x_lastCalls + 1, y_result, y_used, y_calls, x_version, x_kept, x_op, x_arg, y_lengths, nw, zy_p y_copies y_now (30 * (f + 1)) 30, y_older, y_before, y_warm, zy_p y_warmCopies y_warm (24 * (f + 1)) 24, upd y_eventCopies (f + 1) (nI e), upd y_messageCopies (f + 1) (nI W), upd y_refundCopies (f + 1) (nI r), y_events, y_messages, upd y_self (f + 1) (nI a), upd y_caller (f + 1) (nI s), upd y_amounts (f + 1) am, upd y_arguments (f + 1) ar, upd y_given (f + 1) (nI en), upd y_left (f + 1) (nI en), upd y_at (f + 1) 0, upd y_tops (f + 1) 0, y_stack), WX, zx_rf _, Or.inl ⟨N - 1, a, 0, 0, en, by omega, ?_⟩, fun post hp => ?_⟩
      · have hFB' := zl_FBsf (a := a) (zl_FB (k := 0) (v := nI en) (w := 0) (zl_FBs (en := en) (h := h) hFB hTP hen b9))
        have e1 : zm_s (zm_u kk f (L - en)) (f + 1) = zm_s kk f + (L - en) := zm_su1
        have e2 : zm_s (zm_u hh f h) (f + 1) = zm_s hh f + h := zm_su1
        refine zr_R_mk (f := f + 1) hPG kST (kJR _ _ _ (zl_JRe hJR hST.2.2)) hWM (zl_F1e hF1 ha (by omega)) (zl_F2e hF2 hEV.1 b8 hWM) (zl_MOe hMO) hFB' (zl_SS_t (zl_SSs hS hh4) (Nat.le_refl _)) ⟨pk_us, by omega, fun j hj => absurd hj (by omega)⟩ ⟨hf4, zm_us, ha, pk_us, pk_us, by omega⟩ ?_ hML hEV hVS hMI hBF
        refine ⟨by omega, by omega, by omega, b4, ?_, ?_, b7, by omega, ?_⟩
        · rw [zm_un (by omega)]; exact b5
        · rw [zm_un (by omega)]; exact b6
        · rw [zm_us]; exact Nat.le_refl _
      · exact yw_191 hf es (kYn _ (by omega) (br_f (by decide) hp))
  · have hS2 := zl_push (v := (0 : Int32)) (zl_push (v := (0 : Int32)) hS (by omega)) (by omega)
    refine ⟨(x_limit, x_pending, zs_H x_state 30, nI J, x_warm, nI r, nI W, x_ring, x_kept, x_version, nI e, nI (f + 1), nI s, nI L, nI p, nI (7 * f + (h + 2)), nI (7 * f), -1, x_lastResult, x_lastUsed, x_lastCalls, x_op, x_arg, x_length, x_blockLength, x_blockCost, x_blockMost, x_blockNeed, x_blockRise, x_state, x_weight, x_journalCell, x_journalOld, x_mailTo, x_mailFrom, x_mailAmount, x_mailArg, x_oldCell, x_oldValue, x_oldCount, x_oldDigest, x_eventAccount, x_eventTag, x_eventValue, x_frameSelf, x_frameCaller, x_frameAmount, x_frameArg, x_frameGiven, x_frameLeft, x_framePc, x_frameSp, x_frameJournal, x_frameEvents, x_frameWarm, x_frameRefund, x_frameMails, upd (upd x_stack (7 * f + h) 0) (7 * f + (h + 1)) 0), (x_limit, x_pending, zs_H x_state 30, nI J, x_warm, nI r, nI W, x_ring, x_kept, x_version, nI e, nI (f + 1), nI s, nI L, nI p, nI (7 * f + (h + 2)), nI (7 * f), -1, x_lastResult, x_lastUsed, x_lastCalls, x_op, x_arg, x_length, x_blockLength, x_blockCost, x_blockMost, x_blockNeed, x_blockRise, x_state, x_weight, x_journalCell, x_journalOld, x_mailTo, x_mailFrom, x_mailAmount, x_mailArg, x_oldCell, x_oldValue, x_oldCount, x_oldDigest, x_eventAccount, x_eventTag, x_eventValue, x_frameSelf, x_frameCaller, x_frameAmount, x_frameArg, x_frameGiven, x_frameLeft, x_framePc, x_frameSp, x_frameJournal, x_frameEvents, x_frameWarm, x_frameRefund, x_frameMails, upd (upd x_stack (7 * f + h) 0) (7 * f + (h + 1)) 0), (x_limit, nI e, nI W, nI r, nI (f + 1), 4, 0, nI en, x_lastCalls, y_result, y_used, y_calls, x_version, x_kept, x_op, x_arg, y_lengths, y_now, y_copies, y_older, y_before, y_warm, y_warmCopies, y_eventCopies, y_messageCopies, y_refundCopies, y_events, y_messages, y_self, y_caller, y_amounts, y_arguments, y_given, upd y_left f (nI L), y_at, upd (upd y_tops f (nI (h + 1))) f (nI (h + 2)), upd (upd y_stack (6 * f + h) 0) (6 * f + (h + 1)) 0), fun post hp => ?_, zx_rf _, Or.inl ⟨N - 1, s, p, h + 2, L, by omega, ?_⟩, fun post hp => ?_⟩
    · refine xw_126a ha (xw_enterG hST.2.1 ha (by omega) (Or.inr ⟨s, hs, rfl⟩) (fun _ => ?_) (fun n => absurd n hP))
      exact br_t rfl (xw_161 (q := 7 * f + h) (by omega) hp)
    · refine zr_R_mk (sf := sf) (gv := gv) (jn := jn) (ml := ml) (kk := kk) (hh := hh) (pp := pp) hPG hST hJR hWM hF1 hF2 hMO (zl_FBl hFB) hS2.1 hS2.2 ⟨hf, hTP.2.1, hs, pk_us, ep, hpl⟩ ?_ hML hEV hVS hMI hBF
      exact ⟨by omega, by omega, by omega, b4, b5, b6, b7, by omega, by omega⟩
    · refine yw_191 hf es (yw_beginG hST.2.1 hST.2.2 ha (by omega) (Or.inr ⟨s, hs, rfl⟩) yla la24 (zl_WM01 hWM) (fun _ => br_t rfl ?_) (fun n => absurd n hP) (fun n => absurd n hP))
      refine yw_giveBack (k := L) (gv := 0) (L := 0) hf (by omega) (Nat.le_refl _) et el rfl 4 (by omega) ?_
      exact hp
theorem lk_18 (hPG : zr_PG ln x_op x_arg x_length x_blockLength x_blockCost x_blockMost x_blockNeed x_blockRise y_lengths) (hST : zr_ST x_state x_weight y_now) (hJR : zr_JR J x_journalCell x_journalOld x_state B jn (f + 1) y_copies) (hWM : zr_WM x_warm y_warm) (hF1 : zr_F1 (f + 1) sf gv x_frameSelf y_self x_frameCaller y_caller x_frameAmount y_amounts x_frameArg y_arguments x_frameGiven y_given) (hF2 : zr_F2 (f + 1) jn ml x_frameEvents y_eventCopies x_frameMails y_messageCopies x_frameRefund y_refundCopies x_frameJournal x_frameWarm y_warmCopies) (hMO : zr_MO (f + 1) ml W) (hFB : zr_FB f ln sf gv kk hh pp x_frameLeft y_left x_framePc y_at x_frameSp) (hSS : zr_SS f hh x_stack y_tops y_stack) (hS1 : zr_S1 f h x_stack y_tops y_stack) (hTP : zr_TP f s p L ln sf y_left y_at) (hBG : zr_BG N G J0 J W L h f r kk hh gv jn) (hML : zr_ML x_mailTo x_mailFrom x_mailAmount x_mailArg y_messages) (hEV : zr_EV e x_eventAccount x_eventTag x_eventValue y_events) (hVS : zr_VS B x_ring x_kept x_oldCell x_oldValue x_oldCount x_oldDigest y_older) (hMI : zr_MI x_limit x_pending (y_lengths 6)) (hBF : zr_BF B y_before) (hlx : lx = L - 8) (hpx : px = p + 1) (eo : zb_o x_op (24 * s + p) = 18) (hnx : p + 1 < ln s) (htk : 3 ≤ h) (hc : 8 ≤ L) : ∃ (u1 u2 : SX) (v1 : SY), (∀ post : SX → Prop, post u1 → wpX_control post (x_limit, x_pending, zs_H x_state 30, nI J, x_warm, nI r, nI W, x_ring, x_kept, x_version, nI e, nI (f + 1), nI s, nI lx, nI px, nI (7 * f + h), nI (7 * f), -1, x_lastResult, x_lastUsed, x_lastCalls, x_op, x_arg, x_length, x_blockLength, x_blockCost, x_blockMost, x_blockNeed, x_blockRise, x_state, x_weight, x_journalCell, x_journalOld, x_mailTo, x_mailFrom, x_mailAmount, x_mailArg, x_oldCell, x_oldValue, x_oldCount, x_oldDigest, x_eventAccount, x_eventTag, x_eventValue, x_frameSelf, x_frameCaller, x_frameAmount, x_frameArg, x_frameGiven, x_frameLeft, x_framePc, x_frameSp, x_frameJournal, x_frameEvents, x_frameWarm, x_frameRefund, x_frameMails, x_stack) (nI 18) (x_arg (24 * s + p))) ∧ zx_go u1 u2 ∧ zr_Out y_result x_op x_arg ln B N G J0 u2 v1 ∧ (∀ post : SY → Prop, post v1 → wpY_step post (x_limit, nI e, nI W, nI r, nI (f + 1), y_ended, y_answer, y_rest, x_lastCalls, y_result, y_used, y_calls, x_version, x_kept, x_op, x_arg, y_lengths, y_now, y_copies, y_older, y_before, y_warm, y_warmCopies, y_eventCopies, y_messageCopies, y_refundCopies, y_events, y_messages, y_self, y_caller, y_amounts, y_arguments, y_given, y_left, y_at, y_tops, y_stack)) := by

  obtain ⟨hf, hs, hp24, es, ep, el, et, hln, hln24, hL, hh6, hw, eop, ho, hpl, _⟩ := zk_un hPG hST hJR hWM hF1 hF2 hMO hFB hSS hS1 hTP hBG hML hEV hVS hMI hBF
  have YA : ∀ post : SY → Prop, wY_step_242 post (nI f) (nI (24 * s + p)) (nI 18) (nI (4 * s + zq_q (x_arg (24 * s + p)))) (nI (p + 1)) 0 x_limit (nI e) (nI W) (nI r) (nI (f + 1)) y_ended y_answer y_rest x_lastCalls y_result y_used y_calls x_version x_kept x_op x_arg y_lengths y_now y_copies y_older y_before y_warm y_warmCopies y_eventCopies y_messageCopies y_refundCopies y_events y_messages y_self y_caller y_amounts y_arguments y_given (upd y_left f (nI (L - 8))) y_at y_tops y_stack → wpY_step post (x_limit, nI e, nI W, nI r, nI (f + 1), y_ended, y_answer, y_rest, x_lastCalls, y_result, y_used, y_calls, x_version, x_kept, x_op, x_arg, y_lengths, y_now, y_copies, y_older, y_before, y_warm, y_warmCopies, y_eventCopies, y_messageCopies, y_refundCopies, y_events, y_messages, y_self, y_caller, y_amounts, y_arguments, y_given, y_left, y_at, y_tops, y_stack) := fun post hp => yk_A hPG hST hJR hWM hF1 hF2 hMO hFB hSS hS1 hTP hBG hML hEV hVS hMI hBF eo (by decide) (by decide) (by decide) (by decide) hnx htk (by show h - 3 + 2 ≤ 6; omega) hc hp
  obtain ⟨h0, rfl⟩ : ∃ h0, h = h0 + 3 := ⟨h - 3, by omega⟩
  subst hlx hpx
  obtain ⟨b1, b2, b3, b4, b5, b6, b7, b8, b9⟩ := id hBG
  have ev0 := hS1.2.2 h0 (by omega)
  have ev1 := hS1.2.2 (h0 + 1) (by omega)
  have ev2 := hS1.2.2 (h0 + 2) (by omega)
  have hS := zl_pop (zl_pop (zl_pop ⟨hSS, hS1⟩))
  have hen : zo_en (x_arg (24 * s + p)) (L - 8) ≤ L - 8 := zo_enle (by omega)
  rcases pk_ix (x_stack (7 * f + h0)) (n := 6) (by omega) with hz | hz | ⟨a, ha, ea⟩
  rotate_left 2
  · obtain ⟨u1, u2, v1, hX, hgo, hO, hY⟩ := zk_call (a := a) (en := zo_en (x_arg (24 * s + p)) (L - 8)) (am := x_stack (7 * f + (h0 + 1))) (ar := x_stack (7 * f + (h0 + 2))) (L := L - 8) (h := h0) (p := p + 1) (y_left := upd y_left f (nI (L - 8))) (y_at := upd y_at f (nI (p + 1))) (y_rest := y_rest) (y_ended := y_ended) (y_answer := y_answer) (x_lastResult := x_lastResult) (x_lastUsed := x_lastUsed) (x_lastCalls := x_lastCalls) (x_version := x_version) (y_result := y_result) (y_used := y_used) (y_calls := y_calls) hPG hST hJR hWM hF1 hF2 hMO (zl_FB (k := 0) hFB) hS.1 hS.2 (zl_TP hTP hnx) (zl_BG hBG (Nat.le_refl _) (by omega) (by omega)) hML hEV hVS hMI hBF ha hen (by omega) (by omega) (by omega)
    refine ⟨u1, u2, v1, fun post hp => ?_, hgo, hO, fun post hp => ?_⟩
    · refine xw_c18 (q := 7 * f + h0) (by omega) (by omega) ?_
      rw [ea]
      exact hX post hp
    · refine YA post (yw_242o hf (by omega) (by omega) (by omega) (yw_o18 (L := L - 8) hf (by omega) (by omega) et pk_us (fun z => ?_) (fun a' ha' ea' => ?_)))
      · exfalso
        rw [ev0, ea] at z
        rcases z with z | z
        · exact nI_pos (by omega) z
        · exact nI_ge (b := 6) ha (by omega) z
      · rw [ev0, ea] at ea'
        have := (nI_eq (by omega) (by omega)).mp ea'
        subst this
        rw [ev1, ev2]
        exact hY post hp
  all_goals
    have hz' : x_stack (7 * f + h0) < 0 ∨ 6 ≤ x_stack (7 * f + h0) := by first | exact Or.inl hz | exact Or.inr hz
    refine ⟨(x_limit, x_pending, zs_H x_state 30, nI J, x_warm, nI r, nI W, x_ring, x_kept, x_version, nI e, nI (f + 1), nI s, nI (L - 8), nI (p + 1), nI (7 * f + (h0 + 2)), nI (7 * f), -1, x_lastResult, x_lastUsed, x_lastCalls, x_op, x_arg, x_length, x_blockLength, x_blockCost, x_blockMost, x_blockNeed, x_blockRise, x_state, x_weight, x_journalCell, x_journalOld, x_mailTo, x_mailFrom, x_mailAmount, x_mailArg, x_oldCell, x_oldValue, x_oldCount, x_oldDigest, x_eventAccount, x_eventTag, x_eventValue, x_frameSelf, x_frameCaller, x_frameAmount, x_frameArg, x_frameGiven, x_frameLeft, x_framePc, x_frameSp, x_frameJournal, x_frameEvents, x_frameWarm, x_frameRefund, x_frameMails, upd (upd x_stack (7 * f + h0) 0) (7 * f + (h0 + 1)) 0), (x_limit, x_pending, zs_H x_state 30, nI J, x_warm, nI r, nI W, x_ring, x_kept, x_version, nI e, nI (f + 1), nI s, nI (L - 8), nI (p + 1), nI (7 * f + (h0 + 2)), nI (7 * f), -1, x_lastResult, x_lastUsed, x_lastCalls, x_op, x_arg, x_length, x_blockLength, x_blockCost, x_blockMost, x_blockNeed, x_blockRise, x_state, x_weight, x_journalCell, x_journalOld, x_mailTo, x_mailFrom, x_mailAmount, x_mailArg, x_oldCell, x_oldValue, x_oldCount, x_oldDigest, x_eventAccount, x_eventTag, x_eventValue, x_frameSelf, x_frameCaller, x_frameAmount, x_frameArg, x_frameGiven, x_frameLeft, x_framePc, x_frameSp, x_frameJournal, x_frameEvents, x_frameWarm, x_frameRefund, x_frameMails, upd (upd x_stack (7 * f + h0) 0) (7 * f + (h0 + 1)) 0), (x_limit, nI e, nI W, nI r, nI (f + 1), y_ended, y_answer, y_rest, x_lastCalls, y_result, y_used, y_calls, x_version, x_kept, x_op, x_arg, y_lengths, y_now, y_copies, y_older, y_before, y_warm, y_warmCopies, y_eventCopies, y_messageCopies, y_refundCopies, y_events, y_messages, y_self, y_caller, y_amounts, y_arguments, y_given, upd y_left f (nI (L - 8)), upd y_at f (nI (p + 1)), upd (upd (upd (upd (upd y_tops f (nI (h0 + 2))) f (nI (h0 + 1))) f (nI h0)) f (nI (h0 + 1))) f (nI (h0 + 2)), upd (upd y_stack (6 * f + h0) 0) (6 * f + (h0 + 1)) 0), fun post hp => ?_, zx_rf _, Or.inl ⟨N - 1, s, p + 1, h0 + 2, L - 8, by omega, ?_⟩, fun post hp => ?_⟩
    · exact xw_c18 (q := 7 * f + h0) (by omega) (by omega) (xw_126n hz' (xw_161 (q := 7 * f + h0) (by omega) hp))
    · exact zk_stk hPG hST hJR hWM hF1 hF2 hMO hFB hSS hS1 hTP hBG hML hEV hVS hMI hBF (by omega) (zl_push (zl_push hS (by omega)) (by omega)) hc (by omega) (by omega) hnx
    · refine YA post (yw_242o hf (by omega) (by omega) (by omega) (yw_o18 (L := L - 8) hf (by omega) (by omega) et pk_us (fun _ => hp) (fun a' ha' ea' => ?_)))
      exfalso
      rw [ev0] at ea'
      rw [ea'] at hz'
      rcases hz' with z | z
      · exact nI_pos (by omega) z
      · exact nI_ge (b := 6) ha' (by omega) z
end
end
section
/-! one instruction with all its tests -/
theorem zc_pos {o : Nat} (ho : o < 24) (w : Bool) : 1 ≤ zc_cst o + zc_cc o w := by
  cases w
  · exact co_dec (N := 24) (P := fun o => 1 ≤ zc_cst o + zc_cc o false) (by decide) ho
  · exact co_dec (N := 24) (P := fun o => 1 ≤ zc_cst o + zc_cc o true) (by decide) ho
section
variable {x_limit x_pending x_journal x_refund x_mails x_ring x_kept x_version x_events x_depth x_self x_left x_pc x_sp x_base x_lastStatus x_lastResult x_lastUsed x_lastCalls : Int32} {x_digest x_warm : Int64} {x_op x_arg x_length x_blockLength x_blockCost x_blockMost x_blockNeed x_blockRise x_state x_journalCell x_journalOld x_mailTo x_mailFrom x_mailAmount x_mailArg x_oldCell x_oldValue x_oldCount x_eventAccount x_eventTag x_eventValue x_frameSelf x_frameCaller x_frameAmount x_frameArg x_frameGiven x_frameLeft x_framePc x_frameSp x_frameJournal x_frameEvents x_frameRefund x_frameMails x_stack : Nat → Int32} {x_weight x_oldDigest x_frameWarm : Nat → Int64}
variable {y_limit y_eventCount y_waiting y_refund y_depth y_ended y_answer y_rest y_begun y_result y_used y_calls y_version y_kept : Int32} {y_ops y_bs y_lengths y_now y_copies y_older y_before y_warm y_warmCopies y_eventCopies y_messageCopies y_refundCopies y_events y_messages y_self y_caller y_amounts y_arguments y_given y_left y_at y_tops y_stack : Nat → Int32}
variable {N G J0 lx px s p h L f J W e r : Nat} {ln sf gv jn ml kk hh pp : Nat → Nat} {B : Nat → Int32}
theorem xw_166p {post : SX → Prop} {o c : Nat} {b : Int32} (ho : o < 24) (hc : c ≤ L)
    (h1 : (o < 16 ∨ 20 < o) → wpX_plain post (x_limit, x_pending, x_digest, x_journal, x_warm, x_refund, x_mails, x_ring, x_kept, x_version, x_events, x_depth, nI s, nI (L - c), nI (p + 1), nI (7 * f + h), nI (7 * f), x_lastStatus, x_lastResult, x_lastUsed, x_lastCalls, x_op, x_arg, x_length, x_blockLength, x_blockCost, x_blockMost, x_blockNeed, x_blockRise, x_state, x_weight, x_journalCell, x_journalOld, x_mailTo, x_mailFrom, x_mailAmount, x_mailArg, x_oldCell, x_oldValue, x_oldCount, x_oldDigest, x_eventAccount, x_eventTag, x_eventValue, x_frameSelf, x_frameCaller, x_frameAmount, x_frameArg, x_frameGiven, x_frameLeft, x_framePc, x_frameSp, x_frameJournal, x_frameEvents, x_frameWarm, x_frameRefund, x_frameMails, x_stack) (nI o) b)
    (h2 : (16 ≤ o ∧ o ≤ 20) → wpX_control post (x_limit, x_pending, x_digest, x_journal, x_warm, x_refund, x_mails, x_ring, x_kept, x_version, x_events, x_depth, nI s, nI (L - c), nI (p + 1), nI (7 * f + h), nI (7 * f), x_lastStatus, x_lastResult, x_lastUsed, x_lastCalls, x_op, x_arg, x_length, x_blockLength, x_blockCost, x_blockMost, x_blockNeed, x_blockRise, x_state, x_weight, x_journalCell, x_journalOld, x_mailTo, x_mailFrom, x_mailAmount, x_mailArg, x_oldCell, x_oldValue, x_oldCount, x_oldDigest, x_eventAccount, x_eventTag, x_eventValue, x_frameSelf, x_frameCaller, x_frameAmount, x_frameArg, x_frameGiven, x_frameLeft, x_framePc, x_frameSp, x_frameJournal, x_frameEvents, x_frameWarm, x_frameRefund, x_frameMails, x_stack) (nI o) b) : wX_slow_166 post (nI o) b (nI c) 0 x_limit x_pending x_digest x_journal x_warm x_refund x_mails x_ring x_kept x_version x_events x_depth (nI s) (nI L) (nI p) (nI (7 * f + h)) (nI (7 * f)) x_lastStatus x_lastResult x_lastUsed x_lastCalls x_op x_arg x_length x_blockLength x_blockCost x_blockMost x_blockNeed x_blockRise x_state x_weight x_journalCell x_journalOld x_mailTo x_mailFrom x_mailAmount x_mailArg x_oldCell x_oldValue x_oldCount x_oldDigest x_eventAccount x_eventTag x_eventValue x_frameSelf x_frameCaller x_frameAmount x_frameArg x_frameGiven x_frameLeft x_framePc x_frameSp x_frameJournal x_frameEvents x_frameWarm x_frameRefund x_frameMails x_stack := by
  refine br_t rfl (nm_r (e' := nI (L - c)) (pk_sub hc) (nm_r (e' := nI (p + 1)) (nI_1 p) ?_))
  refine pk_lt o 16 (fun h => h1 (Or.inl h)) (fun h => pk_lt 20 o (fun h' => h1 (Or.inr h')) (fun h' => h2 ⟨h, h'⟩))
theorem xw_166f {post : SX → Prop} {o : Nat} {b c : Int32} (hp : wpX_finish post (x_limit, x_pending, x_digest, x_journal, x_warm, x_refund, x_mails, x_ring, x_kept, x_version, x_events, x_depth, x_self, x_left, x_pc, x_sp, x_base, x_lastStatus, x_lastResult, x_lastUsed, x_lastCalls, x_op, x_arg, x_length, x_blockLength, x_blockCost, x_blockMost, x_blockNeed, x_blockRise, x_state, x_weight, x_journalCell, x_journalOld, x_mailTo, x_mailFrom, x_mailAmount, x_mailArg, x_oldCell, x_oldValue, x_oldCount, x_oldDigest, x_eventAccount, x_eventTag, x_eventValue, x_frameSelf, x_frameCaller, x_frameAmount, x_frameArg, x_frameGiven, x_frameLeft, x_framePc, x_frameSp, x_frameJournal, x_frameEvents, x_frameWarm, x_frameRefund, x_frameMails, x_stack) 3 0) : wX_slow_166 post (nI o) b c 1 x_limit x_pending x_digest x_journal x_warm x_refund x_mails x_ring x_kept x_version x_events x_depth x_self x_left x_pc x_sp x_base x_lastStatus x_lastResult x_lastUsed x_lastCalls x_op x_arg x_length x_blockLength x_blockCost x_blockMost x_blockNeed x_blockRise x_state x_weight x_journalCell x_journalOld x_mailTo x_mailFrom x_mailAmount x_mailArg x_oldCell x_oldValue x_oldCount x_oldDigest x_eventAccount x_eventTag x_eventValue x_frameSelf x_frameCaller x_frameAmount x_frameArg x_frameGiven x_frameLeft x_framePc x_frameSp x_frameJournal x_frameEvents x_frameWarm x_frameRefund x_frameMails x_stack := br_f (by decide) hp
theorem xw_slow {post : SX → Prop} {o l : Nat} (hs : s < 6) (hf : f < 5) (hh6 : h ≤ 6) (hp24 : p < 24) (hL : L ≤ 400) (ho : o < 24) (eo : x_op (24 * s + p) = nI o) (hl : x_length s = nI l) (hl24 : l ≤ 24)
    (hO : L < zc_cst o + zc_cc o (x_warm.toBitVec.getLsbD (4 * s + zq_q (x_arg (24 * s + p)))) → wpX_finish post (x_limit, x_pending, x_digest, x_journal, x_warm, x_refund, x_mails, x_ring, x_kept, x_version, x_events, x_depth, nI s, nI L, nI p, nI (7 * f + h), nI (7 * f), x_lastStatus, x_lastResult, x_lastUsed, x_lastCalls, x_op, x_arg, x_length, x_blockLength, x_blockCost, x_blockMost, x_blockNeed, x_blockRise, x_state, x_weight, x_journalCell, x_journalOld, x_mailTo, x_mailFrom, x_mailAmount, x_mailArg, x_oldCell, x_oldValue, x_oldCount, x_oldDigest, x_eventAccount, x_eventTag, x_eventValue, x_frameSelf, x_frameCaller, x_frameAmount, x_frameArg, x_frameGiven, x_frameLeft, x_framePc, x_frameSp, x_frameJournal, x_frameEvents, x_frameWarm, x_frameRefund, x_frameMails, x_stack) 2 0)
    (hF : zc_cst o + zc_cc o (x_warm.toBitVec.getLsbD (4 * s + zq_q (x_arg (24 * s + p)))) ≤ L → (¬ (zc_tk o ≤ h ∧ h - zc_tk o + zc_ad o ≤ 6) ∨ (o ≠ 19 ∧ o ≠ 20 ∧ ¬ ∃ j : Nat, j < l ∧ zy_nx o p (x_arg (24 * s + p)) (x_stack (7 * f + (h - 1))) = nI j)) → wpX_finish post (x_limit, x_pending, x_digest, x_journal, x_warm, x_refund, x_mails, x_ring, x_kept, x_version, x_events, x_depth, nI s, nI L, nI p, nI (7 * f + h), nI (7 * f), x_lastStatus, x_lastResult, x_lastUsed, x_lastCalls, x_op, x_arg, x_length, x_blockLength, x_blockCost, x_blockMost, x_blockNeed, x_blockRise, x_state, x_weight, x_journalCell, x_journalOld, x_mailTo, x_mailFrom, x_mailAmount, x_mailArg, x_oldCell, x_oldValue, x_oldCount, x_oldDigest, x_eventAccount, x_eventTag, x_eventValue, x_frameSelf, x_frameCaller, x_frameAmount, x_frameArg, x_frameGiven, x_frameLeft, x_framePc, x_frameSp, x_frameJournal, x_frameEvents, x_frameWarm, x_frameRefund, x_frameMails, x_stack) 3 0)
    (hG : zc_cst o + zc_cc o (x_warm.toBitVec.getLsbD (4 * s + zq_q (x_arg (24 * s + p)))) ≤ L → zc_tk o ≤ h → h - zc_tk o + zc_ad o ≤ 6 → (o ≠ 19 → o ≠ 20 → ∃ j : Nat, j < l ∧ zy_nx o p (x_arg (24 * s + p)) (x_stack (7 * f + (h - 1))) = nI j) → ((o < 16 ∨ 20 < o) → wpX_plain post (x_limit, x_pending, x_digest, x_journal, x_warm, x_refund, x_mails, x_ring, x_kept, x_version, x_events, x_depth, nI s, nI (L - zc_cst o), nI (p + 1), nI (7 * f + h), nI (7 * f), x_lastStatus, x_lastResult, x_lastUsed, x_lastCalls, x_op, x_arg, x_length, x_blockLength, x_blockCost, x_blockMost, x_blockNeed, x_blockRise, x_state, x_weight, x_journalCell, x_journalOld, x_mailTo, x_mailFrom, x_mailAmount, x_mailArg, x_oldCell, x_oldValue, x_oldCount, x_oldDigest, x_eventAccount, x_eventTag, x_eventValue, x_frameSelf, x_frameCaller, x_frameAmount, x_frameArg, x_frameGiven, x_frameLeft, x_framePc, x_frameSp, x_frameJournal, x_frameEvents, x_frameWarm, x_frameRefund, x_frameMails, x_stack) (nI o) (x_arg (24 * s + p))) ∧ ((16 ≤ o ∧ o ≤ 20) → wpX_control post (x_limit, x_pending, x_digest, x_journal, x_warm, x_refund, x_mails, x_ring, x_kept, x_version, x_events, x_depth, nI s, nI (L - zc_cst o), nI (p + 1), nI (7 * f + h), nI (7 * f), x_lastStatus, x_lastResult, x_lastUsed, x_lastCalls, x_op, x_arg, x_length, x_blockLength, x_blockCost, x_blockMost, x_blockNeed, x_blockRise, x_state, x_weight, x_journalCell, x_journalOld, x_mailTo, x_mailFrom, x_mailAmount, x_mailArg, x_oldCell, x_oldValue, x_oldCount, x_oldDigest, x_eventAccount, x_eventTag, x_eventValue, x_frameSelf, x_frameCaller, x_frameAmount, x_frameArg, x_frameGiven, x_frameLeft, x_framePc, x_frameSp, x_frameJournal, x_frameEvents, x_frameWarm, x_frameRefund, x_frameMails, x_stack) (nI o) (x_arg (24 * s + p)))) :
    wpX_slow post (x_limit, x_pending, x_digest, x_journal, x_warm, x_refund, x_mails, x_ring, x_kept, x_version, x_events, x_depth, nI s, nI L, nI p, nI (7 * f + h), nI (7 * f), x_lastStatus, x_lastResult, x_lastUsed, x_lastCalls, x_op, x_arg, x_length, x_blockLength, x_blockCost, x_blockMost, x_blockNeed, x_blockRise, x_state, x_weight, x_journalCell, x_journalOld, x_mailTo, x_mailFrom, x_mailAmount, x_mailArg, x_oldCell, x_oldValue, x_oldCount, x_oldDigest, x_eventAccount, x_eventTag, x_eventValue, x_frameSelf, x_frameCaller, x_frameAmount, x_frameArg, x_frameGiven, x_frameLeft, x_framePc, x_frameSp, x_frameJournal, x_frameEvents, x_frameWarm, x_frameRefund, x_frameMails, x_stack) (nI (24 * s + p)) := by
  have hA : vp_in (nI (24 * s + p)) 168 := vp_in_nI (by omega) (by omega)
  have eA : (nI (24 * s + p)).toNatClampNeg = 24 * s + p := nI_clamp (by omega)
  have htk3 := zc_tk3 ho
  have had2 := zc_ad2 ho
  have hcs := zc_cs20 ho (x_warm.toBitVec.getLsbD (4 * s + zq_q (x_arg (24 * s + p))))
  unfold wpX_slow
  dsimp only
  rw [eA]
  refine ⟨hA, nm_r eo ⟨hA, nm_e (xw_cost ho (xw_cellCost hs ho ?_))⟩⟩
  rw [nI_add]
  refine pk_le (zc_cst o + zc_cc o (x_warm.toBitVec.getLsbD (4 * s + zq_q (x_arg (24 * s + p))))) L (fun hc => xw_takes ho ?_) (fun hc => hO hc)
  have eh : nI (7 * f + h) - nI (7 * f) = nI h := by rw [pk_sub (by omega)]; exact congrArg nI (by omega)
  rw [eh]
  by_cases hk : zc_tk o ≤ h
  · refine nm_r (pk_sub hk) (br_f (nI_pos (by omega)) (xw_adds ho ?_))
    rw [nI_add]
    refine pk_le (h - zc_tk o + zc_ad o) 6 (fun ha => ?_) (fun ha => br_f (by decide) (xw_166f (hF hc (Or.inl (fun z => absurd z.2 (by omega))))))
    -- all is well but the next place
    have next : ∀ nx : Int32, zy_nx o p (x_arg (24 * s + p)) (x_stack (7 * f + (h - 1))) = nx → o ≠ 19 → o ≠ 20 → wX_slow_148 post (nI o) (x_arg (24 * s + p)) (nI (zc_cst o)) nx x_limit x_pending x_digest x_journal x_warm x_refund x_mails x_ring x_kept x_version x_events x_depth (nI s) (nI L) (nI p) (nI (7 * f + h)) (nI (7 * f)) x_lastStatus x_lastResult x_lastUsed x_lastCalls x_op x_arg x_length x_blockLength x_blockCost x_blockMost x_blockNeed x_blockRise x_state x_weight x_journalCell x_journalOld x_mailTo x_mailFrom x_mailAmount x_mailArg x_oldCell x_oldValue x_oldCount x_oldDigest x_eventAccount x_eventTag x_eventValue x_frameSelf x_frameCaller x_frameAmount x_frameArg x_frameGiven x_frameLeft x_framePc x_frameSp x_frameJournal x_frameEvents x_frameWarm x_frameRefund x_frameMails x_stack := by
      intro nx enx n19 n20
      refine ⟨vp_in_nI hs (by omega), ?_⟩
      rw [nI_clamp (by omega : s < 2 ^ 31), hl]
      refine xw_outN (by omega) (fun j hj ej => ?_) (fun hz => ?_)
      · have H := hG hc hk ha (fun _ _ => ⟨j, hj, enx.trans ej⟩)
        exact xw_166p ho (by omega) H.1 H.2
      · refine xw_166f (hF hc (Or.inr ⟨n19, n20, ?_⟩))
        rintro ⟨j, hj, e⟩
        rw [enx] at e
        rw [e] at hz
        rcases hz with hz | hz
        · exact nI_pos (by omega) hz
        · exact nI_ge hj (by omega) hz
    refine br_t rfl ?_
    refine pk_eq o 19 (fun e => ?_) (fun n19 => pk_eq o 20 (fun e => ?_) (fun n20 => ?_))
    · have H := hG hc hk ha (fun z => absurd e z)
      exact xw_166p ho (by omega) H.1 H.2
    · have H := hG hc hk ha (fun _ z => absurd e z)
      exact xw_166p ho (by omega) H.1 H.2
    refine pk_eq o 16 (fun e => ?_) (fun n16 => pk_eq o 17 (fun e => ?_) (fun n17 => ?_))
    · exact br_f (by decide) (next _ (if_pos e) n19 n20)
    · have h1 : 1 ≤ h := by
        have e17 : zc_tk 17 = 1 := rfl
        rw [e, e17] at hk
        exact hk
      have e1 : nI (7 * f + h) - 1 = nI (7 * f + (h - 1)) := by
        rw [show 7 * f + h = (7 * f + (h - 1)) + 1 by omega]; exact nI_pred _
      rw [e1, nI_clamp (by omega : 7 * f + (h - 1) < 2 ^ 31)]
      refine ⟨vp_in_nI (by omega) (by omega), br_c (fun z => ?_) (fun z => ?_)⟩
      · refine br_f (by decide) (next _ ?_ n19 n20)
        unfold zy_nx; rw [if_neg n16, if_pos e, if_pos z]
      · refine br_t rfl ?_
        rw [nI_1]
        refine next _ ?_ n19 n20
        unfold zy_nx; rw [if_neg n16, if_pos e, if_neg z]
    · refine br_t rfl ?_
      rw [nI_1]
      refine next _ ?_ n19 n20
      unfold zy_nx; rw [if_neg n16, if_neg n17]
  · exact nm_e (br_t (pk_sneg (by omega) (by omega)) (br_f (by decide) (xw_166f (hF hc (Or.inl (fun z => hk z.1))))))
theorem lk_slow (hPG : zr_PG ln x_op x_arg x_length x_blockLength x_blockCost x_blockMost x_blockNeed x_blockRise y_lengths) (hST : zr_ST x_state x_weight y_now) (hJR : zr_JR J x_journalCell x_journalOld x_state B jn (f + 1) y_copies) (hWM : zr_WM x_warm y_warm) (hF1 : zr_F1 (f + 1) sf gv x_frameSelf y_self x_frameCaller y_caller x_frameAmount y_amounts x_frameArg y_arguments x_frameGiven y_given) (hF2 : zr_F2 (f + 1) jn ml x_frameEvents y_eventCopies x_frameMails y_messageCopies x_frameRefund y_refundCopies x_frameJournal x_frameWarm y_warmCopies) (hMO : zr_MO (f + 1) ml W) (hFB : zr_FB f ln sf gv kk hh pp x_frameLeft y_left x_framePc y_at x_frameSp) (hSS : zr_SS f hh x_stack y_tops y_stack) (hS1 : zr_S1 f h x_stack y_tops y_stack) (hTP : zr_TP f s p L ln sf y_left y_at) (hBG : zr_BG N G J0 J W L h f r kk hh gv jn) (hML : zr_ML x_mailTo x_mailFrom x_mailAmount x_mailArg y_messages) (hEV : zr_EV e x_eventAccount x_eventTag x_eventValue y_events) (hVS : zr_VS B x_ring x_kept x_oldCell x_oldValue x_oldCount x_oldDigest y_older) (hMI : zr_MI x_limit x_pending (y_lengths 6)) (hBF : zr_BF B y_before) (hlx : lx = L) (hpx : px = p) : ∃ (u1 u2 : SX) (v1 : SY), (∀ post : SX → Prop, post u1 → wpX_slow post (x_limit, x_pending, zs_H x_state 30, nI J, x_warm, nI r, nI W, x_ring, x_kept, x_version, nI e, nI (f + 1), nI s, nI lx, nI px, nI (7 * f + h), nI (7 * f), -1, x_lastResult, x_lastUsed, x_lastCalls, x_op, x_arg, x_length, x_blockLength, x_blockCost, x_blockMost, x_blockNeed, x_blockRise, x_state, x_weight, x_journalCell, x_journalOld, x_mailTo, x_mailFrom, x_mailAmount, x_mailArg, x_oldCell, x_oldValue, x_oldCount, x_oldDigest, x_eventAccount, x_eventTag, x_eventValue, x_frameSelf, x_frameCaller, x_frameAmount, x_frameArg, x_frameGiven, x_frameLeft, x_framePc, x_frameSp, x_frameJournal, x_frameEvents, x_frameWarm, x_frameRefund, x_frameMails, x_stack) (nI (24 * s + p))) ∧ zx_go u1 u2 ∧ zr_Out y_result x_op x_arg ln B N G J0 u2 v1 ∧ (∀ post : SY → Prop, post v1 → wpY_step post (x_limit, nI e, nI W, nI r, nI (f + 1), y_ended, y_answer, y_rest, x_lastCalls, y_result, y_used, y_calls, x_version, x_kept, x_op, x_arg, y_lengths, y_now, y_copies, y_older, y_before, y_warm, y_warmCopies, y_eventCopies, y_messageCopies, y_refundCopies, y_events, y_messages, y_self, y_caller, y_amounts, y_arguments, y_given, y_left, y_at, y_tops, y_stack)) := by
  obtain ⟨hf, hs, hp24, es, ep, el, et, hln, hln24, hL, hh6, hw, eop, ho, hpl, hxl⟩ := zk_un hPG hST hJR hWM hF1 hF2 hMO hFB hSS hS1 hTP hBG hML hEV hVS hMI hBF
  subst hlx hpx
  obtain ⟨o, eo⟩ : ∃ o, zb_o x_op (24 * s + px) = o := ⟨_, rfl⟩
  rw [eo] at eop ho
  have hcp := zc_pos ho (x_warm.toBitVec.getLsbD (4 * s + zq_q (x_arg (24 * s + px))))
  by_cases hc : lx < zc_cst o + zc_cc o (x_warm.toBitVec.getLsbD (4 * s + zq_q (x_arg (24 * s + px))))
  · obtain ⟨u', v', hO, hX, hY⟩ := zk_fin (st := 2) (Lr := 0) (h := h) (x := 0) (x_left := nI lx) (y_rest := y_rest) (y_ended := y_ended) (y_answer := y_answer) (x_self := nI s) (x_pc := nI px) (x_sp := nI (7 * f + h)) (x_base := nI (7 * f)) (x_lastResult := x_lastResult) (x_lastUsed := x_lastUsed) (x_lastCalls := x_lastCalls) (x_version := x_version) (y_result := y_result) (y_used := y_used) (y_calls := y_calls) hPG hST hJR hWM hF1 hF2 hMO hFB hSS (zl_BG hBG (Nat.le_refl _) (by omega) (by omega)) hML hEV hVS hMI hBF hf (by omega) (fun z => absurd z (by omega)) (fun _ => rfl)
    refine ⟨u', u', v', fun post hp => ?_, zx_rf _, hO, fun post hp => ?_⟩
    · exact xw_slow hs hf hh6 hp24 hL ho eop hxl hln24 (fun _ => hX post hp) (fun z _ => absurd hc (by omega)) (fun z _ _ _ => absurd hc (by omega))
    · exact yk_O hPG hST hJR hWM hF1 hF2 hMO hFB hSS hS1 hTP hBG hML hEV hVS hMI hBF eo hc (hY post hp)
  have hc' : zc_cst o + zc_cc o (x_warm.toBitVec.getLsbD (4 * s + zq_q (x_arg (24 * s + px)))) ≤ lx := by omega
  have etop : y_stack (6 * f + (h - 1)) = x_stack (7 * f + (h - 1)) ∨ h = 0 := by
    rcases Nat.eq_zero_or_pos h with z | z
    · exact Or.inr z
    · exact Or.inl (hS1.2.2 (h - 1) (by omega))
  have etn : zc_tk o ≤ h → zy_nx o px (x_arg (24 * s + px)) (y_stack (6 * f + (h - 1))) = zy_nx o px (x_arg (24 * s + px)) (x_stack (7 * f + (h - 1))) := by
    intro hk
    rcases etop with z | z
    · rw [z]
    · have n17 : o ≠ 17 := by
        intro e
        have e17 : zc_tk 17 = 1 := rfl
        rw [e, e17] at hk
        omega
      unfold zy_nx
      rw [if_neg n17, if_neg n17]
  by_cases hbad : (¬ (zc_tk o ≤ h ∧ h - zc_tk o + zc_ad o ≤ 6) ∨ (o ≠ 19 ∧ o ≠ 20 ∧ ¬ ∃ j : Nat, j < ln s ∧ zy_nx o px (x_arg (24 * s + px)) (x_stack (7 * f + (h - 1))) = nI j))
  · obtain ⟨u', v', hO, hX, hY⟩ := zk_fin (st := 3) (Lr := 0) (h := h) (x := 0) (x_left := nI lx) (y_rest := y_rest) (y_ended := y_ended) (y_answer := y_answer) (x_self := nI s) (x_pc := nI px) (x_sp := nI (7 * f + h)) (x_base := nI (7 * f)) (x_lastResult := x_lastResult) (x_lastUsed := x_lastUsed) (x_lastCalls := x_lastCalls) (x_version := x_version) (y_result := y_result) (y_used := y_used) (y_calls := y_calls) (y_left := upd y_left f (nI (lx - (zc_cst o + zc_cc o (x_warm.toBitVec.getLsbD (4 * s + zq_q (x_arg (24 * s + px)))))))) hPG hST hJR hWM hF1 hF2 hMO (zl_FBl hFB) hSS (zl_BG hBG (Nat.le_refl _) (by omega) (by omega)) hML hEV hVS hMI hBF hf (by omega) (fun z => absurd z (by omega)) (fun _ => rfl)
    refine ⟨u', u', v', fun post hp => ?_, zx_rf _, hO, fun post hp => ?_⟩
    · refine xw_slow hs hf hh6 hp24 hL ho eop hxl hln24 (fun z => absurd z hc) (fun _ _ => hX post hp) (fun _ htk had hj => ?_)
      exfalso
      rcases hbad with z | ⟨n19, n20, z⟩
      · exact z ⟨htk, had⟩
      · exact z (hj n19 n20)
    · refine yk_F hPG hST hJR hWM hF1 hF2 hMO hFB hSS hS1 hTP hBG hML hEV hVS hMI hBF eo hc' ?_ (hY post hp)
      by_cases hk : zc_tk o ≤ h
      · rw [etn hk]; exact hbad
      · exact Or.inl (fun z => hk z.1)
  have htk : zc_tk o ≤ h := Decidable.byContradiction fun z => hbad (Or.inl (fun y => z y.1))
  have had : h - zc_tk o + zc_ad o ≤ 6 := Decidable.byContradiction fun z => hbad (Or.inl (fun y => z y.2))
  have hjj : o ≠ 19 → o ≠ 20 → ∃ j : Nat, j < ln s ∧ zy_nx o px (x_arg (24 * s + px)) (x_stack (7 * f + (h - 1))) = nI j := fun n19 n20 => Classical.byContradiction fun z => hbad (Or.inr ⟨n19, n20, z⟩)
  have WX : ∀ (post : SX → Prop), ((o < 16 ∨ 20 < o) → wpX_plain post (x_limit, x_pending, zs_H x_state 30, nI J, x_warm, nI r, nI W, x_ring, x_kept, x_version, nI e, nI (f + 1), nI s, nI (lx - zc_cst o), nI (px + 1), nI (7 * f + h), nI (7 * f), -1, x_lastResult, x_lastUsed, x_lastCalls, x_op, x_arg, x_length, x_blockLength, x_blockCost, x_blockMost, x_blockNeed, x_blockRise, x_state, x_weight, x_journalCell, x_journalOld, x_mailTo, x_mailFrom, x_mailAmount, x_mailArg, x_oldCell, x_oldValue, x_oldCount, x_oldDigest, x_eventAccount, x_eventTag, x_eventValue, x_frameSelf, x_frameCaller, x_frameAmount, x_frameArg, x_frameGiven, x_frameLeft, x_framePc, x_frameSp, x_frameJournal, x_frameEvents, x_frameWarm, x_frameRefund, x_frameMails, x_stack) (nI o) (x_arg (24 * s + px))) → ((16 ≤ o ∧ o ≤ 20) → wpX_control post (x_limit, x_pending, zs_H x_state 30, nI J, x_warm, nI r, nI W, x_ring, x_kept, x_version, nI e, nI (f + 1), nI s, nI (lx - zc_cst o), nI (px + 1), nI (7 * f + h), nI (7 * f), -1, x_lastResult, x_lastUsed, x_lastCalls, x_op, x_arg, x_length, x_blockLength, x_blockCost, x_blockMost, x_blockNeed, x_blockRise, x_state, x_weight, x_journalCell, x_journalOld, x_mailTo, x_mailFrom, x_mailAmount, x_mailArg, x_oldCell, x_oldValue, x_oldCount, x_oldDigest, x_eventAccount, x_eventTag, x_eventValue, x_frameSelf, x_frameCaller, x_frameAmount, x_frameArg, x_frameGiven, x_frameLeft, x_framePc, x_frameSp, x_frameJournal, x_frameEvents, x_frameWarm, x_frameRefund, x_frameMails, x_stack) (nI o) (x_arg (24 * s + px))) → wpX_slow post (x_limit, x_pending, zs_H x_state 30, nI J, x_warm, nI r, nI W, x_ring, x_kept, x_version, nI e, nI (f + 1), nI s, nI lx, nI px, nI (7 * f + h), nI (7 * f), -1, x_lastResult, x_lastUsed, x_lastCalls, x_op, x_arg, x_length, x_blockLength, x_blockCost, x_blockMost, x_blockNeed, x_blockRise, x_state, x_weight, x_journalCell, x_journalOld, x_mailTo, x_mailFrom, x_mailAmount, x_mailArg, x_oldCell, x_oldValue, x_oldCount, x_oldDigest, x_eventAccount, x_eventTag, x_eventValue, x_frameSelf, x_frameCaller, x_frameAmount, x_frameArg, x_frameGiven, x_frameLeft, x_framePc, x_frameSp, x_frameJournal, x_frameEvents, x_frameWarm, x_frameRefund, x_frameMails, x_stack) (nI (24 * s + px)) := by
    intro post h1 h2
    exact xw_slow hs hf hh6 hp24 hL ho eop hxl hln24 (fun z => absurd z hc) (fun _ z => absurd z hbad) (fun _ _ _ _ => ⟨h1, h2⟩)
  have hN1 : 2 ≤ N := by obtain ⟨b1, b2, _⟩ := hBG; omega
  by_cases hpn : o < 16 ∨ 20 < o
  · obtain ⟨j, hj, ej⟩ := hjj (by omega) (by omega)
    have ej' : zy_nx o px (x_arg (24 * s + px)) (x_stack (7 * f + (h - 1))) = nI (px + 1) := by unfold zy_nx; rw [if_neg (by omega), if_neg (by omega)]
    have hjp : px + 1 = j := (nI_eq (by omega) (by omega)).mp (ej'.symm.trans ej)
    obtain ⟨u', v', hR, hX, hY⟩ := lk_x (lx := lx - zc_cst o) (px := px + 1) (N' := N - 1) (x_lastResult := x_lastResult) (x_lastUsed := x_lastUsed) (x_lastCalls := x_lastCalls) (x_version := x_version) (y_rest := y_rest) (y_ended := y_ended) (y_answer := y_answer) (y_result := y_result) (y_used := y_used) (y_calls := y_calls) hPG hST hJR hWM hF1 hF2 hMO hFB hSS hS1 hTP hBG hML hEV hVS hMI hBF (by omega) (by omega) ho eo hpn htk had hc' (by omega) (fun e => by rw [e]; rfl)
    rw [Nat.sub_sub] at hR
    exact ⟨u', u', v', fun post hp => WX post (fun _ => hX post hp) (fun z => absurd hpn (by omega)), zx_rf _, Or.inl ⟨N - 1, _, _, _, _, by omega, hR⟩, hY⟩
  · have fin : ∀ {u1 u2 : SX} {v1 : SY}, (∀ post : SX → Prop, post u1 → wpX_control post (x_limit, x_pending, zs_H x_state 30, nI J, x_warm, nI r, nI W, x_ring, x_kept, x_version, nI e, nI (f + 1), nI s, nI (lx - zc_cst o), nI (px + 1), nI (7 * f + h), nI (7 * f), -1, x_lastResult, x_lastUsed, x_lastCalls, x_op, x_arg, x_length, x_blockLength, x_blockCost, x_blockMost, x_blockNeed, x_blockRise, x_state, x_weight, x_journalCell, x_journalOld, x_mailTo, x_mailFrom, x_mailAmount, x_mailArg, x_oldCell, x_oldValue, x_oldCount, x_oldDigest, x_eventAccount, x_eventTag, x_eventValue, x_frameSelf, x_frameCaller, x_frameAmount, x_frameArg, x_frameGiven, x_frameLeft, x_framePc, x_frameSp, x_frameJournal, x_frameEvents, x_frameWarm, x_frameRefund, x_frameMails, x_stack) (nI o) (x_arg (24 * s + px))) → zx_go u1 u2 → zr_Out y_result x_op x_arg ln B N G J0 u2 v1 → (∀ post : SY → Prop, post v1 → wpY_step post (x_limit, nI e, nI W, nI r, nI (f + 1), y_ended, y_answer, y_rest, x_lastCalls, y_result, y_used, y_calls, x_version, x_kept, x_op, x_arg, y_lengths, y_now, y_copies, y_older, y_before, y_warm, y_warmCopies, y_eventCopies, y_messageCopies, y_refundCopies, y_events, y_messages, y_self, y_caller, y_amounts, y_arguments, y_given, y_left, y_at, y_tops, y_stack)) → ∃ (u1 u2 : SX) (v1 : SY), (∀ post : SX → Prop, post u1 → wpX_slow post (x_limit, x_pending, zs_H x_state 30, nI J, x_warm, nI r, nI W, x_ring, x_kept, x_version, nI e, nI (f + 1), nI s, nI lx, nI px, nI (7 * f + h), nI (7 * f), -1, x_lastResult, x_lastUsed, x_lastCalls, x_op, x_arg, x_length, x_blockLength, x_blockCost, x_blockMost, x_blockNeed, x_blockRise, x_state, x_weight, x_journalCell, x_journalOld, x_mailTo, x_mailFrom, x_mailAmount, x_mailArg, x_oldCell, x_oldValue, x_oldCount, x_oldDigest, x_eventAccount, x_eventTag, x_eventValue, x_frameSelf, x_frameCaller, x_frameAmount, x_frameArg, x_frameGiven, x_frameLeft, x_framePc, x_frameSp, x_frameJournal, x_frameEvents, x_frameWarm, x_frameRefund, x_frameMails, x_stack) (nI (24 * s + px))) ∧ zx_go u1 u2 ∧ zr_Out y_result x_op x_arg ln B N G J0 u2 v1 ∧ (∀ post : SY → Prop, post v1 → wpY_step post (x_limit, nI e, nI W, nI r, nI (f + 1), y_ended, y_answer, y_rest, x_lastCalls, y_result, y_used, y_calls, x_version, x_kept, x_op, x_arg, y_lengths, y_now, y_copies, y_older, y_before, y_warm, y_warmCopies, y_eventCopies, y_messageCopies, y_refundCopies, y_events, y_messages, y_self, y_caller, y_amounts, y_arguments, y_given, y_left, y_at, y_tops, y_stack)) :=
      fun {u1 u2 v1} hX hg hO hY => ⟨u1, u2, v1, fun post hp => WX post (fun z => absurd z hpn) (fun _ => hX post hp), hg, hO, hY⟩
    rcases (by omega : o = 16 ∨ o = 17 ∨ o = 18 ∨ o = 19 ∨ o = 20) with e | e | e | e | e
    · subst e
      obtain ⟨j, hj, ej⟩ := hjj (by omega) (by omega)
      obtain ⟨u1, u2, v1, h1, h2, h3, h4⟩ := lk_16 (lx := lx - 1) (px := px + 1) (x_lastResult := x_lastResult) (x_lastUsed := x_lastUsed) (x_lastCalls := x_lastCalls) (x_version := x_version) (y_rest := y_rest) (y_ended := y_ended) (y_answer := y_answer) (y_result := y_result) (y_used := y_used) (y_calls := y_calls) hPG hST hJR hWM hF1 hF2 hMO hFB hSS hS1 hTP hBG hML hEV hVS hMI hBF rfl eo hj ej hc'
      exact fin h1 h2 h3 h4
    · subst e
      obtain ⟨j, hj, ej⟩ := hjj (by omega) (by omega)
      obtain ⟨u1, u2, v1, h1, h2, h3, h4⟩ := lk_17 (lx := lx - 1) (px := px + 1) (x_lastResult := x_lastResult) (x_lastUsed := x_lastUsed) (x_lastCalls := x_lastCalls) (x_version := x_version) (y_rest := y_rest) (y_ended := y_ended) (y_answer := y_answer) (y_result := y_result) (y_used := y_used) (y_calls := y_calls) hPG hST hJR hWM hF1 hF2 hMO hFB hSS hS1 hTP hBG hML hEV hVS hMI hBF rfl rfl eo hj htk ej hc'
      exact fin h1 h2 h3 h4
    · subst e
      obtain ⟨j, hj, ej⟩ := hjj (by omega) (by omega)
      have ej' : zy_nx 18 px (x_arg (24 * s + px)) (x_stack (7 * f + (h - 1))) = nI (px + 1) := rfl
      have hjp : px + 1 = j := (nI_eq (by omega) (by omega)).mp (ej'.symm.trans ej)
      obtain ⟨u1, u2, v1, h1, h2, h3, h4⟩ := lk_18 (lx := lx - 8) (px := px + 1) (x_lastResult := x_lastResult) (x_lastUsed := x_lastUsed) (x_lastCalls := x_lastCalls) (x_version := x_version) (y_rest := y_rest) (y_ended := y_ended) (y_answer := y_answer) (y_result := y_result) (y_used := y_used) (y_calls := y_calls) hPG hST hJR hWM hF1 hF2 hMO hFB hSS hS1 hTP hBG hML hEV hVS hMI hBF rfl rfl eo (by omega) htk hc'
      exact fin h1 h2 h3 h4
    · subst e
      obtain ⟨u1, u2, v1, h1, h2, h3, h4⟩ := lk_19 (lx := lx - 1) (px := px + 1) (x_lastResult := x_lastResult) (x_lastUsed := x_lastUsed) (x_lastCalls := x_lastCalls) (x_version := x_version) (y_rest := y_rest) (y_ended := y_ended) (y_answer := y_answer) (y_result := y_result) (y_used := y_used) (y_calls := y_calls) hPG hST hJR hWM hF1 hF2 hMO hFB hSS hS1 hTP hBG hML hEV hVS hMI hBF rfl (Or.inl rfl) eo htk hc'
      exact fin h1 h2 h3 h4
    · subst e
      obtain ⟨u1, u2, v1, h1, h2, h3, h4⟩ := lk_19 (lx := lx - 1) (px := px + 1) (x_lastResult := x_lastResult) (x_lastUsed := x_lastUsed) (x_lastCalls := x_lastCalls) (x_version := x_version) (y_rest := y_rest) (y_ended := y_ended) (y_answer := y_answer) (y_result := y_result) (y_used := y_used) (y_calls := y_calls) hPG hST hJR hWM hF1 hF2 hMO hFB hSS hS1 hTP hBG hML hEV hVS hMI hBF rfl (Or.inr rfl) eo htk hc'
      exact fin h1 h2 h3 h4
end
end
section
/-! blocks, and a call to its end -/
theorem zc_cl0 {o : Nat} (ho : o < 24) (h : zc_cl o = 0) : (o < 16 ∨ 20 < o) ∧ o ≠ 22 := by
  have := co_dec (N := 24) (P := fun o => zc_cl o = 0 → ((o < 16 ∨ 20 < o) ∧ o ≠ 22)) (by decide) ho
  exact this h
theorem zb_scm {op : Nat → Int32} {i t : Nat} : ∀ d, zb_sc op i t ≤ zb_sc op i (t + d)
  | 0 => Nat.le_refl _
  | d + 1 => Nat.le_trans (zb_scm d) (Nat.le_add_right _ _)
theorem zb_smm {op : Nat → Int32} {i t : Nat} : ∀ d, zb_sm op i t ≤ zb_sm op i (t + d)
  | 0 => Nat.le_refl _
  | d + 1 => Nat.le_trans (zb_smm d) (Nat.le_add_right _ _)
def zx_B (post : SX → Prop) (A l n k : Nat) (u : SX) : Prop := match u with
  | (x_limit, x_pending, x_digest, x_journal, x_warm, x_refund, x_mails, x_ring, x_kept, x_version, x_events, x_depth, x_self, x_left, x_pc, x_sp, x_base, x_lastStatus, x_lastResult, x_lastUsed, x_lastCalls, x_op, x_arg, x_length, x_blockLength, x_blockCost, x_blockMost, x_blockNeed, x_blockRise, x_state, x_weight, x_journalCell, x_journalOld, x_mailTo, x_mailFrom, x_mailAmount, x_mailArg, x_oldCell, x_oldValue, x_oldCount, x_oldDigest, x_eventAccount, x_eventTag, x_eventValue, x_frameSelf, x_frameCaller, x_frameAmount, x_frameArg, x_frameGiven, x_frameLeft, x_framePc, x_frameSp, x_frameJournal, x_frameEvents, x_frameWarm, x_frameRefund, x_frameMails, x_stack) => wX_advance_135 post (nI A) (nI l) n (nI k) x_limit x_pending x_digest x_journal x_warm x_refund x_mails x_ring x_kept x_version x_events x_depth x_self x_left x_pc x_sp x_base x_lastStatus x_lastResult x_lastUsed x_lastCalls x_op x_arg x_length x_blockLength x_blockCost x_blockMost x_blockNeed x_blockRise x_state x_weight x_journalCell x_journalOld x_mailTo x_mailFrom x_mailAmount x_mailArg x_oldCell x_oldValue x_oldCount x_oldDigest x_eventAccount x_eventTag x_eventValue x_frameSelf x_frameCaller x_frameAmount x_frameArg x_frameGiven x_frameLeft x_framePc x_frameSp x_frameJournal x_frameEvents x_frameWarm x_frameRefund x_frameMails x_stack
section
variable {x_limit x_pending x_journal x_refund x_mails x_ring x_kept x_version x_events x_depth x_self x_left x_pc x_sp x_base x_lastStatus x_lastResult x_lastUsed x_lastCalls : Int32} {x_digest x_warm : Int64} {x_op x_arg x_length x_blockLength x_blockCost x_blockMost x_blockNeed x_blockRise x_state x_journalCell x_journalOld x_mailTo x_mailFrom x_mailAmount x_mailArg x_oldCell x_oldValue x_oldCount x_eventAccount x_eventTag x_eventValue x_frameSelf x_frameCaller x_frameAmount x_frameArg x_frameGiven x_frameLeft x_framePc x_frameSp x_frameJournal x_frameEvents x_frameRefund x_frameMails x_stack : Nat → Int32} {x_weight x_oldDigest x_frameWarm : Nat → Int64}
variable {y_limit y_eventCount y_waiting y_refund y_depth y_ended y_answer y_rest y_begun y_result y_used y_calls y_version y_kept : Int32} {y_ops y_bs y_lengths y_now y_copies y_older y_before y_warm y_warmCopies y_eventCopies y_messageCopies y_refundCopies y_events y_messages y_self y_caller y_amounts y_arguments y_given y_left y_at y_tops y_stack : Nat → Int32}
variable {N G J0 lx px s p h L f J W e r : Nat} {ln sf gv jn ml kk hh pp : Nat → Nat} {B : Nat → Int32}
theorem xw_adL {post : SX → Prop} {A l n o : Nat} (hA : A + l < 168) (ho : o < 24) (eo : x_op (A + l) = nI o)
    (h1 : (o < 16 ∨ 20 < o) → wpX_plain post (x_limit, x_pending, x_digest, x_journal, x_warm, x_refund, x_mails, x_ring, x_kept, x_version, x_events, x_depth, x_self, x_left, x_pc, x_sp, x_base, x_lastStatus, x_lastResult, x_lastUsed, x_lastCalls, x_op, x_arg, x_length, x_blockLength, x_blockCost, x_blockMost, x_blockNeed, x_blockRise, x_state, x_weight, x_journalCell, x_journalOld, x_mailTo, x_mailFrom, x_mailAmount, x_mailArg, x_oldCell, x_oldValue, x_oldCount, x_oldDigest, x_eventAccount, x_eventTag, x_eventValue, x_frameSelf, x_frameCaller, x_frameAmount, x_frameArg, x_frameGiven, x_frameLeft, x_framePc, x_frameSp, x_frameJournal, x_frameEvents, x_frameWarm, x_frameRefund, x_frameMails, x_stack) (nI o) (x_arg (A + l))) (h2 : (16 ≤ o ∧ o ≤ 20) → wpX_control post (x_limit, x_pending, x_digest, x_journal, x_warm, x_refund, x_mails, x_ring, x_kept, x_version, x_events, x_depth, x_self, x_left, x_pc, x_sp, x_base, x_lastStatus, x_lastResult, x_lastUsed, x_lastCalls, x_op, x_arg, x_length, x_blockLength, x_blockCost, x_blockMost, x_blockNeed, x_blockRise, x_state, x_weight, x_journalCell, x_journalOld, x_mailTo, x_mailFrom, x_mailAmount, x_mailArg, x_oldCell, x_oldValue, x_oldCount, x_oldDigest, x_eventAccount, x_eventTag, x_eventValue, x_frameSelf, x_frameCaller, x_frameAmount, x_frameArg, x_frameGiven, x_frameLeft, x_framePc, x_frameSp, x_frameJournal, x_frameEvents, x_frameWarm, x_frameRefund, x_frameMails, x_stack) (nI o) (x_arg (A + l))) : wX_advance_135 post (nI A) (nI (l + 1)) (n + 1) (nI (A + l)) x_limit x_pending x_digest x_journal x_warm x_refund x_mails x_ring x_kept x_version x_events x_depth x_self x_left x_pc x_sp x_base x_lastStatus x_lastResult x_lastUsed x_lastCalls x_op x_arg x_length x_blockLength x_blockCost x_blockMost x_blockNeed x_blockRise x_state x_weight x_journalCell x_journalOld x_mailTo x_mailFrom x_mailAmount x_mailArg x_oldCell x_oldValue x_oldCount x_oldDigest x_eventAccount x_eventTag x_eventValue x_frameSelf x_frameCaller x_frameAmount x_frameArg x_frameGiven x_frameLeft x_framePc x_frameSp x_frameJournal x_frameEvents x_frameWarm x_frameRefund x_frameMails x_stack := by
  have e1 : (nI A + nI (l + 1)) - 1 = nI (A + l) := by rw [nI_add]; exact nI_pred (A + l)
  have hi : vp_in (nI (A + l)) 168 := vp_in_nI hA (by omega)
  refine br_t (by rw [e1]; exact nI_le (Nat.le_refl _) (by omega)) ?_
  rw [e1, nI_clamp (by omega : A + l < 2 ^ 31)]
  refine ⟨hi, nm_r eo ⟨hi, nm_e ?_⟩⟩
  exact pk_lt o 16 (fun h => h1 (Or.inl h)) (fun h => pk_lt 20 o (fun h' => h1 (Or.inr h')) (fun h' => h2 ⟨h, h'⟩))
theorem xw_adP {post : SX → Prop} {A l n t o : Nat} {u' : SX} (hA : A + l < 168) (ht : t < l) (eo : x_op (A + t) = nI o) (hX : ∀ post : SX → Prop, post u' → wpX_plain post (x_limit, x_pending, x_digest, x_journal, x_warm, x_refund, x_mails, x_ring, x_kept, x_version, x_events, x_depth, x_self, x_left, x_pc, x_sp, x_base, x_lastStatus, x_lastResult, x_lastUsed, x_lastCalls, x_op, x_arg, x_length, x_blockLength, x_blockCost, x_blockMost, x_blockNeed, x_blockRise, x_state, x_weight, x_journalCell, x_journalOld, x_mailTo, x_mailFrom, x_mailAmount, x_mailArg, x_oldCell, x_oldValue, x_oldCount, x_oldDigest, x_eventAccount, x_eventTag, x_eventValue, x_frameSelf, x_frameCaller, x_frameAmount, x_frameArg, x_frameGiven, x_frameLeft, x_framePc, x_frameSp, x_frameJournal, x_frameEvents, x_frameWarm, x_frameRefund, x_frameMails, x_stack) (nI o) (x_arg (A + t))) (H : zx_B post A (l + 1) n (A + t + 1) u') : wX_advance_135 post (nI A) (nI (l + 1)) (n + 1) (nI (A + t)) x_limit x_pending x_digest x_journal x_warm x_refund x_mails x_ring x_kept x_version x_events x_depth x_self x_left x_pc x_sp x_base x_lastStatus x_lastResult x_lastUsed x_lastCalls x_op x_arg x_length x_blockLength x_blockCost x_blockMost x_blockNeed x_blockRise x_state x_weight x_journalCell x_journalOld x_mailTo x_mailFrom x_mailAmount x_mailArg x_oldCell x_oldValue x_oldCount x_oldDigest x_eventAccount x_eventTag x_eventValue x_frameSelf x_frameCaller x_frameAmount x_frameArg x_frameGiven x_frameLeft x_framePc x_frameSp x_frameJournal x_frameEvents x_frameWarm x_frameRefund x_frameMails x_stack := by
  have e1 : (nI A + nI (l + 1)) - 1 = nI (A + l) := by rw [nI_add]; exact nI_pred (A + l)
  have hi : vp_in (nI (A + t)) 168 := vp_in_nI (by omega) (by omega)
  have gen : ∀ w : SX, zx_B post A (l + 1) n (A + t + 1) w → (fun u : SX => match u with | (x_limit, x_pending, x_digest, x_journal, x_warm, x_refund, x_mails, x_ring, x_kept, x_version, x_events, x_depth, x_self, x_left, x_pc, x_sp, x_base, x_lastStatus, x_lastResult, x_lastUsed, x_lastCalls, x_op, x_arg, x_length, x_blockLength, x_blockCost, x_blockMost, x_blockNeed, x_blockRise, x_state, x_weight, x_journalCell, x_journalOld, x_mailTo, x_mailFrom, x_mailAmount, x_mailArg, x_oldCell, x_oldValue, x_oldCount, x_oldDigest, x_eventAccount, x_eventTag, x_eventValue, x_frameSelf, x_frameCaller, x_frameAmount, x_frameArg, x_frameGiven, x_frameLeft, x_framePc, x_frameSp, x_frameJournal, x_frameEvents, x_frameWarm, x_frameRefund, x_frameMails, x_stack) => ∀ y : Int32, y = nI (A + t) + 1 → wX_advance_135 post (nI A) (nI (l + 1)) n y x_limit x_pending x_digest x_journal x_warm x_refund x_mails x_ring x_kept x_version x_events x_depth x_self x_left x_pc x_sp x_base x_lastStatus x_lastResult x_lastUsed x_lastCalls x_op x_arg x_length x_blockLength x_blockCost x_blockMost x_blockNeed x_blockRise x_state x_weight x_journalCell x_journalOld x_mailTo x_mailFrom x_mailAmount x_mailArg x_oldCell x_oldValue x_oldCount x_oldDigest x_eventAccount x_eventTag x_eventValue x_frameSelf x_frameCaller x_frameAmount x_frameArg x_frameGiven x_frameLeft x_framePc x_frameSp x_frameJournal x_frameEvents x_frameWarm x_frameRefund x_frameMails x_stack) w := by
    rintro ⟨x_limit, x_pending, x_digest, x_journal, x_warm, x_refund, x_mails, x_ring, x_kept, x_version, x_events, x_depth, x_self, x_left, x_pc, x_sp, x_base, x_lastStatus, x_lastResult, x_lastUsed, x_lastCalls, x_op, x_arg, x_length, x_blockLength, x_blockCost, x_blockMost, x_blockNeed, x_blockRise, x_state, x_weight, x_journalCell, x_journalOld, x_mailTo, x_mailFrom, x_mailAmount, x_mailArg, x_oldCell, x_oldValue, x_oldCount, x_oldDigest, x_eventAccount, x_eventTag, x_eventValue, x_frameSelf, x_frameCaller, x_frameAmount, x_frameArg, x_frameGiven, x_frameLeft, x_framePc, x_frameSp, x_frameJournal, x_frameEvents, x_frameWarm, x_frameRefund, x_frameMails, x_stack⟩ H

    exact nm_r (nI_1 (A + t)) H
  refine br_f (by rw [e1]; exact nI_ge (by omega) (by omega)) ⟨hi, hi, ?_⟩
  rw [nI_clamp (by omega : A + t < 2 ^ 31), eo]
  exact hX _ (gen u' H)
theorem xw_advS0 {post : SX → Prop} {l : Nat} (hs : s < 6) (hp24 : p < 24) (hl : x_length s = nI l) (hl0 : 0 < l) (hl24 : l ≤ 24) (eb : x_blockLength (24 * s + p) = 0) (hp : wpX_slow post (x_limit, x_pending, x_digest, x_journal, x_warm, x_refund, x_mails, x_ring, x_kept, x_version, x_events, x_depth, nI s, nI L, nI p, nI (7 * f + h), nI (7 * f), x_lastStatus, x_lastResult, x_lastUsed, x_lastCalls, x_op, x_arg, x_length, x_blockLength, x_blockCost, x_blockMost, x_blockNeed, x_blockRise, x_state, x_weight, x_journalCell, x_journalOld, x_mailTo, x_mailFrom, x_mailAmount, x_mailArg, x_oldCell, x_oldValue, x_oldCount, x_oldDigest, x_eventAccount, x_eventTag, x_eventValue, x_frameSelf, x_frameCaller, x_frameAmount, x_frameArg, x_frameGiven, x_frameLeft, x_framePc, x_frameSp, x_frameJournal, x_frameEvents, x_frameWarm, x_frameRefund, x_frameMails, x_stack) (nI (24 * s + p))) : wpX_advance post (x_limit, x_pending, x_digest, x_journal, x_warm, x_refund, x_mails, x_ring, x_kept, x_version, x_events, x_depth, nI s, nI L, nI p, nI (7 * f + h), nI (7 * f), x_lastStatus, x_lastResult, x_lastUsed, x_lastCalls, x_op, x_arg, x_length, x_blockLength, x_blockCost, x_blockMost, x_blockNeed, x_blockRise, x_state, x_weight, x_journalCell, x_journalOld, x_mailTo, x_mailFrom, x_mailAmount, x_mailArg, x_oldCell, x_oldValue, x_oldCount, x_oldDigest, x_eventAccount, x_eventTag, x_eventValue, x_frameSelf, x_frameCaller, x_frameAmount, x_frameArg, x_frameGiven, x_frameLeft, x_framePc, x_frameSp, x_frameJournal, x_frameEvents, x_frameWarm, x_frameRefund, x_frameMails, x_stack) := by
  have eA : (24 : Int32) * nI s + nI p = nI (24 * s + p) := by rw [show (24 : Int32) * nI s = nI (24 * s) from pk_mul 24 s]; exact nI_add _ _
  unfold wpX_advance
  dsimp only
  refine nm_r eA ⟨vp_in_nI hs (by omega), ?_⟩
  rw [nI_clamp (by omega : s < 2 ^ 31), hl, nI_clamp (by omega : 24 * s + p < 2 ^ 31), eb]
  exact br_f (nI_ne0 hl0 (by omega)) ⟨vp_in_nI (by omega) (by omega), nm_e (nm_e (br_t (by decide) (br_t rfl hp)))⟩
theorem xw_adv {post : SX → Prop} {ll l c m nd rs : Nat} (hs : s < 6) (hp24 : p < 24) (hL : L ≤ 400) (hh6 : h ≤ 6) (hf : f < 5) (hl : x_length s = nI ll) (hl0 : 0 < ll) (hl24 : ll ≤ 24) (h0 : 0 < l) (hl2 : l ≤ 24) (hc4 : c ≤ 400) (hm4 : m ≤ 400) (hn1 : nd ≤ 100) (hr1 : rs ≤ 100) (eb : x_blockLength (24 * s + p) = nI l) (ec : x_blockCost (24 * s + p) = nI c) (em : x_blockMost (24 * s + p) = nI m) (en : x_blockNeed (24 * s + p) = nI nd) (er : x_blockRise (24 * s + p) = nI rs)
    (h1 : ¬ (m ≤ L ∧ nd ≤ h ∧ h + rs ≤ 6) → wpX_slow post (x_limit, x_pending, x_digest, x_journal, x_warm, x_refund, x_mails, x_ring, x_kept, x_version, x_events, x_depth, nI s, nI L, nI p, nI (7 * f + h), nI (7 * f), x_lastStatus, x_lastResult, x_lastUsed, x_lastCalls, x_op, x_arg, x_length, x_blockLength, x_blockCost, x_blockMost, x_blockNeed, x_blockRise, x_state, x_weight, x_journalCell, x_journalOld, x_mailTo, x_mailFrom, x_mailAmount, x_mailArg, x_oldCell, x_oldValue, x_oldCount, x_oldDigest, x_eventAccount, x_eventTag, x_eventValue, x_frameSelf, x_frameCaller, x_frameAmount, x_frameArg, x_frameGiven, x_frameLeft, x_framePc, x_frameSp, x_frameJournal, x_frameEvents, x_frameWarm, x_frameRefund, x_frameMails, x_stack) (nI (24 * s + p)))
    (h2 : (m ≤ L ∧ nd ≤ h ∧ h + rs ≤ 6) → c ≤ L ∧ ∃ n, wX_advance_135 post (nI (24 * s + p)) (nI l) n (nI (24 * s + p)) x_limit x_pending x_digest x_journal x_warm x_refund x_mails x_ring x_kept x_version x_events x_depth (nI s) (nI (L - c)) (nI (p + l)) (nI (7 * f + h)) (nI (7 * f)) x_lastStatus x_lastResult x_lastUsed x_lastCalls x_op x_arg x_length x_blockLength x_blockCost x_blockMost x_blockNeed x_blockRise x_state x_weight x_journalCell x_journalOld x_mailTo x_mailFrom x_mailAmount x_mailArg x_oldCell x_oldValue x_oldCount x_oldDigest x_eventAccount x_eventTag x_eventValue x_frameSelf x_frameCaller x_frameAmount x_frameArg x_frameGiven x_frameLeft x_framePc x_frameSp x_frameJournal x_frameEvents x_frameWarm x_frameRefund x_frameMails x_stack) : wpX_advance post (x_limit, x_pending, x_digest, x_journal, x_warm, x_refund, x_mails, x_ring, x_kept, x_version, x_events, x_depth, nI s, nI L, nI p, nI (7 * f + h), nI (7 * f), x_lastStatus, x_lastResult, x_lastUsed, x_lastCalls, x_op, x_arg, x_length, x_blockLength, x_blockCost, x_blockMost, x_blockNeed, x_blockRise, x_state, x_weight, x_journalCell, x_journalOld, x_mailTo, x_mailFrom, x_mailAmount, x_mailArg, x_oldCell, x_oldValue, x_oldCount, x_oldDigest, x_eventAccount, x_eventTag, x_eventValue, x_frameSelf, x_frameCaller, x_frameAmount, x_frameArg, x_frameGiven, x_frameLeft, x_framePc, x_frameSp, x_frameJournal, x_frameEvents, x_frameWarm, x_frameRefund, x_frameMails, x_stack) := by
  have eA : (24 : Int32) * nI s + nI p = nI (24 * s + p) := by rw [show (24 : Int32) * nI s = nI (24 * s) from pk_mul 24 s]; exact nI_add _ _
  have eh : nI (7 * f + h) - nI (7 * f) = nI h := by rw [pk_sub (by omega)]; exact congrArg nI (by omega)
  have hi : vp_in (nI (24 * s + p)) 144 := vp_in_nI (by omega) (by omega)
  unfold wpX_advance
  dsimp only
  refine nm_r eA ⟨vp_in_nI hs (by omega), ?_⟩
  rw [nI_clamp (by omega : s < 2 ^ 31), hl, nI_clamp (by omega : 24 * s + p < 2 ^ 31), eb, em, en, er]
  refine br_f (nI_ne0 hl0 (by omega)) ⟨hi, nm_e (nm_r eh (br_f (nI_nle h0 (by omega)) ⟨hi, ?_⟩))⟩
  refine pk_lt L m (fun z => br_t rfl (h1 (by omega))) (fun z1 => ⟨hi, ?_⟩)
  refine pk_lt h nd (fun z => br_t rfl (h1 (by omega))) (fun z2 => ⟨hi, ?_⟩)
  rw [nI_add]
  refine pk_lt 6 (h + rs) (fun z => br_t rfl (h1 (by omega))) (fun z3 => ?_)
  obtain ⟨hcL, n, hn⟩ := h2 ⟨z1, z2, z3⟩
  refine br_f (by decide) ⟨hi, ?_⟩
  rw [nI_clamp (by omega : 24 * s + p < 2 ^ 31), ec]
  exact nm_r (pk_sub hcL) (nm_r (nI_add p l) ⟨n, hn⟩)
end

theorem zk_fast {y_result : Int32} {x_op x_arg : Nat → Int32} {ln : Nat → Nat} {B : Nat → Int32} {G J0 s k l c m nd rs h1 : Nat} (hs : s < 6) (hK : zb_K x_op x_arg (ln s) (24 * s + k) k (l + 1) c m nd rs) (hnd : nd ≤ h1) (hrs : h1 + rs ≤ 6) :
    ∀ (d t : Nat) (u : SX) (v : SY) (N lx h L : Nat), t + d = l → zr_R y_result x_op x_arg ln B N G J0 lx (k + l + 1) s (k + t) h L u v → (h : Int) = (h1 : Int) + zb_hs x_op (24 * s + k) t → lx + zb_sc x_op (24 * s + k) (l + 1) = L + zb_sc x_op (24 * s + k) t → zb_sm x_op (24 * s + k) (l + 1) ≤ lx + zb_sm x_op (24 * s + k) t →
    ∃ (u1 u2 : SX) (v1 : SY), (∀ post : SX → Prop, post u1 → ∃ n, zx_B post (24 * s + k) (l + 1) n (24 * s + k + t) u) ∧ zx_go u1 u2 ∧ zy_go v v1 ∧ zr_Out y_result x_op x_arg ln B N G J0 u2 v1 := by
  obtain ⟨k1, k2, k3, k4, k5, k6, k7⟩ := hK
  intro d
  induction d with
  | zero =>
    intro t u v N lx h L htd hR hh hsc hsm
    have e : t = l := by omega
    subst e
    refine zr_R_el (P := fun u v => ∃ (u1 u2 : SX) (v1 : SY), (∀ post : SX → Prop, post u1 → ∃ n, zx_B post (24 * s + k) (t + 1) n (24 * s + k + t) u) ∧ zx_go u1 u2 ∧ zy_go v v1 ∧ zr_Out y_result x_op x_arg ln B N G J0 u2 v1) ?_ hR
    clear hR u v
    intro f J W e r sf gv jn ml kk hh pp x_pending x_warm x_ring x_kept x_version x_lastResult x_lastUsed x_lastCalls x_limit x_length x_blockLength x_blockCost x_blockMost x_blockNeed x_blockRise x_state x_weight x_journalCell x_journalOld x_mailTo x_mailFrom x_mailAmount x_mailArg x_oldCell x_oldValue x_oldCount x_oldDigest x_eventAccount x_eventTag x_eventValue x_frameSelf x_frameCaller x_frameAmount x_frameArg x_frameGiven x_frameLeft x_framePc x_frameSp x_frameJournal x_frameEvents x_frameWarm x_frameRefund x_frameMails x_stack y_ended y_answer y_rest y_used y_calls y_lengths y_now y_copies y_older y_before y_warm y_warmCopies y_eventCopies y_messageCopies y_refundCopies y_events y_messages y_self y_caller y_amounts y_arguments y_given y_left y_at y_tops y_stack hPG hST hJR hWM hF1 hF2 hMO hFB hSS hS1 hTP hBG hML hEV hVS hMI hBF
    obtain ⟨hf, _, hp24, es, ep, el, et, hln, hln24, hL, hh6, hw, eop, ho, hpl, hxl⟩ := zk_un hPG hST hJR hWM hF1 hF2 hMO hFB hSS hS1 hTP hBG hML hEV hVS hMI hBF
    have hHO := k5 h1 hnd hrs t (by omega)
    have eh1 : zb_hs x_op (24 * s + k) (t + 1) = zb_hs x_op (24 * s + k) t - (zc_tk (zb_o x_op (24 * s + k + t)) : Int) + (zc_ad (zb_o x_op (24 * s + k + t)) : Int) := rfl
    have es1 : zb_sc x_op (24 * s + k) (t + 1) = zb_sc x_op (24 * s + k) t + zc_cst (zb_o x_op (24 * s + k + t)) := rfl
    have em1 : zb_sm x_op (24 * s + k) (t + 1) = zb_sm x_op (24 * s + k) t + zc_mx (zb_o x_op (24 * s + k + t)) := rfl
    rw [eh1] at hHO
    have eix : 24 * s + k + (t + 1) - 1 = 24 * s + k + t := by omega
    rw [eix] at k6 k7
    have eas : 24 * s + (k + t) = 24 * s + k + t := by omega
    obtain ⟨o, eo⟩ : ∃ o, zb_o x_op (24 * s + k + t) = o := ⟨_, rfl⟩
    rw [eo] at hHO es1 em1 k6 k7
    have eo' : zb_o x_op (24 * s + (k + t)) = o := by rw [eas]; exact eo
    rw [eo'] at eop ho
    have hN1 : 2 ≤ N ∨ L = 0 := by obtain ⟨b1, b2, _⟩ := hBG; omega
    have hcc := zc_cc_le o (x_warm.toBitVec.getLsbD (4 * s + zq_q (x_arg (24 * s + (k + t)))))
    have hcp := zc_pos ho (x_warm.toBitVec.getLsbD (4 * s + zq_q (x_arg (24 * s + (k + t)))))
    have htk : zc_tk o ≤ h := by omega
    have had : h - zc_tk o + zc_ad o ≤ 6 := by omega
    have hlx : lx = L - zc_cst o := by omega
    have hcL : zc_cst o ≤ L := by omega
    have eop' : x_op (24 * s + k + t) = nI o := by rw [← eas]; exact eop
    by_cases hpn : o < 16 ∨ 20 < o
    · have hnx : k + t + 1 < ln s := by omega
      obtain ⟨u', v', hR, hX, hY⟩ := lk_x (N' := N - 1) (lx := lx) (px := k + t + 1) (x_lastResult := x_lastResult) (x_lastUsed := x_lastUsed) (x_lastCalls := x_lastCalls) (x_version := x_version) (y_rest := y_rest) (y_ended := y_ended) (y_answer := y_answer) (y_result := y_result) (y_used := y_used) (y_calls := y_calls) hPG hST hJR hWM hF1 hF2 hMO hFB hSS hS1 hTP hBG hML hEV hVS hMI hBF (by omega) hnx ho eo' hpn htk had (by omega) (by omega) (fun e => by rw [hlx, e]; rfl)
      rw [show lx - zc_cc o (x_warm.toBitVec.getLsbD (4 * s + zq_q (x_arg (24 * s + (k + t))))) = L - (zc_cst o + zc_cc o (x_warm.toBitVec.getLsbD (4 * s + zq_q (x_arg (24 * s + (k + t)))))) by omega] at hR
      refine ⟨u', u', v', fun post hp => ⟨1, ?_⟩, zx_rf _, zy_st hf hY, Or.inl ⟨N - 1, _, _, _, _, by omega, hR⟩⟩
      rw [eas] at hX
      exact xw_adL (by omega) ho eop' (fun _ => hX post hp) (fun z => absurd hpn (by omega))
    · have fin : ∀ {u1 u2 : SX} {v1 : SY}, (∀ post : SX → Prop, post u1 → wpX_control post (x_limit, x_pending, zs_H x_state 30, nI J, x_warm, nI r, nI W, x_ring, x_kept, x_version, nI e, nI (f + 1), nI s, nI lx, nI (k + t + 1), nI (7 * f + h), nI (7 * f), -1, x_lastResult, x_lastUsed, x_lastCalls, x_op, x_arg, x_length, x_blockLength, x_blockCost, x_blockMost, x_blockNeed, x_blockRise, x_state, x_weight, x_journalCell, x_journalOld, x_mailTo, x_mailFrom, x_mailAmount, x_mailArg, x_oldCell, x_oldValue, x_oldCount, x_oldDigest, x_eventAccount, x_eventTag, x_eventValue, x_frameSelf, x_frameCaller, x_frameAmount, x_frameArg, x_frameGiven, x_frameLeft, x_framePc, x_frameSp, x_frameJournal, x_frameEvents, x_frameWarm, x_frameRefund, x_frameMails, x_stack) (nI o) (x_arg (24 * s + (k + t)))) → zx_go u1 u2 → zr_Out y_result x_op x_arg ln B N G J0 u2 v1 → (∀ post : SY → Prop, post v1 → wpY_step post (x_limit, nI e, nI W, nI r, nI (f + 1), y_ended, y_answer, y_rest, x_lastCalls, y_result, y_used, y_calls, x_version, x_kept, x_op, x_arg, y_lengths, y_now, y_copies, y_older, y_before, y_warm, y_warmCopies, y_eventCopies, y_messageCopies, y_refundCopies, y_events, y_messages, y_self, y_caller, y_amounts, y_arguments, y_given, y_left, y_at, y_tops, y_stack)) → ∃ (u1 u2 : SX) (v1 : SY), (∀ post : SX → Prop, post u1 → ∃ n, zx_B post (24 * s + k) (t + 1) n (24 * s + k + t) (x_limit, x_pending, zs_H x_state 30, nI J, x_warm, nI r, nI W, x_ring, x_kept, x_version, nI e, nI (f + 1), nI s, nI lx, nI (k + t + 1), nI (7 * f + h), nI (7 * f), -1, x_lastResult, x_lastUsed, x_lastCalls, x_op, x_arg, x_length, x_blockLength, x_blockCost, x_blockMost, x_blockNeed, x_blockRise, x_state, x_weight, x_journalCell, x_journalOld, x_mailTo, x_mailFrom, x_mailAmount, x_mailArg, x_oldCell, x_oldValue, x_oldCount, x_oldDigest, x_eventAccount, x_eventTag, x_eventValue, x_frameSelf, x_frameCaller, x_frameAmount, x_frameArg, x_frameGiven, x_frameLeft, x_framePc, x_frameSp, x_frameJournal, x_frameEvents, x_frameWarm, x_frameRefund, x_frameMails, x_stack)) ∧ zx_go u1 u2 ∧ zy_go (x_limit, nI e, nI W, nI r, nI (f + 1), y_ended, y_answer, y_rest, x_lastCalls, y_result, y_used, y_calls, x_version, x_kept, x_op, x_arg, y_lengths, y_now, y_copies, y_older, y_before, y_warm, y_warmCopies, y_eventCopies, y_messageCopies, y_refundCopies, y_events, y_messages, y_self, y_caller, y_amounts, y_arguments, y_given, y_left, y_at, y_tops, y_stack) v1 ∧ zr_Out y_result x_op x_arg ln B N G J0 u2 v1 := by
        intro u1 u2 v1 hX hg hO hY
        refine ⟨u1, u2, v1, fun post hp => ⟨1, ?_⟩, hg, zy_st hf hY, hO⟩
        rw [eas] at hX
        exact xw_adL (by omega) ho eop' (fun z => absurd z hpn) (fun _ => hX post hp)
      rcases (by omega : o = 16 ∨ o = 17 ∨ o = 18 ∨ o = 19 ∨ o = 20) with e | e | e | e | e
      · subst e
        obtain ⟨j, hj, ej⟩ := k7 (Or.inl rfl)
        obtain ⟨u1, u2, v1, h1, h2, h3, h4⟩ := lk_16 (px := k + t + 1) (x_lastResult := x_lastResult) (x_lastUsed := x_lastUsed) (x_lastCalls := x_lastCalls) (x_version := x_version) (y_rest := y_rest) (y_ended := y_ended) (y_answer := y_answer) (y_result := y_result) (y_used := y_used) (y_calls := y_calls) hPG hST hJR hWM hF1 hF2 hMO hFB hSS hS1 hTP hBG hML hEV hVS hMI hBF hlx eo' hj (by rw [eas]; exact ej) hcL
        exact fin h1 h2 h3 h4
      · subst e
        obtain ⟨j, hj, ej⟩ := k7 (Or.inr rfl)
        have hnx : k + t + 1 < ln s := by omega
        have hjj : ∃ j : Nat, j < ln s ∧ zy_nx 17 (k + t) (x_arg (24 * s + (k + t))) (x_stack (7 * f + (h - 1))) = nI j := by
          by_cases z : x_stack (7 * f + (h - 1)) = 0
          · refine ⟨j, hj, ?_⟩
            unfold zy_nx
            rw [if_neg (by omega), if_pos rfl, if_pos z, eas]
            exact ej
          · refine ⟨k + t + 1, hnx, ?_⟩
            unfold zy_nx
            rw [if_neg (by omega), if_pos rfl, if_neg z]
        obtain ⟨j', hj', ej'⟩ := hjj
        obtain ⟨u1, u2, v1, h1, h2, h3, h4⟩ := lk_17 (px := k + t + 1) (x_lastResult := x_lastResult) (x_lastUsed := x_lastUsed) (x_lastCalls := x_lastCalls) (x_version := x_version) (y_rest := y_rest) (y_ended := y_ended) (y_answer := y_answer) (y_result := y_result) (y_used := y_used) (y_calls := y_calls) hPG hST hJR hWM hF1 hF2 hMO hFB hSS hS1 hTP hBG hML hEV hVS hMI hBF hlx rfl eo' hj' htk ej' hcL
        exact fin h1 h2 h3 h4
      · subst e
        have hnx : k + t + 1 < ln s := by omega
        obtain ⟨u1, u2, v1, h1, h2, h3, h4⟩ := lk_18 (px := k + t + 1) (x_lastResult := x_lastResult) (x_lastUsed := x_lastUsed) (x_lastCalls := x_lastCalls) (x_version := x_version) (y_rest := y_rest) (y_ended := y_ended) (y_answer := y_answer) (y_result := y_result) (y_used := y_used) (y_calls := y_calls) hPG hST hJR hWM hF1 hF2 hMO hFB hSS hS1 hTP hBG hML hEV hVS hMI hBF hlx rfl eo' hnx htk hcL
        exact fin h1 h2 h3 h4
      · subst e
        obtain ⟨u1, u2, v1, h1, h2, h3, h4⟩ := lk_19 (px := k + t + 1) (x_lastResult := x_lastResult) (x_lastUsed := x_lastUsed) (x_lastCalls := x_lastCalls) (x_version := x_version) (y_rest := y_rest) (y_ended := y_ended) (y_answer := y_answer) (y_result := y_result) (y_used := y_used) (y_calls := y_calls) hPG hST hJR hWM hF1 hF2 hMO hFB hSS hS1 hTP hBG hML hEV hVS hMI hBF hlx (Or.inl rfl) eo' htk hcL
        exact fin h1 h2 h3 h4
      · subst e
        obtain ⟨u1, u2, v1, h1, h2, h3, h4⟩ := lk_19 (px := k + t + 1) (x_lastResult := x_lastResult) (x_lastUsed := x_lastUsed) (x_lastCalls := x_lastCalls) (x_version := x_version) (y_rest := y_rest) (y_ended := y_ended) (y_answer := y_answer) (y_result := y_result) (y_used := y_used) (y_calls := y_calls) hPG hST hJR hWM hF1 hF2 hMO hFB hSS hS1 hTP hBG hML hEV hVS hMI hBF hlx (Or.inr rfl) eo' htk hcL
        exact fin h1 h2 h3 h4
  | succ d ih =>
    intro t u v N lx h L htd hR hh hsc hsm
    refine zr_R_el (P := fun u v => ∃ (u1 u2 : SX) (v1 : SY), (∀ post : SX → Prop, post u1 → ∃ n, zx_B post (24 * s + k) (l + 1) n (24 * s + k + t) u) ∧ zx_go u1 u2 ∧ zy_go v v1 ∧ zr_Out y_result x_op x_arg ln B N G J0 u2 v1) ?_ hR
    clear hR u v
    intro f J W e r sf gv jn ml kk hh pp x_pending x_warm x_ring x_kept x_version x_lastResult x_lastUsed x_lastCalls x_limit x_length x_blockLength x_blockCost x_blockMost x_blockNeed x_blockRise x_state x_weight x_journalCell x_journalOld x_mailTo x_mailFrom x_mailAmount x_mailArg x_oldCell x_oldValue x_oldCount x_oldDigest x_eventAccount x_eventTag x_eventValue x_frameSelf x_frameCaller x_frameAmount x_frameArg x_frameGiven x_frameLeft x_framePc x_frameSp x_frameJournal x_frameEvents x_frameWarm x_frameRefund x_frameMails x_stack y_ended y_answer y_rest y_used y_calls y_lengths y_now y_copies y_older y_before y_warm y_warmCopies y_eventCopies y_messageCopies y_refundCopies y_events y_messages y_self y_caller y_amounts y_arguments y_given y_left y_at y_tops y_stack hPG hST hJR hWM hF1 hF2 hMO hFB hSS hS1 hTP hBG hML hEV hVS hMI hBF
    obtain ⟨hf, _, hp24, es, ep, el, et, hln, hln24, hL, hh6, hw, eop, ho, hpl, hxl⟩ := zk_un hPG hST hJR hWM hF1 hF2 hMO hFB hSS hS1 hTP hBG hML hEV hVS hMI hBF
    have hHO := k5 h1 hnd hrs t (by omega)
    have eh1 : zb_hs x_op (24 * s + k) (t + 1) = zb_hs x_op (24 * s + k) t - (zc_tk (zb_o x_op (24 * s + k + t)) : Int) + (zc_ad (zb_o x_op (24 * s + k + t)) : Int) := rfl
    have es1 : zb_sc x_op (24 * s + k) (t + 1) = zb_sc x_op (24 * s + k) t + zc_cst (zb_o x_op (24 * s + k + t)) := rfl
    have em1 : zb_sm x_op (24 * s + k) (t + 1) = zb_sm x_op (24 * s + k) t + zc_mx (zb_o x_op (24 * s + k + t)) := rfl
    have esm := zb_scm (op := x_op) (i := 24 * s + k) (t := t + 1) (l - t)
    have emm := zb_smm (op := x_op) (i := 24 * s + k) (t := t + 1) (l - t)
    rw [show t + 1 + (l - t) = l + 1 by omega] at esm emm
    have hcl := k2 t (by omega)
    have eas : 24 * s + (k + t) = 24 * s + k + t := by omega
    obtain ⟨o, eo⟩ : ∃ o, zb_o x_op (24 * s + k + t) = o := ⟨_, rfl⟩
    rw [eh1] at hHO
    rw [eo] at hHO es1 em1 hcl eh1
    have eo' : zb_o x_op (24 * s + (k + t)) = o := by rw [eas]; exact eo
    rw [eo'] at eop ho
    obtain ⟨hpn, n22⟩ := zc_cl0 ho hcl
    have hcc := zc_cc_le o (x_warm.toBitVec.getLsbD (4 * s + zq_q (x_arg (24 * s + (k + t)))))
    have hcp := zc_pos ho (x_warm.toBitVec.getLsbD (4 * s + zq_q (x_arg (24 * s + (k + t)))))
    have hN1 : 2 ≤ N ∨ L = 0 := by obtain ⟨b1, b2, _⟩ := hBG; omega
    have htk : zc_tk o ≤ h := by omega
    have had : h - zc_tk o + zc_ad o ≤ 6 := by omega
    have eop' : x_op (24 * s + k + t) = nI o := by rw [← eas]; exact eop
    obtain ⟨u', v', hR, hX, hY⟩ := lk_x (N' := N - 1) (lx := lx) (px := k + l + 1) (x_lastResult := x_lastResult) (x_lastUsed := x_lastUsed) (x_lastCalls := x_lastCalls) (x_version := x_version) (y_rest := y_rest) (y_ended := y_ended) (y_answer := y_answer) (y_result := y_result) (y_used := y_used) (y_calls := y_calls) hPG hST hJR hWM hF1 hF2 hMO hFB hSS hS1 hTP hBG hML hEV hVS hMI hBF (by omega) (by omega : k + t + 1 < ln s) ho eo' hpn htk had (by omega) (by omega) (fun e => absurd e n22)
    obtain ⟨u1, u2, v1, i1, i2, i3, i4⟩ := ih (t + 1) u' v' (N - 1) _ _ _ (by omega) hR (by omega) (by omega) (by omega)
    refine ⟨u1, u2, v1, fun post hp => ?_, i2, zy_tr (zy_st hf hY) i3, zr_Out_mono i4 (by omega)⟩
    obtain ⟨n, hn⟩ := i1 post hp
    refine ⟨n + 1, ?_⟩
    rw [eas] at hX
    exact xw_adP (by omega) (by omega) eop' hX hn
/-- one advance -/
theorem zk_adv {y_result : Int32} {x_op x_arg : Nat → Int32} {ln : Nat → Nat} {B : Nat → Int32} {N G J0 s p h L : Nat} {u : SX} {v : SY} (hR : zr_R y_result x_op x_arg ln B N G J0 L p s p h L u v) : ∃ (u' : SX) (v' : SY), zx_go u u' ∧ zy_go v v' ∧ zr_Out y_result x_op x_arg ln B N G J0 u' v' := by
  refine zr_R_el (P := fun u v => ∃ (u' : SX) (v' : SY), zx_go u u' ∧ zy_go v v' ∧ zr_Out y_result x_op x_arg ln B N G J0 u' v') ?_ hR
  clear hR u v
  intro f J W e r sf gv jn ml kk hh pp x_pending x_warm x_ring x_kept x_version x_lastResult x_lastUsed x_lastCalls x_limit x_length x_blockLength x_blockCost x_blockMost x_blockNeed x_blockRise x_state x_weight x_journalCell x_journalOld x_mailTo x_mailFrom x_mailAmount x_mailArg x_oldCell x_oldValue x_oldCount x_oldDigest x_eventAccount x_eventTag x_eventValue x_frameSelf x_frameCaller x_frameAmount x_frameArg x_frameGiven x_frameLeft x_framePc x_frameSp x_frameJournal x_frameEvents x_frameWarm x_frameRefund x_frameMails x_stack y_ended y_answer y_rest y_used y_calls y_lengths y_now y_copies y_older y_before y_warm y_warmCopies y_eventCopies y_messageCopies y_refundCopies y_events y_messages y_self y_caller y_amounts y_arguments y_given y_left y_at y_tops y_stack hPG hST hJR hWM hF1 hF2 hMO hFB hSS hS1 hTP hBG hML hEV hVS hMI hBF
  obtain ⟨hf, hs, hp24, es, ep, el, et, hln, hln24, hL, hh6, hw, eop, ho, hpl, hxl⟩ := zk_un hPG hST hJR hWM hF1 hF2 hMO hFB hSS hS1 hTP hBG hML hEV hVS hMI hBF
  obtain ⟨s1, s2, w1, hS1', hgo, hO, hYs⟩ := lk_slow (lx := L) (px := p) (x_lastResult := x_lastResult) (x_lastUsed := x_lastUsed) (x_lastCalls := x_lastCalls) (x_version := x_version) (y_rest := y_rest) (y_ended := y_ended) (y_answer := y_answer) (y_result := y_result) (y_used := y_used) (y_calls := y_calls) hPG hST hJR hWM hF1 hF2 hMO hFB hSS hS1 hTP hBG hML hEV hVS hMI hBF rfl rfl
  have slow : ∃ (u' : SX) (v' : SY), (∀ post : SX → Prop, post s1 → wpX_slow post (x_limit, x_pending, zs_H x_state 30, nI J, x_warm, nI r, nI W, x_ring, x_kept, x_version, nI e, nI (f + 1), nI s, nI L, nI p, nI (7 * f + h), nI (7 * f), -1, x_lastResult, x_lastUsed, x_lastCalls, x_op, x_arg, x_length, x_blockLength, x_blockCost, x_blockMost, x_blockNeed, x_blockRise, x_state, x_weight, x_journalCell, x_journalOld, x_mailTo, x_mailFrom, x_mailAmount, x_mailArg, x_oldCell, x_oldValue, x_oldCount, x_oldDigest, x_eventAccount, x_eventTag, x_eventValue, x_frameSelf, x_frameCaller, x_frameAmount, x_frameArg, x_frameGiven, x_frameLeft, x_framePc, x_frameSp, x_frameJournal, x_frameEvents, x_frameWarm, x_frameRefund, x_frameMails, x_stack) (nI (24 * s + p))) := ⟨s1, w1, hS1'⟩
  rcases hPG.2.2 s hs p hpl with hz | ⟨l, c, m, nd, rs, l0, l24, c4, m4, n1, r1, eb, ec, em, en, er, hK⟩
  · exact ⟨s2, w1, zx_tr (zx_st fun post hp => xw_advS0 hs hp24 hxl (by omega) hln24 hz (hS1' post hp)) hgo, zy_st hf hYs, hO⟩
  · by_cases hfa : m ≤ L ∧ nd ≤ h ∧ h + rs ≤ 6
    · obtain ⟨l, rfl⟩ : ∃ l', l = l' + 1 := ⟨l - 1, by omega⟩
      obtain ⟨k1, k2, k3, k4, k5, k6, k7⟩ := id hK
      have hR2 : zr_R y_result x_op x_arg ln B N G J0 (L - c) (p + l + 1) s (p + 0) h L (x_limit, x_pending, zs_H x_state 30, nI J, x_warm, nI r, nI W, x_ring, x_kept, x_version, nI e, nI (f + 1), nI s, nI (L - c), nI (p + l + 1), nI (7 * f + h), nI (7 * f), -1, x_lastResult, x_lastUsed, x_lastCalls, x_op, x_arg, x_length, x_blockLength, x_blockCost, x_blockMost, x_blockNeed, x_blockRise, x_state, x_weight, x_journalCell, x_journalOld, x_mailTo, x_mailFrom, x_mailAmount, x_mailArg, x_oldCell, x_oldValue, x_oldCount, x_oldDigest, x_eventAccount, x_eventTag, x_eventValue, x_frameSelf, x_frameCaller, x_frameAmount, x_frameArg, x_frameGiven, x_frameLeft, x_framePc, x_frameSp, x_frameJournal, x_frameEvents, x_frameWarm, x_frameRefund, x_frameMails, x_stack) (x_limit, nI e, nI W, nI r, nI (f + 1), y_ended, y_answer, y_rest, x_lastCalls, y_result, y_used, y_calls, x_version, x_kept, x_op, x_arg, y_lengths, y_now, y_copies, y_older, y_before, y_warm, y_warmCopies, y_eventCopies, y_messageCopies, y_refundCopies, y_events, y_messages, y_self, y_caller, y_amounts, y_arguments, y_given, y_left, y_at, y_tops, y_stack) := zr_R_mk (px := p + l + 1) hPG hST hJR hWM hF1 hF2 hMO hFB hSS hS1 hTP hBG hML hEV hVS hMI hBF
      obtain ⟨u1, u2, v1, i1, i2, i3, i4⟩ := zk_fast hs hK hfa.2.1 hfa.2.2 l 0 _ _ N (L - c) h L (by omega) hR2 (by show (h : Int) = (h : Int) + 0; omega) (by show L - c + zb_sc x_op (24 * s + p) (l + 1) = L + 0; omega) (by show zb_sm x_op (24 * s + p) (l + 1) ≤ L - c + 0; omega)
      refine ⟨u2, v1, zx_tr (zx_st fun post hp => ?_) i2, i3, i4⟩
      refine xw_adv hs hp24 hL hh6 hf hxl (by omega) hln24 l0 l24 c4 m4 n1 r1 eb ec em en er (fun z => absurd hfa z) (fun _ => ⟨by omega, ?_⟩)
      exact i1 post hp
    · refine ⟨s2, w1, zx_tr (zx_st fun post hp => ?_) hgo, zy_st hf hYs, hO⟩
      exact xw_adv hs hp24 hL hh6 hf hxl (by omega) hln24 l0 l24 c4 m4 n1 r1 eb ec em en er (fun _ => hS1' post hp) (fun z => absurd z hfa)
theorem zk_run {y_result : Int32} {x_op x_arg : Nat → Int32} {ln : Nat → Nat} {B : Nat → Int32} {G J0 : Nat} : ∀ (N : Nat) (u : SX) (v : SY), zr_Out y_result x_op x_arg ln B N G J0 u v → ∃ (u' : SX) (v' : SY) (st N' : Nat), N' ≤ N ∧ zx_go u u' ∧ zy_go v v' ∧ zr_D y_result x_op x_arg ln B N' G J0 st u' v' := by
  intro N
  induction N with
  | zero =>
    intro u v h
    rcases h with ⟨N', s, p, h, L, hl, hR⟩ | ⟨st, N', hl, hD⟩
    · omega
    · exact ⟨u, v, st, N', hl, zx_rf u, zy_rf v, hD⟩
  | succ N ih =>
    intro u v h
    rcases h with ⟨N', s, p, h, L, hl, hR⟩ | ⟨st, N', hl, hD⟩
    · obtain ⟨u1, v1, g1, g2, hO⟩ := zk_adv hR
      obtain ⟨u2, v2, st, N'', hN'', j1, j2, hD⟩ := ih u1 v1 (zr_Out_mono hO (by omega))
      exact ⟨u2, v2, st, N'', by omega, zx_tr g1 j1, zy_tr g2 j2, hD⟩
    · exact ⟨u, v, st, N', hl, zx_rf u, zy_rf v, hD⟩
end
section
/-! a call from outside or of a message begins at depth 0 and runs to its end -/

section
variable {x_limit x_pending x_journal x_refund x_mails x_ring x_kept x_version x_events x_depth x_self x_left x_pc x_sp x_base x_lastStatus x_lastResult x_lastUsed x_lastCalls : Int32} {x_digest x_warm : Int64} {x_op x_arg x_length x_blockLength x_blockCost x_blockMost x_blockNeed x_blockRise x_state x_journalCell x_journalOld x_mailTo x_mailFrom x_mailAmount x_mailArg x_oldCell x_oldValue x_oldCount x_eventAccount x_eventTag x_eventValue x_frameSelf x_frameCaller x_frameAmount x_frameArg x_frameGiven x_frameLeft x_framePc x_frameSp x_frameJournal x_frameEvents x_frameRefund x_frameMails x_stack : Nat → Int32} {x_weight x_oldDigest x_frameWarm : Nat → Int64}
variable {y_limit y_eventCount y_waiting y_refund y_depth y_ended y_answer y_rest y_begun y_result y_used y_calls y_version y_kept : Int32} {y_ops y_bs y_lengths y_now y_copies y_older y_before y_warm y_warmCopies y_eventCopies y_messageCopies y_refundCopies y_events y_messages y_self y_caller y_amounts y_arguments y_given y_left y_at y_tops y_stack : Nat → Int32}
variable {N G J0 lx px s p h L f J W e r : Nat} {ln sf gv jn ml kk hh pp : Nat → Nat} {B : Nat → Int32}
theorem zy_dn {st : Nat} {u : SX} {v : SY} {post : SY → Prop} (hD : zr_D y_result x_op x_arg ln B N G J0 st u v) (hp : post v) : zy_F post 1 v := by
  revert hp
  refine zr_D_el (P := fun u v => post v → zy_F post 1 v) ?_ hD
  intros
  exact br_t (by decide) (br_t rfl (by assumption))
theorem zx_dn {st : Nat} {u : SX} {v : SY} {post : Int32 → SX → Prop} (hD : zr_D y_result x_op x_arg ln B N G J0 st u v) (hp : post (nI st) u) : zx_F post 1 u := by
  revert hp
  refine zr_D_el (P := fun u v => post (nI st) u → zx_F post 1 u) ?_ hD
  intro J W e r L x_pending x_warm x_ring x_kept x_version x_self x_left x_pc x_sp x_base x_lastResult x_lastCalls x_limit x_length x_blockLength x_blockCost x_blockMost x_blockNeed x_blockRise x_state x_weight x_journalCell x_journalOld x_mailTo x_mailFrom x_mailAmount x_mailArg x_oldCell x_oldValue x_oldCount x_oldDigest x_eventAccount x_eventTag x_eventValue x_frameSelf x_frameCaller x_frameAmount x_frameArg x_frameGiven x_frameLeft x_framePc x_frameSp x_frameJournal x_frameEvents x_frameWarm x_frameRefund x_frameMails x_stack y_used y_calls y_lengths y_now y_copies y_older y_before y_warm y_warmCopies y_eventCopies y_messageCopies y_refundCopies y_events y_messages y_self y_caller y_amounts y_arguments y_given y_left y_at y_tops y_stack hPG hST hJR hWM hBD hML hEV hVS hMI hBF hp

  obtain ⟨_, _, _, _, _, _, h3, _⟩ := hBD
  exact br_t (nI_pos' (by omega)) hp
theorem zk_B {a en eo : Nat} {cl am ar : Int32} {F : Nat → Int32} (hPG : zr_PG ln x_op x_arg x_length x_blockLength x_blockCost x_blockMost x_blockNeed x_blockRise y_lengths) (hST : zr_ST x_state x_weight y_now) (hJR : zr_JR J x_journalCell x_journalOld x_state B (fun _ => 0) 0 y_copies) (hWM : zr_WM x_warm y_warm) (hML : zr_ML x_mailTo x_mailFrom x_mailAmount x_mailArg y_messages) (hEV : zr_EV e x_eventAccount x_eventTag x_eventValue y_events) (hVS : zr_VS B x_ring x_kept x_oldCell x_oldValue x_oldCount x_oldDigest y_older) (hMI : zr_MI x_limit x_pending (y_lengths 6)) (hBF : zr_BF B y_before) (hP : zl_P x_state a 0 cl am) (ha : a < 6) (heo : eo ≤ 20) (hcl : cl = -1 ∨ ∃ c : Nat, c < 6 ∧ cl = nI c) (hW : W ≤ 6) (hr : r ≤ 4 * J) (hb : ∀ J', J' ≤ J + 2 → (cl = -1 → J' = J + 1) → 4 * (J' + 2 * W) + en ≤ 410) (hN : 2 * en + W ≤ N) (hen : en ≤ 400) (hJ : J + 2 ≤ 160) :
    ∃ (S jc jo : Nat → Int32) (J' : Nat) (u' : SX) (v' : SY) (st N' : Nat), N' ≤ N ∧ zr_D y_result x_op x_arg ln B N' en J st u' v' ∧
      (∀ post : Int32 → SX → Prop, post 1 (x_limit, x_pending, zs_H S 30, nI J', x_warm, nI r, nI W, x_ring, x_kept, x_version, nI eo, nI (0 + 1), nI a, (nI en), 0, nI (7 * 0), nI (7 * 0), x_lastStatus, x_lastResult, x_lastUsed, x_lastCalls + 1, x_op, x_arg, x_length, x_blockLength, x_blockCost, x_blockMost, x_blockNeed, x_blockRise, S, x_weight, jc, jo, x_mailTo, x_mailFrom, x_mailAmount, x_mailArg, x_oldCell, x_oldValue, x_oldCount, x_oldDigest, x_eventAccount, x_eventTag, x_eventValue, upd x_frameSelf 0 (nI a), upd x_frameCaller 0 cl, upd x_frameAmount 0 am, upd x_frameArg 0 ar, upd x_frameGiven 0 (nI en), x_frameLeft, x_framePc, x_frameSp, upd x_frameJournal 0 (nI J), upd x_frameEvents 0 (nI eo), vp_updL x_frameWarm 0 x_warm, upd x_frameRefund 0 (nI r), upd x_frameMails 0 (nI W), x_stack) → wX_enter_101 post (nI a) cl am ar (nI en) x_limit x_pending (zs_H x_state 30) (nI J) x_warm (nI r) (nI W) x_ring x_kept x_version (nI eo) (nI 0) x_self x_left x_pc x_sp x_base x_lastStatus x_lastResult x_lastUsed x_lastCalls x_op x_arg x_length x_blockLength x_blockCost x_blockMost x_blockNeed x_blockRise x_state x_weight x_journalCell x_journalOld x_mailTo x_mailFrom x_mailAmount x_mailArg x_oldCell x_oldValue x_oldCount x_oldDigest x_eventAccount x_eventTag x_eventValue x_frameSelf x_frameCaller x_frameAmount x_frameArg x_frameGiven x_frameLeft x_framePc x_frameSp x_frameJournal x_frameEvents x_frameWarm x_frameRefund x_frameMails x_stack) ∧ zx_go (x_limit, x_pending, zs_H S 30, nI J', x_warm, nI r, nI W, x_ring, x_kept, x_version, nI e, nI (0 + 1), nI a, (nI en), 0, nI (7 * 0), nI (7 * 0), -1, x_lastResult, x_lastUsed, x_lastCalls + 1, x_op, x_arg, x_length, x_blockLength, x_blockCost, x_blockMost, x_blockNeed, x_blockRise, S, x_weight, jc, jo, x_mailTo, x_mailFrom, x_mailAmount, x_mailArg, x_oldCell, x_oldValue, x_oldCount, x_oldDigest, x_eventAccount, x_eventTag, x_eventValue, upd x_frameSelf 0 (nI a), upd x_frameCaller 0 cl, upd x_frameAmount 0 am, upd x_frameArg 0 ar, upd x_frameGiven 0 (nI en), x_frameLeft, x_framePc, x_frameSp, upd x_frameJournal 0 (nI J), upd F 0 (nI e), vp_updL x_frameWarm 0 x_warm, upd x_frameRefund 0 (nI r), upd x_frameMails 0 (nI W), x_stack) u' ∧
      (∀ post : SY → Prop, post v' → wpY_perform post (x_limit, nI e, nI W, nI r, y_depth, y_ended, y_answer, y_rest, x_lastCalls, y_result, y_used, y_calls, x_version, x_kept, x_op, x_arg, y_lengths, y_now, y_copies, y_older, y_before, y_warm, y_warmCopies, y_eventCopies, y_messageCopies, y_refundCopies, y_events, y_messages, y_self, y_caller, y_amounts, y_arguments, y_given, y_left, y_at, y_tops, y_stack) (nI a) am ar cl (nI en)) := by
  obtain ⟨la24, xla, yla⟩ := hPG.2.1 a ha
  obtain ⟨S, jc, jo, nw, J', kST, kJR, kJ1, kJ2, kJ3, kX, kYe, kYn⟩ := zl_enter (d := 0) (l := ln a) (J := J) (e := eo) (r := r) (W := W) (B := B) (cl := cl) (am := am) (ar := ar) (en := nI en) (x_limit := x_limit) (x_pending := x_pending) (x_warm := x_warm) (x_ring := x_ring) (x_kept := x_kept) (x_version := x_version) (x_self := x_self) (x_left := x_left) (x_pc := x_pc) (x_sp := x_sp) (x_base := x_base) (x_lastStatus := x_lastStatus) (x_lastResult := x_lastResult) (x_lastUsed := x_lastUsed) (x_lastCalls := x_lastCalls) (x_op := x_op) (x_arg := x_arg) (x_length := x_length) (x_blockLength := x_blockLength) (x_blockCost := x_blockCost) (x_blockMost := x_blockMost) (x_blockNeed := x_blockNeed) (x_blockRise := x_blockRise) (x_state := x_state) (x_weight := x_weight) (x_journalCell := x_journalCell) (x_journalOld := x_journalOld) (x_mailTo := x_mailTo) (x_mailFrom := x_mailFrom) (x_mailAmount := x_mailAmount) (x_mailArg := x_mailArg) (x_oldCell := x_oldCell) (x_oldValue := x_oldValue) (x_oldCount := x_oldCount) (x_oldDigest := x_oldDigest) (x_eventAccount := x_eventAccount) (x_eventTag := x_eventTag) (x_eventValue := x_eventValue) (x_frameSelf := x_frameSelf) (x_frameCaller := x_frameCaller) (x_frameAmount := x_frameAmount) (x_frameArg := x_frameArg) (x_frameGiven := x_frameGiven) (x_frameLeft := x_frameLeft) (x_framePc := x_framePc) (x_frameSp := x_frameSp) (x_frameJournal := x_frameJournal) (x_frameEvents := x_frameEvents) (x_frameWarm := x_frameWarm) (x_frameRefund := x_frameRefund) (x_frameMails := x_frameMails) (x_stack := x_stack) (y_limit := x_limit) (y_eventCount := nI e) (y_waiting := nI W) (y_refund := nI r) (y_ended := y_ended) (y_answer := y_answer) (y_rest := y_rest) (y_begun := x_lastCalls) (y_result := y_result) (y_used := y_used) (y_calls := y_calls) (y_version := x_version) (y_kept := x_kept) (y_lengths := y_lengths) (y_now := y_now) (y_copies := y_copies) (y_older := y_older) (y_before := y_before) (y_warm := y_warm) (y_warmCopies := y_warmCopies) (y_eventCopies := y_eventCopies) (y_messageCopies := y_messageCopies) (y_refundCopies := y_refundCopies) (y_events := y_events) (y_messages := y_messages) (y_self := y_self) (y_caller := y_caller) (y_amounts := y_amounts) (y_arguments := y_arguments) (y_given := y_given) (y_left := y_left) (y_at := y_at) (y_tops := y_tops) (y_stack := y_stack) hST hP ha (by omega) hJ heo (by omega) hW hcl yla la24 (zl_WM01 hWM)
  have hb' := hb J' kJ2 kJ3
  by_cases l0 : ln a = 0
  · have hD : zr_D y_result x_op x_arg ln B N en J 0 (x_limit, x_pending, zs_H S 30, nI J', x_warm, nI r, nI W, x_ring, x_kept, x_version, nI e, 0, nI a, (nI en), 0, nI (7 * 0), nI (7 * 0), nI 0, 0, nI (en - en), x_lastCalls + 1, x_op, x_arg, x_length, x_blockLength, x_blockCost, x_blockMost, x_blockNeed, x_blockRise, S, x_weight, jc, jo, x_mailTo, x_mailFrom, x_mailAmount, x_mailArg, x_oldCell, x_oldValue, x_oldCount, x_oldDigest, x_eventAccount, x_eventTag, x_eventValue, upd x_frameSelf 0 (nI a), upd x_frameCaller 0 cl, upd x_frameAmount 0 am, upd x_frameArg 0 ar, upd x_frameGiven 0 (nI en), x_frameLeft, x_framePc, x_frameSp, upd x_frameJournal 0 (nI J), upd F 0 (nI e), vp_updL x_frameWarm 0 x_warm, upd x_frameRefund 0 (nI r), upd x_frameMails 0 (nI W), x_stack) (x_limit, nI e, nI W, nI r, 0, nI 0, 0, (nI en), x_lastCalls + 1, y_result, y_used, y_calls, x_version, x_kept, x_op, x_arg, y_lengths, nw, y_copies, y_older, y_before, y_warm, y_warmCopies, y_eventCopies, y_messageCopies, y_refundCopies, y_events, y_messages, y_self, y_caller, y_amounts, y_arguments, y_given, y_left, y_at, y_tops, y_stack) := by
      refine zr_D_mk hPG kST (kJR _ _ _ hJR) hWM ⟨by omega, by omega, Nat.le_refl _, hen, hW, by omega, by omega, fun n => absurd rfl n⟩ hML hEV hVS hMI hBF
    refine ⟨S, jc, jo, J', _, _, 0, N, Nat.le_refl _, hD, kX, ?_, fun post hp => ?_⟩
    · refine xw_empty (f := 0) (en := 0) ha (by rw [xla, l0]; rfl) fun post hp => ?_
      refine xw_finish (st := 0) (f := 0) (by omega) (by omega) (fun z => absurd z (by omega)) (fun _ => br_t rfl ?_)
      refine xw_f72z ?_
      rw [pk_us, pk_sub (Nat.le_refl en)]
      exact hp
    · unfold wpY_perform
      dsimp only
      refine kYe _ l0 ?_
      exact ⟨1, br_t rfl hp⟩
  · have hR : zr_R y_result x_op x_arg ln B N en J en 0 a 0 0 en (x_limit, x_pending, zs_H S 30, nI J', x_warm, nI r, nI W, x_ring, x_kept, x_version, nI e, nI (0 + 1), nI a, (nI en), 0, nI (7 * 0), nI (7 * 0), -1, x_lastResult, x_lastUsed, x_lastCalls + 1, x_op, x_arg, x_length, x_blockLength, x_blockCost, x_blockMost, x_blockNeed, x_blockRise, S, x_weight, jc, jo, x_mailTo, x_mailFrom, x_mailAmount, x_mailArg, x_oldCell, x_oldValue, x_oldCount, x_oldDigest, x_eventAccount, x_eventTag, x_eventValue, upd x_frameSelf 0 (nI a), upd x_frameCaller 0 cl, upd x_frameAmount 0 am, upd x_frameArg 0 ar, upd x_frameGiven 0 (nI en), x_frameLeft, x_framePc, x_frameSp, upd x_frameJournal 0 (nI J), upd F 0 (nI e), vp_updL x_frameWarm 0 x_warm, upd x_frameRefund 0 (nI r), upd x_frameMails 0 (nI W), x_stack) (x_limit, nI e, nI W, nI r, nI (0 + 1), 0, 0, (nI en), x_lastCalls + 1, y_result, y_used, y_calls, x_version, x_kept, x_op, x_arg, y_lengths, nw, zy_p y_copies y_now (30 * 0) 30, y_older, y_before, y_warm, zy_p y_warmCopies y_warm (24 * 0) 24, upd y_eventCopies 0 (nI e), upd y_messageCopies 0 (nI W), upd y_refundCopies 0 (nI r), y_events, y_messages, upd y_self 0 (nI a), upd y_caller 0 cl, upd y_amounts 0 am, upd y_arguments 0 ar, upd y_given 0 (nI en), upd y_left 0 (nI en), upd y_at 0 0, upd y_tops 0 0, y_stack) := by
      have f1 : zr_F1 0 (fun _ => 0) (fun _ => 0) x_frameSelf y_self x_frameCaller y_caller x_frameAmount y_amounts x_frameArg y_arguments x_frameGiven y_given := fun g hg => absurd hg (by omega)
      have f2 : zr_F2 0 (fun _ => 0) (fun _ => 0) F y_eventCopies x_frameMails y_messageCopies x_frameRefund y_refundCopies x_frameJournal x_frameWarm y_warmCopies := fun g hg => absurd hg (by omega)
      have mo : zr_MO 0 (fun _ => 0) W := ⟨fun g hg => absurd hg (by omega), fun i j hi hj => absurd hj (by omega)⟩
      refine zr_R_mk (f := 0) (kk := fun _ => 0) (hh := fun _ => 0) (pp := fun _ => 0) hPG kST (kJR _ _ _ (zl_JRe hJR hST.2.2)) hWM (zl_F1e f1 ha hen) (zl_F2e f2 hEV.1 hr hWM) (zl_MOe mo) (fun g hg => absurd hg (by omega)) (fun g hg => absurd hg (by omega)) ⟨pk_us, by omega, fun j hj => absurd hj (by omega)⟩ ⟨by omega, zm_us, ha, pk_us, pk_us, by omega⟩ ?_ hML hEV hVS hMI hBF
      refine ⟨?_, ?_, ?_, hen, zm_us, zm_us, hW, by omega, ?_⟩
      · show 4 * (J' + 2 * W) + en + 0 + 2 * 0 + 0 + 0 ≤ 410; omega
      · show 2 * (en + 0) + 0 + W ≤ N; omega
      · show en + 0 ≤ en; omega
      · rw [zm_us]; exact Nat.le_refl _
    obtain ⟨u0, v0, g1, g2, hO⟩ := zk_adv hR
    obtain ⟨u', v', st, N', hN', g3, g4, hD⟩ := zk_run N _ _ hO
    refine ⟨S, jc, jo, J', u', v', st, N', hN', hD, kX, zx_tr g1 g3, fun post hp => ?_⟩
    unfold wpY_perform
    dsimp only
    refine kYn _ (by omega) ?_
    obtain ⟨n, hn⟩ := zy_tr g2 g4 post 1 (zy_dn hD hp)
    exact ⟨n, hn.2 (by decide)⟩
end
end
section
/-! messages -/
theorem zl_MLs {to fr am ar msg : Nat → Int32} {n : Nat} (h : zr_ML to fr am ar msg) (hn : n ≤ 5) : zr_ML (zy_c to to 1 n) (zy_c fr fr 1 n) (zy_c am am 1 n) (zy_c ar ar 1 n) (zy_c msg msg 4 (4 * n)) := by
  intro k hk
  unfold zy_c
  by_cases z : k < n
  · rw [if_pos z, if_pos z, if_pos z, if_pos z, if_pos (by omega), if_pos (by omega), if_pos (by omega), if_pos (by omega)]
    have H := h (k + 1) (by omega)
    rw [show 1 + k = k + 1 by omega, show 4 + 4 * k = 4 * (k + 1) by omega, show 4 + (4 * k + 1) = 4 * (k + 1) + 1 by omega, show 4 + (4 * k + 2) = 4 * (k + 1) + 2 by omega, show 4 + (4 * k + 3) = 4 * (k + 1) + 3 by omega]
    exact H
  · rw [if_neg z, if_neg z, if_neg z, if_neg z, if_neg (by omega), if_neg (by omega), if_neg (by omega), if_neg (by omega)]
    exact h k hk
theorem zl_sh {x : Nat → Int32} {n o : Nat} (ho : 0 < o) : zy_c x x o n (n + o) = x (o + n) := by
  unfold zy_c
  rw [if_neg (by omega), Nat.add_comm]
def zx_dl (post : SX → Prop) (lu : Int32) : Int32 → SX → Prop := fun _ u => match u with
  | (x_limit, x_pending, x_digest, x_journal, x_warm, x_refund, x_mails, x_ring, x_kept, x_version, x_events, x_depth, x_self, x_left, x_pc, x_sp, x_base, x_lastStatus, x_lastResult, x_lastUsed, x_lastCalls, x_op, x_arg, x_length, x_blockLength, x_blockCost, x_blockMost, x_blockNeed, x_blockRise, x_state, x_weight, x_journalCell, x_journalOld, x_mailTo, x_mailFrom, x_mailAmount, x_mailArg, x_oldCell, x_oldValue, x_oldCount, x_oldDigest, x_eventAccount, x_eventTag, x_eventValue, x_frameSelf, x_frameCaller, x_frameAmount, x_frameArg, x_frameGiven, x_frameLeft, x_framePc, x_frameSp, x_frameJournal, x_frameEvents, x_frameWarm, x_frameRefund, x_frameMails, x_stack) => ∀ y : Int32, y = x_lastUsed + lu → post (x_limit, x_pending, x_digest, x_journal, x_warm, x_refund, x_mails, x_ring, x_kept, x_version, x_events, x_depth, x_self, x_left, x_pc, x_sp, x_base, x_lastStatus, x_lastResult, y, x_lastCalls, x_op, x_arg, x_length, x_blockLength, x_blockCost, x_blockMost, x_blockNeed, x_blockRise, x_state, x_weight, x_journalCell, x_journalOld, x_mailTo, x_mailFrom, x_mailAmount, x_mailArg, x_oldCell, x_oldValue, x_oldCount, x_oldDigest, x_eventAccount, x_eventTag, x_eventValue, x_frameSelf, x_frameCaller, x_frameAmount, x_frameArg, x_frameGiven, x_frameLeft, x_framePc, x_frameSp, x_frameJournal, x_frameEvents, x_frameWarm, x_frameRefund, x_frameMails, x_stack)
def zr_Q (y_result : Int32) (x_op x_arg : Nat → Int32) (ln : Nat → Nat) (B : Nat → Int32) (N E : Nat) (u : SX) (v : SY) : Prop := ∃ (J W e r L : Nat) (x_pending : Int32) (x_warm : Int64) (x_ring x_kept x_version x_self x_left x_pc x_sp x_base x_lastStatus x_lastResult x_lastCalls x_limit : Int32) (x_length x_blockLength x_blockCost x_blockMost x_blockNeed x_blockRise x_state : Nat → Int32) (x_weight : Nat → Int64) (x_journalCell x_journalOld x_mailTo x_mailFrom x_mailAmount x_mailArg x_oldCell x_oldValue x_oldCount : Nat → Int32) (x_oldDigest : Nat → Int64) (x_eventAccount x_eventTag x_eventValue x_frameSelf x_frameCaller x_frameAmount x_frameArg x_frameGiven x_frameLeft x_framePc x_frameSp x_frameJournal x_frameEvents : Nat → Int32) (x_frameWarm : Nat → Int64) (x_frameRefund x_frameMails x_stack : Nat → Int32) (y_ended y_answer y_used y_calls : Int32) (y_lengths y_now y_copies y_older y_before y_warm y_warmCopies y_eventCopies y_messageCopies y_refundCopies y_events y_messages y_self y_caller y_amounts y_arguments y_given y_left y_at y_tops y_stack : Nat → Int32), u = (x_limit, x_pending, zs_H x_state 30, nI J, x_warm, nI r, nI W, x_ring, x_kept, x_version, nI e, 0, x_self, x_left, x_pc, x_sp, x_base, x_lastStatus, x_lastResult, nI (E - L), x_lastCalls, x_op, x_arg, x_length, x_blockLength, x_blockCost, x_blockMost, x_blockNeed, x_blockRise, x_state, x_weight, x_journalCell, x_journalOld, x_mailTo, x_mailFrom, x_mailAmount, x_mailArg, x_oldCell, x_oldValue, x_oldCount, x_oldDigest, x_eventAccount, x_eventTag, x_eventValue, x_frameSelf, x_frameCaller, x_frameAmount, x_frameArg, x_frameGiven, x_frameLeft, x_framePc, x_frameSp, x_frameJournal, x_frameEvents, x_frameWarm, x_frameRefund, x_frameMails, x_stack) ∧ v = (x_limit, nI e, nI W, nI r, 0, y_ended, y_answer, nI L, x_lastCalls, y_result, y_used, y_calls, x_version, x_kept, x_op, x_arg, y_lengths, y_now, y_copies, y_older, y_before, y_warm, y_warmCopies, y_eventCopies, y_messageCopies, y_refundCopies, y_events, y_messages, y_self, y_caller, y_amounts, y_arguments, y_given, y_left, y_at, y_tops, y_stack) ∧ zr_PG ln x_op x_arg x_length x_blockLength x_blockCost x_blockMost x_blockNeed x_blockRise y_lengths ∧ zr_ST x_state x_weight y_now ∧ zr_JR J x_journalCell x_journalOld x_state B (fun _ => 0) 0 y_copies ∧ zr_WM x_warm y_warm ∧ zr_BD N E 0 J W L r 0 ∧ zr_ML x_mailTo x_mailFrom x_mailAmount x_mailArg y_messages ∧ zr_EV e x_eventAccount x_eventTag x_eventValue y_events ∧ zr_VS B x_ring x_kept x_oldCell x_oldValue x_oldCount x_oldDigest y_older ∧ zr_MI x_limit x_pending (y_lengths 6) ∧ zr_BF B y_before
theorem zr_Q_mk {y_result : Int32} {x_op x_arg : Nat → Int32} {ln : Nat → Nat} {B : Nat → Int32} {N E : Nat} {J W e r L : Nat} {x_pending : Int32} {x_warm : Int64} {x_ring x_kept x_version x_self x_left x_pc x_sp x_base x_lastStatus x_lastResult x_lastCalls x_limit : Int32} {x_length x_blockLength x_blockCost x_blockMost x_blockNeed x_blockRise x_state : Nat → Int32} {x_weight : Nat → Int64} {x_journalCell x_journalOld x_mailTo x_mailFrom x_mailAmount x_mailArg x_oldCell x_oldValue x_oldCount : Nat → Int32} {x_oldDigest : Nat → Int64} {x_eventAccount x_eventTag x_eventValue x_frameSelf x_frameCaller x_frameAmount x_frameArg x_frameGiven x_frameLeft x_framePc x_frameSp x_frameJournal x_frameEvents : Nat → Int32} {x_frameWarm : Nat → Int64} {x_frameRefund x_frameMails x_stack : Nat → Int32} {y_ended y_answer y_used y_calls : Int32} {y_lengths y_now y_copies y_older y_before y_warm y_warmCopies y_eventCopies y_messageCopies y_refundCopies y_events y_messages y_self y_caller y_amounts y_arguments y_given y_left y_at y_tops y_stack : Nat → Int32} (hPG : zr_PG ln x_op x_arg x_length x_blockLength x_blockCost x_blockMost x_blockNeed x_blockRise y_lengths) (hST : zr_ST x_state x_weight y_now) (hJR : zr_JR J x_journalCell x_journalOld x_state B (fun _ => 0) 0 y_copies) (hWM : zr_WM x_warm y_warm) (hBD : zr_BD N E 0 J W L r 0) (hML : zr_ML x_mailTo x_mailFrom x_mailAmount x_mailArg y_messages) (hEV : zr_EV e x_eventAccount x_eventTag x_eventValue y_events) (hVS : zr_VS B x_ring x_kept x_oldCell x_oldValue x_oldCount x_oldDigest y_older) (hMI : zr_MI x_limit x_pending (y_lengths 6)) (hBF : zr_BF B y_before) : zr_Q y_result x_op x_arg ln B N E (x_limit, x_pending, zs_H x_state 30, nI J, x_warm, nI r, nI W, x_ring, x_kept, x_version, nI e, 0, x_self, x_left, x_pc, x_sp, x_base, x_lastStatus, x_lastResult, nI (E - L), x_lastCalls, x_op, x_arg, x_length, x_blockLength, x_blockCost, x_blockMost, x_blockNeed, x_blockRise, x_state, x_weight, x_journalCell, x_journalOld, x_mailTo, x_mailFrom, x_mailAmount, x_mailArg, x_oldCell, x_oldValue, x_oldCount, x_oldDigest, x_eventAccount, x_eventTag, x_eventValue, x_frameSelf, x_frameCaller, x_frameAmount, x_frameArg, x_frameGiven, x_frameLeft, x_framePc, x_frameSp, x_frameJournal, x_frameEvents, x_frameWarm, x_frameRefund, x_frameMails, x_stack) (x_limit, nI e, nI W, nI r, 0, y_ended, y_answer, nI L, x_lastCalls, y_result, y_used, y_calls, x_version, x_kept, x_op, x_arg, y_lengths, y_now, y_copies, y_older, y_before, y_warm, y_warmCopies, y_eventCopies, y_messageCopies, y_refundCopies, y_events, y_messages, y_self, y_caller, y_amounts, y_arguments, y_given, y_left, y_at, y_tops, y_stack) :=
  Exists.intro _ (Exists.intro _ (Exists.intro _ (Exists.intro _ (Exists.intro _ (Exists.intro _ (Exists.intro _ (Exists.intro _ (Exists.intro _ (Exists.intro _ (Exists.intro _ (Exists.intro _ (Exists.intro _ (Exists.intro _ (Exists.intro _ (Exists.intro _ (Exists.intro _ (Exists.intro _ (Exists.intro _ (Exists.intro _ (Exists.intro _ (Exists.intro _ (Exists.intro _ (Exists.intro _ (Exists.intro _ (Exists.intro _ (Exists.intro _ (Exists.intro _ (Exists.intro _ (Exists.intro _ (Exists.intro _ (Exists.intro _ (Exists.intro _ (Exists.intro _ (Exists.intro _ (Exists.intro _ (Exists.intro _ (Exists.intro _ (Exists.intro _ (Exists.intro _ (Exists.intro _ (Exists.intro _ (Exists.intro _ (Exists.intro _ (Exists.intro _ (Exists.intro _ (Exists.intro _ (Exists.intro _ (Exists.intro _ (Exists.intro _ (Exists.intro _ (Exists.intro _ (Exists.intro _ (Exists.intro _ (Exists.intro _ (Exists.intro _ (Exists.intro _ (Exists.intro _ (Exists.intro _ (Exists.intro _ (Exists.intro _ (Exists.intro _ (Exists.intro _ (Exists.intro _ (Exists.intro _ (Exists.intro _ (Exists.intro _ (Exists.intro _ (Exists.intro _ (Exists.intro _ (Exists.intro _ (Exists.intro _ (Exists.intro _ (Exists.intro _ (Exists.intro _ (Exists.intro _ (Exists.intro _ (Exists.intro _ (Exists.intro _ (And.intro rfl (And.intro rfl (And.intro hPG (And.intro hST (And.intro hJR (And.intro hWM (And.intro hBD (And.intro hML (And.intro hEV (And.intro hVS (And.intro hMI hBF)))))))))))))))))))))))))))))))))))))))))))))))))))))))))))))))))))))))))))))))))))))))))
theorem zr_Q_el {P : SX → SY → Prop} {y_result : Int32} {x_op x_arg : Nat → Int32} {ln : Nat → Nat} {B : Nat → Int32} {N E : Nat} {u : SX} {v : SY} (H : ∀ (J W e r L : Nat) (x_pending : Int32) (x_warm : Int64) (x_ring x_kept x_version x_self x_left x_pc x_sp x_base x_lastStatus x_lastResult x_lastCalls x_limit : Int32) (x_length x_blockLength x_blockCost x_blockMost x_blockNeed x_blockRise x_state : Nat → Int32) (x_weight : Nat → Int64) (x_journalCell x_journalOld x_mailTo x_mailFrom x_mailAmount x_mailArg x_oldCell x_oldValue x_oldCount : Nat → Int32) (x_oldDigest : Nat → Int64) (x_eventAccount x_eventTag x_eventValue x_frameSelf x_frameCaller x_frameAmount x_frameArg x_frameGiven x_frameLeft x_framePc x_frameSp x_frameJournal x_frameEvents : Nat → Int32) (x_frameWarm : Nat → Int64) (x_frameRefund x_frameMails x_stack : Nat → Int32) (y_ended y_answer y_used y_calls : Int32) (y_lengths y_now y_copies y_older y_before y_warm y_warmCopies y_eventCopies y_messageCopies y_refundCopies y_events y_messages y_self y_caller y_amounts y_arguments y_given y_left y_at y_tops y_stack : Nat → Int32), zr_PG ln x_op x_arg x_length x_blockLength x_blockCost x_blockMost x_blockNeed x_blockRise y_lengths → zr_ST x_state x_weight y_now → zr_JR J x_journalCell x_journalOld x_state B (fun _ => 0) 0 y_copies → zr_WM x_warm y_warm → zr_BD N E 0 J W L r 0 → zr_ML x_mailTo x_mailFrom x_mailAmount x_mailArg y_messages → zr_EV e x_eventAccount x_eventTag x_eventValue y_events → zr_VS B x_ring x_kept x_oldCell x_oldValue x_oldCount x_oldDigest y_older → zr_MI x_limit x_pending (y_lengths 6) → zr_BF B y_before → P (x_limit, x_pending, zs_H x_state 30, nI J, x_warm, nI r, nI W, x_ring, x_kept, x_version, nI e, 0, x_self, x_left, x_pc, x_sp, x_base, x_lastStatus, x_lastResult, nI (E - L), x_lastCalls, x_op, x_arg, x_length, x_blockLength, x_blockCost, x_blockMost, x_blockNeed, x_blockRise, x_state, x_weight, x_journalCell, x_journalOld, x_mailTo, x_mailFrom, x_mailAmount, x_mailArg, x_oldCell, x_oldValue, x_oldCount, x_oldDigest, x_eventAccount, x_eventTag, x_eventValue, x_frameSelf, x_frameCaller, x_frameAmount, x_frameArg, x_frameGiven, x_frameLeft, x_framePc, x_frameSp, x_frameJournal, x_frameEvents, x_frameWarm, x_frameRefund, x_frameMails, x_stack) (x_limit, nI e, nI W, nI r, 0, y_ended, y_answer, nI L, x_lastCalls, y_result, y_used, y_calls, x_version, x_kept, x_op, x_arg, y_lengths, y_now, y_copies, y_older, y_before, y_warm, y_warmCopies, y_eventCopies, y_messageCopies, y_refundCopies, y_events, y_messages, y_self, y_caller, y_amounts, y_arguments, y_given, y_left, y_at, y_tops, y_stack)) (I : zr_Q y_result x_op x_arg ln B N E u v) : P u v :=
  Exists.elim I fun J I => Exists.elim I fun W I => Exists.elim I fun e I => Exists.elim I fun r I => Exists.elim I fun L I => Exists.elim I fun x_pending I => Exists.elim I fun x_warm I => Exists.elim I fun x_ring I => Exists.elim I fun x_kept I => Exists.elim I fun x_version I => Exists.elim I fun x_self I => Exists.elim I fun x_left I => Exists.elim I fun x_pc I => Exists.elim I fun x_sp I => Exists.elim I fun x_base I => Exists.elim I fun x_lastStatus I => Exists.elim I fun x_lastResult I => Exists.elim I fun x_lastCalls I => Exists.elim I fun x_limit I => Exists.elim I fun x_length I => Exists.elim I fun x_blockLength I => Exists.elim I fun x_blockCost I => Exists.elim I fun x_blockMost I => Exists.elim I fun x_blockNeed I => Exists.elim I fun x_blockRise I => Exists.elim I fun x_state I => Exists.elim I fun x_weight I => Exists.elim I fun x_journalCell I => Exists.elim I fun x_journalOld I => Exists.elim I fun x_mailTo I => Exists.elim I fun x_mailFrom I => Exists.elim I fun x_mailAmount I => Exists.elim I fun x_mailArg I => Exists.elim I fun x_oldCell I => Exists.elim I fun x_oldValue I => Exists.elim I fun x_oldCount I => Exists.elim I fun x_oldDigest I => Exists.elim I fun x_eventAccount I => Exists.elim I fun x_eventTag I => Exists.elim I fun x_eventValue I => Exists.elim I fun x_frameSelf I => Exists.elim I fun x_frameCaller I => Exists.elim I fun x_frameAmount I => Exists.elim I fun x_frameArg I => Exists.elim I fun x_frameGiven I => Exists.elim I fun x_frameLeft I => Exists.elim I fun x_framePc I => Exists.elim I fun x_frameSp I => Exists.elim I fun x_frameJournal I => Exists.elim I fun x_frameEvents I => Exists.elim I fun x_frameWarm I => Exists.elim I fun x_frameRefund I => Exists.elim I fun x_frameMails I => Exists.elim I fun x_stack I => Exists.elim I fun y_ended I => Exists.elim I fun y_answer I => Exists.elim I fun y_used I => Exists.elim I fun y_calls I => Exists.elim I fun y_lengths I => Exists.elim I fun y_now I => Exists.elim I fun y_copies I => Exists.elim I fun y_older I => Exists.elim I fun y_before I => Exists.elim I fun y_warm I => Exists.elim I fun y_warmCopies I => Exists.elim I fun y_eventCopies I => Exists.elim I fun y_messageCopies I => Exists.elim I fun y_refundCopies I => Exists.elim I fun y_events I => Exists.elim I fun y_messages I => Exists.elim I fun y_self I => Exists.elim I fun y_caller I => Exists.elim I fun y_amounts I => Exists.elim I fun y_arguments I => Exists.elim I fun y_given I => Exists.elim I fun y_left I => Exists.elim I fun y_at I => Exists.elim I fun y_tops I => Exists.elim I fun y_stack I => by
    obtain ⟨hu, hv, hPG, hST, hJR, hWM, hBD, hML, hEV, hVS, hMI, hBF⟩ := I
    subst hu; subst hv
    exact H J W e r L x_pending x_warm x_ring x_kept x_version x_self x_left x_pc x_sp x_base x_lastStatus x_lastResult x_lastCalls x_limit x_length x_blockLength x_blockCost x_blockMost x_blockNeed x_blockRise x_state x_weight x_journalCell x_journalOld x_mailTo x_mailFrom x_mailAmount x_mailArg x_oldCell x_oldValue x_oldCount x_oldDigest x_eventAccount x_eventTag x_eventValue x_frameSelf x_frameCaller x_frameAmount x_frameArg x_frameGiven x_frameLeft x_framePc x_frameSp x_frameJournal x_frameEvents x_frameWarm x_frameRefund x_frameMails x_stack y_ended y_answer y_used y_calls y_lengths y_now y_copies y_older y_before y_warm y_warmCopies y_eventCopies y_messageCopies y_refundCopies y_events y_messages y_self y_caller y_amounts y_arguments y_given y_left y_at y_tops y_stack hPG hST hJR hWM hBD hML hEV hVS hMI hBF

section
variable {x_limit x_pending x_journal x_refund x_mails x_ring x_kept x_version x_events x_depth x_self x_left x_pc x_sp x_base x_lastStatus x_lastResult x_lastUsed x_lastCalls : Int32} {x_digest x_warm : Int64} {x_op x_arg x_length x_blockLength x_blockCost x_blockMost x_blockNeed x_blockRise x_state x_journalCell x_journalOld x_mailTo x_mailFrom x_mailAmount x_mailArg x_oldCell x_oldValue x_oldCount x_eventAccount x_eventTag x_eventValue x_frameSelf x_frameCaller x_frameAmount x_frameArg x_frameGiven x_frameLeft x_framePc x_frameSp x_frameJournal x_frameEvents x_frameRefund x_frameMails x_stack : Nat → Int32} {x_weight x_oldDigest x_frameWarm : Nat → Int64}
variable {y_limit y_eventCount y_waiting y_refund y_depth y_ended y_answer y_rest y_begun y_result y_used y_calls y_version y_kept : Int32} {y_ops y_bs y_lengths y_now y_copies y_older y_before y_warm y_warmCopies y_eventCopies y_messageCopies y_refundCopies y_events y_messages y_self y_caller y_amounts y_arguments y_given y_left y_at y_tops y_stack : Nat → Int32}
variable {N G J0 lx px s p h L f J W e r : Nat} {ln sf gv jn ml kk hh pp : Nat → Nat} {B : Nat → Int32}
theorem xw_d43 {post : SX → Prop} {x1 x2 x3 x4 x5 : Int32} {w : Nat} (hw : w ≤ 5) (hML : zr_ML x_mailTo x_mailFrom x_mailAmount x_mailArg y_messages) (hp : wpX_enter (fun r u => (r = 0 → post u) ∧ (¬ r = 0 → wpX_finishAll (zx_dl post x_lastUsed) u)) (x_limit, x_pending, x_digest, x_journal, x_warm, x_refund, nI w, x_ring, x_kept, x_version, x_events, x_depth, x_self, x_left, x_pc, x_sp, x_base, x_lastStatus, x_lastResult, x_lastUsed, x_lastCalls, x_op, x_arg, x_length, x_blockLength, x_blockCost, x_blockMost, x_blockNeed, x_blockRise, x_state, x_weight, x_journalCell, x_journalOld, zy_c x_mailTo x_mailTo 1 w, zy_c x_mailFrom x_mailFrom 1 w, zy_c x_mailAmount x_mailAmount 1 w, zy_c x_mailArg x_mailArg 1 w, x_oldCell, x_oldValue, x_oldCount, x_oldDigest, x_eventAccount, x_eventTag, x_eventValue, x_frameSelf, x_frameCaller, x_frameAmount, x_frameArg, x_frameGiven, x_frameLeft, x_framePc, x_frameSp, x_frameJournal, x_frameEvents, x_frameWarm, x_frameRefund, x_frameMails, x_stack) x2 x3 x4 x5 (x1 - x_lastUsed)) : ∀ k i, i + k = w → wX_deliver_43 post x1 x2 x3 x4 x5 x_limit x_pending x_digest x_journal x_warm x_refund (nI w) x_ring x_kept x_version x_events x_depth x_self x_left x_pc x_sp x_base x_lastStatus x_lastResult x_lastUsed x_lastCalls (k + 1) (nI i) x_op x_arg x_length x_blockLength x_blockCost x_blockMost x_blockNeed x_blockRise x_state x_weight x_journalCell x_journalOld (zy_c x_mailTo x_mailTo 1 i) (zy_c x_mailFrom x_mailFrom 1 i) (zy_c x_mailAmount x_mailAmount 1 i) (zy_c x_mailArg x_mailArg 1 i) x_oldCell x_oldValue x_oldCount x_oldDigest x_eventAccount x_eventTag x_eventValue x_frameSelf x_frameCaller x_frameAmount x_frameArg x_frameGiven x_frameLeft x_framePc x_frameSp x_frameJournal x_frameEvents x_frameWarm x_frameRefund x_frameMails x_stack := by
  intro k
  induction k with
  | zero =>
    intro i hk
    have e : i = w := by omega
    subst e
    exact br_t (nI_le (Nat.le_refl _) (by omega)) hp
  | succ k ih =>
    intro i hk
    obtain ⟨⟨a, ha, ea, _⟩, _, _, ⟨b, hb, eb, _⟩⟩ := hML (i + 1) (by omega)
    have h1 : vp_in (nI (i + 1)) 6 := vp_in_nI (by omega) (by omega)
    have h0 : vp_in (nI i) 6 := vp_in_nI (by omega) (by omega)
    refine br_f (nI_ge (by omega) (by omega)) ?_
    rw [nI_1, nI_clamp (by omega : i + 1 < 2 ^ 31), nI_clamp (by omega : i < 2 ^ 31), zl_sh (by omega), zl_sh (by omega), zl_sh (by omega), zl_sh (by omega)]
    have ea' : x_mailTo (1 + i) = nI a := by rw [Nat.add_comm]; exact ea
    have eb' : x_mailFrom (1 + i) = nI b := by rw [Nat.add_comm]; exact eb
    have n1 : vp_nar .byte (x_mailTo (1 + i)) = x_mailTo (1 + i) := by rw [ea']; exact zn_nb (by omega)
    have n2 : vp_nar .byte (x_mailFrom (1 + i)) = x_mailFrom (1 + i) := by rw [eb']; exact zn_nb (by omega)
    rw [n1, n2, zy_cS, zy_cS, zy_cS, zy_cS]
    exact ⟨h1, h0, nm_e ⟨h1, h0, nm_e ⟨h1, h0, nm_e ⟨h1, h0, nm_e (nm_e (ih (i + 1) (by omega)))⟩⟩⟩⟩
theorem yw_m42 {post : SY → Prop} {x1 x2 x3 x4 : Int32} {w : Nat} (hw : w ≤ 5) (hp : wpY_perform post (y_limit, y_eventCount, nI w, y_refund, y_depth, y_ended, y_answer, y_rest, y_begun, y_result, y_used, y_calls, y_version, y_kept, x_op, x_arg, y_lengths, y_now, y_copies, y_older, y_before, y_warm, y_warmCopies, y_eventCopies, y_messageCopies, y_refundCopies, y_events, zy_c y_messages y_messages 4 (4 * w), y_self, y_caller, y_amounts, y_arguments, y_given, y_left, y_at, y_tops, y_stack) x1 x2 x3 x4 y_rest) : ∀ k i, i + k = 4 * w → wY_message_42 post x1 x2 x3 x4 y_limit y_eventCount (nI w) y_refund y_depth y_ended y_answer y_rest y_begun y_result y_used y_calls y_version y_kept (k + 1) (nI i) x_op x_arg y_lengths y_now y_copies y_older y_before y_warm y_warmCopies y_eventCopies y_messageCopies y_refundCopies y_events (zy_c y_messages y_messages 4 i) y_self y_caller y_amounts y_arguments y_given y_left y_at y_tops y_stack := by
  have e4 : (4 : Int32) * nI w = nI (4 * w) := pk_mul 4 w
  intro k
  induction k with
  | zero =>
    intro i hk
    have e : i = 4 * w := by omega
    subst e
    exact br_t (by rw [e4]; exact nI_le (Nat.le_refl _) (by omega)) hp
  | succ k ih =>
    intro i hk
    have e44 : nI i + 4 = nI (i + 4) := nI_add i 4
    refine br_f (by rw [e4]; exact nI_ge (by omega) (by omega)) ?_
    rw [e44, nI_clamp (by omega : i + 4 < 2 ^ 31), nI_clamp (by omega : i < 2 ^ 31), zl_sh (by omega), zy_cS]
    exact ⟨vp_in_nI (by omega) (by omega), vp_in_nI (by omega) (by omega), nm_e (nm_r (nI_1 i) (ih (i + 1) (by omega)))⟩
theorem zk_DQ {E st : Nat} {u0 : SX} {v0 : SY} (hD : zr_D y_result x_op x_arg ln B N G J0 st u0 v0) (hGE : G ≤ E) (hE : E ≤ 400) : ∃ u' : SX, zr_Q y_result x_op x_arg ln B N E u' v0 ∧ ∀ post : SX → Prop, post u' → zx_dl post (nI (E - G)) (nI st) u0 := by
  refine zr_D_el (P := fun u0 v0 => ∃ u' : SX, zr_Q y_result x_op x_arg ln B N E u' v0 ∧ ∀ post : SX → Prop, post u' → zx_dl post (nI (E - G)) (nI st) u0) ?_ hD
  intro J W e r L x_pending x_warm x_ring x_kept x_version x_self x_left x_pc x_sp x_base x_lastResult x_lastCalls x_limit x_length x_blockLength x_blockCost x_blockMost x_blockNeed x_blockRise x_state x_weight x_journalCell x_journalOld x_mailTo x_mailFrom x_mailAmount x_mailArg x_oldCell x_oldValue x_oldCount x_oldDigest x_eventAccount x_eventTag x_eventValue x_frameSelf x_frameCaller x_frameAmount x_frameArg x_frameGiven x_frameLeft x_framePc x_frameSp x_frameJournal x_frameEvents x_frameWarm x_frameRefund x_frameMails x_stack y_used y_calls y_lengths y_now y_copies y_older y_before y_warm y_warmCopies y_eventCopies y_messageCopies y_refundCopies y_events y_messages y_self y_caller y_amounts y_arguments y_given y_left y_at y_tops y_stack hPG hST hJR hWM hBD hML hEV hVS hMI hBF
  obtain ⟨d1, d2, d3, d4, d5, d6, d7, d8⟩ := hBD
  refine ⟨(x_limit, x_pending, zs_H x_state 30, nI J, x_warm, nI r, nI W, x_ring, x_kept, x_version, nI e, 0, x_self, x_left, x_pc, x_sp, x_base, nI st, x_lastResult, nI (E - L), x_lastCalls, x_op, x_arg, x_length, x_blockLength, x_blockCost, x_blockMost, x_blockNeed, x_blockRise, x_state, x_weight, x_journalCell, x_journalOld, x_mailTo, x_mailFrom, x_mailAmount, x_mailArg, x_oldCell, x_oldValue, x_oldCount, x_oldDigest, x_eventAccount, x_eventTag, x_eventValue, x_frameSelf, x_frameCaller, x_frameAmount, x_frameArg, x_frameGiven, x_frameLeft, x_framePc, x_frameSp, x_frameJournal, x_frameEvents, x_frameWarm, x_frameRefund, x_frameMails, x_stack), zr_Q_mk hPG hST hJR hWM ⟨by omega, by omega, by omega, hE, d5, d6, by omega, fun n => absurd rfl n⟩ hML hEV hVS hMI hBF, fun post hp => nm_r (e' := nI (E - L)) ?_ hp⟩
  rw [nI_add]
  exact congrArg nI (by omega)
theorem zk_del {w E : Nat} (hPG : zr_PG ln x_op x_arg x_length x_blockLength x_blockCost x_blockMost x_blockNeed x_blockRise y_lengths) (hST : zr_ST x_state x_weight y_now) (hJR : zr_JR J x_journalCell x_journalOld x_state B (fun _ => 0) 0 y_copies) (hWM : zr_WM x_warm y_warm) (hBD : zr_BD N E 0 J W L r 0) (hML : zr_ML x_mailTo x_mailFrom x_mailAmount x_mailArg y_messages) (hEV : zr_EV e x_eventAccount x_eventTag x_eventValue y_events) (hVS : zr_VS B x_ring x_kept x_oldCell x_oldValue x_oldCount x_oldDigest y_older) (hMI : zr_MI x_limit x_pending (y_lengths 6)) (hBF : zr_BF B y_before) (hWw : W = w + 1) : ∃ (u' : SX) (v' : SY) (N' : Nat), N' < N ∧ zr_Q y_result x_op x_arg ln B N' E u' v' ∧ (∀ post : SX → Prop, post u' → wpX_deliver post (x_limit, x_pending, zs_H x_state 30, nI J, x_warm, nI r, nI W, x_ring, x_kept, x_version, nI e, 0, x_self, x_left, x_pc, x_sp, x_base, x_lastStatus, x_lastResult, nI (E - L), x_lastCalls, x_op, x_arg, x_length, x_blockLength, x_blockCost, x_blockMost, x_blockNeed, x_blockRise, x_state, x_weight, x_journalCell, x_journalOld, x_mailTo, x_mailFrom, x_mailAmount, x_mailArg, x_oldCell, x_oldValue, x_oldCount, x_oldDigest, x_eventAccount, x_eventTag, x_eventValue, x_frameSelf, x_frameCaller, x_frameAmount, x_frameArg, x_frameGiven, x_frameLeft, x_framePc, x_frameSp, x_frameJournal, x_frameEvents, x_frameWarm, x_frameRefund, x_frameMails, x_stack) (nI E)) ∧ (∀ post : SY → Prop, post v' → wpY_message post (x_limit, nI e, nI W, nI r, 0, y_ended, y_answer, nI L, x_lastCalls, y_result, y_used, y_calls, x_version, x_kept, x_op, x_arg, y_lengths, y_now, y_copies, y_older, y_before, y_warm, y_warmCopies, y_eventCopies, y_messageCopies, y_refundCopies, y_events, y_messages, y_self, y_caller, y_amounts, y_arguments, y_given, y_left, y_at, y_tops, y_stack)) := by
  subst hWw
  obtain ⟨d1, d2, d3, d4, d5, d6, _⟩ := id hBD
  obtain ⟨⟨a, ha, xa, ya⟩, yam, yar, ⟨c, hc, xc, yc⟩⟩ := hML 0 (by omega)
  obtain ⟨la24, xla, yla⟩ := hPG.2.1 a ha
  have hML' := zl_MLs (n := w) hML (by omega)
  have eE : nI E - nI (E - L) = nI L := by rw [pk_sub (by omega)]; exact congrArg nI (by omega)
  have WX : ∀ post : SX → Prop, wpX_enter (fun r u => (r = 0 → post u) ∧ (¬ r = 0 → wpX_finishAll (zx_dl post (nI (E - L))) u)) (x_limit, x_pending, zs_H x_state 30, nI J, x_warm, nI r, nI w, x_ring, x_kept, x_version, nI e, 0, x_self, x_left, x_pc, x_sp, x_base, x_lastStatus, x_lastResult, nI (E - L), x_lastCalls, x_op, x_arg, x_length, x_blockLength, x_blockCost, x_blockMost, x_blockNeed, x_blockRise, x_state, x_weight, x_journalCell, x_journalOld, zy_c x_mailTo x_mailTo 1 w, zy_c x_mailFrom x_mailFrom 1 w, zy_c x_mailAmount x_mailAmount 1 w, zy_c x_mailArg x_mailArg 1 w, x_oldCell, x_oldValue, x_oldCount, x_oldDigest, x_eventAccount, x_eventTag, x_eventValue, x_frameSelf, x_frameCaller, x_frameAmount, x_frameArg, x_frameGiven, x_frameLeft, x_framePc, x_frameSp, x_frameJournal, x_frameEvents, x_frameWarm, x_frameRefund, x_frameMails, x_stack) (nI a) (nI c) (x_mailAmount 0) (x_mailArg 0) (nI L) → wpX_deliver post (x_limit, x_pending, zs_H x_state 30, nI J, x_warm, nI r, nI (w + 1), x_ring, x_kept, x_version, nI e, 0, x_self, x_left, x_pc, x_sp, x_base, x_lastStatus, x_lastResult, nI (E - L), x_lastCalls, x_op, x_arg, x_length, x_blockLength, x_blockCost, x_blockMost, x_blockNeed, x_blockRise, x_state, x_weight, x_journalCell, x_journalOld, x_mailTo, x_mailFrom, x_mailAmount, x_mailArg, x_oldCell, x_oldValue, x_oldCount, x_oldDigest, x_eventAccount, x_eventTag, x_eventValue, x_frameSelf, x_frameCaller, x_frameAmount, x_frameArg, x_frameGiven, x_frameLeft, x_framePc, x_frameSp, x_frameJournal, x_frameEvents, x_frameWarm, x_frameRefund, x_frameMails, x_stack) (nI E) := by
    intro post hp
    unfold wpX_deliver
    dsimp only
    refine nm_r xa (nm_r xc (nm_e (nm_e (nm_r (e' := nI w) (nI_pred w) ⟨w + 1, ?_⟩))))
    have hp2 := hp
    rw [← eE] at hp2
    have := xw_d43 (x1 := nI E) (x2 := nI a) (x3 := nI c) (x4 := x_mailAmount 0) (x5 := x_mailArg 0) (by omega) hML hp2 w 0 (by omega)
    rw [zy_c0, zy_c0, zy_c0, zy_c0] at this
    exact this
  have WY : ∀ post : SY → Prop, wpY_perform post (x_limit, nI e, nI w, nI r, 0, y_ended, y_answer, nI L, x_lastCalls, y_result, y_used, y_calls, x_version, x_kept, x_op, x_arg, y_lengths, y_now, y_copies, y_older, y_before, y_warm, y_warmCopies, y_eventCopies, y_messageCopies, y_refundCopies, y_events, zy_c y_messages y_messages 4 (4 * w), y_self, y_caller, y_amounts, y_arguments, y_given, y_left, y_at, y_tops, y_stack) (nI a) (x_mailAmount 0) (x_mailArg 0) (nI c) (nI L) → wpY_message post (x_limit, nI e, nI (w + 1), nI r, 0, y_ended, y_answer, nI L, x_lastCalls, y_result, y_used, y_calls, x_version, x_kept, x_op, x_arg, y_lengths, y_now, y_copies, y_older, y_before, y_warm, y_warmCopies, y_eventCopies, y_messageCopies, y_refundCopies, y_events, y_messages, y_self, y_caller, y_amounts, y_arguments, y_given, y_left, y_at, y_tops, y_stack) := by
    intro post hp
    unfold wpY_message
    dsimp only
    refine nm_r ya (nm_r yam (nm_r yar (nm_r yc (nm_r (e' := nI w) (nI_pred w) ⟨4 * w + 1, ?_⟩))))
    have := yw_m42 (by omega) hp (4 * w) 0 (by omega)
    rw [zy_c0] at this
    exact this
  by_cases hP : zl_P x_state a 0 (nI c) (x_mailAmount 0)
  · obtain ⟨S, jc, jo, J', u0, v0, st, N', hN', hD, kX, g1, kY⟩ := zk_B (a := a) (en := L) (eo := e) (cl := nI c) (am := x_mailAmount 0) (ar := x_mailArg 0) (F := x_frameEvents) (W := w) (N := N - 1) (r := r) (y_result := y_result) (x_self := x_self) (x_left := x_left) (x_pc := x_pc) (x_sp := x_sp) (x_base := x_base) (x_lastStatus := x_lastStatus) (x_lastResult := x_lastResult) (x_lastUsed := nI (E - L)) (x_lastCalls := x_lastCalls) (x_version := x_version) (x_frameEvents := x_frameEvents) (x_frameSelf := x_frameSelf) (x_frameCaller := x_frameCaller) (x_frameAmount := x_frameAmount) (x_frameArg := x_frameArg) (x_frameGiven := x_frameGiven) (x_frameLeft := x_frameLeft) (x_framePc := x_framePc) (x_frameSp := x_frameSp) (x_frameJournal := x_frameJournal) (x_frameWarm := x_frameWarm) (x_frameRefund := x_frameRefund) (x_frameMails := x_frameMails) (x_stack := x_stack) (y_rest := nI L) (y_ended := y_ended) (y_answer := y_answer) (y_used := y_used) (y_calls := y_calls) (y_depth := 0) (y_warmCopies := y_warmCopies) (y_eventCopies := y_eventCopies) (y_messageCopies := y_messageCopies) (y_refundCopies := y_refundCopies) (y_self := y_self) (y_caller := y_caller) (y_amounts := y_amounts) (y_arguments := y_arguments) (y_given := y_given) (y_left := y_left) (y_at := y_at) (y_tops := y_tops) (y_stack := y_stack) hPG hST hJR hWM hML' hEV hVS hMI hBF hP ha hEV.1 (Or.inr ⟨c, hc, rfl⟩) (by omega) d6 (fun J' h1 h2 => by omega) (by omega) (by omega) (by omega)
    obtain ⟨u', hQ, hz⟩ := zk_DQ (E := E) hD d3 d4
    refine ⟨u', v0, N', by omega, hQ, fun post hp => ?_, fun post hp => WY post (kY post hp)⟩
    refine WX post (xw_enterG (d := 0) hST.2.1 ha (by omega) (Or.inr ⟨c, hc, rfl⟩) (fun n => absurd hP n) (fun _ => ?_))
    refine xw_e47z (kX _ (br_f (by decide) ?_))
    obtain ⟨n, hn⟩ := g1 (zx_dl post (nI (E - L))) 1 (zx_dn hD (hz post hp))
    exact ⟨n, hn⟩
  · refine ⟨(x_limit, x_pending, zs_H x_state 30, nI J, x_warm, nI r, nI w, x_ring, x_kept, x_version, nI e, 0, x_self, x_left, x_pc, x_sp, x_base, x_lastStatus, x_lastResult, nI (E - L), x_lastCalls, x_op, x_arg, x_length, x_blockLength, x_blockCost, x_blockMost, x_blockNeed, x_blockRise, x_state, x_weight, x_journalCell, x_journalOld, zy_c x_mailTo x_mailTo 1 w, zy_c x_mailFrom x_mailFrom 1 w, zy_c x_mailAmount x_mailAmount 1 w, zy_c x_mailArg x_mailArg 1 w, x_oldCell, x_oldValue, x_oldCount, x_oldDigest, x_eventAccount, x_eventTag, x_eventValue, x_frameSelf, x_frameCaller, x_frameAmount, x_frameArg, x_frameGiven, x_frameLeft, x_framePc, x_frameSp, x_frameJournal, x_frameEvents, x_frameWarm, x_frameRefund, x_frameMails, x_stack), (x_limit, nI e, nI w, nI r, 0, 4, 0, nI L, x_lastCalls, y_result, y_used, y_calls, x_version, x_kept, x_op, x_arg, y_lengths, y_now, y_copies, y_older, y_before, y_warm, y_warmCopies, y_eventCopies, y_messageCopies, y_refundCopies, y_events, zy_c y_messages y_messages 4 (4 * w), y_self, y_caller, y_amounts, y_arguments, y_given, y_left, y_at, y_tops, y_stack), N - 1, by omega, zr_Q_mk hPG hST hJR hWM ⟨by omega, by omega, d3, d4, by omega, d6, by omega, fun n => absurd rfl n⟩ hML' hEV hVS hMI hBF, fun post hp => ?_, fun post hp => ?_⟩
    · exact WX post (xw_enterG (d := 0) hST.2.1 ha (by omega) (Or.inr ⟨c, hc, rfl⟩) (fun _ => br_t rfl hp) (fun n => absurd n hP))
    · refine WY post ?_
      unfold wpY_perform
      dsimp only
      refine yw_beginG (d := 0) hST.2.1 hST.2.2 ha (by omega) (Or.inr ⟨c, hc, rfl⟩) yla la24 (zl_WM01 hWM) (fun _ => ?_) (fun n => absurd n hP) (fun n => absurd n hP)
      exact ⟨1, br_t rfl hp⟩
end
end
section
/-! versions: settle and newVersion -/
theorem zt_and1 (y : Int32) : (y &&& 1) = 0 ↔ bt y 0 = false := by
  rw [pk_and y 1 (by decide)]
  have hm : y.toBitVec.toNat % 2 ^ 1 < 2 := Nat.mod_lt _ (by decide)
  have e : bt y 0 = decide (y.toBitVec.toNat % 2 = 1) := by
    unfold bt
    rw [BitVec.getLsbD, Nat.testBit_zero]
  rw [e]
  constructor
  · intro h
    have := (nI_eq (b := 0) (by omega) (by omega)).mp h
    rw [decide_eq_false_iff_not]
    omega
  · intro h
    rw [decide_eq_false_iff_not] at h
    have : y.toBitVec.toNat % 2 ^ 1 = 0 := by omega
    rw [this]
    rfl
theorem zt_bit {w : Int32} {c : Nat} (hc : c < 32) : ((w.toUInt32 >>> ((nI c).toUInt32 &&& Int32.toUInt32 31)).toInt32 &&& 1) = 0 ↔ bt w c = false := by
  rw [zt_and1, b_ushr c hc, Nat.add_zero]
theorem zt_set {w : Int32} {c i : Nat} (hc : c < 32) (hi : i < 32) : bt (w ||| ((1 : Int32) <<< (nI c &&& 31))) i = (bt w i || decide (i = c)) := by
  rw [b_or]
  congr 1
  unfold bt
  rw [nf_sh c hc, BitVec.getLsbD_twoPow]
  by_cases z : i = c
  · subst z; simp [hi]
  · have z' : ¬ c = i := fun q => z q.symm
    simp [z, z']
def zt_n (w : Int32) : Nat → Nat
  | 0 => 0
  | m + 1 => zt_n w m + (if bt w m = true then 1 else 0)
theorem zt_le (w : Int32) : ∀ m, zt_n w m ≤ m
  | 0 => Nat.le_refl _
  | m + 1 => by
    have := zt_le w m
    show zt_n w m + (if bt w m = true then 1 else 0) ≤ m + 1
    split <;> omega
theorem zt_lt {w : Int32} {c : Nat} (h : bt w c = false) : ∀ m, c < m → zt_n w m < m
  | 0, hc => by omega
  | m + 1, hc => by
    show zt_n w m + (if bt w m = true then 1 else 0) < m + 1
    by_cases e : c = m
    · subst e
      have := zt_le w c
      rw [h]
      simp only [Bool.false_eq_true, if_false]
      omega
    · have := zt_lt h m (by omega)
      split <;> omega
theorem zt_add {w : Int32} {c : Nat} (hc : c < 32) (h : bt w c = false) : ∀ m, m ≤ 32 → zt_n (w ||| ((1 : Int32) <<< (nI c &&& 31))) m = zt_n w m + (if c < m then 1 else 0)
  | 0, _ => by simp [zt_n]
  | m + 1, hm => by
    show zt_n _ m + (if bt _ m = true then 1 else 0) = zt_n w m + (if bt w m = true then 1 else 0) + _
    rw [zt_add hc h m (by omega), zt_set hc (by omega)]
    by_cases e : m = c
    · subst e
      simp [h]
    · by_cases e2 : c < m
      · have : c < m + 1 := by omega
        simp [e, e2, this]
        omega
      · have : ¬ c < m + 1 := by omega
        simp [e, e2, this]
def zt_I (jc jo : Nat → Int32) (b k n : Nat) (w : Int32) (oc ov oc0 ov0 : Nat → Int32) : Prop :=
  (∀ X : Nat → Int32, zv_A oc ov b n X = zj_U jc jo 0 k X) ∧ (∀ c, c < 30 → (bt w c = true ↔ ∃ i, i < k ∧ jc i = nI c)) ∧ n = zt_n w 30 ∧ (∀ t, t < n → ∃ x : Nat, x < 30 ∧ oc (b + t) = nI x) ∧ ∀ j, (j < b ∨ b + 30 ≤ j) → oc j = oc0 j ∧ ov j = ov0 j
theorem zt_seen {jc jo : Nat → Int32} {b k n c : Nat} {w : Int32} {oc ov oc0 ov0 : Nat → Int32} (h : zt_I jc jo b k n w oc ov oc0 ov0) (hc : c < 30) (ec : jc k = nI c) (hb : bt w c = true) : zt_I jc jo b (k + 1) n w oc ov oc0 ov0 := by
  obtain ⟨h1, h2, h3, h4, h5⟩ := h
  obtain ⟨i, hi, ei⟩ := (h2 c hc).mp hb
  refine ⟨fun X => ?_, fun c' hc' => ⟨fun z => ?_, fun z => ?_⟩, h3, h4, h5⟩
  · rw [h1 X]
    show _ = zj_U jc jo 0 k (upd X (jc (0 + k)).toNatClampNeg (jo (0 + k)))
    rw [Nat.zero_add, ec, nI_clamp (by omega), zj_U_in ⟨i, hi, by rw [Nat.zero_add, ei]; exact nI_clamp (by omega)⟩]
  · obtain ⟨i', hi', ei'⟩ := (h2 c' hc').mp z
    exact ⟨i', by omega, ei'⟩
  · obtain ⟨i', hi', ei'⟩ := z
    by_cases e : i' = k
    · subst e
      rw [ec] at ei'
      have := (nI_eq (by omega) (by omega)).mp ei'
      subst this
      exact hb
    · exact (h2 c' hc').mpr ⟨i', by omega, ei'⟩
theorem zt_new {jc jo : Nat → Int32} {J b k n c : Nat} {w : Int32} {oc ov oc0 ov0 : Nat → Int32} (h : zt_I jc jo b k n w oc ov oc0 ov0) (hE : zj_E jc jo J) (hk : k < J) (hc : c < 30) (ec : jc k = nI c) (hb : bt w c = false) : zt_I jc jo b (k + 1) (n + 1) (w ||| ((1 : Int32) <<< (nI c &&& 31))) (upd oc (b + n) (nI c)) (upd ov (b + n) (jo k)) oc0 ov0 := by
  obtain ⟨h1, h2, h3, h4, h5⟩ := h
  have hn30 : n < 30 := by rw [h3]; exact zt_lt hb 30 hc
  refine ⟨fun X => ?_, fun c' hc' => ?_, ?_, fun t ht => ?_, fun j hj => ?_⟩
  · rw [zv_A_push (by omega), h1 X]
    show _ = zj_U jc jo 0 k (upd X (jc (0 + k)).toNatClampNeg (jo (0 + k)))
    rw [Nat.zero_add, ec, nI_clamp (by omega), zj_U_out]
    intro i hi e
    obtain ⟨c', hc', ec', _⟩ := hE i (by omega)
    rw [Nat.zero_add, ec', nI_clamp (by omega)] at e
    subst e
    have := (h2 c' hc).mpr ⟨i, hi, ec'⟩
    rw [hb] at this
    exact absurd this (by decide)
  · rw [zt_set (by omega) (by omega)]
    constructor
    · intro z
      by_cases e : c' = c
      · subst e; exact ⟨k, by omega, ec⟩
      · have hw : bt w c' = true := by simpa [e] using z
        obtain ⟨i', hi', ei'⟩ := (h2 c' hc').mp hw
        exact ⟨i', by omega, ei'⟩
    · rintro ⟨i', hi', ei'⟩
      by_cases e : i' = k
      · subst e
        rw [ec] at ei'
        have := (nI_eq (by omega) (by omega)).mp ei'
        subst this
        simp
      · have := (h2 c' hc').mpr ⟨i', by omega, ei'⟩
        simp [this]
  · rw [zt_add (by omega) hb 30 (by omega), if_pos hc, ← h3]
  · by_cases e : t = n
    · subst e; exact ⟨c, hc, pk_us⟩
    · rw [pk_un (by omega)]; exact h4 t (by omega)
  · rw [pk_un (by omega), pk_un (by omega)]; exact h5 j hj
/-- the versions after a new one -/
theorem zl_sl0 {rg : Nat} (h : rg < 6) : zv_sl rg 0 = rg := by unfold zv_sl; omega
def zv_rg (rg : Nat) : Nat := if rg = 5 then 0 else rg + 1
theorem zv_rg6 {rg : Nat} (h : rg < 6) : zv_rg rg < 6 := by unfold zv_rg; split <;> omega
theorem zl_slS {rg i : Nat} (h : rg < 6) (hi : i ≤ 5) : zv_sl (zv_rg rg) (i + 1) = zv_sl rg i := by unfold zv_sl zv_rg; split <;> omega
theorem zl_slN {rg i : Nat} (h : rg < 6) (hi : i < 5) : zv_sl rg i ≠ zv_rg rg := by unfold zv_sl zv_rg; split <;> omega
theorem zl_sl6 (rg i : Nat) : zv_sl rg i < 6 := by unfold zv_sl; omega
def zy_d (o : Nat → Int32) (k : Nat) : Nat → Int32 := fun j => if k < j ∧ j < 180 then o (j - 30) else o j
theorem zl_VSnew {B S oc ov oc' ov' cn older before : Nat → Int32} {od : Nat → Int64} {rg kp n : Nat} (hr : rg < 6) (hk : kp ≤ 6) (hI : ∀ i, i < kp → zv_I B rg oc ov cn od older i) (hV : zs_V B) (hA : zv_A oc' ov' (30 * zv_rg rg) n S = B) (hn : n ≤ 30) (hc : ∀ t, t < n → ∃ x : Nat, x < 30 ∧ oc' (30 * zv_rg rg + t) = nI x) (ho : ∀ j, (j < 30 * zv_rg rg ∨ 30 * zv_rg rg + 30 ≤ j) → oc' j = oc j ∧ ov' j = ov j) (hB : zr_BF B before) :
    zr_VS S (nI (zv_rg rg)) (nI (if 6 ≤ kp then kp else kp + 1)) oc' ov' (upd cn (zv_rg rg) (nI n)) (vp_updL od (zv_rg rg) (zs_H B 30)) (zy_c (zy_d older 29) before 0 30) := by
  have hr' := zv_rg6 hr
  have hV1 : zv_V oc' ov' (upd cn (zv_rg rg) (nI n)) (zv_rg rg) 1 S = B := by
    show zv_A oc' ov' (30 * zv_sl (zv_rg rg) 0) ((upd cn (zv_rg rg) (nI n)) (zv_sl (zv_rg rg) 0)).toNatClampNeg S = B
    rw [zl_sl0 hr', pk_us, nI_clamp (by omega)]
    exact hA
  have hVi : ∀ i, i ≤ kp → i ≤ 5 → zv_V oc' ov' (upd cn (zv_rg rg) (nI n)) (zv_rg rg) (i + 1) S = zv_V oc ov cn rg i B := by
    intro i
    induction i with
    | zero => intro _ _; exact hV1
    | succ i ih =>
      intro h1 h2
      show zv_A oc' ov' (30 * zv_sl (zv_rg rg) (i + 1)) ((upd cn (zv_rg rg) (nI n)) (zv_sl (zv_rg rg) (i + 1))).toNatClampNeg (zv_V oc' ov' (upd cn (zv_rg rg) (nI n)) (zv_rg rg) (i + 1) S) = zv_A oc ov (30 * zv_sl rg i) (cn (zv_sl rg i)).toNatClampNeg (zv_V oc ov cn rg i B)
      have hne := zl_slN (rg := rg) (i := i) hr (by omega)
      rw [zl_slS hr (by omega), pk_un hne, ih (by omega) (by omega)]
      obtain ⟨⟨c, hc30, ecn, _⟩, _⟩ := hI i (by omega)
      rw [ecn, nI_clamp (by omega)]
      exact zv_A_congr fun j h3 h4 => ho j (by omega)
  refine ⟨zv_rg rg, if 6 ≤ kp then kp else kp + 1, rfl, rfl, hr', by split <;> omega, fun i hi => ?_⟩
  have hi6 : i < kp + 1 ∧ i < 6 := by split at hi <;> omega
  rcases i with _ | i
  · refine ⟨⟨n, hn, by rw [zl_sl0 hr', pk_us], fun t ht => by rw [zl_sl0 hr']; exact hc t ht⟩, ?_, ?_, fun k hk => ?_⟩
    · rw [hV1]; exact hV
    · rw [zl_sl0 hr', pk_uLs, hV1]
    · rw [hV1, ← hB k hk]
      show zy_c (zy_d older 29) before 0 30 (30 * 0 + k) = _
      unfold zy_c
      rw [if_pos (by omega)]
      congr 1
      omega
  · have hne := zl_slN (rg := rg) (i := i) hr (by omega)
    obtain ⟨⟨c, hc30, ecn, hcc⟩, v1, v2, v3⟩ := hI i (by omega)
    have hs6 := zl_sl6 rg i
    refine ⟨⟨c, hc30, ?_, fun t ht => ?_⟩, ?_, ?_, fun k hk => ?_⟩
    · rw [zl_slS hr (by omega), pk_un hne]; exact ecn
    · rw [zl_slS hr (by omega), (ho (30 * zv_sl rg i + t) (by omega)).1]; exact hcc t ht
    · rw [hVi (i + 1) (by omega) (by omega)]; exact v1
    · rw [zl_slS hr (by omega), pk_uLn hne, hVi (i + 1) (by omega) (by omega)]; exact v2
    · rw [hVi (i + 1) (by omega) (by omega), ← v3 k hk]
      unfold zy_c zy_d
      rw [if_neg (by omega), if_pos (by omega)]
      congr 1
      omega
end
section
/-! the idle relation; a call's last part -/
def zr_I (x_op x_arg : Nat → Int32) (ln : Nat → Nat) (u : SX) (v : SY) : Prop := ∃ (e : Nat) (x_pending x_journal : Int32) (x_warm : Int64) (x_refund x_mails x_ring x_kept x_version x_depth x_self x_left x_pc x_sp x_base x_lastStatus x_lastResult x_lastUsed x_lastCalls x_limit : Int32) (x_length x_blockLength x_blockCost x_blockMost x_blockNeed x_blockRise x_state : Nat → Int32) (x_weight : Nat → Int64) (x_journalCell x_journalOld x_mailTo x_mailFrom x_mailAmount x_mailArg x_oldCell x_oldValue x_oldCount : Nat → Int32) (x_oldDigest : Nat → Int64) (x_eventAccount x_eventTag x_eventValue x_frameSelf x_frameCaller x_frameAmount x_frameArg x_frameGiven x_frameLeft x_framePc x_frameSp x_frameJournal x_frameEvents : Nat → Int32) (x_frameWarm : Nat → Int64) (x_frameRefund x_frameMails x_stack : Nat → Int32) (y_waiting y_refund y_depth y_ended y_answer y_rest y_begun : Int32) (y_lengths y_now y_copies y_older y_before y_warm y_warmCopies y_eventCopies y_messageCopies y_refundCopies y_events y_messages y_self y_caller y_amounts y_arguments y_given y_left y_at y_tops y_stack : Nat → Int32), u = (x_limit, x_pending, zs_H x_state 30, x_journal, x_warm, x_refund, x_mails, x_ring, x_kept, x_version, nI e, x_depth, x_self, x_left, x_pc, x_sp, x_base, x_lastStatus, x_lastResult, x_lastUsed, x_lastCalls, x_op, x_arg, x_length, x_blockLength, x_blockCost, x_blockMost, x_blockNeed, x_blockRise, x_state, x_weight, x_journalCell, x_journalOld, x_mailTo, x_mailFrom, x_mailAmount, x_mailArg, x_oldCell, x_oldValue, x_oldCount, x_oldDigest, x_eventAccount, x_eventTag, x_eventValue, x_frameSelf, x_frameCaller, x_frameAmount, x_frameArg, x_frameGiven, x_frameLeft, x_framePc, x_frameSp, x_frameJournal, x_frameEvents, x_frameWarm, x_frameRefund, x_frameMails, x_stack) ∧ v = (x_limit, nI e, y_waiting, y_refund, y_depth, y_ended, y_answer, y_rest, y_begun, x_lastResult, x_lastUsed, x_lastCalls, x_version, x_kept, x_op, x_arg, y_lengths, y_now, y_copies, y_older, y_before, y_warm, y_warmCopies, y_eventCopies, y_messageCopies, y_refundCopies, y_events, y_messages, y_self, y_caller, y_amounts, y_arguments, y_given, y_left, y_at, y_tops, y_stack) ∧ zr_PG ln x_op x_arg x_length x_blockLength x_blockCost x_blockMost x_blockNeed x_blockRise y_lengths ∧ zr_ST x_state x_weight y_now ∧ zr_ML x_mailTo x_mailFrom x_mailAmount x_mailArg y_messages ∧ zr_EV e x_eventAccount x_eventTag x_eventValue y_events ∧ zr_VS x_state x_ring x_kept x_oldCell x_oldValue x_oldCount x_oldDigest y_older ∧ zr_MI x_limit x_pending (y_lengths 6)
theorem zr_I_mk {x_op x_arg : Nat → Int32} {ln : Nat → Nat} {e : Nat} {x_pending x_journal : Int32} {x_warm : Int64} {x_refund x_mails x_ring x_kept x_version x_depth x_self x_left x_pc x_sp x_base x_lastStatus x_lastResult x_lastUsed x_lastCalls x_limit : Int32} {x_length x_blockLength x_blockCost x_blockMost x_blockNeed x_blockRise x_state : Nat → Int32} {x_weight : Nat → Int64} {x_journalCell x_journalOld x_mailTo x_mailFrom x_mailAmount x_mailArg x_oldCell x_oldValue x_oldCount : Nat → Int32} {x_oldDigest : Nat → Int64} {x_eventAccount x_eventTag x_eventValue x_frameSelf x_frameCaller x_frameAmount x_frameArg x_frameGiven x_frameLeft x_framePc x_frameSp x_frameJournal x_frameEvents : Nat → Int32} {x_frameWarm : Nat → Int64} {x_frameRefund x_frameMails x_stack : Nat → Int32} {y_waiting y_refund y_depth y_ended y_answer y_rest y_begun : Int32} {y_lengths y_now y_copies y_older y_before y_warm y_warmCopies y_eventCopies y_messageCopies y_refundCopies y_events y_messages y_self y_caller y_amounts y_arguments y_given y_left y_at y_tops y_stack : Nat → Int32} (hPG : zr_PG ln x_op x_arg x_length x_blockLength x_blockCost x_blockMost x_blockNeed x_blockRise y_lengths) (hST : zr_ST x_state x_weight y_now) (hML : zr_ML x_mailTo x_mailFrom x_mailAmount x_mailArg y_messages) (hEV : zr_EV e x_eventAccount x_eventTag x_eventValue y_events) (hVS : zr_VS x_state x_ring x_kept x_oldCell x_oldValue x_oldCount x_oldDigest y_older) (hMI : zr_MI x_limit x_pending (y_lengths 6)) : zr_I x_op x_arg ln (x_limit, x_pending, zs_H x_state 30, x_journal, x_warm, x_refund, x_mails, x_ring, x_kept, x_version, nI e, x_depth, x_self, x_left, x_pc, x_sp, x_base, x_lastStatus, x_lastResult, x_lastUsed, x_lastCalls, x_op, x_arg, x_length, x_blockLength, x_blockCost, x_blockMost, x_blockNeed, x_blockRise, x_state, x_weight, x_journalCell, x_journalOld, x_mailTo, x_mailFrom, x_mailAmount, x_mailArg, x_oldCell, x_oldValue, x_oldCount, x_oldDigest, x_eventAccount, x_eventTag, x_eventValue, x_frameSelf, x_frameCaller, x_frameAmount, x_frameArg, x_frameGiven, x_frameLeft, x_framePc, x_frameSp, x_frameJournal, x_frameEvents, x_frameWarm, x_frameRefund, x_frameMails, x_stack) (x_limit, nI e, y_waiting, y_refund, y_depth, y_ended, y_answer, y_rest, y_begun, x_lastResult, x_lastUsed, x_lastCalls, x_version, x_kept, x_op, x_arg, y_lengths, y_now, y_copies, y_older, y_before, y_warm, y_warmCopies, y_eventCopies, y_messageCopies, y_refundCopies, y_events, y_messages, y_self, y_caller, y_amounts, y_arguments, y_given, y_left, y_at, y_tops, y_stack) :=
  Exists.intro _ (Exists.intro _ (Exists.intro _ (Exists.intro _ (Exists.intro _ (Exists.intro _ (Exists.intro _ (Exists.intro _ (Exists.intro _ (Exists.intro _ (Exists.intro _ (Exists.intro _ (Exists.intro _ (Exists.intro _ (Exists.intro _ (Exists.intro _ (Exists.intro _ (Exists.intro _ (Exists.intro _ (Exists.intro _ (Exists.intro _ (Exists.intro _ (Exists.intro _ (Exists.intro _ (Exists.intro _ (Exists.intro _ (Exists.intro _ (Exists.intro _ (Exists.intro _ (Exists.intro _ (Exists.intro _ (Exists.intro _ (Exists.intro _ (Exists.intro _ (Exists.intro _ (Exists.intro _ (Exists.intro _ (Exists.intro _ (Exists.intro _ (Exists.intro _ (Exists.intro _ (Exists.intro _ (Exists.intro _ (Exists.intro _ (Exists.intro _ (Exists.intro _ (Exists.intro _ (Exists.intro _ (Exists.intro _ (Exists.intro _ (Exists.intro _ (Exists.intro _ (Exists.intro _ (Exists.intro _ (Exists.intro _ (Exists.intro _ (Exists.intro _ (Exists.intro _ (Exists.intro _ (Exists.intro _ (Exists.intro _ (Exists.intro _ (Exists.intro _ (Exists.intro _ (Exists.intro _ (Exists.intro _ (Exists.intro _ (Exists.intro _ (Exists.intro _ (Exists.intro _ (Exists.intro _ (Exists.intro _ (Exists.intro _ (Exists.intro _ (Exists.intro _ (Exists.intro _ (Exists.intro _ (Exists.intro _ (Exists.intro _ (Exists.intro _ (Exists.intro _ (Exists.intro _ (Exists.intro _ (And.intro rfl (And.intro rfl (And.intro hPG (And.intro hST (And.intro hML (And.intro hEV (And.intro hVS hMI)))))))))))))))))))))))))))))))))))))))))))))))))))))))))))))))))))))))))))))))))))))))))
theorem zr_I_el {P : SX → SY → Prop} {x_op x_arg : Nat → Int32} {ln : Nat → Nat} {u : SX} {v : SY} (H : ∀ (e : Nat) (x_pending x_journal : Int32) (x_warm : Int64) (x_refund x_mails x_ring x_kept x_version x_depth x_self x_left x_pc x_sp x_base x_lastStatus x_lastResult x_lastUsed x_lastCalls x_limit : Int32) (x_length x_blockLength x_blockCost x_blockMost x_blockNeed x_blockRise x_state : Nat → Int32) (x_weight : Nat → Int64) (x_journalCell x_journalOld x_mailTo x_mailFrom x_mailAmount x_mailArg x_oldCell x_oldValue x_oldCount : Nat → Int32) (x_oldDigest : Nat → Int64) (x_eventAccount x_eventTag x_eventValue x_frameSelf x_frameCaller x_frameAmount x_frameArg x_frameGiven x_frameLeft x_framePc x_frameSp x_frameJournal x_frameEvents : Nat → Int32) (x_frameWarm : Nat → Int64) (x_frameRefund x_frameMails x_stack : Nat → Int32) (y_waiting y_refund y_depth y_ended y_answer y_rest y_begun : Int32) (y_lengths y_now y_copies y_older y_before y_warm y_warmCopies y_eventCopies y_messageCopies y_refundCopies y_events y_messages y_self y_caller y_amounts y_arguments y_given y_left y_at y_tops y_stack : Nat → Int32), zr_PG ln x_op x_arg x_length x_blockLength x_blockCost x_blockMost x_blockNeed x_blockRise y_lengths → zr_ST x_state x_weight y_now → zr_ML x_mailTo x_mailFrom x_mailAmount x_mailArg y_messages → zr_EV e x_eventAccount x_eventTag x_eventValue y_events → zr_VS x_state x_ring x_kept x_oldCell x_oldValue x_oldCount x_oldDigest y_older → zr_MI x_limit x_pending (y_lengths 6) → P (x_limit, x_pending, zs_H x_state 30, x_journal, x_warm, x_refund, x_mails, x_ring, x_kept, x_version, nI e, x_depth, x_self, x_left, x_pc, x_sp, x_base, x_lastStatus, x_lastResult, x_lastUsed, x_lastCalls, x_op, x_arg, x_length, x_blockLength, x_blockCost, x_blockMost, x_blockNeed, x_blockRise, x_state, x_weight, x_journalCell, x_journalOld, x_mailTo, x_mailFrom, x_mailAmount, x_mailArg, x_oldCell, x_oldValue, x_oldCount, x_oldDigest, x_eventAccount, x_eventTag, x_eventValue, x_frameSelf, x_frameCaller, x_frameAmount, x_frameArg, x_frameGiven, x_frameLeft, x_framePc, x_frameSp, x_frameJournal, x_frameEvents, x_frameWarm, x_frameRefund, x_frameMails, x_stack) (x_limit, nI e, y_waiting, y_refund, y_depth, y_ended, y_answer, y_rest, y_begun, x_lastResult, x_lastUsed, x_lastCalls, x_version, x_kept, x_op, x_arg, y_lengths, y_now, y_copies, y_older, y_before, y_warm, y_warmCopies, y_eventCopies, y_messageCopies, y_refundCopies, y_events, y_messages, y_self, y_caller, y_amounts, y_arguments, y_given, y_left, y_at, y_tops, y_stack)) (I : zr_I x_op x_arg ln u v) : P u v :=
  Exists.elim I fun e I => Exists.elim I fun x_pending I => Exists.elim I fun x_journal I => Exists.elim I fun x_warm I => Exists.elim I fun x_refund I => Exists.elim I fun x_mails I => Exists.elim I fun x_ring I => Exists.elim I fun x_kept I => Exists.elim I fun x_version I => Exists.elim I fun x_depth I => Exists.elim I fun x_self I => Exists.elim I fun x_left I => Exists.elim I fun x_pc I => Exists.elim I fun x_sp I => Exists.elim I fun x_base I => Exists.elim I fun x_lastStatus I => Exists.elim I fun x_lastResult I => Exists.elim I fun x_lastUsed I => Exists.elim I fun x_lastCalls I => Exists.elim I fun x_limit I => Exists.elim I fun x_length I => Exists.elim I fun x_blockLength I => Exists.elim I fun x_blockCost I => Exists.elim I fun x_blockMost I => Exists.elim I fun x_blockNeed I => Exists.elim I fun x_blockRise I => Exists.elim I fun x_state I => Exists.elim I fun x_weight I => Exists.elim I fun x_journalCell I => Exists.elim I fun x_journalOld I => Exists.elim I fun x_mailTo I => Exists.elim I fun x_mailFrom I => Exists.elim I fun x_mailAmount I => Exists.elim I fun x_mailArg I => Exists.elim I fun x_oldCell I => Exists.elim I fun x_oldValue I => Exists.elim I fun x_oldCount I => Exists.elim I fun x_oldDigest I => Exists.elim I fun x_eventAccount I => Exists.elim I fun x_eventTag I => Exists.elim I fun x_eventValue I => Exists.elim I fun x_frameSelf I => Exists.elim I fun x_frameCaller I => Exists.elim I fun x_frameAmount I => Exists.elim I fun x_frameArg I => Exists.elim I fun x_frameGiven I => Exists.elim I fun x_frameLeft I => Exists.elim I fun x_framePc I => Exists.elim I fun x_frameSp I => Exists.elim I fun x_frameJournal I => Exists.elim I fun x_frameEvents I => Exists.elim I fun x_frameWarm I => Exists.elim I fun x_frameRefund I => Exists.elim I fun x_frameMails I => Exists.elim I fun x_stack I => Exists.elim I fun y_waiting I => Exists.elim I fun y_refund I => Exists.elim I fun y_depth I => Exists.elim I fun y_ended I => Exists.elim I fun y_answer I => Exists.elim I fun y_rest I => Exists.elim I fun y_begun I => Exists.elim I fun y_lengths I => Exists.elim I fun y_now I => Exists.elim I fun y_copies I => Exists.elim I fun y_older I => Exists.elim I fun y_before I => Exists.elim I fun y_warm I => Exists.elim I fun y_warmCopies I => Exists.elim I fun y_eventCopies I => Exists.elim I fun y_messageCopies I => Exists.elim I fun y_refundCopies I => Exists.elim I fun y_events I => Exists.elim I fun y_messages I => Exists.elim I fun y_self I => Exists.elim I fun y_caller I => Exists.elim I fun y_amounts I => Exists.elim I fun y_arguments I => Exists.elim I fun y_given I => Exists.elim I fun y_left I => Exists.elim I fun y_at I => Exists.elim I fun y_tops I => Exists.elim I fun y_stack I => by
    obtain ⟨hu, hv, hPG, hST, hML, hEV, hVS, hMI⟩ := I
    subst hu; subst hv
    exact H e x_pending x_journal x_warm x_refund x_mails x_ring x_kept x_version x_depth x_self x_left x_pc x_sp x_base x_lastStatus x_lastResult x_lastUsed x_lastCalls x_limit x_length x_blockLength x_blockCost x_blockMost x_blockNeed x_blockRise x_state x_weight x_journalCell x_journalOld x_mailTo x_mailFrom x_mailAmount x_mailArg x_oldCell x_oldValue x_oldCount x_oldDigest x_eventAccount x_eventTag x_eventValue x_frameSelf x_frameCaller x_frameAmount x_frameArg x_frameGiven x_frameLeft x_framePc x_frameSp x_frameJournal x_frameEvents x_frameWarm x_frameRefund x_frameMails x_stack y_waiting y_refund y_depth y_ended y_answer y_rest y_begun y_lengths y_now y_copies y_older y_before y_warm y_warmCopies y_eventCopies y_messageCopies y_refundCopies y_events y_messages y_self y_caller y_amounts y_arguments y_given y_left y_at y_tops y_stack hPG hST hML hEV hVS hMI

def zx_lu (lu rf : Int32) : Int32 := if lu / 4 ≤ rf then lu - lu / 4 else lu - rf
section
variable {x_limit x_pending x_journal x_refund x_mails x_ring x_kept x_version x_events x_depth x_self x_left x_pc x_sp x_base x_lastStatus x_lastResult x_lastUsed x_lastCalls : Int32} {x_digest x_warm : Int64} {x_op x_arg x_length x_blockLength x_blockCost x_blockMost x_blockNeed x_blockRise x_state x_journalCell x_journalOld x_mailTo x_mailFrom x_mailAmount x_mailArg x_oldCell x_oldValue x_oldCount x_eventAccount x_eventTag x_eventValue x_frameSelf x_frameCaller x_frameAmount x_frameArg x_frameGiven x_frameLeft x_framePc x_frameSp x_frameJournal x_frameEvents x_frameRefund x_frameMails x_stack : Nat → Int32} {x_weight x_oldDigest x_frameWarm : Nat → Int64}
variable {y_limit y_eventCount y_waiting y_refund y_depth y_ended y_answer y_rest y_begun y_result y_used y_calls y_version y_kept : Int32} {y_ops y_bs y_lengths y_now y_copies y_older y_before y_warm y_warmCopies y_eventCopies y_messageCopies y_refundCopies y_events y_messages y_self y_caller y_amounts y_arguments y_given y_left y_at y_tops y_stack : Nat → Int32}
variable {N G J0 lx px s p h L f J W e r : Nat} {ln sf gv jn ml kk hh pp : Nat → Nat} {B : Nat → Int32}
theorem xw_157 {post : SX → Prop} (hp : post (x_limit, x_pending, x_digest, x_journal, x_warm, x_refund, x_mails, x_ring, x_kept, x_version + 1, x_events, x_depth, x_self, x_left, x_pc, x_sp, x_base, x_lastStatus, x_lastResult, zx_lu x_lastUsed x_refund, x_lastCalls, x_op, x_arg, x_length, x_blockLength, x_blockCost, x_blockMost, x_blockNeed, x_blockRise, x_state, x_weight, x_journalCell, x_journalOld, x_mailTo, x_mailFrom, x_mailAmount, x_mailArg, x_oldCell, x_oldValue, x_oldCount, x_oldDigest, x_eventAccount, x_eventTag, x_eventValue, x_frameSelf, x_frameCaller, x_frameAmount, x_frameArg, x_frameGiven, x_frameLeft, x_framePc, x_frameSp, x_frameJournal, x_frameEvents, x_frameWarm, x_frameRefund, x_frameMails, x_stack)) : wX_settle_157 post x_limit x_pending x_digest x_journal x_warm x_refund x_mails x_ring x_kept x_version x_events x_depth x_self x_left x_pc x_sp x_base x_lastStatus x_lastResult x_lastUsed x_lastCalls x_op x_arg x_length x_blockLength x_blockCost x_blockMost x_blockNeed x_blockRise x_state x_weight x_journalCell x_journalOld x_mailTo x_mailFrom x_mailAmount x_mailArg x_oldCell x_oldValue x_oldCount x_oldDigest x_eventAccount x_eventTag x_eventValue x_frameSelf x_frameCaller x_frameAmount x_frameArg x_frameGiven x_frameLeft x_framePc x_frameSp x_frameJournal x_frameEvents x_frameWarm x_frameRefund x_frameMails x_stack := by
  unfold zx_lu at hp
  refine nm_e ⟨by decide, nm_e (br_c (fun z => nm_e ?_) (fun z => nm_e ?_))⟩
  · rw [if_pos z] at hp; exact hp
  · rw [if_neg z] at hp; exact hp
theorem yw_162z {post : Int32 → SY → Prop} {x4 : Int32} (hp : post 0 (y_limit, y_eventCount, y_waiting, y_refund, y_depth, y_ended, y_answer, y_rest, y_begun, y_result, zx_lu (x4 - y_rest) y_refund, y_begun, y_version, y_kept, x_op, x_arg, y_lengths, y_now, y_copies, y_older, y_before, y_warm, y_warmCopies, y_eventCopies, y_messageCopies, y_refundCopies, y_events, y_messages, y_self, y_caller, y_amounts, y_arguments, y_given, y_left, y_at, y_tops, y_stack)) : wY_call_162 post x4 0 y_limit y_eventCount y_waiting y_refund y_depth y_ended y_answer y_rest y_begun y_result y_used y_calls y_version y_kept x_op x_arg y_lengths y_now y_copies y_older y_before y_warm y_warmCopies y_eventCopies y_messageCopies y_refundCopies y_events y_messages y_self y_caller y_amounts y_arguments y_given y_left y_at y_tops y_stack := by
  unfold zx_lu at hp
  refine nm_e (br_t rfl ⟨by decide, br_c (fun z => ⟨by decide, nm_e ?_⟩) (fun z => nm_e ?_)⟩)
  · rw [if_pos z] at hp; exact hp
  · rw [if_neg z] at hp; exact hp
theorem yw_162n {post : Int32 → SY → Prop} {x4 x6 : Int32} (h : ¬ x6 = 0) (hp : post x6 (y_limit, y_eventCount, y_waiting, y_refund, y_depth, y_ended, y_answer, y_rest, y_begun, y_result, x4 - y_rest, y_begun, y_version, y_kept, x_op, x_arg, y_lengths, y_now, y_copies, y_older, y_before, y_warm, y_warmCopies, y_eventCopies, y_messageCopies, y_refundCopies, y_events, y_messages, y_self, y_caller, y_amounts, y_arguments, y_given, y_left, y_at, y_tops, y_stack)) : wY_call_162 post x4 x6 y_limit y_eventCount y_waiting y_refund y_depth y_ended y_answer y_rest y_begun y_result y_used y_calls y_version y_kept x_op x_arg y_lengths y_now y_copies y_older y_before y_warm y_warmCopies y_eventCopies y_messageCopies y_refundCopies y_events y_messages y_self y_caller y_amounts y_arguments y_given y_left y_at y_tops y_stack := nm_e (br_f h hp)
theorem xw_s30 {x1 : Int64} {rg kp : Nat} (hr : rg < 6) (hk : kp ≤ 6) (hE : zj_E x_journalCell x_journalOld J) (hJ : J ≤ 160) : ∀ (d k n : Nat) (w : Int32) (oc ov : Nat → Int32), k + d = J → zt_I x_journalCell x_journalOld (30 * rg) k n w oc ov x_oldCell x_oldValue → ∃ (oc' ov' : Nat → Int32) (n' : Nat) (w' : Int32), zt_I x_journalCell x_journalOld (30 * rg) J n' w' oc' ov' x_oldCell x_oldValue ∧ ∀ post : SX → Prop, post (x_limit, x_pending, x_digest, nI J, x_warm, x_refund, x_mails, nI rg, nI (if 6 ≤ kp then kp else kp + 1), x_version + 1, x_events, x_depth, x_self, x_left, x_pc, x_sp, x_base, x_lastStatus, x_lastResult, zx_lu x_lastUsed x_refund, x_lastCalls, x_op, x_arg, x_length, x_blockLength, x_blockCost, x_blockMost, x_blockNeed, x_blockRise, x_state, x_weight, x_journalCell, x_journalOld, x_mailTo, x_mailFrom, x_mailAmount, x_mailArg, oc', ov', upd x_oldCount rg (nI n'), vp_updL x_oldDigest rg x1, x_eventAccount, x_eventTag, x_eventValue, x_frameSelf, x_frameCaller, x_frameAmount, x_frameArg, x_frameGiven, x_frameLeft, x_framePc, x_frameSp, x_frameJournal, x_frameEvents, x_frameWarm, x_frameRefund, x_frameMails, x_stack) → wX_settle_30 post x1 x_limit x_pending x_digest (nI J) x_warm x_refund x_mails (nI rg) (nI kp) x_version x_events x_depth x_self x_left x_pc x_sp x_base x_lastStatus x_lastResult x_lastUsed x_lastCalls (d + 1) (nI n) w (nI k) x_op x_arg x_length x_blockLength x_blockCost x_blockMost x_blockNeed x_blockRise x_state x_weight x_journalCell x_journalOld x_mailTo x_mailFrom x_mailAmount x_mailArg oc ov x_oldCount x_oldDigest x_eventAccount x_eventTag x_eventValue x_frameSelf x_frameCaller x_frameAmount x_frameArg x_frameGiven x_frameLeft x_framePc x_frameSp x_frameJournal x_frameEvents x_frameWarm x_frameRefund x_frameMails x_stack := by
  have hri : vp_in (nI rg) 6 := vp_in_nI hr (by omega)
  intro d
  induction d with
  | zero =>
    intro k n w oc ov hkd hI
    have e : k = J := by omega
    subst e
    refine ⟨oc, ov, n, w, hI, fun post hp => ?_⟩
    have hn30 : n ≤ 30 := by rw [hI.2.2.1]; exact zt_le w 30
    refine br_t (nI_le (Nat.le_refl _) (by omega)) ?_
    rw [nI_clamp (by omega : rg < 2 ^ 31), zn_nbb (by omega : n < 128)]
    refine ⟨hri, nm_e ⟨hri, nm_e (pk_le 6 kp (fun z => ?_) (fun z => nm_r (e' := nI (kp + 1)) (nI_1 kp) ?_))⟩⟩
    · rw [if_pos z] at hp; exact xw_157 hp
    · rw [if_neg (by omega)] at hp; exact xw_157 hp
  | succ d ih =>
    intro k n w oc ov hkd hI
    obtain ⟨c, hc, ec, _⟩ := hE k (by omega)
    have hki : vp_in (nI k) 160 := vp_in_nI (by omega) (by omega)
    by_cases hb : bt w c = true
    · obtain ⟨oc', ov', n', w', hI', hX⟩ := ih (k + 1) n w oc ov (by omega) (zt_seen hI hc ec hb)
      refine ⟨oc', ov', n', w', hI', fun post hp => ?_⟩
      refine br_f (nI_ge (by omega) (by omega)) ⟨hki, ?_⟩
      rw [nI_clamp (by omega : k < 2 ^ 31)]
      refine nm_r ec ?_
      refine br_f (fun z => ?_) (nm_r (nI_1 k) (hX post hp))
      rw [(zt_bit (by omega)).mp z] at hb
      exact absurd hb (by decide)
    · have hb' : bt w c = false := ts_nt hb
      have hn30 : n < 30 := by rw [hI.2.2.1]; exact zt_lt hb' 30 hc
      obtain ⟨oc', ov', n', w', hI', hX⟩ := ih (k + 1) (n + 1) _ _ _ (by omega) (zt_new hI hE (by omega) hc ec hb')
      refine ⟨oc', ov', n', w', hI', fun post hp => ?_⟩
      have e30 : (30 : Int32) * nI rg + nI n = nI (30 * rg + n) := by rw [show (30 : Int32) * nI rg = nI (30 * rg) from pk_mul 30 rg]; exact nI_add _ _
      have hbi : vp_in (nI (30 * rg + n)) 180 := vp_in_nI (by omega) (by omega)
      refine br_f (nI_ge (by omega) (by omega)) ⟨hki, ?_⟩
      rw [nI_clamp (by omega : k < 2 ^ 31)]
      refine nm_r ec ?_
      refine br_t ((zt_bit (by omega)).mpr hb') (nm_e ?_)
      rw [e30, nI_clamp (by omega : 30 * rg + n < 2 ^ 31), zn_nbb (by omega : c < 128)]
      exact ⟨hbi, nm_e ⟨hki, hbi, nm_e (nm_r (nI_1 n) (nm_r (nI_1 k) (hX post hp)))⟩⟩
/-- settle gives the new version -/
theorem xw_settle {x1 : Int64} {rg kp : Nat} (hr : rg < 6) (hk : kp ≤ 6) (hE : zj_E x_journalCell x_journalOld J) (hJ : J ≤ 160) : ∃ (oc' ov' : Nat → Int32) (n' : Nat), n' ≤ 30 ∧ (∀ X : Nat → Int32, zv_A oc' ov' (30 * zv_rg rg) n' X = zj_U x_journalCell x_journalOld 0 J X) ∧ (∀ t, t < n' → ∃ x : Nat, x < 30 ∧ oc' (30 * zv_rg rg + t) = nI x) ∧ (∀ j, (j < 30 * zv_rg rg ∨ 30 * zv_rg rg + 30 ≤ j) → oc' j = x_oldCell j ∧ ov' j = x_oldValue j) ∧ ∀ post : SX → Prop, post (x_limit, x_pending, x_digest, nI J, x_warm, x_refund, x_mails, nI (zv_rg rg), nI (if 6 ≤ kp then kp else kp + 1), x_version + 1, x_events, x_depth, x_self, x_left, x_pc, x_sp, x_base, x_lastStatus, x_lastResult, zx_lu x_lastUsed x_refund, x_lastCalls, x_op, x_arg, x_length, x_blockLength, x_blockCost, x_blockMost, x_blockNeed, x_blockRise, x_state, x_weight, x_journalCell, x_journalOld, x_mailTo, x_mailFrom, x_mailAmount, x_mailArg, oc', ov', upd x_oldCount (zv_rg rg) (nI n'), vp_updL x_oldDigest (zv_rg rg) x1, x_eventAccount, x_eventTag, x_eventValue, x_frameSelf, x_frameCaller, x_frameAmount, x_frameArg, x_frameGiven, x_frameLeft, x_framePc, x_frameSp, x_frameJournal, x_frameEvents, x_frameWarm, x_frameRefund, x_frameMails, x_stack) → wpX_settle post (x_limit, x_pending, x_digest, nI J, x_warm, x_refund, x_mails, nI rg, nI kp, x_version, x_events, x_depth, x_self, x_left, x_pc, x_sp, x_base, x_lastStatus, x_lastResult, x_lastUsed, x_lastCalls, x_op, x_arg, x_length, x_blockLength, x_blockCost, x_blockMost, x_blockNeed, x_blockRise, x_state, x_weight, x_journalCell, x_journalOld, x_mailTo, x_mailFrom, x_mailAmount, x_mailArg, x_oldCell, x_oldValue, x_oldCount, x_oldDigest, x_eventAccount, x_eventTag, x_eventValue, x_frameSelf, x_frameCaller, x_frameAmount, x_frameArg, x_frameGiven, x_frameLeft, x_framePc, x_frameSp, x_frameJournal, x_frameEvents, x_frameWarm, x_frameRefund, x_frameMails, x_stack) x1 := by
  have hI0 : zt_I x_journalCell x_journalOld (30 * zv_rg rg) 0 0 0 x_oldCell x_oldValue x_oldCell x_oldValue := by
    refine ⟨fun X => rfl, fun c hc => ⟨fun z => ?_, fun z => ?_⟩, by decide, fun t ht => absurd ht (by omega), fun j hj => ⟨rfl, rfl⟩⟩
    · rw [b_0] at z; exact absurd z (by decide)
    · obtain ⟨i, hi, _⟩ := z; omega
  obtain ⟨oc', ov', n', w', ⟨i1, i2, i3, i4, i5⟩, hX⟩ := xw_s30 (x1 := x1) (x_limit := x_limit) (x_pending := x_pending) (x_digest := x_digest) (x_warm := x_warm) (x_refund := x_refund) (x_mails := x_mails) (x_version := x_version) (x_events := x_events) (x_depth := x_depth) (x_self := x_self) (x_left := x_left) (x_pc := x_pc) (x_sp := x_sp) (x_base := x_base) (x_lastStatus := x_lastStatus) (x_lastResult := x_lastResult) (x_lastUsed := x_lastUsed) (x_lastCalls := x_lastCalls) (x_op := x_op) (x_arg := x_arg) (x_length := x_length) (x_blockLength := x_blockLength) (x_blockCost := x_blockCost) (x_blockMost := x_blockMost) (x_blockNeed := x_blockNeed) (x_blockRise := x_blockRise) (x_state := x_state) (x_weight := x_weight) (x_mailTo := x_mailTo) (x_mailFrom := x_mailFrom) (x_mailAmount := x_mailAmount) (x_mailArg := x_mailArg) (x_oldCount := x_oldCount) (x_oldDigest := x_oldDigest) (x_eventAccount := x_eventAccount) (x_eventTag := x_eventTag) (x_eventValue := x_eventValue) (x_frameSelf := x_frameSelf) (x_frameCaller := x_frameCaller) (x_frameAmount := x_frameAmount) (x_frameArg := x_frameArg) (x_frameGiven := x_frameGiven) (x_frameLeft := x_frameLeft) (x_framePc := x_framePc) (x_frameSp := x_frameSp) (x_frameJournal := x_frameJournal) (x_frameEvents := x_frameEvents) (x_frameWarm := x_frameWarm) (x_frameRefund := x_frameRefund) (x_frameMails := x_frameMails) (x_stack := x_stack) (zv_rg6 hr) hk hE hJ J 0 0 0 x_oldCell x_oldValue (by omega) hI0
  refine ⟨oc', ov', n', by rw [i3]; exact zt_le w' 30, i1, i4, i5, fun post hp => ?_⟩
  unfold wpX_settle
  dsimp only
  have HX := hX post hp
  refine pk_eq rg 5 (fun z => ⟨J + 1, ?_⟩) (fun z => nm_r (e' := nI (rg + 1)) (nI_1 rg) ⟨J + 1, ?_⟩)
  · have : zv_rg rg = 0 := if_pos z
    rw [this] at HX
    exact HX
  · have : zv_rg rg = rg + 1 := if_neg z
    rw [this] at HX
    exact HX
theorem yw_nv33 {post : SY → Prop} {kp : Nat} (hk : kp ≤ 6) (hp : post (y_limit, y_eventCount, y_waiting, y_refund, y_depth, y_ended, y_answer, y_rest, y_begun, y_result, y_used, y_calls, y_version + 1, nI (if 6 ≤ kp then kp else kp + 1), x_op, x_arg, y_lengths, y_now, y_copies, zy_c y_older y_before 0 30, y_before, y_warm, y_warmCopies, y_eventCopies, y_messageCopies, y_refundCopies, y_events, y_messages, y_self, y_caller, y_amounts, y_arguments, y_given, y_left, y_at, y_tops, y_stack)) : ∀ k i, i + k = 30 → wY_newVersion_33 post y_limit y_eventCount y_waiting y_refund y_depth y_ended y_answer y_rest y_begun y_result y_used y_calls y_version (nI kp) (k + 1) (nI i) x_op x_arg y_lengths y_now y_copies (zy_c y_older y_before 0 i) y_before y_warm y_warmCopies y_eventCopies y_messageCopies y_refundCopies y_events y_messages y_self y_caller y_amounts y_arguments y_given y_left y_at y_tops y_stack := by
  intro k
  induction k with
  | zero =>
    intro i hk
    have e : i = 30 := by omega
    subst e
    refine br_t (nI_le (a := 30) (b := 30) (by omega) (by omega)) (nm_e (pk_le 6 kp (fun z => ?_) (fun z => nm_r (e' := nI (kp + 1)) (nI_1 kp) ?_)))
    · rw [if_pos z] at hp; exact hp
    · rw [if_neg (by omega)] at hp; exact hp
  | succ k ih =>
    intro i hk
    refine br_f (nI_ge (a := i) (b := 30) (by omega) (by omega)) ?_
    rw [nI_clamp (by omega : i < 2 ^ 31)]
    have e0 : y_before i = y_before (0 + i) := by rw [Nat.zero_add]
    rw [e0, zy_cS]
    exact ⟨vp_in_nI (by omega) (by omega), vp_in_nI (by omega) (by omega), nm_e (nm_r (nI_1 i) (ih (i + 1) (by omega)))⟩
theorem zy_dS {o : Nat → Int32} {m : Nat} (h : 29 + (m + 1) < 180) : upd (zy_d o (29 + (m + 1))) (29 + (m + 1)) (zy_d o (29 + (m + 1)) (29 + (m + 1) - 30)) = zy_d o (29 + m) := by
  funext j
  unfold upd zy_d
  by_cases e : j = 29 + (m + 1)
  · rw [if_pos e, if_neg (by omega), if_pos (by omega), e]
  · rw [if_neg e]
    by_cases e2 : 29 + (m + 1) < j ∧ j < 180
    · rw [if_pos e2, if_pos (by omega)]
    · rw [if_neg e2, if_neg (by omega)]
theorem zy_d0 {o : Nat → Int32} : zy_d o (29 + 150) = o := by
  funext j; exact if_neg (by omega)
theorem yw_nv4 {post : SY → Prop} (hp : ∃ n, wY_newVersion_33 post y_limit y_eventCount y_waiting y_refund y_depth y_ended y_answer y_rest y_begun y_result y_used y_calls y_version y_kept n 0 x_op x_arg y_lengths y_now y_copies (zy_d y_older 29) y_before y_warm y_warmCopies y_eventCopies y_messageCopies y_refundCopies y_events y_messages y_self y_caller y_amounts y_arguments y_given y_left y_at y_tops y_stack) : ∀ m, m ≤ 150 → wY_newVersion_4 post y_limit y_eventCount y_waiting y_refund y_depth y_ended y_answer y_rest y_begun y_result y_used y_calls y_version y_kept (m + 1) (nI (29 + m)) x_op x_arg y_lengths y_now y_copies (zy_d y_older (29 + m)) y_before y_warm y_warmCopies y_eventCopies y_messageCopies y_refundCopies y_events y_messages y_self y_caller y_amounts y_arguments y_given y_left y_at y_tops y_stack := by
  intro m
  induction m with
  | zero => intro _; exact br_t (nI_lt (a := 29) (b := 30) (by omega) (by omega)) hp
  | succ m ih =>
    intro hm
    have e30 : nI (29 + (m + 1)) - 30 = nI (29 + (m + 1) - 30) := pk_sub (b := 30) (by omega)
    refine br_f (nI_nlt (b := 30) (by omega) (by omega)) ?_
    rw [e30, nI_clamp (by omega : 29 + (m + 1) < 2 ^ 31), nI_clamp (by omega : 29 + (m + 1) - 30 < 2 ^ 31), zy_dS (by omega)]
    exact ⟨vp_in_nI (by omega) (by omega), vp_in_nI (by omega) (by omega), nm_e (nm_r (e' := nI (29 + m)) (pk_m1 (29 + m)) (ih (by omega)))⟩
theorem yw_nv {post : SY → Prop} {kp : Nat} (hk : kp ≤ 6) (hp : post (y_limit, y_eventCount, y_waiting, y_refund, y_depth, y_ended, y_answer, y_rest, y_begun, y_result, y_used, y_calls, y_version + 1, nI (if 6 ≤ kp then kp else kp + 1), x_op, x_arg, y_lengths, y_now, y_copies, zy_c (zy_d y_older 29) y_before 0 30, y_before, y_warm, y_warmCopies, y_eventCopies, y_messageCopies, y_refundCopies, y_events, y_messages, y_self, y_caller, y_amounts, y_arguments, y_given, y_left, y_at, y_tops, y_stack)) : wpY_newVersion post (y_limit, y_eventCount, y_waiting, y_refund, y_depth, y_ended, y_answer, y_rest, y_begun, y_result, y_used, y_calls, y_version, nI kp, x_op, x_arg, y_lengths, y_now, y_copies, y_older, y_before, y_warm, y_warmCopies, y_eventCopies, y_messageCopies, y_refundCopies, y_events, y_messages, y_self, y_caller, y_amounts, y_arguments, y_given, y_left, y_at, y_tops, y_stack) := by
  have h33 := yw_nv33 (y_older := zy_d y_older 29) hk hp 30 0 (by omega)
  rw [zy_c0] at h33
  have h4 := yw_nv4 (y_older := y_older) (y_kept := nI kp) ⟨31, h33⟩ 150 (by omega)
  rw [zy_d0] at h4
  exact ⟨151, h4⟩
end
end
section
/-! call -/
def zx_C (post : Int32 → SX → Prop) (E : Int32) (dg : Int64) (x8 : Int32) (n : Nat) (u : SX) : Prop := match u with
  | (x_limit, x_pending, x_digest, x_journal, x_warm, x_refund, x_mails, x_ring, x_kept, x_version, x_events, x_depth, x_self, x_left, x_pc, x_sp, x_base, x_lastStatus, x_lastResult, x_lastUsed, x_lastCalls, x_op, x_arg, x_length, x_blockLength, x_blockCost, x_blockMost, x_blockNeed, x_blockRise, x_state, x_weight, x_journalCell, x_journalOld, x_mailTo, x_mailFrom, x_mailAmount, x_mailArg, x_oldCell, x_oldValue, x_oldCount, x_oldDigest, x_eventAccount, x_eventTag, x_eventValue, x_frameSelf, x_frameCaller, x_frameAmount, x_frameArg, x_frameGiven, x_frameLeft, x_framePc, x_frameSp, x_frameJournal, x_frameEvents, x_frameWarm, x_frameRefund, x_frameMails, x_stack) => wX_call_118 post E dg x8 n x_limit x_pending x_digest x_journal x_warm x_refund x_mails x_ring x_kept x_version x_events x_depth x_self x_left x_pc x_sp x_base x_lastStatus x_lastResult x_lastUsed x_lastCalls x_op x_arg x_length x_blockLength x_blockCost x_blockMost x_blockNeed x_blockRise x_state x_weight x_journalCell x_journalOld x_mailTo x_mailFrom x_mailAmount x_mailArg x_oldCell x_oldValue x_oldCount x_oldDigest x_eventAccount x_eventTag x_eventValue x_frameSelf x_frameCaller x_frameAmount x_frameArg x_frameGiven x_frameLeft x_framePc x_frameSp x_frameJournal x_frameEvents x_frameWarm x_frameRefund x_frameMails x_stack
def zy_C (post : Int32 → SY → Prop) (E x5 : Int32) (n : Nat) (v : SY) : Prop := match v with
  | (y_limit, y_eventCount, y_waiting, y_refund, y_depth, y_ended, y_answer, y_rest, y_begun, y_result, y_used, y_calls, y_version, y_kept, x_op, x_arg, y_lengths, y_now, y_copies, y_older, y_before, y_warm, y_warmCopies, y_eventCopies, y_messageCopies, y_refundCopies, y_events, y_messages, y_self, y_caller, y_amounts, y_arguments, y_given, y_left, y_at, y_tops, y_stack) => wY_call_132 post E x5 0 n y_limit y_eventCount y_waiting y_refund y_depth y_ended y_answer y_rest y_begun y_result y_used y_calls y_version y_kept x_op x_arg y_lengths y_now y_copies y_older y_before y_warm y_warmCopies y_eventCopies y_messageCopies y_refundCopies y_events y_messages y_self y_caller y_amounts y_arguments y_given y_left y_at y_tops y_stack
def zx_K (post : Int32 → SX → Prop) (E : Int32) (dg : Int64) : Int32 → SX → Prop := fun r u => match u with
  | (x_limit, x_pending, x_digest, x_journal, x_warm, x_refund, x_mails, x_ring, x_kept, x_version, x_events, x_depth, x_self, x_left, x_pc, x_sp, x_base, x_lastStatus, x_lastResult, x_lastUsed, x_lastCalls, x_op, x_arg, x_length, x_blockLength, x_blockCost, x_blockMost, x_blockNeed, x_blockRise, x_state, x_weight, x_journalCell, x_journalOld, x_mailTo, x_mailFrom, x_mailAmount, x_mailArg, x_oldCell, x_oldValue, x_oldCount, x_oldDigest, x_eventAccount, x_eventTag, x_eventValue, x_frameSelf, x_frameCaller, x_frameAmount, x_frameArg, x_frameGiven, x_frameLeft, x_framePc, x_frameSp, x_frameJournal, x_frameEvents, x_frameWarm, x_frameRefund, x_frameMails, x_stack) => ((r = 0 → ∃ n : Nat, wX_call_118 post E dg x_lastResult n x_limit x_pending x_digest x_journal x_warm x_refund x_mails x_ring x_kept x_version x_events x_depth x_self x_left x_pc x_sp x_base x_lastStatus x_lastResult x_lastUsed x_lastCalls x_op x_arg x_length x_blockLength x_blockCost x_blockMost x_blockNeed x_blockRise x_state x_weight x_journalCell x_journalOld x_mailTo x_mailFrom x_mailAmount x_mailArg x_oldCell x_oldValue x_oldCount x_oldDigest x_eventAccount x_eventTag x_eventValue x_frameSelf x_frameCaller x_frameAmount x_frameArg x_frameGiven x_frameLeft x_framePc x_frameSp x_frameJournal x_frameEvents x_frameWarm x_frameRefund x_frameMails x_stack) ∧ (¬ r = 0 → post r (x_limit, x_pending, x_digest, x_journal, x_warm, x_refund, x_mails, x_ring, x_kept, x_version, x_events, x_depth, x_self, x_left, x_pc, x_sp, x_base, x_lastStatus, x_lastResult, x_lastUsed, x_lastCalls, x_op, x_arg, x_length, x_blockLength, x_blockCost, x_blockMost, x_blockNeed, x_blockRise, x_state, x_weight, x_journalCell, x_journalOld, x_mailTo, x_mailFrom, x_mailAmount, x_mailArg, x_oldCell, x_oldValue, x_oldCount, x_oldDigest, x_eventAccount, x_eventTag, x_eventValue, x_frameSelf, x_frameCaller, x_frameAmount, x_frameArg, x_frameGiven, x_frameLeft, x_framePc, x_frameSp, x_frameJournal, x_frameEvents, x_frameWarm, x_frameRefund, x_frameMails, x_stack)))
def zy_K (post : Int32 → SY → Prop) (E x5 : Int32) : SY → Prop := fun v => match v with
  | (y_limit, y_eventCount, y_waiting, y_refund, y_depth, y_ended, y_answer, y_rest, y_begun, y_result, y_used, y_calls, y_version, y_kept, x_op, x_arg, y_lengths, y_now, y_copies, y_older, y_before, y_warm, y_warmCopies, y_eventCopies, y_messageCopies, y_refundCopies, y_events, y_messages, y_self, y_caller, y_amounts, y_arguments, y_given, y_left, y_at, y_tops, y_stack) => ((y_ended = 0 → ∃ n : Nat, wY_call_132 post E x5 y_ended n y_limit y_eventCount y_waiting y_refund y_depth y_ended y_answer y_rest y_begun y_answer y_used y_calls y_version y_kept x_op x_arg y_lengths y_now y_copies y_older y_before y_warm y_warmCopies y_eventCopies y_messageCopies y_refundCopies y_events y_messages y_self y_caller y_amounts y_arguments y_given y_left y_at y_tops y_stack) ∧ (¬ y_ended = 0 → wY_call_150 post E x5 y_ended y_limit y_eventCount y_waiting y_refund y_depth y_ended y_answer y_rest y_begun y_answer y_used y_calls y_version y_kept x_op x_arg y_lengths y_now y_copies y_older y_before y_warm y_warmCopies y_eventCopies y_messageCopies y_refundCopies y_events y_messages y_self y_caller y_amounts y_arguments y_given y_left y_at y_tops y_stack))
section
variable {x_limit x_pending x_journal x_refund x_mails x_ring x_kept x_version x_events x_depth x_self x_left x_pc x_sp x_base x_lastStatus x_lastResult x_lastUsed x_lastCalls : Int32} {x_digest x_warm : Int64} {x_op x_arg x_length x_blockLength x_blockCost x_blockMost x_blockNeed x_blockRise x_state x_journalCell x_journalOld x_mailTo x_mailFrom x_mailAmount x_mailArg x_oldCell x_oldValue x_oldCount x_eventAccount x_eventTag x_eventValue x_frameSelf x_frameCaller x_frameAmount x_frameArg x_frameGiven x_frameLeft x_framePc x_frameSp x_frameJournal x_frameEvents x_frameRefund x_frameMails x_stack : Nat → Int32} {x_weight x_oldDigest x_frameWarm : Nat → Int64}
variable {y_limit y_eventCount y_waiting y_refund y_depth y_ended y_answer y_rest y_begun y_result y_used y_calls y_version y_kept : Int32} {y_ops y_bs y_lengths y_now y_copies y_older y_before y_warm y_warmCopies y_eventCopies y_messageCopies y_refundCopies y_events y_messages y_self y_caller y_amounts y_arguments y_given y_left y_at y_tops y_stack : Nat → Int32}
variable {N G J0 lx px s p h L f J W e r : Nat} {ln sf gv jn ml kk hh pp : Nat → Nat} {B : Nat → Int32}
theorem zk_set0 {E : Nat} {x5 : Int32} (hPG : zr_PG ln x_op x_arg x_length x_blockLength x_blockCost x_blockMost x_blockNeed x_blockRise y_lengths) (hST : zr_ST x_state x_weight y_now) (hJR : zr_JR J x_journalCell x_journalOld x_state B (fun _ => 0) 0 y_copies) (hWM : zr_WM x_warm y_warm) (hBD : zr_BD N E 0 J W L r 0) (hML : zr_ML x_mailTo x_mailFrom x_mailAmount x_mailArg y_messages) (hEV : zr_EV e x_eventAccount x_eventTag x_eventValue y_events) (hVS : zr_VS B x_ring x_kept x_oldCell x_oldValue x_oldCount x_oldDigest y_older) (hMI : zr_MI x_limit x_pending (y_lengths 6)) (hBF : zr_BF B y_before) (hW0 : W = 0) : ∃ (u' : SX) (v' : SY), zr_I x_op x_arg ln u' v' ∧ (∀ post : Int32 → SX → Prop, post 0 u' → zx_C post (nI E) (zs_H B 30) y_result 1 (x_limit, x_pending, zs_H x_state 30, nI J, x_warm, nI r, nI W, x_ring, x_kept, x_version, nI e, 0, x_self, x_left, x_pc, x_sp, x_base, x_lastStatus, x_lastResult, nI (E - L), x_lastCalls, x_op, x_arg, x_length, x_blockLength, x_blockCost, x_blockMost, x_blockNeed, x_blockRise, x_state, x_weight, x_journalCell, x_journalOld, x_mailTo, x_mailFrom, x_mailAmount, x_mailArg, x_oldCell, x_oldValue, x_oldCount, x_oldDigest, x_eventAccount, x_eventTag, x_eventValue, x_frameSelf, x_frameCaller, x_frameAmount, x_frameArg, x_frameGiven, x_frameLeft, x_framePc, x_frameSp, x_frameJournal, x_frameEvents, x_frameWarm, x_frameRefund, x_frameMails, x_stack)) ∧ (∀ post : Int32 → SY → Prop, post 0 v' → zy_C post (nI E) x5 1 (x_limit, nI e, nI W, nI r, 0, y_ended, y_answer, nI L, x_lastCalls, y_result, y_used, y_calls, x_version, x_kept, x_op, x_arg, y_lengths, y_now, y_copies, y_older, y_before, y_warm, y_warmCopies, y_eventCopies, y_messageCopies, y_refundCopies, y_events, y_messages, y_self, y_caller, y_amounts, y_arguments, y_given, y_left, y_at, y_tops, y_stack)) := by
  subst hW0
  obtain ⟨d1, d2, d3, d4, d5, d6, _⟩ := id hBD
  obtain ⟨rg, kp, er, ek, hr6, hk6, hI⟩ := id hVS
  subst er ek
  obtain ⟨oc', ov', n', hn', hA, hc, ho, hX⟩ := xw_settle (x1 := zs_H B 30) (rg := rg) (kp := kp) (x_limit := x_limit) (x_pending := x_pending) (x_digest := zs_H x_state 30) (x_warm := x_warm) (x_refund := nI r) (x_mails := nI 0) (x_version := x_version) (x_events := nI e) (x_depth := 0) (x_self := x_self) (x_left := x_left) (x_pc := x_pc) (x_sp := x_sp) (x_base := x_base) (x_lastStatus := x_lastStatus) (x_lastResult := y_result) (x_lastUsed := nI (E - L)) (x_lastCalls := x_lastCalls) (x_op := x_op) (x_arg := x_arg) (x_length := x_length) (x_blockLength := x_blockLength) (x_blockCost := x_blockCost) (x_blockMost := x_blockMost) (x_blockNeed := x_blockNeed) (x_blockRise := x_blockRise) (x_state := x_state) (x_weight := x_weight) (x_mailTo := x_mailTo) (x_mailFrom := x_mailFrom) (x_mailAmount := x_mailAmount) (x_mailArg := x_mailArg) (x_oldCell := x_oldCell) (x_oldValue := x_oldValue) (x_oldCount := x_oldCount) (x_oldDigest := x_oldDigest) (x_eventAccount := x_eventAccount) (x_eventTag := x_eventTag) (x_eventValue := x_eventValue) (x_frameSelf := x_frameSelf) (x_frameCaller := x_frameCaller) (x_frameAmount := x_frameAmount) (x_frameArg := x_frameArg) (x_frameGiven := x_frameGiven) (x_frameLeft := x_frameLeft) (x_framePc := x_framePc) (x_frameSp := x_frameSp) (x_frameJournal := x_frameJournal) (x_frameEvents := x_frameEvents) (x_frameWarm := x_frameWarm) (x_frameRefund := x_frameRefund) (x_frameMails := x_frameMails) (x_stack := x_stack) hr6 hk6 hJR.1 (by omega)
  have hVB : zs_V B := by rw [← hJR.2.1]; exact zj_U_V hJR.1 (by omega) hST.2.1
  refine ⟨(x_limit, x_pending, zs_H x_state 30, nI J, x_warm, nI r, nI 0, nI (zv_rg rg), nI (if 6 ≤ kp then kp else kp + 1), x_version + 1, nI e, 0, x_self, x_left, x_pc, x_sp, x_base, x_lastStatus, y_result, zx_lu (nI (E - L)) (nI r), x_lastCalls, x_op, x_arg, x_length, x_blockLength, x_blockCost, x_blockMost, x_blockNeed, x_blockRise, x_state, x_weight, x_journalCell, x_journalOld, x_mailTo, x_mailFrom, x_mailAmount, x_mailArg, oc', ov', upd x_oldCount (zv_rg rg) (nI n'), vp_updL x_oldDigest (zv_rg rg) (zs_H B 30), x_eventAccount, x_eventTag, x_eventValue, x_frameSelf, x_frameCaller, x_frameAmount, x_frameArg, x_frameGiven, x_frameLeft, x_framePc, x_frameSp, x_frameJournal, x_frameEvents, x_frameWarm, x_frameRefund, x_frameMails, x_stack), (x_limit, nI e, nI 0, nI r, 0, y_ended, y_answer, nI L, x_lastCalls, y_result, zx_lu (nI (E - L)) (nI r), x_lastCalls, x_version + 1, nI (if 6 ≤ kp then kp else kp + 1), x_op, x_arg, y_lengths, y_now, y_copies, zy_c (zy_d y_older 29) y_before 0 30, y_before, y_warm, y_warmCopies, y_eventCopies, y_messageCopies, y_refundCopies, y_events, y_messages, y_self, y_caller, y_amounts, y_arguments, y_given, y_left, y_at, y_tops, y_stack), ?_, fun post hp => ?_, fun post hp => ?_⟩
  · refine zr_I_mk hPG hST hML hEV (zl_VSnew hr6 hk6 hI hVB ?_ hn' hc ho hBF) hMI
    rw [hA]
    exact hJR.2.1
  · exact br_t (nI_le (a := 0) (b := 0) (by omega) (by omega)) (hX _ hp)
  · refine br_t (nI_le (a := 0) (b := 0) (by omega) (by omega)) (yw_nv hk6 ?_)
    refine br_f (by decide) (yw_162z ?_)
    rw [pk_sub d3]
    exact hp
end
theorem zk_loop {y_result : Int32} {x_op x_arg : Nat → Int32} {ln : Nat → Nat} {B : Nat → Int32} {E : Nat} {x5 : Int32} : ∀ (N : Nat) (u : SX) (v : SY), zr_Q y_result x_op x_arg ln B N E u v → ∃ (u' : SX) (v' : SY), zr_I x_op x_arg ln u' v' ∧ (∀ post : Int32 → SX → Prop, post 0 u' → ∃ n, zx_C post (nI E) (zs_H B 30) y_result n u) ∧ (∀ post : Int32 → SY → Prop, post 0 v' → ∃ n, zy_C post (nI E) x5 n v) := by
  intro N
  induction N using Nat.strongRecOn with
  | _ N ih =>
    intro u v hQ
    refine zr_Q_el (P := fun u v => ∃ (u' : SX) (v' : SY), zr_I x_op x_arg ln u' v' ∧ (∀ post : Int32 → SX → Prop, post 0 u' → ∃ n, zx_C post (nI E) (zs_H B 30) y_result n u) ∧ (∀ post : Int32 → SY → Prop, post 0 v' → ∃ n, zy_C post (nI E) x5 n v)) ?_ hQ
    clear hQ u v
    intro J W e r L x_pending x_warm x_ring x_kept x_version x_self x_left x_pc x_sp x_base x_lastStatus x_lastResult x_lastCalls x_limit x_length x_blockLength x_blockCost x_blockMost x_blockNeed x_blockRise x_state x_weight x_journalCell x_journalOld x_mailTo x_mailFrom x_mailAmount x_mailArg x_oldCell x_oldValue x_oldCount x_oldDigest x_eventAccount x_eventTag x_eventValue x_frameSelf x_frameCaller x_frameAmount x_frameArg x_frameGiven x_frameLeft x_framePc x_frameSp x_frameJournal x_frameEvents x_frameWarm x_frameRefund x_frameMails x_stack y_ended y_answer y_used y_calls y_lengths y_now y_copies y_older y_before y_warm y_warmCopies y_eventCopies y_messageCopies y_refundCopies y_events y_messages y_self y_caller y_amounts y_arguments y_given y_left y_at y_tops y_stack hPG hST hJR hWM hBD hML hEV hVS hMI hBF
    rcases Nat.eq_zero_or_pos W with hW | hW
    · obtain ⟨u', v', h1, h2, h3⟩ := zk_set0 (x5 := x5) (x_self := x_self) (x_left := x_left) (x_pc := x_pc) (x_sp := x_sp) (x_base := x_base) (x_lastStatus := x_lastStatus) (x_lastResult := x_lastResult) (x_lastCalls := x_lastCalls) (x_version := x_version) (y_result := y_result) (y_ended := y_ended) (y_answer := y_answer) (y_used := y_used) (y_calls := y_calls) (x_frameSelf := x_frameSelf) (x_frameCaller := x_frameCaller) (x_frameAmount := x_frameAmount) (x_frameArg := x_frameArg) (x_frameGiven := x_frameGiven) (x_frameLeft := x_frameLeft) (x_framePc := x_framePc) (x_frameSp := x_frameSp) (x_frameJournal := x_frameJournal) (x_frameEvents := x_frameEvents) (x_frameWarm := x_frameWarm) (x_frameRefund := x_frameRefund) (x_frameMails := x_frameMails) (x_stack := x_stack) (y_warmCopies := y_warmCopies) (y_eventCopies := y_eventCopies) (y_messageCopies := y_messageCopies) (y_refundCopies := y_refundCopies) (y_self := y_self) (y_caller := y_caller) (y_amounts := y_amounts) (y_arguments := y_arguments) (y_given := y_given) (y_left := y_left) (y_at := y_at) (y_tops := y_tops) (y_stack := y_stack) hPG hST hJR hWM hBD hML hEV hVS hMI hBF hW
      exact ⟨u', v', h1, fun post hp => ⟨1, h2 post hp⟩, fun post hp => ⟨1, h3 post hp⟩⟩
    · obtain ⟨u1, v1, N', hN', hQ1, hX, hY⟩ := zk_del (w := W - 1) (x_self := x_self) (x_left := x_left) (x_pc := x_pc) (x_sp := x_sp) (x_base := x_base) (x_lastStatus := x_lastStatus) (x_lastResult := x_lastResult) (x_lastCalls := x_lastCalls) (x_version := x_version) (y_result := y_result) (y_ended := y_ended) (y_answer := y_answer) (y_used := y_used) (y_calls := y_calls) (x_frameSelf := x_frameSelf) (x_frameCaller := x_frameCaller) (x_frameAmount := x_frameAmount) (x_frameArg := x_frameArg) (x_frameGiven := x_frameGiven) (x_frameLeft := x_frameLeft) (x_framePc := x_framePc) (x_frameSp := x_frameSp) (x_frameJournal := x_frameJournal) (x_frameEvents := x_frameEvents) (x_frameWarm := x_frameWarm) (x_frameRefund := x_frameRefund) (x_frameMails := x_frameMails) (x_stack := x_stack) (y_warmCopies := y_warmCopies) (y_eventCopies := y_eventCopies) (y_messageCopies := y_messageCopies) (y_refundCopies := y_refundCopies) (y_self := y_self) (y_caller := y_caller) (y_amounts := y_amounts) (y_arguments := y_arguments) (y_given := y_given) (y_left := y_left) (y_at := y_at) (y_tops := y_tops) (y_stack := y_stack) hPG hST hJR hWM hBD hML hEV hVS hMI hBF (by omega)
      obtain ⟨u', v', h1, h2, h3⟩ := ih N' hN' u1 v1 hQ1
      have hW6 : W ≤ 6 := hBD.2.2.2.2.1
      refine ⟨u', v', h1, fun post hp => ?_, fun post hp => ?_⟩
      · obtain ⟨n, hn⟩ := h2 post hp
        exact ⟨n + 1, br_f (nI_nle hW (by omega)) (hX (zx_C post (nI E) (zs_H B 30) y_result n) hn)⟩
      · obtain ⟨n, hn⟩ := h3 post hp
        exact ⟨n + 1, br_f (nI_nle hW (by omega)) (hY (zy_C post (nI E) x5 n) hn)⟩
/-- from the end of the outermost call to the answer -/
theorem zk_after {y_result : Int32} {x_op x_arg : Nat → Int32} {ln : Nat → Nat} {B : Nat → Int32} {N E st : Nat} {x5 : Int32} {u : SX} {v : SY} (hD : zr_D y_result x_op x_arg ln B N E 0 st u v) : ∃ (u' : SX) (v' : SY), zr_I x_op x_arg ln u' v' ∧ (∀ post : Int32 → SX → Prop, post (nI st) u' → zx_K post (nI E) (zs_H B 30) (nI st) u) ∧ (∀ post : Int32 → SY → Prop, post (nI st) v' → zy_K post (nI E) x5 v) := by
  refine zr_D_el (P := fun u v => ∃ (u' : SX) (v' : SY), zr_I x_op x_arg ln u' v' ∧ (∀ post : Int32 → SX → Prop, post (nI st) u' → zx_K post (nI E) (zs_H B 30) (nI st) u) ∧ (∀ post : Int32 → SY → Prop, post (nI st) v' → zy_K post (nI E) x5 v)) ?_ hD
  clear hD u v
  intro J W e r L x_pending x_warm x_ring x_kept x_version x_self x_left x_pc x_sp x_base x_lastResult x_lastCalls x_limit x_length x_blockLength x_blockCost x_blockMost x_blockNeed x_blockRise x_state x_weight x_journalCell x_journalOld x_mailTo x_mailFrom x_mailAmount x_mailArg x_oldCell x_oldValue x_oldCount x_oldDigest x_eventAccount x_eventTag x_eventValue x_frameSelf x_frameCaller x_frameAmount x_frameArg x_frameGiven x_frameLeft x_framePc x_frameSp x_frameJournal x_frameEvents x_frameWarm x_frameRefund x_frameMails x_stack y_used y_calls y_lengths y_now y_copies y_older y_before y_warm y_warmCopies y_eventCopies y_messageCopies y_refundCopies y_events y_messages y_self y_caller y_amounts y_arguments y_given y_left y_at y_tops y_stack hPG hST hJR hWM hBD hML hEV hVS hMI hBF
  obtain ⟨d1, d2, d3, d4, d5, d6, d7, d8⟩ := id hBD
  by_cases z : st = 0
  · subst z
    have hQ : zr_Q x_lastResult x_op x_arg ln B N E (x_limit, x_pending, zs_H x_state 30, nI J, x_warm, nI r, nI W, x_ring, x_kept, x_version, nI e, 0, x_self, x_left, x_pc, x_sp, x_base, nI 0, x_lastResult, nI (E - L), x_lastCalls, x_op, x_arg, x_length, x_blockLength, x_blockCost, x_blockMost, x_blockNeed, x_blockRise, x_state, x_weight, x_journalCell, x_journalOld, x_mailTo, x_mailFrom, x_mailAmount, x_mailArg, x_oldCell, x_oldValue, x_oldCount, x_oldDigest, x_eventAccount, x_eventTag, x_eventValue, x_frameSelf, x_frameCaller, x_frameAmount, x_frameArg, x_frameGiven, x_frameLeft, x_framePc, x_frameSp, x_frameJournal, x_frameEvents, x_frameWarm, x_frameRefund, x_frameMails, x_stack) (x_limit, nI e, nI W, nI r, 0, nI 0, x_lastResult, nI L, x_lastCalls, x_lastResult, y_used, y_calls, x_version, x_kept, x_op, x_arg, y_lengths, y_now, y_copies, y_older, y_before, y_warm, y_warmCopies, y_eventCopies, y_messageCopies, y_refundCopies, y_events, y_messages, y_self, y_caller, y_amounts, y_arguments, y_given, y_left, y_at, y_tops, y_stack) := zr_Q_mk hPG hST hJR hWM ⟨d1, d2, d3, d4, d5, d6, by omega, fun n => absurd rfl n⟩ hML hEV hVS hMI hBF
    obtain ⟨u', v', h1, h2, h3⟩ := zk_loop (x5 := x5) N _ _ hQ
    refine ⟨u', v', h1, fun post hp => ?_, fun post hp => ?_⟩
    · obtain ⟨n, hn⟩ := h2 post hp
      exact br_t rfl ⟨n, hn⟩
    · obtain ⟨n, hn⟩ := h3 post hp
      exact br_t rfl ⟨n, hn⟩
  · have hJ0 := d8 z
    subst hJ0
    have hB : x_state = B := hJR.2.1
    subst hB
    have hne : ¬ nI st = 0 := nI_ne0 (by omega) (by omega)
    refine ⟨(x_limit, x_pending, zs_H x_state 30, nI 0, x_warm, nI r, nI W, x_ring, x_kept, x_version, nI e, 0, x_self, x_left, x_pc, x_sp, x_base, nI st, x_lastResult, nI (E - L), x_lastCalls, x_op, x_arg, x_length, x_blockLength, x_blockCost, x_blockMost, x_blockNeed, x_blockRise, x_state, x_weight, x_journalCell, x_journalOld, x_mailTo, x_mailFrom, x_mailAmount, x_mailArg, x_oldCell, x_oldValue, x_oldCount, x_oldDigest, x_eventAccount, x_eventTag, x_eventValue, x_frameSelf, x_frameCaller, x_frameAmount, x_frameArg, x_frameGiven, x_frameLeft, x_framePc, x_frameSp, x_frameJournal, x_frameEvents, x_frameWarm, x_frameRefund, x_frameMails, x_stack), (x_limit, nI e, nI W, nI r, 0, nI st, x_lastResult, nI L, x_lastCalls, x_lastResult, nI (E - L), x_lastCalls, x_version, x_kept, x_op, x_arg, y_lengths, y_now, y_copies, y_older, y_before, y_warm, y_warmCopies, y_eventCopies, y_messageCopies, y_refundCopies, y_events, y_messages, y_self, y_caller, y_amounts, y_arguments, y_given, y_left, y_at, y_tops, y_stack), zr_I_mk hPG hST hML hEV hVS hMI, fun post hp => br_f hne hp, fun post hp => br_f hne ?_⟩
    refine br_f (fun e => ?_) (yw_162n hne ?_)
    · have := (nI_eq (b := 4) (by omega) (by omega)).mp e
      omega
    · rw [pk_sub d3]
      exact hp
end
section
/-! the relation, and call -/
/-- the relation: the same programs, the same store, the versions' entries against the older copies -/
def i_Rel (k : Nat) (u : SX) (v : SY) : Prop := ∃ (x_op x_arg : Nat → Int32) (ln : Nat → Nat), zr_I x_op x_arg ln u v
theorem i_up {k : Nat} {u : SX} {v : SY} (h : i_Rel k u v) : i_Rel (k + 5) u v := h
section
variable {x_limit x_pending x_journal x_refund x_mails x_ring x_kept x_version x_events x_depth x_self x_left x_pc x_sp x_base x_lastStatus x_lastResult x_lastUsed x_lastCalls : Int32} {x_digest x_warm : Int64} {x_op x_arg x_length x_blockLength x_blockCost x_blockMost x_blockNeed x_blockRise x_state x_journalCell x_journalOld x_mailTo x_mailFrom x_mailAmount x_mailArg x_oldCell x_oldValue x_oldCount x_eventAccount x_eventTag x_eventValue x_frameSelf x_frameCaller x_frameAmount x_frameArg x_frameGiven x_frameLeft x_framePc x_frameSp x_frameJournal x_frameEvents x_frameRefund x_frameMails x_stack : Nat → Int32} {x_weight x_oldDigest x_frameWarm : Nat → Int64}
variable {y_limit y_eventCount y_waiting y_refund y_depth y_ended y_answer y_rest y_begun y_result y_used y_calls y_version y_kept : Int32} {y_ops y_bs y_lengths y_now y_copies y_older y_before y_warm y_warmCopies y_eventCopies y_messageCopies y_refundCopies y_events y_messages y_self y_caller y_amounts y_arguments y_given y_left y_at y_tops y_stack : Nat → Int32}
variable {N G J0 lx px s p h L f J W e r : Nat} {ln sf gv jn ml kk hh pp : Nat → Nat} {B : Nat → Int32}
theorem yw_c56 {post : Int32 → SY → Prop} {x1 x2 x3 x4 x5 : Int32} (hp : wpY_perform (zy_K post x4 x5) (y_limit, 0, 0, 0, y_depth, y_ended, y_answer, y_rest, 0, y_result, y_used, y_calls, y_version, y_kept, x_op, x_arg, y_lengths, y_now, y_copies, y_older, zy_c y_before y_now 0 30, y_warm, y_warmCopies, y_eventCopies, y_messageCopies, y_refundCopies, y_events, y_messages, y_self, y_caller, y_amounts, y_arguments, y_given, y_left, y_at, y_tops, y_stack) x1 x2 x3 (-1) x4) : ∀ k i, i + k = 30 → wY_call_56 post x1 x2 x3 x4 x5 y_limit y_eventCount y_waiting y_refund y_depth y_ended y_answer y_rest y_begun y_result y_used y_calls y_version y_kept (k + 1) (nI i) x_op x_arg y_lengths y_now y_copies y_older (zy_c y_before y_now 0 i) y_warm y_warmCopies y_eventCopies y_messageCopies y_refundCopies y_events y_messages y_self y_caller y_amounts y_arguments y_given y_left y_at y_tops y_stack := by
  intro k
  induction k with
  | zero =>
    intro i hk
    have e : i = 30 := by omega
    subst e
    exact br_t (nI_le (a := 30) (b := 30) (by omega) (by omega)) hp
  | succ k ih =>
    intro i hk
    refine br_f (nI_ge (a := i) (b := 30) (by omega) (by omega)) ?_
    rw [nI_clamp (by omega : i < 2 ^ 31)]
    have e0 : y_now i = y_now (0 + i) := by rw [Nat.zero_add]
    rw [e0, zy_cS]
    exact ⟨vp_in_nI (by omega) (by omega), vp_in_nI (by omega) (by omega), nm_e (nm_r (nI_1 i) (ih (i + 1) (by omega)))⟩
theorem yw_c32 {post : Int32 → SY → Prop} {x1 x2 x3 x4 x5 : Int32} (hp : wpY_perform (zy_K post x4 x5) (y_limit, 0, 0, 0, y_depth, y_ended, y_answer, y_rest, 0, y_result, y_used, y_calls, y_version, y_kept, x_op, x_arg, y_lengths, y_now, y_copies, y_older, zy_c y_before y_now 0 30, zy_c y_warm (fun _ => 0) 0 24, y_warmCopies, y_eventCopies, y_messageCopies, y_refundCopies, y_events, y_messages, y_self, y_caller, y_amounts, y_arguments, y_given, y_left, y_at, y_tops, y_stack) x1 x2 x3 (-1) x4) : ∀ k i, i + k = 24 → wY_call_32 post x1 x2 x3 x4 x5 y_limit y_eventCount y_waiting y_refund y_depth y_ended y_answer y_rest y_begun y_result y_used y_calls y_version y_kept (k + 1) (nI i) x_op x_arg y_lengths y_now y_copies y_older y_before (zy_c y_warm (fun _ => 0) 0 i) y_warmCopies y_eventCopies y_messageCopies y_refundCopies y_events y_messages y_self y_caller y_amounts y_arguments y_given y_left y_at y_tops y_stack := by
  intro k
  induction k with
  | zero =>
    intro i hk
    have e : i = 24 := by omega
    subst e
    refine br_t (nI_le (a := 24) (b := 24) (by omega) (by omega)) ⟨31, ?_⟩
    have := yw_c56 (y_eventCount := y_eventCount) (y_waiting := y_waiting) (y_refund := y_refund) (y_begun := y_begun) hp 30 0 (by omega)
    rw [zy_c0] at this
    exact this
  | succ k ih =>
    intro i hk
    refine br_f (nI_ge (a := i) (b := 24) (by omega) (by omega)) ?_
    have e0 : upd (zy_c y_warm (fun _ => 0) 0 i) i 0 = zy_c y_warm (fun _ => 0) 0 (i + 1) := zy_cS
    rw [nI_clamp (by omega : i < 2 ^ 31), zn_b0, e0]
    exact ⟨vp_in_nI (by omega) (by omega), nm_e (nm_r (nI_1 i) (ih (i + 1) (by omega)))⟩
theorem xw_call {x_dg : Int64} {post : Int32 → SX → Prop} {a en lm : Nat} {p1 p2 : Int32} (ha : a < 6) (hl : lm ≤ 400) (hen : en ≤ lm) (hp : wpX_enter (fun r u => match u with | (x_limit, x_pending, x_digest, x_journal, x_warm, x_refund, x_mails, x_ring, x_kept, x_version, x_events, x_depth, x_self, x_left, x_pc, x_sp, x_base, x_lastStatus, x_lastResult, x_lastUsed, x_lastCalls, x_op, x_arg, x_length, x_blockLength, x_blockCost, x_blockMost, x_blockNeed, x_blockRise, x_state, x_weight, x_journalCell, x_journalOld, x_mailTo, x_mailFrom, x_mailAmount, x_mailArg, x_oldCell, x_oldValue, x_oldCount, x_oldDigest, x_eventAccount, x_eventTag, x_eventValue, x_frameSelf, x_frameCaller, x_frameAmount, x_frameArg, x_frameGiven, x_frameLeft, x_framePc, x_frameSp, x_frameJournal, x_frameEvents, x_frameWarm, x_frameRefund, x_frameMails, x_stack) => ((r = 0 → post 4 (x_limit, x_pending, x_digest, x_journal, x_warm, x_refund, x_mails, x_ring, x_kept, x_version, x_events, x_depth, x_self, x_left, x_pc, x_sp, x_base, x_lastStatus, x_lastResult, x_lastUsed, x_lastCalls, x_op, x_arg, x_length, x_blockLength, x_blockCost, x_blockMost, x_blockNeed, x_blockRise, x_state, x_weight, x_journalCell, x_journalOld, x_mailTo, x_mailFrom, x_mailAmount, x_mailArg, x_oldCell, x_oldValue, x_oldCount, x_oldDigest, x_eventAccount, x_eventTag, x_eventValue, x_frameSelf, x_frameCaller, x_frameAmount, x_frameArg, x_frameGiven, x_frameLeft, x_framePc, x_frameSp, x_frameJournal, x_frameEvents, x_frameWarm, x_frameRefund, x_frameMails, x_stack)) ∧ (¬ r = 0 → ∀ y : Nat → Int32, y = upd x_frameEvents 0 (vp_nar .byte 0) → wpX_finishAll (zx_K post (nI en) x_dg) (x_limit, x_pending, x_digest, x_journal, x_warm, x_refund, x_mails, x_ring, x_kept, x_version, 0, x_depth, x_self, x_left, x_pc, x_sp, x_base, x_lastStatus, x_lastResult, x_lastUsed, x_lastCalls, x_op, x_arg, x_length, x_blockLength, x_blockCost, x_blockMost, x_blockNeed, x_blockRise, x_state, x_weight, x_journalCell, x_journalOld, x_mailTo, x_mailFrom, x_mailAmount, x_mailArg, x_oldCell, x_oldValue, x_oldCount, x_oldDigest, x_eventAccount, x_eventTag, x_eventValue, x_frameSelf, x_frameCaller, x_frameAmount, x_frameArg, x_frameGiven, x_frameLeft, x_framePc, x_frameSp, x_frameJournal, y, x_frameWarm, x_frameRefund, x_frameMails, x_stack)))) (nI lm, x_pending, x_dg, 0, 0, 0, 0, x_ring, x_kept, x_version, x_events, 0, x_self, x_left, x_pc, x_sp, x_base, x_lastStatus, 0, 0, 0, x_op, x_arg, x_length, x_blockLength, x_blockCost, x_blockMost, x_blockNeed, x_blockRise, x_state, x_weight, x_journalCell, x_journalOld, x_mailTo, x_mailFrom, x_mailAmount, x_mailArg, x_oldCell, x_oldValue, x_oldCount, x_oldDigest, x_eventAccount, x_eventTag, x_eventValue, x_frameSelf, x_frameCaller, x_frameAmount, x_frameArg, x_frameGiven, x_frameLeft, x_framePc, x_frameSp, x_frameJournal, x_frameEvents, x_frameWarm, x_frameRefund, x_frameMails, x_stack) (nI a) (-1) p1 p2 (nI en)) : wpX_call post (nI lm, x_pending, x_dg, x_journal, x_warm, x_refund, x_mails, x_ring, x_kept, x_version, x_events, x_depth, x_self, x_left, x_pc, x_sp, x_base, x_lastStatus, x_lastResult, x_lastUsed, x_lastCalls, x_op, x_arg, x_length, x_blockLength, x_blockCost, x_blockMost, x_blockNeed, x_blockRise, x_state, x_weight, x_journalCell, x_journalOld, x_mailTo, x_mailFrom, x_mailAmount, x_mailArg, x_oldCell, x_oldValue, x_oldCount, x_oldDigest, x_eventAccount, x_eventTag, x_eventValue, x_frameSelf, x_frameCaller, x_frameAmount, x_frameArg, x_frameGiven, x_frameLeft, x_framePc, x_frameSp, x_frameJournal, x_frameEvents, x_frameWarm, x_frameRefund, x_frameMails, x_stack) (nI a) p1 p2 (nI en) := by
  unfold wpX_call
  dsimp only
  refine xw_outN (n := 6) (by omega) (fun _ _ _ => br_t rfl ?_) (fun z => ?_)
  · rw [nI_1]
    refine xw_outN (n := lm + 1) (by omega) (fun _ _ _ => br_t rfl hp) (fun z => ?_)
    exfalso
    rcases z with z | z
    · exact nI_pos (by omega) z
    · exact nI_ge (by omega) (by omega) z
  · exfalso
    rcases z with z | z
    · exact nI_pos (by omega) z
    · exact nI_ge (b := 6) ha (by omega) z
theorem zk_callI (hPG : zr_PG ln x_op x_arg x_length x_blockLength x_blockCost x_blockMost x_blockNeed x_blockRise y_lengths) (hST : zr_ST x_state x_weight y_now) (hML : zr_ML x_mailTo x_mailFrom x_mailAmount x_mailArg y_messages) (hEV : zr_EV e x_eventAccount x_eventTag x_eventValue y_events) (hVS : zr_VS x_state x_ring x_kept x_oldCell x_oldValue x_oldCount x_oldDigest y_older) (hMI : zr_MI x_limit x_pending (y_lengths 6)) (p0 p1 p2 p3 : Int32) : ∃ (rr : Int32) (u' : SX) (v' : SY), zr_I x_op x_arg ln u' v' ∧ (∀ post : Int32 → SX → Prop, post rr u' → wpX_call post (x_limit, x_pending, zs_H x_state 30, x_journal, x_warm, x_refund, x_mails, x_ring, x_kept, x_version, nI e, x_depth, x_self, x_left, x_pc, x_sp, x_base, x_lastStatus, x_lastResult, x_lastUsed, x_lastCalls, x_op, x_arg, x_length, x_blockLength, x_blockCost, x_blockMost, x_blockNeed, x_blockRise, x_state, x_weight, x_journalCell, x_journalOld, x_mailTo, x_mailFrom, x_mailAmount, x_mailArg, x_oldCell, x_oldValue, x_oldCount, x_oldDigest, x_eventAccount, x_eventTag, x_eventValue, x_frameSelf, x_frameCaller, x_frameAmount, x_frameArg, x_frameGiven, x_frameLeft, x_framePc, x_frameSp, x_frameJournal, x_frameEvents, x_frameWarm, x_frameRefund, x_frameMails, x_stack) p0 p1 p2 p3) ∧ (∀ post : Int32 → SY → Prop, post rr v' → wpY_call post (x_limit, nI e, y_waiting, y_refund, y_depth, y_ended, y_answer, y_rest, y_begun, x_lastResult, x_lastUsed, x_lastCalls, x_version, x_kept, x_op, x_arg, y_lengths, y_now, y_copies, y_older, y_before, y_warm, y_warmCopies, y_eventCopies, y_messageCopies, y_refundCopies, y_events, y_messages, y_self, y_caller, y_amounts, y_arguments, y_given, y_left, y_at, y_tops, y_stack) p0 p1 p2 p3) := by
  obtain ⟨⟨lm, l20, l400, elm⟩, hpd⟩ := id hMI
  subst elm
  have bad : ∀ (hbad : (p0 < 0 ∨ 6 ≤ p0) ∨ (p3 < 0 ∨ nI (lm + 1) ≤ p3)), (∀ post : Int32 → SX → Prop, post (-1) (nI lm, x_pending, zs_H x_state 30, x_journal, x_warm, x_refund, x_mails, x_ring, x_kept, x_version, nI e, x_depth, x_self, x_left, x_pc, x_sp, x_base, x_lastStatus, x_lastResult, x_lastUsed, x_lastCalls, x_op, x_arg, x_length, x_blockLength, x_blockCost, x_blockMost, x_blockNeed, x_blockRise, x_state, x_weight, x_journalCell, x_journalOld, x_mailTo, x_mailFrom, x_mailAmount, x_mailArg, x_oldCell, x_oldValue, x_oldCount, x_oldDigest, x_eventAccount, x_eventTag, x_eventValue, x_frameSelf, x_frameCaller, x_frameAmount, x_frameArg, x_frameGiven, x_frameLeft, x_framePc, x_frameSp, x_frameJournal, x_frameEvents, x_frameWarm, x_frameRefund, x_frameMails, x_stack) → wpX_call post (nI lm, x_pending, zs_H x_state 30, x_journal, x_warm, x_refund, x_mails, x_ring, x_kept, x_version, nI e, x_depth, x_self, x_left, x_pc, x_sp, x_base, x_lastStatus, x_lastResult, x_lastUsed, x_lastCalls, x_op, x_arg, x_length, x_blockLength, x_blockCost, x_blockMost, x_blockNeed, x_blockRise, x_state, x_weight, x_journalCell, x_journalOld, x_mailTo, x_mailFrom, x_mailAmount, x_mailArg, x_oldCell, x_oldValue, x_oldCount, x_oldDigest, x_eventAccount, x_eventTag, x_eventValue, x_frameSelf, x_frameCaller, x_frameAmount, x_frameArg, x_frameGiven, x_frameLeft, x_framePc, x_frameSp, x_frameJournal, x_frameEvents, x_frameWarm, x_frameRefund, x_frameMails, x_stack) p0 p1 p2 p3) ∧ (∀ post : Int32 → SY → Prop, post (-1) (nI lm, nI e, y_waiting, y_refund, y_depth, y_ended, y_answer, y_rest, y_begun, x_lastResult, x_lastUsed, x_lastCalls, x_version, x_kept, x_op, x_arg, y_lengths, y_now, y_copies, y_older, y_before, y_warm, y_warmCopies, y_eventCopies, y_messageCopies, y_refundCopies, y_events, y_messages, y_self, y_caller, y_amounts, y_arguments, y_given, y_left, y_at, y_tops, y_stack) → wpY_call post (nI lm, nI e, y_waiting, y_refund, y_depth, y_ended, y_answer, y_rest, y_begun, x_lastResult, x_lastUsed, x_lastCalls, x_version, x_kept, x_op, x_arg, y_lengths, y_now, y_copies, y_older, y_before, y_warm, y_warmCopies, y_eventCopies, y_messageCopies, y_refundCopies, y_events, y_messages, y_self, y_caller, y_amounts, y_arguments, y_given, y_left, y_at, y_tops, y_stack) p0 p1 p2 p3) := by
    intro hbad
    refine ⟨fun post hp => ?_, fun post hp => ?_⟩
    · unfold wpX_call
      dsimp only
      refine xw_outN (n := 6) (by omega) (fun a ha ea => br_t rfl ?_) (fun z => br_f (by decide) hp)
      rw [nI_1]
      refine xw_outN (n := lm + 1) (by omega) (fun b hb eb => ?_) (fun z => br_f (by decide) hp)
      exfalso
      rw [ea, eb] at hbad
      rcases hbad with (z | z) | (z | z)
      · exact nI_pos (by omega) z
      · exact nI_ge (b := 6) ha (by omega) z
      · exact nI_pos (by omega) z
      · exact nI_ge hb (by omega) z
    · unfold wpY_call
      dsimp only
      refine yw_isAcc (fun a ha ea => br_f (by decide) ?_) (fun z => br_t rfl hp)
      refine br_c (fun _ => hp) (fun hn => br_c (fun hle => ?_) (fun _ => hp))
      exfalso
      obtain ⟨b, hb, rfl⟩ := nI_of hn
      rw [nI_leI hb (by omega)] at hle
      rw [ea] at hbad
      rcases hbad with (z | z) | (z | z)
      · exact nI_pos (by omega) z
      · exact nI_ge (b := 6) ha (by omega) z
      · exact nI_pos (by omega) z
      · exact nI_ge (by omega) (by omega) z
  rcases pk_ix p0 (n := 6) (by omega) with z | z | ⟨a, ha, ea⟩
  · exact ⟨-1, _, _, zr_I_mk hPG hST hML hEV hVS hMI, (bad (Or.inl (Or.inl z))).1, (bad (Or.inl (Or.inl z))).2⟩
  · exact ⟨-1, _, _, zr_I_mk hPG hST hML hEV hVS hMI, (bad (Or.inl (Or.inr z))).1, (bad (Or.inl (Or.inr z))).2⟩
  rcases pk_ix p3 (n := lm + 1) (by omega) with z | z | ⟨en, hen, ee⟩
  · exact ⟨-1, _, _, zr_I_mk hPG hST hML hEV hVS hMI, (bad (Or.inr (Or.inl z))).1, (bad (Or.inr (Or.inl z))).2⟩
  · exact ⟨-1, _, _, zr_I_mk hPG hST hML hEV hVS hMI, (bad (Or.inr (Or.inr z))).1, (bad (Or.inr (Or.inr z))).2⟩
  clear bad
  subst ea ee
  obtain ⟨la24, xla, yla⟩ := hPG.2.1 a ha
  have he20 := hEV.1
  have hWM : zr_WM 0 (zy_c y_warm (fun _ => 0) 0 24) := by
    intro k hk
    unfold zy_c
    rw [if_pos hk]
    simp
  have hBF : zr_BF x_state (zy_c y_before y_now 0 30) := by
    intro k hk
    unfold zy_c
    rw [if_pos hk, Nat.zero_add]
    exact hST.2.2 k hk
  have hJR : zr_JR 0 x_journalCell x_journalOld x_state x_state (fun _ => 0) 0 y_copies := ⟨fun k hk => absurd hk (by omega), rfl, fun g hg => absurd hg (by omega), fun i j hi hj => absurd hj (by omega)⟩
  have WY : ∀ post : Int32 → SY → Prop, wpY_perform (zy_K post (nI en) (nI e)) (nI lm, 0, 0, 0, y_depth, y_ended, y_answer, y_rest, 0, x_lastResult, x_lastUsed, x_lastCalls, x_version, x_kept, x_op, x_arg, y_lengths, y_now, y_copies, y_older, zy_c y_before y_now 0 30, zy_c y_warm (fun _ => 0) 0 24, y_warmCopies, y_eventCopies, y_messageCopies, y_refundCopies, y_events, y_messages, y_self, y_caller, y_amounts, y_arguments, y_given, y_left, y_at, y_tops, y_stack) (nI a) p1 p2 (-1) (nI en) → wpY_call post (nI lm, nI e, y_waiting, y_refund, y_depth, y_ended, y_answer, y_rest, y_begun, x_lastResult, x_lastUsed, x_lastCalls, x_version, x_kept, x_op, x_arg, y_lengths, y_now, y_copies, y_older, y_before, y_warm, y_warmCopies, y_eventCopies, y_messageCopies, y_refundCopies, y_events, y_messages, y_self, y_caller, y_amounts, y_arguments, y_given, y_left, y_at, y_tops, y_stack) (nI a) p1 p2 (nI en) := by
    intro post hp
    unfold wpY_call
    dsimp only
    refine yw_isAcc (fun a' ha' ea' => br_f (by decide) ?_) (fun z => ?_)
    · refine br_f (nI_pos (by omega)) (br_t (nI_le (by omega) (by omega)) ⟨25, ?_⟩)
      have := yw_c32 (y_eventCount := nI e) (y_waiting := y_waiting) (y_refund := y_refund) (y_begun := y_begun) hp 24 0 (by omega)
      rw [zy_c0] at this
      exact this
    · exfalso
      rcases z with z | z
      · exact nI_pos (by omega) z
      · exact nI_ge (b := 6) ha (by omega) z
  by_cases hP : zl_P x_state a 0 (-1) p1
  · obtain ⟨S, jc, jo, J', u0, v0, st, N', hN', hD, kX, g1, kY⟩ := zk_B (a := a) (en := en) (eo := e) (e := 0) (J := 0) (W := 0) (r := 0) (N := 2 * en) (B := x_state) (cl := -1) (am := p1) (ar := p2) (F := upd x_frameEvents 0 (nI e)) (y_result := x_lastResult) (x_limit := nI lm) (x_self := x_self) (x_left := x_left) (x_pc := x_pc) (x_sp := x_sp) (x_base := x_base) (x_lastStatus := x_lastStatus) (x_lastResult := 0) (x_lastUsed := 0) (x_lastCalls := 0) (x_version := x_version) (x_frameEvents := x_frameEvents) (x_frameSelf := x_frameSelf) (x_frameCaller := x_frameCaller) (x_frameAmount := x_frameAmount) (x_frameArg := x_frameArg) (x_frameGiven := x_frameGiven) (x_frameLeft := x_frameLeft) (x_framePc := x_framePc) (x_frameSp := x_frameSp) (x_frameJournal := x_frameJournal) (x_frameWarm := x_frameWarm) (x_frameRefund := x_frameRefund) (x_frameMails := x_frameMails) (x_stack := x_stack) (y_rest := y_rest) (y_ended := y_ended) (y_answer := y_answer) (y_used := x_lastUsed) (y_calls := x_lastCalls) (y_depth := y_depth) (y_warmCopies := y_warmCopies) (y_eventCopies := y_eventCopies) (y_messageCopies := y_messageCopies) (y_refundCopies := y_refundCopies) (y_self := y_self) (y_caller := y_caller) (y_amounts := y_amounts) (y_arguments := y_arguments) (y_given := y_given) (y_left := y_left) (y_at := y_at) (y_tops := y_tops) (y_stack := y_stack) hPG hST hJR hWM hML ⟨by omega, hEV.2⟩ hVS hMI hBF hP ha he20 (Or.inl rfl) (by omega) (by omega) (fun J' h1 h2 => by have := h2 rfl; omega) (by omega) (by omega) (by omega)
    obtain ⟨u', v', hI, h2, h3⟩ := zk_after (x5 := nI e) hD
    refine ⟨nI st, u', v', hI, fun post hp => ?_, fun post hp => WY post (kY _ (h3 post hp))⟩
    refine xw_call ha l400 (by omega) (xw_enterG (d := 0) hST.2.1 ha (by omega) (Or.inl rfl) (fun n => absurd hP n) (fun _ => ?_))
    refine xw_e47z (kX _ (br_f (by decide) (nm_r (e' := upd (upd x_frameEvents 0 (nI e)) 0 (nI 0)) (congrArg (upd (upd x_frameEvents 0 (nI e)) 0) (zn_nb (n := 0) (by omega))) ?_)))
    obtain ⟨n, hn⟩ := g1 _ 1 (zx_dn hD (h2 post hp))
    exact ⟨n, hn⟩
  · have ez : nI en - nI en = 0 := by rw [pk_sub (Nat.le_refl _), Nat.sub_self]; rfl
    refine ⟨4, (nI lm, x_pending, zs_H x_state 30, 0, 0, 0, 0, x_ring, x_kept, x_version, nI e, 0, x_self, x_left, x_pc, x_sp, x_base, x_lastStatus, 0, 0, 0, x_op, x_arg, x_length, x_blockLength, x_blockCost, x_blockMost, x_blockNeed, x_blockRise, x_state, x_weight, x_journalCell, x_journalOld, x_mailTo, x_mailFrom, x_mailAmount, x_mailArg, x_oldCell, x_oldValue, x_oldCount, x_oldDigest, x_eventAccount, x_eventTag, x_eventValue, x_frameSelf, x_frameCaller, x_frameAmount, x_frameArg, x_frameGiven, x_frameLeft, x_framePc, x_frameSp, x_frameJournal, x_frameEvents, x_frameWarm, x_frameRefund, x_frameMails, x_stack), (nI lm, nI e, 0, 0, 0, 4, 0, nI en, 0, 0, 0, 0, x_version, x_kept, x_op, x_arg, y_lengths, y_now, y_copies, y_older, zy_c y_before y_now 0 30, zy_c y_warm (fun _ => 0) 0 24, y_warmCopies, y_eventCopies, y_messageCopies, y_refundCopies, y_events, y_messages, y_self, y_caller, y_amounts, y_arguments, y_given, y_left, y_at, y_tops, y_stack), zr_I_mk hPG hST hML hEV hVS hMI, fun post hp => ?_, fun post hp => WY post ?_⟩
    · exact xw_call ha l400 (by omega) (xw_enterG (d := 0) hST.2.1 ha (by omega) (Or.inl rfl) (fun _ => br_t rfl hp) (fun n => absurd n hP))
    · unfold wpY_perform
      dsimp only
      refine yw_beginG (d := 0) hST.2.1 hST.2.2 ha (by omega) (Or.inl rfl) yla la24 (zl_WM01 hWM) (fun _ => ?_) (fun n => absurd n hP) (fun n => absurd n hP)
      have h40 : ¬ (4 : Int32) = 0 := by decide
      refine ⟨1, br_t rfl (br_f h40 (br_t rfl (yw_162n h40 ?_)))⟩
      rw [ez]
      exact hp
end
theorem i_vc_call {k : Nat} {u : SX} {v : SY} (I : i_Rel k u v) (hk : k + 5 ≤ 2561) (v1 : Int32) (v2 : Int32) (v3 : Int32) (v4 : Int32) : wpX_call (fun r u' => wpY_call (fun r' v' => r' = r ∧ i_Rel (k + 5) u' v') v v1 v2 v3 v4) u v1 v2 v3 v4 := by
  obtain ⟨x_op, x_arg, ln, hI⟩ := I
  refine zr_I_el (P := fun u v => wpX_call (fun r u' => wpY_call (fun r' v' => r' = r ∧ i_Rel (k + 5) u' v') v v1 v2 v3 v4) u v1 v2 v3 v4) ?_ hI
  clear hI u v
  intro e x_pending x_journal x_warm x_refund x_mails x_ring x_kept x_version x_depth x_self x_left x_pc x_sp x_base x_lastStatus x_lastResult x_lastUsed x_lastCalls x_limit x_length x_blockLength x_blockCost x_blockMost x_blockNeed x_blockRise x_state x_weight x_journalCell x_journalOld x_mailTo x_mailFrom x_mailAmount x_mailArg x_oldCell x_oldValue x_oldCount x_oldDigest x_eventAccount x_eventTag x_eventValue x_frameSelf x_frameCaller x_frameAmount x_frameArg x_frameGiven x_frameLeft x_framePc x_frameSp x_frameJournal x_frameEvents x_frameWarm x_frameRefund x_frameMails x_stack y_waiting y_refund y_depth y_ended y_answer y_rest y_begun y_lengths y_now y_copies y_older y_before y_warm y_warmCopies y_eventCopies y_messageCopies y_refundCopies y_events y_messages y_self y_caller y_amounts y_arguments y_given y_left y_at y_tops y_stack hPG hST hML hEV hVS hMI
  obtain ⟨rr, u', v', hI', hX, hY⟩ := zk_callI (x_pending := x_pending) (x_journal := x_journal) (x_warm := x_warm) (x_refund := x_refund) (x_mails := x_mails) (x_ring := x_ring) (x_kept := x_kept) (x_version := x_version) (x_depth := x_depth) (x_self := x_self) (x_left := x_left) (x_pc := x_pc) (x_sp := x_sp) (x_base := x_base) (x_lastStatus := x_lastStatus) (x_lastResult := x_lastResult) (x_lastUsed := x_lastUsed) (x_lastCalls := x_lastCalls) (x_limit := x_limit) (x_length := x_length) (x_blockLength := x_blockLength) (x_blockCost := x_blockCost) (x_blockMost := x_blockMost) (x_blockNeed := x_blockNeed) (x_blockRise := x_blockRise) (x_state := x_state) (x_weight := x_weight) (x_journalCell := x_journalCell) (x_journalOld := x_journalOld) (x_mailTo := x_mailTo) (x_mailFrom := x_mailFrom) (x_mailAmount := x_mailAmount) (x_mailArg := x_mailArg) (x_oldCell := x_oldCell) (x_oldValue := x_oldValue) (x_oldCount := x_oldCount) (x_oldDigest := x_oldDigest) (x_eventAccount := x_eventAccount) (x_eventTag := x_eventTag) (x_eventValue := x_eventValue) (x_frameSelf := x_frameSelf) (x_frameCaller := x_frameCaller) (x_frameAmount := x_frameAmount) (x_frameArg := x_frameArg) (x_frameGiven := x_frameGiven) (x_frameLeft := x_frameLeft) (x_framePc := x_framePc) (x_frameSp := x_frameSp) (x_frameJournal := x_frameJournal) (x_frameEvents := x_frameEvents) (x_frameWarm := x_frameWarm) (x_frameRefund := x_frameRefund) (x_frameMails := x_frameMails) (x_stack := x_stack) (y_waiting := y_waiting) (y_refund := y_refund) (y_depth := y_depth) (y_ended := y_ended) (y_answer := y_answer) (y_rest := y_rest) (y_begun := y_begun) (y_lengths := y_lengths) (y_now := y_now) (y_copies := y_copies) (y_older := y_older) (y_before := y_before) (y_warm := y_warm) (y_warmCopies := y_warmCopies) (y_eventCopies := y_eventCopies) (y_messageCopies := y_messageCopies) (y_refundCopies := y_refundCopies) (y_events := y_events) (y_messages := y_messages) (y_self := y_self) (y_caller := y_caller) (y_amounts := y_amounts) (y_arguments := y_arguments) (y_given := y_given) (y_left := y_left) (y_at := y_at) (y_tops := y_tops) (y_stack := y_stack) hPG hST hML hEV hVS hMI v1 v2 v3 v4
  exact hX _ (hY _ ⟨rfl, x_op, x_arg, ln, hI'⟩)
end
section

/-! the beginning, put, and the plain questions -/
theorem zb_sc_c {op op' : Nat → Int32} {i : Nat} : ∀ {l : Nat}, (∀ j, i ≤ j → j < i + l → op' j = op j) → zb_sc op' i l = zb_sc op i l
  | 0, _ => rfl
  | l + 1, h => by
    show zb_sc op' i l + zc_cst (zb_o op' (i + l)) = zb_sc op i l + zc_cst (zb_o op (i + l))
    unfold zb_o
    rw [h (i + l) (by omega) (by omega), zb_sc_c (l := l) fun j h1 h2 => h j h1 (by omega)]
theorem zb_sm_c {op op' : Nat → Int32} {i : Nat} : ∀ {l : Nat}, (∀ j, i ≤ j → j < i + l → op' j = op j) → zb_sm op' i l = zb_sm op i l
  | 0, _ => rfl
  | l + 1, h => by
    show zb_sm op' i l + zc_mx (zb_o op' (i + l)) = zb_sm op i l + zc_mx (zb_o op (i + l))
    unfold zb_o
    rw [h (i + l) (by omega) (by omega), zb_sm_c (l := l) fun j h1 h2 => h j h1 (by omega)]
theorem zb_hs_c {op op' : Nat → Int32} {i : Nat} : ∀ {l : Nat}, (∀ j, i ≤ j → j < i + l → op' j = op j) → zb_hs op' i l = zb_hs op i l
  | 0, _ => rfl
  | l + 1, h => by
    show zb_hs op' i l - (zc_tk (zb_o op' (i + l)) : Int) + (zc_ad (zb_o op' (i + l)) : Int) = zb_hs op i l - (zc_tk (zb_o op (i + l)) : Int) + (zc_ad (zb_o op (i + l)) : Int)
    unfold zb_o
    rw [h (i + l) (by omega) (by omega), zb_hs_c (l := l) fun j h1 h2 => h j h1 (by omega)]
theorem zb_K_c {op op' arg arg' : Nat → Int32} {n i k l c m nd rs : Nat} (hl : 0 < l) (h : zb_K op arg n i k l c m nd rs) (ho : ∀ j, i ≤ j → j < i + l → op' j = op j ∧ arg' j = arg j) : zb_K op' arg' n i k l c m nd rs := by
  obtain ⟨h1, h2, h3, h4, h5, h6, h7⟩ := h
  have eo : ∀ j, i ≤ j → j < i + l → zb_o op' j = zb_o op j := fun j a b => by unfold zb_o; rw [(ho j a b).1]
  refine ⟨h1, fun t ht => by rw [eo _ (by omega) (by omega)]; exact h2 t ht, ?_, ?_, fun h a b t ht => ?_, ?_, ?_⟩
  · rw [zb_sc_c fun j a b => (ho j a b).1]; exact h3
  · rw [zb_sm_c fun j a b => (ho j a b).1]; exact h4
  · rw [eo _ (by omega) (by omega), zb_hs_c (l := t) fun j a b => (ho j a (by omega)).1, zb_hs_c (l := t + 1) fun j a b => (ho j a (by omega)).1]
    exact h5 h a b t ht
  · rw [eo _ (by omega) (by omega)]; exact h6
  · rw [eo _ (by omega) (by omega), (ho (i + l - 1) (by omega) (by omega)).2]; exact h7
theorem zb_B_c {op op' arg arg' bl bc bm bn br bl' bc' bm' bn' br' : Nat → Int32} {n i k : Nat} (h : zb_B op arg bl bc bm bn br n i k) (e1 : bl' i = bl i) (e2 : bc' i = bc i) (e3 : bm' i = bm i) (e4 : bn' i = bn i) (e5 : br' i = br i) (ho : ∀ j, i ≤ j → j < i + (n - k) → op' j = op j ∧ arg' j = arg j) : zb_B op' arg' bl' bc' bm' bn' br' n i k := by
  unfold zb_B
  rw [e1, e2, e3, e4, e5]
  rcases h with h | ⟨l, c, m, nd, rs, a1, a2, a3, a4, a5, a6, a7, a8, a9, a10, a11, hK⟩
  · exact Or.inl h
  · exact Or.inr ⟨l, c, m, nd, rs, a1, a2, a3, a4, a5, a6, a7, a8, a9, a10, a11, zb_K_c a1 hK fun j h1 h2 => ho j h1 (by have := hK.1; omega)⟩
theorem zb_O_u {op : Nat → Int32} {k o : Nat} (h : zb_O op) (ho : o < 24) : zb_O (upd op k (nI o)) := by
  intro j hj
  unfold zb_o
  by_cases e : j = k
  · subst e; rw [pk_us, nI_clamp (by omega)]; exact ⟨rfl, ho⟩
  · rw [pk_un e]; exact h j hj
def zs_wt (i : Nat) : Nat → Int64 := fun j => if i ≤ j ∧ j < 30 then zs_pw (29 - j) else 0
theorem zs_wtS {i : Nat} (hi : i < 30) : vp_updL (zs_wt (i + 1)) i (zs_pw (29 - i)) = zs_wt i := by
  funext j
  unfold vp_updL zs_wt
  by_cases e : j = i
  · rw [if_pos e, if_pos (by omega), e]
  · rw [if_neg e]
    by_cases e2 : i + 1 ≤ j ∧ j < 30
    · rw [if_pos e2, if_pos (by omega)]
    · rw [if_neg e2, if_neg (by omega)]
theorem zs_wt30 : zs_wt 30 = fun _ => 0 := by funext j; exact if_neg (by omega)
theorem zs_wt0 : zs_W (zs_wt 0) := fun c hc => if_pos ⟨by omega, hc⟩
theorem zs_H0 : ∀ n, zs_H (fun _ => 0) n = zs_pw n
  | 0 => rfl
  | n + 1 => by
    show zs_H (fun _ => 0) n * 31 + (0 : Int32).toInt64 = zs_pw n * 31
    rw [zs_H0 n, show (0 : Int32).toInt64 = 0 by decide, Int64.add_zero]
section
variable {x_limit x_pending x_journal x_refund x_mails x_ring x_kept x_version x_events x_depth x_self x_left x_pc x_sp x_base x_lastStatus x_lastResult x_lastUsed x_lastCalls : Int32} {x_digest x_warm : Int64} {x_op x_arg x_length x_blockLength x_blockCost x_blockMost x_blockNeed x_blockRise x_state x_journalCell x_journalOld x_mailTo x_mailFrom x_mailAmount x_mailArg x_oldCell x_oldValue x_oldCount x_eventAccount x_eventTag x_eventValue x_frameSelf x_frameCaller x_frameAmount x_frameArg x_frameGiven x_frameLeft x_framePc x_frameSp x_frameJournal x_frameEvents x_frameRefund x_frameMails x_stack : Nat → Int32} {x_weight x_oldDigest x_frameWarm : Nat → Int64}
variable {y_limit y_eventCount y_waiting y_refund y_depth y_ended y_answer y_rest y_begun y_result y_used y_calls y_version y_kept : Int32} {y_ops y_bs y_lengths y_now y_copies y_older y_before y_warm y_warmCopies y_eventCopies y_messageCopies y_refundCopies y_events y_messages y_self y_caller y_amounts y_arguments y_given y_left y_at y_tops y_stack : Nat → Int32}
variable {N G J0 lx px s p h L f J W e r : Nat} {ln sf gv jn ml kk hh pp : Nat → Nat} {B : Nat → Int32}
theorem xw_init {post : SX → Prop} (hp : post (x_limit, x_pending, zs_pw 30, x_journal, x_warm, x_refund, x_mails, x_ring, x_kept, x_version, x_events, x_depth, x_self, x_left, x_pc, x_sp, x_base, x_lastStatus, x_lastResult, x_lastUsed, x_lastCalls, x_op, x_arg, x_length, x_blockLength, x_blockCost, x_blockMost, x_blockNeed, x_blockRise, x_state, zs_wt 0, x_journalCell, x_journalOld, x_mailTo, x_mailFrom, x_mailAmount, x_mailArg, x_oldCell, x_oldValue, x_oldCount, x_oldDigest, x_eventAccount, x_eventTag, x_eventValue, x_frameSelf, x_frameCaller, x_frameAmount, x_frameArg, x_frameGiven, x_frameLeft, x_framePc, x_frameSp, x_frameJournal, x_frameEvents, x_frameWarm, x_frameRefund, x_frameMails, x_stack)) : ∀ i, i ≤ 30 → wX_init_333 post x_limit x_pending x_digest x_journal x_warm x_refund x_mails x_ring x_kept x_version x_events x_depth x_self x_left x_pc x_sp x_base x_lastStatus x_lastResult x_lastUsed x_lastCalls (i + 1) (zs_pw (30 - i)) (nI i + (-1)) x_op x_arg x_length x_blockLength x_blockCost x_blockMost x_blockNeed x_blockRise x_state (zs_wt i) x_journalCell x_journalOld x_mailTo x_mailFrom x_mailAmount x_mailArg x_oldCell x_oldValue x_oldCount x_oldDigest x_eventAccount x_eventTag x_eventValue x_frameSelf x_frameCaller x_frameAmount x_frameArg x_frameGiven x_frameLeft x_framePc x_frameSp x_frameJournal x_frameEvents x_frameWarm x_frameRefund x_frameMails x_stack := by
  intro i
  induction i with
  | zero => intro _; exact br_t (by decide) hp
  | succ i ih =>
    intro hi
    have e0 : 30 - (i + 1) = 29 - i := by omega
    rw [pk_m1, e0]
    refine br_f (nI_pos (by omega)) ⟨vp_in_nI (by omega) (by omega), ?_⟩
    rw [nI_clamp (by omega : i < 2 ^ 31), zs_wtS (by omega)]
    have e1 : zs_pw (29 - i) * 31 = zs_pw (30 - i) := by
      rw [show 30 - i = (29 - i) + 1 by omega]; rfl
    exact nm_e (nm_r e1 (nm_e (ih (by omega))))
theorem zk_init {l : Nat} (h1 : 20 ≤ l) (h2 : l ≤ 400) : i_Rel 1 (nI l, 0, zs_pw 30, 0, 0, 0, 0, 0, 0, 0, 0, 0, 0, 0, 0, 0, 0, 0, 0, 0, 0, (fun _ => 0), (fun _ => 0), (fun _ => 0), (fun _ => 0), (fun _ => 0), (fun _ => 0), (fun _ => 0), (fun _ => 0), (fun _ => 0), zs_wt 0, (fun _ => 0), (fun _ => 0), (fun _ => 0), (fun _ => 0), (fun _ => 0), (fun _ => 0), (fun _ => 0), (fun _ => 0), (fun _ => 0), (fun _ => 0), (fun _ => 0), (fun _ => 0), (fun _ => 0), (fun _ => 0), (fun _ => 0), (fun _ => 0), (fun _ => 0), (fun _ => 0), (fun _ => 0), (fun _ => 0), (fun _ => 0), (fun _ => 0), (fun _ => 0), (fun _ => 0), (fun _ => 0), (fun _ => 0), (fun _ => 0)) (nI l, 0, 0, 0, 0, 0, 0, 0, 0, 0, 0, 0, 0, 0, (fun _ => 0), (fun _ => 0), (fun _ => 0), (fun _ => 0), (fun _ => 0), (fun _ => 0), (fun _ => 0), (fun _ => 0), (fun _ => 0), (fun _ => 0), (fun _ => 0), (fun _ => 0), (fun _ => 0), (fun _ => 0), (fun _ => 0), (fun _ => 0), (fun _ => 0), (fun _ => 0), (fun _ => 0), (fun _ => 0), (fun _ => 0), (fun _ => 0), (fun _ => 0)) := by
  have e0 : zs_pw 30 = zs_H (fun _ => 0) 30 := (zs_H0 30).symm
  rw [e0]
  refine ⟨fun _ => 0, fun _ => 0, fun _ => 0, zr_I_mk (e := 0) ⟨fun k _ => ?_, fun a _ => ?_, fun a _ k hk => ?_⟩ ⟨zs_wt0, fun a _ => ⟨0, by omega, rfl⟩, fun k _ => rfl⟩ (fun k _ => ⟨⟨0, by omega, rfl, rfl⟩, rfl, rfl, ⟨0, by omega, rfl, rfl⟩⟩) ⟨by omega, fun k _ => ⟨rfl, rfl, rfl⟩⟩ ⟨0, 0, rfl, rfl, by omega, by omega, fun i hi => absurd hi (by omega)⟩ ⟨⟨l, h1, h2, rfl⟩, 0, by omega, rfl, rfl⟩⟩
  · show (0 : Int32) = nI (0 : Int32).toNatClampNeg ∧ (0 : Int32).toNatClampNeg < 24
    exact ⟨by decide, by decide⟩
  · show (0 : Nat) ≤ 24 ∧ (0 : Int32) = nI 0 ∧ (0 : Int32) = nI 0
    exact ⟨by omega, rfl, rfl⟩
  · have hk' : k < 0 := hk
    omega
end
theorem i_vc0 (k0 : Int32) : wpX_init (fun u => wpY_init (fun v => i_Rel 1 u v) k0) k0 := by
  have go : ∀ l : Nat, 20 ≤ l → l ≤ 400 → ∀ post : SX → Prop, post (nI l, 0, zs_pw 30, 0, 0, 0, 0, 0, 0, 0, 0, 0, 0, 0, 0, 0, 0, 0, 0, 0, 0, (fun _ => 0), (fun _ => 0), (fun _ => 0), (fun _ => 0), (fun _ => 0), (fun _ => 0), (fun _ => 0), (fun _ => 0), (fun _ => 0), zs_wt 0, (fun _ => 0), (fun _ => 0), (fun _ => 0), (fun _ => 0), (fun _ => 0), (fun _ => 0), (fun _ => 0), (fun _ => 0), (fun _ => 0), (fun _ => 0), (fun _ => 0), (fun _ => 0), (fun _ => 0), (fun _ => 0), (fun _ => 0), (fun _ => 0), (fun _ => 0), (fun _ => 0), (fun _ => 0), (fun _ => 0), (fun _ => 0), (fun _ => 0), (fun _ => 0), (fun _ => 0), (fun _ => 0), (fun _ => 0), (fun _ => 0)) → ∃ n, wX_init_333 post (nI l) 0 0 0 0 0 0 0 0 0 0 0 0 0 0 0 0 0 0 0 0 n 1 29 (fun _ => 0) (fun _ => 0) (fun _ => 0) (fun _ => 0) (fun _ => 0) (fun _ => 0) (fun _ => 0) (fun _ => 0) (fun _ => 0) (fun _ => 0) (fun _ => 0) (fun _ => 0) (fun _ => 0) (fun _ => 0) (fun _ => 0) (fun _ => 0) (fun _ => 0) (fun _ => 0) (fun _ => 0) (fun _ => 0) (fun _ => 0) (fun _ => 0) (fun _ => 0) (fun _ => 0) (fun _ => 0) (fun _ => 0) (fun _ => 0) (fun _ => 0) (fun _ => 0) (fun _ => 0) (fun _ => 0) (fun _ => 0) (fun _ => 0) (fun _ => 0) (fun _ => 0) (fun _ => 0) (fun _ => 0) := by
    intro l _ _ post hp
    have := xw_init (x_digest := 0) hp 30 (by omega)
    rw [zs_wt30] at this
    exact ⟨31, this⟩
  refine br_c (fun h1 => br_c (fun h2 => ?_) (fun h2 => ?_)) (fun h1 => ?_)
  · have hp : ¬ k0 < 0 := fun z => by
      have : (20 : Int32) < 0 := Int32.lt_of_le_of_lt h1 z
      exact absurd this (by decide)
    obtain ⟨l, hl, rfl⟩ := nI_of hp
    have a1 : 20 ≤ l := (nI_leI (a := 20) (by omega) hl).mp h1
    have a2 : l ≤ 400 := (nI_leI (b := 400) hl (by omega)).mp h2
    exact go l a1 a2 _ (br_t h1 (br_t h2 (zk_init a1 a2)))
  · exact go 400 (by omega) (by omega) _ (br_t h1 (br_f h2 (zk_init (l := 400) (by omega) (by omega))))
  · exact go 20 (by omega) (by omega) _ (br_f h1 (zk_init (l := 20) (by omega) (by omega)))
/-! plain questions -/
theorem i_vc_result {k : Nat} {u : SX} {v : SY} (I : i_Rel k u v) (hk : k + 5 ≤ 2561) : wpX_result (fun r => wpY_result (fun r' => r' = r ∧ i_Rel (k + 5) u v) v) u := by
  obtain ⟨x_op, x_arg, ln, hI⟩ := I
  refine zr_I_el (P := fun u v => wpX_result (fun r => wpY_result (fun r' => r' = r ∧ i_Rel (k + 5) u v) v) u) ?_ hI
  clear hI u v
  intro e x_pending x_journal x_warm x_refund x_mails x_ring x_kept x_version x_depth x_self x_left x_pc x_sp x_base x_lastStatus x_lastResult x_lastUsed x_lastCalls x_limit x_length x_blockLength x_blockCost x_blockMost x_blockNeed x_blockRise x_state x_weight x_journalCell x_journalOld x_mailTo x_mailFrom x_mailAmount x_mailArg x_oldCell x_oldValue x_oldCount x_oldDigest x_eventAccount x_eventTag x_eventValue x_frameSelf x_frameCaller x_frameAmount x_frameArg x_frameGiven x_frameLeft x_framePc x_frameSp x_frameJournal x_frameEvents x_frameWarm x_frameRefund x_frameMails x_stack y_waiting y_refund y_depth y_ended y_answer y_rest y_begun y_lengths y_now y_copies y_older y_before y_warm y_warmCopies y_eventCopies y_messageCopies y_refundCopies y_events y_messages y_self y_caller y_amounts y_arguments y_given y_left y_at y_tops y_stack hPG hST hML hEV hVS hMI
  exact ⟨rfl, x_op, x_arg, ln, zr_I_mk hPG hST hML hEV hVS hMI⟩
theorem i_vc_used {k : Nat} {u : SX} {v : SY} (I : i_Rel k u v) (hk : k + 5 ≤ 2561) : wpX_used (fun r => wpY_used (fun r' => r' = r ∧ i_Rel (k + 5) u v) v) u := by
  obtain ⟨x_op, x_arg, ln, hI⟩ := I
  refine zr_I_el (P := fun u v => wpX_used (fun r => wpY_used (fun r' => r' = r ∧ i_Rel (k + 5) u v) v) u) ?_ hI
  clear hI u v
  intro e x_pending x_journal x_warm x_refund x_mails x_ring x_kept x_version x_depth x_self x_left x_pc x_sp x_base x_lastStatus x_lastResult x_lastUsed x_lastCalls x_limit x_length x_blockLength x_blockCost x_blockMost x_blockNeed x_blockRise x_state x_weight x_journalCell x_journalOld x_mailTo x_mailFrom x_mailAmount x_mailArg x_oldCell x_oldValue x_oldCount x_oldDigest x_eventAccount x_eventTag x_eventValue x_frameSelf x_frameCaller x_frameAmount x_frameArg x_frameGiven x_frameLeft x_framePc x_frameSp x_frameJournal x_frameEvents x_frameWarm x_frameRefund x_frameMails x_stack y_waiting y_refund y_depth y_ended y_answer y_rest y_begun y_lengths y_now y_copies y_older y_before y_warm y_warmCopies y_eventCopies y_messageCopies y_refundCopies y_events y_messages y_self y_caller y_amounts y_arguments y_given y_left y_at y_tops y_stack hPG hST hML hEV hVS hMI
  exact ⟨rfl, x_op, x_arg, ln, zr_I_mk hPG hST hML hEV hVS hMI⟩
theorem i_vc_calls {k : Nat} {u : SX} {v : SY} (I : i_Rel k u v) (hk : k + 5 ≤ 2561) : wpX_calls (fun r => wpY_calls (fun r' => r' = r ∧ i_Rel (k + 5) u v) v) u := by
  obtain ⟨x_op, x_arg, ln, hI⟩ := I
  refine zr_I_el (P := fun u v => wpX_calls (fun r => wpY_calls (fun r' => r' = r ∧ i_Rel (k + 5) u v) v) u) ?_ hI
  clear hI u v
  intro e x_pending x_journal x_warm x_refund x_mails x_ring x_kept x_version x_depth x_self x_left x_pc x_sp x_base x_lastStatus x_lastResult x_lastUsed x_lastCalls x_limit x_length x_blockLength x_blockCost x_blockMost x_blockNeed x_blockRise x_state x_weight x_journalCell x_journalOld x_mailTo x_mailFrom x_mailAmount x_mailArg x_oldCell x_oldValue x_oldCount x_oldDigest x_eventAccount x_eventTag x_eventValue x_frameSelf x_frameCaller x_frameAmount x_frameArg x_frameGiven x_frameLeft x_framePc x_frameSp x_frameJournal x_frameEvents x_frameWarm x_frameRefund x_frameMails x_stack y_waiting y_refund y_depth y_ended y_answer y_rest y_begun y_lengths y_now y_copies y_older y_before y_warm y_warmCopies y_eventCopies y_messageCopies y_refundCopies y_events y_messages y_self y_caller y_amounts y_arguments y_given y_left y_at y_tops y_stack hPG hST hML hEV hVS hMI
  exact ⟨rfl, x_op, x_arg, ln, zr_I_mk hPG hST hML hEV hVS hMI⟩
theorem i_vc_events {k : Nat} {u : SX} {v : SY} (I : i_Rel k u v) (hk : k + 5 ≤ 2561) : wpX_events (fun r => wpY_events (fun r' => r' = r ∧ i_Rel (k + 5) u v) v) u := by
  obtain ⟨x_op, x_arg, ln, hI⟩ := I
  refine zr_I_el (P := fun u v => wpX_events (fun r => wpY_events (fun r' => r' = r ∧ i_Rel (k + 5) u v) v) u) ?_ hI
  clear hI u v
  intro e x_pending x_journal x_warm x_refund x_mails x_ring x_kept x_version x_depth x_self x_left x_pc x_sp x_base x_lastStatus x_lastResult x_lastUsed x_lastCalls x_limit x_length x_blockLength x_blockCost x_blockMost x_blockNeed x_blockRise x_state x_weight x_journalCell x_journalOld x_mailTo x_mailFrom x_mailAmount x_mailArg x_oldCell x_oldValue x_oldCount x_oldDigest x_eventAccount x_eventTag x_eventValue x_frameSelf x_frameCaller x_frameAmount x_frameArg x_frameGiven x_frameLeft x_framePc x_frameSp x_frameJournal x_frameEvents x_frameWarm x_frameRefund x_frameMails x_stack y_waiting y_refund y_depth y_ended y_answer y_rest y_begun y_lengths y_now y_copies y_older y_before y_warm y_warmCopies y_eventCopies y_messageCopies y_refundCopies y_events y_messages y_self y_caller y_amounts y_arguments y_given y_left y_at y_tops y_stack hPG hST hML hEV hVS hMI
  exact ⟨rfl, x_op, x_arg, ln, zr_I_mk hPG hST hML hEV hVS hMI⟩
theorem i_vc_version {k : Nat} {u : SX} {v : SY} (I : i_Rel k u v) (hk : k + 5 ≤ 2561) : wpX_version (fun r => wpY_version (fun r' => r' = r ∧ i_Rel (k + 5) u v) v) u := by
  obtain ⟨x_op, x_arg, ln, hI⟩ := I
  refine zr_I_el (P := fun u v => wpX_version (fun r => wpY_version (fun r' => r' = r ∧ i_Rel (k + 5) u v) v) u) ?_ hI
  clear hI u v
  intro e x_pending x_journal x_warm x_refund x_mails x_ring x_kept x_version x_depth x_self x_left x_pc x_sp x_base x_lastStatus x_lastResult x_lastUsed x_lastCalls x_limit x_length x_blockLength x_blockCost x_blockMost x_blockNeed x_blockRise x_state x_weight x_journalCell x_journalOld x_mailTo x_mailFrom x_mailAmount x_mailArg x_oldCell x_oldValue x_oldCount x_oldDigest x_eventAccount x_eventTag x_eventValue x_frameSelf x_frameCaller x_frameAmount x_frameArg x_frameGiven x_frameLeft x_framePc x_frameSp x_frameJournal x_frameEvents x_frameWarm x_frameRefund x_frameMails x_stack y_waiting y_refund y_depth y_ended y_answer y_rest y_begun y_lengths y_now y_copies y_older y_before y_warm y_warmCopies y_eventCopies y_messageCopies y_refundCopies y_events y_messages y_self y_caller y_amounts y_arguments y_given y_left y_at y_tops y_stack hPG hST hML hEV hVS hMI
  exact ⟨rfl, x_op, x_arg, ln, zr_I_mk hPG hST hML hEV hVS hMI⟩
theorem i_vc_kept {k : Nat} {u : SX} {v : SY} (I : i_Rel k u v) (hk : k + 5 ≤ 2561) : wpX_kept (fun r => wpY_kept (fun r' => r' = r ∧ i_Rel (k + 5) u v) v) u := by
  obtain ⟨x_op, x_arg, ln, hI⟩ := I
  refine zr_I_el (P := fun u v => wpX_kept (fun r => wpY_kept (fun r' => r' = r ∧ i_Rel (k + 5) u v) v) u) ?_ hI
  clear hI u v
  intro e x_pending x_journal x_warm x_refund x_mails x_ring x_kept x_version x_depth x_self x_left x_pc x_sp x_base x_lastStatus x_lastResult x_lastUsed x_lastCalls x_limit x_length x_blockLength x_blockCost x_blockMost x_blockNeed x_blockRise x_state x_weight x_journalCell x_journalOld x_mailTo x_mailFrom x_mailAmount x_mailArg x_oldCell x_oldValue x_oldCount x_oldDigest x_eventAccount x_eventTag x_eventValue x_frameSelf x_frameCaller x_frameAmount x_frameArg x_frameGiven x_frameLeft x_framePc x_frameSp x_frameJournal x_frameEvents x_frameWarm x_frameRefund x_frameMails x_stack y_waiting y_refund y_depth y_ended y_answer y_rest y_begun y_lengths y_now y_copies y_older y_before y_warm y_warmCopies y_eventCopies y_messageCopies y_refundCopies y_events y_messages y_self y_caller y_amounts y_arguments y_given y_left y_at y_tops y_stack hPG hST hML hEV hVS hMI
  exact ⟨rfl, x_op, x_arg, ln, zr_I_mk hPG hST hML hEV hVS hMI⟩

section
variable {x_limit x_pending x_journal x_refund x_mails x_ring x_kept x_version x_events x_depth x_self x_left x_pc x_sp x_base x_lastStatus x_lastResult x_lastUsed x_lastCalls : Int32} {x_digest x_warm : Int64} {x_op x_arg x_length x_blockLength x_blockCost x_blockMost x_blockNeed x_blockRise x_state x_journalCell x_journalOld x_mailTo x_mailFrom x_mailAmount x_mailArg x_oldCell x_oldValue x_oldCount x_eventAccount x_eventTag x_eventValue x_frameSelf x_frameCaller x_frameAmount x_frameArg x_frameGiven x_frameLeft x_framePc x_frameSp x_frameJournal x_frameEvents x_frameRefund x_frameMails x_stack : Nat → Int32} {x_weight x_oldDigest x_frameWarm : Nat → Int64}
variable {y_limit y_eventCount y_waiting y_refund y_depth y_ended y_answer y_rest y_begun y_result y_used y_calls y_version y_kept : Int32} {y_ops y_bs y_lengths y_now y_copies y_older y_before y_warm y_warmCopies y_eventCopies y_messageCopies y_refundCopies y_events y_messages y_self y_caller y_amounts y_arguments y_given y_left y_at y_tops y_stack : Nat → Int32}
variable {N G J0 lx px s p h L f J W e r : Nat} {ln sf gv jn ml kk hh pp : Nat → Nat} {B : Nat → Int32}
theorem zk_event (hPG : zr_PG ln x_op x_arg x_length x_blockLength x_blockCost x_blockMost x_blockNeed x_blockRise y_lengths) (hST : zr_ST x_state x_weight y_now) (hML : zr_ML x_mailTo x_mailFrom x_mailAmount x_mailArg y_messages) (hEV : zr_EV e x_eventAccount x_eventTag x_eventValue y_events) (hVS : zr_VS x_state x_ring x_kept x_oldCell x_oldValue x_oldCount x_oldDigest y_older) (hMI : zr_MI x_limit x_pending (y_lengths 6)) (p0 p1 : Int32) : ∃ rr : Int32, (∀ post : Int32 → Prop, post rr → wpX_event post (x_limit, x_pending, zs_H x_state 30, x_journal, x_warm, x_refund, x_mails, x_ring, x_kept, x_version, nI e, x_depth, x_self, x_left, x_pc, x_sp, x_base, x_lastStatus, x_lastResult, x_lastUsed, x_lastCalls, x_op, x_arg, x_length, x_blockLength, x_blockCost, x_blockMost, x_blockNeed, x_blockRise, x_state, x_weight, x_journalCell, x_journalOld, x_mailTo, x_mailFrom, x_mailAmount, x_mailArg, x_oldCell, x_oldValue, x_oldCount, x_oldDigest, x_eventAccount, x_eventTag, x_eventValue, x_frameSelf, x_frameCaller, x_frameAmount, x_frameArg, x_frameGiven, x_frameLeft, x_framePc, x_frameSp, x_frameJournal, x_frameEvents, x_frameWarm, x_frameRefund, x_frameMails, x_stack) p0 p1) ∧ (∀ post : Int32 → Prop, post rr → wpY_event post (x_limit, nI e, y_waiting, y_refund, y_depth, y_ended, y_answer, y_rest, y_begun, x_lastResult, x_lastUsed, x_lastCalls, x_version, x_kept, x_op, x_arg, y_lengths, y_now, y_copies, y_older, y_before, y_warm, y_warmCopies, y_eventCopies, y_messageCopies, y_refundCopies, y_events, y_messages, y_self, y_caller, y_amounts, y_arguments, y_given, y_left, y_at, y_tops, y_stack) p0 p1) := by
  obtain ⟨he, hev⟩ := id hEV
  rcases pk_ix p0 (n := e) (by omega) with z | z | ⟨j, hj, rfl⟩
  · refine ⟨0, fun post hp => xw_outN (by omega) (fun a ha ea => ?_) (fun _ => br_f (by decide) hp), fun post hp => br_t z hp⟩
    exfalso
    rw [ea] at z
    exact nI_pos (by omega) z
  · refine ⟨0, fun post hp => xw_outN (by omega) (fun a ha ea => ?_) (fun _ => br_f (by decide) hp), fun post hp => br_c (fun _ => hp) (fun _ => br_t z hp)⟩
    exfalso
    rw [ea] at z
    exact nI_ge ha (by omega) z
  · obtain ⟨v1, v2, v3⟩ := hev j (by omega)
    have hin : ¬ (nI j < 0 ∨ nI e ≤ nI j) := by
      rintro (z | z)
      · exact nI_pos (by omega) z
      · exact nI_ge hj (by omega) z
    have hji : vp_in (nI j) 20 := vp_in_nI (by omega) (by omega)
    have cj : (nI j).toNatClampNeg = j := nI_clamp (by omega)
    rcases pk_ix p1 (n := 3) (by omega) with z | z | ⟨w, hw, rfl⟩
    · have hne : ∀ q : Nat, q < 3 → ¬ p1 = nI q := fun q hq e => by rw [e] at z; exact nI_pos (by omega) z
      exact ⟨0, fun post hp => xw_outN (by omega) (fun a ha ea => br_t rfl (br_f (hne 0 (by omega)) (br_f (hne 1 (by omega)) (br_f (hne 2 (by omega)) hp)))) (fun q => absurd q hin), fun post hp => br_f (nI_pos (by omega)) (br_f (nI_ge hj (by omega)) (br_t z hp))⟩
    · have hne : ∀ q : Nat, q < 3 → ¬ p1 = nI q := fun q hq e => by rw [e] at z; exact nI_ge hq (by omega) z
      refine ⟨0, fun post hp => xw_outN (by omega) (fun a ha ea => br_t rfl (br_f (hne 0 (by omega)) (br_f (hne 1 (by omega)) (br_f (hne 2 (by omega)) hp)))) (fun q => absurd q hin), fun post hp => br_f (nI_pos (by omega)) (br_f (nI_ge hj (by omega)) (br_c (fun _ => hp) (fun _ => br_f (fun z2 => ?_) hp)))⟩
      have : nI 3 ≤ nI 2 := Int32.le_trans z z2
      exact absurd this (by decide)
    · have e3 : (3 : Int32) * nI j + nI w = nI (3 * j + w) := by rw [show (3 : Int32) * nI j = nI (3 * j) from pk_mul 3 j]; exact nI_add _ _
      have YY : ∀ post : Int32 → Prop, post (y_events (3 * j + w)) → wpY_event post (x_limit, nI e, y_waiting, y_refund, y_depth, y_ended, y_answer, y_rest, y_begun, x_lastResult, x_lastUsed, x_lastCalls, x_version, x_kept, x_op, x_arg, y_lengths, y_now, y_copies, y_older, y_before, y_warm, y_warmCopies, y_eventCopies, y_messageCopies, y_refundCopies, y_events, y_messages, y_self, y_caller, y_amounts, y_arguments, y_given, y_left, y_at, y_tops, y_stack) (nI j) (nI w) := by
        intro post hp
        refine br_f (nI_pos (by omega)) (br_f (nI_ge hj (by omega)) (br_f (nI_pos (by omega)) (br_t (nI_le (b := 2) (by omega) (by omega)) ?_)))
        rw [e3, nI_clamp (by omega : 3 * j + w < 2 ^ 31)]
        exact ⟨vp_in_nI (by omega) (by omega), hp⟩
      rcases (by omega : w = 0 ∨ w = 1 ∨ w = 2) with e | e | e
      · subst e
        refine ⟨x_eventAccount j, fun post hp => xw_outN (by omega) (fun a ha ea => br_t rfl (br_t rfl ⟨hji, ?_⟩)) (fun q => absurd q hin), fun post hp => YY post ?_⟩
        · rw [cj]; exact hp
        · rw [Nat.add_zero, v1]; exact hp
      · subst e
        refine ⟨x_eventTag j, fun post hp => xw_outN (by omega) (fun a ha ea => br_t rfl (br_f (by decide) (br_t rfl ⟨hji, ?_⟩))) (fun q => absurd q hin), fun post hp => YY post ?_⟩
        · rw [cj]; exact hp
        · rw [v2]; exact hp
      · subst e
        refine ⟨x_eventValue j, fun post hp => xw_outN (by omega) (fun a ha ea => br_t rfl (br_f (by decide) (br_f (by decide) (br_t rfl ⟨hji, ?_⟩)))) (fun q => absurd q hin), fun post hp => YY post ?_⟩
        · rw [cj]; exact hp
        · rw [v3]; exact hp
/-- the reference's past -/
theorem yw_pastV {post : Int32 → Prop} {n kp a q : Nat} (hn : n ≤ kp) (hk6 : kp ≤ 6) (ha : a < 6) (hq : q < 5) (hp : post (if n = 0 then y_now (5 * a + q) else y_older (30 * (n - 1) + (5 * a + q)))) : wpY_past post (y_limit, y_eventCount, y_waiting, y_refund, y_depth, y_ended, y_answer, y_rest, y_begun, y_result, y_used, y_calls, y_version, nI kp, x_op, x_arg, y_lengths, y_now, y_copies, y_older, y_before, y_warm, y_warmCopies, y_eventCopies, y_messageCopies, y_refundCopies, y_events, y_messages, y_self, y_caller, y_amounts, y_arguments, y_given, y_left, y_at, y_tops, y_stack) (nI n) (nI a) (nI q) := by
  have e5 : (5 : Int32) * nI a = nI (5 * a) := pk_mul 5 a
  unfold wpY_past
  dsimp only
  refine br_f (nI_pos (by omega)) (br_f (nI_nlt hn (by omega)) (yw_isAcc (fun a' ha' ea' => br_f (by decide) ?_) (fun z => ?_)))
  · refine br_f (nI_pos (by omega)) (br_t (nI_le (b := 4) (by omega) (by omega)) ?_)
    rw [e5]
    refine pk_eq n 0 (fun e => ?_) (fun hn0 => ?_)
    · rw [if_pos e] at hp
      rw [nI_add, nI_clamp (by omega : 5 * a + q < 2 ^ 31)]
      exact ⟨vp_in_nI (by omega) (by omega), hp⟩
    · rw [if_neg hn0] at hp
      have e1 : nI n - 1 = nI (n - 1) := pk_sub (b := 1) (by omega)
      rw [e1, show (30 : Int32) * nI (n - 1) = nI (30 * (n - 1)) from pk_mul 30 (n - 1), nI_add, nI_add, nI_clamp (by omega : 30 * (n - 1) + 5 * a + q < 2 ^ 31), Nat.add_assoc]
      exact ⟨vp_in_nI (by omega) (by omega), hp⟩
  · exfalso
    rcases z with z | z
    · exact nI_pos (by omega) z
    · exact nI_ge (b := 6) ha (by omega) z
theorem yw_past0 {post : Int32 → Prop} {kp : Nat} {p0 p1 p2 : Int32} (hk6 : kp ≤ 6) (h : (p0 < 0 ∨ nI (kp + 1) ≤ p0) ∨ (p1 < 0 ∨ 6 ≤ p1) ∨ (p2 < 0 ∨ 5 ≤ p2)) (hp : post 0) : wpY_past post (y_limit, y_eventCount, y_waiting, y_refund, y_depth, y_ended, y_answer, y_rest, y_begun, y_result, y_used, y_calls, y_version, nI kp, x_op, x_arg, y_lengths, y_now, y_copies, y_older, y_before, y_warm, y_warmCopies, y_eventCopies, y_messageCopies, y_refundCopies, y_events, y_messages, y_self, y_caller, y_amounts, y_arguments, y_given, y_left, y_at, y_tops, y_stack) p0 p1 p2 := by
  unfold wpY_past
  dsimp only
  refine br_c (fun _ => hp) (fun n1 => br_c (fun _ => hp) (fun n2 => yw_isAcc (fun a ha ea => br_f (by decide) (br_c (fun _ => hp) (fun n3 => br_c (fun n4 => ?_) (fun _ => hp)))) (fun _ => br_t rfl hp)))
  exfalso
  rcases h with (z | z) | (z | z) | (z | z)
  · exact n1 z
  · obtain ⟨j, hj, rfl⟩ := nI_of n1
    rw [nI_leI (by omega) hj] at z
    exact n2 (nI_lt (by omega) hj)
  · rw [ea] at z; exact nI_pos (by omega) z
  · rw [ea] at z; exact nI_ge (b := 6) ha (by omega) z
  · exact n3 z
  · have : (5 : Int32) ≤ 4 := Int32.le_trans z n4
    exact absurd this (by decide)
theorem zk_balance (hPG : zr_PG ln x_op x_arg x_length x_blockLength x_blockCost x_blockMost x_blockNeed x_blockRise y_lengths) (hST : zr_ST x_state x_weight y_now) (hML : zr_ML x_mailTo x_mailFrom x_mailAmount x_mailArg y_messages) (hEV : zr_EV e x_eventAccount x_eventTag x_eventValue y_events) (hVS : zr_VS x_state x_ring x_kept x_oldCell x_oldValue x_oldCount x_oldDigest y_older) (hMI : zr_MI x_limit x_pending (y_lengths 6)) (p0 : Int32) : ∃ rr : Int32, (∀ post : Int32 → Prop, post rr → wpX_balance post (x_limit, x_pending, zs_H x_state 30, x_journal, x_warm, x_refund, x_mails, x_ring, x_kept, x_version, nI e, x_depth, x_self, x_left, x_pc, x_sp, x_base, x_lastStatus, x_lastResult, x_lastUsed, x_lastCalls, x_op, x_arg, x_length, x_blockLength, x_blockCost, x_blockMost, x_blockNeed, x_blockRise, x_state, x_weight, x_journalCell, x_journalOld, x_mailTo, x_mailFrom, x_mailAmount, x_mailArg, x_oldCell, x_oldValue, x_oldCount, x_oldDigest, x_eventAccount, x_eventTag, x_eventValue, x_frameSelf, x_frameCaller, x_frameAmount, x_frameArg, x_frameGiven, x_frameLeft, x_framePc, x_frameSp, x_frameJournal, x_frameEvents, x_frameWarm, x_frameRefund, x_frameMails, x_stack) p0) ∧ (∀ post : Int32 → Prop, post rr → wpY_balance post (x_limit, nI e, y_waiting, y_refund, y_depth, y_ended, y_answer, y_rest, y_begun, x_lastResult, x_lastUsed, x_lastCalls, x_version, x_kept, x_op, x_arg, y_lengths, y_now, y_copies, y_older, y_before, y_warm, y_warmCopies, y_eventCopies, y_messageCopies, y_refundCopies, y_events, y_messages, y_self, y_caller, y_amounts, y_arguments, y_given, y_left, y_at, y_tops, y_stack) p0) := by
  obtain ⟨rg, kp, er, ek, hr6, hk6, hI⟩ := id hVS
  subst er ek
  rcases pk_ix p0 (n := 6) (by omega) with z | z | ⟨a, ha, rfl⟩
  · refine ⟨0, fun post hp => xw_outN (n := 6) (by omega) (fun a ha ea => ?_) (fun _ => br_f (by decide) hp), fun post hp => by unfold wpY_balance; dsimp only; exact yw_past0 (kp := kp) hk6 (Or.inr (Or.inl (Or.inl z))) hp⟩
    exfalso
    rw [ea] at z
    exact nI_pos (by omega) z
  · refine ⟨0, fun post hp => xw_outN (n := 6) (by omega) (fun a ha ea => ?_) (fun _ => br_f (by decide) hp), fun post hp => by unfold wpY_balance; dsimp only; exact yw_past0 (kp := kp) hk6 (Or.inr (Or.inl (Or.inr z))) hp⟩
    exfalso
    rw [ea] at z
    exact nI_ge ha (by omega) z
  · have e5 : (5 : Int32) * nI a = nI (5 * a) := pk_mul 5 a
    refine ⟨x_state (5 * a), fun post hp => xw_outN (n := 6) (by omega) (fun a' ha' ea => br_t rfl ?_) (fun q => ?_), fun post hp => ?_⟩
    · rw [e5, nI_clamp (by omega : 5 * a < 2 ^ 31)]
      exact ⟨vp_in_nI (by omega) (by omega), hp⟩
    · exfalso
      rcases q with z | z
      · exact nI_pos (by omega) z
      · exact nI_ge ha (by omega) z
    · unfold wpY_balance
      dsimp only
      refine yw_pastV (n := 0) (q := 4) (by omega) hk6 ha (by omega) ?_
      rw [if_pos rfl, hST.2.2 _ (by omega), zs_px_b]
      exact hp
theorem zk_cell (hPG : zr_PG ln x_op x_arg x_length x_blockLength x_blockCost x_blockMost x_blockNeed x_blockRise y_lengths) (hST : zr_ST x_state x_weight y_now) (hML : zr_ML x_mailTo x_mailFrom x_mailAmount x_mailArg y_messages) (hEV : zr_EV e x_eventAccount x_eventTag x_eventValue y_events) (hVS : zr_VS x_state x_ring x_kept x_oldCell x_oldValue x_oldCount x_oldDigest y_older) (hMI : zr_MI x_limit x_pending (y_lengths 6)) (p0 p1 : Int32) : ∃ rr : Int32, (∀ post : Int32 → Prop, post rr → wpX_cell post (x_limit, x_pending, zs_H x_state 30, x_journal, x_warm, x_refund, x_mails, x_ring, x_kept, x_version, nI e, x_depth, x_self, x_left, x_pc, x_sp, x_base, x_lastStatus, x_lastResult, x_lastUsed, x_lastCalls, x_op, x_arg, x_length, x_blockLength, x_blockCost, x_blockMost, x_blockNeed, x_blockRise, x_state, x_weight, x_journalCell, x_journalOld, x_mailTo, x_mailFrom, x_mailAmount, x_mailArg, x_oldCell, x_oldValue, x_oldCount, x_oldDigest, x_eventAccount, x_eventTag, x_eventValue, x_frameSelf, x_frameCaller, x_frameAmount, x_frameArg, x_frameGiven, x_frameLeft, x_framePc, x_frameSp, x_frameJournal, x_frameEvents, x_frameWarm, x_frameRefund, x_frameMails, x_stack) p0 p1) ∧ (∀ post : Int32 → Prop, post rr → wpY_cell post (x_limit, nI e, y_waiting, y_refund, y_depth, y_ended, y_answer, y_rest, y_begun, x_lastResult, x_lastUsed, x_lastCalls, x_version, x_kept, x_op, x_arg, y_lengths, y_now, y_copies, y_older, y_before, y_warm, y_warmCopies, y_eventCopies, y_messageCopies, y_refundCopies, y_events, y_messages, y_self, y_caller, y_amounts, y_arguments, y_given, y_left, y_at, y_tops, y_stack) p0 p1) := by
  obtain ⟨rg, kp, er, ek, hr6, hk6, hI⟩ := id hVS
  subst er ek
  have bad : ((p0 < 0 ∨ 6 ≤ p0) ∨ (p1 < 0 ∨ 4 ≤ p1)) → ∃ rr : Int32, (∀ post : Int32 → Prop, post rr → wpX_cell post (x_limit, x_pending, zs_H x_state 30, x_journal, x_warm, x_refund, x_mails, nI rg, nI kp, x_version, nI e, x_depth, x_self, x_left, x_pc, x_sp, x_base, x_lastStatus, x_lastResult, x_lastUsed, x_lastCalls, x_op, x_arg, x_length, x_blockLength, x_blockCost, x_blockMost, x_blockNeed, x_blockRise, x_state, x_weight, x_journalCell, x_journalOld, x_mailTo, x_mailFrom, x_mailAmount, x_mailArg, x_oldCell, x_oldValue, x_oldCount, x_oldDigest, x_eventAccount, x_eventTag, x_eventValue, x_frameSelf, x_frameCaller, x_frameAmount, x_frameArg, x_frameGiven, x_frameLeft, x_framePc, x_frameSp, x_frameJournal, x_frameEvents, x_frameWarm, x_frameRefund, x_frameMails, x_stack) p0 p1) ∧ (∀ post : Int32 → Prop, post rr → wpY_cell post (x_limit, nI e, y_waiting, y_refund, y_depth, y_ended, y_answer, y_rest, y_begun, x_lastResult, x_lastUsed, x_lastCalls, x_version, nI kp, x_op, x_arg, y_lengths, y_now, y_copies, y_older, y_before, y_warm, y_warmCopies, y_eventCopies, y_messageCopies, y_refundCopies, y_events, y_messages, y_self, y_caller, y_amounts, y_arguments, y_given, y_left, y_at, y_tops, y_stack) p0 p1) := by
    intro h
    refine ⟨0, fun post hp => xw_outN (n := 6) (by omega) (fun a ha ea => br_t rfl (xw_outN (n := 4) (by omega) (fun b hb eb => ?_) (fun _ => br_f (by decide) hp))) (fun _ => br_f (by decide) hp), fun post hp => br_c (fun _ => hp) (fun n4 => yw_past0 hk6 ?_ hp)⟩
    · exfalso
      rcases h with (z | z) | (z | z)
      · rw [ea] at z; exact nI_pos (by omega) z
      · rw [ea] at z; exact nI_ge (b := 6) ha (by omega) z
      · rw [eb] at z; exact nI_pos (by omega) z
      · rw [eb] at z; exact nI_ge (b := 4) hb (by omega) z
    · rcases h with h | z | z
      · exact Or.inr (Or.inl h)
      · exact Or.inr (Or.inr (Or.inl z))
      · refine Or.inr (Or.inr (Or.inr ?_))
        rw [Int32.le_iff_toInt_le] at z ⊢
        have h4 : (4 : Int32).toInt = 4 := by decide
        have h5 : (5 : Int32).toInt = 5 := by decide
        have hne : p1.toInt ≠ (4 : Int32).toInt := fun q => n4 (Int32.toInt_inj.mp q)
        omega
  rcases pk_ix p0 (n := 6) (by omega) with z | z | ⟨a, ha, ea⟩
  · exact bad (Or.inl (Or.inl z))
  · exact bad (Or.inl (Or.inr z))
  rcases pk_ix p1 (n := 4) (by omega) with z | z | ⟨b, hb, eb⟩
  · exact bad (Or.inr (Or.inl z))
  · exact bad (Or.inr (Or.inr z))
  clear bad
  subst ea eb
  have e5 : (5 : Int32) * nI a + 1 + nI b = nI (5 * a + 1 + b) := by rw [show (5 : Int32) * nI a = nI (5 * a) from pk_mul 5 a, nI_1, nI_add]
  refine ⟨x_state (5 * a + 1 + b), fun post hp => xw_outN (n := 6) (by omega) (fun a' ha' ea => br_t rfl (xw_outN (n := 4) (by omega) (fun b' hb' eb => br_t rfl ?_) (fun q => ?_))) (fun q => ?_), fun post hp => br_f (fun q => ?_) (yw_pastV (n := 0) (by omega) hk6 ha (by omega) ?_)⟩
  · rw [e5, nI_clamp (by omega : 5 * a + 1 + b < 2 ^ 31)]
    exact ⟨vp_in_nI (by omega) (by omega), hp⟩
  · exfalso
    rcases q with z | z
    · exact nI_pos (by omega) z
    · exact nI_ge hb (by omega) z
  · exfalso
    rcases q with z | z
    · exact nI_pos (by omega) z
    · exact nI_ge ha (by omega) z
  · have := (nI_eq (b := 4) (by omega) (by omega)).mp q
    omega
  · rw [if_pos rfl, hST.2.2 _ (by omega), zs_px_c hb]
    exact hp
end
theorem i_vc_event {k : Nat} {u : SX} {v : SY} (I : i_Rel k u v) (hk : k + 5 ≤ 2561) (v1 : Int32) (v2 : Int32) : wpX_event (fun r => wpY_event (fun r' => r' = r ∧ i_Rel (k + 5) u v) v v1 v2) u v1 v2 := by
  obtain ⟨x_op, x_arg, ln, hI⟩ := I
  refine zr_I_el (P := fun u v => wpX_event (fun r => wpY_event (fun r' => r' = r ∧ i_Rel (k + 5) u v) v v1 v2) u v1 v2) ?_ hI
  clear hI u v
  intro e x_pending x_journal x_warm x_refund x_mails x_ring x_kept x_version x_depth x_self x_left x_pc x_sp x_base x_lastStatus x_lastResult x_lastUsed x_lastCalls x_limit x_length x_blockLength x_blockCost x_blockMost x_blockNeed x_blockRise x_state x_weight x_journalCell x_journalOld x_mailTo x_mailFrom x_mailAmount x_mailArg x_oldCell x_oldValue x_oldCount x_oldDigest x_eventAccount x_eventTag x_eventValue x_frameSelf x_frameCaller x_frameAmount x_frameArg x_frameGiven x_frameLeft x_framePc x_frameSp x_frameJournal x_frameEvents x_frameWarm x_frameRefund x_frameMails x_stack y_waiting y_refund y_depth y_ended y_answer y_rest y_begun y_lengths y_now y_copies y_older y_before y_warm y_warmCopies y_eventCopies y_messageCopies y_refundCopies y_events y_messages y_self y_caller y_amounts y_arguments y_given y_left y_at y_tops y_stack hPG hST hML hEV hVS hMI
  obtain ⟨rr, hX, hY⟩ := zk_event (x_pending := x_pending) (x_journal := x_journal) (x_warm := x_warm) (x_refund := x_refund) (x_mails := x_mails) (x_ring := x_ring) (x_kept := x_kept) (x_version := x_version) (x_depth := x_depth) (x_self := x_self) (x_left := x_left) (x_pc := x_pc) (x_sp := x_sp) (x_base := x_base) (x_lastStatus := x_lastStatus) (x_lastResult := x_lastResult) (x_lastUsed := x_lastUsed) (x_lastCalls := x_lastCalls) (x_limit := x_limit) (x_length := x_length) (x_blockLength := x_blockLength) (x_blockCost := x_blockCost) (x_blockMost := x_blockMost) (x_blockNeed := x_blockNeed) (x_blockRise := x_blockRise) (x_state := x_state) (x_weight := x_weight) (x_journalCell := x_journalCell) (x_journalOld := x_journalOld) (x_mailTo := x_mailTo) (x_mailFrom := x_mailFrom) (x_mailAmount := x_mailAmount) (x_mailArg := x_mailArg) (x_oldCell := x_oldCell) (x_oldValue := x_oldValue) (x_oldCount := x_oldCount) (x_oldDigest := x_oldDigest) (x_eventAccount := x_eventAccount) (x_eventTag := x_eventTag) (x_eventValue := x_eventValue) (x_frameSelf := x_frameSelf) (x_frameCaller := x_frameCaller) (x_frameAmount := x_frameAmount) (x_frameArg := x_frameArg) (x_frameGiven := x_frameGiven) (x_frameLeft := x_frameLeft) (x_framePc := x_framePc) (x_frameSp := x_frameSp) (x_frameJournal := x_frameJournal) (x_frameEvents := x_frameEvents) (x_frameWarm := x_frameWarm) (x_frameRefund := x_frameRefund) (x_frameMails := x_frameMails) (x_stack := x_stack) (y_waiting := y_waiting) (y_refund := y_refund) (y_depth := y_depth) (y_ended := y_ended) (y_answer := y_answer) (y_rest := y_rest) (y_begun := y_begun) (y_lengths := y_lengths) (y_now := y_now) (y_copies := y_copies) (y_older := y_older) (y_before := y_before) (y_warm := y_warm) (y_warmCopies := y_warmCopies) (y_eventCopies := y_eventCopies) (y_messageCopies := y_messageCopies) (y_refundCopies := y_refundCopies) (y_events := y_events) (y_messages := y_messages) (y_self := y_self) (y_caller := y_caller) (y_amounts := y_amounts) (y_arguments := y_arguments) (y_given := y_given) (y_left := y_left) (y_at := y_at) (y_tops := y_tops) (y_stack := y_stack) hPG hST hML hEV hVS hMI v1 v2
  exact hX _ (hY _ ⟨rfl, x_op, x_arg, ln, zr_I_mk hPG hST hML hEV hVS hMI⟩)
theorem i_vc_balance {k : Nat} {u : SX} {v : SY} (I : i_Rel k u v) (hk : k + 5 ≤ 2561) (v1 : Int32) : wpX_balance (fun r => wpY_balance (fun r' => r' = r ∧ i_Rel (k + 5) u v) v v1) u v1 := by
  obtain ⟨x_op, x_arg, ln, hI⟩ := I
  refine zr_I_el (P := fun u v => wpX_balance (fun r => wpY_balance (fun r' => r' = r ∧ i_Rel (k + 5) u v) v v1) u v1) ?_ hI
  clear hI u v
  intro e x_pending x_journal x_warm x_refund x_mails x_ring x_kept x_version x_depth x_self x_left x_pc x_sp x_base x_lastStatus x_lastResult x_lastUsed x_lastCalls x_limit x_length x_blockLength x_blockCost x_blockMost x_blockNeed x_blockRise x_state x_weight x_journalCell x_journalOld x_mailTo x_mailFrom x_mailAmount x_mailArg x_oldCell x_oldValue x_oldCount x_oldDigest x_eventAccount x_eventTag x_eventValue x_frameSelf x_frameCaller x_frameAmount x_frameArg x_frameGiven x_frameLeft x_framePc x_frameSp x_frameJournal x_frameEvents x_frameWarm x_frameRefund x_frameMails x_stack y_waiting y_refund y_depth y_ended y_answer y_rest y_begun y_lengths y_now y_copies y_older y_before y_warm y_warmCopies y_eventCopies y_messageCopies y_refundCopies y_events y_messages y_self y_caller y_amounts y_arguments y_given y_left y_at y_tops y_stack hPG hST hML hEV hVS hMI
  obtain ⟨rr, hX, hY⟩ := zk_balance (x_pending := x_pending) (x_journal := x_journal) (x_warm := x_warm) (x_refund := x_refund) (x_mails := x_mails) (x_ring := x_ring) (x_kept := x_kept) (x_version := x_version) (x_depth := x_depth) (x_self := x_self) (x_left := x_left) (x_pc := x_pc) (x_sp := x_sp) (x_base := x_base) (x_lastStatus := x_lastStatus) (x_lastResult := x_lastResult) (x_lastUsed := x_lastUsed) (x_lastCalls := x_lastCalls) (x_limit := x_limit) (x_length := x_length) (x_blockLength := x_blockLength) (x_blockCost := x_blockCost) (x_blockMost := x_blockMost) (x_blockNeed := x_blockNeed) (x_blockRise := x_blockRise) (x_state := x_state) (x_weight := x_weight) (x_journalCell := x_journalCell) (x_journalOld := x_journalOld) (x_mailTo := x_mailTo) (x_mailFrom := x_mailFrom) (x_mailAmount := x_mailAmount) (x_mailArg := x_mailArg) (x_oldCell := x_oldCell) (x_oldValue := x_oldValue) (x_oldCount := x_oldCount) (x_oldDigest := x_oldDigest) (x_eventAccount := x_eventAccount) (x_eventTag := x_eventTag) (x_eventValue := x_eventValue) (x_frameSelf := x_frameSelf) (x_frameCaller := x_frameCaller) (x_frameAmount := x_frameAmount) (x_frameArg := x_frameArg) (x_frameGiven := x_frameGiven) (x_frameLeft := x_frameLeft) (x_framePc := x_framePc) (x_frameSp := x_frameSp) (x_frameJournal := x_frameJournal) (x_frameEvents := x_frameEvents) (x_frameWarm := x_frameWarm) (x_frameRefund := x_frameRefund) (x_frameMails := x_frameMails) (x_stack := x_stack) (y_waiting := y_waiting) (y_refund := y_refund) (y_depth := y_depth) (y_ended := y_ended) (y_answer := y_answer) (y_rest := y_rest) (y_begun := y_begun) (y_lengths := y_lengths) (y_now := y_now) (y_copies := y_copies) (y_older := y_older) (y_before := y_before) (y_warm := y_warm) (y_warmCopies := y_warmCopies) (y_eventCopies := y_eventCopies) (y_messageCopies := y_messageCopies) (y_refundCopies := y_refundCopies) (y_events := y_events) (y_messages := y_messages) (y_self := y_self) (y_caller := y_caller) (y_amounts := y_amounts) (y_arguments := y_arguments) (y_given := y_given) (y_left := y_left) (y_at := y_at) (y_tops := y_tops) (y_stack := y_stack) hPG hST hML hEV hVS hMI v1
  exact hX _ (hY _ ⟨rfl, x_op, x_arg, ln, zr_I_mk hPG hST hML hEV hVS hMI⟩)
theorem i_vc_cell {k : Nat} {u : SX} {v : SY} (I : i_Rel k u v) (hk : k + 5 ≤ 2561) (v1 : Int32) (v2 : Int32) : wpX_cell (fun r => wpY_cell (fun r' => r' = r ∧ i_Rel (k + 5) u v) v v1 v2) u v1 v2 := by
  obtain ⟨x_op, x_arg, ln, hI⟩ := I
  refine zr_I_el (P := fun u v => wpX_cell (fun r => wpY_cell (fun r' => r' = r ∧ i_Rel (k + 5) u v) v v1 v2) u v1 v2) ?_ hI
  clear hI u v
  intro e x_pending x_journal x_warm x_refund x_mails x_ring x_kept x_version x_depth x_self x_left x_pc x_sp x_base x_lastStatus x_lastResult x_lastUsed x_lastCalls x_limit x_length x_blockLength x_blockCost x_blockMost x_blockNeed x_blockRise x_state x_weight x_journalCell x_journalOld x_mailTo x_mailFrom x_mailAmount x_mailArg x_oldCell x_oldValue x_oldCount x_oldDigest x_eventAccount x_eventTag x_eventValue x_frameSelf x_frameCaller x_frameAmount x_frameArg x_frameGiven x_frameLeft x_framePc x_frameSp x_frameJournal x_frameEvents x_frameWarm x_frameRefund x_frameMails x_stack y_waiting y_refund y_depth y_ended y_answer y_rest y_begun y_lengths y_now y_copies y_older y_before y_warm y_warmCopies y_eventCopies y_messageCopies y_refundCopies y_events y_messages y_self y_caller y_amounts y_arguments y_given y_left y_at y_tops y_stack hPG hST hML hEV hVS hMI
  obtain ⟨rr, hX, hY⟩ := zk_cell (x_pending := x_pending) (x_journal := x_journal) (x_warm := x_warm) (x_refund := x_refund) (x_mails := x_mails) (x_ring := x_ring) (x_kept := x_kept) (x_version := x_version) (x_depth := x_depth) (x_self := x_self) (x_left := x_left) (x_pc := x_pc) (x_sp := x_sp) (x_base := x_base) (x_lastStatus := x_lastStatus) (x_lastResult := x_lastResult) (x_lastUsed := x_lastUsed) (x_lastCalls := x_lastCalls) (x_limit := x_limit) (x_length := x_length) (x_blockLength := x_blockLength) (x_blockCost := x_blockCost) (x_blockMost := x_blockMost) (x_blockNeed := x_blockNeed) (x_blockRise := x_blockRise) (x_state := x_state) (x_weight := x_weight) (x_journalCell := x_journalCell) (x_journalOld := x_journalOld) (x_mailTo := x_mailTo) (x_mailFrom := x_mailFrom) (x_mailAmount := x_mailAmount) (x_mailArg := x_mailArg) (x_oldCell := x_oldCell) (x_oldValue := x_oldValue) (x_oldCount := x_oldCount) (x_oldDigest := x_oldDigest) (x_eventAccount := x_eventAccount) (x_eventTag := x_eventTag) (x_eventValue := x_eventValue) (x_frameSelf := x_frameSelf) (x_frameCaller := x_frameCaller) (x_frameAmount := x_frameAmount) (x_frameArg := x_frameArg) (x_frameGiven := x_frameGiven) (x_frameLeft := x_frameLeft) (x_framePc := x_framePc) (x_frameSp := x_frameSp) (x_frameJournal := x_frameJournal) (x_frameEvents := x_frameEvents) (x_frameWarm := x_frameWarm) (x_frameRefund := x_frameRefund) (x_frameMails := x_frameMails) (x_stack := x_stack) (y_waiting := y_waiting) (y_refund := y_refund) (y_depth := y_depth) (y_ended := y_ended) (y_answer := y_answer) (y_rest := y_rest) (y_begun := y_begun) (y_lengths := y_lengths) (y_now := y_now) (y_copies := y_copies) (y_older := y_older) (y_before := y_before) (y_warm := y_warm) (y_warmCopies := y_warmCopies) (y_eventCopies := y_eventCopies) (y_messageCopies := y_messageCopies) (y_refundCopies := y_refundCopies) (y_events := y_events) (y_messages := y_messages) (y_self := y_self) (y_caller := y_caller) (y_amounts := y_amounts) (y_arguments := y_arguments) (y_given := y_given) (y_left := y_left) (y_at := y_at) (y_tops := y_tops) (y_stack := y_stack) hPG hST hML hEV hVS hMI v1 v2
  exact hX _ (hY _ ⟨rfl, x_op, x_arg, ln, zr_I_mk hPG hST hML hEV hVS hMI⟩)
end
section
/-! a block is measured -/
theorem zi_add {x y : Int32} (h1 : -2147483648 ≤ x.toInt + y.toInt) (h2 : x.toInt + y.toInt < 2147483648) : (x + y).toInt = x.toInt + y.toInt := by
  rw [Int32.toInt_add]; exact Int.bmod_eq_of_le (by omega) (by omega)
theorem zi_sub {x y : Int32} (h1 : -2147483648 ≤ x.toInt - y.toInt) (h2 : x.toInt - y.toInt < 2147483648) : (x - y).toInt = x.toInt - y.toInt := by
  rw [Int32.toInt_sub]; exact Int.bmod_eq_of_le (by omega) (by omega)
theorem zi_neg {x : Int32} (h1 : -2147483648 < x.toInt) : (-x).toInt = -x.toInt := by
  have := x.toInt_lt
  rw [Int32.toInt_neg]; exact Int.bmod_eq_of_le (by omega) (by omega)
theorem zi_n {x : Int32} {n : Nat} (h : x.toInt = (n : Int)) (hn : n < 2 ^ 31) : x = nI n := Int32.toInt_inj.mp (by rw [h, nI_toInt hn])
theorem zb_O24 {op : Nat → Int32} (h : zb_O op) {j : Nat} (hj : j < 168) : zb_o op j < 24 := (h j hj).2
theorem zb_bd {op : Nat → Int32} (h : zb_O op) {i : Nat} : ∀ {t : Nat}, i + t ≤ 168 → zb_sc op i t ≤ 8 * t ∧ zb_sm op i t ≤ 8 * t ∧ -(3 * (t : Int)) ≤ zb_hs op i t ∧ zb_hs op i t ≤ 2 * (t : Int)
  | 0, _ => ⟨Nat.le_refl _, Nat.le_refl _, by show -(3 * (0 : Int)) ≤ 0; omega, by show (0 : Int) ≤ 2 * 0; omega⟩
  | t + 1, ht => by
    obtain ⟨a, b, c, d⟩ := zb_bd h (i := i) (t := t) (by omega)
    have o := zb_O24 h (j := i + t) (by omega)
    have e1 : zb_sc op i (t + 1) = zb_sc op i t + zc_cst (zb_o op (i + t)) := rfl
    have e2 : zb_sm op i (t + 1) = zb_sm op i t + zc_mx (zb_o op (i + t)) := rfl
    have e3 : zb_hs op i (t + 1) = zb_hs op i t - (zc_tk (zb_o op (i + t)) : Int) + (zc_ad (zb_o op (i + t)) : Int) := rfl
    have f1 := zc_cst8 o
    have f2 := zc_mx8 o
    have f3 := zc_tk3 o
    have f4 := zc_ad2 o
    rw [e1, e2, e3]
    refine ⟨by omega, by omega, by omega, by omega⟩
theorem zb_HO1 {op : Nat → Int32} {i t nd rs nd' rs' : Nat} (h : zb_HO op i t nd rs) (h1 : nd ≤ nd') (h2 : rs ≤ rs') (h3 : (zc_tk (zb_o op (i + t)) : Int) - zb_hs op i t ≤ (nd' : Int)) (h4 : zb_hs op i (t + 1) ≤ (rs' : Int)) : zb_HO op i (t + 1) nd' rs' := by
  intro hh a b t' ht'
  by_cases e : t' = t
  · subst e; exact ⟨by omega, by omega⟩
  · exact h hh (by omega) (by omega) t' (by omega)

section
variable {x_limit x_pending x_journal x_refund x_mails x_ring x_kept x_version x_events x_depth x_self x_left x_pc x_sp x_base x_lastStatus x_lastResult x_lastUsed x_lastCalls : Int32} {x_digest x_warm : Int64} {x_op x_arg x_length x_blockLength x_blockCost x_blockMost x_blockNeed x_blockRise x_state x_journalCell x_journalOld x_mailTo x_mailFrom x_mailAmount x_mailArg x_oldCell x_oldValue x_oldCount x_eventAccount x_eventTag x_eventValue x_frameSelf x_frameCaller x_frameAmount x_frameArg x_frameGiven x_frameLeft x_framePc x_frameSp x_frameJournal x_frameEvents x_frameRefund x_frameMails x_stack : Nat → Int32} {x_weight x_oldDigest x_frameWarm : Nat → Int64}
theorem xw_275 {post : SX → Prop} {a k c m' nd rs lv : Nat} (ha : a < 6) (hk : k < 24) (hc : c ≤ 400) (hm : m' ≤ 400) (hcm : c + m' ≤ 400) (hn : nd ≤ 100) (hr : rs ≤ 100) (hl : lv ≤ 24) (hp : post (x_limit, x_pending, x_digest, x_journal, x_warm, x_refund, x_mails, x_ring, x_kept, x_version, x_events, x_depth, x_self, x_left, x_pc, x_sp, x_base, x_lastStatus, x_lastResult, x_lastUsed, x_lastCalls, x_op, x_arg, x_length, upd x_blockLength (24 * a + k) (nI lv), upd x_blockCost (24 * a + k) (nI c), upd x_blockMost (24 * a + k) (nI (c + m')), upd x_blockNeed (24 * a + k) (nI nd), upd x_blockRise (24 * a + k) (nI rs), x_state, x_weight, x_journalCell, x_journalOld, x_mailTo, x_mailFrom, x_mailAmount, x_mailArg, x_oldCell, x_oldValue, x_oldCount, x_oldDigest, x_eventAccount, x_eventTag, x_eventValue, x_frameSelf, x_frameCaller, x_frameAmount, x_frameArg, x_frameGiven, x_frameLeft, x_framePc, x_frameSp, x_frameJournal, x_frameEvents, x_frameWarm, x_frameRefund, x_frameMails, x_stack)) : wX_measure_275 post (nI (24 * a)) (nI k) (nI c) (nI m') (nI nd) (nI rs) (nI lv) (nI (24 * a) + nI k) x_limit x_pending x_digest x_journal x_warm x_refund x_mails x_ring x_kept x_version x_events x_depth x_self x_left x_pc x_sp x_base x_lastStatus x_lastResult x_lastUsed x_lastCalls x_op x_arg x_length x_blockLength x_blockCost x_blockMost x_blockNeed x_blockRise x_state x_weight x_journalCell x_journalOld x_mailTo x_mailFrom x_mailAmount x_mailArg x_oldCell x_oldValue x_oldCount x_oldDigest x_eventAccount x_eventTag x_eventValue x_frameSelf x_frameCaller x_frameAmount x_frameArg x_frameGiven x_frameLeft x_framePc x_frameSp x_frameJournal x_frameEvents x_frameWarm x_frameRefund x_frameMails x_stack := by
  have hi : vp_in (nI (24 * a + k)) 144 := vp_in_nI (by omega) (by omega)
  unfold wX_measure_275
  rw [nI_add, nI_add, nI_clamp (by omega : 24 * a + k < 2 ^ 31), zn_nbb (by omega : lv < 128), zn_nbb (by omega : nd < 128), zn_nbb (by omega : rs < 128), zn_nss (by omega : c < 1000), zn_nss (by omega : c + m' < 1000)]
  exact ⟨hi, nm_e ⟨hi, nm_e ⟨hi, nm_e ⟨hi, nm_e ⟨hi, nm_e hp⟩⟩⟩⟩⟩
theorem xw_255 {post : SX → Prop} {a k t c m' nd rs : Nat} {sf : Int32} {lv : Nat} (ha : a < 6) (hk : k < 24) (hc : c ≤ 400) (hm : m' ≤ 400) (hcm : c + m' ≤ 400) (hn : nd ≤ 100) (hr : rs ≤ 100) (ht : t ≤ 24) (h : (sf = 0 ∧ lv = 0) ∨ (sf = 1 ∧ lv = t)) (hp : post (x_limit, x_pending, x_digest, x_journal, x_warm, x_refund, x_mails, x_ring, x_kept, x_version, x_events, x_depth, x_self, x_left, x_pc, x_sp, x_base, x_lastStatus, x_lastResult, x_lastUsed, x_lastCalls, x_op, x_arg, x_length, upd x_blockLength (24 * a + k) (nI lv), upd x_blockCost (24 * a + k) (nI c), upd x_blockMost (24 * a + k) (nI (c + m')), upd x_blockNeed (24 * a + k) (nI nd), upd x_blockRise (24 * a + k) (nI rs), x_state, x_weight, x_journalCell, x_journalOld, x_mailTo, x_mailFrom, x_mailAmount, x_mailArg, x_oldCell, x_oldValue, x_oldCount, x_oldDigest, x_eventAccount, x_eventTag, x_eventValue, x_frameSelf, x_frameCaller, x_frameAmount, x_frameArg, x_frameGiven, x_frameLeft, x_framePc, x_frameSp, x_frameJournal, x_frameEvents, x_frameWarm, x_frameRefund, x_frameMails, x_stack)) : wX_measure_255 post (nI (24 * a)) (nI k) (nI c) (nI m') (nI nd) (nI rs) (nI (k + t)) sf x_limit x_pending x_digest x_journal x_warm x_refund x_mails x_ring x_kept x_version x_events x_depth x_self x_left x_pc x_sp x_base x_lastStatus x_lastResult x_lastUsed x_lastCalls x_op x_arg x_length x_blockLength x_blockCost x_blockMost x_blockNeed x_blockRise x_state x_weight x_journalCell x_journalOld x_mailTo x_mailFrom x_mailAmount x_mailArg x_oldCell x_oldValue x_oldCount x_oldDigest x_eventAccount x_eventTag x_eventValue x_frameSelf x_frameCaller x_frameAmount x_frameArg x_frameGiven x_frameLeft x_framePc x_frameSp x_frameJournal x_frameEvents x_frameWarm x_frameRefund x_frameMails x_stack := by
  rcases h with ⟨rfl, rfl⟩ | ⟨rfl, rfl⟩
  · exact br_t rfl (xw_275 (lv := 0) ha hk hc hm hcm hn hr (by omega) hp)
  · refine br_f (by decide) ?_
    rw [pk_sub (by omega), show k + lv - k = lv by omega]
    exact xw_275 ha hk hc hm hcm hn hr (by omega) hp
/-- the end of the measuring -/
theorem xw_mE {a k t n nd rs : Nat} {x4 x7 : Int32} (ha : a < 6) (hn : n ≤ 24) (ht0 : 0 < t) (htn : k + t ≤ n) (hO : zb_O x_op) (hnd : nd ≤ 3 * t) (hrs : rs ≤ 2 * t) (hHO : zb_HO x_op (24 * a + k) t nd rs) (hcl : ∀ t', t' + 1 < t → zc_cl (zb_o x_op (24 * a + k + t')) = 0) :
    ∃ lv : Nat, (lv = 0 ∨ (lv = t ∧ zb_K x_op x_arg n (24 * a + k) k t (zb_sc x_op (24 * a + k) t) (zb_sc x_op (24 * a + k) t + zb_sm x_op (24 * a + k) t) nd rs)) ∧
      ∀ (post : SX → Prop) (F : Nat), post (x_limit, x_pending, x_digest, x_journal, x_warm, x_refund, x_mails, x_ring, x_kept, x_version, x_events, x_depth, x_self, x_left, x_pc, x_sp, x_base, x_lastStatus, x_lastResult, x_lastUsed, x_lastCalls, x_op, x_arg, x_length, upd x_blockLength (24 * a + k) (nI lv), upd x_blockCost (24 * a + k) (nI (zb_sc x_op (24 * a + k) t)), upd x_blockMost (24 * a + k) (nI (zb_sc x_op (24 * a + k) t + zb_sm x_op (24 * a + k) t)), upd x_blockNeed (24 * a + k) (nI nd), upd x_blockRise (24 * a + k) (nI rs), x_state, x_weight, x_journalCell, x_journalOld, x_mailTo, x_mailFrom, x_mailAmount, x_mailArg, x_oldCell, x_oldValue, x_oldCount, x_oldDigest, x_eventAccount, x_eventTag, x_eventValue, x_frameSelf, x_frameCaller, x_frameAmount, x_frameArg, x_frameGiven, x_frameLeft, x_framePc, x_frameSp, x_frameJournal, x_frameEvents, x_frameWarm, x_frameRefund, x_frameMails, x_stack) →
        wX_measure_21 post (nI (24 * a)) (nI k) (nI n) x4 x_limit x_pending x_digest x_journal x_warm x_refund x_mails x_ring x_kept x_version x_events x_depth x_self x_left x_pc x_sp x_base x_lastStatus x_lastResult x_lastUsed x_lastCalls x_op x_arg x_length x_blockLength x_blockCost x_blockMost x_blockNeed x_blockRise x_state x_weight x_journalCell x_journalOld x_mailTo x_mailFrom x_mailAmount x_mailArg x_oldCell x_oldValue x_oldCount x_oldDigest x_eventAccount x_eventTag x_eventValue x_frameSelf x_frameCaller x_frameAmount x_frameArg x_frameGiven x_frameLeft x_framePc x_frameSp x_frameJournal x_frameEvents x_frameWarm x_frameRefund x_frameMails x_stack (F + 1) (nI (zb_sc x_op (24 * a + k) t)) (nI (zb_sm x_op (24 * a + k) t)) x7 (nI nd) (nI rs) (nI (k + t)) 0 := by
  obtain ⟨c1, c2, _, _⟩ := zb_bd hO (i := 24 * a + k) (t := t) (by omega)
  obtain ⟨o, eo⟩ : ∃ o, zb_o x_op (24 * a + k + t - 1) = o := ⟨_, rfl⟩
  obtain ⟨eop, ho⟩ := hO (24 * a + k + t - 1) (by omega)
  rw [eo] at eop ho
  have ei : nI (24 * a) + nI (k + t) - 1 = nI (24 * a + k + t - 1) := by
    rw [nI_add, show 24 * a + (k + t) = (24 * a + k + t - 1) + 1 by omega]; exact nI_pred _
  have hi : vp_in (nI (24 * a + k + t - 1)) 168 := vp_in_nI (by omega) (by omega)
  have ec : (nI (24 * a + k + t - 1)).toNatClampNeg = 24 * a + k + t - 1 := nI_clamp (by omega)
  -- to 236, whatever 'jumps' and 'safe' are
  have W236 : ∀ (post : SX → Prop) (F : Nat), (∀ (j s : Int32), ((o = 16 ∨ o = 17) → j = 1) → (¬ (o = 16 ∨ o = 17) → j = 0) → ((o = 16 ∨ o = 19 ∨ o = 20 ∨ k + t < n) → s = 1) → (¬ (o = 16 ∨ o = 19 ∨ o = 20 ∨ k + t < n) → s = 0) → wX_measure_236 post (nI (24 * a)) (nI k) (nI n) (nI (zb_sc x_op (24 * a + k) t)) (nI (zb_sm x_op (24 * a + k) t)) (nI nd) (nI rs) (nI (k + t)) j (x_arg (24 * a + k + t - 1)) s x_limit x_pending x_digest x_journal x_warm x_refund x_mails x_ring x_kept x_version x_events x_depth x_self x_left x_pc x_sp x_base x_lastStatus x_lastResult x_lastUsed x_lastCalls x_op x_arg x_length x_blockLength x_blockCost x_blockMost x_blockNeed x_blockRise x_state x_weight x_journalCell x_journalOld x_mailTo x_mailFrom x_mailAmount x_mailArg x_oldCell x_oldValue x_oldCount x_oldDigest x_eventAccount x_eventTag x_eventValue x_frameSelf x_frameCaller x_frameAmount x_frameArg x_frameGiven x_frameLeft x_framePc x_frameSp x_frameJournal x_frameEvents x_frameWarm x_frameRefund x_frameMails x_stack) → wX_measure_21 post (nI (24 * a)) (nI k) (nI n) x4 x_limit x_pending x_digest x_journal x_warm x_refund x_mails x_ring x_kept x_version x_events x_depth x_self x_left x_pc x_sp x_base x_lastStatus x_lastResult x_lastUsed x_lastCalls x_op x_arg x_length x_blockLength x_blockCost x_blockMost x_blockNeed x_blockRise x_state x_weight x_journalCell x_journalOld x_mailTo x_mailFrom x_mailAmount x_mailArg x_oldCell x_oldValue x_oldCount x_oldDigest x_eventAccount x_eventTag x_eventValue x_frameSelf x_frameCaller x_frameAmount x_frameArg x_frameGiven x_frameLeft x_framePc x_frameSp x_frameJournal x_frameEvents x_frameWarm x_frameRefund x_frameMails x_stack (F + 1) (nI (zb_sc x_op (24 * a + k) t)) (nI (zb_sm x_op (24 * a + k) t)) x7 (nI nd) (nI rs) (nI (k + t)) 0 := by
    intro post F H
    have W189 : ∀ j : Int32, ((o = 16 ∨ o = 17) → j = 1) → (¬ (o = 16 ∨ o = 17) → j = 0) → wX_measure_189 post (nI (24 * a)) (nI k) (nI n) (nI (zb_sc x_op (24 * a + k) t)) (nI (zb_sm x_op (24 * a + k) t)) (nI nd) (nI rs) (nI (k + t)) (nI o) j x_limit x_pending x_digest x_journal x_warm x_refund x_mails x_ring x_kept x_version x_events x_depth x_self x_left x_pc x_sp x_base x_lastStatus x_lastResult x_lastUsed x_lastCalls x_op x_arg x_length x_blockLength x_blockCost x_blockMost x_blockNeed x_blockRise x_state x_weight x_journalCell x_journalOld x_mailTo x_mailFrom x_mailAmount x_mailArg x_oldCell x_oldValue x_oldCount x_oldDigest x_eventAccount x_eventTag x_eventValue x_frameSelf x_frameCaller x_frameAmount x_frameArg x_frameGiven x_frameLeft x_framePc x_frameSp x_frameJournal x_frameEvents x_frameWarm x_frameRefund x_frameMails x_stack := by
      intro j j1 j2
      unfold wX_measure_189
      rw [ei, ec]
      refine ⟨hi, nm_e ?_⟩
      refine pk_eq o 16 (fun e => H j 1 j1 j2 (fun _ => rfl) (fun z => absurd (Or.inl e) z)) (fun n16 => ?_)
      refine pk_eq o 19 (fun e => H j 1 j1 j2 (fun _ => rfl) (fun z => absurd (Or.inr (Or.inl e)) z)) (fun n19 => ?_)
      refine pk_eq o 20 (fun e => H j 1 j1 j2 (fun _ => rfl) (fun z => absurd (Or.inr (Or.inr (Or.inl e))) z)) (fun n20 => ?_)
      refine pk_le n (k + t) (fun e => H j 0 j1 j2 (fun z => absurd z (by omega)) (fun _ => rfl)) (fun e => H j 1 j1 j2 (fun _ => rfl) (fun z => absurd (Or.inr (Or.inr (Or.inr e))) z))
    refine br_t rfl ?_
    rw [ei, ec]
    refine ⟨hi, nm_r eop ?_⟩
    refine pk_eq o 16 (fun e => W189 1 (fun _ => rfl) (fun z => absurd (Or.inl e) z)) (fun n16 => pk_eq o 17 (fun e => W189 1 (fun _ => rfl) (fun z => absurd (Or.inr e) z)) (fun n17 => W189 0 (fun z => absurd z (by omega)) (fun _ => rfl)))
  by_cases hA : o = 16 ∨ o = 19 ∨ o = 20 ∨ k + t < n
  · by_cases hB : (o = 16 ∨ o = 17) → ∃ j : Nat, j < n ∧ x_arg (24 * a + k + t - 1) = nI j
    · refine ⟨t, Or.inr ⟨rfl, htn, hcl, rfl, rfl, hHO, by rw [eo]; exact hA, by rw [eo]; exact hB⟩, fun post F hp => W236 post F fun j s j1 j2 s1 s2 => ?_⟩
      have es := s1 hA
      subst es
      by_cases hj : o = 16 ∨ o = 17
      · have ej := j1 hj
        subst ej
        obtain ⟨q, hq, eq⟩ := hB hj
        refine br_f (by decide) ?_
        rw [eq]
        refine xw_outN (by omega) (fun _ _ _ => br_t rfl (xw_255 ha (by omega) (by omega) (by omega) (by omega) (by omega) (by omega) (by omega) (Or.inr ⟨rfl, rfl⟩) hp)) (fun z => ?_)
        exfalso
        rcases z with z | z
        · exact nI_pos (by omega) z
        · exact nI_ge hq (by omega) z
      · have ej := j2 hj
        subst ej
        exact br_t rfl (xw_255 ha (by omega) (by omega) (by omega) (by omega) (by omega) (by omega) (by omega) (Or.inr ⟨rfl, rfl⟩) hp)
    · have hj : o = 16 ∨ o = 17 := Classical.byContradiction fun z => hB (fun y => absurd y z)
      refine ⟨0, Or.inl rfl, fun post F hp => W236 post F fun j s j1 j2 s1 s2 => ?_⟩
      have ej := j1 hj
      subst ej
      refine br_f (by decide) (xw_outN (by omega) (fun q hq eq => absurd (fun _ => ⟨q, hq, eq⟩) hB) (fun _ => br_f (by decide) (xw_255 (t := t) ha (by omega) (by omega) (by omega) (by omega) (by omega) (by omega) (by omega) (Or.inl ⟨rfl, rfl⟩) hp)))
  · refine ⟨0, Or.inl rfl, fun post F hp => W236 post F fun j s j1 j2 s1 s2 => ?_⟩
    have es := s2 hA
    subst es
    have F0 : wX_measure_255 post (nI (24 * a)) (nI k) (nI (zb_sc x_op (24 * a + k) t)) (nI (zb_sm x_op (24 * a + k) t)) (nI nd) (nI rs) (nI (k + t)) 0 x_limit x_pending x_digest x_journal x_warm x_refund x_mails x_ring x_kept x_version x_events x_depth x_self x_left x_pc x_sp x_base x_lastStatus x_lastResult x_lastUsed x_lastCalls x_op x_arg x_length x_blockLength x_blockCost x_blockMost x_blockNeed x_blockRise x_state x_weight x_journalCell x_journalOld x_mailTo x_mailFrom x_mailAmount x_mailArg x_oldCell x_oldValue x_oldCount x_oldDigest x_eventAccount x_eventTag x_eventValue x_frameSelf x_frameCaller x_frameAmount x_frameArg x_frameGiven x_frameLeft x_framePc x_frameSp x_frameJournal x_frameEvents x_frameWarm x_frameRefund x_frameMails x_stack := xw_255 (t := t) ha (by omega) (by omega) (by omega) (by omega) (by omega) (by omega) (by omega) (Or.inl ⟨rfl, rfl⟩) hp
    by_cases hj : o = 16 ∨ o = 17
    · have ej := j1 hj
      subst ej
      exact br_f (by decide) (xw_outside (fun _ _ => br_t rfl F0) (fun _ => br_f (by decide) F0))
    · have ej := j2 hj
      subst ej
      exact br_t rfl F0
/-- one instruction of the loop -/
theorem xw_mS {a k n t nd rs : Nat} {x4 x7 : Int32} (ha : a < 6) (hn : n ≤ 24) (htn : k + t < n) (hO : zb_O x_op) (h7 : x7.toInt = zb_hs x_op (24 * a + k) t) (hnd : nd ≤ 3 * t) (hrs : rs ≤ 2 * t) (hHO : zb_HO x_op (24 * a + k) t nd rs) :
    ∃ (nd' rs' : Nat) (x7' mo : Int32), x7'.toInt = zb_hs x_op (24 * a + k) (t + 1) ∧ nd' ≤ 3 * (t + 1) ∧ rs' ≤ 2 * (t + 1) ∧ zb_HO x_op (24 * a + k) (t + 1) nd' rs' ∧ (mo = 0 ∨ (mo = 1 ∧ k + t + 1 < n ∧ zc_cl (zb_o x_op (24 * a + k + t)) = 0)) ∧
      ∀ (post : SX → Prop) (F : Nat), wX_measure_21 post (nI (24 * a)) (nI k) (nI n) x4 x_limit x_pending x_digest x_journal x_warm x_refund x_mails x_ring x_kept x_version x_events x_depth x_self x_left x_pc x_sp x_base x_lastStatus x_lastResult x_lastUsed x_lastCalls x_op x_arg x_length x_blockLength x_blockCost x_blockMost x_blockNeed x_blockRise x_state x_weight x_journalCell x_journalOld x_mailTo x_mailFrom x_mailAmount x_mailArg x_oldCell x_oldValue x_oldCount x_oldDigest x_eventAccount x_eventTag x_eventValue x_frameSelf x_frameCaller x_frameAmount x_frameArg x_frameGiven x_frameLeft x_framePc x_frameSp x_frameJournal x_frameEvents x_frameWarm x_frameRefund x_frameMails x_stack F (nI (zb_sc x_op (24 * a + k) (t + 1))) (nI (zb_sm x_op (24 * a + k) (t + 1))) x7' (nI nd') (nI rs') (nI (k + t + 1)) mo → wX_measure_21 post (nI (24 * a)) (nI k) (nI n) x4 x_limit x_pending x_digest x_journal x_warm x_refund x_mails x_ring x_kept x_version x_events x_depth x_self x_left x_pc x_sp x_base x_lastStatus x_lastResult x_lastUsed x_lastCalls x_op x_arg x_length x_blockLength x_blockCost x_blockMost x_blockNeed x_blockRise x_state x_weight x_journalCell x_journalOld x_mailTo x_mailFrom x_mailAmount x_mailArg x_oldCell x_oldValue x_oldCount x_oldDigest x_eventAccount x_eventTag x_eventValue x_frameSelf x_frameCaller x_frameAmount x_frameArg x_frameGiven x_frameLeft x_framePc x_frameSp x_frameJournal x_frameEvents x_frameWarm x_frameRefund x_frameMails x_stack (F + 1) (nI (zb_sc x_op (24 * a + k) t)) (nI (zb_sm x_op (24 * a + k) t)) x7 (nI nd) (nI rs) (nI (k + t)) 1 := by
  obtain ⟨b1, b2, b3, b4⟩ := zb_bd hO (i := 24 * a + k) (t := t) (by omega)
  obtain ⟨o, eo⟩ : ∃ o, zb_o x_op (24 * a + k + t) = o := ⟨_, rfl⟩
  obtain ⟨eop, ho⟩ := hO (24 * a + k + t) (by omega)
  have e1 : zb_sc x_op (24 * a + k) (t + 1) = zb_sc x_op (24 * a + k) t + zc_cst (zb_o x_op (24 * a + k + t)) := rfl
  have e2 : zb_sm x_op (24 * a + k) (t + 1) = zb_sm x_op (24 * a + k) t + zc_mx (zb_o x_op (24 * a + k + t)) := rfl
  have e3 : zb_hs x_op (24 * a + k) (t + 1) = zb_hs x_op (24 * a + k) t - (zc_tk (zb_o x_op (24 * a + k + t)) : Int) + (zc_ad (zb_o x_op (24 * a + k + t)) : Int) := rfl
  rw [eo] at eop ho e1 e2 e3
  have f1 := zc_cst8 ho
  have f2 := zc_mx8 ho
  have f3 := zc_tk3 ho
  have f4 := zc_ad2 ho
  have ttk : (nI (zc_tk o)).toInt = (zc_tk o : Int) := nI_toInt (by omega)
  have tad : (nI (zc_ad o)).toInt = (zc_ad o : Int) := nI_toInt (by omega)
  have h34 : (x7 - nI (zc_tk o)).toInt = zb_hs x_op (24 * a + k) t - (zc_tk o : Int) := by rw [zi_sub (by omega) (by omega), h7, ttk]
  have h37 : (x7 - nI (zc_tk o) + nI (zc_ad o)).toInt = zb_hs x_op (24 * a + k) (t + 1) := by rw [zi_add (by omega) (by omega), h34, tad, e3]
  have hng : (-(x7 - nI (zc_tk o))).toInt = (zc_tk o : Int) - zb_hs x_op (24 * a + k) t := by rw [zi_neg (by omega), h34]; omega
  have tnd : (nI nd).toInt = (nd : Int) := nI_toInt (by omega)
  have trs : (nI rs).toInt = (rs : Int) := nI_toInt (by omega)
  -- need
  obtain ⟨nd', n1, n2, n3, n4⟩ : ∃ nd' : Nat, nd ≤ nd' ∧ nd' ≤ 3 * (t + 1) ∧ (zc_tk o : Int) - zb_hs x_op (24 * a + k) t ≤ (nd' : Int) ∧ ((-(x7 - nI (zc_tk o)) ≤ nI nd ∧ nd' = nd) ∨ (¬ -(x7 - nI (zc_tk o)) ≤ nI nd ∧ -(x7 - nI (zc_tk o)) = nI nd')) := by
    by_cases c1 : -(x7 - nI (zc_tk o)) ≤ nI nd
    · refine ⟨nd, Nat.le_refl _, by omega, ?_, Or.inl ⟨c1, rfl⟩⟩
      rw [Int32.le_iff_toInt_le, hng, tnd] at c1
      exact c1
    · have c2 := c1
      rw [Int32.le_iff_toInt_le, hng, tnd] at c2
      refine ⟨((zc_tk o : Int) - zb_hs x_op (24 * a + k) t).toNat, by omega, by omega, by omega, Or.inr ⟨c1, zi_n (by rw [hng]; omega) (by omega)⟩⟩
  obtain ⟨rs', r1, r2, r3, r4⟩ : ∃ rs' : Nat, rs ≤ rs' ∧ rs' ≤ 2 * (t + 1) ∧ zb_hs x_op (24 * a + k) (t + 1) ≤ (rs' : Int) ∧ ((x7 - nI (zc_tk o) + nI (zc_ad o) ≤ nI rs ∧ rs' = rs) ∨ (¬ x7 - nI (zc_tk o) + nI (zc_ad o) ≤ nI rs ∧ x7 - nI (zc_tk o) + nI (zc_ad o) = nI rs')) := by
    by_cases c1 : x7 - nI (zc_tk o) + nI (zc_ad o) ≤ nI rs
    · refine ⟨rs, Nat.le_refl _, by omega, ?_, Or.inl ⟨c1, rfl⟩⟩
      rw [Int32.le_iff_toInt_le, h37, trs] at c1
      exact c1
    · have c2 := c1
      rw [Int32.le_iff_toInt_le, h37, trs] at c2
      refine ⟨(zb_hs x_op (24 * a + k) (t + 1)).toNat, by omega, by omega, by omega, Or.inr ⟨c1, zi_n (by rw [h37]; omega) (by omega)⟩⟩
  obtain ⟨mo, m1, m2⟩ : ∃ mo : Int32, (mo = 0 ∨ (mo = 1 ∧ k + t + 1 < n ∧ zc_cl o = 0)) ∧ ∀ (post : SX → Prop) (J : Int32 → Int32 → Int32 → Int32 → Int32 → Int32 → Int32 → Prop) (y5 y6 y7 y8 y9 : Int32), J y5 y6 y7 y8 y9 (nI (k + t + 1)) mo → wX_measure_120 post J (nI (24 * a)) (nI k) (nI n) x4 y5 y6 y7 y8 y9 (nI (k + t)) (nI o) x_limit x_pending x_digest x_journal x_warm x_refund x_mails x_ring x_kept x_version x_events x_depth x_self x_left x_pc x_sp x_base x_lastStatus x_lastResult x_lastUsed x_lastCalls x_op x_arg x_length x_blockLength x_blockCost x_blockMost x_blockNeed x_blockRise x_state x_weight x_journalCell x_journalOld x_mailTo x_mailFrom x_mailAmount x_mailArg x_oldCell x_oldValue x_oldCount x_oldDigest x_eventAccount x_eventTag x_eventValue x_frameSelf x_frameCaller x_frameAmount x_frameArg x_frameGiven x_frameLeft x_framePc x_frameSp x_frameJournal x_frameEvents x_frameWarm x_frameRefund x_frameMails x_stack := by
    by_cases c1 : n ≤ k + t + 1
    · exact ⟨0, Or.inl rfl, fun post J y5 y6 y7 y8 y9 hp => nm_r (nI_1 (k + t)) (br_t (nI_le c1 (by omega)) hp)⟩
    · by_cases c2 : zc_cl o = 0
      · by_cases c3 : ((x4.toUInt32 >>> ((nI (k + t + 1)).toUInt32 &&& Int32.toUInt32 31)).toInt32 &&& 1) = 0
        · refine ⟨1, Or.inr ⟨rfl, by omega, c2⟩, fun post J y5 y6 y7 y8 y9 hp => nm_r (nI_1 (k + t)) (br_f (nI_ge (by omega) (by omega)) (xw_closes ho ?_))⟩
          rw [c2]
          exact br_t rfl (br_t c3 hp)
        · refine ⟨0, Or.inl rfl, fun post J y5 y6 y7 y8 y9 hp => nm_r (nI_1 (k + t)) (br_f (nI_ge (by omega) (by omega)) (xw_closes ho ?_))⟩
          rw [c2]
          exact br_t rfl (br_f c3 hp)
      · have c4 : zc_cl o = 1 := by
          have := co_dec (N := 24) (P := fun o => zc_cl o = 0 ∨ zc_cl o = 1) (by decide) ho
          rcases this with z | z
          · exact absurd z c2
          · exact z
        refine ⟨0, Or.inl rfl, fun post J y5 y6 y7 y8 y9 hp => nm_r (nI_1 (k + t)) (br_f (nI_ge (by omega) (by omega)) (xw_closes ho ?_))⟩
        rw [c4]
        exact br_f (by decide) hp
  refine ⟨nd', rs', x7 - nI (zc_tk o) + nI (zc_ad o), mo, h37, n2, r2, zb_HO1 hHO n1 r1 (by rw [eo]; exact n3) r3, by rw [eo]; exact m1, fun post F hp => ?_⟩
  rw [e1, e2] at hp
  have W99 : wX_measure_99 post (wX_measure_21 post (nI (24 * a)) (nI k) (nI n) x4 x_limit x_pending x_digest x_journal x_warm x_refund x_mails x_ring x_kept x_version x_events x_depth x_self x_left x_pc x_sp x_base x_lastStatus x_lastResult x_lastUsed x_lastCalls x_op x_arg x_length x_blockLength x_blockCost x_blockMost x_blockNeed x_blockRise x_state x_weight x_journalCell x_journalOld x_mailTo x_mailFrom x_mailAmount x_mailArg x_oldCell x_oldValue x_oldCount x_oldDigest x_eventAccount x_eventTag x_eventValue x_frameSelf x_frameCaller x_frameAmount x_frameArg x_frameGiven x_frameLeft x_framePc x_frameSp x_frameJournal x_frameEvents x_frameWarm x_frameRefund x_frameMails x_stack F) (nI (24 * a)) (nI k) (nI n) x4 (nI (zb_sc x_op (24 * a + k) t + zc_cst o)) (nI (zb_sm x_op (24 * a + k) t + zc_mx o)) (x7 - nI (zc_tk o)) (nI nd') (nI rs) (nI (k + t)) (nI o) x_limit x_pending x_digest x_journal x_warm x_refund x_mails x_ring x_kept x_version x_events x_depth x_self x_left x_pc x_sp x_base x_lastStatus x_lastResult x_lastUsed x_lastCalls x_op x_arg x_length x_blockLength x_blockCost x_blockMost x_blockNeed x_blockRise x_state x_weight x_journalCell x_journalOld x_mailTo x_mailFrom x_mailAmount x_mailArg x_oldCell x_oldValue x_oldCount x_oldDigest x_eventAccount x_eventTag x_eventValue x_frameSelf x_frameCaller x_frameAmount x_frameArg x_frameGiven x_frameLeft x_framePc x_frameSp x_frameJournal x_frameEvents x_frameWarm x_frameRefund x_frameMails x_stack := by
    refine xw_adds ho (nm_e ?_)
    rcases r4 with ⟨c, e⟩ | ⟨c, e⟩
    · refine br_t c (m2 _ _ _ _ _ _ _ ?_)
      rw [← e]; exact hp
    · refine br_f c (m2 _ _ _ _ _ _ _ ?_)
      rw [← e] at hp
      exact hp
  have W73 : ∀ z0 : Int32, z0 = nI (zc_mx o) → wX_measure_73 post (wX_measure_21 post (nI (24 * a)) (nI k) (nI n) x4 x_limit x_pending x_digest x_journal x_warm x_refund x_mails x_ring x_kept x_version x_events x_depth x_self x_left x_pc x_sp x_base x_lastStatus x_lastResult x_lastUsed x_lastCalls x_op x_arg x_length x_blockLength x_blockCost x_blockMost x_blockNeed x_blockRise x_state x_weight x_journalCell x_journalOld x_mailTo x_mailFrom x_mailAmount x_mailArg x_oldCell x_oldValue x_oldCount x_oldDigest x_eventAccount x_eventTag x_eventValue x_frameSelf x_frameCaller x_frameAmount x_frameArg x_frameGiven x_frameLeft x_framePc x_frameSp x_frameJournal x_frameEvents x_frameWarm x_frameRefund x_frameMails x_stack F) (nI (24 * a)) (nI k) (nI n) x4 (nI (zb_sc x_op (24 * a + k) t + zc_cst o)) x7 (nI nd) (nI rs) (nI (k + t)) (nI o) z0 (nI (zb_sm x_op (24 * a + k) t)) x_limit x_pending x_digest x_journal x_warm x_refund x_mails x_ring x_kept x_version x_events x_depth x_self x_left x_pc x_sp x_base x_lastStatus x_lastResult x_lastUsed x_lastCalls x_op x_arg x_length x_blockLength x_blockCost x_blockMost x_blockNeed x_blockRise x_state x_weight x_journalCell x_journalOld x_mailTo x_mailFrom x_mailAmount x_mailArg x_oldCell x_oldValue x_oldCount x_oldDigest x_eventAccount x_eventTag x_eventValue x_frameSelf x_frameCaller x_frameAmount x_frameArg x_frameGiven x_frameLeft x_framePc x_frameSp x_frameJournal x_frameEvents x_frameWarm x_frameRefund x_frameMails x_stack := by
    intro z0 ez
    refine nm_r (e' := nI (zb_sm x_op (24 * a + k) t + zc_mx o)) (by rw [ez, nI_add]) (xw_takes ho (nm_e ?_))
    rcases n4 with ⟨c, e⟩ | ⟨c, e⟩
    · refine br_t c ?_
      rw [← e]; exact W99
    · exact br_f c (nm_r e W99)
  have ei : nI (24 * a) + nI (k + t) = nI (24 * a + k + t) := by rw [nI_add, Nat.add_assoc]
  refine br_f (by decide) ?_
  rw [ei, nI_clamp (by omega : 24 * a + k + t < 2 ^ 31)]
  refine ⟨vp_in_nI (by omega) (by omega), nm_r eop (xw_cost ho (nm_r (nI_add _ _) ?_))⟩
  refine pk_eq o 6 (fun e => W73 5 (by rw [e]; rfl)) (fun n6 => pk_eq o 7 (fun e => W73 8 (by rw [e]; rfl)) (fun n7 => W73 0 ?_))
  unfold zc_mx
  rw [if_neg n6, if_neg n7]
  rfl
/-- the loop -/
theorem xw_m21 {a k n : Nat} {x4 : Int32} (ha : a < 6) (hn : n ≤ 24) (hO : zb_O x_op) : ∀ (d t nd rs : Nat) (x7 : Int32), k + t + (d + 1) = n → x7.toInt = zb_hs x_op (24 * a + k) t → nd ≤ 3 * t → rs ≤ 2 * t → zb_HO x_op (24 * a + k) t nd rs → (∀ t', t' < t → zc_cl (zb_o x_op (24 * a + k + t')) = 0) →
    ∃ (l lv nd' rs' : Nat), 0 < l ∧ k + l ≤ n ∧ nd' ≤ 3 * l ∧ rs' ≤ 2 * l ∧ (lv = 0 ∨ (lv = l ∧ zb_K x_op x_arg n (24 * a + k) k l (zb_sc x_op (24 * a + k) l) (zb_sc x_op (24 * a + k) l + zb_sm x_op (24 * a + k) l) nd' rs')) ∧
      ∀ (post : SX → Prop), post (x_limit, x_pending, x_digest, x_journal, x_warm, x_refund, x_mails, x_ring, x_kept, x_version, x_events, x_depth, x_self, x_left, x_pc, x_sp, x_base, x_lastStatus, x_lastResult, x_lastUsed, x_lastCalls, x_op, x_arg, x_length, upd x_blockLength (24 * a + k) (nI lv), upd x_blockCost (24 * a + k) (nI (zb_sc x_op (24 * a + k) l)), upd x_blockMost (24 * a + k) (nI (zb_sc x_op (24 * a + k) l + zb_sm x_op (24 * a + k) l)), upd x_blockNeed (24 * a + k) (nI nd'), upd x_blockRise (24 * a + k) (nI rs'), x_state, x_weight, x_journalCell, x_journalOld, x_mailTo, x_mailFrom, x_mailAmount, x_mailArg, x_oldCell, x_oldValue, x_oldCount, x_oldDigest, x_eventAccount, x_eventTag, x_eventValue, x_frameSelf, x_frameCaller, x_frameAmount, x_frameArg, x_frameGiven, x_frameLeft, x_framePc, x_frameSp, x_frameJournal, x_frameEvents, x_frameWarm, x_frameRefund, x_frameMails, x_stack) →
        wX_measure_21 post (nI (24 * a)) (nI k) (nI n) x4 x_limit x_pending x_digest x_journal x_warm x_refund x_mails x_ring x_kept x_version x_events x_depth x_self x_left x_pc x_sp x_base x_lastStatus x_lastResult x_lastUsed x_lastCalls x_op x_arg x_length x_blockLength x_blockCost x_blockMost x_blockNeed x_blockRise x_state x_weight x_journalCell x_journalOld x_mailTo x_mailFrom x_mailAmount x_mailArg x_oldCell x_oldValue x_oldCount x_oldDigest x_eventAccount x_eventTag x_eventValue x_frameSelf x_frameCaller x_frameAmount x_frameArg x_frameGiven x_frameLeft x_framePc x_frameSp x_frameJournal x_frameEvents x_frameWarm x_frameRefund x_frameMails x_stack (d + 2) (nI (zb_sc x_op (24 * a + k) t)) (nI (zb_sm x_op (24 * a + k) t)) x7 (nI nd) (nI rs) (nI (k + t)) 1 := by
  intro d
  induction d with
  | zero =>
    intro t nd rs x7 hd h7 hnd hrs hHO hcl
    obtain ⟨nd', rs', x7', mo, h7', hnd', hrs', hHO', hmo, hX⟩ := xw_mS (x4 := x4) (x_limit := x_limit) (x_pending := x_pending) (x_digest := x_digest) (x_journal := x_journal) (x_warm := x_warm) (x_refund := x_refund) (x_mails := x_mails) (x_ring := x_ring) (x_kept := x_kept) (x_version := x_version) (x_events := x_events) (x_depth := x_depth) (x_self := x_self) (x_left := x_left) (x_pc := x_pc) (x_sp := x_sp) (x_base := x_base) (x_lastStatus := x_lastStatus) (x_lastResult := x_lastResult) (x_lastUsed := x_lastUsed) (x_lastCalls := x_lastCalls) (x_arg := x_arg) (x_length := x_length) (x_blockLength := x_blockLength) (x_blockCost := x_blockCost) (x_blockMost := x_blockMost) (x_blockNeed := x_blockNeed) (x_blockRise := x_blockRise) (x_state := x_state) (x_weight := x_weight) (x_journalCell := x_journalCell) (x_journalOld := x_journalOld) (x_mailTo := x_mailTo) (x_mailFrom := x_mailFrom) (x_mailAmount := x_mailAmount) (x_mailArg := x_mailArg) (x_oldCell := x_oldCell) (x_oldValue := x_oldValue) (x_oldCount := x_oldCount) (x_oldDigest := x_oldDigest) (x_eventAccount := x_eventAccount) (x_eventTag := x_eventTag) (x_eventValue := x_eventValue) (x_frameSelf := x_frameSelf) (x_frameCaller := x_frameCaller) (x_frameAmount := x_frameAmount) (x_frameArg := x_frameArg) (x_frameGiven := x_frameGiven) (x_frameLeft := x_frameLeft) (x_framePc := x_framePc) (x_frameSp := x_frameSp) (x_frameJournal := x_frameJournal) (x_frameEvents := x_frameEvents) (x_frameWarm := x_frameWarm) (x_frameRefund := x_frameRefund) (x_frameMails := x_frameMails) (x_stack := x_stack) ha hn (by omega) hO h7 hnd hrs hHO
    have hm0 : mo = 0 := by
      rcases hmo with z | ⟨_, z, _⟩
      · exact z
      · omega
    subst hm0
    obtain ⟨lv, hlv, hE⟩ := xw_mE (x4 := x4) (x7 := x7') (t := t + 1) (x_limit := x_limit) (x_pending := x_pending) (x_digest := x_digest) (x_journal := x_journal) (x_warm := x_warm) (x_refund := x_refund) (x_mails := x_mails) (x_ring := x_ring) (x_kept := x_kept) (x_version := x_version) (x_events := x_events) (x_depth := x_depth) (x_self := x_self) (x_left := x_left) (x_pc := x_pc) (x_sp := x_sp) (x_base := x_base) (x_lastStatus := x_lastStatus) (x_lastResult := x_lastResult) (x_lastUsed := x_lastUsed) (x_lastCalls := x_lastCalls) (x_arg := x_arg) (x_length := x_length) (x_blockLength := x_blockLength) (x_blockCost := x_blockCost) (x_blockMost := x_blockMost) (x_blockNeed := x_blockNeed) (x_blockRise := x_blockRise) (x_state := x_state) (x_weight := x_weight) (x_journalCell := x_journalCell) (x_journalOld := x_journalOld) (x_mailTo := x_mailTo) (x_mailFrom := x_mailFrom) (x_mailAmount := x_mailAmount) (x_mailArg := x_mailArg) (x_oldCell := x_oldCell) (x_oldValue := x_oldValue) (x_oldCount := x_oldCount) (x_oldDigest := x_oldDigest) (x_eventAccount := x_eventAccount) (x_eventTag := x_eventTag) (x_eventValue := x_eventValue) (x_frameSelf := x_frameSelf) (x_frameCaller := x_frameCaller) (x_frameAmount := x_frameAmount) (x_frameArg := x_frameArg) (x_frameGiven := x_frameGiven) (x_frameLeft := x_frameLeft) (x_framePc := x_framePc) (x_frameSp := x_frameSp) (x_frameJournal := x_frameJournal) (x_frameEvents := x_frameEvents) (x_frameWarm := x_frameWarm) (x_frameRefund := x_frameRefund) (x_frameMails := x_frameMails) (x_stack := x_stack) ha hn (by omega) (by omega) hO hnd' hrs' hHO' (fun t' ht' => hcl t' (by omega))
    exact ⟨t + 1, lv, nd', rs', by omega, by omega, hnd', hrs', hlv, fun post hp => hX post 1 (hE post 0 hp)⟩
  | succ d ih =>
    intro t nd rs x7 hd h7 hnd hrs hHO hcl
    obtain ⟨nd', rs', x7', mo, h7', hnd', hrs', hHO', hmo, hX⟩ := xw_mS (x4 := x4) (x_limit := x_limit) (x_pending := x_pending) (x_digest := x_digest) (x_journal := x_journal) (x_warm := x_warm) (x_refund := x_refund) (x_mails := x_mails) (x_ring := x_ring) (x_kept := x_kept) (x_version := x_version) (x_events := x_events) (x_depth := x_depth) (x_self := x_self) (x_left := x_left) (x_pc := x_pc) (x_sp := x_sp) (x_base := x_base) (x_lastStatus := x_lastStatus) (x_lastResult := x_lastResult) (x_lastUsed := x_lastUsed) (x_lastCalls := x_lastCalls) (x_arg := x_arg) (x_length := x_length) (x_blockLength := x_blockLength) (x_blockCost := x_blockCost) (x_blockMost := x_blockMost) (x_blockNeed := x_blockNeed) (x_blockRise := x_blockRise) (x_state := x_state) (x_weight := x_weight) (x_journalCell := x_journalCell) (x_journalOld := x_journalOld) (x_mailTo := x_mailTo) (x_mailFrom := x_mailFrom) (x_mailAmount := x_mailAmount) (x_mailArg := x_mailArg) (x_oldCell := x_oldCell) (x_oldValue := x_oldValue) (x_oldCount := x_oldCount) (x_oldDigest := x_oldDigest) (x_eventAccount := x_eventAccount) (x_eventTag := x_eventTag) (x_eventValue := x_eventValue) (x_frameSelf := x_frameSelf) (x_frameCaller := x_frameCaller) (x_frameAmount := x_frameAmount) (x_frameArg := x_frameArg) (x_frameGiven := x_frameGiven) (x_frameLeft := x_frameLeft) (x_framePc := x_framePc) (x_frameSp := x_frameSp) (x_frameJournal := x_frameJournal) (x_frameEvents := x_frameEvents) (x_frameWarm := x_frameWarm) (x_frameRefund := x_frameRefund) (x_frameMails := x_frameMails) (x_stack := x_stack) ha hn (by omega) hO h7 hnd hrs hHO
    rcases hmo with z | ⟨z, hlt, hc0⟩
    · subst z
      obtain ⟨lv, hlv, hE⟩ := xw_mE (x4 := x4) (x7 := x7') (t := t + 1) (x_limit := x_limit) (x_pending := x_pending) (x_digest := x_digest) (x_journal := x_journal) (x_warm := x_warm) (x_refund := x_refund) (x_mails := x_mails) (x_ring := x_ring) (x_kept := x_kept) (x_version := x_version) (x_events := x_events) (x_depth := x_depth) (x_self := x_self) (x_left := x_left) (x_pc := x_pc) (x_sp := x_sp) (x_base := x_base) (x_lastStatus := x_lastStatus) (x_lastResult := x_lastResult) (x_lastUsed := x_lastUsed) (x_lastCalls := x_lastCalls) (x_arg := x_arg) (x_length := x_length) (x_blockLength := x_blockLength) (x_blockCost := x_blockCost) (x_blockMost := x_blockMost) (x_blockNeed := x_blockNeed) (x_blockRise := x_blockRise) (x_state := x_state) (x_weight := x_weight) (x_journalCell := x_journalCell) (x_journalOld := x_journalOld) (x_mailTo := x_mailTo) (x_mailFrom := x_mailFrom) (x_mailAmount := x_mailAmount) (x_mailArg := x_mailArg) (x_oldCell := x_oldCell) (x_oldValue := x_oldValue) (x_oldCount := x_oldCount) (x_oldDigest := x_oldDigest) (x_eventAccount := x_eventAccount) (x_eventTag := x_eventTag) (x_eventValue := x_eventValue) (x_frameSelf := x_frameSelf) (x_frameCaller := x_frameCaller) (x_frameAmount := x_frameAmount) (x_frameArg := x_frameArg) (x_frameGiven := x_frameGiven) (x_frameLeft := x_frameLeft) (x_framePc := x_framePc) (x_frameSp := x_frameSp) (x_frameJournal := x_frameJournal) (x_frameEvents := x_frameEvents) (x_frameWarm := x_frameWarm) (x_frameRefund := x_frameRefund) (x_frameMails := x_frameMails) (x_stack := x_stack) ha hn (by omega) (by omega) hO hnd' hrs' hHO' (fun t' ht' => hcl t' (by omega))
      exact ⟨t + 1, lv, nd', rs', by omega, by omega, hnd', hrs', hlv, fun post hp => hX post (d + 2) (hE post (d + 1) hp)⟩
    · subst z
      obtain ⟨l, lv, nd2, rs2, l0, l1, l2, l3, hlv, hE⟩ := ih (t + 1) nd' rs' x7' (by omega) h7' hnd' hrs' hHO' (fun t' ht' => by
        by_cases e : t' = t
        · subst e; exact hc0
        · exact hcl t' (by omega))
      exact ⟨l, lv, nd2, rs2, l0, l1, l2, l3, hlv, fun post hp => hX post (d + 2) (hE post hp)⟩
/-- what measure gives -/
theorem xw_measure {a k n : Nat} {x4 : Int32} (ha : a < 6) (hn : n ≤ 24) (hk : k < n) (hO : zb_O x_op) : ∃ (bl bc bm bn br : Int32), (∀ xl xc xm xn xr : Nat → Int32, zb_B x_op x_arg (upd xl (24 * a + k) bl) (upd xc (24 * a + k) bc) (upd xm (24 * a + k) bm) (upd xn (24 * a + k) bn) (upd xr (24 * a + k) br) n (24 * a + k) k) ∧
    ∀ post : SX → Prop, post (x_limit, x_pending, x_digest, x_journal, x_warm, x_refund, x_mails, x_ring, x_kept, x_version, x_events, x_depth, x_self, x_left, x_pc, x_sp, x_base, x_lastStatus, x_lastResult, x_lastUsed, x_lastCalls, x_op, x_arg, x_length, upd x_blockLength (24 * a + k) bl, upd x_blockCost (24 * a + k) bc, upd x_blockMost (24 * a + k) bm, upd x_blockNeed (24 * a + k) bn, upd x_blockRise (24 * a + k) br, x_state, x_weight, x_journalCell, x_journalOld, x_mailTo, x_mailFrom, x_mailAmount, x_mailArg, x_oldCell, x_oldValue, x_oldCount, x_oldDigest, x_eventAccount, x_eventTag, x_eventValue, x_frameSelf, x_frameCaller, x_frameAmount, x_frameArg, x_frameGiven, x_frameLeft, x_framePc, x_frameSp, x_frameJournal, x_frameEvents, x_frameWarm, x_frameRefund, x_frameMails, x_stack) → wpX_measure post (x_limit, x_pending, x_digest, x_journal, x_warm, x_refund, x_mails, x_ring, x_kept, x_version, x_events, x_depth, x_self, x_left, x_pc, x_sp, x_base, x_lastStatus, x_lastResult, x_lastUsed, x_lastCalls, x_op, x_arg, x_length, x_blockLength, x_blockCost, x_blockMost, x_blockNeed, x_blockRise, x_state, x_weight, x_journalCell, x_journalOld, x_mailTo, x_mailFrom, x_mailAmount, x_mailArg, x_oldCell, x_oldValue, x_oldCount, x_oldDigest, x_eventAccount, x_eventTag, x_eventValue, x_frameSelf, x_frameCaller, x_frameAmount, x_frameArg, x_frameGiven, x_frameLeft, x_framePc, x_frameSp, x_frameJournal, x_frameEvents, x_frameWarm, x_frameRefund, x_frameMails, x_stack) (nI (24 * a)) (nI k) (nI n) x4 := by
  obtain ⟨l, lv, nd', rs', l0, l1, l2, l3, hlv, hE⟩ := xw_m21 (x4 := x4) (k := k) (x_limit := x_limit) (x_pending := x_pending) (x_digest := x_digest) (x_journal := x_journal) (x_warm := x_warm) (x_refund := x_refund) (x_mails := x_mails) (x_ring := x_ring) (x_kept := x_kept) (x_version := x_version) (x_events := x_events) (x_depth := x_depth) (x_self := x_self) (x_left := x_left) (x_pc := x_pc) (x_sp := x_sp) (x_base := x_base) (x_lastStatus := x_lastStatus) (x_lastResult := x_lastResult) (x_lastUsed := x_lastUsed) (x_lastCalls := x_lastCalls) (x_arg := x_arg) (x_length := x_length) (x_blockLength := x_blockLength) (x_blockCost := x_blockCost) (x_blockMost := x_blockMost) (x_blockNeed := x_blockNeed) (x_blockRise := x_blockRise) (x_state := x_state) (x_weight := x_weight) (x_journalCell := x_journalCell) (x_journalOld := x_journalOld) (x_mailTo := x_mailTo) (x_mailFrom := x_mailFrom) (x_mailAmount := x_mailAmount) (x_mailArg := x_mailArg) (x_oldCell := x_oldCell) (x_oldValue := x_oldValue) (x_oldCount := x_oldCount) (x_oldDigest := x_oldDigest) (x_eventAccount := x_eventAccount) (x_eventTag := x_eventTag) (x_eventValue := x_eventValue) (x_frameSelf := x_frameSelf) (x_frameCaller := x_frameCaller) (x_frameAmount := x_frameAmount) (x_frameArg := x_frameArg) (x_frameGiven := x_frameGiven) (x_frameLeft := x_frameLeft) (x_framePc := x_framePc) (x_frameSp := x_frameSp) (x_frameJournal := x_frameJournal) (x_frameEvents := x_frameEvents) (x_frameWarm := x_frameWarm) (x_frameRefund := x_frameRefund) (x_frameMails := x_frameMails) (x_stack := x_stack) ha hn hO (n - k - 1) 0 0 0 0 (by omega) rfl (by omega) (by omega) (fun h _ _ t ht => absurd ht (by omega)) (fun t' ht' => absurd ht' (by omega))
  obtain ⟨b1, b2, _, _⟩ := zb_bd hO (i := 24 * a + k) (t := l) (by omega)
  refine ⟨_, _, _, _, _, fun xl xc xm xn xr => ?_, fun post hp => ⟨n - k - 1 + 2, hE post hp⟩⟩
  rcases hlv with z | ⟨z, hK⟩
  · left; rw [pk_us, z]; rfl
  · right
    refine ⟨l, _, _, nd', rs', l0, by omega, ?_, ?_, by omega, by omega, by rw [pk_us, z], pk_us, pk_us, pk_us, pk_us, hK⟩
    · omega
    · omega
end
end
section

/-! programs: divide, deploy, put -/
section
variable {x_limit x_pending x_journal x_refund x_mails x_ring x_kept x_version x_events x_depth x_self x_left x_pc x_sp x_base x_lastStatus x_lastResult x_lastUsed x_lastCalls : Int32} {x_digest x_warm : Int64} {x_op x_arg x_length x_blockLength x_blockCost x_blockMost x_blockNeed x_blockRise x_state x_journalCell x_journalOld x_mailTo x_mailFrom x_mailAmount x_mailArg x_oldCell x_oldValue x_oldCount x_eventAccount x_eventTag x_eventValue x_frameSelf x_frameCaller x_frameAmount x_frameArg x_frameGiven x_frameLeft x_framePc x_frameSp x_frameJournal x_frameEvents x_frameRefund x_frameMails x_stack : Nat → Int32} {x_weight x_oldDigest x_frameWarm : Nat → Int64}
variable {y_limit y_eventCount y_waiting y_refund y_depth y_ended y_answer y_rest y_begun y_result y_used y_calls y_version y_kept : Int32} {y_ops y_bs y_lengths y_now y_copies y_older y_before y_warm y_warmCopies y_eventCopies y_messageCopies y_refundCopies y_events y_messages y_self y_caller y_amounts y_arguments y_given y_left y_at y_tops y_stack : Nat → Int32}
variable {N G J0 lx px s p h L f J W e r : Nat} {ln sf gv jn ml kk hh pp : Nat → Nat} {B : Nat → Int32}
theorem xw_div1 {a n : Nat} (ha : a < 6) (hn : n ≤ 24) (hO : zb_O x_op) : ∀ (d k : Nat) (x4 : Int32), k + d = n → ∃ x4' : Int32, ∀ post : SX → Prop, (∃ F : Nat, wX_divide_101 post (nI n) (nI (24 * a)) x4' F 0 x_limit x_pending x_digest x_journal x_warm x_refund x_mails x_ring x_kept x_version x_events x_depth x_self x_left x_pc x_sp x_base x_lastStatus x_lastResult x_lastUsed x_lastCalls x_op x_arg x_length x_blockLength x_blockCost x_blockMost x_blockNeed x_blockRise x_state x_weight x_journalCell x_journalOld x_mailTo x_mailFrom x_mailAmount x_mailArg x_oldCell x_oldValue x_oldCount x_oldDigest x_eventAccount x_eventTag x_eventValue x_frameSelf x_frameCaller x_frameAmount x_frameArg x_frameGiven x_frameLeft x_framePc x_frameSp x_frameJournal x_frameEvents x_frameWarm x_frameRefund x_frameMails x_stack) → wX_divide_11 post (nI n) (nI (24 * a)) x_limit x_pending x_digest x_journal x_warm x_refund x_mails x_ring x_kept x_version x_events x_depth x_self x_left x_pc x_sp x_base x_lastStatus x_lastResult x_lastUsed x_lastCalls x_op x_arg x_length x_blockLength x_blockCost x_blockMost x_blockNeed x_blockRise x_state x_weight x_journalCell x_journalOld x_mailTo x_mailFrom x_mailAmount x_mailArg x_oldCell x_oldValue x_oldCount x_oldDigest x_eventAccount x_eventTag x_eventValue x_frameSelf x_frameCaller x_frameAmount x_frameArg x_frameGiven x_frameLeft x_framePc x_frameSp x_frameJournal x_frameEvents x_frameWarm x_frameRefund x_frameMails x_stack (d + 1) x4 (nI k) := by
  intro d
  induction d with
  | zero =>
    intro k x4 hk
    have e : k = n := by omega
    subst e
    exact ⟨x4, fun post hp => br_t (nI_le (Nat.le_refl _) (by omega)) hp⟩
  | succ d ih =>
    intro k x4 hk
    obtain ⟨o, eo⟩ : ∃ o, zb_o x_op (24 * a + k) = o := ⟨_, rfl⟩
    obtain ⟨eop, ho⟩ := hO (24 * a + k) (by omega)
    rw [eo] at eop ho
    have hi : vp_in (nI (24 * a + k)) 168 := vp_in_nI (by omega) (by omega)
    -- the tail of the body: closes
    have T73 : ∀ y4 : Int32, ∃ x4' : Int32, ∀ post : SX → Prop, (∃ F : Nat, wX_divide_101 post (nI n) (nI (24 * a)) x4' F 0 x_limit x_pending x_digest x_journal x_warm x_refund x_mails x_ring x_kept x_version x_events x_depth x_self x_left x_pc x_sp x_base x_lastStatus x_lastResult x_lastUsed x_lastCalls x_op x_arg x_length x_blockLength x_blockCost x_blockMost x_blockNeed x_blockRise x_state x_weight x_journalCell x_journalOld x_mailTo x_mailFrom x_mailAmount x_mailArg x_oldCell x_oldValue x_oldCount x_oldDigest x_eventAccount x_eventTag x_eventValue x_frameSelf x_frameCaller x_frameAmount x_frameArg x_frameGiven x_frameLeft x_framePc x_frameSp x_frameJournal x_frameEvents x_frameWarm x_frameRefund x_frameMails x_stack) → wX_divide_73 post (wX_divide_11 post (nI n) (nI (24 * a)) x_limit x_pending x_digest x_journal x_warm x_refund x_mails x_ring x_kept x_version x_events x_depth x_self x_left x_pc x_sp x_base x_lastStatus x_lastResult x_lastUsed x_lastCalls x_op x_arg x_length x_blockLength x_blockCost x_blockMost x_blockNeed x_blockRise x_state x_weight x_journalCell x_journalOld x_mailTo x_mailFrom x_mailAmount x_mailArg x_oldCell x_oldValue x_oldCount x_oldDigest x_eventAccount x_eventTag x_eventValue x_frameSelf x_frameCaller x_frameAmount x_frameArg x_frameGiven x_frameLeft x_framePc x_frameSp x_frameJournal x_frameEvents x_frameWarm x_frameRefund x_frameMails x_stack (d + 1)) (nI n) (nI (24 * a)) y4 (nI k) (nI o) x_limit x_pending x_digest x_journal x_warm x_refund x_mails x_ring x_kept x_version x_events x_depth x_self x_left x_pc x_sp x_base x_lastStatus x_lastResult x_lastUsed x_lastCalls x_op x_arg x_length x_blockLength x_blockCost x_blockMost x_blockNeed x_blockRise x_state x_weight x_journalCell x_journalOld x_mailTo x_mailFrom x_mailAmount x_mailArg x_oldCell x_oldValue x_oldCount x_oldDigest x_eventAccount x_eventTag x_eventValue x_frameSelf x_frameCaller x_frameAmount x_frameArg x_frameGiven x_frameLeft x_framePc x_frameSp x_frameJournal x_frameEvents x_frameWarm x_frameRefund x_frameMails x_stack := by
      intro y4
      by_cases c : zc_cl o = 0
      · obtain ⟨x4', hX⟩ := ih (k + 1) y4 (by omega)
        refine ⟨x4', fun post hp => xw_closes ho ?_⟩
        rw [c]
        exact br_t rfl (nm_r (nI_1 k) (hX post hp))
      · obtain ⟨x4', hX⟩ := ih (k + 1) (y4 ||| ((1 : Int32) <<< ((nI k + 1) &&& 31))) (by omega)
        refine ⟨x4', fun post hp => xw_closes ho (br_f (fun z => c ?_) (nm_e (nm_r (nI_1 k) (hX post hp))))⟩
        have c1 : zc_cl o ≤ 1 := co_dec (N := 24) (P := fun o => zc_cl o ≤ 1) (by decide) ho
        exact (nI_eq (b := 0) (by omega) (by omega)).mp z
    have head : ∀ {x4' : Int32}, (∀ post : SX → Prop, (∃ F : Nat, wX_divide_101 post (nI n) (nI (24 * a)) x4' F 0 x_limit x_pending x_digest x_journal x_warm x_refund x_mails x_ring x_kept x_version x_events x_depth x_self x_left x_pc x_sp x_base x_lastStatus x_lastResult x_lastUsed x_lastCalls x_op x_arg x_length x_blockLength x_blockCost x_blockMost x_blockNeed x_blockRise x_state x_weight x_journalCell x_journalOld x_mailTo x_mailFrom x_mailAmount x_mailArg x_oldCell x_oldValue x_oldCount x_oldDigest x_eventAccount x_eventTag x_eventValue x_frameSelf x_frameCaller x_frameAmount x_frameArg x_frameGiven x_frameLeft x_framePc x_frameSp x_frameJournal x_frameEvents x_frameWarm x_frameRefund x_frameMails x_stack) → ((nI o = 16 → wX_divide_53 post (wX_divide_11 post (nI n) (nI (24 * a)) x_limit x_pending x_digest x_journal x_warm x_refund x_mails x_ring x_kept x_version x_events x_depth x_self x_left x_pc x_sp x_base x_lastStatus x_lastResult x_lastUsed x_lastCalls x_op x_arg x_length x_blockLength x_blockCost x_blockMost x_blockNeed x_blockRise x_state x_weight x_journalCell x_journalOld x_mailTo x_mailFrom x_mailAmount x_mailArg x_oldCell x_oldValue x_oldCount x_oldDigest x_eventAccount x_eventTag x_eventValue x_frameSelf x_frameCaller x_frameAmount x_frameArg x_frameGiven x_frameLeft x_framePc x_frameSp x_frameJournal x_frameEvents x_frameWarm x_frameRefund x_frameMails x_stack (d + 1)) (nI n) (nI (24 * a)) x4 (nI k) (nI o) (x_arg (24 * a + k)) x_limit x_pending x_digest x_journal x_warm x_refund x_mails x_ring x_kept x_version x_events x_depth x_self x_left x_pc x_sp x_base x_lastStatus x_lastResult x_lastUsed x_lastCalls x_op x_arg x_length x_blockLength x_blockCost x_blockMost x_blockNeed x_blockRise x_state x_weight x_journalCell x_journalOld x_mailTo x_mailFrom x_mailAmount x_mailArg x_oldCell x_oldValue x_oldCount x_oldDigest x_eventAccount x_eventTag x_eventValue x_frameSelf x_frameCaller x_frameAmount x_frameArg x_frameGiven x_frameLeft x_framePc x_frameSp x_frameJournal x_frameEvents x_frameWarm x_frameRefund x_frameMails x_stack) ∧ (¬ nI o = 16 → ((nI o = 17 → wX_divide_53 post (wX_divide_11 post (nI n) (nI (24 * a)) x_limit x_pending x_digest x_journal x_warm x_refund x_mails x_ring x_kept x_version x_events x_depth x_self x_left x_pc x_sp x_base x_lastStatus x_lastResult x_lastUsed x_lastCalls x_op x_arg x_length x_blockLength x_blockCost x_blockMost x_blockNeed x_blockRise x_state x_weight x_journalCell x_journalOld x_mailTo x_mailFrom x_mailAmount x_mailArg x_oldCell x_oldValue x_oldCount x_oldDigest x_eventAccount x_eventTag x_eventValue x_frameSelf x_frameCaller x_frameAmount x_frameArg x_frameGiven x_frameLeft x_framePc x_frameSp x_frameJournal x_frameEvents x_frameWarm x_frameRefund x_frameMails x_stack (d + 1)) (nI n) (nI (24 * a)) x4 (nI k) (nI o) (x_arg (24 * a + k)) x_limit x_pending x_digest x_journal x_warm x_refund x_mails x_ring x_kept x_version x_events x_depth x_self x_left x_pc x_sp x_base x_lastStatus x_lastResult x_lastUsed x_lastCalls x_op x_arg x_length x_blockLength x_blockCost x_blockMost x_blockNeed x_blockRise x_state x_weight x_journalCell x_journalOld x_mailTo x_mailFrom x_mailAmount x_mailArg x_oldCell x_oldValue x_oldCount x_oldDigest x_eventAccount x_eventTag x_eventValue x_frameSelf x_frameCaller x_frameAmount x_frameArg x_frameGiven x_frameLeft x_framePc x_frameSp x_frameJournal x_frameEvents x_frameWarm x_frameRefund x_frameMails x_stack) ∧ (¬ nI o = 17 → wX_divide_73 post (wX_divide_11 post (nI n) (nI (24 * a)) x_limit x_pending x_digest x_journal x_warm x_refund x_mails x_ring x_kept x_version x_events x_depth x_self x_left x_pc x_sp x_base x_lastStatus x_lastResult x_lastUsed x_lastCalls x_op x_arg x_length x_blockLength x_blockCost x_blockMost x_blockNeed x_blockRise x_state x_weight x_journalCell x_journalOld x_mailTo x_mailFrom x_mailAmount x_mailArg x_oldCell x_oldValue x_oldCount x_oldDigest x_eventAccount x_eventTag x_eventValue x_frameSelf x_frameCaller x_frameAmount x_frameArg x_frameGiven x_frameLeft x_framePc x_frameSp x_frameJournal x_frameEvents x_frameWarm x_frameRefund x_frameMails x_stack (d + 1)) (nI n) (nI (24 * a)) x4 (nI k) (nI o) x_limit x_pending x_digest x_journal x_warm x_refund x_mails x_ring x_kept x_version x_events x_depth x_self x_left x_pc x_sp x_base x_lastStatus x_lastResult x_lastUsed x_lastCalls x_op x_arg x_length x_blockLength x_blockCost x_blockMost x_blockNeed x_blockRise x_state x_weight x_journalCell x_journalOld x_mailTo x_mailFrom x_mailAmount x_mailArg x_oldCell x_oldValue x_oldCount x_oldDigest x_eventAccount x_eventTag x_eventValue x_frameSelf x_frameCaller x_frameAmount x_frameArg x_frameGiven x_frameLeft x_framePc x_frameSp x_frameJournal x_frameEvents x_frameWarm x_frameRefund x_frameMails x_stack))))) → ∃ x4' : Int32, ∀ post : SX → Prop, (∃ F : Nat, wX_divide_101 post (nI n) (nI (24 * a)) x4' F 0 x_limit x_pending x_digest x_journal x_warm x_refund x_mails x_ring x_kept x_version x_events x_depth x_self x_left x_pc x_sp x_base x_lastStatus x_lastResult x_lastUsed x_lastCalls x_op x_arg x_length x_blockLength x_blockCost x_blockMost x_blockNeed x_blockRise x_state x_weight x_journalCell x_journalOld x_mailTo x_mailFrom x_mailAmount x_mailArg x_oldCell x_oldValue x_oldCount x_oldDigest x_eventAccount x_eventTag x_eventValue x_frameSelf x_frameCaller x_frameAmount x_frameArg x_frameGiven x_frameLeft x_framePc x_frameSp x_frameJournal x_frameEvents x_frameWarm x_frameRefund x_frameMails x_stack) → wX_divide_11 post (nI n) (nI (24 * a)) x_limit x_pending x_digest x_journal x_warm x_refund x_mails x_ring x_kept x_version x_events x_depth x_self x_left x_pc x_sp x_base x_lastStatus x_lastResult x_lastUsed x_lastCalls x_op x_arg x_length x_blockLength x_blockCost x_blockMost x_blockNeed x_blockRise x_state x_weight x_journalCell x_journalOld x_mailTo x_mailFrom x_mailAmount x_mailArg x_oldCell x_oldValue x_oldCount x_oldDigest x_eventAccount x_eventTag x_eventValue x_frameSelf x_frameCaller x_frameAmount x_frameArg x_frameGiven x_frameLeft x_framePc x_frameSp x_frameJournal x_frameEvents x_frameWarm x_frameRefund x_frameMails x_stack (d + 1 + 1) x4 (nI k) := by
      intro x4' H
      refine ⟨x4', fun post hp => br_f (nI_ge (by omega) (by omega)) ?_⟩
      rw [nI_add, nI_clamp (by omega : 24 * a + k < 2 ^ 31)]
      exact ⟨hi, nm_r eop ⟨hi, nm_e (H post hp)⟩⟩
    by_cases j : o = 16 ∨ o = 17
    · have W : ∃ x4' : Int32, ∀ post : SX → Prop, (∃ F : Nat, wX_divide_101 post (nI n) (nI (24 * a)) x4' F 0 x_limit x_pending x_digest x_journal x_warm x_refund x_mails x_ring x_kept x_version x_events x_depth x_self x_left x_pc x_sp x_base x_lastStatus x_lastResult x_lastUsed x_lastCalls x_op x_arg x_length x_blockLength x_blockCost x_blockMost x_blockNeed x_blockRise x_state x_weight x_journalCell x_journalOld x_mailTo x_mailFrom x_mailAmount x_mailArg x_oldCell x_oldValue x_oldCount x_oldDigest x_eventAccount x_eventTag x_eventValue x_frameSelf x_frameCaller x_frameAmount x_frameArg x_frameGiven x_frameLeft x_framePc x_frameSp x_frameJournal x_frameEvents x_frameWarm x_frameRefund x_frameMails x_stack) → wX_divide_53 post (wX_divide_11 post (nI n) (nI (24 * a)) x_limit x_pending x_digest x_journal x_warm x_refund x_mails x_ring x_kept x_version x_events x_depth x_self x_left x_pc x_sp x_base x_lastStatus x_lastResult x_lastUsed x_lastCalls x_op x_arg x_length x_blockLength x_blockCost x_blockMost x_blockNeed x_blockRise x_state x_weight x_journalCell x_journalOld x_mailTo x_mailFrom x_mailAmount x_mailArg x_oldCell x_oldValue x_oldCount x_oldDigest x_eventAccount x_eventTag x_eventValue x_frameSelf x_frameCaller x_frameAmount x_frameArg x_frameGiven x_frameLeft x_framePc x_frameSp x_frameJournal x_frameEvents x_frameWarm x_frameRefund x_frameMails x_stack (d + 1)) (nI n) (nI (24 * a)) x4 (nI k) (nI o) (x_arg (24 * a + k)) x_limit x_pending x_digest x_journal x_warm x_refund x_mails x_ring x_kept x_version x_events x_depth x_self x_left x_pc x_sp x_base x_lastStatus x_lastResult x_lastUsed x_lastCalls x_op x_arg x_length x_blockLength x_blockCost x_blockMost x_blockNeed x_blockRise x_state x_weight x_journalCell x_journalOld x_mailTo x_mailFrom x_mailAmount x_mailArg x_oldCell x_oldValue x_oldCount x_oldDigest x_eventAccount x_eventTag x_eventValue x_frameSelf x_frameCaller x_frameAmount x_frameArg x_frameGiven x_frameLeft x_framePc x_frameSp x_frameJournal x_frameEvents x_frameWarm x_frameRefund x_frameMails x_stack := by
        by_cases c1 : x_arg (24 * a + k) < 0
        · obtain ⟨x4', hX⟩ := T73 x4
          exact ⟨x4', fun post hp => br_t c1 (hX post hp)⟩
        · by_cases c2 : nI n ≤ x_arg (24 * a + k)
          · obtain ⟨x4', hX⟩ := T73 x4
            exact ⟨x4', fun post hp => br_f c1 (br_t c2 (hX post hp))⟩
          · obtain ⟨x4', hX⟩ := T73 (x4 ||| ((1 : Int32) <<< (x_arg (24 * a + k) &&& 31)))
            exact ⟨x4', fun post hp => br_f c1 (br_f c2 (nm_e (hX post hp)))⟩
      obtain ⟨x4', hX⟩ := W
      exact head fun post hp => pk_eq o 16 (fun e => hX post hp) (fun n16 => pk_eq o 17 (fun e => hX post hp) (fun n17 => absurd j (by omega)))
    · obtain ⟨x4', hX⟩ := T73 x4
      exact head fun post hp => pk_eq o 16 (fun e => absurd (Or.inl e) j) (fun n16 => pk_eq o 17 (fun e => absurd (Or.inr e) j) (fun n17 => hX post hp))
theorem xw_div2 {a n : Nat} {x4 : Int32} (ha : a < 6) (hn : n ≤ 24) (hO : zb_O x_op) : ∀ (d k : Nat) (bl bc bm bn br : Nat → Int32), k + d = n → (∀ j, j < k → zb_B x_op x_arg bl bc bm bn br n (24 * a + j) j) → (∀ i, (i < 24 * a ∨ 24 * a + 24 ≤ i) → bl i = x_blockLength i ∧ bc i = x_blockCost i ∧ bm i = x_blockMost i ∧ bn i = x_blockNeed i ∧ br i = x_blockRise i) →
    ∃ bl' bc' bm' bn' br' : Nat → Int32, (∀ j, j < n → zb_B x_op x_arg bl' bc' bm' bn' br' n (24 * a + j) j) ∧ (∀ i, (i < 24 * a ∨ 24 * a + 24 ≤ i) → bl' i = x_blockLength i ∧ bc' i = x_blockCost i ∧ bm' i = x_blockMost i ∧ bn' i = x_blockNeed i ∧ br' i = x_blockRise i) ∧ ∀ post : SX → Prop, post (x_limit, x_pending, x_digest, x_journal, x_warm, x_refund, x_mails, x_ring, x_kept, x_version, x_events, x_depth, x_self, x_left, x_pc, x_sp, x_base, x_lastStatus, x_lastResult, x_lastUsed, x_lastCalls, x_op, x_arg, x_length, bl', bc', bm', bn', br', x_state, x_weight, x_journalCell, x_journalOld, x_mailTo, x_mailFrom, x_mailAmount, x_mailArg, x_oldCell, x_oldValue, x_oldCount, x_oldDigest, x_eventAccount, x_eventTag, x_eventValue, x_frameSelf, x_frameCaller, x_frameAmount, x_frameArg, x_frameGiven, x_frameLeft, x_framePc, x_frameSp, x_frameJournal, x_frameEvents, x_frameWarm, x_frameRefund, x_frameMails, x_stack) → wX_divide_101 post (nI n) (nI (24 * a)) x4 (d + 1) (nI k) x_limit x_pending x_digest x_journal x_warm x_refund x_mails x_ring x_kept x_version x_events x_depth x_self x_left x_pc x_sp x_base x_lastStatus x_lastResult x_lastUsed x_lastCalls x_op x_arg x_length bl bc bm bn br x_state x_weight x_journalCell x_journalOld x_mailTo x_mailFrom x_mailAmount x_mailArg x_oldCell x_oldValue x_oldCount x_oldDigest x_eventAccount x_eventTag x_eventValue x_frameSelf x_frameCaller x_frameAmount x_frameArg x_frameGiven x_frameLeft x_framePc x_frameSp x_frameJournal x_frameEvents x_frameWarm x_frameRefund x_frameMails x_stack := by
  intro d
  induction d with
  | zero =>
    intro k bl bc bm bn br hk h1 h2
    have e : k = n := by omega
    subst e
    exact ⟨bl, bc, bm, bn, br, h1, h2, fun post hp => br_t (nI_le (Nat.le_refl _) (by omega)) hp⟩
  | succ d ih =>
    intro k bl bc bm bn br hk h1 h2
    have hi : vp_in (nI (24 * a + k)) 144 := vp_in_nI (by omega) (by omega)
    have hz : vp_nar .byte 0 = 0 := zn_nb (n := 0) (by omega)
    by_cases c : ((x4.toUInt32 >>> ((nI k).toUInt32 &&& Int32.toUInt32 31)).toInt32 &&& 1) = 0
    · obtain ⟨bl', bc', bm', bn', br', g1, g2, g3⟩ := ih (k + 1) (upd bl (24 * a + k) 0) bc bm bn br (by omega) (fun j hj => by
          by_cases e : j = k
          · subst e; exact Or.inl pk_us
          · exact zb_B_c (h1 j (by omega)) (pk_un (by omega)) rfl rfl rfl rfl (fun _ _ _ => ⟨rfl, rfl⟩)) (fun i hi => by
          rw [pk_un (by omega)]; exact h2 i hi)
      refine ⟨bl', bc', bm', bn', br', g1, g2, fun post hp => br_f (nI_ge (by omega) (by omega)) ?_⟩
      rw [nI_add, nI_clamp (by omega : 24 * a + k < 2 ^ 31), hz]
      exact ⟨hi, nm_e (br_t c (nm_r (nI_1 k) (g3 post hp)))⟩
    · obtain ⟨vl, vc, vm, vn, vr, hB, hM⟩ := xw_measure (a := a) (k := k) (n := n) (x4 := x4) (x_limit := x_limit) (x_pending := x_pending) (x_digest := x_digest) (x_journal := x_journal) (x_warm := x_warm) (x_refund := x_refund) (x_mails := x_mails) (x_ring := x_ring) (x_kept := x_kept) (x_version := x_version) (x_events := x_events) (x_depth := x_depth) (x_self := x_self) (x_left := x_left) (x_pc := x_pc) (x_sp := x_sp) (x_base := x_base) (x_lastStatus := x_lastStatus) (x_lastResult := x_lastResult) (x_lastUsed := x_lastUsed) (x_lastCalls := x_lastCalls) (x_arg := x_arg) (x_length := x_length) (x_state := x_state) (x_weight := x_weight) (x_journalCell := x_journalCell) (x_journalOld := x_journalOld) (x_mailTo := x_mailTo) (x_mailFrom := x_mailFrom) (x_mailAmount := x_mailAmount) (x_mailArg := x_mailArg) (x_oldCell := x_oldCell) (x_oldValue := x_oldValue) (x_oldCount := x_oldCount) (x_oldDigest := x_oldDigest) (x_eventAccount := x_eventAccount) (x_eventTag := x_eventTag) (x_eventValue := x_eventValue) (x_frameSelf := x_frameSelf) (x_frameCaller := x_frameCaller) (x_frameAmount := x_frameAmount) (x_frameArg := x_frameArg) (x_frameGiven := x_frameGiven) (x_frameLeft := x_frameLeft) (x_framePc := x_framePc) (x_frameSp := x_frameSp) (x_frameJournal := x_frameJournal) (x_frameEvents := x_frameEvents) (x_frameWarm := x_frameWarm) (x_frameRefund := x_frameRefund) (x_frameMails := x_frameMails) (x_stack := x_stack) (x_blockLength := upd bl (24 * a + k) 0) (x_blockCost := bc) (x_blockMost := bm) (x_blockNeed := bn) (x_blockRise := br) ha hn (by omega) hO
      obtain ⟨bl', bc', bm', bn', br', g1, g2, g3⟩ := ih (k + 1) (upd (upd bl (24 * a + k) 0) (24 * a + k) vl) (upd bc (24 * a + k) vc) (upd bm (24 * a + k) vm) (upd bn (24 * a + k) vn) (upd br (24 * a + k) vr) (by omega) (fun j hj => by
          by_cases e : j = k
          · subst e; exact hB _ _ _ _ _
          · exact zb_B_c (h1 j (by omega)) (by rw [pk_un (by omega), pk_un (by omega)]) (pk_un (by omega)) (pk_un (by omega)) (pk_un (by omega)) (pk_un (by omega)) (fun _ _ _ => ⟨rfl, rfl⟩)) (fun i hi => by
          rw [pk_un (by omega), pk_un (by omega), pk_un (by omega), pk_un (by omega), pk_un (by omega), pk_un (by omega)]; exact h2 i hi)
      refine ⟨bl', bc', bm', bn', br', g1, g2, fun post hp => br_f (nI_ge (by omega) (by omega)) ?_⟩
      rw [nI_add, nI_clamp (by omega : 24 * a + k < 2 ^ 31), hz]
      refine ⟨hi, nm_e (br_f c (hM _ ?_))⟩
      exact nm_r (nI_1 k) (g3 post hp)
theorem xw_divide {a n : Nat} (ha : a < 6) (hn : n ≤ 24) (hO : zb_O x_op) : ∃ bl' bc' bm' bn' br' : Nat → Int32, (∀ j, j < n → zb_B x_op x_arg bl' bc' bm' bn' br' n (24 * a + j) j) ∧ (∀ i, (i < 24 * a ∨ 24 * a + 24 ≤ i) → bl' i = x_blockLength i ∧ bc' i = x_blockCost i ∧ bm' i = x_blockMost i ∧ bn' i = x_blockNeed i ∧ br' i = x_blockRise i) ∧ ∀ post : SX → Prop, post (x_limit, x_pending, x_digest, x_journal, x_warm, x_refund, x_mails, x_ring, x_kept, x_version, x_events, x_depth, x_self, x_left, x_pc, x_sp, x_base, x_lastStatus, x_lastResult, x_lastUsed, x_lastCalls, x_op, x_arg, x_length, bl', bc', bm', bn', br', x_state, x_weight, x_journalCell, x_journalOld, x_mailTo, x_mailFrom, x_mailAmount, x_mailArg, x_oldCell, x_oldValue, x_oldCount, x_oldDigest, x_eventAccount, x_eventTag, x_eventValue, x_frameSelf, x_frameCaller, x_frameAmount, x_frameArg, x_frameGiven, x_frameLeft, x_framePc, x_frameSp, x_frameJournal, x_frameEvents, x_frameWarm, x_frameRefund, x_frameMails, x_stack) → wpX_divide post (x_limit, x_pending, x_digest, x_journal, x_warm, x_refund, x_mails, x_ring, x_kept, x_version, x_events, x_depth, x_self, x_left, x_pc, x_sp, x_base, x_lastStatus, x_lastResult, x_lastUsed, x_lastCalls, x_op, x_arg, x_length, x_blockLength, x_blockCost, x_blockMost, x_blockNeed, x_blockRise, x_state, x_weight, x_journalCell, x_journalOld, x_mailTo, x_mailFrom, x_mailAmount, x_mailArg, x_oldCell, x_oldValue, x_oldCount, x_oldDigest, x_eventAccount, x_eventTag, x_eventValue, x_frameSelf, x_frameCaller, x_frameAmount, x_frameArg, x_frameGiven, x_frameLeft, x_framePc, x_frameSp, x_frameJournal, x_frameEvents, x_frameWarm, x_frameRefund, x_frameMails, x_stack) (nI a) (nI n) := by
  obtain ⟨x4', h1⟩ := xw_div1 (x_limit := x_limit) (x_pending := x_pending) (x_digest := x_digest) (x_journal := x_journal) (x_warm := x_warm) (x_refund := x_refund) (x_mails := x_mails) (x_ring := x_ring) (x_kept := x_kept) (x_version := x_version) (x_events := x_events) (x_depth := x_depth) (x_self := x_self) (x_left := x_left) (x_pc := x_pc) (x_sp := x_sp) (x_base := x_base) (x_lastStatus := x_lastStatus) (x_lastResult := x_lastResult) (x_lastUsed := x_lastUsed) (x_lastCalls := x_lastCalls) (x_arg := x_arg) (x_length := x_length) (x_blockLength := x_blockLength) (x_blockCost := x_blockCost) (x_blockMost := x_blockMost) (x_blockNeed := x_blockNeed) (x_blockRise := x_blockRise) (x_state := x_state) (x_weight := x_weight) (x_journalCell := x_journalCell) (x_journalOld := x_journalOld) (x_mailTo := x_mailTo) (x_mailFrom := x_mailFrom) (x_mailAmount := x_mailAmount) (x_mailArg := x_mailArg) (x_oldCell := x_oldCell) (x_oldValue := x_oldValue) (x_oldCount := x_oldCount) (x_oldDigest := x_oldDigest) (x_eventAccount := x_eventAccount) (x_eventTag := x_eventTag) (x_eventValue := x_eventValue) (x_frameSelf := x_frameSelf) (x_frameCaller := x_frameCaller) (x_frameAmount := x_frameAmount) (x_frameArg := x_frameArg) (x_frameGiven := x_frameGiven) (x_frameLeft := x_frameLeft) (x_framePc := x_framePc) (x_frameSp := x_frameSp) (x_frameJournal := x_frameJournal) (x_frameEvents := x_frameEvents) (x_frameWarm := x_frameWarm) (x_frameRefund := x_frameRefund) (x_frameMails := x_frameMails) (x_stack := x_stack) ha hn hO n 0 1 (by omega)
  obtain ⟨bl', bc', bm', bn', br', g1, g2, g3⟩ := xw_div2 (x4 := x4') (x_limit := x_limit) (x_pending := x_pending) (x_digest := x_digest) (x_journal := x_journal) (x_warm := x_warm) (x_refund := x_refund) (x_mails := x_mails) (x_ring := x_ring) (x_kept := x_kept) (x_version := x_version) (x_events := x_events) (x_depth := x_depth) (x_self := x_self) (x_left := x_left) (x_pc := x_pc) (x_sp := x_sp) (x_base := x_base) (x_lastStatus := x_lastStatus) (x_lastResult := x_lastResult) (x_lastUsed := x_lastUsed) (x_lastCalls := x_lastCalls) (x_arg := x_arg) (x_length := x_length) (x_blockLength := x_blockLength) (x_blockCost := x_blockCost) (x_blockMost := x_blockMost) (x_blockNeed := x_blockNeed) (x_blockRise := x_blockRise) (x_state := x_state) (x_weight := x_weight) (x_journalCell := x_journalCell) (x_journalOld := x_journalOld) (x_mailTo := x_mailTo) (x_mailFrom := x_mailFrom) (x_mailAmount := x_mailAmount) (x_mailArg := x_mailArg) (x_oldCell := x_oldCell) (x_oldValue := x_oldValue) (x_oldCount := x_oldCount) (x_oldDigest := x_oldDigest) (x_eventAccount := x_eventAccount) (x_eventTag := x_eventTag) (x_eventValue := x_eventValue) (x_frameSelf := x_frameSelf) (x_frameCaller := x_frameCaller) (x_frameAmount := x_frameAmount) (x_frameArg := x_frameArg) (x_frameGiven := x_frameGiven) (x_frameLeft := x_frameLeft) (x_framePc := x_framePc) (x_frameSp := x_frameSp) (x_frameJournal := x_frameJournal) (x_frameEvents := x_frameEvents) (x_frameWarm := x_frameWarm) (x_frameRefund := x_frameRefund) (x_frameMails := x_frameMails) (x_stack := x_stack) ha hn hO n 0 x_blockLength x_blockCost x_blockMost x_blockNeed x_blockRise (by omega) (fun j hj => absurd hj (by omega)) (fun i _ => ⟨rfl, rfl, rfl, rfl, rfl⟩)
  refine ⟨bl', bc', bm', bn', br', g1, g2, fun post hp => ?_⟩
  have e24 : (24 : Int32) * nI a = nI (24 * a) := pk_mul 24 a
  exact nm_r e24 ⟨n + 1, h1 post ⟨n + 1, g3 post hp⟩⟩
end
end
section

/-! deploy and put -/
section
variable {x_limit x_pending x_journal x_refund x_mails x_ring x_kept x_version x_events x_depth x_self x_left x_pc x_sp x_base x_lastStatus x_lastResult x_lastUsed x_lastCalls : Int32} {x_digest x_warm : Int64} {x_op x_arg x_length x_blockLength x_blockCost x_blockMost x_blockNeed x_blockRise x_state x_journalCell x_journalOld x_mailTo x_mailFrom x_mailAmount x_mailArg x_oldCell x_oldValue x_oldCount x_eventAccount x_eventTag x_eventValue x_frameSelf x_frameCaller x_frameAmount x_frameArg x_frameGiven x_frameLeft x_framePc x_frameSp x_frameJournal x_frameEvents x_frameRefund x_frameMails x_stack : Nat → Int32} {x_weight x_oldDigest x_frameWarm : Nat → Int64}
variable {y_limit y_eventCount y_waiting y_refund y_depth y_ended y_answer y_rest y_begun y_result y_used y_calls y_version y_kept : Int32} {y_ops y_bs y_lengths y_now y_copies y_older y_before y_warm y_warmCopies y_eventCopies y_messageCopies y_refundCopies y_events y_messages y_self y_caller y_amounts y_arguments y_given y_left y_at y_tops y_stack : Nat → Int32}
variable {N G J0 lx px s p h L f J W e r : Nat} {ln sf gv jn ml kk hh pp : Nat → Nat} {B : Nat → Int32}
theorem zp_rd {x : Nat → Int32} {a i : Nat} (ha : a < 6) (hi : i < 24) : zy_p x (fun k => x (144 + k)) (24 * a) i (144 + i) = x (144 + i) := zy_p_out (by omega)
theorem xw_dep {post : Int32 → SX → Prop} {a n : Nat} (ha : a < 6) (hn : n ≤ 24) (hO : zb_O x_op) (hp : wpX_divide (post (nI n)) (x_limit, x_pending, x_digest, x_journal, x_warm, x_refund, x_mails, x_ring, x_kept, x_version, x_events, x_depth, x_self, x_left, x_pc, x_sp, x_base, x_lastStatus, x_lastResult, x_lastUsed, x_lastCalls, zy_p x_op (fun k => x_op (144 + k)) (24 * a) n, zy_p x_arg (fun k => x_arg (144 + k)) (24 * a) n, upd x_length a (nI n), x_blockLength, x_blockCost, x_blockMost, x_blockNeed, x_blockRise, x_state, x_weight, x_journalCell, x_journalOld, x_mailTo, x_mailFrom, x_mailAmount, x_mailArg, x_oldCell, x_oldValue, x_oldCount, x_oldDigest, x_eventAccount, x_eventTag, x_eventValue, x_frameSelf, x_frameCaller, x_frameAmount, x_frameArg, x_frameGiven, x_frameLeft, x_framePc, x_frameSp, x_frameJournal, x_frameEvents, x_frameWarm, x_frameRefund, x_frameMails, x_stack) (nI a) (nI n)) : ∀ k i, i + k = n → wX_deploy_27 post (nI a) (nI n) x_limit x_pending x_digest x_journal x_warm x_refund x_mails x_ring x_kept x_version x_events x_depth x_self x_left x_pc x_sp x_base x_lastStatus x_lastResult x_lastUsed x_lastCalls (k + 1) (nI i) (zy_p x_op (fun k => x_op (144 + k)) (24 * a) i) (zy_p x_arg (fun k => x_arg (144 + k)) (24 * a) i) x_length x_blockLength x_blockCost x_blockMost x_blockNeed x_blockRise x_state x_weight x_journalCell x_journalOld x_mailTo x_mailFrom x_mailAmount x_mailArg x_oldCell x_oldValue x_oldCount x_oldDigest x_eventAccount x_eventTag x_eventValue x_frameSelf x_frameCaller x_frameAmount x_frameArg x_frameGiven x_frameLeft x_framePc x_frameSp x_frameJournal x_frameEvents x_frameWarm x_frameRefund x_frameMails x_stack := by
  intro k
  induction k with
  | zero =>
    intro i hk
    have e : i = n := by omega
    subst e
    refine br_t (nI_le (Nat.le_refl _) (by omega)) ?_
    rw [nI_clamp (by omega : a < 2 ^ 31), zn_nbb (by omega : i < 128)]
    exact ⟨vp_in_nI ha (by omega), nm_e hp⟩
  | succ k ih =>
    intro i hk
    have e1 : (144 : Int32) + nI i = nI (144 + i) := nI_add 144 i
    have e2 : (24 : Int32) * nI a + nI i = nI (24 * a + i) := by rw [show (24 : Int32) * nI a = nI (24 * a) from pk_mul 24 a]; exact nI_add _ _
    have h1 : vp_in (nI (144 + i)) 168 := vp_in_nI (by omega) (by omega)
    have h2 : vp_in (nI (24 * a + i)) 168 := vp_in_nI (by omega) (by omega)
    obtain ⟨eo, ho⟩ := hO (144 + i) (by omega)
    have e3 : vp_nar .byte (x_op (144 + i)) = x_op (144 + i) := by rw [eo]; exact zn_nb (by omega)
    have p1 := zy_pS (dst := x_op) (src := fun k => x_op (144 + k)) (off := 24 * a) (n := i)
    have p2 := zy_pS (dst := x_arg) (src := fun k => x_arg (144 + k)) (off := 24 * a) (n := i)
    refine br_f (nI_ge (by omega) (by omega)) ?_
    rw [e1, e2, nI_clamp (by omega : 144 + i < 2 ^ 31), nI_clamp (by omega : 24 * a + i < 2 ^ 31), zp_rd ha (by omega), zp_rd ha (by omega), e3, p1, p2]
    exact ⟨h1, h2, nm_e ⟨h1, h2, nm_e (nm_r (nI_1 i) (ih (i + 1) (by omega)))⟩⟩
theorem yw_dep {post : Int32 → SY → Prop} {a n : Nat} (ha : a < 6) (hn : n ≤ 24) (hO : zb_O x_op) (hp : post (nI n) (y_limit, y_eventCount, y_waiting, y_refund, y_depth, y_ended, y_answer, y_rest, y_begun, y_result, y_used, y_calls, y_version, y_kept, zy_p x_op (fun k => x_op (144 + k)) (24 * a) n, zy_p x_arg (fun k => x_arg (144 + k)) (24 * a) n, upd y_lengths a (nI n), y_now, y_copies, y_older, y_before, y_warm, y_warmCopies, y_eventCopies, y_messageCopies, y_refundCopies, y_events, y_messages, y_self, y_caller, y_amounts, y_arguments, y_given, y_left, y_at, y_tops, y_stack)) : ∀ k i, i + k = n → wY_deploy_31 post (nI a) (nI n) y_limit y_eventCount y_waiting y_refund y_depth y_ended y_answer y_rest y_begun y_result y_used y_calls y_version y_kept (k + 1) (nI i) (zy_p x_op (fun k => x_op (144 + k)) (24 * a) i) (zy_p x_arg (fun k => x_arg (144 + k)) (24 * a) i) y_lengths y_now y_copies y_older y_before y_warm y_warmCopies y_eventCopies y_messageCopies y_refundCopies y_events y_messages y_self y_caller y_amounts y_arguments y_given y_left y_at y_tops y_stack := by
  intro k
  induction k with
  | zero =>
    intro i hk
    have e : i = n := by omega
    subst e
    refine br_t (nI_le (Nat.le_refl _) (by omega)) ?_
    rw [nI_clamp (by omega : a < 2 ^ 31)]
    exact ⟨vp_in_nI (by omega) (by omega), nm_e hp⟩
  | succ k ih =>
    intro i hk
    have e1 : (144 : Int32) + nI i = nI (144 + i) := nI_add 144 i
    have e2 : (24 : Int32) * nI a + nI i = nI (24 * a + i) := by rw [show (24 : Int32) * nI a = nI (24 * a) from pk_mul 24 a]; exact nI_add _ _
    have h1 : vp_in (nI (144 + i)) 168 := vp_in_nI (by omega) (by omega)
    have h2 : vp_in (nI (24 * a + i)) 168 := vp_in_nI (by omega) (by omega)
    obtain ⟨eo, ho⟩ := hO (144 + i) (by omega)
    have e3 : vp_nar .byte (x_op (144 + i)) = x_op (144 + i) := by rw [eo]; exact zn_nb (by omega)
    have p1 := zy_pS (dst := x_op) (src := fun k => x_op (144 + k)) (off := 24 * a) (n := i)
    have p2 := zy_pS (dst := x_arg) (src := fun k => x_arg (144 + k)) (off := 24 * a) (n := i)
    refine br_f (nI_ge (by omega) (by omega)) ?_
    rw [e1, e2, nI_clamp (by omega : 144 + i < 2 ^ 31), nI_clamp (by omega : 24 * a + i < 2 ^ 31), zp_rd ha (by omega), zp_rd ha (by omega), e3, p1, p2]
    exact ⟨h1, h2, nm_e ⟨h1, h2, nm_e (nm_r (nI_1 i) (ih (i + 1) (by omega)))⟩⟩
theorem zk_deploy (hPG : zr_PG ln x_op x_arg x_length x_blockLength x_blockCost x_blockMost x_blockNeed x_blockRise y_lengths) (hST : zr_ST x_state x_weight y_now) (hML : zr_ML x_mailTo x_mailFrom x_mailAmount x_mailArg y_messages) (hEV : zr_EV e x_eventAccount x_eventTag x_eventValue y_events) (hVS : zr_VS x_state x_ring x_kept x_oldCell x_oldValue x_oldCount x_oldDigest y_older) (hMI : zr_MI x_limit x_pending (y_lengths 6)) (p0 : Int32) : ∃ (rr : Int32) (u' : SX) (v' : SY) (op' arg' : Nat → Int32) (ln' : Nat → Nat), zr_I op' arg' ln' u' v' ∧ (∀ post : Int32 → SX → Prop, post rr u' → wpX_deploy post (x_limit, x_pending, zs_H x_state 30, x_journal, x_warm, x_refund, x_mails, x_ring, x_kept, x_version, nI e, x_depth, x_self, x_left, x_pc, x_sp, x_base, x_lastStatus, x_lastResult, x_lastUsed, x_lastCalls, x_op, x_arg, x_length, x_blockLength, x_blockCost, x_blockMost, x_blockNeed, x_blockRise, x_state, x_weight, x_journalCell, x_journalOld, x_mailTo, x_mailFrom, x_mailAmount, x_mailArg, x_oldCell, x_oldValue, x_oldCount, x_oldDigest, x_eventAccount, x_eventTag, x_eventValue, x_frameSelf, x_frameCaller, x_frameAmount, x_frameArg, x_frameGiven, x_frameLeft, x_framePc, x_frameSp, x_frameJournal, x_frameEvents, x_frameWarm, x_frameRefund, x_frameMails, x_stack) p0) ∧ (∀ post : Int32 → SY → Prop, post rr v' → wpY_deploy post (x_limit, nI e, y_waiting, y_refund, y_depth, y_ended, y_answer, y_rest, y_begun, x_lastResult, x_lastUsed, x_lastCalls, x_version, x_kept, x_op, x_arg, y_lengths, y_now, y_copies, y_older, y_before, y_warm, y_warmCopies, y_eventCopies, y_messageCopies, y_refundCopies, y_events, y_messages, y_self, y_caller, y_amounts, y_arguments, y_given, y_left, y_at, y_tops, y_stack) p0) := by
  obtain ⟨hlm, pd, hpd, epd, e6⟩ := id hMI
  obtain ⟨g1, g2, g3⟩ := id hPG
  subst epd
  have hPG0 : zr_PG ln x_op x_arg x_length x_blockLength x_blockCost x_blockMost x_blockNeed x_blockRise (upd y_lengths 6 0) := ⟨g1, fun b hb => by rw [pk_un (by omega)]; exact g2 b hb, g3⟩
  have hMI0 : zr_MI x_limit 0 ((upd y_lengths 6 0) 6) := ⟨hlm, 0, by omega, rfl, pk_us⟩
  have bad : ((p0 < 0 ∨ 6 ≤ p0) ∨ pd = 0) → ∃ (rr : Int32) (u' : SX) (v' : SY) (op' arg' : Nat → Int32) (ln' : Nat → Nat), zr_I op' arg' ln' u' v' ∧ (∀ post : Int32 → SX → Prop, post rr u' → wpX_deploy post (x_limit, nI pd, zs_H x_state 30, x_journal, x_warm, x_refund, x_mails, x_ring, x_kept, x_version, nI e, x_depth, x_self, x_left, x_pc, x_sp, x_base, x_lastStatus, x_lastResult, x_lastUsed, x_lastCalls, x_op, x_arg, x_length, x_blockLength, x_blockCost, x_blockMost, x_blockNeed, x_blockRise, x_state, x_weight, x_journalCell, x_journalOld, x_mailTo, x_mailFrom, x_mailAmount, x_mailArg, x_oldCell, x_oldValue, x_oldCount, x_oldDigest, x_eventAccount, x_eventTag, x_eventValue, x_frameSelf, x_frameCaller, x_frameAmount, x_frameArg, x_frameGiven, x_frameLeft, x_framePc, x_frameSp, x_frameJournal, x_frameEvents, x_frameWarm, x_frameRefund, x_frameMails, x_stack) p0) ∧ (∀ post : Int32 → SY → Prop, post rr v' → wpY_deploy post (x_limit, nI e, y_waiting, y_refund, y_depth, y_ended, y_answer, y_rest, y_begun, x_lastResult, x_lastUsed, x_lastCalls, x_version, x_kept, x_op, x_arg, y_lengths, y_now, y_copies, y_older, y_before, y_warm, y_warmCopies, y_eventCopies, y_messageCopies, y_refundCopies, y_events, y_messages, y_self, y_caller, y_amounts, y_arguments, y_given, y_left, y_at, y_tops, y_stack) p0) := by
    intro h
    refine ⟨-1, (x_limit, 0, zs_H x_state 30, x_journal, x_warm, x_refund, x_mails, x_ring, x_kept, x_version, nI e, x_depth, x_self, x_left, x_pc, x_sp, x_base, x_lastStatus, x_lastResult, x_lastUsed, x_lastCalls, x_op, x_arg, x_length, x_blockLength, x_blockCost, x_blockMost, x_blockNeed, x_blockRise, x_state, x_weight, x_journalCell, x_journalOld, x_mailTo, x_mailFrom, x_mailAmount, x_mailArg, x_oldCell, x_oldValue, x_oldCount, x_oldDigest, x_eventAccount, x_eventTag, x_eventValue, x_frameSelf, x_frameCaller, x_frameAmount, x_frameArg, x_frameGiven, x_frameLeft, x_framePc, x_frameSp, x_frameJournal, x_frameEvents, x_frameWarm, x_frameRefund, x_frameMails, x_stack), (x_limit, nI e, y_waiting, y_refund, y_depth, y_ended, y_answer, y_rest, y_begun, x_lastResult, x_lastUsed, x_lastCalls, x_version, x_kept, x_op, x_arg, upd y_lengths 6 0, y_now, y_copies, y_older, y_before, y_warm, y_warmCopies, y_eventCopies, y_messageCopies, y_refundCopies, y_events, y_messages, y_self, y_caller, y_amounts, y_arguments, y_given, y_left, y_at, y_tops, y_stack), x_op, x_arg, ln, zr_I_mk hPG0 hST hML hEV hVS hMI0, fun post hp => ?_, fun post hp => ?_⟩
    · unfold wpX_deploy
      dsimp only
      refine xw_outN (n := 6) (by omega) (fun a ha ea => br_t rfl (pk_eq pd 0 (fun _ => hp) (fun n0 => ?_))) (fun _ => br_f (by decide) hp)
      exfalso
      rcases h with (z | z) | z
      · rw [ea] at z; exact nI_pos (by omega) z
      · rw [ea] at z; exact nI_ge (b := 6) ha (by omega) z
      · exact n0 z
    · unfold wpY_deploy
      dsimp only
      refine nm_r e6 (nm_e (yw_isAcc (fun a ha ea => br_f (by decide) (pk_eq pd 0 (fun _ => hp) (fun n0 => ?_))) (fun _ => br_t rfl hp)))
      exfalso
      rcases h with (z | z) | z
      · rw [ea] at z; exact nI_pos (by omega) z
      · rw [ea] at z; exact nI_ge (b := 6) ha (by omega) z
      · exact n0 z
  by_cases hz : pd = 0
  · exact bad (Or.inr hz)
  rcases pk_ix p0 (n := 6) (by omega) with z | z | ⟨a, ha, ea⟩
  · exact bad (Or.inl (Or.inl z))
  · exact bad (Or.inl (Or.inr z))
  clear bad
  subst ea
  have hO' : zb_O (zy_p x_op (fun k => x_op (144 + k)) (24 * a) pd) := by
    intro j hj
    unfold zb_o zy_p
    by_cases c : 24 * a ≤ j ∧ j < 24 * a + pd
    · rw [if_pos c]; exact g1 (144 + (j - 24 * a)) (by omega)
    · rw [if_neg c]; exact g1 j hj
  obtain ⟨bl', bc', bm', bn', br', d1, d2, d3⟩ := xw_divide (a := a) (n := pd) (x_limit := x_limit) (x_journal := x_journal) (x_warm := x_warm) (x_refund := x_refund) (x_mails := x_mails) (x_ring := x_ring) (x_kept := x_kept) (x_version := x_version) (x_depth := x_depth) (x_self := x_self) (x_left := x_left) (x_pc := x_pc) (x_sp := x_sp) (x_base := x_base) (x_lastStatus := x_lastStatus) (x_lastResult := x_lastResult) (x_lastUsed := x_lastUsed) (x_lastCalls := x_lastCalls) (x_blockLength := x_blockLength) (x_blockCost := x_blockCost) (x_blockMost := x_blockMost) (x_blockNeed := x_blockNeed) (x_blockRise := x_blockRise) (x_state := x_state) (x_weight := x_weight) (x_journalCell := x_journalCell) (x_journalOld := x_journalOld) (x_mailTo := x_mailTo) (x_mailFrom := x_mailFrom) (x_mailAmount := x_mailAmount) (x_mailArg := x_mailArg) (x_oldCell := x_oldCell) (x_oldValue := x_oldValue) (x_oldCount := x_oldCount) (x_oldDigest := x_oldDigest) (x_eventAccount := x_eventAccount) (x_eventTag := x_eventTag) (x_eventValue := x_eventValue) (x_frameSelf := x_frameSelf) (x_frameCaller := x_frameCaller) (x_frameAmount := x_frameAmount) (x_frameArg := x_frameArg) (x_frameGiven := x_frameGiven) (x_frameLeft := x_frameLeft) (x_framePc := x_framePc) (x_frameSp := x_frameSp) (x_frameJournal := x_frameJournal) (x_frameEvents := x_frameEvents) (x_frameWarm := x_frameWarm) (x_frameRefund := x_frameRefund) (x_frameMails := x_frameMails) (x_stack := x_stack) (x_pending := 0) (x_digest := zs_H x_state 30) (x_events := nI e) (x_op := zy_p x_op (fun k => x_op (144 + k)) (24 * a) pd) (x_arg := zy_p x_arg (fun k => x_arg (144 + k)) (24 * a) pd) (x_length := upd x_length a (nI pd)) ha hpd hO'
  refine ⟨nI pd, (x_limit, 0, zs_H x_state 30, x_journal, x_warm, x_refund, x_mails, x_ring, x_kept, x_version, nI e, x_depth, x_self, x_left, x_pc, x_sp, x_base, x_lastStatus, x_lastResult, x_lastUsed, x_lastCalls, zy_p x_op (fun k => x_op (144 + k)) (24 * a) pd, zy_p x_arg (fun k => x_arg (144 + k)) (24 * a) pd, upd x_length a (nI pd), bl', bc', bm', bn', br', x_state, x_weight, x_journalCell, x_journalOld, x_mailTo, x_mailFrom, x_mailAmount, x_mailArg, x_oldCell, x_oldValue, x_oldCount, x_oldDigest, x_eventAccount, x_eventTag, x_eventValue, x_frameSelf, x_frameCaller, x_frameAmount, x_frameArg, x_frameGiven, x_frameLeft, x_framePc, x_frameSp, x_frameJournal, x_frameEvents, x_frameWarm, x_frameRefund, x_frameMails, x_stack), (x_limit, nI e, y_waiting, y_refund, y_depth, y_ended, y_answer, y_rest, y_begun, x_lastResult, x_lastUsed, x_lastCalls, x_version, x_kept, zy_p x_op (fun k => x_op (144 + k)) (24 * a) pd, zy_p x_arg (fun k => x_arg (144 + k)) (24 * a) pd, upd (upd y_lengths 6 0) a (nI pd), y_now, y_copies, y_older, y_before, y_warm, y_warmCopies, y_eventCopies, y_messageCopies, y_refundCopies, y_events, y_messages, y_self, y_caller, y_amounts, y_arguments, y_given, y_left, y_at, y_tops, y_stack), zy_p x_op (fun k => x_op (144 + k)) (24 * a) pd, zy_p x_arg (fun k => x_arg (144 + k)) (24 * a) pd, zm_u ln a pd, ?_, fun post hp => ?_, fun post hp => ?_⟩
  · refine zr_I_mk ⟨hO', fun b hb => ?_, fun b hb k hk => ?_⟩ hST hML hEV hVS ⟨hlm, 0, by omega, rfl, ?_⟩
    · by_cases e : b = a
      · subst e; rw [pk_us, pk_us, zm_us]; exact ⟨hpd, rfl, rfl⟩
      · rw [pk_un e, pk_un e, pk_un (by omega), zm_un e]; exact g2 b hb
    · by_cases e : b = a
      · subst e
        rw [zm_us] at hk ⊢
        exact d1 k hk
      · rw [zm_un e] at hk ⊢
        have hl := (g2 b hb).1
        have hb24 : 24 * b + 24 ≤ 24 * a ∨ 24 * a + 24 ≤ 24 * b := by omega
        obtain ⟨q1, q2, q3, q4, q5⟩ := d2 (24 * b + k) (by omega)
        exact zb_B_c (g3 b hb k hk) q1 q2 q3 q4 q5 fun j h1 h2 => ⟨zy_p_out (by omega), zy_p_out (by omega)⟩
    · rw [pk_un (by omega)]; exact pk_us
  · unfold wpX_deploy
    dsimp only
    refine xw_outN (n := 6) (by omega) (fun a' ha' ea => br_t rfl (pk_eq pd 0 (fun z => absurd z hz) (fun n0 => ⟨pd + 1, ?_⟩))) (fun z => ?_)
    · have := xw_dep (post := post) (x_op := x_op) (x_arg := x_arg) ha hpd g1 (d3 _ hp) pd 0 (by omega)
      rw [zy_p0, zy_p0] at this
      exact this
    · exfalso
      rcases z with z | z
      · exact nI_pos (by omega) z
      · exact nI_ge ha (by omega) z
  · unfold wpY_deploy
    dsimp only
    refine nm_r e6 (nm_e (yw_isAcc (fun a' ha' ea => br_f (by decide) (pk_eq pd 0 (fun z => absurd z hz) (fun n0 => ⟨pd + 1, ?_⟩))) (fun z => ?_)))
    · have := yw_dep (post := post) ha hpd g1 hp pd 0 (by omega)
      rw [zy_p0, zy_p0] at this
      exact this
    · exfalso
      rcases z with z | z
      · exact nI_pos (by omega) z
      · exact nI_ge (b := 6) ha (by omega) z
theorem zk_put (hPG : zr_PG ln x_op x_arg x_length x_blockLength x_blockCost x_blockMost x_blockNeed x_blockRise y_lengths) (hST : zr_ST x_state x_weight y_now) (hML : zr_ML x_mailTo x_mailFrom x_mailAmount x_mailArg y_messages) (hEV : zr_EV e x_eventAccount x_eventTag x_eventValue y_events) (hVS : zr_VS x_state x_ring x_kept x_oldCell x_oldValue x_oldCount x_oldDigest y_older) (hMI : zr_MI x_limit x_pending (y_lengths 6)) (p0 p1 : Int32) : ∃ (rr : Int32) (u' : SX) (v' : SY) (op' arg' : Nat → Int32) (ln' : Nat → Nat), zr_I op' arg' ln' u' v' ∧ (∀ post : Int32 → SX → Prop, post rr u' → wpX_put post (x_limit, x_pending, zs_H x_state 30, x_journal, x_warm, x_refund, x_mails, x_ring, x_kept, x_version, nI e, x_depth, x_self, x_left, x_pc, x_sp, x_base, x_lastStatus, x_lastResult, x_lastUsed, x_lastCalls, x_op, x_arg, x_length, x_blockLength, x_blockCost, x_blockMost, x_blockNeed, x_blockRise, x_state, x_weight, x_journalCell, x_journalOld, x_mailTo, x_mailFrom, x_mailAmount, x_mailArg, x_oldCell, x_oldValue, x_oldCount, x_oldDigest, x_eventAccount, x_eventTag, x_eventValue, x_frameSelf, x_frameCaller, x_frameAmount, x_frameArg, x_frameGiven, x_frameLeft, x_framePc, x_frameSp, x_frameJournal, x_frameEvents, x_frameWarm, x_frameRefund, x_frameMails, x_stack) p0 p1) ∧ (∀ post : Int32 → SY → Prop, post rr v' → wpY_put post (x_limit, nI e, y_waiting, y_refund, y_depth, y_ended, y_answer, y_rest, y_begun, x_lastResult, x_lastUsed, x_lastCalls, x_version, x_kept, x_op, x_arg, y_lengths, y_now, y_copies, y_older, y_before, y_warm, y_warmCopies, y_eventCopies, y_messageCopies, y_refundCopies, y_events, y_messages, y_self, y_caller, y_amounts, y_arguments, y_given, y_left, y_at, y_tops, y_stack) p0 p1) := by
  obtain ⟨hlm, pd, hpd, epd, e6⟩ := id hMI
  obtain ⟨g1, g2, g3⟩ := id hPG
  subst epd
  have bad : ((p0 < 0 ∨ nI 24 ≤ p0) ∨ pd = 24) → ∃ (rr : Int32) (u' : SX) (v' : SY) (op' arg' : Nat → Int32) (ln' : Nat → Nat), zr_I op' arg' ln' u' v' ∧ (∀ post : Int32 → SX → Prop, post rr u' → wpX_put post (x_limit, nI pd, zs_H x_state 30, x_journal, x_warm, x_refund, x_mails, x_ring, x_kept, x_version, nI e, x_depth, x_self, x_left, x_pc, x_sp, x_base, x_lastStatus, x_lastResult, x_lastUsed, x_lastCalls, x_op, x_arg, x_length, x_blockLength, x_blockCost, x_blockMost, x_blockNeed, x_blockRise, x_state, x_weight, x_journalCell, x_journalOld, x_mailTo, x_mailFrom, x_mailAmount, x_mailArg, x_oldCell, x_oldValue, x_oldCount, x_oldDigest, x_eventAccount, x_eventTag, x_eventValue, x_frameSelf, x_frameCaller, x_frameAmount, x_frameArg, x_frameGiven, x_frameLeft, x_framePc, x_frameSp, x_frameJournal, x_frameEvents, x_frameWarm, x_frameRefund, x_frameMails, x_stack) p0 p1) ∧ (∀ post : Int32 → SY → Prop, post rr v' → wpY_put post (x_limit, nI e, y_waiting, y_refund, y_depth, y_ended, y_answer, y_rest, y_begun, x_lastResult, x_lastUsed, x_lastCalls, x_version, x_kept, x_op, x_arg, y_lengths, y_now, y_copies, y_older, y_before, y_warm, y_warmCopies, y_eventCopies, y_messageCopies, y_refundCopies, y_events, y_messages, y_self, y_caller, y_amounts, y_arguments, y_given, y_left, y_at, y_tops, y_stack) p0 p1) := by
    intro h
    refine ⟨-1, (x_limit, nI pd, zs_H x_state 30, x_journal, x_warm, x_refund, x_mails, x_ring, x_kept, x_version, nI e, x_depth, x_self, x_left, x_pc, x_sp, x_base, x_lastStatus, x_lastResult, x_lastUsed, x_lastCalls, x_op, x_arg, x_length, x_blockLength, x_blockCost, x_blockMost, x_blockNeed, x_blockRise, x_state, x_weight, x_journalCell, x_journalOld, x_mailTo, x_mailFrom, x_mailAmount, x_mailArg, x_oldCell, x_oldValue, x_oldCount, x_oldDigest, x_eventAccount, x_eventTag, x_eventValue, x_frameSelf, x_frameCaller, x_frameAmount, x_frameArg, x_frameGiven, x_frameLeft, x_framePc, x_frameSp, x_frameJournal, x_frameEvents, x_frameWarm, x_frameRefund, x_frameMails, x_stack), (x_limit, nI e, y_waiting, y_refund, y_depth, y_ended, y_answer, y_rest, y_begun, x_lastResult, x_lastUsed, x_lastCalls, x_version, x_kept, x_op, x_arg, y_lengths, y_now, y_copies, y_older, y_before, y_warm, y_warmCopies, y_eventCopies, y_messageCopies, y_refundCopies, y_events, y_messages, y_self, y_caller, y_amounts, y_arguments, y_given, y_left, y_at, y_tops, y_stack), x_op, x_arg, ln, zr_I_mk hPG hST hML hEV hVS hMI, fun post hp => ?_, fun post hp => ?_⟩
    · unfold wpX_put
      dsimp only
      refine xw_outN (n := 24) (by omega) (fun a ha ea => br_t rfl (pk_eq pd 24 (fun _ => hp) (fun n0 => ?_))) (fun _ => br_f (by decide) hp)
      exfalso
      rcases h with (z | z) | z
      · rw [ea] at z; exact nI_pos (by omega) z
      · rw [ea] at z; exact nI_ge ha (by omega) z
      · exact n0 z
    · unfold wpY_put
      dsimp only
      rw [e6]
      refine br_c (fun _ => hp) (fun n1 => br_c (fun _ => hp) (fun n2 => pk_eq pd 24 (fun _ => hp) (fun n0 => ?_)))
      exfalso
      obtain ⟨b, hb, rfl⟩ := nI_of n1
      have hb24 : b < 24 := Nat.lt_of_not_le fun z => n2 (nI_lt (a := 23) (by omega) hb)
      rcases h with (z | z) | z
      · exact n1 z
      · exact nI_ge hb24 (by omega) z
      · exact n0 z
  by_cases hz : pd = 24
  · exact bad (Or.inr hz)
  rcases pk_ix p0 (n := 24) (by omega) with z | z | ⟨o, ho, eo⟩
  · exact bad (Or.inl (Or.inl z))
  · exact bad (Or.inl (Or.inr z))
  clear bad
  subst eo
  have e1 : (144 : Int32) + nI pd = nI (144 + pd) := nI_add 144 pd
  have hi : vp_in (nI (144 + pd)) 168 := vp_in_nI (by omega) (by omega)
  refine ⟨nI (pd + 1), (x_limit, nI (pd + 1), zs_H x_state 30, x_journal, x_warm, x_refund, x_mails, x_ring, x_kept, x_version, nI e, x_depth, x_self, x_left, x_pc, x_sp, x_base, x_lastStatus, x_lastResult, x_lastUsed, x_lastCalls, upd x_op (144 + pd) (nI o), upd x_arg (144 + pd) p1, x_length, x_blockLength, x_blockCost, x_blockMost, x_blockNeed, x_blockRise, x_state, x_weight, x_journalCell, x_journalOld, x_mailTo, x_mailFrom, x_mailAmount, x_mailArg, x_oldCell, x_oldValue, x_oldCount, x_oldDigest, x_eventAccount, x_eventTag, x_eventValue, x_frameSelf, x_frameCaller, x_frameAmount, x_frameArg, x_frameGiven, x_frameLeft, x_framePc, x_frameSp, x_frameJournal, x_frameEvents, x_frameWarm, x_frameRefund, x_frameMails, x_stack), (x_limit, nI e, y_waiting, y_refund, y_depth, y_ended, y_answer, y_rest, y_begun, x_lastResult, x_lastUsed, x_lastCalls, x_version, x_kept, upd x_op (144 + pd) (nI o), upd x_arg (144 + pd) p1, upd y_lengths 6 (nI (pd + 1)), y_now, y_copies, y_older, y_before, y_warm, y_warmCopies, y_eventCopies, y_messageCopies, y_refundCopies, y_events, y_messages, y_self, y_caller, y_amounts, y_arguments, y_given, y_left, y_at, y_tops, y_stack), upd x_op (144 + pd) (nI o), upd x_arg (144 + pd) p1, ln, ?_, fun post hp => ?_, fun post hp => ?_⟩
  · refine zr_I_mk ⟨zb_O_u g1 ho, fun b hb => by rw [pk_un (by omega)]; exact g2 b hb, fun b hb k hk => ?_⟩ hST hML hEV hVS ⟨hlm, pd + 1, by omega, rfl, pk_us⟩
    have hl := (g2 b hb).1
    exact zb_B_c (g3 b hb k hk) rfl rfl rfl rfl rfl fun j h1 h2 => ⟨pk_un (by omega), pk_un (by omega)⟩
  · unfold wpX_put
    dsimp only
    rw [e1, nI_clamp (by omega : 144 + pd < 2 ^ 31), zn_nbb (by omega : o < 128), nI_1]
    refine xw_outN (n := 24) (by omega) (fun _ _ _ => br_t rfl (pk_eq pd 24 (fun z => absurd z hz) (fun _ => ⟨hi, nm_e ⟨hi, nm_e (nm_e hp)⟩⟩))) (fun z => ?_)
    exfalso
    rcases z with z | z
    · exact nI_pos (by omega) z
    · exact nI_ge ho (by omega) z
  · unfold wpY_put
    dsimp only
    rw [e6, e1, nI_clamp (by omega : 144 + pd < 2 ^ 31), zn_nbb (by omega : o < 128), nI_1]
    refine br_f (nI_pos (by omega)) (br_f (nI_nlt (b := o) (a := 23) (by omega) (by omega)) (pk_eq pd 24 (fun z => absurd z hz) (fun _ => ⟨hi, nm_e (nm_e ⟨hi, nm_e ?_⟩)⟩)))
    rw [pk_us]
    exact hp
end
theorem i_vc_deploy {k : Nat} {u : SX} {v : SY} (I : i_Rel k u v) (hk : k + 5 ≤ 2561) (v1 : Int32) : wpX_deploy (fun r u' => wpY_deploy (fun r' v' => r' = r ∧ i_Rel (k + 5) u' v') v v1) u v1 := by
  obtain ⟨x_op, x_arg, ln, hI⟩ := I
  refine zr_I_el (P := fun u v => wpX_deploy (fun r u' => wpY_deploy (fun r' v' => r' = r ∧ i_Rel (k + 5) u' v') v v1) u v1) ?_ hI
  clear hI u v
  intro e x_pending x_journal x_warm x_refund x_mails x_ring x_kept x_version x_depth x_self x_left x_pc x_sp x_base x_lastStatus x_lastResult x_lastUsed x_lastCalls x_limit x_length x_blockLength x_blockCost x_blockMost x_blockNeed x_blockRise x_state x_weight x_journalCell x_journalOld x_mailTo x_mailFrom x_mailAmount x_mailArg x_oldCell x_oldValue x_oldCount x_oldDigest x_eventAccount x_eventTag x_eventValue x_frameSelf x_frameCaller x_frameAmount x_frameArg x_frameGiven x_frameLeft x_framePc x_frameSp x_frameJournal x_frameEvents x_frameWarm x_frameRefund x_frameMails x_stack y_waiting y_refund y_depth y_ended y_answer y_rest y_begun y_lengths y_now y_copies y_older y_before y_warm y_warmCopies y_eventCopies y_messageCopies y_refundCopies y_events y_messages y_self y_caller y_amounts y_arguments y_given y_left y_at y_tops y_stack hPG hST hML hEV hVS hMI
  obtain ⟨rr, u', v', op', arg', ln', hI', hX, hY⟩ := zk_deploy (x_pending := x_pending) (x_journal := x_journal) (x_warm := x_warm) (x_refund := x_refund) (x_mails := x_mails) (x_ring := x_ring) (x_kept := x_kept) (x_version := x_version) (x_depth := x_depth) (x_self := x_self) (x_left := x_left) (x_pc := x_pc) (x_sp := x_sp) (x_base := x_base) (x_lastStatus := x_lastStatus) (x_lastResult := x_lastResult) (x_lastUsed := x_lastUsed) (x_lastCalls := x_lastCalls) (x_limit := x_limit) (x_length := x_length) (x_blockLength := x_blockLength) (x_blockCost := x_blockCost) (x_blockMost := x_blockMost) (x_blockNeed := x_blockNeed) (x_blockRise := x_blockRise) (x_state := x_state) (x_weight := x_weight) (x_journalCell := x_journalCell) (x_journalOld := x_journalOld) (x_mailTo := x_mailTo) (x_mailFrom := x_mailFrom) (x_mailAmount := x_mailAmount) (x_mailArg := x_mailArg) (x_oldCell := x_oldCell) (x_oldValue := x_oldValue) (x_oldCount := x_oldCount) (x_oldDigest := x_oldDigest) (x_eventAccount := x_eventAccount) (x_eventTag := x_eventTag) (x_eventValue := x_eventValue) (x_frameSelf := x_frameSelf) (x_frameCaller := x_frameCaller) (x_frameAmount := x_frameAmount) (x_frameArg := x_frameArg) (x_frameGiven := x_frameGiven) (x_frameLeft := x_frameLeft) (x_framePc := x_framePc) (x_frameSp := x_frameSp) (x_frameJournal := x_frameJournal) (x_frameEvents := x_frameEvents) (x_frameWarm := x_frameWarm) (x_frameRefund := x_frameRefund) (x_frameMails := x_frameMails) (x_stack := x_stack) (y_waiting := y_waiting) (y_refund := y_refund) (y_depth := y_depth) (y_ended := y_ended) (y_answer := y_answer) (y_rest := y_rest) (y_begun := y_begun) (y_lengths := y_lengths) (y_now := y_now) (y_copies := y_copies) (y_older := y_older) (y_before := y_before) (y_warm := y_warm) (y_warmCopies := y_warmCopies) (y_eventCopies := y_eventCopies) (y_messageCopies := y_messageCopies) (y_refundCopies := y_refundCopies) (y_events := y_events) (y_messages := y_messages) (y_self := y_self) (y_caller := y_caller) (y_amounts := y_amounts) (y_arguments := y_arguments) (y_given := y_given) (y_left := y_left) (y_at := y_at) (y_tops := y_tops) (y_stack := y_stack) hPG hST hML hEV hVS hMI v1
  exact hX _ (hY _ ⟨rfl, op', arg', ln', hI'⟩)
theorem i_vc_put {k : Nat} {u : SX} {v : SY} (I : i_Rel k u v) (hk : k + 5 ≤ 2561) (v1 : Int32) (v2 : Int32) : wpX_put (fun r u' => wpY_put (fun r' v' => r' = r ∧ i_Rel (k + 5) u' v') v v1 v2) u v1 v2 := by
  obtain ⟨x_op, x_arg, ln, hI⟩ := I
  refine zr_I_el (P := fun u v => wpX_put (fun r u' => wpY_put (fun r' v' => r' = r ∧ i_Rel (k + 5) u' v') v v1 v2) u v1 v2) ?_ hI
  clear hI u v
  intro e x_pending x_journal x_warm x_refund x_mails x_ring x_kept x_version x_depth x_self x_left x_pc x_sp x_base x_lastStatus x_lastResult x_lastUsed x_lastCalls x_limit x_length x_blockLength x_blockCost x_blockMost x_blockNeed x_blockRise x_state x_weight x_journalCell x_journalOld x_mailTo x_mailFrom x_mailAmount x_mailArg x_oldCell x_oldValue x_oldCount x_oldDigest x_eventAccount x_eventTag x_eventValue x_frameSelf x_frameCaller x_frameAmount x_frameArg x_frameGiven x_frameLeft x_framePc x_frameSp x_frameJournal x_frameEvents x_frameWarm x_frameRefund x_frameMails x_stack y_waiting y_refund y_depth y_ended y_answer y_rest y_begun y_lengths y_now y_copies y_older y_before y_warm y_warmCopies y_eventCopies y_messageCopies y_refundCopies y_events y_messages y_self y_caller y_amounts y_arguments y_given y_left y_at y_tops y_stack hPG hST hML hEV hVS hMI
  obtain ⟨rr, u', v', op', arg', ln', hI', hX, hY⟩ := zk_put (x_pending := x_pending) (x_journal := x_journal) (x_warm := x_warm) (x_refund := x_refund) (x_mails := x_mails) (x_ring := x_ring) (x_kept := x_kept) (x_version := x_version) (x_depth := x_depth) (x_self := x_self) (x_left := x_left) (x_pc := x_pc) (x_sp := x_sp) (x_base := x_base) (x_lastStatus := x_lastStatus) (x_lastResult := x_lastResult) (x_lastUsed := x_lastUsed) (x_lastCalls := x_lastCalls) (x_limit := x_limit) (x_length := x_length) (x_blockLength := x_blockLength) (x_blockCost := x_blockCost) (x_blockMost := x_blockMost) (x_blockNeed := x_blockNeed) (x_blockRise := x_blockRise) (x_state := x_state) (x_weight := x_weight) (x_journalCell := x_journalCell) (x_journalOld := x_journalOld) (x_mailTo := x_mailTo) (x_mailFrom := x_mailFrom) (x_mailAmount := x_mailAmount) (x_mailArg := x_mailArg) (x_oldCell := x_oldCell) (x_oldValue := x_oldValue) (x_oldCount := x_oldCount) (x_oldDigest := x_oldDigest) (x_eventAccount := x_eventAccount) (x_eventTag := x_eventTag) (x_eventValue := x_eventValue) (x_frameSelf := x_frameSelf) (x_frameCaller := x_frameCaller) (x_frameAmount := x_frameAmount) (x_frameArg := x_frameArg) (x_frameGiven := x_frameGiven) (x_frameLeft := x_frameLeft) (x_framePc := x_framePc) (x_frameSp := x_frameSp) (x_frameJournal := x_frameJournal) (x_frameEvents := x_frameEvents) (x_frameWarm := x_frameWarm) (x_frameRefund := x_frameRefund) (x_frameMails := x_frameMails) (x_stack := x_stack) (y_waiting := y_waiting) (y_refund := y_refund) (y_depth := y_depth) (y_ended := y_ended) (y_answer := y_answer) (y_rest := y_rest) (y_begun := y_begun) (y_lengths := y_lengths) (y_now := y_now) (y_copies := y_copies) (y_older := y_older) (y_before := y_before) (y_warm := y_warm) (y_warmCopies := y_warmCopies) (y_eventCopies := y_eventCopies) (y_messageCopies := y_messageCopies) (y_refundCopies := y_refundCopies) (y_events := y_events) (y_messages := y_messages) (y_self := y_self) (y_caller := y_caller) (y_amounts := y_amounts) (y_arguments := y_arguments) (y_given := y_given) (y_left := y_left) (y_at := y_at) (y_tops := y_tops) (y_stack := y_stack) hPG hST hML hEV hVS hMI v1 v2
  exact hX _ (hY _ ⟨rfl, op', arg', ln', hI'⟩)
end
section
/-! digest, past, back -/
theorem zi_r1 (x y : Int32) : x - y + 1 = (x + 1) - y := by grind
theorem zi_r6 (x y : Int32) : x - y + 6 = (x + 6) - y := by grind
theorem zv_A_at {oc ov : Nat → Int32} {b t : Nat} {s : Nat → Int32} {c : Nat} : zv_A oc ov b (t + 1) s c = if c = (oc (b + t)).toNatClampNeg then ov (b + t) else zv_A oc ov b t s c := rfl
theorem zv_VS {oc ov cn : Nat → Int32} {rg i : Nat} {B : Nat → Int32} : zv_V oc ov cn rg (i + 1) B = zv_A oc ov (30 * zv_sl rg i) (cn (zv_sl rg i)).toNatClampNeg (zv_V oc ov cn rg i B) := rfl
/-- versions seen from an older one -/
theorem zl_slA {rg n i : Nat} (h : n + i ≤ 6) : zv_sl (zv_sl rg n) i = zv_sl rg (n + i) := by unfold zv_sl; omega
theorem zv_Vadd {oc ov cn : Nat → Int32} {rg n : Nat} {B : Nat → Int32} : ∀ {i : Nat}, n + i ≤ 7 → zv_V oc ov cn (zv_sl rg n) i (zv_V oc ov cn rg n B) = zv_V oc ov cn rg (n + i) B
  | 0, _ => rfl
  | i + 1, h => by
    show zv_A oc ov (30 * zv_sl (zv_sl rg n) i) (cn (zv_sl (zv_sl rg n) i)).toNatClampNeg (zv_V oc ov cn (zv_sl rg n) i (zv_V oc ov cn rg n B)) = zv_A oc ov (30 * zv_sl rg (n + i)) (cn (zv_sl rg (n + i))).toNatClampNeg (zv_V oc ov cn rg (n + i) B)
    rw [zl_slA (by omega), zv_Vadd (i := i) (by omega)]
section
variable {x_limit x_pending x_journal x_refund x_mails x_ring x_kept x_version x_events x_depth x_self x_left x_pc x_sp x_base x_lastStatus x_lastResult x_lastUsed x_lastCalls : Int32} {x_digest x_warm : Int64} {x_op x_arg x_length x_blockLength x_blockCost x_blockMost x_blockNeed x_blockRise x_state x_journalCell x_journalOld x_mailTo x_mailFrom x_mailAmount x_mailArg x_oldCell x_oldValue x_oldCount x_eventAccount x_eventTag x_eventValue x_frameSelf x_frameCaller x_frameAmount x_frameArg x_frameGiven x_frameLeft x_framePc x_frameSp x_frameJournal x_frameEvents x_frameRefund x_frameMails x_stack : Nat → Int32} {x_weight x_oldDigest x_frameWarm : Nat → Int64}
variable {y_limit y_eventCount y_waiting y_refund y_depth y_ended y_answer y_rest y_begun y_result y_used y_calls y_version y_kept : Int32} {y_ops y_bs y_lengths y_now y_copies y_older y_before y_warm y_warmCopies y_eventCopies y_messageCopies y_refundCopies y_events y_messages y_self y_caller y_amounts y_arguments y_given y_left y_at y_tops y_stack : Nat → Int32}
variable {N G J0 lx px s p h L f J W e r : Nat} {ln sf gv jn ml kk hh pp : Nat → Nat} {B : Nat → Int32}
theorem xw_ringAt {post : Int32 → Prop} {rg n : Nat} (hr : rg < 6) (h1 : 1 ≤ n) (h6 : n ≤ 6) (hp : post (nI (zv_sl rg (n - 1)))) : wpX_ringAt post (x_limit, x_pending, x_digest, x_journal, x_warm, x_refund, x_mails, nI rg, x_kept, x_version, x_events, x_depth, x_self, x_left, x_pc, x_sp, x_base, x_lastStatus, x_lastResult, x_lastUsed, x_lastCalls, x_op, x_arg, x_length, x_blockLength, x_blockCost, x_blockMost, x_blockNeed, x_blockRise, x_state, x_weight, x_journalCell, x_journalOld, x_mailTo, x_mailFrom, x_mailAmount, x_mailArg, x_oldCell, x_oldValue, x_oldCount, x_oldDigest, x_eventAccount, x_eventTag, x_eventValue, x_frameSelf, x_frameCaller, x_frameAmount, x_frameArg, x_frameGiven, x_frameLeft, x_framePc, x_frameSp, x_frameJournal, x_frameEvents, x_frameWarm, x_frameRefund, x_frameMails, x_stack) (nI n) := by
  unfold wpX_ringAt
  dsimp only
  refine nm_r (e' := nI (rg + 1) - nI n) (by rw [zi_r1, nI_1]) ?_
  by_cases c : n ≤ rg + 1
  · rw [pk_sub c]
    refine br_t (nI_pos' (by omega)) ?_
    have : zv_sl rg (n - 1) = rg + 1 - n := by unfold zv_sl; omega
    rw [this] at hp
    exact hp
  · refine br_f (fun z => absurd z (Int32.not_le.mpr (pk_sneg (by omega) (by omega)))) ?_
    have e6 : nI (rg + 1) + 6 = nI (rg + 7) := nI_add (rg + 1) 6
    rw [zi_r6, e6, pk_sub (by omega)]
    have : zv_sl rg (n - 1) = rg + 7 - n := by unfold zv_sl; omega
    rw [this] at hp
    exact hp
/-- the reference's numbers of a version -/
theorem zk_pv {rg kp n idx : Nat} {oc ov cn : Nat → Int32} {od : Nat → Int64} (hN : ∀ k, k < 30 → y_now k = x_state (zs_px k)) (hI : ∀ i, i < kp → zv_I x_state rg oc ov cn od y_older i) (hn : n ≤ kp) (hi : idx < 30) : (if n = 0 then y_now idx else y_older (30 * (n - 1) + idx)) = zv_V oc ov cn rg n x_state (zs_px idx) := by
  by_cases z : n = 0
  · subst z; rw [if_pos rfl]; exact hN idx hi
  · rw [if_neg z]
    obtain ⟨m, rfl⟩ : ∃ m, n = m + 1 := ⟨n - 1, by omega⟩
    exact (hI m (by omega)).2.2.2 idx hi
theorem yw_dg45 {post : Int64 → Prop} {J : Int64 → Int32 → Prop} {n kp a : Nat} {s : Nat → Int32} (hn : n ≤ kp) (hk6 : kp ≤ 6) (ha : a < 6) (hv : ∀ idx, idx < 30 → (if n = 0 then y_now idx else y_older (30 * (n - 1) + idx)) = s (zs_px idx)) (hp : J (zs_H s (5 * a + 5)) (nI (a + 1))) : ∀ k j, j + k = 4 → wY_digest_45 post J (nI n) (nI a) y_limit y_eventCount y_waiting y_refund y_depth y_ended y_answer y_rest y_begun y_result y_used y_calls y_version (nI kp) x_op x_arg y_lengths y_now y_copies y_older y_before y_warm y_warmCopies y_eventCopies y_messageCopies y_refundCopies y_events y_messages y_self y_caller y_amounts y_arguments y_given y_left y_at y_tops y_stack (k + 1) (zs_H s (5 * a + 1 + j)) (nI j) := by
  intro k
  induction k with
  | zero =>
    intro j hk
    have e : j = 4 := by omega
    subst e
    exact br_t (nI_le (a := 4) (b := 4) (by omega) (by omega)) (nm_r (nI_1 a) hp)
  | succ k ih =>
    intro j hk
    refine br_f (nI_ge (b := 4) (by omega) (by omega)) (yw_pastV hn hk6 ha (by omega) ?_)
    rw [hv _ (by omega), zs_px_c (by omega)]
    exact nm_e (nm_r (nI_1 j) (ih (j + 1) (by omega)))
theorem yw_dg19 {post : Int64 → Prop} {n kp : Nat} {s : Nat → Int32} (hn : n ≤ kp) (hk6 : kp ≤ 6) (hv : ∀ idx, idx < 30 → (if n = 0 then y_now idx else y_older (30 * (n - 1) + idx)) = s (zs_px idx)) (hp : post (zs_H s 30)) : ∀ k a, a + k = 6 → wY_digest_19 post (nI n) y_limit y_eventCount y_waiting y_refund y_depth y_ended y_answer y_rest y_begun y_result y_used y_calls y_version (nI kp) x_op x_arg y_lengths y_now y_copies y_older y_before y_warm y_warmCopies y_eventCopies y_messageCopies y_refundCopies y_events y_messages y_self y_caller y_amounts y_arguments y_given y_left y_at y_tops y_stack (k + 1) (zs_H s (5 * a)) (nI a) := by
  intro k
  induction k with
  | zero =>
    intro a hk
    have e : a = 6 := by omega
    subst e
    exact br_t (nI_le (a := 6) (b := 6) (by omega) (by omega)) hp
  | succ k ih =>
    intro a hk
    refine br_f (nI_ge (b := 6) (by omega) (by omega)) (yw_pastV (q := 4) hn hk6 (by omega) (by omega) ?_)
    rw [hv _ (by omega), zs_px_b]
    refine nm_e ⟨5, ?_⟩
    exact yw_dg45 hn hk6 (by omega) hv (ih (a + 1) (by omega)) 4 0 (by omega)
theorem zk_digest (hPG : zr_PG ln x_op x_arg x_length x_blockLength x_blockCost x_blockMost x_blockNeed x_blockRise y_lengths) (hST : zr_ST x_state x_weight y_now) (hML : zr_ML x_mailTo x_mailFrom x_mailAmount x_mailArg y_messages) (hEV : zr_EV e x_eventAccount x_eventTag x_eventValue y_events) (hVS : zr_VS x_state x_ring x_kept x_oldCell x_oldValue x_oldCount x_oldDigest y_older) (hMI : zr_MI x_limit x_pending (y_lengths 6)) (p0 : Int32) : ∃ rr : Int64, (∀ post : Int64 → Prop, post rr → wpX_digest post (x_limit, x_pending, zs_H x_state 30, x_journal, x_warm, x_refund, x_mails, x_ring, x_kept, x_version, nI e, x_depth, x_self, x_left, x_pc, x_sp, x_base, x_lastStatus, x_lastResult, x_lastUsed, x_lastCalls, x_op, x_arg, x_length, x_blockLength, x_blockCost, x_blockMost, x_blockNeed, x_blockRise, x_state, x_weight, x_journalCell, x_journalOld, x_mailTo, x_mailFrom, x_mailAmount, x_mailArg, x_oldCell, x_oldValue, x_oldCount, x_oldDigest, x_eventAccount, x_eventTag, x_eventValue, x_frameSelf, x_frameCaller, x_frameAmount, x_frameArg, x_frameGiven, x_frameLeft, x_framePc, x_frameSp, x_frameJournal, x_frameEvents, x_frameWarm, x_frameRefund, x_frameMails, x_stack) p0) ∧ (∀ post : Int64 → Prop, post rr → wpY_digest post (x_limit, nI e, y_waiting, y_refund, y_depth, y_ended, y_answer, y_rest, y_begun, x_lastResult, x_lastUsed, x_lastCalls, x_version, x_kept, x_op, x_arg, y_lengths, y_now, y_copies, y_older, y_before, y_warm, y_warmCopies, y_eventCopies, y_messageCopies, y_refundCopies, y_events, y_messages, y_self, y_caller, y_amounts, y_arguments, y_given, y_left, y_at, y_tops, y_stack) p0) := by
  obtain ⟨rg, kp, er, ek, hr6, hk6, hI⟩ := id hVS
  subst er ek
  rcases pk_ix p0 (n := kp + 1) (by omega) with z | z | ⟨n, hn, rfl⟩
  · refine ⟨0, fun post hp => ?_, fun post hp => br_t z hp⟩
    unfold wpX_digest
    dsimp only
    rw [nI_1]
    refine xw_outN (by omega) (fun a ha ea => ?_) (fun _ => br_f (by decide) hp)
    exfalso
    rw [ea] at z
    exact nI_pos (by omega) z
  · refine ⟨0, fun post hp => ?_, fun post hp => br_c (fun _ => hp) (fun n1 => br_f (fun z2 => ?_) hp)⟩
    · unfold wpX_digest
      dsimp only
      rw [nI_1]
      refine xw_outN (by omega) (fun a ha ea => ?_) (fun _ => br_f (by decide) hp)
      exfalso
      rw [ea] at z
      exact nI_ge ha (by omega) z
    · have : nI (kp + 1) ≤ nI kp := Int32.le_trans z z2
      exact nI_ge (by omega) (by omega) this
  · have hv : ∀ idx, idx < 30 → (if n = 0 then y_now idx else y_older (30 * (n - 1) + idx)) = zv_V x_oldCell x_oldValue x_oldCount rg n x_state (zs_px idx) := fun idx hi => zk_pv hST.2.2 hI (by omega) hi
    refine ⟨zs_H (zv_V x_oldCell x_oldValue x_oldCount rg n x_state) 30, fun post hp => ?_, fun post hp => br_f (nI_pos (by omega)) (br_t (nI_le (by omega) (by omega)) ⟨7, yw_dg19 (by omega) hk6 hv hp 6 0 (by omega)⟩)⟩
    unfold wpX_digest
    dsimp only
    rw [nI_1]
    refine xw_outN (by omega) (fun _ _ _ => br_t rfl (pk_eq n 0 (fun z => ?_) (fun z => ?_))) (fun z => ?_)
    · subst z; exact hp
    · refine xw_ringAt hr6 (by omega) (by omega) ?_
      have h6 := zl_sl6 rg (n - 1)
      obtain ⟨m, rfl⟩ : ∃ m, n = m + 1 := ⟨n - 1, by omega⟩
      rw [nI_clamp (by omega : zv_sl rg (m + 1 - 1) < 2 ^ 31), show m + 1 - 1 = m by omega, (hI m (by omega)).2.2.1]
      exact ⟨vp_in_nI (zl_sl6 rg m) (by omega), hp⟩
    · exfalso
      rcases z with z | z
      · exact nI_pos (by omega) z
      · exact nI_ge hn (by omega) z
theorem xw_p83 {post : Int32 → Prop} {J : Int32 → Int32 → Prop} {x1 : Int32} {cell i q c : Nat} {s : Nat → Int32} (hq : q < 6) (hc30 : c ≤ 30) (hcell : cell < 30) (ec : x_oldCount q = nI c) (hcc : ∀ t, t < c → ∃ x : Nat, x < 30 ∧ x_oldCell (30 * q + t) = nI x) (hp : J (zv_A x_oldCell x_oldValue (30 * q) c s cell) (nI (i + 1))) : ∀ d t, t + d = c → wX_past_83 post J x1 (nI cell) (nI i) (nI q) x_limit x_pending x_digest x_journal x_warm x_refund x_mails x_ring x_kept x_version x_events x_depth x_self x_left x_pc x_sp x_base x_lastStatus x_lastResult x_lastUsed x_lastCalls x_op x_arg x_length x_blockLength x_blockCost x_blockMost x_blockNeed x_blockRise x_state x_weight x_journalCell x_journalOld x_mailTo x_mailFrom x_mailAmount x_mailArg x_oldCell x_oldValue x_oldCount x_oldDigest x_eventAccount x_eventTag x_eventValue x_frameSelf x_frameCaller x_frameAmount x_frameArg x_frameGiven x_frameLeft x_framePc x_frameSp x_frameJournal x_frameEvents x_frameWarm x_frameRefund x_frameMails x_stack (d + 1) (zv_A x_oldCell x_oldValue (30 * q) t s cell) (nI (30 * q + t)) := by
  have hqi : vp_in (nI q) 6 := vp_in_nI hq (by omega)
  have e30 : (30 : Int32) * nI q + nI c = nI (30 * q + c) := by rw [show (30 : Int32) * nI q = nI (30 * q) from pk_mul 30 q]; exact nI_add _ _
  intro d
  induction d with
  | zero =>
    intro t ht
    have e : t = c := by omega
    subst e
    refine ⟨hqi, ?_⟩
    rw [nI_clamp (by omega : q < 2 ^ 31), ec, e30]
    exact br_t (nI_le (Nat.le_refl _) (by omega)) (nm_r (nI_1 i) hp)
  | succ d ih =>
    intro t ht
    obtain ⟨x, hx, ex⟩ := hcc t (by omega)
    have hti : vp_in (nI (30 * q + t)) 180 := vp_in_nI (by omega) (by omega)
    have H := ih (t + 1) (by omega)
    rw [zv_A_at, ex, nI_clamp (by omega : x < 2 ^ 31)] at H
    refine ⟨hqi, ?_⟩
    rw [nI_clamp (by omega : q < 2 ^ 31), ec, e30, nI_clamp (by omega : 30 * q + t < 2 ^ 31), ex]
    refine br_f (nI_ge (by omega) (by omega)) ⟨hti, pk_eq x cell (fun e => ⟨hti, nm_e (nm_r (nI_1 _) ?_)⟩) (fun e => nm_r (nI_1 _) ?_)⟩
    · rw [if_pos e.symm] at H; exact H
    · rw [if_neg (fun z => e z.symm)] at H; exact H
theorem xw_p62 {post : Int32 → Prop} {rg kp n cell : Nat} {s : Nat → Int32} {od : Nat → Int64} {older : Nat → Int32} (hr6 : rg < 6) (hk6 : kp ≤ 6) (hn : n ≤ kp) (hcell : cell < 30) (hI : ∀ i, i < kp → zv_I s rg x_oldCell x_oldValue x_oldCount od older i) (hp : post (zv_V x_oldCell x_oldValue x_oldCount rg n s cell)) : ∀ d i, i + d = n → wX_past_62 post (nI n) (nI cell) x_limit x_pending x_digest x_journal x_warm x_refund x_mails (nI rg) x_kept x_version x_events x_depth x_self x_left x_pc x_sp x_base x_lastStatus x_lastResult x_lastUsed x_lastCalls x_op x_arg x_length x_blockLength x_blockCost x_blockMost x_blockNeed x_blockRise x_state x_weight x_journalCell x_journalOld x_mailTo x_mailFrom x_mailAmount x_mailArg x_oldCell x_oldValue x_oldCount x_oldDigest x_eventAccount x_eventTag x_eventValue x_frameSelf x_frameCaller x_frameAmount x_frameArg x_frameGiven x_frameLeft x_framePc x_frameSp x_frameJournal x_frameEvents x_frameWarm x_frameRefund x_frameMails x_stack (d + 1) (zv_V x_oldCell x_oldValue x_oldCount rg i s cell) (nI (i + 1)) := by
  intro d
  induction d with
  | zero =>
    intro i hi
    have e : i = n := by omega
    subst e
    exact br_t (nI_lt (by omega) (by omega)) hp
  | succ d ih =>
    intro i hi
    obtain ⟨⟨c, hc30, ec, hcc⟩, _⟩ := hI i (by omega)
    refine br_f (nI_nlt (by omega) (by omega)) (xw_ringAt hr6 (by omega) (by omega) ?_)
    rw [show i + 1 - 1 = i by omega]
    have e30 : (30 : Int32) * nI (zv_sl rg i) = nI (30 * zv_sl rg i) := pk_mul 30 _
    refine nm_r e30 ⟨c + 1, ?_⟩
    have H := ih (i + 1) (by omega)
    rw [zv_VS, ec, nI_clamp (by omega : c < 2 ^ 31)] at H
    exact xw_p83 (zl_sl6 rg i) hc30 hcell ec hcc H c 0 (by omega)
theorem zk_past (hPG : zr_PG ln x_op x_arg x_length x_blockLength x_blockCost x_blockMost x_blockNeed x_blockRise y_lengths) (hST : zr_ST x_state x_weight y_now) (hML : zr_ML x_mailTo x_mailFrom x_mailAmount x_mailArg y_messages) (hEV : zr_EV e x_eventAccount x_eventTag x_eventValue y_events) (hVS : zr_VS x_state x_ring x_kept x_oldCell x_oldValue x_oldCount x_oldDigest y_older) (hMI : zr_MI x_limit x_pending (y_lengths 6)) (p0 p1 p2 : Int32) : ∃ rr : Int32, (∀ post : Int32 → Prop, post rr → wpX_past post (x_limit, x_pending, zs_H x_state 30, x_journal, x_warm, x_refund, x_mails, x_ring, x_kept, x_version, nI e, x_depth, x_self, x_left, x_pc, x_sp, x_base, x_lastStatus, x_lastResult, x_lastUsed, x_lastCalls, x_op, x_arg, x_length, x_blockLength, x_blockCost, x_blockMost, x_blockNeed, x_blockRise, x_state, x_weight, x_journalCell, x_journalOld, x_mailTo, x_mailFrom, x_mailAmount, x_mailArg, x_oldCell, x_oldValue, x_oldCount, x_oldDigest, x_eventAccount, x_eventTag, x_eventValue, x_frameSelf, x_frameCaller, x_frameAmount, x_frameArg, x_frameGiven, x_frameLeft, x_framePc, x_frameSp, x_frameJournal, x_frameEvents, x_frameWarm, x_frameRefund, x_frameMails, x_stack) p0 p1 p2) ∧ (∀ post : Int32 → Prop, post rr → wpY_past post (x_limit, nI e, y_waiting, y_refund, y_depth, y_ended, y_answer, y_rest, y_begun, x_lastResult, x_lastUsed, x_lastCalls, x_version, x_kept, x_op, x_arg, y_lengths, y_now, y_copies, y_older, y_before, y_warm, y_warmCopies, y_eventCopies, y_messageCopies, y_refundCopies, y_events, y_messages, y_self, y_caller, y_amounts, y_arguments, y_given, y_left, y_at, y_tops, y_stack) p0 p1 p2) := by
  obtain ⟨rg, kp, er, ek, hr6, hk6, hI⟩ := id hVS
  subst er ek
  have bad : ((p0 < 0 ∨ nI (kp + 1) ≤ p0) ∨ (p1 < 0 ∨ 6 ≤ p1) ∨ (p2 < 0 ∨ 5 ≤ p2)) → ∃ rr : Int32, (∀ post : Int32 → Prop, post rr → wpX_past post (x_limit, x_pending, zs_H x_state 30, x_journal, x_warm, x_refund, x_mails, nI rg, nI kp, x_version, nI e, x_depth, x_self, x_left, x_pc, x_sp, x_base, x_lastStatus, x_lastResult, x_lastUsed, x_lastCalls, x_op, x_arg, x_length, x_blockLength, x_blockCost, x_blockMost, x_blockNeed, x_blockRise, x_state, x_weight, x_journalCell, x_journalOld, x_mailTo, x_mailFrom, x_mailAmount, x_mailArg, x_oldCell, x_oldValue, x_oldCount, x_oldDigest, x_eventAccount, x_eventTag, x_eventValue, x_frameSelf, x_frameCaller, x_frameAmount, x_frameArg, x_frameGiven, x_frameLeft, x_framePc, x_frameSp, x_frameJournal, x_frameEvents, x_frameWarm, x_frameRefund, x_frameMails, x_stack) p0 p1 p2) ∧ (∀ post : Int32 → Prop, post rr → wpY_past post (x_limit, nI e, y_waiting, y_refund, y_depth, y_ended, y_answer, y_rest, y_begun, x_lastResult, x_lastUsed, x_lastCalls, x_version, nI kp, x_op, x_arg, y_lengths, y_now, y_copies, y_older, y_before, y_warm, y_warmCopies, y_eventCopies, y_messageCopies, y_refundCopies, y_events, y_messages, y_self, y_caller, y_amounts, y_arguments, y_given, y_left, y_at, y_tops, y_stack) p0 p1 p2) := by
    intro h
    refine ⟨0, fun post hp => ?_, fun post hp => yw_past0 hk6 h hp⟩
    unfold wpX_past
    dsimp only
    rw [nI_1]
    refine xw_outN (by omega) (fun a ha ea => br_t rfl (xw_outN (n := 6) (by omega) (fun b hb eb => br_t rfl (xw_outN (n := 5) (by omega) (fun c hc ec => ?_) (fun _ => br_f (by decide) hp))) (fun _ => br_f (by decide) hp))) (fun _ => br_f (by decide) hp)
    exfalso
    rcases h with (z | z) | (z | z) | (z | z)
    · rw [ea] at z; exact nI_pos (by omega) z
    · rw [ea] at z; exact nI_ge ha (by omega) z
    · rw [eb] at z; exact nI_pos (by omega) z
    · rw [eb] at z; exact nI_ge (b := 6) hb (by omega) z
    · rw [ec] at z; exact nI_pos (by omega) z
    · rw [ec] at z; exact nI_ge (b := 5) hc (by omega) z
  rcases pk_ix p0 (n := kp + 1) (by omega) with z | z | ⟨n, hn, e0⟩
  · exact bad (Or.inl (Or.inl z))
  · exact bad (Or.inl (Or.inr z))
  rcases pk_ix p1 (n := 6) (by omega) with z | z | ⟨a, ha, e1⟩
  · exact bad (Or.inr (Or.inl (Or.inl z)))
  · exact bad (Or.inr (Or.inl (Or.inr z)))
  rcases pk_ix p2 (n := 5) (by omega) with z | z | ⟨q, hq, e2⟩
  · exact bad (Or.inr (Or.inr (Or.inl z)))
  · exact bad (Or.inr (Or.inr (Or.inr z)))
  clear bad
  subst e0 e1 e2
  have hv : (if n = 0 then y_now (5 * a + q) else y_older (30 * (n - 1) + (5 * a + q))) = zv_V x_oldCell x_oldValue x_oldCount rg n x_state (zs_px (5 * a + q)) := zk_pv hST.2.2 hI (by omega) (by omega)
  have hc30 : zs_px (5 * a + q) < 30 := zs_px_lt (by omega)
  refine ⟨zv_V x_oldCell x_oldValue x_oldCount rg n x_state (zs_px (5 * a + q)), fun post hp => ?_, fun post hp => yw_pastV (by omega) hk6 ha hq (by rw [hv]; exact hp)⟩
  have W47 : ∀ z0 : Int32, (5 : Int32) * nI a + z0 = nI (zs_px (5 * a + q)) → wX_past_47 post (nI n) z0 (5 * nI a) x_limit x_pending (zs_H x_state 30) x_journal x_warm x_refund x_mails (nI rg) (nI kp) x_version (nI e) x_depth x_self x_left x_pc x_sp x_base x_lastStatus x_lastResult x_lastUsed x_lastCalls x_op x_arg x_length x_blockLength x_blockCost x_blockMost x_blockNeed x_blockRise x_state x_weight x_journalCell x_journalOld x_mailTo x_mailFrom x_mailAmount x_mailArg x_oldCell x_oldValue x_oldCount x_oldDigest x_eventAccount x_eventTag x_eventValue x_frameSelf x_frameCaller x_frameAmount x_frameArg x_frameGiven x_frameLeft x_framePc x_frameSp x_frameJournal x_frameEvents x_frameWarm x_frameRefund x_frameMails x_stack := by
    intro z0 ez
    refine nm_r ez ⟨vp_in_nI hc30 (by omega), ?_⟩
    rw [nI_clamp (by omega : zs_px (5 * a + q) < 2 ^ 31)]
    exact nm_e ⟨n + 1, xw_p62 hr6 hk6 (by omega) hc30 hI hp n 0 (by omega)⟩
  have e5 : (5 : Int32) * nI a = nI (5 * a) := pk_mul 5 a
  unfold wpX_past
  dsimp only
  rw [nI_1 kp]
  refine xw_outN (by omega) (fun _ _ _ => br_t rfl (xw_outN (n := 6) (by omega) (fun _ _ _ => br_t rfl (xw_outN (n := 5) (by omega) (fun _ _ _ => br_t rfl (pk_eq q 4 (fun e => W47 0 ?_) (fun e => W47 (nI q + 1) ?_))) (fun z => ?_))) (fun z => ?_))) (fun z => ?_)
  · subst e
    rw [e5, zs_px_b, Int32.add_zero]
  · rw [e5, nI_1, nI_add, zs_px_c (by omega)]
    exact congrArg nI (by omega)
  · exfalso
    rcases z with z | z
    · exact nI_pos (by omega) z
    · exact nI_ge hq (by omega) z
  · exfalso
    rcases z with z | z
    · exact nI_pos (by omega) z
    · exact nI_ge ha (by omega) z
  · exfalso
    rcases z with z | z
    · exact nI_pos (by omega) z
    · exact nI_ge hn (by omega) z
end
theorem i_vc_digest {k : Nat} {u : SX} {v : SY} (I : i_Rel k u v) (hk : k + 5 ≤ 2561) (v1 : Int32) : wpX_digest (fun r => wpY_digest (fun r' => r' = r ∧ i_Rel (k + 5) u v) v v1) u v1 := by
  obtain ⟨x_op, x_arg, ln, hI⟩ := I
  refine zr_I_el (P := fun u v => wpX_digest (fun r => wpY_digest (fun r' => r' = r ∧ i_Rel (k + 5) u v) v v1) u v1) ?_ hI
  clear hI u v
  intro e x_pending x_journal x_warm x_refund x_mails x_ring x_kept x_version x_depth x_self x_left x_pc x_sp x_base x_lastStatus x_lastResult x_lastUsed x_lastCalls x_limit x_length x_blockLength x_blockCost x_blockMost x_blockNeed x_blockRise x_state x_weight x_journalCell x_journalOld x_mailTo x_mailFrom x_mailAmount x_mailArg x_oldCell x_oldValue x_oldCount x_oldDigest x_eventAccount x_eventTag x_eventValue x_frameSelf x_frameCaller x_frameAmount x_frameArg x_frameGiven x_frameLeft x_framePc x_frameSp x_frameJournal x_frameEvents x_frameWarm x_frameRefund x_frameMails x_stack y_waiting y_refund y_depth y_ended y_answer y_rest y_begun y_lengths y_now y_copies y_older y_before y_warm y_warmCopies y_eventCopies y_messageCopies y_refundCopies y_events y_messages y_self y_caller y_amounts y_arguments y_given y_left y_at y_tops y_stack hPG hST hML hEV hVS hMI
  obtain ⟨rr, hX, hY⟩ := zk_digest (x_pending := x_pending) (x_journal := x_journal) (x_warm := x_warm) (x_refund := x_refund) (x_mails := x_mails) (x_ring := x_ring) (x_kept := x_kept) (x_version := x_version) (x_depth := x_depth) (x_self := x_self) (x_left := x_left) (x_pc := x_pc) (x_sp := x_sp) (x_base := x_base) (x_lastStatus := x_lastStatus) (x_lastResult := x_lastResult) (x_lastUsed := x_lastUsed) (x_lastCalls := x_lastCalls) (x_limit := x_limit) (x_length := x_length) (x_blockLength := x_blockLength) (x_blockCost := x_blockCost) (x_blockMost := x_blockMost) (x_blockNeed := x_blockNeed) (x_blockRise := x_blockRise) (x_state := x_state) (x_weight := x_weight) (x_journalCell := x_journalCell) (x_journalOld := x_journalOld) (x_mailTo := x_mailTo) (x_mailFrom := x_mailFrom) (x_mailAmount := x_mailAmount) (x_mailArg := x_mailArg) (x_oldCell := x_oldCell) (x_oldValue := x_oldValue) (x_oldCount := x_oldCount) (x_oldDigest := x_oldDigest) (x_eventAccount := x_eventAccount) (x_eventTag := x_eventTag) (x_eventValue := x_eventValue) (x_frameSelf := x_frameSelf) (x_frameCaller := x_frameCaller) (x_frameAmount := x_frameAmount) (x_frameArg := x_frameArg) (x_frameGiven := x_frameGiven) (x_frameLeft := x_frameLeft) (x_framePc := x_framePc) (x_frameSp := x_frameSp) (x_frameJournal := x_frameJournal) (x_frameEvents := x_frameEvents) (x_frameWarm := x_frameWarm) (x_frameRefund := x_frameRefund) (x_frameMails := x_frameMails) (x_stack := x_stack) (y_waiting := y_waiting) (y_refund := y_refund) (y_depth := y_depth) (y_ended := y_ended) (y_answer := y_answer) (y_rest := y_rest) (y_begun := y_begun) (y_lengths := y_lengths) (y_now := y_now) (y_copies := y_copies) (y_older := y_older) (y_before := y_before) (y_warm := y_warm) (y_warmCopies := y_warmCopies) (y_eventCopies := y_eventCopies) (y_messageCopies := y_messageCopies) (y_refundCopies := y_refundCopies) (y_events := y_events) (y_messages := y_messages) (y_self := y_self) (y_caller := y_caller) (y_amounts := y_amounts) (y_arguments := y_arguments) (y_given := y_given) (y_left := y_left) (y_at := y_at) (y_tops := y_tops) (y_stack := y_stack) hPG hST hML hEV hVS hMI v1
  exact hX _ (hY _ ⟨rfl, x_op, x_arg, ln, zr_I_mk hPG hST hML hEV hVS hMI⟩)
theorem i_vc_past {k : Nat} {u : SX} {v : SY} (I : i_Rel k u v) (hk : k + 5 ≤ 2561) (v1 : Int32) (v2 : Int32) (v3 : Int32) : wpX_past (fun r => wpY_past (fun r' => r' = r ∧ i_Rel (k + 5) u v) v v1 v2 v3) u v1 v2 v3 := by
  obtain ⟨x_op, x_arg, ln, hI⟩ := I
  refine zr_I_el (P := fun u v => wpX_past (fun r => wpY_past (fun r' => r' = r ∧ i_Rel (k + 5) u v) v v1 v2 v3) u v1 v2 v3) ?_ hI
  clear hI u v
  intro e x_pending x_journal x_warm x_refund x_mails x_ring x_kept x_version x_depth x_self x_left x_pc x_sp x_base x_lastStatus x_lastResult x_lastUsed x_lastCalls x_limit x_length x_blockLength x_blockCost x_blockMost x_blockNeed x_blockRise x_state x_weight x_journalCell x_journalOld x_mailTo x_mailFrom x_mailAmount x_mailArg x_oldCell x_oldValue x_oldCount x_oldDigest x_eventAccount x_eventTag x_eventValue x_frameSelf x_frameCaller x_frameAmount x_frameArg x_frameGiven x_frameLeft x_framePc x_frameSp x_frameJournal x_frameEvents x_frameWarm x_frameRefund x_frameMails x_stack y_waiting y_refund y_depth y_ended y_answer y_rest y_begun y_lengths y_now y_copies y_older y_before y_warm y_warmCopies y_eventCopies y_messageCopies y_refundCopies y_events y_messages y_self y_caller y_amounts y_arguments y_given y_left y_at y_tops y_stack hPG hST hML hEV hVS hMI
  obtain ⟨rr, hX, hY⟩ := zk_past (x_pending := x_pending) (x_journal := x_journal) (x_warm := x_warm) (x_refund := x_refund) (x_mails := x_mails) (x_ring := x_ring) (x_kept := x_kept) (x_version := x_version) (x_depth := x_depth) (x_self := x_self) (x_left := x_left) (x_pc := x_pc) (x_sp := x_sp) (x_base := x_base) (x_lastStatus := x_lastStatus) (x_lastResult := x_lastResult) (x_lastUsed := x_lastUsed) (x_lastCalls := x_lastCalls) (x_limit := x_limit) (x_length := x_length) (x_blockLength := x_blockLength) (x_blockCost := x_blockCost) (x_blockMost := x_blockMost) (x_blockNeed := x_blockNeed) (x_blockRise := x_blockRise) (x_state := x_state) (x_weight := x_weight) (x_journalCell := x_journalCell) (x_journalOld := x_journalOld) (x_mailTo := x_mailTo) (x_mailFrom := x_mailFrom) (x_mailAmount := x_mailAmount) (x_mailArg := x_mailArg) (x_oldCell := x_oldCell) (x_oldValue := x_oldValue) (x_oldCount := x_oldCount) (x_oldDigest := x_oldDigest) (x_eventAccount := x_eventAccount) (x_eventTag := x_eventTag) (x_eventValue := x_eventValue) (x_frameSelf := x_frameSelf) (x_frameCaller := x_frameCaller) (x_frameAmount := x_frameAmount) (x_frameArg := x_frameArg) (x_frameGiven := x_frameGiven) (x_frameLeft := x_frameLeft) (x_framePc := x_framePc) (x_frameSp := x_frameSp) (x_frameJournal := x_frameJournal) (x_frameEvents := x_frameEvents) (x_frameWarm := x_frameWarm) (x_frameRefund := x_frameRefund) (x_frameMails := x_frameMails) (x_stack := x_stack) (y_waiting := y_waiting) (y_refund := y_refund) (y_depth := y_depth) (y_ended := y_ended) (y_answer := y_answer) (y_rest := y_rest) (y_begun := y_begun) (y_lengths := y_lengths) (y_now := y_now) (y_copies := y_copies) (y_older := y_older) (y_before := y_before) (y_warm := y_warm) (y_warmCopies := y_warmCopies) (y_eventCopies := y_eventCopies) (y_messageCopies := y_messageCopies) (y_refundCopies := y_refundCopies) (y_events := y_events) (y_messages := y_messages) (y_self := y_self) (y_caller := y_caller) (y_amounts := y_amounts) (y_arguments := y_arguments) (y_given := y_given) (y_left := y_left) (y_at := y_at) (y_tops := y_tops) (y_stack := y_stack) hPG hST hML hEV hVS hMI v1 v2 v3
  exact hX _ (hY _ ⟨rfl, x_op, x_arg, ln, zr_I_mk hPG hST hML hEV hVS hMI⟩)
end
section
/-! back -/
section
variable {x_limit x_pending x_journal x_refund x_mails x_ring x_kept x_version x_events x_depth x_self x_left x_pc x_sp x_base x_lastStatus x_lastResult x_lastUsed x_lastCalls : Int32} {x_digest x_warm : Int64} {x_op x_arg x_length x_blockLength x_blockCost x_blockMost x_blockNeed x_blockRise x_state x_journalCell x_journalOld x_mailTo x_mailFrom x_mailAmount x_mailArg x_oldCell x_oldValue x_oldCount x_eventAccount x_eventTag x_eventValue x_frameSelf x_frameCaller x_frameAmount x_frameArg x_frameGiven x_frameLeft x_framePc x_frameSp x_frameJournal x_frameEvents x_frameRefund x_frameMails x_stack : Nat → Int32} {x_weight x_oldDigest x_frameWarm : Nat → Int64}
variable {y_limit y_eventCount y_waiting y_refund y_depth y_ended y_answer y_rest y_begun y_result y_used y_calls y_version y_kept : Int32} {y_ops y_bs y_lengths y_now y_copies y_older y_before y_warm y_warmCopies y_eventCopies y_messageCopies y_refundCopies y_events y_messages y_self y_caller y_amounts y_arguments y_given y_left y_at y_tops y_stack : Nat → Int32}
variable {N G J0 lx px s p h L f J W e r : Nat} {ln sf gv jn ml kk hh pp : Nat → Nat} {B : Nat → Int32}
def zv_pr (q : Nat) : Nat := if q = 0 then 5 else q - 1
theorem zl_slP {rg i : Nat} (hi : i < 6) : zv_pr (zv_sl rg i) = zv_sl rg (i + 1) := by unfold zv_pr zv_sl; split <;> omega
theorem xw_b30 {post : Int32 → SX → Prop} {J : Int32 → Int32 → Int32 → Int64 → Int32 → Int64 → Int32 → Int32 → Int32 → Int32 → Int32 → Int32 → Int32 → Int32 → Int32 → Int32 → Int32 → Int32 → Int32 → Int32 → Int32 → Int32 → (Nat → Int32) → (Nat → Int32) → (Nat → Int32) → (Nat → Int32) → (Nat → Int32) → (Nat → Int32) → (Nat → Int32) → (Nat → Int32) → (Nat → Int32) → (Nat → Int64) → (Nat → Int32) → (Nat → Int32) → (Nat → Int32) → (Nat → Int32) → (Nat → Int32) → (Nat → Int32) → (Nat → Int32) → (Nat → Int32) → (Nat → Int32) → (Nat → Int64) → (Nat → Int32) → (Nat → Int32) → (Nat → Int32) → (Nat → Int32) → (Nat → Int32) → (Nat → Int32) → (Nat → Int32) → (Nat → Int32) → (Nat → Int32) → (Nat → Int32) → (Nat → Int32) → (Nat → Int32) → (Nat → Int32) → (Nat → Int64) → (Nat → Int32) → (Nat → Int32) → (Nat → Int32) → Prop} {x1 : Int32} {i q c : Nat} {s : Nat → Int32} (hW : zs_W x_weight) (hq : q < 6) (hc30 : c ≤ 30) (ec : x_oldCount q = nI c) (hcc : ∀ t, t < c → ∃ x : Nat, x < 30 ∧ x_oldCell (30 * q + t) = nI x) (hp : J (nI (i + 1)) x_limit x_pending (zs_H (zv_A x_oldCell x_oldValue (30 * q) c s) 30) x_journal x_warm x_refund x_mails (nI (zv_pr q)) x_kept x_version x_events x_depth x_self x_left x_pc x_sp x_base x_lastStatus x_lastResult x_lastUsed x_lastCalls x_op x_arg x_length x_blockLength x_blockCost x_blockMost x_blockNeed x_blockRise (zv_A x_oldCell x_oldValue (30 * q) c s) x_weight x_journalCell x_journalOld x_mailTo x_mailFrom x_mailAmount x_mailArg x_oldCell x_oldValue x_oldCount x_oldDigest x_eventAccount x_eventTag x_eventValue x_frameSelf x_frameCaller x_frameAmount x_frameArg x_frameGiven x_frameLeft x_framePc x_frameSp x_frameJournal x_frameEvents x_frameWarm x_frameRefund x_frameMails x_stack) : ∀ d t, t + d = c → wX_back_30 post J x1 (nI i) (d + 1) (nI (30 * q + t)) x_limit x_pending (zs_H (zv_A x_oldCell x_oldValue (30 * q) t s) 30) x_journal x_warm x_refund x_mails (nI q) x_kept x_version x_events x_depth x_self x_left x_pc x_sp x_base x_lastStatus x_lastResult x_lastUsed x_lastCalls x_op x_arg x_length x_blockLength x_blockCost x_blockMost x_blockNeed x_blockRise (zv_A x_oldCell x_oldValue (30 * q) t s) x_weight x_journalCell x_journalOld x_mailTo x_mailFrom x_mailAmount x_mailArg x_oldCell x_oldValue x_oldCount x_oldDigest x_eventAccount x_eventTag x_eventValue x_frameSelf x_frameCaller x_frameAmount x_frameArg x_frameGiven x_frameLeft x_framePc x_frameSp x_frameJournal x_frameEvents x_frameWarm x_frameRefund x_frameMails x_stack := by
  have hqi : vp_in (nI q) 6 := vp_in_nI hq (by omega)
  have e30 : (30 : Int32) * nI q + nI c = nI (30 * q + c) := by rw [show (30 : Int32) * nI q = nI (30 * q) from pk_mul 30 q]; exact nI_add _ _
  intro d
  induction d with
  | zero =>
    intro t ht
    have e : t = c := by omega
    subst e
    refine ⟨hqi, ?_⟩
    rw [nI_clamp (by omega : q < 2 ^ 31), ec, e30]
    unfold zv_pr at hp
    refine br_t (nI_le (Nat.le_refl _) (by omega)) (pk_eq q 0 (fun z => nm_r (nI_1 i) ?_) (fun z => nm_r (e' := nI (q - 1)) (pk_sub (b := 1) (by omega)) (nm_r (nI_1 i) ?_)))
    · rw [if_pos z] at hp; exact hp
    · rw [if_neg z] at hp; exact hp
  | succ d ih =>
    intro t ht
    obtain ⟨x, hx, ex⟩ := hcc t (by omega)
    have hti : vp_in (nI (30 * q + t)) 180 := vp_in_nI (by omega) (by omega)
    have H := ih (t + 1) (by omega)
    have eA : zv_A x_oldCell x_oldValue (30 * q) (t + 1) s = upd (zv_A x_oldCell x_oldValue (30 * q) t s) x (x_oldValue (30 * q + t)) := by
      show upd _ (x_oldCell (30 * q + t)).toNatClampNeg _ = _
      rw [ex, nI_clamp (by omega)]
    rw [eA] at H
    refine ⟨hqi, ?_⟩
    rw [nI_clamp (by omega : q < 2 ^ 31), ec, e30, nI_clamp (by omega : 30 * q + t < 2 ^ 31), ex]
    refine br_f (nI_ge (by omega) (by omega)) ⟨hti, hti, xw_place hW hx ?_⟩
    exact nm_r (nI_1 _) H
theorem xw_b17 {post : Int32 → SX → Prop} {rg kp n : Nat} {s : Nat → Int32} {od : Nat → Int64} {older : Nat → Int32} (hW : zs_W x_weight) (hk6 : kp ≤ 6) (hn : n ≤ kp) (hI : ∀ i, i < kp → zv_I s rg x_oldCell x_oldValue x_oldCount od older i) (hp : post (x_version - nI n) (x_limit, x_pending, zs_H (zv_V x_oldCell x_oldValue x_oldCount rg n s) 30, x_journal, x_warm, x_refund, x_mails, nI (zv_sl rg n), nI (kp - n), x_version - nI n, x_events, x_depth, x_self, x_left, x_pc, x_sp, x_base, x_lastStatus, x_lastResult, x_lastUsed, x_lastCalls, x_op, x_arg, x_length, x_blockLength, x_blockCost, x_blockMost, x_blockNeed, x_blockRise, zv_V x_oldCell x_oldValue x_oldCount rg n s, x_weight, x_journalCell, x_journalOld, x_mailTo, x_mailFrom, x_mailAmount, x_mailArg, x_oldCell, x_oldValue, x_oldCount, x_oldDigest, x_eventAccount, x_eventTag, x_eventValue, x_frameSelf, x_frameCaller, x_frameAmount, x_frameArg, x_frameGiven, x_frameLeft, x_framePc, x_frameSp, x_frameJournal, x_frameEvents, x_frameWarm, x_frameRefund, x_frameMails, x_stack)) : ∀ d i, i + d = n → wX_back_17 post (nI n) (d + 1) (nI i) x_limit x_pending (zs_H (zv_V x_oldCell x_oldValue x_oldCount rg i s) 30) x_journal x_warm x_refund x_mails (nI (zv_sl rg i)) (nI kp) x_version x_events x_depth x_self x_left x_pc x_sp x_base x_lastStatus x_lastResult x_lastUsed x_lastCalls x_op x_arg x_length x_blockLength x_blockCost x_blockMost x_blockNeed x_blockRise (zv_V x_oldCell x_oldValue x_oldCount rg i s) x_weight x_journalCell x_journalOld x_mailTo x_mailFrom x_mailAmount x_mailArg x_oldCell x_oldValue x_oldCount x_oldDigest x_eventAccount x_eventTag x_eventValue x_frameSelf x_frameCaller x_frameAmount x_frameArg x_frameGiven x_frameLeft x_framePc x_frameSp x_frameJournal x_frameEvents x_frameWarm x_frameRefund x_frameMails x_stack := by
  intro d
  induction d with
  | zero =>
    intro i hi
    have e : i = n := by omega
    subst e
    exact br_t (nI_le (Nat.le_refl _) (by omega)) (nm_r (pk_sub hn) (nm_e hp))
  | succ d ih =>
    intro i hi
    obtain ⟨⟨c, hc30, ec, hcc⟩, _⟩ := hI i (by omega)
    have e30 : (30 : Int32) * nI (zv_sl rg i) = nI (30 * zv_sl rg i) := pk_mul 30 _
    refine br_f (nI_ge (by omega) (by omega)) (nm_r e30 ⟨c + 1, ?_⟩)
    have H := ih (i + 1) (by omega)
    rw [zv_VS, ec, nI_clamp (by omega : c < 2 ^ 31), ← zl_slP (by omega)] at H
    exact xw_b30 (s := zv_V x_oldCell x_oldValue x_oldCount rg i s) hW (zl_sl6 rg i) hc30 ec hcc H c 0 (by omega)
theorem yw_b50 {post : Int32 → SY → Prop} {n kp : Nat} (hn : n ≤ kp) (hk6 : kp ≤ 6) (hp : post (y_version - nI n) (y_limit, y_eventCount, y_waiting, y_refund, y_depth, y_ended, y_answer, y_rest, y_begun, y_result, y_used, y_calls, y_version - nI n, nI (kp - n), x_op, x_arg, y_lengths, y_now, y_copies, zy_c y_older y_older (30 * n) (180 - 30 * n), y_before, y_warm, y_warmCopies, y_eventCopies, y_messageCopies, y_refundCopies, y_events, y_messages, y_self, y_caller, y_amounts, y_arguments, y_given, y_left, y_at, y_tops, y_stack)) : ∀ k i, i + k = 180 - 30 * n → wY_back_50 post (nI n) y_limit y_eventCount y_waiting y_refund y_depth y_ended y_answer y_rest y_begun y_result y_used y_calls y_version (nI kp) (k + 1) (nI i) x_op x_arg y_lengths y_now y_copies (zy_c y_older y_older (30 * n) i) y_before y_warm y_warmCopies y_eventCopies y_messageCopies y_refundCopies y_events y_messages y_self y_caller y_amounts y_arguments y_given y_left y_at y_tops y_stack := by
  have e30 : (30 : Int32) * nI n = nI (30 * n) := pk_mul 30 n
  have e180 : (180 : Int32) - nI (30 * n) = nI (180 - 30 * n) := pk_sub (a := 180) (by omega)
  intro k
  induction k with
  | zero =>
    intro i hk
    have e : i = 180 - 30 * n := by omega
    subst e
    exact br_t (by rw [e30, e180]; exact nI_le (Nat.le_refl _) (by omega)) (nm_r (pk_sub hn) (nm_e hp))
  | succ k ih =>
    intro i hk
    refine br_f (by rw [e30, e180]; exact nI_ge (by omega) (by omega)) ?_
    have hsh : zy_c y_older y_older (30 * n) i (i + 30 * n) = y_older (30 * n + i) := by
      unfold zy_c
      rw [if_neg (by omega), Nat.add_comm]
    rw [e30, nI_add, nI_clamp (by omega : i + 30 * n < 2 ^ 31), nI_clamp (by omega : i < 2 ^ 31), hsh, zy_cS]
    exact ⟨vp_in_nI (by omega) (by omega), vp_in_nI (by omega) (by omega), nm_e (nm_r (nI_1 i) (ih (i + 1) (by omega)))⟩
theorem yw_b17 {post : Int32 → SY → Prop} {n kp : Nat} (h1 : 1 ≤ n) (hn : n ≤ kp) (hk6 : kp ≤ 6) (hp : post (y_version - nI n) (y_limit, y_eventCount, y_waiting, y_refund, y_depth, y_ended, y_answer, y_rest, y_begun, y_result, y_used, y_calls, y_version - nI n, nI (kp - n), x_op, x_arg, y_lengths, zy_c y_now y_older (30 * (n - 1)) 30, y_copies, zy_c y_older y_older (30 * n) (180 - 30 * n), y_before, y_warm, y_warmCopies, y_eventCopies, y_messageCopies, y_refundCopies, y_events, y_messages, y_self, y_caller, y_amounts, y_arguments, y_given, y_left, y_at, y_tops, y_stack)) : ∀ k i, i + k = 30 → wY_back_17 post (nI n) y_limit y_eventCount y_waiting y_refund y_depth y_ended y_answer y_rest y_begun y_result y_used y_calls y_version (nI kp) (k + 1) (nI i) x_op x_arg y_lengths (zy_c y_now y_older (30 * (n - 1)) i) y_copies y_older y_before y_warm y_warmCopies y_eventCopies y_messageCopies y_refundCopies y_events y_messages y_self y_caller y_amounts y_arguments y_given y_left y_at y_tops y_stack := by
  have e1 : nI n - 1 = nI (n - 1) := pk_sub (b := 1) h1
  intro k
  induction k with
  | zero =>
    intro i hk
    have e : i = 30 := by omega
    subst e
    refine br_t (nI_le (a := 30) (b := 30) (by omega) (by omega)) ⟨180 - 30 * n + 1, ?_⟩
    have := yw_b50 (y_now := zy_c y_now y_older (30 * (n - 1)) 30) hn hk6 hp (180 - 30 * n) 0 (by omega)
    rw [zy_c0] at this
    exact this
  | succ k ih =>
    intro i hk
    refine br_f (nI_ge (b := 30) (by omega) (by omega)) ?_
    rw [e1, show (30 : Int32) * nI (n - 1) = nI (30 * (n - 1)) from pk_mul 30 _, nI_add, nI_clamp (by omega : 30 * (n - 1) + i < 2 ^ 31), nI_clamp (by omega : i < 2 ^ 31), zy_cS]
    exact ⟨vp_in_nI (by omega) (by omega), vp_in_nI (by omega) (by omega), nm_e (nm_r (nI_1 i) (ih (i + 1) (by omega)))⟩
theorem zk_back (hPG : zr_PG ln x_op x_arg x_length x_blockLength x_blockCost x_blockMost x_blockNeed x_blockRise y_lengths) (hST : zr_ST x_state x_weight y_now) (hML : zr_ML x_mailTo x_mailFrom x_mailAmount x_mailArg y_messages) (hEV : zr_EV e x_eventAccount x_eventTag x_eventValue y_events) (hVS : zr_VS x_state x_ring x_kept x_oldCell x_oldValue x_oldCount x_oldDigest y_older) (hMI : zr_MI x_limit x_pending (y_lengths 6)) (p0 : Int32) : ∃ (rr : Int32) (u' : SX) (v' : SY) (op' arg' : Nat → Int32) (ln' : Nat → Nat), zr_I op' arg' ln' u' v' ∧ (∀ post : Int32 → SX → Prop, post rr u' → wpX_back post (x_limit, x_pending, zs_H x_state 30, x_journal, x_warm, x_refund, x_mails, x_ring, x_kept, x_version, nI e, x_depth, x_self, x_left, x_pc, x_sp, x_base, x_lastStatus, x_lastResult, x_lastUsed, x_lastCalls, x_op, x_arg, x_length, x_blockLength, x_blockCost, x_blockMost, x_blockNeed, x_blockRise, x_state, x_weight, x_journalCell, x_journalOld, x_mailTo, x_mailFrom, x_mailAmount, x_mailArg, x_oldCell, x_oldValue, x_oldCount, x_oldDigest, x_eventAccount, x_eventTag, x_eventValue, x_frameSelf, x_frameCaller, x_frameAmount, x_frameArg, x_frameGiven, x_frameLeft, x_framePc, x_frameSp, x_frameJournal, x_frameEvents, x_frameWarm, x_frameRefund, x_frameMails, x_stack) p0) ∧ (∀ post : Int32 → SY → Prop, post rr v' → wpY_back post (x_limit, nI e, y_waiting, y_refund, y_depth, y_ended, y_answer, y_rest, y_begun, x_lastResult, x_lastUsed, x_lastCalls, x_version, x_kept, x_op, x_arg, y_lengths, y_now, y_copies, y_older, y_before, y_warm, y_warmCopies, y_eventCopies, y_messageCopies, y_refundCopies, y_events, y_messages, y_self, y_caller, y_amounts, y_arguments, y_given, y_left, y_at, y_tops, y_stack) p0) := by
  obtain ⟨rg, kp, er, ek, hr6, hk6, hI⟩ := id hVS
  subst er ek
  have bad : (p0 < 1 ∨ ¬ p0 ≤ nI kp) → ∃ (rr : Int32) (u' : SX) (v' : SY) (op' arg' : Nat → Int32) (ln' : Nat → Nat), zr_I op' arg' ln' u' v' ∧ (∀ post : Int32 → SX → Prop, post rr u' → wpX_back post (x_limit, x_pending, zs_H x_state 30, x_journal, x_warm, x_refund, x_mails, nI rg, nI kp, x_version, nI e, x_depth, x_self, x_left, x_pc, x_sp, x_base, x_lastStatus, x_lastResult, x_lastUsed, x_lastCalls, x_op, x_arg, x_length, x_blockLength, x_blockCost, x_blockMost, x_blockNeed, x_blockRise, x_state, x_weight, x_journalCell, x_journalOld, x_mailTo, x_mailFrom, x_mailAmount, x_mailArg, x_oldCell, x_oldValue, x_oldCount, x_oldDigest, x_eventAccount, x_eventTag, x_eventValue, x_frameSelf, x_frameCaller, x_frameAmount, x_frameArg, x_frameGiven, x_frameLeft, x_framePc, x_frameSp, x_frameJournal, x_frameEvents, x_frameWarm, x_frameRefund, x_frameMails, x_stack) p0) ∧ (∀ post : Int32 → SY → Prop, post rr v' → wpY_back post (x_limit, nI e, y_waiting, y_refund, y_depth, y_ended, y_answer, y_rest, y_begun, x_lastResult, x_lastUsed, x_lastCalls, x_version, nI kp, x_op, x_arg, y_lengths, y_now, y_copies, y_older, y_before, y_warm, y_warmCopies, y_eventCopies, y_messageCopies, y_refundCopies, y_events, y_messages, y_self, y_caller, y_amounts, y_arguments, y_given, y_left, y_at, y_tops, y_stack) p0) := by
    intro h
    refine ⟨-1, (x_limit, x_pending, zs_H x_state 30, x_journal, x_warm, x_refund, x_mails, nI rg, nI kp, x_version, nI e, x_depth, x_self, x_left, x_pc, x_sp, x_base, x_lastStatus, x_lastResult, x_lastUsed, x_lastCalls, x_op, x_arg, x_length, x_blockLength, x_blockCost, x_blockMost, x_blockNeed, x_blockRise, x_state, x_weight, x_journalCell, x_journalOld, x_mailTo, x_mailFrom, x_mailAmount, x_mailArg, x_oldCell, x_oldValue, x_oldCount, x_oldDigest, x_eventAccount, x_eventTag, x_eventValue, x_frameSelf, x_frameCaller, x_frameAmount, x_frameArg, x_frameGiven, x_frameLeft, x_framePc, x_frameSp, x_frameJournal, x_frameEvents, x_frameWarm, x_frameRefund, x_frameMails, x_stack), (x_limit, nI e, y_waiting, y_refund, y_depth, y_ended, y_answer, y_rest, y_begun, x_lastResult, x_lastUsed, x_lastCalls, x_version, nI kp, x_op, x_arg, y_lengths, y_now, y_copies, y_older, y_before, y_warm, y_warmCopies, y_eventCopies, y_messageCopies, y_refundCopies, y_events, y_messages, y_self, y_caller, y_amounts, y_arguments, y_given, y_left, y_at, y_tops, y_stack), x_op, x_arg, ln, zr_I_mk hPG hST hML hEV hVS hMI, fun post hp => ?_, fun post hp => br_c (fun _ => hp) (fun n1 => br_c (fun n2 => ?_) (fun _ => hp))⟩
    · unfold wpX_back
      dsimp only
      refine xw_outN (by omega) (fun j hj ej => ?_) (fun _ => br_f (by decide) hp)
      exfalso
      have e : p0 = nI (j + 1) := by
        have : p0 = (p0 - 1) + 1 := by grind
        rw [this, ej]; exact nI_1 j
      rw [e] at h
      rcases h with z | z
      · exact nI_nlt (b := 1) (by omega) (by omega) z
      · exact z (nI_le (by omega) (by omega))
    · rcases h with z | z
      · exact absurd z n1
      · exact absurd n2 z
  by_cases c1 : p0 < 1
  · exact bad (Or.inl c1)
  by_cases c2 : p0 ≤ nI kp
  rotate_left
  · exact bad (Or.inr c2)
  clear bad
  have c0 : ¬ p0 < 0 := fun z => c1 (Int32.lt_of_lt_of_le z (by decide))
  obtain ⟨n, hn31, rfl⟩ := nI_of c0
  have hn1 : 1 ≤ n := Nat.le_of_not_lt fun z => c1 (nI_lt (b := 1) z (by omega))
  have hnk : n ≤ kp := (nI_leI hn31 (by omega)).mp c2
  obtain ⟨m, rfl⟩ : ∃ m, n = m + 1 := ⟨n - 1, by omega⟩
  obtain ⟨_, v1, v2, v3⟩ := hI m (by omega)
  refine ⟨x_version - nI (m + 1), (x_limit, x_pending, zs_H (zv_V x_oldCell x_oldValue x_oldCount rg (m + 1) x_state) 30, x_journal, x_warm, x_refund, x_mails, nI (zv_sl rg (m + 1)), nI (kp - (m + 1)), x_version - nI (m + 1), nI e, x_depth, x_self, x_left, x_pc, x_sp, x_base, x_lastStatus, x_lastResult, x_lastUsed, x_lastCalls, x_op, x_arg, x_length, x_blockLength, x_blockCost, x_blockMost, x_blockNeed, x_blockRise, zv_V x_oldCell x_oldValue x_oldCount rg (m + 1) x_state, x_weight, x_journalCell, x_journalOld, x_mailTo, x_mailFrom, x_mailAmount, x_mailArg, x_oldCell, x_oldValue, x_oldCount, x_oldDigest, x_eventAccount, x_eventTag, x_eventValue, x_frameSelf, x_frameCaller, x_frameAmount, x_frameArg, x_frameGiven, x_frameLeft, x_framePc, x_frameSp, x_frameJournal, x_frameEvents, x_frameWarm, x_frameRefund, x_frameMails, x_stack), (x_limit, nI e, y_waiting, y_refund, y_depth, y_ended, y_answer, y_rest, y_begun, x_lastResult, x_lastUsed, x_lastCalls, x_version - nI (m + 1), nI (kp - (m + 1)), x_op, x_arg, y_lengths, zy_c y_now y_older (30 * (m + 1 - 1)) 30, y_copies, zy_c y_older y_older (30 * (m + 1)) (180 - 30 * (m + 1)), y_before, y_warm, y_warmCopies, y_eventCopies, y_messageCopies, y_refundCopies, y_events, y_messages, y_self, y_caller, y_amounts, y_arguments, y_given, y_left, y_at, y_tops, y_stack), x_op, x_arg, ln, ?_, fun post hp => ?_, fun post hp => ?_⟩
  · refine zr_I_mk hPG ⟨hST.1, v1, fun k hk => ?_⟩ hML hEV ⟨zv_sl rg (m + 1), kp - (m + 1), rfl, rfl, zl_sl6 _ _, by omega, fun i hi => ?_⟩ hMI
    · unfold zy_c
      rw [if_pos hk, show m + 1 - 1 = m by omega]
      exact v3 k hk
    · obtain ⟨⟨c, hc30, ec, hcc⟩, w1, w2, w3⟩ := hI (m + 1 + i) (by omega)
      have eV : zv_V x_oldCell x_oldValue x_oldCount (zv_sl rg (m + 1)) (i + 1) (zv_V x_oldCell x_oldValue x_oldCount rg (m + 1) x_state) = zv_V x_oldCell x_oldValue x_oldCount rg (m + 1 + i + 1) x_state := zv_Vadd (n := m + 1) (i := i + 1) (by omega)
      unfold zv_I
      rw [zl_slA (by omega), eV]
      refine ⟨⟨c, hc30, ec, hcc⟩, w1, w2, fun k hk => ?_⟩
      rw [← w3 k hk]
      unfold zy_c
      rw [if_pos (by omega)]
      exact congrArg y_older (by omega)
  · unfold wpX_back
    dsimp only
    have e1 : nI (m + 1) - 1 = nI m := nI_pred m
    rw [e1]
    refine xw_outN (by omega) (fun _ _ _ => br_t rfl ⟨m + 1 + 1, ?_⟩) (fun z => ?_)
    · have := xw_b17 (post := post) (s := x_state) hST.1 hk6 hnk hI hp (m + 1) 0 (by omega)
      rw [zl_sl0 hr6] at this
      exact this
    · exfalso
      rcases z with z | z
      · exact nI_pos (by omega) z
      · exact nI_ge (by omega) (by omega) z
  · refine br_f c1 (br_t c2 ⟨31, ?_⟩)
    have := yw_b17 hn1 hnk hk6 hp 30 0 (by omega)
    rw [zy_c0] at this
    exact this
end
theorem i_vc_back {k : Nat} {u : SX} {v : SY} (I : i_Rel k u v) (hk : k + 5 ≤ 2561) (v1 : Int32) : wpX_back (fun r u' => wpY_back (fun r' v' => r' = r ∧ i_Rel (k + 5) u' v') v v1) u v1 := by
  obtain ⟨x_op, x_arg, ln, hI⟩ := I
  refine zr_I_el (P := fun u v => wpX_back (fun r u' => wpY_back (fun r' v' => r' = r ∧ i_Rel (k + 5) u' v') v v1) u v1) ?_ hI
  clear hI u v
  intro e x_pending x_journal x_warm x_refund x_mails x_ring x_kept x_version x_depth x_self x_left x_pc x_sp x_base x_lastStatus x_lastResult x_lastUsed x_lastCalls x_limit x_length x_blockLength x_blockCost x_blockMost x_blockNeed x_blockRise x_state x_weight x_journalCell x_journalOld x_mailTo x_mailFrom x_mailAmount x_mailArg x_oldCell x_oldValue x_oldCount x_oldDigest x_eventAccount x_eventTag x_eventValue x_frameSelf x_frameCaller x_frameAmount x_frameArg x_frameGiven x_frameLeft x_framePc x_frameSp x_frameJournal x_frameEvents x_frameWarm x_frameRefund x_frameMails x_stack y_waiting y_refund y_depth y_ended y_answer y_rest y_begun y_lengths y_now y_copies y_older y_before y_warm y_warmCopies y_eventCopies y_messageCopies y_refundCopies y_events y_messages y_self y_caller y_amounts y_arguments y_given y_left y_at y_tops y_stack hPG hST hML hEV hVS hMI
  obtain ⟨rr, u', v', op', arg', ln', hI', hX, hY⟩ := zk_back (x_pending := x_pending) (x_journal := x_journal) (x_warm := x_warm) (x_refund := x_refund) (x_mails := x_mails) (x_ring := x_ring) (x_kept := x_kept) (x_version := x_version) (x_depth := x_depth) (x_self := x_self) (x_left := x_left) (x_pc := x_pc) (x_sp := x_sp) (x_base := x_base) (x_lastStatus := x_lastStatus) (x_lastResult := x_lastResult) (x_lastUsed := x_lastUsed) (x_lastCalls := x_lastCalls) (x_limit := x_limit) (x_length := x_length) (x_blockLength := x_blockLength) (x_blockCost := x_blockCost) (x_blockMost := x_blockMost) (x_blockNeed := x_blockNeed) (x_blockRise := x_blockRise) (x_state := x_state) (x_weight := x_weight) (x_journalCell := x_journalCell) (x_journalOld := x_journalOld) (x_mailTo := x_mailTo) (x_mailFrom := x_mailFrom) (x_mailAmount := x_mailAmount) (x_mailArg := x_mailArg) (x_oldCell := x_oldCell) (x_oldValue := x_oldValue) (x_oldCount := x_oldCount) (x_oldDigest := x_oldDigest) (x_eventAccount := x_eventAccount) (x_eventTag := x_eventTag) (x_eventValue := x_eventValue) (x_frameSelf := x_frameSelf) (x_frameCaller := x_frameCaller) (x_frameAmount := x_frameAmount) (x_frameArg := x_frameArg) (x_frameGiven := x_frameGiven) (x_frameLeft := x_frameLeft) (x_framePc := x_framePc) (x_frameSp := x_frameSp) (x_frameJournal := x_frameJournal) (x_frameEvents := x_frameEvents) (x_frameWarm := x_frameWarm) (x_frameRefund := x_frameRefund) (x_frameMails := x_frameMails) (x_stack := x_stack) (y_waiting := y_waiting) (y_refund := y_refund) (y_depth := y_depth) (y_ended := y_ended) (y_answer := y_answer) (y_rest := y_rest) (y_begun := y_begun) (y_lengths := y_lengths) (y_now := y_now) (y_copies := y_copies) (y_older := y_older) (y_before := y_before) (y_warm := y_warm) (y_warmCopies := y_warmCopies) (y_eventCopies := y_eventCopies) (y_messageCopies := y_messageCopies) (y_refundCopies := y_refundCopies) (y_events := y_events) (y_messages := y_messages) (y_self := y_self) (y_caller := y_caller) (y_amounts := y_amounts) (y_arguments := y_arguments) (y_given := y_given) (y_left := y_left) (y_at := y_at) (y_tops := y_tops) (y_stack := y_stack) hPG hST hML hEV hVS hMI v1
  exact hX _ (hY _ ⟨rfl, op', arg', ln', hI'⟩)
end
