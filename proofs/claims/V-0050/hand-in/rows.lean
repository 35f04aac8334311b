section
/-! pure rows to paste: stores, nI and lN arithmetic, masks, shifts, narrowing, branches by naturals (pk_le, pk_lt, pk_eq), loops (lp1 .. lp16: the measure of the state; rp1 ..: recursion), negatives. Take what you need -/
theorem pk_us {f : Nat → Int32} {k : Nat} {x : Int32} : upd f k x k = x := if_pos rfl
theorem pk_un {f : Nat → Int32} {k j : Nat} {x : Int32} (h : j ≠ k) : upd f k x j = f j := if_neg h
theorem pk_uLs {f : Nat → Int64} {k : Nat} {x : Int64} : vp_updL f k x k = x := if_pos rfl
theorem pk_uLn {f : Nat → Int64} {k j : Nat} {x : Int64} (h : j ≠ k) : vp_updL f k x j = f j := if_neg h
theorem pk_sub {a b : Nat} (h : b ≤ a) : nI a - nI b = nI (a - b) := by
  obtain ⟨c, rfl⟩ : ∃ c, a = c + b := ⟨a - b, by omega⟩
  rw [← nI_add, Int32.add_sub_cancel, Nat.add_sub_cancel]
theorem pk_m1 (n : Nat) : nI (n + 1) + (-1) = nI n := by
  rw [← nI_1, Int32.add_assoc, show (1 : Int32) + (-1) = 0 from rfl, Int32.add_zero]
theorem pk_mul (a b : Nat) : nI a * nI b = nI (a * b) := (Int32.ofNat_mul a b).symm
theorem pk_div {a d : Nat} (ha : a < 2 ^ 31) (h0 : 0 < d) (hd : d < 2 ^ 31) : nI a / nI d = nI (a / d) := by
  apply Int32.toInt_inj.mp
  rw [lg_idiv_nonneg (by rw [nI_toInt ha]; omega) (by rw [nI_toInt hd]; omega), nI_toInt ha, nI_toInt hd, nI_toInt (Nat.lt_of_le_of_lt (Nat.div_le_self a d) ha)]
  first | rfl | exact (Int.natCast_ediv _ _).symm
theorem pk_rem {a d : Nat} (ha : a < 2 ^ 31) (h0 : 0 < d) (hd : d < 2 ^ 31) : nI a - nI a / nI d * nI d = nI (a % d) := by
  rw [pk_div ha h0 hd, pk_mul, pk_sub (Nat.div_mul_le_self a d)]
  exact congrArg nI (by have := Nat.div_add_mod' a d; omega)
theorem pk_sub_toInt {a b : Nat} (ha : a < 2 ^ 30) (hb : b < 2 ^ 30) : (nI a - nI b).toInt = (a : Int) - b := by
  rw [Int32.toInt_sub, nI_toInt (by omega), nI_toInt (by omega)]
  exact Int.bmod_eq_of_le (by omega) (by omega)
theorem pk_sneg {a b : Nat} (hb : b < 2 ^ 30) (h : a < b) : nI a - nI b < 0 := by
  rw [Int32.lt_iff_toInt_lt, pk_sub_toInt (by omega) hb, show (0 : Int32).toInt = 0 from by decide]
  omega
theorem pk_ix (x : Int32) {n : Nat} (hn : n < 2 ^ 31) : x < 0 ∨ nI n ≤ x ∨ ∃ j : Nat, j < n ∧ x = nI j := by
  by_cases h : x < 0
  · exact Or.inl h
  · obtain ⟨j, hj, rfl⟩ := nI_of h
    by_cases h2 : j < n
    · exact Or.inr (Or.inr ⟨j, h2, rfl⟩)
    · exact Or.inr (Or.inl (nI_le (by omega) hj))
theorem pk_le {x y : Int32} {A B : Prop} (a b : Nat) (f : a ≤ b → A) (g : b < a → B) (hx : x = nI a := by rfl) (hy : y = nI b := by rfl) (ha : a < 2 ^ 31 := by omega) (hb : b < 2 ^ 31 := by omega) : (x ≤ y → A) ∧ (¬ x ≤ y → B) := by
  subst hx hy
  rw [nI_leI ha hb]
  exact ⟨f, fun z => g (by omega)⟩
theorem pk_lt {x y : Int32} {A B : Prop} (a b : Nat) (f : a < b → A) (g : b ≤ a → B) (hx : x = nI a := by rfl) (hy : y = nI b := by rfl) (ha : a < 2 ^ 31 := by omega) (hb : b < 2 ^ 31 := by omega) : (x < y → A) ∧ (¬ x < y → B) := by
  subst hx hy
  rw [nI_ltI ha hb]
  exact ⟨f, fun z => g (by omega)⟩
theorem pk_eq {x y : Int32} {A B : Prop} (a b : Nat) (f : a = b → A) (g : a ≠ b → B) (hx : x = nI a := by rfl) (hy : y = nI b := by rfl) (ha : a < 2 ^ 31 := by omega) (hb : b < 2 ^ 31 := by omega) : (x = y → A) ∧ (¬ x = y → B) := by
  subst hx hy
  rw [nI_eq ha hb]
  exact ⟨f, g⟩
theorem pk_in {x : Int32} (n N : Nat) (h : n < N) (hx : x = nI n := by rfl) (hN : N < 2 ^ 31 := by omega) : vp_in x N := by
  subst hx
  exact vp_in_nI h hN
theorem pk_cl {x : Int32} (n : Nat) (hx : x = nI n := by rfl) (h : n < 2 ^ 31 := by omega) : x.toNatClampNeg = n := by
  subst hx
  exact nI_clamp h
theorem pk_tn {n : Nat} (h : n < 2 ^ 32) : (nI n).toBitVec.toNat = n := Nat.mod_eq_of_lt h
theorem pk_and (x : Int32) {m : Int32} (k : Nat) (hm : m.toBitVec.toNat = 2 ^ k - 1) : x &&& m = nI (x.toBitVec.toNat % 2 ^ k) := by
  apply Int32.toBitVec_inj.mp
  apply BitVec.eq_of_toNat_eq
  rw [Int32.toBitVec_and, BitVec.toNat_and, hm, Nat.and_two_pow_sub_one_eq_mod]
  show _ = (BitVec.ofNat 32 _).toNat
  rw [BitVec.toNat_ofNat]
  exact (Nat.mod_eq_of_lt (Nat.lt_of_le_of_lt (Nat.mod_le _ _) x.toBitVec.isLt)).symm
theorem pk_andN {n : Nat} (h : n < 2 ^ 32) {m : Int32} (k : Nat) (hm : m.toBitVec.toNat = 2 ^ k - 1) : nI n &&& m = nI (n % 2 ^ k) := by
  rw [pk_and _ k hm, pk_tn h]
theorem pk_andE (x : Int32) {m : Int32} (k : Nat) (hm : m.toBitVec.toNat = 2 ^ k - 1) : ∃ j : Nat, j < 2 ^ k ∧ x &&& m = nI j := ⟨_, Nat.mod_lt _ (Nat.two_pow_pos k), pk_and x k hm⟩
theorem pk_andIn (x : Int32) {m : Int32} (k : Nat) (hm : m.toBitVec.toNat = 2 ^ k - 1) (hk : k ≤ 30) : vp_in (x &&& m) (2 ^ k) := by
  obtain ⟨j, hj, e⟩ := pk_andE x k hm
  rw [e]
  exact vp_in_nI hj (Nat.lt_of_le_of_lt (Nat.pow_le_pow_right (by decide) hk) (by decide))
theorem pk_shl (a s : Int32) (k : Nat) (hs : (s.toBitVec.smod 32).toNat = k) : (a <<< s).toBitVec.toNat = a.toBitVec.toNat * 2 ^ k % 2 ^ 32 := by
  show (a.toBitVec <<< (s.toBitVec.smod 32).toNat).toNat = _
  rw [hs, BitVec.toNat_shiftLeft, Nat.shiftLeft_eq]
theorem pk_shlN {n : Nat} (s : Int32) (k : Nat) (hs : (s.toBitVec.smod 32).toNat = k) (h : n * 2 ^ k < 2 ^ 32) : nI n <<< s = nI (n * 2 ^ k) := by
  apply Int32.toBitVec_inj.mp
  apply BitVec.eq_of_toNat_eq
  have hn : n < 2 ^ 32 := Nat.lt_of_le_of_lt (Nat.le_mul_of_pos_right n (Nat.two_pow_pos k)) h
  rw [pk_shl _ _ k hs, pk_tn hn, pk_tn h, Nat.mod_eq_of_lt h]
theorem pk_shr (a s : Int32) (k : Nat) (hs : (s.toBitVec.smod 32).toNat = k) : (a >>> s).toInt = a.toInt >>> k := by
  show (a.toBitVec.sshiftRight (s.toBitVec.smod 32).toNat).toInt = _
  rw [hs, BitVec.toInt_sshiftRight]
  rfl
theorem pk_shrN {n : Nat} (h : n < 2 ^ 31) (s : Int32) (k : Nat) (hs : (s.toBitVec.smod 32).toNat = k) : nI n >>> s = nI (n / 2 ^ k) := by
  apply Int32.toInt_inj.mp
  have h2 : n / 2 ^ k ≤ n := Nat.div_le_self _ _
  rw [pk_shr _ _ k hs, nI_toInt h, nI_toInt (by omega), Int.shiftRight_eq_div_pow]
  rfl
theorem pk_ushr (x s : Int32) (k : Nat) (hs : ((s.toUInt32 &&& Int32.toUInt32 31).toBitVec % 32).toNat = k) : (x.toUInt32 >>> (s.toUInt32 &&& Int32.toUInt32 31)).toInt32.toBitVec.toNat = x.toBitVec.toNat / 2 ^ k := by
  have e : (x.toUInt32 >>> (s.toUInt32 &&& Int32.toUInt32 31)).toInt32.toBitVec = x.toBitVec >>> k := by
    rw [← hs]
    exact UInt32.toBitVec_shiftRight _ _
  rw [e, BitVec.toNat_ushiftRight, Nat.shiftRight_eq_div_pow]
theorem pk_ushrN {n : Nat} (hn : n < 2 ^ 32) (s : Int32) (k : Nat) (hs : ((s.toUInt32 &&& Int32.toUInt32 31).toBitVec % 32).toNat = k) : ((nI n).toUInt32 >>> (s.toUInt32 &&& Int32.toUInt32 31)).toInt32 = nI (n / 2 ^ k) := by
  apply Int32.toBitVec_inj.mp
  apply BitVec.eq_of_toNat_eq
  rw [pk_ushr _ s k hs, pk_tn hn, pk_tn (Nat.lt_of_le_of_lt (Nat.div_le_self _ _) hn)]
theorem pk_nb (z : Int32) : narrow .byte (.int z.toInt8.toInt32) = .int z.toInt8.toInt32 := congrArg Value.int (by simp)
theorem pk_ns (z : Int32) : narrow .short (.int z.toInt16.toInt32) = .int z.toInt16.toInt32 := congrArg Value.int (by simp)
theorem pk_fb (r : Int32) : fits .byte (.int r.toInt8.toInt32) = true := by
  have ⟨a, b⟩ := lg_i2b_range r
  have h1 : (-128 : Int32).toInt = -128 := by decide
  have h2 : (127 : Int32).toInt = 127 := by decide
  simp only [fits, Bool.and_eq_true, decide_eq_true_eq, Int32.le_iff_toInt_le, h1, h2]
  omega
theorem pk_fs (r : Int32) : fits .short (.int r.toInt16.toInt32) = true := by
  have ⟨a, b⟩ := lg_i2s_range r
  have h1 : (-32768 : Int32).toInt = -32768 := by decide
  have h2 : (32767 : Int32).toInt = 32767 := by decide
  simp only [fits, Bool.and_eq_true, decide_eq_true_eq, Int32.le_iff_toInt_le, h1, h2]
  omega
theorem pk_charN {q : Nat} (hq : q < 65536) : narrow .char (.int (nI q)) = .int (nI q) ∧ fits .char (.int (nI q)) = true := by
  constructor
  · have e : (nI q).toUInt32.toUInt16.toUInt32.toInt32 = nI q := by
      apply Int32.toBitVec_inj.mp
      apply BitVec.eq_of_toNat_eq
      show (nI q).toUInt32.toUInt16.toUInt32.toNat = q % 2 ^ 32
      rw [UInt16.toNat_toUInt32, UInt32.toNat_toUInt16, show (nI q).toUInt32.toNat = q % 2 ^ 32 from rfl]
      omega
    exact congrArg Value.int e
  · have a : (0 : Int32) ≤ nI q := nI_pos' (by omega)
    have b : nI q ≤ 65535 := nI_le (b := 65535) (by omega) (by decide)
    show (decide ((0 : Int32) ≤ nI q) && decide (nI q ≤ 65535)) = true
    rw [decide_eq_true a, decide_eq_true b]
    rfl
theorem pk_char (x : Int32) : (x.toUInt32 % 65536).toInt32 = nI (x.toBitVec.toNat % 65536) := by
  apply Int32.toBitVec_inj.mp
  apply BitVec.eq_of_toNat_eq
  rw [pk_tn (by omega)]
  show (x.toUInt32 % 65536).toNat = _
  rw [UInt32.toNat_mod]
  rfl
theorem pk_nc (x : Int32) : narrow .char (.int (x.toUInt32 % 65536).toInt32) = .int (x.toUInt32 % 65536).toInt32 := by
  rw [pk_char]
  exact (pk_charN (Nat.mod_lt _ (by decide))).1
theorem pk_fc (x : Int32) : fits .char (.int (x.toUInt32 % 65536).toInt32) = true := by
  rw [pk_char]
  exact (pk_charN (Nat.mod_lt _ (by decide))).2
theorem pk_vb (z : Int32) : vp_nar .byte z.toInt8.toInt32 = z.toInt8.toInt32 := by rw [vp_nar_byte]; simp
theorem pk_vs (z : Int32) : vp_nar .short z.toInt16.toInt32 = z.toInt16.toInt32 := by rw [vp_nar_short]; simp
theorem pk_vc (z : Int32) : vp_nar .char (z.toUInt32 % 65536).toInt32 = (z.toUInt32 % 65536).toInt32 := Value.int.inj (pk_nc z)
theorem pk_lT {n : Nat} (h : n < 2 ^ 63) : (lN n).toInt = (n : Int) := lg_ofNat_toInt h
theorem pk_lLT {a b : Nat} (ha : a < 2 ^ 63) (hb : b < 2 ^ 63) : lN a < lN b ↔ a < b := by
  rw [Int64.lt_iff_toInt_lt, pk_lT ha, pk_lT hb]; omega
theorem pk_lLE {a b : Nat} (ha : a < 2 ^ 63) (hb : b < 2 ^ 63) : lN a ≤ lN b ↔ a ≤ b := by
  rw [Int64.le_iff_toInt_le, pk_lT ha, pk_lT hb]; omega
theorem pk_lEQ {a b : Nat} (ha : a < 2 ^ 63) (hb : b < 2 ^ 63) : lN a = lN b ↔ a = b := by
  rw [← Int64.toInt_inj, pk_lT ha, pk_lT hb]; omega
theorem pk_lOf {x : Int64} (h : ¬ x < 0) : ∃ k : Nat, k < 2 ^ 63 ∧ x = lN k := by
  rw [Int64.lt_iff_toInt_lt] at h
  have h0 : (0 : Int64).toInt = 0 := by decide
  have hx := Int64.toInt_lt x
  refine ⟨x.toInt.toNat, by omega, Int64.toInt_inj.mp ?_⟩
  rw [pk_lT (by omega)]
  omega
theorem pk_lDiv {a b : Nat} (ha : a < 2 ^ 63) (h0 : 0 < b) (hb : b < 2 ^ 63) : lN a / lN b = lN (a / b) := by
  apply Int64.toInt_inj.mp
  rw [lg_ldiv_nonneg (by rw [pk_lT ha]; omega) (by rw [pk_lT hb]; omega), pk_lT ha, pk_lT hb, pk_lT (Nat.lt_of_le_of_lt (Nat.div_le_self a b) ha)]
  rfl
theorem pk_lRem {a b : Nat} (ha : a < 2 ^ 63) (h0 : 0 < b) (hb : b < 2 ^ 63) : lN a - lN a / lN b * lN b = lN (a % b) := by
  rw [pk_lDiv ha h0 hb, lN_mul, lN_sub (Nat.div_mul_le_self a b)]
  exact congrArg lN (by have := Nat.div_add_mod' a b; omega)
theorem pk_loop {σ : Type} (W : Nat → Nat → σ → Prop) (I : Nat → σ → Prop) (e i0 : Nat) (s : σ) (hi : i0 ≤ e) (h0 : I i0 s) (hx : ∀ n s, I e s → W (n + 1) e s)
    (hs : ∀ n i s, i < e → I i s → (∀ s', I (i + 1) s' → W n (i + 1) s') → W (n + 1) i s) : ∃ n, W n i0 s :=
  ⟨e + 1, loop_i W I e hx hs (e + 1) i0 s hi (by omega) h0⟩
theorem pk_loopD {σ : Type} (W : Nat → Nat → σ → Prop) (I : Nat → σ → Prop) (hx : ∀ n s, I 0 s → W (n + 1) 0 s)
    (hs : ∀ n i s, I (i + 1) s → (∀ s', I i s' → W n i s') → W (n + 1) (i + 1) s) : ∀ (e : Nat) (s : σ), I e s → W (e + 1) e s := by
  intro e
  induction e with
  | zero => exact fun s h => hx 0 s h
  | succ e ih => exact fun s h => hs (e + 1) e s h (fun s' h' => ih s' h')
theorem lp1 {A1 : Type} (W : Nat → A1 → Prop) (I : A1 → Prop) (μ : A1 → Nat) (hs : ∀ (n : Nat) (a1 : A1), I a1 → (∀ (b1 : A1), I b1 → μ b1 < μ a1 → W n b1) → W (n + 1) a1) (a1 : A1) (h : I a1) : ∃ n, W n a1 :=
  loop_m (σ := A1) (fun n s => W n s) (fun s => I s) (fun s => μ s) (fun n s hI hk => hs n s hI (fun b1 h9 hm => hk b1 h9 hm)) a1 h
theorem lp2 {A1 A2 : Type} (W : Nat → A1 → A2 → Prop) (I : A1 → A2 → Prop) (μ : A1 → A2 → Nat) (hs : ∀ (n : Nat) (a1 : A1) (a2 : A2), I a1 a2 → (∀ (b1 : A1) (b2 : A2), I b1 b2 → μ b1 b2 < μ a1 a2 → W n b1 b2) → W (n + 1) a1 a2) (a1 : A1) (a2 : A2) (h : I a1 a2) : ∃ n, W n a1 a2 :=
  loop_m (σ := A1 × A2) (fun n s => W n s.1 s.2) (fun s => I s.1 s.2) (fun s => μ s.1 s.2) (fun n s hI hk => hs n s.1 s.2 hI (fun b1 b2 h9 hm => hk (b1, b2) h9 hm)) (a1, a2) h
theorem lp3 {A1 A2 A3 : Type} (W : Nat → A1 → A2 → A3 → Prop) (I : A1 → A2 → A3 → Prop) (μ : A1 → A2 → A3 → Nat) (hs : ∀ (n : Nat) (a1 : A1) (a2 : A2) (a3 : A3), I a1 a2 a3 → (∀ (b1 : A1) (b2 : A2) (b3 : A3), I b1 b2 b3 → μ b1 b2 b3 < μ a1 a2 a3 → W n b1 b2 b3) → W (n + 1) a1 a2 a3) (a1 : A1) (a2 : A2) (a3 : A3) (h : I a1 a2 a3) : ∃ n, W n a1 a2 a3 :=
  loop_m (σ := A1 × A2 × A3) (fun n s => W n s.1 s.2.1 s.2.2) (fun s => I s.1 s.2.1 s.2.2) (fun s => μ s.1 s.2.1 s.2.2) (fun n s hI hk => hs n s.1 s.2.1 s.2.2 hI (fun b1 b2 b3 h9 hm => hk (b1, b2, b3) h9 hm)) (a1, a2, a3) h
theorem lp4 {A1 A2 A3 A4 : Type} (W : Nat → A1 → A2 → A3 → A4 → Prop) (I : A1 → A2 → A3 → A4 → Prop) (μ : A1 → A2 → A3 → A4 → Nat) (hs : ∀ (n : Nat) (a1 : A1) (a2 : A2) (a3 : A3) (a4 : A4), I a1 a2 a3 a4 → (∀ (b1 : A1) (b2 : A2) (b3 : A3) (b4 : A4), I b1 b2 b3 b4 → μ b1 b2 b3 b4 < μ a1 a2 a3 a4 → W n b1 b2 b3 b4) → W (n + 1) a1 a2 a3 a4) (a1 : A1) (a2 : A2) (a3 : A3) (a4 : A4) (h : I a1 a2 a3 a4) : ∃ n, W n a1 a2 a3 a4 :=
  loop_m (σ := A1 × A2 × A3 × A4) (fun n s => W n s.1 s.2.1 s.2.2.1 s.2.2.2) (fun s => I s.1 s.2.1 s.2.2.1 s.2.2.2) (fun s => μ s.1 s.2.1 s.2.2.1 s.2.2.2) (fun n s hI hk => hs n s.1 s.2.1 s.2.2.1 s.2.2.2 hI (fun b1 b2 b3 b4 h9 hm => hk (b1, b2, b3, b4) h9 hm)) (a1, a2, a3, a4) h
theorem lp5 {A1 A2 A3 A4 A5 : Type} (W : Nat → A1 → A2 → A3 → A4 → A5 → Prop) (I : A1 → A2 → A3 → A4 → A5 → Prop) (μ : A1 → A2 → A3 → A4 → A5 → Nat) (hs : ∀ (n : Nat) (a1 : A1) (a2 : A2) (a3 : A3) (a4 : A4) (a5 : A5), I a1 a2 a3 a4 a5 → (∀ (b1 : A1) (b2 : A2) (b3 : A3) (b4 : A4) (b5 : A5), I b1 b2 b3 b4 b5 → μ b1 b2 b3 b4 b5 < μ a1 a2 a3 a4 a5 → W n b1 b2 b3 b4 b5) → W (n + 1) a1 a2 a3 a4 a5) (a1 : A1) (a2 : A2) (a3 : A3) (a4 : A4) (a5 : A5) (h : I a1 a2 a3 a4 a5) : ∃ n, W n a1 a2 a3 a4 a5 :=
  loop_m (σ := A1 × A2 × A3 × A4 × A5) (fun n s => W n s.1 s.2.1 s.2.2.1 s.2.2.2.1 s.2.2.2.2) (fun s => I s.1 s.2.1 s.2.2.1 s.2.2.2.1 s.2.2.2.2) (fun s => μ s.1 s.2.1 s.2.2.1 s.2.2.2.1 s.2.2.2.2) (fun n s hI hk => hs n s.1 s.2.1 s.2.2.1 s.2.2.2.1 s.2.2.2.2 hI (fun b1 b2 b3 b4 b5 h9 hm => hk (b1, b2, b3, b4, b5) h9 hm)) (a1, a2, a3, a4, a5) h
theorem lp6 {A1 A2 A3 A4 A5 A6 : Type} (W : Nat → A1 → A2 → A3 → A4 → A5 → A6 → Prop) (I : A1 → A2 → A3 → A4 → A5 → A6 → Prop) (μ : A1 → A2 → A3 → A4 → A5 → A6 → Nat) (hs : ∀ (n : Nat) (a1 : A1) (a2 : A2) (a3 : A3) (a4 : A4) (a5 : A5) (a6 : A6), I a1 a2 a3 a4 a5 a6 → (∀ (b1 : A1) (b2 : A2) (b3 : A3) (b4 : A4) (b5 : A5) (b6 : A6), I b1 b2 b3 b4 b5 b6 → μ b1 b2 b3 b4 b5 b6 < μ a1 a2 a3 a4 a5 a6 → W n b1 b2 b3 b4 b5 b6) → W (n + 1) a1 a2 a3 a4 a5 a6) (a1 : A1) (a2 : A2) (a3 : A3) (a4 : A4) (a5 : A5) (a6 : A6) (h : I a1 a2 a3 a4 a5 a6) : ∃ n, W n a1 a2 a3 a4 a5 a6 :=
  loop_m (σ := A1 × A2 × A3 × A4 × A5 × A6) (fun n s => W n s.1 s.2.1 s.2.2.1 s.2.2.2.1 s.2.2.2.2.1 s.2.2.2.2.2) (fun s => I s.1 s.2.1 s.2.2.1 s.2.2.2.1 s.2.2.2.2.1 s.2.2.2.2.2) (fun s => μ s.1 s.2.1 s.2.2.1 s.2.2.2.1 s.2.2.2.2.1 s.2.2.2.2.2) (fun n s hI hk => hs n s.1 s.2.1 s.2.2.1 s.2.2.2.1 s.2.2.2.2.1 s.2.2.2.2.2 hI (fun b1 b2 b3 b4 b5 b6 h9 hm => hk (b1, b2, b3, b4, b5, b6) h9 hm)) (a1, a2, a3, a4, a5, a6) h
theorem lp7 {A1 A2 A3 A4 A5 A6 A7 : Type} (W : Nat → A1 → A2 → A3 → A4 → A5 → A6 → A7 → Prop) (I : A1 → A2 → A3 → A4 → A5 → A6 → A7 → Prop) (μ : A1 → A2 → A3 → A4 → A5 → A6 → A7 → Nat) (hs : ∀ (n : Nat) (a1 : A1) (a2 : A2) (a3 : A3) (a4 : A4) (a5 : A5) (a6 : A6) (a7 : A7), I a1 a2 a3 a4 a5 a6 a7 → (∀ (b1 : A1) (b2 : A2) (b3 : A3) (b4 : A4) (b5 : A5) (b6 : A6) (b7 : A7), I b1 b2 b3 b4 b5 b6 b7 → μ b1 b2 b3 b4 b5 b6 b7 < μ a1 a2 a3 a4 a5 a6 a7 → W n b1 b2 b3 b4 b5 b6 b7) → W (n + 1) a1 a2 a3 a4 a5 a6 a7) (a1 : A1) (a2 : A2) (a3 : A3) (a4 : A4) (a5 : A5) (a6 : A6) (a7 : A7) (h : I a1 a2 a3 a4 a5 a6 a7) : ∃ n, W n a1 a2 a3 a4 a5 a6 a7 :=
  loop_m (σ := A1 × A2 × A3 × A4 × A5 × A6 × A7) (fun n s => W n s.1 s.2.1 s.2.2.1 s.2.2.2.1 s.2.2.2.2.1 s.2.2.2.2.2.1 s.2.2.2.2.2.2) (fun s => I s.1 s.2.1 s.2.2.1 s.2.2.2.1 s.2.2.2.2.1 s.2.2.2.2.2.1 s.2.2.2.2.2.2) (fun s => μ s.1 s.2.1 s.2.2.1 s.2.2.2.1 s.2.2.2.2.1 s.2.2.2.2.2.1 s.2.2.2.2.2.2) (fun n s hI hk => hs n s.1 s.2.1 s.2.2.1 s.2.2.2.1 s.2.2.2.2.1 s.2.2.2.2.2.1 s.2.2.2.2.2.2 hI (fun b1 b2 b3 b4 b5 b6 b7 h9 hm => hk (b1, b2, b3, b4, b5, b6, b7) h9 hm)) (a1, a2, a3, a4, a5, a6, a7) h
theorem lp8 {A1 A2 A3 A4 A5 A6 A7 A8 : Type} (W : Nat → A1 → A2 → A3 → A4 → A5 → A6 → A7 → A8 → Prop) (I : A1 → A2 → A3 → A4 → A5 → A6 → A7 → A8 → Prop) (μ : A1 → A2 → A3 → A4 → A5 → A6 → A7 → A8 → Nat) (hs : ∀ (n : Nat) (a1 : A1) (a2 : A2) (a3 : A3) (a4 : A4) (a5 : A5) (a6 : A6) (a7 : A7) (a8 : A8), I a1 a2 a3 a4 a5 a6 a7 a8 → (∀ (b1 : A1) (b2 : A2) (b3 : A3) (b4 : A4) (b5 : A5) (b6 : A6) (b7 : A7) (b8 : A8), I b1 b2 b3 b4 b5 b6 b7 b8 → μ b1 b2 b3 b4 b5 b6 b7 b8 < μ a1 a2 a3 a4 a5 a6 a7 a8 → W n b1 b2 b3 b4 b5 b6 b7 b8) → W (n + 1) a1 a2 a3 a4 a5 a6 a7 a8) (a1 : A1) (a2 : A2) (a3 : A3) (a4 : A4) (a5 : A5) (a6 : A6) (a7 : A7) (a8 : A8) (h : I a1 a2 a3 a4 a5 a6 a7 a8) : ∃ n, W n a1 a2 a3 a4 a5 a6 a7 a8 :=
  loop_m (σ := A1 × A2 × A3 × A4 × A5 × A6 × A7 × A8) (fun n s => W n s.1 s.2.1 s.2.2.1 s.2.2.2.1 s.2.2.2.2.1 s.2.2.2.2.2.1 s.2.2.2.2.2.2.1 s.2.2.2.2.2.2.2) (fun s => I s.1 s.2.1 s.2.2.1 s.2.2.2.1 s.2.2.2.2.1 s.2.2.2.2.2.1 s.2.2.2.2.2.2.1 s.2.2.2.2.2.2.2) (fun s => μ s.1 s.2.1 s.2.2.1 s.2.2.2.1 s.2.2.2.2.1 s.2.2.2.2.2.1 s.2.2.2.2.2.2.1 s.2.2.2.2.2.2.2) (fun n s hI hk => hs n s.1 s.2.1 s.2.2.1 s.2.2.2.1 s.2.2.2.2.1 s.2.2.2.2.2.1 s.2.2.2.2.2.2.1 s.2.2.2.2.2.2.2 hI (fun b1 b2 b3 b4 b5 b6 b7 b8 h9 hm => hk (b1, b2, b3, b4, b5, b6, b7, b8) h9 hm)) (a1, a2, a3, a4, a5, a6, a7, a8) h
theorem lp9 {A1 A2 A3 A4 A5 A6 A7 A8 A9 : Type} (W : Nat → A1 → A2 → A3 → A4 → A5 → A6 → A7 → A8 → A9 → Prop) (I : A1 → A2 → A3 → A4 → A5 → A6 → A7 → A8 → A9 → Prop) (μ : A1 → A2 → A3 → A4 → A5 → A6 → A7 → A8 → A9 → Nat) (hs : ∀ (n : Nat) (a1 : A1) (a2 : A2) (a3 : A3) (a4 : A4) (a5 : A5) (a6 : A6) (a7 : A7) (a8 : A8) (a9 : A9), I a1 a2 a3 a4 a5 a6 a7 a8 a9 → (∀ (b1 : A1) (b2 : A2) (b3 : A3) (b4 : A4) (b5 : A5) (b6 : A6) (b7 : A7) (b8 : A8) (b9 : A9), I b1 b2 b3 b4 b5 b6 b7 b8 b9 → μ b1 b2 b3 b4 b5 b6 b7 b8 b9 < μ a1 a2 a3 a4 a5 a6 a7 a8 a9 → W n b1 b2 b3 b4 b5 b6 b7 b8 b9) → W (n + 1) a1 a2 a3 a4 a5 a6 a7 a8 a9) (a1 : A1) (a2 : A2) (a3 : A3) (a4 : A4) (a5 : A5) (a6 : A6) (a7 : A7) (a8 : A8) (a9 : A9) (h : I a1 a2 a3 a4 a5 a6 a7 a8 a9) : ∃ n, W n a1 a2 a3 a4 a5 a6 a7 a8 a9 :=
  loop_m (σ := A1 × A2 × A3 × A4 × A5 × A6 × A7 × A8 × A9) (fun n s => W n s.1 s.2.1 s.2.2.1 s.2.2.2.1 s.2.2.2.2.1 s.2.2.2.2.2.1 s.2.2.2.2.2.2.1 s.2.2.2.2.2.2.2.1 s.2.2.2.2.2.2.2.2) (fun s => I s.1 s.2.1 s.2.2.1 s.2.2.2.1 s.2.2.2.2.1 s.2.2.2.2.2.1 s.2.2.2.2.2.2.1 s.2.2.2.2.2.2.2.1 s.2.2.2.2.2.2.2.2) (fun s => μ s.1 s.2.1 s.2.2.1 s.2.2.2.1 s.2.2.2.2.1 s.2.2.2.2.2.1 s.2.2.2.2.2.2.1 s.2.2.2.2.2.2.2.1 s.2.2.2.2.2.2.2.2) (fun n s hI hk => hs n s.1 s.2.1 s.2.2.1 s.2.2.2.1 s.2.2.2.2.1 s.2.2.2.2.2.1 s.2.2.2.2.2.2.1 s.2.2.2.2.2.2.2.1 s.2.2.2.2.2.2.2.2 hI (fun b1 b2 b3 b4 b5 b6 b7 b8 b9 h9 hm => hk (b1, b2, b3, b4, b5, b6, b7, b8, b9) h9 hm)) (a1, a2, a3, a4, a5, a6, a7, a8, a9) h
theorem lp10 {A1 A2 A3 A4 A5 A6 A7 A8 A9 A10 : Type} (W : Nat → A1 → A2 → A3 → A4 → A5 → A6 → A7 → A8 → A9 → A10 → Prop) (I : A1 → A2 → A3 → A4 → A5 → A6 → A7 → A8 → A9 → A10 → Prop) (μ : A1 → A2 → A3 → A4 → A5 → A6 → A7 → A8 → A9 → A10 → Nat) (hs : ∀ (n : Nat) (a1 : A1) (a2 : A2) (a3 : A3) (a4 : A4) (a5 : A5) (a6 : A6) (a7 : A7) (a8 : A8) (a9 : A9) (a10 : A10), I a1 a2 a3 a4 a5 a6 a7 a8 a9 a10 → (∀ (b1 : A1) (b2 : A2) (b3 : A3) (b4 : A4) (b5 : A5) (b6 : A6) (b7 : A7) (b8 : A8) (b9 : A9) (b10 : A10), I b1 b2 b3 b4 b5 b6 b7 b8 b9 b10 → μ b1 b2 b3 b4 b5 b6 b7 b8 b9 b10 < μ a1 a2 a3 a4 a5 a6 a7 a8 a9 a10 → W n b1 b2 b3 b4 b5 b6 b7 b8 b9 b10) → W (n + 1) a1 a2 a3 a4 a5 a6 a7 a8 a9 a10) (a1 : A1) (a2 : A2) (a3 : A3) (a4 : A4) (a5 : A5) (a6 : A6) (a7 : A7) (a8 : A8) (a9 : A9) (a10 : A10) (h : I a1 a2 a3 a4 a5 a6 a7 a8 a9 a10) : ∃ n, W n a1 a2 a3 a4 a5 a6 a7 a8 a9 a10 :=
  loop_m (σ := A1 × A2 × A3 × A4 × A5 × A6 × A7 × A8 × A9 × A10) (fun n s => W n s.1 s.2.1 s.2.2.1 s.2.2.2.1 s.2.2.2.2.1 s.2.2.2.2.2.1 s.2.2.2.2.2.2.1 s.2.2.2.2.2.2.2.1 s.2.2.2.2.2.2.2.2.1 s.2.2.2.2.2.2.2.2.2) (fun s => I s.1 s.2.1 s.2.2.1 s.2.2.2.1 s.2.2.2.2.1 s.2.2.2.2.2.1 s.2.2.2.2.2.2.1 s.2.2.2.2.2.2.2.1 s.2.2.2.2.2.2.2.2.1 s.2.2.2.2.2.2.2.2.2) (fun s => μ s.1 s.2.1 s.2.2.1 s.2.2.2.1 s.2.2.2.2.1 s.2.2.2.2.2.1 s.2.2.2.2.2.2.1 s.2.2.2.2.2.2.2.1 s.2.2.2.2.2.2.2.2.1 s.2.2.2.2.2.2.2.2.2) (fun n s hI hk => hs n s.1 s.2.1 s.2.2.1 s.2.2.2.1 s.2.2.2.2.1 s.2.2.2.2.2.1 s.2.2.2.2.2.2.1 s.2.2.2.2.2.2.2.1 s.2.2.2.2.2.2.2.2.1 s.2.2.2.2.2.2.2.2.2 hI (fun b1 b2 b3 b4 b5 b6 b7 b8 b9 b10 h9 hm => hk (b1, b2, b3, b4, b5, b6, b7, b8, b9, b10) h9 hm)) (a1, a2, a3, a4, a5, a6, a7, a8, a9, a10) h
theorem lp11 {A1 A2 A3 A4 A5 A6 A7 A8 A9 A10 A11 : Type} (W : Nat → A1 → A2 → A3 → A4 → A5 → A6 → A7 → A8 → A9 → A10 → A11 → Prop) (I : A1 → A2 → A3 → A4 → A5 → A6 → A7 → A8 → A9 → A10 → A11 → Prop) (μ : A1 → A2 → A3 → A4 → A5 → A6 → A7 → A8 → A9 → A10 → A11 → Nat) (hs : ∀ (n : Nat) (a1 : A1) (a2 : A2) (a3 : A3) (a4 : A4) (a5 : A5) (a6 : A6) (a7 : A7) (a8 : A8) (a9 : A9) (a10 : A10) (a11 : A11), I a1 a2 a3 a4 a5 a6 a7 a8 a9 a10 a11 → (∀ (b1 : A1) (b2 : A2) (b3 : A3) (b4 : A4) (b5 : A5) (b6 : A6) (b7 : A7) (b8 : A8) (b9 : A9) (b10 : A10) (b11 : A11), I b1 b2 b3 b4 b5 b6 b7 b8 b9 b10 b11 → μ b1 b2 b3 b4 b5 b6 b7 b8 b9 b10 b11 < μ a1 a2 a3 a4 a5 a6 a7 a8 a9 a10 a11 → W n b1 b2 b3 b4 b5 b6 b7 b8 b9 b10 b11) → W (n + 1) a1 a2 a3 a4 a5 a6 a7 a8 a9 a10 a11) (a1 : A1) (a2 : A2) (a3 : A3) (a4 : A4) (a5 : A5) (a6 : A6) (a7 : A7) (a8 : A8) (a9 : A9) (a10 : A10) (a11 : A11) (h : I a1 a2 a3 a4 a5 a6 a7 a8 a9 a10 a11) : ∃ n, W n a1 a2 a3 a4 a5 a6 a7 a8 a9 a10 a11 :=
  loop_m (σ := A1 × A2 × A3 × A4 × A5 × A6 × A7 × A8 × A9 × A10 × A11) (fun n s => W n s.1 s.2.1 s.2.2.1 s.2.2.2.1 s.2.2.2.2.1 s.2.2.2.2.2.1 s.2.2.2.2.2.2.1 s.2.2.2.2.2.2.2.1 s.2.2.2.2.2.2.2.2.1 s.2.2.2.2.2.2.2.2.2.1 s.2.2.2.2.2.2.2.2.2.2) (fun s => I s.1 s.2.1 s.2.2.1 s.2.2.2.1 s.2.2.2.2.1 s.2.2.2.2.2.1 s.2.2.2.2.2.2.1 s.2.2.2.2.2.2.2.1 s.2.2.2.2.2.2.2.2.1 s.2.2.2.2.2.2.2.2.2.1 s.2.2.2.2.2.2.2.2.2.2) (fun s => μ s.1 s.2.1 s.2.2.1 s.2.2.2.1 s.2.2.2.2.1 s.2.2.2.2.2.1 s.2.2.2.2.2.2.1 s.2.2.2.2.2.2.2.1 s.2.2.2.2.2.2.2.2.1 s.2.2.2.2.2.2.2.2.2.1 s.2.2.2.2.2.2.2.2.2.2) (fun n s hI hk => hs n s.1 s.2.1 s.2.2.1 s.2.2.2.1 s.2.2.2.2.1 s.2.2.2.2.2.1 s.2.2.2.2.2.2.1 s.2.2.2.2.2.2.2.1 s.2.2.2.2.2.2.2.2.1 s.2.2.2.2.2.2.2.2.2.1 s.2.2.2.2.2.2.2.2.2.2 hI (fun b1 b2 b3 b4 b5 b6 b7 b8 b9 b10 b11 h9 hm => hk (b1, b2, b3, b4, b5, b6, b7, b8, b9, b10, b11) h9 hm)) (a1, a2, a3, a4, a5, a6, a7, a8, a9, a10, a11) h
theorem lp12 {A1 A2 A3 A4 A5 A6 A7 A8 A9 A10 A11 A12 : Type} (W : Nat → A1 → A2 → A3 → A4 → A5 → A6 → A7 → A8 → A9 → A10 → A11 → A12 → Prop) (I : A1 → A2 → A3 → A4 → A5 → A6 → A7 → A8 → A9 → A10 → A11 → A12 → Prop) (μ : A1 → A2 → A3 → A4 → A5 → A6 → A7 → A8 → A9 → A10 → A11 → A12 → Nat) (hs : ∀ (n : Nat) (a1 : A1) (a2 : A2) (a3 : A3) (a4 : A4) (a5 : A5) (a6 : A6) (a7 : A7) (a8 : A8) (a9 : A9) (a10 : A10) (a11 : A11) (a12 : A12), I a1 a2 a3 a4 a5 a6 a7 a8 a9 a10 a11 a12 → (∀ (b1 : A1) (b2 : A2) (b3 : A3) (b4 : A4) (b5 : A5) (b6 : A6) (b7 : A7) (b8 : A8) (b9 : A9) (b10 : A10) (b11 : A11) (b12 : A12), I b1 b2 b3 b4 b5 b6 b7 b8 b9 b10 b11 b12 → μ b1 b2 b3 b4 b5 b6 b7 b8 b9 b10 b11 b12 < μ a1 a2 a3 a4 a5 a6 a7 a8 a9 a10 a11 a12 → W n b1 b2 b3 b4 b5 b6 b7 b8 b9 b10 b11 b12) → W (n + 1) a1 a2 a3 a4 a5 a6 a7 a8 a9 a10 a11 a12) (a1 : A1) (a2 : A2) (a3 : A3) (a4 : A4) (a5 : A5) (a6 : A6) (a7 : A7) (a8 : A8) (a9 : A9) (a10 : A10) (a11 : A11) (a12 : A12) (h : I a1 a2 a3 a4 a5 a6 a7 a8 a9 a10 a11 a12) : ∃ n, W n a1 a2 a3 a4 a5 a6 a7 a8 a9 a10 a11 a12 :=
  loop_m (σ := A1 × A2 × A3 × A4 × A5 × A6 × A7 × A8 × A9 × A10 × A11 × A12) (fun n s => W n s.1 s.2.1 s.2.2.1 s.2.2.2.1 s.2.2.2.2.1 s.2.2.2.2.2.1 s.2.2.2.2.2.2.1 s.2.2.2.2.2.2.2.1 s.2.2.2.2.2.2.2.2.1 s.2.2.2.2.2.2.2.2.2.1 s.2.2.2.2.2.2.2.2.2.2.1 s.2.2.2.2.2.2.2.2.2.2.2) (fun s => I s.1 s.2.1 s.2.2.1 s.2.2.2.1 s.2.2.2.2.1 s.2.2.2.2.2.1 s.2.2.2.2.2.2.1 s.2.2.2.2.2.2.2.1 s.2.2.2.2.2.2.2.2.1 s.2.2.2.2.2.2.2.2.2.1 s.2.2.2.2.2.2.2.2.2.2.1 s.2.2.2.2.2.2.2.2.2.2.2) (fun s => μ s.1 s.2.1 s.2.2.1 s.2.2.2.1 s.2.2.2.2.1 s.2.2.2.2.2.1 s.2.2.2.2.2.2.1 s.2.2.2.2.2.2.2.1 s.2.2.2.2.2.2.2.2.1 s.2.2.2.2.2.2.2.2.2.1 s.2.2.2.2.2.2.2.2.2.2.1 s.2.2.2.2.2.2.2.2.2.2.2) (fun n s hI hk => hs n s.1 s.2.1 s.2.2.1 s.2.2.2.1 s.2.2.2.2.1 s.2.2.2.2.2.1 s.2.2.2.2.2.2.1 s.2.2.2.2.2.2.2.1 s.2.2.2.2.2.2.2.2.1 s.2.2.2.2.2.2.2.2.2.1 s.2.2.2.2.2.2.2.2.2.2.1 s.2.2.2.2.2.2.2.2.2.2.2 hI (fun b1 b2 b3 b4 b5 b6 b7 b8 b9 b10 b11 b12 h9 hm => hk (b1, b2, b3, b4, b5, b6, b7, b8, b9, b10, b11, b12) h9 hm)) (a1, a2, a3, a4, a5, a6, a7, a8, a9, a10, a11, a12) h
theorem lp13 {A1 A2 A3 A4 A5 A6 A7 A8 A9 A10 A11 A12 A13 : Type} (W : Nat → A1 → A2 → A3 → A4 → A5 → A6 → A7 → A8 → A9 → A10 → A11 → A12 → A13 → Prop) (I : A1 → A2 → A3 → A4 → A5 → A6 → A7 → A8 → A9 → A10 → A11 → A12 → A13 → Prop) (μ : A1 → A2 → A3 → A4 → A5 → A6 → A7 → A8 → A9 → A10 → A11 → A12 → A13 → Nat) (hs : ∀ (n : Nat) (a1 : A1) (a2 : A2) (a3 : A3) (a4 : A4) (a5 : A5) (a6 : A6) (a7 : A7) (a8 : A8) (a9 : A9) (a10 : A10) (a11 : A11) (a12 : A12) (a13 : A13), I a1 a2 a3 a4 a5 a6 a7 a8 a9 a10 a11 a12 a13 → (∀ (b1 : A1) (b2 : A2) (b3 : A3) (b4 : A4) (b5 : A5) (b6 : A6) (b7 : A7) (b8 : A8) (b9 : A9) (b10 : A10) (b11 : A11) (b12 : A12) (b13 : A13), I b1 b2 b3 b4 b5 b6 b7 b8 b9 b10 b11 b12 b13 → μ b1 b2 b3 b4 b5 b6 b7 b8 b9 b10 b11 b12 b13 < μ a1 a2 a3 a4 a5 a6 a7 a8 a9 a10 a11 a12 a13 → W n b1 b2 b3 b4 b5 b6 b7 b8 b9 b10 b11 b12 b13) → W (n + 1) a1 a2 a3 a4 a5 a6 a7 a8 a9 a10 a11 a12 a13) (a1 : A1) (a2 : A2) (a3 : A3) (a4 : A4) (a5 : A5) (a6 : A6) (a7 : A7) (a8 : A8) (a9 : A9) (a10 : A10) (a11 : A11) (a12 : A12) (a13 : A13) (h : I a1 a2 a3 a4 a5 a6 a7 a8 a9 a10 a11 a12 a13) : ∃ n, W n a1 a2 a3 a4 a5 a6 a7 a8 a9 a10 a11 a12 a13 :=
  loop_m (σ := A1 × A2 × A3 × A4 × A5 × A6 × A7 × A8 × A9 × A10 × A11 × A12 × A13) (fun n s => W n s.1 s.2.1 s.2.2.1 s.2.2.2.1 s.2.2.2.2.1 s.2.2.2.2.2.1 s.2.2.2.2.2.2.1 s.2.2.2.2.2.2.2.1 s.2.2.2.2.2.2.2.2.1 s.2.2.2.2.2.2.2.2.2.1 s.2.2.2.2.2.2.2.2.2.2.1 s.2.2.2.2.2.2.2.2.2.2.2.1 s.2.2.2.2.2.2.2.2.2.2.2.2) (fun s => I s.1 s.2.1 s.2.2.1 s.2.2.2.1 s.2.2.2.2.1 s.2.2.2.2.2.1 s.2.2.2.2.2.2.1 s.2.2.2.2.2.2.2.1 s.2.2.2.2.2.2.2.2.1 s.2.2.2.2.2.2.2.2.2.1 s.2.2.2.2.2.2.2.2.2.2.1 s.2.2.2.2.2.2.2.2.2.2.2.1 s.2.2.2.2.2.2.2.2.2.2.2.2) (fun s => μ s.1 s.2.1 s.2.2.1 s.2.2.2.1 s.2.2.2.2.1 s.2.2.2.2.2.1 s.2.2.2.2.2.2.1 s.2.2.2.2.2.2.2.1 s.2.2.2.2.2.2.2.2.1 s.2.2.2.2.2.2.2.2.2.1 s.2.2.2.2.2.2.2.2.2.2.1 s.2.2.2.2.2.2.2.2.2.2.2.1 s.2.2.2.2.2.2.2.2.2.2.2.2) (fun n s hI hk => hs n s.1 s.2.1 s.2.2.1 s.2.2.2.1 s.2.2.2.2.1 s.2.2.2.2.2.1 s.2.2.2.2.2.2.1 s.2.2.2.2.2.2.2.1 s.2.2.2.2.2.2.2.2.1 s.2.2.2.2.2.2.2.2.2.1 s.2.2.2.2.2.2.2.2.2.2.1 s.2.2.2.2.2.2.2.2.2.2.2.1 s.2.2.2.2.2.2.2.2.2.2.2.2 hI (fun b1 b2 b3 b4 b5 b6 b7 b8 b9 b10 b11 b12 b13 h9 hm => hk (b1, b2, b3, b4, b5, b6, b7, b8, b9, b10, b11, b12, b13) h9 hm)) (a1, a2, a3, a4, a5, a6, a7, a8, a9, a10, a11, a12, a13) h
theorem lp14 {A1 A2 A3 A4 A5 A6 A7 A8 A9 A10 A11 A12 A13 A14 : Type} (W : Nat → A1 → A2 → A3 → A4 → A5 → A6 → A7 → A8 → A9 → A10 → A11 → A12 → A13 → A14 → Prop) (I : A1 → A2 → A3 → A4 → A5 → A6 → A7 → A8 → A9 → A10 → A11 → A12 → A13 → A14 → Prop) (μ : A1 → A2 → A3 → A4 → A5 → A6 → A7 → A8 → A9 → A10 → A11 → A12 → A13 → A14 → Nat) (hs : ∀ (n : Nat) (a1 : A1) (a2 : A2) (a3 : A3) (a4 : A4) (a5 : A5) (a6 : A6) (a7 : A7) (a8 : A8) (a9 : A9) (a10 : A10) (a11 : A11) (a12 : A12) (a13 : A13) (a14 : A14), I a1 a2 a3 a4 a5 a6 a7 a8 a9 a10 a11 a12 a13 a14 → (∀ (b1 : A1) (b2 : A2) (b3 : A3) (b4 : A4) (b5 : A5) (b6 : A6) (b7 : A7) (b8 : A8) (b9 : A9) (b10 : A10) (b11 : A11) (b12 : A12) (b13 : A13) (b14 : A14), I b1 b2 b3 b4 b5 b6 b7 b8 b9 b10 b11 b12 b13 b14 → μ b1 b2 b3 b4 b5 b6 b7 b8 b9 b10 b11 b12 b13 b14 < μ a1 a2 a3 a4 a5 a6 a7 a8 a9 a10 a11 a12 a13 a14 → W n b1 b2 b3 b4 b5 b6 b7 b8 b9 b10 b11 b12 b13 b14) → W (n + 1) a1 a2 a3 a4 a5 a6 a7 a8 a9 a10 a11 a12 a13 a14) (a1 : A1) (a2 : A2) (a3 : A3) (a4 : A4) (a5 : A5) (a6 : A6) (a7 : A7) (a8 : A8) (a9 : A9) (a10 : A10) (a11 : A11) (a12 : A12) (a13 : A13) (a14 : A14) (h : I a1 a2 a3 a4 a5 a6 a7 a8 a9 a10 a11 a12 a13 a14) : ∃ n, W n a1 a2 a3 a4 a5 a6 a7 a8 a9 a10 a11 a12 a13 a14 :=
  loop_m (σ := A1 × A2 × A3 × A4 × A5 × A6 × A7 × A8 × A9 × A10 × A11 × A12 × A13 × A14) (fun n s => W n s.1 s.2.1 s.2.2.1 s.2.2.2.1 s.2.2.2.2.1 s.2.2.2.2.2.1 s.2.2.2.2.2.2.1 s.2.2.2.2.2.2.2.1 s.2.2.2.2.2.2.2.2.1 s.2.2.2.2.2.2.2.2.2.1 s.2.2.2.2.2.2.2.2.2.2.1 s.2.2.2.2.2.2.2.2.2.2.2.1 s.2.2.2.2.2.2.2.2.2.2.2.2.1 s.2.2.2.2.2.2.2.2.2.2.2.2.2) (fun s => I s.1 s.2.1 s.2.2.1 s.2.2.2.1 s.2.2.2.2.1 s.2.2.2.2.2.1 s.2.2.2.2.2.2.1 s.2.2.2.2.2.2.2.1 s.2.2.2.2.2.2.2.2.1 s.2.2.2.2.2.2.2.2.2.1 s.2.2.2.2.2.2.2.2.2.2.1 s.2.2.2.2.2.2.2.2.2.2.2.1 s.2.2.2.2.2.2.2.2.2.2.2.2.1 s.2.2.2.2.2.2.2.2.2.2.2.2.2) (fun s => μ s.1 s.2.1 s.2.2.1 s.2.2.2.1 s.2.2.2.2.1 s.2.2.2.2.2.1 s.2.2.2.2.2.2.1 s.2.2.2.2.2.2.2.1 s.2.2.2.2.2.2.2.2.1 s.2.2.2.2.2.2.2.2.2.1 s.2.2.2.2.2.2.2.2.2.2.1 s.2.2.2.2.2.2.2.2.2.2.2.1 s.2.2.2.2.2.2.2.2.2.2.2.2.1 s.2.2.2.2.2.2.2.2.2.2.2.2.2) (fun n s hI hk => hs n s.1 s.2.1 s.2.2.1 s.2.2.2.1 s.2.2.2.2.1 s.2.2.2.2.2.1 s.2.2.2.2.2.2.1 s.2.2.2.2.2.2.2.1 s.2.2.2.2.2.2.2.2.1 s.2.2.2.2.2.2.2.2.2.1 s.2.2.2.2.2.2.2.2.2.2.1 s.2.2.2.2.2.2.2.2.2.2.2.1 s.2.2.2.2.2.2.2.2.2.2.2.2.1 s.2.2.2.2.2.2.2.2.2.2.2.2.2 hI (fun b1 b2 b3 b4 b5 b6 b7 b8 b9 b10 b11 b12 b13 b14 h9 hm => hk (b1, b2, b3, b4, b5, b6, b7, b8, b9, b10, b11, b12, b13, b14) h9 hm)) (a1, a2, a3, a4, a5, a6, a7, a8, a9, a10, a11, a12, a13, a14) h
theorem lp15 {A1 A2 A3 A4 A5 A6 A7 A8 A9 A10 A11 A12 A13 A14 A15 : Type} (W : Nat → A1 → A2 → A3 → A4 → A5 → A6 → A7 → A8 → A9 → A10 → A11 → A12 → A13 → A14 → A15 → Prop) (I : A1 → A2 → A3 → A4 → A5 → A6 → A7 → A8 → A9 → A10 → A11 → A12 → A13 → A14 → A15 → Prop) (μ : A1 → A2 → A3 → A4 → A5 → A6 → A7 → A8 → A9 → A10 → A11 → A12 → A13 → A14 → A15 → Nat) (hs : ∀ (n : Nat) (a1 : A1) (a2 : A2) (a3 : A3) (a4 : A4) (a5 : A5) (a6 : A6) (a7 : A7) (a8 : A8) (a9 : A9) (a10 : A10) (a11 : A11) (a12 : A12) (a13 : A13) (a14 : A14) (a15 : A15), I a1 a2 a3 a4 a5 a6 a7 a8 a9 a10 a11 a12 a13 a14 a15 → (∀ (b1 : A1) (b2 : A2) (b3 : A3) (b4 : A4) (b5 : A5) (b6 : A6) (b7 : A7) (b8 : A8) (b9 : A9) (b10 : A10) (b11 : A11) (b12 : A12) (b13 : A13) (b14 : A14) (b15 : A15), I b1 b2 b3 b4 b5 b6 b7 b8 b9 b10 b11 b12 b13 b14 b15 → μ b1 b2 b3 b4 b5 b6 b7 b8 b9 b10 b11 b12 b13 b14 b15 < μ a1 a2 a3 a4 a5 a6 a7 a8 a9 a10 a11 a12 a13 a14 a15 → W n b1 b2 b3 b4 b5 b6 b7 b8 b9 b10 b11 b12 b13 b14 b15) → W (n + 1) a1 a2 a3 a4 a5 a6 a7 a8 a9 a10 a11 a12 a13 a14 a15) (a1 : A1) (a2 : A2) (a3 : A3) (a4 : A4) (a5 : A5) (a6 : A6) (a7 : A7) (a8 : A8) (a9 : A9) (a10 : A10) (a11 : A11) (a12 : A12) (a13 : A13) (a14 : A14) (a15 : A15) (h : I a1 a2 a3 a4 a5 a6 a7 a8 a9 a10 a11 a12 a13 a14 a15) : ∃ n, W n a1 a2 a3 a4 a5 a6 a7 a8 a9 a10 a11 a12 a13 a14 a15 :=
  loop_m (σ := A1 × A2 × A3 × A4 × A5 × A6 × A7 × A8 × A9 × A10 × A11 × A12 × A13 × A14 × A15) (fun n s => W n s.1 s.2.1 s.2.2.1 s.2.2.2.1 s.2.2.2.2.1 s.2.2.2.2.2.1 s.2.2.2.2.2.2.1 s.2.2.2.2.2.2.2.1 s.2.2.2.2.2.2.2.2.1 s.2.2.2.2.2.2.2.2.2.1 s.2.2.2.2.2.2.2.2.2.2.1 s.2.2.2.2.2.2.2.2.2.2.2.1 s.2.2.2.2.2.2.2.2.2.2.2.2.1 s.2.2.2.2.2.2.2.2.2.2.2.2.2.1 s.2.2.2.2.2.2.2.2.2.2.2.2.2.2) (fun s => I s.1 s.2.1 s.2.2.1 s.2.2.2.1 s.2.2.2.2.1 s.2.2.2.2.2.1 s.2.2.2.2.2.2.1 s.2.2.2.2.2.2.2.1 s.2.2.2.2.2.2.2.2.1 s.2.2.2.2.2.2.2.2.2.1 s.2.2.2.2.2.2.2.2.2.2.1 s.2.2.2.2.2.2.2.2.2.2.2.1 s.2.2.2.2.2.2.2.2.2.2.2.2.1 s.2.2.2.2.2.2.2.2.2.2.2.2.2.1 s.2.2.2.2.2.2.2.2.2.2.2.2.2.2) (fun s => μ s.1 s.2.1 s.2.2.1 s.2.2.2.1 s.2.2.2.2.1 s.2.2.2.2.2.1 s.2.2.2.2.2.2.1 s.2.2.2.2.2.2.2.1 s.2.2.2.2.2.2.2.2.1 s.2.2.2.2.2.2.2.2.2.1 s.2.2.2.2.2.2.2.2.2.2.1 s.2.2.2.2.2.2.2.2.2.2.2.1 s.2.2.2.2.2.2.2.2.2.2.2.2.1 s.2.2.2.2.2.2.2.2.2.2.2.2.2.1 s.2.2.2.2.2.2.2.2.2.2.2.2.2.2) (fun n s hI hk => hs n s.1 s.2.1 s.2.2.1 s.2.2.2.1 s.2.2.2.2.1 s.2.2.2.2.2.1 s.2.2.2.2.2.2.1 s.2.2.2.2.2.2.2.1 s.2.2.2.2.2.2.2.2.1 s.2.2.2.2.2.2.2.2.2.1 s.2.2.2.2.2.2.2.2.2.2.1 s.2.2.2.2.2.2.2.2.2.2.2.1 s.2.2.2.2.2.2.2.2.2.2.2.2.1 s.2.2.2.2.2.2.2.2.2.2.2.2.2.1 s.2.2.2.2.2.2.2.2.2.2.2.2.2.2 hI (fun b1 b2 b3 b4 b5 b6 b7 b8 b9 b10 b11 b12 b13 b14 b15 h9 hm => hk (b1, b2, b3, b4, b5, b6, b7, b8, b9, b10, b11, b12, b13, b14, b15) h9 hm)) (a1, a2, a3, a4, a5, a6, a7, a8, a9, a10, a11, a12, a13, a14, a15) h
theorem lp16 {A1 A2 A3 A4 A5 A6 A7 A8 A9 A10 A11 A12 A13 A14 A15 A16 : Type} (W : Nat → A1 → A2 → A3 → A4 → A5 → A6 → A7 → A8 → A9 → A10 → A11 → A12 → A13 → A14 → A15 → A16 → Prop) (I : A1 → A2 → A3 → A4 → A5 → A6 → A7 → A8 → A9 → A10 → A11 → A12 → A13 → A14 → A15 → A16 → Prop) (μ : A1 → A2 → A3 → A4 → A5 → A6 → A7 → A8 → A9 → A10 → A11 → A12 → A13 → A14 → A15 → A16 → Nat) (hs : ∀ (n : Nat) (a1 : A1) (a2 : A2) (a3 : A3) (a4 : A4) (a5 : A5) (a6 : A6) (a7 : A7) (a8 : A8) (a9 : A9) (a10 : A10) (a11 : A11) (a12 : A12) (a13 : A13) (a14 : A14) (a15 : A15) (a16 : A16), I a1 a2 a3 a4 a5 a6 a7 a8 a9 a10 a11 a12 a13 a14 a15 a16 → (∀ (b1 : A1) (b2 : A2) (b3 : A3) (b4 : A4) (b5 : A5) (b6 : A6) (b7 : A7) (b8 : A8) (b9 : A9) (b10 : A10) (b11 : A11) (b12 : A12) (b13 : A13) (b14 : A14) (b15 : A15) (b16 : A16), I b1 b2 b3 b4 b5 b6 b7 b8 b9 b10 b11 b12 b13 b14 b15 b16 → μ b1 b2 b3 b4 b5 b6 b7 b8 b9 b10 b11 b12 b13 b14 b15 b16 < μ a1 a2 a3 a4 a5 a6 a7 a8 a9 a10 a11 a12 a13 a14 a15 a16 → W n b1 b2 b3 b4 b5 b6 b7 b8 b9 b10 b11 b12 b13 b14 b15 b16) → W (n + 1) a1 a2 a3 a4 a5 a6 a7 a8 a9 a10 a11 a12 a13 a14 a15 a16) (a1 : A1) (a2 : A2) (a3 : A3) (a4 : A4) (a5 : A5) (a6 : A6) (a7 : A7) (a8 : A8) (a9 : A9) (a10 : A10) (a11 : A11) (a12 : A12) (a13 : A13) (a14 : A14) (a15 : A15) (a16 : A16) (h : I a1 a2 a3 a4 a5 a6 a7 a8 a9 a10 a11 a12 a13 a14 a15 a16) : ∃ n, W n a1 a2 a3 a4 a5 a6 a7 a8 a9 a10 a11 a12 a13 a14 a15 a16 :=
  loop_m (σ := A1 × A2 × A3 × A4 × A5 × A6 × A7 × A8 × A9 × A10 × A11 × A12 × A13 × A14 × A15 × A16) (fun n s => W n s.1 s.2.1 s.2.2.1 s.2.2.2.1 s.2.2.2.2.1 s.2.2.2.2.2.1 s.2.2.2.2.2.2.1 s.2.2.2.2.2.2.2.1 s.2.2.2.2.2.2.2.2.1 s.2.2.2.2.2.2.2.2.2.1 s.2.2.2.2.2.2.2.2.2.2.1 s.2.2.2.2.2.2.2.2.2.2.2.1 s.2.2.2.2.2.2.2.2.2.2.2.2.1 s.2.2.2.2.2.2.2.2.2.2.2.2.2.1 s.2.2.2.2.2.2.2.2.2.2.2.2.2.2.1 s.2.2.2.2.2.2.2.2.2.2.2.2.2.2.2) (fun s => I s.1 s.2.1 s.2.2.1 s.2.2.2.1 s.2.2.2.2.1 s.2.2.2.2.2.1 s.2.2.2.2.2.2.1 s.2.2.2.2.2.2.2.1 s.2.2.2.2.2.2.2.2.1 s.2.2.2.2.2.2.2.2.2.1 s.2.2.2.2.2.2.2.2.2.2.1 s.2.2.2.2.2.2.2.2.2.2.2.1 s.2.2.2.2.2.2.2.2.2.2.2.2.1 s.2.2.2.2.2.2.2.2.2.2.2.2.2.1 s.2.2.2.2.2.2.2.2.2.2.2.2.2.2.1 s.2.2.2.2.2.2.2.2.2.2.2.2.2.2.2) (fun s => μ s.1 s.2.1 s.2.2.1 s.2.2.2.1 s.2.2.2.2.1 s.2.2.2.2.2.1 s.2.2.2.2.2.2.1 s.2.2.2.2.2.2.2.1 s.2.2.2.2.2.2.2.2.1 s.2.2.2.2.2.2.2.2.2.1 s.2.2.2.2.2.2.2.2.2.2.1 s.2.2.2.2.2.2.2.2.2.2.2.1 s.2.2.2.2.2.2.2.2.2.2.2.2.1 s.2.2.2.2.2.2.2.2.2.2.2.2.2.1 s.2.2.2.2.2.2.2.2.2.2.2.2.2.2.1 s.2.2.2.2.2.2.2.2.2.2.2.2.2.2.2) (fun n s hI hk => hs n s.1 s.2.1 s.2.2.1 s.2.2.2.1 s.2.2.2.2.1 s.2.2.2.2.2.1 s.2.2.2.2.2.2.1 s.2.2.2.2.2.2.2.1 s.2.2.2.2.2.2.2.2.1 s.2.2.2.2.2.2.2.2.2.1 s.2.2.2.2.2.2.2.2.2.2.1 s.2.2.2.2.2.2.2.2.2.2.2.1 s.2.2.2.2.2.2.2.2.2.2.2.2.1 s.2.2.2.2.2.2.2.2.2.2.2.2.2.1 s.2.2.2.2.2.2.2.2.2.2.2.2.2.2.1 s.2.2.2.2.2.2.2.2.2.2.2.2.2.2.2 hI (fun b1 b2 b3 b4 b5 b6 b7 b8 b9 b10 b11 b12 b13 b14 b15 b16 h9 hm => hk (b1, b2, b3, b4, b5, b6, b7, b8, b9, b10, b11, b12, b13, b14, b15, b16) h9 hm)) (a1, a2, a3, a4, a5, a6, a7, a8, a9, a10, a11, a12, a13, a14, a15, a16) h
theorem pk_least (P : Nat → Prop) (h : ∃ k, P k) : ∃ k, P k ∧ ∀ j, j < k → ¬ P j := by
  obtain ⟨k, hk⟩ := h
  induction k using Nat.strongRecOn with
  | ind k ih =>
    by_cases e : ∃ j, j < k ∧ P j
    · obtain ⟨j, hj, pj⟩ := e
      exact ih j hj pj
    · exact ⟨k, hk, fun j hj pj => e ⟨j, hj, pj⟩⟩
theorem rp1 {ρ A1 : Type} (W : Nat → (ρ → Prop) → A1 → Prop) (ok : A1 → Prop) (μ : A1 → Nat) (val : A1 → ρ)
    (hs : ∀ (d : Nat) (post : ρ → Prop) (a1 : A1), ok a1 → post (val a1) → (∀ (post' : ρ → Prop) (b1 : A1), ok b1 → μ b1 < μ a1 → post' (val b1) → W d post' b1) → W (d + 1) post a1) :
    ∀ (d : Nat) (post : ρ → Prop) (a1 : A1), ok a1 → μ a1 < d → post (val a1) → W d post a1 := by
  intro d
  induction d with
  | zero => intro post a1 _ h; omega
  | succ d ih =>
    intro post a1 ho hm hp
    exact hs d post a1 ho hp (fun post' b1 ho' hm' hp' => ih post' b1 ho' (by omega) hp')
theorem rp2 {ρ A1 A2 : Type} (W : Nat → (ρ → Prop) → A1 → A2 → Prop) (ok : A1 → A2 → Prop) (μ : A1 → A2 → Nat) (val : A1 → A2 → ρ)
    (hs : ∀ (d : Nat) (post : ρ → Prop) (a1 : A1) (a2 : A2), ok a1 a2 → post (val a1 a2) → (∀ (post' : ρ → Prop) (b1 : A1) (b2 : A2), ok b1 b2 → μ b1 b2 < μ a1 a2 → post' (val b1 b2) → W d post' b1 b2) → W (d + 1) post a1 a2) :
    ∀ (d : Nat) (post : ρ → Prop) (a1 : A1) (a2 : A2), ok a1 a2 → μ a1 a2 < d → post (val a1 a2) → W d post a1 a2 := by
  intro d
  induction d with
  | zero => intro post a1 a2 _ h; omega
  | succ d ih =>
    intro post a1 a2 ho hm hp
    exact hs d post a1 a2 ho hp (fun post' b1 b2 ho' hm' hp' => ih post' b1 b2 ho' (by omega) hp')
theorem rp3 {ρ A1 A2 A3 : Type} (W : Nat → (ρ → Prop) → A1 → A2 → A3 → Prop) (ok : A1 → A2 → A3 → Prop) (μ : A1 → A2 → A3 → Nat) (val : A1 → A2 → A3 → ρ)
    (hs : ∀ (d : Nat) (post : ρ → Prop) (a1 : A1) (a2 : A2) (a3 : A3), ok a1 a2 a3 → post (val a1 a2 a3) → (∀ (post' : ρ → Prop) (b1 : A1) (b2 : A2) (b3 : A3), ok b1 b2 b3 → μ b1 b2 b3 < μ a1 a2 a3 → post' (val b1 b2 b3) → W d post' b1 b2 b3) → W (d + 1) post a1 a2 a3) :
    ∀ (d : Nat) (post : ρ → Prop) (a1 : A1) (a2 : A2) (a3 : A3), ok a1 a2 a3 → μ a1 a2 a3 < d → post (val a1 a2 a3) → W d post a1 a2 a3 := by
  intro d
  induction d with
  | zero => intro post a1 a2 a3 _ h; omega
  | succ d ih =>
    intro post a1 a2 a3 ho hm hp
    exact hs d post a1 a2 a3 ho hp (fun post' b1 b2 b3 ho' hm' hp' => ih post' b1 b2 b3 ho' (by omega) hp')
theorem rp4 {ρ A1 A2 A3 A4 : Type} (W : Nat → (ρ → Prop) → A1 → A2 → A3 → A4 → Prop) (ok : A1 → A2 → A3 → A4 → Prop) (μ : A1 → A2 → A3 → A4 → Nat) (val : A1 → A2 → A3 → A4 → ρ)
    (hs : ∀ (d : Nat) (post : ρ → Prop) (a1 : A1) (a2 : A2) (a3 : A3) (a4 : A4), ok a1 a2 a3 a4 → post (val a1 a2 a3 a4) → (∀ (post' : ρ → Prop) (b1 : A1) (b2 : A2) (b3 : A3) (b4 : A4), ok b1 b2 b3 b4 → μ b1 b2 b3 b4 < μ a1 a2 a3 a4 → post' (val b1 b2 b3 b4) → W d post' b1 b2 b3 b4) → W (d + 1) post a1 a2 a3 a4) :
    ∀ (d : Nat) (post : ρ → Prop) (a1 : A1) (a2 : A2) (a3 : A3) (a4 : A4), ok a1 a2 a3 a4 → μ a1 a2 a3 a4 < d → post (val a1 a2 a3 a4) → W d post a1 a2 a3 a4 := by
  intro d
  induction d with
  | zero => intro post a1 a2 a3 a4 _ h; omega
  | succ d ih =>
    intro post a1 a2 a3 a4 ho hm hp
    exact hs d post a1 a2 a3 a4 ho hp (fun post' b1 b2 b3 b4 ho' hm' hp' => ih post' b1 b2 b3 b4 ho' (by omega) hp')
theorem rp5 {ρ A1 A2 A3 A4 A5 : Type} (W : Nat → (ρ → Prop) → A1 → A2 → A3 → A4 → A5 → Prop) (ok : A1 → A2 → A3 → A4 → A5 → Prop) (μ : A1 → A2 → A3 → A4 → A5 → Nat) (val : A1 → A2 → A3 → A4 → A5 → ρ)
    (hs : ∀ (d : Nat) (post : ρ → Prop) (a1 : A1) (a2 : A2) (a3 : A3) (a4 : A4) (a5 : A5), ok a1 a2 a3 a4 a5 → post (val a1 a2 a3 a4 a5) → (∀ (post' : ρ → Prop) (b1 : A1) (b2 : A2) (b3 : A3) (b4 : A4) (b5 : A5), ok b1 b2 b3 b4 b5 → μ b1 b2 b3 b4 b5 < μ a1 a2 a3 a4 a5 → post' (val b1 b2 b3 b4 b5) → W d post' b1 b2 b3 b4 b5) → W (d + 1) post a1 a2 a3 a4 a5) :
    ∀ (d : Nat) (post : ρ → Prop) (a1 : A1) (a2 : A2) (a3 : A3) (a4 : A4) (a5 : A5), ok a1 a2 a3 a4 a5 → μ a1 a2 a3 a4 a5 < d → post (val a1 a2 a3 a4 a5) → W d post a1 a2 a3 a4 a5 := by
  intro d
  induction d with
  | zero => intro post a1 a2 a3 a4 a5 _ h; omega
  | succ d ih =>
    intro post a1 a2 a3 a4 a5 ho hm hp
    exact hs d post a1 a2 a3 a4 a5 ho hp (fun post' b1 b2 b3 b4 b5 ho' hm' hp' => ih post' b1 b2 b3 b4 b5 ho' (by omega) hp')
theorem rp6 {ρ A1 A2 A3 A4 A5 A6 : Type} (W : Nat → (ρ → Prop) → A1 → A2 → A3 → A4 → A5 → A6 → Prop) (ok : A1 → A2 → A3 → A4 → A5 → A6 → Prop) (μ : A1 → A2 → A3 → A4 → A5 → A6 → Nat) (val : A1 → A2 → A3 → A4 → A5 → A6 → ρ)
    (hs : ∀ (d : Nat) (post : ρ → Prop) (a1 : A1) (a2 : A2) (a3 : A3) (a4 : A4) (a5 : A5) (a6 : A6), ok a1 a2 a3 a4 a5 a6 → post (val a1 a2 a3 a4 a5 a6) → (∀ (post' : ρ → Prop) (b1 : A1) (b2 : A2) (b3 : A3) (b4 : A4) (b5 : A5) (b6 : A6), ok b1 b2 b3 b4 b5 b6 → μ b1 b2 b3 b4 b5 b6 < μ a1 a2 a3 a4 a5 a6 → post' (val b1 b2 b3 b4 b5 b6) → W d post' b1 b2 b3 b4 b5 b6) → W (d + 1) post a1 a2 a3 a4 a5 a6) :
    ∀ (d : Nat) (post : ρ → Prop) (a1 : A1) (a2 : A2) (a3 : A3) (a4 : A4) (a5 : A5) (a6 : A6), ok a1 a2 a3 a4 a5 a6 → μ a1 a2 a3 a4 a5 a6 < d → post (val a1 a2 a3 a4 a5 a6) → W d post a1 a2 a3 a4 a5 a6 := by
  intro d
  induction d with
  | zero => intro post a1 a2 a3 a4 a5 a6 _ h; omega
  | succ d ih =>
    intro post a1 a2 a3 a4 a5 a6 ho hm hp
    exact hs d post a1 a2 a3 a4 a5 a6 ho hp (fun post' b1 b2 b3 b4 b5 b6 ho' hm' hp' => ih post' b1 b2 b3 b4 b5 b6 ho' (by omega) hp')
theorem rec_p {σ ρ : Type} (W : Nat → (ρ → Prop) → σ → Prop) (ok : σ → Prop) (μ : σ → Nat) (val : σ → ρ)
    (hs : ∀ d s post, ok s → post (val s) → (∀ s' post', ok s' → μ s' < μ s → post' (val s') → W d post' s') → W (d + 1) post s) :
    ∀ d s post, ok s → μ s < d → post (val s) → W d post s := by
  intro d
  induction d with
  | zero => intro s post _ h; omega
  | succ d ih =>
    intro s post ho hm hp
    exact hs d s post ho hp (fun s' post' ho' hm' hp' => ih s' post' ho' (by omega) hp')
theorem rec_q {σ ρ : Type} (W : Nat → (ρ → Prop) → σ → Prop) (ok : σ → Prop) (μ : σ → Nat) (Q : σ → ρ → Prop)
    (hs : ∀ d s post, ok s → (∀ r, Q s r → post r) → (∀ s' post', ok s' → μ s' < μ s → (∀ r, Q s' r → post' r) → W d post' s') → W (d + 1) post s) :
    ∀ d s post, ok s → μ s < d → (∀ r, Q s r → post r) → W d post s := by
  intro d
  induction d with
  | zero => intro s post _ h; omega
  | succ d ih =>
    intro s post ho hm hp
    exact hs d s post ho hp (fun s' post' ho' hm' hp' => ih s' post' ho' (by omega) hp')
def bx_sum (f : Nat → Int32) : Nat → Int32
  | 0 => 0
  | n + 1 => bx_sum f n + f n
theorem ek_u {A : Prop} {B : Nat → Prop} {k N : Nat} (hk : k < N) (h : B k) : (some k = none → A) ∧ (∀ y : Nat, some k = some y → (y < N ∧ B y)) :=
  ⟨fun z => absurd z (Option.some_ne_none k), fun _ e => (by cases e; exact ⟨hk, h⟩)⟩
theorem ek_nu {A : Prop} {B : Nat → Prop} (h : A) : ((none : Option Nat) = none → A) ∧ (∀ y : Nat, (none : Option Nat) = some y → B y) :=
  ⟨fun _ => h, fun _ e => (by cases e)⟩
theorem ek_if {c d A B : Prop} (e : c ↔ d) (f : d → A) (g : ¬ d → B) : (c → A) ∧ (¬ c → B) :=
  ⟨fun z => f (e.mp z), fun z => g (fun y => z (e.mpr y))⟩
theorem ek_v {α : Sort _} {P : α → Prop} {a b : α} (e : a = b) (h : P b) : P a := e ▸ h
theorem co_some {x : Option Nat} {A : Prop} {B : Nat → Prop} (i : Nat) (h : B i) (hx : x = some i := by rfl) : (x = none → A) ∧ (∀ y : Nat, x = some y → B y) := by
  subst hx
  exact ⟨fun e => (nomatch e), fun y e => Option.some.inj e ▸ h⟩
theorem co_none {x : Option Nat} {A : Prop} {B : Nat → Prop} (h : A) (hx : x = none := by rfl) : (x = none → A) ∧ (∀ y : Nat, x = some y → B y) := by
  subst hx
  exact ⟨fun _ => h, fun y e => (nomatch e)⟩
theorem co_any {x : Option Nat} {A : Prop} {B : Nat → Prop} (hn : x = none → A) (hs : ∀ i : Nat, x = some i → B i) : (x = none → A) ∧ (∀ y : Nat, x = some y → B y) := ⟨hn, hs⟩
theorem co_2 {P : Nat → Prop} (h0 : P 0) (h1 : P 1) {i : Nat} (hi : i < 2) : P i :=
  match i, hi with
  | 0, _ => h0
  | 1, _ => h1
theorem co_3 {P : Nat → Prop} (h0 : P 0) (h1 : P 1) (h2 : P 2) {i : Nat} (hi : i < 3) : P i :=
  match i, hi with
  | 0, _ => h0
  | 1, _ => h1
  | 2, _ => h2
theorem co_4 {P : Nat → Prop} (h0 : P 0) (h1 : P 1) (h2 : P 2) (h3 : P 3) {i : Nat} (hi : i < 4) : P i :=
  match i, hi with
  | 0, _ => h0
  | 1, _ => h1
  | 2, _ => h2
  | 3, _ => h3
theorem co_dec {N : Nat} {P : Nat → Prop} [DecidablePred P] (h : (List.range N).all (fun i => decide (P i)) = true) {i : Nat} (hi : i < N) : P i := by
  have := List.all_eq_true.mp h i (List.mem_range.mpr hi)
  exact of_decide_eq_true this
theorem co_tab {α : Type} {l : List α} {d : α} {P : α → Prop} (h : ∀ a, a ∈ l → P a) {i : Nat} (hi : i < l.length) : P (l.getD i d) := by
  rw [List.getD_eq_getElem?_getD, List.getElem?_eq_getElem hi]
  exact h _ (List.getElem_mem hi)
theorem pk_mu {x : Int32} {L : Nat} (h0 : ¬ x < 0) (h : ¬ nI L ≤ x) (hL : L < 2 ^ 31) : ∃ j : Nat, j < L ∧ x = nI j ∧ x + 1 = nI (j + 1) ∧ x.toNatClampNeg = j ∧ L - (x + 1).toNatClampNeg < L - x.toNatClampNeg := by
  obtain ⟨j, hj, rfl⟩ := nI_of h0
  have hl : j < L := Nat.not_le.mp fun q => h (nI_le q hj)
  refine ⟨j, hl, rfl, nI_1 j, nI_clamp hj, ?_⟩
  rw [nI_1, nI_clamp (by omega), nI_clamp hj]
  omega
theorem op_s {α : Type} {r : Option α} {A : Prop} {B : α → Prop} {y : α} (h : r = some y) (b : B y) : (r = none → A) ∧ ∀ z, r = some z → B z :=
  ⟨fun e => (by rw [h] at e; cases e), fun z e => (by rw [h] at e; cases e; exact b)⟩
def l_holds {α : Type} (a : Nat → Option Nat) (LP : List Nat) (p : Nat → α) (c : Nat) (b : Nat → α) : Prop :=
  ∀ j, j < c → ∃ y, a j = some y ∧ y ∈ LP ∧ p y = b j
theorem l_holds_0 {α : Type} {a : Nat → Option Nat} {LP : List Nat} {p b : Nat → α} : l_holds a LP p 0 b := fun j h => absurd h (Nat.not_lt_zero j)
theorem l_in_new (LP : List Nat) (q : Nat) : q ∈ LP ++ [q] := List.mem_append.mpr (Or.inr (List.mem_singleton.mpr rfl))
def l_sum (b : Nat → Int32) : Nat → Int32
  | 0 => 0
  | k + 1 => l_sum b k + b k
theorem sb_shr0 (x : Int32) : x >>> ((0 : Int32) &&& 31) = x := by
  rw [show ((0 : Int32) &&& 31) = 0 by decide]
  simp
theorem sb_shl0 (x : Int32) : x <<< ((0 : Int32) &&& 31) = x := by
  rw [show ((0 : Int32) &&& 31) = 0 by decide]
  simp
theorem sb_cl0 : (0 : Int32).toNatClampNeg = 0 := by decide
theorem sb_m1 {p : Nat} (h : 0 < p) : nI p + (-1) = nI (p - 1) := by
  obtain ⟨q, rfl⟩ : ∃ q, p = q + 1 := ⟨p - 1, by omega⟩
  exact pk_m1 q
def sb_b (c : Nat) : Int32 := (nI c).toInt8.toInt32
theorem sb_byte : ∀ c, c < 256 → sb_b c &&& 255 = nI c ∧ ((nI c).toUInt32 % 65536).toInt32 = nI c ∧ nI c ≤ 255 := by decide +kernel
def sb_Fit (a : Nat → Int32) : Prop := ∀ j, fits .byte (.int (a j)) = true
def sb_Lat (t : Nat → Nat) (n : Nat) (a : Nat → Int32) : Prop := ∀ j, j < n → t j < 256 ∧ a j = sb_b (t j)
theorem sb_fitB (c : Nat) : fits .byte (.int (sb_b c)) = true := pk_fb _
theorem sb_fit0 : sb_Fit (fun _ => 0) := fun _ => by
  show fits .byte (.int 0) = true
  decide
theorem sb_fitU {a : Nat → Int32} {k : Nat} {x : Int32} (h : sb_Fit a) (hx : fits .byte (.int x) = true) : sb_Fit (upd a k x) := by
  intro j
  by_cases e : j = k
  · subst e
    rw [pk_us]
    exact hx
  · rw [pk_un e]
    exact h j
def sb_cat (t : Nat → Nat) (n : Nat) (s : Nat → Nat) : Nat → Nat := fun j => if j < n then t j else s (j - n)
theorem sb_cat_lo {t s : Nat → Nat} {n j : Nat} (h : j < n) : sb_cat t n s j = t j := if_pos h
theorem sb_cat_hi {t s : Nat → Nat} {n j : Nat} : sb_cat t n s (n + j) = s j := by
  show (if n + j < n then t (n + j) else s (n + j - n)) = s j
  rw [if_neg (by omega), Nat.add_sub_cancel_left]
theorem sb_latPut {t s : Nat → Nat} {n w : Nat} {a a' : Nat → Int32} (h : sb_Lat t n a) (hk : ∀ j, j < n → a' j = a j) (hs : ∀ i, i < w → s i < 256 ∧ a' (n + i) = sb_b (s i)) : sb_Lat (sb_cat t n s) (n + w) a' := by
  intro j hj
  by_cases e : j < n
  · rw [sb_cat_lo e, hk j e]
    exact h j e
  · obtain ⟨i, rfl⟩ : ∃ i, j = n + i := ⟨j - n, by omega⟩
    rw [sb_cat_hi]
    exact hs i (by omega)
theorem sb_latKeep {t : Nat → Nat} {n : Nat} {a a' : Nat → Int32} (h : sb_Lat t n a) (hk : ∀ j, j < n → a' j = a j) : sb_Lat t n a' := fun j hj => by
  rw [hk j hj]
  exact h j hj
def sb_cap (q m : Nat) : Nat := if q ≤ m then m else if 2 * m + 2 < q then q else 2 * m + 2
def sb_Room (q m mc ms : Nat) : Prop := q ≤ m ∨ (1 ≤ mc ∧ sb_cap q m ≤ ms ∧ sb_cap q m ≤ 65536)
theorem sb_cap_ge (q m : Nat) : q ≤ sb_cap q m := by
  unfold sb_cap
  split
  · omega
  · split <;> omega
theorem sb_cap_gem (q m : Nat) : m ≤ sb_cap q m := by
  unfold sb_cap
  split
  · omega
  · split <;> omega
theorem sb_cap_le {q m mc ms : Nat} (hm : m ≤ 65536) (hr : sb_Room q m mc ms) : sb_cap q m ≤ 65536 := by
  rcases hr with h | h
  · rw [sb_cap, if_pos h]
    exact hm
  · exact h.2.2
theorem sb_at {P : Int32 → Prop} {x y : Int32} (e : x = y) (h : P y) : P x := e ▸ h
def sb_dg (w : Nat) : Nat := if w < 10 then 1 else if w < 100 then 2 else if w < 1000 then 3 else if w < 10000 then 4 else if w < 100000 then 5 else if w < 1000000 then 6 else if w < 10000000 then 7 else if w < 100000000 then 8 else if w < 1000000000 then 9 else 10
def sb_dec (v : Nat) : Nat → Nat := fun i => 48 + v / 10 ^ (sb_dg v - 1 - i) % 10
theorem sb_dg_in (w : Nat) : 1 ≤ sb_dg w ∧ sb_dg w ≤ 10 := by
  unfold sb_dg
  constructor <;> (repeat' split) <;> omega
theorem sb_dg100 {w : Nat} (h : 100 ≤ w) (hw : w < 2 ^ 31) : sb_dg w = sb_dg (w / 100) + 2 := by
  rw [sb_dg, sb_dg, if_neg (show ¬ w < 10 by omega), if_neg (show ¬ w < 100 by omega)]
  by_cases h3 : w < 1000
  · rw [if_pos h3, if_pos (show w / 100 < 10 by omega)]
  rw [if_neg h3, if_neg (show ¬ w / 100 < 10 by omega)]
  by_cases h4 : w < 10000
  · rw [if_pos h4, if_pos (show w / 100 < 100 by omega)]
  rw [if_neg h4, if_neg (show ¬ w / 100 < 100 by omega)]
  by_cases h5 : w < 100000
  · rw [if_pos h5, if_pos (show w / 100 < 1000 by omega)]
  rw [if_neg h5, if_neg (show ¬ w / 100 < 1000 by omega)]
  by_cases h6 : w < 1000000
  · rw [if_pos h6, if_pos (show w / 100 < 10000 by omega)]
  rw [if_neg h6, if_neg (show ¬ w / 100 < 10000 by omega)]
  by_cases h7 : w < 10000000
  · rw [if_pos h7, if_pos (show w / 100 < 100000 by omega)]
  rw [if_neg h7, if_neg (show ¬ w / 100 < 100000 by omega)]
  by_cases h8 : w < 100000000
  · rw [if_pos h8, if_pos (show w / 100 < 1000000 by omega)]
  rw [if_neg h8, if_neg (show ¬ w / 100 < 1000000 by omega)]
  by_cases h9 : w < 1000000000
  · rw [if_pos h9, if_pos (show w / 100 < 10000000 by omega)]
  rw [if_neg h9, if_neg (show ¬ w / 100 < 10000000 by omega)]
  rw [if_pos (show w / 100 < 100000000 by omega)]
theorem sb_negT {w : Nat} (h : w < 2 ^ 31) : (-nI w).toInt = -(w : Int) := by
  rw [Int32.toInt_neg, nI_toInt h]
  exact Int.bmod_eq_of_le (by omega) (by omega)
theorem sb_nle {a b : Nat} (ha : a < 2 ^ 31) (hb : b < 2 ^ 31) : -nI a ≤ -nI b ↔ b ≤ a := by
  rw [Int32.le_iff_toInt_le, sb_negT ha, sb_negT hb]
  omega
theorem sb_nlt {a b : Nat} (ha : a < 2 ^ 31) (hb : b < 2 ^ 31) : -nI a < -nI b ↔ b < a := by
  rw [Int32.lt_iff_toInt_lt, sb_negT ha, sb_negT hb]
  omega
theorem sb_cmp {A B : Prop} {x : Int32} (v c : Nat) (f : c ≤ v → A) (g : v < c → B) (hv : v < 2 ^ 31) (hx : x = -nI c := by rfl) (hc : c < 2 ^ 31 := by omega) : (-nI v ≤ x → A) ∧ (¬ -nI v ≤ x → B) := by
  subst hx
  rw [sb_nle hv hc]
  exact ⟨f, fun z => g (by omega)⟩
theorem sb_ndiv {w : Nat} (hw : w < 2 ^ 31) : (-nI w) / 100 = -nI (w / 100) := by
  apply Int32.toInt_inj.mp
  have h100 : (100 : Int32).toInt = 100 := by decide
  rw [Int32.toInt_div, sb_negT hw, h100, sb_negT (by omega), Int.neg_tdiv, Int.tdiv_eq_ediv_of_nonneg (by omega), Int.bmod_eq_of_le (by omega) (by omega)]
  omega
theorem sb_nrem {w : Nat} (hw : w < 2 ^ 31) : (-nI (w / 100)) * 100 - (-nI w) = nI (w % 100) := by
  have h := pk_rem (a := w) (d := 100) hw (by decide) (by decide)
  rw [pk_div hw (by decide) (by decide)] at h
  rw [← h]
  show (-nI (w / 100)) * nI 100 - (-nI w) = nI w - nI (w / 100) * nI 100
  rw [Int32.neg_mul, Int32.sub_neg, Int32.add_comm, ← Int32.sub_eq_add_neg]
end
section
/-! rows on bits, shifts and unsigned numbers, to paste: each family out of a closed proof of our own, whole with what it rests on; each by itself clean at Lean in its own claim (generation 39, form 5). Take a family whole -/
/-! ===== Int32 by its bits: bt x i ===== -/
def bt (x : Int32) (i : Nat) : Bool := x.toBitVec.getLsbD i
theorem b_ext {x y : Int32} (h : ∀ i, i < 32 → bt x i = bt y i) : x = y := Int32.toBitVec_inj.mp (BitVec.eq_of_getLsbD_eq (fun i hi => h i hi))
theorem b_or (x y : Int32) (i : Nat) : bt (x ||| y) i = (bt x i || bt y i) := by unfold bt; rw [Int32.toBitVec_or, BitVec.getLsbD_or]
theorem b_and (x y : Int32) (i : Nat) : bt (x &&& y) i = (bt x i && bt y i) := by unfold bt; rw [Int32.toBitVec_and, BitVec.getLsbD_and]
theorem b_xor (x y : Int32) (i : Nat) : bt (x ^^^ y) i = (bt x i ^^ bt y i) := by unfold bt; rw [Int32.toBitVec_xor, BitVec.getLsbD_xor]
theorem b_big {x : Int32} {i : Nat} (h : 32 ≤ i) : bt x i = false := BitVec.getLsbD_of_ge _ _ h
theorem b_255 (i : Nat) : bt 255 i = decide (i < 8) := by
  rcases Nat.lt_or_ge i 32 with h | h
  · exact (by decide +kernel : ∀ i, i < 32 → bt 255 i = decide (i < 8)) i h
  · rw [b_big h, decide_eq_false (by omega)]
theorem b_65535 (i : Nat) : bt 65535 i = decide (i < 16) := by
  rcases Nat.lt_or_ge i 32 with h | h
  · exact (by decide +kernel : ∀ i, i < 32 → bt 65535 i = decide (i < 16)) i h
  · rw [b_big h, decide_eq_false (by omega)]
theorem b_m1 : ∀ i, i < 32 → bt (-1) i = true := by decide +kernel
theorem b_0 (i : Nat) : bt 0 i = false := BitVec.getLsbD_zero
theorem s_l : ∀ n, n < 32 → ((nI n &&& 31).toBitVec.smod 32).toNat = n := by decide +kernel
theorem s_u : ∀ n, n < 32 → (((nI n).toUInt32 &&& Int32.toUInt32 31).toBitVec % 32).toNat = n := by decide +kernel
theorem b_shl (n : Nat) (hn : n < 32) (x : Int32) {i : Nat} (hi : i < 32) : bt (x <<< (nI n &&& 31)) i = (decide (n ≤ i) && bt x (i - n)) := by
  unfold bt
  rw [Int32.toBitVec_shiftLeft]
  show (x.toBitVec <<< ((nI n &&& 31).toBitVec.smod 32).toNat).getLsbD i = _
  rw [s_l n hn, BitVec.getLsbD_shiftLeft]
  rcases Nat.lt_or_ge i n with h | h
  · simp [h, Nat.not_le.mpr h]
  · simp [hi, h, Nat.not_lt.mpr h]
theorem b_ushr (n : Nat) (hn : n < 32) (x : Int32) (i : Nat) : bt ((x.toUInt32 >>> ((nI n).toUInt32 &&& Int32.toUInt32 31)).toInt32) i = bt x (n + i) := by
  show (x.toUInt32 >>> ((nI n).toUInt32 &&& Int32.toUInt32 31)).toBitVec.getLsbD i = x.toUInt32.toBitVec.getLsbD (n + i)
  rw [UInt32.toBitVec_shiftRight]
  show (x.toUInt32.toBitVec >>> (((nI n).toUInt32 &&& Int32.toUInt32 31).toBitVec % 32).toNat).getLsbD i = _
  rw [s_u n hn, BitVec.getLsbD_ushiftRight]
theorem b_sshr (n : Nat) (hn : n < 32) (x : Int32) {i : Nat} (hi : i < 32) : bt (x >>> (nI n &&& 31)) i = if n + i < 32 then bt x (n + i) else bt x 31 := by
  unfold bt
  rw [Int32.toBitVec_shiftRight]
  show (x.toBitVec.sshiftRight ((nI n &&& 31).toBitVec.smod 32).toNat).getLsbD i = _
  rw [s_l n hn, BitVec.getLsbD_sshiftRight, BitVec.msb_eq_getLsbD_last]
  simp [hi]
theorem b_shl8 (x : Int32) {i : Nat} (hi : i < 32) : bt (x <<< ((8 : Int32) &&& 31)) i = (decide (8 ≤ i) && bt x (i - 8)) := b_shl 8 (by omega) x hi
theorem b_shl16 (x : Int32) {i : Nat} (hi : i < 32) : bt (x <<< ((16 : Int32) &&& 31)) i = (decide (16 ≤ i) && bt x (i - 16)) := b_shl 16 (by omega) x hi
theorem b_shl24 (x : Int32) {i : Nat} (hi : i < 32) : bt (x <<< ((24 : Int32) &&& 31)) i = (decide (24 ≤ i) && bt x (i - 24)) := b_shl 24 (by omega) x hi
theorem b_sshr8 (x : Int32) {i : Nat} (hi : i < 32) : bt (x >>> ((8 : Int32) &&& 31)) i = if 8 + i < 32 then bt x (8 + i) else bt x 31 := b_sshr 8 (by omega) x hi
end
section
/-! values: an integer z is z.toInt64, cell c is rc_cv c -/
def rc_cv (c : Nat) : Int64 := 4294967296 + (nI c).toInt64
def rc_is (v : Int64) (c : Nat) : Nat := if v = rc_cv c then 1 else 0
theorem rc_base : (4294967296 : Int64) = lN 4294967296 := by decide +kernel
theorem rc_cvN {c : Nat} (h : c < 2 ^ 31) : rc_cv c = lN (4294967296 + c) := by
  unfold rc_cv; rw [nI_l h, rc_base, lN_add]
theorem rc_cv_nlt {c : Nat} (h : c < 2 ^ 31) : ¬ rc_cv c < 4294967296 := by
  rw [rc_cvN h, rc_base, pk_lLT (by omega) (by omega)]; omega
theorem rc_cv_sub {c : Nat} (h : c < 2 ^ 31) : (rc_cv c - 4294967296).toInt32 = nI c := by
  rw [rc_cvN h, rc_base, lN_sub (by omega), lN_i, Nat.add_sub_cancel_left]
theorem rc_cv_inj {a b : Nat} (ha : a < 2 ^ 31) (hb : b < 2 ^ 31) (h : rc_cv a = rc_cv b) : a = b := by
  rw [rc_cvN ha, rc_cvN hb, pk_lEQ (by omega) (by omega)] at h; omega
theorem rc_i_lt (z : Int32) : z.toInt64 < 4294967296 := by
  rw [Int64.lt_iff_toInt_lt, Int32.toInt_toInt64]
  have e : (4294967296 : Int64).toInt = 4294967296 := by decide +kernel
  rw [e]; have := z.toInt_lt; omega
theorem rc_i_ne (z : Int32) {c : Nat} (h : c < 2 ^ 31) : z.toInt64 ≠ rc_cv c := fun e => rc_cv_nlt h (e ▸ rc_i_lt z)
theorem rc_i_32 (z : Int32) : z.toInt64.toInt32 = z := by simp
theorem rc_i_inj {z w : Int32} (h : z.toInt64 = w.toInt64) : z = w := by
  have := congrArg Int64.toInt32 h; rwa [rc_i_32, rc_i_32] at this
theorem rc_is_s {v : Int64} {c : Nat} (h : v = rc_cv c) : rc_is v c = 1 := if_pos h
theorem rc_is_n {v : Int64} {c : Nat} (h : v ≠ rc_cv c) : rc_is v c = 0 := if_neg h
theorem rc_is_le (v : Int64) (c : Nat) : rc_is v c ≤ 1 := by unfold rc_is; split <;> omega
theorem rc_is_pos {v : Int64} {c : Nat} (h : rc_is v c ≠ 0) : v = rc_cv c := by
  unfold rc_is at h; split at h
  · assumption
  · omega
theorem rc_is_c {a c : Nat} (ha : a < 2 ^ 31) (hc : c < 2 ^ 31) (h : c ≠ a) : rc_is (rc_cv a) c = 0 := rc_is_n fun e => h (rc_cv_inj ha hc e).symm
theorem rc_is_i (z : Int32) {c : Nat} (hc : c < 2 ^ 31) : rc_is z.toInt64 c = 0 := rc_is_n (rc_i_ne z hc)
/-! sums -/
def rc_sm (g : Nat → Nat) : Nat → Nat
  | 0 => 0
  | n + 1 => rc_sm g n + g n
theorem rc_sm_c {g h : Nat → Nat} : ∀ {n : Nat}, (∀ i, i < n → g i = h i) → rc_sm g n = rc_sm h n
  | 0, _ => rfl
  | n + 1, e => by
    show rc_sm g n + g n = rc_sm h n + h n
    rw [rc_sm_c (n := n) (fun i hi => e i (by omega)), e n (by omega)]
theorem rc_sm_1 {g h : Nat → Nat} {a : Nat} : ∀ {n : Nat}, a < n → (∀ i, i < n → i ≠ a → g i = h i) → rc_sm g n + h a = rc_sm h n + g a
  | 0, ha, _ => by omega
  | n + 1, ha, e => by
    show rc_sm g n + g n + h a = rc_sm h n + h n + g a
    rcases Nat.lt_or_ge a n with z | z
    · have x := rc_sm_1 (n := n) z (fun i hi => e i (by omega))
      have y := e n (by omega) (by omega)
      omega
    · have ea : a = n := by omega
      subst ea
      have x : rc_sm g a = rc_sm h a := rc_sm_c fun i hi => e i (by omega) (by omega)
      omega
theorem rc_sm_z {g : Nat → Nat} : ∀ {n : Nat}, (∀ i, i < n → g i = 0) → rc_sm g n = 0
  | 0, _ => rfl
  | n + 1, e => by
    show rc_sm g n + g n = 0
    rw [rc_sm_z (n := n) (fun i hi => e i (by omega)), e n (by omega)]
theorem rc_sm_ge {g : Nat → Nat} {a : Nat} : ∀ {n : Nat}, a < n → g a ≤ rc_sm g n
  | 0, h => by omega
  | n + 1, h => by
    show g a ≤ rc_sm g n + g n
    rcases Nat.lt_or_ge a n with z | z
    · have := rc_sm_ge (g := g) z; omega
    · have ea : a = n := by omega
      subst ea; omega
theorem rc_sm_pos {g : Nat → Nat} {n : Nat} (h : rc_sm g n ≠ 0) : ∃ i, i < n ∧ g i ≠ 0 := by
  apply Classical.byContradiction
  intro hn
  apply h
  apply rc_sm_z
  intro i hi
  apply Classical.byContradiction
  intro hg
  exact hn ⟨i, hi, hg⟩
theorem rc_sm_le {g : Nat → Nat} {k : Nat} : ∀ {n : Nat}, (∀ i, i < n → g i ≤ k) → rc_sm g n ≤ n * k
  | 0, _ => by simp [rc_sm]
  | n + 1, e => by
    show rc_sm g n + g n ≤ (n + 1) * k
    have x := rc_sm_le (n := n) (k := k) (fun i hi => e i (by omega))
    have y := e n (by omega)
    rw [Nat.succ_mul]; omega
theorem rc_sm_mono {g h : Nat → Nat} : ∀ {n : Nat}, (∀ i, i < n → g i ≤ h i) → rc_sm g n ≤ rc_sm h n
  | 0, _ => Nat.le_refl _
  | n + 1, e => by
    show rc_sm g n + g n ≤ rc_sm h n + h n
    have x := rc_sm_mono (n := n) (fun i hi => e i (by omega))
    have y := e n (by omega)
    omega
/-- a bijection gives equal counts -/
theorem rc_bij (f : Nat → Nat) : ∀ (N : Nat) (A B : Nat → Bool) (m : Nat), (∀ c, c < N → A c = true → f c < m ∧ B (f c) = true) → (∀ c d, c < N → d < N → A c = true → A d = true → f c = f d → c = d) → (∀ d, d < m → B d = true → ∃ c, c < N ∧ A c = true ∧ f c = d) → rc_sm (fun c => if A c = true then 1 else 0) N = rc_sm (fun d => if B d = true then 1 else 0) m
  | 0, A, B, m, _, _, h3 => by
    show 0 = _
    refine (rc_sm_z fun i hi => ?_).symm
    apply if_neg
    intro hb
    obtain ⟨c, hc, _⟩ := h3 i hi hb
    omega
  | N + 1, A, B, m, h1, h2, h3 => by
    show rc_sm _ N + _ = _
    cases hA : A N with
    | false =>
      rw [rc_bij f N A B m (fun c hc => h1 c (by omega)) (fun c d hc hd => h2 c d (by omega) (by omega)) (fun d hd hb => by
        obtain ⟨c, hc, ha, e⟩ := h3 d hd hb
        refine ⟨c, ?_, ha, e⟩
        rcases Nat.lt_or_ge c N with z | z
        · exact z
        · have : c = N := by omega
          subst this; rw [hA] at ha; exact absurd ha (by decide))]
      simp [hA]
    | true =>
      obtain ⟨q1, q2⟩ := h1 N (by omega) hA
      have ih := rc_bij f N A (fun d => B d && !(d == f N)) m (fun c hc ha => by
        obtain ⟨w1, w2⟩ := h1 c (by omega) ha
        refine ⟨w1, ?_⟩
        have : f c ≠ f N := fun e => by have := h2 c N (by omega) (by omega) ha hA e; omega
        simp [w2, this]) (fun c d hc hd => h2 c d (by omega) (by omega)) (fun d hd hb => by
        simp only [Bool.and_eq_true, Bool.not_eq_true', beq_eq_false_iff_ne] at hb
        obtain ⟨c, hc, ha, e⟩ := h3 d hd hb.1
        refine ⟨c, ?_, ha, e⟩
        rcases Nat.lt_or_ge c N with z | z
        · exact z
        · have : c = N := by omega
          subst this; exact absurd e.symm hb.2)
      have s := rc_sm_1 (g := fun d => if B d = true then 1 else 0) (h := fun d => if (B d && !(d == f N)) = true then 1 else 0) (a := f N) (n := m) q1 (fun i hi hne => by
        simp [hne])
      rw [ih]
      simp [hA, q2] at s ⊢
      omega
/-! nodup lists below n are short -/
theorem rc_nd_len {D : List Nat} {n : Nat} (hd : D.Nodup) (h : ∀ c, c ∈ D → c < n) : D.length ≤ n := by
  have := hd.length_le_of_subset (l₂ := List.range n) (fun c hc => List.mem_range.mpr (h c hc))
  rwa [List.length_range] at this
/-! the dead stack and the linked lists as lists -/
def rc_dl (de : Nat → Int32) : List Nat → Prop
  | [] => True
  | c :: D => de D.length = nI c ∧ rc_dl de D
theorem rc_dl_u {de : Nat → Int32} {x : Int32} : ∀ {D : List Nat} {j : Nat}, D.length ≤ j → rc_dl de D → rc_dl (upd de j x) D
  | [], _, _, _ => trivial
  | c :: D, j, h, ⟨a, b⟩ => by
    have h' : D.length + 1 ≤ j := h
    exact ⟨(pk_un (by omega)).trans a, rc_dl_u (by omega) b⟩
def rc_lk (li : Nat → Int32) : Int32 → List Nat → Prop
  | h, [] => h = -1
  | h, c :: l => h = nI c ∧ rc_lk li (li c) l
theorem rc_lk_u {li : Nat → Int32} {x : Int32} {j : Nat} : ∀ {l : List Nat} {h : Int32}, j ∉ l → rc_lk li h l → rc_lk (upd li j x) h l
  | [], _, _, e => e
  | c :: l, h, hj, ⟨a, b⟩ => by
    have h1 : c ≠ j := fun e => hj (e ▸ List.mem_cons_self)
    refine ⟨a, ?_⟩
    rw [pk_un h1]
    exact rc_lk_u (fun e => hj (List.mem_cons_of_mem _ e)) b
/-- a ghost map with k at c -/
def rc_up (f : Nat → Nat) (c k : Nat) : Nat → Nat := fun d => if d = c then k else f d
theorem rc_up_s {f : Nat → Nat} {c k : Nat} : rc_up f c k c = k := if_pos rfl
theorem rc_up_n {f : Nat → Nat} {c k d : Nat} (h : d ≠ c) : rc_up f c k d = f d := if_neg h
theorem rc_m1_lt : (-1 : Int32) < 0 := by decide
theorem rc_m1_ne {n : Nat} (h : n < 2 ^ 31) : (-1 : Int32) ≠ nI n := fun e => nI_pos h (e ▸ rc_m1_lt)
theorem rc_n_of {n m : Nat} (hn : n < 2 ^ 31) (hm : m < 2 ^ 31) (h : nI n = nI m) : n = m := (nI_eq hn hm).mp h
theorem rc_upd2 {a : Nat → Int32} {k : Nat} {x y : Int32} : upd (upd a k x) k y = upd a k y := by
  funext j; unfold upd; split <;> rfl
theorem rc_nI0 {n : Nat} (h : n < 2 ^ 31) : nI n = 0 ↔ n = 0 := by
  have := nI_eq (a := n) (b := 0) h (by decide); rwa [nI_0] at this
/-! bits of slot sets -/
theorem rc_1sh {x s : Nat} (hx : x < 12) (hs : s < 32) : bt ((1 : Int32) <<< (nI x &&& 31)) s = decide (s = x) := by
  exact (by decide +kernel : ∀ x, x < 12 → ∀ s, s < 32 → bt ((1 : Int32) <<< (nI x &&& 31)) s = decide (s = x)) x hx s hs
theorem rc_not {a : Int32} {s : Nat} (hs : s < 32) : bt (a ^^^ (-1)) s = !bt a s := by
  rw [b_xor, b_m1 s hs]; cases bt a s <;> rfl
theorem rc_andn {a b : Int32} {s : Nat} (hs : s < 32) : bt (a &&& (b ^^^ (-1))) s = (bt a s && !bt b s) := by
  rw [b_and, rc_not hs]
/-- X's test of a bit -/
theorem rc_tx {a : Int32} {x : Nat} (hx : x < 12) : (a &&& ((1 : Int32) <<< (nI x &&& 31))) = 0 ↔ bt a x = false := by
  constructor
  · intro h
    have := congrArg (fun z => bt z x) h
    simp only [b_and, rc_1sh hx (by omega : x < 32), b_0, decide_true, Bool.and_true] at this
    exact this
  · intro h
    apply b_ext
    intro i hi
    rw [b_and, rc_1sh hx hi, b_0]
    rcases Decidable.em (i = x) with e | e
    · subst e; rw [h]; rfl
    · rw [decide_eq_false e, Bool.and_false]
theorem rc_tx1 {a : Int32} : (a &&& 1) = 0 ↔ bt a 0 = false := by
  have := rc_tx (a := a) (x := 0) (by omega)
  rwa [show ((1 : Int32) <<< (nI 0 &&& 31)) = 1 from by decide +kernel] at this
theorem rc_tx2 {a : Int32} : (a &&& 2) = 0 ↔ bt a 1 = false := by
  have := rc_tx (a := a) (x := 1) (by omega)
  rwa [show ((1 : Int32) <<< (nI 1 &&& 31)) = 2 from by decide +kernel] at this
/-- Y's test of a bit -/
theorem rc_ty {a : Int32} {x : Nat} (hx : x < 12) : ((a >>> (nI x &&& 31)) &&& 1) = 1 ↔ bt a x = true := by
  have hb : ∀ i, i < 32 → bt ((a >>> (nI x &&& 31)) &&& 1) i = (decide (i = 0) && bt a x) := by
    intro i hi
    have h1 : bt (1 : Int32) i = decide (i = 0) := (by decide +kernel : ∀ i, i < 32 → bt (1 : Int32) i = decide (i = 0)) i hi
    rw [b_and, h1, b_sshr x (by omega) a hi]
    rcases Decidable.em (i = 0) with e | e
    · subst e; simp; intro h; omega
    · simp [e]
  constructor
  · intro h
    have h0 := hb 0 (by omega)
    rw [h] at h0
    have h1 : bt (1 : Int32) 0 = true := by decide +kernel
    rw [h1] at h0
    simp at h0; exact h0
  · intro h
    apply b_ext
    intro i hi
    rw [hb i hi, h, Bool.and_true]
    exact ((by decide +kernel : ∀ i, i < 32 → bt (1 : Int32) i = decide (i = 0)) i hi).symm
theorem rc_bl1 (a b c : Bool) (h : b = true → c = false → a = true) : (a && !(a && !(b && !c))) = (b && !c) := by
  revert h; cases a <;> cases b <;> cases c <;> decide
theorem rc_bl2 (a b : Bool) (h : b = true → a = true) : (a && !(a && !b)) = b := by
  revert h; cases a <;> cases b <;> decide
theorem rc_bl3 (n k x : Bool) (h : k = true → n = true) (hx : x = true → n = true) : (n && !((n && !k) && !x)) = (k || x) := by
  revert h hx; cases n <;> cases k <;> cases x <;> decide
theorem rc_nt {b : Bool} (h : ¬ b = true) : b = false := by cases b <;> simp_all
end
section
/-! X's heap: col c = 0: live or dying, 1: free, 2 + f: a spare of frame f, 1000: in hand -/
def rc_FV (col : Nat → Nat) (v : Int64) : Prop := (∃ z : Int32, v = z.toInt64) ∨ ∃ c, c < 200 ∧ col c = 0 ∧ v = rc_cv c
def rc_rt (own : Nat → Bool) (sl : Nat → Int64) (c : Nat) : Nat := rc_sm (fun i => if own i = true then rc_is (sl i) c else 0) 192
def rc_rf (col : Nat → Nat) (cl cr : Nat → Int64) (c : Nat) : Nat := rc_sm (fun d => if col d = 0 then rc_is (cl d) c + rc_is (cr d) c else 0) 200
def rc_kk (E : Nat → Nat) (own : Nat → Bool) (col : Nat → Nat) (sl cl cr : Nat → Int64) (c : Nat) : Nat := E c + rc_rt own sl c + rc_rf col cl cr c
def rc_HC (col k : Nat → Nat) (D : List Nat) (ho de : Nat → Int32) (dc : Int32) : Prop :=
  (∀ c, col c = 0 → ho c = nI (k c)) ∧ dc = nI D.length ∧ rc_dl de D ∧ D.Nodup ∧ (∀ c, c ∈ D ↔ col c = 0 ∧ k c = 0)
def rc_A (fs : Nat) (own : Nat → Bool) (col : Nat → Nat) (sl cl cr : Nat → Int64) : Prop :=
  fs ≤ 200 ∧ (∀ c, col c = 0 → c < fs) ∧ (∀ d, col d = 0 → rc_FV col (cl d) ∧ rc_FV col (cr d)) ∧ (∀ i, i < 192 → own i = true → rc_FV col (sl i))
def rc_B (ct : Int32) (E : Nat → Nat) (own : Nat → Bool) (col : Nat → Nat) (D : List Nat) (sl cl cr : Nat → Int64) (ho de : Nat → Int32) (dc : Int32) : Prop :=
  (ct ≠ 0 → (∀ c, E c ≤ 9) ∧ rc_HC col (rc_kk E own col sl cl cr) D ho de dc) ∧ (ct = 0 → D = [] ∧ dc = 0)
def rc_LS (fs : Nat) (li : Nat → Int32) (h : Int32) (k : Nat) (col : Nat → Nat) (l : List Nat) : Prop :=
  rc_lk li h l ∧ l.Nodup ∧ ∀ c, c ∈ l → c < fs ∧ col c = k
def rc_C (fr fs : Nat) (col : Nat → Nat) (F : List Nat) (S : Nat → List Nat) (li : Nat → Int32) (fh : Int32) (sh sc : Nat → Int32) : Prop :=
  rc_LS fs li fh 1 col F ∧ ∀ f, f < fr → rc_LS fs li (sh f) (2 + f) col (S f) ∧ sc f = nI (S f).length
def rc_ct (col : Nat → Nat) : Nat := rc_sm (fun c => if col c = 0 then 1 else 0) 200
def rc_D (lim fr fs : Nat) (col : Nat → Nat) (S : Nat → List Nat) (ff lc st : Int32) : Prop :=
  ff = nI fs ∧ lc = nI (rc_ct col + lim) ∧ st = nI (rc_sm (fun f => (S f).length) fr)
def rc_XI (lim fr : Nat) (E : Nat → Nat) (own : Nat → Bool) (col : Nat → Nat) (D F : List Nat) (S : Nat → List Nat) (fs : Nat) (ct : Int32) (sl cl cr : Nat → Int64) (ho li de sh sc : Nat → Int32) (dc fh ff lc st : Int32) : Prop :=
  rc_A fs own col sl cl cr ∧ rc_B ct E own col D sl cl cr ho de dc ∧ rc_C fr fs col F S li fh sh sc ∧ rc_D lim fr fs col S ff lc st
def rc_st (own : Nat → Bool) (i : Nat) (b : Bool) : Nat → Bool := fun j => if j = i then b else own j
theorem rc_rt_off {own : Nat → Bool} {sl : Nat → Int64} {i : Nat} (hi : i < 192) (h : own i = true) (c : Nat) : rc_rt own sl c = rc_rt (rc_st own i false) sl c + rc_is (sl i) c := by
  unfold rc_rt
  have := rc_sm_1 (g := fun j => if own j = true then rc_is (sl j) c else 0) (h := fun j => if rc_st own i false j = true then rc_is (sl j) c else 0) hi (fun j _ hj => by
    show _ = (if rc_st own i false j = true then _ else _)
    unfold rc_st; rw [if_neg hj])
  have e1 : rc_st own i false i = false := if_pos rfl
  simp only [h, e1, if_true, Bool.false_eq_true, if_false] at this
  exact this
theorem rc_rt_put {own : Nat → Bool} {sl : Nat → Int64} {i : Nat} {v : Int64} {b : Bool} (hi : i < 192) (h : own i = false) (c : Nat) : rc_rt (rc_st own i b) (vp_updL sl i v) c = rc_rt own sl c + (if b = true then rc_is v c else 0) := by
  unfold rc_rt
  have := rc_sm_1 (g := fun j => if rc_st own i b j = true then rc_is (vp_updL sl i v j) c else 0) (h := fun j => if own j = true then rc_is (sl j) c else 0) hi (fun j _ hj => by
    show (if rc_st own i b j = true then rc_is (vp_updL sl i v j) c else 0) = _
    unfold rc_st; rw [if_neg hj, pk_uLn hj])
  have e1 : rc_st own i b i = b := if_pos rfl
  simp only [h, e1, pk_uLs] at this
  simpa using this
theorem rc_rf_off {col : Nat → Nat} {cl cr : Nat → Int64} {c k : Nat} (hc : c < 200) (h0 : col c = 0) (hk : k ≠ 0) (x : Nat) : rc_rf col cl cr x = rc_rf (rc_up col c k) cl cr x + rc_is (cl c) x + rc_is (cr c) x := by
  unfold rc_rf
  have := rc_sm_1 (g := fun d => if col d = 0 then rc_is (cl d) x + rc_is (cr d) x else 0) (h := fun d => if rc_up col c k d = 0 then rc_is (cl d) x + rc_is (cr d) x else 0) hc (fun j _ hj => by
    show _ = (if rc_up col c k j = 0 then _ else _)
    rw [rc_up_n hj])
  simp only [h0, rc_up_s, hk, if_true, if_false] at this
  omega
theorem rc_rf_same {col : Nat → Nat} {cl cr cl' cr' : Nat → Int64} (h : ∀ d, col d = 0 → cl' d = cl d ∧ cr' d = cr d) (x : Nat) : rc_rf col cl' cr' x = rc_rf col cl cr x := by
  unfold rc_rf
  apply rc_sm_c
  intro d _
  show (if col d = 0 then _ else _) = (if col d = 0 then _ else _)
  by_cases hd : col d = 0
  · rw [if_pos hd, if_pos hd, (h d hd).1, (h d hd).2]
  · rw [if_neg hd, if_neg hd]
theorem rc_rf_col {col col' : Nat → Nat} {cl cr : Nat → Int64} (h : ∀ d, col' d = 0 ↔ col d = 0) (x : Nat) : rc_rf col' cl cr x = rc_rf col cl cr x := by
  unfold rc_rf
  apply rc_sm_c
  intro d _
  show (if col' d = 0 then _ else _) = (if col d = 0 then _ else _)
  by_cases hd : col d = 0
  · rw [if_pos hd, if_pos ((h d).mpr hd)]
  · rw [if_neg hd, if_neg (fun e => hd ((h d).mp e))]
theorem rc_ct_off {col : Nat → Nat} {c k : Nat} (hc : c < 200) (h0 : col c = 0) (hk : k ≠ 0) : rc_ct col = rc_ct (rc_up col c k) + 1 := by
  unfold rc_ct
  have := rc_sm_1 (g := fun d => if col d = 0 then 1 else 0) (h := fun d => if rc_up col c k d = 0 then 1 else 0) hc (fun j _ hj => by
    show _ = (if rc_up col c k j = 0 then _ else _)
    rw [rc_up_n hj])
  simp only [h0, rc_up_s, hk, if_true, if_false] at this
  omega
theorem rc_ct_col {col col' : Nat → Nat} (h : ∀ d, col' d = 0 ↔ col d = 0) : rc_ct col' = rc_ct col := by
  unfold rc_ct
  apply rc_sm_c
  intro d _
  show (if col' d = 0 then _ else _) = (if col d = 0 then _ else _)
  by_cases hd : col d = 0
  · rw [if_pos hd, if_pos ((h d).mpr hd)]
  · rw [if_neg hd, if_neg (fun e => hd ((h d).mp e))]
theorem rc_ct_le (col : Nat → Nat) : rc_ct col ≤ 200 := by
  have := rc_sm_le (g := fun c => if col c = 0 then 1 else 0) (k := 1) (n := 200) (fun i _ => by
    show (if col i = 0 then 1 else 0) ≤ 1
    split <;> omega)
  exact this
theorem rc_rt_le (own : Nat → Bool) (sl : Nat → Int64) (c : Nat) : rc_rt own sl c ≤ 192 := by
  have := rc_sm_le (g := fun i => if own i = true then rc_is (sl i) c else 0) (k := 1) (n := 192) (fun i _ => by
    show (if own i = true then rc_is (sl i) c else 0) ≤ 1
    have := rc_is_le (sl i) c
    split <;> omega)
  exact this
theorem rc_rf_le (col : Nat → Nat) (cl cr : Nat → Int64) (c : Nat) : rc_rf col cl cr c ≤ 400 := by
  have := rc_sm_le (g := fun d => if col d = 0 then rc_is (cl d) c + rc_is (cr d) c else 0) (k := 2) (n := 200) (fun d _ => by
    show (if col d = 0 then rc_is (cl d) c + rc_is (cr d) c else 0) ≤ 2
    have := rc_is_le (cl d) c
    have := rc_is_le (cr d) c
    split <;> omega)
  exact this
theorem rc_kk_le {E : Nat → Nat} {own : Nat → Bool} {col : Nat → Nat} {sl cl cr : Nat → Int64} (h : ∀ c, E c ≤ 9) (c : Nat) : rc_kk E own col sl cl cr c < 700 := by
  have := h c
  have := rc_rt_le own sl c
  have := rc_rf_le col cl cr c
  unfold rc_kk; omega
theorem rc_rt_ge {own : Nat → Bool} {sl : Nat → Int64} {i c : Nat} (hi : i < 192) (h : own i = true) (e : sl i = rc_cv c) : 1 ≤ rc_rt own sl c := by
  have := rc_sm_ge (g := fun j => if own j = true then rc_is (sl j) c else 0) hi
  simp only [h, if_true, rc_is_s e] at this
  exact this
theorem rc_rf_ge {col : Nat → Nat} {cl cr : Nat → Int64} {d c : Nat} (hd : d < 200) (h : col d = 0) (e : cl d = rc_cv c ∨ cr d = rc_cv c) : 1 ≤ rc_rf col cl cr c := by
  have := rc_sm_ge (g := fun d => if col d = 0 then rc_is (cl d) c + rc_is (cr d) c else 0) hd
  simp only [h, if_true] at this
  rcases e with e | e
  · rw [rc_is_s e] at this; unfold rc_rf; omega
  · rw [rc_is_s e] at this; unfold rc_rf; omega
theorem rc_rt_pos {own : Nat → Bool} {sl : Nat → Int64} {c : Nat} (h : rc_rt own sl c ≠ 0) : ∃ i, i < 192 ∧ own i = true ∧ sl i = rc_cv c := by
  obtain ⟨i, hi, hg⟩ := rc_sm_pos h
  by_cases ho : own i = true
  · rw [if_pos ho] at hg; exact ⟨i, hi, ho, rc_is_pos hg⟩
  · rw [if_neg ho] at hg; exact absurd rfl hg
theorem rc_rf_pos {col : Nat → Nat} {cl cr : Nat → Int64} {c : Nat} (h : rc_rf col cl cr c ≠ 0) : ∃ d, d < 200 ∧ col d = 0 ∧ (cl d = rc_cv c ∨ cr d = rc_cv c) := by
  obtain ⟨d, hd, hg⟩ := rc_sm_pos h
  by_cases ho : col d = 0
  · rw [if_pos ho] at hg
    refine ⟨d, hd, ho, ?_⟩
    by_cases h1 : rc_is (cl d) c = 0
    · exact Or.inr (rc_is_pos (by omega))
    · exact Or.inl (rc_is_pos h1)
  · rw [if_neg ho] at hg; exact absurd rfl hg
theorem rc_mem0 {col k : Nat → Nat} (h : ∀ c, col c = 0 → k c ≠ 0) (c : Nat) : c ∈ ([] : List Nat) ↔ col c = 0 ∧ k c = 0 :=
  ⟨fun x => (List.not_mem_nil x).elim, fun x => (h c x.1 x.2).elim⟩
theorem rc_mem0' {col k : Nat → Nat} (h : ∀ c, c ∈ ([] : List Nat) ↔ col c = 0 ∧ k c = 0) {c : Nat} (h0 : col c = 0) : k c ≠ 0 :=
  fun e => List.not_mem_nil ((h c).mpr ⟨h0, e⟩)
/-- FV where col shrinks but keeps what is held -/
theorem rc_FV_m {col col' : Nat → Nat} {v : Int64} (h : rc_FV col v) (k : ∀ c, c < 200 → col c = 0 → v = rc_cv c → col' c = 0) : rc_FV col' v := by
  rcases h with h | ⟨c, a, b, e⟩
  · exact Or.inl h
  · exact Or.inr ⟨c, a, k c a b e, e⟩
theorem rc_LS_col {fs : Nat} {li : Nat → Int32} {h : Int32} {k : Nat} {col col' : Nat → Nat} {l : List Nat} (H : rc_LS fs li h k col l) (e : ∀ c, col c = k → col' c = k) : rc_LS fs li h k col' l :=
  ⟨H.1, H.2.1, fun c hc => ⟨(H.2.2 c hc).1, e c (H.2.2 c hc).2⟩⟩
theorem rc_LS_u {fs : Nat} {li : Nat → Int32} {h x : Int32} {k c : Nat} {col : Nat → Nat} {l : List Nat} (H : rc_LS fs li h k col l) (hc : col c ≠ k) : rc_LS fs (upd li c x) h k col l :=
  ⟨rc_lk_u (fun hm => hc (H.2.2 c hm).2) H.1, H.2⟩
theorem rc_LS_len {fs : Nat} {li : Nat → Int32} {h : Int32} {k : Nat} {col : Nat → Nat} {l : List Nat} (H : rc_LS fs li h k col l) : l.length ≤ fs :=
  rc_nd_len H.2.1 (fun c hc => (H.2.2 c hc).1)
end
section
section
variable {f_kindRet f_kindTail f_kindBind f_kindCon f_kindPrim f_kindCall f_kindMatch f_kindTest f_heapSize f_depthLimit f_nodeLimit f_nodeCount f_fragmentCount f_frames f_at f_deadCount f_freeHead f_fresh f_liveCells f_spareTotal f_counted f_status f_made f_reused f_peak f_calls f_resultCells : Int32} {f_cellBase f_result : Int64} {a_nodeKind a_nodeX a_nodeParam a_nodeA a_nodeB a_nodeNext a_nodeElse a_nodeFree a_nodeNeed a_fragments a_body a_waiting a_spareHead a_spareCount a_cellTag a_holds a_link a_dead a_cellOfNumber a_numberOfCell a_places a_walk : Nat → Int32} {a_slots a_cellLeft a_cellRight : Nat → Int64}
variable {lim fr fs : Nat} {E col k k' : Nat → Nat} {own : Nat → Bool} {D F : List Nat} {S : Nat → List Nat} {v : Int64}
theorem rx_hold (I : (rc_XI lim fr E own col ([]) F S fs f_counted a_slots a_cellLeft a_cellRight a_holds a_link a_dead a_spareHead a_spareCount f_deadCount f_freeHead f_fresh f_liveCells f_spareTotal)) (hv : rc_FV col v) (hE : ∀ c, E c + rc_is v c ≤ 9) : ∃ ho : Nat → Int32, (rc_XI lim fr (fun c => E c + rc_is v c) own col ([]) F S fs f_counted a_slots a_cellLeft a_cellRight ho a_link a_dead a_spareHead a_spareCount f_deadCount f_freeHead f_fresh f_liveCells f_spareTotal) ∧ (∀ c, col c ≠ 0 → ho c = a_holds c) ∧ ∀ post : SX → Prop, post (f_kindRet, f_kindTail, f_kindBind, f_kindCon, f_kindPrim, f_kindCall, f_kindMatch, f_kindTest, f_cellBase, f_heapSize, f_depthLimit, f_nodeLimit, f_nodeCount, f_fragmentCount, f_frames, f_at, f_deadCount, f_freeHead, f_fresh, f_liveCells, f_spareTotal, f_counted, f_status, f_made, f_reused, f_peak, f_calls, f_result, f_resultCells, a_nodeKind, a_nodeX, a_nodeParam, a_nodeA, a_nodeB, a_nodeNext, a_nodeElse, a_nodeFree, a_nodeNeed, a_fragments, a_body, a_slots, a_waiting, a_spareHead, a_spareCount, a_cellTag, a_cellLeft, a_cellRight, ho, a_link, a_dead, a_cellOfNumber, a_numberOfCell, a_places, a_walk) → wpX_hold post (f_kindRet, f_kindTail, f_kindBind, f_kindCon, f_kindPrim, f_kindCall, f_kindMatch, f_kindTest, f_cellBase, f_heapSize, f_depthLimit, f_nodeLimit, f_nodeCount, f_fragmentCount, f_frames, f_at, f_deadCount, f_freeHead, f_fresh, f_liveCells, f_spareTotal, f_counted, f_status, f_made, f_reused, f_peak, f_calls, f_result, f_resultCells, a_nodeKind, a_nodeX, a_nodeParam, a_nodeA, a_nodeB, a_nodeNext, a_nodeElse, a_nodeFree, a_nodeNeed, a_fragments, a_body, a_slots, a_waiting, a_spareHead, a_spareCount, a_cellTag, a_cellLeft, a_cellRight, a_holds, a_link, a_dead, a_cellOfNumber, a_numberOfCell, a_places, a_walk) v := by
  obtain ⟨hA, hB, hC, hD⟩ := I
  by_cases hc : f_counted = 0
  · exact ⟨a_holds, ⟨hA, ⟨fun h => absurd hc h, hB.2⟩, hC, hD⟩, fun _ _ => rfl, fun post hp => br_t hc hp⟩
  · obtain ⟨h9, hk, hd, hdl, hnd, hm⟩ := hB.1 hc
    have key : ∀ x, rc_kk (fun c => E c + rc_is v c) own col a_slots a_cellLeft a_cellRight x = rc_kk E own col a_slots a_cellLeft a_cellRight x + rc_is v x := by
      intro x; unfold rc_kk; dsimp only; omega
    have hm' : ∀ x, x ∈ ([] : List Nat) ↔ col x = 0 ∧ rc_kk (fun c => E c + rc_is v c) own col a_slots a_cellLeft a_cellRight x = 0 :=
      rc_mem0 fun x hx => by
        have := rc_mem0' hm hx
        rw [key]; omega
    rcases hv with ⟨z, rfl⟩ | ⟨c, hc2, hc0, rfl⟩
    · refine ⟨a_holds, ⟨hA, ⟨fun _ => ⟨hE, fun x hx => ?_, hd, hdl, hnd, hm'⟩, fun h => absurd h hc⟩, hC, hD⟩, fun _ _ => rfl, fun post hp => br_f hc (br_t (rc_i_lt z) hp)⟩
      have hx2 := hA.2.1 x hx
      have := hA.1
      rw [hk x hx, key, rc_is_i z (by omega)]; rfl
    · have hcl : c < 2 ^ 31 := by omega
      refine ⟨upd a_holds c (nI (rc_kk E own col a_slots a_cellLeft a_cellRight c + 1)), ⟨hA, ⟨fun _ => ⟨hE, fun x hx => ?_, hd, hdl, hnd, hm'⟩, fun h => absurd h hc⟩, hC, hD⟩, ?_, fun post hp => ?_⟩
      · have hx2 := hA.2.1 x hx
        have := hA.1
        rw [key]
        by_cases e : x = c
        · subst e; rw [pk_us, rc_is_s rfl]
        · rw [pk_un e, hk x hx, rc_is_c hcl (by omega) e]; rfl
      · intro x hx
        exact pk_un (fun e => hx (e ▸ hc0))
      · have hin : vp_in ((rc_cv c - 4294967296).toInt32) 200 := by rw [rc_cv_sub hcl]; exact vp_in_nI hc2 (by decide)
        refine br_f hc (br_f (rc_cv_nlt hcl) ⟨hin, hin, nm_r (e' := upd a_holds c (nI (rc_kk E own col a_slots a_cellLeft a_cellRight c + 1))) ?_ hp⟩)
        rw [rc_cv_sub hcl, nI_clamp hcl, hk c hc0, nI_1]
theorem rx_unh (hct : ¬ f_counted = 0) (hcol : ∀ x, col x = 0 → x < 200) (h : rc_HC col k D a_holds a_dead f_deadCount) (hv : rc_FV col v) (hk : ∀ x, x < 200 → k x = k' x + rc_is v x) (hb : ∀ x, k x < 1000) : ∃ (D2 : List Nat) (ho de : Nat → Int32) (dc : Int32), rc_HC col k' D2 ho de dc ∧ ∀ post : SX → Prop, post (f_kindRet, f_kindTail, f_kindBind, f_kindCon, f_kindPrim, f_kindCall, f_kindMatch, f_kindTest, f_cellBase, f_heapSize, f_depthLimit, f_nodeLimit, f_nodeCount, f_fragmentCount, f_frames, f_at, dc, f_freeHead, f_fresh, f_liveCells, f_spareTotal, f_counted, f_status, f_made, f_reused, f_peak, f_calls, f_result, f_resultCells, a_nodeKind, a_nodeX, a_nodeParam, a_nodeA, a_nodeB, a_nodeNext, a_nodeElse, a_nodeFree, a_nodeNeed, a_fragments, a_body, a_slots, a_waiting, a_spareHead, a_spareCount, a_cellTag, a_cellLeft, a_cellRight, ho, a_link, de, a_cellOfNumber, a_numberOfCell, a_places, a_walk) → wpX_unhold post (f_kindRet, f_kindTail, f_kindBind, f_kindCon, f_kindPrim, f_kindCall, f_kindMatch, f_kindTest, f_cellBase, f_heapSize, f_depthLimit, f_nodeLimit, f_nodeCount, f_fragmentCount, f_frames, f_at, f_deadCount, f_freeHead, f_fresh, f_liveCells, f_spareTotal, f_counted, f_status, f_made, f_reused, f_peak, f_calls, f_result, f_resultCells, a_nodeKind, a_nodeX, a_nodeParam, a_nodeA, a_nodeB, a_nodeNext, a_nodeElse, a_nodeFree, a_nodeNeed, a_fragments, a_body, a_slots, a_waiting, a_spareHead, a_spareCount, a_cellTag, a_cellLeft, a_cellRight, a_holds, a_link, a_dead, a_cellOfNumber, a_numberOfCell, a_places, a_walk) v := by
  obtain ⟨h1, h2, h3, h4, h5⟩ := h
  rcases hv with ⟨z, rfl⟩ | ⟨c, hc2, hc0, rfl⟩
  · have e : ∀ x, col x = 0 → k x = k' x := fun x hx => by
      have := hk x (hcol x hx)
      rw [rc_is_i z (by have := hcol x hx; omega)] at this; exact this
    refine ⟨D, a_holds, a_dead, f_deadCount, ⟨fun x hx => by rw [h1 x hx, e x hx], h2, h3, h4, fun x => ?_⟩, fun post hp => br_f hct (br_t (rc_i_lt z) hp)⟩
    rw [h5 x]
    exact ⟨fun w => ⟨w.1, by rw [← e x w.1]; exact w.2⟩, fun w => ⟨w.1, by rw [e x w.1]; exact w.2⟩⟩
  · have hcl : c < 2 ^ 31 := by omega
    have hkc : k c = k' c + 1 := by rw [hk c hc2, rc_is_s rfl]
    have hin : vp_in (nI c) 200 := vp_in_nI hc2 (by decide)
    have en : ∀ x, x ≠ c → col x = 0 → k x = k' x := fun x hne hx => by
      have := hk x (hcol x hx)
      rw [rc_is_c hcl (by have := hcol x hx; omega) hne] at this; exact this
    have hho : ∀ x, col x = 0 → upd a_holds c (nI (k' c)) x = nI (k' x) := fun x hx => by
      by_cases e : x = c
      · subst e; exact pk_us
      · rw [pk_un e, h1 x hx, en x e hx]
    have eho : upd a_holds (nI c).toNatClampNeg (a_holds (nI c).toNatClampNeg - 1) = upd a_holds c (nI (k' c)) := by
      rw [nI_clamp hcl, h1 c hc0, hkc, nI_pred]
    have hcD : c ∉ D := fun hm => by have := ((h5 c).mp hm).2; omega
    have hlen : (c :: D).length ≤ 200 := rc_nd_len (List.nodup_cons.mpr ⟨hcD, h4⟩) (fun x hx => by
      rcases List.mem_cons.mp hx with e | e
      · omega
      · exact hcol x ((h5 x).mp e).1)
    have hlen' : D.length + 1 ≤ 200 := hlen
    by_cases hz : k' c = 0
    · refine ⟨c :: D, upd a_holds c (nI (k' c)), upd a_dead D.length (nI c), nI (D.length + 1), ⟨hho, rfl, ⟨pk_us, rc_dl_u (Nat.le_refl _) h3⟩, List.nodup_cons.mpr ⟨hcD, h4⟩, fun x => ?_⟩, fun post hp => ?_⟩
      · rw [List.mem_cons, h5 x]
        constructor
        · rintro (e | w)
          · subst e; exact ⟨hc0, hz⟩
          · have hne : x ≠ c := fun e => by subst e; have := w.2; omega
            exact ⟨w.1, by rw [← en x hne w.1]; exact w.2⟩
        · intro w
          by_cases e : x = c
          · exact Or.inl e
          · exact Or.inr ⟨w.1, by rw [en x e w.1]; exact w.2⟩
      · refine br_f hct (br_f (rc_cv_nlt hcl) (nm_r (e' := nI c) (rc_cv_sub hcl) ⟨hin, hin, nm_r (e' := upd a_holds c (nI (k' c))) eho ⟨hin, br_t ?_ ?_⟩⟩))
        · rw [nI_clamp hcl, pk_us, hz]; rfl
        · refine br_f ?_ ⟨?_, nm_r (e' := upd a_dead D.length (nI c)) ?_ (nm_r (e' := nI (D.length + 1)) ?_ hp)⟩
          · rw [h2]; exact nI_ge (b := 200) (by omega) (by decide)
          · rw [h2]; exact vp_in_nI (by omega) (by decide)
          · rw [h2, nI_clamp (by omega)]
          · rw [h2, nI_1]
    · refine ⟨D, upd a_holds c (nI (k' c)), a_dead, f_deadCount, ⟨hho, h2, h3, h4, fun x => ?_⟩, fun post hp => ?_⟩
      · rw [h5 x]
        constructor
        · intro w
          have hne : x ≠ c := fun e => by subst e; have := w.2; omega
          exact ⟨w.1, by rw [← en x hne w.1]; exact w.2⟩
        · intro w
          have hne : x ≠ c := fun e => by subst e; exact hz w.2
          exact ⟨w.1, by rw [en x hne w.1]; exact w.2⟩
      · refine br_f hct (br_f (rc_cv_nlt hcl) (nm_r (e' := nI c) (rc_cv_sub hcl) ⟨hin, hin, nm_r (e' := upd a_holds c (nI (k' c))) eho ⟨hin, br_f ?_ hp⟩⟩))
        rw [nI_clamp hcl, pk_us]
        have := hb c
        exact nI_ne0 (by omega) (by omega)
end
end
section
section
variable {f_kindRet f_kindTail f_kindBind f_kindCon f_kindPrim f_kindCall f_kindMatch f_kindTest f_heapSize f_depthLimit f_nodeLimit f_nodeCount f_fragmentCount f_frames f_at f_deadCount f_freeHead f_fresh f_liveCells f_spareTotal f_counted f_status f_made f_reused f_peak f_calls f_resultCells : Int32} {f_cellBase f_result : Int64} {a_nodeKind a_nodeX a_nodeParam a_nodeA a_nodeB a_nodeNext a_nodeElse a_nodeFree a_nodeNeed a_fragments a_body a_waiting a_spareHead a_spareCount a_cellTag a_holds a_link a_dead a_cellOfNumber a_numberOfCell a_places a_walk : Nat → Int32} {a_slots a_cellLeft a_cellRight : Nat → Int64}
variable {lim fr fs : Nat} {E : Nat → Nat} {own : Nat → Bool} {S : Nat → List Nat}
theorem rx_sweep_lp (hct : ¬ f_counted = 0) : ∀ (m r : Nat) (col : Nat → Nat) (D F : List Nat) (ho li de : Nat → Int32) (dc fh lc : Int32), rc_ct col = m → m + r ≤ 200 → (rc_XI lim fr E own col D F S fs f_counted a_slots a_cellLeft a_cellRight ho li de a_spareHead a_spareCount dc fh f_fresh lc f_spareTotal) → ∃ (col' : Nat → Nat) (F' : List Nat) (ho' li' de' : Nat → Int32) (fh' lc' : Int32), (rc_XI lim fr E own col' ([]) F' S fs f_counted a_slots a_cellLeft a_cellRight ho' li' de' a_spareHead a_spareCount 0 fh' f_fresh lc' f_spareTotal) ∧ (∀ c, col' c = 0 → col c = 0) ∧ (∀ c, col c ≠ 0 → col' c = col c) ∧ (∀ c, col c = 0 → E c + rc_rt own a_slots c ≠ 0 → col' c = 0) ∧ ∀ (post : SX → Prop) (n : Nat), m < n → post (f_kindRet, f_kindTail, f_kindBind, f_kindCon, f_kindPrim, f_kindCall, f_kindMatch, f_kindTest, f_cellBase, f_heapSize, f_depthLimit, f_nodeLimit, f_nodeCount, f_fragmentCount, f_frames, f_at, 0, fh', f_fresh, lc', f_spareTotal, f_counted, f_status, f_made, f_reused, f_peak, f_calls, f_result, f_resultCells, a_nodeKind, a_nodeX, a_nodeParam, a_nodeA, a_nodeB, a_nodeNext, a_nodeElse, a_nodeFree, a_nodeNeed, a_fragments, a_body, a_slots, a_waiting, a_spareHead, a_spareCount, a_cellTag, a_cellLeft, a_cellRight, ho', li', de', a_cellOfNumber, a_numberOfCell, a_places, a_walk) → wX_sweep_2 post n (nI r) f_kindRet f_kindTail f_kindBind f_kindCon f_kindPrim f_kindCall f_kindMatch f_kindTest f_cellBase f_heapSize f_depthLimit f_nodeLimit f_nodeCount f_fragmentCount f_frames f_at dc fh f_fresh lc f_spareTotal f_counted f_status f_made f_reused f_peak f_calls f_result f_resultCells a_nodeKind a_nodeX a_nodeParam a_nodeA a_nodeB a_nodeNext a_nodeElse a_nodeFree a_nodeNeed a_fragments a_body a_slots a_waiting a_spareHead a_spareCount a_cellTag a_cellLeft a_cellRight ho li de a_cellOfNumber a_numberOfCell a_places a_walk := by
  intro m
  induction m with
  | zero =>
    intro r col D F ho li de dc fh lc hm hr I
    have hD0 : D = [] := by
      cases D with
      | nil => rfl
      | cons c D =>
        obtain ⟨hA, hB, -, -⟩ := I
        have hc := ((hB.1 hct).2.2.2.2.2 c).mp List.mem_cons_self
        have h2 := hA.2.1 c hc.1
        have h3 := hA.1
        have := rc_ct_off (col := col) (c := c) (k := 1) (by omega) hc.1 (by omega)
        omega
    subst hD0
    have hdc : dc = 0 := (I.2.1.1 hct).2.2.1
    subst hdc
    refine ⟨col, F, ho, li, de, fh, lc, I, fun _ h => h, fun _ _ => rfl, fun _ h _ => h, fun post n hn hp => ?_⟩
    obtain ⟨n, rfl⟩ : ∃ q, n = q + 1 := ⟨n - 1, by omega⟩
    by_cases h200 : (200 : Int32) ≤ nI r
    · exact br_t h200 hp
    · exact br_f h200 (br_t (by decide) hp)
  | succ m ih =>
    intro r col D F ho li de dc fh lc hm hr I
    cases D with
    | nil =>
      have hdc : dc = 0 := (I.2.1.1 hct).2.2.1
      subst hdc
      refine ⟨col, F, ho, li, de, fh, lc, I, fun _ h => h, fun _ _ => rfl, fun _ h _ => h, fun post n hn hp => ?_⟩
      obtain ⟨n, rfl⟩ : ∃ q, n = q + 1 := ⟨n - 1, by omega⟩
      by_cases h200 : (200 : Int32) ≤ nI r
      · exact br_t h200 hp
      · exact br_f h200 (br_t (by decide) hp)
    | cons c D =>
      obtain ⟨⟨a1, a2, a3, a4⟩, hB, ⟨c1, c2⟩, d1, d2, d3⟩ := I
      obtain ⟨h9, k1, k2, k3, k4, k5⟩ := hB.1 hct
      obtain ⟨hc0, hkc⟩ := (k5 c).mp List.mem_cons_self
      have hcf := a2 c hc0
      have hc2 : c < 200 := by omega
      have hcl : c < 2 ^ 31 := by omega
      obtain ⟨hcD, hnd⟩ := List.nodup_cons.mp k4
      have hrt : rc_rt own a_slots c = 0 ∧ rc_rf col a_cellLeft a_cellRight c = 0 ∧ E c = 0 := by unfold rc_kk at hkc; omega
      have hcol1 : ∀ x, rc_up col c 1 x = 0 ↔ x ≠ c ∧ col x = 0 := by
        intro x
        by_cases e : x = c
        · subst e; rw [rc_up_s]; simp
        · rw [rc_up_n e]; simp [e]
      have hkk : ∀ x, rc_kk E own col a_slots a_cellLeft a_cellRight x = (rc_kk E own (rc_up col c 1) a_slots a_cellLeft a_cellRight x + rc_is (a_cellRight c) x) + rc_is (a_cellLeft c) x := by
        intro x; unfold rc_kk; rw [rc_rf_off (k := 1) hc2 hc0 (by omega) x]; omega
      have fvc : ∀ d, col d = 0 → rc_FV (rc_up col c 1) (a_cellLeft d) ∧ rc_FV (rc_up col c 1) (a_cellRight d) := by
        intro d hd
        have hd2 := a2 d hd
        refine ⟨rc_FV_m (a3 d hd).1 fun x hx hx0 e => (hcol1 x).mpr ⟨fun ex => ?_, hx0⟩, rc_FV_m (a3 d hd).2 fun x hx hx0 e => (hcol1 x).mpr ⟨fun ex => ?_, hx0⟩⟩
        · subst ex
          have := rc_rf_ge (col := col) (cl := a_cellLeft) (cr := a_cellRight) (d := d) (c := x) (by omega) hd (Or.inl e)
          omega
        · subst ex
          have := rc_rf_ge (col := col) (cl := a_cellLeft) (cr := a_cellRight) (d := d) (c := x) (by omega) hd (Or.inr e)
          omega
      have hc1lt : ∀ x, rc_up col c 1 x = 0 → x < 200 := fun x hx => by have := a2 x ((hcol1 x).mp hx).2; omega
      have H0 : rc_HC (rc_up col c 1) (rc_kk E own col a_slots a_cellLeft a_cellRight) D ho de (nI D.length) := by
        refine ⟨fun x hx => k1 x ((hcol1 x).mp hx).2, rfl, k3.2, hnd, fun x => ?_⟩
        constructor
        · intro hx
          have := (k5 x).mp (List.mem_cons_of_mem _ hx)
          exact ⟨(hcol1 x).mpr ⟨fun e => hcD (e ▸ hx), this.1⟩, this.2⟩
        · intro hx
          obtain ⟨w1, w2⟩ := (hcol1 x).mp hx.1
          rcases List.mem_cons.mp ((k5 x).mpr ⟨w2, hx.2⟩) with e | e
          · exact absurd e w1
          · exact e
      have hb9 : ∀ x, rc_kk E own col a_slots a_cellLeft a_cellRight x < 1000 := fun x => by
        have := rc_kk_le (own := own) (col := col) (sl := a_slots) (cl := a_cellLeft) (cr := a_cellRight) h9 x; omega
      obtain ⟨D2, ho2, de2, dc2, H2, W2⟩ := rx_unh (k' := fun x => rc_kk E own (rc_up col c 1) a_slots a_cellLeft a_cellRight x + rc_is (a_cellRight c) x) (v := a_cellLeft c) (f_kindRet := f_kindRet) (f_kindTail := f_kindTail) (f_kindBind := f_kindBind) (f_kindCon := f_kindCon) (f_kindPrim := f_kindPrim) (f_kindCall := f_kindCall) (f_kindMatch := f_kindMatch) (f_kindTest := f_kindTest) (f_cellBase := f_cellBase) (f_heapSize := f_heapSize) (f_depthLimit := f_depthLimit) (f_nodeLimit := f_nodeLimit) (f_nodeCount := f_nodeCount) (f_fragmentCount := f_fragmentCount) (f_frames := f_frames) (f_at := f_at) (f_deadCount := nI D.length) (f_freeHead := fh) (f_fresh := f_fresh) (f_liveCells := lc) (f_spareTotal := f_spareTotal) (f_counted := f_counted) (f_status := f_status) (f_made := f_made) (f_reused := f_reused) (f_peak := f_peak) (f_calls := f_calls) (f_result := f_result) (f_resultCells := f_resultCells) (a_nodeKind := a_nodeKind) (a_nodeX := a_nodeX) (a_nodeParam := a_nodeParam) (a_nodeA := a_nodeA) (a_nodeB := a_nodeB) (a_nodeNext := a_nodeNext) (a_nodeElse := a_nodeElse) (a_nodeFree := a_nodeFree) (a_nodeNeed := a_nodeNeed) (a_fragments := a_fragments) (a_body := a_body) (a_slots := a_slots) (a_waiting := a_waiting) (a_spareHead := a_spareHead) (a_spareCount := a_spareCount) (a_cellTag := a_cellTag) (a_cellLeft := a_cellLeft) (a_cellRight := a_cellRight) (a_holds := ho) (a_link := li) (a_dead := de) (a_cellOfNumber := a_cellOfNumber) (a_numberOfCell := a_numberOfCell) (a_places := a_places) (a_walk := a_walk) hct hc1lt H0 (fvc c hc0).1 (fun x _ => hkk x) hb9
      obtain ⟨D3, ho3, de3, dc3, H3, W3⟩ := rx_unh (k' := rc_kk E own (rc_up col c 1) a_slots a_cellLeft a_cellRight) (v := a_cellRight c) (f_kindRet := f_kindRet) (f_kindTail := f_kindTail) (f_kindBind := f_kindBind) (f_kindCon := f_kindCon) (f_kindPrim := f_kindPrim) (f_kindCall := f_kindCall) (f_kindMatch := f_kindMatch) (f_kindTest := f_kindTest) (f_cellBase := f_cellBase) (f_heapSize := f_heapSize) (f_depthLimit := f_depthLimit) (f_nodeLimit := f_nodeLimit) (f_nodeCount := f_nodeCount) (f_fragmentCount := f_fragmentCount) (f_frames := f_frames) (f_at := f_at) (f_deadCount := dc2) (f_freeHead := fh) (f_fresh := f_fresh) (f_liveCells := lc) (f_spareTotal := f_spareTotal) (f_counted := f_counted) (f_status := f_status) (f_made := f_made) (f_reused := f_reused) (f_peak := f_peak) (f_calls := f_calls) (f_result := f_result) (f_resultCells := f_resultCells) (a_nodeKind := a_nodeKind) (a_nodeX := a_nodeX) (a_nodeParam := a_nodeParam) (a_nodeA := a_nodeA) (a_nodeB := a_nodeB) (a_nodeNext := a_nodeNext) (a_nodeElse := a_nodeElse) (a_nodeFree := a_nodeFree) (a_nodeNeed := a_nodeNeed) (a_fragments := a_fragments) (a_body := a_body) (a_slots := a_slots) (a_waiting := a_waiting) (a_spareHead := a_spareHead) (a_spareCount := a_spareCount) (a_cellTag := a_cellTag) (a_cellLeft := a_cellLeft) (a_cellRight := a_cellRight) (a_holds := ho2) (a_link := li) (a_dead := de2) (a_cellOfNumber := a_cellOfNumber) (a_numberOfCell := a_numberOfCell) (a_places := a_places) (a_walk := a_walk) hct hc1lt H2 (fvc c hc0).2 (fun x _ => rfl) (fun x => by have := hkk x; have := hb9 x; omega)
      have hct1 := rc_ct_off (k := 1) hc2 hc0 (by omega)
      have I1 : (rc_XI lim fr E own (rc_up col c 1) D3 (c :: F) S fs f_counted a_slots a_cellLeft a_cellRight ho3 (upd li c fh) de3 a_spareHead a_spareCount dc3 (nI c) f_fresh (lc - 1) f_spareTotal) := by
        refine ⟨⟨a1, fun x hx => a2 x ((hcol1 x).mp hx).2, fun d hd => fvc d ((hcol1 d).mp hd).2, fun i hi ho => ?_⟩, ⟨fun _ => ⟨h9, H3⟩, fun h => absurd h hct⟩, ⟨⟨⟨rfl, ?_⟩, ?_, ?_⟩, fun f hf => ?_⟩, d1, ?_, d3⟩
        · refine rc_FV_m (a4 i hi ho) fun x hx hx0 e => (hcol1 x).mpr ⟨fun ex => ?_, hx0⟩
          subst ex
          have := rc_rt_ge (sl := a_slots) hi ho e
          omega
        · rw [pk_us]
          exact rc_lk_u (fun hm => by have := (c1.2.2 c hm).2; omega) c1.1
        · exact List.nodup_cons.mpr ⟨fun hm => by have := (c1.2.2 c hm).2; omega, c1.2.1⟩
        · intro x hx
          rcases List.mem_cons.mp hx with e | e
          · subst e; exact ⟨hcf, rc_up_s⟩
          · have w := c1.2.2 x e
            exact ⟨w.1, by rw [rc_up_n (fun ex => by subst ex; omega)]; exact w.2⟩
        · have w := c2 f hf
          refine ⟨rc_LS_u (rc_LS_col w.1 fun x hx => ?_) ?_, w.2⟩
          · rw [rc_up_n (fun ex => by subst ex; omega)]; exact hx
          · rw [rc_up_s]; omega
        · rw [d2, show rc_ct col + lim = (rc_ct (rc_up col c 1) + lim) + 1 from by omega, nI_pred]
      obtain ⟨col', F', ho', li', de', fh', lc', I', p1, p2, p3, W'⟩ := ih (r + 1) (rc_up col c 1) D3 (c :: F) ho3 (upd li c fh) de3 dc3 (nI c) (lc - 1) (by omega) (by omega) I1
      refine ⟨col', F', ho', li', de', fh', lc', I', fun x hx => ((hcol1 x).mp (p1 x hx)).2, fun x hx => ?_, fun x hx hr' => ?_, fun post n hn hp => ?_⟩
      · have hne : x ≠ c := fun e => hx (e ▸ hc0)
        rw [p2 x (by rw [rc_up_n hne]; exact hx), rc_up_n hne]
      · have hne : x ≠ c := fun e => by subst e; omega
        exact p3 x ((hcol1 x).mpr ⟨hne, hx⟩) hr'
      · obtain ⟨n, rfl⟩ : ∃ q, n = q + 1 := ⟨n - 1, by omega⟩
        have hin : vp_in (nI c) 200 := vp_in_nI hc2 (by decide)
        have hDl : D.length + 1 ≤ 200 := by
          have : (c :: D).length ≤ 200 := rc_nd_len k4 (fun x hx => by have := a2 x ((k5 x).mp hx).1; omega)
          exact this
        have hdc : dc = nI (D.length + 1) := k2
        refine br_f (nI_ge (b := 200) (by omega) (by decide)) (br_f ?_ (nm_r (e' := nI D.length) ?_ ⟨vp_in_nI (by omega) (by decide), nm_r (e' := nI c) ?_ ⟨hin, ?_⟩⟩))
        · rw [hdc]; exact nI_nle (by omega) (by omega)
        · rw [hdc, nI_pred]
        · rw [nI_clamp (by omega)]; exact k3.1
        · rw [nI_clamp hcl]
          refine W2 _ ⟨hin, W3 _ (nm_e ⟨hin, nm_r (e' := upd li c fh) (by simp only [nI_clamp hcl]) (nm_r (e' := nI (r + 1)) (nI_1 r) ?_)⟩)⟩
          exact W' post n (by omega) hp
/-- sweep, both modes -/
theorem rx_sweep {col : Nat → Nat} {D F : List Nat} (I : (rc_XI lim fr E own col D F S fs f_counted a_slots a_cellLeft a_cellRight a_holds a_link a_dead a_spareHead a_spareCount f_deadCount f_freeHead f_fresh f_liveCells f_spareTotal)) : ∃ (col' : Nat → Nat) (F' : List Nat) (ho' li' de' : Nat → Int32) (fh' lc' : Int32), (rc_XI lim fr E own col' ([]) F' S fs f_counted a_slots a_cellLeft a_cellRight ho' li' de' a_spareHead a_spareCount 0 fh' f_fresh lc' f_spareTotal) ∧ (∀ c, col' c = 0 → col c = 0) ∧ (∀ c, col c ≠ 0 → col' c = col c) ∧ (∀ c, col c = 0 → E c + rc_rt own a_slots c ≠ 0 → col' c = 0) ∧ (f_counted = 0 → col' = col ∧ F' = F) ∧ ∀ (post : SX → Prop), post (f_kindRet, f_kindTail, f_kindBind, f_kindCon, f_kindPrim, f_kindCall, f_kindMatch, f_kindTest, f_cellBase, f_heapSize, f_depthLimit, f_nodeLimit, f_nodeCount, f_fragmentCount, f_frames, f_at, 0, fh', f_fresh, lc', f_spareTotal, f_counted, f_status, f_made, f_reused, f_peak, f_calls, f_result, f_resultCells, a_nodeKind, a_nodeX, a_nodeParam, a_nodeA, a_nodeB, a_nodeNext, a_nodeElse, a_nodeFree, a_nodeNeed, a_fragments, a_body, a_slots, a_waiting, a_spareHead, a_spareCount, a_cellTag, a_cellLeft, a_cellRight, ho', li', de', a_cellOfNumber, a_numberOfCell, a_places, a_walk) → wpX_sweep post (f_kindRet, f_kindTail, f_kindBind, f_kindCon, f_kindPrim, f_kindCall, f_kindMatch, f_kindTest, f_cellBase, f_heapSize, f_depthLimit, f_nodeLimit, f_nodeCount, f_fragmentCount, f_frames, f_at, f_deadCount, f_freeHead, f_fresh, f_liveCells, f_spareTotal, f_counted, f_status, f_made, f_reused, f_peak, f_calls, f_result, f_resultCells, a_nodeKind, a_nodeX, a_nodeParam, a_nodeA, a_nodeB, a_nodeNext, a_nodeElse, a_nodeFree, a_nodeNeed, a_fragments, a_body, a_slots, a_waiting, a_spareHead, a_spareCount, a_cellTag, a_cellLeft, a_cellRight, a_holds, a_link, a_dead, a_cellOfNumber, a_numberOfCell, a_places, a_walk) := by
  by_cases hct : f_counted = 0
  · obtain ⟨e1, e2⟩ := I.2.1.2 hct
    subst e1 e2
    exact ⟨col, F, a_holds, a_link, a_dead, f_freeHead, f_liveCells, I, fun _ h => h, fun _ _ => rfl, fun _ h _ => h, fun _ => ⟨rfl, rfl⟩, fun post hp => ⟨1, br_f (by decide) (br_t (by decide) hp)⟩⟩
  · obtain ⟨col', F', ho', li', de', fh', lc', I', p1, p2, p3, W'⟩ := rx_sweep_lp (f_kindRet := f_kindRet) (f_kindTail := f_kindTail) (f_kindBind := f_kindBind) (f_kindCon := f_kindCon) (f_kindPrim := f_kindPrim) (f_kindCall := f_kindCall) (f_kindMatch := f_kindMatch) (f_kindTest := f_kindTest) (f_cellBase := f_cellBase) (f_heapSize := f_heapSize) (f_depthLimit := f_depthLimit) (f_nodeLimit := f_nodeLimit) (f_nodeCount := f_nodeCount) (f_fragmentCount := f_fragmentCount) (f_frames := f_frames) (f_at := f_at) (f_fresh := f_fresh) (f_spareTotal := f_spareTotal) (f_counted := f_counted) (f_status := f_status) (f_made := f_made) (f_reused := f_reused) (f_peak := f_peak) (f_calls := f_calls) (f_result := f_result) (f_resultCells := f_resultCells) (a_nodeKind := a_nodeKind) (a_nodeX := a_nodeX) (a_nodeParam := a_nodeParam) (a_nodeA := a_nodeA) (a_nodeB := a_nodeB) (a_nodeNext := a_nodeNext) (a_nodeElse := a_nodeElse) (a_nodeFree := a_nodeFree) (a_nodeNeed := a_nodeNeed) (a_fragments := a_fragments) (a_body := a_body) (a_slots := a_slots) (a_waiting := a_waiting) (a_spareHead := a_spareHead) (a_spareCount := a_spareCount) (a_cellTag := a_cellTag) (a_cellLeft := a_cellLeft) (a_cellRight := a_cellRight) (a_cellOfNumber := a_cellOfNumber) (a_numberOfCell := a_numberOfCell) (a_places := a_places) (a_walk := a_walk) hct (rc_ct col) 0 col D F a_holds a_link a_dead f_deadCount f_freeHead f_liveCells rfl (rc_ct_le col) I
    exact ⟨col', F', ho', li', de', fh', lc', I', p1, p2, p3, fun h => absurd h hct, fun post hp => ⟨rc_ct col + 1, W' post _ (by omega) hp⟩⟩
end
end
section
/-! owned slots: per frame a set of bits -/
def rc_ow (fr : Nat) (ss : Nat → Int32) : Nat → Bool := fun i => decide (i / 12 < fr) && bt (ss (i / 12)) (i % 12)
theorem rc_ow_ext {fr : Nat} {ss ss' : Nat → Int32} (h : ∀ f, f < fr → ∀ s, s < 12 → bt (ss f) s = bt (ss' f) s) : rc_ow fr ss = rc_ow fr ss' := by
  funext i
  unfold rc_ow
  by_cases hf : i / 12 < fr
  · rw [h (i / 12) hf (i % 12) (Nat.mod_lt _ (by decide))]
  · rw [decide_eq_false hf]; rfl
theorem rc_ow_t {fr : Nat} {ss : Nat → Int32} {i : Nat} (h : rc_ow fr ss i = true) : i / 12 < fr ∧ bt (ss (i / 12)) (i % 12) = true := by
  unfold rc_ow at h
  rw [Bool.and_eq_true, decide_eq_true_eq] at h
  exact h
theorem rc_ow_i {fr : Nat} {ss : Nat → Int32} {f s : Nat} (hf : f < fr) (hs : s < 12) : rc_ow fr ss (12 * f + s) = bt (ss f) s := by
  unfold rc_ow
  have e1 : (12 * f + s) / 12 = f := by omega
  have e2 : (12 * f + s) % 12 = s := by omega
  rw [e1, e2, decide_eq_true hf, Bool.true_and]
def rc_gv (own : Nat → Bool) (top : Nat) (set : Int32) (s : Nat) : Nat → Bool := fun i => own i && !(decide (i / 12 = top) && decide (i % 12 < s) && bt set (i % 12))
theorem rc_gv_0 {own : Nat → Bool} {top : Nat} {set : Int32} : rc_gv own top set 0 = own := by
  funext i; unfold rc_gv; simp
theorem rc_gv_n {own : Nat → Bool} {top s : Nat} {set : Int32} (hs : s < 12) (h : bt set s = false) : rc_gv own top set (s + 1) = rc_gv own top set s := by
  funext i; unfold rc_gv
  by_cases h1 : i % 12 = s
  · rw [h1, h]; simp
  · have : decide (i % 12 < s + 1) = decide (i % 12 < s) := by
      apply decide_eq_decide.mpr; omega
    rw [this]
theorem rc_gv_s {own : Nat → Bool} {top s : Nat} {set : Int32} (hs : s < 12) (h : bt set s = true) : rc_gv own top set (s + 1) = rc_st (rc_gv own top set s) (12 * top + s) false := by
  funext i; unfold rc_gv rc_st
  by_cases h1 : i = 12 * top + s
  · have e1 : i / 12 = top := by omega
    have e2 : i % 12 = s := by omega
    rw [if_pos h1, e1, e2, h]; simp
  · rw [if_neg h1]
    by_cases h2 : i / 12 = top
    · have : decide (i % 12 < s + 1) = decide (i % 12 < s) := by
        apply decide_eq_decide.mpr; omega
      rw [this]
    · simp [h2]
theorem rc_gv_12 {fr : Nat} {ss : Nat → Int32} {set : Int32} {top : Nat} : rc_gv (rc_ow fr ss) top set 12 = rc_ow fr (upd ss top (ss top &&& (set ^^^ (-1)))) := by
  funext i; unfold rc_gv rc_ow
  have hm : i % 12 < 12 := Nat.mod_lt _ (by decide)
  rw [decide_eq_true hm]
  by_cases h2 : i / 12 = top
  · rw [h2, pk_us, rc_andn (by omega)]; simp [Bool.and_assoc]
  · rw [decide_eq_false h2, pk_un h2]; simp
section
variable {f_kindRet f_kindTail f_kindBind f_kindCon f_kindPrim f_kindCall f_kindMatch f_kindTest f_heapSize f_depthLimit f_nodeLimit f_nodeCount f_fragmentCount f_frames f_at f_deadCount f_freeHead f_fresh f_liveCells f_spareTotal f_counted f_status f_made f_reused f_peak f_calls f_resultCells : Int32} {f_cellBase f_result : Int64} {a_nodeKind a_nodeX a_nodeParam a_nodeA a_nodeB a_nodeNext a_nodeElse a_nodeFree a_nodeNeed a_fragments a_body a_waiting a_spareHead a_spareCount a_cellTag a_holds a_link a_dead a_cellOfNumber a_numberOfCell a_places a_walk : Nat → Int32} {a_slots a_cellLeft a_cellRight : Nat → Int64}
variable {lim fr fs : Nat} {E : Nat → Nat} {own : Nat → Bool} {S : Nat → List Nat}
theorem rc_A_own {own own' : Nat → Bool} {col : Nat → Nat} {sl cl cr : Nat → Int64} (h : rc_A fs own col sl cl cr) (e : ∀ i, own' i = true → own i = true) : rc_A fs own' col sl cl cr :=
  ⟨h.1, h.2.1, h.2.2.1, fun i hi ho => h.2.2.2 i hi (e i ho)⟩
/-- one hold of an owned slot goes: X's unhold of the slot's value -/
theorem rx_unhS {col : Nat → Nat} {D F : List Nat} {i : Nat} (hct : ¬ f_counted = 0) (hi : i < 192) (ho : own i = true) (I : (rc_XI lim fr E own col D F S fs f_counted a_slots a_cellLeft a_cellRight a_holds a_link a_dead a_spareHead a_spareCount f_deadCount f_freeHead f_fresh f_liveCells f_spareTotal)) : ∃ (D2 : List Nat) (ho2 de2 : Nat → Int32) (dc2 : Int32), (rc_XI lim fr E (rc_st own i false) col D2 F S fs f_counted a_slots a_cellLeft a_cellRight ho2 a_link de2 a_spareHead a_spareCount dc2 f_freeHead f_fresh f_liveCells f_spareTotal) ∧ ∀ post : SX → Prop, post (f_kindRet, f_kindTail, f_kindBind, f_kindCon, f_kindPrim, f_kindCall, f_kindMatch, f_kindTest, f_cellBase, f_heapSize, f_depthLimit, f_nodeLimit, f_nodeCount, f_fragmentCount, f_frames, f_at, dc2, f_freeHead, f_fresh, f_liveCells, f_spareTotal, f_counted, f_status, f_made, f_reused, f_peak, f_calls, f_result, f_resultCells, a_nodeKind, a_nodeX, a_nodeParam, a_nodeA, a_nodeB, a_nodeNext, a_nodeElse, a_nodeFree, a_nodeNeed, a_fragments, a_body, a_slots, a_waiting, a_spareHead, a_spareCount, a_cellTag, a_cellLeft, a_cellRight, ho2, a_link, de2, a_cellOfNumber, a_numberOfCell, a_places, a_walk) → wpX_unhold post (f_kindRet, f_kindTail, f_kindBind, f_kindCon, f_kindPrim, f_kindCall, f_kindMatch, f_kindTest, f_cellBase, f_heapSize, f_depthLimit, f_nodeLimit, f_nodeCount, f_fragmentCount, f_frames, f_at, f_deadCount, f_freeHead, f_fresh, f_liveCells, f_spareTotal, f_counted, f_status, f_made, f_reused, f_peak, f_calls, f_result, f_resultCells, a_nodeKind, a_nodeX, a_nodeParam, a_nodeA, a_nodeB, a_nodeNext, a_nodeElse, a_nodeFree, a_nodeNeed, a_fragments, a_body, a_slots, a_waiting, a_spareHead, a_spareCount, a_cellTag, a_cellLeft, a_cellRight, a_holds, a_link, a_dead, a_cellOfNumber, a_numberOfCell, a_places, a_walk) (a_slots i) := by
  obtain ⟨hA, hB, hC, hD⟩ := I
  obtain ⟨h9, hH⟩ := hB.1 hct
  obtain ⟨D2, ho2, de2, dc2, H2, W2⟩ := rx_unh (k' := rc_kk E (rc_st own i false) col a_slots a_cellLeft a_cellRight) (v := a_slots i) (f_kindRet := f_kindRet) (f_kindTail := f_kindTail) (f_kindBind := f_kindBind) (f_kindCon := f_kindCon) (f_kindPrim := f_kindPrim) (f_kindCall := f_kindCall) (f_kindMatch := f_kindMatch) (f_kindTest := f_kindTest) (f_cellBase := f_cellBase) (f_heapSize := f_heapSize) (f_depthLimit := f_depthLimit) (f_nodeLimit := f_nodeLimit) (f_nodeCount := f_nodeCount) (f_fragmentCount := f_fragmentCount) (f_frames := f_frames) (f_at := f_at) (f_deadCount := f_deadCount) (f_freeHead := f_freeHead) (f_fresh := f_fresh) (f_liveCells := f_liveCells) (f_spareTotal := f_spareTotal) (f_counted := f_counted) (f_status := f_status) (f_made := f_made) (f_reused := f_reused) (f_peak := f_peak) (f_calls := f_calls) (f_result := f_result) (f_resultCells := f_resultCells) (a_nodeKind := a_nodeKind) (a_nodeX := a_nodeX) (a_nodeParam := a_nodeParam) (a_nodeA := a_nodeA) (a_nodeB := a_nodeB) (a_nodeNext := a_nodeNext) (a_nodeElse := a_nodeElse) (a_nodeFree := a_nodeFree) (a_nodeNeed := a_nodeNeed) (a_fragments := a_fragments) (a_body := a_body) (a_slots := a_slots) (a_waiting := a_waiting) (a_spareHead := a_spareHead) (a_spareCount := a_spareCount) (a_cellTag := a_cellTag) (a_cellLeft := a_cellLeft) (a_cellRight := a_cellRight) (a_holds := a_holds) (a_link := a_link) (a_dead := a_dead) (a_cellOfNumber := a_cellOfNumber) (a_numberOfCell := a_numberOfCell) (a_places := a_places) (a_walk := a_walk) hct (fun x hx => by have := hA.2.1 x hx; have := hA.1; omega) hH (hA.2.2.2 i hi ho) (fun x _ => by
    unfold rc_kk; rw [rc_rt_off hi ho x]; omega) (fun x => by have := rc_kk_le (own := own) (col := col) (sl := a_slots) (cl := a_cellLeft) (cr := a_cellRight) h9 x; omega)
  refine ⟨D2, ho2, de2, dc2, ⟨rc_A_own hA fun j hj => ?_, ⟨fun _ => ⟨h9, H2⟩, fun h => absurd h hct⟩, hC, hD⟩, W2⟩
  unfold rc_st at hj
  split at hj
  · exact absurd hj (by decide)
  · exact hj
/-- a hold in hand goes -/
theorem rx_unhE {col : Nat → Nat} {D F : List Nat} {v : Int64} (hv : rc_FV col v) (I : (rc_XI lim fr (fun c => E c + rc_is v c) own col D F S fs f_counted a_slots a_cellLeft a_cellRight a_holds a_link a_dead a_spareHead a_spareCount f_deadCount f_freeHead f_fresh f_liveCells f_spareTotal)) : ∃ (D2 : List Nat) (ho2 de2 : Nat → Int32) (dc2 : Int32), (rc_XI lim fr E own col D2 F S fs f_counted a_slots a_cellLeft a_cellRight ho2 a_link de2 a_spareHead a_spareCount dc2 f_freeHead f_fresh f_liveCells f_spareTotal) ∧ ∀ post : SX → Prop, post (f_kindRet, f_kindTail, f_kindBind, f_kindCon, f_kindPrim, f_kindCall, f_kindMatch, f_kindTest, f_cellBase, f_heapSize, f_depthLimit, f_nodeLimit, f_nodeCount, f_fragmentCount, f_frames, f_at, dc2, f_freeHead, f_fresh, f_liveCells, f_spareTotal, f_counted, f_status, f_made, f_reused, f_peak, f_calls, f_result, f_resultCells, a_nodeKind, a_nodeX, a_nodeParam, a_nodeA, a_nodeB, a_nodeNext, a_nodeElse, a_nodeFree, a_nodeNeed, a_fragments, a_body, a_slots, a_waiting, a_spareHead, a_spareCount, a_cellTag, a_cellLeft, a_cellRight, ho2, a_link, de2, a_cellOfNumber, a_numberOfCell, a_places, a_walk) → wpX_unhold post (f_kindRet, f_kindTail, f_kindBind, f_kindCon, f_kindPrim, f_kindCall, f_kindMatch, f_kindTest, f_cellBase, f_heapSize, f_depthLimit, f_nodeLimit, f_nodeCount, f_fragmentCount, f_frames, f_at, f_deadCount, f_freeHead, f_fresh, f_liveCells, f_spareTotal, f_counted, f_status, f_made, f_reused, f_peak, f_calls, f_result, f_resultCells, a_nodeKind, a_nodeX, a_nodeParam, a_nodeA, a_nodeB, a_nodeNext, a_nodeElse, a_nodeFree, a_nodeNeed, a_fragments, a_body, a_slots, a_waiting, a_spareHead, a_spareCount, a_cellTag, a_cellLeft, a_cellRight, a_holds, a_link, a_dead, a_cellOfNumber, a_numberOfCell, a_places, a_walk) v := by
  obtain ⟨hA, hB, hC, hD⟩ := I
  by_cases hct : f_counted = 0
  · exact ⟨D, a_holds, a_dead, f_deadCount, ⟨hA, ⟨fun h => absurd hct h, hB.2⟩, hC, hD⟩, fun post hp => br_t hct hp⟩
  · obtain ⟨h9, hH⟩ := hB.1 hct
    obtain ⟨D2, ho2, de2, dc2, H2, W2⟩ := rx_unh (k' := rc_kk E own col a_slots a_cellLeft a_cellRight) (v := v) (f_kindRet := f_kindRet) (f_kindTail := f_kindTail) (f_kindBind := f_kindBind) (f_kindCon := f_kindCon) (f_kindPrim := f_kindPrim) (f_kindCall := f_kindCall) (f_kindMatch := f_kindMatch) (f_kindTest := f_kindTest) (f_cellBase := f_cellBase) (f_heapSize := f_heapSize) (f_depthLimit := f_depthLimit) (f_nodeLimit := f_nodeLimit) (f_nodeCount := f_nodeCount) (f_fragmentCount := f_fragmentCount) (f_frames := f_frames) (f_at := f_at) (f_deadCount := f_deadCount) (f_freeHead := f_freeHead) (f_fresh := f_fresh) (f_liveCells := f_liveCells) (f_spareTotal := f_spareTotal) (f_counted := f_counted) (f_status := f_status) (f_made := f_made) (f_reused := f_reused) (f_peak := f_peak) (f_calls := f_calls) (f_result := f_result) (f_resultCells := f_resultCells) (a_nodeKind := a_nodeKind) (a_nodeX := a_nodeX) (a_nodeParam := a_nodeParam) (a_nodeA := a_nodeA) (a_nodeB := a_nodeB) (a_nodeNext := a_nodeNext) (a_nodeElse := a_nodeElse) (a_nodeFree := a_nodeFree) (a_nodeNeed := a_nodeNeed) (a_fragments := a_fragments) (a_body := a_body) (a_slots := a_slots) (a_waiting := a_waiting) (a_spareHead := a_spareHead) (a_spareCount := a_spareCount) (a_cellTag := a_cellTag) (a_cellLeft := a_cellLeft) (a_cellRight := a_cellRight) (a_holds := a_holds) (a_link := a_link) (a_dead := a_dead) (a_cellOfNumber := a_cellOfNumber) (a_numberOfCell := a_numberOfCell) (a_places := a_places) (a_walk := a_walk) hct (fun x hx => by have := hA.2.1 x hx; have := hA.1; omega) hH hv (fun x _ => by
      unfold rc_kk; dsimp only; omega) (fun x => by have := rc_kk_le (own := own) (col := col) (sl := a_slots) (cl := a_cellLeft) (cr := a_cellRight) h9 x; omega)
    exact ⟨D2, ho2, de2, dc2, ⟨hA, ⟨fun _ => ⟨fun c => Nat.le_trans (Nat.le_add_right _ _) (h9 c), H2⟩, fun h => absurd h hct⟩, hC, hD⟩, W2⟩
theorem rx_give_lp {col : Nat → Nat} {F : List Nat} {top : Nat} {set : Int32} (hct : ¬ f_counted = 0) (htop : top < 16) (hset : ∀ s, s < 12 → bt set s = true → own (12 * top + s) = true) : ∀ (d s : Nat), s + d = 12 → ∀ (D : List Nat) (ho de : Nat → Int32) (dc : Int32), (rc_XI lim fr E (rc_gv own top set s) col D F S fs f_counted a_slots a_cellLeft a_cellRight ho a_link de a_spareHead a_spareCount dc f_freeHead f_fresh f_liveCells f_spareTotal) → ∃ (col' : Nat → Nat) (F' : List Nat) (ho' li' de' : Nat → Int32) (fh' lc' : Int32), (rc_XI lim fr E (rc_gv own top set 12) col' ([]) F' S fs f_counted a_slots a_cellLeft a_cellRight ho' li' de' a_spareHead a_spareCount 0 fh' f_fresh lc' f_spareTotal) ∧ (∀ c, col' c = 0 → col c = 0) ∧ (∀ c, col c ≠ 0 → col' c = col c) ∧ (∀ c, col c = 0 → E c + rc_rt (rc_gv own top set 12) a_slots c ≠ 0 → col' c = 0) ∧ ∀ (post : SX → Prop) (n : Nat), d < n → post (f_kindRet, f_kindTail, f_kindBind, f_kindCon, f_kindPrim, f_kindCall, f_kindMatch, f_kindTest, f_cellBase, f_heapSize, f_depthLimit, f_nodeLimit, f_nodeCount, f_fragmentCount, f_frames, f_at, 0, fh', f_fresh, lc', f_spareTotal, f_counted, f_status, f_made, f_reused, f_peak, f_calls, f_result, f_resultCells, a_nodeKind, a_nodeX, a_nodeParam, a_nodeA, a_nodeB, a_nodeNext, a_nodeElse, a_nodeFree, a_nodeNeed, a_fragments, a_body, a_slots, a_waiting, a_spareHead, a_spareCount, a_cellTag, a_cellLeft, a_cellRight, ho', li', de', a_cellOfNumber, a_numberOfCell, a_places, a_walk) → wX_giveUpSlots_19 post set (nI (12 * top)) n (nI s) f_kindRet f_kindTail f_kindBind f_kindCon f_kindPrim f_kindCall f_kindMatch f_kindTest f_cellBase f_heapSize f_depthLimit f_nodeLimit f_nodeCount f_fragmentCount f_frames f_at dc f_freeHead f_fresh f_liveCells f_spareTotal f_counted f_status f_made f_reused f_peak f_calls f_result f_resultCells a_nodeKind a_nodeX a_nodeParam a_nodeA a_nodeB a_nodeNext a_nodeElse a_nodeFree a_nodeNeed a_fragments a_body a_slots a_waiting a_spareHead a_spareCount a_cellTag a_cellLeft a_cellRight ho a_link de a_cellOfNumber a_numberOfCell a_places a_walk := by
  intro d
  induction d with
  | zero =>
    intro s hs D ho de dc I
    have e : s = 12 := by omega
    subst e
    obtain ⟨col', F', ho', li', de', fh', lc', I', p1, p2, p3, _, W⟩ := rx_sweep (f_kindRet := f_kindRet) (f_kindTail := f_kindTail) (f_kindBind := f_kindBind) (f_kindCon := f_kindCon) (f_kindPrim := f_kindPrim) (f_kindCall := f_kindCall) (f_kindMatch := f_kindMatch) (f_kindTest := f_kindTest) (f_cellBase := f_cellBase) (f_heapSize := f_heapSize) (f_depthLimit := f_depthLimit) (f_nodeLimit := f_nodeLimit) (f_nodeCount := f_nodeCount) (f_fragmentCount := f_fragmentCount) (f_frames := f_frames) (f_at := f_at) (f_deadCount := dc) (f_freeHead := f_freeHead) (f_fresh := f_fresh) (f_liveCells := f_liveCells) (f_spareTotal := f_spareTotal) (f_counted := f_counted) (f_status := f_status) (f_made := f_made) (f_reused := f_reused) (f_peak := f_peak) (f_calls := f_calls) (f_result := f_result) (f_resultCells := f_resultCells) (a_nodeKind := a_nodeKind) (a_nodeX := a_nodeX) (a_nodeParam := a_nodeParam) (a_nodeA := a_nodeA) (a_nodeB := a_nodeB) (a_nodeNext := a_nodeNext) (a_nodeElse := a_nodeElse) (a_nodeFree := a_nodeFree) (a_nodeNeed := a_nodeNeed) (a_fragments := a_fragments) (a_body := a_body) (a_slots := a_slots) (a_waiting := a_waiting) (a_spareHead := a_spareHead) (a_spareCount := a_spareCount) (a_cellTag := a_cellTag) (a_cellLeft := a_cellLeft) (a_cellRight := a_cellRight) (a_holds := ho) (a_link := a_link) (a_dead := de) (a_cellOfNumber := a_cellOfNumber) (a_numberOfCell := a_numberOfCell) (a_places := a_places) (a_walk := a_walk) I
    refine ⟨col', F', ho', li', de', fh', lc', I', p1, p2, p3, fun post n hn hp => ?_⟩
    obtain ⟨n, rfl⟩ : ∃ q, n = q + 1 := ⟨n - 1, by omega⟩
    exact br_t (by decide) (W _ hp)
  | succ d ih =>
    intro s hs D ho de dc I
    have hs12 : s < 12 := by omega
    have hns : ¬ (12 : Int32) ≤ nI s := nI_ge (b := 12) hs12 (by decide)
    cases hb : bt set s with
    | false =>
      rw [← rc_gv_n hs12 hb] at I
      obtain ⟨col', F', ho', li', de', fh', lc', I', p1, p2, p3, W⟩ := ih (s + 1) (by omega) D ho de dc I
      refine ⟨col', F', ho', li', de', fh', lc', I', p1, p2, p3, fun post n hn hp => ?_⟩
      obtain ⟨n, rfl⟩ : ∃ q, n = q + 1 := ⟨n - 1, by omega⟩
      exact br_f hns (br_t ((rc_tx hs12).mpr hb) (nm_r (nI_1 s) (W post n (by omega) hp)))
    | true =>
      have hown := hset s hs12 hb
      have hgv : rc_gv own top set s (12 * top + s) = true := by
        unfold rc_gv
        have e2 : (12 * top + s) % 12 = s := by omega
        rw [hown, e2]; simp
      obtain ⟨D2, ho2, de2, dc2, I2, W2⟩ := rx_unhS (f_kindRet := f_kindRet) (f_kindTail := f_kindTail) (f_kindBind := f_kindBind) (f_kindCon := f_kindCon) (f_kindPrim := f_kindPrim) (f_kindCall := f_kindCall) (f_kindMatch := f_kindMatch) (f_kindTest := f_kindTest) (f_cellBase := f_cellBase) (f_heapSize := f_heapSize) (f_depthLimit := f_depthLimit) (f_nodeLimit := f_nodeLimit) (f_nodeCount := f_nodeCount) (f_fragmentCount := f_fragmentCount) (f_frames := f_frames) (f_at := f_at) (f_deadCount := dc) (f_freeHead := f_freeHead) (f_fresh := f_fresh) (f_liveCells := f_liveCells) (f_spareTotal := f_spareTotal) (f_counted := f_counted) (f_status := f_status) (f_made := f_made) (f_reused := f_reused) (f_peak := f_peak) (f_calls := f_calls) (f_result := f_result) (f_resultCells := f_resultCells) (a_nodeKind := a_nodeKind) (a_nodeX := a_nodeX) (a_nodeParam := a_nodeParam) (a_nodeA := a_nodeA) (a_nodeB := a_nodeB) (a_nodeNext := a_nodeNext) (a_nodeElse := a_nodeElse) (a_nodeFree := a_nodeFree) (a_nodeNeed := a_nodeNeed) (a_fragments := a_fragments) (a_body := a_body) (a_slots := a_slots) (a_waiting := a_waiting) (a_spareHead := a_spareHead) (a_spareCount := a_spareCount) (a_cellTag := a_cellTag) (a_cellLeft := a_cellLeft) (a_cellRight := a_cellRight) (a_holds := ho) (a_link := a_link) (a_dead := de) (a_cellOfNumber := a_cellOfNumber) (a_numberOfCell := a_numberOfCell) (a_places := a_places) (a_walk := a_walk) hct (i := 12 * top + s) (by omega) hgv I
      rw [← rc_gv_s hs12 hb] at I2
      obtain ⟨col', F', ho', li', de', fh', lc', I', p1, p2, p3, W⟩ := ih (s + 1) (by omega) D2 ho2 de2 dc2 I2
      refine ⟨col', F', ho', li', de', fh', lc', I', p1, p2, p3, fun post n hn hp => ?_⟩
      obtain ⟨n, rfl⟩ : ∃ q, n = q + 1 := ⟨n - 1, by omega⟩
      refine br_f hns (br_f (fun e => by rw [(rc_tx hs12).mp e] at hb; exact absurd hb (by decide)) ⟨?_, ?_⟩)
      · rw [nI_add]; exact vp_in_nI (by omega) (by decide)
      · rw [nI_add, nI_clamp (by omega)]
        exact W2 _ (nm_r (nI_1 s) (W post n (by omega) hp))
/-- giveUpSlots -/
theorem rx_give {col : Nat → Nat} {F : List Nat} {ss : Nat → Int32} {set : Int32} {top : Nat} (htop : top < 16) (hfr : f_frames = nI (top + 1)) (hset : ∀ s, s < 12 → bt set s = true → top < fr ∧ bt (ss top) s = true) (I : (rc_XI lim fr E (rc_ow fr ss) col ([]) F S fs f_counted a_slots a_cellLeft a_cellRight a_holds a_link a_dead a_spareHead a_spareCount f_deadCount f_freeHead f_fresh f_liveCells f_spareTotal)) : ∃ (col' : Nat → Nat) (F' : List Nat) (ho' li' de' : Nat → Int32) (fh' lc' : Int32), (rc_XI lim fr E (rc_ow fr (upd ss top (ss top &&& (set ^^^ (-1))))) col' ([]) F' S fs f_counted a_slots a_cellLeft a_cellRight ho' li' de' a_spareHead a_spareCount 0 fh' f_fresh lc' f_spareTotal) ∧ (∀ c, col' c = 0 → col c = 0) ∧ (∀ c, col c ≠ 0 → col' c = col c) ∧ (∀ c, col c = 0 → E c + rc_rt (rc_ow fr (upd ss top (ss top &&& (set ^^^ (-1))))) a_slots c ≠ 0 → col' c = 0) ∧ (f_counted = 0 → col' = col ∧ F' = F) ∧ ∀ (post : SX → Prop), post (f_kindRet, f_kindTail, f_kindBind, f_kindCon, f_kindPrim, f_kindCall, f_kindMatch, f_kindTest, f_cellBase, f_heapSize, f_depthLimit, f_nodeLimit, f_nodeCount, f_fragmentCount, f_frames, f_at, 0, fh', f_fresh, lc', f_spareTotal, f_counted, f_status, f_made, f_reused, f_peak, f_calls, f_result, f_resultCells, a_nodeKind, a_nodeX, a_nodeParam, a_nodeA, a_nodeB, a_nodeNext, a_nodeElse, a_nodeFree, a_nodeNeed, a_fragments, a_body, a_slots, a_waiting, a_spareHead, a_spareCount, a_cellTag, a_cellLeft, a_cellRight, ho', li', de', a_cellOfNumber, a_numberOfCell, a_places, a_walk) → wpX_giveUpSlots post (f_kindRet, f_kindTail, f_kindBind, f_kindCon, f_kindPrim, f_kindCall, f_kindMatch, f_kindTest, f_cellBase, f_heapSize, f_depthLimit, f_nodeLimit, f_nodeCount, f_fragmentCount, f_frames, f_at, f_deadCount, f_freeHead, f_fresh, f_liveCells, f_spareTotal, f_counted, f_status, f_made, f_reused, f_peak, f_calls, f_result, f_resultCells, a_nodeKind, a_nodeX, a_nodeParam, a_nodeA, a_nodeB, a_nodeNext, a_nodeElse, a_nodeFree, a_nodeNeed, a_fragments, a_body, a_slots, a_waiting, a_spareHead, a_spareCount, a_cellTag, a_cellLeft, a_cellRight, a_holds, a_link, a_dead, a_cellOfNumber, a_numberOfCell, a_places, a_walk) set := by
  rw [← rc_gv_12]
  by_cases hct : f_counted = 0
  · obtain ⟨hA, hB, hC, hD⟩ := I
    obtain ⟨_, e2⟩ := hB.2 hct
    subst e2
    refine ⟨col, F, a_holds, a_link, a_dead, f_freeHead, f_liveCells, ⟨rc_A_own hA fun i hi => ?_, ⟨fun h => absurd hct h, fun _ => ⟨rfl, rfl⟩⟩, hC, hD⟩, fun _ h => h, fun _ _ => rfl, fun _ h _ => h, fun _ => ⟨rfl, rfl⟩, fun post hp => br_t hct hp⟩
    unfold rc_gv at hi
    rw [Bool.and_eq_true] at hi
    exact hi.1
  · by_cases hz : set = 0
    · have e : rc_gv (rc_ow fr ss) top set 12 = rc_ow fr ss := by
        funext i; unfold rc_gv; rw [hz, b_0]; simp
      rw [e]
      have hdc : f_deadCount = 0 := (I.2.1.1 hct).2.2.1
      subst hdc
      exact ⟨col, F, a_holds, a_link, a_dead, f_freeHead, f_liveCells, I, fun _ h => h, fun _ _ => rfl, fun _ h _ => h, fun _ => ⟨rfl, rfl⟩, fun post hp => br_f hct (br_t hz hp)⟩
    · rw [← rc_gv_0 (own := rc_ow fr ss) (top := top) (set := set)] at I
      obtain ⟨col', F', ho', li', de', fh', lc', I', p1, p2, p3, W⟩ := rx_give_lp (f_kindRet := f_kindRet) (f_kindTail := f_kindTail) (f_kindBind := f_kindBind) (f_kindCon := f_kindCon) (f_kindPrim := f_kindPrim) (f_kindCall := f_kindCall) (f_kindMatch := f_kindMatch) (f_kindTest := f_kindTest) (f_cellBase := f_cellBase) (f_heapSize := f_heapSize) (f_depthLimit := f_depthLimit) (f_nodeLimit := f_nodeLimit) (f_nodeCount := f_nodeCount) (f_fragmentCount := f_fragmentCount) (f_frames := f_frames) (f_at := f_at) (f_freeHead := f_freeHead) (f_fresh := f_fresh) (f_liveCells := f_liveCells) (f_spareTotal := f_spareTotal) (f_counted := f_counted) (f_status := f_status) (f_made := f_made) (f_reused := f_reused) (f_peak := f_peak) (f_calls := f_calls) (f_result := f_result) (f_resultCells := f_resultCells) (a_nodeKind := a_nodeKind) (a_nodeX := a_nodeX) (a_nodeParam := a_nodeParam) (a_nodeA := a_nodeA) (a_nodeB := a_nodeB) (a_nodeNext := a_nodeNext) (a_nodeElse := a_nodeElse) (a_nodeFree := a_nodeFree) (a_nodeNeed := a_nodeNeed) (a_fragments := a_fragments) (a_body := a_body) (a_slots := a_slots) (a_waiting := a_waiting) (a_spareHead := a_spareHead) (a_spareCount := a_spareCount) (a_cellTag := a_cellTag) (a_cellLeft := a_cellLeft) (a_cellRight := a_cellRight) (a_link := a_link) (a_cellOfNumber := a_cellOfNumber) (a_numberOfCell := a_numberOfCell) (a_places := a_places) (a_walk := a_walk) hct htop (fun s hs hb => by
        have w := hset s hs hb
        rw [rc_ow_i w.1 hs]; exact w.2) 12 0 rfl [] a_holds a_dead f_deadCount I
      refine ⟨col', F', ho', li', de', fh', lc', I', p1, p2, p3, fun h => absurd h hct, fun post hp => br_f hct (br_f hz ⟨13, ?_⟩)⟩
      have e : (f_frames - 1) * 12 = nI (12 * top) := by
        rw [hfr, nI_pred]
        exact (pk_mul top 12).trans (congrArg nI (Nat.mul_comm _ _))
      rw [e]
      exact W post 13 (by omega) hp
end
end
section
def rc_us (S : Nat → List Nat) (f : Nat) (l : List Nat) : Nat → List Nat := fun g => if g = f then l else S g
theorem rc_us_s {S : Nat → List Nat} {f : Nat} {l : List Nat} : rc_us S f l f = l := if_pos rfl
theorem rc_us_n {S : Nat → List Nat} {f g : Nat} {l : List Nat} (h : g ≠ f) : rc_us S f l g = S g := if_neg h
theorem rc_us_sm {S : Nat → List Nat} {f fr : Nat} {l : List Nat} (h : f < fr) : rc_sm (fun g => (rc_us S f l g).length) fr + (S f).length = rc_sm (fun g => (S g).length) fr + l.length := by
  have := rc_sm_1 (g := fun g => (rc_us S f l g).length) (h := fun g => (S g).length) h (fun i _ hi => by
    show (rc_us S f l i).length = _
    rw [rc_us_n hi])
  simp only [rc_us_s] at this
  exact this
section
variable {f_kindRet f_kindTail f_kindBind f_kindCon f_kindPrim f_kindCall f_kindMatch f_kindTest f_heapSize f_depthLimit f_nodeLimit f_nodeCount f_fragmentCount f_frames f_at f_deadCount f_freeHead f_fresh f_liveCells f_spareTotal f_counted f_status f_made f_reused f_peak f_calls f_resultCells : Int32} {f_cellBase f_result : Int64} {a_nodeKind a_nodeX a_nodeParam a_nodeA a_nodeB a_nodeNext a_nodeElse a_nodeFree a_nodeNeed a_fragments a_body a_waiting a_spareHead a_spareCount a_cellTag a_holds a_link a_dead a_cellOfNumber a_numberOfCell a_places a_walk : Nat → Int32} {a_slots a_cellLeft a_cellRight : Nat → Int64}
variable {lim fr fs : Nat} {E : Nat → Nat} {own : Nat → Bool} {S : Nat → List Nat} {col col' : Nat → Nat} {D F : List Nat}
theorem rc_FV_c {v : Int64} (h : ∀ d, col' d = 0 ↔ col d = 0) (H : rc_FV col v) : rc_FV col' v := rc_FV_m H fun c _ hc _ => (h c).mpr hc
theorem rc_A_c {sl cl cr : Nat → Int64} (h : ∀ d, col' d = 0 ↔ col d = 0) (H : rc_A fs own col sl cl cr) : rc_A fs own col' sl cl cr :=
  ⟨H.1, fun c hc => H.2.1 c ((h c).mp hc), fun d hd => ⟨rc_FV_c h (H.2.2.1 d ((h d).mp hd)).1, rc_FV_c h (H.2.2.1 d ((h d).mp hd)).2⟩, fun i hi ho => rc_FV_c h (H.2.2.2 i hi ho)⟩
theorem rc_kk_c {sl cl cr : Nat → Int64} (h : ∀ d, col' d = 0 ↔ col d = 0) : rc_kk E own col' sl cl cr = rc_kk E own col sl cl cr := by
  funext x; unfold rc_kk; rw [rc_rf_col h x]
theorem rc_HC_c {k : Nat → Nat} {ho de : Nat → Int32} {dc : Int32} (h : ∀ d, col' d = 0 ↔ col d = 0) (H : rc_HC col k D ho de dc) : rc_HC col' k D ho de dc :=
  ⟨fun c hc => H.1 c ((h c).mp hc), H.2.1, H.2.2.1, H.2.2.2.1, fun c => (H.2.2.2.2 c).trans ⟨fun w => ⟨(h c).mpr w.1, w.2⟩, fun w => ⟨(h c).mp w.1, w.2⟩⟩⟩
theorem rc_B_c {ct dc : Int32} {sl cl cr : Nat → Int64} {ho de : Nat → Int32} (h : ∀ d, col' d = 0 ↔ col d = 0) (H : rc_B ct E own col D sl cl cr ho de dc) : rc_B ct E own col' D sl cl cr ho de dc :=
  ⟨fun hc => ⟨(H.1 hc).1, by rw [rc_kk_c h]; exact rc_HC_c h (H.1 hc).2⟩, H.2⟩
theorem rc_up_iff {c k : Nat} (h : col c ≠ 0) (hk : k ≠ 0) (d : Nat) : rc_up col c k d = 0 ↔ col d = 0 := by
  by_cases e : d = c
  · subst e; rw [rc_up_s]; exact ⟨fun x => absurd x hk, fun x => absurd x h⟩
  · rw [rc_up_n e]
/-- a spare is taken -/
theorem rc_takeSpare {top c : Nat} {l : List Nat} (ht : top < fr) (hS : S top = c :: l) (I : (rc_XI lim fr E own col D F S fs f_counted a_slots a_cellLeft a_cellRight a_holds a_link a_dead a_spareHead a_spareCount f_deadCount f_freeHead f_fresh f_liveCells f_spareTotal)) : (rc_XI lim fr E own (rc_up col c 1000) D F (rc_us S top l) fs f_counted a_slots a_cellLeft a_cellRight a_holds a_link a_dead (upd a_spareHead top (a_link c)) (upd a_spareCount top (a_spareCount top - 1)) f_deadCount f_freeHead f_fresh f_liveCells (f_spareTotal - 1)) ∧ c < fs ∧ col c = 2 + top ∧ a_spareHead top = nI c := by
  obtain ⟨hA, hB, ⟨c1, c2⟩, d1, d2, d3⟩ := I
  obtain ⟨w1, w2⟩ := c2 top ht
  rw [hS] at w1 w2
  obtain ⟨⟨l1, l2⟩, l3, l4⟩ := w1
  obtain ⟨hcf, hcc⟩ := l4 c List.mem_cons_self
  obtain ⟨n1, n2⟩ := List.nodup_cons.mp l3
  have hiff := rc_up_iff (col := col) (c := c) (k := 1000) (by omega) (by omega)
  refine ⟨⟨rc_A_c hiff hA, rc_B_c hiff hB, ⟨rc_LS_col c1 fun x hx => ?_, fun f hf => ?_⟩, d1, ?_, ?_⟩, hcf, hcc, l1⟩
  · rw [rc_up_n (fun e => by subst e; omega)]; exact hx
  · by_cases e : f = top
    · subst e
      rw [rc_us_s, pk_us, pk_us]
      refine ⟨⟨l2, n2, fun x hx => ?_⟩, ?_⟩
      · have w := l4 x (List.mem_cons_of_mem _ hx)
        refine ⟨w.1, ?_⟩
        rw [rc_up_n (fun e => by subst e; exact n1 hx)]; exact w.2
      · rw [w2]; exact nI_pred _
    · rw [rc_us_n e, pk_un e, pk_un e]
      have w := c2 f hf
      refine ⟨rc_LS_col w.1 fun x hx => ?_, w.2⟩
      rw [rc_up_n (fun ex => by subst ex; omega)]; exact hx
  · rw [d2, rc_ct_col hiff]
  · have := rc_us_sm (S := S) (l := l) ht
    rw [hS] at this
    rw [d3, show rc_sm (fun f => (S f).length) fr = rc_sm (fun f => (rc_us S top l f).length) fr + 1 from by simp only [List.length_cons] at this; omega, nI_pred]
/-- a cell in hand goes to the free list -/
theorem rc_putFree {c : Nat} (hc : col c = 1000) (hcf : c < fs) (hfr : fr ≤ 16) (I : (rc_XI lim fr E own col D F S fs f_counted a_slots a_cellLeft a_cellRight a_holds a_link a_dead a_spareHead a_spareCount f_deadCount f_freeHead f_fresh f_liveCells f_spareTotal)) : (rc_XI lim fr E own (rc_up col c 1) D (c :: F) S fs f_counted a_slots a_cellLeft a_cellRight a_holds (upd a_link c f_freeHead) a_dead a_spareHead a_spareCount f_deadCount (nI c) f_fresh f_liveCells f_spareTotal) := by
  obtain ⟨hA, hB, ⟨c1, c2⟩, d1, d2, d3⟩ := I
  have hiff := rc_up_iff (col := col) (c := c) (k := 1) (by omega) (by omega)
  refine ⟨rc_A_c hiff hA, rc_B_c hiff hB, ⟨⟨⟨rfl, ?_⟩, ?_, ?_⟩, fun f hf => ?_⟩, d1, ?_, d3⟩
  · rw [pk_us]
    exact rc_lk_u (fun hm => by have := (c1.2.2 c hm).2; omega) c1.1
  · exact List.nodup_cons.mpr ⟨fun hm => by have := (c1.2.2 c hm).2; omega, c1.2.1⟩
  · intro x hx
    rcases List.mem_cons.mp hx with e | e
    · subst e; exact ⟨hcf, rc_up_s⟩
    · have w := c1.2.2 x e
      exact ⟨w.1, by rw [rc_up_n (fun ex => by subst ex; omega)]; exact w.2⟩
  · have w := c2 f hf
    refine ⟨rc_LS_u (rc_LS_col w.1 fun x hx => ?_) ?_, w.2⟩
    · rw [rc_up_n (fun ex => by subst ex; omega)]; exact hx
    · rw [rc_up_s]; omega
  · rw [d2, rc_ct_col hiff]
/-- a cell in hand becomes a spare -/
theorem rc_putSpare {top c : Nat} (ht : top < fr) (hfr : fr ≤ 16) (hc : col c = 1000) (hcf : c < fs) (I : (rc_XI lim fr E own col D F S fs f_counted a_slots a_cellLeft a_cellRight a_holds a_link a_dead a_spareHead a_spareCount f_deadCount f_freeHead f_fresh f_liveCells f_spareTotal)) : (rc_XI lim fr E own (rc_up col c (2 + top)) D F (rc_us S top (c :: S top)) fs f_counted a_slots a_cellLeft a_cellRight a_holds (upd a_link c (a_spareHead top)) a_dead (upd a_spareHead top (nI c)) (upd a_spareCount top (a_spareCount top + 1)) f_deadCount f_freeHead f_fresh f_liveCells (f_spareTotal + 1)) := by
  obtain ⟨hA, hB, ⟨c1, c2⟩, d1, d2, d3⟩ := I
  have hiff := rc_up_iff (col := col) (c := c) (k := 2 + top) (by omega) (by omega)
  refine ⟨rc_A_c hiff hA, rc_B_c hiff hB, ⟨?_, fun f hf => ?_⟩, d1, ?_, ?_⟩
  · refine rc_LS_u (rc_LS_col c1 fun x hx => ?_) ?_
    · rw [rc_up_n (fun ex => by subst ex; omega)]; exact hx
    · rw [rc_up_s]; omega
  · have w := c2 f hf
    by_cases e : f = top
    · subst e
      rw [rc_us_s, pk_us, pk_us]
      refine ⟨⟨⟨rfl, ?_⟩, ?_, ?_⟩, ?_⟩
      · rw [pk_us]
        exact rc_lk_u (fun hm => by have := (w.1.2.2 c hm).2; omega) w.1.1
      · exact List.nodup_cons.mpr ⟨fun hm => by have := (w.1.2.2 c hm).2; omega, w.1.2.1⟩
      · intro x hx
        rcases List.mem_cons.mp hx with e | e
        · subst e; exact ⟨hcf, rc_up_s⟩
        · have w := w.1.2.2 x e
          exact ⟨w.1, by rw [rc_up_n (fun ex => by subst ex; omega)]; exact w.2⟩
      · rw [w.2, nI_1]; rfl
    · rw [rc_us_n e, pk_un e, pk_un e]
      refine ⟨rc_LS_u (rc_LS_col w.1 fun x hx => ?_) ?_, w.2⟩
      · rw [rc_up_n (fun ex => by subst ex; omega)]; exact hx
      · rw [rc_up_s]; omega
  · rw [d2, rc_ct_col hiff]
  · have := rc_us_sm (S := S) (l := c :: S top) ht
    rw [d3, nI_1]
    congr 1
    simp only [List.length_cons] at this
    omega
theorem rx_takeSpare_w {top c : Nat} (hf : f_frames = nI (top + 1)) (ht : top < 16) (hsh : a_spareHead top = nI c) (hc : c < 200) (post : Int32 → SX → Prop) (hp : post (nI c) (f_kindRet, f_kindTail, f_kindBind, f_kindCon, f_kindPrim, f_kindCall, f_kindMatch, f_kindTest, f_cellBase, f_heapSize, f_depthLimit, f_nodeLimit, f_nodeCount, f_fragmentCount, f_frames, f_at, f_deadCount, f_freeHead, f_fresh, f_liveCells, f_spareTotal - 1, f_counted, f_status, f_made, f_reused, f_peak, f_calls, f_result, f_resultCells, a_nodeKind, a_nodeX, a_nodeParam, a_nodeA, a_nodeB, a_nodeNext, a_nodeElse, a_nodeFree, a_nodeNeed, a_fragments, a_body, a_slots, a_waiting, upd a_spareHead top (a_link c), upd a_spareCount top (a_spareCount top - 1), a_cellTag, a_cellLeft, a_cellRight, a_holds, a_link, a_dead, a_cellOfNumber, a_numberOfCell, a_places, a_walk)) : wpX_takeSpare post (f_kindRet, f_kindTail, f_kindBind, f_kindCon, f_kindPrim, f_kindCall, f_kindMatch, f_kindTest, f_cellBase, f_heapSize, f_depthLimit, f_nodeLimit, f_nodeCount, f_fragmentCount, f_frames, f_at, f_deadCount, f_freeHead, f_fresh, f_liveCells, f_spareTotal, f_counted, f_status, f_made, f_reused, f_peak, f_calls, f_result, f_resultCells, a_nodeKind, a_nodeX, a_nodeParam, a_nodeA, a_nodeB, a_nodeNext, a_nodeElse, a_nodeFree, a_nodeNeed, a_fragments, a_body, a_slots, a_waiting, a_spareHead, a_spareCount, a_cellTag, a_cellLeft, a_cellRight, a_holds, a_link, a_dead, a_cellOfNumber, a_numberOfCell, a_places, a_walk) := by
  have hin : vp_in (nI top) 16 := vp_in_nI ht (by decide)
  have et : (nI top).toNatClampNeg = top := nI_clamp (by omega)
  have ec : (nI c).toNatClampNeg = c := nI_clamp (by omega)
  refine nm_r (e' := nI top) (by rw [hf, nI_pred]) ⟨hin, nm_r (e' := nI c) (by rw [et]; exact hsh) ⟨vp_in_nI hc (by decide), hin, nm_r (e' := upd a_spareHead top (a_link c)) (by rw [et, ec]) ⟨hin, hin, nm_r (e' := upd a_spareCount top (a_spareCount top - 1)) (by rw [et]) (nm_e hp)⟩⟩⟩
theorem rx_putFree_w {c : Nat} (hc : c < 200) (post : SX → Prop) (hp : post (f_kindRet, f_kindTail, f_kindBind, f_kindCon, f_kindPrim, f_kindCall, f_kindMatch, f_kindTest, f_cellBase, f_heapSize, f_depthLimit, f_nodeLimit, f_nodeCount, f_fragmentCount, f_frames, f_at, f_deadCount, nI c, f_fresh, f_liveCells, f_spareTotal, f_counted, f_status, f_made, f_reused, f_peak, f_calls, f_result, f_resultCells, a_nodeKind, a_nodeX, a_nodeParam, a_nodeA, a_nodeB, a_nodeNext, a_nodeElse, a_nodeFree, a_nodeNeed, a_fragments, a_body, a_slots, a_waiting, a_spareHead, a_spareCount, a_cellTag, a_cellLeft, a_cellRight, a_holds, upd a_link c f_freeHead, a_dead, a_cellOfNumber, a_numberOfCell, a_places, a_walk)) : wpX_putFree post (f_kindRet, f_kindTail, f_kindBind, f_kindCon, f_kindPrim, f_kindCall, f_kindMatch, f_kindTest, f_cellBase, f_heapSize, f_depthLimit, f_nodeLimit, f_nodeCount, f_fragmentCount, f_frames, f_at, f_deadCount, f_freeHead, f_fresh, f_liveCells, f_spareTotal, f_counted, f_status, f_made, f_reused, f_peak, f_calls, f_result, f_resultCells, a_nodeKind, a_nodeX, a_nodeParam, a_nodeA, a_nodeB, a_nodeNext, a_nodeElse, a_nodeFree, a_nodeNeed, a_fragments, a_body, a_slots, a_waiting, a_spareHead, a_spareCount, a_cellTag, a_cellLeft, a_cellRight, a_holds, a_link, a_dead, a_cellOfNumber, a_numberOfCell, a_places, a_walk) (nI c) :=
  ⟨vp_in_nI hc (by decide), nm_r (e' := upd a_link c f_freeHead) (by rw [nI_clamp (by omega)]) hp⟩
/-- cutSpares -/
theorem rx_cut_lp {top q : Nat} (hf : f_frames = nI (top + 1)) (ht : top < fr) (hfr : fr ≤ 16) (hfs : fs ≤ 200) (hq : q < 1000) : ∀ (d i : Nat) (col : Nat → Nat) (F : List Nat) (S : Nat → List Nat) (li sh sc : Nat → Int32) (fh st : Int32), (S top).length - q = d → i + d ≤ 200 → (rc_XI lim fr E own col D F S fs f_counted a_slots a_cellLeft a_cellRight a_holds li a_dead sh sc f_deadCount fh f_fresh f_liveCells st) → ∃ (col' : Nat → Nat) (F' : List Nat) (S' : Nat → List Nat) (li' sh' sc' : Nat → Int32) (fh' st' : Int32), (rc_XI lim fr E own col' D F' S' fs f_counted a_slots a_cellLeft a_cellRight a_holds li' a_dead sh' sc' f_deadCount fh' f_fresh f_liveCells st') ∧ (∀ c, col' c = 0 ↔ col c = 0) ∧ (∀ f, f ≠ top → S' f = S f) ∧ (S' top).length = min (S top).length q ∧ ((S top).length ≤ q → S' = S ∧ F' = F) ∧ ∀ (post : SX → Prop) (n : Nat), d < n → post (f_kindRet, f_kindTail, f_kindBind, f_kindCon, f_kindPrim, f_kindCall, f_kindMatch, f_kindTest, f_cellBase, f_heapSize, f_depthLimit, f_nodeLimit, f_nodeCount, f_fragmentCount, f_frames, f_at, f_deadCount, fh', f_fresh, f_liveCells, st', f_counted, f_status, f_made, f_reused, f_peak, f_calls, f_result, f_resultCells, a_nodeKind, a_nodeX, a_nodeParam, a_nodeA, a_nodeB, a_nodeNext, a_nodeElse, a_nodeFree, a_nodeNeed, a_fragments, a_body, a_slots, a_waiting, sh', sc', a_cellTag, a_cellLeft, a_cellRight, a_holds, li', a_dead, a_cellOfNumber, a_numberOfCell, a_places, a_walk) → wX_cutSpares_9 post (nI q) (nI top) n (nI i) f_kindRet f_kindTail f_kindBind f_kindCon f_kindPrim f_kindCall f_kindMatch f_kindTest f_cellBase f_heapSize f_depthLimit f_nodeLimit f_nodeCount f_fragmentCount f_frames f_at f_deadCount fh f_fresh f_liveCells st f_counted f_status f_made f_reused f_peak f_calls f_result f_resultCells a_nodeKind a_nodeX a_nodeParam a_nodeA a_nodeB a_nodeNext a_nodeElse a_nodeFree a_nodeNeed a_fragments a_body a_slots a_waiting sh sc a_cellTag a_cellLeft a_cellRight a_holds li a_dead a_cellOfNumber a_numberOfCell a_places a_walk := by
  intro d
  induction d with
  | zero =>
    intro i col F S li sh sc fh st hd hi I
    refine ⟨col, F, S, li, sh, sc, fh, st, I, fun _ => Iff.rfl, fun _ _ => rfl, by omega, fun _ => ⟨rfl, rfl⟩, fun post n hn hp => ?_⟩
    obtain ⟨n, rfl⟩ : ∃ q, n = q + 1 := ⟨n - 1, by omega⟩
    by_cases h200 : (200 : Int32) ≤ nI i
    · exact br_t h200 hp
    · refine br_f h200 ⟨vp_in_nI (by omega) (by decide), br_t ?_ hp⟩
      have w := I.2.2.1.2 top ht
      rw [nI_clamp (by omega), w.2]
      exact nI_le (by omega) (by omega)
  | succ d ih =>
    intro i col F S li sh sc fh st hd hi I
    cases hS : S top with
    | nil => rw [hS] at hd; simp at hd
    | cons c l =>
      have w := I.2.2.1.2 top ht
      obtain ⟨I1, hcf, hcc, hsh⟩ := rc_takeSpare ht hS I
      have I2 := rc_putFree (c := c) rc_up_s hcf hfr I1
      have hlen : (S top).length = l.length + 1 := by rw [hS]; rfl
      obtain ⟨col', F', S', li', sh', sc', fh', st', I', p1, p2, p3, p4, W⟩ := ih (i + 1) _ _ _ _ _ _ _ _ (by rw [rc_us_s]; omega) (by omega) I2
      refine ⟨col', F', S', li', sh', sc', fh', st', I', fun x => ?_, fun f hf => ?_, ?_, fun h => by rw [List.length_cons] at h; omega, fun post n hn hp => ?_⟩
      · rw [p1 x, rc_up_iff (by rw [rc_up_s]; omega) (by omega), rc_up_iff (by omega) (by omega)]
      · rw [p2 f hf, rc_us_n hf]
      · rw [p3, rc_us_s, List.length_cons]; omega
      · obtain ⟨n, rfl⟩ : ∃ q, n = q + 1 := ⟨n - 1, by omega⟩
        have hin : vp_in (nI top) 16 := vp_in_nI (by omega) (by decide)
        have hll : (S top).length ≤ 200 := by have := rc_LS_len w.1; omega
        refine br_f (nI_ge (b := 200) (by omega) (by decide)) ⟨hin, br_f ?_ ?_⟩
        · rw [nI_clamp (by omega), w.2]
          exact nI_ge (by omega) (by omega)
        · exact rx_takeSpare_w hf (by omega) hsh (by omega) _ (rx_putFree_w (by omega) _ (nm_r (nI_1 i) (W post n (by omega) hp)))
theorem rx_cut {top q : Nat} (hf : f_frames = nI (top + 1)) (ht : top < fr) (hfr : fr ≤ 16) (hq : q < 1000) (I : (rc_XI lim fr E own col D F S fs f_counted a_slots a_cellLeft a_cellRight a_holds a_link a_dead a_spareHead a_spareCount f_deadCount f_freeHead f_fresh f_liveCells f_spareTotal)) : ∃ (col' : Nat → Nat) (F' : List Nat) (S' : Nat → List Nat) (li' sh' sc' : Nat → Int32) (fh' st' : Int32), (rc_XI lim fr E own col' D F' S' fs f_counted a_slots a_cellLeft a_cellRight a_holds li' a_dead sh' sc' f_deadCount fh' f_fresh f_liveCells st') ∧ (∀ c, col' c = 0 ↔ col c = 0) ∧ (∀ f, f ≠ top → S' f = S f) ∧ (S' top).length = min (S top).length q ∧ ((S top).length ≤ q → S' = S ∧ F' = F) ∧ ∀ (post : SX → Prop), post (f_kindRet, f_kindTail, f_kindBind, f_kindCon, f_kindPrim, f_kindCall, f_kindMatch, f_kindTest, f_cellBase, f_heapSize, f_depthLimit, f_nodeLimit, f_nodeCount, f_fragmentCount, f_frames, f_at, f_deadCount, fh', f_fresh, f_liveCells, st', f_counted, f_status, f_made, f_reused, f_peak, f_calls, f_result, f_resultCells, a_nodeKind, a_nodeX, a_nodeParam, a_nodeA, a_nodeB, a_nodeNext, a_nodeElse, a_nodeFree, a_nodeNeed, a_fragments, a_body, a_slots, a_waiting, sh', sc', a_cellTag, a_cellLeft, a_cellRight, a_holds, li', a_dead, a_cellOfNumber, a_numberOfCell, a_places, a_walk) → wpX_cutSpares post (f_kindRet, f_kindTail, f_kindBind, f_kindCon, f_kindPrim, f_kindCall, f_kindMatch, f_kindTest, f_cellBase, f_heapSize, f_depthLimit, f_nodeLimit, f_nodeCount, f_fragmentCount, f_frames, f_at, f_deadCount, f_freeHead, f_fresh, f_liveCells, f_spareTotal, f_counted, f_status, f_made, f_reused, f_peak, f_calls, f_result, f_resultCells, a_nodeKind, a_nodeX, a_nodeParam, a_nodeA, a_nodeB, a_nodeNext, a_nodeElse, a_nodeFree, a_nodeNeed, a_fragments, a_body, a_slots, a_waiting, a_spareHead, a_spareCount, a_cellTag, a_cellLeft, a_cellRight, a_holds, a_link, a_dead, a_cellOfNumber, a_numberOfCell, a_places, a_walk) (nI q) := by
  have w := I.2.2.1.2 top ht
  have hl := rc_LS_len w.1
  have hfs := I.1.1
  obtain ⟨col', F', S', li', sh', sc', fh', st', I', p1, p2, p3, p4, W⟩ := rx_cut_lp (f_kindRet := f_kindRet) (f_kindTail := f_kindTail) (f_kindBind := f_kindBind) (f_kindCon := f_kindCon) (f_kindPrim := f_kindPrim) (f_kindCall := f_kindCall) (f_kindMatch := f_kindMatch) (f_kindTest := f_kindTest) (f_cellBase := f_cellBase) (f_heapSize := f_heapSize) (f_depthLimit := f_depthLimit) (f_nodeLimit := f_nodeLimit) (f_nodeCount := f_nodeCount) (f_fragmentCount := f_fragmentCount) (f_frames := f_frames) (f_at := f_at) (f_deadCount := f_deadCount) (f_fresh := f_fresh) (f_liveCells := f_liveCells) (f_counted := f_counted) (f_status := f_status) (f_made := f_made) (f_reused := f_reused) (f_peak := f_peak) (f_calls := f_calls) (f_result := f_result) (f_resultCells := f_resultCells) (a_nodeKind := a_nodeKind) (a_nodeX := a_nodeX) (a_nodeParam := a_nodeParam) (a_nodeA := a_nodeA) (a_nodeB := a_nodeB) (a_nodeNext := a_nodeNext) (a_nodeElse := a_nodeElse) (a_nodeFree := a_nodeFree) (a_nodeNeed := a_nodeNeed) (a_fragments := a_fragments) (a_body := a_body) (a_slots := a_slots) (a_waiting := a_waiting) (a_cellTag := a_cellTag) (a_cellLeft := a_cellLeft) (a_cellRight := a_cellRight) (a_holds := a_holds) (a_dead := a_dead) (a_cellOfNumber := a_cellOfNumber) (a_numberOfCell := a_numberOfCell) (a_places := a_places) (a_walk := a_walk) hf ht hfr hfs hq _ 0 _ _ _ _ _ _ _ _ rfl (by omega) I
  refine ⟨col', F', S', li', sh', sc', fh', st', I', p1, p2, p3, p4, fun post hp => ?_⟩
  exact nm_r (e' := nI top) (by rw [hf, nI_pred]) ⟨_, W post _ (Nat.lt_succ_self _) hp⟩
end
end
section
section
variable {f_kindRet f_kindTail f_kindBind f_kindCon f_kindPrim f_kindCall f_kindMatch f_kindTest f_heapSize f_depthLimit f_nodeLimit f_nodeCount f_fragmentCount f_frames f_at f_deadCount f_freeHead f_fresh f_liveCells f_spareTotal f_counted f_status f_made f_reused f_peak f_calls f_resultCells : Int32} {f_cellBase f_result : Int64} {a_nodeKind a_nodeX a_nodeParam a_nodeA a_nodeB a_nodeNext a_nodeElse a_nodeFree a_nodeNeed a_fragments a_body a_waiting a_spareHead a_spareCount a_cellTag a_holds a_link a_dead a_cellOfNumber a_numberOfCell a_places a_walk : Nat → Int32} {a_slots a_cellLeft a_cellRight : Nat → Int64}
variable {lim fr fs : Nat} {E : Nat → Nat} {own : Nat → Bool} {S : Nat → List Nat} {col col' : Nat → Nat} {D F : List Nat}
/-- a slot that isn't owned gets a value; b: it becomes owned, by a hold in hand -/
theorem rc_assign {b : Bool} {i : Nat} {v : Int64} (hi : i < 192) (ho : own i = false) (hv : b = true → rc_FV col v) (I : (rc_XI lim fr (fun c => E c + (if b = true then rc_is v c else 0)) own col D F S fs f_counted a_slots a_cellLeft a_cellRight a_holds a_link a_dead a_spareHead a_spareCount f_deadCount f_freeHead f_fresh f_liveCells f_spareTotal)) : (rc_XI lim fr E (rc_st own i b) col D F S fs f_counted (vp_updL a_slots i v) a_cellLeft a_cellRight a_holds a_link a_dead a_spareHead a_spareCount f_deadCount f_freeHead f_fresh f_liveCells f_spareTotal) := by
  obtain ⟨⟨a1, a2, a3, a4⟩, ⟨b1, b2⟩, hC, hD⟩ := I
  refine ⟨⟨a1, a2, a3, fun j hj hw => ?_⟩, ⟨fun hct => ?_, b2⟩, hC, hD⟩
  · by_cases e : j = i
    · subst e
      rw [pk_uLs]
      exact hv (by rw [← hw]; unfold rc_st; rw [if_pos rfl])
    · rw [pk_uLn e]
      exact a4 j hj (by rw [← hw]; unfold rc_st; rw [if_neg e])
  · obtain ⟨h9, hH⟩ := b1 hct
    refine ⟨fun c => Nat.le_trans (Nat.le_add_right _ _) (h9 c), ?_⟩
    have e : rc_kk E (rc_st own i b) col (vp_updL a_slots i v) a_cellLeft a_cellRight = rc_kk (fun c => E c + (if b = true then rc_is v c else 0)) own col a_slots a_cellLeft a_cellRight := by
      funext c; unfold rc_kk; rw [rc_rt_put hi ho c]; dsimp only; omega
    rw [e]; exact hH
theorem rx_holdIf {b : Bool} {v : Int64} {cond : Prop} (hcond : cond ↔ b = false) (I : (rc_XI lim fr E own col ([]) F S fs f_counted a_slots a_cellLeft a_cellRight a_holds a_link a_dead a_spareHead a_spareCount f_deadCount f_freeHead f_fresh f_liveCells f_spareTotal)) (hv : b = true → rc_FV col v) (hE : ∀ c, E c + rc_is v c ≤ 9) : ∃ ho : Nat → Int32, (rc_XI lim fr (fun c => E c + (if b = true then rc_is v c else 0)) own col ([]) F S fs f_counted a_slots a_cellLeft a_cellRight ho a_link a_dead a_spareHead a_spareCount f_deadCount f_freeHead f_fresh f_liveCells f_spareTotal) ∧ (∀ c, col c ≠ 0 → ho c = a_holds c) ∧ ∀ (post : SX → Prop) (A : Prop), (post (f_kindRet, f_kindTail, f_kindBind, f_kindCon, f_kindPrim, f_kindCall, f_kindMatch, f_kindTest, f_cellBase, f_heapSize, f_depthLimit, f_nodeLimit, f_nodeCount, f_fragmentCount, f_frames, f_at, f_deadCount, f_freeHead, f_fresh, f_liveCells, f_spareTotal, f_counted, f_status, f_made, f_reused, f_peak, f_calls, f_result, f_resultCells, a_nodeKind, a_nodeX, a_nodeParam, a_nodeA, a_nodeB, a_nodeNext, a_nodeElse, a_nodeFree, a_nodeNeed, a_fragments, a_body, a_slots, a_waiting, a_spareHead, a_spareCount, a_cellTag, a_cellLeft, a_cellRight, a_holds, a_link, a_dead, a_cellOfNumber, a_numberOfCell, a_places, a_walk) → A) → post (f_kindRet, f_kindTail, f_kindBind, f_kindCon, f_kindPrim, f_kindCall, f_kindMatch, f_kindTest, f_cellBase, f_heapSize, f_depthLimit, f_nodeLimit, f_nodeCount, f_fragmentCount, f_frames, f_at, f_deadCount, f_freeHead, f_fresh, f_liveCells, f_spareTotal, f_counted, f_status, f_made, f_reused, f_peak, f_calls, f_result, f_resultCells, a_nodeKind, a_nodeX, a_nodeParam, a_nodeA, a_nodeB, a_nodeNext, a_nodeElse, a_nodeFree, a_nodeNeed, a_fragments, a_body, a_slots, a_waiting, a_spareHead, a_spareCount, a_cellTag, a_cellLeft, a_cellRight, ho, a_link, a_dead, a_cellOfNumber, a_numberOfCell, a_places, a_walk) → ((cond → A) ∧ (¬ cond → wpX_hold post (f_kindRet, f_kindTail, f_kindBind, f_kindCon, f_kindPrim, f_kindCall, f_kindMatch, f_kindTest, f_cellBase, f_heapSize, f_depthLimit, f_nodeLimit, f_nodeCount, f_fragmentCount, f_frames, f_at, f_deadCount, f_freeHead, f_fresh, f_liveCells, f_spareTotal, f_counted, f_status, f_made, f_reused, f_peak, f_calls, f_result, f_resultCells, a_nodeKind, a_nodeX, a_nodeParam, a_nodeA, a_nodeB, a_nodeNext, a_nodeElse, a_nodeFree, a_nodeNeed, a_fragments, a_body, a_slots, a_waiting, a_spareHead, a_spareCount, a_cellTag, a_cellLeft, a_cellRight, a_holds, a_link, a_dead, a_cellOfNumber, a_numberOfCell, a_places, a_walk) v)) := by
  cases b with
  | false =>
    refine ⟨a_holds, I, fun _ _ => rfl, fun post A hA hp => br_t (hcond.mpr rfl) (hA hp)⟩
  | true =>
    obtain ⟨ho, I', h2, W⟩ := rx_hold (f_kindRet := f_kindRet) (f_kindTail := f_kindTail) (f_kindBind := f_kindBind) (f_kindCon := f_kindCon) (f_kindPrim := f_kindPrim) (f_kindCall := f_kindCall) (f_kindMatch := f_kindMatch) (f_kindTest := f_kindTest) (f_cellBase := f_cellBase) (f_heapSize := f_heapSize) (f_depthLimit := f_depthLimit) (f_nodeLimit := f_nodeLimit) (f_nodeCount := f_nodeCount) (f_fragmentCount := f_fragmentCount) (f_frames := f_frames) (f_at := f_at) (f_deadCount := f_deadCount) (f_freeHead := f_freeHead) (f_fresh := f_fresh) (f_liveCells := f_liveCells) (f_spareTotal := f_spareTotal) (f_counted := f_counted) (f_status := f_status) (f_made := f_made) (f_reused := f_reused) (f_peak := f_peak) (f_calls := f_calls) (f_result := f_result) (f_resultCells := f_resultCells) (a_nodeKind := a_nodeKind) (a_nodeX := a_nodeX) (a_nodeParam := a_nodeParam) (a_nodeA := a_nodeA) (a_nodeB := a_nodeB) (a_nodeNext := a_nodeNext) (a_nodeElse := a_nodeElse) (a_nodeFree := a_nodeFree) (a_nodeNeed := a_nodeNeed) (a_fragments := a_fragments) (a_body := a_body) (a_slots := a_slots) (a_waiting := a_waiting) (a_spareHead := a_spareHead) (a_spareCount := a_spareCount) (a_cellTag := a_cellTag) (a_cellLeft := a_cellLeft) (a_cellRight := a_cellRight) (a_holds := a_holds) (a_link := a_link) (a_dead := a_dead) (a_cellOfNumber := a_cellOfNumber) (a_numberOfCell := a_numberOfCell) (a_places := a_places) (a_walk := a_walk) I (hv rfl) hE
    exact ⟨ho, I', h2, fun post A _ hp => br_f (fun e => absurd (hcond.mp e) (by decide)) (W post hp)⟩
theorem rc_ow_st {ss : Nat → Int32} {f s : Nat} {b : Bool} {Z : Int32} (hf : f < fr) (hs : s < 12) (h1 : ∀ q, q < 12 → q ≠ s → bt Z q = bt (ss f) q) (h2 : bt Z s = b) : rc_st (rc_ow fr ss) (12 * f + s) b = rc_ow fr (upd ss f Z) := by
  funext i
  unfold rc_st rc_ow
  have hm : i % 12 < 12 := Nat.mod_lt _ (by decide)
  by_cases e : i = 12 * f + s
  · have e1 : i / 12 = f := by omega
    have e2 : i % 12 = s := by omega
    rw [if_pos e, e1, e2, pk_us, h2, decide_eq_true hf, Bool.true_and]
  · rw [if_neg e]
    by_cases e1 : i / 12 = f
    · rw [e1, pk_us, h1 (i % 12) hm (fun e2 => by omega)]
    · rw [pk_un e1]
/-- assignAndGoOn -/
theorem rx_asg {ss : Nat → Int32} {n j x top : Nat} {v : Int64} (hn : n < 48) (hj : j < 48) (hx : x < 12) (ht : top < 16) (ht2 : top < fr) (hat : f_at = nI n) (hnx : a_nodeNext n = nI j) (hxx : a_nodeX n = nI x) (hf : f_frames = nI (top + 1)) (hsub : ∀ s, s < 12 → bt (a_nodeFree j) s = true → s ≠ x → bt (a_nodeFree n) s = true) (hss : ss top = a_nodeFree n) (I : (rc_XI lim fr E (rc_ow fr ss) col ([]) F S fs f_counted a_slots a_cellLeft a_cellRight a_holds a_link a_dead a_spareHead a_spareCount f_deadCount f_freeHead f_fresh f_liveCells f_spareTotal)) (hv : rc_FV col v) (hE : ∀ c, E c + rc_is v c ≤ 9) : ∃ (col' : Nat → Nat) (F' : List Nat) (ho' li' de' : Nat → Int32) (fh' lc' : Int32), (rc_XI lim fr E (rc_ow fr (upd ss top (a_nodeFree j))) col' ([]) F' S fs f_counted (vp_updL a_slots (12 * top + x) v) a_cellLeft a_cellRight ho' li' de' a_spareHead a_spareCount 0 fh' f_fresh lc' f_spareTotal) ∧ (∀ c, col' c = 0 → col c = 0) ∧ (∀ c, col c ≠ 0 → col' c = col c) ∧ (∀ c, col c = 0 → E c ≠ 0 → col' c = 0) ∧ (f_counted = 0 → col' = col ∧ F' = F) ∧ ∀ (post : SX → Prop), post (f_kindRet, f_kindTail, f_kindBind, f_kindCon, f_kindPrim, f_kindCall, f_kindMatch, f_kindTest, f_cellBase, f_heapSize, f_depthLimit, f_nodeLimit, f_nodeCount, f_fragmentCount, f_frames, nI j, 0, fh', f_fresh, lc', f_spareTotal, f_counted, f_status, f_made, f_reused, f_peak, f_calls, f_result, f_resultCells, a_nodeKind, a_nodeX, a_nodeParam, a_nodeA, a_nodeB, a_nodeNext, a_nodeElse, a_nodeFree, a_nodeNeed, a_fragments, a_body, vp_updL a_slots (12 * top + x) v, a_waiting, a_spareHead, a_spareCount, a_cellTag, a_cellLeft, a_cellRight, ho', li', de', a_cellOfNumber, a_numberOfCell, a_places, a_walk) → wpX_assignAndGoOn post (f_kindRet, f_kindTail, f_kindBind, f_kindCon, f_kindPrim, f_kindCall, f_kindMatch, f_kindTest, f_cellBase, f_heapSize, f_depthLimit, f_nodeLimit, f_nodeCount, f_fragmentCount, f_frames, f_at, f_deadCount, f_freeHead, f_fresh, f_liveCells, f_spareTotal, f_counted, f_status, f_made, f_reused, f_peak, f_calls, f_result, f_resultCells, a_nodeKind, a_nodeX, a_nodeParam, a_nodeA, a_nodeB, a_nodeNext, a_nodeElse, a_nodeFree, a_nodeNeed, a_fragments, a_body, a_slots, a_waiting, a_spareHead, a_spareCount, a_cellTag, a_cellLeft, a_cellRight, a_holds, a_link, a_dead, a_cellOfNumber, a_numberOfCell, a_places, a_walk) v := by
  have en : (nI n).toNatClampNeg = n := nI_clamp (by omega)
  have ej : (nI j).toNatClampNeg = j := nI_clamp (by omega)
  have hinn : vp_in (nI n) 48 := vp_in_nI hn (by decide)
  have hinj : vp_in (nI j) 48 := vp_in_nI hj (by decide)
  subst hat
  obtain ⟨ho1, I1, _, W1⟩ := rx_holdIf (b := bt (a_nodeFree j) x) (v := v) (rc_tx (a := a_nodeFree j) hx) (f_kindRet := f_kindRet) (f_kindTail := f_kindTail) (f_kindBind := f_kindBind) (f_kindCon := f_kindCon) (f_kindPrim := f_kindPrim) (f_kindCall := f_kindCall) (f_kindMatch := f_kindMatch) (f_kindTest := f_kindTest) (f_cellBase := f_cellBase) (f_heapSize := f_heapSize) (f_depthLimit := f_depthLimit) (f_nodeLimit := f_nodeLimit) (f_nodeCount := f_nodeCount) (f_fragmentCount := f_fragmentCount) (f_frames := f_frames) (f_at := nI n) (f_deadCount := f_deadCount) (f_freeHead := f_freeHead) (f_fresh := f_fresh) (f_liveCells := f_liveCells) (f_spareTotal := f_spareTotal) (f_counted := f_counted) (f_status := f_status) (f_made := f_made) (f_reused := f_reused) (f_peak := f_peak) (f_calls := f_calls) (f_result := f_result) (f_resultCells := f_resultCells) (a_nodeKind := a_nodeKind) (a_nodeX := a_nodeX) (a_nodeParam := a_nodeParam) (a_nodeA := a_nodeA) (a_nodeB := a_nodeB) (a_nodeNext := a_nodeNext) (a_nodeElse := a_nodeElse) (a_nodeFree := a_nodeFree) (a_nodeNeed := a_nodeNeed) (a_fragments := a_fragments) (a_body := a_body) (a_slots := a_slots) (a_waiting := a_waiting) (a_spareHead := a_spareHead) (a_spareCount := a_spareCount) (a_cellTag := a_cellTag) (a_cellLeft := a_cellLeft) (a_cellRight := a_cellRight) (a_holds := a_holds) (a_link := a_link) (a_dead := a_dead) (a_cellOfNumber := a_cellOfNumber) (a_numberOfCell := a_numberOfCell) (a_places := a_places) (a_walk := a_walk) I (fun _ => hv) hE
  obtain ⟨col', F', ho', li', de', fh', lc', I2, p1, p2, p3, p4, W2⟩ := rx_give (f_kindRet := f_kindRet) (f_kindTail := f_kindTail) (f_kindBind := f_kindBind) (f_kindCon := f_kindCon) (f_kindPrim := f_kindPrim) (f_kindCall := f_kindCall) (f_kindMatch := f_kindMatch) (f_kindTest := f_kindTest) (f_cellBase := f_cellBase) (f_heapSize := f_heapSize) (f_depthLimit := f_depthLimit) (f_nodeLimit := f_nodeLimit) (f_nodeCount := f_nodeCount) (f_fragmentCount := f_fragmentCount) (f_frames := f_frames) (f_at := nI n) (f_deadCount := f_deadCount) (f_freeHead := f_freeHead) (f_fresh := f_fresh) (f_liveCells := f_liveCells) (f_spareTotal := f_spareTotal) (f_counted := f_counted) (f_status := f_status) (f_made := f_made) (f_reused := f_reused) (f_peak := f_peak) (f_calls := f_calls) (f_result := f_result) (f_resultCells := f_resultCells) (a_nodeKind := a_nodeKind) (a_nodeX := a_nodeX) (a_nodeParam := a_nodeParam) (a_nodeA := a_nodeA) (a_nodeB := a_nodeB) (a_nodeNext := a_nodeNext) (a_nodeElse := a_nodeElse) (a_nodeFree := a_nodeFree) (a_nodeNeed := a_nodeNeed) (a_fragments := a_fragments) (a_body := a_body) (a_slots := a_slots) (a_waiting := a_waiting) (a_spareHead := a_spareHead) (a_spareCount := a_spareCount) (a_cellTag := a_cellTag) (a_cellLeft := a_cellLeft) (a_cellRight := a_cellRight) (a_holds := ho1) (a_link := a_link) (a_dead := a_dead) (a_cellOfNumber := a_cellOfNumber) (a_numberOfCell := a_numberOfCell) (a_places := a_places) (a_walk := a_walk) (set := (a_nodeFree n) &&& (((a_nodeFree j) &&& (((1 : Int32) <<< (nI x &&& 31)) ^^^ (-1))) ^^^ (-1))) ht hf (fun s hs hb => by
    rw [b_and, Bool.and_eq_true] at hb
    exact ⟨ht2, by rw [hss]; exact hb.1⟩) I1
  have hbits : ∀ s, s < 12 → bt ((a_nodeFree n) &&& (((a_nodeFree n) &&& (((a_nodeFree j) &&& (((1 : Int32) <<< (nI x &&& 31)) ^^^ (-1))) ^^^ (-1))) ^^^ (-1))) s = (bt (a_nodeFree j) s && !decide (s = x)) := by
    intro s hs
    have hs32 : s < 32 := by omega
    rw [rc_andn hs32, rc_andn hs32, rc_andn hs32, rc_1sh hx hs32]
    exact rc_bl1 _ _ _ fun h1 h2 => hsub s hs h1 (of_decide_eq_false h2)
  have hfv : bt (a_nodeFree j) x = true → rc_FV col' v := fun hb => rc_FV_m hv fun c hc hc0 e => p3 c hc0 (by
    simp only [hb, if_true]
    rw [rc_is_s e]; omega)
  have I3 := rc_assign (b := bt (a_nodeFree j) x) (v := v) (i := 12 * top + x) (by omega) (by
    rw [rc_ow_i ht2 hx, pk_us, hss, hbits x hx]; simp) hfv I2
  rw [rc_ow_st (Z := a_nodeFree j) ht2 hx (fun q hq hne => by rw [pk_us, hss, hbits q hq]; simp [hne]) rfl, rc_upd2] at I3
  refine ⟨col', F', ho', li', de', fh', lc', I3, p1, p2, fun c hc he => p3 c hc (by omega), p4, fun post hp => ?_⟩
  refine ⟨hinn, nm_r (e' := nI j) (by rw [en]; exact hnx) ⟨hinn, nm_r (e' := (1 : Int32) <<< (nI x &&& 31)) (by rw [en, hxx]) ⟨hinj, ?_⟩⟩⟩
  rw [ej]
  refine W1 _ _ (fun h => h) ?_
  refine ⟨hinj, nm_r (e' := (a_nodeFree j) &&& (((1 : Int32) <<< (nI x &&& 31)) ^^^ (-1))) (by rw [ej]) ⟨hinn, ?_⟩⟩
  rw [en]
  refine W2 _ ⟨hinn, ?_⟩
  have e12 : (f_frames - 1) * 12 + a_nodeX n = nI (12 * top + x) := by
    rw [hxx, hf, nI_pred, show nI top * 12 = nI (12 * top) from (pk_mul top 12).trans (congrArg nI (Nat.mul_comm _ _)), nI_add]
  refine ⟨?_, nm_r (e' := vp_updL a_slots (12 * top + x) v) ?_ hp⟩
  · rw [e12]; exact vp_in_nI (by omega) (by decide)
  · rw [e12, nI_clamp (by omega)]
end
end
section
section
variable {f_kindRet f_kindTail f_kindBind f_kindCon f_kindPrim f_kindCall f_kindMatch f_kindTest f_heapSize f_depthLimit f_nodeLimit f_nodeCount f_fragmentCount f_frames f_at f_deadCount f_freeHead f_fresh f_liveCells f_spareTotal f_counted f_status f_made f_reused f_peak f_calls f_resultCells : Int32} {f_cellBase f_result : Int64} {a_nodeKind a_nodeX a_nodeParam a_nodeA a_nodeB a_nodeNext a_nodeElse a_nodeFree a_nodeNeed a_fragments a_body a_waiting a_spareHead a_spareCount a_cellTag a_holds a_link a_dead a_cellOfNumber a_numberOfCell a_places a_walk : Nat → Int32} {a_slots a_cellLeft a_cellRight : Nat → Int64}
variable {lim fr fs : Nat} {E : Nat → Nat} {own : Nat → Bool} {S : Nat → List Nat} {col col' : Nat → Nat} {D F : List Nat}
/-- takeFree: some cell in hand -/
theorem rx_takeFree (hfs : fs < 200) (I : (rc_XI lim fr E own col D F S fs f_counted a_slots a_cellLeft a_cellRight a_holds a_link a_dead a_spareHead a_spareCount f_deadCount f_freeHead f_fresh f_liveCells f_spareTotal)) : ∃ (c fs' : Nat) (F' : List Nat) (fh' ff' : Int32), (rc_XI lim fr E own (rc_up col c 1000) D F' S fs' f_counted a_slots a_cellLeft a_cellRight a_holds a_link a_dead a_spareHead a_spareCount f_deadCount fh' ff' f_liveCells f_spareTotal) ∧ c < fs' ∧ fs' ≤ fs + 1 ∧ col c ≠ 0 ∧ (F = [] → c = fs ∧ fs' = fs + 1 ∧ F' = []) ∧ ∀ post : Int32 → SX → Prop, post (nI c) (f_kindRet, f_kindTail, f_kindBind, f_kindCon, f_kindPrim, f_kindCall, f_kindMatch, f_kindTest, f_cellBase, f_heapSize, f_depthLimit, f_nodeLimit, f_nodeCount, f_fragmentCount, f_frames, f_at, f_deadCount, fh', ff', f_liveCells, f_spareTotal, f_counted, f_status, f_made, f_reused, f_peak, f_calls, f_result, f_resultCells, a_nodeKind, a_nodeX, a_nodeParam, a_nodeA, a_nodeB, a_nodeNext, a_nodeElse, a_nodeFree, a_nodeNeed, a_fragments, a_body, a_slots, a_waiting, a_spareHead, a_spareCount, a_cellTag, a_cellLeft, a_cellRight, a_holds, a_link, a_dead, a_cellOfNumber, a_numberOfCell, a_places, a_walk) → wpX_takeFree post (f_kindRet, f_kindTail, f_kindBind, f_kindCon, f_kindPrim, f_kindCall, f_kindMatch, f_kindTest, f_cellBase, f_heapSize, f_depthLimit, f_nodeLimit, f_nodeCount, f_fragmentCount, f_frames, f_at, f_deadCount, f_freeHead, f_fresh, f_liveCells, f_spareTotal, f_counted, f_status, f_made, f_reused, f_peak, f_calls, f_result, f_resultCells, a_nodeKind, a_nodeX, a_nodeParam, a_nodeA, a_nodeB, a_nodeNext, a_nodeElse, a_nodeFree, a_nodeNeed, a_fragments, a_body, a_slots, a_waiting, a_spareHead, a_spareCount, a_cellTag, a_cellLeft, a_cellRight, a_holds, a_link, a_dead, a_cellOfNumber, a_numberOfCell, a_places, a_walk) := by
  obtain ⟨⟨a1, a2, a3, a4⟩, hB, ⟨c1, c2⟩, d1, d2, d3⟩ := I
  cases F with
  | nil =>
    have hfh : f_freeHead = -1 := c1.1
    have hc0 : col fs ≠ 0 := fun e => Nat.lt_irrefl _ (a2 fs e)
    have hiff := rc_up_iff (col := col) (c := fs) (k := 1000) hc0 (by omega)
    have hA : rc_A (fs + 1) own col a_slots a_cellLeft a_cellRight := ⟨by omega, fun c hc => by have := a2 c hc; omega, a3, a4⟩
    refine ⟨fs, fs + 1, [], f_freeHead, f_fresh + 1, ⟨rc_A_c hiff hA, rc_B_c hiff hB, ⟨⟨c1.1, c1.2.1, fun x hx => (List.not_mem_nil hx).elim⟩, fun f hf => ?_⟩, ?_, ?_, d3⟩, by omega, by omega, hc0, fun _ => ⟨rfl, rfl, rfl⟩, fun post hp => br_t (by rw [hfh]; exact rc_m1_lt) (nm_e ?_)⟩
    · have w := c2 f hf
      refine ⟨⟨w.1.1, w.1.2.1, fun x hx => ?_⟩, w.2⟩
      have w' := w.1.2.2 x hx
      exact ⟨by omega, by rw [rc_up_n (by omega)]; exact w'.2⟩
    · rw [d1, nI_1]
    · rw [d2, rc_ct_col hiff]
    · rw [d1] at hp ⊢; exact hp
  | cons c l =>
    obtain ⟨⟨l1, l2⟩, l3, l4⟩ := c1
    obtain ⟨hcf, hcc⟩ := l4 c List.mem_cons_self
    obtain ⟨n1, n2⟩ := List.nodup_cons.mp l3
    have hiff := rc_up_iff (col := col) (c := c) (k := 1000) (by omega) (by omega)
    refine ⟨c, fs, l, a_link c, f_fresh, ⟨rc_A_c hiff ⟨a1, a2, a3, a4⟩, rc_B_c hiff hB, ⟨⟨l2, n2, fun x hx => ?_⟩, fun f hf => ?_⟩, d1, ?_, d3⟩, hcf, by omega, by omega, fun h => absurd h (by simp), fun post hp => ?_⟩
    · have w := l4 x (List.mem_cons_of_mem _ hx)
      exact ⟨w.1, by rw [rc_up_n (fun e => by subst e; exact n1 hx)]; exact w.2⟩
    · have w := c2 f hf
      refine ⟨rc_LS_col w.1 fun x hx => ?_, w.2⟩
      rw [rc_up_n (fun ex => by subst ex; omega)]; exact hx
    · rw [d2, rc_ct_col hiff]
    · have ec : (nI c).toNatClampNeg = c := nI_clamp (by omega)
      subst l1
      exact br_f (nI_pos (by omega)) ⟨vp_in_nI (by omega) (by decide), nm_r (e' := a_link c) (by rw [ec]) hp⟩
/-- writing into a cell in hand changes nothing else -/
theorem rc_inhand {c : Nat} {va vb : Int64} {h : Int32} (hc : col c ≠ 0) (I : (rc_XI lim fr E own col D F S fs f_counted a_slots a_cellLeft a_cellRight a_holds a_link a_dead a_spareHead a_spareCount f_deadCount f_freeHead f_fresh f_liveCells f_spareTotal)) : (rc_XI lim fr E own col D F S fs f_counted a_slots (vp_updL a_cellLeft c va) (vp_updL a_cellRight c vb) (upd a_holds c h) a_link a_dead a_spareHead a_spareCount f_deadCount f_freeHead f_fresh f_liveCells f_spareTotal) := by
  obtain ⟨⟨a1, a2, a3, a4⟩, ⟨b1, b2⟩, hC, hD⟩ := I
  have hne : ∀ d, col d = 0 → d ≠ c := fun d hd e => hc (e ▸ hd)
  have e : rc_kk E own col a_slots (vp_updL a_cellLeft c va) (vp_updL a_cellRight c vb) = rc_kk E own col a_slots a_cellLeft a_cellRight := by
    funext x; unfold rc_kk
    rw [rc_rf_same (cl := a_cellLeft) (cr := a_cellRight) (fun d hd => ⟨pk_uLn (hne d hd), pk_uLn (hne d hd)⟩) x]
  refine ⟨⟨a1, a2, fun d hd => ?_, a4⟩, ⟨fun hct => ?_, b2⟩, hC, hD⟩
  · rw [pk_uLn (hne d hd), pk_uLn (hne d hd)]; exact a3 d hd
  · obtain ⟨h9, k1, k2⟩ := b1 hct
    refine ⟨h9, ?_⟩
    rw [e]
    exact ⟨fun x hx => by rw [pk_un (hne x hx)]; exact k1 x hx, k2⟩
/-- a cell in hand, filled, its fields held by hand: it becomes live, held by hand -/
theorem rc_con {c : Nat} {va vb : Int64} (hc : col c ≠ 0) (hcf : c < fs) (hl : a_cellLeft c = va) (hr : a_cellRight c = vb) (hh : f_counted ≠ 0 → a_holds c = 1) (hva : rc_FV col va) (hvb : rc_FV col vb) (hF : ∀ x ∈ F, x ≠ c) (hS : ∀ f, f < fr → ∀ x ∈ S f, x ≠ c) (I : (rc_XI lim fr (fun x => 0 + rc_is va x + rc_is vb x) own col ([]) F S fs f_counted a_slots a_cellLeft a_cellRight a_holds a_link a_dead a_spareHead a_spareCount f_deadCount f_freeHead f_fresh f_liveCells f_spareTotal)) : (rc_XI lim fr (fun x => 0 + rc_is (rc_cv c) x) own (rc_up col c 0) ([]) F S fs f_counted a_slots a_cellLeft a_cellRight a_holds a_link a_dead a_spareHead a_spareCount f_deadCount f_freeHead f_fresh (f_liveCells + 1) f_spareTotal) := by
  obtain ⟨⟨a1, a2, a3, a4⟩, ⟨b1, b2⟩, ⟨c1, c2⟩, d1, d2, d3⟩ := I
  have hc200 : c < 200 := by omega
  have hcl : c < 2 ^ 31 := by omega
  have e0 : rc_up (rc_up col c 0) c (col c) = col := by
    funext x; unfold rc_up; split
    · next h => rw [h]
    · rfl
  have hFV : ∀ v, rc_FV col v → rc_FV (rc_up col c 0) v := fun v h => rc_FV_m h fun x _ hx _ => by
    by_cases e : x = c
    · subst e; exact rc_up_s
    · rw [rc_up_n e]; exact hx
  have hne : ∀ v, rc_FV col v → rc_is v c = 0 := fun v h => by
    rcases h with ⟨z, rfl⟩ | ⟨x, hx, hx0, rfl⟩
    · exact rc_is_i z hcl
    · exact rc_is_c (by omega) hcl (fun e => hc (e ▸ hx0))
  have hrt : rc_rt own a_slots c = 0 := rc_sm_z fun i hi => by
    show (if own i = true then rc_is (a_slots i) c else 0) = 0
    split
    · next h => exact hne _ (a4 i hi h)
    · rfl
  have hrf : rc_rf col a_cellLeft a_cellRight c = 0 := rc_sm_z fun d hd => by
    show (if col d = 0 then rc_is (a_cellLeft d) c + rc_is (a_cellRight d) c else 0) = 0
    split
    · next h => rw [hne _ (a3 d h).1, hne _ (a3 d h).2]
    · rfl
  have hrf2 : ∀ x, rc_rf (rc_up col c 0) a_cellLeft a_cellRight x = rc_rf col a_cellLeft a_cellRight x + rc_is va x + rc_is vb x := by
    intro x
    rw [rc_rf_off (col := rc_up col c 0) (k := col c) hc200 rc_up_s hc x, e0, hl, hr]
  refine ⟨⟨a1, fun x hx => ?_, fun d hd => ?_, fun i hi ho => hFV _ (a4 i hi ho)⟩, ⟨fun hct => ?_, b2⟩, ⟨⟨c1.1, c1.2.1, fun x hx => ?_⟩, fun f hf => ?_⟩, d1, ?_, d3⟩
  · by_cases e : x = c
    · omega
    · rw [rc_up_n e] at hx; exact a2 x hx
  · by_cases e : d = c
    · subst e; rw [hl, hr]; exact ⟨hFV _ hva, hFV _ hvb⟩
    · rw [rc_up_n e] at hd; exact ⟨hFV _ (a3 d hd).1, hFV _ (a3 d hd).2⟩
  · obtain ⟨h9, k1, k2, k3, k4, k5⟩ := b1 hct
    have key : ∀ x, x ≠ c → x < 200 → rc_kk (fun x => 0 + rc_is (rc_cv c) x) own (rc_up col c 0) a_slots a_cellLeft a_cellRight x = rc_kk (fun x => 0 + rc_is va x + rc_is vb x) own col a_slots a_cellLeft a_cellRight x := by
      intro x hx hx2; unfold rc_kk; dsimp only; rw [hrf2 x, rc_is_c hcl (by omega) hx]; omega
    have keyc : rc_kk (fun x => 0 + rc_is (rc_cv c) x) own (rc_up col c 0) a_slots a_cellLeft a_cellRight c = 1 := by
      unfold rc_kk; dsimp only; rw [hrf2 c, hrt, hrf, rc_is_s rfl, hne _ hva, hne _ hvb]
    refine ⟨fun x => by have := rc_is_le (rc_cv c) x; show 0 + rc_is (rc_cv c) x ≤ 9; omega, fun x hx => ?_, k2, k3, k4, rc_mem0 fun x hx => ?_⟩
    · by_cases e : x = c
      · subst e; rw [keyc, hh hct]; rfl
      · rw [rc_up_n e] at hx
        have := a2 x hx
        rw [key x e (by omega)]; exact k1 x hx
    · by_cases e : x = c
      · subst e; rw [keyc]; omega
      · rw [rc_up_n e] at hx
        have := a2 x hx
        rw [key x e (by omega)]; exact rc_mem0' k5 hx
  · have w := c1.2.2 x hx
    exact ⟨w.1, by rw [rc_up_n (hF x hx)]; exact w.2⟩
  · have w := c2 f hf
    exact ⟨⟨w.1.1, w.1.2.1, fun x hx => ⟨(w.1.2.2 x hx).1, by rw [rc_up_n (hS f hf x hx)]; exact (w.1.2.2 x hx).2⟩⟩, w.2⟩
  · have := rc_ct_off (col := rc_up col c 0) (c := c) (k := col c) hc200 rc_up_s hc
    rw [e0] at this
    rw [d2, nI_1, this]; congr 1; omega
/-- spend -/
theorem rx_spend {i c top : Nat} (hi : i < 192) (ho : own i = true) (hsl : a_slots i = rc_cv c) (hc : c < 200) (ht : top < fr) (hfr : fr ≤ 16) (hf : f_frames = nI (top + 1)) (I : (rc_XI 0 fr E own col ([]) F S fs f_counted a_slots a_cellLeft a_cellRight a_holds a_link a_dead a_spareHead a_spareCount f_deadCount f_freeHead f_fresh f_liveCells f_spareTotal)) : ∃ (col' : Nat → Nat) (F' : List Nat) (S' : Nat → List Nat) (ho' li' de' sh' sc' : Nat → Int32) (fh' lc' st' : Int32), (rc_XI 0 fr E (rc_st own i false) col' ([]) F' S' fs f_counted a_slots a_cellLeft a_cellRight ho' li' de' sh' sc' 0 fh' f_fresh lc' st') ∧ (∀ x, col' x = 0 → col x = 0) ∧ (∀ x, x ≠ c → col x ≠ 0 → col' x = col x) ∧ (∀ x, x < 200 → col x = 0 → E x + rc_rt (rc_st own i false) a_slots x ≠ 0 → col' x = 0) ∧ ((col' c = 0 ∧ S' = S) ∨ (col' c ≠ 0 ∧ S' = rc_us S top (c :: S top))) ∧ (f_counted = 0 → col' = col ∧ F' = F ∧ S' = S) ∧ ∀ (post : SX → Prop), post (f_kindRet, f_kindTail, f_kindBind, f_kindCon, f_kindPrim, f_kindCall, f_kindMatch, f_kindTest, f_cellBase, f_heapSize, f_depthLimit, f_nodeLimit, f_nodeCount, f_fragmentCount, f_frames, f_at, 0, fh', f_fresh, lc', st', f_counted, f_status, f_made, f_reused, f_peak, f_calls, f_result, f_resultCells, a_nodeKind, a_nodeX, a_nodeParam, a_nodeA, a_nodeB, a_nodeNext, a_nodeElse, a_nodeFree, a_nodeNeed, a_fragments, a_body, a_slots, a_waiting, sh', sc', a_cellTag, a_cellLeft, a_cellRight, ho', li', de', a_cellOfNumber, a_numberOfCell, a_places, a_walk) → wpX_spend post (f_kindRet, f_kindTail, f_kindBind, f_kindCon, f_kindPrim, f_kindCall, f_kindMatch, f_kindTest, f_cellBase, f_heapSize, f_depthLimit, f_nodeLimit, f_nodeCount, f_fragmentCount, f_frames, f_at, f_deadCount, f_freeHead, f_fresh, f_liveCells, f_spareTotal, f_counted, f_status, f_made, f_reused, f_peak, f_calls, f_result, f_resultCells, a_nodeKind, a_nodeX, a_nodeParam, a_nodeA, a_nodeB, a_nodeNext, a_nodeElse, a_nodeFree, a_nodeNeed, a_fragments, a_body, a_slots, a_waiting, a_spareHead, a_spareCount, a_cellTag, a_cellLeft, a_cellRight, a_holds, a_link, a_dead, a_cellOfNumber, a_numberOfCell, a_places, a_walk) (nI c) := by
  have hown' : ∀ j, rc_st own i false j = true → own j = true := fun j hj => by
    unfold rc_st at hj
    split at hj
    · exact absurd hj (by decide)
    · exact hj
  obtain ⟨hA, hB, hC, hD⟩ := I
  have hcl : c < 2 ^ 31 := by omega
  have hc0 : col c = 0 := by
    rcases hA.2.2.2 i hi ho with ⟨z, e⟩ | ⟨x, hx, hx0, e⟩
    · exact absurd (e.symm.trans hsl) (rc_i_ne z hcl)
    · rw [hsl] at e; rw [rc_cv_inj hcl (by omega) e]; exact hx0
  have ec : (nI c).toNatClampNeg = c := nI_clamp hcl
  have hin : vp_in (nI c) 200 := vp_in_nI hc (by decide)
  by_cases hct : f_counted = 0
  · obtain ⟨_, e2⟩ := hB.2 hct
    subst e2
    exact ⟨col, F, S, a_holds, a_link, a_dead, a_spareHead, a_spareCount, f_freeHead, f_liveCells, f_spareTotal, ⟨rc_A_own hA hown', ⟨fun h => absurd hct h, fun _ => ⟨rfl, rfl⟩⟩, hC, hD⟩, fun _ h => h, fun _ _ _ => rfl, fun _ _ h _ => h, Or.inl ⟨hc0, rfl⟩, fun _ => ⟨rfl, rfl, rfl⟩, fun post hp => br_t hct hp⟩
  · obtain ⟨h9, k1, k2, k3, k4, k5⟩ := hB.1 hct
    have hb9 : ∀ x, rc_kk E own col a_slots a_cellLeft a_cellRight x < 1000 := fun x => by
      have := rc_kk_le (own := own) (col := col) (sl := a_slots) (cl := a_cellLeft) (cr := a_cellRight) h9 x; omega
    have hk : ∀ x, rc_kk E own col a_slots a_cellLeft a_cellRight x = rc_kk E (rc_st own i false) col a_slots a_cellLeft a_cellRight x + rc_is (rc_cv c) x := by
      intro x; unfold rc_kk; rw [rc_rt_off hi ho x, hsl]; omega
    have hkc : rc_kk E own col a_slots a_cellLeft a_cellRight c = rc_kk E (rc_st own i false) col a_slots a_cellLeft a_cellRight c + 1 := by rw [hk c, rc_is_s rfl]
    have hkn : ∀ x, x ≠ c → x < 200 → rc_kk E own col a_slots a_cellLeft a_cellRight x = rc_kk E (rc_st own i false) col a_slots a_cellLeft a_cellRight x := by
      intro x hx hx2; rw [hk x, rc_is_c hcl (by omega) hx]; rfl
    have hdc : f_deadCount = 0 := k2
    subst hdc
    have hlt : ∀ x, col x = 0 → x < 200 := fun x hx => by have := hA.2.1 x hx; have := hA.1; omega
    have eho : upd a_holds (nI c).toNatClampNeg (a_holds (nI c).toNatClampNeg - 1) = upd a_holds c (nI (rc_kk E (rc_st own i false) col a_slots a_cellLeft a_cellRight c)) := by
      rw [ec, k1 c hc0, hkc, nI_pred]
    by_cases hz : rc_kk E (rc_st own i false) col a_slots a_cellLeft a_cellRight c = 0
    · have hcol1 : ∀ x, rc_up col c 1000 x = 0 ↔ x ≠ c ∧ col x = 0 := by
        intro x
        by_cases e : x = c
        · subst e; rw [rc_up_s]; simp
        · rw [rc_up_n e]; simp [e]
      have hz' : E c = 0 ∧ rc_rt (rc_st own i false) a_slots c = 0 ∧ rc_rf col a_cellLeft a_cellRight c = 0 := by unfold rc_kk at hz; omega
      have hkk : ∀ x, rc_kk E (rc_st own i false) col a_slots a_cellLeft a_cellRight x = (rc_kk E (rc_st own i false) (rc_up col c 1000) a_slots a_cellLeft a_cellRight x + rc_is (a_cellRight c) x) + rc_is (a_cellLeft c) x := by
        intro x; unfold rc_kk; rw [rc_rf_off (k := 1000) hc hc0 (by omega) x]; omega
      have fvc : ∀ d, col d = 0 → rc_FV (rc_up col c 1000) (a_cellLeft d) ∧ rc_FV (rc_up col c 1000) (a_cellRight d) := by
        intro d hd
        refine ⟨rc_FV_m (hA.2.2.1 d hd).1 fun x hx hx0 e => (hcol1 x).mpr ⟨fun ex => ?_, hx0⟩, rc_FV_m (hA.2.2.1 d hd).2 fun x hx hx0 e => (hcol1 x).mpr ⟨fun ex => ?_, hx0⟩⟩
        · subst ex
          have := rc_rf_ge (col := col) (cl := a_cellLeft) (cr := a_cellRight) (d := d) (c := x) (hlt d hd) hd (Or.inl e)
          omega
        · subst ex
          have := rc_rf_ge (col := col) (cl := a_cellLeft) (cr := a_cellRight) (d := d) (c := x) (hlt d hd) hd (Or.inr e)
          omega
      have hc1lt : ∀ x, rc_up col c 1000 x = 0 → x < 200 := fun x hx => hlt x ((hcol1 x).mp hx).2
      have H0 : rc_HC (rc_up col c 1000) (rc_kk E (rc_st own i false) col a_slots a_cellLeft a_cellRight) [] (upd a_holds c (nI (rc_kk E (rc_st own i false) col a_slots a_cellLeft a_cellRight c))) a_dead 0 := by
        refine ⟨fun x hx => ?_, rfl, trivial, List.nodup_nil, rc_mem0 fun x hx => ?_⟩
        · obtain ⟨w1, w2⟩ := (hcol1 x).mp hx
          rw [pk_un w1, k1 x w2, hkn x w1 (hlt x w2)]
        · obtain ⟨w1, w2⟩ := (hcol1 x).mp hx
          rw [← hkn x w1 (hlt x w2)]; exact rc_mem0' k5 w2
      obtain ⟨D2, ho2, de2, dc2, H2, W2⟩ := rx_unh (k' := fun x => rc_kk E (rc_st own i false) (rc_up col c 1000) a_slots a_cellLeft a_cellRight x + rc_is (a_cellRight c) x) (v := a_cellLeft c) (f_kindRet := f_kindRet) (f_kindTail := f_kindTail) (f_kindBind := f_kindBind) (f_kindCon := f_kindCon) (f_kindPrim := f_kindPrim) (f_kindCall := f_kindCall) (f_kindMatch := f_kindMatch) (f_kindTest := f_kindTest) (f_cellBase := f_cellBase) (f_heapSize := f_heapSize) (f_depthLimit := f_depthLimit) (f_nodeLimit := f_nodeLimit) (f_nodeCount := f_nodeCount) (f_fragmentCount := f_fragmentCount) (f_frames := f_frames) (f_at := f_at) (f_deadCount := 0) (f_freeHead := f_freeHead) (f_fresh := f_fresh) (f_liveCells := f_liveCells) (f_spareTotal := f_spareTotal) (f_counted := f_counted) (f_status := f_status) (f_made := f_made) (f_reused := f_reused) (f_peak := f_peak) (f_calls := f_calls) (f_result := f_result) (f_resultCells := f_resultCells) (a_nodeKind := a_nodeKind) (a_nodeX := a_nodeX) (a_nodeParam := a_nodeParam) (a_nodeA := a_nodeA) (a_nodeB := a_nodeB) (a_nodeNext := a_nodeNext) (a_nodeElse := a_nodeElse) (a_nodeFree := a_nodeFree) (a_nodeNeed := a_nodeNeed) (a_fragments := a_fragments) (a_body := a_body) (a_slots := a_slots) (a_waiting := a_waiting) (a_spareHead := a_spareHead) (a_spareCount := a_spareCount) (a_cellTag := a_cellTag) (a_cellLeft := a_cellLeft) (a_cellRight := a_cellRight) (a_holds := upd a_holds c (nI (rc_kk E (rc_st own i false) col a_slots a_cellLeft a_cellRight c))) (a_link := a_link) (a_dead := a_dead) (a_cellOfNumber := a_cellOfNumber) (a_numberOfCell := a_numberOfCell) (a_places := a_places) (a_walk := a_walk) hct hc1lt H0 (fvc c hc0).1 (fun x _ => hkk x) (fun x => by have := hk x; have := hb9 x; omega)
      obtain ⟨D3, ho3, de3, dc3, H3, W3⟩ := rx_unh (k' := rc_kk E (rc_st own i false) (rc_up col c 1000) a_slots a_cellLeft a_cellRight) (v := a_cellRight c) (f_kindRet := f_kindRet) (f_kindTail := f_kindTail) (f_kindBind := f_kindBind) (f_kindCon := f_kindCon) (f_kindPrim := f_kindPrim) (f_kindCall := f_kindCall) (f_kindMatch := f_kindMatch) (f_kindTest := f_kindTest) (f_cellBase := f_cellBase) (f_heapSize := f_heapSize) (f_depthLimit := f_depthLimit) (f_nodeLimit := f_nodeLimit) (f_nodeCount := f_nodeCount) (f_fragmentCount := f_fragmentCount) (f_frames := f_frames) (f_at := f_at) (f_deadCount := dc2) (f_freeHead := f_freeHead) (f_fresh := f_fresh) (f_liveCells := f_liveCells) (f_spareTotal := f_spareTotal) (f_counted := f_counted) (f_status := f_status) (f_made := f_made) (f_reused := f_reused) (f_peak := f_peak) (f_calls := f_calls) (f_result := f_result) (f_resultCells := f_resultCells) (a_nodeKind := a_nodeKind) (a_nodeX := a_nodeX) (a_nodeParam := a_nodeParam) (a_nodeA := a_nodeA) (a_nodeB := a_nodeB) (a_nodeNext := a_nodeNext) (a_nodeElse := a_nodeElse) (a_nodeFree := a_nodeFree) (a_nodeNeed := a_nodeNeed) (a_fragments := a_fragments) (a_body := a_body) (a_slots := a_slots) (a_waiting := a_waiting) (a_spareHead := a_spareHead) (a_spareCount := a_spareCount) (a_cellTag := a_cellTag) (a_cellLeft := a_cellLeft) (a_cellRight := a_cellRight) (a_holds := ho2) (a_link := a_link) (a_dead := de2) (a_cellOfNumber := a_cellOfNumber) (a_numberOfCell := a_numberOfCell) (a_places := a_places) (a_walk := a_walk) hct hc1lt H2 (fvc c hc0).2 (fun x _ => rfl) (fun x => by have := hk x; have := hkk x; have := hb9 x; omega)
      have I1 : (rc_XI 1 fr E (rc_st own i false) (rc_up col c 1000) D3 F S fs f_counted a_slots a_cellLeft a_cellRight ho3 a_link de3 a_spareHead a_spareCount dc3 f_freeHead f_fresh f_liveCells f_spareTotal) := by
        obtain ⟨c1, c2⟩ := hC
        obtain ⟨d1, d2, d3⟩ := hD
        refine ⟨⟨hA.1, fun x hx => hA.2.1 x ((hcol1 x).mp hx).2, fun d hd => fvc d ((hcol1 d).mp hd).2, fun j hj hw => ?_⟩, ⟨fun _ => ⟨h9, H3⟩, fun h => absurd h hct⟩, ⟨rc_LS_col c1 fun x hx => ?_, fun f hf => ⟨rc_LS_col (c2 f hf).1 fun x hx => ?_, (c2 f hf).2⟩⟩, d1, ?_, d3⟩
        · refine rc_FV_m (hA.2.2.2 j hj (hown' j hw)) fun x hx hx0 e => (hcol1 x).mpr ⟨fun ex => ?_, hx0⟩
          subst ex
          have := rc_rt_ge (sl := a_slots) hj hw e
          omega
        · rw [rc_up_n (fun e => by subst e; omega)]; exact hx
        · rw [rc_up_n (fun e => by subst e; omega)]; exact hx
        · have := rc_ct_off (col := col) (c := c) (k := 1000) hc hc0 (by omega)
          rw [d2, this]
      obtain ⟨col2, F2, ho4, li4, de4, fh4, lc4, I2, p1, p2, p3, _, W4⟩ := rx_sweep (f_kindRet := f_kindRet) (f_kindTail := f_kindTail) (f_kindBind := f_kindBind) (f_kindCon := f_kindCon) (f_kindPrim := f_kindPrim) (f_kindCall := f_kindCall) (f_kindMatch := f_kindMatch) (f_kindTest := f_kindTest) (f_cellBase := f_cellBase) (f_heapSize := f_heapSize) (f_depthLimit := f_depthLimit) (f_nodeLimit := f_nodeLimit) (f_nodeCount := f_nodeCount) (f_fragmentCount := f_fragmentCount) (f_frames := f_frames) (f_at := f_at) (f_deadCount := dc3) (f_freeHead := f_freeHead) (f_fresh := f_fresh) (f_liveCells := f_liveCells) (f_spareTotal := f_spareTotal) (f_counted := f_counted) (f_status := f_status) (f_made := f_made) (f_reused := f_reused) (f_peak := f_peak) (f_calls := f_calls) (f_result := f_result) (f_resultCells := f_resultCells) (a_nodeKind := a_nodeKind) (a_nodeX := a_nodeX) (a_nodeParam := a_nodeParam) (a_nodeA := a_nodeA) (a_nodeB := a_nodeB) (a_nodeNext := a_nodeNext) (a_nodeElse := a_nodeElse) (a_nodeFree := a_nodeFree) (a_nodeNeed := a_nodeNeed) (a_fragments := a_fragments) (a_body := a_body) (a_slots := a_slots) (a_waiting := a_waiting) (a_spareHead := a_spareHead) (a_spareCount := a_spareCount) (a_cellTag := a_cellTag) (a_cellLeft := a_cellLeft) (a_cellRight := a_cellRight) (a_holds := ho3) (a_link := a_link) (a_dead := de3) (a_cellOfNumber := a_cellOfNumber) (a_numberOfCell := a_numberOfCell) (a_places := a_places) (a_walk := a_walk) I1
      have hc2 : col2 c = 1000 := (p2 c (by rw [rc_up_s]; omega)).trans rc_up_s
      have I3 := rc_putSpare ht hfr hc2 (hA.2.1 c hc0) I2
      have I4 : (rc_XI 0 fr E (rc_st own i false) (rc_up col2 c (2 + top)) ([]) F2 (rc_us S top (c :: S top)) fs f_counted a_slots a_cellLeft a_cellRight ho4 (upd li4 c (a_spareHead top)) de4 (upd a_spareHead top (nI c)) (upd a_spareCount top (a_spareCount top + 1)) 0 fh4 f_fresh (lc4 - 1) (f_spareTotal + 1)) := by
        obtain ⟨x1, x2, x3, y1, y2, y3⟩ := I3
        exact ⟨x1, x2, x3, y1, by rw [y2]; exact nI_pred _, y3⟩
      refine ⟨_, F2, _, ho4, _, de4, _, _, fh4, _, _, I4, fun x hx => ?_, fun x hx hx0 => ?_, fun x hx2 hx hr => ?_, Or.inr ⟨by rw [rc_up_s]; omega, rfl⟩, fun h => absurd h hct, fun post hp => ?_⟩
      · by_cases e : x = c
        · subst e; rw [rc_up_s] at hx; omega
        · rw [rc_up_n e] at hx
          exact ((hcol1 x).mp (p1 x hx)).2
      · rw [rc_up_n hx, p2 x (by rw [rc_up_n hx]; exact hx0), rc_up_n hx]
      · have e : x ≠ c := fun e => by subst e; omega
        rw [rc_up_n e]
        exact p3 x ((hcol1 x).mpr ⟨e, hx⟩) hr
      · refine br_f hct ⟨hin, hin, nm_r (e' := upd a_holds c (nI (rc_kk E (rc_st own i false) col a_slots a_cellLeft a_cellRight c))) eho ⟨hin, br_t ?_ ⟨hin, ?_⟩⟩⟩
        · rw [ec, pk_us, hz]; decide
        · have htin : vp_in (nI top) 16 := vp_in_nI (by omega) (by decide)
          have et : (nI top).toNatClampNeg = top := nI_clamp (by omega)
          rw [ec]
          exact W2 _ ⟨hin, W3 _ (W4 _ (nm_e (nm_r (e' := nI top) (by rw [hf, nI_pred]) ⟨htin, hin, nm_r (e' := upd li4 c (a_spareHead top)) (by rw [et]) ⟨htin, nm_r (e' := upd a_spareHead top (nI c)) (by rw [et]) ⟨htin, htin, nm_r (e' := upd a_spareCount top (a_spareCount top + 1)) (by rw [et]) (nm_e hp)⟩⟩⟩)))⟩
    · refine ⟨col, F, S, upd a_holds c (nI (rc_kk E (rc_st own i false) col a_slots a_cellLeft a_cellRight c)), a_link, a_dead, a_spareHead, a_spareCount, f_freeHead, f_liveCells, f_spareTotal, ⟨rc_A_own hA hown', ⟨fun _ => ⟨h9, fun x hx => ?_, k2, k3, k4, rc_mem0 fun x hx => ?_⟩, fun h => absurd h hct⟩, hC, hD⟩, fun _ h => h, fun _ _ _ => rfl, fun _ _ h _ => h, Or.inl ⟨hc0, rfl⟩, fun _ => ⟨rfl, rfl, rfl⟩, fun post hp => ?_⟩
      · by_cases e : x = c
        · subst e; exact pk_us
        · rw [pk_un e, k1 x hx, hkn x e (hlt x hx)]
      · by_cases e : x = c
        · subst e; exact hz
        · rw [← hkn x e (hlt x hx)]; exact rc_mem0' k5 hx
      · refine br_f hct ⟨hin, hin, nm_r (e' := upd a_holds c (nI (rc_kk E (rc_st own i false) col a_slots a_cellLeft a_cellRight c))) eho ⟨hin, br_f ?_ hp⟩⟩
        rw [ec, pk_us]
        have := hb9 c
        exact nI_nle (by omega) (by omega)
end
end
section
/-! the node tables: na, nb X's operands, fe = Free, nd = Need, ya, yb the reference's operands -/
def rc_op (o : Int32) : Prop := o < 0 ∨ ∃ s, s < 12 ∧ o = nI s
def rc_bit (o : Int32) : Int32 := if o < 0 then 0 else (1 : Int32) <<< (o &&& 31)
def rc_b1 (x : Nat) : Int32 := (1 : Int32) <<< (nI x &&& 31)
def rc_P0 (kd pm nb : Nat → Int32) (i : Nat) : Prop := (kd i = 1 → ∃ f, f < 8 ∧ pm i = nI f) ∧ (kd i = 0 → nb i = -1)
def rc_ND0 (nd : Nat → Nat) (kd pm na nb nx el fe ya yb : Nat → Int32) (i : Nat) : Prop :=
  (kd i = 0 ∨ kd i = 1) ∧ na i = ya i ∧ nb i = yb i ∧ rc_op (na i) ∧ rc_op (nb i) ∧ rc_P0 kd pm nb i ∧ nx i = -1 ∧ el i = -1 ∧ fe i = rc_bit (na i) ||| rc_bit (nb i) ∧ nd i = 0
def rc_PM (kd pm : Nat → Int32) (i : Nat) : Prop := (kd i = 5 → ∃ f, f < 8 ∧ pm i = nI f) ∧ (kd i = 4 → pm i = 0 ∨ pm i = 1 ∨ pm i = 2 ∨ pm i = 3 ∨ pm i = 4)
def rc_ND2 (nd : Nat → Nat) (kd pm na nb nx el fe ya yb : Nat → Int32) (x i : Nat) : Prop :=
  (kd i = 2 ∨ kd i = 3 ∨ kd i = 4 ∨ kd i = 5) ∧ na i = ya i ∧ nb i = yb i ∧ rc_op (na i) ∧ rc_op (nb i) ∧ rc_PM kd pm i ∧ el i = -1 ∧ ∃ j, j < i ∧ nx i = nI j ∧ fe i = (rc_bit (na i) ||| rc_bit (nb i)) ||| (fe j &&& (rc_b1 x ^^^ (-1))) ∧ nd i = nd j + (if kd i = 3 then 1 else 0)
def rc_ND6 (nd : Nat → Nat) (kd pm na nb nx el fe ya yb : Nat → Int32) (x i : Nat) : Prop :=
  kd i = 6 ∧ ∃ y z j e, y < 12 ∧ z < 12 ∧ x ≠ y ∧ x ≠ z ∧ y ≠ z ∧ na i = nI y ∧ nb i = nI z ∧ ya i = nI y ∧ yb i = nI z ∧ j < i ∧ e < i ∧ nx i = nI j ∧ el i = nI e ∧ fe i = (rc_b1 x ||| ((fe j &&& (rc_b1 y ^^^ (-1))) &&& (rc_b1 z ^^^ (-1)))) ||| fe e ∧ nd i = max (nd j) (nd e)
def rc_ND7 (nd : Nat → Nat) (kd pm na nb nx el fe ya yb : Nat → Int32) (x i : Nat) : Prop :=
  kd i = 7 ∧ ya i = -1 ∧ yb i = -1 ∧ ∃ j e, j < i ∧ e < i ∧ nx i = nI j ∧ el i = nI e ∧ fe i = (rc_b1 x ||| fe j) ||| fe e ∧ nd i = max (nd j) (nd e)
def rc_ND (nd : Nat → Nat) (kd xx pm na nb nx el fe ya yb : Nat → Int32) (i : Nat) : Prop :=
  nd i ≤ i + 1 ∧ ∃ x, x < 12 ∧ xx i = nI x ∧ (rc_ND0 nd kd pm na nb nx el fe ya yb i ∨ rc_ND2 nd kd pm na nb nx el fe ya yb x i ∨ rc_ND6 nd kd pm na nb nx el fe ya yb x i ∨ rc_ND7 nd kd pm na nb nx el fe ya yb x i)
theorem rc_bit_m : rc_bit (-1) = 0 := if_pos rc_m1_lt
theorem rc_bit_n {s : Nat} (h : s < 12) : rc_bit (nI s) = rc_b1 s := if_neg (nI_pos (by omega))
theorem rc_b1_b {x s : Nat} (hx : x < 12) (hs : s < 32) : bt (rc_b1 x) s = decide (s = x) := rc_1sh hx hs
theorem rc_bit_b {o : Int32} {s : Nat} (h : s < 12) (e : o = nI s) : bt (rc_bit o) s = true := by
  subst e; rw [rc_bit_n h, rc_b1_b h (by omega)]; simp
section
variable {g_heapSize g_depthLimit g_nodeLimit g_nodeCount g_fragCount g_frames g_made g_inRun g_reused g_peak g_calls g_status g_resKind g_resNumber g_numbered : Int32} {b_nodeKind b_nodeX b_nodeT b_nodeA b_nodeB b_nodeNext b_nodeElse b_scratch b_frag b_body b_slotKind b_slotNumber b_spares b_waits b_cellTag b_partKind b_partNumber b_live b_order b_todo : Nat → Int32}
variable {nc t : Nat} {nd : Nat → Nat} {na nb fe sc : Nat → Int32}
theorem ry_free_68 {i x : Nat} {x1 : Int32} (hi : i < 48) (hx : x < 12) (hsc : ∀ j, j < i → sc j = fe j) (H : rc_ND0 nd b_nodeKind b_nodeT na nb b_nodeNext b_nodeElse fe b_nodeA b_nodeB i ∨ rc_ND2 nd b_nodeKind b_nodeT na nb b_nodeNext b_nodeElse fe b_nodeA b_nodeB x i ∨ rc_ND6 nd b_nodeKind b_nodeT na nb b_nodeNext b_nodeElse fe b_nodeA b_nodeB x i ∨ rc_ND7 nd b_nodeKind b_nodeT na nb b_nodeNext b_nodeElse fe b_nodeA b_nodeB x i) (post : Int32 → SY → Prop) (J2 : Int32 → (Nat → Int32) → (Nat → Int32) → (Nat → Int32) → (Nat → Int32) → (Nat → Int32) → (Nat → Int32) → (Nat → Int32) → (Nat → Int32) → (Nat → Int32) → (Nat → Int32) → (Nat → Int32) → (Nat → Int32) → (Nat → Int32) → (Nat → Int32) → (Nat → Int32) → (Nat → Int32) → (Nat → Int32) → (Nat → Int32) → (Nat → Int32) → (Nat → Int32) → Prop) (hJ : J2 (nI (i + 1)) b_nodeKind b_nodeX b_nodeT b_nodeA b_nodeB b_nodeNext b_nodeElse (upd sc i (fe i)) b_frag b_body b_slotKind b_slotNumber b_spares b_waits b_cellTag b_partKind b_partNumber b_live b_order b_todo) : wY_free_68 post J2 x1 (nI i) (b_nodeKind i) (rc_b1 x) (rc_bit (b_nodeA i)) (rc_bit (b_nodeB i)) g_heapSize g_depthLimit g_nodeLimit g_nodeCount g_fragCount g_frames g_made g_inRun g_reused g_peak g_calls g_status g_resKind g_resNumber g_numbered b_nodeKind b_nodeX b_nodeT b_nodeA b_nodeB b_nodeNext b_nodeElse sc b_frag b_body b_slotKind b_slotNumber b_spares b_waits b_cellTag b_partKind b_partNumber b_live b_order b_todo := by
  have ei : (nI i).toNatClampNeg = i := nI_clamp (by omega)
  have hin : vp_in (nI i) 48 := vp_in_nI hi (by decide)
  rcases H with ⟨hk, ha, hb, -, -, -, -, -, hf, -⟩ | ⟨hk, ha, hb, -, -, -, -, j, hj, hnx, hf, -⟩ | ⟨hk, y, z, j, e, hy, hz, -, -, -, -, -, hya, hyb, hj, he, hnx, hel, hf, -⟩ | ⟨hk, hya, hyb, j, e, hj, he, hnx, hel, hf, -⟩
  · have h6 : ¬ b_nodeKind i = 6 := by rcases hk with h | h <;> rw [h] <;> decide
    have h7 : ¬ b_nodeKind i = 7 := by rcases hk with h | h <;> rw [h] <;> decide
    have hfin : wY_free_171 post J2 x1 (nI i) (rc_bit (b_nodeA i)) (rc_bit (b_nodeB i)) g_heapSize g_depthLimit g_nodeLimit g_nodeCount g_fragCount g_frames g_made g_inRun g_reused g_peak g_calls g_status g_resKind g_resNumber g_numbered b_nodeKind b_nodeX b_nodeT b_nodeA b_nodeB b_nodeNext b_nodeElse sc b_frag b_body b_slotKind b_slotNumber b_spares b_waits b_cellTag b_partKind b_partNumber b_live b_order b_todo := by
      refine ⟨hin, nm_r (e' := upd sc i (fe i)) ?_ (nm_r (nI_1 i) hJ)⟩
      rw [ei, hf, ha, hb]
    refine br_f h6 (br_f h7 ?_)
    rcases hk with h | h
    · exact br_t h hfin
    · exact br_f (by rw [h]; decide) (br_t h hfin)
  · have hnj : (nI j).toNatClampNeg = j := nI_clamp (by omega)
    have hk' : ¬ b_nodeKind i = 6 ∧ ¬ b_nodeKind i = 7 ∧ ¬ b_nodeKind i = 0 ∧ ¬ b_nodeKind i = 1 := by
      rcases hk with h | h | h | h <;> rw [h] <;> decide
    refine br_f hk'.1 (br_f hk'.2.1 (br_f hk'.2.2.1 (br_f hk'.2.2.2 ⟨hin, ?_, hin, nm_r (e' := upd sc i (fe i)) ?_ (nm_r (nI_1 i) hJ)⟩)))
    · rw [ei, hnx]; exact vp_in_nI (by omega) (by decide)
    · rw [ei, hnx, hnj, hf, ha, hb, hsc j hj]
  · have hnj : (nI j).toNatClampNeg = j := nI_clamp (by omega)
    have hne : (nI e).toNatClampNeg = e := nI_clamp (by omega)
    refine br_t hk ⟨hin, ?_, hin, ?_, hin, nm_r (e' := upd sc i (fe i)) ?_ (nm_r (nI_1 i) hJ)⟩
    · rw [ei, hnx]; exact vp_in_nI (by omega) (by decide)
    · rw [ei, hel]; exact vp_in_nI (by omega) (by decide)
    · rw [ei, hnx, hel, hnj, hne, hf, hya, hyb, rc_bit_n hy, rc_bit_n hz, hsc j hj, hsc e he]
  · have hnj : (nI j).toNatClampNeg = j := nI_clamp (by omega)
    have hne : (nI e).toNatClampNeg = e := nI_clamp (by omega)
    refine br_f (by rw [hk]; decide) (br_t hk ⟨hin, ?_, hin, ?_, hin, nm_r (e' := upd sc i (fe i)) ?_ (nm_r (nI_1 i) hJ)⟩)
    · rw [ei, hnx]; exact vp_in_nI (by omega) (by decide)
    · rw [ei, hel]; exact vp_in_nI (by omega) (by decide)
    · rw [ei, hnx, hel, hnj, hne, hf, hsc j hj, hsc e he]
theorem ry_free_lp (H : ∀ i, i < nc → (rc_ND nd b_nodeKind b_nodeX b_nodeT na nb b_nodeNext b_nodeElse fe b_nodeA b_nodeB) i) (ht : t < nc) (hnc : nc ≤ 48) : ∀ (d i : Nat), i + d = t + 1 → ∀ sc : Nat → Int32, (∀ j, j < i → sc j = fe j) → ∃ sc' : Nat → Int32, ∀ (post : Int32 → SY → Prop) (n : Nat), d < n → post (fe t) (g_heapSize, g_depthLimit, g_nodeLimit, g_nodeCount, g_fragCount, g_frames, g_made, g_inRun, g_reused, g_peak, g_calls, g_status, g_resKind, g_resNumber, g_numbered, b_nodeKind, b_nodeX, b_nodeT, b_nodeA, b_nodeB, b_nodeNext, b_nodeElse, sc', b_frag, b_body, b_slotKind, b_slotNumber, b_spares, b_waits, b_cellTag, b_partKind, b_partNumber, b_live, b_order, b_todo) → wY_free_2 post (nI t) g_heapSize g_depthLimit g_nodeLimit g_nodeCount g_fragCount g_frames g_made g_inRun g_reused g_peak g_calls g_status g_resKind g_resNumber g_numbered n (nI i) b_nodeKind b_nodeX b_nodeT b_nodeA b_nodeB b_nodeNext b_nodeElse sc b_frag b_body b_slotKind b_slotNumber b_spares b_waits b_cellTag b_partKind b_partNumber b_live b_order b_todo := by
  intro d
  induction d with
  | zero =>
    intro i hi sc hsc
    refine ⟨sc, fun post n hn hp => ?_⟩
    obtain ⟨n, rfl⟩ : ∃ q, n = q + 1 := ⟨n - 1, by omega⟩
    refine br_t (nI_lt (by omega) (by omega)) ⟨vp_in_nI (by omega) (by decide), ?_⟩
    rw [nI_clamp (by omega), hsc t (by omega)]
    exact hp
  | succ d ih =>
    intro i hi sc hsc
    obtain ⟨sc', W⟩ := ih (i + 1) (by omega) (upd sc i (fe i)) (fun j hj => by
      by_cases e : j = i
      · subst e; exact pk_us
      · rw [pk_un e]; exact hsc j (by omega))
    refine ⟨sc', fun post n hn hp => ?_⟩
    obtain ⟨n, rfl⟩ : ∃ q, n = q + 1 := ⟨n - 1, by omega⟩
    obtain ⟨-, x, hx, hxx, hN⟩ := H i (by omega)
    have ei : (nI i).toNatClampNeg = i := nI_clamp (by omega)
    have hin : vp_in (nI i) 48 := vp_in_nI (by omega) (by decide)
    have K := fun (p : Int32 → SY → Prop) J => ry_free_68 (post := p) (J2 := J) (x1 := nI t) (g_heapSize := g_heapSize) (g_depthLimit := g_depthLimit) (g_nodeLimit := g_nodeLimit) (g_nodeCount := g_nodeCount) (g_fragCount := g_fragCount) (g_frames := g_frames) (g_made := g_made) (g_inRun := g_inRun) (g_reused := g_reused) (g_peak := g_peak) (g_calls := g_calls) (g_status := g_status) (g_resKind := g_resKind) (g_resNumber := g_resNumber) (g_numbered := g_numbered) (b_nodeKind := b_nodeKind) (b_nodeX := b_nodeX) (b_nodeT := b_nodeT) (b_nodeA := b_nodeA) (b_nodeB := b_nodeB) (b_nodeNext := b_nodeNext) (b_nodeElse := b_nodeElse) (b_frag := b_frag) (b_body := b_body) (b_slotKind := b_slotKind) (b_slotNumber := b_slotNumber) (b_spares := b_spares) (b_waits := b_waits) (b_cellTag := b_cellTag) (b_partKind := b_partKind) (b_partNumber := b_partNumber) (b_live := b_live) (b_order := b_order) (b_todo := b_todo) (by omega) hx hsc hN
    refine br_f (nI_nlt (by omega) (by omega)) ⟨hin, nm_r (e' := b_nodeKind i) (by rw [ei]) ⟨hin, nm_r (e' := rc_b1 x) (by rw [ei, hxx]; rfl) ⟨hin, ?_⟩⟩⟩
    have hB : ∀ z, z = rc_bit (b_nodeA i) → wY_free_45 post (wY_free_2 post (nI t) g_heapSize g_depthLimit g_nodeLimit g_nodeCount g_fragCount g_frames g_made g_inRun g_reused g_peak g_calls g_status g_resKind g_resNumber g_numbered n) (nI t) (nI i) (b_nodeKind i) (rc_b1 x) z g_heapSize g_depthLimit g_nodeLimit g_nodeCount g_fragCount g_frames g_made g_inRun g_reused g_peak g_calls g_status g_resKind g_resNumber g_numbered b_nodeKind b_nodeX b_nodeT b_nodeA b_nodeB b_nodeNext b_nodeElse sc b_frag b_body b_slotKind b_slotNumber b_spares b_waits b_cellTag b_partKind b_partNumber b_live b_order b_todo := by
      intro z hz
      subst hz
      have hf := K post (wY_free_2 post (nI t) g_heapSize g_depthLimit g_nodeLimit g_nodeCount g_fragCount g_frames g_made g_inRun g_reused g_peak g_calls g_status g_resKind g_resNumber g_numbered n) (W post n (by omega) hp)
      refine ⟨hin, ?_⟩
      rw [ei]
      by_cases hb : b_nodeB i < 0
      · rw [show rc_bit (b_nodeB i) = 0 from if_pos hb] at hf
        exact br_t hb hf
      · rw [show rc_bit (b_nodeB i) = (1 : Int32) <<< (b_nodeB i &&& 31) from if_neg hb] at hf
        exact br_f hb ⟨hin, hf⟩
    rw [ei]
    by_cases ha : b_nodeA i < 0
    · exact br_t ha (hB _ (if_pos ha).symm)
    · exact br_f ha ⟨hin, hB _ (if_neg ha).symm⟩
theorem ry_free (H : ∀ i, i < nc → (rc_ND nd b_nodeKind b_nodeX b_nodeT na nb b_nodeNext b_nodeElse fe b_nodeA b_nodeB) i) (ht : t < nc) (hnc : nc ≤ 48) : ∃ sc' : Nat → Int32, ∀ (post : Int32 → SY → Prop), post (fe t) (g_heapSize, g_depthLimit, g_nodeLimit, g_nodeCount, g_fragCount, g_frames, g_made, g_inRun, g_reused, g_peak, g_calls, g_status, g_resKind, g_resNumber, g_numbered, b_nodeKind, b_nodeX, b_nodeT, b_nodeA, b_nodeB, b_nodeNext, b_nodeElse, sc', b_frag, b_body, b_slotKind, b_slotNumber, b_spares, b_waits, b_cellTag, b_partKind, b_partNumber, b_live, b_order, b_todo) → wpY_free post (g_heapSize, g_depthLimit, g_nodeLimit, g_nodeCount, g_fragCount, g_frames, g_made, g_inRun, g_reused, g_peak, g_calls, g_status, g_resKind, g_resNumber, g_numbered, b_nodeKind, b_nodeX, b_nodeT, b_nodeA, b_nodeB, b_nodeNext, b_nodeElse, b_scratch, b_frag, b_body, b_slotKind, b_slotNumber, b_spares, b_waits, b_cellTag, b_partKind, b_partNumber, b_live, b_order, b_todo) (nI t) := by
  obtain ⟨sc', W⟩ := ry_free_lp (g_heapSize := g_heapSize) (g_depthLimit := g_depthLimit) (g_nodeLimit := g_nodeLimit) (g_nodeCount := g_nodeCount) (g_fragCount := g_fragCount) (g_frames := g_frames) (g_made := g_made) (g_inRun := g_inRun) (g_reused := g_reused) (g_peak := g_peak) (g_calls := g_calls) (g_status := g_status) (g_resKind := g_resKind) (g_resNumber := g_resNumber) (g_numbered := g_numbered) (b_nodeKind := b_nodeKind) (b_nodeX := b_nodeX) (b_nodeT := b_nodeT) (b_nodeA := b_nodeA) (b_nodeB := b_nodeB) (b_nodeNext := b_nodeNext) (b_nodeElse := b_nodeElse) (b_frag := b_frag) (b_body := b_body) (b_slotKind := b_slotKind) (b_slotNumber := b_slotNumber) (b_spares := b_spares) (b_waits := b_waits) (b_cellTag := b_cellTag) (b_partKind := b_partKind) (b_partNumber := b_partNumber) (b_live := b_live) (b_order := b_order) (b_todo := b_todo) H ht hnc (t + 1) 0 (by omega) b_scratch (fun j hj => by omega)
  exact ⟨sc', fun post hp => ⟨t + 2, W post _ (by omega) hp⟩⟩
theorem ry_need_lp (H : ∀ i, i < nc → (rc_ND nd b_nodeKind b_nodeX b_nodeT na nb b_nodeNext b_nodeElse fe b_nodeA b_nodeB) i) (ht : t < nc) (hnc : nc ≤ 48) : ∀ (d i : Nat), i + d = t + 1 → ∀ sc : Nat → Int32, (∀ j, j < i → sc j = nI (nd j)) → ∃ sc' : Nat → Int32, ∀ (post : Int32 → SY → Prop) (n : Nat), d < n → post (nI (nd t)) (g_heapSize, g_depthLimit, g_nodeLimit, g_nodeCount, g_fragCount, g_frames, g_made, g_inRun, g_reused, g_peak, g_calls, g_status, g_resKind, g_resNumber, g_numbered, b_nodeKind, b_nodeX, b_nodeT, b_nodeA, b_nodeB, b_nodeNext, b_nodeElse, sc', b_frag, b_body, b_slotKind, b_slotNumber, b_spares, b_waits, b_cellTag, b_partKind, b_partNumber, b_live, b_order, b_todo) → wY_need_2 post (nI t) g_heapSize g_depthLimit g_nodeLimit g_nodeCount g_fragCount g_frames g_made g_inRun g_reused g_peak g_calls g_status g_resKind g_resNumber g_numbered n (nI i) b_nodeKind b_nodeX b_nodeT b_nodeA b_nodeB b_nodeNext b_nodeElse sc b_frag b_body b_slotKind b_slotNumber b_spares b_waits b_cellTag b_partKind b_partNumber b_live b_order b_todo := by
  intro d
  induction d with
  | zero =>
    intro i hi sc hsc
    refine ⟨sc, fun post n hn hp => ?_⟩
    obtain ⟨n, rfl⟩ : ∃ q, n = q + 1 := ⟨n - 1, by omega⟩
    refine br_t (nI_lt (by omega) (by omega)) ⟨vp_in_nI (by omega) (by decide), ?_⟩
    rw [nI_clamp (by omega), hsc t (by omega)]
    exact hp
  | succ d ih =>
    intro i hi sc hsc
    obtain ⟨sc', W⟩ := ih (i + 1) (by omega) (upd sc i (nI (nd i))) (fun j hj => by
      by_cases e : j = i
      · subst e; exact pk_us
      · rw [pk_un e]; exact hsc j (by omega))
    refine ⟨sc', fun post n hn hp => ?_⟩
    obtain ⟨n, rfl⟩ : ∃ q, n = q + 1 := ⟨n - 1, by omega⟩
    obtain ⟨hndle, x, hx, hxx, hN⟩ := H i (by omega)
    have hle : ∀ j, j < i → nd j ≤ 48 := fun j hj => by have := (H j (by omega)).1; omega
    have ei : (nI i).toNatClampNeg = i := nI_clamp (by omega)
    have hin : vp_in (nI i) 48 := vp_in_nI (by omega) (by decide)
    have W' := W post n (by omega) hp
    have h66 : ∀ v : Nat, nd i = v + (if b_nodeKind i = 3 then 1 else 0) → wY_need_66 post (wY_need_2 post (nI t) g_heapSize g_depthLimit g_nodeLimit g_nodeCount g_fragCount g_frames g_made g_inRun g_reused g_peak g_calls g_status g_resKind g_resNumber g_numbered n) (nI t) (nI i) (nI v) g_heapSize g_depthLimit g_nodeLimit g_nodeCount g_fragCount g_frames g_made g_inRun g_reused g_peak g_calls g_status g_resKind g_resNumber g_numbered b_nodeKind b_nodeX b_nodeT b_nodeA b_nodeB b_nodeNext b_nodeElse sc b_frag b_body b_slotKind b_slotNumber b_spares b_waits b_cellTag b_partKind b_partNumber b_live b_order b_todo := by
      intro v hv
      refine ⟨hin, ?_⟩
      rw [ei]
      by_cases h3 : b_nodeKind i = 3
      · rw [if_pos h3] at hv
        exact br_t h3 (nm_r (nI_1 v) ⟨hin, nm_r (e' := upd sc i (nI (nd i))) (by rw [hv]) (nm_r (nI_1 i) W')⟩)
      · rw [if_neg h3] at hv
        exact br_f h3 ⟨hin, nm_r (e' := upd sc i (nI (nd i))) (by rw [hv]; rfl) (nm_r (nI_1 i) W')⟩
    refine br_f (nI_nlt (by omega) (by omega)) ⟨hin, ?_⟩
    rw [ei]
    rcases hN with ⟨hk, -, -, -, -, -, hnx, hel, -, hnd⟩ | ⟨hk, -, -, -, -, -, hel, j, hj, hnx, -, hnd⟩ | ⟨hk, y, z, j, e, -, -, -, -, -, -, -, -, -, hj, he, hnx, hel, -, hnd⟩ | ⟨hk, -, -, j, e, hj, he, hnx, hel, -, hnd⟩
    · refine br_t (by rw [hnx]; exact rc_m1_lt) ⟨hin, ?_⟩
      rw [ei]
      refine br_t (by rw [hel]; exact rc_m1_lt) (h66 0 ?_)
      rw [hnd, if_neg (by rcases hk with h | h <;> rw [h] <;> decide)]
    · refine br_f (by rw [hnx]; exact nI_pos (by omega)) ⟨hin, ?_, nm_r (e' := nI (nd j)) ?_ ⟨hin, ?_⟩⟩
      · rw [hnx]; exact vp_in_nI (by omega) (by decide)
      · rw [hnx, nI_clamp (by omega), hsc j hj]
      · rw [ei]
        exact br_t (by rw [hel]; exact rc_m1_lt) (h66 (nd j) hnd)
    all_goals
      have hk3 : ¬ b_nodeKind i = 3 := by rw [hk]; decide
      have hj8 := hle j hj
      have he8 := hle e he
      refine br_f (by rw [hnx]; exact nI_pos (by omega)) ⟨hin, ?_, nm_r (e' := nI (nd j)) ?_ ⟨hin, ?_⟩⟩
      · rw [hnx]; exact vp_in_nI (by omega) (by decide)
      · rw [hnx, nI_clamp (by omega), hsc j hj]
      · rw [ei]
        have hie : vp_in (b_nodeElse i) 48 := by rw [hel]; exact vp_in_nI (by omega) (by decide)
        have hse : sc (b_nodeElse i).toNatClampNeg = nI (nd e) := by rw [hel, nI_clamp (by omega), hsc e he]
        refine br_f (by rw [hel]; exact nI_pos (by omega)) ⟨hin, hie, ?_⟩
        by_cases hle' : nd e ≤ nd j
        · exact br_t (by rw [hse]; exact nI_le hle' (by omega)) (h66 (nd j) (by rw [hnd, if_neg hk3]; omega))
        · exact br_f (by rw [hse]; exact nI_ge (by omega) (by omega)) ⟨hin, hie, nm_r (e' := nI (nd e)) hse (h66 (nd e) (by rw [hnd, if_neg hk3]; omega))⟩
theorem ry_need (H : ∀ i, i < nc → (rc_ND nd b_nodeKind b_nodeX b_nodeT na nb b_nodeNext b_nodeElse fe b_nodeA b_nodeB) i) (ht : t < nc) (hnc : nc ≤ 48) : ∃ sc' : Nat → Int32, ∀ (post : Int32 → SY → Prop), post (nI (nd t)) (g_heapSize, g_depthLimit, g_nodeLimit, g_nodeCount, g_fragCount, g_frames, g_made, g_inRun, g_reused, g_peak, g_calls, g_status, g_resKind, g_resNumber, g_numbered, b_nodeKind, b_nodeX, b_nodeT, b_nodeA, b_nodeB, b_nodeNext, b_nodeElse, sc', b_frag, b_body, b_slotKind, b_slotNumber, b_spares, b_waits, b_cellTag, b_partKind, b_partNumber, b_live, b_order, b_todo) → wpY_need post (g_heapSize, g_depthLimit, g_nodeLimit, g_nodeCount, g_fragCount, g_frames, g_made, g_inRun, g_reused, g_peak, g_calls, g_status, g_resKind, g_resNumber, g_numbered, b_nodeKind, b_nodeX, b_nodeT, b_nodeA, b_nodeB, b_nodeNext, b_nodeElse, b_scratch, b_frag, b_body, b_slotKind, b_slotNumber, b_spares, b_waits, b_cellTag, b_partKind, b_partNumber, b_live, b_order, b_todo) (nI t) := by
  obtain ⟨sc', W⟩ := ry_need_lp (g_heapSize := g_heapSize) (g_depthLimit := g_depthLimit) (g_nodeLimit := g_nodeLimit) (g_nodeCount := g_nodeCount) (g_fragCount := g_fragCount) (g_frames := g_frames) (g_made := g_made) (g_inRun := g_inRun) (g_reused := g_reused) (g_peak := g_peak) (g_calls := g_calls) (g_status := g_status) (g_resKind := g_resKind) (g_resNumber := g_resNumber) (g_numbered := g_numbered) (b_nodeKind := b_nodeKind) (b_nodeX := b_nodeX) (b_nodeT := b_nodeT) (b_nodeA := b_nodeA) (b_nodeB := b_nodeB) (b_nodeNext := b_nodeNext) (b_nodeElse := b_nodeElse) (b_frag := b_frag) (b_body := b_body) (b_slotKind := b_slotKind) (b_slotNumber := b_slotNumber) (b_spares := b_spares) (b_waits := b_waits) (b_cellTag := b_cellTag) (b_partKind := b_partKind) (b_partNumber := b_partNumber) (b_live := b_live) (b_order := b_order) (b_todo := b_todo) H ht hnc (t + 1) 0 (by omega) b_scratch (fun j hj => by omega)
  exact ⟨sc', fun post hp => ⟨t + 2, W post _ (by omega) hp⟩⟩
end
end
section
/-! the reference's markLive -/
def rc_SS (nc fr t : Nat) (ss fe wt nx xx : Nat → Int32) : Prop :=
  ss (fr - 1) = fe t ∧ ∀ f, f + 1 < fr → ∃ w j x, w < nc ∧ j < nc ∧ x < 12 ∧ wt f = nI w ∧ nx w = nI j ∧ xx w = nI x ∧ ss f = fe j &&& (rc_b1 x ^^^ (-1))
def rc_root (own : Nat → Bool) (sk sn : Nat → Int32) (j d : Nat) : Prop := ∃ i, i < j ∧ own i = true ∧ sk i = 2 ∧ sn i = nI d
def rc_RS (own : Nat → Bool) (sk sn : Nat → Int32) (j : Nat) (lv : Nat → Int32) : Prop := ∀ d, d < 200 → (lv d ≠ 0 ↔ rc_root own sk sn j d)
def rc_PS (own : Nat → Bool) (sk sn pk pn : Nat → Int32) (m q : Nat) (lv : Nat → Int32) : Prop :=
  ∀ d, d < 200 → (lv d ≠ 0 ↔ rc_root own sk sn 192 d ∨ ∃ p, q ≤ p ∧ p < 2 * m ∧ lv (p / 2) ≠ 0 ∧ pk p = 2 ∧ pn p = nI d)
def rc_SN (own : Nat → Bool) (sk sn : Nat → Int32) : Prop := ∀ i, i < 192 → own i = true → sk i = 2 → ∃ d, d < 200 ∧ sn i = nI d
/-- the reference's parts name older cells -/
def rc_YW (pk pn : Nat → Int32) (m : Nat) : Prop := ∀ p, p < 2 * m → pk p = 2 → ∃ e, e < p / 2 ∧ pn p = nI e
def rc_dn (q : Nat) : Int32 := nI q - 1
theorem rc_dn_s (q : Nat) : rc_dn (q + 1) = nI q := nI_pred q
theorem rc_dn_1 (q : Nat) : nI q + (-1) = rc_dn q := (Int32.sub_eq_add_neg _ _).symm
theorem rc_dn_0 : rc_dn 0 < 0 := by decide
theorem rc_nb1 : vp_nar .boolean 1 = 1 := rfl
theorem rc_nb0 : vp_nar .boolean 0 = 0 := rfl
theorem rc_1ne : (1 : Int32) ≠ 0 := by decide
theorem rc_RS_n {own : Nat → Bool} {sk sn lv : Nat → Int32} {j : Nat} (h : rc_RS own sk sn j lv) (hj : ¬ (own j = true ∧ sk j = 2)) : rc_RS own sk sn (j + 1) lv := by
  intro d hd
  rw [h d hd]
  constructor
  · rintro ⟨i, a, b⟩; exact ⟨i, by omega, b⟩
  · rintro ⟨i, a, b, c, e⟩
    rcases Nat.lt_or_ge i j with z | z
    · exact ⟨i, z, b, c, e⟩
    · have : i = j := by omega
      subst this; exact absurd ⟨b, c⟩ hj
theorem rc_RS_s {own : Nat → Bool} {sk sn lv : Nat → Int32} {j d0 : Nat} (h : rc_RS own sk sn j lv) (h1 : own j = true) (h2 : sk j = 2) (h3 : sn j = nI d0) (hd0 : d0 < 200) : rc_RS own sk sn (j + 1) (upd lv d0 1) := by
  intro d hd
  by_cases e : d = d0
  · subst e
    rw [pk_us]
    exact ⟨fun _ => ⟨j, by omega, h1, h2, h3⟩, fun _ => rc_1ne⟩
  · rw [pk_un e, h d hd]
    constructor
    · rintro ⟨i, a, b⟩; exact ⟨i, by omega, b⟩
    · rintro ⟨i, a, b, c, q⟩
      rcases Nat.lt_or_ge i j with z | z
      · exact ⟨i, z, b, c, q⟩
      · have : i = j := by omega
        subst this
        exact absurd (rc_n_of (by omega) (by omega) (q.symm.trans h3)) e
section
variable {g_heapSize g_depthLimit g_nodeLimit g_nodeCount g_fragCount g_frames g_made g_inRun g_reused g_peak g_calls g_status g_resKind g_resNumber g_numbered : Int32} {b_nodeKind b_nodeX b_nodeT b_nodeA b_nodeB b_nodeNext b_nodeElse b_scratch b_frag b_body b_slotKind b_slotNumber b_spares b_waits b_cellTag b_partKind b_partNumber b_live b_order b_todo : Nat → Int32}
variable {nc fr t m : Nat} {nd : Nat → Nat} {na nb fe ss : Nat → Int32} {own : Nat → Bool}
theorem ry_mark_2 {x1 : Int32} : ∀ (d i : Nat), i + d = 200 → ∀ lv : Nat → Int32, (∀ j, j < i → lv j = 0) → ∃ lv' : Nat → Int32, (∀ j, j < 200 → lv' j = 0) ∧ ∀ (post : SY → Prop) (n : Nat), d < n → (∃ n24, wY_markLive_24 post x1 n24 0 g_heapSize g_depthLimit g_nodeLimit g_nodeCount g_fragCount g_frames g_made g_inRun g_reused g_peak g_calls g_status g_resKind g_resNumber g_numbered b_nodeKind b_nodeX b_nodeT b_nodeA b_nodeB b_nodeNext b_nodeElse b_scratch b_frag b_body b_slotKind b_slotNumber b_spares b_waits b_cellTag b_partKind b_partNumber lv' b_order b_todo) → wY_markLive_2 post x1 g_heapSize g_depthLimit g_nodeLimit g_nodeCount g_fragCount g_frames g_made g_inRun g_reused g_peak g_calls g_status g_resKind g_resNumber g_numbered n (nI i) b_nodeKind b_nodeX b_nodeT b_nodeA b_nodeB b_nodeNext b_nodeElse b_scratch b_frag b_body b_slotKind b_slotNumber b_spares b_waits b_cellTag b_partKind b_partNumber lv b_order b_todo := by
  intro d
  induction d with
  | zero =>
    intro i hi lv h
    refine ⟨lv, fun j hj => h j (by omega), fun post n hn hp => ?_⟩
    obtain ⟨n, rfl⟩ : ∃ q, n = q + 1 := ⟨n - 1, by omega⟩
    have : i = 200 := by omega
    subst this
    exact br_t (by decide) hp
  | succ d ih =>
    intro i hi lv h
    obtain ⟨lv', h', W⟩ := ih (i + 1) (by omega) (upd lv i 0) (fun j hj => by
      by_cases e : j = i
      · subst e; exact pk_us
      · rw [pk_un e]; exact h j (by omega))
    refine ⟨lv', h', fun post n hn hp => ?_⟩
    obtain ⟨n, rfl⟩ : ∃ q, n = q + 1 := ⟨n - 1, by omega⟩
    exact br_f (nI_ge (b := 200) (by omega) (by decide)) ⟨vp_in_nI (by omega) (by decide), nm_r (e' := upd lv i 0) (by rw [nI_clamp (by omega), rc_nb0]) (nm_r (nI_1 i) (W post n (by omega) hp))⟩
theorem ry_mark_90 {x1 set : Int32} {f : Nat} (hf : f < 16) (hset : ∀ s, s < 12 → own (12 * f + s) = bt set s) (hsn : rc_SN own b_slotKind b_slotNumber) : ∀ (d s : Nat), s + d = 12 → ∀ lv : Nat → Int32, rc_RS own b_slotKind b_slotNumber (12 * f + s) lv → ∃ lv' : Nat → Int32, rc_RS own b_slotKind b_slotNumber (12 * (f + 1)) lv' ∧ ∀ (post : SY → Prop) (J : Int32 → Int32 → Int32 → Int32 → Int32 → Int32 → Int32 → Int32 → Int32 → Int32 → Int32 → Int32 → Int32 → Int32 → Int32 → Int32 → (Nat → Int32) → (Nat → Int32) → (Nat → Int32) → (Nat → Int32) → (Nat → Int32) → (Nat → Int32) → (Nat → Int32) → (Nat → Int32) → (Nat → Int32) → (Nat → Int32) → (Nat → Int32) → (Nat → Int32) → (Nat → Int32) → (Nat → Int32) → (Nat → Int32) → (Nat → Int32) → (Nat → Int32) → (Nat → Int32) → (Nat → Int32) → (Nat → Int32) → Prop) (n : Nat), d < n → J (nI (f + 1)) g_heapSize g_depthLimit g_nodeLimit g_nodeCount g_fragCount g_frames g_made g_inRun g_reused g_peak g_calls g_status g_resKind g_resNumber g_numbered b_nodeKind b_nodeX b_nodeT b_nodeA b_nodeB b_nodeNext b_nodeElse b_scratch b_frag b_body b_slotKind b_slotNumber b_spares b_waits b_cellTag b_partKind b_partNumber lv' b_order b_todo → wY_markLive_90 post J x1 (nI f) set g_heapSize g_depthLimit g_nodeLimit g_nodeCount g_fragCount g_frames g_made g_inRun g_reused g_peak g_calls g_status g_resKind g_resNumber g_numbered n (nI s) b_nodeKind b_nodeX b_nodeT b_nodeA b_nodeB b_nodeNext b_nodeElse b_scratch b_frag b_body b_slotKind b_slotNumber b_spares b_waits b_cellTag b_partKind b_partNumber lv b_order b_todo := by
  intro d
  induction d with
  | zero =>
    intro s hs lv h
    have : s = 12 := by omega
    subst this
    refine ⟨lv, by rw [show 12 * (f + 1) = 12 * f + 12 from by omega]; exact h, fun post J n hn hp => ?_⟩
    obtain ⟨n, rfl⟩ : ∃ q, n = q + 1 := ⟨n - 1, by omega⟩
    exact br_t (by decide) (nm_r (nI_1 f) hp)
  | succ d ih =>
    intro s hs lv h
    have hs12 : s < 12 := by omega
    have e5 : nI f * 12 + nI s = nI (12 * f + s) := by
      rw [show nI f * 12 = nI (12 * f) from (pk_mul f 12).trans (congrArg nI (Nat.mul_comm _ _)), nI_add]
    have ei : (nI (12 * f + s)).toNatClampNeg = 12 * f + s := nI_clamp (by omega)
    have hin : vp_in (nI (12 * f + s)) 192 := vp_in_nI (by omega) (by decide)
    have hns : ¬ (12 : Int32) ≤ nI s := nI_ge (b := 12) hs12 (by decide)
    by_cases hb : bt set s = true
    · by_cases hk : b_slotKind (12 * f + s) = 2
      · have hown : own (12 * f + s) = true := (hset s hs12).trans hb
        obtain ⟨d0, hd0, hd1⟩ := hsn (12 * f + s) (by omega) hown hk
        obtain ⟨lv', h', W⟩ := ih (s + 1) (by omega) (upd lv d0 1) (rc_RS_s h hown hk hd1 hd0)
        refine ⟨lv', h', fun post J n hn hp => ?_⟩
        obtain ⟨n, rfl⟩ : ∃ q, n = q + 1 := ⟨n - 1, by omega⟩
        refine br_f hns (nm_r e5 (br_t ((rc_ty hs12).mpr hb) ⟨hin, ?_⟩))
        rw [ei]
        refine br_t hk ⟨hin, ?_, nm_r (e' := upd lv d0 1) ?_ (nm_r (nI_1 s) (W post J n (by omega) hp))⟩
        · rw [hd1]; exact vp_in_nI hd0 (by decide)
        · rw [hd1, nI_clamp (by omega), rc_nb1]
      · obtain ⟨lv', h', W⟩ := ih (s + 1) (by omega) lv (rc_RS_n h (fun w => hk w.2))
        refine ⟨lv', h', fun post J n hn hp => ?_⟩
        obtain ⟨n, rfl⟩ : ∃ q, n = q + 1 := ⟨n - 1, by omega⟩
        refine br_f hns (nm_r e5 (br_t ((rc_ty hs12).mpr hb) ⟨hin, ?_⟩))
        rw [ei]
        exact br_f hk (nm_r (nI_1 s) (W post J n (by omega) hp))
    · obtain ⟨lv', h', W⟩ := ih (s + 1) (by omega) lv (rc_RS_n h (fun w => hb ((hset s hs12).symm.trans w.1)))
      refine ⟨lv', h', fun post J n hn hp => ?_⟩
      obtain ⟨n, rfl⟩ : ∃ q, n = q + 1 := ⟨n - 1, by omega⟩
      exact br_f hns (nm_r e5 (br_f (fun w => hb ((rc_ty hs12).mp w)) (nm_r (nI_1 s) (W post J n (by omega) hp))))
theorem ry_mark_161 (hm : m ≤ 200) (hyw : rc_YW b_partKind b_partNumber m) : ∀ (q : Nat), q ≤ 2 * m → ∀ lv : Nat → Int32, rc_PS own b_slotKind b_slotNumber b_partKind b_partNumber m q lv → ∃ lv' : Nat → Int32, rc_PS own b_slotKind b_slotNumber b_partKind b_partNumber m 0 lv' ∧ ∀ (post : SY → Prop) (n : Nat), q < n → post (g_heapSize, g_depthLimit, g_nodeLimit, g_nodeCount, g_fragCount, g_frames, g_made, g_inRun, g_reused, g_peak, g_calls, g_status, g_resKind, g_resNumber, g_numbered, b_nodeKind, b_nodeX, b_nodeT, b_nodeA, b_nodeB, b_nodeNext, b_nodeElse, b_scratch, b_frag, b_body, b_slotKind, b_slotNumber, b_spares, b_waits, b_cellTag, b_partKind, b_partNumber, lv', b_order, b_todo) → wY_markLive_161 post g_heapSize g_depthLimit g_nodeLimit g_nodeCount g_fragCount g_frames g_made g_inRun g_reused g_peak g_calls g_status g_resKind g_resNumber g_numbered n (rc_dn q) b_nodeKind b_nodeX b_nodeT b_nodeA b_nodeB b_nodeNext b_nodeElse b_scratch b_frag b_body b_slotKind b_slotNumber b_spares b_waits b_cellTag b_partKind b_partNumber lv b_order b_todo := by
  intro q
  induction q with
  | zero =>
    intro hq lv h
    refine ⟨lv, h, fun post n hn hp => ?_⟩
    obtain ⟨n, rfl⟩ : ∃ q, n = q + 1 := ⟨n - 1, by omega⟩
    exact br_t rc_dn_0 hp
  | succ q ih =>
    intro hq lv h
    have esh : nI q >>> ((1 : Int32) &&& 31) = nI (q / 2) := by
      have := pk_shrN (n := q) (by omega) ((1 : Int32) &&& 31) 1 (by decide)
      simpa using this
    have eq2 : (nI (q / 2)).toNatClampNeg = q / 2 := nI_clamp (by omega)
    have eq1 : (nI q).toNatClampNeg = q := nI_clamp (by omega)
    have hin : vp_in (nI q) 400 := vp_in_nI (by omega) (by decide)
    by_cases hl : lv (q / 2) = 0
    · obtain ⟨lv', h', W⟩ := ih (by omega) lv (fun d hd => by
        rw [h d hd]
        constructor
        · rintro (r | ⟨p, a, b⟩)
          · exact Or.inl r
          · exact Or.inr ⟨p, by omega, b⟩
        · rintro (r | ⟨p, a, b, c, e⟩)
          · exact Or.inl r
          · refine Or.inr ⟨p, ?_, b, c, e⟩
            rcases Nat.lt_or_ge q p with z | z
            · exact z
            · have : p = q := by omega
              subst this; exact absurd hl c)
      refine ⟨lv', h', fun post n hn hp => ?_⟩
      obtain ⟨n, rfl⟩ : ∃ q, n = q + 1 := ⟨n - 1, by omega⟩
      rw [rc_dn_s]
      refine br_f (nI_pos (by omega)) ⟨by rw [esh]; exact vp_in_nI (by omega) (by decide), br_t (by rw [esh, eq2]; exact hl) (nm_r (rc_dn_1 q) (W post n (by omega) hp))⟩
    · by_cases hk : b_partKind q = 2
      · obtain ⟨e, he, hpn⟩ := hyw q (by omega) hk
        have hne : ∀ p, q ≤ p → p / 2 ≠ e := fun p hp => by omega
        obtain ⟨lv', h', W⟩ := ih (by omega) (upd lv e 1) (fun d hd => by
          by_cases ed : d = e
          · subst ed
            rw [pk_us]
            refine ⟨fun _ => Or.inr ⟨q, Nat.le_refl _, by omega, ?_, hk, hpn⟩, fun _ => rc_1ne⟩
            rw [pk_un (hne q (Nat.le_refl _))]; exact hl
          · rw [pk_un ed, h d hd]
            constructor
            · rintro (r | ⟨p, a, b, c, w⟩)
              · exact Or.inl r
              · exact Or.inr ⟨p, by omega, b, by rw [pk_un (hne p (by omega))]; exact c, w⟩
            · rintro (r | ⟨p, a, b, c, w⟩)
              · exact Or.inl r
              · rw [pk_un (hne p a)] at c
                refine Or.inr ⟨p, ?_, b, c, w⟩
                rcases Nat.lt_or_ge q p with z | z
                · exact z
                · have : p = q := by omega
                  subst this
                  exact absurd (rc_n_of (by omega) (by omega) (w.2.symm.trans hpn)) ed)
        refine ⟨lv', h', fun post n hn hp => ?_⟩
        obtain ⟨n, rfl⟩ : ∃ q, n = q + 1 := ⟨n - 1, by omega⟩
        rw [rc_dn_s]
        refine br_f (nI_pos (by omega)) ⟨by rw [esh]; exact vp_in_nI (by omega) (by decide), br_f (by rw [esh, eq2]; exact hl) ⟨hin, ?_⟩⟩
        rw [eq1]
        exact br_t hk ⟨hin, by rw [hpn]; exact vp_in_nI (by omega) (by decide), nm_r (e' := upd lv e 1) (by rw [hpn, nI_clamp (by omega), rc_nb1]) (nm_r (rc_dn_1 q) (W post n (by omega) hp))⟩
      · obtain ⟨lv', h', W⟩ := ih (by omega) lv (fun d hd => by
          rw [h d hd]
          constructor
          · rintro (r | ⟨p, a, b⟩)
            · exact Or.inl r
            · exact Or.inr ⟨p, by omega, b⟩
          · rintro (r | ⟨p, a, b, c, e⟩)
            · exact Or.inl r
            · refine Or.inr ⟨p, ?_, b, c, e⟩
              rcases Nat.lt_or_ge q p with z | z
              · exact z
              · have : p = q := by omega
                subst this; exact absurd e.1 hk)
        refine ⟨lv', h', fun post n hn hp => ?_⟩
        obtain ⟨n, rfl⟩ : ∃ q, n = q + 1 := ⟨n - 1, by omega⟩
        rw [rc_dn_s]
        refine br_f (nI_pos (by omega)) ⟨by rw [esh]; exact vp_in_nI (by omega) (by decide), br_f (by rw [esh, eq2]; exact hl) ⟨hin, ?_⟩⟩
        rw [eq1]
        exact br_f hk (nm_r (rc_dn_1 q) (W post n (by omega) hp))
theorem ry_mark_24 (H : ∀ i, i < nc → (rc_ND nd b_nodeKind b_nodeX b_nodeT na nb b_nodeNext b_nodeElse fe b_nodeA b_nodeB) i) (ht : t < nc) (hnc : nc ≤ 48) (hfr0 : 0 < fr) (hfr : fr ≤ 16) (hgf : g_frames = nI fr) (hgm : g_made = nI m) (hm : m ≤ 200) (hSS : rc_SS nc fr t ss fe b_waits b_nodeNext b_nodeX) (hsn : rc_SN (rc_ow fr ss) b_slotKind b_slotNumber) (hyw : rc_YW b_partKind b_partNumber m) : ∀ (d f : Nat), f + d = fr → ∀ lv sc : Nat → Int32, rc_RS (rc_ow fr ss) b_slotKind b_slotNumber (12 * f) lv → ∃ lv' sc' : Nat → Int32, rc_PS (rc_ow fr ss) b_slotKind b_slotNumber b_partKind b_partNumber m 0 lv' ∧ ∀ (post : SY → Prop) (n : Nat), d < n → post (g_heapSize, g_depthLimit, g_nodeLimit, g_nodeCount, g_fragCount, g_frames, g_made, g_inRun, g_reused, g_peak, g_calls, g_status, g_resKind, g_resNumber, g_numbered, b_nodeKind, b_nodeX, b_nodeT, b_nodeA, b_nodeB, b_nodeNext, b_nodeElse, sc', b_frag, b_body, b_slotKind, b_slotNumber, b_spares, b_waits, b_cellTag, b_partKind, b_partNumber, lv', b_order, b_todo) → wY_markLive_24 post (nI t) n (nI f) g_heapSize g_depthLimit g_nodeLimit g_nodeCount g_fragCount g_frames g_made g_inRun g_reused g_peak g_calls g_status g_resKind g_resNumber g_numbered b_nodeKind b_nodeX b_nodeT b_nodeA b_nodeB b_nodeNext b_nodeElse sc b_frag b_body b_slotKind b_slotNumber b_spares b_waits b_cellTag b_partKind b_partNumber lv b_order b_todo := by
  intro d
  induction d with
  | zero =>
    intro f hf lv sc h
    have : f = fr := by omega
    subst this
    obtain ⟨lv', h', W⟩ := ry_mark_161 (own := rc_ow f ss) (g_heapSize := g_heapSize) (g_depthLimit := g_depthLimit) (g_nodeLimit := g_nodeLimit) (g_nodeCount := g_nodeCount) (g_fragCount := g_fragCount) (g_frames := g_frames) (g_made := g_made) (g_inRun := g_inRun) (g_reused := g_reused) (g_peak := g_peak) (g_calls := g_calls) (g_status := g_status) (g_resKind := g_resKind) (g_resNumber := g_resNumber) (g_numbered := g_numbered) (b_nodeKind := b_nodeKind) (b_nodeX := b_nodeX) (b_nodeT := b_nodeT) (b_nodeA := b_nodeA) (b_nodeB := b_nodeB) (b_nodeNext := b_nodeNext) (b_nodeElse := b_nodeElse) (b_scratch := sc) (b_frag := b_frag) (b_body := b_body) (b_slotKind := b_slotKind) (b_slotNumber := b_slotNumber) (b_spares := b_spares) (b_waits := b_waits) (b_cellTag := b_cellTag) (b_partKind := b_partKind) (b_partNumber := b_partNumber) (b_order := b_order) (b_todo := b_todo) hm hyw (2 * m) (Nat.le_refl _) lv (fun d hd => by
      rw [h d hd]
      constructor
      · rintro ⟨i, a, b⟩; exact Or.inl ⟨i, by omega, b⟩
      · rintro (⟨i, a, b, c⟩ | ⟨p, a, b, _⟩)
        · have := (rc_ow_t b).1
          exact ⟨i, by omega, b, c⟩
        · omega)
    refine ⟨lv', sc, h', fun post n hn hp => ?_⟩
    obtain ⟨n, rfl⟩ : ∃ q, n = q + 1 := ⟨n - 1, by omega⟩
    refine br_t (by rw [hgf]; exact nI_le (Nat.le_refl _) (by omega)) (nm_r (e' := rc_dn (2 * m)) ?_ ⟨2 * m + 1, W post _ (by omega) hp⟩)
    rw [hgm]
    show (2 : Int32) * nI m - 1 = nI (2 * m) - 1
    rw [show (2 : Int32) * nI m = nI (2 * m) from pk_mul 2 m]
  | succ d ih =>
    intro f hf lv sc h
    have hnf : ¬ g_frames ≤ nI f := by rw [hgf]; exact nI_ge (by omega) (by omega)
    by_cases hlast : f + 1 = fr
    · obtain ⟨sc1, W1⟩ := ry_free (g_heapSize := g_heapSize) (g_depthLimit := g_depthLimit) (g_nodeLimit := g_nodeLimit) (g_nodeCount := g_nodeCount) (g_fragCount := g_fragCount) (g_frames := g_frames) (g_made := g_made) (g_inRun := g_inRun) (g_reused := g_reused) (g_peak := g_peak) (g_calls := g_calls) (g_status := g_status) (g_resKind := g_resKind) (g_resNumber := g_resNumber) (g_numbered := g_numbered) (b_nodeKind := b_nodeKind) (b_nodeX := b_nodeX) (b_nodeT := b_nodeT) (b_nodeA := b_nodeA) (b_nodeB := b_nodeB) (b_nodeNext := b_nodeNext) (b_nodeElse := b_nodeElse) (b_scratch := sc) (b_frag := b_frag) (b_body := b_body) (b_slotKind := b_slotKind) (b_slotNumber := b_slotNumber) (b_spares := b_spares) (b_waits := b_waits) (b_cellTag := b_cellTag) (b_partKind := b_partKind) (b_partNumber := b_partNumber) (b_live := lv) (b_order := b_order) (b_todo := b_todo) H ht hnc
      obtain ⟨lv1, h1, W2⟩ := ry_mark_90 (own := rc_ow fr ss) (set := fe t) (x1 := nI t) (f := f) (g_heapSize := g_heapSize) (g_depthLimit := g_depthLimit) (g_nodeLimit := g_nodeLimit) (g_nodeCount := g_nodeCount) (g_fragCount := g_fragCount) (g_frames := g_frames) (g_made := g_made) (g_inRun := g_inRun) (g_reused := g_reused) (g_peak := g_peak) (g_calls := g_calls) (g_status := g_status) (g_resKind := g_resKind) (g_resNumber := g_resNumber) (g_numbered := g_numbered) (b_nodeKind := b_nodeKind) (b_nodeX := b_nodeX) (b_nodeT := b_nodeT) (b_nodeA := b_nodeA) (b_nodeB := b_nodeB) (b_nodeNext := b_nodeNext) (b_nodeElse := b_nodeElse) (b_scratch := sc1) (b_frag := b_frag) (b_body := b_body) (b_slotKind := b_slotKind) (b_slotNumber := b_slotNumber) (b_spares := b_spares) (b_waits := b_waits) (b_cellTag := b_cellTag) (b_partKind := b_partKind) (b_partNumber := b_partNumber) (b_order := b_order) (b_todo := b_todo) (by omega) (fun s hs => by
        rw [rc_ow_i (by omega) hs, ← hSS.1, show fr - 1 = f from by omega]) hsn 12 0 rfl lv h
      obtain ⟨lv', sc', h', W⟩ := ih (f + 1) (by omega) lv1 sc1 h1
      refine ⟨lv', sc', h', fun post n hn hp => ?_⟩
      obtain ⟨n, rfl⟩ : ∃ q, n = q + 1 := ⟨n - 1, by omega⟩
      refine br_f hnf (br_t (by rw [hgf, ← hlast, nI_pred]) (W1 _ ⟨13, W2 post _ 13 (by omega) (W post n (by omega) hp)⟩))
    · obtain ⟨w, j, x, hw, hj, hx, hww, hwj, hwx, hs⟩ := hSS.2 f (by omega)
      obtain ⟨sc1, W1⟩ := ry_free (t := j) (g_heapSize := g_heapSize) (g_depthLimit := g_depthLimit) (g_nodeLimit := g_nodeLimit) (g_nodeCount := g_nodeCount) (g_fragCount := g_fragCount) (g_frames := g_frames) (g_made := g_made) (g_inRun := g_inRun) (g_reused := g_reused) (g_peak := g_peak) (g_calls := g_calls) (g_status := g_status) (g_resKind := g_resKind) (g_resNumber := g_resNumber) (g_numbered := g_numbered) (b_nodeKind := b_nodeKind) (b_nodeX := b_nodeX) (b_nodeT := b_nodeT) (b_nodeA := b_nodeA) (b_nodeB := b_nodeB) (b_nodeNext := b_nodeNext) (b_nodeElse := b_nodeElse) (b_scratch := sc) (b_frag := b_frag) (b_body := b_body) (b_slotKind := b_slotKind) (b_slotNumber := b_slotNumber) (b_spares := b_spares) (b_waits := b_waits) (b_cellTag := b_cellTag) (b_partKind := b_partKind) (b_partNumber := b_partNumber) (b_live := lv) (b_order := b_order) (b_todo := b_todo) H hj hnc
      obtain ⟨lv1, h1, W2⟩ := ry_mark_90 (own := rc_ow fr ss) (set := fe j &&& (rc_b1 x ^^^ (-1))) (x1 := nI t) (f := f) (g_heapSize := g_heapSize) (g_depthLimit := g_depthLimit) (g_nodeLimit := g_nodeLimit) (g_nodeCount := g_nodeCount) (g_fragCount := g_fragCount) (g_frames := g_frames) (g_made := g_made) (g_inRun := g_inRun) (g_reused := g_reused) (g_peak := g_peak) (g_calls := g_calls) (g_status := g_status) (g_resKind := g_resKind) (g_resNumber := g_resNumber) (g_numbered := g_numbered) (b_nodeKind := b_nodeKind) (b_nodeX := b_nodeX) (b_nodeT := b_nodeT) (b_nodeA := b_nodeA) (b_nodeB := b_nodeB) (b_nodeNext := b_nodeNext) (b_nodeElse := b_nodeElse) (b_scratch := sc1) (b_frag := b_frag) (b_body := b_body) (b_slotKind := b_slotKind) (b_slotNumber := b_slotNumber) (b_spares := b_spares) (b_waits := b_waits) (b_cellTag := b_cellTag) (b_partKind := b_partKind) (b_partNumber := b_partNumber) (b_order := b_order) (b_todo := b_todo) (by omega) (fun s hs' => by
        rw [rc_ow_i (by omega) hs', hs]) hsn 12 0 rfl lv h
      obtain ⟨lv', sc', h', W⟩ := ih (f + 1) (by omega) lv1 sc1 h1
      refine ⟨lv', sc', h', fun post n hn hp => ?_⟩
      obtain ⟨n, rfl⟩ : ∃ q, n = q + 1 := ⟨n - 1, by omega⟩
      have hwin : vp_in (nI w) 48 := vp_in_nI (by omega) (by decide)
      have ew : (nI w).toNatClampNeg = w := nI_clamp (by omega)
      refine br_f hnf (br_f ?_ ⟨vp_in_nI (by omega) (by decide), nm_r (e' := nI w) (by rw [nI_clamp (by omega)]; exact hww) ⟨hwin, ?_⟩⟩)
      · rw [hgf, show fr = (fr - 1) + 1 from by omega, nI_pred, nI_eq (by omega) (by omega)]; omega
      · rw [ew, hwj]
        refine W1 _ ⟨hwin, nm_r (e' := fe j &&& (rc_b1 x ^^^ (-1))) ?_ ⟨13, W2 post _ 13 (by omega) (W post n (by omega) hp)⟩⟩
        rw [hwx]; rfl
/-- markLive(t): a cell is marked exactly if an owned slot or a part of a marked cell names it -/
theorem ry_mark (H : ∀ i, i < nc → (rc_ND nd b_nodeKind b_nodeX b_nodeT na nb b_nodeNext b_nodeElse fe b_nodeA b_nodeB) i) (ht : t < nc) (hnc : nc ≤ 48) (hfr0 : 0 < fr) (hfr : fr ≤ 16) (hgf : g_frames = nI fr) (hgm : g_made = nI m) (hm : m ≤ 200) (hSS : rc_SS nc fr t ss fe b_waits b_nodeNext b_nodeX) (hsn : rc_SN (rc_ow fr ss) b_slotKind b_slotNumber) (hyw : rc_YW b_partKind b_partNumber m) : ∃ lv' sc' : Nat → Int32, rc_PS (rc_ow fr ss) b_slotKind b_slotNumber b_partKind b_partNumber m 0 lv' ∧ ∀ (post : SY → Prop), post (g_heapSize, g_depthLimit, g_nodeLimit, g_nodeCount, g_fragCount, g_frames, g_made, g_inRun, g_reused, g_peak, g_calls, g_status, g_resKind, g_resNumber, g_numbered, b_nodeKind, b_nodeX, b_nodeT, b_nodeA, b_nodeB, b_nodeNext, b_nodeElse, sc', b_frag, b_body, b_slotKind, b_slotNumber, b_spares, b_waits, b_cellTag, b_partKind, b_partNumber, lv', b_order, b_todo) → wpY_markLive post (g_heapSize, g_depthLimit, g_nodeLimit, g_nodeCount, g_fragCount, g_frames, g_made, g_inRun, g_reused, g_peak, g_calls, g_status, g_resKind, g_resNumber, g_numbered, b_nodeKind, b_nodeX, b_nodeT, b_nodeA, b_nodeB, b_nodeNext, b_nodeElse, b_scratch, b_frag, b_body, b_slotKind, b_slotNumber, b_spares, b_waits, b_cellTag, b_partKind, b_partNumber, b_live, b_order, b_todo) (nI t) := by
  obtain ⟨lv1, h1, W1⟩ := ry_mark_2 (x1 := nI t) (g_heapSize := g_heapSize) (g_depthLimit := g_depthLimit) (g_nodeLimit := g_nodeLimit) (g_nodeCount := g_nodeCount) (g_fragCount := g_fragCount) (g_frames := g_frames) (g_made := g_made) (g_inRun := g_inRun) (g_reused := g_reused) (g_peak := g_peak) (g_calls := g_calls) (g_status := g_status) (g_resKind := g_resKind) (g_resNumber := g_resNumber) (g_numbered := g_numbered) (b_nodeKind := b_nodeKind) (b_nodeX := b_nodeX) (b_nodeT := b_nodeT) (b_nodeA := b_nodeA) (b_nodeB := b_nodeB) (b_nodeNext := b_nodeNext) (b_nodeElse := b_nodeElse) (b_scratch := b_scratch) (b_frag := b_frag) (b_body := b_body) (b_slotKind := b_slotKind) (b_slotNumber := b_slotNumber) (b_spares := b_spares) (b_waits := b_waits) (b_cellTag := b_cellTag) (b_partKind := b_partKind) (b_partNumber := b_partNumber) (b_order := b_order) (b_todo := b_todo) 200 0 rfl b_live (fun j hj => by omega)
  obtain ⟨lv', sc', h', W⟩ := ry_mark_24 (g_heapSize := g_heapSize) (g_depthLimit := g_depthLimit) (g_nodeLimit := g_nodeLimit) (g_nodeCount := g_nodeCount) (g_fragCount := g_fragCount) (g_frames := g_frames) (g_made := g_made) (g_inRun := g_inRun) (g_reused := g_reused) (g_peak := g_peak) (g_calls := g_calls) (g_status := g_status) (g_resKind := g_resKind) (g_resNumber := g_resNumber) (g_numbered := g_numbered) (b_nodeKind := b_nodeKind) (b_nodeX := b_nodeX) (b_nodeT := b_nodeT) (b_nodeA := b_nodeA) (b_nodeB := b_nodeB) (b_nodeNext := b_nodeNext) (b_nodeElse := b_nodeElse) (b_frag := b_frag) (b_body := b_body) (b_slotKind := b_slotKind) (b_slotNumber := b_slotNumber) (b_spares := b_spares) (b_waits := b_waits) (b_cellTag := b_cellTag) (b_partKind := b_partKind) (b_partNumber := b_partNumber) (b_order := b_order) (b_todo := b_todo) H ht hnc hfr0 hfr hgf hgm hm hSS hsn hyw fr 0 (by omega) lv1 b_scratch (fun d hd => ⟨fun w => absurd (h1 d hd) w, fun ⟨i, a, _⟩ => by omega⟩)
  exact ⟨lv', sc', h', fun post hp => ⟨201, W1 post 201 (by omega) ⟨fr + 1, W post _ (by omega) hp⟩⟩⟩
theorem ry_occ_37 {ln : Nat → Nat} (hfr : fr ≤ 16) (hgf : g_frames = nI fr) (hsp : ∀ f, f < fr → b_spares f = nI (ln f)) : ∀ (d f : Nat), f + d = fr → ∀ (s0 : Nat) (post : Int32 → SY → Prop) (n : Nat), d < n → post (nI (s0 + rc_sm ln fr)) (g_heapSize, g_depthLimit, g_nodeLimit, g_nodeCount, g_fragCount, g_frames, g_made, g_inRun, g_reused, g_peak, g_calls, g_status, g_resKind, g_resNumber, g_numbered, b_nodeKind, b_nodeX, b_nodeT, b_nodeA, b_nodeB, b_nodeNext, b_nodeElse, b_scratch, b_frag, b_body, b_slotKind, b_slotNumber, b_spares, b_waits, b_cellTag, b_partKind, b_partNumber, b_live, b_order, b_todo) → wY_occupied_37 post g_heapSize g_depthLimit g_nodeLimit g_nodeCount g_fragCount g_frames g_made g_inRun g_reused g_peak g_calls g_status g_resKind g_resNumber g_numbered b_nodeKind b_nodeX b_nodeT b_nodeA b_nodeB b_nodeNext b_nodeElse b_scratch b_frag b_body b_slotKind b_slotNumber b_spares b_waits b_cellTag b_partKind b_partNumber b_live b_order b_todo n (nI (s0 + rc_sm ln f)) (nI f) := by
  intro d
  induction d with
  | zero =>
    intro f hf s0 post n hn hp
    obtain ⟨n, rfl⟩ : ∃ q, n = q + 1 := ⟨n - 1, by omega⟩
    have : f = fr := by omega
    subst this
    exact br_t (by rw [hgf]; exact nI_le (Nat.le_refl _) (by omega)) hp
  | succ d ih =>
    intro f hf s0 post n hn hp
    obtain ⟨n, rfl⟩ : ∃ q, n = q + 1 := ⟨n - 1, by omega⟩
    refine br_f (by rw [hgf]; exact nI_ge (by omega) (by omega)) ⟨vp_in_nI (by omega) (by decide), nm_r (e' := nI (s0 + rc_sm ln (f + 1))) ?_ (nm_r (nI_1 f) (ih (f + 1) (by omega) s0 post n (by omega) hp))⟩
    rw [nI_clamp (by omega), hsp f (by omega), nI_add, Nat.add_assoc]
    rfl
theorem ry_occ_9 {ln : Nat → Nat} (hfr : fr ≤ 16) (hgf : g_frames = nI fr) (hsp : ∀ f, f < fr → b_spares f = nI (ln f)) (hm : m ≤ 200) (hgm : g_made = nI m) : ∀ (d c : Nat), c + d = m → ∀ (post : Int32 → SY → Prop) (n : Nat), d < n → post (nI (rc_sm (fun c => if b_live c = 0 then 0 else 1) m + rc_sm ln fr)) (g_heapSize, g_depthLimit, g_nodeLimit, g_nodeCount, g_fragCount, g_frames, g_made, g_inRun, g_reused, g_peak, g_calls, g_status, g_resKind, g_resNumber, g_numbered, b_nodeKind, b_nodeX, b_nodeT, b_nodeA, b_nodeB, b_nodeNext, b_nodeElse, b_scratch, b_frag, b_body, b_slotKind, b_slotNumber, b_spares, b_waits, b_cellTag, b_partKind, b_partNumber, b_live, b_order, b_todo) → wY_occupied_9 post g_heapSize g_depthLimit g_nodeLimit g_nodeCount g_fragCount g_frames g_made g_inRun g_reused g_peak g_calls g_status g_resKind g_resNumber g_numbered b_nodeKind b_nodeX b_nodeT b_nodeA b_nodeB b_nodeNext b_nodeElse b_scratch b_frag b_body b_slotKind b_slotNumber b_spares b_waits b_cellTag b_partKind b_partNumber b_live b_order b_todo n (nI (rc_sm (fun c => if b_live c = 0 then 0 else 1) c)) (nI c) := by
  intro d
  induction d with
  | zero =>
    intro c hc post n hn hp
    obtain ⟨n, rfl⟩ : ∃ q, n = q + 1 := ⟨n - 1, by omega⟩
    have : c = m := by omega
    subst this
    exact br_t (by rw [hgm]; exact nI_le (Nat.le_refl _) (by omega)) ⟨fr + 1, ry_occ_37 (ln := ln) hfr hgf hsp fr 0 (by omega) _ post _ (by omega) hp⟩
  | succ d ih =>
    intro c hc post n hn hp
    obtain ⟨n, rfl⟩ : ∃ q, n = q + 1 := ⟨n - 1, by omega⟩
    have ihc := ih (c + 1) (by omega) post n (by omega) hp
    refine br_f (by rw [hgm]; exact nI_ge (by omega) (by omega)) ⟨vp_in_nI (by omega) (by decide), ?_⟩
    rw [nI_clamp (by omega)]
    by_cases hl : b_live c = 0
    · refine br_t hl (nm_r (nI_1 c) ?_)
      rw [show rc_sm (fun c => if b_live c = 0 then 0 else 1) c = rc_sm (fun c => if b_live c = 0 then 0 else 1) (c + 1) from by
        show _ = _ + (if b_live c = 0 then 0 else 1)
        rw [if_pos hl]; rfl]
      exact ihc
    · refine br_f hl (nm_r (e' := nI (rc_sm (fun c => if b_live c = 0 then 0 else 1) (c + 1))) ?_ (nm_r (nI_1 c) ihc))
      rw [nI_1]
      show _ = nI (_ + (if b_live c = 0 then 0 else 1))
      rw [if_neg hl]
end
end
section
/-! holds against marks -/
def rc_VR (φ : Nat → Nat) (v : Int64) (k n : Int32) : Prop := (k = 1 ∧ v = n.toInt64) ∨ (k = 2 ∧ ∃ c, c < 200 ∧ v = rc_cv c ∧ n = nI (φ c))
def rc_HR (m : Nat) (φ col : Nat → Nat) (tg : Nat → Int32) (cl cr : Nat → Int64) (yt pk pn : Nat → Int32) : Prop :=
  (∀ c, col c = 0 → φ c < m ∧ yt (φ c) = tg c ∧ rc_VR φ (cl c) (pk (2 * φ c)) (pn (2 * φ c)) ∧ rc_VR φ (cr c) (pk (2 * φ c + 1)) (pn (2 * φ c + 1))) ∧ (∀ c d, col c = 0 → col d = 0 → φ c = φ d → c = d)
def rc_SV (own : Nat → Bool) (φ : Nat → Nat) (sl : Nat → Int64) (sk sn : Nat → Int32) : Prop := ∀ i, i < 192 → own i = true → rc_VR φ (sl i) (sk i) (sn i)
section
variable {m fs : Nat} {φ col : Nat → Nat} {own : Nat → Bool} {tg yt pk pn sk sn lv : Nat → Int32} {sl cl cr : Nat → Int64}
/-- a related value of kind cell names a live cell -/
theorem rc_VR2 {v : Int64} {n : Int32} (h : rc_VR φ v 2 n) (hf : rc_FV col v) : ∃ c, c < 200 ∧ col c = 0 ∧ v = rc_cv c ∧ n = nI (φ c) := by
  rcases h with ⟨e, _⟩ | ⟨_, c, hc, e, en⟩
  · exact absurd e (by decide)
  · rcases hf with ⟨z, e'⟩ | ⟨c', hc', h0, e'⟩
    · exact absurd (e'.symm.trans e) (rc_i_ne z (by omega))
    · have : c' = c := rc_cv_inj (by omega) (by omega) (e'.symm.trans e)
      subst this
      exact ⟨c', hc', h0, e', en⟩
theorem rc_VRc {v : Int64} {k n : Int32} {c : Nat} (hc : c < 200) (h : rc_VR φ v k n) (e : v = rc_cv c) : k = 2 ∧ n = nI (φ c) := by
  rcases h with ⟨_, e'⟩ | ⟨hk, c', hc', e', en⟩
  · exact absurd (e'.symm.trans e) (rc_i_ne n (by omega))
  · have : c' = c := rc_cv_inj (by omega) (by omega) (e'.symm.trans e)
    subst this
    exact ⟨hk, en⟩
theorem rc_SN_of (hm : m ≤ 200) (hA : rc_A fs own col sl cl cr) (hH : rc_HR m φ col tg cl cr yt pk pn) (hS : rc_SV own φ sl sk sn) : rc_SN own sk sn := by
  intro i hi ho hk
  have h := hS i hi ho
  rw [hk] at h
  obtain ⟨c, _, h0, _, en⟩ := rc_VR2 h (hA.2.2.2 i hi ho)
  exact ⟨φ c, by have := (hH.1 c h0).1; omega, en⟩
theorem rc_live (hm : m ≤ 200) (hA : rc_A fs own col sl cl cr) (hk : ∀ c, col c = 0 → rc_kk (fun _ => 0) own col sl cl cr c ≠ 0) (hH : rc_HR m φ col tg cl cr yt pk pn) (hS : rc_SV own φ sl sk sn) (hY : rc_YW pk pn m) (hP : rc_PS own sk sn pk pn m 0 lv) : ∀ d, d < 200 → (lv d ≠ 0 ↔ ∃ c, col c = 0 ∧ φ c = d) := by
  have hlt : ∀ c, col c = 0 → c < 200 := fun c hc => by have := hA.2.1 c hc; have := hA.1; omega
  have fwd : ∀ k d, d < 200 → 200 - d ≤ k → lv d ≠ 0 → ∃ c, col c = 0 ∧ φ c = d := by
    intro k
    induction k with
    | zero => intro d h1 h2; omega
    | succ k ih =>
      intro d h1 h2 h3
      rcases (hP d h1).mp h3 with ⟨i, hi, ho, hk2, hn⟩ | ⟨p, _, hp, hl, hpk, hpn⟩
      · have h := hS i hi ho
        rw [hk2] at h
        obtain ⟨c, _, h0, _, en⟩ := rc_VR2 h (hA.2.2.2 i hi ho)
        have := (hH.1 c h0).1
        exact ⟨c, h0, (rc_n_of (by omega) (by omega) (hn.symm.trans en)).symm⟩
      · obtain ⟨e, he, hpe⟩ := hY p hp hpk
        have ed : d = e := rc_n_of (by omega) (by omega) (hpn.symm.trans hpe)
        subst ed
        obtain ⟨c', hc', hφ⟩ := ih (p / 2) (by omega) (by omega) hl
        obtain ⟨_, _, v1, v2⟩ := hH.1 c' hc'
        obtain ⟨f1, f2⟩ := hA.2.2.1 c' hc'
        rcases Nat.mod_two_eq_zero_or_one p with z | z
        · have ep : 2 * φ c' = p := by omega
          rw [ep, hpk] at v1
          obtain ⟨c, _, h0, _, en⟩ := rc_VR2 v1 f1
          have := (hH.1 c h0).1
          exact ⟨c, h0, (rc_n_of (by omega) (by omega) (hpn.symm.trans en)).symm⟩
        · have ep : 2 * φ c' + 1 = p := by omega
          rw [ep, hpk] at v2
          obtain ⟨c, _, h0, _, en⟩ := rc_VR2 v2 f2
          have := (hH.1 c h0).1
          exact ⟨c, h0, (rc_n_of (by omega) (by omega) (hpn.symm.trans en)).symm⟩
  have bwd : ∀ k c, col c = 0 → 200 - φ c ≤ k → lv (φ c) ≠ 0 := by
    intro k
    induction k with
    | zero => intro c h0 h2; have := (hH.1 c h0).1; omega
    | succ k ih =>
      intro c h0 h2
      have hφ := (hH.1 c h0).1
      have hc := hlt c h0
      rw [hP (φ c) (by omega)]
      have hkc := hk c h0
      by_cases hr : rc_rt own sl c = 0
      · have hrf : rc_rf col cl cr c ≠ 0 := by unfold rc_kk at hkc; dsimp only at hkc; omega
        obtain ⟨d, hd, hd0, he⟩ := rc_rf_pos hrf
        obtain ⟨hφd, _, v1, v2⟩ := hH.1 d hd0
        right
        rcases he with he | he
        · obtain ⟨q1, q2⟩ := rc_VRc hc v1 he
          obtain ⟨e, he1, he2⟩ := hY (2 * φ d) (by omega) q1
          have ee : φ c = e := rc_n_of (by omega) (by omega) (q2.symm.trans he2)
          have el := ih d hd0 (by omega)
          refine ⟨2 * φ d, Nat.zero_le _, by omega, ?_, q1, q2⟩
          rw [show 2 * φ d / 2 = φ d from by omega]; exact el
        · obtain ⟨q1, q2⟩ := rc_VRc hc v2 he
          obtain ⟨e, he1, he2⟩ := hY (2 * φ d + 1) (by omega) q1
          have ee : φ c = e := rc_n_of (by omega) (by omega) (q2.symm.trans he2)
          have el := ih d hd0 (by omega)
          refine ⟨2 * φ d + 1, Nat.zero_le _, by omega, ?_, q1, q2⟩
          rw [show (2 * φ d + 1) / 2 = φ d from by omega]; exact el
      · obtain ⟨i, hi, ho, he⟩ := rc_rt_pos hr
        obtain ⟨q1, q2⟩ := rc_VRc hc (hS i hi ho) he
        exact Or.inl ⟨i, hi, ho, q1, q2⟩
  intro d hd
  constructor
  · intro h; exact fwd 200 d hd (by omega) h
  · rintro ⟨c, h0, rfl⟩; exact bwd 200 c h0 (by omega)
theorem rc_live_ct (hm : m ≤ 200) (hA : rc_A fs own col sl cl cr) (hH : rc_HR m φ col tg cl cr yt pk pn) (hL : ∀ d, d < 200 → (lv d ≠ 0 ↔ ∃ c, col c = 0 ∧ φ c = d)) : rc_sm (fun c => if lv c = 0 then 0 else 1) m = rc_ct col := by
  have hlt : ∀ c, col c = 0 → c < 200 := fun c hc => by have := hA.2.1 c hc; have := hA.1; omega
  have b := rc_bij φ 200 (fun c => decide (col c = 0)) (fun d => decide (lv d ≠ 0)) m (fun c _ hc => by
    have h0 : col c = 0 := of_decide_eq_true hc
    have := (hH.1 c h0).1
    exact ⟨this, decide_eq_true ((hL (φ c) (by omega)).mpr ⟨c, h0, rfl⟩)⟩) (fun c d _ _ hc hd e => hH.2 c d (of_decide_eq_true hc) (of_decide_eq_true hd) e) (fun d hd hb => by
    obtain ⟨c, h0, e⟩ := (hL d (by omega)).mp (of_decide_eq_true hb)
    exact ⟨c, hlt c h0, decide_eq_true h0, e⟩)
  unfold rc_ct
  have e1 : rc_sm (fun c => if col c = 0 then 1 else 0) 200 = rc_sm (fun c => if decide (col c = 0) = true then 1 else 0) 200 := rc_sm_c fun i _ => by
    show (if col i = 0 then 1 else 0) = (if decide (col i = 0) = true then 1 else 0)
    by_cases h : col i = 0 <;> simp [h]
  have e2 : rc_sm (fun c => if lv c = 0 then 0 else 1) m = rc_sm (fun d => if decide (lv d ≠ 0) = true then 1 else 0) m := rc_sm_c fun i _ => by
    show (if lv i = 0 then 0 else 1) = (if decide (lv i ≠ 0) = true then 1 else 0)
    by_cases h : lv i = 0 <;> simp [h]
  rw [e1, e2, b]
end
end
section
/-! frames, operands, small walks -/
def rc_val (top : Nat) (sl : Nat → Int64) (o : Int32) : Int64 := if o < 0 then ((-1) - o).toInt64 else sl (12 * top + o.toNatClampNeg)
def rc_kat (top : Nat) (sk : Nat → Int32) (o : Int32) : Int32 := if o < 0 then 1 else sk (12 * top + o.toNatClampNeg)
def rc_nat (top : Nat) (sn : Nat → Int32) (o : Int32) : Int32 := if o < 0 then (-1) - o else sn (12 * top + o.toNatClampNeg)
theorem rc_mul12 (top : Nat) : nI top * 12 = nI (12 * top) := (pk_mul top 12).trans (congrArg nI (Nat.mul_comm _ _))
theorem rc_low {fr : Int32} {top : Nat} (h : fr = nI (top + 1)) : (fr - 1) * 12 = nI (12 * top) := by rw [h, nI_pred, rc_mul12]
theorem rc_low_i {fr : Int32} {top s : Nat} (h : fr = nI (top + 1)) : (fr - 1) * 12 + nI s = nI (12 * top + s) := by rw [rc_low h, nI_add]
section
variable {fr fs m : Nat} {φ col : Nat → Nat} {ss : Nat → Int32} {sl cl cr : Nat → Int64} {sk sn : Nat → Int32} {o : Int32} {top : Nat}
/-- an operand of the node arrived at is an integer or an owned slot -/
theorem rc_val_FV (ht : top < fr) (hf : fr ≤ 16) (ho : rc_op o) (hb : ∀ s, s < 12 → o = nI s → bt (ss top) s = true) (hA : rc_A fs (rc_ow fr ss) col sl cl cr) : rc_FV col (rc_val top sl o) := by
  unfold rc_val
  rcases ho with h | ⟨s, hs, h⟩
  · rw [if_pos h]; exact Or.inl ⟨_, rfl⟩
  · have hn : ¬ o < 0 := by rw [h]; exact nI_pos (by omega)
    rw [if_neg hn, h, nI_clamp (by omega)]
    exact hA.2.2.2 (12 * top + s) (by omega) (by rw [rc_ow_i ht hs]; exact hb s hs h)
theorem rc_val_VR (ht : top < fr) (hf : fr ≤ 16) (ho : rc_op o) (hb : ∀ s, s < 12 → o = nI s → bt (ss top) s = true) (hS : rc_SV (rc_ow fr ss) φ sl sk sn) : rc_VR φ (rc_val top sl o) (rc_kat top sk o) (rc_nat top sn o) := by
  unfold rc_val rc_kat rc_nat
  rcases ho with h | ⟨s, hs, h⟩
  · rw [if_pos h, if_pos h, if_pos h]; exact Or.inl ⟨rfl, rfl⟩
  · have hn : ¬ o < 0 := by rw [h]; exact nI_pos (by omega)
    rw [if_neg hn, if_neg hn, if_neg hn, h, nI_clamp (by omega)]
    exact hS (12 * top + s) (by omega) (by rw [rc_ow_i ht hs]; exact hb s hs h)
theorem rc_ow_open : rc_ow fr ss = rc_ow (fr + 1) (upd ss fr 0) := by
  funext i
  unfold rc_ow
  by_cases h : i / 12 = fr
  · rw [h, pk_us, b_0, decide_eq_false (Nat.lt_irrefl _), Bool.and_false]; rfl
  · rw [pk_un h]
    have : decide (i / 12 < fr) = decide (i / 12 < fr + 1) := decide_eq_decide.mpr (by omega)
    rw [this]
theorem rc_ow_close (hb : ∀ s, s < 12 → bt (ss fr) s = false) : rc_ow (fr + 1) ss = rc_ow fr ss := by
  funext i
  unfold rc_ow
  by_cases h : i / 12 = fr
  · rw [h, hb (i % 12) (Nat.mod_lt _ (by decide)), Bool.and_false, Bool.and_false]
  · have : decide (i / 12 < fr + 1) = decide (i / 12 < fr) := decide_eq_decide.mpr (by omega)
    rw [this]
end
section
variable {f_kindRet f_kindTail f_kindBind f_kindCon f_kindPrim f_kindCall f_kindMatch f_kindTest f_heapSize f_depthLimit f_nodeLimit f_nodeCount f_fragmentCount f_frames f_at f_deadCount f_freeHead f_fresh f_liveCells f_spareTotal f_counted f_status f_made f_reused f_peak f_calls f_resultCells : Int32} {f_cellBase f_result : Int64} {a_nodeKind a_nodeX a_nodeParam a_nodeA a_nodeB a_nodeNext a_nodeElse a_nodeFree a_nodeNeed a_fragments a_body a_waiting a_spareHead a_spareCount a_cellTag a_holds a_link a_dead a_cellOfNumber a_numberOfCell a_places a_walk : Nat → Int32} {a_slots a_cellLeft a_cellRight : Nat → Int64}
variable {lim fr fs : Nat} {E : Nat → Nat} {own : Nat → Bool} {S : Nat → List Nat} {col col' : Nat → Nat} {D F : List Nat} {ss : Nat → Int32} {top : Nat}
theorem rc_open (I : (rc_XI lim fr E (rc_ow fr ss) col D F S fs f_counted a_slots a_cellLeft a_cellRight a_holds a_link a_dead a_spareHead a_spareCount f_deadCount f_freeHead f_fresh f_liveCells f_spareTotal)) : (rc_XI lim (fr + 1) E (rc_ow (fr + 1) (upd ss fr 0)) col D F (rc_us S fr []) fs f_counted a_slots a_cellLeft a_cellRight a_holds a_link a_dead (upd a_spareHead fr (-1)) (upd a_spareCount fr 0) f_deadCount f_freeHead f_fresh f_liveCells f_spareTotal) := by
  rw [← rc_ow_open]
  obtain ⟨hA, hB, ⟨c1, c2⟩, d1, d2, d3⟩ := I
  refine ⟨hA, hB, ⟨c1, fun f hf => ?_⟩, d1, d2, ?_⟩
  · by_cases e : f = fr
    · subst e
      rw [rc_us_s, pk_us, pk_us]
      exact ⟨⟨rfl, List.nodup_nil, fun c hc => (List.not_mem_nil hc).elim⟩, rfl⟩
    · rw [rc_us_n e, pk_un e, pk_un e]
      exact c2 f (by omega)
  · rw [d3]
    congr 1
    show _ = rc_sm _ fr + (rc_us S fr [] fr).length
    rw [rc_us_s]
    exact rc_sm_c fun i hi => by
      show (S i).length = (rc_us S fr [] i).length
      rw [rc_us_n (by omega)]
theorem rc_close (hS : S fr = []) (hb : ∀ s, s < 12 → bt (ss fr) s = false) (I : (rc_XI lim (fr + 1) E (rc_ow (fr + 1) ss) col D F S fs f_counted a_slots a_cellLeft a_cellRight a_holds a_link a_dead a_spareHead a_spareCount f_deadCount f_freeHead f_fresh f_liveCells f_spareTotal)) : (rc_XI lim fr E (rc_ow fr ss) col D F S fs f_counted a_slots a_cellLeft a_cellRight a_holds a_link a_dead a_spareHead a_spareCount f_deadCount f_freeHead f_fresh f_liveCells f_spareTotal) := by
  rw [← rc_ow_close hb]
  obtain ⟨hA, hB, ⟨c1, c2⟩, d1, d2, d3⟩ := I
  refine ⟨hA, hB, ⟨c1, fun f hf => c2 f (by omega)⟩, d1, d2, ?_⟩
  rw [d3]
  congr 1
  show rc_sm _ fr + (S fr).length = _
  rw [hS]; rfl
theorem rx_val {o : Int32} (ho : rc_op o) (hf : f_frames = nI (top + 1)) (ht : top < 16) (post : Int64 → Prop) (hp : post (rc_val top a_slots o)) : wpX_valueOf post (f_kindRet, f_kindTail, f_kindBind, f_kindCon, f_kindPrim, f_kindCall, f_kindMatch, f_kindTest, f_cellBase, f_heapSize, f_depthLimit, f_nodeLimit, f_nodeCount, f_fragmentCount, f_frames, f_at, f_deadCount, f_freeHead, f_fresh, f_liveCells, f_spareTotal, f_counted, f_status, f_made, f_reused, f_peak, f_calls, f_result, f_resultCells, a_nodeKind, a_nodeX, a_nodeParam, a_nodeA, a_nodeB, a_nodeNext, a_nodeElse, a_nodeFree, a_nodeNeed, a_fragments, a_body, a_slots, a_waiting, a_spareHead, a_spareCount, a_cellTag, a_cellLeft, a_cellRight, a_holds, a_link, a_dead, a_cellOfNumber, a_numberOfCell, a_places, a_walk) o := by
  unfold rc_val at hp
  rcases ho with h | ⟨s, hs, h⟩
  · rw [if_pos h] at hp
    exact br_f (fun e => Int32.not_le.mpr h e) hp
  · subst h
    rw [if_neg (nI_pos (by omega)), nI_clamp (by omega)] at hp
    refine br_t (nI_pos' (by omega)) ⟨?_, ?_⟩
    · rw [rc_low_i hf]; exact vp_in_nI (by omega) (by decide)
    · rw [rc_low_i hf, nI_clamp (by omega)]; exact hp
theorem rx_enter {first : Int32} {va vb : Int64} (hf : f_frames = nI (top + 1)) (ht : top < 16) (post : SX → Prop) (hp : post (f_kindRet, f_kindTail, f_kindBind, f_kindCon, f_kindPrim, f_kindCall, f_kindMatch, f_kindTest, f_cellBase, f_heapSize, f_depthLimit, f_nodeLimit, f_nodeCount, f_fragmentCount, f_frames, first, f_deadCount, f_freeHead, f_fresh, f_liveCells, f_spareTotal, f_counted, f_status, f_made, f_reused, f_peak, f_calls, f_result, f_resultCells, a_nodeKind, a_nodeX, a_nodeParam, a_nodeA, a_nodeB, a_nodeNext, a_nodeElse, a_nodeFree, a_nodeNeed, a_fragments, a_body, vp_updL (vp_updL a_slots (12 * top) va) (12 * top + 1) vb, a_waiting, a_spareHead, a_spareCount, a_cellTag, a_cellLeft, a_cellRight, a_holds, a_link, a_dead, a_cellOfNumber, a_numberOfCell, a_places, a_walk)) : wpX_enter post (f_kindRet, f_kindTail, f_kindBind, f_kindCon, f_kindPrim, f_kindCall, f_kindMatch, f_kindTest, f_cellBase, f_heapSize, f_depthLimit, f_nodeLimit, f_nodeCount, f_fragmentCount, f_frames, f_at, f_deadCount, f_freeHead, f_fresh, f_liveCells, f_spareTotal, f_counted, f_status, f_made, f_reused, f_peak, f_calls, f_result, f_resultCells, a_nodeKind, a_nodeX, a_nodeParam, a_nodeA, a_nodeB, a_nodeNext, a_nodeElse, a_nodeFree, a_nodeNeed, a_fragments, a_body, a_slots, a_waiting, a_spareHead, a_spareCount, a_cellTag, a_cellLeft, a_cellRight, a_holds, a_link, a_dead, a_cellOfNumber, a_numberOfCell, a_places, a_walk) first va vb := by
  refine ⟨?_, nm_r (e' := vp_updL a_slots (12 * top) va) ?_ ⟨?_, nm_r (e' := vp_updL (vp_updL a_slots (12 * top) va) (12 * top + 1) vb) ?_ hp⟩⟩
  · rw [rc_low hf]; exact vp_in_nI (by omega) (by decide)
  · rw [rc_low hf, nI_clamp (by omega)]
  · rw [rc_low hf, nI_1]; exact vp_in_nI (by omega) (by decide)
  · rw [rc_low hf, nI_1, nI_clamp (by omega)]
theorem rx_openFrame (hf : f_frames = nI fr) (hfr : fr < 16) (post : SX → Prop) (hp : post (f_kindRet, f_kindTail, f_kindBind, f_kindCon, f_kindPrim, f_kindCall, f_kindMatch, f_kindTest, f_cellBase, f_heapSize, f_depthLimit, f_nodeLimit, f_nodeCount, f_fragmentCount, nI (fr + 1), f_at, f_deadCount, f_freeHead, f_fresh, f_liveCells, f_spareTotal, f_counted, f_status, f_made, f_reused, f_peak, f_calls, f_result, f_resultCells, a_nodeKind, a_nodeX, a_nodeParam, a_nodeA, a_nodeB, a_nodeNext, a_nodeElse, a_nodeFree, a_nodeNeed, a_fragments, a_body, a_slots, a_waiting, upd a_spareHead fr (-1), upd a_spareCount fr 0, a_cellTag, a_cellLeft, a_cellRight, a_holds, a_link, a_dead, a_cellOfNumber, a_numberOfCell, a_places, a_walk)) : wpX_openFrame post (f_kindRet, f_kindTail, f_kindBind, f_kindCon, f_kindPrim, f_kindCall, f_kindMatch, f_kindTest, f_cellBase, f_heapSize, f_depthLimit, f_nodeLimit, f_nodeCount, f_fragmentCount, f_frames, f_at, f_deadCount, f_freeHead, f_fresh, f_liveCells, f_spareTotal, f_counted, f_status, f_made, f_reused, f_peak, f_calls, f_result, f_resultCells, a_nodeKind, a_nodeX, a_nodeParam, a_nodeA, a_nodeB, a_nodeNext, a_nodeElse, a_nodeFree, a_nodeNeed, a_fragments, a_body, a_slots, a_waiting, a_spareHead, a_spareCount, a_cellTag, a_cellLeft, a_cellRight, a_holds, a_link, a_dead, a_cellOfNumber, a_numberOfCell, a_places, a_walk) := by
  have hin : vp_in f_frames 16 := by rw [hf]; exact vp_in_nI hfr (by decide)
  have e : f_frames.toNatClampNeg = fr := by rw [hf]; exact nI_clamp (by omega)
  exact ⟨hin, nm_r (e' := upd a_spareHead fr (-1)) (by rw [e]) ⟨hin, nm_r (e' := upd a_spareCount fr 0) (by rw [e]) (nm_r (e' := nI (fr + 1)) (by rw [hf, nI_1]) hp)⟩⟩
/-- holdParameters -/
theorem rx_holdP {b : Nat} {va vb : Int64} (hb : b < 48) (hva : rc_FV col va) (hvb : rc_FV col vb) (I : (rc_XI lim fr (fun _ => 0) own col ([]) F S fs f_counted a_slots a_cellLeft a_cellRight a_holds a_link a_dead a_spareHead a_spareCount f_deadCount f_freeHead f_fresh f_liveCells f_spareTotal)) : ∃ ho : Nat → Int32, (rc_XI lim fr (fun c => 0 + (if bt (a_nodeFree b) 0 = true then rc_is va c else 0) + (if bt (a_nodeFree b) 1 = true then rc_is vb c else 0)) own col ([]) F S fs f_counted a_slots a_cellLeft a_cellRight ho a_link a_dead a_spareHead a_spareCount f_deadCount f_freeHead f_fresh f_liveCells f_spareTotal) ∧ ∀ (post : SX → Prop), post (f_kindRet, f_kindTail, f_kindBind, f_kindCon, f_kindPrim, f_kindCall, f_kindMatch, f_kindTest, f_cellBase, f_heapSize, f_depthLimit, f_nodeLimit, f_nodeCount, f_fragmentCount, f_frames, f_at, f_deadCount, f_freeHead, f_fresh, f_liveCells, f_spareTotal, f_counted, f_status, f_made, f_reused, f_peak, f_calls, f_result, f_resultCells, a_nodeKind, a_nodeX, a_nodeParam, a_nodeA, a_nodeB, a_nodeNext, a_nodeElse, a_nodeFree, a_nodeNeed, a_fragments, a_body, a_slots, a_waiting, a_spareHead, a_spareCount, a_cellTag, a_cellLeft, a_cellRight, ho, a_link, a_dead, a_cellOfNumber, a_numberOfCell, a_places, a_walk) → wpX_holdParameters post (f_kindRet, f_kindTail, f_kindBind, f_kindCon, f_kindPrim, f_kindCall, f_kindMatch, f_kindTest, f_cellBase, f_heapSize, f_depthLimit, f_nodeLimit, f_nodeCount, f_fragmentCount, f_frames, f_at, f_deadCount, f_freeHead, f_fresh, f_liveCells, f_spareTotal, f_counted, f_status, f_made, f_reused, f_peak, f_calls, f_result, f_resultCells, a_nodeKind, a_nodeX, a_nodeParam, a_nodeA, a_nodeB, a_nodeNext, a_nodeElse, a_nodeFree, a_nodeNeed, a_fragments, a_body, a_slots, a_waiting, a_spareHead, a_spareCount, a_cellTag, a_cellLeft, a_cellRight, a_holds, a_link, a_dead, a_cellOfNumber, a_numberOfCell, a_places, a_walk) (nI b) va vb := by
  have hin : vp_in (nI b) 48 := vp_in_nI hb (by decide)
  have eb : (nI b).toNatClampNeg = b := nI_clamp (by omega)
  obtain ⟨ho1, I1, _, W1⟩ := rx_holdIf (b := bt (a_nodeFree b) 0) (v := va) rc_tx1 (f_kindRet := f_kindRet) (f_kindTail := f_kindTail) (f_kindBind := f_kindBind) (f_kindCon := f_kindCon) (f_kindPrim := f_kindPrim) (f_kindCall := f_kindCall) (f_kindMatch := f_kindMatch) (f_kindTest := f_kindTest) (f_cellBase := f_cellBase) (f_heapSize := f_heapSize) (f_depthLimit := f_depthLimit) (f_nodeLimit := f_nodeLimit) (f_nodeCount := f_nodeCount) (f_fragmentCount := f_fragmentCount) (f_frames := f_frames) (f_at := f_at) (f_deadCount := f_deadCount) (f_freeHead := f_freeHead) (f_fresh := f_fresh) (f_liveCells := f_liveCells) (f_spareTotal := f_spareTotal) (f_counted := f_counted) (f_status := f_status) (f_made := f_made) (f_reused := f_reused) (f_peak := f_peak) (f_calls := f_calls) (f_result := f_result) (f_resultCells := f_resultCells) (a_nodeKind := a_nodeKind) (a_nodeX := a_nodeX) (a_nodeParam := a_nodeParam) (a_nodeA := a_nodeA) (a_nodeB := a_nodeB) (a_nodeNext := a_nodeNext) (a_nodeElse := a_nodeElse) (a_nodeFree := a_nodeFree) (a_nodeNeed := a_nodeNeed) (a_fragments := a_fragments) (a_body := a_body) (a_slots := a_slots) (a_waiting := a_waiting) (a_spareHead := a_spareHead) (a_spareCount := a_spareCount) (a_cellTag := a_cellTag) (a_cellLeft := a_cellLeft) (a_cellRight := a_cellRight) (a_holds := a_holds) (a_link := a_link) (a_dead := a_dead) (a_cellOfNumber := a_cellOfNumber) (a_numberOfCell := a_numberOfCell) (a_places := a_places) (a_walk := a_walk) I (fun _ => hva) (fun c => by have := rc_is_le va c; omega)
  obtain ⟨ho2, I2, _, W2⟩ := rx_holdIf (b := bt (a_nodeFree b) 1) (v := vb) rc_tx2 (f_kindRet := f_kindRet) (f_kindTail := f_kindTail) (f_kindBind := f_kindBind) (f_kindCon := f_kindCon) (f_kindPrim := f_kindPrim) (f_kindCall := f_kindCall) (f_kindMatch := f_kindMatch) (f_kindTest := f_kindTest) (f_cellBase := f_cellBase) (f_heapSize := f_heapSize) (f_depthLimit := f_depthLimit) (f_nodeLimit := f_nodeLimit) (f_nodeCount := f_nodeCount) (f_fragmentCount := f_fragmentCount) (f_frames := f_frames) (f_at := f_at) (f_deadCount := f_deadCount) (f_freeHead := f_freeHead) (f_fresh := f_fresh) (f_liveCells := f_liveCells) (f_spareTotal := f_spareTotal) (f_counted := f_counted) (f_status := f_status) (f_made := f_made) (f_reused := f_reused) (f_peak := f_peak) (f_calls := f_calls) (f_result := f_result) (f_resultCells := f_resultCells) (a_nodeKind := a_nodeKind) (a_nodeX := a_nodeX) (a_nodeParam := a_nodeParam) (a_nodeA := a_nodeA) (a_nodeB := a_nodeB) (a_nodeNext := a_nodeNext) (a_nodeElse := a_nodeElse) (a_nodeFree := a_nodeFree) (a_nodeNeed := a_nodeNeed) (a_fragments := a_fragments) (a_body := a_body) (a_slots := a_slots) (a_waiting := a_waiting) (a_spareHead := a_spareHead) (a_spareCount := a_spareCount) (a_cellTag := a_cellTag) (a_cellLeft := a_cellLeft) (a_cellRight := a_cellRight) (a_holds := ho1) (a_link := a_link) (a_dead := a_dead) (a_cellOfNumber := a_cellOfNumber) (a_numberOfCell := a_numberOfCell) (a_places := a_places) (a_walk := a_walk) I1 (fun _ => hvb) (fun c => by
    have := rc_is_le va c
    have := rc_is_le vb c
    split <;> omega)
  refine ⟨ho2, I2, fun post hp => ⟨hin, ?_⟩⟩
  rw [eb]
  refine W1 _ _ (fun h => h) ⟨hin, ?_⟩
  rw [eb]
  exact W2 _ _ (fun h => h) hp
/-- the parameters go into the frame, by the holds in hand -/
theorem rc_params {b0 b1 : Bool} {va vb : Int64} {Z : Int32} (ht : top < fr) (ht16 : top < 16) (h0 : bt (ss top) 0 = false) (h1 : bt (ss top) 1 = false) (hva : b0 = true → rc_FV col va) (hvb : b1 = true → rc_FV col vb) (hZ : ∀ s, s < 12 → bt Z s = if s = 0 then b0 else if s = 1 then b1 else bt (ss top) s) (I : (rc_XI lim fr (fun c => 0 + (if b0 = true then rc_is va c else 0) + (if b1 = true then rc_is vb c else 0)) (rc_ow fr ss) col D F S fs f_counted a_slots a_cellLeft a_cellRight a_holds a_link a_dead a_spareHead a_spareCount f_deadCount f_freeHead f_fresh f_liveCells f_spareTotal)) : (rc_XI lim fr (fun _ => 0) (rc_ow fr (upd ss top Z)) col D F S fs f_counted (vp_updL (vp_updL a_slots (12 * top) va) (12 * top + 1) vb) a_cellLeft a_cellRight a_holds a_link a_dead a_spareHead a_spareCount f_deadCount f_freeHead f_fresh f_liveCells f_spareTotal) := by
  have eE : (fun c => 0 + (if b0 = true then rc_is va c else 0) + (if b1 = true then rc_is vb c else 0)) = (fun c => (fun x => 0 + (if b1 = true then rc_is vb x else 0)) c + (if b0 = true then rc_is va c else 0)) := by
    funext c
    show _ = 0 + _ + _
    omega
  rw [eE] at I
  have I1 := rc_assign (E := fun x => 0 + (if b1 = true then rc_is vb x else 0)) (b := b0) (v := va) (i := 12 * top) (by omega) (by rw [show 12 * top = 12 * top + 0 from rfl, rc_ow_i ht (by omega)]; exact h0) hva I
  have I2 := rc_assign (E := fun _ => 0) (b := b1) (v := vb) (i := 12 * top + 1) (by omega) (by
    unfold rc_st
    rw [if_neg (by omega), rc_ow_i ht (by omega)]; exact h1) hvb I1
  have e : rc_st (rc_st (rc_ow fr ss) (12 * top) b0) (12 * top + 1) b1 = rc_ow fr (upd ss top Z) := by
    funext i
    unfold rc_st rc_ow
    have hm : i % 12 < 12 := Nat.mod_lt _ (by decide)
    by_cases e1 : i / 12 = top
    · rw [e1, pk_us, hZ (i % 12) hm, decide_eq_true ht, Bool.true_and, Bool.true_and]
      by_cases q1 : i = 12 * top + 1
      · rw [if_pos q1, if_neg (by omega), if_pos (by omega)]
      · rw [if_neg q1]
        by_cases q0 : i = 12 * top
        · rw [if_pos q0, if_pos (by omega)]
        · rw [if_neg q0, if_neg (by omega), if_neg (by omega)]
    · rw [pk_un e1, if_neg (by omega), if_neg (by omega)]
  rw [e] at I2
  exact I2
end
section
variable {g_heapSize g_depthLimit g_nodeLimit g_nodeCount g_fragCount g_frames g_made g_inRun g_reused g_peak g_calls g_status g_resKind g_resNumber g_numbered : Int32} {b_nodeKind b_nodeX b_nodeT b_nodeA b_nodeB b_nodeNext b_nodeElse b_scratch b_frag b_body b_slotKind b_slotNumber b_spares b_waits b_cellTag b_partKind b_partNumber b_live b_order b_todo : Nat → Int32}
variable {top : Nat}
theorem ry_kat {o : Int32} (ho : rc_op o) (hf : g_frames = nI (top + 1)) (ht : top < 16) (post : Int32 → Prop) (hp : post (rc_kat top b_slotKind o)) : wpY_kindAt post (g_heapSize, g_depthLimit, g_nodeLimit, g_nodeCount, g_fragCount, g_frames, g_made, g_inRun, g_reused, g_peak, g_calls, g_status, g_resKind, g_resNumber, g_numbered, b_nodeKind, b_nodeX, b_nodeT, b_nodeA, b_nodeB, b_nodeNext, b_nodeElse, b_scratch, b_frag, b_body, b_slotKind, b_slotNumber, b_spares, b_waits, b_cellTag, b_partKind, b_partNumber, b_live, b_order, b_todo) o := by
  unfold rc_kat at hp
  rcases ho with h | ⟨s, hs, h⟩
  · rw [if_pos h] at hp
    exact br_f (fun e => Int32.not_le.mpr h e) hp
  · subst h
    rw [if_neg (nI_pos (by omega)), nI_clamp (by omega)] at hp
    refine br_t (nI_pos' (by omega)) ⟨?_, ?_⟩
    · rw [rc_low_i hf]; exact vp_in_nI (by omega) (by decide)
    · rw [rc_low_i hf, nI_clamp (by omega)]; exact hp
theorem ry_nat {o : Int32} (ho : rc_op o) (hf : g_frames = nI (top + 1)) (ht : top < 16) (post : Int32 → Prop) (hp : post (rc_nat top b_slotNumber o)) : wpY_numberAt post (g_heapSize, g_depthLimit, g_nodeLimit, g_nodeCount, g_fragCount, g_frames, g_made, g_inRun, g_reused, g_peak, g_calls, g_status, g_resKind, g_resNumber, g_numbered, b_nodeKind, b_nodeX, b_nodeT, b_nodeA, b_nodeB, b_nodeNext, b_nodeElse, b_scratch, b_frag, b_body, b_slotKind, b_slotNumber, b_spares, b_waits, b_cellTag, b_partKind, b_partNumber, b_live, b_order, b_todo) o := by
  unfold rc_nat at hp
  rcases ho with h | ⟨s, hs, h⟩
  · rw [if_pos h] at hp
    exact br_f (fun e => Int32.not_le.mpr h e) hp
  · subst h
    rw [if_neg (nI_pos (by omega)), nI_clamp (by omega)] at hp
    refine br_t (nI_pos' (by omega)) ⟨?_, ?_⟩
    · rw [rc_low_i hf]; exact vp_in_nI (by omega) (by decide)
    · rw [rc_low_i hf, nI_clamp (by omega)]; exact hp
theorem ry_put {x : Nat} {k n : Int32} (hx : x < 12) (hf : g_frames = nI (top + 1)) (ht : top < 16) (post : SY → Prop) (hp : post (g_heapSize, g_depthLimit, g_nodeLimit, g_nodeCount, g_fragCount, g_frames, g_made, g_inRun, g_reused, g_peak, g_calls, g_status, g_resKind, g_resNumber, g_numbered, b_nodeKind, b_nodeX, b_nodeT, b_nodeA, b_nodeB, b_nodeNext, b_nodeElse, b_scratch, b_frag, b_body, upd b_slotKind (12 * top + x) k, upd b_slotNumber (12 * top + x) n, b_spares, b_waits, b_cellTag, b_partKind, b_partNumber, b_live, b_order, b_todo)) : wpY_put post (g_heapSize, g_depthLimit, g_nodeLimit, g_nodeCount, g_fragCount, g_frames, g_made, g_inRun, g_reused, g_peak, g_calls, g_status, g_resKind, g_resNumber, g_numbered, b_nodeKind, b_nodeX, b_nodeT, b_nodeA, b_nodeB, b_nodeNext, b_nodeElse, b_scratch, b_frag, b_body, b_slotKind, b_slotNumber, b_spares, b_waits, b_cellTag, b_partKind, b_partNumber, b_live, b_order, b_todo) (nI x) k n := by
  have hin : vp_in ((g_frames - 1) * 12 + nI x) 192 := by rw [rc_low_i hf]; exact vp_in_nI (by omega) (by decide)
  exact ⟨hin, nm_r (e' := upd b_slotKind (12 * top + x) k) (by rw [rc_low_i hf, nI_clamp (by omega)]) ⟨hin, nm_r (e' := upd b_slotNumber (12 * top + x) n) (by rw [rc_low_i hf, nI_clamp (by omega)]) hp⟩⟩
end
end
section
section
variable {nd : Nat → Nat} {kd xx pm na nb nx el fe ya yb : Nat → Int32} {i : Nat}
theorem rc_or_l {a b : Int32} {s : Nat} (h : bt a s = true) : bt (a ||| b) s = true := by rw [b_or, h]; rfl
theorem rc_or_r {a b : Int32} {s : Nat} (h : bt b s = true) : bt (a ||| b) s = true := by rw [b_or, h]; exact Bool.or_true _
theorem rc_nd0 (H : rc_ND nd kd xx pm na nb nx el fe ya yb i) (hk : kd i = 0 ∨ kd i = 1) : na i = ya i ∧ nb i = yb i ∧ rc_op (na i) ∧ rc_op (nb i) ∧ rc_P0 kd pm nb i ∧ (∀ s, s < 12 → na i = nI s → bt (fe i) s = true) ∧ (∀ s, s < 12 → nb i = nI s → bt (fe i) s = true) ∧ nd i = 0 ∧ fe i = rc_bit (na i) ||| rc_bit (nb i) := by
  obtain ⟨_, x, _, _, h | h | h | h⟩ := H
  · obtain ⟨_, a, b, c, d, e, _, _, f, g⟩ := h
    refine ⟨a, b, c, d, e, fun s hs q => ?_, fun s hs q => ?_, g, f⟩
    · rw [f]; exact rc_or_l (rc_bit_b hs q)
    · rw [f]; exact rc_or_r (rc_bit_b hs q)
  · rcases hk with e | e <;> rcases h.1 with q | q | q | q <;> exact absurd (e.symm.trans q) (by decide)
  · rcases hk with e | e <;> exact absurd (e.symm.trans h.1) (by decide)
  · rcases hk with e | e <;> exact absurd (e.symm.trans h.1) (by decide)
theorem rc_nd2 (H : rc_ND nd kd xx pm na nb nx el fe ya yb i) (hk : kd i = 2 ∨ kd i = 3 ∨ kd i = 4 ∨ kd i = 5) : ∃ x j, x < 12 ∧ xx i = nI x ∧ na i = ya i ∧ nb i = yb i ∧ rc_op (na i) ∧ rc_op (nb i) ∧ rc_PM kd pm i ∧ (∀ s, s < 12 → na i = nI s → bt (fe i) s = true) ∧ (∀ s, s < 12 → nb i = nI s → bt (fe i) s = true) ∧ j < i ∧ nx i = nI j ∧ (∀ s, s < 12 → bt (fe j) s = true → s ≠ x → bt (fe i) s = true) ∧ nd i = nd j + (if kd i = 3 then 1 else 0) := by
  obtain ⟨_, x, hx, hxx, h | h | h | h⟩ := H
  · rcases hk with e | e | e | e <;> rcases h.1 with q | q <;> exact absurd (e.symm.trans q) (by decide)
  · obtain ⟨_, a, b, c, d, e, _, j, hj, hnx, f, g⟩ := h
    refine ⟨x, j, hx, hxx, a, b, c, d, e, fun s hs q => ?_, fun s hs q => ?_, hj, hnx, fun s hs q hne => ?_, g⟩
    · rw [f]; exact rc_or_l (rc_or_l (rc_bit_b hs q))
    · rw [f]; exact rc_or_l (rc_or_r (rc_bit_b hs q))
    · rw [f]
      apply rc_or_r
      rw [rc_andn (by omega), q, rc_b1_b hx (by omega)]
      simp [hne]
  · rcases hk with e | e | e | e <;> exact absurd (e.symm.trans h.1) (by decide)
  · rcases hk with e | e | e | e <;> exact absurd (e.symm.trans h.1) (by decide)
theorem rc_nd6 (H : rc_ND nd kd xx pm na nb nx el fe ya yb i) (hk : kd i = 6) : ∃ x y z j e, x < 12 ∧ y < 12 ∧ z < 12 ∧ x ≠ y ∧ x ≠ z ∧ y ≠ z ∧ xx i = nI x ∧ na i = nI y ∧ nb i = nI z ∧ ya i = nI y ∧ yb i = nI z ∧ j < i ∧ e < i ∧ nx i = nI j ∧ el i = nI e ∧ bt (fe i) x = true ∧ (∀ s, s < 12 → bt (fe j) s = true → s ≠ y → s ≠ z → bt (fe i) s = true) ∧ (∀ s, s < 12 → bt (fe e) s = true → bt (fe i) s = true) := by
  obtain ⟨_, x, hx, hxx, h | h | h | h⟩ := H
  · rcases h.1 with q | q <;> exact absurd (hk.symm.trans q) (by decide)
  · rcases h.1 with q | q | q | q <;> exact absurd (hk.symm.trans q) (by decide)
  · obtain ⟨_, y, z, j, e, hy, hz, n1, n2, n3, a, b, a', b', hj, he, hnx, hel, f, _⟩ := h
    refine ⟨x, y, z, j, e, hx, hy, hz, n1, n2, n3, hxx, a, b, a', b', hj, he, hnx, hel, ?_, fun s hs q h1 h2 => ?_, fun s hs q => ?_⟩
    · rw [f]; apply rc_or_l; apply rc_or_l; rw [rc_b1_b hx (by omega)]; simp
    · rw [f]; apply rc_or_l; apply rc_or_r
      rw [rc_andn (by omega), rc_andn (by omega), q, rc_b1_b hy (by omega), rc_b1_b hz (by omega)]
      simp [h1, h2]
    · rw [f]; exact rc_or_r q
  · exact absurd (hk.symm.trans h.1) (by decide)
theorem rc_nd7 (H : rc_ND nd kd xx pm na nb nx el fe ya yb i) (hk : kd i = 7) : ∃ x j e, x < 12 ∧ xx i = nI x ∧ j < i ∧ e < i ∧ nx i = nI j ∧ el i = nI e ∧ bt (fe i) x = true ∧ (∀ s, s < 12 → bt (fe j) s = true → bt (fe i) s = true) ∧ (∀ s, s < 12 → bt (fe e) s = true → bt (fe i) s = true) := by
  obtain ⟨_, x, hx, hxx, h | h | h | h⟩ := H
  · rcases h.1 with q | q <;> exact absurd (hk.symm.trans q) (by decide)
  · rcases h.1 with q | q | q | q <;> exact absurd (hk.symm.trans q) (by decide)
  · exact absurd (hk.symm.trans h.1) (by decide)
  · obtain ⟨_, _, _, j, e, hj, he, hnx, hel, f, _⟩ := h
    refine ⟨x, j, e, hx, hxx, hj, he, hnx, hel, ?_, fun s hs q => ?_, fun s hs q => ?_⟩
    · rw [f]; apply rc_or_l; apply rc_or_l; rw [rc_b1_b hx (by omega)]; simp
    · rw [f]; exact rc_or_l (rc_or_r q)
    · rw [f]; exact rc_or_r q
theorem rc_ndk (H : rc_ND nd kd xx pm na nb nx el fe ya yb i) : kd i = 0 ∨ kd i = 1 ∨ kd i = 2 ∨ kd i = 3 ∨ kd i = 4 ∨ kd i = 5 ∨ kd i = 6 ∨ kd i = 7 := by
  obtain ⟨_, x, hx, hxx, h | h | h | h⟩ := H
  · rcases h.1 with q | q
    · exact Or.inl q
    · exact Or.inr (Or.inl q)
  · rcases h.1 with q | q | q | q
    · exact Or.inr (Or.inr (Or.inl q))
    · exact Or.inr (Or.inr (Or.inr (Or.inl q)))
    · exact Or.inr (Or.inr (Or.inr (Or.inr (Or.inl q))))
    · exact Or.inr (Or.inr (Or.inr (Or.inr (Or.inr (Or.inl q)))))
  · exact Or.inr (Or.inr (Or.inr (Or.inr (Or.inr (Or.inr (Or.inl h.1))))))
  · exact Or.inr (Or.inr (Or.inr (Or.inr (Or.inr (Or.inr (Or.inr h.1))))))
end
end
section
/-! the relation during an evaluation, at the arrival at node n -/
section
variable {f_kindRet f_kindTail f_kindBind f_kindCon f_kindPrim f_kindCall f_kindMatch f_kindTest f_heapSize f_depthLimit f_nodeLimit f_nodeCount f_fragmentCount f_frames f_at f_deadCount f_freeHead f_fresh f_liveCells f_spareTotal f_counted f_status f_made f_reused f_peak f_calls f_resultCells : Int32} {f_cellBase f_result : Int64} {a_nodeKind a_nodeX a_nodeParam a_nodeA a_nodeB a_nodeNext a_nodeElse a_nodeFree a_nodeNeed a_fragments a_body a_waiting a_spareHead a_spareCount a_cellTag a_holds a_link a_dead a_cellOfNumber a_numberOfCell a_places a_walk : Nat → Int32} {a_slots a_cellLeft a_cellRight : Nat → Int64}
variable {g_frames g_status g_resKind g_resNumber g_numbered : Int32} {b_nodeA b_nodeB b_scratch b_slotKind b_slotNumber b_spares b_cellTag b_partKind b_partNumber b_live b_order b_todo : Nat → Int32}
def rc_ST (nc hs dl : Nat) (nd : Nat → Nat) (f_heapSize f_depthLimit : Int32) (a_nodeKind a_nodeX a_nodeParam a_nodeA a_nodeB a_nodeNext a_nodeElse a_nodeFree a_nodeNeed a_body b_nodeA b_nodeB : Nat → Int32) : Prop :=
  nc ≤ 48 ∧ (∀ i, i < nc → (rc_ND nd a_nodeKind a_nodeX a_nodeParam a_nodeA a_nodeB a_nodeNext a_nodeElse a_nodeFree b_nodeA b_nodeB) i) ∧ (∀ i, i < nc → a_nodeNeed i = nI (nd i)) ∧ f_heapSize = nI hs ∧ hs ≤ 64 ∧ f_depthLimit = nI dl ∧ 2 ≤ dl ∧ dl ≤ 16 ∧ (∀ f, f < 8 → a_body f = -1 ∨ ∃ b, b < nc ∧ a_body f = nI b ∧ ∀ s, 2 ≤ s → s < 12 → bt (a_nodeFree b) s = false)
def rc_FT (nc : Nat) (f_nodeLimit f_nodeCount f_fragmentCount : Int32) (a_fragments : Nat → Int32) : Prop :=
  f_nodeCount = nI nc ∧ ∃ nl fc, nc ≤ nl ∧ nl ≤ 48 ∧ f_nodeLimit = nI nl ∧ fc ≤ 16 ∧ f_fragmentCount = nI fc ∧ ∀ i, i < fc → ∃ b, b < nc ∧ a_fragments i = nI b
def rc_NU (n nc dl fr m ca fs : Nat) (f_frames f_at f_made f_calls f_resultCells g_frames g_status g_resKind g_numbered : Int32) : Prop :=
  1 ≤ fr ∧ fr ≤ dl ∧ f_frames = nI fr ∧ g_frames = nI fr ∧ f_at = nI n ∧ n < nc ∧ f_made = nI m ∧ m ≤ 200 ∧ f_calls = nI ca ∧ ca ≤ 200 ∧ fs ≤ m ∧ g_status = 9 ∧ g_resKind = 0 ∧ g_numbered = 0 ∧ f_resultCells = 0
def rc_WT (nc fr : Nat) (wt kd : Nat → Int32) : Prop := ∀ f, f + 1 < fr → ∃ w, w < nc ∧ wt f = nI w ∧ kd w = 5
def rc_SP (fr : Nat) (S : Nat → List Nat) (sp : Nat → Int32) : Prop := ∀ f, f < fr → sp f = nI (S f).length
def rc_PL (ct : Int32) (m fs fr : Nat) (φ col : Nat → Nat) (F : List Nat) (S : Nat → List Nat) (pe : Int32) : Prop :=
  ct = 0 → fs = m ∧ (∀ c, c < fs → col c = 0 ∧ φ c = c) ∧ F = [] ∧ (∀ f, f < fr → S f = []) ∧ pe = nI m
def rc_RN (ct : Int32) (hs fr : Nat) (col : Nat → Nat) (S : Nat → List Nat) : Prop := ct ≠ 0 → rc_ct col + rc_sm (fun f => (S f).length) fr ≤ hs
def rc_wn (nx wt : Nat → Int32) (f : Nat) : Nat := (nx (wt f).toNatClampNeg).toNatClampNeg + 1
def rc_ME (n stp fr ca : Nat) (nx wt : Nat → Int32) : Prop := n + 1 + rc_sm (rc_wn nx wt) (fr - 1) + 48 * (200 - ca) + stp ≤ 9648
def rc_EG (n stp nc hs dl fr m ca fs : Nat) (nd φ col : Nat → Nat) (F : List Nat) (S : Nat → List Nat) (ss : Nat → Int32) (f_heapSize f_depthLimit f_nodeLimit f_nodeCount f_fragmentCount f_frames f_at f_deadCount f_freeHead f_fresh f_liveCells f_spareTotal f_counted f_made f_peak f_calls f_resultCells : Int32) (a_nodeKind a_nodeX a_nodeParam a_nodeA a_nodeB a_nodeNext a_nodeElse a_nodeFree a_nodeNeed a_fragments a_body : Nat → Int32) (a_slots : Nat → Int64) (a_waiting a_spareHead a_spareCount a_cellTag : Nat → Int32) (a_cellLeft a_cellRight : Nat → Int64) (a_holds a_link a_dead : Nat → Int32) (g_frames g_status g_resKind g_numbered : Int32) (b_nodeA b_nodeB b_slotKind b_slotNumber b_spares b_cellTag b_partKind b_partNumber : Nat → Int32) : Prop :=
  (rc_ST nc hs dl nd f_heapSize f_depthLimit a_nodeKind a_nodeX a_nodeParam a_nodeA a_nodeB a_nodeNext a_nodeElse a_nodeFree a_nodeNeed a_body b_nodeA b_nodeB) ∧ (rc_FT nc f_nodeLimit f_nodeCount f_fragmentCount a_fragments) ∧ (rc_NU n nc dl fr m ca fs f_frames f_at f_made f_calls f_resultCells g_frames g_status g_resKind g_numbered) ∧ (rc_SS nc fr n ss a_nodeFree a_waiting a_nodeNext a_nodeX) ∧ (rc_WT nc fr a_waiting a_nodeKind) ∧ (rc_SP fr S b_spares) ∧ (rc_XI 0 fr (fun _ => 0) (rc_ow fr ss) col ([]) F S fs f_counted a_slots a_cellLeft a_cellRight a_holds a_link a_dead a_spareHead a_spareCount f_deadCount f_freeHead f_fresh f_liveCells f_spareTotal) ∧ (rc_SV (rc_ow fr ss) φ a_slots b_slotKind b_slotNumber) ∧ (rc_HR m φ col a_cellTag a_cellLeft a_cellRight b_cellTag b_partKind b_partNumber) ∧ (rc_YW b_partKind b_partNumber m) ∧ (rc_PL f_counted m fs fr φ col F S f_peak) ∧ (rc_RN f_counted hs fr col S) ∧ (rc_ME n stp fr ca a_nodeNext a_waiting)
/-- what is the same on both sides -/
def rc_SA (u : SX) (v : SY) : Prop := match u, v with
  | (f_kindRet, f_kindTail, f_kindBind, f_kindCon, f_kindPrim, f_kindCall, f_kindMatch, f_kindTest, f_cellBase, f_heapSize, f_depthLimit, f_nodeLimit, f_nodeCount, f_fragmentCount, f_frames, f_at, f_deadCount, f_freeHead, f_fresh, f_liveCells, f_spareTotal, f_counted, f_status, f_made, f_reused, f_peak, f_calls, f_result, f_resultCells, a_nodeKind, a_nodeX, a_nodeParam, a_nodeA, a_nodeB, a_nodeNext, a_nodeElse, a_nodeFree, a_nodeNeed, a_fragments, a_body, a_slots, a_waiting, a_spareHead, a_spareCount, a_cellTag, a_cellLeft, a_cellRight, a_holds, a_link, a_dead, a_cellOfNumber, a_numberOfCell, a_places, a_walk), (g_heapSize, g_depthLimit, g_nodeLimit, g_nodeCount, g_fragCount, g_frames, g_made, g_inRun, g_reused, g_peak, g_calls, g_status, g_resKind, g_resNumber, g_numbered, b_nodeKind, b_nodeX, b_nodeT, b_nodeA, b_nodeB, b_nodeNext, b_nodeElse, b_scratch, b_frag, b_body, b_slotKind, b_slotNumber, b_spares, b_waits, b_cellTag, b_partKind, b_partNumber, b_live, b_order, b_todo) => g_heapSize = f_heapSize ∧ g_depthLimit = f_depthLimit ∧ g_nodeLimit = f_nodeLimit ∧ g_nodeCount = f_nodeCount ∧ g_fragCount = f_fragmentCount ∧ b_nodeKind = a_nodeKind ∧ b_nodeX = a_nodeX ∧ b_nodeT = a_nodeParam ∧ b_nodeNext = a_nodeNext ∧ b_nodeElse = a_nodeElse ∧ b_frag = a_fragments ∧ b_body = a_body ∧ b_waits = a_waiting ∧ g_inRun = f_counted ∧ g_made = f_made ∧ g_reused = f_reused ∧ g_peak = f_peak ∧ g_calls = f_calls
theorem rc_SA_mk : rc_SA (f_kindRet, f_kindTail, f_kindBind, f_kindCon, f_kindPrim, f_kindCall, f_kindMatch, f_kindTest, f_cellBase, f_heapSize, f_depthLimit, f_nodeLimit, f_nodeCount, f_fragmentCount, f_frames, f_at, f_deadCount, f_freeHead, f_fresh, f_liveCells, f_spareTotal, f_counted, f_status, f_made, f_reused, f_peak, f_calls, f_result, f_resultCells, a_nodeKind, a_nodeX, a_nodeParam, a_nodeA, a_nodeB, a_nodeNext, a_nodeElse, a_nodeFree, a_nodeNeed, a_fragments, a_body, a_slots, a_waiting, a_spareHead, a_spareCount, a_cellTag, a_cellLeft, a_cellRight, a_holds, a_link, a_dead, a_cellOfNumber, a_numberOfCell, a_places, a_walk) (f_heapSize, f_depthLimit, f_nodeLimit, f_nodeCount, f_fragmentCount, g_frames, f_made, f_counted, f_reused, f_peak, f_calls, g_status, g_resKind, g_resNumber, g_numbered, a_nodeKind, a_nodeX, a_nodeParam, b_nodeA, b_nodeB, a_nodeNext, a_nodeElse, b_scratch, a_fragments, a_body, b_slotKind, b_slotNumber, b_spares, a_waiting, b_cellTag, b_partKind, b_partNumber, b_live, b_order, b_todo) := ⟨rfl, rfl, rfl, rfl, rfl, rfl, rfl, rfl, rfl, rfl, rfl, rfl, rfl, rfl, rfl, rfl, rfl, rfl⟩
theorem rc_SA_el {P : SX → SY → Prop} {u : SX} {v : SY} (h : rc_SA u v) (H : ∀ (f_kindRet : Int32) (f_kindTail : Int32) (f_kindBind : Int32) (f_kindCon : Int32) (f_kindPrim : Int32) (f_kindCall : Int32) (f_kindMatch : Int32) (f_kindTest : Int32) (f_cellBase : Int64) (f_heapSize : Int32) (f_depthLimit : Int32) (f_nodeLimit : Int32) (f_nodeCount : Int32) (f_fragmentCount : Int32) (f_frames : Int32) (f_at : Int32) (f_deadCount : Int32) (f_freeHead : Int32) (f_fresh : Int32) (f_liveCells : Int32) (f_spareTotal : Int32) (f_counted : Int32) (f_status : Int32) (f_made : Int32) (f_reused : Int32) (f_peak : Int32) (f_calls : Int32) (f_result : Int64) (f_resultCells : Int32) (a_nodeKind : Nat → Int32) (a_nodeX : Nat → Int32) (a_nodeParam : Nat → Int32) (a_nodeA : Nat → Int32) (a_nodeB : Nat → Int32) (a_nodeNext : Nat → Int32) (a_nodeElse : Nat → Int32) (a_nodeFree : Nat → Int32) (a_nodeNeed : Nat → Int32) (a_fragments : Nat → Int32) (a_body : Nat → Int32) (a_slots : Nat → Int64) (a_waiting : Nat → Int32) (a_spareHead : Nat → Int32) (a_spareCount : Nat → Int32) (a_cellTag : Nat → Int32) (a_cellLeft : Nat → Int64) (a_cellRight : Nat → Int64) (a_holds : Nat → Int32) (a_link : Nat → Int32) (a_dead : Nat → Int32) (a_cellOfNumber : Nat → Int32) (a_numberOfCell : Nat → Int32) (a_places : Nat → Int32) (a_walk : Nat → Int32) (g_frames : Int32) (g_status : Int32) (g_resKind : Int32) (g_resNumber : Int32) (g_numbered : Int32) (b_nodeA : Nat → Int32) (b_nodeB : Nat → Int32) (b_scratch : Nat → Int32) (b_slotKind : Nat → Int32) (b_slotNumber : Nat → Int32) (b_spares : Nat → Int32) (b_cellTag : Nat → Int32) (b_partKind : Nat → Int32) (b_partNumber : Nat → Int32) (b_live : Nat → Int32) (b_order : Nat → Int32) (b_todo : Nat → Int32), P (f_kindRet, f_kindTail, f_kindBind, f_kindCon, f_kindPrim, f_kindCall, f_kindMatch, f_kindTest, f_cellBase, f_heapSize, f_depthLimit, f_nodeLimit, f_nodeCount, f_fragmentCount, f_frames, f_at, f_deadCount, f_freeHead, f_fresh, f_liveCells, f_spareTotal, f_counted, f_status, f_made, f_reused, f_peak, f_calls, f_result, f_resultCells, a_nodeKind, a_nodeX, a_nodeParam, a_nodeA, a_nodeB, a_nodeNext, a_nodeElse, a_nodeFree, a_nodeNeed, a_fragments, a_body, a_slots, a_waiting, a_spareHead, a_spareCount, a_cellTag, a_cellLeft, a_cellRight, a_holds, a_link, a_dead, a_cellOfNumber, a_numberOfCell, a_places, a_walk) (f_heapSize, f_depthLimit, f_nodeLimit, f_nodeCount, f_fragmentCount, g_frames, f_made, f_counted, f_reused, f_peak, f_calls, g_status, g_resKind, g_resNumber, g_numbered, a_nodeKind, a_nodeX, a_nodeParam, b_nodeA, b_nodeB, a_nodeNext, a_nodeElse, b_scratch, a_fragments, a_body, b_slotKind, b_slotNumber, b_spares, a_waiting, b_cellTag, b_partKind, b_partNumber, b_live, b_order, b_todo)) : P u v := by
  obtain ⟨f_kindRet, f_kindTail, f_kindBind, f_kindCon, f_kindPrim, f_kindCall, f_kindMatch, f_kindTest, f_cellBase, f_heapSize, f_depthLimit, f_nodeLimit, f_nodeCount, f_fragmentCount, f_frames, f_at, f_deadCount, f_freeHead, f_fresh, f_liveCells, f_spareTotal, f_counted, f_status, f_made, f_reused, f_peak, f_calls, f_result, f_resultCells, a_nodeKind, a_nodeX, a_nodeParam, a_nodeA, a_nodeB, a_nodeNext, a_nodeElse, a_nodeFree, a_nodeNeed, a_fragments, a_body, a_slots, a_waiting, a_spareHead, a_spareCount, a_cellTag, a_cellLeft, a_cellRight, a_holds, a_link, a_dead, a_cellOfNumber, a_numberOfCell, a_places, a_walk⟩ := u
  obtain ⟨g_heapSize, g_depthLimit, g_nodeLimit, g_nodeCount, g_fragCount, g_frames, g_made, g_inRun, g_reused, g_peak, g_calls, g_status, g_resKind, g_resNumber, g_numbered, b_nodeKind, b_nodeX, b_nodeT, b_nodeA, b_nodeB, b_nodeNext, b_nodeElse, b_scratch, b_frag, b_body, b_slotKind, b_slotNumber, b_spares, b_waits, b_cellTag, b_partKind, b_partNumber, b_live, b_order, b_todo⟩ := v
  obtain ⟨rfl, rfl, rfl, rfl, rfl, rfl, rfl, rfl, rfl, rfl, rfl, rfl, rfl, rfl, rfl, rfl, rfl, rfl⟩ := h
  apply H
def rc_ER (n stp : Nat) (u : SX) (v : SY) : Prop := rc_SA u v ∧ match u, v with
  | (f_kindRet, f_kindTail, f_kindBind, f_kindCon, f_kindPrim, f_kindCall, f_kindMatch, f_kindTest, f_cellBase, f_heapSize, f_depthLimit, f_nodeLimit, f_nodeCount, f_fragmentCount, f_frames, f_at, f_deadCount, f_freeHead, f_fresh, f_liveCells, f_spareTotal, f_counted, f_status, f_made, f_reused, f_peak, f_calls, f_result, f_resultCells, a_nodeKind, a_nodeX, a_nodeParam, a_nodeA, a_nodeB, a_nodeNext, a_nodeElse, a_nodeFree, a_nodeNeed, a_fragments, a_body, a_slots, a_waiting, a_spareHead, a_spareCount, a_cellTag, a_cellLeft, a_cellRight, a_holds, a_link, a_dead, a_cellOfNumber, a_numberOfCell, a_places, a_walk), (g_heapSize, g_depthLimit, g_nodeLimit, g_nodeCount, g_fragCount, g_frames, g_made, g_inRun, g_reused, g_peak, g_calls, g_status, g_resKind, g_resNumber, g_numbered, b_nodeKind, b_nodeX, b_nodeT, b_nodeA, b_nodeB, b_nodeNext, b_nodeElse, b_scratch, b_frag, b_body, b_slotKind, b_slotNumber, b_spares, b_waits, b_cellTag, b_partKind, b_partNumber, b_live, b_order, b_todo) => ∃ (nc hs dl fr m ca fs : Nat) (nd φ col : Nat → Nat) (F : List Nat) (S : Nat → List Nat) (ss : Nat → Int32), (rc_EG n stp nc hs dl fr m ca fs nd φ col F S ss f_heapSize f_depthLimit f_nodeLimit f_nodeCount f_fragmentCount f_frames f_at f_deadCount f_freeHead f_fresh f_liveCells f_spareTotal f_counted f_made f_peak f_calls f_resultCells a_nodeKind a_nodeX a_nodeParam a_nodeA a_nodeB a_nodeNext a_nodeElse a_nodeFree a_nodeNeed a_fragments a_body a_slots a_waiting a_spareHead a_spareCount a_cellTag a_cellLeft a_cellRight a_holds a_link a_dead g_frames g_status g_resKind g_numbered b_nodeA b_nodeB b_slotKind b_slotNumber b_spares b_cellTag b_partKind b_partNumber)
def rc_E10 (f_made f_counted f_liveCells : Int32) (f_result : Int64) (a_slots : Nat → Int64) (a_cellTag : Nat → Int32) (a_cellLeft a_cellRight : Nat → Int64) (g_resKind g_resNumber : Int32) (b_cellTag b_partKind b_partNumber : Nat → Int32) : Prop :=
  ∃ (m fs : Nat) (φ col : Nat → Nat), m ≤ 200 ∧ f_made = nI m ∧ rc_A fs (fun _ => false) col a_slots a_cellLeft a_cellRight ∧ (rc_HR m φ col a_cellTag a_cellLeft a_cellRight b_cellTag b_partKind b_partNumber) ∧ (rc_YW b_partKind b_partNumber m) ∧ rc_FV col f_result ∧ rc_VR φ f_result g_resKind g_resNumber ∧ (f_counted ≠ 0 → f_liveCells = nI (rc_ct col) ∧ ∀ c, col c = 0 → f_result = rc_cv c ∨ rc_rf col a_cellLeft a_cellRight c ≠ 0)
def rc_EN (r : Int32) (u : SX) (v : SY) : Prop := rc_SA u v ∧ match u, v with
  | (f_kindRet, f_kindTail, f_kindBind, f_kindCon, f_kindPrim, f_kindCall, f_kindMatch, f_kindTest, f_cellBase, f_heapSize, f_depthLimit, f_nodeLimit, f_nodeCount, f_fragmentCount, f_frames, f_at, f_deadCount, f_freeHead, f_fresh, f_liveCells, f_spareTotal, f_counted, f_status, f_made, f_reused, f_peak, f_calls, f_result, f_resultCells, a_nodeKind, a_nodeX, a_nodeParam, a_nodeA, a_nodeB, a_nodeNext, a_nodeElse, a_nodeFree, a_nodeNeed, a_fragments, a_body, a_slots, a_waiting, a_spareHead, a_spareCount, a_cellTag, a_cellLeft, a_cellRight, a_holds, a_link, a_dead, a_cellOfNumber, a_numberOfCell, a_places, a_walk), (g_heapSize, g_depthLimit, g_nodeLimit, g_nodeCount, g_fragCount, g_frames, g_made, g_inRun, g_reused, g_peak, g_calls, g_status, g_resKind, g_resNumber, g_numbered, b_nodeKind, b_nodeX, b_nodeT, b_nodeA, b_nodeB, b_nodeNext, b_nodeElse, b_scratch, b_frag, b_body, b_slotKind, b_slotNumber, b_spares, b_waits, b_cellTag, b_partKind, b_partNumber, b_live, b_order, b_todo) => ∃ (nc hs dl : Nat) (nd : Nat → Nat), (rc_ST nc hs dl nd f_heapSize f_depthLimit a_nodeKind a_nodeX a_nodeParam a_nodeA a_nodeB a_nodeNext a_nodeElse a_nodeFree a_nodeNeed a_body b_nodeA b_nodeB) ∧ (rc_FT nc f_nodeLimit f_nodeCount f_fragmentCount a_fragments) ∧ g_status = r ∧ r ≠ 9 ∧ g_numbered = 0 ∧ f_resultCells = 0 ∧ ((r ≠ 10 ∧ g_resKind = 0) ∨ (r = 10 ∧ rc_E10 f_made f_counted f_liveCells f_result a_slots a_cellTag a_cellLeft a_cellRight g_resKind g_resNumber b_cellTag b_partKind b_partNumber))
def rc_OUT (r : Int32) (n stp : Nat) (u : SX) (v : SY) : Prop := (r = 0 ∧ rc_ER n stp u v) ∨ (r ≠ 0 ∧ rc_EN r u v)
theorem rc_ER_mk {n stp nc hs dl fr m ca fs : Nat} {nd φ col : Nat → Nat} {F : List Nat} {S : Nat → List Nat} {ss : Nat → Int32} (h : (rc_EG n stp nc hs dl fr m ca fs nd φ col F S ss f_heapSize f_depthLimit f_nodeLimit f_nodeCount f_fragmentCount f_frames f_at f_deadCount f_freeHead f_fresh f_liveCells f_spareTotal f_counted f_made f_peak f_calls f_resultCells a_nodeKind a_nodeX a_nodeParam a_nodeA a_nodeB a_nodeNext a_nodeElse a_nodeFree a_nodeNeed a_fragments a_body a_slots a_waiting a_spareHead a_spareCount a_cellTag a_cellLeft a_cellRight a_holds a_link a_dead g_frames g_status g_resKind g_numbered b_nodeA b_nodeB b_slotKind b_slotNumber b_spares b_cellTag b_partKind b_partNumber)) : rc_ER n stp (f_kindRet, f_kindTail, f_kindBind, f_kindCon, f_kindPrim, f_kindCall, f_kindMatch, f_kindTest, f_cellBase, f_heapSize, f_depthLimit, f_nodeLimit, f_nodeCount, f_fragmentCount, f_frames, f_at, f_deadCount, f_freeHead, f_fresh, f_liveCells, f_spareTotal, f_counted, f_status, f_made, f_reused, f_peak, f_calls, f_result, f_resultCells, a_nodeKind, a_nodeX, a_nodeParam, a_nodeA, a_nodeB, a_nodeNext, a_nodeElse, a_nodeFree, a_nodeNeed, a_fragments, a_body, a_slots, a_waiting, a_spareHead, a_spareCount, a_cellTag, a_cellLeft, a_cellRight, a_holds, a_link, a_dead, a_cellOfNumber, a_numberOfCell, a_places, a_walk) (f_heapSize, f_depthLimit, f_nodeLimit, f_nodeCount, f_fragmentCount, g_frames, f_made, f_counted, f_reused, f_peak, f_calls, g_status, g_resKind, g_resNumber, g_numbered, a_nodeKind, a_nodeX, a_nodeParam, b_nodeA, b_nodeB, a_nodeNext, a_nodeElse, b_scratch, a_fragments, a_body, b_slotKind, b_slotNumber, b_spares, a_waiting, b_cellTag, b_partKind, b_partNumber, b_live, b_order, b_todo) := ⟨rc_SA_mk, ⟨nc, hs, dl, fr, m, ca, fs, nd, φ, col, F, S, ss, h⟩⟩
theorem rc_ER_el {n stp : Nat} {P : SX → SY → Prop} {u : SX} {v : SY} (h : rc_ER n stp u v) (H : ∀ (f_kindRet : Int32) (f_kindTail : Int32) (f_kindBind : Int32) (f_kindCon : Int32) (f_kindPrim : Int32) (f_kindCall : Int32) (f_kindMatch : Int32) (f_kindTest : Int32) (f_cellBase : Int64) (f_heapSize : Int32) (f_depthLimit : Int32) (f_nodeLimit : Int32) (f_nodeCount : Int32) (f_fragmentCount : Int32) (f_frames : Int32) (f_at : Int32) (f_deadCount : Int32) (f_freeHead : Int32) (f_fresh : Int32) (f_liveCells : Int32) (f_spareTotal : Int32) (f_counted : Int32) (f_status : Int32) (f_made : Int32) (f_reused : Int32) (f_peak : Int32) (f_calls : Int32) (f_result : Int64) (f_resultCells : Int32) (a_nodeKind : Nat → Int32) (a_nodeX : Nat → Int32) (a_nodeParam : Nat → Int32) (a_nodeA : Nat → Int32) (a_nodeB : Nat → Int32) (a_nodeNext : Nat → Int32) (a_nodeElse : Nat → Int32) (a_nodeFree : Nat → Int32) (a_nodeNeed : Nat → Int32) (a_fragments : Nat → Int32) (a_body : Nat → Int32) (a_slots : Nat → Int64) (a_waiting : Nat → Int32) (a_spareHead : Nat → Int32) (a_spareCount : Nat → Int32) (a_cellTag : Nat → Int32) (a_cellLeft : Nat → Int64) (a_cellRight : Nat → Int64) (a_holds : Nat → Int32) (a_link : Nat → Int32) (a_dead : Nat → Int32) (a_cellOfNumber : Nat → Int32) (a_numberOfCell : Nat → Int32) (a_places : Nat → Int32) (a_walk : Nat → Int32) (g_frames : Int32) (g_status : Int32) (g_resKind : Int32) (g_resNumber : Int32) (g_numbered : Int32) (b_nodeA : Nat → Int32) (b_nodeB : Nat → Int32) (b_scratch : Nat → Int32) (b_slotKind : Nat → Int32) (b_slotNumber : Nat → Int32) (b_spares : Nat → Int32) (b_cellTag : Nat → Int32) (b_partKind : Nat → Int32) (b_partNumber : Nat → Int32) (b_live : Nat → Int32) (b_order : Nat → Int32) (b_todo : Nat → Int32) (nc hs dl fr m ca fs : Nat) (nd φ col : Nat → Nat) (F : List Nat) (S : Nat → List Nat) (ss : Nat → Int32), (rc_EG n stp nc hs dl fr m ca fs nd φ col F S ss f_heapSize f_depthLimit f_nodeLimit f_nodeCount f_fragmentCount f_frames f_at f_deadCount f_freeHead f_fresh f_liveCells f_spareTotal f_counted f_made f_peak f_calls f_resultCells a_nodeKind a_nodeX a_nodeParam a_nodeA a_nodeB a_nodeNext a_nodeElse a_nodeFree a_nodeNeed a_fragments a_body a_slots a_waiting a_spareHead a_spareCount a_cellTag a_cellLeft a_cellRight a_holds a_link a_dead g_frames g_status g_resKind g_numbered b_nodeA b_nodeB b_slotKind b_slotNumber b_spares b_cellTag b_partKind b_partNumber) → P (f_kindRet, f_kindTail, f_kindBind, f_kindCon, f_kindPrim, f_kindCall, f_kindMatch, f_kindTest, f_cellBase, f_heapSize, f_depthLimit, f_nodeLimit, f_nodeCount, f_fragmentCount, f_frames, f_at, f_deadCount, f_freeHead, f_fresh, f_liveCells, f_spareTotal, f_counted, f_status, f_made, f_reused, f_peak, f_calls, f_result, f_resultCells, a_nodeKind, a_nodeX, a_nodeParam, a_nodeA, a_nodeB, a_nodeNext, a_nodeElse, a_nodeFree, a_nodeNeed, a_fragments, a_body, a_slots, a_waiting, a_spareHead, a_spareCount, a_cellTag, a_cellLeft, a_cellRight, a_holds, a_link, a_dead, a_cellOfNumber, a_numberOfCell, a_places, a_walk) (f_heapSize, f_depthLimit, f_nodeLimit, f_nodeCount, f_fragmentCount, g_frames, f_made, f_counted, f_reused, f_peak, f_calls, g_status, g_resKind, g_resNumber, g_numbered, a_nodeKind, a_nodeX, a_nodeParam, b_nodeA, b_nodeB, a_nodeNext, a_nodeElse, b_scratch, a_fragments, a_body, b_slotKind, b_slotNumber, b_spares, a_waiting, b_cellTag, b_partKind, b_partNumber, b_live, b_order, b_todo)) : P u v := by
  obtain ⟨h1, h2⟩ := h
  revert h2
  refine rc_SA_el (P := fun u v => (match u, v with
  | (f_kindRet, f_kindTail, f_kindBind, f_kindCon, f_kindPrim, f_kindCall, f_kindMatch, f_kindTest, f_cellBase, f_heapSize, f_depthLimit, f_nodeLimit, f_nodeCount, f_fragmentCount, f_frames, f_at, f_deadCount, f_freeHead, f_fresh, f_liveCells, f_spareTotal, f_counted, f_status, f_made, f_reused, f_peak, f_calls, f_result, f_resultCells, a_nodeKind, a_nodeX, a_nodeParam, a_nodeA, a_nodeB, a_nodeNext, a_nodeElse, a_nodeFree, a_nodeNeed, a_fragments, a_body, a_slots, a_waiting, a_spareHead, a_spareCount, a_cellTag, a_cellLeft, a_cellRight, a_holds, a_link, a_dead, a_cellOfNumber, a_numberOfCell, a_places, a_walk), (g_heapSize, g_depthLimit, g_nodeLimit, g_nodeCount, g_fragCount, g_frames, g_made, g_inRun, g_reused, g_peak, g_calls, g_status, g_resKind, g_resNumber, g_numbered, b_nodeKind, b_nodeX, b_nodeT, b_nodeA, b_nodeB, b_nodeNext, b_nodeElse, b_scratch, b_frag, b_body, b_slotKind, b_slotNumber, b_spares, b_waits, b_cellTag, b_partKind, b_partNumber, b_live, b_order, b_todo) => ∃ (nc hs dl fr m ca fs : Nat) (nd φ col : Nat → Nat) (F : List Nat) (S : Nat → List Nat) (ss : Nat → Int32), (rc_EG n stp nc hs dl fr m ca fs nd φ col F S ss f_heapSize f_depthLimit f_nodeLimit f_nodeCount f_fragmentCount f_frames f_at f_deadCount f_freeHead f_fresh f_liveCells f_spareTotal f_counted f_made f_peak f_calls f_resultCells a_nodeKind a_nodeX a_nodeParam a_nodeA a_nodeB a_nodeNext a_nodeElse a_nodeFree a_nodeNeed a_fragments a_body a_slots a_waiting a_spareHead a_spareCount a_cellTag a_cellLeft a_cellRight a_holds a_link a_dead g_frames g_status g_resKind g_numbered b_nodeA b_nodeB b_slotKind b_slotNumber b_spares b_cellTag b_partKind b_partNumber)) → P u v) h1 ?_
  intro f_kindRet f_kindTail f_kindBind f_kindCon f_kindPrim f_kindCall f_kindMatch f_kindTest f_cellBase f_heapSize f_depthLimit f_nodeLimit f_nodeCount f_fragmentCount f_frames f_at f_deadCount f_freeHead f_fresh f_liveCells f_spareTotal f_counted f_status f_made f_reused f_peak f_calls f_result f_resultCells a_nodeKind a_nodeX a_nodeParam a_nodeA a_nodeB a_nodeNext a_nodeElse a_nodeFree a_nodeNeed a_fragments a_body a_slots a_waiting a_spareHead a_spareCount a_cellTag a_cellLeft a_cellRight a_holds a_link a_dead a_cellOfNumber a_numberOfCell a_places a_walk g_frames g_status g_resKind g_resNumber g_numbered b_nodeA b_nodeB b_scratch b_slotKind b_slotNumber b_spares b_cellTag b_partKind b_partNumber b_live b_order b_todo h2
  obtain ⟨nc, hs, dl, fr, m, ca, fs, nd, φ, col, F, S, ss, G⟩ := h2
  exact H _ _ _ _ _ _ _ _ _ _ _ _ _ _ _ _ _ _ _ _ _ _ _ _ _ _ _ _ _ _ _ _ _ _ _ _ _ _ _ _ _ _ _ _ _ _ _ _ _ _ _ _ _ _ _ _ _ _ _ _ _ _ _ _ _ _ _ _ _ _ _ nc hs dl fr m ca fs nd φ col F S ss G
end
end
section
section
variable {m m' fs fr nc n j : Nat} {φ φ' col col' : Nat → Nat} {own : Nat → Bool} {ss tg yt pk pn sk sn fe wt nx xx : Nat → Int32} {sl cl cr : Nat → Int64}
theorem rc_SV_asg {top x : Nat} {Z : Int32} {v : Int64} {k q : Int32} (hx : x < 12) (hsub : ∀ s, s < 12 → bt Z s = true → s ≠ x → bt (ss top) s = true) (hv : bt Z x = true → rc_VR φ v k q) (h : rc_SV (rc_ow fr ss) φ sl sk sn) : rc_SV (rc_ow fr (upd ss top Z)) φ (vp_updL sl (12 * top + x) v) (upd sk (12 * top + x) k) (upd sn (12 * top + x) q) := by
  intro i hi ho
  obtain ⟨h1, h2⟩ := rc_ow_t ho
  have hm : i % 12 < 12 := Nat.mod_lt _ (by decide)
  by_cases e : i = 12 * top + x
  · have e1 : i / 12 = top := by omega
    have e2 : i % 12 = x := by omega
    rw [e1, e2, pk_us] at h2
    subst e; rw [pk_uLs, pk_us, pk_us]; exact hv h2
  · rw [pk_uLn e, pk_un e, pk_un e]
    apply h i hi
    unfold rc_ow
    rw [decide_eq_true h1, Bool.true_and]
    by_cases e1 : i / 12 = top
    · rw [e1, pk_us] at h2
      rw [e1]
      exact hsub (i % 12) hm h2 (fun e2 => by omega)
    · rw [pk_un e1] at h2; exact h2
theorem rc_SV_sub {ss' : Nat → Int32} (hsub : ∀ f s, f < fr → s < 12 → bt (ss' f) s = true → bt (ss f) s = true) (h : rc_SV (rc_ow fr ss) φ sl sk sn) : rc_SV (rc_ow fr ss') φ sl sk sn := by
  intro i hi ho
  obtain ⟨h1, h2⟩ := rc_ow_t ho
  apply h i hi
  unfold rc_ow
  rw [decide_eq_true h1, Bool.true_and]
  exact hsub (i / 12) (i % 12) h1 (Nat.mod_lt _ (by decide)) h2
theorem rc_SS_top {top : Nat} (h : rc_SS nc (top + 1) n ss fe wt nx xx) : rc_SS nc (top + 1) j (upd ss top (fe j)) fe wt nx xx := by
  refine ⟨pk_us, fun f hf => ?_⟩
  rw [pk_un (by omega)]
  exact h.2 f hf
theorem rc_HR_mono (h : ∀ c, col' c = 0 → col c = 0) (H : rc_HR m φ col tg cl cr yt pk pn) : rc_HR m φ col' tg cl cr yt pk pn :=
  ⟨fun c hc => H.1 c (h c hc), fun c d hc hd => H.2 c d (h c hc) (h d hd)⟩
theorem rc_ct_mono (h : ∀ c, col' c = 0 → col c = 0) : rc_ct col' ≤ rc_ct col := by
  unfold rc_ct
  apply rc_sm_mono
  intro c _
  show (if col' c = 0 then 1 else 0) ≤ (if col c = 0 then 1 else 0)
  by_cases e : col' c = 0
  · rw [if_pos e, if_pos (h c e)]; omega
  · rw [if_neg e]; omega
end
section
variable {f_kindRet f_kindTail f_kindBind f_kindCon f_kindPrim f_kindCall f_kindMatch f_kindTest f_heapSize f_depthLimit f_nodeLimit f_nodeCount f_fragmentCount f_frames f_at f_deadCount f_freeHead f_fresh f_liveCells f_spareTotal f_counted f_status f_made f_reused f_peak f_calls f_resultCells : Int32} {f_cellBase f_result : Int64} {a_nodeKind a_nodeX a_nodeParam a_nodeA a_nodeB a_nodeNext a_nodeElse a_nodeFree a_nodeNeed a_fragments a_body a_waiting a_spareHead a_spareCount a_cellTag a_holds a_link a_dead a_cellOfNumber a_numberOfCell a_places a_walk : Nat → Int32} {a_slots a_cellLeft a_cellRight : Nat → Int64}
variable {g_frames g_status g_resKind g_resNumber g_numbered : Int32} {b_nodeA b_nodeB b_scratch b_slotKind b_slotNumber b_spares b_cellTag b_partKind b_partNumber b_live b_order b_todo : Nat → Int32}
variable {n stp nc hs dl fr m ca fs : Nat} {nd φ col : Nat → Nat} {F : List Nat} {S : Nat → List Nat} {ss : Nat → Int32}
/-- BIND -/
theorem rs_bind (G : (rc_EG n stp nc hs dl fr m ca fs nd φ col F S ss f_heapSize f_depthLimit f_nodeLimit f_nodeCount f_fragmentCount f_frames f_at f_deadCount f_freeHead f_fresh f_liveCells f_spareTotal f_counted f_made f_peak f_calls f_resultCells a_nodeKind a_nodeX a_nodeParam a_nodeA a_nodeB a_nodeNext a_nodeElse a_nodeFree a_nodeNeed a_fragments a_body a_slots a_waiting a_spareHead a_spareCount a_cellTag a_cellLeft a_cellRight a_holds a_link a_dead g_frames g_status g_resKind g_numbered b_nodeA b_nodeB b_slotKind b_slotNumber b_spares b_cellTag b_partKind b_partNumber)) (hk : a_nodeKind n = 2) : ∃ (n' : Nat) (u' : SX) (v' : SY), rc_ER n' (stp + 1) u' v' ∧ (∀ post : Int32 → SX → Prop, post 0 u' → wpX_stepBind post (f_kindRet, f_kindTail, f_kindBind, f_kindCon, f_kindPrim, f_kindCall, f_kindMatch, f_kindTest, f_cellBase, f_heapSize, f_depthLimit, f_nodeLimit, f_nodeCount, f_fragmentCount, f_frames, f_at, f_deadCount, f_freeHead, f_fresh, f_liveCells, f_spareTotal, f_counted, f_status, f_made, f_reused, f_peak, f_calls, f_result, f_resultCells, a_nodeKind, a_nodeX, a_nodeParam, a_nodeA, a_nodeB, a_nodeNext, a_nodeElse, a_nodeFree, a_nodeNeed, a_fragments, a_body, a_slots, a_waiting, a_spareHead, a_spareCount, a_cellTag, a_cellLeft, a_cellRight, a_holds, a_link, a_dead, a_cellOfNumber, a_numberOfCell, a_places, a_walk)) ∧ (∀ post : Int32 → SY → Prop, post (nI n') v' → wpY_step post (f_heapSize, f_depthLimit, f_nodeLimit, f_nodeCount, f_fragmentCount, g_frames, f_made, f_counted, f_reused, f_peak, f_calls, g_status, g_resKind, g_resNumber, g_numbered, a_nodeKind, a_nodeX, a_nodeParam, b_nodeA, b_nodeB, a_nodeNext, a_nodeElse, b_scratch, a_fragments, a_body, b_slotKind, b_slotNumber, b_spares, a_waiting, b_cellTag, b_partKind, b_partNumber, b_live, b_order, b_todo) (nI n)) := by
  obtain ⟨hST, hFT, hNU, hSS, hWT, hSP, hXI, hSV, hHR, hYW, hPL, hRN, hME⟩ := G
  obtain ⟨f1, f2, hfr, hgf, hat, hn, hmade, hm, hcalls, hca, hfs, hst, hrk, hnum, hrc⟩ := hNU
  obtain ⟨top, rfl⟩ : ∃ t, fr = t + 1 := ⟨fr - 1, by omega⟩
  have hnc := hST.1
  have hdl := hST.2.2.2.2.2.2.2.1
  obtain ⟨x, j, hx, hxx, hya, hyb, hoa, hob, -, hba, hbb, hj, hnx, hsub, -⟩ := rc_nd2 (hST.2.1 n hn) (Or.inl hk)
  have htop : top < 16 := by omega
  have hsst : ss top = a_nodeFree n := hSS.1
  have en : (nI n).toNatClampNeg = n := nI_clamp (by omega)
  have hinn : vp_in (nI n) 48 := vp_in_nI (by omega) (by decide)
  have hfv := rc_val_FV (o := a_nodeA n) (Nat.lt_succ_self top) (by omega) hoa (fun s hs e => by rw [hsst]; exact hba s hs e) hXI.1
  have hvr := rc_val_VR (o := a_nodeA n) (Nat.lt_succ_self top) (by omega) hoa (fun s hs e => by rw [hsst]; exact hba s hs e) hSV
  obtain ⟨col', F', ho', li', de', fh', lc', I', p1, p2, p3, p4, W⟩ := rx_asg (f_kindRet := f_kindRet) (f_kindTail := f_kindTail) (f_kindBind := f_kindBind) (f_kindCon := f_kindCon) (f_kindPrim := f_kindPrim) (f_kindCall := f_kindCall) (f_kindMatch := f_kindMatch) (f_kindTest := f_kindTest) (f_cellBase := f_cellBase) (f_heapSize := f_heapSize) (f_depthLimit := f_depthLimit) (f_nodeLimit := f_nodeLimit) (f_nodeCount := f_nodeCount) (f_fragmentCount := f_fragmentCount) (f_frames := f_frames) (f_at := f_at) (f_deadCount := f_deadCount) (f_freeHead := f_freeHead) (f_fresh := f_fresh) (f_liveCells := f_liveCells) (f_spareTotal := f_spareTotal) (f_counted := f_counted) (f_status := f_status) (f_made := f_made) (f_reused := f_reused) (f_peak := f_peak) (f_calls := f_calls) (f_result := f_result) (f_resultCells := f_resultCells) (a_nodeKind := a_nodeKind) (a_nodeX := a_nodeX) (a_nodeParam := a_nodeParam) (a_nodeA := a_nodeA) (a_nodeB := a_nodeB) (a_nodeNext := a_nodeNext) (a_nodeElse := a_nodeElse) (a_nodeFree := a_nodeFree) (a_nodeNeed := a_nodeNeed) (a_fragments := a_fragments) (a_body := a_body) (a_slots := a_slots) (a_waiting := a_waiting) (a_spareHead := a_spareHead) (a_spareCount := a_spareCount) (a_cellTag := a_cellTag) (a_cellLeft := a_cellLeft) (a_cellRight := a_cellRight) (a_holds := a_holds) (a_link := a_link) (a_dead := a_dead) (a_cellOfNumber := a_cellOfNumber) (a_numberOfCell := a_numberOfCell) (a_places := a_places) (a_walk := a_walk) (E := fun _ => 0) (n := n) (j := j) (x := x) (top := top) (v := rc_val top a_slots (a_nodeA n)) (by omega) (by omega) hx htop (Nat.lt_succ_self top) hat hnx hxx hfr hsub hsst hXI hfv (fun c => by have := rc_is_le (rc_val top a_slots (a_nodeA n)) c; omega)
  refine ⟨j, (f_kindRet, f_kindTail, f_kindBind, f_kindCon, f_kindPrim, f_kindCall, f_kindMatch, f_kindTest, f_cellBase, f_heapSize, f_depthLimit, f_nodeLimit, f_nodeCount, f_fragmentCount, f_frames, nI j, 0, fh', f_fresh, lc', f_spareTotal, f_counted, f_status, f_made, f_reused, f_peak, f_calls, f_result, f_resultCells, a_nodeKind, a_nodeX, a_nodeParam, a_nodeA, a_nodeB, a_nodeNext, a_nodeElse, a_nodeFree, a_nodeNeed, a_fragments, a_body, vp_updL a_slots (12 * top + x) (rc_val top a_slots (a_nodeA n)), a_waiting, a_spareHead, a_spareCount, a_cellTag, a_cellLeft, a_cellRight, ho', li', de', a_cellOfNumber, a_numberOfCell, a_places, a_walk), (f_heapSize, f_depthLimit, f_nodeLimit, f_nodeCount, f_fragmentCount, g_frames, f_made, f_counted, f_reused, f_peak, f_calls, g_status, g_resKind, g_resNumber, g_numbered, a_nodeKind, a_nodeX, a_nodeParam, b_nodeA, b_nodeB, a_nodeNext, a_nodeElse, b_scratch, a_fragments, a_body, upd b_slotKind (12 * top + x) (rc_kat top b_slotKind (a_nodeA n)), upd b_slotNumber (12 * top + x) (rc_nat top b_slotNumber (a_nodeA n)), b_spares, a_waiting, b_cellTag, b_partKind, b_partNumber, b_live, b_order, b_todo), rc_ER_mk ⟨hST, hFT, ⟨f1, f2, hfr, hgf, rfl, by omega, hmade, hm, hcalls, hca, hfs, hst, hrk, hnum, hrc⟩, rc_SS_top hSS, hWT, hSP, I', ?_, rc_HR_mono p1 hHR, hYW, fun h => ?_, fun h => ?_, ?_⟩, fun post hp => ?_, fun post hp => ?_⟩
  · exact rc_SV_asg hx (fun s hs hb hne => by rw [hsst]; exact hsub s hs hb hne) (fun _ => hvr) hSV
  · obtain ⟨e1, e2⟩ := p4 h
    subst e1 e2
    exact hPL h
  · have := hRN h
    have := rc_ct_mono p1
    omega
  · unfold rc_ME at hME ⊢; omega
  · subst hat
    refine ⟨hinn, rx_val (top := top) (by rw [en]; exact hoa) hfr htop _ ?_⟩
    rw [en]
    exact W _ hp
  · refine ⟨hinn, nm_r (e' := 2) (by rw [en]; exact hk) (br_f (by decide) (br_f (by decide) ⟨hinn, nm_r (e' := nI x) (by rw [en]; exact hxx) ⟨hinn, nm_e ⟨hinn, ?_⟩⟩⟩))⟩
    rw [en, ← hya, ← hyb]
    refine ry_kat (top := top) hoa hgf htop _ ⟨hinn, ry_nat (top := top) hoa hgf htop _ ⟨hinn, ry_kat (top := top) hob hgf htop _ ⟨hinn, ry_nat (top := top) hob hgf htop _ ?_⟩⟩⟩
    refine br_f (by decide) (br_f (by decide) (br_f (by decide) (br_t rfl ?_)))
    refine ry_put (top := top) hx hgf htop _ ⟨hinn, ?_⟩
    rw [hnx]
    exact hp
end
end
section
def rc_pr (op p q : Int32) : Int32 := if op = 0 then p + q else if op = 1 then p - q else if op = 2 then p * q else if op = 3 then (if q ≤ p then 0 else 1) else if p = q then 1 else 0
section
variable {f_kindRet f_kindTail f_kindBind f_kindCon f_kindPrim f_kindCall f_kindMatch f_kindTest f_heapSize f_depthLimit f_nodeLimit f_nodeCount f_fragmentCount f_frames f_at f_deadCount f_freeHead f_fresh f_liveCells f_spareTotal f_counted f_status f_made f_reused f_peak f_calls f_resultCells : Int32} {f_cellBase f_result : Int64} {a_nodeKind a_nodeX a_nodeParam a_nodeA a_nodeB a_nodeNext a_nodeElse a_nodeFree a_nodeNeed a_fragments a_body a_waiting a_spareHead a_spareCount a_cellTag a_holds a_link a_dead a_cellOfNumber a_numberOfCell a_places a_walk : Nat → Int32} {a_slots a_cellLeft a_cellRight : Nat → Int64}
theorem rx_compute {op p q : Int32} (post : Int32 → Prop) (hp : post (rc_pr op p q)) : wpX_compute post (f_kindRet, f_kindTail, f_kindBind, f_kindCon, f_kindPrim, f_kindCall, f_kindMatch, f_kindTest, f_cellBase, f_heapSize, f_depthLimit, f_nodeLimit, f_nodeCount, f_fragmentCount, f_frames, f_at, f_deadCount, f_freeHead, f_fresh, f_liveCells, f_spareTotal, f_counted, f_status, f_made, f_reused, f_peak, f_calls, f_result, f_resultCells, a_nodeKind, a_nodeX, a_nodeParam, a_nodeA, a_nodeB, a_nodeNext, a_nodeElse, a_nodeFree, a_nodeNeed, a_fragments, a_body, a_slots, a_waiting, a_spareHead, a_spareCount, a_cellTag, a_cellLeft, a_cellRight, a_holds, a_link, a_dead, a_cellOfNumber, a_numberOfCell, a_places, a_walk) op p q := by
  unfold rc_pr at hp
  by_cases h0 : op = 0
  · rw [if_pos h0] at hp; exact br_t h0 hp
  · rw [if_neg h0] at hp
    refine br_f h0 ?_
    by_cases h1 : op = 1
    · rw [if_pos h1] at hp; exact br_t h1 hp
    · rw [if_neg h1] at hp
      refine br_f h1 ?_
      by_cases h2 : op = 2
      · rw [if_pos h2] at hp; exact br_t h2 hp
      · rw [if_neg h2] at hp
        refine br_f h2 ?_
        by_cases h3 : op = 3
        · rw [if_pos h3] at hp
          refine br_t h3 ?_
          by_cases h4 : q ≤ p
          · rw [if_pos h4] at hp; exact br_t h4 hp
          · rw [if_neg h4] at hp; exact br_f h4 hp
        · rw [if_neg h3] at hp
          refine br_f h3 ?_
          by_cases h4 : p = q
          · rw [if_pos h4] at hp; exact br_t h4 hp
          · rw [if_neg h4] at hp; exact br_f h4 hp
theorem rx_isCell_i {z : Int32} (post : Int32 → Prop) (hp : post 0) : wpX_isCell post (f_kindRet, f_kindTail, f_kindBind, f_kindCon, f_kindPrim, f_kindCall, f_kindMatch, f_kindTest, f_cellBase, f_heapSize, f_depthLimit, f_nodeLimit, f_nodeCount, f_fragmentCount, f_frames, f_at, f_deadCount, f_freeHead, f_fresh, f_liveCells, f_spareTotal, f_counted, f_status, f_made, f_reused, f_peak, f_calls, f_result, f_resultCells, a_nodeKind, a_nodeX, a_nodeParam, a_nodeA, a_nodeB, a_nodeNext, a_nodeElse, a_nodeFree, a_nodeNeed, a_fragments, a_body, a_slots, a_waiting, a_spareHead, a_spareCount, a_cellTag, a_cellLeft, a_cellRight, a_holds, a_link, a_dead, a_cellOfNumber, a_numberOfCell, a_places, a_walk) z.toInt64 := br_t (rc_i_lt z) hp
theorem rx_isCell_c {c : Nat} (hc : c < 200) (post : Int32 → Prop) (hp : post 1) : wpX_isCell post (f_kindRet, f_kindTail, f_kindBind, f_kindCon, f_kindPrim, f_kindCall, f_kindMatch, f_kindTest, f_cellBase, f_heapSize, f_depthLimit, f_nodeLimit, f_nodeCount, f_fragmentCount, f_frames, f_at, f_deadCount, f_freeHead, f_fresh, f_liveCells, f_spareTotal, f_counted, f_status, f_made, f_reused, f_peak, f_calls, f_result, f_resultCells, a_nodeKind, a_nodeX, a_nodeParam, a_nodeA, a_nodeB, a_nodeNext, a_nodeElse, a_nodeFree, a_nodeNeed, a_fragments, a_body, a_slots, a_waiting, a_spareHead, a_spareCount, a_cellTag, a_cellLeft, a_cellRight, a_holds, a_link, a_dead, a_cellOfNumber, a_numberOfCell, a_places, a_walk) (rc_cv c) := br_f (rc_cv_nlt (by omega)) hp
end
section
variable {g_heapSize g_depthLimit g_nodeLimit g_nodeCount g_fragCount g_frames g_made g_inRun g_reused g_peak g_calls g_status g_resKind g_resNumber g_numbered : Int32} {b_nodeKind b_nodeX b_nodeT b_nodeA b_nodeB b_nodeNext b_nodeElse b_scratch b_frag b_body b_slotKind b_slotNumber b_spares b_waits b_cellTag b_partKind b_partNumber b_live b_order b_todo : Nat → Int32}
theorem ry_prim {x1 x3 op p q : Int32} (hop : op = 0 ∨ op = 1 ∨ op = 2 ∨ op = 3 ∨ op = 4) (post : Int32 → SY → Prop) (K : wY_step_551 post x1 x3 (rc_pr op p q) g_heapSize g_depthLimit g_nodeLimit g_nodeCount g_fragCount g_frames g_made g_inRun g_reused g_peak g_calls g_status g_resKind g_resNumber g_numbered b_nodeKind b_nodeX b_nodeT b_nodeA b_nodeB b_nodeNext b_nodeElse b_scratch b_frag b_body b_slotKind b_slotNumber b_spares b_waits b_cellTag b_partKind b_partNumber b_live b_order b_todo) : (op = 0 → ∀ x9, x9 = p + q → wY_step_485 post x1 x3 op p q x9 g_heapSize g_depthLimit g_nodeLimit g_nodeCount g_fragCount g_frames g_made g_inRun g_reused g_peak g_calls g_status g_resKind g_resNumber g_numbered b_nodeKind b_nodeX b_nodeT b_nodeA b_nodeB b_nodeNext b_nodeElse b_scratch b_frag b_body b_slotKind b_slotNumber b_spares b_waits b_cellTag b_partKind b_partNumber b_live b_order b_todo) ∧ (¬ op = 0 → wY_step_485 post x1 x3 op p q 0 g_heapSize g_depthLimit g_nodeLimit g_nodeCount g_fragCount g_frames g_made g_inRun g_reused g_peak g_calls g_status g_resKind g_resNumber g_numbered b_nodeKind b_nodeX b_nodeT b_nodeA b_nodeB b_nodeNext b_nodeElse b_scratch b_frag b_body b_slotKind b_slotNumber b_spares b_waits b_cellTag b_partKind b_partNumber b_live b_order b_todo) := by
  rcases hop with rfl | rfl | rfl | rfl | rfl
  · refine br_t rfl (nm_e ?_)
    exact br_f (by decide) (br_f (by decide) (br_f (by decide) (br_f (by decide) K)))
  · refine br_f (by decide) ?_
    exact br_t rfl (nm_e (br_f (by decide) (br_f (by decide) (br_f (by decide) K))))
  · refine br_f (by decide) ?_
    exact br_f (by decide) (br_t rfl (nm_e (br_f (by decide) (br_f (by decide) K))))
  · refine br_f (by decide) ?_
    refine br_f (by decide) (br_f (by decide) (br_t rfl ?_))
    have e : rc_pr 3 p q = if q ≤ p then 0 else 1 := rfl
    rw [e] at K
    by_cases h4 : q ≤ p
    · rw [if_pos h4] at K; exact br_t h4 (br_f (by decide) K)
    · rw [if_neg h4] at K; exact br_f h4 (br_f (by decide) K)
  · refine br_f (by decide) ?_
    refine br_f (by decide) (br_f (by decide) (br_f (by decide) (br_t rfl ?_)))
    have e : rc_pr 4 p q = if p = q then 1 else 0 := rfl
    rw [e] at K
    by_cases h4 : p = q
    · rw [if_pos h4] at K; exact br_t h4 K
    · rw [if_neg h4] at K; exact br_f h4 K
end
section
variable {f_kindRet f_kindTail f_kindBind f_kindCon f_kindPrim f_kindCall f_kindMatch f_kindTest f_heapSize f_depthLimit f_nodeLimit f_nodeCount f_fragmentCount f_frames f_at f_deadCount f_freeHead f_fresh f_liveCells f_spareTotal f_counted f_status f_made f_reused f_peak f_calls f_resultCells : Int32} {f_cellBase f_result : Int64} {a_nodeKind a_nodeX a_nodeParam a_nodeA a_nodeB a_nodeNext a_nodeElse a_nodeFree a_nodeNeed a_fragments a_body a_waiting a_spareHead a_spareCount a_cellTag a_holds a_link a_dead a_cellOfNumber a_numberOfCell a_places a_walk : Nat → Int32} {a_slots a_cellLeft a_cellRight : Nat → Int64}
variable {g_frames g_status g_resKind g_resNumber g_numbered : Int32} {b_nodeA b_nodeB b_scratch b_slotKind b_slotNumber b_spares b_cellTag b_partKind b_partNumber b_live b_order b_todo : Nat → Int32}
variable {n stp nc hs dl fr m ca fs : Nat} {nd φ col : Nat → Nat} {F : List Nat} {S : Nat → List Nat} {ss : Nat → Int32}
/-- an ending that changes nothing but the status -/
theorem rc_EN_mk {r : Int32} (hr0 : r ≠ 9) (hr : r ≠ 10) (G : (rc_EG n stp nc hs dl fr m ca fs nd φ col F S ss f_heapSize f_depthLimit f_nodeLimit f_nodeCount f_fragmentCount f_frames f_at f_deadCount f_freeHead f_fresh f_liveCells f_spareTotal f_counted f_made f_peak f_calls f_resultCells a_nodeKind a_nodeX a_nodeParam a_nodeA a_nodeB a_nodeNext a_nodeElse a_nodeFree a_nodeNeed a_fragments a_body a_slots a_waiting a_spareHead a_spareCount a_cellTag a_cellLeft a_cellRight a_holds a_link a_dead g_frames g_status g_resKind g_numbered b_nodeA b_nodeB b_slotKind b_slotNumber b_spares b_cellTag b_partKind b_partNumber)) : rc_EN r (f_kindRet, f_kindTail, f_kindBind, f_kindCon, f_kindPrim, f_kindCall, f_kindMatch, f_kindTest, f_cellBase, f_heapSize, f_depthLimit, f_nodeLimit, f_nodeCount, f_fragmentCount, f_frames, f_at, f_deadCount, f_freeHead, f_fresh, f_liveCells, f_spareTotal, f_counted, f_status, f_made, f_reused, f_peak, f_calls, f_result, f_resultCells, a_nodeKind, a_nodeX, a_nodeParam, a_nodeA, a_nodeB, a_nodeNext, a_nodeElse, a_nodeFree, a_nodeNeed, a_fragments, a_body, a_slots, a_waiting, a_spareHead, a_spareCount, a_cellTag, a_cellLeft, a_cellRight, a_holds, a_link, a_dead, a_cellOfNumber, a_numberOfCell, a_places, a_walk) (f_heapSize, f_depthLimit, f_nodeLimit, f_nodeCount, f_fragmentCount, g_frames, f_made, f_counted, f_reused, f_peak, f_calls, r, g_resKind, g_resNumber, g_numbered, a_nodeKind, a_nodeX, a_nodeParam, b_nodeA, b_nodeB, a_nodeNext, a_nodeElse, b_scratch, a_fragments, a_body, b_slotKind, b_slotNumber, b_spares, a_waiting, b_cellTag, b_partKind, b_partNumber, b_live, b_order, b_todo) := by
  obtain ⟨hST, hFT, hNU, -⟩ := G
  obtain ⟨-, -, -, -, -, -, -, -, -, -, -, -, hrk, hnum, hrc⟩ := hNU
  exact ⟨rc_SA_mk, ⟨nc, hs, dl, nd, hST, hFT, rfl, hr0, hnum, hrc, Or.inl ⟨hr, hrk⟩⟩⟩
/-- PRIM -/
theorem rs_prim (G : (rc_EG n stp nc hs dl fr m ca fs nd φ col F S ss f_heapSize f_depthLimit f_nodeLimit f_nodeCount f_fragmentCount f_frames f_at f_deadCount f_freeHead f_fresh f_liveCells f_spareTotal f_counted f_made f_peak f_calls f_resultCells a_nodeKind a_nodeX a_nodeParam a_nodeA a_nodeB a_nodeNext a_nodeElse a_nodeFree a_nodeNeed a_fragments a_body a_slots a_waiting a_spareHead a_spareCount a_cellTag a_cellLeft a_cellRight a_holds a_link a_dead g_frames g_status g_resKind g_numbered b_nodeA b_nodeB b_slotKind b_slotNumber b_spares b_cellTag b_partKind b_partNumber)) (hk : a_nodeKind n = 4) : ∃ (r : Int32) (n' : Nat) (u' : SX) (v' : SY), rc_OUT r n' (stp + 1) u' v' ∧ (∀ post : Int32 → SX → Prop, post r u' → wpX_stepPrim post (f_kindRet, f_kindTail, f_kindBind, f_kindCon, f_kindPrim, f_kindCall, f_kindMatch, f_kindTest, f_cellBase, f_heapSize, f_depthLimit, f_nodeLimit, f_nodeCount, f_fragmentCount, f_frames, f_at, f_deadCount, f_freeHead, f_fresh, f_liveCells, f_spareTotal, f_counted, f_status, f_made, f_reused, f_peak, f_calls, f_result, f_resultCells, a_nodeKind, a_nodeX, a_nodeParam, a_nodeA, a_nodeB, a_nodeNext, a_nodeElse, a_nodeFree, a_nodeNeed, a_fragments, a_body, a_slots, a_waiting, a_spareHead, a_spareCount, a_cellTag, a_cellLeft, a_cellRight, a_holds, a_link, a_dead, a_cellOfNumber, a_numberOfCell, a_places, a_walk)) ∧ (∀ post : Int32 → SY → Prop, post (nI n') v' → wpY_step post (f_heapSize, f_depthLimit, f_nodeLimit, f_nodeCount, f_fragmentCount, g_frames, f_made, f_counted, f_reused, f_peak, f_calls, g_status, g_resKind, g_resNumber, g_numbered, a_nodeKind, a_nodeX, a_nodeParam, b_nodeA, b_nodeB, a_nodeNext, a_nodeElse, b_scratch, a_fragments, a_body, b_slotKind, b_slotNumber, b_spares, a_waiting, b_cellTag, b_partKind, b_partNumber, b_live, b_order, b_todo) (nI n)) := by
  have G0 := G
  obtain ⟨hST, hFT, hNU, hSS, hWT, hSP, hXI, hSV, hHR, hYW, hPL, hRN, hME⟩ := G
  obtain ⟨f1, f2, hfr, hgf, hat, hn, hmade, hm, hcalls, hca, hfs, hst, hrk, hnum, hrc⟩ := hNU
  obtain ⟨top, rfl⟩ : ∃ t, fr = t + 1 := ⟨fr - 1, by omega⟩
  have hnc := hST.1
  have hdl := hST.2.2.2.2.2.2.2.1
  obtain ⟨x, j, hx, hxx, hya, hyb, hoa, hob, hpm, hba, hbb, hj, hnx, hsub, -⟩ := rc_nd2 (hST.2.1 n hn) (Or.inr (Or.inr (Or.inl hk)))
  have hop := hpm.2 hk
  have htop : top < 16 := by omega
  have hsst : ss top = a_nodeFree n := hSS.1
  have en : (nI n).toNatClampNeg = n := nI_clamp (by omega)
  have hinn : vp_in (nI n) 48 := vp_in_nI (by omega) (by decide)
  have hfa := rc_val_FV (o := a_nodeA n) (Nat.lt_succ_self top) (by omega) hoa (fun s hs e => by rw [hsst]; exact hba s hs e) hXI.1
  have hva := rc_val_VR (o := a_nodeA n) (Nat.lt_succ_self top) (by omega) hoa (fun s hs e => by rw [hsst]; exact hba s hs e) hSV
  have hfb := rc_val_FV (o := a_nodeB n) (Nat.lt_succ_self top) (by omega) hob (fun s hs e => by rw [hsst]; exact hbb s hs e) hXI.1
  have hvb := rc_val_VR (o := a_nodeB n) (Nat.lt_succ_self top) (by omega) hob (fun s hs e => by rw [hsst]; exact hbb s hs e) hSV
  have YP : ∀ (post : Int32 → SY → Prop), ((rc_kat top b_slotKind (a_nodeA n) = 2 → post (nI n) (f_heapSize, f_depthLimit, f_nodeLimit, f_nodeCount, f_fragmentCount, g_frames, f_made, f_counted, f_reused, f_peak, f_calls, 11, g_resKind, g_resNumber, g_numbered, a_nodeKind, a_nodeX, a_nodeParam, b_nodeA, b_nodeB, a_nodeNext, a_nodeElse, b_scratch, a_fragments, a_body, b_slotKind, b_slotNumber, b_spares, a_waiting, b_cellTag, b_partKind, b_partNumber, b_live, b_order, b_todo)) ∧ (¬ rc_kat top b_slotKind (a_nodeA n) = 2 → ((rc_kat top b_slotKind (a_nodeB n) = 2 → post (nI n) (f_heapSize, f_depthLimit, f_nodeLimit, f_nodeCount, f_fragmentCount, g_frames, f_made, f_counted, f_reused, f_peak, f_calls, 11, g_resKind, g_resNumber, g_numbered, a_nodeKind, a_nodeX, a_nodeParam, b_nodeA, b_nodeB, a_nodeNext, a_nodeElse, b_scratch, a_fragments, a_body, b_slotKind, b_slotNumber, b_spares, a_waiting, b_cellTag, b_partKind, b_partNumber, b_live, b_order, b_todo)) ∧ (¬ rc_kat top b_slotKind (a_nodeB n) = 2 → wY_step_551 post (nI n) (nI x) (rc_pr (a_nodeParam n) (rc_nat top b_slotNumber (a_nodeA n)) (rc_nat top b_slotNumber (a_nodeB n))) f_heapSize f_depthLimit f_nodeLimit f_nodeCount f_fragmentCount g_frames f_made f_counted f_reused f_peak f_calls g_status g_resKind g_resNumber g_numbered a_nodeKind a_nodeX a_nodeParam b_nodeA b_nodeB a_nodeNext a_nodeElse b_scratch a_fragments a_body b_slotKind b_slotNumber b_spares a_waiting b_cellTag b_partKind b_partNumber b_live b_order b_todo)))) → wpY_step post (f_heapSize, f_depthLimit, f_nodeLimit, f_nodeCount, f_fragmentCount, g_frames, f_made, f_counted, f_reused, f_peak, f_calls, g_status, g_resKind, g_resNumber, g_numbered, a_nodeKind, a_nodeX, a_nodeParam, b_nodeA, b_nodeB, a_nodeNext, a_nodeElse, b_scratch, a_fragments, a_body, b_slotKind, b_slotNumber, b_spares, a_waiting, b_cellTag, b_partKind, b_partNumber, b_live, b_order, b_todo) (nI n) := by
    intro post hp
    refine ⟨hinn, nm_r (e' := 4) (by rw [en]; exact hk) (br_f (by decide) (br_f (by decide) ⟨hinn, nm_r (e' := nI x) (by rw [en]; exact hxx) ⟨hinn, nm_r (e' := a_nodeParam n) (by rw [en]) ⟨hinn, ?_⟩⟩⟩))⟩
    rw [en, ← hya, ← hyb]
    refine ry_kat (top := top) hoa hgf htop _ ⟨hinn, ry_nat (top := top) hoa hgf htop _ ⟨hinn, ry_kat (top := top) hob hgf htop _ ⟨hinn, ry_nat (top := top) hob hgf htop _ ?_⟩⟩⟩
    refine br_f (by decide) (br_f (by decide) (br_f (by decide) (br_f (by decide) (br_f (by decide) ?_))))
    exact ⟨hp.1, fun h => ⟨(hp.2 h).1, fun h' => ry_prim hop post ((hp.2 h).2 h')⟩⟩
  have XP : ∀ (A : Int64 → Int64 → Prop) (post : Int32 → SX → Prop), True := fun _ _ => trivial
  rcases hva with ⟨ka, ea⟩ | ⟨ka, c, hc, ea, na⟩
  · rcases hvb with ⟨kb, eb⟩ | ⟨kb, c, hc, eb, nb⟩
    · obtain ⟨col', F', ho', li', de', fh', lc', I', p1, p2, p3, p4, W⟩ := rx_asg (f_kindRet := f_kindRet) (f_kindTail := f_kindTail) (f_kindBind := f_kindBind) (f_kindCon := f_kindCon) (f_kindPrim := f_kindPrim) (f_kindCall := f_kindCall) (f_kindMatch := f_kindMatch) (f_kindTest := f_kindTest) (f_cellBase := f_cellBase) (f_heapSize := f_heapSize) (f_depthLimit := f_depthLimit) (f_nodeLimit := f_nodeLimit) (f_nodeCount := f_nodeCount) (f_fragmentCount := f_fragmentCount) (f_frames := f_frames) (f_at := f_at) (f_deadCount := f_deadCount) (f_freeHead := f_freeHead) (f_fresh := f_fresh) (f_liveCells := f_liveCells) (f_spareTotal := f_spareTotal) (f_counted := f_counted) (f_status := f_status) (f_made := f_made) (f_reused := f_reused) (f_peak := f_peak) (f_calls := f_calls) (f_result := f_result) (f_resultCells := f_resultCells) (a_nodeKind := a_nodeKind) (a_nodeX := a_nodeX) (a_nodeParam := a_nodeParam) (a_nodeA := a_nodeA) (a_nodeB := a_nodeB) (a_nodeNext := a_nodeNext) (a_nodeElse := a_nodeElse) (a_nodeFree := a_nodeFree) (a_nodeNeed := a_nodeNeed) (a_fragments := a_fragments) (a_body := a_body) (a_slots := a_slots) (a_waiting := a_waiting) (a_spareHead := a_spareHead) (a_spareCount := a_spareCount) (a_cellTag := a_cellTag) (a_cellLeft := a_cellLeft) (a_cellRight := a_cellRight) (a_holds := a_holds) (a_link := a_link) (a_dead := a_dead) (a_cellOfNumber := a_cellOfNumber) (a_numberOfCell := a_numberOfCell) (a_places := a_places) (a_walk := a_walk) (E := fun _ => 0) (n := n) (j := j) (x := x) (top := top) (v := (rc_pr (a_nodeParam n) (rc_nat top b_slotNumber (a_nodeA n)) (rc_nat top b_slotNumber (a_nodeB n))).toInt64) (by omega) (by omega) hx htop (Nat.lt_succ_self top) hat hnx hxx hfr hsub hsst hXI (Or.inl ⟨_, rfl⟩) (fun c => by have := rc_is_le (rc_pr (a_nodeParam n) (rc_nat top b_slotNumber (a_nodeA n)) (rc_nat top b_slotNumber (a_nodeB n))).toInt64 c; omega)
      refine ⟨0, j, (f_kindRet, f_kindTail, f_kindBind, f_kindCon, f_kindPrim, f_kindCall, f_kindMatch, f_kindTest, f_cellBase, f_heapSize, f_depthLimit, f_nodeLimit, f_nodeCount, f_fragmentCount, f_frames, nI j, 0, fh', f_fresh, lc', f_spareTotal, f_counted, f_status, f_made, f_reused, f_peak, f_calls, f_result, f_resultCells, a_nodeKind, a_nodeX, a_nodeParam, a_nodeA, a_nodeB, a_nodeNext, a_nodeElse, a_nodeFree, a_nodeNeed, a_fragments, a_body, vp_updL a_slots (12 * top + x) (rc_pr (a_nodeParam n) (rc_nat top b_slotNumber (a_nodeA n)) (rc_nat top b_slotNumber (a_nodeB n))).toInt64, a_waiting, a_spareHead, a_spareCount, a_cellTag, a_cellLeft, a_cellRight, ho', li', de', a_cellOfNumber, a_numberOfCell, a_places, a_walk), (f_heapSize, f_depthLimit, f_nodeLimit, f_nodeCount, f_fragmentCount, g_frames, f_made, f_counted, f_reused, f_peak, f_calls, g_status, g_resKind, g_resNumber, g_numbered, a_nodeKind, a_nodeX, a_nodeParam, b_nodeA, b_nodeB, a_nodeNext, a_nodeElse, b_scratch, a_fragments, a_body, upd b_slotKind (12 * top + x) 1, upd b_slotNumber (12 * top + x) (rc_pr (a_nodeParam n) (rc_nat top b_slotNumber (a_nodeA n)) (rc_nat top b_slotNumber (a_nodeB n))), b_spares, a_waiting, b_cellTag, b_partKind, b_partNumber, b_live, b_order, b_todo), Or.inl ⟨rfl, rc_ER_mk ⟨hST, hFT, ⟨f1, f2, hfr, hgf, rfl, by omega, hmade, hm, hcalls, hca, hfs, hst, hrk, hnum, hrc⟩, rc_SS_top hSS, hWT, hSP, I', ?_, rc_HR_mono p1 hHR, hYW, fun h => ?_, fun h => ?_, ?_⟩⟩, fun post hp => ?_, fun post hp => ?_⟩
      · exact rc_SV_asg hx (fun s hs hb hne => by rw [hsst]; exact hsub s hs hb hne) (fun _ => Or.inl ⟨rfl, rfl⟩) hSV
      · obtain ⟨e1, e2⟩ := p4 h
        subst e1 e2
        exact hPL h
      · have := hRN h
        have := rc_ct_mono p1
        omega
      · unfold rc_ME at hME ⊢; omega
      · subst hat
        refine ⟨hinn, rx_val (top := top) (by rw [en]; exact hoa) hfr htop _ ⟨hinn, rx_val (top := top) (by rw [en]; exact hob) hfr htop _ ?_⟩⟩
        rw [en, ea, eb]
        refine rx_isCell_i _ (br_t rfl (rx_isCell_i _ (br_t rfl ⟨hinn, rx_compute _ ?_⟩)))
        rw [rc_i_32, rc_i_32]
        exact W _ hp
      · refine YP post (br_f (by rw [ka]; decide) (br_f (by rw [kb]; decide) ?_))
        refine ry_put (top := top) hx hgf htop _ ⟨hinn, ?_⟩
        rw [en, hnx]
        exact hp
    · refine ⟨11, n, (f_kindRet, f_kindTail, f_kindBind, f_kindCon, f_kindPrim, f_kindCall, f_kindMatch, f_kindTest, f_cellBase, f_heapSize, f_depthLimit, f_nodeLimit, f_nodeCount, f_fragmentCount, f_frames, f_at, f_deadCount, f_freeHead, f_fresh, f_liveCells, f_spareTotal, f_counted, f_status, f_made, f_reused, f_peak, f_calls, f_result, f_resultCells, a_nodeKind, a_nodeX, a_nodeParam, a_nodeA, a_nodeB, a_nodeNext, a_nodeElse, a_nodeFree, a_nodeNeed, a_fragments, a_body, a_slots, a_waiting, a_spareHead, a_spareCount, a_cellTag, a_cellLeft, a_cellRight, a_holds, a_link, a_dead, a_cellOfNumber, a_numberOfCell, a_places, a_walk), (f_heapSize, f_depthLimit, f_nodeLimit, f_nodeCount, f_fragmentCount, g_frames, f_made, f_counted, f_reused, f_peak, f_calls, 11, g_resKind, g_resNumber, g_numbered, a_nodeKind, a_nodeX, a_nodeParam, b_nodeA, b_nodeB, a_nodeNext, a_nodeElse, b_scratch, a_fragments, a_body, b_slotKind, b_slotNumber, b_spares, a_waiting, b_cellTag, b_partKind, b_partNumber, b_live, b_order, b_todo), Or.inr ⟨by decide, rc_EN_mk (by decide) (by decide) G0⟩, fun post hp => ?_, fun post hp => YP post (br_f (by rw [ka]; decide) (br_t kb hp))⟩
      subst hat
      refine ⟨hinn, rx_val (top := top) (by rw [en]; exact hoa) hfr htop _ ⟨hinn, rx_val (top := top) (by rw [en]; exact hob) hfr htop _ ?_⟩⟩
      rw [en, ea, eb]
      exact rx_isCell_i _ (br_t rfl (rx_isCell_c hc _ (br_f (by decide) hp)))
  · refine ⟨11, n, (f_kindRet, f_kindTail, f_kindBind, f_kindCon, f_kindPrim, f_kindCall, f_kindMatch, f_kindTest, f_cellBase, f_heapSize, f_depthLimit, f_nodeLimit, f_nodeCount, f_fragmentCount, f_frames, f_at, f_deadCount, f_freeHead, f_fresh, f_liveCells, f_spareTotal, f_counted, f_status, f_made, f_reused, f_peak, f_calls, f_result, f_resultCells, a_nodeKind, a_nodeX, a_nodeParam, a_nodeA, a_nodeB, a_nodeNext, a_nodeElse, a_nodeFree, a_nodeNeed, a_fragments, a_body, a_slots, a_waiting, a_spareHead, a_spareCount, a_cellTag, a_cellLeft, a_cellRight, a_holds, a_link, a_dead, a_cellOfNumber, a_numberOfCell, a_places, a_walk), (f_heapSize, f_depthLimit, f_nodeLimit, f_nodeCount, f_fragmentCount, g_frames, f_made, f_counted, f_reused, f_peak, f_calls, 11, g_resKind, g_resNumber, g_numbered, a_nodeKind, a_nodeX, a_nodeParam, b_nodeA, b_nodeB, a_nodeNext, a_nodeElse, b_scratch, a_fragments, a_body, b_slotKind, b_slotNumber, b_spares, a_waiting, b_cellTag, b_partKind, b_partNumber, b_live, b_order, b_todo), Or.inr ⟨by decide, rc_EN_mk (by decide) (by decide) G0⟩, fun post hp => ?_, fun post hp => YP post (br_t ka hp)⟩
    subst hat
    refine ⟨hinn, rx_val (top := top) (by rw [en]; exact hoa) hfr htop _ ⟨hinn, rx_val (top := top) (by rw [en]; exact hob) hfr htop _ ?_⟩⟩
    rw [en, ea]
    exact rx_isCell_c hc _ (br_f (by decide) hp)
end
end
section
section
variable {f_kindRet f_kindTail f_kindBind f_kindCon f_kindPrim f_kindCall f_kindMatch f_kindTest f_heapSize f_depthLimit f_nodeLimit f_nodeCount f_fragmentCount f_frames f_at f_deadCount f_freeHead f_fresh f_liveCells f_spareTotal f_counted f_status f_made f_reused f_peak f_calls f_resultCells : Int32} {f_cellBase f_result : Int64} {a_nodeKind a_nodeX a_nodeParam a_nodeA a_nodeB a_nodeNext a_nodeElse a_nodeFree a_nodeNeed a_fragments a_body a_waiting a_spareHead a_spareCount a_cellTag a_holds a_link a_dead a_cellOfNumber a_numberOfCell a_places a_walk : Nat → Int32} {a_slots a_cellLeft a_cellRight : Nat → Int64}
variable {lim fr fs : Nat} {E : Nat → Nat} {own : Nat → Bool} {S : Nat → List Nat} {col col' : Nat → Nat} {D F : List Nat} {ss : Nat → Int32}
/-- goTo -/
theorem rx_goTo {n e top : Nat} (hn : n < 48) (he : e < 48) (ht : top < 16) (ht2 : top < fr) (hat : f_at = nI n) (hf : f_frames = nI (top + 1)) (hsub : ∀ s, s < 12 → bt (a_nodeFree e) s = true → bt (a_nodeFree n) s = true) (hss : ss top = a_nodeFree n) (I : (rc_XI lim fr E (rc_ow fr ss) col ([]) F S fs f_counted a_slots a_cellLeft a_cellRight a_holds a_link a_dead a_spareHead a_spareCount f_deadCount f_freeHead f_fresh f_liveCells f_spareTotal)) : ∃ (col' : Nat → Nat) (F' : List Nat) (ho' li' de' : Nat → Int32) (fh' lc' : Int32), (rc_XI lim fr E (rc_ow fr (upd ss top (a_nodeFree e))) col' ([]) F' S fs f_counted a_slots a_cellLeft a_cellRight ho' li' de' a_spareHead a_spareCount 0 fh' f_fresh lc' f_spareTotal) ∧ (∀ c, col' c = 0 → col c = 0) ∧ (∀ c, col c ≠ 0 → col' c = col c) ∧ (f_counted = 0 → col' = col ∧ F' = F) ∧ ∀ (post : SX → Prop), post (f_kindRet, f_kindTail, f_kindBind, f_kindCon, f_kindPrim, f_kindCall, f_kindMatch, f_kindTest, f_cellBase, f_heapSize, f_depthLimit, f_nodeLimit, f_nodeCount, f_fragmentCount, f_frames, nI e, 0, fh', f_fresh, lc', f_spareTotal, f_counted, f_status, f_made, f_reused, f_peak, f_calls, f_result, f_resultCells, a_nodeKind, a_nodeX, a_nodeParam, a_nodeA, a_nodeB, a_nodeNext, a_nodeElse, a_nodeFree, a_nodeNeed, a_fragments, a_body, a_slots, a_waiting, a_spareHead, a_spareCount, a_cellTag, a_cellLeft, a_cellRight, ho', li', de', a_cellOfNumber, a_numberOfCell, a_places, a_walk) → wpX_goTo post (f_kindRet, f_kindTail, f_kindBind, f_kindCon, f_kindPrim, f_kindCall, f_kindMatch, f_kindTest, f_cellBase, f_heapSize, f_depthLimit, f_nodeLimit, f_nodeCount, f_fragmentCount, f_frames, f_at, f_deadCount, f_freeHead, f_fresh, f_liveCells, f_spareTotal, f_counted, f_status, f_made, f_reused, f_peak, f_calls, f_result, f_resultCells, a_nodeKind, a_nodeX, a_nodeParam, a_nodeA, a_nodeB, a_nodeNext, a_nodeElse, a_nodeFree, a_nodeNeed, a_fragments, a_body, a_slots, a_waiting, a_spareHead, a_spareCount, a_cellTag, a_cellLeft, a_cellRight, a_holds, a_link, a_dead, a_cellOfNumber, a_numberOfCell, a_places, a_walk) (nI e) := by
  have en : (nI n).toNatClampNeg = n := nI_clamp (by omega)
  have ee : (nI e).toNatClampNeg = e := nI_clamp (by omega)
  subst hat
  obtain ⟨col', F', ho', li', de', fh', lc', I2, p1, p2, p3, p4, W2⟩ := rx_give (f_kindRet := f_kindRet) (f_kindTail := f_kindTail) (f_kindBind := f_kindBind) (f_kindCon := f_kindCon) (f_kindPrim := f_kindPrim) (f_kindCall := f_kindCall) (f_kindMatch := f_kindMatch) (f_kindTest := f_kindTest) (f_cellBase := f_cellBase) (f_heapSize := f_heapSize) (f_depthLimit := f_depthLimit) (f_nodeLimit := f_nodeLimit) (f_nodeCount := f_nodeCount) (f_fragmentCount := f_fragmentCount) (f_frames := f_frames) (f_at := nI n) (f_deadCount := f_deadCount) (f_freeHead := f_freeHead) (f_fresh := f_fresh) (f_liveCells := f_liveCells) (f_spareTotal := f_spareTotal) (f_counted := f_counted) (f_status := f_status) (f_made := f_made) (f_reused := f_reused) (f_peak := f_peak) (f_calls := f_calls) (f_result := f_result) (f_resultCells := f_resultCells) (a_nodeKind := a_nodeKind) (a_nodeX := a_nodeX) (a_nodeParam := a_nodeParam) (a_nodeA := a_nodeA) (a_nodeB := a_nodeB) (a_nodeNext := a_nodeNext) (a_nodeElse := a_nodeElse) (a_nodeFree := a_nodeFree) (a_nodeNeed := a_nodeNeed) (a_fragments := a_fragments) (a_body := a_body) (a_slots := a_slots) (a_waiting := a_waiting) (a_spareHead := a_spareHead) (a_spareCount := a_spareCount) (a_cellTag := a_cellTag) (a_cellLeft := a_cellLeft) (a_cellRight := a_cellRight) (a_holds := a_holds) (a_link := a_link) (a_dead := a_dead) (a_cellOfNumber := a_cellOfNumber) (a_numberOfCell := a_numberOfCell) (a_places := a_places) (a_walk := a_walk) (set := (a_nodeFree n) &&& ((a_nodeFree e) ^^^ (-1))) ht hf (fun s hs hb => by
    rw [b_and, Bool.and_eq_true] at hb
    exact ⟨ht2, by rw [hss]; exact hb.1⟩) I
  have ho : rc_ow fr (upd ss top (ss top &&& (((a_nodeFree n) &&& ((a_nodeFree e) ^^^ (-1))) ^^^ (-1)))) = rc_ow fr (upd ss top (a_nodeFree e)) := rc_ow_ext fun f hf s hs => by
    by_cases q : f = top
    · subst q
      rw [pk_us, pk_us, hss, rc_andn (by omega), rc_andn (by omega)]
      exact rc_bl2 _ _ (hsub s hs)
    · rw [pk_un q, pk_un q]
  rw [ho] at I2
  refine ⟨col', F', ho', li', de', fh', lc', I2, p1, p2, p4, fun post hp => ⟨vp_in_nI hn (by decide), vp_in_nI he (by decide), ?_⟩⟩
  rw [en, ee]
  exact W2 _ hp
end
section
variable {f_kindRet f_kindTail f_kindBind f_kindCon f_kindPrim f_kindCall f_kindMatch f_kindTest f_heapSize f_depthLimit f_nodeLimit f_nodeCount f_fragmentCount f_frames f_at f_deadCount f_freeHead f_fresh f_liveCells f_spareTotal f_counted f_status f_made f_reused f_peak f_calls f_resultCells : Int32} {f_cellBase f_result : Int64} {a_nodeKind a_nodeX a_nodeParam a_nodeA a_nodeB a_nodeNext a_nodeElse a_nodeFree a_nodeNeed a_fragments a_body a_waiting a_spareHead a_spareCount a_cellTag a_holds a_link a_dead a_cellOfNumber a_numberOfCell a_places a_walk : Nat → Int32} {a_slots a_cellLeft a_cellRight : Nat → Int64}
variable {g_frames g_status g_resKind g_resNumber g_numbered : Int32} {b_nodeA b_nodeB b_scratch b_slotKind b_slotNumber b_spares b_cellTag b_partKind b_partNumber b_live b_order b_todo : Nat → Int32}
variable {n stp nc hs dl fr m ca fs : Nat} {nd φ col : Nat → Nat} {F : List Nat} {S : Nat → List Nat} {ss : Nat → Int32}
/-- a step that goes to a successor without changing a slot -/
theorem rs_goto {e : Nat} (G : (rc_EG n stp nc hs dl fr m ca fs nd φ col F S ss f_heapSize f_depthLimit f_nodeLimit f_nodeCount f_fragmentCount f_frames f_at f_deadCount f_freeHead f_fresh f_liveCells f_spareTotal f_counted f_made f_peak f_calls f_resultCells a_nodeKind a_nodeX a_nodeParam a_nodeA a_nodeB a_nodeNext a_nodeElse a_nodeFree a_nodeNeed a_fragments a_body a_slots a_waiting a_spareHead a_spareCount a_cellTag a_cellLeft a_cellRight a_holds a_link a_dead g_frames g_status g_resKind g_numbered b_nodeA b_nodeB b_slotKind b_slotNumber b_spares b_cellTag b_partKind b_partNumber)) (he : e < n) (hsub : ∀ s, s < 12 → bt (a_nodeFree e) s = true → bt (a_nodeFree n) s = true) : ∃ (u' : SX), rc_ER e (stp + 1) u' (f_heapSize, f_depthLimit, f_nodeLimit, f_nodeCount, f_fragmentCount, g_frames, f_made, f_counted, f_reused, f_peak, f_calls, g_status, g_resKind, g_resNumber, g_numbered, a_nodeKind, a_nodeX, a_nodeParam, b_nodeA, b_nodeB, a_nodeNext, a_nodeElse, b_scratch, a_fragments, a_body, b_slotKind, b_slotNumber, b_spares, a_waiting, b_cellTag, b_partKind, b_partNumber, b_live, b_order, b_todo) ∧ (∀ post : SX → Prop, post u' → wpX_goTo post (f_kindRet, f_kindTail, f_kindBind, f_kindCon, f_kindPrim, f_kindCall, f_kindMatch, f_kindTest, f_cellBase, f_heapSize, f_depthLimit, f_nodeLimit, f_nodeCount, f_fragmentCount, f_frames, f_at, f_deadCount, f_freeHead, f_fresh, f_liveCells, f_spareTotal, f_counted, f_status, f_made, f_reused, f_peak, f_calls, f_result, f_resultCells, a_nodeKind, a_nodeX, a_nodeParam, a_nodeA, a_nodeB, a_nodeNext, a_nodeElse, a_nodeFree, a_nodeNeed, a_fragments, a_body, a_slots, a_waiting, a_spareHead, a_spareCount, a_cellTag, a_cellLeft, a_cellRight, a_holds, a_link, a_dead, a_cellOfNumber, a_numberOfCell, a_places, a_walk) (nI e)) := by
  obtain ⟨hST, hFT, hNU, hSS, hWT, hSP, hXI, hSV, hHR, hYW, hPL, hRN, hME⟩ := G
  obtain ⟨f1, f2, hfr, hgf, hat, hn, hmade, hm, hcalls, hca, hfs, hst, hrk, hnum, hrc⟩ := hNU
  obtain ⟨top, rfl⟩ : ∃ t, fr = t + 1 := ⟨fr - 1, by omega⟩
  have hnc := hST.1
  have hdl := hST.2.2.2.2.2.2.2.1
  have hsst : ss top = a_nodeFree n := hSS.1
  obtain ⟨col', F', ho', li', de', fh', lc', I', p1, p2, p4, W⟩ := rx_goTo (f_kindRet := f_kindRet) (f_kindTail := f_kindTail) (f_kindBind := f_kindBind) (f_kindCon := f_kindCon) (f_kindPrim := f_kindPrim) (f_kindCall := f_kindCall) (f_kindMatch := f_kindMatch) (f_kindTest := f_kindTest) (f_cellBase := f_cellBase) (f_heapSize := f_heapSize) (f_depthLimit := f_depthLimit) (f_nodeLimit := f_nodeLimit) (f_nodeCount := f_nodeCount) (f_fragmentCount := f_fragmentCount) (f_frames := f_frames) (f_at := f_at) (f_deadCount := f_deadCount) (f_freeHead := f_freeHead) (f_fresh := f_fresh) (f_liveCells := f_liveCells) (f_spareTotal := f_spareTotal) (f_counted := f_counted) (f_status := f_status) (f_made := f_made) (f_reused := f_reused) (f_peak := f_peak) (f_calls := f_calls) (f_result := f_result) (f_resultCells := f_resultCells) (a_nodeKind := a_nodeKind) (a_nodeX := a_nodeX) (a_nodeParam := a_nodeParam) (a_nodeA := a_nodeA) (a_nodeB := a_nodeB) (a_nodeNext := a_nodeNext) (a_nodeElse := a_nodeElse) (a_nodeFree := a_nodeFree) (a_nodeNeed := a_nodeNeed) (a_fragments := a_fragments) (a_body := a_body) (a_slots := a_slots) (a_waiting := a_waiting) (a_spareHead := a_spareHead) (a_spareCount := a_spareCount) (a_cellTag := a_cellTag) (a_cellLeft := a_cellLeft) (a_cellRight := a_cellRight) (a_holds := a_holds) (a_link := a_link) (a_dead := a_dead) (a_cellOfNumber := a_cellOfNumber) (a_numberOfCell := a_numberOfCell) (a_places := a_places) (a_walk := a_walk) (n := n) (e := e) (top := top) (by omega) (by omega) (by omega) (Nat.lt_succ_self top) hat hfr hsub hsst hXI
  refine ⟨(f_kindRet, f_kindTail, f_kindBind, f_kindCon, f_kindPrim, f_kindCall, f_kindMatch, f_kindTest, f_cellBase, f_heapSize, f_depthLimit, f_nodeLimit, f_nodeCount, f_fragmentCount, f_frames, nI e, 0, fh', f_fresh, lc', f_spareTotal, f_counted, f_status, f_made, f_reused, f_peak, f_calls, f_result, f_resultCells, a_nodeKind, a_nodeX, a_nodeParam, a_nodeA, a_nodeB, a_nodeNext, a_nodeElse, a_nodeFree, a_nodeNeed, a_fragments, a_body, a_slots, a_waiting, a_spareHead, a_spareCount, a_cellTag, a_cellLeft, a_cellRight, ho', li', de', a_cellOfNumber, a_numberOfCell, a_places, a_walk), rc_ER_mk ⟨hST, hFT, ⟨f1, f2, hfr, hgf, rfl, by omega, hmade, hm, hcalls, hca, hfs, hst, hrk, hnum, hrc⟩, rc_SS_top hSS, hWT, hSP, I', ?_, rc_HR_mono p1 hHR, hYW, fun h => ?_, fun h => ?_, ?_⟩, W⟩
  · refine rc_SV_sub (fun f s hf hs hb => ?_) hSV
    by_cases q : f = top
    · subst q; rw [pk_us] at hb; rw [hsst]; exact hsub s hs hb
    · rw [pk_un q] at hb; exact hb
  · obtain ⟨e1, e2⟩ := p4 h
    subst e1 e2
    exact hPL h
  · have := hRN h
    have := rc_ct_mono p1
    omega
  · unfold rc_ME at hME ⊢; omega
/-- TEST -/
theorem rs_test (G : (rc_EG n stp nc hs dl fr m ca fs nd φ col F S ss f_heapSize f_depthLimit f_nodeLimit f_nodeCount f_fragmentCount f_frames f_at f_deadCount f_freeHead f_fresh f_liveCells f_spareTotal f_counted f_made f_peak f_calls f_resultCells a_nodeKind a_nodeX a_nodeParam a_nodeA a_nodeB a_nodeNext a_nodeElse a_nodeFree a_nodeNeed a_fragments a_body a_slots a_waiting a_spareHead a_spareCount a_cellTag a_cellLeft a_cellRight a_holds a_link a_dead g_frames g_status g_resKind g_numbered b_nodeA b_nodeB b_slotKind b_slotNumber b_spares b_cellTag b_partKind b_partNumber)) (hk : a_nodeKind n = 7) : ∃ (n' : Nat) (u' : SX) (v' : SY), rc_ER n' (stp + 1) u' v' ∧ (∀ post : Int32 → SX → Prop, post 0 u' → wpX_stepTest post (f_kindRet, f_kindTail, f_kindBind, f_kindCon, f_kindPrim, f_kindCall, f_kindMatch, f_kindTest, f_cellBase, f_heapSize, f_depthLimit, f_nodeLimit, f_nodeCount, f_fragmentCount, f_frames, f_at, f_deadCount, f_freeHead, f_fresh, f_liveCells, f_spareTotal, f_counted, f_status, f_made, f_reused, f_peak, f_calls, f_result, f_resultCells, a_nodeKind, a_nodeX, a_nodeParam, a_nodeA, a_nodeB, a_nodeNext, a_nodeElse, a_nodeFree, a_nodeNeed, a_fragments, a_body, a_slots, a_waiting, a_spareHead, a_spareCount, a_cellTag, a_cellLeft, a_cellRight, a_holds, a_link, a_dead, a_cellOfNumber, a_numberOfCell, a_places, a_walk)) ∧ (∀ post : Int32 → SY → Prop, post (nI n') v' → wpY_step post (f_heapSize, f_depthLimit, f_nodeLimit, f_nodeCount, f_fragmentCount, g_frames, f_made, f_counted, f_reused, f_peak, f_calls, g_status, g_resKind, g_resNumber, g_numbered, a_nodeKind, a_nodeX, a_nodeParam, b_nodeA, b_nodeB, a_nodeNext, a_nodeElse, b_scratch, a_fragments, a_body, b_slotKind, b_slotNumber, b_spares, a_waiting, b_cellTag, b_partKind, b_partNumber, b_live, b_order, b_todo) (nI n)) := by
  have G0 := G
  obtain ⟨hST, hFT, hNU, hSS, hWT, hSP, hXI, hSV, hHR, hYW, hPL, hRN, hME⟩ := G
  obtain ⟨f1, f2, hfr, hgf, hat, hn, hmade, hm, hcalls, hca, hfs, hst, hrk, hnum, hrc⟩ := hNU
  obtain ⟨top, rfl⟩ : ∃ t, fr = t + 1 := ⟨fr - 1, by omega⟩
  have hnc := hST.1
  have hdl := hST.2.2.2.2.2.2.2.1
  obtain ⟨x, j, e, hx, hxx, hj, he, hnx, hel, hbx, hsj, hse⟩ := rc_nd7 (hST.2.1 n hn) hk
  have htop : top < 16 := by omega
  have hsst : ss top = a_nodeFree n := hSS.1
  have en : (nI n).toNatClampNeg = n := nI_clamp (by omega)
  have hinn : vp_in (nI n) 48 := vp_in_nI (by omega) (by decide)
  have hox : rc_op (nI x) := Or.inr ⟨x, hx, rfl⟩
  have hvr := rc_val_VR (o := nI x) (Nat.lt_succ_self top) (by omega) hox (fun s hs q => by rw [hsst, ← rc_n_of (by omega) (by omega) q]; exact hbx) hSV
  have ev : rc_val top a_slots (nI x) = a_slots (12 * top + x) := by
    unfold rc_val; rw [if_neg (nI_pos (by omega)), nI_clamp (by omega)]
  rw [ev] at hvr
  have YP : ∀ (post : Int32 → SY → Prop) (r : Int32), ((rc_kat top b_slotKind (nI x) = 1 ∧ rc_nat top b_slotNumber (nI x) = a_nodeParam n) → r = nI j) → (¬ (rc_kat top b_slotKind (nI x) = 1 ∧ rc_nat top b_slotNumber (nI x) = a_nodeParam n) → r = nI e) → post r (f_heapSize, f_depthLimit, f_nodeLimit, f_nodeCount, f_fragmentCount, g_frames, f_made, f_counted, f_reused, f_peak, f_calls, g_status, g_resKind, g_resNumber, g_numbered, a_nodeKind, a_nodeX, a_nodeParam, b_nodeA, b_nodeB, a_nodeNext, a_nodeElse, b_scratch, a_fragments, a_body, b_slotKind, b_slotNumber, b_spares, a_waiting, b_cellTag, b_partKind, b_partNumber, b_live, b_order, b_todo) → wpY_step post (f_heapSize, f_depthLimit, f_nodeLimit, f_nodeCount, f_fragmentCount, g_frames, f_made, f_counted, f_reused, f_peak, f_calls, g_status, g_resKind, g_resNumber, g_numbered, a_nodeKind, a_nodeX, a_nodeParam, b_nodeA, b_nodeB, a_nodeNext, a_nodeElse, b_scratch, a_fragments, a_body, b_slotKind, b_slotNumber, b_spares, a_waiting, b_cellTag, b_partKind, b_partNumber, b_live, b_order, b_todo) (nI n) := by
    intro post r h1 h2 hp
    refine ⟨hinn, nm_r (e' := 7) (by rw [en]; exact hk) (br_f (by decide) (br_t rfl ⟨hinn, ?_⟩))⟩
    rw [en, hxx]
    refine ry_kat (top := top) hox hgf htop _ ⟨hinn, ry_nat (top := top) hox hgf htop _ ⟨hinn, br_t hk ?_⟩⟩
    by_cases q1 : rc_kat top b_slotKind (nI x) = 1
    · by_cases q2 : rc_nat top b_slotNumber (nI x) = a_nodeParam n
      · rw [h1 ⟨q1, q2⟩] at hp
        refine br_t q1 ⟨hinn, br_t q2 ⟨hinn, ?_⟩⟩
        rw [hnx]; exact hp
      · rw [h2 (fun w => q2 w.2)] at hp
        refine br_t q1 ⟨hinn, br_f q2 ⟨hinn, ?_⟩⟩
        rw [hel]; exact hp
    · rw [h2 (fun w => q1 w.1)] at hp
      refine br_f q1 ⟨hinn, ?_⟩
      rw [hel]; exact hp
  have XP : ∀ (post : Int32 → SX → Prop), ((a_slots (12 * top + x) = (a_nodeParam n).toInt64 → wpX_goTo (fun u => post 0 u) (f_kindRet, f_kindTail, f_kindBind, f_kindCon, f_kindPrim, f_kindCall, f_kindMatch, f_kindTest, f_cellBase, f_heapSize, f_depthLimit, f_nodeLimit, f_nodeCount, f_fragmentCount, f_frames, f_at, f_deadCount, f_freeHead, f_fresh, f_liveCells, f_spareTotal, f_counted, f_status, f_made, f_reused, f_peak, f_calls, f_result, f_resultCells, a_nodeKind, a_nodeX, a_nodeParam, a_nodeA, a_nodeB, a_nodeNext, a_nodeElse, a_nodeFree, a_nodeNeed, a_fragments, a_body, a_slots, a_waiting, a_spareHead, a_spareCount, a_cellTag, a_cellLeft, a_cellRight, a_holds, a_link, a_dead, a_cellOfNumber, a_numberOfCell, a_places, a_walk) (nI j)) ∧ (¬ a_slots (12 * top + x) = (a_nodeParam n).toInt64 → wpX_goTo (fun u => post 0 u) (f_kindRet, f_kindTail, f_kindBind, f_kindCon, f_kindPrim, f_kindCall, f_kindMatch, f_kindTest, f_cellBase, f_heapSize, f_depthLimit, f_nodeLimit, f_nodeCount, f_fragmentCount, f_frames, f_at, f_deadCount, f_freeHead, f_fresh, f_liveCells, f_spareTotal, f_counted, f_status, f_made, f_reused, f_peak, f_calls, f_result, f_resultCells, a_nodeKind, a_nodeX, a_nodeParam, a_nodeA, a_nodeB, a_nodeNext, a_nodeElse, a_nodeFree, a_nodeNeed, a_fragments, a_body, a_slots, a_waiting, a_spareHead, a_spareCount, a_cellTag, a_cellLeft, a_cellRight, a_holds, a_link, a_dead, a_cellOfNumber, a_numberOfCell, a_places, a_walk) (nI e))) → wpX_stepTest post (f_kindRet, f_kindTail, f_kindBind, f_kindCon, f_kindPrim, f_kindCall, f_kindMatch, f_kindTest, f_cellBase, f_heapSize, f_depthLimit, f_nodeLimit, f_nodeCount, f_fragmentCount, f_frames, f_at, f_deadCount, f_freeHead, f_fresh, f_liveCells, f_spareTotal, f_counted, f_status, f_made, f_reused, f_peak, f_calls, f_result, f_resultCells, a_nodeKind, a_nodeX, a_nodeParam, a_nodeA, a_nodeB, a_nodeNext, a_nodeElse, a_nodeFree, a_nodeNeed, a_fragments, a_body, a_slots, a_waiting, a_spareHead, a_spareCount, a_cellTag, a_cellLeft, a_cellRight, a_holds, a_link, a_dead, a_cellOfNumber, a_numberOfCell, a_places, a_walk) := by
    intro post hp
    subst hat
    have e12 : (f_frames - 1) * 12 + a_nodeX (nI n).toNatClampNeg = nI (12 * top + x) := by rw [en, hxx, rc_low_i hfr]
    refine ⟨hinn, ?_, nm_r (e' := a_slots (12 * top + x)) ?_ ⟨hinn, ?_⟩⟩
    · rw [e12]; exact vp_in_nI (by omega) (by decide)
    · rw [e12, nI_clamp (by omega)]
    · rw [en, hnx, hel]
      exact ⟨fun h => ⟨hinn, hp.1 h⟩, fun h => ⟨hinn, hp.2 h⟩⟩
  by_cases ht : a_slots (12 * top + x) = (a_nodeParam n).toInt64
  · obtain ⟨u', R, W⟩ := rs_goto G0 hj hsj
    refine ⟨j, u', (f_heapSize, f_depthLimit, f_nodeLimit, f_nodeCount, f_fragmentCount, g_frames, f_made, f_counted, f_reused, f_peak, f_calls, g_status, g_resKind, g_resNumber, g_numbered, a_nodeKind, a_nodeX, a_nodeParam, b_nodeA, b_nodeB, a_nodeNext, a_nodeElse, b_scratch, a_fragments, a_body, b_slotKind, b_slotNumber, b_spares, a_waiting, b_cellTag, b_partKind, b_partNumber, b_live, b_order, b_todo), R, fun post hp => XP post (br_t ht (W _ hp)), fun post hp => YP post (nI j) (fun _ => rfl) (fun h => ?_) hp⟩
    rcases hvr with ⟨ka, ea⟩ | ⟨_, c, hc, ea, _⟩
    · exact absurd ⟨ka, rc_i_inj (ea.symm.trans ht)⟩ h
    · exact absurd (ht.symm.trans ea) (rc_i_ne _ (by omega))
  · obtain ⟨u', R, W⟩ := rs_goto G0 he hse
    refine ⟨e, u', (f_heapSize, f_depthLimit, f_nodeLimit, f_nodeCount, f_fragmentCount, g_frames, f_made, f_counted, f_reused, f_peak, f_calls, g_status, g_resKind, g_resNumber, g_numbered, a_nodeKind, a_nodeX, a_nodeParam, b_nodeA, b_nodeB, a_nodeNext, a_nodeElse, b_scratch, a_fragments, a_body, b_slotKind, b_slotNumber, b_spares, a_waiting, b_cellTag, b_partKind, b_partNumber, b_live, b_order, b_todo), R, fun post hp => XP post (br_f ht (W _ hp)), fun post hp => YP post (nI e) (fun h => ?_) (fun _ => rfl) hp⟩
    rcases hvr with ⟨_, ea⟩ | ⟨ka, _⟩
    · rw [h.2] at ea; exact absurd ea ht
    · rw [ka] at h; exact absurd h.1 (by decide)
end
end
section
section
variable {f_kindRet f_kindTail f_kindBind f_kindCon f_kindPrim f_kindCall f_kindMatch f_kindTest f_heapSize f_depthLimit f_nodeLimit f_nodeCount f_fragmentCount f_frames f_at f_deadCount f_freeHead f_fresh f_liveCells f_spareTotal f_counted f_status f_made f_reused f_peak f_calls f_resultCells : Int32} {f_cellBase f_result : Int64} {a_nodeKind a_nodeX a_nodeParam a_nodeA a_nodeB a_nodeNext a_nodeElse a_nodeFree a_nodeNeed a_fragments a_body a_waiting a_spareHead a_spareCount a_cellTag a_holds a_link a_dead a_cellOfNumber a_numberOfCell a_places a_walk : Nat → Int32} {a_slots a_cellLeft a_cellRight : Nat → Int64}
variable {fr fs : Nat} {S : Nat → List Nat} {col col' : Nat → Nat} {D F : List Nat} {ss : Nat → Int32}
theorem rc_us_us {f : Nat} {l l' : List Nat} : rc_us (rc_us S f l) f l' = rc_us S f l' := by
  funext g; unfold rc_us; split <;> rfl
/-- openCell -/
theorem rx_openCell {n j x y z top c : Nat} (hn : n < 48) (hj : j < 48) (hx : x < 12) (hy : y < 12) (hz : z < 12) (hxy : x ≠ y) (hxz : x ≠ z) (hyz : y ≠ z) (hfr16 : fr ≤ 16) (ht2 : top < fr) (hnx : a_nodeNext n = nI j) (hxx : a_nodeX n = nI x) (hna : a_nodeA n = nI y) (hnb : a_nodeB n = nI z) (hf : f_frames = nI (top + 1)) (hbx : bt (a_nodeFree n) x = true) (hsub : ∀ s, s < 12 → bt (a_nodeFree j) s = true → s ≠ y → s ≠ z → bt (a_nodeFree n) s = true) (hss : ss top = a_nodeFree n) (hc : c < 200) (hsl : a_slots (12 * top + x) = rc_cv c) (I : (rc_XI 0 fr (fun _ => 0) (rc_ow fr ss) col ([]) F S fs f_counted a_slots a_cellLeft a_cellRight a_holds a_link a_dead a_spareHead a_spareCount f_deadCount f_freeHead f_fresh f_liveCells f_spareTotal)) : ∃ (col' : Nat → Nat) (F' : List Nat) (S' : Nat → List Nat) (ho' li' de' sh' sc' : Nat → Int32) (fh' lc' st' : Int32), (rc_XI 0 fr (fun _ => 0) (rc_ow fr (upd ss top (a_nodeFree j))) col' ([]) F' S' fs f_counted (vp_updL (vp_updL a_slots (12 * top + y) (a_cellLeft c)) (12 * top + z) (a_cellRight c)) a_cellLeft a_cellRight ho' li' de' sh' sc' 0 fh' f_fresh lc' st') ∧ (∀ x, col' x = 0 → col x = 0) ∧ ((col' c = 0 ∧ S' = S) ∨ (col' c ≠ 0 ∧ S' = rc_us S top (c :: S top))) ∧ (f_counted = 0 → col' = col ∧ F' = F ∧ S' = S) ∧ ∀ (post : SX → Prop), post (f_kindRet, f_kindTail, f_kindBind, f_kindCon, f_kindPrim, f_kindCall, f_kindMatch, f_kindTest, f_cellBase, f_heapSize, f_depthLimit, f_nodeLimit, f_nodeCount, f_fragmentCount, f_frames, nI j, 0, fh', f_fresh, lc', st', f_counted, f_status, f_made, f_reused, f_peak, f_calls, f_result, f_resultCells, a_nodeKind, a_nodeX, a_nodeParam, a_nodeA, a_nodeB, a_nodeNext, a_nodeElse, a_nodeFree, a_nodeNeed, a_fragments, a_body, vp_updL (vp_updL a_slots (12 * top + y) (a_cellLeft c)) (12 * top + z) (a_cellRight c), a_waiting, sh', sc', a_cellTag, a_cellLeft, a_cellRight, ho', li', de', a_cellOfNumber, a_numberOfCell, a_places, a_walk) → wpX_openCell post (f_kindRet, f_kindTail, f_kindBind, f_kindCon, f_kindPrim, f_kindCall, f_kindMatch, f_kindTest, f_cellBase, f_heapSize, f_depthLimit, f_nodeLimit, f_nodeCount, f_fragmentCount, f_frames, f_at, f_deadCount, f_freeHead, f_fresh, f_liveCells, f_spareTotal, f_counted, f_status, f_made, f_reused, f_peak, f_calls, f_result, f_resultCells, a_nodeKind, a_nodeX, a_nodeParam, a_nodeA, a_nodeB, a_nodeNext, a_nodeElse, a_nodeFree, a_nodeNeed, a_fragments, a_body, a_slots, a_waiting, a_spareHead, a_spareCount, a_cellTag, a_cellLeft, a_cellRight, a_holds, a_link, a_dead, a_cellOfNumber, a_numberOfCell, a_places, a_walk) (nI n) (nI c) := by
  have en : (nI n).toNatClampNeg = n := nI_clamp (by omega)
  have ej : (nI j).toNatClampNeg = j := nI_clamp (by omega)
  have ec : (nI c).toNatClampNeg = c := nI_clamp (by omega)
  have hinn : vp_in (nI n) 48 := vp_in_nI hn (by decide)
  have hinj : vp_in (nI j) 48 := vp_in_nI hj (by decide)
  have hinc : vp_in (nI c) 200 := vp_in_nI hc (by decide)
  have hownx : rc_ow fr ss (12 * top + x) = true := by rw [rc_ow_i ht2 hx, hss]; exact hbx
  have hc0 : col c = 0 := by
    rcases I.1.2.2.2 (12 * top + x) (by omega) hownx with ⟨w, e⟩ | ⟨d, hd, hd0, e⟩
    · exact absurd (e.symm.trans hsl) (rc_i_ne w (by omega))
    · rw [hsl] at e; rw [rc_cv_inj (by omega) (by omega) e]; exact hd0
  obtain ⟨fl, frr⟩ := I.1.2.2.1 c hc0
  obtain ⟨ho1, I1, _, W1⟩ := rx_holdIf (b := bt (a_nodeFree j) y) (v := a_cellLeft c) (rc_tx (a := a_nodeFree j) hy) (f_kindRet := f_kindRet) (f_kindTail := f_kindTail) (f_kindBind := f_kindBind) (f_kindCon := f_kindCon) (f_kindPrim := f_kindPrim) (f_kindCall := f_kindCall) (f_kindMatch := f_kindMatch) (f_kindTest := f_kindTest) (f_cellBase := f_cellBase) (f_heapSize := f_heapSize) (f_depthLimit := f_depthLimit) (f_nodeLimit := f_nodeLimit) (f_nodeCount := f_nodeCount) (f_fragmentCount := f_fragmentCount) (f_frames := f_frames) (f_at := f_at) (f_deadCount := f_deadCount) (f_freeHead := f_freeHead) (f_fresh := f_fresh) (f_liveCells := f_liveCells) (f_spareTotal := f_spareTotal) (f_counted := f_counted) (f_status := f_status) (f_made := f_made) (f_reused := f_reused) (f_peak := f_peak) (f_calls := f_calls) (f_result := f_result) (f_resultCells := f_resultCells) (a_nodeKind := a_nodeKind) (a_nodeX := a_nodeX) (a_nodeParam := a_nodeParam) (a_nodeA := a_nodeA) (a_nodeB := a_nodeB) (a_nodeNext := a_nodeNext) (a_nodeElse := a_nodeElse) (a_nodeFree := a_nodeFree) (a_nodeNeed := a_nodeNeed) (a_fragments := a_fragments) (a_body := a_body) (a_slots := a_slots) (a_waiting := a_waiting) (a_spareHead := a_spareHead) (a_spareCount := a_spareCount) (a_cellTag := a_cellTag) (a_cellLeft := a_cellLeft) (a_cellRight := a_cellRight) (a_holds := a_holds) (a_link := a_link) (a_dead := a_dead) (a_cellOfNumber := a_cellOfNumber) (a_numberOfCell := a_numberOfCell) (a_places := a_places) (a_walk := a_walk) I (fun _ => fl) (fun d => by have := rc_is_le (a_cellLeft c) d; omega)
  obtain ⟨ho2, I2, _, W2⟩ := rx_holdIf (b := bt (a_nodeFree j) z) (v := a_cellRight c) (rc_tx (a := a_nodeFree j) hz) (f_kindRet := f_kindRet) (f_kindTail := f_kindTail) (f_kindBind := f_kindBind) (f_kindCon := f_kindCon) (f_kindPrim := f_kindPrim) (f_kindCall := f_kindCall) (f_kindMatch := f_kindMatch) (f_kindTest := f_kindTest) (f_cellBase := f_cellBase) (f_heapSize := f_heapSize) (f_depthLimit := f_depthLimit) (f_nodeLimit := f_nodeLimit) (f_nodeCount := f_nodeCount) (f_fragmentCount := f_fragmentCount) (f_frames := f_frames) (f_at := f_at) (f_deadCount := f_deadCount) (f_freeHead := f_freeHead) (f_fresh := f_fresh) (f_liveCells := f_liveCells) (f_spareTotal := f_spareTotal) (f_counted := f_counted) (f_status := f_status) (f_made := f_made) (f_reused := f_reused) (f_peak := f_peak) (f_calls := f_calls) (f_result := f_result) (f_resultCells := f_resultCells) (a_nodeKind := a_nodeKind) (a_nodeX := a_nodeX) (a_nodeParam := a_nodeParam) (a_nodeA := a_nodeA) (a_nodeB := a_nodeB) (a_nodeNext := a_nodeNext) (a_nodeElse := a_nodeElse) (a_nodeFree := a_nodeFree) (a_nodeNeed := a_nodeNeed) (a_fragments := a_fragments) (a_body := a_body) (a_slots := a_slots) (a_waiting := a_waiting) (a_spareHead := a_spareHead) (a_spareCount := a_spareCount) (a_cellTag := a_cellTag) (a_cellLeft := a_cellLeft) (a_cellRight := a_cellRight) (a_holds := ho1) (a_link := a_link) (a_dead := a_dead) (a_cellOfNumber := a_cellOfNumber) (a_numberOfCell := a_numberOfCell) (a_places := a_places) (a_walk := a_walk) I1 (fun _ => frr) (fun d => by
    have := rc_is_le (a_cellLeft c) d
    have := rc_is_le (a_cellRight c) d
    split <;> omega)
  have hkb : ∀ s, s < 12 → bt ((a_nodeFree j) &&& ((rc_b1 y ||| rc_b1 z) ^^^ (-1))) s = (bt (a_nodeFree j) s && !(decide (s = y) || decide (s = z))) := by
    intro s hs
    rw [rc_andn (by omega), b_or, rc_b1_b hy (by omega), rc_b1_b hz (by omega)]
  obtain ⟨col1, F1, ho3, li3, de3, fh3, lc3, I3, p1, p2, p3, p4, W3⟩ := rx_give (f_kindRet := f_kindRet) (f_kindTail := f_kindTail) (f_kindBind := f_kindBind) (f_kindCon := f_kindCon) (f_kindPrim := f_kindPrim) (f_kindCall := f_kindCall) (f_kindMatch := f_kindMatch) (f_kindTest := f_kindTest) (f_cellBase := f_cellBase) (f_heapSize := f_heapSize) (f_depthLimit := f_depthLimit) (f_nodeLimit := f_nodeLimit) (f_nodeCount := f_nodeCount) (f_fragmentCount := f_fragmentCount) (f_frames := f_frames) (f_at := f_at) (f_deadCount := f_deadCount) (f_freeHead := f_freeHead) (f_fresh := f_fresh) (f_liveCells := f_liveCells) (f_spareTotal := f_spareTotal) (f_counted := f_counted) (f_status := f_status) (f_made := f_made) (f_reused := f_reused) (f_peak := f_peak) (f_calls := f_calls) (f_result := f_result) (f_resultCells := f_resultCells) (a_nodeKind := a_nodeKind) (a_nodeX := a_nodeX) (a_nodeParam := a_nodeParam) (a_nodeA := a_nodeA) (a_nodeB := a_nodeB) (a_nodeNext := a_nodeNext) (a_nodeElse := a_nodeElse) (a_nodeFree := a_nodeFree) (a_nodeNeed := a_nodeNeed) (a_fragments := a_fragments) (a_body := a_body) (a_slots := a_slots) (a_waiting := a_waiting) (a_spareHead := a_spareHead) (a_spareCount := a_spareCount) (a_cellTag := a_cellTag) (a_cellLeft := a_cellLeft) (a_cellRight := a_cellRight) (a_holds := ho2) (a_link := a_link) (a_dead := a_dead) (a_cellOfNumber := a_cellOfNumber) (a_numberOfCell := a_numberOfCell) (a_places := a_places) (a_walk := a_walk) (set := (((a_nodeFree n) &&& (((a_nodeFree j) &&& ((rc_b1 y ||| rc_b1 z) ^^^ (-1))) ^^^ (-1))) &&& (rc_b1 x ^^^ (-1)))) (by omega) hf (fun s hs hb => by
    rw [b_and, b_and, Bool.and_eq_true, Bool.and_eq_true] at hb
    exact ⟨ht2, by rw [hss]; exact hb.1.1⟩) I2
  have hbits : ∀ s, s < 12 → bt (ss top &&& ((((a_nodeFree n) &&& (((a_nodeFree j) &&& ((rc_b1 y ||| rc_b1 z) ^^^ (-1))) ^^^ (-1))) &&& (rc_b1 x ^^^ (-1))) ^^^ (-1))) s = ((bt (a_nodeFree j) s && !(decide (s = y) || decide (s = z))) || decide (s = x)) := by
    intro s hs
    rw [hss, rc_andn (by omega), rc_andn (by omega), rc_andn (by omega), hkb s hs, rc_b1_b hx (by omega)]
    refine rc_bl3 _ _ _ (fun h => ?_) (fun h => ?_)
    · rw [Bool.and_eq_true, Bool.not_eq_true', Bool.or_eq_false_iff] at h
      exact hsub s hs h.1 (of_decide_eq_false h.2.1) (of_decide_eq_false h.2.2)
    · rw [of_decide_eq_true h]; exact hbx
  generalize hZ1 : (ss top &&& ((((a_nodeFree n) &&& (((a_nodeFree j) &&& ((rc_b1 y ||| rc_b1 z) ^^^ (-1))) ^^^ (-1))) &&& (rc_b1 x ^^^ (-1))) ^^^ (-1))) = Z1 at hbits I3 p3
  have hfvl : bt (a_nodeFree j) y = true → rc_FV col1 (a_cellLeft c) := fun hb => rc_FV_m fl fun d hd hd0 e => p3 d hd0 (by
    simp only [hb, if_true]
    rw [rc_is_s e]; omega)
  have hfvr : bt (a_nodeFree j) z = true → rc_FV col1 (a_cellRight c) := fun hb => rc_FV_m frr fun d hd hd0 e => p3 d hd0 (by
    simp only [hb, if_true]
    rw [rc_is_s e]; omega)
  -- the two ways: x still wanted, or spent
  have K : ∃ (col' : Nat → Nat) (F' : List Nat) (S' : Nat → List Nat) (ho' li' de' sh' sc' : Nat → Int32) (fh' lc' st' : Int32), (rc_XI 0 fr (fun d => 0 + (if bt (a_nodeFree j) y = true then rc_is (a_cellLeft c) d else 0) + (if bt (a_nodeFree j) z = true then rc_is (a_cellRight c) d else 0)) (rc_ow fr (upd ss top ((a_nodeFree j) &&& ((rc_b1 y ||| rc_b1 z) ^^^ (-1))))) col' ([]) F' S' fs f_counted a_slots a_cellLeft a_cellRight ho' li' de' sh' sc' 0 fh' f_fresh lc' st') ∧ (∀ x, col' x = 0 → col1 x = 0) ∧ (bt (a_nodeFree j) y = true → rc_FV col' (a_cellLeft c)) ∧ (bt (a_nodeFree j) z = true → rc_FV col' (a_cellRight c)) ∧ ((col' c = 0 ∧ S' = S) ∨ (col' c ≠ 0 ∧ S' = rc_us S top (c :: S top))) ∧ (f_counted = 0 → col' = col1 ∧ F' = F1 ∧ S' = S) ∧ ∀ (post : SX → Prop) (A : Prop), (post (f_kindRet, f_kindTail, f_kindBind, f_kindCon, f_kindPrim, f_kindCall, f_kindMatch, f_kindTest, f_cellBase, f_heapSize, f_depthLimit, f_nodeLimit, f_nodeCount, f_fragmentCount, f_frames, f_at, 0, fh3, f_fresh, lc3, f_spareTotal, f_counted, f_status, f_made, f_reused, f_peak, f_calls, f_result, f_resultCells, a_nodeKind, a_nodeX, a_nodeParam, a_nodeA, a_nodeB, a_nodeNext, a_nodeElse, a_nodeFree, a_nodeNeed, a_fragments, a_body, a_slots, a_waiting, a_spareHead, a_spareCount, a_cellTag, a_cellLeft, a_cellRight, ho3, li3, de3, a_cellOfNumber, a_numberOfCell, a_places, a_walk) → A) → post (f_kindRet, f_kindTail, f_kindBind, f_kindCon, f_kindPrim, f_kindCall, f_kindMatch, f_kindTest, f_cellBase, f_heapSize, f_depthLimit, f_nodeLimit, f_nodeCount, f_fragmentCount, f_frames, f_at, 0, fh', f_fresh, lc', st', f_counted, f_status, f_made, f_reused, f_peak, f_calls, f_result, f_resultCells, a_nodeKind, a_nodeX, a_nodeParam, a_nodeA, a_nodeB, a_nodeNext, a_nodeElse, a_nodeFree, a_nodeNeed, a_fragments, a_body, a_slots, a_waiting, sh', sc', a_cellTag, a_cellLeft, a_cellRight, ho', li', de', a_cellOfNumber, a_numberOfCell, a_places, a_walk) → ((((a_nodeFree j) &&& ((rc_b1 y ||| rc_b1 z) ^^^ (-1))) &&& rc_b1 x = 0 → wpX_spend post (f_kindRet, f_kindTail, f_kindBind, f_kindCon, f_kindPrim, f_kindCall, f_kindMatch, f_kindTest, f_cellBase, f_heapSize, f_depthLimit, f_nodeLimit, f_nodeCount, f_fragmentCount, f_frames, f_at, 0, fh3, f_fresh, lc3, f_spareTotal, f_counted, f_status, f_made, f_reused, f_peak, f_calls, f_result, f_resultCells, a_nodeKind, a_nodeX, a_nodeParam, a_nodeA, a_nodeB, a_nodeNext, a_nodeElse, a_nodeFree, a_nodeNeed, a_fragments, a_body, a_slots, a_waiting, a_spareHead, a_spareCount, a_cellTag, a_cellLeft, a_cellRight, ho3, li3, de3, a_cellOfNumber, a_numberOfCell, a_places, a_walk) (nI c)) ∧ (¬ ((a_nodeFree j) &&& ((rc_b1 y ||| rc_b1 z) ^^^ (-1))) &&& rc_b1 x = 0 → A)) := by
    have hown1 : rc_ow fr (upd ss top Z1) (12 * top + x) = true := by
      rw [rc_ow_i ht2 hx, pk_us, hbits x hx]; simp
    by_cases hkx : bt (a_nodeFree j) x = true
    · have e : rc_ow fr (upd ss top Z1) = rc_ow fr (upd ss top ((a_nodeFree j) &&& ((rc_b1 y ||| rc_b1 z) ^^^ (-1)))) := rc_ow_ext fun f hf s hs => by
        by_cases q : f = top
        · subst q
          rw [pk_us, pk_us, hbits s hs, hkb s hs]
          by_cases e1 : s = x
          · subst e1; simp [hkx, hxy, hxz]
          · simp [e1]
        · rw [pk_un q, pk_un q]
      rw [e] at I3
      have hc1 : col1 c = 0 := by
        rw [← e] at I3
        rcases I3.1.2.2.2 (12 * top + x) (by omega) hown1 with ⟨w, e⟩ | ⟨d, hd, hd0, e⟩
        · exact absurd (e.symm.trans hsl) (rc_i_ne w (by omega))
        · rw [hsl] at e; rw [rc_cv_inj (by omega) (by omega) e]; exact hd0
      refine ⟨col1, F1, S, ho3, li3, de3, a_spareHead, a_spareCount, fh3, lc3, f_spareTotal, I3, fun _ h => h, hfvl, hfvr, Or.inl ⟨hc1, rfl⟩, fun _ => ⟨rfl, rfl, rfl⟩, fun post A hA hp => br_f (fun w => ?_) (hA hp)⟩
      have := (rc_tx hx).mp w
      rw [hkb x hx, hkx] at this
      simp [hxy, hxz] at this
    · have hkx' : bt (a_nodeFree j) x = false := rc_nt hkx
      obtain ⟨col2, F2, S2, ho4, li4, de4, sh4, sc4, fh4, lc4, st4, I4, q1, q2, q3, q4, q5, W4⟩ := rx_spend (f_kindRet := f_kindRet) (f_kindTail := f_kindTail) (f_kindBind := f_kindBind) (f_kindCon := f_kindCon) (f_kindPrim := f_kindPrim) (f_kindCall := f_kindCall) (f_kindMatch := f_kindMatch) (f_kindTest := f_kindTest) (f_cellBase := f_cellBase) (f_heapSize := f_heapSize) (f_depthLimit := f_depthLimit) (f_nodeLimit := f_nodeLimit) (f_nodeCount := f_nodeCount) (f_fragmentCount := f_fragmentCount) (f_frames := f_frames) (f_at := f_at) (f_deadCount := 0) (f_freeHead := fh3) (f_fresh := f_fresh) (f_liveCells := lc3) (f_spareTotal := f_spareTotal) (f_counted := f_counted) (f_status := f_status) (f_made := f_made) (f_reused := f_reused) (f_peak := f_peak) (f_calls := f_calls) (f_result := f_result) (f_resultCells := f_resultCells) (a_nodeKind := a_nodeKind) (a_nodeX := a_nodeX) (a_nodeParam := a_nodeParam) (a_nodeA := a_nodeA) (a_nodeB := a_nodeB) (a_nodeNext := a_nodeNext) (a_nodeElse := a_nodeElse) (a_nodeFree := a_nodeFree) (a_nodeNeed := a_nodeNeed) (a_fragments := a_fragments) (a_body := a_body) (a_slots := a_slots) (a_waiting := a_waiting) (a_spareHead := a_spareHead) (a_spareCount := a_spareCount) (a_cellTag := a_cellTag) (a_cellLeft := a_cellLeft) (a_cellRight := a_cellRight) (a_holds := ho3) (a_link := li3) (a_dead := de3) (a_cellOfNumber := a_cellOfNumber) (a_numberOfCell := a_numberOfCell) (a_places := a_places) (a_walk := a_walk) (i := 12 * top + x) (c := c) (top := top) (by omega) hown1 hsl hc ht2 hfr16 hf I3
      have e : rc_st (rc_ow fr (upd ss top Z1)) (12 * top + x) false = rc_ow fr (upd ss top ((a_nodeFree j) &&& ((rc_b1 y ||| rc_b1 z) ^^^ (-1)))) := by
        rw [rc_ow_st (Z := (a_nodeFree j) &&& ((rc_b1 y ||| rc_b1 z) ^^^ (-1))) ht2 hx (fun q hq hne => by rw [pk_us, hbits q hq, hkb q hq]; simp [hne]) (by rw [hkb x hx, hkx']; rfl), rc_upd2]
      rw [e] at I4 q3
      refine ⟨col2, F2, S2, ho4, li4, de4, sh4, sc4, fh4, lc4, st4, I4, q1, fun hb => ?_, fun hb => ?_, q4, q5, fun post A hA hp => br_t ?_ (W4 post hp)⟩
      · refine rc_FV_m (hfvl hb) fun d hd hd0 e => q3 d hd hd0 ?_
        simp only [hb, if_true]
        rw [rc_is_s e]; omega
      · refine rc_FV_m (hfvr hb) fun d hd hd0 e => q3 d hd hd0 ?_
        simp only [hb, if_true]
        rw [rc_is_s e]; omega
      · refine (rc_tx hx).mpr ?_
        rw [hkb x hx, hkx']; rfl
  obtain ⟨col2, F2, S2, ho4, li4, de4, sh4, sc4, fh4, lc4, st4, I4, q1, q2, q3, q4, q5, W4⟩ := K
  have eE : (fun d => 0 + (if bt (a_nodeFree j) y = true then rc_is (a_cellLeft c) d else 0) + (if bt (a_nodeFree j) z = true then rc_is (a_cellRight c) d else 0)) = (fun d => (fun x => 0 + (if bt (a_nodeFree j) z = true then rc_is (a_cellRight c) x else 0)) d + (if bt (a_nodeFree j) y = true then rc_is (a_cellLeft c) d else 0)) := by
    funext d
    show _ = 0 + _ + _
    omega
  rw [eE] at I4
  have I5 := rc_assign (E := fun x => 0 + (if bt (a_nodeFree j) z = true then rc_is (a_cellRight c) x else 0)) (b := bt (a_nodeFree j) y) (v := a_cellLeft c) (i := 12 * top + y) (by omega) (by rw [rc_ow_i ht2 hy, pk_us, hkb y hy]; simp) q2 I4
  have I6 := rc_assign (E := fun _ => 0) (b := bt (a_nodeFree j) z) (v := a_cellRight c) (i := 12 * top + z) (by omega) (by
    unfold rc_st
    rw [if_neg (by omega), rc_ow_i ht2 hz, pk_us, hkb z hz]; simp) q3 I5
  have e : rc_st (rc_st (rc_ow fr (upd ss top ((a_nodeFree j) &&& ((rc_b1 y ||| rc_b1 z) ^^^ (-1))))) (12 * top + y) (bt (a_nodeFree j) y)) (12 * top + z) (bt (a_nodeFree j) z) = rc_ow fr (upd ss top (a_nodeFree j)) := by
    funext i
    unfold rc_st rc_ow
    have hm : i % 12 < 12 := Nat.mod_lt _ (by decide)
    by_cases e1 : i / 12 = top
    · rw [e1, pk_us, pk_us, hkb (i % 12) hm, decide_eq_true ht2, Bool.true_and, Bool.true_and]
      by_cases r1 : i = 12 * top + z
      · rw [if_pos r1, show i % 12 = z from by omega]
      · rw [if_neg r1]
        by_cases r2 : i = 12 * top + y
        · rw [if_pos r2, show i % 12 = y from by omega]
        · rw [if_neg r2, decide_eq_false (by omega), decide_eq_false (by omega)]
          simp
    · rw [if_neg (by omega), if_neg (by omega), pk_un e1, pk_un e1]
  rw [e] at I6
  refine ⟨col2, F2, S2, ho4, li4, de4, sh4, sc4, fh4, lc4, st4, I6, fun d hd => p1 d (q1 d hd), q4, fun h => ?_, fun post hp => ?_⟩
  · obtain ⟨a1, a2⟩ := p4 h
    obtain ⟨b1, b2, b3⟩ := q5 h
    exact ⟨b1.trans a1, b2.trans a2, b3⟩
  · refine ⟨hinn, nm_r (e' := nI j) (by rw [en]; exact hnx) ⟨hinj, nm_r (e' := a_nodeFree j) (by rw [ej]) ⟨hinn, nm_r (e' := rc_b1 x) (by rw [en, hxx]; rfl) ⟨hinn, nm_r (e' := rc_b1 y) (by rw [en, hna]; rfl) ⟨hinn, nm_r (e' := rc_b1 z) (by rw [en, hnb]; rfl) ⟨hinc, nm_r (e' := a_cellLeft c) (by rw [ec]) ⟨hinc, nm_r (e' := a_cellRight c) (by rw [ec]) ?_⟩⟩⟩⟩⟩⟩⟩
    refine W1 _ _ (fun h => h) ?_
    refine W2 _ _ (fun h => h) ?_
    refine nm_e ⟨hinn, ?_⟩
    rw [en]
    refine W3 _ ?_
    refine W4 _ _ (fun h => h) ?_
    have ey : (f_frames - 1) * 12 + a_nodeA (nI n).toNatClampNeg = nI (12 * top + y) := by rw [en, hna, rc_low_i hf]
    have ez : (f_frames - 1) * 12 + a_nodeB (nI n).toNatClampNeg = nI (12 * top + z) := by rw [en, hnb, rc_low_i hf]
    refine ⟨hinn, ?_, nm_r (e' := vp_updL a_slots (12 * top + y) (a_cellLeft c)) ?_ ⟨hinn, ?_, nm_r (e' := vp_updL (vp_updL a_slots (12 * top + y) (a_cellLeft c)) (12 * top + z) (a_cellRight c)) ?_ hp⟩⟩
    · rw [ey]; exact vp_in_nI (by omega) (by decide)
    · rw [ey, nI_clamp (by omega)]
    · rw [ez]; exact vp_in_nI (by omega) (by decide)
    · rw [ez, nI_clamp (by omega)]
end
end
section
section
variable {fr : Nat} {φ : Nat → Nat} {ss sk sn : Nat → Int32} {sl : Nat → Int64}
theorem rc_SV_two {top y z : Nat} {Z : Int32} {vy vz : Int64} {ky qy kz qz : Int32} (hy : y < 12) (hz : z < 12) (hyz : y ≠ z) (hsub : ∀ s, s < 12 → bt Z s = true → s ≠ y → s ≠ z → bt (ss top) s = true) (hvy : bt Z y = true → rc_VR φ vy ky qy) (hvz : bt Z z = true → rc_VR φ vz kz qz) (h : rc_SV (rc_ow fr ss) φ sl sk sn) : rc_SV (rc_ow fr (upd ss top Z)) φ (vp_updL (vp_updL sl (12 * top + y) vy) (12 * top + z) vz) (upd (upd sk (12 * top + y) ky) (12 * top + z) kz) (upd (upd sn (12 * top + y) qy) (12 * top + z) qz) := by
  intro i hi ho
  obtain ⟨h1, h2⟩ := rc_ow_t ho
  have hm : i % 12 < 12 := Nat.mod_lt _ (by decide)
  by_cases e : i = 12 * top + z
  · have e1 : i / 12 = top := by omega
    have e2 : i % 12 = z := by omega
    rw [e1, e2, pk_us] at h2
    subst e; rw [pk_uLs, pk_us, pk_us]; exact hvz h2
  · rw [pk_uLn e, pk_un e, pk_un e]
    by_cases e' : i = 12 * top + y
    · have e1 : i / 12 = top := by omega
      have e2 : i % 12 = y := by omega
      rw [e1, e2, pk_us] at h2
      subst e'; rw [pk_uLs, pk_us, pk_us]; exact hvy h2
    · rw [pk_uLn e', pk_un e', pk_un e']
      apply h i hi
      unfold rc_ow
      rw [decide_eq_true h1, Bool.true_and]
      by_cases e1 : i / 12 = top
      · rw [e1, pk_us] at h2
        rw [e1]
        exact hsub (i % 12) hm h2 (fun e2 => by omega) (fun e2 => by omega)
      · rw [pk_un e1] at h2; exact h2
end
section
variable {f_kindRet f_kindTail f_kindBind f_kindCon f_kindPrim f_kindCall f_kindMatch f_kindTest f_heapSize f_depthLimit f_nodeLimit f_nodeCount f_fragmentCount f_frames f_at f_deadCount f_freeHead f_fresh f_liveCells f_spareTotal f_counted f_status f_made f_reused f_peak f_calls f_resultCells : Int32} {f_cellBase f_result : Int64} {a_nodeKind a_nodeX a_nodeParam a_nodeA a_nodeB a_nodeNext a_nodeElse a_nodeFree a_nodeNeed a_fragments a_body a_waiting a_spareHead a_spareCount a_cellTag a_holds a_link a_dead a_cellOfNumber a_numberOfCell a_places a_walk : Nat → Int32} {a_slots a_cellLeft a_cellRight : Nat → Int64}
variable {g_frames g_status g_resKind g_resNumber g_numbered : Int32} {b_nodeA b_nodeB b_scratch b_slotKind b_slotNumber b_spares b_cellTag b_partKind b_partNumber b_live b_order b_todo : Nat → Int32}
variable {n stp nc hs dl fr m ca fs : Nat} {nd φ col : Nat → Nat} {F : List Nat} {S : Nat → List Nat} {ss : Nat → Int32}
/-- MATCH -/
theorem rs_match (G : (rc_EG n stp nc hs dl fr m ca fs nd φ col F S ss f_heapSize f_depthLimit f_nodeLimit f_nodeCount f_fragmentCount f_frames f_at f_deadCount f_freeHead f_fresh f_liveCells f_spareTotal f_counted f_made f_peak f_calls f_resultCells a_nodeKind a_nodeX a_nodeParam a_nodeA a_nodeB a_nodeNext a_nodeElse a_nodeFree a_nodeNeed a_fragments a_body a_slots a_waiting a_spareHead a_spareCount a_cellTag a_cellLeft a_cellRight a_holds a_link a_dead g_frames g_status g_resKind g_numbered b_nodeA b_nodeB b_slotKind b_slotNumber b_spares b_cellTag b_partKind b_partNumber)) (hk : a_nodeKind n = 6) : ∃ (n' : Nat) (u' : SX) (v' : SY), rc_ER n' (stp + 1) u' v' ∧ (∀ post : Int32 → SX → Prop, post 0 u' → wpX_stepMatch post (f_kindRet, f_kindTail, f_kindBind, f_kindCon, f_kindPrim, f_kindCall, f_kindMatch, f_kindTest, f_cellBase, f_heapSize, f_depthLimit, f_nodeLimit, f_nodeCount, f_fragmentCount, f_frames, f_at, f_deadCount, f_freeHead, f_fresh, f_liveCells, f_spareTotal, f_counted, f_status, f_made, f_reused, f_peak, f_calls, f_result, f_resultCells, a_nodeKind, a_nodeX, a_nodeParam, a_nodeA, a_nodeB, a_nodeNext, a_nodeElse, a_nodeFree, a_nodeNeed, a_fragments, a_body, a_slots, a_waiting, a_spareHead, a_spareCount, a_cellTag, a_cellLeft, a_cellRight, a_holds, a_link, a_dead, a_cellOfNumber, a_numberOfCell, a_places, a_walk)) ∧ (∀ post : Int32 → SY → Prop, post (nI n') v' → wpY_step post (f_heapSize, f_depthLimit, f_nodeLimit, f_nodeCount, f_fragmentCount, g_frames, f_made, f_counted, f_reused, f_peak, f_calls, g_status, g_resKind, g_resNumber, g_numbered, a_nodeKind, a_nodeX, a_nodeParam, b_nodeA, b_nodeB, a_nodeNext, a_nodeElse, b_scratch, a_fragments, a_body, b_slotKind, b_slotNumber, b_spares, a_waiting, b_cellTag, b_partKind, b_partNumber, b_live, b_order, b_todo) (nI n)) := by
  have G0 := G
  obtain ⟨hST, hFT, hNU, hSS, hWT, hSP, hXI, hSV, hHR, hYW, hPL, hRN, hME⟩ := G
  obtain ⟨f1, f2, hfr, hgf, hat, hn, hmade, hm, hcalls, hca, hfs, hst, hrk, hnum, hrc⟩ := hNU
  obtain ⟨top, rfl⟩ : ∃ t, fr = t + 1 := ⟨fr - 1, by omega⟩
  have hnc := hST.1
  have hdl := hST.2.2.2.2.2.2.2.1
  obtain ⟨x, y, z, j, e, hx, hy, hz, hxy, hxz, hyz, hxx, hna, hnb, hya, hyb, hj, he, hnx, hel, hbx, hsj, hse⟩ := rc_nd6 (hST.2.1 n hn) hk
  have htop : top < 16 := by omega
  have hsst : ss top = a_nodeFree n := hSS.1
  have en : (nI n).toNatClampNeg = n := nI_clamp (by omega)
  have hinn : vp_in (nI n) 48 := vp_in_nI (by omega) (by decide)
  have hox : rc_op (nI x) := Or.inr ⟨x, hx, rfl⟩
  have hvr := rc_val_VR (o := nI x) (Nat.lt_succ_self top) (by omega) hox (fun s hs q => by rw [hsst, ← rc_n_of (by omega) (by omega) q]; exact hbx) hSV
  have hfv := rc_val_FV (o := nI x) (Nat.lt_succ_self top) (by omega) hox (fun s hs q => by rw [hsst, ← rc_n_of (by omega) (by omega) q]; exact hbx) hXI.1
  have ev : rc_val top a_slots (nI x) = a_slots (12 * top + x) := by
    unfold rc_val; rw [if_neg (nI_pos (by omega)), nI_clamp (by omega)]
  rw [ev] at hvr hfv
  have e12 : (f_frames - 1) * 12 + a_nodeX (nI n).toNatClampNeg = nI (12 * top + x) := by rw [en, hxx, rc_low_i hfr]
  have h6 : ¬ a_nodeKind n = 7 := by rw [hk]; decide
  rcases hvr with ⟨ka, ea⟩ | ⟨ka, c, hc, ea, na⟩
  · obtain ⟨u', R, W⟩ := rs_goto G0 he hse
    refine ⟨e, u', (f_heapSize, f_depthLimit, f_nodeLimit, f_nodeCount, f_fragmentCount, g_frames, f_made, f_counted, f_reused, f_peak, f_calls, g_status, g_resKind, g_resNumber, g_numbered, a_nodeKind, a_nodeX, a_nodeParam, b_nodeA, b_nodeB, a_nodeNext, a_nodeElse, b_scratch, a_fragments, a_body, b_slotKind, b_slotNumber, b_spares, a_waiting, b_cellTag, b_partKind, b_partNumber, b_live, b_order, b_todo), R, fun post hp => ?_, fun post hp => ?_⟩
    · subst hat
      refine ⟨hinn, by rw [e12]; exact vp_in_nI (by omega) (by decide), nm_r (e' := a_slots (12 * top + x)) (by rw [e12, nI_clamp (by omega)]) ?_⟩
      rw [ea]
      refine rx_isCell_i _ (br_t rfl (br_t rfl ⟨hinn, ?_⟩))
      rw [en, hel]
      exact W _ hp
    · refine ⟨hinn, nm_r (e' := 6) (by rw [en]; exact hk) (br_t rfl ⟨hinn, ?_⟩)⟩
      rw [en, hxx]
      refine ry_kat (top := top) hox hgf htop _ ⟨hinn, ry_nat (top := top) hox hgf htop _ ⟨hinn, br_f h6 (br_f (by rw [ka]; decide) ⟨hinn, ?_⟩)⟩⟩
      rw [hel]; exact hp
  · have hc0 : col c = 0 := by
      rcases hfv with ⟨w, q⟩ | ⟨d, hd, hd0, q⟩
      · exact absurd (q.symm.trans ea) (rc_i_ne w (by omega))
      · rw [ea] at q; rw [rc_cv_inj (by omega) (by omega) q]; exact hd0
    obtain ⟨hφm, htag, hvl, hvrr⟩ := hHR.1 c hc0
    have ec : (nI c).toNatClampNeg = c := nI_clamp (by omega)
    have eφ : (nI (φ c)).toNatClampNeg = φ c := nI_clamp (by omega)
    have hinφ : vp_in (nI (φ c)) 200 := vp_in_nI (by omega) (by decide)
    by_cases htg : a_cellTag c = a_nodeParam n
    · obtain ⟨col', F', S', ho', li', de', sh', sc', fh', lc', st', I', p1, p2, p3, W⟩ := rx_openCell (f_kindRet := f_kindRet) (f_kindTail := f_kindTail) (f_kindBind := f_kindBind) (f_kindCon := f_kindCon) (f_kindPrim := f_kindPrim) (f_kindCall := f_kindCall) (f_kindMatch := f_kindMatch) (f_kindTest := f_kindTest) (f_cellBase := f_cellBase) (f_heapSize := f_heapSize) (f_depthLimit := f_depthLimit) (f_nodeLimit := f_nodeLimit) (f_nodeCount := f_nodeCount) (f_fragmentCount := f_fragmentCount) (f_frames := f_frames) (f_at := f_at) (f_deadCount := f_deadCount) (f_freeHead := f_freeHead) (f_fresh := f_fresh) (f_liveCells := f_liveCells) (f_spareTotal := f_spareTotal) (f_counted := f_counted) (f_status := f_status) (f_made := f_made) (f_reused := f_reused) (f_peak := f_peak) (f_calls := f_calls) (f_result := f_result) (f_resultCells := f_resultCells) (a_nodeKind := a_nodeKind) (a_nodeX := a_nodeX) (a_nodeParam := a_nodeParam) (a_nodeA := a_nodeA) (a_nodeB := a_nodeB) (a_nodeNext := a_nodeNext) (a_nodeElse := a_nodeElse) (a_nodeFree := a_nodeFree) (a_nodeNeed := a_nodeNeed) (a_fragments := a_fragments) (a_body := a_body) (a_slots := a_slots) (a_waiting := a_waiting) (a_spareHead := a_spareHead) (a_spareCount := a_spareCount) (a_cellTag := a_cellTag) (a_cellLeft := a_cellLeft) (a_cellRight := a_cellRight) (a_holds := a_holds) (a_link := a_link) (a_dead := a_dead) (a_cellOfNumber := a_cellOfNumber) (a_numberOfCell := a_numberOfCell) (a_places := a_places) (a_walk := a_walk) (n := n) (j := j) (x := x) (y := y) (z := z) (top := top) (c := c) (by omega) (by omega) hx hy hz hxy hxz hyz (by omega) (Nat.lt_succ_self top) hnx hxx hna hnb hfr hbx hsj hsst hc ea hXI
      have SV' := rc_SV_two (Z := a_nodeFree j) (vy := a_cellLeft c) (vz := a_cellRight c) hy hz hyz (fun s hs hb h1 h2 => by rw [hsst]; exact hsj s hs hb h1 h2) (fun _ => hvl) (fun _ => hvrr) hSV
      have HR' := rc_HR_mono p1 hHR
      have hsum : rc_ct col' + rc_sm (fun f => (S' f).length) (top + 1) ≤ rc_ct col + rc_sm (fun f => (S f).length) (top + 1) := by
        rcases p2 with ⟨q1, q2⟩ | ⟨q1, q2⟩
        · rw [q2]; have := rc_ct_mono p1; omega
        · have h1 := rc_us_sm (S := S) (f := top) (fr := top + 1) (l := c :: S top) (Nat.lt_succ_self top)
          have h2 := rc_ct_off (col := col) (c := c) (k := 1000) hc hc0 (by omega)
          have h3 : rc_ct col' ≤ rc_ct (rc_up col c 1000) := rc_ct_mono fun d hd => by
            have hne : d ≠ c := fun e => q1 (e ▸ hd)
            rw [rc_up_n hne]; exact p1 d hd
          rw [q2]
          simp only [List.length_cons] at h1
          omega
      have XW : ∀ (post : Int32 → SX → Prop), post 0 (f_kindRet, f_kindTail, f_kindBind, f_kindCon, f_kindPrim, f_kindCall, f_kindMatch, f_kindTest, f_cellBase, f_heapSize, f_depthLimit, f_nodeLimit, f_nodeCount, f_fragmentCount, f_frames, nI j, 0, fh', f_fresh, lc', st', f_counted, f_status, f_made, f_reused, f_peak, f_calls, f_result, f_resultCells, a_nodeKind, a_nodeX, a_nodeParam, a_nodeA, a_nodeB, a_nodeNext, a_nodeElse, a_nodeFree, a_nodeNeed, a_fragments, a_body, vp_updL (vp_updL a_slots (12 * top + y) (a_cellLeft c)) (12 * top + z) (a_cellRight c), a_waiting, sh', sc', a_cellTag, a_cellLeft, a_cellRight, ho', li', de', a_cellOfNumber, a_numberOfCell, a_places, a_walk) → wpX_stepMatch post (f_kindRet, f_kindTail, f_kindBind, f_kindCon, f_kindPrim, f_kindCall, f_kindMatch, f_kindTest, f_cellBase, f_heapSize, f_depthLimit, f_nodeLimit, f_nodeCount, f_fragmentCount, f_frames, f_at, f_deadCount, f_freeHead, f_fresh, f_liveCells, f_spareTotal, f_counted, f_status, f_made, f_reused, f_peak, f_calls, f_result, f_resultCells, a_nodeKind, a_nodeX, a_nodeParam, a_nodeA, a_nodeB, a_nodeNext, a_nodeElse, a_nodeFree, a_nodeNeed, a_fragments, a_body, a_slots, a_waiting, a_spareHead, a_spareCount, a_cellTag, a_cellLeft, a_cellRight, a_holds, a_link, a_dead, a_cellOfNumber, a_numberOfCell, a_places, a_walk) := by
        intro post hp
        subst hat
        refine ⟨hinn, by rw [e12]; exact vp_in_nI (by omega) (by decide), nm_r (e' := a_slots (12 * top + x)) (by rw [e12, nI_clamp (by omega)]) ?_⟩
        rw [ea]
        refine rx_isCell_c hc _ (br_f (by decide) ?_)
        rw [rc_cv_sub (by omega)]
        refine ⟨vp_in_nI hc (by decide), hinn, br_t (by rw [ec, en]; exact htg) (br_f (by decide) (nm_r (e' := nI c) (rc_cv_sub (by omega)) ?_))⟩
        exact W _ hp
      have MK : ∀ (sp sc2 lv : Nat → Int32), rc_SP (top + 1) S' sp → rc_ER j (stp + 1) (f_kindRet, f_kindTail, f_kindBind, f_kindCon, f_kindPrim, f_kindCall, f_kindMatch, f_kindTest, f_cellBase, f_heapSize, f_depthLimit, f_nodeLimit, f_nodeCount, f_fragmentCount, f_frames, nI j, 0, fh', f_fresh, lc', st', f_counted, f_status, f_made, f_reused, f_peak, f_calls, f_result, f_resultCells, a_nodeKind, a_nodeX, a_nodeParam, a_nodeA, a_nodeB, a_nodeNext, a_nodeElse, a_nodeFree, a_nodeNeed, a_fragments, a_body, vp_updL (vp_updL a_slots (12 * top + y) (a_cellLeft c)) (12 * top + z) (a_cellRight c), a_waiting, sh', sc', a_cellTag, a_cellLeft, a_cellRight, ho', li', de', a_cellOfNumber, a_numberOfCell, a_places, a_walk) (f_heapSize, f_depthLimit, f_nodeLimit, f_nodeCount, f_fragmentCount, g_frames, f_made, f_counted, f_reused, f_peak, f_calls, g_status, g_resKind, g_resNumber, g_numbered, a_nodeKind, a_nodeX, a_nodeParam, b_nodeA, b_nodeB, a_nodeNext, a_nodeElse, sc2, a_fragments, a_body, upd (upd b_slotKind (12 * top + y) (b_partKind (2 * φ c))) (12 * top + z) (b_partKind (2 * φ c + 1)), upd (upd b_slotNumber (12 * top + y) (b_partNumber (2 * φ c))) (12 * top + z) (b_partNumber (2 * φ c + 1)), sp, a_waiting, b_cellTag, b_partKind, b_partNumber, lv, b_order, b_todo) := by
        intro sp sc2 lv hsp
        refine rc_ER_mk ⟨hST, hFT, ⟨f1, f2, hfr, hgf, rfl, by omega, hmade, hm, hcalls, hca, hfs, hst, hrk, hnum, hrc⟩, rc_SS_top hSS, hWT, hsp, I', SV', HR', hYW, fun h => ?_, fun h => ?_, ?_⟩
        · obtain ⟨e1, e2, e3⟩ := p3 h
          subst e1 e2 e3
          exact hPL h
        · have := hRN h
          omega
        · unfold rc_ME at hME ⊢; omega
      have e2 : (2 : Int32) * nI (φ c) = nI (2 * φ c) := pk_mul 2 (φ c)
      have e21 : (2 : Int32) * nI (φ c) + 1 = nI (2 * φ c + 1) := by rw [e2, nI_1]
      have YW1 : ∀ (post : Int32 → SY → Prop), ((f_counted = 0 → post (nI j) (f_heapSize, f_depthLimit, f_nodeLimit, f_nodeCount, f_fragmentCount, g_frames, f_made, f_counted, f_reused, f_peak, f_calls, g_status, g_resKind, g_resNumber, g_numbered, a_nodeKind, a_nodeX, a_nodeParam, b_nodeA, b_nodeB, a_nodeNext, a_nodeElse, b_scratch, a_fragments, a_body, upd (upd b_slotKind (12 * top + y) (b_partKind (2 * φ c))) (12 * top + z) (b_partKind (2 * φ c + 1)), upd (upd b_slotNumber (12 * top + y) (b_partNumber (2 * φ c))) (12 * top + z) (b_partNumber (2 * φ c + 1)), b_spares, a_waiting, b_cellTag, b_partKind, b_partNumber, b_live, b_order, b_todo)) ∧ (¬ f_counted = 0 → wpY_markLive (fun u => match u with | (g_heapSize, g_depthLimit, g_nodeLimit, g_nodeCount, g_fragCount, g_frames, g_made, g_inRun, g_reused, g_peak, g_calls, g_status, g_resKind, g_resNumber, g_numbered, b_nodeKind, b_nodeX, b_nodeT, b_nodeA, b_nodeB, b_nodeNext, b_nodeElse, b_scratch, b_frag, b_body, b_slotKind, b_slotNumber, b_spares, b_waits, b_cellTag, b_partKind, b_partNumber, b_live, b_order, b_todo) => (vp_in (nI (φ c)) 200 ∧ ((b_live (φ c) = 0 → (vp_in (g_frames - 1) 16 ∧ (vp_in (g_frames - 1) 16 ∧ ∀ sp, sp = upd b_spares (g_frames - 1).toNatClampNeg (b_spares (g_frames - 1).toNatClampNeg + 1) → (vp_in (nI n) 48 ∧ post (b_nodeNext n) (g_heapSize, g_depthLimit, g_nodeLimit, g_nodeCount, g_fragCount, g_frames, g_made, g_inRun, g_reused, g_peak, g_calls, g_status, g_resKind, g_resNumber, g_numbered, b_nodeKind, b_nodeX, b_nodeT, b_nodeA, b_nodeB, b_nodeNext, b_nodeElse, b_scratch, b_frag, b_body, b_slotKind, b_slotNumber, sp, b_waits, b_cellTag, b_partKind, b_partNumber, b_live, b_order, b_todo))))) ∧ (¬ b_live (φ c) = 0 → (vp_in (nI n) 48 ∧ post (b_nodeNext n) (g_heapSize, g_depthLimit, g_nodeLimit, g_nodeCount, g_fragCount, g_frames, g_made, g_inRun, g_reused, g_peak, g_calls, g_status, g_resKind, g_resNumber, g_numbered, b_nodeKind, b_nodeX, b_nodeT, b_nodeA, b_nodeB, b_nodeNext, b_nodeElse, b_scratch, b_frag, b_body, b_slotKind, b_slotNumber, b_spares, b_waits, b_cellTag, b_partKind, b_partNumber, b_live, b_order, b_todo)))))) (f_heapSize, f_depthLimit, f_nodeLimit, f_nodeCount, f_fragmentCount, g_frames, f_made, f_counted, f_reused, f_peak, f_calls, g_status, g_resKind, g_resNumber, g_numbered, a_nodeKind, a_nodeX, a_nodeParam, b_nodeA, b_nodeB, a_nodeNext, a_nodeElse, b_scratch, a_fragments, a_body, upd (upd b_slotKind (12 * top + y) (b_partKind (2 * φ c))) (12 * top + z) (b_partKind (2 * φ c + 1)), upd (upd b_slotNumber (12 * top + y) (b_partNumber (2 * φ c))) (12 * top + z) (b_partNumber (2 * φ c + 1)), b_spares, a_waiting, b_cellTag, b_partKind, b_partNumber, b_live, b_order, b_todo) (nI j))) → wpY_step post (f_heapSize, f_depthLimit, f_nodeLimit, f_nodeCount, f_fragmentCount, g_frames, f_made, f_counted, f_reused, f_peak, f_calls, g_status, g_resKind, g_resNumber, g_numbered, a_nodeKind, a_nodeX, a_nodeParam, b_nodeA, b_nodeB, a_nodeNext, a_nodeElse, b_scratch, a_fragments, a_body, b_slotKind, b_slotNumber, b_spares, a_waiting, b_cellTag, b_partKind, b_partNumber, b_live, b_order, b_todo) (nI n) := by
        intro post hp
        refine ⟨hinn, nm_r (e' := 6) (by rw [en]; exact hk) (br_t rfl ⟨hinn, ?_⟩)⟩
        rw [en, hxx]
        refine ry_kat (top := top) hox hgf htop _ ⟨hinn, ry_nat (top := top) hox hgf htop _ ⟨hinn, br_f h6 (br_t ka ?_)⟩⟩
        rw [na, eφ, e21, e2, nI_clamp (by omega), nI_clamp (by omega), hya]
        refine ⟨hinφ, hinn, br_t (htag.trans htg) ⟨hinn, vp_in_nI (by omega) (by decide), vp_in_nI (by omega) (by decide), ?_⟩⟩
        refine ry_put (top := top) hy hgf htop _ ⟨hinn, vp_in_nI (by omega) (by decide), vp_in_nI (by omega) (by decide), ?_⟩
        rw [hyb]
        refine ry_put (top := top) hz hgf htop _ ?_
        refine ⟨fun h => ⟨hinn, ?_⟩, fun h => ⟨hinn, ?_⟩⟩
        · rw [hnx]; exact hp.1 h
        · rw [hnx]; exact hp.2 h
      by_cases hct : f_counted = 0
      · obtain ⟨e1, e2', e3⟩ := p3 hct
        exact ⟨j, _, _, MK b_spares b_scratch b_live (by rw [e3]; exact hSP), XW, fun post hp => YW1 post (br_t hct hp)⟩
      · obtain ⟨lv, sc2, hPS, WM⟩ := ry_mark (g_heapSize := f_heapSize) (g_depthLimit := f_depthLimit) (g_nodeLimit := f_nodeLimit) (g_nodeCount := f_nodeCount) (g_fragCount := f_fragmentCount) (g_frames := g_frames) (g_made := f_made) (g_inRun := f_counted) (g_reused := f_reused) (g_peak := f_peak) (g_calls := f_calls) (g_status := g_status) (g_resKind := g_resKind) (g_resNumber := g_resNumber) (g_numbered := g_numbered) (b_nodeKind := a_nodeKind) (b_nodeX := a_nodeX) (b_nodeT := a_nodeParam) (b_nodeA := b_nodeA) (b_nodeB := b_nodeB) (b_nodeNext := a_nodeNext) (b_nodeElse := a_nodeElse) (b_scratch := b_scratch) (b_frag := a_fragments) (b_body := a_body) (b_slotKind := upd (upd b_slotKind (12 * top + y) (b_partKind (2 * φ c))) (12 * top + z) (b_partKind (2 * φ c + 1))) (b_slotNumber := upd (upd b_slotNumber (12 * top + y) (b_partNumber (2 * φ c))) (12 * top + z) (b_partNumber (2 * φ c + 1))) (b_spares := b_spares) (b_waits := a_waiting) (b_cellTag := b_cellTag) (b_partKind := b_partKind) (b_partNumber := b_partNumber) (b_live := b_live) (b_order := b_order) (b_todo := b_todo) hST.2.1 (t := j) (by omega) hnc f1 (by omega) hgf hmade hm (rc_SS_top hSS) (rc_SN_of hm I'.1 HR' SV') hYW
        have hlive := rc_live hm I'.1 (fun d hd => rc_mem0' (I'.2.1.1 hct).2.2.2.2.2 hd) HR' SV' hYW hPS (φ c) (by omega)
        have hiff : lv (φ c) ≠ 0 ↔ col' c = 0 := by
          rw [hlive]
          constructor
          · rintro ⟨d, hd, hd2⟩
            rw [← hHR.2 d c (p1 d hd) hc0 hd2]; exact hd
          · intro h; exact ⟨c, h, rfl⟩
        have hinf : vp_in (g_frames - 1) 16 := by rw [hgf, nI_pred]; exact vp_in_nI htop (by decide)
        have ef : (g_frames - 1).toNatClampNeg = top := by rw [hgf, nI_pred, nI_clamp (by omega)]
        rcases p2 with ⟨q1, q2⟩ | ⟨q1, q2⟩
        · refine ⟨j, _, _, MK b_spares sc2 lv (by rw [q2]; exact hSP), XW, fun post hp => YW1 post (br_f hct (WM _ ⟨hinφ, br_f (hiff.mpr q1) ⟨hinn, ?_⟩⟩))⟩
          rw [hnx]; exact hp
        · refine ⟨j, _, _, MK (upd b_spares top (b_spares top + 1)) sc2 lv (fun f hf => ?_), XW, fun post hp => YW1 post (br_f hct (WM _ ⟨hinφ, br_t (Classical.byContradiction fun w => q1 (hiff.mp w)) ⟨hinf, hinf, nm_r (e' := upd b_spares top (b_spares top + 1)) (by rw [ef]) ⟨hinn, ?_⟩⟩⟩))⟩
          · rw [q2]
            by_cases w : f = top
            · subst w; rw [pk_us, rc_us_s, hSP f hf, nI_1]; rfl
            · rw [pk_un w, rc_us_n w]; exact hSP f hf
          · rw [hnx]; exact hp
    · obtain ⟨u', R, W⟩ := rs_goto G0 he hse
      refine ⟨e, u', (f_heapSize, f_depthLimit, f_nodeLimit, f_nodeCount, f_fragmentCount, g_frames, f_made, f_counted, f_reused, f_peak, f_calls, g_status, g_resKind, g_resNumber, g_numbered, a_nodeKind, a_nodeX, a_nodeParam, b_nodeA, b_nodeB, a_nodeNext, a_nodeElse, b_scratch, a_fragments, a_body, b_slotKind, b_slotNumber, b_spares, a_waiting, b_cellTag, b_partKind, b_partNumber, b_live, b_order, b_todo), R, fun post hp => ?_, fun post hp => ?_⟩
      · subst hat
        refine ⟨hinn, by rw [e12]; exact vp_in_nI (by omega) (by decide), nm_r (e' := a_slots (12 * top + x)) (by rw [e12, nI_clamp (by omega)]) ?_⟩
        rw [ea]
        refine rx_isCell_c hc _ (br_f (by decide) ?_)
        rw [rc_cv_sub (by omega)]
        refine ⟨vp_in_nI hc (by decide), hinn, br_f (by rw [ec, en]; exact htg) (br_t rfl ⟨hinn, ?_⟩)⟩
        rw [en, hel]
        exact W _ hp
      · refine ⟨hinn, nm_r (e' := 6) (by rw [en]; exact hk) (br_t rfl ⟨hinn, ?_⟩)⟩
        rw [en, hxx]
        refine ry_kat (top := top) hox hgf htop _ ⟨hinn, ry_nat (top := top) hox hgf htop _ ⟨hinn, br_f h6 (br_t ka ?_)⟩⟩
        rw [na, eφ]
        refine ⟨hinφ, hinn, br_f (by rw [htag]; exact htg) ⟨hinn, ?_⟩⟩
        rw [hel]; exact hp
end
end
section
section
variable {f_kindRet f_kindTail f_kindBind f_kindCon f_kindPrim f_kindCall f_kindMatch f_kindTest f_heapSize f_depthLimit f_nodeLimit f_nodeCount f_fragmentCount f_frames f_at f_deadCount f_freeHead f_fresh f_liveCells f_spareTotal f_counted f_status f_made f_reused f_peak f_calls f_resultCells : Int32} {f_cellBase f_result : Int64} {a_nodeKind a_nodeX a_nodeParam a_nodeA a_nodeB a_nodeNext a_nodeElse a_nodeFree a_nodeNeed a_fragments a_body a_waiting a_spareHead a_spareCount a_cellTag a_holds a_link a_dead a_cellOfNumber a_numberOfCell a_places a_walk : Nat → Int32} {a_slots a_cellLeft a_cellRight : Nat → Int64}
variable {g_frames g_status g_resKind g_resNumber g_numbered : Int32} {b_nodeA b_nodeB b_scratch b_slotKind b_slotNumber b_spares b_cellTag b_partKind b_partNumber b_live b_order b_todo : Nat → Int32}
variable {n stp nc hs dl fr m ca fs : Nat} {nd φ col : Nat → Nat} {F : List Nat} {S : Nat → List Nat} {ss : Nat → Int32}
/-- RET -/
theorem rs_ret (G : (rc_EG n stp nc hs dl fr m ca fs nd φ col F S ss f_heapSize f_depthLimit f_nodeLimit f_nodeCount f_fragmentCount f_frames f_at f_deadCount f_freeHead f_fresh f_liveCells f_spareTotal f_counted f_made f_peak f_calls f_resultCells a_nodeKind a_nodeX a_nodeParam a_nodeA a_nodeB a_nodeNext a_nodeElse a_nodeFree a_nodeNeed a_fragments a_body a_slots a_waiting a_spareHead a_spareCount a_cellTag a_cellLeft a_cellRight a_holds a_link a_dead g_frames g_status g_resKind g_numbered b_nodeA b_nodeB b_slotKind b_slotNumber b_spares b_cellTag b_partKind b_partNumber)) (hk : a_nodeKind n = 0) (hlen : (S (fr - 1)).length ≤ nd n) : ∃ (r : Int32) (n' : Nat) (u' : SX) (v' : SY), rc_OUT r n' (stp + 1) u' v' ∧ (∀ post : Int32 → SX → Prop, post r u' → wpX_stepRet post (f_kindRet, f_kindTail, f_kindBind, f_kindCon, f_kindPrim, f_kindCall, f_kindMatch, f_kindTest, f_cellBase, f_heapSize, f_depthLimit, f_nodeLimit, f_nodeCount, f_fragmentCount, f_frames, f_at, f_deadCount, f_freeHead, f_fresh, f_liveCells, f_spareTotal, f_counted, f_status, f_made, f_reused, f_peak, f_calls, f_result, f_resultCells, a_nodeKind, a_nodeX, a_nodeParam, a_nodeA, a_nodeB, a_nodeNext, a_nodeElse, a_nodeFree, a_nodeNeed, a_fragments, a_body, a_slots, a_waiting, a_spareHead, a_spareCount, a_cellTag, a_cellLeft, a_cellRight, a_holds, a_link, a_dead, a_cellOfNumber, a_numberOfCell, a_places, a_walk)) ∧ (∀ post : Int32 → SY → Prop, post (nI n') v' → wpY_step post (f_heapSize, f_depthLimit, f_nodeLimit, f_nodeCount, f_fragmentCount, g_frames, f_made, f_counted, f_reused, f_peak, f_calls, g_status, g_resKind, g_resNumber, g_numbered, a_nodeKind, a_nodeX, a_nodeParam, b_nodeA, b_nodeB, a_nodeNext, a_nodeElse, b_scratch, a_fragments, a_body, b_slotKind, b_slotNumber, b_spares, a_waiting, b_cellTag, b_partKind, b_partNumber, b_live, b_order, b_todo) (nI n)) := by
  obtain ⟨hST, hFT, hNU, hSS, hWT, hSP, hXI, hSV, hHR, hYW, hPL, hRN, hME⟩ := G
  obtain ⟨f1, f2, hfr, hgf, hat, hn, hmade, hm, hcalls, hca, hfs, hst, hrk, hnum, hrc⟩ := hNU
  obtain ⟨top, rfl⟩ : ∃ t, fr = t + 1 := ⟨fr - 1, by omega⟩
  have hnc := hST.1
  have hdl := hST.2.2.2.2.2.2.2.1
  obtain ⟨hya, hyb, hoa, hob, hp0, hba, hbb, hnd0, hfe⟩ := rc_nd0 (hST.2.1 n hn) (Or.inl hk)
  have htop : top < 16 := by omega
  have hsst : ss top = a_nodeFree n := hSS.1
  have hS0 : S top = [] := by
    have : (S top).length ≤ nd n := hlen
    exact List.eq_nil_of_length_eq_zero (by omega)
  have en : (nI n).toNatClampNeg = n := nI_clamp (by omega)
  have hinn : vp_in (nI n) 48 := vp_in_nI (by omega) (by decide)
  have hfv := rc_val_FV (o := a_nodeA n) (Nat.lt_succ_self top) (by omega) hoa (fun s hs e => by rw [hsst]; exact hba s hs e) hXI.1
  have hvr := rc_val_VR (o := a_nodeA n) (Nat.lt_succ_self top) (by omega) hoa (fun s hs e => by rw [hsst]; exact hba s hs e) hSV
  have YP : ∀ (post : Int32 → SY → Prop), ((g_frames = 1 → post (nI n) (f_heapSize, f_depthLimit, f_nodeLimit, f_nodeCount, f_fragmentCount, g_frames, f_made, f_counted, f_reused, f_peak, f_calls, 10, rc_kat top b_slotKind (a_nodeA n), rc_nat top b_slotNumber (a_nodeA n), g_numbered, a_nodeKind, a_nodeX, a_nodeParam, b_nodeA, b_nodeB, a_nodeNext, a_nodeElse, b_scratch, a_fragments, a_body, b_slotKind, b_slotNumber, b_spares, a_waiting, b_cellTag, b_partKind, b_partNumber, b_live, b_order, b_todo)) ∧ (¬ g_frames = 1 → ∀ fq, fq = g_frames - 1 → (vp_in (fq - 1) 16 ∧ ∀ w, w = a_waiting (fq - 1).toNatClampNeg → (vp_in w 48 ∧ wpY_put (fun u => match u with | (g_heapSize, g_depthLimit, g_nodeLimit, g_nodeCount, g_fragCount, g_frames, g_made, g_inRun, g_reused, g_peak, g_calls, g_status, g_resKind, g_resNumber, g_numbered, b_nodeKind, b_nodeX, b_nodeT, b_nodeA, b_nodeB, b_nodeNext, b_nodeElse, b_scratch, b_frag, b_body, b_slotKind, b_slotNumber, b_spares, b_waits, b_cellTag, b_partKind, b_partNumber, b_live, b_order, b_todo) => (vp_in w 48 ∧ post (b_nodeNext w.toNatClampNeg) (g_heapSize, g_depthLimit, g_nodeLimit, g_nodeCount, g_fragCount, g_frames, g_made, g_inRun, g_reused, g_peak, g_calls, g_status, g_resKind, g_resNumber, g_numbered, b_nodeKind, b_nodeX, b_nodeT, b_nodeA, b_nodeB, b_nodeNext, b_nodeElse, b_scratch, b_frag, b_body, b_slotKind, b_slotNumber, b_spares, b_waits, b_cellTag, b_partKind, b_partNumber, b_live, b_order, b_todo))) (f_heapSize, f_depthLimit, f_nodeLimit, f_nodeCount, f_fragmentCount, fq, f_made, f_counted, f_reused, f_peak, f_calls, g_status, g_resKind, g_resNumber, g_numbered, a_nodeKind, a_nodeX, a_nodeParam, b_nodeA, b_nodeB, a_nodeNext, a_nodeElse, b_scratch, a_fragments, a_body, b_slotKind, b_slotNumber, b_spares, a_waiting, b_cellTag, b_partKind, b_partNumber, b_live, b_order, b_todo) (a_nodeX w.toNatClampNeg) (rc_kat top b_slotKind (a_nodeA n)) (rc_nat top b_slotNumber (a_nodeA n)))))) → wpY_step post (f_heapSize, f_depthLimit, f_nodeLimit, f_nodeCount, f_fragmentCount, g_frames, f_made, f_counted, f_reused, f_peak, f_calls, g_status, g_resKind, g_resNumber, g_numbered, a_nodeKind, a_nodeX, a_nodeParam, b_nodeA, b_nodeB, a_nodeNext, a_nodeElse, b_scratch, a_fragments, a_body, b_slotKind, b_slotNumber, b_spares, a_waiting, b_cellTag, b_partKind, b_partNumber, b_live, b_order, b_todo) (nI n) := by
    intro post hp
    refine ⟨hinn, nm_r (e' := 0) (by rw [en]; exact hk) (br_f (by decide) (br_f (by decide) ⟨hinn, nm_e ⟨hinn, nm_e ⟨hinn, ?_⟩⟩⟩))⟩
    rw [en, ← hya, ← hyb]
    refine ry_kat (top := top) hoa hgf htop _ ⟨hinn, ry_nat (top := top) hoa hgf htop _ ⟨hinn, ry_kat (top := top) hob hgf htop _ ⟨hinn, ry_nat (top := top) hob hgf htop _ ?_⟩⟩⟩
    exact br_t rfl hp
  have XV : ∀ (post : Int64 → Prop), post (rc_val top a_slots (a_nodeA n)) → wpX_valueOf post (f_kindRet, f_kindTail, f_kindBind, f_kindCon, f_kindPrim, f_kindCall, f_kindMatch, f_kindTest, f_cellBase, f_heapSize, f_depthLimit, f_nodeLimit, f_nodeCount, f_fragmentCount, f_frames, nI n, f_deadCount, f_freeHead, f_fresh, f_liveCells, f_spareTotal, f_counted, f_status, f_made, f_reused, f_peak, f_calls, f_result, f_resultCells, a_nodeKind, a_nodeX, a_nodeParam, a_nodeA, a_nodeB, a_nodeNext, a_nodeElse, a_nodeFree, a_nodeNeed, a_fragments, a_body, a_slots, a_waiting, a_spareHead, a_spareCount, a_cellTag, a_cellLeft, a_cellRight, a_holds, a_link, a_dead, a_cellOfNumber, a_numberOfCell, a_places, a_walk) (a_nodeA (nI n).toNatClampNeg) := by
    intro post hp
    rw [en]
    exact rx_val (top := top) hoa hfr htop _ hp
  by_cases ht0 : top = 0
  · subst ht0
    have hf1 : f_frames = 1 := hfr
    have hg1 : g_frames = 1 := hgf
    refine ⟨10, n, (f_kindRet, f_kindTail, f_kindBind, f_kindCon, f_kindPrim, f_kindCall, f_kindMatch, f_kindTest, f_cellBase, f_heapSize, f_depthLimit, f_nodeLimit, f_nodeCount, f_fragmentCount, f_frames, f_at, f_deadCount, f_freeHead, f_fresh, f_liveCells, f_spareTotal, f_counted, f_status, f_made, f_reused, f_peak, f_calls, rc_val 0 a_slots (a_nodeA n), f_resultCells, a_nodeKind, a_nodeX, a_nodeParam, a_nodeA, a_nodeB, a_nodeNext, a_nodeElse, a_nodeFree, a_nodeNeed, a_fragments, a_body, a_slots, a_waiting, a_spareHead, a_spareCount, a_cellTag, a_cellLeft, a_cellRight, a_holds, a_link, a_dead, a_cellOfNumber, a_numberOfCell, a_places, a_walk), (f_heapSize, f_depthLimit, f_nodeLimit, f_nodeCount, f_fragmentCount, g_frames, f_made, f_counted, f_reused, f_peak, f_calls, 10, rc_kat 0 b_slotKind (a_nodeA n), rc_nat 0 b_slotNumber (a_nodeA n), g_numbered, a_nodeKind, a_nodeX, a_nodeParam, b_nodeA, b_nodeB, a_nodeNext, a_nodeElse, b_scratch, a_fragments, a_body, b_slotKind, b_slotNumber, b_spares, a_waiting, b_cellTag, b_partKind, b_partNumber, b_live, b_order, b_todo), Or.inr ⟨by decide, rc_SA_mk, ⟨nc, hs, dl, nd, hST, hFT, rfl, by decide, hnum, hrc, Or.inr ⟨rfl, m, fs, φ, col, hm, hmade, rc_A_own hXI.1 (fun i hi => absurd hi (by decide)), hHR, hYW, hfv, hvr, fun hct => ⟨?_, fun c hc => ?_⟩⟩⟩⟩, fun post hp => ?_, fun post hp => YP post (br_t hg1 hp)⟩
    · exact hXI.2.2.2.2.1
    · have hkk := rc_mem0' (hXI.2.1.1 hct).2.2.2.2.2 hc
      by_cases hr : rc_rt (rc_ow (0 + 1) ss) a_slots c = 0
      · right; unfold rc_kk at hkk; dsimp only at hkk; omega
      · left
        obtain ⟨i, hi, ho, hv⟩ := rc_rt_pos hr
        obtain ⟨w1, w2⟩ := rc_ow_t ho
        have hi0 : i / 12 = 0 := by omega
        have him : i % 12 = i := by omega
        rw [hi0, him, hsst, hfe, b_or] at w2
        have hi12 : i < 12 := by omega
        have key : ∀ o : Int32, rc_op o → bt (rc_bit o) i = true → rc_val 0 a_slots o = a_slots i := by
          intro o ho hb
          rcases ho with h | ⟨s, hs, h⟩
          · unfold rc_bit at hb; rw [if_pos h, b_0] at hb; exact absurd hb (by decide)
          · subst h
            rw [rc_bit_n hs, rc_b1_b hs (by omega)] at hb
            have : i = s := of_decide_eq_true hb
            subst this
            unfold rc_val
            rw [if_neg (nI_pos (by omega)), nI_clamp (by omega)]
            congr 1; omega
        rw [hp0.2 hk, rc_bit_m, b_0, Bool.or_false] at w2
        rw [key _ hoa w2]; exact hv
    · subst hat
      exact ⟨hinn, XV _ (br_t hf1 hp)⟩
  · obtain ⟨t, rfl⟩ : ∃ q, top = q + 1 := ⟨top - 1, by omega⟩
    have hf1 : ¬ f_frames = 1 := by
      rw [hfr]; intro w
      have := rc_n_of (n := t + 1 + 1) (m := 1) (by omega) (by omega) w
      omega
    have hg1 : ¬ g_frames = 1 := by rw [hgf, ← hfr]; exact hf1
    obtain ⟨w, hw, hww, hwk⟩ := hWT t (by omega)
    obtain ⟨x, j, hx, hxx, -, -, -, -, -, -, -, hj, hnx, hsubw, -⟩ := rc_nd2 (hST.2.1 w hw) (Or.inr (Or.inr (Or.inr hwk)))
    obtain ⟨w', j', x', hw', hj', hx', hww', hwj', hwx', hsst'⟩ := hSS.2 t (by omega)
    have e1 : w' = w := rc_n_of (by omega) (by omega) (hww'.symm.trans hww)
    subst e1
    have e2 : j' = j := rc_n_of (by omega) (by omega) (hwj'.symm.trans hnx)
    subst e2
    have e3 : x' = x := rc_n_of (by omega) (by omega) (hwx'.symm.trans hxx)
    subst e3
    have ew : (nI w').toNatClampNeg = w' := nI_clamp (by omega)
    have ej : (nI j').toNatClampNeg = j' := nI_clamp (by omega)
    have hinw : vp_in (nI w') 48 := vp_in_nI (by omega) (by decide)
    have hinj : vp_in (nI j') 48 := vp_in_nI (by omega) (by decide)
    obtain ⟨ho1, I1, _, W1⟩ := rx_holdIf (b := bt (a_nodeFree j') x') (v := rc_val (t + 1) a_slots (a_nodeA n)) (rc_tx (a := a_nodeFree j') hx) (f_kindRet := f_kindRet) (f_kindTail := f_kindTail) (f_kindBind := f_kindBind) (f_kindCon := f_kindCon) (f_kindPrim := f_kindPrim) (f_kindCall := f_kindCall) (f_kindMatch := f_kindMatch) (f_kindTest := f_kindTest) (f_cellBase := f_cellBase) (f_heapSize := f_heapSize) (f_depthLimit := f_depthLimit) (f_nodeLimit := f_nodeLimit) (f_nodeCount := f_nodeCount) (f_fragmentCount := f_fragmentCount) (f_frames := f_frames) (f_at := nI n) (f_deadCount := f_deadCount) (f_freeHead := f_freeHead) (f_fresh := f_fresh) (f_liveCells := f_liveCells) (f_spareTotal := f_spareTotal) (f_counted := f_counted) (f_status := f_status) (f_made := f_made) (f_reused := f_reused) (f_peak := f_peak) (f_calls := f_calls) (f_result := f_result) (f_resultCells := f_resultCells) (a_nodeKind := a_nodeKind) (a_nodeX := a_nodeX) (a_nodeParam := a_nodeParam) (a_nodeA := a_nodeA) (a_nodeB := a_nodeB) (a_nodeNext := a_nodeNext) (a_nodeElse := a_nodeElse) (a_nodeFree := a_nodeFree) (a_nodeNeed := a_nodeNeed) (a_fragments := a_fragments) (a_body := a_body) (a_slots := a_slots) (a_waiting := a_waiting) (a_spareHead := a_spareHead) (a_spareCount := a_spareCount) (a_cellTag := a_cellTag) (a_cellLeft := a_cellLeft) (a_cellRight := a_cellRight) (a_holds := a_holds) (a_link := a_link) (a_dead := a_dead) (a_cellOfNumber := a_cellOfNumber) (a_numberOfCell := a_numberOfCell) (a_places := a_places) (a_walk := a_walk) hXI (fun _ => hfv) (fun c => by have := rc_is_le (rc_val (t + 1) a_slots (a_nodeA n)) c; omega)
    obtain ⟨col', F', ho', li', de', fh', lc', I2, p1, p2, p3, p4, W2⟩ := rx_give (f_kindRet := f_kindRet) (f_kindTail := f_kindTail) (f_kindBind := f_kindBind) (f_kindCon := f_kindCon) (f_kindPrim := f_kindPrim) (f_kindCall := f_kindCall) (f_kindMatch := f_kindMatch) (f_kindTest := f_kindTest) (f_cellBase := f_cellBase) (f_heapSize := f_heapSize) (f_depthLimit := f_depthLimit) (f_nodeLimit := f_nodeLimit) (f_nodeCount := f_nodeCount) (f_fragmentCount := f_fragmentCount) (f_frames := f_frames) (f_at := nI n) (f_deadCount := f_deadCount) (f_freeHead := f_freeHead) (f_fresh := f_fresh) (f_liveCells := f_liveCells) (f_spareTotal := f_spareTotal) (f_counted := f_counted) (f_status := f_status) (f_made := f_made) (f_reused := f_reused) (f_peak := f_peak) (f_calls := f_calls) (f_result := f_result) (f_resultCells := f_resultCells) (a_nodeKind := a_nodeKind) (a_nodeX := a_nodeX) (a_nodeParam := a_nodeParam) (a_nodeA := a_nodeA) (a_nodeB := a_nodeB) (a_nodeNext := a_nodeNext) (a_nodeElse := a_nodeElse) (a_nodeFree := a_nodeFree) (a_nodeNeed := a_nodeNeed) (a_fragments := a_fragments) (a_body := a_body) (a_slots := a_slots) (a_waiting := a_waiting) (a_spareHead := a_spareHead) (a_spareCount := a_spareCount) (a_cellTag := a_cellTag) (a_cellLeft := a_cellLeft) (a_cellRight := a_cellRight) (a_holds := ho1) (a_link := a_link) (a_dead := a_dead) (a_cellOfNumber := a_cellOfNumber) (a_numberOfCell := a_numberOfCell) (a_places := a_places) (a_walk := a_walk) (set := a_nodeFree n) htop hfr (fun s hs hb => ⟨Nat.lt_succ_self _, by rw [hsst]; exact hb⟩) I1
    have hz : ∀ s, s < 12 → bt (upd ss (t + 1) (ss (t + 1) &&& (a_nodeFree n ^^^ (-1))) (t + 1)) s = false := by
      intro s hs
      rw [pk_us, hsst, rc_andn (by omega)]
      cases bt (a_nodeFree n) s <;> rfl
    have I3 := rc_close hS0 hz I2
    have hvf : bt (a_nodeFree j') x' = true → rc_FV col' (rc_val (t + 1) a_slots (a_nodeA n)) := fun hb => rc_FV_m hfv fun c hc hc0 e => p3 c hc0 (by
      simp only [hb, if_true]
      rw [rc_is_s e]; omega)
    have I4 := rc_assign (E := fun _ => 0) (b := bt (a_nodeFree j') x') (v := rc_val (t + 1) a_slots (a_nodeA n)) (i := 12 * t + x') (by omega) (by
      rw [rc_ow_i (Nat.lt_succ_self t) hx, pk_un (by omega), hsst', rc_andn (by omega), rc_b1_b hx (by omega)]; simp) hvf I3
    have hown : rc_st (rc_ow (t + 1) (upd ss (t + 1) (ss (t + 1) &&& (a_nodeFree n ^^^ (-1))))) (12 * t + x') (bt (a_nodeFree j') x') = rc_ow (t + 1) (upd ss t (a_nodeFree j')) := by
      rw [rc_ow_st (Z := a_nodeFree j') (Nat.lt_succ_self t) hx (fun q hq hne => by
        rw [pk_un (by omega), hsst', rc_andn (by omega), rc_b1_b hx (by omega)]; simp [hne]) rfl]
      apply rc_ow_ext
      intro f hf s hs
      by_cases q : f = t
      · subst q; rw [pk_us, pk_us]
      · rw [pk_un q, pk_un q, pk_un (by omega)]
    rw [hown] at I4
    refine ⟨0, j', (f_kindRet, f_kindTail, f_kindBind, f_kindCon, f_kindPrim, f_kindCall, f_kindMatch, f_kindTest, f_cellBase, f_heapSize, f_depthLimit, f_nodeLimit, f_nodeCount, f_fragmentCount, nI (t + 1), nI j', 0, fh', f_fresh, lc', f_spareTotal, f_counted, f_status, f_made, f_reused, f_peak, f_calls, f_result, f_resultCells, a_nodeKind, a_nodeX, a_nodeParam, a_nodeA, a_nodeB, a_nodeNext, a_nodeElse, a_nodeFree, a_nodeNeed, a_fragments, a_body, vp_updL a_slots (12 * t + x') (rc_val (t + 1) a_slots (a_nodeA n)), a_waiting, a_spareHead, a_spareCount, a_cellTag, a_cellLeft, a_cellRight, ho', li', de', a_cellOfNumber, a_numberOfCell, a_places, a_walk), (f_heapSize, f_depthLimit, f_nodeLimit, f_nodeCount, f_fragmentCount, nI (t + 1), f_made, f_counted, f_reused, f_peak, f_calls, g_status, g_resKind, g_resNumber, g_numbered, a_nodeKind, a_nodeX, a_nodeParam, b_nodeA, b_nodeB, a_nodeNext, a_nodeElse, b_scratch, a_fragments, a_body, upd b_slotKind (12 * t + x') (rc_kat (t + 1) b_slotKind (a_nodeA n)), upd b_slotNumber (12 * t + x') (rc_nat (t + 1) b_slotNumber (a_nodeA n)), b_spares, a_waiting, b_cellTag, b_partKind, b_partNumber, b_live, b_order, b_todo), Or.inl ⟨rfl, rc_ER_mk ⟨hST, hFT, ⟨by omega, by omega, rfl, rfl, rfl, by omega, hmade, hm, hcalls, hca, hfs, hst, hrk, hnum, hrc⟩, ⟨pk_us, fun f hf => ?_⟩, fun f hf => hWT f (by omega), fun f hf => hSP f (by omega), I4, ?_, rc_HR_mono p1 hHR, hYW, fun h => ?_, fun h => ?_, ?_⟩⟩, fun post hp => ?_, fun post hp => ?_⟩
    · rw [pk_un (by omega)]; exact hSS.2 f (by omega)
    · refine rc_SV_asg hx (fun s hs hb hne => ?_) (fun _ => hvr) ?_
      · show bt (ss t) s = true
        rw [hsst', rc_andn (by omega), rc_b1_b hx (by omega), hb]; simp [hne]
      · intro i hi ho
        obtain ⟨w1, w2⟩ := rc_ow_t ho
        apply hSV i hi
        unfold rc_ow
        rw [decide_eq_true (by omega), Bool.true_and]; exact w2
    · obtain ⟨e1, e2⟩ := p4 h
      subst e1 e2
      obtain ⟨g1, g2, g3, g4, g5⟩ := hPL h
      exact ⟨g1, g2, g3, fun f hf => g4 f (by omega), g5⟩
    · have h1 := hRN h
      have h2 := rc_ct_mono p1
      have h3 : rc_sm (fun f => (S f).length) (t + 1 + 1) = rc_sm (fun f => (S f).length) (t + 1) + (S (t + 1)).length := rfl
      omega
    · have h3 : rc_sm (rc_wn a_nodeNext a_waiting) (t + 1) = rc_sm (rc_wn a_nodeNext a_waiting) t + rc_wn a_nodeNext a_waiting t := rfl
      have h4 : rc_wn a_nodeNext a_waiting t = j' + 1 := by
        unfold rc_wn; rw [hww, ew, hnx, ej]
      unfold rc_ME at hME ⊢
      simp only [Nat.add_sub_cancel] at hME ⊢
      omega
    · subst hat
      refine ⟨hinn, XV _ (br_f hf1 ⟨?_, nm_r (e' := nI w') ?_ ⟨hinw, nm_r (e' := nI j') (by rw [ew]; exact hnx) ⟨hinw, nm_r (e' := nI x') (by rw [ew]; exact hxx) ⟨hinj, ?_⟩⟩⟩⟩)⟩
      · rw [hfr, show nI (t + 1 + 1) - 2 = nI t from pk_sub (a := t + 1 + 1) (b := 2) (by omega)]; exact vp_in_nI (by omega) (by decide)
      · rw [hfr, show nI (t + 1 + 1) - 2 = nI t from pk_sub (a := t + 1 + 1) (b := 2) (by omega), nI_clamp (by omega)]; exact hww
      · rw [ej]
        refine W1 _ _ (fun h => h) ?_
        refine ⟨hinn, ?_⟩
        rw [en]
        refine W2 _ (nm_r (e' := nI (t + 1)) (by rw [hfr, nI_pred]) ?_)
        refine ⟨?_, nm_r (e' := vp_updL a_slots (12 * t + x') (rc_val (t + 1) a_slots (a_nodeA n))) ?_ hp⟩
        · rw [rc_low_i rfl]; exact vp_in_nI (by omega) (by decide)
        · rw [rc_low_i rfl, nI_clamp (by omega)]
    · refine YP post (br_f hg1 (nm_r (e' := nI (t + 1)) (by rw [hgf, nI_pred]) ⟨?_, nm_r (e' := nI w') ?_ ⟨hinw, ?_⟩⟩))
      · rw [nI_pred]; exact vp_in_nI (by omega) (by decide)
      · rw [nI_pred, nI_clamp (by omega)]; exact hww
      · rw [ew, hxx]
        refine ry_put (top := t) hx rfl (by omega) _ ⟨hinw, ?_⟩
        rw [hnx]; exact hp
end
end
section
section
variable {f_kindRet f_kindTail f_kindBind f_kindCon f_kindPrim f_kindCall f_kindMatch f_kindTest f_heapSize f_depthLimit f_nodeLimit f_nodeCount f_fragmentCount f_frames f_at f_deadCount f_freeHead f_fresh f_liveCells f_spareTotal f_counted f_status f_made f_reused f_peak f_calls f_resultCells : Int32} {f_cellBase f_result : Int64} {a_nodeKind a_nodeX a_nodeParam a_nodeA a_nodeB a_nodeNext a_nodeElse a_nodeFree a_nodeNeed a_fragments a_body a_waiting a_spareHead a_spareCount a_cellTag a_holds a_link a_dead a_cellOfNumber a_numberOfCell a_places a_walk : Nat → Int32} {a_slots a_cellLeft a_cellRight : Nat → Int64}
variable {g_frames g_status g_resKind g_resNumber g_numbered : Int32} {b_nodeA b_nodeB b_scratch b_slotKind b_slotNumber b_spares b_cellTag b_partKind b_partNumber b_live b_order b_todo : Nat → Int32}
variable {n stp nc hs dl fr m ca fs : Nat} {nd φ col : Nat → Nat} {F : List Nat} {S : Nat → List Nat} {ss : Nat → Int32}
/-- TAIL -/
theorem rs_tail (G : (rc_EG n stp nc hs dl fr m ca fs nd φ col F S ss f_heapSize f_depthLimit f_nodeLimit f_nodeCount f_fragmentCount f_frames f_at f_deadCount f_freeHead f_fresh f_liveCells f_spareTotal f_counted f_made f_peak f_calls f_resultCells a_nodeKind a_nodeX a_nodeParam a_nodeA a_nodeB a_nodeNext a_nodeElse a_nodeFree a_nodeNeed a_fragments a_body a_slots a_waiting a_spareHead a_spareCount a_cellTag a_cellLeft a_cellRight a_holds a_link a_dead g_frames g_status g_resKind g_numbered b_nodeA b_nodeB b_slotKind b_slotNumber b_spares b_cellTag b_partKind b_partNumber)) (hk : a_nodeKind n = 1) : ∃ (r : Int32) (n' : Nat) (u' : SX) (v' : SY), rc_OUT r n' (stp + 1) u' v' ∧ (∀ post : Int32 → SX → Prop, post r u' → wpX_stepTail post (f_kindRet, f_kindTail, f_kindBind, f_kindCon, f_kindPrim, f_kindCall, f_kindMatch, f_kindTest, f_cellBase, f_heapSize, f_depthLimit, f_nodeLimit, f_nodeCount, f_fragmentCount, f_frames, f_at, f_deadCount, f_freeHead, f_fresh, f_liveCells, f_spareTotal, f_counted, f_status, f_made, f_reused, f_peak, f_calls, f_result, f_resultCells, a_nodeKind, a_nodeX, a_nodeParam, a_nodeA, a_nodeB, a_nodeNext, a_nodeElse, a_nodeFree, a_nodeNeed, a_fragments, a_body, a_slots, a_waiting, a_spareHead, a_spareCount, a_cellTag, a_cellLeft, a_cellRight, a_holds, a_link, a_dead, a_cellOfNumber, a_numberOfCell, a_places, a_walk)) ∧ (∀ post : Int32 → SY → Prop, post (nI n') v' → wpY_step post (f_heapSize, f_depthLimit, f_nodeLimit, f_nodeCount, f_fragmentCount, g_frames, f_made, f_counted, f_reused, f_peak, f_calls, g_status, g_resKind, g_resNumber, g_numbered, a_nodeKind, a_nodeX, a_nodeParam, b_nodeA, b_nodeB, a_nodeNext, a_nodeElse, b_scratch, a_fragments, a_body, b_slotKind, b_slotNumber, b_spares, a_waiting, b_cellTag, b_partKind, b_partNumber, b_live, b_order, b_todo) (nI n)) := by
  have G0 := G
  obtain ⟨hST, hFT, hNU, hSS, hWT, hSP, hXI, hSV, hHR, hYW, hPL, hRN, hME⟩ := G
  obtain ⟨f1, f2, hfr, hgf, hat, hn, hmade, hm, hcalls, hca, hfs, hst, hrk, hnum, hrc⟩ := hNU
  obtain ⟨top, rfl⟩ : ∃ t, fr = t + 1 := ⟨fr - 1, by omega⟩
  have hnc := hST.1
  have hdl := hST.2.2.2.2.2.2.2.1
  obtain ⟨hya, hyb, hoa, hob, hp0, hba, hbb, hnd0, hfe⟩ := rc_nd0 (hST.2.1 n hn) (Or.inr hk)
  obtain ⟨g, hg, hgp⟩ := hp0.1 hk
  have htop : top < 16 := by omega
  have hsst : ss top = a_nodeFree n := hSS.1
  have en : (nI n).toNatClampNeg = n := nI_clamp (by omega)
  have eg : (nI g).toNatClampNeg = g := nI_clamp (by omega)
  have hing : vp_in (nI g) 8 := vp_in_nI hg (by decide)
  have hinn : vp_in (nI n) 48 := vp_in_nI (by omega) (by decide)
  have hfa := rc_val_FV (o := a_nodeA n) (Nat.lt_succ_self top) (by omega) hoa (fun s hs e => by rw [hsst]; exact hba s hs e) hXI.1
  have hva := rc_val_VR (o := a_nodeA n) (Nat.lt_succ_self top) (by omega) hoa (fun s hs e => by rw [hsst]; exact hba s hs e) hSV
  have hfb := rc_val_FV (o := a_nodeB n) (Nat.lt_succ_self top) (by omega) hob (fun s hs e => by rw [hsst]; exact hbb s hs e) hXI.1
  have hvb := rc_val_VR (o := a_nodeB n) (Nat.lt_succ_self top) (by omega) hob (fun s hs e => by rw [hsst]; exact hbb s hs e) hSV
  have YP : ∀ (post : Int32 → SY → Prop), wY_step_176 post (nI n) 1 (nI g) (rc_kat top b_slotKind (a_nodeA n)) (rc_nat top b_slotNumber (a_nodeA n)) (rc_kat top b_slotKind (a_nodeB n)) (rc_nat top b_slotNumber (a_nodeB n)) f_heapSize f_depthLimit f_nodeLimit f_nodeCount f_fragmentCount g_frames f_made f_counted f_reused f_peak f_calls g_status g_resKind g_resNumber g_numbered a_nodeKind a_nodeX a_nodeParam b_nodeA b_nodeB a_nodeNext a_nodeElse b_scratch a_fragments a_body b_slotKind b_slotNumber b_spares a_waiting b_cellTag b_partKind b_partNumber b_live b_order b_todo → wpY_step post (f_heapSize, f_depthLimit, f_nodeLimit, f_nodeCount, f_fragmentCount, g_frames, f_made, f_counted, f_reused, f_peak, f_calls, g_status, g_resKind, g_resNumber, g_numbered, a_nodeKind, a_nodeX, a_nodeParam, b_nodeA, b_nodeB, a_nodeNext, a_nodeElse, b_scratch, a_fragments, a_body, b_slotKind, b_slotNumber, b_spares, a_waiting, b_cellTag, b_partKind, b_partNumber, b_live, b_order, b_todo) (nI n) := by
    intro post hp
    refine ⟨hinn, nm_r (e' := 1) (by rw [en]; exact hk) (br_f (by decide) (br_f (by decide) ⟨hinn, nm_e ⟨hinn, nm_r (e' := nI g) (by rw [en]; exact hgp) ⟨hinn, ?_⟩⟩⟩))⟩
    rw [en, ← hya, ← hyb]
    refine ry_kat (top := top) hoa hgf htop _ ⟨hinn, ry_nat (top := top) hoa hgf htop _ ⟨hinn, ry_kat (top := top) hob hgf htop _ ⟨hinn, ry_nat (top := top) hob hgf htop _ ?_⟩⟩⟩
    exact br_f (by decide) (br_t rfl hp)
  have XP : ∀ (post : Int32 → SX → Prop), (∀ x2, x2 = a_body g → ((0 ≤ x2 → ((f_calls < 200 → ∀ cq, cq = f_calls + 1 → (vp_in (nI n) 48 ∧ wpX_valueOf (fun r_8 => (vp_in (nI n) 48 ∧ wpX_valueOf (fun r_64 => wpX_holdParameters (fun u => match u with | (f_kindRet, f_kindTail, f_kindBind, f_kindCon, f_kindPrim, f_kindCall, f_kindMatch, f_kindTest, f_cellBase, f_heapSize, f_depthLimit, f_nodeLimit, f_nodeCount, f_fragmentCount, f_frames, f_at, f_deadCount, f_freeHead, f_fresh, f_liveCells, f_spareTotal, f_counted, f_status, f_made, f_reused, f_peak, f_calls, f_result, f_resultCells, a_nodeKind, a_nodeX, a_nodeParam, a_nodeA, a_nodeB, a_nodeNext, a_nodeElse, a_nodeFree, a_nodeNeed, a_fragments, a_body, a_slots, a_waiting, a_spareHead, a_spareCount, a_cellTag, a_cellLeft, a_cellRight, a_holds, a_link, a_dead, a_cellOfNumber, a_numberOfCell, a_places, a_walk) => (vp_in (nI n) 48 ∧ wpX_giveUpSlots (fun u => match u with | (f_kindRet, f_kindTail, f_kindBind, f_kindCon, f_kindPrim, f_kindCall, f_kindMatch, f_kindTest, f_cellBase, f_heapSize, f_depthLimit, f_nodeLimit, f_nodeCount, f_fragmentCount, f_frames, f_at, f_deadCount, f_freeHead, f_fresh, f_liveCells, f_spareTotal, f_counted, f_status, f_made, f_reused, f_peak, f_calls, f_result, f_resultCells, a_nodeKind, a_nodeX, a_nodeParam, a_nodeA, a_nodeB, a_nodeNext, a_nodeElse, a_nodeFree, a_nodeNeed, a_fragments, a_body, a_slots, a_waiting, a_spareHead, a_spareCount, a_cellTag, a_cellLeft, a_cellRight, a_holds, a_link, a_dead, a_cellOfNumber, a_numberOfCell, a_places, a_walk) => wpX_enter (fun u => match u with | (f_kindRet, f_kindTail, f_kindBind, f_kindCon, f_kindPrim, f_kindCall, f_kindMatch, f_kindTest, f_cellBase, f_heapSize, f_depthLimit, f_nodeLimit, f_nodeCount, f_fragmentCount, f_frames, f_at, f_deadCount, f_freeHead, f_fresh, f_liveCells, f_spareTotal, f_counted, f_status, f_made, f_reused, f_peak, f_calls, f_result, f_resultCells, a_nodeKind, a_nodeX, a_nodeParam, a_nodeA, a_nodeB, a_nodeNext, a_nodeElse, a_nodeFree, a_nodeNeed, a_fragments, a_body, a_slots, a_waiting, a_spareHead, a_spareCount, a_cellTag, a_cellLeft, a_cellRight, a_holds, a_link, a_dead, a_cellOfNumber, a_numberOfCell, a_places, a_walk) => post 0 (f_kindRet, f_kindTail, f_kindBind, f_kindCon, f_kindPrim, f_kindCall, f_kindMatch, f_kindTest, f_cellBase, f_heapSize, f_depthLimit, f_nodeLimit, f_nodeCount, f_fragmentCount, f_frames, f_at, f_deadCount, f_freeHead, f_fresh, f_liveCells, f_spareTotal, f_counted, f_status, f_made, f_reused, f_peak, f_calls, f_result, f_resultCells, a_nodeKind, a_nodeX, a_nodeParam, a_nodeA, a_nodeB, a_nodeNext, a_nodeElse, a_nodeFree, a_nodeNeed, a_fragments, a_body, a_slots, a_waiting, a_spareHead, a_spareCount, a_cellTag, a_cellLeft, a_cellRight, a_holds, a_link, a_dead, a_cellOfNumber, a_numberOfCell, a_places, a_walk)) (f_kindRet, f_kindTail, f_kindBind, f_kindCon, f_kindPrim, f_kindCall, f_kindMatch, f_kindTest, f_cellBase, f_heapSize, f_depthLimit, f_nodeLimit, f_nodeCount, f_fragmentCount, f_frames, f_at, f_deadCount, f_freeHead, f_fresh, f_liveCells, f_spareTotal, f_counted, f_status, f_made, f_reused, f_peak, f_calls, f_result, f_resultCells, a_nodeKind, a_nodeX, a_nodeParam, a_nodeA, a_nodeB, a_nodeNext, a_nodeElse, a_nodeFree, a_nodeNeed, a_fragments, a_body, a_slots, a_waiting, a_spareHead, a_spareCount, a_cellTag, a_cellLeft, a_cellRight, a_holds, a_link, a_dead, a_cellOfNumber, a_numberOfCell, a_places, a_walk) x2 r_8 r_64) (f_kindRet, f_kindTail, f_kindBind, f_kindCon, f_kindPrim, f_kindCall, f_kindMatch, f_kindTest, f_cellBase, f_heapSize, f_depthLimit, f_nodeLimit, f_nodeCount, f_fragmentCount, f_frames, f_at, f_deadCount, f_freeHead, f_fresh, f_liveCells, f_spareTotal, f_counted, f_status, f_made, f_reused, f_peak, f_calls, f_result, f_resultCells, a_nodeKind, a_nodeX, a_nodeParam, a_nodeA, a_nodeB, a_nodeNext, a_nodeElse, a_nodeFree, a_nodeNeed, a_fragments, a_body, a_slots, a_waiting, a_spareHead, a_spareCount, a_cellTag, a_cellLeft, a_cellRight, a_holds, a_link, a_dead, a_cellOfNumber, a_numberOfCell, a_places, a_walk) (a_nodeFree n))) (f_kindRet, f_kindTail, f_kindBind, f_kindCon, f_kindPrim, f_kindCall, f_kindMatch, f_kindTest, f_cellBase, f_heapSize, f_depthLimit, f_nodeLimit, f_nodeCount, f_fragmentCount, f_frames, nI n, f_deadCount, f_freeHead, f_fresh, f_liveCells, f_spareTotal, f_counted, f_status, f_made, f_reused, f_peak, cq, f_result, f_resultCells, a_nodeKind, a_nodeX, a_nodeParam, a_nodeA, a_nodeB, a_nodeNext, a_nodeElse, a_nodeFree, a_nodeNeed, a_fragments, a_body, a_slots, a_waiting, a_spareHead, a_spareCount, a_cellTag, a_cellLeft, a_cellRight, a_holds, a_link, a_dead, a_cellOfNumber, a_numberOfCell, a_places, a_walk) x2 r_8 r_64) (f_kindRet, f_kindTail, f_kindBind, f_kindCon, f_kindPrim, f_kindCall, f_kindMatch, f_kindTest, f_cellBase, f_heapSize, f_depthLimit, f_nodeLimit, f_nodeCount, f_fragmentCount, f_frames, nI n, f_deadCount, f_freeHead, f_fresh, f_liveCells, f_spareTotal, f_counted, f_status, f_made, f_reused, f_peak, cq, f_result, f_resultCells, a_nodeKind, a_nodeX, a_nodeParam, a_nodeA, a_nodeB, a_nodeNext, a_nodeElse, a_nodeFree, a_nodeNeed, a_fragments, a_body, a_slots, a_waiting, a_spareHead, a_spareCount, a_cellTag, a_cellLeft, a_cellRight, a_holds, a_link, a_dead, a_cellOfNumber, a_numberOfCell, a_places, a_walk) (a_nodeB n))) (f_kindRet, f_kindTail, f_kindBind, f_kindCon, f_kindPrim, f_kindCall, f_kindMatch, f_kindTest, f_cellBase, f_heapSize, f_depthLimit, f_nodeLimit, f_nodeCount, f_fragmentCount, f_frames, nI n, f_deadCount, f_freeHead, f_fresh, f_liveCells, f_spareTotal, f_counted, f_status, f_made, f_reused, f_peak, cq, f_result, f_resultCells, a_nodeKind, a_nodeX, a_nodeParam, a_nodeA, a_nodeB, a_nodeNext, a_nodeElse, a_nodeFree, a_nodeNeed, a_fragments, a_body, a_slots, a_waiting, a_spareHead, a_spareCount, a_cellTag, a_cellLeft, a_cellRight, a_holds, a_link, a_dead, a_cellOfNumber, a_numberOfCell, a_places, a_walk) (a_nodeA n))) ∧ (¬ f_calls < 200 → post 14 (f_kindRet, f_kindTail, f_kindBind, f_kindCon, f_kindPrim, f_kindCall, f_kindMatch, f_kindTest, f_cellBase, f_heapSize, f_depthLimit, f_nodeLimit, f_nodeCount, f_fragmentCount, f_frames, nI n, f_deadCount, f_freeHead, f_fresh, f_liveCells, f_spareTotal, f_counted, f_status, f_made, f_reused, f_peak, f_calls, f_result, f_resultCells, a_nodeKind, a_nodeX, a_nodeParam, a_nodeA, a_nodeB, a_nodeNext, a_nodeElse, a_nodeFree, a_nodeNeed, a_fragments, a_body, a_slots, a_waiting, a_spareHead, a_spareCount, a_cellTag, a_cellLeft, a_cellRight, a_holds, a_link, a_dead, a_cellOfNumber, a_numberOfCell, a_places, a_walk)))) ∧ (¬ 0 ≤ x2 → post 12 (f_kindRet, f_kindTail, f_kindBind, f_kindCon, f_kindPrim, f_kindCall, f_kindMatch, f_kindTest, f_cellBase, f_heapSize, f_depthLimit, f_nodeLimit, f_nodeCount, f_fragmentCount, f_frames, nI n, f_deadCount, f_freeHead, f_fresh, f_liveCells, f_spareTotal, f_counted, f_status, f_made, f_reused, f_peak, f_calls, f_result, f_resultCells, a_nodeKind, a_nodeX, a_nodeParam, a_nodeA, a_nodeB, a_nodeNext, a_nodeElse, a_nodeFree, a_nodeNeed, a_fragments, a_body, a_slots, a_waiting, a_spareHead, a_spareCount, a_cellTag, a_cellLeft, a_cellRight, a_holds, a_link, a_dead, a_cellOfNumber, a_numberOfCell, a_places, a_walk)))) → wpX_stepTail post (f_kindRet, f_kindTail, f_kindBind, f_kindCon, f_kindPrim, f_kindCall, f_kindMatch, f_kindTest, f_cellBase, f_heapSize, f_depthLimit, f_nodeLimit, f_nodeCount, f_fragmentCount, f_frames, nI n, f_deadCount, f_freeHead, f_fresh, f_liveCells, f_spareTotal, f_counted, f_status, f_made, f_reused, f_peak, f_calls, f_result, f_resultCells, a_nodeKind, a_nodeX, a_nodeParam, a_nodeA, a_nodeB, a_nodeNext, a_nodeElse, a_nodeFree, a_nodeNeed, a_fragments, a_body, a_slots, a_waiting, a_spareHead, a_spareCount, a_cellTag, a_cellLeft, a_cellRight, a_holds, a_link, a_dead, a_cellOfNumber, a_numberOfCell, a_places, a_walk) := by
    intro post hp
    refine ⟨hinn, ?_⟩
    rw [en, hgp, eg]
    exact ⟨hing, hp⟩
  rcases hST.2.2.2.2.2.2.2.2 g hg with hb | ⟨b, hb, hbe, hbf⟩
  · refine ⟨12, n, (f_kindRet, f_kindTail, f_kindBind, f_kindCon, f_kindPrim, f_kindCall, f_kindMatch, f_kindTest, f_cellBase, f_heapSize, f_depthLimit, f_nodeLimit, f_nodeCount, f_fragmentCount, f_frames, f_at, f_deadCount, f_freeHead, f_fresh, f_liveCells, f_spareTotal, f_counted, f_status, f_made, f_reused, f_peak, f_calls, f_result, f_resultCells, a_nodeKind, a_nodeX, a_nodeParam, a_nodeA, a_nodeB, a_nodeNext, a_nodeElse, a_nodeFree, a_nodeNeed, a_fragments, a_body, a_slots, a_waiting, a_spareHead, a_spareCount, a_cellTag, a_cellLeft, a_cellRight, a_holds, a_link, a_dead, a_cellOfNumber, a_numberOfCell, a_places, a_walk), (f_heapSize, f_depthLimit, f_nodeLimit, f_nodeCount, f_fragmentCount, g_frames, f_made, f_counted, f_reused, f_peak, f_calls, 12, g_resKind, g_resNumber, g_numbered, a_nodeKind, a_nodeX, a_nodeParam, b_nodeA, b_nodeB, a_nodeNext, a_nodeElse, b_scratch, a_fragments, a_body, b_slotKind, b_slotNumber, b_spares, a_waiting, b_cellTag, b_partKind, b_partNumber, b_live, b_order, b_todo), Or.inr ⟨by decide, rc_EN_mk (by decide) (by decide) G0⟩, fun post hp => ?_, fun post hp => YP post ⟨hing, br_f ?_ (br_f ?_ hp)⟩⟩
    · subst hat
      exact XP post (nm_r hb (br_f (by decide) hp))
    · rw [eg, hb]; decide
    · decide
  · have hb0 : (0 : Int32) ≤ nI b := nI_pos' (by omega)
    by_cases hcl : ca < 200
    · obtain ⟨ho1, I1, W1⟩ := rx_holdP (b := b) (va := rc_val top a_slots (a_nodeA n)) (vb := rc_val top a_slots (a_nodeB n)) (f_kindRet := f_kindRet) (f_kindTail := f_kindTail) (f_kindBind := f_kindBind) (f_kindCon := f_kindCon) (f_kindPrim := f_kindPrim) (f_kindCall := f_kindCall) (f_kindMatch := f_kindMatch) (f_kindTest := f_kindTest) (f_cellBase := f_cellBase) (f_heapSize := f_heapSize) (f_depthLimit := f_depthLimit) (f_nodeLimit := f_nodeLimit) (f_nodeCount := f_nodeCount) (f_fragmentCount := f_fragmentCount) (f_frames := f_frames) (f_at := nI n) (f_deadCount := f_deadCount) (f_freeHead := f_freeHead) (f_fresh := f_fresh) (f_liveCells := f_liveCells) (f_spareTotal := f_spareTotal) (f_counted := f_counted) (f_status := f_status) (f_made := f_made) (f_reused := f_reused) (f_peak := f_peak) (f_calls := nI (ca + 1)) (f_result := f_result) (f_resultCells := f_resultCells) (a_nodeKind := a_nodeKind) (a_nodeX := a_nodeX) (a_nodeParam := a_nodeParam) (a_nodeA := a_nodeA) (a_nodeB := a_nodeB) (a_nodeNext := a_nodeNext) (a_nodeElse := a_nodeElse) (a_nodeFree := a_nodeFree) (a_nodeNeed := a_nodeNeed) (a_fragments := a_fragments) (a_body := a_body) (a_slots := a_slots) (a_waiting := a_waiting) (a_spareHead := a_spareHead) (a_spareCount := a_spareCount) (a_cellTag := a_cellTag) (a_cellLeft := a_cellLeft) (a_cellRight := a_cellRight) (a_holds := a_holds) (a_link := a_link) (a_dead := a_dead) (a_cellOfNumber := a_cellOfNumber) (a_numberOfCell := a_numberOfCell) (a_places := a_places) (a_walk := a_walk) (by omega) hfa hfb hXI
      obtain ⟨col', F', ho', li', de', fh', lc', I2, p1, p2, p3, p4, W2⟩ := rx_give (f_kindRet := f_kindRet) (f_kindTail := f_kindTail) (f_kindBind := f_kindBind) (f_kindCon := f_kindCon) (f_kindPrim := f_kindPrim) (f_kindCall := f_kindCall) (f_kindMatch := f_kindMatch) (f_kindTest := f_kindTest) (f_cellBase := f_cellBase) (f_heapSize := f_heapSize) (f_depthLimit := f_depthLimit) (f_nodeLimit := f_nodeLimit) (f_nodeCount := f_nodeCount) (f_fragmentCount := f_fragmentCount) (f_frames := f_frames) (f_at := nI n) (f_deadCount := f_deadCount) (f_freeHead := f_freeHead) (f_fresh := f_fresh) (f_liveCells := f_liveCells) (f_spareTotal := f_spareTotal) (f_counted := f_counted) (f_status := f_status) (f_made := f_made) (f_reused := f_reused) (f_peak := f_peak) (f_calls := nI (ca + 1)) (f_result := f_result) (f_resultCells := f_resultCells) (a_nodeKind := a_nodeKind) (a_nodeX := a_nodeX) (a_nodeParam := a_nodeParam) (a_nodeA := a_nodeA) (a_nodeB := a_nodeB) (a_nodeNext := a_nodeNext) (a_nodeElse := a_nodeElse) (a_nodeFree := a_nodeFree) (a_nodeNeed := a_nodeNeed) (a_fragments := a_fragments) (a_body := a_body) (a_slots := a_slots) (a_waiting := a_waiting) (a_spareHead := a_spareHead) (a_spareCount := a_spareCount) (a_cellTag := a_cellTag) (a_cellLeft := a_cellLeft) (a_cellRight := a_cellRight) (a_holds := ho1) (a_link := a_link) (a_dead := a_dead) (a_cellOfNumber := a_cellOfNumber) (a_numberOfCell := a_numberOfCell) (a_places := a_places) (a_walk := a_walk) (set := a_nodeFree n) htop hfr (fun s hs hb => ⟨Nat.lt_succ_self _, by rw [hsst]; exact hb⟩) I1
      have hz : ∀ s, s < 12 → bt (upd ss top (ss top &&& (a_nodeFree n ^^^ (-1))) top) s = false := by
        intro s hs
        rw [pk_us, hsst, rc_andn (by omega)]
        cases bt (a_nodeFree n) s <;> rfl
      have I3 := rc_params (Z := a_nodeFree b) (b0 := bt (a_nodeFree b) 0) (b1 := bt (a_nodeFree b) 1) (va := rc_val top a_slots (a_nodeA n)) (vb := rc_val top a_slots (a_nodeB n)) (Nat.lt_succ_self top) htop (hz 0 (by omega)) (hz 1 (by omega)) (fun hb => rc_FV_m hfa fun c hc hc0 e => p3 c hc0 (by
        simp only [hb, if_true]
        rw [rc_is_s e]; omega)) (fun hb => rc_FV_m hfb fun c hc hc0 e => p3 c hc0 (by
        simp only [hb, if_true]
        rw [rc_is_s e]; omega)) (fun s hs => by
        by_cases s0 : s = 0
        · subst s0; rfl
        · by_cases s1 : s = 1
          · subst s1; rfl
          · rw [if_neg s0, if_neg s1, hz s hs, hbf s (by omega) hs]) I2
      rw [rc_upd2] at I3
      refine ⟨0, b, (f_kindRet, f_kindTail, f_kindBind, f_kindCon, f_kindPrim, f_kindCall, f_kindMatch, f_kindTest, f_cellBase, f_heapSize, f_depthLimit, f_nodeLimit, f_nodeCount, f_fragmentCount, f_frames, nI b, 0, fh', f_fresh, lc', f_spareTotal, f_counted, f_status, f_made, f_reused, f_peak, nI (ca + 1), f_result, f_resultCells, a_nodeKind, a_nodeX, a_nodeParam, a_nodeA, a_nodeB, a_nodeNext, a_nodeElse, a_nodeFree, a_nodeNeed, a_fragments, a_body, vp_updL (vp_updL a_slots (12 * top) (rc_val top a_slots (a_nodeA n))) (12 * top + 1) (rc_val top a_slots (a_nodeB n)), a_waiting, a_spareHead, a_spareCount, a_cellTag, a_cellLeft, a_cellRight, ho', li', de', a_cellOfNumber, a_numberOfCell, a_places, a_walk), (f_heapSize, f_depthLimit, f_nodeLimit, f_nodeCount, f_fragmentCount, g_frames, f_made, f_counted, f_reused, f_peak, nI (ca + 1), g_status, g_resKind, g_resNumber, g_numbered, a_nodeKind, a_nodeX, a_nodeParam, b_nodeA, b_nodeB, a_nodeNext, a_nodeElse, b_scratch, a_fragments, a_body, upd (upd b_slotKind (12 * top) (rc_kat top b_slotKind (a_nodeA n))) (12 * top + 1) (rc_kat top b_slotKind (a_nodeB n)), upd (upd b_slotNumber (12 * top) (rc_nat top b_slotNumber (a_nodeA n))) (12 * top + 1) (rc_nat top b_slotNumber (a_nodeB n)), b_spares, a_waiting, b_cellTag, b_partKind, b_partNumber, b_live, b_order, b_todo), Or.inl ⟨rfl, rc_ER_mk (ca := ca + 1) ⟨hST, hFT, ⟨f1, f2, hfr, hgf, rfl, hb, hmade, hm, rfl, by omega, hfs, hst, hrk, hnum, hrc⟩, rc_SS_top hSS, hWT, hSP, I3, ?_, rc_HR_mono p1 hHR, hYW, fun h => ?_, fun h => ?_, ?_⟩⟩, fun post hp => ?_, fun post hp => YP post ⟨hing, br_t ?_ (br_f (by decide) (br_t ?_ (br_t hst (nm_r (e' := nI (ca + 1)) ?_ (br_f (by decide) ?_)))))⟩⟩
      · exact rc_SV_two (y := 0) (z := 1) (by omega) (by omega) (by omega) (fun s hs hb h1 h2 => by
          rw [hbf s (by omega) hs] at hb; exact absurd hb (by decide)) (fun _ => hva) (fun _ => hvb) hSV
      · obtain ⟨e1, e2⟩ := p4 h
        subst e1 e2
        exact hPL h
      · have := hRN h
        have := rc_ct_mono p1
        omega
      · unfold rc_ME at hME ⊢; omega
      · subst hat
        refine XP post (nm_r hbe (br_t hb0 (br_t ?_ (nm_r (e' := nI (ca + 1)) ?_ ⟨hinn, rx_val (top := top) hoa hfr htop _ ⟨hinn, rx_val (top := top) hob hfr htop _ (W1 _ ⟨hinn, W2 _ (rx_enter (top := top) hfr htop _ hp)⟩)⟩⟩))))
        · rw [hcalls]; exact nI_lt (b := 200) hcl (by decide)
        · rw [hcalls, nI_1]
      · rw [eg, hbe]; exact hb0
      · rw [hcalls]; exact nI_lt (b := 200) hcl (by decide)
      · rw [hcalls, nI_1]
      · refine ry_put (top := top) (x := 0) (by omega) hgf htop _ (ry_put (top := top) (x := 1) (by omega) hgf htop _ ⟨hing, ?_⟩)
        rw [eg, hbe]; exact hp
    · have hcn : ¬ f_calls < 200 := by rw [hcalls]; exact nI_nlt (b := 200) (by omega) (by omega)
      refine ⟨14, n, (f_kindRet, f_kindTail, f_kindBind, f_kindCon, f_kindPrim, f_kindCall, f_kindMatch, f_kindTest, f_cellBase, f_heapSize, f_depthLimit, f_nodeLimit, f_nodeCount, f_fragmentCount, f_frames, f_at, f_deadCount, f_freeHead, f_fresh, f_liveCells, f_spareTotal, f_counted, f_status, f_made, f_reused, f_peak, f_calls, f_result, f_resultCells, a_nodeKind, a_nodeX, a_nodeParam, a_nodeA, a_nodeB, a_nodeNext, a_nodeElse, a_nodeFree, a_nodeNeed, a_fragments, a_body, a_slots, a_waiting, a_spareHead, a_spareCount, a_cellTag, a_cellLeft, a_cellRight, a_holds, a_link, a_dead, a_cellOfNumber, a_numberOfCell, a_places, a_walk), (f_heapSize, f_depthLimit, f_nodeLimit, f_nodeCount, f_fragmentCount, g_frames, f_made, f_counted, f_reused, f_peak, f_calls, 14, g_resKind, g_resNumber, g_numbered, a_nodeKind, a_nodeX, a_nodeParam, b_nodeA, b_nodeB, a_nodeNext, a_nodeElse, b_scratch, a_fragments, a_body, b_slotKind, b_slotNumber, b_spares, a_waiting, b_cellTag, b_partKind, b_partNumber, b_live, b_order, b_todo), Or.inr ⟨by decide, rc_EN_mk (by decide) (by decide) G0⟩, fun post hp => ?_, fun post hp => YP post ⟨hing, br_t ?_ (br_f (by decide) (br_f hcn (br_f (by decide) hp)))⟩⟩
      · subst hat
        exact XP post (nm_r hbe (br_t hb0 (br_f hcn hp)))
      · rw [eg, hbe]; exact hb0
/-- CALL -/
theorem rs_call (G : (rc_EG n stp nc hs dl fr m ca fs nd φ col F S ss f_heapSize f_depthLimit f_nodeLimit f_nodeCount f_fragmentCount f_frames f_at f_deadCount f_freeHead f_fresh f_liveCells f_spareTotal f_counted f_made f_peak f_calls f_resultCells a_nodeKind a_nodeX a_nodeParam a_nodeA a_nodeB a_nodeNext a_nodeElse a_nodeFree a_nodeNeed a_fragments a_body a_slots a_waiting a_spareHead a_spareCount a_cellTag a_cellLeft a_cellRight a_holds a_link a_dead g_frames g_status g_resKind g_numbered b_nodeA b_nodeB b_slotKind b_slotNumber b_spares b_cellTag b_partKind b_partNumber)) (hk : a_nodeKind n = 5) : ∃ (r : Int32) (n' : Nat) (u' : SX) (v' : SY), rc_OUT r n' (stp + 1) u' v' ∧ (∀ post : Int32 → SX → Prop, post r u' → wpX_stepCall post (f_kindRet, f_kindTail, f_kindBind, f_kindCon, f_kindPrim, f_kindCall, f_kindMatch, f_kindTest, f_cellBase, f_heapSize, f_depthLimit, f_nodeLimit, f_nodeCount, f_fragmentCount, f_frames, f_at, f_deadCount, f_freeHead, f_fresh, f_liveCells, f_spareTotal, f_counted, f_status, f_made, f_reused, f_peak, f_calls, f_result, f_resultCells, a_nodeKind, a_nodeX, a_nodeParam, a_nodeA, a_nodeB, a_nodeNext, a_nodeElse, a_nodeFree, a_nodeNeed, a_fragments, a_body, a_slots, a_waiting, a_spareHead, a_spareCount, a_cellTag, a_cellLeft, a_cellRight, a_holds, a_link, a_dead, a_cellOfNumber, a_numberOfCell, a_places, a_walk)) ∧ (∀ post : Int32 → SY → Prop, post (nI n') v' → wpY_step post (f_heapSize, f_depthLimit, f_nodeLimit, f_nodeCount, f_fragmentCount, g_frames, f_made, f_counted, f_reused, f_peak, f_calls, g_status, g_resKind, g_resNumber, g_numbered, a_nodeKind, a_nodeX, a_nodeParam, b_nodeA, b_nodeB, a_nodeNext, a_nodeElse, b_scratch, a_fragments, a_body, b_slotKind, b_slotNumber, b_spares, a_waiting, b_cellTag, b_partKind, b_partNumber, b_live, b_order, b_todo) (nI n)) := by
  have G0 := G
  obtain ⟨hST, hFT, hNU, hSS, hWT, hSP, hXI, hSV, hHR, hYW, hPL, hRN, hME⟩ := G
  obtain ⟨f1, f2, hfr, hgf, hat, hn, hmade, hm, hcalls, hca, hfs, hst, hrk, hnum, hrc⟩ := hNU
  obtain ⟨top, rfl⟩ : ∃ t, fr = t + 1 := ⟨fr - 1, by omega⟩
  have hnc := hST.1
  have hdl := hST.2.2.2.2.2.2.2.1
  have hdle := hST.2.2.2.2.2.1
  obtain ⟨x, j, hx, hxx, hya, hyb, hoa, hob, hpm, hba, hbb, hj, hnx, hsub, -⟩ := rc_nd2 (hST.2.1 n hn) (Or.inr (Or.inr (Or.inr hk)))
  obtain ⟨g, hg, hgp⟩ := hpm.1 hk
  have htop : top < 16 := by omega
  have hsst : ss top = a_nodeFree n := hSS.1
  have en : (nI n).toNatClampNeg = n := nI_clamp (by omega)
  have ej : (nI j).toNatClampNeg = j := nI_clamp (by omega)
  have eg : (nI g).toNatClampNeg = g := nI_clamp (by omega)
  have hing : vp_in (nI g) 8 := vp_in_nI hg (by decide)
  have hinn : vp_in (nI n) 48 := vp_in_nI (by omega) (by decide)
  have hinj : vp_in (nI j) 48 := vp_in_nI (by omega) (by decide)
  have hfa := rc_val_FV (o := a_nodeA n) (Nat.lt_succ_self top) (by omega) hoa (fun s hs e => by rw [hsst]; exact hba s hs e) hXI.1
  have hva := rc_val_VR (o := a_nodeA n) (Nat.lt_succ_self top) (by omega) hoa (fun s hs e => by rw [hsst]; exact hba s hs e) hSV
  have hfb := rc_val_FV (o := a_nodeB n) (Nat.lt_succ_self top) (by omega) hob (fun s hs e => by rw [hsst]; exact hbb s hs e) hXI.1
  have hvb := rc_val_VR (o := a_nodeB n) (Nat.lt_succ_self top) (by omega) hob (fun s hs e => by rw [hsst]; exact hbb s hs e) hSV
  have YP : ∀ (post : Int32 → SY → Prop), wY_step_176 post (nI n) 5 (nI g) (rc_kat top b_slotKind (a_nodeA n)) (rc_nat top b_slotNumber (a_nodeA n)) (rc_kat top b_slotKind (a_nodeB n)) (rc_nat top b_slotNumber (a_nodeB n)) f_heapSize f_depthLimit f_nodeLimit f_nodeCount f_fragmentCount g_frames f_made f_counted f_reused f_peak f_calls g_status g_resKind g_resNumber g_numbered a_nodeKind a_nodeX a_nodeParam b_nodeA b_nodeB a_nodeNext a_nodeElse b_scratch a_fragments a_body b_slotKind b_slotNumber b_spares a_waiting b_cellTag b_partKind b_partNumber b_live b_order b_todo → wpY_step post (f_heapSize, f_depthLimit, f_nodeLimit, f_nodeCount, f_fragmentCount, g_frames, f_made, f_counted, f_reused, f_peak, f_calls, g_status, g_resKind, g_resNumber, g_numbered, a_nodeKind, a_nodeX, a_nodeParam, b_nodeA, b_nodeB, a_nodeNext, a_nodeElse, b_scratch, a_fragments, a_body, b_slotKind, b_slotNumber, b_spares, a_waiting, b_cellTag, b_partKind, b_partNumber, b_live, b_order, b_todo) (nI n) := by
    intro post hp
    refine ⟨hinn, nm_r (e' := 5) (by rw [en]; exact hk) (br_f (by decide) (br_f (by decide) ⟨hinn, nm_e ⟨hinn, nm_r (e' := nI g) (by rw [en]; exact hgp) ⟨hinn, ?_⟩⟩⟩))⟩
    rw [en, ← hya, ← hyb]
    refine ry_kat (top := top) hoa hgf htop _ ⟨hinn, ry_nat (top := top) hoa hgf htop _ ⟨hinn, ry_kat (top := top) hob hgf htop _ ⟨hinn, ry_nat (top := top) hob hgf htop _ ?_⟩⟩⟩
    exact br_f (by decide) (br_f (by decide) (br_t rfl hp))
  have XP : ∀ (post : Int32 → SX → Prop), (∀ x2, x2 = a_body g → ((0 ≤ x2 → ((f_frames < f_depthLimit → ((f_calls < 200 → ∀ cq, cq = f_calls + 1 → (vp_in (nI n) 48 ∧ wpX_valueOf (fun r_9 => (vp_in (nI n) 48 ∧ wpX_valueOf (fun r_65 => wpX_holdParameters (fun u => match u with | (f_kindRet, f_kindTail, f_kindBind, f_kindCon, f_kindPrim, f_kindCall, f_kindMatch, f_kindTest, f_cellBase, f_heapSize, f_depthLimit, f_nodeLimit, f_nodeCount, f_fragmentCount, f_frames, f_at, f_deadCount, f_freeHead, f_fresh, f_liveCells, f_spareTotal, f_counted, f_status, f_made, f_reused, f_peak, f_calls, f_result, f_resultCells, a_nodeKind, a_nodeX, a_nodeParam, a_nodeA, a_nodeB, a_nodeNext, a_nodeElse, a_nodeFree, a_nodeNeed, a_fragments, a_body, a_slots, a_waiting, a_spareHead, a_spareCount, a_cellTag, a_cellLeft, a_cellRight, a_holds, a_link, a_dead, a_cellOfNumber, a_numberOfCell, a_places, a_walk) => (vp_in (nI n) 48 ∧ vp_in (a_nodeNext n) 48 ∧ vp_in (nI n) 48 ∧ ∀ x7, x7 = (a_nodeFree (a_nodeNext n).toNatClampNeg) &&& (((1 : Int32) <<< ((a_nodeX n) &&& 31)) ^^^ (-1)) → (vp_in (nI n) 48 ∧ wpX_giveUpSlots (fun u => match u with | (f_kindRet, f_kindTail, f_kindBind, f_kindCon, f_kindPrim, f_kindCall, f_kindMatch, f_kindTest, f_cellBase, f_heapSize, f_depthLimit, f_nodeLimit, f_nodeCount, f_fragmentCount, f_frames, f_at, f_deadCount, f_freeHead, f_fresh, f_liveCells, f_spareTotal, f_counted, f_status, f_made, f_reused, f_peak, f_calls, f_result, f_resultCells, a_nodeKind, a_nodeX, a_nodeParam, a_nodeA, a_nodeB, a_nodeNext, a_nodeElse, a_nodeFree, a_nodeNeed, a_fragments, a_body, a_slots, a_waiting, a_spareHead, a_spareCount, a_cellTag, a_cellLeft, a_cellRight, a_holds, a_link, a_dead, a_cellOfNumber, a_numberOfCell, a_places, a_walk) => (vp_in (f_frames - 1) 16 ∧ ∀ wq, wq = upd a_waiting (f_frames - 1).toNatClampNeg (nI n) → wpX_openFrame (fun u => match u with | (f_kindRet, f_kindTail, f_kindBind, f_kindCon, f_kindPrim, f_kindCall, f_kindMatch, f_kindTest, f_cellBase, f_heapSize, f_depthLimit, f_nodeLimit, f_nodeCount, f_fragmentCount, f_frames, f_at, f_deadCount, f_freeHead, f_fresh, f_liveCells, f_spareTotal, f_counted, f_status, f_made, f_reused, f_peak, f_calls, f_result, f_resultCells, a_nodeKind, a_nodeX, a_nodeParam, a_nodeA, a_nodeB, a_nodeNext, a_nodeElse, a_nodeFree, a_nodeNeed, a_fragments, a_body, a_slots, a_waiting, a_spareHead, a_spareCount, a_cellTag, a_cellLeft, a_cellRight, a_holds, a_link, a_dead, a_cellOfNumber, a_numberOfCell, a_places, a_walk) => wpX_enter (fun u => match u with | (f_kindRet, f_kindTail, f_kindBind, f_kindCon, f_kindPrim, f_kindCall, f_kindMatch, f_kindTest, f_cellBase, f_heapSize, f_depthLimit, f_nodeLimit, f_nodeCount, f_fragmentCount, f_frames, f_at, f_deadCount, f_freeHead, f_fresh, f_liveCells, f_spareTotal, f_counted, f_status, f_made, f_reused, f_peak, f_calls, f_result, f_resultCells, a_nodeKind, a_nodeX, a_nodeParam, a_nodeA, a_nodeB, a_nodeNext, a_nodeElse, a_nodeFree, a_nodeNeed, a_fragments, a_body, a_slots, a_waiting, a_spareHead, a_spareCount, a_cellTag, a_cellLeft, a_cellRight, a_holds, a_link, a_dead, a_cellOfNumber, a_numberOfCell, a_places, a_walk) => post 0 (f_kindRet, f_kindTail, f_kindBind, f_kindCon, f_kindPrim, f_kindCall, f_kindMatch, f_kindTest, f_cellBase, f_heapSize, f_depthLimit, f_nodeLimit, f_nodeCount, f_fragmentCount, f_frames, f_at, f_deadCount, f_freeHead, f_fresh, f_liveCells, f_spareTotal, f_counted, f_status, f_made, f_reused, f_peak, f_calls, f_result, f_resultCells, a_nodeKind, a_nodeX, a_nodeParam, a_nodeA, a_nodeB, a_nodeNext, a_nodeElse, a_nodeFree, a_nodeNeed, a_fragments, a_body, a_slots, a_waiting, a_spareHead, a_spareCount, a_cellTag, a_cellLeft, a_cellRight, a_holds, a_link, a_dead, a_cellOfNumber, a_numberOfCell, a_places, a_walk)) (f_kindRet, f_kindTail, f_kindBind, f_kindCon, f_kindPrim, f_kindCall, f_kindMatch, f_kindTest, f_cellBase, f_heapSize, f_depthLimit, f_nodeLimit, f_nodeCount, f_fragmentCount, f_frames, f_at, f_deadCount, f_freeHead, f_fresh, f_liveCells, f_spareTotal, f_counted, f_status, f_made, f_reused, f_peak, f_calls, f_result, f_resultCells, a_nodeKind, a_nodeX, a_nodeParam, a_nodeA, a_nodeB, a_nodeNext, a_nodeElse, a_nodeFree, a_nodeNeed, a_fragments, a_body, a_slots, a_waiting, a_spareHead, a_spareCount, a_cellTag, a_cellLeft, a_cellRight, a_holds, a_link, a_dead, a_cellOfNumber, a_numberOfCell, a_places, a_walk) x2 r_9 r_65) (f_kindRet, f_kindTail, f_kindBind, f_kindCon, f_kindPrim, f_kindCall, f_kindMatch, f_kindTest, f_cellBase, f_heapSize, f_depthLimit, f_nodeLimit, f_nodeCount, f_fragmentCount, f_frames, f_at, f_deadCount, f_freeHead, f_fresh, f_liveCells, f_spareTotal, f_counted, f_status, f_made, f_reused, f_peak, f_calls, f_result, f_resultCells, a_nodeKind, a_nodeX, a_nodeParam, a_nodeA, a_nodeB, a_nodeNext, a_nodeElse, a_nodeFree, a_nodeNeed, a_fragments, a_body, a_slots, wq, a_spareHead, a_spareCount, a_cellTag, a_cellLeft, a_cellRight, a_holds, a_link, a_dead, a_cellOfNumber, a_numberOfCell, a_places, a_walk))) (f_kindRet, f_kindTail, f_kindBind, f_kindCon, f_kindPrim, f_kindCall, f_kindMatch, f_kindTest, f_cellBase, f_heapSize, f_depthLimit, f_nodeLimit, f_nodeCount, f_fragmentCount, f_frames, f_at, f_deadCount, f_freeHead, f_fresh, f_liveCells, f_spareTotal, f_counted, f_status, f_made, f_reused, f_peak, f_calls, f_result, f_resultCells, a_nodeKind, a_nodeX, a_nodeParam, a_nodeA, a_nodeB, a_nodeNext, a_nodeElse, a_nodeFree, a_nodeNeed, a_fragments, a_body, a_slots, a_waiting, a_spareHead, a_spareCount, a_cellTag, a_cellLeft, a_cellRight, a_holds, a_link, a_dead, a_cellOfNumber, a_numberOfCell, a_places, a_walk) ((a_nodeFree n) &&& (x7 ^^^ (-1)))))) (f_kindRet, f_kindTail, f_kindBind, f_kindCon, f_kindPrim, f_kindCall, f_kindMatch, f_kindTest, f_cellBase, f_heapSize, f_depthLimit, f_nodeLimit, f_nodeCount, f_fragmentCount, f_frames, nI n, f_deadCount, f_freeHead, f_fresh, f_liveCells, f_spareTotal, f_counted, f_status, f_made, f_reused, f_peak, cq, f_result, f_resultCells, a_nodeKind, a_nodeX, a_nodeParam, a_nodeA, a_nodeB, a_nodeNext, a_nodeElse, a_nodeFree, a_nodeNeed, a_fragments, a_body, a_slots, a_waiting, a_spareHead, a_spareCount, a_cellTag, a_cellLeft, a_cellRight, a_holds, a_link, a_dead, a_cellOfNumber, a_numberOfCell, a_places, a_walk) x2 r_9 r_65) (f_kindRet, f_kindTail, f_kindBind, f_kindCon, f_kindPrim, f_kindCall, f_kindMatch, f_kindTest, f_cellBase, f_heapSize, f_depthLimit, f_nodeLimit, f_nodeCount, f_fragmentCount, f_frames, nI n, f_deadCount, f_freeHead, f_fresh, f_liveCells, f_spareTotal, f_counted, f_status, f_made, f_reused, f_peak, cq, f_result, f_resultCells, a_nodeKind, a_nodeX, a_nodeParam, a_nodeA, a_nodeB, a_nodeNext, a_nodeElse, a_nodeFree, a_nodeNeed, a_fragments, a_body, a_slots, a_waiting, a_spareHead, a_spareCount, a_cellTag, a_cellLeft, a_cellRight, a_holds, a_link, a_dead, a_cellOfNumber, a_numberOfCell, a_places, a_walk) (a_nodeB n))) (f_kindRet, f_kindTail, f_kindBind, f_kindCon, f_kindPrim, f_kindCall, f_kindMatch, f_kindTest, f_cellBase, f_heapSize, f_depthLimit, f_nodeLimit, f_nodeCount, f_fragmentCount, f_frames, nI n, f_deadCount, f_freeHead, f_fresh, f_liveCells, f_spareTotal, f_counted, f_status, f_made, f_reused, f_peak, cq, f_result, f_resultCells, a_nodeKind, a_nodeX, a_nodeParam, a_nodeA, a_nodeB, a_nodeNext, a_nodeElse, a_nodeFree, a_nodeNeed, a_fragments, a_body, a_slots, a_waiting, a_spareHead, a_spareCount, a_cellTag, a_cellLeft, a_cellRight, a_holds, a_link, a_dead, a_cellOfNumber, a_numberOfCell, a_places, a_walk) (a_nodeA n))) ∧ (¬ f_calls < 200 → post 14 (f_kindRet, f_kindTail, f_kindBind, f_kindCon, f_kindPrim, f_kindCall, f_kindMatch, f_kindTest, f_cellBase, f_heapSize, f_depthLimit, f_nodeLimit, f_nodeCount, f_fragmentCount, f_frames, nI n, f_deadCount, f_freeHead, f_fresh, f_liveCells, f_spareTotal, f_counted, f_status, f_made, f_reused, f_peak, f_calls, f_result, f_resultCells, a_nodeKind, a_nodeX, a_nodeParam, a_nodeA, a_nodeB, a_nodeNext, a_nodeElse, a_nodeFree, a_nodeNeed, a_fragments, a_body, a_slots, a_waiting, a_spareHead, a_spareCount, a_cellTag, a_cellLeft, a_cellRight, a_holds, a_link, a_dead, a_cellOfNumber, a_numberOfCell, a_places, a_walk)))) ∧ (¬ f_frames < f_depthLimit → post 13 (f_kindRet, f_kindTail, f_kindBind, f_kindCon, f_kindPrim, f_kindCall, f_kindMatch, f_kindTest, f_cellBase, f_heapSize, f_depthLimit, f_nodeLimit, f_nodeCount, f_fragmentCount, f_frames, nI n, f_deadCount, f_freeHead, f_fresh, f_liveCells, f_spareTotal, f_counted, f_status, f_made, f_reused, f_peak, f_calls, f_result, f_resultCells, a_nodeKind, a_nodeX, a_nodeParam, a_nodeA, a_nodeB, a_nodeNext, a_nodeElse, a_nodeFree, a_nodeNeed, a_fragments, a_body, a_slots, a_waiting, a_spareHead, a_spareCount, a_cellTag, a_cellLeft, a_cellRight, a_holds, a_link, a_dead, a_cellOfNumber, a_numberOfCell, a_places, a_walk)))) ∧ (¬ 0 ≤ x2 → post 12 (f_kindRet, f_kindTail, f_kindBind, f_kindCon, f_kindPrim, f_kindCall, f_kindMatch, f_kindTest, f_cellBase, f_heapSize, f_depthLimit, f_nodeLimit, f_nodeCount, f_fragmentCount, f_frames, nI n, f_deadCount, f_freeHead, f_fresh, f_liveCells, f_spareTotal, f_counted, f_status, f_made, f_reused, f_peak, f_calls, f_result, f_resultCells, a_nodeKind, a_nodeX, a_nodeParam, a_nodeA, a_nodeB, a_nodeNext, a_nodeElse, a_nodeFree, a_nodeNeed, a_fragments, a_body, a_slots, a_waiting, a_spareHead, a_spareCount, a_cellTag, a_cellLeft, a_cellRight, a_holds, a_link, a_dead, a_cellOfNumber, a_numberOfCell, a_places, a_walk)))) → wpX_stepCall post (f_kindRet, f_kindTail, f_kindBind, f_kindCon, f_kindPrim, f_kindCall, f_kindMatch, f_kindTest, f_cellBase, f_heapSize, f_depthLimit, f_nodeLimit, f_nodeCount, f_fragmentCount, f_frames, nI n, f_deadCount, f_freeHead, f_fresh, f_liveCells, f_spareTotal, f_counted, f_status, f_made, f_reused, f_peak, f_calls, f_result, f_resultCells, a_nodeKind, a_nodeX, a_nodeParam, a_nodeA, a_nodeB, a_nodeNext, a_nodeElse, a_nodeFree, a_nodeNeed, a_fragments, a_body, a_slots, a_waiting, a_spareHead, a_spareCount, a_cellTag, a_cellLeft, a_cellRight, a_holds, a_link, a_dead, a_cellOfNumber, a_numberOfCell, a_places, a_walk) := by
    intro post hp
    refine ⟨hinn, ?_⟩
    rw [en, hgp, eg]
    exact ⟨hing, hp⟩
  rcases hST.2.2.2.2.2.2.2.2 g hg with hb | ⟨b, hb, hbe, hbf⟩
  · refine ⟨12, n, (f_kindRet, f_kindTail, f_kindBind, f_kindCon, f_kindPrim, f_kindCall, f_kindMatch, f_kindTest, f_cellBase, f_heapSize, f_depthLimit, f_nodeLimit, f_nodeCount, f_fragmentCount, f_frames, f_at, f_deadCount, f_freeHead, f_fresh, f_liveCells, f_spareTotal, f_counted, f_status, f_made, f_reused, f_peak, f_calls, f_result, f_resultCells, a_nodeKind, a_nodeX, a_nodeParam, a_nodeA, a_nodeB, a_nodeNext, a_nodeElse, a_nodeFree, a_nodeNeed, a_fragments, a_body, a_slots, a_waiting, a_spareHead, a_spareCount, a_cellTag, a_cellLeft, a_cellRight, a_holds, a_link, a_dead, a_cellOfNumber, a_numberOfCell, a_places, a_walk), (f_heapSize, f_depthLimit, f_nodeLimit, f_nodeCount, f_fragmentCount, g_frames, f_made, f_counted, f_reused, f_peak, f_calls, 12, g_resKind, g_resNumber, g_numbered, a_nodeKind, a_nodeX, a_nodeParam, b_nodeA, b_nodeB, a_nodeNext, a_nodeElse, b_scratch, a_fragments, a_body, b_slotKind, b_slotNumber, b_spares, a_waiting, b_cellTag, b_partKind, b_partNumber, b_live, b_order, b_todo), Or.inr ⟨by decide, rc_EN_mk (by decide) (by decide) G0⟩, fun post hp => ?_, fun post hp => YP post ⟨hing, br_f ?_ (br_f ?_ hp)⟩⟩
    · subst hat
      exact XP post (nm_r hb (br_f (by decide) hp))
    · rw [eg, hb]; decide
    · decide
  · have hb0 : (0 : Int32) ≤ nI b := nI_pos' (by omega)
    have hb0' : (0 : Int32) ≤ a_body (nI g).toNatClampNeg := by rw [eg, hbe]; exact hb0
    by_cases hdp : top + 1 < dl
    · have hfd : f_frames < f_depthLimit := by rw [hfr, hdle]; exact nI_lt hdp (by omega)
      have hgd : ¬ g_frames = f_depthLimit := by
        rw [hgf, hdle]; intro w
        have := rc_n_of (by omega) (by omega) w
        omega
      by_cases hcl : ca < 200
      · obtain ⟨ho1, I1, W1⟩ := rx_holdP (b := b) (va := rc_val top a_slots (a_nodeA n)) (vb := rc_val top a_slots (a_nodeB n)) (f_kindRet := f_kindRet) (f_kindTail := f_kindTail) (f_kindBind := f_kindBind) (f_kindCon := f_kindCon) (f_kindPrim := f_kindPrim) (f_kindCall := f_kindCall) (f_kindMatch := f_kindMatch) (f_kindTest := f_kindTest) (f_cellBase := f_cellBase) (f_heapSize := f_heapSize) (f_depthLimit := f_depthLimit) (f_nodeLimit := f_nodeLimit) (f_nodeCount := f_nodeCount) (f_fragmentCount := f_fragmentCount) (f_frames := f_frames) (f_at := nI n) (f_deadCount := f_deadCount) (f_freeHead := f_freeHead) (f_fresh := f_fresh) (f_liveCells := f_liveCells) (f_spareTotal := f_spareTotal) (f_counted := f_counted) (f_status := f_status) (f_made := f_made) (f_reused := f_reused) (f_peak := f_peak) (f_calls := nI (ca + 1)) (f_result := f_result) (f_resultCells := f_resultCells) (a_nodeKind := a_nodeKind) (a_nodeX := a_nodeX) (a_nodeParam := a_nodeParam) (a_nodeA := a_nodeA) (a_nodeB := a_nodeB) (a_nodeNext := a_nodeNext) (a_nodeElse := a_nodeElse) (a_nodeFree := a_nodeFree) (a_nodeNeed := a_nodeNeed) (a_fragments := a_fragments) (a_body := a_body) (a_slots := a_slots) (a_waiting := a_waiting) (a_spareHead := a_spareHead) (a_spareCount := a_spareCount) (a_cellTag := a_cellTag) (a_cellLeft := a_cellLeft) (a_cellRight := a_cellRight) (a_holds := a_holds) (a_link := a_link) (a_dead := a_dead) (a_cellOfNumber := a_cellOfNumber) (a_numberOfCell := a_numberOfCell) (a_places := a_places) (a_walk := a_walk) (by omega) hfa hfb hXI
        obtain ⟨col', F', ho', li', de', fh', lc', I2, p1, p2, p3, p4, W2⟩ := rx_give (f_kindRet := f_kindRet) (f_kindTail := f_kindTail) (f_kindBind := f_kindBind) (f_kindCon := f_kindCon) (f_kindPrim := f_kindPrim) (f_kindCall := f_kindCall) (f_kindMatch := f_kindMatch) (f_kindTest := f_kindTest) (f_cellBase := f_cellBase) (f_heapSize := f_heapSize) (f_depthLimit := f_depthLimit) (f_nodeLimit := f_nodeLimit) (f_nodeCount := f_nodeCount) (f_fragmentCount := f_fragmentCount) (f_frames := f_frames) (f_at := nI n) (f_deadCount := f_deadCount) (f_freeHead := f_freeHead) (f_fresh := f_fresh) (f_liveCells := f_liveCells) (f_spareTotal := f_spareTotal) (f_counted := f_counted) (f_status := f_status) (f_made := f_made) (f_reused := f_reused) (f_peak := f_peak) (f_calls := nI (ca + 1)) (f_result := f_result) (f_resultCells := f_resultCells) (a_nodeKind := a_nodeKind) (a_nodeX := a_nodeX) (a_nodeParam := a_nodeParam) (a_nodeA := a_nodeA) (a_nodeB := a_nodeB) (a_nodeNext := a_nodeNext) (a_nodeElse := a_nodeElse) (a_nodeFree := a_nodeFree) (a_nodeNeed := a_nodeNeed) (a_fragments := a_fragments) (a_body := a_body) (a_slots := a_slots) (a_waiting := a_waiting) (a_spareHead := a_spareHead) (a_spareCount := a_spareCount) (a_cellTag := a_cellTag) (a_cellLeft := a_cellLeft) (a_cellRight := a_cellRight) (a_holds := ho1) (a_link := a_link) (a_dead := a_dead) (a_cellOfNumber := a_cellOfNumber) (a_numberOfCell := a_numberOfCell) (a_places := a_places) (a_walk := a_walk) (set := (a_nodeFree n) &&& (((a_nodeFree j) &&& (rc_b1 x ^^^ (-1))) ^^^ (-1))) htop hfr (fun s hs hb => by
          rw [b_and, Bool.and_eq_true] at hb
          exact ⟨Nat.lt_succ_self _, by rw [hsst]; exact hb.1⟩) I1
        have ho : rc_ow (top + 1) (upd ss top (ss top &&& (((a_nodeFree n) &&& (((a_nodeFree j) &&& (rc_b1 x ^^^ (-1))) ^^^ (-1))) ^^^ (-1)))) = rc_ow (top + 1) (upd ss top ((a_nodeFree j) &&& (rc_b1 x ^^^ (-1)))) := rc_ow_ext fun f hf s hs => by
          by_cases q : f = top
          · subst q
            rw [pk_us, pk_us, hsst, rc_andn (by omega), rc_andn (by omega), rc_andn (by omega), rc_b1_b hx (by omega)]
            exact rc_bl1 _ _ _ fun h1 h2 => hsub s hs h1 (of_decide_eq_false h2)
          · rw [pk_un q, pk_un q]
        rw [ho] at I2 p3
        have I3 := rc_open I2
        have I4 := rc_params (Z := a_nodeFree b) (b0 := bt (a_nodeFree b) 0) (b1 := bt (a_nodeFree b) 1) (va := rc_val top a_slots (a_nodeA n)) (vb := rc_val top a_slots (a_nodeB n)) (top := top + 1) (Nat.lt_succ_self _) (by omega) (by rw [pk_us]; exact b_0 _) (by rw [pk_us]; exact b_0 _) (fun hb => rc_FV_m hfa fun c hc hc0 e => p3 c hc0 (by
          simp only [hb, if_true]
          rw [rc_is_s e]; omega)) (fun hb => rc_FV_m hfb fun c hc hc0 e => p3 c hc0 (by
          simp only [hb, if_true]
          rw [rc_is_s e]; omega)) (fun s hs => by
          by_cases s0 : s = 0
          · subst s0; rfl
          · by_cases s1 : s = 1
            · subst s1; rfl
            · rw [if_neg s0, if_neg s1, pk_us, b_0, hbf s (by omega) hs]) I3
        rw [rc_upd2] at I4
        refine ⟨0, b, (f_kindRet, f_kindTail, f_kindBind, f_kindCon, f_kindPrim, f_kindCall, f_kindMatch, f_kindTest, f_cellBase, f_heapSize, f_depthLimit, f_nodeLimit, f_nodeCount, f_fragmentCount, nI (top + 1 + 1), nI b, 0, fh', f_fresh, lc', f_spareTotal, f_counted, f_status, f_made, f_reused, f_peak, nI (ca + 1), f_result, f_resultCells, a_nodeKind, a_nodeX, a_nodeParam, a_nodeA, a_nodeB, a_nodeNext, a_nodeElse, a_nodeFree, a_nodeNeed, a_fragments, a_body, vp_updL (vp_updL a_slots (12 * (top + 1)) (rc_val top a_slots (a_nodeA n))) (12 * (top + 1) + 1) (rc_val top a_slots (a_nodeB n)), upd a_waiting top (nI n), upd a_spareHead (top + 1) (-1), upd a_spareCount (top + 1) 0, a_cellTag, a_cellLeft, a_cellRight, ho', li', de', a_cellOfNumber, a_numberOfCell, a_places, a_walk), (f_heapSize, f_depthLimit, f_nodeLimit, f_nodeCount, f_fragmentCount, nI (top + 1 + 1), f_made, f_counted, f_reused, f_peak, nI (ca + 1), g_status, g_resKind, g_resNumber, g_numbered, a_nodeKind, a_nodeX, a_nodeParam, b_nodeA, b_nodeB, a_nodeNext, a_nodeElse, b_scratch, a_fragments, a_body, upd (upd b_slotKind (12 * (top + 1)) (rc_kat top b_slotKind (a_nodeA n))) (12 * (top + 1) + 1) (rc_kat top b_slotKind (a_nodeB n)), upd (upd b_slotNumber (12 * (top + 1)) (rc_nat top b_slotNumber (a_nodeA n))) (12 * (top + 1) + 1) (rc_nat top b_slotNumber (a_nodeB n)), upd b_spares (top + 1) 0, upd a_waiting top (nI n), b_cellTag, b_partKind, b_partNumber, b_live, b_order, b_todo), Or.inl ⟨rfl, rc_ER_mk (ca := ca + 1) ⟨hST, hFT, ⟨by omega, by omega, rfl, rfl, rfl, hb, hmade, hm, rfl, by omega, hfs, hst, hrk, hnum, hrc⟩, ⟨pk_us, fun f hf => ?_⟩, fun f hf => ?_, fun f hf => ?_, I4, ?_, rc_HR_mono p1 hHR, hYW, fun h => ?_, fun h => ?_, ?_⟩⟩, fun post hp => ?_, fun post hp => YP post ⟨hing, br_t hb0' (br_t rfl (br_f hgd (br_t ?_ (br_t hst (nm_r (e' := nI (ca + 1)) ?_ (br_t rfl ⟨?_, nm_r (e' := upd a_waiting top (nI n)) ?_ (nm_r (e' := nI (top + 1 + 1)) ?_ ⟨?_, nm_r (e' := upd b_spares (top + 1) 0) ?_ ?_⟩)⟩))))))⟩⟩
        · by_cases q : f = top
          · subst q
            refine ⟨n, j, x, hn, by omega, hx, pk_us, hnx, hxx, ?_⟩
            rw [pk_un (by omega), pk_us]
          · rw [pk_un q, pk_un (by omega), pk_un q]
            exact hSS.2 f (by omega)
        · by_cases q : f = top
          · subst q; exact ⟨n, hn, pk_us, hk⟩
          · rw [pk_un q]; exact hWT f (by omega)
        · by_cases q : f = top + 1
          · subst q; rw [pk_us, rc_us_s]; rfl
          · rw [pk_un q, rc_us_n q]; exact hSP f (by omega)
        · have hS0 : rc_SV (rc_ow (top + 1 + 1) (upd (upd ss top (a_nodeFree j &&& (rc_b1 x ^^^ (-1)))) (top + 1) 0)) φ a_slots b_slotKind b_slotNumber := by
            rw [← rc_ow_open]
            refine rc_SV_sub (fun f s hf hs hb => ?_) hSV
            by_cases q : f = top
            · subst q
              rw [pk_us, rc_andn (by omega), rc_b1_b hx (by omega), Bool.and_eq_true] at hb
              rw [hsst]
              exact hsub s hs hb.1 (fun w => by subst w; simp at hb)
            · rw [pk_un q] at hb; exact hb
          have SV2 := rc_SV_two (top := top + 1) (y := 0) (z := 1) (Z := a_nodeFree b) (by omega) (by omega) (by omega) (fun s hs hb h1 h2 => by
            rw [hbf s (by omega) hs] at hb; exact absurd hb (by decide)) (fun _ => hva) (fun _ => hvb) hS0
          rw [rc_upd2] at SV2
          exact SV2
        · obtain ⟨e1, e2⟩ := p4 h
          subst e1 e2
          obtain ⟨g1, g2, g3, g4, g5⟩ := hPL h
          refine ⟨g1, g2, g3, fun f hf => ?_, g5⟩
          by_cases q : f = top + 1
          · subst q; exact rc_us_s
          · rw [rc_us_n q]; exact g4 f (by omega)
        · have h1 := hRN h
          have h2 := rc_ct_mono p1
          have h3 : rc_sm (fun f => (rc_us S (top + 1) [] f).length) (top + 1 + 1) = rc_sm (fun f => (S f).length) (top + 1) := by
            show rc_sm _ (top + 1) + (rc_us S (top + 1) [] (top + 1)).length = _
            rw [rc_us_s]
            exact rc_sm_c fun i hi => by
              show (rc_us S (top + 1) [] i).length = (S i).length
              rw [rc_us_n (by omega)]
          omega
        · have h3 : rc_sm (rc_wn a_nodeNext (upd a_waiting top (nI n))) (top + 1) = rc_sm (rc_wn a_nodeNext a_waiting) top + (j + 1) := by
            show rc_sm _ top + rc_wn a_nodeNext (upd a_waiting top (nI n)) top = _
            have q1 : rc_sm (rc_wn a_nodeNext (upd a_waiting top (nI n))) top = rc_sm (rc_wn a_nodeNext a_waiting) top := rc_sm_c fun i hi => by
              unfold rc_wn; rw [pk_un (by omega)]
            have q2 : rc_wn a_nodeNext (upd a_waiting top (nI n)) top = j + 1 := by
              unfold rc_wn; rw [pk_us, en, hnx, ej]
            rw [q1, q2]
          unfold rc_ME at hME ⊢
          simp only [Nat.add_sub_cancel] at hME ⊢
          omega
        · subst hat
          refine XP post (nm_r hbe (br_t hb0 (br_t hfd (br_t ?_ (nm_r (e' := nI (ca + 1)) ?_ ⟨hinn, rx_val (top := top) hoa hfr htop _ ⟨hinn, rx_val (top := top) hob hfr htop _ (W1 _ ⟨hinn, ?_, hinn, nm_r (e' := (a_nodeFree j) &&& (rc_b1 x ^^^ (-1))) ?_ ⟨hinn, W2 _ ⟨?_, nm_r (e' := upd a_waiting top (nI n)) ?_ (rx_openFrame (fr := top + 1) hfr (by omega) _ (rx_enter (top := top + 1) rfl (by omega) _ hp))⟩⟩⟩)⟩⟩)))))
          · rw [hcalls]; exact nI_lt (b := 200) hcl (by decide)
          · rw [hcalls, nI_1]
          · rw [hnx]; exact hinj
          · rw [hnx, hxx, ej]; rfl
          · rw [hfr, nI_pred]; exact vp_in_nI htop (by decide)
          · rw [hfr, nI_pred, nI_clamp (by omega)]
        · rw [hcalls]; exact nI_lt (b := 200) hcl (by decide)
        · rw [hcalls, nI_1]
        · rw [hgf, nI_pred]; exact vp_in_nI htop (by decide)
        · rw [hgf, nI_pred, nI_clamp (by omega)]
        · rw [hgf, nI_1]
        · rw [nI_pred]; exact vp_in_nI (by omega) (by decide)
        · rw [nI_pred, nI_clamp (by omega)]
        · refine ry_put (top := top + 1) (x := 0) (by omega) rfl (by omega) _ (ry_put (top := top + 1) (x := 1) (by omega) rfl (by omega) _ ⟨hing, ?_⟩)
          rw [eg, hbe]; exact hp
      · have hcn : ¬ f_calls < 200 := by rw [hcalls]; exact nI_nlt (b := 200) (by omega) (by omega)
        refine ⟨14, n, (f_kindRet, f_kindTail, f_kindBind, f_kindCon, f_kindPrim, f_kindCall, f_kindMatch, f_kindTest, f_cellBase, f_heapSize, f_depthLimit, f_nodeLimit, f_nodeCount, f_fragmentCount, f_frames, f_at, f_deadCount, f_freeHead, f_fresh, f_liveCells, f_spareTotal, f_counted, f_status, f_made, f_reused, f_peak, f_calls, f_result, f_resultCells, a_nodeKind, a_nodeX, a_nodeParam, a_nodeA, a_nodeB, a_nodeNext, a_nodeElse, a_nodeFree, a_nodeNeed, a_fragments, a_body, a_slots, a_waiting, a_spareHead, a_spareCount, a_cellTag, a_cellLeft, a_cellRight, a_holds, a_link, a_dead, a_cellOfNumber, a_numberOfCell, a_places, a_walk), (f_heapSize, f_depthLimit, f_nodeLimit, f_nodeCount, f_fragmentCount, g_frames, f_made, f_counted, f_reused, f_peak, f_calls, 14, g_resKind, g_resNumber, g_numbered, a_nodeKind, a_nodeX, a_nodeParam, b_nodeA, b_nodeB, a_nodeNext, a_nodeElse, b_scratch, a_fragments, a_body, b_slotKind, b_slotNumber, b_spares, a_waiting, b_cellTag, b_partKind, b_partNumber, b_live, b_order, b_todo), Or.inr ⟨by decide, rc_EN_mk (by decide) (by decide) G0⟩, fun post hp => ?_, fun post hp => YP post ⟨hing, br_t hb0' (br_t rfl (br_f hgd (br_f hcn (br_f (by decide) hp))))⟩⟩
        subst hat
        exact XP post (nm_r hbe (br_t hb0 (br_t hfd (br_f hcn hp))))
    · have hfd : ¬ f_frames < f_depthLimit := by rw [hfr, hdle]; exact nI_nlt (by omega) (by omega)
      have hgd : g_frames = f_depthLimit := by rw [hgf, hdle, show top + 1 = dl from by omega]
      refine ⟨13, n, (f_kindRet, f_kindTail, f_kindBind, f_kindCon, f_kindPrim, f_kindCall, f_kindMatch, f_kindTest, f_cellBase, f_heapSize, f_depthLimit, f_nodeLimit, f_nodeCount, f_fragmentCount, f_frames, f_at, f_deadCount, f_freeHead, f_fresh, f_liveCells, f_spareTotal, f_counted, f_status, f_made, f_reused, f_peak, f_calls, f_result, f_resultCells, a_nodeKind, a_nodeX, a_nodeParam, a_nodeA, a_nodeB, a_nodeNext, a_nodeElse, a_nodeFree, a_nodeNeed, a_fragments, a_body, a_slots, a_waiting, a_spareHead, a_spareCount, a_cellTag, a_cellLeft, a_cellRight, a_holds, a_link, a_dead, a_cellOfNumber, a_numberOfCell, a_places, a_walk), (f_heapSize, f_depthLimit, f_nodeLimit, f_nodeCount, f_fragmentCount, g_frames, f_made, f_counted, f_reused, f_peak, f_calls, 13, g_resKind, g_resNumber, g_numbered, a_nodeKind, a_nodeX, a_nodeParam, b_nodeA, b_nodeB, a_nodeNext, a_nodeElse, b_scratch, a_fragments, a_body, b_slotKind, b_slotNumber, b_spares, a_waiting, b_cellTag, b_partKind, b_partNumber, b_live, b_order, b_todo), Or.inr ⟨by decide, rc_EN_mk (by decide) (by decide) G0⟩, fun post hp => ?_, fun post hp => YP post ⟨hing, br_t hb0' (br_t rfl (br_t hgd (br_f (by decide) hp)))⟩⟩
      subst hat
      exact XP post (nm_r hbe (br_t hb0 (br_f hfd hp)))
end
end
section
def rc_pe (pe q : Int32) : Int32 := if q ≤ pe then pe else q
section
variable {g_heapSize g_depthLimit g_nodeLimit g_nodeCount g_fragCount g_frames g_made g_inRun g_reused g_peak g_calls g_status g_resKind g_resNumber g_numbered : Int32} {b_nodeKind b_nodeX b_nodeT b_nodeA b_nodeB b_nodeNext b_nodeElse b_scratch b_frag b_body b_slotKind b_slotNumber b_spares b_waits b_cellTag b_partKind b_partNumber b_live b_order b_todo : Nat → Int32}
variable {m n top : Nat}
theorem ry_room_94 {q : Int32} (hst : g_status = 9) (post : SY → Prop) (hp : post (g_heapSize, g_depthLimit, g_nodeLimit, g_nodeCount, g_fragCount, g_frames, g_made, g_inRun, g_reused, rc_pe g_peak q, g_calls, g_status, g_resKind, g_resNumber, g_numbered, b_nodeKind, b_nodeX, b_nodeT, b_nodeA, b_nodeB, b_nodeNext, b_nodeElse, b_scratch, b_frag, b_body, b_slotKind, b_slotNumber, b_spares, b_waits, b_cellTag, b_partKind, b_partNumber, b_live, b_order, b_todo)) : wY_takeRoom_94 post q g_heapSize g_depthLimit g_nodeLimit g_nodeCount g_fragCount g_frames g_made g_inRun g_reused g_peak g_calls g_status g_resKind g_resNumber g_numbered b_nodeKind b_nodeX b_nodeT b_nodeA b_nodeB b_nodeNext b_nodeElse b_scratch b_frag b_body b_slotKind b_slotNumber b_spares b_waits b_cellTag b_partKind b_partNumber b_live b_order b_todo := by
  unfold rc_pe at hp
  by_cases h : q ≤ g_peak
  · rw [if_pos h] at hp; exact br_t hst (br_t h hp)
  · rw [if_neg h] at hp; exact br_t hst (br_f h hp)
theorem ry_room_fuel {p : Int32} (h : ¬ g_made < 200) (post : SY → Prop) (hp : post (g_heapSize, g_depthLimit, g_nodeLimit, g_nodeCount, g_fragCount, g_frames, g_made, g_inRun, g_reused, g_peak, g_calls, 14, g_resKind, g_resNumber, g_numbered, b_nodeKind, b_nodeX, b_nodeT, b_nodeA, b_nodeB, b_nodeNext, b_nodeElse, b_scratch, b_frag, b_body, b_slotKind, b_slotNumber, b_spares, b_waits, b_cellTag, b_partKind, b_partNumber, b_live, b_order, b_todo)) : wpY_takeRoom post (g_heapSize, g_depthLimit, g_nodeLimit, g_nodeCount, g_fragCount, g_frames, g_made, g_inRun, g_reused, g_peak, g_calls, g_status, g_resKind, g_resNumber, g_numbered, b_nodeKind, b_nodeX, b_nodeT, b_nodeA, b_nodeB, b_nodeNext, b_nodeElse, b_scratch, b_frag, b_body, b_slotKind, b_slotNumber, b_spares, b_waits, b_cellTag, b_partKind, b_partNumber, b_live, b_order, b_todo) p := br_f h hp
theorem ry_room_plain {p : Int32} (h : g_made < 200) (h0 : g_inRun = 0) (post : SY → Prop) (hp : post (g_heapSize, g_depthLimit, g_nodeLimit, g_nodeCount, g_fragCount, g_frames, g_made, g_inRun, g_reused, g_made + 1, g_calls, g_status, g_resKind, g_resNumber, g_numbered, b_nodeKind, b_nodeX, b_nodeT, b_nodeA, b_nodeB, b_nodeNext, b_nodeElse, b_scratch, b_frag, b_body, b_slotKind, b_slotNumber, b_spares, b_waits, b_cellTag, b_partKind, b_partNumber, b_live, b_order, b_todo)) : wpY_takeRoom post (g_heapSize, g_depthLimit, g_nodeLimit, g_nodeCount, g_fragCount, g_frames, g_made, g_inRun, g_reused, g_peak, g_calls, g_status, g_resKind, g_resNumber, g_numbered, b_nodeKind, b_nodeX, b_nodeT, b_nodeA, b_nodeB, b_nodeNext, b_nodeElse, b_scratch, b_frag, b_body, b_slotKind, b_slotNumber, b_spares, b_waits, b_cellTag, b_partKind, b_partNumber, b_live, b_order, b_todo) p := br_t h (br_t h0 (nm_e hp))
section
variable {lv sc : Nat → Int32} {p occ : Int32}
theorem ry_room_reuse (W : ∀ post : Int32 → SY → Prop, post occ (g_heapSize, g_depthLimit, g_nodeLimit, g_nodeCount, g_fragCount, g_frames, g_made, g_inRun, g_reused, g_peak, g_calls, g_status, g_resKind, g_resNumber, g_numbered, b_nodeKind, b_nodeX, b_nodeT, b_nodeA, b_nodeB, b_nodeNext, b_nodeElse, sc, b_frag, b_body, b_slotKind, b_slotNumber, b_spares, b_waits, b_cellTag, b_partKind, b_partNumber, lv, b_order, b_todo) → wpY_occupied post (g_heapSize, g_depthLimit, g_nodeLimit, g_nodeCount, g_fragCount, g_frames, g_made, g_inRun, g_reused, g_peak, g_calls, g_status, g_resKind, g_resNumber, g_numbered, b_nodeKind, b_nodeX, b_nodeT, b_nodeA, b_nodeB, b_nodeNext, b_nodeElse, b_scratch, b_frag, b_body, b_slotKind, b_slotNumber, b_spares, b_waits, b_cellTag, b_partKind, b_partNumber, b_live, b_order, b_todo) p) (h : g_made < 200) (h0 : ¬ g_inRun = 0) (hst : g_status = 9) (hf : g_frames = nI (top + 1)) (ht : top < 16) (hs : ¬ b_spares top ≤ 0) (post : SY → Prop) (hp : post (g_heapSize, g_depthLimit, g_nodeLimit, g_nodeCount, g_fragCount, g_frames, g_made, g_inRun, g_reused + 1, rc_pe g_peak occ, g_calls, g_status, g_resKind, g_resNumber, g_numbered, b_nodeKind, b_nodeX, b_nodeT, b_nodeA, b_nodeB, b_nodeNext, b_nodeElse, sc, b_frag, b_body, b_slotKind, b_slotNumber, upd b_spares top (b_spares top - 1), b_waits, b_cellTag, b_partKind, b_partNumber, lv, b_order, b_todo)) : wpY_takeRoom post (g_heapSize, g_depthLimit, g_nodeLimit, g_nodeCount, g_fragCount, g_frames, g_made, g_inRun, g_reused, g_peak, g_calls, g_status, g_resKind, g_resNumber, g_numbered, b_nodeKind, b_nodeX, b_nodeT, b_nodeA, b_nodeB, b_nodeNext, b_nodeElse, b_scratch, b_frag, b_body, b_slotKind, b_slotNumber, b_spares, b_waits, b_cellTag, b_partKind, b_partNumber, b_live, b_order, b_todo) p := by
  have hin : vp_in (g_frames - 1) 16 := by rw [hf, nI_pred]; exact vp_in_nI ht (by decide)
  have e : (g_frames - 1).toNatClampNeg = top := by rw [hf, nI_pred, nI_clamp (by omega)]
  exact br_t h (br_f h0 (W _ ⟨hin, br_f (by rw [e]; exact hs) ⟨hin, hin, nm_r (e' := upd b_spares top (b_spares top - 1)) (by rw [e]) (nm_e (ry_room_94 hst post hp))⟩⟩))
theorem ry_room_full (W : ∀ post : Int32 → SY → Prop, post occ (g_heapSize, g_depthLimit, g_nodeLimit, g_nodeCount, g_fragCount, g_frames, g_made, g_inRun, g_reused, g_peak, g_calls, g_status, g_resKind, g_resNumber, g_numbered, b_nodeKind, b_nodeX, b_nodeT, b_nodeA, b_nodeB, b_nodeNext, b_nodeElse, sc, b_frag, b_body, b_slotKind, b_slotNumber, b_spares, b_waits, b_cellTag, b_partKind, b_partNumber, lv, b_order, b_todo) → wpY_occupied post (g_heapSize, g_depthLimit, g_nodeLimit, g_nodeCount, g_fragCount, g_frames, g_made, g_inRun, g_reused, g_peak, g_calls, g_status, g_resKind, g_resNumber, g_numbered, b_nodeKind, b_nodeX, b_nodeT, b_nodeA, b_nodeB, b_nodeNext, b_nodeElse, b_scratch, b_frag, b_body, b_slotKind, b_slotNumber, b_spares, b_waits, b_cellTag, b_partKind, b_partNumber, b_live, b_order, b_todo) p) (h : g_made < 200) (h0 : ¬ g_inRun = 0) (hf : g_frames = nI (top + 1)) (ht : top < 16) (hs : b_spares top ≤ 0) (ho : occ = g_heapSize) (post : SY → Prop) (hp : post (g_heapSize, g_depthLimit, g_nodeLimit, g_nodeCount, g_fragCount, g_frames, g_made, g_inRun, g_reused, g_peak, g_calls, 15, g_resKind, g_resNumber, g_numbered, b_nodeKind, b_nodeX, b_nodeT, b_nodeA, b_nodeB, b_nodeNext, b_nodeElse, sc, b_frag, b_body, b_slotKind, b_slotNumber, b_spares, b_waits, b_cellTag, b_partKind, b_partNumber, lv, b_order, b_todo)) : wpY_takeRoom post (g_heapSize, g_depthLimit, g_nodeLimit, g_nodeCount, g_fragCount, g_frames, g_made, g_inRun, g_reused, g_peak, g_calls, g_status, g_resKind, g_resNumber, g_numbered, b_nodeKind, b_nodeX, b_nodeT, b_nodeA, b_nodeB, b_nodeNext, b_nodeElse, b_scratch, b_frag, b_body, b_slotKind, b_slotNumber, b_spares, b_waits, b_cellTag, b_partKind, b_partNumber, b_live, b_order, b_todo) p := by
  have hin : vp_in (g_frames - 1) 16 := by rw [hf, nI_pred]; exact vp_in_nI ht (by decide)
  have e : (g_frames - 1).toNatClampNeg = top := by rw [hf, nI_pred, nI_clamp (by omega)]
  exact br_t h (br_f h0 (W _ ⟨hin, br_t (by rw [e]; exact hs) (br_t ho (br_f (by decide) hp))⟩))
theorem ry_room_new (W : ∀ post : Int32 → SY → Prop, post occ (g_heapSize, g_depthLimit, g_nodeLimit, g_nodeCount, g_fragCount, g_frames, g_made, g_inRun, g_reused, g_peak, g_calls, g_status, g_resKind, g_resNumber, g_numbered, b_nodeKind, b_nodeX, b_nodeT, b_nodeA, b_nodeB, b_nodeNext, b_nodeElse, sc, b_frag, b_body, b_slotKind, b_slotNumber, b_spares, b_waits, b_cellTag, b_partKind, b_partNumber, lv, b_order, b_todo) → wpY_occupied post (g_heapSize, g_depthLimit, g_nodeLimit, g_nodeCount, g_fragCount, g_frames, g_made, g_inRun, g_reused, g_peak, g_calls, g_status, g_resKind, g_resNumber, g_numbered, b_nodeKind, b_nodeX, b_nodeT, b_nodeA, b_nodeB, b_nodeNext, b_nodeElse, b_scratch, b_frag, b_body, b_slotKind, b_slotNumber, b_spares, b_waits, b_cellTag, b_partKind, b_partNumber, b_live, b_order, b_todo) p) (h : g_made < 200) (h0 : ¬ g_inRun = 0) (hst : g_status = 9) (hf : g_frames = nI (top + 1)) (ht : top < 16) (hs : b_spares top ≤ 0) (ho : ¬ occ = g_heapSize) (post : SY → Prop) (hp : post (g_heapSize, g_depthLimit, g_nodeLimit, g_nodeCount, g_fragCount, g_frames, g_made, g_inRun, g_reused, rc_pe g_peak (occ + 1), g_calls, g_status, g_resKind, g_resNumber, g_numbered, b_nodeKind, b_nodeX, b_nodeT, b_nodeA, b_nodeB, b_nodeNext, b_nodeElse, sc, b_frag, b_body, b_slotKind, b_slotNumber, b_spares, b_waits, b_cellTag, b_partKind, b_partNumber, lv, b_order, b_todo)) : wpY_takeRoom post (g_heapSize, g_depthLimit, g_nodeLimit, g_nodeCount, g_fragCount, g_frames, g_made, g_inRun, g_reused, g_peak, g_calls, g_status, g_resKind, g_resNumber, g_numbered, b_nodeKind, b_nodeX, b_nodeT, b_nodeA, b_nodeB, b_nodeNext, b_nodeElse, b_scratch, b_frag, b_body, b_slotKind, b_slotNumber, b_spares, b_waits, b_cellTag, b_partKind, b_partNumber, b_live, b_order, b_todo) p := by
  have hin : vp_in (g_frames - 1) 16 := by rw [hf, nI_pred]; exact vp_in_nI ht (by decide)
  have e : (g_frames - 1).toNatClampNeg = top := by rw [hf, nI_pred, nI_clamp (by omega)]
  exact br_t h (br_f h0 (W _ ⟨hin, br_t (by rw [e]; exact hs) (br_f ho (nm_e (ry_room_94 hst post hp)))⟩))
end
section
variable {x : Nat} {pe re gs : Int32} {sp sc lv : Nat → Int32}
/-- CON once the room is found -/
theorem ry_con (K : ∀ post : SY → Prop, post (g_heapSize, g_depthLimit, g_nodeLimit, g_nodeCount, g_fragCount, g_frames, g_made, g_inRun, re, pe, g_calls, g_status, g_resKind, g_resNumber, g_numbered, b_nodeKind, b_nodeX, b_nodeT, b_nodeA, b_nodeB, b_nodeNext, b_nodeElse, sc, b_frag, b_body, b_slotKind, b_slotNumber, sp, b_waits, b_cellTag, b_partKind, b_partNumber, lv, b_order, b_todo) → wpY_takeRoom post (g_heapSize, g_depthLimit, g_nodeLimit, g_nodeCount, g_fragCount, g_frames, g_made, g_inRun, g_reused, g_peak, g_calls, g_status, g_resKind, g_resNumber, g_numbered, b_nodeKind, b_nodeX, b_nodeT, b_nodeA, b_nodeB, b_nodeNext, b_nodeElse, b_scratch, b_frag, b_body, b_slotKind, b_slotNumber, b_spares, b_waits, b_cellTag, b_partKind, b_partNumber, b_live, b_order, b_todo) (nI n)) (hn : n < 48) (hm : m < 200) (hx : x < 12) (ht : top < 16) (hk : b_nodeKind n = 3) (hxx : b_nodeX n = nI x) (hoa : rc_op (b_nodeA n)) (hob : rc_op (b_nodeB n)) (hgf : g_frames = nI (top + 1)) (hst : g_status = 9) (hgm : g_made = nI m) (post : Int32 → SY → Prop) (hp : post (b_nodeNext n) (g_heapSize, g_depthLimit, g_nodeLimit, g_nodeCount, g_fragCount, g_frames, nI (m + 1), g_inRun, re, pe, g_calls, g_status, g_resKind, g_resNumber, g_numbered, b_nodeKind, b_nodeX, b_nodeT, b_nodeA, b_nodeB, b_nodeNext, b_nodeElse, sc, b_frag, b_body, upd b_slotKind (12 * top + x) 2, upd b_slotNumber (12 * top + x) (nI m), sp, b_waits, upd b_cellTag m (b_nodeT n), upd (upd b_partKind (2 * m) (rc_kat top b_slotKind (b_nodeA n))) (2 * m + 1) (rc_kat top b_slotKind (b_nodeB n)), upd (upd b_partNumber (2 * m) (rc_nat top b_slotNumber (b_nodeA n))) (2 * m + 1) (rc_nat top b_slotNumber (b_nodeB n)), lv, b_order, b_todo)) : wpY_step post (g_heapSize, g_depthLimit, g_nodeLimit, g_nodeCount, g_fragCount, g_frames, g_made, g_inRun, g_reused, g_peak, g_calls, g_status, g_resKind, g_resNumber, g_numbered, b_nodeKind, b_nodeX, b_nodeT, b_nodeA, b_nodeB, b_nodeNext, b_nodeElse, b_scratch, b_frag, b_body, b_slotKind, b_slotNumber, b_spares, b_waits, b_cellTag, b_partKind, b_partNumber, b_live, b_order, b_todo) (nI n) := by
  have en : (nI n).toNatClampNeg = n := nI_clamp (by omega)
  have em : (nI m).toNatClampNeg = m := nI_clamp (by omega)
  have hinn : vp_in (nI n) 48 := vp_in_nI hn (by decide)
  have e2 : (2 : Int32) * nI m = nI (2 * m) := pk_mul 2 m
  have e21 : (2 : Int32) * nI m + 1 = nI (2 * m + 1) := by rw [e2, nI_1]
  subst hgm
  refine ⟨hinn, nm_r (e' := 3) (by rw [en]; exact hk) (br_f (by decide) (br_f (by decide) ⟨hinn, nm_r (e' := nI x) (by rw [en]; exact hxx) ⟨hinn, nm_r (e' := b_nodeT n) (by rw [en]) ⟨hinn, ?_⟩⟩⟩))⟩
  rw [en]
  refine ry_kat (top := top) hoa hgf ht _ ⟨hinn, ry_nat (top := top) hoa hgf ht _ ⟨hinn, ry_kat (top := top) hob hgf ht _ ⟨hinn, ry_nat (top := top) hob hgf ht _ ?_⟩⟩⟩
  refine br_f (by decide) (br_f (by decide) (br_f (by decide) (br_f (by decide) (br_t rfl ?_))))
  refine K _ (br_t hst ⟨vp_in_nI hm (by decide), nm_r (e' := upd b_cellTag m (b_nodeT n)) (by rw [em]) ⟨?_, nm_r (e' := upd b_partKind (2 * m) (rc_kat top b_slotKind (b_nodeA n))) ?_ ⟨?_, nm_r (e' := upd b_partNumber (2 * m) (rc_nat top b_slotNumber (b_nodeA n))) ?_ ⟨?_, nm_r (e' := upd (upd b_partKind (2 * m) (rc_kat top b_slotKind (b_nodeA n))) (2 * m + 1) (rc_kat top b_slotKind (b_nodeB n))) ?_ ⟨?_, nm_r (e' := upd (upd b_partNumber (2 * m) (rc_nat top b_slotNumber (b_nodeA n))) (2 * m + 1) (rc_nat top b_slotNumber (b_nodeB n))) ?_ ?_⟩⟩⟩⟩⟩)
  · rw [e2]; exact vp_in_nI (by omega) (by decide)
  · rw [e2, nI_clamp (by omega)]
  · rw [e2]; exact vp_in_nI (by omega) (by decide)
  · rw [e2, nI_clamp (by omega)]
  · rw [e21]; exact vp_in_nI (by omega) (by decide)
  · rw [e21, nI_clamp (by omega)]
  · rw [e21]; exact vp_in_nI (by omega) (by decide)
  · rw [e21, nI_clamp (by omega)]
  · exact ry_put (top := top) hx hgf ht _ (nm_r (e' := nI (m + 1)) (nI_1 m) ⟨hinn, hp⟩)
theorem ry_con_end (K : ∀ post : SY → Prop, post (g_heapSize, g_depthLimit, g_nodeLimit, g_nodeCount, g_fragCount, g_frames, g_made, g_inRun, g_reused, g_peak, g_calls, gs, g_resKind, g_resNumber, g_numbered, b_nodeKind, b_nodeX, b_nodeT, b_nodeA, b_nodeB, b_nodeNext, b_nodeElse, sc, b_frag, b_body, b_slotKind, b_slotNumber, b_spares, b_waits, b_cellTag, b_partKind, b_partNumber, lv, b_order, b_todo) → wpY_takeRoom post (g_heapSize, g_depthLimit, g_nodeLimit, g_nodeCount, g_fragCount, g_frames, g_made, g_inRun, g_reused, g_peak, g_calls, g_status, g_resKind, g_resNumber, g_numbered, b_nodeKind, b_nodeX, b_nodeT, b_nodeA, b_nodeB, b_nodeNext, b_nodeElse, b_scratch, b_frag, b_body, b_slotKind, b_slotNumber, b_spares, b_waits, b_cellTag, b_partKind, b_partNumber, b_live, b_order, b_todo) (nI n)) (hgs : gs ≠ 9) (hn : n < 48) (ht : top < 16) (hk : b_nodeKind n = 3) (hoa : rc_op (b_nodeA n)) (hob : rc_op (b_nodeB n)) (hgf : g_frames = nI (top + 1)) (post : Int32 → SY → Prop) (hp : post (nI n) (g_heapSize, g_depthLimit, g_nodeLimit, g_nodeCount, g_fragCount, g_frames, g_made, g_inRun, g_reused, g_peak, g_calls, gs, g_resKind, g_resNumber, g_numbered, b_nodeKind, b_nodeX, b_nodeT, b_nodeA, b_nodeB, b_nodeNext, b_nodeElse, sc, b_frag, b_body, b_slotKind, b_slotNumber, b_spares, b_waits, b_cellTag, b_partKind, b_partNumber, lv, b_order, b_todo)) : wpY_step post (g_heapSize, g_depthLimit, g_nodeLimit, g_nodeCount, g_fragCount, g_frames, g_made, g_inRun, g_reused, g_peak, g_calls, g_status, g_resKind, g_resNumber, g_numbered, b_nodeKind, b_nodeX, b_nodeT, b_nodeA, b_nodeB, b_nodeNext, b_nodeElse, b_scratch, b_frag, b_body, b_slotKind, b_slotNumber, b_spares, b_waits, b_cellTag, b_partKind, b_partNumber, b_live, b_order, b_todo) (nI n) := by
  have en : (nI n).toNatClampNeg = n := nI_clamp (by omega)
  have hinn : vp_in (nI n) 48 := vp_in_nI hn (by decide)
  refine ⟨hinn, nm_r (e' := 3) (by rw [en]; exact hk) (br_f (by decide) (br_f (by decide) ⟨hinn, nm_e ⟨hinn, nm_e ⟨hinn, ?_⟩⟩⟩))⟩
  rw [en]
  refine ry_kat (top := top) hoa hgf ht _ ⟨hinn, ry_nat (top := top) hoa hgf ht _ ⟨hinn, ry_kat (top := top) hob hgf ht _ ⟨hinn, ry_nat (top := top) hob hgf ht _ ?_⟩⟩⟩
  refine br_f (by decide) (br_f (by decide) (br_f (by decide) (br_f (by decide) (br_t rfl ?_))))
  exact K _ (br_f hgs hp)
end
end
end
section
section
variable {f_kindRet f_kindTail f_kindBind f_kindCon f_kindPrim f_kindCall f_kindMatch f_kindTest f_heapSize f_depthLimit f_nodeLimit f_nodeCount f_fragmentCount f_frames f_at f_deadCount f_freeHead f_fresh f_liveCells f_spareTotal f_counted f_status f_made f_reused f_peak f_calls f_resultCells : Int32} {f_cellBase f_result : Int64} {a_nodeKind a_nodeX a_nodeParam a_nodeA a_nodeB a_nodeNext a_nodeElse a_nodeFree a_nodeNeed a_fragments a_body a_waiting a_spareHead a_spareCount a_cellTag a_holds a_link a_dead a_cellOfNumber a_numberOfCell a_places a_walk : Nat → Int32} {a_slots a_cellLeft a_cellRight : Nat → Int64}
variable {fr fs : Nat} {S : Nat → List Nat} {col : Nat → Nat} {F : List Nat} {ss : Nat → Int32}
theorem rx_notePeak {pe : Int32} (hpe : pe = rc_pe f_peak (f_liveCells + f_spareTotal)) (post : SX → Prop) (hp : post (f_kindRet, f_kindTail, f_kindBind, f_kindCon, f_kindPrim, f_kindCall, f_kindMatch, f_kindTest, f_cellBase, f_heapSize, f_depthLimit, f_nodeLimit, f_nodeCount, f_fragmentCount, f_frames, f_at, f_deadCount, f_freeHead, f_fresh, f_liveCells, f_spareTotal, f_counted, f_status, f_made, f_reused, pe, f_calls, f_result, f_resultCells, a_nodeKind, a_nodeX, a_nodeParam, a_nodeA, a_nodeB, a_nodeNext, a_nodeElse, a_nodeFree, a_nodeNeed, a_fragments, a_body, a_slots, a_waiting, a_spareHead, a_spareCount, a_cellTag, a_cellLeft, a_cellRight, a_holds, a_link, a_dead, a_cellOfNumber, a_numberOfCell, a_places, a_walk)) : wpX_notePeak post (f_kindRet, f_kindTail, f_kindBind, f_kindCon, f_kindPrim, f_kindCall, f_kindMatch, f_kindTest, f_cellBase, f_heapSize, f_depthLimit, f_nodeLimit, f_nodeCount, f_fragmentCount, f_frames, f_at, f_deadCount, f_freeHead, f_fresh, f_liveCells, f_spareTotal, f_counted, f_status, f_made, f_reused, f_peak, f_calls, f_result, f_resultCells, a_nodeKind, a_nodeX, a_nodeParam, a_nodeA, a_nodeB, a_nodeNext, a_nodeElse, a_nodeFree, a_nodeNeed, a_fragments, a_body, a_slots, a_waiting, a_spareHead, a_spareCount, a_cellTag, a_cellLeft, a_cellRight, a_holds, a_link, a_dead, a_cellOfNumber, a_numberOfCell, a_places, a_walk) := by
  subst hpe
  unfold rc_pe at hp
  by_cases h : f_liveCells + f_spareTotal ≤ f_peak
  · rw [if_pos h] at hp; exact nm_e (br_t h hp)
  · rw [if_neg h] at hp; exact nm_e (br_f h hp)
/-- CON with its cell in hand -/
theorem rx_con81 {n j x top c : Nat} (hn : n < 48) (hj : j < 48) (hx : x < 12) (ht : top < 16) (hfr16 : fr ≤ 16) (ht2 : top < fr) (hat : f_at = nI n) (hnx : a_nodeNext n = nI j) (hxx : a_nodeX n = nI x) (hf : f_frames = nI (top + 1)) (hoa : rc_op (a_nodeA n)) (hob : rc_op (a_nodeB n)) (hva : rc_FV col (rc_val top a_slots (a_nodeA n))) (hvb : rc_FV col (rc_val top a_slots (a_nodeB n))) (hsub : ∀ s, s < 12 → bt (a_nodeFree j) s = true → s ≠ x → bt (a_nodeFree n) s = true) (hss : ss top = a_nodeFree n) (hc : col c = 1000) (hcf : c < fs) (I : (rc_XI 0 fr (fun _ => 0) (rc_ow fr ss) col ([]) F S fs f_counted a_slots a_cellLeft a_cellRight a_holds a_link a_dead a_spareHead a_spareCount f_deadCount f_freeHead f_fresh f_liveCells f_spareTotal)) : ∃ (col' : Nat → Nat) (F' : List Nat) (ho' li' de' : Nat → Int32) (fh' lc' : Int32), (rc_XI 0 fr (fun _ => 0) (rc_ow fr (upd ss top (a_nodeFree j))) col' ([]) F' S fs f_counted (vp_updL a_slots (12 * top + x) (rc_cv c)) (vp_updL a_cellLeft c (rc_val top a_slots (a_nodeA n))) (vp_updL a_cellRight c (rc_val top a_slots (a_nodeB n))) ho' li' de' a_spareHead a_spareCount 0 fh' f_fresh lc' f_spareTotal) ∧ (∀ d, col' d = 0 → rc_up col c 0 d = 0) ∧ (f_counted = 0 → col' = rc_up col c 0 ∧ F' = F) ∧ ∀ (post : Int32 → SX → Prop), post 0 (f_kindRet, f_kindTail, f_kindBind, f_kindCon, f_kindPrim, f_kindCall, f_kindMatch, f_kindTest, f_cellBase, f_heapSize, f_depthLimit, f_nodeLimit, f_nodeCount, f_fragmentCount, f_frames, nI j, 0, fh', f_fresh, lc', f_spareTotal, f_counted, f_status, f_made + 1, f_reused, rc_pe f_peak (f_liveCells + 1 + f_spareTotal), f_calls, f_result, f_resultCells, a_nodeKind, a_nodeX, a_nodeParam, a_nodeA, a_nodeB, a_nodeNext, a_nodeElse, a_nodeFree, a_nodeNeed, a_fragments, a_body, vp_updL a_slots (12 * top + x) (rc_cv c), a_waiting, a_spareHead, a_spareCount, upd a_cellTag c (a_nodeParam n), vp_updL a_cellLeft c (rc_val top a_slots (a_nodeA n)), vp_updL a_cellRight c (rc_val top a_slots (a_nodeB n)), ho', li', de', a_cellOfNumber, a_numberOfCell, a_places, a_walk) → wX_stepCon_81 post (nI n) (nI c) f_kindRet f_kindTail f_kindBind f_kindCon f_kindPrim f_kindCall f_kindMatch f_kindTest f_cellBase f_heapSize f_depthLimit f_nodeLimit f_nodeCount f_fragmentCount f_frames f_at f_deadCount f_freeHead f_fresh f_liveCells f_spareTotal f_counted f_status f_made f_reused f_peak f_calls f_result f_resultCells a_nodeKind a_nodeX a_nodeParam a_nodeA a_nodeB a_nodeNext a_nodeElse a_nodeFree a_nodeNeed a_fragments a_body a_slots a_waiting a_spareHead a_spareCount a_cellTag a_cellLeft a_cellRight a_holds a_link a_dead a_cellOfNumber a_numberOfCell a_places a_walk := by
  have en : (nI n).toNatClampNeg = n := nI_clamp (by omega)
  have hfs := I.1.1
  have ec : (nI c).toNatClampNeg = c := nI_clamp (by omega)
  have hinn : vp_in (nI n) 48 := vp_in_nI hn (by decide)
  have hinc : vp_in (nI c) 200 := vp_in_nI (by omega) (by decide)
  have I1 := rc_inhand (c := c) (va := rc_val top a_slots (a_nodeA n)) (vb := rc_val top a_slots (a_nodeB n)) (h := 1) (by omega) I
  obtain ⟨ho1, I2, q2, W2⟩ := rx_hold (f_kindRet := f_kindRet) (f_kindTail := f_kindTail) (f_kindBind := f_kindBind) (f_kindCon := f_kindCon) (f_kindPrim := f_kindPrim) (f_kindCall := f_kindCall) (f_kindMatch := f_kindMatch) (f_kindTest := f_kindTest) (f_cellBase := f_cellBase) (f_heapSize := f_heapSize) (f_depthLimit := f_depthLimit) (f_nodeLimit := f_nodeLimit) (f_nodeCount := f_nodeCount) (f_fragmentCount := f_fragmentCount) (f_frames := f_frames) (f_at := f_at) (f_deadCount := f_deadCount) (f_freeHead := f_freeHead) (f_fresh := f_fresh) (f_liveCells := f_liveCells) (f_spareTotal := f_spareTotal) (f_counted := f_counted) (f_status := f_status) (f_made := f_made + 1) (f_reused := f_reused) (f_peak := f_peak) (f_calls := f_calls) (f_result := f_result) (f_resultCells := f_resultCells) (a_nodeKind := a_nodeKind) (a_nodeX := a_nodeX) (a_nodeParam := a_nodeParam) (a_nodeA := a_nodeA) (a_nodeB := a_nodeB) (a_nodeNext := a_nodeNext) (a_nodeElse := a_nodeElse) (a_nodeFree := a_nodeFree) (a_nodeNeed := a_nodeNeed) (a_fragments := a_fragments) (a_body := a_body) (a_slots := a_slots) (a_waiting := a_waiting) (a_spareHead := a_spareHead) (a_spareCount := a_spareCount) (a_cellTag := upd a_cellTag c (a_nodeParam n)) (a_cellLeft := vp_updL a_cellLeft c (rc_val top a_slots (a_nodeA n))) (a_cellRight := vp_updL a_cellRight c (rc_val top a_slots (a_nodeB n))) (a_holds := upd a_holds c 1) (a_link := a_link) (a_dead := a_dead) (a_cellOfNumber := a_cellOfNumber) (a_numberOfCell := a_numberOfCell) (a_places := a_places) (a_walk := a_walk) I1 hva (fun d => by have := rc_is_le (rc_val top a_slots (a_nodeA n)) d; omega)
  obtain ⟨ho2, I3, q3, W3⟩ := rx_hold (f_kindRet := f_kindRet) (f_kindTail := f_kindTail) (f_kindBind := f_kindBind) (f_kindCon := f_kindCon) (f_kindPrim := f_kindPrim) (f_kindCall := f_kindCall) (f_kindMatch := f_kindMatch) (f_kindTest := f_kindTest) (f_cellBase := f_cellBase) (f_heapSize := f_heapSize) (f_depthLimit := f_depthLimit) (f_nodeLimit := f_nodeLimit) (f_nodeCount := f_nodeCount) (f_fragmentCount := f_fragmentCount) (f_frames := f_frames) (f_at := f_at) (f_deadCount := f_deadCount) (f_freeHead := f_freeHead) (f_fresh := f_fresh) (f_liveCells := f_liveCells) (f_spareTotal := f_spareTotal) (f_counted := f_counted) (f_status := f_status) (f_made := f_made + 1) (f_reused := f_reused) (f_peak := f_peak) (f_calls := f_calls) (f_result := f_result) (f_resultCells := f_resultCells) (a_nodeKind := a_nodeKind) (a_nodeX := a_nodeX) (a_nodeParam := a_nodeParam) (a_nodeA := a_nodeA) (a_nodeB := a_nodeB) (a_nodeNext := a_nodeNext) (a_nodeElse := a_nodeElse) (a_nodeFree := a_nodeFree) (a_nodeNeed := a_nodeNeed) (a_fragments := a_fragments) (a_body := a_body) (a_slots := a_slots) (a_waiting := a_waiting) (a_spareHead := a_spareHead) (a_spareCount := a_spareCount) (a_cellTag := upd a_cellTag c (a_nodeParam n)) (a_cellLeft := vp_updL a_cellLeft c (rc_val top a_slots (a_nodeA n))) (a_cellRight := vp_updL a_cellRight c (rc_val top a_slots (a_nodeB n))) (a_holds := ho1) (a_link := a_link) (a_dead := a_dead) (a_cellOfNumber := a_cellOfNumber) (a_numberOfCell := a_numberOfCell) (a_places := a_places) (a_walk := a_walk) I2 hvb (fun d => by
    have := rc_is_le (rc_val top a_slots (a_nodeA n)) d
    have := rc_is_le (rc_val top a_slots (a_nodeB n)) d
    omega)
  have I4 := rc_con (c := c) (va := rc_val top a_slots (a_nodeA n)) (vb := rc_val top a_slots (a_nodeB n)) (by omega) hcf pk_uLs pk_uLs (fun _ => by rw [q3 c (by omega), q2 c (by omega), pk_us]) hva hvb (fun y hy e => by have := (I.2.2.1.1.2.2 y hy).2; subst e; omega) (fun f hf y hy e => by have := ((I.2.2.1.2 f hf).1.2.2 y hy).2; subst e; omega) I3
  have hcv : rc_FV (rc_up col c 0) (rc_cv c) := Or.inr ⟨c, by omega, rc_up_s, rfl⟩
  obtain ⟨col5, F5, ho5, li5, de5, fh5, lc5, I5, p1, p2, p3, p4, W5⟩ := rx_asg (f_kindRet := f_kindRet) (f_kindTail := f_kindTail) (f_kindBind := f_kindBind) (f_kindCon := f_kindCon) (f_kindPrim := f_kindPrim) (f_kindCall := f_kindCall) (f_kindMatch := f_kindMatch) (f_kindTest := f_kindTest) (f_cellBase := f_cellBase) (f_heapSize := f_heapSize) (f_depthLimit := f_depthLimit) (f_nodeLimit := f_nodeLimit) (f_nodeCount := f_nodeCount) (f_fragmentCount := f_fragmentCount) (f_frames := f_frames) (f_at := f_at) (f_deadCount := f_deadCount) (f_freeHead := f_freeHead) (f_fresh := f_fresh) (f_liveCells := f_liveCells + 1) (f_spareTotal := f_spareTotal) (f_counted := f_counted) (f_status := f_status) (f_made := f_made + 1) (f_reused := f_reused) (f_peak := rc_pe f_peak (f_liveCells + 1 + f_spareTotal)) (f_calls := f_calls) (f_result := f_result) (f_resultCells := f_resultCells) (a_nodeKind := a_nodeKind) (a_nodeX := a_nodeX) (a_nodeParam := a_nodeParam) (a_nodeA := a_nodeA) (a_nodeB := a_nodeB) (a_nodeNext := a_nodeNext) (a_nodeElse := a_nodeElse) (a_nodeFree := a_nodeFree) (a_nodeNeed := a_nodeNeed) (a_fragments := a_fragments) (a_body := a_body) (a_slots := a_slots) (a_waiting := a_waiting) (a_spareHead := a_spareHead) (a_spareCount := a_spareCount) (a_cellTag := upd a_cellTag c (a_nodeParam n)) (a_cellLeft := vp_updL a_cellLeft c (rc_val top a_slots (a_nodeA n))) (a_cellRight := vp_updL a_cellRight c (rc_val top a_slots (a_nodeB n))) (a_holds := ho2) (a_link := a_link) (a_dead := a_dead) (a_cellOfNumber := a_cellOfNumber) (a_numberOfCell := a_numberOfCell) (a_places := a_places) (a_walk := a_walk) (n := n) (j := j) (x := x) (top := top) (v := rc_cv c) hn hj hx ht ht2 hat hnx hxx hf hsub hss I4 hcv (fun d => by have := rc_is_le (rc_cv c) d; omega)
  have hc5 : col5 c = 0 := p3 c rc_up_s (by rw [rc_is_s rfl]; omega)
  obtain ⟨D6, ho6, de6, dc6, I6, W6⟩ := rx_unhE (E := fun _ => 0) (v := rc_cv c) (f_kindRet := f_kindRet) (f_kindTail := f_kindTail) (f_kindBind := f_kindBind) (f_kindCon := f_kindCon) (f_kindPrim := f_kindPrim) (f_kindCall := f_kindCall) (f_kindMatch := f_kindMatch) (f_kindTest := f_kindTest) (f_cellBase := f_cellBase) (f_heapSize := f_heapSize) (f_depthLimit := f_depthLimit) (f_nodeLimit := f_nodeLimit) (f_nodeCount := f_nodeCount) (f_fragmentCount := f_fragmentCount) (f_frames := f_frames) (f_at := nI j) (f_deadCount := 0) (f_freeHead := fh5) (f_fresh := f_fresh) (f_liveCells := lc5) (f_spareTotal := f_spareTotal) (f_counted := f_counted) (f_status := f_status) (f_made := f_made + 1) (f_reused := f_reused) (f_peak := rc_pe f_peak (f_liveCells + 1 + f_spareTotal)) (f_calls := f_calls) (f_result := f_result) (f_resultCells := f_resultCells) (a_nodeKind := a_nodeKind) (a_nodeX := a_nodeX) (a_nodeParam := a_nodeParam) (a_nodeA := a_nodeA) (a_nodeB := a_nodeB) (a_nodeNext := a_nodeNext) (a_nodeElse := a_nodeElse) (a_nodeFree := a_nodeFree) (a_nodeNeed := a_nodeNeed) (a_fragments := a_fragments) (a_body := a_body) (a_slots := vp_updL a_slots (12 * top + x) (rc_cv c)) (a_waiting := a_waiting) (a_spareHead := a_spareHead) (a_spareCount := a_spareCount) (a_cellTag := upd a_cellTag c (a_nodeParam n)) (a_cellLeft := vp_updL a_cellLeft c (rc_val top a_slots (a_nodeA n))) (a_cellRight := vp_updL a_cellRight c (rc_val top a_slots (a_nodeB n))) (a_holds := ho5) (a_link := li5) (a_dead := de5) (a_cellOfNumber := a_cellOfNumber) (a_numberOfCell := a_numberOfCell) (a_places := a_places) (a_walk := a_walk) (Or.inr ⟨c, by omega, hc5, rfl⟩) I5
  obtain ⟨col7, F7, ho7, li7, de7, fh7, lc7, I7, r1, r2, r3, r4, W7⟩ := rx_sweep (f_kindRet := f_kindRet) (f_kindTail := f_kindTail) (f_kindBind := f_kindBind) (f_kindCon := f_kindCon) (f_kindPrim := f_kindPrim) (f_kindCall := f_kindCall) (f_kindMatch := f_kindMatch) (f_kindTest := f_kindTest) (f_cellBase := f_cellBase) (f_heapSize := f_heapSize) (f_depthLimit := f_depthLimit) (f_nodeLimit := f_nodeLimit) (f_nodeCount := f_nodeCount) (f_fragmentCount := f_fragmentCount) (f_frames := f_frames) (f_at := nI j) (f_deadCount := dc6) (f_freeHead := fh5) (f_fresh := f_fresh) (f_liveCells := lc5) (f_spareTotal := f_spareTotal) (f_counted := f_counted) (f_status := f_status) (f_made := f_made + 1) (f_reused := f_reused) (f_peak := rc_pe f_peak (f_liveCells + 1 + f_spareTotal)) (f_calls := f_calls) (f_result := f_result) (f_resultCells := f_resultCells) (a_nodeKind := a_nodeKind) (a_nodeX := a_nodeX) (a_nodeParam := a_nodeParam) (a_nodeA := a_nodeA) (a_nodeB := a_nodeB) (a_nodeNext := a_nodeNext) (a_nodeElse := a_nodeElse) (a_nodeFree := a_nodeFree) (a_nodeNeed := a_nodeNeed) (a_fragments := a_fragments) (a_body := a_body) (a_slots := vp_updL a_slots (12 * top + x) (rc_cv c)) (a_waiting := a_waiting) (a_spareHead := a_spareHead) (a_spareCount := a_spareCount) (a_cellTag := upd a_cellTag c (a_nodeParam n)) (a_cellLeft := vp_updL a_cellLeft c (rc_val top a_slots (a_nodeA n))) (a_cellRight := vp_updL a_cellRight c (rc_val top a_slots (a_nodeB n))) (a_holds := ho6) (a_link := li5) (a_dead := de6) (a_cellOfNumber := a_cellOfNumber) (a_numberOfCell := a_numberOfCell) (a_places := a_places) (a_walk := a_walk) I6
  refine ⟨col7, F7, ho7, li7, de7, fh7, lc7, I7, fun d hd => p1 d (r1 d hd), fun h => ?_, fun post hp => ?_⟩
  · obtain ⟨a1, a2⟩ := p4 h
    obtain ⟨b1, b2⟩ := r4 h
    exact ⟨b1.trans a1, b2.trans a2⟩
  · refine nm_e ⟨hinn, ?_⟩
    rw [en]
    refine rx_val (top := top) hoa hf ht _ ⟨hinn, rx_val (top := top) hob hf ht _ ⟨hinn, hinc, nm_r (e' := upd a_cellTag c (a_nodeParam n)) (by rw [ec]) ⟨hinc, nm_r (e' := vp_updL a_cellLeft c (rc_val top a_slots (a_nodeA n))) (by rw [ec]) ⟨hinc, nm_r (e' := vp_updL a_cellRight c (rc_val top a_slots (a_nodeB n))) (by rw [ec]) ⟨hinc, nm_r (e' := upd a_holds c 1) (by rw [ec]) ?_⟩⟩⟩⟩⟩
    exact W2 _ (W3 _ (nm_e (rx_notePeak rfl _ (nm_e (W5 _ (W6 _ (W7 _ hp)))))))
end
end
section
section
variable {m c : Nat} {φ col : Nat → Nat}
theorem rc_VR_up {v : Int64} {k q : Int32} (hc : col c ≠ 0) (h : rc_VR φ v k q) (hf : rc_FV col v) : rc_VR (rc_up φ c m) v k q := by
  rcases h with h | ⟨hk, d, hd, e, en⟩
  · exact Or.inl h
  · refine Or.inr ⟨hk, d, hd, e, ?_⟩
    rcases hf with ⟨z, e'⟩ | ⟨d', hd', h0, e'⟩
    · exact absurd (e'.symm.trans e) (rc_i_ne z (by omega))
    · have : d' = d := rc_cv_inj (by omega) (by omega) (e'.symm.trans e)
      subst this
      rw [rc_up_n (fun e : d' = c => hc (e ▸ h0))]; exact en
end
section
variable {f_kindRet f_kindTail f_kindBind f_kindCon f_kindPrim f_kindCall f_kindMatch f_kindTest f_heapSize f_depthLimit f_nodeLimit f_nodeCount f_fragmentCount f_frames f_at f_deadCount f_freeHead f_fresh f_liveCells f_spareTotal f_counted f_status f_made f_reused f_peak f_calls f_resultCells : Int32} {f_cellBase f_result : Int64} {a_nodeKind a_nodeX a_nodeParam a_nodeA a_nodeB a_nodeNext a_nodeElse a_nodeFree a_nodeNeed a_fragments a_body a_waiting a_spareHead a_spareCount a_cellTag a_holds a_link a_dead a_cellOfNumber a_numberOfCell a_places a_walk : Nat → Int32} {a_slots a_cellLeft a_cellRight : Nat → Int64}
variable {g_frames g_status g_resKind g_resNumber g_numbered : Int32} {b_nodeA b_nodeB b_scratch b_slotKind b_slotNumber b_spares b_cellTag b_partKind b_partNumber b_live b_order b_todo : Nat → Int32}
variable {n stp nc hs dl fr m ca fs : Nat} {nd φ col : Nat → Nat} {F : List Nat} {S : Nat → List Nat} {ss : Nat → Int32}
/-- CON with its cell in hand: the next state -/
theorem rs_con_core {c top j x : Nat} {sp sc lv : Nat → Int32} (hST : (rc_ST nc hs dl nd f_heapSize f_depthLimit a_nodeKind a_nodeX a_nodeParam a_nodeA a_nodeB a_nodeNext a_nodeElse a_nodeFree a_nodeNeed a_body b_nodeA b_nodeB)) (hFT : (rc_FT nc f_nodeLimit f_nodeCount f_fragmentCount a_fragments)) (hfr : f_frames = nI (top + 1)) (hgf : g_frames = nI (top + 1)) (hd : top + 1 ≤ dl) (hat : f_at = nI n) (hn : n < nc) (hmade : f_made = nI m) (hm : m < 200) (hcalls : f_calls = nI ca) (hca : ca ≤ 200) (hfs : fs ≤ m + 1) (hst : g_status = 9) (hrk : g_resKind = 0) (hnum : g_numbered = 0) (hrc : f_resultCells = 0) (hSS : (rc_SS nc (top + 1) n ss a_nodeFree a_waiting a_nodeNext a_nodeX)) (hWT : (rc_WT nc (top + 1) a_waiting a_nodeKind)) (hSP : (rc_SP (top + 1) S sp)) (hXI : (rc_XI 0 (top + 1) (fun _ => 0) (rc_ow (top + 1) ss) col ([]) F S fs f_counted a_slots a_cellLeft a_cellRight a_holds a_link a_dead a_spareHead a_spareCount f_deadCount f_freeHead f_fresh f_liveCells f_spareTotal)) (hSV : (rc_SV (rc_ow (top + 1) ss) φ a_slots b_slotKind b_slotNumber)) (hHR : (rc_HR m φ col a_cellTag a_cellLeft a_cellRight b_cellTag b_partKind b_partNumber)) (hYW : (rc_YW b_partKind b_partNumber m)) (hk : a_nodeKind n = 3) (hx : x < 12) (hxx : a_nodeX n = nI x) (hj : j < n) (hnx : a_nodeNext n = nI j) (hc : col c = 1000) (hcf : c < fs) (hPL : f_counted = 0 → fs = m + 1 ∧ c = m ∧ (∀ d, d < m → col d = 0 ∧ φ d = d) ∧ F = [] ∧ (∀ f, f < top + 1 → S f = []) ∧ rc_pe f_peak (f_liveCells + 1 + f_spareTotal) = nI (m + 1)) (hRN : f_counted ≠ 0 → rc_ct col + 1 + rc_sm (fun f => (S f).length) (top + 1) ≤ hs) (hME : (rc_ME n stp (top + 1) ca a_nodeNext a_waiting)) : ∃ u' : SX, rc_ER j (stp + 1) u' (f_heapSize, f_depthLimit, f_nodeLimit, f_nodeCount, f_fragmentCount, g_frames, nI (m + 1), f_counted, f_reused, rc_pe f_peak (f_liveCells + 1 + f_spareTotal), f_calls, g_status, g_resKind, g_resNumber, g_numbered, a_nodeKind, a_nodeX, a_nodeParam, b_nodeA, b_nodeB, a_nodeNext, a_nodeElse, sc, a_fragments, a_body, upd b_slotKind (12 * top + x) 2, upd b_slotNumber (12 * top + x) (nI m), sp, a_waiting, upd b_cellTag m (a_nodeParam n), upd (upd b_partKind (2 * m) (rc_kat top b_slotKind (a_nodeA n))) (2 * m + 1) (rc_kat top b_slotKind (a_nodeB n)), upd (upd b_partNumber (2 * m) (rc_nat top b_slotNumber (a_nodeA n))) (2 * m + 1) (rc_nat top b_slotNumber (a_nodeB n)), lv, b_order, b_todo) ∧ ∀ post : Int32 → SX → Prop, post 0 u' → wX_stepCon_81 post (nI n) (nI c) f_kindRet f_kindTail f_kindBind f_kindCon f_kindPrim f_kindCall f_kindMatch f_kindTest f_cellBase f_heapSize f_depthLimit f_nodeLimit f_nodeCount f_fragmentCount f_frames f_at f_deadCount f_freeHead f_fresh f_liveCells f_spareTotal f_counted f_status f_made f_reused f_peak f_calls f_result f_resultCells a_nodeKind a_nodeX a_nodeParam a_nodeA a_nodeB a_nodeNext a_nodeElse a_nodeFree a_nodeNeed a_fragments a_body a_slots a_waiting a_spareHead a_spareCount a_cellTag a_cellLeft a_cellRight a_holds a_link a_dead a_cellOfNumber a_numberOfCell a_places a_walk := by
  have hnc := hST.1
  have hdl := hST.2.2.2.2.2.2.2.1
  obtain ⟨x', j', hx', hxx', hya, hyb, hoa, hob, -, hba, hbb, hj', hnx', hsub, -⟩ := rc_nd2 (hST.2.1 n hn) (Or.inr (Or.inl hk))
  have e1 : x' = x := rc_n_of (by omega) (by omega) (hxx'.symm.trans hxx)
  subst e1
  have e2 : j' = j := rc_n_of (by omega) (by omega) (hnx'.symm.trans hnx)
  subst e2
  have htop : top < 16 := by omega
  have hsst : ss top = a_nodeFree n := hSS.1
  have hfs200 := hXI.1.1
  have hc0 : col c ≠ 0 := by omega
  have hfa := rc_val_FV (o := a_nodeA n) (Nat.lt_succ_self top) (by omega) hoa (fun s hs e => by rw [hsst]; exact hba s hs e) hXI.1
  have hva := rc_val_VR (o := a_nodeA n) (Nat.lt_succ_self top) (by omega) hoa (fun s hs e => by rw [hsst]; exact hba s hs e) hSV
  have hfb := rc_val_FV (o := a_nodeB n) (Nat.lt_succ_self top) (by omega) hob (fun s hs e => by rw [hsst]; exact hbb s hs e) hXI.1
  have hvb := rc_val_VR (o := a_nodeB n) (Nat.lt_succ_self top) (by omega) hob (fun s hs e => by rw [hsst]; exact hbb s hs e) hSV
  obtain ⟨col', F', ho', li', de', fh', lc', I', p1, p4, W⟩ := rx_con81 (f_kindRet := f_kindRet) (f_kindTail := f_kindTail) (f_kindBind := f_kindBind) (f_kindCon := f_kindCon) (f_kindPrim := f_kindPrim) (f_kindCall := f_kindCall) (f_kindMatch := f_kindMatch) (f_kindTest := f_kindTest) (f_cellBase := f_cellBase) (f_heapSize := f_heapSize) (f_depthLimit := f_depthLimit) (f_nodeLimit := f_nodeLimit) (f_nodeCount := f_nodeCount) (f_fragmentCount := f_fragmentCount) (f_frames := f_frames) (f_at := f_at) (f_deadCount := f_deadCount) (f_freeHead := f_freeHead) (f_fresh := f_fresh) (f_liveCells := f_liveCells) (f_spareTotal := f_spareTotal) (f_counted := f_counted) (f_status := f_status) (f_made := f_made) (f_reused := f_reused) (f_peak := f_peak) (f_calls := f_calls) (f_result := f_result) (f_resultCells := f_resultCells) (a_nodeKind := a_nodeKind) (a_nodeX := a_nodeX) (a_nodeParam := a_nodeParam) (a_nodeA := a_nodeA) (a_nodeB := a_nodeB) (a_nodeNext := a_nodeNext) (a_nodeElse := a_nodeElse) (a_nodeFree := a_nodeFree) (a_nodeNeed := a_nodeNeed) (a_fragments := a_fragments) (a_body := a_body) (a_slots := a_slots) (a_waiting := a_waiting) (a_spareHead := a_spareHead) (a_spareCount := a_spareCount) (a_cellTag := a_cellTag) (a_cellLeft := a_cellLeft) (a_cellRight := a_cellRight) (a_holds := a_holds) (a_link := a_link) (a_dead := a_dead) (a_cellOfNumber := a_cellOfNumber) (a_numberOfCell := a_numberOfCell) (a_places := a_places) (a_walk := a_walk) (n := n) (j := j') (x := x') (top := top) (c := c) (by omega) (by omega) hx htop (by omega) (Nat.lt_succ_self top) hat hnx hxx hfr hoa hob hfa hfb hsub hsst hc hcf hXI
  have e0 : rc_up (rc_up col c 0) c 1000 = col := by
    funext y; unfold rc_up; split
    · next h => rw [h, hc]
    · rfl
  have hct1 : rc_ct (rc_up col c 0) = rc_ct col + 1 := by
    have := rc_ct_off (col := rc_up col c 0) (c := c) (k := 1000) (by omega) rc_up_s (by omega)
    rwa [e0] at this
  have hor : ∀ d, col' d = 0 → d = c ∨ (d ≠ c ∧ col d = 0) := fun d hd => by
    have := p1 d hd
    by_cases e : d = c
    · exact Or.inl e
    · rw [rc_up_n e] at this; exact Or.inr ⟨e, this⟩
  refine ⟨(f_kindRet, f_kindTail, f_kindBind, f_kindCon, f_kindPrim, f_kindCall, f_kindMatch, f_kindTest, f_cellBase, f_heapSize, f_depthLimit, f_nodeLimit, f_nodeCount, f_fragmentCount, f_frames, nI j', 0, fh', f_fresh, lc', f_spareTotal, f_counted, f_status, nI (m + 1), f_reused, rc_pe f_peak (f_liveCells + 1 + f_spareTotal), f_calls, f_result, f_resultCells, a_nodeKind, a_nodeX, a_nodeParam, a_nodeA, a_nodeB, a_nodeNext, a_nodeElse, a_nodeFree, a_nodeNeed, a_fragments, a_body, vp_updL a_slots (12 * top + x') (rc_cv c), a_waiting, a_spareHead, a_spareCount, upd a_cellTag c (a_nodeParam n), vp_updL a_cellLeft c (rc_val top a_slots (a_nodeA n)), vp_updL a_cellRight c (rc_val top a_slots (a_nodeB n)), ho', li', de', a_cellOfNumber, a_numberOfCell, a_places, a_walk), rc_ER_mk (m := m + 1) (φ := rc_up φ c m) ⟨hST, hFT, ⟨by omega, hd, hfr, hgf, rfl, by omega, rfl, by omega, hcalls, hca, hfs, hst, hrk, hnum, hrc⟩, rc_SS_top hSS, hWT, hSP, I', ?_, ⟨fun d hd => ?_, fun d e hd he hq => ?_⟩, fun p hp hpk => ?_, fun h => ?_, fun h => ?_, ?_⟩, fun post hp => W post (by rw [hmade, nI_1]; exact hp)⟩
  · refine rc_SV_asg hx (fun s hs hb hne => by rw [hsst]; exact hsub s hs hb hne) (fun _ => Or.inr ⟨rfl, c, by omega, rfl, by rw [rc_up_s]⟩) ?_
    intro i hi ho
    exact rc_VR_up hc0 (hSV i hi ho) (hXI.1.2.2.2 i hi ho)
  · rcases hor d hd with e | ⟨e, h0⟩
    · subst e
      rw [rc_up_s, pk_us, pk_us, pk_uLs, pk_uLs]
      refine ⟨by omega, rfl, ?_, ?_⟩
      · rw [pk_un (by omega), pk_us, pk_un (by omega), pk_us]
        exact rc_VR_up hc0 hva hfa
      · rw [pk_us, pk_us]
        exact rc_VR_up hc0 hvb hfb
    · obtain ⟨g1, g2, g3, g4⟩ := hHR.1 d h0
      obtain ⟨k1, k2⟩ := hXI.1.2.2.1 d h0
      rw [rc_up_n e, pk_un (by omega), pk_un e, pk_uLn e, pk_uLn e]
      refine ⟨by omega, g2, ?_, ?_⟩
      · rw [pk_un (by omega), pk_un (by omega), pk_un (by omega), pk_un (by omega)]
        exact rc_VR_up hc0 g3 k1
      · rw [pk_un (by omega), pk_un (by omega), pk_un (by omega), pk_un (by omega)]
        exact rc_VR_up hc0 g4 k2
  · rcases hor d hd with e1 | ⟨e1, h1⟩
    · rcases hor e he with e2 | ⟨e2, h2⟩
      · omega
      · subst e1
        rw [rc_up_s, rc_up_n e2] at hq
        have := (hHR.1 e h2).1
        omega
    · rcases hor e he with e2 | ⟨e2, h2⟩
      · subst e2
        rw [rc_up_s, rc_up_n e1] at hq
        have := (hHR.1 d h1).1
        omega
      · rw [rc_up_n e1, rc_up_n e2] at hq
        exact hHR.2 d e h1 h2 hq
  · by_cases q1 : p = 2 * m + 1
    · subst q1
      rw [pk_us] at hpk
      rw [hpk] at hvb
      obtain ⟨d, _, h0, _, en⟩ := rc_VR2 hvb hfb
      rw [pk_us]
      exact ⟨φ d, by have := (hHR.1 d h0).1; omega, en⟩
    · rw [pk_un q1] at hpk
      rw [pk_un q1]
      by_cases q2 : p = 2 * m
      · subst q2
        rw [pk_us] at hpk
        rw [hpk] at hva
        obtain ⟨d, _, h0, _, en⟩ := rc_VR2 hva hfa
        rw [pk_us]
        exact ⟨φ d, by have := (hHR.1 d h0).1; omega, en⟩
      · rw [pk_un q2] at hpk
        rw [pk_un q2]
        exact hYW p (by omega) hpk
  · obtain ⟨g1, g2, g3, g4, g5, g6⟩ := hPL h
    obtain ⟨k1, k2⟩ := p4 h
    refine ⟨g1, fun d hd => ?_, k2.trans g4, g5, g6⟩
    rw [k1]
    by_cases e : d = c
    · rw [e, rc_up_s, rc_up_s]; exact ⟨rfl, g2.symm⟩
    · rw [rc_up_n e, rc_up_n e]; exact g3 d (by omega)
  · have h1 := hRN h
    have h2 : rc_ct col' ≤ rc_ct (rc_up col c 0) := rc_ct_mono p1
    omega
  · unfold rc_ME at hME ⊢; omega
theorem rs_occ (G : (rc_EG n stp nc hs dl fr m ca fs nd φ col F S ss f_heapSize f_depthLimit f_nodeLimit f_nodeCount f_fragmentCount f_frames f_at f_deadCount f_freeHead f_fresh f_liveCells f_spareTotal f_counted f_made f_peak f_calls f_resultCells a_nodeKind a_nodeX a_nodeParam a_nodeA a_nodeB a_nodeNext a_nodeElse a_nodeFree a_nodeNeed a_fragments a_body a_slots a_waiting a_spareHead a_spareCount a_cellTag a_cellLeft a_cellRight a_holds a_link a_dead g_frames g_status g_resKind g_numbered b_nodeA b_nodeB b_slotKind b_slotNumber b_spares b_cellTag b_partKind b_partNumber)) (hct : ¬ f_counted = 0) : ∃ lv sc : Nat → Int32, ∀ post : Int32 → SY → Prop, post (nI (rc_ct col + rc_sm (fun f => (S f).length) fr)) (f_heapSize, f_depthLimit, f_nodeLimit, f_nodeCount, f_fragmentCount, g_frames, f_made, f_counted, f_reused, f_peak, f_calls, g_status, g_resKind, g_resNumber, g_numbered, a_nodeKind, a_nodeX, a_nodeParam, b_nodeA, b_nodeB, a_nodeNext, a_nodeElse, sc, a_fragments, a_body, b_slotKind, b_slotNumber, b_spares, a_waiting, b_cellTag, b_partKind, b_partNumber, lv, b_order, b_todo) → wpY_occupied post (f_heapSize, f_depthLimit, f_nodeLimit, f_nodeCount, f_fragmentCount, g_frames, f_made, f_counted, f_reused, f_peak, f_calls, g_status, g_resKind, g_resNumber, g_numbered, a_nodeKind, a_nodeX, a_nodeParam, b_nodeA, b_nodeB, a_nodeNext, a_nodeElse, b_scratch, a_fragments, a_body, b_slotKind, b_slotNumber, b_spares, a_waiting, b_cellTag, b_partKind, b_partNumber, b_live, b_order, b_todo) (nI n) := by
  obtain ⟨hST, hFT, hNU, hSS, hWT, hSP, hXI, hSV, hHR, hYW, hPL, hRN, hME⟩ := G
  obtain ⟨f1, f2, hfr, hgf, hat, hn, hmade, hm, hcalls, hca, hfs, hst, hrk, hnum, hrc⟩ := hNU
  have hnc := hST.1
  have hdl := hST.2.2.2.2.2.2.2.1
  obtain ⟨lv, sc, hPS, WM⟩ := ry_mark (g_heapSize := f_heapSize) (g_depthLimit := f_depthLimit) (g_nodeLimit := f_nodeLimit) (g_nodeCount := f_nodeCount) (g_fragCount := f_fragmentCount) (g_frames := g_frames) (g_made := f_made) (g_inRun := f_counted) (g_reused := f_reused) (g_peak := f_peak) (g_calls := f_calls) (g_status := g_status) (g_resKind := g_resKind) (g_resNumber := g_resNumber) (g_numbered := g_numbered) (b_nodeKind := a_nodeKind) (b_nodeX := a_nodeX) (b_nodeT := a_nodeParam) (b_nodeA := b_nodeA) (b_nodeB := b_nodeB) (b_nodeNext := a_nodeNext) (b_nodeElse := a_nodeElse) (b_scratch := b_scratch) (b_frag := a_fragments) (b_body := a_body) (b_slotKind := b_slotKind) (b_slotNumber := b_slotNumber) (b_spares := b_spares) (b_waits := a_waiting) (b_cellTag := b_cellTag) (b_partKind := b_partKind) (b_partNumber := b_partNumber) (b_live := b_live) (b_order := b_order) (b_todo := b_todo) hST.2.1 hn hnc f1 (by omega) hgf hmade hm hSS (rc_SN_of hm hXI.1 hHR hSV) hYW
  have hlive := rc_live hm hXI.1 (fun d hd => rc_mem0' (hXI.2.1.1 hct).2.2.2.2.2 hd) hHR hSV hYW hPS
  have hct2 := rc_live_ct hm hXI.1 hHR hlive
  refine ⟨lv, sc, fun post hp => WM _ ⟨m + 1, ?_⟩⟩
  refine ry_occ_9 (ln := fun f => (S f).length) (by omega) hgf hSP hm hmade m 0 (by omega) post (m + 1) (by omega) ?_
  rw [hct2]
  exact hp
/-- CON -/
theorem rs_con (G : (rc_EG n stp nc hs dl fr m ca fs nd φ col F S ss f_heapSize f_depthLimit f_nodeLimit f_nodeCount f_fragmentCount f_frames f_at f_deadCount f_freeHead f_fresh f_liveCells f_spareTotal f_counted f_made f_peak f_calls f_resultCells a_nodeKind a_nodeX a_nodeParam a_nodeA a_nodeB a_nodeNext a_nodeElse a_nodeFree a_nodeNeed a_fragments a_body a_slots a_waiting a_spareHead a_spareCount a_cellTag a_cellLeft a_cellRight a_holds a_link a_dead g_frames g_status g_resKind g_numbered b_nodeA b_nodeB b_slotKind b_slotNumber b_spares b_cellTag b_partKind b_partNumber)) (hk : a_nodeKind n = 3) : ∃ (r : Int32) (n' : Nat) (u' : SX) (v' : SY), rc_OUT r n' (stp + 1) u' v' ∧ (∀ post : Int32 → SX → Prop, post r u' → wpX_stepCon post (f_kindRet, f_kindTail, f_kindBind, f_kindCon, f_kindPrim, f_kindCall, f_kindMatch, f_kindTest, f_cellBase, f_heapSize, f_depthLimit, f_nodeLimit, f_nodeCount, f_fragmentCount, f_frames, f_at, f_deadCount, f_freeHead, f_fresh, f_liveCells, f_spareTotal, f_counted, f_status, f_made, f_reused, f_peak, f_calls, f_result, f_resultCells, a_nodeKind, a_nodeX, a_nodeParam, a_nodeA, a_nodeB, a_nodeNext, a_nodeElse, a_nodeFree, a_nodeNeed, a_fragments, a_body, a_slots, a_waiting, a_spareHead, a_spareCount, a_cellTag, a_cellLeft, a_cellRight, a_holds, a_link, a_dead, a_cellOfNumber, a_numberOfCell, a_places, a_walk)) ∧ (∀ post : Int32 → SY → Prop, post (nI n') v' → wpY_step post (f_heapSize, f_depthLimit, f_nodeLimit, f_nodeCount, f_fragmentCount, g_frames, f_made, f_counted, f_reused, f_peak, f_calls, g_status, g_resKind, g_resNumber, g_numbered, a_nodeKind, a_nodeX, a_nodeParam, b_nodeA, b_nodeB, a_nodeNext, a_nodeElse, b_scratch, a_fragments, a_body, b_slotKind, b_slotNumber, b_spares, a_waiting, b_cellTag, b_partKind, b_partNumber, b_live, b_order, b_todo) (nI n)) := by
  have G0 := G
  obtain ⟨hST, hFT, hNU, hSS, hWT, hSP, hXI, hSV, hHR, hYW, hPL, hRN, hME⟩ := G
  obtain ⟨f1, f2, hfr, hgf, hat, hn, hmade, hm, hcalls, hca, hfs, hst, hrk, hnum, hrc⟩ := hNU
  obtain ⟨top, rfl⟩ : ∃ t, fr = t + 1 := ⟨fr - 1, by omega⟩
  have hnc := hST.1
  have hdl := hST.2.2.2.2.2.2.2.1
  have hhs := hST.2.2.2.1
  have hhs64 := hST.2.2.2.2.1
  obtain ⟨x, j, hx, hxx, hya, hyb, hoa, hob, -, hba, hbb, hj, hnx, hsub, -⟩ := rc_nd2 (hST.2.1 n hn) (Or.inr (Or.inl hk))
  have htop : top < 16 := by omega
  have hoa' : rc_op (b_nodeA n) := by rw [← hya]; exact hoa
  have hob' : rc_op (b_nodeB n) := by rw [← hyb]; exact hob
  have hinf : vp_in (f_frames - 1) 16 := by rw [hfr, nI_pred]; exact vp_in_nI htop (by decide)
  have ef : (f_frames - 1).toNatClampNeg = top := by rw [hfr, nI_pred, nI_clamp (by omega)]
  by_cases hm2 : m < 200
  · have hmlt : f_made < 200 := by rw [hmade]; exact nI_lt (b := 200) hm2 (by decide)
    have hLS := hXI.2.2.1.2 top (Nat.lt_succ_self top)
    have hlen := rc_LS_len hLS.1
    have hfs200 := hXI.1.1
    have hlc : f_liveCells = nI (rc_ct col) := hXI.2.2.2.2.1
    have hst2 : f_spareTotal = nI (rc_sm (fun f => (S f).length) (top + 1)) := hXI.2.2.2.2.2
    have hct200 := rc_ct_le col
    cases hS : S top with
    | cons c l =>
      have hct : ¬ f_counted = 0 := fun h => by
        have := (hPL h).2.2.2.1 top (Nat.lt_succ_self top)
        rw [hS] at this; exact absurd this (by simp)
      have hrn := hRN hct
      have hsl : (S top).length = l.length + 1 := by rw [hS]; rfl
      have hsn0 : ¬ a_spareCount top ≤ 0 := by rw [hLS.2, hsl]; exact nI_nle (by omega) (by omega)
      have hyn0 : ¬ b_spares top ≤ 0 := by rw [hSP top (Nat.lt_succ_self top), hsl]; exact nI_nle (by omega) (by omega)
      obtain ⟨I1, hcf, hcc, hsh⟩ := rc_takeSpare (Nat.lt_succ_self top) hS hXI
      have hiff := rc_up_iff (col := col) (c := c) (k := 1000) (by omega) (by omega)
      have hsm := rc_us_sm (S := S) (f := top) (fr := top + 1) (l := l) (Nat.lt_succ_self top)
      obtain ⟨lv, sc, WO⟩ := rs_occ G0 hct
      obtain ⟨u', R, W⟩ := rs_con_core (c := c) (top := top) (sp := upd b_spares top (b_spares top - 1)) (sc := sc) (lv := lv) (f_kindRet := f_kindRet) (f_kindTail := f_kindTail) (f_kindBind := f_kindBind) (f_kindCon := f_kindCon) (f_kindPrim := f_kindPrim) (f_kindCall := f_kindCall) (f_kindMatch := f_kindMatch) (f_kindTest := f_kindTest) (f_cellBase := f_cellBase) (f_heapSize := f_heapSize) (f_depthLimit := f_depthLimit) (f_nodeLimit := f_nodeLimit) (f_nodeCount := f_nodeCount) (f_fragmentCount := f_fragmentCount) (f_frames := f_frames) (f_at := f_at) (f_deadCount := f_deadCount) (f_freeHead := f_freeHead) (f_fresh := f_fresh) (f_liveCells := f_liveCells) (f_spareTotal := f_spareTotal - 1) (f_counted := f_counted) (f_status := f_status) (f_made := f_made) (f_reused := f_reused + 1) (f_peak := f_peak) (f_calls := f_calls) (f_result := f_result) (f_resultCells := f_resultCells) (a_nodeKind := a_nodeKind) (a_nodeX := a_nodeX) (a_nodeParam := a_nodeParam) (a_nodeA := a_nodeA) (a_nodeB := a_nodeB) (a_nodeNext := a_nodeNext) (a_nodeElse := a_nodeElse) (a_nodeFree := a_nodeFree) (a_nodeNeed := a_nodeNeed) (a_fragments := a_fragments) (a_body := a_body) (a_slots := a_slots) (a_waiting := a_waiting) (a_spareHead := upd a_spareHead top (a_link c)) (a_spareCount := upd a_spareCount top (a_spareCount top - 1)) (a_cellTag := a_cellTag) (a_cellLeft := a_cellLeft) (a_cellRight := a_cellRight) (a_holds := a_holds) (a_link := a_link) (a_dead := a_dead) (a_cellOfNumber := a_cellOfNumber) (a_numberOfCell := a_numberOfCell) (a_places := a_places) (a_walk := a_walk) (g_resNumber := g_resNumber) (b_order := b_order) (b_todo := b_todo) hST hFT hfr hgf f2 hat hn hmade hm2 hcalls hca (by omega) hst hrk hnum hrc hSS hWT (fun f hf => by
        by_cases q : f = top
        · subst q; rw [pk_us, rc_us_s, hSP f hf, hsl, nI_pred]
        · rw [pk_un q, rc_us_n q]; exact hSP f hf) I1 hSV (rc_HR_mono (fun d hd => (hiff d).mp hd) hHR) hYW hk hx hxx hj hnx rc_up_s hcf (fun h => absurd h hct) (fun _ => by
        rw [rc_ct_col hiff]; omega) hME
      have epk : rc_pe f_peak (f_liveCells + 1 + (f_spareTotal - 1)) = rc_pe f_peak (nI (rc_ct col + rc_sm (fun f => (S f).length) (top + 1))) := by
        have : f_liveCells + 1 + (f_spareTotal - 1) = nI (rc_ct col + rc_sm (fun f => (S f).length) (top + 1)) := by
          rw [hlc, hst2, show rc_sm (fun f => (S f).length) (top + 1) = rc_sm (fun f => (rc_us S top l f).length) (top + 1) + 1 from by omega, nI_pred, nI_1, nI_add]
          congr 1; omega
        rw [this]
      rw [epk] at R
      refine ⟨0, j, u', _, Or.inl ⟨rfl, R⟩, fun post hp => ?_, fun post hp => ?_⟩
      · refine br_t hmlt ⟨hinf, br_f (by rw [ef]; exact hsn0) (rx_takeSpare_w hfr htop hsh (by omega) _ (nm_e ?_))⟩
        subst hat
        exact W post hp
      · refine ry_con (K := fun post hp => ry_room_reuse WO hmlt hct hst hgf htop hyn0 post hp) (m := m) (x := x) (by omega) hm2 hx htop hk hxx hoa' hob' hgf hst hmade post ?_
        rw [hnx, ← hya, ← hyb]
        exact hp
    | nil =>
      have hsn0 : a_spareCount top ≤ 0 := by rw [hLS.2, hS]; decide
      have hyn0 : b_spares top ≤ 0 := by rw [hSP top (Nat.lt_succ_self top), hS]; decide
      have hpkp : f_counted = 0 → rc_pe f_peak (f_liveCells + 1 + f_spareTotal) = nI (m + 1) := by
        intro h
        obtain ⟨g1, g2, g3, g4, g5⟩ := hPL h
        have hcm : rc_ct col = m := by
          have e1 := rc_sm_c (g := fun c => if col c = 0 then 1 else 0) (h := fun c => if c < m then 1 else 0) (n := 200) (fun i _ => by
            show (if col i = 0 then 1 else 0) = (if i < m then 1 else 0)
            by_cases q : i < m
            · rw [if_pos q, if_pos (g2 i (by omega)).1]
            · rw [if_neg q, if_neg (fun w => q (by have := hXI.1.2.1 i w; omega))])
          have e2 := rc_bij id m (fun _ => true) (fun d => decide (d < m)) 200 (fun c hc _ => ⟨by show c < 200; omega, decide_eq_true hc⟩) (fun c d _ _ _ _ e => e) (fun d _ hb => ⟨d, of_decide_eq_true hb, rfl, rfl⟩)
          have e3 : rc_sm (fun c => if (fun _ : Nat => true) c = true then 1 else 0) m = m := by
            have : ∀ q, rc_sm (fun c => if (fun _ : Nat => true) c = true then 1 else 0) q = q := fun q => by
              induction q with
              | zero => rfl
              | succ q ih => show rc_sm _ q + 1 = q + 1; rw [ih]
            exact this m
          have e4 : rc_sm (fun c => if c < m then 1 else 0) 200 = rc_sm (fun d => if decide (d < m) = true then 1 else 0) 200 := rc_sm_c fun i _ => by
            show (if i < m then 1 else 0) = (if decide (i < m) = true then 1 else 0)
            by_cases q : i < m <;> simp [q]
          exact e1.trans (e4.trans (e2.symm.trans e3))
        have hsum0 : rc_sm (fun f => (S f).length) (top + 1) = 0 := rc_sm_z fun i hi => by
          show (S i).length = 0
          rw [g4 i hi]; rfl
        rw [g5, hlc, hst2, hcm, hsum0, nI_1, nI_add]
        unfold rc_pe
        rw [if_neg (nI_ge (by omega) (by omega))]
      have FR : ∀ (hfs2 : fs < 200) (sc lv : Nat → Int32) (_ : f_counted ≠ 0 → rc_ct col + 1 + rc_sm (fun f => (S f).length) (top + 1) ≤ hs), ∃ u' : SX, rc_ER j (stp + 1) u' (f_heapSize, f_depthLimit, f_nodeLimit, f_nodeCount, f_fragmentCount, g_frames, nI (m + 1), f_counted, f_reused, rc_pe f_peak (f_liveCells + 1 + f_spareTotal), f_calls, g_status, g_resKind, g_resNumber, g_numbered, a_nodeKind, a_nodeX, a_nodeParam, b_nodeA, b_nodeB, a_nodeNext, a_nodeElse, sc, a_fragments, a_body, upd b_slotKind (12 * top + x) 2, upd b_slotNumber (12 * top + x) (nI m), b_spares, a_waiting, upd b_cellTag m (a_nodeParam n), upd (upd b_partKind (2 * m) (rc_kat top b_slotKind (a_nodeA n))) (2 * m + 1) (rc_kat top b_slotKind (a_nodeB n)), upd (upd b_partNumber (2 * m) (rc_nat top b_slotNumber (a_nodeA n))) (2 * m + 1) (rc_nat top b_slotNumber (a_nodeB n)), lv, b_order, b_todo) ∧ ∀ post : Int32 → SX → Prop, post 0 u' → wX_stepCon_76 post f_at f_kindRet f_kindTail f_kindBind f_kindCon f_kindPrim f_kindCall f_kindMatch f_kindTest f_cellBase f_heapSize f_depthLimit f_nodeLimit f_nodeCount f_fragmentCount f_frames f_at f_deadCount f_freeHead f_fresh f_liveCells f_spareTotal f_counted f_status f_made f_reused f_peak f_calls f_result f_resultCells a_nodeKind a_nodeX a_nodeParam a_nodeA a_nodeB a_nodeNext a_nodeElse a_nodeFree a_nodeNeed a_fragments a_body a_slots a_waiting a_spareHead a_spareCount a_cellTag a_cellLeft a_cellRight a_holds a_link a_dead a_cellOfNumber a_numberOfCell a_places a_walk := by
        intro hfs2 sc lv hroom
        obtain ⟨c, fs', F1, fh1, ff1, I1, hcf, hfs', hcn, hFe, W1⟩ := rx_takeFree (f_kindRet := f_kindRet) (f_kindTail := f_kindTail) (f_kindBind := f_kindBind) (f_kindCon := f_kindCon) (f_kindPrim := f_kindPrim) (f_kindCall := f_kindCall) (f_kindMatch := f_kindMatch) (f_kindTest := f_kindTest) (f_cellBase := f_cellBase) (f_heapSize := f_heapSize) (f_depthLimit := f_depthLimit) (f_nodeLimit := f_nodeLimit) (f_nodeCount := f_nodeCount) (f_fragmentCount := f_fragmentCount) (f_frames := f_frames) (f_at := f_at) (f_deadCount := f_deadCount) (f_freeHead := f_freeHead) (f_fresh := f_fresh) (f_liveCells := f_liveCells) (f_spareTotal := f_spareTotal) (f_counted := f_counted) (f_status := f_status) (f_made := f_made) (f_reused := f_reused) (f_peak := f_peak) (f_calls := f_calls) (f_result := f_result) (f_resultCells := f_resultCells) (a_nodeKind := a_nodeKind) (a_nodeX := a_nodeX) (a_nodeParam := a_nodeParam) (a_nodeA := a_nodeA) (a_nodeB := a_nodeB) (a_nodeNext := a_nodeNext) (a_nodeElse := a_nodeElse) (a_nodeFree := a_nodeFree) (a_nodeNeed := a_nodeNeed) (a_fragments := a_fragments) (a_body := a_body) (a_slots := a_slots) (a_waiting := a_waiting) (a_spareHead := a_spareHead) (a_spareCount := a_spareCount) (a_cellTag := a_cellTag) (a_cellLeft := a_cellLeft) (a_cellRight := a_cellRight) (a_holds := a_holds) (a_link := a_link) (a_dead := a_dead) (a_cellOfNumber := a_cellOfNumber) (a_numberOfCell := a_numberOfCell) (a_places := a_places) (a_walk := a_walk) hfs2 hXI
        have hiff := rc_up_iff (col := col) (c := c) (k := 1000) hcn (by omega)
        obtain ⟨u', R, W⟩ := rs_con_core (c := c) (top := top) (sp := b_spares) (sc := sc) (lv := lv) (f_kindRet := f_kindRet) (f_kindTail := f_kindTail) (f_kindBind := f_kindBind) (f_kindCon := f_kindCon) (f_kindPrim := f_kindPrim) (f_kindCall := f_kindCall) (f_kindMatch := f_kindMatch) (f_kindTest := f_kindTest) (f_cellBase := f_cellBase) (f_heapSize := f_heapSize) (f_depthLimit := f_depthLimit) (f_nodeLimit := f_nodeLimit) (f_nodeCount := f_nodeCount) (f_fragmentCount := f_fragmentCount) (f_frames := f_frames) (f_at := f_at) (f_deadCount := f_deadCount) (f_freeHead := fh1) (f_fresh := ff1) (f_liveCells := f_liveCells) (f_spareTotal := f_spareTotal) (f_counted := f_counted) (f_status := f_status) (f_made := f_made) (f_reused := f_reused) (f_peak := f_peak) (f_calls := f_calls) (f_result := f_result) (f_resultCells := f_resultCells) (a_nodeKind := a_nodeKind) (a_nodeX := a_nodeX) (a_nodeParam := a_nodeParam) (a_nodeA := a_nodeA) (a_nodeB := a_nodeB) (a_nodeNext := a_nodeNext) (a_nodeElse := a_nodeElse) (a_nodeFree := a_nodeFree) (a_nodeNeed := a_nodeNeed) (a_fragments := a_fragments) (a_body := a_body) (a_slots := a_slots) (a_waiting := a_waiting) (a_spareHead := a_spareHead) (a_spareCount := a_spareCount) (a_cellTag := a_cellTag) (a_cellLeft := a_cellLeft) (a_cellRight := a_cellRight) (a_holds := a_holds) (a_link := a_link) (a_dead := a_dead) (a_cellOfNumber := a_cellOfNumber) (a_numberOfCell := a_numberOfCell) (a_places := a_places) (a_walk := a_walk) (g_resNumber := g_resNumber) (b_order := b_order) (b_todo := b_todo) hST hFT hfr hgf f2 hat hn hmade hm2 hcalls hca (by omega) hst hrk hnum hrc hSS hWT hSP I1 hSV (rc_HR_mono (fun d hd => (hiff d).mp hd) hHR) hYW hk hx hxx hj hnx rc_up_s hcf (fun h => by
          obtain ⟨g1, g2, g3, g4, g5⟩ := hPL h
          obtain ⟨k1, k2, k3⟩ := hFe g3
          refine ⟨by omega, by omega, fun d hd => ⟨(hiff d).mpr (g2 d (by omega)).1, (g2 d (by omega)).2⟩, k3, g4, hpkp h⟩) (fun h => by rw [rc_ct_col hiff]; exact hroom h) hME
        refine ⟨u', R, fun post hp => W1 _ ?_⟩
        subst hat
        exact W post hp
      by_cases hct : f_counted = 0
      · obtain ⟨g1, g2, g3, g4, g5⟩ := hPL hct
        obtain ⟨u', R, W⟩ := FR (by omega) b_scratch b_live (fun h => absurd hct h)
        have hcm : rc_pe f_peak (f_liveCells + 1 + f_spareTotal) = f_made + 1 := by rw [hpkp hct, hmade, nI_1]
        rw [hcm] at R
        refine ⟨0, j, u', _, Or.inl ⟨rfl, R⟩, fun post hp => br_t hmlt ⟨hinf, br_t (by rw [ef]; exact hsn0) (br_t hct (W post hp))⟩, fun post hp => ?_⟩
        refine ry_con (K := fun post hp => ry_room_plain hmlt hct post hp) (m := m) (x := x) (by omega) hm2 hx htop hk hxx hoa' hob' hgf hst hmade post ?_
        rw [hnx, ← hya, ← hyb]
        exact hp
      · have hrn := hRN hct
        obtain ⟨lv, sc, WO⟩ := rs_occ G0 hct
        have eocc : f_liveCells + f_spareTotal = nI (rc_ct col + rc_sm (fun f => (S f).length) (top + 1)) := by rw [hlc, hst2, nI_add]
        by_cases hroom : rc_ct col + rc_sm (fun f => (S f).length) (top + 1) < hs
        · obtain ⟨u', R, W⟩ := FR (by omega) sc lv (fun _ => by omega)
          have epk : rc_pe f_peak (f_liveCells + 1 + f_spareTotal) = rc_pe f_peak (nI (rc_ct col + rc_sm (fun f => (S f).length) (top + 1)) + 1) := by
            have : f_liveCells + 1 + f_spareTotal = nI (rc_ct col + rc_sm (fun f => (S f).length) (top + 1)) + 1 := by
              rw [hlc, hst2, nI_1, nI_1, nI_add]
              congr 1; omega
            rw [this]
          rw [epk] at R
          refine ⟨0, j, u', _, Or.inl ⟨rfl, R⟩, fun post hp => br_t hmlt ⟨hinf, br_t (by rw [ef]; exact hsn0) (br_f hct (br_t ?_ (W post hp)))⟩, fun post hp => ?_⟩
          · rw [eocc, hhs]; exact nI_lt hroom (by omega)
          · refine ry_con (K := fun post hp => ry_room_new WO hmlt hct hst hgf htop hyn0 ?_ post hp) (m := m) (x := x) (by omega) hm2 hx htop hk hxx hoa' hob' hgf hst hmade post ?_
            · rw [hhs]; intro w
              have := rc_n_of (by omega) (by omega) w
              omega
            · rw [hnx, ← hya, ← hyb]
              exact hp
        · refine ⟨15, n, (f_kindRet, f_kindTail, f_kindBind, f_kindCon, f_kindPrim, f_kindCall, f_kindMatch, f_kindTest, f_cellBase, f_heapSize, f_depthLimit, f_nodeLimit, f_nodeCount, f_fragmentCount, f_frames, f_at, f_deadCount, f_freeHead, f_fresh, f_liveCells, f_spareTotal, f_counted, f_status, f_made, f_reused, f_peak, f_calls, f_result, f_resultCells, a_nodeKind, a_nodeX, a_nodeParam, a_nodeA, a_nodeB, a_nodeNext, a_nodeElse, a_nodeFree, a_nodeNeed, a_fragments, a_body, a_slots, a_waiting, a_spareHead, a_spareCount, a_cellTag, a_cellLeft, a_cellRight, a_holds, a_link, a_dead, a_cellOfNumber, a_numberOfCell, a_places, a_walk), (f_heapSize, f_depthLimit, f_nodeLimit, f_nodeCount, f_fragmentCount, g_frames, f_made, f_counted, f_reused, f_peak, f_calls, 15, g_resKind, g_resNumber, g_numbered, a_nodeKind, a_nodeX, a_nodeParam, b_nodeA, b_nodeB, a_nodeNext, a_nodeElse, sc, a_fragments, a_body, b_slotKind, b_slotNumber, b_spares, a_waiting, b_cellTag, b_partKind, b_partNumber, lv, b_order, b_todo), Or.inr ⟨by decide, rc_EN_mk (by decide) (by decide) G0⟩, fun post hp => br_t hmlt ⟨hinf, br_t (by rw [ef]; exact hsn0) (br_f hct (br_f ?_ hp))⟩, fun post hp => ?_⟩
          · rw [eocc, hhs]; exact nI_nlt (by omega) (by omega)
          · refine ry_con_end (K := fun post hp => ry_room_full WO hmlt hct hgf htop hyn0 ?_ post hp) (by decide) (by omega) htop hk hoa' hob' hgf post hp
            rw [hhs]; congr 1; omega
  · have hmn : ¬ f_made < 200 := by rw [hmade]; exact nI_nlt (b := 200) (by omega) (by omega)
    refine ⟨14, n, (f_kindRet, f_kindTail, f_kindBind, f_kindCon, f_kindPrim, f_kindCall, f_kindMatch, f_kindTest, f_cellBase, f_heapSize, f_depthLimit, f_nodeLimit, f_nodeCount, f_fragmentCount, f_frames, f_at, f_deadCount, f_freeHead, f_fresh, f_liveCells, f_spareTotal, f_counted, f_status, f_made, f_reused, f_peak, f_calls, f_result, f_resultCells, a_nodeKind, a_nodeX, a_nodeParam, a_nodeA, a_nodeB, a_nodeNext, a_nodeElse, a_nodeFree, a_nodeNeed, a_fragments, a_body, a_slots, a_waiting, a_spareHead, a_spareCount, a_cellTag, a_cellLeft, a_cellRight, a_holds, a_link, a_dead, a_cellOfNumber, a_numberOfCell, a_places, a_walk), (f_heapSize, f_depthLimit, f_nodeLimit, f_nodeCount, f_fragmentCount, g_frames, f_made, f_counted, f_reused, f_peak, f_calls, 14, g_resKind, g_resNumber, g_numbered, a_nodeKind, a_nodeX, a_nodeParam, b_nodeA, b_nodeB, a_nodeNext, a_nodeElse, b_scratch, a_fragments, a_body, b_slotKind, b_slotNumber, b_spares, a_waiting, b_cellTag, b_partKind, b_partNumber, b_live, b_order, b_todo), Or.inr ⟨by decide, rc_EN_mk (by decide) (by decide) G0⟩, fun post hp => br_f hmn hp, fun post hp => ?_⟩
    exact ry_con_end (K := fun post hp => ry_room_fuel hmn post hp) (by decide) (by omega) htop hk hoa' hob' hgf post hp
end
end
section
def rc_X56 (post : Int32 → SX → Prop) (fuel : Nat) (r s : Int32) (u : SX) : Prop := match u with
  | (f_kindRet, f_kindTail, f_kindBind, f_kindCon, f_kindPrim, f_kindCall, f_kindMatch, f_kindTest, f_cellBase, f_heapSize, f_depthLimit, f_nodeLimit, f_nodeCount, f_fragmentCount, f_frames, f_at, f_deadCount, f_freeHead, f_fresh, f_liveCells, f_spareTotal, f_counted, f_status, f_made, f_reused, f_peak, f_calls, f_result, f_resultCells, a_nodeKind, a_nodeX, a_nodeParam, a_nodeA, a_nodeB, a_nodeNext, a_nodeElse, a_nodeFree, a_nodeNeed, a_fragments, a_body, a_slots, a_waiting, a_spareHead, a_spareCount, a_cellTag, a_cellLeft, a_cellRight, a_holds, a_link, a_dead, a_cellOfNumber, a_numberOfCell, a_places, a_walk) => wX_evaluate_56 post fuel r s f_kindRet f_kindTail f_kindBind f_kindCon f_kindPrim f_kindCall f_kindMatch f_kindTest f_cellBase f_heapSize f_depthLimit f_nodeLimit f_nodeCount f_fragmentCount f_frames f_at f_deadCount f_freeHead f_fresh f_liveCells f_spareTotal f_counted f_status f_made f_reused f_peak f_calls f_result f_resultCells a_nodeKind a_nodeX a_nodeParam a_nodeA a_nodeB a_nodeNext a_nodeElse a_nodeFree a_nodeNeed a_fragments a_body a_slots a_waiting a_spareHead a_spareCount a_cellTag a_cellLeft a_cellRight a_holds a_link a_dead a_cellOfNumber a_numberOfCell a_places a_walk
def rc_X81 (post : Int32 → SX → Prop) (r : Int32) (u : SX) : Prop := match u with
  | (f_kindRet, f_kindTail, f_kindBind, f_kindCon, f_kindPrim, f_kindCall, f_kindMatch, f_kindTest, f_cellBase, f_heapSize, f_depthLimit, f_nodeLimit, f_nodeCount, f_fragmentCount, f_frames, f_at, f_deadCount, f_freeHead, f_fresh, f_liveCells, f_spareTotal, f_counted, f_status, f_made, f_reused, f_peak, f_calls, f_result, f_resultCells, a_nodeKind, a_nodeX, a_nodeParam, a_nodeA, a_nodeB, a_nodeNext, a_nodeElse, a_nodeFree, a_nodeNeed, a_fragments, a_body, a_slots, a_waiting, a_spareHead, a_spareCount, a_cellTag, a_cellLeft, a_cellRight, a_holds, a_link, a_dead, a_cellOfNumber, a_numberOfCell, a_places, a_walk) => wX_evaluate_81 post r f_kindRet f_kindTail f_kindBind f_kindCon f_kindPrim f_kindCall f_kindMatch f_kindTest f_cellBase f_heapSize f_depthLimit f_nodeLimit f_nodeCount f_fragmentCount f_frames f_at f_deadCount f_freeHead f_fresh f_liveCells f_spareTotal f_counted f_status f_made f_reused f_peak f_calls f_result f_resultCells a_nodeKind a_nodeX a_nodeParam a_nodeA a_nodeB a_nodeNext a_nodeElse a_nodeFree a_nodeNeed a_fragments a_body a_slots a_waiting a_spareHead a_spareCount a_cellTag a_cellLeft a_cellRight a_holds a_link a_dead a_cellOfNumber a_numberOfCell a_places a_walk
def rc_Y71 (post : Int32 → SY → Prop) (fuel : Nat) (n s : Int32) (v : SY) : Prop := match v with
  | (g_heapSize, g_depthLimit, g_nodeLimit, g_nodeCount, g_fragCount, g_frames, g_made, g_inRun, g_reused, g_peak, g_calls, g_status, g_resKind, g_resNumber, g_numbered, b_nodeKind, b_nodeX, b_nodeT, b_nodeA, b_nodeB, b_nodeNext, b_nodeElse, b_scratch, b_frag, b_body, b_slotKind, b_slotNumber, b_spares, b_waits, b_cellTag, b_partKind, b_partNumber, b_live, b_order, b_todo) => wY_evaluate_71 post fuel n s g_heapSize g_depthLimit g_nodeLimit g_nodeCount g_fragCount g_frames g_made g_inRun g_reused g_peak g_calls g_status g_resKind g_resNumber g_numbered b_nodeKind b_nodeX b_nodeT b_nodeA b_nodeB b_nodeNext b_nodeElse b_scratch b_frag b_body b_slotKind b_slotNumber b_spares b_waits b_cellTag b_partKind b_partNumber b_live b_order b_todo
def rc_Y139 (post : Int32 → SY → Prop) (v : SY) : Prop := match v with
  | (g_heapSize, g_depthLimit, g_nodeLimit, g_nodeCount, g_fragCount, g_frames, g_made, g_inRun, g_reused, g_peak, g_calls, g_status, g_resKind, g_resNumber, g_numbered, b_nodeKind, b_nodeX, b_nodeT, b_nodeA, b_nodeB, b_nodeNext, b_nodeElse, b_scratch, b_frag, b_body, b_slotKind, b_slotNumber, b_spares, b_waits, b_cellTag, b_partKind, b_partNumber, b_live, b_order, b_todo) => wY_evaluate_139 post g_heapSize g_depthLimit g_nodeLimit g_nodeCount g_fragCount g_frames g_made g_inRun g_reused g_peak g_calls g_status g_resKind g_resNumber g_numbered b_nodeKind b_nodeX b_nodeT b_nodeA b_nodeB b_nodeNext b_nodeElse b_scratch b_frag b_body b_slotKind b_slotNumber b_spares b_waits b_cellTag b_partKind b_partNumber b_live b_order b_todo
section
variable {f_kindRet f_kindTail f_kindBind f_kindCon f_kindPrim f_kindCall f_kindMatch f_kindTest f_heapSize f_depthLimit f_nodeLimit f_nodeCount f_fragmentCount f_frames f_at f_deadCount f_freeHead f_fresh f_liveCells f_spareTotal f_counted f_status f_made f_reused f_peak f_calls f_resultCells : Int32} {f_cellBase f_result : Int64} {a_nodeKind a_nodeX a_nodeParam a_nodeA a_nodeB a_nodeNext a_nodeElse a_nodeFree a_nodeNeed a_fragments a_body a_waiting a_spareHead a_spareCount a_cellTag a_holds a_link a_dead a_cellOfNumber a_numberOfCell a_places a_walk : Nat → Int32} {a_slots a_cellLeft a_cellRight : Nat → Int64}
variable {g_frames g_status g_resKind g_resNumber g_numbered : Int32} {b_nodeA b_nodeB b_scratch b_slotKind b_slotNumber b_spares b_cellTag b_partKind b_partNumber b_live b_order b_todo : Nat → Int32}
variable {n stp nc hs dl fr m ca fs : Nat} {nd φ col : Nat → Nat} {F : List Nat} {S : Nat → List Nat} {ss : Nat → Int32}
/-- all kinds -/
theorem rs_kinds (G : (rc_EG n stp nc hs dl fr m ca fs nd φ col F S ss f_heapSize f_depthLimit f_nodeLimit f_nodeCount f_fragmentCount f_frames f_at f_deadCount f_freeHead f_fresh f_liveCells f_spareTotal f_counted f_made f_peak f_calls f_resultCells a_nodeKind a_nodeX a_nodeParam a_nodeA a_nodeB a_nodeNext a_nodeElse a_nodeFree a_nodeNeed a_fragments a_body a_slots a_waiting a_spareHead a_spareCount a_cellTag a_cellLeft a_cellRight a_holds a_link a_dead g_frames g_status g_resKind g_numbered b_nodeA b_nodeB b_slotKind b_slotNumber b_spares b_cellTag b_partKind b_partNumber)) (hlen : (S (fr - 1)).length ≤ nd n) : ∃ (r : Int32) (n' : Nat) (u' : SX) (v' : SY), rc_OUT r n' (stp + 1) u' v' ∧ (∀ post : Int32 → SX → Prop, post r u' → (vp_in f_at 48 ∧ ∀ x1, x1 = a_nodeKind f_at.toNatClampNeg → ((x1 = 0 → wpX_stepRet post (f_kindRet, f_kindTail, f_kindBind, f_kindCon, f_kindPrim, f_kindCall, f_kindMatch, f_kindTest, f_cellBase, f_heapSize, f_depthLimit, f_nodeLimit, f_nodeCount, f_fragmentCount, f_frames, f_at, f_deadCount, f_freeHead, f_fresh, f_liveCells, f_spareTotal, f_counted, f_status, f_made, f_reused, f_peak, f_calls, f_result, f_resultCells, a_nodeKind, a_nodeX, a_nodeParam, a_nodeA, a_nodeB, a_nodeNext, a_nodeElse, a_nodeFree, a_nodeNeed, a_fragments, a_body, a_slots, a_waiting, a_spareHead, a_spareCount, a_cellTag, a_cellLeft, a_cellRight, a_holds, a_link, a_dead, a_cellOfNumber, a_numberOfCell, a_places, a_walk)) ∧ (¬ x1 = 0 → ((x1 = 1 → wpX_stepTail post (f_kindRet, f_kindTail, f_kindBind, f_kindCon, f_kindPrim, f_kindCall, f_kindMatch, f_kindTest, f_cellBase, f_heapSize, f_depthLimit, f_nodeLimit, f_nodeCount, f_fragmentCount, f_frames, f_at, f_deadCount, f_freeHead, f_fresh, f_liveCells, f_spareTotal, f_counted, f_status, f_made, f_reused, f_peak, f_calls, f_result, f_resultCells, a_nodeKind, a_nodeX, a_nodeParam, a_nodeA, a_nodeB, a_nodeNext, a_nodeElse, a_nodeFree, a_nodeNeed, a_fragments, a_body, a_slots, a_waiting, a_spareHead, a_spareCount, a_cellTag, a_cellLeft, a_cellRight, a_holds, a_link, a_dead, a_cellOfNumber, a_numberOfCell, a_places, a_walk)) ∧ (¬ x1 = 1 → ((x1 = 2 → wpX_stepBind post (f_kindRet, f_kindTail, f_kindBind, f_kindCon, f_kindPrim, f_kindCall, f_kindMatch, f_kindTest, f_cellBase, f_heapSize, f_depthLimit, f_nodeLimit, f_nodeCount, f_fragmentCount, f_frames, f_at, f_deadCount, f_freeHead, f_fresh, f_liveCells, f_spareTotal, f_counted, f_status, f_made, f_reused, f_peak, f_calls, f_result, f_resultCells, a_nodeKind, a_nodeX, a_nodeParam, a_nodeA, a_nodeB, a_nodeNext, a_nodeElse, a_nodeFree, a_nodeNeed, a_fragments, a_body, a_slots, a_waiting, a_spareHead, a_spareCount, a_cellTag, a_cellLeft, a_cellRight, a_holds, a_link, a_dead, a_cellOfNumber, a_numberOfCell, a_places, a_walk)) ∧ (¬ x1 = 2 → ((x1 = 3 → wpX_stepCon post (f_kindRet, f_kindTail, f_kindBind, f_kindCon, f_kindPrim, f_kindCall, f_kindMatch, f_kindTest, f_cellBase, f_heapSize, f_depthLimit, f_nodeLimit, f_nodeCount, f_fragmentCount, f_frames, f_at, f_deadCount, f_freeHead, f_fresh, f_liveCells, f_spareTotal, f_counted, f_status, f_made, f_reused, f_peak, f_calls, f_result, f_resultCells, a_nodeKind, a_nodeX, a_nodeParam, a_nodeA, a_nodeB, a_nodeNext, a_nodeElse, a_nodeFree, a_nodeNeed, a_fragments, a_body, a_slots, a_waiting, a_spareHead, a_spareCount, a_cellTag, a_cellLeft, a_cellRight, a_holds, a_link, a_dead, a_cellOfNumber, a_numberOfCell, a_places, a_walk)) ∧ (¬ x1 = 3 → ((x1 = 4 → wpX_stepPrim post (f_kindRet, f_kindTail, f_kindBind, f_kindCon, f_kindPrim, f_kindCall, f_kindMatch, f_kindTest, f_cellBase, f_heapSize, f_depthLimit, f_nodeLimit, f_nodeCount, f_fragmentCount, f_frames, f_at, f_deadCount, f_freeHead, f_fresh, f_liveCells, f_spareTotal, f_counted, f_status, f_made, f_reused, f_peak, f_calls, f_result, f_resultCells, a_nodeKind, a_nodeX, a_nodeParam, a_nodeA, a_nodeB, a_nodeNext, a_nodeElse, a_nodeFree, a_nodeNeed, a_fragments, a_body, a_slots, a_waiting, a_spareHead, a_spareCount, a_cellTag, a_cellLeft, a_cellRight, a_holds, a_link, a_dead, a_cellOfNumber, a_numberOfCell, a_places, a_walk)) ∧ (¬ x1 = 4 → ((x1 = 5 → wpX_stepCall post (f_kindRet, f_kindTail, f_kindBind, f_kindCon, f_kindPrim, f_kindCall, f_kindMatch, f_kindTest, f_cellBase, f_heapSize, f_depthLimit, f_nodeLimit, f_nodeCount, f_fragmentCount, f_frames, f_at, f_deadCount, f_freeHead, f_fresh, f_liveCells, f_spareTotal, f_counted, f_status, f_made, f_reused, f_peak, f_calls, f_result, f_resultCells, a_nodeKind, a_nodeX, a_nodeParam, a_nodeA, a_nodeB, a_nodeNext, a_nodeElse, a_nodeFree, a_nodeNeed, a_fragments, a_body, a_slots, a_waiting, a_spareHead, a_spareCount, a_cellTag, a_cellLeft, a_cellRight, a_holds, a_link, a_dead, a_cellOfNumber, a_numberOfCell, a_places, a_walk)) ∧ (¬ x1 = 5 → ((x1 = 6 → wpX_stepMatch post (f_kindRet, f_kindTail, f_kindBind, f_kindCon, f_kindPrim, f_kindCall, f_kindMatch, f_kindTest, f_cellBase, f_heapSize, f_depthLimit, f_nodeLimit, f_nodeCount, f_fragmentCount, f_frames, f_at, f_deadCount, f_freeHead, f_fresh, f_liveCells, f_spareTotal, f_counted, f_status, f_made, f_reused, f_peak, f_calls, f_result, f_resultCells, a_nodeKind, a_nodeX, a_nodeParam, a_nodeA, a_nodeB, a_nodeNext, a_nodeElse, a_nodeFree, a_nodeNeed, a_fragments, a_body, a_slots, a_waiting, a_spareHead, a_spareCount, a_cellTag, a_cellLeft, a_cellRight, a_holds, a_link, a_dead, a_cellOfNumber, a_numberOfCell, a_places, a_walk)) ∧ (¬ x1 = 6 → wpX_stepTest post (f_kindRet, f_kindTail, f_kindBind, f_kindCon, f_kindPrim, f_kindCall, f_kindMatch, f_kindTest, f_cellBase, f_heapSize, f_depthLimit, f_nodeLimit, f_nodeCount, f_fragmentCount, f_frames, f_at, f_deadCount, f_freeHead, f_fresh, f_liveCells, f_spareTotal, f_counted, f_status, f_made, f_reused, f_peak, f_calls, f_result, f_resultCells, a_nodeKind, a_nodeX, a_nodeParam, a_nodeA, a_nodeB, a_nodeNext, a_nodeElse, a_nodeFree, a_nodeNeed, a_fragments, a_body, a_slots, a_waiting, a_spareHead, a_spareCount, a_cellTag, a_cellLeft, a_cellRight, a_holds, a_link, a_dead, a_cellOfNumber, a_numberOfCell, a_places, a_walk))))))))))))))))) ∧ (∀ post : Int32 → SY → Prop, post (nI n') v' → wpY_step post (f_heapSize, f_depthLimit, f_nodeLimit, f_nodeCount, f_fragmentCount, g_frames, f_made, f_counted, f_reused, f_peak, f_calls, g_status, g_resKind, g_resNumber, g_numbered, a_nodeKind, a_nodeX, a_nodeParam, b_nodeA, b_nodeB, a_nodeNext, a_nodeElse, b_scratch, a_fragments, a_body, b_slotKind, b_slotNumber, b_spares, a_waiting, b_cellTag, b_partKind, b_partNumber, b_live, b_order, b_todo) (nI n)) := by
  have hat : f_at = nI n := G.2.2.1.2.2.2.2.1
  have hn : n < nc := G.2.2.1.2.2.2.2.2.1
  have hnc := G.1.1
  have hin : vp_in f_at 48 := by rw [hat]; exact vp_in_nI (by omega) (by decide)
  have en : f_at.toNatClampNeg = n := by rw [hat, nI_clamp (by omega)]
  rcases rc_ndk (G.1.2.1 n hn) with hk | hk | hk | hk | hk | hk | hk | hk
  · obtain ⟨r, n', u', v', O, WX, WY⟩ := rs_ret G hk hlen
    exact ⟨r, n', u', v', O, fun post hp => ⟨hin, nm_r (e' := 0) (by rw [en]; exact hk) (br_t rfl (WX post hp))⟩, WY⟩
  · obtain ⟨r, n', u', v', O, WX, WY⟩ := rs_tail G hk
    exact ⟨r, n', u', v', O, fun post hp => ⟨hin, nm_r (e' := 1) (by rw [en]; exact hk) (br_f (by decide) (br_t rfl (WX post hp)))⟩, WY⟩
  · obtain ⟨n', u', v', O, WX, WY⟩ := rs_bind G hk
    exact ⟨0, n', u', v', Or.inl ⟨rfl, O⟩, fun post hp => ⟨hin, nm_r (e' := 2) (by rw [en]; exact hk) (br_f (by decide) (br_f (by decide) (br_t rfl (WX post hp))))⟩, WY⟩
  · obtain ⟨r, n', u', v', O, WX, WY⟩ := rs_con G hk
    exact ⟨r, n', u', v', O, fun post hp => ⟨hin, nm_r (e' := 3) (by rw [en]; exact hk) (br_f (by decide) (br_f (by decide) (br_f (by decide) (br_t rfl (WX post hp)))))⟩, WY⟩
  · obtain ⟨r, n', u', v', O, WX, WY⟩ := rs_prim G hk
    exact ⟨r, n', u', v', O, fun post hp => ⟨hin, nm_r (e' := 4) (by rw [en]; exact hk) (br_f (by decide) (br_f (by decide) (br_f (by decide) (br_f (by decide) (br_t rfl (WX post hp))))))⟩, WY⟩
  · obtain ⟨r, n', u', v', O, WX, WY⟩ := rs_call G hk
    exact ⟨r, n', u', v', O, fun post hp => ⟨hin, nm_r (e' := 5) (by rw [en]; exact hk) (br_f (by decide) (br_f (by decide) (br_f (by decide) (br_f (by decide) (br_f (by decide) (br_t rfl (WX post hp)))))))⟩, WY⟩
  · obtain ⟨n', u', v', O, WX, WY⟩ := rs_match G hk
    exact ⟨0, n', u', v', Or.inl ⟨rfl, O⟩, fun post hp => ⟨hin, nm_r (e' := 6) (by rw [en]; exact hk) (br_f (by decide) (br_f (by decide) (br_f (by decide) (br_f (by decide) (br_f (by decide) (br_f (by decide) (br_t rfl (WX post hp))))))))⟩, WY⟩
  · obtain ⟨n', u', v', O, WX, WY⟩ := rs_test G hk
    exact ⟨0, n', u', v', Or.inl ⟨rfl, O⟩, fun post hp => ⟨hin, nm_r (e' := 7) (by rw [en]; exact hk) (br_f (by decide) (br_f (by decide) (br_f (by decide) (br_f (by decide) (br_f (by decide) (br_f (by decide) (br_f (by decide) (WX post hp))))))))⟩, WY⟩
/-- one round of both loops, from components -/
theorem rs_round (G : (rc_EG n stp nc hs dl fr m ca fs nd φ col F S ss f_heapSize f_depthLimit f_nodeLimit f_nodeCount f_fragmentCount f_frames f_at f_deadCount f_freeHead f_fresh f_liveCells f_spareTotal f_counted f_made f_peak f_calls f_resultCells a_nodeKind a_nodeX a_nodeParam a_nodeA a_nodeB a_nodeNext a_nodeElse a_nodeFree a_nodeNeed a_fragments a_body a_slots a_waiting a_spareHead a_spareCount a_cellTag a_cellLeft a_cellRight a_holds a_link a_dead g_frames g_status g_resKind g_numbered b_nodeA b_nodeB b_slotKind b_slotNumber b_spares b_cellTag b_partKind b_partNumber)) : ∃ (r : Int32) (n' : Nat) (u' : SX) (v' : SY), rc_OUT r n' (stp + 1) u' v' ∧ (∀ (post : Int32 → SX → Prop) (fuel : Nat), rc_X56 post fuel r (nI (stp + 1)) u' → rc_X56 post (fuel + 1) 0 (nI stp) (f_kindRet, f_kindTail, f_kindBind, f_kindCon, f_kindPrim, f_kindCall, f_kindMatch, f_kindTest, f_cellBase, f_heapSize, f_depthLimit, f_nodeLimit, f_nodeCount, f_fragmentCount, f_frames, f_at, f_deadCount, f_freeHead, f_fresh, f_liveCells, f_spareTotal, f_counted, f_status, f_made, f_reused, f_peak, f_calls, f_result, f_resultCells, a_nodeKind, a_nodeX, a_nodeParam, a_nodeA, a_nodeB, a_nodeNext, a_nodeElse, a_nodeFree, a_nodeNeed, a_fragments, a_body, a_slots, a_waiting, a_spareHead, a_spareCount, a_cellTag, a_cellLeft, a_cellRight, a_holds, a_link, a_dead, a_cellOfNumber, a_numberOfCell, a_places, a_walk)) ∧ (∀ (post : Int32 → SY → Prop) (fuel : Nat), rc_Y71 post fuel (nI n') (nI (stp + 1)) v' → rc_Y71 post (fuel + 1) (nI n) (nI stp) (f_heapSize, f_depthLimit, f_nodeLimit, f_nodeCount, f_fragmentCount, g_frames, f_made, f_counted, f_reused, f_peak, f_calls, g_status, g_resKind, g_resNumber, g_numbered, a_nodeKind, a_nodeX, a_nodeParam, b_nodeA, b_nodeB, a_nodeNext, a_nodeElse, b_scratch, a_fragments, a_body, b_slotKind, b_slotNumber, b_spares, a_waiting, b_cellTag, b_partKind, b_partNumber, b_live, b_order, b_todo)) := by
  obtain ⟨hST, hFT, hNU, hSS, hWT, hSP, hXI, hSV, hHR, hYW, hPL, hRN, hME⟩ := G
  have hNU0 := hNU
  obtain ⟨f1, f2, hfr, hgf, hat, hn, hmade, hm, hcalls, hca, hfs, hst, hrk, hnum, hrc⟩ := hNU
  obtain ⟨top, rfl⟩ : ∃ t, fr = t + 1 := ⟨fr - 1, by omega⟩
  have hnc := hST.1
  have hdl := hST.2.2.2.2.2.2.2.1
  have htop : top < 16 := by omega
  have hndle := (hST.2.1 n hn).1
  have hneed := hST.2.2.1 n hn
  have hstp : stp ≤ 9647 := by unfold rc_ME at hME; omega
  have h10 : ¬ (10000 : Int32) ≤ nI stp := nI_ge (b := 10000) (by omega) (by decide)
  have en : (nI n).toNatClampNeg = n := nI_clamp (by omega)
  have hinn : vp_in (nI n) 48 := vp_in_nI (by omega) (by decide)
  obtain ⟨col', F', S', li', sh', sc', fh', st', I', p1, p2, p3, p4, W⟩ := rx_cut (f_kindRet := f_kindRet) (f_kindTail := f_kindTail) (f_kindBind := f_kindBind) (f_kindCon := f_kindCon) (f_kindPrim := f_kindPrim) (f_kindCall := f_kindCall) (f_kindMatch := f_kindMatch) (f_kindTest := f_kindTest) (f_cellBase := f_cellBase) (f_heapSize := f_heapSize) (f_depthLimit := f_depthLimit) (f_nodeLimit := f_nodeLimit) (f_nodeCount := f_nodeCount) (f_fragmentCount := f_fragmentCount) (f_frames := f_frames) (f_at := f_at) (f_deadCount := f_deadCount) (f_freeHead := f_freeHead) (f_fresh := f_fresh) (f_liveCells := f_liveCells) (f_spareTotal := f_spareTotal) (f_counted := f_counted) (f_status := f_status) (f_made := f_made) (f_reused := f_reused) (f_peak := f_peak) (f_calls := f_calls) (f_result := f_result) (f_resultCells := f_resultCells) (a_nodeKind := a_nodeKind) (a_nodeX := a_nodeX) (a_nodeParam := a_nodeParam) (a_nodeA := a_nodeA) (a_nodeB := a_nodeB) (a_nodeNext := a_nodeNext) (a_nodeElse := a_nodeElse) (a_nodeFree := a_nodeFree) (a_nodeNeed := a_nodeNeed) (a_fragments := a_fragments) (a_body := a_body) (a_slots := a_slots) (a_waiting := a_waiting) (a_spareHead := a_spareHead) (a_spareCount := a_spareCount) (a_cellTag := a_cellTag) (a_cellLeft := a_cellLeft) (a_cellRight := a_cellRight) (a_holds := a_holds) (a_link := a_link) (a_dead := a_dead) (a_cellOfNumber := a_cellOfNumber) (a_numberOfCell := a_numberOfCell) (a_places := a_places) (a_walk := a_walk) (q := nd n) hfr (Nat.lt_succ_self top) (by omega) (by omega) hXI
  obtain ⟨scr, WN⟩ := ry_need (g_heapSize := f_heapSize) (g_depthLimit := f_depthLimit) (g_nodeLimit := f_nodeLimit) (g_nodeCount := f_nodeCount) (g_fragCount := f_fragmentCount) (g_frames := g_frames) (g_made := f_made) (g_inRun := f_counted) (g_reused := f_reused) (g_peak := f_peak) (g_calls := f_calls) (g_status := g_status) (g_resKind := g_resKind) (g_resNumber := g_resNumber) (g_numbered := g_numbered) (b_nodeKind := a_nodeKind) (b_nodeX := a_nodeX) (b_nodeT := a_nodeParam) (b_nodeA := b_nodeA) (b_nodeB := b_nodeB) (b_nodeNext := a_nodeNext) (b_nodeElse := a_nodeElse) (b_scratch := b_scratch) (b_frag := a_fragments) (b_body := a_body) (b_slotKind := b_slotKind) (b_slotNumber := b_slotNumber) (b_spares := b_spares) (b_waits := a_waiting) (b_cellTag := b_cellTag) (b_partKind := b_partKind) (b_partNumber := b_partNumber) (b_live := b_live) (b_order := b_order) (b_todo := b_todo) hST.2.1 hn hnc
  have hlen0 := rc_LS_len (hXI.2.2.1.2 top (Nat.lt_succ_self top)).1
  have hfs200 := hXI.1.1
  have hinf : vp_in (g_frames - 1) 16 := by rw [hgf, nI_pred]; exact vp_in_nI htop (by decide)
  have ef : (g_frames - 1).toNatClampNeg = top := by rw [hgf, nI_pred, nI_clamp (by omega)]
  have hspt := hSP top (Nat.lt_succ_self top)
  have G2 : ∀ sp : Nat → Int32, rc_SP (top + 1) S' sp → (rc_EG n stp nc hs dl (top + 1) m ca fs nd φ col' F' S' ss f_heapSize f_depthLimit f_nodeLimit f_nodeCount f_fragmentCount f_frames f_at f_deadCount fh' f_fresh f_liveCells st' f_counted f_made f_peak f_calls f_resultCells a_nodeKind a_nodeX a_nodeParam a_nodeA a_nodeB a_nodeNext a_nodeElse a_nodeFree a_nodeNeed a_fragments a_body a_slots a_waiting sh' sc' a_cellTag a_cellLeft a_cellRight a_holds li' a_dead g_frames g_status g_resKind g_numbered b_nodeA b_nodeB b_slotKind b_slotNumber sp b_cellTag b_partKind b_partNumber) := by
    intro sp hsp
    refine ⟨hST, hFT, hNU0, hSS, hWT, hsp, I', hSV, rc_HR_mono (fun c hc => (p1 c).mp hc) hHR, hYW, fun h => ?_, fun h => ?_, hME⟩
    · obtain ⟨g1, g2, g3, g4, g5⟩ := hPL h
      obtain ⟨e1, e2⟩ := p4 (by rw [g4 top (Nat.lt_succ_self top)]; exact Nat.zero_le _)
      rw [e1, e2]
      exact ⟨g1, fun c hc => ⟨(p1 c).mpr (g2 c hc).1, (g2 c hc).2⟩, g3, g4, g5⟩
    · have h1 := hRN h
      have h2 := rc_ct_col p1
      have h3 : rc_sm (fun f => (S' f).length) (top + 1) ≤ rc_sm (fun f => (S f).length) (top + 1) := rc_sm_mono fun i hi => by
        show (S' i).length ≤ (S i).length
        by_cases e : i = top
        · subst e; rw [p3]; exact Nat.min_le_left _ _
        · rw [p2 i e]; exact Nat.le_refl _
      omega
  have XW : ∀ (r : Int32) (u' : SX), (∀ post : Int32 → SX → Prop, post r u' → (vp_in f_at 48 ∧ ∀ x1, x1 = a_nodeKind f_at.toNatClampNeg → ((x1 = 0 → wpX_stepRet post (f_kindRet, f_kindTail, f_kindBind, f_kindCon, f_kindPrim, f_kindCall, f_kindMatch, f_kindTest, f_cellBase, f_heapSize, f_depthLimit, f_nodeLimit, f_nodeCount, f_fragmentCount, f_frames, f_at, f_deadCount, fh', f_fresh, f_liveCells, st', f_counted, f_status, f_made, f_reused, f_peak, f_calls, f_result, f_resultCells, a_nodeKind, a_nodeX, a_nodeParam, a_nodeA, a_nodeB, a_nodeNext, a_nodeElse, a_nodeFree, a_nodeNeed, a_fragments, a_body, a_slots, a_waiting, sh', sc', a_cellTag, a_cellLeft, a_cellRight, a_holds, li', a_dead, a_cellOfNumber, a_numberOfCell, a_places, a_walk)) ∧ (¬ x1 = 0 → ((x1 = 1 → wpX_stepTail post (f_kindRet, f_kindTail, f_kindBind, f_kindCon, f_kindPrim, f_kindCall, f_kindMatch, f_kindTest, f_cellBase, f_heapSize, f_depthLimit, f_nodeLimit, f_nodeCount, f_fragmentCount, f_frames, f_at, f_deadCount, fh', f_fresh, f_liveCells, st', f_counted, f_status, f_made, f_reused, f_peak, f_calls, f_result, f_resultCells, a_nodeKind, a_nodeX, a_nodeParam, a_nodeA, a_nodeB, a_nodeNext, a_nodeElse, a_nodeFree, a_nodeNeed, a_fragments, a_body, a_slots, a_waiting, sh', sc', a_cellTag, a_cellLeft, a_cellRight, a_holds, li', a_dead, a_cellOfNumber, a_numberOfCell, a_places, a_walk)) ∧ (¬ x1 = 1 → ((x1 = 2 → wpX_stepBind post (f_kindRet, f_kindTail, f_kindBind, f_kindCon, f_kindPrim, f_kindCall, f_kindMatch, f_kindTest, f_cellBase, f_heapSize, f_depthLimit, f_nodeLimit, f_nodeCount, f_fragmentCount, f_frames, f_at, f_deadCount, fh', f_fresh, f_liveCells, st', f_counted, f_status, f_made, f_reused, f_peak, f_calls, f_result, f_resultCells, a_nodeKind, a_nodeX, a_nodeParam, a_nodeA, a_nodeB, a_nodeNext, a_nodeElse, a_nodeFree, a_nodeNeed, a_fragments, a_body, a_slots, a_waiting, sh', sc', a_cellTag, a_cellLeft, a_cellRight, a_holds, li', a_dead, a_cellOfNumber, a_numberOfCell, a_places, a_walk)) ∧ (¬ x1 = 2 → ((x1 = 3 → wpX_stepCon post (f_kindRet, f_kindTail, f_kindBind, f_kindCon, f_kindPrim, f_kindCall, f_kindMatch, f_kindTest, f_cellBase, f_heapSize, f_depthLimit, f_nodeLimit, f_nodeCount, f_fragmentCount, f_frames, f_at, f_deadCount, fh', f_fresh, f_liveCells, st', f_counted, f_status, f_made, f_reused, f_peak, f_calls, f_result, f_resultCells, a_nodeKind, a_nodeX, a_nodeParam, a_nodeA, a_nodeB, a_nodeNext, a_nodeElse, a_nodeFree, a_nodeNeed, a_fragments, a_body, a_slots, a_waiting, sh', sc', a_cellTag, a_cellLeft, a_cellRight, a_holds, li', a_dead, a_cellOfNumber, a_numberOfCell, a_places, a_walk)) ∧ (¬ x1 = 3 → ((x1 = 4 → wpX_stepPrim post (f_kindRet, f_kindTail, f_kindBind, f_kindCon, f_kindPrim, f_kindCall, f_kindMatch, f_kindTest, f_cellBase, f_heapSize, f_depthLimit, f_nodeLimit, f_nodeCount, f_fragmentCount, f_frames, f_at, f_deadCount, fh', f_fresh, f_liveCells, st', f_counted, f_status, f_made, f_reused, f_peak, f_calls, f_result, f_resultCells, a_nodeKind, a_nodeX, a_nodeParam, a_nodeA, a_nodeB, a_nodeNext, a_nodeElse, a_nodeFree, a_nodeNeed, a_fragments, a_body, a_slots, a_waiting, sh', sc', a_cellTag, a_cellLeft, a_cellRight, a_holds, li', a_dead, a_cellOfNumber, a_numberOfCell, a_places, a_walk)) ∧ (¬ x1 = 4 → ((x1 = 5 → wpX_stepCall post (f_kindRet, f_kindTail, f_kindBind, f_kindCon, f_kindPrim, f_kindCall, f_kindMatch, f_kindTest, f_cellBase, f_heapSize, f_depthLimit, f_nodeLimit, f_nodeCount, f_fragmentCount, f_frames, f_at, f_deadCount, fh', f_fresh, f_liveCells, st', f_counted, f_status, f_made, f_reused, f_peak, f_calls, f_result, f_resultCells, a_nodeKind, a_nodeX, a_nodeParam, a_nodeA, a_nodeB, a_nodeNext, a_nodeElse, a_nodeFree, a_nodeNeed, a_fragments, a_body, a_slots, a_waiting, sh', sc', a_cellTag, a_cellLeft, a_cellRight, a_holds, li', a_dead, a_cellOfNumber, a_numberOfCell, a_places, a_walk)) ∧ (¬ x1 = 5 → ((x1 = 6 → wpX_stepMatch post (f_kindRet, f_kindTail, f_kindBind, f_kindCon, f_kindPrim, f_kindCall, f_kindMatch, f_kindTest, f_cellBase, f_heapSize, f_depthLimit, f_nodeLimit, f_nodeCount, f_fragmentCount, f_frames, f_at, f_deadCount, fh', f_fresh, f_liveCells, st', f_counted, f_status, f_made, f_reused, f_peak, f_calls, f_result, f_resultCells, a_nodeKind, a_nodeX, a_nodeParam, a_nodeA, a_nodeB, a_nodeNext, a_nodeElse, a_nodeFree, a_nodeNeed, a_fragments, a_body, a_slots, a_waiting, sh', sc', a_cellTag, a_cellLeft, a_cellRight, a_holds, li', a_dead, a_cellOfNumber, a_numberOfCell, a_places, a_walk)) ∧ (¬ x1 = 6 → wpX_stepTest post (f_kindRet, f_kindTail, f_kindBind, f_kindCon, f_kindPrim, f_kindCall, f_kindMatch, f_kindTest, f_cellBase, f_heapSize, f_depthLimit, f_nodeLimit, f_nodeCount, f_fragmentCount, f_frames, f_at, f_deadCount, fh', f_fresh, f_liveCells, st', f_counted, f_status, f_made, f_reused, f_peak, f_calls, f_result, f_resultCells, a_nodeKind, a_nodeX, a_nodeParam, a_nodeA, a_nodeB, a_nodeNext, a_nodeElse, a_nodeFree, a_nodeNeed, a_fragments, a_body, a_slots, a_waiting, sh', sc', a_cellTag, a_cellLeft, a_cellRight, a_holds, li', a_dead, a_cellOfNumber, a_numberOfCell, a_places, a_walk))))))))))))))))) → ∀ (post : Int32 → SX → Prop) (fuel : Nat), rc_X56 post fuel r (nI (stp + 1)) u' → rc_X56 post (fuel + 1) 0 (nI stp) (f_kindRet, f_kindTail, f_kindBind, f_kindCon, f_kindPrim, f_kindCall, f_kindMatch, f_kindTest, f_cellBase, f_heapSize, f_depthLimit, f_nodeLimit, f_nodeCount, f_fragmentCount, f_frames, f_at, f_deadCount, f_freeHead, f_fresh, f_liveCells, f_spareTotal, f_counted, f_status, f_made, f_reused, f_peak, f_calls, f_result, f_resultCells, a_nodeKind, a_nodeX, a_nodeParam, a_nodeA, a_nodeB, a_nodeNext, a_nodeElse, a_nodeFree, a_nodeNeed, a_fragments, a_body, a_slots, a_waiting, a_spareHead, a_spareCount, a_cellTag, a_cellLeft, a_cellRight, a_holds, a_link, a_dead, a_cellOfNumber, a_numberOfCell, a_places, a_walk) := by
    intro r u' K post fuel hp
    have hin : vp_in f_at 48 := by rw [hat]; exact hinn
    have eat : f_at.toNatClampNeg = n := by rw [hat, en]
    refine br_f h10 (br_t rfl ⟨hin, ?_⟩)
    rw [show a_nodeNeed f_at.toNatClampNeg = nI (nd n) from by rw [eat]; exact hneed]
    refine W _ ?_
    obtain ⟨f_kindRet, f_kindTail, f_kindBind, f_kindCon, f_kindPrim, f_kindCall, f_kindMatch, f_kindTest, f_cellBase, f_heapSize, f_depthLimit, f_nodeLimit, f_nodeCount, f_fragmentCount, f_frames, f_at, f_deadCount, f_freeHead, f_fresh, f_liveCells, f_spareTotal, f_counted, f_status, f_made, f_reused, f_peak, f_calls, f_result, f_resultCells, a_nodeKind, a_nodeX, a_nodeParam, a_nodeA, a_nodeB, a_nodeNext, a_nodeElse, a_nodeFree, a_nodeNeed, a_fragments, a_body, a_slots, a_waiting, a_spareHead, a_spareCount, a_cellTag, a_cellLeft, a_cellRight, a_holds, a_link, a_dead, a_cellOfNumber, a_numberOfCell, a_places, a_walk⟩ := u'
    exact K _ (nm_r (nI_1 stp) hp)
  by_cases hle : (S top).length ≤ nd n
  · obtain ⟨e1, e2⟩ := p4 hle
    obtain ⟨r, n', u', v', O, WX, WY⟩ := rs_kinds (f_kindRet := f_kindRet) (f_kindTail := f_kindTail) (f_kindBind := f_kindBind) (f_kindCon := f_kindCon) (f_kindPrim := f_kindPrim) (f_kindCall := f_kindCall) (f_kindMatch := f_kindMatch) (f_kindTest := f_kindTest) (f_cellBase := f_cellBase) (f_heapSize := f_heapSize) (f_depthLimit := f_depthLimit) (f_nodeLimit := f_nodeLimit) (f_nodeCount := f_nodeCount) (f_fragmentCount := f_fragmentCount) (f_frames := f_frames) (f_at := f_at) (f_deadCount := f_deadCount) (f_freeHead := fh') (f_fresh := f_fresh) (f_liveCells := f_liveCells) (f_spareTotal := st') (f_counted := f_counted) (f_status := f_status) (f_made := f_made) (f_reused := f_reused) (f_peak := f_peak) (f_calls := f_calls) (f_result := f_result) (f_resultCells := f_resultCells) (a_nodeKind := a_nodeKind) (a_nodeX := a_nodeX) (a_nodeParam := a_nodeParam) (a_nodeA := a_nodeA) (a_nodeB := a_nodeB) (a_nodeNext := a_nodeNext) (a_nodeElse := a_nodeElse) (a_nodeFree := a_nodeFree) (a_nodeNeed := a_nodeNeed) (a_fragments := a_fragments) (a_body := a_body) (a_slots := a_slots) (a_waiting := a_waiting) (a_spareHead := sh') (a_spareCount := sc') (a_cellTag := a_cellTag) (a_cellLeft := a_cellLeft) (a_cellRight := a_cellRight) (a_holds := a_holds) (a_link := li') (a_dead := a_dead) (a_cellOfNumber := a_cellOfNumber) (a_numberOfCell := a_numberOfCell) (a_places := a_places) (a_walk := a_walk) (b_scratch := scr) (g_resNumber := g_resNumber) (b_live := b_live) (b_order := b_order) (b_todo := b_todo) (G2 b_spares (by rw [e1]; exact hSP)) (by show (S' top).length ≤ nd n; rw [e1]; exact hle)
    refine ⟨r, n', u', v', O, XW r u' WX, fun post fuel hp => br_f h10 (br_t hst (WN _ ⟨hinf, br_t ?_ ?_⟩))⟩
    · rw [ef, hspt]; exact nI_le hle (by omega)
    · obtain ⟨g_heapSize, g_depthLimit, g_nodeLimit, g_nodeCount, g_fragCount, g_frames, g_made, g_inRun, g_reused, g_peak, g_calls, g_status, g_resKind, g_resNumber, g_numbered, b_nodeKind, b_nodeX, b_nodeT, b_nodeA, b_nodeB, b_nodeNext, b_nodeElse, b_scratch, b_frag, b_body, b_slotKind, b_slotNumber, b_spares, b_waits, b_cellTag, b_partKind, b_partNumber, b_live, b_order, b_todo⟩ := v'
      exact WY _ (nm_r (nI_1 stp) hp)
  · obtain ⟨r, n', u', v', O, WX, WY⟩ := rs_kinds (f_kindRet := f_kindRet) (f_kindTail := f_kindTail) (f_kindBind := f_kindBind) (f_kindCon := f_kindCon) (f_kindPrim := f_kindPrim) (f_kindCall := f_kindCall) (f_kindMatch := f_kindMatch) (f_kindTest := f_kindTest) (f_cellBase := f_cellBase) (f_heapSize := f_heapSize) (f_depthLimit := f_depthLimit) (f_nodeLimit := f_nodeLimit) (f_nodeCount := f_nodeCount) (f_fragmentCount := f_fragmentCount) (f_frames := f_frames) (f_at := f_at) (f_deadCount := f_deadCount) (f_freeHead := fh') (f_fresh := f_fresh) (f_liveCells := f_liveCells) (f_spareTotal := st') (f_counted := f_counted) (f_status := f_status) (f_made := f_made) (f_reused := f_reused) (f_peak := f_peak) (f_calls := f_calls) (f_result := f_result) (f_resultCells := f_resultCells) (a_nodeKind := a_nodeKind) (a_nodeX := a_nodeX) (a_nodeParam := a_nodeParam) (a_nodeA := a_nodeA) (a_nodeB := a_nodeB) (a_nodeNext := a_nodeNext) (a_nodeElse := a_nodeElse) (a_nodeFree := a_nodeFree) (a_nodeNeed := a_nodeNeed) (a_fragments := a_fragments) (a_body := a_body) (a_slots := a_slots) (a_waiting := a_waiting) (a_spareHead := sh') (a_spareCount := sc') (a_cellTag := a_cellTag) (a_cellLeft := a_cellLeft) (a_cellRight := a_cellRight) (a_holds := a_holds) (a_link := li') (a_dead := a_dead) (a_cellOfNumber := a_cellOfNumber) (a_numberOfCell := a_numberOfCell) (a_places := a_places) (a_walk := a_walk) (b_scratch := scr) (g_resNumber := g_resNumber) (b_live := b_live) (b_order := b_order) (b_todo := b_todo) (G2 (upd b_spares top (nI (nd n))) (fun f hf => by
      by_cases q : f = top
      · subst q; rw [pk_us, p3]; congr 1; omega
      · rw [pk_un q, p2 f q]; exact hSP f hf)) (by show (S' top).length ≤ nd n; rw [p3]; exact Nat.min_le_right _ _)
    refine ⟨r, n', u', v', O, XW r u' WX, fun post fuel hp => br_f h10 (br_t hst (WN _ ⟨hinf, br_f ?_ ⟨hinf, nm_r (e' := upd b_spares top (nI (nd n))) (by rw [ef]) ?_⟩⟩))⟩
    · rw [ef, hspt]; exact nI_ge (by omega) (by omega)
    · obtain ⟨g_heapSize, g_depthLimit, g_nodeLimit, g_nodeCount, g_fragCount, g_frames, g_made, g_inRun, g_reused, g_peak, g_calls, g_status, g_resKind, g_resNumber, g_numbered, b_nodeKind, b_nodeX, b_nodeT, b_nodeA, b_nodeB, b_nodeNext, b_nodeElse, b_scratch, b_frag, b_body, b_slotKind, b_slotNumber, b_spares, b_waits, b_cellTag, b_partKind, b_partNumber, b_live, b_order, b_todo⟩ := v'
      exact WY _ (nm_r (nI_1 stp) hp)
end
theorem rs_step {n stp : Nat} {u : SX} {v : SY} (h : rc_ER n stp u v) : stp ≤ 9647 ∧ ∃ (r : Int32) (n' : Nat) (u' : SX) (v' : SY), rc_OUT r n' (stp + 1) u' v' ∧ (∀ (post : Int32 → SX → Prop) (fuel : Nat), rc_X56 post fuel r (nI (stp + 1)) u' → rc_X56 post (fuel + 1) 0 (nI stp) u) ∧ (∀ (post : Int32 → SY → Prop) (fuel : Nat), rc_Y71 post fuel (nI n') (nI (stp + 1)) v' → rc_Y71 post (fuel + 1) (nI n) (nI stp) v) := by
  refine rc_ER_el (P := fun u v => stp ≤ 9647 ∧ ∃ (r : Int32) (n' : Nat) (u' : SX) (v' : SY), rc_OUT r n' (stp + 1) u' v' ∧ (∀ (post : Int32 → SX → Prop) (fuel : Nat), rc_X56 post fuel r (nI (stp + 1)) u' → rc_X56 post (fuel + 1) 0 (nI stp) u) ∧ (∀ (post : Int32 → SY → Prop) (fuel : Nat), rc_Y71 post fuel (nI n') (nI (stp + 1)) v' → rc_Y71 post (fuel + 1) (nI n) (nI stp) v)) h ?_
  intro f_kindRet f_kindTail f_kindBind f_kindCon f_kindPrim f_kindCall f_kindMatch f_kindTest f_cellBase f_heapSize f_depthLimit f_nodeLimit f_nodeCount f_fragmentCount f_frames f_at f_deadCount f_freeHead f_fresh f_liveCells f_spareTotal f_counted f_status f_made f_reused f_peak f_calls f_result f_resultCells a_nodeKind a_nodeX a_nodeParam a_nodeA a_nodeB a_nodeNext a_nodeElse a_nodeFree a_nodeNeed a_fragments a_body a_slots a_waiting a_spareHead a_spareCount a_cellTag a_cellLeft a_cellRight a_holds a_link a_dead a_cellOfNumber a_numberOfCell a_places a_walk g_frames g_status g_resKind g_resNumber g_numbered b_nodeA b_nodeB b_scratch b_slotKind b_slotNumber b_spares b_cellTag b_partKind b_partNumber b_live b_order b_todo nc hs dl fr m ca fs nd φ col F S ss G
  refine ⟨?_, rs_round G⟩
  have hME := G.2.2.2.2.2.2.2.2.2.2.2.2
  unfold rc_ME at hME
  omega
theorem rs_endX {r : Int32} {stp : Nat} {u : SX} {post : Int32 → SX → Prop} {fuel : Nat} (hr : r ≠ 0) (hs : stp < 10000) (h : rc_X81 post r u) : rc_X56 post (fuel + 1) r (nI stp) u := by
  obtain ⟨f_kindRet, f_kindTail, f_kindBind, f_kindCon, f_kindPrim, f_kindCall, f_kindMatch, f_kindTest, f_cellBase, f_heapSize, f_depthLimit, f_nodeLimit, f_nodeCount, f_fragmentCount, f_frames, f_at, f_deadCount, f_freeHead, f_fresh, f_liveCells, f_spareTotal, f_counted, f_status, f_made, f_reused, f_peak, f_calls, f_result, f_resultCells, a_nodeKind, a_nodeX, a_nodeParam, a_nodeA, a_nodeB, a_nodeNext, a_nodeElse, a_nodeFree, a_nodeNeed, a_fragments, a_body, a_slots, a_waiting, a_spareHead, a_spareCount, a_cellTag, a_cellLeft, a_cellRight, a_holds, a_link, a_dead, a_cellOfNumber, a_numberOfCell, a_places, a_walk⟩ := u
  exact br_f (nI_ge (b := 10000) hs (by decide)) (br_f hr h)
theorem rs_endY {r : Int32} {stp : Nat} {u : SX} {v : SY} {post : Int32 → SY → Prop} {x5 : Int32} {fuel : Nat} (hE : rc_EN r u v) (hs : stp < 10000) (h : rc_Y139 post v) : rc_Y71 post (fuel + 1) x5 (nI stp) v := by
  obtain ⟨f_kindRet, f_kindTail, f_kindBind, f_kindCon, f_kindPrim, f_kindCall, f_kindMatch, f_kindTest, f_cellBase, f_heapSize, f_depthLimit, f_nodeLimit, f_nodeCount, f_fragmentCount, f_frames, f_at, f_deadCount, f_freeHead, f_fresh, f_liveCells, f_spareTotal, f_counted, f_status, f_made, f_reused, f_peak, f_calls, f_result, f_resultCells, a_nodeKind, a_nodeX, a_nodeParam, a_nodeA, a_nodeB, a_nodeNext, a_nodeElse, a_nodeFree, a_nodeNeed, a_fragments, a_body, a_slots, a_waiting, a_spareHead, a_spareCount, a_cellTag, a_cellLeft, a_cellRight, a_holds, a_link, a_dead, a_cellOfNumber, a_numberOfCell, a_places, a_walk⟩ := u
  obtain ⟨g_heapSize, g_depthLimit, g_nodeLimit, g_nodeCount, g_fragCount, g_frames, g_made, g_inRun, g_reused, g_peak, g_calls, g_status, g_resKind, g_resNumber, g_numbered, b_nodeKind, b_nodeX, b_nodeT, b_nodeA, b_nodeB, b_nodeNext, b_nodeElse, b_scratch, b_frag, b_body, b_slotKind, b_slotNumber, b_spares, b_waits, b_cellTag, b_partKind, b_partNumber, b_live, b_order, b_todo⟩ := v
  obtain ⟨_, nc, hs', dl, nd, _, _, h1, h2, _⟩ := hE
  exact br_f (nI_ge (b := 10000) hs (by decide)) (br_f (by rw [h1]; exact h2) h)
/-- both loops to their end -/
theorem rs_loop : ∀ (k n stp : Nat) (u : SX) (v : SY), rc_ER n stp u v → 9648 - stp ≤ k → ∃ (r : Int32) (u' : SX) (v' : SY), r ≠ 0 ∧ rc_EN r u' v' ∧ (∀ (post : Int32 → SX → Prop) (fuel : Nat), k + 1 < fuel → rc_X81 post r u' → rc_X56 post fuel 0 (nI stp) u) ∧ (∀ (post : Int32 → SY → Prop) (fuel : Nat), k + 1 < fuel → rc_Y139 post v' → rc_Y71 post fuel (nI n) (nI stp) v) := by
  intro k
  induction k with
  | zero =>
    intro n stp u v h hk
    have := (rs_step h).1
    omega
  | succ k ih =>
    intro n stp u v h hk
    obtain ⟨hstp, r, n', u', v', O, WX, WY⟩ := rs_step h
    rcases O with ⟨rfl, h'⟩ | ⟨hr, h'⟩
    · obtain ⟨r2, u2, v2, hr2, h2, X2, Y2⟩ := ih n' (stp + 1) u' v' h' (by omega)
      refine ⟨r2, u2, v2, hr2, h2, fun post fuel hf hp => ?_, fun post fuel hf hp => ?_⟩
      · obtain ⟨fuel, rfl⟩ : ∃ q, fuel = q + 1 := ⟨fuel - 1, by omega⟩
        exact WX post fuel (X2 post fuel (by omega) hp)
      · obtain ⟨fuel, rfl⟩ : ∃ q, fuel = q + 1 := ⟨fuel - 1, by omega⟩
        exact WY post fuel (Y2 post fuel (by omega) hp)
    · refine ⟨r, u', v', hr, h', fun post fuel hf hp => ?_, fun post fuel hf hp => ?_⟩
      · obtain ⟨fuel, rfl⟩ : ∃ q, fuel = q + 1 + 1 := ⟨fuel - 2, by omega⟩
        exact WX post (fuel + 1) (rs_endX hr (by omega) hp)
      · obtain ⟨fuel, rfl⟩ : ∃ q, fuel = q + 1 + 1 := ⟨fuel - 2, by omega⟩
        exact WY post (fuel + 1) (rs_endY h' (by omega) hp)
end
section
/-! the two numbering walks, one round each -/
def rc_CH (v : Int64) (l : List Nat) : Prop := (∃ z : Int32, v = z.toInt64 ∧ l = []) ∨ (∃ c, c < 200 ∧ v = rc_cv c ∧ l = [c])
def rc_CY (k q : Int32) (l : List Nat) : Prop := (k ≠ 2 ∧ l = []) ∨ (k = 2 ∧ ∃ e, q = nI e ∧ l = [e])
section
variable {f_kindRet f_kindTail f_kindBind f_kindCon f_kindPrim f_kindCall f_kindMatch f_kindTest f_heapSize f_depthLimit f_nodeLimit f_nodeCount f_fragmentCount f_frames f_at f_deadCount f_freeHead f_fresh f_liveCells f_spareTotal f_counted f_status f_made f_reused f_peak f_calls f_resultCells : Int32} {f_cellBase f_result : Int64} {a_nodeKind a_nodeX a_nodeParam a_nodeA a_nodeB a_nodeNext a_nodeElse a_nodeFree a_nodeNeed a_fragments a_body a_waiting a_spareHead a_spareCount a_cellTag a_holds a_link a_dead a_cellOfNumber a_numberOfCell a_places a_walk : Nat → Int32} {a_slots a_cellLeft a_cellRight : Nat → Int64}
theorem rx_168 {c d r : Nat} {L st : List Nat} (hc : c < 200) (hL : rc_CH (a_cellLeft c) L) (hd : st.length = d) (hd2 : d < 402) (hw : rc_dl a_walk st) : ∃ wk : Nat → Int32, rc_dl wk (L ++ st) ∧ ∀ (post : SX → Prop) (fuel : Nat), wX_numberResult_65 post f_kindRet f_kindTail f_kindBind f_kindCon f_kindPrim f_kindCall f_kindMatch f_kindTest f_cellBase f_heapSize f_depthLimit f_nodeLimit f_nodeCount f_fragmentCount f_frames f_at f_deadCount f_freeHead f_fresh f_liveCells f_spareTotal f_counted f_status f_made f_reused f_peak f_calls f_result fuel (nI (d + L.length)) (nI (r + 1)) f_resultCells a_nodeKind a_nodeX a_nodeParam a_nodeA a_nodeB a_nodeNext a_nodeElse a_nodeFree a_nodeNeed a_fragments a_body a_slots a_waiting a_spareHead a_spareCount a_cellTag a_cellLeft a_cellRight a_holds a_link a_dead a_cellOfNumber a_numberOfCell a_places wk → wX_numberResult_168 post (wX_numberResult_65 post f_kindRet f_kindTail f_kindBind f_kindCon f_kindPrim f_kindCall f_kindMatch f_kindTest f_cellBase f_heapSize f_depthLimit f_nodeLimit f_nodeCount f_fragmentCount f_frames f_at f_deadCount f_freeHead f_fresh f_liveCells f_spareTotal f_counted f_status f_made f_reused f_peak f_calls f_result fuel) (nI d) (nI r) (nI c) f_kindRet f_kindTail f_kindBind f_kindCon f_kindPrim f_kindCall f_kindMatch f_kindTest f_cellBase f_heapSize f_depthLimit f_nodeLimit f_nodeCount f_fragmentCount f_frames f_at f_deadCount f_freeHead f_fresh f_liveCells f_spareTotal f_counted f_status f_made f_reused f_peak f_calls f_result f_resultCells a_nodeKind a_nodeX a_nodeParam a_nodeA a_nodeB a_nodeNext a_nodeElse a_nodeFree a_nodeNeed a_fragments a_body a_slots a_waiting a_spareHead a_spareCount a_cellTag a_cellLeft a_cellRight a_holds a_link a_dead a_cellOfNumber a_numberOfCell a_places a_walk := by
  have ec : (nI c).toNatClampNeg = c := nI_clamp (by omega)
  have hin : vp_in (nI c) 200 := vp_in_nI hc (by decide)
  rcases hL with ⟨z, hz, rfl⟩ | ⟨e, he, hz, rfl⟩
  · refine ⟨a_walk, hw, fun post fuel hp => ⟨hin, ?_⟩⟩
    rw [ec, hz]
    exact rx_isCell_i _ (br_t rfl (nm_r (nI_1 r) hp))
  · have hdl : rc_dl (upd a_walk d (nI e)) (e :: st) := ⟨by rw [hd]; exact pk_us, rc_dl_u (by omega) hw⟩
    refine ⟨upd a_walk d (nI e), hdl, fun post fuel hp => ⟨hin, ?_⟩⟩
    rw [ec, hz]
    refine rx_isCell_c he _ (br_f (by decide) ⟨hin, vp_in_nI hd2 (by decide), nm_r (e' := upd a_walk d (nI e)) ?_ (nm_r (nI_1 d) (nm_r (nI_1 r) hp))⟩)
    rw [nI_clamp (by omega), rc_cv_sub (by omega)]
theorem rx_num_new {c d r k : Nat} {L R st : List Nat} (hc : c < 200) (hL : rc_CH (a_cellLeft c) L) (hR : rc_CH (a_cellRight c) R) (hd : st.length = d) (hd2 : d + 1 < 402) (hr : r < 401) (hk : k < 200) (hw : a_walk d = nI c) (hst : rc_dl a_walk st) (hno : a_numberOfCell c = -1) (hrc : f_resultCells = nI k) : ∃ wk : Nat → Int32, rc_dl wk (L ++ (R ++ st)) ∧ ∀ (post : SX → Prop) (fuel : Nat), wX_numberResult_65 post f_kindRet f_kindTail f_kindBind f_kindCon f_kindPrim f_kindCall f_kindMatch f_kindTest f_cellBase f_heapSize f_depthLimit f_nodeLimit f_nodeCount f_fragmentCount f_frames f_at f_deadCount f_freeHead f_fresh f_liveCells f_spareTotal f_counted f_status f_made f_reused f_peak f_calls f_result fuel (nI ((L ++ (R ++ st)).length)) (nI (r + 1)) (nI (k + 1)) a_nodeKind a_nodeX a_nodeParam a_nodeA a_nodeB a_nodeNext a_nodeElse a_nodeFree a_nodeNeed a_fragments a_body a_slots a_waiting a_spareHead a_spareCount a_cellTag a_cellLeft a_cellRight a_holds a_link a_dead (upd a_cellOfNumber k (nI c)) (upd a_numberOfCell c (nI k)) (upd a_places c (a_places c + 1)) wk → wX_numberResult_65 post f_kindRet f_kindTail f_kindBind f_kindCon f_kindPrim f_kindCall f_kindMatch f_kindTest f_cellBase f_heapSize f_depthLimit f_nodeLimit f_nodeCount f_fragmentCount f_frames f_at f_deadCount f_freeHead f_fresh f_liveCells f_spareTotal f_counted f_status f_made f_reused f_peak f_calls f_result (fuel + 1) (nI (d + 1)) (nI r) f_resultCells a_nodeKind a_nodeX a_nodeParam a_nodeA a_nodeB a_nodeNext a_nodeElse a_nodeFree a_nodeNeed a_fragments a_body a_slots a_waiting a_spareHead a_spareCount a_cellTag a_cellLeft a_cellRight a_holds a_link a_dead a_cellOfNumber a_numberOfCell a_places a_walk := by
  have ec : (nI c).toNatClampNeg = c := nI_clamp (by omega)
  have ed : (nI d).toNatClampNeg = d := nI_clamp (by omega)
  have hin : vp_in (nI c) 200 := vp_in_nI hc (by decide)
  have hneg : ¬ (0 : Int32) ≤ a_numberOfCell c := by rw [hno]; decide
  subst hrc
  have PRE : ∀ (post : SX → Prop) (fuel : Nat), (∀ d2 : Int32, d2 = nI d → wpX_isCell (fun r_77 => ((r_77 = 0 → wX_numberResult_168 post (wX_numberResult_65 post f_kindRet f_kindTail f_kindBind f_kindCon f_kindPrim f_kindCall f_kindMatch f_kindTest f_cellBase f_heapSize f_depthLimit f_nodeLimit f_nodeCount f_fragmentCount f_frames f_at f_deadCount f_freeHead f_fresh f_liveCells f_spareTotal f_counted f_status f_made f_reused f_peak f_calls f_result fuel) d2 (nI r) (nI c) f_kindRet f_kindTail f_kindBind f_kindCon f_kindPrim f_kindCall f_kindMatch f_kindTest f_cellBase f_heapSize f_depthLimit f_nodeLimit f_nodeCount f_fragmentCount f_frames f_at f_deadCount f_freeHead f_fresh f_liveCells f_spareTotal f_counted f_status f_made f_reused f_peak f_calls f_result (nI (k + 1)) a_nodeKind a_nodeX a_nodeParam a_nodeA a_nodeB a_nodeNext a_nodeElse a_nodeFree a_nodeNeed a_fragments a_body a_slots a_waiting a_spareHead a_spareCount a_cellTag a_cellLeft a_cellRight a_holds a_link a_dead (upd a_cellOfNumber k (nI c)) (upd a_numberOfCell c (nI k)) (upd a_places c (a_places c + 1)) a_walk) ∧ (¬ r_77 = 0 → (vp_in (nI c) 200 ∧ (vp_in d2 402 ∧ ∀ wq, wq = upd a_walk d2.toNatClampNeg ((a_cellRight c - 4294967296).toInt32) → ∀ dq, dq = d2 + 1 → wX_numberResult_168 post (wX_numberResult_65 post f_kindRet f_kindTail f_kindBind f_kindCon f_kindPrim f_kindCall f_kindMatch f_kindTest f_cellBase f_heapSize f_depthLimit f_nodeLimit f_nodeCount f_fragmentCount f_frames f_at f_deadCount f_freeHead f_fresh f_liveCells f_spareTotal f_counted f_status f_made f_reused f_peak f_calls f_result fuel) dq (nI r) (nI c) f_kindRet f_kindTail f_kindBind f_kindCon f_kindPrim f_kindCall f_kindMatch f_kindTest f_cellBase f_heapSize f_depthLimit f_nodeLimit f_nodeCount f_fragmentCount f_frames f_at f_deadCount f_freeHead f_fresh f_liveCells f_spareTotal f_counted f_status f_made f_reused f_peak f_calls f_result (nI (k + 1)) a_nodeKind a_nodeX a_nodeParam a_nodeA a_nodeB a_nodeNext a_nodeElse a_nodeFree a_nodeNeed a_fragments a_body a_slots a_waiting a_spareHead a_spareCount a_cellTag a_cellLeft a_cellRight a_holds a_link a_dead (upd a_cellOfNumber k (nI c)) (upd a_numberOfCell c (nI k)) (upd a_places c (a_places c + 1)) wq))))) (f_kindRet, f_kindTail, f_kindBind, f_kindCon, f_kindPrim, f_kindCall, f_kindMatch, f_kindTest, f_cellBase, f_heapSize, f_depthLimit, f_nodeLimit, f_nodeCount, f_fragmentCount, f_frames, f_at, f_deadCount, f_freeHead, f_fresh, f_liveCells, f_spareTotal, f_counted, f_status, f_made, f_reused, f_peak, f_calls, f_result, nI (k + 1), a_nodeKind, a_nodeX, a_nodeParam, a_nodeA, a_nodeB, a_nodeNext, a_nodeElse, a_nodeFree, a_nodeNeed, a_fragments, a_body, a_slots, a_waiting, a_spareHead, a_spareCount, a_cellTag, a_cellLeft, a_cellRight, a_holds, a_link, a_dead, upd a_cellOfNumber k (nI c), upd a_numberOfCell c (nI k), upd a_places c (a_places c + 1), a_walk) (a_cellRight c)) → wX_numberResult_65 post f_kindRet f_kindTail f_kindBind f_kindCon f_kindPrim f_kindCall f_kindMatch f_kindTest f_cellBase f_heapSize f_depthLimit f_nodeLimit f_nodeCount f_fragmentCount f_frames f_at f_deadCount f_freeHead f_fresh f_liveCells f_spareTotal f_counted f_status f_made f_reused f_peak f_calls f_result (fuel + 1) (nI (d + 1)) (nI r) (nI k) a_nodeKind a_nodeX a_nodeParam a_nodeA a_nodeB a_nodeNext a_nodeElse a_nodeFree a_nodeNeed a_fragments a_body a_slots a_waiting a_spareHead a_spareCount a_cellTag a_cellLeft a_cellRight a_holds a_link a_dead a_cellOfNumber a_numberOfCell a_places a_walk := by
    intro post fuel hp
    refine br_f (nI_ge (b := 401) hr (by decide)) (br_f (nI_nle (by omega) (by omega)) (nm_r (e' := nI d) (pk_m1 d) ⟨vp_in_nI (by omega) (by decide), nm_r (e' := nI c) (by rw [ed]; exact hw) ⟨hin, hin, nm_r (e' := upd a_places c (a_places c + 1)) (by rw [ec]) ⟨hin, br_f (by rw [ec]; exact hneg) ⟨hin, nm_r (e' := upd a_numberOfCell c (nI k)) (by rw [ec]) ⟨vp_in_nI hk (by decide), nm_r (e' := upd a_cellOfNumber k (nI c)) (by rw [nI_clamp (by omega)]) (nm_r (e' := nI (k + 1)) (nI_1 k) ⟨hin, ?_⟩)⟩⟩⟩⟩⟩))
    rw [ec]
    exact hp (nI d) rfl
  rcases hR with ⟨z, hz, rfl⟩ | ⟨e, he, hz, rfl⟩
  · obtain ⟨wk, h1, W⟩ := rx_168 (c := c) (d := d) (r := r) (st := st) (f_kindRet := f_kindRet) (f_kindTail := f_kindTail) (f_kindBind := f_kindBind) (f_kindCon := f_kindCon) (f_kindPrim := f_kindPrim) (f_kindCall := f_kindCall) (f_kindMatch := f_kindMatch) (f_kindTest := f_kindTest) (f_cellBase := f_cellBase) (f_heapSize := f_heapSize) (f_depthLimit := f_depthLimit) (f_nodeLimit := f_nodeLimit) (f_nodeCount := f_nodeCount) (f_fragmentCount := f_fragmentCount) (f_frames := f_frames) (f_at := f_at) (f_deadCount := f_deadCount) (f_freeHead := f_freeHead) (f_fresh := f_fresh) (f_liveCells := f_liveCells) (f_spareTotal := f_spareTotal) (f_counted := f_counted) (f_status := f_status) (f_made := f_made) (f_reused := f_reused) (f_peak := f_peak) (f_calls := f_calls) (f_result := f_result) (f_resultCells := nI (k + 1)) (a_nodeKind := a_nodeKind) (a_nodeX := a_nodeX) (a_nodeParam := a_nodeParam) (a_nodeA := a_nodeA) (a_nodeB := a_nodeB) (a_nodeNext := a_nodeNext) (a_nodeElse := a_nodeElse) (a_nodeFree := a_nodeFree) (a_nodeNeed := a_nodeNeed) (a_fragments := a_fragments) (a_body := a_body) (a_slots := a_slots) (a_waiting := a_waiting) (a_spareHead := a_spareHead) (a_spareCount := a_spareCount) (a_cellTag := a_cellTag) (a_cellLeft := a_cellLeft) (a_cellRight := a_cellRight) (a_holds := a_holds) (a_link := a_link) (a_dead := a_dead) (a_cellOfNumber := upd a_cellOfNumber k (nI c)) (a_numberOfCell := upd a_numberOfCell c (nI k)) (a_places := upd a_places c (a_places c + 1)) (a_walk := a_walk) hc hL hd (by omega) hst
    refine ⟨wk, h1, fun post fuel hp => PRE post fuel (fun d2 e2 => ?_)⟩
    subst e2
    rw [hz]
    refine rx_isCell_i _ (br_t rfl (W post fuel ?_))
    rw [show d + L.length = (L ++ ([] ++ st)).length from by simp; omega]
    exact hp
  · obtain ⟨wk, h1, W⟩ := rx_168 (c := c) (d := d + 1) (r := r) (st := e :: st) (f_kindRet := f_kindRet) (f_kindTail := f_kindTail) (f_kindBind := f_kindBind) (f_kindCon := f_kindCon) (f_kindPrim := f_kindPrim) (f_kindCall := f_kindCall) (f_kindMatch := f_kindMatch) (f_kindTest := f_kindTest) (f_cellBase := f_cellBase) (f_heapSize := f_heapSize) (f_depthLimit := f_depthLimit) (f_nodeLimit := f_nodeLimit) (f_nodeCount := f_nodeCount) (f_fragmentCount := f_fragmentCount) (f_frames := f_frames) (f_at := f_at) (f_deadCount := f_deadCount) (f_freeHead := f_freeHead) (f_fresh := f_fresh) (f_liveCells := f_liveCells) (f_spareTotal := f_spareTotal) (f_counted := f_counted) (f_status := f_status) (f_made := f_made) (f_reused := f_reused) (f_peak := f_peak) (f_calls := f_calls) (f_result := f_result) (f_resultCells := nI (k + 1)) (a_nodeKind := a_nodeKind) (a_nodeX := a_nodeX) (a_nodeParam := a_nodeParam) (a_nodeA := a_nodeA) (a_nodeB := a_nodeB) (a_nodeNext := a_nodeNext) (a_nodeElse := a_nodeElse) (a_nodeFree := a_nodeFree) (a_nodeNeed := a_nodeNeed) (a_fragments := a_fragments) (a_body := a_body) (a_slots := a_slots) (a_waiting := a_waiting) (a_spareHead := a_spareHead) (a_spareCount := a_spareCount) (a_cellTag := a_cellTag) (a_cellLeft := a_cellLeft) (a_cellRight := a_cellRight) (a_holds := a_holds) (a_link := a_link) (a_dead := a_dead) (a_cellOfNumber := upd a_cellOfNumber k (nI c)) (a_numberOfCell := upd a_numberOfCell c (nI k)) (a_places := upd a_places c (a_places c + 1)) (a_walk := upd a_walk d (nI e)) hc hL (by rw [List.length_cons, hd]) (by omega) ⟨by rw [hd]; exact pk_us, rc_dl_u (by omega) hst⟩
    refine ⟨wk, h1, fun post fuel hp => PRE post fuel (fun d2 e2 => ?_)⟩
    subst e2
    rw [hz]
    refine rx_isCell_c he _ (br_f (by decide) ⟨hin, vp_in_nI (by omega) (by decide), nm_r (e' := upd a_walk d (nI e)) (by rw [ed, rc_cv_sub (by omega)]) (nm_r (e' := nI (d + 1)) (nI_1 d) (W post fuel ?_))⟩)
    rw [show d + 1 + L.length = (L ++ ([e] ++ st)).length from by simp; omega]
    exact hp
theorem rx_num_old {c d r i : Nat} (hc : c < 200) (hd2 : d + 1 < 402) (hr : r < 401) (hw : a_walk d = nI c) (hno : a_numberOfCell c = nI i) (hi : i < 200) (post : SX → Prop) (fuel : Nat) (hp : wX_numberResult_65 post f_kindRet f_kindTail f_kindBind f_kindCon f_kindPrim f_kindCall f_kindMatch f_kindTest f_cellBase f_heapSize f_depthLimit f_nodeLimit f_nodeCount f_fragmentCount f_frames f_at f_deadCount f_freeHead f_fresh f_liveCells f_spareTotal f_counted f_status f_made f_reused f_peak f_calls f_result fuel (nI d) (nI (r + 1)) f_resultCells a_nodeKind a_nodeX a_nodeParam a_nodeA a_nodeB a_nodeNext a_nodeElse a_nodeFree a_nodeNeed a_fragments a_body a_slots a_waiting a_spareHead a_spareCount a_cellTag a_cellLeft a_cellRight a_holds a_link a_dead a_cellOfNumber a_numberOfCell (upd a_places c (a_places c + 1)) a_walk) : wX_numberResult_65 post f_kindRet f_kindTail f_kindBind f_kindCon f_kindPrim f_kindCall f_kindMatch f_kindTest f_cellBase f_heapSize f_depthLimit f_nodeLimit f_nodeCount f_fragmentCount f_frames f_at f_deadCount f_freeHead f_fresh f_liveCells f_spareTotal f_counted f_status f_made f_reused f_peak f_calls f_result (fuel + 1) (nI (d + 1)) (nI r) f_resultCells a_nodeKind a_nodeX a_nodeParam a_nodeA a_nodeB a_nodeNext a_nodeElse a_nodeFree a_nodeNeed a_fragments a_body a_slots a_waiting a_spareHead a_spareCount a_cellTag a_cellLeft a_cellRight a_holds a_link a_dead a_cellOfNumber a_numberOfCell a_places a_walk := by
  have ec : (nI c).toNatClampNeg = c := nI_clamp (by omega)
  have ed : (nI d).toNatClampNeg = d := nI_clamp (by omega)
  have hin : vp_in (nI c) 200 := vp_in_nI hc (by decide)
  exact br_f (nI_ge (b := 401) hr (by decide)) (br_f (nI_nle (by omega) (by omega)) (nm_r (e' := nI d) (pk_m1 d) ⟨vp_in_nI (by omega) (by decide), nm_r (e' := nI c) (by rw [ed]; exact hw) ⟨hin, hin, nm_r (e' := upd a_places c (a_places c + 1)) (by rw [ec]) ⟨hin, br_t (by rw [ec, hno]; exact nI_pos' (by omega)) (nm_r (nI_1 r) hp)⟩⟩⟩))
theorem rx_num_end {r : Nat} (post : SX → Prop) (fuel : Nat) (hp : post (f_kindRet, f_kindTail, f_kindBind, f_kindCon, f_kindPrim, f_kindCall, f_kindMatch, f_kindTest, f_cellBase, f_heapSize, f_depthLimit, f_nodeLimit, f_nodeCount, f_fragmentCount, f_frames, f_at, f_deadCount, f_freeHead, f_fresh, f_liveCells, f_spareTotal, f_counted, f_status, f_made, f_reused, f_peak, f_calls, f_result, f_resultCells, a_nodeKind, a_nodeX, a_nodeParam, a_nodeA, a_nodeB, a_nodeNext, a_nodeElse, a_nodeFree, a_nodeNeed, a_fragments, a_body, a_slots, a_waiting, a_spareHead, a_spareCount, a_cellTag, a_cellLeft, a_cellRight, a_holds, a_link, a_dead, a_cellOfNumber, a_numberOfCell, a_places, a_walk)) : wX_numberResult_65 post f_kindRet f_kindTail f_kindBind f_kindCon f_kindPrim f_kindCall f_kindMatch f_kindTest f_cellBase f_heapSize f_depthLimit f_nodeLimit f_nodeCount f_fragmentCount f_frames f_at f_deadCount f_freeHead f_fresh f_liveCells f_spareTotal f_counted f_status f_made f_reused f_peak f_calls f_result (fuel + 1) (nI 0) (nI r) f_resultCells a_nodeKind a_nodeX a_nodeParam a_nodeA a_nodeB a_nodeNext a_nodeElse a_nodeFree a_nodeNeed a_fragments a_body a_slots a_waiting a_spareHead a_spareCount a_cellTag a_cellLeft a_cellRight a_holds a_link a_dead a_cellOfNumber a_numberOfCell a_places a_walk := by
  by_cases h : (401 : Int32) ≤ nI r
  · exact br_t h hp
  · exact br_f h (br_t (by decide) hp)
/-- the reset of numberOfCell and places -/
theorem rx_num_2 : ∀ (d i : Nat), i + d = 200 → ∀ (noc pls : Nat → Int32), (∀ c, c < i → noc c = -1 ∧ pls c = 0) → ∃ noc' pls' : Nat → Int32, (∀ c, c < 200 → noc' c = -1 ∧ pls' c = 0) ∧ ∀ (post : SX → Prop) (fuel : Nat), d < fuel → wpX_isCell (fun r_2 => ((r_2 = 0 → post (f_kindRet, f_kindTail, f_kindBind, f_kindCon, f_kindPrim, f_kindCall, f_kindMatch, f_kindTest, f_cellBase, f_heapSize, f_depthLimit, f_nodeLimit, f_nodeCount, f_fragmentCount, f_frames, f_at, f_deadCount, f_freeHead, f_fresh, f_liveCells, f_spareTotal, f_counted, f_status, f_made, f_reused, f_peak, f_calls, f_result, 0, a_nodeKind, a_nodeX, a_nodeParam, a_nodeA, a_nodeB, a_nodeNext, a_nodeElse, a_nodeFree, a_nodeNeed, a_fragments, a_body, a_slots, a_waiting, a_spareHead, a_spareCount, a_cellTag, a_cellLeft, a_cellRight, a_holds, a_link, a_dead, a_cellOfNumber, noc', pls', a_walk)) ∧ (¬ r_2 = 0 → ∀ wq, wq = upd a_walk 0 ((f_result - 4294967296).toInt32) → ∃ n65 : Nat, wX_numberResult_65 post f_kindRet f_kindTail f_kindBind f_kindCon f_kindPrim f_kindCall f_kindMatch f_kindTest f_cellBase f_heapSize f_depthLimit f_nodeLimit f_nodeCount f_fragmentCount f_frames f_at f_deadCount f_freeHead f_fresh f_liveCells f_spareTotal f_counted f_status f_made f_reused f_peak f_calls f_result n65 1 0 0 a_nodeKind a_nodeX a_nodeParam a_nodeA a_nodeB a_nodeNext a_nodeElse a_nodeFree a_nodeNeed a_fragments a_body a_slots a_waiting a_spareHead a_spareCount a_cellTag a_cellLeft a_cellRight a_holds a_link a_dead a_cellOfNumber noc' pls' wq))) (f_kindRet, f_kindTail, f_kindBind, f_kindCon, f_kindPrim, f_kindCall, f_kindMatch, f_kindTest, f_cellBase, f_heapSize, f_depthLimit, f_nodeLimit, f_nodeCount, f_fragmentCount, f_frames, f_at, f_deadCount, f_freeHead, f_fresh, f_liveCells, f_spareTotal, f_counted, f_status, f_made, f_reused, f_peak, f_calls, f_result, 0, a_nodeKind, a_nodeX, a_nodeParam, a_nodeA, a_nodeB, a_nodeNext, a_nodeElse, a_nodeFree, a_nodeNeed, a_fragments, a_body, a_slots, a_waiting, a_spareHead, a_spareCount, a_cellTag, a_cellLeft, a_cellRight, a_holds, a_link, a_dead, a_cellOfNumber, noc', pls', a_walk) f_result → wX_numberResult_2 post f_kindRet f_kindTail f_kindBind f_kindCon f_kindPrim f_kindCall f_kindMatch f_kindTest f_cellBase f_heapSize f_depthLimit f_nodeLimit f_nodeCount f_fragmentCount f_frames f_at f_deadCount f_freeHead f_fresh f_liveCells f_spareTotal f_counted f_status f_made f_reused f_peak f_calls f_result f_resultCells fuel (nI i) a_nodeKind a_nodeX a_nodeParam a_nodeA a_nodeB a_nodeNext a_nodeElse a_nodeFree a_nodeNeed a_fragments a_body a_slots a_waiting a_spareHead a_spareCount a_cellTag a_cellLeft a_cellRight a_holds a_link a_dead a_cellOfNumber noc pls a_walk := by
  intro d
  induction d with
  | zero =>
    intro i hi noc pls h
    have : i = 200 := by omega
    subst this
    refine ⟨noc, pls, h, fun post fuel hf hp => ?_⟩
    obtain ⟨fuel, rfl⟩ : ∃ q, fuel = q + 1 := ⟨fuel - 1, by omega⟩
    exact br_t (by decide) hp
  | succ d ih =>
    intro i hi noc pls h
    obtain ⟨noc', pls', h', W⟩ := ih (i + 1) (by omega) (upd noc i (-1)) (upd pls i 0) (fun c hc => by
      by_cases e : c = i
      · subst e; exact ⟨pk_us, pk_us⟩
      · rw [pk_un e, pk_un e]; exact h c (by omega))
    refine ⟨noc', pls', h', fun post fuel hf hp => ?_⟩
    obtain ⟨fuel, rfl⟩ : ∃ q, fuel = q + 1 := ⟨fuel - 1, by omega⟩
    have hin : vp_in (nI i) 200 := vp_in_nI (by omega) (by decide)
    have ei : (nI i).toNatClampNeg = i := nI_clamp (by omega)
    exact br_f (nI_ge (b := 200) (by omega) (by decide)) ⟨hin, nm_r (e' := upd noc i (-1)) (by rw [ei]) ⟨hin, nm_r (e' := upd pls i 0) (by rw [ei]) (nm_r (nI_1 i) (W post fuel (by omega) hp))⟩⟩
end
section
variable {g_heapSize g_depthLimit g_nodeLimit g_nodeCount g_fragCount g_frames g_made g_inRun g_reused g_peak g_calls g_status g_resKind g_resNumber g_numbered : Int32} {b_nodeKind b_nodeX b_nodeT b_nodeA b_nodeB b_nodeNext b_nodeElse b_scratch b_frag b_body b_slotKind b_slotNumber b_spares b_waits b_cellTag b_partKind b_partNumber b_live b_order b_todo : Nat → Int32}
theorem ry_numOf_lp {q : Int32} {k j : Nat} (hk : k ≤ 200) (hgn : g_numbered = nI k) : ∀ (d i : Nat), i + d = j → ((j < k ∧ b_order j = q) ∨ j = k) → (∀ e, i ≤ e → e < j → b_order e ≠ q) → ∀ (post : Int32 → Prop) (fuel : Nat), d < fuel → post (if j < k then nI j else -1) → wY_numberOf_2 post q g_heapSize g_depthLimit g_nodeLimit g_nodeCount g_fragCount g_frames g_made g_inRun g_reused g_peak g_calls g_status g_resKind g_resNumber g_numbered b_nodeKind b_nodeX b_nodeT b_nodeA b_nodeB b_nodeNext b_nodeElse b_scratch b_frag b_body b_slotKind b_slotNumber b_spares b_waits b_cellTag b_partKind b_partNumber b_live b_order b_todo fuel (nI i) := by
  intro d
  induction d with
  | zero =>
    intro i hi hj hne post fuel hf hp
    obtain ⟨fuel, rfl⟩ : ∃ q, fuel = q + 1 := ⟨fuel - 1, by omega⟩
    have : i = j := by omega
    subst this
    rcases hj with ⟨h1, h2⟩ | h1
    · rw [if_pos h1] at hp
      exact br_f (by rw [hgn]; exact nI_ge h1 (by omega)) ⟨vp_in_nI (by omega) (by decide), br_t (by rw [nI_clamp (by omega)]; exact h2) hp⟩
    · subst h1
      rw [if_neg (Nat.lt_irrefl _)] at hp
      exact br_t (by rw [hgn]; exact nI_le (Nat.le_refl _) (by omega)) hp
  | succ d ih =>
    intro i hi hj hne post fuel hf hp
    obtain ⟨fuel, rfl⟩ : ∃ q, fuel = q + 1 := ⟨fuel - 1, by omega⟩
    have hjk : j ≤ k := by
      rcases hj with h | h
      · omega
      · omega
    refine br_f (by rw [hgn]; exact nI_ge (by omega) (by omega)) ⟨vp_in_nI (by omega) (by decide), br_f (by rw [nI_clamp (by omega)]; exact hne i (Nat.le_refl _) (by omega)) (nm_r (nI_1 i) (ih (i + 1) (by omega) hj (fun e h1 h2 => hne e (by omega) h2) post fuel (by omega) hp))⟩
theorem ry_numOf_some {q : Int32} {k j : Nat} (hk : k ≤ 200) (hgn : g_numbered = nI k) (hj : j < k) (hq : b_order j = q) (hne : ∀ e, e < j → b_order e ≠ q) (post : Int32 → Prop) (hp : post (nI j)) : wpY_numberOf post (g_heapSize, g_depthLimit, g_nodeLimit, g_nodeCount, g_fragCount, g_frames, g_made, g_inRun, g_reused, g_peak, g_calls, g_status, g_resKind, g_resNumber, g_numbered, b_nodeKind, b_nodeX, b_nodeT, b_nodeA, b_nodeB, b_nodeNext, b_nodeElse, b_scratch, b_frag, b_body, b_slotKind, b_slotNumber, b_spares, b_waits, b_cellTag, b_partKind, b_partNumber, b_live, b_order, b_todo) q :=
  ⟨j + 1, ry_numOf_lp hk hgn j 0 (by omega) (Or.inl ⟨hj, hq⟩) (fun e _ h => hne e h) post _ (by omega) (by rw [if_pos hj]; exact hp)⟩
theorem ry_numOf_none {q : Int32} {k : Nat} (hk : k ≤ 200) (hgn : g_numbered = nI k) (hne : ∀ e, e < k → b_order e ≠ q) (post : Int32 → Prop) (hp : post (-1)) : wpY_numberOf post (g_heapSize, g_depthLimit, g_nodeLimit, g_nodeCount, g_fragCount, g_frames, g_made, g_inRun, g_reused, g_peak, g_calls, g_status, g_resKind, g_resNumber, g_numbered, b_nodeKind, b_nodeX, b_nodeT, b_nodeA, b_nodeB, b_nodeNext, b_nodeElse, b_scratch, b_frag, b_body, b_slotKind, b_slotNumber, b_spares, b_waits, b_cellTag, b_partKind, b_partNumber, b_live, b_order, b_todo) q :=
  ⟨k + 1, ry_numOf_lp (j := k) hk hgn k 0 (by omega) (Or.inr rfl) (fun e _ h => hne e h) post _ (by omega) (by rw [if_neg (Nat.lt_irrefl _)]; exact hp)⟩
theorem ry_66 {p d r : Nat} {L R st : List Nat} (hp2 : p < 200) (hR : rc_CY (b_partKind (2 * p + 1)) (b_partNumber (2 * p + 1)) R) (hL : rc_CY (b_partKind (2 * p)) (b_partNumber (2 * p)) L) (hd : st.length = d) (hd2 : d + 1 < 401) (hw : rc_dl b_todo st) : ∃ td : Nat → Int32, rc_dl td (L ++ (R ++ st)) ∧ ∀ (post : SY → Prop) (fuel : Nat), wY_numberCells_14 post g_heapSize g_depthLimit g_nodeLimit g_nodeCount g_fragCount g_frames g_made g_inRun g_reused g_peak g_calls g_status g_resKind g_resNumber fuel (nI ((L ++ (R ++ st)).length)) (nI (r + 1)) g_numbered b_nodeKind b_nodeX b_nodeT b_nodeA b_nodeB b_nodeNext b_nodeElse b_scratch b_frag b_body b_slotKind b_slotNumber b_spares b_waits b_cellTag b_partKind b_partNumber b_live b_order td → wY_numberCells_66 post (wY_numberCells_14 post g_heapSize g_depthLimit g_nodeLimit g_nodeCount g_fragCount g_frames g_made g_inRun g_reused g_peak g_calls g_status g_resKind g_resNumber fuel) (nI r) (nI p) g_heapSize g_depthLimit g_nodeLimit g_nodeCount g_fragCount g_frames g_made g_inRun g_reused g_peak g_calls g_status g_resKind g_resNumber g_numbered 3 (nI d) 1 b_nodeKind b_nodeX b_nodeT b_nodeA b_nodeB b_nodeNext b_nodeElse b_scratch b_frag b_body b_slotKind b_slotNumber b_spares b_waits b_cellTag b_partKind b_partNumber b_live b_order b_todo := by
  have e1 : (2 : Int32) * nI p + 1 = nI (2 * p + 1) := by rw [show (2 : Int32) * nI p = nI (2 * p) from pk_mul 2 p, nI_1]
  have e0 : (2 : Int32) * nI p + 0 = nI (2 * p) := by rw [show (2 : Int32) * nI p = nI (2 * p) from pk_mul 2 p]; exact nI_add (2 * p) 0
  have c1 : (nI (2 * p + 1)).toNatClampNeg = 2 * p + 1 := nI_clamp (by omega)
  have c0 : (nI (2 * p)).toNatClampNeg = 2 * p := nI_clamp (by omega)
  have hin1 : vp_in ((2 : Int32) * nI p + 1) 400 := by rw [e1]; exact vp_in_nI (by omega) (by decide)
  have hin0 : vp_in ((2 : Int32) * nI p + 0) 400 := by rw [e0]; exact vp_in_nI (by omega) (by decide)
  -- the left part
  have LP : ∀ (st : List Nat) (td0 : Nat → Int32), st.length < 401 → rc_dl td0 st → ∃ td : Nat → Int32, rc_dl td (L ++ st) ∧ ∀ (post : SY → Prop) (fuel : Nat), wY_numberCells_14 post g_heapSize g_depthLimit g_nodeLimit g_nodeCount g_fragCount g_frames g_made g_inRun g_reused g_peak g_calls g_status g_resKind g_resNumber fuel (nI ((L ++ st).length)) (nI (r + 1)) g_numbered b_nodeKind b_nodeX b_nodeT b_nodeA b_nodeB b_nodeNext b_nodeElse b_scratch b_frag b_body b_slotKind b_slotNumber b_spares b_waits b_cellTag b_partKind b_partNumber b_live b_order td → wY_numberCells_66 post (wY_numberCells_14 post g_heapSize g_depthLimit g_nodeLimit g_nodeCount g_fragCount g_frames g_made g_inRun g_reused g_peak g_calls g_status g_resKind g_resNumber fuel) (nI r) (nI p) g_heapSize g_depthLimit g_nodeLimit g_nodeCount g_fragCount g_frames g_made g_inRun g_reused g_peak g_calls g_status g_resKind g_resNumber g_numbered 2 (nI st.length) 0 b_nodeKind b_nodeX b_nodeT b_nodeA b_nodeB b_nodeNext b_nodeElse b_scratch b_frag b_body b_slotKind b_slotNumber b_spares b_waits b_cellTag b_partKind b_partNumber b_live b_order td0 := by
    intro st td0 hl hdl
    rcases hL with ⟨hk, rfl⟩ | ⟨hk, e, he, rfl⟩
    · refine ⟨td0, hdl, fun post fuel hp => ?_⟩
      refine br_f (by decide) ⟨hin0, br_f (by rw [e0, c0]; exact hk) (nm_r (e' := -1) (by decide) (br_t (by decide) (nm_r (nI_1 r) hp)))⟩
    · refine ⟨upd td0 st.length (nI e), ⟨pk_us, rc_dl_u (Nat.le_refl _) hdl⟩, fun post fuel hp => ?_⟩
      refine br_f (by decide) ⟨hin0, br_t (by rw [e0, c0]; exact hk) ⟨hin0, vp_in_nI hl (by decide), nm_r (e' := upd td0 st.length (nI e)) (by rw [e0, c0, nI_clamp (by omega), he]) (nm_r (nI_1 _) (nm_r (e' := -1) (by decide) (br_t (by decide) (nm_r (nI_1 r) hp))))⟩⟩
  rcases hR with ⟨hk, rfl⟩ | ⟨hk, e, he, rfl⟩
  · obtain ⟨td, h1, W⟩ := LP st b_todo (by omega) hw
    refine ⟨td, h1, fun post fuel hp => ?_⟩
    rw [← hd]
    exact br_f (by decide) ⟨hin1, br_f (by rw [e1, c1]; exact hk) (nm_r (e' := 0) (by decide) (W post fuel hp))⟩
  · obtain ⟨td, h1, W⟩ := LP (e :: st) (upd b_todo d (nI e)) (by rw [List.length_cons]; omega) ⟨by rw [hd]; exact pk_us, rc_dl_u (by omega) hw⟩
    refine ⟨td, h1, fun post fuel hp => ?_⟩
    have W' := W post fuel hp
    rw [List.length_cons, hd] at W'
    exact br_f (by decide) ⟨hin1, br_t (by rw [e1, c1]; exact hk) ⟨hin1, vp_in_nI (by omega) (by decide), nm_r (e' := upd b_todo d (nI e)) (by rw [e1, c1, nI_clamp (by omega), he]) (nm_r (nI_1 d) (nm_r (e' := 0) (by decide) W'))⟩⟩
theorem ry_num_new {p d r k : Nat} {L R st : List Nat} (hp2 : p < 200) (hR : rc_CY (b_partKind (2 * p + 1)) (b_partNumber (2 * p + 1)) R) (hL : rc_CY (b_partKind (2 * p)) (b_partNumber (2 * p)) L) (hd : st.length = d) (hd2 : d + 1 < 401) (hr : r < 401) (hk : k < 200) (hw : b_todo d = nI p) (hst : rc_dl b_todo st) (hne : ∀ e, e < k → b_order e ≠ nI p) (hgn : g_numbered = nI k) : ∃ td : Nat → Int32, rc_dl td (L ++ (R ++ st)) ∧ ∀ (post : SY → Prop) (fuel : Nat), wY_numberCells_14 post g_heapSize g_depthLimit g_nodeLimit g_nodeCount g_fragCount g_frames g_made g_inRun g_reused g_peak g_calls g_status g_resKind g_resNumber fuel (nI ((L ++ (R ++ st)).length)) (nI (r + 1)) (nI (k + 1)) b_nodeKind b_nodeX b_nodeT b_nodeA b_nodeB b_nodeNext b_nodeElse b_scratch b_frag b_body b_slotKind b_slotNumber b_spares b_waits b_cellTag b_partKind b_partNumber b_live (upd b_order k (nI p)) td → wY_numberCells_14 post g_heapSize g_depthLimit g_nodeLimit g_nodeCount g_fragCount g_frames g_made g_inRun g_reused g_peak g_calls g_status g_resKind g_resNumber (fuel + 1) (nI (d + 1)) (nI r) g_numbered b_nodeKind b_nodeX b_nodeT b_nodeA b_nodeB b_nodeNext b_nodeElse b_scratch b_frag b_body b_slotKind b_slotNumber b_spares b_waits b_cellTag b_partKind b_partNumber b_live b_order b_todo := by
  subst hgn
  obtain ⟨td, h1, W⟩ := ry_66 (p := p) (d := d) (r := r) (L := L) (R := R) (st := st) (g_heapSize := g_heapSize) (g_depthLimit := g_depthLimit) (g_nodeLimit := g_nodeLimit) (g_nodeCount := g_nodeCount) (g_fragCount := g_fragCount) (g_frames := g_frames) (g_made := g_made) (g_inRun := g_inRun) (g_reused := g_reused) (g_peak := g_peak) (g_calls := g_calls) (g_status := g_status) (g_resKind := g_resKind) (g_resNumber := g_resNumber) (g_numbered := nI (k + 1)) (b_nodeKind := b_nodeKind) (b_nodeX := b_nodeX) (b_nodeT := b_nodeT) (b_nodeA := b_nodeA) (b_nodeB := b_nodeB) (b_nodeNext := b_nodeNext) (b_nodeElse := b_nodeElse) (b_scratch := b_scratch) (b_frag := b_frag) (b_body := b_body) (b_slotKind := b_slotKind) (b_slotNumber := b_slotNumber) (b_spares := b_spares) (b_waits := b_waits) (b_cellTag := b_cellTag) (b_partKind := b_partKind) (b_partNumber := b_partNumber) (b_live := b_live) (b_order := upd b_order k (nI p)) (b_todo := b_todo) hp2 hR hL hd hd2 hst
  refine ⟨td, h1, fun post fuel hp => ?_⟩
  refine br_f (nI_ge (b := 401) hr (by decide)) (br_f (nI_nle (by omega) (by omega)) (nm_r (e' := nI d) (pk_m1 d) ⟨vp_in_nI (by omega) (by decide), nm_r (e' := nI p) (by rw [nI_clamp (by omega)]; exact hw) ?_⟩))
  refine ry_numOf_none (k := k) (by omega) rfl hne _ (br_f (by decide) ⟨vp_in_nI hk (by decide), nm_r (e' := upd b_order k (nI p)) (by rw [nI_clamp (by omega)]) (nm_r (e' := nI (k + 1)) (nI_1 k) ⟨3, W post fuel hp⟩)⟩)
theorem ry_num_old {p d r k i : Nat} (hd2 : d + 1 < 402) (hd3 : d < 401) (hr : r < 401) (hk : k ≤ 200) (hw : b_todo d = nI p) (hi : i < k) (hq : b_order i = nI p) (hne : ∀ e, e < i → b_order e ≠ nI p) (hgn : g_numbered = nI k) (post : SY → Prop) (fuel : Nat) (hp : wY_numberCells_14 post g_heapSize g_depthLimit g_nodeLimit g_nodeCount g_fragCount g_frames g_made g_inRun g_reused g_peak g_calls g_status g_resKind g_resNumber fuel (nI d) (nI (r + 1)) g_numbered b_nodeKind b_nodeX b_nodeT b_nodeA b_nodeB b_nodeNext b_nodeElse b_scratch b_frag b_body b_slotKind b_slotNumber b_spares b_waits b_cellTag b_partKind b_partNumber b_live b_order b_todo) : wY_numberCells_14 post g_heapSize g_depthLimit g_nodeLimit g_nodeCount g_fragCount g_frames g_made g_inRun g_reused g_peak g_calls g_status g_resKind g_resNumber (fuel + 1) (nI (d + 1)) (nI r) g_numbered b_nodeKind b_nodeX b_nodeT b_nodeA b_nodeB b_nodeNext b_nodeElse b_scratch b_frag b_body b_slotKind b_slotNumber b_spares b_waits b_cellTag b_partKind b_partNumber b_live b_order b_todo := by
  refine br_f (nI_ge (b := 401) hr (by decide)) (br_f (nI_nle (by omega) (by omega)) (nm_r (e' := nI d) (pk_m1 d) ⟨vp_in_nI (by omega) (by decide), nm_r (e' := nI p) (by rw [nI_clamp (by omega)]; exact hw) ?_⟩))
  exact ry_numOf_some (k := k) hk hgn hi hq hne _ (br_t (nI_pos' (by omega)) (nm_r (nI_1 r) hp))
theorem ry_num_end {r : Nat} (post : SY → Prop) (fuel : Nat) (hp : post (g_heapSize, g_depthLimit, g_nodeLimit, g_nodeCount, g_fragCount, g_frames, g_made, g_inRun, g_reused, g_peak, g_calls, g_status, g_resKind, g_resNumber, g_numbered, b_nodeKind, b_nodeX, b_nodeT, b_nodeA, b_nodeB, b_nodeNext, b_nodeElse, b_scratch, b_frag, b_body, b_slotKind, b_slotNumber, b_spares, b_waits, b_cellTag, b_partKind, b_partNumber, b_live, b_order, b_todo)) : wY_numberCells_14 post g_heapSize g_depthLimit g_nodeLimit g_nodeCount g_fragCount g_frames g_made g_inRun g_reused g_peak g_calls g_status g_resKind g_resNumber (fuel + 1) (nI 0) (nI r) g_numbered b_nodeKind b_nodeX b_nodeT b_nodeA b_nodeB b_nodeNext b_nodeElse b_scratch b_frag b_body b_slotKind b_slotNumber b_spares b_waits b_cellTag b_partKind b_partNumber b_live b_order b_todo := by
  by_cases h : (401 : Int32) ≤ nI r
  · exact br_t h hp
  · exact br_f h (br_t (by decide) hp)
end
end
section
def rc_DF (root : Nat) (φ col : Nat → Nat) (cl cr : Nat → Int64) (k : Nat) (nu : Nat → Nat) (st : List Nat) (r : Nat) (con noc pls wk ord td : Nat → Int32) : Prop :=
  k ≤ 200 ∧ (∀ i, i < k → col (nu i) = 0 ∧ con i = nI (nu i) ∧ ord i = nI (φ (nu i)) ∧ noc (nu i) = nI i) ∧
  (∀ c, c < 200 → (∀ i, i < k → nu i ≠ c) → noc c = -1) ∧ rc_dl wk st ∧ rc_dl td (st.map φ) ∧ (∀ c, c ∈ st → col c = 0) ∧
  (∀ c, c < 200 → ∃ p, pls c = nI p ∧ p + st.count c = (if c = root then 1 else 0) + rc_sm (fun i => rc_is (cl (nu i)) c + rc_is (cr (nu i)) c) k) ∧
  r + st.length ≤ 1 + 2 * k ∧
  (∀ i, i < k → ∀ c, c < 200 → (cl (nu i) = rc_cv c ∨ cr (nu i) = rc_cv c) → (∃ j, j < k ∧ nu j = c) ∨ c ∈ st) ∧
  ((0 < k ∧ nu 0 = root) ∨ (k = 0 ∧ st = [root]))
section
variable {root k r : Nat} {φ col nu : Nat → Nat} {cl cr : Nat → Int64} {st : List Nat} {con noc pls wk ord td : Nat → Int32}
theorem rc_kids {v : Int64} {q n : Int32} (hf : rc_FV col v) (hv : rc_VR φ v q n) : ∃ L : List Nat, rc_CH v L ∧ rc_CY q n (L.map φ) ∧ (∀ c, c ∈ L → c < 200 ∧ col c = 0) ∧ L.length ≤ 1 ∧ (∀ x, x < 200 → L.count x = rc_is v x) ∧ (∀ x, x < 200 → v = rc_cv x → x ∈ L) := by
  rcases hf with ⟨z, rfl⟩ | ⟨c, hc, h0, rfl⟩
  · refine ⟨[], Or.inl ⟨z, rfl, rfl⟩, Or.inl ⟨?_, rfl⟩, fun c hc => (List.not_mem_nil hc).elim, by simp, fun x hx => ?_, fun x hx e => absurd e (rc_i_ne z (by omega))⟩
    · rcases hv with ⟨e, _⟩ | ⟨_, c, hc, e, _⟩
      · rw [e]; decide
      · exact absurd e (rc_i_ne z (by omega))
    · rw [rc_is_i z (by omega)]; rfl
  · obtain ⟨q1, q2⟩ := rc_VRc hc hv rfl
    refine ⟨[c], Or.inr ⟨c, hc, rfl, rfl⟩, Or.inr ⟨q1, φ c, q2, rfl⟩, fun x hx => ?_, by simp, fun x hx => ?_, fun x hx e => ?_⟩
    · rw [List.mem_singleton] at hx; subst hx; exact ⟨hc, h0⟩
    · by_cases e : x = c
      · subst e; rw [rc_is_s rfl]; simp
      · rw [rc_is_c (by omega) (by omega) e, List.count_cons_of_ne (Ne.symm e)]; rfl
    · rw [rc_cv_inj (by omega) (by omega) e]; exact List.mem_singleton.mpr rfl
theorem rc_k_lt {c : Nat} (h1 : ∀ i, i < k → nu i < 200 ∧ noc (nu i) = nI i) (hk : k ≤ 200) (h2 : ∀ d, d < 200 → (∀ i, i < k → nu i ≠ d) → noc d = -1) (hc : c < 200) (hno : noc c = -1) : k < 200 := by
  have b := rc_bij nu k (fun _ => true) (fun d => decide (noc d ≠ -1)) 200 (fun i hi _ => ⟨(h1 i hi).1, decide_eq_true (by rw [(h1 i hi).2]; exact fun e => rc_m1_ne (by omega) e.symm)⟩) (fun i j hi hj _ _ e => by
    have a1 := (h1 i hi).2
    have a2 := (h1 j hj).2
    rw [e] at a1
    exact rc_n_of (by omega) (by omega) (a1.symm.trans a2)) (fun d hd hb => by
    apply Classical.byContradiction
    intro hn
    exact of_decide_eq_true hb (h2 d hd fun i hi e => hn ⟨i, hi, rfl, e⟩))
  have e3 : rc_sm (fun c => if (fun _ : Nat => true) c = true then 1 else 0) k = k := by
    have : ∀ q, rc_sm (fun c => if (fun _ : Nat => true) c = true then 1 else 0) q = q := fun q => by
      induction q with
      | zero => rfl
      | succ q ih => show rc_sm _ q + 1 = q + 1; rw [ih]
    exact this k
  have s := rc_sm_1 (g := fun d => if decide (noc d ≠ -1) = true then 1 else 0) (h := fun d => if d = c then 1 else if decide (noc d ≠ -1) = true then 1 else 0) hc (fun i _ hne => by
    show _ = (if i = c then _ else _)
    rw [if_neg hne])
  have l := rc_sm_le (g := fun d => if d = c then 1 else if decide (noc d ≠ -1) = true then 1 else 0) (k := 1) (n := 200) (fun i _ => by
    show (if i = c then 1 else if decide (noc i ≠ -1) = true then 1 else 0) ≤ 1
    split
    · omega
    · split <;> omega)
  have g0 : (if decide (noc c ≠ -1) = true then 1 else 0) = 0 := by simp [hno]
  have h0 : (if c = c then 1 else if decide (noc c ≠ -1) = true then 1 else 0) = 1 := if_pos rfl
  have s' : rc_sm (fun d => if decide (noc d ≠ -1) = true then 1 else 0) 200 + (if c = c then 1 else if decide (noc c ≠ -1) = true then 1 else 0) = rc_sm (fun d => if d = c then 1 else if decide (noc d ≠ -1) = true then 1 else 0) 200 + (if decide (noc c ≠ -1) = true then 1 else 0) := s
  rw [h0, g0] at s'
  have b' : k = rc_sm (fun d => if decide (noc d ≠ -1) = true then 1 else 0) 200 := e3.symm.trans b
  omega
theorem rc_DF_inj (H : rc_DF root φ col cl cr k nu st r con noc pls wk ord td) {i j : Nat} (hi : i < k) (hj : j < k) (e : nu i = nu j) : i = j := by
  have a1 := (H.2.1 i hi).2.2.2
  have a2 := (H.2.1 j hj).2.2.2
  have := H.1
  rw [e] at a1
  exact rc_n_of (by omega) (by omega) (a1.symm.trans a2)
theorem rc_DF_old {c i : Nat} (hi : i < k) (hc : nu i = c) (H : rc_DF root φ col cl cr k nu (c :: st) r con noc pls wk ord td) : rc_DF root φ col cl cr k nu st (r + 1) con noc (upd pls c (pls c + 1)) wk ord td := by
  obtain ⟨h1, h2, h3, h4, h5, h6, h7, h8, h9, h10⟩ := H
  refine ⟨h1, h2, h3, h4.2, h5.2, fun x hx => h6 x (List.mem_cons_of_mem _ hx), fun x hx => ?_, ?_, fun a ha x hx e => ?_, Or.inl ?_⟩
  · obtain ⟨p, hp, hq⟩ := h7 x hx
    by_cases e : x = c
    · subst e
      rw [List.count_cons_self] at hq
      exact ⟨p + 1, by rw [pk_us, hp, nI_1], by omega⟩
    · rw [List.count_cons_of_ne (Ne.symm e)] at hq
      exact ⟨p, by rw [pk_un e]; exact hp, hq⟩
  · rw [List.length_cons] at h8; omega
  · rcases h9 a ha x hx e with w | w
    · exact Or.inl w
    · rcases List.mem_cons.mp w with w | w
      · exact Or.inl ⟨i, hi, hc.trans w.symm⟩
      · exact Or.inr w
  · rcases h10 with w | ⟨w, _⟩
    · exact w
    · omega
theorem rc_DF_new {c : Nat} {L R : List Nat} {wk' td' : Nat → Int32} (hk : k < 200) (hc : c < 200) (hno : noc c = -1) (hL1 : ∀ x, x ∈ L → x < 200 ∧ col x = 0) (hR1 : ∀ x, x ∈ R → x < 200 ∧ col x = 0) (hL2 : L.length ≤ 1) (hR2 : R.length ≤ 1) (hL3 : ∀ x, x < 200 → L.count x = rc_is (cl c) x) (hR3 : ∀ x, x < 200 → R.count x = rc_is (cr c) x) (hL4 : ∀ x, x < 200 → cl c = rc_cv x → x ∈ L) (hR4 : ∀ x, x < 200 → cr c = rc_cv x → x ∈ R) (hwk : rc_dl wk' (L ++ (R ++ st))) (htd : rc_dl td' ((L ++ (R ++ st)).map φ)) (H : rc_DF root φ col cl cr k nu (c :: st) r con noc pls wk ord td) : rc_DF root φ col cl cr (k + 1) (rc_up nu k c) (L ++ (R ++ st)) (r + 1) (upd con k (nI c)) (upd noc c (nI k)) (upd pls c (pls c + 1)) wk' (upd ord k (nI (φ c))) td' := by
  obtain ⟨h1, h2, h3, h4, h5, h6, h7, h8, h9, h10⟩ := H
  have hnc : ∀ i, i < k → nu i ≠ c := fun i hi e => by
    have := (h2 i hi).2.2.2
    rw [e, hno] at this
    exact rc_m1_ne (by omega) this
  refine ⟨by omega, fun i hi => ?_, fun x hx hn => ?_, hwk, htd, fun x hx => ?_, fun x hx => ?_, ?_, fun a ha x hx e => ?_, Or.inl ⟨by omega, ?_⟩⟩
  · by_cases e : i = k
    · subst e
      rw [rc_up_s, pk_us, pk_us, pk_us]
      exact ⟨h6 c List.mem_cons_self, rfl, rfl, rfl⟩
    · rw [rc_up_n e, pk_un e, pk_un e, pk_un (hnc i (by omega))]
      exact h2 i (by omega)
  · have hxc : x ≠ c := fun e => hn k (by omega) (by rw [rc_up_s]; exact e.symm)
    rw [pk_un hxc]
    refine h3 x hx fun i hi e => hn i (by omega) ?_
    rw [rc_up_n (by omega)]; exact e
  · rcases List.mem_append.mp hx with w | w
    · exact (hL1 x w).2
    · rcases List.mem_append.mp w with w | w
      · exact (hR1 x w).2
      · exact h6 x (List.mem_cons_of_mem _ w)
  · obtain ⟨p, hp, hq⟩ := h7 x hx
    have hs : rc_sm (fun i => rc_is (cl (rc_up nu k c i)) x + rc_is (cr (rc_up nu k c i)) x) (k + 1) = rc_sm (fun i => rc_is (cl (nu i)) x + rc_is (cr (nu i)) x) k + (rc_is (cl c) x + rc_is (cr c) x) := by
      show rc_sm _ k + (rc_is (cl (rc_up nu k c k)) x + rc_is (cr (rc_up nu k c k)) x) = _
      rw [rc_up_s]
      congr 1
      exact rc_sm_c fun i hi => by
        show rc_is (cl (rc_up nu k c i)) x + rc_is (cr (rc_up nu k c i)) x = _
        rw [rc_up_n (by omega)]
    have hcount : (L ++ (R ++ st)).count x = rc_is (cl c) x + (rc_is (cr c) x + st.count x) := by
      rw [List.count_append, List.count_append, hL3 x hx, hR3 x hx]
    by_cases e : x = c
    · subst e
      rw [List.count_cons_self] at hq
      refine ⟨p + 1, by rw [pk_us, hp, nI_1], ?_⟩
      rw [hs, hcount]; omega
    · rw [List.count_cons_of_ne (Ne.symm e)] at hq
      refine ⟨p, by rw [pk_un e]; exact hp, ?_⟩
      rw [hs, hcount]; omega
  · rw [List.length_cons] at h8
    rw [List.length_append, List.length_append]; omega
  · by_cases ea : a = k
    · subst ea
      rw [rc_up_s] at e
      rcases e with e | e
      · exact Or.inr (List.mem_append_left _ (hL4 x hx e))
      · exact Or.inr (List.mem_append_right _ (List.mem_append_left _ (hR4 x hx e)))
    · rw [rc_up_n ea] at e
      rcases h9 a (by omega) x hx e with ⟨j, hj, w⟩ | w
      · exact Or.inl ⟨j, by omega, by rw [rc_up_n (by omega)]; exact w⟩
      · rcases List.mem_cons.mp w with w | w
        · exact Or.inl ⟨k, by omega, by rw [rc_up_s]; exact w.symm⟩
        · exact Or.inr (List.mem_append_right _ (List.mem_append_right _ w))
  · rcases h10 with ⟨w1, w2⟩ | ⟨w1, w2⟩
    · rw [rc_up_n (by omega)]; exact w2
    · subst w1
      rw [rc_up_s]
      exact (List.cons.inj w2).1
end
section
variable {f_kindRet f_kindTail f_kindBind f_kindCon f_kindPrim f_kindCall f_kindMatch f_kindTest f_heapSize f_depthLimit f_nodeLimit f_nodeCount f_fragmentCount f_frames f_at f_deadCount f_freeHead f_fresh f_liveCells f_spareTotal f_counted f_status f_made f_reused f_peak f_calls f_resultCells : Int32} {f_cellBase f_result : Int64} {a_nodeKind a_nodeX a_nodeParam a_nodeA a_nodeB a_nodeNext a_nodeElse a_nodeFree a_nodeNeed a_fragments a_body a_waiting a_spareHead a_spareCount a_cellTag a_holds a_link a_dead a_cellOfNumber a_numberOfCell a_places a_walk : Nat → Int32} {a_slots a_cellLeft a_cellRight : Nat → Int64}
variable {g_frames g_status g_resKind g_resNumber g_numbered : Int32} {b_nodeA b_nodeB b_scratch b_slotKind b_slotNumber b_spares b_cellTag b_partKind b_partNumber b_live b_order b_todo : Nat → Int32}
variable {m fs root : Nat} {φ col : Nat → Nat}
theorem rs_dfs (hm : m ≤ 200) (hA : rc_A fs (fun _ => false) col a_slots a_cellLeft a_cellRight) (hH : (rc_HR m φ col a_cellTag a_cellLeft a_cellRight b_cellTag b_partKind b_partNumber)) : ∀ (q k : Nat) (nu : Nat → Nat) (st : List Nat) (r : Nat) (con noc pls wk ord td : Nat → Int32), 2 * (200 - k) + st.length ≤ q → (rc_DF root φ col a_cellLeft a_cellRight k nu st r con noc pls wk ord td) → ∃ (k' : Nat) (nu' : Nat → Nat) (r' : Nat) (con' noc' pls' wk' ord' td' : Nat → Int32), (rc_DF root φ col a_cellLeft a_cellRight k' nu' ([]) r' con' noc' pls' wk' ord' td') ∧ (∀ (post : SX → Prop) (fuel : Nat), q < fuel → post (f_kindRet, f_kindTail, f_kindBind, f_kindCon, f_kindPrim, f_kindCall, f_kindMatch, f_kindTest, f_cellBase, f_heapSize, f_depthLimit, f_nodeLimit, f_nodeCount, f_fragmentCount, f_frames, f_at, f_deadCount, f_freeHead, f_fresh, f_liveCells, f_spareTotal, f_counted, f_status, f_made, f_reused, f_peak, f_calls, f_result, nI k', a_nodeKind, a_nodeX, a_nodeParam, a_nodeA, a_nodeB, a_nodeNext, a_nodeElse, a_nodeFree, a_nodeNeed, a_fragments, a_body, a_slots, a_waiting, a_spareHead, a_spareCount, a_cellTag, a_cellLeft, a_cellRight, a_holds, a_link, a_dead, con', noc', pls', wk') → wX_numberResult_65 post f_kindRet f_kindTail f_kindBind f_kindCon f_kindPrim f_kindCall f_kindMatch f_kindTest f_cellBase f_heapSize f_depthLimit f_nodeLimit f_nodeCount f_fragmentCount f_frames f_at f_deadCount f_freeHead f_fresh f_liveCells f_spareTotal f_counted f_status f_made f_reused f_peak f_calls f_result fuel (nI st.length) (nI r) (nI k) a_nodeKind a_nodeX a_nodeParam a_nodeA a_nodeB a_nodeNext a_nodeElse a_nodeFree a_nodeNeed a_fragments a_body a_slots a_waiting a_spareHead a_spareCount a_cellTag a_cellLeft a_cellRight a_holds a_link a_dead con noc pls wk) ∧ (∀ (post : SY → Prop) (fuel : Nat), q < fuel → post (f_heapSize, f_depthLimit, f_nodeLimit, f_nodeCount, f_fragmentCount, g_frames, f_made, f_counted, f_reused, f_peak, f_calls, g_status, g_resKind, g_resNumber, nI k', a_nodeKind, a_nodeX, a_nodeParam, b_nodeA, b_nodeB, a_nodeNext, a_nodeElse, b_scratch, a_fragments, a_body, b_slotKind, b_slotNumber, b_spares, a_waiting, b_cellTag, b_partKind, b_partNumber, b_live, ord', td') → wY_numberCells_14 post f_heapSize f_depthLimit f_nodeLimit f_nodeCount f_fragmentCount g_frames f_made f_counted f_reused f_peak f_calls g_status g_resKind g_resNumber fuel (nI st.length) (nI r) (nI k) a_nodeKind a_nodeX a_nodeParam b_nodeA b_nodeB a_nodeNext a_nodeElse b_scratch a_fragments a_body b_slotKind b_slotNumber b_spares a_waiting b_cellTag b_partKind b_partNumber b_live ord td) := by
  intro q
  induction q with
  | zero =>
    intro k nu st r con noc pls wk ord td hq H
    cases st with
    | cons c st => rw [List.length_cons] at hq; omega
    | nil =>
      refine ⟨k, nu, r, con, noc, pls, wk, ord, td, H, fun post fuel hf hp => ?_, fun post fuel hf hp => ?_⟩
      · obtain ⟨fuel, rfl⟩ : ∃ q, fuel = q + 1 := ⟨fuel - 1, by omega⟩
        exact rx_num_end post fuel hp
      · obtain ⟨fuel, rfl⟩ : ∃ q, fuel = q + 1 := ⟨fuel - 1, by omega⟩
        exact ry_num_end post fuel hp
  | succ q ih =>
    intro k nu st r con noc pls wk ord td hq H
    cases st with
    | nil =>
      refine ⟨k, nu, r, con, noc, pls, wk, ord, td, H, fun post fuel hf hp => ?_, fun post fuel hf hp => ?_⟩
      · obtain ⟨fuel, rfl⟩ : ∃ q, fuel = q + 1 := ⟨fuel - 1, by omega⟩
        exact rx_num_end post fuel hp
      · obtain ⟨fuel, rfl⟩ : ∃ q, fuel = q + 1 := ⟨fuel - 1, by omega⟩
        exact ry_num_end post fuel hp
    | cons c st =>
      have H0 := H
      obtain ⟨h1, h2, h3, h4, h5, h6, h7, h8, h9, h10⟩ := H
      rw [List.length_cons] at hq h8
      have hc0 := h6 c List.mem_cons_self
      have hc : c < 200 := by have := hA.2.1 c hc0; have := hA.1; omega
      have hlt : ∀ d, col d = 0 → d < 200 := fun d hd => by have := hA.2.1 d hd; have := hA.1; omega
      obtain ⟨hφ, _, hvl, hvr⟩ := hH.1 c hc0
      have hwc : wk st.length = nI c := h4.1
      have htc : td st.length = nI (φ c) := by have := h5.1; rwa [List.length_map] at this
      by_cases hnum : ∃ i, i < k ∧ nu i = c
      · obtain ⟨i, hi, hic⟩ := hnum
        have hnoc : noc c = nI i := by rw [← hic]; exact (h2 i hi).2.2.2
        obtain ⟨k', nu', r', con', noc', pls', wk', ord', td', D', WX, WY⟩ := ih k nu st (r + 1) con noc (upd pls c (pls c + 1)) wk ord td (by omega) (rc_DF_old hi hic H0)
        refine ⟨k', nu', r', con', noc', pls', wk', ord', td', D', fun post fuel hf hp => ?_, fun post fuel hf hp => ?_⟩
        · obtain ⟨fuel, rfl⟩ : ∃ q, fuel = q + 1 := ⟨fuel - 1, by omega⟩
          exact rx_num_old (c := c) (i := i) hc (by omega) (by omega) hwc hnoc (by omega) post fuel (WX post fuel (by omega) hp)
        · obtain ⟨fuel, rfl⟩ : ∃ q, fuel = q + 1 := ⟨fuel - 1, by omega⟩
          refine ry_num_old (p := φ c) (k := k) (i := i) (by omega) (by omega) (by omega) h1 htc hi (by rw [(h2 i hi).2.2.1, hic]) (fun e he w => ?_) rfl post fuel (WY post fuel (by omega) hp)
          have a1 := (h2 e (by omega)).2.2.1
          have a2 := (h2 e (by omega)).1
          have a3 := (hH.1 _ a2).1
          have a4 := rc_n_of (by omega) (by omega) (a1.symm.trans w)
          have a5 := hH.2 _ _ a2 hc0 a4
          have := rc_DF_inj H0 (i := e) (j := i) (by omega) hi (a5.trans hic.symm)
          omega
      · have hnot : ∀ i, i < k → nu i ≠ c := fun i hi e => hnum ⟨i, hi, e⟩
        have hnoc := h3 c hc hnot
        have hk : k < 200 := rc_k_lt (fun i hi => ⟨hlt _ (h2 i hi).1, (h2 i hi).2.2.2⟩) h1 h3 hc hnoc
        obtain ⟨fl, fr'⟩ := hA.2.2.1 c hc0
        obtain ⟨L, L1, L2, L3, L4, L5, L6⟩ := rc_kids fl hvl
        obtain ⟨R, R1, R2, R3, R4, R5, R6⟩ := rc_kids fr' hvr
        obtain ⟨wk1, w1, WX1⟩ := rx_num_new (c := c) (d := st.length) (r := r) (k := k) (st := st) (f_kindRet := f_kindRet) (f_kindTail := f_kindTail) (f_kindBind := f_kindBind) (f_kindCon := f_kindCon) (f_kindPrim := f_kindPrim) (f_kindCall := f_kindCall) (f_kindMatch := f_kindMatch) (f_kindTest := f_kindTest) (f_cellBase := f_cellBase) (f_heapSize := f_heapSize) (f_depthLimit := f_depthLimit) (f_nodeLimit := f_nodeLimit) (f_nodeCount := f_nodeCount) (f_fragmentCount := f_fragmentCount) (f_frames := f_frames) (f_at := f_at) (f_deadCount := f_deadCount) (f_freeHead := f_freeHead) (f_fresh := f_fresh) (f_liveCells := f_liveCells) (f_spareTotal := f_spareTotal) (f_counted := f_counted) (f_status := f_status) (f_made := f_made) (f_reused := f_reused) (f_peak := f_peak) (f_calls := f_calls) (f_result := f_result) (f_resultCells := nI k) (a_nodeKind := a_nodeKind) (a_nodeX := a_nodeX) (a_nodeParam := a_nodeParam) (a_nodeA := a_nodeA) (a_nodeB := a_nodeB) (a_nodeNext := a_nodeNext) (a_nodeElse := a_nodeElse) (a_nodeFree := a_nodeFree) (a_nodeNeed := a_nodeNeed) (a_fragments := a_fragments) (a_body := a_body) (a_slots := a_slots) (a_waiting := a_waiting) (a_spareHead := a_spareHead) (a_spareCount := a_spareCount) (a_cellTag := a_cellTag) (a_cellLeft := a_cellLeft) (a_cellRight := a_cellRight) (a_holds := a_holds) (a_link := a_link) (a_dead := a_dead) (a_cellOfNumber := con) (a_numberOfCell := noc) (a_places := pls) (a_walk := wk) hc L1 R1 rfl (by omega) (by omega) hk hwc h4.2 hnoc rfl
        obtain ⟨td1, t1, WY1⟩ := ry_num_new (p := φ c) (d := st.length) (r := r) (k := k) (st := st.map φ) (g_heapSize := f_heapSize) (g_depthLimit := f_depthLimit) (g_nodeLimit := f_nodeLimit) (g_nodeCount := f_nodeCount) (g_fragCount := f_fragmentCount) (g_frames := g_frames) (g_made := f_made) (g_inRun := f_counted) (g_reused := f_reused) (g_peak := f_peak) (g_calls := f_calls) (g_status := g_status) (g_resKind := g_resKind) (g_resNumber := g_resNumber) (g_numbered := nI k) (b_nodeKind := a_nodeKind) (b_nodeX := a_nodeX) (b_nodeT := a_nodeParam) (b_nodeA := b_nodeA) (b_nodeB := b_nodeB) (b_nodeNext := a_nodeNext) (b_nodeElse := a_nodeElse) (b_scratch := b_scratch) (b_frag := a_fragments) (b_body := a_body) (b_slotKind := b_slotKind) (b_slotNumber := b_slotNumber) (b_spares := b_spares) (b_waits := a_waiting) (b_cellTag := b_cellTag) (b_partKind := b_partKind) (b_partNumber := b_partNumber) (b_live := b_live) (b_order := ord) (b_todo := td) (by omega) R2 L2 (by rw [List.length_map]) (by omega) (by omega) hk htc h5.2 (fun e he w => by
          have a1 := (h2 e he).2.2.1
          have a2 := (h2 e he).1
          have a3 := (hH.1 _ a2).1
          have a4 := rc_n_of (by omega) (by omega) (a1.symm.trans w)
          exact hnot e he (hH.2 _ _ a2 hc0 a4)) rfl
        rw [← List.map_append, ← List.map_append] at t1
        obtain ⟨k', nu', r', con', noc', pls', wk', ord', td', D', WX, WY⟩ := ih (k + 1) (rc_up nu k c) (L ++ (R ++ st)) (r + 1) (upd con k (nI c)) (upd noc c (nI k)) (upd pls c (pls c + 1)) wk1 (upd ord k (nI (φ c))) td1 (by rw [List.length_append, List.length_append]; omega) (rc_DF_new hk hc hnoc L3 R3 L4 R4 L5 R5 L6 R6 w1 t1 H0)
        refine ⟨k', nu', r', con', noc', pls', wk', ord', td', D', fun post fuel hf hp => ?_, fun post fuel hf hp => ?_⟩
        · obtain ⟨fuel, rfl⟩ : ∃ q, fuel = q + 1 := ⟨fuel - 1, by omega⟩
          exact WX1 post fuel (WX post fuel (by omega) hp)
        · obtain ⟨fuel, rfl⟩ : ∃ q, fuel = q + 1 := ⟨fuel - 1, by omega⟩
          refine WY1 post fuel ?_
          rw [← List.map_append, ← List.map_append, List.length_map]
          exact WY post fuel (by omega) hp
end
end
section
/-! the result and its numbering -/
def rc_FR (k : Nat) (nu φ : Nat → Nat) (v : Int64) (q n : Int32) : Prop := (q = 1 ∧ v = n.toInt64) ∨ (q = 2 ∧ ∃ j, j < k ∧ v = rc_cv (nu j) ∧ n = nI (φ (nu j)))
def rc_R10 (k : Nat) (nu φ : Nat → Nat) (rcs ct lc : Int32) (tg : Nat → Int32) (cl cr : Nat → Int64) (con noc pls : Nat → Int32) (gn : Int32) (yt pk pn ord : Nat → Int32) : Prop :=
  k ≤ 200 ∧ rcs = nI k ∧ gn = nI k ∧
  (∀ i, i < k → nu i < 200 ∧ φ (nu i) < 200 ∧ con i = nI (nu i) ∧ ord i = nI (φ (nu i)) ∧ noc (nu i) = nI i ∧ yt (φ (nu i)) = tg (nu i) ∧ rc_FR k nu φ (cl (nu i)) (pk (2 * φ (nu i))) (pn (2 * φ (nu i))) ∧ rc_FR k nu φ (cr (nu i)) (pk (2 * φ (nu i) + 1)) (pn (2 * φ (nu i) + 1))) ∧
  (∀ i j, i < k → j < k → φ (nu i) = φ (nu j) → i = j) ∧
  (∀ i, i < k → pls (nu i) = nI ((if i = 0 then 1 else 0) + rc_sm (fun j => rc_is (cl (nu j)) (nu i) + rc_is (cr (nu j)) (nu i)) k)) ∧
  (ct ≠ 0 → lc = nI k)
def rc_RR (sx : Int32) (res : Int64) (rcs ct lc : Int32) (tg : Nat → Int32) (cl cr : Nat → Int64) (con noc pls : Nat → Int32) (sy rk rn gn : Int32) (yt pk pn ord : Nat → Int32) : Prop :=
  sy = sx ∧ ((sx ≠ 10 ∧ rk = 0 ∧ rcs = 0 ∧ gn = 0) ∨ (sx = 10 ∧ ((rk = 1 ∧ res = rn.toInt64) ∨ (rk = 2 ∧ ∃ c, c < 200 ∧ res = rc_cv c)) ∧ ∃ (k : Nat) (nu φ : Nat → Nat), rc_R10 k nu φ rcs ct lc tg cl cr con noc pls gn yt pk pn ord))
def rc_REL (u : SX) (v : SY) : Prop := rc_SA u v ∧ match u, v with
  | (f_kindRet, f_kindTail, f_kindBind, f_kindCon, f_kindPrim, f_kindCall, f_kindMatch, f_kindTest, f_cellBase, f_heapSize, f_depthLimit, f_nodeLimit, f_nodeCount, f_fragmentCount, f_frames, f_at, f_deadCount, f_freeHead, f_fresh, f_liveCells, f_spareTotal, f_counted, f_status, f_made, f_reused, f_peak, f_calls, f_result, f_resultCells, a_nodeKind, a_nodeX, a_nodeParam, a_nodeA, a_nodeB, a_nodeNext, a_nodeElse, a_nodeFree, a_nodeNeed, a_fragments, a_body, a_slots, a_waiting, a_spareHead, a_spareCount, a_cellTag, a_cellLeft, a_cellRight, a_holds, a_link, a_dead, a_cellOfNumber, a_numberOfCell, a_places, a_walk), (g_heapSize, g_depthLimit, g_nodeLimit, g_nodeCount, g_fragCount, g_frames, g_made, g_inRun, g_reused, g_peak, g_calls, g_status, g_resKind, g_resNumber, g_numbered, b_nodeKind, b_nodeX, b_nodeT, b_nodeA, b_nodeB, b_nodeNext, b_nodeElse, b_scratch, b_frag, b_body, b_slotKind, b_slotNumber, b_spares, b_waits, b_cellTag, b_partKind, b_partNumber, b_live, b_order, b_todo) => ∃ (nc hs dl : Nat) (nd : Nat → Nat), (rc_ST nc hs dl nd f_heapSize f_depthLimit a_nodeKind a_nodeX a_nodeParam a_nodeA a_nodeB a_nodeNext a_nodeElse a_nodeFree a_nodeNeed a_body b_nodeA b_nodeB) ∧ (rc_FT nc f_nodeLimit f_nodeCount f_fragmentCount a_fragments) ∧ (rc_RR f_status f_result f_resultCells f_counted f_liveCells a_cellTag a_cellLeft a_cellRight a_cellOfNumber a_numberOfCell a_places g_status g_resKind g_resNumber g_numbered b_cellTag b_partKind b_partNumber b_order)
section
variable {f_kindRet f_kindTail f_kindBind f_kindCon f_kindPrim f_kindCall f_kindMatch f_kindTest f_heapSize f_depthLimit f_nodeLimit f_nodeCount f_fragmentCount f_frames f_at f_deadCount f_freeHead f_fresh f_liveCells f_spareTotal f_counted f_status f_made f_reused f_peak f_calls f_resultCells : Int32} {f_cellBase f_result : Int64} {a_nodeKind a_nodeX a_nodeParam a_nodeA a_nodeB a_nodeNext a_nodeElse a_nodeFree a_nodeNeed a_fragments a_body a_waiting a_spareHead a_spareCount a_cellTag a_holds a_link a_dead a_cellOfNumber a_numberOfCell a_places a_walk : Nat → Int32} {a_slots a_cellLeft a_cellRight : Nat → Int64}
variable {g_frames g_status g_resKind g_resNumber g_numbered : Int32} {b_nodeA b_nodeB b_scratch b_slotKind b_slotNumber b_spares b_cellTag b_partKind b_partNumber b_live b_order b_todo : Nat → Int32}
variable {nc hs dl m fs k : Nat} {nd φ col nu : Nat → Nat}
theorem rc_REL_mk (h1 : (rc_ST nc hs dl nd f_heapSize f_depthLimit a_nodeKind a_nodeX a_nodeParam a_nodeA a_nodeB a_nodeNext a_nodeElse a_nodeFree a_nodeNeed a_body b_nodeA b_nodeB)) (h2 : (rc_FT nc f_nodeLimit f_nodeCount f_fragmentCount a_fragments)) (h3 : (rc_RR f_status f_result f_resultCells f_counted f_liveCells a_cellTag a_cellLeft a_cellRight a_cellOfNumber a_numberOfCell a_places g_status g_resKind g_resNumber g_numbered b_cellTag b_partKind b_partNumber b_order)) : rc_REL (f_kindRet, f_kindTail, f_kindBind, f_kindCon, f_kindPrim, f_kindCall, f_kindMatch, f_kindTest, f_cellBase, f_heapSize, f_depthLimit, f_nodeLimit, f_nodeCount, f_fragmentCount, f_frames, f_at, f_deadCount, f_freeHead, f_fresh, f_liveCells, f_spareTotal, f_counted, f_status, f_made, f_reused, f_peak, f_calls, f_result, f_resultCells, a_nodeKind, a_nodeX, a_nodeParam, a_nodeA, a_nodeB, a_nodeNext, a_nodeElse, a_nodeFree, a_nodeNeed, a_fragments, a_body, a_slots, a_waiting, a_spareHead, a_spareCount, a_cellTag, a_cellLeft, a_cellRight, a_holds, a_link, a_dead, a_cellOfNumber, a_numberOfCell, a_places, a_walk) (f_heapSize, f_depthLimit, f_nodeLimit, f_nodeCount, f_fragmentCount, g_frames, f_made, f_counted, f_reused, f_peak, f_calls, g_status, g_resKind, g_resNumber, g_numbered, a_nodeKind, a_nodeX, a_nodeParam, b_nodeA, b_nodeB, a_nodeNext, a_nodeElse, b_scratch, a_fragments, a_body, b_slotKind, b_slotNumber, b_spares, a_waiting, b_cellTag, b_partKind, b_partNumber, b_live, b_order, b_todo) := ⟨rc_SA_mk, ⟨nc, hs, dl, nd, h1, h2, h3⟩⟩
theorem rc_REL_el {P : SX → SY → Prop} {u : SX} {v : SY} (h : rc_REL u v) (H : ∀ (f_kindRet : Int32) (f_kindTail : Int32) (f_kindBind : Int32) (f_kindCon : Int32) (f_kindPrim : Int32) (f_kindCall : Int32) (f_kindMatch : Int32) (f_kindTest : Int32) (f_cellBase : Int64) (f_heapSize : Int32) (f_depthLimit : Int32) (f_nodeLimit : Int32) (f_nodeCount : Int32) (f_fragmentCount : Int32) (f_frames : Int32) (f_at : Int32) (f_deadCount : Int32) (f_freeHead : Int32) (f_fresh : Int32) (f_liveCells : Int32) (f_spareTotal : Int32) (f_counted : Int32) (f_status : Int32) (f_made : Int32) (f_reused : Int32) (f_peak : Int32) (f_calls : Int32) (f_result : Int64) (f_resultCells : Int32) (a_nodeKind : Nat → Int32) (a_nodeX : Nat → Int32) (a_nodeParam : Nat → Int32) (a_nodeA : Nat → Int32) (a_nodeB : Nat → Int32) (a_nodeNext : Nat → Int32) (a_nodeElse : Nat → Int32) (a_nodeFree : Nat → Int32) (a_nodeNeed : Nat → Int32) (a_fragments : Nat → Int32) (a_body : Nat → Int32) (a_slots : Nat → Int64) (a_waiting : Nat → Int32) (a_spareHead : Nat → Int32) (a_spareCount : Nat → Int32) (a_cellTag : Nat → Int32) (a_cellLeft : Nat → Int64) (a_cellRight : Nat → Int64) (a_holds : Nat → Int32) (a_link : Nat → Int32) (a_dead : Nat → Int32) (a_cellOfNumber : Nat → Int32) (a_numberOfCell : Nat → Int32) (a_places : Nat → Int32) (a_walk : Nat → Int32) (g_frames : Int32) (g_status : Int32) (g_resKind : Int32) (g_resNumber : Int32) (g_numbered : Int32) (b_nodeA : Nat → Int32) (b_nodeB : Nat → Int32) (b_scratch : Nat → Int32) (b_slotKind : Nat → Int32) (b_slotNumber : Nat → Int32) (b_spares : Nat → Int32) (b_cellTag : Nat → Int32) (b_partKind : Nat → Int32) (b_partNumber : Nat → Int32) (b_live : Nat → Int32) (b_order : Nat → Int32) (b_todo : Nat → Int32) (nc hs dl : Nat) (nd : Nat → Nat), (rc_ST nc hs dl nd f_heapSize f_depthLimit a_nodeKind a_nodeX a_nodeParam a_nodeA a_nodeB a_nodeNext a_nodeElse a_nodeFree a_nodeNeed a_body b_nodeA b_nodeB) → (rc_FT nc f_nodeLimit f_nodeCount f_fragmentCount a_fragments) → (rc_RR f_status f_result f_resultCells f_counted f_liveCells a_cellTag a_cellLeft a_cellRight a_cellOfNumber a_numberOfCell a_places g_status g_resKind g_resNumber g_numbered b_cellTag b_partKind b_partNumber b_order) → P (f_kindRet, f_kindTail, f_kindBind, f_kindCon, f_kindPrim, f_kindCall, f_kindMatch, f_kindTest, f_cellBase, f_heapSize, f_depthLimit, f_nodeLimit, f_nodeCount, f_fragmentCount, f_frames, f_at, f_deadCount, f_freeHead, f_fresh, f_liveCells, f_spareTotal, f_counted, f_status, f_made, f_reused, f_peak, f_calls, f_result, f_resultCells, a_nodeKind, a_nodeX, a_nodeParam, a_nodeA, a_nodeB, a_nodeNext, a_nodeElse, a_nodeFree, a_nodeNeed, a_fragments, a_body, a_slots, a_waiting, a_spareHead, a_spareCount, a_cellTag, a_cellLeft, a_cellRight, a_holds, a_link, a_dead, a_cellOfNumber, a_numberOfCell, a_places, a_walk) (f_heapSize, f_depthLimit, f_nodeLimit, f_nodeCount, f_fragmentCount, g_frames, f_made, f_counted, f_reused, f_peak, f_calls, g_status, g_resKind, g_resNumber, g_numbered, a_nodeKind, a_nodeX, a_nodeParam, b_nodeA, b_nodeB, a_nodeNext, a_nodeElse, b_scratch, a_fragments, a_body, b_slotKind, b_slotNumber, b_spares, a_waiting, b_cellTag, b_partKind, b_partNumber, b_live, b_order, b_todo)) : P u v := by
  obtain ⟨h1, h2⟩ := h
  revert h2
  refine rc_SA_el (P := fun u v => (match u, v with
  | (f_kindRet, f_kindTail, f_kindBind, f_kindCon, f_kindPrim, f_kindCall, f_kindMatch, f_kindTest, f_cellBase, f_heapSize, f_depthLimit, f_nodeLimit, f_nodeCount, f_fragmentCount, f_frames, f_at, f_deadCount, f_freeHead, f_fresh, f_liveCells, f_spareTotal, f_counted, f_status, f_made, f_reused, f_peak, f_calls, f_result, f_resultCells, a_nodeKind, a_nodeX, a_nodeParam, a_nodeA, a_nodeB, a_nodeNext, a_nodeElse, a_nodeFree, a_nodeNeed, a_fragments, a_body, a_slots, a_waiting, a_spareHead, a_spareCount, a_cellTag, a_cellLeft, a_cellRight, a_holds, a_link, a_dead, a_cellOfNumber, a_numberOfCell, a_places, a_walk), (g_heapSize, g_depthLimit, g_nodeLimit, g_nodeCount, g_fragCount, g_frames, g_made, g_inRun, g_reused, g_peak, g_calls, g_status, g_resKind, g_resNumber, g_numbered, b_nodeKind, b_nodeX, b_nodeT, b_nodeA, b_nodeB, b_nodeNext, b_nodeElse, b_scratch, b_frag, b_body, b_slotKind, b_slotNumber, b_spares, b_waits, b_cellTag, b_partKind, b_partNumber, b_live, b_order, b_todo) => ∃ (nc hs dl : Nat) (nd : Nat → Nat), (rc_ST nc hs dl nd f_heapSize f_depthLimit a_nodeKind a_nodeX a_nodeParam a_nodeA a_nodeB a_nodeNext a_nodeElse a_nodeFree a_nodeNeed a_body b_nodeA b_nodeB) ∧ (rc_FT nc f_nodeLimit f_nodeCount f_fragmentCount a_fragments) ∧ (rc_RR f_status f_result f_resultCells f_counted f_liveCells a_cellTag a_cellLeft a_cellRight a_cellOfNumber a_numberOfCell a_places g_status g_resKind g_resNumber g_numbered b_cellTag b_partKind b_partNumber b_order)) → P u v) h1 ?_
  intro f_kindRet f_kindTail f_kindBind f_kindCon f_kindPrim f_kindCall f_kindMatch f_kindTest f_cellBase f_heapSize f_depthLimit f_nodeLimit f_nodeCount f_fragmentCount f_frames f_at f_deadCount f_freeHead f_fresh f_liveCells f_spareTotal f_counted f_status f_made f_reused f_peak f_calls f_result f_resultCells a_nodeKind a_nodeX a_nodeParam a_nodeA a_nodeB a_nodeNext a_nodeElse a_nodeFree a_nodeNeed a_fragments a_body a_slots a_waiting a_spareHead a_spareCount a_cellTag a_cellLeft a_cellRight a_holds a_link a_dead a_cellOfNumber a_numberOfCell a_places a_walk g_frames g_status g_resKind g_resNumber g_numbered b_nodeA b_nodeB b_scratch b_slotKind b_slotNumber b_spares b_cellTag b_partKind b_partNumber b_live b_order b_todo h2
  obtain ⟨nc, hs, dl, nd, q1, q2, q3⟩ := h2
  exact H _ _ _ _ _ _ _ _ _ _ _ _ _ _ _ _ _ _ _ _ _ _ _ _ _ _ _ _ _ _ _ _ _ _ _ _ _ _ _ _ _ _ _ _ _ _ _ _ _ _ _ _ _ _ _ _ _ _ _ _ _ _ _ _ _ _ _ _ _ _ _ nc hs dl nd q1 q2 q3
/-- what is closed under 'held by' holds all live cells -/
theorem rc_all {Nm : Nat → Prop} {res : Int64} (hm : m ≤ 200) (hA : rc_A fs (fun _ => false) col a_slots a_cellLeft a_cellRight) (hH : (rc_HR m φ col a_cellTag a_cellLeft a_cellRight b_cellTag b_partKind b_partNumber)) (hY : (rc_YW b_partKind b_partNumber m)) (hk : ∀ c, col c = 0 → res = rc_cv c ∨ rc_rf col a_cellLeft a_cellRight c ≠ 0) (h1 : ∀ c, c < 200 → res = rc_cv c → Nm c) (h2 : ∀ d c, col d = 0 → Nm d → c < 200 → (a_cellLeft d = rc_cv c ∨ a_cellRight d = rc_cv c) → Nm c) : ∀ c, col c = 0 → Nm c := by
  have key : ∀ q c, col c = 0 → 200 - φ c ≤ q → Nm c := by
    intro q
    induction q with
    | zero => intro c h0 hq; have := (hH.1 c h0).1; omega
    | succ q ih =>
      intro c h0 hq
      have hc : c < 200 := by have := hA.2.1 c h0; have := hA.1; omega
      have hφc := (hH.1 c h0).1
      rcases hk c h0 with e | e
      · exact h1 c hc e
      · obtain ⟨d, hd, hd0, he⟩ := rc_rf_pos e
        refine h2 d c hd0 (ih d hd0 ?_) hc he
        obtain ⟨hφd, _, v1, v2⟩ := hH.1 d hd0
        rcases he with he | he
        · obtain ⟨q1, q2⟩ := rc_VRc hc v1 he
          obtain ⟨e, he1, he2⟩ := hY (2 * φ d) (by omega) q1
          have ee : φ c = e := rc_n_of (by omega) (by omega) (q2.symm.trans he2)
          omega
        · obtain ⟨q1, q2⟩ := rc_VRc hc v2 he
          obtain ⟨e, he1, he2⟩ := hY (2 * φ d + 1) (by omega) q1
          have ee : φ c = e := rc_n_of (by omega) (by omega) (q2.symm.trans he2)
          omega
  exact fun c h0 => key 200 c h0 (by omega)
theorem rc_ct_k (h1 : ∀ i, i < k → nu i < 200 ∧ col (nu i) = 0) (h2 : ∀ i j, i < k → j < k → nu i = nu j → i = j) (h3 : ∀ c, c < 200 → col c = 0 → ∃ i, i < k ∧ nu i = c) : rc_ct col = k := by
  have b := rc_bij nu k (fun _ => true) (fun d => decide (col d = 0)) 200 (fun i hi _ => ⟨(h1 i hi).1, decide_eq_true (h1 i hi).2⟩) (fun i j hi hj _ _ e => h2 i j hi hj e) (fun d hd hb => by
    obtain ⟨i, hi, e⟩ := h3 d hd (of_decide_eq_true hb)
    exact ⟨i, hi, rfl, e⟩)
  have e3 : rc_sm (fun c => if (fun _ : Nat => true) c = true then 1 else 0) k = k := by
    have : ∀ q, rc_sm (fun c => if (fun _ : Nat => true) c = true then 1 else 0) q = q := fun q => by
      induction q with
      | zero => rfl
      | succ q ih => show rc_sm _ q + 1 = q + 1; rw [ih]
    exact this k
  have e4 : rc_ct col = rc_sm (fun d => if decide (col d = 0) = true then 1 else 0) 200 := rc_sm_c fun i _ => by
    show (if col i = 0 then 1 else 0) = (if decide (col i = 0) = true then 1 else 0)
    by_cases q : col i = 0 <;> simp [q]
  exact e4.trans (b.symm.trans e3)
/-- after the loops: status, and the numbering if the evaluation is done -/
theorem rs_fin_c {r : Int32} (hST : (rc_ST nc hs dl nd f_heapSize f_depthLimit a_nodeKind a_nodeX a_nodeParam a_nodeA a_nodeB a_nodeNext a_nodeElse a_nodeFree a_nodeNeed a_body b_nodeA b_nodeB)) (hFT : (rc_FT nc f_nodeLimit f_nodeCount f_fragmentCount a_fragments)) (hst : g_status = r) (hnum : g_numbered = 0) (hrc : f_resultCells = 0) (h : (r ≠ 10 ∧ g_resKind = 0) ∨ (r = 10 ∧ rc_E10 f_made f_counted f_liveCells f_result a_slots a_cellTag a_cellLeft a_cellRight g_resKind g_resNumber b_cellTag b_partKind b_partNumber)) : ∃ (u' : SX) (v' : SY), rc_REL u' v' ∧ (∀ post : Int32 → SX → Prop, post r u' → rc_X81 post r (f_kindRet, f_kindTail, f_kindBind, f_kindCon, f_kindPrim, f_kindCall, f_kindMatch, f_kindTest, f_cellBase, f_heapSize, f_depthLimit, f_nodeLimit, f_nodeCount, f_fragmentCount, f_frames, f_at, f_deadCount, f_freeHead, f_fresh, f_liveCells, f_spareTotal, f_counted, f_status, f_made, f_reused, f_peak, f_calls, f_result, f_resultCells, a_nodeKind, a_nodeX, a_nodeParam, a_nodeA, a_nodeB, a_nodeNext, a_nodeElse, a_nodeFree, a_nodeNeed, a_fragments, a_body, a_slots, a_waiting, a_spareHead, a_spareCount, a_cellTag, a_cellLeft, a_cellRight, a_holds, a_link, a_dead, a_cellOfNumber, a_numberOfCell, a_places, a_walk)) ∧ (∀ post : Int32 → SY → Prop, post r v' → rc_Y139 post (f_heapSize, f_depthLimit, f_nodeLimit, f_nodeCount, f_fragmentCount, g_frames, f_made, f_counted, f_reused, f_peak, f_calls, g_status, g_resKind, g_resNumber, g_numbered, a_nodeKind, a_nodeX, a_nodeParam, b_nodeA, b_nodeB, a_nodeNext, a_nodeElse, b_scratch, a_fragments, a_body, b_slotKind, b_slotNumber, b_spares, a_waiting, b_cellTag, b_partKind, b_partNumber, b_live, b_order, b_todo)) := by
  subst hst
  rcases h with ⟨hr, hrk⟩ | ⟨hr, m, fs, φ, col, hm, hmade, hA, hH, hY, hfv, hvr, hrun⟩
  · refine ⟨(f_kindRet, f_kindTail, f_kindBind, f_kindCon, f_kindPrim, f_kindCall, f_kindMatch, f_kindTest, f_cellBase, f_heapSize, f_depthLimit, f_nodeLimit, f_nodeCount, f_fragmentCount, f_frames, f_at, f_deadCount, f_freeHead, f_fresh, f_liveCells, f_spareTotal, f_counted, g_status, f_made, f_reused, f_peak, f_calls, f_result, f_resultCells, a_nodeKind, a_nodeX, a_nodeParam, a_nodeA, a_nodeB, a_nodeNext, a_nodeElse, a_nodeFree, a_nodeNeed, a_fragments, a_body, a_slots, a_waiting, a_spareHead, a_spareCount, a_cellTag, a_cellLeft, a_cellRight, a_holds, a_link, a_dead, a_cellOfNumber, a_numberOfCell, a_places, a_walk), (f_heapSize, f_depthLimit, f_nodeLimit, f_nodeCount, f_fragmentCount, g_frames, f_made, f_counted, f_reused, f_peak, f_calls, g_status, g_resKind, g_resNumber, g_numbered, a_nodeKind, a_nodeX, a_nodeParam, b_nodeA, b_nodeB, a_nodeNext, a_nodeElse, b_scratch, a_fragments, a_body, b_slotKind, b_slotNumber, b_spares, a_waiting, b_cellTag, b_partKind, b_partNumber, b_live, b_order, b_todo), rc_REL_mk hST hFT ⟨rfl, Or.inl ⟨hr, hrk, hrc, hnum⟩⟩, fun post hp => br_f hr hp, fun post hp => br_f (by rw [hrk]; decide) hp⟩
  · have hlt : ∀ c, col c = 0 → c < 200 := fun c hc => by have := hA.2.1 c hc; have := hA.1; omega
    obtain ⟨noc, pls, hz, W2⟩ := rx_num_2 (f_kindRet := f_kindRet) (f_kindTail := f_kindTail) (f_kindBind := f_kindBind) (f_kindCon := f_kindCon) (f_kindPrim := f_kindPrim) (f_kindCall := f_kindCall) (f_kindMatch := f_kindMatch) (f_kindTest := f_kindTest) (f_cellBase := f_cellBase) (f_heapSize := f_heapSize) (f_depthLimit := f_depthLimit) (f_nodeLimit := f_nodeLimit) (f_nodeCount := f_nodeCount) (f_fragmentCount := f_fragmentCount) (f_frames := f_frames) (f_at := f_at) (f_deadCount := f_deadCount) (f_freeHead := f_freeHead) (f_fresh := f_fresh) (f_liveCells := f_liveCells) (f_spareTotal := f_spareTotal) (f_counted := f_counted) (f_status := g_status) (f_made := f_made) (f_reused := f_reused) (f_peak := f_peak) (f_calls := f_calls) (f_result := f_result) (f_resultCells := f_resultCells) (a_nodeKind := a_nodeKind) (a_nodeX := a_nodeX) (a_nodeParam := a_nodeParam) (a_nodeA := a_nodeA) (a_nodeB := a_nodeB) (a_nodeNext := a_nodeNext) (a_nodeElse := a_nodeElse) (a_nodeFree := a_nodeFree) (a_nodeNeed := a_nodeNeed) (a_fragments := a_fragments) (a_body := a_body) (a_slots := a_slots) (a_waiting := a_waiting) (a_spareHead := a_spareHead) (a_spareCount := a_spareCount) (a_cellTag := a_cellTag) (a_cellLeft := a_cellLeft) (a_cellRight := a_cellRight) (a_holds := a_holds) (a_link := a_link) (a_dead := a_dead) (a_cellOfNumber := a_cellOfNumber) (a_walk := a_walk) 200 0 rfl a_numberOfCell a_places (fun c hc => by omega)
    rcases hvr with ⟨hk1, he⟩ | ⟨hk2, root, hroot, he, hn⟩
    · refine ⟨(f_kindRet, f_kindTail, f_kindBind, f_kindCon, f_kindPrim, f_kindCall, f_kindMatch, f_kindTest, f_cellBase, f_heapSize, f_depthLimit, f_nodeLimit, f_nodeCount, f_fragmentCount, f_frames, f_at, f_deadCount, f_freeHead, f_fresh, f_liveCells, f_spareTotal, f_counted, g_status, f_made, f_reused, f_peak, f_calls, f_result, 0, a_nodeKind, a_nodeX, a_nodeParam, a_nodeA, a_nodeB, a_nodeNext, a_nodeElse, a_nodeFree, a_nodeNeed, a_fragments, a_body, a_slots, a_waiting, a_spareHead, a_spareCount, a_cellTag, a_cellLeft, a_cellRight, a_holds, a_link, a_dead, a_cellOfNumber, noc, pls, a_walk), (f_heapSize, f_depthLimit, f_nodeLimit, f_nodeCount, f_fragmentCount, g_frames, f_made, f_counted, f_reused, f_peak, f_calls, g_status, g_resKind, g_resNumber, g_numbered, a_nodeKind, a_nodeX, a_nodeParam, b_nodeA, b_nodeB, a_nodeNext, a_nodeElse, b_scratch, a_fragments, a_body, b_slotKind, b_slotNumber, b_spares, a_waiting, b_cellTag, b_partKind, b_partNumber, b_live, b_order, b_todo), rc_REL_mk hST hFT ⟨rfl, Or.inr ⟨hr, Or.inl ⟨hk1, he⟩, 0, id, id, by omega, rfl, hnum, fun i hi => by omega, fun i j hi => by omega, fun i hi => by omega, fun hct => ?_⟩⟩, fun post hp => br_t hr ⟨201, W2 _ 201 (by omega) ?_⟩, fun post hp => br_f (by rw [hk1]; decide) hp⟩
      · rw [(hrun hct).1]
        congr 1
        refine rc_ct_k (nu := id) (fun i hi => by omega) (fun i j hi => by omega) (fun c hc h0 => ?_)
        exact (rc_all (Nm := fun _ => False) (res := f_result) hm hA hH hY (hrun hct).2 (fun c hc e => rc_i_ne _ (by omega) (he.symm.trans e)) (fun _ _ _ w _ _ => w) c h0).elim
      · rw [he]
        exact rx_isCell_i _ (br_t rfl (by rw [← he]; exact hp))
    · have hroot0 : col root = 0 := by
        rcases hfv with ⟨z, e⟩ | ⟨d, hd, hd0, e⟩
        · exact absurd (e.symm.trans he) (rc_i_ne z (by omega))
        · rw [he] at e; rw [rc_cv_inj (by omega) (by omega) e]; exact hd0
      have D0 : rc_DF root φ col a_cellLeft a_cellRight 0 id [root] 0 a_cellOfNumber noc pls (upd a_walk 0 (nI root)) b_order (upd b_todo 0 (nI (φ root))) := by
        refine ⟨by omega, fun i hi => by omega, fun c hc _ => (hz c hc).1, ⟨pk_us, trivial⟩, ⟨pk_us, trivial⟩, fun c hc => ?_, fun c hc => ⟨0, (hz c hc).2, ?_⟩, by simp, fun i hi => by omega, Or.inr ⟨rfl, rfl⟩⟩
        · rw [List.mem_singleton] at hc; subst hc; exact hroot0
        · by_cases e : c = root
          · subst e; simp [rc_sm]
          · rw [if_neg e, List.count_cons_of_ne (Ne.symm e)]; rfl
      obtain ⟨k, nu, rr, con', noc', pls', wk', ord', td', D', WX, WY⟩ := rs_dfs (root := root) (f_kindRet := f_kindRet) (f_kindTail := f_kindTail) (f_kindBind := f_kindBind) (f_kindCon := f_kindCon) (f_kindPrim := f_kindPrim) (f_kindCall := f_kindCall) (f_kindMatch := f_kindMatch) (f_kindTest := f_kindTest) (f_cellBase := f_cellBase) (f_heapSize := f_heapSize) (f_depthLimit := f_depthLimit) (f_nodeLimit := f_nodeLimit) (f_nodeCount := f_nodeCount) (f_fragmentCount := f_fragmentCount) (f_frames := f_frames) (f_at := f_at) (f_deadCount := f_deadCount) (f_freeHead := f_freeHead) (f_fresh := f_fresh) (f_liveCells := f_liveCells) (f_spareTotal := f_spareTotal) (f_counted := f_counted) (f_status := g_status) (f_made := f_made) (f_reused := f_reused) (f_peak := f_peak) (f_calls := f_calls) (f_result := f_result) (a_nodeKind := a_nodeKind) (a_nodeX := a_nodeX) (a_nodeParam := a_nodeParam) (a_nodeA := a_nodeA) (a_nodeB := a_nodeB) (a_nodeNext := a_nodeNext) (a_nodeElse := a_nodeElse) (a_nodeFree := a_nodeFree) (a_nodeNeed := a_nodeNeed) (a_fragments := a_fragments) (a_body := a_body) (a_slots := a_slots) (a_waiting := a_waiting) (a_spareHead := a_spareHead) (a_spareCount := a_spareCount) (a_cellTag := a_cellTag) (a_cellLeft := a_cellLeft) (a_cellRight := a_cellRight) (a_holds := a_holds) (a_link := a_link) (a_dead := a_dead) (g_frames := g_frames) (g_status := g_status) (g_resKind := g_resKind) (g_resNumber := g_resNumber) (b_nodeA := b_nodeA) (b_nodeB := b_nodeB) (b_scratch := b_scratch) (b_slotKind := b_slotKind) (b_slotNumber := b_slotNumber) (b_spares := b_spares) (b_live := b_live) hm hA hH 401 0 id [root] 0 a_cellOfNumber noc pls (upd a_walk 0 (nI root)) b_order (upd b_todo 0 (nI (φ root))) (by simp) D0
      have D1 := D'
      obtain ⟨h1, h2, h3, h4, h5, h6, h7, h8, h9, h10⟩ := D'
      have hkpos : 0 < k ∧ nu 0 = root := by
        rcases h10 with w | ⟨_, w⟩
        · exact w
        · exact absurd w (by simp)
      have hclos : ∀ i, i < k → ∀ c, c < 200 → (a_cellLeft (nu i) = rc_cv c ∨ a_cellRight (nu i) = rc_cv c) → ∃ j, j < k ∧ nu j = c := fun i hi c hc e => by
        rcases h9 i hi c hc e with w | w
        · exact w
        · exact (List.not_mem_nil w).elim
      have hinj : ∀ i j, i < k → j < k → nu i = nu j → i = j := fun i j hi hj e => rc_DF_inj D1 hi hj e
      have hFR : ∀ i, i < k → ∀ (v : Int64) (q n : Int32), rc_FV col v → (∀ c, c < 200 → v = rc_cv c → ∃ j, j < k ∧ nu j = c) → rc_VR φ v q n → rc_FR k nu φ v q n := by
        intro i hi v q n hf hcl hv
        rcases hv with hv | ⟨hq, c, hc, e, en⟩
        · exact Or.inl hv
        · obtain ⟨j, hj, ej⟩ := hcl c hc e
          exact Or.inr ⟨hq, j, hj, by rw [ej]; exact e, by rw [ej]; exact en⟩
      refine ⟨(f_kindRet, f_kindTail, f_kindBind, f_kindCon, f_kindPrim, f_kindCall, f_kindMatch, f_kindTest, f_cellBase, f_heapSize, f_depthLimit, f_nodeLimit, f_nodeCount, f_fragmentCount, f_frames, f_at, f_deadCount, f_freeHead, f_fresh, f_liveCells, f_spareTotal, f_counted, g_status, f_made, f_reused, f_peak, f_calls, f_result, nI k, a_nodeKind, a_nodeX, a_nodeParam, a_nodeA, a_nodeB, a_nodeNext, a_nodeElse, a_nodeFree, a_nodeNeed, a_fragments, a_body, a_slots, a_waiting, a_spareHead, a_spareCount, a_cellTag, a_cellLeft, a_cellRight, a_holds, a_link, a_dead, con', noc', pls', wk'), (f_heapSize, f_depthLimit, f_nodeLimit, f_nodeCount, f_fragmentCount, g_frames, f_made, f_counted, f_reused, f_peak, f_calls, g_status, g_resKind, g_resNumber, nI k, a_nodeKind, a_nodeX, a_nodeParam, b_nodeA, b_nodeB, a_nodeNext, a_nodeElse, b_scratch, a_fragments, a_body, b_slotKind, b_slotNumber, b_spares, a_waiting, b_cellTag, b_partKind, b_partNumber, b_live, ord', td'), rc_REL_mk hST hFT ⟨rfl, Or.inr ⟨hr, Or.inr ⟨hk2, root, hroot, he⟩, k, nu, φ, h1, rfl, rfl, fun i hi => ?_, fun i j hi hj e => ?_, fun i hi => ?_, fun hct => ?_⟩⟩, fun post hp => br_t hr ⟨201, W2 _ 201 (by omega) ?_⟩, fun post hp => br_t hk2 (nm_r (e' := upd b_todo 0 (nI (φ root))) (by rw [hn]) ⟨402, ?_⟩)⟩
      · obtain ⟨a1, a2, a3, a4⟩ := h2 i hi
        obtain ⟨b1, b2, b3, b4⟩ := hH.1 _ a1
        obtain ⟨c1, c2⟩ := hA.2.2.1 _ a1
        exact ⟨hlt _ a1, by omega, a2, a3, a4, b2, hFR i hi _ _ _ c1 (fun c hc e => hclos i hi c hc (Or.inl e)) b3, hFR i hi _ _ _ c2 (fun c hc e => hclos i hi c hc (Or.inr e)) b4⟩
      · exact hinj i j hi hj (hH.2 _ _ (h2 i hi).1 (h2 j hj).1 e)
      · obtain ⟨p, hp, hq⟩ := h7 (nu i) (hlt _ (h2 i hi).1)
        rw [List.count_nil, Nat.add_zero] at hq
        rw [hp, hq]
        congr 2
        by_cases e : i = 0
        · subst e; rw [if_pos rfl, if_pos hkpos.2]
        · rw [if_neg e, if_neg (fun w => e (hinj i 0 hi hkpos.1 (w.trans hkpos.2.symm)))]
      · rw [(hrun hct).1]
        congr 1
        refine rc_ct_k (nu := nu) (fun i hi => ⟨hlt _ (h2 i hi).1, (h2 i hi).1⟩) hinj (fun c hc h0 => ?_)
        refine rc_all (Nm := fun c => ∃ i, i < k ∧ nu i = c) (res := f_result) hm hA hH hY (hrun hct).2 (fun c hc e => ?_) (fun d c hd hN hc e => ?_) c h0
        · exact ⟨0, hkpos.1, hkpos.2.trans (rc_cv_inj (by omega) (by omega) (he.symm.trans e))⟩
        · obtain ⟨i, hi, rfl⟩ := hN
          exact hclos i hi c hc e
      · rw [he]
        refine rx_isCell_c hroot _ (br_f (by decide) (nm_r (e' := upd a_walk 0 (nI root)) (by rw [rc_cv_sub (by omega)]) ⟨402, ?_⟩))
        rw [← he]
        exact WX _ 402 (by omega) hp
      · rw [hnum]
        exact WY _ 402 (by omega) hp
end
theorem rs_fin {r : Int32} {u : SX} {v : SY} (h : rc_EN r u v) : ∃ (u' : SX) (v' : SY), rc_REL u' v' ∧ (∀ post : Int32 → SX → Prop, post r u' → rc_X81 post r u) ∧ (∀ post : Int32 → SY → Prop, post r v' → rc_Y139 post v) := by
  obtain ⟨h1, h2⟩ := h
  revert h2
  refine rc_SA_el (P := fun u v => (match u, v with
  | (f_kindRet, f_kindTail, f_kindBind, f_kindCon, f_kindPrim, f_kindCall, f_kindMatch, f_kindTest, f_cellBase, f_heapSize, f_depthLimit, f_nodeLimit, f_nodeCount, f_fragmentCount, f_frames, f_at, f_deadCount, f_freeHead, f_fresh, f_liveCells, f_spareTotal, f_counted, f_status, f_made, f_reused, f_peak, f_calls, f_result, f_resultCells, a_nodeKind, a_nodeX, a_nodeParam, a_nodeA, a_nodeB, a_nodeNext, a_nodeElse, a_nodeFree, a_nodeNeed, a_fragments, a_body, a_slots, a_waiting, a_spareHead, a_spareCount, a_cellTag, a_cellLeft, a_cellRight, a_holds, a_link, a_dead, a_cellOfNumber, a_numberOfCell, a_places, a_walk), (g_heapSize, g_depthLimit, g_nodeLimit, g_nodeCount, g_fragCount, g_frames, g_made, g_inRun, g_reused, g_peak, g_calls, g_status, g_resKind, g_resNumber, g_numbered, b_nodeKind, b_nodeX, b_nodeT, b_nodeA, b_nodeB, b_nodeNext, b_nodeElse, b_scratch, b_frag, b_body, b_slotKind, b_slotNumber, b_spares, b_waits, b_cellTag, b_partKind, b_partNumber, b_live, b_order, b_todo) => ∃ (nc hs dl : Nat) (nd : Nat → Nat), (rc_ST nc hs dl nd f_heapSize f_depthLimit a_nodeKind a_nodeX a_nodeParam a_nodeA a_nodeB a_nodeNext a_nodeElse a_nodeFree a_nodeNeed a_body b_nodeA b_nodeB) ∧ (rc_FT nc f_nodeLimit f_nodeCount f_fragmentCount a_fragments) ∧ g_status = r ∧ r ≠ 9 ∧ g_numbered = 0 ∧ f_resultCells = 0 ∧ ((r ≠ 10 ∧ g_resKind = 0) ∨ (r = 10 ∧ rc_E10 f_made f_counted f_liveCells f_result a_slots a_cellTag a_cellLeft a_cellRight g_resKind g_resNumber b_cellTag b_partKind b_partNumber))) → ∃ (u' : SX) (v' : SY), rc_REL u' v' ∧ (∀ post : Int32 → SX → Prop, post r u' → rc_X81 post r u) ∧ (∀ post : Int32 → SY → Prop, post r v' → rc_Y139 post v)) h1 ?_
  intro f_kindRet f_kindTail f_kindBind f_kindCon f_kindPrim f_kindCall f_kindMatch f_kindTest f_cellBase f_heapSize f_depthLimit f_nodeLimit f_nodeCount f_fragmentCount f_frames f_at f_deadCount f_freeHead f_fresh f_liveCells f_spareTotal f_counted f_status f_made f_reused f_peak f_calls f_result f_resultCells a_nodeKind a_nodeX a_nodeParam a_nodeA a_nodeB a_nodeNext a_nodeElse a_nodeFree a_nodeNeed a_fragments a_body a_slots a_waiting a_spareHead a_spareCount a_cellTag a_cellLeft a_cellRight a_holds a_link a_dead a_cellOfNumber a_numberOfCell a_places a_walk g_frames g_status g_resKind g_resNumber g_numbered b_nodeA b_nodeB b_scratch b_slotKind b_slotNumber b_spares b_cellTag b_partKind b_partNumber b_live b_order b_todo h2
  obtain ⟨nc, hs, dl, nd, q1, q2, q3, _, q4, q5, q6⟩ := h2
  exact rs_fin_c q1 q2 q3 q4 q5 q6
end
section
section
variable {f_kindRet f_kindTail f_kindBind f_kindCon f_kindPrim f_kindCall f_kindMatch f_kindTest f_heapSize f_depthLimit f_nodeLimit f_nodeCount f_fragmentCount f_frames f_at f_deadCount f_freeHead f_fresh f_liveCells f_spareTotal f_counted f_status f_made f_reused f_peak f_calls f_resultCells : Int32} {f_cellBase f_result : Int64} {a_nodeKind a_nodeX a_nodeParam a_nodeA a_nodeB a_nodeNext a_nodeElse a_nodeFree a_nodeNeed a_fragments a_body a_waiting a_spareHead a_spareCount a_cellTag a_holds a_link a_dead a_cellOfNumber a_numberOfCell a_places a_walk : Nat → Int32} {a_slots a_cellLeft a_cellRight : Nat → Int64}
variable {g_frames g_status g_resKind g_resNumber g_numbered : Int32} {b_nodeA b_nodeB b_scratch b_slotKind b_slotNumber b_spares b_cellTag b_partKind b_partNumber b_live b_order b_todo : Nat → Int32}
variable {nc hs dl : Nat} {nd : Nat → Nat}
theorem rc_ct1 : rc_ct (fun _ => 1) = 0 := rc_sm_z fun _ _ => rfl
theorem rs_init {b : Nat} {p1 p2 p3 : Int32} (hST : (rc_ST nc hs dl nd f_heapSize f_depthLimit a_nodeKind a_nodeX a_nodeParam a_nodeA a_nodeB a_nodeNext a_nodeElse a_nodeFree a_nodeNeed a_body b_nodeA b_nodeB)) (hFT : (rc_FT nc f_nodeLimit f_nodeCount f_fragmentCount a_fragments)) (hb : b < nc) (hbf : ∀ s, 2 ≤ s → s < 12 → bt (a_nodeFree b) s = false) : rc_ER b 0 (f_kindRet, f_kindTail, f_kindBind, f_kindCon, f_kindPrim, f_kindCall, f_kindMatch, f_kindTest, f_cellBase, f_heapSize, f_depthLimit, f_nodeLimit, f_nodeCount, f_fragmentCount, nI 1, nI b, 0, -1, 0, 0, 0, p3, f_status, 0, 0, 0, 0, 0, 0, a_nodeKind, a_nodeX, a_nodeParam, a_nodeA, a_nodeB, a_nodeNext, a_nodeElse, a_nodeFree, a_nodeNeed, a_fragments, a_body, vp_updL (vp_updL a_slots 0 p1.toInt64) 1 p2.toInt64, a_waiting, upd a_spareHead 0 (-1), upd a_spareCount 0 0, a_cellTag, a_cellLeft, a_cellRight, a_holds, a_link, a_dead, a_cellOfNumber, a_numberOfCell, a_places, a_walk) (f_heapSize, f_depthLimit, f_nodeLimit, f_nodeCount, f_fragmentCount, nI 1, 0, p3, 0, 0, 0, 9, 0, 0, 0, a_nodeKind, a_nodeX, a_nodeParam, b_nodeA, b_nodeB, a_nodeNext, a_nodeElse, b_scratch, a_fragments, a_body, upd (upd b_slotKind 0 1) 1 1, upd (upd b_slotNumber 0 p1) 1 p2, upd b_spares 0 0, a_waiting, b_cellTag, b_partKind, b_partNumber, b_live, b_order, b_todo) := by
  have hnc := hST.1
  have hdl := hST.2.2.2.2.2.2.1
  have hown : ∀ i, rc_ow 1 (fun _ => a_nodeFree b) i = true → i = 0 ∨ i = 1 := by
    intro i hi
    obtain ⟨h1, h2⟩ := rc_ow_t hi
    have e : i % 12 = i := by omega
    rw [e] at h2
    rcases Nat.lt_or_ge i 2 with w | w
    · omega
    · rw [hbf i w (by omega)] at h2; exact absurd h2 (by decide)
  refine rc_ER_mk (fr := 1) (m := 0) (ca := 0) (fs := 0) (φ := id) (col := fun _ => 1) (F := []) (S := fun _ => []) (ss := fun _ => a_nodeFree b) ⟨hST, hFT, ⟨by omega, by omega, rfl, rfl, rfl, hb, rfl, by omega, rfl, by omega, by omega, rfl, rfl, rfl, rfl⟩, ⟨rfl, fun f hf => by omega⟩, fun f hf => by omega, fun f hf => ?_, ⟨⟨by omega, fun c hc => absurd hc Nat.one_ne_zero, fun c hc => absurd hc Nat.one_ne_zero, fun i hi ho => ?_⟩, ⟨fun _ => ⟨fun _ => Nat.zero_le _, fun c hc => absurd hc Nat.one_ne_zero, rfl, trivial, List.nodup_nil, rc_mem0 fun c hc => absurd hc Nat.one_ne_zero⟩, fun _ => ⟨rfl, rfl⟩⟩, ⟨⟨rfl, List.nodup_nil, fun c hc => (List.not_mem_nil hc).elim⟩, fun f hf => ?_⟩, rfl, ?_, rfl⟩, fun i hi ho => ?_, ⟨fun c hc => absurd hc Nat.one_ne_zero, fun c d hc => absurd hc Nat.one_ne_zero⟩, fun p hp => by omega, fun _ => ⟨rfl, fun c hc => by omega, rfl, fun _ _ => rfl, rfl⟩, fun _ => ?_, ?_⟩
  · have : f = 0 := by omega
    subst this; exact pk_us
  · rcases hown i ho with e | e
    · subst e; rw [pk_uLn (by decide), pk_uLs]; exact Or.inl ⟨_, rfl⟩
    · subst e; rw [pk_uLs]; exact Or.inl ⟨_, rfl⟩
  · have : f = 0 := by omega
    subst this
    rw [pk_us, pk_us]
    exact ⟨⟨rfl, List.nodup_nil, fun c hc => (List.not_mem_nil hc).elim⟩, rfl⟩
  · rw [rc_ct1]; rfl
  · rcases hown i ho with e | e
    · subst e; rw [pk_uLn (by decide), pk_uLs, pk_un (by decide), pk_us, pk_un (by decide), pk_us]; exact Or.inl ⟨rfl, rfl⟩
    · subst e; rw [pk_uLs, pk_us, pk_us]; exact Or.inl ⟨rfl, rfl⟩
  · rw [rc_ct1]; exact Nat.zero_le _
  · unfold rc_ME
    show b + 1 + 0 + 48 * (200 - 0) + 0 ≤ 9648
    omega
theorem rs_eval_c {p0 p1 p2 p3 : Int32} (hp3 : p3 = 0 ∨ p3 = 1) (hST : (rc_ST nc hs dl nd f_heapSize f_depthLimit a_nodeKind a_nodeX a_nodeParam a_nodeA a_nodeB a_nodeNext a_nodeElse a_nodeFree a_nodeNeed a_body b_nodeA b_nodeB)) (hFT : (rc_FT nc f_nodeLimit f_nodeCount f_fragmentCount a_fragments)) (hRR : (rc_RR f_status f_result f_resultCells f_counted f_liveCells a_cellTag a_cellLeft a_cellRight a_cellOfNumber a_numberOfCell a_places g_status g_resKind g_resNumber g_numbered b_cellTag b_partKind b_partNumber b_order)) : ∃ (r : Int32) (u' : SX) (v' : SY), rc_REL u' v' ∧ (∀ post : Int32 → SX → Prop, post r u' → wpX_evaluate post (f_kindRet, f_kindTail, f_kindBind, f_kindCon, f_kindPrim, f_kindCall, f_kindMatch, f_kindTest, f_cellBase, f_heapSize, f_depthLimit, f_nodeLimit, f_nodeCount, f_fragmentCount, f_frames, f_at, f_deadCount, f_freeHead, f_fresh, f_liveCells, f_spareTotal, f_counted, f_status, f_made, f_reused, f_peak, f_calls, f_result, f_resultCells, a_nodeKind, a_nodeX, a_nodeParam, a_nodeA, a_nodeB, a_nodeNext, a_nodeElse, a_nodeFree, a_nodeNeed, a_fragments, a_body, a_slots, a_waiting, a_spareHead, a_spareCount, a_cellTag, a_cellLeft, a_cellRight, a_holds, a_link, a_dead, a_cellOfNumber, a_numberOfCell, a_places, a_walk) p0 p1 p2 p3) ∧ (∀ post : Int32 → SY → Prop, post r v' → wpY_evaluate post (f_heapSize, f_depthLimit, f_nodeLimit, f_nodeCount, f_fragmentCount, g_frames, f_made, f_counted, f_reused, f_peak, f_calls, g_status, g_resKind, g_resNumber, g_numbered, a_nodeKind, a_nodeX, a_nodeParam, b_nodeA, b_nodeB, a_nodeNext, a_nodeElse, b_scratch, a_fragments, a_body, b_slotKind, b_slotNumber, b_spares, a_waiting, b_cellTag, b_partKind, b_partNumber, b_live, b_order, b_todo) p0 p1 p2 p3) := by
  have hnc := hST.1
  have R0 := rc_REL_mk (g_frames := g_frames) (b_scratch := b_scratch) (b_slotKind := b_slotKind) (b_slotNumber := b_slotNumber) (b_spares := b_spares) (b_live := b_live) (b_todo := b_todo) (f_kindRet := f_kindRet) (f_kindTail := f_kindTail) (f_kindBind := f_kindBind) (f_kindCon := f_kindCon) (f_kindPrim := f_kindPrim) (f_kindCall := f_kindCall) (f_kindMatch := f_kindMatch) (f_kindTest := f_kindTest) (f_cellBase := f_cellBase) (f_heapSize := f_heapSize) (f_depthLimit := f_depthLimit) (f_nodeLimit := f_nodeLimit) (f_nodeCount := f_nodeCount) (f_fragmentCount := f_fragmentCount) (f_frames := f_frames) (f_at := f_at) (f_deadCount := f_deadCount) (f_freeHead := f_freeHead) (f_fresh := f_fresh) (f_liveCells := f_liveCells) (f_spareTotal := f_spareTotal) (f_counted := f_counted) (f_status := f_status) (f_made := f_made) (f_reused := f_reused) (f_peak := f_peak) (f_calls := f_calls) (f_result := f_result) (f_resultCells := f_resultCells) (a_nodeKind := a_nodeKind) (a_nodeX := a_nodeX) (a_nodeParam := a_nodeParam) (a_nodeA := a_nodeA) (a_nodeB := a_nodeB) (a_nodeNext := a_nodeNext) (a_nodeElse := a_nodeElse) (a_nodeFree := a_nodeFree) (a_nodeNeed := a_nodeNeed) (a_fragments := a_fragments) (a_body := a_body) (a_slots := a_slots) (a_waiting := a_waiting) (a_spareHead := a_spareHead) (a_spareCount := a_spareCount) (a_cellTag := a_cellTag) (a_cellLeft := a_cellLeft) (a_cellRight := a_cellRight) (a_holds := a_holds) (a_link := a_link) (a_dead := a_dead) (a_cellOfNumber := a_cellOfNumber) (a_numberOfCell := a_numberOfCell) (a_places := a_places) (a_walk := a_walk) hST hFT hRR
  rcases pk_ix p0 (n := 8) (by decide) with h | h | ⟨g, hg, rfl⟩
  · exact ⟨1, _, _, R0, fun post hp => br_t h (br_t rfl hp), fun post hp => br_t h hp⟩
  · have h0 : ¬ p0 < 0 := fun w => absurd (Int32.lt_of_le_of_lt h w) (by decide)
    exact ⟨1, _, _, R0, fun post hp => br_f h0 (br_t h (br_t rfl hp)), fun post hp => br_f h0 (br_f (fun w => Int32.not_le.mpr w h) hp)⟩
  · have h0 : ¬ nI g < 0 := nI_pos (by omega)
    have h8 : ¬ (8 : Int32) ≤ nI g := nI_ge (b := 8) hg (by decide)
    have h8' : nI g < 8 := nI_lt (b := 8) hg (by decide)
    have hin : vp_in (nI g) 8 := vp_in_nI hg (by decide)
    have eg : (nI g).toNatClampNeg = g := nI_clamp (by omega)
    rcases hST.2.2.2.2.2.2.2.2 g hg with hb | ⟨b, hb, hbe, hbf⟩
    · refine ⟨6, _, _, R0, fun post hp => br_f h0 (br_f h8 (br_f (by decide) ⟨hin, br_f ?_ hp⟩)), fun post hp => br_f h0 (br_t h8' ⟨hin, br_f ?_ hp⟩)⟩
      · rw [eg, hb]; decide
      · rw [eg, hb]; decide
    · have hb0 : (0 : Int32) ≤ a_body (nI g).toNatClampNeg := by rw [eg, hbe]; exact nI_pos' (by omega)
      have ER0 := rs_init (p1 := p1) (p2 := p2) (p3 := p3) (b := b) (f_kindRet := f_kindRet) (f_kindTail := f_kindTail) (f_kindBind := f_kindBind) (f_kindCon := f_kindCon) (f_kindPrim := f_kindPrim) (f_kindCall := f_kindCall) (f_kindMatch := f_kindMatch) (f_kindTest := f_kindTest) (f_cellBase := f_cellBase) (f_heapSize := f_heapSize) (f_depthLimit := f_depthLimit) (f_nodeLimit := f_nodeLimit) (f_nodeCount := f_nodeCount) (f_fragmentCount := f_fragmentCount) (f_status := f_status) (a_nodeKind := a_nodeKind) (a_nodeX := a_nodeX) (a_nodeParam := a_nodeParam) (a_nodeA := a_nodeA) (a_nodeB := a_nodeB) (a_nodeNext := a_nodeNext) (a_nodeElse := a_nodeElse) (a_nodeFree := a_nodeFree) (a_nodeNeed := a_nodeNeed) (a_fragments := a_fragments) (a_body := a_body) (a_slots := a_slots) (a_waiting := a_waiting) (a_spareHead := a_spareHead) (a_spareCount := a_spareCount) (a_cellTag := a_cellTag) (a_cellLeft := a_cellLeft) (a_cellRight := a_cellRight) (a_holds := a_holds) (a_link := a_link) (a_dead := a_dead) (a_cellOfNumber := a_cellOfNumber) (a_numberOfCell := a_numberOfCell) (a_places := a_places) (a_walk := a_walk) (b_scratch := b_scratch) (b_slotKind := b_slotKind) (b_slotNumber := b_slotNumber) (b_spares := b_spares) (b_cellTag := b_cellTag) (b_partKind := b_partKind) (b_partNumber := b_partNumber) (b_live := b_live) (b_order := b_order) (b_todo := b_todo) hST hFT hb hbf
      obtain ⟨r, u1, v1, hr, E1, X1, Y1⟩ := rs_loop 9648 b 0 _ _ ER0 (by omega)
      obtain ⟨u2, v2, R2, X2, Y2⟩ := rs_fin E1
      have hnar : narrow .boolean (.int p3) = .int p3 := by rcases hp3 with rfl | rfl <;> rfl
      have hfit : fits .boolean (.int p3) = true := by rcases hp3 with rfl | rfl <;> rfl
      refine ⟨r, u2, v2, R2, fun post hp => br_f h0 (br_f h8 (br_f (by decide) ⟨hin, br_t hb0 ⟨hnar, hfit, ?_⟩⟩)), fun post hp => br_f h0 (br_t h8' ⟨hin, br_t hb0 ⟨hnar, hfit, nm_e ?_⟩⟩)⟩
      · refine rx_openFrame (fr := 0) rfl (by omega) _ ⟨hin, ?_⟩
        rw [eg, hbe]
        exact rx_enter (top := 0) rfl (by omega) _ ⟨9650, X1 post 9650 (by omega) (X2 post hp)⟩
      · refine ry_put (top := 0) (x := 0) (by omega) rfl (by omega) _ (ry_put (top := 0) (x := 1) (by omega) rfl (by omega) _ ⟨hin, nm_r (e' := nI b) (by rw [eg]; exact hbe) ⟨9650, Y1 post 9650 (by omega) (Y2 post hp)⟩⟩)
end
theorem rs_eval {u : SX} {v : SY} {p0 p1 p2 p3 : Int32} (hp3 : p3 = 0 ∨ p3 = 1) (h : rc_REL u v) : ∃ (r : Int32) (u' : SX) (v' : SY), rc_REL u' v' ∧ (∀ post : Int32 → SX → Prop, post r u' → wpX_evaluate post u p0 p1 p2 p3) ∧ (∀ post : Int32 → SY → Prop, post r v' → wpY_evaluate post v p0 p1 p2 p3) :=
  rc_REL_el (P := fun u v => ∃ (r : Int32) (u' : SX) (v' : SY), rc_REL u' v' ∧ (∀ post : Int32 → SX → Prop, post r u' → wpX_evaluate post u p0 p1 p2 p3) ∧ (∀ post : Int32 → SY → Prop, post r v' → wpY_evaluate post v p0 p1 p2 p3)) h (fun f_kindRet f_kindTail f_kindBind f_kindCon f_kindPrim f_kindCall f_kindMatch f_kindTest f_cellBase f_heapSize f_depthLimit f_nodeLimit f_nodeCount f_fragmentCount f_frames f_at f_deadCount f_freeHead f_fresh f_liveCells f_spareTotal f_counted f_status f_made f_reused f_peak f_calls f_result f_resultCells a_nodeKind a_nodeX a_nodeParam a_nodeA a_nodeB a_nodeNext a_nodeElse a_nodeFree a_nodeNeed a_fragments a_body a_slots a_waiting a_spareHead a_spareCount a_cellTag a_cellLeft a_cellRight a_holds a_link a_dead a_cellOfNumber a_numberOfCell a_places a_walk g_frames g_status g_resKind g_resNumber g_numbered b_nodeA b_nodeB b_scratch b_slotKind b_slotNumber b_spares b_cellTag b_partKind b_partNumber b_live b_order b_todo nc hs dl nd h1 h2 h3 => rs_eval_c hp3 h1 h2 h3)
end
section
section
variable {nd nd' : Nat → Nat} {kd xx pm na nb nx el fe ya yb kd' xx' pm' na' nb' nx' el' fe' ya' yb' : Nat → Int32} {i : Nat}
theorem rc_ND_ext (h : ∀ j, j ≤ i → nd' j = nd j ∧ kd' j = kd j ∧ xx' j = xx j ∧ pm' j = pm j ∧ na' j = na j ∧ nb' j = nb j ∧ nx' j = nx j ∧ el' j = el j ∧ fe' j = fe j ∧ ya' j = ya j ∧ yb' j = yb j) (H : rc_ND nd kd xx pm na nb nx el fe ya yb i) : rc_ND nd' kd' xx' pm' na' nb' nx' el' fe' ya' yb' i := by
  obtain ⟨e0, e1, e2, e3, e4, e5, e6, e7, e8, e9, e10⟩ := h i (Nat.le_refl _)
  obtain ⟨h1, x, hx, hxx, hN⟩ := H
  refine ⟨by rw [e0]; exact h1, x, hx, by rw [e2]; exact hxx, ?_⟩
  rcases hN with ⟨a1, a2, a3, a4, a5, ⟨a6, a6'⟩, a7, a8, a9, a10⟩ | ⟨a1, a2, a3, a4, a5, ⟨a6, a6'⟩, a7, j, hj, a8, a9, a10⟩ | ⟨a1, y, z, j, e, hy, hz, n1, n2, n3, a2, a3, a4, a5, hj, he, a6, a7, a8, a9⟩ | ⟨a1, a2, a3, j, e, hj, he, a6, a7, a8, a9⟩
  · left
    unfold rc_ND0 rc_P0
    rw [e0, e1, e3, e4, e5, e6, e7, e8, e9, e10]
    exact ⟨a1, a2, a3, a4, a5, ⟨a6, a6'⟩, a7, a8, a9, a10⟩
  · right; left
    obtain ⟨q0, _, _, _, _, _, _, _, q8, _⟩ := h j (by omega)
    unfold rc_ND2 rc_PM
    rw [e0, e1, e3, e4, e5, e6, e7, e8, e9, e10]
    exact ⟨a1, a2, a3, a4, a5, ⟨a6, a6'⟩, a7, j, hj, a8, by rw [q8]; exact a9, by rw [q0]; exact a10⟩
  · right; right; left
    obtain ⟨q0, _, _, _, _, _, _, _, q8, _⟩ := h j (by omega)
    obtain ⟨s0, _, _, _, _, _, _, _, s8, _⟩ := h e (by omega)
    unfold rc_ND6
    rw [e0, e1, e4, e5, e6, e7, e8, e9, e10]
    exact ⟨a1, y, z, j, e, hy, hz, n1, n2, n3, a2, a3, a4, a5, hj, he, a6, a7, by rw [q8, s8]; exact a8, by rw [q0, s0]; exact a9⟩
  · right; right; right
    obtain ⟨q0, _, _, _, _, _, _, _, q8, _⟩ := h j (by omega)
    obtain ⟨s0, _, _, _, _, _, _, _, s8, _⟩ := h e (by omega)
    unfold rc_ND7
    rw [e0, e1, e6, e7, e8, e9, e10]
    exact ⟨a1, a2, a3, j, e, hj, he, a6, a7, by rw [q8, s8]; exact a8, by rw [q0, s0]; exact a9⟩
end
section
variable {f_kindRet f_kindTail f_kindBind f_kindCon f_kindPrim f_kindCall f_kindMatch f_kindTest f_heapSize f_depthLimit f_nodeLimit f_nodeCount f_fragmentCount f_frames f_at f_deadCount f_freeHead f_fresh f_liveCells f_spareTotal f_counted f_status f_made f_reused f_peak f_calls f_resultCells : Int32} {f_cellBase f_result : Int64} {a_nodeKind a_nodeX a_nodeParam a_nodeA a_nodeB a_nodeNext a_nodeElse a_nodeFree a_nodeNeed a_fragments a_body a_waiting a_spareHead a_spareCount a_cellTag a_holds a_link a_dead a_cellOfNumber a_numberOfCell a_places a_walk : Nat → Int32} {a_slots a_cellLeft a_cellRight : Nat → Int64}
variable {g_frames g_status g_resKind g_resNumber g_numbered : Int32} {b_nodeA b_nodeB b_scratch b_slotKind b_slotNumber b_spares b_cellTag b_partKind b_partNumber b_live b_order b_todo : Nat → Int32}
variable {nc hs dl : Nat} {nd : Nat → Nat}
/-- one node more -/
theorem rc_ST_add {q : Nat} {K X P A B N L Fe Ya Yb : Int32} (hnc : nc < 48) (hST : (rc_ST nc hs dl nd f_heapSize f_depthLimit a_nodeKind a_nodeX a_nodeParam a_nodeA a_nodeB a_nodeNext a_nodeElse a_nodeFree a_nodeNeed a_body b_nodeA b_nodeB)) (hnew : rc_ND (rc_up nd nc q) (upd a_nodeKind nc K) (upd a_nodeX nc X) (upd a_nodeParam nc P) (upd a_nodeA nc A) (upd a_nodeB nc B) (upd a_nodeNext nc N) (upd a_nodeElse nc L) (upd a_nodeFree nc Fe) (upd b_nodeA nc Ya) (upd b_nodeB nc Yb) nc) : (rc_ST (nc + 1) hs dl (rc_up nd nc q) f_heapSize f_depthLimit (upd a_nodeKind nc K) (upd a_nodeX nc X) (upd a_nodeParam nc P) (upd a_nodeA nc A) (upd a_nodeB nc B) (upd a_nodeNext nc N) (upd a_nodeElse nc L) (upd a_nodeFree nc Fe) (upd a_nodeNeed nc (nI q)) a_body (upd b_nodeA nc Ya) (upd b_nodeB nc Yb)) := by
  obtain ⟨h1, h2, h3, h4, h5, h6, h7, h8, h9⟩ := hST
  refine ⟨by omega, fun i hi => ?_, fun i hi => ?_, h4, h5, h6, h7, h8, fun f hf => ?_⟩
  · by_cases e : i = nc
    · subst e; exact hnew
    · refine rc_ND_ext (fun j hj => ?_) (h2 i (by omega))
      have hne : j ≠ nc := by omega
      exact ⟨rc_up_n hne, pk_un hne, pk_un hne, pk_un hne, pk_un hne, pk_un hne, pk_un hne, pk_un hne, pk_un hne, pk_un hne, pk_un hne⟩
  · by_cases e : i = nc
    · subst e; rw [pk_us, rc_up_s]
    · rw [pk_un e, rc_up_n e]; exact h3 i (by omega)
  · rcases h9 f hf with w | ⟨b, hb, hbe, hbf⟩
    · exact Or.inl w
    · exact Or.inr ⟨b, by omega, hbe, fun s h2 h12 => by rw [pk_un (by omega)]; exact hbf s h2 h12⟩
theorem rx_makeNode {p0 p1 p2 p3 p4 p5 p6 : Int32} (hn : f_nodeCount = nI nc) (hnc : nc < 48) (post : Int32 → SX → Prop) (hp : post (nI nc) (f_kindRet, f_kindTail, f_kindBind, f_kindCon, f_kindPrim, f_kindCall, f_kindMatch, f_kindTest, f_cellBase, f_heapSize, f_depthLimit, f_nodeLimit, nI (nc + 1), f_fragmentCount, f_frames, f_at, f_deadCount, f_freeHead, f_fresh, f_liveCells, f_spareTotal, f_counted, f_status, f_made, f_reused, f_peak, f_calls, f_result, f_resultCells, upd a_nodeKind nc p0, upd a_nodeX nc p1, upd a_nodeParam nc p2, upd a_nodeA nc p3, upd a_nodeB nc p4, upd a_nodeNext nc p5, upd a_nodeElse nc p6, a_nodeFree, a_nodeNeed, a_fragments, a_body, a_slots, a_waiting, a_spareHead, a_spareCount, a_cellTag, a_cellLeft, a_cellRight, a_holds, a_link, a_dead, a_cellOfNumber, a_numberOfCell, a_places, a_walk)) : wpX_makeNode post (f_kindRet, f_kindTail, f_kindBind, f_kindCon, f_kindPrim, f_kindCall, f_kindMatch, f_kindTest, f_cellBase, f_heapSize, f_depthLimit, f_nodeLimit, f_nodeCount, f_fragmentCount, f_frames, f_at, f_deadCount, f_freeHead, f_fresh, f_liveCells, f_spareTotal, f_counted, f_status, f_made, f_reused, f_peak, f_calls, f_result, f_resultCells, a_nodeKind, a_nodeX, a_nodeParam, a_nodeA, a_nodeB, a_nodeNext, a_nodeElse, a_nodeFree, a_nodeNeed, a_fragments, a_body, a_slots, a_waiting, a_spareHead, a_spareCount, a_cellTag, a_cellLeft, a_cellRight, a_holds, a_link, a_dead, a_cellOfNumber, a_numberOfCell, a_places, a_walk) p0 p1 p2 p3 p4 p5 p6 := by
  subst hn
  have hin : vp_in (nI nc) 48 := vp_in_nI hnc (by decide)
  have e : (nI nc).toNatClampNeg = nc := nI_clamp (by omega)
  exact ⟨hin, nm_r (by rw [e]) ⟨hin, nm_r (by rw [e]) ⟨hin, nm_r (by rw [e]) ⟨hin, nm_r (by rw [e]) ⟨hin, nm_r (by rw [e]) ⟨hin, nm_r (by rw [e]) ⟨hin, nm_r (by rw [e]) (nm_r (nI_1 nc) hp)⟩⟩⟩⟩⟩⟩⟩
theorem rx_slotBit {o : Int32} (post : Int32 → Prop) (hp : post (rc_bit o)) : wpX_slotBit post (f_kindRet, f_kindTail, f_kindBind, f_kindCon, f_kindPrim, f_kindCall, f_kindMatch, f_kindTest, f_cellBase, f_heapSize, f_depthLimit, f_nodeLimit, f_nodeCount, f_fragmentCount, f_frames, f_at, f_deadCount, f_freeHead, f_fresh, f_liveCells, f_spareTotal, f_counted, f_status, f_made, f_reused, f_peak, f_calls, f_result, f_resultCells, a_nodeKind, a_nodeX, a_nodeParam, a_nodeA, a_nodeB, a_nodeNext, a_nodeElse, a_nodeFree, a_nodeNeed, a_fragments, a_body, a_slots, a_waiting, a_spareHead, a_spareCount, a_cellTag, a_cellLeft, a_cellRight, a_holds, a_link, a_dead, a_cellOfNumber, a_numberOfCell, a_places, a_walk) o := by
  unfold rc_bit at hp
  by_cases h : o < 0
  · rw [if_pos h] at hp; exact br_f (fun w => Int32.not_le.mpr h w) hp
  · rw [if_neg h] at hp; exact br_t (Int32.not_lt.mp h) hp
theorem ry_feed {K : Int32} {t : Nat} (ht : (t = 0 ∧ (K = 0 ∨ K = 1)) ∨ (t = 1 ∧ (K = 2 ∨ K = 3 ∨ K = 4 ∨ K = 5)) ∨ (t = 2 ∧ (K = 6 ∨ K = 7))) {p1 p2 p3 p4 : Int32} (post : Int32 → SY → Prop) (hp : wY_feed_19 post K p1 p2 p3 p4 (nI t) f_heapSize f_depthLimit f_nodeLimit f_nodeCount f_fragmentCount g_frames f_made f_counted f_reused f_peak f_calls g_status g_resKind g_resNumber g_numbered a_nodeKind a_nodeX a_nodeParam b_nodeA b_nodeB a_nodeNext a_nodeElse b_scratch a_fragments a_body b_slotKind b_slotNumber b_spares a_waiting b_cellTag b_partKind b_partNumber b_live b_order b_todo) : wpY_feed post (f_heapSize, f_depthLimit, f_nodeLimit, f_nodeCount, f_fragmentCount, g_frames, f_made, f_counted, f_reused, f_peak, f_calls, g_status, g_resKind, g_resNumber, g_numbered, a_nodeKind, a_nodeX, a_nodeParam, b_nodeA, b_nodeB, a_nodeNext, a_nodeElse, b_scratch, a_fragments, a_body, b_slotKind, b_slotNumber, b_spares, a_waiting, b_cellTag, b_partKind, b_partNumber, b_live, b_order, b_todo) K p1 p2 p3 p4 := by
  rcases ht with ⟨rfl, rfl | rfl⟩ | ⟨rfl, rfl | rfl | rfl | rfl⟩ | ⟨rfl, rfl | rfl⟩
  · exact br_f (by decide) hp
  · exact br_f (by decide) hp
  · exact br_t (by decide) (br_f (by decide) hp)
  · exact br_t (by decide) (br_f (by decide) hp)
  · exact br_t (by decide) (br_f (by decide) hp)
  · exact br_t (by decide) (br_f (by decide) hp)
  · exact br_t (by decide) (br_t (by decide) hp)
  · exact br_t (by decide) (br_t (by decide) hp)
/-- RET and TAIL nodes -/
theorem rs_leaf {K P A B : Int32} (hK : K = 0 ∨ K = 1) (hoa : rc_op A) (hob : rc_op B) (hP1 : K = 1 → ∃ f, f < 8 ∧ P = nI f) (hP2 : K = 0 → B = -1) (hST : (rc_ST nc hs dl nd f_heapSize f_depthLimit a_nodeKind a_nodeX a_nodeParam a_nodeA a_nodeB a_nodeNext a_nodeElse a_nodeFree a_nodeNeed a_body b_nodeA b_nodeB)) (hFT : (rc_FT nc f_nodeLimit f_nodeCount f_fragmentCount a_fragments)) (hRR : (rc_RR f_status f_result f_resultCells f_counted f_liveCells a_cellTag a_cellLeft a_cellRight a_cellOfNumber a_numberOfCell a_places g_status g_resKind g_resNumber g_numbered b_cellTag b_partKind b_partNumber b_order)) : ∃ (r : Int32) (u' : SX) (v' : SY), rc_REL u' v' ∧ (∀ post : Int32 → SX → Prop, post r u' → wpX_leaf post (f_kindRet, f_kindTail, f_kindBind, f_kindCon, f_kindPrim, f_kindCall, f_kindMatch, f_kindTest, f_cellBase, f_heapSize, f_depthLimit, f_nodeLimit, f_nodeCount, f_fragmentCount, f_frames, f_at, f_deadCount, f_freeHead, f_fresh, f_liveCells, f_spareTotal, f_counted, f_status, f_made, f_reused, f_peak, f_calls, f_result, f_resultCells, a_nodeKind, a_nodeX, a_nodeParam, a_nodeA, a_nodeB, a_nodeNext, a_nodeElse, a_nodeFree, a_nodeNeed, a_fragments, a_body, a_slots, a_waiting, a_spareHead, a_spareCount, a_cellTag, a_cellLeft, a_cellRight, a_holds, a_link, a_dead, a_cellOfNumber, a_numberOfCell, a_places, a_walk) K P A B) ∧ (∀ post : Int32 → SY → Prop, post r v' → wpY_feed post (f_heapSize, f_depthLimit, f_nodeLimit, f_nodeCount, f_fragmentCount, g_frames, f_made, f_counted, f_reused, f_peak, f_calls, g_status, g_resKind, g_resNumber, g_numbered, a_nodeKind, a_nodeX, a_nodeParam, b_nodeA, b_nodeB, a_nodeNext, a_nodeElse, b_scratch, a_fragments, a_body, b_slotKind, b_slotNumber, b_spares, a_waiting, b_cellTag, b_partKind, b_partNumber, b_live, b_order, b_todo) K 0 P A B) := by
  have R0 := rc_REL_mk (g_frames := g_frames) (b_scratch := b_scratch) (b_slotKind := b_slotKind) (b_slotNumber := b_slotNumber) (b_spares := b_spares) (b_live := b_live) (b_todo := b_todo) (f_kindRet := f_kindRet) (f_kindTail := f_kindTail) (f_kindBind := f_kindBind) (f_kindCon := f_kindCon) (f_kindPrim := f_kindPrim) (f_kindCall := f_kindCall) (f_kindMatch := f_kindMatch) (f_kindTest := f_kindTest) (f_cellBase := f_cellBase) (f_heapSize := f_heapSize) (f_depthLimit := f_depthLimit) (f_nodeLimit := f_nodeLimit) (f_nodeCount := f_nodeCount) (f_fragmentCount := f_fragmentCount) (f_frames := f_frames) (f_at := f_at) (f_deadCount := f_deadCount) (f_freeHead := f_freeHead) (f_fresh := f_fresh) (f_liveCells := f_liveCells) (f_spareTotal := f_spareTotal) (f_counted := f_counted) (f_status := f_status) (f_made := f_made) (f_reused := f_reused) (f_peak := f_peak) (f_calls := f_calls) (f_result := f_result) (f_resultCells := f_resultCells) (a_nodeKind := a_nodeKind) (a_nodeX := a_nodeX) (a_nodeParam := a_nodeParam) (a_nodeA := a_nodeA) (a_nodeB := a_nodeB) (a_nodeNext := a_nodeNext) (a_nodeElse := a_nodeElse) (a_nodeFree := a_nodeFree) (a_nodeNeed := a_nodeNeed) (a_fragments := a_fragments) (a_body := a_body) (a_slots := a_slots) (a_waiting := a_waiting) (a_spareHead := a_spareHead) (a_spareCount := a_spareCount) (a_cellTag := a_cellTag) (a_cellLeft := a_cellLeft) (a_cellRight := a_cellRight) (a_holds := a_holds) (a_link := a_link) (a_dead := a_dead) (a_cellOfNumber := a_cellOfNumber) (a_numberOfCell := a_numberOfCell) (a_places := a_places) (a_walk := a_walk) hST hFT hRR
  obtain ⟨hn, nl, fc, hnl, hnl48, hl, hfc, hf, hfr⟩ := hFT
  have hg0 : nI 0 ≤ f_fragmentCount := by rw [hf]; exact nI_le (Nat.zero_le _) (by omega)
  by_cases h1 : nl ≤ nc
  · have w : f_nodeLimit ≤ f_nodeCount := by rw [hl, hn]; exact nI_le h1 (by omega)
    exact ⟨3, _, _, R0, fun post hp => br_t w hp, fun post hp => ry_feed (Or.inl ⟨rfl, hK⟩) post (br_t hg0 (br_t w hp))⟩
  · have w : ¬ f_nodeLimit ≤ f_nodeCount := by rw [hl, hn]; exact nI_ge (by omega) (by omega)
    have e0 : f_fragmentCount - nI 0 = f_fragmentCount := by rw [hf]; exact pk_sub (Nat.zero_le _)
    by_cases h2 : fc < 16
    · have w2 : f_fragmentCount < 16 := by rw [hf]; exact nI_lt (b := 16) h2 (by decide)
      have hin : vp_in (nI nc) 48 := vp_in_nI (by omega) (by decide)
      have en : (nI nc).toNatClampNeg = nc := nI_clamp (by omega)
      have hST' := rc_ST_add (q := 0) (K := K) (X := nI 0) (P := P) (A := A) (B := B) (N := -1) (L := -1) (Fe := rc_bit A ||| rc_bit B) (Ya := A) (Yb := B) (by omega) hST ⟨by rw [rc_up_s]; omega, 0, by omega, pk_us, Or.inl ⟨by rw [pk_us]; exact hK, by rw [pk_us, pk_us], by rw [pk_us, pk_us], by rw [pk_us]; exact hoa, by rw [pk_us]; exact hob, ⟨by rw [pk_us, pk_us]; exact hP1, by rw [pk_us, pk_us]; exact hP2⟩, pk_us, pk_us, by rw [pk_us, pk_us, pk_us], rc_up_s⟩⟩
      refine ⟨0, (f_kindRet, f_kindTail, f_kindBind, f_kindCon, f_kindPrim, f_kindCall, f_kindMatch, f_kindTest, f_cellBase, f_heapSize, f_depthLimit, f_nodeLimit, nI (nc + 1), nI (fc + 1), f_frames, f_at, f_deadCount, f_freeHead, f_fresh, f_liveCells, f_spareTotal, f_counted, f_status, f_made, f_reused, f_peak, f_calls, f_result, f_resultCells, upd a_nodeKind nc K, upd a_nodeX nc (nI 0), upd a_nodeParam nc P, upd a_nodeA nc A, upd a_nodeB nc B, upd a_nodeNext nc (-1), upd a_nodeElse nc (-1), upd a_nodeFree nc (rc_bit A ||| rc_bit B), upd a_nodeNeed nc (nI 0), upd a_fragments fc (nI nc), a_body, a_slots, a_waiting, a_spareHead, a_spareCount, a_cellTag, a_cellLeft, a_cellRight, a_holds, a_link, a_dead, a_cellOfNumber, a_numberOfCell, a_places, a_walk), (f_heapSize, f_depthLimit, f_nodeLimit, nI (nc + 1), nI (fc + 1), g_frames, f_made, f_counted, f_reused, f_peak, f_calls, g_status, g_resKind, g_resNumber, g_numbered, upd a_nodeKind nc K, upd a_nodeX nc (nI 0), upd a_nodeParam nc P, upd b_nodeA nc A, upd b_nodeB nc B, upd a_nodeNext nc (-1), upd a_nodeElse nc (-1), b_scratch, upd a_fragments fc (nI nc), a_body, b_slotKind, b_slotNumber, b_spares, a_waiting, b_cellTag, b_partKind, b_partNumber, b_live, b_order, b_todo), rc_REL_mk hST' ⟨rfl, nl, fc + 1, by omega, hnl48, hl, by omega, rfl, fun i hi => ?_⟩ hRR, fun post hp => ?_, fun post hp => ?_⟩
      · by_cases e : i = fc
        · subst e; exact ⟨nc, by omega, pk_us⟩
        · obtain ⟨b, hb, hbe⟩ := hfr i (by omega)
          exact ⟨b, by omega, by rw [pk_un e]; exact hbe⟩
      · refine br_f w (br_t w2 (rx_makeNode hn (by omega) _ (rx_slotBit _ (rx_slotBit _ ⟨hin, nm_r (by rw [en]) ⟨hin, nm_r (by rw [en] <;> rfl) ⟨?_, nm_r (e' := upd a_fragments fc (nI nc)) ?_ (nm_r (e' := nI (fc + 1)) ?_ hp)⟩⟩⟩))))
        · rw [hf]; exact vp_in_nI (by omega) (by decide)
        · rw [hf, nI_clamp (by omega)]
        · rw [hf, nI_1]
      · subst hn
        refine ry_feed (Or.inl ⟨rfl, hK⟩) post (br_t hg0 (br_f w (br_t (by rw [e0]; exact w2) ⟨hin, nm_r (by rw [en]) ⟨hin, nm_r (by rw [en] <;> rfl) ⟨hin, nm_r (by rw [en]) ⟨hin, nm_r (by rw [en]) ⟨hin, nm_r (by rw [en]) ⟨hin, nm_r (by rw [en]) ⟨hin, nm_r (by rw [en]) (br_t (by decide) (br_f (by decide) (nm_r (e' := nI fc) (by rw [e0]; exact hf) ⟨vp_in_nI (by omega) (by decide), nm_r (by rw [nI_clamp (by omega)]) (nm_r (nI_1 fc) (nm_r (nI_1 nc) hp))⟩)))⟩⟩⟩⟩⟩⟩⟩)))
    · have w2 : ¬ f_fragmentCount < 16 := by rw [hf]; exact nI_nlt (b := 16) (by omega) (by omega)
      exact ⟨3, _, _, R0, fun post hp => br_f w (br_f w2 hp), fun post hp => ry_feed (Or.inl ⟨rfl, hK⟩) post (br_t hg0 (br_f w (br_f (by rw [e0]; exact w2) hp)))⟩
/-- nodes with one successor -/
theorem rs_chain {K P A B : Int32} {x : Nat} (hK : K = 2 ∨ K = 3 ∨ K = 4 ∨ K = 5) (hx : x < 12) (hoa : rc_op A) (hob : rc_op B) (hP1 : K = 5 → ∃ f, f < 8 ∧ P = nI f) (hP2 : K = 4 → P = 0 ∨ P = 1 ∨ P = 2 ∨ P = 3 ∨ P = 4) (hST : (rc_ST nc hs dl nd f_heapSize f_depthLimit a_nodeKind a_nodeX a_nodeParam a_nodeA a_nodeB a_nodeNext a_nodeElse a_nodeFree a_nodeNeed a_body b_nodeA b_nodeB)) (hFT : (rc_FT nc f_nodeLimit f_nodeCount f_fragmentCount a_fragments)) (hRR : (rc_RR f_status f_result f_resultCells f_counted f_liveCells a_cellTag a_cellLeft a_cellRight a_cellOfNumber a_numberOfCell a_places g_status g_resKind g_resNumber g_numbered b_cellTag b_partKind b_partNumber b_order)) : ∃ (r : Int32) (u' : SX) (v' : SY), rc_REL u' v' ∧ (∀ post : Int32 → SX → Prop, post r u' → wpX_chain post (f_kindRet, f_kindTail, f_kindBind, f_kindCon, f_kindPrim, f_kindCall, f_kindMatch, f_kindTest, f_cellBase, f_heapSize, f_depthLimit, f_nodeLimit, f_nodeCount, f_fragmentCount, f_frames, f_at, f_deadCount, f_freeHead, f_fresh, f_liveCells, f_spareTotal, f_counted, f_status, f_made, f_reused, f_peak, f_calls, f_result, f_resultCells, a_nodeKind, a_nodeX, a_nodeParam, a_nodeA, a_nodeB, a_nodeNext, a_nodeElse, a_nodeFree, a_nodeNeed, a_fragments, a_body, a_slots, a_waiting, a_spareHead, a_spareCount, a_cellTag, a_cellLeft, a_cellRight, a_holds, a_link, a_dead, a_cellOfNumber, a_numberOfCell, a_places, a_walk) K (nI x) P A B) ∧ (∀ post : Int32 → SY → Prop, post r v' → wpY_feed post (f_heapSize, f_depthLimit, f_nodeLimit, f_nodeCount, f_fragmentCount, g_frames, f_made, f_counted, f_reused, f_peak, f_calls, g_status, g_resKind, g_resNumber, g_numbered, a_nodeKind, a_nodeX, a_nodeParam, b_nodeA, b_nodeB, a_nodeNext, a_nodeElse, b_scratch, a_fragments, a_body, b_slotKind, b_slotNumber, b_spares, a_waiting, b_cellTag, b_partKind, b_partNumber, b_live, b_order, b_todo) K (nI x) P A B) := by
  have R0 := rc_REL_mk (g_frames := g_frames) (b_scratch := b_scratch) (b_slotKind := b_slotKind) (b_slotNumber := b_slotNumber) (b_spares := b_spares) (b_live := b_live) (b_todo := b_todo) (f_kindRet := f_kindRet) (f_kindTail := f_kindTail) (f_kindBind := f_kindBind) (f_kindCon := f_kindCon) (f_kindPrim := f_kindPrim) (f_kindCall := f_kindCall) (f_kindMatch := f_kindMatch) (f_kindTest := f_kindTest) (f_cellBase := f_cellBase) (f_heapSize := f_heapSize) (f_depthLimit := f_depthLimit) (f_nodeLimit := f_nodeLimit) (f_nodeCount := f_nodeCount) (f_fragmentCount := f_fragmentCount) (f_frames := f_frames) (f_at := f_at) (f_deadCount := f_deadCount) (f_freeHead := f_freeHead) (f_fresh := f_fresh) (f_liveCells := f_liveCells) (f_spareTotal := f_spareTotal) (f_counted := f_counted) (f_status := f_status) (f_made := f_made) (f_reused := f_reused) (f_peak := f_peak) (f_calls := f_calls) (f_result := f_result) (f_resultCells := f_resultCells) (a_nodeKind := a_nodeKind) (a_nodeX := a_nodeX) (a_nodeParam := a_nodeParam) (a_nodeA := a_nodeA) (a_nodeB := a_nodeB) (a_nodeNext := a_nodeNext) (a_nodeElse := a_nodeElse) (a_nodeFree := a_nodeFree) (a_nodeNeed := a_nodeNeed) (a_fragments := a_fragments) (a_body := a_body) (a_slots := a_slots) (a_waiting := a_waiting) (a_spareHead := a_spareHead) (a_spareCount := a_spareCount) (a_cellTag := a_cellTag) (a_cellLeft := a_cellLeft) (a_cellRight := a_cellRight) (a_holds := a_holds) (a_link := a_link) (a_dead := a_dead) (a_cellOfNumber := a_cellOfNumber) (a_numberOfCell := a_numberOfCell) (a_places := a_places) (a_walk := a_walk) hST hFT hRR
  obtain ⟨hn, nl, fc, hnl, hnl48, hl, hfc, hf, hfr⟩ := hFT
  have hT : (1 = 0 ∧ (K = 0 ∨ K = 1)) ∨ (1 = 1 ∧ (K = 2 ∨ K = 3 ∨ K = 4 ∨ K = 5)) ∨ (1 = 2 ∧ (K = 6 ∨ K = 7)) := Or.inr (Or.inl ⟨rfl, hK⟩)
  by_cases h0 : fc = 0
  · subst h0
    have w : f_fragmentCount = 0 := hf
    exact ⟨2, _, _, R0, fun post hp => br_t w hp, fun post hp => ry_feed hT post (br_f (by rw [w]; decide) hp)⟩
  · obtain ⟨fd, rfl⟩ : ∃ q, fc = q + 1 := ⟨fc - 1, by omega⟩
    have w0 : ¬ f_fragmentCount = 0 := by rw [hf]; exact nI_ne0 (by omega) (by omega)
    have hg0 : nI 1 ≤ f_fragmentCount := by rw [hf]; exact nI_le (by omega) (by omega)
    have e1 : f_fragmentCount - 1 = nI fd := by rw [hf, nI_pred]
    have e1' : f_fragmentCount - nI 1 = nI fd := e1
    have hfin : vp_in (f_fragmentCount - 1) 16 := by rw [e1]; exact vp_in_nI (by omega) (by decide)
    have efd : (nI fd).toNatClampNeg = fd := nI_clamp (by omega)
    by_cases h1 : nl ≤ nc
    · have w : f_nodeLimit ≤ f_nodeCount := by rw [hl, hn]; exact nI_le h1 (by omega)
      have w' : ¬ f_nodeCount < f_nodeLimit := by rw [hl, hn]; exact nI_nlt h1 (by omega)
      exact ⟨3, _, _, R0, fun post hp => br_f w0 (br_f w' hp), fun post hp => ry_feed hT post (br_t hg0 (br_t w hp))⟩
    · have w : ¬ f_nodeLimit ≤ f_nodeCount := by rw [hl, hn]; exact nI_ge (by omega) (by omega)
      have w' : f_nodeCount < f_nodeLimit := by rw [hl, hn]; exact nI_lt (by omega) (by omega)
      obtain ⟨j, hj, hje⟩ := hfr fd (by omega)
      have hin : vp_in (nI nc) 48 := vp_in_nI (by omega) (by decide)
      have hinj : vp_in (nI j) 48 := vp_in_nI (by omega) (by decide)
      have en : (nI nc).toNatClampNeg = nc := nI_clamp (by omega)
      have ej : (nI j).toNatClampNeg = j := nI_clamp (by omega)
      have hndj := (hST.2.1 j hj).1
      have hneed := hST.2.2.1 j hj
      have hST' := rc_ST_add (q := nd j + (if K = 3 then 1 else 0)) (K := K) (X := nI x) (P := P) (A := A) (B := B) (N := nI j) (L := -1) (Fe := (rc_bit A ||| rc_bit B) ||| (a_nodeFree j &&& (rc_b1 x ^^^ (-1)))) (Ya := A) (Yb := B) (by omega) hST ⟨by rw [rc_up_s]; split <;> omega, x, hx, pk_us, Or.inr (Or.inl ⟨by rw [pk_us]; exact hK, by rw [pk_us, pk_us], by rw [pk_us, pk_us], by rw [pk_us]; exact hoa, by rw [pk_us]; exact hob, ⟨by rw [pk_us, pk_us]; exact hP1, by rw [pk_us, pk_us]; exact hP2⟩, pk_us, j, hj, pk_us, by rw [pk_us, pk_us, pk_us, pk_un (by omega)], by rw [rc_up_s, rc_up_n (by omega), pk_us]⟩)⟩
      refine ⟨0, (f_kindRet, f_kindTail, f_kindBind, f_kindCon, f_kindPrim, f_kindCall, f_kindMatch, f_kindTest, f_cellBase, f_heapSize, f_depthLimit, f_nodeLimit, nI (nc + 1), f_fragmentCount, f_frames, f_at, f_deadCount, f_freeHead, f_fresh, f_liveCells, f_spareTotal, f_counted, f_status, f_made, f_reused, f_peak, f_calls, f_result, f_resultCells, upd a_nodeKind nc K, upd a_nodeX nc (nI x), upd a_nodeParam nc P, upd a_nodeA nc A, upd a_nodeB nc B, upd a_nodeNext nc (nI j), upd a_nodeElse nc (-1), upd a_nodeFree nc ((rc_bit A ||| rc_bit B) ||| (a_nodeFree j &&& (rc_b1 x ^^^ (-1)))), upd a_nodeNeed nc (nI (nd j + (if K = 3 then 1 else 0))), upd a_fragments fd (nI nc), a_body, a_slots, a_waiting, a_spareHead, a_spareCount, a_cellTag, a_cellLeft, a_cellRight, a_holds, a_link, a_dead, a_cellOfNumber, a_numberOfCell, a_places, a_walk), (f_heapSize, f_depthLimit, f_nodeLimit, nI (nc + 1), f_fragmentCount, g_frames, f_made, f_counted, f_reused, f_peak, f_calls, g_status, g_resKind, g_resNumber, g_numbered, upd a_nodeKind nc K, upd a_nodeX nc (nI x), upd a_nodeParam nc P, upd b_nodeA nc A, upd b_nodeB nc B, upd a_nodeNext nc (nI j), upd a_nodeElse nc (-1), b_scratch, upd a_fragments fd (nI nc), a_body, b_slotKind, b_slotNumber, b_spares, a_waiting, b_cellTag, b_partKind, b_partNumber, b_live, b_order, b_todo), rc_REL_mk hST' ⟨rfl, nl, fd + 1, by omega, hnl48, hl, by omega, hf, fun i hi => ?_⟩ hRR, fun post hp => ?_, fun post hp => ?_⟩
      · by_cases e : i = fd
        · subst e; exact ⟨nc, by omega, pk_us⟩
        · obtain ⟨b, hb, hbe⟩ := hfr i (by omega)
          exact ⟨b, by omega, by rw [pk_un e]; exact hbe⟩
      · refine br_f w0 (br_t w' ⟨hfin, nm_r (e' := nI j) (by rw [e1, efd]; exact hje) (rx_makeNode hn (by omega) _ (rx_slotBit _ (rx_slotBit _ ⟨hinj, hin, nm_r (e' := upd a_nodeFree nc ((rc_bit A ||| rc_bit B) ||| (a_nodeFree j &&& (rc_b1 x ^^^ (-1))))) (by rw [en, ej]; rfl) ⟨hinj, ?_⟩⟩)))⟩)
        rw [ej, hneed]
        by_cases h3 : K = 3
        · rw [if_pos h3] at hp
          exact br_t h3 ⟨hin, nm_r (e' := upd a_nodeNeed nc (nI (nd j + 1))) (by rw [en]; rw [nI_1]) ⟨hfin, nm_r (e' := upd a_fragments fd (nI nc)) (by rw [e1, efd]) hp⟩⟩
        · rw [if_neg h3] at hp
          exact br_f h3 ⟨hin, nm_r (e' := upd a_nodeNeed nc (nI (nd j + 0))) (by rw [en]; rw [show nI (nd j) + 0 = nI (nd j + 0) from nI_add (nd j) 0]) ⟨hfin, nm_r (e' := upd a_fragments fd (nI nc)) (by rw [e1, efd]) hp⟩⟩
      · subst hn
        refine ry_feed hT post (br_t hg0 (br_f w (br_t (by rw [e1']; exact nI_lt (b := 16) (by omega) (by decide)) ⟨hin, nm_r (by rw [en]) ⟨hin, nm_r (by rw [en]) ⟨hin, nm_r (by rw [en]) ⟨hin, nm_r (by rw [en]) ⟨hin, nm_r (by rw [en]) ⟨hin, nm_r (by rw [en]) ⟨hin, nm_r (by rw [en]) (br_f (by decide) ⟨hfin, hin, nm_r (e' := upd a_nodeNext nc (nI j)) (by rw [en, e1, efd, hje, rc_upd2]) (br_f (by decide) (nm_r (e' := nI fd) e1' ⟨vp_in_nI (by omega) (by decide), nm_r (by rw [efd]) (nm_r (e' := f_fragmentCount) (by rw [nI_1, hf]) (nm_r (nI_1 nc) hp))⟩))⟩)⟩⟩⟩⟩⟩⟩⟩)))
theorem rc_bnd (f A B : Int32) : f &&& ((A ||| B) ^^^ (-1)) = (f &&& (A ^^^ (-1))) &&& (B ^^^ (-1)) := by
  apply b_ext
  intro i hi
  rw [rc_andn hi, b_or, rc_andn hi, rc_andn hi]
  cases bt f i <;> cases bt A i <;> cases bt B i <;> rfl
theorem rc_bnd0 (f : Int32) : f &&& ((0 : Int32) ^^^ (-1)) = f := by
  apply b_ext
  intro i hi
  rw [rc_andn hi, b_0]
  cases bt f i <;> rfl
/-- nodes with two successors -/
theorem rs_branch {K P A B Ya Yb bd : Int32} {x : Nat} (hx : x < 12) (hK : (K = 6 ∧ ∃ y z, y < 12 ∧ z < 12 ∧ x ≠ y ∧ x ≠ z ∧ y ≠ z ∧ A = nI y ∧ B = nI z ∧ Ya = nI y ∧ Yb = nI z ∧ bd = rc_b1 y ||| rc_b1 z) ∨ (K = 7 ∧ Ya = -1 ∧ Yb = -1 ∧ bd = 0)) (hST : (rc_ST nc hs dl nd f_heapSize f_depthLimit a_nodeKind a_nodeX a_nodeParam a_nodeA a_nodeB a_nodeNext a_nodeElse a_nodeFree a_nodeNeed a_body b_nodeA b_nodeB)) (hFT : (rc_FT nc f_nodeLimit f_nodeCount f_fragmentCount a_fragments)) (hRR : (rc_RR f_status f_result f_resultCells f_counted f_liveCells a_cellTag a_cellLeft a_cellRight a_cellOfNumber a_numberOfCell a_places g_status g_resKind g_resNumber g_numbered b_cellTag b_partKind b_partNumber b_order)) : ∃ (r : Int32) (u' : SX) (v' : SY), rc_REL u' v' ∧ (∀ post : Int32 → SX → Prop, post r u' → wpX_branch post (f_kindRet, f_kindTail, f_kindBind, f_kindCon, f_kindPrim, f_kindCall, f_kindMatch, f_kindTest, f_cellBase, f_heapSize, f_depthLimit, f_nodeLimit, f_nodeCount, f_fragmentCount, f_frames, f_at, f_deadCount, f_freeHead, f_fresh, f_liveCells, f_spareTotal, f_counted, f_status, f_made, f_reused, f_peak, f_calls, f_result, f_resultCells, a_nodeKind, a_nodeX, a_nodeParam, a_nodeA, a_nodeB, a_nodeNext, a_nodeElse, a_nodeFree, a_nodeNeed, a_fragments, a_body, a_slots, a_waiting, a_spareHead, a_spareCount, a_cellTag, a_cellLeft, a_cellRight, a_holds, a_link, a_dead, a_cellOfNumber, a_numberOfCell, a_places, a_walk) K (nI x) P A B bd) ∧ (∀ post : Int32 → SY → Prop, post r v' → wpY_feed post (f_heapSize, f_depthLimit, f_nodeLimit, f_nodeCount, f_fragmentCount, g_frames, f_made, f_counted, f_reused, f_peak, f_calls, g_status, g_resKind, g_resNumber, g_numbered, a_nodeKind, a_nodeX, a_nodeParam, b_nodeA, b_nodeB, a_nodeNext, a_nodeElse, b_scratch, a_fragments, a_body, b_slotKind, b_slotNumber, b_spares, a_waiting, b_cellTag, b_partKind, b_partNumber, b_live, b_order, b_todo) K (nI x) P Ya Yb) := by
  have R0 := rc_REL_mk (g_frames := g_frames) (b_scratch := b_scratch) (b_slotKind := b_slotKind) (b_slotNumber := b_slotNumber) (b_spares := b_spares) (b_live := b_live) (b_todo := b_todo) (f_kindRet := f_kindRet) (f_kindTail := f_kindTail) (f_kindBind := f_kindBind) (f_kindCon := f_kindCon) (f_kindPrim := f_kindPrim) (f_kindCall := f_kindCall) (f_kindMatch := f_kindMatch) (f_kindTest := f_kindTest) (f_cellBase := f_cellBase) (f_heapSize := f_heapSize) (f_depthLimit := f_depthLimit) (f_nodeLimit := f_nodeLimit) (f_nodeCount := f_nodeCount) (f_fragmentCount := f_fragmentCount) (f_frames := f_frames) (f_at := f_at) (f_deadCount := f_deadCount) (f_freeHead := f_freeHead) (f_fresh := f_fresh) (f_liveCells := f_liveCells) (f_spareTotal := f_spareTotal) (f_counted := f_counted) (f_status := f_status) (f_made := f_made) (f_reused := f_reused) (f_peak := f_peak) (f_calls := f_calls) (f_result := f_result) (f_resultCells := f_resultCells) (a_nodeKind := a_nodeKind) (a_nodeX := a_nodeX) (a_nodeParam := a_nodeParam) (a_nodeA := a_nodeA) (a_nodeB := a_nodeB) (a_nodeNext := a_nodeNext) (a_nodeElse := a_nodeElse) (a_nodeFree := a_nodeFree) (a_nodeNeed := a_nodeNeed) (a_fragments := a_fragments) (a_body := a_body) (a_slots := a_slots) (a_waiting := a_waiting) (a_spareHead := a_spareHead) (a_spareCount := a_spareCount) (a_cellTag := a_cellTag) (a_cellLeft := a_cellLeft) (a_cellRight := a_cellRight) (a_holds := a_holds) (a_link := a_link) (a_dead := a_dead) (a_cellOfNumber := a_cellOfNumber) (a_numberOfCell := a_numberOfCell) (a_places := a_places) (a_walk := a_walk) hST hFT hRR
  obtain ⟨hn, nl, fc, hnl, hnl48, hl, hfc, hf, hfr⟩ := hFT
  have hT : (2 = 0 ∧ (K = 0 ∨ K = 1)) ∨ (2 = 1 ∧ (K = 2 ∨ K = 3 ∨ K = 4 ∨ K = 5)) ∨ (2 = 2 ∧ (K = 6 ∨ K = 7)) := Or.inr (Or.inr ⟨rfl, hK.elim (fun w => Or.inl w.1) (fun w => Or.inr w.1)⟩)
  by_cases h0 : fc < 2
  · have w : ¬ (2 : Int32) ≤ f_fragmentCount := by rw [hf]; exact nI_ge (b := 2) h0 (by decide)
    exact ⟨2, _, _, R0, fun post hp => br_f w hp, fun post hp => ry_feed hT post (br_f w hp)⟩
  · obtain ⟨fd, rfl⟩ : ∃ q, fc = q + 2 := ⟨fc - 2, by omega⟩
    have w0 : (2 : Int32) ≤ f_fragmentCount := by rw [hf]; exact nI_le (a := 2) (by omega) (by omega)
    have e1 : f_fragmentCount - 1 = nI (fd + 1) := by rw [hf]; exact nI_pred (fd + 1)
    have e2 : f_fragmentCount - 2 = nI fd := by rw [hf]; exact pk_sub (a := fd + 2) (b := 2) (by omega)
    have e2' : f_fragmentCount - nI 2 = nI fd := e2
    have hfin1 : vp_in (f_fragmentCount - 1) 16 := by rw [e1]; exact vp_in_nI (by omega) (by decide)
    have hfin2 : vp_in (f_fragmentCount - 2) 16 := by rw [e2]; exact vp_in_nI (by omega) (by decide)
    have efd : (nI fd).toNatClampNeg = fd := nI_clamp (by omega)
    have efd1 : (nI (fd + 1)).toNatClampNeg = fd + 1 := nI_clamp (by omega)
    by_cases h1 : nl ≤ nc
    · have w : f_nodeLimit ≤ f_nodeCount := by rw [hl, hn]; exact nI_le h1 (by omega)
      have w' : ¬ f_nodeCount < f_nodeLimit := by rw [hl, hn]; exact nI_nlt h1 (by omega)
      exact ⟨3, _, _, R0, fun post hp => br_t w0 (br_f w' hp), fun post hp => ry_feed hT post (br_t w0 (br_t w hp))⟩
    · have w : ¬ f_nodeLimit ≤ f_nodeCount := by rw [hl, hn]; exact nI_ge (by omega) (by omega)
      have w' : f_nodeCount < f_nodeLimit := by rw [hl, hn]; exact nI_lt (by omega) (by omega)
      obtain ⟨j, hj, hje⟩ := hfr (fd + 1) (by omega)
      obtain ⟨e, he, hee⟩ := hfr fd (by omega)
      have hin : vp_in (nI nc) 48 := vp_in_nI (by omega) (by decide)
      have hinj : vp_in (nI j) 48 := vp_in_nI (by omega) (by decide)
      have hine : vp_in (nI e) 48 := vp_in_nI (by omega) (by decide)
      have en : (nI nc).toNatClampNeg = nc := nI_clamp (by omega)
      have ej : (nI j).toNatClampNeg = j := nI_clamp (by omega)
      have ee : (nI e).toNatClampNeg = e := nI_clamp (by omega)
      have hndj := (hST.2.1 j hj).1
      have hnde := (hST.2.1 e he).1
      have hneedj := hST.2.2.1 j hj
      have hneede := hST.2.2.1 e he
      have hST' := rc_ST_add (q := max (nd j) (nd e)) (K := K) (X := nI x) (P := P) (A := A) (B := B) (N := nI j) (L := nI e) (Fe := (rc_b1 x ||| (a_nodeFree j &&& (bd ^^^ (-1)))) ||| a_nodeFree e) (Ya := Ya) (Yb := Yb) (by omega) hST ⟨by rw [rc_up_s]; omega, x, hx, pk_us, Or.inr (Or.inr (by
        rcases hK with ⟨k1, y, z, hy, hz, n1, n2, n3, a1, a2, a3, a4, hb⟩ | ⟨k1, a3, a4, hb⟩
        · left
          refine ⟨by rw [pk_us]; exact k1, y, z, j, e, hy, hz, n1, n2, n3, by rw [pk_us]; exact a1, by rw [pk_us]; exact a2, by rw [pk_us]; exact a3, by rw [pk_us]; exact a4, hj, he, pk_us, pk_us, ?_, by rw [rc_up_s, rc_up_n (by omega), rc_up_n (by omega)]⟩
          rw [pk_us, pk_un (by omega), pk_un (by omega), hb, rc_bnd]
        · right
          refine ⟨by rw [pk_us]; exact k1, by rw [pk_us]; exact a3, by rw [pk_us]; exact a4, j, e, hj, he, pk_us, pk_us, ?_, by rw [rc_up_s, rc_up_n (by omega), rc_up_n (by omega)]⟩
          rw [pk_us, pk_un (by omega), pk_un (by omega), hb, rc_bnd0]))⟩
      refine ⟨0, (f_kindRet, f_kindTail, f_kindBind, f_kindCon, f_kindPrim, f_kindCall, f_kindMatch, f_kindTest, f_cellBase, f_heapSize, f_depthLimit, f_nodeLimit, nI (nc + 1), nI (fd + 1), f_frames, f_at, f_deadCount, f_freeHead, f_fresh, f_liveCells, f_spareTotal, f_counted, f_status, f_made, f_reused, f_peak, f_calls, f_result, f_resultCells, upd a_nodeKind nc K, upd a_nodeX nc (nI x), upd a_nodeParam nc P, upd a_nodeA nc A, upd a_nodeB nc B, upd a_nodeNext nc (nI j), upd a_nodeElse nc (nI e), upd a_nodeFree nc ((rc_b1 x ||| (a_nodeFree j &&& (bd ^^^ (-1)))) ||| a_nodeFree e), upd a_nodeNeed nc (nI (max (nd j) (nd e))), upd a_fragments fd (nI nc), a_body, a_slots, a_waiting, a_spareHead, a_spareCount, a_cellTag, a_cellLeft, a_cellRight, a_holds, a_link, a_dead, a_cellOfNumber, a_numberOfCell, a_places, a_walk), (f_heapSize, f_depthLimit, f_nodeLimit, nI (nc + 1), nI (fd + 1), g_frames, f_made, f_counted, f_reused, f_peak, f_calls, g_status, g_resKind, g_resNumber, g_numbered, upd a_nodeKind nc K, upd a_nodeX nc (nI x), upd a_nodeParam nc P, upd b_nodeA nc Ya, upd b_nodeB nc Yb, upd a_nodeNext nc (nI j), upd a_nodeElse nc (nI e), b_scratch, upd a_fragments fd (nI nc), a_body, b_slotKind, b_slotNumber, b_spares, a_waiting, b_cellTag, b_partKind, b_partNumber, b_live, b_order, b_todo), rc_REL_mk hST' ⟨rfl, nl, fd + 1, by omega, hnl48, hl, by omega, rfl, fun i hi => ?_⟩ hRR, fun post hp => ?_, fun post hp => ?_⟩
      · by_cases q : i = fd
        · subst q; exact ⟨nc, by omega, pk_us⟩
        · obtain ⟨b, hb, hbe⟩ := hfr i (by omega)
          exact ⟨b, by omega, by rw [pk_un q]; exact hbe⟩
      · refine br_t w0 (br_t w' ⟨hfin1, nm_r (e' := nI j) (by rw [e1, efd1]; exact hje) ⟨hfin2, nm_r (e' := nI e) (by rw [e2, efd]; exact hee) (rx_makeNode hn (by omega) _ ⟨hinj, hine, hin, nm_r (e' := upd a_nodeFree nc ((rc_b1 x ||| (a_nodeFree j &&& (bd ^^^ (-1)))) ||| a_nodeFree e)) (by rw [en, ej, ee]; rfl) ⟨hinj, hine, ?_⟩⟩)⟩⟩)
        rw [ej, ee, hneedj, hneede]
        have FIN : ∀ q : Nat, q = max (nd j) (nd e) → wX_branch_137 post (nI nc) (nI q) (nI nc) f_kindRet f_kindTail f_kindBind f_kindCon f_kindPrim f_kindCall f_kindMatch f_kindTest f_cellBase f_heapSize f_depthLimit f_nodeLimit (nI (nc + 1)) f_fragmentCount f_frames f_at f_deadCount f_freeHead f_fresh f_liveCells f_spareTotal f_counted f_status f_made f_reused f_peak f_calls f_result f_resultCells (upd a_nodeKind nc K) (upd a_nodeX nc (nI x)) (upd a_nodeParam nc P) (upd a_nodeA nc A) (upd a_nodeB nc B) (upd a_nodeNext nc (nI j)) (upd a_nodeElse nc (nI e)) (upd a_nodeFree nc ((rc_b1 x ||| (a_nodeFree j &&& (bd ^^^ (-1)))) ||| a_nodeFree e)) a_nodeNeed a_fragments a_body a_slots a_waiting a_spareHead a_spareCount a_cellTag a_cellLeft a_cellRight a_holds a_link a_dead a_cellOfNumber a_numberOfCell a_places a_walk := by
          intro q hq
          subst hq
          refine ⟨hin, nm_r (e' := upd a_nodeNeed nc (nI (max (nd j) (nd e)))) (by rw [en]) (nm_r (e' := nI (fd + 1)) e1 ⟨?_, nm_r (e' := upd a_fragments fd (nI nc)) ?_ hp⟩)⟩
          · rw [nI_pred]; exact vp_in_nI (by omega) (by decide)
          · rw [nI_pred, efd]
        by_cases hle : nd j ≤ nd e
        · exact br_t (nI_le hle (by omega)) ⟨hine, FIN (nd e) (by omega)⟩
        · exact br_f (nI_ge (by omega) (by omega)) ⟨hinj, FIN (nd j) (by omega)⟩
      · subst hn
        refine ry_feed hT post (br_t w0 (br_f w (br_t (by rw [e2']; exact nI_lt (b := 16) (by omega) (by decide)) ⟨hin, nm_r (by rw [en]) ⟨hin, nm_r (by rw [en]) ⟨hin, nm_r (by rw [en]) ⟨hin, nm_r (by rw [en]) ⟨hin, nm_r (by rw [en]) ⟨hin, nm_r (by rw [en]) ⟨hin, nm_r (by rw [en]) (br_f (by decide) ⟨hfin1, hin, nm_r (e' := upd a_nodeNext nc (nI j)) (by rw [en, e1, efd1, hje, rc_upd2]) (br_t rfl ⟨hfin2, hin, nm_r (e' := upd a_nodeElse nc (nI e)) (by rw [en, e2, efd, hee, rc_upd2]) (nm_r (e' := nI fd) e2' ⟨vp_in_nI (by omega) (by decide), nm_r (by rw [efd]) (nm_r (nI_1 fd) (nm_r (nI_1 nc) hp))⟩)⟩)⟩)⟩⟩⟩⟩⟩⟩⟩)))
end
end
section
/-! the public methods that store: one outcome for both sides -/
def rc_EQ1 (pX : (Int32 → SX → Prop) → SX → Prop) (pY : (Int32 → SY → Prop) → SY → Prop) (u : SX) (v : SY) : Prop :=
  ∃ (r : Int32) (u' : SX) (v' : SY), rc_REL u' v' ∧ (∀ post : Int32 → SX → Prop, post r u' → pX post u) ∧ (∀ post : Int32 → SY → Prop, post r v' → pY post v)
theorem rc_opd (p : Int32) : rc_op p ∨ nI 12 ≤ p := by
  rcases pk_ix p (n := 12) (by decide) with h | h | ⟨j, hj, e⟩
  · exact Or.inl (Or.inl h)
  · exact Or.inr h
  · exact Or.inl (Or.inr ⟨j, hj, e⟩)
theorem rc_op_n12 {p : Int32} (h : rc_op p) : ¬ (12 : Int32) ≤ p := by
  rcases h with h | ⟨j, hj, rfl⟩
  · intro w; exact absurd (Int32.lt_of_le_of_lt w h) (by decide)
  · exact nI_ge (b := 12) hj (by decide)
theorem rc_idx (p : Int32) {n : Nat} (hn : n < 2 ^ 31) (h0 : 0 < n) : (∃ j, j < n ∧ p = nI j) ∨ p < 0 ∨ (¬ p < 0 ∧ nI n ≤ p) := by
  rcases pk_ix p hn with h | h | ⟨j, hj, e⟩
  · exact Or.inr (Or.inl h)
  · refine Or.inr (Or.inr ⟨fun w => ?_, h⟩)
    have := Int32.lt_of_le_of_lt h w
    exact nI_pos hn this
  · exact Or.inl ⟨j, hj, e⟩
section
variable {f_kindRet f_kindTail f_kindBind f_kindCon f_kindPrim f_kindCall f_kindMatch f_kindTest f_heapSize f_depthLimit f_nodeLimit f_nodeCount f_fragmentCount f_frames f_at f_deadCount f_freeHead f_fresh f_liveCells f_spareTotal f_counted f_status f_made f_reused f_peak f_calls f_resultCells : Int32} {f_cellBase f_result : Int64} {a_nodeKind a_nodeX a_nodeParam a_nodeA a_nodeB a_nodeNext a_nodeElse a_nodeFree a_nodeNeed a_fragments a_body a_waiting a_spareHead a_spareCount a_cellTag a_holds a_link a_dead a_cellOfNumber a_numberOfCell a_places a_walk : Nat → Int32} {a_slots a_cellLeft a_cellRight : Nat → Int64}
theorem rx_opT {p : Int32} (h : rc_op p) (post : Int32 → Prop) (hp : post 1) : wpX_isOperand post (f_kindRet, f_kindTail, f_kindBind, f_kindCon, f_kindPrim, f_kindCall, f_kindMatch, f_kindTest, f_cellBase, f_heapSize, f_depthLimit, f_nodeLimit, f_nodeCount, f_fragmentCount, f_frames, f_at, f_deadCount, f_freeHead, f_fresh, f_liveCells, f_spareTotal, f_counted, f_status, f_made, f_reused, f_peak, f_calls, f_result, f_resultCells, a_nodeKind, a_nodeX, a_nodeParam, a_nodeA, a_nodeB, a_nodeNext, a_nodeElse, a_nodeFree, a_nodeNeed, a_fragments, a_body, a_slots, a_waiting, a_spareHead, a_spareCount, a_cellTag, a_cellLeft, a_cellRight, a_holds, a_link, a_dead, a_cellOfNumber, a_numberOfCell, a_places, a_walk) p := br_f (rc_op_n12 h) hp
theorem rx_opF {p : Int32} (h : nI 12 ≤ p) (post : Int32 → Prop) (hp : post 0) : wpX_isOperand post (f_kindRet, f_kindTail, f_kindBind, f_kindCon, f_kindPrim, f_kindCall, f_kindMatch, f_kindTest, f_cellBase, f_heapSize, f_depthLimit, f_nodeLimit, f_nodeCount, f_fragmentCount, f_frames, f_at, f_deadCount, f_freeHead, f_fresh, f_liveCells, f_spareTotal, f_counted, f_status, f_made, f_reused, f_peak, f_calls, f_result, f_resultCells, a_nodeKind, a_nodeX, a_nodeParam, a_nodeA, a_nodeB, a_nodeNext, a_nodeElse, a_nodeFree, a_nodeNeed, a_fragments, a_body, a_slots, a_waiting, a_spareHead, a_spareCount, a_cellTag, a_cellLeft, a_cellRight, a_holds, a_link, a_dead, a_cellOfNumber, a_numberOfCell, a_places, a_walk) p := br_t h hp
theorem rx_slT {x : Nat} (h : x < 12) (post : Int32 → Prop) (hp : post 1) : wpX_isSlot post (f_kindRet, f_kindTail, f_kindBind, f_kindCon, f_kindPrim, f_kindCall, f_kindMatch, f_kindTest, f_cellBase, f_heapSize, f_depthLimit, f_nodeLimit, f_nodeCount, f_fragmentCount, f_frames, f_at, f_deadCount, f_freeHead, f_fresh, f_liveCells, f_spareTotal, f_counted, f_status, f_made, f_reused, f_peak, f_calls, f_result, f_resultCells, a_nodeKind, a_nodeX, a_nodeParam, a_nodeA, a_nodeB, a_nodeNext, a_nodeElse, a_nodeFree, a_nodeNeed, a_fragments, a_body, a_slots, a_waiting, a_spareHead, a_spareCount, a_cellTag, a_cellLeft, a_cellRight, a_holds, a_link, a_dead, a_cellOfNumber, a_numberOfCell, a_places, a_walk) (nI x) := br_f (nI_pos (by omega)) (br_f (nI_ge (b := 12) h (by decide)) hp)
theorem rx_slF {p : Int32} (h : p < 0 ∨ (¬ p < 0 ∧ nI 12 ≤ p)) (post : Int32 → Prop) (hp : post 0) : wpX_isSlot post (f_kindRet, f_kindTail, f_kindBind, f_kindCon, f_kindPrim, f_kindCall, f_kindMatch, f_kindTest, f_cellBase, f_heapSize, f_depthLimit, f_nodeLimit, f_nodeCount, f_fragmentCount, f_frames, f_at, f_deadCount, f_freeHead, f_fresh, f_liveCells, f_spareTotal, f_counted, f_status, f_made, f_reused, f_peak, f_calls, f_result, f_resultCells, a_nodeKind, a_nodeX, a_nodeParam, a_nodeA, a_nodeB, a_nodeNext, a_nodeElse, a_nodeFree, a_nodeNeed, a_fragments, a_body, a_slots, a_waiting, a_spareHead, a_spareCount, a_cellTag, a_cellLeft, a_cellRight, a_holds, a_link, a_dead, a_cellOfNumber, a_numberOfCell, a_places, a_walk) p := by
  rcases h with h | ⟨h, h'⟩
  · exact br_t h hp
  · exact br_f h (br_t h' hp)
theorem rx_tgT {x : Nat} (h : x < 8) (post : Int32 → Prop) (hp : post 1) : wpX_isTag post (f_kindRet, f_kindTail, f_kindBind, f_kindCon, f_kindPrim, f_kindCall, f_kindMatch, f_kindTest, f_cellBase, f_heapSize, f_depthLimit, f_nodeLimit, f_nodeCount, f_fragmentCount, f_frames, f_at, f_deadCount, f_freeHead, f_fresh, f_liveCells, f_spareTotal, f_counted, f_status, f_made, f_reused, f_peak, f_calls, f_result, f_resultCells, a_nodeKind, a_nodeX, a_nodeParam, a_nodeA, a_nodeB, a_nodeNext, a_nodeElse, a_nodeFree, a_nodeNeed, a_fragments, a_body, a_slots, a_waiting, a_spareHead, a_spareCount, a_cellTag, a_cellLeft, a_cellRight, a_holds, a_link, a_dead, a_cellOfNumber, a_numberOfCell, a_places, a_walk) (nI x) := br_f (nI_pos (by omega)) (br_f (nI_ge (b := 8) h (by decide)) hp)
theorem rx_tgF {p : Int32} (h : p < 0 ∨ (¬ p < 0 ∧ nI 8 ≤ p)) (post : Int32 → Prop) (hp : post 0) : wpX_isTag post (f_kindRet, f_kindTail, f_kindBind, f_kindCon, f_kindPrim, f_kindCall, f_kindMatch, f_kindTest, f_cellBase, f_heapSize, f_depthLimit, f_nodeLimit, f_nodeCount, f_fragmentCount, f_frames, f_at, f_deadCount, f_freeHead, f_fresh, f_liveCells, f_spareTotal, f_counted, f_status, f_made, f_reused, f_peak, f_calls, f_result, f_resultCells, a_nodeKind, a_nodeX, a_nodeParam, a_nodeA, a_nodeB, a_nodeNext, a_nodeElse, a_nodeFree, a_nodeNeed, a_fragments, a_body, a_slots, a_waiting, a_spareHead, a_spareCount, a_cellTag, a_cellLeft, a_cellRight, a_holds, a_link, a_dead, a_cellOfNumber, a_numberOfCell, a_places, a_walk) p := by
  rcases h with h | ⟨h, h'⟩
  · exact br_t h hp
  · exact br_f h (br_t h' hp)
theorem rx_fnT {x : Nat} (h : x < 8) (post : Int32 → Prop) (hp : post 1) : wpX_isFunction post (f_kindRet, f_kindTail, f_kindBind, f_kindCon, f_kindPrim, f_kindCall, f_kindMatch, f_kindTest, f_cellBase, f_heapSize, f_depthLimit, f_nodeLimit, f_nodeCount, f_fragmentCount, f_frames, f_at, f_deadCount, f_freeHead, f_fresh, f_liveCells, f_spareTotal, f_counted, f_status, f_made, f_reused, f_peak, f_calls, f_result, f_resultCells, a_nodeKind, a_nodeX, a_nodeParam, a_nodeA, a_nodeB, a_nodeNext, a_nodeElse, a_nodeFree, a_nodeNeed, a_fragments, a_body, a_slots, a_waiting, a_spareHead, a_spareCount, a_cellTag, a_cellLeft, a_cellRight, a_holds, a_link, a_dead, a_cellOfNumber, a_numberOfCell, a_places, a_walk) (nI x) := br_f (nI_pos (by omega)) (br_f (nI_ge (b := 8) h (by decide)) hp)
theorem rx_fnF {p : Int32} (h : p < 0 ∨ (¬ p < 0 ∧ nI 8 ≤ p)) (post : Int32 → Prop) (hp : post 0) : wpX_isFunction post (f_kindRet, f_kindTail, f_kindBind, f_kindCon, f_kindPrim, f_kindCall, f_kindMatch, f_kindTest, f_cellBase, f_heapSize, f_depthLimit, f_nodeLimit, f_nodeCount, f_fragmentCount, f_frames, f_at, f_deadCount, f_freeHead, f_fresh, f_liveCells, f_spareTotal, f_counted, f_status, f_made, f_reused, f_peak, f_calls, f_result, f_resultCells, a_nodeKind, a_nodeX, a_nodeParam, a_nodeA, a_nodeB, a_nodeNext, a_nodeElse, a_nodeFree, a_nodeNeed, a_fragments, a_body, a_slots, a_waiting, a_spareHead, a_spareCount, a_cellTag, a_cellLeft, a_cellRight, a_holds, a_link, a_dead, a_cellOfNumber, a_numberOfCell, a_places, a_walk) p := by
  rcases h with h | ⟨h, h'⟩
  · exact br_t h hp
  · exact br_f h (br_t h' hp)
end
section
variable {g_heapSize g_depthLimit g_nodeLimit g_nodeCount g_fragCount g_frames g_made g_inRun g_reused g_peak g_calls g_status g_resKind g_resNumber g_numbered : Int32} {b_nodeKind b_nodeX b_nodeT b_nodeA b_nodeB b_nodeNext b_nodeElse b_scratch b_frag b_body b_slotKind b_slotNumber b_spares b_waits b_cellTag b_partKind b_partNumber b_live b_order b_todo : Nat → Int32}
theorem ry_opT {p : Int32} (h : rc_op p) (post : Int32 → Prop) (hp : post 0) : wpY_badOperand post (g_heapSize, g_depthLimit, g_nodeLimit, g_nodeCount, g_fragCount, g_frames, g_made, g_inRun, g_reused, g_peak, g_calls, g_status, g_resKind, g_resNumber, g_numbered, b_nodeKind, b_nodeX, b_nodeT, b_nodeA, b_nodeB, b_nodeNext, b_nodeElse, b_scratch, b_frag, b_body, b_slotKind, b_slotNumber, b_spares, b_waits, b_cellTag, b_partKind, b_partNumber, b_live, b_order, b_todo) p := br_t (Int32.not_le.mp (rc_op_n12 h)) hp
theorem ry_opF {p : Int32} (h : nI 12 ≤ p) (post : Int32 → Prop) (hp : post 1) : wpY_badOperand post (g_heapSize, g_depthLimit, g_nodeLimit, g_nodeCount, g_fragCount, g_frames, g_made, g_inRun, g_reused, g_peak, g_calls, g_status, g_resKind, g_resNumber, g_numbered, b_nodeKind, b_nodeX, b_nodeT, b_nodeA, b_nodeB, b_nodeNext, b_nodeElse, b_scratch, b_frag, b_body, b_slotKind, b_slotNumber, b_spares, b_waits, b_cellTag, b_partKind, b_partNumber, b_live, b_order, b_todo) p := br_f (fun w => Int32.not_le.mpr w h) hp
theorem ry_slT {x : Nat} (h : x < 12) (post : Int32 → Prop) (hp : post 0) : wpY_badSlot post (g_heapSize, g_depthLimit, g_nodeLimit, g_nodeCount, g_fragCount, g_frames, g_made, g_inRun, g_reused, g_peak, g_calls, g_status, g_resKind, g_resNumber, g_numbered, b_nodeKind, b_nodeX, b_nodeT, b_nodeA, b_nodeB, b_nodeNext, b_nodeElse, b_scratch, b_frag, b_body, b_slotKind, b_slotNumber, b_spares, b_waits, b_cellTag, b_partKind, b_partNumber, b_live, b_order, b_todo) (nI x) := br_f (nI_pos (by omega)) (br_t (nI_lt (b := 12) h (by decide)) hp)
theorem ry_slF {p : Int32} (h : p < 0 ∨ (¬ p < 0 ∧ nI 12 ≤ p)) (post : Int32 → Prop) (hp : post 1) : wpY_badSlot post (g_heapSize, g_depthLimit, g_nodeLimit, g_nodeCount, g_fragCount, g_frames, g_made, g_inRun, g_reused, g_peak, g_calls, g_status, g_resKind, g_resNumber, g_numbered, b_nodeKind, b_nodeX, b_nodeT, b_nodeA, b_nodeB, b_nodeNext, b_nodeElse, b_scratch, b_frag, b_body, b_slotKind, b_slotNumber, b_spares, b_waits, b_cellTag, b_partKind, b_partNumber, b_live, b_order, b_todo) p := by
  rcases h with h | ⟨h, h'⟩
  · exact br_t h hp
  · exact br_f h (br_f (fun w => Int32.not_le.mpr w h') hp)
/-- a range check 0 .. 7 written out: 'p < 0', '8 ≤ p' -/
theorem rc_rgF {p : Int32} {A B C : Prop} (h : p < 0 ∨ (¬ p < 0 ∧ nI 8 ≤ p)) (a : A) (b : B) : (p < 0 → A) ∧ (¬ p < 0 → ((8 ≤ p → B) ∧ (¬ 8 ≤ p → C))) := by
  rcases h with h | ⟨h, h'⟩
  · exact br_t h a
  · exact br_f h (br_t h' b)
theorem rc_rgT {x : Nat} {A B C : Prop} (h : x < 8) (c : C) : (nI x < 0 → A) ∧ (¬ nI x < 0 → ((8 ≤ nI x → B) ∧ (¬ 8 ≤ nI x → C))) :=
  br_f (nI_pos (by omega)) (br_f (nI_ge (b := 8) h (by decide)) c)
theorem rc_rhF {p : Int32} {A B C : Prop} (h : p < 0 ∨ (¬ p < 0 ∧ nI 8 ≤ p)) (a : A) (b : B) : (p < 0 → A) ∧ (¬ p < 0 → ((p < 8 → C) ∧ (¬ p < 8 → B))) := by
  rcases h with h | ⟨h, h'⟩
  · exact br_t h a
  · exact br_f h (br_f (fun w => Int32.not_le.mpr w h') b)
theorem rc_rhT {x : Nat} {A B C : Prop} (h : x < 8) (c : C) : (nI x < 0 → A) ∧ (¬ nI x < 0 → ((nI x < 8 → C) ∧ (¬ nI x < 8 → B))) :=
  br_f (nI_pos (by omega)) (br_t (nI_lt (b := 8) h (by decide)) c)
end
section
variable {f_kindRet f_kindTail f_kindBind f_kindCon f_kindPrim f_kindCall f_kindMatch f_kindTest f_heapSize f_depthLimit f_nodeLimit f_nodeCount f_fragmentCount f_frames f_at f_deadCount f_freeHead f_fresh f_liveCells f_spareTotal f_counted f_status f_made f_reused f_peak f_calls f_resultCells : Int32} {f_cellBase f_result : Int64} {a_nodeKind a_nodeX a_nodeParam a_nodeA a_nodeB a_nodeNext a_nodeElse a_nodeFree a_nodeNeed a_fragments a_body a_waiting a_spareHead a_spareCount a_cellTag a_holds a_link a_dead a_cellOfNumber a_numberOfCell a_places a_walk : Nat → Int32} {a_slots a_cellLeft a_cellRight : Nat → Int64}
variable {g_frames g_status g_resKind g_resNumber g_numbered : Int32} {b_nodeA b_nodeB b_scratch b_slotKind b_slotNumber b_spares b_cellTag b_partKind b_partNumber b_live b_order b_todo : Nat → Int32}
variable {nc hs dl : Nat} {nd : Nat → Nat} {p0 p1 p2 p3 : Int32}
theorem rm_ret (hST : (rc_ST nc hs dl nd f_heapSize f_depthLimit a_nodeKind a_nodeX a_nodeParam a_nodeA a_nodeB a_nodeNext a_nodeElse a_nodeFree a_nodeNeed a_body b_nodeA b_nodeB)) (hFT : (rc_FT nc f_nodeLimit f_nodeCount f_fragmentCount a_fragments)) (hRR : (rc_RR f_status f_result f_resultCells f_counted f_liveCells a_cellTag a_cellLeft a_cellRight a_cellOfNumber a_numberOfCell a_places g_status g_resKind g_resNumber g_numbered b_cellTag b_partKind b_partNumber b_order)) : rc_EQ1 (fun post u => wpX_ret post u p0) (fun post v => wpY_ret post v p0) (f_kindRet, f_kindTail, f_kindBind, f_kindCon, f_kindPrim, f_kindCall, f_kindMatch, f_kindTest, f_cellBase, f_heapSize, f_depthLimit, f_nodeLimit, f_nodeCount, f_fragmentCount, f_frames, f_at, f_deadCount, f_freeHead, f_fresh, f_liveCells, f_spareTotal, f_counted, f_status, f_made, f_reused, f_peak, f_calls, f_result, f_resultCells, a_nodeKind, a_nodeX, a_nodeParam, a_nodeA, a_nodeB, a_nodeNext, a_nodeElse, a_nodeFree, a_nodeNeed, a_fragments, a_body, a_slots, a_waiting, a_spareHead, a_spareCount, a_cellTag, a_cellLeft, a_cellRight, a_holds, a_link, a_dead, a_cellOfNumber, a_numberOfCell, a_places, a_walk) (f_heapSize, f_depthLimit, f_nodeLimit, f_nodeCount, f_fragmentCount, g_frames, f_made, f_counted, f_reused, f_peak, f_calls, g_status, g_resKind, g_resNumber, g_numbered, a_nodeKind, a_nodeX, a_nodeParam, b_nodeA, b_nodeB, a_nodeNext, a_nodeElse, b_scratch, a_fragments, a_body, b_slotKind, b_slotNumber, b_spares, a_waiting, b_cellTag, b_partKind, b_partNumber, b_live, b_order, b_todo) := by
  have R0 := rc_REL_mk (g_frames := g_frames) (b_scratch := b_scratch) (b_slotKind := b_slotKind) (b_slotNumber := b_slotNumber) (b_spares := b_spares) (b_live := b_live) (b_todo := b_todo) (f_kindRet := f_kindRet) (f_kindTail := f_kindTail) (f_kindBind := f_kindBind) (f_kindCon := f_kindCon) (f_kindPrim := f_kindPrim) (f_kindCall := f_kindCall) (f_kindMatch := f_kindMatch) (f_kindTest := f_kindTest) (f_cellBase := f_cellBase) (f_heapSize := f_heapSize) (f_depthLimit := f_depthLimit) (f_nodeLimit := f_nodeLimit) (f_nodeCount := f_nodeCount) (f_fragmentCount := f_fragmentCount) (f_frames := f_frames) (f_at := f_at) (f_deadCount := f_deadCount) (f_freeHead := f_freeHead) (f_fresh := f_fresh) (f_liveCells := f_liveCells) (f_spareTotal := f_spareTotal) (f_counted := f_counted) (f_status := f_status) (f_made := f_made) (f_reused := f_reused) (f_peak := f_peak) (f_calls := f_calls) (f_result := f_result) (f_resultCells := f_resultCells) (a_nodeKind := a_nodeKind) (a_nodeX := a_nodeX) (a_nodeParam := a_nodeParam) (a_nodeA := a_nodeA) (a_nodeB := a_nodeB) (a_nodeNext := a_nodeNext) (a_nodeElse := a_nodeElse) (a_nodeFree := a_nodeFree) (a_nodeNeed := a_nodeNeed) (a_fragments := a_fragments) (a_body := a_body) (a_slots := a_slots) (a_waiting := a_waiting) (a_spareHead := a_spareHead) (a_spareCount := a_spareCount) (a_cellTag := a_cellTag) (a_cellLeft := a_cellLeft) (a_cellRight := a_cellRight) (a_holds := a_holds) (a_link := a_link) (a_dead := a_dead) (a_cellOfNumber := a_cellOfNumber) (a_numberOfCell := a_numberOfCell) (a_places := a_places) (a_walk := a_walk) hST hFT hRR
  rcases rc_opd p0 with h0 | h0
  · obtain ⟨r, u', v', R, WX, WY⟩ := rs_leaf (K := 0) (P := 0) (A := p0) (B := -1) (g_frames := g_frames) (b_scratch := b_scratch) (b_slotKind := b_slotKind) (b_slotNumber := b_slotNumber) (b_spares := b_spares) (b_live := b_live) (b_todo := b_todo) (f_kindRet := f_kindRet) (f_kindTail := f_kindTail) (f_kindBind := f_kindBind) (f_kindCon := f_kindCon) (f_kindPrim := f_kindPrim) (f_kindCall := f_kindCall) (f_kindMatch := f_kindMatch) (f_kindTest := f_kindTest) (f_cellBase := f_cellBase) (f_heapSize := f_heapSize) (f_depthLimit := f_depthLimit) (f_nodeLimit := f_nodeLimit) (f_nodeCount := f_nodeCount) (f_fragmentCount := f_fragmentCount) (f_frames := f_frames) (f_at := f_at) (f_deadCount := f_deadCount) (f_freeHead := f_freeHead) (f_fresh := f_fresh) (f_liveCells := f_liveCells) (f_spareTotal := f_spareTotal) (f_counted := f_counted) (f_status := f_status) (f_made := f_made) (f_reused := f_reused) (f_peak := f_peak) (f_calls := f_calls) (f_result := f_result) (f_resultCells := f_resultCells) (a_nodeKind := a_nodeKind) (a_nodeX := a_nodeX) (a_nodeParam := a_nodeParam) (a_nodeA := a_nodeA) (a_nodeB := a_nodeB) (a_nodeNext := a_nodeNext) (a_nodeElse := a_nodeElse) (a_nodeFree := a_nodeFree) (a_nodeNeed := a_nodeNeed) (a_fragments := a_fragments) (a_body := a_body) (a_slots := a_slots) (a_waiting := a_waiting) (a_spareHead := a_spareHead) (a_spareCount := a_spareCount) (a_cellTag := a_cellTag) (a_cellLeft := a_cellLeft) (a_cellRight := a_cellRight) (a_holds := a_holds) (a_link := a_link) (a_dead := a_dead) (a_cellOfNumber := a_cellOfNumber) (a_numberOfCell := a_numberOfCell) (a_places := a_places) (a_walk := a_walk) (Or.inl rfl) h0 (Or.inl rc_m1_lt) (fun w => absurd w (by decide)) (fun _ => rfl) hST hFT hRR
    exact ⟨r, u', v', R, fun post hp => by delta wpX_ret; exact rx_opT h0 _ (br_f (by decide) (WX _ hp)), fun post hp => by delta wpY_ret; exact ry_opT h0 _ (br_t rfl (WY _ hp))⟩
  · exact ⟨1, _, _, R0, fun post hp => by delta wpX_ret; exact rx_opF h0 _ (br_t rfl hp), fun post hp => by delta wpY_ret; exact ry_opF h0 _ (br_f (by decide) hp)⟩
theorem rm_tail (hST : (rc_ST nc hs dl nd f_heapSize f_depthLimit a_nodeKind a_nodeX a_nodeParam a_nodeA a_nodeB a_nodeNext a_nodeElse a_nodeFree a_nodeNeed a_body b_nodeA b_nodeB)) (hFT : (rc_FT nc f_nodeLimit f_nodeCount f_fragmentCount a_fragments)) (hRR : (rc_RR f_status f_result f_resultCells f_counted f_liveCells a_cellTag a_cellLeft a_cellRight a_cellOfNumber a_numberOfCell a_places g_status g_resKind g_resNumber g_numbered b_cellTag b_partKind b_partNumber b_order)) : rc_EQ1 (fun post u => wpX_tail post u p0 p1 p2) (fun post v => wpY_tail post v p0 p1 p2) (f_kindRet, f_kindTail, f_kindBind, f_kindCon, f_kindPrim, f_kindCall, f_kindMatch, f_kindTest, f_cellBase, f_heapSize, f_depthLimit, f_nodeLimit, f_nodeCount, f_fragmentCount, f_frames, f_at, f_deadCount, f_freeHead, f_fresh, f_liveCells, f_spareTotal, f_counted, f_status, f_made, f_reused, f_peak, f_calls, f_result, f_resultCells, a_nodeKind, a_nodeX, a_nodeParam, a_nodeA, a_nodeB, a_nodeNext, a_nodeElse, a_nodeFree, a_nodeNeed, a_fragments, a_body, a_slots, a_waiting, a_spareHead, a_spareCount, a_cellTag, a_cellLeft, a_cellRight, a_holds, a_link, a_dead, a_cellOfNumber, a_numberOfCell, a_places, a_walk) (f_heapSize, f_depthLimit, f_nodeLimit, f_nodeCount, f_fragmentCount, g_frames, f_made, f_counted, f_reused, f_peak, f_calls, g_status, g_resKind, g_resNumber, g_numbered, a_nodeKind, a_nodeX, a_nodeParam, b_nodeA, b_nodeB, a_nodeNext, a_nodeElse, b_scratch, a_fragments, a_body, b_slotKind, b_slotNumber, b_spares, a_waiting, b_cellTag, b_partKind, b_partNumber, b_live, b_order, b_todo) := by
  have R0 := rc_REL_mk (g_frames := g_frames) (b_scratch := b_scratch) (b_slotKind := b_slotKind) (b_slotNumber := b_slotNumber) (b_spares := b_spares) (b_live := b_live) (b_todo := b_todo) (f_kindRet := f_kindRet) (f_kindTail := f_kindTail) (f_kindBind := f_kindBind) (f_kindCon := f_kindCon) (f_kindPrim := f_kindPrim) (f_kindCall := f_kindCall) (f_kindMatch := f_kindMatch) (f_kindTest := f_kindTest) (f_cellBase := f_cellBase) (f_heapSize := f_heapSize) (f_depthLimit := f_depthLimit) (f_nodeLimit := f_nodeLimit) (f_nodeCount := f_nodeCount) (f_fragmentCount := f_fragmentCount) (f_frames := f_frames) (f_at := f_at) (f_deadCount := f_deadCount) (f_freeHead := f_freeHead) (f_fresh := f_fresh) (f_liveCells := f_liveCells) (f_spareTotal := f_spareTotal) (f_counted := f_counted) (f_status := f_status) (f_made := f_made) (f_reused := f_reused) (f_peak := f_peak) (f_calls := f_calls) (f_result := f_result) (f_resultCells := f_resultCells) (a_nodeKind := a_nodeKind) (a_nodeX := a_nodeX) (a_nodeParam := a_nodeParam) (a_nodeA := a_nodeA) (a_nodeB := a_nodeB) (a_nodeNext := a_nodeNext) (a_nodeElse := a_nodeElse) (a_nodeFree := a_nodeFree) (a_nodeNeed := a_nodeNeed) (a_fragments := a_fragments) (a_body := a_body) (a_slots := a_slots) (a_waiting := a_waiting) (a_spareHead := a_spareHead) (a_spareCount := a_spareCount) (a_cellTag := a_cellTag) (a_cellLeft := a_cellLeft) (a_cellRight := a_cellRight) (a_holds := a_holds) (a_link := a_link) (a_dead := a_dead) (a_cellOfNumber := a_cellOfNumber) (a_numberOfCell := a_numberOfCell) (a_places := a_places) (a_walk := a_walk) hST hFT hRR
  rcases rc_idx p0 (n := 8) (by decide) (by decide) with ⟨f, hf, rfl⟩ | h0
  · rcases rc_opd p1 with h1 | h1
    · rcases rc_opd p2 with h2 | h2
      · obtain ⟨r, u', v', R, WX, WY⟩ := rs_leaf (K := 1) (P := nI f) (A := p1) (B := p2) (g_frames := g_frames) (b_scratch := b_scratch) (b_slotKind := b_slotKind) (b_slotNumber := b_slotNumber) (b_spares := b_spares) (b_live := b_live) (b_todo := b_todo) (f_kindRet := f_kindRet) (f_kindTail := f_kindTail) (f_kindBind := f_kindBind) (f_kindCon := f_kindCon) (f_kindPrim := f_kindPrim) (f_kindCall := f_kindCall) (f_kindMatch := f_kindMatch) (f_kindTest := f_kindTest) (f_cellBase := f_cellBase) (f_heapSize := f_heapSize) (f_depthLimit := f_depthLimit) (f_nodeLimit := f_nodeLimit) (f_nodeCount := f_nodeCount) (f_fragmentCount := f_fragmentCount) (f_frames := f_frames) (f_at := f_at) (f_deadCount := f_deadCount) (f_freeHead := f_freeHead) (f_fresh := f_fresh) (f_liveCells := f_liveCells) (f_spareTotal := f_spareTotal) (f_counted := f_counted) (f_status := f_status) (f_made := f_made) (f_reused := f_reused) (f_peak := f_peak) (f_calls := f_calls) (f_result := f_result) (f_resultCells := f_resultCells) (a_nodeKind := a_nodeKind) (a_nodeX := a_nodeX) (a_nodeParam := a_nodeParam) (a_nodeA := a_nodeA) (a_nodeB := a_nodeB) (a_nodeNext := a_nodeNext) (a_nodeElse := a_nodeElse) (a_nodeFree := a_nodeFree) (a_nodeNeed := a_nodeNeed) (a_fragments := a_fragments) (a_body := a_body) (a_slots := a_slots) (a_waiting := a_waiting) (a_spareHead := a_spareHead) (a_spareCount := a_spareCount) (a_cellTag := a_cellTag) (a_cellLeft := a_cellLeft) (a_cellRight := a_cellRight) (a_holds := a_holds) (a_link := a_link) (a_dead := a_dead) (a_cellOfNumber := a_cellOfNumber) (a_numberOfCell := a_numberOfCell) (a_places := a_places) (a_walk := a_walk) (Or.inr rfl) h1 h2 (fun _ => ⟨f, hf, rfl⟩) (fun w => absurd w (by decide)) hST hFT hRR
        exact ⟨r, u', v', R, fun post hp => by delta wpX_tail; exact rx_fnT hf _ (br_f (by decide) (rx_opT h1 _ (br_f (by decide) (rx_opT h2 _ (br_f (by decide) (WX _ hp)))))), fun post hp => rc_rgT hf (ry_opT h1 _ (br_t rfl (ry_opT h2 _ (br_t rfl (WY _ hp)))))⟩
      · exact ⟨1, _, _, R0, fun post hp => by delta wpX_tail; exact rx_fnT hf _ (br_f (by decide) (rx_opT h1 _ (br_f (by decide) (rx_opF h2 _ (br_t rfl hp))))), fun post hp => rc_rgT hf (ry_opT h1 _ (br_t rfl (ry_opF h2 _ (br_f (by decide) hp))))⟩
    · exact ⟨1, _, _, R0, fun post hp => by delta wpX_tail; exact rx_fnT hf _ (br_f (by decide) (rx_opF h1 _ (br_t rfl hp))), fun post hp => rc_rgT hf (ry_opF h1 _ (br_f (by decide) hp))⟩
  · exact ⟨1, _, _, R0, fun post hp => by delta wpX_tail; exact rx_fnF h0 _ (br_t rfl hp), fun post hp => rc_rgF h0 hp hp⟩
theorem rm_bind (hST : (rc_ST nc hs dl nd f_heapSize f_depthLimit a_nodeKind a_nodeX a_nodeParam a_nodeA a_nodeB a_nodeNext a_nodeElse a_nodeFree a_nodeNeed a_body b_nodeA b_nodeB)) (hFT : (rc_FT nc f_nodeLimit f_nodeCount f_fragmentCount a_fragments)) (hRR : (rc_RR f_status f_result f_resultCells f_counted f_liveCells a_cellTag a_cellLeft a_cellRight a_cellOfNumber a_numberOfCell a_places g_status g_resKind g_resNumber g_numbered b_cellTag b_partKind b_partNumber b_order)) : rc_EQ1 (fun post u => wpX_bind post u p0 p1) (fun post v => wpY_bind post v p0 p1) (f_kindRet, f_kindTail, f_kindBind, f_kindCon, f_kindPrim, f_kindCall, f_kindMatch, f_kindTest, f_cellBase, f_heapSize, f_depthLimit, f_nodeLimit, f_nodeCount, f_fragmentCount, f_frames, f_at, f_deadCount, f_freeHead, f_fresh, f_liveCells, f_spareTotal, f_counted, f_status, f_made, f_reused, f_peak, f_calls, f_result, f_resultCells, a_nodeKind, a_nodeX, a_nodeParam, a_nodeA, a_nodeB, a_nodeNext, a_nodeElse, a_nodeFree, a_nodeNeed, a_fragments, a_body, a_slots, a_waiting, a_spareHead, a_spareCount, a_cellTag, a_cellLeft, a_cellRight, a_holds, a_link, a_dead, a_cellOfNumber, a_numberOfCell, a_places, a_walk) (f_heapSize, f_depthLimit, f_nodeLimit, f_nodeCount, f_fragmentCount, g_frames, f_made, f_counted, f_reused, f_peak, f_calls, g_status, g_resKind, g_resNumber, g_numbered, a_nodeKind, a_nodeX, a_nodeParam, b_nodeA, b_nodeB, a_nodeNext, a_nodeElse, b_scratch, a_fragments, a_body, b_slotKind, b_slotNumber, b_spares, a_waiting, b_cellTag, b_partKind, b_partNumber, b_live, b_order, b_todo) := by
  have R0 := rc_REL_mk (g_frames := g_frames) (b_scratch := b_scratch) (b_slotKind := b_slotKind) (b_slotNumber := b_slotNumber) (b_spares := b_spares) (b_live := b_live) (b_todo := b_todo) (f_kindRet := f_kindRet) (f_kindTail := f_kindTail) (f_kindBind := f_kindBind) (f_kindCon := f_kindCon) (f_kindPrim := f_kindPrim) (f_kindCall := f_kindCall) (f_kindMatch := f_kindMatch) (f_kindTest := f_kindTest) (f_cellBase := f_cellBase) (f_heapSize := f_heapSize) (f_depthLimit := f_depthLimit) (f_nodeLimit := f_nodeLimit) (f_nodeCount := f_nodeCount) (f_fragmentCount := f_fragmentCount) (f_frames := f_frames) (f_at := f_at) (f_deadCount := f_deadCount) (f_freeHead := f_freeHead) (f_fresh := f_fresh) (f_liveCells := f_liveCells) (f_spareTotal := f_spareTotal) (f_counted := f_counted) (f_status := f_status) (f_made := f_made) (f_reused := f_reused) (f_peak := f_peak) (f_calls := f_calls) (f_result := f_result) (f_resultCells := f_resultCells) (a_nodeKind := a_nodeKind) (a_nodeX := a_nodeX) (a_nodeParam := a_nodeParam) (a_nodeA := a_nodeA) (a_nodeB := a_nodeB) (a_nodeNext := a_nodeNext) (a_nodeElse := a_nodeElse) (a_nodeFree := a_nodeFree) (a_nodeNeed := a_nodeNeed) (a_fragments := a_fragments) (a_body := a_body) (a_slots := a_slots) (a_waiting := a_waiting) (a_spareHead := a_spareHead) (a_spareCount := a_spareCount) (a_cellTag := a_cellTag) (a_cellLeft := a_cellLeft) (a_cellRight := a_cellRight) (a_holds := a_holds) (a_link := a_link) (a_dead := a_dead) (a_cellOfNumber := a_cellOfNumber) (a_numberOfCell := a_numberOfCell) (a_places := a_places) (a_walk := a_walk) hST hFT hRR
  rcases rc_idx p0 (n := 12) (by decide) (by decide) with ⟨x, hx, rfl⟩ | h0
  · rcases rc_opd p1 with h1 | h1
    · obtain ⟨r, u', v', R, WX, WY⟩ := rs_chain (K := 2) (P := 0) (A := p1) (B := -1) (x := x) (g_frames := g_frames) (b_scratch := b_scratch) (b_slotKind := b_slotKind) (b_slotNumber := b_slotNumber) (b_spares := b_spares) (b_live := b_live) (b_todo := b_todo) (f_kindRet := f_kindRet) (f_kindTail := f_kindTail) (f_kindBind := f_kindBind) (f_kindCon := f_kindCon) (f_kindPrim := f_kindPrim) (f_kindCall := f_kindCall) (f_kindMatch := f_kindMatch) (f_kindTest := f_kindTest) (f_cellBase := f_cellBase) (f_heapSize := f_heapSize) (f_depthLimit := f_depthLimit) (f_nodeLimit := f_nodeLimit) (f_nodeCount := f_nodeCount) (f_fragmentCount := f_fragmentCount) (f_frames := f_frames) (f_at := f_at) (f_deadCount := f_deadCount) (f_freeHead := f_freeHead) (f_fresh := f_fresh) (f_liveCells := f_liveCells) (f_spareTotal := f_spareTotal) (f_counted := f_counted) (f_status := f_status) (f_made := f_made) (f_reused := f_reused) (f_peak := f_peak) (f_calls := f_calls) (f_result := f_result) (f_resultCells := f_resultCells) (a_nodeKind := a_nodeKind) (a_nodeX := a_nodeX) (a_nodeParam := a_nodeParam) (a_nodeA := a_nodeA) (a_nodeB := a_nodeB) (a_nodeNext := a_nodeNext) (a_nodeElse := a_nodeElse) (a_nodeFree := a_nodeFree) (a_nodeNeed := a_nodeNeed) (a_fragments := a_fragments) (a_body := a_body) (a_slots := a_slots) (a_waiting := a_waiting) (a_spareHead := a_spareHead) (a_spareCount := a_spareCount) (a_cellTag := a_cellTag) (a_cellLeft := a_cellLeft) (a_cellRight := a_cellRight) (a_holds := a_holds) (a_link := a_link) (a_dead := a_dead) (a_cellOfNumber := a_cellOfNumber) (a_numberOfCell := a_numberOfCell) (a_places := a_places) (a_walk := a_walk) (Or.inl rfl) hx h1 (Or.inl rc_m1_lt) (fun w => absurd w (by decide)) (fun w => absurd w (by decide)) hST hFT hRR
      exact ⟨r, u', v', R, fun post hp => by delta wpX_bind; exact rx_slT hx _ (br_f (by decide) (rx_opT h1 _ (br_f (by decide) (WX _ hp)))), fun post hp => by delta wpY_bind; exact ry_slT hx _ (br_t rfl (ry_opT h1 _ (br_t rfl (WY _ hp))))⟩
    · exact ⟨1, _, _, R0, fun post hp => by delta wpX_bind; exact rx_slT hx _ (br_f (by decide) (rx_opF h1 _ (br_t rfl hp))), fun post hp => by delta wpY_bind; exact ry_slT hx _ (br_t rfl (ry_opF h1 _ (br_f (by decide) hp)))⟩
  · exact ⟨1, _, _, R0, fun post hp => by delta wpX_bind; exact rx_slF h0 _ (br_t rfl hp), fun post hp => by delta wpY_bind; exact ry_slF h0 _ (br_f (by decide) hp)⟩
theorem rm_con (hST : (rc_ST nc hs dl nd f_heapSize f_depthLimit a_nodeKind a_nodeX a_nodeParam a_nodeA a_nodeB a_nodeNext a_nodeElse a_nodeFree a_nodeNeed a_body b_nodeA b_nodeB)) (hFT : (rc_FT nc f_nodeLimit f_nodeCount f_fragmentCount a_fragments)) (hRR : (rc_RR f_status f_result f_resultCells f_counted f_liveCells a_cellTag a_cellLeft a_cellRight a_cellOfNumber a_numberOfCell a_places g_status g_resKind g_resNumber g_numbered b_cellTag b_partKind b_partNumber b_order)) : rc_EQ1 (fun post u => wpX_con post u p0 p1 p2 p3) (fun post v => wpY_con post v p0 p1 p2 p3) (f_kindRet, f_kindTail, f_kindBind, f_kindCon, f_kindPrim, f_kindCall, f_kindMatch, f_kindTest, f_cellBase, f_heapSize, f_depthLimit, f_nodeLimit, f_nodeCount, f_fragmentCount, f_frames, f_at, f_deadCount, f_freeHead, f_fresh, f_liveCells, f_spareTotal, f_counted, f_status, f_made, f_reused, f_peak, f_calls, f_result, f_resultCells, a_nodeKind, a_nodeX, a_nodeParam, a_nodeA, a_nodeB, a_nodeNext, a_nodeElse, a_nodeFree, a_nodeNeed, a_fragments, a_body, a_slots, a_waiting, a_spareHead, a_spareCount, a_cellTag, a_cellLeft, a_cellRight, a_holds, a_link, a_dead, a_cellOfNumber, a_numberOfCell, a_places, a_walk) (f_heapSize, f_depthLimit, f_nodeLimit, f_nodeCount, f_fragmentCount, g_frames, f_made, f_counted, f_reused, f_peak, f_calls, g_status, g_resKind, g_resNumber, g_numbered, a_nodeKind, a_nodeX, a_nodeParam, b_nodeA, b_nodeB, a_nodeNext, a_nodeElse, b_scratch, a_fragments, a_body, b_slotKind, b_slotNumber, b_spares, a_waiting, b_cellTag, b_partKind, b_partNumber, b_live, b_order, b_todo) := by
  have R0 := rc_REL_mk (g_frames := g_frames) (b_scratch := b_scratch) (b_slotKind := b_slotKind) (b_slotNumber := b_slotNumber) (b_spares := b_spares) (b_live := b_live) (b_todo := b_todo) (f_kindRet := f_kindRet) (f_kindTail := f_kindTail) (f_kindBind := f_kindBind) (f_kindCon := f_kindCon) (f_kindPrim := f_kindPrim) (f_kindCall := f_kindCall) (f_kindMatch := f_kindMatch) (f_kindTest := f_kindTest) (f_cellBase := f_cellBase) (f_heapSize := f_heapSize) (f_depthLimit := f_depthLimit) (f_nodeLimit := f_nodeLimit) (f_nodeCount := f_nodeCount) (f_fragmentCount := f_fragmentCount) (f_frames := f_frames) (f_at := f_at) (f_deadCount := f_deadCount) (f_freeHead := f_freeHead) (f_fresh := f_fresh) (f_liveCells := f_liveCells) (f_spareTotal := f_spareTotal) (f_counted := f_counted) (f_status := f_status) (f_made := f_made) (f_reused := f_reused) (f_peak := f_peak) (f_calls := f_calls) (f_result := f_result) (f_resultCells := f_resultCells) (a_nodeKind := a_nodeKind) (a_nodeX := a_nodeX) (a_nodeParam := a_nodeParam) (a_nodeA := a_nodeA) (a_nodeB := a_nodeB) (a_nodeNext := a_nodeNext) (a_nodeElse := a_nodeElse) (a_nodeFree := a_nodeFree) (a_nodeNeed := a_nodeNeed) (a_fragments := a_fragments) (a_body := a_body) (a_slots := a_slots) (a_waiting := a_waiting) (a_spareHead := a_spareHead) (a_spareCount := a_spareCount) (a_cellTag := a_cellTag) (a_cellLeft := a_cellLeft) (a_cellRight := a_cellRight) (a_holds := a_holds) (a_link := a_link) (a_dead := a_dead) (a_cellOfNumber := a_cellOfNumber) (a_numberOfCell := a_numberOfCell) (a_places := a_places) (a_walk := a_walk) hST hFT hRR
  rcases rc_idx p0 (n := 12) (by decide) (by decide) with ⟨x, hx, rfl⟩ | h0
  · rcases rc_idx p1 (n := 8) (by decide) (by decide) with ⟨t, ht, rfl⟩ | h1
    · rcases rc_opd p2 with h2 | h2
      · rcases rc_opd p3 with h3 | h3
        · obtain ⟨r, u', v', R, WX, WY⟩ := rs_chain (K := 3) (P := nI t) (A := p2) (B := p3) (x := x) (g_frames := g_frames) (b_scratch := b_scratch) (b_slotKind := b_slotKind) (b_slotNumber := b_slotNumber) (b_spares := b_spares) (b_live := b_live) (b_todo := b_todo) (f_kindRet := f_kindRet) (f_kindTail := f_kindTail) (f_kindBind := f_kindBind) (f_kindCon := f_kindCon) (f_kindPrim := f_kindPrim) (f_kindCall := f_kindCall) (f_kindMatch := f_kindMatch) (f_kindTest := f_kindTest) (f_cellBase := f_cellBase) (f_heapSize := f_heapSize) (f_depthLimit := f_depthLimit) (f_nodeLimit := f_nodeLimit) (f_nodeCount := f_nodeCount) (f_fragmentCount := f_fragmentCount) (f_frames := f_frames) (f_at := f_at) (f_deadCount := f_deadCount) (f_freeHead := f_freeHead) (f_fresh := f_fresh) (f_liveCells := f_liveCells) (f_spareTotal := f_spareTotal) (f_counted := f_counted) (f_status := f_status) (f_made := f_made) (f_reused := f_reused) (f_peak := f_peak) (f_calls := f_calls) (f_result := f_result) (f_resultCells := f_resultCells) (a_nodeKind := a_nodeKind) (a_nodeX := a_nodeX) (a_nodeParam := a_nodeParam) (a_nodeA := a_nodeA) (a_nodeB := a_nodeB) (a_nodeNext := a_nodeNext) (a_nodeElse := a_nodeElse) (a_nodeFree := a_nodeFree) (a_nodeNeed := a_nodeNeed) (a_fragments := a_fragments) (a_body := a_body) (a_slots := a_slots) (a_waiting := a_waiting) (a_spareHead := a_spareHead) (a_spareCount := a_spareCount) (a_cellTag := a_cellTag) (a_cellLeft := a_cellLeft) (a_cellRight := a_cellRight) (a_holds := a_holds) (a_link := a_link) (a_dead := a_dead) (a_cellOfNumber := a_cellOfNumber) (a_numberOfCell := a_numberOfCell) (a_places := a_places) (a_walk := a_walk) (Or.inr (Or.inl rfl)) hx h2 h3 (fun w => absurd w (by decide)) (fun w => absurd w (by decide)) hST hFT hRR
          exact ⟨r, u', v', R, fun post hp => by delta wpX_con; exact rx_slT hx _ (br_f (by decide) (rx_tgT ht _ (br_f (by decide) (rx_opT h2 _ (br_f (by decide) (rx_opT h3 _ (br_f (by decide) (WX _ hp)))))))), fun post hp => by delta wpY_con; exact ry_slT hx _ (br_t rfl (rc_rgT ht (ry_opT h2 _ (br_t rfl (ry_opT h3 _ (br_t rfl (WY _ hp)))))))⟩
        · exact ⟨1, _, _, R0, fun post hp => by delta wpX_con; exact rx_slT hx _ (br_f (by decide) (rx_tgT ht _ (br_f (by decide) (rx_opT h2 _ (br_f (by decide) (rx_opF h3 _ (br_t rfl hp))))))), fun post hp => by delta wpY_con; exact ry_slT hx _ (br_t rfl (rc_rgT ht (ry_opT h2 _ (br_t rfl (ry_opF h3 _ (br_f (by decide) hp))))))⟩
      · exact ⟨1, _, _, R0, fun post hp => by delta wpX_con; exact rx_slT hx _ (br_f (by decide) (rx_tgT ht _ (br_f (by decide) (rx_opF h2 _ (br_t rfl hp))))), fun post hp => by delta wpY_con; exact ry_slT hx _ (br_t rfl (rc_rgT ht (ry_opF h2 _ (br_f (by decide) hp))))⟩
    · exact ⟨1, _, _, R0, fun post hp => by delta wpX_con; exact rx_slT hx _ (br_f (by decide) (rx_tgF h1 _ (br_t rfl hp))), fun post hp => by delta wpY_con; exact ry_slT hx _ (br_t rfl (rc_rgF h1 hp hp))⟩
  · exact ⟨1, _, _, R0, fun post hp => by delta wpX_con; exact rx_slF h0 _ (br_t rfl hp), fun post hp => by delta wpY_con; exact ry_slF h0 _ (br_f (by decide) hp)⟩
theorem rm_call (hST : (rc_ST nc hs dl nd f_heapSize f_depthLimit a_nodeKind a_nodeX a_nodeParam a_nodeA a_nodeB a_nodeNext a_nodeElse a_nodeFree a_nodeNeed a_body b_nodeA b_nodeB)) (hFT : (rc_FT nc f_nodeLimit f_nodeCount f_fragmentCount a_fragments)) (hRR : (rc_RR f_status f_result f_resultCells f_counted f_liveCells a_cellTag a_cellLeft a_cellRight a_cellOfNumber a_numberOfCell a_places g_status g_resKind g_resNumber g_numbered b_cellTag b_partKind b_partNumber b_order)) : rc_EQ1 (fun post u => wpX_call post u p0 p1 p2 p3) (fun post v => wpY_call post v p0 p1 p2 p3) (f_kindRet, f_kindTail, f_kindBind, f_kindCon, f_kindPrim, f_kindCall, f_kindMatch, f_kindTest, f_cellBase, f_heapSize, f_depthLimit, f_nodeLimit, f_nodeCount, f_fragmentCount, f_frames, f_at, f_deadCount, f_freeHead, f_fresh, f_liveCells, f_spareTotal, f_counted, f_status, f_made, f_reused, f_peak, f_calls, f_result, f_resultCells, a_nodeKind, a_nodeX, a_nodeParam, a_nodeA, a_nodeB, a_nodeNext, a_nodeElse, a_nodeFree, a_nodeNeed, a_fragments, a_body, a_slots, a_waiting, a_spareHead, a_spareCount, a_cellTag, a_cellLeft, a_cellRight, a_holds, a_link, a_dead, a_cellOfNumber, a_numberOfCell, a_places, a_walk) (f_heapSize, f_depthLimit, f_nodeLimit, f_nodeCount, f_fragmentCount, g_frames, f_made, f_counted, f_reused, f_peak, f_calls, g_status, g_resKind, g_resNumber, g_numbered, a_nodeKind, a_nodeX, a_nodeParam, b_nodeA, b_nodeB, a_nodeNext, a_nodeElse, b_scratch, a_fragments, a_body, b_slotKind, b_slotNumber, b_spares, a_waiting, b_cellTag, b_partKind, b_partNumber, b_live, b_order, b_todo) := by
  have R0 := rc_REL_mk (g_frames := g_frames) (b_scratch := b_scratch) (b_slotKind := b_slotKind) (b_slotNumber := b_slotNumber) (b_spares := b_spares) (b_live := b_live) (b_todo := b_todo) (f_kindRet := f_kindRet) (f_kindTail := f_kindTail) (f_kindBind := f_kindBind) (f_kindCon := f_kindCon) (f_kindPrim := f_kindPrim) (f_kindCall := f_kindCall) (f_kindMatch := f_kindMatch) (f_kindTest := f_kindTest) (f_cellBase := f_cellBase) (f_heapSize := f_heapSize) (f_depthLimit := f_depthLimit) (f_nodeLimit := f_nodeLimit) (f_nodeCount := f_nodeCount) (f_fragmentCount := f_fragmentCount) (f_frames := f_frames) (f_at := f_at) (f_deadCount := f_deadCount) (f_freeHead := f_freeHead) (f_fresh := f_fresh) (f_liveCells := f_liveCells) (f_spareTotal := f_spareTotal) (f_counted := f_counted) (f_status := f_status) (f_made := f_made) (f_reused := f_reused) (f_peak := f_peak) (f_calls := f_calls) (f_result := f_result) (f_resultCells := f_resultCells) (a_nodeKind := a_nodeKind) (a_nodeX := a_nodeX) (a_nodeParam := a_nodeParam) (a_nodeA := a_nodeA) (a_nodeB := a_nodeB) (a_nodeNext := a_nodeNext) (a_nodeElse := a_nodeElse) (a_nodeFree := a_nodeFree) (a_nodeNeed := a_nodeNeed) (a_fragments := a_fragments) (a_body := a_body) (a_slots := a_slots) (a_waiting := a_waiting) (a_spareHead := a_spareHead) (a_spareCount := a_spareCount) (a_cellTag := a_cellTag) (a_cellLeft := a_cellLeft) (a_cellRight := a_cellRight) (a_holds := a_holds) (a_link := a_link) (a_dead := a_dead) (a_cellOfNumber := a_cellOfNumber) (a_numberOfCell := a_numberOfCell) (a_places := a_places) (a_walk := a_walk) hST hFT hRR
  rcases rc_idx p0 (n := 12) (by decide) (by decide) with ⟨x, hx, rfl⟩ | h0
  · rcases rc_idx p1 (n := 8) (by decide) (by decide) with ⟨t, ht, rfl⟩ | h1
    · rcases rc_opd p2 with h2 | h2
      · rcases rc_opd p3 with h3 | h3
        · obtain ⟨r, u', v', R, WX, WY⟩ := rs_chain (K := 5) (P := nI t) (A := p2) (B := p3) (x := x) (g_frames := g_frames) (b_scratch := b_scratch) (b_slotKind := b_slotKind) (b_slotNumber := b_slotNumber) (b_spares := b_spares) (b_live := b_live) (b_todo := b_todo) (f_kindRet := f_kindRet) (f_kindTail := f_kindTail) (f_kindBind := f_kindBind) (f_kindCon := f_kindCon) (f_kindPrim := f_kindPrim) (f_kindCall := f_kindCall) (f_kindMatch := f_kindMatch) (f_kindTest := f_kindTest) (f_cellBase := f_cellBase) (f_heapSize := f_heapSize) (f_depthLimit := f_depthLimit) (f_nodeLimit := f_nodeLimit) (f_nodeCount := f_nodeCount) (f_fragmentCount := f_fragmentCount) (f_frames := f_frames) (f_at := f_at) (f_deadCount := f_deadCount) (f_freeHead := f_freeHead) (f_fresh := f_fresh) (f_liveCells := f_liveCells) (f_spareTotal := f_spareTotal) (f_counted := f_counted) (f_status := f_status) (f_made := f_made) (f_reused := f_reused) (f_peak := f_peak) (f_calls := f_calls) (f_result := f_result) (f_resultCells := f_resultCells) (a_nodeKind := a_nodeKind) (a_nodeX := a_nodeX) (a_nodeParam := a_nodeParam) (a_nodeA := a_nodeA) (a_nodeB := a_nodeB) (a_nodeNext := a_nodeNext) (a_nodeElse := a_nodeElse) (a_nodeFree := a_nodeFree) (a_nodeNeed := a_nodeNeed) (a_fragments := a_fragments) (a_body := a_body) (a_slots := a_slots) (a_waiting := a_waiting) (a_spareHead := a_spareHead) (a_spareCount := a_spareCount) (a_cellTag := a_cellTag) (a_cellLeft := a_cellLeft) (a_cellRight := a_cellRight) (a_holds := a_holds) (a_link := a_link) (a_dead := a_dead) (a_cellOfNumber := a_cellOfNumber) (a_numberOfCell := a_numberOfCell) (a_places := a_places) (a_walk := a_walk) (Or.inr (Or.inr (Or.inr rfl))) hx h2 h3 (fun _ => ⟨t, ht, rfl⟩) (fun w => absurd w (by decide)) hST hFT hRR
          exact ⟨r, u', v', R, fun post hp => by delta wpX_call; exact rx_slT hx _ (br_f (by decide) (rx_fnT ht _ (br_f (by decide) (rx_opT h2 _ (br_f (by decide) (rx_opT h3 _ (br_f (by decide) (WX _ hp)))))))), fun post hp => by delta wpY_call; exact ry_slT hx _ (br_t rfl (rc_rgT ht (ry_opT h2 _ (br_t rfl (ry_opT h3 _ (br_t rfl (WY _ hp)))))))⟩
        · exact ⟨1, _, _, R0, fun post hp => by delta wpX_call; exact rx_slT hx _ (br_f (by decide) (rx_fnT ht _ (br_f (by decide) (rx_opT h2 _ (br_f (by decide) (rx_opF h3 _ (br_t rfl hp))))))), fun post hp => by delta wpY_call; exact ry_slT hx _ (br_t rfl (rc_rgT ht (ry_opT h2 _ (br_t rfl (ry_opF h3 _ (br_f (by decide) hp))))))⟩
      · exact ⟨1, _, _, R0, fun post hp => by delta wpX_call; exact rx_slT hx _ (br_f (by decide) (rx_fnT ht _ (br_f (by decide) (rx_opF h2 _ (br_t rfl hp))))), fun post hp => by delta wpY_call; exact ry_slT hx _ (br_t rfl (rc_rgT ht (ry_opF h2 _ (br_f (by decide) hp))))⟩
    · exact ⟨1, _, _, R0, fun post hp => by delta wpX_call; exact rx_slT hx _ (br_f (by decide) (rx_fnF h1 _ (br_t rfl hp))), fun post hp => by delta wpY_call; exact ry_slT hx _ (br_t rfl (rc_rgF h1 hp hp))⟩
  · exact ⟨1, _, _, R0, fun post hp => by delta wpX_call; exact rx_slF h0 _ (br_t rfl hp), fun post hp => by delta wpY_call; exact ry_slF h0 _ (br_f (by decide) hp)⟩
theorem rm_prim (hST : (rc_ST nc hs dl nd f_heapSize f_depthLimit a_nodeKind a_nodeX a_nodeParam a_nodeA a_nodeB a_nodeNext a_nodeElse a_nodeFree a_nodeNeed a_body b_nodeA b_nodeB)) (hFT : (rc_FT nc f_nodeLimit f_nodeCount f_fragmentCount a_fragments)) (hRR : (rc_RR f_status f_result f_resultCells f_counted f_liveCells a_cellTag a_cellLeft a_cellRight a_cellOfNumber a_numberOfCell a_places g_status g_resKind g_resNumber g_numbered b_cellTag b_partKind b_partNumber b_order)) : rc_EQ1 (fun post u => wpX_prim post u p0 p1 p2 p3) (fun post v => wpY_prim post v p0 p1 p2 p3) (f_kindRet, f_kindTail, f_kindBind, f_kindCon, f_kindPrim, f_kindCall, f_kindMatch, f_kindTest, f_cellBase, f_heapSize, f_depthLimit, f_nodeLimit, f_nodeCount, f_fragmentCount, f_frames, f_at, f_deadCount, f_freeHead, f_fresh, f_liveCells, f_spareTotal, f_counted, f_status, f_made, f_reused, f_peak, f_calls, f_result, f_resultCells, a_nodeKind, a_nodeX, a_nodeParam, a_nodeA, a_nodeB, a_nodeNext, a_nodeElse, a_nodeFree, a_nodeNeed, a_fragments, a_body, a_slots, a_waiting, a_spareHead, a_spareCount, a_cellTag, a_cellLeft, a_cellRight, a_holds, a_link, a_dead, a_cellOfNumber, a_numberOfCell, a_places, a_walk) (f_heapSize, f_depthLimit, f_nodeLimit, f_nodeCount, f_fragmentCount, g_frames, f_made, f_counted, f_reused, f_peak, f_calls, g_status, g_resKind, g_resNumber, g_numbered, a_nodeKind, a_nodeX, a_nodeParam, b_nodeA, b_nodeB, a_nodeNext, a_nodeElse, b_scratch, a_fragments, a_body, b_slotKind, b_slotNumber, b_spares, a_waiting, b_cellTag, b_partKind, b_partNumber, b_live, b_order, b_todo) := by
  have R0 := rc_REL_mk (g_frames := g_frames) (b_scratch := b_scratch) (b_slotKind := b_slotKind) (b_slotNumber := b_slotNumber) (b_spares := b_spares) (b_live := b_live) (b_todo := b_todo) (f_kindRet := f_kindRet) (f_kindTail := f_kindTail) (f_kindBind := f_kindBind) (f_kindCon := f_kindCon) (f_kindPrim := f_kindPrim) (f_kindCall := f_kindCall) (f_kindMatch := f_kindMatch) (f_kindTest := f_kindTest) (f_cellBase := f_cellBase) (f_heapSize := f_heapSize) (f_depthLimit := f_depthLimit) (f_nodeLimit := f_nodeLimit) (f_nodeCount := f_nodeCount) (f_fragmentCount := f_fragmentCount) (f_frames := f_frames) (f_at := f_at) (f_deadCount := f_deadCount) (f_freeHead := f_freeHead) (f_fresh := f_fresh) (f_liveCells := f_liveCells) (f_spareTotal := f_spareTotal) (f_counted := f_counted) (f_status := f_status) (f_made := f_made) (f_reused := f_reused) (f_peak := f_peak) (f_calls := f_calls) (f_result := f_result) (f_resultCells := f_resultCells) (a_nodeKind := a_nodeKind) (a_nodeX := a_nodeX) (a_nodeParam := a_nodeParam) (a_nodeA := a_nodeA) (a_nodeB := a_nodeB) (a_nodeNext := a_nodeNext) (a_nodeElse := a_nodeElse) (a_nodeFree := a_nodeFree) (a_nodeNeed := a_nodeNeed) (a_fragments := a_fragments) (a_body := a_body) (a_slots := a_slots) (a_waiting := a_waiting) (a_spareHead := a_spareHead) (a_spareCount := a_spareCount) (a_cellTag := a_cellTag) (a_cellLeft := a_cellLeft) (a_cellRight := a_cellRight) (a_holds := a_holds) (a_link := a_link) (a_dead := a_dead) (a_cellOfNumber := a_cellOfNumber) (a_numberOfCell := a_numberOfCell) (a_places := a_places) (a_walk := a_walk) hST hFT hRR
  rcases rc_idx p0 (n := 12) (by decide) (by decide) with ⟨x, hx, rfl⟩ | h0
  · by_cases h1 : p1 < 0
    · exact ⟨1, _, _, R0, fun post hp => by delta wpX_prim; exact rx_slT hx _ (br_f (by decide) (br_t h1 hp)), fun post hp => by delta wpY_prim; exact ry_slT hx _ (br_t rfl (br_t h1 hp))⟩
    · by_cases h4 : (4 : Int32) < p1
      · exact ⟨1, _, _, R0, fun post hp => by delta wpX_prim; exact rx_slT hx _ (br_f (by decide) (br_f h1 (br_t h4 hp))), fun post hp => by delta wpY_prim; exact ry_slT hx _ (br_t rfl (br_f h1 (br_t h4 hp)))⟩
      · have hop : p1 = 0 ∨ p1 = 1 ∨ p1 = 2 ∨ p1 = 3 ∨ p1 = 4 := by
          obtain ⟨j, hj, rfl⟩ := nI_of2 (M := 4) (n := 4) (by decide) h1 (Int32.not_lt.mp h4)
          have : j = 0 ∨ j = 1 ∨ j = 2 ∨ j = 3 ∨ j = 4 := by omega
          rcases this with rfl | rfl | rfl | rfl | rfl
          · exact Or.inl rfl
          · exact Or.inr (Or.inl rfl)
          · exact Or.inr (Or.inr (Or.inl rfl))
          · exact Or.inr (Or.inr (Or.inr (Or.inl rfl)))
          · exact Or.inr (Or.inr (Or.inr (Or.inr rfl)))
        rcases rc_opd p2 with h2 | h2
        · rcases rc_opd p3 with h3 | h3
          · obtain ⟨r, u', v', R, WX, WY⟩ := rs_chain (K := 4) (P := p1) (A := p2) (B := p3) (x := x) (g_frames := g_frames) (b_scratch := b_scratch) (b_slotKind := b_slotKind) (b_slotNumber := b_slotNumber) (b_spares := b_spares) (b_live := b_live) (b_todo := b_todo) (f_kindRet := f_kindRet) (f_kindTail := f_kindTail) (f_kindBind := f_kindBind) (f_kindCon := f_kindCon) (f_kindPrim := f_kindPrim) (f_kindCall := f_kindCall) (f_kindMatch := f_kindMatch) (f_kindTest := f_kindTest) (f_cellBase := f_cellBase) (f_heapSize := f_heapSize) (f_depthLimit := f_depthLimit) (f_nodeLimit := f_nodeLimit) (f_nodeCount := f_nodeCount) (f_fragmentCount := f_fragmentCount) (f_frames := f_frames) (f_at := f_at) (f_deadCount := f_deadCount) (f_freeHead := f_freeHead) (f_fresh := f_fresh) (f_liveCells := f_liveCells) (f_spareTotal := f_spareTotal) (f_counted := f_counted) (f_status := f_status) (f_made := f_made) (f_reused := f_reused) (f_peak := f_peak) (f_calls := f_calls) (f_result := f_result) (f_resultCells := f_resultCells) (a_nodeKind := a_nodeKind) (a_nodeX := a_nodeX) (a_nodeParam := a_nodeParam) (a_nodeA := a_nodeA) (a_nodeB := a_nodeB) (a_nodeNext := a_nodeNext) (a_nodeElse := a_nodeElse) (a_nodeFree := a_nodeFree) (a_nodeNeed := a_nodeNeed) (a_fragments := a_fragments) (a_body := a_body) (a_slots := a_slots) (a_waiting := a_waiting) (a_spareHead := a_spareHead) (a_spareCount := a_spareCount) (a_cellTag := a_cellTag) (a_cellLeft := a_cellLeft) (a_cellRight := a_cellRight) (a_holds := a_holds) (a_link := a_link) (a_dead := a_dead) (a_cellOfNumber := a_cellOfNumber) (a_numberOfCell := a_numberOfCell) (a_places := a_places) (a_walk := a_walk) (Or.inr (Or.inr (Or.inl rfl))) hx h2 h3 (fun w => absurd w (by decide)) (fun _ => hop) hST hFT hRR
            exact ⟨r, u', v', R, fun post hp => by delta wpX_prim; exact rx_slT hx _ (br_f (by decide) (br_f h1 (br_f h4 (rx_opT h2 _ (br_f (by decide) (rx_opT h3 _ (br_f (by decide) (WX _ hp)))))))), fun post hp => by delta wpY_prim; exact ry_slT hx _ (br_t rfl (br_f h1 (br_f h4 (ry_opT h2 _ (br_t rfl (ry_opT h3 _ (br_t rfl (WY _ hp))))))))⟩
          · exact ⟨1, _, _, R0, fun post hp => by delta wpX_prim; exact rx_slT hx _ (br_f (by decide) (br_f h1 (br_f h4 (rx_opT h2 _ (br_f (by decide) (rx_opF h3 _ (br_t rfl hp))))))), fun post hp => by delta wpY_prim; exact ry_slT hx _ (br_t rfl (br_f h1 (br_f h4 (ry_opT h2 _ (br_t rfl (ry_opF h3 _ (br_f (by decide) hp)))))))⟩
        · exact ⟨1, _, _, R0, fun post hp => by delta wpX_prim; exact rx_slT hx _ (br_f (by decide) (br_f h1 (br_f h4 (rx_opF h2 _ (br_t rfl hp))))), fun post hp => by delta wpY_prim; exact ry_slT hx _ (br_t rfl (br_f h1 (br_f h4 (ry_opF h2 _ (br_f (by decide) hp)))))⟩
  · exact ⟨1, _, _, R0, fun post hp => by delta wpX_prim; exact rx_slF h0 _ (br_t rfl hp), fun post hp => by delta wpY_prim; exact ry_slF h0 _ (br_f (by decide) hp)⟩
theorem rm_match (hST : (rc_ST nc hs dl nd f_heapSize f_depthLimit a_nodeKind a_nodeX a_nodeParam a_nodeA a_nodeB a_nodeNext a_nodeElse a_nodeFree a_nodeNeed a_body b_nodeA b_nodeB)) (hFT : (rc_FT nc f_nodeLimit f_nodeCount f_fragmentCount a_fragments)) (hRR : (rc_RR f_status f_result f_resultCells f_counted f_liveCells a_cellTag a_cellLeft a_cellRight a_cellOfNumber a_numberOfCell a_places g_status g_resKind g_resNumber g_numbered b_cellTag b_partKind b_partNumber b_order)) : rc_EQ1 (fun post u => wpX_match post u p0 p1 p2 p3) (fun post v => wpY_match post v p0 p1 p2 p3) (f_kindRet, f_kindTail, f_kindBind, f_kindCon, f_kindPrim, f_kindCall, f_kindMatch, f_kindTest, f_cellBase, f_heapSize, f_depthLimit, f_nodeLimit, f_nodeCount, f_fragmentCount, f_frames, f_at, f_deadCount, f_freeHead, f_fresh, f_liveCells, f_spareTotal, f_counted, f_status, f_made, f_reused, f_peak, f_calls, f_result, f_resultCells, a_nodeKind, a_nodeX, a_nodeParam, a_nodeA, a_nodeB, a_nodeNext, a_nodeElse, a_nodeFree, a_nodeNeed, a_fragments, a_body, a_slots, a_waiting, a_spareHead, a_spareCount, a_cellTag, a_cellLeft, a_cellRight, a_holds, a_link, a_dead, a_cellOfNumber, a_numberOfCell, a_places, a_walk) (f_heapSize, f_depthLimit, f_nodeLimit, f_nodeCount, f_fragmentCount, g_frames, f_made, f_counted, f_reused, f_peak, f_calls, g_status, g_resKind, g_resNumber, g_numbered, a_nodeKind, a_nodeX, a_nodeParam, b_nodeA, b_nodeB, a_nodeNext, a_nodeElse, b_scratch, a_fragments, a_body, b_slotKind, b_slotNumber, b_spares, a_waiting, b_cellTag, b_partKind, b_partNumber, b_live, b_order, b_todo) := by
  have R0 := rc_REL_mk (g_frames := g_frames) (b_scratch := b_scratch) (b_slotKind := b_slotKind) (b_slotNumber := b_slotNumber) (b_spares := b_spares) (b_live := b_live) (b_todo := b_todo) (f_kindRet := f_kindRet) (f_kindTail := f_kindTail) (f_kindBind := f_kindBind) (f_kindCon := f_kindCon) (f_kindPrim := f_kindPrim) (f_kindCall := f_kindCall) (f_kindMatch := f_kindMatch) (f_kindTest := f_kindTest) (f_cellBase := f_cellBase) (f_heapSize := f_heapSize) (f_depthLimit := f_depthLimit) (f_nodeLimit := f_nodeLimit) (f_nodeCount := f_nodeCount) (f_fragmentCount := f_fragmentCount) (f_frames := f_frames) (f_at := f_at) (f_deadCount := f_deadCount) (f_freeHead := f_freeHead) (f_fresh := f_fresh) (f_liveCells := f_liveCells) (f_spareTotal := f_spareTotal) (f_counted := f_counted) (f_status := f_status) (f_made := f_made) (f_reused := f_reused) (f_peak := f_peak) (f_calls := f_calls) (f_result := f_result) (f_resultCells := f_resultCells) (a_nodeKind := a_nodeKind) (a_nodeX := a_nodeX) (a_nodeParam := a_nodeParam) (a_nodeA := a_nodeA) (a_nodeB := a_nodeB) (a_nodeNext := a_nodeNext) (a_nodeElse := a_nodeElse) (a_nodeFree := a_nodeFree) (a_nodeNeed := a_nodeNeed) (a_fragments := a_fragments) (a_body := a_body) (a_slots := a_slots) (a_waiting := a_waiting) (a_spareHead := a_spareHead) (a_spareCount := a_spareCount) (a_cellTag := a_cellTag) (a_cellLeft := a_cellLeft) (a_cellRight := a_cellRight) (a_holds := a_holds) (a_link := a_link) (a_dead := a_dead) (a_cellOfNumber := a_cellOfNumber) (a_numberOfCell := a_numberOfCell) (a_places := a_places) (a_walk := a_walk) hST hFT hRR
  rcases rc_idx p0 (n := 12) (by decide) (by decide) with ⟨x, hx, rfl⟩ | h0
  · rcases rc_idx p2 (n := 12) (by decide) (by decide) with ⟨y, hy, rfl⟩ | h2
    · rcases rc_idx p3 (n := 12) (by decide) (by decide) with ⟨z, hz, rfl⟩ | h3
      · rcases rc_idx p1 (n := 8) (by decide) (by decide) with ⟨t, ht, rfl⟩ | h1
        · by_cases q1 : nI x = nI y
          · exact ⟨1, _, _, R0, fun post hp => by delta wpX_match; exact rx_slT hx _ (br_f (by decide) (rx_slT hy _ (br_f (by decide) (rx_slT hz _ (br_f (by decide) (rx_tgT ht _ (br_f (by decide) (br_t q1 hp)))))))), fun post hp => by delta wpY_match; exact ry_slT hx _ (br_t rfl (ry_slT hy _ (br_t rfl (ry_slT hz _ (br_t rfl (rc_rhT ht (br_t q1 hp)))))))⟩
          · by_cases q2 : nI x = nI z
            · exact ⟨1, _, _, R0, fun post hp => by delta wpX_match; exact rx_slT hx _ (br_f (by decide) (rx_slT hy _ (br_f (by decide) (rx_slT hz _ (br_f (by decide) (rx_tgT ht _ (br_f (by decide) (br_f q1 (br_t q2 hp))))))))), fun post hp => by delta wpY_match; exact ry_slT hx _ (br_t rfl (ry_slT hy _ (br_t rfl (ry_slT hz _ (br_t rfl (rc_rhT ht (br_f q1 (br_t q2 hp))))))))⟩
            · by_cases q3 : nI y = nI z
              · exact ⟨1, _, _, R0, fun post hp => by delta wpX_match; exact rx_slT hx _ (br_f (by decide) (rx_slT hy _ (br_f (by decide) (rx_slT hz _ (br_f (by decide) (rx_tgT ht _ (br_f (by decide) (br_f q1 (br_f q2 (br_t q3 hp)))))))))), fun post hp => by delta wpY_match; exact ry_slT hx _ (br_t rfl (ry_slT hy _ (br_t rfl (ry_slT hz _ (br_t rfl (rc_rhT ht (br_f q1 (br_f q2 (br_t q3 hp)))))))))⟩
              · obtain ⟨r, u', v', R, WX, WY⟩ := rs_branch (K := 6) (P := nI t) (A := nI y) (B := nI z) (Ya := nI y) (Yb := nI z) (bd := rc_b1 y ||| rc_b1 z) (x := x) (g_frames := g_frames) (b_scratch := b_scratch) (b_slotKind := b_slotKind) (b_slotNumber := b_slotNumber) (b_spares := b_spares) (b_live := b_live) (b_todo := b_todo) (f_kindRet := f_kindRet) (f_kindTail := f_kindTail) (f_kindBind := f_kindBind) (f_kindCon := f_kindCon) (f_kindPrim := f_kindPrim) (f_kindCall := f_kindCall) (f_kindMatch := f_kindMatch) (f_kindTest := f_kindTest) (f_cellBase := f_cellBase) (f_heapSize := f_heapSize) (f_depthLimit := f_depthLimit) (f_nodeLimit := f_nodeLimit) (f_nodeCount := f_nodeCount) (f_fragmentCount := f_fragmentCount) (f_frames := f_frames) (f_at := f_at) (f_deadCount := f_deadCount) (f_freeHead := f_freeHead) (f_fresh := f_fresh) (f_liveCells := f_liveCells) (f_spareTotal := f_spareTotal) (f_counted := f_counted) (f_status := f_status) (f_made := f_made) (f_reused := f_reused) (f_peak := f_peak) (f_calls := f_calls) (f_result := f_result) (f_resultCells := f_resultCells) (a_nodeKind := a_nodeKind) (a_nodeX := a_nodeX) (a_nodeParam := a_nodeParam) (a_nodeA := a_nodeA) (a_nodeB := a_nodeB) (a_nodeNext := a_nodeNext) (a_nodeElse := a_nodeElse) (a_nodeFree := a_nodeFree) (a_nodeNeed := a_nodeNeed) (a_fragments := a_fragments) (a_body := a_body) (a_slots := a_slots) (a_waiting := a_waiting) (a_spareHead := a_spareHead) (a_spareCount := a_spareCount) (a_cellTag := a_cellTag) (a_cellLeft := a_cellLeft) (a_cellRight := a_cellRight) (a_holds := a_holds) (a_link := a_link) (a_dead := a_dead) (a_cellOfNumber := a_cellOfNumber) (a_numberOfCell := a_numberOfCell) (a_places := a_places) (a_walk := a_walk) hx (Or.inl ⟨rfl, y, z, hy, hz, fun w => q1 (congrArg nI w), fun w => q2 (congrArg nI w), fun w => q3 (congrArg nI w), rfl, rfl, rfl, rfl, rfl⟩) hST hFT hRR
                exact ⟨r, u', v', R, fun post hp => by delta wpX_match; exact rx_slT hx _ (br_f (by decide) (rx_slT hy _ (br_f (by decide) (rx_slT hz _ (br_f (by decide) (rx_tgT ht _ (br_f (by decide) (br_f q1 (br_f q2 (br_f q3 (nm_e (WX _ hp)))))))))))), fun post hp => by delta wpY_match; exact ry_slT hx _ (br_t rfl (ry_slT hy _ (br_t rfl (ry_slT hz _ (br_t rfl (rc_rhT ht (br_f q1 (br_f q2 (br_f q3 (WY _ hp))))))))))⟩
        · exact ⟨1, _, _, R0, fun post hp => by delta wpX_match; exact rx_slT hx _ (br_f (by decide) (rx_slT hy _ (br_f (by decide) (rx_slT hz _ (br_f (by decide) (rx_tgF h1 _ (br_t rfl hp))))))), fun post hp => by delta wpY_match; exact ry_slT hx _ (br_t rfl (ry_slT hy _ (br_t rfl (ry_slT hz _ (br_t rfl (rc_rhF h1 hp hp))))))⟩
      · exact ⟨1, _, _, R0, fun post hp => by delta wpX_match; exact rx_slT hx _ (br_f (by decide) (rx_slT hy _ (br_f (by decide) (rx_slF h3 _ (br_t rfl hp))))), fun post hp => by delta wpY_match; exact ry_slT hx _ (br_t rfl (ry_slT hy _ (br_t rfl (ry_slF h3 _ (br_f (by decide) hp)))))⟩
    · exact ⟨1, _, _, R0, fun post hp => by delta wpX_match; exact rx_slT hx _ (br_f (by decide) (rx_slF h2 _ (br_t rfl hp))), fun post hp => by delta wpY_match; exact ry_slT hx _ (br_t rfl (ry_slF h2 _ (br_f (by decide) hp)))⟩
  · exact ⟨1, _, _, R0, fun post hp => by delta wpX_match; exact rx_slF h0 _ (br_t rfl hp), fun post hp => by delta wpY_match; exact ry_slF h0 _ (br_f (by decide) hp)⟩
theorem rm_test (hST : (rc_ST nc hs dl nd f_heapSize f_depthLimit a_nodeKind a_nodeX a_nodeParam a_nodeA a_nodeB a_nodeNext a_nodeElse a_nodeFree a_nodeNeed a_body b_nodeA b_nodeB)) (hFT : (rc_FT nc f_nodeLimit f_nodeCount f_fragmentCount a_fragments)) (hRR : (rc_RR f_status f_result f_resultCells f_counted f_liveCells a_cellTag a_cellLeft a_cellRight a_cellOfNumber a_numberOfCell a_places g_status g_resKind g_resNumber g_numbered b_cellTag b_partKind b_partNumber b_order)) : rc_EQ1 (fun post u => wpX_test post u p0 p1) (fun post v => wpY_test post v p0 p1) (f_kindRet, f_kindTail, f_kindBind, f_kindCon, f_kindPrim, f_kindCall, f_kindMatch, f_kindTest, f_cellBase, f_heapSize, f_depthLimit, f_nodeLimit, f_nodeCount, f_fragmentCount, f_frames, f_at, f_deadCount, f_freeHead, f_fresh, f_liveCells, f_spareTotal, f_counted, f_status, f_made, f_reused, f_peak, f_calls, f_result, f_resultCells, a_nodeKind, a_nodeX, a_nodeParam, a_nodeA, a_nodeB, a_nodeNext, a_nodeElse, a_nodeFree, a_nodeNeed, a_fragments, a_body, a_slots, a_waiting, a_spareHead, a_spareCount, a_cellTag, a_cellLeft, a_cellRight, a_holds, a_link, a_dead, a_cellOfNumber, a_numberOfCell, a_places, a_walk) (f_heapSize, f_depthLimit, f_nodeLimit, f_nodeCount, f_fragmentCount, g_frames, f_made, f_counted, f_reused, f_peak, f_calls, g_status, g_resKind, g_resNumber, g_numbered, a_nodeKind, a_nodeX, a_nodeParam, b_nodeA, b_nodeB, a_nodeNext, a_nodeElse, b_scratch, a_fragments, a_body, b_slotKind, b_slotNumber, b_spares, a_waiting, b_cellTag, b_partKind, b_partNumber, b_live, b_order, b_todo) := by
  have R0 := rc_REL_mk (g_frames := g_frames) (b_scratch := b_scratch) (b_slotKind := b_slotKind) (b_slotNumber := b_slotNumber) (b_spares := b_spares) (b_live := b_live) (b_todo := b_todo) (f_kindRet := f_kindRet) (f_kindTail := f_kindTail) (f_kindBind := f_kindBind) (f_kindCon := f_kindCon) (f_kindPrim := f_kindPrim) (f_kindCall := f_kindCall) (f_kindMatch := f_kindMatch) (f_kindTest := f_kindTest) (f_cellBase := f_cellBase) (f_heapSize := f_heapSize) (f_depthLimit := f_depthLimit) (f_nodeLimit := f_nodeLimit) (f_nodeCount := f_nodeCount) (f_fragmentCount := f_fragmentCount) (f_frames := f_frames) (f_at := f_at) (f_deadCount := f_deadCount) (f_freeHead := f_freeHead) (f_fresh := f_fresh) (f_liveCells := f_liveCells) (f_spareTotal := f_spareTotal) (f_counted := f_counted) (f_status := f_status) (f_made := f_made) (f_reused := f_reused) (f_peak := f_peak) (f_calls := f_calls) (f_result := f_result) (f_resultCells := f_resultCells) (a_nodeKind := a_nodeKind) (a_nodeX := a_nodeX) (a_nodeParam := a_nodeParam) (a_nodeA := a_nodeA) (a_nodeB := a_nodeB) (a_nodeNext := a_nodeNext) (a_nodeElse := a_nodeElse) (a_nodeFree := a_nodeFree) (a_nodeNeed := a_nodeNeed) (a_fragments := a_fragments) (a_body := a_body) (a_slots := a_slots) (a_waiting := a_waiting) (a_spareHead := a_spareHead) (a_spareCount := a_spareCount) (a_cellTag := a_cellTag) (a_cellLeft := a_cellLeft) (a_cellRight := a_cellRight) (a_holds := a_holds) (a_link := a_link) (a_dead := a_dead) (a_cellOfNumber := a_cellOfNumber) (a_numberOfCell := a_numberOfCell) (a_places := a_places) (a_walk := a_walk) hST hFT hRR
  rcases rc_idx p0 (n := 12) (by decide) (by decide) with ⟨x, hx, rfl⟩ | h0
  · obtain ⟨r, u', v', R, WX, WY⟩ := rs_branch (K := 7) (P := p1) (A := 0) (B := 0) (Ya := -1) (Yb := -1) (bd := 0) (x := x) (g_frames := g_frames) (b_scratch := b_scratch) (b_slotKind := b_slotKind) (b_slotNumber := b_slotNumber) (b_spares := b_spares) (b_live := b_live) (b_todo := b_todo) (f_kindRet := f_kindRet) (f_kindTail := f_kindTail) (f_kindBind := f_kindBind) (f_kindCon := f_kindCon) (f_kindPrim := f_kindPrim) (f_kindCall := f_kindCall) (f_kindMatch := f_kindMatch) (f_kindTest := f_kindTest) (f_cellBase := f_cellBase) (f_heapSize := f_heapSize) (f_depthLimit := f_depthLimit) (f_nodeLimit := f_nodeLimit) (f_nodeCount := f_nodeCount) (f_fragmentCount := f_fragmentCount) (f_frames := f_frames) (f_at := f_at) (f_deadCount := f_deadCount) (f_freeHead := f_freeHead) (f_fresh := f_fresh) (f_liveCells := f_liveCells) (f_spareTotal := f_spareTotal) (f_counted := f_counted) (f_status := f_status) (f_made := f_made) (f_reused := f_reused) (f_peak := f_peak) (f_calls := f_calls) (f_result := f_result) (f_resultCells := f_resultCells) (a_nodeKind := a_nodeKind) (a_nodeX := a_nodeX) (a_nodeParam := a_nodeParam) (a_nodeA := a_nodeA) (a_nodeB := a_nodeB) (a_nodeNext := a_nodeNext) (a_nodeElse := a_nodeElse) (a_nodeFree := a_nodeFree) (a_nodeNeed := a_nodeNeed) (a_fragments := a_fragments) (a_body := a_body) (a_slots := a_slots) (a_waiting := a_waiting) (a_spareHead := a_spareHead) (a_spareCount := a_spareCount) (a_cellTag := a_cellTag) (a_cellLeft := a_cellLeft) (a_cellRight := a_cellRight) (a_holds := a_holds) (a_link := a_link) (a_dead := a_dead) (a_cellOfNumber := a_cellOfNumber) (a_numberOfCell := a_numberOfCell) (a_places := a_places) (a_walk := a_walk) hx (Or.inr ⟨rfl, rfl, rfl, rfl⟩) hST hFT hRR
    exact ⟨r, u', v', R, fun post hp => by delta wpX_test; exact rx_slT hx _ (br_f (by decide) (WX _ hp)), fun post hp => by delta wpY_test; exact ry_slT hx _ (br_t rfl (WY _ hp))⟩
  · exact ⟨1, _, _, R0, fun post hp => by delta wpX_test; exact rx_slF h0 _ (br_t rfl hp), fun post hp => by delta wpY_test; exact ry_slF h0 _ (br_f (by decide) hp)⟩
theorem rm_discard (hST : (rc_ST nc hs dl nd f_heapSize f_depthLimit a_nodeKind a_nodeX a_nodeParam a_nodeA a_nodeB a_nodeNext a_nodeElse a_nodeFree a_nodeNeed a_body b_nodeA b_nodeB)) (hFT : (rc_FT nc f_nodeLimit f_nodeCount f_fragmentCount a_fragments)) (hRR : (rc_RR f_status f_result f_resultCells f_counted f_liveCells a_cellTag a_cellLeft a_cellRight a_cellOfNumber a_numberOfCell a_places g_status g_resKind g_resNumber g_numbered b_cellTag b_partKind b_partNumber b_order)) : rc_EQ1 (fun post u => wpX_discard post u) (fun post v => wpY_discard post v) (f_kindRet, f_kindTail, f_kindBind, f_kindCon, f_kindPrim, f_kindCall, f_kindMatch, f_kindTest, f_cellBase, f_heapSize, f_depthLimit, f_nodeLimit, f_nodeCount, f_fragmentCount, f_frames, f_at, f_deadCount, f_freeHead, f_fresh, f_liveCells, f_spareTotal, f_counted, f_status, f_made, f_reused, f_peak, f_calls, f_result, f_resultCells, a_nodeKind, a_nodeX, a_nodeParam, a_nodeA, a_nodeB, a_nodeNext, a_nodeElse, a_nodeFree, a_nodeNeed, a_fragments, a_body, a_slots, a_waiting, a_spareHead, a_spareCount, a_cellTag, a_cellLeft, a_cellRight, a_holds, a_link, a_dead, a_cellOfNumber, a_numberOfCell, a_places, a_walk) (f_heapSize, f_depthLimit, f_nodeLimit, f_nodeCount, f_fragmentCount, g_frames, f_made, f_counted, f_reused, f_peak, f_calls, g_status, g_resKind, g_resNumber, g_numbered, a_nodeKind, a_nodeX, a_nodeParam, b_nodeA, b_nodeB, a_nodeNext, a_nodeElse, b_scratch, a_fragments, a_body, b_slotKind, b_slotNumber, b_spares, a_waiting, b_cellTag, b_partKind, b_partNumber, b_live, b_order, b_todo) := by
  have R0 := rc_REL_mk (g_frames := g_frames) (b_scratch := b_scratch) (b_slotKind := b_slotKind) (b_slotNumber := b_slotNumber) (b_spares := b_spares) (b_live := b_live) (b_todo := b_todo) (f_kindRet := f_kindRet) (f_kindTail := f_kindTail) (f_kindBind := f_kindBind) (f_kindCon := f_kindCon) (f_kindPrim := f_kindPrim) (f_kindCall := f_kindCall) (f_kindMatch := f_kindMatch) (f_kindTest := f_kindTest) (f_cellBase := f_cellBase) (f_heapSize := f_heapSize) (f_depthLimit := f_depthLimit) (f_nodeLimit := f_nodeLimit) (f_nodeCount := f_nodeCount) (f_fragmentCount := f_fragmentCount) (f_frames := f_frames) (f_at := f_at) (f_deadCount := f_deadCount) (f_freeHead := f_freeHead) (f_fresh := f_fresh) (f_liveCells := f_liveCells) (f_spareTotal := f_spareTotal) (f_counted := f_counted) (f_status := f_status) (f_made := f_made) (f_reused := f_reused) (f_peak := f_peak) (f_calls := f_calls) (f_result := f_result) (f_resultCells := f_resultCells) (a_nodeKind := a_nodeKind) (a_nodeX := a_nodeX) (a_nodeParam := a_nodeParam) (a_nodeA := a_nodeA) (a_nodeB := a_nodeB) (a_nodeNext := a_nodeNext) (a_nodeElse := a_nodeElse) (a_nodeFree := a_nodeFree) (a_nodeNeed := a_nodeNeed) (a_fragments := a_fragments) (a_body := a_body) (a_slots := a_slots) (a_waiting := a_waiting) (a_spareHead := a_spareHead) (a_spareCount := a_spareCount) (a_cellTag := a_cellTag) (a_cellLeft := a_cellLeft) (a_cellRight := a_cellRight) (a_holds := a_holds) (a_link := a_link) (a_dead := a_dead) (a_cellOfNumber := a_cellOfNumber) (a_numberOfCell := a_numberOfCell) (a_places := a_places) (a_walk := a_walk) hST hFT hRR
  obtain ⟨hn, nl, fc, hnl, hnl48, hl, hfc, hf, hfr⟩ := hFT
  by_cases h0 : fc = 0
  · subst h0
    exact ⟨2, _, _, R0, fun post hp => br_t hf hp, fun post hp => br_t hf hp⟩
  · obtain ⟨fd, rfl⟩ : ∃ q, fc = q + 1 := ⟨fc - 1, by omega⟩
    have w0 : ¬ f_fragmentCount = 0 := by rw [hf]; exact nI_ne0 (by omega) (by omega)
    have e1 : f_fragmentCount - 1 = nI fd := by rw [hf, nI_pred]
    exact ⟨0, (f_kindRet, f_kindTail, f_kindBind, f_kindCon, f_kindPrim, f_kindCall, f_kindMatch, f_kindTest, f_cellBase, f_heapSize, f_depthLimit, f_nodeLimit, f_nodeCount, nI fd, f_frames, f_at, f_deadCount, f_freeHead, f_fresh, f_liveCells, f_spareTotal, f_counted, f_status, f_made, f_reused, f_peak, f_calls, f_result, f_resultCells, a_nodeKind, a_nodeX, a_nodeParam, a_nodeA, a_nodeB, a_nodeNext, a_nodeElse, a_nodeFree, a_nodeNeed, a_fragments, a_body, a_slots, a_waiting, a_spareHead, a_spareCount, a_cellTag, a_cellLeft, a_cellRight, a_holds, a_link, a_dead, a_cellOfNumber, a_numberOfCell, a_places, a_walk), (f_heapSize, f_depthLimit, f_nodeLimit, f_nodeCount, nI fd, g_frames, f_made, f_counted, f_reused, f_peak, f_calls, g_status, g_resKind, g_resNumber, g_numbered, a_nodeKind, a_nodeX, a_nodeParam, b_nodeA, b_nodeB, a_nodeNext, a_nodeElse, b_scratch, a_fragments, a_body, b_slotKind, b_slotNumber, b_spares, a_waiting, b_cellTag, b_partKind, b_partNumber, b_live, b_order, b_todo), rc_REL_mk hST ⟨hn, nl, fd, hnl, hnl48, hl, by omega, rfl, fun i hi => hfr i (by omega)⟩ hRR, fun post hp => br_f w0 (nm_r e1 hp), fun post hp => br_f w0 (nm_r e1 hp)⟩
theorem rc_m4 {a : Int32} (h : (a &&& (-4)) = 0) (s : Nat) (h2 : 2 ≤ s) (hs : s < 12) : bt a s = false := by
  have := congrArg (fun z => bt z s) h
  simp only [b_and, b_0] at this
  have e : bt (-4) s = true := (by decide +kernel : ∀ s, s < 12 → 2 ≤ s → bt (-4) s = true) s hs h2
  rw [e, Bool.and_true] at this
  exact this
theorem rm_define (hST : (rc_ST nc hs dl nd f_heapSize f_depthLimit a_nodeKind a_nodeX a_nodeParam a_nodeA a_nodeB a_nodeNext a_nodeElse a_nodeFree a_nodeNeed a_body b_nodeA b_nodeB)) (hFT : (rc_FT nc f_nodeLimit f_nodeCount f_fragmentCount a_fragments)) (hRR : (rc_RR f_status f_result f_resultCells f_counted f_liveCells a_cellTag a_cellLeft a_cellRight a_cellOfNumber a_numberOfCell a_places g_status g_resKind g_resNumber g_numbered b_cellTag b_partKind b_partNumber b_order)) : rc_EQ1 (fun post u => wpX_define post u p0) (fun post v => wpY_define post v p0) (f_kindRet, f_kindTail, f_kindBind, f_kindCon, f_kindPrim, f_kindCall, f_kindMatch, f_kindTest, f_cellBase, f_heapSize, f_depthLimit, f_nodeLimit, f_nodeCount, f_fragmentCount, f_frames, f_at, f_deadCount, f_freeHead, f_fresh, f_liveCells, f_spareTotal, f_counted, f_status, f_made, f_reused, f_peak, f_calls, f_result, f_resultCells, a_nodeKind, a_nodeX, a_nodeParam, a_nodeA, a_nodeB, a_nodeNext, a_nodeElse, a_nodeFree, a_nodeNeed, a_fragments, a_body, a_slots, a_waiting, a_spareHead, a_spareCount, a_cellTag, a_cellLeft, a_cellRight, a_holds, a_link, a_dead, a_cellOfNumber, a_numberOfCell, a_places, a_walk) (f_heapSize, f_depthLimit, f_nodeLimit, f_nodeCount, f_fragmentCount, g_frames, f_made, f_counted, f_reused, f_peak, f_calls, g_status, g_resKind, g_resNumber, g_numbered, a_nodeKind, a_nodeX, a_nodeParam, b_nodeA, b_nodeB, a_nodeNext, a_nodeElse, b_scratch, a_fragments, a_body, b_slotKind, b_slotNumber, b_spares, a_waiting, b_cellTag, b_partKind, b_partNumber, b_live, b_order, b_todo) := by
  have R0 := rc_REL_mk (g_frames := g_frames) (b_scratch := b_scratch) (b_slotKind := b_slotKind) (b_slotNumber := b_slotNumber) (b_spares := b_spares) (b_live := b_live) (b_todo := b_todo) (f_kindRet := f_kindRet) (f_kindTail := f_kindTail) (f_kindBind := f_kindBind) (f_kindCon := f_kindCon) (f_kindPrim := f_kindPrim) (f_kindCall := f_kindCall) (f_kindMatch := f_kindMatch) (f_kindTest := f_kindTest) (f_cellBase := f_cellBase) (f_heapSize := f_heapSize) (f_depthLimit := f_depthLimit) (f_nodeLimit := f_nodeLimit) (f_nodeCount := f_nodeCount) (f_fragmentCount := f_fragmentCount) (f_frames := f_frames) (f_at := f_at) (f_deadCount := f_deadCount) (f_freeHead := f_freeHead) (f_fresh := f_fresh) (f_liveCells := f_liveCells) (f_spareTotal := f_spareTotal) (f_counted := f_counted) (f_status := f_status) (f_made := f_made) (f_reused := f_reused) (f_peak := f_peak) (f_calls := f_calls) (f_result := f_result) (f_resultCells := f_resultCells) (a_nodeKind := a_nodeKind) (a_nodeX := a_nodeX) (a_nodeParam := a_nodeParam) (a_nodeA := a_nodeA) (a_nodeB := a_nodeB) (a_nodeNext := a_nodeNext) (a_nodeElse := a_nodeElse) (a_nodeFree := a_nodeFree) (a_nodeNeed := a_nodeNeed) (a_fragments := a_fragments) (a_body := a_body) (a_slots := a_slots) (a_waiting := a_waiting) (a_spareHead := a_spareHead) (a_spareCount := a_spareCount) (a_cellTag := a_cellTag) (a_cellLeft := a_cellLeft) (a_cellRight := a_cellRight) (a_holds := a_holds) (a_link := a_link) (a_dead := a_dead) (a_cellOfNumber := a_cellOfNumber) (a_numberOfCell := a_numberOfCell) (a_places := a_places) (a_walk := a_walk) hST hFT hRR
  have hFT0 := hFT
  obtain ⟨hn, nl, fc, hnl, hnl48, hl, hfc, hf, hfr⟩ := hFT
  rcases rc_idx p0 (n := 8) (by decide) (by decide) with ⟨g, hg, rfl⟩ | h0
  · have hing : vp_in (nI g) 8 := vp_in_nI hg (by decide)
    have eg : (nI g).toNatClampNeg = g := nI_clamp (by omega)
    rcases hST.2.2.2.2.2.2.2.2 g hg with hb | ⟨b, hb, hbe, hbf⟩
    · have hb0 : a_body (nI g).toNatClampNeg < 0 := by rw [eg, hb]; exact rc_m1_lt
      by_cases h0 : fc = 0
      · subst h0
        exact ⟨2, _, _, R0, fun post hp => by delta wpX_define; exact rx_fnT hg _ (br_f (by decide) ⟨hing, br_t hb0 (br_t hf hp)⟩), fun post hp => rc_rhT hg ⟨hing, br_t hb0 (br_t hf hp)⟩⟩
      · obtain ⟨fd, rfl⟩ : ∃ q, fc = q + 1 := ⟨fc - 1, by omega⟩
        have w0 : ¬ f_fragmentCount = 0 := by rw [hf]; exact nI_ne0 (by omega) (by omega)
        have e1 : f_fragmentCount - 1 = nI fd := by rw [hf, nI_pred]
        have efd : (nI fd).toNatClampNeg = fd := nI_clamp (by omega)
        have hfin : vp_in (f_fragmentCount - 1) 16 := by rw [e1]; exact vp_in_nI (by omega) (by decide)
        obtain ⟨b, hbn, hbe⟩ := hfr fd (by omega)
        have hnc := hST.1
        have eb : (nI b).toNatClampNeg = b := nI_clamp (by omega)
        have hinb : vp_in (nI b) 48 := vp_in_nI (by omega) (by decide)
        obtain ⟨sc, WF⟩ := ry_free (t := b) (g_heapSize := f_heapSize) (g_depthLimit := f_depthLimit) (g_nodeLimit := f_nodeLimit) (g_nodeCount := f_nodeCount) (g_fragCount := f_fragmentCount) (g_frames := g_frames) (g_made := f_made) (g_inRun := f_counted) (g_reused := f_reused) (g_peak := f_peak) (g_calls := f_calls) (g_status := g_status) (g_resKind := g_resKind) (g_resNumber := g_resNumber) (g_numbered := g_numbered) (b_nodeKind := a_nodeKind) (b_nodeX := a_nodeX) (b_nodeT := a_nodeParam) (b_nodeA := b_nodeA) (b_nodeB := b_nodeB) (b_nodeNext := a_nodeNext) (b_nodeElse := a_nodeElse) (b_scratch := b_scratch) (b_frag := a_fragments) (b_body := a_body) (b_slotKind := b_slotKind) (b_slotNumber := b_slotNumber) (b_spares := b_spares) (b_waits := a_waiting) (b_cellTag := b_cellTag) (b_partKind := b_partKind) (b_partNumber := b_partNumber) (b_live := b_live) (b_order := b_order) (b_todo := b_todo) hST.2.1 hbn hnc
        have efr : a_fragments (f_fragmentCount - 1).toNatClampNeg = nI b := by rw [e1, efd]; exact hbe
        by_cases hz : (a_nodeFree b &&& (-4)) = 0
        · have hST' : (rc_ST nc hs dl nd f_heapSize f_depthLimit a_nodeKind a_nodeX a_nodeParam a_nodeA a_nodeB a_nodeNext a_nodeElse a_nodeFree a_nodeNeed (upd a_body g (nI b)) b_nodeA b_nodeB) := by
            obtain ⟨k1, k2, k3, k4, k5, k6, k7, k8, k9⟩ := hST
            refine ⟨k1, k2, k3, k4, k5, k6, k7, k8, fun f hf => ?_⟩
            by_cases q : f = g
            · subst q; exact Or.inr ⟨b, hbn, pk_us, fun s h2 h12 => rc_m4 hz s h2 h12⟩
            · rw [pk_un q]; exact k9 f hf
          refine ⟨0, (f_kindRet, f_kindTail, f_kindBind, f_kindCon, f_kindPrim, f_kindCall, f_kindMatch, f_kindTest, f_cellBase, f_heapSize, f_depthLimit, f_nodeLimit, f_nodeCount, nI fd, f_frames, f_at, f_deadCount, f_freeHead, f_fresh, f_liveCells, f_spareTotal, f_counted, f_status, f_made, f_reused, f_peak, f_calls, f_result, f_resultCells, a_nodeKind, a_nodeX, a_nodeParam, a_nodeA, a_nodeB, a_nodeNext, a_nodeElse, a_nodeFree, a_nodeNeed, a_fragments, upd a_body g (nI b), a_slots, a_waiting, a_spareHead, a_spareCount, a_cellTag, a_cellLeft, a_cellRight, a_holds, a_link, a_dead, a_cellOfNumber, a_numberOfCell, a_places, a_walk), (f_heapSize, f_depthLimit, f_nodeLimit, f_nodeCount, nI fd, g_frames, f_made, f_counted, f_reused, f_peak, f_calls, g_status, g_resKind, g_resNumber, g_numbered, a_nodeKind, a_nodeX, a_nodeParam, b_nodeA, b_nodeB, a_nodeNext, a_nodeElse, sc, a_fragments, upd a_body g (nI b), b_slotKind, b_slotNumber, b_spares, a_waiting, b_cellTag, b_partKind, b_partNumber, b_live, b_order, b_todo), rc_REL_mk hST' ⟨hn, nl, fd, hnl, hnl48, hl, by omega, rfl, fun i hi => hfr i (by omega)⟩ hRR, fun post hp => by delta wpX_define; exact rx_fnT hg _ (br_f (by decide) ⟨hing, br_t hb0 (br_f w0 ⟨hfin, nm_r efr ⟨hinb, br_t (by rw [eb]; exact hz) (nm_r e1 ⟨hing, nm_r (by rw [eg]) hp⟩)⟩⟩)⟩), fun post hp => rc_rhT hg ⟨hing, br_t hb0 (br_f w0 ⟨hfin, ?_⟩)⟩⟩
          rw [efr]
          exact WF _ (br_t hz (nm_r e1 ⟨vp_in_nI (by omega) (by decide), hing, nm_r (by rw [eg, efd, hbe]) hp⟩))
        · refine ⟨5, _, (f_heapSize, f_depthLimit, f_nodeLimit, f_nodeCount, f_fragmentCount, g_frames, f_made, f_counted, f_reused, f_peak, f_calls, g_status, g_resKind, g_resNumber, g_numbered, a_nodeKind, a_nodeX, a_nodeParam, b_nodeA, b_nodeB, a_nodeNext, a_nodeElse, sc, a_fragments, a_body, b_slotKind, b_slotNumber, b_spares, a_waiting, b_cellTag, b_partKind, b_partNumber, b_live, b_order, b_todo), rc_REL_mk hST hFT0 hRR, fun post hp => by delta wpX_define; exact rx_fnT hg _ (br_f (by decide) ⟨hing, br_t hb0 (br_f w0 ⟨hfin, nm_r efr ⟨hinb, br_f (by rw [eb]; exact hz) hp⟩⟩)⟩), fun post hp => rc_rhT hg ⟨hing, br_t hb0 (br_f w0 ⟨hfin, ?_⟩)⟩⟩
          rw [efr]
          exact WF _ (br_f hz hp)
    · have hnc := hST.1
      have hb0 : ¬ a_body (nI g).toNatClampNeg < 0 := by rw [eg, hbe]; exact nI_pos (by omega)
      exact ⟨4, _, _, R0, fun post hp => by delta wpX_define; exact rx_fnT hg _ (br_f (by decide) ⟨hing, br_f hb0 hp⟩), fun post hp => rc_rhT hg ⟨hing, br_f hb0 hp⟩⟩
  · exact ⟨1, _, _, R0, fun post hp => by delta wpX_define; exact rx_fnF h0 _ (br_t rfl hp), fun post hp => rc_rhF h0 hp hp⟩
theorem rm_freeOf (hST : (rc_ST nc hs dl nd f_heapSize f_depthLimit a_nodeKind a_nodeX a_nodeParam a_nodeA a_nodeB a_nodeNext a_nodeElse a_nodeFree a_nodeNeed a_body b_nodeA b_nodeB)) (hFT : (rc_FT nc f_nodeLimit f_nodeCount f_fragmentCount a_fragments)) (hRR : (rc_RR f_status f_result f_resultCells f_counted f_liveCells a_cellTag a_cellLeft a_cellRight a_cellOfNumber a_numberOfCell a_places g_status g_resKind g_resNumber g_numbered b_cellTag b_partKind b_partNumber b_order)) : ∃ (r : Int32) (v' : SY), rc_REL (f_kindRet, f_kindTail, f_kindBind, f_kindCon, f_kindPrim, f_kindCall, f_kindMatch, f_kindTest, f_cellBase, f_heapSize, f_depthLimit, f_nodeLimit, f_nodeCount, f_fragmentCount, f_frames, f_at, f_deadCount, f_freeHead, f_fresh, f_liveCells, f_spareTotal, f_counted, f_status, f_made, f_reused, f_peak, f_calls, f_result, f_resultCells, a_nodeKind, a_nodeX, a_nodeParam, a_nodeA, a_nodeB, a_nodeNext, a_nodeElse, a_nodeFree, a_nodeNeed, a_fragments, a_body, a_slots, a_waiting, a_spareHead, a_spareCount, a_cellTag, a_cellLeft, a_cellRight, a_holds, a_link, a_dead, a_cellOfNumber, a_numberOfCell, a_places, a_walk) v' ∧ (∀ post : Int32 → Prop, post r → wpX_freeOf post (f_kindRet, f_kindTail, f_kindBind, f_kindCon, f_kindPrim, f_kindCall, f_kindMatch, f_kindTest, f_cellBase, f_heapSize, f_depthLimit, f_nodeLimit, f_nodeCount, f_fragmentCount, f_frames, f_at, f_deadCount, f_freeHead, f_fresh, f_liveCells, f_spareTotal, f_counted, f_status, f_made, f_reused, f_peak, f_calls, f_result, f_resultCells, a_nodeKind, a_nodeX, a_nodeParam, a_nodeA, a_nodeB, a_nodeNext, a_nodeElse, a_nodeFree, a_nodeNeed, a_fragments, a_body, a_slots, a_waiting, a_spareHead, a_spareCount, a_cellTag, a_cellLeft, a_cellRight, a_holds, a_link, a_dead, a_cellOfNumber, a_numberOfCell, a_places, a_walk) p0) ∧ (∀ post : Int32 → SY → Prop, post r v' → wpY_freeOf post (f_heapSize, f_depthLimit, f_nodeLimit, f_nodeCount, f_fragmentCount, g_frames, f_made, f_counted, f_reused, f_peak, f_calls, g_status, g_resKind, g_resNumber, g_numbered, a_nodeKind, a_nodeX, a_nodeParam, b_nodeA, b_nodeB, a_nodeNext, a_nodeElse, b_scratch, a_fragments, a_body, b_slotKind, b_slotNumber, b_spares, a_waiting, b_cellTag, b_partKind, b_partNumber, b_live, b_order, b_todo) p0) := by
  have R0 := rc_REL_mk (g_frames := g_frames) (b_scratch := b_scratch) (b_slotKind := b_slotKind) (b_slotNumber := b_slotNumber) (b_spares := b_spares) (b_live := b_live) (b_todo := b_todo) (f_kindRet := f_kindRet) (f_kindTail := f_kindTail) (f_kindBind := f_kindBind) (f_kindCon := f_kindCon) (f_kindPrim := f_kindPrim) (f_kindCall := f_kindCall) (f_kindMatch := f_kindMatch) (f_kindTest := f_kindTest) (f_cellBase := f_cellBase) (f_heapSize := f_heapSize) (f_depthLimit := f_depthLimit) (f_nodeLimit := f_nodeLimit) (f_nodeCount := f_nodeCount) (f_fragmentCount := f_fragmentCount) (f_frames := f_frames) (f_at := f_at) (f_deadCount := f_deadCount) (f_freeHead := f_freeHead) (f_fresh := f_fresh) (f_liveCells := f_liveCells) (f_spareTotal := f_spareTotal) (f_counted := f_counted) (f_status := f_status) (f_made := f_made) (f_reused := f_reused) (f_peak := f_peak) (f_calls := f_calls) (f_result := f_result) (f_resultCells := f_resultCells) (a_nodeKind := a_nodeKind) (a_nodeX := a_nodeX) (a_nodeParam := a_nodeParam) (a_nodeA := a_nodeA) (a_nodeB := a_nodeB) (a_nodeNext := a_nodeNext) (a_nodeElse := a_nodeElse) (a_nodeFree := a_nodeFree) (a_nodeNeed := a_nodeNeed) (a_fragments := a_fragments) (a_body := a_body) (a_slots := a_slots) (a_waiting := a_waiting) (a_spareHead := a_spareHead) (a_spareCount := a_spareCount) (a_cellTag := a_cellTag) (a_cellLeft := a_cellLeft) (a_cellRight := a_cellRight) (a_holds := a_holds) (a_link := a_link) (a_dead := a_dead) (a_cellOfNumber := a_cellOfNumber) (a_numberOfCell := a_numberOfCell) (a_places := a_places) (a_walk := a_walk) hST hFT hRR
  have hFT0 := hFT
  obtain ⟨hn, nl, fc, hnl, hnl48, hl, hfc, hf, hfr⟩ := hFT
  rcases pk_ix p0 (n := fc) (by omega) with h | h | ⟨i, hi, rfl⟩
  · exact ⟨-1, _, R0, fun post hp => br_t h hp, fun post hp => br_t h hp⟩
  · by_cases h0 : p0 < 0
    · exact ⟨-1, _, R0, fun post hp => br_t h0 hp, fun post hp => br_t h0 hp⟩
    · have w : ¬ p0 < f_fragmentCount := by rw [hf]; exact fun q => Int32.not_le.mpr q h
      exact ⟨-1, _, R0, fun post hp => br_f h0 (br_f w hp), fun post hp => br_f h0 (br_f w hp)⟩
  · have h0 : ¬ nI i < 0 := nI_pos (by omega)
    have w : nI i < f_fragmentCount := by rw [hf]; exact nI_lt hi (by omega)
    have e1 : f_fragmentCount - 1 - nI i = nI (fc - 1 - i) := by
      rw [hf, show nI fc - 1 = nI (fc - 1) from pk_sub (a := fc) (b := 1) (by omega), pk_sub (by omega)]
    obtain ⟨b, hb, hbe⟩ := hfr (fc - 1 - i) (by omega)
    have hnc := hST.1
    have hfin : vp_in (f_fragmentCount - 1 - nI i) 16 := by rw [e1]; exact vp_in_nI (by omega) (by decide)
    have efr : a_fragments (f_fragmentCount - 1 - nI i).toNatClampNeg = nI b := by rw [e1, nI_clamp (by omega)]; exact hbe
    obtain ⟨sc, WF⟩ := ry_free (t := b) (g_heapSize := f_heapSize) (g_depthLimit := f_depthLimit) (g_nodeLimit := f_nodeLimit) (g_nodeCount := f_nodeCount) (g_fragCount := f_fragmentCount) (g_frames := g_frames) (g_made := f_made) (g_inRun := f_counted) (g_reused := f_reused) (g_peak := f_peak) (g_calls := f_calls) (g_status := g_status) (g_resKind := g_resKind) (g_resNumber := g_resNumber) (g_numbered := g_numbered) (b_nodeKind := a_nodeKind) (b_nodeX := a_nodeX) (b_nodeT := a_nodeParam) (b_nodeA := b_nodeA) (b_nodeB := b_nodeB) (b_nodeNext := a_nodeNext) (b_nodeElse := a_nodeElse) (b_scratch := b_scratch) (b_frag := a_fragments) (b_body := a_body) (b_slotKind := b_slotKind) (b_slotNumber := b_slotNumber) (b_spares := b_spares) (b_waits := a_waiting) (b_cellTag := b_cellTag) (b_partKind := b_partKind) (b_partNumber := b_partNumber) (b_live := b_live) (b_order := b_order) (b_todo := b_todo) hST.2.1 hb hnc
    refine ⟨a_nodeFree b, (f_heapSize, f_depthLimit, f_nodeLimit, f_nodeCount, f_fragmentCount, g_frames, f_made, f_counted, f_reused, f_peak, f_calls, g_status, g_resKind, g_resNumber, g_numbered, a_nodeKind, a_nodeX, a_nodeParam, b_nodeA, b_nodeB, a_nodeNext, a_nodeElse, sc, a_fragments, a_body, b_slotKind, b_slotNumber, b_spares, a_waiting, b_cellTag, b_partKind, b_partNumber, b_live, b_order, b_todo), rc_REL_mk hST hFT0 hRR, fun post hp => br_f h0 (br_t w ⟨hfin, ?_, ?_⟩), fun post hp => br_f h0 (br_t w ⟨hfin, ?_⟩)⟩
    · rw [efr]; exact vp_in_nI (by omega) (by decide)
    · rw [efr, nI_clamp (by omega)]; exact hp
    · rw [efr]; exact WF _ hp
end
end
section
def rc_bd (b : Nat → Int32) (i : Nat) : Nat → Int32 := fun f => if f < i then -1 else b f
theorem rc_bd_u {b : Nat → Int32} {i : Nat} : upd (rc_bd b i) i (-1) = rc_bd b (i + 1) := by
  funext f
  unfold upd rc_bd
  by_cases e : f = i
  · rw [if_pos e, if_pos (by omega)]
  · rw [if_neg e]
    by_cases h : f < i
    · rw [if_pos h, if_pos (by omega)]
    · rw [if_neg h, if_neg (by omega)]
theorem rc_bd_0 {b : Nat → Int32} : rc_bd b 0 = b := by
  funext f; unfold rc_bd; rw [if_neg (by omega)]
theorem rc_bd_8 {b : Nat → Int32} {f : Nat} (h : f < 8) : rc_bd b 8 f = -1 := if_pos h
def rc_cl (p lo hi : Int32) : Int32 := if lo ≤ p then (if p ≤ hi then p else hi) else lo
theorem rc_clb {P : Int32 → Prop} {p lo hi : Int32} (h : P (rc_cl p lo hi)) : (lo ≤ p → ((p ≤ hi → P p) ∧ (¬ p ≤ hi → P hi))) ∧ (¬ lo ≤ p → P lo) := by
  unfold rc_cl at h
  by_cases h1 : lo ≤ p
  · rw [if_pos h1] at h
    by_cases h2 : p ≤ hi
    · rw [if_pos h2] at h; exact br_t h1 (br_t h2 h)
    · rw [if_neg h2] at h; exact br_t h1 (br_f h2 h)
  · rw [if_neg h1] at h; exact br_f h1 h
theorem rc_cl_r {p : Int32} {a b : Nat} (hab : a ≤ b) (hb : b < 2 ^ 31) : ∃ h, a ≤ h ∧ h ≤ b ∧ rc_cl p (nI a) (nI b) = nI h := by
  unfold rc_cl
  by_cases h1 : nI a ≤ p
  · by_cases h2 : p ≤ nI b
    · rw [if_pos h1, if_pos h2]
      have h0 : ¬ p < 0 := fun w => nI_pos (n := a) (by omega) (Int32.lt_of_le_of_lt h1 w)
      obtain ⟨j, hj, rfl⟩ := nI_of h0
      rw [nI_leI (by omega) hj] at h1
      rw [nI_leI hj hb] at h2
      exact ⟨j, h1, h2, rfl⟩
    · rw [if_pos h1, if_neg h2]; exact ⟨b, hab, Nat.le_refl _, rfl⟩
  · rw [if_neg h1]; exact ⟨a, Nat.le_refl _, hab, rfl⟩
section
variable {f_kindRet f_kindTail f_kindBind f_kindCon f_kindPrim f_kindCall f_kindMatch f_kindTest f_heapSize f_depthLimit f_nodeLimit f_nodeCount f_fragmentCount f_frames f_at f_deadCount f_freeHead f_fresh f_liveCells f_spareTotal f_counted f_status f_made f_reused f_peak f_calls f_resultCells : Int32} {f_cellBase f_result : Int64} {a_nodeKind a_nodeX a_nodeParam a_nodeA a_nodeB a_nodeNext a_nodeElse a_nodeFree a_nodeNeed a_fragments a_body a_waiting a_spareHead a_spareCount a_cellTag a_holds a_link a_dead a_cellOfNumber a_numberOfCell a_places a_walk : Nat → Int32} {a_slots a_cellLeft a_cellRight : Nat → Int64}
theorem rx_clamp {p lo hi : Int32} (post : Int32 → Prop) (hp : post (rc_cl p lo hi)) : wpX_clamp post (f_kindRet, f_kindTail, f_kindBind, f_kindCon, f_kindPrim, f_kindCall, f_kindMatch, f_kindTest, f_cellBase, f_heapSize, f_depthLimit, f_nodeLimit, f_nodeCount, f_fragmentCount, f_frames, f_at, f_deadCount, f_freeHead, f_fresh, f_liveCells, f_spareTotal, f_counted, f_status, f_made, f_reused, f_peak, f_calls, f_result, f_resultCells, a_nodeKind, a_nodeX, a_nodeParam, a_nodeA, a_nodeB, a_nodeNext, a_nodeElse, a_nodeFree, a_nodeNeed, a_fragments, a_body, a_slots, a_waiting, a_spareHead, a_spareCount, a_cellTag, a_cellLeft, a_cellRight, a_holds, a_link, a_dead, a_cellOfNumber, a_numberOfCell, a_places, a_walk) p lo hi := rc_clb (P := post) hp
theorem rx_reset_lp : ∀ (d i : Nat), i + d = 8 → ∀ (b : Nat → Int32) (post : SX → Prop) (fuel : Nat), d < fuel → post (f_kindRet, f_kindTail, f_kindBind, f_kindCon, f_kindPrim, f_kindCall, f_kindMatch, f_kindTest, f_cellBase, f_heapSize, f_depthLimit, f_nodeLimit, f_nodeCount, f_fragmentCount, 0, 0, 0, -1, 0, 0, 0, f_counted, 9, 0, 0, 0, 0, 0, 0, a_nodeKind, a_nodeX, a_nodeParam, a_nodeA, a_nodeB, a_nodeNext, a_nodeElse, a_nodeFree, a_nodeNeed, a_fragments, rc_bd b 8, a_slots, a_waiting, a_spareHead, a_spareCount, a_cellTag, a_cellLeft, a_cellRight, a_holds, a_link, a_dead, a_cellOfNumber, a_numberOfCell, a_places, a_walk) → wX_reset_12 post f_kindRet f_kindTail f_kindBind f_kindCon f_kindPrim f_kindCall f_kindMatch f_kindTest f_cellBase f_heapSize f_depthLimit f_nodeLimit f_nodeCount f_fragmentCount f_frames f_at f_deadCount f_freeHead f_fresh f_liveCells f_spareTotal f_counted f_status f_made f_reused f_peak f_calls f_result f_resultCells fuel (nI i) a_nodeKind a_nodeX a_nodeParam a_nodeA a_nodeB a_nodeNext a_nodeElse a_nodeFree a_nodeNeed a_fragments (rc_bd b i) a_slots a_waiting a_spareHead a_spareCount a_cellTag a_cellLeft a_cellRight a_holds a_link a_dead a_cellOfNumber a_numberOfCell a_places a_walk := by
  intro d
  induction d with
  | zero =>
    intro i hi b post fuel hf hp
    obtain ⟨fuel, rfl⟩ : ∃ q, fuel = q + 1 := ⟨fuel - 1, by omega⟩
    have : i = 8 := by omega
    subst this
    exact br_t (by decide) hp
  | succ d ih =>
    intro i hi b post fuel hf hp
    obtain ⟨fuel, rfl⟩ : ∃ q, fuel = q + 1 := ⟨fuel - 1, by omega⟩
    exact br_f (nI_ge (b := 8) (by omega) (by decide)) ⟨vp_in_nI (by omega) (by decide), nm_r (e' := rc_bd b (i + 1)) (by rw [nI_clamp (by omega), rc_bd_u]) (nm_r (nI_1 i) (ih (i + 1) (by omega) b post fuel (by omega) hp))⟩
theorem rx_reset (post : SX → Prop) (hp : post (f_kindRet, f_kindTail, f_kindBind, f_kindCon, f_kindPrim, f_kindCall, f_kindMatch, f_kindTest, f_cellBase, f_heapSize, f_depthLimit, f_nodeLimit, 0, 0, 0, 0, 0, -1, 0, 0, 0, f_counted, 9, 0, 0, 0, 0, 0, 0, a_nodeKind, a_nodeX, a_nodeParam, a_nodeA, a_nodeB, a_nodeNext, a_nodeElse, a_nodeFree, a_nodeNeed, a_fragments, rc_bd a_body 8, a_slots, a_waiting, a_spareHead, a_spareCount, a_cellTag, a_cellLeft, a_cellRight, a_holds, a_link, a_dead, a_cellOfNumber, a_numberOfCell, a_places, a_walk)) : wpX_reset post (f_kindRet, f_kindTail, f_kindBind, f_kindCon, f_kindPrim, f_kindCall, f_kindMatch, f_kindTest, f_cellBase, f_heapSize, f_depthLimit, f_nodeLimit, f_nodeCount, f_fragmentCount, f_frames, f_at, f_deadCount, f_freeHead, f_fresh, f_liveCells, f_spareTotal, f_counted, f_status, f_made, f_reused, f_peak, f_calls, f_result, f_resultCells, a_nodeKind, a_nodeX, a_nodeParam, a_nodeA, a_nodeB, a_nodeNext, a_nodeElse, a_nodeFree, a_nodeNeed, a_fragments, a_body, a_slots, a_waiting, a_spareHead, a_spareCount, a_cellTag, a_cellLeft, a_cellRight, a_holds, a_link, a_dead, a_cellOfNumber, a_numberOfCell, a_places, a_walk) := by
  refine ⟨9, ?_⟩
  have := rx_reset_lp (f_kindRet := f_kindRet) (f_kindTail := f_kindTail) (f_kindBind := f_kindBind) (f_kindCon := f_kindCon) (f_kindPrim := f_kindPrim) (f_kindCall := f_kindCall) (f_kindMatch := f_kindMatch) (f_kindTest := f_kindTest) (f_cellBase := f_cellBase) (f_heapSize := f_heapSize) (f_depthLimit := f_depthLimit) (f_nodeLimit := f_nodeLimit) (f_nodeCount := 0) (f_fragmentCount := 0) (f_frames := f_frames) (f_at := f_at) (f_deadCount := f_deadCount) (f_freeHead := f_freeHead) (f_fresh := f_fresh) (f_liveCells := f_liveCells) (f_spareTotal := f_spareTotal) (f_counted := f_counted) (f_status := f_status) (f_made := f_made) (f_reused := f_reused) (f_peak := f_peak) (f_calls := f_calls) (f_result := f_result) (f_resultCells := f_resultCells) (a_nodeKind := a_nodeKind) (a_nodeX := a_nodeX) (a_nodeParam := a_nodeParam) (a_nodeA := a_nodeA) (a_nodeB := a_nodeB) (a_nodeNext := a_nodeNext) (a_nodeElse := a_nodeElse) (a_nodeFree := a_nodeFree) (a_nodeNeed := a_nodeNeed) (a_fragments := a_fragments) (a_slots := a_slots) (a_waiting := a_waiting) (a_spareHead := a_spareHead) (a_spareCount := a_spareCount) (a_cellTag := a_cellTag) (a_cellLeft := a_cellLeft) (a_cellRight := a_cellRight) (a_holds := a_holds) (a_link := a_link) (a_dead := a_dead) (a_cellOfNumber := a_cellOfNumber) (a_numberOfCell := a_numberOfCell) (a_places := a_places) (a_walk := a_walk) 8 0 rfl a_body post 9 (by omega) hp
  rw [rc_bd_0] at this
  exact this
end
section
variable {g_heapSize g_depthLimit g_nodeLimit g_nodeCount g_fragCount g_frames g_made g_inRun g_reused g_peak g_calls g_status g_resKind g_resNumber g_numbered : Int32} {b_nodeKind b_nodeX b_nodeT b_nodeA b_nodeB b_nodeNext b_nodeElse b_scratch b_frag b_body b_slotKind b_slotNumber b_spares b_waits b_cellTag b_partKind b_partNumber b_live b_order b_todo : Nat → Int32}
theorem ry_clear_lp : ∀ (d i : Nat), i + d = 8 → ∀ (b : Nat → Int32) (post : SY → Prop) (fuel : Nat), d < fuel → post (g_heapSize, g_depthLimit, g_nodeLimit, g_nodeCount, g_fragCount, g_frames, 0, g_inRun, 0, 0, 0, 9, 0, 0, 0, b_nodeKind, b_nodeX, b_nodeT, b_nodeA, b_nodeB, b_nodeNext, b_nodeElse, b_scratch, b_frag, rc_bd b 8, b_slotKind, b_slotNumber, b_spares, b_waits, b_cellTag, b_partKind, b_partNumber, b_live, b_order, b_todo) → wY_clear_12 post g_heapSize g_depthLimit g_nodeLimit g_nodeCount g_fragCount g_frames g_made g_inRun g_reused g_peak g_calls g_status g_resKind g_resNumber g_numbered fuel (nI i) b_nodeKind b_nodeX b_nodeT b_nodeA b_nodeB b_nodeNext b_nodeElse b_scratch b_frag (rc_bd b i) b_slotKind b_slotNumber b_spares b_waits b_cellTag b_partKind b_partNumber b_live b_order b_todo := by
  intro d
  induction d with
  | zero =>
    intro i hi b post fuel hf hp
    obtain ⟨fuel, rfl⟩ : ∃ q, fuel = q + 1 := ⟨fuel - 1, by omega⟩
    have : i = 8 := by omega
    subst this
    exact br_t (by decide) hp
  | succ d ih =>
    intro i hi b post fuel hf hp
    obtain ⟨fuel, rfl⟩ : ∃ q, fuel = q + 1 := ⟨fuel - 1, by omega⟩
    exact br_f (nI_ge (b := 8) (by omega) (by decide)) ⟨vp_in_nI (by omega) (by decide), nm_r (e' := rc_bd b (i + 1)) (by rw [nI_clamp (by omega), rc_bd_u]) (nm_r (nI_1 i) (ih (i + 1) (by omega) b post fuel (by omega) hp))⟩
theorem ry_clear (post : SY → Prop) (hp : post (g_heapSize, g_depthLimit, g_nodeLimit, 0, 0, g_frames, 0, g_inRun, 0, 0, 0, 9, 0, 0, 0, b_nodeKind, b_nodeX, b_nodeT, b_nodeA, b_nodeB, b_nodeNext, b_nodeElse, b_scratch, b_frag, rc_bd b_body 8, b_slotKind, b_slotNumber, b_spares, b_waits, b_cellTag, b_partKind, b_partNumber, b_live, b_order, b_todo)) : wpY_clear post (g_heapSize, g_depthLimit, g_nodeLimit, g_nodeCount, g_fragCount, g_frames, g_made, g_inRun, g_reused, g_peak, g_calls, g_status, g_resKind, g_resNumber, g_numbered, b_nodeKind, b_nodeX, b_nodeT, b_nodeA, b_nodeB, b_nodeNext, b_nodeElse, b_scratch, b_frag, b_body, b_slotKind, b_slotNumber, b_spares, b_waits, b_cellTag, b_partKind, b_partNumber, b_live, b_order, b_todo) := by
  refine ⟨9, ?_⟩
  have := ry_clear_lp (g_heapSize := g_heapSize) (g_depthLimit := g_depthLimit) (g_nodeLimit := g_nodeLimit) (g_nodeCount := 0) (g_fragCount := 0) (g_frames := g_frames) (g_made := g_made) (g_inRun := g_inRun) (g_reused := g_reused) (g_peak := g_peak) (g_calls := g_calls) (g_status := g_status) (g_resKind := g_resKind) (g_resNumber := g_resNumber) (g_numbered := g_numbered) (b_nodeKind := b_nodeKind) (b_nodeX := b_nodeX) (b_nodeT := b_nodeT) (b_nodeA := b_nodeA) (b_nodeB := b_nodeB) (b_nodeNext := b_nodeNext) (b_nodeElse := b_nodeElse) (b_scratch := b_scratch) (b_frag := b_frag) (b_slotKind := b_slotKind) (b_slotNumber := b_slotNumber) (b_spares := b_spares) (b_waits := b_waits) (b_cellTag := b_cellTag) (b_partKind := b_partKind) (b_partNumber := b_partNumber) (b_live := b_live) (b_order := b_order) (b_todo := b_todo) 8 0 rfl b_body post 9 (by omega) hp
  rw [rc_bd_0] at this
  exact this
end
section
variable {f_kindRet f_kindTail f_kindBind f_kindCon f_kindPrim f_kindCall f_kindMatch f_kindTest f_heapSize f_depthLimit f_nodeLimit f_nodeCount f_fragmentCount f_frames f_at f_deadCount f_freeHead f_fresh f_liveCells f_spareTotal f_counted f_status f_made f_reused f_peak f_calls f_resultCells : Int32} {f_cellBase f_result : Int64} {a_nodeKind a_nodeX a_nodeParam a_nodeA a_nodeB a_nodeNext a_nodeElse a_nodeFree a_nodeNeed a_fragments a_body a_waiting a_spareHead a_spareCount a_cellTag a_holds a_link a_dead a_cellOfNumber a_numberOfCell a_places a_walk : Nat → Int32} {a_slots a_cellLeft a_cellRight : Nat → Int64}
variable {g_frames g_status g_resKind g_resNumber g_numbered : Int32} {b_nodeA b_nodeB b_scratch b_slotKind b_slotNumber b_spares b_cellTag b_partKind b_partNumber b_live b_order b_todo : Nat → Int32}
variable {hs dl nl : Nat}
/-- the empty state -/
theorem rc_REL_0 (h1 : f_heapSize = nI hs) (h2 : hs ≤ 64) (h3 : f_depthLimit = nI dl) (h4 : 2 ≤ dl) (h5 : dl ≤ 16) (h6 : f_nodeLimit = nI nl) (h7 : nl ≤ 48) : rc_REL (f_kindRet, f_kindTail, f_kindBind, f_kindCon, f_kindPrim, f_kindCall, f_kindMatch, f_kindTest, f_cellBase, f_heapSize, f_depthLimit, f_nodeLimit, 0, 0, 0, 0, 0, -1, 0, 0, 0, f_counted, 9, 0, 0, 0, 0, 0, 0, a_nodeKind, a_nodeX, a_nodeParam, a_nodeA, a_nodeB, a_nodeNext, a_nodeElse, a_nodeFree, a_nodeNeed, a_fragments, rc_bd a_body 8, a_slots, a_waiting, a_spareHead, a_spareCount, a_cellTag, a_cellLeft, a_cellRight, a_holds, a_link, a_dead, a_cellOfNumber, a_numberOfCell, a_places, a_walk) (f_heapSize, f_depthLimit, f_nodeLimit, 0, 0, g_frames, 0, f_counted, 0, 0, 0, 9, 0, 0, 0, a_nodeKind, a_nodeX, a_nodeParam, b_nodeA, b_nodeB, a_nodeNext, a_nodeElse, b_scratch, a_fragments, rc_bd a_body 8, b_slotKind, b_slotNumber, b_spares, a_waiting, b_cellTag, b_partKind, b_partNumber, b_live, b_order, b_todo) :=
  rc_REL_mk (nc := 0) (hs := hs) (dl := dl) (nd := fun _ => 0) ⟨by omega, fun i hi => by omega, fun i hi => by omega, h1, h2, h3, h4, h5, fun f hf => Or.inl (rc_bd_8 hf)⟩ ⟨rfl, nl, 0, by omega, h7, h6, by omega, rfl, fun i hi => by omega⟩ ⟨rfl, Or.inl ⟨by decide, rfl, rfl, rfl⟩⟩
end
theorem rs_init0 (k0 k1 k2 : Int32) : wpX_init (fun u => wpY_init (fun v => rc_REL u v) k0 k1 k2) k0 k1 k2 := by
  obtain ⟨hs, a1, a2, a3⟩ := rc_cl_r (p := k0) (a := 2) (b := 64) (by decide) (by decide)
  obtain ⟨dl, b1, b2, b3⟩ := rc_cl_r (p := k1) (a := 2) (b := 16) (by decide) (by decide)
  obtain ⟨nl, c1, c2, c3⟩ := rc_cl_r (p := k2) (a := 8) (b := 48) (by decide) (by decide)
  delta wpX_init
  refine rx_clamp _ (rx_clamp _ (rx_clamp _ (rx_reset _ ?_)))
  show wpY_init _ k0 k1 k2
  delta wpY_init
  refine rc_clb (p := k0) (lo := 2) (hi := 64) (P := fun q => wY_init_194 _ k1 k2 q 0 0 0 0 0 0 0 0 0 0 0 0 0 0 0 (fun _ => 0) (fun _ => 0) (fun _ => 0) (fun _ => 0) (fun _ => 0) (fun _ => 0) (fun _ => 0) (fun _ => 0) (fun _ => 0) (fun _ => 0) (fun _ => 0) (fun _ => 0) (fun _ => 0) (fun _ => 0) (fun _ => 0) (fun _ => 0) (fun _ => 0) (fun _ => 0) (fun _ => 0) (fun _ => 0)) ?_
  refine rc_clb (p := k1) (lo := 2) (hi := 16) (P := fun q => wY_init_219 _ k2 q (rc_cl k0 2 64) 0 0 0 0 0 0 0 0 0 0 0 0 0 0 (fun _ => 0) (fun _ => 0) (fun _ => 0) (fun _ => 0) (fun _ => 0) (fun _ => 0) (fun _ => 0) (fun _ => 0) (fun _ => 0) (fun _ => 0) (fun _ => 0) (fun _ => 0) (fun _ => 0) (fun _ => 0) (fun _ => 0) (fun _ => 0) (fun _ => 0) (fun _ => 0) (fun _ => 0) (fun _ => 0)) ?_
  refine rc_clb (p := k2) (lo := 8) (hi := 48) (P := fun q => wY_init_246 _ q (rc_cl k0 2 64) (rc_cl k1 2 16) 0 0 0 0 0 0 0 0 0 0 0 0 0 (fun _ => 0) (fun _ => 0) (fun _ => 0) (fun _ => 0) (fun _ => 0) (fun _ => 0) (fun _ => 0) (fun _ => 0) (fun _ => 0) (fun _ => 0) (fun _ => 0) (fun _ => 0) (fun _ => 0) (fun _ => 0) (fun _ => 0) (fun _ => 0) (fun _ => 0) (fun _ => 0) (fun _ => 0) (fun _ => 0)) ?_
  refine ry_clear _ ?_
  exact rc_REL_0 (hs := hs) (dl := dl) (nl := nl) a3 a2 b3 b1 b2 c3 c2
section
variable {f_kindRet f_kindTail f_kindBind f_kindCon f_kindPrim f_kindCall f_kindMatch f_kindTest f_heapSize f_depthLimit f_nodeLimit f_nodeCount f_fragmentCount f_frames f_at f_deadCount f_freeHead f_fresh f_liveCells f_spareTotal f_counted f_status f_made f_reused f_peak f_calls f_resultCells : Int32} {f_cellBase f_result : Int64} {a_nodeKind a_nodeX a_nodeParam a_nodeA a_nodeB a_nodeNext a_nodeElse a_nodeFree a_nodeNeed a_fragments a_body a_waiting a_spareHead a_spareCount a_cellTag a_holds a_link a_dead a_cellOfNumber a_numberOfCell a_places a_walk : Nat → Int32} {a_slots a_cellLeft a_cellRight : Nat → Int64}
variable {g_frames g_status g_resKind g_resNumber g_numbered : Int32} {b_nodeA b_nodeB b_scratch b_slotKind b_slotNumber b_spares b_cellTag b_partKind b_partNumber b_live b_order b_todo : Nat → Int32}
variable {nc hs dl : Nat} {nd : Nat → Nat}
theorem rm_clear (hST : (rc_ST nc hs dl nd f_heapSize f_depthLimit a_nodeKind a_nodeX a_nodeParam a_nodeA a_nodeB a_nodeNext a_nodeElse a_nodeFree a_nodeNeed a_body b_nodeA b_nodeB)) (hFT : (rc_FT nc f_nodeLimit f_nodeCount f_fragmentCount a_fragments)) (hRR : (rc_RR f_status f_result f_resultCells f_counted f_liveCells a_cellTag a_cellLeft a_cellRight a_cellOfNumber a_numberOfCell a_places g_status g_resKind g_resNumber g_numbered b_cellTag b_partKind b_partNumber b_order)) : ∃ (u' : SX) (v' : SY), rc_REL u' v' ∧ (∀ post : SX → Prop, post u' → wpX_clear post (f_kindRet, f_kindTail, f_kindBind, f_kindCon, f_kindPrim, f_kindCall, f_kindMatch, f_kindTest, f_cellBase, f_heapSize, f_depthLimit, f_nodeLimit, f_nodeCount, f_fragmentCount, f_frames, f_at, f_deadCount, f_freeHead, f_fresh, f_liveCells, f_spareTotal, f_counted, f_status, f_made, f_reused, f_peak, f_calls, f_result, f_resultCells, a_nodeKind, a_nodeX, a_nodeParam, a_nodeA, a_nodeB, a_nodeNext, a_nodeElse, a_nodeFree, a_nodeNeed, a_fragments, a_body, a_slots, a_waiting, a_spareHead, a_spareCount, a_cellTag, a_cellLeft, a_cellRight, a_holds, a_link, a_dead, a_cellOfNumber, a_numberOfCell, a_places, a_walk)) ∧ (∀ post : SY → Prop, post v' → wpY_clear post (f_heapSize, f_depthLimit, f_nodeLimit, f_nodeCount, f_fragmentCount, g_frames, f_made, f_counted, f_reused, f_peak, f_calls, g_status, g_resKind, g_resNumber, g_numbered, a_nodeKind, a_nodeX, a_nodeParam, b_nodeA, b_nodeB, a_nodeNext, a_nodeElse, b_scratch, a_fragments, a_body, b_slotKind, b_slotNumber, b_spares, a_waiting, b_cellTag, b_partKind, b_partNumber, b_live, b_order, b_todo)) := by
  obtain ⟨hn, nl, fc, hnl, hnl48, hl, hfc, hf, hfr⟩ := hFT
  obtain ⟨k1, k2, k3, k4, k5, k6, k7, k8, k9⟩ := hST
  exact ⟨_, _, rc_REL_0 k4 k5 k6 k7 k8 hl hnl48, fun post hp => by delta wpX_clear; exact rx_reset _ hp, fun post hp => ry_clear post hp⟩
end
end
section
/-! the readers -/
def rc_RK (k : Nat) (nu φ : Nat → Nat) (rcs : Int32) (tg : Nat → Int32) (cl cr : Nat → Int64) (con noc pls : Nat → Int32) (gn : Int32) (yt pk pn ord : Nat → Int32) : Prop :=
  k ≤ 200 ∧ rcs = nI k ∧ gn = nI k ∧
  (∀ i, i < k → nu i < 200 ∧ φ (nu i) < 200 ∧ con i = nI (nu i) ∧ ord i = nI (φ (nu i)) ∧ noc (nu i) = nI i ∧ yt (φ (nu i)) = tg (nu i) ∧ rc_FR k nu φ (cl (nu i)) (pk (2 * φ (nu i))) (pn (2 * φ (nu i))) ∧ rc_FR k nu φ (cr (nu i)) (pk (2 * φ (nu i) + 1)) (pn (2 * φ (nu i) + 1))) ∧
  (∀ i j, i < k → j < k → φ (nu i) = φ (nu j) → i = j) ∧
  (∀ i, i < k → pls (nu i) = nI ((if i = 0 then 1 else 0) + rc_sm (fun j => rc_is (cl (nu j)) (nu i) + rc_is (cr (nu j)) (nu i)) k))
def rc_EQ0 (pX : (Int32 → Prop) → Prop) (pY : (Int32 → Prop) → Prop) : Prop :=
  ∃ r : Int32, (∀ post : Int32 → Prop, post r → pX post) ∧ (∀ post : Int32 → Prop, post r → pY post)
section
variable {f_kindRet f_kindTail f_kindBind f_kindCon f_kindPrim f_kindCall f_kindMatch f_kindTest f_heapSize f_depthLimit f_nodeLimit f_nodeCount f_fragmentCount f_frames f_at f_deadCount f_freeHead f_fresh f_liveCells f_spareTotal f_counted f_status f_made f_reused f_peak f_calls f_resultCells : Int32} {f_cellBase f_result : Int64} {a_nodeKind a_nodeX a_nodeParam a_nodeA a_nodeB a_nodeNext a_nodeElse a_nodeFree a_nodeNeed a_fragments a_body a_waiting a_spareHead a_spareCount a_cellTag a_holds a_link a_dead a_cellOfNumber a_numberOfCell a_places a_walk : Nat → Int32} {a_slots a_cellLeft a_cellRight : Nat → Int64}
variable {g_frames g_status g_resKind g_resNumber g_numbered : Int32} {b_nodeA b_nodeB b_scratch b_slotKind b_slotNumber b_spares b_cellTag b_partKind b_partNumber b_live b_order b_todo : Nat → Int32}
variable {k : Nat} {nu φ : Nat → Nat} {p0 p1 : Int32}
theorem rc_RRk (h : (rc_RR f_status f_result f_resultCells f_counted f_liveCells a_cellTag a_cellLeft a_cellRight a_cellOfNumber a_numberOfCell a_places g_status g_resKind g_resNumber g_numbered b_cellTag b_partKind b_partNumber b_order)) : ∃ (k : Nat) (nu φ : Nat → Nat), (rc_RK k nu φ f_resultCells a_cellTag a_cellLeft a_cellRight a_cellOfNumber a_numberOfCell a_places g_numbered b_cellTag b_partKind b_partNumber b_order) := by
  obtain ⟨_, ⟨_, _, h1, h2⟩ | ⟨_, _, k, nu, φ, a1, a2, a3, a4, a5, a6, _⟩⟩ := h
  · exact ⟨0, id, id, by omega, h1, h2, fun i hi => by omega, fun i j hi => by omega, fun i hi => by omega⟩
  · exact ⟨k, nu, φ, a1, a2, a3, a4, a5, a6⟩
theorem rm_status (h : (rc_RR f_status f_result f_resultCells f_counted f_liveCells a_cellTag a_cellLeft a_cellRight a_cellOfNumber a_numberOfCell a_places g_status g_resKind g_resNumber g_numbered b_cellTag b_partKind b_partNumber b_order)) : rc_EQ0 (fun post => wpX_status post (f_kindRet, f_kindTail, f_kindBind, f_kindCon, f_kindPrim, f_kindCall, f_kindMatch, f_kindTest, f_cellBase, f_heapSize, f_depthLimit, f_nodeLimit, f_nodeCount, f_fragmentCount, f_frames, f_at, f_deadCount, f_freeHead, f_fresh, f_liveCells, f_spareTotal, f_counted, f_status, f_made, f_reused, f_peak, f_calls, f_result, f_resultCells, a_nodeKind, a_nodeX, a_nodeParam, a_nodeA, a_nodeB, a_nodeNext, a_nodeElse, a_nodeFree, a_nodeNeed, a_fragments, a_body, a_slots, a_waiting, a_spareHead, a_spareCount, a_cellTag, a_cellLeft, a_cellRight, a_holds, a_link, a_dead, a_cellOfNumber, a_numberOfCell, a_places, a_walk)) (fun post => wpY_status post (f_heapSize, f_depthLimit, f_nodeLimit, f_nodeCount, f_fragmentCount, g_frames, f_made, f_counted, f_reused, f_peak, f_calls, g_status, g_resKind, g_resNumber, g_numbered, a_nodeKind, a_nodeX, a_nodeParam, b_nodeA, b_nodeB, a_nodeNext, a_nodeElse, b_scratch, a_fragments, a_body, b_slotKind, b_slotNumber, b_spares, a_waiting, b_cellTag, b_partKind, b_partNumber, b_live, b_order, b_todo)) :=
  ⟨f_status, fun post hp => hp, fun post hp => by rw [← h.1] at hp; exact hp⟩
theorem rm_resultKind (h : (rc_RR f_status f_result f_resultCells f_counted f_liveCells a_cellTag a_cellLeft a_cellRight a_cellOfNumber a_numberOfCell a_places g_status g_resKind g_resNumber g_numbered b_cellTag b_partKind b_partNumber b_order)) : rc_EQ0 (fun post => wpX_resultKind post (f_kindRet, f_kindTail, f_kindBind, f_kindCon, f_kindPrim, f_kindCall, f_kindMatch, f_kindTest, f_cellBase, f_heapSize, f_depthLimit, f_nodeLimit, f_nodeCount, f_fragmentCount, f_frames, f_at, f_deadCount, f_freeHead, f_fresh, f_liveCells, f_spareTotal, f_counted, f_status, f_made, f_reused, f_peak, f_calls, f_result, f_resultCells, a_nodeKind, a_nodeX, a_nodeParam, a_nodeA, a_nodeB, a_nodeNext, a_nodeElse, a_nodeFree, a_nodeNeed, a_fragments, a_body, a_slots, a_waiting, a_spareHead, a_spareCount, a_cellTag, a_cellLeft, a_cellRight, a_holds, a_link, a_dead, a_cellOfNumber, a_numberOfCell, a_places, a_walk)) (fun post => wpY_resultKind post (f_heapSize, f_depthLimit, f_nodeLimit, f_nodeCount, f_fragmentCount, g_frames, f_made, f_counted, f_reused, f_peak, f_calls, g_status, g_resKind, g_resNumber, g_numbered, a_nodeKind, a_nodeX, a_nodeParam, b_nodeA, b_nodeB, a_nodeNext, a_nodeElse, b_scratch, a_fragments, a_body, b_slotKind, b_slotNumber, b_spares, a_waiting, b_cellTag, b_partKind, b_partNumber, b_live, b_order, b_todo)) := by
  obtain ⟨_, ⟨h1, h2, _, _⟩ | ⟨h1, h2, _⟩⟩ := h
  · exact ⟨0, fun post hp => br_f h1 hp, fun post hp => by rw [← h2] at hp; exact hp⟩
  · rcases h2 with ⟨e1, e2⟩ | ⟨e1, c, hc, e2⟩
    · refine ⟨1, fun post hp => br_t h1 (br_t ?_ hp), fun post hp => by rw [← e1] at hp; exact hp⟩
      rw [e2]; exact rc_i_lt _
    · refine ⟨2, fun post hp => br_t h1 (br_f ?_ hp), fun post hp => by rw [← e1] at hp; exact hp⟩
      rw [e2]; exact rc_cv_nlt (by omega)
theorem rm_resultNumber (h : (rc_RR f_status f_result f_resultCells f_counted f_liveCells a_cellTag a_cellLeft a_cellRight a_cellOfNumber a_numberOfCell a_places g_status g_resKind g_resNumber g_numbered b_cellTag b_partKind b_partNumber b_order)) : rc_EQ0 (fun post => wpX_resultNumber post (f_kindRet, f_kindTail, f_kindBind, f_kindCon, f_kindPrim, f_kindCall, f_kindMatch, f_kindTest, f_cellBase, f_heapSize, f_depthLimit, f_nodeLimit, f_nodeCount, f_fragmentCount, f_frames, f_at, f_deadCount, f_freeHead, f_fresh, f_liveCells, f_spareTotal, f_counted, f_status, f_made, f_reused, f_peak, f_calls, f_result, f_resultCells, a_nodeKind, a_nodeX, a_nodeParam, a_nodeA, a_nodeB, a_nodeNext, a_nodeElse, a_nodeFree, a_nodeNeed, a_fragments, a_body, a_slots, a_waiting, a_spareHead, a_spareCount, a_cellTag, a_cellLeft, a_cellRight, a_holds, a_link, a_dead, a_cellOfNumber, a_numberOfCell, a_places, a_walk)) (fun post => wpY_resultNumber post (f_heapSize, f_depthLimit, f_nodeLimit, f_nodeCount, f_fragmentCount, g_frames, f_made, f_counted, f_reused, f_peak, f_calls, g_status, g_resKind, g_resNumber, g_numbered, a_nodeKind, a_nodeX, a_nodeParam, b_nodeA, b_nodeB, a_nodeNext, a_nodeElse, b_scratch, a_fragments, a_body, b_slotKind, b_slotNumber, b_spares, a_waiting, b_cellTag, b_partKind, b_partNumber, b_live, b_order, b_todo)) := by
  obtain ⟨_, ⟨h1, h2, _, _⟩ | ⟨h1, h2, _⟩⟩ := h
  · exact ⟨0, fun post hp => br_f h1 hp, fun post hp => br_f (by rw [h2]; decide) hp⟩
  · rcases h2 with ⟨e1, e2⟩ | ⟨e1, c, hc, e2⟩
    · refine ⟨g_resNumber, fun post hp => br_t h1 (br_t ?_ (br_t rfl ?_)), fun post hp => br_t e1 hp⟩
      · rw [e2]; exact rc_i_lt _
      · rw [e2, rc_i_32]; exact hp
    · refine ⟨0, fun post hp => br_t h1 (br_f ?_ (br_f (by decide) hp)), fun post hp => br_f (by rw [e1]; decide) hp⟩
      rw [e2]; exact rc_cv_nlt (by omega)
/-- isNumber -/
theorem rx_isNo (hk : k < 2 ^ 31) (hr : f_resultCells = nI k) (h : p0 < 0 ∨ nI k ≤ p0) (post : Int32 → Prop) (hp : post 0) : wpX_isNumber post (f_kindRet, f_kindTail, f_kindBind, f_kindCon, f_kindPrim, f_kindCall, f_kindMatch, f_kindTest, f_cellBase, f_heapSize, f_depthLimit, f_nodeLimit, f_nodeCount, f_fragmentCount, f_frames, f_at, f_deadCount, f_freeHead, f_fresh, f_liveCells, f_spareTotal, f_counted, f_status, f_made, f_reused, f_peak, f_calls, f_result, f_resultCells, a_nodeKind, a_nodeX, a_nodeParam, a_nodeA, a_nodeB, a_nodeNext, a_nodeElse, a_nodeFree, a_nodeNeed, a_fragments, a_body, a_slots, a_waiting, a_spareHead, a_spareCount, a_cellTag, a_cellLeft, a_cellRight, a_holds, a_link, a_dead, a_cellOfNumber, a_numberOfCell, a_places, a_walk) p0 := by
  by_cases h0 : p0 < 0
  · exact br_t h0 hp
  · rcases h with h | h
    · exact absurd h h0
    · exact br_f h0 (br_t (by rw [hr]; exact h) hp)
theorem rx_isYes {i : Nat} (hk : k < 2 ^ 31) (hr : f_resultCells = nI k) (h : i < k) (post : Int32 → Prop) (hp : post 1) : wpX_isNumber post (f_kindRet, f_kindTail, f_kindBind, f_kindCon, f_kindPrim, f_kindCall, f_kindMatch, f_kindTest, f_cellBase, f_heapSize, f_depthLimit, f_nodeLimit, f_nodeCount, f_fragmentCount, f_frames, f_at, f_deadCount, f_freeHead, f_fresh, f_liveCells, f_spareTotal, f_counted, f_status, f_made, f_reused, f_peak, f_calls, f_result, f_resultCells, a_nodeKind, a_nodeX, a_nodeParam, a_nodeA, a_nodeB, a_nodeNext, a_nodeElse, a_nodeFree, a_nodeNeed, a_fragments, a_body, a_slots, a_waiting, a_spareHead, a_spareCount, a_cellTag, a_cellLeft, a_cellRight, a_holds, a_link, a_dead, a_cellOfNumber, a_numberOfCell, a_places, a_walk) (nI i) :=
  br_f (nI_pos (by omega)) (br_f (by rw [hr]; exact nI_ge h hk) hp)
theorem rc_ki (p : Int32) (hk : k < 2 ^ 31) : (p < 0 ∨ nI k ≤ p) ∨ ∃ i, i < k ∧ p = nI i := by
  rcases pk_ix p hk with h | h | h
  · exact Or.inl (Or.inl h)
  · exact Or.inl (Or.inr h)
  · exact Or.inr h
theorem rm_tagOf (H : (rc_RK k nu φ f_resultCells a_cellTag a_cellLeft a_cellRight a_cellOfNumber a_numberOfCell a_places g_numbered b_cellTag b_partKind b_partNumber b_order)) : rc_EQ0 (fun post => wpX_tagOf post (f_kindRet, f_kindTail, f_kindBind, f_kindCon, f_kindPrim, f_kindCall, f_kindMatch, f_kindTest, f_cellBase, f_heapSize, f_depthLimit, f_nodeLimit, f_nodeCount, f_fragmentCount, f_frames, f_at, f_deadCount, f_freeHead, f_fresh, f_liveCells, f_spareTotal, f_counted, f_status, f_made, f_reused, f_peak, f_calls, f_result, f_resultCells, a_nodeKind, a_nodeX, a_nodeParam, a_nodeA, a_nodeB, a_nodeNext, a_nodeElse, a_nodeFree, a_nodeNeed, a_fragments, a_body, a_slots, a_waiting, a_spareHead, a_spareCount, a_cellTag, a_cellLeft, a_cellRight, a_holds, a_link, a_dead, a_cellOfNumber, a_numberOfCell, a_places, a_walk) p0) (fun post => wpY_tagOf post (f_heapSize, f_depthLimit, f_nodeLimit, f_nodeCount, f_fragmentCount, g_frames, f_made, f_counted, f_reused, f_peak, f_calls, g_status, g_resKind, g_resNumber, g_numbered, a_nodeKind, a_nodeX, a_nodeParam, b_nodeA, b_nodeB, a_nodeNext, a_nodeElse, b_scratch, a_fragments, a_body, b_slotKind, b_slotNumber, b_spares, a_waiting, b_cellTag, b_partKind, b_partNumber, b_live, b_order, b_todo) p0) := by
  obtain ⟨a1, a2, a3, a4, a5, a6⟩ := H
  rcases rc_ki (k := k) p0 (by omega) with h | ⟨i, hi, rfl⟩
  · refine ⟨-1, fun post hp => by delta wpX_tagOf; exact rx_isNo (by omega) a2 h _ (br_t rfl hp), fun post hp => ?_⟩
    by_cases h0 : p0 < 0
    · exact br_t h0 hp
    · refine br_f h0 (br_f (fun w => ?_) hp)
      rw [a3] at w
      rcases h with h | h
      · exact h0 h
      · exact Int32.not_le.mpr w h
  · obtain ⟨b1, b2, b3, b4, b5, b6, b7, b8⟩ := a4 i hi
    have ei : (nI i).toNatClampNeg = i := nI_clamp (by omega)
    refine ⟨a_cellTag (nu i), fun post hp => by
      delta wpX_tagOf
      refine rx_isYes (by omega) a2 hi _ (br_f (by decide) ⟨vp_in_nI (by omega) (by decide), ?_, ?_⟩)
      · rw [ei, b3]; exact vp_in_nI b1 (by decide)
      · rw [ei, b3, nI_clamp (by omega)]; exact hp, fun post hp => br_f (nI_pos (by omega)) (br_t (by rw [a3]; exact nI_lt hi (by omega)) ⟨vp_in_nI (by omega) (by decide), ?_, ?_⟩)⟩
    · rw [ei, b4]; exact vp_in_nI b2 (by decide)
    · rw [ei, b4, nI_clamp (by omega), b6]; exact hp
def rc_fd (cl cr : Nat → Int64) (nu : Nat → Nat) (i j : Nat) : Int64 := if j = 0 then cl (nu i) else cr (nu i)
theorem rc_fdR (H : (rc_RK k nu φ f_resultCells a_cellTag a_cellLeft a_cellRight a_cellOfNumber a_numberOfCell a_places g_numbered b_cellTag b_partKind b_partNumber b_order)) {i j : Nat} (hi : i < k) (hj : j < 2) : rc_FR k nu φ (rc_fd a_cellLeft a_cellRight nu i j) (b_partKind (2 * φ (nu i) + j)) (b_partNumber (2 * φ (nu i) + j)) := by
  obtain ⟨a1, a2, a3, a4, a5, a6⟩ := H
  obtain ⟨b1, b2, b3, b4, b5, b6, b7, b8⟩ := a4 i hi
  have : j = 0 ∨ j = 1 := by omega
  rcases this with rfl | rfl
  · exact b7
  · exact b8
theorem rc_01 (p : Int32) : (∃ j, j < 2 ∧ p = nI j) ∨ p < 0 ∨ (¬ p < 0 ∧ ¬ p ≤ 1) := by
  rcases rc_idx p (n := 2) (by decide) (by decide) with h | h | ⟨h, h'⟩
  · exact Or.inl h
  · exact Or.inr (Or.inl h)
  · refine Or.inr (Or.inr ⟨h, fun w => ?_⟩)
    exact absurd (Int32.le_trans h' w) (by decide)
theorem rc_le1 {j : Nat} (h : j < 2) : nI j ≤ 1 := nI_le (b := 1) (by omega) (by decide)
theorem rx_fieldOf (H : (rc_RK k nu φ f_resultCells a_cellTag a_cellLeft a_cellRight a_cellOfNumber a_numberOfCell a_places g_numbered b_cellTag b_partKind b_partNumber b_order)) {i j : Nat} (hi : i < k) (hj : j < 2) (post : Int64 → Prop) (hp : post (rc_fd a_cellLeft a_cellRight nu i j)) : wpX_fieldOf post (f_kindRet, f_kindTail, f_kindBind, f_kindCon, f_kindPrim, f_kindCall, f_kindMatch, f_kindTest, f_cellBase, f_heapSize, f_depthLimit, f_nodeLimit, f_nodeCount, f_fragmentCount, f_frames, f_at, f_deadCount, f_freeHead, f_fresh, f_liveCells, f_spareTotal, f_counted, f_status, f_made, f_reused, f_peak, f_calls, f_result, f_resultCells, a_nodeKind, a_nodeX, a_nodeParam, a_nodeA, a_nodeB, a_nodeNext, a_nodeElse, a_nodeFree, a_nodeNeed, a_fragments, a_body, a_slots, a_waiting, a_spareHead, a_spareCount, a_cellTag, a_cellLeft, a_cellRight, a_holds, a_link, a_dead, a_cellOfNumber, a_numberOfCell, a_places, a_walk) (nI i) (nI j) := by
  obtain ⟨a1, a2, a3, a4, a5, a6⟩ := H
  obtain ⟨b1, b2, b3, b4, b5, b6, b7, b8⟩ := a4 i hi
  have ei : (nI i).toNatClampNeg = i := nI_clamp (by omega)
  have hin : vp_in (nI (nu i)) 200 := vp_in_nI b1 (by decide)
  have en : (nI (nu i)).toNatClampNeg = nu i := nI_clamp (by omega)
  refine ⟨vp_in_nI (by omega) (by decide), nm_r (e' := nI (nu i)) (by rw [ei]; exact b3) ?_⟩
  have : j = 0 ∨ j = 1 := by omega
  rcases this with rfl | rfl
  · exact br_t rfl ⟨hin, by rw [en]; exact hp⟩
  · exact br_f (by decide) ⟨hin, by rw [en]; exact hp⟩
theorem ry_fieldKind (H : (rc_RK k nu φ f_resultCells a_cellTag a_cellLeft a_cellRight a_cellOfNumber a_numberOfCell a_places g_numbered b_cellTag b_partKind b_partNumber b_order)) {i j : Nat} (hi : i < k) (hj : j < 2) (post : Int32 → Prop) (hp : post (b_partKind (2 * φ (nu i) + j))) : wpY_fieldKind post (f_heapSize, f_depthLimit, f_nodeLimit, f_nodeCount, f_fragmentCount, g_frames, f_made, f_counted, f_reused, f_peak, f_calls, g_status, g_resKind, g_resNumber, g_numbered, a_nodeKind, a_nodeX, a_nodeParam, b_nodeA, b_nodeB, a_nodeNext, a_nodeElse, b_scratch, a_fragments, a_body, b_slotKind, b_slotNumber, b_spares, a_waiting, b_cellTag, b_partKind, b_partNumber, b_live, b_order, b_todo) (nI i) (nI j) := by
  obtain ⟨a1, a2, a3, a4, a5, a6⟩ := H
  obtain ⟨b1, b2, b3, b4, b5, b6, b7, b8⟩ := a4 i hi
  have ei : (nI i).toNatClampNeg = i := nI_clamp (by omega)
  have e2 : (2 : Int32) * b_order (nI i).toNatClampNeg + nI j = nI (2 * φ (nu i) + j) := by
    rw [ei, b4, show (2 : Int32) * nI (φ (nu i)) = nI (2 * φ (nu i)) from pk_mul 2 _, nI_add]
  refine br_f (nI_pos (by omega)) (br_f (by rw [a3]; exact nI_ge hi (by omega)) (br_f (nI_pos (by omega)) (br_t (rc_le1 hj) ⟨vp_in_nI (by omega) (by decide), ?_, ?_⟩)))
  · rw [e2]; exact vp_in_nI (by omega) (by decide)
  · rw [e2, nI_clamp (by omega)]; exact hp
theorem ry_fieldNumber2 (H : (rc_RK k nu φ f_resultCells a_cellTag a_cellLeft a_cellRight a_cellOfNumber a_numberOfCell a_places g_numbered b_cellTag b_partKind b_partNumber b_order)) {i j q : Nat} (hi : i < k) (hj : j < 2) (hk : b_partKind (2 * φ (nu i) + j) = 2) (hq : q < k) (hn : b_partNumber (2 * φ (nu i) + j) = nI (φ (nu q))) (post : Int32 → Prop) (hp : post (nI q)) : wpY_fieldNumber post (f_heapSize, f_depthLimit, f_nodeLimit, f_nodeCount, f_fragmentCount, g_frames, f_made, f_counted, f_reused, f_peak, f_calls, g_status, g_resKind, g_resNumber, g_numbered, a_nodeKind, a_nodeX, a_nodeParam, b_nodeA, b_nodeB, a_nodeNext, a_nodeElse, b_scratch, a_fragments, a_body, b_slotKind, b_slotNumber, b_spares, a_waiting, b_cellTag, b_partKind, b_partNumber, b_live, b_order, b_todo) (nI i) (nI j) := by
  have H0 := H
  obtain ⟨a1, a2, a3, a4, a5, a6⟩ := H
  obtain ⟨b1, b2, b3, b4, b5, b6, b7, b8⟩ := a4 i hi
  have ei : (nI i).toNatClampNeg = i := nI_clamp (by omega)
  have e2 : (2 : Int32) * b_order (nI i).toNatClampNeg + nI j = nI (2 * φ (nu i) + j) := by
    rw [ei, b4, show (2 : Int32) * nI (φ (nu i)) = nI (2 * φ (nu i)) from pk_mul 2 _, nI_add]
  delta wpY_fieldNumber
  refine ry_fieldKind H0 hi hj _ (br_f (by rw [hk]; decide) ⟨vp_in_nI (by omega) (by decide), ?_, nm_r (e' := nI (φ (nu q))) ?_ (br_f (by rw [hk]; decide) ?_)⟩)
  · rw [e2]; exact vp_in_nI (by omega) (by decide)
  · rw [e2, nI_clamp (by omega)]; exact hn
  · refine ry_numOf_some (k := k) a1 a3 hq (a4 q hq).2.2.2.1 (fun e he w => ?_) _ hp
    have c1 := a4 e (by omega)
    have c2 := a4 q hq
    have := rc_n_of (by omega) (by omega) (c1.2.2.2.1.symm.trans w)
    have := a5 e q (by omega) hq this
    omega
theorem ry_fieldNumber1 (H : (rc_RK k nu φ f_resultCells a_cellTag a_cellLeft a_cellRight a_cellOfNumber a_numberOfCell a_places g_numbered b_cellTag b_partKind b_partNumber b_order)) {i j : Nat} (hi : i < k) (hj : j < 2) (hk : b_partKind (2 * φ (nu i) + j) = 1) (post : Int32 → Prop) (hp : post (b_partNumber (2 * φ (nu i) + j))) : wpY_fieldNumber post (f_heapSize, f_depthLimit, f_nodeLimit, f_nodeCount, f_fragmentCount, g_frames, f_made, f_counted, f_reused, f_peak, f_calls, g_status, g_resKind, g_resNumber, g_numbered, a_nodeKind, a_nodeX, a_nodeParam, b_nodeA, b_nodeB, a_nodeNext, a_nodeElse, b_scratch, a_fragments, a_body, b_slotKind, b_slotNumber, b_spares, a_waiting, b_cellTag, b_partKind, b_partNumber, b_live, b_order, b_todo) (nI i) (nI j) := by
  have H0 := H
  obtain ⟨a1, a2, a3, a4, a5, a6⟩ := H
  obtain ⟨b1, b2, b3, b4, b5, b6, b7, b8⟩ := a4 i hi
  have ei : (nI i).toNatClampNeg = i := nI_clamp (by omega)
  have e2 : (2 : Int32) * b_order (nI i).toNatClampNeg + nI j = nI (2 * φ (nu i) + j) := by
    rw [ei, b4, show (2 : Int32) * nI (φ (nu i)) = nI (2 * φ (nu i)) from pk_mul 2 _, nI_add]
  delta wpY_fieldNumber
  refine ry_fieldKind H0 hi hj _ (br_f (by rw [hk]; decide) ⟨vp_in_nI (by omega) (by decide), ?_, nm_r (e' := b_partNumber (2 * φ (nu i) + j)) ?_ (br_t hk hp)⟩)
  · rw [e2]; exact vp_in_nI (by omega) (by decide)
  · rw [e2, nI_clamp (by omega)]
theorem rm_fieldKind (H : (rc_RK k nu φ f_resultCells a_cellTag a_cellLeft a_cellRight a_cellOfNumber a_numberOfCell a_places g_numbered b_cellTag b_partKind b_partNumber b_order)) : rc_EQ0 (fun post => wpX_fieldKind post (f_kindRet, f_kindTail, f_kindBind, f_kindCon, f_kindPrim, f_kindCall, f_kindMatch, f_kindTest, f_cellBase, f_heapSize, f_depthLimit, f_nodeLimit, f_nodeCount, f_fragmentCount, f_frames, f_at, f_deadCount, f_freeHead, f_fresh, f_liveCells, f_spareTotal, f_counted, f_status, f_made, f_reused, f_peak, f_calls, f_result, f_resultCells, a_nodeKind, a_nodeX, a_nodeParam, a_nodeA, a_nodeB, a_nodeNext, a_nodeElse, a_nodeFree, a_nodeNeed, a_fragments, a_body, a_slots, a_waiting, a_spareHead, a_spareCount, a_cellTag, a_cellLeft, a_cellRight, a_holds, a_link, a_dead, a_cellOfNumber, a_numberOfCell, a_places, a_walk) p0 p1) (fun post => wpY_fieldKind post (f_heapSize, f_depthLimit, f_nodeLimit, f_nodeCount, f_fragmentCount, g_frames, f_made, f_counted, f_reused, f_peak, f_calls, g_status, g_resKind, g_resNumber, g_numbered, a_nodeKind, a_nodeX, a_nodeParam, b_nodeA, b_nodeB, a_nodeNext, a_nodeElse, b_scratch, a_fragments, a_body, b_slotKind, b_slotNumber, b_spares, a_waiting, b_cellTag, b_partKind, b_partNumber, b_live, b_order, b_todo) p0 p1) := by
  have H0 := H
  obtain ⟨a1, a2, a3, a4, a5, a6⟩ := H
  rcases rc_ki (k := k) p0 (by omega) with h | ⟨i, hi, rfl⟩
  · refine ⟨0, fun post hp => by delta wpX_fieldKind; exact rx_isNo (by omega) a2 h _ (br_t rfl hp), fun post hp => ?_⟩
    by_cases h0 : p0 < 0
    · exact br_t h0 hp
    · exact br_f h0 (br_t (by rw [a3]; exact h.resolve_left h0) hp)
  · have n0 : ¬ nI i < 0 := nI_pos (by omega)
    have n1 : ¬ g_numbered ≤ nI i := by rw [a3]; exact nI_ge hi (by omega)
    rcases rc_01 p1 with ⟨j, hj, rfl⟩ | h1 | ⟨h1, h2⟩
    · refine ⟨b_partKind (2 * φ (nu i) + j), fun post hp => by
        delta wpX_fieldKind
        refine rx_isYes (by omega) a2 hi _ (br_f (by decide) (br_f (nI_pos (by omega)) (br_t (rc_le1 hj) (rx_fieldOf H0 hi hj _ ?_))))
        rcases rc_fdR H0 hi hj with ⟨e1, e2⟩ | ⟨e1, q, hq, e2, _⟩
        · rw [e2]; rw [e1] at hp; exact br_t (rc_i_lt _) hp
        · rw [e2]; rw [e1] at hp; exact br_f (rc_cv_nlt (by have := (a4 q hq).1; omega)) hp, fun post hp => ry_fieldKind H0 hi hj post hp⟩
    · exact ⟨0, fun post hp => by delta wpX_fieldKind; exact rx_isYes (by omega) a2 hi _ (br_f (by decide) (br_t h1 hp)), fun post hp => br_f n0 (br_f n1 (br_t h1 hp))⟩
    · exact ⟨0, fun post hp => by delta wpX_fieldKind; exact rx_isYes (by omega) a2 hi _ (br_f (by decide) (br_f h1 (br_f h2 hp))), fun post hp => br_f n0 (br_f n1 (br_f h1 (br_f h2 hp)))⟩
theorem rm_fieldNumber (H : (rc_RK k nu φ f_resultCells a_cellTag a_cellLeft a_cellRight a_cellOfNumber a_numberOfCell a_places g_numbered b_cellTag b_partKind b_partNumber b_order)) : rc_EQ0 (fun post => wpX_fieldNumber post (f_kindRet, f_kindTail, f_kindBind, f_kindCon, f_kindPrim, f_kindCall, f_kindMatch, f_kindTest, f_cellBase, f_heapSize, f_depthLimit, f_nodeLimit, f_nodeCount, f_fragmentCount, f_frames, f_at, f_deadCount, f_freeHead, f_fresh, f_liveCells, f_spareTotal, f_counted, f_status, f_made, f_reused, f_peak, f_calls, f_result, f_resultCells, a_nodeKind, a_nodeX, a_nodeParam, a_nodeA, a_nodeB, a_nodeNext, a_nodeElse, a_nodeFree, a_nodeNeed, a_fragments, a_body, a_slots, a_waiting, a_spareHead, a_spareCount, a_cellTag, a_cellLeft, a_cellRight, a_holds, a_link, a_dead, a_cellOfNumber, a_numberOfCell, a_places, a_walk) p0 p1) (fun post => wpY_fieldNumber post (f_heapSize, f_depthLimit, f_nodeLimit, f_nodeCount, f_fragmentCount, g_frames, f_made, f_counted, f_reused, f_peak, f_calls, g_status, g_resKind, g_resNumber, g_numbered, a_nodeKind, a_nodeX, a_nodeParam, b_nodeA, b_nodeB, a_nodeNext, a_nodeElse, b_scratch, a_fragments, a_body, b_slotKind, b_slotNumber, b_spares, a_waiting, b_cellTag, b_partKind, b_partNumber, b_live, b_order, b_todo) p0 p1) := by
  have H0 := H
  obtain ⟨a1, a2, a3, a4, a5, a6⟩ := H
  rcases rc_ki (k := k) p0 (by omega) with h | ⟨i, hi, rfl⟩
  · refine ⟨0, fun post hp => by delta wpX_fieldNumber; exact rx_isNo (by omega) a2 h _ (br_t rfl hp), fun post hp => ?_⟩
    by_cases h0 : p0 < 0
    · exact br_t h0 (br_t rfl hp)
    · exact br_f h0 (br_t (by rw [a3]; exact h.resolve_left h0) (br_t rfl hp))
  · have n0 : ¬ nI i < 0 := nI_pos (by omega)
    have n1 : ¬ g_numbered ≤ nI i := by rw [a3]; exact nI_ge hi (by omega)
    rcases rc_01 p1 with ⟨j, hj, rfl⟩ | h1 | ⟨h1, h2⟩
    · rcases rc_fdR H0 hi hj with ⟨e1, e2⟩ | ⟨e1, q, hq, e2, e3⟩
      · refine ⟨b_partNumber (2 * φ (nu i) + j), fun post hp => by
          delta wpX_fieldNumber
          refine rx_isYes (by omega) a2 hi _ (br_f (by decide) (br_f (nI_pos (by omega)) (br_t (rc_le1 hj) (rx_fieldOf H0 hi hj _ ?_))))
          rw [e2]
          refine rx_isCell_i _ (br_t rfl ?_)
          rw [rc_i_32]; exact hp, fun post hp => ry_fieldNumber1 H0 hi hj e1 post hp⟩
      · have b1 := (a4 q hq).1
        refine ⟨nI q, fun post hp => by
          delta wpX_fieldNumber
          refine rx_isYes (by omega) a2 hi _ (br_f (by decide) (br_f (nI_pos (by omega)) (br_t (rc_le1 hj) (rx_fieldOf H0 hi hj _ ?_))))
          rw [e2]
          refine rx_isCell_c b1 _ (br_f (by decide) ?_)
          rw [rc_cv_sub (by omega), nI_clamp (by omega), (a4 q hq).2.2.2.2.1]
          exact ⟨vp_in_nI b1 (by decide), hp⟩, fun post hp => ry_fieldNumber2 H0 hi hj e1 hq e3 post hp⟩
    · exact ⟨0, fun post hp => by delta wpX_fieldNumber; exact rx_isYes (by omega) a2 hi _ (br_f (by decide) (br_t h1 hp)), fun post hp => br_f n0 (br_f n1 (br_t h1 (br_t rfl hp)))⟩
    · exact ⟨0, fun post hp => by delta wpX_fieldNumber; exact rx_isYes (by omega) a2 hi _ (br_f (by decide) (br_f h1 (br_f h2 hp))), fun post hp => br_f n0 (br_f n1 (br_f h1 (br_f h2 (br_t rfl hp))))⟩
/-- refs -/
theorem ry_refs_j (H : (rc_RK k nu φ f_resultCells a_cellTag a_cellLeft a_cellRight a_cellOfNumber a_numberOfCell a_places g_numbered b_cellTag b_partKind b_partNumber b_order)) {i m j s : Nat} (hi : i < k) (hm : m < k) (hj : j < 2) (post : Int32 → Prop) (J : Int32 → Int32 → Prop) (fuel : Nat) (hp : wY_refs_37 post J (nI i) (nI m) f_heapSize f_depthLimit f_nodeLimit f_nodeCount f_fragmentCount g_frames f_made f_counted f_reused f_peak f_calls g_status g_resKind g_resNumber g_numbered a_nodeKind a_nodeX a_nodeParam b_nodeA b_nodeB a_nodeNext a_nodeElse b_scratch a_fragments a_body b_slotKind b_slotNumber b_spares a_waiting b_cellTag b_partKind b_partNumber b_live b_order b_todo fuel (nI (s + rc_is (rc_fd a_cellLeft a_cellRight nu m j) (nu i))) (nI (j + 1))) : wY_refs_37 post J (nI i) (nI m) f_heapSize f_depthLimit f_nodeLimit f_nodeCount f_fragmentCount g_frames f_made f_counted f_reused f_peak f_calls g_status g_resKind g_resNumber g_numbered a_nodeKind a_nodeX a_nodeParam b_nodeA b_nodeB a_nodeNext a_nodeElse b_scratch a_fragments a_body b_slotKind b_slotNumber b_spares a_waiting b_cellTag b_partKind b_partNumber b_live b_order b_todo (fuel + 1) (nI s) (nI j) := by
  have H0 := H
  obtain ⟨a1, a2, a3, a4, a5, a6⟩ := H
  have b1 := (a4 i hi).1
  refine br_f (nI_ge (b := 2) hj (by decide)) (ry_fieldKind H0 hm hj _ ?_)
  rcases rc_fdR H0 hm hj with ⟨e1, e2⟩ | ⟨e1, q, hq, e2, e3⟩
  · rw [e2, rc_is_i _ (by omega)] at hp
    exact br_f (by rw [e1]; decide) (nm_r (nI_1 j) hp)
  · have c1 := (a4 q hq).1
    refine br_t e1 (ry_fieldNumber2 H0 hm hj e1 hq e3 _ ?_)
    by_cases e : q = i
    · subst e
      rw [e2, rc_is_s rfl] at hp
      exact br_t rfl (nm_r (nI_1 s) (nm_r (nI_1 j) hp))
    · have hne : nu i ≠ nu q := fun w => e (a5 q i hq hi (by rw [w]))
      rw [e2, rc_is_c (by omega) (by omega) hne] at hp
      refine br_f (fun w => e (rc_n_of (by omega) (by omega) w)) (nm_r (nI_1 j) hp)
theorem ry_refs_26 (H : (rc_RK k nu φ f_resultCells a_cellTag a_cellLeft a_cellRight a_cellOfNumber a_numberOfCell a_places g_numbered b_cellTag b_partKind b_partNumber b_order)) {i s0 : Nat} (hi : i < k) : ∀ (d m : Nat), m + d = k → ∀ (post : Int32 → Prop) (fuel : Nat), d < fuel → post (nI (s0 + rc_sm (fun j => rc_is (a_cellLeft (nu j)) (nu i) + rc_is (a_cellRight (nu j)) (nu i)) k)) → wY_refs_26 post (nI i) f_heapSize f_depthLimit f_nodeLimit f_nodeCount f_fragmentCount g_frames f_made f_counted f_reused f_peak f_calls g_status g_resKind g_resNumber g_numbered a_nodeKind a_nodeX a_nodeParam b_nodeA b_nodeB a_nodeNext a_nodeElse b_scratch a_fragments a_body b_slotKind b_slotNumber b_spares a_waiting b_cellTag b_partKind b_partNumber b_live b_order b_todo fuel (nI (s0 + rc_sm (fun j => rc_is (a_cellLeft (nu j)) (nu i) + rc_is (a_cellRight (nu j)) (nu i)) m)) (nI m) := by
  intro d
  induction d with
  | zero =>
    intro m hm post fuel hf hp
    obtain ⟨fuel, rfl⟩ : ∃ q, fuel = q + 1 := ⟨fuel - 1, by omega⟩
    have e : m = k := by omega
    subst e
    exact br_t (by rw [H.2.2.1]; exact nI_le (Nat.le_refl _) (by have := H.1; omega)) hp
  | succ d ih =>
    intro m hm post fuel hf hp
    obtain ⟨fuel, rfl⟩ : ∃ q, fuel = q + 1 := ⟨fuel - 1, by omega⟩
    have h1 := H.1
    have IH := ih (m + 1) (by omega) post fuel (by omega) hp
    refine br_f (by rw [H.2.2.1]; exact nI_ge (by omega) (by omega)) ⟨3, ?_⟩
    refine ry_refs_j (j := 0) H hi (by omega) (by omega) post _ 2 (ry_refs_j (j := 1) H hi (by omega) (by omega) post _ 1 ?_)
    refine br_t (by decide) (nm_r (nI_1 m) ?_)
    have e : s0 + rc_sm (fun j => rc_is (a_cellLeft (nu j)) (nu i) + rc_is (a_cellRight (nu j)) (nu i)) m + rc_is (rc_fd a_cellLeft a_cellRight nu m 0) (nu i) + rc_is (rc_fd a_cellLeft a_cellRight nu m 1) (nu i) = s0 + rc_sm (fun j => rc_is (a_cellLeft (nu j)) (nu i) + rc_is (a_cellRight (nu j)) (nu i)) (m + 1) := by
      show s0 + rc_sm _ m + rc_is (a_cellLeft (nu m)) (nu i) + rc_is (a_cellRight (nu m)) (nu i) = s0 + (rc_sm _ m + (rc_is (a_cellLeft (nu m)) (nu i) + rc_is (a_cellRight (nu m)) (nu i)))
      omega
    rw [e]
    exact IH
theorem rm_refs (H : (rc_RK k nu φ f_resultCells a_cellTag a_cellLeft a_cellRight a_cellOfNumber a_numberOfCell a_places g_numbered b_cellTag b_partKind b_partNumber b_order)) : rc_EQ0 (fun post => wpX_refs post (f_kindRet, f_kindTail, f_kindBind, f_kindCon, f_kindPrim, f_kindCall, f_kindMatch, f_kindTest, f_cellBase, f_heapSize, f_depthLimit, f_nodeLimit, f_nodeCount, f_fragmentCount, f_frames, f_at, f_deadCount, f_freeHead, f_fresh, f_liveCells, f_spareTotal, f_counted, f_status, f_made, f_reused, f_peak, f_calls, f_result, f_resultCells, a_nodeKind, a_nodeX, a_nodeParam, a_nodeA, a_nodeB, a_nodeNext, a_nodeElse, a_nodeFree, a_nodeNeed, a_fragments, a_body, a_slots, a_waiting, a_spareHead, a_spareCount, a_cellTag, a_cellLeft, a_cellRight, a_holds, a_link, a_dead, a_cellOfNumber, a_numberOfCell, a_places, a_walk) p0) (fun post => wpY_refs post (f_heapSize, f_depthLimit, f_nodeLimit, f_nodeCount, f_fragmentCount, g_frames, f_made, f_counted, f_reused, f_peak, f_calls, g_status, g_resKind, g_resNumber, g_numbered, a_nodeKind, a_nodeX, a_nodeParam, b_nodeA, b_nodeB, a_nodeNext, a_nodeElse, b_scratch, a_fragments, a_body, b_slotKind, b_slotNumber, b_spares, a_waiting, b_cellTag, b_partKind, b_partNumber, b_live, b_order, b_todo) p0) := by
  have H0 := H
  obtain ⟨a1, a2, a3, a4, a5, a6⟩ := H
  rcases rc_ki (k := k) p0 (by omega) with h | ⟨i, hi, rfl⟩
  · refine ⟨0, fun post hp => by delta wpX_refs; exact rx_isNo (by omega) a2 h _ (br_t rfl hp), fun post hp => ?_⟩
    by_cases h0 : p0 < 0
    · exact br_t h0 hp
    · refine br_f h0 (br_f (fun w => ?_) hp)
      rw [a3] at w
      exact Int32.not_le.mpr w (h.resolve_left h0)
  · obtain ⟨b1, b2, b3, b4, b5, b6, b7, b8⟩ := a4 i hi
    have ei : (nI i).toNatClampNeg = i := nI_clamp (by omega)
    refine ⟨nI ((if i = 0 then 1 else 0) + rc_sm (fun j => rc_is (a_cellLeft (nu j)) (nu i) + rc_is (a_cellRight (nu j)) (nu i)) k), fun post hp => by
      delta wpX_refs
      refine rx_isYes (by omega) a2 hi _ (br_f (by decide) ⟨vp_in_nI (by omega) (by decide), ?_, ?_⟩)
      · rw [ei, b3]; exact vp_in_nI b1 (by decide)
      · rw [ei, b3, nI_clamp (by omega), a6 i hi]; exact hp, fun post hp => br_f (nI_pos (by omega)) (br_t (by rw [a3]; exact nI_lt hi (by omega)) ?_)⟩
    by_cases e : i = 0
    · subst e
      exact br_t rfl ⟨k + 1, ry_refs_26 (s0 := 1) H0 hi k 0 (by omega) post (k + 1) (by omega) (by rw [if_pos rfl] at hp; exact hp)⟩
    · exact br_f (nI_ne0 (by omega) (by omega)) ⟨k + 1, ry_refs_26 (s0 := 0) H0 hi k 0 (by omega) post (k + 1) (by omega) (by rw [if_neg e] at hp; exact hp)⟩
theorem rc_or8 : ∀ f, f < 8 → ∀ s, s < 2 ^ f → nI s ||| ((1 : Int32) <<< (nI f &&& 31)) = nI (s + 2 ^ f) := by decide +kernel
theorem rc_ad8 : ∀ f, f < 8 → ((1 : Int32) <<< (nI f &&& 31)) = nI (2 ^ f) := by decide +kernel
theorem rs_defset : ∀ (d f : Nat), f + d = 8 → ∀ s, s < 2 ^ f → ∃ r : Int32, (∀ (post : Int32 → Prop) (fuel : Nat), d < fuel → post r → wX_definedSet_4 post f_kindRet f_kindTail f_kindBind f_kindCon f_kindPrim f_kindCall f_kindMatch f_kindTest f_cellBase f_heapSize f_depthLimit f_nodeLimit f_nodeCount f_fragmentCount f_frames f_at f_deadCount f_freeHead f_fresh f_liveCells f_spareTotal f_counted f_status f_made f_reused f_peak f_calls f_result f_resultCells a_nodeKind a_nodeX a_nodeParam a_nodeA a_nodeB a_nodeNext a_nodeElse a_nodeFree a_nodeNeed a_fragments a_body a_slots a_waiting a_spareHead a_spareCount a_cellTag a_cellLeft a_cellRight a_holds a_link a_dead a_cellOfNumber a_numberOfCell a_places a_walk fuel (nI s) (nI f)) ∧ (∀ (post : Int32 → Prop) (fuel : Nat), d < fuel → post r → wY_count_118 post f_heapSize f_depthLimit f_nodeLimit f_nodeCount f_fragmentCount g_frames f_made f_counted f_reused f_peak f_calls g_status g_resKind g_resNumber g_numbered a_nodeKind a_nodeX a_nodeParam b_nodeA b_nodeB a_nodeNext a_nodeElse b_scratch a_fragments a_body b_slotKind b_slotNumber b_spares a_waiting b_cellTag b_partKind b_partNumber b_live b_order b_todo fuel (nI s) (nI f)) := by
  intro d
  induction d with
  | zero =>
    intro f hf s hs
    have : f = 8 := by omega
    subst this
    refine ⟨nI s, fun post fuel hf hp => ?_, fun post fuel hf hp => ?_⟩
    · obtain ⟨fuel, rfl⟩ : ∃ q, fuel = q + 1 := ⟨fuel - 1, by omega⟩
      exact br_t (by decide) hp
    · obtain ⟨fuel, rfl⟩ : ∃ q, fuel = q + 1 := ⟨fuel - 1, by omega⟩
      exact br_t (by decide) hp
  | succ d ih =>
    intro f hf s hs
    have hf8 : f < 8 := by omega
    have hpw : 2 ^ (f + 1) = 2 ^ f + 2 ^ f := by rw [Nat.pow_succ]; omega
    have hn8 : ¬ (8 : Int32) ≤ nI f := nI_ge (b := 8) hf8 (by decide)
    have hin : vp_in (nI f) 8 := vp_in_nI hf8 (by decide)
    have ef : (nI f).toNatClampNeg = f := nI_clamp (by omega)
    by_cases hb : a_body f < 0
    · obtain ⟨r, hX, hY⟩ := ih (f + 1) (by omega) s (by omega)
      refine ⟨r, fun post fuel hf hp => ?_, fun post fuel hf hp => ?_⟩
      · obtain ⟨fuel, rfl⟩ : ∃ q, fuel = q + 1 := ⟨fuel - 1, by omega⟩
        exact br_f hn8 ⟨hin, br_t (by rw [ef]; exact hb) (nm_r (nI_1 f) (hX post fuel (by omega) hp))⟩
      · obtain ⟨fuel, rfl⟩ : ∃ q, fuel = q + 1 := ⟨fuel - 1, by omega⟩
        exact br_f hn8 ⟨hin, br_t (by rw [ef]; exact hb) (nm_r (nI_1 f) (hY post fuel (by omega) hp))⟩
    · obtain ⟨r, hX, hY⟩ := ih (f + 1) (by omega) (s + 2 ^ f) (by omega)
      refine ⟨r, fun post fuel hf hp => ?_, fun post fuel hf hp => ?_⟩
      · obtain ⟨fuel, rfl⟩ : ∃ q, fuel = q + 1 := ⟨fuel - 1, by omega⟩
        exact br_f hn8 ⟨hin, br_f (by rw [ef]; exact hb) (nm_r (e' := nI (s + 2 ^ f)) (rc_or8 f hf8 s hs) (nm_r (nI_1 f) (hX post fuel (by omega) hp)))⟩
      · obtain ⟨fuel, rfl⟩ : ∃ q, fuel = q + 1 := ⟨fuel - 1, by omega⟩
        exact br_f hn8 ⟨hin, br_f (by rw [ef]; exact hb) (nm_r (e' := nI (s + 2 ^ f)) (by rw [rc_ad8 f hf8, nI_add]) (nm_r (nI_1 f) (hY post fuel (by omega) hp)))⟩
end
end
section
section
variable {f_kindRet f_kindTail f_kindBind f_kindCon f_kindPrim f_kindCall f_kindMatch f_kindTest f_heapSize f_depthLimit f_nodeLimit f_nodeCount f_fragmentCount f_frames f_at f_deadCount f_freeHead f_fresh f_liveCells f_spareTotal f_counted f_status f_made f_reused f_peak f_calls f_resultCells : Int32} {f_cellBase f_result : Int64} {a_nodeKind a_nodeX a_nodeParam a_nodeA a_nodeB a_nodeNext a_nodeElse a_nodeFree a_nodeNeed a_fragments a_body a_waiting a_spareHead a_spareCount a_cellTag a_holds a_link a_dead a_cellOfNumber a_numberOfCell a_places a_walk : Nat → Int32} {a_slots a_cellLeft a_cellRight : Nat → Int64}
variable {g_frames g_status g_resKind g_resNumber g_numbered : Int32} {b_nodeA b_nodeB b_scratch b_slotKind b_slotNumber b_spares b_cellTag b_partKind b_partNumber b_live b_order b_todo : Nat → Int32}
variable {nc hs dl : Nat} {nd : Nat → Nat} {p0 p1 p2 : Int32}
theorem rm_run (hST : (rc_ST nc hs dl nd f_heapSize f_depthLimit a_nodeKind a_nodeX a_nodeParam a_nodeA a_nodeB a_nodeNext a_nodeElse a_nodeFree a_nodeNeed a_body b_nodeA b_nodeB)) (hFT : (rc_FT nc f_nodeLimit f_nodeCount f_fragmentCount a_fragments)) (hRR : (rc_RR f_status f_result f_resultCells f_counted f_liveCells a_cellTag a_cellLeft a_cellRight a_cellOfNumber a_numberOfCell a_places g_status g_resKind g_resNumber g_numbered b_cellTag b_partKind b_partNumber b_order)) : rc_EQ1 (fun post u => wpX_run post u p0 p1 p2) (fun post v => wpY_run post v p0 p1 p2) (f_kindRet, f_kindTail, f_kindBind, f_kindCon, f_kindPrim, f_kindCall, f_kindMatch, f_kindTest, f_cellBase, f_heapSize, f_depthLimit, f_nodeLimit, f_nodeCount, f_fragmentCount, f_frames, f_at, f_deadCount, f_freeHead, f_fresh, f_liveCells, f_spareTotal, f_counted, f_status, f_made, f_reused, f_peak, f_calls, f_result, f_resultCells, a_nodeKind, a_nodeX, a_nodeParam, a_nodeA, a_nodeB, a_nodeNext, a_nodeElse, a_nodeFree, a_nodeNeed, a_fragments, a_body, a_slots, a_waiting, a_spareHead, a_spareCount, a_cellTag, a_cellLeft, a_cellRight, a_holds, a_link, a_dead, a_cellOfNumber, a_numberOfCell, a_places, a_walk) (f_heapSize, f_depthLimit, f_nodeLimit, f_nodeCount, f_fragmentCount, g_frames, f_made, f_counted, f_reused, f_peak, f_calls, g_status, g_resKind, g_resNumber, g_numbered, a_nodeKind, a_nodeX, a_nodeParam, b_nodeA, b_nodeB, a_nodeNext, a_nodeElse, b_scratch, a_fragments, a_body, b_slotKind, b_slotNumber, b_spares, a_waiting, b_cellTag, b_partKind, b_partNumber, b_live, b_order, b_todo) := by
  obtain ⟨r, u', v', R, WX, WY⟩ := rs_eval_c (p0 := p0) (p1 := p1) (p2 := p2) (p3 := 1) (g_frames := g_frames) (b_scratch := b_scratch) (b_slotKind := b_slotKind) (b_slotNumber := b_slotNumber) (b_spares := b_spares) (b_live := b_live) (b_todo := b_todo) (f_kindRet := f_kindRet) (f_kindTail := f_kindTail) (f_kindBind := f_kindBind) (f_kindCon := f_kindCon) (f_kindPrim := f_kindPrim) (f_kindCall := f_kindCall) (f_kindMatch := f_kindMatch) (f_kindTest := f_kindTest) (f_cellBase := f_cellBase) (f_heapSize := f_heapSize) (f_depthLimit := f_depthLimit) (f_nodeLimit := f_nodeLimit) (f_nodeCount := f_nodeCount) (f_fragmentCount := f_fragmentCount) (f_frames := f_frames) (f_at := f_at) (f_deadCount := f_deadCount) (f_freeHead := f_freeHead) (f_fresh := f_fresh) (f_liveCells := f_liveCells) (f_spareTotal := f_spareTotal) (f_counted := f_counted) (f_status := f_status) (f_made := f_made) (f_reused := f_reused) (f_peak := f_peak) (f_calls := f_calls) (f_result := f_result) (f_resultCells := f_resultCells) (a_nodeKind := a_nodeKind) (a_nodeX := a_nodeX) (a_nodeParam := a_nodeParam) (a_nodeA := a_nodeA) (a_nodeB := a_nodeB) (a_nodeNext := a_nodeNext) (a_nodeElse := a_nodeElse) (a_nodeFree := a_nodeFree) (a_nodeNeed := a_nodeNeed) (a_fragments := a_fragments) (a_body := a_body) (a_slots := a_slots) (a_waiting := a_waiting) (a_spareHead := a_spareHead) (a_spareCount := a_spareCount) (a_cellTag := a_cellTag) (a_cellLeft := a_cellLeft) (a_cellRight := a_cellRight) (a_holds := a_holds) (a_link := a_link) (a_dead := a_dead) (a_cellOfNumber := a_cellOfNumber) (a_numberOfCell := a_numberOfCell) (a_places := a_places) (a_walk := a_walk) (Or.inr rfl) hST hFT hRR
  exact ⟨r, u', v', R, fun post hp => by delta wpX_run; exact WX _ hp, fun post hp => by delta wpY_run; exact WY _ hp⟩
theorem rm_plain (hST : (rc_ST nc hs dl nd f_heapSize f_depthLimit a_nodeKind a_nodeX a_nodeParam a_nodeA a_nodeB a_nodeNext a_nodeElse a_nodeFree a_nodeNeed a_body b_nodeA b_nodeB)) (hFT : (rc_FT nc f_nodeLimit f_nodeCount f_fragmentCount a_fragments)) (hRR : (rc_RR f_status f_result f_resultCells f_counted f_liveCells a_cellTag a_cellLeft a_cellRight a_cellOfNumber a_numberOfCell a_places g_status g_resKind g_resNumber g_numbered b_cellTag b_partKind b_partNumber b_order)) : rc_EQ1 (fun post u => wpX_plain post u p0 p1 p2) (fun post v => wpY_plain post v p0 p1 p2) (f_kindRet, f_kindTail, f_kindBind, f_kindCon, f_kindPrim, f_kindCall, f_kindMatch, f_kindTest, f_cellBase, f_heapSize, f_depthLimit, f_nodeLimit, f_nodeCount, f_fragmentCount, f_frames, f_at, f_deadCount, f_freeHead, f_fresh, f_liveCells, f_spareTotal, f_counted, f_status, f_made, f_reused, f_peak, f_calls, f_result, f_resultCells, a_nodeKind, a_nodeX, a_nodeParam, a_nodeA, a_nodeB, a_nodeNext, a_nodeElse, a_nodeFree, a_nodeNeed, a_fragments, a_body, a_slots, a_waiting, a_spareHead, a_spareCount, a_cellTag, a_cellLeft, a_cellRight, a_holds, a_link, a_dead, a_cellOfNumber, a_numberOfCell, a_places, a_walk) (f_heapSize, f_depthLimit, f_nodeLimit, f_nodeCount, f_fragmentCount, g_frames, f_made, f_counted, f_reused, f_peak, f_calls, g_status, g_resKind, g_resNumber, g_numbered, a_nodeKind, a_nodeX, a_nodeParam, b_nodeA, b_nodeB, a_nodeNext, a_nodeElse, b_scratch, a_fragments, a_body, b_slotKind, b_slotNumber, b_spares, a_waiting, b_cellTag, b_partKind, b_partNumber, b_live, b_order, b_todo) := by
  obtain ⟨r, u', v', R, WX, WY⟩ := rs_eval_c (p0 := p0) (p1 := p1) (p2 := p2) (p3 := 0) (g_frames := g_frames) (b_scratch := b_scratch) (b_slotKind := b_slotKind) (b_slotNumber := b_slotNumber) (b_spares := b_spares) (b_live := b_live) (b_todo := b_todo) (f_kindRet := f_kindRet) (f_kindTail := f_kindTail) (f_kindBind := f_kindBind) (f_kindCon := f_kindCon) (f_kindPrim := f_kindPrim) (f_kindCall := f_kindCall) (f_kindMatch := f_kindMatch) (f_kindTest := f_kindTest) (f_cellBase := f_cellBase) (f_heapSize := f_heapSize) (f_depthLimit := f_depthLimit) (f_nodeLimit := f_nodeLimit) (f_nodeCount := f_nodeCount) (f_fragmentCount := f_fragmentCount) (f_frames := f_frames) (f_at := f_at) (f_deadCount := f_deadCount) (f_freeHead := f_freeHead) (f_fresh := f_fresh) (f_liveCells := f_liveCells) (f_spareTotal := f_spareTotal) (f_counted := f_counted) (f_status := f_status) (f_made := f_made) (f_reused := f_reused) (f_peak := f_peak) (f_calls := f_calls) (f_result := f_result) (f_resultCells := f_resultCells) (a_nodeKind := a_nodeKind) (a_nodeX := a_nodeX) (a_nodeParam := a_nodeParam) (a_nodeA := a_nodeA) (a_nodeB := a_nodeB) (a_nodeNext := a_nodeNext) (a_nodeElse := a_nodeElse) (a_nodeFree := a_nodeFree) (a_nodeNeed := a_nodeNeed) (a_fragments := a_fragments) (a_body := a_body) (a_slots := a_slots) (a_waiting := a_waiting) (a_spareHead := a_spareHead) (a_spareCount := a_spareCount) (a_cellTag := a_cellTag) (a_cellLeft := a_cellLeft) (a_cellRight := a_cellRight) (a_holds := a_holds) (a_link := a_link) (a_dead := a_dead) (a_cellOfNumber := a_cellOfNumber) (a_numberOfCell := a_numberOfCell) (a_places := a_places) (a_walk := a_walk) (Or.inl rfl) hST hFT hRR
  exact ⟨r, u', v', R, fun post hp => by delta wpX_plain; exact WX _ hp, fun post hp => by delta wpY_plain; exact WY _ hp⟩
theorem rm_held (h : (rc_RR f_status f_result f_resultCells f_counted f_liveCells a_cellTag a_cellLeft a_cellRight a_cellOfNumber a_numberOfCell a_places g_status g_resKind g_resNumber g_numbered b_cellTag b_partKind b_partNumber b_order)) : ∃ r : Int32, (∀ post : Int32 → Prop, post r → wpX_heldCells post (f_kindRet, f_kindTail, f_kindBind, f_kindCon, f_kindPrim, f_kindCall, f_kindMatch, f_kindTest, f_cellBase, f_heapSize, f_depthLimit, f_nodeLimit, f_nodeCount, f_fragmentCount, f_frames, f_at, f_deadCount, f_freeHead, f_fresh, f_liveCells, f_spareTotal, f_counted, f_status, f_made, f_reused, f_peak, f_calls, f_result, f_resultCells, a_nodeKind, a_nodeX, a_nodeParam, a_nodeA, a_nodeB, a_nodeNext, a_nodeElse, a_nodeFree, a_nodeNeed, a_fragments, a_body, a_slots, a_waiting, a_spareHead, a_spareCount, a_cellTag, a_cellLeft, a_cellRight, a_holds, a_link, a_dead, a_cellOfNumber, a_numberOfCell, a_places, a_walk)) ∧ (∀ post : Int32 → Prop, post r → ((g_status = 10 → ((f_counted = 0 → post f_made) ∧ (¬ f_counted = 0 → post g_numbered))) ∧ (¬ g_status = 10 → post 0))) := by
  obtain ⟨hs, ⟨h1, _⟩ | ⟨h1, _, k, nu, φ, a1, a2, a3, a4, a5, a6, a7⟩⟩ := h
  · exact ⟨0, fun post hp => br_f h1 hp, fun post hp => br_f (by rw [hs]; exact h1) hp⟩
  · by_cases hc : f_counted = 0
    · exact ⟨f_made, fun post hp => br_t h1 (br_t hc hp), fun post hp => br_t (hs.trans h1) (br_t hc hp)⟩
    · refine ⟨g_numbered, fun post hp => br_t h1 (br_f hc ?_), fun post hp => br_t (hs.trans h1) (br_f hc hp)⟩
      rw [a7 hc, ← a3]; exact hp
theorem rm_count (h : (rc_RR f_status f_result f_resultCells f_counted f_liveCells a_cellTag a_cellLeft a_cellRight a_cellOfNumber a_numberOfCell a_places g_status g_resKind g_resNumber g_numbered b_cellTag b_partKind b_partNumber b_order)) : rc_EQ0 (fun post => wpX_count post (f_kindRet, f_kindTail, f_kindBind, f_kindCon, f_kindPrim, f_kindCall, f_kindMatch, f_kindTest, f_cellBase, f_heapSize, f_depthLimit, f_nodeLimit, f_nodeCount, f_fragmentCount, f_frames, f_at, f_deadCount, f_freeHead, f_fresh, f_liveCells, f_spareTotal, f_counted, f_status, f_made, f_reused, f_peak, f_calls, f_result, f_resultCells, a_nodeKind, a_nodeX, a_nodeParam, a_nodeA, a_nodeB, a_nodeNext, a_nodeElse, a_nodeFree, a_nodeNeed, a_fragments, a_body, a_slots, a_waiting, a_spareHead, a_spareCount, a_cellTag, a_cellLeft, a_cellRight, a_holds, a_link, a_dead, a_cellOfNumber, a_numberOfCell, a_places, a_walk) p0) (fun post => wpY_count post (f_heapSize, f_depthLimit, f_nodeLimit, f_nodeCount, f_fragmentCount, g_frames, f_made, f_counted, f_reused, f_peak, f_calls, g_status, g_resKind, g_resNumber, g_numbered, a_nodeKind, a_nodeX, a_nodeParam, b_nodeA, b_nodeB, a_nodeNext, a_nodeElse, b_scratch, a_fragments, a_body, b_slotKind, b_slotNumber, b_spares, a_waiting, b_cellTag, b_partKind, b_partNumber, b_live, b_order, b_todo) p0) := by
  have hout : (p0 < 0 ∨ (¬ p0 < 0 ∧ nI 12 ≤ p0)) → rc_EQ0 (fun post => wpX_count post (f_kindRet, f_kindTail, f_kindBind, f_kindCon, f_kindPrim, f_kindCall, f_kindMatch, f_kindTest, f_cellBase, f_heapSize, f_depthLimit, f_nodeLimit, f_nodeCount, f_fragmentCount, f_frames, f_at, f_deadCount, f_freeHead, f_fresh, f_liveCells, f_spareTotal, f_counted, f_status, f_made, f_reused, f_peak, f_calls, f_result, f_resultCells, a_nodeKind, a_nodeX, a_nodeParam, a_nodeA, a_nodeB, a_nodeNext, a_nodeElse, a_nodeFree, a_nodeNeed, a_fragments, a_body, a_slots, a_waiting, a_spareHead, a_spareCount, a_cellTag, a_cellLeft, a_cellRight, a_holds, a_link, a_dead, a_cellOfNumber, a_numberOfCell, a_places, a_walk) p0) (fun post => wpY_count post (f_heapSize, f_depthLimit, f_nodeLimit, f_nodeCount, f_fragmentCount, g_frames, f_made, f_counted, f_reused, f_peak, f_calls, g_status, g_resKind, g_resNumber, g_numbered, a_nodeKind, a_nodeX, a_nodeParam, b_nodeA, b_nodeB, a_nodeNext, a_nodeElse, b_scratch, a_fragments, a_body, b_slotKind, b_slotNumber, b_spares, a_waiting, b_cellTag, b_partKind, b_partNumber, b_live, b_order, b_todo) p0) := by
    intro ho
    have hne : ∀ j, j < 12 → ¬ p0 = nI j := by
      intro j hj e
      subst e
      rcases ho with w | ⟨_, w⟩
      · exact nI_pos (by omega) w
      · exact nI_ge hj (by decide) w
    refine ⟨-1, fun post hp => ?_, fun post hp => br_f (hne 0 (by omega)) (br_f (hne 1 (by omega)) (br_f (hne 2 (by omega)) (br_f (hne 3 (by omega)) (br_f (hne 4 (by omega)) (br_f (hne 5 (by omega)) (br_f (hne 6 (by omega)) (br_f (hne 7 (by omega)) (br_f (hne 8 (by omega)) (br_f (hne 9 (by omega)) (br_f (hne 10 (by omega)) (br_f (hne 11 (by omega)) (hp))))))))))))⟩
    rcases ho with w | ⟨w, w'⟩
    · exact br_t w hp
    · refine br_f w (br_t ?_ hp)
      exact Int32.lt_of_lt_of_le (by decide) w'
  rcases rc_idx p0 (n := 12) (by decide) (by decide) with ⟨j, hj, rfl⟩ | ho
  · have : j = 0 ∨ j = 1 ∨ j = 2 ∨ j = 3 ∨ j = 4 ∨ j = 5 ∨ j = 6 ∨ j = 7 ∨ j = 8 ∨ j = 9 ∨ j = 10 ∨ j = 11 := by omega
    rcases this with rfl | rfl | rfl | rfl | rfl | rfl | rfl | rfl | rfl | rfl | rfl | rfl
    · obtain ⟨k, nu, φ, _, a2, a3, _⟩ := rc_RRk h
      exact ⟨nI k, fun post hp => br_f (by decide) (br_f (by decide) (br_t (by decide) (by rw [a2]; exact hp))), fun post hp => br_t (by decide) (by rw [a3]; exact hp)⟩
    · obtain ⟨r, hX, hY⟩ := rm_held (f_kindRet := f_kindRet) (f_kindTail := f_kindTail) (f_kindBind := f_kindBind) (f_kindCon := f_kindCon) (f_kindPrim := f_kindPrim) (f_kindCall := f_kindCall) (f_kindMatch := f_kindMatch) (f_kindTest := f_kindTest) (f_cellBase := f_cellBase) (f_heapSize := f_heapSize) (f_depthLimit := f_depthLimit) (f_nodeLimit := f_nodeLimit) (f_nodeCount := f_nodeCount) (f_fragmentCount := f_fragmentCount) (f_frames := f_frames) (f_at := f_at) (f_deadCount := f_deadCount) (f_freeHead := f_freeHead) (f_fresh := f_fresh) (f_liveCells := f_liveCells) (f_spareTotal := f_spareTotal) (f_counted := f_counted) (f_status := f_status) (f_made := f_made) (f_reused := f_reused) (f_peak := f_peak) (f_calls := f_calls) (f_result := f_result) (f_resultCells := f_resultCells) (a_nodeKind := a_nodeKind) (a_nodeX := a_nodeX) (a_nodeParam := a_nodeParam) (a_nodeA := a_nodeA) (a_nodeB := a_nodeB) (a_nodeNext := a_nodeNext) (a_nodeElse := a_nodeElse) (a_nodeFree := a_nodeFree) (a_nodeNeed := a_nodeNeed) (a_fragments := a_fragments) (a_body := a_body) (a_slots := a_slots) (a_waiting := a_waiting) (a_spareHead := a_spareHead) (a_spareCount := a_spareCount) (a_cellTag := a_cellTag) (a_cellLeft := a_cellLeft) (a_cellRight := a_cellRight) (a_holds := a_holds) (a_link := a_link) (a_dead := a_dead) (a_cellOfNumber := a_cellOfNumber) (a_numberOfCell := a_numberOfCell) (a_places := a_places) (a_walk := a_walk) h
      exact ⟨r, fun post hp => br_f (by decide) (br_f (by decide) (br_f (by decide) (br_t (by decide) (hX _ hp)))), fun post hp => br_f (by decide) (br_t (by decide) (hY _ hp))⟩
    · exact ⟨f_made, fun post hp => br_f (by decide) (br_f (by decide) (br_f (by decide) (br_f (by decide) (br_t (by decide) hp)))), fun post hp => br_f (by decide) (br_f (by decide) (br_t (by decide) hp))⟩
    · exact ⟨f_reused, fun post hp => br_f (by decide) (br_f (by decide) (br_f (by decide) (br_f (by decide) (br_f (by decide) (br_t (by decide) hp))))), fun post hp => br_f (by decide) (br_f (by decide) (br_f (by decide) (br_t (by decide) hp)))⟩
    · exact ⟨f_peak, fun post hp => br_f (by decide) (br_f (by decide) (br_f (by decide) (br_f (by decide) (br_f (by decide) (br_f (by decide) (br_t (by decide) hp)))))), fun post hp => br_f (by decide) (br_f (by decide) (br_f (by decide) (br_f (by decide) (br_t (by decide) hp))))⟩
    · exact ⟨f_calls, fun post hp => br_f (by decide) (br_f (by decide) (br_f (by decide) (br_f (by decide) (br_f (by decide) (br_f (by decide) (br_f (by decide) (br_t (by decide) hp))))))), fun post hp => br_f (by decide) (br_f (by decide) (br_f (by decide) (br_f (by decide) (br_f (by decide) (br_t (by decide) hp)))))⟩
    · exact ⟨f_nodeCount, fun post hp => br_f (by decide) (br_f (by decide) (br_f (by decide) (br_f (by decide) (br_f (by decide) (br_f (by decide) (br_f (by decide) (br_f (by decide) (br_t (by decide) hp)))))))), fun post hp => br_f (by decide) (br_f (by decide) (br_f (by decide) (br_f (by decide) (br_f (by decide) (br_f (by decide) (br_t (by decide) hp))))))⟩
    · exact ⟨f_fragmentCount, fun post hp => br_f (by decide) (br_f (by decide) (br_f (by decide) (br_f (by decide) (br_f (by decide) (br_f (by decide) (br_f (by decide) (br_f (by decide) (br_f (by decide) (br_t (by decide) hp))))))))), fun post hp => br_f (by decide) (br_f (by decide) (br_f (by decide) (br_f (by decide) (br_f (by decide) (br_f (by decide) (br_f (by decide) (br_t (by decide) hp)))))))⟩
    · obtain ⟨r, hX, hY⟩ := rs_defset (f_kindRet := f_kindRet) (f_kindTail := f_kindTail) (f_kindBind := f_kindBind) (f_kindCon := f_kindCon) (f_kindPrim := f_kindPrim) (f_kindCall := f_kindCall) (f_kindMatch := f_kindMatch) (f_kindTest := f_kindTest) (f_cellBase := f_cellBase) (f_heapSize := f_heapSize) (f_depthLimit := f_depthLimit) (f_nodeLimit := f_nodeLimit) (f_nodeCount := f_nodeCount) (f_fragmentCount := f_fragmentCount) (f_frames := f_frames) (f_at := f_at) (f_deadCount := f_deadCount) (f_freeHead := f_freeHead) (f_fresh := f_fresh) (f_liveCells := f_liveCells) (f_spareTotal := f_spareTotal) (f_counted := f_counted) (f_status := f_status) (f_made := f_made) (f_reused := f_reused) (f_peak := f_peak) (f_calls := f_calls) (f_result := f_result) (f_resultCells := f_resultCells) (a_nodeKind := a_nodeKind) (a_nodeX := a_nodeX) (a_nodeParam := a_nodeParam) (a_nodeA := a_nodeA) (a_nodeB := a_nodeB) (a_nodeNext := a_nodeNext) (a_nodeElse := a_nodeElse) (a_nodeFree := a_nodeFree) (a_nodeNeed := a_nodeNeed) (a_fragments := a_fragments) (a_body := a_body) (a_slots := a_slots) (a_waiting := a_waiting) (a_spareHead := a_spareHead) (a_spareCount := a_spareCount) (a_cellTag := a_cellTag) (a_cellLeft := a_cellLeft) (a_cellRight := a_cellRight) (a_holds := a_holds) (a_link := a_link) (a_dead := a_dead) (a_cellOfNumber := a_cellOfNumber) (a_numberOfCell := a_numberOfCell) (a_places := a_places) (a_walk := a_walk) (g_frames := g_frames) (g_status := g_status) (g_resKind := g_resKind) (g_resNumber := g_resNumber) (g_numbered := g_numbered) (b_nodeA := b_nodeA) (b_nodeB := b_nodeB) (b_scratch := b_scratch) (b_slotKind := b_slotKind) (b_slotNumber := b_slotNumber) (b_spares := b_spares) (b_cellTag := b_cellTag) (b_partKind := b_partKind) (b_partNumber := b_partNumber) (b_live := b_live) (b_order := b_order) (b_todo := b_todo) 8 0 rfl 0 (by decide)
      exact ⟨r, fun post hp => br_f (by decide) (br_f (by decide) (br_f (by decide) (br_f (by decide) (br_f (by decide) (br_f (by decide) (br_f (by decide) (br_f (by decide) (br_f (by decide) (br_f (by decide) (br_t (by decide) ⟨9, hX _ 9 (by omega) hp⟩)))))))))), fun post hp => br_f (by decide) (br_f (by decide) (br_f (by decide) (br_f (by decide) (br_f (by decide) (br_f (by decide) (br_f (by decide) (br_f (by decide) (br_t (by decide) ⟨9, hY _ 9 (by omega) hp⟩))))))))⟩
    · exact ⟨f_heapSize, fun post hp => br_f (by decide) (br_f (by decide) (br_f (by decide) (br_f (by decide) (br_f (by decide) (br_f (by decide) (br_f (by decide) (br_f (by decide) (br_f (by decide) (br_f (by decide) (br_f (by decide) (br_t (by decide) hp))))))))))), fun post hp => br_f (by decide) (br_f (by decide) (br_f (by decide) (br_f (by decide) (br_f (by decide) (br_f (by decide) (br_f (by decide) (br_f (by decide) (br_f (by decide) (br_t (by decide) hp)))))))))⟩
    · exact ⟨f_depthLimit, fun post hp => br_f (by decide) (br_f (by decide) (br_f (by decide) (br_f (by decide) (br_f (by decide) (br_f (by decide) (br_f (by decide) (br_f (by decide) (br_f (by decide) (br_f (by decide) (br_f (by decide) (br_f (by decide) (br_t (by decide) hp)))))))))))), fun post hp => br_f (by decide) (br_f (by decide) (br_f (by decide) (br_f (by decide) (br_f (by decide) (br_f (by decide) (br_f (by decide) (br_f (by decide) (br_f (by decide) (br_f (by decide) (br_t (by decide) hp))))))))))⟩
    · exact ⟨f_nodeLimit, fun post hp => br_f (by decide) (br_f (by decide) (br_f (by decide) (br_f (by decide) (br_f (by decide) (br_f (by decide) (br_f (by decide) (br_f (by decide) (br_f (by decide) (br_f (by decide) (br_f (by decide) (br_f (by decide) (br_f (by decide) (br_t (by decide) hp))))))))))))), fun post hp => br_f (by decide) (br_f (by decide) (br_f (by decide) (br_f (by decide) (br_f (by decide) (br_f (by decide) (br_f (by decide) (br_f (by decide) (br_f (by decide) (br_f (by decide) (br_f (by decide) (br_t (by decide) hp)))))))))))⟩
  · exact hout ho
end
end
section
/-! the owed statements -/
def i_Rel (_ : Nat) (u : SX) (v : SY) : Prop := rc_REL u v
theorem i_up {k : Nat} {u : SX} {v : SY} (h : i_Rel k u v) : i_Rel (k + 5) u v := h
theorem i_vc0 (k0 : Int32) (k1 : Int32) (k2 : Int32) : wpX_init (fun u => wpY_init (fun v => i_Rel 3 u v) k0 k1 k2) k0 k1 k2 := rs_init0 k0 k1 k2
theorem i_vc_ret {k : Nat} {u : SX} {v : SY} (I : i_Rel k u v) (hk : k + 5 ≤ 2563) (v1 : Int32) : wpX_ret (fun r u' => wpY_ret (fun r' v' => r' = r ∧ i_Rel (k + 5) u' v') v v1) u v1 := by
  obtain ⟨r, u', v', R, WX, WY⟩ := rc_REL_el (P := fun u v => rc_EQ1 (fun post u => wpX_ret post u v1) (fun post v => wpY_ret post v v1) u v) I (fun f_kindRet f_kindTail f_kindBind f_kindCon f_kindPrim f_kindCall f_kindMatch f_kindTest f_cellBase f_heapSize f_depthLimit f_nodeLimit f_nodeCount f_fragmentCount f_frames f_at f_deadCount f_freeHead f_fresh f_liveCells f_spareTotal f_counted f_status f_made f_reused f_peak f_calls f_result f_resultCells a_nodeKind a_nodeX a_nodeParam a_nodeA a_nodeB a_nodeNext a_nodeElse a_nodeFree a_nodeNeed a_fragments a_body a_slots a_waiting a_spareHead a_spareCount a_cellTag a_cellLeft a_cellRight a_holds a_link a_dead a_cellOfNumber a_numberOfCell a_places a_walk g_frames g_status g_resKind g_resNumber g_numbered b_nodeA b_nodeB b_scratch b_slotKind b_slotNumber b_spares b_cellTag b_partKind b_partNumber b_live b_order b_todo nc hs dl nd h1 h2 h3 => rm_ret h1 h2 h3)
  exact WX _ (WY _ ⟨rfl, R⟩)
theorem i_vc_tail {k : Nat} {u : SX} {v : SY} (I : i_Rel k u v) (hk : k + 5 ≤ 2563) (v1 : Int32) (v2 : Int32) (v3 : Int32) : wpX_tail (fun r u' => wpY_tail (fun r' v' => r' = r ∧ i_Rel (k + 5) u' v') v v1 v2 v3) u v1 v2 v3 := by
  obtain ⟨r, u', v', R, WX, WY⟩ := rc_REL_el (P := fun u v => rc_EQ1 (fun post u => wpX_tail post u v1 v2 v3) (fun post v => wpY_tail post v v1 v2 v3) u v) I (fun f_kindRet f_kindTail f_kindBind f_kindCon f_kindPrim f_kindCall f_kindMatch f_kindTest f_cellBase f_heapSize f_depthLimit f_nodeLimit f_nodeCount f_fragmentCount f_frames f_at f_deadCount f_freeHead f_fresh f_liveCells f_spareTotal f_counted f_status f_made f_reused f_peak f_calls f_result f_resultCells a_nodeKind a_nodeX a_nodeParam a_nodeA a_nodeB a_nodeNext a_nodeElse a_nodeFree a_nodeNeed a_fragments a_body a_slots a_waiting a_spareHead a_spareCount a_cellTag a_cellLeft a_cellRight a_holds a_link a_dead a_cellOfNumber a_numberOfCell a_places a_walk g_frames g_status g_resKind g_resNumber g_numbered b_nodeA b_nodeB b_scratch b_slotKind b_slotNumber b_spares b_cellTag b_partKind b_partNumber b_live b_order b_todo nc hs dl nd h1 h2 h3 => rm_tail h1 h2 h3)
  exact WX _ (WY _ ⟨rfl, R⟩)
theorem i_vc_bind {k : Nat} {u : SX} {v : SY} (I : i_Rel k u v) (hk : k + 5 ≤ 2563) (v1 : Int32) (v2 : Int32) : wpX_bind (fun r u' => wpY_bind (fun r' v' => r' = r ∧ i_Rel (k + 5) u' v') v v1 v2) u v1 v2 := by
  obtain ⟨r, u', v', R, WX, WY⟩ := rc_REL_el (P := fun u v => rc_EQ1 (fun post u => wpX_bind post u v1 v2) (fun post v => wpY_bind post v v1 v2) u v) I (fun f_kindRet f_kindTail f_kindBind f_kindCon f_kindPrim f_kindCall f_kindMatch f_kindTest f_cellBase f_heapSize f_depthLimit f_nodeLimit f_nodeCount f_fragmentCount f_frames f_at f_deadCount f_freeHead f_fresh f_liveCells f_spareTotal f_counted f_status f_made f_reused f_peak f_calls f_result f_resultCells a_nodeKind a_nodeX a_nodeParam a_nodeA a_nodeB a_nodeNext a_nodeElse a_nodeFree a_nodeNeed a_fragments a_body a_slots a_waiting a_spareHead a_spareCount a_cellTag a_cellLeft a_cellRight a_holds a_link a_dead a_cellOfNumber a_numberOfCell a_places a_walk g_frames g_status g_resKind g_resNumber g_numbered b_nodeA b_nodeB b_scratch b_slotKind b_slotNumber b_spares b_cellTag b_partKind b_partNumber b_live b_order b_todo nc hs dl nd h1 h2 h3 => rm_bind h1 h2 h3)
  exact WX _ (WY _ ⟨rfl, R⟩)
theorem i_vc_con {k : Nat} {u : SX} {v : SY} (I : i_Rel k u v) (hk : k + 5 ≤ 2563) (v1 : Int32) (v2 : Int32) (v3 : Int32) (v4 : Int32) : wpX_con (fun r u' => wpY_con (fun r' v' => r' = r ∧ i_Rel (k + 5) u' v') v v1 v2 v3 v4) u v1 v2 v3 v4 := by
  obtain ⟨r, u', v', R, WX, WY⟩ := rc_REL_el (P := fun u v => rc_EQ1 (fun post u => wpX_con post u v1 v2 v3 v4) (fun post v => wpY_con post v v1 v2 v3 v4) u v) I (fun f_kindRet f_kindTail f_kindBind f_kindCon f_kindPrim f_kindCall f_kindMatch f_kindTest f_cellBase f_heapSize f_depthLimit f_nodeLimit f_nodeCount f_fragmentCount f_frames f_at f_deadCount f_freeHead f_fresh f_liveCells f_spareTotal f_counted f_status f_made f_reused f_peak f_calls f_result f_resultCells a_nodeKind a_nodeX a_nodeParam a_nodeA a_nodeB a_nodeNext a_nodeElse a_nodeFree a_nodeNeed a_fragments a_body a_slots a_waiting a_spareHead a_spareCount a_cellTag a_cellLeft a_cellRight a_holds a_link a_dead a_cellOfNumber a_numberOfCell a_places a_walk g_frames g_status g_resKind g_resNumber g_numbered b_nodeA b_nodeB b_scratch b_slotKind b_slotNumber b_spares b_cellTag b_partKind b_partNumber b_live b_order b_todo nc hs dl nd h1 h2 h3 => rm_con h1 h2 h3)
  exact WX _ (WY _ ⟨rfl, R⟩)
theorem i_vc_prim {k : Nat} {u : SX} {v : SY} (I : i_Rel k u v) (hk : k + 5 ≤ 2563) (v1 : Int32) (v2 : Int32) (v3 : Int32) (v4 : Int32) : wpX_prim (fun r u' => wpY_prim (fun r' v' => r' = r ∧ i_Rel (k + 5) u' v') v v1 v2 v3 v4) u v1 v2 v3 v4 := by
  obtain ⟨r, u', v', R, WX, WY⟩ := rc_REL_el (P := fun u v => rc_EQ1 (fun post u => wpX_prim post u v1 v2 v3 v4) (fun post v => wpY_prim post v v1 v2 v3 v4) u v) I (fun f_kindRet f_kindTail f_kindBind f_kindCon f_kindPrim f_kindCall f_kindMatch f_kindTest f_cellBase f_heapSize f_depthLimit f_nodeLimit f_nodeCount f_fragmentCount f_frames f_at f_deadCount f_freeHead f_fresh f_liveCells f_spareTotal f_counted f_status f_made f_reused f_peak f_calls f_result f_resultCells a_nodeKind a_nodeX a_nodeParam a_nodeA a_nodeB a_nodeNext a_nodeElse a_nodeFree a_nodeNeed a_fragments a_body a_slots a_waiting a_spareHead a_spareCount a_cellTag a_cellLeft a_cellRight a_holds a_link a_dead a_cellOfNumber a_numberOfCell a_places a_walk g_frames g_status g_resKind g_resNumber g_numbered b_nodeA b_nodeB b_scratch b_slotKind b_slotNumber b_spares b_cellTag b_partKind b_partNumber b_live b_order b_todo nc hs dl nd h1 h2 h3 => rm_prim h1 h2 h3)
  exact WX _ (WY _ ⟨rfl, R⟩)
theorem i_vc_call {k : Nat} {u : SX} {v : SY} (I : i_Rel k u v) (hk : k + 5 ≤ 2563) (v1 : Int32) (v2 : Int32) (v3 : Int32) (v4 : Int32) : wpX_call (fun r u' => wpY_call (fun r' v' => r' = r ∧ i_Rel (k + 5) u' v') v v1 v2 v3 v4) u v1 v2 v3 v4 := by
  obtain ⟨r, u', v', R, WX, WY⟩ := rc_REL_el (P := fun u v => rc_EQ1 (fun post u => wpX_call post u v1 v2 v3 v4) (fun post v => wpY_call post v v1 v2 v3 v4) u v) I (fun f_kindRet f_kindTail f_kindBind f_kindCon f_kindPrim f_kindCall f_kindMatch f_kindTest f_cellBase f_heapSize f_depthLimit f_nodeLimit f_nodeCount f_fragmentCount f_frames f_at f_deadCount f_freeHead f_fresh f_liveCells f_spareTotal f_counted f_status f_made f_reused f_peak f_calls f_result f_resultCells a_nodeKind a_nodeX a_nodeParam a_nodeA a_nodeB a_nodeNext a_nodeElse a_nodeFree a_nodeNeed a_fragments a_body a_slots a_waiting a_spareHead a_spareCount a_cellTag a_cellLeft a_cellRight a_holds a_link a_dead a_cellOfNumber a_numberOfCell a_places a_walk g_frames g_status g_resKind g_resNumber g_numbered b_nodeA b_nodeB b_scratch b_slotKind b_slotNumber b_spares b_cellTag b_partKind b_partNumber b_live b_order b_todo nc hs dl nd h1 h2 h3 => rm_call h1 h2 h3)
  exact WX _ (WY _ ⟨rfl, R⟩)
theorem i_vc_match {k : Nat} {u : SX} {v : SY} (I : i_Rel k u v) (hk : k + 5 ≤ 2563) (v1 : Int32) (v2 : Int32) (v3 : Int32) (v4 : Int32) : wpX_match (fun r u' => wpY_match (fun r' v' => r' = r ∧ i_Rel (k + 5) u' v') v v1 v2 v3 v4) u v1 v2 v3 v4 := by
  obtain ⟨r, u', v', R, WX, WY⟩ := rc_REL_el (P := fun u v => rc_EQ1 (fun post u => wpX_match post u v1 v2 v3 v4) (fun post v => wpY_match post v v1 v2 v3 v4) u v) I (fun f_kindRet f_kindTail f_kindBind f_kindCon f_kindPrim f_kindCall f_kindMatch f_kindTest f_cellBase f_heapSize f_depthLimit f_nodeLimit f_nodeCount f_fragmentCount f_frames f_at f_deadCount f_freeHead f_fresh f_liveCells f_spareTotal f_counted f_status f_made f_reused f_peak f_calls f_result f_resultCells a_nodeKind a_nodeX a_nodeParam a_nodeA a_nodeB a_nodeNext a_nodeElse a_nodeFree a_nodeNeed a_fragments a_body a_slots a_waiting a_spareHead a_spareCount a_cellTag a_cellLeft a_cellRight a_holds a_link a_dead a_cellOfNumber a_numberOfCell a_places a_walk g_frames g_status g_resKind g_resNumber g_numbered b_nodeA b_nodeB b_scratch b_slotKind b_slotNumber b_spares b_cellTag b_partKind b_partNumber b_live b_order b_todo nc hs dl nd h1 h2 h3 => rm_match h1 h2 h3)
  exact WX _ (WY _ ⟨rfl, R⟩)
theorem i_vc_test {k : Nat} {u : SX} {v : SY} (I : i_Rel k u v) (hk : k + 5 ≤ 2563) (v1 : Int32) (v2 : Int32) : wpX_test (fun r u' => wpY_test (fun r' v' => r' = r ∧ i_Rel (k + 5) u' v') v v1 v2) u v1 v2 := by
  obtain ⟨r, u', v', R, WX, WY⟩ := rc_REL_el (P := fun u v => rc_EQ1 (fun post u => wpX_test post u v1 v2) (fun post v => wpY_test post v v1 v2) u v) I (fun f_kindRet f_kindTail f_kindBind f_kindCon f_kindPrim f_kindCall f_kindMatch f_kindTest f_cellBase f_heapSize f_depthLimit f_nodeLimit f_nodeCount f_fragmentCount f_frames f_at f_deadCount f_freeHead f_fresh f_liveCells f_spareTotal f_counted f_status f_made f_reused f_peak f_calls f_result f_resultCells a_nodeKind a_nodeX a_nodeParam a_nodeA a_nodeB a_nodeNext a_nodeElse a_nodeFree a_nodeNeed a_fragments a_body a_slots a_waiting a_spareHead a_spareCount a_cellTag a_cellLeft a_cellRight a_holds a_link a_dead a_cellOfNumber a_numberOfCell a_places a_walk g_frames g_status g_resKind g_resNumber g_numbered b_nodeA b_nodeB b_scratch b_slotKind b_slotNumber b_spares b_cellTag b_partKind b_partNumber b_live b_order b_todo nc hs dl nd h1 h2 h3 => rm_test h1 h2 h3)
  exact WX _ (WY _ ⟨rfl, R⟩)
theorem i_vc_discard {k : Nat} {u : SX} {v : SY} (I : i_Rel k u v) (hk : k + 5 ≤ 2563) : wpX_discard (fun r u' => wpY_discard (fun r' v' => r' = r ∧ i_Rel (k + 5) u' v') v) u := by
  obtain ⟨r, u', v', R, WX, WY⟩ := rc_REL_el (P := fun u v => rc_EQ1 (fun post u => wpX_discard post u ) (fun post v => wpY_discard post v ) u v) I (fun f_kindRet f_kindTail f_kindBind f_kindCon f_kindPrim f_kindCall f_kindMatch f_kindTest f_cellBase f_heapSize f_depthLimit f_nodeLimit f_nodeCount f_fragmentCount f_frames f_at f_deadCount f_freeHead f_fresh f_liveCells f_spareTotal f_counted f_status f_made f_reused f_peak f_calls f_result f_resultCells a_nodeKind a_nodeX a_nodeParam a_nodeA a_nodeB a_nodeNext a_nodeElse a_nodeFree a_nodeNeed a_fragments a_body a_slots a_waiting a_spareHead a_spareCount a_cellTag a_cellLeft a_cellRight a_holds a_link a_dead a_cellOfNumber a_numberOfCell a_places a_walk g_frames g_status g_resKind g_resNumber g_numbered b_nodeA b_nodeB b_scratch b_slotKind b_slotNumber b_spares b_cellTag b_partKind b_partNumber b_live b_order b_todo nc hs dl nd h1 h2 h3 => rm_discard h1 h2 h3)
  exact WX _ (WY _ ⟨rfl, R⟩)
theorem i_vc_define {k : Nat} {u : SX} {v : SY} (I : i_Rel k u v) (hk : k + 5 ≤ 2563) (v1 : Int32) : wpX_define (fun r u' => wpY_define (fun r' v' => r' = r ∧ i_Rel (k + 5) u' v') v v1) u v1 := by
  obtain ⟨r, u', v', R, WX, WY⟩ := rc_REL_el (P := fun u v => rc_EQ1 (fun post u => wpX_define post u v1) (fun post v => wpY_define post v v1) u v) I (fun f_kindRet f_kindTail f_kindBind f_kindCon f_kindPrim f_kindCall f_kindMatch f_kindTest f_cellBase f_heapSize f_depthLimit f_nodeLimit f_nodeCount f_fragmentCount f_frames f_at f_deadCount f_freeHead f_fresh f_liveCells f_spareTotal f_counted f_status f_made f_reused f_peak f_calls f_result f_resultCells a_nodeKind a_nodeX a_nodeParam a_nodeA a_nodeB a_nodeNext a_nodeElse a_nodeFree a_nodeNeed a_fragments a_body a_slots a_waiting a_spareHead a_spareCount a_cellTag a_cellLeft a_cellRight a_holds a_link a_dead a_cellOfNumber a_numberOfCell a_places a_walk g_frames g_status g_resKind g_resNumber g_numbered b_nodeA b_nodeB b_scratch b_slotKind b_slotNumber b_spares b_cellTag b_partKind b_partNumber b_live b_order b_todo nc hs dl nd h1 h2 h3 => rm_define h1 h2 h3)
  exact WX _ (WY _ ⟨rfl, R⟩)
theorem i_vc_clear {k : Nat} {u : SX} {v : SY} (I : i_Rel k u v) (hk : k + 5 ≤ 2563) : wpX_clear (fun u' => wpY_clear (fun v' => i_Rel (k + 5) u' v') v) u := by
  obtain ⟨u', v', R, WX, WY⟩ := rc_REL_el (P := fun u v => ∃ (u' : SX) (v' : SY), rc_REL u' v' ∧ (∀ post : SX → Prop, post u' → wpX_clear post u) ∧ (∀ post : SY → Prop, post v' → wpY_clear post v)) I (fun f_kindRet f_kindTail f_kindBind f_kindCon f_kindPrim f_kindCall f_kindMatch f_kindTest f_cellBase f_heapSize f_depthLimit f_nodeLimit f_nodeCount f_fragmentCount f_frames f_at f_deadCount f_freeHead f_fresh f_liveCells f_spareTotal f_counted f_status f_made f_reused f_peak f_calls f_result f_resultCells a_nodeKind a_nodeX a_nodeParam a_nodeA a_nodeB a_nodeNext a_nodeElse a_nodeFree a_nodeNeed a_fragments a_body a_slots a_waiting a_spareHead a_spareCount a_cellTag a_cellLeft a_cellRight a_holds a_link a_dead a_cellOfNumber a_numberOfCell a_places a_walk g_frames g_status g_resKind g_resNumber g_numbered b_nodeA b_nodeB b_scratch b_slotKind b_slotNumber b_spares b_cellTag b_partKind b_partNumber b_live b_order b_todo nc hs dl nd h1 h2 h3 => rm_clear h1 h2 h3)
  exact WX _ (WY _ R)
theorem i_vc_run {k : Nat} {u : SX} {v : SY} (I : i_Rel k u v) (hk : k + 5 ≤ 2563) (v1 : Int32) (v2 : Int32) (v3 : Int32) : wpX_run (fun r u' => wpY_run (fun r' v' => r' = r ∧ i_Rel (k + 5) u' v') v v1 v2 v3) u v1 v2 v3 := by
  obtain ⟨r, u', v', R, WX, WY⟩ := rc_REL_el (P := fun u v => rc_EQ1 (fun post u => wpX_run post u v1 v2 v3) (fun post v => wpY_run post v v1 v2 v3) u v) I (fun f_kindRet f_kindTail f_kindBind f_kindCon f_kindPrim f_kindCall f_kindMatch f_kindTest f_cellBase f_heapSize f_depthLimit f_nodeLimit f_nodeCount f_fragmentCount f_frames f_at f_deadCount f_freeHead f_fresh f_liveCells f_spareTotal f_counted f_status f_made f_reused f_peak f_calls f_result f_resultCells a_nodeKind a_nodeX a_nodeParam a_nodeA a_nodeB a_nodeNext a_nodeElse a_nodeFree a_nodeNeed a_fragments a_body a_slots a_waiting a_spareHead a_spareCount a_cellTag a_cellLeft a_cellRight a_holds a_link a_dead a_cellOfNumber a_numberOfCell a_places a_walk g_frames g_status g_resKind g_resNumber g_numbered b_nodeA b_nodeB b_scratch b_slotKind b_slotNumber b_spares b_cellTag b_partKind b_partNumber b_live b_order b_todo nc hs dl nd h1 h2 h3 => rm_run h1 h2 h3)
  exact WX _ (WY _ ⟨rfl, R⟩)
theorem i_vc_plain {k : Nat} {u : SX} {v : SY} (I : i_Rel k u v) (hk : k + 5 ≤ 2563) (v1 : Int32) (v2 : Int32) (v3 : Int32) : wpX_plain (fun r u' => wpY_plain (fun r' v' => r' = r ∧ i_Rel (k + 5) u' v') v v1 v2 v3) u v1 v2 v3 := by
  obtain ⟨r, u', v', R, WX, WY⟩ := rc_REL_el (P := fun u v => rc_EQ1 (fun post u => wpX_plain post u v1 v2 v3) (fun post v => wpY_plain post v v1 v2 v3) u v) I (fun f_kindRet f_kindTail f_kindBind f_kindCon f_kindPrim f_kindCall f_kindMatch f_kindTest f_cellBase f_heapSize f_depthLimit f_nodeLimit f_nodeCount f_fragmentCount f_frames f_at f_deadCount f_freeHead f_fresh f_liveCells f_spareTotal f_counted f_status f_made f_reused f_peak f_calls f_result f_resultCells a_nodeKind a_nodeX a_nodeParam a_nodeA a_nodeB a_nodeNext a_nodeElse a_nodeFree a_nodeNeed a_fragments a_body a_slots a_waiting a_spareHead a_spareCount a_cellTag a_cellLeft a_cellRight a_holds a_link a_dead a_cellOfNumber a_numberOfCell a_places a_walk g_frames g_status g_resKind g_resNumber g_numbered b_nodeA b_nodeB b_scratch b_slotKind b_slotNumber b_spares b_cellTag b_partKind b_partNumber b_live b_order b_todo nc hs dl nd h1 h2 h3 => rm_plain h1 h2 h3)
  exact WX _ (WY _ ⟨rfl, R⟩)
theorem i_vc_status {k : Nat} {u : SX} {v : SY} (I : i_Rel k u v) (hk : k + 5 ≤ 2563) : wpX_status (fun r => wpY_status (fun r' => r' = r ∧ i_Rel (k + 5) u v) v) u := by
  obtain ⟨r, WX, WY⟩ := rc_REL_el (P := fun u v => rc_EQ0 (fun post => wpX_status post u ) (fun post => wpY_status post v )) I (fun f_kindRet f_kindTail f_kindBind f_kindCon f_kindPrim f_kindCall f_kindMatch f_kindTest f_cellBase f_heapSize f_depthLimit f_nodeLimit f_nodeCount f_fragmentCount f_frames f_at f_deadCount f_freeHead f_fresh f_liveCells f_spareTotal f_counted f_status f_made f_reused f_peak f_calls f_result f_resultCells a_nodeKind a_nodeX a_nodeParam a_nodeA a_nodeB a_nodeNext a_nodeElse a_nodeFree a_nodeNeed a_fragments a_body a_slots a_waiting a_spareHead a_spareCount a_cellTag a_cellLeft a_cellRight a_holds a_link a_dead a_cellOfNumber a_numberOfCell a_places a_walk g_frames g_status g_resKind g_resNumber g_numbered b_nodeA b_nodeB b_scratch b_slotKind b_slotNumber b_spares b_cellTag b_partKind b_partNumber b_live b_order b_todo nc hs dl nd h1 h2 h3 => rm_status h3)
  exact WX _ (WY _ ⟨rfl, I⟩)
theorem i_vc_resultKind {k : Nat} {u : SX} {v : SY} (I : i_Rel k u v) (hk : k + 5 ≤ 2563) : wpX_resultKind (fun r => wpY_resultKind (fun r' => r' = r ∧ i_Rel (k + 5) u v) v) u := by
  obtain ⟨r, WX, WY⟩ := rc_REL_el (P := fun u v => rc_EQ0 (fun post => wpX_resultKind post u ) (fun post => wpY_resultKind post v )) I (fun f_kindRet f_kindTail f_kindBind f_kindCon f_kindPrim f_kindCall f_kindMatch f_kindTest f_cellBase f_heapSize f_depthLimit f_nodeLimit f_nodeCount f_fragmentCount f_frames f_at f_deadCount f_freeHead f_fresh f_liveCells f_spareTotal f_counted f_status f_made f_reused f_peak f_calls f_result f_resultCells a_nodeKind a_nodeX a_nodeParam a_nodeA a_nodeB a_nodeNext a_nodeElse a_nodeFree a_nodeNeed a_fragments a_body a_slots a_waiting a_spareHead a_spareCount a_cellTag a_cellLeft a_cellRight a_holds a_link a_dead a_cellOfNumber a_numberOfCell a_places a_walk g_frames g_status g_resKind g_resNumber g_numbered b_nodeA b_nodeB b_scratch b_slotKind b_slotNumber b_spares b_cellTag b_partKind b_partNumber b_live b_order b_todo nc hs dl nd h1 h2 h3 => rm_resultKind h3)
  exact WX _ (WY _ ⟨rfl, I⟩)
theorem i_vc_resultNumber {k : Nat} {u : SX} {v : SY} (I : i_Rel k u v) (hk : k + 5 ≤ 2563) : wpX_resultNumber (fun r => wpY_resultNumber (fun r' => r' = r ∧ i_Rel (k + 5) u v) v) u := by
  obtain ⟨r, WX, WY⟩ := rc_REL_el (P := fun u v => rc_EQ0 (fun post => wpX_resultNumber post u ) (fun post => wpY_resultNumber post v )) I (fun f_kindRet f_kindTail f_kindBind f_kindCon f_kindPrim f_kindCall f_kindMatch f_kindTest f_cellBase f_heapSize f_depthLimit f_nodeLimit f_nodeCount f_fragmentCount f_frames f_at f_deadCount f_freeHead f_fresh f_liveCells f_spareTotal f_counted f_status f_made f_reused f_peak f_calls f_result f_resultCells a_nodeKind a_nodeX a_nodeParam a_nodeA a_nodeB a_nodeNext a_nodeElse a_nodeFree a_nodeNeed a_fragments a_body a_slots a_waiting a_spareHead a_spareCount a_cellTag a_cellLeft a_cellRight a_holds a_link a_dead a_cellOfNumber a_numberOfCell a_places a_walk g_frames g_status g_resKind g_resNumber g_numbered b_nodeA b_nodeB b_scratch b_slotKind b_slotNumber b_spares b_cellTag b_partKind b_partNumber b_live b_order b_todo nc hs dl nd h1 h2 h3 => rm_resultNumber h3)
  exact WX _ (WY _ ⟨rfl, I⟩)
theorem i_vc_tagOf {k : Nat} {u : SX} {v : SY} (I : i_Rel k u v) (hk : k + 5 ≤ 2563) (v1 : Int32) : wpX_tagOf (fun r => wpY_tagOf (fun r' => r' = r ∧ i_Rel (k + 5) u v) v v1) u v1 := by
  obtain ⟨r, WX, WY⟩ := rc_REL_el (P := fun u v => rc_EQ0 (fun post => wpX_tagOf post u v1) (fun post => wpY_tagOf post v v1)) I (fun f_kindRet f_kindTail f_kindBind f_kindCon f_kindPrim f_kindCall f_kindMatch f_kindTest f_cellBase f_heapSize f_depthLimit f_nodeLimit f_nodeCount f_fragmentCount f_frames f_at f_deadCount f_freeHead f_fresh f_liveCells f_spareTotal f_counted f_status f_made f_reused f_peak f_calls f_result f_resultCells a_nodeKind a_nodeX a_nodeParam a_nodeA a_nodeB a_nodeNext a_nodeElse a_nodeFree a_nodeNeed a_fragments a_body a_slots a_waiting a_spareHead a_spareCount a_cellTag a_cellLeft a_cellRight a_holds a_link a_dead a_cellOfNumber a_numberOfCell a_places a_walk g_frames g_status g_resKind g_resNumber g_numbered b_nodeA b_nodeB b_scratch b_slotKind b_slotNumber b_spares b_cellTag b_partKind b_partNumber b_live b_order b_todo nc hs dl nd h1 h2 h3 => by
    obtain ⟨k, nu, φ, H⟩ := rc_RRk h3
    exact rm_tagOf H)
  exact WX _ (WY _ ⟨rfl, I⟩)
theorem i_vc_fieldKind {k : Nat} {u : SX} {v : SY} (I : i_Rel k u v) (hk : k + 5 ≤ 2563) (v1 : Int32) (v2 : Int32) : wpX_fieldKind (fun r => wpY_fieldKind (fun r' => r' = r ∧ i_Rel (k + 5) u v) v v1 v2) u v1 v2 := by
  obtain ⟨r, WX, WY⟩ := rc_REL_el (P := fun u v => rc_EQ0 (fun post => wpX_fieldKind post u v1 v2) (fun post => wpY_fieldKind post v v1 v2)) I (fun f_kindRet f_kindTail f_kindBind f_kindCon f_kindPrim f_kindCall f_kindMatch f_kindTest f_cellBase f_heapSize f_depthLimit f_nodeLimit f_nodeCount f_fragmentCount f_frames f_at f_deadCount f_freeHead f_fresh f_liveCells f_spareTotal f_counted f_status f_made f_reused f_peak f_calls f_result f_resultCells a_nodeKind a_nodeX a_nodeParam a_nodeA a_nodeB a_nodeNext a_nodeElse a_nodeFree a_nodeNeed a_fragments a_body a_slots a_waiting a_spareHead a_spareCount a_cellTag a_cellLeft a_cellRight a_holds a_link a_dead a_cellOfNumber a_numberOfCell a_places a_walk g_frames g_status g_resKind g_resNumber g_numbered b_nodeA b_nodeB b_scratch b_slotKind b_slotNumber b_spares b_cellTag b_partKind b_partNumber b_live b_order b_todo nc hs dl nd h1 h2 h3 => by
    obtain ⟨k, nu, φ, H⟩ := rc_RRk h3
    exact rm_fieldKind H)
  exact WX _ (WY _ ⟨rfl, I⟩)
theorem i_vc_fieldNumber {k : Nat} {u : SX} {v : SY} (I : i_Rel k u v) (hk : k + 5 ≤ 2563) (v1 : Int32) (v2 : Int32) : wpX_fieldNumber (fun r => wpY_fieldNumber (fun r' => r' = r ∧ i_Rel (k + 5) u v) v v1 v2) u v1 v2 := by
  obtain ⟨r, WX, WY⟩ := rc_REL_el (P := fun u v => rc_EQ0 (fun post => wpX_fieldNumber post u v1 v2) (fun post => wpY_fieldNumber post v v1 v2)) I (fun f_kindRet f_kindTail f_kindBind f_kindCon f_kindPrim f_kindCall f_kindMatch f_kindTest f_cellBase f_heapSize f_depthLimit f_nodeLimit f_nodeCount f_fragmentCount f_frames f_at f_deadCount f_freeHead f_fresh f_liveCells f_spareTotal f_counted f_status f_made f_reused f_peak f_calls f_result f_resultCells a_nodeKind a_nodeX a_nodeParam a_nodeA a_nodeB a_nodeNext a_nodeElse a_nodeFree a_nodeNeed a_fragments a_body a_slots a_waiting a_spareHead a_spareCount a_cellTag a_cellLeft a_cellRight a_holds a_link a_dead a_cellOfNumber a_numberOfCell a_places a_walk g_frames g_status g_resKind g_resNumber g_numbered b_nodeA b_nodeB b_scratch b_slotKind b_slotNumber b_spares b_cellTag b_partKind b_partNumber b_live b_order b_todo nc hs dl nd h1 h2 h3 => by
    obtain ⟨k, nu, φ, H⟩ := rc_RRk h3
    exact rm_fieldNumber H)
  exact WX _ (WY _ ⟨rfl, I⟩)
theorem i_vc_refs {k : Nat} {u : SX} {v : SY} (I : i_Rel k u v) (hk : k + 5 ≤ 2563) (v1 : Int32) : wpX_refs (fun r => wpY_refs (fun r' => r' = r ∧ i_Rel (k + 5) u v) v v1) u v1 := by
  obtain ⟨r, WX, WY⟩ := rc_REL_el (P := fun u v => rc_EQ0 (fun post => wpX_refs post u v1) (fun post => wpY_refs post v v1)) I (fun f_kindRet f_kindTail f_kindBind f_kindCon f_kindPrim f_kindCall f_kindMatch f_kindTest f_cellBase f_heapSize f_depthLimit f_nodeLimit f_nodeCount f_fragmentCount f_frames f_at f_deadCount f_freeHead f_fresh f_liveCells f_spareTotal f_counted f_status f_made f_reused f_peak f_calls f_result f_resultCells a_nodeKind a_nodeX a_nodeParam a_nodeA a_nodeB a_nodeNext a_nodeElse a_nodeFree a_nodeNeed a_fragments a_body a_slots a_waiting a_spareHead a_spareCount a_cellTag a_cellLeft a_cellRight a_holds a_link a_dead a_cellOfNumber a_numberOfCell a_places a_walk g_frames g_status g_resKind g_resNumber g_numbered b_nodeA b_nodeB b_scratch b_slotKind b_slotNumber b_spares b_cellTag b_partKind b_partNumber b_live b_order b_todo nc hs dl nd h1 h2 h3 => by
    obtain ⟨k, nu, φ, H⟩ := rc_RRk h3
    exact rm_refs H)
  exact WX _ (WY _ ⟨rfl, I⟩)
theorem i_vc_freeOf {k : Nat} {u : SX} {v : SY} (I : i_Rel k u v) (hk : k + 5 ≤ 2563) (v1 : Int32) : wpX_freeOf (fun r => wpY_freeOf (fun r' v' => r' = r ∧ i_Rel (k + 5) u v') v v1) u v1 := by
  obtain ⟨r, v', R, WX, WY⟩ := rc_REL_el (P := fun u v => ∃ (r : Int32) (v' : SY), rc_REL u v' ∧ (∀ post : Int32 → Prop, post r → wpX_freeOf post u v1) ∧ (∀ post : Int32 → SY → Prop, post r v' → wpY_freeOf post v v1)) I (fun f_kindRet f_kindTail f_kindBind f_kindCon f_kindPrim f_kindCall f_kindMatch f_kindTest f_cellBase f_heapSize f_depthLimit f_nodeLimit f_nodeCount f_fragmentCount f_frames f_at f_deadCount f_freeHead f_fresh f_liveCells f_spareTotal f_counted f_status f_made f_reused f_peak f_calls f_result f_resultCells a_nodeKind a_nodeX a_nodeParam a_nodeA a_nodeB a_nodeNext a_nodeElse a_nodeFree a_nodeNeed a_fragments a_body a_slots a_waiting a_spareHead a_spareCount a_cellTag a_cellLeft a_cellRight a_holds a_link a_dead a_cellOfNumber a_numberOfCell a_places a_walk g_frames g_status g_resKind g_resNumber g_numbered b_nodeA b_nodeB b_scratch b_slotKind b_slotNumber b_spares b_cellTag b_partKind b_partNumber b_live b_order b_todo nc hs dl nd h1 h2 h3 => rm_freeOf h1 h2 h3)
  exact WX _ (WY _ ⟨rfl, R⟩)
theorem i_vc_count {k : Nat} {u : SX} {v : SY} (I : i_Rel k u v) (hk : k + 5 ≤ 2563) (v1 : Int32) : wpX_count (fun r => wpY_count (fun r' => r' = r ∧ i_Rel (k + 5) u v) v v1) u v1 := by
  obtain ⟨r, WX, WY⟩ := rc_REL_el (P := fun u v => rc_EQ0 (fun post => wpX_count post u v1) (fun post => wpY_count post v v1)) I (fun f_kindRet f_kindTail f_kindBind f_kindCon f_kindPrim f_kindCall f_kindMatch f_kindTest f_cellBase f_heapSize f_depthLimit f_nodeLimit f_nodeCount f_fragmentCount f_frames f_at f_deadCount f_freeHead f_fresh f_liveCells f_spareTotal f_counted f_status f_made f_reused f_peak f_calls f_result f_resultCells a_nodeKind a_nodeX a_nodeParam a_nodeA a_nodeB a_nodeNext a_nodeElse a_nodeFree a_nodeNeed a_fragments a_body a_slots a_waiting a_spareHead a_spareCount a_cellTag a_cellLeft a_cellRight a_holds a_link a_dead a_cellOfNumber a_numberOfCell a_places a_walk g_frames g_status g_resKind g_resNumber g_numbered b_nodeA b_nodeB b_scratch b_slotKind b_slotNumber b_spares b_cellTag b_partKind b_partNumber b_live b_order b_todo nc hs dl nd h1 h2 h3 => rm_count h3)
  exact WX _ (WY _ ⟨rfl, I⟩)
end
