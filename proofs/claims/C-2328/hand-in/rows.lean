section
/-! pure rows to paste: stores, nI and lN arithmetic, masks, shifts, narrowing, branches by naturals (pk_le, pk_lt, pk_eq), loops (lp1 .. lp16: the measure of the state; rp1 ..: recursion), negatives. Take what you need -/
theorem pk_us {f : Nat → Int32} {k : Nat} {x : Int32} : upd f k x k = x := if_pos rfl
theorem pk_un {f : Nat → Int32} {k j : Nat} {x : Int32} (h : j ≠ k) : upd f k x j = f j := if_neg h
theorem pk_uLs {f : Nat → Int64} {k : Nat} {x : Int64} : vp_updL f k x k = x := if_pos rfl
theorem pk_uLn {f : Nat → Int64} {k j : Nat} {x : Int64} (h : j ≠ k) : vp_updL f k x j = f j := if_neg h
theorem pk_sub {a b : Nat} (h : b ≤ a) : nI a - nI b = nI (a - b) := by
  obtain ⟨c, rfl⟩ : ∃ c, a = c + b := ⟨a - b, by omega⟩
  rw [← nI_add, Int32.add_sub_cancel, Nat.add_sub_cancel]
theorem pk_m1 (n : Nat) : nI (n + 1) + (-1) = nI n := by
  rw [← nI_1, Int32.add_assoc, show (1 : Int32) + (-1) = 0 from rfl, Int32.add_zero]
theorem pk_mul (a b : Nat) : nI a * nI b = nI (a * b) := (Int32.ofNat_mul a b).symm
theorem pk_div {a d : Nat} (ha : a < 2 ^ 31) (h0 : 0 < d) (hd : d < 2 ^ 31) : nI a / nI d = nI (a / d) := by
  apply Int32.toInt_inj.mp
  rw [lg_idiv_nonneg (by rw [nI_toInt ha]; omega) (by rw [nI_toInt hd]; omega), nI_toInt ha, nI_toInt hd, nI_toInt (Nat.lt_of_le_of_lt (Nat.div_le_self a d) ha)]
  first | rfl | exact (Int.natCast_ediv _ _).symm
theorem pk_rem {a d : Nat} (ha : a < 2 ^ 31) (h0 : 0 < d) (hd : d < 2 ^ 31) : nI a - nI a / nI d * nI d = nI (a % d) := by
  rw [pk_div ha h0 hd, pk_mul, pk_sub (Nat.div_mul_le_self a d)]
  exact congrArg nI (by have := Nat.div_add_mod' a d; omega)
theorem pk_sub_toInt {a b : Nat} (ha : a < 2 ^ 30) (hb : b < 2 ^ 30) : (nI a - nI b).toInt = (a : Int) - b := by
  rw [Int32.toInt_sub, nI_toInt (by omega), nI_toInt (by omega)]
  exact Int.bmod_eq_of_le (by omega) (by omega)
theorem pk_sneg {a b : Nat} (hb : b < 2 ^ 30) (h : a < b) : nI a - nI b < 0 := by
  rw [Int32.lt_iff_toInt_lt, pk_sub_toInt (by omega) hb, show (0 : Int32).toInt = 0 from by decide]
  omega
theorem pk_ix (x : Int32) {n : Nat} (hn : n < 2 ^ 31) : x < 0 ∨ nI n ≤ x ∨ ∃ j : Nat, j < n ∧ x = nI j := by
  by_cases h : x < 0
  · exact Or.inl h
  · obtain ⟨j, hj, rfl⟩ := nI_of h
    by_cases h2 : j < n
    · exact Or.inr (Or.inr ⟨j, h2, rfl⟩)
    · exact Or.inr (Or.inl (nI_le (by omega) hj))
theorem pk_le {x y : Int32} {A B : Prop} (a b : Nat) (f : a ≤ b → A) (g : b < a → B) (hx : x = nI a := by rfl) (hy : y = nI b := by rfl) (ha : a < 2 ^ 31 := by omega) (hb : b < 2 ^ 31 := by omega) : (x ≤ y → A) ∧ (¬ x ≤ y → B) := by
  subst hx hy
  rw [nI_leI ha hb]
  exact ⟨f, fun z => g (by omega)⟩
theorem pk_lt {x y : Int32} {A B : Prop} (a b : Nat) (f : a < b → A) (g : b ≤ a → B) (hx : x = nI a := by rfl) (hy : y = nI b := by rfl) (ha : a < 2 ^ 31 := by omega) (hb : b < 2 ^ 31 := by omega) : (x < y → A) ∧ (¬ x < y → B) := by
  subst hx hy
  rw [nI_ltI ha hb]
  exact ⟨f, fun z => g (by omega)⟩
theorem pk_eq {x y : Int32} {A B : Prop} (a b : Nat) (f : a = b → A) (g : a ≠ b → B) (hx : x = nI a := by rfl) (hy : y = nI b := by rfl) (ha : a < 2 ^ 31 := by omega) (hb : b < 2 ^ 31 := by omega) : (x = y → A) ∧ (¬ x = y → B) := by
  subst hx hy
  rw [nI_eq ha hb]
  exact ⟨f, g⟩
theorem pk_in {x : Int32} (n N : Nat) (h : n < N) (hx : x = nI n := by rfl) (hN : N < 2 ^ 31 := by omega) : vp_in x N := by
  subst hx
  exact vp_in_nI h hN
theorem pk_cl {x : Int32} (n : Nat) (hx : x = nI n := by rfl) (h : n < 2 ^ 31 := by omega) : x.toNatClampNeg = n := by
  subst hx
  exact nI_clamp h
theorem pk_tn {n : Nat} (h : n < 2 ^ 32) : (nI n).toBitVec.toNat = n := Nat.mod_eq_of_lt h
theorem pk_and (x : Int32) {m : Int32} (k : Nat) (hm : m.toBitVec.toNat = 2 ^ k - 1) : x &&& m = nI (x.toBitVec.toNat % 2 ^ k) := by
  apply Int32.toBitVec_inj.mp
  apply BitVec.eq_of_toNat_eq
  rw [Int32.toBitVec_and, BitVec.toNat_and, hm, Nat.and_two_pow_sub_one_eq_mod]
  show _ = (BitVec.ofNat 32 _).toNat
  rw [BitVec.toNat_ofNat]
  exact (Nat.mod_eq_of_lt (Nat.lt_of_le_of_lt (Nat.mod_le _ _) x.toBitVec.isLt)).symm
theorem pk_andN {n : Nat} (h : n < 2 ^ 32) {m : Int32} (k : Nat) (hm : m.toBitVec.toNat = 2 ^ k - 1) : nI n &&& m = nI (n % 2 ^ k) := by
  rw [pk_and _ k hm, pk_tn h]
theorem pk_andE (x : Int32) {m : Int32} (k : Nat) (hm : m.toBitVec.toNat = 2 ^ k - 1) : ∃ j : Nat, j < 2 ^ k ∧ x &&& m = nI j := ⟨_, Nat.mod_lt _ (Nat.two_pow_pos k), pk_and x k hm⟩
theorem pk_andIn (x : Int32) {m : Int32} (k : Nat) (hm : m.toBitVec.toNat = 2 ^ k - 1) (hk : k ≤ 30) : vp_in (x &&& m) (2 ^ k) := by
  obtain ⟨j, hj, e⟩ := pk_andE x k hm
  rw [e]
  exact vp_in_nI hj (Nat.lt_of_le_of_lt (Nat.pow_le_pow_right (by decide) hk) (by decide))
theorem pk_shl (a s : Int32) (k : Nat) (hs : (s.toBitVec.smod 32).toNat = k) : (a <<< s).toBitVec.toNat = a.toBitVec.toNat * 2 ^ k % 2 ^ 32 := by
  show (a.toBitVec <<< (s.toBitVec.smod 32).toNat).toNat = _
  rw [hs, BitVec.toNat_shiftLeft, Nat.shiftLeft_eq]
theorem pk_shlN {n : Nat} (s : Int32) (k : Nat) (hs : (s.toBitVec.smod 32).toNat = k) (h : n * 2 ^ k < 2 ^ 32) : nI n <<< s = nI (n * 2 ^ k) := by
  apply Int32.toBitVec_inj.mp
  apply BitVec.eq_of_toNat_eq
  have hn : n < 2 ^ 32 := Nat.lt_of_le_of_lt (Nat.le_mul_of_pos_right n (Nat.two_pow_pos k)) h
  rw [pk_shl _ _ k hs, pk_tn hn, pk_tn h, Nat.mod_eq_of_lt h]
theorem pk_shr (a s : Int32) (k : Nat) (hs : (s.toBitVec.smod 32).toNat = k) : (a >>> s).toInt = a.toInt >>> k := by
  show (a.toBitVec.sshiftRight (s.toBitVec.smod 32).toNat).toInt = _
  rw [hs, BitVec.toInt_sshiftRight]
  rfl
theorem pk_shrN {n : Nat} (h : n < 2 ^ 31) (s : Int32) (k : Nat) (hs : (s.toBitVec.smod 32).toNat = k) : nI n >>> s = nI (n / 2 ^ k) := by
  apply Int32.toInt_inj.mp
  have h2 : n / 2 ^ k ≤ n := Nat.div_le_self _ _
  rw [pk_shr _ _ k hs, nI_toInt h, nI_toInt (by omega), Int.shiftRight_eq_div_pow]
  rfl
theorem pk_ushr (x s : Int32) (k : Nat) (hs : ((s.toUInt32 &&& Int32.toUInt32 31).toBitVec % 32).toNat = k) : (x.toUInt32 >>> (s.toUInt32 &&& Int32.toUInt32 31)).toInt32.toBitVec.toNat = x.toBitVec.toNat / 2 ^ k := by
  have e : (x.toUInt32 >>> (s.toUInt32 &&& Int32.toUInt32 31)).toInt32.toBitVec = x.toBitVec >>> k := by
    rw [← hs]
    exact UInt32.toBitVec_shiftRight _ _
  rw [e, BitVec.toNat_ushiftRight, Nat.shiftRight_eq_div_pow]
theorem pk_ushrN {n : Nat} (hn : n < 2 ^ 32) (s : Int32) (k : Nat) (hs : ((s.toUInt32 &&& Int32.toUInt32 31).toBitVec % 32).toNat = k) : ((nI n).toUInt32 >>> (s.toUInt32 &&& Int32.toUInt32 31)).toInt32 = nI (n / 2 ^ k) := by
  apply Int32.toBitVec_inj.mp
  apply BitVec.eq_of_toNat_eq
  rw [pk_ushr _ s k hs, pk_tn hn, pk_tn (Nat.lt_of_le_of_lt (Nat.div_le_self _ _) hn)]
theorem pk_nb (z : Int32) : narrow .byte (.int z.toInt8.toInt32) = .int z.toInt8.toInt32 := congrArg Value.int (by simp)
theorem pk_ns (z : Int32) : narrow .short (.int z.toInt16.toInt32) = .int z.toInt16.toInt32 := congrArg Value.int (by simp)
theorem pk_fb (r : Int32) : fits .byte (.int r.toInt8.toInt32) = true := by
  have ⟨a, b⟩ := lg_i2b_range r
  have h1 : (-128 : Int32).toInt = -128 := by decide
  have h2 : (127 : Int32).toInt = 127 := by decide
  simp only [fits, Bool.and_eq_true, decide_eq_true_eq, Int32.le_iff_toInt_le, h1, h2]
  omega
theorem pk_fs (r : Int32) : fits .short (.int r.toInt16.toInt32) = true := by
  have ⟨a, b⟩ := lg_i2s_range r
  have h1 : (-32768 : Int32).toInt = -32768 := by decide
  have h2 : (32767 : Int32).toInt = 32767 := by decide
  simp only [fits, Bool.and_eq_true, decide_eq_true_eq, Int32.le_iff_toInt_le, h1, h2]
  omega
theorem pk_charN {q : Nat} (hq : q < 65536) : narrow .char (.int (nI q)) = .int (nI q) ∧ fits .char (.int (nI q)) = true := by
  constructor
  · have e : (nI q).toUInt32.toUInt16.toUInt32.toInt32 = nI q := by
      apply Int32.toBitVec_inj.mp
      apply BitVec.eq_of_toNat_eq
      show (nI q).toUInt32.toUInt16.toUInt32.toNat = q % 2 ^ 32
      rw [UInt16.toNat_toUInt32, UInt32.toNat_toUInt16, show (nI q).toUInt32.toNat = q % 2 ^ 32 from rfl]
      omega
    exact congrArg Value.int e
  · have a : (0 : Int32) ≤ nI q := nI_pos' (by omega)
    have b : nI q ≤ 65535 := nI_le (b := 65535) (by omega) (by decide)
    show (decide ((0 : Int32) ≤ nI q) && decide (nI q ≤ 65535)) = true
    rw [decide_eq_true a, decide_eq_true b]
    rfl
theorem pk_char (x : Int32) : (x.toUInt32 % 65536).toInt32 = nI (x.toBitVec.toNat % 65536) := by
  apply Int32.toBitVec_inj.mp
  apply BitVec.eq_of_toNat_eq
  rw [pk_tn (by omega)]
  show (x.toUInt32 % 65536).toNat = _
  rw [UInt32.toNat_mod]
  rfl
theorem pk_nc (x : Int32) : narrow .char (.int (x.toUInt32 % 65536).toInt32) = .int (x.toUInt32 % 65536).toInt32 := by
  rw [pk_char]
  exact (pk_charN (Nat.mod_lt _ (by decide))).1
theorem pk_fc (x : Int32) : fits .char (.int (x.toUInt32 % 65536).toInt32) = true := by
  rw [pk_char]
  exact (pk_charN (Nat.mod_lt _ (by decide))).2
theorem pk_vb (z : Int32) : vp_nar .byte z.toInt8.toInt32 = z.toInt8.toInt32 := by rw [vp_nar_byte]; simp
theorem pk_vs (z : Int32) : vp_nar .short z.toInt16.toInt32 = z.toInt16.toInt32 := by rw [vp_nar_short]; simp
theorem pk_vc (z : Int32) : vp_nar .char (z.toUInt32 % 65536).toInt32 = (z.toUInt32 % 65536).toInt32 := Value.int.inj (pk_nc z)
theorem pk_lT {n : Nat} (h : n < 2 ^ 63) : (lN n).toInt = (n : Int) := lg_ofNat_toInt h
theorem pk_lLT {a b : Nat} (ha : a < 2 ^ 63) (hb : b < 2 ^ 63) : lN a < lN b ↔ a < b := by
  rw [Int64.lt_iff_toInt_lt, pk_lT ha, pk_lT hb]; omega
theorem pk_lLE {a b : Nat} (ha : a < 2 ^ 63) (hb : b < 2 ^ 63) : lN a ≤ lN b ↔ a ≤ b := by
  rw [Int64.le_iff_toInt_le, pk_lT ha, pk_lT hb]; omega
theorem pk_lEQ {a b : Nat} (ha : a < 2 ^ 63) (hb : b < 2 ^ 63) : lN a = lN b ↔ a = b := by
  rw [← Int64.toInt_inj, pk_lT ha, pk_lT hb]; omega
theorem pk_lOf {x : Int64} (h : ¬ x < 0) : ∃ k : Nat, k < 2 ^ 63 ∧ x = lN k := by
  rw [Int64.lt_iff_toInt_lt] at h
  have h0 : (0 : Int64).toInt = 0 := by decide
  have hx := Int64.toInt_lt x
  refine ⟨x.toInt.toNat, by omega, Int64.toInt_inj.mp ?_⟩
  rw [pk_lT (by omega)]
  omega
theorem pk_lDiv {a b : Nat} (ha : a < 2 ^ 63) (h0 : 0 < b) (hb : b < 2 ^ 63) : lN a / lN b = lN (a / b) := by
  apply Int64.toInt_inj.mp
  rw [lg_ldiv_nonneg (by rw [pk_lT ha]; omega) (by rw [pk_lT hb]; omega), pk_lT ha, pk_lT hb, pk_lT (Nat.lt_of_le_of_lt (Nat.div_le_self a b) ha)]
  rfl
theorem pk_lRem {a b : Nat} (ha : a < 2 ^ 63) (h0 : 0 < b) (hb : b < 2 ^ 63) : lN a - lN a / lN b * lN b = lN (a % b) := by
  rw [pk_lDiv ha h0 hb, lN_mul, lN_sub (Nat.div_mul_le_self a b)]
  exact congrArg lN (by have := Nat.div_add_mod' a b; omega)
theorem pk_loop {σ : Type} (W : Nat → Nat → σ → Prop) (I : Nat → σ → Prop) (e i0 : Nat) (s : σ) (hi : i0 ≤ e) (h0 : I i0 s) (hx : ∀ n s, I e s → W (n + 1) e s)
    (hs : ∀ n i s, i < e → I i s → (∀ s', I (i + 1) s' → W n (i + 1) s') → W (n + 1) i s) : ∃ n, W n i0 s :=
  ⟨e + 1, loop_i W I e hx hs (e + 1) i0 s hi (by omega) h0⟩
theorem pk_loopD {σ : Type} (W : Nat → Nat → σ → Prop) (I : Nat → σ → Prop) (hx : ∀ n s, I 0 s → W (n + 1) 0 s)
    (hs : ∀ n i s, I (i + 1) s → (∀ s', I i s' → W n i s') → W (n + 1) (i + 1) s) : ∀ (e : Nat) (s : σ), I e s → W (e + 1) e s := by
  intro e
  induction e with
  | zero => exact fun s h => hx 0 s h
  | succ e ih => exact fun s h => hs (e + 1) e s h (fun s' h' => ih s' h')
theorem lp1 {A1 : Type} (W : Nat → A1 → Prop) (I : A1 → Prop) (μ : A1 → Nat) (hs : ∀ (n : Nat) (a1 : A1), I a1 → (∀ (b1 : A1), I b1 → μ b1 < μ a1 → W n b1) → W (n + 1) a1) (a1 : A1) (h : I a1) : ∃ n, W n a1 :=
  loop_m (σ := A1) (fun n s => W n s) (fun s => I s) (fun s => μ s) (fun n s hI hk => hs n s hI (fun b1 h9 hm => hk b1 h9 hm)) a1 h
theorem lp2 {A1 A2 : Type} (W : Nat → A1 → A2 → Prop) (I : A1 → A2 → Prop) (μ : A1 → A2 → Nat) (hs : ∀ (n : Nat) (a1 : A1) (a2 : A2), I a1 a2 → (∀ (b1 : A1) (b2 : A2), I b1 b2 → μ b1 b2 < μ a1 a2 → W n b1 b2) → W (n + 1) a1 a2) (a1 : A1) (a2 : A2) (h : I a1 a2) : ∃ n, W n a1 a2 :=
  loop_m (σ := A1 × A2) (fun n s => W n s.1 s.2) (fun s => I s.1 s.2) (fun s => μ s.1 s.2) (fun n s hI hk => hs n s.1 s.2 hI (fun b1 b2 h9 hm => hk (b1, b2) h9 hm)) (a1, a2) h
theorem lp3 {A1 A2 A3 : Type} (W : Nat → A1 → A2 → A3 → Prop) (I : A1 → A2 → A3 → Prop) (μ : A1 → A2 → A3 → Nat) (hs : ∀ (n : Nat) (a1 : A1) (a2 : A2) (a3 : A3), I a1 a2 a3 → (∀ (b1 : A1) (b2 : A2) (b3 : A3), I b1 b2 b3 → μ b1 b2 b3 < μ a1 a2 a3 → W n b1 b2 b3) → W (n + 1) a1 a2 a3) (a1 : A1) (a2 : A2) (a3 : A3) (h : I a1 a2 a3) : ∃ n, W n a1 a2 a3 :=
  loop_m (σ := A1 × A2 × A3) (fun n s => W n s.1 s.2.1 s.2.2) (fun s => I s.1 s.2.1 s.2.2) (fun s => μ s.1 s.2.1 s.2.2) (fun n s hI hk => hs n s.1 s.2.1 s.2.2 hI (fun b1 b2 b3 h9 hm => hk (b1, b2, b3) h9 hm)) (a1, a2, a3) h
theorem lp4 {A1 A2 A3 A4 : Type} (W : Nat → A1 → A2 → A3 → A4 → Prop) (I : A1 → A2 → A3 → A4 → Prop) (μ : A1 → A2 → A3 → A4 → Nat) (hs : ∀ (n : Nat) (a1 : A1) (a2 : A2) (a3 : A3) (a4 : A4), I a1 a2 a3 a4 → (∀ (b1 : A1) (b2 : A2) (b3 : A3) (b4 : A4), I b1 b2 b3 b4 → μ b1 b2 b3 b4 < μ a1 a2 a3 a4 → W n b1 b2 b3 b4) → W (n + 1) a1 a2 a3 a4) (a1 : A1) (a2 : A2) (a3 : A3) (a4 : A4) (h : I a1 a2 a3 a4) : ∃ n, W n a1 a2 a3 a4 :=
  loop_m (σ := A1 × A2 × A3 × A4) (fun n s => W n s.1 s.2.1 s.2.2.1 s.2.2.2) (fun s => I s.1 s.2.1 s.2.2.1 s.2.2.2) (fun s => μ s.1 s.2.1 s.2.2.1 s.2.2.2) (fun n s hI hk => hs n s.1 s.2.1 s.2.2.1 s.2.2.2 hI (fun b1 b2 b3 b4 h9 hm => hk (b1, b2, b3, b4) h9 hm)) (a1, a2, a3, a4) h
theorem lp5 {A1 A2 A3 A4 A5 : Type} (W : Nat → A1 → A2 → A3 → A4 → A5 → Prop) (I : A1 → A2 → A3 → A4 → A5 → Prop) (μ : A1 → A2 → A3 → A4 → A5 → Nat) (hs : ∀ (n : Nat) (a1 : A1) (a2 : A2) (a3 : A3) (a4 : A4) (a5 : A5), I a1 a2 a3 a4 a5 → (∀ (b1 : A1) (b2 : A2) (b3 : A3) (b4 : A4) (b5 : A5), I b1 b2 b3 b4 b5 → μ b1 b2 b3 b4 b5 < μ a1 a2 a3 a4 a5 → W n b1 b2 b3 b4 b5) → W (n + 1) a1 a2 a3 a4 a5) (a1 : A1) (a2 : A2) (a3 : A3) (a4 : A4) (a5 : A5) (h : I a1 a2 a3 a4 a5) : ∃ n, W n a1 a2 a3 a4 a5 :=
  loop_m (σ := A1 × A2 × A3 × A4 × A5) (fun n s => W n s.1 s.2.1 s.2.2.1 s.2.2.2.1 s.2.2.2.2) (fun s => I s.1 s.2.1 s.2.2.1 s.2.2.2.1 s.2.2.2.2) (fun s => μ s.1 s.2.1 s.2.2.1 s.2.2.2.1 s.2.2.2.2) (fun n s hI hk => hs n s.1 s.2.1 s.2.2.1 s.2.2.2.1 s.2.2.2.2 hI (fun b1 b2 b3 b4 b5 h9 hm => hk (b1, b2, b3, b4, b5) h9 hm)) (a1, a2, a3, a4, a5) h
theorem lp6 {A1 A2 A3 A4 A5 A6 : Type} (W : Nat → A1 → A2 → A3 → A4 → A5 → A6 → Prop) (I : A1 → A2 → A3 → A4 → A5 → A6 → Prop) (μ : A1 → A2 → A3 → A4 → A5 → A6 → Nat) (hs : ∀ (n : Nat) (a1 : A1) (a2 : A2) (a3 : A3) (a4 : A4) (a5 : A5) (a6 : A6), I a1 a2 a3 a4 a5 a6 → (∀ (b1 : A1) (b2 : A2) (b3 : A3) (b4 : A4) (b5 : A5) (b6 : A6), I b1 b2 b3 b4 b5 b6 → μ b1 b2 b3 b4 b5 b6 < μ a1 a2 a3 a4 a5 a6 → W n b1 b2 b3 b4 b5 b6) → W (n + 1) a1 a2 a3 a4 a5 a6) (a1 : A1) (a2 : A2) (a3 : A3) (a4 : A4) (a5 : A5) (a6 : A6) (h : I a1 a2 a3 a4 a5 a6) : ∃ n, W n a1 a2 a3 a4 a5 a6 :=
  loop_m (σ := A1 × A2 × A3 × A4 × A5 × A6) (fun n s => W n s.1 s.2.1 s.2.2.1 s.2.2.2.1 s.2.2.2.2.1 s.2.2.2.2.2) (fun s => I s.1 s.2.1 s.2.2.1 s.2.2.2.1 s.2.2.2.2.1 s.2.2.2.2.2) (fun s => μ s.1 s.2.1 s.2.2.1 s.2.2.2.1 s.2.2.2.2.1 s.2.2.2.2.2) (fun n s hI hk => hs n s.1 s.2.1 s.2.2.1 s.2.2.2.1 s.2.2.2.2.1 s.2.2.2.2.2 hI (fun b1 b2 b3 b4 b5 b6 h9 hm => hk (b1, b2, b3, b4, b5, b6) h9 hm)) (a1, a2, a3, a4, a5, a6) h
theorem lp7 {A1 A2 A3 A4 A5 A6 A7 : Type} (W : Nat → A1 → A2 → A3 → A4 → A5 → A6 → A7 → Prop) (I : A1 → A2 → A3 → A4 → A5 → A6 → A7 → Prop) (μ : A1 → A2 → A3 → A4 → A5 → A6 → A7 → Nat) (hs : ∀ (n : Nat) (a1 : A1) (a2 : A2) (a3 : A3) (a4 : A4) (a5 : A5) (a6 : A6) (a7 : A7), I a1 a2 a3 a4 a5 a6 a7 → (∀ (b1 : A1) (b2 : A2) (b3 : A3) (b4 : A4) (b5 : A5) (b6 : A6) (b7 : A7), I b1 b2 b3 b4 b5 b6 b7 → μ b1 b2 b3 b4 b5 b6 b7 < μ a1 a2 a3 a4 a5 a6 a7 → W n b1 b2 b3 b4 b5 b6 b7) → W (n + 1) a1 a2 a3 a4 a5 a6 a7) (a1 : A1) (a2 : A2) (a3 : A3) (a4 : A4) (a5 : A5) (a6 : A6) (a7 : A7) (h : I a1 a2 a3 a4 a5 a6 a7) : ∃ n, W n a1 a2 a3 a4 a5 a6 a7 :=
  loop_m (σ := A1 × A2 × A3 × A4 × A5 × A6 × A7) (fun n s => W n s.1 s.2.1 s.2.2.1 s.2.2.2.1 s.2.2.2.2.1 s.2.2.2.2.2.1 s.2.2.2.2.2.2) (fun s => I s.1 s.2.1 s.2.2.1 s.2.2.2.1 s.2.2.2.2.1 s.2.2.2.2.2.1 s.2.2.2.2.2.2) (fun s => μ s.1 s.2.1 s.2.2.1 s.2.2.2.1 s.2.2.2.2.1 s.2.2.2.2.2.1 s.2.2.2.2.2.2) (fun n s hI hk => hs n s.1 s.2.1 s.2.2.1 s.2.2.2.1 s.2.2.2.2.1 s.2.2.2.2.2.1 s.2.2.2.2.2.2 hI (fun b1 b2 b3 b4 b5 b6 b7 h9 hm => hk (b1, b2, b3, b4, b5, b6, b7) h9 hm)) (a1, a2, a3, a4, a5, a6, a7) h
theorem lp8 {A1 A2 A3 A4 A5 A6 A7 A8 : Type} (W : Nat → A1 → A2 → A3 → A4 → A5 → A6 → A7 → A8 → Prop) (I : A1 → A2 → A3 → A4 → A5 → A6 → A7 → A8 → Prop) (μ : A1 → A2 → A3 → A4 → A5 → A6 → A7 → A8 → Nat) (hs : ∀ (n : Nat) (a1 : A1) (a2 : A2) (a3 : A3) (a4 : A4) (a5 : A5) (a6 : A6) (a7 : A7) (a8 : A8), I a1 a2 a3 a4 a5 a6 a7 a8 → (∀ (b1 : A1) (b2 : A2) (b3 : A3) (b4 : A4) (b5 : A5) (b6 : A6) (b7 : A7) (b8 : A8), I b1 b2 b3 b4 b5 b6 b7 b8 → μ b1 b2 b3 b4 b5 b6 b7 b8 < μ a1 a2 a3 a4 a5 a6 a7 a8 → W n b1 b2 b3 b4 b5 b6 b7 b8) → W (n + 1) a1 a2 a3 a4 a5 a6 a7 a8) (a1 : A1) (a2 : A2) (a3 : A3) (a4 : A4) (a5 : A5) (a6 : A6) (a7 : A7) (a8 : A8) (h : I a1 a2 a3 a4 a5 a6 a7 a8) : ∃ n, W n a1 a2 a3 a4 a5 a6 a7 a8 :=
  loop_m (σ := A1 × A2 × A3 × A4 × A5 × A6 × A7 × A8) (fun n s => W n s.1 s.2.1 s.2.2.1 s.2.2.2.1 s.2.2.2.2.1 s.2.2.2.2.2.1 s.2.2.2.2.2.2.1 s.2.2.2.2.2.2.2) (fun s => I s.1 s.2.1 s.2.2.1 s.2.2.2.1 s.2.2.2.2.1 s.2.2.2.2.2.1 s.2.2.2.2.2.2.1 s.2.2.2.2.2.2.2) (fun s => μ s.1 s.2.1 s.2.2.1 s.2.2.2.1 s.2.2.2.2.1 s.2.2.2.2.2.1 s.2.2.2.2.2.2.1 s.2.2.2.2.2.2.2) (fun n s hI hk => hs n s.1 s.2.1 s.2.2.1 s.2.2.2.1 s.2.2.2.2.1 s.2.2.2.2.2.1 s.2.2.2.2.2.2.1 s.2.2.2.2.2.2.2 hI (fun b1 b2 b3 b4 b5 b6 b7 b8 h9 hm => hk (b1, b2, b3, b4, b5, b6, b7, b8) h9 hm)) (a1, a2, a3, a4, a5, a6, a7, a8) h
theorem lp9 {A1 A2 A3 A4 A5 A6 A7 A8 A9 : Type} (W : Nat → A1 → A2 → A3 → A4 → A5 → A6 → A7 → A8 → A9 → Prop) (I : A1 → A2 → A3 → A4 → A5 → A6 → A7 → A8 → A9 → Prop) (μ : A1 → A2 → A3 → A4 → A5 → A6 → A7 → A8 → A9 → Nat) (hs : ∀ (n : Nat) (a1 : A1) (a2 : A2) (a3 : A3) (a4 : A4) (a5 : A5) (a6 : A6) (a7 : A7) (a8 : A8) (a9 : A9), I a1 a2 a3 a4 a5 a6 a7 a8 a9 → (∀ (b1 : A1) (b2 : A2) (b3 : A3) (b4 : A4) (b5 : A5) (b6 : A6) (b7 : A7) (b8 : A8) (b9 : A9), I b1 b2 b3 b4 b5 b6 b7 b8 b9 → μ b1 b2 b3 b4 b5 b6 b7 b8 b9 < μ a1 a2 a3 a4 a5 a6 a7 a8 a9 → W n b1 b2 b3 b4 b5 b6 b7 b8 b9) → W (n + 1) a1 a2 a3 a4 a5 a6 a7 a8 a9) (a1 : A1) (a2 : A2) (a3 : A3) (a4 : A4) (a5 : A5) (a6 : A6) (a7 : A7) (a8 : A8) (a9 : A9) (h : I a1 a2 a3 a4 a5 a6 a7 a8 a9) : ∃ n, W n a1 a2 a3 a4 a5 a6 a7 a8 a9 :=
  loop_m (σ := A1 × A2 × A3 × A4 × A5 × A6 × A7 × A8 × A9) (fun n s => W n s.1 s.2.1 s.2.2.1 s.2.2.2.1 s.2.2.2.2.1 s.2.2.2.2.2.1 s.2.2.2.2.2.2.1 s.2.2.2.2.2.2.2.1 s.2.2.2.2.2.2.2.2) (fun s => I s.1 s.2.1 s.2.2.1 s.2.2.2.1 s.2.2.2.2.1 s.2.2.2.2.2.1 s.2.2.2.2.2.2.1 s.2.2.2.2.2.2.2.1 s.2.2.2.2.2.2.2.2) (fun s => μ s.1 s.2.1 s.2.2.1 s.2.2.2.1 s.2.2.2.2.1 s.2.2.2.2.2.1 s.2.2.2.2.2.2.1 s.2.2.2.2.2.2.2.1 s.2.2.2.2.2.2.2.2) (fun n s hI hk => hs n s.1 s.2.1 s.2.2.1 s.2.2.2.1 s.2.2.2.2.1 s.2.2.2.2.2.1 s.2.2.2.2.2.2.1 s.2.2.2.2.2.2.2.1 s.2.2.2.2.2.2.2.2 hI (fun b1 b2 b3 b4 b5 b6 b7 b8 b9 h9 hm => hk (b1, b2, b3, b4, b5, b6, b7, b8, b9) h9 hm)) (a1, a2, a3, a4, a5, a6, a7, a8, a9) h
theorem lp10 {A1 A2 A3 A4 A5 A6 A7 A8 A9 A10 : Type} (W : Nat → A1 → A2 → A3 → A4 → A5 → A6 → A7 → A8 → A9 → A10 → Prop) (I : A1 → A2 → A3 → A4 → A5 → A6 → A7 → A8 → A9 → A10 → Prop) (μ : A1 → A2 → A3 → A4 → A5 → A6 → A7 → A8 → A9 → A10 → Nat) (hs : ∀ (n : Nat) (a1 : A1) (a2 : A2) (a3 : A3) (a4 : A4) (a5 : A5) (a6 : A6) (a7 : A7) (a8 : A8) (a9 : A9) (a10 : A10), I a1 a2 a3 a4 a5 a6 a7 a8 a9 a10 → (∀ (b1 : A1) (b2 : A2) (b3 : A3) (b4 : A4) (b5 : A5) (b6 : A6) (b7 : A7) (b8 : A8) (b9 : A9) (b10 : A10), I b1 b2 b3 b4 b5 b6 b7 b8 b9 b10 → μ b1 b2 b3 b4 b5 b6 b7 b8 b9 b10 < μ a1 a2 a3 a4 a5 a6 a7 a8 a9 a10 → W n b1 b2 b3 b4 b5 b6 b7 b8 b9 b10) → W (n + 1) a1 a2 a3 a4 a5 a6 a7 a8 a9 a10) (a1 : A1) (a2 : A2) (a3 : A3) (a4 : A4) (a5 : A5) (a6 : A6) (a7 : A7) (a8 : A8) (a9 : A9) (a10 : A10) (h : I a1 a2 a3 a4 a5 a6 a7 a8 a9 a10) : ∃ n, W n a1 a2 a3 a4 a5 a6 a7 a8 a9 a10 :=
  loop_m (σ := A1 × A2 × A3 × A4 × A5 × A6 × A7 × A8 × A9 × A10) (fun n s => W n s.1 s.2.1 s.2.2.1 s.2.2.2.1 s.2.2.2.2.1 s.2.2.2.2.2.1 s.2.2.2.2.2.2.1 s.2.2.2.2.2.2.2.1 s.2.2.2.2.2.2.2.2.1 s.2.2.2.2.2.2.2.2.2) (fun s => I s.1 s.2.1 s.2.2.1 s.2.2.2.1 s.2.2.2.2.1 s.2.2.2.2.2.1 s.2.2.2.2.2.2.1 s.2.2.2.2.2.2.2.1 s.2.2.2.2.2.2.2.2.1 s.2.2.2.2.2.2.2.2.2) (fun s => μ s.1 s.2.1 s.2.2.1 s.2.2.2.1 s.2.2.2.2.1 s.2.2.2.2.2.1 s.2.2.2.2.2.2.1 s.2.2.2.2.2.2.2.1 s.2.2.2.2.2.2.2.2.1 s.2.2.2.2.2.2.2.2.2) (fun n s hI hk => hs n s.1 s.2.1 s.2.2.1 s.2.2.2.1 s.2.2.2.2.1 s.2.2.2.2.2.1 s.2.2.2.2.2.2.1 s.2.2.2.2.2.2.2.1 s.2.2.2.2.2.2.2.2.1 s.2.2.2.2.2.2.2.2.2 hI (fun b1 b2 b3 b4 b5 b6 b7 b8 b9 b10 h9 hm => hk (b1, b2, b3, b4, b5, b6, b7, b8, b9, b10) h9 hm)) (a1, a2, a3, a4, a5, a6, a7, a8, a9, a10) h
theorem lp11 {A1 A2 A3 A4 A5 A6 A7 A8 A9 A10 A11 : Type} (W : Nat → A1 → A2 → A3 → A4 → A5 → A6 → A7 → A8 → A9 → A10 → A11 → Prop) (I : A1 → A2 → A3 → A4 → A5 → A6 → A7 → A8 → A9 → A10 → A11 → Prop) (μ : A1 → A2 → A3 → A4 → A5 → A6 → A7 → A8 → A9 → A10 → A11 → Nat) (hs : ∀ (n : Nat) (a1 : A1) (a2 : A2) (a3 : A3) (a4 : A4) (a5 : A5) (a6 : A6) (a7 : A7) (a8 : A8) (a9 : A9) (a10 : A10) (a11 : A11), I a1 a2 a3 a4 a5 a6 a7 a8 a9 a10 a11 → (∀ (b1 : A1) (b2 : A2) (b3 : A3) (b4 : A4) (b5 : A5) (b6 : A6) (b7 : A7) (b8 : A8) (b9 : A9) (b10 : A10) (b11 : A11), I b1 b2 b3 b4 b5 b6 b7 b8 b9 b10 b11 → μ b1 b2 b3 b4 b5 b6 b7 b8 b9 b10 b11 < μ a1 a2 a3 a4 a5 a6 a7 a8 a9 a10 a11 → W n b1 b2 b3 b4 b5 b6 b7 b8 b9 b10 b11) → W (n + 1) a1 a2 a3 a4 a5 a6 a7 a8 a9 a10 a11) (a1 : A1) (a2 : A2) (a3 : A3) (a4 : A4) (a5 : A5) (a6 : A6) (a7 : A7) (a8 : A8) (a9 : A9) (a10 : A10) (a11 : A11) (h : I a1 a2 a3 a4 a5 a6 a7 a8 a9 a10 a11) : ∃ n, W n a1 a2 a3 a4 a5 a6 a7 a8 a9 a10 a11 :=
  loop_m (σ := A1 × A2 × A3 × A4 × A5 × A6 × A7 × A8 × A9 × A10 × A11) (fun n s => W n s.1 s.2.1 s.2.2.1 s.2.2.2.1 s.2.2.2.2.1 s.2.2.2.2.2.1 s.2.2.2.2.2.2.1 s.2.2.2.2.2.2.2.1 s.2.2.2.2.2.2.2.2.1 s.2.2.2.2.2.2.2.2.2.1 s.2.2.2.2.2.2.2.2.2.2) (fun s => I s.1 s.2.1 s.2.2.1 s.2.2.2.1 s.2.2.2.2.1 s.2.2.2.2.2.1 s.2.2.2.2.2.2.1 s.2.2.2.2.2.2.2.1 s.2.2.2.2.2.2.2.2.1 s.2.2.2.2.2.2.2.2.2.1 s.2.2.2.2.2.2.2.2.2.2) (fun s => μ s.1 s.2.1 s.2.2.1 s.2.2.2.1 s.2.2.2.2.1 s.2.2.2.2.2.1 s.2.2.2.2.2.2.1 s.2.2.2.2.2.2.2.1 s.2.2.2.2.2.2.2.2.1 s.2.2.2.2.2.2.2.2.2.1 s.2.2.2.2.2.2.2.2.2.2) (fun n s hI hk => hs n s.1 s.2.1 s.2.2.1 s.2.2.2.1 s.2.2.2.2.1 s.2.2.2.2.2.1 s.2.2.2.2.2.2.1 s.2.2.2.2.2.2.2.1 s.2.2.2.2.2.2.2.2.1 s.2.2.2.2.2.2.2.2.2.1 s.2.2.2.2.2.2.2.2.2.2 hI (fun b1 b2 b3 b4 b5 b6 b7 b8 b9 b10 b11 h9 hm => hk (b1, b2, b3, b4, b5, b6, b7, b8, b9, b10, b11) h9 hm)) (a1, a2, a3, a4, a5, a6, a7, a8, a9, a10, a11) h
theorem lp12 {A1 A2 A3 A4 A5 A6 A7 A8 A9 A10 A11 A12 : Type} (W : Nat → A1 → A2 → A3 → A4 → A5 → A6 → A7 → A8 → A9 → A10 → A11 → A12 → Prop) (I : A1 → A2 → A3 → A4 → A5 → A6 → A7 → A8 → A9 → A10 → A11 → A12 → Prop) (μ : A1 → A2 → A3 → A4 → A5 → A6 → A7 → A8 → A9 → A10 → A11 → A12 → Nat) (hs : ∀ (n : Nat) (a1 : A1) (a2 : A2) (a3 : A3) (a4 : A4) (a5 : A5) (a6 : A6) (a7 : A7) (a8 : A8) (a9 : A9) (a10 : A10) (a11 : A11) (a12 : A12), I a1 a2 a3 a4 a5 a6 a7 a8 a9 a10 a11 a12 → (∀ (b1 : A1) (b2 : A2) (b3 : A3) (b4 : A4) (b5 : A5) (b6 : A6) (b7 : A7) (b8 : A8) (b9 : A9) (b10 : A10) (b11 : A11) (b12 : A12), I b1 b2 b3 b4 b5 b6 b7 b8 b9 b10 b11 b12 → μ b1 b2 b3 b4 b5 b6 b7 b8 b9 b10 b11 b12 < μ a1 a2 a3 a4 a5 a6 a7 a8 a9 a10 a11 a12 → W n b1 b2 b3 b4 b5 b6 b7 b8 b9 b10 b11 b12) → W (n + 1) a1 a2 a3 a4 a5 a6 a7 a8 a9 a10 a11 a12) (a1 : A1) (a2 : A2) (a3 : A3) (a4 : A4) (a5 : A5) (a6 : A6) (a7 : A7) (a8 : A8) (a9 : A9) (a10 : A10) (a11 : A11) (a12 : A12) (h : I a1 a2 a3 a4 a5 a6 a7 a8 a9 a10 a11 a12) : ∃ n, W n a1 a2 a3 a4 a5 a6 a7 a8 a9 a10 a11 a12 :=
  loop_m (σ := A1 × A2 × A3 × A4 × A5 × A6 × A7 × A8 × A9 × A10 × A11 × A12) (fun n s => W n s.1 s.2.1 s.2.2.1 s.2.2.2.1 s.2.2.2.2.1 s.2.2.2.2.2.1 s.2.2.2.2.2.2.1 s.2.2.2.2.2.2.2.1 s.2.2.2.2.2.2.2.2.1 s.2.2.2.2.2.2.2.2.2.1 s.2.2.2.2.2.2.2.2.2.2.1 s.2.2.2.2.2.2.2.2.2.2.2) (fun s => I s.1 s.2.1 s.2.2.1 s.2.2.2.1 s.2.2.2.2.1 s.2.2.2.2.2.1 s.2.2.2.2.2.2.1 s.2.2.2.2.2.2.2.1 s.2.2.2.2.2.2.2.2.1 s.2.2.2.2.2.2.2.2.2.1 s.2.2.2.2.2.2.2.2.2.2.1 s.2.2.2.2.2.2.2.2.2.2.2) (fun s => μ s.1 s.2.1 s.2.2.1 s.2.2.2.1 s.2.2.2.2.1 s.2.2.2.2.2.1 s.2.2.2.2.2.2.1 s.2.2.2.2.2.2.2.1 s.2.2.2.2.2.2.2.2.1 s.2.2.2.2.2.2.2.2.2.1 s.2.2.2.2.2.2.2.2.2.2.1 s.2.2.2.2.2.2.2.2.2.2.2) (fun n s hI hk => hs n s.1 s.2.1 s.2.2.1 s.2.2.2.1 s.2.2.2.2.1 s.2.2.2.2.2.1 s.2.2.2.2.2.2.1 s.2.2.2.2.2.2.2.1 s.2.2.2.2.2.2.2.2.1 s.2.2.2.2.2.2.2.2.2.1 s.2.2.2.2.2.2.2.2.2.2.1 s.2.2.2.2.2.2.2.2.2.2.2 hI (fun b1 b2 b3 b4 b5 b6 b7 b8 b9 b10 b11 b12 h9 hm => hk (b1, b2, b3, b4, b5, b6, b7, b8, b9, b10, b11, b12) h9 hm)) (a1, a2, a3, a4, a5, a6, a7, a8, a9, a10, a11, a12) h
theorem lp13 {A1 A2 A3 A4 A5 A6 A7 A8 A9 A10 A11 A12 A13 : Type} (W : Nat → A1 → A2 → A3 → A4 → A5 → A6 → A7 → A8 → A9 → A10 → A11 → A12 → A13 → Prop) (I : A1 → A2 → A3 → A4 → A5 → A6 → A7 → A8 → A9 → A10 → A11 → A12 → A13 → Prop) (μ : A1 → A2 → A3 → A4 → A5 → A6 → A7 → A8 → A9 → A10 → A11 → A12 → A13 → Nat) (hs : ∀ (n : Nat) (a1 : A1) (a2 : A2) (a3 : A3) (a4 : A4) (a5 : A5) (a6 : A6) (a7 : A7) (a8 : A8) (a9 : A9) (a10 : A10) (a11 : A11) (a12 : A12) (a13 : A13), I a1 a2 a3 a4 a5 a6 a7 a8 a9 a10 a11 a12 a13 → (∀ (b1 : A1) (b2 : A2) (b3 : A3) (b4 : A4) (b5 : A5) (b6 : A6) (b7 : A7) (b8 : A8) (b9 : A9) (b10 : A10) (b11 : A11) (b12 : A12) (b13 : A13), I b1 b2 b3 b4 b5 b6 b7 b8 b9 b10 b11 b12 b13 → μ b1 b2 b3 b4 b5 b6 b7 b8 b9 b10 b11 b12 b13 < μ a1 a2 a3 a4 a5 a6 a7 a8 a9 a10 a11 a12 a13 → W n b1 b2 b3 b4 b5 b6 b7 b8 b9 b10 b11 b12 b13) → W (n + 1) a1 a2 a3 a4 a5 a6 a7 a8 a9 a10 a11 a12 a13) (a1 : A1) (a2 : A2) (a3 : A3) (a4 : A4) (a5 : A5) (a6 : A6) (a7 : A7) (a8 : A8) (a9 : A9) (a10 : A10) (a11 : A11) (a12 : A12) (a13 : A13) (h : I a1 a2 a3 a4 a5 a6 a7 a8 a9 a10 a11 a12 a13) : ∃ n, W n a1 a2 a3 a4 a5 a6 a7 a8 a9 a10 a11 a12 a13 :=
  loop_m (σ := A1 × A2 × A3 × A4 × A5 × A6 × A7 × A8 × A9 × A10 × A11 × A12 × A13) (fun n s => W n s.1 s.2.1 s.2.2.1 s.2.2.2.1 s.2.2.2.2.1 s.2.2.2.2.2.1 s.2.2.2.2.2.2.1 s.2.2.2.2.2.2.2.1 s.2.2.2.2.2.2.2.2.1 s.2.2.2.2.2.2.2.2.2.1 s.2.2.2.2.2.2.2.2.2.2.1 s.2.2.2.2.2.2.2.2.2.2.2.1 s.2.2.2.2.2.2.2.2.2.2.2.2) (fun s => I s.1 s.2.1 s.2.2.1 s.2.2.2.1 s.2.2.2.2.1 s.2.2.2.2.2.1 s.2.2.2.2.2.2.1 s.2.2.2.2.2.2.2.1 s.2.2.2.2.2.2.2.2.1 s.2.2.2.2.2.2.2.2.2.1 s.2.2.2.2.2.2.2.2.2.2.1 s.2.2.2.2.2.2.2.2.2.2.2.1 s.2.2.2.2.2.2.2.2.2.2.2.2) (fun s => μ s.1 s.2.1 s.2.2.1 s.2.2.2.1 s.2.2.2.2.1 s.2.2.2.2.2.1 s.2.2.2.2.2.2.1 s.2.2.2.2.2.2.2.1 s.2.2.2.2.2.2.2.2.1 s.2.2.2.2.2.2.2.2.2.1 s.2.2.2.2.2.2.2.2.2.2.1 s.2.2.2.2.2.2.2.2.2.2.2.1 s.2.2.2.2.2.2.2.2.2.2.2.2) (fun n s hI hk => hs n s.1 s.2.1 s.2.2.1 s.2.2.2.1 s.2.2.2.2.1 s.2.2.2.2.2.1 s.2.2.2.2.2.2.1 s.2.2.2.2.2.2.2.1 s.2.2.2.2.2.2.2.2.1 s.2.2.2.2.2.2.2.2.2.1 s.2.2.2.2.2.2.2.2.2.2.1 s.2.2.2.2.2.2.2.2.2.2.2.1 s.2.2.2.2.2.2.2.2.2.2.2.2 hI (fun b1 b2 b3 b4 b5 b6 b7 b8 b9 b10 b11 b12 b13 h9 hm => hk (b1, b2, b3, b4, b5, b6, b7, b8, b9, b10, b11, b12, b13) h9 hm)) (a1, a2, a3, a4, a5, a6, a7, a8, a9, a10, a11, a12, a13) h
theorem lp14 {A1 A2 A3 A4 A5 A6 A7 A8 A9 A10 A11 A12 A13 A14 : Type} (W : Nat → A1 → A2 → A3 → A4 → A5 → A6 → A7 → A8 → A9 → A10 → A11 → A12 → A13 → A14 → Prop) (I : A1 → A2 → A3 → A4 → A5 → A6 → A7 → A8 → A9 → A10 → A11 → A12 → A13 → A14 → Prop) (μ : A1 → A2 → A3 → A4 → A5 → A6 → A7 → A8 → A9 → A10 → A11 → A12 → A13 → A14 → Nat) (hs : ∀ (n : Nat) (a1 : A1) (a2 : A2) (a3 : A3) (a4 : A4) (a5 : A5) (a6 : A6) (a7 : A7) (a8 : A8) (a9 : A9) (a10 : A10) (a11 : A11) (a12 : A12) (a13 : A13) (a14 : A14), I a1 a2 a3 a4 a5 a6 a7 a8 a9 a10 a11 a12 a13 a14 → (∀ (b1 : A1) (b2 : A2) (b3 : A3) (b4 : A4) (b5 : A5) (b6 : A6) (b7 : A7) (b8 : A8) (b9 : A9) (b10 : A10) (b11 : A11) (b12 : A12) (b13 : A13) (b14 : A14), I b1 b2 b3 b4 b5 b6 b7 b8 b9 b10 b11 b12 b13 b14 → μ b1 b2 b3 b4 b5 b6 b7 b8 b9 b10 b11 b12 b13 b14 < μ a1 a2 a3 a4 a5 a6 a7 a8 a9 a10 a11 a12 a13 a14 → W n b1 b2 b3 b4 b5 b6 b7 b8 b9 b10 b11 b12 b13 b14) → W (n + 1) a1 a2 a3 a4 a5 a6 a7 a8 a9 a10 a11 a12 a13 a14) (a1 : A1) (a2 : A2) (a3 : A3) (a4 : A4) (a5 : A5) (a6 : A6) (a7 : A7) (a8 : A8) (a9 : A9) (a10 : A10) (a11 : A11) (a12 : A12) (a13 : A13) (a14 : A14) (h : I a1 a2 a3 a4 a5 a6 a7 a8 a9 a10 a11 a12 a13 a14) : ∃ n, W n a1 a2 a3 a4 a5 a6 a7 a8 a9 a10 a11 a12 a13 a14 :=
  loop_m (σ := A1 × A2 × A3 × A4 × A5 × A6 × A7 × A8 × A9 × A10 × A11 × A12 × A13 × A14) (fun n s => W n s.1 s.2.1 s.2.2.1 s.2.2.2.1 s.2.2.2.2.1 s.2.2.2.2.2.1 s.2.2.2.2.2.2.1 s.2.2.2.2.2.2.2.1 s.2.2.2.2.2.2.2.2.1 s.2.2.2.2.2.2.2.2.2.1 s.2.2.2.2.2.2.2.2.2.2.1 s.2.2.2.2.2.2.2.2.2.2.2.1 s.2.2.2.2.2.2.2.2.2.2.2.2.1 s.2.2.2.2.2.2.2.2.2.2.2.2.2) (fun s => I s.1 s.2.1 s.2.2.1 s.2.2.2.1 s.2.2.2.2.1 s.2.2.2.2.2.1 s.2.2.2.2.2.2.1 s.2.2.2.2.2.2.2.1 s.2.2.2.2.2.2.2.2.1 s.2.2.2.2.2.2.2.2.2.1 s.2.2.2.2.2.2.2.2.2.2.1 s.2.2.2.2.2.2.2.2.2.2.2.1 s.2.2.2.2.2.2.2.2.2.2.2.2.1 s.2.2.2.2.2.2.2.2.2.2.2.2.2) (fun s => μ s.1 s.2.1 s.2.2.1 s.2.2.2.1 s.2.2.2.2.1 s.2.2.2.2.2.1 s.2.2.2.2.2.2.1 s.2.2.2.2.2.2.2.1 s.2.2.2.2.2.2.2.2.1 s.2.2.2.2.2.2.2.2.2.1 s.2.2.2.2.2.2.2.2.2.2.1 s.2.2.2.2.2.2.2.2.2.2.2.1 s.2.2.2.2.2.2.2.2.2.2.2.2.1 s.2.2.2.2.2.2.2.2.2.2.2.2.2) (fun n s hI hk => hs n s.1 s.2.1 s.2.2.1 s.2.2.2.1 s.2.2.2.2.1 s.2.2.2.2.2.1 s.2.2.2.2.2.2.1 s.2.2.2.2.2.2.2.1 s.2.2.2.2.2.2.2.2.1 s.2.2.2.2.2.2.2.2.2.1 s.2.2.2.2.2.2.2.2.2.2.1 s.2.2.2.2.2.2.2.2.2.2.2.1 s.2.2.2.2.2.2.2.2.2.2.2.2.1 s.2.2.2.2.2.2.2.2.2.2.2.2.2 hI (fun b1 b2 b3 b4 b5 b6 b7 b8 b9 b10 b11 b12 b13 b14 h9 hm => hk (b1, b2, b3, b4, b5, b6, b7, b8, b9, b10, b11, b12, b13, b14) h9 hm)) (a1, a2, a3, a4, a5, a6, a7, a8, a9, a10, a11, a12, a13, a14) h
theorem lp15 {A1 A2 A3 A4 A5 A6 A7 A8 A9 A10 A11 A12 A13 A14 A15 : Type} (W : Nat → A1 → A2 → A3 → A4 → A5 → A6 → A7 → A8 → A9 → A10 → A11 → A12 → A13 → A14 → A15 → Prop) (I : A1 → A2 → A3 → A4 → A5 → A6 → A7 → A8 → A9 → A10 → A11 → A12 → A13 → A14 → A15 → Prop) (μ : A1 → A2 → A3 → A4 → A5 → A6 → A7 → A8 → A9 → A10 → A11 → A12 → A13 → A14 → A15 → Nat) (hs : ∀ (n : Nat) (a1 : A1) (a2 : A2) (a3 : A3) (a4 : A4) (a5 : A5) (a6 : A6) (a7 : A7) (a8 : A8) (a9 : A9) (a10 : A10) (a11 : A11) (a12 : A12) (a13 : A13) (a14 : A14) (a15 : A15), I a1 a2 a3 a4 a5 a6 a7 a8 a9 a10 a11 a12 a13 a14 a15 → (∀ (b1 : A1) (b2 : A2) (b3 : A3) (b4 : A4) (b5 : A5) (b6 : A6) (b7 : A7) (b8 : A8) (b9 : A9) (b10 : A10) (b11 : A11) (b12 : A12) (b13 : A13) (b14 : A14) (b15 : A15), I b1 b2 b3 b4 b5 b6 b7 b8 b9 b10 b11 b12 b13 b14 b15 → μ b1 b2 b3 b4 b5 b6 b7 b8 b9 b10 b11 b12 b13 b14 b15 < μ a1 a2 a3 a4 a5 a6 a7 a8 a9 a10 a11 a12 a13 a14 a15 → W n b1 b2 b3 b4 b5 b6 b7 b8 b9 b10 b11 b12 b13 b14 b15) → W (n + 1) a1 a2 a3 a4 a5 a6 a7 a8 a9 a10 a11 a12 a13 a14 a15) (a1 : A1) (a2 : A2) (a3 : A3) (a4 : A4) (a5 : A5) (a6 : A6) (a7 : A7) (a8 : A8) (a9 : A9) (a10 : A10) (a11 : A11) (a12 : A12) (a13 : A13) (a14 : A14) (a15 : A15) (h : I a1 a2 a3 a4 a5 a6 a7 a8 a9 a10 a11 a12 a13 a14 a15) : ∃ n, W n a1 a2 a3 a4 a5 a6 a7 a8 a9 a10 a11 a12 a13 a14 a15 :=
  loop_m (σ := A1 × A2 × A3 × A4 × A5 × A6 × A7 × A8 × A9 × A10 × A11 × A12 × A13 × A14 × A15) (fun n s => W n s.1 s.2.1 s.2.2.1 s.2.2.2.1 s.2.2.2.2.1 s.2.2.2.2.2.1 s.2.2.2.2.2.2.1 s.2.2.2.2.2.2.2.1 s.2.2.2.2.2.2.2.2.1 s.2.2.2.2.2.2.2.2.2.1 s.2.2.2.2.2.2.2.2.2.2.1 s.2.2.2.2.2.2.2.2.2.2.2.1 s.2.2.2.2.2.2.2.2.2.2.2.2.1 s.2.2.2.2.2.2.2.2.2.2.2.2.2.1 s.2.2.2.2.2.2.2.2.2.2.2.2.2.2) (fun s => I s.1 s.2.1 s.2.2.1 s.2.2.2.1 s.2.2.2.2.1 s.2.2.2.2.2.1 s.2.2.2.2.2.2.1 s.2.2.2.2.2.2.2.1 s.2.2.2.2.2.2.2.2.1 s.2.2.2.2.2.2.2.2.2.1 s.2.2.2.2.2.2.2.2.2.2.1 s.2.2.2.2.2.2.2.2.2.2.2.1 s.2.2.2.2.2.2.2.2.2.2.2.2.1 s.2.2.2.2.2.2.2.2.2.2.2.2.2.1 s.2.2.2.2.2.2.2.2.2.2.2.2.2.2) (fun s => μ s.1 s.2.1 s.2.2.1 s.2.2.2.1 s.2.2.2.2.1 s.2.2.2.2.2.1 s.2.2.2.2.2.2.1 s.2.2.2.2.2.2.2.1 s.2.2.2.2.2.2.2.2.1 s.2.2.2.2.2.2.2.2.2.1 s.2.2.2.2.2.2.2.2.2.2.1 s.2.2.2.2.2.2.2.2.2.2.2.1 s.2.2.2.2.2.2.2.2.2.2.2.2.1 s.2.2.2.2.2.2.2.2.2.2.2.2.2.1 s.2.2.2.2.2.2.2.2.2.2.2.2.2.2) (fun n s hI hk => hs n s.1 s.2.1 s.2.2.1 s.2.2.2.1 s.2.2.2.2.1 s.2.2.2.2.2.1 s.2.2.2.2.2.2.1 s.2.2.2.2.2.2.2.1 s.2.2.2.2.2.2.2.2.1 s.2.2.2.2.2.2.2.2.2.1 s.2.2.2.2.2.2.2.2.2.2.1 s.2.2.2.2.2.2.2.2.2.2.2.1 s.2.2.2.2.2.2.2.2.2.2.2.2.1 s.2.2.2.2.2.2.2.2.2.2.2.2.2.1 s.2.2.2.2.2.2.2.2.2.2.2.2.2.2 hI (fun b1 b2 b3 b4 b5 b6 b7 b8 b9 b10 b11 b12 b13 b14 b15 h9 hm => hk (b1, b2, b3, b4, b5, b6, b7, b8, b9, b10, b11, b12, b13, b14, b15) h9 hm)) (a1, a2, a3, a4, a5, a6, a7, a8, a9, a10, a11, a12, a13, a14, a15) h
theorem lp16 {A1 A2 A3 A4 A5 A6 A7 A8 A9 A10 A11 A12 A13 A14 A15 A16 : Type} (W : Nat → A1 → A2 → A3 → A4 → A5 → A6 → A7 → A8 → A9 → A10 → A11 → A12 → A13 → A14 → A15 → A16 → Prop) (I : A1 → A2 → A3 → A4 → A5 → A6 → A7 → A8 → A9 → A10 → A11 → A12 → A13 → A14 → A15 → A16 → Prop) (μ : A1 → A2 → A3 → A4 → A5 → A6 → A7 → A8 → A9 → A10 → A11 → A12 → A13 → A14 → A15 → A16 → Nat) (hs : ∀ (n : Nat) (a1 : A1) (a2 : A2) (a3 : A3) (a4 : A4) (a5 : A5) (a6 : A6) (a7 : A7) (a8 : A8) (a9 : A9) (a10 : A10) (a11 : A11) (a12 : A12) (a13 : A13) (a14 : A14) (a15 : A15) (a16 : A16), I a1 a2 a3 a4 a5 a6 a7 a8 a9 a10 a11 a12 a13 a14 a15 a16 → (∀ (b1 : A1) (b2 : A2) (b3 : A3) (b4 : A4) (b5 : A5) (b6 : A6) (b7 : A7) (b8 : A8) (b9 : A9) (b10 : A10) (b11 : A11) (b12 : A12) (b13 : A13) (b14 : A14) (b15 : A15) (b16 : A16), I b1 b2 b3 b4 b5 b6 b7 b8 b9 b10 b11 b12 b13 b14 b15 b16 → μ b1 b2 b3 b4 b5 b6 b7 b8 b9 b10 b11 b12 b13 b14 b15 b16 < μ a1 a2 a3 a4 a5 a6 a7 a8 a9 a10 a11 a12 a13 a14 a15 a16 → W n b1 b2 b3 b4 b5 b6 b7 b8 b9 b10 b11 b12 b13 b14 b15 b16) → W (n + 1) a1 a2 a3 a4 a5 a6 a7 a8 a9 a10 a11 a12 a13 a14 a15 a16) (a1 : A1) (a2 : A2) (a3 : A3) (a4 : A4) (a5 : A5) (a6 : A6) (a7 : A7) (a8 : A8) (a9 : A9) (a10 : A10) (a11 : A11) (a12 : A12) (a13 : A13) (a14 : A14) (a15 : A15) (a16 : A16) (h : I a1 a2 a3 a4 a5 a6 a7 a8 a9 a10 a11 a12 a13 a14 a15 a16) : ∃ n, W n a1 a2 a3 a4 a5 a6 a7 a8 a9 a10 a11 a12 a13 a14 a15 a16 :=
  loop_m (σ := A1 × A2 × A3 × A4 × A5 × A6 × A7 × A8 × A9 × A10 × A11 × A12 × A13 × A14 × A15 × A16) (fun n s => W n s.1 s.2.1 s.2.2.1 s.2.2.2.1 s.2.2.2.2.1 s.2.2.2.2.2.1 s.2.2.2.2.2.2.1 s.2.2.2.2.2.2.2.1 s.2.2.2.2.2.2.2.2.1 s.2.2.2.2.2.2.2.2.2.1 s.2.2.2.2.2.2.2.2.2.2.1 s.2.2.2.2.2.2.2.2.2.2.2.1 s.2.2.2.2.2.2.2.2.2.2.2.2.1 s.2.2.2.2.2.2.2.2.2.2.2.2.2.1 s.2.2.2.2.2.2.2.2.2.2.2.2.2.2.1 s.2.2.2.2.2.2.2.2.2.2.2.2.2.2.2) (fun s => I s.1 s.2.1 s.2.2.1 s.2.2.2.1 s.2.2.2.2.1 s.2.2.2.2.2.1 s.2.2.2.2.2.2.1 s.2.2.2.2.2.2.2.1 s.2.2.2.2.2.2.2.2.1 s.2.2.2.2.2.2.2.2.2.1 s.2.2.2.2.2.2.2.2.2.2.1 s.2.2.2.2.2.2.2.2.2.2.2.1 s.2.2.2.2.2.2.2.2.2.2.2.2.1 s.2.2.2.2.2.2.2.2.2.2.2.2.2.1 s.2.2.2.2.2.2.2.2.2.2.2.2.2.2.1 s.2.2.2.2.2.2.2.2.2.2.2.2.2.2.2) (fun s => μ s.1 s.2.1 s.2.2.1 s.2.2.2.1 s.2.2.2.2.1 s.2.2.2.2.2.1 s.2.2.2.2.2.2.1 s.2.2.2.2.2.2.2.1 s.2.2.2.2.2.2.2.2.1 s.2.2.2.2.2.2.2.2.2.1 s.2.2.2.2.2.2.2.2.2.2.1 s.2.2.2.2.2.2.2.2.2.2.2.1 s.2.2.2.2.2.2.2.2.2.2.2.2.1 s.2.2.2.2.2.2.2.2.2.2.2.2.2.1 s.2.2.2.2.2.2.2.2.2.2.2.2.2.2.1 s.2.2.2.2.2.2.2.2.2.2.2.2.2.2.2) (fun n s hI hk => hs n s.1 s.2.1 s.2.2.1 s.2.2.2.1 s.2.2.2.2.1 s.2.2.2.2.2.1 s.2.2.2.2.2.2.1 s.2.2.2.2.2.2.2.1 s.2.2.2.2.2.2.2.2.1 s.2.2.2.2.2.2.2.2.2.1 s.2.2.2.2.2.2.2.2.2.2.1 s.2.2.2.2.2.2.2.2.2.2.2.1 s.2.2.2.2.2.2.2.2.2.2.2.2.1 s.2.2.2.2.2.2.2.2.2.2.2.2.2.1 s.2.2.2.2.2.2.2.2.2.2.2.2.2.2.1 s.2.2.2.2.2.2.2.2.2.2.2.2.2.2.2 hI (fun b1 b2 b3 b4 b5 b6 b7 b8 b9 b10 b11 b12 b13 b14 b15 b16 h9 hm => hk (b1, b2, b3, b4, b5, b6, b7, b8, b9, b10, b11, b12, b13, b14, b15, b16) h9 hm)) (a1, a2, a3, a4, a5, a6, a7, a8, a9, a10, a11, a12, a13, a14, a15, a16) h
theorem pk_least (P : Nat → Prop) (h : ∃ k, P k) : ∃ k, P k ∧ ∀ j, j < k → ¬ P j := by
  obtain ⟨k, hk⟩ := h
  induction k using Nat.strongRecOn with
  | ind k ih =>
    by_cases e : ∃ j, j < k ∧ P j
    · obtain ⟨j, hj, pj⟩ := e
      exact ih j hj pj
    · exact ⟨k, hk, fun j hj pj => e ⟨j, hj, pj⟩⟩
theorem rp1 {ρ A1 : Type} (W : Nat → (ρ → Prop) → A1 → Prop) (ok : A1 → Prop) (μ : A1 → Nat) (val : A1 → ρ)
    (hs : ∀ (d : Nat) (post : ρ → Prop) (a1 : A1), ok a1 → post (val a1) → (∀ (post' : ρ → Prop) (b1 : A1), ok b1 → μ b1 < μ a1 → post' (val b1) → W d post' b1) → W (d + 1) post a1) :
    ∀ (d : Nat) (post : ρ → Prop) (a1 : A1), ok a1 → μ a1 < d → post (val a1) → W d post a1 := by
  intro d
  induction d with
  | zero => intro post a1 _ h; omega
  | succ d ih =>
    intro post a1 ho hm hp
    exact hs d post a1 ho hp (fun post' b1 ho' hm' hp' => ih post' b1 ho' (by omega) hp')
theorem rp2 {ρ A1 A2 : Type} (W : Nat → (ρ → Prop) → A1 → A2 → Prop) (ok : A1 → A2 → Prop) (μ : A1 → A2 → Nat) (val : A1 → A2 → ρ)
    (hs : ∀ (d : Nat) (post : ρ → Prop) (a1 : A1) (a2 : A2), ok a1 a2 → post (val a1 a2) → (∀ (post' : ρ → Prop) (b1 : A1) (b2 : A2), ok b1 b2 → μ b1 b2 < μ a1 a2 → post' (val b1 b2) → W d post' b1 b2) → W (d + 1) post a1 a2) :
    ∀ (d : Nat) (post : ρ → Prop) (a1 : A1) (a2 : A2), ok a1 a2 → μ a1 a2 < d → post (val a1 a2) → W d post a1 a2 := by
  intro d
  induction d with
  | zero => intro post a1 a2 _ h; omega
  | succ d ih =>
    intro post a1 a2 ho hm hp
    exact hs d post a1 a2 ho hp (fun post' b1 b2 ho' hm' hp' => ih post' b1 b2 ho' (by omega) hp')
theorem rp3 {ρ A1 A2 A3 : Type} (W : Nat → (ρ → Prop) → A1 → A2 → A3 → Prop) (ok : A1 → A2 → A3 → Prop) (μ : A1 → A2 → A3 → Nat) (val : A1 → A2 → A3 → ρ)
    (hs : ∀ (d : Nat) (post : ρ → Prop) (a1 : A1) (a2 : A2) (a3 : A3), ok a1 a2 a3 → post (val a1 a2 a3) → (∀ (post' : ρ → Prop) (b1 : A1) (b2 : A2) (b3 : A3), ok b1 b2 b3 → μ b1 b2 b3 < μ a1 a2 a3 → post' (val b1 b2 b3) → W d post' b1 b2 b3) → W (d + 1) post a1 a2 a3) :
    ∀ (d : Nat) (post : ρ → Prop) (a1 : A1) (a2 : A2) (a3 : A3), ok a1 a2 a3 → μ a1 a2 a3 < d → post (val a1 a2 a3) → W d post a1 a2 a3 := by
  intro d
  induction d with
  | zero => intro post a1 a2 a3 _ h; omega
  | succ d ih =>
    intro post a1 a2 a3 ho hm hp
    exact hs d post a1 a2 a3 ho hp (fun post' b1 b2 b3 ho' hm' hp' => ih post' b1 b2 b3 ho' (by omega) hp')
theorem rp4 {ρ A1 A2 A3 A4 : Type} (W : Nat → (ρ → Prop) → A1 → A2 → A3 → A4 → Prop) (ok : A1 → A2 → A3 → A4 → Prop) (μ : A1 → A2 → A3 → A4 → Nat) (val : A1 → A2 → A3 → A4 → ρ)
    (hs : ∀ (d : Nat) (post : ρ → Prop) (a1 : A1) (a2 : A2) (a3 : A3) (a4 : A4), ok a1 a2 a3 a4 → post (val a1 a2 a3 a4) → (∀ (post' : ρ → Prop) (b1 : A1) (b2 : A2) (b3 : A3) (b4 : A4), ok b1 b2 b3 b4 → μ b1 b2 b3 b4 < μ a1 a2 a3 a4 → post' (val b1 b2 b3 b4) → W d post' b1 b2 b3 b4) → W (d + 1) post a1 a2 a3 a4) :
    ∀ (d : Nat) (post : ρ → Prop) (a1 : A1) (a2 : A2) (a3 : A3) (a4 : A4), ok a1 a2 a3 a4 → μ a1 a2 a3 a4 < d → post (val a1 a2 a3 a4) → W d post a1 a2 a3 a4 := by
  intro d
  induction d with
  | zero => intro post a1 a2 a3 a4 _ h; omega
  | succ d ih =>
    intro post a1 a2 a3 a4 ho hm hp
    exact hs d post a1 a2 a3 a4 ho hp (fun post' b1 b2 b3 b4 ho' hm' hp' => ih post' b1 b2 b3 b4 ho' (by omega) hp')
theorem rp5 {ρ A1 A2 A3 A4 A5 : Type} (W : Nat → (ρ → Prop) → A1 → A2 → A3 → A4 → A5 → Prop) (ok : A1 → A2 → A3 → A4 → A5 → Prop) (μ : A1 → A2 → A3 → A4 → A5 → Nat) (val : A1 → A2 → A3 → A4 → A5 → ρ)
    (hs : ∀ (d : Nat) (post : ρ → Prop) (a1 : A1) (a2 : A2) (a3 : A3) (a4 : A4) (a5 : A5), ok a1 a2 a3 a4 a5 → post (val a1 a2 a3 a4 a5) → (∀ (post' : ρ → Prop) (b1 : A1) (b2 : A2) (b3 : A3) (b4 : A4) (b5 : A5), ok b1 b2 b3 b4 b5 → μ b1 b2 b3 b4 b5 < μ a1 a2 a3 a4 a5 → post' (val b1 b2 b3 b4 b5) → W d post' b1 b2 b3 b4 b5) → W (d + 1) post a1 a2 a3 a4 a5) :
    ∀ (d : Nat) (post : ρ → Prop) (a1 : A1) (a2 : A2) (a3 : A3) (a4 : A4) (a5 : A5), ok a1 a2 a3 a4 a5 → μ a1 a2 a3 a4 a5 < d → post (val a1 a2 a3 a4 a5) → W d post a1 a2 a3 a4 a5 := by
  intro d
  induction d with
  | zero => intro post a1 a2 a3 a4 a5 _ h; omega
  | succ d ih =>
    intro post a1 a2 a3 a4 a5 ho hm hp
    exact hs d post a1 a2 a3 a4 a5 ho hp (fun post' b1 b2 b3 b4 b5 ho' hm' hp' => ih post' b1 b2 b3 b4 b5 ho' (by omega) hp')
theorem rp6 {ρ A1 A2 A3 A4 A5 A6 : Type} (W : Nat → (ρ → Prop) → A1 → A2 → A3 → A4 → A5 → A6 → Prop) (ok : A1 → A2 → A3 → A4 → A5 → A6 → Prop) (μ : A1 → A2 → A3 → A4 → A5 → A6 → Nat) (val : A1 → A2 → A3 → A4 → A5 → A6 → ρ)
    (hs : ∀ (d : Nat) (post : ρ → Prop) (a1 : A1) (a2 : A2) (a3 : A3) (a4 : A4) (a5 : A5) (a6 : A6), ok a1 a2 a3 a4 a5 a6 → post (val a1 a2 a3 a4 a5 a6) → (∀ (post' : ρ → Prop) (b1 : A1) (b2 : A2) (b3 : A3) (b4 : A4) (b5 : A5) (b6 : A6), ok b1 b2 b3 b4 b5 b6 → μ b1 b2 b3 b4 b5 b6 < μ a1 a2 a3 a4 a5 a6 → post' (val b1 b2 b3 b4 b5 b6) → W d post' b1 b2 b3 b4 b5 b6) → W (d + 1) post a1 a2 a3 a4 a5 a6) :
    ∀ (d : Nat) (post : ρ → Prop) (a1 : A1) (a2 : A2) (a3 : A3) (a4 : A4) (a5 : A5) (a6 : A6), ok a1 a2 a3 a4 a5 a6 → μ a1 a2 a3 a4 a5 a6 < d → post (val a1 a2 a3 a4 a5 a6) → W d post a1 a2 a3 a4 a5 a6 := by
  intro d
  induction d with
  | zero => intro post a1 a2 a3 a4 a5 a6 _ h; omega
  | succ d ih =>
    intro post a1 a2 a3 a4 a5 a6 ho hm hp
    exact hs d post a1 a2 a3 a4 a5 a6 ho hp (fun post' b1 b2 b3 b4 b5 b6 ho' hm' hp' => ih post' b1 b2 b3 b4 b5 b6 ho' (by omega) hp')
theorem rec_p {σ ρ : Type} (W : Nat → (ρ → Prop) → σ → Prop) (ok : σ → Prop) (μ : σ → Nat) (val : σ → ρ)
    (hs : ∀ d s post, ok s → post (val s) → (∀ s' post', ok s' → μ s' < μ s → post' (val s') → W d post' s') → W (d + 1) post s) :
    ∀ d s post, ok s → μ s < d → post (val s) → W d post s := by
  intro d
  induction d with
  | zero => intro s post _ h; omega
  | succ d ih =>
    intro s post ho hm hp
    exact hs d s post ho hp (fun s' post' ho' hm' hp' => ih s' post' ho' (by omega) hp')
theorem rec_q {σ ρ : Type} (W : Nat → (ρ → Prop) → σ → Prop) (ok : σ → Prop) (μ : σ → Nat) (Q : σ → ρ → Prop)
    (hs : ∀ d s post, ok s → (∀ r, Q s r → post r) → (∀ s' post', ok s' → μ s' < μ s → (∀ r, Q s' r → post' r) → W d post' s') → W (d + 1) post s) :
    ∀ d s post, ok s → μ s < d → (∀ r, Q s r → post r) → W d post s := by
  intro d
  induction d with
  | zero => intro s post _ h; omega
  | succ d ih =>
    intro s post ho hm hp
    exact hs d s post ho hp (fun s' post' ho' hm' hp' => ih s' post' ho' (by omega) hp')
def bx_sum (f : Nat → Int32) : Nat → Int32
  | 0 => 0
  | n + 1 => bx_sum f n + f n
theorem ek_u {A : Prop} {B : Nat → Prop} {k N : Nat} (hk : k < N) (h : B k) : (some k = none → A) ∧ (∀ y : Nat, some k = some y → (y < N ∧ B y)) :=
  ⟨fun z => absurd z (Option.some_ne_none k), fun _ e => (by cases e; exact ⟨hk, h⟩)⟩
theorem ek_nu {A : Prop} {B : Nat → Prop} (h : A) : ((none : Option Nat) = none → A) ∧ (∀ y : Nat, (none : Option Nat) = some y → B y) :=
  ⟨fun _ => h, fun _ e => (by cases e)⟩
theorem ek_if {c d A B : Prop} (e : c ↔ d) (f : d → A) (g : ¬ d → B) : (c → A) ∧ (¬ c → B) :=
  ⟨fun z => f (e.mp z), fun z => g (fun y => z (e.mpr y))⟩
theorem ek_v {α : Sort _} {P : α → Prop} {a b : α} (e : a = b) (h : P b) : P a := e ▸ h
theorem co_some {x : Option Nat} {A : Prop} {B : Nat → Prop} (i : Nat) (h : B i) (hx : x = some i := by rfl) : (x = none → A) ∧ (∀ y : Nat, x = some y → B y) := by
  subst hx
  exact ⟨fun e => (nomatch e), fun y e => Option.some.inj e ▸ h⟩
theorem co_none {x : Option Nat} {A : Prop} {B : Nat → Prop} (h : A) (hx : x = none := by rfl) : (x = none → A) ∧ (∀ y : Nat, x = some y → B y) := by
  subst hx
  exact ⟨fun _ => h, fun y e => (nomatch e)⟩
theorem co_any {x : Option Nat} {A : Prop} {B : Nat → Prop} (hn : x = none → A) (hs : ∀ i : Nat, x = some i → B i) : (x = none → A) ∧ (∀ y : Nat, x = some y → B y) := ⟨hn, hs⟩
theorem co_2 {P : Nat → Prop} (h0 : P 0) (h1 : P 1) {i : Nat} (hi : i < 2) : P i :=
  match i, hi with
  | 0, _ => h0
  | 1, _ => h1
theorem co_3 {P : Nat → Prop} (h0 : P 0) (h1 : P 1) (h2 : P 2) {i : Nat} (hi : i < 3) : P i :=
  match i, hi with
  | 0, _ => h0
  | 1, _ => h1
  | 2, _ => h2
theorem co_4 {P : Nat → Prop} (h0 : P 0) (h1 : P 1) (h2 : P 2) (h3 : P 3) {i : Nat} (hi : i < 4) : P i :=
  match i, hi with
  | 0, _ => h0
  | 1, _ => h1
  | 2, _ => h2
  | 3, _ => h3
theorem co_dec {N : Nat} {P : Nat → Prop} [DecidablePred P] (h : (List.range N).all (fun i => decide (P i)) = true) {i : Nat} (hi : i < N) : P i := by
  have := List.all_eq_true.mp h i (List.mem_range.mpr hi)
  exact of_decide_eq_true this
theorem co_tab {α : Type} {l : List α} {d : α} {P : α → Prop} (h : ∀ a, a ∈ l → P a) {i : Nat} (hi : i < l.length) : P (l.getD i d) := by
  rw [List.getD_eq_getElem?_getD, List.getElem?_eq_getElem hi]
  exact h _ (List.getElem_mem hi)
theorem pk_mu {x : Int32} {L : Nat} (h0 : ¬ x < 0) (h : ¬ nI L ≤ x) (hL : L < 2 ^ 31) : ∃ j : Nat, j < L ∧ x = nI j ∧ x + 1 = nI (j + 1) ∧ x.toNatClampNeg = j ∧ L - (x + 1).toNatClampNeg < L - x.toNatClampNeg := by
  obtain ⟨j, hj, rfl⟩ := nI_of h0
  have hl : j < L := Nat.not_le.mp fun q => h (nI_le q hj)
  refine ⟨j, hl, rfl, nI_1 j, nI_clamp hj, ?_⟩
  rw [nI_1, nI_clamp (by omega), nI_clamp hj]
  omega
theorem op_s {α : Type} {r : Option α} {A : Prop} {B : α → Prop} {y : α} (h : r = some y) (b : B y) : (r = none → A) ∧ ∀ z, r = some z → B z :=
  ⟨fun e => (by rw [h] at e; cases e), fun z e => (by rw [h] at e; cases e; exact b)⟩
def l_holds {α : Type} (a : Nat → Option Nat) (LP : List Nat) (p : Nat → α) (c : Nat) (b : Nat → α) : Prop :=
  ∀ j, j < c → ∃ y, a j = some y ∧ y ∈ LP ∧ p y = b j
theorem l_holds_0 {α : Type} {a : Nat → Option Nat} {LP : List Nat} {p b : Nat → α} : l_holds a LP p 0 b := fun j h => absurd h (Nat.not_lt_zero j)
theorem l_in_new (LP : List Nat) (q : Nat) : q ∈ LP ++ [q] := List.mem_append.mpr (Or.inr (List.mem_singleton.mpr rfl))
def l_sum (b : Nat → Int32) : Nat → Int32
  | 0 => 0
  | k + 1 => l_sum b k + b k
theorem sb_shr0 (x : Int32) : x >>> ((0 : Int32) &&& 31) = x := by
  rw [show ((0 : Int32) &&& 31) = 0 by decide]
  simp
theorem sb_shl0 (x : Int32) : x <<< ((0 : Int32) &&& 31) = x := by
  rw [show ((0 : Int32) &&& 31) = 0 by decide]
  simp
theorem sb_cl0 : (0 : Int32).toNatClampNeg = 0 := by decide
theorem sb_m1 {p : Nat} (h : 0 < p) : nI p + (-1) = nI (p - 1) := by
  obtain ⟨q, rfl⟩ : ∃ q, p = q + 1 := ⟨p - 1, by omega⟩
  exact pk_m1 q
def sb_b (c : Nat) : Int32 := (nI c).toInt8.toInt32
theorem sb_byte : ∀ c, c < 256 → sb_b c &&& 255 = nI c ∧ ((nI c).toUInt32 % 65536).toInt32 = nI c ∧ nI c ≤ 255 := by decide +kernel
def sb_Fit (a : Nat → Int32) : Prop := ∀ j, fits .byte (.int (a j)) = true
def sb_Lat (t : Nat → Nat) (n : Nat) (a : Nat → Int32) : Prop := ∀ j, j < n → t j < 256 ∧ a j = sb_b (t j)
theorem sb_fitB (c : Nat) : fits .byte (.int (sb_b c)) = true := pk_fb _
theorem sb_fit0 : sb_Fit (fun _ => 0) := fun _ => by
  show fits .byte (.int 0) = true
  decide
theorem sb_fitU {a : Nat → Int32} {k : Nat} {x : Int32} (h : sb_Fit a) (hx : fits .byte (.int x) = true) : sb_Fit (upd a k x) := by
  intro j
  by_cases e : j = k
  · subst e
    rw [pk_us]
    exact hx
  · rw [pk_un e]
    exact h j
def sb_cat (t : Nat → Nat) (n : Nat) (s : Nat → Nat) : Nat → Nat := fun j => if j < n then t j else s (j - n)
theorem sb_cat_lo {t s : Nat → Nat} {n j : Nat} (h : j < n) : sb_cat t n s j = t j := if_pos h
theorem sb_cat_hi {t s : Nat → Nat} {n j : Nat} : sb_cat t n s (n + j) = s j := by
  show (if n + j < n then t (n + j) else s (n + j - n)) = s j
  rw [if_neg (by omega), Nat.add_sub_cancel_left]
theorem sb_latPut {t s : Nat → Nat} {n w : Nat} {a a' : Nat → Int32} (h : sb_Lat t n a) (hk : ∀ j, j < n → a' j = a j) (hs : ∀ i, i < w → s i < 256 ∧ a' (n + i) = sb_b (s i)) : sb_Lat (sb_cat t n s) (n + w) a' := by
  intro j hj
  by_cases e : j < n
  · rw [sb_cat_lo e, hk j e]
    exact h j e
  · obtain ⟨i, rfl⟩ : ∃ i, j = n + i := ⟨j - n, by omega⟩
    rw [sb_cat_hi]
    exact hs i (by omega)
theorem sb_latKeep {t : Nat → Nat} {n : Nat} {a a' : Nat → Int32} (h : sb_Lat t n a) (hk : ∀ j, j < n → a' j = a j) : sb_Lat t n a' := fun j hj => by
  rw [hk j hj]
  exact h j hj
def sb_cap (q m : Nat) : Nat := if q ≤ m then m else if 2 * m + 2 < q then q else 2 * m + 2
def sb_Room (q m mc ms : Nat) : Prop := q ≤ m ∨ (1 ≤ mc ∧ sb_cap q m ≤ ms ∧ sb_cap q m ≤ 65536)
theorem sb_cap_ge (q m : Nat) : q ≤ sb_cap q m := by
  unfold sb_cap
  split
  · omega
  · split <;> omega
theorem sb_cap_gem (q m : Nat) : m ≤ sb_cap q m := by
  unfold sb_cap
  split
  · omega
  · split <;> omega
theorem sb_cap_le {q m mc ms : Nat} (hm : m ≤ 65536) (hr : sb_Room q m mc ms) : sb_cap q m ≤ 65536 := by
  rcases hr with h | h
  · rw [sb_cap, if_pos h]
    exact hm
  · exact h.2.2
theorem sb_at {P : Int32 → Prop} {x y : Int32} (e : x = y) (h : P y) : P x := e ▸ h
def sb_dg (w : Nat) : Nat := if w < 10 then 1 else if w < 100 then 2 else if w < 1000 then 3 else if w < 10000 then 4 else if w < 100000 then 5 else if w < 1000000 then 6 else if w < 10000000 then 7 else if w < 100000000 then 8 else if w < 1000000000 then 9 else 10
def sb_dec (v : Nat) : Nat → Nat := fun i => 48 + v / 10 ^ (sb_dg v - 1 - i) % 10
theorem sb_dg_in (w : Nat) : 1 ≤ sb_dg w ∧ sb_dg w ≤ 10 := by
  unfold sb_dg
  constructor <;> (repeat' split) <;> omega
theorem sb_dg100 {w : Nat} (h : 100 ≤ w) (hw : w < 2 ^ 31) : sb_dg w = sb_dg (w / 100) + 2 := by
  rw [sb_dg, sb_dg, if_neg (show ¬ w < 10 by omega), if_neg (show ¬ w < 100 by omega)]
  by_cases h3 : w < 1000
  · rw [if_pos h3, if_pos (show w / 100 < 10 by omega)]
  rw [if_neg h3, if_neg (show ¬ w / 100 < 10 by omega)]
  by_cases h4 : w < 10000
  · rw [if_pos h4, if_pos (show w / 100 < 100 by omega)]
  rw [if_neg h4, if_neg (show ¬ w / 100 < 100 by omega)]
  by_cases h5 : w < 100000
  · rw [if_pos h5, if_pos (show w / 100 < 1000 by omega)]
  rw [if_neg h5, if_neg (show ¬ w / 100 < 1000 by omega)]
  by_cases h6 : w < 1000000
  · rw [if_pos h6, if_pos (show w / 100 < 10000 by omega)]
  rw [if_neg h6, if_neg (show ¬ w / 100 < 10000 by omega)]
  by_cases h7 : w < 10000000
  · rw [if_pos h7, if_pos (show w / 100 < 100000 by omega)]
  rw [if_neg h7, if_neg (show ¬ w / 100 < 100000 by omega)]
  by_cases h8 : w < 100000000
  · rw [if_pos h8, if_pos (show w / 100 < 1000000 by omega)]
  rw [if_neg h8, if_neg (show ¬ w / 100 < 1000000 by omega)]
  by_cases h9 : w < 1000000000
  · rw [if_pos h9, if_pos (show w / 100 < 10000000 by omega)]
  rw [if_neg h9, if_neg (show ¬ w / 100 < 10000000 by omega)]
  rw [if_pos (show w / 100 < 100000000 by omega)]
theorem sb_negT {w : Nat} (h : w < 2 ^ 31) : (-nI w).toInt = -(w : Int) := by
  rw [Int32.toInt_neg, nI_toInt h]
  exact Int.bmod_eq_of_le (by omega) (by omega)
theorem sb_nle {a b : Nat} (ha : a < 2 ^ 31) (hb : b < 2 ^ 31) : -nI a ≤ -nI b ↔ b ≤ a := by
  rw [Int32.le_iff_toInt_le, sb_negT ha, sb_negT hb]
  omega
theorem sb_nlt {a b : Nat} (ha : a < 2 ^ 31) (hb : b < 2 ^ 31) : -nI a < -nI b ↔ b < a := by
  rw [Int32.lt_iff_toInt_lt, sb_negT ha, sb_negT hb]
  omega
theorem sb_cmp {A B : Prop} {x : Int32} (v c : Nat) (f : c ≤ v → A) (g : v < c → B) (hv : v < 2 ^ 31) (hx : x = -nI c := by rfl) (hc : c < 2 ^ 31 := by omega) : (-nI v ≤ x → A) ∧ (¬ -nI v ≤ x → B) := by
  subst hx
  rw [sb_nle hv hc]
  exact ⟨f, fun z => g (by omega)⟩
theorem sb_ndiv {w : Nat} (hw : w < 2 ^ 31) : (-nI w) / 100 = -nI (w / 100) := by
  apply Int32.toInt_inj.mp
  have h100 : (100 : Int32).toInt = 100 := by decide
  rw [Int32.toInt_div, sb_negT hw, h100, sb_negT (by omega), Int.neg_tdiv, Int.tdiv_eq_ediv_of_nonneg (by omega), Int.bmod_eq_of_le (by omega) (by omega)]
  omega
theorem sb_nrem {w : Nat} (hw : w < 2 ^ 31) : (-nI (w / 100)) * 100 - (-nI w) = nI (w % 100) := by
  have h := pk_rem (a := w) (d := 100) hw (by decide) (by decide)
  rw [pk_div hw (by decide) (by decide)] at h
  rw [← h]
  show (-nI (w / 100)) * nI 100 - (-nI w) = nI w - nI (w / 100) * nI 100
  rw [Int32.neg_mul, Int32.sub_neg, Int32.add_comm, ← Int32.sub_eq_add_neg]
end
section
/-! ===== Int32 by its bits: bt x i ===== -/
def bt (x : Int32) (i : Nat) : Bool := x.toBitVec.getLsbD i
theorem b_ext {x y : Int32} (h : ∀ i, i < 32 → bt x i = bt y i) : x = y := Int32.toBitVec_inj.mp (BitVec.eq_of_getLsbD_eq (fun i hi => h i hi))
theorem b_or (x y : Int32) (i : Nat) : bt (x ||| y) i = (bt x i || bt y i) := by unfold bt; rw [Int32.toBitVec_or, BitVec.getLsbD_or]
theorem b_and (x y : Int32) (i : Nat) : bt (x &&& y) i = (bt x i && bt y i) := by unfold bt; rw [Int32.toBitVec_and, BitVec.getLsbD_and]
theorem b_xor (x y : Int32) (i : Nat) : bt (x ^^^ y) i = (bt x i ^^ bt y i) := by unfold bt; rw [Int32.toBitVec_xor, BitVec.getLsbD_xor]
theorem b_big {x : Int32} {i : Nat} (h : 32 ≤ i) : bt x i = false := BitVec.getLsbD_of_ge _ _ h
theorem b_255 (i : Nat) : bt 255 i = decide (i < 8) := by
  rcases Nat.lt_or_ge i 32 with h | h
  · exact (by decide +kernel : ∀ i, i < 32 → bt 255 i = decide (i < 8)) i h
  · rw [b_big h, decide_eq_false (by omega)]
theorem b_65535 (i : Nat) : bt 65535 i = decide (i < 16) := by
  rcases Nat.lt_or_ge i 32 with h | h
  · exact (by decide +kernel : ∀ i, i < 32 → bt 65535 i = decide (i < 16)) i h
  · rw [b_big h, decide_eq_false (by omega)]
theorem b_m1 : ∀ i, i < 32 → bt (-1) i = true := by decide +kernel
theorem b_0 (i : Nat) : bt 0 i = false := BitVec.getLsbD_zero
theorem s_l : ∀ n, n < 32 → ((nI n &&& 31).toBitVec.smod 32).toNat = n := by decide +kernel
theorem s_u : ∀ n, n < 32 → (((nI n).toUInt32 &&& Int32.toUInt32 31).toBitVec % 32).toNat = n := by decide +kernel
theorem b_shl (n : Nat) (hn : n < 32) (x : Int32) {i : Nat} (hi : i < 32) : bt (x <<< (nI n &&& 31)) i = (decide (n ≤ i) && bt x (i - n)) := by
  unfold bt
  rw [Int32.toBitVec_shiftLeft]
  show (x.toBitVec <<< ((nI n &&& 31).toBitVec.smod 32).toNat).getLsbD i = _
  rw [s_l n hn, BitVec.getLsbD_shiftLeft]
  rcases Nat.lt_or_ge i n with h | h
  · simp [h, Nat.not_le.mpr h]
  · simp [hi, h, Nat.not_lt.mpr h]
theorem b_ushr (n : Nat) (hn : n < 32) (x : Int32) (i : Nat) : bt ((x.toUInt32 >>> ((nI n).toUInt32 &&& Int32.toUInt32 31)).toInt32) i = bt x (n + i) := by
  show (x.toUInt32 >>> ((nI n).toUInt32 &&& Int32.toUInt32 31)).toBitVec.getLsbD i = x.toUInt32.toBitVec.getLsbD (n + i)
  rw [UInt32.toBitVec_shiftRight]
  show (x.toUInt32.toBitVec >>> (((nI n).toUInt32 &&& Int32.toUInt32 31).toBitVec % 32).toNat).getLsbD i = _
  rw [s_u n hn, BitVec.getLsbD_ushiftRight]
theorem b_sshr (n : Nat) (hn : n < 32) (x : Int32) {i : Nat} (hi : i < 32) : bt (x >>> (nI n &&& 31)) i = if n + i < 32 then bt x (n + i) else bt x 31 := by
  unfold bt
  rw [Int32.toBitVec_shiftRight]
  show (x.toBitVec.sshiftRight ((nI n &&& 31).toBitVec.smod 32).toNat).getLsbD i = _
  rw [s_l n hn, BitVec.getLsbD_sshiftRight, BitVec.msb_eq_getLsbD_last]
  simp [hi]
theorem b_shl8 (x : Int32) {i : Nat} (hi : i < 32) : bt (x <<< ((8 : Int32) &&& 31)) i = (decide (8 ≤ i) && bt x (i - 8)) := b_shl 8 (by omega) x hi
theorem b_shl16 (x : Int32) {i : Nat} (hi : i < 32) : bt (x <<< ((16 : Int32) &&& 31)) i = (decide (16 ≤ i) && bt x (i - 16)) := b_shl 16 (by omega) x hi
theorem b_shl24 (x : Int32) {i : Nat} (hi : i < 32) : bt (x <<< ((24 : Int32) &&& 31)) i = (decide (24 ≤ i) && bt x (i - 24)) := b_shl 24 (by omega) x hi
theorem b_sshr8 (x : Int32) {i : Nat} (hi : i < 32) : bt (x >>> ((8 : Int32) &&& 31)) i = if 8 + i < 32 then bt x (8 + i) else bt x 31 := b_sshr 8 (by omega) x hi
end
section
/-! counting, pigeons, chained lists: no program in sight -/
noncomputable def gs_b (P : Prop) : Nat := @ite Nat P (Classical.propDecidable P) 1 0
theorem gs_bt {P : Prop} (h : P) : gs_b P = 1 := by unfold gs_b; rw [if_pos h]
theorem gs_bf {P : Prop} (h : ¬ P) : gs_b P = 0 := by unfold gs_b; rw [if_neg h]
theorem gs_ble (P : Prop) : gs_b P ≤ 1 := by
  rcases Classical.em P with h | h
  · rw [gs_bt h]; omega
  · rw [gs_bf h]; omega
theorem gs_bmono {P Q : Prop} (h : P → Q) : gs_b P ≤ gs_b Q := by
  rcases Classical.em P with hp | hp
  · rw [gs_bt hp, gs_bt (h hp)]; omega
  · rw [gs_bf hp]; omega
theorem gs_beq {P Q : Prop} (h : P ↔ Q) : gs_b P = gs_b Q := Nat.le_antisymm (gs_bmono h.mp) (gs_bmono h.mpr)
noncomputable def cn (P : Nat → Prop) : Nat → Nat
  | 0 => 0
  | k + 1 => cn P k + gs_b (P k)
theorem cn_mono {P Q : Nat → Prop} : ∀ {N : Nat}, (∀ k, k < N → P k → Q k) → cn P N ≤ cn Q N
  | 0, _ => Nat.le_refl _
  | N + 1, h => by
    have a := cn_mono (P := P) (Q := Q) (N := N) (fun k hk => h k (by omega))
    have b := gs_bmono (h N (by omega))
    simp only [cn]; omega
theorem cn_le (P : Nat → Prop) : ∀ N, cn P N ≤ N
  | 0 => Nat.le_refl _
  | N + 1 => by have := cn_le P N; have := gs_ble (P N); simp only [cn]; omega
theorem cn_eq {P Q : Nat → Prop} {N : Nat} (h : ∀ k, k < N → (P k ↔ Q k)) : cn P N = cn Q N :=
  Nat.le_antisymm (cn_mono fun k hk => (h k hk).mp) (cn_mono fun k hk => (h k hk).mpr)
/-- one more -/
theorem cn_one {P Q : Nat → Prop} {a : Nat} (hp : ¬ P a) (hq : Q a) : ∀ {N : Nat}, (∀ k, k < N → k ≠ a → (P k ↔ Q k)) → a < N → cn Q N = cn P N + 1
  | 0, _, h => by omega
  | N + 1, h, ha => by
    simp only [cn]
    rcases Nat.lt_or_ge a N with z | z
    · have x := cn_one hp hq (N := N) (fun k hk => h k (by omega)) z
      have b := gs_beq (h N (by omega) (by omega))
      omega
    · have e : a = N := by omega
      subst e
      have x := cn_eq (P := P) (Q := Q) (N := a) (fun k hk => h k (by omega) (by omega))
      rw [gs_bt hq, gs_bf hp]; omega
theorem cn_no {P : Nat → Prop} : ∀ {N : Nat}, (∀ k, k < N → ¬ P k) → cn P N = 0
  | 0, _ => rfl
  | N + 1, h => by simp only [cn]; rw [cn_no (fun k hk => h k (by omega)), gs_bf (h N (by omega))]
theorem cn_pos {P : Nat → Prop} {a N : Nat} (h : P a) (ha : a < N) : 0 < cn P N := by
  have := cn_one (P := fun k => P k ∧ k ≠ a) (Q := P) (a := a) (fun z => z.2 rfl) h (N := N) (fun k _ hk => ⟨fun z => z.1, fun z => ⟨z, hk⟩⟩) ha
  omega
theorem cn_ex {P : Nat → Prop} : ∀ {N : Nat}, 0 < cn P N → ∃ k, k < N ∧ P k
  | 0, h => by simp only [cn] at h; omega
  | N + 1, h => by
    rcases Classical.em (P N) with z | z
    · exact ⟨N, by omega, z⟩
    · simp only [cn] at h
      rw [gs_bf z] at h
      obtain ⟨k, hk, hp⟩ := cn_ex (N := N) (by omega)
      exact ⟨k, by omega, hp⟩
theorem cn_room {P : Nat → Prop} {a N : Nat} (h : ¬ P a) (ha : a < N) : cn P N < N := by
  have x := cn_one (P := P) (Q := fun k => P k ∨ k = a) (a := a) h (Or.inr rfl) (N := N) (fun k _ hk => ⟨Or.inl, fun z => z.elim id (fun e => absurd e hk)⟩) ha
  have y := cn_le (fun k => P k ∨ k = a) N
  omega
/-- pigeons -/
theorem gs_pigeon : ∀ (N : Nat) (f : Nat → Nat), (∀ i, i ≤ N → f i < N) → ∃ i j, i < j ∧ j ≤ N ∧ f i = f j
  | 0, f, h => absurd (h 0 (Nat.le_refl 0)) (by omega)
  | N + 1, f, h => by
    rcases Classical.em (∃ i, i ≤ N ∧ f i = f (N + 1)) with ⟨i, hi, e⟩ | hno
    · exact ⟨i, N + 1, by omega, by omega, e⟩
    · have hne : ∀ i, i ≤ N → f i ≠ f (N + 1) := fun i hi e => hno ⟨i, hi, e⟩
      have hv := h (N + 1) (by omega)
      obtain ⟨i, j, hij, hj, e⟩ := gs_pigeon N (fun i => if f (N + 1) < f i then f i - 1 else f i) (by
        intro i hi
        have h1 := h i (by omega)
        have h2 := hne i hi
        show (if f (N + 1) < f i then f i - 1 else f i) < N
        split <;> omega)
      refine ⟨i, j, hij, by omega, ?_⟩
      have e' : (if f (N + 1) < f i then f i - 1 else f i) = (if f (N + 1) < f j then f j - 1 else f j) := e
      have h1 := hne i (by omega)
      have h2 := hne j hj
      revert e'
      split <;> split <;> intro e' <;> omega
/-- a list without repeats has as many members as it has -/
theorem gs_len {N : Nat} : ∀ (l : List Nat) (P : Nat → Prop), l.Nodup → (∀ a, a ∈ l ↔ a < N ∧ P a) → l.length = cn P N
  | [], P, _, h => by
    rw [cn_no (fun k hk hp => by have := (h k).mpr ⟨hk, hp⟩; simp at this)]
    rfl
  | a :: l, P, hn, h => by
    rw [List.nodup_cons] at hn
    have ha : a < N ∧ P a := (h a).mp (List.mem_cons_self)
    have e := gs_len (N := N) l (fun k => P k ∧ k ≠ a) hn.2 (fun k => by
      constructor
      · intro hk
        have := (h k).mp (List.mem_cons_of_mem _ hk)
        exact ⟨this.1, this.2, fun e => hn.1 (e ▸ hk)⟩
      · intro hk
        have := (h k).mpr ⟨hk.1, hk.2.1⟩
        rcases List.mem_cons.mp this with z | z
        · exact absurd z hk.2.2
        · exact z)
    have e2 := cn_one (P := fun k => P k ∧ k ≠ a) (Q := P) (a := a) (fun z => z.2 rfl) ha.2 (N := N) (fun k _ hk => ⟨fun z => z.1, fun z => ⟨z, hk⟩⟩) ha.1
    rw [List.length_cons, e, e2]
/-- two rising lists with the same members -/
theorem gs_split {m : Nat} : ∀ (l : List Nat), l.Pairwise (· < ·) → m ∉ l → ∃ l1 l2, l = l1 ++ l2 ∧ (∀ a, a ∈ l1 → a < m) ∧ (∀ a, a ∈ l2 → m < a)
  | [], _, _ => ⟨[], [], rfl, (fun _ h => nomatch h), (fun _ h => nomatch h)⟩
  | b :: l, hp, hm => by
    rw [List.pairwise_cons] at hp
    rw [List.mem_cons] at hm
    rcases Nat.lt_or_ge m b with z | z
    · refine ⟨[], b :: l, rfl, (fun _ h => nomatch h), fun a ha => ?_⟩
      rcases List.mem_cons.mp ha with e | e
      · omega
      · have := hp.1 a e; omega
    · have hb : b ≠ m := fun e => hm (Or.inl e.symm)
      obtain ⟨l1, l2, e, h1, h2⟩ := gs_split l hp.2 (fun z => hm (Or.inr z))
      refine ⟨b :: l1, l2, by rw [e]; rfl, fun a ha => ?_, h2⟩
      rcases List.mem_cons.mp ha with e | e
      · omega
      · exact h1 a e
/-- a chain by next links -/
def LkF (nx : Nat → Int32) : Int32 → List Nat → Prop
  | h, [] => h = -1
  | h, a :: l => h = nI a ∧ LkF nx (nx a) l
theorem LkF_congr {nx nx' : Nat → Int32} : ∀ {l : List Nat} {h : Int32}, (∀ a, a ∈ l → nx' a = nx a) → LkF nx h l → LkF nx' h l
  | [], _, _, hl => hl
  | a :: l, h, hc, hl => ⟨hl.1, by rw [hc a List.mem_cons_self]; exact LkF_congr (fun b hb => hc b (List.mem_cons_of_mem _ hb)) hl.2⟩
/-- a chain both ways -/
def DLk (nx bf : Nat → Int32) : Int32 → Int32 → List Nat → Prop
  | h, _, [] => h = -1
  | h, p, a :: l => h = nI a ∧ bf a = p ∧ DLk nx bf (nx a) (nI a) l
theorem DLk_F {nx bf : Nat → Int32} : ∀ {l : List Nat} {h p : Int32}, DLk nx bf h p l → LkF nx h l
  | [], _, _, hl => hl
  | _ :: _, _, _, hl => ⟨hl.1, DLk_F hl.2.2⟩
theorem DLk_congr {nx bf nx' bf' : Nat → Int32} : ∀ {l : List Nat} {h p : Int32}, (∀ a, a ∈ l → nx' a = nx a ∧ bf' a = bf a) → DLk nx bf h p l → DLk nx' bf' h p l
  | [], _, _, _, hl => hl
  | a :: l, h, p, hc, hl => ⟨hl.1, (hc a List.mem_cons_self).2.trans hl.2.1, by rw [(hc a List.mem_cons_self).1]; exact DLk_congr (fun b hb => hc b (List.mem_cons_of_mem _ hb)) hl.2.2⟩
/-- another one before: the first's back link alone -/
theorem DLk_p {nx bf nx' bf' : Nat → Int32} {l : List Nat} {h p p' : Int32} (hn : l.Nodup) (hx : ∀ a, a ∈ l → nx' a = nx a) (hb : ∀ a, a ∈ l → h ≠ nI a → bf' a = bf a) (hf : ∀ a, a ∈ l → h = nI a → bf' a = p') (hlt : ∀ a, a ∈ l → a < 24) (hl : DLk nx bf h p l) : DLk nx' bf' h p' l := by
  cases l with
  | nil => exact hl
  | cons a l =>
    rw [List.nodup_cons] at hn
    refine ⟨hl.1, hf a List.mem_cons_self hl.1, ?_⟩
    rw [hx a List.mem_cons_self]
    refine DLk_congr (fun b hbm => ⟨hx b (List.mem_cons_of_mem _ hbm), hb b (List.mem_cons_of_mem _ hbm) ?_⟩) hl.2.2
    intro e
    have ha := hlt a List.mem_cons_self
    have hb' := hlt b (List.mem_cons_of_mem _ hbm)
    have := (nI_eq (by omega) (by omega)).mp (hl.1.symm.trans e)
    exact hn.1 (this ▸ hbm)
/-- taking one out -/
theorem DLk_out {nx bf nx' bf' : Nat → Int32} {a : Nat} {l2 : List Nat} : ∀ (l1 : List Nat) {h p : Int32}, (∀ b, b ∈ l1 ++ a :: l2 → b < 24) → (l1 ++ a :: l2).Nodup → DLk nx bf h p (l1 ++ a :: l2) →
    (∀ b, b ∈ l1 ++ l2 → (bf a ≠ nI b → nx' b = nx b) ∧ (bf a = nI b → nx' b = nx a) ∧ (nx a ≠ nI b → bf' b = bf b) ∧ (nx a = nI b → bf' b = bf a)) →
    (∀ b, b ∈ l1 ++ a :: l2 → p ≠ nI b) →
    (l1 = [] → bf a = p) ∧ (l1 ≠ [] → ∃ b, b ∈ l1 ∧ bf a = nI b) ∧ DLk nx' bf' (@ite Int32 (l1 = []) (Classical.propDecidable _) (nx a) h) p (l1 ++ l2) := by
  intro l1
  induction l1 with
  | nil =>
    intro h p hlt hn hl hc hp
    rw [List.nil_append] at hl hn hlt
    refine ⟨fun _ => hl.2.1, (fun z => absurd rfl z), ?_⟩
    rw [if_pos rfl]
    rw [List.nodup_cons] at hn
    refine DLk_p (p := nI a) hn.2 (fun b hb => ?_) (fun b hb hne => ?_) (fun b hb he => ?_) (fun b hb => hlt b (List.mem_cons_of_mem _ hb)) hl.2.2
    · refine (hc b hb).1 (fun e => hp b (List.mem_cons_of_mem _ hb) (hl.2.1.symm.trans e))
    · exact (hc b hb).2.2.1 hne
    · rw [(hc b hb).2.2.2 he]; exact hl.2.1
  | cons c l1 ih =>
    intro h p hlt hn hl hc hp
    rw [List.cons_append] at hl hn hlt
    rw [List.nodup_cons] at hn
    obtain ⟨i1, i2, i3⟩ := ih (h := nx c) (p := nI c) (fun b hb => hlt b (List.mem_cons_of_mem _ hb)) hn.2 hl.2.2 (fun b hb => hc b (List.mem_cons_of_mem _ hb)) (by
      intro b hb e
      have := (nI_eq (by have := hlt c List.mem_cons_self; omega) (by have := hlt b (List.mem_cons_of_mem _ hb); omega)).mp e
      exact hn.1 (this ▸ hb))
    have ha24 : a < 24 := hlt a (List.mem_cons_of_mem _ (List.mem_append_right _ List.mem_cons_self))
    have hc24 : c < 24 := hlt c List.mem_cons_self
    have hca : c ≠ a := fun e => hn.1 (e ▸ (List.mem_append_right _ List.mem_cons_self))
    refine ⟨(fun z => nomatch z), fun _ => ?_, ?_⟩
    · rcases Classical.em (l1 = []) with z | z
      · exact ⟨c, List.mem_cons_self, i1 z⟩
      · obtain ⟨b, hb, e⟩ := i2 z
        exact ⟨b, List.mem_cons_of_mem _ hb, e⟩
    · rw [if_neg (by simp)]
      have hcc := hc c List.mem_cons_self
      refine ⟨hl.1, ?_, ?_⟩
      · have : nx a ≠ nI c := by
          intro e
          -- the chain from a on does not come back to c
          have hh : ∀ (l1 : List Nat) {h p : Int32}, DLk nx bf h p (l1 ++ a :: l2) → ∃ q, DLk nx bf (nx a) q l2 := by
            intro l1
            induction l1 with
            | nil => intro h p hd; exact ⟨_, hd.2.2⟩
            | cons d l1 ih => intro h p hd; exact ih hd.2.2
          obtain ⟨q, hq⟩ := hh l1 hl.2.2
          cases l2 with
          | nil => have : nI c = -1 := e.symm.trans hq; exact absurd this (by intro z; have := congrArg Int32.toInt z; rw [nI_toInt (by omega)] at this; simp at this)
          | cons b l2 =>
            have e2 := hq.1
            have hb24 : b < 24 := hlt b (by simp)
            have := (nI_eq (by omega) (by omega)).mp (e.symm.trans e2)
            exact hn.1 (this ▸ (by simp))
        exact (hcc.2.2.1 this).trans hl.2.1
      · rcases Classical.em (l1 = []) with z | z
        · have := i1 z
          rw [hcc.2.1 this]
          rw [if_pos z] at i3
          exact i3
        · obtain ⟨b, hb, e⟩ := i2 z
          rw [if_neg z] at i3
          have hne : bf a ≠ nI c := by
            intro e2
            have hb24 : b < 24 := hlt b (List.mem_cons_of_mem _ (List.mem_append_left _ hb))
            have := (nI_eq (by omega) (by omega)).mp (e.symm.trans e2)
            exact hn.1 (this ▸ (List.mem_append_left _ hb))
          rw [hcc.1 hne]
          exact i3
/-- the chain's reading -/
theorem LkF_nil {nx : Nat → Int32} {h : Int32} {l : List Nat} (hl : LkF nx h l) (hh : h < 0) (hlt : ∀ a, a ∈ l → a < 2 ^ 31) : l = [] := by
  cases l with
  | nil => rfl
  | cons a l => rw [hl.1] at hh; exact absurd hh (nI_pos (hlt a List.mem_cons_self))
end
section
/-! ways along arrows: no program in sight -/
section
variable {ok : Nat → Prop} {fr to wc : Nat → Nat}
def Wk (ok : Nat → Prop) (fr to wc : Nat → Nat) : Nat → Nat → Nat → Nat → Prop
  | 0, s, m, d => m = s ∧ d = 0
  | k + 1, s, m, d => ∃ a e, ok a ∧ Wk ok fr to wc k s (fr a) e ∧ m = to a ∧ d = e + wc a
theorem Wk_trans {s x : Nat} {j d1 : Nat} (h1 : Wk ok fr to wc j s x d1) : ∀ {k m d2 : Nat}, Wk ok fr to wc k x m d2 → Wk ok fr to wc (j + k) s m (d1 + d2)
  | 0, m, d2, h2 => by obtain ⟨rfl, rfl⟩ := h2; exact h1
  | k + 1, m, d2, h2 => by
    obtain ⟨a, e, ha, hw, hm, hd⟩ := h2
    exact ⟨a, d1 + e, ha, Wk_trans h1 hw, hm, by omega⟩
theorem Wk_one {a : Nat} (h : ok a) : Wk ok fr to wc 1 (fr a) (to a) (wc a) := ⟨a, 0, h, ⟨rfl, rfl⟩, rfl, by omega⟩
theorem Wk_lt (hto : ∀ a, ok a → to a < 12) {s : Nat} (hs : s < 12) : ∀ {k m d : Nat}, Wk ok fr to wc k s m d → m < 12
  | 0, _, _, h => by rw [h.1]; exact hs
  | _ + 1, _, _, h => by obtain ⟨a, _, ha, _, hm, _⟩ := h; rw [hm]; exact hto a ha
/-- a way's stations and costs -/
theorem Wk_pos {s : Nat} : ∀ {k m d : Nat}, Wk ok fr to wc k s m d → ∃ p q : Nat → Nat, p 0 = s ∧ q 0 = 0 ∧ p k = m ∧ q k = d ∧ ∀ i, i < k → ∃ a, ok a ∧ fr a = p i ∧ to a = p (i + 1) ∧ q (i + 1) = q i + wc a
  | 0, m, d, h => ⟨fun _ => s, fun _ => 0, rfl, rfl, h.1.symm, h.2.symm, fun i hi => by omega⟩
  | k + 1, m, d, h => by
    obtain ⟨a, e, ha, hw, hm, hd⟩ := h
    obtain ⟨p, q, p0, q0, pk, qk, hs⟩ := Wk_pos hw
    refine ⟨fun i => if i ≤ k then p i else m, fun i => if i ≤ k then q i else d, ?_, ?_, ?_, ?_, ?_⟩
    · show (if 0 ≤ k then p 0 else m) = s
      rw [if_pos (by omega)]; exact p0
    · show (if 0 ≤ k then q 0 else d) = 0
      rw [if_pos (by omega)]; exact q0
    · show (if k + 1 ≤ k then p (k + 1) else m) = m
      rw [if_neg (by omega)]
    · show (if k + 1 ≤ k then q (k + 1) else d) = d
      rw [if_neg (by omega)]
    · intro i hi
      show ∃ a, ok a ∧ fr a = (if i ≤ k then p i else m) ∧ to a = (if i + 1 ≤ k then p (i + 1) else m) ∧ (if i + 1 ≤ k then q (i + 1) else d) = (if i ≤ k then q i else d) + wc a
      rcases Nat.lt_or_ge i k with z | z
      · rw [if_pos (by omega), if_pos (by omega), if_pos (by omega), if_pos (by omega)]
        exact hs i z
      · have e' : i = k := by omega
        subst e'
        rw [if_pos (by omega), if_neg (by omega), if_neg (by omega), if_pos (by omega)]
        exact ⟨a, ha, pk.symm, hm.symm, by omega⟩
theorem Wk_of {p q : Nat → Nat} {k : Nat} (hs : ∀ i, i < k → ∃ a, ok a ∧ fr a = p i ∧ to a = p (i + 1) ∧ q (i + 1) = q i + wc a) (x : Nat) : ∀ j, x + j ≤ k → Wk ok fr to wc j (p x) (p (x + j)) (q (x + j) - q x) ∧ q x ≤ q (x + j)
  | 0, _ => ⟨⟨rfl, (Nat.sub_self _)⟩, Nat.le_refl _⟩
  | j + 1, h => by
    obtain ⟨h1, h2⟩ := Wk_of hs x j (by omega)
    obtain ⟨a, ha, hf, ht, hq⟩ := hs (x + j) (by omega)
    have e : x + (j + 1) = x + j + 1 := by omega
    rw [e]
    exact ⟨⟨a, _, ha, hf ▸ h1, ht.symm, by omega⟩, by omega⟩
theorem Wk_short (hto : ∀ a, ok a → to a < 12) {s : Nat} (hs : s < 12) : ∀ (n : Nat) {k m d : Nat}, k ≤ n → Wk ok fr to wc k s m d → ∃ k' d', k' ≤ 11 ∧ d' ≤ d ∧ Wk ok fr to wc k' s m d' := by
  intro n
  induction n with
  | zero => intro k m d hk h; exact ⟨k, d, by omega, by omega, h⟩
  | succ n ih =>
    intro k m d hk h
    rcases Nat.lt_or_ge k 12 with z | z
    · exact ⟨k, d, by omega, by omega, h⟩
    · obtain ⟨p, q, p0, q0, pk, qk, hst⟩ := Wk_pos h
      have hp : ∀ i, i ≤ 12 → p i < 12 := by
        intro i hi
        cases i with
        | zero => rw [p0]; exact hs
        | succ i => obtain ⟨a, ha, _, ht, _⟩ := hst i (by omega); rw [← ht]; exact hto a ha
      obtain ⟨x, y, hxy, hy, e⟩ := gs_pigeon 12 p hp
      have h1 := (Wk_of hst 0 x (by omega)).1
      rw [Nat.zero_add, p0, q0] at h1
      have h2 := Wk_of hst x (y - x) (by omega)
      rw [show x + (y - x) = y by omega] at h2
      have h3 := Wk_of hst y (k - y) (by omega)
      rw [show y + (k - y) = k by omega, pk, qk, ← e] at h3
      have h4 := Wk_trans h1 h3.1
      obtain ⟨k', d', hk', hd', hw⟩ := ih (k := x + (k - y)) (by omega) h4
      exact ⟨k', d', hk', by omega, hw⟩
/-- the least cost -/
def SP (ok : Nat → Prop) (fr to wc : Nat → Nat) (s m d : Nat) : Prop := (∃ k, Wk ok fr to wc k s m d) ∧ ∀ k e, Wk ok fr to wc k s m e → d ≤ e
/-- a value that is a small number -/
def VA (f : Nat → Int32) (m d : Nat) : Prop := f m = nI d ∧ d < 2 ^ 30
def SPF (ok : Nat → Prop) (fr to wc : Nat → Nat) (s : Nat) (f : Nat → Int32) : Prop := ∀ m, m < 12 → (f m = -1 ∧ ∀ k e, ¬ Wk ok fr to wc k s m e) ∨ ∃ d, VA f m d ∧ SP ok fr to wc s m d
theorem VA_u {f : Nat → Int32} {m d d' : Nat} (h : VA f m d) (h' : VA f m d') : d = d' :=
  (nI_eq (by have := h.2; omega) (by have := h'.2; omega)).mp (h.1.symm.trans h'.1)
theorem gw_m1 {d : Nat} (h : d < 2 ^ 31) : nI d ≠ -1 := by
  intro z
  have := congrArg Int32.toInt z
  rw [nI_toInt h, show (-1 : Int32).toInt = -1 by decide] at this
  omega
theorem VA_m1 {f : Nat → Int32} {m d : Nat} (h : VA f m d) (h' : f m = -1) : False :=
  gw_m1 (by have := h.2; omega) (h.1.symm.trans h')
theorem gw_neg : (-1 : Int32) < 0 := by decide
theorem gw_nneg : ¬ (0 : Int32) ≤ -1 := by decide
theorem SP_u {s m d d' : Nat} (h : SP ok fr to wc s m d) (h' : SP ok fr to wc s m d') : d = d' := by
  obtain ⟨⟨k, hk⟩, hm⟩ := h
  obtain ⟨⟨k', hk'⟩, hm'⟩ := h'
  have := hm _ _ hk'
  have := hm' _ _ hk
  omega
theorem SPF_u {s : Nat} {f g : Nat → Int32} (hf : SPF ok fr to wc s f) (hg : SPF ok fr to wc s g) {m : Nat} (hm : m < 12) : f m = g m := by
  rcases hf m hm with ⟨e, hn⟩ | ⟨d, e, hd⟩ <;> rcases hg m hm with ⟨e', hn'⟩ | ⟨d', e', hd'⟩
  · rw [e, e']
  · obtain ⟨k, hk⟩ := hd'.1; exact absurd hk (hn _ _)
  · obtain ⟨k, hk⟩ := hd.1; exact absurd hk (hn' _ _)
  · rw [e.1, e'.1, SP_u hd hd']
/-- values that are costs of ways, of at most B -/
def WB (ok : Nat → Prop) (fr to wc : Nat → Nat) (s B : Nat) (f : Nat → Int32) : Prop := ∀ m, m < 12 → f m = -1 ∨ ∃ d, VA f m d ∧ d ≤ B ∧ ∃ k, Wk ok fr to wc k s m d
theorem WB_up {s B B' : Nat} {f : Nat → Int32} (h : WB ok fr to wc s B f) (hB : B ≤ B') : WB ok fr to wc s B' f := by
  intro m hm
  rcases h m hm with z | ⟨d, h1, h2, h3⟩
  · exact Or.inl z
  · exact Or.inr ⟨d, h1, by omega, h3⟩
theorem SPF_all {s B : Nat} {f : Nat → Int32} (hto : ∀ a, ok a → to a < 12) (hs : s < 12) (hw : WB ok fr to wc s B f) (hk : ∀ k m d, Wk ok fr to wc k s m d → ∃ e, VA f m e ∧ e ≤ d) : SPF ok fr to wc s f := by
  intro m hm
  rcases hw m hm with z | ⟨d, h1, h2, h3⟩
  · exact Or.inl ⟨z, fun k e hwk => by obtain ⟨x, hx, _⟩ := hk k m e hwk; exact VA_m1 hx z⟩
  · refine Or.inr ⟨d, h1, h3, fun k e hwk => ?_⟩
    obtain ⟨x, hx, hle⟩ := hk k m e hwk
    rw [VA_u h1 hx]; exact hle
/-- the certificate: costs of ways, and no arrow shortens -/
theorem SPF_cert {s B : Nat} {f : Nat → Int32} (hto : ∀ a, ok a → to a < 12) (hs : s < 12) (hw : WB ok fr to wc s B f) (h0 : VA f s 0) (hc : ∀ a e, ok a → VA f (fr a) e → ∃ e', VA f (to a) e' ∧ e' ≤ e + wc a) : SPF ok fr to wc s f := by
  refine SPF_all hto hs hw ?_
  intro k
  induction k with
  | zero => intro m d h; rw [h.1]; exact ⟨0, h0, by omega⟩
  | succ k ih =>
    intro m d h
    obtain ⟨a, e, ha, hk, hm, hd⟩ := h
    obtain ⟨e1, h1, h2⟩ := ih _ _ hk
    obtain ⟨e2, h4, h5⟩ := hc a e1 ha h1
    rw [hm]
    exact ⟨e2, h4, by omega⟩
/-- rounds over all arrows: what a round has covered so far -/
def Cov (ok : Nat → Prop) (fr to wc : Nat → Nat) (s r : Nat) (f : Nat → Int32) : Prop := ∀ k m d, k ≤ r → Wk ok fr to wc k s m d → ∃ e, VA f m e ∧ e ≤ d
def CovA (ok : Nat → Prop) (fr to wc : Nat → Nat) (s r j : Nat) (f : Nat → Int32) : Prop := ∀ k b d, k ≤ r → b < j → ok b → Wk ok fr to wc k s (fr b) d → ∃ e, VA f (to b) e ∧ e ≤ d + wc b
def Low (f g : Nat → Int32) : Prop := ∀ m e, VA f m e → ∃ e', VA g m e' ∧ e' ≤ e
theorem Low_rf (f : Nat → Int32) : Low f f := fun _ e h => ⟨e, h, by omega⟩
theorem Cov_low {s r : Nat} {f g : Nat → Int32} (h : Cov ok fr to wc s r f) (hl : Low f g) : Cov ok fr to wc s r g := by
  intro k m d hk hw
  obtain ⟨e, h1, h2⟩ := h k m d hk hw
  obtain ⟨e', h3, h4⟩ := hl m e h1
  exact ⟨e', h3, by omega⟩
theorem CovA_low {s r j : Nat} {f g : Nat → Int32} (h : CovA ok fr to wc s r j f) (hl : Low f g) : CovA ok fr to wc s r j g := by
  intro k b d hk hb hob hw
  obtain ⟨e, h1, h2⟩ := h k b d hk hb hob hw
  obtain ⟨e', h3, h4⟩ := hl _ e h1
  exact ⟨e', h3, by omega⟩
theorem Cov_next {s r N : Nat} {f : Nat → Int32} (hN : ∀ a, ok a → a < N) (h : Cov ok fr to wc s r f) (hA : CovA ok fr to wc s r N f) : Cov ok fr to wc s (r + 1) f := by
  intro k m d hk hw
  rcases Nat.lt_or_ge r k with z | z
  · cases k with
    | zero => omega
    | succ k =>
      obtain ⟨a, e, ha, hk2, hm, hd⟩ := hw
      obtain ⟨e1, h1, h2⟩ := hA k a e (by omega) (hN a ha) ha hk2
      rw [hm, hd]
      exact ⟨e1, h1, h2⟩
  · exact h k m d z hw
theorem Cov_0 {s : Nat} {f : Nat → Int32} (h : VA f s 0) : Cov ok fr to wc s 0 f := by
  intro k m d hk hw
  cases k with
  | zero => rw [hw.1]; exact ⟨0, h, by omega⟩
  | succ k => omega
theorem Cov_end {s B : Nat} {f : Nat → Int32} (hto : ∀ a, ok a → to a < 12) (hs : s < 12) (hw : WB ok fr to wc s B f) (h : Cov ok fr to wc s 12 f) : SPF ok fr to wc s f := by
  refine SPF_all hto hs hw ?_
  intro k m d hk
  obtain ⟨k', d', h1, h2, h3⟩ := Wk_short hto hs k (Nat.le_refl k) hk
  obtain ⟨e, he, hle⟩ := h k' m d' (by omega) h3
  exact ⟨e, he, by omega⟩
/-- one arrow is looked at, and nothing is to be done -/
theorem CovA_skip {s r j : Nat} {f : Nat → Int32} (hA : CovA ok fr to wc s r j f) (h : ok j → ∀ k d, k ≤ r → Wk ok fr to wc k s (fr j) d → ∃ e, VA f (to j) e ∧ e ≤ d + wc j) : CovA ok fr to wc s r (j + 1) f := by
  intro k b d hk hb hob hw
  rcases Nat.lt_or_ge b j with z | z
  · exact hA k b d hk z hob hw
  · have e : b = j := by omega
    subst e
    exact h hob k d hk hw
/-- one write: a lower value at the arrow's end -/
theorem Low_upd {f : Nat → Int32} {m v : Nat} (hv : v < 2 ^ 30) (h : ∀ e, VA f m e → v ≤ e) : Low f (upd f m (nI v)) := by
  intro x e hx
  by_cases z : x = m
  · subst z
    exact ⟨v, ⟨pk_us, hv⟩, h e hx⟩
  · exact ⟨e, ⟨by rw [pk_un z]; exact hx.1, hx.2⟩, by omega⟩
theorem WB_upd {s B B' : Nat} {f : Nat → Int32} {a e : Nat} (h : WB ok fr to wc s B f) (ha : ok a) (he : VA f (fr a) e) (hf : fr a < 12) (hB : B + wc a ≤ B') (hB' : B' < 2 ^ 30) : WB ok fr to wc s B' (upd f (to a) (nI (e + wc a))) := by
  intro m hm
  by_cases z : m = to a
  · right
    rcases h (fr a) hf with y | ⟨d, h1, h2, k, hk⟩
    · exact absurd y (fun y => VA_m1 he y)
    · have := VA_u h1 he
      subst this
      refine ⟨d + wc a, ⟨by rw [z]; exact pk_us, by omega⟩, by omega, k + 1, ?_⟩
      exact ⟨a, d, ha, hk, z, rfl⟩
  · rcases h m hm with y | ⟨d, h1, h2, h3⟩
    · left; rw [pk_un z]; exact y
    · exact Or.inr ⟨d, ⟨by rw [pk_un z]; exact h1.1, h1.2⟩, by omega, h3⟩
/-- coming from one to another -/
def Rc (ok : Nat → Prop) (fr to : Nat → Nat) (s m : Nat) : Prop := ∃ k d, Wk ok fr to (fun _ => 1) k s m d
theorem Rc_rf (s : Nat) : Rc ok fr to s s := ⟨0, 0, rfl, rfl⟩
theorem Rc_tr {s x m : Nat} (h : Rc ok fr to s x) (h' : Rc ok fr to x m) : Rc ok fr to s m := by
  obtain ⟨k, d, hk⟩ := h
  obtain ⟨k', d', hk'⟩ := h'
  exact ⟨_, _, Wk_trans hk hk'⟩
theorem Rc_one {a : Nat} (h : ok a) : Rc ok fr to (fr a) (to a) := ⟨_, _, Wk_one h⟩
theorem Rc_cl {S : Nat → Prop} (hS : ∀ a, ok a → S (fr a) → S (to a)) {s m : Nat} (h : Rc ok fr to s m) (hs : S s) : S m := by
  obtain ⟨k, d, hk⟩ := h
  induction k generalizing m d with
  | zero => rw [hk.1]; exact hs
  | succ k ih =>
    obtain ⟨a, e, ha, hw, hm, _⟩ := hk
    rw [hm]
    exact hS a ha (ih _ hw)
theorem SPF_rc {s : Nat} {f : Nat → Int32} (h : SPF ok fr to (fun _ => 1) s f) {m : Nat} (hm : m < 12) : (f m < 0 → ¬ Rc ok fr to s m) ∧ (¬ f m < 0 → Rc ok fr to s m) := by
  rcases h m hm with ⟨e, hn⟩ | ⟨d, e, hd⟩
  · exact ⟨fun _ ⟨k, d, hk⟩ => hn k d hk, fun z => absurd (e ▸ gw_neg) z⟩
  · refine ⟨fun z => absurd z ?_, fun _ => ?_⟩
    · rw [e.1]; exact nI_pos (by have := e.2; omega)
    · obtain ⟨k, hk⟩ := hd.1; exact ⟨k, d, hk⟩
end
end
section
/-! one walk in depth with a pile: no program in sight -/
section
variable {us ua ok : Nat → Prop} {fr to : Nat → Nat}
/-- the least of those that it comes to and that come back -/
def Mn (us ok : Nat → Prop) (fr to : Nat → Nat) (u : Nat) : Prop := us u ∧ ∀ m, m < u → us m → ¬ (Rc ok fr to u m ∧ Rc ok fr to m u)
def PO (ok : Nat → Prop) (fr to : Nat → Nat) (E D : Nat → Prop) (en : Nat → Nat) : Nat → List Nat → Prop
  | n, [] => ∀ u, E u → ¬ D u → en n ≤ en u
  | n, m :: r => en m < en n ∧ (∀ u, E u → ¬ D u → en u < en n → Rc ok fr to u m) ∧ PO ok fr to E D en m r
def PP (ok : Nat → Prop) (fr to : Nat → Nat) (E D : Nat → Prop) (en : Nat → Nat) : List Nat → Prop
  | [] => ∀ u, E u → D u
  | n :: r => (∀ u, E u → ¬ D u → Rc ok fr to u n) ∧ PO ok fr to E D en n r
theorem PO_lt {E D : Nat → Prop} {en : Nat → Nat} : ∀ {r : List Nat} {n : Nat}, PO ok fr to E D en n r → ∀ p, p ∈ r → en p < en n
  | [], _, _, p, hp => nomatch hp
  | m :: r, n, h, p, hp => by
    rcases List.mem_cons.mp hp with e | e
    · rw [e]; exact h.1
    · exact Nat.lt_trans (PO_lt h.2.2 p e) h.1
theorem PO_cg {E D E' D' : Nat → Prop} {en en' : Nat → Nat} : ∀ {r : List Nat} {n : Nat}, (∀ p, p ∈ n :: r → en' p = en p) → (∀ u, E' u → ¬ D' u → (E u ∧ ¬ D u ∧ en' u = en u) ∨ ∀ p, p ∈ n :: r → en p ≤ en' u) → PO ok fr to E D en n r → PO ok fr to E' D' en' n r
  | [], n, he, hu, h => by
    intro u h1 h2
    rw [he n List.mem_cons_self]
    rcases hu u h1 h2 with ⟨a, b, c⟩ | z
    · rw [c]; exact h u a b
    · exact z n List.mem_cons_self
  | m :: r, n, he, hu, h => by
    refine ⟨?_, fun u h1 h2 h3 => ?_, PO_cg (fun p hp => he p (List.mem_cons_of_mem _ hp)) (fun u h1 h2 => (hu u h1 h2).elim Or.inl (fun z => Or.inr fun p hp => z p (List.mem_cons_of_mem _ hp))) h.2.2⟩
    · rw [he n List.mem_cons_self, he m (List.mem_cons_of_mem _ List.mem_cons_self)]; exact h.1
    · rw [he n List.mem_cons_self] at h3
      rcases hu u h1 h2 with ⟨a, b, c⟩ | z
      · exact h.2.1 u a b (c ▸ h3)
      · have := z n List.mem_cons_self; omega
def TI (us ua ok : Nat → Prop) (fr to : Nat → Nat) (π : List Nat) (clk pl g : Nat) (E D X : Nat → Prop) (en lw pile : Nat → Nat) (rem : Nat → List Nat) : Prop :=
  (∀ u, E u → us u ∧ en u < clk) ∧ (∀ u, D u → E u) ∧ (∀ u v, E u → E v → en u = en v → u = v) ∧
  (∀ i, i < pl → E (pile i) ∧ ¬ D (pile i)) ∧ (∀ u, E u → ¬ D u → ∃ i, i < pl ∧ pile i = u) ∧ (∀ i j, i < j → j < pl → en (pile i) < en (pile j)) ∧
  (∀ a, X a → ua a ∧ E (fr a)) ∧ (∀ a, X a → ok a → E (to a) ∧ (D (fr a) → D (to a))) ∧ g = cn (fun u => D u ∧ Mn us ok fr to u) 12 ∧
  (∀ p, p ∈ π → E p ∧ ¬ D p) ∧ (∀ p, p ∈ π → ∀ u, E u → ¬ D u → en p ≤ en u → Rc ok fr to p u) ∧
  (∀ p, p ∈ π → lw p ≤ en p ∧ ∃ x, E x ∧ ¬ D x ∧ en x = lw p ∧ Rc ok fr to p x) ∧
  (∀ a p, X a → ok a → ¬ D (fr a) → p ∈ π → en p ≤ en (fr a) → (∃ q, q ∈ π ∧ en p < en q ∧ en q ≤ en (fr a)) ∨ D (to a) ∨ lw p ≤ en (to a)) ∧
  (∀ a, ua a → E (fr a) → X a ∨ (fr a ∈ π ∧ a ∈ rem (fr a))) ∧
  (∀ p, p ∈ π → (rem p).Nodup ∧ ∀ a, a ∈ rem p → ua a ∧ fr a = p ∧ ¬ X a) ∧ PP ok fr to E D en π
variable {π r : List Nat} {clk pl g n : Nat} {E D X : Nat → Prop} {en lw pile : Nat → Nat} {rem : Nat → List Nat}
theorem TI_0 (hX : ∀ a, ¬ X a) (hE : ∀ u, ¬ E u) (hD : ∀ u, ¬ D u) : TI us ua ok fr to [] clk 0 0 E D X en lw pile rem :=
  ⟨fun u h => absurd h (hE u), fun u h => absurd h (hD u), fun u _ h => absurd h (hE u), fun i h => absurd h (Nat.not_lt_zero i), fun u h => absurd h (hE u), fun i j _ h => absurd h (Nat.not_lt_zero j),
   fun a h => absurd h (hX a), fun a h => absurd h (hX a), (cn_no (fun k _ h => hD k h.1)).symm, (fun p h => nomatch h), (fun p h => nomatch h), (fun p h => nomatch h), fun a p h => absurd h (hX a),
   fun a _ h => absurd h (hE _), (fun p h => nomatch h), fun u h => absurd h (hE u)⟩
/-- into a new one -/
theorem TI_enter {v : Nat} {lv : List Nat} (h : TI us ua ok fr to π clk pl g E D X en lw pile rem) (hv : us v) (hnE : ¬ E v) (hto : ∀ a, ua a → us (to a))
    (hp : ∀ n r, π = n :: r → Rc ok fr to n v) (hl : lv.Nodup) (hlv : ∀ a, a ∈ lv ↔ ua a ∧ fr a = v) :
    TI us ua ok fr to (v :: π) (clk + 1) (pl + 1) g (fun u => E u ∨ u = v) D X (fun u => if u = v then clk else en u) (fun u => if u = v then clk else lw u) (fun i => if i = pl then v else pile i) (fun u => if u = v then lv else rem u) := by
  obtain ⟨t1, t2, t3, t4, t5, t6, t7, t8, t9, ta, tb, tc, td, te, tf, tp⟩ := h
  have hDv : ¬ D v := fun z => hnE (t2 v z)
  have hE : ∀ u, E u → (if u = v then clk else en u) = en u := fun u hu => if_neg (fun e : u = v => hnE (e ▸ hu))
  have hL : ∀ u, E u → (if u = v then clk else lw u) = lw u := fun u hu => if_neg (fun e : u = v => hnE (e ▸ hu))
  have hR : ∀ u, E u → (if u = v then lv else rem u) = rem u := fun u hu => if_neg (fun e : u = v => hnE (e ▸ hu))
  have hpv : ∀ p, p ∈ π → Rc ok fr to p v := by
    intro p hpm
    cases π with
    | nil => nomatch hpm
    | cons n r =>
      have hn := hp n r rfl
      refine Rc_tr (tb p hpm n (ta n List.mem_cons_self).1 (ta n List.mem_cons_self).2 ?_) hn
      rcases List.mem_cons.mp hpm with e | e
      · rw [e]; exact Nat.le_refl _
      · exact Nat.le_of_lt (PO_lt tp.2 p e)
  refine ⟨?_, ?_, ?_, ?_, ?_, ?_, ?_, ?_, t9, ?_, ?_, ?_, ?_, ?_, ?_, ?_⟩
  · rintro u (hu | hu)
    · refine ⟨(t1 u hu).1, ?_⟩
      show (if u = v then clk else en u) < clk + 1
      rw [hE u hu]; have := (t1 u hu).2; omega
    · refine ⟨hu ▸ hv, ?_⟩
      show (if u = v then clk else en u) < clk + 1
      rw [if_pos hu]; omega
  · exact fun u hu => Or.inl (t2 u hu)
  · intro u w hu hw e
    have e' : (if u = v then clk else en u) = (if w = v then clk else en w) := e
    rcases hu with hu | hu <;> rcases hw with hw | hw
    · rw [hE u hu, hE w hw] at e'; exact t3 u w hu hw e'
    · rw [hE u hu, if_pos hw] at e'; have := (t1 u hu).2; omega
    · rw [hE w hw, if_pos hu] at e'; have := (t1 w hw).2; omega
    · rw [hu, hw]
  · intro i hi
    show (E (if i = pl then v else pile i) ∨ (if i = pl then v else pile i) = v) ∧ ¬ D (if i = pl then v else pile i)
    by_cases z : i = pl
    · rw [if_pos z]; exact ⟨Or.inr rfl, hDv⟩
    · rw [if_neg z]; exact ⟨Or.inl (t4 i (by omega)).1, (t4 i (by omega)).2⟩
  · rintro u (hu | hu) hd
    · obtain ⟨i, hi, e⟩ := t5 u hu hd
      exact ⟨i, by omega, by show (if i = pl then v else pile i) = u; rw [if_neg (by omega)]; exact e⟩
    · exact ⟨pl, by omega, by show (if pl = pl then v else pile pl) = u; rw [if_pos rfl]; exact hu.symm⟩
  · intro i j hij hj
    show (if (if i = pl then v else pile i) = v then clk else en (if i = pl then v else pile i)) < (if (if j = pl then v else pile j) = v then clk else en (if j = pl then v else pile j))
    rw [if_neg (show ¬ i = pl by omega), hE _ (t4 i (by omega)).1]
    by_cases z : j = pl
    · rw [if_pos z, if_pos rfl]; exact (t1 _ (t4 i (by omega)).1).2
    · rw [if_neg z, hE _ (t4 j (by omega)).1]; exact t6 i j hij (by omega)
  · exact fun a ha => ⟨(t7 a ha).1, Or.inl (t7 a ha).2⟩
  · exact fun a ha hoa => ⟨Or.inl (t8 a ha hoa).1, (t8 a ha hoa).2⟩
  · intro p hpm
    rcases List.mem_cons.mp hpm with e | e
    · rw [e]; exact ⟨Or.inr rfl, hDv⟩
    · exact ⟨Or.inl (ta p e).1, (ta p e).2⟩
  · intro p hpm u hu hd hle
    have hle' : (if p = v then clk else en p) ≤ (if u = v then clk else en u) := hle
    rcases List.mem_cons.mp hpm with e | e
    · rcases hu with hu | hu
      · rw [if_pos e, hE u hu] at hle'; have := (t1 u hu).2; omega
      · rw [e, hu]; exact Rc_rf v
    · rcases hu with hu | hu
      · rw [hE p (ta p e).1, hE u hu] at hle'
        exact tb p e u hu hd hle'
      · rw [hu]; exact hpv p e
  · intro p hpm
    show (if p = v then clk else lw p) ≤ (if p = v then clk else en p) ∧ ∃ x, (E x ∨ x = v) ∧ ¬ D x ∧ (if x = v then clk else en x) = (if p = v then clk else lw p) ∧ Rc ok fr to p x
    rcases List.mem_cons.mp hpm with e | e
    · rw [if_pos e, if_pos e]
      exact ⟨Nat.le_refl _, v, Or.inr rfl, hDv, if_pos rfl, e ▸ Rc_rf p⟩
    · have hEp := (ta p e).1
      rw [hE p hEp, hL p hEp]
      obtain ⟨h1, x, h2, h3, h4, h5⟩ := tc p e
      exact ⟨h1, x, Or.inl h2, h3, by rw [hE x h2]; exact h4, h5⟩
  · intro a p hXa hoa hd hpm hle
    have hEf := (t7 a hXa).2
    have hEt := (t8 a hXa hoa).1
    have hle' : (if p = v then clk else en p) ≤ (if fr a = v then clk else en (fr a)) := hle
    rw [hE _ hEf] at hle'
    show (∃ q, q ∈ v :: π ∧ (if p = v then clk else en p) < (if q = v then clk else en q) ∧ (if q = v then clk else en q) ≤ (if fr a = v then clk else en (fr a))) ∨ D (to a) ∨ (if p = v then clk else lw p) ≤ (if to a = v then clk else en (to a))
    rw [hE _ hEf, hE _ hEt]
    rcases List.mem_cons.mp hpm with e | e
    · rw [if_pos e] at hle'; have := (t1 _ hEf).2; omega
    · rw [hE p (ta p e).1] at hle' ⊢
      rw [hL p (ta p e).1]
      rcases td a p hXa hoa hd e hle' with ⟨q, hq, h1, h2⟩ | z
      · exact Or.inl ⟨q, List.mem_cons_of_mem _ hq, by rw [hE q (ta q hq).1]; exact ⟨h1, h2⟩⟩
      · exact Or.inr z
  · intro a hua hE'
    show X a ∨ (fr a ∈ v :: π ∧ a ∈ (if fr a = v then lv else rem (fr a)))
    rcases hE' with z | z
    · rw [hR _ z]
      rcases te a hua z with y | ⟨y1, y2⟩
      · exact Or.inl y
      · exact Or.inr ⟨List.mem_cons_of_mem _ y1, y2⟩
    · rw [if_pos z]
      exact Or.inr ⟨z ▸ List.mem_cons_self, (hlv a).mpr ⟨hua, z⟩⟩
  · intro p hpm
    show (if p = v then lv else rem p).Nodup ∧ ∀ a, a ∈ (if p = v then lv else rem p) → ua a ∧ fr a = p ∧ ¬ X a
    rcases List.mem_cons.mp hpm with e | e
    · rw [if_pos e]
      refine ⟨hl, fun a ha => ?_⟩
      have := (hlv a).mp ha
      exact ⟨this.1, e ▸ this.2, fun hX => hnE (this.2 ▸ (t7 a hX).2)⟩
    · rw [hR p (ta p e).1]; exact tf p e
  · cases π with
    | nil =>
      refine ⟨?_, ?_⟩
      · rintro u (hu | hu) hd
        · exact absurd (tp u hu) hd
        · rw [hu]; exact Rc_rf v
      · rintro u (hu | hu) hd
        · exact absurd (tp u hu) hd
        · show (if v = v then clk else en v) ≤ (if u = v then clk else en u)
          rw [hu]; exact Nat.le_refl _
    | cons n r =>
      have hn := hp n r rfl
      have hEn := (ta n List.mem_cons_self).1
      refine ⟨?_, ?_, ?_, ?_⟩
      · rintro u (hu | hu) hd
        · exact Rc_tr (tp.1 u hu hd) hn
        · rw [hu]; exact Rc_rf v
      · show (if n = v then clk else en n) < (if v = v then clk else en v)
        rw [hE n hEn, if_pos rfl]; exact (t1 n hEn).2
      · rintro u (hu | hu) hd hlt
        · exact tp.1 u hu hd
        · have hlt' : (if u = v then clk else en u) < (if v = v then clk else en v) := hlt
          rw [if_pos hu, if_pos rfl] at hlt'; omega
      · refine PO_cg (fun p hpm => hE p (ta p hpm).1) ?_ tp.2
        rintro u (hu | hu) hd
        · exact Or.inl ⟨hu, hd, hE u hu⟩
        · right
          intro p hpm
          show en p ≤ (if u = v then clk else en u)
          rw [if_pos hu]
          exact Nat.le_of_lt (t1 p (ta p hpm).1).2
/-- an arrow is done with -/
theorem TI_explore {a0 : Nat} {t : List Nat} (h : TI us ua ok fr to π clk pl g E D X en lw pile rem) (hn : n ∈ π) (hr : rem n = a0 :: t) (hd : ok a0 → E (to a0) ∧ (D (to a0) ∨ lw n ≤ en (to a0))) :
    TI us ua ok fr to π clk pl g E D (fun a => X a ∨ a = a0) en lw pile (fun u => if u = n then t else rem u) := by
  obtain ⟨t1, t2, t3, t4, t5, t6, t7, t8, t9, ta, tb, tc, td, te, tf, tp⟩ := h
  have ha0 : a0 ∈ rem n := by rw [hr]; exact List.mem_cons_self
  obtain ⟨hua0, hfr0, hX0⟩ := (tf n hn).2 a0 ha0
  have hnd : a0 ∉ t ∧ t.Nodup := by have := (tf n hn).1; rw [hr, List.nodup_cons] at this; exact this
  refine ⟨t1, t2, t3, t4, t5, t6, ?_, ?_, t9, ta, tb, tc, ?_, ?_, ?_, tp⟩
  · rintro a (ha | ha)
    · exact t7 a ha
    · rw [ha, hfr0]; exact ⟨hua0, (ta n hn).1⟩
  · rintro a (ha | ha) hoa
    · exact t8 a ha hoa
    · rw [ha] at hoa ⊢
      exact ⟨(hd hoa).1, fun z => absurd (hfr0 ▸ z) (ta n hn).2⟩
  · rintro a p (ha | ha) hoa hdf hp hle
    · exact td a p ha hoa hdf hp hle
    · rw [ha] at hoa hdf hle ⊢
      rw [hfr0] at hle ⊢
      by_cases e : p = n
      · rw [e]; exact Or.inr (hd hoa).2
      · refine Or.inl ⟨n, hn, ?_, Nat.le_refl _⟩
        have : en p ≠ en n := fun z => e (t3 p n (ta p hp).1 (ta n hn).1 z)
        omega
  · intro a hua hE
    show (X a ∨ a = a0) ∨ (fr a ∈ π ∧ a ∈ (if fr a = n then t else rem (fr a)))
    rcases te a hua hE with z | ⟨z1, z2⟩
    · exact Or.inl (Or.inl z)
    · by_cases e : fr a = n
      · rw [if_pos e]
        rw [e, hr] at z2
        rcases List.mem_cons.mp z2 with y | y
        · exact Or.inl (Or.inr y)
        · exact Or.inr ⟨z1, y⟩
      · rw [if_neg e]; exact Or.inr ⟨z1, z2⟩
  · intro p hp
    show (if p = n then t else rem p).Nodup ∧ ∀ a, a ∈ (if p = n then t else rem p) → ua a ∧ fr a = p ∧ ¬ (X a ∨ a = a0)
    by_cases e : p = n
    · rw [if_pos e]
      refine ⟨hnd.2, fun a ha => ?_⟩
      obtain ⟨h1, h2, h3⟩ := (tf n hn).2 a (by rw [hr]; exact List.mem_cons_of_mem _ ha)
      exact ⟨h1, e ▸ h2, fun z => z.elim h3 (fun y => hnd.1 (y ▸ ha))⟩
    · rw [if_neg e]
      refine ⟨(tf p hp).1, fun a ha => ?_⟩
      obtain ⟨h1, h2, h3⟩ := (tf p hp).2 a ha
      exact ⟨h1, h2, fun z => z.elim h3 (fun y => e (by rw [← h2, y, hfr0]))⟩
/-- a lower lowest -/
theorem TI_low {x : Nat} (h : TI us ua ok fr to π clk pl g E D X en lw pile rem) (hn : n ∈ π) (hx : E x) (hxd : ¬ D x) (hr : Rc ok fr to n x) (hl : en x ≤ lw n) :
    TI us ua ok fr to π clk pl g E D X en (fun u => if u = n then en x else lw u) pile rem := by
  obtain ⟨t1, t2, t3, t4, t5, t6, t7, t8, t9, ta, tb, tc, td, te, tf, tp⟩ := h
  refine ⟨t1, t2, t3, t4, t5, t6, t7, t8, t9, ta, tb, ?_, ?_, te, tf, tp⟩
  · intro p hp
    show (if p = n then en x else lw p) ≤ en p ∧ ∃ y, E y ∧ ¬ D y ∧ en y = (if p = n then en x else lw p) ∧ Rc ok fr to p y
    by_cases e : p = n
    · rw [if_pos e]
      exact ⟨by have := (tc p hp).1; rw [e] at this ⊢; omega, x, hx, hxd, rfl, e ▸ hr⟩
    · rw [if_neg e]; exact tc p hp
  · intro a p hX hoa hdf hp hle
    show (∃ q, q ∈ π ∧ en p < en q ∧ en q ≤ en (fr a)) ∨ D (to a) ∨ (if p = n then en x else lw p) ≤ en (to a)
    rcases td a p hX hoa hdf hp hle with z | z | z
    · exact Or.inl z
    · exact Or.inr (Or.inl z)
    · refine Or.inr (Or.inr ?_)
      by_cases e : p = n
      · rw [if_pos e]; rw [e] at z; omega
      · rw [if_neg e]; exact z
/-- the last on the way has nothing below it -/
theorem TI_bottom (h : TI us ua ok fr to [n] clk pl g E D X en lw pile rem) : lw n = en n := by
  obtain ⟨t1, t2, t3, t4, t5, t6, t7, t8, t9, ta, tb, tc, td, te, tf, tp⟩ := h
  obtain ⟨h1, x, h2, h3, h4, h5⟩ := tc n List.mem_cons_self
  have := tp.2 x h2 h3
  omega
/-- all that is done with leads to what is done with -/
theorem TI_closed (h : TI us ua ok fr to π clk pl g E D X en lw pile rem) (hok : ∀ a, ok a → ua a) {u v : Nat} (hu : D u) (hr : Rc ok fr to u v) : D v := by
  obtain ⟨t1, t2, t3, t4, t5, t6, t7, t8, t9, ta, tb, tc, td, te, tf, tp⟩ := h
  refine Rc_cl (S := D) (fun a ha hD => ?_) hr hu
  rcases te a (hok a ha) (t2 _ hD) with z | ⟨z, _⟩
  · exact (t8 a z ha).2 hD
  · exact absurd hD (ta _ z).2
/-- a group closes -/
theorem TI_root {pl' : Nat} (h : TI us ua ok fr to (n :: r) clk pl g E D X en lw pile rem) (hok : ∀ a, ok a → ua a) (hus : ∀ u, us u → u < 12) (hrem : rem n = []) (hlw : lw n = en n) (hpl : pl' < pl) (hpn : pile pl' = n) :
    TI us ua ok fr to r clk pl' (g + 1) E (fun u => D u ∨ (E u ∧ en n ≤ en u)) X en lw pile rem := by
  have hcl := @TI_closed us ua ok fr to (n :: r) clk pl g E D X en lw pile rem h hok
  obtain ⟨t1, t2, t3, t4, t5, t6, t7, t8, t9, ta, tb, tc, td, te, tf, tp⟩ := h
  have hEn := (ta n List.mem_cons_self).1
  have hDn := (ta n List.mem_cons_self).2
  have hrl : ∀ p, p ∈ r → en p < en n := fun p hp => PO_lt tp.2 p hp
  -- what is done with now is closed
  have h8 : ∀ a, X a → ok a → (D (fr a) ∨ (E (fr a) ∧ en n ≤ en (fr a))) → (D (to a) ∨ (E (to a) ∧ en n ≤ en (to a))) := by
    intro a hX hoa hD
    by_cases z : D (fr a)
    · exact Or.inl ((t8 a hX hoa).2 z)
    · have hle : en n ≤ en (fr a) := hD.elim (fun y => absurd y z) (fun y => y.2)
      rcases td a n hX hoa z List.mem_cons_self hle with ⟨q, hq, h1, _⟩ | y | y
      · rcases List.mem_cons.mp hq with e | e
        · rw [e] at h1; omega
        · have := hrl q e; omega
      · exact Or.inl y
      · exact Or.inr ⟨(t8 a hX hoa).1, by omega⟩
  have hcl' : ∀ u v, (D u ∨ (E u ∧ en n ≤ en u)) → Rc ok fr to u v → (D v ∨ (E v ∧ en n ≤ en v)) := by
    intro u v hu hr
    refine Rc_cl (S := fun w => D w ∨ (E w ∧ en n ≤ en w)) (fun a ha hD => ?_) hr hu
    have hEf : E (fr a) := hD.elim (fun z => t2 _ z) (fun z => z.1)
    rcases te a (hok a ha) hEf with z | ⟨z1, z2⟩
    · exact h8 a z ha hD
    · exfalso
      rcases List.mem_cons.mp z1 with e | e
      · rw [e, hrem] at z2; exact nomatch z2
      · rcases hD with y | y
        · exact (ta _ z1).2 y
        · have := hrl _ e; omega
  refine ⟨t1, fun u hu => hu.elim (fun z => t2 u z) (fun z => z.1), t3, ?_, ?_, fun i j hij hj => t6 i j hij (by omega), t7, ?_, ?_, ?_, ?_, ?_, ?_, ?_, ?_, ?_⟩
  · intro i hi
    have h4 := t4 i (by omega)
    have h6 := t6 i pl' hi hpl
    rw [hpn] at h6
    exact ⟨h4.1, fun z => z.elim h4.2 (fun y => by omega)⟩
  · intro u hu hd
    have hdu : ¬ D u := fun z => hd (Or.inl z)
    have hlt : en u < en n := Nat.lt_of_not_le (fun z => hd (Or.inr ⟨hu, z⟩))
    obtain ⟨i, hi, e⟩ := t5 u hu hdu
    refine ⟨i, ?_, e⟩
    rcases Nat.lt_trichotomy i pl' with z | z | z
    · exact z
    · rw [z, hpn] at e; rw [e] at hlt; omega
    · have := t6 pl' i z hi; rw [e, hpn] at this; omega
  · intro a hX hoa
    exact ⟨(t8 a hX hoa).1, h8 a hX hoa⟩
  · -- exactly one more that is the least of its group
    obtain ⟨m0, hm0, hleast⟩ := pk_least (fun u => E u ∧ ¬ D u ∧ en n ≤ en u) ⟨n, hEn, hDn, Nat.le_refl _⟩
    have hm0us := (t1 m0 hm0.1).1
    have hmut : ∀ k, (E k ∧ ¬ D k ∧ en n ≤ en k) → ∀ j, (E j ∧ ¬ D j ∧ en n ≤ en j) → Rc ok fr to k j := by
      intro k hk j hj
      exact Rc_tr (tp.1 k hk.1 hk.2.1) (tb n List.mem_cons_self j hj.1 hj.2.1 hj.2.2)
    rw [t9]
    have hM0 : Mn us ok fr to m0 := by
      refine ⟨hm0us, ?_⟩
      intro m hm hmus ⟨r1, r2⟩
      rcases hcl' m0 m (Or.inr ⟨hm0.1, hm0.2.2⟩) r1 with z | z
      · exact hm0.2.1 (hcl z r2)
      · by_cases y : D m
        · exact hm0.2.1 (hcl y r2)
        · exact hleast m hm ⟨z.1, y, z.2⟩
    refine (cn_one (P := fun u => D u ∧ Mn us ok fr to u) (a := m0) (fun z => hm0.2.1 z.1) ⟨Or.inr ⟨hm0.1, hm0.2.2⟩, hM0⟩ ?_ (hus m0 hm0us)).symm
    · intro k _ hk
      constructor
      · exact fun z => ⟨Or.inl z.1, z.2⟩
      · rintro ⟨hD, hM⟩
        refine ⟨?_, hM⟩
        by_cases y : D k
        · exact y
        · exfalso
          have hk' : E k ∧ ¬ D k ∧ en n ≤ en k := hD.elim (fun z => absurd z y) (fun z => ⟨z.1, y, z.2⟩)
          have : ¬ k < m0 := fun z => hleast k z hk'
          exact hM.2 m0 (by omega) hm0us ⟨hmut k hk' m0 hm0, hmut m0 hm0 k hk'⟩
  · intro p hp
    have h1 := ta p (List.mem_cons_of_mem _ hp)
    have h2 := hrl p hp
    exact ⟨h1.1, fun z => z.elim h1.2 (fun y => by omega)⟩
  · intro p hp u hu hd hle
    exact tb p (List.mem_cons_of_mem _ hp) u hu (fun z => hd (Or.inl z)) hle
  · intro p hp
    obtain ⟨h1, x, h2, h3, h4, h5⟩ := tc p (List.mem_cons_of_mem _ hp)
    have := hrl p hp
    exact ⟨h1, x, h2, fun z => z.elim h3 (fun y => by omega), h4, h5⟩
  · intro a p hX hoa hdf hp hle
    have hdf' : ¬ D (fr a) := fun z => hdf (Or.inl z)
    have hlt : en (fr a) < en n := Nat.lt_of_not_le (fun z => hdf (Or.inr ⟨(t7 a hX).2, z⟩))
    rcases td a p hX hoa hdf' (List.mem_cons_of_mem _ hp) hle with ⟨q, hq, h1, h2⟩ | z | z
    · rcases List.mem_cons.mp hq with e | e
      · rw [e] at h2; omega
      · exact Or.inl ⟨q, e, h1, h2⟩
    · exact Or.inr (Or.inl (Or.inl z))
    · exact Or.inr (Or.inr z)
  · intro a hua hE
    rcases te a hua hE with z | ⟨z1, z2⟩
    · exact Or.inl z
    · rcases List.mem_cons.mp z1 with e | e
      · rw [e, hrem] at z2; exact nomatch z2
      · exact Or.inr ⟨e, z2⟩
  · exact fun p hp => tf p (List.mem_cons_of_mem _ hp)
  · cases r with
    | nil =>
      intro u hu
      by_cases z : D u
      · exact Or.inl z
      · exact Or.inr ⟨hu, tp.2 u hu z⟩
    | cons m r =>
      have hpo := tp.2
      refine ⟨fun u hu hd => ?_, ?_⟩
      · exact hpo.2.1 u hu (fun z => hd (Or.inl z)) (Nat.lt_of_not_le (fun z => hd (Or.inr ⟨hu, z⟩)))
      · exact PO_cg (fun _ _ => rfl) (fun u hu hd => Or.inl ⟨hu, fun z => hd (Or.inl z), rfl⟩) hpo.2.2
/-- no group closes: what the one above it learns -/
theorem TI_back {m v : Nat} (h : TI us ua ok fr to (n :: m :: r) clk pl g E D X en lw pile rem) (hrem : rem n = []) (hlw : lw n ≠ en n) (hv : v ≤ lw n ∧ v ≤ lw m ∧ (v = lw n ∨ v = lw m)) :
    TI us ua ok fr to (m :: r) clk pl g E D X en (fun u => if u = m then v else lw u) pile rem := by
  obtain ⟨t1, t2, t3, t4, t5, t6, t7, t8, t9, ta, tb, tc, td, te, tf, tp⟩ := h
  have hrl : ∀ p, p ∈ m :: r → en p < en n := fun p hp => PO_lt tp.2 p hp
  have hml : ∀ p, p ∈ r → en p < en m := fun p hp => PO_lt tp.2.2.2 p hp
  have hmm : m ∈ n :: m :: r := List.mem_cons_of_mem _ List.mem_cons_self
  have hEm := ta m hmm
  have hEn := ta n List.mem_cons_self
  have hmn := hrl m List.mem_cons_self
  obtain ⟨c1, x, c2, c3, c4, c5⟩ := tc n List.mem_cons_self
  have hxm : Rc ok fr to x m := tp.2.2.1 x c2 c3 (by omega)
  refine ⟨t1, t2, t3, t4, t5, t6, t7, t8, t9, fun p hp => ta p (List.mem_cons_of_mem _ hp), fun p hp => tb p (List.mem_cons_of_mem _ hp), ?_, ?_, ?_, fun p hp => tf p (List.mem_cons_of_mem _ hp), ?_⟩
  · intro p hp
    show (if p = m then v else lw p) ≤ en p ∧ ∃ y, E y ∧ ¬ D y ∧ en y = (if p = m then v else lw p) ∧ Rc ok fr to p y
    by_cases e : p = m
    · rw [if_pos e, e]
      obtain ⟨b1, y, b2, b3, b4, b5⟩ := tc m hmm
      refine ⟨by omega, ?_⟩
      rcases hv.2.2 with z | z
      · exact ⟨x, c2, c3, by omega, Rc_tr (tb m hmm n hEn.1 hEn.2 (by omega)) c5⟩
      · exact ⟨y, b2, b3, by omega, b5⟩
    · rw [if_neg e]; exact tc p (List.mem_cons_of_mem _ hp)
  · intro a p hX hoa hdf hp hle
    show (∃ q, q ∈ m :: r ∧ en p < en q ∧ en q ≤ en (fr a)) ∨ D (to a) ∨ (if p = m then v else lw p) ≤ en (to a)
    by_cases e : p = m
    · rw [if_pos e]
      rcases td a p hX hoa hdf (List.mem_cons_of_mem _ hp) hle with ⟨q, hq, h1, h2⟩ | z | z
      · rcases List.mem_cons.mp hq with eq | eq
        · rw [eq] at h2
          rcases td a n hX hoa hdf List.mem_cons_self h2 with ⟨q2, hq2, h3, _⟩ | z | z
          · rcases List.mem_cons.mp hq2 with e2 | e2
            · rw [e2] at h3; omega
            · have := hrl q2 e2; omega
          · exact Or.inr (Or.inl z)
          · exact Or.inr (Or.inr (by omega))
        · exact Or.inl ⟨q, eq, h1, h2⟩
      · exact Or.inr (Or.inl z)
      · rw [e] at z; exact Or.inr (Or.inr (by omega))
    · rw [if_neg e]
      have hpr : p ∈ r := (List.mem_cons.mp hp).elim (fun z => absurd z e) id
      rcases td a p hX hoa hdf (List.mem_cons_of_mem _ hp) hle with ⟨q, hq, h1, h2⟩ | z
      · rcases List.mem_cons.mp hq with eq | eq
        · rw [eq] at h2
          exact Or.inl ⟨m, List.mem_cons_self, hml p hpr, by omega⟩
        · exact Or.inl ⟨q, eq, h1, h2⟩
      · exact Or.inr z
  · intro a hua hE
    rcases te a hua hE with z | ⟨z1, z2⟩
    · exact Or.inl z
    · rcases List.mem_cons.mp z1 with e | e
      · rw [e, hrem] at z2; exact nomatch z2
      · exact Or.inr ⟨e, z2⟩
  · refine ⟨fun u hu hd => ?_, tp.2.2.2⟩
    rcases Nat.lt_or_ge (en u) (en n) with z | z
    · exact tp.2.2.1 u hu hd z
    · exact Rc_tr (tp.1 u hu hd) (Rc_tr c5 hxm)
end
end
section
/-! numbers as indices -/
theorem ir_0 (a : Nat) : nI a + 0 = nI (a + 0) := nI_add a 0
theorem ir_1 (a : Nat) : nI a + 1 = nI (a + 1) := nI_add a 1
theorem ir_2 (a : Nat) : nI a + 2 = nI (a + 2) := nI_add a 2
theorem ir_3 (a : Nat) : nI a + 3 = nI (a + 3) := nI_add a 3
theorem ir_4 (a : Nat) : nI a + 4 = nI (a + 4) := nI_add a 4
theorem ir_5 (a : Nat) : nI a + 5 = nI (a + 5) := nI_add a 5
theorem ir_6 (a : Nat) : nI a + 6 = nI (a + 6) := nI_add a 6
theorem ir_7 (a : Nat) : nI a + 7 = nI (a + 7) := nI_add a 7
theorem ir_8 (a : Nat) : nI a + 8 = nI (a + 8) := nI_add a 8
theorem ir_9 (a : Nat) : nI a + 9 = nI (a + 9) := nI_add a 9
theorem ir_13 (a : Nat) : nI a + 13 = nI (a + 13) := nI_add a 13
theorem il_4 (a : Nat) : 4 + nI a = nI (4 + a) := nI_add 4 a
theorem il_12 (a : Nat) : 12 + nI a = nI (12 + a) := nI_add 12 a
theorem il_16 (a : Nat) : 16 + nI a = nI (16 + a) := nI_add 16 a
theorem il_24 (a : Nat) : 24 + nI a = nI (24 + a) := nI_add 24 a
theorem il_36 (a : Nat) : 36 + nI a = nI (36 + a) := nI_add 36 a
theorem il_60 (a : Nat) : 60 + nI a = nI (60 + a) := nI_add 60 a
theorem il_84 (a : Nat) : 84 + nI a = nI (84 + a) := nI_add 84 a
theorem il_100 (a : Nat) : 100 + nI a = nI (100 + a) := nI_add 100 a
theorem il_108 (a : Nat) : 108 + nI a = nI (108 + a) := nI_add 108 a
theorem il_132 (a : Nat) : 132 + nI a = nI (132 + a) := nI_add 132 a
theorem il_340 (a : Nat) : 340 + nI a = nI (340 + a) := nI_add 340 a
theorem im_5 (a : Nat) : 5 * nI a = nI (5 * a) := pk_mul 5 a
theorem im_7 (a : Nat) : 7 * nI a = nI (7 * a) := pk_mul 7 a
theorem im_10 (a : Nat) : 10 * nI a = nI (10 * a) := pk_mul 10 a
theorem im_11 (a : Nat) : 11 * nI a = nI (11 * a) := pk_mul 11 a
theorem im_3 (a : Nat) : 3 * nI a = nI (3 * a) := pk_mul 3 a
theorem im_24 (a : Nat) : 24 * nI a = nI (24 * a) := pk_mul 24 a
theorem im_156 (a : Nat) : 156 * nI a = nI (156 * a) := pk_mul 156 a
theorem im_340 (a : Nat) : 340 * nI a = nI (340 * a) := pk_mul 340 a

theorem gx_c {f : Nat → Int32} {x : Int32} {n : Nat} (e : x = nI n) (h : n < 2 ^ 31) : f x.toNatClampNeg = f n := congrArg f (by rw [e]; exact nI_clamp h)
/-! the relation -/
/-- by value, then by number -/
def kl (v : Int32) (n : Nat) (v' : Int32) (n' : Nat) : Prop := v < v' ∨ (v = v' ∧ n < n')
theorem kl_tr {a b c : Int32} {i j k : Nat} (h : kl a i b j) (h' : kl b j c k) : kl a i c k := by
  rcases h with h | ⟨h, h1⟩ <;> rcases h' with h' | ⟨h', h2⟩
  · exact Or.inl (Int32.lt_trans h h')
  · exact Or.inl (h' ▸ h)
  · exact Or.inl (h.symm ▸ h')
  · exact Or.inr ⟨h.trans h', by omega⟩
theorem kl_irr {a : Int32} {i : Nat} (h : kl a i a i) : False := by
  rcases h with h | ⟨_, h⟩
  · exact Int32.lt_irrefl h
  · omega
theorem kl_tot {a b : Int32} {i j : Nat} (h : i ≠ j) : kl a i b j ∨ kl b j a i := by
  by_cases h1 : a < b
  · exact Or.inl (Or.inl h1)
  · by_cases h2 : b < a
    · exact Or.inr (Or.inl h2)
    · have e : a = b := Int32.le_antisymm (Int32.not_lt.mp h2) (Int32.not_lt.mp h1)
      rcases Nat.lt_or_ge i j with z | z
      · exact Or.inl (Or.inr ⟨e, z⟩)
      · exact Or.inr (Or.inr ⟨e.symm, by omega⟩)
def GN (c w : Nat → Int32) : Prop := ∀ n, n < 12 → c (16 + 7 * n) = w n ∧ (w n = 0 ∨ w n = 1) ∧ (w n = 1 → c (17 + 7 * n) = w (12 + n) ∧ c (18 + 7 * n) = w (24 + n))
/-- an arrow's parts -/
def GP (w : Nat → Int32) (a : Nat) : Prop := (∃ f, w (60 + a) = nI f ∧ f < 12 ∧ w f = 1) ∧ (∃ t, w (84 + a) = nI t ∧ t < 12 ∧ w t = 1) ∧ (∃ y, w (108 + a) = nI y ∧ y ≤ 3) ∧ (∃ g, w (132 + a) = nI g ∧ g ≤ 99)
def GA (c w : Nat → Int32) : Prop := ∀ a, a < 24 → c (100 + 10 * a) = w (36 + a) ∧ (w (36 + a) = 0 ∨ w (36 + a) = 1) ∧ (w (36 + a) = 1 → c (101 + 10 * a) = w (60 + a) ∧ c (102 + 10 * a) = w (84 + a) ∧ c (103 + 10 * a) = w (108 + a) ∧ c (104 + 10 * a) = w (132 + a) ∧ GP w a)
def GF (c w : Nat → Int32) : Prop := ∃ l, LkF (fun n => c (21 + 7 * n)) (c 0) l ∧ l.Pairwise (· < ·) ∧ ∀ n, n ∈ l ↔ n < 12 ∧ w n ≠ 1
def GE (c w : Nat → Int32) : Prop := ∃ l, LkF (fun a => c (105 + 10 * a)) (c 1) l ∧ l.Pairwise (· < ·) ∧ ∀ a, a ∈ l ↔ a < 24 ∧ w (36 + a) ≠ 1
/-- how many nodes, how many arrows -/
noncomputable def nN (w : Nat → Int32) : Nat := cn (fun n => w n = 1) 12
noncomputable def nA (w : Nat → Int32) : Nat := cn (fun a => w (36 + a) = 1) 24
/-- how many arrows of a side at a node -/
noncomputable def nD (w : Nat → Int32) (s n : Nat) : Nat := cn (fun a => w (36 + a) = 1 ∧ w (60 + 24 * s + a) = nI n) 24
def RW (c : Nat → Int32) (L : Nat) (R : Nat → Nat) : Prop := c 2 = nI L ∧ L ≤ 12 ∧ ∀ k, k < L → R k < 12 ∧ c (4 + k) = nI (R k)
def GW (c w : Nat → Int32) : Prop := ∃ R : Nat → Nat, RW c (nN w) R ∧ (∀ k, k < nN w → w (R k) = 1) ∧ (∀ n, n < 12 → w n = 1 → ∃ k, k < nN w ∧ R k = n) ∧ ∀ i j, i < j → j < nN w → kl (w (24 + R i)) (R i) (w (24 + R j)) (R j)
def CH (c : Nat → Int32) (s n : Nat) (l : List Nat) : Prop := DLk (fun a => c (105 + 10 * a + s)) (fun a => c (107 + 10 * a + s)) (c (19 + 7 * n + s)) (-1) l ∧ l.Nodup
def GC (c w : Nat → Int32) : Prop := ∀ s n, s < 2 → n < 12 → w n = 1 → ∃ l, CH c s n l ∧ ∀ a, a ∈ l ↔ a < 24 ∧ w (36 + a) = 1 ∧ w (60 + 24 * s + a) = nI n
def GH (c w : Nat → Int32) : Prop := ∀ n, n < 12 → w n = 1 → c (22 + 7 * n) = nI (nD w 0 n + nD w 1 n)
def GT (c w : Nat → Int32) : Prop := c 3 = nI (nA w)
def GR (c w : Nat → Int32) : Prop := GN c w ∧ GA c w ∧ GF c w ∧ GE c w ∧ GW c w ∧ GC c w ∧ GH c w ∧ GT c w
/-- one level of what is kept -/
noncomputable def nK (ik : Nat → Int32) (t : Nat) : Nat := cn (fun i => ik (340 * t + i) = 1) 340
def LV (kc ko ik kn : Nat → Int32) (t : Nat) (old new : Nat → Int32) : Prop :=
  kn t = nI (nK ik t) ∧ (∀ k, k < nK ik t → ∃ i, i < 340 ∧ kc (340 * t + k) = nI i ∧ ik (340 * t + i) = 1 ∧ ko (340 * t + k) = old i) ∧
  (∀ i, i < 340 → (ik (340 * t + i) = 0 ∧ old i = new i) ∨ (ik (340 * t + i) = 1 ∧ ∃ k, k < nK ik t ∧ kc (340 * t + k) = nI i)) ∧ (∀ i, 340 ≤ i → old i = new i)
def LE (ik kn : Nat → Int32) (t : Nat) : Prop := kn t = 0 ∧ ∀ i, i < 340 → ik (340 * t + i) = 0
def LA (t : Nat) (kc ko ik kn kc' ko' ik' kn' : Nat → Int32) : Prop := kn' t = kn t ∧ ∀ k, k < 340 → kc' (340 * t + k) = kc (340 * t + k) ∧ ko' (340 * t + k) = ko (340 * t + k) ∧ ik' (340 * t + k) = ik (340 * t + k)
def lvN (o : Nat) (sn : Nat → Nat → Int32) (c : Nat → Int32) (t : Nat) : Nat → Int32 := if t + 1 = o then c else sn (t + 1)
def JR (o : Nat) (sn : Nat → Nat → Int32) (kc ko ik kn c : Nat → Int32) : Prop := (∀ t, t < o → LV kc ko ik kn t (sn t) (lvN o sn c t)) ∧ ∀ t, o ≤ t → t < 4 → LE ik kn t
def i_Rel (k : Nat) (u : SX) (v : SY) : Prop := match u, v with
  | (fo, fp, fc, fg, fw, ce, kc, ko, ik, kn, re, dn, qu, et, lo, ab, na, pi), (yo, w, cp, fa) => ∃ (o : Nat) (sn : Nat → Nat → Int32), o ≤ 4 ∧ fo = nI o ∧ yo = nI o ∧ JR o sn kc ko ik kn ce ∧ GR ce w ∧ ∀ t, t < o → GR (sn t) (fun i => cp (156 * t + i))
theorem i_up {k : Nat} {u : SX} {v : SY} (h : i_Rel k u v) : i_Rel (k + 4) u v := h
theorem gr_mk {fp fc fg fw : Int32} {ce kc ko ik kn re dn qu et lo ab na pi : Nat → Int32} {w cp fa : Nat → Int32} {k o : Nat} {sn : Nat → Nat → Int32} (ho : o ≤ 4) (hj : JR o sn kc ko ik kn ce) (hg : GR ce w) (hs : ∀ t, t < o → GR (sn t) (fun i => cp (156 * t + i))) : i_Rel k (nI o, fp, fc, fg, fw, ce, kc, ko, ik, kn, re, dn, qu, et, lo, ab, na, pi) (nI o, w, cp, fa) := ⟨o, sn, ho, rfl, rfl, hj, hg, hs⟩
/-- the reference's row within its 156 numbers is all that counts -/
theorem GR_w {c w w' : Nat → Int32} (h : ∀ i, i < 156 → w' i = w i) (hg : GR c w) : GR c w' := by
  obtain ⟨h1, h2, h3, h4, h5, h6, h7, h8⟩ := hg
  have eN : nN w' = nN w := cn_eq fun n hn => by rw [h n (by omega)]
  have eA : nA w' = nA w := cn_eq fun a ha => by rw [h (36 + a) (by omega)]
  have eD : ∀ s n, s < 2 → nD w' s n = nD w s n := fun s n hs => cn_eq fun a ha => by rw [h (36 + a) (by omega), h (60 + 24 * s + a) (by omega)]
  refine ⟨?_, ?_, ?_, ?_, ?_, ?_, ?_, ?_⟩
  · intro n hn
    rw [h n (by omega), h (12 + n) (by omega), h (24 + n) (by omega)]
    exact h1 n hn
  · intro a ha
    rw [h (36 + a) (by omega), h (60 + a) (by omega), h (84 + a) (by omega), h (108 + a) (by omega), h (132 + a) (by omega)]
    obtain ⟨q1, q2, q3⟩ := h2 a ha
    refine ⟨q1, q2, fun z => ?_⟩
    obtain ⟨p1, p2, p3, p4, ⟨f, f1, f2, f3⟩, ⟨t, t1, t2, t3⟩, y, g⟩ := q3 z
    refine ⟨p1, p2, p3, p4, ⟨f, ?_, f2, ?_⟩, ⟨t, ?_, t2, ?_⟩, ?_, ?_⟩
    · rw [h (60 + a) (by omega)]; exact f1
    · rw [h f (by omega)]; exact f3
    · rw [h (84 + a) (by omega)]; exact t1
    · rw [h t (by omega)]; exact t3
    · rw [h (108 + a) (by omega)]; exact y
    · rw [h (132 + a) (by omega)]; exact g
  · obtain ⟨l, l1, l2, l3⟩ := h3
    refine ⟨l, l1, l2, fun n => ?_⟩
    rw [l3 n]
    constructor
    · rintro ⟨a, b⟩; exact ⟨a, by rw [h n (by omega)]; exact b⟩
    · rintro ⟨a, b⟩; exact ⟨a, by rw [h n (by omega)] at b; exact b⟩
  · obtain ⟨l, l1, l2, l3⟩ := h4
    refine ⟨l, l1, l2, fun n => ?_⟩
    rw [l3 n]
    constructor
    · rintro ⟨a, b⟩; exact ⟨a, by rw [h (36 + n) (by omega)]; exact b⟩
    · rintro ⟨a, b⟩; exact ⟨a, by rw [h (36 + n) (by omega)] at b; exact b⟩
  · obtain ⟨R, r1, r2, r3, r4⟩ := h5
    have hR : ∀ k, k < nN w → R k < 12 := fun k hk => (r1.2.2 k hk).1
    refine ⟨R, eN ▸ r1, ?_, ?_, ?_⟩
    · rw [eN]; intro k hk; rw [h _ (by have := hR k hk; omega)]; exact r2 k hk
    · rw [eN]; intro n hn hw; rw [h n (by omega)] at hw; exact r3 n hn hw
    · rw [eN]; intro i j hij hj
      have := hR i (by omega)
      have := hR j hj
      rw [h _ (by omega), h _ (by omega)]; exact r4 i j hij hj
  · intro s n hs hn hw
    rw [h n (by omega)] at hw
    obtain ⟨l, l1, l2⟩ := h6 s n hs hn hw
    refine ⟨l, l1, fun a => ?_⟩
    rw [l2 a]
    constructor
    · rintro ⟨a1, b⟩; exact ⟨a1, by rw [h (36 + a) (by omega), h (60 + 24 * s + a) (by omega)]; exact b⟩
    · rintro ⟨a1, b⟩; exact ⟨a1, by rw [h (36 + a) (by omega), h (60 + 24 * s + a) (by omega)] at b; exact b⟩
  · intro n hn hw
    rw [h n (by omega)] at hw
    rw [eD 0 n (by omega), eD 1 n (by omega)]
    exact h7 n hn hw
  · show c 3 = nI (nA w'); rw [eA]; exact h8
end
section
/-! what a transaction keeps, and the change of one cell -/
theorem LV_cg {kc ko ik kn kc' ko' ik' kn' : Nat → Int32} {t : Nat} {old new : Nat → Int32} (ha : LA t kc ko ik kn kc' ko' ik' kn') (h : LV kc ko ik kn t old new) : LV kc' ko' ik' kn' t old new := by
  obtain ⟨h1, h2, h3, h4⟩ := h
  have e : nK ik' t = nK ik t := cn_eq fun i hi => by rw [(ha.2 i hi).2.2]
  have hle : nK ik t ≤ 340 := cn_le _ _
  refine ⟨by rw [e, ha.1]; exact h1, ?_, ?_, h4⟩
  · rw [e]
    intro k hk
    obtain ⟨i, q1, q2, q3, q4⟩ := h2 k hk
    have hk' := ha.2 k (by omega)
    exact ⟨i, q1, by rw [hk'.1]; exact q2, by rw [(ha.2 i q1).2.2]; exact q3, by rw [hk'.2.1]; exact q4⟩
  · rw [e]
    intro i hi
    rw [(ha.2 i hi).2.2]
    rcases h3 i hi with z | ⟨z1, k, z2, z3⟩
    · exact Or.inl z
    · exact Or.inr ⟨z1, k, z2, by rw [(ha.2 k (by omega)).1]; exact z3⟩
theorem LE_cg {kc ko ik kn kc' ko' ik' kn' : Nat → Int32} {t : Nat} (ha : LA t kc ko ik kn kc' ko' ik' kn') (h : LE ik kn t) : LE ik' kn' t :=
  ⟨ha.1.trans h.1, fun i hi => (ha.2 i hi).2.2.trans (h.2 i hi)⟩
theorem LV_upd {kc ko ik kn : Nat → Int32} {t : Nat} {old new : Nat → Int32} {i : Nat} {v : Int32} (hi : i < 340) (hk : ik (340 * t + i) = 1) (h : LV kc ko ik kn t old new) : LV kc ko ik kn t old (upd new i v) := by
  obtain ⟨h1, h2, h3, h4⟩ := h
  refine ⟨h1, h2, fun j hj => ?_, fun j hj => ?_⟩
  · rcases h3 j hj with ⟨z1, z2⟩ | z
    · left
      have : j ≠ i := fun e => by rw [e, hk] at z1; exact absurd z1 (by decide)
      exact ⟨z1, by rw [pk_un this]; exact z2⟩
    · exact Or.inr z
  · rw [pk_un (by omega)]; exact h4 j hj
theorem gj_b1 : vp_nar .boolean 1 = 1 := rfl
theorem gj_b0 : vp_nar .boolean 0 = 0 := rfl
section
variable {fo fp fc fg fw : Int32} {ce kc ko ik kn re dn qu et lo ab na pi : Nat → Int32}
theorem gj_keep {post : SX → Prop} {t i : Nat} {old N : Nat → Int32} {p0 p1 p2 : Int32} (ht : t < 4) (hi : i < 340) (e0 : p0 = nI t) (e1 : p1 = nI i) (hp : p2 = N i) (h : LV kc ko ik kn t old N)
    (K : ∀ (kc' ko' ik' kn' : Nat → Int32), LV kc' ko' ik' kn' t old N → ik' (340 * t + i) = 1 → (∀ t', t' ≠ t → LA t' kc ko ik kn kc' ko' ik' kn') → (∀ j, ik j = 1 → ik' j = 1) → post (fo, fp, fc, fg, fw, ce, kc', ko', ik', kn', re, dn, qu, et, lo, ab, na, pi)) :
    wpX_keepOld post (fo, fp, fc, fg, fw, ce, kc, ko, ik, kn, re, dn, qu, et, lo, ab, na, pi) p0 p1 p2 := by
  subst e0 e1
  have ex : (340 : Int32) * nI t + nI i = nI (340 * t + i) := (by first | rfl | exact congrArg nI (by omega) | (simp only [nI_add, pk_mul, ir_0, ir_1, ir_2, ir_3, ir_4, ir_5, ir_6, ir_7, ir_8, ir_9, ir_13, il_4, il_12, il_16, il_24, il_36, il_60, il_84, il_100, il_108, il_132, il_340, im_5, im_7, im_10, im_11, im_3, im_24, im_156, im_340]; first | done | exact congrArg nI (by omega)))
  have hcl : (nI (340 * t + i)).toNatClampNeg = 340 * t + i := nI_clamp (by omega)
  have hct : (nI t).toNatClampNeg = t := nI_clamp (by omega)
  obtain ⟨h1, h2, h3, h4⟩ := h
  have hix : vp_in (nI (340 * t + i)) 1360 := vp_in_nI (by omega) (by omega)
  have hit : vp_in (nI t) 4 := vp_in_nI ht (by omega)
  refine nm_r ex ⟨hix, ?_⟩
  rcases h3 i hi with ⟨z, zo⟩ | ⟨z, zk⟩
  · refine br_t (by rw [hcl]; exact z) ⟨hix, nm_e ⟨hit, ?_⟩⟩
    have hroom : nK ik t < 340 := cn_room (P := fun j => ik (340 * t + j) = 1) (a := i) (by intro y; rw [z] at y; exact absurd y (by decide)) hi
    have ex2 : (340 : Int32) * nI t + kn (nI t).toNatClampNeg = nI (340 * t + nK ik t) := by rw [hct, h1]; exact (by first | rfl | exact congrArg nI (by omega) | (simp only [nI_add, pk_mul, ir_0, ir_1, ir_2, ir_3, ir_4, ir_5, ir_6, ir_7, ir_8, ir_9, ir_13, il_4, il_12, il_16, il_24, il_36, il_60, il_84, il_100, il_108, il_132, il_340, im_5, im_7, im_10, im_11, im_3, im_24, im_156, im_340]; first | done | exact congrArg nI (by omega)))
    have hiy : vp_in (nI (340 * t + nK ik t)) 1360 := vp_in_nI (by omega) (by omega)
    have hcy : (nI (340 * t + nK ik t)).toNatClampNeg = 340 * t + nK ik t := nI_clamp (by omega)
    refine nm_r ex2 ⟨hiy, nm_e ⟨hiy, nm_e ⟨hit, hit, nm_e ?_⟩⟩⟩
    rw [hcl, hcy, hct, gj_b1]
    have eK : nK (upd ik (340 * t + i) 1) t = nK ik t + 1 := by
      refine cn_one (P := fun j => ik (340 * t + j) = 1) (Q := fun j => upd ik (340 * t + i) 1 (340 * t + j) = 1) (a := i) (by intro y; rw [z] at y; exact absurd y (by decide)) pk_us (fun j _ hj => ?_) hi
      show ik (340 * t + j) = 1 ↔ upd ik (340 * t + i) 1 (340 * t + j) = 1
      rw [pk_un (by omega)]
    refine K _ _ _ _ ⟨?_, ?_, ?_, h4⟩ pk_us (fun t' ht' => ⟨pk_un ht', fun k hk => ⟨pk_un (by omega), pk_un (by omega), pk_un (by omega)⟩⟩) (fun j hj => ?_)
    · rw [eK, pk_us, h1, nI_1]
    · rw [eK]
      intro k hk
      rcases Nat.lt_or_ge k (nK ik t) with y | y
      · obtain ⟨j, q1, q2, q3, q4⟩ := h2 k y
        refine ⟨j, q1, by rw [pk_un (by omega)]; exact q2, ?_, by rw [pk_un (by omega)]; exact q4⟩
        by_cases ej : j = i
        · rw [ej]; exact pk_us
        · rw [pk_un (by omega)]; exact q3
      · have ek : k = nK ik t := by omega
        subst ek
        exact ⟨i, hi, pk_us, pk_us, by rw [pk_us, hp]; exact zo.symm⟩
    · rw [eK]
      intro j hj
      by_cases ej : j = i
      · subst ej
        exact Or.inr ⟨pk_us, nK ik t, by omega, pk_us⟩
      · rw [pk_un (show 340 * t + j ≠ 340 * t + i by omega)]
        rcases h3 j hj with y | ⟨y1, k, y2, y3⟩
        · exact Or.inl y
        · exact Or.inr ⟨y1, k, by omega, by rw [pk_un (by omega)]; exact y3⟩
    · by_cases ej : j = 340 * t + i
      · rw [ej]; exact pk_us
      · rw [pk_un ej]; exact hj
  · refine br_f (by rw [hcl, z]; decide) ?_
    exact K kc ko ik kn ⟨h1, h2, h3, h4⟩ z (fun t' _ => ⟨rfl, fun _ _ => ⟨rfl, rfl, rfl⟩⟩) (fun _ hj => hj)
theorem gj_put {post : SX → Prop} {o : Nat} {sn : Nat → Nat → Int32} {p0 v : Int32} (ho : o ≤ 4) (hj : JR o sn kc ko ik kn ce) (i : Nat) (hi : i < 340) (e : p0 = nI i)
    (K : ∀ (kc' ko' ik' kn' : Nat → Int32), JR o sn kc' ko' ik' kn' (upd ce i v) → post (nI o, fp, fc, fg, fw, upd ce i v, kc', ko', ik', kn', re, dn, qu, et, lo, ab, na, pi)) :
    wpX_put post (nI o, fp, fc, fg, fw, ce, kc, ko, ik, kn, re, dn, qu, et, lo, ab, na, pi) p0 v := by
  subst e
  have hin : vp_in (nI i) 340 := vp_in_nI hi (by omega)
  have hcl : (nI i).toNatClampNeg = i := nI_clamp (by omega)
  rcases Nat.eq_zero_or_pos o with z | z
  · subst z
    refine br_t (by decide) ⟨hin, nm_e ?_⟩
    rw [hcl]
    exact K kc ko ik kn ⟨fun t ht => by omega, hj.2⟩
  · obtain ⟨t, rfl⟩ : ∃ t, o = t + 1 := ⟨o - 1, by omega⟩
    refine br_f (nI_nle (by omega) (by omega)) ⟨hin, ?_⟩
    have hl := hj.1 t (by omega)
    have hN : lvN (t + 1) sn ce t = ce := if_pos rfl
    rw [hN] at hl
    refine gj_keep (t := t) (i := i) (by omega) hi (nI_pred t) rfl (by rw [hcl]) hl ?_
    intro kc' ko' ik' kn' k1 k2 k3 k4
    refine ⟨hin, nm_e ?_⟩
    rw [hcl]
    refine K kc' ko' ik' kn' ⟨fun t' ht' => ?_, fun t' h1 h2 => LE_cg (k3 t' (by omega)) (hj.2 t' h1 h2)⟩
    by_cases et : t' = t
    · subst et
      have : lvN (t' + 1) sn (upd ce i v) t' = upd ce i v := if_pos rfl
      rw [this]
      exact LV_upd hi k2 k1
    · have e1 : lvN (t + 1) sn (upd ce i v) t' = lvN (t + 1) sn ce t' := by
        unfold lvN; rw [if_neg (by omega), if_neg (by omega)]
      rw [e1]
      exact LV_cg (k3 t' et) (hj.1 t' ht')
theorem gj_add {post : SX → Prop} {o : Nat} {sn : Nat → Nat → Int32} {p0 p1 v : Int32} (ho : o ≤ 4) (hj : JR o sn kc ko ik kn ce) (i : Nat) (hi : i < 340) (e : p0 = nI i) (ev : ce i + p1 = v)
    (K : ∀ (kc' ko' ik' kn' : Nat → Int32), JR o sn kc' ko' ik' kn' (upd ce i v) → post (nI o, fp, fc, fg, fw, upd ce i v, kc', ko', ik', kn', re, dn, qu, et, lo, ab, na, pi)) :
    wpX_add post (nI o, fp, fc, fg, fw, ce, kc, ko, ik, kn, re, dn, qu, et, lo, ab, na, pi) p0 p1 := by
  subst e ev
  refine ⟨vp_in_nI hi (by omega), ?_⟩
  have hcl : (nI i).toNatClampNeg = i := nI_clamp (by omega)
  rw [hcl]
  exact gj_put ho hj i hi rfl K
end
end
section
/-! the row of nodes -/
def rIns (p n : Nat) (R : Nat → Nat) : Nat → Nat := fun k => if k < p then R k else if k = p then n else R (k - 1)
def rDel (q : Nat) (R : Nat → Nat) : Nat → Nat := fun k => if k < q then R k else R (k + 1)
def FrR (c c' : Nat → Int32) : Prop := ∀ i, i ≠ 2 → (i < 4 ∨ 16 ≤ i) → c' i = c i
theorem rIns_lt {p n k : Nat} {R : Nat → Nat} (h : k < p) : rIns p n R k = R k := if_pos h
theorem rIns_eq {p n : Nat} {R : Nat → Nat} : rIns p n R p = n := by unfold rIns; rw [if_neg (by omega), if_pos rfl]
theorem rIns_gt {p n k : Nat} {R : Nat → Nat} (h : p < k) : rIns p n R k = R (k - 1) := by unfold rIns; rw [if_neg (by omega), if_neg (by omega)]
theorem rDel_lt {q k : Nat} {R : Nat → Nat} (h : k < q) : rDel q R k = R k := if_pos h
theorem rDel_ge {q k : Nat} {R : Nat → Nat} (h : q ≤ k) : rDel q R k = R (k + 1) := if_neg (by omega)
theorem gx_na {post : Int32 → Prop} {n : Nat} (h : post (nI (16 + 7 * n))) : wpX_nodeAt post (nI n) := by
  unfold wpX_nodeAt
  have e : (16 : Int32) + 7 * nI n = nI (16 + 7 * n) := (by first | rfl | exact congrArg nI (by omega) | (simp only [nI_add, pk_mul, ir_0, ir_1, ir_2, ir_3, ir_4, ir_5, ir_6, ir_7, ir_8, ir_9, ir_13, il_4, il_12, il_16, il_24, il_36, il_60, il_84, il_100, il_108, il_132, il_340, im_5, im_7, im_10, im_11, im_3, im_24, im_156, im_340]; first | done | exact congrArg nI (by omega)))
  rw [e]; exact h
theorem gx_aa {post : Int32 → Prop} {a : Nat} (h : post (nI (100 + 10 * a))) : wpX_arrowCell post (nI a) := by
  unfold wpX_arrowCell
  have e : (100 : Int32) + 10 * nI a = nI (100 + 10 * a) := (by first | rfl | exact congrArg nI (by omega) | (simp only [nI_add, pk_mul, ir_0, ir_1, ir_2, ir_3, ir_4, ir_5, ir_6, ir_7, ir_8, ir_9, ir_13, il_4, il_12, il_16, il_24, il_36, il_60, il_84, il_100, il_108, il_132, il_340, im_5, im_7, im_10, im_11, im_3, im_24, im_156, im_340]; first | done | exact congrArg nI (by omega)))
  rw [e]; exact h
section
variable {fo fp fc fg fw : Int32} {ce kc ko ik kn re dn qu et lo ab na pi : Nat → Int32}
def bl (c : Nat → Int32) (R : Nat → Nat) (v : Int32) (n k : Nat) : Prop := kl (c (18 + 7 * R k)) (R k) v n
theorem gx_place_l {post : Int32 → Prop} {L n : Nat} {R : Nat → Nat} {v : Int32} (hn : n < 12) (hr : RW ce L R) (hm : ∀ i j, i < j → j < L → bl ce R v n j → bl ce R v n i)
    (K : ∀ p, p ≤ L → (∀ k, k < p → bl ce R v n k) → (∀ k, p ≤ k → k < L → ¬ bl ce R v n k) → post (nI p)) :
    ∀ f lw hi, lw ≤ hi → hi ≤ L → hi - lw < f → (∀ k, k < lw → bl ce R v n k) → (∀ k, hi ≤ k → k < L → ¬ bl ce R v n k) → wX_placeFor_10 post v (nI n) fo fp fc fg fw ce kc ko ik kn re dn qu et lo ab na pi f (nI lw) (nI hi) := by
  intro f
  induction f with
  | zero => intro lw hi _ _ h; omega
  | succ f ih =>
    intro lw hi h1 h2 h3 h4 h5
    have hL := hr.2.1
    refine pk_le hi lw (fun z => ?_) (fun z => ?_)
    · exact K lw (by omega) h4 (fun k hk => h5 k (by omega))
    · have em : (nI lw + nI hi) >>> ((1 : Int32) &&& 31) = nI ((lw + hi) / 2) := by
        rw [nI_add]; exact pk_shrN (by omega) _ 1 (by decide)
      have hmid : (lw + hi) / 2 < hi := by omega
      have hmid2 : lw ≤ (lw + hi) / 2 := by omega
      revert em hmid hmid2
      generalize (lw + hi) / 2 = m
      intro em hmid hmid2
      obtain ⟨hR, hc⟩ := hr.2.2 m (by omega)
      refine nm_r em ⟨pk_in (4 + m) 340 (by omega) (by first | rfl | exact congrArg nI (by omega) | (simp only [nI_add, pk_mul, ir_0, ir_1, ir_2, ir_3, ir_4, ir_5, ir_6, ir_7, ir_8, ir_9, ir_13, il_4, il_12, il_16, il_24, il_36, il_60, il_84, il_100, il_108, il_132, il_340, im_5, im_7, im_10, im_11, im_3, im_24, im_156, im_340]; first | done | exact congrArg nI (by omega))), nm_r (e' := nI (R m)) ((gx_c (n := 4 + m) (by first | rfl | exact congrArg nI (by omega) | (simp only [nI_add, pk_mul, ir_0, ir_1, ir_2, ir_3, ir_4, ir_5, ir_6, ir_7, ir_8, ir_9, ir_13, il_4, il_12, il_16, il_24, il_36, il_60, il_84, il_100, il_108, il_132, il_340, im_5, im_7, im_10, im_11, im_3, im_24, im_156, im_340]; first | done | exact congrArg nI (by omega))) (by omega)).trans hc) (gx_na ⟨pk_in (18 + 7 * R m) 340 (by omega) (by first | rfl | exact congrArg nI (by omega) | (simp only [nI_add, pk_mul, ir_0, ir_1, ir_2, ir_3, ir_4, ir_5, ir_6, ir_7, ir_8, ir_9, ir_13, il_4, il_12, il_16, il_24, il_36, il_60, il_84, il_100, il_108, il_132, il_340, im_5, im_7, im_10, im_11, im_3, im_24, im_156, im_340]; first | done | exact congrArg nI (by omega))), nm_r (e' := ce (18 + 7 * R m)) (gx_c (by first | rfl | exact congrArg nI (by omega) | (simp only [nI_add, pk_mul, ir_0, ir_1, ir_2, ir_3, ir_4, ir_5, ir_6, ir_7, ir_8, ir_9, ir_13, il_4, il_12, il_16, il_24, il_36, il_60, il_84, il_100, il_108, il_132, il_340, im_5, im_7, im_10, im_11, im_3, im_24, im_156, im_340]; first | done | exact congrArg nI (by omega))) (by omega)) ?_⟩)⟩
      have up : bl ce R v n m → wX_placeFor_10 post v (nI n) fo fp fc fg fw ce kc ko ik kn re dn qu et lo ab na pi f (nI (m + 1)) (nI hi) := fun hb =>
        ih (m + 1) hi (by omega) h2 (by omega) (fun k hk => by
          by_cases e : k = m
          · rw [e]; exact hb
          · exact hm k m (by omega) (by omega) hb) h5
      have dn' : ¬ bl ce R v n m → wX_placeFor_10 post v (nI n) fo fp fc fg fw ce kc ko ik kn re dn qu et lo ab na pi f (nI lw) (nI m) := fun hb =>
        ih lw m (by omega) (by omega) (by omega) h4 (fun k hk hkL => by
          by_cases e : k = m
          · rw [e]; exact hb
          · exact fun y => hb (hm m k (by omega) hkL y))
      by_cases q1 : ce (18 + 7 * R m) < v
      · exact br_t q1 (nm_r (nI_1 m) (up (Or.inl q1)))
      · refine br_f q1 ?_
        by_cases q2 : ce (18 + 7 * R m) = v
        · refine br_t q2 (pk_le n (R m) (fun z => dn' ?_) (fun z => nm_r (nI_1 m) (up (Or.inr ⟨q2, z⟩))))
          rintro (y | y)
          · exact q1 y
          · omega
        · refine br_f q2 (dn' ?_)
          rintro (y | y)
          · exact q1 y
          · exact q2 y.1
theorem gx_place {post : Int32 → Prop} {L n : Nat} {R : Nat → Nat} {v : Int32} (hn : n < 12) (hr : RW ce L R) (hm : ∀ i j, i < j → j < L → bl ce R v n j → bl ce R v n i)
    (K : ∀ p, p ≤ L → (∀ k, k < p → bl ce R v n k) → (∀ k, p ≤ k → k < L → ¬ bl ce R v n k) → post (nI p)) : wpX_placeFor post (fo, fp, fc, fg, fw, ce, kc, ko, ik, kn, re, dn, qu, et, lo, ab, na, pi) v (nI n) :=
  nm_r hr.1 ⟨L + 1, gx_place_l hn hr hm K (L + 1) 0 L (by omega) (by omega) (by omega) (fun k hk => by omega) (fun k hk hk2 => by omega)⟩
theorem gx_ins_l {post : SX → Prop} {o : Nat} {sn : Nat → Nat → Int32} {L n p : Nat} {R : Nat → Nat} {c0 : Nat → Int32} (ho : o ≤ 4) (hn : n < 12) (hp : p ≤ L) (hL : L < 12) (hR : ∀ k, k < L → R k < 12)
    (K : ∀ (ce' kc' ko' ik' kn' : Nat → Int32), JR o sn kc' ko' ik' kn' ce' → RW ce' (L + 1) (rIns p n R) ∧ FrR c0 ce' → post (nI o, fp, fc, fg, fw, ce', kc', ko', ik', kn', re, dn, qu, et, lo, ab, na, pi)) :
    ∀ (d : Nat) (ce kc ko ik kn : Nat → Int32), p + d ≤ L → JR o sn kc ko ik kn ce → ce 2 = nI L → (∀ i, i < p + d → ce (4 + i) = nI (R i)) → (∀ i, p + d < i → i ≤ L → ce (4 + i) = nI (R (i - 1))) → FrR c0 ce → wX_insertInRow_15 post (nI n) (nI p) (d + 1) (nI (p + d)) (nI o) fp fc fg fw ce kc ko ik kn re dn qu et lo ab na pi := by
  intro d
  induction d with
  | zero =>
    intro ce kc ko ik kn hd hj h2 h3 h4 h5
    refine br_t (nI_le (by omega) (by omega)) ?_
    refine gj_put ho hj (4 + p) (by omega) (by first | rfl | exact congrArg nI (by omega) | (simp only [nI_add, pk_mul, ir_0, ir_1, ir_2, ir_3, ir_4, ir_5, ir_6, ir_7, ir_8, ir_9, ir_13, il_4, il_12, il_16, il_24, il_36, il_60, il_84, il_100, il_108, il_132, il_340, im_5, im_7, im_10, im_11, im_3, im_24, im_156, im_340]; first | done | exact congrArg nI (by omega))) ?_
    intro kc1 ko1 ik1 kn1 hj1
    refine gj_add ho hj1 2 (by omega) rfl (v := nI (L + 1)) (by rw [pk_un (by omega), h2, nI_1]) ?_
    intro kc2 ko2 ik2 kn2 hj2
    refine K _ _ _ _ _ hj2 ⟨⟨pk_us, by omega, fun k hk => ?_⟩, fun i hi hi2 => ?_⟩
    · rcases Nat.lt_trichotomy k p with z | z | z
      · rw [rIns_lt z, pk_un (by omega), pk_un (by omega)]; exact ⟨hR k (by omega), h3 k (by omega)⟩
      · subst z; rw [rIns_eq, pk_un (by omega), pk_us]; exact ⟨hn, rfl⟩
      · rw [rIns_gt z, pk_un (by omega), pk_un (by omega)]; exact ⟨hR (k - 1) (by omega), h4 k (by omega) (by omega)⟩
    · rw [pk_un hi, pk_un (by omega)]; exact h5 i hi hi2
  | succ d ih =>
    intro ce kc ko ik kn hd hj h2 h3 h4 h5
    have e1 : (4 : Int32) + nI (p + (d + 1)) - 1 = nI (4 + (p + d)) := by
      rw [il_4]; exact nI_pred (4 + (p + d))
    refine br_f (nI_ge (by omega) (by omega)) ⟨pk_in (4 + (p + d)) 340 (by omega) e1, ?_⟩
    refine gj_put ho hj (4 + (p + (d + 1))) (by omega) (by first | rfl | exact congrArg nI (by omega) | (simp only [nI_add, pk_mul, ir_0, ir_1, ir_2, ir_3, ir_4, ir_5, ir_6, ir_7, ir_8, ir_9, ir_13, il_4, il_12, il_16, il_24, il_36, il_60, il_84, il_100, il_108, il_132, il_340, im_5, im_7, im_10, im_11, im_3, im_24, im_156, im_340]; first | done | exact congrArg nI (by omega))) ?_
    intro kc1 ko1 ik1 kn1 hj1
    refine nm_r (pk_m1 (p + d)) ?_
    refine ih _ kc1 ko1 ik1 kn1 (by omega) hj1 ?_ ?_ ?_ ?_
    · rw [pk_un (by omega)]; exact h2
    · intro i hi; rw [pk_un (by omega)]; exact h3 i (by omega)
    · intro i hi hi2
      by_cases e : i = p + (d + 1)
      · subst e
        rw [pk_us, gx_c (f := ce) e1 (by omega), h3 (p + d) (by omega)]
        rfl
      · rw [pk_un (by omega)]; exact h4 i (by omega) hi2
    · intro i hi hi2; rw [pk_un (by omega)]; exact h5 i hi hi2
theorem gx_ins {post : SX → Prop} {o : Nat} {sn : Nat → Nat → Int32} {L n : Nat} {R : Nat → Nat} {v : Int32} (ho : o ≤ 4) (hj : JR o sn kc ko ik kn ce) (hn : n < 12) (hL : L < 12) (hr : RW ce L R) (hm : ∀ i j, i < j → j < L → bl ce R v n j → bl ce R v n i)
    (K : ∀ p, p ≤ L → (∀ k, k < p → bl ce R v n k) → (∀ k, p ≤ k → k < L → ¬ bl ce R v n k) → (∀ (ce' kc' ko' ik' kn' : Nat → Int32), JR o sn kc' ko' ik' kn' ce' → (RW ce' (L + 1) (rIns p n R) ∧ FrR ce ce') → post (nI o, fp, fc, fg, fw, ce', kc', ko', ik', kn', re, dn, qu, et, lo, ab, na, pi))) : wpX_insertInRow post (nI o, fp, fc, fg, fw, ce, kc, ko, ik, kn, re, dn, qu, et, lo, ab, na, pi) (nI n) v := by
  refine gx_place hn hr hm ?_
  intro p hp h1 h2
  refine nm_r hr.1 ⟨(L - p) + 1, ?_⟩
  have h := gx_ins_l (post := post) (n := n) (c0 := ce) ho hn hp hL (fun k hk => (hr.2.2 k hk).1) (K p hp h1 h2) (L - p) ce kc ko ik kn (by omega) hj hr.1 (fun i hi => (hr.2.2 i (by omega)).2) (fun i hi hi2 => by omega) (fun i _ _ => rfl)
  rw [show p + (L - p) = L by omega] at h
  exact h
theorem gx_rem_l {post : SX → Prop} {o : Nat} {sn : Nat → Nat → Int32} {L q : Nat} {R : Nat → Nat} {c0 : Nat → Int32} (ho : o ≤ 4) (hq : q ≤ L) (hL : L < 12) (hR : ∀ k, k < L + 1 → R k < 12)
    (K : ∀ (ce' kc' ko' ik' kn' : Nat → Int32), JR o sn kc' ko' ik' kn' ce' → RW ce' L (rDel q R) ∧ FrR c0 ce' → post (nI o, fp, fc, fg, fw, ce', kc', ko', ik', kn', re, dn, qu, et, lo, ab, na, pi)) :
    ∀ (d k : Nat) (ce kc ko ik kn : Nat → Int32), q ≤ k → k + d = L → JR o sn kc ko ik kn ce → ce 2 = nI L → (∀ i, i < k → ce (4 + i) = nI (rDel q R i)) → (∀ i, k ≤ i → i ≤ L → ce (4 + i) = nI (R i)) → FrR c0 ce → wX_removeFromRow_25 post (d + 1) (nI k) (nI o) fp fc fg fw ce kc ko ik kn re dn qu et lo ab na pi := by
  intro d
  induction d with
  | zero =>
    intro k ce kc ko ik kn hqk hd hj h2 h3 h4 h5
    refine br_t (by rw [h2]; exact nI_le (by omega) (by omega)) ?_
    refine K _ _ _ _ _ hj ⟨⟨h2, by omega, fun i hi => ⟨?_, h3 i (by omega)⟩⟩, h5⟩
    unfold rDel
    split
    · exact hR i (by omega)
    · exact hR (i + 1) (by omega)
  | succ d ih =>
    intro k ce kc ko ik kn hqk hd hj h2 h3 h4 h5
    have e1 : (4 : Int32) + nI k + 1 = nI (5 + k) := (by first | rfl | exact congrArg nI (by omega) | (simp only [nI_add, pk_mul, ir_0, ir_1, ir_2, ir_3, ir_4, ir_5, ir_6, ir_7, ir_8, ir_9, ir_13, il_4, il_12, il_16, il_24, il_36, il_60, il_84, il_100, il_108, il_132, il_340, im_5, im_7, im_10, im_11, im_3, im_24, im_156, im_340]; first | done | exact congrArg nI (by omega)))
    refine br_f (by rw [h2]; exact nI_ge (by omega) (by omega)) ⟨pk_in (5 + k) 340 (by omega) e1, ?_⟩
    refine gj_put ho hj (4 + k) (by omega) (by first | rfl | exact congrArg nI (by omega) | (simp only [nI_add, pk_mul, ir_0, ir_1, ir_2, ir_3, ir_4, ir_5, ir_6, ir_7, ir_8, ir_9, ir_13, il_4, il_12, il_16, il_24, il_36, il_60, il_84, il_100, il_108, il_132, il_340, im_5, im_7, im_10, im_11, im_3, im_24, im_156, im_340]; first | done | exact congrArg nI (by omega))) ?_
    intro kc1 ko1 ik1 kn1 hj1
    refine nm_r (nI_1 k) ?_
    refine ih (k + 1) _ kc1 ko1 ik1 kn1 (by omega) (by omega) hj1 ?_ ?_ ?_ ?_
    · rw [pk_un (by omega)]; exact h2
    · intro i hi
      by_cases e : i = k
      · subst e
        rw [pk_us, gx_c (f := ce) e1 (by omega), rDel_ge hqk, show 5 + i = 4 + (i + 1) by omega]
        exact h4 (i + 1) (by omega) (by omega)
      · rw [pk_un (by omega)]; exact h3 i (by omega)
    · intro i hi hi2; rw [pk_un (by omega)]; exact h4 i (by omega) hi2
    · intro i hi hi2; rw [pk_un (by omega)]; exact h5 i hi hi2
theorem gx_rem {post : SX → Prop} {o : Nat} {sn : Nat → Nat → Int32} {L q : Nat} {R : Nat → Nat} (ho : o ≤ 4) (hj : JR o sn kc ko ik kn ce) (hr : RW ce (L + 1) R) (hq : q ≤ L) (hs : ∀ i j, i < j → j < L + 1 → kl (ce (18 + 7 * R i)) (R i) (ce (18 + 7 * R j)) (R j))
    (K : (∀ (ce' kc' ko' ik' kn' : Nat → Int32), JR o sn kc' ko' ik' kn' ce' → (RW ce' L (rDel q R) ∧ FrR ce ce') → post (nI o, fp, fc, fg, fw, ce', kc', ko', ik', kn', re, dn, qu, et, lo, ab, na, pi))) : wpX_removeFromRow post (nI o, fp, fc, fg, fw, ce, kc, ko, ik, kn, re, dn, qu, et, lo, ab, na, pi) (nI (R q)) := by
  have hL := hr.2.1
  obtain ⟨hRq, _⟩ := hr.2.2 q (by omega)
  unfold wpX_removeFromRow
  refine gx_na ?_
  refine ⟨pk_in (18 + 7 * R q) 340 (by omega) (by first | rfl | exact congrArg nI (by omega) | (simp only [nI_add, pk_mul, ir_0, ir_1, ir_2, ir_3, ir_4, ir_5, ir_6, ir_7, ir_8, ir_9, ir_13, il_4, il_12, il_16, il_24, il_36, il_60, il_84, il_100, il_108, il_132, il_340, im_5, im_7, im_10, im_11, im_3, im_24, im_156, im_340]; first | done | exact congrArg nI (by omega))), ?_⟩
  have e : ce (nI (16 + 7 * R q) + 2).toNatClampNeg = ce (18 + 7 * R q) := gx_c (by first | rfl | exact congrArg nI (by omega) | (simp only [nI_add, pk_mul, ir_0, ir_1, ir_2, ir_3, ir_4, ir_5, ir_6, ir_7, ir_8, ir_9, ir_13, il_4, il_12, il_16, il_24, il_36, il_60, il_84, il_100, il_108, il_132, il_340, im_5, im_7, im_10, im_11, im_3, im_24, im_156, im_340]; first | done | exact congrArg nI (by omega))) (by omega)
  rw [e]
  refine gx_place hRq hr (fun i j hij hj hb => kl_tr (hs i j hij hj) hb) ?_
  intro p hp h1 h2
  have epq : p = q := by
    rcases Nat.lt_trichotomy p q with z | z | z
    · exact absurd (hs p q z (by omega)) (h2 p (by omega) (by omega))
    · exact z
    · exact absurd (h1 q z) kl_irr
  subst epq
  refine gj_add ho hj 2 (by omega) rfl (v := nI L) (by rw [hr.1]; exact pk_m1 L) ?_
  intro kc1 ko1 ik1 kn1 hj1
  refine ⟨(L - p) + 1, ?_⟩
  refine gx_rem_l (c0 := ce) ho hq (by omega) (fun k hk => (hr.2.2 k hk).1) K (L - p) p _ kc1 ko1 ik1 kn1 (by omega) (by omega) hj1 pk_us ?_ ?_ ?_
  · intro i hi; rw [pk_un (by omega), rDel_lt hi]; exact (hr.2.2 i (by omega)).2
  · intro i hi hi2; rw [pk_un (by omega)]; exact (hr.2.2 i (by omega)).2
  · intro i hi _; exact pk_un hi
end
end
section
/-! chains of free records, and of arrows -/
theorem LkF_tail {nx : Nat → Int32} {b : Nat} {lb : List Nat} : ∀ {la : List Nat} {h : Int32}, LkF nx h (la ++ b :: lb) → LkF nx (nx b) lb
  | [], _, hl => hl.2
  | _ :: _, _, hl => LkF_tail hl.2
theorem LkF_ins {nx nx' : Nat → Int32} {b m : Nat} {lb : List Nat} : ∀ {la : List Nat} {h : Int32}, (∀ x, x ∈ la ++ lb → nx' x = nx x) → nx' b = nI m → nx' m = nx b → LkF nx h (la ++ b :: lb) → LkF nx' h (la ++ b :: m :: lb)
  | [], _, hc, e1, e2, hl => ⟨hl.1, e1, by rw [e2]; exact LkF_congr hc hl.2⟩
  | x :: la, h, hc, e1, e2, hl => ⟨hl.1, by rw [hc x (by simp)]; exact LkF_ins (fun y hy => hc y (by rw [List.cons_append]; exact List.mem_cons_of_mem _ hy)) e1 e2 hl.2⟩
theorem gx_rise {m : Nat} {la lb : List Nat} (h : (la ++ lb).Pairwise (· < ·)) (h1 : ∀ x, x ∈ la → x < m) (h2 : ∀ x, x ∈ lb → m < x) : (la ++ m :: lb).Pairwise (· < ·) := by
  rw [List.pairwise_append] at h ⊢
  refine ⟨h.1, List.pairwise_cons.mpr ⟨h2, h.2.1⟩, fun a ha b hb => ?_⟩
  rcases List.mem_cons.mp hb with e | e
  · rw [e]; exact h1 a ha
  · exact h.2.2 a ha b e
section
variable {fo fp fc fg fw : Int32} {ce kc ko ik kn re dn qu et lo ab na pi : Nat → Int32}
theorem gx_gb44_n {post : SX → Prop} {o : Nat} {sn : Nat → Nat → Int32} {m at' : Nat} {la lb : List Nat} (ho : o ≤ 4) (hj : JR o sn kc ko ik kn ce) (hm : m < 12) (hlt : ∀ x, x ∈ la ++ lb → x < 12) (hnm : m ∉ la ++ lb) (hl : LkF (fun k => ce (21 + 7 * k)) (ce 0) (la ++ lb)) (hr : (la ++ lb).Pairwise (· < ·))
    (hat : (la = [] ∧ at' = 0) ∨ ∃ l0 b, la = l0 ++ [b] ∧ at' = 21 + 7 * b) (h1 : ∀ x, x ∈ la → x < m) (h2 : ∀ x, x ∈ lb → m < x)
    (K : ∀ l', LkF (fun k => (upd (upd ce (21 + 7 * m) (ce at')) at' (nI m)) (21 + 7 * k)) ((upd (upd ce (21 + 7 * m) (ce at')) at' (nI m)) 0) l' → l'.Pairwise (· < ·) → (∀ x, x ∈ l' ↔ x ∈ la ++ lb ∨ x = m) →
      ∀ (kc' ko' ik' kn' : Nat → Int32), JR o sn kc' ko' ik' kn' (upd (upd ce (21 + 7 * m) (ce at')) at' (nI m)) → post (nI o, fp, fc, fg, fw, upd (upd ce (21 + 7 * m) (ce at')) at' (nI m), kc', ko', ik', kn', re, dn, qu, et, lo, ab, na, pi)) :
    wX_giveBack_44 post 16 7 5 (nI m) (nI at') (nI o) fp fc fg fw ce kc ko ik kn re dn qu et lo ab na pi := by
  have hat2 : at' < 340 := by
    rcases hat with ⟨_, e⟩ | ⟨l0, b, e, e2⟩
    · omega
    · have := hlt b (by rw [e]; simp); omega
  refine ⟨vp_in_nI hat2 (by omega), ?_⟩
  rw [nI_clamp (show at' < 2 ^ 31 by omega)]
  refine gj_put ho hj (21 + 7 * m) (by omega) (by first | rfl | exact congrArg nI (by omega) | (simp only [nI_add, pk_mul, ir_0, ir_1, ir_2, ir_3, ir_4, ir_5, ir_6, ir_7, ir_8, ir_9, ir_13, il_4, il_12, il_16, il_24, il_36, il_60, il_84, il_100, il_108, il_132, il_340, im_5, im_7, im_10, im_11, im_3, im_24, im_156, im_340]; first | done | exact congrArg nI (by omega))) ?_
  intro kc1 ko1 ik1 kn1 hj1
  refine gj_put ho hj1 at' hat2 rfl ?_
  refine K (la ++ m :: lb) ?_ (gx_rise hr h1 h2) (fun x => ?_)
  · rcases hat with ⟨e, e2⟩ | ⟨l0, b, e, e2⟩
    · subst e e2
      rw [List.nil_append] at hl ⊢
      refine ⟨pk_us, ?_⟩
      show LkF _ ((upd (upd ce (21 + 7 * m) (ce 0)) 0 (nI m)) (21 + 7 * m)) lb
      rw [pk_un (by omega), pk_us]
      refine LkF_congr (fun x hx => ?_) hl
      have hxm : x ≠ m := fun z => hnm (by rw [List.nil_append, ← z]; exact hx)
      show (upd (upd ce (21 + 7 * m) (ce 0)) 0 (nI m)) (21 + 7 * x) = _
      rw [pk_un (by omega), pk_un (by omega)]
    · subst e e2
      have hbm : b ≠ m := fun z => hnm (by rw [← z]; simp)
      have hnd : (l0 ++ [b] ++ lb).Nodup := hr.imp (fun h => Nat.ne_of_lt h)
      rw [List.append_assoc, List.singleton_append] at hl hnd
      rw [List.append_assoc, List.singleton_append]
      have hb : ∀ x, x ∈ l0 ++ lb → x ≠ b := by
        intro x hx e
        subst e
        rw [List.nodup_append] at hnd
        rcases List.mem_append.mp hx with z | z
        · exact hnd.2.2 x z x List.mem_cons_self rfl
        · exact (List.nodup_cons.mp hnd.2.1).1 z
      rw [pk_un (show 0 ≠ 21 + 7 * b by omega), pk_un (show 0 ≠ 21 + 7 * m by omega)]
      refine LkF_ins (fun x hx => ?_) pk_us ?_ hl
      · have hxm : x ≠ m := fun z => hnm (by
          rw [← z]
          rcases List.mem_append.mp hx with y | y
          · simp [y]
          · simp [y])
        have hxb := hb x hx
        show (upd (upd ce (21 + 7 * m) (ce (21 + 7 * b))) (21 + 7 * b) (nI m)) (21 + 7 * x) = _
        rw [pk_un (by omega), pk_un (by omega)]
      · show (upd (upd ce (21 + 7 * m) (ce (21 + 7 * b))) (21 + 7 * b) (nI m)) (21 + 7 * m) = _
        rw [pk_un (by omega), pk_us]
  · simp only [List.mem_append, List.mem_cons]
    constructor
    · rintro (z | z | z)
      · exact Or.inl (Or.inl z)
      · exact Or.inr z
      · exact Or.inl (Or.inr z)
    · rintro ((z | z) | z)
      · exact Or.inl z
      · exact Or.inr (Or.inr z)
      · exact Or.inr (Or.inl z)
theorem gx_gb_l_n {post : SX → Prop} {o : Nat} {sn : Nat → Nat → Int32} {m : Nat} {l : List Nat} (ho : o ≤ 4) (hj : JR o sn kc ko ik kn ce) (hm : m < 12) (hlt : ∀ x, x ∈ l → x < 12) (hnm : m ∉ l) (hl : LkF (fun k => ce (21 + 7 * k)) (ce 0) l) (hr : l.Pairwise (· < ·))
    (K : ∀ l', (∀ (ce' kc' ko' ik' kn' : Nat → Int32), JR o sn kc' ko' ik' kn' ce' → (LkF (fun k => ce' (21 + 7 * k)) (ce' 0) l' ∧ l'.Pairwise (· < ·) ∧ (∀ x, x ∈ l' ↔ x ∈ l ∨ x = m) ∧ ∀ i, i ≠ 0 → i ≠ 21 + 7 * m → (∀ x, x ∈ l → i ≠ 21 + 7 * x) → ce' i = ce i) → post (nI o, fp, fc, fg, fw, ce', kc', ko', ik', kn', re, dn, qu, et, lo, ab, na, pi))) :
    ∀ (f : Nat) (la lb : List Nat) (at' : Nat), la ++ lb = l → (∀ x, x ∈ la → x < m) → ((la = [] ∧ at' = 0) ∨ ∃ l0 b, la = l0 ++ [b] ∧ at' = 21 + 7 * b) → lb.length < f → wX_giveBack_3 post 16 7 5 (nI m) (nI o) fp fc fg fw ce kc ko ik kn re dn qu et lo ab na pi f (nI at') := by
  intro f
  induction f with
  | zero => intro la lb at' _ _ _ h; omega
  | succ f ih =>
    intro la lb at' e h1 hat hlen
    subst e
    have hat2 : at' < 340 := by
      rcases hat with ⟨_, e⟩ | ⟨l0, b, e, e2⟩
      · omega
      · have := hlt b (by rw [e]; simp); omega
    have hin : vp_in (nI at') 340 := vp_in_nI hat2 (by omega)
    have hcl : (nI at').toNatClampNeg = at' := nI_clamp (by omega)
    have hval : LkF (fun k => ce (21 + 7 * k)) (ce at') lb := by
      rcases hat with ⟨e, e2⟩ | ⟨l0, b, e, e2⟩
      · subst e e2; exact hl
      · subst e e2
        rw [List.append_assoc, List.singleton_append] at hl
        exact LkF_tail hl
    have fin : (∀ x, x ∈ lb → m < x) → wX_giveBack_44 post 16 7 5 (nI m) (nI at') (nI o) fp fc fg fw ce kc ko ik kn re dn qu et lo ab na pi := by
      intro h2
      refine gx_gb44_n ho hj hm hlt hnm hl hr hat h1 h2 ?_
      intro l' q1 q2 q3 kc' ko' ik' kn' hj'
      refine K l' _ kc' ko' ik' kn' hj' ⟨q1, q2, q3, fun i i1 i2 i3 => ?_⟩
      have : i ≠ at' := by
        rcases hat with ⟨_, e⟩ | ⟨l0, b, e, e2⟩
        · rw [e]; exact i1
        · rw [e2]; exact i3 b (by rw [e]; simp)
      rw [pk_un this, pk_un i2]
    refine ⟨hin, ?_⟩
    cases lb with
    | nil =>
      refine br_t (by rw [hcl]; have : ce at' = -1 := hval; rw [this]; decide) (fin (fun _ h => nomatch h))
    | cons b lb =>
      have hb : ce at' = nI b := hval.1
      have hb24 : b < 12 := hlt b (by simp)
      have hbm : b ≠ m := fun z => hnm (by rw [← z]; simp)
      refine br_f (by rw [hcl, hb]; exact nI_pos (by omega)) ⟨hin, ?_⟩
      rw [hcl, hb]
      refine pk_le m b (fun z => ?_) (fun z => ⟨hin, ?_⟩)
      · refine fin (fun x hx => ?_)
        rcases List.mem_cons.mp hx with y | y
        · omega
        · have hh := (List.pairwise_append.mp hr).2.1
          have := (List.pairwise_cons.mp hh).1 x y
          omega
      · refine nm_r (e' := nI (21 + 7 * b)) (by first | rfl | exact congrArg nI (by omega) | (simp only [nI_add, pk_mul, ir_0, ir_1, ir_2, ir_3, ir_4, ir_5, ir_6, ir_7, ir_8, ir_9, ir_13, il_4, il_12, il_16, il_24, il_36, il_60, il_84, il_100, il_108, il_132, il_340, im_5, im_7, im_10, im_11, im_3, im_24, im_156, im_340]; first | done | exact congrArg nI (by omega))) ?_
        refine ih (la ++ [b]) lb (21 + 7 * b) (by simp) (fun x hx => ?_) (Or.inr ⟨la, b, rfl, rfl⟩) (by rw [List.length_cons] at hlen; omega)
        rcases List.mem_append.mp hx with y | y
        · exact h1 x y
        · rw [List.mem_singleton] at y; omega
theorem gx_gb_n {post : SX → Prop} {o : Nat} {sn : Nat → Nat → Int32} {m : Nat} {l : List Nat} (ho : o ≤ 4) (hj : JR o sn kc ko ik kn ce) (hm : m < 12) (hlt : ∀ x, x ∈ l → x < 12) (hnm : m ∉ l) (hl : LkF (fun k => ce (21 + 7 * k)) (ce 0) l) (hr : l.Pairwise (· < ·))
    (K : ∀ l', (∀ (ce' kc' ko' ik' kn' : Nat → Int32), JR o sn kc' ko' ik' kn' ce' → (LkF (fun k => ce' (21 + 7 * k)) (ce' 0) l' ∧ l'.Pairwise (· < ·) ∧ (∀ x, x ∈ l' ↔ x ∈ l ∨ x = m) ∧ ∀ i, i ≠ 0 → i ≠ 21 + 7 * m → (∀ x, x ∈ l → i ≠ 21 + 7 * x) → ce' i = ce i) → post (nI o, fp, fc, fg, fw, ce', kc', ko', ik', kn', re, dn, qu, et, lo, ab, na, pi))) :
    wpX_giveBack post (nI o, fp, fc, fg, fw, ce, kc, ko, ik, kn, re, dn, qu, et, lo, ab, na, pi) 0 16 7 5 (nI m) :=
  ⟨l.length + 1, gx_gb_l_n ho hj hm hlt hnm hl hr K (l.length + 1) [] l 0 rfl (fun _ h => nomatch h) (Or.inl ⟨rfl, rfl⟩) (by omega)⟩
theorem gx_gb44_a {post : SX → Prop} {o : Nat} {sn : Nat → Nat → Int32} {m at' : Nat} {la lb : List Nat} (ho : o ≤ 4) (hj : JR o sn kc ko ik kn ce) (hm : m < 24) (hlt : ∀ x, x ∈ la ++ lb → x < 24) (hnm : m ∉ la ++ lb) (hl : LkF (fun k => ce (105 + 10 * k)) (ce 1) (la ++ lb)) (hr : (la ++ lb).Pairwise (· < ·))
    (hat : (la = [] ∧ at' = 1) ∨ ∃ l0 b, la = l0 ++ [b] ∧ at' = 105 + 10 * b) (h1 : ∀ x, x ∈ la → x < m) (h2 : ∀ x, x ∈ lb → m < x)
    (K : ∀ l', LkF (fun k => (upd (upd ce (105 + 10 * m) (ce at')) at' (nI m)) (105 + 10 * k)) ((upd (upd ce (105 + 10 * m) (ce at')) at' (nI m)) 1) l' → l'.Pairwise (· < ·) → (∀ x, x ∈ l' ↔ x ∈ la ++ lb ∨ x = m) →
      ∀ (kc' ko' ik' kn' : Nat → Int32), JR o sn kc' ko' ik' kn' (upd (upd ce (105 + 10 * m) (ce at')) at' (nI m)) → post (nI o, fp, fc, fg, fw, upd (upd ce (105 + 10 * m) (ce at')) at' (nI m), kc', ko', ik', kn', re, dn, qu, et, lo, ab, na, pi)) :
    wX_giveBack_44 post 100 10 5 (nI m) (nI at') (nI o) fp fc fg fw ce kc ko ik kn re dn qu et lo ab na pi := by
  have hat2 : at' < 340 := by
    rcases hat with ⟨_, e⟩ | ⟨l0, b, e, e2⟩
    · omega
    · have := hlt b (by rw [e]; simp); omega
  refine ⟨vp_in_nI hat2 (by omega), ?_⟩
  rw [nI_clamp (show at' < 2 ^ 31 by omega)]
  refine gj_put ho hj (105 + 10 * m) (by omega) (by first | rfl | exact congrArg nI (by omega) | (simp only [nI_add, pk_mul, ir_0, ir_1, ir_2, ir_3, ir_4, ir_5, ir_6, ir_7, ir_8, ir_9, ir_13, il_4, il_12, il_16, il_24, il_36, il_60, il_84, il_100, il_108, il_132, il_340, im_5, im_7, im_10, im_11, im_3, im_24, im_156, im_340]; first | done | exact congrArg nI (by omega))) ?_
  intro kc1 ko1 ik1 kn1 hj1
  refine gj_put ho hj1 at' hat2 rfl ?_
  refine K (la ++ m :: lb) ?_ (gx_rise hr h1 h2) (fun x => ?_)
  · rcases hat with ⟨e, e2⟩ | ⟨l0, b, e, e2⟩
    · subst e e2
      rw [List.nil_append] at hl ⊢
      refine ⟨pk_us, ?_⟩
      show LkF _ ((upd (upd ce (105 + 10 * m) (ce 1)) 1 (nI m)) (105 + 10 * m)) lb
      rw [pk_un (by omega), pk_us]
      refine LkF_congr (fun x hx => ?_) hl
      have hxm : x ≠ m := fun z => hnm (by rw [List.nil_append, ← z]; exact hx)
      show (upd (upd ce (105 + 10 * m) (ce 1)) 1 (nI m)) (105 + 10 * x) = _
      rw [pk_un (by omega), pk_un (by omega)]
    · subst e e2
      have hbm : b ≠ m := fun z => hnm (by rw [← z]; simp)
      have hnd : (l0 ++ [b] ++ lb).Nodup := hr.imp (fun h => Nat.ne_of_lt h)
      rw [List.append_assoc, List.singleton_append] at hl hnd
      rw [List.append_assoc, List.singleton_append]
      have hb : ∀ x, x ∈ l0 ++ lb → x ≠ b := by
        intro x hx e
        subst e
        rw [List.nodup_append] at hnd
        rcases List.mem_append.mp hx with z | z
        · exact hnd.2.2 x z x List.mem_cons_self rfl
        · exact (List.nodup_cons.mp hnd.2.1).1 z
      rw [pk_un (show 1 ≠ 105 + 10 * b by omega), pk_un (show 1 ≠ 105 + 10 * m by omega)]
      refine LkF_ins (fun x hx => ?_) pk_us ?_ hl
      · have hxm : x ≠ m := fun z => hnm (by
          rw [← z]
          rcases List.mem_append.mp hx with y | y
          · simp [y]
          · simp [y])
        have hxb := hb x hx
        show (upd (upd ce (105 + 10 * m) (ce (105 + 10 * b))) (105 + 10 * b) (nI m)) (105 + 10 * x) = _
        rw [pk_un (by omega), pk_un (by omega)]
      · show (upd (upd ce (105 + 10 * m) (ce (105 + 10 * b))) (105 + 10 * b) (nI m)) (105 + 10 * m) = _
        rw [pk_un (by omega), pk_us]
  · simp only [List.mem_append, List.mem_cons]
    constructor
    · rintro (z | z | z)
      · exact Or.inl (Or.inl z)
      · exact Or.inr z
      · exact Or.inl (Or.inr z)
    · rintro ((z | z) | z)
      · exact Or.inl z
      · exact Or.inr (Or.inr z)
      · exact Or.inr (Or.inl z)
theorem gx_gb_l_a {post : SX → Prop} {o : Nat} {sn : Nat → Nat → Int32} {m : Nat} {l : List Nat} (ho : o ≤ 4) (hj : JR o sn kc ko ik kn ce) (hm : m < 24) (hlt : ∀ x, x ∈ l → x < 24) (hnm : m ∉ l) (hl : LkF (fun k => ce (105 + 10 * k)) (ce 1) l) (hr : l.Pairwise (· < ·))
    (K : ∀ l', (∀ (ce' kc' ko' ik' kn' : Nat → Int32), JR o sn kc' ko' ik' kn' ce' → (LkF (fun k => ce' (105 + 10 * k)) (ce' 1) l' ∧ l'.Pairwise (· < ·) ∧ (∀ x, x ∈ l' ↔ x ∈ l ∨ x = m) ∧ ∀ i, i ≠ 1 → i ≠ 105 + 10 * m → (∀ x, x ∈ l → i ≠ 105 + 10 * x) → ce' i = ce i) → post (nI o, fp, fc, fg, fw, ce', kc', ko', ik', kn', re, dn, qu, et, lo, ab, na, pi))) :
    ∀ (f : Nat) (la lb : List Nat) (at' : Nat), la ++ lb = l → (∀ x, x ∈ la → x < m) → ((la = [] ∧ at' = 1) ∨ ∃ l0 b, la = l0 ++ [b] ∧ at' = 105 + 10 * b) → lb.length < f → wX_giveBack_3 post 100 10 5 (nI m) (nI o) fp fc fg fw ce kc ko ik kn re dn qu et lo ab na pi f (nI at') := by
  intro f
  induction f with
  | zero => intro la lb at' _ _ _ h; omega
  | succ f ih =>
    intro la lb at' e h1 hat hlen
    subst e
    have hat2 : at' < 340 := by
      rcases hat with ⟨_, e⟩ | ⟨l0, b, e, e2⟩
      · omega
      · have := hlt b (by rw [e]; simp); omega
    have hin : vp_in (nI at') 340 := vp_in_nI hat2 (by omega)
    have hcl : (nI at').toNatClampNeg = at' := nI_clamp (by omega)
    have hval : LkF (fun k => ce (105 + 10 * k)) (ce at') lb := by
      rcases hat with ⟨e, e2⟩ | ⟨l0, b, e, e2⟩
      · subst e e2; exact hl
      · subst e e2
        rw [List.append_assoc, List.singleton_append] at hl
        exact LkF_tail hl
    have fin : (∀ x, x ∈ lb → m < x) → wX_giveBack_44 post 100 10 5 (nI m) (nI at') (nI o) fp fc fg fw ce kc ko ik kn re dn qu et lo ab na pi := by
      intro h2
      refine gx_gb44_a ho hj hm hlt hnm hl hr hat h1 h2 ?_
      intro l' q1 q2 q3 kc' ko' ik' kn' hj'
      refine K l' _ kc' ko' ik' kn' hj' ⟨q1, q2, q3, fun i i1 i2 i3 => ?_⟩
      have : i ≠ at' := by
        rcases hat with ⟨_, e⟩ | ⟨l0, b, e, e2⟩
        · rw [e]; exact i1
        · rw [e2]; exact i3 b (by rw [e]; simp)
      rw [pk_un this, pk_un i2]
    refine ⟨hin, ?_⟩
    cases lb with
    | nil =>
      refine br_t (by rw [hcl]; have : ce at' = -1 := hval; rw [this]; decide) (fin (fun _ h => nomatch h))
    | cons b lb =>
      have hb : ce at' = nI b := hval.1
      have hb24 : b < 24 := hlt b (by simp)
      have hbm : b ≠ m := fun z => hnm (by rw [← z]; simp)
      refine br_f (by rw [hcl, hb]; exact nI_pos (by omega)) ⟨hin, ?_⟩
      rw [hcl, hb]
      refine pk_le m b (fun z => ?_) (fun z => ⟨hin, ?_⟩)
      · refine fin (fun x hx => ?_)
        rcases List.mem_cons.mp hx with y | y
        · omega
        · have hh := (List.pairwise_append.mp hr).2.1
          have := (List.pairwise_cons.mp hh).1 x y
          omega
      · refine nm_r (e' := nI (105 + 10 * b)) (by first | rfl | exact congrArg nI (by omega) | (simp only [nI_add, pk_mul, ir_0, ir_1, ir_2, ir_3, ir_4, ir_5, ir_6, ir_7, ir_8, ir_9, ir_13, il_4, il_12, il_16, il_24, il_36, il_60, il_84, il_100, il_108, il_132, il_340, im_5, im_7, im_10, im_11, im_3, im_24, im_156, im_340]; first | done | exact congrArg nI (by omega))) ?_
        refine ih (la ++ [b]) lb (105 + 10 * b) (by simp) (fun x hx => ?_) (Or.inr ⟨la, b, rfl, rfl⟩) (by rw [List.length_cons] at hlen; omega)
        rcases List.mem_append.mp hx with y | y
        · exact h1 x y
        · rw [List.mem_singleton] at y; omega
theorem gx_gb_a {post : SX → Prop} {o : Nat} {sn : Nat → Nat → Int32} {m : Nat} {l : List Nat} (ho : o ≤ 4) (hj : JR o sn kc ko ik kn ce) (hm : m < 24) (hlt : ∀ x, x ∈ l → x < 24) (hnm : m ∉ l) (hl : LkF (fun k => ce (105 + 10 * k)) (ce 1) l) (hr : l.Pairwise (· < ·))
    (K : ∀ l', (∀ (ce' kc' ko' ik' kn' : Nat → Int32), JR o sn kc' ko' ik' kn' ce' → (LkF (fun k => ce' (105 + 10 * k)) (ce' 1) l' ∧ l'.Pairwise (· < ·) ∧ (∀ x, x ∈ l' ↔ x ∈ l ∨ x = m) ∧ ∀ i, i ≠ 1 → i ≠ 105 + 10 * m → (∀ x, x ∈ l → i ≠ 105 + 10 * x) → ce' i = ce i) → post (nI o, fp, fc, fg, fw, ce', kc', ko', ik', kn', re, dn, qu, et, lo, ab, na, pi))) :
    wpX_giveBack post (nI o, fp, fc, fg, fw, ce, kc, ko, ik, kn, re, dn, qu, et, lo, ab, na, pi) 1 100 10 5 (nI m) :=
  ⟨l.length + 1, gx_gb_l_a ho hj hm hlt hnm hl hr K (l.length + 1) [] l 1 rfl (fun _ h => nomatch h) (Or.inl ⟨rfl, rfl⟩) (by omega)⟩
/-- an arrow at the beginning of a chain -/
theorem gx_chain {post : SX → Prop} {o : Nat} {sn : Nat → Nat → Int32} {a s f : Nat} {l : List Nat} (ho : o ≤ 4) (hj : JR o sn kc ko ik kn ce) (ha : a < 24) (hs : s < 2) (hf : f < 12) (he : ce (101 + 10 * a + s) = nI f) (hc : CH ce s f l) (hlt : ∀ x, x ∈ l → x < 24) (hal : a ∉ l)
    (K : (∀ (ce' kc' ko' ik' kn' : Nat → Int32), JR o sn kc' ko' ik' kn' ce' → (CH ce' s f (a :: l) ∧ ∀ i, i ≠ 105 + 10 * a + s → i ≠ 107 + 10 * a + s → i ≠ 19 + 7 * f + s → (∀ x, x ∈ l → i ≠ 107 + 10 * x + s) → ce' i = ce i) → post (nI o, fp, fc, fg, fw, ce', kc', ko', ik', kn', re, dn, qu, et, lo, ab, na, pi))) : wpX_chain post (nI o, fp, fc, fg, fw, ce, kc, ko, ik, kn, re, dn, qu, et, lo, ab, na, pi) (nI a) (nI s) := by
  unfold wpX_chain
  refine gx_aa ?_
  refine ⟨pk_in (101 + 10 * a + s) 340 (by omega) (by first | rfl | exact congrArg nI (by omega) | (simp only [nI_add, pk_mul, ir_0, ir_1, ir_2, ir_3, ir_4, ir_5, ir_6, ir_7, ir_8, ir_9, ir_13, il_4, il_12, il_16, il_24, il_36, il_60, il_84, il_100, il_108, il_132, il_340, im_5, im_7, im_10, im_11, im_3, im_24, im_156, im_340]; first | done | exact congrArg nI (by omega))), ?_⟩
  have e1 : ce (nI (100 + 10 * a) + 1 + nI s).toNatClampNeg = nI f := (gx_c (n := 101 + 10 * a + s) (by first | rfl | exact congrArg nI (by omega) | (simp only [nI_add, pk_mul, ir_0, ir_1, ir_2, ir_3, ir_4, ir_5, ir_6, ir_7, ir_8, ir_9, ir_13, il_4, il_12, il_16, il_24, il_36, il_60, il_84, il_100, il_108, il_132, il_340, im_5, im_7, im_10, im_11, im_3, im_24, im_156, im_340]; first | done | exact congrArg nI (by omega))) (by omega)).trans he
  rw [e1]
  refine gx_na (nm_r (e' := nI (19 + 7 * f + s)) (by first | rfl | exact congrArg nI (by omega) | (simp only [nI_add, pk_mul, ir_0, ir_1, ir_2, ir_3, ir_4, ir_5, ir_6, ir_7, ir_8, ir_9, ir_13, il_4, il_12, il_16, il_24, il_36, il_60, il_84, il_100, il_108, il_132, il_340, im_5, im_7, im_10, im_11, im_3, im_24, im_156, im_340]; first | done | exact congrArg nI (by omega))) ⟨vp_in_nI (by omega) (by omega), nm_r (e' := ce (19 + 7 * f + s)) (congrArg ce (nI_clamp (by omega))) ?_⟩)
  obtain ⟨hd, hn⟩ := hc
  refine gj_put ho hj (105 + 10 * a + s) (by omega) (by first | rfl | exact congrArg nI (by omega) | (simp only [nI_add, pk_mul, ir_0, ir_1, ir_2, ir_3, ir_4, ir_5, ir_6, ir_7, ir_8, ir_9, ir_13, il_4, il_12, il_16, il_24, il_36, il_60, il_84, il_100, il_108, il_132, il_340, im_5, im_7, im_10, im_11, im_3, im_24, im_156, im_340]; first | done | exact congrArg nI (by omega))) ?_
  intro kc1 ko1 ik1 kn1 hj1
  refine gj_put ho hj1 (107 + 10 * a + s) (by omega) (by first | rfl | exact congrArg nI (by omega) | (simp only [nI_add, pk_mul, ir_0, ir_1, ir_2, ir_3, ir_4, ir_5, ir_6, ir_7, ir_8, ir_9, ir_13, il_4, il_12, il_16, il_24, il_36, il_60, il_84, il_100, il_108, il_132, il_340, im_5, im_7, im_10, im_11, im_3, im_24, im_156, im_340]; first | done | exact congrArg nI (by omega))) ?_
  intro kc2 ko2 ik2 kn2 hj2
  cases l with
  | nil =>
    have hh : ce (19 + 7 * f + s) = -1 := hd
    refine br_t (by rw [hh]; decide) ?_
    show wpX_put _ _ _ _
    refine gj_put ho hj2 (19 + 7 * f + s) (by omega) rfl ?_
    intro kc3 ko3 ik3 kn3 hj3
    refine K _ _ _ _ _ hj3 ⟨⟨⟨pk_us, ?_, ?_⟩, by simp⟩, fun i i1 i2 i3 _ => ?_⟩
    · show (upd (upd (upd ce _ _) _ _) _ _) (107 + 10 * a + s) = -1
      rw [pk_un (by omega), pk_us]
    · show (upd (upd (upd ce _ _) _ _) _ _) (105 + 10 * a + s) = -1
      rw [pk_un (by omega), pk_un (by omega), pk_us]; exact hh
    · rw [pk_un i3, pk_un i2, pk_un i1]
  | cons b l =>
    have hh : ce (19 + 7 * f + s) = nI b := hd.1
    have hb := hlt b List.mem_cons_self
    have hba : b ≠ a := fun z => hal (by rw [← z]; exact List.mem_cons_self)
    rw [hh] at hj1 hj2 ⊢
    refine br_f (nI_pos (by omega)) (gx_aa ?_)
    refine gj_put ho hj2 (107 + 10 * b + s) (by omega) (by first | rfl | exact congrArg nI (by omega) | (simp only [nI_add, pk_mul, ir_0, ir_1, ir_2, ir_3, ir_4, ir_5, ir_6, ir_7, ir_8, ir_9, ir_13, il_4, il_12, il_16, il_24, il_36, il_60, il_84, il_100, il_108, il_132, il_340, im_5, im_7, im_10, im_11, im_3, im_24, im_156, im_340]; first | done | exact congrArg nI (by omega))) ?_
    intro kc3 ko3 ik3 kn3 hj3
    show wpX_put _ _ _ _
    refine gj_put ho hj3 (19 + 7 * f + s) (by omega) rfl ?_
    intro kc4 ko4 ik4 kn4 hj4
    refine K _ _ _ _ _ hj4 ⟨⟨⟨pk_us, ?_, ?_⟩, List.nodup_cons.mpr ⟨hal, hn⟩⟩, fun i i1 i2 i3 i4 => ?_⟩
    · show (upd (upd (upd (upd ce _ _) _ _) _ _) _ _) (107 + 10 * a + s) = -1
      rw [pk_un (by omega), pk_un (by omega), pk_us]
    · show DLk _ _ ((upd (upd (upd (upd ce _ _) _ _) _ _) _ _) (105 + 10 * a + s)) (nI a) (b :: l)
      rw [pk_un (by omega), pk_un (by omega), pk_un (by omega), pk_us]
      refine DLk_p (p := -1) (h := nI b) hn (fun x hx => ?_) (fun x hx hne => ?_) (fun x hx he2 => ?_) hlt (hh ▸ hd)
      · have hxa : x ≠ a := fun z => hal (by rw [← z]; exact hx)
        show (upd (upd (upd (upd ce _ _) _ _) _ _) _ _) (105 + 10 * x + s) = ce (105 + 10 * x + s)
        rw [pk_un (by omega), pk_un (by omega), pk_un (by omega), pk_un (by omega)]
      · have hxa : x ≠ a := fun z => hal (by rw [← z]; exact hx)
        have hxb : x ≠ b := fun z => hne (by rw [z])
        show (upd (upd (upd (upd ce _ _) _ _) _ _) _ _) (107 + 10 * x + s) = ce (107 + 10 * x + s)
        rw [pk_un (by omega), pk_un (by omega), pk_un (by omega), pk_un (by omega)]
      · have hx24 := hlt x hx
        have hxb : b = x := (nI_eq (by omega) (by omega)).mp he2
        subst hxb
        show (upd (upd (upd (upd ce _ _) _ _) _ _) _ _) (107 + 10 * b + s) = nI a
        rw [pk_un (by omega), pk_us]
    · rw [pk_un i3, pk_un (i4 b List.mem_cons_self), pk_un i2, pk_un i1]
/-- the rest of taking an arrow out: the one behind it -/
theorem gx_un76 {post : SX → Prop} {o : Nat} {sn : Nat → Nat → Int32} {s : Nat} {nx bf : Int32} (ho : o ≤ 4) (hj : JR o sn kc ko ik kn ce) (hs : s < 2) (hx : nx = -1 ∨ ∃ b, b < 24 ∧ nx = nI b)
    (K : ∀ (ce' kc' ko' ik' kn' : Nat → Int32), JR o sn kc' ko' ik' kn' ce' → ((nx = -1 ∧ ce' = ce) ∨ ∃ b, b < 24 ∧ nx = nI b ∧ ce' = upd ce (107 + 10 * b + s) bf) → post (nI o, fp, fc, fg, fw, ce', kc', ko', ik', kn', re, dn, qu, et, lo, ab, na, pi)) : wX_unchain_76 post (nI s) nx bf (nI o) fp fc fg fw ce kc ko ik kn re dn qu et lo ab na pi := by
  rcases hx with e | ⟨b, hb, e⟩
  · subst e
    exact br_t (by decide) (K _ _ _ _ _ hj (Or.inl ⟨rfl, rfl⟩))
  · subst e
    refine br_f (nI_pos (by omega)) (gx_aa ?_)
    refine gj_put ho hj (107 + 10 * b + s) (by omega) (by first | rfl | exact congrArg nI (by omega) | (simp only [nI_add, pk_mul, ir_0, ir_1, ir_2, ir_3, ir_4, ir_5, ir_6, ir_7, ir_8, ir_9, ir_13, il_4, il_12, il_16, il_24, il_36, il_60, il_84, il_100, il_108, il_132, il_340, im_5, im_7, im_10, im_11, im_3, im_24, im_156, im_340]; first | done | exact congrArg nI (by omega))) ?_
    intro kc1 ko1 ik1 kn1 hj1
    exact K _ _ _ _ _ hj1 (Or.inr ⟨b, hb, rfl, rfl⟩)
theorem DLk_at {nx bf : Nat → Int32} {a : Nat} {l2 : List Nat} : ∀ {l1 : List Nat} {h p : Int32}, DLk nx bf h p (l1 ++ a :: l2) → (l1 = [] ∧ bf a = p) ∨ (∃ b, b ∈ l1 ∧ bf a = nI b)
  | [], _, _, hl => Or.inl ⟨rfl, hl.2.1⟩
  | c :: l1, h, p, hl => by
    right
    rcases DLk_at (l1 := l1) hl.2.2 with ⟨_, e⟩ | ⟨b, hb, e⟩
    · exact ⟨c, List.mem_cons_self, e⟩
    · exact ⟨b, List.mem_cons_of_mem _ hb, e⟩
theorem DLk_nx {nx bf : Nat → Int32} {a : Nat} {l2 : List Nat} : ∀ {l1 : List Nat} {h p : Int32}, DLk nx bf h p (l1 ++ a :: l2) → (l2 = [] ∧ nx a = -1) ∨ (∃ b, b ∈ l2 ∧ nx a = nI b)
  | [], _, _, hl => by
    cases l2 with
    | nil => exact Or.inl ⟨rfl, hl.2.2⟩
    | cons b l2 => exact Or.inr ⟨b, List.mem_cons_self, hl.2.2.1⟩
  | c :: l1, h, p, hl => DLk_nx (l1 := l1) hl.2.2
/-- an arrow out of its chain -/
theorem gx_unch {post : SX → Prop} {o : Nat} {sn : Nat → Nat → Int32} {a s f : Nat} {l1 l2 : List Nat} (ho : o ≤ 4) (hj : JR o sn kc ko ik kn ce) (ha : a < 24) (hs : s < 2) (hf : f < 12) (he : ce (101 + 10 * a + s) = nI f) (hc : CH ce s f (l1 ++ a :: l2)) (hlt : ∀ x, x ∈ l1 ++ a :: l2 → x < 24)
    (K : (∀ (ce' kc' ko' ik' kn' : Nat → Int32), JR o sn kc' ko' ik' kn' ce' → (CH ce' s f (l1 ++ l2) ∧ ∀ i, i ≠ 19 + 7 * f + s → (∀ x, x ∈ l1 ++ l2 → i ≠ 105 + 10 * x + s ∧ i ≠ 107 + 10 * x + s) → ce' i = ce i) → post (nI o, fp, fc, fg, fw, ce', kc', ko', ik', kn', re, dn, qu, et, lo, ab, na, pi))) : wpX_unchain post (nI o, fp, fc, fg, fw, ce, kc, ko, ik, kn, re, dn, qu, et, lo, ab, na, pi) (nI a) (nI s) := by
  obtain ⟨hd, hn⟩ := hc
  have hnd : (l1 ++ l2).Nodup ∧ a ∉ l1 ∧ a ∉ l2 ∧ ∀ x, x ∈ l1 → x ∉ l2 := by
    rw [List.nodup_append] at hn
    obtain ⟨n1, n2, n3⟩ := hn
    rw [List.nodup_cons] at n2
    refine ⟨List.nodup_append.mpr ⟨n1, n2.2, fun x hx y hy => n3 x hx y (List.mem_cons_of_mem _ hy)⟩, fun z => n3 a z a List.mem_cons_self rfl, n2.1, fun x hx hy => n3 x hx x (List.mem_cons_of_mem _ hy) rfl⟩
  have hlt1 : ∀ x, x ∈ l1 → x < 24 := fun x hx => hlt x (List.mem_append_left _ hx)
  have hlt2 : ∀ x, x ∈ l2 → x < 24 := fun x hx => hlt x (List.mem_append_right _ (List.mem_cons_of_mem _ hx))
  have hbf := DLk_at hd
  have hnx := DLk_nx hd

  unfold wpX_unchain
  refine gx_aa ?_
  refine ⟨pk_in (105 + 10 * a + s) 340 (by omega) (by first | rfl | exact congrArg nI (by omega) | (simp only [nI_add, pk_mul, ir_0, ir_1, ir_2, ir_3, ir_4, ir_5, ir_6, ir_7, ir_8, ir_9, ir_13, il_4, il_12, il_16, il_24, il_36, il_60, il_84, il_100, il_108, il_132, il_340, im_5, im_7, im_10, im_11, im_3, im_24, im_156, im_340]; first | done | exact congrArg nI (by omega))), nm_r (e' := ce (105 + 10 * a + s)) (gx_c (by first | rfl | exact congrArg nI (by omega) | (simp only [nI_add, pk_mul, ir_0, ir_1, ir_2, ir_3, ir_4, ir_5, ir_6, ir_7, ir_8, ir_9, ir_13, il_4, il_12, il_16, il_24, il_36, il_60, il_84, il_100, il_108, il_132, il_340, im_5, im_7, im_10, im_11, im_3, im_24, im_156, im_340]; first | done | exact congrArg nI (by omega))) (by omega)) ⟨pk_in (107 + 10 * a + s) 340 (by omega) (by first | rfl | exact congrArg nI (by omega) | (simp only [nI_add, pk_mul, ir_0, ir_1, ir_2, ir_3, ir_4, ir_5, ir_6, ir_7, ir_8, ir_9, ir_13, il_4, il_12, il_16, il_24, il_36, il_60, il_84, il_100, il_108, il_132, il_340, im_5, im_7, im_10, im_11, im_3, im_24, im_156, im_340]; first | done | exact congrArg nI (by omega))), nm_r (e' := ce (107 + 10 * a + s)) (gx_c (by first | rfl | exact congrArg nI (by omega) | (simp only [nI_add, pk_mul, ir_0, ir_1, ir_2, ir_3, ir_4, ir_5, ir_6, ir_7, ir_8, ir_9, ir_13, il_4, il_12, il_16, il_24, il_36, il_60, il_84, il_100, il_108, il_132, il_340, im_5, im_7, im_10, im_11, im_3, im_24, im_156, im_340]; first | done | exact congrArg nI (by omega))) (by omega)) ?_⟩⟩
  have hnx' : ce (105 + 10 * a + s) = -1 ∨ ∃ b, b < 24 ∧ ce (105 + 10 * a + s) = nI b := by
    rcases hnx with ⟨_, e⟩ | ⟨b, hb, e⟩
    · exact Or.inl e
    · exact Or.inr ⟨b, hlt2 b hb, e⟩
  -- what the end state is, whatever wrote it
  have fin : ∀ (ce' : Nat → Int32), (∀ b, b ∈ l1 ++ l2 → (ce (107 + 10 * a + s) ≠ nI b → ce' (105 + 10 * b + s) = ce (105 + 10 * b + s)) ∧ (ce (107 + 10 * a + s) = nI b → ce' (105 + 10 * b + s) = ce (105 + 10 * a + s)) ∧ (ce (105 + 10 * a + s) ≠ nI b → ce' (107 + 10 * b + s) = ce (107 + 10 * b + s)) ∧ (ce (105 + 10 * a + s) = nI b → ce' (107 + 10 * b + s) = ce (107 + 10 * a + s))) →
      (l1 = [] → ce' (19 + 7 * f + s) = ce (105 + 10 * a + s)) → (l1 ≠ [] → ce' (19 + 7 * f + s) = ce (19 + 7 * f + s)) → CH ce' s f (l1 ++ l2) := by
    intro ce' q1 q2 q3
    refine ⟨?_, hnd.1⟩
    have := (DLk_out (nx' := fun a => ce' (105 + 10 * a + s)) (bf' := fun a => ce' (107 + 10 * a + s)) l1 hlt hn hd q1 (fun b hb e => gw_m1 (by have := hlt b hb; omega) e.symm)).2.2
    rcases Classical.em (l1 = []) with z | z
    · rw [if_pos z] at this; rw [q2 z]; exact this
    · rw [if_neg z] at this; rw [q3 z]; exact this
  rcases hbf with ⟨el, e⟩ | ⟨b, hb, e⟩
  · rw [e]
    refine br_t (by decide) ⟨pk_in (101 + 10 * a + s) 340 (by omega) (by first | rfl | exact congrArg nI (by omega) | (simp only [nI_add, pk_mul, ir_0, ir_1, ir_2, ir_3, ir_4, ir_5, ir_6, ir_7, ir_8, ir_9, ir_13, il_4, il_12, il_16, il_24, il_36, il_60, il_84, il_100, il_108, il_132, il_340, im_5, im_7, im_10, im_11, im_3, im_24, im_156, im_340]; first | done | exact congrArg nI (by omega))), ?_⟩
    have e1 : ce (nI (100 + 10 * a) + 1 + nI s).toNatClampNeg = nI f := (gx_c (n := 101 + 10 * a + s) (by first | rfl | exact congrArg nI (by omega) | (simp only [nI_add, pk_mul, ir_0, ir_1, ir_2, ir_3, ir_4, ir_5, ir_6, ir_7, ir_8, ir_9, ir_13, il_4, il_12, il_16, il_24, il_36, il_60, il_84, il_100, il_108, il_132, il_340, im_5, im_7, im_10, im_11, im_3, im_24, im_156, im_340]; first | done | exact congrArg nI (by omega))) (by omega)).trans he
    rw [e1]
    refine gx_na ?_
    refine gj_put ho hj (19 + 7 * f + s) (by omega) (by first | rfl | exact congrArg nI (by omega) | (simp only [nI_add, pk_mul, ir_0, ir_1, ir_2, ir_3, ir_4, ir_5, ir_6, ir_7, ir_8, ir_9, ir_13, il_4, il_12, il_16, il_24, il_36, il_60, il_84, il_100, il_108, il_132, il_340, im_5, im_7, im_10, im_11, im_3, im_24, im_156, im_340]; first | done | exact congrArg nI (by omega))) ?_
    intro kc1 ko1 ik1 kn1 hj1
    refine gx_un76 ho hj1 hs hnx' ?_
    intro ce' kc' ko' ik' kn' hj' hce
    refine K ce' kc' ko' ik' kn' hj' ⟨fin ce' (fun x hx => ?_) ?_ (fun z => absurd el z), fun i i1 i2 => ?_⟩
    · have hx24 : x < 24 := (List.mem_append.mp hx).elim (hlt1 x) (hlt2 x)
      refine ⟨fun _ => ?_, fun z => absurd (e.symm.trans z).symm (gw_m1 (by omega)), fun hne => ?_, fun heq => ?_⟩
      · rcases hce with ⟨_, z⟩ | ⟨b, hb, _, z⟩
        · rw [z, pk_un (by omega)]
        · rw [z, pk_un (by omega), pk_un (by omega)]
      · rcases hce with ⟨_, z⟩ | ⟨b, hb, y, z⟩
        · rw [z, pk_un (by omega)]
        · have : x ≠ b := fun q => hne (by rw [y, q])
          rw [z, pk_un (by omega), pk_un (by omega)]
      · rcases hce with ⟨y, z⟩ | ⟨b, hb, y, z⟩
        · exact absurd (heq.symm.trans y) (gw_m1 (by omega))
        · have : b = x := (nI_eq (by omega) (by omega)).mp (y.symm.trans heq)
          subst this
          rw [z, pk_us, e]
    · intro _
      rcases hce with ⟨_, z⟩ | ⟨b, hb, _, z⟩
      · rw [z, pk_us]
      · rw [z, pk_un (by omega), pk_us]
    · rcases hce with ⟨_, z⟩ | ⟨b, hb, y, z⟩
      · rw [z, pk_un i1]
      · have hb2 : b ∈ l2 := by
          rcases hnx with ⟨_, q⟩ | ⟨c, hc, q⟩
          · exact absurd (y.symm.trans q) (gw_m1 (by omega))
          · have hc24 := hlt2 c hc
            have : b = c := (nI_eq (by omega) (by omega)).mp (y.symm.trans q)
            rw [this]; exact hc
        rw [z, pk_un (i2 b (List.mem_append_right _ hb2)).2, pk_un i1]
  · have hb24 := hlt1 b hb
    have hba : b ≠ a := fun z => hnd.2.1 (by rw [← z]; exact hb)
    rw [e]
    refine br_f (nI_pos (by omega)) (gx_aa ?_)
    refine gj_put ho hj (105 + 10 * b + s) (by omega) (by first | rfl | exact congrArg nI (by omega) | (simp only [nI_add, pk_mul, ir_0, ir_1, ir_2, ir_3, ir_4, ir_5, ir_6, ir_7, ir_8, ir_9, ir_13, il_4, il_12, il_16, il_24, il_36, il_60, il_84, il_100, il_108, il_132, il_340, im_5, im_7, im_10, im_11, im_3, im_24, im_156, im_340]; first | done | exact congrArg nI (by omega))) ?_
    intro kc1 ko1 ik1 kn1 hj1
    refine gx_un76 ho hj1 hs hnx' ?_
    intro ce' kc' ko' ik' kn' hj' hce
    have hne1 : l1 ≠ [] := fun z => by rw [z] at hb; exact nomatch hb
    refine K ce' kc' ko' ik' kn' hj' ⟨fin ce' (fun x hx => ?_) (fun z => absurd z hne1) ?_, fun i i1 i2 => ?_⟩
    · have hx24 : x < 24 := (List.mem_append.mp hx).elim (hlt1 x) (hlt2 x)
      refine ⟨fun hne => ?_, fun heq => ?_, fun hne => ?_, fun heq => ?_⟩
      · have : x ≠ b := fun q => hne (by rw [e, q])
        rcases hce with ⟨_, z⟩ | ⟨d, hd, _, z⟩
        · rw [z, pk_un (by omega)]
        · rw [z, pk_un (by omega), pk_un (by omega)]
      · have : b = x := (nI_eq (by omega) (by omega)).mp (e.symm.trans heq)
        subst this
        rcases hce with ⟨_, z⟩ | ⟨d, hd, _, z⟩
        · rw [z, pk_us]
        · rw [z, pk_un (by omega), pk_us]
      · rcases hce with ⟨_, z⟩ | ⟨d, hd, y, z⟩
        · rw [z, pk_un (by omega)]
        · have : x ≠ d := fun q => hne (by rw [y, q])
          rw [z, pk_un (by omega), pk_un (by omega)]
      · rcases hce with ⟨y, z⟩ | ⟨d, hd, y, z⟩
        · exact absurd (heq.symm.trans y) (gw_m1 (by omega))
        · have : d = x := (nI_eq (by omega) (by omega)).mp (y.symm.trans heq)
          subst this
          rw [z, pk_us, e]
    · intro _
      rcases hce with ⟨_, z⟩ | ⟨d, hd, _, z⟩
      · rw [z, pk_un (by omega)]
      · rw [z, pk_un (by omega), pk_un (by omega)]
    · rcases hce with ⟨_, z⟩ | ⟨d, hd, y, z⟩
      · rw [z, pk_un (i2 b (List.mem_append_left _ hb)).1]
      · have hd2 : d ∈ l2 := by
          rcases hnx with ⟨_, q⟩ | ⟨c, hc, q⟩
          · exact absurd (y.symm.trans q) (gw_m1 (by omega))
          · have hc24 := hlt2 c hc
            have : d = c := (nI_eq (by omega) (by omega)).mp (y.symm.trans q)
            rw [this]; exact hc
        rw [z, pk_un (i2 d (List.mem_append_right _ hd2)).2, pk_un (i2 b (List.mem_append_left _ hb)).1]
end
end
section
/-! small questions, on both sides -/
theorem gx_q (x : Int32) {N : Nat} (hN : N < 2 ^ 31) : x < 0 ∨ (¬ x < 0 ∧ nI N ≤ x) ∨ ∃ j : Nat, j < N ∧ x = nI j := by
  by_cases h : x < 0
  · exact Or.inl h
  · rcases pk_ix x hN with z | z | z
    · exact absurd z h
    · exact Or.inr (Or.inl ⟨h, z⟩)
    · exact Or.inr (Or.inr z)
theorem gx_div {m : Nat} (h : m < 2 ^ 31) : nI m / 12 = nI (m / 12) := pk_div h (by decide) (by decide)
theorem gx_rm {m : Nat} (h : m < 2 ^ 31) : nI m - nI m / 12 * 12 = nI (m % 12) := pk_rem h (by decide) (by decide)
theorem gx_12 : ¬ (12 : Int32) = 0 := by decide
theorem gx_16 : ¬ (16 : Int32) = 0 := by decide
theorem gx_192 : ¬ (192 : Int32) = 0 := by decide
theorem gx_10 : ¬ (1 : Int32) = 0 := by decide
/-- which arrows are of a type -/
def okA (w : Nat → Int32) (t a : Nat) : Prop := a < 24 ∧ w (36 + a) = 1 ∧ (t = 4 ∨ w (108 + a) = nI t)
def fr' (w : Nat → Int32) (a : Nat) : Nat := (w (60 + a)).toNatClampNeg
def to' (w : Nat → Int32) (a : Nat) : Nat := (w (84 + a)).toNatClampNeg
def wt' (w : Nat → Int32) (a : Nat) : Nat := (w (132 + a)).toNatClampNeg
theorem GP_fr {w : Nat → Int32} {a : Nat} (h : GP w a) : w (60 + a) = nI (fr' w a) ∧ fr' w a < 12 ∧ w (fr' w a) = 1 := by
  obtain ⟨⟨f, e, hf, hw⟩, _⟩ := h
  have : fr' w a = f := by unfold fr'; rw [e]; exact nI_clamp (by omega)
  rw [this]; exact ⟨e, hf, hw⟩
theorem GP_to {w : Nat → Int32} {a : Nat} (h : GP w a) : w (84 + a) = nI (to' w a) ∧ to' w a < 12 ∧ w (to' w a) = 1 := by
  obtain ⟨_, ⟨f, e, hf, hw⟩, _⟩ := h
  have : to' w a = f := by unfold to'; rw [e]; exact nI_clamp (by omega)
  rw [this]; exact ⟨e, hf, hw⟩
theorem GP_wt {w : Nat → Int32} {a : Nat} (h : GP w a) : w (132 + a) = nI (wt' w a) ∧ wt' w a ≤ 99 := by
  obtain ⟨_, _, _, f, e, hf⟩ := h
  have : wt' w a = f := by unfold wt'; rw [e]; exact nI_clamp (by omega)
  rw [this]; exact ⟨e, hf⟩
theorem GP_frI {w : Nat → Int32} {a n : Nat} (h : GP w a) (hn : n < 12) : w (60 + a) = nI n ↔ fr' w a = n := by
  obtain ⟨e, h1, _⟩ := GP_fr h
  rw [e]; exact nI_eq (by omega) (by omega)
theorem GP_toI {w : Nat → Int32} {a n : Nat} (h : GP w a) (hn : n < 12) : w (84 + a) = nI n ↔ to' w a = n := by
  obtain ⟨e, h1, _⟩ := GP_to h
  rw [e]; exact nI_eq (by omega) (by omega)
section
variable {fo fp fc fg fw : Int32} {ce kc ko ik kn re dn qu et lo ab na pi : Nat → Int32} {w : Nat → Int32}
theorem gx_isN1 {post : Int32 → Prop} {n : Nat} (h : GN ce w) (hn : n < 12) (hw : w n = 1) (hp : post 1) : wpX_isNode post (fo, fp, fc, fg, fw, ce, kc, ko, ik, kn, re, dn, qu, et, lo, ab, na, pi) (nI n) := by
  refine br_f (nI_pos (by omega)) (br_f (nI_ge (b := 12) hn (by decide)) (gx_na ⟨vp_in_nI (by omega) (by omega), br_t ?_ hp⟩))
  rw [nI_clamp (by omega), (h n hn).1]; exact hw
theorem gx_isN0 {post : Int32 → Prop} {p0 : Int32} (h : GN ce w) (hw : ∀ n, n < 12 → p0 = nI n → w n ≠ 1) (hp : post 0) : wpX_isNode post (fo, fp, fc, fg, fw, ce, kc, ko, ik, kn, re, dn, qu, et, lo, ab, na, pi) p0 := by
  rcases gx_q p0 (N := 12) (by decide) with z | ⟨z, z2⟩ | ⟨j, hj, e⟩
  · exact br_t z hp
  · exact br_f z (br_t z2 hp)
  · subst e
    refine br_f (nI_pos (by omega)) (br_f (nI_ge (b := 12) hj (by decide)) (gx_na ⟨vp_in_nI (by omega) (by omega), br_f ?_ hp⟩))
    rw [nI_clamp (by omega), (h j hj).1]; exact hw j hj rfl
theorem gx_isA1 {post : Int32 → Prop} {a : Nat} (h : GA ce w) (ha : a < 24) (hw : w (36 + a) = 1) (hp : post 1) : wpX_isArrow post (fo, fp, fc, fg, fw, ce, kc, ko, ik, kn, re, dn, qu, et, lo, ab, na, pi) (nI a) := by
  refine br_f (nI_pos (by omega)) (br_f (nI_ge (b := 24) ha (by decide)) (gx_aa ⟨vp_in_nI (by omega) (by omega), br_t ?_ hp⟩))
  rw [nI_clamp (by omega), (h a ha).1]; exact hw
theorem gx_isA0 {post : Int32 → Prop} {p0 : Int32} (h : GA ce w) (hw : ∀ a, a < 24 → p0 = nI a → w (36 + a) ≠ 1) (hp : post 0) : wpX_isArrow post (fo, fp, fc, fg, fw, ce, kc, ko, ik, kn, re, dn, qu, et, lo, ab, na, pi) p0 := by
  rcases gx_q p0 (N := 24) (by decide) with z | ⟨z, z2⟩ | ⟨j, hj, e⟩
  · exact br_t z hp
  · exact br_f z (br_t z2 hp)
  · subst e
    refine br_f (nI_pos (by omega)) (br_f (nI_ge (b := 24) hj (by decide)) (gx_aa ⟨vp_in_nI (by omega) (by omega), br_f ?_ hp⟩))
    rw [nI_clamp (by omega), (h j hj).1]; exact hw j hj rfl
theorem gx_ends1 {post : Int32 → Prop} {f t : Nat} (h : GN ce w) (hf : f < 12) (ht : t < 12) (wf : w f = 1) (wt : w t = 1) (hp : post 1) : wpX_areEnds post (fo, fp, fc, fg, fw, ce, kc, ko, ik, kn, re, dn, qu, et, lo, ab, na, pi) (nI (12 * f + t)) := by
  refine br_f (nI_pos (by omega)) (br_f (nI_ge (b := 144) (by omega) (by decide)) ⟨gx_12, ?_⟩)
  rw [gx_div (by omega), show (12 * f + t) / 12 = f by omega]
  refine gx_isN1 h hf wf (br_f gx_10 ⟨gx_12, ?_⟩)
  have e : nI (12 * f + t) - nI f * 12 = nI t := by
    have := gx_rm (m := 12 * f + t) (by omega)
    rw [gx_div (by omega), show (12 * f + t) / 12 = f by omega, show (12 * f + t) % 12 = t by omega] at this
    exact this
  rw [e]
  exact gx_isN1 h ht wt (br_f gx_10 hp)
theorem gx_ends0 {post : Int32 → Prop} {p0 : Int32} (h : GN ce w) (hw : ∀ f t, f < 12 → t < 12 → p0 = nI (12 * f + t) → ¬ (w f = 1 ∧ w t = 1)) (hp : post 0) : wpX_areEnds post (fo, fp, fc, fg, fw, ce, kc, ko, ik, kn, re, dn, qu, et, lo, ab, na, pi) p0 := by
  rcases gx_q p0 (N := 144) (by decide) with z | ⟨z, z2⟩ | ⟨j, hj, e⟩
  · exact br_t z hp
  · exact br_f z (br_t z2 hp)
  · subst e
    refine br_f (nI_pos (by omega)) (br_f (nI_ge (b := 144) hj (by decide)) ⟨gx_12, ?_⟩)
    have hh := hw (j / 12) (j % 12) (by omega) (by omega) (congrArg nI (by omega))
    rw [gx_rm (by omega), gx_div (by omega)]
    by_cases q : w (j / 12) = 1
    · refine gx_isN1 h (by omega) q (br_f gx_10 ⟨gx_12, ?_⟩)
      refine gx_isN0 h (fun n hn e => ?_) (br_t rfl hp)
      have : j % 12 = n := (nI_eq (by omega) (by omega)).mp e
      subst this
      exact fun y => hh ⟨q, y⟩
    · refine gx_isN0 h (fun n hn e => ?_) (br_t rfl hp)
      have : j / 12 = n := (nI_eq (by omega) (by omega)).mp e
      subst this
      exact q
theorem gx_ty1 {post : Int32 → Prop} {t : Nat} (ht : t ≤ 4) (hp : post 1) : wpX_isType post (nI t) :=
  br_f (nI_pos (by omega)) (br_f (nI_nlt (a := t) (b := t) (by omega) (by omega) |> fun _ => nI_nlt (a := 4) (b := t) ht (by decide)) hp)
theorem gx_ty0 {post : Int32 → Prop} {p0 : Int32} (hw : ∀ t, t ≤ 4 → p0 ≠ nI t) (hp : post 0) : wpX_isType post p0 := by
  rcases gx_q p0 (N := 5) (by decide) with z | ⟨z, z2⟩ | ⟨j, hj, e⟩
  · exact br_t z hp
  · refine br_f z (br_t ?_ hp)
    exact Int32.lt_of_lt_of_le (show (4 : Int32) < nI 5 by decide) z2
  · exact absurd e (hw j (by omega))
theorem gx_isOf1 {post : Int32 → Prop} {a t : Nat} (h : GA ce w) (ha : okA w t a) (ht : t ≤ 4) (hp : post 1) : wpX_isOf post (fo, fp, fc, fg, fw, ce, kc, ko, ik, kn, re, dn, qu, et, lo, ab, na, pi) (nI a) (nI t) := by
  obtain ⟨h1, h2, h3⟩ := ha
  by_cases z : t = 4
  · subst z; exact br_t rfl hp
  · refine br_f (fun e => z ((nI_eq (by omega) (by decide)).mp e)) (gx_aa ⟨pk_in (103 + 10 * a) 340 (by omega) (by first | rfl | exact congrArg nI (by omega) | (simp only [nI_add, pk_mul, ir_0, ir_1, ir_2, ir_3, ir_4, ir_5, ir_6, ir_7, ir_8, ir_9, ir_13, il_4, il_12, il_16, il_24, il_36, il_60, il_84, il_100, il_108, il_132, il_340, im_5, im_7, im_10, im_11, im_3, im_24, im_156, im_340]; first | done | exact congrArg nI (by omega))), br_t ?_ hp⟩)
    refine (gx_c (n := 103 + 10 * a) (by first | rfl | exact congrArg nI (by omega) | (simp only [nI_add, pk_mul, ir_0, ir_1, ir_2, ir_3, ir_4, ir_5, ir_6, ir_7, ir_8, ir_9, ir_13, il_4, il_12, il_16, il_24, il_36, il_60, il_84, il_100, il_108, il_132, il_340, im_5, im_7, im_10, im_11, im_3, im_24, im_156, im_340]; first | done | exact congrArg nI (by omega))) (by omega)).trans ?_
    rw [((h a h1).2.2 h2).2.2.1]
    exact h3.elim (fun y => absurd y z) id
theorem gx_isOf0 {post : Int32 → Prop} {a t : Nat} (h : GA ce w) (h1 : a < 24) (h2 : w (36 + a) = 1) (ha : ¬ okA w t a) (ht : t ≤ 4) (hp : post 0) : wpX_isOf post (fo, fp, fc, fg, fw, ce, kc, ko, ik, kn, re, dn, qu, et, lo, ab, na, pi) (nI a) (nI t) := by
  have z : t ≠ 4 := fun e => ha ⟨h1, h2, Or.inl e⟩
  refine br_f (fun e => z ((nI_eq (by omega) (by decide)).mp e)) (gx_aa ⟨pk_in (103 + 10 * a) 340 (by omega) (by first | rfl | exact congrArg nI (by omega) | (simp only [nI_add, pk_mul, ir_0, ir_1, ir_2, ir_3, ir_4, ir_5, ir_6, ir_7, ir_8, ir_9, ir_13, il_4, il_12, il_16, il_24, il_36, il_60, il_84, il_100, il_108, il_132, il_340, im_5, im_7, im_10, im_11, im_3, im_24, im_156, im_340]; first | done | exact congrArg nI (by omega))), br_f (fun y => ?_) hp⟩)
  have e := (gx_c (f := ce) (n := 103 + 10 * a) (by first | rfl | exact congrArg nI (by omega) | (simp only [nI_add, pk_mul, ir_0, ir_1, ir_2, ir_3, ir_4, ir_5, ir_6, ir_7, ir_8, ir_9, ir_13, il_4, il_12, il_16, il_24, il_36, il_60, il_84, il_100, il_108, il_132, il_340, im_5, im_7, im_10, im_11, im_3, im_24, im_156, im_340]; first | done | exact congrArg nI (by omega))) (by omega)).symm.trans y
  rw [((h a h1).2.2 h2).2.2.1] at e
  exact ha ⟨h1, h2, Or.inr e⟩
end
section
variable {yo : Int32} {w cp fa : Nat → Int32}
theorem gy_isN1 {post : Int32 → Prop} {n : Nat} (hn : n < 12) (hw : w n = 1) (hp : post 1) : wpY_isNode post (yo, w, cp, fa) (nI n) := by
  refine br_f (nI_pos (by omega)) (br_f (nI_ge (b := 12) hn (by decide)) ⟨vp_in_nI (by omega) (by omega), br_t ?_ hp⟩)
  rw [nI_clamp (by omega)]; exact hw
theorem gy_isN0 {post : Int32 → Prop} {p0 : Int32} (hw : ∀ n, n < 12 → p0 = nI n → w n ≠ 1) (hp : post 0) : wpY_isNode post (yo, w, cp, fa) p0 := by
  rcases gx_q p0 (N := 12) (by decide) with z | ⟨z, z2⟩ | ⟨j, hj, e⟩
  · exact br_t z hp
  · exact br_f z (br_t z2 hp)
  · subst e
    refine br_f (nI_pos (by omega)) (br_f (nI_ge (b := 12) hj (by decide)) ⟨vp_in_nI (by omega) (by omega), br_f ?_ hp⟩)
    rw [nI_clamp (by omega)]; exact hw j hj rfl
theorem gy_isA1 {post : Int32 → Prop} {a : Nat} (ha : a < 24) (hw : w (36 + a) = 1) (hp : post 1) : wpY_isArrow post (yo, w, cp, fa) (nI a) := by
  refine br_f (nI_pos (by omega)) (br_f (nI_ge (b := 24) ha (by decide)) ⟨pk_in (36 + a) 156 (by omega) (by first | rfl | exact congrArg nI (by omega) | (simp only [nI_add, pk_mul, ir_0, ir_1, ir_2, ir_3, ir_4, ir_5, ir_6, ir_7, ir_8, ir_9, ir_13, il_4, il_12, il_16, il_24, il_36, il_60, il_84, il_100, il_108, il_132, il_340, im_5, im_7, im_10, im_11, im_3, im_24, im_156, im_340]; first | done | exact congrArg nI (by omega))), br_t ?_ hp⟩)
  exact (gx_c (n := 36 + a) (by first | rfl | exact congrArg nI (by omega) | (simp only [nI_add, pk_mul, ir_0, ir_1, ir_2, ir_3, ir_4, ir_5, ir_6, ir_7, ir_8, ir_9, ir_13, il_4, il_12, il_16, il_24, il_36, il_60, il_84, il_100, il_108, il_132, il_340, im_5, im_7, im_10, im_11, im_3, im_24, im_156, im_340]; first | done | exact congrArg nI (by omega))) (by omega)).trans hw
theorem gy_isA0 {post : Int32 → Prop} {p0 : Int32} (hw : ∀ a, a < 24 → p0 = nI a → w (36 + a) ≠ 1) (hp : post 0) : wpY_isArrow post (yo, w, cp, fa) p0 := by
  rcases gx_q p0 (N := 24) (by decide) with z | ⟨z, z2⟩ | ⟨j, hj, e⟩
  · exact br_t z hp
  · exact br_f z (br_t z2 hp)
  · subst e
    refine br_f (nI_pos (by omega)) (br_f (nI_ge (b := 24) hj (by decide)) ⟨pk_in (36 + j) 156 (by omega) (by first | rfl | exact congrArg nI (by omega) | (simp only [nI_add, pk_mul, ir_0, ir_1, ir_2, ir_3, ir_4, ir_5, ir_6, ir_7, ir_8, ir_9, ir_13, il_4, il_12, il_16, il_24, il_36, il_60, il_84, il_100, il_108, il_132, il_340, im_5, im_7, im_10, im_11, im_3, im_24, im_156, im_340]; first | done | exact congrArg nI (by omega))), br_f (fun y => hw j hj rfl ((gx_c (f := w) (n := 36 + j) (by first | rfl | exact congrArg nI (by omega) | (simp only [nI_add, pk_mul, ir_0, ir_1, ir_2, ir_3, ir_4, ir_5, ir_6, ir_7, ir_8, ir_9, ir_13, il_4, il_12, il_16, il_24, il_36, il_60, il_84, il_100, il_108, il_132, il_340, im_5, im_7, im_10, im_11, im_3, im_24, im_156, im_340]; first | done | exact congrArg nI (by omega))) (by omega)).symm.trans y)) hp⟩)
theorem gy_part {post : Int32 → Prop} {a k : Nat} (ha : a < 24) (hk : k < 4) (hp : post (w (60 + 24 * k + a))) : wpY_part post (yo, w, cp, fa) (nI a) (nI k) := by
  refine ⟨pk_in (60 + 24 * k + a) 156 (by omega) (by first | rfl | exact congrArg nI (by omega) | (simp only [nI_add, pk_mul, ir_0, ir_1, ir_2, ir_3, ir_4, ir_5, ir_6, ir_7, ir_8, ir_9, ir_13, il_4, il_12, il_16, il_24, il_36, il_60, il_84, il_100, il_108, il_132, il_340, im_5, im_7, im_10, im_11, im_3, im_24, im_156, im_340]; first | done | exact congrArg nI (by omega))), ?_⟩
  have e : w (60 + 24 * nI k + nI a).toNatClampNeg = w (60 + 24 * k + a) := gx_c (by first | rfl | exact congrArg nI (by omega) | (simp only [nI_add, pk_mul, ir_0, ir_1, ir_2, ir_3, ir_4, ir_5, ir_6, ir_7, ir_8, ir_9, ir_13, il_4, il_12, il_16, il_24, il_36, il_60, il_84, il_100, il_108, il_132, il_340, im_5, im_7, im_10, im_11, im_3, im_24, im_156, im_340]; first | done | exact congrArg nI (by omega))) (by omega)
  rw [e]; exact hp
theorem gy_part0 {post : Int32 → Prop} {a : Nat} (ha : a < 24) (hp : post (w (60 + a))) : wpY_part post (yo, w, cp, fa) (nI a) 0 := gy_part (k := 0) ha (by decide) hp
theorem gy_part1 {post : Int32 → Prop} {a : Nat} (ha : a < 24) (hp : post (w (84 + a))) : wpY_part post (yo, w, cp, fa) (nI a) 1 := gy_part (k := 1) ha (by decide) hp
theorem gy_part2 {post : Int32 → Prop} {a : Nat} (ha : a < 24) (hp : post (w (108 + a))) : wpY_part post (yo, w, cp, fa) (nI a) 2 := gy_part (k := 2) ha (by decide) hp
theorem gy_part3 {post : Int32 → Prop} {a : Nat} (ha : a < 24) (hp : post (w (132 + a))) : wpY_part post (yo, w, cp, fa) (nI a) 3 := gy_part (k := 3) ha (by decide) hp
theorem gy_ends1 {post : Int32 → Prop} {f t : Nat} (hf : f < 12) (ht : t < 12) (wf : w f = 1) (wt : w t = 1) (hp : post 0) : wpY_badEnds post (yo, w, cp, fa) (nI (12 * f + t)) := by
  refine br_f (nI_pos (by omega)) ⟨gx_12, ?_⟩
  rw [gx_div (by omega), show (12 * f + t) / 12 = f by omega]
  refine gy_isN1 hf wf (br_f gx_10 ⟨gx_12, ?_⟩)
  have e : nI (12 * f + t) - nI f * 12 = nI t := by
    have := gx_rm (m := 12 * f + t) (by omega)
    rw [gx_div (by omega), show (12 * f + t) / 12 = f by omega, show (12 * f + t) % 12 = t by omega] at this
    exact this
  rw [e]
  exact gy_isN1 ht wt (br_f gx_10 hp)
theorem gy_ends0 {post : Int32 → Prop} {p0 : Int32} (hw : ∀ f t, f < 12 → t < 12 → p0 = nI (12 * f + t) → ¬ (w f = 1 ∧ w t = 1)) (hp : post 1) : wpY_badEnds post (yo, w, cp, fa) p0 := by
  by_cases z : p0 < 0
  · exact br_t z hp
  · obtain ⟨j, hj, e⟩ := nI_of z
    subst e
    refine br_f z ⟨gx_12, ?_⟩
    rw [gx_rm (by omega), gx_div (by omega)]
    by_cases q : j / 12 < 12 ∧ w (j / 12) = 1
    · have hh := hw (j / 12) (j % 12) q.1 (by omega) (congrArg nI (by omega))
      refine gy_isN1 q.1 q.2 (br_f gx_10 ⟨gx_12, ?_⟩)
      refine gy_isN0 (fun n hn e => ?_) (br_t rfl hp)
      have : j % 12 = n := (nI_eq (by omega) (by omega)).mp e
      subst this
      exact fun y => hh ⟨q.2, y⟩
    · refine gy_isN0 (fun n hn e => ?_) (br_t rfl hp)
      have : j / 12 = n := (nI_eq (by omega) (by omega)).mp e
      subst this
      exact fun y => q ⟨hn, y⟩
theorem gy_ty1 {post : Int32 → Prop} {t : Nat} (ht : t ≤ 4) (hp : post 0) : wpY_badType post (yo, w, cp, fa) (nI t) :=
  br_f (nI_pos (by omega)) (br_t (nI_le (b := 4) ht (by decide)) hp)
theorem gy_ty0 {post : Int32 → Prop} {p0 : Int32} (hw : ∀ t, t ≤ 4 → p0 ≠ nI t) (hp : post 1) : wpY_badType post (yo, w, cp, fa) p0 := by
  rcases gx_q p0 (N := 5) (by decide) with z | ⟨z, z2⟩ | ⟨j, hj, e⟩
  · exact br_t z hp
  · refine br_f z (br_f ?_ hp)
    exact Int32.not_le.mpr (Int32.lt_of_lt_of_le (show (4 : Int32) < nI 5 by decide) z2)
  · exact absurd e (hw j (by omega))
theorem gy_lb1 {post : Int32 → Prop} {t : Nat} (ht : t ≤ 7) (hp : post 0) : wpY_badLabels post (yo, w, cp, fa) (nI t) :=
  br_f (nI_pos (by omega)) (br_t (nI_le (b := 7) ht (by decide)) hp)
theorem gy_lb0 {post : Int32 → Prop} {p0 : Int32} (hw : ∀ t, t ≤ 7 → p0 ≠ nI t) (hp : post 1) : wpY_badLabels post (yo, w, cp, fa) p0 := by
  rcases gx_q p0 (N := 8) (by decide) with z | ⟨z, z2⟩ | ⟨j, hj, e⟩
  · exact br_t z hp
  · refine br_f z (br_f ?_ hp)
    exact Int32.not_le.mpr (Int32.lt_of_lt_of_le (show (7 : Int32) < nI 8 by decide) z2)
  · exact absurd e (hw j (by omega))
theorem gy_isOf1 {post : Int32 → Prop} {a t : Nat} (ha : okA w t a) (ht : t ≤ 4) (hp : post 1) : wpY_isOf post (yo, w, cp, fa) (nI a) (nI t) := by
  obtain ⟨h1, h2, h3⟩ := ha
  unfold wpY_isOf
  refine gy_isA1 h1 h2 (br_f gx_10 ?_)
  by_cases z : t = 4
  · subst z; exact br_t rfl hp
  · refine br_f (fun e => z ((nI_eq (by omega) (by decide)).mp e)) (gy_part2 h1 (br_t ?_ hp))
    exact h3.elim (fun y => absurd y z) id
theorem gy_isOf0 {post : Int32 → Prop} {a t : Nat} (h1 : a < 24) (ha : ¬ okA w t a) (ht : t ≤ 4) (hp : post 0) : wpY_isOf post (yo, w, cp, fa) (nI a) (nI t) := by
  unfold wpY_isOf
  by_cases h2 : w (36 + a) = 1
  · refine gy_isA1 h1 h2 (br_f gx_10 ?_)
    have z : t ≠ 4 := fun e => ha ⟨h1, h2, Or.inl e⟩
    refine br_f (fun e => z ((nI_eq (by omega) (by decide)).mp e)) (gy_part2 h1 (br_f ?_ hp))
    exact fun e => ha ⟨h1, h2, Or.inr e⟩
  · refine gy_isA0 (fun b hb e => ?_) (br_t rfl hp)
    have : a = b := (nI_eq (by omega) (by omega)).mp e
    subst this
    exact h2
end
end
section
/-! arrows as bits -/
def Bs (x : Int32) (P : Nat → Prop) : Prop := ∀ i, i < 32 → (bt x i = true ↔ P i)
theorem Bs_0 {P : Nat → Prop} (h : ∀ i, ¬ P i) : Bs 0 P := fun i _ => ⟨fun z => (by rw [b_0] at z; exact absurd z (by decide)), fun z => absurd z (h i)⟩
theorem Bs_cg {x : Int32} {P Q : Nat → Prop} (h : ∀ i, P i ↔ Q i) (hx : Bs x P) : Bs x Q := fun i hi => (hx i hi).trans (h i)
theorem Bs_or {x y : Int32} {P Q : Nat → Prop} (hx : Bs x P) (hy : Bs y Q) : Bs (x ||| y) (fun i => P i ∨ Q i) := by
  intro i hi
  rw [b_or, Bool.or_eq_true, hx i hi, hy i hi]
theorem Bs_and {x y : Int32} {P Q : Nat → Prop} (hx : Bs x P) (hy : Bs y Q) : Bs (x &&& y) (fun i => P i ∧ Q i) := by
  intro i hi
  rw [b_and, Bool.and_eq_true, hx i hi, hy i hi]
theorem b_one : ∀ i, i < 32 → bt 1 i = decide (i = 0) := by decide
theorem Bs_one {a : Nat} (ha : a < 32) : Bs ((1 : Int32) <<< (nI a &&& 31)) (fun i => i = a) := by
  intro i hi
  rw [b_shl a ha 1 hi, Bool.and_eq_true, decide_eq_true_eq]
  rw [b_one (i - a) (by omega), decide_eq_true_eq]
  omega
theorem Bs_bit {x : Int32} {P : Nat → Prop} (hx : Bs x P) {k : Nat} (hk : k < 32) : (x >>> (nI k &&& 31)) &&& 1 = nI (gs_b (P k)) := by
  have key : ∀ i, i < 32 → bt ((x >>> (nI k &&& 31)) &&& 1) i = (decide (i = 0) && bt x k) := by
    intro i hi
    rw [b_and, b_sshr k hk x hi, b_one i hi]
    by_cases z : i = 0
    · subst z
      rw [if_pos (by omega)]
      simp
    · simp [z]
  by_cases h : P k
  · rw [gs_bt h]
    refine b_ext fun i hi => ?_
    rw [key i hi, (hx k hk).mpr h, Bool.and_true]
    exact (b_one i hi).symm
  · rw [gs_bf h]
    refine b_ext fun i hi => ?_
    have : bt x k = false := by
      cases hb : bt x k
      · rfl
      · exact absurd ((hx k hk).mp hb) h
    rw [key i hi, this, Bool.and_false]
    exact (b_0 i).symm
theorem gx_ones_l {post : Int32 → Prop} {x : Int32} {P : Nat → Prop} (hx : Bs x P) (hp : post (nI (cn P 24))) : ∀ d k, k + d = 24 → wX_ones_4 post x (d + 1) (nI (cn P k)) (nI k) := by
  intro d
  induction d with
  | zero =>
    intro k hk
    have : k = 24 := by omega
    subst this
    exact br_t (nI_le (a := 24) (b := 24) (by omega) (by omega)) hp
  | succ d ih =>
    intro k hk
    refine br_f (nI_ge (b := 24) (by omega) (by decide)) (nm_r (e' := nI (cn P (k + 1))) ?_ (nm_r (nI_1 k) (ih (k + 1) (by omega))))
    rw [Bs_bit hx (by omega), nI_add]; rfl
theorem gx_ones {post : Int32 → Prop} {x : Int32} {P : Nat → Prop} (hx : Bs x P) (hp : post (nI (cn P 24))) : wpX_ones post x :=
  ⟨25, gx_ones_l hx hp 24 0 rfl⟩
section
variable {fo fp fc fg fw : Int32} {ce kc ko ik kn re dn qu et lo ab na pi : Nat → Int32} {w : Nat → Int32}
/-- along a chain -/
theorem gx_along_l {post : Int32 → Prop} {s t : Nat} (hA : GA ce w) (hs : s < 2) (ht : t ≤ 4) : ∀ (l : List Nat) (f k : Nat) (x h : Int32) (P : Nat → Prop), LkF (fun a => ce (105 + 10 * a + s)) h l → (∀ a, a ∈ l → a < 24 ∧ w (36 + a) = 1) → k + l.length ≤ 24 → l.length < f → Bs x P →
    (∀ x', Bs x' (fun i => P i ∨ (i ∈ l ∧ okA w t i)) → post x') → wX_along_21 post (nI t) (nI s) fo fp fc fg fw ce kc ko ik kn re dn qu et lo ab na pi f x h (nI k) := by
  intro l
  induction l with
  | nil =>
    intro f k x h P hl _ hk hf hx K
    obtain ⟨f, rfl⟩ : ∃ g, f = g + 1 := ⟨f - 1, by omega⟩
    have hh : h = -1 := hl
    have hpx : post x := K x (Bs_cg (fun i => ⟨Or.inl, fun z => z.elim id (fun y => nomatch y.1)⟩) hx)
    by_cases z : (24 : Int32) ≤ nI k
    · exact br_t z hpx
    · exact br_f z (br_t (by rw [hh]; decide) hpx)
  | cons a l ih =>
    intro f k x h P hl hm hk hf hx K
    obtain ⟨f, rfl⟩ : ∃ g, f = g + 1 := ⟨f - 1, by omega⟩
    rw [List.length_cons] at hk hf
    obtain ⟨ha, hw⟩ := hm a List.mem_cons_self
    have hh : h = nI a := hl.1
    subst hh
    refine br_f (nI_ge (b := 24) (by omega) (by decide)) (br_f (nI_pos (by omega)) ?_)
    have go : ∀ z0 : Int32, ∀ Q : Nat → Prop, Bs z0 Q → (∀ i, Q i ↔ (i = a ∧ okA w t i)) → wX_along_53 post (wX_along_21 post (nI t) (nI s) fo fp fc fg fw ce kc ko ik kn re dn qu et lo ab na pi f) (nI t) (nI s) (nI a) (nI k) z0 x fo fp fc fg fw ce kc ko ik kn re dn qu et lo ab na pi := by
      intro z0 Q hz hQ
      refine nm_e (gx_aa ⟨pk_in (105 + 10 * a + s) 340 (by omega) (by first | rfl | exact congrArg nI (by omega) | (simp only [nI_add, pk_mul, ir_0, ir_1, ir_2, ir_3, ir_4, ir_5, ir_6, ir_7, ir_8, ir_9, ir_13, il_4, il_12, il_16, il_24, il_36, il_60, il_84, il_100, il_108, il_132, il_340, im_5, im_7, im_10, im_11, im_3, im_24, im_156, im_340]; first | done | exact congrArg nI (by omega))), nm_r (e' := ce (105 + 10 * a + s)) (gx_c (by first | rfl | exact congrArg nI (by omega) | (simp only [nI_add, pk_mul, ir_0, ir_1, ir_2, ir_3, ir_4, ir_5, ir_6, ir_7, ir_8, ir_9, ir_13, il_4, il_12, il_16, il_24, il_36, il_60, il_84, il_100, il_108, il_132, il_340, im_5, im_7, im_10, im_11, im_3, im_24, im_156, im_340]; first | done | exact congrArg nI (by omega))) (by omega)) (nm_r (nI_1 k) ?_)⟩)
      refine ih f (k + 1) (x ||| z0) _ (fun i => P i ∨ Q i) hl.2 (fun b hb => hm b (List.mem_cons_of_mem _ hb)) (by omega) (by omega) (Bs_or hx hz) ?_
      intro x' hx'
      refine K x' (Bs_cg (fun i => ?_) hx')
      rw [hQ i, List.mem_cons]
      constructor
      · rintro ((z | z) | z)
        · exact Or.inl z
        · exact Or.inr ⟨Or.inl z.1, z.2⟩
        · exact Or.inr ⟨Or.inr z.1, z.2⟩
      · rintro (z | ⟨z | z, y⟩)
        · exact Or.inl (Or.inl z)
        · exact Or.inl (Or.inr ⟨z, y⟩)
        · exact Or.inr ⟨z, y⟩
    by_cases q : okA w t a
    · refine gx_isOf1 hA q ht (br_f gx_10 (go _ (fun i => i = a) (Bs_one (by omega)) (fun i => ⟨fun z => ⟨z, z ▸ q⟩, fun z => z.1⟩)))
    · refine gx_isOf0 hA ha hw q ht (br_t rfl (go _ (fun i => i = a ∧ okA w t i) (Bs_0 (fun i z => q (z.1 ▸ z.2))) (fun i => Iff.rfl)))
theorem gx_len {c : Nat → Int32} {s n : Nat} {l : List Nat} (hc : CH c s n l) (hm : ∀ a, a ∈ l ↔ a < 24 ∧ w (36 + a) = 1 ∧ w (60 + 24 * s + a) = nI n) : l.length = nD w s n := gs_len l _ hc.2 hm
theorem nD_le (s n : Nat) : nD w s n ≤ 24 := cn_le _ _
theorem gx_along {post : Int32 → Prop} {s t n : Nat} (hA : GA ce w) (hC : GC ce w) (hs : s < 2) (ht : t ≤ 4) (hn : n < 12) (hw : w n = 1)
    (K : ∀ x', Bs x' (fun i => okA w t i ∧ w (60 + 24 * s + i) = nI n) → post x') : wpX_along post (fo, fp, fc, fg, fw, ce, kc, ko, ik, kn, re, dn, qu, et, lo, ab, na, pi) (nI n) (nI t) (nI s) := by
  obtain ⟨l, hc, hm⟩ := hC s n hs hn hw
  have hlen : l.length ≤ 24 := by rw [gx_len hc hm]; exact nD_le s n
  unfold wpX_along
  refine gx_na ?_
  refine ⟨pk_in (19 + 7 * n + s) 340 (by omega) (by first | rfl | exact congrArg nI (by omega) | (simp only [nI_add, pk_mul, ir_0, ir_1, ir_2, ir_3, ir_4, ir_5, ir_6, ir_7, ir_8, ir_9, ir_13, il_4, il_12, il_16, il_24, il_36, il_60, il_84, il_100, il_108, il_132, il_340, im_5, im_7, im_10, im_11, im_3, im_24, im_156, im_340]; first | done | exact congrArg nI (by omega))), nm_r (e' := ce (19 + 7 * n + s)) (gx_c (by first | rfl | exact congrArg nI (by omega) | (simp only [nI_add, pk_mul, ir_0, ir_1, ir_2, ir_3, ir_4, ir_5, ir_6, ir_7, ir_8, ir_9, ir_13, il_4, il_12, il_16, il_24, il_36, il_60, il_84, il_100, il_108, il_132, il_340, im_5, im_7, im_10, im_11, im_3, im_24, im_156, im_340]; first | done | exact congrArg nI (by omega))) (by omega)) ⟨l.length + 1, ?_⟩⟩
  refine gx_along_l hA hs ht l (l.length + 1) 0 0 _ (fun _ => False) (DLk_F hc.1) (fun a ha => ⟨((hm a).mp ha).1, ((hm a).mp ha).2.1⟩) (by omega) (by omega) (Bs_0 (fun _ h => h)) ?_
  intro x' hx'
  refine K x' (Bs_cg (fun i => ?_) hx')
  rw [hm i]
  constructor
  · rintro (z | ⟨z, y⟩)
    · exact z.elim
    · exact ⟨y, z.2.2⟩
  · rintro ⟨z, y⟩
    exact Or.inr ⟨⟨z.1, z.2.1, y⟩, z⟩
/-- an arrow that counts at a node, by a way -/
def cq (w : Nat → Int32) (n t y a : Nat) : Prop := okA w t a ∧ ((y ≠ 1 ∧ w (60 + a) = nI n) ∨ (y ≠ 0 ∧ w (84 + a) = nI n))
theorem gx_arrowsOf {post : Int32 → Prop} {t n y : Nat} (hA : GA ce w) (hC : GC ce w) (ht : t ≤ 4) (hy : y ≤ 2) (hn : n < 12) (hw : w n = 1)
    (K : ∀ x', Bs x' (cq w n t y) → post x') : wpX_arrowsOf post (fo, fp, fc, fg, fw, ce, kc, ko, ik, kn, re, dn, qu, et, lo, ab, na, pi) (nI n) (nI t) (nI y) := by
  have second : ∀ (z0 : Int32) (P : Nat → Prop), Bs z0 P → (∀ i, P i ↔ okA w t i ∧ y ≠ 1 ∧ w (60 + i) = nI n) → wX_arrowsOf_16 post (nI n) (nI t) (nI y) z0 fo fp fc fg fw ce kc ko ik kn re dn qu et lo ab na pi := by
    intro z0 P hz hP
    by_cases q : y = 0
    · subst q
      refine br_t rfl (K z0 (Bs_cg (fun i => ?_) hz))
      rw [hP i]; unfold cq
      constructor
      · rintro ⟨a, b⟩; exact ⟨a, Or.inl b⟩
      · rintro ⟨a, b | b⟩
        · exact ⟨a, b⟩
        · exact absurd rfl b.1
    · refine br_f (nI_ne0 (by omega) (by omega)) ?_
      refine gx_along (s := 1) hA hC (by omega) ht hn hw (fun x' hx' => K _ (Bs_cg (fun i => ?_) (Bs_or hz hx')))
      rw [hP i]; unfold cq
      constructor
      · rintro (⟨a, b⟩ | ⟨a, b⟩)
        · exact ⟨a, Or.inl b⟩
        · exact ⟨a, Or.inr ⟨q, b⟩⟩
      · rintro ⟨a, b | b⟩
        · exact Or.inl ⟨a, b⟩
        · exact Or.inr ⟨a, b.2⟩
  by_cases q : y = 1
  · subst q
    exact br_t rfl (second 0 (fun i => okA w t i ∧ 1 ≠ 1 ∧ w (60 + i) = nI n) (Bs_0 (fun i z => z.2.1 rfl)) (fun i => Iff.rfl))
  · refine br_f (fun e => q ((nI_eq (by omega) (by decide)).mp e)) ?_
    refine gx_along (s := 0) hA hC (by omega) ht hn hw (fun x' hx' => second x' _ hx' (fun i => ?_))
    constructor
    · rintro ⟨a, b⟩; exact ⟨a, q, b⟩
    · rintro ⟨a, _, b⟩; exact ⟨a, b⟩
end
section
variable {yo : Int32} {w cp fa : Nat → Int32}
theorem gy_counts_c {post : Int32 → Prop} {n t y a : Nat} (hy : y ≤ 2) (h0 : okA w t a) (p1 : cq w n t y a → post 1) (p0 : ¬ cq w n t y a → post 0) {zo zi : Int32} (ho : (zo = 1 ∧ w (60 + a) = nI n) ∨ (zo = 0 ∧ w (60 + a) ≠ nI n)) (hi : (zi = 1 ∧ w (84 + a) = nI n) ∨ (zi = 0 ∧ w (84 + a) ≠ nI n)) : wY_counts_43 post (nI y) zo zi yo w cp fa := by
  have hy3 : y = 0 ∨ y = 1 ∨ y = 2 := by omega
  have f01 : ¬ nI 0 = 1 := by decide
  have f02 : ¬ nI 0 = 2 := by decide
  have f10 : ¬ nI 1 = 0 := by decide
  have f12 : ¬ nI 1 = 2 := by decide
  have f20 : ¬ nI 2 = 0 := by decide
  have f21 : ¬ nI 2 = 1 := by decide
  rcases hy3 with rfl | rfl | rfl
  · rcases ho with ⟨rfl, e⟩ | ⟨rfl, e⟩
    · exact br_t rfl (br_f gx_10 (p1 ⟨h0, Or.inl ⟨by omega, e⟩⟩))
    · refine br_t rfl (br_t rfl (br_f f01 (br_f f02 (p0 ?_))))
      rintro ⟨_, ⟨_, z⟩ | ⟨z, _⟩⟩
      · exact e z
      · exact z rfl
  · rcases hi with ⟨rfl, e⟩ | ⟨rfl, e⟩
    · exact br_f f10 (br_t rfl (br_f gx_10 (p1 ⟨h0, Or.inr ⟨by omega, e⟩⟩)))
    · refine br_f f10 (br_t rfl (br_t rfl (br_f f12 (p0 ?_))))
      rintro ⟨_, ⟨z, _⟩ | ⟨_, z⟩⟩
      · exact z rfl
      · exact e z
  · refine br_f f20 (br_f f21 (br_t rfl ?_))
    rcases ho with ⟨rfl, e⟩ | ⟨rfl, e⟩
    · exact br_f gx_10 (p1 ⟨h0, Or.inl ⟨by omega, e⟩⟩)
    · rcases hi with ⟨rfl, e2⟩ | ⟨rfl, e2⟩
      · exact br_t rfl (br_f gx_10 (p1 ⟨h0, Or.inr ⟨by omega, e2⟩⟩))
      · refine br_t rfl (br_t rfl (p0 ?_))
        rintro ⟨_, ⟨_, z⟩ | ⟨_, z⟩⟩
        · exact e z
        · exact e2 z
theorem gy_counts {post : Int32 → Prop} {n t y a : Nat} (ha : a < 24) (ht : t ≤ 4) (hy : y ≤ 2) (p1 : cq w n t y a → post 1) (p0 : ¬ cq w n t y a → post 0) : wpY_counts post (yo, w, cp, fa) (nI a) (nI n) (nI t) (nI y) := by
  unfold wpY_counts
  by_cases q : okA w t a
  · refine gy_isOf1 q ht (br_f gx_10 ?_)
    refine gy_part0 ha ?_
    have snd : ∀ zo : Int32, ((zo = 1 ∧ w (60 + a) = nI n) ∨ (zo = 0 ∧ w (60 + a) ≠ nI n)) → wY_counts_26 post (nI a) (nI n) (nI y) zo yo w cp fa := by
      intro zo ho
      unfold wY_counts_26
      refine gy_part1 ha ?_
      by_cases e : w (84 + a) = nI n
      · exact br_t e (gy_counts_c hy q p1 p0 ho (Or.inl ⟨rfl, e⟩))
      · exact br_f e (gy_counts_c hy q p1 p0 ho (Or.inr ⟨rfl, e⟩))
    by_cases e : w (60 + a) = nI n
    · exact br_t e (snd 1 (Or.inl ⟨rfl, e⟩))
    · exact br_f e (snd 0 (Or.inr ⟨rfl, e⟩))
  · exact gy_isOf0 ha q ht (br_t rfl (p0 (fun z => q z.1)))
/-- the reference's degree -/
theorem gy_deg_l {post : Int32 → Prop} {n t y : Nat} (ht : t ≤ 4) (hy : y ≤ 2) (hp : post (nI (cn (cq w n t y) 24))) : ∀ d k, k + d = 24 → wY_degree_33 post (nI n) (nI t) (nI y) yo w cp fa (d + 1) (nI (cn (cq w n t y) k)) (nI k) := by
  intro d
  induction d with
  | zero =>
    intro k hk
    have : k = 24 := by omega
    subst this
    exact br_t (nI_le (a := 24) (b := 24) (by omega) (by omega)) hp
  | succ d ih =>
    intro k hk
    refine br_f (nI_ge (b := 24) (by omega) (by decide)) (gy_counts (by omega) ht hy (fun z => ?_) (fun z => ?_))
    · refine br_f gx_10 (nm_r (e' := nI (cn (cq w n t y) (k + 1))) ?_ (nm_r (nI_1 k) (ih (k + 1) (by omega))))
      rw [nI_1]; simp only [cn]; rw [gs_bt z]
    · refine br_t rfl (nm_r (nI_1 k) ?_)
      have := ih (k + 1) (by omega)
      simp only [cn] at this
      rw [gs_bf z] at this
      exact this
theorem gy_deg {post : Int32 → Prop} {n t y : Nat} (hn : n < 12) (hw : w n = 1) (ht : t ≤ 4) (hy : y ≤ 2) (hp : post (nI (cn (cq w n t y) 24))) : wpY_degree post (yo, w, cp, fa) (nI n) (nI t) (nI y) := by
  unfold wpY_degree
  refine gy_isN1 hn hw (br_f gx_10 ?_)
  refine gy_ty1 ht (br_t rfl (br_f (nI_pos (by omega)) (br_t (nI_le (b := 2) hy (by decide)) ⟨25, gy_deg_l ht hy hp 24 0 rfl⟩)))
end
end
section
/-! the looking methods -/
theorem nd_or (w : Nat → Int32) (x : Int32) : (∃ n, n < 12 ∧ x = nI n ∧ w n = 1) ∨ (∀ n, n < 12 → x = nI n → w n ≠ 1) := by
  rcases Classical.em (∃ n, n < 12 ∧ x = nI n ∧ w n = 1) with h | h
  · exact Or.inl h
  · exact Or.inr fun n hn e z => h ⟨n, hn, e, z⟩
theorem ar_or (w : Nat → Int32) (x : Int32) : (∃ a, a < 24 ∧ x = nI a ∧ w (36 + a) = 1) ∨ (∀ a, a < 24 → x = nI a → w (36 + a) ≠ 1) := by
  rcases Classical.em (∃ n, n < 24 ∧ x = nI n ∧ w (36 + n) = 1) with h | h
  · exact Or.inl h
  · exact Or.inr fun n hn e z => h ⟨n, hn, e, z⟩
theorem en_or (w : Nat → Int32) (x : Int32) : (∃ f t, f < 12 ∧ t < 12 ∧ x = nI (12 * f + t) ∧ w f = 1 ∧ w t = 1) ∨ (∀ f t, f < 12 → t < 12 → x = nI (12 * f + t) → ¬ (w f = 1 ∧ w t = 1)) := by
  rcases Classical.em (∃ f t, f < 12 ∧ t < 12 ∧ x = nI (12 * f + t) ∧ w f = 1 ∧ w t = 1) with h | h
  · exact Or.inl h
  · exact Or.inr fun f t hf ht e z => h ⟨f, t, hf, ht, e, z⟩
theorem le_or (x : Int32) (N : Nat) : (∃ t, t ≤ N ∧ x = nI t) ∨ (∀ t, t ≤ N → x ≠ nI t) := by
  rcases Classical.em (∃ t, t ≤ N ∧ x = nI t) with h | h
  · exact Or.inl h
  · exact Or.inr fun t ht e => h ⟨t, ht, e⟩
/-- in a range or not: the two tests -/
theorem rg_1 {A B C : Prop} {t N : Nat} (ht : t ≤ N) (hN : N < 2 ^ 31) (h : B) : (nI t < 0 → A) ∧ (¬ nI t < 0 → ((nI t ≤ nI N → B) ∧ (¬ nI t ≤ nI N → C))) :=
  br_f (nI_pos (by omega)) (br_t (nI_le ht hN) h)
theorem rg_0 {A B : Prop} {x : Int32} {N : Nat} (hN : N < 2 ^ 31 - 1) (hx : ∀ t, t ≤ N → x ≠ nI t) (h : A) : (x < 0 → A) ∧ (¬ x < 0 → ((x ≤ nI N → B) ∧ (¬ x ≤ nI N → A))) := by
  by_cases z : x < 0
  · exact br_t z h
  · obtain ⟨j, hj, e⟩ := nI_of z
    subst e
    refine br_f z (br_f ?_ h)
    intro y
    rw [nI_leI hj (by omega)] at y
    exact hx j y rfl
theorem i_vc_labels {k : Nat} {u : SX} {v : SY} (I : i_Rel k u v) (hk : k + 4 ≤ 2048) (v1 : Int32) : wpX_labels (fun r => wpY_labels (fun r' => r' = r ∧ i_Rel (k + 4) u v) v v1) u v1 := by
  obtain ⟨fo, fp, fc, fg, fw, ce, kc, ko, ik, kn, re, dn, qu, et, lo, ab, na, pi⟩ := u
  obtain ⟨yo, w, cp, fa⟩ := v
  obtain ⟨o, sn, ho, rfl, rfl, hj, hg, hs⟩ := I
  have I : i_Rel (k + 4) (nI o, fp, fc, fg, fw, ce, kc, ko, ik, kn, re, dn, qu, et, lo, ab, na, pi) (nI o, w, cp, fa) := gr_mk ho hj hg hs
  unfold wpX_labels
  rcases nd_or w v1 with ⟨n, hn, rfl, hw⟩ | h
  · refine gx_isN1 hg.1 hn hw (br_f gx_10 (gx_na ⟨pk_in (17 + 7 * n) 340 (by omega) (by first | rfl | exact congrArg nI (by omega) | (simp only [nI_add, pk_mul, ir_0, ir_1, ir_2, ir_3, ir_4, ir_5, ir_6, ir_7, ir_8, ir_9, ir_13, il_4, il_12, il_16, il_24, il_36, il_60, il_84, il_100, il_108, il_132, il_340, im_5, im_7, im_10, im_11, im_3, im_24, im_156, im_340]; first | done | exact congrArg nI (by omega))), ?_⟩))
    unfold wpY_labels
    refine gy_isN1 hn hw (br_f gx_10 ⟨pk_in (12 + n) 156 (by omega) (by first | rfl | exact congrArg nI (by omega) | (simp only [nI_add, pk_mul, ir_0, ir_1, ir_2, ir_3, ir_4, ir_5, ir_6, ir_7, ir_8, ir_9, ir_13, il_4, il_12, il_16, il_24, il_36, il_60, il_84, il_100, il_108, il_132, il_340, im_5, im_7, im_10, im_11, im_3, im_24, im_156, im_340]; first | done | exact congrArg nI (by omega))), ?_, I⟩)
    exact (gx_c (n := 12 + n) (by first | rfl | exact congrArg nI (by omega) | (simp only [nI_add, pk_mul, ir_0, ir_1, ir_2, ir_3, ir_4, ir_5, ir_6, ir_7, ir_8, ir_9, ir_13, il_4, il_12, il_16, il_24, il_36, il_60, il_84, il_100, il_108, il_132, il_340, im_5, im_7, im_10, im_11, im_3, im_24, im_156, im_340]; first | done | exact congrArg nI (by omega))) (by omega)).trans (((hg.1 n hn).2.2 hw).1.symm.trans (gx_c (f := ce) (n := 17 + 7 * n) (by first | rfl | exact congrArg nI (by omega) | (simp only [nI_add, pk_mul, ir_0, ir_1, ir_2, ir_3, ir_4, ir_5, ir_6, ir_7, ir_8, ir_9, ir_13, il_4, il_12, il_16, il_24, il_36, il_60, il_84, il_100, il_108, il_132, il_340, im_5, im_7, im_10, im_11, im_3, im_24, im_156, im_340]; first | done | exact congrArg nI (by omega))) (by omega)).symm)
  · refine gx_isN0 hg.1 h (br_t rfl ?_)
    unfold wpY_labels
    exact gy_isN0 h (br_t rfl ⟨rfl, I⟩)
theorem i_vc_value {k : Nat} {u : SX} {v : SY} (I : i_Rel k u v) (hk : k + 4 ≤ 2048) (v1 : Int32) : wpX_value (fun r => wpY_value (fun r' => r' = r ∧ i_Rel (k + 4) u v) v v1) u v1 := by
  obtain ⟨fo, fp, fc, fg, fw, ce, kc, ko, ik, kn, re, dn, qu, et, lo, ab, na, pi⟩ := u
  obtain ⟨yo, w, cp, fa⟩ := v
  obtain ⟨o, sn, ho, rfl, rfl, hj, hg, hs⟩ := I
  have I : i_Rel (k + 4) (nI o, fp, fc, fg, fw, ce, kc, ko, ik, kn, re, dn, qu, et, lo, ab, na, pi) (nI o, w, cp, fa) := gr_mk ho hj hg hs
  unfold wpX_value
  rcases nd_or w v1 with ⟨n, hn, rfl, hw⟩ | h
  · refine gx_isN1 hg.1 hn hw (br_f gx_10 (gx_na ⟨pk_in (18 + 7 * n) 340 (by omega) (by first | rfl | exact congrArg nI (by omega) | (simp only [nI_add, pk_mul, ir_0, ir_1, ir_2, ir_3, ir_4, ir_5, ir_6, ir_7, ir_8, ir_9, ir_13, il_4, il_12, il_16, il_24, il_36, il_60, il_84, il_100, il_108, il_132, il_340, im_5, im_7, im_10, im_11, im_3, im_24, im_156, im_340]; first | done | exact congrArg nI (by omega))), ?_⟩))
    unfold wpY_value
    refine gy_isN1 hn hw (br_f gx_10 ⟨pk_in (24 + n) 156 (by omega) (by first | rfl | exact congrArg nI (by omega) | (simp only [nI_add, pk_mul, ir_0, ir_1, ir_2, ir_3, ir_4, ir_5, ir_6, ir_7, ir_8, ir_9, ir_13, il_4, il_12, il_16, il_24, il_36, il_60, il_84, il_100, il_108, il_132, il_340, im_5, im_7, im_10, im_11, im_3, im_24, im_156, im_340]; first | done | exact congrArg nI (by omega))), ?_, I⟩)
    exact (gx_c (n := 24 + n) (by first | rfl | exact congrArg nI (by omega) | (simp only [nI_add, pk_mul, ir_0, ir_1, ir_2, ir_3, ir_4, ir_5, ir_6, ir_7, ir_8, ir_9, ir_13, il_4, il_12, il_16, il_24, il_36, il_60, il_84, il_100, il_108, il_132, il_340, im_5, im_7, im_10, im_11, im_3, im_24, im_156, im_340]; first | done | exact congrArg nI (by omega))) (by omega)).trans (((hg.1 n hn).2.2 hw).2.symm.trans (gx_c (f := ce) (n := 18 + 7 * n) (by first | rfl | exact congrArg nI (by omega) | (simp only [nI_add, pk_mul, ir_0, ir_1, ir_2, ir_3, ir_4, ir_5, ir_6, ir_7, ir_8, ir_9, ir_13, il_4, il_12, il_16, il_24, il_36, il_60, il_84, il_100, il_108, il_132, il_340, im_5, im_7, im_10, im_11, im_3, im_24, im_156, im_340]; first | done | exact congrArg nI (by omega))) (by omega)).symm)
  · refine gx_isN0 hg.1 h (br_t rfl ?_)
    unfold wpY_value
    exact gy_isN0 h (br_t rfl ⟨rfl, I⟩)
/-- an arrow's four parts, in the cells and in the row -/
theorem GA_part {c w : Nat → Int32} (h : GA c w) {a j : Nat} (ha : a < 24) (hw : w (36 + a) = 1) (hj : j ≤ 3) : c (101 + 10 * a + j) = w (60 + 24 * j + a) := by
  obtain ⟨h1, h2, h3, h4, _⟩ := (h a ha).2.2 hw
  have : j = 0 ∨ j = 1 ∨ j = 2 ∨ j = 3 := by omega
  rcases this with rfl | rfl | rfl | rfl
  · exact h1
  · rw [show 101 + 10 * a + 1 = 102 + 10 * a by omega, show 60 + 24 * 1 + a = 84 + a by omega]; exact h2
  · rw [show 101 + 10 * a + 2 = 103 + 10 * a by omega, show 60 + 24 * 2 + a = 108 + a by omega]; exact h3
  · rw [show 101 + 10 * a + 3 = 104 + 10 * a by omega, show 60 + 24 * 3 + a = 132 + a by omega]; exact h4
theorem i_vc_look {k : Nat} {u : SX} {v : SY} (I : i_Rel k u v) (hk : k + 4 ≤ 2048) (v1 : Int32) (v2 : Int32) : wpX_look (fun r => wpY_look (fun r' => r' = r ∧ i_Rel (k + 4) u v) v v1 v2) u v1 v2 := by
  obtain ⟨fo, fp, fc, fg, fw, ce, kc, ko, ik, kn, re, dn, qu, et, lo, ab, na, pi⟩ := u
  obtain ⟨yo, w, cp, fa⟩ := v
  obtain ⟨o, sn, ho, rfl, rfl, hj, hg, hs⟩ := I
  have I : i_Rel (k + 4) (nI o, fp, fc, fg, fw, ce, kc, ko, ik, kn, re, dn, qu, et, lo, ab, na, pi) (nI o, w, cp, fa) := gr_mk ho hj hg hs
  unfold wpX_look
  rcases ar_or w v1 with ⟨a, ha, rfl, hw⟩ | h
  · refine gx_isA1 hg.2.1 ha hw (br_f gx_10 ?_)
    rcases le_or v2 3 with ⟨j, hj, rfl⟩ | h2
    · refine rg_1 (N := 3) hj (by omega) (gx_aa ⟨pk_in (101 + 10 * a + j) 340 (by omega) (by first | rfl | exact congrArg nI (by omega) | (simp only [nI_add, pk_mul, ir_0, ir_1, ir_2, ir_3, ir_4, ir_5, ir_6, ir_7, ir_8, ir_9, ir_13, il_4, il_12, il_16, il_24, il_36, il_60, il_84, il_100, il_108, il_132, il_340, im_5, im_7, im_10, im_11, im_3, im_24, im_156, im_340]; first | done | exact congrArg nI (by omega))), ?_⟩)
      unfold wpY_look
      refine gy_isA1 ha hw (br_f gx_10 (rg_1 (N := 3) hj (by omega) (gy_part ha (by omega) ⟨?_, I⟩)))
      rw [← GA_part hg.2.1 ha hw hj]
      exact (gx_c (n := 101 + 10 * a + j) (by first | rfl | exact congrArg nI (by omega) | (simp only [nI_add, pk_mul, ir_0, ir_1, ir_2, ir_3, ir_4, ir_5, ir_6, ir_7, ir_8, ir_9, ir_13, il_4, il_12, il_16, il_24, il_36, il_60, il_84, il_100, il_108, il_132, il_340, im_5, im_7, im_10, im_11, im_3, im_24, im_156, im_340]; first | done | exact congrArg nI (by omega))) (by omega)).symm
    · refine rg_0 (N := 3) (by omega) h2 ?_
      unfold wpY_look
      exact gy_isA1 ha hw (br_f gx_10 (rg_0 (N := 3) (by omega) h2 ⟨rfl, I⟩))
  · refine gx_isA0 hg.2.1 h (br_t rfl ?_)
    unfold wpY_look
    exact gy_isA0 h (br_t rfl ⟨rfl, I⟩)
theorem i_vc_degree {k : Nat} {u : SX} {v : SY} (I : i_Rel k u v) (hk : k + 4 ≤ 2048) (v1 : Int32) (v2 : Int32) (v3 : Int32) : wpX_degree (fun r => wpY_degree (fun r' => r' = r ∧ i_Rel (k + 4) u v) v v1 v2 v3) u v1 v2 v3 := by
  obtain ⟨fo, fp, fc, fg, fw, ce, kc, ko, ik, kn, re, dn, qu, et, lo, ab, na, pi⟩ := u
  obtain ⟨yo, w, cp, fa⟩ := v
  obtain ⟨o, sn, ho, rfl, rfl, hj, hg, hs⟩ := I
  have I : i_Rel (k + 4) (nI o, fp, fc, fg, fw, ce, kc, ko, ik, kn, re, dn, qu, et, lo, ab, na, pi) (nI o, w, cp, fa) := gr_mk ho hj hg hs
  unfold wpX_degree
  rcases nd_or w v1 with ⟨n, hn, rfl, hw⟩ | h
  · refine gx_isN1 hg.1 hn hw (br_f gx_10 ?_)
    rcases le_or v2 4 with ⟨t, ht, rfl⟩ | h2
    · refine gx_ty1 ht (br_f gx_10 ?_)
      rcases le_or v3 2 with ⟨y, hy, rfl⟩ | h3
      · refine rg_1 (N := 2) hy (by omega) (gx_arrowsOf hg.2.1 hg.2.2.2.2.2.1 ht hy hn hw (fun x hx => gx_ones hx ?_))
        exact gy_deg hn hw ht hy ⟨rfl, I⟩
      · refine rg_0 (N := 2) (by omega) h3 ?_
        unfold wpY_degree
        exact gy_isN1 hn hw (br_f gx_10 (gy_ty1 ht (br_t rfl (rg_0 (N := 2) (by omega) h3 ⟨rfl, I⟩))))
    · refine gx_ty0 h2 (br_t rfl ?_)
      unfold wpY_degree
      exact gy_isN1 hn hw (br_f gx_10 (gy_ty0 h2 (br_f gx_10 ⟨rfl, I⟩)))
  · refine gx_isN0 hg.1 h (br_t rfl ?_)
    unfold wpY_degree
    exact gy_isN0 h (br_t rfl ⟨rfl, I⟩)
/-! arrowAt -/
theorem gx_sub0 {x y : Int32} : x - y = 0 ↔ y = x := by
  constructor
  · intro h
    have : x = y := by grind
    exact this.symm
  · intro h; subst h; grind
theorem gx_ss (x y : Int32) : x - y - 1 = x - (y + 1) := by grind
theorem gx_s0 (x : Int32) : x - 0 = x := by grind
section
variable {fo fp fc fg fw : Int32} {ce kc ko ik kn re dn qu et lo ab na pi : Nat → Int32} {yo : Int32} {w cp fa : Nat → Int32}
theorem gx_at_l {n t y m : Nat} {x q : Int32} (ht : t ≤ 4) (hy : y ≤ 2) (hx : Bs x (cq w n t y)) (hm : m < 2 ^ 31) (en : m / 16 % 12 = n) (et' : m % 16 = t) (ey : m / 192 = y) : ∀ d a, a + d = 24 →
    ∃ r, (∀ post : Int32 → Prop, post r → wX_arrowAt_66 post x fo fp fc fg fw ce kc ko ik kn re dn qu et lo ab na pi (d + 1) (q - nI (cn (cq w n t y) a)) (nI a)) ∧ (∀ post : Int32 → Prop, post r → wY_arrowAt_35 post (nI m) q yo w cp fa (d + 1) (nI (cn (cq w n t y) a)) (nI a)) := by
  have e16 : nI m / 16 = nI (m / 16) := pk_div hm (by decide) (by decide)
  have e1 : nI m / 16 - nI m / 16 / 12 * 12 = nI n := by rw [e16, gx_rm (by omega), en]
  have e2 : nI m - nI m / 16 * 16 = nI t := by rw [← et']; exact pk_rem hm (by decide) (by decide)
  have e3 : nI m / 192 = nI y := by rw [← ey]; exact pk_div hm (by decide) (by decide)
  intro d
  induction d with
  | zero =>
    intro a ha
    have : a = 24 := by omega
    subst this
    exact ⟨-2, fun post hp => br_t (nI_le (a := 24) (b := 24) (by omega) (by omega)) hp, fun post hp => br_t (nI_le (a := 24) (b := 24) (by omega) (by omega)) hp⟩
  | succ d ih =>
    intro a ha
    have hge : ¬ (24 : Int32) ≤ nI a := nI_ge (b := 24) (by omega) (by decide)
    have hb := Bs_bit hx (k := a) (by omega)
    obtain ⟨r, hX, hY⟩ := ih (a + 1) (by omega)
    simp only [cn] at hX hY
    by_cases z : cq w n t y a
    · rw [gs_bt z] at hb hX hY
      by_cases e : nI (cn (cq w n t y) a) = q
      · refine ⟨nI a, fun post hp => br_f hge (br_t hb (br_t (gx_sub0.mpr e) hp)), fun post hp => br_f hge ⟨gx_16, gx_12, gx_16, gx_192, ?_⟩⟩
        rw [e1, e2, e3]
        exact gy_counts (by omega) ht hy (fun _ => br_f gx_10 (br_t e hp)) (fun c => absurd z c)
      · refine ⟨r, fun post hp => br_f hge (br_t hb (br_f (fun c => e (gx_sub0.mp c)) ?_)), fun post hp => br_f hge ⟨gx_16, gx_12, gx_16, gx_192, ?_⟩⟩
        · refine nm_r (e' := q - nI (cn (cq w n t y) a + 1)) ?_ (nm_r (nI_1 a) (hX post hp))
          rw [hb]
          exact (gx_ss q _).trans (congrArg (q - ·) (nI_1 _))
        · rw [e1, e2, e3]
          exact gy_counts (by omega) ht hy (fun _ => br_f gx_10 (br_f e (nm_r (nI_1 _) (nm_r (nI_1 a) (hY post hp))))) (fun c => absurd z c)
    · rw [gs_bf z] at hb hX hY
      refine ⟨r, fun post hp => br_f hge (br_f (by rw [hb]; decide) ?_), fun post hp => br_f hge ⟨gx_16, gx_12, gx_16, gx_192, ?_⟩⟩
      · refine nm_r (e' := q - nI (cn (cq w n t y) a + 0)) ?_ (nm_r (nI_1 a) (hX post hp))
        rw [hb]
        exact gx_s0 _
      · rw [e1, e2, e3]
        exact gy_counts (by omega) ht hy (fun c => absurd c z) (fun _ => br_t rfl (nm_r (nI_1 a) (hY post hp)))
end
theorem i_vc_arrowAt {k : Nat} {u : SX} {v : SY} (I : i_Rel k u v) (hk : k + 4 ≤ 2048) (v1 : Int32) (v2 : Int32) : wpX_arrowAt (fun r => wpY_arrowAt (fun r' => r' = r ∧ i_Rel (k + 4) u v) v v1 v2) u v1 v2 := by
  obtain ⟨fo, fp, fc, fg, fw, ce, kc, ko, ik, kn, re, dn, qu, et, lo, ab, na, pi⟩ := u
  obtain ⟨yo, w, cp, fa⟩ := v
  obtain ⟨o, sn, ho, rfl, rfl, hj, hg, hs⟩ := I
  have I : i_Rel (k + 4) (nI o, fp, fc, fg, fw, ce, kc, ko, ik, kn, re, dn, qu, et, lo, ab, na, pi) (nI o, w, cp, fa) := gr_mk ho hj hg hs
  refine ⟨gx_16, gx_12, ?_⟩
  intro x3 ex3
  refine ⟨gx_16, gx_12, ?_⟩
  intro x4 ex4
  by_cases z : v1 < 0
  · exact br_t z (br_t z ⟨rfl, I⟩)
  · obtain ⟨m, hm, e⟩ := nI_of z
    subst e
    have e16 : nI m / 16 = nI (m / 16) := pk_div hm (by decide) (by decide)
    have e1 : nI m / 16 - nI m / 16 / 12 * 12 = nI (m / 16 % 12) := by rw [e16, gx_rm (by omega)]
    have e2 : nI m - nI m / 16 * 16 = nI (m % 16) := pk_rem hm (by decide) (by decide)
    have e3 : nI m / 192 = nI (m / 192) := pk_div hm (by decide) (by decide)
    have e4 : nI m / 16 / 12 = nI (m / 192) := by rw [e16, gx_div (by omega)]; exact congrArg nI (by omega)
    rw [e1] at ex3
    rw [e4] at ex4
    subst ex3 ex4
    refine br_f z ?_
    have Ybad : ∀ {q : Int32 → Prop}, q (-1) → (∀ {q' : Int32 → Prop}, q' (-1) → wpY_degree q' (nI o, w, cp, fa) (nI (m / 16 % 12)) (nI (m % 16)) (nI (m / 192))) → wpY_arrowAt q (nI o, w, cp, fa) (nI m) v2 := by
      intro q hq hd
      refine br_f z ⟨gx_16, gx_12, gx_16, gx_192, ?_⟩
      rw [e1, e2, e3]
      exact hd (br_t rfl hq)
    rcases nd_or w (nI (m / 16 % 12)) with ⟨n, hn, en, hw⟩ | h
    · have en' : m / 16 % 12 = n := (nI_eq (by omega) (by omega)).mp en
      rw [en]
      refine gx_isN1 hg.1 hn hw (br_f gx_10 ⟨gx_16, ?_⟩)
      rw [e2]
      rcases le_or (nI (m % 16)) 4 with ⟨t, ht, et'⟩ | h2
      · have et2 : m % 16 = t := (nI_eq (by omega) (by omega)).mp et'
        rw [et']
        refine gx_ty1 ht (br_f gx_10 ?_)
        by_cases hy : m / 192 ≤ 2
        · refine br_t (nI_le (b := 2) hy (by decide)) ⟨gx_16, ?_⟩
          refine gx_arrowsOf hg.2.1 hg.2.2.2.2.2.1 ht hy hn hw (fun x hx => ?_)
          obtain ⟨r, hX, hY⟩ := gx_at_l (fo := nI o) (fp := fp) (fc := fc) (fg := fg) (fw := fw) (ce := ce) (kc := kc) (ko := ko) (ik := ik) (kn := kn) (re := re) (dn := dn) (qu := qu) (et := et) (lo := lo) (ab := ab) (na := na) (pi := pi) (yo := nI o) (w := w) (cp := cp) (fa := fa) (q := v2) ht hy hx hm en' et2 rfl 24 0 rfl
          refine ⟨25, ?_⟩
          have e0 : v2 - nI (cn (cq w n t (m / 192)) 0) = v2 := by exact gx_s0 v2
          rw [e0] at hX
          refine hX _ ?_
          refine br_f z ⟨gx_16, gx_12, gx_16, gx_192, ?_⟩
          rw [e1, e2, e3, en, et']
          refine gy_deg hn hw ht hy (br_f ?_ ⟨25, hY _ ⟨rfl, I⟩⟩)
          exact gw_m1 (by have := cn_le (cq w n t (m / 192)) 24; omega)
        · refine br_f (nI_ge (a := 2) (by omega) (by omega)) (Ybad ⟨rfl, I⟩ (fun hq => ?_))
          unfold wpY_degree
          rw [en, et']
          exact gy_isN1 hn hw (br_f gx_10 (gy_ty1 ht (br_t rfl (br_f (nI_pos (by omega)) (br_f (nI_ge (a := 2) (by omega) (by omega)) hq)))))
      · refine gx_ty0 h2 (br_t rfl (Ybad ⟨rfl, I⟩ (fun hq => ?_)))
        unfold wpY_degree
        rw [en]
        exact gy_isN1 hn hw (br_f gx_10 (gy_ty0 h2 (br_f gx_10 hq)))
    · refine gx_isN0 hg.1 h (br_t rfl (Ybad ⟨rfl, I⟩ (fun hq => ?_)))
      unfold wpY_degree
      exact gy_isN0 h (br_t rfl hq)
end
section
/-! find, digest -/
theorem lab_iff (x l : Int32) : (x &&& l) = l ↔ (l &&& (x ^^^ (-1))) = 0 := by
  constructor
  · intro h
    refine b_ext fun i hi => ?_
    have e := congrArg (fun z => bt z i) h
    rw [b_and] at e
    rw [b_and, b_xor, b_m1 i hi, b_0]
    revert e
    cases bt x i <;> cases bt l i <;> decide
  · intro h
    refine b_ext fun i hi => ?_
    have e := congrArg (fun z => bt z i) h
    rw [b_and, b_xor, b_m1 i hi, b_0] at e
    rw [b_and]
    revert e
    cases bt x i <;> cases bt l i <;> decide
/-- a node that is asked for -/
def Fq (w : Nat → Int32) (l v : Int32) (n : Nat) : Prop := w n = 1 ∧ w (24 + n) = v ∧ (w (12 + n) &&& l) = l
theorem Fq_or (w : Nat → Int32) (l v : Int32) : (∃ n, n < 12 ∧ Fq w l v n ∧ ∀ m, m < n → ¬ Fq w l v m) ∨ (∀ n, n < 12 → ¬ Fq w l v n) := by
  rcases Classical.em (∃ n, n < 12 ∧ Fq w l v n) with h | h
  · obtain ⟨n, hn, hq⟩ := h
    obtain ⟨m, hm, hl⟩ := pk_least (fun n => n < 12 ∧ Fq w l v n) ⟨n, hn, hq⟩
    exact Or.inl ⟨m, hm.1, hm.2, fun j hj z => hl j hj ⟨by have := hm.1; omega, z⟩⟩
  · exact Or.inr fun n hn z => h ⟨n, hn, z⟩
section
variable {fo fp fc fg fw : Int32} {ce kc ko ik kn re dn qu et lo ab na pi : Nat → Int32} {yo : Int32} {w cp fa : Nat → Int32}
theorem gx_find_l {post : Int32 → Prop} {l v : Int32} {R : Nat → Nat} (hN : GN ce w) (hr : RW ce (nN w) R) (hu : ∀ k, k < nN w → w (R k) = 1) (ha : ∀ n, n < 12 → w n = 1 → ∃ k, k < nN w ∧ R k = n) (hs : ∀ i j, i < j → j < nN w → kl (w (24 + R i)) (R i) (w (24 + R j)) (R j))
    (hp : (∀ n, n < 12 → Fq w l v n → (∀ m, m < n → ¬ Fq w l v m) → post (nI n)) ∧ ((∀ n, n < 12 → ¬ Fq w l v n) → post (-2))) :
    ∀ d i, i + d = nN w → (∀ k, k < i → ¬ Fq w l v (R k)) → (∀ k, i ≤ k → k < nN w → ¬ w (24 + R k) < v) → wX_find_27 post l v (nI (nN w)) fo fp fc fg fw ce kc ko ik kn re dn qu et lo ab na pi (d + 1) (nI i) := by
  intro d
  have hL := hr.2.1
  induction d with
  | zero =>
    intro i hi h1 h2
    refine br_t (nI_le (by omega) (by omega)) (hp.2 fun n hn z => ?_)
    obtain ⟨k, hk, e⟩ := ha n hn z.1
    exact h1 k (by omega) (e ▸ z)
  | succ d ih =>
    intro i hi h1 h2
    obtain ⟨hR, hc⟩ := hr.2.2 i (by omega)
    have e4 : ce (4 + nI i).toNatClampNeg = nI (R i) := (gx_c (n := 4 + i) (by first | rfl | exact congrArg nI (by omega) | (simp only [nI_add, pk_mul, ir_0, ir_1, ir_2, ir_3, ir_4, ir_5, ir_6, ir_7, ir_8, ir_9, ir_13, il_4, il_12, il_16, il_24, il_36, il_60, il_84, il_100, il_108, il_132, il_340, im_5, im_7, im_10, im_11, im_3, im_24, im_156, im_340]; first | done | exact congrArg nI (by omega))) (by omega)).trans hc
    have hin4 : vp_in (4 + nI i) 340 := pk_in (4 + i) 340 (by omega) (by first | rfl | exact congrArg nI (by omega) | (simp only [nI_add, pk_mul, ir_0, ir_1, ir_2, ir_3, ir_4, ir_5, ir_6, ir_7, ir_8, ir_9, ir_13, il_4, il_12, il_16, il_24, il_36, il_60, il_84, il_100, il_108, il_132, il_340, im_5, im_7, im_10, im_11, im_3, im_24, im_156, im_340]; first | done | exact congrArg nI (by omega)))
    refine br_f (nI_ge (by omega) (by omega)) ⟨hin4, ?_⟩
    rw [e4]
    have hw := hu i (by omega)
    have eV : ce (nI (16 + 7 * R i) + 2).toNatClampNeg = w (24 + R i) := (gx_c (f := ce) (n := 18 + 7 * R i) (by first | rfl | exact congrArg nI (by omega) | (simp only [nI_add, pk_mul, ir_0, ir_1, ir_2, ir_3, ir_4, ir_5, ir_6, ir_7, ir_8, ir_9, ir_13, il_4, il_12, il_16, il_24, il_36, il_60, il_84, il_100, il_108, il_132, il_340, im_5, im_7, im_10, im_11, im_3, im_24, im_156, im_340]; first | done | exact congrArg nI (by omega))) (by omega)).trans ((hN (R i) hR).2.2 hw).2
    have eL : ce (nI (16 + 7 * R i) + 1).toNatClampNeg = w (12 + R i) := (gx_c (f := ce) (n := 17 + 7 * R i) (by first | rfl | exact congrArg nI (by omega) | (simp only [nI_add, pk_mul, ir_0, ir_1, ir_2, ir_3, ir_4, ir_5, ir_6, ir_7, ir_8, ir_9, ir_13, il_4, il_12, il_16, il_24, il_36, il_60, il_84, il_100, il_108, il_132, il_340, im_5, im_7, im_10, im_11, im_3, im_24, im_156, im_340]; first | done | exact congrArg nI (by omega))) (by omega)).trans ((hN (R i) hR).2.2 hw).1
    refine gx_na ⟨pk_in (18 + 7 * R i) 340 (by omega) (by first | rfl | exact congrArg nI (by omega) | (simp only [nI_add, pk_mul, ir_0, ir_1, ir_2, ir_3, ir_4, ir_5, ir_6, ir_7, ir_8, ir_9, ir_13, il_4, il_12, il_16, il_24, il_36, il_60, il_84, il_100, il_108, il_132, il_340, im_5, im_7, im_10, im_11, im_3, im_24, im_156, im_340]; first | done | exact congrArg nI (by omega))), ?_⟩
    rw [eV]
    by_cases q1 : w (24 + R i) = v
    · refine br_t q1 ⟨pk_in (17 + 7 * R i) 340 (by omega) (by first | rfl | exact congrArg nI (by omega) | (simp only [nI_add, pk_mul, ir_0, ir_1, ir_2, ir_3, ir_4, ir_5, ir_6, ir_7, ir_8, ir_9, ir_13, il_4, il_12, il_16, il_24, il_36, il_60, il_84, il_100, il_108, il_132, il_340, im_5, im_7, im_10, im_11, im_3, im_24, im_156, im_340]; first | done | exact congrArg nI (by omega))), ?_⟩
      rw [eL]
      by_cases q2 : (w (12 + R i) &&& l) = l
      · refine br_t q2 ⟨hin4, ?_⟩
        refine hp.1 (R i) hR ⟨hw, q1, q2⟩ fun m hm z => ?_
        obtain ⟨j, hj, e⟩ := ha m (by omega) z.1
        rcases Nat.lt_trichotomy j i with y | y | y
        · exact h1 j y (e ▸ z)
        · subst y; omega
        · have := hs i j y hj
          rw [q1, e, z.2.1] at this
          rcases this with y2 | y2
          · exact Int32.lt_irrefl y2
          · omega
      · refine br_f q2 (nm_r (nI_1 i) (ih (i + 1) (by omega) (fun k hk => ?_) (fun k hk => h2 k (by omega))))
        by_cases e : k = i
        · subst e; exact fun z => q2 z.2.2
        · exact h1 k (by omega)
    · refine br_f q1 (hp.2 fun n hn z => ?_)
      obtain ⟨j, hj, e⟩ := ha n hn z.1
      rcases Nat.lt_trichotomy j i with y | y | y
      · exact h1 j y (e ▸ z)
      · subst y; rw [e] at q1; exact q1 z.2.1
      · have h3 := hs i j y hj
        rw [e, z.2.1] at h3
        rcases h3 with y2 | y2
        · exact h2 i (by omega) (by omega) y2
        · exact q1 y2.1
theorem gx_find {post : Int32 → Prop} {l : Nat} {v : Int32} (hl : l ≤ 7) (hg : GR ce w) (hp : (∀ n, n < 12 → Fq w (nI l) v n → (∀ m, m < n → ¬ Fq w (nI l) v m) → post (nI n)) ∧ ((∀ n, n < 12 → ¬ Fq w (nI l) v n) → post (-2))) : wpX_find post (fo, fp, fc, fg, fw, ce, kc, ko, ik, kn, re, dn, qu, et, lo, ab, na, pi) (nI l) v := by
  obtain ⟨hN, hA, hF, hE, ⟨R, hr, hu, ha, hs⟩, hC, hH, hT⟩ := hg
  have hv : ∀ k, k < nN w → ce (18 + 7 * R k) = w (24 + R k) := fun k hk => ((hN (R k) (hr.2.2 k hk).1).2.2 (hu k hk)).2
  refine rg_1 (N := 7) hl (by omega) (nm_r hr.1 ?_)
  refine gx_place (n := 0) (by omega) hr (fun i j hij hj hb => ?_) ?_
  · unfold bl at hb ⊢
    rw [hv j hj] at hb
    rw [hv i (by omega)]
    exact kl_tr (hs i j hij hj) hb
  · intro p hpL h1 h2
    refine ⟨nN w - p + 1, gx_find_l hN hr hu ha hs hp (nN w - p) p (by omega) (fun k hk z => ?_) (fun k hk hk2 z => ?_)⟩
    · have := h1 k hk
      unfold bl at this
      rw [hv k (by omega), z.2.1] at this
      rcases this with y | y
      · exact Int32.lt_irrefl y
      · omega
    · refine h2 k hk hk2 (Or.inl ?_)
      rw [hv k hk2]; exact z
theorem gy_find_l {post : Int32 → Prop} {l v : Int32} (hp : (∀ n, n < 12 → Fq w l v n → (∀ m, m < n → ¬ Fq w l v m) → post (nI n)) ∧ ((∀ n, n < 12 → ¬ Fq w l v n) → post (-2))) :
    ∀ d n, n + d = 12 → (∀ m, m < n → ¬ Fq w l v m) → wY_find_12 post l v yo w cp fa (d + 1) (nI n) := by
  intro d
  induction d with
  | zero =>
    intro n hn h
    have : n = 12 := by omega
    subst this
    exact br_t (nI_le (a := 12) (b := 12) (by omega) (by omega)) (hp.2 h)
  | succ d ih =>
    intro n hn h
    have nx : ¬ Fq w l v n → wY_find_12 post l v yo w cp fa (d + 1) (nI (n + 1)) := fun z => ih (n + 1) (by omega) (fun m hm => by
      by_cases e : m = n
      · subst e; exact z
      · exact h m (by omega))
    refine br_f (nI_ge (b := 12) (by omega) (by decide)) ?_
    by_cases q0 : w n = 1
    · refine gy_isN1 (by omega) q0 (br_f gx_10 ⟨pk_in (24 + n) 156 (by omega) (by first | rfl | exact congrArg nI (by omega) | (simp only [nI_add, pk_mul, ir_0, ir_1, ir_2, ir_3, ir_4, ir_5, ir_6, ir_7, ir_8, ir_9, ir_13, il_4, il_12, il_16, il_24, il_36, il_60, il_84, il_100, il_108, il_132, il_340, im_5, im_7, im_10, im_11, im_3, im_24, im_156, im_340]; first | done | exact congrArg nI (by omega))), ?_⟩)
      have eV : w (24 + nI n).toNatClampNeg = w (24 + n) := gx_c (by first | rfl | exact congrArg nI (by omega) | (simp only [nI_add, pk_mul, ir_0, ir_1, ir_2, ir_3, ir_4, ir_5, ir_6, ir_7, ir_8, ir_9, ir_13, il_4, il_12, il_16, il_24, il_36, il_60, il_84, il_100, il_108, il_132, il_340, im_5, im_7, im_10, im_11, im_3, im_24, im_156, im_340]; first | done | exact congrArg nI (by omega))) (by omega)
      have eL : w (12 + nI n).toNatClampNeg = w (12 + n) := gx_c (by first | rfl | exact congrArg nI (by omega) | (simp only [nI_add, pk_mul, ir_0, ir_1, ir_2, ir_3, ir_4, ir_5, ir_6, ir_7, ir_8, ir_9, ir_13, il_4, il_12, il_16, il_24, il_36, il_60, il_84, il_100, il_108, il_132, il_340, im_5, im_7, im_10, im_11, im_3, im_24, im_156, im_340]; first | done | exact congrArg nI (by omega))) (by omega)
      rw [eV]
      by_cases q1 : w (24 + n) = v
      · refine br_t q1 ⟨pk_in (12 + n) 156 (by omega) (by first | rfl | exact congrArg nI (by omega) | (simp only [nI_add, pk_mul, ir_0, ir_1, ir_2, ir_3, ir_4, ir_5, ir_6, ir_7, ir_8, ir_9, ir_13, il_4, il_12, il_16, il_24, il_36, il_60, il_84, il_100, il_108, il_132, il_340, im_5, im_7, im_10, im_11, im_3, im_24, im_156, im_340]; first | done | exact congrArg nI (by omega))), ?_⟩
        rw [eL]
        by_cases q2 : (w (12 + n) &&& l) = l
        · exact br_t ((lab_iff _ _).mp q2) (br_f gx_10 (hp.1 n (by omega) ⟨q0, q1, q2⟩ h))
        · exact br_f (fun z => q2 ((lab_iff _ _).mpr z)) (br_t rfl (nm_r (nI_1 n) (nx (fun z => q2 z.2.2))))
      · exact br_f q1 (nm_r (nI_1 n) (nx (fun z => q1 z.2.1)))
    · refine gy_isN0 (fun m hm e => ?_) (br_t rfl (nm_r (nI_1 n) (nx (fun z => q0 z.1))))
      have : n = m := (nI_eq (by omega) (by omega)).mp e
      subst this; exact q0
/-! digest -/
theorem gx_dig2 (hA : GA ce w) : ∀ d k, k + d = 24 → ∀ s : Int32, ∃ r, (∀ post : Int32 → Prop, post r → wX_digest_62 post fo fp fc fg fw ce kc ko ik kn re dn qu et lo ab na pi (d + 1) s (nI k)) ∧ (∀ post : Int32 → Prop, post r → wY_digest_54 post yo w cp fa (d + 1) s (nI k)) := by
  intro d
  induction d with
  | zero =>
    intro k hk s
    have : k = 24 := by omega
    subst this
    exact ⟨s, fun post hp => br_t (nI_le (a := 24) (b := 24) (by omega) (by omega)) hp, fun post hp => br_t (nI_le (a := 24) (b := 24) (by omega) (by omega)) hp⟩
  | succ d ih =>
    intro k hk s
    have hge : ¬ (24 : Int32) ≤ nI k := nI_ge (b := 24) (by omega) (by decide)
    by_cases q : w (36 + k) = 1
    · obtain ⟨c1, c2, c3, c4, _⟩ := (hA k (by omega)).2.2 q
      obtain ⟨r, hX, hY⟩ := ih (k + 1) (by omega) (s + ((nI k + 13) * (((w (60 + k) + (5 * w (84 + k))) + (7 * w (108 + k))) + (11 * w (132 + k)))))
      refine ⟨r, fun post hp => br_f hge (gx_aa (gx_isA1 hA (by omega) q (br_f gx_10 ⟨pk_in (101 + 10 * k) 340 (by omega) (by first | rfl | exact congrArg nI (by omega) | (simp only [nI_add, pk_mul, ir_0, ir_1, ir_2, ir_3, ir_4, ir_5, ir_6, ir_7, ir_8, ir_9, ir_13, il_4, il_12, il_16, il_24, il_36, il_60, il_84, il_100, il_108, il_132, il_340, im_5, im_7, im_10, im_11, im_3, im_24, im_156, im_340]; first | done | exact congrArg nI (by omega))), pk_in (102 + 10 * k) 340 (by omega) (by first | rfl | exact congrArg nI (by omega) | (simp only [nI_add, pk_mul, ir_0, ir_1, ir_2, ir_3, ir_4, ir_5, ir_6, ir_7, ir_8, ir_9, ir_13, il_4, il_12, il_16, il_24, il_36, il_60, il_84, il_100, il_108, il_132, il_340, im_5, im_7, im_10, im_11, im_3, im_24, im_156, im_340]; first | done | exact congrArg nI (by omega))), pk_in (103 + 10 * k) 340 (by omega) (by first | rfl | exact congrArg nI (by omega) | (simp only [nI_add, pk_mul, ir_0, ir_1, ir_2, ir_3, ir_4, ir_5, ir_6, ir_7, ir_8, ir_9, ir_13, il_4, il_12, il_16, il_24, il_36, il_60, il_84, il_100, il_108, il_132, il_340, im_5, im_7, im_10, im_11, im_3, im_24, im_156, im_340]; first | done | exact congrArg nI (by omega))), pk_in (104 + 10 * k) 340 (by omega) (by first | rfl | exact congrArg nI (by omega) | (simp only [nI_add, pk_mul, ir_0, ir_1, ir_2, ir_3, ir_4, ir_5, ir_6, ir_7, ir_8, ir_9, ir_13, il_4, il_12, il_16, il_24, il_36, il_60, il_84, il_100, il_108, il_132, il_340, im_5, im_7, im_10, im_11, im_3, im_24, im_156, im_340]; first | done | exact congrArg nI (by omega))), ?_⟩))), fun post hp => br_f hge (gy_isA1 (by omega) q (br_f gx_10 (gy_part0 (by omega) (gy_part1 (by omega) (gy_part2 (by omega) (gy_part3 (by omega) (nm_e (nm_r (nI_1 k) (hY post hp)))))))))⟩
      have e1 : ce (nI (100 + 10 * k) + 1).toNatClampNeg = w (60 + k) := (gx_c (n := 101 + 10 * k) (by first | rfl | exact congrArg nI (by omega) | (simp only [nI_add, pk_mul, ir_0, ir_1, ir_2, ir_3, ir_4, ir_5, ir_6, ir_7, ir_8, ir_9, ir_13, il_4, il_12, il_16, il_24, il_36, il_60, il_84, il_100, il_108, il_132, il_340, im_5, im_7, im_10, im_11, im_3, im_24, im_156, im_340]; first | done | exact congrArg nI (by omega))) (by omega)).trans c1
      have e2 : ce (nI (100 + 10 * k) + 1 + 1).toNatClampNeg = w (84 + k) := (gx_c (n := 102 + 10 * k) (by first | rfl | exact congrArg nI (by omega) | (simp only [nI_add, pk_mul, ir_0, ir_1, ir_2, ir_3, ir_4, ir_5, ir_6, ir_7, ir_8, ir_9, ir_13, il_4, il_12, il_16, il_24, il_36, il_60, il_84, il_100, il_108, il_132, il_340, im_5, im_7, im_10, im_11, im_3, im_24, im_156, im_340]; first | done | exact congrArg nI (by omega))) (by omega)).trans c2
      have e3 : ce (nI (100 + 10 * k) + 3).toNatClampNeg = w (108 + k) := (gx_c (n := 103 + 10 * k) (by first | rfl | exact congrArg nI (by omega) | (simp only [nI_add, pk_mul, ir_0, ir_1, ir_2, ir_3, ir_4, ir_5, ir_6, ir_7, ir_8, ir_9, ir_13, il_4, il_12, il_16, il_24, il_36, il_60, il_84, il_100, il_108, il_132, il_340, im_5, im_7, im_10, im_11, im_3, im_24, im_156, im_340]; first | done | exact congrArg nI (by omega))) (by omega)).trans c3
      have e4 : ce (nI (100 + 10 * k) + 4).toNatClampNeg = w (132 + k) := (gx_c (n := 104 + 10 * k) (by first | rfl | exact congrArg nI (by omega) | (simp only [nI_add, pk_mul, ir_0, ir_1, ir_2, ir_3, ir_4, ir_5, ir_6, ir_7, ir_8, ir_9, ir_13, il_4, il_12, il_16, il_24, il_36, il_60, il_84, il_100, il_108, il_132, il_340, im_5, im_7, im_10, im_11, im_3, im_24, im_156, im_340]; first | done | exact congrArg nI (by omega))) (by omega)).trans c4
      rw [e1, e2, e3, e4]
      exact nm_e (nm_r (nI_1 k) (hX post hp))
    · obtain ⟨r, hX, hY⟩ := ih (k + 1) (by omega) s
      have hno : ∀ a, a < 24 → nI k = nI a → w (36 + a) ≠ 1 := fun a ha e => by
        have : k = a := (nI_eq (by omega) (by omega)).mp e
        subst this; exact q
      refine ⟨r, fun post hp => br_f hge (gx_aa (gx_isA0 hA hno (br_t rfl (nm_r (e' := s) (by grind) (nm_r (nI_1 k) (hX post hp)))))), fun post hp => br_f hge (gy_isA0 hno (br_t rfl (nm_r (nI_1 k) (hY post hp))))⟩
theorem gx_dig1 (hN : GN ce w) (hA : GA ce w) : ∀ d k, k + d = 12 → ∀ s : Int32, ∃ r, (∀ post : Int32 → Prop, post r → wX_digest_4 post fo fp fc fg fw ce kc ko ik kn re dn qu et lo ab na pi (d + 1) s (nI k)) ∧ (∀ post : Int32 → Prop, post r → wY_digest_4 post yo w cp fa (d + 1) s (nI k)) := by
  intro d
  induction d with
  | zero =>
    intro k hk s
    have : k = 12 := by omega
    subst this
    obtain ⟨r, hX, hY⟩ := gx_dig2 (fo := fo) (fp := fp) (fc := fc) (fg := fg) (fw := fw) (kc := kc) (ko := ko) (ik := ik) (kn := kn) (re := re) (dn := dn) (qu := qu) (et := et) (lo := lo) (ab := ab) (na := na) (pi := pi) (yo := yo) (cp := cp) (fa := fa) hA 24 0 rfl s
    exact ⟨r, fun post hp => br_t (nI_le (a := 12) (b := 12) (by omega) (by omega)) ⟨25, hX post hp⟩, fun post hp => br_t (nI_le (a := 12) (b := 12) (by omega) (by omega)) ⟨25, hY post hp⟩⟩
  | succ d ih =>
    intro k hk s
    have hge : ¬ (12 : Int32) ≤ nI k := nI_ge (b := 12) (by omega) (by decide)
    by_cases q : w k = 1
    · obtain ⟨c1, c2⟩ := (hN k (by omega)).2.2 q
      obtain ⟨r, hX, hY⟩ := ih (k + 1) (by omega) (s + ((nI k + 1) * (w (12 + k) + (3 * w (24 + k)))))
      have e1 : ce (nI (16 + 7 * k) + 1).toNatClampNeg = w (12 + k) := (gx_c (n := 17 + 7 * k) (by first | rfl | exact congrArg nI (by omega) | (simp only [nI_add, pk_mul, ir_0, ir_1, ir_2, ir_3, ir_4, ir_5, ir_6, ir_7, ir_8, ir_9, ir_13, il_4, il_12, il_16, il_24, il_36, il_60, il_84, il_100, il_108, il_132, il_340, im_5, im_7, im_10, im_11, im_3, im_24, im_156, im_340]; first | done | exact congrArg nI (by omega))) (by omega)).trans c1
      have e2 : ce (nI (16 + 7 * k) + 2).toNatClampNeg = w (24 + k) := (gx_c (n := 18 + 7 * k) (by first | rfl | exact congrArg nI (by omega) | (simp only [nI_add, pk_mul, ir_0, ir_1, ir_2, ir_3, ir_4, ir_5, ir_6, ir_7, ir_8, ir_9, ir_13, il_4, il_12, il_16, il_24, il_36, il_60, il_84, il_100, il_108, il_132, il_340, im_5, im_7, im_10, im_11, im_3, im_24, im_156, im_340]; first | done | exact congrArg nI (by omega))) (by omega)).trans c2
      have y1 : w (12 + nI k).toNatClampNeg = w (12 + k) := gx_c (by first | rfl | exact congrArg nI (by omega) | (simp only [nI_add, pk_mul, ir_0, ir_1, ir_2, ir_3, ir_4, ir_5, ir_6, ir_7, ir_8, ir_9, ir_13, il_4, il_12, il_16, il_24, il_36, il_60, il_84, il_100, il_108, il_132, il_340, im_5, im_7, im_10, im_11, im_3, im_24, im_156, im_340]; first | done | exact congrArg nI (by omega))) (by omega)
      have y2 : w (24 + nI k).toNatClampNeg = w (24 + k) := gx_c (by first | rfl | exact congrArg nI (by omega) | (simp only [nI_add, pk_mul, ir_0, ir_1, ir_2, ir_3, ir_4, ir_5, ir_6, ir_7, ir_8, ir_9, ir_13, il_4, il_12, il_16, il_24, il_36, il_60, il_84, il_100, il_108, il_132, il_340, im_5, im_7, im_10, im_11, im_3, im_24, im_156, im_340]; first | done | exact congrArg nI (by omega))) (by omega)
      refine ⟨r, fun post hp => br_f hge (gx_isN1 hN (by omega) q (br_f gx_10 (gx_na ⟨pk_in (17 + 7 * k) 340 (by omega) (by first | rfl | exact congrArg nI (by omega) | (simp only [nI_add, pk_mul, ir_0, ir_1, ir_2, ir_3, ir_4, ir_5, ir_6, ir_7, ir_8, ir_9, ir_13, il_4, il_12, il_16, il_24, il_36, il_60, il_84, il_100, il_108, il_132, il_340, im_5, im_7, im_10, im_11, im_3, im_24, im_156, im_340]; first | done | exact congrArg nI (by omega))), gx_na ⟨pk_in (18 + 7 * k) 340 (by omega) (by first | rfl | exact congrArg nI (by omega) | (simp only [nI_add, pk_mul, ir_0, ir_1, ir_2, ir_3, ir_4, ir_5, ir_6, ir_7, ir_8, ir_9, ir_13, il_4, il_12, il_16, il_24, il_36, il_60, il_84, il_100, il_108, il_132, il_340, im_5, im_7, im_10, im_11, im_3, im_24, im_156, im_340]; first | done | exact congrArg nI (by omega))), ?_⟩⟩))), fun post hp => br_f hge (gy_isN1 (by omega) q (br_f gx_10 ⟨pk_in (12 + k) 156 (by omega) (by first | rfl | exact congrArg nI (by omega) | (simp only [nI_add, pk_mul, ir_0, ir_1, ir_2, ir_3, ir_4, ir_5, ir_6, ir_7, ir_8, ir_9, ir_13, il_4, il_12, il_16, il_24, il_36, il_60, il_84, il_100, il_108, il_132, il_340, im_5, im_7, im_10, im_11, im_3, im_24, im_156, im_340]; first | done | exact congrArg nI (by omega))), pk_in (24 + k) 156 (by omega) (by first | rfl | exact congrArg nI (by omega) | (simp only [nI_add, pk_mul, ir_0, ir_1, ir_2, ir_3, ir_4, ir_5, ir_6, ir_7, ir_8, ir_9, ir_13, il_4, il_12, il_16, il_24, il_36, il_60, il_84, il_100, il_108, il_132, il_340, im_5, im_7, im_10, im_11, im_3, im_24, im_156, im_340]; first | done | exact congrArg nI (by omega))), ?_⟩))⟩
      · rw [e1, e2]
        exact nm_e (nm_r (nI_1 k) (hX post hp))
      · rw [y1, y2]
        exact nm_e (nm_r (nI_1 k) (hY post hp))
    · obtain ⟨r, hX, hY⟩ := ih (k + 1) (by omega) s
      have hno : ∀ a, a < 12 → nI k = nI a → w a ≠ 1 := fun a ha e => by
        have : k = a := (nI_eq (by omega) (by omega)).mp e
        subst this; exact q
      refine ⟨r, fun post hp => br_f hge (gx_isN0 hN hno (br_t rfl (nm_r (e' := s) (by grind) (nm_r (nI_1 k) (hX post hp))))), fun post hp => br_f hge (gy_isN0 hno (br_t rfl (nm_r (nI_1 k) (hY post hp))))⟩
end
theorem i_vc_find {k : Nat} {u : SX} {v : SY} (I : i_Rel k u v) (hk : k + 4 ≤ 2048) (v1 : Int32) (v2 : Int32) : wpX_find (fun r => wpY_find (fun r' => r' = r ∧ i_Rel (k + 4) u v) v v1 v2) u v1 v2 := by
  obtain ⟨fo, fp, fc, fg, fw, ce, kc, ko, ik, kn, re, dn, qu, et, lo, ab, na, pi⟩ := u
  obtain ⟨yo, w, cp, fa⟩ := v
  obtain ⟨o, sn, ho, rfl, rfl, hj, hg, hs⟩ := I
  have I : i_Rel (k + 4) (nI o, fp, fc, fg, fw, ce, kc, ko, ik, kn, re, dn, qu, et, lo, ab, na, pi) (nI o, w, cp, fa) := gr_mk ho hj hg hs
  rcases le_or v1 7 with ⟨l, hl, rfl⟩ | h
  · refine gx_find hl hg ⟨fun n hn hq hm => ?_, fun hno => ?_⟩
    · unfold wpY_find
      refine gy_lb1 hl (br_t rfl ⟨13, gy_find_l ⟨fun n' hn' hq' hm' => ⟨?_, I⟩, fun hno => absurd hq (hno n hn)⟩ 12 0 rfl (fun m hm => by omega)⟩)
      rcases Nat.lt_trichotomy n n' with z | z | z
      · exact absurd hq (hm' n z)
      · rw [z]
      · exact absurd hq' (hm n' z)
    · unfold wpY_find
      exact gy_lb1 hl (br_t rfl ⟨13, gy_find_l ⟨fun n' hn' hq' hm' => absurd hq' (hno n' hn'), fun _ => ⟨rfl, I⟩⟩ 12 0 rfl (fun m hm => by omega)⟩)
  · refine rg_0 (N := 7) (by omega) h ?_
    unfold wpY_find
    exact gy_lb0 h (br_f gx_10 ⟨rfl, I⟩)
theorem i_vc_digest {k : Nat} {u : SX} {v : SY} (I : i_Rel k u v) (hk : k + 4 ≤ 2048) : wpX_digest (fun r => wpY_digest (fun r' => r' = r ∧ i_Rel (k + 4) u v) v) u := by
  obtain ⟨fo, fp, fc, fg, fw, ce, kc, ko, ik, kn, re, dn, qu, et, lo, ab, na, pi⟩ := u
  obtain ⟨yo, w, cp, fa⟩ := v
  obtain ⟨o, sn, ho, rfl, rfl, hj, hg, hs⟩ := I
  have I : i_Rel (k + 4) (nI o, fp, fc, fg, fw, ce, kc, ko, ik, kn, re, dn, qu, et, lo, ab, na, pi) (nI o, w, cp, fa) := gr_mk ho hj hg hs
  obtain ⟨r, hX, hY⟩ := gx_dig1 (fo := nI o) (fp := fp) (fc := fc) (fg := fg) (fw := fw) (kc := kc) (ko := ko) (ik := ik) (kn := kn) (re := re) (dn := dn) (qu := qu) (et := et) (lo := lo) (ab := ab) (na := na) (pi := pi) (yo := nI o) (cp := cp) (fa := fa) hg.1 hg.2.1 12 0 rfl 0
  exact ⟨13, hX _ ⟨13, hY _ ⟨rfl, I⟩⟩⟩
end
section
/-! chains: sums -/
def sm (f : Nat → Int32) : Nat → Int32
  | 0 => 0
  | k + 1 => sm f k + f k
theorem sm_cg {f g : Nat → Int32} : ∀ {N : Nat}, (∀ k, k < N → f k = g k) → sm f N = sm g N
  | 0, _ => rfl
  | N + 1, h => by simp only [sm]; rw [sm_cg (fun k hk => h k (by omega)), h N (by omega)]
theorem sr_1 (a b c d : Int32) : a + b + (c + d) = a + c + (b + d) := by grind
theorem sr_2 (a b c : Int32) : a * b + a * c = a * (b + c) := by grind
theorem sr_3 (a : Int32) : a * 0 = 0 := by grind
theorem sr_4 (a b c d : Int32) : a - b + (c - d) = a + c - (b + d) := by grind
theorem sr_5 : (0 : Int32) - 0 = 0 := by grind
theorem sr_6 (a : Int32) : 0 + a = a := by grind
theorem sr_7 (a : Int32) : a + 0 = a := by grind
theorem sr_8 (a b : Int32) : a * b = b * a := by grind
theorem sm_add {f g : Nat → Int32} : ∀ {N : Nat}, sm (fun k => f k + g k) N = sm f N + sm g N
  | 0 => (sr_7 0).symm
  | N + 1 => by simp only [sm]; rw [sm_add (N := N)]; exact sr_1 _ _ _ _
theorem sm_sub {f g : Nat → Int32} : ∀ {N : Nat}, sm (fun k => f k - g k) N = sm f N - sm g N
  | 0 => sr_5.symm
  | N + 1 => by simp only [sm]; rw [sm_sub (N := N)]; exact sr_4 _ _ _ _
theorem sm_mul {c : Int32} {f : Nat → Int32} : ∀ {N : Nat}, sm (fun k => c * f k) N = c * sm f N
  | 0 => (sr_3 c).symm
  | N + 1 => by simp only [sm]; rw [sm_mul (N := N)]; exact sr_2 _ _ _
theorem sm_z : ∀ {N : Nat}, sm (fun _ => 0) N = 0
  | 0 => rfl
  | N + 1 => by simp only [sm]; rw [sm_z (N := N)]; exact sr_7 0
theorem sm_com {f : Nat → Nat → Int32} {M : Nat} : ∀ {N : Nat}, sm (fun i => sm (fun j => f i j) M) N = sm (fun j => sm (fun i => f i j) N) M
  | 0 => by simp only [sm]; exact sm_z.symm
  | N + 1 => by simp only [sm]; rw [sm_com (N := N), sm_add]
/-- a sum with one term -/
theorem sm_at {f : Nat → Int32} {a : Nat} : ∀ {N : Nat}, a < N → (∀ k, k < N → k ≠ a → f k = 0) → sm f N = f a
  | 0, h, _ => by omega
  | N + 1, ha, h => by
    simp only [sm]
    rcases Nat.lt_or_ge a N with z | z
    · rw [sm_at z (fun k hk => h k (by omega)), h N (by omega) (by omega)]; exact sr_7 _
    · have e : a = N := by omega
      subst e
      rw [sm_cg (g := fun _ => 0) (fun k hk => h k (by omega) (by omega)), sm_z]; exact sr_6 _
/-- a truth as a number -/
noncomputable def tv (P : Prop) : Int32 := nI (gs_b P)
theorem tv_t {P : Prop} (h : P) : tv P = 1 := by unfold tv; rw [gs_bt h]; rfl
theorem tv_f {P : Prop} (h : ¬ P) : tv P = 0 := by unfold tv; rw [gs_bf h]; rfl
theorem tv_cg {P Q : Prop} (h : P ↔ Q) : tv P = tv Q := by unfold tv; rw [gs_beq h]
theorem tv_and {P Q : Prop} : tv (P ∧ Q) = tv P * tv Q := by
  by_cases p : P <;> by_cases q : Q
  · rw [tv_t ⟨p, q⟩, tv_t p, tv_t q]; rfl
  · rw [tv_f (fun z => q z.2), tv_f q, sr_3]
  · rw [tv_f (fun z => p z.1), tv_f p, sr_8, sr_3]
  · rw [tv_f (fun z => p z.1), tv_f p, sr_8, sr_3]
theorem cn_sm {P : Nat → Prop} : ∀ {N : Nat}, nI (cn P N) = sm (fun k => tv (P k)) N
  | 0 => rfl
  | N + 1 => by simp only [sm, cn]; rw [← cn_sm (N := N), ← nI_add]; rfl
/-- pairs of different ones -/
theorem sm_pairs {f g : Nat → Int32} {N : Nat} : sm f N * sm g N - sm (fun k => f k * g k) N = sm (fun r => sm (fun s => tv (r ≠ s) * (f r * g s)) N) N := by
  have e1 : sm f N * sm g N = sm (fun r => sm (fun s => f r * g s) N) N := by
    have h1 : ∀ r, sm (fun s => f r * g s) N = sm g N * f r := fun r => by rw [sm_mul]; exact sr_8 _ _
    rw [sm_cg (g := fun r => sm g N * f r) (fun r _ => h1 r), sm_mul]; exact sr_8 _ _
  rw [e1, ← sm_sub]
  refine sm_cg fun r hr => ?_
  have e2 : f r * g r = sm (fun s => tv (r = s) * (f r * g s)) N := by
    rw [sm_at (f := fun s => tv (r = s) * (f r * g s)) hr (fun s _ hs => by rw [tv_f (fun e => hs e.symm), sr_8, sr_3])]
    show f r * g r = tv (r = r) * (f r * g r)
    rw [tv_t rfl]; grind
  rw [e2, ← sm_sub]
  refine sm_cg fun s _ => ?_
  by_cases e : r = s
  · rw [tv_t e, tv_f (fun z => z e)]; grind
  · rw [tv_f e, tv_t e]; grind
/-- the node's labels hold these -/
def Lq (w : Nat → Int32) (l : Int32) (b : Nat) : Prop := (w (12 + b) &&& l) = l
/-- a pair of arrows, one behind the other -/
def Pq (w : Nat → Int32) (t u : Nat) (l : Int32) (r s : Nat) : Prop := r ≠ s ∧ (okA w t r ∧ okA w u s) ∧ w (84 + r) = w (60 + s) ∧ Lq w l (to' w r)
theorem ch_sum {c w : Nat → Int32} {t u : Nat} {l : Int32} (hA : GA c w) :
    sm (fun b => tv (w b = 1 ∧ Lq w l b) * (nI (cn (fun a => okA w t a ∧ w (84 + a) = nI b) 24) * nI (cn (fun a => okA w u a ∧ w (60 + a) = nI b) 24) - nI (cn (fun a => (okA w t a ∧ w (84 + a) = nI b) ∧ (okA w u a ∧ w (60 + a) = nI b)) 24))) 12
    = sm (fun r => sm (fun s => tv (Pq w t u l r s)) 24) 24 := by
  have e1 : ∀ b, tv (w b = 1 ∧ Lq w l b) * (nI (cn (fun a => okA w t a ∧ w (84 + a) = nI b) 24) * nI (cn (fun a => okA w u a ∧ w (60 + a) = nI b) 24) - nI (cn (fun a => (okA w t a ∧ w (84 + a) = nI b) ∧ (okA w u a ∧ w (60 + a) = nI b)) 24))
      = sm (fun r => sm (fun s => tv (w b = 1 ∧ Lq w l b) * (tv (r ≠ s) * (tv (okA w t r ∧ w (84 + r) = nI b) * tv (okA w u s ∧ w (60 + s) = nI b)))) 24) 24 := by
    intro b
    rw [cn_sm, cn_sm, cn_sm]
    have : sm (fun k => tv ((okA w t k ∧ w (84 + k) = nI b) ∧ (okA w u k ∧ w (60 + k) = nI b))) 24 = sm (fun k => tv (okA w t k ∧ w (84 + k) = nI b) * tv (okA w u k ∧ w (60 + k) = nI b)) 24 := sm_cg fun k _ => tv_and
    rw [this, sm_pairs, ← sm_mul]
    refine sm_cg fun r _ => ?_
    rw [← sm_mul]
  rw [sm_cg (fun b _ => e1 b), sm_com]
  refine sm_cg fun r hr => ?_
  rw [sm_com]
  refine sm_cg fun s hs => ?_
  by_cases q : okA w t r ∧ okA w u s
  · have gr := ((hA r hr).2.2 q.1.2.1).2.2.2.2
    have gs := ((hA s hs).2.2 q.2.2.1).2.2.2.2
    obtain ⟨t1, t2, t3⟩ := GP_to gr
    obtain ⟨f1, f2, f3⟩ := GP_fr gs
    rw [sm_at (a := to' w r) t2 (fun b hb hne => by
      have : ¬ (okA w t r ∧ w (84 + r) = nI b) := fun z => hne ((GP_toI gr hb).mp z.2).symm
      rw [tv_f this]; grind)]
    rw [tv_t (P := okA w t r ∧ w (84 + r) = nI (to' w r)) ⟨q.1, t1⟩]
    by_cases p1 : r ≠ s ∧ w (84 + r) = w (60 + s) ∧ Lq w l (to' w r)
    · rw [tv_t (P := Pq w t u l r s) ⟨p1.1, q, p1.2.1, p1.2.2⟩, tv_t (P := w (to' w r) = 1 ∧ Lq w l (to' w r)) ⟨t3, p1.2.2⟩, tv_t p1.1, tv_t (P := okA w u s ∧ w (60 + s) = nI (to' w r)) ⟨q.2, by rw [← p1.2.1]; exact t1⟩]
      rfl
    · rw [tv_f (P := Pq w t u l r s) (fun z => p1 ⟨z.1, z.2.2.1, z.2.2.2⟩)]
      by_cases c1 : r ≠ s
      · by_cases c2 : Lq w l (to' w r)
        · have : ¬ (okA w u s ∧ w (60 + s) = nI (to' w r)) := fun z => p1 ⟨c1, by rw [z.2]; exact t1, c2⟩
          rw [tv_f this]; grind
        · rw [tv_f (P := w (to' w r) = 1 ∧ Lq w l (to' w r)) (fun z => c2 z.2)]; grind
      · rw [tv_f c1]; grind
  · rw [tv_f (P := Pq w t u l r s) (fun z => q z.2.1)]
    refine (sm_cg (g := fun _ => 0) fun b _ => ?_).trans sm_z
    by_cases q1 : okA w t r
    · have : ¬ (okA w u s ∧ w (60 + s) = nI b) := fun z => q ⟨q1, z.1⟩
      rw [tv_f this]; grind
    · have : ¬ (okA w t r ∧ w (84 + r) = nI b) := fun z => q1 z.1
      rw [tv_f this]; grind
section
variable {fo fp fc fg fw : Int32} {ce kc ko ik kn re dn qu et lo ab na pi : Nat → Int32} {yo : Int32} {w cp fa : Nat → Int32}
theorem gx_chains_l {post : Int32 → Prop} {t u l : Nat} (hN : GN ce w) (hA : GA ce w) (hC : GC ce w) (ht : t ≤ 4) (hu : u ≤ 4) {F : Nat → Int32} (hF : ∀ b, F b = tv (w b = 1 ∧ Lq w (nI l) b) * (nI (cn (fun a => okA w t a ∧ w (84 + a) = nI b) 24) * nI (cn (fun a => okA w u a ∧ w (60 + a) = nI b) 24) - nI (cn (fun a => (okA w t a ∧ w (84 + a) = nI b) ∧ (okA w u a ∧ w (60 + a) = nI b)) 24)))
    (hp : post (sm F 12)) : ∀ d b, b + d = 12 → wX_chains_32 post (nI t) (nI u) (nI l) fo fp fc fg fw ce kc ko ik kn re dn qu et lo ab na pi (d + 1) (sm F b) (nI b) := by
  intro d
  induction d with
  | zero =>
    intro b hb
    have : b = 12 := by omega
    subst this
    exact br_t (nI_le (a := 12) (b := 12) (by omega) (by omega)) hp
  | succ d ih =>
    intro b hb
    refine br_f (nI_ge (b := 12) (by omega) (by decide)) ?_
    have skip : F b = 0 → wX_chains_32 post (nI t) (nI u) (nI l) fo fp fc fg fw ce kc ko ik kn re dn qu et lo ab na pi (d + 1) (sm F b) (nI (b + 1)) := by
      intro h0
      have := ih (b + 1) (by omega)
      simp only [sm] at this
      rw [h0, sr_7] at this
      exact this
    by_cases q : w b = 1
    · refine gx_isN1 hN (by omega) q (br_f gx_10 (gx_na ⟨pk_in (17 + 7 * b) 340 (by omega) (by first | rfl | exact congrArg nI (by omega) | (simp only [nI_add, pk_mul, ir_0, ir_1, ir_2, ir_3, ir_4, ir_5, ir_6, ir_7, ir_8, ir_9, ir_13, il_4, il_12, il_16, il_24, il_36, il_60, il_84, il_100, il_108, il_132, il_340, im_5, im_7, im_10, im_11, im_3, im_24, im_156, im_340]; first | done | exact congrArg nI (by omega))), ?_⟩))
      have e1 : ce (nI (16 + 7 * b) + 1).toNatClampNeg = w (12 + b) := (gx_c (n := 17 + 7 * b) (by first | rfl | exact congrArg nI (by omega) | (simp only [nI_add, pk_mul, ir_0, ir_1, ir_2, ir_3, ir_4, ir_5, ir_6, ir_7, ir_8, ir_9, ir_13, il_4, il_12, il_16, il_24, il_36, il_60, il_84, il_100, il_108, il_132, il_340, im_5, im_7, im_10, im_11, im_3, im_24, im_156, im_340]; first | done | exact congrArg nI (by omega))) (by omega)).trans ((hN b (by omega)).2.2 q).1
      rw [e1]
      by_cases q2 : (w (12 + b) &&& nI l) = nI l
      · refine br_t q2 ?_
        refine gx_along (s := 1) hA hC (by omega) ht (by omega) q (fun x hx => ?_)
        refine gx_along (s := 0) hA hC (by omega) hu (by omega) q (fun y hy => ?_)
        refine gx_ones hx (gx_ones hy (gx_ones (Bs_and hx hy) ?_))
        refine nm_r (e' := sm F (b + 1)) ?_ (nm_r (nI_1 b) (ih (b + 1) (by omega)))
        simp only [sm]
        rw [hF b, tv_t ⟨q, q2⟩]
        exact congrArg (sm F b + ·) (by rw [sr_8 1]; exact (by grind : ∀ z : Int32, z = z * 1) _)
      · refine br_f q2 (nm_r (nI_1 b) (skip ?_))
        rw [hF b, tv_f (fun z => q2 z.2), sr_8, sr_3]
    · have hno : ∀ a, a < 12 → nI b = nI a → w a ≠ 1 := fun a ha e => by
        have : b = a := (nI_eq (by omega) (by omega)).mp e
        subst this; exact q
      refine gx_isN0 hN hno (br_t rfl (nm_r (nI_1 b) (skip ?_)))
      rw [hF b, tv_f (fun z => q z.1), sr_8, sr_3]
theorem gy_chains_2 {c : Nat → Int32} {post : Int32 → Prop} {J : Int32 → Int32 → Prop} {t u l r : Nat} {s0 : Int32} (hA : GA c w) (ht : t ≤ 4) (hu : u ≤ 4) (hr : r < 24)
    (K : J (s0 + sm (fun s => tv (Pq w t u (nI l) r s)) 24) (nI (r + 1))) : ∀ d s, s + d = 24 → wY_chains_42 post J (nI t) (nI u) (nI l) (nI r) yo w cp fa (d + 1) (s0 + sm (fun s => tv (Pq w t u (nI l) r s)) s) (nI s) := by
  intro d
  induction d with
  | zero =>
    intro s hs
    have : s = 24 := by omega
    subst this
    exact br_t (nI_le (a := 24) (b := 24) (by omega) (by omega)) (nm_r (nI_1 r) K)
  | succ d ih =>
    intro s hs
    refine br_f (nI_ge (b := 24) (by omega) (by decide)) ?_
    have hnext := ih (s + 1) (by omega)
    simp only [sm] at hnext
    have skip : ¬ Pq w t u (nI l) r s → wY_chains_42 post J (nI t) (nI u) (nI l) (nI r) yo w cp fa (d + 1) (s0 + sm (fun s => tv (Pq w t u (nI l) r s)) s) (nI (s + 1)) := by
      intro z
      rw [tv_f z, sr_7] at hnext
      exact hnext
    have no : ¬ Pq w t u (nI l) r s → wY_chains_80 post J (wY_chains_42 post J (nI t) (nI u) (nI l) (nI r) yo w cp fa (d + 1)) (nI t) (nI u) (nI l) (s0 + sm (fun s => tv (Pq w t u (nI l) r s)) s) (nI r) (nI s) yo w cp fa :=
      fun z => br_t rfl (nm_r (nI_1 s) (skip z))
    by_cases e : r = s
    · subst e
      exact br_t rfl (no (fun z => z.1 rfl))
    · refine br_f (fun z => e ((nI_eq (by omega) (by omega)).mp z)) ?_
      by_cases q1 : okA w t r
      · refine gy_isOf1 q1 ht (br_f gx_10 ?_)
        by_cases q2 : okA w u s
        · refine gy_isOf1 q2 hu (br_f gx_10 ?_)
          obtain ⟨t1, t2, t3⟩ := GP_to ((hA r hr).2.2 q1.2.1).2.2.2.2
          refine br_f gx_10 ?_
          refine gy_part1 hr (gy_part0 (by omega) ?_)
          by_cases q3 : w (84 + r) = w (60 + s)
          · refine br_t q3 (gy_part1 hr ?_)
            rw [t1]
            have eL : w (12 + nI (to' w r)).toNatClampNeg = w (12 + to' w r) := gx_c (by first | rfl | exact congrArg nI (by omega) | (simp only [nI_add, pk_mul, ir_0, ir_1, ir_2, ir_3, ir_4, ir_5, ir_6, ir_7, ir_8, ir_9, ir_13, il_4, il_12, il_16, il_24, il_36, il_60, il_84, il_100, il_108, il_132, il_340, im_5, im_7, im_10, im_11, im_3, im_24, im_156, im_340]; first | done | exact congrArg nI (by omega))) (by omega)
            refine ⟨pk_in (12 + to' w r) 156 (by omega) (by first | rfl | exact congrArg nI (by omega) | (simp only [nI_add, pk_mul, ir_0, ir_1, ir_2, ir_3, ir_4, ir_5, ir_6, ir_7, ir_8, ir_9, ir_13, il_4, il_12, il_16, il_24, il_36, il_60, il_84, il_100, il_108, il_132, il_340, im_5, im_7, im_10, im_11, im_3, im_24, im_156, im_340]; first | done | exact congrArg nI (by omega))), ?_⟩
            rw [eL]
            by_cases q4 : (w (12 + to' w r) &&& nI l) = nI l
            · refine br_t ((lab_iff _ _).mp q4) (br_f gx_10 (nm_r (e' := s0 + (sm (fun s => tv (Pq w t u (nI l) r s)) s + 1)) (by grind) (nm_r (nI_1 s) ?_)))
              rw [tv_t ⟨e, ⟨q1, q2⟩, q3, q4⟩] at hnext
              exact hnext
            · exact br_f (fun z => q4 ((lab_iff _ _).mpr z)) (br_t rfl (nm_r (nI_1 s) (skip (fun z => q4 z.2.2.2))))
          · exact br_f q3 (nm_r (nI_1 s) (skip (fun z => q3 z.2.2.1)))
        · exact gy_isOf0 (by omega) q2 hu (br_t rfl (no (fun z => q2 z.2.1.2)))
      · exact gy_isOf0 hr q1 ht (br_t rfl (no (fun z => q1 z.2.1.1)))
theorem gy_chains_1 {c : Nat → Int32} {post : Int32 → Prop} {t u l : Nat} (hA : GA c w) (ht : t ≤ 4) (hu : u ≤ 4)
    (hp : post (sm (fun r => sm (fun s => tv (Pq w t u (nI l) r s)) 24) 24)) : ∀ d r, r + d = 24 → wY_chains_32 post (nI t) (nI u) (nI l) yo w cp fa (d + 1) (sm (fun r => sm (fun s => tv (Pq w t u (nI l) r s)) 24) r) (nI r) := by
  intro d
  induction d with
  | zero =>
    intro r hr
    have : r = 24 := by omega
    subst this
    exact br_t (nI_le (a := 24) (b := 24) (by omega) (by omega)) hp
  | succ d ih =>
    intro r hr
    refine br_f (nI_ge (b := 24) (by omega) (by decide)) ⟨25, ?_⟩
    have hn := ih (r + 1) (by omega)
    have := gy_chains_2 (yo := yo) (w := w) (cp := cp) (fa := fa) (post := post) (J := wY_chains_32 post (nI t) (nI u) (nI l) yo w cp fa (d + 1)) (s0 := sm (fun r => sm (fun s => tv (Pq w t u (nI l) r s)) 24) r) hA ht hu (by omega : r < 24) hn 24 0 rfl
    simp only [sm] at this
    rw [sr_7] at this
    exact this
end
theorem i_vc_chains {k : Nat} {u : SX} {v : SY} (I : i_Rel k u v) (hk : k + 4 ≤ 2048) (v1 : Int32) (v2 : Int32) (v3 : Int32) : wpX_chains (fun r => wpY_chains (fun r' => r' = r ∧ i_Rel (k + 4) u v) v v1 v2 v3) u v1 v2 v3 := by
  obtain ⟨fo, fp, fc, fg, fw, ce, kc, ko, ik, kn, re, dn, qu, et, lo, ab, na, pi⟩ := u
  obtain ⟨yo, w, cp, fa⟩ := v
  obtain ⟨o, sn, ho, rfl, rfl, hj, hg, hs⟩ := I
  have I : i_Rel (k + 4) (nI o, fp, fc, fg, fw, ce, kc, ko, ik, kn, re, dn, qu, et, lo, ab, na, pi) (nI o, w, cp, fa) := gr_mk ho hj hg hs
  unfold wpX_chains
  rcases le_or v1 4 with ⟨t, ht, rfl⟩ | h1
  · refine gx_ty1 ht (br_f gx_10 ?_)
    rcases le_or v2 4 with ⟨u, hu, rfl⟩ | h2
    · refine gx_ty1 hu (br_f gx_10 ?_)
      rcases le_or v3 7 with ⟨l, hl, rfl⟩ | h3
      · refine rg_1 (N := 7) hl (by omega) ⟨13, ?_⟩
        refine gx_chains_l hg.1 hg.2.1 hg.2.2.2.2.2.1 ht hu (F := fun b => tv (w b = 1 ∧ Lq w (nI l) b) * (nI (cn (fun a => okA w t a ∧ w (84 + a) = nI b) 24) * nI (cn (fun a => okA w u a ∧ w (60 + a) = nI b) 24) - nI (cn (fun a => (okA w t a ∧ w (84 + a) = nI b) ∧ (okA w u a ∧ w (60 + a) = nI b)) 24))) (fun _ => rfl) ?_ 12 0 rfl
        rw [ch_sum hg.2.1]
        unfold wpY_chains
        exact gy_ty1 ht (br_t rfl (gy_ty1 hu (br_t rfl (gy_lb1 hl (br_t rfl ⟨25, gy_chains_1 hg.2.1 ht hu ⟨rfl, I⟩ 24 0 rfl⟩)))))
      · refine rg_0 (N := 7) (by omega) h3 ?_
        unfold wpY_chains
        exact gy_ty1 ht (br_t rfl (gy_ty1 hu (br_t rfl (gy_lb0 h3 (br_f gx_10 ⟨rfl, I⟩)))))
    · refine gx_ty0 h2 (br_t rfl ?_)
      unfold wpY_chains
      exact gy_ty1 ht (br_t rfl (gy_ty0 h2 (br_f gx_10 ⟨rfl, I⟩)))
  · refine gx_ty0 h1 (br_t rfl ?_)
    unfold wpY_chains
    exact gy_ty0 h1 (br_f gx_10 ⟨rfl, I⟩)
end
section
/-! transactions -/
theorem nK_le (ik : Nat → Int32) (t : Nat) : nK ik t ≤ 340 := cn_le _ _
theorem LV_of {kc ko ik kn c : Nat → Int32} {t : Nat} (h : LE ik kn t) : LV kc ko ik kn t c c := by
  have e : nK ik t = 0 := cn_no fun k hk z => by
    have z' : ik (340 * t + k) = 1 := z
    rw [h.2 k hk] at z'; exact absurd z' (by decide)
  refine ⟨by rw [e, h.1]; rfl, ?_, fun i hi => Or.inl ⟨h.2 i hi, rfl⟩, fun _ _ => rfl⟩
  rw [e]; intro k hk; omega
section
variable {fo fp fc fg fw : Int32} {ce kc ko ik kn re dn qu et lo ab na pi : Nat → Int32} {o t : Nat} {sn : Nat → Nat → Int32}
theorem gx_fgt_l {post : SX → Prop} {old new ik0 kn0 : Nat → Int32} (ht : t < 4) (h : LV kc ko ik0 kn0 t old new) (hkn : kn = kn0)
    (K : ∀ (ik' kn' : Nat → Int32), LE ik' kn' t → (∀ t', t' ≠ t → LA t' kc ko ik0 kn0 kc ko ik' kn') → post (fo, fp, fc, fg, fw, ce, kc, ko, ik', kn', re, dn, qu, et, lo, ab, na, pi)) :
    ∀ (d k : Nat) (ik : Nat → Int32), k + d = nK ik0 t → (∀ i, i < 340 → ik (340 * t + i) = 0 ∨ ∃ k', k ≤ k' ∧ k' < nK ik0 t ∧ kc (340 * t + k') = nI i) → (∀ t', t' ≠ t → ∀ i, i < 340 → ik (340 * t' + i) = ik0 (340 * t' + i)) → wX_forget_2 post (nI t) fo fp fc fg fw (d + 1) (nI k) ce kc ko ik kn re dn qu et lo ab na pi := by
  subst hkn
  obtain ⟨h1, h2, h3, h4⟩ := h
  have hle := nK_le ik0 t
  have hin : vp_in (nI t) 4 := vp_in_nI ht (by omega)
  have hct : (nI t).toNatClampNeg = t := nI_clamp (by omega)
  intro d
  induction d with
  | zero =>
    intro k ik hk hi ho'
    refine ⟨hin, br_t (by rw [hct, h1]; exact nI_le (by omega) (by omega)) ⟨hin, nm_e ?_⟩⟩
    rw [hct]
    refine K _ _ ⟨pk_us, fun i hi' => ?_⟩ (fun t' ht' => ⟨pk_un ht', fun i hi' => ⟨rfl, rfl, ho' t' ht' i hi'⟩⟩)
    rcases hi i hi' with z | ⟨k', z1, z2, _⟩
    · exact z
    · omega
  | succ d ih =>
    intro k ik hk hi ho'
    obtain ⟨i, q1, q2, q3, q4⟩ := h2 k (by omega)
    have e1 : kc (340 * nI t + nI k).toNatClampNeg = nI i := (gx_c (n := 340 * t + k) (by first | rfl | exact congrArg nI (by omega) | (simp only [nI_add, pk_mul, ir_0, ir_1, ir_2, ir_3, ir_4, ir_5, ir_6, ir_7, ir_8, ir_9, ir_13, il_4, il_12, il_16, il_24, il_36, il_60, il_84, il_100, il_108, il_132, il_340, im_5, im_7, im_10, im_11, im_3, im_24, im_156, im_340]; first | done | exact congrArg nI (by omega))) (by omega)).trans q2
    refine ⟨hin, br_f (by rw [hct, h1]; exact nI_ge (by omega) (by omega)) ⟨pk_in (340 * t + k) 1360 (by omega) (by first | rfl | exact congrArg nI (by omega) | (simp only [nI_add, pk_mul, ir_0, ir_1, ir_2, ir_3, ir_4, ir_5, ir_6, ir_7, ir_8, ir_9, ir_13, il_4, il_12, il_16, il_24, il_36, il_60, il_84, il_100, il_108, il_132, il_340, im_5, im_7, im_10, im_11, im_3, im_24, im_156, im_340]; first | done | exact congrArg nI (by omega))), ?_⟩⟩
    rw [e1]
    have e2 : (340 : Int32) * nI t + nI i = nI (340 * t + i) := (by first | rfl | exact congrArg nI (by omega) | (simp only [nI_add, pk_mul, ir_0, ir_1, ir_2, ir_3, ir_4, ir_5, ir_6, ir_7, ir_8, ir_9, ir_13, il_4, il_12, il_16, il_24, il_36, il_60, il_84, il_100, il_108, il_132, il_340, im_5, im_7, im_10, im_11, im_3, im_24, im_156, im_340]; first | done | exact congrArg nI (by omega)))
    rw [e2]
    refine ⟨vp_in_nI (by omega) (by omega), nm_e (nm_r (nI_1 k) ?_)⟩
    rw [gj_b0, nI_clamp (by omega)]
    refine ih (k + 1) _ (by omega) (fun j hj => ?_) (fun t' ht' j hj => ?_)
    · by_cases e : j = i
      · left; rw [e]; exact pk_us
      · rw [pk_un (by omega)]
        rcases hi j hj with z | ⟨k', z1, z2, z3⟩
        · exact Or.inl z
        · refine Or.inr ⟨k', ?_, z2, z3⟩
          by_cases e2 : k' = k
          · subst e2
            exact absurd ((nI_eq (by omega) (by omega)).mp (z3.symm.trans q2)) e
          · omega
    · rw [pk_un (by omega)]; exact ho' t' ht' j hj
theorem gx_fgt {post : SX → Prop} {old new : Nat → Int32} (ht : t < 4) (h : LV kc ko ik kn t old new)
    (K : ∀ (ik' kn' : Nat → Int32), LE ik' kn' t → (∀ t', t' ≠ t → LA t' kc ko ik kn kc ko ik' kn') → post (fo, fp, fc, fg, fw, ce, kc, ko, ik', kn', re, dn, qu, et, lo, ab, na, pi)) : wpX_forget post (fo, fp, fc, fg, fw, ce, kc, ko, ik, kn, re, dn, qu, et, lo, ab, na, pi) (nI t) := by
  refine ⟨nK ik t + 1, gx_fgt_l ht h rfl K (nK ik t) 0 ik (by omega) (fun i hi => ?_) (fun _ _ _ _ => rfl)⟩
  rcases h.2.2.1 i hi with z | ⟨_, k, z2, z3⟩
  · exact Or.inl z.1
  · exact Or.inr ⟨k, by omega, z2, z3⟩
/-- the journal with its innermost level gone -/
theorem JR_pop {kc' ko' ik' kn' c c' : Nat → Int32} (hj : JR (t + 1) sn kc ko ik kn c) (hE : LE ik' kn' t) (hA : ∀ t', t' ≠ t → LA t' kc ko ik kn kc' ko' ik' kn') (hc : 0 < t → c' = sn t) : JR t sn kc' ko' ik' kn' c' := by
  refine ⟨fun t' ht' => ?_, fun t' h1 h2 => ?_⟩
  · have h := LV_cg (hA t' (by omega)) (hj.1 t' (by omega))
    have e : lvN (t + 1) sn c t' = lvN t sn c' t' := by
      unfold lvN
      rw [if_neg (by omega)]
      by_cases z : t' + 1 = t
      · rw [if_pos z, hc (by omega), z]
      · rw [if_neg z]
    rw [← e]; exact h
  · by_cases z : t' = t
    · rw [z]; exact hE
    · exact LE_cg (hA t' z) (hj.2 t' (by omega) h2)
theorem gx_undo_l {post : Int32 → SX → Prop} {c0 : Nat → Int32} (ht : t < 4) (hj : JR (t + 1) sn kc ko ik kn c0)
    (K : ∀ (ik' kn' : Nat → Int32), JR t sn kc ko ik' kn' (sn t) → post (nI t) (nI t, fp, fc, fg, fw, sn t, kc, ko, ik', kn', re, dn, qu, et, lo, ab, na, pi)) :
    ∀ (d k : Nat) (ce : Nat → Int32), k + d = nK ik t → (∀ i, ce i = sn t i ∨ ∃ k', k ≤ k' ∧ k' < nK ik t ∧ kc (340 * t + k') = nI i ∧ i < 340) → wX_undo_23 post (nI t) (nI (t + 1)) fp fc fg fw (d + 1) (nI (340 * t + k)) ce kc ko ik kn re dn qu et lo ab na pi := by
  have hl := hj.1 t (by omega)
  obtain ⟨h1, h2, h3, h4⟩ := id hl
  have hle := nK_le ik t
  have hin : vp_in (nI t) 4 := vp_in_nI ht (by omega)
  have hct : (nI t).toNatClampNeg = t := nI_clamp (by omega)
  have e0 : (340 : Int32) * nI t + kn (nI t).toNatClampNeg = nI (340 * t + nK ik t) := by rw [hct, h1]; exact (by first | rfl | exact congrArg nI (by omega) | (simp only [nI_add, pk_mul, ir_0, ir_1, ir_2, ir_3, ir_4, ir_5, ir_6, ir_7, ir_8, ir_9, ir_13, il_4, il_12, il_16, il_24, il_36, il_60, il_84, il_100, il_108, il_132, il_340, im_5, im_7, im_10, im_11, im_3, im_24, im_156, im_340]; first | done | exact congrArg nI (by omega)))
  intro d
  induction d with
  | zero =>
    intro k ce hk hi
    refine ⟨hin, br_t (by rw [e0]; exact nI_le (by omega) (by omega)) ?_⟩
    have ec : ce = sn t := by
      funext i
      rcases hi i with z | ⟨k', z1, z2, _⟩
      · exact z
      · omega
    subst ec
    refine gx_fgt ht hl ?_
    intro ik' kn' hE hA
    refine nm_r (nI_pred t) ?_
    exact K ik' kn' (JR_pop hj hE hA (fun _ => rfl))
  | succ d ih =>
    intro k ce hk hi
    obtain ⟨i, q1, q2, q3, q4⟩ := h2 k (by omega)
    have hcl : (nI (340 * t + k)).toNatClampNeg = 340 * t + k := nI_clamp (by omega)
    have hik : vp_in (nI (340 * t + k)) 1360 := vp_in_nI (by omega) (by omega)
    refine ⟨hin, br_f (by rw [e0]; exact nI_ge (by omega) (by omega)) ⟨hik, hik, ?_⟩⟩
    rw [hcl, q2, q4]
    refine ⟨vp_in_nI q1 (by omega), nm_e (nm_r (nI_1 (340 * t + k)) ?_)⟩
    rw [nI_clamp (by omega)]
    refine ih (k + 1) _ (by omega) (fun j => ?_)
    by_cases e : j = i
    · left; rw [e]; exact pk_us
    · rw [pk_un e]
      rcases hi j with z | ⟨k', z1, z2, z3, z4⟩
      · exact Or.inl z
      · refine Or.inr ⟨k', ?_, z2, z3, z4⟩
        by_cases e2 : k' = k
        · subst e2
          exact absurd ((nI_eq (by omega) (by omega)).mp (z3.symm.trans q2)) e
        · omega
theorem gx_undo {post : Int32 → SX → Prop} (ht : t < 4) (hj : JR (t + 1) sn kc ko ik kn ce)
    (K : ∀ (ik' kn' : Nat → Int32), JR t sn kc ko ik' kn' (sn t) → post (nI t) (nI t, fp, fc, fg, fw, sn t, kc, ko, ik', kn', re, dn, qu, et, lo, ab, na, pi)) : wpX_undo post (nI (t + 1), fp, fc, fg, fw, ce, kc, ko, ik, kn, re, dn, qu, et, lo, ab, na, pi) := by
  refine br_f (nI_ne0 (by omega) (by omega)) (nm_r (nI_pred t) (nm_r (e' := nI (340 * t + 0)) (by first | rfl | exact congrArg nI (by omega) | (simp only [nI_add, pk_mul, ir_0, ir_1, ir_2, ir_3, ir_4, ir_5, ir_6, ir_7, ir_8, ir_9, ir_13, il_4, il_12, il_16, il_24, il_36, il_60, il_84, il_100, il_108, il_132, il_340, im_5, im_7, im_10, im_11, im_3, im_24, im_156, im_340]; first | done | exact congrArg nI (by omega))) ⟨nK ik t + 1, ?_⟩))
  refine gx_undo_l ht hj K (nK ik t) 0 ce (by omega) (fun i => ?_)
  obtain ⟨h1, h2, h3, h4⟩ := hj.1 t (by omega)
  have hN : lvN (t + 1) sn ce t = ce := if_pos rfl
  rw [hN] at h3 h4
  rcases Nat.lt_or_ge i 340 with z | z
  · rcases h3 i z with y | ⟨_, k, y1, y2⟩
    · exact Or.inl y.2.symm
    · exact Or.inr ⟨k, by omega, y1, y2, z⟩
  · exact Or.inl (h4 i z).symm
theorem gx_crash_l {post : Int32 → SX → Prop} {x : Int32} : ∀ (o : Nat) (ce ik kn : Nat → Int32), o ≤ 4 → JR o sn kc ko ik kn ce →
    (∀ (ik' kn' : Nat → Int32), JR 0 sn kc ko ik' kn' (if o = 0 then ce else sn 0) → post x (nI 0, fp, fc, fg, fw, if o = 0 then ce else sn 0, kc, ko, ik', kn', re, dn, qu, et, lo, ab, na, pi)) → wX_crash_5 post x (o + 1) (nI o) fp fc fg fw ce kc ko ik kn re dn qu et lo ab na pi := by
  intro o
  induction o with
  | zero => intro ce ik kn ho hj K; exact br_t (by decide) (K ik kn hj)
  | succ t ih =>
    intro ce ik kn ho hj K
    refine br_f (nI_nle (by omega) (by omega)) (gx_undo (by omega) hj ?_)
    intro ik' kn' hj'
    refine ih (sn t) ik' kn' (by omega) hj' ?_
    intro ik2 kn2 hj2
    have e : (if t = 0 then sn t else sn 0) = (if t + 1 = 0 then ce else sn 0) := by
      rw [if_neg (show ¬ t + 1 = 0 by omega)]
      by_cases z : t = 0
      · rw [if_pos z, z]
      · rw [if_neg z]
    rw [e] at hj2 ⊢
    exact K ik2 kn2 hj2
/-- the end of ending -/
theorem gx_end68 {post : Int32 → SX → Prop} {old new : Nat → Int32} (ht : t < 4) (h : LV kc ko ik kn t old new)
    (K : ∀ (ik' kn' : Nat → Int32), LE ik' kn' t → (∀ t', t' ≠ t → LA t' kc ko ik kn kc ko ik' kn') → post (nI t) (nI t, fp, fc, fg, fw, ce, kc, ko, ik', kn', re, dn, qu, et, lo, ab, na, pi)) : wX_end_68 post (nI t) (nI (t + 1)) fp fc fg fw ce kc ko ik kn re dn qu et lo ab na pi := by
  unfold wX_end_68
  refine gx_fgt ht h ?_
  intro ik' kn' hE hA
  exact nm_r (nI_pred t) (K ik' kn' hE hA)
theorem gx_end_l {post : Int32 → SX → Prop} {kc0 ko0 ik0 kn0 : Nat → Int32} (ht : t + 1 < 4) (hj : JR (t + 1 + 1) sn kc0 ko0 ik0 kn0 ce)
    (K : ∀ (kc' ko' ik' kn' : Nat → Int32), JR (t + 1) sn kc' ko' ik' kn' ce → post (nI (t + 1)) (nI (t + 1), fp, fc, fg, fw, ce, kc', ko', ik', kn', re, dn, qu, et, lo, ab, na, pi)) :
    ∀ (d k : Nat) (kc ko ik kn : Nat → Int32), k + d = nK ik0 (t + 1) → LV kc ko ik kn t (sn t) (sn (t + 1)) → (∀ t', t' ≠ t → LA t' kc0 ko0 ik0 kn0 kc ko ik kn) → (∀ k', k' < k → ∀ i, i < 340 → kc0 (340 * (t + 1) + k') = nI i → ik (340 * t + i) = 1) → wX_end_23 post (nI (t + 1)) (d + 1) (nI (340 * (t + 1) + k)) (nI (t + 1 + 1)) fp fc fg fw ce kc ko ik kn re dn qu et lo ab na pi := by
  have hl := hj.1 (t + 1) (by omega)
  have hN : lvN (t + 1 + 1) sn ce (t + 1) = ce := if_pos rfl
  rw [hN] at hl
  obtain ⟨h1, h2, h3, h4⟩ := id hl
  have hle := nK_le ik0 (t + 1)
  have hin : vp_in (nI (t + 1)) 4 := vp_in_nI ht (by omega)
  have hct : (nI (t + 1)).toNatClampNeg = t + 1 := nI_clamp (by omega)
  intro d
  induction d with
  | zero =>
    intro k kc ko ik kn hk hv hA hp
    have hAt := hA (t + 1) (by omega)
    have hlt := LV_cg hAt hl
    have e0 : (340 : Int32) * nI (t + 1) + kn (nI (t + 1)).toNatClampNeg = nI (340 * (t + 1) + nK ik0 (t + 1)) := by rw [hct, hAt.1, h1]; exact (by first | rfl | exact congrArg nI (by omega) | (simp only [nI_add, pk_mul, ir_0, ir_1, ir_2, ir_3, ir_4, ir_5, ir_6, ir_7, ir_8, ir_9, ir_13, il_4, il_12, il_16, il_24, il_36, il_60, il_84, il_100, il_108, il_132, il_340, im_5, im_7, im_10, im_11, im_3, im_24, im_156, im_340]; first | done | exact congrArg nI (by omega)))
    refine ⟨hin, br_t (by rw [e0]; exact nI_le (by omega) (by omega)) (gx_end68 ht hlt ?_)⟩
    intro ik' kn' hE hA'
    refine K kc ko ik' kn' ⟨fun t' ht' => ?_, fun t' q1 q2 => ?_⟩
    · by_cases z : t' = t
      · subst z
        have eN : lvN (t' + 1) sn ce t' = ce := if_pos rfl
        rw [eN]
        refine LV_cg (hA' t' (by omega)) ⟨hv.1, hv.2.1, fun i hi => ?_, fun i hi => (hv.2.2.2 i hi).trans (h4 i hi)⟩
        rcases hv.2.2.1 i hi with ⟨y1, y2⟩ | y
        · rcases h3 i hi with ⟨_, x2⟩ | ⟨_, k', x2, x3⟩
          · exact Or.inl ⟨y1, y2.trans x2⟩
          · have := hp k' (by omega) i hi x3
            rw [y1] at this; exact absurd this (by decide)
        · exact Or.inr y
      · have h := LV_cg (hA' t' (by omega)) (LV_cg (hA t' z) (hj.1 t' (by omega)))
        have e : lvN (t + 1 + 1) sn ce t' = lvN (t + 1) sn ce t' := by
          unfold lvN; rw [if_neg (by omega), if_neg (by omega)]
        rw [← e]; exact h
    · by_cases z : t' = t + 1
      · rw [z]; exact hE
      · exact LE_cg (hA' t' z) (LE_cg (hA t' (by omega)) (hj.2 t' (by omega) q2))
  | succ d ih =>
    intro k kc ko ik kn hk hv hA hp
    have hAt := hA (t + 1) (by omega)
    have e0 : (340 : Int32) * nI (t + 1) + kn (nI (t + 1)).toNatClampNeg = nI (340 * (t + 1) + nK ik0 (t + 1)) := by rw [hct, hAt.1, h1]; exact (by first | rfl | exact congrArg nI (by omega) | (simp only [nI_add, pk_mul, ir_0, ir_1, ir_2, ir_3, ir_4, ir_5, ir_6, ir_7, ir_8, ir_9, ir_13, il_4, il_12, il_16, il_24, il_36, il_60, il_84, il_100, il_108, il_132, il_340, im_5, im_7, im_10, im_11, im_3, im_24, im_156, im_340]; first | done | exact congrArg nI (by omega)))
    obtain ⟨i, q1, q2, q3, q4⟩ := h2 k (by omega)
    have hcl : (nI (340 * (t + 1) + k)).toNatClampNeg = 340 * (t + 1) + k := nI_clamp (by omega)
    have hik : vp_in (nI (340 * (t + 1) + k)) 1360 := vp_in_nI (by omega) (by omega)
    have hkk := hAt.2 k (by omega)
    refine ⟨hin, br_f (by rw [e0]; exact nI_ge (by omega) (by omega)) (br_f (nI_nle (by omega) (by omega)) ⟨hik, hik, ?_⟩)⟩
    refine gj_keep (t := t) (i := i) (old := sn t) (N := sn (t + 1)) (by omega) q1 (nI_pred t) (by rw [hcl, hkk.1]; exact q2) (by rw [hcl, hkk.2.1]; exact q4) hv ?_
    intro kc' ko' ik' kn' k1 k2 k3 k4
    refine nm_r (nI_1 (340 * (t + 1) + k)) ?_
    refine ih (k + 1) kc' ko' ik' kn' (by omega) k1 (fun t' ht' => ?_) (fun k' hk' j hj' ej => ?_)
    · have a := hA t' ht'
      have b := k3 t' ht'
      exact ⟨b.1.trans a.1, fun x hx => ⟨(b.2 x hx).1.trans (a.2 x hx).1, (b.2 x hx).2.1.trans (a.2 x hx).2.1, (b.2 x hx).2.2.trans (a.2 x hx).2.2⟩⟩
    · by_cases e : k' = k
      · subst e
        have : i = j := (nI_eq (by omega) (by omega)).mp (q2.symm.trans ej)
        rw [← this]; exact k2
      · exact k4 _ (hp k' (by omega) j hj' ej)
theorem gx_end {post : Int32 → SX → Prop} (ht : t < 4) (hj : JR (t + 1) sn kc ko ik kn ce)
    (K : ∀ (kc' ko' ik' kn' : Nat → Int32), JR t sn kc' ko' ik' kn' ce → post (nI t) (nI t, fp, fc, fg, fw, ce, kc', ko', ik', kn', re, dn, qu, et, lo, ab, na, pi)) : wpX_end post (nI (t + 1), fp, fc, fg, fw, ce, kc, ko, ik, kn, re, dn, qu, et, lo, ab, na, pi) := by
  refine br_f (nI_ne0 (by omega) (by omega)) (nm_r (nI_pred t) (nm_r (e' := nI (340 * t + 0)) (by first | rfl | exact congrArg nI (by omega) | (simp only [nI_add, pk_mul, ir_0, ir_1, ir_2, ir_3, ir_4, ir_5, ir_6, ir_7, ir_8, ir_9, ir_13, il_4, il_12, il_16, il_24, il_36, il_60, il_84, il_100, il_108, il_132, il_340, im_5, im_7, im_10, im_11, im_3, im_24, im_156, im_340]; first | done | exact congrArg nI (by omega))) ?_))
  cases t with
  | zero =>
    refine ⟨1, vp_in_nI (by omega) (by omega), ?_⟩
    have h68 : wX_end_68 post (nI 0) (nI (0 + 1)) fp fc fg fw ce kc ko ik kn re dn qu et lo ab na pi := gx_end68 (by omega) (hj.1 0 (by omega)) (fun ik' kn' hE hA => K kc ko ik' kn' (JR_pop hj hE hA (fun z => by omega)))
    exact br_c (fun _ => h68) (fun _ => br_t (by decide) h68)
  | succ t =>
    refine ⟨nK ik (t + 1) + 1, ?_⟩
    have hv := hj.1 t (by omega)
    have e : lvN (t + 1 + 1) sn ce t = sn (t + 1) := if_neg (by omega)
    rw [e] at hv
    exact gx_end_l ht hj K (nK ik (t + 1)) 0 kc ko ik kn (by omega) hv (fun _ _ => ⟨rfl, fun _ _ => ⟨rfl, rfl, rfl⟩⟩) (fun k' hk' => by omega)
end
section
variable {yo : Int32} {w cp fa : Nat → Int32} {t : Nat}
theorem gy_begin_l {post : Int32 → SY → Prop} (ht : t < 4) (K : ∀ cp', (∀ i, i < 156 → cp' (156 * t + i) = w i) → (∀ i, i < 156 * t → cp' i = cp i) → post (nI (t + 1)) (nI (t + 1), w, cp', fa)) :
    ∀ (d k : Nat) (cp' : Nat → Int32), k + d = 156 → (∀ i, i < k → cp' (156 * t + i) = w i) → (∀ i, i < 156 * t → cp' i = cp i) → wY_begin_13 post (nI t) (d + 1) (nI k) w cp' fa := by
  intro d
  induction d with
  | zero =>
    intro k cp' hk h1 h2
    have : k = 156 := by omega
    subst this
    exact br_t (nI_le (a := 156) (b := 156) (by omega) (by omega)) (nm_r (nI_1 t) (K cp' h1 h2))
  | succ d ih =>
    intro k cp' hk h1 h2
    have e1 : (156 : Int32) * nI t + nI k = nI (156 * t + k) := (by first | rfl | exact congrArg nI (by omega) | (simp only [nI_add, pk_mul, ir_0, ir_1, ir_2, ir_3, ir_4, ir_5, ir_6, ir_7, ir_8, ir_9, ir_13, il_4, il_12, il_16, il_24, il_36, il_60, il_84, il_100, il_108, il_132, il_340, im_5, im_7, im_10, im_11, im_3, im_24, im_156, im_340]; first | done | exact congrArg nI (by omega)))
    refine br_f (nI_ge (b := 156) (by omega) (by decide)) ⟨vp_in_nI (by omega) (by omega), ?_⟩
    rw [e1, nI_clamp (show k < 2 ^ 31 by omega), nI_clamp (show 156 * t + k < 2 ^ 31 by omega)]
    refine ⟨vp_in_nI (by omega) (by omega), nm_e (nm_r (nI_1 k) (ih (k + 1) _ (by omega) (fun i hi => ?_) (fun i hi => ?_)))⟩
    · by_cases e : i = k
      · rw [e]; exact pk_us
      · rw [pk_un (by omega)]; exact h1 i (by omega)
    · rw [pk_un (by omega)]; exact h2 i hi
theorem gy_back_l {post : SY → Prop} (ht : t < 4) (K : ∀ w', (∀ i, i < 156 → w' i = cp (156 * t + i)) → post (yo, w', cp, fa)) :
    ∀ (d k : Nat) (w' : Nat → Int32), k + d = 156 → (∀ i, i < k → w' i = cp (156 * t + i)) → wY_goBack_2 post (nI t) yo (d + 1) (nI k) w' cp fa := by
  intro d
  induction d with
  | zero =>
    intro k w' hk h1
    have : k = 156 := by omega
    subst this
    exact br_t (nI_le (a := 156) (b := 156) (by omega) (by omega)) (K w' h1)
  | succ d ih =>
    intro k w' hk h1
    have e1 : (156 : Int32) * nI t + nI k = nI (156 * t + k) := (by first | rfl | exact congrArg nI (by omega) | (simp only [nI_add, pk_mul, ir_0, ir_1, ir_2, ir_3, ir_4, ir_5, ir_6, ir_7, ir_8, ir_9, ir_13, il_4, il_12, il_16, il_24, il_36, il_60, il_84, il_100, il_108, il_132, il_340, im_5, im_7, im_10, im_11, im_3, im_24, im_156, im_340]; first | done | exact congrArg nI (by omega)))
    refine br_f (nI_ge (b := 156) (by omega) (by decide)) ?_
    rw [e1, nI_clamp (show k < 2 ^ 31 by omega), nI_clamp (show 156 * t + k < 2 ^ 31 by omega)]
    refine ⟨vp_in_nI (by omega) (by omega), vp_in_nI (by omega) (by omega), nm_e (nm_r (nI_1 k) (ih (k + 1) _ (by omega) (fun i hi => ?_)))⟩
    by_cases e : i = k
    · rw [e]; exact pk_us
    · rw [pk_un (by omega)]; exact h1 i (by omega)
theorem gy_back {post : SY → Prop} (ht : t < 4) (K : ∀ w', (∀ i, i < 156 → w' i = cp (156 * t + i)) → post (yo, w', cp, fa)) : wpY_goBack post (yo, w, cp, fa) (nI t) :=
  ⟨157, gy_back_l ht K 156 0 w (by omega) (fun i hi => by omega)⟩
end
theorem i_vc_begin {k : Nat} {u : SX} {v : SY} (I : i_Rel k u v) (hk : k + 4 ≤ 2048) : wpX_begin (fun r u' => wpY_begin (fun r' v' => r' = r ∧ i_Rel (k + 4) u' v') v) u := by
  obtain ⟨fo, fp, fc, fg, fw, ce, kc, ko, ik, kn, re, dn, qu, et, lo, ab, na, pi⟩ := u
  obtain ⟨yo, w, cp, fa⟩ := v
  obtain ⟨o, sn, ho, rfl, rfl, hj, hg, hs⟩ := I
  have I : i_Rel (k + 4) (nI o, fp, fc, fg, fw, ce, kc, ko, ik, kn, re, dn, qu, et, lo, ab, na, pi) (nI o, w, cp, fa) := gr_mk ho hj hg hs
  by_cases z : o < 4
  · refine br_t (nI_lt (b := 4) z (by decide)) (nm_r (nI_1 o) (br_f (fun e => by have := (nI_eq (b := 4) (by omega) (by decide)).mp e; omega) ⟨157, ?_⟩))
    refine gy_begin_l (cp := cp) z (fun cp' h1 h2 => ⟨rfl, ?_⟩) 156 0 cp (by omega) (fun i hi => by omega) (fun _ _ => rfl)
    refine gr_mk (sn := fun t => if t = o then ce else sn t) (by omega) ⟨fun t ht => ?_, fun t q1 q2 => hj.2 t (by omega) q2⟩ hg (fun t ht => ?_)
    · by_cases e : t = o
      · subst e
        have e1 : lvN (t + 1) (fun t' => if t' = t then ce else sn t') ce t = ce := if_pos rfl
        rw [e1]
        show LV kc ko ik kn t (if t = t then ce else sn t) ce
        rw [if_pos rfl]
        exact LV_of (hj.2 t (by omega) z)
      · have e1 : lvN (o + 1) (fun t' => if t' = o then ce else sn t') ce t = lvN o sn ce t := by
          unfold lvN; rw [if_neg (by omega)]
        rw [e1]
        show LV kc ko ik kn t (if t = o then ce else sn t) _
        rw [if_neg e]
        exact hj.1 t (by omega)
    · by_cases e : t = o
      · subst e
        show GR (if t = t then ce else sn t) _
        rw [if_pos rfl]
        exact GR_w h1 hg
      · show GR (if t = o then ce else sn t) _
        rw [if_neg e]
        exact GR_w (fun i hi => h2 _ (by omega)) (hs t (by omega))
  · have e : o = 4 := by omega
    subst e
    exact br_f (nI_nlt (a := 4) (b := 4) (by omega) (by omega)) (br_t rfl ⟨rfl, I⟩)
theorem i_vc_end {k : Nat} {u : SX} {v : SY} (I : i_Rel k u v) (hk : k + 4 ≤ 2048) : wpX_end (fun r u' => wpY_end (fun r' v' => r' = r ∧ i_Rel (k + 4) u' v') v) u := by
  obtain ⟨fo, fp, fc, fg, fw, ce, kc, ko, ik, kn, re, dn, qu, et, lo, ab, na, pi⟩ := u
  obtain ⟨yo, w, cp, fa⟩ := v
  obtain ⟨o, sn, ho, rfl, rfl, hj, hg, hs⟩ := I
  have I : i_Rel (k + 4) (nI o, fp, fc, fg, fw, ce, kc, ko, ik, kn, re, dn, qu, et, lo, ab, na, pi) (nI o, w, cp, fa) := gr_mk ho hj hg hs
  cases o with
  | zero => exact br_t rfl (br_t rfl ⟨rfl, I⟩)
  | succ t =>
    refine gx_end (by omega) hj (fun kc' ko' ik' kn' hj' => ?_)
    exact br_f (nI_ne0 (by omega) (by omega)) (nm_r (nI_pred t) ⟨rfl, gr_mk (by omega) hj' hg (fun t' ht' => hs t' (by omega))⟩)
theorem i_vc_undo {k : Nat} {u : SX} {v : SY} (I : i_Rel k u v) (hk : k + 4 ≤ 2048) : wpX_undo (fun r u' => wpY_undo (fun r' v' => r' = r ∧ i_Rel (k + 4) u' v') v) u := by
  obtain ⟨fo, fp, fc, fg, fw, ce, kc, ko, ik, kn, re, dn, qu, et, lo, ab, na, pi⟩ := u
  obtain ⟨yo, w, cp, fa⟩ := v
  obtain ⟨o, sn, ho, rfl, rfl, hj, hg, hs⟩ := I
  have I : i_Rel (k + 4) (nI o, fp, fc, fg, fw, ce, kc, ko, ik, kn, re, dn, qu, et, lo, ab, na, pi) (nI o, w, cp, fa) := gr_mk ho hj hg hs
  cases o with
  | zero => exact br_t rfl (br_t rfl ⟨rfl, I⟩)
  | succ t =>
    refine gx_undo (by omega) hj (fun ik' kn' hj' => ?_)
    refine br_f (nI_ne0 (by omega) (by omega)) (nm_r (nI_pred t) (gy_back (by omega) (fun w' hw' => ⟨rfl, ?_⟩)))
    exact gr_mk (by omega) hj' (GR_w hw' (hs t (by omega))) (fun t' ht' => hs t' (by omega))
theorem i_vc_crash {k : Nat} {u : SX} {v : SY} (I : i_Rel k u v) (hk : k + 4 ≤ 2048) : wpX_crash (fun r u' => wpY_crash (fun r' v' => r' = r ∧ i_Rel (k + 4) u' v') v) u := by
  obtain ⟨fo, fp, fc, fg, fw, ce, kc, ko, ik, kn, re, dn, qu, et, lo, ab, na, pi⟩ := u
  obtain ⟨yo, w, cp, fa⟩ := v
  obtain ⟨o, sn, ho, rfl, rfl, hj, hg, hs⟩ := I
  have I : i_Rel (k + 4) (nI o, fp, fc, fg, fw, ce, kc, ko, ik, kn, re, dn, qu, et, lo, ab, na, pi) (nI o, w, cp, fa) := gr_mk ho hj hg hs
  refine ⟨o + 1, gx_crash_l o ce ik kn ho hj (fun ik' kn' hj' => ?_)⟩
  cases o with
  | zero => exact br_t (by decide) ⟨rfl, gr_mk (o := 0) (by omega) hj' hg (fun t' ht' => by omega)⟩
  | succ t =>
    rw [if_neg (by omega)] at hj' ⊢
    refine br_f (nI_nle (by omega) (by omega)) (gy_back (t := 0) (by omega) (fun w' hw' => ⟨rfl, ?_⟩))
    exact gr_mk (o := 0) (by omega) hj' (GR_w hw' (hs 0 (by omega))) (fun t' ht' => by omega)
end
section
/-! what a change leaves as it was -/
theorem GN_fr {c w c' w' : Nat → Int32} (hc : ∀ n, n < 12 → c' (16 + 7 * n) = c (16 + 7 * n) ∧ c' (17 + 7 * n) = c (17 + 7 * n) ∧ c' (18 + 7 * n) = c (18 + 7 * n)) (hw : ∀ i, i < 36 → w' i = w i) (h : GN c w) : GN c' w' := by
  intro n hn
  obtain ⟨e1, e2, e3⟩ := hc n hn
  rw [e1, e2, e3, hw n (by omega), hw (12 + n) (by omega), hw (24 + n) (by omega)]
  exact h n hn
theorem GP_fr' {w w' : Nat → Int32} {a : Nat} (hn : ∀ n, n < 12 → w n = 1 → w' n = 1) (h1 : w' (60 + a) = w (60 + a)) (h2 : w' (84 + a) = w (84 + a)) (h3 : w' (108 + a) = w (108 + a)) (h4 : w' (132 + a) = w (132 + a)) (h : GP w a) : GP w' a := by
  obtain ⟨⟨f, f1, f2, f3⟩, ⟨t, t1, t2, t3⟩, ⟨y, y1, y2⟩, ⟨g, g1, g2⟩⟩ := h
  exact ⟨⟨f, h1.trans f1, f2, hn f f2 f3⟩, ⟨t, h2.trans t1, t2, hn t t2 t3⟩, ⟨y, h3.trans y1, y2⟩, ⟨g, h4.trans g1, g2⟩⟩
/-- one arrow's row of the relation, as it was -/
theorem GA_1 {c w c' w' : Nat → Int32} {a : Nat} (ha : a < 24) (hn : ∀ n, n < 12 → w n = 1 → w' n = 1) (hc : ∀ j, j < 5 → c' (100 + 10 * a + j) = c (100 + 10 * a + j)) (hw : w' (36 + a) = w (36 + a) ∧ w' (60 + a) = w (60 + a) ∧ w' (84 + a) = w (84 + a) ∧ w' (108 + a) = w (108 + a) ∧ w' (132 + a) = w (132 + a)) (h : GA c w) :
    c' (100 + 10 * a) = w' (36 + a) ∧ (w' (36 + a) = 0 ∨ w' (36 + a) = 1) ∧ (w' (36 + a) = 1 → c' (101 + 10 * a) = w' (60 + a) ∧ c' (102 + 10 * a) = w' (84 + a) ∧ c' (103 + 10 * a) = w' (108 + a) ∧ c' (104 + 10 * a) = w' (132 + a) ∧ GP w' a) := by
  obtain ⟨w0, w1, w2, w3, w4⟩ := hw
  have e0 := hc 0 (by omega)
  have e1 := hc 1 (by omega)
  have e2 := hc 2 (by omega)
  have e3 := hc 3 (by omega)
  have e4 := hc 4 (by omega)
  rw [show 100 + 10 * a + 0 = 100 + 10 * a by omega] at e0
  rw [show 100 + 10 * a + 1 = 101 + 10 * a by omega] at e1
  rw [show 100 + 10 * a + 2 = 102 + 10 * a by omega] at e2
  rw [show 100 + 10 * a + 3 = 103 + 10 * a by omega] at e3
  rw [show 100 + 10 * a + 4 = 104 + 10 * a by omega] at e4
  obtain ⟨q1, q2, q3⟩ := h a ha
  rw [e0, e1, e2, e3, e4, w0]
  refine ⟨q1, q2, fun z => ?_⟩
  obtain ⟨p1, p2, p3, p4, p5⟩ := q3 z
  exact ⟨p1.trans w1.symm, p2.trans w2.symm, p3.trans w3.symm, p4.trans w4.symm, GP_fr' hn w1 w2 w3 w4 p5⟩
theorem GA_fr {c w c' w' : Nat → Int32} (hn : ∀ n, n < 12 → w n = 1 → w' n = 1) (hc : ∀ a j, a < 24 → j < 5 → c' (100 + 10 * a + j) = c (100 + 10 * a + j)) (hw : ∀ i, 36 ≤ i → i < 156 → w' i = w i) (h : GA c w) : GA c' w' :=
  fun a ha => GA_1 ha hn (fun j hj => hc a j ha hj) ⟨hw _ (by omega) (by omega), hw _ (by omega) (by omega), hw _ (by omega) (by omega), hw _ (by omega) (by omega), hw _ (by omega) (by omega)⟩ h
theorem GF_fr {c w c' w' : Nat → Int32} (h0 : c' 0 = c 0) (hc : ∀ n, n < 12 → c' (21 + 7 * n) = c (21 + 7 * n)) (hw : ∀ n, n < 12 → w' n = w n) (h : GF c w) : GF c' w' := by
  obtain ⟨l, l1, l2, l3⟩ := h
  refine ⟨l, ?_, l2, fun n => ?_⟩
  · rw [h0]; exact LkF_congr (fun n hn => hc n ((l3 n).mp hn).1) l1
  · rw [l3 n]
    constructor
    · rintro ⟨a, b⟩; exact ⟨a, by rw [hw n a]; exact b⟩
    · rintro ⟨a, b⟩; exact ⟨a, by rw [hw n a] at b; exact b⟩
theorem GE_fr {c w c' w' : Nat → Int32} (h0 : c' 1 = c 1) (hc : ∀ a, a < 24 → w (36 + a) ≠ 1 → c' (105 + 10 * a) = c (105 + 10 * a)) (hw : ∀ a, a < 24 → w' (36 + a) = w (36 + a)) (h : GE c w) : GE c' w' := by
  obtain ⟨l, l1, l2, l3⟩ := h
  refine ⟨l, ?_, l2, fun n => ?_⟩
  · rw [h0]; exact LkF_congr (fun n hn => hc n ((l3 n).mp hn).1 ((l3 n).mp hn).2) l1
  · rw [l3 n]
    constructor
    · rintro ⟨a, b⟩; exact ⟨a, by rw [hw n a]; exact b⟩
    · rintro ⟨a, b⟩; exact ⟨a, by rw [hw n a] at b; exact b⟩
theorem nN_fr {w w' : Nat → Int32} (hw : ∀ n, n < 12 → w' n = w n) : nN w' = nN w := cn_eq fun n hn => by rw [hw n hn]
theorem nA_fr {w w' : Nat → Int32} (hw : ∀ a, a < 24 → w' (36 + a) = w (36 + a)) : nA w' = nA w := cn_eq fun a ha => by rw [hw a ha]
theorem nD_fr {w w' : Nat → Int32} (hw : ∀ i, 36 ≤ i → i < 156 → w' i = w i) {s n : Nat} (hs : s < 2) : nD w' s n = nD w s n := cn_eq fun a ha => by rw [hw (36 + a) (by omega) (by omega), hw (60 + 24 * s + a) (by omega) (by omega)]
/-! the row, as a list of those that are in it -/
def RowOK (U : Nat → Prop) (val : Nat → Int32) (L : Nat) (R : Nat → Nat) : Prop := (∀ k, k < L → U (R k)) ∧ (∀ n, U n → ∃ k, k < L ∧ R k = n) ∧ ∀ i j, i < j → j < L → kl (val (R i)) (R i) (val (R j)) (R j)
def uN' (w : Nat → Int32) (n : Nat) : Prop := n < 12 ∧ w n = 1
theorem GW_row {c w : Nat → Int32} (h : GW c w) : ∃ R, RW c (nN w) R ∧ RowOK (uN' w) (fun n => w (24 + n)) (nN w) R := by
  obtain ⟨R, h1, h2, h3, h4⟩ := h
  exact ⟨R, h1, fun k hk => ⟨(h1.2.2 k hk).1, h2 k hk⟩, fun n hn => h3 n hn.1 hn.2, h4⟩
theorem row_GW {c w : Nat → Int32} {L : Nat} {R : Nat → Nat} (hL : nN w = L) (h1 : RW c L R) (h2 : RowOK (uN' w) (fun n => w (24 + n)) L R) : GW c w := by
  subst hL
  exact ⟨R, h1, fun k hk => (h2.1 k hk).2, fun n hn hw => h2.2.1 n ⟨hn, hw⟩, h2.2.2⟩
theorem Row_cg {U U' : Nat → Prop} {val val' : Nat → Int32} {L : Nat} {R : Nat → Nat} (hU : ∀ n, U' n ↔ U n) (hv : ∀ n, U n → val' n = val n) (h : RowOK U val L R) : RowOK U' val' L R := by
  refine ⟨fun k hk => (hU _).mpr (h.1 k hk), fun n hn => h.2.1 n ((hU n).mp hn), fun i j hij hj => ?_⟩
  rw [hv _ (h.1 i (by omega)), hv _ (h.1 j hj)]
  exact h.2.2 i j hij hj
theorem Row_ins {U : Nat → Prop} {val : Nat → Int32} {L n p : Nat} {R : Nat → Nat} {v : Int32} (h : RowOK U val L R) (hn : ¬ U n) (hp : p ≤ L) (hv : val n = v) (h1 : ∀ k, k < p → kl (val (R k)) (R k) v n) (h2 : ∀ k, p ≤ k → k < L → ¬ kl (val (R k)) (R k) v n) : RowOK (fun m => U m ∨ m = n) val (L + 1) (rIns p n R) := by
  have h3 : ∀ k, p ≤ k → k < L → kl v n (val (R k)) (R k) := by
    intro k hk hkL
    have hne : R k ≠ n := fun e => hn (e ▸ h.1 k hkL)
    exact (kl_tot hne).elim (fun z => absurd z (h2 k hk hkL)) id
  refine ⟨fun k hk => ?_, fun m hm => ?_, fun i j hij hj => ?_⟩
  · rcases Nat.lt_trichotomy k p with z | z | z
    · rw [rIns_lt z]; exact Or.inl (h.1 k (by omega))
    · subst z; rw [rIns_eq]; exact Or.inr rfl
    · rw [rIns_gt z]; exact Or.inl (h.1 (k - 1) (by omega))
  · rcases hm with hm | hm
    · obtain ⟨k, hk, e⟩ := h.2.1 m hm
      rcases Nat.lt_or_ge k p with z | z
      · exact ⟨k, by omega, by rw [rIns_lt z]; exact e⟩
      · exact ⟨k + 1, by omega, by rw [rIns_gt (by omega)]; exact e⟩
    · exact ⟨p, by omega, by rw [rIns_eq]; exact hm.symm⟩
  · rcases Nat.lt_trichotomy i p with z | z | z
    · rw [rIns_lt z]
      rcases Nat.lt_trichotomy j p with y | y | y
      · rw [rIns_lt y]; exact h.2.2 i j hij (by omega)
      · subst y; rw [rIns_eq, hv]; exact h1 i z
      · rw [rIns_gt y]; exact h.2.2 i (j - 1) (by omega) (by omega)
    · subst z
      rw [rIns_eq, rIns_gt hij, hv]; exact h3 (j - 1) (by omega) (by omega)
    · rw [rIns_gt z, rIns_gt (by omega)]; exact h.2.2 (i - 1) (j - 1) (by omega) (by omega)
theorem Row_del {U : Nat → Prop} {val : Nat → Int32} {L q : Nat} {R : Nat → Nat} (h : RowOK U val (L + 1) R) (hq : q ≤ L) : RowOK (fun m => U m ∧ m ≠ R q) val L (rDel q R) := by
  have hne : ∀ i j, i < L + 1 → j < L + 1 → R i = R j → i = j := by
    intro i j hi hj e
    rcases Nat.lt_trichotomy i j with z | z | z
    · have := h.2.2 i j z hj; rw [e] at this; exact absurd this kl_irr
    · exact z
    · have := h.2.2 j i z hi; rw [e] at this; exact absurd this kl_irr
  refine ⟨fun k hk => ?_, fun m hm => ?_, fun i j hij hj => ?_⟩
  · rcases Nat.lt_or_ge k q with z | z
    · rw [rDel_lt z]; exact ⟨h.1 k (by omega), fun e => by have := hne k q (by omega) (by omega) e; omega⟩
    · rw [rDel_ge z]; exact ⟨h.1 (k + 1) (by omega), fun e => by have := hne (k + 1) q (by omega) (by omega) e; omega⟩
  · obtain ⟨k, hk, e⟩ := h.2.1 m hm.1
    rcases Nat.lt_trichotomy k q with z | z | z
    · exact ⟨k, by omega, by rw [rDel_lt z]; exact e⟩
    · subst z; exact absurd e.symm hm.2
    · exact ⟨k - 1, by omega, by rw [rDel_ge (by omega), show k - 1 + 1 = k by omega]; exact e⟩
  · rcases Nat.lt_or_ge j q with y | y
    · rw [rDel_lt y, rDel_lt (by omega)]; exact h.2.2 i j hij (by omega)
    · rw [rDel_ge y]
      rcases Nat.lt_or_ge i q with z | z
      · rw [rDel_lt z]; exact h.2.2 i (j + 1) (by omega) (by omega)
      · rw [rDel_ge z]; exact h.2.2 (i + 1) (j + 1) (by omega) (by omega)
theorem GW_fr {c w c' w' : Nat → Int32} (h2 : c' 2 = c 2) (hc : ∀ k, k < 12 → c' (4 + k) = c (4 + k)) (hw : ∀ n, n < 12 → w' n = w n ∧ w' (24 + n) = w (24 + n)) (h : GW c w) : GW c' w' := by
  obtain ⟨R, r1, r2⟩ := GW_row h
  refine row_GW (nN_fr fun n hn => (hw n hn).1) ⟨h2.trans r1.1, r1.2.1, fun k hk => ?_⟩ (Row_cg (fun n => ?_) (fun n hn => (hw n hn.1).2) r2)
  · have := r1.2.1
    rw [hc k (by omega)]; exact r1.2.2 k hk
  · unfold uN'
    constructor
    · rintro ⟨a, b⟩; exact ⟨a, by rw [(hw n a).1] at b; exact b⟩
    · rintro ⟨a, b⟩; exact ⟨a, by rw [(hw n a).1]; exact b⟩
/-! all chains at once -/
def CC (c : Nat → Int32) (U : Nat → Prop) (M : Nat → Nat → Nat → Prop) : Prop := ∀ s n, s < 2 → U n → ∃ l, CH c s n l ∧ ∀ x, x ∈ l ↔ M s n x
def mM (w : Nat → Int32) (s n x : Nat) : Prop := x < 24 ∧ w (36 + x) = 1 ∧ w (60 + 24 * s + x) = nI n
theorem GC_CC {c w : Nat → Int32} (h : GC c w) : CC c (uN' w) (mM w) := fun s n hs hn => h s n hs hn.1 hn.2
theorem CC_GC {c w : Nat → Int32} {U : Nat → Prop} {M : Nat → Nat → Nat → Prop} (hU : ∀ n, uN' w n → U n) (hM : ∀ s n x, s < 2 → uN' w n → (mM w s n x ↔ M s n x)) (h : CC c U M) : GC c w := by
  intro s n hs hn hw
  obtain ⟨l, h1, h2⟩ := h s n hs (hU n ⟨hn, hw⟩)
  exact ⟨l, h1, fun x => (h2 x).trans (hM s n x hs ⟨hn, hw⟩).symm⟩
theorem CH_fr {c c' : Nat → Int32} {s n : Nat} {l : List Nat} (h0 : c' (19 + 7 * n + s) = c (19 + 7 * n + s)) (hx : ∀ x, x ∈ l → c' (105 + 10 * x + s) = c (105 + 10 * x + s) ∧ c' (107 + 10 * x + s) = c (107 + 10 * x + s)) (h : CH c s n l) : CH c' s n l :=
  ⟨by rw [h0]; exact DLk_congr hx h.1, h.2⟩
theorem CC_fr {c c' : Nat → Int32} {U : Nat → Prop} {M : Nat → Nat → Nat → Prop} (hU : ∀ n, U n → n < 12) (h0 : ∀ s n, s < 2 → U n → c' (19 + 7 * n + s) = c (19 + 7 * n + s)) (hx : ∀ s n x, s < 2 → U n → M s n x → c' (105 + 10 * x + s) = c (105 + 10 * x + s) ∧ c' (107 + 10 * x + s) = c (107 + 10 * x + s)) (h : CC c U M) : CC c' U M := by
  intro s n hs hn
  obtain ⟨l, h1, h2⟩ := h s n hs hn
  exact ⟨l, CH_fr (h0 s n hs hn) (fun x hxl => hx s n x hs hn ((h2 x).mp hxl)) h1, h2⟩
section
variable {fo fp fc fg fw : Int32} {ce kc ko ik kn re dn qu et lo ab na pi : Nat → Int32}
theorem gx_chainC {post : SX → Prop} {o : Nat} {sn : Nat → Nat → Int32} {a s f : Nat} {U : Nat → Prop} {M : Nat → Nat → Nat → Prop} {p1 : Int32} (ho : o ≤ 4) (hj : JR o sn kc ko ik kn ce) (ha : a < 24) (hs : s < 2) (hp1 : p1 = nI s) (hf : U f) (hU : ∀ n, U n → n < 12) (he : ce (101 + 10 * a + s) = nI f) (hC : CC ce U M) (hM : ∀ s n x, s < 2 → M s n x → x < 24) (hdis : ∀ s n n' x, M s n x → M s n' x → n = n') (hal : ∀ n, ¬ M s n a)
    (K : (∀ (ce' kc' ko' ik' kn' : Nat → Int32), JR o sn kc' ko' ik' kn' ce' → (CC ce' U (fun s' n' x => M s' n' x ∨ (s' = s ∧ n' = f ∧ x = a)) ∧ ∀ i, i ≠ 105 + 10 * a + s → i ≠ 107 + 10 * a + s → i ≠ 19 + 7 * f + s → (∀ x, M s f x → i ≠ 107 + 10 * x + s) → ce' i = ce i) → post (nI o, fp, fc, fg, fw, ce', kc', ko', ik', kn', re, dn, qu, et, lo, ab, na, pi))) : wpX_chain post (nI o, fp, fc, fg, fw, ce, kc, ko, ik, kn, re, dn, qu, et, lo, ab, na, pi) (nI a) p1 := by
  subst hp1
  obtain ⟨l, hc, hl⟩ := hC s f hs hf
  have hf12 := hU f hf
  refine gx_chain ho hj ha hs hf12 he hc (fun x hx => hM s f x hs ((hl x).mp hx)) (fun z => hal f ((hl a).mp z)) ?_
  rintro ce' kc' ko' ik' kn' hj' ⟨h1, h2⟩
  refine K ce' kc' ko' ik' kn' hj' ⟨fun s' n' hs' hn' => ?_, fun i i1 i2 i3 i4 => h2 i i1 i2 i3 (fun x hx => i4 x ((hl x).mp hx))⟩
  have hn12 := hU n' hn'
  by_cases e : s' = s ∧ n' = f
  · obtain ⟨rfl, rfl⟩ := e
    refine ⟨a :: l, h1, fun x => ?_⟩
    rw [List.mem_cons, hl x]
    constructor
    · rintro (z | z)
      · exact Or.inr ⟨rfl, rfl, z⟩
      · exact Or.inl z
    · rintro (z | z)
      · exact Or.inr z
      · exact Or.inl z.2.2
  · obtain ⟨l', hc', hl'⟩ := hC s' n' hs' hn'
    refine ⟨l', CH_fr ?_ (fun x hx => ?_) hc', fun x => ?_⟩
    · refine h2 _ (by omega) (by omega) (fun z => e ⟨by omega, by omega⟩) (fun x _ => by omega)
    · have hxM := (hl' x).mp hx
      have hx24 := hM s' n' x hs' hxM
      have hne : s' = s → ∀ y, y = x → y ∈ l → False := fun es y ey hy => e ⟨es, hdis s n' f x (es ▸ hxM) ((hl x).mp (ey ▸ hy))⟩
      have hxa : s' = s → x ≠ a := fun es ex => hal n' (by rw [← es, ← ex]; exact hxM)
      constructor
      · refine h2 _ (fun z => ?_) (fun z => by omega) (by omega) (fun y _ => by omega)
        exact hxa (by omega) (by omega)
      · refine h2 _ (fun z => by omega) (fun z => ?_) (by omega) (fun y hy z => ?_)
        · exact hxa (by omega) (by omega)
        · exact hne (by omega) y (by omega) hy
    · rw [hl' x]
      constructor
      · exact Or.inl
      · rintro (z | z)
        · exact z
        · exact absurd ⟨z.1, z.2.1⟩ e
theorem gx_unchC {post : SX → Prop} {o : Nat} {sn : Nat → Nat → Int32} {a s f : Nat} {U : Nat → Prop} {M : Nat → Nat → Nat → Prop} {p1 : Int32} (ho : o ≤ 4) (hj : JR o sn kc ko ik kn ce) (ha : a < 24) (hs : s < 2) (hp1 : p1 = nI s) (hf : U f) (hU : ∀ n, U n → n < 12) (he : ce (101 + 10 * a + s) = nI f) (hC : CC ce U M) (hM : ∀ s n x, s < 2 → M s n x → x < 24) (hdis : ∀ s n n' x, M s n x → M s n' x → n = n') (hal : M s f a)
    (K : (∀ (ce' kc' ko' ik' kn' : Nat → Int32), JR o sn kc' ko' ik' kn' ce' → (CC ce' U (fun s' n' x => M s' n' x ∧ ¬ (s' = s ∧ n' = f ∧ x = a)) ∧ ∀ i, i ≠ 19 + 7 * f + s → (∀ x, x < 24 → M s f x → i ≠ 105 + 10 * x + s ∧ i ≠ 107 + 10 * x + s) → ce' i = ce i) → post (nI o, fp, fc, fg, fw, ce', kc', ko', ik', kn', re, dn, qu, et, lo, ab, na, pi))) : wpX_unchain post (nI o, fp, fc, fg, fw, ce, kc, ko, ik, kn, re, dn, qu, et, lo, ab, na, pi) (nI a) p1 := by
  subst hp1
  obtain ⟨l, hc, hl⟩ := hC s f hs hf
  have hf12 := hU f hf
  obtain ⟨l1, l2, rfl⟩ := List.append_of_mem ((hl a).mpr hal)
  have hlt : ∀ x, x ∈ l1 ++ a :: l2 → x < 24 := fun x hx => hM s f x hs ((hl x).mp hx)
  have hsub : ∀ x, x ∈ l1 ++ l2 → x ∈ l1 ++ a :: l2 := fun x hx => by
    rcases List.mem_append.mp hx with z | z
    · exact List.mem_append_left _ z
    · exact List.mem_append_right _ (List.mem_cons_of_mem _ z)
  have hna : ∀ x, x ∈ l1 ++ l2 → x ≠ a := by
    intro x hx e
    have hn := hc.2
    rw [List.nodup_append] at hn
    obtain ⟨n1, n2, n3⟩ := hn
    rw [List.nodup_cons] at n2
    subst e
    rcases List.mem_append.mp hx with z | z
    · exact n3 x z x List.mem_cons_self rfl
    · exact n2.1 z
  refine gx_unch ho hj ha hs hf12 he hc hlt ?_
  rintro ce' kc' ko' ik' kn' hj' ⟨h1, h2⟩
  refine K ce' kc' ko' ik' kn' hj' ⟨fun s' n' hs' hn' => ?_, fun i i1 i2 => h2 i i1 (fun x hx => i2 x (hlt x (hsub x hx)) ((hl x).mp (hsub x hx)))⟩
  have hn12 := hU n' hn'
  by_cases e : s' = s ∧ n' = f
  · obtain ⟨rfl, rfl⟩ := e
    refine ⟨l1 ++ l2, h1, fun x => ?_⟩
    constructor
    · intro hx
      exact ⟨(hl x).mp (hsub x hx), fun z => hna x hx z.2.2⟩
    · rintro ⟨z1, z2⟩
      have := (hl x).mpr z1
      rcases List.mem_append.mp this with y | y
      · exact List.mem_append_left _ y
      · rcases List.mem_cons.mp y with q | q
        · exact absurd ⟨rfl, rfl, q⟩ z2
        · exact List.mem_append_right _ q
  · obtain ⟨l', hc', hl'⟩ := hC s' n' hs' hn'
    refine ⟨l', CH_fr ?_ (fun x hx => ?_) hc', fun x => ?_⟩
    · refine h2 _ (fun z => e ⟨by omega, by omega⟩) (fun x _ => ⟨by omega, by omega⟩)
    · have hxM := (hl' x).mp hx
      have hne : s' = s → ∀ y, y = x → y ∈ l1 ++ l2 → False := fun es y ey hy => e ⟨es, hdis s n' f x (es ▸ hxM) ((hl x).mp (ey ▸ hsub y hy))⟩
      constructor
      · refine h2 _ (by omega) (fun y hy => ⟨fun z => hne (by omega) y (by omega) hy, fun z => by omega⟩)
      · refine h2 _ (by omega) (fun y hy => ⟨fun z => by omega, fun z => hne (by omega) y (by omega) hy⟩)
    · rw [hl' x]
      constructor
      · exact fun z => ⟨z, fun y => e ⟨y.1, y.2.1⟩⟩
      · exact fun z => z.1
end
theorem mM_dis {w : Nat → Int32} : ∀ s n n' x, (n < 12 ∧ mM w s n x) → (n' < 12 ∧ mM w s n' x) → n = n' := by
  rintro s n n' x ⟨h1, _, _, e⟩ ⟨h2, _, _, e'⟩
  exact (nI_eq (by omega) (by omega)).mp (e.symm.trans e')
end
section
/-! a weight, a node set, a new node -/
theorem gx_u {f : Nat → Int32} {x v : Int32} {n : Nat} (e : x = nI n) (h : n < 2 ^ 31) : upd f x.toNatClampNeg v = upd f n v := congrArg (fun i => upd f i v) (by rw [e]; exact nI_clamp h)
section
variable {fo fp fc fg fw : Int32} {ce kc ko ik kn re dn qu et lo ab na pi : Nat → Int32}
theorem gx_remN {post : SX → Prop} {o : Nat} {sn : Nat → Nat → Int32} {L q n : Nat} {R : Nat → Nat} (ho : o ≤ 4) (hj : JR o sn kc ko ik kn ce) (hr : RW ce (L + 1) R) (hq : q ≤ L) (eq : R q = n) (hs : ∀ i j, i < j → j < L + 1 → kl (ce (18 + 7 * R i)) (R i) (ce (18 + 7 * R j)) (R j))
    (K : (∀ (ce' kc' ko' ik' kn' : Nat → Int32), JR o sn kc' ko' ik' kn' ce' → (RW ce' L (rDel q R) ∧ FrR ce ce') → post (nI o, fp, fc, fg, fw, ce', kc', ko', ik', kn', re, dn, qu, et, lo, ab, na, pi))) : wpX_removeFromRow post (nI o, fp, fc, fg, fw, ce, kc, ko, ik, kn, re, dn, qu, et, lo, ab, na, pi) (nI n) := by subst eq; exact gx_rem ho hj hr hq hs K
end
theorem GR_wt {c w : Nat → Int32} {a g : Nat} (hg : GR c w) (ha : a < 24) (hw : w (36 + a) = 1) (hg99 : g ≤ 99) : GR (upd c (104 + 10 * a) (nI g)) (upd w (132 + a) (nI g)) := by
  obtain ⟨h1, h2, h3, h4, h5, h6, h7, h8⟩ := hg
  have hd : ∀ s n, s < 2 → nD (upd w (132 + a) (nI g)) s n = nD w s n := fun s n hs => cn_eq fun b hb => by rw [pk_un (show 36 + b ≠ 132 + a by omega), pk_un (show 60 + 24 * s + b ≠ 132 + a by omega)]
  refine ⟨?_, ?_, ?_, ?_, ?_, ?_, ?_, ?_⟩
  · exact GN_fr (fun n hn => ⟨pk_un (by omega), pk_un (by omega), pk_un (by omega)⟩) (fun i hi => pk_un (by omega)) h1
  · intro b hb
    by_cases e : b = a
    · subst e
      obtain ⟨q1, q2, q3⟩ := h2 b hb
      obtain ⟨p1, p2, p3, p4, p5⟩ := q3 hw
      refine ⟨by rw [pk_un (by omega), pk_un (by omega)]; exact q1, by rw [pk_un (by omega)]; exact q2, fun _ => ⟨?_, ?_, ?_, ?_, ?_⟩⟩
      · rw [pk_un (by omega), pk_un (by omega)]; exact p1
      · rw [pk_un (by omega), pk_un (by omega)]; exact p2
      · rw [pk_un (by omega), pk_un (by omega)]; exact p3
      · rw [pk_us, pk_us]
      · obtain ⟨⟨f, f1, f2, f3⟩, ⟨t, t1, t2, t3⟩, ⟨y, y1, y2⟩, _⟩ := p5
        exact ⟨⟨f, by rw [pk_un (by omega)]; exact f1, f2, by rw [pk_un (by omega)]; exact f3⟩, ⟨t, by rw [pk_un (by omega)]; exact t1, t2, by rw [pk_un (by omega)]; exact t3⟩, ⟨y, by rw [pk_un (by omega)]; exact y1, y2⟩, ⟨g, pk_us, hg99⟩⟩
    · refine GA_1 hb (fun n hn z => by rw [pk_un (by omega)]; exact z) (fun j hj => pk_un (by omega)) ⟨pk_un (by omega), pk_un (by omega), pk_un (by omega), pk_un (by omega), pk_un (by omega)⟩ h2
  · exact GF_fr (pk_un (by omega)) (fun n hn => pk_un (by omega)) (fun n hn => pk_un (by omega)) h3
  · exact GE_fr (pk_un (by omega)) (fun b hb _ => pk_un (by omega)) (fun b hb => pk_un (by omega)) h4
  · exact GW_fr (pk_un (by omega)) (fun k hk => pk_un (by omega)) (fun n hn => ⟨pk_un (by omega), pk_un (by omega)⟩) h5
  · refine CC_GC (U := uN' w) (M := mM w) (fun n hn => ⟨hn.1, by have := hn.2; rw [pk_un (by have := hn.1; omega)] at this; exact this⟩) (fun s n x hs hn => ?_) (CC_fr (fun n hn => hn.1) (fun s n hs hn => pk_un (by have := hn.1; omega)) (fun s n x hs hn hx => ⟨pk_un (by omega), pk_un (by omega)⟩) (GC_CC h6))
    unfold mM
    constructor
    · rintro ⟨x1, x2, x3⟩; rw [pk_un (by omega)] at x2 x3; exact ⟨x1, x2, x3⟩
    · rintro ⟨x1, x2, x3⟩; exact ⟨x1, by rw [pk_un (by omega)]; exact x2, by rw [pk_un (by omega)]; exact x3⟩
  · intro n hn hw'
    rw [pk_un (by omega)] at hw'
    rw [pk_un (by omega), hd 0 n (by omega), hd 1 n (by omega)]
    exact h7 n hn hw'
  · show upd c (104 + 10 * a) (nI g) 3 = nI (nA (upd w (132 + a) (nI g)))
    rw [pk_un (by omega), nA_fr (w := w) (fun b hb => pk_un (by omega))]
    exact h8
/-- a node's labels and value -/
theorem GR_nd {c w c' : Nat → Int32} {n : Nat} {l v : Int32} {R : Nat → Nat} (hg : GR c w) (hn : n < 12) (hw : w n = 1) (hc : ∀ i, i ≠ 2 → (i < 4 ∨ 16 ≤ i) → c' i = upd (upd c (17 + 7 * n) l) (18 + 7 * n) v i)
    (hr : RW c' (nN w) R) (hR : RowOK (uN' w) (fun m => upd (upd w (12 + n) l) (24 + n) v (24 + m)) (nN w) R) : GR c' (upd (upd w (12 + n) l) (24 + n) v) := by
  obtain ⟨h1, h2, h3, h4, h5, h6, h7, h8⟩ := hg
  have hwl : ∀ m, m < 12 → upd (upd w (12 + n) l) (24 + n) v m = w m := fun m hm => by rw [pk_un (by omega), pk_un (by omega)]
  have hwh : ∀ i, 36 ≤ i → i < 156 → upd (upd w (12 + n) l) (24 + n) v i = w i := fun i hi _ => by rw [pk_un (by omega), pk_un (by omega)]
  have hcc : ∀ i, i ≠ 2 → (i < 4 ∨ 16 ≤ i) → i ≠ 17 + 7 * n → i ≠ 18 + 7 * n → c' i = c i := fun i i1 i2 i3 i4 => by rw [hc i i1 i2, pk_un i4, pk_un i3]
  have hcc2 : ∀ m j, m < 12 → j < 7 → j ≠ 1 → j ≠ 2 → c' (16 + 7 * m + j) = c (16 + 7 * m + j) := fun m j hm hj j1 j2 => hcc _ (by omega) (by omega) (by omega) (by omega)
  have hca : ∀ i, 100 ≤ i → c' i = c i := fun i hi => hcc i (by omega) (by omega) (by omega) (by omega)
  refine ⟨?_, ?_, ?_, ?_, ?_, ?_, ?_, ?_⟩
  · intro m hm
    obtain ⟨q1, q2, q3⟩ := h1 m hm
    rw [hwl m hm]
    refine ⟨(hcc2 m 0 hm (by omega) (by omega) (by omega)).trans q1, q2, fun z => ?_⟩
    obtain ⟨p1, p2⟩ := q3 z
    by_cases e : m = n
    · subst e
      rw [hc _ (by omega) (by omega), hc _ (by omega) (by omega), pk_us, pk_us, pk_un (by omega), pk_us, pk_un (by omega), pk_us]
      exact ⟨rfl, rfl⟩
    · rw [hcc _ (by omega) (by omega) (by omega) (by omega), hcc _ (by omega) (by omega) (by omega) (by omega), pk_un (by omega), pk_un (by omega), pk_un (by omega), pk_un (by omega)]
      exact ⟨p1, p2⟩
  · exact GA_fr (fun m hm z => by rw [hwl m hm]; exact z) (fun a j ha hj => hca _ (by omega)) hwh h2
  · exact GF_fr (hcc 0 (by omega) (by omega) (by omega) (by omega)) (fun m hm => by have := hcc2 m 5 hm (by omega) (by omega) (by omega); rw [show 16 + 7 * m + 5 = 21 + 7 * m by omega] at this; exact this) hwl h3
  · exact GE_fr (hcc 1 (by omega) (by omega) (by omega) (by omega)) (fun a ha _ => hca _ (by omega)) (fun a ha => hwh _ (by omega) (by omega)) h4
  · refine row_GW (nN_fr hwl) hr (Row_cg (fun m => ?_) (fun m hm => rfl) hR)
    unfold uN'
    constructor
    · rintro ⟨a, b⟩; exact ⟨a, by rw [hwl m a] at b; exact b⟩
    · rintro ⟨a, b⟩; exact ⟨a, by rw [hwl m a]; exact b⟩
  · refine CC_GC (U := uN' w) (M := mM w) (fun m hm => ⟨hm.1, by have := hm.2; rw [hwl m hm.1] at this; exact this⟩) (fun s m x hs hm => ?_) (CC_fr (fun m hm => hm.1) (fun s m hs hm => by have h12 := hm.1; exact hcc _ (by omega) (by omega) (by omega) (by omega)) (fun s m x hs hm hx => ⟨hca _ (by omega), hca _ (by omega)⟩) (GC_CC h6))
    unfold mM
    constructor
    · rintro ⟨x1, x2, x3⟩; rw [hwh _ (by omega) (by omega)] at x2 x3; exact ⟨x1, x2, x3⟩
    · rintro ⟨x1, x2, x3⟩; exact ⟨x1, by rw [hwh _ (by omega) (by omega)]; exact x2, by rw [hwh _ (by omega) (by omega)]; exact x3⟩
  · intro m hm hw'
    rw [hwl m hm] at hw'
    rw [nD_fr hwh (by omega), nD_fr hwh (by omega)]
    have := hcc2 m 6 hm (by omega) (by omega) (by omega)
    rw [show 16 + 7 * m + 6 = 22 + 7 * m by omega] at this
    exact this.trans (h7 m hm hw')
  · show c' 3 = _
    rw [nA_fr (w := w) (fun a ha => hwh _ (by omega) (by omega))]
    exact (hcc 3 (by omega) (by omega) (by omega) (by omega)).trans h8
theorem i_vc_setWeight {k : Nat} {u : SX} {v : SY} (I : i_Rel k u v) (hk : k + 4 ≤ 2048) (v1 : Int32) (v2 : Int32) : wpX_setWeight (fun r u' => wpY_setWeight (fun r' v' => r' = r ∧ i_Rel (k + 4) u' v') v v1 v2) u v1 v2 := by
  obtain ⟨fo, fp, fc, fg, fw, ce, kc, ko, ik, kn, re, dn, qu, et, lo, ab, na, pi⟩ := u
  obtain ⟨yo, w, cp, fa⟩ := v
  obtain ⟨o, sn, ho, rfl, rfl, hj, hg, hs⟩ := I
  have I : i_Rel (k + 4) (nI o, fp, fc, fg, fw, ce, kc, ko, ik, kn, re, dn, qu, et, lo, ab, na, pi) (nI o, w, cp, fa) := gr_mk ho hj hg hs
  unfold wpX_setWeight
  rcases ar_or w v1 with ⟨a, ha, rfl, hw⟩ | h
  · refine gx_isA1 hg.2.1 ha hw (br_f gx_10 ?_)
    rcases le_or v2 99 with ⟨g, hg99, rfl⟩ | h2
    · refine rg_1 (N := 99) hg99 (by omega) (gx_aa ⟨pk_in (104 + 10 * a) 340 (by omega) (by first | rfl | exact congrArg nI (by omega) | (simp only [nI_add, pk_mul, ir_0, ir_1, ir_2, ir_3, ir_4, ir_5, ir_6, ir_7, ir_8, ir_9, ir_13, il_4, il_12, il_16, il_24, il_36, il_60, il_84, il_100, il_108, il_132, il_340, im_5, im_7, im_10, im_11, im_3, im_24, im_156, im_340]; first | done | exact congrArg nI (by omega))), nm_r (e' := w (132 + a)) ((gx_c (n := 104 + 10 * a) (by first | rfl | exact congrArg nI (by omega) | (simp only [nI_add, pk_mul, ir_0, ir_1, ir_2, ir_3, ir_4, ir_5, ir_6, ir_7, ir_8, ir_9, ir_13, il_4, il_12, il_16, il_24, il_36, il_60, il_84, il_100, il_108, il_132, il_340, im_5, im_7, im_10, im_11, im_3, im_24, im_156, im_340]; first | done | exact congrArg nI (by omega))) (by omega)).trans ((hg.2.1 a ha).2.2 hw).2.2.2.1) (gx_aa ?_)⟩)
      refine gj_put ho hj (104 + 10 * a) (by omega) (by first | rfl | exact congrArg nI (by omega) | (simp only [nI_add, pk_mul, ir_0, ir_1, ir_2, ir_3, ir_4, ir_5, ir_6, ir_7, ir_8, ir_9, ir_13, il_4, il_12, il_16, il_24, il_36, il_60, il_84, il_100, il_108, il_132, il_340, im_5, im_7, im_10, im_11, im_3, im_24, im_156, im_340]; first | done | exact congrArg nI (by omega))) ?_
      intro kc' ko' ik' kn' hj'
      show wpY_setWeight _ _ _ _
      unfold wpY_setWeight
      refine gy_isA1 ha hw (br_f gx_10 (rg_1 (N := 99) hg99 (by omega) (gy_part3 ha ⟨pk_in (132 + a) 156 (by omega) (by first | rfl | exact congrArg nI (by omega) | (simp only [nI_add, pk_mul, ir_0, ir_1, ir_2, ir_3, ir_4, ir_5, ir_6, ir_7, ir_8, ir_9, ir_13, il_4, il_12, il_16, il_24, il_36, il_60, il_84, il_100, il_108, il_132, il_340, im_5, im_7, im_10, im_11, im_3, im_24, im_156, im_340]; first | done | exact congrArg nI (by omega))), nm_r (gx_u (n := 132 + a) (by first | rfl | exact congrArg nI (by omega) | (simp only [nI_add, pk_mul, ir_0, ir_1, ir_2, ir_3, ir_4, ir_5, ir_6, ir_7, ir_8, ir_9, ir_13, il_4, il_12, il_16, il_24, il_36, il_60, il_84, il_100, il_108, il_132, il_340, im_5, im_7, im_10, im_11, im_3, im_24, im_156, im_340]; first | done | exact congrArg nI (by omega))) (by omega)) ⟨rfl, ?_⟩⟩)))
      exact gr_mk ho hj' (GR_wt hg ha hw hg99) hs
    · refine rg_0 (N := 99) (by omega) h2 ?_
      unfold wpY_setWeight
      exact gy_isA1 ha hw (br_f gx_10 (rg_0 (N := 99) (by omega) h2 ⟨rfl, I⟩))
  · refine gx_isA0 hg.2.1 h (br_t rfl ?_)
    unfold wpY_setWeight
    exact gy_isA0 h (br_t rfl ⟨rfl, I⟩)
theorem i_vc_setNode {k : Nat} {u : SX} {v : SY} (I : i_Rel k u v) (hk : k + 4 ≤ 2048) (v1 : Int32) (v2 : Int32) (v3 : Int32) : wpX_setNode (fun r u' => wpY_setNode (fun r' v' => r' = r ∧ i_Rel (k + 4) u' v') v v1 v2 v3) u v1 v2 v3 := by
  obtain ⟨fo, fp, fc, fg, fw, ce, kc, ko, ik, kn, re, dn, qu, et, lo, ab, na, pi⟩ := u
  obtain ⟨yo, w, cp, fa⟩ := v
  obtain ⟨o, sn, ho, rfl, rfl, hj, hg, hs⟩ := I
  have I : i_Rel (k + 4) (nI o, fp, fc, fg, fw, ce, kc, ko, ik, kn, re, dn, qu, et, lo, ab, na, pi) (nI o, w, cp, fa) := gr_mk ho hj hg hs
  unfold wpX_setNode
  rcases nd_or w v1 with ⟨n, hn, rfl, hw⟩ | h
  · refine gx_isN1 hg.1 hn hw (br_f gx_10 ?_)
    rcases le_or v2 7 with ⟨l, hl, rfl⟩ | h2
    · obtain ⟨R, hr, hR⟩ := GW_row hg.2.2.2.2.1
      have hN := hg.1
      have hval : ce (18 + 7 * n) = w (24 + n) := ((hN n hn).2.2 hw).2
      -- what the reference does
      have fin : ∀ (ce' kc' ko' ik' kn' : Nat → Int32), JR o sn kc' ko' ik' kn' ce' → GR ce' (upd (upd w (12 + n) (nI l)) (24 + n) v3) → wpY_setNode (fun r' v' => r' = w (12 + n) ∧ i_Rel (k + 4) (nI o, fp, fc, fg, fw, ce', kc', ko', ik', kn', re, dn, qu, et, lo, ab, na, pi) v') (nI o, w, cp, fa) (nI n) (nI l) v3 := by
        intro ce' kc' ko' ik' kn' hj' hg'
        unfold wpY_setNode
        refine gy_isN1 hn hw (br_f gx_10 (gy_lb1 hl (br_t rfl ⟨pk_in (12 + n) 156 (by omega) (by first | rfl | exact congrArg nI (by omega) | (simp only [nI_add, pk_mul, ir_0, ir_1, ir_2, ir_3, ir_4, ir_5, ir_6, ir_7, ir_8, ir_9, ir_13, il_4, il_12, il_16, il_24, il_36, il_60, il_84, il_100, il_108, il_132, il_340, im_5, im_7, im_10, im_11, im_3, im_24, im_156, im_340]; first | done | exact congrArg nI (by omega))), nm_r (e' := w (12 + n)) (gx_c (by first | rfl | exact congrArg nI (by omega) | (simp only [nI_add, pk_mul, ir_0, ir_1, ir_2, ir_3, ir_4, ir_5, ir_6, ir_7, ir_8, ir_9, ir_13, il_4, il_12, il_16, il_24, il_36, il_60, il_84, il_100, il_108, il_132, il_340, im_5, im_7, im_10, im_11, im_3, im_24, im_156, im_340]; first | done | exact congrArg nI (by omega))) (by omega)) ⟨pk_in (12 + n) 156 (by omega) (by first | rfl | exact congrArg nI (by omega) | (simp only [nI_add, pk_mul, ir_0, ir_1, ir_2, ir_3, ir_4, ir_5, ir_6, ir_7, ir_8, ir_9, ir_13, il_4, il_12, il_16, il_24, il_36, il_60, il_84, il_100, il_108, il_132, il_340, im_5, im_7, im_10, im_11, im_3, im_24, im_156, im_340]; first | done | exact congrArg nI (by omega))), nm_r (gx_u (n := 12 + n) (by first | rfl | exact congrArg nI (by omega) | (simp only [nI_add, pk_mul, ir_0, ir_1, ir_2, ir_3, ir_4, ir_5, ir_6, ir_7, ir_8, ir_9, ir_13, il_4, il_12, il_16, il_24, il_36, il_60, il_84, il_100, il_108, il_132, il_340, im_5, im_7, im_10, im_11, im_3, im_24, im_156, im_340]; first | done | exact congrArg nI (by omega))) (by omega)) ⟨pk_in (24 + n) 156 (by omega) (by first | rfl | exact congrArg nI (by omega) | (simp only [nI_add, pk_mul, ir_0, ir_1, ir_2, ir_3, ir_4, ir_5, ir_6, ir_7, ir_8, ir_9, ir_13, il_4, il_12, il_16, il_24, il_36, il_60, il_84, il_100, il_108, il_132, il_340, im_5, im_7, im_10, im_11, im_3, im_24, im_156, im_340]; first | done | exact congrArg nI (by omega))), nm_r (gx_u (n := 24 + n) (by first | rfl | exact congrArg nI (by omega) | (simp only [nI_add, pk_mul, ir_0, ir_1, ir_2, ir_3, ir_4, ir_5, ir_6, ir_7, ir_8, ir_9, ir_13, il_4, il_12, il_16, il_24, il_36, il_60, il_84, il_100, il_108, il_132, il_340, im_5, im_7, im_10, im_11, im_3, im_24, im_156, im_340]; first | done | exact congrArg nI (by omega))) (by omega)) ⟨rfl, gr_mk ho hj' hg' hs⟩⟩⟩⟩)))
      refine rg_1 (N := 7) hl (by omega) (gx_na ⟨pk_in (17 + 7 * n) 340 (by omega) (by first | rfl | exact congrArg nI (by omega) | (simp only [nI_add, pk_mul, ir_0, ir_1, ir_2, ir_3, ir_4, ir_5, ir_6, ir_7, ir_8, ir_9, ir_13, il_4, il_12, il_16, il_24, il_36, il_60, il_84, il_100, il_108, il_132, il_340, im_5, im_7, im_10, im_11, im_3, im_24, im_156, im_340]; first | done | exact congrArg nI (by omega))), nm_r (e' := w (12 + n)) ((gx_c (n := 17 + 7 * n) (by first | rfl | exact congrArg nI (by omega) | (simp only [nI_add, pk_mul, ir_0, ir_1, ir_2, ir_3, ir_4, ir_5, ir_6, ir_7, ir_8, ir_9, ir_13, il_4, il_12, il_16, il_24, il_36, il_60, il_84, il_100, il_108, il_132, il_340, im_5, im_7, im_10, im_11, im_3, im_24, im_156, im_340]; first | done | exact congrArg nI (by omega))) (by omega)).trans ((hN n hn).2.2 hw).1) ?_⟩)
      refine gj_put ho hj (17 + 7 * n) (by omega) (by first | rfl | exact congrArg nI (by omega) | (simp only [nI_add, pk_mul, ir_0, ir_1, ir_2, ir_3, ir_4, ir_5, ir_6, ir_7, ir_8, ir_9, ir_13, il_4, il_12, il_16, il_24, il_36, il_60, il_84, il_100, il_108, il_132, il_340, im_5, im_7, im_10, im_11, im_3, im_24, im_156, im_340]; first | done | exact congrArg nI (by omega))) ?_
      intro kc1 ko1 ik1 kn1 hj1
      refine ⟨pk_in (18 + 7 * n) 340 (by omega) (by first | rfl | exact congrArg nI (by omega) | (simp only [nI_add, pk_mul, ir_0, ir_1, ir_2, ir_3, ir_4, ir_5, ir_6, ir_7, ir_8, ir_9, ir_13, il_4, il_12, il_16, il_24, il_36, il_60, il_84, il_100, il_108, il_132, il_340, im_5, im_7, im_10, im_11, im_3, im_24, im_156, im_340]; first | done | exact congrArg nI (by omega))), ?_⟩
      have e18 : upd ce (17 + 7 * n) (nI l) (nI (16 + 7 * n) + 2).toNatClampNeg = w (24 + n) := (gx_c (n := 18 + 7 * n) (by first | rfl | exact congrArg nI (by omega) | (simp only [nI_add, pk_mul, ir_0, ir_1, ir_2, ir_3, ir_4, ir_5, ir_6, ir_7, ir_8, ir_9, ir_13, il_4, il_12, il_16, il_24, il_36, il_60, il_84, il_100, il_108, il_132, il_340, im_5, im_7, im_10, im_11, im_3, im_24, im_156, im_340]; first | done | exact congrArg nI (by omega))) (by omega)).trans ((pk_un (by omega)).trans hval)
      rw [e18]
      have hr1 : RW (upd ce (17 + 7 * n) (nI l)) (nN w) R := ⟨(pk_un (by omega)).trans hr.1, hr.2.1, fun k hk => ⟨(hr.2.2 k hk).1, (pk_un (by have := hr.2.1; omega)).trans (hr.2.2 k hk).2⟩⟩
      by_cases ev : w (24 + n) = v3
      · refine br_t ev (fin _ _ _ _ _ hj1 (GR_nd hg hn hw (fun i _ _ => ?_) hr1 (Row_cg (fun _ => Iff.rfl) (fun m hm => ?_) hR)))
        · by_cases e : i = 18 + 7 * n
          · subst e; rw [pk_us, pk_un (by omega), hval]; exact ev
          · rw [pk_un (f := upd ce (17 + 7 * n) (nI l)) e]
        · have h12 := hm.1
          show upd (upd w (12 + n) (nI l)) (24 + n) v3 (24 + m) = w (24 + m)
          by_cases e : m = n
          · subst e; rw [pk_us]; exact ev.symm
          · rw [pk_un (by omega), pk_un (by omega)]
      · refine br_f ev ?_
        obtain ⟨q, hq, eq⟩ := hR.2.1 n ⟨hn, hw⟩
        obtain ⟨L, hL⟩ : ∃ L, nN w = L + 1 := ⟨nN w - 1, by omega⟩
        have hL12 : L + 1 ≤ 12 := by have := hr.2.1; omega
        have hv1 : ∀ m, m < 12 → w m = 1 → upd ce (17 + 7 * n) (nI l) (18 + 7 * m) = w (24 + m) := fun m hm hwm => (pk_un (by omega)).trans ((hN m hm).2.2 hwm).2
        rw [hL] at hr1 hR hq
        refine gx_remN ho hj1 hr1 (by omega) eq (fun i j hij hj' => ?_) ?_
        · have ui := hR.1 i (by omega)
          have uj := hR.1 j hj'
          rw [hv1 _ ui.1 ui.2, hv1 _ uj.1 uj.2]
          exact hR.2.2 i j hij hj'
        · rintro c2 kc2 ko2 ik2 kn2 hj2 ⟨r2, f2⟩
          refine gj_put ho hj2 (18 + 7 * n) (by omega) (by first | rfl | exact congrArg nI (by omega) | (simp only [nI_add, pk_mul, ir_0, ir_1, ir_2, ir_3, ir_4, ir_5, ir_6, ir_7, ir_8, ir_9, ir_13, il_4, il_12, il_16, il_24, il_36, il_60, il_84, il_100, il_108, il_132, il_340, im_5, im_7, im_10, im_11, im_3, im_24, im_156, im_340]; first | done | exact congrArg nI (by omega))) ?_
          intro kc3 ko3 ik3 kn3 hj3
          have hR2 := Row_del hR (q := q) (by omega)
          have hr3 : RW (upd c2 (18 + 7 * n) v3) L (rDel q R) := ⟨(pk_un (by omega)).trans r2.1, r2.2.1, fun k hk => ⟨(r2.2.2 k hk).1, (pk_un (by omega)).trans (r2.2.2 k hk).2⟩⟩
          have hv3 : ∀ m, m < 12 → w m = 1 → m ≠ n → upd c2 (18 + 7 * n) v3 (18 + 7 * m) = w (24 + m) := fun m hm hwm hne => (pk_un (by omega)).trans ((f2 _ (by omega) (by omega)).trans (hv1 m hm hwm))
          have hel : ∀ k, k < L → (rDel q R k < 12 ∧ w (rDel q R k) = 1) ∧ rDel q R k ≠ n := fun k hk => by have := hR2.1 k hk; rw [eq] at this; exact this
          have hbl : ∀ k, k < L → (bl (upd c2 (18 + 7 * n) v3) (rDel q R) v3 n k ↔ kl (w (24 + rDel q R k)) (rDel q R k) v3 n) := fun k hk => by
            unfold bl; rw [hv3 _ (hel k hk).1.1 (hel k hk).1.2 (hel k hk).2]
          refine gx_ins ho hj3 hn (by omega) hr3 (fun i j hij hj' hb => ?_) ?_
          · rw [hbl i (by omega)]
            rw [hbl j hj'] at hb
            exact kl_tr (hR2.2.2 i j hij hj') hb
          · intro p hp p1 p2
            rintro c4 kc4 ko4 ik4 kn4 hj4 ⟨r4, f4⟩
            refine fin _ _ _ _ _ hj4 (GR_nd (R := rIns p n (rDel q R)) hg hn hw (fun i i1 i2 => ?_) (by rw [hL]; exact r4) ?_)
            · rw [f4 i i1 i2]
              by_cases e : i = 18 + 7 * n
              · subst e; rw [pk_us, pk_us]
              · rw [pk_un e, pk_un e]; exact f2 i i1 i2
            · rw [hL]
              have hR3 : RowOK (fun m => uN' w m ∧ m ≠ n) (fun m => upd (upd w (12 + n) (nI l)) (24 + n) v3 (24 + m)) L (rDel q R) := by
                refine Row_cg (fun m => by rw [eq]) (fun m hm => ?_) hR2
                rw [eq] at hm
                have h12 := hm.1.1
                have hne := hm.2
                show upd (upd w (12 + n) (nI l)) (24 + n) v3 (24 + m) = w (24 + m)
                rw [pk_un (by omega), pk_un (by omega)]
              have hvk : ∀ k, k < L → upd (upd w (12 + n) (nI l)) (24 + n) v3 (24 + rDel q R k) = w (24 + rDel q R k) := fun k hk => by
                have h12 := (hel k hk).1.1
                have hne := (hel k hk).2
                rw [pk_un (by omega), pk_un (by omega)]
              have hR4 := Row_ins (n := n) (p := p) (v := v3) hR3 (fun z => z.2 rfl) hp pk_us (fun k hk => by
                have := (hbl k (by omega)).mp (p1 k hk)
                show kl (upd (upd w (12 + n) (nI l)) (24 + n) v3 (24 + rDel q R k)) _ _ _
                rw [hvk k (by omega)]; exact this) (fun k hk hkL z => by
                have z' : kl (upd (upd w (12 + n) (nI l)) (24 + n) v3 (24 + rDel q R k)) (rDel q R k) v3 n := z
                rw [hvk k hkL] at z'
                exact p2 k hk hkL ((hbl k hkL).mpr z'))
              refine Row_cg (fun m => ?_) (fun m _ => rfl) hR4
              constructor
              · intro hm
                by_cases e : m = n
                · exact Or.inr e
                · exact Or.inl ⟨hm, e⟩
              · rintro (z | z)
                · exact z.1
                · rw [z]; exact ⟨hn, hw⟩
    · refine rg_0 (N := 7) (by omega) h2 ?_
      unfold wpY_setNode
      exact gy_isN1 hn hw (br_f gx_10 (gy_lb0 h2 (br_f gx_10 ⟨rfl, I⟩)))
  · refine gx_isN0 hg.1 h (br_t rfl ?_)
    unfold wpY_setNode
    exact gy_isN0 h (br_t rfl ⟨rfl, I⟩)
end
section
/-! a new node -/
theorem GR_new {c w c' : Nat → Int32} {n : Nat} {l v : Int32} {R : Nat → Nat} {fl : List Nat} (hg : GR c w) (hn : n < 12) (hw : w n ≠ 1)
    (hf : LkF (fun n => c (21 + 7 * n)) (c (21 + 7 * n)) fl) (hfp : fl.Pairwise (· < ·)) (hfm : ∀ m, m ∈ fl ↔ m < 12 ∧ w m ≠ 1 ∧ m ≠ n)
    (c0 : c' 0 = c (21 + 7 * n)) (c16 : c' (16 + 7 * n) = 1) (c17 : c' (17 + 7 * n) = l) (c18 : c' (18 + 7 * n) = v) (c19 : c' (19 + 7 * n) = -1) (c20 : c' (20 + 7 * n) = -1) (c22 : c' (22 + 7 * n) = 0)
    (hc : ∀ i, i ≠ 0 → i ≠ 2 → (i < 4 ∨ 16 ≤ i) → (i < 16 + 7 * n ∨ 20 + 7 * n < i) → i ≠ 22 + 7 * n → c' i = c i)
    (hr : RW c' (nN w + 1) R) (hR : RowOK (fun m => uN' w m ∨ m = n) (fun m => upd (upd (upd w n 1) (12 + n) l) (24 + n) v (24 + m)) (nN w + 1) R) : GR c' (upd (upd (upd w n 1) (12 + n) l) (24 + n) v) := by
  obtain ⟨h1, h2, h3, h4, h5, h6, h7, h8⟩ := hg
  have hwn : upd (upd (upd w n 1) (12 + n) l) (24 + n) v n = 1 := by rw [pk_un (by omega), pk_un (by omega), pk_us]
  have hwl : ∀ m, m < 12 → m ≠ n → upd (upd (upd w n 1) (12 + n) l) (24 + n) v m = w m := fun m hm hne => by rw [pk_un (by omega), pk_un (by omega), pk_un hne]
  have hwh : ∀ i, 36 ≤ i → i < 156 → upd (upd (upd w n 1) (12 + n) l) (24 + n) v i = w i := fun i hi _ => by rw [pk_un (by omega), pk_un (by omega), pk_un (by omega)]
  have hmono : ∀ m, m < 12 → w m = 1 → upd (upd (upd w n 1) (12 + n) l) (24 + n) v m = 1 := fun m hm z => by rw [hwl m hm (fun e => hw (e ▸ z))]; exact z
  have hca : ∀ i, 100 ≤ i → c' i = c i := fun i hi => hc i (by omega) (by omega) (by omega) (by omega) (by omega)
  have hus : ∀ m, uN' (upd (upd (upd w n 1) (12 + n) l) (24 + n) v) m ↔ uN' w m ∨ m = n := by
    intro m
    unfold uN'
    constructor
    · rintro ⟨a, b⟩
      by_cases e : m = n
      · exact Or.inr e
      · rw [hwl m a e] at b; exact Or.inl ⟨a, b⟩
    · rintro (⟨a, b⟩ | e)
      · exact ⟨a, hmono m a b⟩
      · rw [e]; exact ⟨hn, hwn⟩
  -- no arrow has this node at an end
  have hends : ∀ s x, s < 2 → x < 24 → w (36 + x) = 1 → w (60 + 24 * s + x) ≠ nI n := by
    intro s x hs hx hwx e
    have gp := ((h2 x hx).2.2 hwx).2.2.2.2
    have : s = 0 ∨ s = 1 := by omega
    rcases this with rfl | rfl
    · have := (GP_frI gp hn).mp e
      exact hw (this ▸ (GP_fr gp).2.2)
    · have e' : w (84 + x) = nI n := by rw [show 60 + 24 * 1 + x = 84 + x by omega] at e; exact e
      have := (GP_toI gp hn).mp e'
      exact hw (this ▸ (GP_to gp).2.2)
  refine ⟨?_, ?_, ?_, ?_, ?_, ?_, ?_, ?_⟩
  · intro m hm
    by_cases e : m = n
    · subst e
      rw [hwn, c16, c17, c18]
      exact ⟨rfl, Or.inr rfl, fun _ => ⟨by rw [pk_un (by omega), pk_us], pk_us.symm⟩⟩
    · rw [hwl m hm e, hc _ (by omega) (by omega) (by omega) (by omega) (by omega), hc (17 + 7 * m) (by omega) (by omega) (by omega) (by omega) (by omega), hc (18 + 7 * m) (by omega) (by omega) (by omega) (by omega) (by omega)]
      rw [pk_un (show 12 + m ≠ 24 + n by omega), pk_un (show 12 + m ≠ 12 + n by omega), pk_un (show 12 + m ≠ n by omega), pk_un (show 24 + m ≠ 24 + n by omega), pk_un (show 24 + m ≠ 12 + n by omega), pk_un (show 24 + m ≠ n by omega)]
      exact h1 m hm
  · exact GA_fr hmono (fun a j ha hj => hca _ (by omega)) hwh h2
  · refine ⟨fl, ?_, hfp, fun m => ?_⟩
    · rw [c0]
      refine LkF_congr (fun m hm => ?_) hf
      have := (hfm m).mp hm
      exact hc _ (by omega) (by omega) (by omega) (by omega) (by omega)
    · rw [hfm m]
      constructor
      · rintro ⟨a, b, d⟩; exact ⟨a, by rw [hwl m a d]; exact b⟩
      · rintro ⟨a, b⟩
        have e : m ≠ n := fun e => b (e ▸ hwn)
        rw [hwl m a e] at b
        exact ⟨a, b, e⟩
  · exact GE_fr (hc 1 (by omega) (by omega) (by omega) (by omega) (by omega)) (fun a ha _ => hca _ (by omega)) (fun a ha => hwh _ (by omega) (by omega)) h4
  · refine row_GW ?_ hr (Row_cg hus (fun m _ => rfl) hR)
    exact cn_one (P := fun m => w m = 1) (a := n) hw hwn (fun m hm hne => by rw [hwl m hm hne]) hn
  · intro s m hs hm hwm
    by_cases e : m = n
    · subst e
      refine ⟨[], ⟨?_, by simp⟩, fun x => ⟨(fun z => nomatch z), fun z => ?_⟩⟩
      · show c' (19 + 7 * m + s) = -1
        have : s = 0 ∨ s = 1 := by omega
        rcases this with rfl | rfl
        · exact c19
        · rw [show 19 + 7 * m + 1 = 20 + 7 * m by omega]; exact c20
      · exfalso
        obtain ⟨x1, x2, x3⟩ := z
        rw [hwh _ (by omega) (by omega)] at x2 x3
        exact hends s x hs x1 x2 x3
    · rw [hwl m hm e] at hwm
      obtain ⟨l', l1, l2⟩ := h6 s m hs hm hwm
      refine ⟨l', CH_fr (hc _ (by omega) (by omega) (by omega) (by omega) (by omega)) (fun x _ => ⟨hca _ (by omega), hca _ (by omega)⟩) l1, fun x => ?_⟩
      rw [l2 x]
      constructor
      · rintro ⟨x1, x2, x3⟩; exact ⟨x1, by rw [hwh _ (by omega) (by omega)]; exact x2, by rw [hwh _ (by omega) (by omega)]; exact x3⟩
      · rintro ⟨x1, x2, x3⟩; rw [hwh _ (by omega) (by omega)] at x2 x3; exact ⟨x1, x2, x3⟩
  · intro m hm hwm
    rw [nD_fr hwh (by omega), nD_fr hwh (by omega)]
    by_cases e : m = n
    · subst e
      have d0 : nD w 0 m = 0 := cn_no fun x hx z => hends 0 x (by omega) hx z.1 z.2
      have d1 : nD w 1 m = 0 := cn_no fun x hx z => hends 1 x (by omega) hx z.1 z.2
      rw [c22, d0, d1]; rfl
    · rw [hwl m hm e] at hwm
      rw [hc _ (by omega) (by omega) (by omega) (by omega) (by omega)]
      exact h7 m hm hwm
  · show c' 3 = _
    rw [nA_fr (w := w) (fun a ha => hwh _ (by omega) (by omega))]
    exact (hc 3 (by omega) (by omega) (by omega) (by omega) (by omega)).trans h8
section
variable {yo : Int32} {w cp fa : Nat → Int32}
theorem gy_node_l {post : Int32 → SY → Prop} {n : Nat} {l v : Int32} (hn : n ≤ 12) (hu : ∀ m, m < n → w m = 1) (f1 : n = 12 → post (-3) (yo, w, cp, fa)) (f2 : n < 12 → w n ≠ 1 ∧ post (nI n) (yo, upd (upd (upd w n 1) (12 + n) l) (24 + n) v, cp, fa)) :
    ∀ d k, k + d = n → wY_node_12 post l v yo w cp fa (d + 1) (nI k) := by
  intro d
  induction d with
  | zero =>
    intro k hk
    have e : k = n := by omega
    subst e
    rcases Nat.lt_or_ge k 12 with z | z
    · refine br_f (nI_ge (b := 12) z (by decide)) (gy_isN0 (fun m hm e => ?_) (br_t rfl ⟨vp_in_nI (by omega) (by omega), nm_r (gx_u rfl (by omega)) ⟨pk_in (12 + k) 156 (by omega) (by first | rfl | exact congrArg nI (by omega) | (simp only [nI_add, pk_mul, ir_0, ir_1, ir_2, ir_3, ir_4, ir_5, ir_6, ir_7, ir_8, ir_9, ir_13, il_4, il_12, il_16, il_24, il_36, il_60, il_84, il_100, il_108, il_132, il_340, im_5, im_7, im_10, im_11, im_3, im_24, im_156, im_340]; first | done | exact congrArg nI (by omega))), nm_r (gx_u (n := 12 + k) (by first | rfl | exact congrArg nI (by omega) | (simp only [nI_add, pk_mul, ir_0, ir_1, ir_2, ir_3, ir_4, ir_5, ir_6, ir_7, ir_8, ir_9, ir_13, il_4, il_12, il_16, il_24, il_36, il_60, il_84, il_100, il_108, il_132, il_340, im_5, im_7, im_10, im_11, im_3, im_24, im_156, im_340]; first | done | exact congrArg nI (by omega))) (by omega)) ⟨pk_in (24 + k) 156 (by omega) (by first | rfl | exact congrArg nI (by omega) | (simp only [nI_add, pk_mul, ir_0, ir_1, ir_2, ir_3, ir_4, ir_5, ir_6, ir_7, ir_8, ir_9, ir_13, il_4, il_12, il_16, il_24, il_36, il_60, il_84, il_100, il_108, il_132, il_340, im_5, im_7, im_10, im_11, im_3, im_24, im_156, im_340]; first | done | exact congrArg nI (by omega))), nm_r (gx_u (n := 24 + k) (by first | rfl | exact congrArg nI (by omega) | (simp only [nI_add, pk_mul, ir_0, ir_1, ir_2, ir_3, ir_4, ir_5, ir_6, ir_7, ir_8, ir_9, ir_13, il_4, il_12, il_16, il_24, il_36, il_60, il_84, il_100, il_108, il_132, il_340, im_5, im_7, im_10, im_11, im_3, im_24, im_156, im_340]; first | done | exact congrArg nI (by omega))) (by omega)) (f2 z).2⟩⟩⟩))
      have : k = m := (nI_eq (by omega) (by omega)).mp e
      subst this
      exact (f2 z).1
    · have e : k = 12 := by omega
      subst e
      exact br_t (nI_le (a := 12) (b := 12) (by omega) (by omega)) (f1 rfl)
  | succ d ih =>
    intro k hk
    exact br_f (nI_ge (b := 12) (by omega) (by decide)) (gy_isN1 (by omega) (hu k (by omega)) (br_f gx_10 (nm_r (nI_1 k) (ih (k + 1) (by omega)))))
theorem gy_node {post : Int32 → SY → Prop} {n l : Nat} {v : Int32} (hl : l ≤ 7) (hn : n ≤ 12) (hu : ∀ m, m < n → w m = 1) (f1 : n = 12 → post (-3) (yo, w, cp, fa)) (f2 : n < 12 → w n ≠ 1 ∧ post (nI n) (yo, upd (upd (upd w n 1) (12 + n) (nI l)) (24 + n) v, cp, fa)) : wpY_node post (yo, w, cp, fa) (nI l) v := by
  unfold wpY_node
  exact gy_lb1 hl (br_t rfl ⟨n + 1, gy_node_l hn hu f1 f2 n 0 (by omega)⟩)
end
theorem i_vc_node {k : Nat} {u : SX} {v : SY} (I : i_Rel k u v) (hk : k + 4 ≤ 2048) (v1 : Int32) (v2 : Int32) : wpX_node (fun r u' => wpY_node (fun r' v' => r' = r ∧ i_Rel (k + 4) u' v') v v1 v2) u v1 v2 := by
  obtain ⟨fo, fp, fc, fg, fw, ce, kc, ko, ik, kn, re, dn, qu, et, lo, ab, na, pi⟩ := u
  obtain ⟨yo, w, cp, fa⟩ := v
  obtain ⟨o, sn, ho, rfl, rfl, hj, hg, hs⟩ := I
  have I : i_Rel (k + 4) (nI o, fp, fc, fg, fw, ce, kc, ko, ik, kn, re, dn, qu, et, lo, ab, na, pi) (nI o, w, cp, fa) := gr_mk ho hj hg hs
  rcases le_or v1 7 with ⟨l, hl, rfl⟩ | h
  · obtain ⟨R, hr, hR⟩ := GW_row hg.2.2.2.2.1
    obtain ⟨fl, hf, hfp, hfm⟩ := hg.2.2.1
    have hN := hg.1
    refine rg_1 (N := 7) hl (by omega) ?_
    cases fl with
    | nil =>
      have hf0 : ce 0 = -1 := hf
      have hall : ∀ m, m < 12 → w m = 1 := fun m hm => by
        rcases Classical.em (w m = 1) with z | z
        · exact z
        · exact nomatch (hfm m).mpr ⟨hm, z⟩
      refine nm_r hf0 (br_f (by decide) ?_)
      exact gy_node (n := 12) hl (by omega) hall (fun _ => ⟨rfl, I⟩) (fun z => by omega)
    | cons n fl =>
      have hf0 : ce 0 = nI n := hf.1
      obtain ⟨hn, hw⟩ := (hfm n).mp List.mem_cons_self
      rw [List.pairwise_cons] at hfp
      have hless : ∀ m, m < n → w m = 1 := fun m hm => by
        rcases Classical.em (w m = 1) with z | z
        · exact z
        · rcases List.mem_cons.mp ((hfm m).mpr ⟨by omega, z⟩) with y | y
          · omega
          · have := hfp.1 m y; omega
      have hfm' : ∀ m, m ∈ fl ↔ m < 12 ∧ w m ≠ 1 ∧ m ≠ n := by
        intro m
        constructor
        · intro hm
          have := (hfm m).mp (List.mem_cons_of_mem _ hm)
          have h2 := hfp.1 m hm
          exact ⟨this.1, this.2, by omega⟩
        · rintro ⟨a, b, c⟩
          exact (List.mem_cons.mp ((hfm m).mpr ⟨a, b⟩)).elim (fun e => absurd e c) id
      have hL : nN w < 12 := cn_room (P := fun m => w m = 1) hw hn
      have e5 : ce (nI (16 + 7 * n) + 5).toNatClampNeg = ce (21 + 7 * n) := gx_c (by first | rfl | exact congrArg nI (by omega) | (simp only [nI_add, pk_mul, ir_0, ir_1, ir_2, ir_3, ir_4, ir_5, ir_6, ir_7, ir_8, ir_9, ir_13, il_4, il_12, il_16, il_24, il_36, il_60, il_84, il_100, il_108, il_132, il_340, im_5, im_7, im_10, im_11, im_3, im_24, im_156, im_340]; first | done | exact congrArg nI (by omega))) (by omega)
      refine nm_r hf0 (br_t (nI_pos' (by omega)) (gx_na ⟨pk_in (21 + 7 * n) 340 (by omega) (by first | rfl | exact congrArg nI (by omega) | (simp only [nI_add, pk_mul, ir_0, ir_1, ir_2, ir_3, ir_4, ir_5, ir_6, ir_7, ir_8, ir_9, ir_13, il_4, il_12, il_16, il_24, il_36, il_60, il_84, il_100, il_108, il_132, il_340, im_5, im_7, im_10, im_11, im_3, im_24, im_156, im_340]; first | done | exact congrArg nI (by omega))), ?_⟩))
      rw [e5]
      refine gj_put ho hj 0 (by omega) rfl ?_
      intro kc1 ko1 ik1 kn1 hj1
      refine gj_put ho hj1 (16 + 7 * n) (by omega) (by first | rfl | exact congrArg nI (by omega) | (simp only [nI_add, pk_mul, ir_0, ir_1, ir_2, ir_3, ir_4, ir_5, ir_6, ir_7, ir_8, ir_9, ir_13, il_4, il_12, il_16, il_24, il_36, il_60, il_84, il_100, il_108, il_132, il_340, im_5, im_7, im_10, im_11, im_3, im_24, im_156, im_340]; first | done | exact congrArg nI (by omega))) ?_
      intro kc2 ko2 ik2 kn2 hj2
      refine gj_put ho hj2 (17 + 7 * n) (by omega) (by first | rfl | exact congrArg nI (by omega) | (simp only [nI_add, pk_mul, ir_0, ir_1, ir_2, ir_3, ir_4, ir_5, ir_6, ir_7, ir_8, ir_9, ir_13, il_4, il_12, il_16, il_24, il_36, il_60, il_84, il_100, il_108, il_132, il_340, im_5, im_7, im_10, im_11, im_3, im_24, im_156, im_340]; first | done | exact congrArg nI (by omega))) ?_
      intro kc3 ko3 ik3 kn3 hj3
      refine gj_put ho hj3 (18 + 7 * n) (by omega) (by first | rfl | exact congrArg nI (by omega) | (simp only [nI_add, pk_mul, ir_0, ir_1, ir_2, ir_3, ir_4, ir_5, ir_6, ir_7, ir_8, ir_9, ir_13, il_4, il_12, il_16, il_24, il_36, il_60, il_84, il_100, il_108, il_132, il_340, im_5, im_7, im_10, im_11, im_3, im_24, im_156, im_340]; first | done | exact congrArg nI (by omega))) ?_
      intro kc4 ko4 ik4 kn4 hj4
      refine gj_put ho hj4 (19 + 7 * n) (by omega) (by first | rfl | exact congrArg nI (by omega) | (simp only [nI_add, pk_mul, ir_0, ir_1, ir_2, ir_3, ir_4, ir_5, ir_6, ir_7, ir_8, ir_9, ir_13, il_4, il_12, il_16, il_24, il_36, il_60, il_84, il_100, il_108, il_132, il_340, im_5, im_7, im_10, im_11, im_3, im_24, im_156, im_340]; first | done | exact congrArg nI (by omega))) ?_
      intro kc5 ko5 ik5 kn5 hj5
      refine gj_put ho hj5 (20 + 7 * n) (by omega) (by first | rfl | exact congrArg nI (by omega) | (simp only [nI_add, pk_mul, ir_0, ir_1, ir_2, ir_3, ir_4, ir_5, ir_6, ir_7, ir_8, ir_9, ir_13, il_4, il_12, il_16, il_24, il_36, il_60, il_84, il_100, il_108, il_132, il_340, im_5, im_7, im_10, im_11, im_3, im_24, im_156, im_340]; first | done | exact congrArg nI (by omega))) ?_
      intro kc6 ko6 ik6 kn6 hj6
      refine gj_put ho hj6 (22 + 7 * n) (by omega) (by first | rfl | exact congrArg nI (by omega) | (simp only [nI_add, pk_mul, ir_0, ir_1, ir_2, ir_3, ir_4, ir_5, ir_6, ir_7, ir_8, ir_9, ir_13, il_4, il_12, il_16, il_24, il_36, il_60, il_84, il_100, il_108, il_132, il_340, im_5, im_7, im_10, im_11, im_3, im_24, im_156, im_340]; first | done | exact congrArg nI (by omega))) ?_
      intro kc7 ko7 ik7 kn7 hj7
      -- the cells so far, as facts
      have hfacts : ∃ c7, c7 = upd (upd (upd (upd (upd (upd (upd ce 0 (ce (21 + 7 * n))) (16 + 7 * n) 1) (17 + 7 * n) (nI l)) (18 + 7 * n) v2) (19 + 7 * n) (-1)) (20 + 7 * n) (-1)) (22 + 7 * n) 0 := ⟨_, rfl⟩
      obtain ⟨c7, ec7⟩ := hfacts
      have d0 : c7 0 = ce (21 + 7 * n) := by rw [ec7, pk_un (by omega), pk_un (by omega), pk_un (by omega), pk_un (by omega), pk_un (by omega), pk_un (by omega), pk_us]
      have d16 : c7 (16 + 7 * n) = 1 := by rw [ec7, pk_un (by omega), pk_un (by omega), pk_un (by omega), pk_un (by omega), pk_un (by omega), pk_us]
      have d17 : c7 (17 + 7 * n) = nI l := by rw [ec7, pk_un (by omega), pk_un (by omega), pk_un (by omega), pk_un (by omega), pk_us]
      have d18 : c7 (18 + 7 * n) = v2 := by rw [ec7, pk_un (by omega), pk_un (by omega), pk_un (by omega), pk_us]
      have d19 : c7 (19 + 7 * n) = -1 := by rw [ec7, pk_un (by omega), pk_un (by omega), pk_us]
      have d20 : c7 (20 + 7 * n) = -1 := by rw [ec7, pk_un (by omega), pk_us]
      have d22 : c7 (22 + 7 * n) = 0 := by rw [ec7, pk_us]
      have dc : ∀ i, i ≠ 0 → (i < 16 + 7 * n ∨ 20 + 7 * n < i) → i ≠ 22 + 7 * n → c7 i = ce i := fun i i0 i1 i2 => by rw [ec7, pk_un (by omega), pk_un (by omega), pk_un (by omega), pk_un (by omega), pk_un (by omega), pk_un (by omega), pk_un (by omega)]
      rw [← ec7] at hj7
      refine Eq.mp (congrArg (fun c => wpX_insertInRow _ (nI o, fp, fc, fg, fw, c, kc7, ko7, ik7, kn7, re, dn, qu, et, lo, ab, na, pi) (nI n) v2) ec7) ?_
      have hr7 : RW c7 (nN w) R := ⟨(dc 2 (by omega) (by omega) (by omega)).trans hr.1, hr.2.1, fun k hk => ⟨(hr.2.2 k hk).1, (dc _ (by omega) (by omega) (by omega)).trans (hr.2.2 k hk).2⟩⟩
      have hel : ∀ k, k < nN w → R k < 12 ∧ w (R k) = 1 ∧ R k ≠ n := fun k hk => by
        have := hR.1 k hk
        exact ⟨this.1, this.2, fun e => hw (e ▸ this.2)⟩
      have hbl : ∀ k, k < nN w → (bl c7 R v2 n k ↔ kl (w (24 + R k)) (R k) v2 n) := fun k hk => by
        obtain ⟨a, b, c⟩ := hel k hk
        unfold bl
        rw [dc _ (by omega) (by omega) (by omega), ((hN _ a).2.2 b).2]
      refine gx_ins ho hj7 hn hL hr7 (fun i j hij hj' hb => ?_) ?_
      · rw [hbl i (by omega)]
        rw [hbl j hj'] at hb
        exact kl_tr (hR.2.2 i j hij hj') hb
      · intro p hp p1 p2
        rintro c8 kc8 ko8 ik8 kn8 hj8 ⟨r8, f8⟩
        refine gy_node (n := n) hl (by omega) hless (fun z => by omega) (fun _ => ⟨hw, rfl, gr_mk ho hj8 ?_ hs⟩)
        have hvk : ∀ k, k < nN w → upd (upd (upd w n 1) (12 + n) (nI l)) (24 + n) v2 (24 + R k) = w (24 + R k) := fun k hk => by
          obtain ⟨a, b, c⟩ := hel k hk
          rw [pk_un (by omega), pk_un (by omega), pk_un (by omega)]
        refine GR_new (fl := fl) (R := rIns p n R) hg hn hw hf.2 hfp.2 hfm' ?_ ?_ ?_ ?_ ?_ ?_ ?_ ?_ r8 ?_
        · rw [f8 0 (by omega) (by omega)]; exact d0
        · rw [f8 _ (by omega) (by omega)]; exact d16
        · rw [f8 _ (by omega) (by omega)]; exact d17
        · rw [f8 _ (by omega) (by omega)]; exact d18
        · rw [f8 _ (by omega) (by omega)]; exact d19
        · rw [f8 _ (by omega) (by omega)]; exact d20
        · rw [f8 _ (by omega) (by omega)]; exact d22
        · intro i i0 i1 i2 i3 i4
          rw [f8 i i1 i2]; exact dc i i0 i3 i4
        · refine Row_ins (U := uN' w) (val := fun m => upd (upd (upd w n 1) (12 + n) (nI l)) (24 + n) v2 (24 + m)) (v := v2) (Row_cg (fun _ => Iff.rfl) (fun m hm => ?_) hR) (fun z => hw z.2) hp pk_us (fun k hk => ?_) (fun k hk hkL z => ?_)
          · have hne : m ≠ n := fun e => hw (e ▸ hm.2)
            have h12 := hm.1
            show upd (upd (upd w n 1) (12 + n) (nI l)) (24 + n) v2 (24 + m) = w (24 + m)
            rw [pk_un (by omega), pk_un (by omega), pk_un (by omega)]
          · show kl (upd (upd (upd w n 1) (12 + n) (nI l)) (24 + n) v2 (24 + R k)) _ _ _
            rw [hvk k (by omega)]
            exact (hbl k (by omega)).mp (p1 k hk)
          · have z' : kl (upd (upd (upd w n 1) (12 + n) (nI l)) (24 + n) v2 (24 + R k)) (R k) v2 n := z
            rw [hvk k hkL] at z'
            exact p2 k hk hkL ((hbl k hkL).mpr z')
  · refine rg_0 (N := 7) (by omega) h ?_
    unfold wpY_node
    exact gy_lb0 h (br_f gx_10 ⟨rfl, I⟩)
end
section
/-! a new arrow, an arrow cut -/
/-- a node once more, if it is this one -/
def iq (n f : Nat) : Nat := if n = f then 1 else 0
theorem iq_t {n f : Nat} (h : n = f) : iq n f = 1 := if_pos h
theorem iq_f {n f : Nat} (h : n ≠ f) : iq n f = 0 := if_neg h
def mC (w : Nat → Int32) (s n x : Nat) : Prop := n < 12 ∧ mM w s n x
theorem GC_mC {c w : Nat → Int32} (h : GC c w) : CC c (uN' w) (mC w) := fun s n hs hn => by
  obtain ⟨l, h1, h2⟩ := h s n hs hn.1 hn.2
  exact ⟨l, h1, fun x => (h2 x).trans ⟨fun z => ⟨hn.1, z⟩, fun z => z.2⟩⟩
/-- the ends of an arrow -/
theorem GA_end {c w : Nat → Int32} (h : GA c w) {a : Nat} (ha : a < 24) (hw : w (36 + a) = 1) : mC w 0 (fr' w a) a ∧ mC w 1 (to' w a) a ∧ c (101 + 10 * a) = nI (fr' w a) ∧ c (102 + 10 * a) = nI (to' w a) ∧ uN' w (fr' w a) ∧ uN' w (to' w a) := by
  obtain ⟨p1, p2, p3, p4, gp⟩ := (h a ha).2.2 hw
  obtain ⟨f1, f2, f3⟩ := GP_fr gp
  obtain ⟨t1, t2, t3⟩ := GP_to gp
  exact ⟨⟨f2, ha, hw, f1⟩, ⟨t2, ha, hw, by rw [show 60 + 24 * 1 + a = 84 + a by omega]; exact t1⟩, p1.trans f1, p2.trans t1, ⟨f2, f3⟩, ⟨t2, t3⟩⟩
theorem GR_cut {c w c' : Nat → Int32} {a : Nat} {l' : List Nat} (hg : GR c w) (ha : a < 24) (hw : w (36 + a) = 1)
    (hl : LkF (fun k => c' (105 + 10 * k)) (c' 1) l') (hlp : l'.Pairwise (· < ·)) (hlm : ∀ x, x ∈ l' ↔ (x < 24 ∧ w (36 + x) ≠ 1) ∨ x = a)
    (hC : CC c' (uN' w) (fun s n x => (mC w s n x ∧ ¬ (s = 0 ∧ n = fr' w a ∧ x = a)) ∧ ¬ (s = 1 ∧ n = to' w a ∧ x = a)))
    (hH : ∀ n, n < 12 → w n = 1 → ∃ m, c' (22 + 7 * n) = nI m ∧ m + iq n (fr' w a) + iq n (to' w a) = nD w 0 n + nD w 1 n)
    (hT : ∃ m, c' 3 = nI m ∧ m + 1 = nA w) (h100 : c' (100 + 10 * a) = 0)
    (hn : ∀ n, n < 12 → c' (16 + 7 * n) = c (16 + 7 * n) ∧ c' (17 + 7 * n) = c (17 + 7 * n) ∧ c' (18 + 7 * n) = c (18 + 7 * n) ∧ c' (21 + 7 * n) = c (21 + 7 * n))
    (h0 : c' 0 = c 0) (h2 : c' 2 = c 2) (hr : ∀ k, k < 12 → c' (4 + k) = c (4 + k)) (hb : ∀ b j, b < 24 → b ≠ a → j < 5 → c' (100 + 10 * b + j) = c (100 + 10 * b + j)) : GR c' (upd w (36 + a) 0) := by
  obtain ⟨g1, g2, g3, g4, g5, g6, g7, g8⟩ := hg
  have hwl : ∀ i, i ≠ 36 + a → upd w (36 + a) 0 i = w i := fun i hi => pk_un hi
  have hwa : upd w (36 + a) 0 (36 + a) = 0 := pk_us
  have h01 : (0 : Int32) ≠ 1 := by decide
  obtain ⟨m0, m1, _, _, uf, ut⟩ := GA_end g2 ha hw
  have hu12 : ∀ n, uN' (upd w (36 + a) 0) n → uN' w n := fun n hn => ⟨hn.1, by have := hn.2; rw [hwl n (by have := hn.1; omega)] at this; exact this⟩
  have hnd : ∀ s n, s < 2 → n < 12 → nD (upd w (36 + a) 0) s n + iq n (if s = 0 then fr' w a else to' w a) = nD w s n := by
    intro s n hs hn12
    have hmem : ∀ x, x < 24 → x ≠ a → ((upd w (36 + a) 0 (36 + x) = 1 ∧ upd w (36 + a) 0 (60 + 24 * s + x) = nI n) ↔ (w (36 + x) = 1 ∧ w (60 + 24 * s + x) = nI n)) := fun x hx hne => by rw [hwl _ (by omega), hwl _ (by omega)]
    have hno : ¬ (upd w (36 + a) 0 (36 + a) = 1 ∧ upd w (36 + a) 0 (60 + 24 * s + a) = nI n) := fun z => h01 (hwa.symm.trans z.1)
    have hend : w (60 + 24 * s + a) = nI n ↔ n = (if s = 0 then fr' w a else to' w a) := by
      have : s = 0 ∨ s = 1 := by omega
      rcases this with rfl | rfl
      · rw [if_pos rfl]
        constructor
        · intro z; exact (nI_eq (by omega) (by have := m0.1; omega)).mp (z.symm.trans m0.2.2.2)
        · intro z; rw [z]; exact m0.2.2.2
      · rw [if_neg (by omega)]
        constructor
        · intro z; exact (nI_eq (by omega) (by have := m1.1; omega)).mp (z.symm.trans m1.2.2.2)
        · intro z; rw [z]; exact m1.2.2.2
    by_cases e : n = (if s = 0 then fr' w a else to' w a)
    · rw [iq_t e]
      exact (cn_one (a := a) hno ⟨hw, hend.mpr e⟩ (fun x hx hne => hmem x hx hne) ha).symm
    · rw [iq_f e]
      refine cn_eq fun x hx => ?_
      by_cases ex : x = a
      · subst ex
        exact ⟨fun z => absurd z hno, fun z => absurd (hend.mp z.2) e⟩
      · exact hmem x hx ex
  refine ⟨?_, ?_, ?_, ?_, ?_, ?_, ?_, ?_⟩
  · exact GN_fr (fun n hn12 => ⟨(hn n hn12).1, (hn n hn12).2.1, (hn n hn12).2.2.1⟩) (fun i hi => hwl i (by omega)) g1
  · intro b hb24
    by_cases e : b = a
    · subst e
      rw [hwa, h100]
      exact ⟨rfl, Or.inl rfl, fun z => absurd z h01⟩
    · exact GA_1 hb24 (fun n hn12 z => by rw [hwl n (by omega)]; exact z) (fun j hj => hb b j hb24 e hj) ⟨hwl _ (by omega), hwl _ (by omega), hwl _ (by omega), hwl _ (by omega), hwl _ (by omega)⟩ g2
  · exact GF_fr h0 (fun n hn12 => (hn n hn12).2.2.2) (fun n hn12 => hwl n (by omega)) g3
  · refine ⟨l', hl, hlp, fun x => ?_⟩
    rw [hlm x]
    constructor
    · rintro (⟨x1, x2⟩ | e)
      · have : x ≠ a := fun e => x2 (e ▸ hw)
        exact ⟨x1, by rw [hwl _ (by omega)]; exact x2⟩
      · rw [e, hwa]; exact ⟨ha, h01⟩
    · rintro ⟨x1, x2⟩
      by_cases e : x = a
      · exact Or.inr e
      · rw [hwl _ (by omega)] at x2; exact Or.inl ⟨x1, x2⟩
  · exact GW_fr h2 hr (fun n hn12 => ⟨hwl _ (by omega), hwl _ (by omega)⟩) g5
  · refine CC_GC hu12 (fun s n x hs hn12 => ?_) hC
    have h12 := hn12.1
    constructor
    · rintro ⟨x1, x2, x3⟩
      have ex : x ≠ a := fun e => by rw [e, hwa] at x2; exact h01 x2
      rw [hwl _ (by omega)] at x2 x3
      exact ⟨⟨⟨h12, x1, x2, x3⟩, fun z => ex z.2.2⟩, fun z => ex z.2.2⟩
    · rintro ⟨⟨⟨_, x1, x2, x3⟩, y0⟩, y1⟩
      have ex : x ≠ a := by
        intro e
        subst e
        have : s = 0 ∨ s = 1 := by omega
        rcases this with rfl | rfl
        · exact y0 ⟨rfl, (nI_eq (by omega) (by have := m0.1; omega)).mp (x3.symm.trans m0.2.2.2), rfl⟩
        · exact y1 ⟨rfl, (nI_eq (by omega) (by have := m1.1; omega)).mp (x3.symm.trans m1.2.2.2), rfl⟩
      exact ⟨x1, by rw [hwl _ (by omega)]; exact x2, by rw [hwl _ (by omega)]; exact x3⟩
  · intro n hn12 hwn
    rw [hwl n (by omega)] at hwn
    obtain ⟨m, e1, e2⟩ := hH n hn12 hwn
    have q0 := hnd 0 n (by omega) hn12
    have q1 := hnd 1 n (by omega) hn12
    rw [if_pos rfl] at q0
    rw [if_neg (by omega)] at q1
    rw [e1]; exact congrArg nI (by omega)
  · obtain ⟨m, e1, e2⟩ := hT
    have : nA w = nA (upd w (36 + a) 0) + 1 := cn_one (P := fun x => upd w (36 + a) 0 (36 + x) = 1) (Q := fun x => w (36 + x) = 1) (a := a) (fun z => h01 (hwa.symm.trans z)) hw (fun x hx hne => by rw [hwl _ (by omega)]) ha
    show c' 3 = _
    rw [e1]; exact congrArg nI (by omega)
section
variable {fo fp fc fg fw : Int32} {ce kc ko ik kn re dn qu et lo ab na pi : Nat → Int32} {w : Nat → Int32}
theorem gx_cut {post : SX → Prop} {o : Nat} {sn : Nat → Nat → Int32} {a : Nat} (ho : o ≤ 4) (hj : JR o sn kc ko ik kn ce) (hg : GR ce w) (ha : a < 24) (hw : w (36 + a) = 1)
    (K : (∀ (ce' kc' ko' ik' kn' : Nat → Int32), JR o sn kc' ko' ik' kn' ce' → (GR ce' (upd w (36 + a) 0)) → post (nI o, fp, fc, fg, fw, ce', kc', ko', ik', kn', re, dn, qu, et, lo, ab, na, pi))) : wpX_cutArrow post (nI o, fp, fc, fg, fw, ce, kc, ko, ik, kn, re, dn, qu, et, lo, ab, na, pi) (nI a) := by
  obtain ⟨g1, g2, g3, g4, g5, g6, g7, g8⟩ := id hg
  obtain ⟨m0, m1, ef, et', uf, ut⟩ := GA_end g2 ha hw
  obtain ⟨fl, fl1, fl2, fl3⟩ := g4
  have f12 := uf.1
  have t12 := ut.1
  have hMlt : ∀ s n x, s < 2 → mC w s n x → x < 24 := fun s n x _ z => z.2.1
  unfold wpX_cutArrow
  refine gx_aa ?_
  refine gx_unchC (s := 0) (f := fr' w a) ho hj ha (by omega) rfl uf (fun n hn => hn.1) ef (GC_mC g6) hMlt mM_dis m0 ?_
  rintro c1 kc1 ko1 ik1 kn1 hj1 ⟨C1, F1⟩
  refine gx_unchC (s := 1) (f := to' w a) ho hj1 ha (by omega) rfl ut (fun n hn => hn.1) ?_ C1 (fun s n x hs z => hMlt s n x hs z.1) (fun s n n' x z z' => mM_dis s n n' x z.1 z'.1) ⟨m1, fun z => by omega⟩ ?_
  · rw [show 101 + 10 * a + 1 = 102 + 10 * a by omega, F1 _ (by omega) (fun x _ _ => ⟨by omega, by omega⟩)]; exact et'
  rintro c2 kc2 ko2 ik2 kn2 hj2 ⟨C2, F2⟩
  -- the two frames in one
  have F : ∀ i, i ≠ 19 + 7 * fr' w a → i ≠ 20 + 7 * to' w a → (∀ x, x < 24 → w (36 + x) = 1 → i ≠ 105 + 10 * x ∧ i ≠ 106 + 10 * x ∧ i ≠ 107 + 10 * x ∧ i ≠ 108 + 10 * x) → c2 i = ce i := by
    intro i i1 i2 i3
    rw [F2 i (by omega) (fun x hx z => ⟨by have := (i3 x hx z.1.2.2.1).2.1; omega, by have := (i3 x hx z.1.2.2.1).2.2.2; omega⟩)]
    exact F1 i (by omega) (fun x hx z => ⟨by have := (i3 x hx z.2.2.1).1; omega, by have := (i3 x hx z.2.2.1).2.2.1; omega⟩)
  have Flow : ∀ i, i < 100 → (∀ n s, n < 12 → s < 2 → i ≠ 19 + 7 * n + s) → c2 i = ce i := fun i hi h => F i (fun e => h (fr' w a) 0 f12 (by omega) (by omega)) (fun e => h (to' w a) 1 t12 (by omega) (by omega)) (fun x _ _ => ⟨by omega, by omega, by omega, by omega⟩)
  have e1 : c2 (nI (100 + 10 * a) + 1).toNatClampNeg = nI (fr' w a) := (gx_c (n := 101 + 10 * a) (by first | rfl | exact congrArg nI (by omega) | (simp only [nI_add, pk_mul, ir_0, ir_1, ir_2, ir_3, ir_4, ir_5, ir_6, ir_7, ir_8, ir_9, ir_13, il_4, il_12, il_16, il_24, il_36, il_60, il_84, il_100, il_108, il_132, il_340, im_5, im_7, im_10, im_11, im_3, im_24, im_156, im_340]; first | done | exact congrArg nI (by omega))) (by omega)).trans ((F _ (by omega) (by omega) (fun x _ _ => ⟨by omega, by omega, by omega, by omega⟩)).trans ef)
  refine ⟨pk_in (101 + 10 * a) 340 (by omega) (by first | rfl | exact congrArg nI (by omega) | (simp only [nI_add, pk_mul, ir_0, ir_1, ir_2, ir_3, ir_4, ir_5, ir_6, ir_7, ir_8, ir_9, ir_13, il_4, il_12, il_16, il_24, il_36, il_60, il_84, il_100, il_108, il_132, il_340, im_5, im_7, im_10, im_11, im_3, im_24, im_156, im_340]; first | done | exact congrArg nI (by omega))), ?_⟩
  rw [e1]
  refine gx_na ?_
  have hHf := g7 (fr' w a) f12 uf.2
  have hHt := g7 (to' w a) t12 ut.2
  have p0 : 0 < nD w 0 (fr' w a) := cn_pos (P := fun x => w (36 + x) = 1 ∧ w (60 + 24 * 0 + x) = nI (fr' w a)) (a := a) m0.2.2 ha
  have p1 : 0 < nD w 1 (to' w a) := cn_pos (P := fun x => w (36 + x) = 1 ∧ w (60 + 24 * 1 + x) = nI (to' w a)) (a := a) m1.2.2 ha
  refine gj_add ho hj2 (22 + 7 * fr' w a) (by omega) (by first | rfl | exact congrArg nI (by omega) | (simp only [nI_add, pk_mul, ir_0, ir_1, ir_2, ir_3, ir_4, ir_5, ir_6, ir_7, ir_8, ir_9, ir_13, il_4, il_12, il_16, il_24, il_36, il_60, il_84, il_100, il_108, il_132, il_340, im_5, im_7, im_10, im_11, im_3, im_24, im_156, im_340]; first | done | exact congrArg nI (by omega))) (v := nI (nD w 0 (fr' w a) + nD w 1 (fr' w a) - 1)) (by rw [Flow _ (by omega) (fun n s _ _ => by omega), hHf]; exact sb_m1 (by omega)) ?_
  intro kc3 ko3 ik3 kn3 hj3
  refine ⟨pk_in (102 + 10 * a) 340 (by omega) (by first | rfl | exact congrArg nI (by omega) | (simp only [nI_add, pk_mul, ir_0, ir_1, ir_2, ir_3, ir_4, ir_5, ir_6, ir_7, ir_8, ir_9, ir_13, il_4, il_12, il_16, il_24, il_36, il_60, il_84, il_100, il_108, il_132, il_340, im_5, im_7, im_10, im_11, im_3, im_24, im_156, im_340]; first | done | exact congrArg nI (by omega))), ?_⟩
  have e2 : upd c2 (22 + 7 * fr' w a) (nI (nD w 0 (fr' w a) + nD w 1 (fr' w a) - 1)) (nI (100 + 10 * a) + 1 + 1).toNatClampNeg = nI (to' w a) := (gx_c (n := 102 + 10 * a) (by first | rfl | exact congrArg nI (by omega) | (simp only [nI_add, pk_mul, ir_0, ir_1, ir_2, ir_3, ir_4, ir_5, ir_6, ir_7, ir_8, ir_9, ir_13, il_4, il_12, il_16, il_24, il_36, il_60, il_84, il_100, il_108, il_132, il_340, im_5, im_7, im_10, im_11, im_3, im_24, im_156, im_340]; first | done | exact congrArg nI (by omega))) (by omega)).trans ((pk_un (by omega)).trans ((F _ (by omega) (by omega) (fun x _ _ => ⟨by omega, by omega, by omega, by omega⟩)).trans et'))
  rw [e2]
  refine gx_na ?_
  have ev : upd c2 (22 + 7 * fr' w a) (nI (nD w 0 (fr' w a) + nD w 1 (fr' w a) - 1)) (22 + 7 * to' w a) + (-1) = nI (nD w 0 (to' w a) + nD w 1 (to' w a) - iq (to' w a) (fr' w a) - 1) := by
    by_cases e : to' w a = fr' w a
    · rw [e, pk_us, iq_t rfl]
      rw [e] at p1
      exact sb_m1 (by omega)
    · rw [pk_un (by omega), iq_f e, Flow _ (by omega) (fun n s _ _ => by omega), hHt]
      exact sb_m1 (by omega)
  refine gj_add ho hj3 (22 + 7 * to' w a) (by omega) (by first | rfl | exact congrArg nI (by omega) | (simp only [nI_add, pk_mul, ir_0, ir_1, ir_2, ir_3, ir_4, ir_5, ir_6, ir_7, ir_8, ir_9, ir_13, il_4, il_12, il_16, il_24, il_36, il_60, il_84, il_100, il_108, il_132, il_340, im_5, im_7, im_10, im_11, im_3, im_24, im_156, im_340]; first | done | exact congrArg nI (by omega))) ev ?_
  intro kc4 ko4 ik4 kn4 hj4
  refine gj_put ho hj4 (100 + 10 * a) (by omega) (by first | rfl | exact congrArg nI (by omega) | (simp only [nI_add, pk_mul, ir_0, ir_1, ir_2, ir_3, ir_4, ir_5, ir_6, ir_7, ir_8, ir_9, ir_13, il_4, il_12, il_16, il_24, il_36, il_60, il_84, il_100, il_108, il_132, il_340, im_5, im_7, im_10, im_11, im_3, im_24, im_156, im_340]; first | done | exact congrArg nI (by omega))) ?_
  intro kc5 ko5 ik5 kn5 hj5
  generalize ec5 : upd (upd (upd c2 (22 + 7 * fr' w a) (nI (nD w 0 (fr' w a) + nD w 1 (fr' w a) - 1))) (22 + 7 * to' w a) (nI (nD w 0 (to' w a) + nD w 1 (to' w a) - iq (to' w a) (fr' w a) - 1))) (100 + 10 * a) 0 = c5 at hj5 ⊢
  have d5 : ∀ i, i ≠ 22 + 7 * fr' w a → i ≠ 22 + 7 * to' w a → i ≠ 100 + 10 * a → c5 i = c2 i := fun i i1 i2 i3 => by rw [← ec5, pk_un i3, pk_un i2, pk_un i1]
  have hfree : ∀ x, x ∈ fl → x < 24 ∧ x ≠ a := fun x hx => ⟨((fl3 x).mp hx).1, fun e => ((fl3 x).mp hx).2 (e ▸ hw)⟩
  refine gx_gb_a (l := fl) ho hj5 ha (fun x hx => (hfree x hx).1) (fun z => ((fl3 a).mp z).2 hw) ?_ fl2 ?_
  · rw [d5 1 (by omega) (by omega) (by omega), Flow 1 (by omega) (fun n s _ _ => by omega)]
    refine LkF_congr (fun x hx => ?_) fl1
    have hx24 := (hfree x hx).1
    show c5 (105 + 10 * x) = ce (105 + 10 * x)
    rw [d5 _ (by omega) (by omega) (by omega)]
    refine F _ (by omega) (by omega) (fun y hy hwy => ⟨fun e => ?_, by omega, by omega, by omega⟩)
    have : x = y := by omega
    subst this
    exact ((fl3 x).mp hx).2 hwy
  · intro l'
    rintro c6 kc6 ko6 ik6 kn6 hj6 ⟨L1, L2, L3, F6⟩
    have d6 : ∀ i, i ≠ 1 → (∀ x, x < 24 → i ≠ 105 + 10 * x) → c6 i = c5 i := fun i i1 i2 => F6 i i1 (i2 a ha) (fun x hx => i2 x (hfree x hx).1)
    have hA0 : 0 < nA w := cn_pos (P := fun x => w (36 + x) = 1) hw ha
    refine gj_add ho hj6 3 (by omega) rfl (v := nI (nA w - 1)) ?_ ?_
    · rw [d6 3 (by omega) (fun x _ => by omega), d5 3 (by omega) (by omega) (by omega), Flow 3 (by omega) (fun n s _ _ => by omega)]
      have : ce 3 = nI (nA w) := g8
      rw [this]
      exact sb_m1 hA0
    intro kc7 ko7 ik7 kn7 hj7
    refine K _ kc7 ko7 ik7 kn7 hj7 ?_
    have dlow : ∀ i, i < 100 → i ≠ 1 → i ≠ 3 → (∀ n s, n < 12 → s < 2 → i ≠ 19 + 7 * n + s) → (∀ n, n < 12 → i ≠ 22 + 7 * n) → upd c6 3 (nI (nA w - 1)) i = ce i := fun i hi i1 i3 i4 i5 => by
      rw [pk_un i3, d6 i i1 (fun x _ => by omega), d5 i (i5 _ f12) (i5 _ t12) (by omega), Flow i hi i4]
    refine GR_cut (l' := l') hg ha hw ?_ L2 (fun x => (L3 x).trans ⟨fun z => z.elim (fun y => Or.inl ((fl3 x).mp y)) Or.inr, fun z => z.elim (fun y => Or.inl ((fl3 x).mpr y)) Or.inr⟩) ?_ ?_ ⟨nA w - 1, pk_us, by omega⟩ ?_ (fun n hn => ⟨?_, ?_, ?_, ?_⟩) ?_ ?_ ?_ ?_
    · rw [pk_un (by omega)]
      exact LkF_congr (fun x _ => pk_un (by omega)) L1
    · refine CC_fr (fun n hn => hn.1) (fun s n hs hn => ?_) (fun s n x hs hn hx => ⟨?_, ?_⟩) C2
      · have := hn.1
        rw [pk_un (by omega), d6 _ (by omega) (fun x _ => by omega), d5 _ (by omega) (by omega) (by omega)]
      · have hx24 := hx.1.1.2.1
        have hxw := hx.1.1.2.2.1
        rw [pk_un (by omega)]
        have hxa : s = 0 → x ≠ a := by
          intro es ex
          subst es ex
          exact hx.1.2 ⟨rfl, mM_dis 0 n (fr' w x) x hx.1.1 m0, rfl⟩
        rw [F6 _ (by omega) (fun e => hxa (by omega) (by omega)) (fun y hy e => by
          have h1 : s = 0 := by omega
          have h2 : x = y := by omega
          subst h2
          exact ((fl3 x).mp hy).2 hxw), d5 _ (by omega) (by omega) (by omega)]
      · rw [pk_un (by omega), d6 _ (by omega) (fun y _ => by omega), d5 _ (by omega) (by omega) (by omega)]
    · intro n hn hwn
      have hHn := g7 n hn hwn
      have e3 : upd c6 3 (nI (nA w - 1)) (22 + 7 * n) = c5 (22 + 7 * n) := by rw [pk_un (by omega), d6 _ (by omega) (fun x _ => by omega)]
      rw [e3, ← ec5, pk_un (show 22 + 7 * n ≠ 100 + 10 * a by omega)]
      by_cases q1 : n = to' w a
      · have q1' : 22 + 7 * n = 22 + 7 * to' w a := by omega
        rw [q1', pk_us]
        refine ⟨_, rfl, ?_⟩
        rw [q1, iq_t (n := to' w a) (f := to' w a) rfl]
        by_cases q2 : to' w a = fr' w a
        · rw [iq_t q2]
          rw [← q2] at p0
          omega
        · rw [iq_f q2]; omega
      · rw [pk_un (by omega)]
        by_cases q2 : n = fr' w a
        · have q2' : 22 + 7 * n = 22 + 7 * fr' w a := by omega
          rw [q2', pk_us]
          refine ⟨_, rfl, ?_⟩
          rw [iq_f q1, iq_t q2, q2]; omega
        · rw [pk_un (by omega), Flow _ (by omega) (fun m s _ _ => by omega)]
          exact ⟨_, hHn, by rw [iq_f q1, iq_f q2]; omega⟩
    · rw [pk_un (by omega), d6 _ (by omega) (fun x _ => by omega), ← ec5, pk_us]
    · exact dlow _ (by omega) (by omega) (by omega) (fun m s _ _ => by omega) (fun m _ => by omega)
    · exact dlow _ (by omega) (by omega) (by omega) (fun m s _ _ => by omega) (fun m _ => by omega)
    · exact dlow _ (by omega) (by omega) (by omega) (fun m s _ _ => by omega) (fun m _ => by omega)
    · exact dlow _ (by omega) (by omega) (by omega) (fun m s _ _ => by omega) (fun m _ => by omega)
    · exact dlow _ (by omega) (by omega) (by omega) (fun m s _ _ => by omega) (fun m _ => by omega)
    · exact dlow _ (by omega) (by omega) (by omega) (fun m s _ _ => by omega) (fun m _ => by omega)
    · intro k hk
      exact dlow _ (by omega) (by omega) (by omega) (fun m s _ _ => by omega) (fun m _ => by omega)
    · intro b j hb24 hba hj5'
      rw [pk_un (by omega), d6 _ (by omega) (fun x _ => by omega), d5 _ (by omega) (by omega) (by omega)]
      exact F _ (by omega) (by omega) (fun x _ _ => ⟨by omega, by omega, by omega, by omega⟩)
end
section
variable {yo : Int32} {w cp fa : Nat → Int32}
theorem gy_cnt_l {post : Int32 → Prop} (hp : post (nI (nA w))) : ∀ d k, k + d = 24 → wY_countArrows_4 post yo w cp fa (d + 1) (nI (cn (fun a => w (36 + a) = 1) k)) (nI k) := by
  intro d
  induction d with
  | zero =>
    intro k hk
    have : k = 24 := by omega
    subst this
    exact br_t (nI_le (a := 24) (b := 24) (by omega) (by omega)) hp
  | succ d ih =>
    intro k hk
    have hn := ih (k + 1) (by omega)
    simp only [cn] at hn
    refine br_f (nI_ge (b := 24) (by omega) (by decide)) ?_
    by_cases q : w (36 + k) = 1
    · rw [gs_bt q] at hn
      exact gy_isA1 (by omega) q (br_f gx_10 (nm_r (nI_1 _) (nm_r (nI_1 k) hn)))
    · rw [gs_bf q] at hn
      refine gy_isA0 (fun b hb e => ?_) (br_t rfl (nm_r (nI_1 k) hn))
      have : k = b := (nI_eq (by omega) (by omega)).mp e
      subst this; exact q
end
theorem i_vc_cut {k : Nat} {u : SX} {v : SY} (I : i_Rel k u v) (hk : k + 4 ≤ 2048) (v1 : Int32) : wpX_cut (fun r u' => wpY_cut (fun r' v' => r' = r ∧ i_Rel (k + 4) u' v') v v1) u v1 := by
  obtain ⟨fo, fp, fc, fg, fw, ce, kc, ko, ik, kn, re, dn, qu, et, lo, ab, na, pi⟩ := u
  obtain ⟨yo, w, cp, fa⟩ := v
  obtain ⟨o, sn, ho, rfl, rfl, hj, hg, hs⟩ := I
  have I : i_Rel (k + 4) (nI o, fp, fc, fg, fw, ce, kc, ko, ik, kn, re, dn, qu, et, lo, ab, na, pi) (nI o, w, cp, fa) := gr_mk ho hj hg hs
  unfold wpX_cut
  rcases ar_or w v1 with ⟨a, ha, rfl, hw⟩ | h
  · refine gx_isA1 hg.2.1 ha hw (br_f gx_10 ?_)
    refine gx_cut ho hj hg ha hw ?_
    intro ce' kc' ko' ik' kn' hj' hg'
    show wpY_cut _ _ _
    unfold wpY_cut
    refine gy_isA1 ha hw (br_f gx_10 ⟨pk_in (36 + a) 156 (by omega) (by first | rfl | exact congrArg nI (by omega) | (simp only [nI_add, pk_mul, ir_0, ir_1, ir_2, ir_3, ir_4, ir_5, ir_6, ir_7, ir_8, ir_9, ir_13, il_4, il_12, il_16, il_24, il_36, il_60, il_84, il_100, il_108, il_132, il_340, im_5, im_7, im_10, im_11, im_3, im_24, im_156, im_340]; first | done | exact congrArg nI (by omega))), nm_r (gx_u (n := 36 + a) (by first | rfl | exact congrArg nI (by omega) | (simp only [nI_add, pk_mul, ir_0, ir_1, ir_2, ir_3, ir_4, ir_5, ir_6, ir_7, ir_8, ir_9, ir_13, il_4, il_12, il_16, il_24, il_36, il_60, il_84, il_100, il_108, il_132, il_340, im_5, im_7, im_10, im_11, im_3, im_24, im_156, im_340]; first | done | exact congrArg nI (by omega))) (by omega)) ⟨25, gy_cnt_l ⟨?_, gr_mk ho hj' hg' hs⟩ 24 0 rfl⟩⟩)
    exact hg'.2.2.2.2.2.2.2.symm
  · refine gx_isA0 hg.2.1 h (br_t rfl ?_)
    unfold wpY_cut
    exact gy_isA0 h (br_t rfl ⟨rfl, I⟩)
end
section
/-! a new arrow -/
def wArr (w : Nat → Int32) (a f t y g : Nat) : Nat → Int32 := upd (upd (upd (upd (upd w (36 + a) 1) (60 + a) (nI f)) (84 + a) (nI t)) (108 + a) (nI y)) (132 + a) (nI g)
theorem wArr_o {w : Nat → Int32} {a f t y g i : Nat} (h0 : i ≠ 36 + a) (h1 : i ≠ 60 + a) (h2 : i ≠ 84 + a) (h3 : i ≠ 108 + a) (h4 : i ≠ 132 + a) : wArr w a f t y g i = w i := by
  unfold wArr; rw [pk_un h4, pk_un h3, pk_un h2, pk_un h1, pk_un h0]
theorem wArr_a {w : Nat → Int32} {a f t y g : Nat} (ha : a < 24) : wArr w a f t y g (36 + a) = 1 ∧ wArr w a f t y g (60 + a) = nI f ∧ wArr w a f t y g (84 + a) = nI t ∧ wArr w a f t y g (108 + a) = nI y ∧ wArr w a f t y g (132 + a) = nI g := by
  unfold wArr
  refine ⟨?_, ?_, ?_, ?_, pk_us⟩
  · rw [pk_un (by omega), pk_un (by omega), pk_un (by omega), pk_un (by omega), pk_us]
  · rw [pk_un (by omega), pk_un (by omega), pk_un (by omega), pk_us]
  · rw [pk_un (by omega), pk_un (by omega), pk_us]
  · rw [pk_un (by omega), pk_us]
theorem GR_arr {c w c' : Nat → Int32} {a f t y g : Nat} {fl : List Nat} (hg : GR c w) (ha : a < 24) (hw : w (36 + a) ≠ 1) (uf : uN' w f) (ut : uN' w t) (hy : y ≤ 3) (hg99 : g ≤ 99)
    (hl : LkF (fun k => c' (105 + 10 * k)) (c' 1) fl) (hlp : fl.Pairwise (· < ·)) (hlm : ∀ x, x ∈ fl ↔ x < 24 ∧ w (36 + x) ≠ 1 ∧ x ≠ a)
    (hC : CC c' (uN' w) (fun s n x => (mC w s n x ∨ (s = 0 ∧ n = f ∧ x = a)) ∨ (s = 1 ∧ n = t ∧ x = a)))
    (hH : ∀ n, n < 12 → w n = 1 → c' (22 + 7 * n) = nI (nD w 0 n + nD w 1 n + iq n f + iq n t))
    (hT : c' 3 = nI (nA w + 1)) (h100 : c' (100 + 10 * a) = 1) (h101 : c' (101 + 10 * a) = nI f) (h102 : c' (102 + 10 * a) = nI t) (h103 : c' (103 + 10 * a) = nI y) (h104 : c' (104 + 10 * a) = nI g)
    (hn : ∀ n, n < 12 → c' (16 + 7 * n) = c (16 + 7 * n) ∧ c' (17 + 7 * n) = c (17 + 7 * n) ∧ c' (18 + 7 * n) = c (18 + 7 * n) ∧ c' (21 + 7 * n) = c (21 + 7 * n))
    (h0 : c' 0 = c 0) (h2 : c' 2 = c 2) (hr : ∀ k, k < 12 → c' (4 + k) = c (4 + k)) (hb : ∀ b j, b < 24 → b ≠ a → j < 5 → c' (100 + 10 * b + j) = c (100 + 10 * b + j)) : GR c' (wArr w a f t y g) := by
  obtain ⟨g1, g2, g3, g4, g5, g6, g7, g8⟩ := hg
  obtain ⟨a1, a2, a3, a4, a5⟩ := wArr_a (w := w) (f := f) (t := t) (y := y) (g := g) ha
  have f12 := uf.1
  have t12 := ut.1
  have hwl : ∀ i, i < 36 → wArr w a f t y g i = w i := fun i hi => wArr_o (by omega) (by omega) (by omega) (by omega) (by omega)
  have hwb : ∀ b j, b < 24 → b ≠ a → j ≤ 4 → wArr w a f t y g (36 + 24 * j + b) = w (36 + 24 * j + b) := fun b j hb hne hj => wArr_o (by omega) (by omega) (by omega) (by omega) (by omega)
  have hend : ∀ s n, s < 2 → n < 12 → (wArr w a f t y g (60 + 24 * s + a) = nI n ↔ n = (if s = 0 then f else t)) := by
    intro s n hs hn12
    have : s = 0 ∨ s = 1 := by omega
    rcases this with rfl | rfl
    · rw [if_pos rfl, show 60 + 24 * 0 + a = 60 + a by omega, a2]
      constructor
      · intro z; exact ((nI_eq (by omega) (by omega)).mp z).symm
      · intro z; rw [z]
    · rw [if_neg (by omega), show 60 + 24 * 1 + a = 84 + a by omega, a3]
      constructor
      · intro z; exact ((nI_eq (by omega) (by omega)).mp z).symm
      · intro z; rw [z]
  have hmem : ∀ s n x, s < 2 → x < 24 → x ≠ a → ((wArr w a f t y g (36 + x) = 1 ∧ wArr w a f t y g (60 + 24 * s + x) = nI n) ↔ (w (36 + x) = 1 ∧ w (60 + 24 * s + x) = nI n)) := by
    intro s n x hs hx hne
    rw [wArr_o (by omega) (by omega) (by omega) (by omega) (by omega), wArr_o (by omega) (by omega) (by omega) (by omega) (by omega)]
  have hnd : ∀ s n, s < 2 → n < 12 → nD (wArr w a f t y g) s n = nD w s n + iq n (if s = 0 then f else t) := by
    intro s n hs hn12
    have hno : ¬ (w (36 + a) = 1 ∧ w (60 + 24 * s + a) = nI n) := fun z => hw z.1
    by_cases e : n = (if s = 0 then f else t)
    · rw [iq_t e]
      exact cn_one (a := a) hno ⟨a1, (hend s n hs hn12).mpr e⟩ (fun x hx hne => (hmem s n x hs hx hne).symm) ha
    · rw [iq_f e, Nat.add_zero]
      unfold nD
      refine cn_eq fun x hx => ?_
      by_cases ex : x = a
      · subst ex
        exact ⟨fun z => absurd ((hend s n hs hn12).mp z.2) e, fun z => absurd z hno⟩
      · exact hmem s n x hs hx ex
  refine ⟨?_, ?_, ?_, ?_, ?_, ?_, ?_, ?_⟩
  · exact GN_fr (fun n hn12 => ⟨(hn n hn12).1, (hn n hn12).2.1, (hn n hn12).2.2.1⟩) hwl g1
  · intro b hb24
    by_cases e : b = a
    · subst e
      rw [a1, a2, a3, a4, a5]
      refine ⟨h100, Or.inr rfl, fun _ => ⟨h101, h102, h103, h104, ⟨f, a2, f12, ?_⟩, ⟨t, a3, t12, ?_⟩, ⟨y, a4, hy⟩, ⟨g, a5, hg99⟩⟩⟩
      · rw [hwl f (by omega)]; exact uf.2
      · rw [hwl t (by omega)]; exact ut.2
    · refine GA_1 hb24 (fun n hn12 z => by rw [hwl n (by omega)]; exact z) (fun j hj => hb b j hb24 e hj) ⟨?_, ?_, ?_, ?_, ?_⟩ g2
      · exact wArr_o (by omega) (by omega) (by omega) (by omega) (by omega)
      · exact wArr_o (by omega) (by omega) (by omega) (by omega) (by omega)
      · exact wArr_o (by omega) (by omega) (by omega) (by omega) (by omega)
      · exact wArr_o (by omega) (by omega) (by omega) (by omega) (by omega)
      · exact wArr_o (by omega) (by omega) (by omega) (by omega) (by omega)
  · exact GF_fr h0 (fun n hn12 => (hn n hn12).2.2.2) (fun n hn12 => hwl n (by omega)) g3
  · refine ⟨fl, hl, hlp, fun x => ?_⟩
    rw [hlm x]
    constructor
    · rintro ⟨x1, x2, x3⟩
      exact ⟨x1, by rw [wArr_o (by omega) (by omega) (by omega) (by omega) (by omega)]; exact x2⟩
    · rintro ⟨x1, x2⟩
      have ex : x ≠ a := fun e => x2 (e ▸ a1)
      rw [wArr_o (by omega) (by omega) (by omega) (by omega) (by omega)] at x2
      exact ⟨x1, x2, ex⟩
  · exact GW_fr h2 hr (fun n hn12 => ⟨hwl _ (by omega), hwl _ (by omega)⟩) g5
  · refine CC_GC (fun n hn12 => ⟨hn12.1, by have h := hn12.2; rw [hwl n (by have := hn12.1; omega)] at h; exact h⟩) (fun s n x hs hn12 => ?_) hC
    have h12 := hn12.1
    constructor
    · rintro ⟨x1, x2, x3⟩
      by_cases ex : x = a
      · subst ex
        have hq := (hend s n hs h12).mp x3
        have : s = 0 ∨ s = 1 := by omega
        rcases this with rfl | rfl
        · rw [if_pos rfl] at hq; exact Or.inl (Or.inr ⟨rfl, hq, rfl⟩)
        · rw [if_neg (by omega)] at hq; exact Or.inr ⟨rfl, hq, rfl⟩
      · have := (hmem s n x hs x1 ex).mp ⟨x2, x3⟩
        exact Or.inl (Or.inl ⟨h12, x1, this.1, this.2⟩)
    · rintro ((⟨_, x1, x2, x3⟩ | ⟨q1, q2, q3⟩) | ⟨q1, q2, q3⟩)
      · have ex : x ≠ a := fun e => hw (e ▸ x2)
        have := (hmem s n x hs x1 ex).mpr ⟨x2, x3⟩
        exact ⟨x1, this.1, this.2⟩
      · subst q1 q3; exact ⟨ha, a1, (hend 0 n hs h12).mpr (by rw [if_pos rfl]; exact q2)⟩
      · subst q1 q3; exact ⟨ha, a1, (hend 1 n hs h12).mpr (by rw [if_neg (by omega)]; exact q2)⟩
  · intro n hn12 hwn
    rw [hwl n (by omega)] at hwn
    have q0 := hnd 0 n (by omega) hn12
    have q1 := hnd 1 n (by omega) hn12
    rw [if_pos rfl] at q0
    rw [if_neg (by omega)] at q1
    rw [hH n hn12 hwn, q0, q1]; exact congrArg nI (by omega)
  · have : nA (wArr w a f t y g) = nA w + 1 := cn_one (P := fun x => w (36 + x) = 1) (Q := fun x => wArr w a f t y g (36 + x) = 1) (a := a) hw a1 (fun x hx hne => by rw [wArr_o (by omega) (by omega) (by omega) (by omega) (by omega)]) ha
    show c' 3 = _
    rw [hT, this]
section
variable {yo : Int32} {w cp fa : Nat → Int32}
theorem gy_arrow_l {post : Int32 → SY → Prop} {a f t y g : Nat} (hf : f < 12) (ht : t < 12) (hn : a ≤ 24) (hu : ∀ m, m < a → w (36 + m) = 1) (f1 : a = 24 → post (-3) (yo, w, cp, fa)) (f2 : a < 24 → w (36 + a) ≠ 1 ∧ post (nI a) (yo, wArr w a f t y g, cp, fa)) :
    ∀ d k, k + d = a → wY_arrow_32 post (nI (12 * f + t)) (nI y) (nI g) yo w cp fa (d + 1) (nI k) := by
  have ed : nI (12 * f + t) / 12 = nI f := by rw [gx_div (by omega)]; exact congrArg nI (by omega)
  have er : nI (12 * f + t) - nI (12 * f + t) / 12 * 12 = nI t := by rw [gx_rm (by omega)]; exact congrArg nI (by omega)
  intro d
  induction d with
  | zero =>
    intro k hk
    have e : k = a := by omega
    subst e
    rcases Nat.lt_or_ge k 24 with z | z
    · refine br_f (nI_ge (b := 24) z (by decide)) (gy_isA0 (fun m hm e => ?_) (br_t rfl ⟨pk_in (36 + k) 156 (by omega) (by first | rfl | exact congrArg nI (by omega) | (simp only [nI_add, pk_mul, ir_0, ir_1, ir_2, ir_3, ir_4, ir_5, ir_6, ir_7, ir_8, ir_9, ir_13, il_4, il_12, il_16, il_24, il_36, il_60, il_84, il_100, il_108, il_132, il_340, im_5, im_7, im_10, im_11, im_3, im_24, im_156, im_340]; first | done | exact congrArg nI (by omega))), nm_r (gx_u (n := 36 + k) (by first | rfl | exact congrArg nI (by omega) | (simp only [nI_add, pk_mul, ir_0, ir_1, ir_2, ir_3, ir_4, ir_5, ir_6, ir_7, ir_8, ir_9, ir_13, il_4, il_12, il_16, il_24, il_36, il_60, il_84, il_100, il_108, il_132, il_340, im_5, im_7, im_10, im_11, im_3, im_24, im_156, im_340]; first | done | exact congrArg nI (by omega))) (by omega)) ⟨gx_12, pk_in (60 + k) 156 (by omega) (by first | rfl | exact congrArg nI (by omega) | (simp only [nI_add, pk_mul, ir_0, ir_1, ir_2, ir_3, ir_4, ir_5, ir_6, ir_7, ir_8, ir_9, ir_13, il_4, il_12, il_16, il_24, il_36, il_60, il_84, il_100, il_108, il_132, il_340, im_5, im_7, im_10, im_11, im_3, im_24, im_156, im_340]; first | done | exact congrArg nI (by omega))), ?_⟩⟩))
      · have : k = m := (nI_eq (by omega) (by omega)).mp e
        subst this
        exact (f2 z).1
      · rw [er, ed]
        exact nm_r (gx_u (n := 60 + k) (by first | rfl | exact congrArg nI (by omega) | (simp only [nI_add, pk_mul, ir_0, ir_1, ir_2, ir_3, ir_4, ir_5, ir_6, ir_7, ir_8, ir_9, ir_13, il_4, il_12, il_16, il_24, il_36, il_60, il_84, il_100, il_108, il_132, il_340, im_5, im_7, im_10, im_11, im_3, im_24, im_156, im_340]; first | done | exact congrArg nI (by omega))) (by omega)) ⟨gx_12, pk_in (84 + k) 156 (by omega) (by first | rfl | exact congrArg nI (by omega) | (simp only [nI_add, pk_mul, ir_0, ir_1, ir_2, ir_3, ir_4, ir_5, ir_6, ir_7, ir_8, ir_9, ir_13, il_4, il_12, il_16, il_24, il_36, il_60, il_84, il_100, il_108, il_132, il_340, im_5, im_7, im_10, im_11, im_3, im_24, im_156, im_340]; first | done | exact congrArg nI (by omega))), nm_r (gx_u (n := 84 + k) (by first | rfl | exact congrArg nI (by omega) | (simp only [nI_add, pk_mul, ir_0, ir_1, ir_2, ir_3, ir_4, ir_5, ir_6, ir_7, ir_8, ir_9, ir_13, il_4, il_12, il_16, il_24, il_36, il_60, il_84, il_100, il_108, il_132, il_340, im_5, im_7, im_10, im_11, im_3, im_24, im_156, im_340]; first | done | exact congrArg nI (by omega))) (by omega)) ⟨pk_in (108 + k) 156 (by omega) (by first | rfl | exact congrArg nI (by omega) | (simp only [nI_add, pk_mul, ir_0, ir_1, ir_2, ir_3, ir_4, ir_5, ir_6, ir_7, ir_8, ir_9, ir_13, il_4, il_12, il_16, il_24, il_36, il_60, il_84, il_100, il_108, il_132, il_340, im_5, im_7, im_10, im_11, im_3, im_24, im_156, im_340]; first | done | exact congrArg nI (by omega))), nm_r (gx_u (n := 108 + k) (by first | rfl | exact congrArg nI (by omega) | (simp only [nI_add, pk_mul, ir_0, ir_1, ir_2, ir_3, ir_4, ir_5, ir_6, ir_7, ir_8, ir_9, ir_13, il_4, il_12, il_16, il_24, il_36, il_60, il_84, il_100, il_108, il_132, il_340, im_5, im_7, im_10, im_11, im_3, im_24, im_156, im_340]; first | done | exact congrArg nI (by omega))) (by omega)) ⟨pk_in (132 + k) 156 (by omega) (by first | rfl | exact congrArg nI (by omega) | (simp only [nI_add, pk_mul, ir_0, ir_1, ir_2, ir_3, ir_4, ir_5, ir_6, ir_7, ir_8, ir_9, ir_13, il_4, il_12, il_16, il_24, il_36, il_60, il_84, il_100, il_108, il_132, il_340, im_5, im_7, im_10, im_11, im_3, im_24, im_156, im_340]; first | done | exact congrArg nI (by omega))), nm_r (gx_u (n := 132 + k) (by first | rfl | exact congrArg nI (by omega) | (simp only [nI_add, pk_mul, ir_0, ir_1, ir_2, ir_3, ir_4, ir_5, ir_6, ir_7, ir_8, ir_9, ir_13, il_4, il_12, il_16, il_24, il_36, il_60, il_84, il_100, il_108, il_132, il_340, im_5, im_7, im_10, im_11, im_3, im_24, im_156, im_340]; first | done | exact congrArg nI (by omega))) (by omega)) (f2 z).2⟩⟩⟩
    · have e : k = 24 := by omega
      subst e
      exact br_t (nI_le (a := 24) (b := 24) (by omega) (by omega)) (f1 rfl)
  | succ d ih =>
    intro k hk
    exact br_f (nI_ge (b := 24) (by omega) (by decide)) (gy_isA1 (by omega) (hu k (by omega)) (br_f gx_10 (nm_r (nI_1 k) (ih (k + 1) (by omega)))))
end
/-- four tests of two ranges -/
theorem rg3_1 {A B D : Prop} {x : Nat} (hx : x ≤ 3) (h : D) : (nI x < 0 → A) ∧ (¬ nI x < 0 → (((3 : Int32) < nI x → B) ∧ (¬ (3 : Int32) < nI x → D))) :=
  br_f (nI_pos (by omega)) (br_f (nI_nlt (a := 3) (b := x) hx (by decide)) h)
theorem rg3_0 {A D : Prop} {x : Int32} (hx : ∀ t, t ≤ 3 → x ≠ nI t) (h : A) : (x < 0 → A) ∧ (¬ x < 0 → (((3 : Int32) < x → A) ∧ (¬ (3 : Int32) < x → D))) := by
  by_cases z : x < 0
  · exact br_t z h
  · obtain ⟨j, hj, e⟩ := nI_of z
    subst e
    refine br_f z (br_t ?_ h)
    have : ¬ j ≤ 3 := fun y => hx j y rfl
    exact nI_lt (a := 3) (by omega) hj
section
variable {fo fp fc fg fw : Int32} {ce kc ko ik kn re dn qu et lo ab na pi : Nat → Int32} {w : Nat → Int32}
theorem gx_newarr {post : Int32 → SX → Prop} {o : Nat} {sn : Nat → Nat → Int32} {a f t y g : Nat} {fl : List Nat} (ho : o ≤ 4) (hj : JR o sn kc ko ik kn ce) (hg : GR ce w) (uf : uN' w f) (ut : uN' w t) (hy : y ≤ 3) (hg99 : g ≤ 99)
    (hf0 : ce 1 = nI a) (hf : LkF (fun k => ce (105 + 10 * k)) (ce (105 + 10 * a)) fl) (hfp : fl.Pairwise (· < ·)) (hfm : ∀ x, x ∈ fl ↔ x < 24 ∧ w (36 + x) ≠ 1 ∧ x ≠ a) (ha : a < 24) (hw : w (36 + a) ≠ 1)
    (K : ∀ (ce' kc' ko' ik' kn' : Nat → Int32), JR o sn kc' ko' ik' kn' ce' → GR ce' (wArr w a f t y g) → post (nI a) (nI o, fp, fc, fg, fw, ce', kc', ko', ik', kn', re, dn, qu, et, lo, ab, na, pi)) : wpX_arrow post (nI o, fp, fc, fg, fw, ce, kc, ko, ik, kn, re, dn, qu, et, lo, ab, na, pi) (nI (12 * f + t)) (nI y) (nI g) := by
  obtain ⟨g1, g2, g3, g4, g5, g6, g7, g8⟩ := id hg
  have f12 := uf.1
  have t12 := ut.1
  have ed : nI (12 * f + t) / 12 = nI f := by rw [gx_div (by omega)]; exact congrArg nI (by omega)
  have er : nI (12 * f + t) - nI (12 * f + t) / 12 * 12 = nI t := by rw [gx_rm (by omega)]; exact congrArg nI (by omega)
  unfold wpX_arrow
  refine gx_ends1 g1 f12 t12 uf.2 ut.2 (br_f gx_10 (br_f (nI_pos (by omega)) (br_f (nI_nlt (a := 3) (b := y) hy (by decide)) (rg_1 (N := 99) hg99 (by omega) (nm_r hf0 (br_t (nI_pos' (by omega)) (gx_aa ⟨pk_in (105 + 10 * a) 340 (by omega) (by first | rfl | exact congrArg nI (by omega) | (simp only [nI_add, pk_mul, ir_0, ir_1, ir_2, ir_3, ir_4, ir_5, ir_6, ir_7, ir_8, ir_9, ir_13, il_4, il_12, il_16, il_24, il_36, il_60, il_84, il_100, il_108, il_132, il_340, im_5, im_7, im_10, im_11, im_3, im_24, im_156, im_340]; first | done | exact congrArg nI (by omega))), ?_⟩)))))))
  have e5 : ce (nI (100 + 10 * a) + 5).toNatClampNeg = ce (105 + 10 * a) := gx_c (by first | rfl | exact congrArg nI (by omega) | (simp only [nI_add, pk_mul, ir_0, ir_1, ir_2, ir_3, ir_4, ir_5, ir_6, ir_7, ir_8, ir_9, ir_13, il_4, il_12, il_16, il_24, il_36, il_60, il_84, il_100, il_108, il_132, il_340, im_5, im_7, im_10, im_11, im_3, im_24, im_156, im_340]; first | done | exact congrArg nI (by omega))) (by omega)
  rw [e5]
  refine gj_put ho hj 1 (by omega) rfl ?_
  intro kc1 ko1 ik1 kn1 hj1
  refine gj_put ho hj1 (100 + 10 * a) (by omega) (by first | rfl | exact congrArg nI (by omega) | (simp only [nI_add, pk_mul, ir_0, ir_1, ir_2, ir_3, ir_4, ir_5, ir_6, ir_7, ir_8, ir_9, ir_13, il_4, il_12, il_16, il_24, il_36, il_60, il_84, il_100, il_108, il_132, il_340, im_5, im_7, im_10, im_11, im_3, im_24, im_156, im_340]; first | done | exact congrArg nI (by omega))) ?_
  intro kc2 ko2 ik2 kn2 hj2
  refine ⟨gx_12, ?_⟩
  rw [er, ed]
  refine gj_put ho hj2 (101 + 10 * a) (by omega) (by first | rfl | exact congrArg nI (by omega) | (simp only [nI_add, pk_mul, ir_0, ir_1, ir_2, ir_3, ir_4, ir_5, ir_6, ir_7, ir_8, ir_9, ir_13, il_4, il_12, il_16, il_24, il_36, il_60, il_84, il_100, il_108, il_132, il_340, im_5, im_7, im_10, im_11, im_3, im_24, im_156, im_340]; first | done | exact congrArg nI (by omega))) ?_
  intro kc3 ko3 ik3 kn3 hj3
  refine ⟨gx_12, ?_⟩
  refine gj_put ho hj3 (102 + 10 * a) (by omega) (by first | rfl | exact congrArg nI (by omega) | (simp only [nI_add, pk_mul, ir_0, ir_1, ir_2, ir_3, ir_4, ir_5, ir_6, ir_7, ir_8, ir_9, ir_13, il_4, il_12, il_16, il_24, il_36, il_60, il_84, il_100, il_108, il_132, il_340, im_5, im_7, im_10, im_11, im_3, im_24, im_156, im_340]; first | done | exact congrArg nI (by omega))) ?_
  intro kc4 ko4 ik4 kn4 hj4
  refine gj_put ho hj4 (103 + 10 * a) (by omega) (by first | rfl | exact congrArg nI (by omega) | (simp only [nI_add, pk_mul, ir_0, ir_1, ir_2, ir_3, ir_4, ir_5, ir_6, ir_7, ir_8, ir_9, ir_13, il_4, il_12, il_16, il_24, il_36, il_60, il_84, il_100, il_108, il_132, il_340, im_5, im_7, im_10, im_11, im_3, im_24, im_156, im_340]; first | done | exact congrArg nI (by omega))) ?_
  intro kc5 ko5 ik5 kn5 hj5
  refine gj_put ho hj5 (104 + 10 * a) (by omega) (by first | rfl | exact congrArg nI (by omega) | (simp only [nI_add, pk_mul, ir_0, ir_1, ir_2, ir_3, ir_4, ir_5, ir_6, ir_7, ir_8, ir_9, ir_13, il_4, il_12, il_16, il_24, il_36, il_60, il_84, il_100, il_108, il_132, il_340, im_5, im_7, im_10, im_11, im_3, im_24, im_156, im_340]; first | done | exact congrArg nI (by omega))) ?_
  intro kc6 ko6 ik6 kn6 hj6
  generalize ec : upd (upd (upd (upd (upd (upd ce 1 (ce (105 + 10 * a))) (100 + 10 * a) 1) (101 + 10 * a) (nI f)) (102 + 10 * a) (nI t)) (103 + 10 * a) (nI y)) (104 + 10 * a) (nI g) = c6 at hj6 ⊢
  have d1 : c6 1 = ce (105 + 10 * a) := by rw [← ec, pk_un (by omega), pk_un (by omega), pk_un (by omega), pk_un (by omega), pk_un (by omega), pk_us]
  have d100 : c6 (100 + 10 * a) = 1 := by rw [← ec, pk_un (by omega), pk_un (by omega), pk_un (by omega), pk_un (by omega), pk_us]
  have d101 : c6 (101 + 10 * a) = nI f := by rw [← ec, pk_un (by omega), pk_un (by omega), pk_un (by omega), pk_us]
  have d102 : c6 (102 + 10 * a) = nI t := by rw [← ec, pk_un (by omega), pk_un (by omega), pk_us]
  have d103 : c6 (103 + 10 * a) = nI y := by rw [← ec, pk_un (by omega), pk_us]
  have d104 : c6 (104 + 10 * a) = nI g := by rw [← ec, pk_us]
  have dc : ∀ i, i ≠ 1 → (i < 100 + 10 * a ∨ 104 + 10 * a < i) → c6 i = ce i := fun i i1 i2 => by rw [← ec, pk_un (by omega), pk_un (by omega), pk_un (by omega), pk_un (by omega), pk_un (by omega), pk_un (by omega)]
  have hmlt : ∀ s n x, s < 2 → mC w s n x → x < 24 := fun s n x _ z => z.2.1
  have C6 : CC c6 (uN' w) (mC w) := by
    refine CC_fr (fun n hn => hn.1) (fun s n hs hn => ?_) (fun s n x hs hn hx => ?_) (GC_mC g6)
    · have := hn.1
      exact dc _ (by omega) (by omega)
    · have hxa : x ≠ a := fun e => hw (e ▸ hx.2.2.1)
      exact ⟨dc _ (by omega) (by omega), dc _ (by omega) (by omega)⟩
  refine gx_chainC (s := 0) (f := f) ho hj6 ha (by omega) rfl uf (fun n hn => hn.1) d101 C6 hmlt mM_dis (fun n z => hw z.2.2.1) ?_
  rintro c7 kc7 ko7 ik7 kn7 hj7 ⟨C7, F7⟩
  have G7 : ∀ i, i ≠ 105 + 10 * a → i ≠ 19 + 7 * f → (∀ x, x < 24 → i ≠ 107 + 10 * x) → c7 i = c6 i := fun i i1 i2 i3 => F7 i (by omega) (i3 a ha) (by omega) (fun x hx => i3 x (hmlt 0 f x (by omega) hx))
  refine gx_chainC (s := 1) (f := t) ho hj7 ha (by omega) rfl ut (fun n hn => hn.1) ?_ C7 (fun s n x hs z => z.elim (hmlt s n x hs) (fun q => q.2.2 ▸ ha)) ?_ (fun n z => z.elim (fun q => hw q.2.2.1) (fun q => by omega)) ?_
  · rw [show 101 + 10 * a + 1 = 102 + 10 * a by omega, G7 _ (by omega) (by omega) (fun x _ => by omega)]; exact d102
  · rintro s n n' x (z | z) (z' | z')
    · exact mM_dis s n n' x z z'
    · exact absurd (z'.2.2 ▸ z.2.2.1) hw
    · exact absurd (z.2.2 ▸ z'.2.2.1) hw
    · rw [z.2.1, z'.2.1]
  rintro c8 kc8 ko8 ik8 kn8 hj8 ⟨C8, F8⟩
  have G8 : ∀ i, i ≠ 106 + 10 * a → i ≠ 20 + 7 * t → (∀ x, x < 24 → i ≠ 108 + 10 * x) → c8 i = c7 i := fun i i1 i2 i3 => F8 i (by omega) (by have := i3 a ha; omega) (by omega) (fun x hx => by
    have hx24 : x < 24 := hx.elim (hmlt 1 t x (by omega)) (fun q => q.2.2 ▸ ha)
    have := i3 x hx24; omega)
  have G : ∀ i, i ≠ 105 + 10 * a → i ≠ 106 + 10 * a → i ≠ 19 + 7 * f → i ≠ 20 + 7 * t → (∀ x, x < 24 → i ≠ 107 + 10 * x ∧ i ≠ 108 + 10 * x) → c8 i = c6 i := fun i i1 i2 i3 i4 i5 => (G8 i i2 i4 (fun x hx => (i5 x hx).2)).trans (G7 i i1 i3 (fun x hx => (i5 x hx).1))
  have Glow : ∀ i, i < 100 → (∀ n s, n < 12 → s < 2 → i ≠ 19 + 7 * n + s) → c8 i = c6 i := fun i hi h => G i (by omega) (by omega) (fun e => h f 0 f12 (by omega) (by omega)) (fun e => h t 1 t12 (by omega) (by omega)) (fun x _ => ⟨by omega, by omega⟩)
  refine ⟨gx_12, gx_na ?_⟩
  refine gj_add ho hj8 (22 + 7 * f) (by omega) (by first | rfl | exact congrArg nI (by omega) | (simp only [nI_add, pk_mul, ir_0, ir_1, ir_2, ir_3, ir_4, ir_5, ir_6, ir_7, ir_8, ir_9, ir_13, il_4, il_12, il_16, il_24, il_36, il_60, il_84, il_100, il_108, il_132, il_340, im_5, im_7, im_10, im_11, im_3, im_24, im_156, im_340]; first | done | exact congrArg nI (by omega))) (v := nI (nD w 0 f + nD w 1 f + 1)) (by rw [Glow _ (by omega) (fun n s _ _ => by omega), dc _ (by omega) (by omega), g7 f f12 uf.2]; exact nI_1 _) ?_
  intro kc9 ko9 ik9 kn9 hj9
  refine ⟨gx_12, gx_na ?_⟩
  have ev : upd c8 (22 + 7 * f) (nI (nD w 0 f + nD w 1 f + 1)) (22 + 7 * t) + 1 = nI (nD w 0 t + nD w 1 t + iq t f + 1) := by
    by_cases e : t = f
    · rw [e, pk_us, iq_t rfl]; exact nI_1 _
    · rw [pk_un (by omega), iq_f e, Glow _ (by omega) (fun n s _ _ => by omega), dc _ (by omega) (by omega), g7 t t12 ut.2]; exact nI_1 _
  refine gj_add ho hj9 (22 + 7 * t) (by omega) (by first | rfl | exact congrArg nI (by omega) | (simp only [nI_add, pk_mul, ir_0, ir_1, ir_2, ir_3, ir_4, ir_5, ir_6, ir_7, ir_8, ir_9, ir_13, il_4, il_12, il_16, il_24, il_36, il_60, il_84, il_100, il_108, il_132, il_340, im_5, im_7, im_10, im_11, im_3, im_24, im_156, im_340]; first | done | exact congrArg nI (by omega))) ev ?_
  intro kc10 ko10 ik10 kn10 hj10
  have e3 : upd (upd c8 (22 + 7 * f) (nI (nD w 0 f + nD w 1 f + 1))) (22 + 7 * t) (nI (nD w 0 t + nD w 1 t + iq t f + 1)) 3 + 1 = nI (nA w + 1) := by
    have : ce 3 = nI (nA w) := g8
    rw [pk_un (by omega), pk_un (by omega), Glow 3 (by omega) (fun n s _ _ => by omega), dc 3 (by omega) (by omega), this]; exact nI_1 _
  refine gj_add ho hj10 3 (by omega) rfl e3 ?_
  intro kc11 ko11 ik11 kn11 hj11
  refine K _ kc11 ko11 ik11 kn11 hj11 ?_
  generalize ec11 : upd (upd (upd c8 (22 + 7 * f) (nI (nD w 0 f + nD w 1 f + 1))) (22 + 7 * t) (nI (nD w 0 t + nD w 1 t + iq t f + 1))) 3 (nI (nA w + 1)) = c11
  have d11 : ∀ i, i ≠ 22 + 7 * f → i ≠ 22 + 7 * t → i ≠ 3 → c11 i = c8 i := fun i i1 i2 i3 => by rw [← ec11, pk_un i3, pk_un i2, pk_un i1]
  have dlow : ∀ i, i < 100 → i ≠ 1 → i ≠ 3 → (∀ n s, n < 12 → s < 2 → i ≠ 19 + 7 * n + s) → (∀ n, n < 12 → i ≠ 22 + 7 * n) → c11 i = ce i := fun i hi i1 i3 i4 i5 => by
    rw [d11 i (i5 f f12) (i5 t t12) i3, Glow i hi i4, dc i i1 (by omega)]
  have dhi : ∀ i, 100 ≤ i → i ≠ 105 + 10 * a → i ≠ 106 + 10 * a → (∀ x, x < 24 → i ≠ 107 + 10 * x ∧ i ≠ 108 + 10 * x) → c11 i = c6 i := fun i hi i1 i2 i3 => by
    rw [d11 i (by omega) (by omega) (by omega), G i i1 i2 (by omega) (by omega) i3]
  refine GR_arr (fl := fl) hg ha hw uf ut hy hg99 ?_ hfp hfm ?_ ?_ ?_ ?_ ?_ ?_ ?_ ?_ (fun n hn => ⟨?_, ?_, ?_, ?_⟩) ?_ ?_ ?_ ?_
  · rw [d11 1 (by omega) (by omega) (by omega), Glow 1 (by omega) (fun n s _ _ => by omega), d1]
    refine LkF_congr (fun x hx => ?_) hf
    have hx3 := (hfm x).mp hx
    show c11 (105 + 10 * x) = ce (105 + 10 * x)
    rw [dhi _ (by omega) (by omega) (by omega) (fun z _ => ⟨by omega, by omega⟩), dc _ (by omega) (by omega)]
  · exact CC_fr (fun n hn => hn.1) (fun s n hs hn => by have := hn.1; exact d11 _ (by omega) (by omega) (by omega)) (fun s n x hs hn hx => ⟨d11 _ (by omega) (by omega) (by omega), d11 _ (by omega) (by omega) (by omega)⟩) C8
  · intro n hn hwn
    rw [← ec11, pk_un (show 22 + 7 * n ≠ 3 by omega)]
    by_cases q1 : n = t
    · subst q1
      rw [pk_us, iq_t (n := n) (f := n) rfl]
    · rw [pk_un (by omega), iq_f q1]
      by_cases q2 : n = f
      · subst q2
        rw [pk_us, iq_t (n := n) (f := n) rfl]
      · rw [pk_un (by omega), iq_f q2, Glow _ (by omega) (fun m s _ _ => by omega), dc _ (by omega) (by omega), g7 n hn hwn]
        exact congrArg nI (by omega)
  · rw [← ec11, pk_us]
  · rw [dhi _ (by omega) (by omega) (by omega) (fun z _ => ⟨by omega, by omega⟩)]; exact d100
  · rw [dhi _ (by omega) (by omega) (by omega) (fun z _ => ⟨by omega, by omega⟩)]; exact d101
  · rw [dhi _ (by omega) (by omega) (by omega) (fun z _ => ⟨by omega, by omega⟩)]; exact d102
  · rw [dhi _ (by omega) (by omega) (by omega) (fun z _ => ⟨by omega, by omega⟩)]; exact d103
  · rw [dhi _ (by omega) (by omega) (by omega) (fun z _ => ⟨by omega, by omega⟩)]; exact d104
  · exact dlow _ (by omega) (by omega) (by omega) (fun m s _ _ => by omega) (fun m _ => by omega)
  · exact dlow _ (by omega) (by omega) (by omega) (fun m s _ _ => by omega) (fun m _ => by omega)
  · exact dlow _ (by omega) (by omega) (by omega) (fun m s _ _ => by omega) (fun m _ => by omega)
  · exact dlow _ (by omega) (by omega) (by omega) (fun m s _ _ => by omega) (fun m _ => by omega)
  · exact dlow _ (by omega) (by omega) (by omega) (fun m s _ _ => by omega) (fun m _ => by omega)
  · exact dlow _ (by omega) (by omega) (by omega) (fun m s _ _ => by omega) (fun m _ => by omega)
  · intro k hk
    exact dlow _ (by omega) (by omega) (by omega) (fun m s _ _ => by omega) (fun m _ => by omega)
  · intro b j hb24 hba hj5'
    rw [dhi _ (by omega) (by omega) (by omega) (fun z _ => ⟨by omega, by omega⟩), dc _ (by omega) (by omega)]
end
theorem i_vc_arrow {k : Nat} {u : SX} {v : SY} (I : i_Rel k u v) (hk : k + 4 ≤ 2048) (v1 : Int32) (v2 : Int32) (v3 : Int32) : wpX_arrow (fun r u' => wpY_arrow (fun r' v' => r' = r ∧ i_Rel (k + 4) u' v') v v1 v2 v3) u v1 v2 v3 := by
  obtain ⟨fo, fp, fc, fg, fw, ce, kc, ko, ik, kn, re, dn, qu, et, lo, ab, na, pi⟩ := u
  obtain ⟨yo, w, cp, fa⟩ := v
  obtain ⟨o, sn, ho, rfl, rfl, hj, hg, hs⟩ := I
  have I : i_Rel (k + 4) (nI o, fp, fc, fg, fw, ce, kc, ko, ik, kn, re, dn, qu, et, lo, ab, na, pi) (nI o, w, cp, fa) := gr_mk ho hj hg hs
  rcases en_or w v1 with ⟨f, t, hf, ht, rfl, wf, wt⟩ | h1
  · rcases le_or v2 3 with ⟨y, hy, rfl⟩ | h2
    · rcases le_or v3 99 with ⟨g, hg99, rfl⟩ | h3
      · obtain ⟨fl, fl1, fl2, fl3⟩ := hg.2.2.2.1
        have hY : ∀ {a : Nat} {q : Int32 → SY → Prop}, a ≤ 24 → (∀ m, m < a → w (36 + m) = 1) → (a = 24 → q (-3) (nI o, w, cp, fa)) → (a < 24 → w (36 + a) ≠ 1 ∧ q (nI a) (nI o, wArr w a f t y g, cp, fa)) → wpY_arrow q (nI o, w, cp, fa) (nI (12 * f + t)) (nI y) (nI g) := by
          intro a q q1 q2 q3 q4
          unfold wpY_arrow
          exact gy_ends1 hf ht wf wt (br_t rfl (br_f (nI_pos (by omega)) (br_f (nI_nlt (a := 3) (b := y) hy (by decide)) (rg_1 (N := 99) hg99 (by omega) ⟨a + 1, gy_arrow_l hf ht q1 q2 q3 q4 a 0 (by omega)⟩))))
        cases fl with
        | nil =>
          have hf0 : ce 1 = -1 := fl1
          have hall : ∀ m, m < 24 → w (36 + m) = 1 := fun m hm => by
            rcases Classical.em (w (36 + m) = 1) with z | z
            · exact z
            · exact nomatch (fl3 m).mpr ⟨hm, z⟩
          unfold wpX_arrow
          refine gx_ends1 hg.1 hf ht wf wt (br_f gx_10 (br_f (nI_pos (by omega)) (br_f (nI_nlt (a := 3) (b := y) hy (by decide)) (rg_1 (N := 99) hg99 (by omega) (nm_r hf0 (br_f (by decide) ?_))))))
          exact hY (a := 24) (by omega) hall (fun _ => ⟨rfl, I⟩) (fun z => by omega)
        | cons a fl =>
          have hf0 : ce 1 = nI a := fl1.1
          obtain ⟨ha, hw⟩ := (fl3 a).mp List.mem_cons_self
          rw [List.pairwise_cons] at fl2
          have hless : ∀ m, m < a → w (36 + m) = 1 := fun m hm => by
            rcases Classical.em (w (36 + m) = 1) with z | z
            · exact z
            · rcases List.mem_cons.mp ((fl3 m).mpr ⟨by omega, z⟩) with y | y
              · omega
              · have := fl2.1 m y; omega
          have hfm' : ∀ m, m ∈ fl ↔ m < 24 ∧ w (36 + m) ≠ 1 ∧ m ≠ a := by
            intro m
            constructor
            · intro hm
              have := (fl3 m).mp (List.mem_cons_of_mem _ hm)
              have h2 := fl2.1 m hm
              exact ⟨this.1, this.2, by omega⟩
            · rintro ⟨a, b, c⟩
              exact (List.mem_cons.mp ((fl3 m).mpr ⟨a, b⟩)).elim (fun e => absurd e c) id
          refine gx_newarr ho hj hg ⟨hf, wf⟩ ⟨ht, wt⟩ hy hg99 hf0 fl1.2 fl2.2 hfm' ha hw ?_
          intro ce' kc' ko' ik' kn' hj' hg'
          exact hY (a := a) (by omega) hless (fun z => by omega) (fun _ => ⟨hw, rfl, gr_mk ho hj' hg' hs⟩)
      · unfold wpX_arrow
        refine gx_ends1 hg.1 hf ht wf wt (br_f gx_10 (br_f (nI_pos (by omega)) (br_f (nI_nlt (a := 3) (b := y) hy (by decide)) (rg_0 (N := 99) (by omega) h3 ?_))))
        unfold wpY_arrow
        exact gy_ends1 hf ht wf wt (br_t rfl (br_f (nI_pos (by omega)) (br_f (nI_nlt (a := 3) (b := y) hy (by decide)) (rg_0 (N := 99) (by omega) h3 ⟨rfl, I⟩))))
    · unfold wpX_arrow
      refine gx_ends1 hg.1 hf ht wf wt (br_f gx_10 (rg3_0 h2 ?_))
      unfold wpY_arrow
      exact gy_ends1 hf ht wf wt (br_t rfl (rg3_0 h2 ⟨rfl, I⟩))
  · unfold wpX_arrow
    refine gx_ends0 hg.1 h1 (br_t rfl ?_)
    unfold wpY_arrow
    exact gy_ends0 h1 (br_f gx_10 ⟨rfl, I⟩)
end
section
/-! a node dropped -/
def tq (w : Nat → Int32) (n a : Nat) : Prop := w (36 + a) = 1 ∧ (w (60 + a) = nI n ∨ w (84 + a) = nI n)
noncomputable def wDp (w : Nat → Int32) (n k : Nat) : Nat → Int32 := fun i => @ite Int32 (36 ≤ i ∧ i < 36 + k ∧ tq w n (i - 36)) (Classical.propDecidable _) 0 (w i)
theorem wDp_t {w : Nat → Int32} {n k a : Nat} (ha : a < k) (h : tq w n a) : wDp w n k (36 + a) = 0 := by
  unfold wDp
  rw [if_pos ⟨by omega, by omega, by rw [show 36 + a - 36 = a by omega]; exact h⟩]
theorem wDp_f {w : Nat → Int32} {n k i : Nat} (h : ∀ a, a < k → i = 36 + a → ¬ tq w n a) : wDp w n k i = w i := by
  unfold wDp
  rw [if_neg]
  rintro ⟨h1, h2, h3⟩
  exact h (i - 36) (by omega) (by omega) h3
/-- what has been cut so far -/
def Sb (w0 w : Nat → Int32) (n : Nat) : Prop := ∀ i, w i = w0 i ∨ ∃ a, a < 24 ∧ i = 36 + a ∧ w i = 0 ∧ tq w0 n a
theorem Sb_o {w0 w : Nat → Int32} {n i : Nat} (h : Sb w0 w n) (hi : i < 36 ∨ 60 ≤ i) : w i = w0 i := by
  rcases h i with z | ⟨a, h1, h2, _⟩
  · exact z
  · omega
theorem Sb_tq {w0 w : Nat → Int32} {n a : Nat} (h : Sb w0 w n) (ha : a < 24) (ht : tq w n a) : tq w0 n a := by
  obtain ⟨t1, t2⟩ := ht
  rw [Sb_o h (by omega), Sb_o h (by omega)] at t2
  rcases h (36 + a) with z | ⟨b, _, _, z, _⟩
  · exact ⟨by rw [← z]; exact t1, t2⟩
  · rw [z] at t1; exact absurd t1 (by decide)
theorem Sb_cut {w0 w : Nat → Int32} {n a : Nat} (h : Sb w0 w n) (ha : a < 24) (ht : tq w n a) : Sb w0 (upd w (36 + a) 0) n := by
  intro i
  by_cases e : i = 36 + a
  · exact Or.inr ⟨a, ha, e, by rw [e]; exact pk_us, Sb_tq h ha ht⟩
  · rw [pk_un e]; exact h i
theorem Sb_end {w0 w : Nat → Int32} {n : Nat} (h : Sb w0 w n) (hno : ∀ a, a < 24 → ¬ tq w n a) : w = wDp w0 n 24 := by
  funext i
  rcases Classical.em (∃ a, a < 24 ∧ i = 36 + a ∧ tq w0 n a) with ⟨a, ha, e, ht⟩ | z
  · rw [e, wDp_t ha ht]
    rcases h (36 + a) with y | ⟨b, _, _, y, _⟩
    · exfalso
      refine hno a ha ⟨y.trans ht.1, ?_⟩
      rw [Sb_o h (by omega), Sb_o h (by omega)]; exact ht.2
    · exact y
  · rw [wDp_f (fun a ha e ht => z ⟨a, ha, e, ht⟩)]
    rcases h i with y | ⟨a, h1, h2, _, h4⟩
    · exact y
    · exact absurd ⟨a, h1, h2, h4⟩ z
noncomputable def ct (w : Nat → Int32) (n : Nat) : Nat := cn (tq w n) 24
theorem ct_cut {w : Nat → Int32} {n a : Nat} (ha : a < 24) (ht : tq w n a) : ct w n = ct (upd w (36 + a) 0) n + 1 := by
  refine cn_one (P := tq (upd w (36 + a) 0) n) (Q := tq w n) (a := a) (fun z => by have := z.1; rw [pk_us] at this; exact absurd this (by decide)) ht (fun x hx hne => ?_) ha
  unfold tq
  rw [pk_un (by omega), pk_un (by omega), pk_un (by omega)]
theorem ct_0 {w : Nat → Int32} {n : Nat} (h : ct w n = 0) : ∀ a, a < 24 → ¬ tq w n a := fun a ha ht => by
  have : 0 < ct w n := cn_pos (P := tq w n) ht ha
  omega
theorem GR_drop {c w c' : Nat → Int32} {n q : Nat} {l' : List Nat} {R : Nat → Nat} (hg : GR c w) (hn : n < 12) (hw : w n = 1) (hno : ∀ a, a < 24 → ¬ tq w n a)
    (hl : LkF (fun k => c' (21 + 7 * k)) (c' 0) l') (hlp : l'.Pairwise (· < ·)) (hlm : ∀ x, x ∈ l' ↔ (x < 12 ∧ w x ≠ 1) ∨ x = n) (h16 : c' (16 + 7 * n) = 0)
    (hr : RW c' (nN w - 1) R) (hR : RowOK (fun m => uN' w m ∧ m ≠ n) (fun m => w (24 + m)) (nN w - 1) R)
    (hc : ∀ i, i ≠ 0 → i ≠ 2 → (i < 4 ∨ 16 ≤ i) → i ≠ 16 + 7 * n → (∀ m, m < 12 → i ≠ 21 + 7 * m) → c' i = c i) : GR c' (upd w n 0) := by
  obtain ⟨g1, g2, g3, g4, g5, g6, g7, g8⟩ := hg
  have hwl : ∀ i, i ≠ n → upd w n 0 i = w i := fun i hi => pk_un hi
  have h01 : (0 : Int32) ≠ 1 := by decide
  have hwn : upd w n 0 n = 0 := pk_us
  have hca : ∀ i, 100 ≤ i → c' i = c i := fun i hi => hc i (by omega) (by omega) (by omega) (by omega) (fun m _ => by omega)
  have hus : ∀ m, uN' (upd w n 0) m ↔ (uN' w m ∧ m ≠ n) := by
    intro m
    unfold uN'
    constructor
    · rintro ⟨a, b⟩
      have e : m ≠ n := fun e => by rw [e, hwn] at b; exact h01 b
      rw [hwl m e] at b; exact ⟨⟨a, b⟩, e⟩
    · rintro ⟨⟨a, b⟩, e⟩; exact ⟨a, by rw [hwl m e]; exact b⟩
  refine ⟨?_, ?_, ?_, ?_, ?_, ?_, ?_, ?_⟩
  · intro m hm
    by_cases e : m = n
    · subst e
      rw [hwn, h16]
      exact ⟨rfl, Or.inl rfl, fun z => absurd z h01⟩
    · rw [hwl m e, hwl (12 + m) (by omega), hwl (24 + m) (by omega), hc _ (by omega) (by omega) (by omega) (by omega) (fun x _ => by omega), hc (17 + 7 * m) (by omega) (by omega) (by omega) (by omega) (fun x _ => by omega), hc (18 + 7 * m) (by omega) (by omega) (by omega) (by omega) (fun x _ => by omega)]
      exact g1 m hm
  · intro a ha
    rw [hca _ (by omega), hca _ (by omega), hca _ (by omega), hca _ (by omega), hca _ (by omega), hwl _ (by omega), hwl _ (by omega), hwl _ (by omega), hwl _ (by omega), hwl _ (by omega)]
    obtain ⟨q1, q2, q3⟩ := g2 a ha
    refine ⟨q1, q2, fun z => ?_⟩
    obtain ⟨p1, p2, p3, p4, ⟨f, f1, f2, f3⟩, ⟨t, t1, t2, t3⟩, y, g⟩ := q3 z
    have hf : f ≠ n := fun e => hno a ha ⟨z, Or.inl (e ▸ f1)⟩
    have ht : t ≠ n := fun e => hno a ha ⟨z, Or.inr (e ▸ t1)⟩
    refine ⟨p1, p2, p3, p4, ⟨f, ?_, f2, ?_⟩, ⟨t, ?_, t2, ?_⟩, ?_, ?_⟩
    · rw [hwl _ (by omega)]; exact f1
    · rw [hwl _ hf]; exact f3
    · rw [hwl _ (by omega)]; exact t1
    · rw [hwl _ ht]; exact t3
    · rw [hwl _ (by omega)]; exact y
    · rw [hwl _ (by omega)]; exact g
  · refine ⟨l', hl, hlp, fun x => ?_⟩
    rw [hlm x]
    constructor
    · rintro (⟨x1, x2⟩ | e)
      · have : x ≠ n := fun e => x2 (e ▸ hw)
        exact ⟨x1, by rw [hwl x this]; exact x2⟩
      · rw [e, hwn]; exact ⟨hn, h01⟩
    · rintro ⟨x1, x2⟩
      by_cases e : x = n
      · exact Or.inr e
      · rw [hwl x e] at x2; exact Or.inl ⟨x1, x2⟩
  · exact GE_fr (hc 1 (by omega) (by omega) (by omega) (by omega) (fun m _ => by omega)) (fun a ha _ => hca _ (by omega)) (fun a ha => hwl _ (by omega)) g4
  · refine row_GW ?_ hr (Row_cg hus (fun m hm => hwl _ (by omega)) hR)
    have : nN w = nN (upd w n 0) + 1 := cn_one (P := fun m => upd w n 0 m = 1) (Q := fun m => w m = 1) (a := n) (fun z => h01 (hwn.symm.trans z)) hw (fun m hm hne => by rw [hwl m hne]) hn
    omega
  · refine CC_GC (fun m hm => ((hus m).mp hm).1) (fun s m x hs hm => ?_) (CC_fr (c := c) (U := fun m => uN' w m) (M := fun s m x => mM w s m x) (fun m hm => hm.1) (fun s m hs hm => ?_) (fun s m x hs hm hx => ⟨hca _ (by omega), hca _ (by omega)⟩) (GC_CC g6))
    · unfold mM
      constructor
      · rintro ⟨x1, x2, x3⟩; rw [hwl _ (by omega)] at x2 x3; exact ⟨x1, x2, x3⟩
      · rintro ⟨x1, x2, x3⟩; exact ⟨x1, by rw [hwl _ (by omega)]; exact x2, by rw [hwl _ (by omega)]; exact x3⟩
    · have h12 := hm.1
      exact hc _ (by omega) (by omega) (by omega) (by omega) (fun x _ => by omega)
  · intro m hm hwm
    have e : m ≠ n := fun e => by rw [e, hwn] at hwm; exact h01 hwm
    rw [hwl m e] at hwm
    rw [nD_fr (w := w) (fun i hi _ => hwl i (by omega)) (by omega), nD_fr (w := w) (fun i hi _ => hwl i (by omega)) (by omega)]
    rw [hc _ (by omega) (by omega) (by omega) (by omega) (fun x _ => by omega)]
    exact g7 m hm hwm
  · show c' 3 = _
    rw [nA_fr (w := w) (fun a ha => hwl _ (by omega))]
    exact (hc 3 (by omega) (by omega) (by omega) (by omega) (fun x _ => by omega)).trans g8
section
variable {fo fp fc fg fw : Int32} {ce kc ko ik kn re dn qu et lo ab na pi : Nat → Int32} {w : Nat → Int32}
theorem gx_drop46 {post : Int32 → SX → Prop} {J : Int32 → Int32 → Int32 → Int32 → Int32 → Int32 → Int32 → (Nat → Int32) → (Nat → Int32) → (Nat → Int32) → (Nat → Int32) → (Nat → Int32) → (Nat → Int32) → (Nat → Int32) → (Nat → Int32) → (Nat → Int32) → (Nat → Int32) → (Nat → Int32) → (Nat → Int32) → (Nat → Int32) → Prop} {o : Nat} {sn : Nat → Nat → Int32} {n s : Nat} {w0 : Nat → Int32} {G : Nat} {Q : (Nat → Int32) → Prop} (ho : o ≤ 4) (hn : n < 12) (hs : s < 2)
    (hQ : ∀ w a, a < 24 → Q w → Q (upd w (36 + a) 0))
    (K : ∀ (g : Nat) (w ce kc ko ik kn : Nat → Int32), JR o sn kc ko ik kn ce → GR ce w → w n = 1 → Sb w0 w n → Q w → g + ct w n = G → (∀ a, a < 24 → w (36 + a) = 1 → w (60 + 24 * s + a) ≠ nI n) → J (nI g) (nI (s + 1)) (nI o) fp fc fg fw ce kc ko ik kn re dn qu et lo ab na pi) :
    ∀ (f g : Nat) (w ce kc ko ik kn : Nat → Int32), ct w n < f → JR o sn kc ko ik kn ce → GR ce w → w n = 1 → Sb w0 w n → Q w → g + ct w n = G → wX_drop_46 post J (nI n) (nI (16 + 7 * n)) (nI s) f (nI g) (nI o) fp fc fg fw ce kc ko ik kn re dn qu et lo ab na pi := by
  intro f
  induction f with
  | zero => intro g w ce kc ko ik kn h; omega
  | succ f ih =>
    intro g w ce kc ko ik kn hf hj hg hw hS hq hG
    obtain ⟨l, hc, hm⟩ := hg.2.2.2.2.2.1 s n hs hn hw
    have ei : ce (nI (16 + 7 * n) + 3 + nI s).toNatClampNeg = ce (19 + 7 * n + s) := gx_c (by first | rfl | exact congrArg nI (by omega) | (simp only [nI_add, pk_mul, ir_0, ir_1, ir_2, ir_3, ir_4, ir_5, ir_6, ir_7, ir_8, ir_9, ir_13, il_4, il_12, il_16, il_24, il_36, il_60, il_84, il_100, il_108, il_132, il_340, im_5, im_7, im_10, im_11, im_3, im_24, im_156, im_340]; first | done | exact congrArg nI (by omega))) (by omega)
    have hin : vp_in (nI (16 + 7 * n) + 3 + nI s) 340 := pk_in (19 + 7 * n + s) 340 (by omega) (by first | rfl | exact congrArg nI (by omega) | (simp only [nI_add, pk_mul, ir_0, ir_1, ir_2, ir_3, ir_4, ir_5, ir_6, ir_7, ir_8, ir_9, ir_13, il_4, il_12, il_16, il_24, il_36, il_60, il_84, il_100, il_108, il_132, il_340, im_5, im_7, im_10, im_11, im_3, im_24, im_156, im_340]; first | done | exact congrArg nI (by omega)))
    refine ⟨hin, ?_⟩
    rw [ei]
    cases l with
    | nil =>
      have hh : ce (19 + 7 * n + s) = -1 := hc.1
      refine br_t (by rw [hh]; decide) (nm_r (nI_1 s) (K g w ce kc ko ik kn hj hg hw hS hq hG (fun a ha hwa e => nomatch (hm a).mpr ⟨ha, hwa, e⟩)))
    | cons a l =>
      have hh : ce (19 + 7 * n + s) = nI a := hc.1.1
      obtain ⟨ha, hwa, hea⟩ := (hm a).mp List.mem_cons_self
      have ht : tq w n a := by
        refine ⟨hwa, ?_⟩
        have : s = 0 ∨ s = 1 := by omega
        rcases this with rfl | rfl
        · exact Or.inl hea
        · rw [show 60 + 24 * 1 + a = 84 + a by omega] at hea; exact Or.inr hea
      have hct := ct_cut ha ht
      rw [hh]
      refine br_f (nI_pos (by omega)) ⟨hin, ?_⟩
      refine gx_cut ho hj hg ha hwa ?_
      intro ce' kc' ko' ik' kn' hj' hg'
      refine nm_r (nI_1 g) ?_
      exact ih (g + 1) (upd w (36 + a) 0) ce' kc' ko' ik' kn' (by omega) hj' hg' (by rw [pk_un (by omega)]; exact hw) (Sb_cut hS ha ht) (hQ w a ha hq) (by omega)
/-- the end: out of the row, and back among the free ones -/
theorem gx_dropend {post : SX → Prop} {o : Nat} {sn : Nat → Nat → Int32} {n : Nat} (ho : o ≤ 4) (hn : n < 12) (hj : JR o sn kc ko ik kn ce) (hg : GR ce w) (hw : w n = 1) (hno : ∀ a, a < 24 → ¬ tq w n a)
    (K : (∀ (ce' kc' ko' ik' kn' : Nat → Int32), JR o sn kc' ko' ik' kn' ce' → (GR ce' (upd w n 0)) → post (nI o, fp, fc, fg, fw, ce', kc', ko', ik', kn', re, dn, qu, et, lo, ab, na, pi))) : wpX_removeFromRow (fun u => match u with | (fo', fp', fc', fg', fw', ce', kc', ko', ik', kn', re', dn', qu', et', lo', ab', na', pi') => wpX_put (fun u => match u with | (fo', fp', fc', fg', fw', ce', kc', ko', ik', kn', re', dn', qu', et', lo', ab', na', pi') => wpX_giveBack post (fo', fp', fc', fg', fw', ce', kc', ko', ik', kn', re', dn', qu', et', lo', ab', na', pi') 0 16 7 5 (nI n)) (fo', fp', fc', fg', fw', ce', kc', ko', ik', kn', re', dn', qu', et', lo', ab', na', pi') (nI (16 + 7 * n) + 0) 0) (nI o, fp, fc, fg, fw, ce, kc, ko, ik, kn, re, dn, qu, et, lo, ab, na, pi) (nI n) := by
  obtain ⟨R, hr, hR⟩ := GW_row hg.2.2.2.2.1
  obtain ⟨fl, fl1, fl2, fl3⟩ := hg.2.2.1
  have hN := hg.1
  obtain ⟨q, hq, eq⟩ := hR.2.1 n ⟨hn, hw⟩
  obtain ⟨L, hL⟩ : ∃ L, nN w = L + 1 := ⟨nN w - 1, by omega⟩
  have hv : ∀ m, m < 12 → w m = 1 → ce (18 + 7 * m) = w (24 + m) := fun m hm hwm => ((hN m hm).2.2 hwm).2
  rw [hL] at hr hR hq
  refine gx_remN ho hj hr (by omega) eq (fun i j hij hj' => ?_) ?_
  · have ui := hR.1 i (by omega)
    have uj := hR.1 j hj'
    rw [hv _ ui.1 ui.2, hv _ uj.1 uj.2]
    exact hR.2.2 i j hij hj'
  · rintro c1 kc1 ko1 ik1 kn1 hj1 ⟨r1, f1⟩
    refine gj_put ho hj1 (16 + 7 * n) (by omega) (by first | rfl | exact congrArg nI (by omega) | (simp only [nI_add, pk_mul, ir_0, ir_1, ir_2, ir_3, ir_4, ir_5, ir_6, ir_7, ir_8, ir_9, ir_13, il_4, il_12, il_16, il_24, il_36, il_60, il_84, il_100, il_108, il_132, il_340, im_5, im_7, im_10, im_11, im_3, im_24, im_156, im_340]; first | done | exact congrArg nI (by omega))) ?_
    intro kc2 ko2 ik2 kn2 hj2
    have hfr : ∀ x, x ∈ fl → x < 12 := fun x hx => ((fl3 x).mp hx).1
    refine gx_gb_n (l := fl) ho hj2 hn hfr (fun z => ((fl3 n).mp z).2 hw) ?_ fl2 ?_
    · rw [pk_un (by omega), f1 0 (by omega) (by omega)]
      refine LkF_congr (fun x hx => ?_) fl1
      show upd c1 (16 + 7 * n) 0 (21 + 7 * x) = ce (21 + 7 * x)
      rw [pk_un (by omega), f1 _ (by omega) (by omega)]
    · intro l'
      rintro c3 kc3 ko3 ik3 kn3 hj3 ⟨L1, L2, L3, F3⟩
      have d3 : ∀ i, i ≠ 0 → (∀ m, m < 12 → i ≠ 21 + 7 * m) → c3 i = upd c1 (16 + 7 * n) 0 i := fun i i0 i1 => F3 i i0 (i1 n hn) (fun x hx => i1 x (hfr x hx))
      refine K c3 kc3 ko3 ik3 kn3 hj3 (GR_drop (q := q) (l' := l') (R := rDel q R) hg hn hw hno L1 L2 (fun x => (L3 x).trans ⟨fun z => z.elim (fun y => Or.inl ((fl3 x).mp y)) Or.inr, fun z => z.elim (fun y => Or.inl ((fl3 x).mpr y)) Or.inr⟩) ?_ ?_ ?_ ?_)
      · rw [d3 _ (by omega) (fun m _ => by omega), pk_us]
      · rw [hL]
        refine ⟨?_, by have := r1.2.1; omega, fun k hk => ⟨(r1.2.2 k (by omega)).1, ?_⟩⟩
        · rw [d3 2 (by omega) (fun m _ => by omega), pk_un (by omega)]; exact r1.1
        · have := r1.2.1
          rw [d3 _ (by omega) (fun m _ => by omega), pk_un (by omega)]; exact (r1.2.2 k (by omega)).2
      · rw [hL]
        have := Row_del hR (q := q) (by omega)
        rw [eq] at this
        exact this
      · intro i i0 i2 i3 i4 i5
        rw [d3 i i0 i5, pk_un i4, f1 i i2 i3]
theorem gx_drop40 {post : Int32 → SX → Prop} {o : Nat} {sn : Nat → Nat → Int32} {n : Nat} (ho : o ≤ 4) (hn : n < 12) (hj : JR o sn kc ko ik kn ce) (hg : GR ce w) (hw : w n = 1)
    (K : ∀ (ce' kc' ko' ik' kn' : Nat → Int32), JR o sn kc' ko' ik' kn' ce' → GR ce' (upd (wDp w n 24) n 0) → post (nI (ct w n)) (nI o, fp, fc, fg, fw, ce', kc', ko', ik', kn', re, dn, qu, et, lo, ab, na, pi)) : wX_drop_40 post (nI n) (nI (16 + 7 * n)) 3 0 0 (nI o) fp fc fg fw ce kc ko ik kn re dn qu et lo ab na pi := by
  refine br_f (by decide) ⟨ct w n + 1, ?_⟩
  refine gx_drop46 (s := 0) (w0 := w) (G := ct w n) (Q := fun _ => True) ho hn (by omega) (fun _ _ _ _ => trivial) ?_ (ct w n + 1) 0 w ce kc ko ik kn (by omega) hj hg hw (fun i => Or.inl rfl) trivial (by omega)
  intro g1 w1 c1 kc1 ko1 ik1 kn1 hj1 hg1 hw1 hS1 _ hG1 hno1
  refine br_f (by decide) ⟨ct w1 n + 1, ?_⟩
  refine gx_drop46 (s := 1) (w0 := w) (G := ct w n) (Q := fun w' => ∀ a, a < 24 → w' (36 + a) = 1 → w' (60 + a) ≠ nI n) ho hn (by omega) (fun w' a ha hq b hb hwb => ?_) ?_ (ct w1 n + 1) g1 w1 c1 kc1 ko1 ik1 kn1 (by omega) hj1 hg1 hw1 hS1 hno1 hG1
  · rw [pk_un (by omega)]
    by_cases e : b = a
    · rw [e, pk_us] at hwb; exact absurd hwb (by decide)
    · rw [pk_un (by omega)] at hwb; exact hq b hb hwb
  intro g2 w2 c2 kc2 ko2 ik2 kn2 hj2 hg2 hw2 hS2 hq2 hG2 hno2
  have hno : ∀ a, a < 24 → ¬ tq w2 n a := by
    rintro a ha ⟨t1, t2 | t2⟩
    · exact hq2 a ha t1 t2
    · exact hno2 a ha t1 (by rw [show 60 + 24 * 1 + a = 84 + a by omega]; exact t2)
  have h0 : ct w2 n = 0 := cn_no fun a ha z => hno a ha z
  have eg : g2 = ct w n := by omega
  subst eg
  have ew := Sb_end hS2 hno
  refine br_t (by decide) ?_
  refine gx_dropend ho hn hj2 hg2 hw2 hno ?_
  intro ce' kc' ko' ik' kn' hj' hg'
  rw [ew] at hg'
  exact K ce' kc' ko' ik' kn' hj' hg'
end
section
variable {yo : Int32} {w cp fa : Nat → Int32}
theorem gy_drop_l {post : Int32 → SY → Prop} {n : Nat} {x3 : Int32} (hn : n < 12) (K : post x3 (yo, upd (wDp w n 24) n 0, cp, fa)) : ∀ d k, k + d = 24 → wY_drop_32 post (nI n) x3 yo (d + 1) (nI k) (wDp w n k) cp fa := by
  intro d
  induction d with
  | zero =>
    intro k hk
    have : k = 24 := by omega
    subst this
    exact br_t (nI_le (a := 24) (b := 24) (by omega) (by omega)) ⟨vp_in_nI (by omega) (by omega), nm_r (gx_u rfl (by omega)) K⟩
  | succ d ih =>
    intro k hk
    have hn' := ih (k + 1) (by omega)
    have e0 : wDp w n k (36 + k) = w (36 + k) := wDp_f (fun a ha e => by omega)
    have e1 : wDp w n k (60 + k) = w (60 + k) := wDp_f (fun a ha e => by omega)
    have e2 : wDp w n k (84 + k) = w (84 + k) := wDp_f (fun a ha e => by omega)
    have skip : ¬ tq w n k → wY_drop_32 post (nI n) x3 yo (d + 1) (nI (k + 1)) (wDp w n k) cp fa := by
      intro z
      have : wDp w n k = wDp w n (k + 1) := by
        funext i
        rcases Classical.em (∃ a, a < k ∧ i = 36 + a ∧ tq w n a) with ⟨a, ha, e, ht⟩ | y
        · rw [e, wDp_t ha ht, wDp_t (by omega) ht]
        · rw [wDp_f (fun a ha e ht => y ⟨a, ha, e, ht⟩), wDp_f (fun a ha e ht => ?_)]
          by_cases ek : a = k
          · subst ek; exact z ht
          · exact y ⟨a, by omega, e, ht⟩
      rw [this]; exact hn'
    have go : tq w n k → wY_drop_70 post (wY_drop_32 post (nI n) x3 yo (d + 1)) (nI n) x3 (nI k) yo (wDp w n k) cp fa := by
      intro z
      refine ⟨pk_in (36 + k) 156 (by omega) (by first | rfl | exact congrArg nI (by omega) | (simp only [nI_add, pk_mul, ir_0, ir_1, ir_2, ir_3, ir_4, ir_5, ir_6, ir_7, ir_8, ir_9, ir_13, il_4, il_12, il_16, il_24, il_36, il_60, il_84, il_100, il_108, il_132, il_340, im_5, im_7, im_10, im_11, im_3, im_24, im_156, im_340]; first | done | exact congrArg nI (by omega))), nm_r (e' := wDp w n (k + 1)) ?_ (nm_r (nI_1 k) hn')⟩
      rw [gx_u (n := 36 + k) (by first | rfl | exact congrArg nI (by omega) | (simp only [nI_add, pk_mul, ir_0, ir_1, ir_2, ir_3, ir_4, ir_5, ir_6, ir_7, ir_8, ir_9, ir_13, il_4, il_12, il_16, il_24, il_36, il_60, il_84, il_100, il_108, il_132, il_340, im_5, im_7, im_10, im_11, im_3, im_24, im_156, im_340]; first | done | exact congrArg nI (by omega))) (by omega)]
      funext i
      by_cases ei : i = 36 + k
      · rw [ei, pk_us, wDp_t (by omega) z]
      · rw [pk_un ei]
        rcases Classical.em (∃ a, a < k ∧ i = 36 + a ∧ tq w n a) with ⟨a, ha, e, ht⟩ | y
        · rw [e, wDp_t ha ht, wDp_t (by omega) ht]
        · rw [wDp_f (fun a ha e ht => y ⟨a, ha, e, ht⟩), wDp_f (fun a ha e ht => ?_)]
          by_cases ek : a = k
          · subst ek; exact ei e
          · exact y ⟨a, by omega, e, ht⟩
    refine br_f (nI_ge (b := 24) (by omega) (by decide)) ?_
    by_cases q0 : w (36 + k) = 1
    · refine gy_isA1 (by omega) (e0.trans q0) (br_f gx_10 (gy_part0 (by omega) ?_))
      rw [e1]
      by_cases q1 : w (60 + k) = nI n
      · exact br_t q1 (go ⟨q0, Or.inl q1⟩)
      · refine br_f q1 (gy_part1 (by omega) ?_)
        rw [e2]
        by_cases q2 : w (84 + k) = nI n
        · exact br_t q2 (go ⟨q0, Or.inr q2⟩)
        · exact br_f q2 (nm_r (nI_1 k) (skip (fun z => z.2.elim q1 q2)))
    · refine gy_isA0 (fun b hb e => ?_) (br_t rfl (nm_r (nI_1 k) (skip (fun z => q0 z.1))))
      have : k = b := (nI_eq (by omega) (by omega)).mp e
      subst this
      rw [e0]; exact q0
theorem wDp_0 {w : Nat → Int32} {n : Nat} : wDp w n 0 = w := by
  funext i; exact wDp_f (fun a ha => by omega)
end
theorem cq_tq {w : Nat → Int32} {n : Nat} : cn (cq w n 4 2) 24 = ct w n := by
  refine cn_eq fun a ha => ?_
  unfold cq okA tq
  constructor
  · rintro ⟨⟨h1, h2, h3⟩, (h4 | h4)⟩
    · exact ⟨h2, Or.inl h4.2⟩
    · exact ⟨h2, Or.inr h4.2⟩
  · rintro ⟨h1, h2 | h2⟩
    · exact ⟨⟨ha, h1, Or.inl rfl⟩, Or.inl ⟨by omega, h2⟩⟩
    · exact ⟨⟨ha, h1, Or.inl rfl⟩, Or.inr ⟨by omega, h2⟩⟩
theorem i_vc_drop {k : Nat} {u : SX} {v : SY} (I : i_Rel k u v) (hk : k + 4 ≤ 2048) (v1 : Int32) (v2 : Int32) : wpX_drop (fun r u' => wpY_drop (fun r' v' => r' = r ∧ i_Rel (k + 4) u' v') v v1 (lw_bz v2)) u v1 (lw_bz v2) := by
  obtain ⟨fo, fp, fc, fg, fw, ce, kc, ko, ik, kn, re, dn, qu, et, lo, ab, na, pi⟩ := u
  obtain ⟨yo, w, cp, fa⟩ := v
  obtain ⟨o, sn, ho, rfl, rfl, hj, hg, hs⟩ := I
  have I : i_Rel (k + 4) (nI o, fp, fc, fg, fw, ce, kc, ko, ik, kn, re, dn, qu, et, lo, ab, na, pi) (nI o, w, cp, fa) := gr_mk ho hj hg hs
  unfold wpX_drop
  rcases nd_or w v1 with ⟨n, hn, rfl, hw⟩ | h
  · refine gx_isN1 hg.1 hn hw (br_f gx_10 (gx_na ?_))
    have hc24 : ct w n ≤ 24 := cn_le _ _
    have hH := hg.2.2.2.2.2.2.1 n hn hw
    have e6 : ce (nI (16 + 7 * n) + 6).toNatClampNeg = nI (nD w 0 n + nD w 1 n) := (gx_c (n := 22 + 7 * n) (by first | rfl | exact congrArg nI (by omega) | (simp only [nI_add, pk_mul, ir_0, ir_1, ir_2, ir_3, ir_4, ir_5, ir_6, ir_7, ir_8, ir_9, ir_13, il_4, il_12, il_16, il_24, il_36, il_60, il_84, il_100, il_108, il_132, il_340, im_5, im_7, im_10, im_11, im_3, im_24, im_156, im_340]; first | done | exact congrArg nI (by omega))) (by omega)).trans hH
    have hd0 := nD_le (w := w) 0 n
    have hd1 := nD_le (w := w) 1 n
    have hz : nD w 0 n + nD w 1 n = 0 ↔ ct w n = 0 := by
      constructor
      · intro z
        refine cn_no fun a ha t => ?_
        rcases t.2 with y | y
        · have : 0 < nD w 0 n := cn_pos (P := fun x => w (36 + x) = 1 ∧ w (60 + 24 * 0 + x) = nI n) (a := a) ⟨t.1, y⟩ ha
          omega
        · have : 0 < nD w 1 n := cn_pos (P := fun x => w (36 + x) = 1 ∧ w (60 + 24 * 1 + x) = nI n) (a := a) ⟨t.1, by rw [show 60 + 24 * 1 + a = 84 + a by omega]; exact y⟩ ha
          omega
      · intro z
        have hno := ct_0 z
        have z0 : nD w 0 n = 0 := cn_no fun a ha t => hno a ha ⟨t.1, Or.inl t.2⟩
        have z1 : nD w 1 n = 0 := cn_no fun a ha t => hno a ha ⟨t.1, Or.inr (by have := t.2; rw [show 60 + 24 * 1 + a = 84 + a by omega] at this; exact this)⟩
        omega
    have Yst : ∀ {q : Int32 → SY → Prop} {p : Int32}, (p = 0 → (nI (ct w n) ≤ 0 → q (nI (ct w n)) (nI o, upd (wDp w n 24) n 0, cp, fa)) ∧ (¬ nI (ct w n) ≤ 0 → q (-4) (nI o, w, cp, fa))) → (¬ p = 0 → q (nI (ct w n)) (nI o, upd (wDp w n 24) n 0, cp, fa)) → wpY_drop q (nI o, w, cp, fa) (nI n) p := by
      intro q p h1 h2
      have lp : q (nI (ct w n)) (nI o, upd (wDp w n 24) n 0, cp, fa) → wY_drop_32 q (nI n) (nI (ct w n)) (nI o) 25 0 w cp fa := fun z => by
        have := gy_drop_l (yo := nI o) (w := w) (cp := cp) (fa := fa) (x3 := nI (ct w n)) hn z 24 0 rfl
        rw [wDp_0] at this
        exact this
      unfold wpY_drop
      refine gy_isN1 hn hw (br_f gx_10 ?_)
      refine gy_deg (t := 4) (y := 2) hn hw (by omega) (by omega) ?_
      rw [cq_tq]
      exact br_c (fun z => br_c (fun y => ⟨25, lp ((h1 z).1 y)⟩) (fun y => (h1 z).2 y)) (fun z => ⟨25, lp (h2 z)⟩)
    have Xst : ∀ {q : Int32 → SX → Prop}, (∀ (ce' kc' ko' ik' kn' : Nat → Int32), JR o sn kc' ko' ik' kn' ce' → GR ce' (upd (wDp w n 24) n 0) → q (nI (ct w n)) (nI o, fp, fc, fg, fw, ce', kc', ko', ik', kn', re, dn, qu, et, lo, ab, na, pi)) → ∃ n40, wX_drop_40 q (nI n) (nI (16 + 7 * n)) n40 0 0 (nI o) fp fc fg fw ce kc ko ik kn re dn qu et lo ab na pi := fun K => ⟨3, gx_drop40 ho hn hj hg hw K⟩
    refine br_c (fun z => ⟨pk_in (22 + 7 * n) 340 (by omega) (by first | rfl | exact congrArg nI (by omega) | (simp only [nI_add, pk_mul, ir_0, ir_1, ir_2, ir_3, ir_4, ir_5, ir_6, ir_7, ir_8, ir_9, ir_13, il_4, il_12, il_16, il_24, il_36, il_60, il_84, il_100, il_108, il_132, il_340, im_5, im_7, im_10, im_11, im_3, im_24, im_156, im_340]; first | done | exact congrArg nI (by omega))), ?_⟩) (fun z => ?_)
    · rw [e6]
      by_cases y : nD w 0 n + nD w 1 n = 0
      · refine br_t (by rw [y]; decide) (Xst fun ce' kc' ko' ik' kn' hj' hg' => Yst (fun _ => ⟨fun _ => ⟨rfl, gr_mk ho hj' hg' hs⟩, fun x => ?_⟩) (fun x => absurd z x))
        rw [hz.mp y] at x; exact absurd (by decide) x
      · refine br_f (nI_nle (by omega) (by omega)) (Yst (fun _ => ⟨fun x => ?_, fun _ => ⟨rfl, I⟩⟩) (fun x => absurd z x))
        have : ct w n ≠ 0 := fun e => y (hz.mpr e)
        exact absurd x (nI_nle (by omega) (by omega))
    · exact Xst fun ce' kc' ko' ik' kn' hj' hg' => Yst (fun x => absurd x z) (fun _ => ⟨rfl, gr_mk ho hj' hg' hs⟩)
  · refine gx_isN0 hg.1 h (br_t rfl ?_)
    unfold wpY_drop
    exact gy_isN0 h (br_t rfl ⟨rfl, I⟩)
end
section
/-! the constructors -/
/-- a chain of all that follow -/
def nxA (N n : Nat) : Int32 := if n + 1 = N then -1 else nI (n + 1)
theorem nxA_lk {N : Nat} {nx : Nat → Int32} (h : ∀ n, n < N → nx n = nxA N n) : ∀ d k, k + d = N → ∀ hd : Int32, (d = 0 → hd = -1) → (d ≠ 0 → hd = nI k) → LkF nx hd (List.range' k d)
  | 0, k, _, hd, h0, _ => h0 rfl
  | d + 1, k, hk, hd, _, h1 => by
    rw [List.range'_succ]
    refine ⟨h1 (by omega), nxA_lk h d (k + 1) (by omega) (nx k) (fun z => ?_) (fun z => ?_)⟩
    · rw [h k (by omega)]; exact if_pos (by omega)
    · rw [h k (by omega)]; exact if_neg (by omega)
def Ini (i j : Nat) (c : Nat → Int32) : Prop := (∀ n, n < i → c (21 + 7 * n) = nxA 12 n) ∧ (∀ a, a < j → c (105 + 10 * a) = nxA 24 a) ∧ ∀ k, (∀ n, n < 12 → k ≠ 21 + 7 * n) → (∀ a, a < 24 → k ≠ 105 + 10 * a) → c k = 0
theorem Ini_GR {c : Nat → Int32} (h : Ini 12 24 c) : GR c (fun _ => 0) := by
  obtain ⟨h1, h2, h3⟩ := h
  have h01 : (0 : Int32) ≠ 1 := by decide
  have hN : nN (fun _ => 0) = 0 := cn_no fun _ _ z => h01 z
  have hA : nA (fun _ => 0) = 0 := cn_no fun _ _ z => h01 z
  refine ⟨fun n hn => ⟨h3 _ (fun m _ => by omega) (fun a _ => by omega), Or.inl rfl, fun z => absurd z h01⟩, fun a ha => ⟨h3 _ (fun m _ => by omega) (fun b _ => by omega), Or.inl rfl, fun z => absurd z h01⟩, ?_, ?_, ?_, fun s n _ _ z => absurd z h01, fun n _ z => absurd z h01, ?_⟩
  · refine ⟨List.range' 0 12, nxA_lk (N := 12) h1 12 0 rfl _ (fun z => absurd z (by decide)) (fun _ => h3 0 (fun m _ => by omega) (fun a _ => by omega)), List.pairwise_lt_range', fun n => ?_⟩
    rw [List.mem_range'_1]
    constructor
    · rintro ⟨_, z⟩; exact ⟨by omega, h01⟩
    · rintro ⟨z, _⟩; omega
  · refine ⟨List.range' 0 24, nxA_lk (N := 24) h2 24 0 rfl _ (fun z => absurd z (by decide)) (fun _ => h3 1 (fun m _ => by omega) (fun a _ => by omega)), List.pairwise_lt_range', fun n => ?_⟩
    rw [List.mem_range'_1]
    constructor
    · rintro ⟨_, z⟩; exact ⟨by omega, h01⟩
    · rintro ⟨z, _⟩; omega
  · refine row_GW (L := 0) (R := fun _ => 0) hN ⟨h3 2 (fun m _ => by omega) (fun a _ => by omega), by omega, fun k hk => by omega⟩ ⟨fun k hk => by omega, fun n hn => absurd hn.2 h01, fun i j _ hj => by omega⟩
  · show c 3 = nI (nA fun _ => 0)
    rw [hA]; exact h3 3 (fun m _ => by omega) (fun a _ => by omega)
section
variable {fo fp fc fg fw : Int32} {ce kc ko ik kn re dn qu et lo ab na pi : Nat → Int32}
theorem gx_ini2 {post : SX → Prop} (K : ∀ c, Ini 12 24 c → post (fo, fp, fc, fg, fw, c, kc, ko, ik, kn, re, dn, qu, et, lo, ab, na, pi)) : ∀ d k (ce : Nat → Int32), k + d = 24 → Ini 12 k ce → wX_init_153 post fo fp fc fg fw (d + 1) (nI k) ce kc ko ik kn re dn qu et lo ab na pi := by
  intro d
  induction d with
  | zero =>
    intro k ce hk h
    have : k = 24 := by omega
    subst this
    exact br_t (nI_le (a := 24) (b := 24) (by omega) (by omega)) (K ce h)
  | succ d ih =>
    intro k ce hk h
    have st : ∀ v, v = nxA 24 k → Ini 12 (k + 1) (upd ce (105 + 10 * k) v) := by
      intro v hv
      refine ⟨fun n hn => by rw [pk_un (by omega)]; exact h.1 n hn, fun a ha => ?_, fun i i1 i2 => by rw [pk_un (i2 k (by omega))]; exact h.2.2 i i1 i2⟩
      by_cases e : a = k
      · subst e; rw [pk_us]; exact hv
      · rw [pk_un (by omega)]; exact h.2.1 a (by omega)
    refine br_f (nI_ge (b := 24) (by omega) (by decide)) (gx_aa ?_)
    have hin : vp_in (nI (100 + 10 * k) + 5) 340 := pk_in (105 + 10 * k) 340 (by omega) (by first | rfl | exact congrArg nI (by omega) | (simp only [nI_add, pk_mul, ir_0, ir_1, ir_2, ir_3, ir_4, ir_5, ir_6, ir_7, ir_8, ir_9, ir_13, il_4, il_12, il_16, il_24, il_36, il_60, il_84, il_100, il_108, il_132, il_340, im_5, im_7, im_10, im_11, im_3, im_24, im_156, im_340]; first | done | exact congrArg nI (by omega)))
    rw [nI_1]
    by_cases z : k + 1 = 24
    · exact br_t (by rw [z]; exact nI_le (a := 24) (b := 24) (by omega) (by omega)) ⟨hin, nm_r (gx_u (n := 105 + 10 * k) (by first | rfl | exact congrArg nI (by omega) | (simp only [nI_add, pk_mul, ir_0, ir_1, ir_2, ir_3, ir_4, ir_5, ir_6, ir_7, ir_8, ir_9, ir_13, il_4, il_12, il_16, il_24, il_36, il_60, il_84, il_100, il_108, il_132, il_340, im_5, im_7, im_10, im_11, im_3, im_24, im_156, im_340]; first | done | exact congrArg nI (by omega))) (by omega)) (nm_e (ih (k + 1) _ (by omega) (st _ (if_pos z).symm)))⟩
    · exact br_f (nI_ge (b := 24) (by omega) (by decide)) ⟨hin, nm_r (gx_u (n := 105 + 10 * k) (by first | rfl | exact congrArg nI (by omega) | (simp only [nI_add, pk_mul, ir_0, ir_1, ir_2, ir_3, ir_4, ir_5, ir_6, ir_7, ir_8, ir_9, ir_13, il_4, il_12, il_16, il_24, il_36, il_60, il_84, il_100, il_108, il_132, il_340, im_5, im_7, im_10, im_11, im_3, im_24, im_156, im_340]; first | done | exact congrArg nI (by omega))) (by omega)) (nm_e (ih (k + 1) _ (by omega) (st _ (if_neg z).symm)))⟩
theorem gx_ini1 {post : SX → Prop} (K : ∀ c, Ini 12 24 c → post (fo, fp, fc, fg, fw, c, kc, ko, ik, kn, re, dn, qu, et, lo, ab, na, pi)) : ∀ d k (ce : Nat → Int32), k + d = 12 → Ini k 0 ce → wX_init_113 post fo fp fc fg fw (d + 1) (nI k) ce kc ko ik kn re dn qu et lo ab na pi := by
  intro d
  induction d with
  | zero =>
    intro k ce hk h
    have : k = 12 := by omega
    subst this
    exact br_t (nI_le (a := 12) (b := 12) (by omega) (by omega)) ⟨25, gx_ini2 K 24 0 ce (by omega) h⟩
  | succ d ih =>
    intro k ce hk h
    have st : ∀ v, v = nxA 12 k → Ini (k + 1) 0 (upd ce (21 + 7 * k) v) := by
      intro v hv
      refine ⟨fun n hn => ?_, fun a ha => by omega, fun i i1 i2 => by rw [pk_un (i1 k (by omega))]; exact h.2.2 i i1 i2⟩
      by_cases e : n = k
      · subst e; rw [pk_us]; exact hv
      · rw [pk_un (by omega)]; exact h.1 n (by omega)
    refine br_f (nI_ge (b := 12) (by omega) (by decide)) (gx_na ?_)
    have hin : vp_in (nI (16 + 7 * k) + 5) 340 := pk_in (21 + 7 * k) 340 (by omega) (by first | rfl | exact congrArg nI (by omega) | (simp only [nI_add, pk_mul, ir_0, ir_1, ir_2, ir_3, ir_4, ir_5, ir_6, ir_7, ir_8, ir_9, ir_13, il_4, il_12, il_16, il_24, il_36, il_60, il_84, il_100, il_108, il_132, il_340, im_5, im_7, im_10, im_11, im_3, im_24, im_156, im_340]; first | done | exact congrArg nI (by omega)))
    rw [nI_1]
    by_cases z : k + 1 = 12
    · exact br_t (by rw [z]; exact nI_le (a := 12) (b := 12) (by omega) (by omega)) ⟨hin, nm_r (gx_u (n := 21 + 7 * k) (by first | rfl | exact congrArg nI (by omega) | (simp only [nI_add, pk_mul, ir_0, ir_1, ir_2, ir_3, ir_4, ir_5, ir_6, ir_7, ir_8, ir_9, ir_13, il_4, il_12, il_16, il_24, il_36, il_60, il_84, il_100, il_108, il_132, il_340, im_5, im_7, im_10, im_11, im_3, im_24, im_156, im_340]; first | done | exact congrArg nI (by omega))) (by omega)) (nm_e (ih (k + 1) _ (by omega) (st _ (if_pos z).symm)))⟩
    · exact br_f (nI_ge (b := 12) (by omega) (by decide)) ⟨hin, nm_r (gx_u (n := 21 + 7 * k) (by first | rfl | exact congrArg nI (by omega) | (simp only [nI_add, pk_mul, ir_0, ir_1, ir_2, ir_3, ir_4, ir_5, ir_6, ir_7, ir_8, ir_9, ir_13, il_4, il_12, il_16, il_24, il_36, il_60, il_84, il_100, il_108, il_132, il_340, im_5, im_7, im_10, im_11, im_3, im_24, im_156, im_340]; first | done | exact congrArg nI (by omega))) (by omega)) (nm_e (ih (k + 1) _ (by omega) (st _ (if_neg z).symm)))⟩
end
theorem i_vc0 : wpX_init (fun u => wpY_init (fun v => i_Rel 0 u v)) := by
  refine ⟨13, gx_ini1 (fun c hc => ?_) 12 0 _ (by omega) ⟨fun n hn => by omega, fun a ha => by omega, fun _ _ _ => rfl⟩⟩
  have hj : JR 0 (fun _ _ => 0) (fun _ => 0) (fun _ => 0) (fun _ => 0) (fun _ => 0) c := ⟨fun t ht => by omega, fun t _ _ => ⟨rfl, fun _ _ => rfl⟩⟩
  unfold wpY_init
  exact gr_mk (o := 0) (by omega) hj (Ini_GR hc) (fun t ht => by omega)
end
section
/-! checking all records -/
theorem cn_sum {P Q R : Nat → Prop} : ∀ {N : Nat}, (∀ a, a < N → (R a ↔ P a ∨ Q a) ∧ ¬ (P a ∧ Q a)) → cn R N = cn P N + cn Q N
  | 0, _ => rfl
  | N + 1, h => by
    simp only [cn]
    rw [cn_sum (fun a ha => h a (by omega))]
    obtain ⟨h1, h2⟩ := h N (by omega)
    by_cases p : P N
    · have q : ¬ Q N := fun z => h2 ⟨p, z⟩
      rw [gs_bt p, gs_bf q, gs_bt (h1.mpr (Or.inl p))]; omega
    · by_cases q : Q N
      · rw [gs_bf p, gs_bt q, gs_bt (h1.mpr (Or.inr q))]; omega
      · rw [gs_bf p, gs_bf q, gs_bf (fun z => (h1.mp z).elim p q)]; omega
theorem cn_not {P : Nat → Prop} : ∀ {N : Nat}, cn (fun a => ¬ P a) N + cn P N = N
  | 0 => rfl
  | N + 1 => by
    simp only [cn]
    have := cn_not (P := P) (N := N)
    by_cases p : P N
    · rw [gs_bt p, gs_bf (fun z => z p)]; omega
    · rw [gs_bf p, gs_bt p]; omega
section
variable {fo fp fc fg fw : Int32} {ce kc ko ik kn re dn qu et lo ab na pi : Nat → Int32} {w : Nat → Int32}
theorem gx_exp {post : SX → Prop} (h : post (fo, fp, fc, fg, 0, ce, kc, ko, ik, kn, re, dn, qu, et, lo, ab, na, pi)) : wpX_expect post (fo, fp, fc, fg, 0, ce, kc, ko, ik, kn, re, dn, qu, et, lo, ab, na, pi) 1 := br_f gx_10 (nm_r (e' := 0) (by decide) h)
theorem gx_chk_l {post : Int32 → SX → Prop} {s n T : Nat} (hA : GA ce w) (hs : s < 2) (hn : n < 12) (hT : T ≤ 24) (K : post (nI T) (fo, fp, fc, fg, 0, ce, kc, ko, ik, kn, re, dn, qu, et, lo, ab, na, pi)) : ∀ (l : List Nat) (f k : Nat) (h p : Int32), DLk (fun a => ce (105 + 10 * a + s)) (fun a => ce (107 + 10 * a + s)) h p l → (∀ a, a ∈ l → a < 24 ∧ w (36 + a) = 1 ∧ w (60 + 24 * s + a) = nI n) → k + l.length = T → l.length < f → wX_checkChain_20 post (nI n) (nI s) f p (nI k) h fo fp fc fg 0 ce kc ko ik kn re dn qu et lo ab na pi := by
  intro l
  induction l with
  | nil =>
    intro f k h p hl _ hk hf
    obtain ⟨f, rfl⟩ : ∃ g, f = g + 1 := ⟨f - 1, by omega⟩
    have hh : h = -1 := hl
    have : k = T := by simpa using hk
    subst this
    exact br_t (by rw [hh]; decide) K
  | cons a l ih =>
    intro f k h p hl hm hk hf
    obtain ⟨f, rfl⟩ : ∃ g, f = g + 1 := ⟨f - 1, by omega⟩
    rw [List.length_cons] at hk hf
    obtain ⟨ha, hw, he⟩ := hm a List.mem_cons_self
    have hh : h = nI a := hl.1
    have hp : ce (107 + 10 * a + s) = p := hl.2.1
    subst hh
    have c0 : ce (nI (100 + 10 * a)).toNatClampNeg = 1 := (congrArg ce (nI_clamp (by omega))).trans ((hA a ha).1.trans hw)
    have c1 : ce (nI (100 + 10 * a) + 1 + nI s).toNatClampNeg = nI n := (gx_c (n := 101 + 10 * a + s) (by first | rfl | exact congrArg nI (by omega) | (simp only [nI_add, pk_mul, ir_0, ir_1, ir_2, ir_3, ir_4, ir_5, ir_6, ir_7, ir_8, ir_9, ir_13, il_4, il_12, il_16, il_24, il_36, il_60, il_84, il_100, il_108, il_132, il_340, im_5, im_7, im_10, im_11, im_3, im_24, im_156, im_340]; first | done | exact congrArg nI (by omega))) (by omega)).trans ((GA_part hA ha hw (by omega)).trans he)
    have c2 : ce (nI (100 + 10 * a) + 7 + nI s).toNatClampNeg = p := (gx_c (n := 107 + 10 * a + s) (by first | rfl | exact congrArg nI (by omega) | (simp only [nI_add, pk_mul, ir_0, ir_1, ir_2, ir_3, ir_4, ir_5, ir_6, ir_7, ir_8, ir_9, ir_13, il_4, il_12, il_16, il_24, il_36, il_60, il_84, il_100, il_108, il_132, il_340, im_5, im_7, im_10, im_11, im_3, im_24, im_156, im_340]; first | done | exact congrArg nI (by omega))) (by omega)).trans hp
    refine br_f (nI_pos (by omega)) (br_f (nI_nlt (a := 24) (b := k) (by omega) (by decide)) (gx_aa ⟨vp_in_nI (by omega) (by omega), br_t c0 ⟨pk_in (101 + 10 * a + s) 340 (by omega) (by first | rfl | exact congrArg nI (by omega) | (simp only [nI_add, pk_mul, ir_0, ir_1, ir_2, ir_3, ir_4, ir_5, ir_6, ir_7, ir_8, ir_9, ir_13, il_4, il_12, il_16, il_24, il_36, il_60, il_84, il_100, il_108, il_132, il_340, im_5, im_7, im_10, im_11, im_3, im_24, im_156, im_340]; first | done | exact congrArg nI (by omega))), br_t c1 ⟨pk_in (107 + 10 * a + s) 340 (by omega) (by first | rfl | exact congrArg nI (by omega) | (simp only [nI_add, pk_mul, ir_0, ir_1, ir_2, ir_3, ir_4, ir_5, ir_6, ir_7, ir_8, ir_9, ir_13, il_4, il_12, il_16, il_24, il_36, il_60, il_84, il_100, il_108, il_132, il_340, im_5, im_7, im_10, im_11, im_3, im_24, im_156, im_340]; first | done | exact congrArg nI (by omega))), br_t c2 ?_⟩⟩⟩))
    unfold wX_checkChain_87
    refine gx_exp ?_
    refine ⟨pk_in (105 + 10 * a + s) 340 (by omega) (by first | rfl | exact congrArg nI (by omega) | (simp only [nI_add, pk_mul, ir_0, ir_1, ir_2, ir_3, ir_4, ir_5, ir_6, ir_7, ir_8, ir_9, ir_13, il_4, il_12, il_16, il_24, il_36, il_60, il_84, il_100, il_108, il_132, il_340, im_5, im_7, im_10, im_11, im_3, im_24, im_156, im_340]; first | done | exact congrArg nI (by omega))), nm_r (e' := ce (105 + 10 * a + s)) (gx_c (by first | rfl | exact congrArg nI (by omega) | (simp only [nI_add, pk_mul, ir_0, ir_1, ir_2, ir_3, ir_4, ir_5, ir_6, ir_7, ir_8, ir_9, ir_13, il_4, il_12, il_16, il_24, il_36, il_60, il_84, il_100, il_108, il_132, il_340, im_5, im_7, im_10, im_11, im_3, im_24, im_156, im_340]; first | done | exact congrArg nI (by omega))) (by omega)) (nm_r (nI_1 k) ?_)⟩
    exact ih f (k + 1) _ _ hl.2.2 (fun b hb => hm b (List.mem_cons_of_mem _ hb)) (by omega) (by omega)
theorem gx_chk {post : Int32 → SX → Prop} {s n : Nat} {p1 : Int32} (hA : GA ce w) (hC : GC ce w) (hs : s < 2) (hp1 : p1 = nI s) (hn : n < 12) (hw : w n = 1) (K : post (nI (nD w s n)) (fo, fp, fc, fg, 0, ce, kc, ko, ik, kn, re, dn, qu, et, lo, ab, na, pi)) : wpX_checkChain post (fo, fp, fc, fg, 0, ce, kc, ko, ik, kn, re, dn, qu, et, lo, ab, na, pi) (nI n) p1 := by
  subst hp1
  obtain ⟨l, hc, hm⟩ := hC s n hs hn hw
  have hlen := gx_len hc hm
  unfold wpX_checkChain
  refine gx_na ?_
  refine ⟨pk_in (19 + 7 * n + s) 340 (by omega) (by first | rfl | exact congrArg nI (by omega) | (simp only [nI_add, pk_mul, ir_0, ir_1, ir_2, ir_3, ir_4, ir_5, ir_6, ir_7, ir_8, ir_9, ir_13, il_4, il_12, il_16, il_24, il_36, il_60, il_84, il_100, il_108, il_132, il_340, im_5, im_7, im_10, im_11, im_3, im_24, im_156, im_340]; first | done | exact congrArg nI (by omega))), nm_r (e' := ce (19 + 7 * n + s)) (gx_c (by first | rfl | exact congrArg nI (by omega) | (simp only [nI_add, pk_mul, ir_0, ir_1, ir_2, ir_3, ir_4, ir_5, ir_6, ir_7, ir_8, ir_9, ir_13, il_4, il_12, il_16, il_24, il_36, il_60, il_84, il_100, il_108, il_132, il_340, im_5, im_7, im_10, im_11, im_3, im_24, im_156, im_340]; first | done | exact congrArg nI (by omega))) (by omega)) ⟨l.length + 1, ?_⟩⟩
  exact gx_chk_l hA hs hn (nD_le s n) K l (l.length + 1) 0 _ _ hc.1 (fun a ha => (hm a).mp ha) (by omega) (by omega)
theorem gx_free_l_n {post : Int32 → SX → Prop} {T : Nat} (hT : T ≤ 24) (K : post (nI T) (fo, fp, fc, fg, 0, ce, kc, ko, ik, kn, re, dn, qu, et, lo, ab, na, pi)) : ∀ (l : List Nat) (f k : Nat) (h la : Int32), LkF (fun a => ce (21 + 7 * a)) h l → (∀ a, a ∈ l → a < 12 ∧ ce (16 + 7 * a) = 0) → l.Pairwise (· < ·) → (∀ a, a ∈ l → la < nI a) → k + l.length = T → l.length < f → wX_checkFree_14 post 16 7 5 f la (nI k) h fo fp fc fg 0 ce kc ko ik kn re dn qu et lo ab na pi := by
  intro l
  induction l with
  | nil =>
    intro f k h la hl _ _ _ hk hf
    obtain ⟨f, rfl⟩ : ∃ g, f = g + 1 := ⟨f - 1, by omega⟩
    have hh : h = -1 := hl
    have : k = T := by simpa using hk
    subst this
    exact br_t (by rw [hh]; decide) K
  | cons a l ih =>
    intro f k h la hl hm hr hlt hk hf
    obtain ⟨f, rfl⟩ : ∃ g, f = g + 1 := ⟨f - 1, by omega⟩
    rw [List.length_cons] at hk hf
    rw [List.pairwise_cons] at hr
    obtain ⟨ha, h0⟩ := hm a List.mem_cons_self
    have hh : h = nI a := hl.1
    subst hh
    have c0 : ce (16 + 7 * nI a).toNatClampNeg = 0 := (gx_c (n := 16 + 7 * a) (by first | rfl | exact congrArg nI (by omega) | (simp only [nI_add, pk_mul, ir_0, ir_1, ir_2, ir_3, ir_4, ir_5, ir_6, ir_7, ir_8, ir_9, ir_13, il_4, il_12, il_16, il_24, il_36, il_60, il_84, il_100, il_108, il_132, il_340, im_5, im_7, im_10, im_11, im_3, im_24, im_156, im_340]; first | done | exact congrArg nI (by omega))) (by omega)).trans h0
    refine br_f (nI_pos (by omega)) (br_f (nI_nlt (a := 24) (b := k) (by omega) (by decide)) (br_f (Int32.not_le.mpr (hlt a List.mem_cons_self)) ⟨pk_in (16 + 7 * a) 340 (by omega) (by first | rfl | exact congrArg nI (by omega) | (simp only [nI_add, pk_mul, ir_0, ir_1, ir_2, ir_3, ir_4, ir_5, ir_6, ir_7, ir_8, ir_9, ir_13, il_4, il_12, il_16, il_24, il_36, il_60, il_84, il_100, il_108, il_132, il_340, im_5, im_7, im_10, im_11, im_3, im_24, im_156, im_340]; first | done | exact congrArg nI (by omega))), br_t c0 ?_⟩))
    unfold wX_checkFree_53
    refine gx_exp ?_
    refine ⟨pk_in (21 + 7 * a) 340 (by omega) (by first | rfl | exact congrArg nI (by omega) | (simp only [nI_add, pk_mul, ir_0, ir_1, ir_2, ir_3, ir_4, ir_5, ir_6, ir_7, ir_8, ir_9, ir_13, il_4, il_12, il_16, il_24, il_36, il_60, il_84, il_100, il_108, il_132, il_340, im_5, im_7, im_10, im_11, im_3, im_24, im_156, im_340]; first | done | exact congrArg nI (by omega))), nm_r (e' := ce (21 + 7 * a)) (gx_c (by first | rfl | exact congrArg nI (by omega) | (simp only [nI_add, pk_mul, ir_0, ir_1, ir_2, ir_3, ir_4, ir_5, ir_6, ir_7, ir_8, ir_9, ir_13, il_4, il_12, il_16, il_24, il_36, il_60, il_84, il_100, il_108, il_132, il_340, im_5, im_7, im_10, im_11, im_3, im_24, im_156, im_340]; first | done | exact congrArg nI (by omega))) (by omega)) (nm_r (nI_1 k) ?_)⟩
    exact ih f (k + 1) _ _ hl.2 (fun b hb => hm b (List.mem_cons_of_mem _ hb)) hr.2 (fun b hb => nI_lt (hr.1 b hb) (by have := (hm b (List.mem_cons_of_mem _ hb)).1; omega)) (by omega) (by omega)
theorem gx_free_l_a {post : Int32 → SX → Prop} {T : Nat} (hT : T ≤ 24) (K : post (nI T) (fo, fp, fc, fg, 0, ce, kc, ko, ik, kn, re, dn, qu, et, lo, ab, na, pi)) : ∀ (l : List Nat) (f k : Nat) (h la : Int32), LkF (fun a => ce (105 + 10 * a)) h l → (∀ a, a ∈ l → a < 24 ∧ ce (100 + 10 * a) = 0) → l.Pairwise (· < ·) → (∀ a, a ∈ l → la < nI a) → k + l.length = T → l.length < f → wX_checkFree_14 post 100 10 5 f la (nI k) h fo fp fc fg 0 ce kc ko ik kn re dn qu et lo ab na pi := by
  intro l
  induction l with
  | nil =>
    intro f k h la hl _ _ _ hk hf
    obtain ⟨f, rfl⟩ : ∃ g, f = g + 1 := ⟨f - 1, by omega⟩
    have hh : h = -1 := hl
    have : k = T := by simpa using hk
    subst this
    exact br_t (by rw [hh]; decide) K
  | cons a l ih =>
    intro f k h la hl hm hr hlt hk hf
    obtain ⟨f, rfl⟩ : ∃ g, f = g + 1 := ⟨f - 1, by omega⟩
    rw [List.length_cons] at hk hf
    rw [List.pairwise_cons] at hr
    obtain ⟨ha, h0⟩ := hm a List.mem_cons_self
    have hh : h = nI a := hl.1
    subst hh
    have c0 : ce (100 + 10 * nI a).toNatClampNeg = 0 := (gx_c (n := 100 + 10 * a) (by first | rfl | exact congrArg nI (by omega) | (simp only [nI_add, pk_mul, ir_0, ir_1, ir_2, ir_3, ir_4, ir_5, ir_6, ir_7, ir_8, ir_9, ir_13, il_4, il_12, il_16, il_24, il_36, il_60, il_84, il_100, il_108, il_132, il_340, im_5, im_7, im_10, im_11, im_3, im_24, im_156, im_340]; first | done | exact congrArg nI (by omega))) (by omega)).trans h0
    refine br_f (nI_pos (by omega)) (br_f (nI_nlt (a := 24) (b := k) (by omega) (by decide)) (br_f (Int32.not_le.mpr (hlt a List.mem_cons_self)) ⟨pk_in (100 + 10 * a) 340 (by omega) (by first | rfl | exact congrArg nI (by omega) | (simp only [nI_add, pk_mul, ir_0, ir_1, ir_2, ir_3, ir_4, ir_5, ir_6, ir_7, ir_8, ir_9, ir_13, il_4, il_12, il_16, il_24, il_36, il_60, il_84, il_100, il_108, il_132, il_340, im_5, im_7, im_10, im_11, im_3, im_24, im_156, im_340]; first | done | exact congrArg nI (by omega))), br_t c0 ?_⟩))
    unfold wX_checkFree_53
    refine gx_exp ?_
    refine ⟨pk_in (105 + 10 * a) 340 (by omega) (by first | rfl | exact congrArg nI (by omega) | (simp only [nI_add, pk_mul, ir_0, ir_1, ir_2, ir_3, ir_4, ir_5, ir_6, ir_7, ir_8, ir_9, ir_13, il_4, il_12, il_16, il_24, il_36, il_60, il_84, il_100, il_108, il_132, il_340, im_5, im_7, im_10, im_11, im_3, im_24, im_156, im_340]; first | done | exact congrArg nI (by omega))), nm_r (e' := ce (105 + 10 * a)) (gx_c (by first | rfl | exact congrArg nI (by omega) | (simp only [nI_add, pk_mul, ir_0, ir_1, ir_2, ir_3, ir_4, ir_5, ir_6, ir_7, ir_8, ir_9, ir_13, il_4, il_12, il_16, il_24, il_36, il_60, il_84, il_100, il_108, il_132, il_340, im_5, im_7, im_10, im_11, im_3, im_24, im_156, im_340]; first | done | exact congrArg nI (by omega))) (by omega)) (nm_r (nI_1 k) ?_)⟩
    exact ih f (k + 1) _ _ hl.2 (fun b hb => hm b (List.mem_cons_of_mem _ hb)) hr.2 (fun b hb => nI_lt (hr.1 b hb) (by have := (hm b (List.mem_cons_of_mem _ hb)).1; omega)) (by omega) (by omega)
theorem gx_freeN {post : Int32 → SX → Prop} (hN : GN ce w) (hF : GF ce w) (K : post (nI (12 - nN w)) (fo, fp, fc, fg, 0, ce, kc, ko, ik, kn, re, dn, qu, et, lo, ab, na, pi)) : wpX_checkFree post (fo, fp, fc, fg, 0, ce, kc, ko, ik, kn, re, dn, qu, et, lo, ab, na, pi) 0 16 7 5 := by
  obtain ⟨l, l1, l2, l3⟩ := hF
  have hlen : l.length = 12 - nN w := by
    have := gs_len (N := 12) l (fun n => w n ≠ 1) (l2.imp (fun h => Nat.ne_of_lt h)) l3
    have e := cn_not (P := fun n => w n = 1) (N := 12)
    rw [this]
    show cn (fun n => ¬ w n = 1) 12 = 12 - cn (fun n => w n = 1) 12
    omega
  refine ⟨vp_in_nI (n := 0) (by omega) (by omega), nm_e ⟨l.length + 1, ?_⟩⟩
  refine gx_free_l_n (by omega) K l (l.length + 1) 0 _ _ l1 (fun a ha => ?_) l2 (fun a ha => ?_) (by omega) (by omega)
  · obtain ⟨q1, q2⟩ := (l3 a).mp ha
    obtain ⟨p1, p2, _⟩ := hN a q1
    exact ⟨q1, p1.trans (p2.elim id (fun z => absurd z q2))⟩
  · have := ((l3 a).mp ha).1
    exact Int32.lt_of_lt_of_le (show (-1 : Int32) < 0 by decide) (nI_pos' (by omega))
theorem gx_freeA {post : Int32 → SX → Prop} (hA : GA ce w) (hE : GE ce w) (K : post (nI (24 - nA w)) (fo, fp, fc, fg, 0, ce, kc, ko, ik, kn, re, dn, qu, et, lo, ab, na, pi)) : wpX_checkFree post (fo, fp, fc, fg, 0, ce, kc, ko, ik, kn, re, dn, qu, et, lo, ab, na, pi) 1 100 10 5 := by
  obtain ⟨l, l1, l2, l3⟩ := hE
  have hlen : l.length = 24 - nA w := by
    have := gs_len (N := 24) l (fun n => w (36 + n) ≠ 1) (l2.imp (fun h => Nat.ne_of_lt h)) l3
    have e := cn_not (P := fun n => w (36 + n) = 1) (N := 24)
    rw [this]
    show cn (fun n => ¬ w (36 + n) = 1) 24 = 24 - cn (fun n => w (36 + n) = 1) 24
    omega
  refine ⟨vp_in_nI (n := 1) (by omega) (by omega), nm_e ⟨l.length + 1, ?_⟩⟩
  refine gx_free_l_a (by omega) K l (l.length + 1) 0 _ _ l1 (fun a ha => ?_) l2 (fun a ha => ?_) (by omega) (by omega)
  · obtain ⟨q1, q2⟩ := (l3 a).mp ha
    obtain ⟨p1, p2, _⟩ := hA a q1
    exact ⟨q1, p1.trans (p2.elim id (fun z => absurd z q2))⟩
  · have := ((l3 a).mp ha).1
    exact Int32.lt_of_lt_of_le (show (-1 : Int32) < 0 by decide) (nI_pos' (by omega))
theorem gx_row_l {post : SX → Prop} {R : Nat → Nat} (hN : GN ce w) (hr : RW ce (nN w) R) (hR : RowOK (uN' w) (fun n => w (24 + n)) (nN w) R) (K : post (fo, fp, fc, fg, 0, ce, kc, ko, ik, kn, re, dn, qu, et, lo, ab, na, pi)) : ∀ (f k : Nat), 1 ≤ k → nN w + 1 - k < f → k ≤ 13 → wX_checkRow_2 post f (nI k) fo fp fc fg 0 ce kc ko ik kn re dn qu et lo ab na pi := by
  intro f
  have hL := hr.2.1
  induction f with
  | zero => intro k _ h; omega
  | succ f ih =>
    intro k h1 hf hk13
    rcases Nat.lt_or_ge k (nN w) with z | z
    · obtain ⟨r1, c1⟩ := hr.2.2 k z
      obtain ⟨r0, c0⟩ := hr.2.2 (k - 1) (by omega)
      have e1 : ce (4 + nI k).toNatClampNeg = nI (R k) := (gx_c (n := 4 + k) (by first | rfl | exact congrArg nI (by omega) | (simp only [nI_add, pk_mul, ir_0, ir_1, ir_2, ir_3, ir_4, ir_5, ir_6, ir_7, ir_8, ir_9, ir_13, il_4, il_12, il_16, il_24, il_36, il_60, il_84, il_100, il_108, il_132, il_340, im_5, im_7, im_10, im_11, im_3, im_24, im_156, im_340]; first | done | exact congrArg nI (by omega))) (by omega)).trans c1
      have i0 : (4 : Int32) + nI k - 1 = nI (4 + (k - 1)) := by
        rw [il_4]
        exact (pk_sub (a := 4 + k) (b := 1) (by omega)).trans (congrArg nI (by omega))
      have e0 : ce (4 + nI k - 1).toNatClampNeg = nI (R (k - 1)) := (gx_c i0 (by omega)).trans c0
      have u1 := hR.1 k z
      have u0 := hR.1 (k - 1) (by omega)
      have v1 : ce (nI (16 + 7 * R k) + 2).toNatClampNeg = w (24 + R k) := (gx_c (n := 18 + 7 * R k) (by first | rfl | exact congrArg nI (by omega) | (simp only [nI_add, pk_mul, ir_0, ir_1, ir_2, ir_3, ir_4, ir_5, ir_6, ir_7, ir_8, ir_9, ir_13, il_4, il_12, il_16, il_24, il_36, il_60, il_84, il_100, il_108, il_132, il_340, im_5, im_7, im_10, im_11, im_3, im_24, im_156, im_340]; first | done | exact congrArg nI (by omega))) (by omega)).trans ((hN _ r1).2.2 u1.2).2
      have v0 : ce (nI (16 + 7 * R (k - 1)) + 2).toNatClampNeg = w (24 + R (k - 1)) := (gx_c (n := 18 + 7 * R (k - 1)) (by first | rfl | exact congrArg nI (by omega) | (simp only [nI_add, pk_mul, ir_0, ir_1, ir_2, ir_3, ir_4, ir_5, ir_6, ir_7, ir_8, ir_9, ir_13, il_4, il_12, il_16, il_24, il_36, il_60, il_84, il_100, il_108, il_132, il_340, im_5, im_7, im_10, im_11, im_3, im_24, im_156, im_340]; first | done | exact congrArg nI (by omega))) (by omega)).trans ((hN _ r0).2.2 u0.2).2
      have good : wX_checkRow_78 post (wX_checkRow_2 post f) (nI k) fo fp fc fg 0 ce kc ko ik kn re dn qu et lo ab na pi := by
        unfold wX_checkRow_78 wX_checkRow_83
        exact gx_exp (nm_r (nI_1 k) (ih (k + 1) (by omega) (by omega) (by omega)))
      refine br_f (by rw [hr.1]; exact nI_ge (by omega) (by omega)) ⟨pk_in (4 + k) 340 (by omega) (by first | rfl | exact congrArg nI (by omega) | (simp only [nI_add, pk_mul, ir_0, ir_1, ir_2, ir_3, ir_4, ir_5, ir_6, ir_7, ir_8, ir_9, ir_13, il_4, il_12, il_16, il_24, il_36, il_60, il_84, il_100, il_108, il_132, il_340, im_5, im_7, im_10, im_11, im_3, im_24, im_156, im_340]; first | done | exact congrArg nI (by omega))), nm_r e1 ⟨pk_in (4 + (k - 1)) 340 (by omega) i0, nm_r e0 (gx_na ⟨pk_in (18 + 7 * R k) 340 (by omega) (by first | rfl | exact congrArg nI (by omega) | (simp only [nI_add, pk_mul, ir_0, ir_1, ir_2, ir_3, ir_4, ir_5, ir_6, ir_7, ir_8, ir_9, ir_13, il_4, il_12, il_16, il_24, il_36, il_60, il_84, il_100, il_108, il_132, il_340, im_5, im_7, im_10, im_11, im_3, im_24, im_156, im_340]; first | done | exact congrArg nI (by omega))), nm_r v1 (gx_na ⟨pk_in (18 + 7 * R (k - 1)) 340 (by omega) (by first | rfl | exact congrArg nI (by omega) | (simp only [nI_add, pk_mul, ir_0, ir_1, ir_2, ir_3, ir_4, ir_5, ir_6, ir_7, ir_8, ir_9, ir_13, il_4, il_12, il_16, il_24, il_36, il_60, il_84, il_100, il_108, il_132, il_340, im_5, im_7, im_10, im_11, im_3, im_24, im_156, im_340]; first | done | exact congrArg nI (by omega))), nm_r v0 ?_⟩)⟩)⟩⟩
      have hs := hR.2.2 (k - 1) k (by omega) z
      rcases hs with y | ⟨y1, y2⟩
      · exact br_t y good
      · have ny : ¬ w (24 + R (k - 1)) < w (24 + R k) := by
          intro q
          have y1' : w (24 + R (k - 1)) = w (24 + R k) := y1
          rw [y1'] at q; exact Int32.lt_irrefl q
        exact br_f ny (br_t y1 (br_f (nI_ge y2 (by omega)) good))
    · exact br_t (by rw [hr.1]; exact nI_le z (by omega)) K
/-- how many arrows go out of the nodes below -/
noncomputable def nO (w : Nat → Int32) (k : Nat) : Nat := cn (fun a => w (36 + a) = 1 ∧ fr' w a < k) 24
theorem nO_up {k : Nat} (hA : GA ce w) (hk : k < 12) (hw : w k = 1) : nO w (k + 1) = nO w k + nD w 0 k := by
  refine cn_sum fun a ha => ⟨?_, ?_⟩
  · constructor
    · rintro ⟨h1, h2⟩
      rcases Nat.lt_or_ge (fr' w a) k with z | z
      · exact Or.inl ⟨h1, z⟩
      · refine Or.inr ⟨h1, ?_⟩
        have e : fr' w a = k := by omega
        have := (GP_fr ((hA a ha).2.2 h1).2.2.2.2).1
        rw [e] at this
        exact this
    · rintro (⟨h1, h2⟩ | ⟨h1, h2⟩)
      · exact ⟨h1, by omega⟩
      · have := (GP_frI ((hA a ha).2.2 h1).2.2.2.2 hk).mp h2
        exact ⟨h1, by omega⟩
  · rintro ⟨⟨h1, h2⟩, ⟨_, h3⟩⟩
    have := (GP_frI ((hA a ha).2.2 h1).2.2.2.2 hk).mp h3
    omega
theorem nO_no {k : Nat} (hA : GA ce w) (hk : k < 12) (hw : w k ≠ 1) : nO w (k + 1) = nO w k := by
  refine cn_eq fun a ha => ?_
  constructor
  · rintro ⟨h1, h2⟩
    refine ⟨h1, ?_⟩
    have h3 := (GP_fr ((hA a ha).2.2 h1).2.2.2.2).2.2
    have : fr' w a ≠ k := fun e => hw (e ▸ h3)
    omega
  · rintro ⟨h1, h2⟩; exact ⟨h1, by omega⟩
theorem nO_12 (hA : GA ce w) : nO w 12 = nA w := cn_eq fun a ha => ⟨fun z => z.1, fun z => ⟨z, (GP_fr ((hA a ha).2.2 z).2.2.2.2).2.1⟩⟩
theorem gx_flt_l {post : Int32 → SX → Prop} (hg : GR ce w) (K : post 0 (fo, fp, fc, fg, 0, ce, kc, ko, ik, kn, re, dn, qu, et, lo, ab, na, pi)) : ∀ d k, k + d = 12 → wX_faults_11 post (d + 1) (nI (cn (fun n => w n = 1) k)) (nI (nO w k)) (nI k) fo fp fc fg 0 ce kc ko ik kn re dn qu et lo ab na pi := by
  obtain ⟨hN, hA, hF, hE, hW, hC, hH, hT⟩ := hg
  obtain ⟨R, hr, hR⟩ := GW_row hW
  have hL := hr.2.1
  have hA24 : nA w ≤ 24 := cn_le _ _
  intro d
  induction d with
  | zero =>
    intro k hk
    have : k = 12 := by omega
    subst this
    rw [nO_12 hA]
    refine br_t (nI_le (a := 12) (b := 12) (by omega) (by omega)) (br_t hr.1.symm (br_t hT.symm ?_))
    unfold wX_faults_110
    refine gx_exp (gx_freeN hN hF (gx_freeA hA hE (br_t ?_ (br_t ?_ ?_))))
    · exact (pk_sub (a := 12) (b := nN w) hL).symm
    · exact (pk_sub (a := 24) (b := nA w) hA24).symm
    · unfold wX_faults_159
      refine gx_exp ?_
      refine ⟨nN w + 2, gx_row_l hN hr hR ?_ (nN w + 2) 1 (by omega) (by omega) (by omega)⟩
      exact K
  | succ d ih =>
    intro k hk
    have hnx := ih (k + 1) (by omega)
    simp only [cn] at hnx
    refine br_f (nI_ge (b := 12) (by omega) (by decide)) ?_
    by_cases q : w k = 1
    · rw [gs_bt q, nO_up hA (by omega) q] at hnx
      refine gx_isN1 hN (by omega) q (br_f gx_10 (nm_r (nI_1 _) ?_))
      refine gx_chk (s := 0) hA hC (by omega) rfl (by omega) q (nm_r (nI_add _ _) ?_)
      refine gx_chk (s := 1) hA hC (by omega) rfl (by omega) q (gx_na ⟨pk_in (22 + 7 * k) 340 (by omega) (by first | rfl | exact congrArg nI (by omega) | (simp only [nI_add, pk_mul, ir_0, ir_1, ir_2, ir_3, ir_4, ir_5, ir_6, ir_7, ir_8, ir_9, ir_13, il_4, il_12, il_16, il_24, il_36, il_60, il_84, il_100, il_108, il_132, il_340, im_5, im_7, im_10, im_11, im_3, im_24, im_156, im_340]; first | done | exact congrArg nI (by omega))), br_t ?_ ?_⟩)
      · rw [nI_add]; exact (gx_c (n := 22 + 7 * k) (by first | rfl | exact congrArg nI (by omega) | (simp only [nI_add, pk_mul, ir_0, ir_1, ir_2, ir_3, ir_4, ir_5, ir_6, ir_7, ir_8, ir_9, ir_13, il_4, il_12, il_16, il_24, il_36, il_60, il_84, il_100, il_108, il_132, il_340, im_5, im_7, im_10, im_11, im_3, im_24, im_156, im_340]; first | done | exact congrArg nI (by omega))) (by omega)).trans (hH k (by omega) q)
      · unfold wX_faults_75
        exact gx_exp (nm_r (nI_1 k) hnx)
    · rw [gs_bf q, nO_no hA (by omega) q] at hnx
      refine gx_isN0 hN (fun m hm e => ?_) (br_t rfl (nm_r (nI_1 k) hnx))
      have : k = m := (nI_eq (by omega) (by omega)).mp e
      subst this; exact q
end
theorem i_vc_faults {k : Nat} {u : SX} {v : SY} (I : i_Rel k u v) (hk : k + 4 ≤ 2048) : wpX_faults (fun r u' => wpY_faults (fun r' => r' = r ∧ i_Rel (k + 4) u' v) v) u := by
  obtain ⟨fo, fp, fc, fg, fw, ce, kc, ko, ik, kn, re, dn, qu, et, lo, ab, na, pi⟩ := u
  obtain ⟨yo, w, cp, fa⟩ := v
  obtain ⟨o, sn, ho, rfl, rfl, hj, hg, hs⟩ := I
  have I : i_Rel (k + 4) (nI o, fp, fc, fg, fw, ce, kc, ko, ik, kn, re, dn, qu, et, lo, ab, na, pi) (nI o, w, cp, fa) := gr_mk ho hj hg hs
  have h0 : nO w 0 = 0 := cn_no fun a _ z => by have := z.2; omega
  have := gx_flt_l (fo := nI o) (fp := fp) (fc := fc) (fg := fg) (ce := ce) (kc := kc) (ko := ko) (ik := ik) (kn := kn) (re := re) (dn := dn) (qu := qu) (et := et) (lo := lo) (ab := ab) (na := na) (pi := pi) (post := fun r u' => wpY_faults (fun r' => r' = r ∧ i_Rel (k + 4) u' (nI o, w, cp, fa)) (nI o, w, cp, fa)) hg ⟨rfl, gr_mk ho hj hg hs⟩ 12 0 rfl
  rw [h0] at this
  exact ⟨13, this⟩
end
section
/-! how far, in the reference -/
/-- an arrow's cost: one, or its weight -/
noncomputable def wz (z : Int32) (w : Nat → Int32) (a : Nat) : Nat := if z = 0 then 1 else wt' w a
theorem wz_0 {w : Nat → Int32} : wz 0 w = fun _ => 1 := by funext a; exact if_pos rfl
theorem wz_1 {w : Nat → Int32} {a : Nat} : wz 1 w a = wt' w a := if_neg (by decide)
/-- the graph's facts -/
theorem ok_gp {c w : Nat → Int32} {t a : Nat} (h : GA c w) (ha : okA w t a) : GP w a := ((h a ha.1).2.2 ha.2.1).2.2.2.2
theorem ok_to {c w : Nat → Int32} {t : Nat} (h : GA c w) : ∀ a, okA w t a → to' w a < 12 := fun _ ha => (GP_to (ok_gp h ha)).2.1
theorem wz_le {c w : Nat → Int32} {t a : Nat} {z : Int32} (h : GA c w) (ha : okA w t a) : wz z w a ≤ 99 := by
  unfold wz
  split
  · omega
  · exact (GP_wt (ok_gp h ha)).2
section
variable {yo : Int32} {w cp fa : Nat → Int32} {c : Nat → Int32} {s t : Nat} {z : Int32}
theorem gy_ms47 {post : SY → Prop} {J : Int32 → (Nat → Int32) → (Nat → Int32) → (Nat → Int32) → Prop} {r : Nat} (hA : GA c w) (hs : s < 12) (ht : t ≤ 4) (hr : r < 12)
    (K : ∀ fa, WB (okA w t) (fr' w) (to' w) (wz z w) s (99 * (24 * (r + 1))) fa → Cov (okA w t) (fr' w) (to' w) (wz z w) s (r + 1) fa → J (nI (r + 1)) w cp fa) :
    ∀ (d j : Nat) (fa : Nat → Int32), j + d = 24 → WB (okA w t) (fr' w) (to' w) (wz z w) s (99 * (24 * r + j)) fa → Cov (okA w t) (fr' w) (to' w) (wz z w) s r fa → CovA (okA w t) (fr' w) (to' w) (wz z w) s r j fa → wY_measure_47 post J (nI t) z (nI r) yo (d + 1) (nI j) w cp fa := by
  intro d
  induction d with
  | zero =>
    intro j fa hj h1 h2 h3
    have : j = 24 := by omega
    subst this
    exact br_t (nI_le (a := 24) (b := 24) (by omega) (by omega)) (nm_r (nI_1 r) (K fa (WB_up h1 (by omega)) (Cov_next (fun a ha => ha.1) h2 h3)))
  | succ d ih =>
    intro j fa hj h1 h2 h3
    refine br_f (nI_ge (b := 24) (by omega) (by decide)) ?_
    have hup : WB (okA w t) (fr' w) (to' w) (wz z w) s (99 * (24 * r + (j + 1))) fa := WB_up h1 (by omega)
    by_cases q : okA w t j
    · refine gy_isOf1 q ht (br_f gx_10 (gy_part0 q.1 ?_))
      have gp := ok_gp hA q
      obtain ⟨f1, f2, f3⟩ := GP_fr gp
      obtain ⟨t1, t2, t3⟩ := GP_to gp
      obtain ⟨w1, w2⟩ := GP_wt gp
      have hwz := wz_le (z := z) hA q
      rw [f1]
      refine ⟨vp_in_nI f2 (by omega), ?_⟩
      rw [nI_clamp (show fr' w j < 2 ^ 31 by omega)]
      rcases h1 (fr' w j) f2 with y | ⟨e, y1, y2, y3⟩
      · refine br_t (by rw [y]; decide) (nm_r (nI_1 j) (ih (j + 1) fa (by omega) hup h2 (CovA_skip h3 (fun _ k d' hk hw => ?_))))
        obtain ⟨x, hx, _⟩ := h2 k _ d' hk hw
        exact absurd y (fun y => VA_m1 hx y)
      · have hneg : ¬ fa (fr' w j) < 0 := by rw [y1.1]; exact nI_pos (by have := y1.2; omega)
        refine br_f hneg (gy_part1 q.1 ?_)
        rw [t1]
        refine gy_part0 q.1 ?_
        rw [f1]
        refine ⟨vp_in_nI f2 (by omega), ?_⟩
        rw [nI_clamp (show fr' w j < 2 ^ 31 by omega)]
        have fin : ∀ z0 : Int32, z0 = nI (wz z w j) → wY_measure_115 post J (wY_measure_47 post J (nI t) z (nI r) yo (d + 1)) (nI t) z (nI r) (nI j) (nI (to' w j)) z0 (fa (fr' w j)) yo w cp fa := by
          intro z0 hz0
          have hin : vp_in (nI (to' w j)) 12 := vp_in_nI t2 (by omega)
          refine nm_r (e' := nI (e + wz z w j)) (by rw [hz0, y1.1, nI_add]) ⟨hin, ?_⟩
          rw [nI_clamp (show to' w j < 2 ^ 31 by omega)]
          have hv : e + wz z w j < 2 ^ 30 := by omega
          have hcov : ∀ g, (∃ e', VA g (to' w j) e' ∧ e' ≤ e + wz z w j) → okA w t j → ∀ k d', k ≤ r → Wk (okA w t) (fr' w) (to' w) (wz z w) k s (fr' w j) d' → ∃ e', VA g (to' w j) e' ∧ e' ≤ d' + wz z w j := by
            rintro g ⟨e', g1, g2⟩ _ k d' hk hw
            obtain ⟨x, hx, hle⟩ := h2 k _ d' hk hw
            have := VA_u hx y1
            exact ⟨e', g1, by omega⟩
          have wr : (∀ e2, VA fa (to' w j) e2 → e + wz z w j ≤ e2) → wY_measure_47 post J (nI t) z (nI r) yo (d + 1) (nI (j + 1)) w cp (upd fa (to' w j) (nI (e + wz z w j))) := by
            intro hl
            have low := Low_upd hv hl
            exact ih (j + 1) _ (by omega) (WB_upd h1 q y1 f2 (by omega) (by omega)) (Cov_low h2 low) (CovA_skip (CovA_low h3 low) (hcov _ ⟨_, ⟨pk_us, hv⟩, Nat.le_refl _⟩))
          rcases h1 (to' w j) t2 with x | ⟨e2, x1, x2, x3⟩
          · exact br_t (by rw [x]; decide) ⟨hin, nm_e (nm_r (nI_1 j) (wr (fun e2 hx => absurd x (fun x => VA_m1 hx x))))⟩
          · have hneg2 : ¬ fa (to' w j) < 0 := by rw [x1.1]; exact nI_pos (by have := x1.2; omega)
            refine br_f hneg2 ⟨hin, ?_⟩
            rw [x1.1]
            refine pk_le e2 (e + wz z w j) (fun hle => ?_) (fun hlt => ?_) rfl rfl (by have := x1.2; omega) (by omega)
            · exact nm_r (nI_1 j) (ih (j + 1) fa (by omega) hup h2 (CovA_skip h3 (hcov fa ⟨e2, x1, hle⟩)))
            · exact ⟨hin, nm_e (nm_r (nI_1 j) (wr (fun e3 hx => by have := VA_u hx x1; omega)))⟩
        by_cases hz : z = 0
        · exact br_t hz (fin 1 (by unfold wz; rw [if_pos hz]; rfl))
        · refine br_f hz (gy_part3 q.1 (fin _ ?_))
          unfold wz; rw [if_neg hz]; exact w1
    · exact gy_isOf0 (by omega) q ht (br_t rfl (nm_r (nI_1 j) (ih (j + 1) fa (by omega) hup h2 (CovA_skip h3 (fun y => absurd y q)))))
theorem gy_ms37 {post : SY → Prop} (hA : GA c w) (hs : s < 12) (ht : t ≤ 4)
    (K : ∀ fa', SPF (okA w t) (fr' w) (to' w) (wz z w) s fa' → post (yo, w, cp, fa')) :
    ∀ (d r : Nat) (fa : Nat → Int32), r + d = 12 → WB (okA w t) (fr' w) (to' w) (wz z w) s (99 * (24 * r)) fa → Cov (okA w t) (fr' w) (to' w) (wz z w) s r fa → wY_measure_37 post (nI t) z yo (d + 1) (nI r) w cp fa := by
  intro d
  induction d with
  | zero =>
    intro r fa hr h1 h2
    have : r = 12 := by omega
    subst this
    exact br_t (nI_le (a := 12) (b := 12) (by omega) (by omega)) (K fa (Cov_end (ok_to hA) hs h1 h2))
  | succ d ih =>
    intro r fa hr h1 h2
    refine br_f (nI_ge (b := 12) (by omega) (by decide)) ⟨25, ?_⟩
    exact gy_ms47 hA hs ht (by omega) (fun fa' q1 q2 => ih (r + 1) fa' (by omega) q1 q2) 24 0 fa rfl (WB_up h1 (by omega)) h2 (fun k b d' _ hb => by omega)
theorem gy_ms3 {post : SY → Prop} (hA : GA c w) (hs : s < 12) (ht : t ≤ 4)
    (K : ∀ fa', SPF (okA w t) (fr' w) (to' w) (wz z w) s fa' → post (yo, w, cp, fa')) :
    ∀ (d k : Nat) (fa : Nat → Int32), k + d = 12 → (∀ m, m < k → fa m = if m = s then 0 else -1) → wY_measure_3 post (nI s) (nI t) z yo (d + 1) (nI k) w cp fa := by
  intro d
  induction d with
  | zero =>
    intro k fa hk h
    have : k = 12 := by omega
    subst this
    have h0 : VA fa s 0 := ⟨by rw [h s hs, if_pos rfl]; rfl, by omega⟩
    refine br_t (nI_le (a := 12) (b := 12) (by omega) (by omega)) ⟨13, gy_ms37 hA hs ht K 12 0 fa rfl (fun m hm => ?_) (Cov_0 h0)⟩
    by_cases e : m = s
    · subst e; exact Or.inr ⟨0, h0, by omega, 0, rfl, rfl⟩
    · left; rw [h m hm, if_neg e]
  | succ d ih =>
    intro k fa hk h
    have hin : vp_in (nI k) 12 := vp_in_nI (by omega) (by omega)
    have st : ∀ v : Int32, v = (if k = s then 0 else -1) → ∀ m, m < k + 1 → upd fa k v m = if m = s then 0 else -1 := by
      intro v hv m hm
      by_cases e : m = k
      · subst e; rw [pk_us]; exact hv
      · rw [pk_un e]; exact h m (by omega)
    refine br_f (nI_ge (b := 12) (by omega) (by decide)) ?_
    by_cases e : k = s
    · exact br_t (congrArg nI e) ⟨hin, nm_r (gx_u rfl (by omega)) (nm_r (nI_1 k) (ih (k + 1) _ (by omega) (st 0 (if_pos e).symm)))⟩
    · exact br_f (fun y => e ((nI_eq (by omega) (by omega)).mp y)) ⟨hin, nm_r (gx_u rfl (by omega)) (nm_r (nI_1 k) (ih (k + 1) _ (by omega) (st (-1) (if_neg e).symm)))⟩
theorem gy_measure {post : SY → Prop} {p0 : Int32} (hA : GA c w) (hs : s < 12) (ht : t ≤ 4) (hp : p0 = nI s)
    (K : ∀ fa', SPF (okA w t) (fr' w) (to' w) (wz z w) s fa' → post (yo, w, cp, fa')) : wpY_measure post (yo, w, cp, fa) p0 (nI t) z := by
  subst hp
  exact ⟨13, gy_ms3 hA hs ht K 12 0 fa rfl (fun m hm => by omega)⟩
/-- a way in the reference -/
theorem gy_way {post : Int32 → SY → Prop} {m : Nat} (hA : GA c w) (hs : s < 12) (hm : m < 12) (ws : w s = 1) (wm : w m = 1) (ht : t ≤ 4)
    (K : ∀ fa', SPF (okA w t) (fr' w) (to' w) (wz z w) s fa' → (0 ≤ fa' m → post (fa' m) (yo, w, cp, fa')) ∧ (¬ 0 ≤ fa' m → post (-2) (yo, w, cp, fa'))) : wpY_way post (yo, w, cp, fa) (nI (12 * s + m)) (nI t) z := by
  have ed : nI (12 * s + m) / 12 = nI s := by rw [gx_div (by omega)]; exact congrArg nI (by omega)
  have er : nI (12 * s + m) - nI (12 * s + m) / 12 * 12 = nI m := by rw [gx_rm (by omega)]; exact congrArg nI (by omega)
  have hin : vp_in (nI m) 12 := vp_in_nI hm (by omega)
  unfold wpY_way
  refine gy_ends1 hs hm ws wm (br_t rfl (gy_ty1 ht (br_t rfl ⟨gx_12, ?_⟩)))
  refine gy_measure hA hs ht ed (fun fa' hf => ?_)
  refine ⟨gx_12, ?_⟩
  rw [er, nI_clamp (show m < 2 ^ 31 by omega)]
  exact ⟨hin, br_c (fun y => ⟨gx_12, hin, (K fa' hf).1 y⟩) (fun y => (K fa' hf).2 y)⟩
end
end
section
/-! a search in breadth -/
section
variable {c w : Nat → Int32} {t s : Nat}
/-- k: how many are done with; e: how many are in the queue; P: arrows that are done with -/
def BI (w : Nat → Int32) (t s k e : Nat) (q : Nat → Nat) (re qu : Nat → Int32) (P : Nat → Prop) : Prop :=
  e ≤ 12 ∧ (∀ i, i < e → q i < 12 ∧ w (q i) = 1 ∧ qu i = nI (q i) ∧ ∃ d, VA re (q i) d ∧ d < e) ∧ (∀ m, m < 12 → re m = -1 ∨ ∃ i, i < e ∧ q i = m) ∧
  (∀ i j, i < j → j < e → q i ≠ q j) ∧ WB (okA w t) (fr' w) (to' w) (fun _ => 1) s e re ∧ (∀ i j d d', i ≤ j → j < e → VA re (q i) d → VA re (q j) d' → d ≤ d') ∧
  (∀ j d d', k < e → j < e → VA re (q k) d → VA re (q j) d' → d' ≤ d + 1) ∧ (∀ a, okA w t a → P a → ∃ f e', VA re (fr' w a) f ∧ VA re (to' w a) e' ∧ e' ≤ f + 1) ∧ VA re s 0
theorem BI_skip {k e : Nat} {q : Nat → Nat} {re qu : Nat → Int32} {P : Nat → Prop} {a : Nat} (h : BI w t s k e q re qu P) (ha : okA w t a → ∃ f e', VA re (fr' w a) f ∧ VA re (to' w a) e' ∧ e' ≤ f + 1) : BI w t s k e q re qu (fun b => P b ∨ b = a) := by
  obtain ⟨b1, b2, b3, b4, b5, b6, b7, b8, b9⟩ := h
  refine ⟨b1, b2, b3, b4, b5, b6, b7, fun b hb hp => ?_, b9⟩
  rcases hp with z | z
  · exact b8 b hb z
  · rw [z] at hb ⊢; exact ha hb
theorem BI_new {k e : Nat} {q : Nat → Nat} {re qu : Nat → Int32} {P : Nat → Prop} {a d : Nat} (hA : GA c w) (hke : k < e) (h : BI w t s k e q re qu P) (ha : okA w t a) (hf : fr' w a = q k) (hd : VA re (q k) d) (hm : re (to' w a) = -1) :
    e < 12 ∧ BI w t s k (e + 1) (fun i => if i = e then to' w a else q i) (upd re (to' w a) (nI (d + 1))) (upd qu e (nI (to' w a))) (fun b => P b ∨ b = a) := by
  obtain ⟨b1, b2, b3, b4, b5, b6, b7, b8, b9⟩ := h
  have gp := ok_gp hA ha
  obtain ⟨t1, t2, t3⟩ := GP_to gp
  have hq : ∀ i, i < e → q i ≠ to' w a := by
    intro i hi z
    obtain ⟨_, _, _, d', hd', _⟩ := b2 i hi
    rw [z] at hd'
    exact VA_m1 hd' hm
  have hqe : ∀ i, i < e → (if i = e then to' w a else q i) = q i := fun i hi => if_neg (by omega)
  have he12 : e < 12 := by
    rcases Nat.lt_or_ge e 12 with z | z
    · exact z
    · exfalso
      have ee : e = 12 := by omega
      subst ee
      obtain ⟨i, j, hij, hj, e'⟩ := gs_pigeon 12 (fun i => if i < 12 then q i else to' w a) (by
        intro i hi
        show (if i < 12 then q i else to' w a) < 12
        by_cases z : i < 12
        · rw [if_pos z]; exact (b2 i z).1
        · rw [if_neg z]; exact t2)
      have e'' : (if i < 12 then q i else to' w a) = (if j < 12 then q j else to' w a) := e'
      rw [if_pos (by omega)] at e''
      by_cases z : j < 12
      · rw [if_pos z] at e''; exact b4 i j hij z e''
      · rw [if_neg z] at e''; exact hq i (by omega) e''
  obtain ⟨_, _, _, dk, hdk, hdke⟩ := b2 k hke
  have hdd := VA_u hdk hd
  have old : ∀ m x, VA re m x → VA (upd re (to' w a) (nI (d + 1))) m x := by
    intro m x hx
    have : m ≠ to' w a := fun z => VA_m1 (z ▸ hx) hm
    exact ⟨by rw [pk_un this]; exact hx.1, hx.2⟩
  have back : ∀ m x, m ≠ to' w a → VA (upd re (to' w a) (nI (d + 1))) m x → VA re m x := by
    intro m x hne hx
    have := hx.1
    rw [pk_un hne] at this
    exact ⟨this, hx.2⟩
  have hnew : VA (upd re (to' w a) (nI (d + 1))) (to' w a) (d + 1) := ⟨pk_us, by omega⟩
  refine ⟨he12, by omega, fun i hi => ?_, fun m hm' => ?_, fun i j hij hj => ?_, ?_, fun i j x x' hij hj hx hx' => ?_, fun j x x' _ hj hx hx' => ?_, fun b hb hp => ?_, old _ _ b9⟩
  · show (if i = e then to' w a else q i) < 12 ∧ w (if i = e then to' w a else q i) = 1 ∧ upd qu e (nI (to' w a)) i = nI (if i = e then to' w a else q i) ∧ ∃ d', VA (upd re (to' w a) (nI (d + 1))) (if i = e then to' w a else q i) d' ∧ d' < e + 1
    by_cases z : i = e
    · rw [if_pos z, z, pk_us]
      exact ⟨t2, t3, rfl, d + 1, hnew, by omega⟩
    · rw [if_neg z, pk_un z]
      obtain ⟨p1, p2, p3, d', p4, p5⟩ := b2 i (by omega)
      exact ⟨p1, p2, p3, d', old _ _ p4, by omega⟩
  · by_cases z : m = to' w a
    · exact Or.inr ⟨e, by omega, by show (if e = e then to' w a else q e) = m; rw [if_pos rfl, z]⟩
    · rcases b3 m hm' with y | ⟨i, hi, y⟩
      · left; rw [pk_un z]; exact y
      · exact Or.inr ⟨i, by omega, by show (if i = e then to' w a else q i) = m; rw [hqe i hi]; exact y⟩
  · show (if i = e then to' w a else q i) ≠ (if j = e then to' w a else q j)
    rw [hqe i (by omega)]
    by_cases z : j = e
    · rw [if_pos z]; exact hq i (by omega)
    · rw [if_neg z]; exact b4 i j hij (by omega)
  · have := WB_upd (B' := e + 1) b5 ha (e := d) (hf ▸ hd) (GP_fr gp).2.1 (Nat.le_refl _) (by omega)
    exact this
  · have hx1 : VA (upd re (to' w a) (nI (d + 1))) (if i = e then to' w a else q i) x := hx
    have hx2 : VA (upd re (to' w a) (nI (d + 1))) (if j = e then to' w a else q j) x' := hx'
    by_cases zj : j = e
    · rw [if_pos zj] at hx2
      have e2 := VA_u hx2 hnew
      by_cases zi : i = e
      · rw [if_pos zi] at hx1
        have e1 := VA_u hx1 hnew
        omega
      · rw [if_neg zi] at hx1
        have := b7 i d x hke (by omega) hd (back _ _ (hq i (by omega)) hx1)
        omega
    · rw [if_neg zj] at hx2
      rw [hqe i (by omega)] at hx1
      exact b6 i j x x' hij (by omega) (back _ _ (hq i (by omega)) hx1) (back _ _ (hq j (by omega)) hx2)
  · have hx1 : VA (upd re (to' w a) (nI (d + 1))) (if k = e then to' w a else q k) x := hx
    have hx2 : VA (upd re (to' w a) (nI (d + 1))) (if j = e then to' w a else q j) x' := hx'
    rw [hqe k hke] at hx1
    have e1 := VA_u (back _ _ (hq k hke) hx1) hd
    by_cases zj : j = e
    · rw [if_pos zj] at hx2
      have e2 := VA_u hx2 hnew
      omega
    · rw [if_neg zj] at hx2
      have := b7 j d x' hke (by omega) hd (back _ _ (hq j (by omega)) hx2)
      omega
  · rcases hp with z | z
    · obtain ⟨f, e', p1, p2, p3⟩ := b8 b hb z
      exact ⟨f, e', old _ _ p1, old _ _ p2, p3⟩
    · rw [z]
      exact ⟨d, d + 1, old _ _ (hf ▸ hd), hnew, by omega⟩
theorem BI_next {k e : Nat} {q : Nat → Nat} {re qu : Nat → Int32} {P : Nat → Prop} (h : BI w t s k e q re qu P) (hk : k < e) : BI w t s (k + 1) e q re qu P := by
  obtain ⟨b1, b2, b3, b4, b5, b6, b7, b8, b9⟩ := h
  refine ⟨b1, b2, b3, b4, b5, b6, fun j d d' hke hj hd hd' => ?_, b8, b9⟩
  obtain ⟨_, _, _, dk, hdk, _⟩ := b2 k hk
  have h1 := b6 k (k + 1) dk d (by omega) hke hdk hd
  have h2 := b7 j dk d' hk hj hdk hd'
  omega
end
section
variable {fo fp fc fg fw : Int32} {ce kc ko ik kn re dn qu et lo ab na pi : Nat → Int32} {w : Nat → Int32} {t s : Nat}
theorem gx_goOn_l {post : Int32 → SX → Prop} {k : Nat} (hA : GA ce w) (ht : t ≤ 4) {n : Nat} (hn : n < 12) :
    ∀ (l : List Nat) (f j e : Nat) (h : Int32) (q : Nat → Nat) (re qu : Nat → Int32) (P : Nat → Prop), LkF (fun a => ce (105 + 10 * a)) h l → (∀ a, a ∈ l → a < 24 ∧ w (36 + a) = 1 ∧ w (60 + a) = nI n) → j + l.length ≤ 24 → l.length < f → k < e → q k = n → BI w t s k e q re qu P →
      (∀ (e' : Nat) (q' : Nat → Nat) (re' qu' : Nat → Int32), e ≤ e' → (∀ i, i < e → q' i = q i) → BI w t s k e' q' re' qu' (fun b => P b ∨ b ∈ l) → post (nI e') (fo, fp, fc, fg, fw, ce, kc, ko, ik, kn, re', dn, qu', et, lo, ab, na, pi)) →
      wX_goOn_19 post (nI n) (nI t) fo fp fc fg fw f (nI e) h (nI j) ce kc ko ik kn re dn qu et lo ab na pi := by
  intro l
  induction l with
  | nil =>
    intro f j e h q re qu P hl _ hj hf hk hq hB K
    obtain ⟨f, rfl⟩ : ∃ g, f = g + 1 := ⟨f - 1, by omega⟩
    have hh : h = -1 := hl
    have hpx : post (nI e) (fo, fp, fc, fg, fw, ce, kc, ko, ik, kn, re, dn, qu, et, lo, ab, na, pi) := by
      refine K e q re qu (Nat.le_refl _) (fun _ _ => rfl) ?_
      obtain ⟨b1, b2, b3, b4, b5, b6, b7, b8, b9⟩ := hB
      exact ⟨b1, b2, b3, b4, b5, b6, b7, fun a ha hp => b8 a ha (hp.elim id (fun z => nomatch z)), b9⟩
    by_cases z : (24 : Int32) ≤ nI j
    · exact br_t z hpx
    · exact br_f z (br_t (by rw [hh]; decide) hpx)
  | cons a l ih =>
    intro f j e h q re qu P hl hm hj hf hk hq hB K
    obtain ⟨f, rfl⟩ : ∃ g, f = g + 1 := ⟨f - 1, by omega⟩
    rw [List.length_cons] at hj hf
    obtain ⟨ha, hw, hfr⟩ := hm a List.mem_cons_self
    have hh : h = nI a := hl.1
    subst hh
    obtain ⟨c1, c2, c3, c4, gp⟩ := (hA a ha).2.2 hw
    obtain ⟨t1, t2, t3⟩ := GP_to gp
    have hfa : fr' w a = n := (GP_frI gp hn).mp hfr
    have eto : ce (nI (100 + 10 * a) + 1 + 1).toNatClampNeg = nI (to' w a) := (gx_c (n := 102 + 10 * a) (by first | rfl | exact congrArg nI (by omega) | (simp only [nI_add, pk_mul, ir_0, ir_1, ir_2, ir_3, ir_4, ir_5, ir_6, ir_7, ir_8, ir_9, ir_13, il_4, il_12, il_16, il_24, il_36, il_60, il_84, il_100, il_108, il_132, il_340, im_5, im_7, im_10, im_11, im_3, im_24, im_156, im_340]; first | done | exact congrArg nI (by omega))) (by omega)).trans (c2.trans t1)
    have e12 := hB.1
    have K' : ∀ (Q : Nat → Prop), (∀ b, Q b ↔ P b ∨ b = a) → ∀ (e' : Nat) (q' : Nat → Nat) (re' qu' : Nat → Int32), e ≤ e' → (∀ i, i < e → q' i = q i) → BI w t s k e' q' re' qu' (fun b => Q b ∨ b ∈ l) → post (nI e') (fo, fp, fc, fg, fw, ce, kc, ko, ik, kn, re', dn, qu', et, lo, ab, na, pi) := by
      intro Q hQ e' q' re' qu' h1 h2 hB'
      refine K e' q' re' qu' h1 h2 ?_
      obtain ⟨b1, b2, b3, b4, b5, b6, b7, b8, b9⟩ := hB'
      refine ⟨b1, b2, b3, b4, b5, b6, b7, fun b hb hp => b8 b hb ?_, b9⟩
      rcases hp with z | z
      · exact Or.inl ((hQ b).mpr (Or.inl z))
      · rcases List.mem_cons.mp z with y | y
        · exact Or.inl ((hQ b).mpr (Or.inr y))
        · exact Or.inr y
    have nx : ∀ (e2 : Nat) (q2 : Nat → Nat) (re2 qu2 : Nat → Int32), e ≤ e2 → (∀ i, i < e → q2 i = q i) → BI w t s k e2 q2 re2 qu2 (fun b => P b ∨ b = a) → wX_goOn_94 post (wX_goOn_19 post (nI n) (nI t) fo fp fc fg fw f) (nI n) (nI t) (nI e2) (nI a) (nI j) fo fp fc fg fw ce kc ko ik kn re2 dn qu2 et lo ab na pi := by
      intro e2 q2 re2 qu2 h1 h2 hB2
      unfold wX_goOn_94
      refine gx_aa ?_
      refine ⟨pk_in (105 + 10 * a) 340 (by omega) (by first | rfl | exact congrArg nI (by omega) | (simp only [nI_add, pk_mul, ir_0, ir_1, ir_2, ir_3, ir_4, ir_5, ir_6, ir_7, ir_8, ir_9, ir_13, il_4, il_12, il_16, il_24, il_36, il_60, il_84, il_100, il_108, il_132, il_340, im_5, im_7, im_10, im_11, im_3, im_24, im_156, im_340]; first | done | exact congrArg nI (by omega))), nm_r (e' := ce (105 + 10 * a)) (gx_c (by first | rfl | exact congrArg nI (by omega) | (simp only [nI_add, pk_mul, ir_0, ir_1, ir_2, ir_3, ir_4, ir_5, ir_6, ir_7, ir_8, ir_9, ir_13, il_4, il_12, il_16, il_24, il_36, il_60, il_84, il_100, il_108, il_132, il_340, im_5, im_7, im_10, im_11, im_3, im_24, im_156, im_340]; first | done | exact congrArg nI (by omega))) (by omega)) (nm_r (nI_1 j) ?_)⟩
      refine ih f (j + 1) e2 _ q2 re2 qu2 _ hl.2 (fun b hb => hm b (List.mem_cons_of_mem _ hb)) (by omega) (by omega) (by omega) (by rw [h2 k hk]; exact hq) hB2 ?_
      intro e' q' re' qu' g1 g2 hB'
      exact K' _ (fun b => Iff.rfl) e' q' re' qu' (by omega) (fun i hi => by rw [g2 i (by omega), h2 i hi]) hB'
    refine br_f (nI_ge (b := 24) (by omega) (by decide)) (br_f (nI_pos (by omega)) (gx_aa ⟨pk_in (102 + 10 * a) 340 (by omega) (by first | rfl | exact congrArg nI (by omega) | (simp only [nI_add, pk_mul, ir_0, ir_1, ir_2, ir_3, ir_4, ir_5, ir_6, ir_7, ir_8, ir_9, ir_13, il_4, il_12, il_16, il_24, il_36, il_60, il_84, il_100, il_108, il_132, il_340, im_5, im_7, im_10, im_11, im_3, im_24, im_156, im_340]; first | done | exact congrArg nI (by omega))), nm_r eto ?_⟩))
    by_cases qo : okA w t a
    · refine gx_isOf1 hA qo ht (br_f gx_10 ⟨vp_in_nI t2 (by omega), ?_⟩)
      rw [nI_clamp (show to' w a < 2 ^ 31 by omega)]
      obtain ⟨d, hd, _⟩ := (hB.2.1 k hk).2.2.2
      rcases hB.2.2.1 (to' w a) t2 with y | ⟨i, hi, y⟩
      · refine br_f (by rw [y]; decide) ⟨vp_in_nI hn (by omega), vp_in_nI t2 (by omega), ?_⟩
        obtain ⟨he12, hB2⟩ := BI_new hA hk hB qo (hfa.trans hq.symm) hd y
        have ed : re (nI n).toNatClampNeg + 1 = nI (d + 1) := by
          rw [nI_clamp (show n < 2 ^ 31 by omega), ← hq, hd.1, nI_1]
        rw [ed]
        refine nm_e ⟨vp_in_nI he12 (by omega), ?_⟩
        rw [nI_clamp (show e < 2 ^ 31 by omega)]
        refine nm_e (nm_r (nI_1 e) ?_)
        exact nx (e + 1) _ _ _ (by omega) (fun i hi => if_neg (by omega)) hB2
      · obtain ⟨d', hd', _⟩ := (hB.2.1 i hi).2.2.2
        have hle := hB.2.2.2.2.2.2.1 i d d' hk hi hd hd'
        rw [y] at hd'
        refine br_t (by rw [hd'.1]; exact nI_pos' (by have := hd'.2; omega)) (nx e q re qu (Nat.le_refl _) (fun _ _ => rfl) (BI_skip hB (fun _ => ⟨d, d', by rw [hfa, ← hq]; exact hd, hd', hle⟩)))
    · exact gx_isOf0 hA ha hw qo ht (br_t rfl (nx e q re qu (Nat.le_refl _) (fun _ _ => rfl) (BI_skip hB (fun z => absurd z qo))))
theorem gx_goOn {post : Int32 → SX → Prop} {k e n : Nat} {q : Nat → Nat} {P : Nat → Prop} (hA : GA ce w) (hC : GC ce w) (ht : t ≤ 4) (hk : k < e) (hq : q k = n) (hB : BI w t s k e q re qu P)
    (K : ∀ (e' : Nat) (q' : Nat → Nat) (re' qu' : Nat → Int32) (P' : Nat → Prop), e ≤ e' → (∀ i, i < e → q' i = q i) → BI w t s k e' q' re' qu' P' → (∀ a, P a → P' a) → (∀ a, okA w t a → fr' w a = n → P' a) → post (nI e') (fo, fp, fc, fg, fw, ce, kc, ko, ik, kn, re', dn, qu', et, lo, ab, na, pi)) : wpX_goOn post (fo, fp, fc, fg, fw, ce, kc, ko, ik, kn, re, dn, qu, et, lo, ab, na, pi) (nI n) (nI t) (nI e) := by
  obtain ⟨hn, hw, _, _⟩ := hB.2.1 k hk
  rw [hq] at hn hw
  obtain ⟨l, hc, hm⟩ := hC 0 n (by omega) hn hw
  have hlen : l.length ≤ 24 := by rw [gx_len hc hm]; exact nD_le 0 n
  unfold wpX_goOn
  refine gx_na ?_
  refine ⟨pk_in (19 + 7 * n) 340 (by omega) (by first | rfl | exact congrArg nI (by omega) | (simp only [nI_add, pk_mul, ir_0, ir_1, ir_2, ir_3, ir_4, ir_5, ir_6, ir_7, ir_8, ir_9, ir_13, il_4, il_12, il_16, il_24, il_36, il_60, il_84, il_100, il_108, il_132, il_340, im_5, im_7, im_10, im_11, im_3, im_24, im_156, im_340]; first | done | exact congrArg nI (by omega))), nm_r (e' := ce (19 + 7 * n)) (gx_c (by first | rfl | exact congrArg nI (by omega) | (simp only [nI_add, pk_mul, ir_0, ir_1, ir_2, ir_3, ir_4, ir_5, ir_6, ir_7, ir_8, ir_9, ir_13, il_4, il_12, il_16, il_24, il_36, il_60, il_84, il_100, il_108, il_132, il_340, im_5, im_7, im_10, im_11, im_3, im_24, im_156, im_340]; first | done | exact congrArg nI (by omega))) (by omega)) ⟨l.length + 1, ?_⟩⟩
  refine gx_goOn_l hA ht hn l (l.length + 1) 0 e _ q re qu P (DLk_F hc.1) (fun a ha => (hm a).mp ha) (by omega) (by omega) hk hq hB ?_
  intro e' q' re' qu' h1 h2 hB'
  refine K e' q' re' qu' _ h1 h2 hB' (fun a ha => Or.inl ha) (fun a ha hf => Or.inr ((hm a).mpr ⟨ha.1, ha.2.1, ?_⟩))
  exact (GP_frI (ok_gp hA ha) hn).mpr hf
theorem gx_dist63 {post : Int32 → SX → Prop} {m : Nat} (hA : GA ce w) (hC : GC ce w) (ht : t ≤ 4) (hs : s < 12) (hm : m < 12)
    (K : ∀ re' qu', SPF (okA w t) (fr' w) (to' w) (fun _ => 1) s re' → (0 ≤ re' m → post (re' m) (fo, fp, fc, fg, fw, ce, kc, ko, ik, kn, re', dn, qu', et, lo, ab, na, pi)) ∧ (¬ 0 ≤ re' m → post (-2) (fo, fp, fc, fg, fw, ce, kc, ko, ik, kn, re', dn, qu', et, lo, ab, na, pi))) :
    ∀ (f k e : Nat) (q : Nat → Nat) (re qu : Nat → Int32) (P : Nat → Prop), 12 - k < f → k ≤ e → BI w t s k e q re qu P → (∀ a i, okA w t a → i < k → q i = fr' w a → P a) → wX_distance_63 post (nI (12 * s + m)) (nI t) f (nI e) (nI k) fo fp fc fg fw ce kc ko ik kn re dn qu et lo ab na pi := by
  have er : nI (12 * s + m) - nI (12 * s + m) / 12 * 12 = nI m := by rw [gx_rm (by omega)]; exact congrArg nI (by omega)
  intro f
  induction f with
  | zero => intro k e q re qu P h; omega
  | succ f ih =>
    intro k e q re qu P hf hke hB hP
    have he12 := hB.1
    rcases Nat.lt_or_ge k e with z | z
    · refine br_f (nI_ge z (by omega)) ⟨vp_in_nI (by omega) (by omega), ?_⟩
      have hqk : qu (nI k).toNatClampNeg = nI (q k) := by rw [nI_clamp (by omega)]; exact (hB.2.1 k z).2.2.1
      rw [hqk]
      refine gx_goOn hA hC ht z rfl hB ?_
      intro e' q' re' qu' P' h1 h2 hB' hPP hnew
      refine nm_r (nI_1 k) ?_
      refine ih (k + 1) e' q' re' qu' P' (by omega) (by omega) (BI_next hB' (by omega)) (fun a i ha hi hqi => ?_)
      rw [h2 i (by omega)] at hqi
      by_cases ek : i = k
      · subst ek; exact hnew a ha hqi.symm
      · exact hPP a (hP a i ha (by omega) hqi)
    · have ee : k = e := by omega
      subst ee
      have hS : SPF (okA w t) (fr' w) (to' w) (fun _ => 1) s re := by
        refine SPF_cert (ok_to hA) hs hB.2.2.2.2.1 hB.2.2.2.2.2.2.2.2 (fun a x ha hx => ?_)
        rcases hB.2.2.1 (fr' w a) (GP_fr (ok_gp hA ha)).2.1 with y | ⟨i, hi, y⟩
        · exact absurd y (fun y => VA_m1 hx y)
        · obtain ⟨f', e', p1, p2, p3⟩ := hB.2.2.2.2.2.2.2.1 a ha (hP a i ha hi y)
          have := VA_u p1 hx
          exact ⟨e', p2, by omega⟩
      refine br_t (nI_le (Nat.le_refl _) (by omega)) ⟨gx_12, ?_⟩
      rw [er, nI_clamp (show m < 2 ^ 31 by omega)]
      exact ⟨vp_in_nI hm (by omega), nm_e (K re qu hS)⟩
theorem gx_dist19 {post : Int32 → SX → Prop} {m : Nat} (hA : GA ce w) (hC : GC ce w) (ht : t ≤ 4) (hs : s < 12) (hm : m < 12) (ws : w s = 1)
    (K : ∀ re' qu', SPF (okA w t) (fr' w) (to' w) (fun _ => 1) s re' → (0 ≤ re' m → post (re' m) (fo, fp, fc, fg, fw, ce, kc, ko, ik, kn, re', dn, qu', et, lo, ab, na, pi)) ∧ (¬ 0 ≤ re' m → post (-2) (fo, fp, fc, fg, fw, ce, kc, ko, ik, kn, re', dn, qu', et, lo, ab, na, pi))) :
    ∀ (d k : Nat) (re : Nat → Int32), k + d = 12 → (∀ i, i < k → re i = -1) → wX_distance_19 post (nI (12 * s + m)) (nI t) fo fp fc fg fw (d + 1) (nI k) ce kc ko ik kn re dn qu et lo ab na pi := by
  have ed : nI (12 * s + m) / 12 = nI s := by rw [gx_div (by omega)]; exact congrArg nI (by omega)
  intro d
  induction d with
  | zero =>
    intro k re hk h
    have : k = 12 := by omega
    subst this
    refine br_t (nI_le (a := 12) (b := 12) (by omega) (by omega)) ⟨gx_12, ?_⟩
    rw [ed, nI_clamp (show s < 2 ^ 31 by omega)]
    refine ⟨vp_in_nI hs (by omega), nm_e ⟨gx_12, nm_e ⟨13, ?_⟩⟩⟩
    have h0 : VA (upd re s 0) s 0 := ⟨pk_us, by omega⟩
    refine gx_dist63 hA hC ht hs hm K 13 0 1 (fun _ => s) _ _ (fun _ => False) (by omega) (by omega) ⟨by omega, fun i hi => ?_, fun i hi => ?_, fun i j _ _ => by omega, fun i hi => ?_, fun i j x x' _ _ hx hx' => ?_, fun j x x' _ _ hx hx' => ?_, fun a _ hp => hp.elim, h0⟩ (fun a i _ hi => by omega)
    · have : i = 0 := by omega
      subst this
      exact ⟨hs, ws, pk_us, 0, h0, by omega⟩
    · by_cases e : i = s
      · exact Or.inr ⟨0, by omega, e.symm⟩
      · left; rw [pk_un e]; exact h i hi
    · by_cases e : i = s
      · subst e; exact Or.inr ⟨0, h0, by omega, 0, rfl, rfl⟩
      · left; rw [pk_un e]; exact h i hi
    · have := VA_u hx hx'; omega
    · have := VA_u hx hx'; omega
  | succ d ih =>
    intro k re hk h
    refine br_f (nI_ge (b := 12) (by omega) (by decide)) ⟨vp_in_nI (by omega) (by omega), nm_r (gx_u rfl (by omega)) (nm_r (nI_1 k) (ih (k + 1) _ (by omega) (fun i hi => ?_)))⟩
    by_cases e : i = k
    · rw [e]; exact pk_us
    · rw [pk_un e]; exact h i (by omega)
end
theorem i_vc_distance {k : Nat} {u : SX} {v : SY} (I : i_Rel k u v) (hk : k + 4 ≤ 2048) (v1 : Int32) (v2 : Int32) : wpX_distance (fun r u' => wpY_distance (fun r' v' => r' = r ∧ i_Rel (k + 4) u' v') v v1 v2) u v1 v2 := by
  obtain ⟨fo, fp, fc, fg, fw, ce, kc, ko, ik, kn, re, dn, qu, et, lo, ab, na, pi⟩ := u
  obtain ⟨yo, w, cp, fa⟩ := v
  obtain ⟨o, sn, ho, rfl, rfl, hj, hg, hs⟩ := I
  have I : i_Rel (k + 4) (nI o, fp, fc, fg, fw, ce, kc, ko, ik, kn, re, dn, qu, et, lo, ab, na, pi) (nI o, w, cp, fa) := gr_mk ho hj hg hs
  unfold wpX_distance
  rcases en_or w v1 with ⟨s, m, hs', hm, rfl, ws, wm⟩ | h1
  · refine gx_ends1 hg.1 hs' hm ws wm (br_f gx_10 ?_)
    rcases le_or v2 4 with ⟨t, ht, rfl⟩ | h2
    · refine gx_ty1 ht (br_f gx_10 ⟨13, ?_⟩)
      refine gx_dist19 (s := s) (m := m) (t := t) hg.2.1 hg.2.2.2.2.2.1 ht hs' hm ws (fun re' qu' hS => ?_) 12 0 re rfl (fun i hi => by omega)
      constructor
      · intro z
        unfold wpY_distance
        refine gy_way hg.2.1 hs' hm ws wm ht (fun fa' hf => ?_)
        rw [wz_0] at hf
        have e := SPF_u hS hf hm
        rw [← e]
        exact ⟨fun _ => ⟨rfl, gr_mk ho hj hg hs⟩, fun y => absurd z y⟩
      · intro z
        unfold wpY_distance
        refine gy_way hg.2.1 hs' hm ws wm ht (fun fa' hf => ?_)
        rw [wz_0] at hf
        have e := SPF_u hS hf hm
        rw [← e]
        exact ⟨fun y => absurd y z, fun _ => ⟨rfl, gr_mk ho hj hg hs⟩⟩
    · refine gx_ty0 h2 (br_t rfl ?_)
      unfold wpY_distance wpY_way
      exact gy_ends1 hs' hm ws wm (br_t rfl (gy_ty0 h2 (br_f gx_10 ⟨rfl, I⟩)))
  · refine gx_ends0 hg.1 h1 (br_t rfl ?_)
    unfold wpY_distance wpY_way
    exact gy_ends0 h1 (br_f gx_10 ⟨rfl, I⟩)
end
section
/-! the cheapest way: the nearest first -/
section
variable {c w : Nat → Int32} {t s : Nat}
theorem Wk_us {ok : Nat → Prop} {fr to wc : Nat → Nat} {U : Nat → Prop} (hto : ∀ a, ok a → U (to a)) {s m k d : Nat} (hs : U s) (h : Wk ok fr to wc k s m d) : U m := by
  cases k with
  | zero => rw [h.1]; exact hs
  | succ k => obtain ⟨a, _, ha, _, hm, _⟩ := h; rw [hm]; exact hto a ha
/-- between two nearest: D what is done with, all of it nearer than the rest -/
def DJ (w : Nat → Int32) (t s k : Nat) (re dn : Nat → Int32) : Prop :=
  (∀ m, m < 12 → dn m = 0 ∨ dn m = 1) ∧ cn (fun m => dn m = 1) 12 = k ∧ WB (okA w t) (fr' w) (to' w) (wt' w) s (99 * k) re ∧ VA re s 0 ∧
  (∀ m, m < 12 → dn m = 1 → ∃ d, VA re m d ∧ ∀ m' d', m' < 12 → dn m' = 0 → VA re m' d' → d ≤ d') ∧
  (∀ a, okA w t a → dn (fr' w a) = 1 → ∃ f e', VA re (fr' w a) f ∧ VA re (to' w a) e' ∧ e' ≤ f + wt' w a)
/-- while n, the last done with, at d, looks at its arrows: P are looked at -/
def RX (w : Nat → Int32) (t s B n d : Nat) (re dn : Nat → Int32) (P : Nat → Prop) : Prop :=
  WB (okA w t) (fr' w) (to' w) (wt' w) s B re ∧ VA re s 0 ∧ VA re n d ∧ dn n = 1 ∧ (∀ m, m < 12 → dn m = 1 → ∃ d', VA re m d' ∧ d' ≤ d) ∧ (∀ m d', m < 12 → dn m = 0 → VA re m d' → d ≤ d') ∧
  (∀ a, okA w t a → P a → dn (fr' w a) = 1 ∧ ∃ f e', VA re (fr' w a) f ∧ VA re (to' w a) e' ∧ e' ≤ f + wt' w a)
theorem RX_skip {B n d a : Nat} {re dn : Nat → Int32} {P : Nat → Prop} (h : RX w t s B n d re dn P) (hf : okA w t a → fr' w a = n) (ha : okA w t a → ∃ e', VA re (to' w a) e' ∧ e' ≤ d + wt' w a) : RX w t s B n d re dn (fun b => P b ∨ b = a) := by
  obtain ⟨r1, r2, r3, r4, r5, r6, r7⟩ := h
  refine ⟨r1, r2, r3, r4, r5, r6, fun b hb hp => ?_⟩
  rcases hp with z | z
  · exact r7 b hb z
  · rw [z] at hb ⊢
    obtain ⟨e', h1, h2⟩ := ha hb
    rw [hf hb]
    exact ⟨r4, d, e', r3, h1, h2⟩
theorem RX_new {k n d a : Nat} {re dn : Nat → Int32} {P : Nat → Prop} (hA : GA c w) (hk : k < 12) (hdn : ∀ m, m < 12 → dn m = 0 ∨ dn m = 1) (h : RX w t s (99 * (k + 1)) n d re dn P) (hdk : d ≤ 99 * k) (ha : okA w t a) (hf : fr' w a = n) (hno : ∀ e', VA re (to' w a) e' → d + wt' w a < e') :
    RX w t s (99 * (k + 1)) n d (upd re (to' w a) (nI (d + wt' w a))) dn (fun b => P b ∨ b = a) := by
  obtain ⟨r1, r2, r3, r4, r5, r6, r7⟩ := h
  have gp := ok_gp hA ha
  obtain ⟨t1, t2, t3⟩ := GP_to gp
  have hw99 := (GP_wt gp).2
  have hnd : dn (to' w a) = 0 := by
    rcases hdn _ t2 with z | z
    · exact z
    · obtain ⟨d', h1, h2⟩ := r5 _ t2 z
      have := hno d' h1
      omega
  have hv : d + wt' w a < 2 ^ 30 := by omega
  have hnew : VA (upd re (to' w a) (nI (d + wt' w a))) (to' w a) (d + wt' w a) := ⟨pk_us, hv⟩
  have old : ∀ m x, m ≠ to' w a → VA re m x → VA (upd re (to' w a) (nI (d + wt' w a))) m x := fun m x hne hx => ⟨by rw [pk_un hne]; exact hx.1, hx.2⟩
  have h01 : ∀ m, dn m = 1 → m ≠ to' w a := fun m h1 e => by rw [e, hnd] at h1; exact absurd h1 (by decide)
  refine ⟨?_, ?_, old _ _ (h01 n r4) r3, r4, fun m hm h1 => ?_, fun m d' hm h0 hx => ?_, fun b hb hp => ?_⟩
  · intro m hm
    by_cases z : m = to' w a
    · right
      rcases r1 (fr' w a) (GP_fr gp).2.1 with y | ⟨x, x1, x2, j, hj⟩
      · exact absurd y (fun y => VA_m1 (hf ▸ r3) y)
      · have e := VA_u x1 (hf ▸ r3)
        subst e
        exact ⟨x + wt' w a, by rw [z]; exact hnew, by omega, j + 1, a, x, ha, hj, z, rfl⟩
    · rcases r1 m hm with y | ⟨x, x1, x2, x3⟩
      · left; rw [pk_un z]; exact y
      · exact Or.inr ⟨x, old m x z x1, x2, x3⟩
  · -- the start stays at 0
    by_cases z : s = to' w a
    · have := hno 0 (z ▸ r2); omega
    · exact old _ _ z r2
  · obtain ⟨d', x1, x2⟩ := r5 m hm h1
    exact ⟨d', old _ _ (h01 m h1) x1, x2⟩
  · by_cases z : m = to' w a
    · rw [z] at hx
      have := VA_u hx hnew
      omega
    · have hx1 := hx.1
      rw [pk_un z] at hx1
      exact r6 m d' hm h0 ⟨hx1, hx.2⟩
  · rcases hp with z | z
    · obtain ⟨p0, f, e', p1, p2, p3⟩ := r7 b hb z
      refine ⟨p0, f, ?_⟩
      by_cases y : to' w b = to' w a
      · rw [y] at p2 ⊢
        have := hno e' p2
        exact ⟨d + wt' w a, old _ _ (h01 _ p0) p1, hnew, by omega⟩
      · exact ⟨e', old _ _ (h01 _ p0) p1, old _ _ y p2, p3⟩
    · rw [z, hf]
      exact ⟨r4, d, d + wt' w a, old _ _ (h01 n r4) r3, hnew, Nat.le_refl _⟩
/-- all that is reached is done with: least costs -/
theorem DJ_end {k : Nat} {re dn : Nat → Int32} (hA : GA c w) (hs : s < 12) (h : DJ w t s k re dn) (hall : ∀ m d, m < 12 → VA re m d → dn m = 1) : SPF (okA w t) (fr' w) (to' w) (wt' w) s re := by
  obtain ⟨j1, j2, j3, j4, j5, j6⟩ := h
  refine SPF_cert (ok_to hA) hs j3 j4 (fun a e ha he => ?_)
  obtain ⟨f, e', p1, p2, p3⟩ := j6 a ha (hall _ e (GP_fr (ok_gp hA ha)).2.1 he)
  have := VA_u p1 he
  exact ⟨e', p2, by omega⟩
end
section
variable {fo fp fc fg fw : Int32} {ce kc ko ik kn re dn qu et lo ab na pi : Nat → Int32} {w : Nat → Int32} {t s : Nat}
theorem gx_near_l {post : Int32 → Prop} (hdn : ∀ m, m < 12 → re m = -1 ∨ ∃ d, VA re m d)
    (K0 : (∀ m d, m < 12 → dn m = 0 → ¬ VA re m d) → post (-1)) (K1 : ∀ n d, n < 12 → dn n = 0 → VA re n d → (∀ m d', m < 12 → dn m = 0 → VA re m d' → d ≤ d') → post (nI n)) :
    ∀ (d k : Nat) (b : Int32), k + d = 12 → ((b = -1 ∧ ∀ m d', m < k → dn m = 0 → ¬ VA re m d') ∨ ∃ n x, n < k ∧ b = nI n ∧ dn n = 0 ∧ VA re n x ∧ ∀ m d', m < k → dn m = 0 → VA re m d' → x ≤ d') → wX_nearest_4 post fo fp fc fg fw ce kc ko ik kn re dn qu et lo ab na pi (d + 1) b (nI k) := by
  intro d
  induction d with
  | zero =>
    intro k b hk h
    have : k = 12 := by omega
    subst this
    refine br_t (nI_le (a := 12) (b := 12) (by omega) (by omega)) ?_
    rcases h with ⟨e, h1⟩ | ⟨n, x, hn, e, h1, h2, h3⟩
    · rw [e]; exact K0 h1
    · rw [e]; exact K1 n x hn h1 h2 h3
  | succ d ih =>
    intro k b hk h
    have hin : vp_in (nI k) 12 := vp_in_nI (by omega) (by omega)
    have hck : (nI k).toNatClampNeg = k := nI_clamp (by omega)
    -- this one does not count
    have no : (∀ d', dn k = 0 → ¬ VA re k d') → wX_nearest_4 post fo fp fc fg fw ce kc ko ik kn re dn qu et lo ab na pi (d + 1) b (nI (k + 1)) := by
      intro hno
      refine ih (k + 1) b (by omega) ?_
      rcases h with ⟨e, h1⟩ | ⟨n, x, hn, e, h1, h2, h3⟩
      · refine Or.inl ⟨e, fun m d' hm h0 => ?_⟩
        by_cases z : m = k
        · subst z; exact hno d' h0
        · exact h1 m d' (by omega) h0
      · refine Or.inr ⟨n, x, by omega, e, h1, h2, fun m d' hm h0 hv => ?_⟩
        by_cases z : m = k
        · subst z; exact absurd hv (hno d' h0)
        · exact h3 m d' (by omega) h0 hv
    refine br_f (nI_ge (b := 12) (by omega) (by decide)) ⟨hin, ?_⟩
    rw [hck]
    by_cases q : dn k = 0
    · refine br_t q ⟨hin, ?_⟩
      rcases hdn k (by omega) with y | ⟨x, hx⟩
      · exact br_t (by rw [y]; decide) (nm_r (nI_1 k) (no (fun d' _ hv => VA_m1 hv y)))
      · refine br_f (by rw [hx.1]; exact nI_pos (by have := hx.2; omega)) ?_
        rcases h with ⟨e, h1⟩ | ⟨n, x', hn, e, h1, h2, h3⟩
        · refine br_t (by rw [e]; decide) (nm_r (nI_1 k) (ih (k + 1) (nI k) (by omega) (Or.inr ⟨k, x, by omega, rfl, q, hx, fun m d' hm h0 hv => ?_⟩)))
          by_cases z : m = k
          · subst z; have := VA_u hv hx; omega
          · exact absurd hv (h1 m d' (by omega) h0)
        · subst e
          refine br_f (nI_pos (by omega)) ⟨hin, vp_in_nI (by omega) (by omega), ?_⟩
          rw [nI_clamp (show n < 2 ^ 31 by omega), h2.1, hx.1]
          refine pk_le x' x (fun hle => ?_) (fun hlt => ?_) rfl rfl (by have := h2.2; omega) (by have := hx.2; omega)
          · refine nm_r (nI_1 k) (ih (k + 1) (nI n) (by omega) (Or.inr ⟨n, x', by omega, rfl, h1, h2, fun m d' hm h0 hv => ?_⟩))
            by_cases z : m = k
            · subst z; have := VA_u hv hx; omega
            · exact h3 m d' (by omega) h0 hv
          · refine nm_r (nI_1 k) (ih (k + 1) (nI k) (by omega) (Or.inr ⟨k, x, by omega, rfl, q, hx, fun m d' hm h0 hv => ?_⟩))
            by_cases z : m = k
            · subst z; have := VA_u hv hx; omega
            · have := h3 m d' (by omega) h0 hv; omega
    · exact br_f q (nm_r (nI_1 k) (no (fun d' z => absurd z q)))
theorem gx_near {post : Int32 → Prop} (hdn : ∀ m, m < 12 → re m = -1 ∨ ∃ d, VA re m d)
    (K0 : (∀ m d, m < 12 → dn m = 0 → ¬ VA re m d) → post (-1)) (K1 : ∀ n d, n < 12 → dn n = 0 → VA re n d → (∀ m d', m < 12 → dn m = 0 → VA re m d' → d ≤ d') → post (nI n)) : wpX_nearest post (fo, fp, fc, fg, fw, ce, kc, ko, ik, kn, re, dn, qu, et, lo, ab, na, pi) :=
  ⟨13, gx_near_l hdn K0 K1 12 0 (-1) rfl (Or.inl ⟨rfl, fun m d' hm => by omega⟩)⟩
theorem gx_rlx_l {post : SX → Prop} {k n d : Nat} (hA : GA ce w) (ht : t ≤ 4) (hn : n < 12) (hk : k < 12) (hdk : d ≤ 99 * k) (hdn : ∀ m, m < 12 → dn m = 0 ∨ dn m = 1) :
    ∀ (l : List Nat) (f j : Nat) (h : Int32) (re : Nat → Int32) (P : Nat → Prop), LkF (fun a => ce (105 + 10 * a)) h l → (∀ a, a ∈ l → a < 24 ∧ w (36 + a) = 1 ∧ w (60 + a) = nI n) → j + l.length ≤ 24 → l.length < f → RX w t s (99 * (k + 1)) n d re dn P →
      (∀ (re' : Nat → Int32), RX w t s (99 * (k + 1)) n d re' dn (fun b => P b ∨ b ∈ l) → post (fo, fp, fc, fg, fw, ce, kc, ko, ik, kn, re', dn, qu, et, lo, ab, na, pi)) →
      wX_relax_15 post (nI n) (nI t) fo fp fc fg fw f h (nI j) ce kc ko ik kn re dn qu et lo ab na pi := by
  intro l
  induction l with
  | nil =>
    intro f j h re P hl _ hj hf hB K
    obtain ⟨f, rfl⟩ : ∃ g, f = g + 1 := ⟨f - 1, by omega⟩
    have hh : h = -1 := hl
    have hpx : post (fo, fp, fc, fg, fw, ce, kc, ko, ik, kn, re, dn, qu, et, lo, ab, na, pi) := by
      refine K re ?_
      obtain ⟨r1, r2, r3, r4, r5, r6, r7⟩ := hB
      exact ⟨r1, r2, r3, r4, r5, r6, fun a ha hp => r7 a ha (hp.elim id (fun z => nomatch z))⟩
    by_cases z : (24 : Int32) ≤ nI j
    · exact br_t z hpx
    · exact br_f z (br_t (by rw [hh]; decide) hpx)
  | cons a l ih =>
    intro f j h re P hl hm hj hf hB K
    obtain ⟨f, rfl⟩ : ∃ g, f = g + 1 := ⟨f - 1, by omega⟩
    rw [List.length_cons] at hj hf
    obtain ⟨ha, hw, hfr⟩ := hm a List.mem_cons_self
    have hh : h = nI a := hl.1
    subst hh
    obtain ⟨c1, c2, c3, c4, gp⟩ := (hA a ha).2.2 hw
    obtain ⟨t1, t2, t3⟩ := GP_to gp
    obtain ⟨w1, w2⟩ := GP_wt gp
    have hfa : fr' w a = n := (GP_frI gp hn).mp hfr
    have eto : ce (nI (100 + 10 * a) + 1 + 1).toNatClampNeg = nI (to' w a) := (gx_c (n := 102 + 10 * a) (by first | rfl | exact congrArg nI (by omega) | (simp only [nI_add, pk_mul, ir_0, ir_1, ir_2, ir_3, ir_4, ir_5, ir_6, ir_7, ir_8, ir_9, ir_13, il_4, il_12, il_16, il_24, il_36, il_60, il_84, il_100, il_108, il_132, il_340, im_5, im_7, im_10, im_11, im_3, im_24, im_156, im_340]; first | done | exact congrArg nI (by omega))) (by omega)).trans (c2.trans t1)
    have ewt : ce (nI (100 + 10 * a) + 4).toNatClampNeg = nI (wt' w a) := (gx_c (n := 104 + 10 * a) (by first | rfl | exact congrArg nI (by omega) | (simp only [nI_add, pk_mul, ir_0, ir_1, ir_2, ir_3, ir_4, ir_5, ir_6, ir_7, ir_8, ir_9, ir_13, il_4, il_12, il_16, il_24, il_36, il_60, il_84, il_100, il_108, il_132, il_340, im_5, im_7, im_10, im_11, im_3, im_24, im_156, im_340]; first | done | exact congrArg nI (by omega))) (by omega)).trans (c4.trans w1)
    have nx : ∀ (re2 : Nat → Int32), RX w t s (99 * (k + 1)) n d re2 dn (fun b => P b ∨ b = a) → wX_relax_101 post (wX_relax_15 post (nI n) (nI t) fo fp fc fg fw f) (nI n) (nI t) (nI a) (nI j) fo fp fc fg fw ce kc ko ik kn re2 dn qu et lo ab na pi := by
      intro re2 hB2
      unfold wX_relax_101
      refine gx_aa ?_
      refine ⟨pk_in (105 + 10 * a) 340 (by omega) (by first | rfl | exact congrArg nI (by omega) | (simp only [nI_add, pk_mul, ir_0, ir_1, ir_2, ir_3, ir_4, ir_5, ir_6, ir_7, ir_8, ir_9, ir_13, il_4, il_12, il_16, il_24, il_36, il_60, il_84, il_100, il_108, il_132, il_340, im_5, im_7, im_10, im_11, im_3, im_24, im_156, im_340]; first | done | exact congrArg nI (by omega))), nm_r (e' := ce (105 + 10 * a)) (gx_c (by first | rfl | exact congrArg nI (by omega) | (simp only [nI_add, pk_mul, ir_0, ir_1, ir_2, ir_3, ir_4, ir_5, ir_6, ir_7, ir_8, ir_9, ir_13, il_4, il_12, il_16, il_24, il_36, il_60, il_84, il_100, il_108, il_132, il_340, im_5, im_7, im_10, im_11, im_3, im_24, im_156, im_340]; first | done | exact congrArg nI (by omega))) (by omega)) (nm_r (nI_1 j) ?_)⟩
      refine ih f (j + 1) _ re2 _ hl.2 (fun b hb => hm b (List.mem_cons_of_mem _ hb)) (by omega) (by omega) hB2 ?_
      intro re' hB'
      refine K re' ?_
      obtain ⟨r1, r2, r3, r4, r5, r6, r7⟩ := hB'
      refine ⟨r1, r2, r3, r4, r5, r6, fun b hb hp => r7 b hb ?_⟩
      rcases hp with z | z
      · exact Or.inl (Or.inl z)
      · rcases List.mem_cons.mp z with y | y
        · exact Or.inl (Or.inr y)
        · exact Or.inr y
    have hsum : re (nI n).toNatClampNeg + nI (wt' w a) = nI (d + wt' w a) := by rw [nI_clamp (show n < 2 ^ 31 by omega), hB.2.2.1.1, nI_add]
    refine br_f (nI_ge (b := 24) (by omega) (by decide)) (br_f (nI_pos (by omega)) (gx_aa ⟨pk_in (102 + 10 * a) 340 (by omega) (by first | rfl | exact congrArg nI (by omega) | (simp only [nI_add, pk_mul, ir_0, ir_1, ir_2, ir_3, ir_4, ir_5, ir_6, ir_7, ir_8, ir_9, ir_13, il_4, il_12, il_16, il_24, il_36, il_60, il_84, il_100, il_108, il_132, il_340, im_5, im_7, im_10, im_11, im_3, im_24, im_156, im_340]; first | done | exact congrArg nI (by omega))), nm_r eto ⟨vp_in_nI hn (by omega), gx_aa ⟨pk_in (104 + 10 * a) 340 (by omega) (by first | rfl | exact congrArg nI (by omega) | (simp only [nI_add, pk_mul, ir_0, ir_1, ir_2, ir_3, ir_4, ir_5, ir_6, ir_7, ir_8, ir_9, ir_13, il_4, il_12, il_16, il_24, il_36, il_60, il_84, il_100, il_108, il_132, il_340, im_5, im_7, im_10, im_11, im_3, im_24, im_156, im_340]; first | done | exact congrArg nI (by omega))), ?_⟩⟩⟩))
    rw [ewt]
    refine nm_r hsum ?_
    by_cases qo : okA w t a
    · refine gx_isOf1 hA qo ht (br_f gx_10 ⟨vp_in_nI t2 (by omega), ?_⟩)
      rw [nI_clamp (show to' w a < 2 ^ 31 by omega)]
      have wr : (∀ e', VA re (to' w a) e' → d + wt' w a < e') → wX_relax_92 post (wX_relax_15 post (nI n) (nI t) fo fp fc fg fw f) (nI n) (nI t) (nI a) (nI j) (nI (to' w a)) (nI (d + wt' w a)) fo fp fc fg fw ce kc ko ik kn re dn qu et lo ab na pi := by
        intro hno
        refine ⟨vp_in_nI t2 (by omega), nm_r (gx_u rfl (by omega)) ?_⟩
        exact nx _ (RX_new hA hk hdn hB hdk qo hfa hno)
      rcases hB.1 (to' w a) t2 with y | ⟨x, x1, x2, x3⟩
      · exact br_t (by rw [y]; decide) (wr (fun e' hx => absurd y (fun y => VA_m1 hx y)))
      · refine br_f (by rw [x1.1]; exact nI_pos (by have := x1.2; omega)) ⟨vp_in_nI t2 (by omega), ?_⟩
        rw [x1.1]
        refine pk_le x (d + wt' w a) (fun hle => ?_) (fun hlt => ?_) rfl rfl (by have := x1.2; omega) (by omega)
        · exact nx re (RX_skip hB (fun _ => hfa) (fun _ => ⟨x, x1, hle⟩))
        · exact wr (fun e' hx => by have := VA_u hx x1; omega)
    · exact gx_isOf0 hA ha hw qo ht (br_t rfl (nx re (RX_skip hB (fun z => absurd z qo) (fun z => absurd z qo))))
theorem gx_rlx {post : SX → Prop} {k n d : Nat} (hA : GA ce w) (hC : GC ce w) (ht : t ≤ 4) (hn : n < 12) (hwn : w n = 1) (hk : k < 12) (hdk : d ≤ 99 * k) (hdn : ∀ m, m < 12 → dn m = 0 ∨ dn m = 1) (hB : RX w t s (99 * (k + 1)) n d re dn (fun a => dn (fr' w a) = 1 ∧ fr' w a ≠ n))
    (K : ∀ (re' : Nat → Int32), RX w t s (99 * (k + 1)) n d re' dn (fun a => dn (fr' w a) = 1) → post (fo, fp, fc, fg, fw, ce, kc, ko, ik, kn, re', dn, qu, et, lo, ab, na, pi)) : wpX_relax post (fo, fp, fc, fg, fw, ce, kc, ko, ik, kn, re, dn, qu, et, lo, ab, na, pi) (nI n) (nI t) := by
  obtain ⟨l, hc, hm⟩ := hC 0 n (by omega) hn hwn
  have hlen : l.length ≤ 24 := by rw [gx_len hc hm]; exact nD_le 0 n
  unfold wpX_relax
  refine gx_na ?_
  refine ⟨pk_in (19 + 7 * n) 340 (by omega) (by first | rfl | exact congrArg nI (by omega) | (simp only [nI_add, pk_mul, ir_0, ir_1, ir_2, ir_3, ir_4, ir_5, ir_6, ir_7, ir_8, ir_9, ir_13, il_4, il_12, il_16, il_24, il_36, il_60, il_84, il_100, il_108, il_132, il_340, im_5, im_7, im_10, im_11, im_3, im_24, im_156, im_340]; first | done | exact congrArg nI (by omega))), nm_r (e' := ce (19 + 7 * n)) (gx_c (by first | rfl | exact congrArg nI (by omega) | (simp only [nI_add, pk_mul, ir_0, ir_1, ir_2, ir_3, ir_4, ir_5, ir_6, ir_7, ir_8, ir_9, ir_13, il_4, il_12, il_16, il_24, il_36, il_60, il_84, il_100, il_108, il_132, il_340, im_5, im_7, im_10, im_11, im_3, im_24, im_156, im_340]; first | done | exact congrArg nI (by omega))) (by omega)) ⟨l.length + 1, ?_⟩⟩
  refine gx_rlx_l hA ht hn hk hdk hdn l (l.length + 1) 0 _ re _ (DLk_F hc.1) (fun a ha => (hm a).mp ha) (by omega) (by omega) hB ?_
  intro re' hB'
  refine K re' ?_
  obtain ⟨r1, r2, r3, r4, r5, r6, r7⟩ := hB'
  refine ⟨r1, r2, r3, r4, r5, r6, fun a ha hp => r7 a ha ?_⟩
  by_cases z : fr' w a = n
  · exact Or.inr ((hm a).mpr ⟨ha.1, ha.2.1, (GP_frI (ok_gp hA ha) hn).mpr z⟩)
  · exact Or.inl ⟨hp, z⟩
theorem gx_chp65 {post : Int32 → SX → Prop} {m : Nat} (hA : GA ce w) (hC : GC ce w) (ht : t ≤ 4) (hs : s < 12) (hm : m < 12) (ws : w s = 1)
    (K : ∀ re' dn', SPF (okA w t) (fr' w) (to' w) (wt' w) s re' → (0 ≤ re' m → post (re' m) (fo, fp, fc, fg, fw, ce, kc, ko, ik, kn, re', dn', qu, et, lo, ab, na, pi)) ∧ (¬ 0 ≤ re' m → post (-2) (fo, fp, fc, fg, fw, ce, kc, ko, ik, kn, re', dn', qu, et, lo, ab, na, pi))) :
    ∀ (f k : Nat) (x : Int32) (re dn : Nat → Int32), k + f = 13 → DJ w t s k re dn → ((x = -1 ∧ ∀ m d, m < 12 → dn m = 0 → ¬ VA re m d) ∨ ∃ n d, n < 12 ∧ x = nI n ∧ dn n = 0 ∧ VA re n d ∧ ∀ m d', m < 12 → dn m = 0 → VA re m d' → d ≤ d') → wX_cheapest_65 post (nI (12 * s + m)) (nI t) f x (nI k) fo fp fc fg fw ce kc ko ik kn re dn qu et lo ab na pi := by
  have er : nI (12 * s + m) - nI (12 * s + m) / 12 * 12 = nI m := by rw [gx_rm (by omega)]; exact congrArg nI (by omega)
  have fin : ∀ (re dn : Nat → Int32), SPF (okA w t) (fr' w) (to' w) (wt' w) s re → wX_cheapest_100 post (nI (12 * s + m)) fo fp fc fg fw ce kc ko ik kn re dn qu et lo ab na pi := by
    intro re dn hS
    refine ⟨gx_12, ?_⟩
    rw [er, nI_clamp (show m < 2 ^ 31 by omega)]
    exact ⟨vp_in_nI hm (by omega), nm_e (K re dn hS)⟩
  intro f
  induction f with
  | zero =>
    intro k x re dn hk hD _
    have hle := cn_le (fun m => dn m = 1) 12
    have := hD.2.1
    omega
  | succ f ih =>
    intro k x re dn hk hD hx
    obtain ⟨j1, j2, j3, j4, j5, j6⟩ := id hD
    rcases Nat.lt_or_ge k 12 with z | z
    · refine br_f (nI_ge (b := 12) z (by decide)) ?_
      rcases hx with ⟨e, h1⟩ | ⟨n, d, hn, e, h1, h2, h3⟩
      · refine br_t (by rw [e]; decide) (fin re dn (DJ_end hA hs hD (fun m' d hm' hv => ?_)))
        rcases j1 m' hm' with y | y
        · exact absurd hv (h1 m' d hm' y)
        · exact y
      · subst e
        refine br_f (nI_pos (by omega)) ⟨vp_in_nI hn (by omega), nm_r (gx_u rfl (by omega)) ?_⟩
        rw [gj_b1]
        have hd99 : d ≤ 99 * k ∧ ∃ i, Wk (okA w t) (fr' w) (to' w) (wt' w) i s n d := by
          rcases j3 n hn with y | ⟨d', y1, y2, y3⟩
          · exact absurd y (fun y => VA_m1 h2 y)
          · have := VA_u y1 h2; subst this; exact ⟨y2, y3⟩
        have hwn : w n = 1 := by
          obtain ⟨i, hi⟩ := hd99.2
          exact Wk_us (U := fun m => w m = 1) (fun a ha => (GP_to (ok_gp hA ha)).2.2) ws hi
        have hdn' : ∀ m', m' < 12 → upd dn n 1 m' = 0 ∨ upd dn n 1 m' = 1 := fun m' hm' => by
          by_cases e : m' = n
          · rw [e]; exact Or.inr pk_us
          · rw [pk_un e]; exact j1 m' hm'
        have h01 : (0 : Int32) ≠ 1 := by decide
        refine gx_rlx (k := k) (n := n) (d := d) hA hC ht hn hwn z hd99.1 hdn' ⟨WB_up j3 (by omega), j4, h2, pk_us, fun m' hm' q => ?_, fun m' d' hm' q hv => ?_, fun a ha hp => ⟨hp.1, ?_⟩⟩ ?_
        · by_cases e : m' = n
          · rw [e]; exact ⟨d, h2, Nat.le_refl _⟩
          · rw [pk_un e] at q
            obtain ⟨d', q1, q2⟩ := j5 m' hm' q
            exact ⟨d', q1, q2 n d hn h1 h2⟩
        · have e : m' ≠ n := fun e => by rw [e, pk_us] at q; exact h01 q.symm
          rw [pk_un e] at q
          exact h3 m' d' hm' q hv
        · have := hp.1
          rw [pk_un hp.2] at this
          exact j6 a ha this
        · intro re' hR
          obtain ⟨r1, r2, r3, r4, r5, r6, r7⟩ := hR
          have hD' : DJ w t s (k + 1) re' (upd dn n 1) := by
            refine ⟨hdn', ?_, r1, r2, fun m' hm' q => ?_, fun a ha q => (r7 a ha q).2⟩
            · rw [← j2]
              exact cn_one (P := fun m' => dn m' = 1) (Q := fun m' => upd dn n 1 m' = 1) (a := n) (fun y => h01 (h1.symm.trans y)) pk_us (fun m' _ hne => by rw [pk_un hne]) hn
            · obtain ⟨d', q1, q2⟩ := r5 m' hm' q
              exact ⟨d', q1, fun m2 d2 hm2 q3 q4 => by have := r6 m2 d2 hm2 q3 q4; omega⟩
          refine gx_near (fun m' hm' => (r1 m' hm').elim Or.inl (fun ⟨d', y, _⟩ => Or.inr ⟨d', y⟩)) (fun h => ?_) (fun n' d' hn' q1 q2 q3 => ?_)
          · exact nm_r (nI_1 k) (ih (k + 1) (-1) re' (upd dn n 1) (by omega) hD' (Or.inl ⟨rfl, h⟩))
          · exact nm_r (nI_1 k) (ih (k + 1) (nI n') re' (upd dn n 1) (by omega) hD' (Or.inr ⟨n', d', hn', rfl, q1, q2, q3⟩))
    · refine br_t (nI_le (a := 12) z (by omega)) (fin re dn (DJ_end hA hs hD (fun m' d hm' _ => ?_)))
      rcases j1 m' hm' with y | y
      · have := cn_room (P := fun i => dn i = 1) (a := m') (N := 12) (by rw [y]; decide) hm'
        omega
      · exact y
theorem gx_chp19 {post : Int32 → SX → Prop} {m : Nat} (hA : GA ce w) (hC : GC ce w) (ht : t ≤ 4) (hs : s < 12) (hm : m < 12) (ws : w s = 1)
    (K : ∀ re' dn', SPF (okA w t) (fr' w) (to' w) (wt' w) s re' → (0 ≤ re' m → post (re' m) (fo, fp, fc, fg, fw, ce, kc, ko, ik, kn, re', dn', qu, et, lo, ab, na, pi)) ∧ (¬ 0 ≤ re' m → post (-2) (fo, fp, fc, fg, fw, ce, kc, ko, ik, kn, re', dn', qu, et, lo, ab, na, pi))) :
    ∀ (d k : Nat) (re dn : Nat → Int32), k + d = 12 → (∀ i, i < k → re i = (if i = s then 0 else -1) ∧ dn i = 0) → wX_cheapest_19 post (nI (12 * s + m)) (nI t) fo fp fc fg fw (d + 1) (nI k) ce kc ko ik kn re dn qu et lo ab na pi := by
  have ed : nI (12 * s + m) / 12 = nI s := by rw [gx_div (by omega)]; exact congrArg nI (by omega)
  intro d
  induction d with
  | zero =>
    intro k re dn hk h
    have : k = 12 := by omega
    subst this
    have h0 : VA re s 0 := ⟨by rw [(h s hs).1, if_pos rfl]; rfl, by omega⟩
    have h01 : (0 : Int32) ≠ 1 := by decide
    have hv : ∀ i, i < 12 → re i = -1 ∨ ∃ d, VA re i d ∧ d ≤ 99 * 0 ∧ ∃ j, Wk (okA w t) (fr' w) (to' w) (wt' w) j s i d := fun i hi => by
      by_cases e : i = s
      · subst e; exact Or.inr ⟨0, h0, by omega, 0, rfl, rfl⟩
      · left; rw [(h i hi).1, if_neg e]
    have hD : DJ w t s 0 re dn := ⟨fun i hi => Or.inl (h i hi).2, cn_no fun i hi z => h01 ((h i hi).2.symm.trans z), hv, h0, fun i hi z => absurd ((h i hi).2.symm.trans z) h01, fun a ha z => absurd ((h _ (GP_fr (ok_gp hA ha)).2.1).2.symm.trans z) h01⟩
    refine br_t (nI_le (a := 12) (b := 12) (by omega) (by omega)) ?_
    refine gx_near (fun i hi => (hv i hi).elim Or.inl (fun ⟨d', y, _⟩ => Or.inr ⟨d', y⟩)) (fun h' => ⟨13, ?_⟩) (fun n' d' hn' q1 q2 q3 => ⟨13, ?_⟩)
    · exact gx_chp65 hA hC ht hs hm ws K 13 0 (-1) re dn rfl hD (Or.inl ⟨rfl, h'⟩)
    · exact gx_chp65 hA hC ht hs hm ws K 13 0 (nI n') re dn rfl hD (Or.inr ⟨n', d', hn', rfl, q1, q2, q3⟩)
  | succ d ih =>
    intro k re dn hk h
    have hin : vp_in (nI k) 12 := vp_in_nI (by omega) (by omega)
    have st : ∀ v : Int32, v = (if k = s then 0 else -1) → wX_cheapest_43 post (wX_cheapest_19 post (nI (12 * s + m)) (nI t) fo fp fc fg fw (d + 1)) (nI (12 * s + m)) (nI t) (nI k) v (nI k) fo fp fc fg fw ce kc ko ik kn re dn qu et lo ab na pi := by
      intro v hv
      refine ⟨hin, nm_r (gx_u rfl (by omega)) ⟨hin, nm_r (gx_u rfl (by omega)) (nm_r (nI_1 k) ?_)⟩⟩
      rw [gj_b0]
      refine ih (k + 1) _ _ (by omega) (fun i hi => ?_)
      by_cases e : i = k
      · rw [e, pk_us, pk_us]; exact ⟨hv, rfl⟩
      · rw [pk_un e, pk_un e]; exact h i (by omega)
    refine br_f (nI_ge (b := 12) (by omega) (by decide)) ⟨gx_12, ?_⟩
    rw [ed]
    by_cases e : k = s
    · exact br_t (congrArg nI e) (st 0 (if_pos e).symm)
    · exact br_f (fun y => e ((nI_eq (by omega) (by omega)).mp y)) (st (-1) (if_neg e).symm)
end
theorem i_vc_cheapest {k : Nat} {u : SX} {v : SY} (I : i_Rel k u v) (hk : k + 4 ≤ 2048) (v1 : Int32) (v2 : Int32) : wpX_cheapest (fun r u' => wpY_cheapest (fun r' v' => r' = r ∧ i_Rel (k + 4) u' v') v v1 v2) u v1 v2 := by
  obtain ⟨fo, fp, fc, fg, fw, ce, kc, ko, ik, kn, re, dn, qu, et, lo, ab, na, pi⟩ := u
  obtain ⟨yo, w, cp, fa⟩ := v
  obtain ⟨o, sn, ho, rfl, rfl, hj, hg, hs⟩ := I
  have I : i_Rel (k + 4) (nI o, fp, fc, fg, fw, ce, kc, ko, ik, kn, re, dn, qu, et, lo, ab, na, pi) (nI o, w, cp, fa) := gr_mk ho hj hg hs
  unfold wpX_cheapest
  have ew : wz 1 w = wt' w := by funext a; exact wz_1
  rcases en_or w v1 with ⟨s, m, hs', hm, rfl, ws, wm⟩ | h1
  · refine gx_ends1 hg.1 hs' hm ws wm (br_f gx_10 ?_)
    rcases le_or v2 4 with ⟨t, ht, rfl⟩ | h2
    · refine gx_ty1 ht (br_f gx_10 ⟨13, ?_⟩)
      refine gx_chp19 (s := s) (m := m) (t := t) hg.2.1 hg.2.2.2.2.2.1 ht hs' hm ws (fun re' dn' hS => ?_) 12 0 re dn rfl (fun i hi => by omega)
      constructor
      · intro z
        unfold wpY_cheapest
        refine gy_way hg.2.1 hs' hm ws wm ht (fun fa' hf => ?_)
        rw [ew] at hf
        have e := SPF_u hS hf hm
        rw [← e]
        exact ⟨fun _ => ⟨rfl, gr_mk ho hj hg hs⟩, fun y => absurd z y⟩
      · intro z
        unfold wpY_cheapest
        refine gy_way hg.2.1 hs' hm ws wm ht (fun fa' hf => ?_)
        rw [ew] at hf
        have e := SPF_u hS hf hm
        rw [← e]
        exact ⟨fun y => absurd y z, fun _ => ⟨rfl, gr_mk ho hj hg hs⟩⟩
    · refine gx_ty0 h2 (br_t rfl ?_)
      unfold wpY_cheapest wpY_way
      exact gy_ends1 hs' hm ws wm (br_t rfl (gy_ty0 h2 (br_f gx_10 ⟨rfl, I⟩)))
  · refine gx_ends0 hg.1 h1 (br_t rfl ?_)
    unfold wpY_cheapest wpY_way
    exact gy_ends0 h1 (br_f gx_10 ⟨rfl, I⟩)
end
section
/-! the walk in depth: what the arrays hold -/
def hdI : List Nat → Int32
  | [] => -1
  | m :: _ => nI m
def ABk (ab : Nat → Int32) : List Nat → Prop
  | [] => True
  | n :: r => ab n = hdI r ∧ ABk ab r
theorem ABk_cg {ab ab' : Nat → Int32} : ∀ {π : List Nat}, (∀ p, p ∈ π → ab' p = ab p) → ABk ab π → ABk ab' π
  | [], _, _ => trivial
  | n :: r, h, hb => ⟨(h n List.mem_cons_self).trans hb.1, ABk_cg (fun p hp => h p (List.mem_cons_of_mem _ hp)) hb.2⟩
def AR (ce : Nat → Int32) (π : List Nat) (clk pl g : Nat) (E D : Nat → Prop) (en lw pile : Nat → Nat) (rem : Nat → List Nat) (fp fc fg : Int32) (dn et lo ab na pi : Nat → Int32) : Prop :=
  fp = nI pl ∧ fc = nI clk ∧ fg = nI g ∧ (∀ u, u < 12 → (E u ∧ et u = nI (en u)) ∨ (¬ E u ∧ et u = -1)) ∧ (∀ u, u < 12 → (D u ∧ dn u = 1) ∨ (¬ D u ∧ dn u = 0)) ∧
  (∀ p, p ∈ π → lo p = nI (lw p)) ∧ (∀ i, i < pl → pi i = nI (pile i)) ∧ ABk ab π ∧ (∀ p, p ∈ π → LkF (fun a => ce (105 + 10 * a)) (na p) (rem p))
def uA (w : Nat → Int32) (a : Nat) : Prop := a < 24 ∧ w (36 + a) = 1
/-- all of it; st: how many steps so far -/
def TR (w ce : Nat → Int32) (t : Nat) (π : List Nat) (st clk pl g : Nat) (E D X : Nat → Prop) (en lw pile : Nat → Nat) (rem : Nat → List Nat) (fp fc fg : Int32) (dn et lo ab na pi : Nat → Int32) : Prop :=
  TI (uN' w) (uA w) (okA w t) (fr' w) (to' w) π clk pl g E D X en lw pile rem ∧ clk = cn E 12 ∧ st ≤ cn X 24 + cn (fun u => E u ∧ u ∉ π) 12 ∧ AR ce π clk pl g E D en lw pile rem fp fc fg dn et lo ab na pi
section
variable {w ce : Nat → Int32} {t : Nat} {π r : List Nat} {st clk pl g : Nat} {E D X : Nat → Prop} {en lw pile : Nat → Nat} {rem : Nat → List Nat} {fp fc fg : Int32} {dn et lo ab na pi : Nat → Int32}
theorem uA_to (hA : GA ce w) : ∀ a, uA w a → uN' w (to' w a) := fun a ha => by
  obtain ⟨_, h2, h3⟩ := GP_to ((hA a ha.1).2.2 ha.2).2.2.2.2
  exact ⟨h2, h3⟩
theorem okA_uA : ∀ a, okA w t a → uA w a := fun a ha => ⟨ha.1, ha.2.1⟩
theorem TR_clk (h : TR w ce t π st clk pl g E D X en lw pile rem fp fc fg dn et lo ab na pi) : clk ≤ 12 := by rw [h.2.1]; exact cn_le _ _
theorem TR_st (h : TR w ce t π st clk pl g E D X en lw pile rem fp fc fg dn et lo ab na pi) : st ≤ 36 := by
  have h1 := cn_le X 24
  have h2 := cn_le (fun u => E u ∧ u ∉ π) 12
  have := h.2.2.1
  omega
/-- there is room on the pile -/
theorem TR_room {v : Nat} (h : TR w ce t π st clk pl g E D X en lw pile rem fp fc fg dn et lo ab na pi) (hv : v < 12) (hE : ¬ E v) : pl < 12 := by
  obtain ⟨t1, t2, t3, t4, t5, t6, _⟩ := h.1
  rcases Nat.lt_or_ge pl 12 with z | z
  · exact z
  · exfalso
    obtain ⟨i, j, hij, hj, e⟩ := gs_pigeon 12 (fun i => if i < 12 then pile i else v) (by
      intro i hi
      show (if i < 12 then pile i else v) < 12
      by_cases y : i < 12
      · rw [if_pos y]; exact (t1 _ (t4 i (by omega)).1).1.1
      · rw [if_neg y]; exact hv)
    have e' : (if i < 12 then pile i else v) = (if j < 12 then pile j else v) := e
    rw [if_pos (by omega)] at e'
    by_cases y : j < 12
    · rw [if_pos y] at e'
      have := t6 i j hij (by omega)
      rw [e'] at this; omega
    · rw [if_neg y] at e'
      exact hE (e' ▸ (t4 i (by omega)).1)
theorem TR_enter {v : Nat} {lv : List Nat} (hA : GA ce w) (h : TR w ce t π st clk pl g E D X en lw pile rem fp fc fg dn et lo ab na pi) (hv : uN' w v) (hnE : ¬ E v) (hp : ∀ n r, π = n :: r → Rc (okA w t) (fr' w) (to' w) n v) (hl : lv.Nodup) (hlv : ∀ a, a ∈ lv ↔ uA w a ∧ fr' w a = v) (hna : LkF (fun a => ce (105 + 10 * a)) (ce (19 + 7 * v)) lv) :
    TR w ce t (v :: π) st (clk + 1) (pl + 1) g (fun u => E u ∨ u = v) D X (fun u => if u = v then clk else en u) (fun u => if u = v then clk else lw u) (fun i => if i = pl then v else pile i) (fun u => if u = v then lv else rem u)
      (nI (pl + 1)) (nI (clk + 1)) fg dn (upd et v (nI clk)) (upd lo v (nI clk)) (upd ab v (hdI π)) (upd na v (ce (19 + 7 * v))) (upd pi pl (nI v)) := by
  obtain ⟨hT, hc, hs, a1, a2, a3, a4, a5, a6, a7, a8, a9⟩ := h
  have hπ : ∀ p, p ∈ π → p ≠ v := fun p hpm e => hnE (e ▸ (hT.2.2.2.2.2.2.2.2.2.1 p hpm).1)
  refine ⟨TI_enter hT hv hnE (uA_to hA) hp hl hlv, ?_, ?_, rfl, rfl, a3, fun u hu => ?_, a5, fun p hpm => ?_, fun i hi => ?_, ⟨pk_us, ABk_cg (fun p hpm => pk_un (hπ p hpm)) a8⟩, fun p hpm => ?_⟩
  · rw [hc]
    exact (cn_one (P := E) (Q := fun u => E u ∨ u = v) (a := v) hnE (Or.inr rfl) (fun u _ hne => ⟨Or.inl, fun z => z.elim id (fun e => absurd e hne)⟩) hv.1).symm
  · have : cn (fun u => (E u ∨ u = v) ∧ u ∉ v :: π) 12 = cn (fun u => E u ∧ u ∉ π) 12 := by
      refine cn_eq fun u _ => ?_
      constructor
      · rintro ⟨z1, z2⟩
        have hne : u ≠ v := fun e => z2 (e ▸ List.mem_cons_self)
        exact ⟨z1.elim id (fun e => absurd e hne), fun z => z2 (List.mem_cons_of_mem _ z)⟩
      · rintro ⟨z1, z2⟩
        exact ⟨Or.inl z1, fun z => (List.mem_cons.mp z).elim (fun e => hnE (e ▸ z1)) z2⟩
    rw [this]; exact hs
  · show ((E u ∨ u = v) ∧ upd et v (nI clk) u = nI (if u = v then clk else en u)) ∨ (¬ (E u ∨ u = v) ∧ upd et v (nI clk) u = -1)
    by_cases e : u = v
    · left; rw [e, pk_us, if_pos rfl]; exact ⟨Or.inr rfl, rfl⟩
    · rw [pk_un e, if_neg e]
      rcases a4 u hu with z | z
      · exact Or.inl ⟨Or.inl z.1, z.2⟩
      · exact Or.inr ⟨fun y => y.elim z.1 e, z.2⟩
  · show upd lo v (nI clk) p = nI (if p = v then clk else lw p)
    rcases List.mem_cons.mp hpm with e | e
    · rw [e, pk_us, if_pos rfl]
    · rw [pk_un (hπ p e), if_neg (hπ p e)]; exact a6 p e
  · show upd pi pl (nI v) i = nI (if i = pl then v else pile i)
    by_cases e : i = pl
    · rw [e, pk_us, if_pos rfl]
    · rw [pk_un e, if_neg e]; exact a7 i (by omega)
  · show LkF _ (upd na v (ce (19 + 7 * v)) p) (if p = v then lv else rem p)
    rcases List.mem_cons.mp hpm with e | e
    · rw [e, pk_us, if_pos rfl]; exact hna
    · rw [pk_un (hπ p e), if_neg (hπ p e)]; exact a9 p e
theorem TR_expl {n a : Nat} {l : List Nat} {na' : Nat → Int32} (h : TR w ce t π st clk pl g E D X en lw pile rem fp fc fg dn et lo ab na pi) (hn : n ∈ π) (hr : rem n = a :: l) (hd : okA w t a → E (to' w a) ∧ (D (to' w a) ∨ lw n ≤ en (to' w a)))
    (h1 : na' n = ce (105 + 10 * a)) (h2 : ∀ p, p ∈ π → p ≠ n → na' p = na p) :
    TR w ce t π (st + 1) clk pl g E D (fun b => X b ∨ b = a) en lw pile (fun u => if u = n then l else rem u) fp fc fg dn et lo ab na' pi := by
  obtain ⟨hT, hc, hs, a1, a2, a3, a4, a5, a6, a7, a8, a9⟩ := h
  have hf := (hT.2.2.2.2.2.2.2.2.2.2.2.2.2.2.1 n hn).2 a (by rw [hr]; exact List.mem_cons_self)
  refine ⟨TI_explore hT hn hr hd, hc, ?_, a1, a2, a3, a4, a5, a6, a7, a8, fun p hpm => ?_⟩
  · have := cn_one (P := X) (Q := fun b => X b ∨ b = a) (a := a) (N := 24) hf.2.2 (Or.inr rfl) (fun u _ hne => ⟨Or.inl, fun z => z.elim id (fun e => absurd e hne)⟩) hf.1.1
    omega
  · show LkF _ (na' p) (if p = n then l else rem p)
    by_cases e : p = n
    · rw [e, if_pos rfl, h1]
      have := a9 n hn
      rw [hr] at this
      exact this.2
    · rw [if_neg e, h2 p hpm e]; exact a9 p hpm
theorem TR_low {n x : Nat} (h : TR w ce t π st clk pl g E D X en lw pile rem fp fc fg dn et lo ab na pi) (hn : n ∈ π) (hx : E x) (hxd : ¬ D x) (hr : Rc (okA w t) (fr' w) (to' w) n x) (hl : en x ≤ lw n) :
    TR w ce t π st clk pl g E D X en (fun u => if u = n then en x else lw u) pile rem fp fc fg dn et (upd lo n (nI (en x))) ab na pi := by
  obtain ⟨hT, hc, hs, a1, a2, a3, a4, a5, a6, a7, a8, a9⟩ := h
  refine ⟨TI_low hT hn hx hxd hr hl, hc, hs, a1, a2, a3, a4, a5, fun p hpm => ?_, a7, a8, a9⟩
  show upd lo n (nI (en x)) p = nI (if p = n then en x else lw p)
  by_cases e : p = n
  · rw [e, pk_us, if_pos rfl]
  · rw [pk_un e, if_neg e]; exact a6 p hpm
theorem TR_same {n : Nat} (h : TR w ce t π st clk pl g E D X en lw pile rem fp fc fg dn et lo ab na pi) (hn : n ∈ π) :
    TR w ce t π st clk pl g E D X en lw pile rem fp fc fg dn et (upd lo n (lo n)) ab na pi := by
  obtain ⟨hT, hc, hs, a1, a2, a3, a4, a5, a6, a7, a8, a9⟩ := h
  refine ⟨hT, hc, hs, a1, a2, a3, a4, a5, fun p hpm => ?_, a7, a8, a9⟩
  by_cases e : p = n
  · rw [e, pk_us]; exact a6 n hn
  · rw [pk_un e]; exact a6 p hpm
theorem TR_left {n : Nat} (hE : E n) (hr : n ∉ r) (hn : n < 12) : cn (fun u => E u ∧ u ∉ r) 12 = cn (fun u => E u ∧ u ∉ n :: r) 12 + 1 := by
  refine cn_one (P := fun u => E u ∧ u ∉ n :: r) (Q := fun u => E u ∧ u ∉ r) (a := n) (fun z => z.2 List.mem_cons_self) ⟨hE, hr⟩ (fun u _ hne => ?_) hn
  constructor
  · rintro ⟨z1, z2⟩; exact ⟨z1, fun z => z2 (List.mem_cons_of_mem _ z)⟩
  · rintro ⟨z1, z2⟩; exact ⟨z1, fun z => (List.mem_cons.mp z).elim hne z2⟩
theorem TR_nr {n : Nat} (h : TR w ce t (n :: r) st clk pl g E D X en lw pile rem fp fc fg dn et lo ab na pi) : E n ∧ n ∉ r ∧ n < 12 ∧ ¬ D n := by
  obtain ⟨hT, _⟩ := h
  obtain ⟨t1, t2, t3, t4, t5, t6, t7, t8, t9, ta, tb, tc, td, te, tf, tp⟩ := hT
  have hE := ta n List.mem_cons_self
  refine ⟨hE.1, fun z => ?_, (t1 n hE.1).1.1, hE.2⟩
  have := PO_lt tp.2 n z
  omega
/-- where the last of the way stands on the pile, and who stands above -/
theorem TR_pos {n : Nat} (h : TR w ce t (n :: r) st clk pl g E D X en lw pile rem fp fc fg dn et lo ab na pi) : ∃ q, q < pl ∧ pile q = n ∧ ∀ u, (E u ∧ ¬ D u ∧ en n ≤ en u) ↔ ∃ j, q ≤ j ∧ j < pl ∧ pile j = u := by
  obtain ⟨hT, _⟩ := h
  obtain ⟨t1, t2, t3, t4, t5, t6, t7, t8, t9, ta, tb, tc, td, te, tf, tp⟩ := hT
  have hE := ta n List.mem_cons_self
  obtain ⟨q, hq, e⟩ := t5 n hE.1 hE.2
  refine ⟨q, hq, e, fun u => ?_⟩
  constructor
  · rintro ⟨h1, h2, h3⟩
    obtain ⟨j, hj, ej⟩ := t5 u h1 h2
    refine ⟨j, ?_, hj, ej⟩
    rcases Nat.lt_or_ge j q with z | z
    · have := t6 j q z hq
      rw [e, ej] at this; omega
    · exact z
  · rintro ⟨j, h1, h2, ej⟩
    have h4 := t4 j h2
    rw [ej] at h4
    refine ⟨h4.1, h4.2, ?_⟩
    by_cases z : j = q
    · rw [z, e] at ej; rw [ej]; exact Nat.le_refl _
    · have := t6 q j (by omega) h2
      rw [e, ej] at this; omega
theorem TR_root {n q : Nat} {dn' : Nat → Int32} (h : TR w ce t (n :: r) st clk pl g E D X en lw pile rem fp fc fg dn et lo ab na pi) (hrem : rem n = []) (hlw : lw n = en n) (hq : q < pl) (hqn : pile q = n) (hD : ∀ u, u < 12 → ((D u ∨ (E u ∧ en n ≤ en u)) ∧ dn' u = 1) ∨ (¬ (D u ∨ (E u ∧ en n ≤ en u)) ∧ dn' u = 0)) :
    TR w ce t r (st + 1) clk q (g + 1) E (fun u => D u ∨ (E u ∧ en n ≤ en u)) X en lw pile rem (nI q) fc (nI (g + 1)) dn' et lo ab na pi := by
  obtain ⟨hEn, hnr, hn12, _⟩ := TR_nr h
  obtain ⟨hT, hc, hs, a1, a2, a3, a4, a5, a6, a7, a8, a9⟩ := h
  have := TR_left hEn hnr hn12
  exact ⟨TI_root hT okA_uA (fun u hu => hu.1) hrem hlw hq hqn, hc, by omega, rfl, a2, rfl, a4, hD, fun p hp => a6 p (List.mem_cons_of_mem _ hp), fun i hi => a7 i (by omega), a8.2, fun p hp => a9 p (List.mem_cons_of_mem _ hp)⟩
theorem TR_back {n m v : Nat} (h : TR w ce t (n :: m :: r) st clk pl g E D X en lw pile rem fp fc fg dn et lo ab na pi) (hrem : rem n = []) (hlw : lw n ≠ en n) (hv : v ≤ lw n ∧ v ≤ lw m ∧ (v = lw n ∨ v = lw m)) :
    TR w ce t (m :: r) (st + 1) clk pl g E D X en (fun u => if u = m then v else lw u) pile rem fp fc fg dn et (upd lo m (nI v)) ab na pi := by
  obtain ⟨hEn, hnr, hn12, _⟩ := TR_nr h
  obtain ⟨hT, hc, hs, a1, a2, a3, a4, a5, a6, a7, a8, a9⟩ := h
  have := TR_left hEn hnr hn12
  refine ⟨TI_back hT hrem hlw hv, hc, by omega, a1, a2, a3, a4, a5, fun p hp => ?_, a7, a8.2, fun p hp => a9 p (List.mem_cons_of_mem _ hp)⟩
  show upd lo m (nI v) p = nI (if p = m then v else lw p)
  by_cases e : p = m
  · rw [e, pk_us, if_pos rfl]
  · rw [pk_un e, if_neg e]; exact a6 p (List.mem_cons_of_mem _ hp)
end
end
section
/-! the walk in depth, over the component -/
section
variable {fo fp fc fg fw : Int32} {ce kc ko ik kn re dn qu et lo ab na pi : Nat → Int32} {w : Nat → Int32} {t : Nat}
theorem gx_enter {post : SX → Prop} {v pl clk : Nat} {p1 : Int32} (hv : v < 12) (hpl : pl < 12) (K : post (fo, nI (pl + 1), nI (clk + 1), fg, fw, ce, kc, ko, ik, kn, re, dn, qu, upd et v (nI clk), upd lo v (nI clk), upd ab v p1, upd na v (ce (19 + 7 * v)), upd pi pl (nI v))) : wpX_enter post (fo, nI pl, nI clk, fg, fw, ce, kc, ko, ik, kn, re, dn, qu, et, lo, ab, na, pi) (nI v) p1 := by
  have hin : vp_in (nI v) 12 := vp_in_nI hv (by omega)
  have hcv : (nI v).toNatClampNeg = v := nI_clamp (by omega)
  have e1 : ce (nI (16 + 7 * v) + 3).toNatClampNeg = ce (19 + 7 * v) := gx_c (by first | rfl | exact congrArg nI (by omega) | (simp only [nI_add, pk_mul, ir_0, ir_1, ir_2, ir_3, ir_4, ir_5, ir_6, ir_7, ir_8, ir_9, ir_13, il_4, il_12, il_16, il_24, il_36, il_60, il_84, il_100, il_108, il_132, il_340, im_5, im_7, im_10, im_11, im_3, im_24, im_156, im_340]; first | done | exact congrArg nI (by omega))) (by omega)
  refine ⟨hin, nm_r (gx_u rfl (by omega)) ⟨hin, nm_r (gx_u rfl (by omega)) (nm_r (nI_1 clk) ⟨hin, nm_r (gx_u rfl (by omega)) (gx_na ⟨pk_in (19 + 7 * v) 340 (by omega) (by first | rfl | exact congrArg nI (by omega) | (simp only [nI_add, pk_mul, ir_0, ir_1, ir_2, ir_3, ir_4, ir_5, ir_6, ir_7, ir_8, ir_9, ir_13, il_4, il_12, il_16, il_24, il_36, il_60, il_84, il_100, il_108, il_132, il_340, im_5, im_7, im_10, im_11, im_3, im_24, im_156, im_340]; first | done | exact congrArg nI (by omega))), hin, ?_⟩)⟩)⟩⟩
  rw [e1]
  exact nm_r (gx_u rfl (by omega)) ⟨vp_in_nI hpl (by omega), nm_r (gx_u rfl (by omega)) (nm_r (nI_1 pl) K)⟩
/-- the pile down to n -/
theorem gx_pop_l {post : SX → Prop} {n q pl : Nat} {pile : Nat → Nat} {D : Nat → Prop} (hq : q < pl) (hpl : pl ≤ 12) (hqn : pile q = n) (hpi : ∀ i, i < pl → pi i = nI (pile i)) (hlt : ∀ i, i < pl → pile i < 12) (hinj : ∀ i j, i < j → j < pl → pile i ≠ pile j)
    (K : ∀ dn', (∀ u, u < 12 → ((D u ∨ ∃ j, q ≤ j ∧ j < pl ∧ pile j = u) ∧ dn' u = 1) ∨ (¬ (D u ∨ ∃ j, q ≤ j ∧ j < pl ∧ pile j = u) ∧ dn' u = 0)) → post (fo, nI q, fc, fg, fw, ce, kc, ko, ik, kn, re, dn', qu, et, lo, ab, na, pi)) :
    ∀ (d : Nat) (dn : Nat → Int32), q + d < pl → (∀ u, u < 12 → ((D u ∨ ∃ j, q + d + 1 ≤ j ∧ j < pl ∧ pile j = u) ∧ dn u = 1) ∨ (¬ (D u ∨ ∃ j, q + d + 1 ≤ j ∧ j < pl ∧ pile j = u) ∧ dn u = 0)) → wX_leave_34 post (nI n) fo fc fg fw (d + 2) 1 (nI (q + d + 1)) ce kc ko ik kn re dn qu et lo ab na pi := by
  intro d
  induction d with
  | zero =>
    intro dn hd h
    have h12 := hlt q hq
    refine br_f gx_10 (nm_r (nI_pred (q + 0)) ⟨vp_in_nI (by omega) (by omega), ?_⟩)
    have e1 : pi (nI (q + 0)).toNatClampNeg = nI n := by rw [nI_clamp (by omega), hpi (q + 0) (by omega)]; exact congrArg nI hqn
    rw [e1, gj_b1]
    have hn : n < 12 := hqn ▸ h12
    refine ⟨vp_in_nI hn (by omega), nm_r (gx_u rfl (by omega)) ⟨vp_in_nI (by omega) (by omega), br_t rfl (br_t rfl ?_)⟩⟩
    refine K _ (fun u hu => ?_)
    by_cases e : u = n
    · left; rw [e, pk_us]; exact ⟨Or.inr ⟨q, by omega, hq, hqn⟩, rfl⟩
    · rw [pk_un e]
      rcases h u hu with ⟨z1, z2⟩ | ⟨z1, z2⟩
      · refine Or.inl ⟨z1.elim Or.inl (fun ⟨j, y1, y2, y3⟩ => Or.inr ⟨j, by omega, y2, y3⟩), z2⟩
      · refine Or.inr ⟨fun y => z1 (y.elim Or.inl (fun ⟨j, y1, y2, y3⟩ => Or.inr ⟨j, ?_, y2, y3⟩)), z2⟩
        by_cases ej : j = q
        · rw [ej, hqn] at y3; exact absurd y3.symm e
        · omega
  | succ d ih =>
    intro dn hd h
    have h12 := hlt (q + d + 1) (by omega)
    refine br_f gx_10 (nm_r (nI_pred (q + d + 1)) ⟨vp_in_nI (by omega) (by omega), ?_⟩)
    have e1 : pi (nI (q + d + 1)).toNatClampNeg = nI (pile (q + d + 1)) := by rw [nI_clamp (by omega), hpi (q + d + 1) (by omega)]
    rw [e1, gj_b1]
    have hne : pile (q + d + 1) ≠ n := fun e => hinj q (q + d + 1) (by omega) (by omega) (hqn.trans e.symm)
    refine ⟨vp_in_nI h12 (by omega), nm_r (gx_u rfl (by omega)) ⟨vp_in_nI (by omega) (by omega), br_f (fun y => hne ((nI_eq (by omega) (by have := hlt q hq; omega)).mp y)) ?_⟩⟩
    refine ih _ (by omega) (fun u hu => ?_)
    by_cases e : u = pile (q + d + 1)
    · left; rw [e, pk_us]; exact ⟨Or.inr ⟨q + d + 1, by omega, by omega, rfl⟩, rfl⟩
    · rw [pk_un e]
      rcases h u hu with ⟨z1, z2⟩ | ⟨z1, z2⟩
      · refine Or.inl ⟨z1.elim Or.inl (fun ⟨j, y1, y2, y3⟩ => Or.inr ⟨j, by omega, y2, y3⟩), z2⟩
      · refine Or.inr ⟨fun y => z1 (y.elim Or.inl (fun ⟨j, y1, y2, y3⟩ => Or.inr ⟨j, ?_, y2, y3⟩)), z2⟩
        by_cases ej : j = q + d + 1
        · rw [ej] at y3; exact absurd y3.symm e
        · omega
/-- all arrows of the last are done with -/
theorem gx_leave {post : SX → Prop} {n : Nat} {r : List Nat} {st clk pl g : Nat} {E D X : Nat → Prop} {en lw pile : Nat → Nat} {rem : Nat → List Nat}
    (h : TR w ce t (n :: r) st clk pl g E D X en lw pile rem fp fc fg dn et lo ab na pi) (hrem : rem n = [])
    (K : ∀ (pl' g' : Nat) (D' : Nat → Prop) (lw' : Nat → Nat) (fp' fg' : Int32) (dn' lo' : Nat → Int32), TR w ce t r (st + 1) clk pl' g' E D' X en lw' pile rem fp' fc fg' dn' et lo' ab na pi → post (fo, fp', fc, fg', fw, ce, kc, ko, ik, kn, re, dn', qu, et, lo', ab, na, pi)) : wpX_leave post (fo, fp, fc, fg, fw, ce, kc, ko, ik, kn, re, dn, qu, et, lo, ab, na, pi) (nI n) := by
  obtain ⟨hEn, hnr, hn12, hDn⟩ := TR_nr h
  obtain ⟨q, hq, hqn, hpos⟩ := TR_pos h
  have hclk := TR_clk h
  obtain ⟨hT, hc, hs, a1, a2, a3, a4, a5, a6, a7, a8, a9⟩ := id h
  obtain ⟨t1, t2, t3, t4, t5, t6, t7, t8, t9, ta, tb, tc, td, te, tf, tp⟩ := id hT
  have hin : vp_in (nI n) 12 := vp_in_nI hn12 (by omega)
  have hcn : (nI n).toNatClampNeg = n := nI_clamp (by omega)
  have hab : ab n = hdI r := a8.1
  have hlo : lo n = nI (lw n) := a6 n List.mem_cons_self
  have het : et n = nI (en n) := by
    rcases a4 n hn12 with z | z
    · exact z.2
    · exact absurd hEn z.1
  have henclk := (t1 n hEn).2
  have hlwen := (tc n List.mem_cons_self).1
  subst a1 a3
  refine ⟨hin, nm_r (e' := hdI r) (by rw [hcn]; exact hab) ⟨hin, hin, ?_⟩⟩
  rw [hcn, hlo, het]
  by_cases e : lw n = en n
  · refine br_t (congrArg nI e) (nm_r (nI_1 g) ⟨(pl - 1 - q) + 2, ?_⟩)
    have hplt : ∀ i, i < pl → pile i < 12 := fun i hi => (t1 _ (t4 i hi).1).1.1
    have hinj : ∀ i j, i < j → j < pl → pile i ≠ pile j := fun i j hij hj e' => by
      have := t6 i j hij hj
      rw [e'] at this; omega
    have hpl12 : pl ≤ 12 := by
      rcases Nat.lt_or_ge 12 pl with z | z
      · exfalso
        obtain ⟨i, j, hij, hj, e'⟩ := gs_pigeon 12 pile (fun i hi => hplt i (by omega))
        exact hinj i j hij (by omega) e'
      · exact z
    have key := gx_pop_l (fo := fo) (fc := fc) (fg := nI (g + 1)) (fw := fw) (ce := ce) (kc := kc) (ko := ko) (ik := ik) (kn := kn) (re := re) (qu := qu) (et := et) (lo := lo) (ab := ab) (na := na) (pi := pi) (post := post) (D := D) hq hpl12 hqn a7 hplt hinj (fun dn' hdn' => K q (g + 1) _ lw _ _ dn' lo (TR_root h hrem e hq hqn (fun u hu => ?_))) (pl - 1 - q) dn (by omega) (fun u hu => ?_)
    · rw [show q + (pl - 1 - q) + 1 = pl by omega] at key
      exact key
    · have hiff : (D u ∨ (E u ∧ en n ≤ en u)) ↔ (D u ∨ ∃ j, q ≤ j ∧ j < pl ∧ pile j = u) := by
        constructor
        · rintro (z | z)
          · exact Or.inl z
          · by_cases y : D u
            · exact Or.inl y
            · exact Or.inr ((hpos u).mp ⟨z.1, y, z.2⟩)
        · rintro (z | z)
          · exact Or.inl z
          · have := (hpos u).mpr z; exact Or.inr ⟨this.1, this.2.2⟩
      rcases hdn' u hu with ⟨z1, z2⟩ | ⟨z1, z2⟩
      · exact Or.inl ⟨hiff.mpr z1, z2⟩
      · exact Or.inr ⟨fun y => z1 (hiff.mp y), z2⟩
    · rcases a5 u hu with ⟨z1, z2⟩ | ⟨z1, z2⟩
      · exact Or.inl ⟨Or.inl z1, z2⟩
      · exact Or.inr ⟨fun y => y.elim z1 (fun ⟨j, y1, y2, _⟩ => by omega), z2⟩
  · have ne : ¬ nI (lw n) = nI (en n) := fun y => e ((nI_eq (by omega) (by omega)).mp y)
    refine br_f ne ?_
    cases r with
    | nil => exact absurd (TI_bottom hT) e
    | cons m r =>
      have hm := ta m (List.mem_cons_of_mem _ List.mem_cons_self)
      have hm12 : m < 12 := (t1 m hm.1).1.1
      have hlm : lo m = nI (lw m) := a6 m (List.mem_cons_of_mem _ List.mem_cons_self)
      have hlwm := (tc m (List.mem_cons_of_mem _ List.mem_cons_self)).1
      have hemc := (t1 m hm.1).2
      have him : vp_in (nI m) 12 := vp_in_nI hm12 (by omega)
      show (nI m < 0 → _) ∧ (¬ nI m < 0 → _)
      refine br_f (nI_pos (by omega)) ⟨hin, him, ?_⟩
      show (lo (nI m).toNatClampNeg ≤ nI (lw n) → _) ∧ (¬ lo (nI m).toNatClampNeg ≤ nI (lw n) → _)
      have hcm : (nI m).toNatClampNeg = m := nI_clamp (by omega)
      rw [hcm, hlm]
      refine pk_le (lw m) (lw n) (fun z => ⟨him, him, ?_⟩) (fun z => ⟨hin, him, ?_⟩)
      · refine nm_r (e' := upd lo m (nI (lw m))) ?_ ?_
        · show upd lo (nI m).toNatClampNeg (lo (nI m).toNatClampNeg) = _
          rw [hcm, hlm]
        · exact K pl g D _ _ _ dn _ (TR_back h hrem e ⟨z, Nat.le_refl _, Or.inr rfl⟩)
      · refine nm_r (e' := upd lo m (nI (lw n))) ?_ ?_
        · show upd lo (nI m).toNatClampNeg _ = _
          rw [hcm]
        · exact K pl g D _ _ _ dn _ (TR_back h hrem e ⟨Nat.le_refl _, by omega, Or.inl rfl⟩)
end
end
section
section
variable {fo fp fc fg fw : Int32} {ce kc ko ik kn re dn qu et lo ab na pi : Nat → Int32} {w : Nat → Int32} {t : Nat}
theorem TR_le {π : List Nat} {st st' clk pl g : Nat} {E D X : Nat → Prop} {en lw pile : Nat → Nat} {rem : Nat → List Nat} (h : TR w ce t π st clk pl g E D X en lw pile rem fp fc fg dn et lo ab na pi) (hst : st' ≤ st) : TR w ce t π st' clk pl g E D X en lw pile rem fp fc fg dn et lo ab na pi :=
  ⟨h.1, h.2.1, by have := h.2.2.1; omega, h.2.2.2⟩
/-- what a walk hands on -/
def WK (w ce : Nat → Int32) (t : Nat) (E0 : Nat → Prop) (Q : Int32 → Int32 → Int32 → (Nat → Int32) → (Nat → Int32) → (Nat → Int32) → (Nat → Int32) → (Nat → Int32) → (Nat → Int32) → Prop) : Prop :=
  ∀ (st clk pl g : Nat) (E D X : Nat → Prop) (en lw pile : Nat → Nat) (rem : Nat → List Nat) (fp fc fg : Int32) (dn et lo ab na pi : Nat → Int32), TR w ce t [] st clk pl g E D X en lw pile rem fp fc fg dn et lo ab na pi → (∀ u, E0 u → E u) → Q fp fc fg dn et lo ab na pi
theorem ch_lv (hA : GA ce w) (hC : GC ce w) {v : Nat} (hv : uN' w v) : ∃ lv : List Nat, lv.Nodup ∧ (∀ a, a ∈ lv ↔ uA w a ∧ fr' w a = v) ∧ LkF (fun a => ce (105 + 10 * a)) (ce (19 + 7 * v)) lv := by
  obtain ⟨l, hc, hm⟩ := hC 0 v (by omega) hv.1 hv.2
  refine ⟨l, hc.2, fun a => ?_, DLk_F hc.1⟩
  rw [hm a]
  constructor
  · rintro ⟨h1, h2, h3⟩
    exact ⟨⟨h1, h2⟩, (GP_frI ((hA a h1).2.2 h2).2.2.2.2 hv.1).mp h3⟩
  · rintro ⟨⟨h1, h2⟩, h3⟩
    exact ⟨h1, h2, (GP_frI ((hA a h1).2.2 h2).2.2.2.2 hv.1).mpr h3⟩
theorem gx_walk_l {post : SX → Prop} {E0 : Nat → Prop} (hA : GA ce w) (hC : GC ce w) (ht : t ≤ 4) (K : WK w ce t E0 (fun fp fc fg dn et lo ab na pi => post (fo, fp, fc, fg, fw, ce, kc, ko, ik, kn, re, dn, qu, et, lo, ab, na, pi))) :
    ∀ (f st : Nat) (π : List Nat) (clk pl g : Nat) (E D X : Nat → Prop) (en lw pile : Nat → Nat) (rem : Nat → List Nat) (fp fc fg : Int32) (dn et lo ab na pi : Nat → Int32), st + f = 101 → TR w ce t π st clk pl g E D X en lw pile rem fp fc fg dn et lo ab na pi → (∀ u, E0 u → E u) → wX_walk_11 post (nI t) f (hdI π) (nI st) fo fp fc fg fw ce kc ko ik kn re dn qu et lo ab na pi := by
  intro f
  induction f with
  | zero =>
    intro st π clk pl g E D X en lw pile rem fp fc fg dn et lo ab na pi hf h
    have := TR_st h; omega
  | succ f ih =>
    intro st π clk pl g E D X en lw pile rem fp fc fg dn et lo ab na pi hf h hE0
    have hst := TR_st h
    refine br_f (nI_ge (b := 100) (by omega) (by decide)) ?_
    cases π with
    | nil => exact br_t (show (-1 : Int32) < 0 by decide) (K st clk pl g E D X en lw pile rem fp fc fg dn et lo ab na pi h hE0)
    | cons n r =>
      obtain ⟨hEn, hnr, hn12, hDn⟩ := TR_nr h
      have hclk := TR_clk h
      obtain ⟨hT, hc, hs, a1, a2, a3, a4, a5, a6, a7, a8, a9⟩ := id h
      obtain ⟨t1, t2, t3, t4, t5, t6, t7, t8, t9, ta, tb, tc, td, te, tf, tp⟩ := id hT
      have hin : vp_in (nI n) 12 := vp_in_nI hn12 (by omega)
      have hcn : (nI n).toNatClampNeg = n := nI_clamp (by omega)
      have hna := a9 n List.mem_cons_self
      show (nI n < 0 → _) ∧ (¬ nI n < 0 → _)
      refine br_f (nI_pos (by omega)) ⟨hin, ?_⟩
      cases hrem : rem n with
      | nil =>
        rw [hrem] at hna
        have hna1 : na n = -1 := hna
        refine nm_r (e' := -1) ((congrArg na hcn).trans hna1) (br_f (by decide) ?_)
        refine gx_leave h hrem ?_
        intro pl' g' D' lw' fp' fg' dn' lo' h'
        refine ⟨hin, nm_r (e' := hdI r) ((congrArg ab hcn).trans a8.1) (nm_r (nI_1 st) ?_)⟩
        exact ih (st + 1) r clk pl' g' E D' X en lw' pile rem fp' fc fg' dn' et lo' ab na pi (by omega) h' hE0
      | cons a l =>
        rw [hrem] at hna
        have hna1 : na n = nI a := hna.1
        obtain ⟨hua, hfa, hXa⟩ := (tf n List.mem_cons_self).2 a (by rw [hrem]; exact List.mem_cons_self)
        obtain ⟨ha, hw⟩ := hua
        obtain ⟨c1, c2, c3, c4, gp⟩ := (hA a ha).2.2 hw
        obtain ⟨o1, o2, o3⟩ := GP_to gp
        have eto : ce (nI (100 + 10 * a) + 1 + 1).toNatClampNeg = nI (to' w a) := (gx_c (n := 102 + 10 * a) (by first | rfl | exact congrArg nI (by omega) | (simp only [nI_add, pk_mul, ir_0, ir_1, ir_2, ir_3, ir_4, ir_5, ir_6, ir_7, ir_8, ir_9, ir_13, il_4, il_12, il_16, il_24, il_36, il_60, il_84, il_100, il_108, il_132, il_340, im_5, im_7, im_10, im_11, im_3, im_24, im_156, im_340]; first | done | exact congrArg nI (by omega))) (by omega)).trans (c2.trans o1)
        have enx : ce (nI (100 + 10 * a) + 5).toNatClampNeg = ce (105 + 10 * a) := gx_c (by first | rfl | exact congrArg nI (by omega) | (simp only [nI_add, pk_mul, ir_0, ir_1, ir_2, ir_3, ir_4, ir_5, ir_6, ir_7, ir_8, ir_9, ir_13, il_4, il_12, il_16, il_24, il_36, il_60, il_84, il_100, il_108, il_132, il_340, im_5, im_7, im_10, im_11, im_3, im_24, im_156, im_340]; first | done | exact congrArg nI (by omega))) (by omega)
        have hlo : lo n = nI (lw n) := a6 n List.mem_cons_self
        have hlwen := (tc n List.mem_cons_self).1
        have henc := (t1 n hEn).2
        have hito : vp_in (nI (to' w a)) 12 := vp_in_nI o2 (by omega)
        have hcto : (nI (to' w a)).toNatClampNeg = to' w a := nI_clamp (by omega)
        refine nm_r (e' := nI a) ((congrArg na hcn).trans hna1) (br_t (nI_pos' (by omega)) (gx_aa ⟨pk_in (105 + 10 * a) 340 (by omega) (by first | rfl | exact congrArg nI (by omega) | (simp only [nI_add, pk_mul, ir_0, ir_1, ir_2, ir_3, ir_4, ir_5, ir_6, ir_7, ir_8, ir_9, ir_13, il_4, il_12, il_16, il_24, il_36, il_60, il_84, il_100, il_108, il_132, il_340, im_5, im_7, im_10, im_11, im_3, im_24, im_156, im_340]; first | done | exact congrArg nI (by omega))), hin, ?_⟩))
        rw [enx]
        refine nm_r (gx_u rfl (by omega)) (gx_aa ⟨pk_in (102 + 10 * a) 340 (by omega) (by first | rfl | exact congrArg nI (by omega) | (simp only [nI_add, pk_mul, ir_0, ir_1, ir_2, ir_3, ir_4, ir_5, ir_6, ir_7, ir_8, ir_9, ir_13, il_4, il_12, il_16, il_24, il_36, il_60, il_84, il_100, il_108, il_132, il_340, im_5, im_7, im_10, im_11, im_3, im_24, im_156, im_340]; first | done | exact congrArg nI (by omega))), nm_r eto ?_⟩)
        -- the arrow is done with, and the walk goes on from n
        have go : ∀ (lw2 : Nat → Nat) (lo2 : Nat → Int32), TR w ce t (n :: r) st clk pl g E D X en lw2 pile rem fp fc fg dn et lo2 ab na pi → (okA w t a → E (to' w a) ∧ (D (to' w a) ∨ lw2 n ≤ en (to' w a))) → wX_walk_11 post (nI t) f (nI n) (nI (st + 1)) fo fp fc fg fw ce kc ko ik kn re dn qu et lo2 ab (upd na n (ce (105 + 10 * a))) pi := by
          intro lw2 lo2 h2 hd
          exact ih (st + 1) (n :: r) clk pl g E D _ en lw2 pile _ fp fc fg dn et lo2 ab _ pi (by omega) (TR_expl h2 List.mem_cons_self hrem hd pk_us (fun p _ hne => pk_un hne)) hE0
        by_cases qo : okA w t a
        · refine gx_isOf1 hA qo ht (br_f gx_10 ⟨hito, ?_⟩)
          rcases a4 (to' w a) o2 with ⟨hEt, het⟩ | ⟨hnE, het⟩
          · -- entered before
            refine br_t (by rw [hcto, het]; exact nI_pos' (by have := (t1 _ hEt).2; omega)) ?_
            unfold wX_walk_117
            refine gx_isOf1 hA qo ht (br_f gx_10 ⟨hito, ?_⟩)
            rcases a5 (to' w a) o2 with ⟨hD, hdn⟩ | ⟨hD, hdn⟩
            · exact br_f (by rw [hcto, hdn]; decide) (nm_r (nI_1 st) (go lw lo h (fun _ => ⟨hEt, Or.inl hD⟩)))
            · refine br_t (by rw [hcto, hdn]) ⟨hito, hin, ?_⟩
              rw [show hdI (n :: r) = nI n from rfl, hcto, hcn, het, hlo]
              have hetc := (t1 _ hEt).2
              refine pk_le (lw n) (en (to' w a)) (fun z => ⟨hin, hin, ?_⟩) (fun z => ⟨hito, hin, ?_⟩)
              · rw [← hlo]
                exact nm_e (nm_r (nI_1 st) (go lw _ (TR_same h List.mem_cons_self) (fun _ => ⟨hEt, Or.inr z⟩)))
              · refine nm_e (nm_r (nI_1 st) (go _ _ (TR_low h List.mem_cons_self hEt hD (hfa ▸ Rc_one qo) (by omega)) (fun _ => ⟨hEt, Or.inr ?_⟩)))
                show (if n = n then en (to' w a) else lw n) ≤ en (to' w a)
                rw [if_pos rfl]; exact Nat.le_refl _
          · -- into it
            have hpl := TR_room h o2 hnE
            have hnt : n ≠ to' w a := fun e => hnE (e ▸ hEn)
            refine br_f (by rw [hcto, het]; decide) ?_
            obtain ⟨lv, l1, l2, l3⟩ := ch_lv hA hC (v := to' w a) ⟨o2, o3⟩
            have hR : Rc (okA w t) (fr' w) (to' w) n (to' w a) := hfa ▸ Rc_one qo
            subst a1 a2
            refine gx_enter o2 hpl ?_
            refine nm_r (nI_1 st) ?_
            have h2 := TR_enter hA h ⟨o2, o3⟩ hnE (fun n' r' e => by
              have : n = n' := (List.cons.inj e).1
              rw [← this]; exact hR) l1 l2 l3
            have h3 := TR_expl (n := n) (a := a) (l := l) (na' := upd (upd na n (ce (105 + 10 * a))) (to' w a) (ce (19 + 7 * to' w a))) h2 (List.mem_cons_of_mem _ List.mem_cons_self) (by
              show (if n = to' w a then lv else rem n) = a :: l
              rw [if_neg hnt]; exact hrem) (fun _ => ⟨Or.inr rfl, Or.inr (by
              show (if n = to' w a then clk else lw n) ≤ (if to' w a = to' w a then clk else en (to' w a))
              rw [if_neg hnt, if_pos rfl]; omega)⟩) (by rw [pk_un hnt, pk_us]) (fun p hp hne => by
              by_cases e : p = to' w a
              · rw [e, pk_us, pk_us]
              · rw [pk_un e, pk_un e, pk_un hne])
            exact ih (st + 1) (to' w a :: n :: r) _ _ g _ D _ _ _ _ _ _ _ fg dn _ _ _ _ _ (by omega) h3 (fun u hu => Or.inl (hE0 u hu))
        · refine gx_isOf0 hA ha hw qo ht (br_t rfl ?_)
          unfold wX_walk_117
          exact gx_isOf0 hA ha hw qo ht (br_t rfl (nm_r (nI_1 st) (go lw lo h (fun z => absurd z qo))))
theorem gx_walk {post : SX → Prop} {v : Nat} {st clk pl g : Nat} {E D X : Nat → Prop} {en lw pile : Nat → Nat} {rem : Nat → List Nat} (hA : GA ce w) (hC : GC ce w) (ht : t ≤ 4) (h : TR w ce t [] st clk pl g E D X en lw pile rem fp fc fg dn et lo ab na pi) (hv : uN' w v) (hnE : ¬ E v)
    (K : WK w ce t (fun u => E u ∨ u = v) (fun fp fc fg dn et lo ab na pi => post (fo, fp, fc, fg, fw, ce, kc, ko, ik, kn, re, dn, qu, et, lo, ab, na, pi))) : wpX_walk post (fo, fp, fc, fg, fw, ce, kc, ko, ik, kn, re, dn, qu, et, lo, ab, na, pi) (nI v) (nI t) := by
  have hpl := TR_room h hv.1 hnE
  obtain ⟨lv, l1, l2, l3⟩ := ch_lv hA hC hv
  obtain ⟨hT, hc, hs, a1, a2, a3, a4, a5, a6, a7, a8, a9⟩ := id h
  subst a1 a2
  unfold wpX_walk
  refine gx_enter hv.1 hpl ?_
  refine ⟨101, ?_⟩
  have h2 := TR_enter hA h hv hnE (fun n' r' e => nomatch e) l1 l2 l3
  exact gx_walk_l hA hC ht K 101 0 [v] _ _ g _ D X _ _ _ _ _ _ fg dn _ _ _ _ _ rfl (TR_le h2 (by omega)) (fun u hu => hu)
theorem gx_rnd54 {post : Int32 → SX → Prop} (hN : GN ce w) (hA : GA ce w) (hC : GC ce w) (ht : t ≤ 4)
    (K : ∀ (fp fc : Int32) (dn et lo ab na pi : Nat → Int32), post (nI (cn (Mn (uN' w) (okA w t) (fr' w) (to' w)) 12)) (fo, fp, fc, nI (cn (Mn (uN' w) (okA w t) (fr' w) (to' w)) 12), fw, ce, kc, ko, ik, kn, re, dn, qu, et, lo, ab, na, pi)) :
    ∀ (d k : Nat) (st clk pl g : Nat) (E D X : Nat → Prop) (en lw pile : Nat → Nat) (rem : Nat → List Nat) (fp fc fg : Int32) (dn et lo ab na pi : Nat → Int32), k + d = 12 → TR w ce t [] st clk pl g E D X en lw pile rem fp fc fg dn et lo ab na pi → (∀ m, m < k → w m = 1 → E m) → wX_rounds_54 post (nI t) (d + 1) (nI k) fo fp fc fg fw ce kc ko ik kn re dn qu et lo ab na pi := by
  intro d
  induction d with
  | zero =>
    intro k st clk pl g E D X en lw pile rem fp fc fg dn et lo ab na pi hk h hE
    have : k = 12 := by omega
    subst this
    obtain ⟨hT, hc, hs, a1, a2, a3, a4, a5, a6, a7, a8, a9⟩ := id h
    obtain ⟨t1, t2, t3, t4, t5, t6, t7, t8, t9, ta, tb, tc, td, te, tf, tp⟩ := id hT
    have eg : g = cn (Mn (uN' w) (okA w t) (fr' w) (to' w)) 12 := by
      rw [t9]
      refine cn_eq fun u hu => ⟨fun z => z.2, fun z => ⟨?_, z⟩⟩
      exact tp u (hE u hu z.1.2)
    rw [eg] at a3
    subst a3
    exact br_t (nI_le (a := 12) (b := 12) (by omega) (by omega)) (K fp fc dn et lo ab na pi)
  | succ d ih =>
    intro k st clk pl g E D X en lw pile rem fp fc fg dn et lo ab na pi hk h hE
    obtain ⟨hT, hc, hs, a1, a2, a3, a4, a5, a6, a7, a8, a9⟩ := id h
    have hclk := TR_clk h
    refine br_f (nI_ge (b := 12) (by omega) (by decide)) ?_
    by_cases q : w k = 1
    · refine gx_isN1 hN (by omega) q (br_f gx_10 ⟨vp_in_nI (by omega) (by omega), ?_⟩)
      rw [nI_clamp (show k < 2 ^ 31 by omega)]
      rcases a4 k (by omega) with ⟨hEk, het⟩ | ⟨hnE, het⟩
      · have := (hT.1 k hEk).2
        refine br_t (by rw [het]; exact nI_pos' (by omega)) (nm_r (nI_1 k) (ih (k + 1) st clk pl g E D X en lw pile rem fp fc fg dn et lo ab na pi (by omega) h (fun m hm hwm => ?_)))
        by_cases e : m = k
        · rw [e]; exact hEk
        · exact hE m (by omega) hwm
      · refine br_f (by rw [het]; decide) (gx_walk hA hC ht h ⟨by omega, q⟩ hnE ?_)
        intro st2 clk2 pl2 g2 E2 D2 X2 en2 lw2 pile2 rem2 fp2 fc2 fg2 dn2 et2 lo2 ab2 na2 pi2 h2 hE2
        refine nm_r (nI_1 k) (ih (k + 1) st2 clk2 pl2 g2 E2 D2 X2 en2 lw2 pile2 rem2 fp2 fc2 fg2 dn2 et2 lo2 ab2 na2 pi2 (by omega) h2 (fun m hm hwm => ?_))
        by_cases e : m = k
        · exact hE2 m (Or.inr e)
        · exact hE2 m (Or.inl (hE m (by omega) hwm))
    · refine gx_isN0 hN (fun m hm e => ?_) (br_t rfl (nm_r (nI_1 k) (ih (k + 1) st clk pl g E D X en lw pile rem fp fc fg dn et lo ab na pi (by omega) h (fun m hm hwm => ?_))))
      · have : k = m := (nI_eq (by omega) (by omega)).mp e
        subst this; exact q
      · by_cases e : m = k
        · rw [e] at hwm; exact absurd hwm q
        · exact hE m (by omega) hwm
theorem gx_rnd26 {post : Int32 → SX → Prop} (hN : GN ce w) (hA : GA ce w) (hC : GC ce w) (ht : t ≤ 4)
    (K : ∀ (fp fc : Int32) (dn et lo ab na pi : Nat → Int32), post (nI (cn (Mn (uN' w) (okA w t) (fr' w) (to' w)) 12)) (fo, fp, fc, nI (cn (Mn (uN' w) (okA w t) (fr' w) (to' w)) 12), fw, ce, kc, ko, ik, kn, re, dn, qu, et, lo, ab, na, pi)) :
    ∀ (d k : Nat) (dn et : Nat → Int32), k + d = 12 → (∀ u, u < k → et u = -1 ∧ dn u = 0) → wX_rounds_26 post (nI t) fo 0 0 0 fw (d + 1) (nI k) ce kc ko ik kn re dn qu et lo ab na pi := by
  intro d
  induction d with
  | zero =>
    intro k dn et hk h
    have : k = 12 := by omega
    subst this
    refine br_t (nI_le (a := 12) (b := 12) (by omega) (by omega)) ⟨13, ?_⟩
    refine gx_rnd54 hN hA hC ht K 12 0 0 0 0 0 (fun _ => False) (fun _ => False) (fun _ => False) (fun _ => 0) (fun _ => 0) (fun _ => 0) (fun _ => []) 0 0 0 dn et lo ab na pi rfl ⟨TI_0 (fun _ z => z) (fun _ z => z) (fun _ z => z), (cn_no fun _ _ z => z).symm, by omega, rfl, rfl, rfl, fun u hu => Or.inr ⟨fun z => z, (h u hu).1⟩, fun u hu => Or.inr ⟨fun z => z, (h u hu).2⟩, (fun p hp => nomatch hp), fun i hi => by omega, trivial, (fun p hp => nomatch hp)⟩ (fun m hm => by omega)
  | succ d ih =>
    intro k dn et hk h
    have hin : vp_in (nI k) 12 := vp_in_nI (by omega) (by omega)
    refine br_f (nI_ge (b := 12) (by omega) (by decide)) ⟨hin, nm_r (gx_u rfl (by omega)) ⟨hin, nm_r (gx_u rfl (by omega)) (nm_r (nI_1 k) ?_)⟩⟩
    rw [gj_b0]
    refine ih (k + 1) _ _ (by omega) (fun u hu => ?_)
    by_cases e : u = k
    · rw [e, pk_us, pk_us]; exact ⟨rfl, rfl⟩
    · rw [pk_un e, pk_un e]; exact h u (by omega)
end
end
section
/-! the reference counts the least of each group -/
section
variable {yo : Int32} {w cp fa : Nat → Int32} {c : Nat → Int32} {t : Nat}
theorem gy_cb {post : Int32 → SY → Prop} {n m : Nat} (hA : GA c w) (hn : n < 12) (hm : m < 12) (ht : t ≤ 4)
    (K1 : ∀ fa', Rc (okA w t) (fr' w) (to' w) n m ∧ Rc (okA w t) (fr' w) (to' w) m n → post 1 (yo, w, cp, fa')) (K0 : ∀ fa', ¬ (Rc (okA w t) (fr' w) (to' w) n m ∧ Rc (okA w t) (fr' w) (to' w) m n) → post 0 (yo, w, cp, fa')) : wpY_comesBack post (yo, w, cp, fa) (nI n) (nI m) (nI t) := by
  unfold wpY_comesBack
  refine gy_measure hA hn ht rfl (fun fa1 h1 => ?_)
  rw [wz_0] at h1
  refine ⟨vp_in_nI hm (by omega), ?_⟩
  rw [nI_clamp (show m < 2 ^ 31 by omega)]
  obtain ⟨r1, r2⟩ := SPF_rc h1 hm
  by_cases z : fa1 m < 0
  · exact br_f (Int32.not_le.mpr z) (K0 fa1 (fun y => r1 z y.1))
  · refine br_t (Int32.not_lt.mp z) ?_
    refine gy_measure hA hm ht rfl (fun fa2 h2 => ?_)
    rw [wz_0] at h2
    refine ⟨vp_in_nI hn (by omega), ?_⟩
    rw [nI_clamp (show n < 2 ^ 31 by omega)]
    obtain ⟨q1, q2⟩ := SPF_rc h2 hn
    by_cases y : fa2 n < 0
    · exact br_t y (K0 fa2 (fun x => q1 y x.2))
    · exact br_f y (K1 fa2 ⟨r2 z, q2 y⟩)
/-- so far none below -/
def Mp (w : Nat → Int32) (t n m : Nat) : Prop := uN' w n ∧ ∀ j, j < m → uN' w j → ¬ (Rc (okA w t) (fr' w) (to' w) n j ∧ Rc (okA w t) (fr' w) (to' w) j n)
theorem gy_rnd30 {post : Int32 → SY → Prop} {J : Int32 → Int32 → Int32 → (Nat → Int32) → (Nat → Int32) → (Nat → Int32) → Prop} {n g : Nat} (hA : GA c w) (hn : n < 12) (ht : t ≤ 4)
    (K : ∀ fa', J (nI (g + gs_b (Mp w t n n))) (nI (n + 1)) yo w cp fa') :
    ∀ (d m : Nat) (x : Int32) (fa : Nat → Int32), m + d = n → ((Mp w t n m ∧ x = 1) ∨ (¬ Mp w t n m ∧ x = 0)) → wY_rounds_30 post J (nI t) (nI g) (nI n) (d + 1) x (nI m) yo w cp fa := by
  intro d
  induction d with
  | zero =>
    intro m x fa hm h
    have : m = n := by omega
    subst this
    refine br_t (nI_le (Nat.le_refl _) (by omega)) ?_
    have hK := K fa
    rcases h with ⟨z, e⟩ | ⟨z, e⟩
    · rw [gs_bt z] at hK
      rw [e]
      exact br_f gx_10 (nm_r (nI_1 g) (nm_r (nI_1 m) hK))
    · rw [gs_bf z] at hK
      rw [e]
      exact br_t rfl (nm_r (nI_1 m) hK)
  | succ d ih =>
    intro m x fa hm h
    refine br_f (nI_ge (by omega) (by omega)) ?_
    rcases h with ⟨z, e⟩ | ⟨z, e⟩
    · rw [e]
      refine br_f gx_10 ?_
      by_cases q : w m = 1
      · refine gy_isN1 (by omega) q (br_f gx_10 (gy_cb hA hn (by omega) ht (fun fa' y => ?_) (fun fa' y => ?_)))
        · exact br_f gx_10 (nm_r (nI_1 m) (ih (m + 1) 0 fa' (by omega) (Or.inr ⟨fun x => x.2 m (by omega) ⟨by omega, q⟩ y, rfl⟩)))
        · refine br_t rfl (nm_r (nI_1 m) (ih (m + 1) 1 fa' (by omega) (Or.inl ⟨⟨z.1, fun j hj hu => ?_⟩, rfl⟩)))
          by_cases e' : j = m
          · rw [e']; exact y
          · exact z.2 j (by omega) hu
      · refine gy_isN0 (fun b hb e' => ?_) (br_t rfl (nm_r (nI_1 m) (ih (m + 1) 1 fa (by omega) (Or.inl ⟨⟨z.1, fun j hj hu => ?_⟩, rfl⟩))))
        · have : m = b := (nI_eq (by omega) (by omega)).mp e'
          subst this; exact q
        · by_cases e' : j = m
          · rw [e'] at hu; exact absurd hu.2 q
          · exact z.2 j (by omega) hu
    · rw [e]
      exact br_t rfl (nm_r (nI_1 m) (ih (m + 1) 0 fa (by omega) (Or.inr ⟨fun x => z ⟨x.1, fun j hj hu => x.2 j (by omega) hu⟩, rfl⟩)))
theorem gy_rnd14 {post : Int32 → SY → Prop} (hA : GA c w) (ht : t ≤ 4) (K : ∀ fa', post (nI (cn (Mn (uN' w) (okA w t) (fr' w) (to' w)) 12)) (yo, w, cp, fa')) :
    ∀ (d k : Nat) (fa : Nat → Int32), k + d = 12 → wY_rounds_14 post (nI t) (d + 1) (nI (cn (Mn (uN' w) (okA w t) (fr' w) (to' w)) k)) (nI k) yo w cp fa := by
  intro d
  induction d with
  | zero =>
    intro k fa hk
    have : k = 12 := by omega
    subst this
    exact br_t (nI_le (a := 12) (b := 12) (by omega) (by omega)) (K fa)
  | succ d ih =>
    intro k fa hk
    refine br_f (nI_ge (b := 12) (by omega) (by decide)) ?_
    have hnx : ∀ fa', wY_rounds_14 post (nI t) (d + 1) (nI (cn (Mn (uN' w) (okA w t) (fr' w) (to' w)) k + gs_b (Mp w t k k))) (nI (k + 1)) yo w cp fa' := fun fa' => ih (k + 1) fa' (by omega)
    by_cases q : w k = 1
    · exact gy_isN1 (by omega) q ⟨k + 1, gy_rnd30 hA (by omega) ht hnx k 0 1 fa (by omega) (Or.inl ⟨⟨⟨by omega, q⟩, fun j hj => by omega⟩, rfl⟩)⟩
    · refine gy_isN0 (fun b hb e' => ?_) ⟨k + 1, gy_rnd30 hA (by omega) ht hnx k 0 0 fa (by omega) (Or.inr ⟨fun z => q z.1.2, rfl⟩)⟩
      have : k = b := (nI_eq (by omega) (by omega)).mp e'
      subst this; exact q
end
theorem i_vc_rounds {k : Nat} {u : SX} {v : SY} (I : i_Rel k u v) (hk : k + 4 ≤ 2048) (v1 : Int32) : wpX_rounds (fun r u' => wpY_rounds (fun r' v' => r' = r ∧ i_Rel (k + 4) u' v') v v1) u v1 := by
  obtain ⟨fo, fp, fc, fg, fw, ce, kc, ko, ik, kn, re, dn, qu, et, lo, ab, na, pi⟩ := u
  obtain ⟨yo, w, cp, fa⟩ := v
  obtain ⟨o, sn, ho, rfl, rfl, hj, hg, hs⟩ := I
  have I : i_Rel (k + 4) (nI o, fp, fc, fg, fw, ce, kc, ko, ik, kn, re, dn, qu, et, lo, ab, na, pi) (nI o, w, cp, fa) := gr_mk ho hj hg hs
  unfold wpX_rounds
  rcases le_or v1 4 with ⟨t, ht, rfl⟩ | h1
  · refine gx_ty1 ht (br_f gx_10 ⟨13, ?_⟩)
    refine gx_rnd26 (t := t) hg.1 hg.2.1 hg.2.2.2.2.2.1 ht (fun fp fc dn et lo ab na pi => ?_) 12 0 dn et rfl (fun u hu => by omega)
    show wpY_rounds _ _ _
    unfold wpY_rounds
    exact gy_ty1 ht (br_t rfl ⟨13, gy_rnd14 hg.2.1 ht (fun fa' => ⟨rfl, gr_mk ho hj hg hs⟩) 12 0 fa rfl⟩)
  · refine gx_ty0 h1 (br_t rfl ?_)
    unfold wpY_rounds
    exact gy_ty0 h1 (br_f gx_10 ⟨rfl, I⟩)
end
