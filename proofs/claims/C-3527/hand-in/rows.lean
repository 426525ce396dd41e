section
/-! pure rows to paste: stores, nI and lN arithmetic, masks, shifts, narrowing, branches by naturals (pk_le, pk_lt, pk_eq), loops (lp1 .. lp16: the measure of the state; rp1 ..: recursion), negatives. Take what you need -/
theorem pk_us {f : Nat → Int32} {k : Nat} {x : Int32} : upd f k x k = x := if_pos rfl
theorem pk_un {f : Nat → Int32} {k j : Nat} {x : Int32} (h : j ≠ k) : upd f k x j = f j := if_neg h
theorem pk_uLs {f : Nat → Int64} {k : Nat} {x : Int64} : vp_updL f k x k = x := if_pos rfl
theorem pk_uLn {f : Nat → Int64} {k j : Nat} {x : Int64} (h : j ≠ k) : vp_updL f k x j = f j := if_neg h
theorem pk_sub {a b : Nat} (h : b ≤ a) : nI a - nI b = nI (a - b) := by
  obtain ⟨c, rfl⟩ : ∃ c, a = c + b := ⟨a - b, by omega⟩
  rw [← nI_add, Int32.add_sub_cancel, Nat.add_sub_cancel]
theorem pk_m1 (n : Nat) : nI (n + 1) + (-1) = nI n := by
  rw [← nI_1, Int32.add_assoc, show (1 : Int32) + (-1) = 0 from rfl, Int32.add_zero]
theorem pk_mul (a b : Nat) : nI a * nI b = nI (a * b) := (Int32.ofNat_mul a b).symm
theorem pk_div {a d : Nat} (ha : a < 2 ^ 31) (h0 : 0 < d) (hd : d < 2 ^ 31) : nI a / nI d = nI (a / d) := by
  apply Int32.toInt_inj.mp
  rw [lg_idiv_nonneg (by rw [nI_toInt ha]; omega) (by rw [nI_toInt hd]; omega), nI_toInt ha, nI_toInt hd, nI_toInt (Nat.lt_of_le_of_lt (Nat.div_le_self a d) ha)]
  first | rfl | exact (Int.natCast_ediv _ _).symm
theorem pk_rem {a d : Nat} (ha : a < 2 ^ 31) (h0 : 0 < d) (hd : d < 2 ^ 31) : nI a - nI a / nI d * nI d = nI (a % d) := by
  rw [pk_div ha h0 hd, pk_mul, pk_sub (Nat.div_mul_le_self a d)]
  exact congrArg nI (by have := Nat.div_add_mod' a d; omega)
theorem pk_sub_toInt {a b : Nat} (ha : a < 2 ^ 30) (hb : b < 2 ^ 30) : (nI a - nI b).toInt = (a : Int) - b := by
  rw [Int32.toInt_sub, nI_toInt (by omega), nI_toInt (by omega)]
  exact Int.bmod_eq_of_le (by omega) (by omega)
theorem pk_sneg {a b : Nat} (hb : b < 2 ^ 30) (h : a < b) : nI a - nI b < 0 := by
  rw [Int32.lt_iff_toInt_lt, pk_sub_toInt (by omega) hb, show (0 : Int32).toInt = 0 from by decide]
  omega
theorem pk_ix (x : Int32) {n : Nat} (hn : n < 2 ^ 31) : x < 0 ∨ nI n ≤ x ∨ ∃ j : Nat, j < n ∧ x = nI j := by
  by_cases h : x < 0
  · exact Or.inl h
  · obtain ⟨j, hj, rfl⟩ := nI_of h
    by_cases h2 : j < n
    · exact Or.inr (Or.inr ⟨j, h2, rfl⟩)
    · exact Or.inr (Or.inl (nI_le (by omega) hj))
theorem pk_le {x y : Int32} {A B : Prop} (a b : Nat) (f : a ≤ b → A) (g : b < a → B) (hx : x = nI a := by rfl) (hy : y = nI b := by rfl) (ha : a < 2 ^ 31 := by omega) (hb : b < 2 ^ 31 := by omega) : (x ≤ y → A) ∧ (¬ x ≤ y → B) := by
  subst hx hy
  rw [nI_leI ha hb]
  exact ⟨f, fun z => g (by omega)⟩
theorem pk_lt {x y : Int32} {A B : Prop} (a b : Nat) (f : a < b → A) (g : b ≤ a → B) (hx : x = nI a := by rfl) (hy : y = nI b := by rfl) (ha : a < 2 ^ 31 := by omega) (hb : b < 2 ^ 31 := by omega) : (x < y → A) ∧ (¬ x < y → B) := by
  subst hx hy
  rw [nI_ltI ha hb]
  exact ⟨f, fun z => g (by omega)⟩
theorem pk_eq {x y : Int32} {A B : Prop} (a b : Nat) (f : a = b → A) (g : a ≠ b → B) (hx : x = nI a := by rfl) (hy : y = nI b := by rfl) (ha : a < 2 ^ 31 := by omega) (hb : b < 2 ^ 31 := by omega) : (x = y → A) ∧ (¬ x = y → B) := by
  subst hx hy
  rw [nI_eq ha hb]
  exact ⟨f, g⟩
theorem pk_in {x : Int32} (n N : Nat) (h : n < N) (hx : x = nI n := by rfl) (hN : N < 2 ^ 31 := by omega) : vp_in x N := by
  subst hx
  exact vp_in_nI h hN
theorem pk_cl {x : Int32} (n : Nat) (hx : x = nI n := by rfl) (h : n < 2 ^ 31 := by omega) : x.toNatClampNeg = n := by
  subst hx
  exact nI_clamp h
theorem pk_tn {n : Nat} (h : n < 2 ^ 32) : (nI n).toBitVec.toNat = n := Nat.mod_eq_of_lt h
theorem pk_and (x : Int32) {m : Int32} (k : Nat) (hm : m.toBitVec.toNat = 2 ^ k - 1) : x &&& m = nI (x.toBitVec.toNat % 2 ^ k) := by
  apply Int32.toBitVec_inj.mp
  apply BitVec.eq_of_toNat_eq
  rw [Int32.toBitVec_and, BitVec.toNat_and, hm, Nat.and_two_pow_sub_one_eq_mod]
  show _ = (BitVec.ofNat 32 _).toNat
  rw [BitVec.toNat_ofNat]
  exact (Nat.mod_eq_of_lt (Nat.lt_of_le_of_lt (Nat.mod_le _ _) x.toBitVec.isLt)).symm
theorem pk_andN {n : Nat} (h : n < 2 ^ 32) {m : Int32} (k : Nat) (hm : m.toBitVec.toNat = 2 ^ k - 1) : nI n &&& m = nI (n % 2 ^ k) := by
  rw [pk_and _ k hm, pk_tn h]
theorem pk_andE (x : Int32) {m : Int32} (k : Nat) (hm : m.toBitVec.toNat = 2 ^ k - 1) : ∃ j : Nat, j < 2 ^ k ∧ x &&& m = nI j := ⟨_, Nat.mod_lt _ (Nat.two_pow_pos k), pk_and x k hm⟩
theorem pk_andIn (x : Int32) {m : Int32} (k : Nat) (hm : m.toBitVec.toNat = 2 ^ k - 1) (hk : k ≤ 30) : vp_in (x &&& m) (2 ^ k) := by
  obtain ⟨j, hj, e⟩ := pk_andE x k hm
  rw [e]
  exact vp_in_nI hj (Nat.lt_of_le_of_lt (Nat.pow_le_pow_right (by decide) hk) (by decide))
theorem pk_shl (a s : Int32) (k : Nat) (hs : (s.toBitVec.smod 32).toNat = k) : (a <<< s).toBitVec.toNat = a.toBitVec.toNat * 2 ^ k % 2 ^ 32 := by
  show (a.toBitVec <<< (s.toBitVec.smod 32).toNat).toNat = _
  rw [hs, BitVec.toNat_shiftLeft, Nat.shiftLeft_eq]
theorem pk_shlN {n : Nat} (s : Int32) (k : Nat) (hs : (s.toBitVec.smod 32).toNat = k) (h : n * 2 ^ k < 2 ^ 32) : nI n <<< s = nI (n * 2 ^ k) := by
  apply Int32.toBitVec_inj.mp
  apply BitVec.eq_of_toNat_eq
  have hn : n < 2 ^ 32 := Nat.lt_of_le_of_lt (Nat.le_mul_of_pos_right n (Nat.two_pow_pos k)) h
  rw [pk_shl _ _ k hs, pk_tn hn, pk_tn h, Nat.mod_eq_of_lt h]
theorem pk_shr (a s : Int32) (k : Nat) (hs : (s.toBitVec.smod 32).toNat = k) : (a >>> s).toInt = a.toInt >>> k := by
  show (a.toBitVec.sshiftRight (s.toBitVec.smod 32).toNat).toInt = _
  rw [hs, BitVec.toInt_sshiftRight]
  rfl
theorem pk_shrN {n : Nat} (h : n < 2 ^ 31) (s : Int32) (k : Nat) (hs : (s.toBitVec.smod 32).toNat = k) : nI n >>> s = nI (n / 2 ^ k) := by
  apply Int32.toInt_inj.mp
  have h2 : n / 2 ^ k ≤ n := Nat.div_le_self _ _
  rw [pk_shr _ _ k hs, nI_toInt h, nI_toInt (by omega), Int.shiftRight_eq_div_pow]
  rfl
theorem pk_ushr (x s : Int32) (k : Nat) (hs : ((s.toUInt32 &&& Int32.toUInt32 31).toBitVec % 32).toNat = k) : (x.toUInt32 >>> (s.toUInt32 &&& Int32.toUInt32 31)).toInt32.toBitVec.toNat = x.toBitVec.toNat / 2 ^ k := by
  have e : (x.toUInt32 >>> (s.toUInt32 &&& Int32.toUInt32 31)).toInt32.toBitVec = x.toBitVec >>> k := by
    rw [← hs]
    exact UInt32.toBitVec_shiftRight _ _
  rw [e, BitVec.toNat_ushiftRight, Nat.shiftRight_eq_div_pow]
theorem pk_ushrN {n : Nat} (hn : n < 2 ^ 32) (s : Int32) (k : Nat) (hs : ((s.toUInt32 &&& Int32.toUInt32 31).toBitVec % 32).toNat = k) : ((nI n).toUInt32 >>> (s.toUInt32 &&& Int32.toUInt32 31)).toInt32 = nI (n / 2 ^ k) := by
  apply Int32.toBitVec_inj.mp
  apply BitVec.eq_of_toNat_eq
  rw [pk_ushr _ s k hs, pk_tn hn, pk_tn (Nat.lt_of_le_of_lt (Nat.div_le_self _ _) hn)]
theorem pk_nb (z : Int32) : narrow .byte (.int z.toInt8.toInt32) = .int z.toInt8.toInt32 := congrArg Value.int (by simp)
theorem pk_ns (z : Int32) : narrow .short (.int z.toInt16.toInt32) = .int z.toInt16.toInt32 := congrArg Value.int (by simp)
theorem pk_fb (r : Int32) : fits .byte (.int r.toInt8.toInt32) = true := by
  have ⟨a, b⟩ := lg_i2b_range r
  have h1 : (-128 : Int32).toInt = -128 := by decide
  have h2 : (127 : Int32).toInt = 127 := by decide
  simp only [fits, Bool.and_eq_true, decide_eq_true_eq, Int32.le_iff_toInt_le, h1, h2]
  omega
theorem pk_fs (r : Int32) : fits .short (.int r.toInt16.toInt32) = true := by
  have ⟨a, b⟩ := lg_i2s_range r
  have h1 : (-32768 : Int32).toInt = -32768 := by decide
  have h2 : (32767 : Int32).toInt = 32767 := by decide
  simp only [fits, Bool.and_eq_true, decide_eq_true_eq, Int32.le_iff_toInt_le, h1, h2]
  omega
theorem pk_charN {q : Nat} (hq : q < 65536) : narrow .char (.int (nI q)) = .int (nI q) ∧ fits .char (.int (nI q)) = true := by
  constructor
  · have e : (nI q).toUInt32.toUInt16.toUInt32.toInt32 = nI q := by
      apply Int32.toBitVec_inj.mp
      apply BitVec.eq_of_toNat_eq
      show (nI q).toUInt32.toUInt16.toUInt32.toNat = q % 2 ^ 32
      rw [UInt16.toNat_toUInt32, UInt32.toNat_toUInt16, show (nI q).toUInt32.toNat = q % 2 ^ 32 from rfl]
      omega
    exact congrArg Value.int e
  · have a : (0 : Int32) ≤ nI q := nI_pos' (by omega)
    have b : nI q ≤ 65535 := nI_le (b := 65535) (by omega) (by decide)
    show (decide ((0 : Int32) ≤ nI q) && decide (nI q ≤ 65535)) = true
    rw [decide_eq_true a, decide_eq_true b]
    rfl
theorem pk_char (x : Int32) : (x.toUInt32 % 65536).toInt32 = nI (x.toBitVec.toNat % 65536) := by
  apply Int32.toBitVec_inj.mp
  apply BitVec.eq_of_toNat_eq
  rw [pk_tn (by omega)]
  show (x.toUInt32 % 65536).toNat = _
  rw [UInt32.toNat_mod]
  rfl
theorem pk_nc (x : Int32) : narrow .char (.int (x.toUInt32 % 65536).toInt32) = .int (x.toUInt32 % 65536).toInt32 := by
  rw [pk_char]
  exact (pk_charN (Nat.mod_lt _ (by decide))).1
theorem pk_fc (x : Int32) : fits .char (.int (x.toUInt32 % 65536).toInt32) = true := by
  rw [pk_char]
  exact (pk_charN (Nat.mod_lt _ (by decide))).2
theorem pk_vb (z : Int32) : vp_nar .byte z.toInt8.toInt32 = z.toInt8.toInt32 := by rw [vp_nar_byte]; simp
theorem pk_vs (z : Int32) : vp_nar .short z.toInt16.toInt32 = z.toInt16.toInt32 := by rw [vp_nar_short]; simp
theorem pk_vc (z : Int32) : vp_nar .char (z.toUInt32 % 65536).toInt32 = (z.toUInt32 % 65536).toInt32 := Value.int.inj (pk_nc z)
theorem pk_lT {n : Nat} (h : n < 2 ^ 63) : (lN n).toInt = (n : Int) := lg_ofNat_toInt h
theorem pk_lLT {a b : Nat} (ha : a < 2 ^ 63) (hb : b < 2 ^ 63) : lN a < lN b ↔ a < b := by
  rw [Int64.lt_iff_toInt_lt, pk_lT ha, pk_lT hb]; omega
theorem pk_lLE {a b : Nat} (ha : a < 2 ^ 63) (hb : b < 2 ^ 63) : lN a ≤ lN b ↔ a ≤ b := by
  rw [Int64.le_iff_toInt_le, pk_lT ha, pk_lT hb]; omega
theorem pk_lEQ {a b : Nat} (ha : a < 2 ^ 63) (hb : b < 2 ^ 63) : lN a = lN b ↔ a = b := by
  rw [← Int64.toInt_inj, pk_lT ha, pk_lT hb]; omega
theorem pk_lOf {x : Int64} (h : ¬ x < 0) : ∃ k : Nat, k < 2 ^ 63 ∧ x = lN k := by
  rw [Int64.lt_iff_toInt_lt] at h
  have h0 : (0 : Int64).toInt = 0 := by decide
  have hx := Int64.toInt_lt x
  refine ⟨x.toInt.toNat, by omega, Int64.toInt_inj.mp ?_⟩
  rw [pk_lT (by omega)]
  omega
theorem pk_lDiv {a b : Nat} (ha : a < 2 ^ 63) (h0 : 0 < b) (hb : b < 2 ^ 63) : lN a / lN b = lN (a / b) := by
  apply Int64.toInt_inj.mp
  rw [lg_ldiv_nonneg (by rw [pk_lT ha]; omega) (by rw [pk_lT hb]; omega), pk_lT ha, pk_lT hb, pk_lT (Nat.lt_of_le_of_lt (Nat.div_le_self a b) ha)]
  rfl
theorem pk_lRem {a b : Nat} (ha : a < 2 ^ 63) (h0 : 0 < b) (hb : b < 2 ^ 63) : lN a - lN a / lN b * lN b = lN (a % b) := by
  rw [pk_lDiv ha h0 hb, lN_mul, lN_sub (Nat.div_mul_le_self a b)]
  exact congrArg lN (by have := Nat.div_add_mod' a b; omega)
theorem pk_loop {σ : Type} (W : Nat → Nat → σ → Prop) (I : Nat → σ → Prop) (e i0 : Nat) (s : σ) (hi : i0 ≤ e) (h0 : I i0 s) (hx : ∀ n s, I e s → W (n + 1) e s)
    (hs : ∀ n i s, i < e → I i s → (∀ s', I (i + 1) s' → W n (i + 1) s') → W (n + 1) i s) : ∃ n, W n i0 s :=
  ⟨e + 1, loop_i W I e hx hs (e + 1) i0 s hi (by omega) h0⟩
theorem pk_loopD {σ : Type} (W : Nat → Nat → σ → Prop) (I : Nat → σ → Prop) (hx : ∀ n s, I 0 s → W (n + 1) 0 s)
    (hs : ∀ n i s, I (i + 1) s → (∀ s', I i s' → W n i s') → W (n + 1) (i + 1) s) : ∀ (e : Nat) (s : σ), I e s → W (e + 1) e s := by
  intro e
  induction e with
  | zero => exact fun s h => hx 0 s h
  | succ e ih => exact fun s h => hs (e + 1) e s h (fun s' h' => ih s' h')
theorem lp1 {A1 : Type} (W : Nat → A1 → Prop) (I : A1 → Prop) (μ : A1 → Nat) (hs : ∀ (n : Nat) (a1 : A1), I a1 → (∀ (b1 : A1), I b1 → μ b1 < μ a1 → W n b1) → W (n + 1) a1) (a1 : A1) (h : I a1) : ∃ n, W n a1 :=
  loop_m (σ := A1) (fun n s => W n s) (fun s => I s) (fun s => μ s) (fun n s hI hk => hs n s hI (fun b1 h9 hm => hk b1 h9 hm)) a1 h
theorem lp2 {A1 A2 : Type} (W : Nat → A1 → A2 → Prop) (I : A1 → A2 → Prop) (μ : A1 → A2 → Nat) (hs : ∀ (n : Nat) (a1 : A1) (a2 : A2), I a1 a2 → (∀ (b1 : A1) (b2 : A2), I b1 b2 → μ b1 b2 < μ a1 a2 → W n b1 b2) → W (n + 1) a1 a2) (a1 : A1) (a2 : A2) (h : I a1 a2) : ∃ n, W n a1 a2 :=
  loop_m (σ := A1 × A2) (fun n s => W n s.1 s.2) (fun s => I s.1 s.2) (fun s => μ s.1 s.2) (fun n s hI hk => hs n s.1 s.2 hI (fun b1 b2 h9 hm => hk (b1, b2) h9 hm)) (a1, a2) h
theorem lp3 {A1 A2 A3 : Type} (W : Nat → A1 → A2 → A3 → Prop) (I : A1 → A2 → A3 → Prop) (μ : A1 → A2 → A3 → Nat) (hs : ∀ (n : Nat) (a1 : A1) (a2 : A2) (a3 : A3), I a1 a2 a3 → (∀ (b1 : A1) (b2 : A2) (b3 : A3), I b1 b2 b3 → μ b1 b2 b3 < μ a1 a2 a3 → W n b1 b2 b3) → W (n + 1) a1 a2 a3) (a1 : A1) (a2 : A2) (a3 : A3) (h : I a1 a2 a3) : ∃ n, W n a1 a2 a3 :=
  loop_m (σ := A1 × A2 × A3) (fun n s => W n s.1 s.2.1 s.2.2) (fun s => I s.1 s.2.1 s.2.2) (fun s => μ s.1 s.2.1 s.2.2) (fun n s hI hk => hs n s.1 s.2.1 s.2.2 hI (fun b1 b2 b3 h9 hm => hk (b1, b2, b3) h9 hm)) (a1, a2, a3) h
theorem lp4 {A1 A2 A3 A4 : Type} (W : Nat → A1 → A2 → A3 → A4 → Prop) (I : A1 → A2 → A3 → A4 → Prop) (μ : A1 → A2 → A3 → A4 → Nat) (hs : ∀ (n : Nat) (a1 : A1) (a2 : A2) (a3 : A3) (a4 : A4), I a1 a2 a3 a4 → (∀ (b1 : A1) (b2 : A2) (b3 : A3) (b4 : A4), I b1 b2 b3 b4 → μ b1 b2 b3 b4 < μ a1 a2 a3 a4 → W n b1 b2 b3 b4) → W (n + 1) a1 a2 a3 a4) (a1 : A1) (a2 : A2) (a3 : A3) (a4 : A4) (h : I a1 a2 a3 a4) : ∃ n, W n a1 a2 a3 a4 :=
  loop_m (σ := A1 × A2 × A3 × A4) (fun n s => W n s.1 s.2.1 s.2.2.1 s.2.2.2) (fun s => I s.1 s.2.1 s.2.2.1 s.2.2.2) (fun s => μ s.1 s.2.1 s.2.2.1 s.2.2.2) (fun n s hI hk => hs n s.1 s.2.1 s.2.2.1 s.2.2.2 hI (fun b1 b2 b3 b4 h9 hm => hk (b1, b2, b3, b4) h9 hm)) (a1, a2, a3, a4) h
theorem lp5 {A1 A2 A3 A4 A5 : Type} (W : Nat → A1 → A2 → A3 → A4 → A5 → Prop) (I : A1 → A2 → A3 → A4 → A5 → Prop) (μ : A1 → A2 → A3 → A4 → A5 → Nat) (hs : ∀ (n : Nat) (a1 : A1) (a2 : A2) (a3 : A3) (a4 : A4) (a5 : A5), I a1 a2 a3 a4 a5 → (∀ (b1 : A1) (b2 : A2) (b3 : A3) (b4 : A4) (b5 : A5), I b1 b2 b3 b4 b5 → μ b1 b2 b3 b4 b5 < μ a1 a2 a3 a4 a5 → W n b1 b2 b3 b4 b5) → W (n + 1) a1 a2 a3 a4 a5) (a1 : A1) (a2 : A2) (a3 : A3) (a4 : A4) (a5 : A5) (h : I a1 a2 a3 a4 a5) : ∃ n, W n a1 a2 a3 a4 a5 :=
  loop_m (σ := A1 × A2 × A3 × A4 × A5) (fun n s => W n s.1 s.2.1 s.2.2.1 s.2.2.2.1 s.2.2.2.2) (fun s => I s.1 s.2.1 s.2.2.1 s.2.2.2.1 s.2.2.2.2) (fun s => μ s.1 s.2.1 s.2.2.1 s.2.2.2.1 s.2.2.2.2) (fun n s hI hk => hs n s.1 s.2.1 s.2.2.1 s.2.2.2.1 s.2.2.2.2 hI (fun b1 b2 b3 b4 b5 h9 hm => hk (b1, b2, b3, b4, b5) h9 hm)) (a1, a2, a3, a4, a5) h
theorem lp6 {A1 A2 A3 A4 A5 A6 : Type} (W : Nat → A1 → A2 → A3 → A4 → A5 → A6 → Prop) (I : A1 → A2 → A3 → A4 → A5 → A6 → Prop) (μ : A1 → A2 → A3 → A4 → A5 → A6 → Nat) (hs : ∀ (n : Nat) (a1 : A1) (a2 : A2) (a3 : A3) (a4 : A4) (a5 : A5) (a6 : A6), I a1 a2 a3 a4 a5 a6 → (∀ (b1 : A1) (b2 : A2) (b3 : A3) (b4 : A4) (b5 : A5) (b6 : A6), I b1 b2 b3 b4 b5 b6 → μ b1 b2 b3 b4 b5 b6 < μ a1 a2 a3 a4 a5 a6 → W n b1 b2 b3 b4 b5 b6) → W (n + 1) a1 a2 a3 a4 a5 a6) (a1 : A1) (a2 : A2) (a3 : A3) (a4 : A4) (a5 : A5) (a6 : A6) (h : I a1 a2 a3 a4 a5 a6) : ∃ n, W n a1 a2 a3 a4 a5 a6 :=
  loop_m (σ := A1 × A2 × A3 × A4 × A5 × A6) (fun n s => W n s.1 s.2.1 s.2.2.1 s.2.2.2.1 s.2.2.2.2.1 s.2.2.2.2.2) (fun s => I s.1 s.2.1 s.2.2.1 s.2.2.2.1 s.2.2.2.2.1 s.2.2.2.2.2) (fun s => μ s.1 s.2.1 s.2.2.1 s.2.2.2.1 s.2.2.2.2.1 s.2.2.2.2.2) (fun n s hI hk => hs n s.1 s.2.1 s.2.2.1 s.2.2.2.1 s.2.2.2.2.1 s.2.2.2.2.2 hI (fun b1 b2 b3 b4 b5 b6 h9 hm => hk (b1, b2, b3, b4, b5, b6) h9 hm)) (a1, a2, a3, a4, a5, a6) h
theorem lp7 {A1 A2 A3 A4 A5 A6 A7 : Type} (W : Nat → A1 → A2 → A3 → A4 → A5 → A6 → A7 → Prop) (I : A1 → A2 → A3 → A4 → A5 → A6 → A7 → Prop) (μ : A1 → A2 → A3 → A4 → A5 → A6 → A7 → Nat) (hs : ∀ (n : Nat) (a1 : A1) (a2 : A2) (a3 : A3) (a4 : A4) (a5 : A5) (a6 : A6) (a7 : A7), I a1 a2 a3 a4 a5 a6 a7 → (∀ (b1 : A1) (b2 : A2) (b3 : A3) (b4 : A4) (b5 : A5) (b6 : A6) (b7 : A7), I b1 b2 b3 b4 b5 b6 b7 → μ b1 b2 b3 b4 b5 b6 b7 < μ a1 a2 a3 a4 a5 a6 a7 → W n b1 b2 b3 b4 b5 b6 b7) → W (n + 1) a1 a2 a3 a4 a5 a6 a7) (a1 : A1) (a2 : A2) (a3 : A3) (a4 : A4) (a5 : A5) (a6 : A6) (a7 : A7) (h : I a1 a2 a3 a4 a5 a6 a7) : ∃ n, W n a1 a2 a3 a4 a5 a6 a7 :=
  loop_m (σ := A1 × A2 × A3 × A4 × A5 × A6 × A7) (fun n s => W n s.1 s.2.1 s.2.2.1 s.2.2.2.1 s.2.2.2.2.1 s.2.2.2.2.2.1 s.2.2.2.2.2.2) (fun s => I s.1 s.2.1 s.2.2.1 s.2.2.2.1 s.2.2.2.2.1 s.2.2.2.2.2.1 s.2.2.2.2.2.2) (fun s => μ s.1 s.2.1 s.2.2.1 s.2.2.2.1 s.2.2.2.2.1 s.2.2.2.2.2.1 s.2.2.2.2.2.2) (fun n s hI hk => hs n s.1 s.2.1 s.2.2.1 s.2.2.2.1 s.2.2.2.2.1 s.2.2.2.2.2.1 s.2.2.2.2.2.2 hI (fun b1 b2 b3 b4 b5 b6 b7 h9 hm => hk (b1, b2, b3, b4, b5, b6, b7) h9 hm)) (a1, a2, a3, a4, a5, a6, a7) h
theorem lp8 {A1 A2 A3 A4 A5 A6 A7 A8 : Type} (W : Nat → A1 → A2 → A3 → A4 → A5 → A6 → A7 → A8 → Prop) (I : A1 → A2 → A3 → A4 → A5 → A6 → A7 → A8 → Prop) (μ : A1 → A2 → A3 → A4 → A5 → A6 → A7 → A8 → Nat) (hs : ∀ (n : Nat) (a1 : A1) (a2 : A2) (a3 : A3) (a4 : A4) (a5 : A5) (a6 : A6) (a7 : A7) (a8 : A8), I a1 a2 a3 a4 a5 a6 a7 a8 → (∀ (b1 : A1) (b2 : A2) (b3 : A3) (b4 : A4) (b5 : A5) (b6 : A6) (b7 : A7) (b8 : A8), I b1 b2 b3 b4 b5 b6 b7 b8 → μ b1 b2 b3 b4 b5 b6 b7 b8 < μ a1 a2 a3 a4 a5 a6 a7 a8 → W n b1 b2 b3 b4 b5 b6 b7 b8) → W (n + 1) a1 a2 a3 a4 a5 a6 a7 a8) (a1 : A1) (a2 : A2) (a3 : A3) (a4 : A4) (a5 : A5) (a6 : A6) (a7 : A7) (a8 : A8) (h : I a1 a2 a3 a4 a5 a6 a7 a8) : ∃ n, W n a1 a2 a3 a4 a5 a6 a7 a8 :=
  loop_m (σ := A1 × A2 × A3 × A4 × A5 × A6 × A7 × A8) (fun n s => W n s.1 s.2.1 s.2.2.1 s.2.2.2.1 s.2.2.2.2.1 s.2.2.2.2.2.1 s.2.2.2.2.2.2.1 s.2.2.2.2.2.2.2) (fun s => I s.1 s.2.1 s.2.2.1 s.2.2.2.1 s.2.2.2.2.1 s.2.2.2.2.2.1 s.2.2.2.2.2.2.1 s.2.2.2.2.2.2.2) (fun s => μ s.1 s.2.1 s.2.2.1 s.2.2.2.1 s.2.2.2.2.1 s.2.2.2.2.2.1 s.2.2.2.2.2.2.1 s.2.2.2.2.2.2.2) (fun n s hI hk => hs n s.1 s.2.1 s.2.2.1 s.2.2.2.1 s.2.2.2.2.1 s.2.2.2.2.2.1 s.2.2.2.2.2.2.1 s.2.2.2.2.2.2.2 hI (fun b1 b2 b3 b4 b5 b6 b7 b8 h9 hm => hk (b1, b2, b3, b4, b5, b6, b7, b8) h9 hm)) (a1, a2, a3, a4, a5, a6, a7, a8) h
theorem lp9 {A1 A2 A3 A4 A5 A6 A7 A8 A9 : Type} (W : Nat → A1 → A2 → A3 → A4 → A5 → A6 → A7 → A8 → A9 → Prop) (I : A1 → A2 → A3 → A4 → A5 → A6 → A7 → A8 → A9 → Prop) (μ : A1 → A2 → A3 → A4 → A5 → A6 → A7 → A8 → A9 → Nat) (hs : ∀ (n : Nat) (a1 : A1) (a2 : A2) (a3 : A3) (a4 : A4) (a5 : A5) (a6 : A6) (a7 : A7) (a8 : A8) (a9 : A9), I a1 a2 a3 a4 a5 a6 a7 a8 a9 → (∀ (b1 : A1) (b2 : A2) (b3 : A3) (b4 : A4) (b5 : A5) (b6 : A6) (b7 : A7) (b8 : A8) (b9 : A9), I b1 b2 b3 b4 b5 b6 b7 b8 b9 → μ b1 b2 b3 b4 b5 b6 b7 b8 b9 < μ a1 a2 a3 a4 a5 a6 a7 a8 a9 → W n b1 b2 b3 b4 b5 b6 b7 b8 b9) → W (n + 1) a1 a2 a3 a4 a5 a6 a7 a8 a9) (a1 : A1) (a2 : A2) (a3 : A3) (a4 : A4) (a5 : A5) (a6 : A6) (a7 : A7) (a8 : A8) (a9 : A9) (h : I a1 a2 a3 a4 a5 a6 a7 a8 a9) : ∃ n, W n a1 a2 a3 a4 a5 a6 a7 a8 a9 :=
  loop_m (σ := A1 × A2 × A3 × A4 × A5 × A6 × A7 × A8 × A9) (fun n s => W n s.1 s.2.1 s.2.2.1 s.2.2.2.1 s.2.2.2.2.1 s.2.2.2.2.2.1 s.2.2.2.2.2.2.1 s.2.2.2.2.2.2.2.1 s.2.2.2.2.2.2.2.2) (fun s => I s.1 s.2.1 s.2.2.1 s.2.2.2.1 s.2.2.2.2.1 s.2.2.2.2.2.1 s.2.2.2.2.2.2.1 s.2.2.2.2.2.2.2.1 s.2.2.2.2.2.2.2.2) (fun s => μ s.1 s.2.1 s.2.2.1 s.2.2.2.1 s.2.2.2.2.1 s.2.2.2.2.2.1 s.2.2.2.2.2.2.1 s.2.2.2.2.2.2.2.1 s.2.2.2.2.2.2.2.2) (fun n s hI hk => hs n s.1 s.2.1 s.2.2.1 s.2.2.2.1 s.2.2.2.2.1 s.2.2.2.2.2.1 s.2.2.2.2.2.2.1 s.2.2.2.2.2.2.2.1 s.2.2.2.2.2.2.2.2 hI (fun b1 b2 b3 b4 b5 b6 b7 b8 b9 h9 hm => hk (b1, b2, b3, b4, b5, b6, b7, b8, b9) h9 hm)) (a1, a2, a3, a4, a5, a6, a7, a8, a9) h
theorem lp10 {A1 A2 A3 A4 A5 A6 A7 A8 A9 A10 : Type} (W : Nat → A1 → A2 → A3 → A4 → A5 → A6 → A7 → A8 → A9 → A10 → Prop) (I : A1 → A2 → A3 → A4 → A5 → A6 → A7 → A8 → A9 → A10 → Prop) (μ : A1 → A2 → A3 → A4 → A5 → A6 → A7 → A8 → A9 → A10 → Nat) (hs : ∀ (n : Nat) (a1 : A1) (a2 : A2) (a3 : A3) (a4 : A4) (a5 : A5) (a6 : A6) (a7 : A7) (a8 : A8) (a9 : A9) (a10 : A10), I a1 a2 a3 a4 a5 a6 a7 a8 a9 a10 → (∀ (b1 : A1) (b2 : A2) (b3 : A3) (b4 : A4) (b5 : A5) (b6 : A6) (b7 : A7) (b8 : A8) (b9 : A9) (b10 : A10), I b1 b2 b3 b4 b5 b6 b7 b8 b9 b10 → μ b1 b2 b3 b4 b5 b6 b7 b8 b9 b10 < μ a1 a2 a3 a4 a5 a6 a7 a8 a9 a10 → W n b1 b2 b3 b4 b5 b6 b7 b8 b9 b10) → W (n + 1) a1 a2 a3 a4 a5 a6 a7 a8 a9 a10) (a1 : A1) (a2 : A2) (a3 : A3) (a4 : A4) (a5 : A5) (a6 : A6) (a7 : A7) (a8 : A8) (a9 : A9) (a10 : A10) (h : I a1 a2 a3 a4 a5 a6 a7 a8 a9 a10) : ∃ n, W n a1 a2 a3 a4 a5 a6 a7 a8 a9 a10 :=
  loop_m (σ := A1 × A2 × A3 × A4 × A5 × A6 × A7 × A8 × A9 × A10) (fun n s => W n s.1 s.2.1 s.2.2.1 s.2.2.2.1 s.2.2.2.2.1 s.2.2.2.2.2.1 s.2.2.2.2.2.2.1 s.2.2.2.2.2.2.2.1 s.2.2.2.2.2.2.2.2.1 s.2.2.2.2.2.2.2.2.2) (fun s => I s.1 s.2.1 s.2.2.1 s.2.2.2.1 s.2.2.2.2.1 s.2.2.2.2.2.1 s.2.2.2.2.2.2.1 s.2.2.2.2.2.2.2.1 s.2.2.2.2.2.2.2.2.1 s.2.2.2.2.2.2.2.2.2) (fun s => μ s.1 s.2.1 s.2.2.1 s.2.2.2.1 s.2.2.2.2.1 s.2.2.2.2.2.1 s.2.2.2.2.2.2.1 s.2.2.2.2.2.2.2.1 s.2.2.2.2.2.2.2.2.1 s.2.2.2.2.2.2.2.2.2) (fun n s hI hk => hs n s.1 s.2.1 s.2.2.1 s.2.2.2.1 s.2.2.2.2.1 s.2.2.2.2.2.1 s.2.2.2.2.2.2.1 s.2.2.2.2.2.2.2.1 s.2.2.2.2.2.2.2.2.1 s.2.2.2.2.2.2.2.2.2 hI (fun b1 b2 b3 b4 b5 b6 b7 b8 b9 b10 h9 hm => hk (b1, b2, b3, b4, b5, b6, b7, b8, b9, b10) h9 hm)) (a1, a2, a3, a4, a5, a6, a7, a8, a9, a10) h
theorem lp11 {A1 A2 A3 A4 A5 A6 A7 A8 A9 A10 A11 : Type} (W : Nat → A1 → A2 → A3 → A4 → A5 → A6 → A7 → A8 → A9 → A10 → A11 → Prop) (I : A1 → A2 → A3 → A4 → A5 → A6 → A7 → A8 → A9 → A10 → A11 → Prop) (μ : A1 → A2 → A3 → A4 → A5 → A6 → A7 → A8 → A9 → A10 → A11 → Nat) (hs : ∀ (n : Nat) (a1 : A1) (a2 : A2) (a3 : A3) (a4 : A4) (a5 : A5) (a6 : A6) (a7 : A7) (a8 : A8) (a9 : A9) (a10 : A10) (a11 : A11), I a1 a2 a3 a4 a5 a6 a7 a8 a9 a10 a11 → (∀ (b1 : A1) (b2 : A2) (b3 : A3) (b4 : A4) (b5 : A5) (b6 : A6) (b7 : A7) (b8 : A8) (b9 : A9) (b10 : A10) (b11 : A11), I b1 b2 b3 b4 b5 b6 b7 b8 b9 b10 b11 → μ b1 b2 b3 b4 b5 b6 b7 b8 b9 b10 b11 < μ a1 a2 a3 a4 a5 a6 a7 a8 a9 a10 a11 → W n b1 b2 b3 b4 b5 b6 b7 b8 b9 b10 b11) → W (n + 1) a1 a2 a3 a4 a5 a6 a7 a8 a9 a10 a11) (a1 : A1) (a2 : A2) (a3 : A3) (a4 : A4) (a5 : A5) (a6 : A6) (a7 : A7) (a8 : A8) (a9 : A9) (a10 : A10) (a11 : A11) (h : I a1 a2 a3 a4 a5 a6 a7 a8 a9 a10 a11) : ∃ n, W n a1 a2 a3 a4 a5 a6 a7 a8 a9 a10 a11 :=
  loop_m (σ := A1 × A2 × A3 × A4 × A5 × A6 × A7 × A8 × A9 × A10 × A11) (fun n s => W n s.1 s.2.1 s.2.2.1 s.2.2.2.1 s.2.2.2.2.1 s.2.2.2.2.2.1 s.2.2.2.2.2.2.1 s.2.2.2.2.2.2.2.1 s.2.2.2.2.2.2.2.2.1 s.2.2.2.2.2.2.2.2.2.1 s.2.2.2.2.2.2.2.2.2.2) (fun s => I s.1 s.2.1 s.2.2.1 s.2.2.2.1 s.2.2.2.2.1 s.2.2.2.2.2.1 s.2.2.2.2.2.2.1 s.2.2.2.2.2.2.2.1 s.2.2.2.2.2.2.2.2.1 s.2.2.2.2.2.2.2.2.2.1 s.2.2.2.2.2.2.2.2.2.2) (fun s => μ s.1 s.2.1 s.2.2.1 s.2.2.2.1 s.2.2.2.2.1 s.2.2.2.2.2.1 s.2.2.2.2.2.2.1 s.2.2.2.2.2.2.2.1 s.2.2.2.2.2.2.2.2.1 s.2.2.2.2.2.2.2.2.2.1 s.2.2.2.2.2.2.2.2.2.2) (fun n s hI hk => hs n s.1 s.2.1 s.2.2.1 s.2.2.2.1 s.2.2.2.2.1 s.2.2.2.2.2.1 s.2.2.2.2.2.2.1 s.2.2.2.2.2.2.2.1 s.2.2.2.2.2.2.2.2.1 s.2.2.2.2.2.2.2.2.2.1 s.2.2.2.2.2.2.2.2.2.2 hI (fun b1 b2 b3 b4 b5 b6 b7 b8 b9 b10 b11 h9 hm => hk (b1, b2, b3, b4, b5, b6, b7, b8, b9, b10, b11) h9 hm)) (a1, a2, a3, a4, a5, a6, a7, a8, a9, a10, a11) h
theorem lp12 {A1 A2 A3 A4 A5 A6 A7 A8 A9 A10 A11 A12 : Type} (W : Nat → A1 → A2 → A3 → A4 → A5 → A6 → A7 → A8 → A9 → A10 → A11 → A12 → Prop) (I : A1 → A2 → A3 → A4 → A5 → A6 → A7 → A8 → A9 → A10 → A11 → A12 → Prop) (μ : A1 → A2 → A3 → A4 → A5 → A6 → A7 → A8 → A9 → A10 → A11 → A12 → Nat) (hs : ∀ (n : Nat) (a1 : A1) (a2 : A2) (a3 : A3) (a4 : A4) (a5 : A5) (a6 : A6) (a7 : A7) (a8 : A8) (a9 : A9) (a10 : A10) (a11 : A11) (a12 : A12), I a1 a2 a3 a4 a5 a6 a7 a8 a9 a10 a11 a12 → (∀ (b1 : A1) (b2 : A2) (b3 : A3) (b4 : A4) (b5 : A5) (b6 : A6) (b7 : A7) (b8 : A8) (b9 : A9) (b10 : A10) (b11 : A11) (b12 : A12), I b1 b2 b3 b4 b5 b6 b7 b8 b9 b10 b11 b12 → μ b1 b2 b3 b4 b5 b6 b7 b8 b9 b10 b11 b12 < μ a1 a2 a3 a4 a5 a6 a7 a8 a9 a10 a11 a12 → W n b1 b2 b3 b4 b5 b6 b7 b8 b9 b10 b11 b12) → W (n + 1) a1 a2 a3 a4 a5 a6 a7 a8 a9 a10 a11 a12) (a1 : A1) (a2 : A2) (a3 : A3) (a4 : A4) (a5 : A5) (a6 : A6) (a7 : A7) (a8 : A8) (a9 : A9) (a10 : A10) (a11 : A11) (a12 : A12) (h : I a1 a2 a3 a4 a5 a6 a7 a8 a9 a10 a11 a12) : ∃ n, W n a1 a2 a3 a4 a5 a6 a7 a8 a9 a10 a11 a12 :=
  loop_m (σ := A1 × A2 × A3 × A4 × A5 × A6 × A7 × A8 × A9 × A10 × A11 × A12) (fun n s => W n s.1 s.2.1 s.2.2.1 s.2.2.2.1 s.2.2.2.2.1 s.2.2.2.2.2.1 s.2.2.2.2.2.2.1 s.2.2.2.2.2.2.2.1 s.2.2.2.2.2.2.2.2.1 s.2.2.2.2.2.2.2.2.2.1 s.2.2.2.2.2.2.2.2.2.2.1 s.2.2.2.2.2.2.2.2.2.2.2) (fun s => I s.1 s.2.1 s.2.2.1 s.2.2.2.1 s.2.2.2.2.1 s.2.2.2.2.2.1 s.2.2.2.2.2.2.1 s.2.2.2.2.2.2.2.1 s.2.2.2.2.2.2.2.2.1 s.2.2.2.2.2.2.2.2.2.1 s.2.2.2.2.2.2.2.2.2.2.1 s.2.2.2.2.2.2.2.2.2.2.2) (fun s => μ s.1 s.2.1 s.2.2.1 s.2.2.2.1 s.2.2.2.2.1 s.2.2.2.2.2.1 s.2.2.2.2.2.2.1 s.2.2.2.2.2.2.2.1 s.2.2.2.2.2.2.2.2.1 s.2.2.2.2.2.2.2.2.2.1 s.2.2.2.2.2.2.2.2.2.2.1 s.2.2.2.2.2.2.2.2.2.2.2) (fun n s hI hk => hs n s.1 s.2.1 s.2.2.1 s.2.2.2.1 s.2.2.2.2.1 s.2.2.2.2.2.1 s.2.2.2.2.2.2.1 s.2.2.2.2.2.2.2.1 s.2.2.2.2.2.2.2.2.1 s.2.2.2.2.2.2.2.2.2.1 s.2.2.2.2.2.2.2.2.2.2.1 s.2.2.2.2.2.2.2.2.2.2.2 hI (fun b1 b2 b3 b4 b5 b6 b7 b8 b9 b10 b11 b12 h9 hm => hk (b1, b2, b3, b4, b5, b6, b7, b8, b9, b10, b11, b12) h9 hm)) (a1, a2, a3, a4, a5, a6, a7, a8, a9, a10, a11, a12) h
theorem lp13 {A1 A2 A3 A4 A5 A6 A7 A8 A9 A10 A11 A12 A13 : Type} (W : Nat → A1 → A2 → A3 → A4 → A5 → A6 → A7 → A8 → A9 → A10 → A11 → A12 → A13 → Prop) (I : A1 → A2 → A3 → A4 → A5 → A6 → A7 → A8 → A9 → A10 → A11 → A12 → A13 → Prop) (μ : A1 → A2 → A3 → A4 → A5 → A6 → A7 → A8 → A9 → A10 → A11 → A12 → A13 → Nat) (hs : ∀ (n : Nat) (a1 : A1) (a2 : A2) (a3 : A3) (a4 : A4) (a5 : A5) (a6 : A6) (a7 : A7) (a8 : A8) (a9 : A9) (a10 : A10) (a11 : A11) (a12 : A12) (a13 : A13), I a1 a2 a3 a4 a5 a6 a7 a8 a9 a10 a11 a12 a13 → (∀ (b1 : A1) (b2 : A2) (b3 : A3) (b4 : A4) (b5 : A5) (b6 : A6) (b7 : A7) (b8 : A8) (b9 : A9) (b10 : A10) (b11 : A11) (b12 : A12) (b13 : A13), I b1 b2 b3 b4 b5 b6 b7 b8 b9 b10 b11 b12 b13 → μ b1 b2 b3 b4 b5 b6 b7 b8 b9 b10 b11 b12 b13 < μ a1 a2 a3 a4 a5 a6 a7 a8 a9 a10 a11 a12 a13 → W n b1 b2 b3 b4 b5 b6 b7 b8 b9 b10 b11 b12 b13) → W (n + 1) a1 a2 a3 a4 a5 a6 a7 a8 a9 a10 a11 a12 a13) (a1 : A1) (a2 : A2) (a3 : A3) (a4 : A4) (a5 : A5) (a6 : A6) (a7 : A7) (a8 : A8) (a9 : A9) (a10 : A10) (a11 : A11) (a12 : A12) (a13 : A13) (h : I a1 a2 a3 a4 a5 a6 a7 a8 a9 a10 a11 a12 a13) : ∃ n, W n a1 a2 a3 a4 a5 a6 a7 a8 a9 a10 a11 a12 a13 :=
  loop_m (σ := A1 × A2 × A3 × A4 × A5 × A6 × A7 × A8 × A9 × A10 × A11 × A12 × A13) (fun n s => W n s.1 s.2.1 s.2.2.1 s.2.2.2.1 s.2.2.2.2.1 s.2.2.2.2.2.1 s.2.2.2.2.2.2.1 s.2.2.2.2.2.2.2.1 s.2.2.2.2.2.2.2.2.1 s.2.2.2.2.2.2.2.2.2.1 s.2.2.2.2.2.2.2.2.2.2.1 s.2.2.2.2.2.2.2.2.2.2.2.1 s.2.2.2.2.2.2.2.2.2.2.2.2) (fun s => I s.1 s.2.1 s.2.2.1 s.2.2.2.1 s.2.2.2.2.1 s.2.2.2.2.2.1 s.2.2.2.2.2.2.1 s.2.2.2.2.2.2.2.1 s.2.2.2.2.2.2.2.2.1 s.2.2.2.2.2.2.2.2.2.1 s.2.2.2.2.2.2.2.2.2.2.1 s.2.2.2.2.2.2.2.2.2.2.2.1 s.2.2.2.2.2.2.2.2.2.2.2.2) (fun s => μ s.1 s.2.1 s.2.2.1 s.2.2.2.1 s.2.2.2.2.1 s.2.2.2.2.2.1 s.2.2.2.2.2.2.1 s.2.2.2.2.2.2.2.1 s.2.2.2.2.2.2.2.2.1 s.2.2.2.2.2.2.2.2.2.1 s.2.2.2.2.2.2.2.2.2.2.1 s.2.2.2.2.2.2.2.2.2.2.2.1 s.2.2.2.2.2.2.2.2.2.2.2.2) (fun n s hI hk => hs n s.1 s.2.1 s.2.2.1 s.2.2.2.1 s.2.2.2.2.1 s.2.2.2.2.2.1 s.2.2.2.2.2.2.1 s.2.2.2.2.2.2.2.1 s.2.2.2.2.2.2.2.2.1 s.2.2.2.2.2.2.2.2.2.1 s.2.2.2.2.2.2.2.2.2.2.1 s.2.2.2.2.2.2.2.2.2.2.2.1 s.2.2.2.2.2.2.2.2.2.2.2.2 hI (fun b1 b2 b3 b4 b5 b6 b7 b8 b9 b10 b11 b12 b13 h9 hm => hk (b1, b2, b3, b4, b5, b6, b7, b8, b9, b10, b11, b12, b13) h9 hm)) (a1, a2, a3, a4, a5, a6, a7, a8, a9, a10, a11, a12, a13) h
theorem lp14 {A1 A2 A3 A4 A5 A6 A7 A8 A9 A10 A11 A12 A13 A14 : Type} (W : Nat → A1 → A2 → A3 → A4 → A5 → A6 → A7 → A8 → A9 → A10 → A11 → A12 → A13 → A14 → Prop) (I : A1 → A2 → A3 → A4 → A5 → A6 → A7 → A8 → A9 → A10 → A11 → A12 → A13 → A14 → Prop) (μ : A1 → A2 → A3 → A4 → A5 → A6 → A7 → A8 → A9 → A10 → A11 → A12 → A13 → A14 → Nat) (hs : ∀ (n : Nat) (a1 : A1) (a2 : A2) (a3 : A3) (a4 : A4) (a5 : A5) (a6 : A6) (a7 : A7) (a8 : A8) (a9 : A9) (a10 : A10) (a11 : A11) (a12 : A12) (a13 : A13) (a14 : A14), I a1 a2 a3 a4 a5 a6 a7 a8 a9 a10 a11 a12 a13 a14 → (∀ (b1 : A1) (b2 : A2) (b3 : A3) (b4 : A4) (b5 : A5) (b6 : A6) (b7 : A7) (b8 : A8) (b9 : A9) (b10 : A10) (b11 : A11) (b12 : A12) (b13 : A13) (b14 : A14), I b1 b2 b3 b4 b5 b6 b7 b8 b9 b10 b11 b12 b13 b14 → μ b1 b2 b3 b4 b5 b6 b7 b8 b9 b10 b11 b12 b13 b14 < μ a1 a2 a3 a4 a5 a6 a7 a8 a9 a10 a11 a12 a13 a14 → W n b1 b2 b3 b4 b5 b6 b7 b8 b9 b10 b11 b12 b13 b14) → W (n + 1) a1 a2 a3 a4 a5 a6 a7 a8 a9 a10 a11 a12 a13 a14) (a1 : A1) (a2 : A2) (a3 : A3) (a4 : A4) (a5 : A5) (a6 : A6) (a7 : A7) (a8 : A8) (a9 : A9) (a10 : A10) (a11 : A11) (a12 : A12) (a13 : A13) (a14 : A14) (h : I a1 a2 a3 a4 a5 a6 a7 a8 a9 a10 a11 a12 a13 a14) : ∃ n, W n a1 a2 a3 a4 a5 a6 a7 a8 a9 a10 a11 a12 a13 a14 :=
  loop_m (σ := A1 × A2 × A3 × A4 × A5 × A6 × A7 × A8 × A9 × A10 × A11 × A12 × A13 × A14) (fun n s => W n s.1 s.2.1 s.2.2.1 s.2.2.2.1 s.2.2.2.2.1 s.2.2.2.2.2.1 s.2.2.2.2.2.2.1 s.2.2.2.2.2.2.2.1 s.2.2.2.2.2.2.2.2.1 s.2.2.2.2.2.2.2.2.2.1 s.2.2.2.2.2.2.2.2.2.2.1 s.2.2.2.2.2.2.2.2.2.2.2.1 s.2.2.2.2.2.2.2.2.2.2.2.2.1 s.2.2.2.2.2.2.2.2.2.2.2.2.2) (fun s => I s.1 s.2.1 s.2.2.1 s.2.2.2.1 s.2.2.2.2.1 s.2.2.2.2.2.1 s.2.2.2.2.2.2.1 s.2.2.2.2.2.2.2.1 s.2.2.2.2.2.2.2.2.1 s.2.2.2.2.2.2.2.2.2.1 s.2.2.2.2.2.2.2.2.2.2.1 s.2.2.2.2.2.2.2.2.2.2.2.1 s.2.2.2.2.2.2.2.2.2.2.2.2.1 s.2.2.2.2.2.2.2.2.2.2.2.2.2) (fun s => μ s.1 s.2.1 s.2.2.1 s.2.2.2.1 s.2.2.2.2.1 s.2.2.2.2.2.1 s.2.2.2.2.2.2.1 s.2.2.2.2.2.2.2.1 s.2.2.2.2.2.2.2.2.1 s.2.2.2.2.2.2.2.2.2.1 s.2.2.2.2.2.2.2.2.2.2.1 s.2.2.2.2.2.2.2.2.2.2.2.1 s.2.2.2.2.2.2.2.2.2.2.2.2.1 s.2.2.2.2.2.2.2.2.2.2.2.2.2) (fun n s hI hk => hs n s.1 s.2.1 s.2.2.1 s.2.2.2.1 s.2.2.2.2.1 s.2.2.2.2.2.1 s.2.2.2.2.2.2.1 s.2.2.2.2.2.2.2.1 s.2.2.2.2.2.2.2.2.1 s.2.2.2.2.2.2.2.2.2.1 s.2.2.2.2.2.2.2.2.2.2.1 s.2.2.2.2.2.2.2.2.2.2.2.1 s.2.2.2.2.2.2.2.2.2.2.2.2.1 s.2.2.2.2.2.2.2.2.2.2.2.2.2 hI (fun b1 b2 b3 b4 b5 b6 b7 b8 b9 b10 b11 b12 b13 b14 h9 hm => hk (b1, b2, b3, b4, b5, b6, b7, b8, b9, b10, b11, b12, b13, b14) h9 hm)) (a1, a2, a3, a4, a5, a6, a7, a8, a9, a10, a11, a12, a13, a14) h
theorem lp15 {A1 A2 A3 A4 A5 A6 A7 A8 A9 A10 A11 A12 A13 A14 A15 : Type} (W : Nat → A1 → A2 → A3 → A4 → A5 → A6 → A7 → A8 → A9 → A10 → A11 → A12 → A13 → A14 → A15 → Prop) (I : A1 → A2 → A3 → A4 → A5 → A6 → A7 → A8 → A9 → A10 → A11 → A12 → A13 → A14 → A15 → Prop) (μ : A1 → A2 → A3 → A4 → A5 → A6 → A7 → A8 → A9 → A10 → A11 → A12 → A13 → A14 → A15 → Nat) (hs : ∀ (n : Nat) (a1 : A1) (a2 : A2) (a3 : A3) (a4 : A4) (a5 : A5) (a6 : A6) (a7 : A7) (a8 : A8) (a9 : A9) (a10 : A10) (a11 : A11) (a12 : A12) (a13 : A13) (a14 : A14) (a15 : A15), I a1 a2 a3 a4 a5 a6 a7 a8 a9 a10 a11 a12 a13 a14 a15 → (∀ (b1 : A1) (b2 : A2) (b3 : A3) (b4 : A4) (b5 : A5) (b6 : A6) (b7 : A7) (b8 : A8) (b9 : A9) (b10 : A10) (b11 : A11) (b12 : A12) (b13 : A13) (b14 : A14) (b15 : A15), I b1 b2 b3 b4 b5 b6 b7 b8 b9 b10 b11 b12 b13 b14 b15 → μ b1 b2 b3 b4 b5 b6 b7 b8 b9 b10 b11 b12 b13 b14 b15 < μ a1 a2 a3 a4 a5 a6 a7 a8 a9 a10 a11 a12 a13 a14 a15 → W n b1 b2 b3 b4 b5 b6 b7 b8 b9 b10 b11 b12 b13 b14 b15) → W (n + 1) a1 a2 a3 a4 a5 a6 a7 a8 a9 a10 a11 a12 a13 a14 a15) (a1 : A1) (a2 : A2) (a3 : A3) (a4 : A4) (a5 : A5) (a6 : A6) (a7 : A7) (a8 : A8) (a9 : A9) (a10 : A10) (a11 : A11) (a12 : A12) (a13 : A13) (a14 : A14) (a15 : A15) (h : I a1 a2 a3 a4 a5 a6 a7 a8 a9 a10 a11 a12 a13 a14 a15) : ∃ n, W n a1 a2 a3 a4 a5 a6 a7 a8 a9 a10 a11 a12 a13 a14 a15 :=
  loop_m (σ := A1 × A2 × A3 × A4 × A5 × A6 × A7 × A8 × A9 × A10 × A11 × A12 × A13 × A14 × A15) (fun n s => W n s.1 s.2.1 s.2.2.1 s.2.2.2.1 s.2.2.2.2.1 s.2.2.2.2.2.1 s.2.2.2.2.2.2.1 s.2.2.2.2.2.2.2.1 s.2.2.2.2.2.2.2.2.1 s.2.2.2.2.2.2.2.2.2.1 s.2.2.2.2.2.2.2.2.2.2.1 s.2.2.2.2.2.2.2.2.2.2.2.1 s.2.2.2.2.2.2.2.2.2.2.2.2.1 s.2.2.2.2.2.2.2.2.2.2.2.2.2.1 s.2.2.2.2.2.2.2.2.2.2.2.2.2.2) (fun s => I s.1 s.2.1 s.2.2.1 s.2.2.2.1 s.2.2.2.2.1 s.2.2.2.2.2.1 s.2.2.2.2.2.2.1 s.2.2.2.2.2.2.2.1 s.2.2.2.2.2.2.2.2.1 s.2.2.2.2.2.2.2.2.2.1 s.2.2.2.2.2.2.2.2.2.2.1 s.2.2.2.2.2.2.2.2.2.2.2.1 s.2.2.2.2.2.2.2.2.2.2.2.2.1 s.2.2.2.2.2.2.2.2.2.2.2.2.2.1 s.2.2.2.2.2.2.2.2.2.2.2.2.2.2) (fun s => μ s.1 s.2.1 s.2.2.1 s.2.2.2.1 s.2.2.2.2.1 s.2.2.2.2.2.1 s.2.2.2.2.2.2.1 s.2.2.2.2.2.2.2.1 s.2.2.2.2.2.2.2.2.1 s.2.2.2.2.2.2.2.2.2.1 s.2.2.2.2.2.2.2.2.2.2.1 s.2.2.2.2.2.2.2.2.2.2.2.1 s.2.2.2.2.2.2.2.2.2.2.2.2.1 s.2.2.2.2.2.2.2.2.2.2.2.2.2.1 s.2.2.2.2.2.2.2.2.2.2.2.2.2.2) (fun n s hI hk => hs n s.1 s.2.1 s.2.2.1 s.2.2.2.1 s.2.2.2.2.1 s.2.2.2.2.2.1 s.2.2.2.2.2.2.1 s.2.2.2.2.2.2.2.1 s.2.2.2.2.2.2.2.2.1 s.2.2.2.2.2.2.2.2.2.1 s.2.2.2.2.2.2.2.2.2.2.1 s.2.2.2.2.2.2.2.2.2.2.2.1 s.2.2.2.2.2.2.2.2.2.2.2.2.1 s.2.2.2.2.2.2.2.2.2.2.2.2.2.1 s.2.2.2.2.2.2.2.2.2.2.2.2.2.2 hI (fun b1 b2 b3 b4 b5 b6 b7 b8 b9 b10 b11 b12 b13 b14 b15 h9 hm => hk (b1, b2, b3, b4, b5, b6, b7, b8, b9, b10, b11, b12, b13, b14, b15) h9 hm)) (a1, a2, a3, a4, a5, a6, a7, a8, a9, a10, a11, a12, a13, a14, a15) h
theorem lp16 {A1 A2 A3 A4 A5 A6 A7 A8 A9 A10 A11 A12 A13 A14 A15 A16 : Type} (W : Nat → A1 → A2 → A3 → A4 → A5 → A6 → A7 → A8 → A9 → A10 → A11 → A12 → A13 → A14 → A15 → A16 → Prop) (I : A1 → A2 → A3 → A4 → A5 → A6 → A7 → A8 → A9 → A10 → A11 → A12 → A13 → A14 → A15 → A16 → Prop) (μ : A1 → A2 → A3 → A4 → A5 → A6 → A7 → A8 → A9 → A10 → A11 → A12 → A13 → A14 → A15 → A16 → Nat) (hs : ∀ (n : Nat) (a1 : A1) (a2 : A2) (a3 : A3) (a4 : A4) (a5 : A5) (a6 : A6) (a7 : A7) (a8 : A8) (a9 : A9) (a10 : A10) (a11 : A11) (a12 : A12) (a13 : A13) (a14 : A14) (a15 : A15) (a16 : A16), I a1 a2 a3 a4 a5 a6 a7 a8 a9 a10 a11 a12 a13 a14 a15 a16 → (∀ (b1 : A1) (b2 : A2) (b3 : A3) (b4 : A4) (b5 : A5) (b6 : A6) (b7 : A7) (b8 : A8) (b9 : A9) (b10 : A10) (b11 : A11) (b12 : A12) (b13 : A13) (b14 : A14) (b15 : A15) (b16 : A16), I b1 b2 b3 b4 b5 b6 b7 b8 b9 b10 b11 b12 b13 b14 b15 b16 → μ b1 b2 b3 b4 b5 b6 b7 b8 b9 b10 b11 b12 b13 b14 b15 b16 < μ a1 a2 a3 a4 a5 a6 a7 a8 a9 a10 a11 a12 a13 a14 a15 a16 → W n b1 b2 b3 b4 b5 b6 b7 b8 b9 b10 b11 b12 b13 b14 b15 b16) → W (n + 1) a1 a2 a3 a4 a5 a6 a7 a8 a9 a10 a11 a12 a13 a14 a15 a16) (a1 : A1) (a2 : A2) (a3 : A3) (a4 : A4) (a5 : A5) (a6 : A6) (a7 : A7) (a8 : A8) (a9 : A9) (a10 : A10) (a11 : A11) (a12 : A12) (a13 : A13) (a14 : A14) (a15 : A15) (a16 : A16) (h : I a1 a2 a3 a4 a5 a6 a7 a8 a9 a10 a11 a12 a13 a14 a15 a16) : ∃ n, W n a1 a2 a3 a4 a5 a6 a7 a8 a9 a10 a11 a12 a13 a14 a15 a16 :=
  loop_m (σ := A1 × A2 × A3 × A4 × A5 × A6 × A7 × A8 × A9 × A10 × A11 × A12 × A13 × A14 × A15 × A16) (fun n s => W n s.1 s.2.1 s.2.2.1 s.2.2.2.1 s.2.2.2.2.1 s.2.2.2.2.2.1 s.2.2.2.2.2.2.1 s.2.2.2.2.2.2.2.1 s.2.2.2.2.2.2.2.2.1 s.2.2.2.2.2.2.2.2.2.1 s.2.2.2.2.2.2.2.2.2.2.1 s.2.2.2.2.2.2.2.2.2.2.2.1 s.2.2.2.2.2.2.2.2.2.2.2.2.1 s.2.2.2.2.2.2.2.2.2.2.2.2.2.1 s.2.2.2.2.2.2.2.2.2.2.2.2.2.2.1 s.2.2.2.2.2.2.2.2.2.2.2.2.2.2.2) (fun s => I s.1 s.2.1 s.2.2.1 s.2.2.2.1 s.2.2.2.2.1 s.2.2.2.2.2.1 s.2.2.2.2.2.2.1 s.2.2.2.2.2.2.2.1 s.2.2.2.2.2.2.2.2.1 s.2.2.2.2.2.2.2.2.2.1 s.2.2.2.2.2.2.2.2.2.2.1 s.2.2.2.2.2.2.2.2.2.2.2.1 s.2.2.2.2.2.2.2.2.2.2.2.2.1 s.2.2.2.2.2.2.2.2.2.2.2.2.2.1 s.2.2.2.2.2.2.2.2.2.2.2.2.2.2.1 s.2.2.2.2.2.2.2.2.2.2.2.2.2.2.2) (fun s => μ s.1 s.2.1 s.2.2.1 s.2.2.2.1 s.2.2.2.2.1 s.2.2.2.2.2.1 s.2.2.2.2.2.2.1 s.2.2.2.2.2.2.2.1 s.2.2.2.2.2.2.2.2.1 s.2.2.2.2.2.2.2.2.2.1 s.2.2.2.2.2.2.2.2.2.2.1 s.2.2.2.2.2.2.2.2.2.2.2.1 s.2.2.2.2.2.2.2.2.2.2.2.2.1 s.2.2.2.2.2.2.2.2.2.2.2.2.2.1 s.2.2.2.2.2.2.2.2.2.2.2.2.2.2.1 s.2.2.2.2.2.2.2.2.2.2.2.2.2.2.2) (fun n s hI hk => hs n s.1 s.2.1 s.2.2.1 s.2.2.2.1 s.2.2.2.2.1 s.2.2.2.2.2.1 s.2.2.2.2.2.2.1 s.2.2.2.2.2.2.2.1 s.2.2.2.2.2.2.2.2.1 s.2.2.2.2.2.2.2.2.2.1 s.2.2.2.2.2.2.2.2.2.2.1 s.2.2.2.2.2.2.2.2.2.2.2.1 s.2.2.2.2.2.2.2.2.2.2.2.2.1 s.2.2.2.2.2.2.2.2.2.2.2.2.2.1 s.2.2.2.2.2.2.2.2.2.2.2.2.2.2.1 s.2.2.2.2.2.2.2.2.2.2.2.2.2.2.2 hI (fun b1 b2 b3 b4 b5 b6 b7 b8 b9 b10 b11 b12 b13 b14 b15 b16 h9 hm => hk (b1, b2, b3, b4, b5, b6, b7, b8, b9, b10, b11, b12, b13, b14, b15, b16) h9 hm)) (a1, a2, a3, a4, a5, a6, a7, a8, a9, a10, a11, a12, a13, a14, a15, a16) h
theorem pk_least (P : Nat → Prop) (h : ∃ k, P k) : ∃ k, P k ∧ ∀ j, j < k → ¬ P j := by
  obtain ⟨k, hk⟩ := h
  induction k using Nat.strongRecOn with
  | ind k ih =>
    by_cases e : ∃ j, j < k ∧ P j
    · obtain ⟨j, hj, pj⟩ := e
      exact ih j hj pj
    · exact ⟨k, hk, fun j hj pj => e ⟨j, hj, pj⟩⟩
theorem rp1 {ρ A1 : Type} (W : Nat → (ρ → Prop) → A1 → Prop) (ok : A1 → Prop) (μ : A1 → Nat) (val : A1 → ρ)
    (hs : ∀ (d : Nat) (post : ρ → Prop) (a1 : A1), ok a1 → post (val a1) → (∀ (post' : ρ → Prop) (b1 : A1), ok b1 → μ b1 < μ a1 → post' (val b1) → W d post' b1) → W (d + 1) post a1) :
    ∀ (d : Nat) (post : ρ → Prop) (a1 : A1), ok a1 → μ a1 < d → post (val a1) → W d post a1 := by
  intro d
  induction d with
  | zero => intro post a1 _ h; omega
  | succ d ih =>
    intro post a1 ho hm hp
    exact hs d post a1 ho hp (fun post' b1 ho' hm' hp' => ih post' b1 ho' (by omega) hp')
theorem rp2 {ρ A1 A2 : Type} (W : Nat → (ρ → Prop) → A1 → A2 → Prop) (ok : A1 → A2 → Prop) (μ : A1 → A2 → Nat) (val : A1 → A2 → ρ)
    (hs : ∀ (d : Nat) (post : ρ → Prop) (a1 : A1) (a2 : A2), ok a1 a2 → post (val a1 a2) → (∀ (post' : ρ → Prop) (b1 : A1) (b2 : A2), ok b1 b2 → μ b1 b2 < μ a1 a2 → post' (val b1 b2) → W d post' b1 b2) → W (d + 1) post a1 a2) :
    ∀ (d : Nat) (post : ρ → Prop) (a1 : A1) (a2 : A2), ok a1 a2 → μ a1 a2 < d → post (val a1 a2) → W d post a1 a2 := by
  intro d
  induction d with
  | zero => intro post a1 a2 _ h; omega
  | succ d ih =>
    intro post a1 a2 ho hm hp
    exact hs d post a1 a2 ho hp (fun post' b1 b2 ho' hm' hp' => ih post' b1 b2 ho' (by omega) hp')
theorem rp3 {ρ A1 A2 A3 : Type} (W : Nat → (ρ → Prop) → A1 → A2 → A3 → Prop) (ok : A1 → A2 → A3 → Prop) (μ : A1 → A2 → A3 → Nat) (val : A1 → A2 → A3 → ρ)
    (hs : ∀ (d : Nat) (post : ρ → Prop) (a1 : A1) (a2 : A2) (a3 : A3), ok a1 a2 a3 → post (val a1 a2 a3) → (∀ (post' : ρ → Prop) (b1 : A1) (b2 : A2) (b3 : A3), ok b1 b2 b3 → μ b1 b2 b3 < μ a1 a2 a3 → post' (val b1 b2 b3) → W d post' b1 b2 b3) → W (d + 1) post a1 a2 a3) :
    ∀ (d : Nat) (post : ρ → Prop) (a1 : A1) (a2 : A2) (a3 : A3), ok a1 a2 a3 → μ a1 a2 a3 < d → post (val a1 a2 a3) → W d post a1 a2 a3 := by
  intro d
  induction d with
  | zero => intro post a1 a2 a3 _ h; omega
  | succ d ih =>
    intro post a1 a2 a3 ho hm hp
    exact hs d post a1 a2 a3 ho hp (fun post' b1 b2 b3 ho' hm' hp' => ih post' b1 b2 b3 ho' (by omega) hp')
theorem rp4 {ρ A1 A2 A3 A4 : Type} (W : Nat → (ρ → Prop) → A1 → A2 → A3 → A4 → Prop) (ok : A1 → A2 → A3 → A4 → Prop) (μ : A1 → A2 → A3 → A4 → Nat) (val : A1 → A2 → A3 → A4 → ρ)
    (hs : ∀ (d : Nat) (post : ρ → Prop) (a1 : A1) (a2 : A2) (a3 : A3) (a4 : A4), ok a1 a2 a3 a4 → post (val a1 a2 a3 a4) → (∀ (post' : ρ → Prop) (b1 : A1) (b2 : A2) (b3 : A3) (b4 : A4), ok b1 b2 b3 b4 → μ b1 b2 b3 b4 < μ a1 a2 a3 a4 → post' (val b1 b2 b3 b4) → W d post' b1 b2 b3 b4) → W (d + 1) post a1 a2 a3 a4) :
    ∀ (d : Nat) (post : ρ → Prop) (a1 : A1) (a2 : A2) (a3 : A3) (a4 : A4), ok a1 a2 a3 a4 → μ a1 a2 a3 a4 < d → post (val a1 a2 a3 a4) → W d post a1 a2 a3 a4 := by
  intro d
  induction d with
  | zero => intro post a1 a2 a3 a4 _ h; omega
  | succ d ih =>
    intro post a1 a2 a3 a4 ho hm hp
    exact hs d post a1 a2 a3 a4 ho hp (fun post' b1 b2 b3 b4 ho' hm' hp' => ih post' b1 b2 b3 b4 ho' (by omega) hp')
theorem rp5 {ρ A1 A2 A3 A4 A5 : Type} (W : Nat → (ρ → Prop) → A1 → A2 → A3 → A4 → A5 → Prop) (ok : A1 → A2 → A3 → A4 → A5 → Prop) (μ : A1 → A2 → A3 → A4 → A5 → Nat) (val : A1 → A2 → A3 → A4 → A5 → ρ)
    (hs : ∀ (d : Nat) (post : ρ → Prop) (a1 : A1) (a2 : A2) (a3 : A3) (a4 : A4) (a5 : A5), ok a1 a2 a3 a4 a5 → post (val a1 a2 a3 a4 a5) → (∀ (post' : ρ → Prop) (b1 : A1) (b2 : A2) (b3 : A3) (b4 : A4) (b5 : A5), ok b1 b2 b3 b4 b5 → μ b1 b2 b3 b4 b5 < μ a1 a2 a3 a4 a5 → post' (val b1 b2 b3 b4 b5) → W d post' b1 b2 b3 b4 b5) → W (d + 1) post a1 a2 a3 a4 a5) :
    ∀ (d : Nat) (post : ρ → Prop) (a1 : A1) (a2 : A2) (a3 : A3) (a4 : A4) (a5 : A5), ok a1 a2 a3 a4 a5 → μ a1 a2 a3 a4 a5 < d → post (val a1 a2 a3 a4 a5) → W d post a1 a2 a3 a4 a5 := by
  intro d
  induction d with
  | zero => intro post a1 a2 a3 a4 a5 _ h; omega
  | succ d ih =>
    intro post a1 a2 a3 a4 a5 ho hm hp
    exact hs d post a1 a2 a3 a4 a5 ho hp (fun post' b1 b2 b3 b4 b5 ho' hm' hp' => ih post' b1 b2 b3 b4 b5 ho' (by omega) hp')
theorem rp6 {ρ A1 A2 A3 A4 A5 A6 : Type} (W : Nat → (ρ → Prop) → A1 → A2 → A3 → A4 → A5 → A6 → Prop) (ok : A1 → A2 → A3 → A4 → A5 → A6 → Prop) (μ : A1 → A2 → A3 → A4 → A5 → A6 → Nat) (val : A1 → A2 → A3 → A4 → A5 → A6 → ρ)
    (hs : ∀ (d : Nat) (post : ρ → Prop) (a1 : A1) (a2 : A2) (a3 : A3) (a4 : A4) (a5 : A5) (a6 : A6), ok a1 a2 a3 a4 a5 a6 → post (val a1 a2 a3 a4 a5 a6) → (∀ (post' : ρ → Prop) (b1 : A1) (b2 : A2) (b3 : A3) (b4 : A4) (b5 : A5) (b6 : A6), ok b1 b2 b3 b4 b5 b6 → μ b1 b2 b3 b4 b5 b6 < μ a1 a2 a3 a4 a5 a6 → post' (val b1 b2 b3 b4 b5 b6) → W d post' b1 b2 b3 b4 b5 b6) → W (d + 1) post a1 a2 a3 a4 a5 a6) :
    ∀ (d : Nat) (post : ρ → Prop) (a1 : A1) (a2 : A2) (a3 : A3) (a4 : A4) (a5 : A5) (a6 : A6), ok a1 a2 a3 a4 a5 a6 → μ a1 a2 a3 a4 a5 a6 < d → post (val a1 a2 a3 a4 a5 a6) → W d post a1 a2 a3 a4 a5 a6 := by
  intro d
  induction d with
  | zero => intro post a1 a2 a3 a4 a5 a6 _ h; omega
  | succ d ih =>
    intro post a1 a2 a3 a4 a5 a6 ho hm hp
    exact hs d post a1 a2 a3 a4 a5 a6 ho hp (fun post' b1 b2 b3 b4 b5 b6 ho' hm' hp' => ih post' b1 b2 b3 b4 b5 b6 ho' (by omega) hp')
theorem rec_p {σ ρ : Type} (W : Nat → (ρ → Prop) → σ → Prop) (ok : σ → Prop) (μ : σ → Nat) (val : σ → ρ)
    (hs : ∀ d s post, ok s → post (val s) → (∀ s' post', ok s' → μ s' < μ s → post' (val s') → W d post' s') → W (d + 1) post s) :
    ∀ d s post, ok s → μ s < d → post (val s) → W d post s := by
  intro d
  induction d with
  | zero => intro s post _ h; omega
  | succ d ih =>
    intro s post ho hm hp
    exact hs d s post ho hp (fun s' post' ho' hm' hp' => ih s' post' ho' (by omega) hp')
theorem rec_q {σ ρ : Type} (W : Nat → (ρ → Prop) → σ → Prop) (ok : σ → Prop) (μ : σ → Nat) (Q : σ → ρ → Prop)
    (hs : ∀ d s post, ok s → (∀ r, Q s r → post r) → (∀ s' post', ok s' → μ s' < μ s → (∀ r, Q s' r → post' r) → W d post' s') → W (d + 1) post s) :
    ∀ d s post, ok s → μ s < d → (∀ r, Q s r → post r) → W d post s := by
  intro d
  induction d with
  | zero => intro s post _ h; omega
  | succ d ih =>
    intro s post ho hm hp
    exact hs d s post ho hp (fun s' post' ho' hm' hp' => ih s' post' ho' (by omega) hp')
def bx_sum (f : Nat → Int32) : Nat → Int32
  | 0 => 0
  | n + 1 => bx_sum f n + f n
theorem ek_u {A : Prop} {B : Nat → Prop} {k N : Nat} (hk : k < N) (h : B k) : (some k = none → A) ∧ (∀ y : Nat, some k = some y → (y < N ∧ B y)) :=
  ⟨fun z => absurd z (Option.some_ne_none k), fun _ e => (by cases e; exact ⟨hk, h⟩)⟩
theorem ek_nu {A : Prop} {B : Nat → Prop} (h : A) : ((none : Option Nat) = none → A) ∧ (∀ y : Nat, (none : Option Nat) = some y → B y) :=
  ⟨fun _ => h, fun _ e => (by cases e)⟩
theorem ek_if {c d A B : Prop} (e : c ↔ d) (f : d → A) (g : ¬ d → B) : (c → A) ∧ (¬ c → B) :=
  ⟨fun z => f (e.mp z), fun z => g (fun y => z (e.mpr y))⟩
theorem ek_v {α : Sort _} {P : α → Prop} {a b : α} (e : a = b) (h : P b) : P a := e ▸ h
theorem co_some {x : Option Nat} {A : Prop} {B : Nat → Prop} (i : Nat) (h : B i) (hx : x = some i := by rfl) : (x = none → A) ∧ (∀ y : Nat, x = some y → B y) := by
  subst hx
  exact ⟨fun e => (nomatch e), fun y e => Option.some.inj e ▸ h⟩
theorem co_none {x : Option Nat} {A : Prop} {B : Nat → Prop} (h : A) (hx : x = none := by rfl) : (x = none → A) ∧ (∀ y : Nat, x = some y → B y) := by
  subst hx
  exact ⟨fun _ => h, fun y e => (nomatch e)⟩
theorem co_any {x : Option Nat} {A : Prop} {B : Nat → Prop} (hn : x = none → A) (hs : ∀ i : Nat, x = some i → B i) : (x = none → A) ∧ (∀ y : Nat, x = some y → B y) := ⟨hn, hs⟩
theorem co_2 {P : Nat → Prop} (h0 : P 0) (h1 : P 1) {i : Nat} (hi : i < 2) : P i :=
  match i, hi with
  | 0, _ => h0
  | 1, _ => h1
theorem co_3 {P : Nat → Prop} (h0 : P 0) (h1 : P 1) (h2 : P 2) {i : Nat} (hi : i < 3) : P i :=
  match i, hi with
  | 0, _ => h0
  | 1, _ => h1
  | 2, _ => h2
theorem co_4 {P : Nat → Prop} (h0 : P 0) (h1 : P 1) (h2 : P 2) (h3 : P 3) {i : Nat} (hi : i < 4) : P i :=
  match i, hi with
  | 0, _ => h0
  | 1, _ => h1
  | 2, _ => h2
  | 3, _ => h3
theorem co_dec {N : Nat} {P : Nat → Prop} [DecidablePred P] (h : (List.range N).all (fun i => decide (P i)) = true) {i : Nat} (hi : i < N) : P i := by
  have := List.all_eq_true.mp h i (List.mem_range.mpr hi)
  exact of_decide_eq_true this
theorem co_tab {α : Type} {l : List α} {d : α} {P : α → Prop} (h : ∀ a, a ∈ l → P a) {i : Nat} (hi : i < l.length) : P (l.getD i d) := by
  rw [List.getD_eq_getElem?_getD, List.getElem?_eq_getElem hi]
  exact h _ (List.getElem_mem hi)
theorem pk_mu {x : Int32} {L : Nat} (h0 : ¬ x < 0) (h : ¬ nI L ≤ x) (hL : L < 2 ^ 31) : ∃ j : Nat, j < L ∧ x = nI j ∧ x + 1 = nI (j + 1) ∧ x.toNatClampNeg = j ∧ L - (x + 1).toNatClampNeg < L - x.toNatClampNeg := by
  obtain ⟨j, hj, rfl⟩ := nI_of h0
  have hl : j < L := Nat.not_le.mp fun q => h (nI_le q hj)
  refine ⟨j, hl, rfl, nI_1 j, nI_clamp hj, ?_⟩
  rw [nI_1, nI_clamp (by omega), nI_clamp hj]
  omega
theorem op_s {α : Type} {r : Option α} {A : Prop} {B : α → Prop} {y : α} (h : r = some y) (b : B y) : (r = none → A) ∧ ∀ z, r = some z → B z :=
  ⟨fun e => (by rw [h] at e; cases e), fun z e => (by rw [h] at e; cases e; exact b)⟩
def l_holds {α : Type} (a : Nat → Option Nat) (LP : List Nat) (p : Nat → α) (c : Nat) (b : Nat → α) : Prop :=
  ∀ j, j < c → ∃ y, a j = some y ∧ y ∈ LP ∧ p y = b j
theorem l_holds_0 {α : Type} {a : Nat → Option Nat} {LP : List Nat} {p b : Nat → α} : l_holds a LP p 0 b := fun j h => absurd h (Nat.not_lt_zero j)
theorem l_in_new (LP : List Nat) (q : Nat) : q ∈ LP ++ [q] := List.mem_append.mpr (Or.inr (List.mem_singleton.mpr rfl))
def l_sum (b : Nat → Int32) : Nat → Int32
  | 0 => 0
  | k + 1 => l_sum b k + b k
theorem sb_shr0 (x : Int32) : x >>> ((0 : Int32) &&& 31) = x := by
  rw [show ((0 : Int32) &&& 31) = 0 by decide]
  simp
theorem sb_shl0 (x : Int32) : x <<< ((0 : Int32) &&& 31) = x := by
  rw [show ((0 : Int32) &&& 31) = 0 by decide]
  simp
theorem sb_cl0 : (0 : Int32).toNatClampNeg = 0 := by decide
theorem sb_m1 {p : Nat} (h : 0 < p) : nI p + (-1) = nI (p - 1) := by
  obtain ⟨q, rfl⟩ : ∃ q, p = q + 1 := ⟨p - 1, by omega⟩
  exact pk_m1 q
def sb_b (c : Nat) : Int32 := (nI c).toInt8.toInt32
theorem sb_byte : ∀ c, c < 256 → sb_b c &&& 255 = nI c ∧ ((nI c).toUInt32 % 65536).toInt32 = nI c ∧ nI c ≤ 255 := by decide +kernel
def sb_Fit (a : Nat → Int32) : Prop := ∀ j, fits .byte (.int (a j)) = true
def sb_Lat (t : Nat → Nat) (n : Nat) (a : Nat → Int32) : Prop := ∀ j, j < n → t j < 256 ∧ a j = sb_b (t j)
theorem sb_fitB (c : Nat) : fits .byte (.int (sb_b c)) = true := pk_fb _
theorem sb_fit0 : sb_Fit (fun _ => 0) := fun _ => by
  show fits .byte (.int 0) = true
  decide
theorem sb_fitU {a : Nat → Int32} {k : Nat} {x : Int32} (h : sb_Fit a) (hx : fits .byte (.int x) = true) : sb_Fit (upd a k x) := by
  intro j
  by_cases e : j = k
  · subst e
    rw [pk_us]
    exact hx
  · rw [pk_un e]
    exact h j
def sb_cat (t : Nat → Nat) (n : Nat) (s : Nat → Nat) : Nat → Nat := fun j => if j < n then t j else s (j - n)
theorem sb_cat_lo {t s : Nat → Nat} {n j : Nat} (h : j < n) : sb_cat t n s j = t j := if_pos h
theorem sb_cat_hi {t s : Nat → Nat} {n j : Nat} : sb_cat t n s (n + j) = s j := by
  show (if n + j < n then t (n + j) else s (n + j - n)) = s j
  rw [if_neg (by omega), Nat.add_sub_cancel_left]
theorem sb_latPut {t s : Nat → Nat} {n w : Nat} {a a' : Nat → Int32} (h : sb_Lat t n a) (hk : ∀ j, j < n → a' j = a j) (hs : ∀ i, i < w → s i < 256 ∧ a' (n + i) = sb_b (s i)) : sb_Lat (sb_cat t n s) (n + w) a' := by
  intro j hj
  by_cases e : j < n
  · rw [sb_cat_lo e, hk j e]
    exact h j e
  · obtain ⟨i, rfl⟩ : ∃ i, j = n + i := ⟨j - n, by omega⟩
    rw [sb_cat_hi]
    exact hs i (by omega)
theorem sb_latKeep {t : Nat → Nat} {n : Nat} {a a' : Nat → Int32} (h : sb_Lat t n a) (hk : ∀ j, j < n → a' j = a j) : sb_Lat t n a' := fun j hj => by
  rw [hk j hj]
  exact h j hj
def sb_cap (q m : Nat) : Nat := if q ≤ m then m else if 2 * m + 2 < q then q else 2 * m + 2
def sb_Room (q m mc ms : Nat) : Prop := q ≤ m ∨ (1 ≤ mc ∧ sb_cap q m ≤ ms ∧ sb_cap q m ≤ 65536)
theorem sb_cap_ge (q m : Nat) : q ≤ sb_cap q m := by
  unfold sb_cap
  split
  · omega
  · split <;> omega
theorem sb_cap_gem (q m : Nat) : m ≤ sb_cap q m := by
  unfold sb_cap
  split
  · omega
  · split <;> omega
theorem sb_cap_le {q m mc ms : Nat} (hm : m ≤ 65536) (hr : sb_Room q m mc ms) : sb_cap q m ≤ 65536 := by
  rcases hr with h | h
  · rw [sb_cap, if_pos h]
    exact hm
  · exact h.2.2
theorem sb_at {P : Int32 → Prop} {x y : Int32} (e : x = y) (h : P y) : P x := e ▸ h
def sb_dg (w : Nat) : Nat := if w < 10 then 1 else if w < 100 then 2 else if w < 1000 then 3 else if w < 10000 then 4 else if w < 100000 then 5 else if w < 1000000 then 6 else if w < 10000000 then 7 else if w < 100000000 then 8 else if w < 1000000000 then 9 else 10
def sb_dec (v : Nat) : Nat → Nat := fun i => 48 + v / 10 ^ (sb_dg v - 1 - i) % 10
theorem sb_dg_in (w : Nat) : 1 ≤ sb_dg w ∧ sb_dg w ≤ 10 := by
  unfold sb_dg
  constructor <;> (repeat' split) <;> omega
theorem sb_dg100 {w : Nat} (h : 100 ≤ w) (hw : w < 2 ^ 31) : sb_dg w = sb_dg (w / 100) + 2 := by
  rw [sb_dg, sb_dg, if_neg (show ¬ w < 10 by omega), if_neg (show ¬ w < 100 by omega)]
  by_cases h3 : w < 1000
  · rw [if_pos h3, if_pos (show w / 100 < 10 by omega)]
  rw [if_neg h3, if_neg (show ¬ w / 100 < 10 by omega)]
  by_cases h4 : w < 10000
  · rw [if_pos h4, if_pos (show w / 100 < 100 by omega)]
  rw [if_neg h4, if_neg (show ¬ w / 100 < 100 by omega)]
  by_cases h5 : w < 100000
  · rw [if_pos h5, if_pos (show w / 100 < 1000 by omega)]
  rw [if_neg h5, if_neg (show ¬ w / 100 < 1000 by omega)]
  by_cases h6 : w < 1000000
  · rw [if_pos h6, if_pos (show w / 100 < 10000 by omega)]
  rw [if_neg h6, if_neg (show ¬ w / 100 < 10000 by omega)]
  by_cases h7 : w < 10000000
  · rw [if_pos h7, if_pos (show w / 100 < 100000 by omega)]
  rw [if_neg h7, if_neg (show ¬ w / 100 < 100000 by omega)]
  by_cases h8 : w < 100000000
  · rw [if_pos h8, if_pos (show w / 100 < 1000000 by omega)]
  rw [if_neg h8, if_neg (show ¬ w / 100 < 1000000 by omega)]
  by_cases h9 : w < 1000000000
  · rw [if_pos h9, if_pos (show w / 100 < 10000000 by omega)]
  rw [if_neg h9, if_neg (show ¬ w / 100 < 10000000 by omega)]
  rw [if_pos (show w / 100 < 100000000 by omega)]
theorem sb_negT {w : Nat} (h : w < 2 ^ 31) : (-nI w).toInt = -(w : Int) := by
  rw [Int32.toInt_neg, nI_toInt h]
  exact Int.bmod_eq_of_le (by omega) (by omega)
theorem sb_nle {a b : Nat} (ha : a < 2 ^ 31) (hb : b < 2 ^ 31) : -nI a ≤ -nI b ↔ b ≤ a := by
  rw [Int32.le_iff_toInt_le, sb_negT ha, sb_negT hb]
  omega
theorem sb_nlt {a b : Nat} (ha : a < 2 ^ 31) (hb : b < 2 ^ 31) : -nI a < -nI b ↔ b < a := by
  rw [Int32.lt_iff_toInt_lt, sb_negT ha, sb_negT hb]
  omega
theorem sb_cmp {A B : Prop} {x : Int32} (v c : Nat) (f : c ≤ v → A) (g : v < c → B) (hv : v < 2 ^ 31) (hx : x = -nI c := by rfl) (hc : c < 2 ^ 31 := by omega) : (-nI v ≤ x → A) ∧ (¬ -nI v ≤ x → B) := by
  subst hx
  rw [sb_nle hv hc]
  exact ⟨f, fun z => g (by omega)⟩
theorem sb_ndiv {w : Nat} (hw : w < 2 ^ 31) : (-nI w) / 100 = -nI (w / 100) := by
  apply Int32.toInt_inj.mp
  have h100 : (100 : Int32).toInt = 100 := by decide
  rw [Int32.toInt_div, sb_negT hw, h100, sb_negT (by omega), Int.neg_tdiv, Int.tdiv_eq_ediv_of_nonneg (by omega), Int.bmod_eq_of_le (by omega) (by omega)]
  omega
theorem sb_nrem {w : Nat} (hw : w < 2 ^ 31) : (-nI (w / 100)) * 100 - (-nI w) = nI (w % 100) := by
  have h := pk_rem (a := w) (d := 100) hw (by decide) (by decide)
  rw [pk_div hw (by decide) (by decide)] at h
  rw [← h]
  show (-nI (w / 100)) * nI 100 - (-nI w) = nI w - nI (w / 100) * nI 100
  rw [Int32.neg_mul, Int32.sub_neg, Int32.add_comm, ← Int32.sub_eq_add_neg]
end
section
/-! rows on bits, shifts and unsigned numbers, to paste: each family out of a closed proof of our own, whole with what it rests on; each by itself clean at Lean in its own claim (generation 39, form 5). Take a family whole -/
/-! ===== Int32 by its bits: bt x i ===== -/
def bt (x : Int32) (i : Nat) : Bool := x.toBitVec.getLsbD i
theorem b_ext {x y : Int32} (h : ∀ i, i < 32 → bt x i = bt y i) : x = y := Int32.toBitVec_inj.mp (BitVec.eq_of_getLsbD_eq (fun i hi => h i hi))
theorem b_or (x y : Int32) (i : Nat) : bt (x ||| y) i = (bt x i || bt y i) := by unfold bt; rw [Int32.toBitVec_or, BitVec.getLsbD_or]
theorem b_and (x y : Int32) (i : Nat) : bt (x &&& y) i = (bt x i && bt y i) := by unfold bt; rw [Int32.toBitVec_and, BitVec.getLsbD_and]
theorem b_xor (x y : Int32) (i : Nat) : bt (x ^^^ y) i = (bt x i ^^ bt y i) := by unfold bt; rw [Int32.toBitVec_xor, BitVec.getLsbD_xor]
theorem b_big {x : Int32} {i : Nat} (h : 32 ≤ i) : bt x i = false := BitVec.getLsbD_of_ge _ _ h
theorem b_255 (i : Nat) : bt 255 i = decide (i < 8) := by
  rcases Nat.lt_or_ge i 32 with h | h
  · exact (by decide +kernel : ∀ i, i < 32 → bt 255 i = decide (i < 8)) i h
  · rw [b_big h, decide_eq_false (by omega)]
theorem b_65535 (i : Nat) : bt 65535 i = decide (i < 16) := by
  rcases Nat.lt_or_ge i 32 with h | h
  · exact (by decide +kernel : ∀ i, i < 32 → bt 65535 i = decide (i < 16)) i h
  · rw [b_big h, decide_eq_false (by omega)]
theorem b_m1 : ∀ i, i < 32 → bt (-1) i = true := by decide +kernel
theorem b_0 (i : Nat) : bt 0 i = false := BitVec.getLsbD_zero
theorem s_l : ∀ n, n < 32 → ((nI n &&& 31).toBitVec.smod 32).toNat = n := by decide +kernel
theorem s_u : ∀ n, n < 32 → (((nI n).toUInt32 &&& Int32.toUInt32 31).toBitVec % 32).toNat = n := by decide +kernel
theorem b_shl (n : Nat) (hn : n < 32) (x : Int32) {i : Nat} (hi : i < 32) : bt (x <<< (nI n &&& 31)) i = (decide (n ≤ i) && bt x (i - n)) := by
  unfold bt
  rw [Int32.toBitVec_shiftLeft]
  show (x.toBitVec <<< ((nI n &&& 31).toBitVec.smod 32).toNat).getLsbD i = _
  rw [s_l n hn, BitVec.getLsbD_shiftLeft]
  rcases Nat.lt_or_ge i n with h | h
  · simp [h, Nat.not_le.mpr h]
  · simp [hi, h, Nat.not_lt.mpr h]
theorem b_ushr (n : Nat) (hn : n < 32) (x : Int32) (i : Nat) : bt ((x.toUInt32 >>> ((nI n).toUInt32 &&& Int32.toUInt32 31)).toInt32) i = bt x (n + i) := by
  show (x.toUInt32 >>> ((nI n).toUInt32 &&& Int32.toUInt32 31)).toBitVec.getLsbD i = x.toUInt32.toBitVec.getLsbD (n + i)
  rw [UInt32.toBitVec_shiftRight]
  show (x.toUInt32.toBitVec >>> (((nI n).toUInt32 &&& Int32.toUInt32 31).toBitVec % 32).toNat).getLsbD i = _
  rw [s_u n hn, BitVec.getLsbD_ushiftRight]
theorem b_sshr (n : Nat) (hn : n < 32) (x : Int32) {i : Nat} (hi : i < 32) : bt (x >>> (nI n &&& 31)) i = if n + i < 32 then bt x (n + i) else bt x 31 := by
  unfold bt
  rw [Int32.toBitVec_shiftRight]
  show (x.toBitVec.sshiftRight ((nI n &&& 31).toBitVec.smod 32).toNat).getLsbD i = _
  rw [s_l n hn, BitVec.getLsbD_sshiftRight, BitVec.msb_eq_getLsbD_last]
  simp [hi]
theorem b_shl8 (x : Int32) {i : Nat} (hi : i < 32) : bt (x <<< ((8 : Int32) &&& 31)) i = (decide (8 ≤ i) && bt x (i - 8)) := b_shl 8 (by omega) x hi
theorem b_shl16 (x : Int32) {i : Nat} (hi : i < 32) : bt (x <<< ((16 : Int32) &&& 31)) i = (decide (16 ≤ i) && bt x (i - 16)) := b_shl 16 (by omega) x hi
theorem b_shl24 (x : Int32) {i : Nat} (hi : i < 32) : bt (x <<< ((24 : Int32) &&& 31)) i = (decide (24 ≤ i) && bt x (i - 24)) := b_shl 24 (by omega) x hi
theorem b_sshr8 (x : Int32) {i : Nat} (hi : i < 32) : bt (x >>> ((8 : Int32) &&& 31)) i = if 8 + i < 32 then bt x (8 + i) else bt x 31 := b_sshr 8 (by omega) x hi
/-! ===== nI under and, xor, >>>, one bit, 65535 ===== -/
theorem nx_and (a b : Nat) : nI a &&& nI b = nI (a &&& b) := by
  apply Int32.toBitVec_inj.1
  show BitVec.ofNat 32 a &&& BitVec.ofNat 32 b = BitVec.ofNat 32 (a &&& b)
  apply BitVec.eq_of_getLsbD_eq
  intro i hi
  simp [hi]
theorem nx_xor (a b : Nat) : nI a ^^^ nI b = nI (a ^^^ b) := by
  apply Int32.toBitVec_inj.1
  show BitVec.ofNat 32 a ^^^ BitVec.ofNat 32 b = BitVec.ofNat 32 (a ^^^ b)
  apply BitVec.eq_of_getLsbD_eq
  intro i hi
  simp [hi]
theorem nx_cnt : ∀ j : Fin 32, (UInt32.ofNat j.val &&& Int32.toUInt32 31).toNat % 32 = j.val := by decide +kernel
theorem nx_ush {k j : Nat} (hk : k < 65536) (hj : j < 32) : ((nI k).toUInt32 >>> ((nI j).toUInt32 &&& Int32.toUInt32 31)).toInt32 = nI (k >>> j) := by
  have hs : k >>> j ≤ k := by
    rw [Nat.shiftRight_eq_div_pow]
    exact Nat.div_le_self _ _
  have e2 : UInt32.ofNat k >>> (UInt32.ofNat j &&& Int32.toUInt32 31) = UInt32.ofNat (k >>> j) := by
    apply UInt32.toNat_inj.1
    have h1 : (UInt32.ofNat k).toNat = k := Nat.mod_eq_of_lt (by omega)
    have h2 : (UInt32.ofNat (k >>> j)).toNat = k >>> j := Nat.mod_eq_of_lt (by omega)
    rw [UInt32.toNat_shiftRight, nx_cnt ⟨j, hj⟩, h1, h2]
  show (UInt32.ofNat k >>> (UInt32.ofNat j &&& Int32.toUInt32 31)).toInt32 = _
  rw [e2]
  rfl
theorem nx_bit {k j : Nat} (hk : k < 65536) (hj : j < 16) : (((nI k).toUInt32 >>> ((nI j).toUInt32 &&& Int32.toUInt32 31)).toInt32 &&& 1) = 0 ↔ k.testBit j = false := by
  rw [nx_ush hk (by omega)]
  show nI (k >>> j) &&& nI 1 = 0 ↔ _
  rw [nx_and, Nat.and_one_is_mod, ← nI_0, nI_eq (by omega) (by omega), Nat.testBit_eq_decide_div_mod_eq, Nat.shiftRight_eq_div_pow, decide_eq_false_iff_not]
  generalize k / 2 ^ j = z
  omega
theorem nx_mod (k : Nat) : nI k &&& 65535 = nI (k % 65536) := by
  show nI k &&& nI 65535 = _
  rw [nx_and, show (65535 : Nat) = 2 ^ 16 - 1 from rfl, Nat.and_two_pow_sub_one_eq_mod]
theorem nx_m16 {k : Nat} (h : k < 65536) : nI k &&& 65535 = nI k := by rw [nx_mod, Nat.mod_eq_of_lt h]
theorem nx_mask (x : Int32) : ∃ k, k < 65536 ∧ x &&& 65535 = nI k := by
  have e : x = nI x.toBitVec.toNat := by
    apply Int32.toBitVec_inj.1
    show x.toBitVec = BitVec.ofNat 32 x.toBitVec.toNat
    simp
  refine ⟨x.toBitVec.toNat % 65536, Nat.mod_lt _ (by omega), ?_⟩
  rw [← nx_mod, ← e]
/-! ===== Int32 as a set of bits: test, set ===== -/
def nf_M (m : Int32) : Nat := 4294967296 - m.toBitVec.toNat
theorem nf_sh : ∀ l, l < 32 → ((1 : Int32) <<< (nI l &&& 31)).toBitVec = BitVec.twoPow 32 l := by decide +kernel
theorem nf_sl : ∀ l, l < 32 → (((nI l).toUInt32 &&& Int32.toUInt32 31).toBitVec % 32).toNat = l := by decide +kernel
theorem nf_tp : ∀ l, l < 32 → BitVec.twoPow 32 l ≠ 0#32 := by decide +kernel
theorem nf_bit (m : Int32) (l : Nat) (hl : l < 32) : ((m.toUInt32 >>> ((nI l).toUInt32 &&& Int32.toUInt32 31)).toInt32 &&& 1) = 0 ↔ (m &&& ((1 : Int32) <<< (nI l &&& 31))) = 0 := by
  have e : ((m.toUInt32 >>> ((nI l).toUInt32 &&& Int32.toUInt32 31)).toInt32).toBitVec = m.toBitVec >>> l := by
    show m.toBitVec >>> (((nI l).toUInt32 &&& Int32.toUInt32 31).toBitVec % 32) = m.toBitVec >>> l
    rw [BitVec.ushiftRight_eq', nf_sl l hl]
  rw [← Int32.toBitVec_inj, ← Int32.toBitVec_inj, Int32.toBitVec_and, Int32.toBitVec_and, nf_sh l hl, e, BitVec.and_twoPow]
  show (m.toBitVec >>> l &&& 1#32) = 0#32 ↔ _ = 0#32
  rw [BitVec.and_one_eq_setWidth_ofBool_getLsbD, BitVec.getLsbD_ushiftRight, Nat.add_zero]
  cases hb : m.toBitVec.getLsbD l
  · exact ⟨fun _ => by simp, fun _ => by decide⟩
  · exact ⟨fun z => absurd z (by decide), fun z => absurd ((if_pos rfl).symm.trans z) (nf_tp l hl)⟩
theorem nf_gr (m k : Int32) (h : m &&& k = 0) (hk : k ≠ 0) : nf_M (m ||| k) < nf_M m := by
  have hm := m.toBitVec.isLt
  have hm' := (m ||| k).toBitVec.isLt
  have h1 : m.toBitVec.toNat ≤ (m ||| k).toBitVec.toNat := by
    rw [Int32.toBitVec_or, BitVec.toNat_or]
    exact Nat.left_le_or
  have h2 : m.toBitVec.toNat ≠ (m ||| k).toBitVec.toNat := by
    intro e
    have e2 : m = m ||| k := Int32.toBitVec_inj.mp (BitVec.eq_of_toNat_eq e)
    apply hk
    apply Int32.toBitVec_inj.mp
    show k.toBitVec = 0#32
    apply BitVec.eq_of_getLsbD_eq
    intro i hi
    have a : m.toBitVec.getLsbD i = (m.toBitVec.getLsbD i || k.toBitVec.getLsbD i) := by rw [← BitVec.getLsbD_or, ← Int32.toBitVec_or, ← e2]
    have b : (m.toBitVec.getLsbD i && k.toBitVec.getLsbD i) = false := by
      rw [← BitVec.getLsbD_and, ← Int32.toBitVec_and, h]
      exact BitVec.getLsbD_zero
    rw [BitVec.getLsbD_zero]
    revert a b
    cases m.toBitVec.getLsbD i <;> cases k.toBitVec.getLsbD i <;> simp
  unfold nf_M
  omega
/-! ===== a byte read unsigned ===== -/
theorem bp_b (x : Int32) : x.toInt8.toInt32 &&& 255 = x &&& 255 := by
  apply Int32.toBitVec_inj.mp
  rw [Int32.toBitVec_and, Int32.toBitVec_and, Int8.toBitVec_toInt32, Int32.toBitVec_toInt8]
  apply BitVec.eq_of_getLsbD_eq
  intro i hi
  rw [BitVec.getLsbD_and, BitVec.getLsbD_and]
  have hm : ∀ i < 32, 8 ≤ i → (255 : Int32).toBitVec.getLsbD i = false := by decide
  rcases Nat.lt_or_ge i 8 with z | z
  · rw [BitVec.getLsbD_signExtend, BitVec.getLsbD_signExtend, if_pos z, if_pos hi]
    simp only [z, hi, decide_true, Bool.true_and]
  · rw [hm i hi z]; simp
/-! ===== the char cast and 65535 ===== -/
theorem em_w (v : Int32) : ∃ w : Nat, w < 65536 ∧ (v.toUInt32 % 65536).toInt32 = nI w ∧ v &&& 65535 = nI w := by
  have hr := lw_u16_r v
  have h0 : (0 : Int32).toInt = 0 := by decide
  obtain ⟨w, h1, h2⟩ := nI_of (x := lw_u16 v) (by rw [Int32.lt_iff_toInt_lt]; omega)
  have h3 : (v.toUInt32 % 65536).toInt32 = nI w := h2
  rw [h2, nI_toInt h1] at hr
  exact ⟨w, by omega, h3, by rw [← lg_i2c_mask, ← lg_i2c_nf, h3]⟩
/-! ===== Int64 as a set of bits: test, set, clear ===== -/
theorem ts_nf {x : Bool} (h : ¬ x = false) : x = true := by cases x <;> first | rfl | exact absurd rfl h
theorem ts_nt {x : Bool} (h : ¬ x = true) : x = false := by cases x <;> first | rfl | exact absurd rfl h
theorem ts_bit {w : Int64} {s : UInt64} {j : Nat} (hj : j < 64) (hs : s.toNat = j) : ((w.toUInt64 >>> s).toInt64 &&& 1) = 0 ↔ w.toBitVec.getLsbD j = false := by
  have e : (w.toUInt64 >>> s).toInt64.toBitVec = w.toBitVec >>> j := by
    apply BitVec.eq_of_toNat_eq
    show (w.toUInt64 >>> s).toNat = _
    rw [UInt64.toNat_shiftRight, hs, Nat.mod_eq_of_lt hj, BitVec.toNat_ushiftRight]
    rfl
  rw [← Int64.toBitVec_inj, Int64.toBitVec_and, e]
  show w.toBitVec >>> j &&& 1#64 = 0#64 ↔ _
  constructor
  · intro h
    have t := congrArg (fun x => x.getLsbD 0) h
    simpa using t
  · intro h
    apply BitVec.eq_of_getLsbD_eq
    intro i hi
    cases i with
    | zero => simp [h]
    | succ i => simp
theorem ts_or {w m : Int64} {j : Nat} (hj : j < 64) (hm : m.toBitVec = BitVec.twoPow 64 j) : (w ||| m) = w ↔ w.toBitVec.getLsbD j = true := by
  rw [← Int64.toBitVec_inj, Int64.toBitVec_or, hm]
  constructor
  · intro h
    have t := congrArg (fun x => x.getLsbD j) h
    simp only [BitVec.getLsbD_or, BitVec.getLsbD_twoPow] at t
    simpa [hj] using t.symm
  · intro h
    apply BitVec.eq_of_getLsbD_eq
    intro i hi
    rw [BitVec.getLsbD_or, BitVec.getLsbD_twoPow]
    by_cases e : j = i
    · subst e; rw [h, Bool.true_or]
    · simp [e]
theorem ts_and {w m : Int64} {j : Nat} (hj : j < 64) (hm : m.toBitVec = BitVec.twoPow 64 j) : (w &&& (m ^^^ (-1))) = w ↔ w.toBitVec.getLsbD j = false := by
  have ha : (-1 : Int64).toBitVec = BitVec.allOnes 64 := by decide
  rw [← Int64.toBitVec_inj, Int64.toBitVec_and, Int64.toBitVec_xor, hm, ha]
  constructor
  · intro h
    have t := congrArg (fun x => x.getLsbD j) h
    simp only [BitVec.getLsbD_and, BitVec.getLsbD_xor, BitVec.getLsbD_twoPow, BitVec.getLsbD_allOnes] at t
    simpa [hj] using t.symm
  · intro h
    apply BitVec.eq_of_getLsbD_eq
    intro i hi
    rw [BitVec.getLsbD_and, BitVec.getLsbD_xor, BitVec.getLsbD_twoPow, BitVec.getLsbD_allOnes]
    by_cases e : j = i
    · subst e; rw [h, Bool.false_and]
    · simp [e, hi]
/-! ===== lN n to 2^64: shifts, and, or, masks, one bit ===== -/
theorem wb_tb (n : Nat) : (lN n).toBitVec = BitVec.ofNat 64 n := rfl
theorem wb_inj {a b : Int64} (h : a.toBitVec = b.toBitVec) : a = b := Int64.toBitVec_inj.mp h
theorem wb_tn {n : Nat} (h : n < 2 ^ 64) : (lN n).toBitVec.toNat = n := by rw [wb_tb, BitVec.toNat_ofNat, Nat.mod_eq_of_lt h]
theorem wb_of (x : Int64) : ∃ n, n < 2 ^ 64 ∧ x = lN n := ⟨x.toBitVec.toNat, x.toBitVec.isLt, wb_inj (by rw [wb_tb]; simp)⟩
theorem wb_of32 (x : Int32) : ∃ n, n < 2 ^ 32 ∧ x = nI n := ⟨x.toBitVec.toNat, x.toBitVec.isLt, Int32.toBitVec_inj.mp (by show _ = BitVec.ofNat 32 _; simp)⟩
theorem wb_c : ∀ k, k < 64 → ((nI k).toInt64 &&& 63) = lN k := by decide +kernel
theorem wb_cu : ∀ k, k < 64 → ((nI k).toInt64.toUInt64 &&& Int64.toUInt64 63) = UInt64.ofNat k := by decide +kernel
theorem wb_sm : ∀ k, k < 64 → (BitVec.ofNat 64 k).smod 64 = BitVec.ofNat 64 k := by decide +kernel
theorem wb_pw {a b : Nat} (h : a ≤ b) : 2 ^ b = 2 ^ a * 2 ^ (b - a) := by rw [← Nat.pow_add]; congr 1; omega
theorem wb_lt2 {a b : Nat} (h : a < b) : 2 ^ a < 2 ^ b := Nat.pow_lt_pow_right (by decide) h
theorem wb_mod (n : Nat) : lN n = lN (n % 2 ^ 64) := wb_inj (by rw [wb_tb, wb_tb]; apply BitVec.eq_of_toNat_eq; rw [BitVec.toNat_ofNat, BitVec.toNat_ofNat, Nat.mod_mod])
theorem wb_shr {n k : Nat} (hn : n < 2 ^ 64) (hk : k < 64) : ((lN n).toUInt64 >>> ((nI k).toInt64.toUInt64 &&& Int64.toUInt64 63)).toInt64 = lN (n / 2 ^ k) := by
  rw [wb_cu k hk]
  apply wb_inj
  apply BitVec.eq_of_toNat_eq
  show ((lN n).toUInt64 >>> UInt64.ofNat k).toNat = (BitVec.ofNat 64 _).toNat
  have h1 : (UInt64.ofNat k).toNat = k := by
    show (BitVec.ofNat 64 k).toNat = k
    rw [BitVec.toNat_ofNat, Nat.mod_eq_of_lt (by omega)]
  have h2 : (lN n).toUInt64.toNat = n := wb_tn hn
  rw [UInt64.toNat_shiftRight, h1, h2, Nat.mod_eq_of_lt hk, Nat.shiftRight_eq_div_pow, BitVec.toNat_ofNat, Nat.mod_eq_of_lt (Nat.lt_of_le_of_lt (Nat.div_le_self _ _) hn)]
theorem wb_shl (n : Nat) {k : Nat} (hk : k < 64) : lN n <<< ((nI k).toInt64 &&& 63) = lN (n * 2 ^ k) := by
  rw [wb_c k hk]
  apply wb_inj
  rw [Int64.toBitVec_shiftLeft, wb_tb, wb_tb, wb_tb, wb_sm k hk]
  apply BitVec.eq_of_toNat_eq
  rw [BitVec.shiftLeft_eq', BitVec.toNat_shiftLeft, BitVec.toNat_ofNat, BitVec.toNat_ofNat, BitVec.toNat_ofNat, Nat.mod_eq_of_lt (show k < 2 ^ 64 by omega), Nat.shiftLeft_eq, Nat.mul_mod, Nat.mod_mod, ← Nat.mul_mod]
theorem wb_and {a b : Nat} (ha : a < 2 ^ 64) (hb : b < 2 ^ 64) : lN a &&& lN b = lN (a &&& b) := by
  apply wb_inj
  rw [Int64.toBitVec_and, wb_tb, wb_tb, wb_tb]
  apply BitVec.eq_of_toNat_eq
  rw [BitVec.toNat_and, BitVec.toNat_ofNat, BitVec.toNat_ofNat, BitVec.toNat_ofNat, Nat.mod_eq_of_lt ha, Nat.mod_eq_of_lt hb, Nat.mod_eq_of_lt (Nat.and_lt_two_pow _ hb)]
theorem wb_or {a b : Nat} (ha : a < 2 ^ 64) (hb : b < 2 ^ 64) : lN a ||| lN b = lN (a ||| b) := by
  apply wb_inj
  rw [Int64.toBitVec_or, wb_tb, wb_tb, wb_tb]
  apply BitVec.eq_of_toNat_eq
  rw [BitVec.toNat_or, BitVec.toNat_ofNat, BitVec.toNat_ofNat, BitVec.toNat_ofNat, Nat.mod_eq_of_lt ha, Nat.mod_eq_of_lt hb, Nat.mod_eq_of_lt (Nat.or_lt_two_pow ha hb)]
theorem wb_mask {n k : Nat} (hn : n < 2 ^ 64) (hk : k < 64) : lN n &&& lN (2 ^ k - 1) = lN (n % 2 ^ k) := by
  rw [wb_and hn (by have := wb_lt2 hk; omega), Nat.and_two_pow_sub_one_eq_mod]
theorem wb_a1 {n : Nat} (hn : n < 2 ^ 64) : lN n &&& 1 = lN (n % 2) := wb_mask (k := 1) hn (by decide)
theorem wb_bit {n k : Nat} (hn : n < 2 ^ 64) (hk : k < 64) : ((lN n).toUInt64 >>> ((nI k).toInt64.toUInt64 &&& Int64.toUInt64 63)).toInt64 &&& 1 = lN (n / 2 ^ k % 2) := by
  rw [wb_shr hn hk, wb_a1 (Nat.lt_of_le_of_lt (Nat.div_le_self _ _) hn)]
theorem wb_xor {q k : Nat} (hk : k < 63) (h : 2 ^ k ≤ q) (h2 : q < 2 ^ (k + 1)) : lN q ^^^ lN (2 ^ k) = lN (q - 2 ^ k) := by
  obtain ⟨r, rfl⟩ : ∃ r, q = 2 ^ k + r := ⟨q - 2 ^ k, by omega⟩
  have hr : r < 2 ^ k := by rw [Nat.pow_succ] at h2; omega
  have hx : (2 ^ k + r) ^^^ 2 ^ k = r := by
    apply Nat.eq_of_testBit_eq
    intro i
    rw [Nat.testBit_xor, Nat.testBit_two_pow]
    rcases Nat.lt_trichotomy i k with h | h | h
    · rw [Nat.testBit_two_pow_add_gt h]
      simp [show ¬ k = i by omega]
    · subst h
      rw [Nat.testBit_two_pow_add_eq]
      simp
    · have a1 : 2 ^ (k + 1) ≤ 2 ^ i := Nat.pow_le_pow_right (by decide) h
      rw [Nat.testBit_lt_two_pow (show 2 ^ k + r < 2 ^ i by omega), Nat.testBit_lt_two_pow (show r < 2 ^ i by omega)]
      simp [show ¬ k = i by omega]
  have b1 := wb_lt2 (show k + 1 < 64 by omega)
  have b2 := wb_lt2 (show k < 64 by omega)
  apply wb_inj
  rw [Int64.toBitVec_xor, wb_tb, wb_tb, wb_tb]
  apply BitVec.eq_of_toNat_eq
  rw [BitVec.toNat_xor, BitVec.toNat_ofNat, BitVec.toNat_ofNat, BitVec.toNat_ofNat, Nat.mod_eq_of_lt (by omega : 2 ^ k + r < 2 ^ 64), Nat.mod_eq_of_lt b2, hx, Nat.add_sub_cancel_left, Nat.mod_eq_of_lt (by omega)]
/-! ===== lN: masks, 'or' of parts that don't overlap is a sum ===== -/
theorem u_tn {n : Nat} (h : n < 2 ^ 64) : (UInt64.ofNat n).toNat = n := Nat.mod_eq_of_lt h
theorem g_and {a b c : Nat} (ha : a < 2 ^ 64) (hb : b < 2 ^ 64) (hc : a &&& b = c) : lN a &&& lN b = lN c := by
  subst hc
  have h : UInt64.ofNat a &&& UInt64.ofNat b = UInt64.ofNat (a &&& b) := UInt64.toNat_inj.mp (by rw [UInt64.toNat_and, u_tn ha, u_tn hb, u_tn (Nat.and_lt_two_pow a hb)])
  have h2 := congrArg UInt64.toInt64 h
  exact h2
theorem g_and1 {a : Nat} (ha : a < 2 ^ 64) : lN a &&& 1 = lN (a % 2) := g_and (b := 1) ha (by decide) (Nat.and_two_pow_sub_one_eq_mod a 1)
theorem g_mask {a s p : Nat} (hp : 2 ^ s = p) (hs : s < 64) (ha : a < 2 ^ 64) : lN a &&& lN (p - 1) = lN (a % p) := by
  subst hp
  have := Nat.pow_lt_pow_right (show 1 < 2 by decide) hs
  exact g_and ha (by omega) (Nat.and_two_pow_sub_one_eq_mod a s)
theorem g_or {k p a b : Nat} (hp : 2 ^ k = p) (ha : a < p) (h : b * p + a < 2 ^ 64) : lN (b * p) ||| lN a = lN (b * p + a) := by
  subst hp
  have h1 : b * 2 ^ k ||| a = b * 2 ^ k + a := by rw [← Nat.shiftLeft_eq, Nat.shiftLeft_add_eq_or_of_lt ha]
  have h3 : UInt64.ofNat (b * 2 ^ k) ||| UInt64.ofNat a = UInt64.ofNat (b * 2 ^ k + a) := UInt64.toNat_inj.mp (by rw [UInt64.toNat_or, u_tn (by omega), u_tn (by omega), u_tn h, h1])
  have h2 := congrArg UInt64.toInt64 h3
  exact h2
theorem g_or' {k p a b : Nat} (hp : 2 ^ k = p) (ha : a < p) (h : a + b * p < 2 ^ 64) : lN a ||| lN (b * p) = lN (a + b * p) := by
  rw [Int64.or_comm, g_or hp ha (by omega), Nat.add_comm]
theorem g_ushr {a k p : Nat} {y : UInt64} (hy : y = UInt64.ofNat k) (hk : k < 64) (hp : 2 ^ k = p) (ha : a < 2 ^ 64) : ((lN a).toUInt64 >>> y).toInt64 = lN (a / p) := by
  subst hy hp
  have h : UInt64.ofNat a >>> UInt64.ofNat k = UInt64.ofNat (a / 2 ^ k) := UInt64.toNat_inj.mp (by rw [UInt64.toNat_shiftRight, u_tn ha, u_tn (by omega), u_tn (Nat.lt_of_le_of_lt (Nat.div_le_self _ _) ha), Nat.mod_eq_of_lt hk, Nat.shiftRight_eq_div_pow])
  have h2 := congrArg UInt64.toInt64 h
  exact h2
theorem g_shl {a k p : Nat} {y : Int64} (hy : y.toBitVec.smod 64 = BitVec.ofNat 64 k) (hk : k < 64) (hp : 2 ^ k = p) (ha : a < 2 ^ 64) : lN a <<< y = lN (a * p) := by
  subst hp
  apply Int64.toBitVec_inj.mp
  rw [Int64.toBitVec_shiftLeft, hy]
  apply BitVec.eq_of_toNat_eq
  have hb : (lN a).toBitVec.toNat = a := Nat.mod_eq_of_lt ha
  have hk' : (BitVec.ofNat 64 k).toNat = k := Nat.mod_eq_of_lt (by omega)
  have h : ((lN a).toBitVec <<< BitVec.ofNat 64 k).toNat = (a * 2 ^ k) % 2 ^ 64 := by simp only [BitVec.shiftLeft_eq', BitVec.toNat_shiftLeft, hb, hk', Nat.shiftLeft_eq]
  exact h
/-! ===== lN to 2^62 under >> and >>> ===== -/
theorem pf_lI {a : Nat} (h : a < 2 ^ 63) : (lN a).toInt = (a : Int) := lg_ofNat_toInt h
theorem pf_shr {a d : Nat} {D : Int64} (hD : (D.toBitVec.smod 64).toNat = d) (h : a < 2 ^ 62) : lN a >>> D = lN (a / 2 ^ d) := by
  have hd : a / 2 ^ d ≤ a := Nat.div_le_self _ _
  apply Int64.toInt_inj.mp
  have e : (lN a >>> D).toInt = (lN a).toInt >>> d := by
    rw [← hD]
    exact BitVec.toInt_sshiftRight ..
  rw [e, Int.shiftRight_eq_div_pow, pf_lI (by omega), pf_lI (by omega)]
  rfl
theorem pf_ushr {a d : Nat} {D : UInt64} (hD : D.toNat % 64 = d) (h : a < 2 ^ 62) : ((lN a).toUInt64 >>> D).toInt64 = lN (a / 2 ^ d) := by
  have hd : a / 2 ^ d ≤ a := Nat.div_le_self _ _
  have e : (lN a).toUInt64 >>> D = UInt64.ofNat (a / 2 ^ d) := UInt64.toNat_inj.mp (by
    rw [UInt64.toNat_shiftRight, hD, Nat.shiftRight_eq_div_pow, UInt64.toNat_ofNat']
    show (UInt64.ofNat a).toNat / 2 ^ d = _
    rw [UInt64.toNat_ofNat', Nat.mod_eq_of_lt (by omega), Nat.mod_eq_of_lt (by omega)])
  rw [e]
  rfl
theorem pf_andw (x : Int64) : ∃ m, m < 2 ^ 32 ∧ x &&& 4294967295 = lN m := ⟨x.toBitVec.toNat % 2 ^ 32, Nat.mod_lt _ (by decide), Int64.toBitVec_inj.mp (BitVec.eq_of_toNat_eq (by
  show (x.toBitVec &&& 4294967295#64).toNat = (BitVec.ofNat 64 (x.toBitVec.toNat % 2 ^ 32)).toNat
  rw [BitVec.toNat_and, show (4294967295#64).toNat = 2 ^ 32 - 1 from by decide, Nat.and_two_pow_sub_one_eq_mod, BitVec.toNat_ofNat]
  omega))⟩
/-! ===== Int64 as an unsigned number: uN x ===== -/
def uN (x : Int64) : Nat := x.toUInt64.toNat
theorem uN_lt (x : Int64) : uN x < 18446744073709551616 := x.toUInt64.toNat_lt
theorem uN_inj {x y : Int64} (h : uN x = uN y) : x = y := congrArg UInt64.toInt64 (UInt64.toNat_inj.mp h)
theorem uN_add (x y : Int64) : uN (x + y) = (uN x + uN y) % 18446744073709551616 := by
  show (x.toUInt64 + y.toUInt64).toNat = _
  exact UInt64.toNat_add _ _
theorem uN_mul (x y : Int64) : uN (x * y) = (uN x * uN y) % 18446744073709551616 := by
  show (x.toUInt64 * y.toUInt64).toNat = _
  exact UInt64.toNat_mul _ _
theorem uN_shl (x : Int64) : uN (x <<< ((1 : Int32).toInt64 &&& 63)) = (2 * uN x) % 18446744073709551616 := by
  have h : (((1 : Int32).toInt64 &&& 63).toBitVec.smod 64).toNat = 1 := by decide
  show (x.toBitVec <<< (((1 : Int32).toInt64 &&& 63).toBitVec.smod 64).toNat).toNat = _
  rw [h, BitVec.toNat_shiftLeft, Nat.shiftLeft_eq, Nat.mul_comm]
  rfl
theorem uN_shr (x : Int64) (s : UInt64) : uN (x.toUInt64 >>> s).toInt64 = uN x / 2 ^ (s.toNat % 64) := by
  show (x.toUInt64 >>> s).toNat = _
  rw [UInt64.toNat_shiftRight, Nat.shiftRight_eq_div_pow]
  rfl
theorem uN_s32 (x : Int64) : uN (x.toUInt64 >>> ((32 : Int32).toInt64.toUInt64 &&& Int64.toUInt64 63)).toInt64 = uN x / 4294967296 := by
  have h : ((32 : Int32).toInt64.toUInt64 &&& Int64.toUInt64 63).toNat % 64 = 32 := by decide
  rw [uN_shr, h]
theorem uN_s63 (x : Int64) : uN (x.toUInt64 >>> ((63 : Int32).toInt64.toUInt64 &&& Int64.toUInt64 63)).toInt64 = uN x / 9223372036854775808 := by
  have h : ((63 : Int32).toInt64.toUInt64 &&& Int64.toUInt64 63).toNat % 64 = 63 := by decide
  rw [uN_shr, h]
theorem uN_lo (x : Int64) : uN (x &&& 4294967295) = uN x % 4294967296 := by
  show (x.toUInt64 &&& Int64.toUInt64 4294967295).toNat = _
  rw [UInt64.toNat_and]
  exact Nat.and_two_pow_sub_one_eq_mod _ 32
theorem uN_bit (x : Int64) : (x &&& 1) = 0 ↔ uN x % 2 = 0 := by
  have h : uN (x &&& 1) = uN x % 2 := by
    show (x.toUInt64 &&& Int64.toUInt64 1).toNat = _
    rw [UInt64.toNat_and]
    exact Nat.and_two_pow_sub_one_eq_mod _ 1
  rw [← h]
  exact ⟨fun z => by rw [z]; rfl, fun z => uN_inj (z.trans rfl)⟩
theorem uN_or {x y : Int64} (hy : uN y < 2) : uN ((x <<< ((1 : Int32).toInt64 &&& 63)) ||| y) = (2 * uN x) % 18446744073709551616 + uN y := by
  have h1 : uN ((x <<< ((1 : Int32).toInt64 &&& 63)) ||| y) = uN (x <<< ((1 : Int32).toInt64 &&& 63)) ||| uN y := UInt64.toNat_or _ _
  have h2 : (2 * uN x) % 18446744073709551616 = 2 ^ 1 * (uN x % 9223372036854775808) := by omega
  rw [h1, uN_shl, h2]
  exact (Nat.two_pow_add_eq_or_of_lt (i := 1) hy _).symm
theorem nat_xor {a : Nat} (h : a < 18446744073709551616) : a ^^^ 2 ^ 63 = (a + 9223372036854775808) % 18446744073709551616 := by
  have h1 : (a ^^^ 2 ^ 63) % 2 ^ 63 = a % 2 ^ 63 := by rw [Nat.xor_mod_two_pow, Nat.mod_self, Nat.xor_zero]
  have h2 : (a ^^^ 2 ^ 63) / 2 ^ 63 = (a / 2 ^ 63) ^^^ 1 := by rw [Nat.xor_div_two_pow, Nat.div_self (Nat.two_pow_pos 63)]
  have h3 : a / 2 ^ 63 = 0 ∨ a / 2 ^ 63 = 1 := by omega
  generalize a ^^^ 2 ^ 63 = t at h1 h2
  rcases h3 with h3 | h3
  · rw [h3] at h2
    have h2 : t / 2 ^ 63 = 1 := h2
    omega
  · rw [h3] at h2
    have h2 : t / 2 ^ 63 = 0 := h2
    omega
theorem uN_xor (x : Int64) : uN (x ^^^ (-9223372036854775808)) = (uN x + 9223372036854775808) % 18446744073709551616 := by
  rw [← nat_xor (uN_lt x)]
  exact UInt64.toNat_xor _ _
theorem uN_int (x : Int64) : x.toInt = if 2 * uN x < 18446744073709551616 then (uN x : Int) else (uN x : Int) - 18446744073709551616 := BitVec.toInt_eq_toNat_cond _
theorem uN_le (x y : Int64) : (x ^^^ (-9223372036854775808)) ≤ (y ^^^ (-9223372036854775808)) ↔ uN x ≤ uN y := by
  have hx := uN_lt x
  have hy := uN_lt y
  rw [Int64.le_iff_toInt_le, uN_int, uN_int, uN_xor, uN_xor]
  omega
theorem uN_sk (x : Int64) {k : Nat} (hk : k < 64) : uN (x.toUInt64 >>> ((nI k).toInt64.toUInt64 &&& Int64.toUInt64 63)).toInt64 = uN x / 2 ^ k := by
  have h : ((nI k).toInt64.toUInt64 &&& Int64.toUInt64 63).toNat % 64 = k := by
    rw [nI_l (by omega), UInt64.toNat_and]
    have e : (lN k).toUInt64.toNat = k % 2 ^ 64 := rfl
    have e2 : (Int64.toUInt64 63).toNat = 2 ^ 6 - 1 := by decide
    rw [e, e2, Nat.and_two_pow_sub_one_eq_mod]
    omega
  rw [uN_shr, h]
/-! ===== unsigned comparison by xor with the least ===== -/
theorem lN_bv (n : Nat) : (lN n).toBitVec = BitVec.ofNat 64 n := rfl
theorem lN_nat {n : Nat} (h : n < 2 ^ 64) : (lN n).toBitVec.toNat = n := by rw [lN_bv, BitVec.toNat_ofNat]; exact Nat.mod_eq_of_lt h
theorem lN_xor (a b : Nat) : lN a ^^^ lN b = lN (a ^^^ b) := by
  apply Int64.toBitVec_inj.mp; rw [Int64.toBitVec_xor, lN_bv, lN_bv, lN_bv]; apply BitVec.eq_of_getLsbD_eq; intro i hi; simp [BitVec.getLsbD_ofNat, Nat.testBit_xor, hi]
theorem lN_ti {m : Nat} (h : m < 2 ^ 64) : (lN m).toInt = if m < 2 ^ 63 then (m : Int) else (m : Int) - 2 ^ 64 := by
  have c := BitVec.toInt_eq_toNat_cond (lN m).toBitVec
  rw [lN_nat h] at c
  show (lN m).toBitVec.toInt = _
  rw [c]
  split <;> split <;> omega
theorem xor63 {x : Nat} (h : x < 2 ^ 63) : x ^^^ 2 ^ 63 = 2 ^ 63 + x := by
  apply Nat.eq_of_testBit_eq
  intro i
  rw [Nat.testBit_xor, Nat.testBit_two_pow]
  rcases Nat.lt_trichotomy i 63 with z | z | z
  · rw [Nat.testBit_two_pow_add_gt z, decide_eq_false (by omega)]; simp
  · subst z; rw [Nat.testBit_two_pow_add_eq]; simp
  · have hp : 2 ^ 64 ≤ 2 ^ i := Nat.pow_le_pow_right (by decide) z
    rw [Nat.testBit_lt_two_pow (show x < 2 ^ i by omega), Nat.testBit_lt_two_pow (show 2 ^ 63 + x < 2 ^ i by omega), decide_eq_false (by omega)]; rfl
theorem xorS {a : Nat} (h : a < 2 ^ 64) : (lN a ^^^ (-9223372036854775808)).toInt = (a : Int) - 2 ^ 63 := by
  rw [show (-9223372036854775808 : Int64) = lN (2 ^ 63) from by decide +kernel, lN_xor]
  rcases Nat.lt_or_ge a (2 ^ 63) with z | z
  · rw [xor63 z, lN_ti (by omega), if_neg (by omega)]; omega
  · obtain ⟨x, rfl⟩ : ∃ x, a = 2 ^ 63 + x := ⟨a - 2 ^ 63, by omega⟩
    rw [← xor63 (by omega), Nat.xor_assoc, Nat.xor_self, Nat.xor_zero, lN_ti (by omega), if_pos (by omega), xor63 (by omega)]; omega
theorem ultL {a b : Nat} (ha : a < 2 ^ 64) (hb : b < 2 ^ 64) : ((lN b ^^^ (-9223372036854775808)) ≤ (lN a ^^^ (-9223372036854775808))) ↔ b ≤ a := by
  rw [Int64.le_iff_toInt_le, xorS ha, xorS hb]; omega
/-! ===== Int64 masks of n low bits ===== -/
theorem cr_bits (W U M : BitVec 64) : ((W &&& U) &&& (U &&& (M ^^^ BitVec.allOnes 64))) = 0#64 ↔ (W &&& U) &&& M = W &&& U := by
  constructor
  · intro h
    apply BitVec.eq_of_getLsbD_eq
    intro i hi
    have e := congrArg (fun x => BitVec.getLsbD x i) h
    simp only [BitVec.getLsbD_and, BitVec.getLsbD_xor, BitVec.getLsbD_allOnes, BitVec.getLsbD_zero, hi, decide_true] at e ⊢
    revert e
    cases W.getLsbD i <;> cases U.getLsbD i <;> cases M.getLsbD i <;> decide
  · intro h
    apply BitVec.eq_of_getLsbD_eq
    intro i hi
    have e := congrArg (fun x => BitVec.getLsbD x i) h
    simp only [BitVec.getLsbD_and, BitVec.getLsbD_xor, BitVec.getLsbD_allOnes, BitVec.getLsbD_zero, hi, decide_true] at e ⊢
    revert e
    cases W.getLsbD i <;> cases U.getLsbD i <;> cases M.getLsbD i <;> decide
theorem cr_mask (w U m : Int64) (n : Nat) (hm : m.toBitVec.toNat = 2 ^ n - 1) : ((w &&& U) &&& (U &&& (m ^^^ (-1)))) = 0 ↔ (w &&& U).toBitVec.toNat < 2 ^ n := by
  have e0 : (-1 : Int64).toBitVec = BitVec.allOnes 64 := by decide
  have z0 : (0 : Int64).toBitVec = 0#64 := by decide
  rw [← Int64.toBitVec_inj, z0, Int64.toBitVec_and, Int64.toBitVec_and, Int64.toBitVec_and, Int64.toBitVec_xor, e0, cr_bits]
  generalize w.toBitVec &&& U.toBitVec = T
  rw [← BitVec.toNat_inj, BitVec.toNat_and, hm, Nat.and_two_pow_sub_one_eq_mod]
  constructor
  · intro h
    have t := Nat.mod_lt T.toNat (Nat.two_pow_pos n)
    rw [h] at t
    exact t
  · exact Nat.mod_eq_of_lt
theorem cr_shr (t : Int64) (x : UInt64) (n : Nat) (hx : x.toNat % 64 = n) : (t.toUInt64 >>> x).toInt64 = 0 ↔ t.toBitVec.toNat < 2 ^ n := by
  rw [← Int64.toBitVec_inj, ← BitVec.toNat_inj]
  show (t.toUInt64 >>> x).toNat = 0 ↔ t.toUInt64.toNat < 2 ^ n
  rw [UInt64.toNat_shiftRight, hx, Nat.shiftRight_eq_div_pow]
  constructor
  · intro h
    have d : t.toUInt64.toNat / 2 ^ n < 1 := by
      rw [h]
      decide
    have e := (Nat.div_lt_iff_lt_mul (Nat.two_pow_pos n)).mp d
    rw [Nat.one_mul] at e
    exact e
  · exact Nat.div_eq_of_lt
theorem cr_amt (s : Int64) : ∃ n, n < 64 ∧ s &&& 63 = lN n ∧ (s.toUInt64 &&& Int64.toUInt64 63).toNat % 64 = n := by
  have e : (s.toUInt64 &&& Int64.toUInt64 63).toNat = s.toUInt64.toNat % 2 ^ 6 := by
    rw [UInt64.toNat_and, show (Int64.toUInt64 63).toNat = 2 ^ 6 - 1 from by decide, Nat.and_two_pow_sub_one_eq_mod]
  refine ⟨s.toUInt64.toNat % 2 ^ 6, by omega, ?_, by omega⟩
  rw [← Int64.toBitVec_inj, ← BitVec.toNat_inj]
  show (s.toUInt64 &&& Int64.toUInt64 63).toNat = (BitVec.ofNat 64 (s.toUInt64.toNat % 2 ^ 6)).toNat
  rw [e, BitVec.toNat_ofNat]
  omega
end
section
/-! pointwise writes, sums, casts -/
def si_fu {α : Type} (P : Nat → α) (c : Nat) (r : α) : Nat → α := fun d => if d = c then r else P d
theorem si_fs {α : Type} {P : Nat → α} {c : Nat} {r : α} : si_fu P c r c = r := if_pos rfl
theorem si_fn {α : Type} {P : Nat → α} {c d : Nat} {r : α} (h : d ≠ c) : si_fu P c r d = P d := if_neg h
theorem si_nm {c d : Nat} {l : List Nat} (h : c ∉ l) (hd : d ∈ l) : d ≠ c := fun z => h (z ▸ hd)
def ai_N (f : Nat → Nat) : Nat → Int32 := fun i => nI (f i)
theorem ai_up (f : Nat → Nat) (k x : Nat) : upd (ai_N f) k (nI x) = ai_N (si_fu f k x) := by
  funext j
  unfold upd ai_N si_fu
  by_cases h : j = k
  · rw [if_pos h, if_pos h]
  · rw [if_neg h, if_neg h]
def sm_N (f : Nat → Nat) : Nat → Nat
  | 0 => 0
  | n + 1 => sm_N f n + f n
def sm_Z (f : Nat → Int) : Nat → Int
  | 0 => 0
  | n + 1 => sm_Z f n + f n
theorem sm_N_eq {f g : Nat → Nat} : ∀ {n : Nat}, (∀ i, i < n → f i = g i) → sm_N f n = sm_N g n
  | 0, _ => rfl
  | n + 1, h => by
    have a := sm_N_eq (f := f) (g := g) (n := n) (fun i hi => h i (by omega))
    have b := h n (by omega)
    simp only [sm_N]; omega
theorem sm_Z_eq {f g : Nat → Int} : ∀ {n : Nat}, (∀ i, i < n → f i = g i) → sm_Z f n = sm_Z g n
  | 0, _ => rfl
  | n + 1, h => by
    have a := sm_Z_eq (f := f) (g := g) (n := n) (fun i hi => h i (by omega))
    have b := h n (by omega)
    simp only [sm_Z]; omega
theorem sm_N_one {f g : Nat → Nat} {i : Nat} : ∀ {n : Nat}, i < n → (∀ j, j < n → j ≠ i → f j = g j) → sm_N f n + g i = sm_N g n + f i
  | 0, h, _ => by omega
  | n + 1, h, e => by
    simp only [sm_N]
    by_cases z : i = n
    · subst z
      have a := sm_N_eq (f := f) (g := g) (n := i) (fun j hj => e j (by omega) (by omega))
      omega
    · have a := sm_N_one (f := f) (g := g) (i := i) (n := n) (by omega) (fun j hj => e j (by omega))
      have b := e n (by omega) (fun q => z q.symm)
      omega
theorem sm_Z_one {f g : Nat → Int} {i : Nat} : ∀ {n : Nat}, i < n → (∀ j, j < n → j ≠ i → f j = g j) → sm_Z f n + g i = sm_Z g n + f i
  | 0, h, _ => by omega
  | n + 1, h, e => by
    simp only [sm_Z]
    by_cases z : i = n
    · subst z
      have a := sm_Z_eq (f := f) (g := g) (n := i) (fun j hj => e j (by omega) (by omega))
      omega
    · have a := sm_Z_one (f := f) (g := g) (i := i) (n := n) (by omega) (fun j hj => e j (by omega))
      have b := e n (by omega) (fun q => z q.symm)
      omega
theorem sm_N_le {f g : Nat → Nat} : ∀ {n : Nat}, (∀ i, i < n → f i ≤ g i) → sm_N f n ≤ sm_N g n
  | 0, _ => Nat.le_refl _
  | n + 1, h => by
    have a := sm_N_le (f := f) (g := g) (n := n) (fun i hi => h i (by omega))
    have b := h n (by omega)
    simp only [sm_N]; omega
theorem sm_N_cst (k : Nat) : ∀ n : Nat, sm_N (fun _ => k) n = k * n
  | 0 => rfl
  | n + 1 => by simp only [sm_N]; rw [sm_N_cst k n, Nat.mul_succ]
theorem sm_N_pos {f : Nat → Nat} {i : Nat} : ∀ {n : Nat}, i < n → 0 < f i → 0 < sm_N f n
  | 0, h, _ => by omega
  | n + 1, h, e => by
    simp only [sm_N]
    by_cases z : i = n
    · subst z; omega
    · have := sm_N_pos (f := f) (i := i) (n := n) (by omega) e
      omega
theorem sm_N_zero {f : Nat → Nat} : ∀ {n : Nat}, sm_N f n = 0 → ∀ i, i < n → f i = 0
  | 0, _, i, h => by omega
  | n + 1, e, i, h => by
    simp only [sm_N] at e
    by_cases z : i = n
    · subst z; omega
    · exact sm_N_zero (f := f) (n := n) (by omega) i (by omega)
theorem sm_N_ex {f : Nat → Nat} : ∀ {n : Nat}, 0 < sm_N f n → ∃ i, i < n ∧ 0 < f i
  | 0, h => by simp only [sm_N] at h; omega
  | n + 1, h => by
    simp only [sm_N] at h
    by_cases z : 0 < f n
    · exact ⟨n, by omega, z⟩
    · obtain ⟨i, hi, e⟩ := sm_N_ex (f := f) (n := n) (by omega)
      exact ⟨i, by omega, e⟩
theorem sm_N_add (f g : Nat → Nat) : ∀ n : Nat, sm_N (fun i => f i + g i) n = sm_N f n + sm_N g n
  | 0 => rfl
  | n + 1 => by simp only [sm_N]; rw [sm_N_add f g n]; omega
theorem sm_N_lo {f : Nat → Nat} {i : Nat} : ∀ {n : Nat}, i < n → f i ≤ sm_N f n
  | 0, h => by omega
  | n + 1, h => by
    simp only [sm_N]
    by_cases z : i = n
    · subst z; omega
    · have := sm_N_lo (f := f) (i := i) (n := n) (by omega)
      omega
/-- how many events wait -/
def qu_n (ev : Nat → Nat) : Nat := sm_N (fun c => if ev c = 0 then 0 else 1) 12
theorem qu_n_le (ev : Nat → Nat) : qu_n ev ≤ 12 := by
  have h := sm_N_le (f := fun c => if ev c = 0 then 0 else 1) (g := fun _ => 1) (n := 12) (fun i _ => by (try dsimp only); split <;> omega)
  rw [sm_N_cst] at h
  exact h
theorem qu_n_put {ev : Nat → Nat} {c e : Nat} (hc : c < 12) (h0 : ev c = 0) (he : e ≠ 0) : qu_n (si_fu ev c e) = qu_n ev + 1 := by
  have h := sm_N_one (f := fun d => if si_fu ev c e d = 0 then 0 else 1) (g := fun d => if ev d = 0 then 0 else 1) (i := c) (n := 12) hc (fun j _ hj => by (try dsimp only); rw [si_fn hj])
  (try dsimp only at h)
  rw [si_fs, if_neg he, if_pos h0] at h
  exact h
theorem qu_n_cut {ev : Nat → Nat} {c : Nat} (hc : c < 12) (h0 : ev c ≠ 0) : qu_n (si_fu ev c 0) + 1 = qu_n ev := by
  have h := sm_N_one (f := fun d => if si_fu ev c 0 d = 0 then 0 else 1) (g := fun d => if ev d = 0 then 0 else 1) (i := c) (n := 12) hc (fun j _ hj => by (try dsimp only); rw [si_fn hj])
  (try dsimp only at h)
  rw [si_fs, if_pos rfl, if_neg h0] at h
  exact h
theorem qu_n_pos {ev : Nat → Nat} {c : Nat} (hc : c < 12) (h0 : ev c ≠ 0) : 0 < qu_n ev :=
  sm_N_pos (f := fun d => if ev d = 0 then 0 else 1) (i := c) hc (by (try dsimp only); rw [if_neg h0]; omega)
theorem qu_n_ex {ev : Nat → Nat} (h : 0 < qu_n ev) : ∃ c, c < 12 ∧ ev c ≠ 0 := by
  obtain ⟨c, hc, e⟩ := sm_N_ex h
  refine ⟨c, hc, fun z => ?_⟩
  (try dsimp only at e)
  rw [if_pos z] at e
  omega
/-- an event knows its customer -/
def qu_E (ev : Nat → Nat) : Prop := ∀ c, ev c ≠ 0 → c < 12 ∧ ev c % 16 = c ∧ ev c < 65536
theorem qu_E_lt {ev : Nat → Nat} (h : qu_E ev) (c : Nat) : ev c < 65536 := by
  by_cases z : ev c = 0
  · omega
  · exact (h c z).2.2
theorem qu_E_inj {ev : Nat → Nat} (h : qu_E ev) {c d : Nat} (hc : ev c ≠ 0) (e : ev c = ev d) : c = d := by
  have a := (h c hc).2.1
  have b := (h d (by omega)).2.1
  omega
theorem qu_E_put {ev : Nat → Nat} {c e : Nat} (h : qu_E ev) (hc : c < 12) (he : e % 16 = c) (hb : e < 65536) : qu_E (si_fu ev c e) := by
  intro d hd
  by_cases z : d = c
  · subst z; rw [si_fs]; exact ⟨hc, he, hb⟩
  · rw [si_fn z] at hd ⊢; exact h d hd
theorem qu_E_cut {ev : Nat → Nat} {c : Nat} (h : qu_E ev) : qu_E (si_fu ev c 0) := by
  intro d hd
  by_cases z : d = c
  · subst z; rw [si_fs] at hd; exact absurd rfl hd
  · rw [si_fn z] at hd ⊢; exact h d hd
/-- the least event -/
def qu_M (ev : Nat → Nat) (c : Nat) : Prop := c < 12 ∧ ev c ≠ 0 ∧ ∀ d, ev d ≠ 0 → ev c ≤ ev d
theorem qu_M_ex {ev : Nat → Nat} (h : qu_E ev) (hn : 0 < qu_n ev) : ∃ c, qu_M ev c := by
  obtain ⟨c, hc, e⟩ := qu_n_ex hn
  obtain ⟨m, ⟨d, hd, hm⟩, hl⟩ := pk_least (fun m => ∃ d, ev d ≠ 0 ∧ ev d = m) ⟨ev c, c, e, rfl⟩
  refine ⟨d, (h d hd).1, hd, fun x hx => ?_⟩
  rcases Nat.lt_or_ge (ev x) m with z | z
  · exact absurd ⟨x, hx, rfl⟩ (hl _ z)
  · omega
theorem qu_M_uniq {ev : Nat → Nat} (h : qu_E ev) {c d : Nat} (hc : qu_M ev c) (hd : qu_M ev d) : c = d :=
  qu_E_inj h hc.2.1 (Nat.le_antisymm (hc.2.2 d hd.2.1) (hd.2.2 c hc.2.1))
/-- small numbers in bytes -/
theorem by_n : ∀ c, c < 128 → (nI c).toInt8.toInt32 = nI c := by decide +kernel
theorem by_m : ((-1 : Int32)).toInt8.toInt32 = -1 := by decide
theorem by_1 {c : Nat} (h : c < 128) : vp_nar .byte (nI c) = nI c := by rw [vp_nar_byte, by_n c h]
theorem by_2 {c : Nat} (h : c < 128) : vp_nar .byte (nI c).toInt8.toInt32 = nI c := by rw [by_n c h, by_1 h]
theorem by_3 : vp_nar .byte (-1) = -1 := by rw [vp_nar_byte, by_m]
theorem by_4 : vp_nar .byte ((-1 : Int32)).toInt8.toInt32 = -1 := by rw [by_m, by_3]
/-- chains -/
def ch_L (nx : Nat → Int32) : List Nat → Int32 → Prop
  | [], x => x = -1
  | c :: l, x => x = nI c ∧ c < 12 ∧ ch_L nx l (nx c)
theorem ch_up {nx : Nat → Int32} {y : Nat} {v : Int32} : ∀ {l : List Nat} {x : Int32}, y ∉ l → ch_L nx l x → ch_L (upd nx y v) l x
  | [], _, _, h => h
  | c :: l, x, hy, h => by
    refine ⟨h.1, h.2.1, ?_⟩
    have e : c ≠ y := fun z => hy (z ▸ List.mem_cons_self)
    rw [pk_un e]
    exact ch_up (fun z => hy (List.mem_cons_of_mem _ z)) h.2.2
theorem ch_b1 {nx : Nat → Int32} : ∀ {l : List Nat} {x : Int32}, ch_L nx l x → vp_nar .byte x = x
  | [], _, h => by cases h; exact by_3
  | c :: l, x, h => by rw [h.1]; exact by_1 (by have := h.2.1; omega)
theorem ch_b2 {nx : Nat → Int32} : ∀ {l : List Nat} {x : Int32}, ch_L nx l x → vp_nar .byte x.toInt8.toInt32 = x
  | [], _, h => by cases h; exact by_4
  | c :: l, x, h => by rw [h.1]; exact by_2 (by have := h.2.1; omega)
theorem ch_lt {nx : Nat → Int32} : ∀ {l : List Nat} {x : Int32}, ch_L nx l x → ∀ c, c ∈ l → c < 12
  | [], _, _, c, hc => by cases hc
  | d :: l, x, h, c, hc => by
    rcases List.mem_cons.mp hc with z | z
    · rw [z]; exact h.2.1
    · exact ch_lt h.2.2 c z
theorem ch_ins {nx : Nat → Int32} {c b : Nat} {l2 : List Nat} (hc : c < 12) (hb : c ≠ b) (h2 : c ∉ l2) (h3 : b ∉ l2) : ∀ {l0 : List Nat} {x : Int32}, c ∉ l0 → b ∉ l0 → ch_L nx (l0 ++ b :: l2) x → ch_L (upd (upd nx c (nx b)) b (nI c)) (l0 ++ b :: c :: l2) x
  | [], x, _, _, h => by
    refine ⟨h.1, h.2.1, ?_⟩
    rw [pk_us]
    refine ⟨rfl, hc, ?_⟩
    rw [pk_un hb, pk_us]
    exact ch_up h3 (ch_up h2 h.2.2)
  | d :: l0, x, i1, i2, h => by
    refine ⟨h.1, h.2.1, ?_⟩
    have e1 : d ≠ c := fun z => i1 (z ▸ List.mem_cons_self)
    have e2 : d ≠ b := fun z => i2 (z ▸ List.mem_cons_self)
    rw [pk_un e2, pk_un e1]
    exact ch_ins hc hb h2 h3 (fun z => i1 (List.mem_cons_of_mem _ z)) (fun z => i2 (List.mem_cons_of_mem _ z)) h.2.2
theorem nd_len : ∀ (n : Nat) (l : List Nat), l.Nodup → (∀ x, x ∈ l → x < n) → l.length ≤ n := by
  intro n
  induction n with
  | zero =>
    intro l _ h
    cases l with
    | nil => exact Nat.le_refl _
    | cons a l => exact absurd (h a List.mem_cons_self) (by omega)
  | succ n ih =>
    intro l hn h
    have k := ih (l.erase n) (hn.erase n) (fun x hx => by
      have a := (hn.mem_erase_iff.mp hx)
      have b := h x a.2
      have c := a.1
      omega)
    by_cases z : n ∈ l
    · have e := List.length_erase_of_mem z
      have p := List.length_pos_of_mem z
      omega
    · rw [List.erase_of_not_mem z] at k
      omega
end
section
/-! engine 0: the heap, as an array with a hole -/
def hp_S (P : Nat) (ev g : Nat → Nat) : Prop :=
  (∀ i, i < P → g i ≠ 0 ∧ ev (g i % 16) = g i) ∧ (∀ c, ev c ≠ 0 → ∃ i, i < P ∧ g i = ev c) ∧ (∀ i j, i < P → j < P → g i = g j → i = j)
def hp_O (P : Nat) (g : Nat → Nat) : Prop := ∀ j, 0 < j → j < P → g ((j - 1) / 2) ≤ g j
def hp_tr (i j k : Nat) : Nat := if k = i then j else if k = j then i else k
def hp_sw (g : Nat → Nat) (i j : Nat) : Nat → Nat := fun k => g (hp_tr i j k)
theorem hp_tr_lt {P i j k : Nat} (hi : i < P) (hj : j < P) (hk : k < P) : hp_tr i j k < P := by
  unfold hp_tr
  split
  · exact hj
  · split
    · exact hi
    · exact hk
theorem hp_tr_inv (i j k : Nat) : hp_tr i j (hp_tr i j k) = k := by
  by_cases h1 : k = i
  · subst h1
    have e : hp_tr k j k = j := if_pos rfl
    rw [e]
    unfold hp_tr
    by_cases h2 : j = k
    · rw [if_pos h2]; exact h2
    · rw [if_neg h2, if_pos rfl]
  · by_cases h2 : k = j
    · subst h2
      have e : hp_tr i k k = i := by unfold hp_tr; rw [if_neg h1, if_pos rfl]
      rw [e]
      exact if_pos rfl
    · have e : hp_tr i j k = k := by unfold hp_tr; rw [if_neg h1, if_neg h2]
      rw [e, e]
theorem hp_sw_i (g : Nat → Nat) (i j : Nat) : hp_sw g i j i = g j := congrArg g (if_pos rfl)
theorem hp_sw_j (g : Nat → Nat) {i j : Nat} (h : j ≠ i) : hp_sw g i j j = g i := congrArg g (by unfold hp_tr; rw [if_neg h, if_pos rfl])
theorem hp_sw_n (g : Nat → Nat) {i j k : Nat} (h : k ≠ i) (h2 : k ≠ j) : hp_sw g i j k = g k := congrArg g (by unfold hp_tr; rw [if_neg h, if_neg h2])
theorem hp_S_sw {P : Nat} {ev g : Nat → Nat} {i j : Nat} (hi : i < P) (hj : j < P) (h : hp_S P ev g) : hp_S P ev (hp_sw g i j) := by
  obtain ⟨h1, h2, h3⟩ := h
  refine ⟨fun k hk => h1 _ (hp_tr_lt hi hj hk), fun c hc => ?_, fun a b ha hb e => ?_⟩
  · obtain ⟨k, hk, e⟩ := h2 c hc
    refine ⟨hp_tr i j k, hp_tr_lt hi hj hk, ?_⟩
    show g (hp_tr i j (hp_tr i j k)) = _
    rw [hp_tr_inv]; exact e
  · have z := h3 _ _ (hp_tr_lt hi hj ha) (hp_tr_lt hi hj hb) e
    have y := congrArg (hp_tr i j) z
    rw [hp_tr_inv, hp_tr_inv] at y
    exact y
def hp_U (P i : Nat) (g : Nat → Nat) : Prop :=
  (∀ j, 0 < j → j < P → j ≠ i → g ((j - 1) / 2) ≤ g j) ∧ (∀ j, 0 < i → 0 < j → j < P → (j - 1) / 2 = i → g ((i - 1) / 2) ≤ g j)
theorem hp_U_step {P i p : Nat} {g : Nat → Nat} (hi : 0 < i) (hP : i < P) (hp : p = (i - 1) / 2) (h : hp_U P i g) (hlt : g i < g p) : hp_U P p (hp_sw g i p) := by
  have hpi : p ≠ i := by omega
  obtain ⟨h1, h2⟩ := h
  constructor
  · intro j j0 jP jp
    by_cases ji : j = i
    · subst ji
      rw [← hp, hp_sw_i, hp_sw_j g hpi]; omega
    · rw [hp_sw_n g ji jp]
      by_cases a : (j - 1) / 2 = i
      · have := h2 j hi j0 jP a
        rw [a, hp_sw_i, hp]; exact this
      · by_cases b : (j - 1) / 2 = p
        · have := h1 j j0 jP ji
          rw [b] at this
          rw [b, hp_sw_j g hpi]; omega
        · rw [hp_sw_n g a b]; exact h1 j j0 jP ji
  · intro j p0 j0 jP e
    have k := h1 p p0 (by omega) hpi
    rw [hp_sw_n g (by omega) (by omega)]
    by_cases ji : j = i
    · subst ji; rw [hp_sw_i]; exact k
    · have := h1 j j0 jP ji
      rw [e] at this
      rw [hp_sw_n g ji (by omega)]; omega
def hp_D (m i : Nat) (g : Nat → Nat) : Prop :=
  (∀ j, 0 < j → j < m → (j - 1) / 2 ≠ i → g ((j - 1) / 2) ≤ g j) ∧ (∀ j, 0 < i → 0 < j → j < m → (j - 1) / 2 = i → g ((i - 1) / 2) ≤ g j)
theorem hp_D_step {m i c : Nat} {g : Nat → Nat} (c0 : 0 < c) (hc : c < m) (hi : (c - 1) / 2 = i) (h : hp_D m i g) (hlt : g c < g i) (hmin : ∀ j, 0 < j → j < m → (j - 1) / 2 = i → g c ≤ g j) : hp_D m c (hp_sw g i c) := by
  have hci : c ≠ i := by omega
  obtain ⟨h1, h2⟩ := h
  constructor
  · intro j j0 jm jc
    by_cases e : j = c
    · subst e
      rw [hi, hp_sw_i, hp_sw_j g hci]; omega
    · by_cases a : (j - 1) / 2 = i
      · rw [a, hp_sw_i, hp_sw_n g (by omega) e]; exact hmin j j0 jm a
      · rw [hp_sw_n g a jc]
        by_cases b : j = i
        · subst b
          rw [hp_sw_i]; exact h2 c j0 c0 hc hi
        · rw [hp_sw_n g b e]; exact h1 j j0 jm a
  · intro j _ j0 jm e
    rw [hi, hp_sw_i, hp_sw_n g (by omega) (by omega)]
    have := h1 j j0 jm (by omega)
    rw [e] at this
    exact this
theorem hp_min {P : Nat} {g : Nat → Nat} (h : hp_O P g) : ∀ n j, j < n → j < P → g 0 ≤ g j := by
  intro n
  induction n with
  | zero => intro j hj; omega
  | succ n ih =>
    intro j hj hP
    by_cases z : j = 0
    · subst z; exact Nat.le_refl _
    · have a := h j (by omega) hP
      have b := ih ((j - 1) / 2) (by omega) (by omega)
      omega
theorem hp_par {i : Nat} (h0 : 0 < i) (h : i < 2 ^ 31) : (nI i - 1) / 2 = nI ((i - 1) / 2) := by
  have e1 : nI i - 1 = nI (i - 1) := pk_sub (b := 1) h0
  rw [e1]
  exact pk_div (d := 2) (by omega) (by omega) (by omega)
def hp_Q (ev : Nat → Nat) (a : Nat → Int32) : Prop := ∃ g : Nat → Nat, (∀ j, j < qu_n ev → a j = nI (g j)) ∧ hp_S (qu_n ev) ev g ∧ hp_O (qu_n ev) g
section
variable {f_customers f_changes f_engine f_pending f_today f_root f_lastTaken : Int32} {a_servers a_rules a_arrivalOf a_visitCount a_visitStation a_visitNeed a_joinTime a_beginTime a_leaveTime a_keptTime a_keptJoin a_keptBegin a_changeTime a_changeStation a_changeAt a_changeWaits a_visitOf a_waitingSet a_free a_heap a_dayFirst a_nextInDay a_eventOf a_firstChild a_nextSibling a_pairs a_bucketFirst : Nat → Int32}
theorem hp_up {post : SX → Prop} {e P : Nat} {ev : Nat → Nat} (hb : ∀ c, ev c < 65536) (hP : P ≤ 16)
  (K : ∀ (a' : Nat → Int32) (g : Nat → Nat), (∀ j, j < P → a' j = nI (g j)) → hp_S P ev g → hp_O P g → post (f_customers, f_changes, f_engine, f_pending, f_today, f_root, f_lastTaken, a_servers, a_rules, a_arrivalOf, a_visitCount, a_visitStation, a_visitNeed, a_joinTime, a_beginTime, a_leaveTime, a_keptTime, a_keptJoin, a_keptBegin, a_changeTime, a_changeStation, a_changeAt, a_changeWaits, a_visitOf, a_waitingSet, a_free, a', a_dayFirst, a_nextInDay, a_eventOf, a_firstChild, a_nextSibling, a_pairs, a_bucketFirst)) :
  ∀ (N i : Nat) (a : Nat → Int32) (g : Nat → Nat), i < N → i < P → (∀ j, j < P → j ≠ i → a j = nI (g j)) → g i = e → hp_S P ev g → hp_U P i g →
    wX_heapAdd_5 post (nI e) f_customers f_changes f_engine f_pending f_today f_root f_lastTaken N (nI i) a_servers a_rules a_arrivalOf a_visitCount a_visitStation a_visitNeed a_joinTime a_beginTime a_leaveTime a_keptTime a_keptJoin a_keptBegin a_changeTime a_changeStation a_changeAt a_changeWaits a_visitOf a_waitingSet a_free a a_dayFirst a_nextInDay a_eventOf a_firstChild a_nextSibling a_pairs a_bucketFirst := by
  intro N
  induction N with
  | zero => intro i a g h; omega
  | succ N ih =>
    intro i a g hN hi ha hg hS hU
    have hb' : ∀ j, j < P → g j < 65536 := fun j hj => by
      have := (hS.1 j hj).2
      rw [← this]; exact hb _
    have hgi := hb' i hi
    have fin : hp_O P g → (vp_in (nI i) 16 ∧ ∀ y : Nat → Int32, y = upd a (nI i).toNatClampNeg (nI e) → post (f_customers, f_changes, f_engine, f_pending, f_today, f_root, f_lastTaken, a_servers, a_rules, a_arrivalOf, a_visitCount, a_visitStation, a_visitNeed, a_joinTime, a_beginTime, a_leaveTime, a_keptTime, a_keptJoin, a_keptBegin, a_changeTime, a_changeStation, a_changeAt, a_changeWaits, a_visitOf, a_waitingSet, a_free, y, a_dayFirst, a_nextInDay, a_eventOf, a_firstChild, a_nextSibling, a_pairs, a_bucketFirst)) := by
      intro hO
      refine ⟨pk_in i 16 (by omega), ?_⟩
      rw [nI_clamp (by omega)]
      intro y ey
      subst ey
      refine K _ g ?_ hS hO
      intro j hj
      by_cases h : j = i
      · subst h; rw [pk_us, hg]
      · rw [pk_un h]; exact ha j hj h
    refine pk_le i 0 (fun h0 => fin ?_) (fun h0 => ?_)
    · intro j h1 h2; exact hU.1 j h1 h2 (by omega)
    · rw [hp_par h0 (by omega), nI_clamp (by omega : (i - 1) / 2 < 2 ^ 31), ha ((i - 1) / 2) (by omega) (by omega)]
      have hgp := hb' ((i - 1) / 2) (by omega)
      refine ⟨by decide, pk_in ((i - 1) / 2) 16 (by omega), pk_le (g ((i - 1) / 2)) e (fun h1 => fin ?_) (fun h1 => ?_)⟩
      · intro j j0 jP
        by_cases h : j = i
        · subst h; omega
        · exact hU.1 j j0 jP h
      · refine ⟨by decide, pk_in ((i - 1) / 2) 16 (by omega), pk_in i 16 (by omega), ?_⟩
        rw [nI_clamp (by omega : i < 2 ^ 31)]
        intro y ey
        subst ey
        refine ⟨by decide, ?_⟩
        intro z ez
        subst ez
        refine ih ((i - 1) / 2) _ (hp_sw g i ((i - 1) / 2)) (by omega) (by omega) ?_ ?_ (hp_S_sw hi (by omega) hS) (hp_U_step h0 hi rfl hU (by omega))
        · intro j hj hne
          by_cases h : j = i
          · subst h; rw [pk_us, hp_sw_i]
          · rw [pk_un h, hp_sw_n g h hne]; exact ha j hj h
        · rw [hp_sw_j g (by omega)]; exact hg
theorem hp_add {post : SX → Prop} {e c : Nat} {ev : Nat → Nat} (hE : qu_E ev) (hc : c < 12) (h0 : ev c = 0) (he : e % 16 = c) (hb : e < 65536) (he0 : e ≠ 0) (hp : f_pending = nI (qu_n ev)) (hQ : hp_Q ev a_heap)
  (K : ∀ a' : Nat → Int32, hp_Q (si_fu ev c e) a' → post (f_customers, f_changes, f_engine, f_pending, f_today, f_root, f_lastTaken, a_servers, a_rules, a_arrivalOf, a_visitCount, a_visitStation, a_visitNeed, a_joinTime, a_beginTime, a_leaveTime, a_keptTime, a_keptJoin, a_keptBegin, a_changeTime, a_changeStation, a_changeAt, a_changeWaits, a_visitOf, a_waitingSet, a_free, a', a_dayFirst, a_nextInDay, a_eventOf, a_firstChild, a_nextSibling, a_pairs, a_bucketFirst)) : wpX_heapAdd post (f_customers, f_changes, f_engine, f_pending, f_today, f_root, f_lastTaken, a_servers, a_rules, a_arrivalOf, a_visitCount, a_visitStation, a_visitNeed, a_joinTime, a_beginTime, a_leaveTime, a_keptTime, a_keptJoin, a_keptBegin, a_changeTime, a_changeStation, a_changeAt, a_changeWaits, a_visitOf, a_waitingSet, a_free, a_heap, a_dayFirst, a_nextInDay, a_eventOf, a_firstChild, a_nextSibling, a_pairs, a_bucketFirst) (nI e) := by
  have hn := qu_n_put hc h0 he0
  have hle := qu_n_le (si_fu ev c e)
  obtain ⟨g, ha, hS, hO⟩ := hQ
  have hg0 : ∀ j, j < qu_n ev → g j ≠ e := by
    intro j hj z
    have := (hS.1 j hj)
    rw [z, he, h0] at this
    omega
  subst hp
  refine ⟨qu_n ev + 1, ?_⟩
  refine hp_up (P := qu_n ev + 1) (ev := si_fu ev c e) (qu_E_lt (qu_E_put hE hc he hb)) (by omega) ?_ _ (qu_n ev) a_heap (si_fu g (qu_n ev) e) (by omega) (by omega) ?_ si_fs ?_ ?_
  · intro a' g' h1 h2 h3
    refine K a' ⟨g', ?_, ?_, ?_⟩ <;> rw [hn] <;> assumption
  · intro j hj hne
    rw [si_fn hne]; exact ha j (by omega)
  · refine ⟨fun i hi => ?_, fun d hd => ?_, fun i j hi hj hij => ?_⟩
    · by_cases z : i = qu_n ev
      · subst z; rw [si_fs, he, si_fs]; exact ⟨he0, rfl⟩
      · rw [si_fn z]
        have := hS.1 i (by omega)
        refine ⟨this.1, ?_⟩
        rw [si_fn (fun q => ?_)]
        · exact this.2
        · rw [q, h0] at this; omega
    · by_cases z : d = c
      · subst z; exact ⟨qu_n ev, by omega, by rw [si_fs, si_fs]⟩
      · rw [si_fn z] at hd ⊢
        obtain ⟨i, hi, q⟩ := hS.2.1 d hd
        exact ⟨i, by omega, by rw [si_fn (by omega)]; exact q⟩
    · by_cases z : i = qu_n ev
      · by_cases y : j = qu_n ev
        · omega
        · rw [z, si_fs, si_fn y] at hij
          exact absurd hij.symm (hg0 j (by omega))
      · by_cases y : j = qu_n ev
        · rw [y, si_fs, si_fn z] at hij
          exact absurd hij (hg0 i (by omega))
        · rw [si_fn z, si_fn y] at hij
          exact hS.2.2 i j (by omega) (by omega) hij
  · constructor
    · intro j j0 jP hne
      rw [si_fn hne, si_fn (by omega)]; exact hO j j0 (by omega)
    · intro j _ j0 jP e1; omega
/-- the way down -/
theorem hp_end {post : Int32 → SX → Prop} {x1 : Int32} {l m i : Nat} {a : Nat → Int32} {g : Nat → Nat} {ev : Nat → Nat} (hm : m < 16) (hi : i ≤ m)
  (ha : ∀ j, j < m → j ≠ i → a j = nI (g j)) (hg : i < m → g i = l) (hS : hp_S m ev g) (hO : hp_O m g)
  (K : ∀ (a' : Nat → Int32) (g : Nat → Nat), (∀ j, j < m → a' j = nI (g j)) → hp_S m ev g → hp_O m g → post x1 (f_customers, f_changes, f_engine, f_pending, f_today, f_root, f_lastTaken, a_servers, a_rules, a_arrivalOf, a_visitCount, a_visitStation, a_visitNeed, a_joinTime, a_beginTime, a_leaveTime, a_keptTime, a_keptJoin, a_keptBegin, a_changeTime, a_changeStation, a_changeAt, a_changeWaits, a_visitOf, a_waitingSet, a_free, a', a_dayFirst, a_nextInDay, a_eventOf, a_firstChild, a_nextSibling, a_pairs, a_bucketFirst)) :
  vp_in (nI i) 16 ∧ ∀ y : Nat → Int32, y = upd a (nI i).toNatClampNeg (nI l) → post x1 (f_customers, f_changes, f_engine, f_pending, f_today, f_root, f_lastTaken, a_servers, a_rules, a_arrivalOf, a_visitCount, a_visitStation, a_visitNeed, a_joinTime, a_beginTime, a_leaveTime, a_keptTime, a_keptJoin, a_keptBegin, a_changeTime, a_changeStation, a_changeAt, a_changeWaits, a_visitOf, a_waitingSet, a_free, y, a_dayFirst, a_nextInDay, a_eventOf, a_firstChild, a_nextSibling, a_pairs, a_bucketFirst) := by
  refine ⟨pk_in i 16 (by omega), ?_⟩
  rw [nI_clamp (by omega)]
  intro y ey
  subst ey
  refine K _ g ?_ hS hO
  intro j hj
  by_cases h : j = i
  · subst h; rw [pk_us, hg hj]
  · rw [pk_un h]; exact ha j hj h
theorem hp_dn {post : Int32 → SX → Prop} {x1 : Int32} {l m : Nat} {ev : Nat → Nat} (hb : ∀ c, ev c < 65536) (hl : l < 65536) (hm : m < 16) (hp : f_pending - 1 = nI m)
  (K : ∀ (a' : Nat → Int32) (g : Nat → Nat), (∀ j, j < m → a' j = nI (g j)) → hp_S m ev g → hp_O m g → post x1 (f_customers, f_changes, f_engine, f_pending, f_today, f_root, f_lastTaken, a_servers, a_rules, a_arrivalOf, a_visitCount, a_visitStation, a_visitNeed, a_joinTime, a_beginTime, a_leaveTime, a_keptTime, a_keptJoin, a_keptBegin, a_changeTime, a_changeStation, a_changeAt, a_changeWaits, a_visitOf, a_waitingSet, a_free, a', a_dayFirst, a_nextInDay, a_eventOf, a_firstChild, a_nextSibling, a_pairs, a_bucketFirst)) :
  ∀ (N i : Nat) (a : Nat → Int32) (g : Nat → Nat), m + 1 < i + N → i ≤ m → (i = m → m = 0) → (∀ j, j < m → j ≠ i → a j = nI (g j)) → (i < m → g i = l) → hp_S m ev g → hp_D m i g →
    wX_heapTake_24 post x1 (nI l) f_customers f_changes f_engine f_pending f_today f_root f_lastTaken N (nI i) 1 a_servers a_rules a_arrivalOf a_visitCount a_visitStation a_visitNeed a_joinTime a_beginTime a_leaveTime a_keptTime a_keptJoin a_keptBegin a_changeTime a_changeStation a_changeAt a_changeWaits a_visitOf a_waitingSet a_free a a_dayFirst a_nextInDay a_eventOf a_firstChild a_nextSibling a_pairs a_bucketFirst := by
  intro N
  induction N with
  | zero => intro i a g h; omega
  | succ N ih =>
    intro i a g hN hi him ha hg hS hD
    have hb' : ∀ j, j < m → g j < 65536 := fun j hj => by
      have := (hS.1 j hj).2
      rw [← this]; exact hb _
    have e1 : (2 : Int32) * nI i + 1 = nI (2 * i + 1) := by
      have := pk_mul 2 i
      rw [← nI_1, ← this]; rfl
    refine br_f (by decide) ?_
    rw [hp, e1]
    refine pk_le m (2 * i + 1) (fun h0 => ?_) (fun h0 => ?_)
    · refine hp_end hm hi ha hg hS ?_ K
      intro j j0 jm
      exact hD.1 j j0 jm (by omega)
    · intro y ey
      subst ey
      rw [nI_1]
      have hi' : i < m := by omega
      have hgi := hg hi'
      have go : ∀ (ch : Nat) (z0 z1 : Int32), z1 + z0 = nI ch → 0 < ch → ch < m → (ch - 1) / 2 = i → (∀ j, 0 < j → j < m → (j - 1) / 2 = i → g ch ≤ g j) →
          wX_heapTake_89 post (wX_heapTake_24 post x1 (nI l) f_customers f_changes f_engine f_pending f_today f_root f_lastTaken N) x1 (nI l) (nI i) z0 z1 f_customers f_changes f_engine f_pending f_today f_root f_lastTaken a_servers a_rules a_arrivalOf a_visitCount a_visitStation a_visitNeed a_joinTime a_beginTime a_leaveTime a_keptTime a_keptJoin a_keptBegin a_changeTime a_changeStation a_changeAt a_changeWaits a_visitOf a_waitingSet a_free a a_dayFirst a_nextInDay a_eventOf a_firstChild a_nextSibling a_pairs a_bucketFirst := by
        intro ch z0 z1 ez c0 cm ci cmin
        have hch := hb' ch cm
        intro x5 ex5
        rw [ez] at ex5
        subst ex5
        rw [nI_clamp (by omega : ch < 2 ^ 31)]
        refine ⟨pk_in ch 16 (by omega), ?_⟩
        rw [ha ch cm (by omega)]
        refine pk_le l (g ch) (fun h1 => ?_) (fun h1 => ?_)
        · refine br_t rfl ?_
          obtain ⟨N', rfl⟩ : ∃ N', N = N' + 1 := ⟨N - 1, by omega⟩
          refine br_t rfl (hp_end hm hi ha hg hS ?_ K)
          intro j j0 jm
          by_cases q : (j - 1) / 2 = i
          · have := cmin j j0 jm q
            rw [q]; omega
          · exact hD.1 j j0 jm q
        · refine br_f (by decide) ⟨pk_in ch 16 (by omega), pk_in i 16 (by omega), ?_⟩
          rw [nI_clamp (by omega : ch < 2 ^ 31), nI_clamp (by omega : i < 2 ^ 31), ha ch cm (by omega)]
          intro y ey
          subst ey
          refine ih ch _ (hp_sw g i ch) (by omega) (by omega) (by omega) ?_ ?_ (hp_S_sw hi' cm hS) (hp_D_step c0 cm ci hD (by omega) cmin)
          · intro j hj hne
            by_cases h : j = i
            · subst h; rw [pk_us, hp_sw_i]
            · rw [pk_un h, hp_sw_n g h hne]; exact ha j hj h
          · intro _
            rw [hp_sw_j g (by omega)]; exact hgi
      have h1 := hb' (2 * i + 1) (by omega)
      refine pk_le m (2 * i + 1 + 1) (fun h2 => ?_) (fun h2 => ?_)
      · refine go (2 * i + 1) 0 (nI (2 * i + 1)) (Int32.add_zero _) (by omega) (by omega) (by omega) ?_
        intro j j0 jm q
        have : j = 2 * i + 1 := by omega
        rw [this]; exact Nat.le_refl _
      · have h3 := hb' (2 * i + 1 + 1) (by omega)
        refine ⟨pk_in (2 * i + 1 + 1) 16 (by omega), pk_in (2 * i + 1) 16 (by omega), ?_⟩
        rw [nI_clamp (by omega : 2 * i + 1 < 2 ^ 31), nI_clamp (by omega : 2 * i + 1 + 1 < 2 ^ 31), ha (2 * i + 1) (by omega) (by omega), ha (2 * i + 1 + 1) (by omega) (by omega)]
        refine pk_le (g (2 * i + 1)) (g (2 * i + 1 + 1)) (fun h4 => ?_) (fun h4 => ?_)
        · refine go (2 * i + 1) 0 (nI (2 * i + 1)) (Int32.add_zero _) (by omega) (by omega) (by omega) ?_
          intro j j0 jm q
          rcases (by omega : j = 2 * i + 1 ∨ j = 2 * i + 1 + 1) with z | z
          · rw [z]; exact Nat.le_refl _
          · rw [z]; exact h4
        · refine go (2 * i + 1 + 1) 1 (nI (2 * i + 1)) (nI_1 _) (by omega) (by omega) (by omega) ?_
          intro j j0 jm q
          rcases (by omega : j = 2 * i + 1 ∨ j = 2 * i + 1 + 1) with z | z
          · rw [z]; omega
          · rw [z]; exact Nat.le_refl _
theorem hp_top {ev : Nat → Nat} {a : Nat → Int32} {c : Nat} (hE : qu_E ev) (hM : qu_M ev c) (hQ : hp_Q ev a) : a 0 = nI (ev c) := by
  obtain ⟨g, ha, hS, hO⟩ := hQ
  have hp := qu_n_pos hM.1 hM.2.1
  obtain ⟨i, hi, e⟩ := hS.2.1 c hM.2.1
  have k := hp_min hO _ i (Nat.lt_succ_self i) hi
  have s := hS.1 0 hp
  have t := hM.2.2 (g 0 % 16) (by rw [s.2]; exact s.1)
  rw [s.2] at t
  rw [ha 0 hp]
  exact congrArg nI (by omega)
theorem hp_take {post : Int32 → SX → Prop} {c : Nat} {ev : Nat → Nat} (hE : qu_E ev) (hM : qu_M ev c) (hp : f_pending = nI (qu_n ev)) (hQ : hp_Q ev a_heap)
  (K : ∀ a' : Nat → Int32, hp_Q (si_fu ev c 0) a' → post (nI (ev c)) (f_customers, f_changes, f_engine, f_pending, f_today, f_root, f_lastTaken, a_servers, a_rules, a_arrivalOf, a_visitCount, a_visitStation, a_visitNeed, a_joinTime, a_beginTime, a_leaveTime, a_keptTime, a_keptJoin, a_keptBegin, a_changeTime, a_changeStation, a_changeAt, a_changeWaits, a_visitOf, a_waitingSet, a_free, a', a_dayFirst, a_nextInDay, a_eventOf, a_firstChild, a_nextSibling, a_pairs, a_bucketFirst)) : wpX_heapTake post (f_customers, f_changes, f_engine, f_pending, f_today, f_root, f_lastTaken, a_servers, a_rules, a_arrivalOf, a_visitCount, a_visitStation, a_visitNeed, a_joinTime, a_beginTime, a_leaveTime, a_keptTime, a_keptJoin, a_keptBegin, a_changeTime, a_changeStation, a_changeAt, a_changeWaits, a_visitOf, a_waitingSet, a_free, a_heap, a_dayFirst, a_nextInDay, a_eventOf, a_firstChild, a_nextSibling, a_pairs, a_bucketFirst) := by
  have htop := hp_top hE hM hQ
  have hcut := qu_n_cut hM.1 hM.2.1
  have hle := qu_n_le ev
  obtain ⟨g, ha, hS, hO⟩ := hQ
  have hpos := qu_n_pos hM.1 hM.2.1
  have hg0 : g 0 = ev c := by
    have h1 := ha 0 hpos
    rw [htop] at h1
    have s := (hS.1 0 hpos).2
    have b := qu_E_lt hE (g 0 % 16)
    have b2 := qu_E_lt hE c
    exact ((nI_eq (by omega) (by omega)).mp h1).symm
  have hm : f_pending - 1 = nI (qu_n (si_fu ev c 0)) := by rw [hp, ← hcut, nI_pred]
  have hl : g (qu_n ev - 1) < 65536 := by
    have := (hS.1 (qu_n ev - 1) (by omega)).2
    rw [← this]; exact qu_E_lt hE _
  intro x1 ex1
  rw [htop] at ex1
  subst ex1
  rw [hm]
  refine ⟨pk_in (qu_n (si_fu ev c 0)) 16 (by omega), ?_⟩
  rw [nI_clamp (by omega), ha (qu_n (si_fu ev c 0)) (by omega)]
  intro x2 ex2
  subst ex2
  have hl2 : g (qu_n (si_fu ev c 0)) < 65536 := by
    rw [show qu_n (si_fu ev c 0) = qu_n ev - 1 from by omega]; exact hl
  refine ⟨qu_n (si_fu ev c 0) + 2, ?_⟩
  refine hp_dn (m := qu_n (si_fu ev c 0)) (ev := si_fu ev c 0) (qu_E_lt (qu_E_cut hE)) hl2 (by omega) hm ?_ _ 0 a_heap (si_fu g 0 (g (qu_n (si_fu ev c 0)))) (by omega) (by omega) (by omega) ?_ (fun _ => si_fs) ?_ ?_
  · intro a' g' h1 h2 h3
    exact K a' ⟨g', h1, h2, h3⟩
  · intro j hj hne
    rw [si_fn hne]; exact ha j (by omega)
  · have hk : ∀ k, 0 < k → k < qu_n ev → g k ≠ 0 ∧ si_fu ev c 0 (g k % 16) = g k := by
      intro k k0 kn
      have s := hS.1 k kn
      refine ⟨s.1, ?_⟩
      rw [si_fn (fun q => ?_)]
      · exact s.2
      · rw [q, ← hg0] at s
        have := hS.2.2 0 k hpos kn s.2
        omega
    refine ⟨fun i hi => ?_, fun d hd => ?_, fun i j hi hj hij => ?_⟩
    · by_cases z : i = 0
      · subst z; rw [si_fs]; exact hk _ (by omega) (by omega)
      · rw [si_fn z]; exact hk i (by omega) (by omega)
    · by_cases z : d = c
      · subst z; rw [si_fs] at hd; exact absurd rfl hd
      · rw [si_fn z] at hd ⊢
        obtain ⟨i, hi, q⟩ := hS.2.1 d hd
        have i0 : i ≠ 0 := by
          intro y
          rw [y, hg0] at q
          exact z (qu_E_inj hE hM.2.1 q).symm
        by_cases y : i = qu_n (si_fu ev c 0)
        · exact ⟨0, by omega, by rw [si_fs, ← y]; exact q⟩
        · exact ⟨i, by omega, by rw [si_fn i0]; exact q⟩
    · by_cases z : i = 0
      · by_cases y : j = 0
        · omega
        · rw [z, si_fs, si_fn y] at hij
          have := hS.2.2 _ _ (by omega) (by omega) hij
          omega
      · by_cases y : j = 0
        · rw [y, si_fs, si_fn z] at hij
          have := hS.2.2 _ _ (by omega) (by omega) hij
          omega
        · rw [si_fn z, si_fn y] at hij
          exact hS.2.2 i j (by omega) (by omega) hij
  · constructor
    · intro j j0 jm hne
      rw [si_fn hne, si_fn (by omega)]; exact hO j j0 (by omega)
    · intro j h; omega
end
end
section
/-! engine 1: the calendar -/
theorem ev_cu {e : Nat} (h : e < 65536) : nI e - nI e / 16 * 16 = nI (e % 16) := pk_rem (d := 16) (by omega) (by omega) (by omega)
theorem ev_ti {e : Nat} (h : e < 65536) : nI e / 32 = nI (e / 32) := pk_div (d := 32) (by omega) (by omega) (by omega)
theorem ev_da {e : Nat} (h : e < 65536) : nI e - nI e / 16 * 16 = nI (e % 16) := pk_rem (d := 16) (by omega) (by omega) (by omega)
def ca_Q (lo : Nat) (ev : Nat → Nat) (td : Int32) (df nd eo : Nat → Int32) : Prop :=
  ∃ L : Nat → List Nat, (∀ d, d < 16 → ch_L nd (L d) (df d)) ∧ (∀ d, d < 16 → ∀ c, c ∈ L d ↔ ev c ≠ 0 ∧ ev c / 32 % 16 = d) ∧
    (∀ d, d < 16 → (L d).Pairwise (fun a b => ev a < ev b)) ∧ (∀ c, ev c ≠ 0 → eo c = nI (ev c)) ∧ td = nI (lo / 32) ∧ lo < 65536 ∧ (∀ c, ev c ≠ 0 → lo ≤ ev c)
theorem ca_hd {ev : Nat → Nat} {l : List Nat} {c : Nat} (hE : qu_E ev) (hM : qu_M ev c) (hl : ∀ d, d ∈ l → ev d ≠ 0) (hc : c ∈ l) (hs : l.Pairwise (fun a b => ev a < ev b)) : ∃ l', l = c :: l' := by
  cases l with
  | nil => cases hc
  | cons d l =>
    rcases List.mem_cons.mp hc with z | z
    · exact ⟨l, by rw [z]⟩
    · have a := (List.pairwise_cons.mp hs).1 c z
      have b := hM.2.2 d (hl d List.mem_cons_self)
      omega
section
variable {f_customers f_changes f_engine f_pending f_today f_root f_lastTaken : Int32} {a_servers a_rules a_arrivalOf a_visitCount a_visitStation a_visitNeed a_joinTime a_beginTime a_leaveTime a_keptTime a_keptJoin a_keptBegin a_changeTime a_changeStation a_changeAt a_changeWaits a_visitOf a_waitingSet a_free a_heap a_dayFirst a_nextInDay a_eventOf a_firstChild a_nextSibling a_pairs a_bucketFirst : Nat → Int32}
theorem ca_join {post : SX → Prop} {e c d : Nat} {ev : Nat → Nat} {L1 l2 : List Nat} {x4 x5 : Int32} (hc : c < 12) (hd : d < 16)
  (h5 : ch_L a_nextInDay l2 x5) (h2 : c ∉ l2)
  (h4 : (L1 = [] ∧ x4 = -1) ∨ (∃ l0 b, L1 = l0 ++ [b] ∧ x4 = nI b ∧ a_nextInDay b = x5 ∧ b ∉ l2 ∧ b ∉ l0 ∧ c ≠ b ∧ c ∉ l0 ∧ ch_L a_nextInDay (L1 ++ l2) (a_dayFirst d)))
  (K : ∀ df nd : Nat → Int32, ch_L nd (L1 ++ c :: l2) (df d) → (∀ d', d' ≠ d → df d' = a_dayFirst d') → (∀ (l : List Nat) (x : Int32), c ∉ l → (∀ b, b ∈ L1 → b ∉ l) → ch_L a_nextInDay l x → ch_L nd l x) → post (f_customers, f_changes, f_engine, f_pending, f_today, f_root, f_lastTaken, a_servers, a_rules, a_arrivalOf, a_visitCount, a_visitStation, a_visitNeed, a_joinTime, a_beginTime, a_leaveTime, a_keptTime, a_keptJoin, a_keptBegin, a_changeTime, a_changeStation, a_changeAt, a_changeWaits, a_visitOf, a_waitingSet, a_free, a_heap, df, nd, a_eventOf, a_firstChild, a_nextSibling, a_pairs, a_bucketFirst)) :
  wX_calendarAdd_63 post (nI c) (nI d) x4 x5 f_customers f_changes f_engine f_pending f_today f_root f_lastTaken a_servers a_rules a_arrivalOf a_visitCount a_visitStation a_visitNeed a_joinTime a_beginTime a_leaveTime a_keptTime a_keptJoin a_keptBegin a_changeTime a_changeStation a_changeAt a_changeWaits a_visitOf a_waitingSet a_free a_heap a_dayFirst a_nextInDay a_eventOf a_firstChild a_nextSibling a_pairs a_bucketFirst := by
  refine ⟨pk_in c 12 hc, ?_⟩
  rw [nI_clamp (by omega : c < 2 ^ 31), ch_b2 h5]
  intro y ey
  subst ey
  rcases h4 with ⟨rfl, rfl⟩ | ⟨l0, b, rfl, rfl, hnb, hb2, hb0, hcb, hc0, hch⟩
  · refine br_f (by decide) ⟨pk_in d 16 hd, ?_⟩
    rw [nI_clamp (by omega : d < 2 ^ 31), by_2 (by omega)]
    intro y ey
    subst ey
    refine K _ _ ?_ (fun d' h' => pk_un h') (fun l x h _ hl => ch_up h hl)
    rw [pk_us]
    refine ⟨rfl, hc, ?_⟩
    rw [pk_us]
    exact ch_up h2 h5
  · have hch' : ch_L a_nextInDay (l0 ++ b :: l2) (a_dayFirst d) := by
      rw [List.append_assoc] at hch; exact hch
    have hb12 : b < 12 := ch_lt hch' b (List.mem_append_right _ List.mem_cons_self)
    refine br_t (nI_pos' (by omega)) ⟨pk_in b 12 hb12, ?_⟩
    rw [nI_clamp (by omega : b < 2 ^ 31), by_2 (by omega)]
    intro y ey
    subst ey
    refine K _ _ ?_ (fun d' h' => rfl) (fun l x h h' hl => ch_up (h' b (List.mem_append_right _ List.mem_cons_self)) (ch_up h hl))
    rw [List.append_assoc, ← hnb]
    exact ch_ins hc hcb h2 hb2 hc0 hb0 hch'
theorem ca_walk {post : SX → Prop} {e c d : Nat} {ev : Nat → Nat} {L : List Nat} (hc : c < 12) (hd : d < 16) (he : e < 65536) (hb : ∀ c, ev c < 65536) (hcL : c ∉ L)
  (hch : ch_L a_nextInDay L (a_dayFirst d)) (heo : ∀ x, x ∈ L → a_eventOf x = nI (ev x)) (hnd : L.Nodup) (hs : L.Pairwise (fun a b => ev a < ev b))
  (K : ∀ (L1 l2 : List Nat) (df nd : Nat → Int32), L = L1 ++ l2 → (∀ x, x ∈ L1 → ev x < e) → (∀ x, x ∈ l2 → e ≤ ev x) → ch_L nd (L1 ++ c :: l2) (df d) → (∀ d', d' ≠ d → df d' = a_dayFirst d') → (∀ (l : List Nat) (x : Int32), c ∉ l → (∀ b, b ∈ L1 → b ∉ l) → ch_L a_nextInDay l x → ch_L nd l x) → post (f_customers, f_changes, f_engine, f_pending, f_today, f_root, f_lastTaken, a_servers, a_rules, a_arrivalOf, a_visitCount, a_visitStation, a_visitNeed, a_joinTime, a_beginTime, a_leaveTime, a_keptTime, a_keptJoin, a_keptBegin, a_changeTime, a_changeStation, a_changeAt, a_changeWaits, a_visitOf, a_waitingSet, a_free, a_heap, df, nd, a_eventOf, a_firstChild, a_nextSibling, a_pairs, a_bucketFirst)) :
  ∀ (N : Nat) (L1 l2 : List Nat) (x4 x5 : Int32), l2.length < N → L = L1 ++ l2 → (∀ x, x ∈ L1 → ev x < e) → ch_L a_nextInDay l2 x5 →
    ((L1 = [] ∧ x4 = -1) ∨ (∃ l0 b, L1 = l0 ++ [b] ∧ x4 = nI b ∧ a_nextInDay b = x5)) → wX_calendarAdd_31 post (nI e) (nI c) (nI d) f_customers f_changes f_engine f_pending f_today f_root f_lastTaken a_servers a_rules a_arrivalOf a_visitCount a_visitStation a_visitNeed a_joinTime a_beginTime a_leaveTime a_keptTime a_keptJoin a_keptBegin a_changeTime a_changeStation a_changeAt a_changeWaits a_visitOf a_waitingSet a_free a_heap a_dayFirst a_nextInDay a_eventOf a_firstChild a_nextSibling a_pairs a_bucketFirst N x4 x5 := by
  intro N
  induction N with
  | zero => intro L1 l2 x4 x5 h; omega
  | succ N ih =>
    intro L1 l2 x4 x5 hN hL h1 h5 h4
    have hj : (∀ x, x ∈ l2 → e ≤ ev x) → wX_calendarAdd_63 post (nI c) (nI d) x4 x5 f_customers f_changes f_engine f_pending f_today f_root f_lastTaken a_servers a_rules a_arrivalOf a_visitCount a_visitStation a_visitNeed a_joinTime a_beginTime a_leaveTime a_keptTime a_keptJoin a_keptBegin a_changeTime a_changeStation a_changeAt a_changeWaits a_visitOf a_waitingSet a_free a_heap a_dayFirst a_nextInDay a_eventOf a_firstChild a_nextSibling a_pairs a_bucketFirst := by
      intro hge
      refine ca_join (L1 := L1) (l2 := l2) (e := e) (ev := ev) hc hd h5 (fun z => hcL (by rw [hL]; exact List.mem_append_right _ z)) ?_ (fun df nd k1 k2 k3 => K L1 l2 df nd hL h1 hge k1 k2 k3)
      rcases h4 with h | ⟨l0, b, e1, e2, e3⟩
      · exact Or.inl h
      · refine Or.inr ⟨l0, b, e1, e2, e3, ?_, ?_, ?_, ?_, ?_⟩
        · intro z
          rw [hL, e1] at hnd
          exact (List.nodup_append.mp hnd).2.2 b (List.mem_append_right _ List.mem_cons_self) b z rfl
        · intro z
          rw [hL, e1] at hnd
          have := (List.nodup_append.mp hnd).1
          exact (List.nodup_append.mp this).2.2 b z b List.mem_cons_self rfl
        · intro z
          exact hcL (by rw [hL, e1, z]; exact List.mem_append_left _ (List.mem_append_right _ List.mem_cons_self))
        · intro z
          exact hcL (by rw [hL, e1]; exact List.mem_append_left _ (List.mem_append_left _ z))
        · rw [← hL]; exact hch
    cases l2 with
    | nil =>
      have h5' : x5 = -1 := h5
      subst h5'
      exact br_t (by decide) (hj (fun x hx => by cases hx))
    | cons a l2 =>
      obtain ⟨ea, ha12, h5'⟩ := h5
      subst ea
      have haL : a ∈ L := by rw [hL]; exact List.mem_append_right _ List.mem_cons_self
      refine br_f (nI_pos (by omega)) ⟨pk_in a 12 ha12, ?_⟩
      rw [nI_clamp (by omega : a < 2 ^ 31), heo a haL]
      have hba := hb a
      refine pk_le e (ev a) (fun h => ?_) (fun h => ?_)
      · refine hj (fun x hx => ?_)
        rcases List.mem_cons.mp hx with z | z
        · rw [z]; exact h
        · rw [hL] at hs
          have := (List.pairwise_cons.mp (List.pairwise_append.mp hs).2.1).1 x z
          omega
      · refine ⟨pk_in a 12 ha12, ?_⟩
        intro y ey
        subst ey
        refine ih (L1 ++ [a]) l2 _ _ (by simp only [List.length_cons] at hN; omega) (by rw [hL, List.append_assoc]; rfl) ?_ h5' (Or.inr ⟨L1, a, rfl, rfl, rfl⟩)
        intro x hx
        rcases List.mem_append.mp hx with z | z
        · exact h1 x z
        · rcases List.mem_cons.mp z with q | q
          · rw [q]; exact h
          · cases q
theorem ca_add {post : SX → Prop} {e c lo : Nat} {ev : Nat → Nat} (hE : qu_E ev) (hc : c < 12) (h0 : ev c = 0) (he : e % 16 = c) (hb : e < 65536) (he0 : e ≠ 0) (hlo : lo ≤ e) (hQ : ca_Q lo ev f_today a_dayFirst a_nextInDay a_eventOf)
  (K : ∀ df nd eo : Nat → Int32, ca_Q lo (si_fu ev c e) f_today df nd eo → post (f_customers, f_changes, f_engine, f_pending, f_today, f_root, f_lastTaken, a_servers, a_rules, a_arrivalOf, a_visitCount, a_visitStation, a_visitNeed, a_joinTime, a_beginTime, a_leaveTime, a_keptTime, a_keptJoin, a_keptBegin, a_changeTime, a_changeStation, a_changeAt, a_changeWaits, a_visitOf, a_waitingSet, a_free, a_heap, df, nd, eo, a_firstChild, a_nextSibling, a_pairs, a_bucketFirst)) : wpX_calendarAdd post (f_customers, f_changes, f_engine, f_pending, f_today, f_root, f_lastTaken, a_servers, a_rules, a_arrivalOf, a_visitCount, a_visitStation, a_visitNeed, a_joinTime, a_beginTime, a_leaveTime, a_keptTime, a_keptJoin, a_keptBegin, a_changeTime, a_changeStation, a_changeAt, a_changeWaits, a_visitOf, a_waitingSet, a_free, a_heap, a_dayFirst, a_nextInDay, a_eventOf, a_firstChild, a_nextSibling, a_pairs, a_bucketFirst) (nI e) := by
  obtain ⟨L, h1, h2, h3, h4, h5, hl6, h6⟩ := hQ
  have hd : e / 32 % 16 < 16 := Nat.mod_lt _ (by omega)
  have hcL : ∀ d, d < 16 → c ∉ L d := fun d hd z => ((h2 d hd c).mp z).1 h0
  refine ⟨by decide, ?_⟩
  rw [ev_cu hb, he, ev_ti hb, ev_da (by omega : e / 32 < 65536)]
  refine ⟨by decide, by decide, ?_⟩
  intro x3 ex3
  subst ex3
  refine ⟨pk_in c 12 hc, ?_⟩
  rw [nI_clamp (by omega : c < 2 ^ 31)]
  intro y ey
  subst ey
  refine ⟨pk_in (e / 32 % 16) 16 hd, ?_⟩
  rw [nI_clamp (by omega : e / 32 % 16 < 2 ^ 31)]
  intro x5 ex5
  subst ex5
  have hne : ∀ d, d < 16 → (L d).Nodup := by
    intro d hd
    refine List.Pairwise.imp ?_ (h3 d hd)
    intro a b hab z
    rw [z] at hab
    omega
  refine ⟨(L (e / 32 % 16)).length + 1, ?_⟩
  refine ca_walk (ev := ev) (L := L (e / 32 % 16)) hc hd hb (qu_E_lt hE) (hcL _ hd) (h1 _ hd) ?_ (hne _ hd) (h3 _ hd) ?_ _ [] _ _ _ (Nat.lt_succ_self _) rfl (fun x hx => by cases hx) (h1 _ hd) (Or.inl ⟨rfl, rfl⟩)
  · intro x hx
    have hx0 := ((h2 _ hd x).mp hx).1
    rw [pk_un (fun z => hx0 (by rw [z]; exact h0))]
    exact h4 x hx0
  · intro L1 l2 df nd hL k1 k2 k3 k4 k5
    refine K df nd _ ⟨fun d => if d = e / 32 % 16 then L1 ++ c :: l2 else L d, ?_, ?_, ?_, ?_, h5, hl6, ?_⟩
    · intro d hd'
      (try dsimp only)
      by_cases z : d = e / 32 % 16
      · rw [if_pos z, z]; exact k3
      · rw [if_neg z, k4 d z]
        refine k5 _ _ (hcL d hd') (fun b hb1 hb2 => ?_) (h1 d hd')
        have a1 := ((h2 _ hd b).mp (by rw [hL]; exact List.mem_append_left _ hb1)).2
        have a2 := ((h2 _ hd' b).mp hb2).2
        omega
    · intro d hd' x
      (try dsimp only)
      by_cases z : d = e / 32 % 16
      · rw [if_pos z]
        by_cases y : x = c
        · subst y
          rw [si_fs]
          exact ⟨fun _ => ⟨he0, z.symm⟩, fun _ => List.mem_append_right _ List.mem_cons_self⟩
        · rw [si_fn y]
          have a := h2 _ hd x
          rw [hL] at a
          rw [z]
          constructor
          · intro hx
            refine a.mp ?_
            rcases List.mem_append.mp hx with q | q
            · exact List.mem_append_left _ q
            · rcases List.mem_cons.mp q with q | q
              · exact absurd q y
              · exact List.mem_append_right _ q
          · intro hx
            rcases List.mem_append.mp (a.mpr hx) with q | q
            · exact List.mem_append_left _ q
            · exact List.mem_append_right _ (List.mem_cons_of_mem _ q)
      · rw [if_neg z]
        by_cases y : x = c
        · subst y
          rw [si_fs]
          exact ⟨fun hx => absurd hx (hcL d hd'), fun hx => absurd hx.2.symm z⟩
        · rw [si_fn y]; exact h2 d hd' x
    · intro d hd'
      (try dsimp only)
      have tr : ∀ l : List Nat, c ∉ l → l.Pairwise (fun a b => ev a < ev b) → l.Pairwise (fun a b => si_fu ev c e a < si_fu ev c e b) := by
        intro l hl hp
        refine List.Pairwise.imp_of_mem ?_ hp
        intro a b ha hb hab
        rw [si_fn (si_nm hl ha), si_fn (si_nm hl hb)]
        exact hab
      by_cases z : d = e / 32 % 16
      · rw [if_pos z]
        have hs := h3 _ hd
        rw [hL] at hs
        have hs' := List.pairwise_append.mp hs
        have c1 : c ∉ L1 := fun q => hcL _ hd (by rw [hL]; exact List.mem_append_left _ q)
        have c2 : c ∉ l2 := fun q => hcL _ hd (by rw [hL]; exact List.mem_append_right _ q)
        refine List.pairwise_append.mpr ⟨tr _ c1 hs'.1, List.pairwise_cons.mpr ⟨?_, tr _ c2 hs'.2.1⟩, ?_⟩
        · intro b hb2
          rw [si_fs, si_fn (si_nm c2 hb2)]
          have q1 := k2 b hb2
          have q2 := ((h2 _ hd b).mp (by rw [hL]; exact List.mem_append_right _ hb2)).1
          have q3 := (hE b q2).2.1
          have q4 : b ≠ c := fun q => c2 (q ▸ hb2)
          rcases Nat.lt_or_ge e (ev b) with q | q
          · exact q
          · have : ev b = e := by omega
            rw [this] at q3; omega
        · intro a ha b hb2
          rw [si_fn (si_nm c1 ha)]
          rcases List.mem_cons.mp hb2 with q | q
          · rw [q, si_fs]; exact k1 a ha
          · rw [si_fn (si_nm c2 q)]; exact hs'.2.2 a ha b q
      · rw [if_neg z]; exact tr _ (hcL d hd') (h3 d hd')
    · intro x hx
      by_cases y : x = c
      · rw [y, pk_us, si_fs]
      · rw [si_fn y] at hx ⊢
        rw [pk_un y]; exact h4 x hx
    · intro x hx
      by_cases y : x = c
      · rw [y, si_fs]; exact hlo
      · rw [si_fn y] at hx ⊢; exact h6 x hx
end
end
section
/-! engine 1: the next event, and taking it -/
section
variable {f_customers f_changes f_engine f_pending f_today f_root f_lastTaken : Int32} {a_servers a_rules a_arrivalOf a_visitCount a_visitStation a_visitNeed a_joinTime a_beginTime a_leaveTime a_keptTime a_keptJoin a_keptBegin a_changeTime a_changeStation a_changeAt a_changeWaits a_visitOf a_waitingSet a_free a_heap a_dayFirst a_nextInDay a_eventOf a_firstChild a_nextSibling a_pairs a_bucketFirst : Nat → Int32}
theorem ca_fb {post : Int32 → Prop} {c : Nat} {ev : Nat → Nat} {L : Nat → List Nat} (hE : qu_E ev) (hM : qu_M ev c)
  (h1 : ∀ d, d < 16 → ch_L a_nextInDay (L d) (a_dayFirst d)) (h2 : ∀ d, d < 16 → ∀ c, c ∈ L d ↔ ev c ≠ 0 ∧ ev c / 32 % 16 = d)
  (h3 : ∀ d, d < 16 → (L d).Pairwise (fun a b => ev a < ev b)) (h4 : ∀ c, ev c ≠ 0 → a_eventOf c = nI (ev c)) (K : post (nI c)) :
  ∀ (N d : Nat) (x1 : Int32), 16 < d + N → d ≤ 16 → ((x1 = -1 ∧ ∀ d', d' < d → L d' = []) ∨ (∃ b, x1 = nI b ∧ ev b ≠ 0 ∧ ∀ d', d' < d → ∀ y, y ∈ L d' → ev b ≤ ev y)) →
    wX_calendarNext_57 post f_customers f_changes f_engine f_pending f_today f_root f_lastTaken a_servers a_rules a_arrivalOf a_visitCount a_visitStation a_visitNeed a_joinTime a_beginTime a_leaveTime a_keptTime a_keptJoin a_keptBegin a_changeTime a_changeStation a_changeAt a_changeWaits a_visitOf a_waitingSet a_free a_heap a_dayFirst a_nextInDay a_eventOf a_firstChild a_nextSibling a_pairs a_bucketFirst N x1 (nI d) := by
  intro N
  induction N with
  | zero => intro d x1 h h'; omega
  | succ N ih =>
    intro d x1 hN hd hx
    refine pk_le 16 d (fun h => ?_) (fun h => ?_)
    · have hc := (h2 (ev c / 32 % 16) (Nat.mod_lt _ (by omega)) c).mpr ⟨hM.2.1, rfl⟩
      have hm : ev c / 32 % 16 < d := by have := Nat.mod_lt (ev c / 32) (show 16 > 0 by omega); omega
      rcases hx with ⟨_, hx⟩ | ⟨b, eb, hb0, hx⟩
      · rw [hx _ hm] at hc
        cases hc
      · have := hx _ hm c hc
        have e : b = c := qu_E_inj hE hb0 (Nat.le_antisymm this (hM.2.2 b hb0))
        rw [eb, e]; exact K
    · refine ⟨pk_in d 16 h, ?_⟩
      rw [nI_clamp (by omega : d < 2 ^ 31), nI_1]
      intro x3 ex3
      have hch := h1 d h
      rw [← ex3] at hch
      have up : ∀ (p : Nat → Prop), (∀ d', d' < d → p d') → p d → ∀ d', d' < d + 1 → p d' := fun p a b d' hd' => by
        by_cases z : d' = d
        · rw [z]; exact b
        · exact a d' (by omega)
      cases hl : L d with
      | nil =>
        rw [hl] at hch
        have e3 : x3 = -1 := hch
        subst e3
        refine br_t (by decide) ?_
        intro y ey
        subst ey
        refine ih (d + 1) x1 (by omega) (by omega) ?_
        rcases hx with ⟨e1, hx⟩ | ⟨b, eb, hb0, hx⟩
        · exact Or.inl ⟨e1, up (fun d' => L d' = []) hx hl⟩
        · exact Or.inr ⟨b, eb, hb0, up (fun d' => ∀ y, y ∈ L d' → ev b ≤ ev y) hx (fun y hy => by rw [hl] at hy; cases hy)⟩
      | cons a l =>
        rw [hl] at hch
        obtain ⟨e3, ha12, _⟩ := hch
        rw [e3]
        have ha0 : ev a ≠ 0 := ((h2 d h a).mp (by rw [hl]; exact List.mem_cons_self)).1
        have hs := h3 d h
        rw [hl] at hs
        have hmin : ∀ y, y ∈ L d → ev a ≤ ev y := by
          intro y hy
          rw [hl] at hy
          rcases List.mem_cons.mp hy with z | z
          · rw [z]; exact Nat.le_refl _
          · exact Nat.le_of_lt ((List.pairwise_cons.mp hs).1 y z)
        refine br_f (nI_pos (by omega)) ?_
        rcases hx with ⟨e1, hx⟩ | ⟨b, eb, hb0, hx⟩
        · rw [e1]
          refine br_t (by decide) ?_
          intro y ey
          subst ey
          refine ih (d + 1) _ (by omega) (by omega) (Or.inr ⟨a, rfl, ha0, up (fun d' => ∀ y, y ∈ L d' → ev a ≤ ev y) ?_ hmin⟩)
          intro d' hd' y hy
          rw [hx d' hd'] at hy
          cases hy
        · have hb12 := (hE b hb0).1
          have l1 := qu_E_lt hE a
          have l2 := qu_E_lt hE b
          rw [eb]
          refine br_f (nI_pos (by omega)) ⟨pk_in a 12 ha12, pk_in b 12 hb12, ?_⟩
          rw [nI_clamp (by omega : a < 2 ^ 31), nI_clamp (by omega : b < 2 ^ 31), h4 a ha0, h4 b hb0]
          refine pk_le (ev b) (ev a) (fun hle => ?_) (fun hlt => ?_)
          · intro y ey
            subst ey
            exact ih (d + 1) _ (by omega) (by omega) (Or.inr ⟨b, rfl, hb0, up (fun d' => ∀ y, y ∈ L d' → ev b ≤ ev y) hx (fun y hy => Nat.le_trans hle (hmin y hy))⟩)
          · intro y ey
            subst ey
            exact ih (d + 1) _ (by omega) (by omega) (Or.inr ⟨a, rfl, ha0, up (fun d' => ∀ y, y ∈ L d' → ev a ≤ ev y) (fun d' hd' y hy => Nat.le_trans (Nat.le_of_lt hlt) (hx d' hd' y hy)) hmin⟩)
theorem ca_nx {post : Int32 → Prop} {c lo : Nat} {ev : Nat → Nat} {L : Nat → List Nat} (hE : qu_E ev) (hM : qu_M ev c)
  (h1 : ∀ d, d < 16 → ch_L a_nextInDay (L d) (a_dayFirst d)) (h2 : ∀ d, d < 16 → ∀ c, c ∈ L d ↔ ev c ≠ 0 ∧ ev c / 32 % 16 = d)
  (h3 : ∀ d, d < 16 → (L d).Pairwise (fun a b => ev a < ev b)) (h4 : ∀ c, ev c ≠ 0 → a_eventOf c = nI (ev c)) (h5 : f_today = nI (lo / 32)) (hlo : lo < 65536) (K : post (nI c)) :
  ∀ (N k : Nat), 16 < k + N → k ≤ 16 → lo / 32 + k ≤ ev c / 32 → wX_calendarNext_2 post f_customers f_changes f_engine f_pending f_today f_root f_lastTaken a_servers a_rules a_arrivalOf a_visitCount a_visitStation a_visitNeed a_joinTime a_beginTime a_leaveTime a_keptTime a_keptJoin a_keptBegin a_changeTime a_changeStation a_changeAt a_changeWaits a_visitOf a_waitingSet a_free a_heap a_dayFirst a_nextInDay a_eventOf a_firstChild a_nextSibling a_pairs a_bucketFirst N (nI k) := by
  have hc0 := (h2 (ev c / 32 % 16) (Nat.mod_lt _ (by omega)) c).mpr ⟨hM.2.1, rfl⟩
  obtain ⟨l', hl'⟩ := ca_hd hE hM (fun d hd => ((h2 (ev c / 32 % 16) (Nat.mod_lt _ (by omega)) d).mp hd).1) hc0 (h3 _ (Nat.mod_lt _ (by omega)))
  have hdf : a_dayFirst (ev c / 32 % 16) = nI c := by
    have := h1 (ev c / 32 % 16) (Nat.mod_lt _ (by omega))
    rw [hl'] at this
    exact this.1
  have hcl := qu_E_lt hE c
  intro N
  induction N with
  | zero => intro k h h'; omega
  | succ N ih =>
    intro k hN hk hle
    refine pk_le 16 k (fun h => ?_) (fun h => ?_)
    · exact ⟨17, ca_fb hE hM h1 h2 h3 h4 K 17 0 (-1) (by omega) (by omega) (Or.inl ⟨rfl, fun d' h => by omega⟩)⟩
    · have e1 : f_today + nI k = nI (lo / 32 + k) := by rw [h5, nI_add]
      have e2 : nI (lo / 32 + k) - nI (lo / 32 + k) / 16 * 16 = nI ((lo / 32 + k) % 16) := pk_rem (d := 16) (by omega) (by omega) (by omega)
      have hm : (lo / 32 + k) % 16 < 16 := Nat.mod_lt _ (by omega)
      refine ⟨by decide, ?_⟩
      rw [e1, e2, nI_clamp (by omega : (lo / 32 + k) % 16 < 2 ^ 31)]
      refine ⟨pk_in ((lo / 32 + k) % 16) 16 hm, ?_⟩
      intro x2 ex2
      have go : lo / 32 + k ≠ ev c / 32 → ∀ y : Int32, y = nI k + 1 → wX_calendarNext_2 post f_customers f_changes f_engine f_pending f_today f_root f_lastTaken a_servers a_rules a_arrivalOf a_visitCount a_visitStation a_visitNeed a_joinTime a_beginTime a_leaveTime a_keptTime a_keptJoin a_keptBegin a_changeTime a_changeStation a_changeAt a_changeWaits a_visitOf a_waitingSet a_free a_heap a_dayFirst a_nextInDay a_eventOf a_firstChild a_nextSibling a_pairs a_bucketFirst N y := by
        intro hne y ey
        rw [nI_1] at ey
        subst ey
        exact ih (k + 1) (by omega) (by omega) (by omega)
      have hch := h1 _ hm
      rw [← ex2] at hch
      cases hl : L ((lo / 32 + k) % 16) with
      | nil =>
        rw [hl] at hch
        have e3 : x2 = -1 := hch
        subst e3
        refine br_t (by decide) (go ?_)
        intro z
        rw [z, hl'] at hl
        cases hl
      | cons a l =>
        rw [hl] at hch
        obtain ⟨e3, ha12, _⟩ := hch
        have ha := (h2 _ hm a).mp (by rw [hl]; exact List.mem_cons_self)
        have hal := qu_E_lt hE a
        have hage := hM.2.2 a ha.1
        rw [e3]
        refine br_f (nI_pos (by omega)) ⟨pk_in a 12 ha12, by decide, ?_⟩
        rw [nI_clamp (by omega : a < 2 ^ 31), h4 a ha.1, ev_ti hal]
        refine pk_eq (ev a / 32) (lo / 32 + k) (fun h' => ?_) (fun h' => go ?_)
        · have hT : lo / 32 + k = ev c / 32 := by
            have := Nat.div_le_div_right (c := 32) hage
            omega
          have : a_dayFirst ((lo / 32 + k) % 16) = nI c := by rw [hT]; exact hdf
          rw [← ex2, e3] at this
          rw [this]; exact K
        · intro z
          have : a_dayFirst ((lo / 32 + k) % 16) = nI c := by rw [z]; exact hdf
          rw [← ex2, e3] at this
          have hac : a = c := (nI_eq (by omega) (by have := hM.1; omega)).mp this
          rw [hac] at h'
          omega
theorem ca_next {post : Int32 → Prop} {c lo : Nat} {ev : Nat → Nat} (hE : qu_E ev) (hM : qu_M ev c) (hQ : ca_Q lo ev f_today a_dayFirst a_nextInDay a_eventOf) (K : post (nI c)) : wpX_calendarNext post (f_customers, f_changes, f_engine, f_pending, f_today, f_root, f_lastTaken, a_servers, a_rules, a_arrivalOf, a_visitCount, a_visitStation, a_visitNeed, a_joinTime, a_beginTime, a_leaveTime, a_keptTime, a_keptJoin, a_keptBegin, a_changeTime, a_changeStation, a_changeAt, a_changeWaits, a_visitOf, a_waitingSet, a_free, a_heap, a_dayFirst, a_nextInDay, a_eventOf, a_firstChild, a_nextSibling, a_pairs, a_bucketFirst) := by
  obtain ⟨L, h1, h2, h3, h4, h5, hl6, h6⟩ := hQ
  have hle := Nat.div_le_div_right (c := 32) (h6 c hM.2.1)
  exact ⟨17, ca_nx hE hM h1 h2 h3 h4 h5 hl6 K 17 0 (by omega) (by omega) (by omega)⟩
theorem ca_take {post : Int32 → SX → Prop} {c lo : Nat} {ev : Nat → Nat} (hE : qu_E ev) (hM : qu_M ev c) (hQ : ca_Q lo ev f_today a_dayFirst a_nextInDay a_eventOf)
  (K : ∀ (td : Int32) (df : Nat → Int32), ca_Q (ev c) (si_fu ev c 0) td df a_nextInDay a_eventOf → post (nI (ev c)) (f_customers, f_changes, f_engine, f_pending, td, f_root, f_lastTaken, a_servers, a_rules, a_arrivalOf, a_visitCount, a_visitStation, a_visitNeed, a_joinTime, a_beginTime, a_leaveTime, a_keptTime, a_keptJoin, a_keptBegin, a_changeTime, a_changeStation, a_changeAt, a_changeWaits, a_visitOf, a_waitingSet, a_free, a_heap, df, a_nextInDay, a_eventOf, a_firstChild, a_nextSibling, a_pairs, a_bucketFirst)) : wpX_calendarTake post (f_customers, f_changes, f_engine, f_pending, f_today, f_root, f_lastTaken, a_servers, a_rules, a_arrivalOf, a_visitCount, a_visitStation, a_visitNeed, a_joinTime, a_beginTime, a_leaveTime, a_keptTime, a_keptJoin, a_keptBegin, a_changeTime, a_changeStation, a_changeAt, a_changeWaits, a_visitOf, a_waitingSet, a_free, a_heap, a_dayFirst, a_nextInDay, a_eventOf, a_firstChild, a_nextSibling, a_pairs, a_bucketFirst) := by
  refine ca_next hE hM hQ ?_
  obtain ⟨L, h1, h2, h3, h4, h5, hl6, h6⟩ := hQ
  have hd : ev c / 32 % 16 < 16 := Nat.mod_lt _ (by omega)
  have hc0 := (h2 (ev c / 32 % 16) hd c).mpr ⟨hM.2.1, rfl⟩
  obtain ⟨l', hl'⟩ := ca_hd hE hM (fun d hd' => ((h2 (ev c / 32 % 16) hd d).mp hd').1) hc0 (h3 _ hd)
  have hcl := qu_E_lt hE c
  have hc12 := hM.1
  have hch := h1 _ hd
  rw [hl'] at hch
  have hs := h3 _ hd
  rw [hl'] at hs
  have hs' := List.pairwise_cons.mp hs
  refine ⟨pk_in c 12 hc12, by decide, ?_⟩
  rw [nI_clamp (by omega : c < 2 ^ 31), h4 c hM.2.1, ev_ti hcl, ch_b1 hch.2.2]
  intro td etd
  subst etd
  rw [ev_da (by omega : ev c / 32 < 65536), nI_clamp (by omega : ev c / 32 % 16 < 2 ^ 31)]
  refine ⟨by decide, pk_in c 12 hc12, pk_in (ev c / 32 % 16) 16 hd, ?_⟩
  intro df edf
  subst edf
  refine ⟨pk_in c 12 hc12, ?_⟩
  refine K _ _ ⟨fun d => if d = ev c / 32 % 16 then l' else L d, ?_, ?_, ?_, ?_, rfl, hcl, ?_⟩
  · intro d hd'
    (try dsimp only)
    by_cases z : d = ev c / 32 % 16
    · rw [if_pos z, z, pk_us]; exact hch.2.2
    · rw [if_neg z, pk_un z]; exact h1 d hd'
  · intro d hd' x
    (try dsimp only)
    by_cases z : d = ev c / 32 % 16
    · rw [if_pos z]
      by_cases y : x = c
      · rw [y, si_fs]
        refine ⟨fun q => ?_, fun q => absurd rfl q.1⟩
        have := hs'.1 c q
        omega
      · rw [si_fn y, z]
        have a := h2 _ hd x
        rw [hl'] at a
        refine ⟨fun q => a.mp (List.mem_cons_of_mem _ q), fun q => ?_⟩
        rcases List.mem_cons.mp (a.mpr q) with w | w
        · exact absurd w y
        · exact w
    · rw [if_neg z]
      by_cases y : x = c
      · rw [y, si_fs]
        exact ⟨fun q => absurd ((h2 d hd' c).mp q).2.symm z, fun q => absurd rfl q.1⟩
      · rw [si_fn y]; exact h2 d hd' x
  · intro d hd'
    (try dsimp only)
    have tr : ∀ l : List Nat, c ∉ l → l.Pairwise (fun a b => ev a < ev b) → l.Pairwise (fun a b => si_fu ev c 0 a < si_fu ev c 0 b) := by
      intro l hl hp
      refine List.Pairwise.imp_of_mem ?_ hp
      intro a b ha hb hab
      rw [si_fn (si_nm hl ha), si_fn (si_nm hl hb)]
      exact hab
    by_cases z : d = ev c / 32 % 16
    · rw [if_pos z]
      refine tr _ (fun q => ?_) hs'.2
      have := hs'.1 c q
      omega
    · rw [if_neg z]
      exact tr _ (fun q => z ((h2 d hd' c).mp q).2.symm) (h3 d hd')
  · intro x hx
    by_cases y : x = c
    · rw [y, si_fs] at hx; exact absurd rfl hx
    · rw [si_fn y] at hx ⊢; exact h4 x hx
  · intro x hx
    by_cases y : x = c
    · rw [y, si_fs] at hx; exact absurd rfl hx
    · rw [si_fn y] at hx ⊢; exact hM.2.2 x hx
end
end
section
/-! engine 3: buckets of bits -/
def bu_l : Nat → Nat → Nat
  | 0, _ => 0
  | f + 1, z => if z = 0 then 0 else bu_l f (z / 2) + 1
theorem bu_l_le : ∀ (f z : Nat), z < 2 ^ f → ∀ n, bu_l f z ≤ n ↔ z < 2 ^ n
  | 0, z, h, n => by
    have e : z = 0 := by rw [Nat.pow_zero] at h; omega
    subst e
    exact ⟨fun _ => Nat.two_pow_pos n, fun _ => Nat.zero_le n⟩
  | f + 1, z, h, n => by
    by_cases e : z = 0
    · subst e
      have a : bu_l (f + 1) 0 = 0 := if_pos rfl
      rw [a]
      exact ⟨fun _ => Nat.two_pow_pos n, fun _ => Nat.zero_le n⟩
    · have a : bu_l (f + 1) z = bu_l f (z / 2) + 1 := if_neg e
      rw [a]
      cases n with
      | zero => rw [Nat.pow_zero]; omega
      | succ n =>
        have k := bu_l_le f (z / 2) (by rw [Nat.pow_succ] at h; omega) n
        rw [Nat.pow_succ]
        generalize 2 ^ n = p at k ⊢
        omega
def bu_k (e lo : Nat) : Nat := bu_l 16 (e ^^^ lo)
theorem bu_x {e lo n : Nat} : e ^^^ lo < 2 ^ n ↔ e / 2 ^ n = lo / 2 ^ n := by
  have a : (e ^^^ lo) / 2 ^ n = (e / 2 ^ n) ^^^ (lo / 2 ^ n) := by
    exact Nat.xor_div_two_pow
  constructor
  · intro h
    rw [Nat.div_eq_of_lt h] at a
    have b : e / 2 ^ n ^^^ lo / 2 ^ n ^^^ lo / 2 ^ n = e / 2 ^ n := by rw [Nat.xor_assoc, Nat.xor_self, Nat.xor_zero]
    rw [← a, Nat.zero_xor] at b
    exact b.symm
  · intro h
    rw [h, Nat.xor_self] at a
    have := Nat.lt_of_div_eq_zero (Nat.two_pow_pos n) a
    exact this
theorem bu_le {e lo n : Nat} (he : e < 65536) (hl : lo < 65536) : bu_k e lo ≤ n ↔ e / 2 ^ n = lo / 2 ^ n :=
  (bu_l_le 16 _ (Nat.xor_lt_two_pow (n := 16) he hl) n).trans bu_x
theorem bu_16 {e lo : Nat} (he : e < 65536) (hl : lo < 65536) : bu_k e lo ≤ 16 :=
  (bu_l_le 16 _ (Nat.xor_lt_two_pow (n := 16) he hl) 16).mpr (Nat.xor_lt_two_pow (n := 16) he hl)
theorem bu_lt {x y lo : Nat} (hx : x < 65536) (hy : y < 65536) (hl : lo < 65536) (h : bu_k x lo < bu_k y lo) (hy2 : lo ≤ y) : x < y := by
  have a := (bu_le (n := bu_k x lo) hx hl).mp (Nat.le_refl _)
  have b : ¬ y / 2 ^ bu_k x lo = lo / 2 ^ bu_k x lo := fun z => by
    have := (bu_le (n := bu_k x lo) hy hl).mpr z
    omega
  have c := Nat.div_le_div_right (c := 2 ^ bu_k x lo) hy2
  rcases Nat.lt_or_ge x y with z | z
  · exact z
  · have d := Nat.div_le_div_right (c := 2 ^ bu_k x lo) z
    omega
theorem bu_keep {y m lo : Nat} (hy : y < 65536) (hm : m < 65536) (hl : lo < 65536) (h : bu_k m lo < bu_k y lo) : bu_k y m = bu_k y lo := by
  have key : ∀ n, bu_k m lo ≤ n → (bu_k y m ≤ n ↔ bu_k y lo ≤ n) := by
    intro n hn
    have a := (bu_le (n := n) hm hl).mp hn
    rw [bu_le hy hm, bu_le hy hl, a]
  have a := key (bu_k y lo) (by omega)
  have b := key (bu_k y lo - 1) (by omega)
  omega
def bu_Q (lo : Nat) (ev : Nat → Nat) (lk : Int32) (nd eo bf : Nat → Int32) : Prop :=
  ∃ L : Nat → List Nat, (∀ b, b < 24 → ch_L nd (L b) (bf b)) ∧ (∀ b, b < 24 → ∀ c, c ∈ L b ↔ ev c ≠ 0 ∧ bu_k (ev c) lo = b) ∧
    (∀ b, b < 24 → (L b).Nodup) ∧ (∀ c, ev c ≠ 0 → eo c = nI (ev c)) ∧ lk = nI lo ∧ lo < 65536 ∧ (∀ c, ev c ≠ 0 → lo ≤ ev c)
section
variable {f_customers f_changes f_engine f_pending f_today f_root f_lastTaken : Int32} {a_servers a_rules a_arrivalOf a_visitCount a_visitStation a_visitNeed a_joinTime a_beginTime a_leaveTime a_keptTime a_keptJoin a_keptBegin a_changeTime a_changeStation a_changeAt a_changeWaits a_visitOf a_waitingSet a_free a_heap a_dayFirst a_nextInDay a_eventOf a_firstChild a_nextSibling a_pairs a_bucketFirst : Nat → Int32}
theorem bu_fl {post : Int32 → Prop} : ∀ (N f z n : Nat), z < 2 ^ f → f < N → f ≤ 16 → post (nI (n + bu_l f z)) → wX_bucketFor_9 post f_customers f_changes f_engine f_pending f_today f_root f_lastTaken a_servers a_rules a_arrivalOf a_visitCount a_visitStation a_visitNeed a_joinTime a_beginTime a_leaveTime a_keptTime a_keptJoin a_keptBegin a_changeTime a_changeStation a_changeAt a_changeWaits a_visitOf a_waitingSet a_free a_heap a_dayFirst a_nextInDay a_eventOf a_firstChild a_nextSibling a_pairs a_bucketFirst N (nI z) (nI n) := by
  intro N
  induction N with
  | zero => intro f z n _ h; omega
  | succ N ih =>
    intro f z n hz hf hf16 K
    have hz31 : z < 65536 := Nat.lt_of_lt_of_le hz (Nat.pow_le_pow_right (by omega) hf16)
    refine pk_eq z 0 (fun h => ?_) (fun h => ?_)
    · have e : bu_l f z = 0 := by
        cases f with
        | zero => rfl
        | succ f => exact if_pos h
      rw [e, Nat.add_zero] at K
      exact K
    · cases f with
      | zero => rw [Nat.pow_zero] at hz; omega
      | succ f =>
        have e : bu_l (f + 1) z = bu_l f (z / 2) + 1 := if_neg h
        rw [e] at K
        rw [pk_shrN (by omega) ((1 : Int32) &&& 31) 1 (by decide), nI_1]
        intro x2 e2
        subst e2
        intro x3 e3
        subst e3
        refine ih f (z / 2 ^ 1) (n + 1) ?_ (by omega) (by omega) ?_
        · rw [Nat.pow_succ] at hz
          rw [Nat.pow_one]
          omega
        · rw [Nat.pow_one, Nat.add_assoc, Nat.add_comm 1]; exact K
theorem bu_for {post : Int32 → Prop} {e lo : Nat} (he : e < 65536) (hl : lo < 65536) (hk : f_lastTaken = nI lo) (K : post (nI (bu_k e lo))) : wpX_bucketFor post (f_customers, f_changes, f_engine, f_pending, f_today, f_root, f_lastTaken, a_servers, a_rules, a_arrivalOf, a_visitCount, a_visitStation, a_visitNeed, a_joinTime, a_beginTime, a_leaveTime, a_keptTime, a_keptJoin, a_keptBegin, a_changeTime, a_changeStation, a_changeAt, a_changeWaits, a_visitOf, a_waitingSet, a_free, a_heap, a_dayFirst, a_nextInDay, a_eventOf, a_firstChild, a_nextSibling, a_pairs, a_bucketFirst) (nI e) := by
  intro x2 e2
  rw [hk, nx_xor] at e2
  subst e2
  refine ⟨17, bu_fl 17 16 (e ^^^ lo) 0 (Nat.xor_lt_two_pow (n := 16) he hl) (by omega) (by omega) ?_⟩
  rw [Nat.zero_add]; exact K
theorem bu_add {post : SX → Prop} {e c lo : Nat} {ev : Nat → Nat} (hE : qu_E ev) (hc : c < 12) (h0 : ev c = 0) (he : e % 16 = c) (hb : e < 65536) (he0 : e ≠ 0) (hlo : lo ≤ e) (hQ : bu_Q lo ev f_lastTaken a_nextInDay a_eventOf a_bucketFirst)
  (K : ∀ nd eo bf : Nat → Int32, bu_Q lo (si_fu ev c e) f_lastTaken nd eo bf → (∀ x, x ≠ c → nd x = a_nextInDay x) → (∀ x, x ≠ c → eo x = a_eventOf x) → post (f_customers, f_changes, f_engine, f_pending, f_today, f_root, f_lastTaken, a_servers, a_rules, a_arrivalOf, a_visitCount, a_visitStation, a_visitNeed, a_joinTime, a_beginTime, a_leaveTime, a_keptTime, a_keptJoin, a_keptBegin, a_changeTime, a_changeStation, a_changeAt, a_changeWaits, a_visitOf, a_waitingSet, a_free, a_heap, a_dayFirst, nd, eo, a_firstChild, a_nextSibling, a_pairs, bf)) : wpX_bucketAdd post (f_customers, f_changes, f_engine, f_pending, f_today, f_root, f_lastTaken, a_servers, a_rules, a_arrivalOf, a_visitCount, a_visitStation, a_visitNeed, a_joinTime, a_beginTime, a_leaveTime, a_keptTime, a_keptJoin, a_keptBegin, a_changeTime, a_changeStation, a_changeAt, a_changeWaits, a_visitOf, a_waitingSet, a_free, a_heap, a_dayFirst, a_nextInDay, a_eventOf, a_firstChild, a_nextSibling, a_pairs, a_bucketFirst) (nI e) := by
  obtain ⟨L, h1, h2, h3, h4, h5, hl6, h6⟩ := hQ
  have hcL : ∀ d, d < 24 → c ∉ L d := fun d hd z => ((h2 d hd c).mp z).1 h0
  have hk16 := bu_16 hb hl6
  have hk24 : bu_k e lo < 24 := by omega
  have hch := h1 _ hk24
  refine ⟨by decide, ?_⟩
  rw [ev_cu hb, he]
  refine bu_for hb hl6 h5 ?_
  refine ⟨pk_in c 12 hc, ?_⟩
  rw [nI_clamp (by omega : c < 2 ^ 31), nI_clamp (by omega : bu_k e lo < 2 ^ 31), ch_b1 hch, by_2 (by omega)]
  intro eo eeo
  subst eeo
  refine ⟨pk_in (bu_k e lo) 24 hk24, pk_in c 12 hc, ?_⟩
  intro nd end_
  subst end_
  refine ⟨pk_in (bu_k e lo) 24 hk24, ?_⟩
  intro bf ebf
  subst ebf
  refine K _ _ _ ⟨fun b => if b = bu_k e lo then c :: L b else L b, ?_, ?_, ?_, ?_, h5, hl6, ?_⟩ (fun x hx => pk_un hx) (fun x hx => pk_un hx)
  · intro b hb'
    (try dsimp only)
    by_cases z : b = bu_k e lo
    · rw [if_pos z, z, pk_us]
      refine ⟨rfl, hc, ?_⟩
      rw [pk_us]
      exact ch_up (hcL _ hk24) hch
    · rw [if_neg z, pk_un z]
      exact ch_up (hcL _ hb') (h1 b hb')
  · intro b hb' x
    (try dsimp only)
    by_cases y : x = c
    · rw [y, si_fs]
      by_cases z : b = bu_k e lo
      · rw [if_pos z]
        exact ⟨fun _ => ⟨he0, z.symm⟩, fun _ => List.mem_cons_self⟩
      · rw [if_neg z]
        exact ⟨fun q => absurd q (hcL b hb'), fun q => absurd q.2.symm z⟩
    · rw [si_fn y]
      by_cases z : b = bu_k e lo
      · rw [if_pos z]
        refine ⟨fun q => (h2 b hb' x).mp ?_, fun q => List.mem_cons_of_mem _ ((h2 b hb' x).mpr q)⟩
        rcases List.mem_cons.mp q with w | w
        · exact absurd w y
        · exact w
      · rw [if_neg z]; exact h2 b hb' x
  · intro b hb'
    (try dsimp only)
    by_cases z : b = bu_k e lo
    · rw [if_pos z]; exact List.nodup_cons.mpr ⟨hcL b hb', h3 b hb'⟩
    · rw [if_neg z]; exact h3 b hb'
  · intro x hx
    by_cases y : x = c
    · rw [y, pk_us, si_fs]
    · rw [si_fn y] at hx ⊢
      rw [pk_un y]; exact h4 x hx
  · intro x hx
    by_cases y : x = c
    · rw [y, si_fs]; exact hlo
    · rw [si_fn y] at hx ⊢; exact h6 x hx
theorem bu_first {post : Int32 → Prop} {c lo : Nat} {ev : Nat → Nat} (hE : qu_E ev) (hM : qu_M ev c) (hQ : bu_Q lo ev f_lastTaken a_nextInDay a_eventOf a_bucketFirst) (K : post (nI (bu_k (ev c) lo))) : wpX_firstBucket post (f_customers, f_changes, f_engine, f_pending, f_today, f_root, f_lastTaken, a_servers, a_rules, a_arrivalOf, a_visitCount, a_visitStation, a_visitNeed, a_joinTime, a_beginTime, a_leaveTime, a_keptTime, a_keptJoin, a_keptBegin, a_changeTime, a_changeStation, a_changeAt, a_changeWaits, a_visitOf, a_waitingSet, a_free, a_heap, a_dayFirst, a_nextInDay, a_eventOf, a_firstChild, a_nextSibling, a_pairs, a_bucketFirst) := by
  obtain ⟨L, h1, h2, h3, h4, h5, hl6, h6⟩ := hQ
  have hk16 := bu_16 (qu_E_lt hE c) hl6
  have key : ∀ (N i : Nat), 24 < i + N → i ≤ bu_k (ev c) lo → wX_firstBucket_2 post f_customers f_changes f_engine f_pending f_today f_root f_lastTaken a_servers a_rules a_arrivalOf a_visitCount a_visitStation a_visitNeed a_joinTime a_beginTime a_leaveTime a_keptTime a_keptJoin a_keptBegin a_changeTime a_changeStation a_changeAt a_changeWaits a_visitOf a_waitingSet a_free a_heap a_dayFirst a_nextInDay a_eventOf a_firstChild a_nextSibling a_pairs a_bucketFirst N (nI i) := by
    intro N
    induction N with
    | zero => intro i h h'; omega
    | succ N ih =>
      intro i hN hi
      refine pk_le 23 i (fun h => by omega) (fun h => ?_)
      refine ⟨pk_in i 24 (by omega), ?_⟩
      rw [nI_clamp (by omega : i < 2 ^ 31), nI_1]
      have hch := h1 i (by omega)
      cases hl : L i with
      | nil =>
        rw [hl] at hch
        have e : a_bucketFirst i = -1 := hch
        rw [e]
        refine br_f (by decide) ?_
        intro y ey
        subst ey
        refine ih (i + 1) (by omega) ?_
        rcases Nat.lt_or_ge i (bu_k (ev c) lo) with z | z
        · exact z
        · have := (h2 i (by omega) c).mpr ⟨hM.2.1, by omega⟩
          rw [hl] at this
          cases this
      | cons a l =>
        rw [hl] at hch
        rw [hch.1]
        have ha12 := hch.2.1
        refine br_t (nI_pos' (by omega)) ?_
        have ha := (h2 i (by omega) a).mp (by rw [hl]; exact List.mem_cons_self)
        have e : i = bu_k (ev c) lo := by
          rcases Nat.lt_or_ge i (bu_k (ev c) lo) with z | z
          · have := bu_lt (qu_E_lt hE a) (qu_E_lt hE c) hl6 (by rw [ha.2]; exact z) (h6 c hM.2.1)
            have := hM.2.2 a ha.1
            omega
          · omega
        rw [e]; exact K
  exact ⟨25, key 25 0 (by omega) (by omega)⟩
theorem bu_least {post : Int32 → Prop} {c lo : Nat} {ev : Nat → Nat} (hE : qu_E ev) (hM : qu_M ev c) (hQ : bu_Q lo ev f_lastTaken a_nextInDay a_eventOf a_bucketFirst) (K : post (nI c)) : wpX_leastOf post (f_customers, f_changes, f_engine, f_pending, f_today, f_root, f_lastTaken, a_servers, a_rules, a_arrivalOf, a_visitCount, a_visitStation, a_visitNeed, a_joinTime, a_beginTime, a_leaveTime, a_keptTime, a_keptJoin, a_keptBegin, a_changeTime, a_changeStation, a_changeAt, a_changeWaits, a_visitOf, a_waitingSet, a_free, a_heap, a_dayFirst, a_nextInDay, a_eventOf, a_firstChild, a_nextSibling, a_pairs, a_bucketFirst) (nI (bu_k (ev c) lo)) := by
  obtain ⟨L, h1, h2, h3, h4, h5, hl6, h6⟩ := hQ
  have hk16 := bu_16 (qu_E_lt hE c) hl6
  have hk24 : bu_k (ev c) lo < 24 := by omega
  have hcL := (h2 _ hk24 c).mpr ⟨hM.2.1, rfl⟩
  have hev : ∀ y, y ∈ L (bu_k (ev c) lo) → ev y ≠ 0 := fun y hy => ((h2 _ hk24 y).mp hy).1
  have key : ∀ (N : Nat) (l2 : List Nat) (b : Nat) (x3 : Int32), l2.length < N → ch_L a_nextInDay l2 x3 → b ∈ L (bu_k (ev c) lo) → (∀ y, y ∈ l2 → y ∈ L (bu_k (ev c) lo)) →
      (∀ y, y ∈ L (bu_k (ev c) lo) → y ∈ l2 ∨ ev b ≤ ev y) → wX_leastOf_14 post f_customers f_changes f_engine f_pending f_today f_root f_lastTaken a_servers a_rules a_arrivalOf a_visitCount a_visitStation a_visitNeed a_joinTime a_beginTime a_leaveTime a_keptTime a_keptJoin a_keptBegin a_changeTime a_changeStation a_changeAt a_changeWaits a_visitOf a_waitingSet a_free a_heap a_dayFirst a_nextInDay a_eventOf a_firstChild a_nextSibling a_pairs a_bucketFirst N (nI b) x3 := by
    intro N
    induction N with
    | zero => intro l2 b x3 h; omega
    | succ N ih =>
      intro l2 b x3 hN h5' hb hl2 hmin
      have hb0 := hev b hb
      cases l2 with
      | nil =>
        have e : x3 = -1 := h5'
        subst e
        refine br_t (by decide) ?_
        have hbc : ev b ≤ ev c := by
          rcases hmin c hcL with z | z
          · cases z
          · exact z
        have e : b = c := qu_E_inj hE hb0 (Nat.le_antisymm hbc (hM.2.2 b hb0))
        rw [e]; exact K
      | cons a l2 =>
        obtain ⟨e3, ha12, h5'⟩ := h5'
        subst e3
        have ha0 := hev a (hl2 a List.mem_cons_self)
        have hb12 := (hE b hb0).1
        have l1 := qu_E_lt hE a
        have l2' := qu_E_lt hE b
        refine br_f (nI_pos (by omega)) ⟨pk_in a 12 ha12, pk_in b 12 hb12, ?_⟩
        rw [nI_clamp (by omega : a < 2 ^ 31), nI_clamp (by omega : b < 2 ^ 31), h4 a ha0, h4 b hb0]
        have hlen : l2.length < N := by simp only [List.length_cons] at hN; omega
        refine pk_le (ev b) (ev a) (fun hle => ?_) (fun hlt => ?_)
        · refine ⟨pk_in a 12 ha12, ?_⟩
          intro y ey
          subst ey
          refine ih l2 b _ hlen h5' hb (fun y hy => hl2 y (List.mem_cons_of_mem _ hy)) (fun y hy => ?_)
          rcases hmin y hy with z | z
          · rcases List.mem_cons.mp z with w | w
            · rw [w]; exact Or.inr hle
            · exact Or.inl w
          · exact Or.inr z
        · refine ⟨pk_in a 12 ha12, ?_⟩
          intro y ey
          subst ey
          refine ih l2 a _ hlen h5' (hl2 a List.mem_cons_self) (fun y hy => hl2 y (List.mem_cons_of_mem _ hy)) (fun y hy => ?_)
          rcases hmin y hy with z | z
          · rcases List.mem_cons.mp z with w | w
            · rw [w]; exact Or.inr (Nat.le_refl _)
            · exact Or.inl w
          · exact Or.inr (by omega)
  have hch := h1 _ hk24
  refine ⟨pk_in (bu_k (ev c) lo) 24 hk24, ?_⟩
  rw [nI_clamp (by omega : bu_k (ev c) lo < 2 ^ 31)]
  intro x2 e2
  refine ⟨pk_in (bu_k (ev c) lo) 24 hk24, ?_⟩
  intro x3 e3
  rw [← e3] at hch e2
  subst e2
  refine ⟨(L (bu_k (ev c) lo)).length + 1, ?_⟩
  cases hl : L (bu_k (ev c) lo) with
  | nil => rw [hl] at hcL; cases hcL
  | cons a l =>
    rw [hl] at hch
    have e := hch.1
    rw [e]
    rw [e] at hch
    have haL : a ∈ L (bu_k (ev c) lo) := by rw [hl]; exact List.mem_cons_self
    refine key _ (a :: l) a _ (Nat.lt_succ_self _) hch haL (fun y hy => by rw [hl]; exact hy) (fun y hy => Or.inl (by rw [hl] at hy; exact hy))
theorem bu_loop {post : Int32 → SX → Prop} {c m : Nat} {ev ev' : Nat → Nat} (hc : c < 12) (hm : m < 65536) (hE : qu_E ev)
  (K : ∀ nd eo bf : Nat → Int32, bu_Q m ev' (nI m) nd eo bf → post (nI m) (f_customers, f_changes, f_engine, f_pending, f_today, f_root, nI m, a_servers, a_rules, a_arrivalOf, a_visitCount, a_visitStation, a_visitNeed, a_joinTime, a_beginTime, a_leaveTime, a_keptTime, a_keptJoin, a_keptBegin, a_changeTime, a_changeStation, a_changeAt, a_changeWaits, a_visitOf, a_waitingSet, a_free, a_heap, a_dayFirst, nd, eo, a_firstChild, a_nextSibling, a_pairs, bf)) :
  ∀ (N : Nat) (l : List Nat) (ev1 : Nat → Nat) (x3 : Int32) (nd eo bf : Nat → Int32), l.length < N → ch_L nd l x3 → l.Nodup →
    (∀ y, y ∈ l → ev y ≠ 0 ∧ ev1 y = 0 ∧ eo y = nI (ev y) ∧ m ≤ ev y) → qu_E ev1 → bu_Q m ev1 (nI m) nd eo bf →
    (∀ x, x ∈ l → x ≠ c → ev' x = ev x) → (∀ x, x ∉ l ∨ x = c → ev' x = ev1 x) →
    wX_bucketTake_35 post (nI c) N x3 f_customers f_changes f_engine f_pending f_today f_root (nI m) a_servers a_rules a_arrivalOf a_visitCount a_visitStation a_visitNeed a_joinTime a_beginTime a_leaveTime a_keptTime a_keptJoin a_keptBegin a_changeTime a_changeStation a_changeAt a_changeWaits a_visitOf a_waitingSet a_free a_heap a_dayFirst nd eo a_firstChild a_nextSibling a_pairs bf := by
  intro N
  induction N with
  | zero => intro l ev1 x3 nd eo bf h; omega
  | succ N ih =>
    intro l ev1 x3 nd eo bf hN hch hnd hl hE1 hQ k1 k2
    cases l with
    | nil =>
      have e : x3 = -1 := hch
      subst e
      refine br_t (by decide) (K _ _ _ ?_)
      have : ev' = ev1 := funext fun x => k2 x (Or.inl (fun z => by cases z))
      rw [this]; exact hQ
    | cons a l =>
      obtain ⟨e3, ha12, hch'⟩ := hch
      subst e3
      have ha := hl a List.mem_cons_self
      have hal : a ∉ l := (List.nodup_cons.mp hnd).1
      have hnd' := (List.nodup_cons.mp hnd).2
      have hlen : l.length < N := by simp only [List.length_cons] at hN; omega
      refine br_f (nI_pos (by omega)) ⟨pk_in a 12 ha12, ?_⟩
      rw [nI_clamp (by omega : a < 2 ^ 31)]
      intro x4 e4
      subst e4
      refine pk_eq a c (fun h => ?_) (fun h => ?_)
      · subst h
        refine ih l ev1 _ nd eo bf hlen hch' hnd' (fun y hy => hl y (List.mem_cons_of_mem _ hy)) hE1 hQ (fun x hx => k1 x (List.mem_cons_of_mem _ hx)) (fun x hx => k2 x ?_)
        by_cases z : x = a
        · exact Or.inr z
        · refine Or.inl (fun q => ?_)
          rcases List.mem_cons.mp q with w | w
          · exact z w
          · rcases hx with v | v
            · exact v w
            · exact z v
      · refine ⟨pk_in a 12 ha12, ?_⟩
        rw [ha.2.2.1]
        have hae := hE a ha.1
        refine bu_add hE1 ha12 ha.2.1 hae.2.1 hae.2.2 ha.1 ha.2.2.2 hQ ?_
        intro nd' eo' bf' hQ' n1 n2
        have hchk : ∀ (l : List Nat) (x : Int32), a ∉ l → ch_L nd l x → ch_L nd' l x := by
          intro l
          induction l with
          | nil => intro x _ h; exact h
          | cons b l ih2 =>
            intro x hn h
            refine ⟨h.1, h.2.1, ?_⟩
            rw [n1 b (fun z => hn (z ▸ List.mem_cons_self))]
            exact ih2 _ (fun z => hn (List.mem_cons_of_mem _ z)) h.2.2
        refine ih l (si_fu ev1 a (ev a)) _ nd' eo' bf' hlen (hchk l _ hal hch') hnd' ?_ (qu_E_put hE1 ha12 hae.2.1 hae.2.2) hQ' (fun x hx => k1 x (List.mem_cons_of_mem _ hx)) ?_
        · intro y hy
          have hya : y ≠ a := fun z => hal (z ▸ hy)
          have := hl y (List.mem_cons_of_mem _ hy)
          rw [si_fn hya, n2 y hya]
          exact this
        · intro x hx
          by_cases z : x = a
          · rw [z, si_fs]; exact k1 a List.mem_cons_self h
          · rw [si_fn z]
            refine k2 x ?_
            rcases hx with v | v
            · refine Or.inl (fun q => ?_)
              rcases List.mem_cons.mp q with w | w
              · exact z w
              · exact v w
            · exact Or.inr v
theorem bu_take {post : Int32 → SX → Prop} {c lo : Nat} {ev : Nat → Nat} (hE : qu_E ev) (hM : qu_M ev c) (hQ : bu_Q lo ev f_lastTaken a_nextInDay a_eventOf a_bucketFirst)
  (K : ∀ nd eo bf : Nat → Int32, bu_Q (ev c) (si_fu ev c 0) (nI (ev c)) nd eo bf → post (nI (ev c)) (f_customers, f_changes, f_engine, f_pending, f_today, f_root, nI (ev c), a_servers, a_rules, a_arrivalOf, a_visitCount, a_visitStation, a_visitNeed, a_joinTime, a_beginTime, a_leaveTime, a_keptTime, a_keptJoin, a_keptBegin, a_changeTime, a_changeStation, a_changeAt, a_changeWaits, a_visitOf, a_waitingSet, a_free, a_heap, a_dayFirst, nd, eo, a_firstChild, a_nextSibling, a_pairs, bf)) : wpX_bucketTake post (f_customers, f_changes, f_engine, f_pending, f_today, f_root, f_lastTaken, a_servers, a_rules, a_arrivalOf, a_visitCount, a_visitStation, a_visitNeed, a_joinTime, a_beginTime, a_leaveTime, a_keptTime, a_keptJoin, a_keptBegin, a_changeTime, a_changeStation, a_changeAt, a_changeWaits, a_visitOf, a_waitingSet, a_free, a_heap, a_dayFirst, a_nextInDay, a_eventOf, a_firstChild, a_nextSibling, a_pairs, a_bucketFirst) := by
  refine bu_first hE hM hQ ?_
  refine bu_least hE hM hQ ?_
  obtain ⟨L, h1, h2, h3, h4, h5, hl6, h6⟩ := hQ
  have hcl := qu_E_lt hE c
  have hk16 := bu_16 hcl hl6
  have hk24 : bu_k (ev c) lo < 24 := by omega
  have hc12 := hM.1
  refine ⟨pk_in c 12 hc12, ?_⟩
  rw [nI_clamp (by omega : c < 2 ^ 31), h4 c hM.2.1, nI_clamp (by omega : bu_k (ev c) lo < 2 ^ 31), by_3]
  intro lk elk
  subst elk
  refine ⟨pk_in (bu_k (ev c) lo) 24 hk24, ?_⟩
  intro x3 e3
  subst e3
  refine ⟨pk_in (bu_k (ev c) lo) 24 hk24, ?_⟩
  intro bf ebf
  subst ebf
  refine ⟨(L (bu_k (ev c) lo)).length + 1, ?_⟩
  have hgt : ∀ x, ev x ≠ 0 → bu_k (ev x) lo ≠ bu_k (ev c) lo → bu_k (ev c) lo < bu_k (ev x) lo := by
    intro x hx hne
    rcases Nat.lt_or_ge (bu_k (ev x) lo) (bu_k (ev c) lo) with z | z
    · have := bu_lt (qu_E_lt hE x) hcl hl6 z (h6 c hM.2.1)
      have := hM.2.2 x hx
      omega
    · omega
  have hkeep : ∀ x, ev x ≠ 0 → bu_k (ev x) lo ≠ bu_k (ev c) lo → bu_k (ev x) (ev c) = bu_k (ev x) lo := fun x hx hne =>
    bu_keep (qu_E_lt hE x) hcl hl6 (hgt x hx hne)
  have hmem : ∀ x, x ∈ L (bu_k (ev c) lo) ↔ ev x ≠ 0 ∧ bu_k (ev x) lo = bu_k (ev c) lo := h2 _ hk24
  refine bu_loop (ev := ev) (ev' := si_fu ev c 0) hc12 hcl hE K _ (L (bu_k (ev c) lo)) (fun x => if bu_k (ev x) lo = bu_k (ev c) lo then 0 else ev x) _ a_nextInDay a_eventOf _ (Nat.lt_succ_self _) (h1 _ hk24) (h3 _ hk24) ?_ ?_ ?_ ?_ ?_
  · intro y hy
    have := (hmem y).mp hy
    exact ⟨this.1, if_pos this.2, h4 y this.1, hM.2.2 y this.1⟩
  · intro x hx
    by_cases z : bu_k (ev x) lo = bu_k (ev c) lo
    · (try dsimp only at hx); rw [if_pos z] at hx; exact absurd rfl hx
    · (try dsimp only at hx ⊢); rw [if_neg z] at hx ⊢; exact hE x hx
  · refine ⟨fun b => if b = bu_k (ev c) lo then [] else L b, ?_, ?_, ?_, ?_, rfl, hcl, ?_⟩
    · intro b hb
      (try dsimp only)
      by_cases z : b = bu_k (ev c) lo
      · rw [if_pos z, z, pk_us]; rfl
      · rw [if_neg z, pk_un z]; exact h1 b hb
    · intro b hb x
      (try dsimp only)
      by_cases y : bu_k (ev x) lo = bu_k (ev c) lo
      · rw [if_pos y]
        refine ⟨fun q => ?_, fun q => absurd rfl q.1⟩
        by_cases z : b = bu_k (ev c) lo
        · rw [if_pos z] at q; cases q
        · rw [if_neg z] at q
          have := ((h2 b hb x).mp q).2
          omega
      · rw [if_neg y]
        by_cases z : b = bu_k (ev c) lo
        · rw [if_pos z]
          refine ⟨fun q => (by cases q), fun q => ?_⟩
          have := hkeep x q.1 y
          omega
        · rw [if_neg z]
          refine ⟨fun q => ?_, fun q => ?_⟩
          · have w := (h2 b hb x).mp q
            exact ⟨w.1, by rw [hkeep x w.1 y]; exact w.2⟩
          · exact (h2 b hb x).mpr ⟨q.1, by rw [← hkeep x q.1 y]; exact q.2⟩
    · intro b hb
      (try dsimp only)
      by_cases z : b = bu_k (ev c) lo
      · rw [if_pos z]; exact List.nodup_nil
      · rw [if_neg z]; exact h3 b hb
    · intro x hx
      (try dsimp only at hx ⊢)
      by_cases y : bu_k (ev x) lo = bu_k (ev c) lo
      · rw [if_pos y] at hx; exact absurd rfl hx
      · rw [if_neg y] at hx ⊢; exact h4 x hx
    · intro x hx
      (try dsimp only at hx ⊢)
      by_cases y : bu_k (ev x) lo = bu_k (ev c) lo
      · rw [if_pos y] at hx; exact absurd rfl hx
      · rw [if_neg y] at hx ⊢; exact hM.2.2 x hx
  · intro x hx hne
    exact si_fn hne
  · intro x hx
    (try dsimp only)
    by_cases z : x = c
    · rw [z, si_fs, if_pos rfl]
    · rw [si_fn z]
      by_cases y : bu_k (ev x) lo = bu_k (ev c) lo
      · rw [if_pos y]
        rcases hx with v | v
        · by_cases w : ev x = 0
          · exact w
          · exact absurd ((hmem x).mpr ⟨w, y⟩) v
        · exact absurd v z
      · rw [if_neg y]
end
end
section
/-! engine 2: paired trees, by the lists of children -/
def pt_F (ev : Nat → Nat) (ch : Nat → List Nat) (R : List Nat) : Prop :=
  (∀ c x, x ∈ ch c → ev x ≠ 0 ∧ ev c ≠ 0 ∧ ev c < ev x ∧ x ∉ R) ∧ (∀ c d x, x ∈ ch c → x ∈ ch d → c = d) ∧ (∀ c, (ch c).Nodup) ∧
  (∀ x, ev x ≠ 0 → x ∈ R ∨ ∃ c, x ∈ ch c) ∧ (∀ x, x ∈ R → ev x ≠ 0) ∧ R.Nodup
def pt_C (ev : Nat → Nat) (ch : Nat → List Nat) (fc ns : Nat → Int32) : Prop := ∀ c, ev c ≠ 0 → ch_L ns (ch c) (fc c)
def pt_Q (ev : Nat → Nat) (rt : Int32) (fc ns eo : Nat → Int32) : Prop :=
  ∃ (ch : Nat → List Nat) (R : List Nat), (∀ c, ev c ≠ 0 → eo c = nI (ev c)) ∧ pt_C ev ch fc ns ∧ pt_F ev ch R ∧ ((rt = -1 ∧ R = []) ∨ (∃ r, rt = nI r ∧ R = [r]))
theorem pt_nc (l : List Nat) : l = [] ∨ ∃ (L : List Nat) (b : Nat), l = L ++ [b] := by
  rcases List.eq_nil_or_concat l with h | ⟨a, b, h⟩
  · exact Or.inl h
  · exact Or.inr ⟨a, b, by rw [h, List.concat_eq_append]⟩
theorem pt_mF {ev : Nat → Nat} {ch : Nat → List Nat} {R R' : List Nat} {t u : Nat} (h : pt_F ev ch R) (ht : t ∈ R) (hu : u ∈ R) (hlt : ev t < ev u) (hm : ∀ x, x ∈ R' ↔ x ∈ R ∧ x ≠ u) (hn : R'.Nodup) :
    pt_F ev (si_fu ch t (u :: ch t)) R' := by
  obtain ⟨h1, h2, h3, h4, h5, h6⟩ := h
  have hnu : ∀ c, u ∉ ch c := fun c z => (h1 c u z).2.2.2 hu
  refine ⟨?_, ?_, ?_, ?_, fun x hx => h5 x ((hm x).mp hx).1, hn⟩
  · intro c x hx
    by_cases z : c = t
    · rw [z, si_fs] at hx
      rcases List.mem_cons.mp hx with w | w
      · rw [w, z]; exact ⟨h5 u hu, h5 t ht, hlt, fun q => ((hm u).mp q).2 rfl⟩
      · have := h1 t x w
        rw [z]; exact ⟨this.1, this.2.1, this.2.2.1, fun q => this.2.2.2 ((hm x).mp q).1⟩
    · rw [si_fn z] at hx
      have := h1 c x hx
      exact ⟨this.1, this.2.1, this.2.2.1, fun q => this.2.2.2 ((hm x).mp q).1⟩
  · have key : ∀ c x, x ∈ si_fu ch t (u :: ch t) c → (x = u ∧ c = t) ∨ x ∈ ch c := by
      intro c x hx
      by_cases z : c = t
      · rw [z, si_fs] at hx
        rcases List.mem_cons.mp hx with w | w
        · exact Or.inl ⟨w, z⟩
        · rw [z]; exact Or.inr w
      · rw [si_fn z] at hx; exact Or.inr hx
    intro c d x hc hd
    rcases key c x hc with ⟨a, b⟩ | a
    · rcases key d x hd with ⟨a', b'⟩ | a'
      · omega
      · rw [a] at a'; exact absurd a' (hnu d)
    · rcases key d x hd with ⟨a', b'⟩ | a'
      · rw [a'] at a; exact absurd a (hnu c)
      · exact h2 c d x a a'
  · intro c
    by_cases z : c = t
    · rw [z, si_fs]; exact List.nodup_cons.mpr ⟨hnu t, h3 t⟩
    · rw [si_fn z]; exact h3 c
  · intro x hx
    by_cases w : x = u
    · exact Or.inr ⟨t, by rw [si_fs, w]; exact List.mem_cons_self⟩
    · rcases h4 x hx with q | ⟨c, q⟩
      · exact Or.inl ((hm x).mpr ⟨q, w⟩)
      · refine Or.inr ⟨c, ?_⟩
        by_cases z : c = t
        · rw [z, si_fs]; rw [z] at q; exact List.mem_cons_of_mem _ q
        · rw [si_fn z]; exact q
theorem pt_mC {ev : Nat → Nat} {ch : Nat → List Nat} {R : List Nat} {fc ns : Nat → Int32} {t u : Nat} (h : pt_F ev ch R) (hc : pt_C ev ch fc ns) (ht : t ∈ R) (hu : u ∈ R) (hu12 : u < 12) :
    pt_C ev (si_fu ch t (u :: ch t)) (upd fc t (nI u)) (upd ns u (fc t)) := by
  have hnu : ∀ c, u ∉ ch c := fun c z => (h.1 c u z).2.2.2 hu
  intro c h0
  by_cases z : c = t
  · rw [z, si_fs, pk_us]
    refine ⟨rfl, hu12, ?_⟩
    rw [pk_us]
    rw [z] at h0
    exact ch_up (hnu t) (hc t h0)
  · rw [si_fn z, pk_un z]; exact ch_up (hnu c) (hc c h0)
theorem pt_Cup {ev : Nat → Nat} {ch : Nat → List Nat} {R : List Nat} {fc ns : Nat → Int32} {a : Nat} {v : Int32} (h : pt_F ev ch R) (hc : pt_C ev ch fc ns) (ha : a ∈ R) : pt_C ev ch fc (upd ns a v) :=
  fun c h0 => ch_up (fun z => (h.1 c a z).2.2.2 ha) (hc c h0)
theorem pt_min {ev : Nat → Nat} {ch : Nat → List Nat} {r : Nat} (h : pt_F ev ch [r]) : ∀ n x, ev x < n → ev x ≠ 0 → ev r ≤ ev x := by
  intro n
  induction n with
  | zero => intro x hx; omega
  | succ n ih =>
    intro x hx h0
    rcases h.2.2.2.1 x h0 with z | ⟨c, z⟩
    · rw [List.mem_singleton] at z
      rw [z]; exact Nat.le_refl _
    · have a := h.1 c x z
      have b := ih c (by omega) a.2.1
      omega
section
variable {f_customers f_changes f_engine f_pending f_today f_root f_lastTaken : Int32} {a_servers a_rules a_arrivalOf a_visitCount a_visitStation a_visitNeed a_joinTime a_beginTime a_leaveTime a_keptTime a_keptJoin a_keptBegin a_changeTime a_changeStation a_changeAt a_changeWaits a_visitOf a_waitingSet a_free a_heap a_dayFirst a_nextInDay a_eventOf a_firstChild a_nextSibling a_pairs a_bucketFirst : Nat → Int32}
theorem pt_meld {post : Int32 → SX → Prop} {ev : Nat → Nat} {ch : Nat → List Nat} {a b : Nat} (hE : qu_E ev) (ha : ev a ≠ 0) (hb : ev b ≠ 0) (hab : a ≠ b)
  (h4 : ∀ c, ev c ≠ 0 → a_eventOf c = nI (ev c)) (hc : pt_C ev ch a_firstChild a_nextSibling)
  (K : ∀ t u : Nat, ((t = a ∧ u = b) ∨ (t = b ∧ u = a)) → ev t < ev u → post (nI t) (f_customers, f_changes, f_engine, f_pending, f_today, f_root, f_lastTaken, a_servers, a_rules, a_arrivalOf, a_visitCount, a_visitStation, a_visitNeed, a_joinTime, a_beginTime, a_leaveTime, a_keptTime, a_keptJoin, a_keptBegin, a_changeTime, a_changeStation, a_changeAt, a_changeWaits, a_visitOf, a_waitingSet, a_free, a_heap, a_dayFirst, a_nextInDay, a_eventOf, upd a_firstChild t (nI u), upd a_nextSibling u (a_firstChild t), a_pairs, a_bucketFirst)) :
  wpX_meld post (f_customers, f_changes, f_engine, f_pending, f_today, f_root, f_lastTaken, a_servers, a_rules, a_arrivalOf, a_visitCount, a_visitStation, a_visitNeed, a_joinTime, a_beginTime, a_leaveTime, a_keptTime, a_keptJoin, a_keptBegin, a_changeTime, a_changeStation, a_changeAt, a_changeWaits, a_visitOf, a_waitingSet, a_free, a_heap, a_dayFirst, a_nextInDay, a_eventOf, a_firstChild, a_nextSibling, a_pairs, a_bucketFirst) (nI a) (nI b) := by
  have ha12 := (hE a ha).1
  have hb12 := (hE b hb).1
  have la := qu_E_lt hE a
  have lb := qu_E_lt hE b
  have hne : ev a ≠ ev b := fun z => hab (qu_E_inj hE ha z)
  have fin : ∀ t u : Nat, ((t = a ∧ u = b) ∨ (t = b ∧ u = a)) → ev t < ev u → wX_meld_49 post (nI t) (nI u) f_customers f_changes f_engine f_pending f_today f_root f_lastTaken a_servers a_rules a_arrivalOf a_visitCount a_visitStation a_visitNeed a_joinTime a_beginTime a_leaveTime a_keptTime a_keptJoin a_keptBegin a_changeTime a_changeStation a_changeAt a_changeWaits a_visitOf a_waitingSet a_free a_heap a_dayFirst a_nextInDay a_eventOf a_firstChild a_nextSibling a_pairs a_bucketFirst := by
    intro t u htu hlt
    have ht12 : t < 12 := by omega
    have hu12 : u < 12 := by omega
    have ht0 : ev t ≠ 0 := by rcases htu with ⟨p, _⟩ | ⟨p, _⟩ <;> rw [p] <;> assumption
    refine ⟨pk_in t 12 ht12, pk_in u 12 hu12, ?_⟩
    rw [nI_clamp (by omega : t < 2 ^ 31), nI_clamp (by omega : u < 2 ^ 31), ch_b1 (hc t ht0), by_2 (by omega)]
    intro ns ens
    subst ens
    refine ⟨pk_in t 12 ht12, ?_⟩
    intro fc efc
    subst efc
    exact K t u htu hlt
  refine br_f (nI_pos (by omega)) (br_t (nI_pos' (by omega)) ⟨pk_in a 12 ha12, pk_in b 12 hb12, ?_⟩)
  rw [nI_clamp (by omega : a < 2 ^ 31), nI_clamp (by omega : b < 2 ^ 31), h4 a ha, h4 b hb]
  refine pk_le (ev b) (ev a) (fun h => ?_) (fun h => ?_)
  · refine br_f (fun z => hab ((nI_eq (by omega) (by omega)).mp z).symm) (fin b a (Or.inr ⟨rfl, rfl⟩) (by omega))
  · refine br_t rfl (fin a b (Or.inl ⟨rfl, rfl⟩) h)
theorem pt_meld0 {post : Int32 → SX → Prop} {b : Int32} (K : post b (f_customers, f_changes, f_engine, f_pending, f_today, f_root, f_lastTaken, a_servers, a_rules, a_arrivalOf, a_visitCount, a_visitStation, a_visitNeed, a_joinTime, a_beginTime, a_leaveTime, a_keptTime, a_keptJoin, a_keptBegin, a_changeTime, a_changeStation, a_changeAt, a_changeWaits, a_visitOf, a_waitingSet, a_free, a_heap, a_dayFirst, a_nextInDay, a_eventOf, a_firstChild, a_nextSibling, a_pairs, a_bucketFirst)) : wpX_meld post (f_customers, f_changes, f_engine, f_pending, f_today, f_root, f_lastTaken, a_servers, a_rules, a_arrivalOf, a_visitCount, a_visitStation, a_visitNeed, a_joinTime, a_beginTime, a_leaveTime, a_keptTime, a_keptJoin, a_keptBegin, a_changeTime, a_changeStation, a_changeAt, a_changeWaits, a_visitOf, a_waitingSet, a_free, a_heap, a_dayFirst, a_nextInDay, a_eventOf, a_firstChild, a_nextSibling, a_pairs, a_bucketFirst) (-1) b :=
  br_t (by decide) (br_f (by decide) K)
theorem pt_meld1 {post : Int32 → SX → Prop} {a : Nat} (ha : a < 12) (K : post (nI a) (f_customers, f_changes, f_engine, f_pending, f_today, f_root, f_lastTaken, a_servers, a_rules, a_arrivalOf, a_visitCount, a_visitStation, a_visitNeed, a_joinTime, a_beginTime, a_leaveTime, a_keptTime, a_keptJoin, a_keptBegin, a_changeTime, a_changeStation, a_changeAt, a_changeWaits, a_visitOf, a_waitingSet, a_free, a_heap, a_dayFirst, a_nextInDay, a_eventOf, a_firstChild, a_nextSibling, a_pairs, a_bucketFirst)) : wpX_meld post (f_customers, f_changes, f_engine, f_pending, f_today, f_root, f_lastTaken, a_servers, a_rules, a_arrivalOf, a_visitCount, a_visitStation, a_visitNeed, a_joinTime, a_beginTime, a_leaveTime, a_keptTime, a_keptJoin, a_keptBegin, a_changeTime, a_changeStation, a_changeAt, a_changeWaits, a_visitOf, a_waitingSet, a_free, a_heap, a_dayFirst, a_nextInDay, a_eventOf, a_firstChild, a_nextSibling, a_pairs, a_bucketFirst) (nI a) (-1) :=
  br_f (nI_pos (by omega)) (br_f (by decide) (br_t (nI_pos' (by omega)) K))
theorem pt_add {post : SX → Prop} {e c : Nat} {ev : Nat → Nat} (hE : qu_E ev) (hc : c < 12) (h0 : ev c = 0) (he : e % 16 = c) (hb : e < 65536) (he0 : e ≠ 0) (hQ : pt_Q ev f_root a_firstChild a_nextSibling a_eventOf)
  (K : ∀ (rt : Int32) (fc ns eo : Nat → Int32), pt_Q (si_fu ev c e) rt fc ns eo → post (f_customers, f_changes, f_engine, f_pending, f_today, rt, f_lastTaken, a_servers, a_rules, a_arrivalOf, a_visitCount, a_visitStation, a_visitNeed, a_joinTime, a_beginTime, a_leaveTime, a_keptTime, a_keptJoin, a_keptBegin, a_changeTime, a_changeStation, a_changeAt, a_changeWaits, a_visitOf, a_waitingSet, a_free, a_heap, a_dayFirst, a_nextInDay, eo, fc, ns, a_pairs, a_bucketFirst)) : wpX_treeAdd post (f_customers, f_changes, f_engine, f_pending, f_today, f_root, f_lastTaken, a_servers, a_rules, a_arrivalOf, a_visitCount, a_visitStation, a_visitNeed, a_joinTime, a_beginTime, a_leaveTime, a_keptTime, a_keptJoin, a_keptBegin, a_changeTime, a_changeStation, a_changeAt, a_changeWaits, a_visitOf, a_waitingSet, a_free, a_heap, a_dayFirst, a_nextInDay, a_eventOf, a_firstChild, a_nextSibling, a_pairs, a_bucketFirst) (nI e) := by
  obtain ⟨ch, R, h4, hC, hF, hR⟩ := hQ
  have hE' := qu_E_put hE hc he hb
  obtain ⟨f1, f2, f3, f4, f5, f6⟩ := hF
  have hcc : ∀ d, c ∉ ch d := fun d z => (f1 d c z).1 h0
  have hch : ch c = [] := by
    cases hl : ch c with
    | nil => rfl
    | cons x l => exact absurd h0 (f1 c x (by rw [hl]; exact List.mem_cons_self)).2.1
  have hcR : c ∉ R := fun z => f5 c z h0
  have hF' : pt_F (si_fu ev c e) ch (c :: R) := by
    refine ⟨?_, f2, f3, ?_, ?_, List.nodup_cons.mpr ⟨hcR, f6⟩⟩
    · intro d x hx
      have a := f1 d x hx
      have xc : x ≠ c := fun z => hcc d (z ▸ hx)
      have dc : d ≠ c := fun z => a.2.1 (by rw [z]; exact h0)
      rw [si_fn xc, si_fn dc]
      refine ⟨a.1, a.2.1, a.2.2.1, fun q => ?_⟩
      rcases List.mem_cons.mp q with w | w
      · exact xc w
      · exact a.2.2.2 w
    · intro x hx
      by_cases z : x = c
      · rw [z]; exact Or.inl List.mem_cons_self
      · rw [si_fn z] at hx
        rcases f4 x hx with w | w
        · exact Or.inl (List.mem_cons_of_mem _ w)
        · exact Or.inr w
    · intro x hx
      rcases List.mem_cons.mp hx with w | w
      · rw [w, si_fs]; exact he0
      · have := f5 x w
        rw [si_fn (fun z => this (by rw [z]; exact h0))]; exact this
  have hC' : pt_C (si_fu ev c e) ch (upd a_firstChild c (-1)) (upd a_nextSibling c (-1)) := by
    intro d hd
    by_cases z : d = c
    · rw [z, hch, pk_us]; rfl
    · rw [si_fn z] at hd
      rw [pk_un z]; exact ch_up (hcc d) (hC d hd)
  have h4' : ∀ d, si_fu ev c e d ≠ 0 → upd a_eventOf c (nI e) d = nI (si_fu ev c e d) := by
    intro d hd
    by_cases z : d = c
    · rw [z, pk_us, si_fs]
    · rw [si_fn z] at hd ⊢
      rw [pk_un z]; exact h4 d hd
  refine ⟨by decide, ?_⟩
  rw [ev_cu hb, he]
  refine ⟨pk_in c 12 hc, ?_⟩
  rw [nI_clamp (by omega : c < 2 ^ 31), by_3]
  intro eo eeo
  subst eeo
  refine ⟨pk_in c 12 hc, ?_⟩
  intro fc efc
  subst efc
  refine ⟨pk_in c 12 hc, ?_⟩
  intro ns ens
  subst ens
  rcases hR with ⟨er, rfl⟩ | ⟨r, er, rfl⟩
  · rw [er]
    refine pt_meld0 ?_
    exact K _ _ _ _ ⟨ch, [c], h4', hC', hF', Or.inr ⟨c, rfl, rfl⟩⟩
  · rw [er]
    have hr0 := f5 r List.mem_cons_self
    have hrc : r ≠ c := fun z => hr0 (by rw [z]; exact h0)
    refine pt_meld (ev := si_fu ev c e) (ch := ch) hE' (by rw [si_fn hrc]; exact hr0) (by rw [si_fs]; exact he0) hrc h4' hC' ?_
    intro t u htu hlt
    have ht : t ∈ [c, r] := by rcases htu with ⟨p, _⟩ | ⟨p, _⟩ <;> rw [p] <;> simp
    have hu : u ∈ [c, r] := by rcases htu with ⟨_, p⟩ | ⟨_, p⟩ <;> rw [p] <;> simp
    have hu12 : u < 12 := (hE' u (hF'.2.2.2.2.1 u hu)).1
    refine K _ _ _ _ ⟨_, [t], h4', pt_mC hF' hC' ht hu hu12, pt_mF (R' := [t]) hF' ht hu hlt ?_ (List.nodup_cons.mpr ⟨by simp, List.nodup_nil⟩), Or.inr ⟨t, rfl, rfl⟩⟩
    intro x
    rw [List.mem_singleton, List.mem_cons, List.mem_singleton]
    omega
theorem pt_l2 {post : Int32 → SX → Prop} {x1 : Int32} {ev : Nat → Nat} (hE : qu_E ev) (h4 : ∀ c, ev c ≠ 0 → a_eventOf c = nI (ev c))
  (K : ∀ (rt : Int32) (fc ns : Nat → Int32), pt_Q ev rt fc ns a_eventOf → post x1 (f_customers, f_changes, f_engine, f_pending, f_today, rt, f_lastTaken, a_servers, a_rules, a_arrivalOf, a_visitCount, a_visitStation, a_visitNeed, a_joinTime, a_beginTime, a_leaveTime, a_keptTime, a_keptJoin, a_keptBegin, a_changeTime, a_changeStation, a_changeAt, a_changeWaits, a_visitOf, a_waitingSet, a_free, a_heap, a_dayFirst, a_nextInDay, a_eventOf, fc, ns, a_pairs, a_bucketFirst)) :
  ∀ (N : Nat) (P R0 : List Nat) (ch : Nat → List Nat) (rt : Int32) (fc ns : Nat → Int32), P.length < N → (∀ i, i < P.length → a_pairs i = nI (P.getD i 0)) →
    ((rt = -1 ∧ R0 = []) ∨ (∃ r, rt = nI r ∧ R0 = [r])) → pt_F ev ch (R0 ++ P) → pt_C ev ch fc ns →
    wX_treeTake_105 post x1 N (nI P.length - 1) f_customers f_changes f_engine f_pending f_today rt f_lastTaken a_servers a_rules a_arrivalOf a_visitCount a_visitStation a_visitNeed a_joinTime a_beginTime a_leaveTime a_keptTime a_keptJoin a_keptBegin a_changeTime a_changeStation a_changeAt a_changeWaits a_visitOf a_waitingSet a_free a_heap a_dayFirst a_nextInDay a_eventOf fc ns a_pairs a_bucketFirst := by
  intro N
  induction N with
  | zero => intro P R0 ch rt fc ns h; omega
  | succ N ih =>
    intro P R0 ch rt fc ns hN hp hR hF hC
    rcases pt_nc P with rfl | ⟨P', p, rfl⟩
    · refine br_t (by decide) (K _ _ _ ⟨ch, R0, h4, hC, ?_, hR⟩)
      rw [List.append_nil] at hF
      exact hF
    · have hlen : (P' ++ [p]).length = P'.length + 1 := by rw [List.length_append]; rfl
      rw [hlen] at hN hp ⊢
      rw [nI_pred]
      have hp12 : P'.length + 1 ≤ 12 := by
        have := nd_len 12 (P' ++ [p]) (List.nodup_append.mp hF.2.2.2.2.2).2.1 (fun x hx => (hE x (hF.2.2.2.2.1 x (List.mem_append_right _ hx))).1)
        omega
      have hpp : a_pairs P'.length = nI p := by
        rw [hp _ (by omega)]
        exact congrArg nI (by simp)
      have hp' : ∀ i, i < P'.length → a_pairs i = nI (P'.getD i 0) := by
        intro i hi
        rw [hp i (by omega)]
        exact congrArg nI (by simp [List.getElem?_append_left hi])
      have hp0 : ev p ≠ 0 := hF.2.2.2.2.1 p (by simp)
      refine br_f (nI_pos (by omega)) ⟨pk_in P'.length 12 (by omega), ?_⟩
      rw [nI_clamp (by omega : P'.length < 2 ^ 31), hpp]
      have hm1 : nI P'.length + (-1) = nI P'.length - 1 := by rw [Int32.sub_eq_add_neg]
      rw [hm1]
      rcases hR with ⟨er, rfl⟩ | ⟨r, er, rfl⟩
      · rw [er]
        refine pt_meld0 ?_
        intro x4 e4
        subst e4
        refine ih P' [p] ch _ fc ns (by omega) hp' (Or.inr ⟨p, rfl, rfl⟩) ?_ hC
        obtain ⟨f1, f2, f3, f4, f5, f6⟩ := hF
        have mm : ∀ x, x ∈ [p] ++ P' ↔ x ∈ [] ++ (P' ++ [p]) := fun x => by simp [or_comm]
        refine ⟨fun c x hx => ?_, f2, f3, fun x hx => ?_, fun x hx => f5 x ((mm x).mp hx), ?_⟩
        · have a := f1 c x hx
          exact ⟨a.1, a.2.1, a.2.2.1, fun q => a.2.2.2 ((mm x).mp q)⟩
        · rcases f4 x hx with w | w
          · exact Or.inl ((mm x).mpr w)
          · exact Or.inr w
        · have a := List.nodup_append.mp (show (P' ++ [p]).Nodup from f6)
          exact List.nodup_cons.mpr ⟨fun z => a.2.2 p z p List.mem_cons_self rfl, a.1⟩
      · rw [er]
        have hr0 : ev r ≠ 0 := hF.2.2.2.2.1 r (by simp)
        have hnn := hF.2.2.2.2.2
        have hn2 := List.nodup_cons.mp (show (r :: (P' ++ [p])).Nodup from hnn)
        have hn3 := List.nodup_append.mp hn2.2
        have hrp : r ≠ p := fun z => hn2.1 (by rw [z]; simp)
        refine pt_meld (ev := ev) (ch := ch) hE hr0 hp0 hrp h4 hC ?_
        intro t u htu hlt x4 e4
        subst e4
        have ht : t ∈ [r] ++ (P' ++ [p]) := by rcases htu with ⟨q, _⟩ | ⟨q, _⟩ <;> rw [q] <;> simp
        have hu : u ∈ [r] ++ (P' ++ [p]) := by rcases htu with ⟨_, q⟩ | ⟨_, q⟩ <;> rw [q] <;> simp
        have hu12 : u < 12 := (hE u (hF.2.2.2.2.1 u hu)).1
        have rP : r ∉ P' := fun z => hn2.1 (List.mem_append_left _ z)
        have pP : p ∉ P' := fun z => hn3.2.2 p z p List.mem_cons_self rfl
        have tP : t ∉ P' := by rcases htu with ⟨q, _⟩ | ⟨q, _⟩ <;> rw [q] <;> assumption
        have uP : u ∉ P' := by rcases htu with ⟨_, q⟩ | ⟨_, q⟩ <;> rw [q] <;> assumption
        refine ih P' [t] _ _ _ _ (by omega) hp' (Or.inr ⟨t, rfl, rfl⟩) (pt_mF hF ht hu hlt ?_ (List.nodup_cons.mpr ⟨tP, hn3.1⟩)) (pt_mC hF hC ht hu hu12)
        intro x
        have e1 : x ∈ [t] ++ P' ↔ x = t ∨ x ∈ P' := by simp
        have e2 : x ∈ [r] ++ (P' ++ [p]) ↔ x = r ∨ x ∈ P' ∨ x = p := by simp
        rw [e1, e2]
        constructor
        · intro q
          rcases q with q | q
          · exact ⟨by omega, by omega⟩
          · exact ⟨Or.inr (Or.inl q), fun z => uP (z ▸ q)⟩
        · intro q
          rcases q with ⟨q | q | q, q2⟩
          · exact Or.inl (by omega)
          · exact Or.inr q
          · exact Or.inl (by omega)
theorem pt_l1 {post : Int32 → SX → Prop} {x1 : Int32} {ev : Nat → Nat} (hE : qu_E ev) (h4 : ∀ c, ev c ≠ 0 → a_eventOf c = nI (ev c))
  (K : ∀ (rt : Int32) (fc ns pr : Nat → Int32), pt_Q ev rt fc ns a_eventOf → post x1 (f_customers, f_changes, f_engine, f_pending, f_today, rt, f_lastTaken, a_servers, a_rules, a_arrivalOf, a_visitCount, a_visitStation, a_visitNeed, a_joinTime, a_beginTime, a_leaveTime, a_keptTime, a_keptJoin, a_keptBegin, a_changeTime, a_changeStation, a_changeAt, a_changeWaits, a_visitOf, a_waitingSet, a_free, a_heap, a_dayFirst, a_nextInDay, a_eventOf, fc, ns, pr, a_bucketFirst)) :
  ∀ (N : Nat) (P Q : List Nat) (ch : Nat → List Nat) (x3 : Int32) (pr fc ns : Nat → Int32), Q.length < N → (∀ i, i < P.length → pr i = nI (P.getD i 0)) → ch_L ns Q x3 →
    pt_F ev ch (P ++ Q) → pt_C ev ch fc ns → wX_treeTake_22 post x1 N (nI P.length) x3 f_customers f_changes f_engine f_pending f_today f_root f_lastTaken a_servers a_rules a_arrivalOf a_visitCount a_visitStation a_visitNeed a_joinTime a_beginTime a_leaveTime a_keptTime a_keptJoin a_keptBegin a_changeTime a_changeStation a_changeAt a_changeWaits a_visitOf a_waitingSet a_free a_heap a_dayFirst a_nextInDay a_eventOf fc ns pr a_bucketFirst := by
  intro N
  induction N with
  | zero => intro P Q ch x3 pr fc ns h; omega
  | succ N ih =>
    intro P Q ch x3 pr fc ns hN hp hQ hF hC
    have hput : ∀ (t : Nat), (∀ i, i < (P ++ [t]).length → upd pr P.length (nI t) i = nI ((P ++ [t]).getD i 0)) := by
      intro t i hi
      have hlen : (P ++ [t]).length = P.length + 1 := by rw [List.length_append]; rfl
      rw [hlen] at hi
      by_cases z : i = P.length
      · rw [z, pk_us]
        exact congrArg nI (by simp)
      · rw [pk_un z, hp i (by omega)]
        exact congrArg nI (by simp [List.getElem?_append_left (show i < P.length by omega)])
    have hlen : ∀ t : Nat, nI P.length + 1 = nI (P ++ [t]).length := by
      intro t
      rw [nI_1]
      exact congrArg nI (by rw [List.length_append]; rfl)
    cases Q with
    | nil =>
      have e : x3 = -1 := hQ
      subst e
      refine br_t (by decide) ?_
      intro x4 e4
      subst e4
      refine ⟨P.length + 1, ?_⟩
      refine pt_l2 hE h4 (fun rt fc ns k => K rt fc ns pr k) _ P [] ch (-1) fc ns (Nat.lt_succ_self _) hp (Or.inl ⟨rfl, rfl⟩) ?_ hC
      rw [List.append_nil] at hF
      exact hF
    | cons a Q =>
      obtain ⟨e3, ha12, hQ1⟩ := hQ
      subst e3
      have hn := List.nodup_append.mp hF.2.2.2.2.2
      have hnQ := List.nodup_cons.mp hn.2.1
      have haR : a ∈ P ++ a :: Q := List.mem_append_right _ List.mem_cons_self
      have ha0 := hF.2.2.2.2.1 a haR
      have hP12 : P.length < 12 := by
        have := nd_len 12 (P ++ a :: Q) hF.2.2.2.2.2 (fun x hx => (hE x (hF.2.2.2.2.1 x hx)).1)
        rw [List.length_append, List.length_cons] at this
        omega
      refine br_f (nI_pos (by omega)) ⟨pk_in a 12 ha12, ?_⟩
      rw [nI_clamp (by omega : a < 2 ^ 31)]
      intro x4 e4
      rw [← e4] at hQ1
      cases Q with
      | nil =>
        have e : x4 = -1 := hQ1
        rw [e]
        refine br_t (by decide) ⟨pk_in a 12 ha12, ?_⟩
        rw [nI_clamp (by omega : a < 2 ^ 31), by_3]
        intro ns1 e1
        subst e1
        refine br_t (by decide) (pt_meld1 ha12 ?_)
        refine ⟨pk_in P.length 12 hP12, ?_⟩
        rw [nI_clamp (by omega : P.length < 2 ^ 31), by_2 (by omega), hlen a]
        intro pr1 e1
        subst e1
        intro x2 e2
        subst e2
        refine ih (P ++ [a]) [] ch _ _ fc _ (by simp only [List.length_cons, List.length_nil] at hN ⊢; omega) (hput a) rfl ?_ (pt_Cup hF hC haR)
        rw [List.append_nil]
        exact hF
      | cons b Q =>
        obtain ⟨e5, hb12, hQ2⟩ := hQ1
        have hnQ2 := List.nodup_cons.mp hnQ.2
        have hbR : b ∈ P ++ a :: b :: Q := List.mem_append_right _ (List.mem_cons_of_mem _ List.mem_cons_self)
        have hb0 := hF.2.2.2.2.1 b hbR
        have hab : a ≠ b := fun z => hnQ.1 (by rw [z]; exact List.mem_cons_self)
        have aQ : a ∉ Q := fun z => hnQ.1 (List.mem_cons_of_mem _ z)
        have bQ : b ∉ Q := hnQ2.1
        have aP : a ∉ P := fun z => hn.2.2 a z a List.mem_cons_self rfl
        have bP : b ∉ P := fun z => hn.2.2 b z b (List.mem_cons_of_mem _ List.mem_cons_self) rfl
        rw [e5]
        refine br_f (nI_pos (by omega)) ⟨pk_in b 12 hb12, ?_⟩
        refine ⟨pk_in a 12 ha12, ?_⟩
        rw [nI_clamp (by omega : a < 2 ^ 31), nI_clamp (by omega : b < 2 ^ 31), by_3]
        intro ns1 e1
        subst e1
        refine br_f (nI_pos (by omega)) ⟨pk_in b 12 hb12, ?_⟩
        intro ns2 e2
        subst e2
        have hC1 := pt_Cup (v := -1) hF (pt_Cup (v := -1) hF hC haR) hbR
        refine pt_meld (ev := ev) (ch := ch) hE ha0 hb0 hab h4 hC1 ?_
        intro t u htu hlt
        have ht12 : t < 12 := by omega
        have hu12 : u < 12 := by omega
        have ht : t ∈ P ++ a :: b :: Q := by rcases htu with ⟨q, _⟩ | ⟨q, _⟩ <;> rw [q] <;> assumption
        have hu : u ∈ P ++ a :: b :: Q := by rcases htu with ⟨_, q⟩ | ⟨_, q⟩ <;> rw [q] <;> assumption
        have tQ : t ∉ Q := by rcases htu with ⟨q, _⟩ | ⟨q, _⟩ <;> rw [q] <;> assumption
        have uQ : u ∉ Q := by rcases htu with ⟨_, q⟩ | ⟨_, q⟩ <;> rw [q] <;> assumption
        have tP : t ∉ P := by rcases htu with ⟨q, _⟩ | ⟨q, _⟩ <;> rw [q] <;> assumption
        have uP : u ∉ P := by rcases htu with ⟨_, q⟩ | ⟨_, q⟩ <;> rw [q] <;> assumption
        refine ⟨pk_in P.length 12 hP12, ?_⟩
        rw [nI_clamp (by omega : P.length < 2 ^ 31), by_2 (by omega), hlen t]
        intro pr1 e1
        subst e1
        intro x2 e2
        subst e2
        refine ih (P ++ [t]) Q _ _ _ _ _ (by simp only [List.length_cons] at hN; omega) (hput t) (ch_up uQ (ch_up bQ (ch_up aQ hQ2))) (pt_mF hF ht hu hlt ?_ ?_) (pt_mC hF hC1 ht hu hu12)
        · intro x
          have e1 : x ∈ P ++ [t] ++ Q ↔ x ∈ P ∨ x = t ∨ x ∈ Q := by simp
          have e2 : x ∈ P ++ a :: b :: Q ↔ x ∈ P ∨ x = a ∨ x = b ∨ x ∈ Q := by simp
          rw [e1, e2]
          constructor
          · intro q
            rcases q with q | q | q
            · exact ⟨Or.inl q, fun z => uP (z ▸ q)⟩
            · exact ⟨by omega, by omega⟩
            · exact ⟨Or.inr (Or.inr (Or.inr q)), fun z => uQ (z ▸ q)⟩
          · intro q
            rcases q with ⟨q | q | q | q, q2⟩
            · exact Or.inl q
            · exact Or.inr (Or.inl (by omega))
            · exact Or.inr (Or.inl (by omega))
            · exact Or.inr (Or.inr q)
        · rw [List.append_assoc]
          refine List.nodup_append.mpr ⟨hn.1, List.nodup_cons.mpr ⟨tQ, hnQ2.2⟩, ?_⟩
          intro x hx y hy
          rcases List.mem_cons.mp hy with q | q
          · rw [q]; exact fun z => tP (z ▸ hx)
          · exact hn.2.2 x hx y (List.mem_cons_of_mem _ (List.mem_cons_of_mem _ q))
theorem pt_root {ev : Nat → Nat} {c : Nat} {rt : Int32} {fc ns eo : Nat → Int32} (hE : qu_E ev) (hM : qu_M ev c) (hQ : pt_Q ev rt fc ns eo) : rt = nI c ∧ eo c = nI (ev c) := by
  obtain ⟨ch, R, h4, hC, hF, hR⟩ := hQ
  refine ⟨?_, h4 c hM.2.1⟩
  rcases hR with ⟨er, rfl⟩ | ⟨r, er, rfl⟩
  · exfalso
    have key : ∀ n x, ev x < n → ev x ≠ 0 → False := by
      intro n
      induction n with
      | zero => intro x hx; omega
      | succ n ih =>
        intro x hx h0
        rcases hF.2.2.2.1 x h0 with z | ⟨d, z⟩
        · cases z
        · have a := hF.1 d x z
          exact ih d (by omega) a.2.1
    exact key _ c (Nat.lt_succ_self _) hM.2.1
  · have hr0 := hF.2.2.2.2.1 r List.mem_cons_self
    have a := pt_min hF _ c (Nat.lt_succ_self _) hM.2.1
    have b := hM.2.2 r hr0
    rw [er, qu_E_inj hE hr0 (by omega : ev r = ev c)]
theorem pt_take {post : Int32 → SX → Prop} {c : Nat} {ev : Nat → Nat} (hE : qu_E ev) (hM : qu_M ev c) (hQ : pt_Q ev f_root a_firstChild a_nextSibling a_eventOf)
  (K : ∀ (rt : Int32) (fc ns pr : Nat → Int32), pt_Q (si_fu ev c 0) rt fc ns a_eventOf → post (nI (ev c)) (f_customers, f_changes, f_engine, f_pending, f_today, rt, f_lastTaken, a_servers, a_rules, a_arrivalOf, a_visitCount, a_visitStation, a_visitNeed, a_joinTime, a_beginTime, a_leaveTime, a_keptTime, a_keptJoin, a_keptBegin, a_changeTime, a_changeStation, a_changeAt, a_changeWaits, a_visitOf, a_waitingSet, a_free, a_heap, a_dayFirst, a_nextInDay, a_eventOf, fc, ns, pr, a_bucketFirst)) : wpX_treeTake post (f_customers, f_changes, f_engine, f_pending, f_today, f_root, f_lastTaken, a_servers, a_rules, a_arrivalOf, a_visitCount, a_visitStation, a_visitNeed, a_joinTime, a_beginTime, a_leaveTime, a_keptTime, a_keptJoin, a_keptBegin, a_changeTime, a_changeStation, a_changeAt, a_changeWaits, a_visitOf, a_waitingSet, a_free, a_heap, a_dayFirst, a_nextInDay, a_eventOf, a_firstChild, a_nextSibling, a_pairs, a_bucketFirst) := by
  obtain ⟨hrt, heo⟩ := pt_root hE hM hQ
  obtain ⟨ch, R, h4, hC, hF, hR⟩ := hQ
  have hc12 := hM.1
  have hRc : R = [c] := by
    rcases hR with ⟨er, _⟩ | ⟨r, er, e⟩
    · rw [hrt] at er
      exact absurd er (fun z => absurd (show nI c < 0 by rw [z]; decide) (nI_pos (by omega)))
    · rw [hrt] at er
      have hr12 := (hE r (hF.2.2.2.2.1 r (by rw [e]; exact List.mem_cons_self))).1
      rw [e, (nI_eq (by omega) (by omega)).mp er]
  subst hRc
  obtain ⟨f1, f2, f3, f4, f5, f6⟩ := hF
  have hcc : ∀ d, c ∉ ch d := fun d z => (f1 d c z).2.2.2 List.mem_cons_self
  have hF' : pt_F (si_fu ev c 0) (si_fu ch c []) (ch c) := by
    refine ⟨?_, ?_, ?_, ?_, ?_, f3 c⟩
    · intro d x hx
      by_cases z : d = c
      · rw [z, si_fs] at hx; cases hx
      · rw [si_fn z] at hx
        have a := f1 d x hx
        have xc : x ≠ c := fun q => hcc d (q ▸ hx)
        rw [si_fn xc, si_fn z]
        exact ⟨a.1, a.2.1, a.2.2.1, fun q => z (f2 d c x hx q)⟩
    · intro d d' x hx hx'
      by_cases z : d = c
      · rw [z, si_fs] at hx; cases hx
      · by_cases z' : d' = c
        · rw [z', si_fs] at hx'; cases hx'
        · rw [si_fn z] at hx
          rw [si_fn z'] at hx'
          exact f2 d d' x hx hx'
    · intro d
      by_cases z : d = c
      · rw [z, si_fs]; exact List.nodup_nil
      · rw [si_fn z]; exact f3 d
    · intro x hx
      by_cases z : x = c
      · rw [z, si_fs] at hx; exact absurd rfl hx
      · rw [si_fn z] at hx
        rcases f4 x hx with w | ⟨d, w⟩
        · rw [List.mem_singleton] at w; exact absurd w z
        · by_cases y : d = c
          · rw [y] at w; exact Or.inl w
          · exact Or.inr ⟨d, by rw [si_fn y]; exact w⟩
    · intro x hx
      have a := f1 c x hx
      rw [si_fn (si_nm (hcc c) hx)]; exact a.1
  have hC' : pt_C (si_fu ev c 0) (si_fu ch c []) a_firstChild a_nextSibling := by
    intro d hd
    by_cases z : d = c
    · rw [z, si_fs] at hd; exact absurd rfl hd
    · rw [si_fn z] at hd ⊢; exact hC d hd
  have h4' : ∀ d, si_fu ev c 0 d ≠ 0 → a_eventOf d = nI (si_fu ev c 0 d) := by
    intro d hd
    by_cases z : d = c
    · rw [z, si_fs] at hd; exact absurd rfl hd
    · rw [si_fn z] at hd ⊢; exact h4 d hd
  have hch := hC c hM.2.1
  subst hrt
  refine ⟨pk_in c 12 hc12, ?_⟩
  rw [nI_clamp (by omega : c < 2 ^ 31), heo]
  intro x1 e1
  subst e1
  refine ⟨pk_in c 12 hc12, ?_⟩
  intro x3 e3
  subst e3
  exact ⟨(ch c).length + 1, pt_l1 (qu_E_cut hE) h4' K _ [] (ch c) (si_fu ch c []) _ a_pairs a_firstChild a_nextSibling (Nat.lt_succ_self _) (fun i hi => by simp at hi) hch hF' hC'⟩
end
end
section
/-! the four engines as one queue -/
def qu_R (e lo : Nat) (ev : Nat → Nat) (pe td rt lk : Int32) (hp df nd eo fc ns bf : Nat → Int32) : Prop :=
  qu_E ev ∧ lo < 65536 ∧ (∀ c, ev c ≠ 0 → lo ≤ ev c) ∧ pe = nI (qu_n ev) ∧ (e = 0 → hp_Q ev hp) ∧ (e = 1 → ca_Q lo ev td df nd eo) ∧ (e = 2 → pt_Q ev rt fc ns eo) ∧ (e = 3 → bu_Q lo ev lk nd eo bf)
theorem qu_n0 : qu_n (fun _ => 0) = 0 := by decide
theorem qu_R0 (e : Nat) (hp df nd eo fc ns bf : Nat → Int32) (h1 : ∀ j, j < 16 → df j = -1) (h2 : ∀ j, j < 24 → bf j = -1) : qu_R e 0 (fun _ => 0) 0 0 (-1) 0 hp df nd eo fc ns bf := by
  have z : ∀ c : Nat, (fun _ => 0 : Nat → Nat) c ≠ 0 → False := fun c h => h rfl
  refine ⟨fun c h => (z c h).elim, by omega, fun c h => (z c h).elim, by rw [qu_n0]; rfl, fun _ => ?_, fun _ => ?_, fun _ => ?_, fun _ => ?_⟩
  · refine ⟨fun _ => 0, fun j hj => ?_, ⟨fun i hi => ?_, fun c h => (z c h).elim, fun i j hi => ?_⟩, fun j _ hj => ?_⟩
    · rw [qu_n0] at hj; omega
    · rw [qu_n0] at hi; omega
    · rw [qu_n0] at hi; omega
    · rw [qu_n0] at hj; omega
  · exact ⟨fun _ => [], fun d hd => h1 d hd, fun d hd c => ⟨fun h => (by cases h), fun h => (z c h.1).elim⟩, fun d hd => List.Pairwise.nil, fun c h => (z c h).elim, rfl, by omega, fun c h => (z c h).elim⟩
  · exact ⟨fun _ => [], [], fun c h => (z c h).elim, fun c h => (z c h).elim, ⟨fun c x h => (by cases h), fun c d x h => (by cases h), fun c => List.nodup_nil, fun x h => (z x h).elim, fun x h => (by cases h), List.nodup_nil⟩, Or.inl ⟨rfl, rfl⟩⟩
  · exact ⟨fun _ => [], fun d hd => h2 d hd, fun d hd c => ⟨fun h => (by cases h), fun h => (z c h.1).elim⟩, fun d hd => List.nodup_nil, fun c h => (z c h).elim, rfl, by omega, fun c h => (z c h).elim⟩
section
variable {f_customers f_changes f_engine f_pending f_today f_root f_lastTaken : Int32} {a_servers a_rules a_arrivalOf a_visitCount a_visitStation a_visitNeed a_joinTime a_beginTime a_leaveTime a_keptTime a_keptJoin a_keptBegin a_changeTime a_changeStation a_changeAt a_changeWaits a_visitOf a_waitingSet a_free a_heap a_dayFirst a_nextInDay a_eventOf a_firstChild a_nextSibling a_pairs a_bucketFirst : Nat → Int32}
theorem qu_s43 {post : SX → Prop} (K : ∀ bf : Nat → Int32, (∀ j, j < 24 → bf j = -1) → post (f_customers, f_changes, f_engine, f_pending, f_today, f_root, f_lastTaken, a_servers, a_rules, a_arrivalOf, a_visitCount, a_visitStation, a_visitNeed, a_joinTime, a_beginTime, a_leaveTime, a_keptTime, a_keptJoin, a_keptBegin, a_changeTime, a_changeStation, a_changeAt, a_changeWaits, a_visitOf, a_waitingSet, a_free, a_heap, a_dayFirst, a_nextInDay, a_eventOf, a_firstChild, a_nextSibling, a_pairs, bf)) :
  ∀ (N i : Nat) (bf : Nat → Int32), 24 < i + N → i ≤ 24 → (∀ j, j < i → bf j = -1) → wX_startQueue_43 post f_customers f_changes f_engine f_pending f_today f_root f_lastTaken N (nI i) a_servers a_rules a_arrivalOf a_visitCount a_visitStation a_visitNeed a_joinTime a_beginTime a_leaveTime a_keptTime a_keptJoin a_keptBegin a_changeTime a_changeStation a_changeAt a_changeWaits a_visitOf a_waitingSet a_free a_heap a_dayFirst a_nextInDay a_eventOf a_firstChild a_nextSibling a_pairs bf := by
  intro N
  induction N with
  | zero => intro i bf h h'; omega
  | succ N ih =>
    intro i bf hN hi h
    refine pk_le 24 i (fun h1 => K bf (fun j hj => h j (by omega))) (fun h1 => ⟨pk_in i 24 h1, ?_⟩)
    rw [nI_clamp (by omega : i < 2 ^ 31), by_3, nI_1]
    intro y ey
    subst ey
    intro y ey
    subst ey
    refine ih (i + 1) _ (by omega) (by omega) (fun j hj => ?_)
    by_cases z : j = i
    · rw [z, pk_us]
    · rw [pk_un z]; exact h j (by omega)
theorem qu_s22 {post : SX → Prop} (K : ∀ df bf : Nat → Int32, (∀ j, j < 16 → df j = -1) → (∀ j, j < 24 → bf j = -1) → post (f_customers, f_changes, f_engine, f_pending, f_today, f_root, f_lastTaken, a_servers, a_rules, a_arrivalOf, a_visitCount, a_visitStation, a_visitNeed, a_joinTime, a_beginTime, a_leaveTime, a_keptTime, a_keptJoin, a_keptBegin, a_changeTime, a_changeStation, a_changeAt, a_changeWaits, a_visitOf, a_waitingSet, a_free, a_heap, df, a_nextInDay, a_eventOf, a_firstChild, a_nextSibling, a_pairs, bf)) :
  ∀ (N i : Nat) (df : Nat → Int32), 16 < i + N → i ≤ 16 → (∀ j, j < i → df j = -1) → wX_startQueue_22 post f_customers f_changes f_engine f_pending f_today f_root f_lastTaken N (nI i) a_servers a_rules a_arrivalOf a_visitCount a_visitStation a_visitNeed a_joinTime a_beginTime a_leaveTime a_keptTime a_keptJoin a_keptBegin a_changeTime a_changeStation a_changeAt a_changeWaits a_visitOf a_waitingSet a_free a_heap df a_nextInDay a_eventOf a_firstChild a_nextSibling a_pairs a_bucketFirst := by
  intro N
  induction N with
  | zero => intro i bf h h'; omega
  | succ N ih =>
    intro i df hN hi h
    refine pk_le 16 i (fun h1 => ?_) (fun h1 => ⟨pk_in i 16 h1, ?_⟩)
    · exact ⟨25, qu_s43 (fun bf hb => K df bf (fun j hj => h j (by omega)) hb) 25 0 a_bucketFirst (by omega) (by omega) (fun j hj => by omega)⟩
    · rw [nI_clamp (by omega : i < 2 ^ 31), by_3, nI_1]
      intro y ey
      subst ey
      intro y ey
      subst ey
      refine ih (i + 1) _ (by omega) (by omega) (fun j hj => ?_)
      by_cases z : j = i
      · rw [z, pk_us]
      · rw [pk_un z]; exact h j (by omega)
theorem qu_start {post : SX → Prop} (e : Nat) (K : ∀ df bf : Nat → Int32, qu_R e 0 (fun _ => 0) 0 0 (-1) 0 a_heap df a_nextInDay a_eventOf a_firstChild a_nextSibling bf → post (f_customers, f_changes, f_engine, 0, 0, -1, 0, a_servers, a_rules, a_arrivalOf, a_visitCount, a_visitStation, a_visitNeed, a_joinTime, a_beginTime, a_leaveTime, a_keptTime, a_keptJoin, a_keptBegin, a_changeTime, a_changeStation, a_changeAt, a_changeWaits, a_visitOf, a_waitingSet, a_free, a_heap, df, a_nextInDay, a_eventOf, a_firstChild, a_nextSibling, a_pairs, bf)) : wpX_startQueue post (f_customers, f_changes, f_engine, f_pending, f_today, f_root, f_lastTaken, a_servers, a_rules, a_arrivalOf, a_visitCount, a_visitStation, a_visitNeed, a_joinTime, a_beginTime, a_leaveTime, a_keptTime, a_keptJoin, a_keptBegin, a_changeTime, a_changeStation, a_changeAt, a_changeWaits, a_visitOf, a_waitingSet, a_free, a_heap, a_dayFirst, a_nextInDay, a_eventOf, a_firstChild, a_nextSibling, a_pairs, a_bucketFirst) :=
  ⟨17, qu_s22 (fun df bf h1 h2 => K df bf (qu_R0 e _ df _ _ _ _ bf h1 h2)) 17 0 a_dayFirst (by omega) (by omega) (fun j hj => by omega)⟩
theorem qu_add {post : SX → Prop} {e lo c x : Nat} {ev : Nat → Nat} (he : e < 4) (hfe : f_engine = nI e) (hR : qu_R e lo ev f_pending f_today f_root f_lastTaken a_heap a_dayFirst a_nextInDay a_eventOf a_firstChild a_nextSibling a_bucketFirst)
  (hc : c < 12) (h0 : ev c = 0) (hx : x % 16 = c) (hb : x < 65536) (hx0 : x ≠ 0) (hlo : lo ≤ x)
  (K : ∀ (pe td rt lk : Int32) (hp df nd eo fc ns pr bf : Nat → Int32), qu_R e lo (si_fu ev c x) pe td rt lk hp df nd eo fc ns bf →
    post (f_customers, f_changes, f_engine, pe, td, rt, lk, a_servers, a_rules, a_arrivalOf, a_visitCount, a_visitStation, a_visitNeed, a_joinTime, a_beginTime, a_leaveTime, a_keptTime, a_keptJoin, a_keptBegin, a_changeTime, a_changeStation, a_changeAt, a_changeWaits, a_visitOf, a_waitingSet, a_free, hp, df, nd, eo, fc, ns, pr, bf)) :
  wpX_addEvent post (f_customers, f_changes, f_engine, f_pending, f_today, f_root, f_lastTaken, a_servers, a_rules, a_arrivalOf, a_visitCount, a_visitStation, a_visitNeed, a_joinTime, a_beginTime, a_leaveTime, a_keptTime, a_keptJoin, a_keptBegin, a_changeTime, a_changeStation, a_changeAt, a_changeWaits, a_visitOf, a_waitingSet, a_free, a_heap, a_dayFirst, a_nextInDay, a_eventOf, a_firstChild, a_nextSibling, a_pairs, a_bucketFirst) (nI x) := by
  obtain ⟨hE, hl, hlb, hp, q0, q1, q2, q3⟩ := hR
  have hE' := qu_E_put hE hc hx hb
  have hlb' : ∀ d, si_fu ev c x d ≠ 0 → lo ≤ si_fu ev c x d := by
    intro d hd
    by_cases z : d = c
    · rw [z, si_fs]; exact hlo
    · rw [si_fn z] at hd ⊢; exact hlb d hd
  have hp' : f_pending + 1 = nI (qu_n (si_fu ev c x)) := by rw [hp, nI_1, qu_n_put hc h0 hx0]
  subst hfe
  rcases (by omega : e = 0 ∨ e = 1 ∨ e = 2 ∨ e = 3) with rfl | rfl | rfl | rfl
  · refine br_f (by decide) (br_f (by decide) (br_t rfl ?_))
    refine hp_add hE hc h0 hx hb hx0 hp (q0 rfl) ?_
    intro a' hQ y ey
    rw [hp'] at ey
    exact K y _ _ _ a' _ _ _ _ _ _ _ ⟨hE', hl, hlb', ey, fun _ => hQ, fun h => absurd h (by decide), fun h => absurd h (by decide), fun h => absurd h (by decide)⟩
  · refine br_f (by decide) (br_f (by decide) (br_f (by decide) (br_t rfl ?_)))
    refine ca_add hE hc h0 hx hb hx0 hlo (q1 rfl) ?_
    intro df nd eo hQ y ey
    rw [hp'] at ey
    exact K y _ _ _ _ df nd eo _ _ _ _ ⟨hE', hl, hlb', ey, fun h => absurd h (by decide), fun _ => hQ, fun h => absurd h (by decide), fun h => absurd h (by decide)⟩
  · refine br_f (by decide) (br_f (by decide) (br_f (by decide) (br_f (by decide) (br_t rfl ?_))))
    refine pt_add hE hc h0 hx hb hx0 (q2 rfl) ?_
    intro rt fc ns eo hQ y ey
    rw [hp'] at ey
    exact K y _ rt _ _ _ _ eo fc ns _ _ ⟨hE', hl, hlb', ey, fun h => absurd h (by decide), fun h => absurd h (by decide), fun _ => hQ, fun h => absurd h (by decide)⟩
  · refine br_f (by decide) (br_t (by decide) ?_)
    refine bu_add hE hc h0 hx hb hx0 hlo (q3 rfl) ?_
    intro nd eo bf hQ _ _ y ey
    rw [hp'] at ey
    exact K y _ _ _ _ _ nd eo _ _ _ bf ⟨hE', hl, hlb', ey, fun h => absurd h (by decide), fun h => absurd h (by decide), fun h => absurd h (by decide), fun _ => hQ⟩
theorem qu_take {post : Int32 → SX → Prop} {e lo c : Nat} {ev : Nat → Nat} (he : e < 4) (hfe : f_engine = nI e) (hR : qu_R e lo ev f_pending f_today f_root f_lastTaken a_heap a_dayFirst a_nextInDay a_eventOf a_firstChild a_nextSibling a_bucketFirst)
  (hM : qu_M ev c)
  (K : ∀ (pe td rt lk : Int32) (hp df nd eo fc ns pr bf : Nat → Int32), qu_R e (ev c) (si_fu ev c 0) pe td rt lk hp df nd eo fc ns bf →
    post (nI (ev c)) (f_customers, f_changes, f_engine, pe, td, rt, lk, a_servers, a_rules, a_arrivalOf, a_visitCount, a_visitStation, a_visitNeed, a_joinTime, a_beginTime, a_leaveTime, a_keptTime, a_keptJoin, a_keptBegin, a_changeTime, a_changeStation, a_changeAt, a_changeWaits, a_visitOf, a_waitingSet, a_free, hp, df, nd, eo, fc, ns, pr, bf)) :
  wpX_takeEvent post (f_customers, f_changes, f_engine, f_pending, f_today, f_root, f_lastTaken, a_servers, a_rules, a_arrivalOf, a_visitCount, a_visitStation, a_visitNeed, a_joinTime, a_beginTime, a_leaveTime, a_keptTime, a_keptJoin, a_keptBegin, a_changeTime, a_changeStation, a_changeAt, a_changeWaits, a_visitOf, a_waitingSet, a_free, a_heap, a_dayFirst, a_nextInDay, a_eventOf, a_firstChild, a_nextSibling, a_pairs, a_bucketFirst) := by
  obtain ⟨hE, hl, hlb, hp, q0, q1, q2, q3⟩ := hR
  have hE' : qu_E (si_fu ev c 0) := qu_E_cut hE
  have hl' := qu_E_lt hE c
  have hlb' : ∀ d, si_fu ev c 0 d ≠ 0 → ev c ≤ si_fu ev c 0 d := by
    intro d hd
    by_cases z : d = c
    · rw [z, si_fs] at hd; exact absurd rfl hd
    · rw [si_fn z] at hd ⊢; exact hM.2.2 d hd
  have hp' : f_pending - 1 = nI (qu_n (si_fu ev c 0)) := by rw [hp, ← qu_n_cut hM.1 hM.2.1, nI_pred]
  subst hfe
  rcases (by omega : e = 0 ∨ e = 1 ∨ e = 2 ∨ e = 3) with rfl | rfl | rfl | rfl
  · refine br_f (by decide) (br_f (by decide) (br_t rfl ?_))
    refine hp_take hE hM hp (q0 rfl) ?_
    intro a' hQ y ey
    rw [hp'] at ey
    exact K y _ _ _ a' _ _ _ _ _ _ _ ⟨hE', hl', hlb', ey, fun _ => hQ, fun h => absurd h (by decide), fun h => absurd h (by decide), fun h => absurd h (by decide)⟩
  · refine br_f (by decide) (br_f (by decide) (br_f (by decide) (br_t rfl ?_)))
    refine ca_take hE hM (q1 rfl) ?_
    intro td df hQ y ey
    rw [hp'] at ey
    exact K y td _ _ _ df _ _ _ _ _ _ ⟨hE', hl', hlb', ey, fun h => absurd h (by decide), fun _ => hQ, fun h => absurd h (by decide), fun h => absurd h (by decide)⟩
  · refine br_f (by decide) (br_f (by decide) (br_f (by decide) (br_f (by decide) (br_t rfl ?_))))
    refine pt_take hE hM (q2 rfl) ?_
    intro rt fc ns pr hQ y ey
    rw [hp'] at ey
    exact K y _ rt _ _ _ _ _ fc ns pr _ ⟨hE', hl', hlb', ey, fun h => absurd h (by decide), fun h => absurd h (by decide), fun _ => hQ, fun h => absurd h (by decide)⟩
  · refine br_f (by decide) (br_t (by decide) ?_)
    refine bu_take hE hM (q3 rfl) ?_
    intro nd eo bf hQ y ey
    rw [hp'] at ey
    exact K y _ _ _ _ _ nd eo _ _ _ bf ⟨hE', hl', hlb', ey, fun h => absurd h (by decide), fun h => absurd h (by decide), fun h => absurd h (by decide), fun _ => hQ⟩
theorem qu_next {post : Int32 → Prop} {e lo c : Nat} {ev : Nat → Nat} (he : e < 4) (hfe : f_engine = nI e) (hR : qu_R e lo ev f_pending f_today f_root f_lastTaken a_heap a_dayFirst a_nextInDay a_eventOf a_firstChild a_nextSibling a_bucketFirst)
  (hM : qu_M ev c) (K : post (nI (ev c / 32))) : wpX_nextTime post (f_customers, f_changes, f_engine, f_pending, f_today, f_root, f_lastTaken, a_servers, a_rules, a_arrivalOf, a_visitCount, a_visitStation, a_visitNeed, a_joinTime, a_beginTime, a_leaveTime, a_keptTime, a_keptJoin, a_keptBegin, a_changeTime, a_changeStation, a_changeAt, a_changeWaits, a_visitOf, a_waitingSet, a_free, a_heap, a_dayFirst, a_nextInDay, a_eventOf, a_firstChild, a_nextSibling, a_pairs, a_bucketFirst) := by
  obtain ⟨hE, hl, hlb, hp, q0, q1, q2, q3⟩ := hR
  have hl' := qu_E_lt hE c
  have hc12 := hM.1
  subst hfe
  rcases (by omega : e = 0 ∨ e = 1 ∨ e = 2 ∨ e = 3) with rfl | rfl | rfl | rfl
  · refine br_t rfl ⟨by decide, ?_⟩
    rw [hp_top hE hM (q0 rfl), ev_ti hl']
    exact K
  · refine br_f (by decide) (br_t rfl ?_)
    refine ca_next hE hM (q1 rfl) ?_
    refine ⟨pk_in c 12 hc12, by decide, ?_⟩
    obtain ⟨L, h1, h2, h3, h4, _⟩ := q1 rfl
    rw [nI_clamp (by omega : c < 2 ^ 31), h4 c hM.2.1, ev_ti hl']
    exact K
  · refine br_f (by decide) (br_f (by decide) (br_f (by decide) ?_))
    obtain ⟨r1, r2⟩ := pt_root hE hM (q2 rfl)
    rw [r1]
    refine ⟨pk_in c 12 hc12, by decide, ?_⟩
    rw [nI_clamp (by omega : c < 2 ^ 31), r2, ev_ti hl']
    exact K
  · refine br_f (by decide) (br_f (by decide) (br_t rfl ?_))
    refine bu_first hE hM (q3 rfl) ?_
    refine bu_least hE hM (q3 rfl) ?_
    refine ⟨pk_in c 12 hc12, by decide, ?_⟩
    obtain ⟨L, h1, h2, h3, h4, _⟩ := q3 rfl
    rw [nI_clamp (by omega : c < 2 ^ 31), h4 c hM.2.1, ev_ti hl']
    exact K
end
end
section
/-! the network, time by time, in plain numbers -/
abbrev si_CF : Type := Nat × (Nat → Nat) × (Nat → Nat) × (Nat → Nat) × (Nat → Nat) × (Nat → Nat) × (Nat → Nat)
def cf_n (C : si_CF) : Nat := C.1
def cf_s (C : si_CF) : Nat → Nat := C.2.1
def cf_r (C : si_CF) : Nat → Nat := C.2.2.1
def cf_a (C : si_CF) : Nat → Nat := C.2.2.2.1
def cf_v (C : si_CF) : Nat → Nat := C.2.2.2.2.1
def cf_t (C : si_CF) : Nat → Nat := C.2.2.2.2.2.1
def cf_d (C : si_CF) : Nat → Nat := C.2.2.2.2.2.2
def cf_V (C : si_CF) : Prop := cf_n C ≤ 12 ∧ (∀ s, s < 4 → 1 ≤ cf_s C s ∧ cf_s C s ≤ 3 ∧ cf_r C s ≤ 2) ∧ (∀ c, c < cf_n C → cf_a C c ≤ 100 ∧ cf_v C c ≤ 4) ∧
  (∀ c k, c < cf_n C → k < cf_v C c → cf_t C (4 * c + k) < 4 ∧ 1 ≤ cf_d C (4 * c + k) ∧ cf_d C (4 * c + k) ≤ 30)
abbrev si_CS : Type := Nat × Bool × (Nat → Nat) × (Nat → Nat) × Nat
def cs_q (r : si_CS) : Nat := r.1
def cs_b (r : si_CS) : Bool := r.2.1
def cs_J (r : si_CS) : Nat → Nat := r.2.2.1
def cs_B (r : si_CS) : Nat → Nat := r.2.2.2.1
def cs_G (r : si_CS) : Nat := r.2.2.2.2
def cs_nx (r : si_CS) : Nat := if cs_q r = 4 then 0 else cs_q r + 1
def si_en (C : si_CF) (T c : Nat) (r : si_CS) : si_CS :=
  if cs_nx r = cf_v C c then (5, false, cs_J r, cs_B r, T) else (cs_nx r, false, si_fu (cs_J r) (cs_nx r) T, cs_B r, cs_G r)
def si_ev (C : si_CF) (c : Nat) (r : si_CS) : Nat :=
  if c < cf_n C then (if cs_q r = 4 then 32 * cf_a C c + 16 + c else if cs_q r < 4 ∧ cs_b r = true then 32 * (cs_B r (cs_q r) + cf_d C (4 * c + cs_q r)) + c else 0) else 0
def si_e (C : si_CF) (P : Nat → si_CS) : Nat → Nat := fun c => si_ev C c (P c)
def si_ea (C : si_CF) (T : Nat) (P : Nat → si_CS) : Nat → si_CS := fun c => if si_e C P c ≠ 0 ∧ si_e C P c / 32 = T then si_en C T c (P c) else P c
def si_wt (C : si_CF) (s c : Nat) (r : si_CS) : Bool := decide (c < cf_n C ∧ cs_q r < 4 ∧ cs_b r = false ∧ cf_t C (4 * c + cs_q r) = s)
def si_sv (C : si_CF) (s c : Nat) (r : si_CS) : Bool := decide (c < cf_n C ∧ cs_q r < 4 ∧ cs_b r = true ∧ cf_t C (4 * c + cs_q r) = s)
/-- c is served before d, whose number is less -/
def si_bf (C : si_CF) (P : Nat → si_CS) (s c d : Nat) : Bool :=
  if cf_r C s = 1 then decide (cs_J (P d) (cs_q (P d)) ≤ cs_J (P c) (cs_q (P c)))
  else if cf_r C s = 2 ∧ cf_d C (4 * c + cs_q (P c)) ≠ cf_d C (4 * d + cs_q (P d)) then decide (cf_d C (4 * c + cs_q (P c)) < cf_d C (4 * d + cs_q (P d)))
  else decide (cs_J (P c) (cs_q (P c)) < cs_J (P d) (cs_q (P d)))
def si_ob (o : Option Nat) (f : Nat → Bool) : Bool := match o with
  | none => true
  | some d => f d
def si_ch (C : si_CF) (P : Nat → si_CS) (s : Nat) : Nat → Option Nat
  | 0 => none
  | i + 1 => if si_wt C s i (P i) = true ∧ si_ob (si_ch C P s i) (si_bf C P s i) = true then some i else si_ch C P s i
def si_nc (C : si_CF) (P : Nat → si_CS) (s : Nat) (i : Nat) : Nat := sm_N (fun c => if si_sv C s c (P c) = true then 1 else 0) i
def si_bg (T : Nat) (r : si_CS) : si_CS := (cs_q r, true, cs_J r, si_fu (cs_B r) (cs_q r) T, cs_G r)
def si_sl (C : si_CF) (s T : Nat) : Nat → (Nat → si_CS) → (Nat → si_CS)
  | 0, P => P
  | f + 1, P => match si_ch C P s (cf_n C) with
    | none => P
    | some c => if si_nc C P s (cf_n C) < cf_s C s then si_sl C s T f (si_fu P c (si_bg T (P c))) else P
def si_ss (C : si_CF) (T : Nat) : Nat → (Nat → si_CS) → (Nat → si_CS)
  | 0, P => P
  | i + 1, P => si_sl C i T 13 (si_ss C T i P)
def si_S (C : si_CF) : Nat → (Nat → si_CS)
  | 0 => fun _ => (4, false, fun _ => 0, fun _ => 0, 0)
  | t + 1 => si_ss C t 4 (si_ea C t (si_S C t))
abbrev cs_en (r : si_CS) (k : Nat) : Prop := cs_q r = 5 ∨ (cs_q r < 4 ∧ k ≤ cs_q r)
abbrev cs_fi (r : si_CS) (k : Nat) : Prop := cs_q r = 5 ∨ (cs_q r < 4 ∧ k < cs_q r)
abbrev cs_bn (r : si_CS) (k : Nat) : Prop := cs_q r = 5 ∨ (cs_q r < 4 ∧ (k < cs_q r ∨ (k = cs_q r ∧ cs_b r = true)))
/-- what holds of a customer: stamps below t1, and nothing of it is left before t2 -/
def si_ok (C : si_CF) (t1 t2 c : Nat) (r : si_CS) : Prop :=
  cs_q r ≤ 5 ∧ (cs_q r < 4 → cs_q r < cf_v C c) ∧ (∀ k, k < cf_v C c → cs_en r k → cs_J r k < t1) ∧ (∀ k, k < cf_v C c → cs_bn r k → cs_J r k ≤ cs_B r k ∧ cs_B r k < t1) ∧
  (∀ k, k < cf_v C c → cs_fi r k → (cs_q r = 5 → cs_B r k + cf_d C (4 * c + k) ≤ cs_G r) ∧ (cs_q r < 4 → cs_B r k + cf_d C (4 * c + k) ≤ cs_J r (cs_q r))) ∧
  (cs_q r = 5 → cs_G r < t1) ∧ (cs_q r < 4 → cs_b r = true → t2 ≤ cs_B r (cs_q r) + cf_d C (4 * c + cs_q r)) ∧ (cs_q r = 4 → t2 ≤ cf_a C c)
theorem si_ev_c {C : si_CF} {c : Nat} {r : si_CS} (h : si_ev C c r ≠ 0) :
    c < cf_n C ∧ ((cs_q r = 4 ∧ si_ev C c r = 32 * cf_a C c + 16 + c) ∨ (cs_q r < 4 ∧ cs_b r = true ∧ si_ev C c r = 32 * (cs_B r (cs_q r) + cf_d C (4 * c + cs_q r)) + c)) := by
  unfold si_ev at h ⊢
  by_cases h1 : c < cf_n C
  · rw [if_pos h1] at h ⊢
    by_cases h2 : cs_q r = 4
    · rw [if_pos h2]; exact ⟨h1, Or.inl ⟨h2, rfl⟩⟩
    · rw [if_neg h2] at h ⊢
      by_cases h3 : cs_q r < 4 ∧ cs_b r = true
      · rw [if_pos h3]; exact ⟨h1, Or.inr ⟨h3.1, h3.2, rfl⟩⟩
      · rw [if_neg h3] at h; exact absurd rfl h
  · rw [if_neg h1] at h; exact absurd rfl h
theorem si_ev_4 {C : si_CF} {c : Nat} {r : si_CS} (hc : c < cf_n C) (h : cs_q r = 4) : si_ev C c r = 32 * cf_a C c + 16 + c := by
  unfold si_ev
  rw [if_pos hc, if_pos h]
theorem si_ev_s {C : si_CF} {c : Nat} {r : si_CS} (hc : c < cf_n C) (h : cs_q r < 4) (hb : cs_b r = true) : si_ev C c r = 32 * (cs_B r (cs_q r) + cf_d C (4 * c + cs_q r)) + c := by
  unfold si_ev
  rw [if_pos hc, if_neg (by omega), if_pos ⟨h, hb⟩]
theorem si_ev_0 {C : si_CF} {c : Nat} {r : si_CS} (h : cs_q r ≠ 4) (hb : cs_q r < 4 → cs_b r = false) : si_ev C c r = 0 := by
  unfold si_ev
  by_cases h1 : c < cf_n C
  · rw [if_pos h1, if_neg h, if_neg]
    intro z
    rw [hb z.1] at z
    exact absurd z.2 (by decide)
  · rw [if_neg h1]
theorem si_en_5 {C : si_CF} {T c : Nat} {r : si_CS} (h : cs_nx r = cf_v C c) : si_en C T c r = (5, false, cs_J r, cs_B r, T) := if_pos h
theorem si_en_k {C : si_CF} {T c : Nat} {r : si_CS} (h : cs_nx r ≠ cf_v C c) : si_en C T c r = (cs_nx r, false, si_fu (cs_J r) (cs_nx r) T, cs_B r, cs_G r) := if_neg h
theorem si_en_0 {C : si_CF} {T c : Nat} {r : si_CS} (h : cs_q r ≠ 3 ∨ cf_v C c ≤ 4 ∧ cs_q r < cf_v C c) : si_ev C c (si_en C T c r) = 0 := by
  by_cases z : cs_nx r = cf_v C c
  · rw [si_en_5 z]; exact si_ev_0 (show ¬ (5 : Nat) = 4 by decide) (fun _ => rfl)
  · rw [si_en_k z]
    refine si_ev_0 ?_ (fun _ => rfl)
    show cs_nx r ≠ 4
    unfold cs_nx at z ⊢
    split
    · omega
    · rename_i w
      rw [if_neg w] at z
      omega
theorem si_ok_en {C : si_CF} {T c : Nat} {r : si_CS} (hv : cf_V C) (h : si_ok C (T + 1) T c r) (hd : si_ev C c r ≠ 0 ∧ si_ev C c r / 32 = T) : si_ok C (T + 1) (T + 1) c (si_en C T c r) := by
  obtain ⟨hc, hr⟩ := si_ev_c hd.1
  have hn := hv.1
  have hv3 := hv.2.2.1 c hc
  obtain ⟨q, b, J, B, G⟩ := r
  obtain ⟨o1, o2, o3, o4, o5, o6, o7, o8⟩ := h
  simp only [cs_q, cs_b, cs_J, cs_B, cs_G, cs_en, cs_fi, cs_bn] at o1 o2 o3 o4 o5 o6 o7 o8 hr
  rcases hr with ⟨rfl, e⟩ | ⟨hq, rfl, e⟩
  · have hT : cf_a C c = T := by omega
    by_cases z : cf_v C c = 0
    · have e0 : cs_nx (4, b, J, B, G) = cf_v C c := (show cs_nx (4, b, J, B, G) = 0 from if_pos rfl).trans z.symm
      rw [si_en_5 e0]
      refine ⟨show 5 ≤ 5 by decide, fun h => absurd h (show ¬ 5 < 4 by decide), fun k hk => by omega, fun k hk => by omega, fun k hk => by omega, fun _ => Nat.lt_succ_self _, fun h => absurd h (show ¬ 5 < 4 by decide), fun h => absurd h (show ¬ 5 = 4 by decide)⟩
    · have e0 : cs_nx (4, b, J, B, G) = 0 := if_pos rfl
      rw [si_en_k (by rw [e0]; omega), e0]
      refine ⟨show 0 ≤ 5 by decide, fun _ => ?_, fun k hk he => ?_, fun k hk he => ?_, fun k hk he => ?_, fun h => absurd h (show ¬ 0 = 5 by decide), fun _ h => absurd h (show ¬ false = true by decide), fun h => absurd h (show ¬ 0 = 4 by decide)⟩
      · show 0 < cf_v C c; omega
      · simp only [cs_en, cs_q] at he
        have : k = 0 := by omega
        subst this
        show si_fu J 0 T 0 < _
        rw [si_fs]; omega
      · simp only [cs_bn, cs_q, cs_b] at he
        rcases he with he | ⟨_, he | ⟨_, he⟩⟩
        · omega
        · omega
        · exact absurd he (by decide)
      · simp only [cs_fi, cs_q] at he; omega
  · have hT : B q + cf_d C (4 * c + q) = T := by omega
    have e0 : cs_nx (q, true, J, B, G) = q + 1 := if_neg (by show ¬ q = 4; omega)
    have hJB := o4 q (o2 hq) (Or.inr ⟨hq, Or.inr ⟨rfl, rfl⟩⟩)
    have hfin : ∀ k, k < cf_v C c → k ≤ q → B k + cf_d C (4 * c + k) ≤ T := by
      intro k hk hkq
      by_cases z : k = q
      · subst z; omega
      · have := (o5 k hk (Or.inr ⟨hq, by omega⟩)).2 hq
        omega
    by_cases z : q + 1 = cf_v C c
    · rw [si_en_5 (by rw [e0]; exact z)]
      refine ⟨show 5 ≤ 5 by decide, fun h => absurd h (show ¬ 5 < 4 by decide), fun k hk he => ?_, fun k hk he => ?_, fun k hk he => ⟨fun _ => hfin k hk (by omega), fun h => absurd h (show ¬ 5 < 4 by decide)⟩, fun _ => Nat.lt_succ_self _, fun h => absurd h (show ¬ 5 < 4 by decide), fun h => absurd h (show ¬ 5 = 4 by decide)⟩
      · exact o3 k hk (Or.inr ⟨hq, by omega⟩)
      · refine o4 k hk (Or.inr ⟨hq, ?_⟩)
        by_cases y : k = q
        · exact Or.inr ⟨y, rfl⟩
        · exact Or.inl (by omega)
    · have hq1 := o2 hq
      rw [si_en_k (by rw [e0]; exact z), e0]
      refine ⟨by show q + 1 ≤ 5; omega, fun _ => by show q + 1 < _; omega, fun k hk he => ?_, fun k hk he => ?_, fun k hk he => ⟨fun h => ?_, fun h => ?_⟩, fun h => ?_, fun _ h => absurd h (show ¬ false = true by decide), fun h => ?_⟩
      · show si_fu J (q + 1) T k < _
        by_cases y : k = q + 1
        · rw [y, si_fs]; omega
        · rw [si_fn y]
          simp only [cs_en, cs_q] at he
          exact o3 k hk (Or.inr ⟨hq, by omega⟩)
      · simp only [cs_bn, cs_q, cs_b] at he
        have hk' : k < q + 1 := by
          rcases he with he | ⟨_, he | ⟨_, he⟩⟩
          · omega
          · omega
          · exact absurd he (by decide)
        show si_fu J (q + 1) T k ≤ B k ∧ B k < _
        rw [si_fn (by omega)]
        refine o4 k hk (Or.inr ⟨hq, ?_⟩)
        by_cases y : k = q
        · exact Or.inr ⟨y, rfl⟩
        · exact Or.inl (by omega)
      · exact absurd h (by show ¬ q + 1 = 5; omega)
      · simp only [cs_fi, cs_q] at he
        show B k + _ ≤ si_fu J (q + 1) T (q + 1)
        rw [si_fs]; exact hfin k hk (by omega)
      · exact absurd h (by show ¬ q + 1 = 5; omega)
      · exact absurd h (by show ¬ q + 1 = 4; omega)
theorem si_ok_nd {C : si_CF} {T t1 c : Nat} {r : si_CS} (hv : cf_V C) (hc : c < cf_n C) (h : si_ok C t1 T c r) (hd : ¬ (si_ev C c r ≠ 0 ∧ si_ev C c r / 32 = T)) : si_ok C t1 (T + 1) c r := by
  have hn := hv.1
  obtain ⟨o1, o2, o3, o4, o5, o6, o7, o8⟩ := h
  refine ⟨o1, o2, o3, o4, o5, o6, fun hq hb => ?_, fun hq => ?_⟩
  · have a := o7 hq hb
    rw [si_ev_s hc hq hb] at hd
    have d1 := (hv.2.2.2 c _ hc (o2 hq)).2.1
    rcases Nat.lt_or_ge T (cs_B r (cs_q r) + cf_d C (4 * c + cs_q r)) with z | z
    · exact z
    · exact absurd ⟨by omega, by omega⟩ hd
  · have a := o8 hq
    rw [si_ev_4 hc hq] at hd
    rcases Nat.lt_or_ge T (cf_a C c) with z | z
    · exact z
    · exact absurd ⟨by omega, by omega⟩ hd
theorem si_ok_up {C : si_CF} {t1 t1' t2 t2' c : Nat} {r : si_CS} (h1 : t1 ≤ t1') (h2 : t2' ≤ t2) (h : si_ok C t1 t2 c r) : si_ok C t1' t2' c r := by
  obtain ⟨o1, o2, o3, o4, o5, o6, o7, o8⟩ := h
  exact ⟨o1, o2, fun k hk he => Nat.lt_of_lt_of_le (o3 k hk he) h1, fun k hk he => ⟨(o4 k hk he).1, Nat.lt_of_lt_of_le (o4 k hk he).2 h1⟩, o5, fun h => Nat.lt_of_lt_of_le (o6 h) h1,
    fun a b => Nat.le_trans h2 (o7 a b), fun a => Nat.le_trans h2 (o8 a)⟩
theorem si_ok_bg {C : si_CF} {T t2 c : Nat} {r : si_CS} (hv : cf_V C) (hc : c < cf_n C) (ht : t2 ≤ T + 1) (h : si_ok C (T + 1) t2 c r) (hq : cs_q r < 4) (hb : cs_b r = false) : si_ok C (T + 1) t2 c (si_bg T r) := by
  obtain ⟨q, b, J, B, G⟩ := r
  obtain ⟨o1, o2, o3, o4, o5, o6, o7, o8⟩ := h
  simp only [cs_q, cs_b, cs_J, cs_B, cs_G, cs_en, cs_fi, cs_bn] at o1 o2 o3 o4 o5 o6 o7 o8 hq hb
  subst hb
  have hd := (hv.2.2.2 c q hc (o2 hq)).2.1
  have hJ := o3 q (o2 hq) (Or.inr ⟨hq, Nat.le_refl _⟩)
  refine ⟨o1, o2, o3, fun k hk he => ?_, fun k hk he => ⟨fun h => absurd h (by show ¬ q = 5; omega), fun h => ?_⟩, o6, fun _ _ => ?_, o8⟩
  · show J k ≤ si_fu B q T k ∧ si_fu B q T k < T + 1
    by_cases z : k = q
    · rw [z, si_fs]; omega
    · rw [si_fn z]
      refine o4 k hk ?_
      simp only [si_bg, cs_bn, cs_q, cs_b] at he
      rcases he with he | ⟨h1, h2 | ⟨h2, _⟩⟩
      · omega
      · exact Or.inr ⟨h1, Or.inl h2⟩
      · exact absurd h2 z
  · simp only [si_bg, cs_fi, cs_q] at he
    show si_fu B q T k + _ ≤ J q
    rw [si_fn (by omega)]
    exact (o5 k hk (Or.inr ⟨hq, by omega⟩)).2 hq
  · show t2 ≤ si_fu B q T q + cf_d C (4 * c + q)
    rw [si_fs]; omega
end
section
/-! one time: what it keeps; when all are gone -/
def si_OK (C : si_CF) (t1 t2 : Nat) (P : Nat → si_CS) : Prop := ∀ c, c < cf_n C → si_ok C t1 t2 c (P c)
theorem si_wt_i {C : si_CF} {s c : Nat} {r : si_CS} : si_wt C s c r = true ↔ c < cf_n C ∧ cs_q r < 4 ∧ cs_b r = false ∧ cf_t C (4 * c + cs_q r) = s := by
  unfold si_wt; exact decide_eq_true_iff
theorem si_sv_i {C : si_CF} {s c : Nat} {r : si_CS} : si_sv C s c r = true ↔ c < cf_n C ∧ cs_q r < 4 ∧ cs_b r = true ∧ cf_t C (4 * c + cs_q r) = s := by
  unfold si_sv; exact decide_eq_true_iff
theorem bo_f {b : Bool} (h : ¬ b = true) : b = false := by cases b <;> simp_all
theorem si_ch_n {C : si_CF} {P : Nat → si_CS} {s : Nat} : ∀ i, si_ch C P s i = none ↔ ∀ c, c < i → si_wt C s c (P c) = false
  | 0 => ⟨fun _ c h => by omega, fun _ => rfl⟩
  | i + 1 => by
    have ih := si_ch_n (C := C) (P := P) (s := s) i
    by_cases h : si_wt C s i (P i) = true ∧ si_ob (si_ch C P s i) (si_bf C P s i) = true
    · have e : si_ch C P s (i + 1) = some i := if_pos h
      rw [e]
      refine ⟨fun z => (nomatch z), fun z => ?_⟩
      have := z i (by omega)
      rw [h.1] at this
      exact nomatch this
    · have e : si_ch C P s (i + 1) = si_ch C P s i := if_neg h
      rw [e, ih]
      refine ⟨fun z c hc => ?_, fun z c hc => z c (by omega)⟩
      by_cases y : c = i
      · rw [y]
        refine bo_f (fun w => h ⟨w, ?_⟩)
        rw [ih.mpr z]; rfl
      · exact z c (by omega)
theorem si_ch_s {C : si_CF} {P : Nat → si_CS} {s : Nat} : ∀ i c, si_ch C P s i = some c → c < i ∧ si_wt C s c (P c) = true
  | 0, c, h => nomatch h
  | i + 1, c, h => by
    by_cases z : si_wt C s i (P i) = true ∧ si_ob (si_ch C P s i) (si_bf C P s i) = true
    · have e : si_ch C P s (i + 1) = some i := if_pos z
      rw [e] at h
      cases h
      exact ⟨by omega, z.1⟩
    · have e : si_ch C P s (i + 1) = si_ch C P s i := if_neg z
      rw [e] at h
      have := si_ch_s i c h
      exact ⟨by omega, this.2⟩
theorem si_sl_n {C : si_CF} {P : Nat → si_CS} {s T f : Nat} (h : si_ch C P s (cf_n C) = none) : si_sl C s T (f + 1) P = P := by
  rw [si_sl, h]
theorem si_sl_f {C : si_CF} {P : Nat → si_CS} {s T f c : Nat} (h : si_ch C P s (cf_n C) = some c) (hn : ¬ si_nc C P s (cf_n C) < cf_s C s) : si_sl C s T (f + 1) P = P := by
  rw [si_sl, h]; exact if_neg hn
theorem si_sl_g {C : si_CF} {P : Nat → si_CS} {s T f c : Nat} (h : si_ch C P s (cf_n C) = some c) (hn : si_nc C P s (cf_n C) < cf_s C s) : si_sl C s T (f + 1) P = si_sl C s T f (si_fu P c (si_bg T (P c))) := by
  rw [si_sl, h]; exact if_pos hn
theorem si_sl_ind {C : si_CF} {s T : Nat} {F : (Nat → si_CS) → Prop} (hs : ∀ P c, F P → si_ch C P s (cf_n C) = some c → si_nc C P s (cf_n C) < cf_s C s → F (si_fu P c (si_bg T (P c)))) :
    ∀ f P, F P → F (si_sl C s T f P)
  | 0, P, h => h
  | f + 1, P, h => by
    cases hc : si_ch C P s (cf_n C) with
    | none => rw [si_sl_n hc]; exact h
    | some c =>
      by_cases hn : si_nc C P s (cf_n C) < cf_s C s
      · rw [si_sl_g hc hn]; exact si_sl_ind hs f _ (hs P c h hc hn)
      · rw [si_sl_f hc hn]; exact h
def si_wc (C : si_CF) (P : Nat → si_CS) (s : Nat) : Nat := sm_N (fun c => if si_wt C s c (P c) = true then 1 else 0) (cf_n C)
def si_sb (C : si_CF) (s : Nat) (P : Nat → si_CS) : Prop := (∀ c, c < cf_n C → si_wt C s c (P c) = false) ∨ cf_s C s ≤ si_nc C P s (cf_n C)
theorem si_wc_le (C : si_CF) (P : Nat → si_CS) (s : Nat) : si_wc C P s ≤ cf_n C := by
  have h := sm_N_le (f := fun c => if si_wt C s c (P c) = true then 1 else 0) (g := fun _ => 1) (n := cf_n C) (fun i _ => by (try dsimp only); split <;> omega)
  rw [sm_N_cst, Nat.one_mul] at h
  exact h
/-- what a beginning changes -/
theorem si_bg_wt {C : si_CF} {s c T : Nat} {r : si_CS} : si_wt C s c (si_bg T r) = false := bo_f (fun h => by
  have := (si_wt_i.mp h).2.2.1
  exact nomatch this)
theorem si_bg_sv {C : si_CF} {s c T : Nat} {r : si_CS} (h : si_wt C s c r = true) : si_sv C s c (si_bg T r) = true := by
  have := si_wt_i.mp h
  exact si_sv_i.mpr ⟨this.1, this.2.1, rfl, this.2.2.2⟩
theorem si_wt_sv {C : si_CF} {s s' c : Nat} {r : si_CS} (h : si_wt C s c r = true) : si_sv C s' c r = false := bo_f (fun z => by
  have a := (si_wt_i.mp h).2.2.1
  have b := (si_sv_i.mp z).2.2.1
  rw [a] at b
  exact nomatch b)
theorem si_wt_ne {C : si_CF} {s s' c : Nat} {r : si_CS} (hs : s' ≠ s) (h : si_wt C s c r = true) : si_wt C s' c r = false := bo_f (fun z => by
  have a := (si_wt_i.mp h).2.2.2
  have b := (si_wt_i.mp z).2.2.2
  omega)
theorem si_bg_ne {C : si_CF} {s s' c T : Nat} {r : si_CS} (hs : s' ≠ s) (h : si_wt C s c r = true) : si_sv C s' c (si_bg T r) = false := bo_f (fun z => by
  have a := (si_wt_i.mp h).2.2.2
  have b : cf_t C (4 * c + cs_q r) = s' := (si_sv_i.mp z).2.2.2
  omega)
theorem si_bg_wc {C : si_CF} {P : Nat → si_CS} {s c T : Nat} (h : si_wt C s c (P c) = true) : si_wc C (si_fu P c (si_bg T (P c))) s + 1 = si_wc C P s := by
  have hc := (si_wt_i.mp h).1
  have k := sm_N_one (f := fun d => if si_wt C s d (si_fu P c (si_bg T (P c)) d) = true then 1 else 0) (g := fun d => if si_wt C s d (P d) = true then 1 else 0) (i := c) (n := cf_n C) hc (fun j _ hj => by (try dsimp only); rw [si_fn hj])
  (try dsimp only at k)
  rw [si_fs, si_bg_wt, h, if_pos rfl, if_neg (by decide)] at k
  exact k
theorem si_bg_nc {C : si_CF} {P : Nat → si_CS} {s c T : Nat} (h : si_wt C s c (P c) = true) : si_nc C (si_fu P c (si_bg T (P c))) s (cf_n C) = si_nc C P s (cf_n C) + 1 := by
  have hc := (si_wt_i.mp h).1
  have k := sm_N_one (f := fun d => if si_sv C s d (si_fu P c (si_bg T (P c)) d) = true then 1 else 0) (g := fun d => if si_sv C s d (P d) = true then 1 else 0) (i := c) (n := cf_n C) hc (fun j _ hj => by (try dsimp only); rw [si_fn hj])
  (try dsimp only at k)
  rw [si_fs, si_bg_sv h, si_wt_sv h, if_pos rfl, if_neg (by decide)] at k
  exact k
theorem si_bg_nn {C : si_CF} {P : Nat → si_CS} {s s' c T : Nat} (hs : s' ≠ s) (h : si_wt C s c (P c) = true) : si_nc C (si_fu P c (si_bg T (P c))) s' (cf_n C) = si_nc C P s' (cf_n C) := by
  refine sm_N_eq (fun i _ => ?_)
  by_cases z : i = c
  · rw [z, si_fs, si_bg_ne hs h, si_wt_sv h]
  · rw [si_fn z]
theorem si_bg_ww {C : si_CF} {P : Nat → si_CS} {s s' c T : Nat} (hs : s' ≠ s) (h : si_wt C s c (P c) = true) (d : Nat) : si_wt C s' d (si_fu P c (si_bg T (P c)) d) = si_wt C s' d (P d) := by
  by_cases z : d = c
  · rw [z, si_fs, si_bg_wt, si_wt_ne hs h]
  · rw [si_fn z]
theorem si_sl_end {C : si_CF} {s T : Nat} : ∀ f P, si_wc C P s < f → si_sb C s (si_sl C s T f P)
  | 0, P, h => by omega
  | f + 1, P, h => by
    cases hc : si_ch C P s (cf_n C) with
    | none => rw [si_sl_n hc]; exact Or.inl ((si_ch_n _).mp hc)
    | some c =>
      by_cases hn : si_nc C P s (cf_n C) < cf_s C s
      · rw [si_sl_g hc hn]
        have := si_bg_wc (T := T) (si_ch_s _ _ hc).2
        exact si_sl_end f _ (by omega)
      · rw [si_sl_f hc hn]; exact Or.inr (by omega)
theorem si_sb_n {C : si_CF} {s T : Nat} {P : Nat → si_CS} (h : si_sb C s P) (f : Nat) : si_sl C s T f P = P := by
  cases f with
  | zero => rfl
  | succ f =>
    cases hc : si_ch C P s (cf_n C) with
    | none => exact si_sl_n hc
    | some c =>
      refine si_sl_f hc (fun hn => ?_)
      have a := si_ch_s _ _ hc
      rcases h with z | z
      · rw [z c a.1] at a; exact nomatch a.2
      · omega
/-- a customer in service is one at some station: the counts stay within the servers -/
def si_K (C : si_CF) (P : Nat → si_CS) : Prop := ∀ s, s < 4 → si_nc C P s (cf_n C) ≤ cf_s C s
theorem si_K_bg {C : si_CF} {P : Nat → si_CS} {s c T : Nat} (h : si_K C P) (hw : si_wt C s c (P c) = true) (hn : si_nc C P s (cf_n C) < cf_s C s) : si_K C (si_fu P c (si_bg T (P c))) := by
  intro s' hs'
  by_cases z : s' = s
  · rw [z, si_bg_nc hw]; omega
  · rw [si_bg_nn z hw]; exact h s' hs'
theorem si_OK_bg {C : si_CF} {P : Nat → si_CS} {s c T t2 : Nat} (hv : cf_V C) (ht : t2 ≤ T + 1) (h : si_OK C (T + 1) t2 P) (hw : si_wt C s c (P c) = true) : si_OK C (T + 1) t2 (si_fu P c (si_bg T (P c))) := by
  intro d hd
  by_cases z : d = c
  · rw [z, si_fs]
    have w := si_wt_i.mp hw
    exact si_ok_bg hv w.1 ht (h c w.1) w.2.1 w.2.2.1
  · rw [si_fn z]; exact h d hd
theorem si_sb_bg {C : si_CF} {P : Nat → si_CS} {s s' c T : Nat} (hs : s' ≠ s) (h : si_sb C s' P) (hw : si_wt C s c (P c) = true) : si_sb C s' (si_fu P c (si_bg T (P c))) := by
  rcases h with z | z
  · exact Or.inl (fun d hd => by rw [si_bg_ww hs hw]; exact z d hd)
  · exact Or.inr (by rw [si_bg_nn hs hw]; exact z)
theorem si_OK_ea {C : si_CF} {P : Nat → si_CS} {T : Nat} (hv : cf_V C) (h : si_OK C (T + 1) T P) : si_OK C (T + 1) (T + 1) (si_ea C T P) := by
  intro c hc
  unfold si_ea
  by_cases z : si_e C P c ≠ 0 ∧ si_e C P c / 32 = T
  · rw [if_pos z]; exact si_ok_en hv (h c hc) z
  · rw [if_neg z]; exact si_ok_nd hv hc (h c hc) z
theorem si_en_b {C : si_CF} {T c : Nat} {r : si_CS} : cs_b (si_en C T c r) = false := by
  by_cases z : cs_nx r = cf_v C c
  · rw [si_en_5 z]; rfl
  · rw [si_en_k z]; rfl
theorem si_K_ea {C : si_CF} {P : Nat → si_CS} {T : Nat} (h : si_K C P) : si_K C (si_ea C T P) := by
  intro s hs
  refine Nat.le_trans (sm_N_le (fun i _ => ?_)) (h s hs)
  unfold si_ea
  by_cases z : si_e C P i ≠ 0 ∧ si_e C P i / 32 = T
  · rw [if_pos z]
    have e : si_sv C s i (si_en C T i (P i)) = false := bo_f (fun w => by
      have := (si_sv_i.mp w).2.2.1
      rw [si_en_b] at this
      exact nomatch this)
    rw [e, if_neg (by decide)]; omega
  · rw [if_neg z]; exact Nat.le_refl _
/-- the stations, one after the other -/
theorem si_ss_ind {C : si_CF} {T : Nat} {F : (Nat → si_CS) → Prop} (hs : ∀ s P c, s < 4 → F P → si_wt C s c (P c) = true → si_nc C P s (cf_n C) < cf_s C s → F (si_fu P c (si_bg T (P c)))) :
    ∀ i P, i ≤ 4 → F P → F (si_ss C T i P)
  | 0, P, _, h => h
  | i + 1, P, hi, h => si_sl_ind (fun P c hF hc hn => hs i P c (by omega) hF (si_ch_s _ _ hc).2 hn) 13 _ (si_ss_ind hs i P (by omega) h)
theorem si_ss_sb {C : si_CF} {T : Nat} (hv : cf_V C) : ∀ i P, i ≤ 4 → ∀ s, s < i → si_sb C s (si_ss C T i P)
  | 0, P, _, s, h => by omega
  | i + 1, P, hi, s, h => by
    have hn := hv.1
    by_cases z : s = i
    · rw [z]
      refine si_sl_end 13 _ ?_
      have := si_wc_le C (si_ss C T i P) i
      omega
    · have a := si_ss_sb (T := T) hv i P (by omega) s (by omega)
      exact si_sl_ind (F := fun P => si_sb C s P) (fun P c hF hc hn => si_sb_bg z hF (si_ch_s _ _ hc).2) 13 _ a
def si_G (C : si_CF) (t : Nat) (P : Nat → si_CS) : Prop := si_OK C t t P ∧ si_K C P ∧ ∀ s, s < 4 → si_sb C s P
theorem si_stp {C : si_CF} {P : Nat → si_CS} {T : Nat} (hv : cf_V C) (h1 : si_OK C (T + 1) (T + 1) P) (h2 : si_K C P) : si_G C (T + 1) (si_ss C T 4 P) :=
  ⟨si_ss_ind (F := fun P => si_OK C (T + 1) (T + 1) P) (fun _ _ _ _ hF hw _ => si_OK_bg hv (Nat.le_refl _) hF hw) 4 P (Nat.le_refl _) h1,
   si_ss_ind (F := fun P => si_K C P) (fun _ _ _ _ hF hw hn => si_K_bg hF hw hn) 4 P (Nat.le_refl _) h2, fun s hs => si_ss_sb hv 4 P (Nat.le_refl _) s hs⟩
theorem si_G0 (C : si_CF) : si_G C 0 (si_S C 0) := by
  have nw : ∀ s c, si_wt C s c (si_S C 0 c) = false := fun s c => bo_f (fun h => absurd (si_wt_i.mp h).2.1 (show ¬ 4 < 4 by decide))
  have ns : ∀ s c, si_sv C s c (si_S C 0 c) = false := fun s c => bo_f (fun h => absurd (si_sv_i.mp h).2.1 (show ¬ 4 < 4 by decide))
  refine ⟨fun c hc => ?_, fun s hs => ?_, fun s hs => Or.inl (fun c _ => nw s c)⟩
  · refine ⟨show 4 ≤ 5 by decide, fun h => absurd h (show ¬ 4 < 4 by decide), fun k hk he => ?_, fun k hk he => ?_, fun k hk he => ?_, fun h => absurd h (show ¬ 4 = 5 by decide), fun h => absurd h (show ¬ 4 < 4 by decide), fun _ => Nat.zero_le _⟩
    · exact he.elim (fun h => absurd h (show ¬ 4 = 5 by decide)) (fun h => absurd h.1 (show ¬ 4 < 4 by decide))
    · exact he.elim (fun h => absurd h (show ¬ 4 = 5 by decide)) (fun h => absurd h.1 (show ¬ 4 < 4 by decide))
    · exact he.elim (fun h => absurd h (show ¬ 4 = 5 by decide)) (fun h => absurd h.1 (show ¬ 4 < 4 by decide))
  · have e : si_nc C (si_S C 0) s (cf_n C) = sm_N (fun _ => 0) (cf_n C) := sm_N_eq (fun i _ => by rw [ns s i, if_neg (by decide)])
    rw [e, sm_N_cst]; omega
theorem si_Gt {C : si_CF} (hv : cf_V C) : ∀ t, si_G C t (si_S C t)
  | 0 => si_G0 C
  | t + 1 => by
    have h := si_Gt hv t
    exact si_stp hv (si_OK_ea hv (fun c hc => si_ok_up (Nat.le_succ t) (Nat.le_refl _) (h.1 c hc))) (si_K_ea h.2.1)
/-- a quiet time changes nothing -/
theorem si_quiet {C : si_CF} {P : Nat → si_CS} {T : Nat} (hd : ∀ c, ¬ (si_e C P c ≠ 0 ∧ si_e C P c / 32 = T)) (hs : ∀ s, s < 4 → si_sb C s P) : si_ss C T 4 (si_ea C T P) = P := by
  have e : si_ea C T P = P := funext fun c => if_neg (hd c)
  rw [e]
  have k : ∀ i, i ≤ 4 → si_ss C T i P = P := by
    intro i
    induction i with
    | zero => intro _; rfl
    | succ i ih =>
      intro hi
      show si_sl C i T 13 (si_ss C T i P) = P
      rw [ih (by omega)]
      exact si_sb_n (hs i (by omega)) 13
  exact k 4 (Nat.le_refl _)
theorem si_skip {C : si_CF} (hv : cf_V C) {t : Nat} : ∀ d, (∀ c, si_e C (si_S C t) c ≠ 0 → t + d ≤ si_e C (si_S C t) c / 32) → si_S C (t + d) = si_S C t
  | 0, _ => rfl
  | d + 1, h => by
    have e := si_skip hv d (fun c hc => Nat.le_of_succ_le (h c hc))
    show si_ss C (t + d) 4 (si_ea C (t + d) (si_S C (t + d))) = _
    rw [e]
    refine si_quiet (fun c z => ?_) (si_Gt hv t).2.2
    have := h c z.1
    omega
def si_A (C : si_CF) (P : Nat → si_CS) : Prop := ∀ c, c < cf_n C → cs_q (P c) = 5
theorem si_A_e {C : si_CF} {P : Nat → si_CS} (h : si_A C P) (c : Nat) : si_e C P c = 0 := by
  by_cases z : si_e C P c = 0
  · exact z
  · have a := si_ev_c z
    have := h c a.1
    omega
theorem si_A_up {C : si_CF} (hv : cf_V C) {t t' : Nat} (h : si_A C (si_S C t)) (ht : t ≤ t') : si_S C t' = si_S C t := by
  obtain ⟨d, rfl⟩ : ∃ d, t' = t + d := ⟨t' - t, by omega⟩
  exact si_skip hv d (fun c hc => absurd (si_A_e h c) hc)
theorem si_e0_A {C : si_CF} {P : Nat → si_CS} {t : Nat} (hv : cf_V C) (hG : si_G C t P) (h : ∀ c, si_e C P c = 0) : si_A C P := by
  intro c hc
  have o := hG.1 c hc
  by_cases z : cs_q (P c) = 5
  · exact z
  · exfalso
    by_cases z4 : cs_q (P c) = 4
    · have := h c
      unfold si_e at this
      rw [si_ev_4 hc z4] at this
      omega
    · have hq : cs_q (P c) < 4 := by have := o.1; omega
      have nos : ∀ d s, si_sv C s d (P d) = false := fun d s => bo_f (fun w => by
        have w := si_sv_i.mp w
        have e := h d
        unfold si_e at e
        rw [si_ev_s w.1 w.2.1 w.2.2.1] at e
        have := (hv.2.2.2 d _ w.1 ((hG.1 d w.1).2.1 w.2.1)).2.1
        omega)
      have ht := (hv.2.2.2 c _ hc (o.2.1 hq)).1
      have hb : cs_b (P c) = false := bo_f (fun w => by
        have := nos c (cf_t C (4 * c + cs_q (P c)))
        rw [si_sv_i.mpr ⟨hc, hq, w, rfl⟩] at this
        exact nomatch this)
      have hw : si_wt C (cf_t C (4 * c + cs_q (P c))) c (P c) = true := si_wt_i.mpr ⟨hc, hq, hb, rfl⟩
      rcases hG.2.2 _ ht with w | w
      · rw [w c hc] at hw; exact nomatch hw
      · have e : si_nc C P (cf_t C (4 * c + cs_q (P c))) (cf_n C) = sm_N (fun _ => 0) (cf_n C) := sm_N_eq (fun i _ => by rw [nos i, if_neg (by decide)])
        rw [e, sm_N_cst] at w
        have := (hv.2.1 _ ht).1
        omega
end
section
/-! the work that is done: all are gone in time -/
def si_w (C : si_CF) (t c : Nat) (r : si_CS) : Nat :=
  if cs_q r = 5 then sm_N (fun k => cf_d C (4 * c + k)) (cf_v C c)
  else if cs_q r < 4 then sm_N (fun k => cf_d C (4 * c + k)) (cs_q r) + (if cs_b r = true then t - cs_B r (cs_q r) else 0) else 0
def si_W (C : si_CF) (t : Nat) (P : Nat → si_CS) : Nat := sm_N (fun c => si_w C t c (P c)) (cf_n C)
theorem si_w5 {C : si_CF} {t c : Nat} {r : si_CS} (h : cs_q r = 5) : si_w C t c r = sm_N (fun k => cf_d C (4 * c + k)) (cf_v C c) := if_pos h
theorem si_ws {C : si_CF} {t c : Nat} {r : si_CS} (h : cs_q r < 4) (hb : cs_b r = true) : si_w C t c r = sm_N (fun k => cf_d C (4 * c + k)) (cs_q r) + (t - cs_B r (cs_q r)) := by
  unfold si_w
  rw [if_neg (by omega), if_pos h, if_pos hb]
theorem si_ww {C : si_CF} {t c : Nat} {r : si_CS} (h : cs_q r < 4) (hb : cs_b r = false) : si_w C t c r = sm_N (fun k => cf_d C (4 * c + k)) (cs_q r) := by
  unfold si_w
  rw [if_neg (by omega), if_pos h, if_neg (by rw [hb]; decide), Nat.add_zero]
theorem si_w4 {C : si_CF} {t c : Nat} {r : si_CS} (h : cs_q r = 4) : si_w C t c r = 0 := by
  unfold si_w
  rw [if_neg (by omega), if_neg (by omega)]
theorem si_w_en {C : si_CF} {T c : Nat} {r : si_CS} (hv : cf_V C) (h : si_ok C (T + 1) T c r) (hd : si_ev C c r ≠ 0 ∧ si_ev C c r / 32 = T) : si_w C T c (si_en C T c r) = si_w C T c r := by
  have hn := hv.1
  obtain ⟨hc, hr⟩ := si_ev_c hd.1
  have hv4 := (hv.2.2.1 c hc).2
  rcases hr with ⟨hq, e⟩ | ⟨hq, hb, e⟩
  · have e0 : cs_nx r = 0 := if_pos hq
    rw [si_w4 hq]
    by_cases z : cs_nx r = cf_v C c
    · rw [si_en_5 z, si_w5 rfl, ← z, e0]; rfl
    · rw [si_en_k z, si_ww (r := (cs_nx r, false, si_fu (cs_J r) (cs_nx r) T, cs_B r, cs_G r)) (show cs_nx r < 4 by omega) rfl]
      show sm_N _ (cs_nx r) = 0
      rw [e0]; rfl
  · have e0 : cs_nx r = cs_q r + 1 := if_neg (by omega)
    have hT : cs_B r (cs_q r) + cf_d C (4 * c + cs_q r) = T := by omega
    have hlt := h.2.1 hq
    rw [si_ws hq hb]
    have hs : sm_N (fun k => cf_d C (4 * c + k)) (cs_q r + 1) = sm_N (fun k => cf_d C (4 * c + k)) (cs_q r) + (T - cs_B r (cs_q r)) := by
      show _ + cf_d C (4 * c + cs_q r) = _
      omega
    by_cases z : cs_nx r = cf_v C c
    · rw [si_en_5 z, si_w5 rfl, ← z, e0]; exact hs
    · rw [si_en_k z, si_ww (r := (cs_nx r, false, si_fu (cs_J r) (cs_nx r) T, cs_B r, cs_G r)) (show cs_nx r < 4 by omega) rfl]
      show sm_N _ (cs_nx r) = _
      rw [e0]; exact hs
theorem si_w_bg {C : si_CF} {T c : Nat} {r : si_CS} (hq : cs_q r < 4) (hb : cs_b r = false) : si_w C T c (si_bg T r) = si_w C T c r := by
  rw [si_ww hq hb, si_ws (r := si_bg T r) hq rfl]
  show sm_N _ (cs_q r) + (T - si_fu (cs_B r) (cs_q r) T (cs_q r)) = _
  rw [si_fs]; omega
def si_ib (r : si_CS) : Nat := if cs_q r < 4 ∧ cs_b r = true then 1 else 0
theorem si_w_t {C : si_CF} {t c : Nat} {r : si_CS} (h : si_ok C (t + 1) (t + 1) c r) : si_w C (t + 1) c r = si_w C t c r + si_ib r := by
  unfold si_ib
  by_cases h5 : cs_q r = 5
  · rw [si_w5 h5, si_w5 h5, if_neg (by omega)]; rfl
  · by_cases h4 : cs_q r = 4
    · rw [si_w4 h4, si_w4 h4, if_neg (by omega)]
    · have hq : cs_q r < 4 := by have := h.1; omega
      by_cases hb : cs_b r = true
      · have := (h.2.2.2.1 _ (h.2.1 hq) (Or.inr ⟨hq, Or.inr ⟨rfl, hb⟩⟩)).2
        rw [si_ws hq hb, si_ws hq hb, if_pos ⟨hq, hb⟩]; omega
      · rw [si_ww hq (bo_f hb), si_ww hq (bo_f hb), if_neg (fun z => hb z.2)]; rfl
theorem si_w_le {C : si_CF} {t c : Nat} {r : si_CS} (hv : cf_V C) (hc : c < cf_n C) (h : si_ok C t t c r) : si_w C t c r ≤ 120 := by
  have hv4 := (hv.2.2.1 c hc).2
  have key : ∀ m, m ≤ cf_v C c → sm_N (fun k => cf_d C (4 * c + k)) m ≤ 30 * m := by
    intro m hm
    have := sm_N_le (f := fun k => cf_d C (4 * c + k)) (g := fun _ => 30) (n := m) (fun i hi => (hv.2.2.2 c i hc (by omega)).2.2)
    rw [sm_N_cst] at this
    exact this
  by_cases h5 : cs_q r = 5
  · rw [si_w5 h5]
    have := key _ (Nat.le_refl _)
    omega
  · by_cases h4 : cs_q r = 4
    · rw [si_w4 h4]; omega
    · have hq : cs_q r < 4 := by have := h.1; omega
      have hlt := h.2.1 hq
      have k1 := key (cs_q r) (by omega)
      by_cases hb : cs_b r = true
      · have a := h.2.2.2.2.2.2.1 hq hb
        have d := (hv.2.2.2 c _ hc hlt).2.2
        rw [si_ws hq hb]; omega
      · rw [si_ww hq (bo_f hb)]; omega
theorem si_W_bg {C : si_CF} {P : Nat → si_CS} {s c T : Nat} (hw : si_wt C s c (P c) = true) : si_W C T (si_fu P c (si_bg T (P c))) = si_W C T P := by
  refine sm_N_eq (fun i _ => ?_)
  by_cases z : i = c
  · have w := si_wt_i.mp hw
    rw [z, si_fs]; exact si_w_bg w.2.1 w.2.2.1
  · rw [si_fn z]
theorem si_W_st {C : si_CF} (hv : cf_V C) (t : Nat) : si_W C (t + 1) (si_S C (t + 1)) = si_W C t (si_S C t) + sm_N (fun c => si_ib (si_S C (t + 1) c)) (cf_n C) := by
  have h1 : si_W C t (si_S C (t + 1)) = si_W C t (si_ea C t (si_S C t)) :=
    si_ss_ind (F := fun P => si_W C t P = si_W C t (si_ea C t (si_S C t))) (fun s P c _ hF hw _ => (si_W_bg hw).trans hF) 4 _ (Nat.le_refl _) rfl
  have h2 : si_W C t (si_ea C t (si_S C t)) = si_W C t (si_S C t) := by
    refine sm_N_eq (fun c hc => ?_)
    unfold si_ea
    by_cases z : si_e C (si_S C t) c ≠ 0 ∧ si_e C (si_S C t) c / 32 = t
    · rw [if_pos z]; exact si_w_en hv (si_ok_up (Nat.le_succ t) (Nat.le_refl _) ((si_Gt hv t).1 c hc)) z
    · rw [if_neg z]
  have h3 : si_W C (t + 1) (si_S C (t + 1)) = si_W C t (si_S C (t + 1)) + sm_N (fun c => si_ib (si_S C (t + 1) c)) (cf_n C) := by
    unfold si_W
    rw [← sm_N_add]
    exact sm_N_eq (fun c hc => si_w_t ((si_Gt hv (t + 1)).1 c hc))
  omega
theorem si_busy {C : si_CF} (hv : cf_V C) {t : Nat} (ht : 100 < t) (h : ¬ si_A C (si_S C t)) : 0 < sm_N (fun c => si_ib (si_S C t c)) (cf_n C) := by
  have hG := si_Gt hv t
  have hz : ¬ ∀ c, si_e C (si_S C t) c = 0 := fun z => h (si_e0_A hv hG z)
  have : ∃ c, si_e C (si_S C t) c ≠ 0 := Classical.byContradiction (fun z => hz (fun c => Classical.byContradiction (fun w => z ⟨c, w⟩)))
  obtain ⟨c, hc⟩ := this
  obtain ⟨hcn, hr⟩ := si_ev_c hc
  refine sm_N_pos (i := c) hcn ?_
  rcases hr with ⟨hq, e⟩ | ⟨hq, hb, e⟩
  · have a := (hG.1 c hcn).2.2.2.2.2.2.2 hq
    have b := (hv.2.2.1 c hcn).1
    omega
  · unfold si_ib
    rw [if_pos ⟨hq, hb⟩]; omega
theorem si_Wlo {C : si_CF} (hv : cf_V C) : ∀ j, ¬ si_A C (si_S C (100 + j)) → j ≤ si_W C (100 + j) (si_S C (100 + j))
  | 0, _ => Nat.zero_le _
  | j + 1, h => by
    have h' : ¬ si_A C (si_S C (100 + j)) := fun z => h (by rw [si_A_up hv z (show 100 + j ≤ 100 + (j + 1) by omega)]; exact z)
    have a := si_Wlo hv j h'
    have b := si_W_st hv (100 + j)
    have c := si_busy hv (show 100 < 100 + j + 1 by omega) h
    show j + 1 ≤ si_W C (100 + j + 1) (si_S C (100 + j + 1))
    omega
theorem si_gone {C : si_CF} (hv : cf_V C) {t : Nat} (ht : 1541 ≤ t) : si_A C (si_S C t) := by
  have h : si_A C (si_S C 1541) := Classical.byContradiction (fun z => by
    have a := si_Wlo hv 1441 z
    have b : si_W C 1541 (si_S C 1541) ≤ 120 * cf_n C := by
      have := sm_N_le (f := fun c => si_w C 1541 c (si_S C 1541 c)) (g := fun _ => 120) (n := cf_n C) (fun c hc => si_w_le hv hc ((si_Gt hv 1541).1 c hc))
      rw [sm_N_cst] at this
      exact this
    have c := hv.1
    have e : si_W C (100 + 1441) (si_S C (100 + 1441)) = si_W C 1541 (si_S C 1541) := rfl
    omega)
  rw [si_A_up hv h ht]; exact h
/-- how it ends -/
def si_F (C : si_CF) : Nat → si_CS := si_S C 2000
theorem si_F_A {C : si_CF} (hv : cf_V C) : si_A C (si_F C) := si_gone hv (by omega)
theorem si_F_eq {C : si_CF} (hv : cf_V C) {t : Nat} (h : si_A C (si_S C t)) : si_S C t = si_F C := by
  rcases Nat.le_total t 2000 with z | z
  · exact (si_A_up hv h z).symm
  · exact si_A_up hv (si_F_A hv) z
/-- an event that waits comes soon -/
theorem si_ev_lt {C : si_CF} (hv : cf_V C) {t c : Nat} (h : si_e C (si_S C t) c ≠ 0) (hm : ∀ d, si_e C (si_S C t) d ≠ 0 → si_e C (si_S C t) c / 32 ≤ si_e C (si_S C t) d / 32) : si_e C (si_S C t) c / 32 < 1541 ∧ t ≤ si_e C (si_S C t) c / 32 ∧ si_S C (si_e C (si_S C t) c / 32) = si_S C t := by
  have hn := hv.1
  obtain ⟨hcn, hr⟩ := si_ev_c h
  have ht : t ≤ si_e C (si_S C t) c / 32 := by
    have o := (si_Gt hv t).1 c hcn
    unfold si_e
    rcases hr with ⟨hq, e⟩ | ⟨hq, hb, e⟩
    · have := o.2.2.2.2.2.2.2 hq
      omega
    · have := o.2.2.2.2.2.2.1 hq hb
      omega
  have e : si_S C (si_e C (si_S C t) c / 32) = si_S C t := by
    have := si_skip hv (t := t) (si_e C (si_S C t) c / 32 - t) (fun d hd => by have := hm d hd; omega)
    rw [show t + (si_e C (si_S C t) c / 32 - t) = si_e C (si_S C t) c / 32 from by omega] at this
    exact this
  refine ⟨?_, ht, e⟩
  rcases Nat.lt_or_ge (si_e C (si_S C t) c / 32) 1541 with z | z
  · exact z
  · have a := si_gone hv z
    rw [e] at a
    exact absurd (si_A_e a c) h
end
section
/-! the reference: what it keeps while it plays -/
theorem yx_4 (c q : Nat) : (4 : Int32) * nI c + nI q = nI (4 * c + q) := by
  rw [← nI_add, ← pk_mul]; rfl
theorem yx_5 (c q : Nat) : nI c * 4 + nI q = nI (4 * c + q) := by
  rw [← yx_4, Int32.mul_comm]
theorem ai_at (f : Nat → Nat) (i : Nat) : ai_N f i = nI (f i) := rfl
def yr_R (C : si_CF) (P : Nat → si_CS) (jo be go no : Nat → Int32) : Prop :=
  (∀ c, c < cf_n C → no c = nI (cs_q (P c))) ∧ (∀ c k, c < cf_n C → k < cf_v C c → cs_en (P c) k → jo (4 * c + k) = nI (cs_J (P c) k)) ∧
  (∀ c k, c < cf_n C → k < cf_v C c → cs_bn (P c) k → be (4 * c + k) = nI (cs_B (P c) k)) ∧ (∀ c, c < cf_n C → cs_q (P c) < 4 → cs_b (P c) = false → be (4 * c + cs_q (P c)) = -1) ∧
  (∀ c, c < cf_n C → cs_q (P c) = 5 → go c = nI (cs_G (P c)))
theorem yr_en5 {C : si_CF} {P : Nat → si_CS} {T c : Nat} {jo be go no : Nat → Int32} (hR : yr_R C P jo be go no) (hc : c < cf_n C) (hq : cs_q (P c) = 4 ∨ (cs_q (P c) < 4 ∧ cs_b (P c) = true)) (hn : cs_nx (P c) = cf_v C c) :
    yr_R C (si_fu P c (si_en C T c (P c))) jo be (upd go c (nI T)) (upd no c 5) := by
  obtain ⟨r1, r2, r3, r4, r5⟩ := hR
  rw [si_en_5 hn]
  have hk : ∀ k, k < cf_v C c → cs_q (P c) < 4 ∧ k ≤ cs_q (P c) ∧ cs_b (P c) = true := by
    intro k hk
    unfold cs_nx at hn
    rcases hq with q | ⟨q, b⟩
    · rw [if_pos q] at hn; omega
    · rw [if_neg (by omega)] at hn; exact ⟨q, by omega, b⟩
  refine ⟨fun d hd => ?_, fun d k hd hk' he => ?_, fun d k hd hk' he => ?_, fun d hd h4 hb => ?_, fun d hd h5 => ?_⟩
  · by_cases z : d = c
    · rw [z, si_fs, pk_us]; rfl
    · rw [si_fn z, pk_un z]; exact r1 d hd
  · by_cases z : d = c
    · rw [z] at hk' ⊢
      rw [si_fs]
      have a := hk k hk'
      exact r2 c k hc hk' (Or.inr ⟨a.1, a.2.1⟩)
    · rw [si_fn z] at he ⊢; exact r2 d k hd hk' he
  · by_cases z : d = c
    · rw [z] at hk' ⊢
      rw [si_fs]
      have a := hk k hk'
      refine r3 c k hc hk' (Or.inr ⟨a.1, ?_⟩)
      by_cases y : k = cs_q (P c)
      · exact Or.inr ⟨y, a.2.2⟩
      · exact Or.inl (by omega)
    · rw [si_fn z] at he ⊢; exact r3 d k hd hk' he
  · by_cases z : d = c
    · rw [z, si_fs] at h4; exact absurd h4 (show ¬ 5 < 4 by decide)
    · rw [si_fn z] at h4 hb ⊢; exact r4 d hd h4 hb
  · by_cases z : d = c
    · rw [z, si_fs, pk_us]; rfl
    · rw [si_fn z] at h5 ⊢; rw [pk_un z]; exact r5 d hd h5
theorem yr_enk {C : si_CF} {P : Nat → si_CS} {T c : Nat} {jo be go no : Nat → Int32} (hv : cf_V C) (hR : yr_R C P jo be go no) (hc : c < cf_n C) (hq : cs_q (P c) = 4 ∨ (cs_q (P c) < 4 ∧ cs_b (P c) = true)) (hn : cs_nx (P c) < cf_v C c) :
    yr_R C (si_fu P c (si_en C T c (P c))) (upd jo (4 * c + cs_nx (P c)) (nI T)) (upd be (4 * c + cs_nx (P c)) (-1)) go (upd no c (nI (cs_nx (P c)))) := by
  obtain ⟨r1, r2, r3, r4, r5⟩ := hR
  have hv4 := (hv.2.2.1 c hc).2
  rw [si_en_k (by omega)]
  have hk : ∀ k, k < cs_nx (P c) → cs_q (P c) < 4 ∧ k ≤ cs_q (P c) ∧ cs_b (P c) = true := by
    intro k hk
    unfold cs_nx at hk
    rcases hq with q | ⟨q, b⟩
    · rw [if_pos q] at hk; omega
    · rw [if_neg (by omega)] at hk; exact ⟨q, by omega, b⟩
  have q5 : ¬ cs_nx (P c) = 5 := by omega
  refine ⟨fun d hd => ?_, fun d k hd hk' he => ?_, fun d k hd hk' he => ?_, fun d hd h4 hb => ?_, fun d hd h5 => ?_⟩
  · by_cases z : d = c
    · rw [z, si_fs, pk_us]; rfl
    · rw [si_fn z, pk_un z]; exact r1 d hd
  · by_cases z : d = c
    · rw [z] at hk' ⊢
      rw [z, si_fs] at he
      rw [si_fs]
      show _ = nI (si_fu (cs_J (P c)) (cs_nx (P c)) T k)
      by_cases y : k = cs_nx (P c)
      · rw [y, pk_us, si_fs]
      · rw [pk_un (by omega), si_fn y]
        have he' : cs_nx (P c) = 5 ∨ (cs_nx (P c) < 4 ∧ k ≤ cs_nx (P c)) := he
        have a := hk k (by omega)
        exact r2 c k hc hk' (Or.inr ⟨a.1, a.2.1⟩)
    · rw [si_fn z] at he ⊢
      have := (hv.2.2.1 d hd).2
      rw [pk_un (by omega)]
      exact r2 d k hd hk' he
  · by_cases z : d = c
    · rw [z] at hk' ⊢
      rw [z, si_fs] at he
      rw [si_fs]
      have he' : cs_nx (P c) = 5 ∨ (cs_nx (P c) < 4 ∧ (k < cs_nx (P c) ∨ (k = cs_nx (P c) ∧ false = true))) := he
      have hk2 : k < cs_nx (P c) := by
        rcases he' with w | ⟨_, w | ⟨_, w⟩⟩
        · exact absurd w q5
        · exact w
        · exact nomatch w
      have a := hk k hk2
      rw [pk_un (by omega)]
      refine r3 c k hc hk' (Or.inr ⟨a.1, ?_⟩)
      by_cases y : k = cs_q (P c)
      · exact Or.inr ⟨y, a.2.2⟩
      · exact Or.inl (by omega)
    · rw [si_fn z] at he ⊢
      have := (hv.2.2.1 d hd).2
      rw [pk_un (by omega)]
      exact r3 d k hd hk' he
  · by_cases z : d = c
    · rw [z, si_fs]
      exact pk_us
    · rw [si_fn z] at h4 hb ⊢
      rw [pk_un (by omega)]
      exact r4 d hd h4 hb
  · by_cases z : d = c
    · rw [z, si_fs] at h5; exact absurd h5 q5
    · rw [si_fn z] at h5 ⊢; exact r5 d hd h5
theorem yr_bg {C : si_CF} {P : Nat → si_CS} {T c : Nat} {jo be go no : Nat → Int32} (hv : cf_V C) (hO : ∀ d, d < cf_n C → cs_q (P d) < 4 → cs_q (P d) < cf_v C d) (hR : yr_R C P jo be go no) (hc : c < cf_n C) (hq : cs_q (P c) < 4) :
    yr_R C (si_fu P c (si_bg T (P c))) jo (upd be (4 * c + cs_q (P c)) (nI T)) go no := by
  obtain ⟨r1, r2, r3, r4, r5⟩ := hR
  refine ⟨fun d hd => ?_, fun d k hd hk' he => ?_, fun d k hd hk' he => ?_, fun d hd h4 hb => ?_, fun d hd h5 => ?_⟩
  · by_cases z : d = c
    · rw [z, si_fs]; exact r1 c hc
    · rw [si_fn z]; exact r1 d hd
  · by_cases z : d = c
    · rw [z] at hk' ⊢
      rw [z, si_fs] at he
      rw [si_fs]; exact r2 c k hc hk' he
    · rw [si_fn z] at he ⊢; exact r2 d k hd hk' he
  · by_cases z : d = c
    · rw [z] at hk' ⊢
      rw [z, si_fs] at he
      rw [si_fs]
      show _ = nI (si_fu (cs_B (P c)) (cs_q (P c)) T k)
      by_cases y : k = cs_q (P c)
      · rw [y, pk_us, si_fs]
      · rw [pk_un (by omega), si_fn y]
        have he' : cs_q (P c) = 5 ∨ (cs_q (P c) < 4 ∧ (k < cs_q (P c) ∨ (k = cs_q (P c) ∧ true = true))) := he
        exact r3 c k hc hk' (by
          rcases he' with w | ⟨w1, w | ⟨w, _⟩⟩
          · exact Or.inl w
          · exact Or.inr ⟨w1, Or.inl w⟩
          · exact absurd w y)
    · rw [si_fn z] at he ⊢
      have := (hv.2.2.1 d hd).2
      rw [pk_un (by omega)]
      exact r3 d k hd hk' he
  · by_cases z : d = c
    · rw [z, si_fs] at hb; exact absurd hb (show ¬ true = false by decide)
    · rw [si_fn z] at h4 hb ⊢
      have := (hv.2.2.1 d hd).2
      rw [pk_un (by omega)]
      exact r4 d hd h4 hb
  · by_cases z : d = c
    · rw [z, si_fs] at h5; exact absurd h5 (show ¬ cs_q (P c) = 5 by omega)
    · rw [si_fn z] at h5 ⊢; exact r5 d hd h5
section
variable {C : si_CF} {P : Nat → si_CS} {jo be go no : Nat → Int32}
theorem yw_enter {post : SY → Prop} {T c : Nat} (hv : cf_V C) (hR : yr_R C P jo be go no) (hc : c < cf_n C) (hq : cs_q (P c) = 4 ∨ (cs_q (P c) < 4 ∧ cs_b (P c) = true)) (hn : cs_nx (P c) ≤ cf_v C c)
  (K : ∀ jo be go no : Nat → Int32, yr_R C (si_fu P c (si_en C T c (P c))) jo be go no → post (nI (cf_n C), ai_N (cf_s C), ai_N (cf_r C), ai_N (cf_a C), ai_N (cf_v C), ai_N (cf_t C), ai_N (cf_d C), jo, be, go, no)) : wpY_enter post (nI (cf_n C), ai_N (cf_s C), ai_N (cf_r C), ai_N (cf_a C), ai_N (cf_v C), ai_N (cf_t C), ai_N (cf_d C), jo, be, go, no) (nI c) (nI (cs_nx (P c))) (nI T) := by
  have h12 := hv.1
  have hv4 := (hv.2.2.1 c hc).2
  refine ⟨pk_in c 12 (by omega), ?_⟩
  rw [nI_clamp (by omega : c < 2 ^ 31), ai_at]
  refine pk_eq (cs_nx (P c)) (cf_v C c) (fun h => ?_) (fun h => ?_)
  · refine ⟨pk_in c 12 (by omega), ?_⟩
    intro y ey
    subst ey
    refine ⟨pk_in c 12 (by omega), ?_⟩
    intro y ey
    subst ey
    exact K _ _ _ _ (yr_en5 hR hc hq h)
  · refine ⟨pk_in c 12 (by omega), ?_⟩
    intro y ey
    subst ey
    rw [yx_4, nI_clamp (by omega : 4 * c + cs_nx (P c) < 2 ^ 31)]
    refine ⟨pk_in (4 * c + cs_nx (P c)) 48 (by omega), ?_⟩
    intro y ey
    subst ey
    refine ⟨pk_in (4 * c + cs_nx (P c)) 48 (by omega), ?_⟩
    intro y ey
    subst ey
    exact K _ _ _ _ (yr_enk hv hR hc hq (by omega))
theorem yw_isAt {post : Int32 → Prop} {c s : Nat} (hv : cf_V C) (hR : yr_R C P jo be go no) (hc : c < cf_n C) (hs : s < 4) (h5 : cs_q (P c) ≤ 5) (hO : cs_q (P c) < 4 → cs_q (P c) < cf_v C c)
  (K1 : cs_q (P c) < 4 → cf_t C (4 * c + cs_q (P c)) = s → post 1) (K0 : ¬ (cs_q (P c) < 4 ∧ cf_t C (4 * c + cs_q (P c)) = s) → post 0) : wpY_isAt post (nI (cf_n C), ai_N (cf_s C), ai_N (cf_r C), ai_N (cf_a C), ai_N (cf_v C), ai_N (cf_t C), ai_N (cf_d C), jo, be, go, no) (nI c) (nI s) := by
  have h12 := hv.1
  have hv4 := (hv.2.2.1 c hc).2
  refine ⟨pk_in c 12 (by omega), ?_⟩
  rw [nI_clamp (by omega : c < 2 ^ 31), hR.1 c hc]
  refine pk_le 4 (cs_q (P c)) (fun h => K0 (fun z => by omega)) (fun h => ?_)
  rw [yx_4, nI_clamp (by omega : 4 * c + cs_q (P c) < 2 ^ 31), ai_at]
  have ht := (hv.2.2.2 c _ hc (hO h)).1
  exact ⟨pk_in c 12 (by omega), pk_in (4 * c + cs_q (P c)) 48 (by omega), pk_eq (cf_t C (4 * c + cs_q (P c))) s (fun e => K1 h e) (fun e => K0 (fun z => e z.2))⟩
theorem yw_isW {post : Int32 → Prop} {c s : Nat} (hv : cf_V C) (hR : yr_R C P jo be go no) (hc : c < cf_n C) (hs : s < 4) (h5 : cs_q (P c) ≤ 5) (hO : cs_q (P c) < 4 → cs_q (P c) < cf_v C c) (hB : cs_q (P c) < 4 → cs_b (P c) = true → cs_B (P c) (cs_q (P c)) < 65536)
  (K1 : si_wt C s c (P c) = true → post 1) (K0 : si_wt C s c (P c) = false → post 0) : wpY_isWaiting post (nI (cf_n C), ai_N (cf_s C), ai_N (cf_r C), ai_N (cf_a C), ai_N (cf_v C), ai_N (cf_t C), ai_N (cf_d C), jo, be, go, no) (nI c) (nI s) := by
  have h12 := hv.1
  have hv4 := (hv.2.2.1 c hc).2
  unfold wpY_isWaiting
  (try dsimp only)
  refine yw_isAt hv hR hc hs h5 hO (fun hq ht => ?_) (fun hn => ?_)
  · refine br_f (by decide) ⟨pk_in c 12 (by omega), ?_⟩
    rw [nI_clamp (by omega : c < 2 ^ 31), hR.1 c hc, yx_4, nI_clamp (by omega : 4 * c + cs_q (P c) < 2 ^ 31)]
    refine ⟨pk_in (4 * c + cs_q (P c)) 48 (by omega), ?_⟩
    by_cases hb : cs_b (P c) = true
    · rw [hR.2.2.1 c _ hc (hO hq) (Or.inr ⟨hq, Or.inr ⟨rfl, hb⟩⟩)]
      have := hB hq hb
      refine br_t (nI_pos' (by omega)) (K0 (bo_f (fun z => ?_)))
      have := (si_wt_i.mp z).2.2.1
      rw [hb] at this
      exact nomatch this
    · rw [hR.2.2.2.1 c hc hq (bo_f hb)]
      exact br_f (by decide) (K1 (si_wt_i.mpr ⟨hc, hq, bo_f hb, ht⟩))
  · refine br_t rfl (K0 (bo_f (fun z => hn ?_)))
    have := si_wt_i.mp z
    exact ⟨this.2.1, this.2.2.2⟩
theorem yw_better {post : Int32 → Prop} {c d s : Nat} (hv : cf_V C) (hR : yr_R C P jo be go no) (hs : s < 4) (hc : si_wt C s c (P c) = true) (hd : si_wt C s d (P d) = true)
  (hO : ∀ d, d < cf_n C → cs_q (P d) < 4 → cs_q (P d) < cf_v C d ∧ cs_J (P d) (cs_q (P d)) < 65536)
  (K1 : si_bf C P s c d = true → post 1) (K0 : si_bf C P s c d = false → post 0) : wpY_better post (nI (cf_n C), ai_N (cf_s C), ai_N (cf_r C), ai_N (cf_a C), ai_N (cf_v C), ai_N (cf_t C), ai_N (cf_d C), jo, be, go, no) (nI d) (nI c) (ai_N (cf_r C) s) := by
  have h12 := hv.1
  have wc := si_wt_i.mp hc
  have wd := si_wt_i.mp hd
  have oc := hO c wc.1 wc.2.1
  have od := hO d wd.1 wd.2.1
  have dc := hv.2.2.2 c _ wc.1 oc.1
  have dd := hv.2.2.2 d _ wd.1 od.1
  have hr := (hv.2.1 s hs).2.2
  have jc := hR.2.1 c _ wc.1 oc.1 (Or.inr ⟨wc.2.1, Nat.le_refl _⟩)
  have jd := hR.2.1 d _ wd.1 od.1 (Or.inr ⟨wd.2.1, Nat.le_refl _⟩)
  refine ⟨pk_in d 12 (by omega), ?_⟩
  rw [nI_clamp (by omega : d < 2 ^ 31), hR.1 d wd.1, yx_4]
  intro x4 e4
  subst e4
  refine ⟨pk_in c 12 (by omega), ?_⟩
  rw [nI_clamp (by omega : c < 2 ^ 31), hR.1 c wc.1, yx_4]
  intro x5 e5
  subst e5
  have join : ¬ (cf_r C s = 2 ∧ cf_d C (4 * c + cs_q (P c)) ≠ cf_d C (4 * d + cs_q (P d))) → wY_better_69 post (ai_N (cf_r C) s) (nI (4 * d + cs_q (P d))) (nI (4 * c + cs_q (P c))) (nI (cf_n C)) (ai_N (cf_s C)) (ai_N (cf_r C)) (ai_N (cf_a C)) (ai_N (cf_v C)) (ai_N (cf_t C)) (ai_N (cf_d C)) jo be go no := by
    intro hno
    unfold wY_better_69
    rw [nI_clamp (by omega : 4 * c + cs_q (P c) < 2 ^ 31), nI_clamp (by omega : 4 * d + cs_q (P d) < 2 ^ 31), jc, jd]
    refine pk_eq (cf_r C s) 1 (fun h => ⟨pk_in (4 * c + cs_q (P c)) 48 (by omega), pk_in (4 * d + cs_q (P d)) 48 (by omega), pk_lt (cs_J (P c) (cs_q (P c))) (cs_J (P d) (cs_q (P d))) (fun w => K0 ?_) (fun w => K1 ?_)⟩)
      (fun h => ⟨pk_in (4 * c + cs_q (P c)) 48 (by omega), pk_in (4 * d + cs_q (P d)) 48 (by omega), pk_le (cs_J (P d) (cs_q (P d))) (cs_J (P c) (cs_q (P c))) (fun w => K0 ?_) (fun w => K1 ?_)⟩)
    · unfold si_bf; rw [if_pos h]; exact decide_eq_false (by omega)
    · unfold si_bf; rw [if_pos h]; exact decide_eq_true (by omega)
    · unfold si_bf; rw [if_neg h, if_neg hno]; exact decide_eq_false (by omega)
    · unfold si_bf; rw [if_neg h, if_neg hno]; exact decide_eq_true (by omega)
  refine pk_eq (cf_r C s) 2 (fun h => ?_) (fun h => join (fun z => h z.1))
  refine ⟨pk_in (4 * d + cs_q (P d)) 48 (by omega), pk_in (4 * c + cs_q (P c)) 48 (by omega), ?_⟩
  rw [nI_clamp (by omega : 4 * c + cs_q (P c) < 2 ^ 31), nI_clamp (by omega : 4 * d + cs_q (P d) < 2 ^ 31), ai_at, ai_at]
  refine pk_eq (cf_d C (4 * d + cs_q (P d))) (cf_d C (4 * c + cs_q (P c))) (fun w => join (fun z => z.2 w.symm)) (fun w => ?_)
  refine ⟨pk_in (4 * c + cs_q (P c)) 48 (by omega), pk_in (4 * d + cs_q (P d)) 48 (by omega), pk_le (cf_d C (4 * d + cs_q (P d))) (cf_d C (4 * c + cs_q (P c))) (fun y => K0 ?_) (fun y => K1 ?_)⟩
  · unfold si_bf
    rw [if_neg (by omega), if_pos ⟨h, fun z => w z.symm⟩]; exact decide_eq_false (by omega)
  · unfold si_bf
    rw [if_neg (by omega), if_pos ⟨h, fun z => w z.symm⟩]; exact decide_eq_true (by omega)
end
end
section
/-! the reference plays -/
def oi_I : Option Nat → Int32
  | none => -1
  | some c => nI c
def si_lf (C : si_CF) (P : Nat → si_CS) : Nat := sm_N (fun c => if cs_q (P c) = 5 then 0 else 1) (cf_n C)
def si_ei (C : si_CF) (T i : Nat) (P : Nat → si_CS) : Nat → si_CS := fun c => if c < i then si_ea C T P c else P c
theorem si_nc_le (C : si_CF) (P : Nat → si_CS) (s : Nat) : ∀ i, si_nc C P s i ≤ i
  | 0 => Nat.le_refl _
  | i + 1 => by
    have := si_nc_le C P s i
    show si_nc C P s i + (if si_sv C s i (P i) = true then 1 else 0) ≤ i + 1
    split <;> omega
section
variable {C : si_CF} {P : Nat → si_CS} {jo be go no : Nat → Int32}
theorem yw_scan {post : SY → Prop} {J2 : Int32 → (Nat → Int32) → (Nat → Int32) → (Nat → Int32) → (Nat → Int32) → (Nat → Int32) → (Nat → Int32) → (Nat → Int32) → (Nat → Int32) → (Nat → Int32) → (Nat → Int32) →  Prop} {s T : Nat} (hv : cf_V C) (hR : yr_R C P jo be go no) (hs : s < 4) (hT : T < 2000) (hO : si_OK C (T + 1) (T + 1) P)
  (Kn : (si_ch C P s (cf_n C) = none ∨ ¬ si_nc C P s (cf_n C) < cf_s C s) → J2 0 (ai_N (cf_s C)) (ai_N (cf_r C)) (ai_N (cf_a C)) (ai_N (cf_v C)) (ai_N (cf_t C)) (ai_N (cf_d C)) jo be go no)
  (Kg : ∀ c, si_ch C P s (cf_n C) = some c → si_nc C P s (cf_n C) < cf_s C s → J2 1 (ai_N (cf_s C)) (ai_N (cf_r C)) (ai_N (cf_a C)) (ai_N (cf_v C)) (ai_N (cf_t C)) (ai_N (cf_d C)) jo (upd be (4 * c + cs_q (P c)) (nI T)) go no) :
  ∀ N i, cf_n C < i + N → i ≤ cf_n C → wY_serve_15 post J2 (nI s) (nI T) (nI (cf_n C)) (ai_N (cf_s C)) (ai_N (cf_r C)) (ai_N (cf_a C)) (ai_N (cf_v C)) (ai_N (cf_t C)) (ai_N (cf_d C)) jo be go no N (nI (si_nc C P s i)) (oi_I (si_ch C P s i)) (nI i) := by
  have h12 := hv.1
  have hsv := hv.2.1 s hs
  intro N
  induction N with
  | zero => intro i h h'; omega
  | succ N ih =>
    intro i hN hi
    have hnc := si_nc_le C P s i
    refine pk_le (cf_n C) i (fun h => ?_) (fun h => ?_)
    · have ei : i = cf_n C := by omega
      rw [ei] at hnc ⊢
      cases hc : si_ch C P s (cf_n C) with
      | none => exact br_t (by decide : (-1 : Int32) < 0) (br_t rfl (Kn (Or.inl hc)))
      | some c =>
        have w := si_ch_s _ _ hc
        have wi := si_wt_i.mp w.2
        have hq := (hO c w.1).2.1 wi.2.1
        have hv4 := (hv.2.2.1 c w.1).2
        have eo : oi_I (some c) = nI c := rfl
        rw [eo]
        refine br_f (nI_pos (by omega : c < 2 ^ 31)) ⟨pk_in s 4 hs, ?_⟩
        rw [nI_clamp (by omega : s < 2 ^ 31), ai_at]
        refine pk_le (cf_s C s) (si_nc C P s (cf_n C)) (fun h2 => br_t rfl (Kn (Or.inr (by omega)))) (fun h2 => br_f (by decide) ?_)
        show vp_in (nI c) 12 ∧ (vp_in (4 * nI c + no (nI c).toNatClampNeg) 48 ∧ _)
        rw [nI_clamp (by omega : c < 2 ^ 31), hR.1 c w.1, yx_4, nI_clamp (by omega : 4 * c + cs_q (P c) < 2 ^ 31)]
        refine ⟨pk_in c 12 (by omega), pk_in (4 * c + cs_q (P c)) 48 (by omega), ?_⟩
        intro y ey
        subst ey
        exact Kg c hc h2
    · have oi := hO i h
      have f1 : cs_q (P i) < 4 → cs_b (P i) = true → cs_B (P i) (cs_q (P i)) < 65536 := fun a b => by
        have := (oi.2.2.2.1 _ (oi.2.1 a) (Or.inr ⟨a, Or.inr ⟨rfl, b⟩⟩)).2
        omega
      have f2 : ∀ d, d < cf_n C → cs_q (P d) < 4 → cs_q (P d) < cf_v C d ∧ cs_J (P d) (cs_q (P d)) < 65536 := fun d hd a => by
        have o := hO d hd
        have := o.2.2.1 _ (o.2.1 a) (Or.inr ⟨a, Nat.le_refl _⟩)
        exact ⟨o.2.1 a, by omega⟩
      have nc1 : si_nc C P s (i + 1) = si_nc C P s i + (if si_sv C s i (P i) = true then 1 else 0) := rfl
      have go0 : ∀ (x4 x5 : Int32), x4 = nI (si_nc C P s (i + 1)) → x5 = oi_I (si_ch C P s (i + 1)) → ∀ y, y = nI i + 1 → wY_serve_15 post J2 (nI s) (nI T) (nI (cf_n C)) (ai_N (cf_s C)) (ai_N (cf_r C)) (ai_N (cf_a C)) (ai_N (cf_v C)) (ai_N (cf_t C)) (ai_N (cf_d C)) jo be go no N x4 x5 y := by
        intro x4 x5 e4 e5 y ey
        rw [nI_1] at ey
        subst e4 e5 ey
        exact ih (i + 1) (by omega) (by omega)
      refine yw_isW hv hR h hs oi.1 oi.2.1 f1 (fun hw => ?_) (fun hw => ?_)
      · have wi := si_wt_i.mp hw
        have e4 : si_nc C P s (i + 1) = si_nc C P s i := by rw [nc1, si_wt_sv hw, if_neg (by decide)]; rfl
        refine yw_isAt hv hR h hs oi.1 oi.2.1 (fun hq ht => ?_) (fun hn => absurd ⟨wi.2.1, wi.2.2.2⟩ hn)
        refine br_f (by decide) (br_f (by decide) (br_f (by decide) ?_))
        cases hc : si_ch C P s i with
        | none =>
          have e5 : si_ch C P s (i + 1) = some i := if_pos ⟨hw, by rw [hc]; rfl⟩
          exact br_t (by decide : (-1 : Int32) < 0) (go0 _ _ (by rw [e4]) (by rw [e5]; rfl))
        | some d =>
          have wd := si_ch_s _ _ hc
          have ob : si_ob (si_ch C P s i) (si_bf C P s i) = si_bf C P s i d := by rw [hc]; rfl
          refine br_f (nI_pos (by omega : d < 2 ^ 31)) ⟨pk_in s 4 hs, ?_⟩
          rw [nI_clamp (by omega : s < 2 ^ 31)]
          refine yw_better hv hR hs hw wd.2 f2 (fun hb => ?_) (fun hb => ?_)
          · have e5 : si_ch C P s (i + 1) = some i := if_pos ⟨hw, by rw [ob]; exact hb⟩
            exact br_f (by decide) (go0 _ _ (by rw [e4]) (by rw [e5]; rfl))
          · have e5 : si_ch C P s (i + 1) = si_ch C P s i := if_neg (fun z => by
              have := z.2
              rw [ob, hb] at this
              exact nomatch this)
            exact br_t rfl (go0 _ _ (by rw [e4]) (by rw [e5, hc]))
      · have e5 : si_ch C P s (i + 1) = si_ch C P s i := if_neg (fun z => by
          have := z.1
          rw [hw] at this
          exact nomatch this)
        refine yw_isAt hv hR h hs oi.1 oi.2.1 (fun hq ht => ?_) (fun hn => ?_)
        · have hb : cs_b (P i) = true := by
            cases hb : cs_b (P i) with
            | true => rfl
            | false =>
              rw [si_wt_i.mpr ⟨h, hq, hb, ht⟩] at hw
              exact nomatch hw
          have e4 : si_nc C P s (i + 1) = si_nc C P s i + 1 := by rw [nc1, si_sv_i.mpr ⟨h, hq, hb, ht⟩, if_pos rfl]
          exact br_f (by decide) (br_t rfl (br_t rfl (go0 _ _ (by rw [e4, nI_1]) (by rw [e5]))))
        · have e4 : si_nc C P s (i + 1) = si_nc C P s i := by
            rw [nc1, if_neg]; · rfl
            intro z
            have := si_sv_i.mp z
            exact hn ⟨this.2.1, this.2.2.2⟩
          exact br_t rfl (br_t rfl (go0 _ _ (by rw [e4]) (by rw [e5])))
theorem yw_sl {post : SY → Prop} {s T : Nat} (hv : cf_V C) (hs : s < 4) (hT : T < 2000) : ∀ (f : Nat) (P : Nat → si_CS) (be : Nat → Int32), si_wc C P s < f → yr_R C P jo be go no → si_OK C (T + 1) (T + 1) P →
    (∀ be : Nat → Int32, yr_R C (si_sl C s T f P) jo be go no → post (nI (cf_n C), ai_N (cf_s C), ai_N (cf_r C), ai_N (cf_a C), ai_N (cf_v C), ai_N (cf_t C), ai_N (cf_d C), jo, be, go, no)) → wY_serve_2 post (nI s) (nI T) (nI (cf_n C)) (f + 1) 1 (ai_N (cf_s C)) (ai_N (cf_r C)) (ai_N (cf_a C)) (ai_N (cf_v C)) (ai_N (cf_t C)) (ai_N (cf_d C)) jo be go no := by
  intro f
  induction f with
  | zero => intro P be h; omega
  | succ f ih =>
    intro P be hw hR hO K
    refine br_f (by decide) ⟨cf_n C + 1, ?_⟩
    refine yw_scan hv hR hs hT hO (fun h => ?_) (fun c hc hn => ?_) (cf_n C + 1) 0 (by omega) (by omega)
    · refine br_t rfl (K be ?_)
      rcases h with h | h
      · rw [si_sl_n h]; exact hR
      · cases hc : si_ch C P s (cf_n C) with
        | none => rw [si_sl_n hc]; exact hR
        | some c => rw [si_sl_f hc h]; exact hR
    · have w := si_ch_s _ _ hc
      have wi := si_wt_i.mp w.2
      have wc := si_bg_wc (T := T) w.2
      refine ih (si_fu P c (si_bg T (P c))) _ (by omega) (yr_bg hv (fun d hd => (hO d hd).2.1) hR w.1 wi.2.1) (si_OK_bg hv (Nat.le_refl _) hO w.2) (fun be' hR' => K be' ?_)
      rw [si_sl_g hc hn]; exact hR'
theorem yw_serve {post : SY → Prop} {s T : Nat} (hv : cf_V C) (hs : s < 4) (hT : T < 2000) (hR : yr_R C P jo be go no) (hO : si_OK C (T + 1) (T + 1) P)
  (K : ∀ be : Nat → Int32, yr_R C (si_sl C s T 13 P) jo be go no → post (nI (cf_n C), ai_N (cf_s C), ai_N (cf_r C), ai_N (cf_a C), ai_N (cf_v C), ai_N (cf_t C), ai_N (cf_d C), jo, be, go, no)) : wpY_serve post (nI (cf_n C), ai_N (cf_s C), ai_N (cf_r C), ai_N (cf_a C), ai_N (cf_v C), ai_N (cf_t C), ai_N (cf_d C), jo, be, go, no) (nI s) (nI T) :=
  ⟨14, yw_sl hv hs hT 13 P be (by have := si_wc_le C P s; have := hv.1; omega) hR hO K⟩
theorem yw_183 {post : SY → Prop} {J30 : Int32 → Int32 → Int32 → (Nat → Int32) → (Nat → Int32) → (Nat → Int32) → (Nat → Int32) → (Nat → Int32) → (Nat → Int32) → (Nat → Int32) → (Nat → Int32) → (Nat → Int32) → (Nat → Int32) →  Prop} {x1 : Int32} {T : Nat} {Q : Nat → si_CS} (hv : cf_V C) (hT : T < 2000) (hO : si_OK C (T + 1) (T + 1) Q)
  (K : ∀ be : Nat → Int32, yr_R C (si_ss C T 4 Q) jo be go no → J30 x1 (nI (T + 1)) (nI (cf_n C)) (ai_N (cf_s C)) (ai_N (cf_r C)) (ai_N (cf_a C)) (ai_N (cf_v C)) (ai_N (cf_t C)) (ai_N (cf_d C)) jo be go no) :
  ∀ (N i : Nat) (be : Nat → Int32), 4 < i + N → i ≤ 4 → yr_R C (si_ss C T i Q) jo be go no → wY_play_183 post J30 x1 (nI T) N (nI i) (nI (cf_n C)) (ai_N (cf_s C)) (ai_N (cf_r C)) (ai_N (cf_a C)) (ai_N (cf_v C)) (ai_N (cf_t C)) (ai_N (cf_d C)) jo be go no := by
  intro N
  induction N with
  | zero => intro i be h h'; omega
  | succ N ih =>
    intro i be hN hi hR
    refine pk_le 4 i (fun h => ?_) (fun h => ?_)
    · have e : i = 4 := by omega
      subst e
      rw [nI_1]
      intro y ey
      subst ey
      exact K be hR
    · have hO' := si_ss_ind (F := fun P => si_OK C (T + 1) (T + 1) P) (fun _ _ _ _ hF hw _ => si_OK_bg hv (Nat.le_refl _) hF hw) i Q hi hO
      refine yw_serve hv h hT hR hO' (fun be' hR' => ?_)
      intro y ey
      rw [nI_1] at ey
      subst ey
      exact ih (i + 1) be' (by omega) (by omega) hR'
theorem si_ei_at (C : si_CF) (T i : Nat) (P : Nat → si_CS) : si_ei C T i P i = P i := if_neg (by omega)
theorem si_ei_0 (C : si_CF) (T : Nat) (P : Nat → si_CS) : si_ei C T 0 P = P := funext fun c => if_neg (by omega)
theorem si_ei_n (C : si_CF) (T : Nat) (P : Nat → si_CS) : si_ei C T (cf_n C) P = si_ea C T P := funext fun c => by
  unfold si_ei
  by_cases h : c < cf_n C
  · rw [if_pos h]
  · rw [if_neg h]
    unfold si_ea
    rw [if_neg]
    intro z
    exact h (si_ev_c z.1).1
theorem si_ei_d {C : si_CF} {T i : Nat} {P : Nat → si_CS} (h : si_e C P i ≠ 0 ∧ si_e C P i / 32 = T) : si_ei C T (i + 1) P = si_fu (si_ei C T i P) i (si_en C T i (P i)) := by
  funext c
  unfold si_ei
  by_cases z : c = i
  · rw [z, if_pos (by omega), si_fs]; exact if_pos h
  · rw [si_fn z]
    by_cases y : c < i
    · rw [if_pos (by omega), if_pos y]
    · rw [if_neg (by omega), if_neg y]
theorem si_ei_s {C : si_CF} {T i : Nat} {P : Nat → si_CS} (h : ¬ (si_e C P i ≠ 0 ∧ si_e C P i / 32 = T)) : si_ei C T (i + 1) P = si_ei C T i P := by
  funext c
  unfold si_ei
  by_cases z : c = i
  · rw [z, if_pos (by omega), if_neg (by omega)]; exact if_neg h
  · by_cases y : c < i
    · rw [if_pos (by omega), if_pos y]
    · rw [if_neg (by omega), if_neg y]
theorem si_lf_le (C : si_CF) (P : Nat → si_CS) : si_lf C P ≤ cf_n C := by
  have h := sm_N_le (f := fun c => if cs_q (P c) = 5 then 0 else 1) (g := fun _ => 1) (n := cf_n C) (fun i _ => by (try dsimp only); split <;> omega)
  rw [sm_N_cst, Nat.one_mul] at h
  exact h
theorem si_lf_fu {C : si_CF} {P : Nat → si_CS} {c : Nat} {r : si_CS} (hc : c < cf_n C) : si_lf C (si_fu P c r) + (if cs_q (P c) = 5 then 0 else 1) = si_lf C P + (if cs_q r = 5 then 0 else 1) := by
  have k := sm_N_one (f := fun d => if cs_q (si_fu P c r d) = 5 then 0 else 1) (g := fun d => if cs_q (P d) = 5 then 0 else 1) (i := c) (n := cf_n C) hc (fun j _ hj => by (try dsimp only); rw [si_fn hj])
  (try dsimp only at k)
  rw [si_fs] at k
  exact k
theorem si_lf_ss {C : si_CF} {P : Nat → si_CS} {T : Nat} : si_lf C (si_ss C T 4 P) = si_lf C P :=
  si_ss_ind (F := fun Q => si_lf C Q = si_lf C P) (fun s Q c _ hF hw _ => by
    have k := si_lf_fu (P := Q) (r := si_bg T (Q c)) (si_wt_i.mp hw).1
    have e : cs_q (si_bg T (Q c)) = cs_q (Q c) := rfl
    rw [e] at k
    omega) 4 P (Nat.le_refl _) rfl
theorem yw_43 {post : SY → Prop} {J30 : Int32 → Int32 → Int32 → (Nat → Int32) → (Nat → Int32) → (Nat → Int32) → (Nat → Int32) → (Nat → Int32) → (Nat → Int32) → (Nat → Int32) → (Nat → Int32) → (Nat → Int32) → (Nat → Int32) →  Prop} {T : Nat} (hv : cf_V C) (hT : T < 2000) (hO : si_OK C T T P)
  (K : ∀ jo be go no : Nat → Int32, yr_R C (si_ss C T 4 (si_ea C T P)) jo be go no → J30 (nI (si_lf C (si_ss C T 4 (si_ea C T P)))) (nI (T + 1)) (nI (cf_n C)) (ai_N (cf_s C)) (ai_N (cf_r C)) (ai_N (cf_a C)) (ai_N (cf_v C)) (ai_N (cf_t C)) (ai_N (cf_d C)) jo be go no) :
  ∀ (N i : Nat) (jo be go no : Nat → Int32), cf_n C < i + N → i ≤ cf_n C → yr_R C (si_ei C T i P) jo be go no → wY_play_43 post J30 (nI T) N (nI (si_lf C (si_ei C T i P))) (nI i) (nI (cf_n C)) (ai_N (cf_s C)) (ai_N (cf_r C)) (ai_N (cf_a C)) (ai_N (cf_v C)) (ai_N (cf_t C)) (ai_N (cf_d C)) jo be go no := by
  have h12 := hv.1
  have hO1 : si_OK C (T + 1) T P := fun c hc => si_ok_up (Nat.le_succ T) (Nat.le_refl _) (hO c hc)
  intro N
  induction N with
  | zero => intro i jo be go no h h'; omega
  | succ N ih =>
    intro i jo be go no hN hi hR
    refine pk_le (cf_n C) i (fun h => ?_) (fun h => ?_)
    · have ei : i = cf_n C := by omega
      rw [ei, si_ei_n] at hR ⊢
      refine ⟨5, ?_⟩
      exact yw_183 hv hT (si_OK_ea hv hO1) (fun be' hR' => by have := K jo be' go no hR'; rw [si_lf_ss] at this; exact this) 5 0 be (by omega) (by omega) hR
    · have o := hO1 i h
      have hat := si_ei_at C T i P
      have hv4 := (hv.2.2.1 i h).2
      have hno : no i = nI (cs_q (P i)) := by rw [hR.1 i h, hat]
      have hq5 := o.1
      have skip : ¬ (si_e C P i ≠ 0 ∧ si_e C P i / 32 = T) → ∀ y, y = nI i + 1 → wY_play_43 post J30 (nI T) N (nI (si_lf C (si_ei C T i P))) y (nI (cf_n C)) (ai_N (cf_s C)) (ai_N (cf_r C)) (ai_N (cf_a C)) (ai_N (cf_v C)) (ai_N (cf_t C)) (ai_N (cf_d C)) jo be go no := by
        intro hd y ey
        rw [nI_1] at ey
        subst ey
        have := ih (i + 1) jo be go no (by omega) (by omega) (by rw [si_ei_s hd]; exact hR)
        rw [si_ei_s hd] at this
        exact this
      have enter : (si_e C P i ≠ 0 ∧ si_e C P i / 32 = T) → (cs_q (P i) = 4 ∨ (cs_q (P i) < 4 ∧ cs_b (P i) = true)) → wY_play_153 post J30 (wY_play_43 post J30 (nI T) N) (nI (si_lf C (si_ei C T i P))) (nI T) (nI i) (nI (cs_nx (P i))) (nI i) (nI (cf_n C)) (ai_N (cf_s C)) (ai_N (cf_r C)) (ai_N (cf_a C)) (ai_N (cf_v C)) (ai_N (cf_t C)) (ai_N (cf_d C)) jo be go no := by
        intro hd hq
        have hnx : cs_nx (P i) ≤ cf_v C i := by
          unfold cs_nx
          rcases hq with q | ⟨q, _⟩
          · rw [if_pos q]; omega
          · rw [if_neg (by omega)]; exact o.2.1 q
        have hx : cs_nx (P i) = cs_nx (si_ei C T i P i) := by rw [hat]
        unfold wY_play_153
        rw [hx]
        refine yw_enter (P := si_ei C T i P) hv hR h (by rw [hat]; exact hq) (by rw [hat]; exact hnx) ?_
        intro jo' be' go' no' hR'
        rw [hat] at hR'
        have hno' := hR'.1 i h
        rw [si_fs] at hno'
        have hlf := si_lf_fu (P := si_ei C T i P) (r := si_en C T i (P i)) h
        rw [hat, if_neg (by rcases hq with q | ⟨q, _⟩ <;> omega), ← si_ei_d hd] at hlf
        have hle := si_lf_le C (si_ei C T (i + 1) P)
        have hok := (si_ok_en hv o hd).1
        have hR'' : yr_R C (si_ei C T (i + 1) P) jo' be' go' no' := by rw [si_ei_d hd]; exact hR'
        refine ⟨pk_in i 12 (by omega), ?_⟩
        rw [nI_clamp (by omega : i < 2 ^ 31), hno', nI_1]
        refine pk_eq (cs_q (si_en C T i (P i))) 5 (fun h5 => ?_) (fun h5 => ?_)
        · rw [if_pos h5] at hlf
          intro y ey
          rw [show si_lf C (si_ei C T i P) = si_lf C (si_ei C T (i + 1) P) + 1 from by omega, nI_pred] at ey
          subst ey
          intro y ey
          subst ey
          exact ih (i + 1) jo' be' go' no' (by omega) (by omega) hR''
        · rw [if_neg h5] at hlf
          intro y ey
          subst ey
          rw [show si_lf C (si_ei C T i P) = si_lf C (si_ei C T (i + 1) P) from by omega]
          exact ih (i + 1) jo' be' go' no' (by omega) (by omega) hR''
      refine ⟨pk_in i 12 (by omega), ?_⟩
      rw [nI_clamp (by omega : i < 2 ^ 31), hno, yx_4]
      intro x4 e4
      subst e4
      rw [nI_clamp (by omega : 4 * i + cs_q (P i) < 2 ^ 31)]
      refine ⟨pk_in i 12 (by omega), ?_⟩
      have idle : (cs_q (P i) < 4 → ¬ (si_e C P i ≠ 0 ∧ si_e C P i / 32 = T)) → wY_play_106 post J30 (wY_play_43 post J30 (nI T) N) (nI (si_lf C (si_ei C T i P))) (nI T) (nI i) (nI (cf_n C)) (ai_N (cf_s C)) (ai_N (cf_r C)) (ai_N (cf_a C)) (ai_N (cf_v C)) (ai_N (cf_t C)) (ai_N (cf_d C)) jo be go no := by
        intro hnd
        refine br_t rfl ⟨pk_in i 12 (by omega), ?_⟩
        rw [nI_clamp (by omega : i < 2 ^ 31), hno, ai_at]
        refine pk_eq (cs_q (P i)) 4 (fun h4 => ⟨pk_in i 12 (by omega), ?_⟩) (fun h4 => skip ?_)
        · have ha := (hv.2.2.1 i h).1
          have e := si_ev_4 (C := C) h h4
          refine pk_eq (cf_a C i) T (fun hT' => br_t rfl ?_) (fun hT' => skip ?_)
          · have hx : cs_nx (P i) = 0 := if_pos h4
            have := enter (by unfold si_e; rw [e]; omega) (Or.inl h4)
            rw [hx] at this
            exact this
          · intro z
            unfold si_e at z
            rw [e] at z
            omega
        · by_cases hq : cs_q (P i) < 4
          · exact hnd hq
          · intro z
            have := (si_ev_c z.1).2
            omega
      refine pk_le 4 (cs_q (P i)) (fun h4 => idle (fun z => by omega)) (fun h4 => ⟨pk_in (4 * i + cs_q (P i)) 48 (by omega), ?_⟩)
      by_cases hb : cs_b (P i) = true
      · have hB := o.2.2.2.1 _ (o.2.1 h4) (Or.inr ⟨h4, Or.inr ⟨rfl, hb⟩⟩)
        have hD := hv.2.2.2 i _ h (o.2.1 h4)
        have e := si_ev_s (C := C) h h4 hb
        have hbe : be (4 * i + cs_q (P i)) = nI (cs_B (P i) (cs_q (P i))) := by
          have := hR.2.2.1 i (cs_q (P i)) h (o.2.1 h4) (by rw [hat]; exact Or.inr ⟨h4, Or.inr ⟨rfl, hb⟩⟩)
          rw [hat] at this
          exact this
        rw [hbe, ai_at, nI_add]
        refine br_f (nI_pos (by omega)) ⟨pk_in (4 * i + cs_q (P i)) 48 (by omega), pk_in (4 * i + cs_q (P i)) 48 (by omega), ?_⟩
        refine pk_eq (cs_B (P i) (cs_q (P i)) + cf_d C (4 * i + cs_q (P i))) T (fun hT' => ?_) (fun hT' => idle (fun _ z => ?_))
        · have := enter (by unfold si_e; rw [e]; omega) (Or.inr ⟨h4, hb⟩)
          have hx : cs_nx (P i) = cs_q (P i) + 1 := if_neg (by omega)
          rw [hx] at this
          refine br_f (by decide) (br_f (by decide) ⟨pk_in i 12 (by omega), ?_⟩)
          rw [nI_clamp (by omega : i < 2 ^ 31), hno, nI_1]
          exact this
        · unfold si_e at z
          rw [e] at z
          omega
      · have hbe : be (4 * i + cs_q (P i)) = -1 := by
          have := hR.2.2.2.1 i h (by rw [hat]; exact h4) (by rw [hat]; exact bo_f hb)
          rw [hat] at this
          exact this
        rw [hbe]
        refine br_t (by decide) (idle (fun _ z => ?_))
        rcases (si_ev_c z.1).2 with w | w
        · omega
        · exact hb w.2.1
theorem yw_30 {post : SY → Prop} (hv : cf_V C) (K : ∀ jo be go no : Nat → Int32, yr_R C (si_F C) jo be go no → post (nI (cf_n C), ai_N (cf_s C), ai_N (cf_r C), ai_N (cf_a C), ai_N (cf_v C), ai_N (cf_t C), ai_N (cf_d C), jo, be, go, no)) :
  ∀ (N t : Nat) (jo be go no : Nat → Int32), 2000 < t + N → t ≤ 2000 → yr_R C (si_S C t) jo be go no → wY_play_30 post N (nI (si_lf C (si_S C t))) (nI t) (nI (cf_n C)) (ai_N (cf_s C)) (ai_N (cf_r C)) (ai_N (cf_a C)) (ai_N (cf_v C)) (ai_N (cf_t C)) (ai_N (cf_d C)) jo be go no := by
  have h12 := hv.1
  intro N
  induction N with
  | zero => intro t jo be go no h h'; omega
  | succ N ih =>
    intro t jo be go no hN ht hR
    have hle := si_lf_le C (si_S C t)
    refine pk_le 2000 t (fun h => ?_) (fun h => ?_)
    · have e : t = 2000 := by omega
      subst e
      exact K jo be go no hR
    · refine pk_le (si_lf C (si_S C t)) 0 (fun h0 => ?_) (fun h0 => ?_)
      · refine K jo be go no ?_
        rw [← si_F_eq hv (t := t)]
        · exact hR
        · intro c hc
          have := sm_N_zero (show si_lf C (si_S C t) = 0 by omega) c hc
          (try dsimp only at this)
          by_cases z : cs_q (si_S C t c) = 5
          · exact z
          · rw [if_neg z] at this; exact nomatch this
      · refine ⟨cf_n C + 1, ?_⟩
        have := yw_43 (P := si_S C t) (post := post) (J30 := wY_play_30 post N) hv (show t < 2000 by omega) (si_Gt hv t).1 (fun jo be go no hR' => ih (t + 1) jo be go no (by omega) (by omega) hR') (cf_n C + 1) 0 jo be go no (by omega) (by omega) (by rw [si_ei_0]; exact hR)
        rw [si_ei_0] at this
        exact this
theorem yw_2 {post : SY → Prop} (hv : cf_V C) (K : ∀ jo be go no : Nat → Int32, yr_R C (si_F C) jo be go no → post (nI (cf_n C), ai_N (cf_s C), ai_N (cf_r C), ai_N (cf_a C), ai_N (cf_v C), ai_N (cf_t C), ai_N (cf_d C), jo, be, go, no)) :
  ∀ (N i : Nat) (no : Nat → Int32), cf_n C < i + N → i ≤ cf_n C → (∀ c, c < i → no c = 4) → wY_play_2 post (nI (cf_n C)) N (nI i) (ai_N (cf_s C)) (ai_N (cf_r C)) (ai_N (cf_a C)) (ai_N (cf_v C)) (ai_N (cf_t C)) (ai_N (cf_d C)) jo be go no := by
  have h12 := hv.1
  intro N
  induction N with
  | zero => intro i no h h'; omega
  | succ N ih =>
    intro i no hN hi h
    refine pk_le (cf_n C) i (fun h1 => ⟨2001, ?_⟩) (fun h1 => ⟨pk_in i 12 (by omega), ?_⟩)
    · have q4 : ∀ c, cs_q (si_S C 0 c) = 4 := fun c => rfl
      have hR : yr_R C (si_S C 0) jo be go no := by
        refine ⟨fun c hc => h c (by omega), fun c k _ _ he => ?_, fun c k _ _ he => ?_, fun c _ h4 => ?_, fun c _ h5 => ?_⟩
        · exact he.elim (fun h => absurd h (show ¬ 4 = 5 by decide)) (fun h => absurd h.1 (show ¬ 4 < 4 by decide))
        · exact he.elim (fun h => absurd h (show ¬ 4 = 5 by decide)) (fun h => absurd h.1 (show ¬ 4 < 4 by decide))
        · exact absurd h4 (show ¬ 4 < 4 by decide)
        · exact absurd h5 (show ¬ 4 = 5 by decide)
      have e : si_lf C (si_S C 0) = cf_n C := by
        have : si_lf C (si_S C 0) = sm_N (fun _ => 1) (cf_n C) := sm_N_eq (fun c _ => if_neg (by rw [q4]; decide))
        rw [this, sm_N_cst, Nat.one_mul]
      have := yw_30 hv K 2001 0 jo be go no (by omega) (by omega) hR
      rw [e] at this
      exact this
    · rw [nI_clamp (by omega : i < 2 ^ 31), nI_1]
      intro y ey
      subst ey
      intro y ey
      subst ey
      refine ih (i + 1) _ (by omega) (by omega) (fun c hc => ?_)
      by_cases z : c = i
      · rw [z, pk_us]
      · rw [pk_un z]; exact h c (by omega)
theorem yw_play {post : SY → Prop} (hv : cf_V C) (K : ∀ jo be go no : Nat → Int32, yr_R C (si_F C) jo be go no → post (nI (cf_n C), ai_N (cf_s C), ai_N (cf_r C), ai_N (cf_a C), ai_N (cf_v C), ai_N (cf_t C), ai_N (cf_d C), jo, be, go, no)) : wpY_play post (nI (cf_n C), ai_N (cf_s C), ai_N (cf_r C), ai_N (cf_a C), ai_N (cf_v C), ai_N (cf_t C), ai_N (cf_d C), jo, be, go, no) :=
  ⟨cf_n C + 1, yw_2 hv K (cf_n C + 1) 0 no (by omega) (by omega) (fun c h => by omega)⟩
end
end
section
/-! bits of a set; the changes that are written down, as sums -/
theorem ws_1 : ∀ j, j < 32 → bt 1 j = decide (j = 0) := by decide +kernel
theorem ws_c {c i : Nat} (hc : c < 32) (hi : i < 32) : bt ((1 : Int32) <<< (nI c &&& 31)) i = decide (i = c) := by
  rw [b_shl c hc 1 hi]
  by_cases h : c ≤ i
  · rw [decide_eq_true h, Bool.true_and, ws_1 _ (by omega)]
    exact decide_eq_decide.mpr (by omega)
  · rw [decide_eq_false h, Bool.false_and]
    exact (decide_eq_false (by omega)).symm
theorem ws_or {c i : Nat} (x : Int32) (hc : c < 32) (hi : i < 32) : bt (x ||| ((1 : Int32) <<< (nI c &&& 31))) i = (bt x i || decide (i = c)) := by
  rw [b_or, ws_c hc hi]
theorem ws_cl {c i : Nat} (x : Int32) (hc : c < 32) (hi : i < 32) : bt (x &&& (((1 : Int32) <<< (nI c &&& 31)) ^^^ (-1))) i = (bt x i && !decide (i = c)) := by
  rw [b_and, b_xor, ws_c hc hi, b_m1 i hi, Bool.xor_true]
theorem ws_0 {x : Int32} : x = 0 ↔ ∀ i, i < 32 → bt x i = false := by
  constructor
  · intro h i _
    rw [h]; exact b_0 i
  · intro h
    exact b_ext (fun i hi => by rw [h i hi, b_0])
theorem ws_t {c : Nat} (x : Int32) (hc : c < 32) : ((x >>> (nI c &&& 31)) &&& 1) = 0 ↔ bt x c = false := by
  rw [ws_0]
  constructor
  · intro h
    have := h 0 (by omega)
    rw [b_and, b_sshr c hc x (by omega), if_pos (by omega), ws_1 0 (by omega)] at this
    simpa using this
  · intro h i hi
    rw [b_and, ws_1 i hi]
    by_cases z : i = 0
    · rw [z, b_sshr c hc x (by omega), if_pos (by omega), Nat.add_zero, h]; rfl
    · rw [decide_eq_false z, Bool.and_false]
/-- sums with one term -/
theorem sm_Z_add (f g : Nat → Int) : ∀ n : Nat, sm_Z (fun i => f i + g i) n = sm_Z f n + sm_Z g n
  | 0 => rfl
  | n + 1 => by simp only [sm_Z]; rw [sm_Z_add f g n]; omega
theorem sm_Z_0 : ∀ n : Nat, sm_Z (fun _ => 0) n = 0
  | 0 => rfl
  | n + 1 => by simp only [sm_Z]; rw [sm_Z_0 n]; rfl
theorem sm_Z_d {v0 n : Nat} (x : Int) (h : v0 < n) : sm_Z (fun v => if v = v0 then x else 0) n = x := by
  have k := sm_Z_one (f := fun v => if v = v0 then x else 0) (g := fun _ => 0) (i := v0) (n := n) h (fun j _ hj => if_neg hj)
  rw [sm_Z_0, if_pos rfl] at k
  omega
noncomputable def lo_i (p : Prop) (x : Int) : Int := @ite Int p (Classical.propDecidable p) x 0
theorem lo_t {p : Prop} {x : Int} (h : p) : lo_i p x = x := by unfold lo_i; rw [if_pos h]
theorem lo_f {p : Prop} {x : Int} (h : ¬ p) : lo_i p x = 0 := by unfold lo_i; rw [if_neg h]
theorem lo_c {p q : Prop} {x : Int} (h : p ↔ q) : lo_i p x = lo_i q x := by
  by_cases z : p
  · rw [lo_t z, lo_t (h.mp z)]
  · rw [lo_f z, lo_f (fun w => z (h.mpr w))]
theorem lo_s {p q r : Prop} {x : Int} (h : p ↔ q ∨ r) (hd : q → r → False) : lo_i p x = lo_i q x + lo_i r x := by
  by_cases z : q
  · rw [lo_t (h.mpr (Or.inl z)), lo_t z, lo_f (hd z), Int.add_zero]
  · by_cases w : r
    · rw [lo_t (h.mpr (Or.inr w)), lo_f z, lo_t w, Int.zero_add]
    · rw [lo_f (fun y => (h.mp y).elim z w), lo_f z, lo_f w]; rfl
/-- visits by number that have come in, begun, ended by a time -/
noncomputable def lo_J (C : si_CF) (r : si_CS) (s τ c k : Nat) : Int := lo_i ((c < cf_n C ∧ k < cf_v C c ∧ cf_t C (4 * c + k) = s) ∧ cs_en r k ∧ cs_J r k ≤ τ) 1
noncomputable def lo_B (C : si_CF) (r : si_CS) (s τ c k : Nat) : Int := lo_i ((c < cf_n C ∧ k < cf_v C c ∧ cf_t C (4 * c + k) = s) ∧ cs_bn r k ∧ cs_B r k ≤ τ) 1
noncomputable def lo_E (C : si_CF) (r : si_CS) (s τ c k : Nat) : Int := lo_i ((c < cf_n C ∧ k < cf_v C c ∧ cf_t C (4 * c + k) = s) ∧ cs_fi r k ∧ cs_B r k + cf_d C (4 * c + k) ≤ τ) 1
noncomputable def lo_A (C : si_CF) (P : Nat → si_CS) (s τ : Nat) : Int := sm_Z (fun v => lo_J C (P (v / 4)) s τ (v / 4) (v % 4) - lo_E C (P (v / 4)) s τ (v / 4) (v % 4)) 48
noncomputable def lo_W (C : si_CF) (P : Nat → si_CS) (s τ : Nat) : Int := sm_Z (fun v => lo_J C (P (v / 4)) s τ (v / 4) (v % 4) - lo_B C (P (v / 4)) s τ (v / 4) (v % 4)) 48
/-- the terms of one customer, when it enters -/
theorem lo_en {C : si_CF} {T c : Nat} {r : si_CS} (hv : cf_V C) (h : si_ok C (T + 1) T c r) (hd : si_ev C c r ≠ 0 ∧ si_ev C c r / 32 = T) (s τ k : Nat) :
    lo_J C (si_en C T c r) s τ c k = lo_J C r s τ c k + lo_i ((k = cs_nx r ∧ cs_nx r < cf_v C c) ∧ cf_t C (4 * c + cs_nx r) = s ∧ T ≤ τ) 1 ∧
    lo_B C (si_en C T c r) s τ c k = lo_B C r s τ c k ∧
    lo_E C (si_en C T c r) s τ c k = lo_E C r s τ c k + lo_i ((k = cs_q r ∧ cs_q r < 4) ∧ cf_t C (4 * c + cs_q r) = s ∧ T ≤ τ) 1 := by
  have hn := hv.1
  obtain ⟨hc, hr⟩ := si_ev_c hd.1
  have hv4 := (hv.2.2.1 c hc).2
  obtain ⟨q, b, J, B, G⟩ := r
  obtain ⟨o1, o2, o3, o4, o5, o6, o7, o8⟩ := h
  simp only [cs_q, cs_b, cs_J, cs_B, cs_G, cs_en, cs_fi, cs_bn] at o1 o2 o3 o4 o5 o6 o7 o8 hr
  unfold lo_J lo_B lo_E
  rcases hr with ⟨rfl, e⟩ | ⟨hq, rfl, e⟩
  · have e0 : cs_nx (4, b, J, B, G) = 0 := if_pos rfl
    by_cases z : cf_v C c = 0
    · rw [si_en_5 (e0.trans z.symm), e0]
      simp only [cs_q, cs_b, cs_J, cs_B, cs_G, cs_en, cs_fi, cs_bn]
      exact ⟨lo_s (by omega) (by omega), lo_c (by omega), lo_s (by omega) (by omega)⟩
    · rw [si_en_k (by rw [e0]; omega), e0]
      simp only [cs_q, cs_b, cs_J, cs_B, cs_G, cs_en, cs_fi, cs_bn, Bool.false_eq_true, and_false, or_false]
      refine ⟨?_, lo_c (by omega), lo_s (by omega) (by omega)⟩
      by_cases k0 : k = 0
      · subst k0
        rw [si_fs]
        exact lo_s (by omega) (by omega)
      · rw [si_fn k0]
        exact lo_s (by omega) (by omega)
  · have hT : B q + cf_d C (4 * c + q) = T := by omega
    have e0 : cs_nx (q, true, J, B, G) = q + 1 := if_neg (by show ¬ q = 4; omega)
    have hq2 := o2 hq
    clear o1 o2 o3 o4 o5 o6 o7 o8 hd e
    by_cases z : q + 1 = cf_v C c
    · rw [si_en_5 (e0.trans z), e0]
      simp only [cs_q, cs_b, cs_J, cs_B, cs_G, cs_en, cs_fi, cs_bn, and_true, true_or, true_and]
      refine ⟨lo_s (by omega) (by omega), lo_c (by omega), ?_⟩
      by_cases kq : k = q
      · subst kq
        exact lo_s (by omega) (by omega)
      · exact lo_s (by omega) (by omega)
    · rw [si_en_k (by rw [e0]; exact z), e0]
      simp only [cs_q, cs_b, cs_J, cs_B, cs_G, cs_en, cs_fi, cs_bn, Bool.false_eq_true, and_false, or_false, and_true]
      refine ⟨?_, lo_c (by omega), ?_⟩
      · by_cases kq : k = q + 1
        · subst kq
          rw [si_fs]
          exact lo_s (by omega) (by omega)
        · rw [si_fn kq]
          exact lo_s (by omega) (by omega)
      · by_cases kq : k = q
        · subst kq
          exact lo_s (by omega) (by omega)
        · exact lo_s (by omega) (by omega)
theorem lo_bg {C : si_CF} {T c : Nat} {r : si_CS} (hc : c < cf_n C) (hq : cs_q r < 4) (hb : cs_b r = false) (hq2 : cs_q r < cf_v C c) (s τ k : Nat) :
    lo_J C (si_bg T r) s τ c k = lo_J C r s τ c k ∧
    lo_B C (si_bg T r) s τ c k = lo_B C r s τ c k + lo_i (k = cs_q r ∧ cf_t C (4 * c + cs_q r) = s ∧ T ≤ τ) 1 ∧
    lo_E C (si_bg T r) s τ c k = lo_E C r s τ c k := by
  obtain ⟨q, b, J, B, G⟩ := r
  simp only [cs_q, cs_b] at hq hb hq2
  subst hb
  unfold lo_J lo_B lo_E si_bg
  simp only [cs_q, cs_b, cs_J, cs_B, cs_G, cs_en, cs_fi, cs_bn, Bool.false_eq_true, and_false, or_false, and_true]
  refine ⟨trivial, ?_, ?_⟩
  · by_cases kq : k = q
    · subst kq
      rw [si_fs]
      exact lo_s (by omega) (by omega)
    · rw [si_fn kq]
      exact lo_s (by omega) (by omega)
  · by_cases kq : k = q
    · exact lo_c (by omega)
    · rw [si_fn kq]
end
section
/-! the log: a change more -/
theorem lo_pt {c k0 : Nat} {p : Prop} {x : Int} (hc : c < 12) (hk : k0 < 4) : sm_Z (fun v => lo_i (v / 4 = c ∧ v % 4 = k0 ∧ p) x) 48 = lo_i p x := by
  rw [← sm_Z_d (v0 := 4 * c + k0) (n := 48) (lo_i p x) (by omega)]
  refine sm_Z_eq (fun v hv => ?_)
  by_cases z : v = 4 * c + k0
  · rw [if_pos z]; exact lo_c ⟨fun h => h.2.2, fun h => ⟨by omega, by omega, h⟩⟩
  · rw [if_neg z]; exact lo_f (fun h => z (by omega))
theorem lo_neg {p : Prop} {x : Int} : lo_i p (-x) = - lo_i p x := by
  by_cases h : p
  · rw [lo_t h, lo_t h]
  · rw [lo_f h, lo_f h]; rfl
theorem lo_A_en {C : si_CF} {P : Nat → si_CS} {T c : Nat} (hv : cf_V C) (h : si_ok C (T + 1) T c (P c)) (hd : si_e C P c ≠ 0 ∧ si_e C P c / 32 = T) (s τ : Nat) :
    lo_A C (si_fu P c (si_en C T c (P c))) s τ = lo_A C P s τ + (lo_i (cs_nx (P c) < cf_v C c ∧ cf_t C (4 * c + cs_nx (P c)) = s ∧ T ≤ τ) 1 + lo_i (cs_q (P c) < 4 ∧ cf_t C (4 * c + cs_q (P c)) = s ∧ T ≤ τ) (-1)) := by
  have hn := hv.1
  have hc := (si_ev_c hd.1).1
  have hv4 := (hv.2.2.1 c hc).2
  rw [← lo_pt (c := c) (k0 := cs_nx (P c) % 4) (x := 1) (by omega) (by omega), ← lo_pt (c := c) (k0 := cs_q (P c) % 4) (x := -1) (by omega) (by omega), ← sm_Z_add]
  unfold lo_A
  rw [← sm_Z_add]
  refine sm_Z_eq (fun v hv48 => ?_)
  by_cases z : v / 4 = c
  · have k := lo_en hv h hd s τ (v % 4)
    rw [z, si_fs, k.1, k.2.2, lo_neg,
      lo_c (show ((v % 4 = cs_nx (P c) ∧ cs_nx (P c) < cf_v C c) ∧ cf_t C (4 * c + cs_nx (P c)) = s ∧ T ≤ τ) ↔ (c = c ∧ v % 4 = cs_nx (P c) % 4 ∧ cs_nx (P c) < cf_v C c ∧ cf_t C (4 * c + cs_nx (P c)) = s ∧ T ≤ τ) by omega),
      lo_c (show ((v % 4 = cs_q (P c) ∧ cs_q (P c) < 4) ∧ cf_t C (4 * c + cs_q (P c)) = s ∧ T ≤ τ) ↔ (c = c ∧ v % 4 = cs_q (P c) % 4 ∧ cs_q (P c) < 4 ∧ cf_t C (4 * c + cs_q (P c)) = s ∧ T ≤ τ) by omega)]
    omega
  · rw [si_fn z, lo_f (p := v / 4 = c ∧ _) (fun w => z w.1), lo_f (p := v / 4 = c ∧ _) (fun w => z w.1)]; omega
theorem lo_W_en {C : si_CF} {P : Nat → si_CS} {T c : Nat} (hv : cf_V C) (h : si_ok C (T + 1) T c (P c)) (hd : si_e C P c ≠ 0 ∧ si_e C P c / 32 = T) (s τ : Nat) :
    lo_W C (si_fu P c (si_en C T c (P c))) s τ = lo_W C P s τ + lo_i (cs_nx (P c) < cf_v C c ∧ cf_t C (4 * c + cs_nx (P c)) = s ∧ T ≤ τ) 1 := by
  have hn := hv.1
  have hc := (si_ev_c hd.1).1
  have hv4 := (hv.2.2.1 c hc).2
  rw [← lo_pt (c := c) (k0 := cs_nx (P c) % 4) (x := 1) (by omega) (by omega)]
  unfold lo_W
  rw [← sm_Z_add]
  refine sm_Z_eq (fun v hv48 => ?_)
  by_cases z : v / 4 = c
  · have k := lo_en hv h hd s τ (v % 4)
    rw [z, si_fs, k.1, k.2.1,
      lo_c (show ((v % 4 = cs_nx (P c) ∧ cs_nx (P c) < cf_v C c) ∧ cf_t C (4 * c + cs_nx (P c)) = s ∧ T ≤ τ) ↔ (c = c ∧ v % 4 = cs_nx (P c) % 4 ∧ cs_nx (P c) < cf_v C c ∧ cf_t C (4 * c + cs_nx (P c)) = s ∧ T ≤ τ) by omega)]
    omega
  · rw [si_fn z, lo_f (p := v / 4 = c ∧ _) (fun w => z w.1)]; omega
theorem lo_A_bg {C : si_CF} {P : Nat → si_CS} {T c : Nat} (hc : c < cf_n C) (hq : cs_q (P c) < 4) (hb : cs_b (P c) = false) (hq2 : cs_q (P c) < cf_v C c) (s τ : Nat) :
    lo_A C (si_fu P c (si_bg T (P c))) s τ = lo_A C P s τ := by
  refine sm_Z_eq (fun v hv48 => ?_)
  by_cases z : v / 4 = c
  · have k := lo_bg (T := T) hc hq hb hq2 s τ (v % 4)
    rw [z, si_fs, k.1, k.2.2]
  · rw [si_fn z]
theorem lo_W_bg {C : si_CF} {P : Nat → si_CS} {T c : Nat} (hv : cf_V C) (hc : c < cf_n C) (hq : cs_q (P c) < 4) (hb : cs_b (P c) = false) (hq2 : cs_q (P c) < cf_v C c) (s τ : Nat) :
    lo_W C (si_fu P c (si_bg T (P c))) s τ = lo_W C P s τ + lo_i (cf_t C (4 * c + cs_q (P c)) = s ∧ T ≤ τ) (-1) := by
  have hn := hv.1
  rw [← lo_pt (c := c) (k0 := cs_q (P c)) (x := -1) (by omega) (by omega)]
  unfold lo_W
  rw [← sm_Z_add]
  refine sm_Z_eq (fun v hv48 => ?_)
  by_cases z : v / 4 = c
  · have k := lo_bg (T := T) hc hq hb hq2 s τ (v % 4)
    rw [z, si_fs, k.1, k.2.1, lo_neg, lo_c (show (v % 4 = cs_q (P c) ∧ cf_t C (4 * c + cs_q (P c)) = s ∧ T ≤ τ) ↔ (c = c ∧ v % 4 = cs_q (P c) ∧ cf_t C (4 * c + cs_q (P c)) = s ∧ T ≤ τ) by omega)]
    omega
  · rw [si_fn z, lo_f (p := v / 4 = c ∧ _) (fun w => z w.1)]; omega
def lo_R (A W : Nat → Nat → Int) (T m : Nat) (ct cs ca cw : Nat → Int32) : Prop :=
  ∃ (lt ls : Nat → Nat) (la lw : Nat → Int), (∀ i, i < m → ct i = nI (lt i) ∧ cs i = nI (ls i) ∧ ca i = Int32.ofInt (la i) ∧ cw i = Int32.ofInt (lw i)) ∧
    (∀ i, i < m → ls i < 4 ∧ lt i ≤ T ∧ -1 ≤ la i ∧ la i ≤ 1 ∧ -1 ≤ lw i ∧ lw i ≤ 1) ∧ (∀ i j, i ≤ j → j < m → lt i ≤ lt j) ∧
    (∀ s τ, sm_Z (fun i => lo_i (ls i = s ∧ lt i ≤ τ) (la i)) m = A s τ) ∧ (∀ s τ, sm_Z (fun i => lo_i (ls i = s ∧ lt i ≤ τ) (lw i)) m = W s τ)
theorem lo_R_up {A W A' W' : Nat → Nat → Int} {T T' m : Nat} {ct cs ca cw : Nat → Int32} (h : lo_R A W T m ct cs ca cw) (hT : T ≤ T') (hA : ∀ s τ, A' s τ = A s τ) (hW : ∀ s τ, W' s τ = W s τ) : lo_R A' W' T' m ct cs ca cw := by
  obtain ⟨lt, ls, la, lw, h1, h2, h3, h4, h5⟩ := h
  exact ⟨lt, ls, la, lw, h1, fun i hi => ⟨(h2 i hi).1, Nat.le_trans (h2 i hi).2.1 hT, (h2 i hi).2.2⟩, h3, fun s τ => by rw [hA, h4], fun s τ => by rw [hW, h5]⟩
theorem lo_R_nt {A W A' W' : Nat → Nat → Int} {T m s : Nat} {a w : Int} {ct cs ca cw : Nat → Int32} (h : lo_R A W T m ct cs ca cw) (hs : s < 4) (ha : -1 ≤ a ∧ a ≤ 1) (hw : -1 ≤ w ∧ w ≤ 1)
    (hA : ∀ s' τ, A' s' τ = A s' τ + lo_i (s = s' ∧ T ≤ τ) a) (hW : ∀ s' τ, W' s' τ = W s' τ + lo_i (s = s' ∧ T ≤ τ) w) :
    lo_R A' W' T (m + 1) (upd ct m (nI T)) (upd cs m (nI s)) (upd ca m (Int32.ofInt a)) (upd cw m (Int32.ofInt w)) := by
  obtain ⟨lt, ls, la, lw, h1, h2, h3, h4, h5⟩ := h
  refine ⟨si_fu lt m T, si_fu ls m s, si_fu la m a, si_fu lw m w, fun i hi => ?_, fun i hi => ?_, fun i j hij hj => ?_, fun s' τ => ?_, fun s' τ => ?_⟩
  · by_cases z : i = m
    · rw [z, pk_us, pk_us, pk_us, pk_us, si_fs, si_fs, si_fs, si_fs]; exact ⟨rfl, rfl, rfl, rfl⟩
    · rw [pk_un z, pk_un z, pk_un z, pk_un z, si_fn z, si_fn z, si_fn z, si_fn z]; exact h1 i (by omega)
  · by_cases z : i = m
    · rw [z, si_fs, si_fs, si_fs, si_fs]; exact ⟨hs, Nat.le_refl _, ha.1, ha.2, hw.1, hw.2⟩
    · rw [si_fn z, si_fn z, si_fn z, si_fn z]; exact h2 i (by omega)
  · by_cases z : j = m
    · rw [z, si_fs]
      by_cases y : i = m
      · rw [y, si_fs]; exact Nat.le_refl _
      · rw [si_fn y]; exact (h2 i (by omega)).2.1
    · rw [si_fn z, si_fn (by omega)]; exact h3 i j hij (by omega)
  · rw [hA, ← h4]
    show sm_Z _ m + lo_i (si_fu ls m s m = s' ∧ si_fu lt m T m ≤ τ) (si_fu la m a m) = _
    rw [si_fs, si_fs, si_fs]
    congr 1
    exact sm_Z_eq (fun i hi => by rw [si_fn (by omega), si_fn (by omega), si_fn (by omega)])
  · rw [hW, ← h5]
    show sm_Z _ m + lo_i (si_fu ls m s m = s' ∧ si_fu lt m T m ≤ τ) (si_fu lw m w m) = _
    rw [si_fs, si_fs, si_fs]
    congr 1
    exact sm_Z_eq (fun i hi => by rw [si_fn (by omega), si_fn (by omega), si_fn (by omega)])
/-- how many changes a customer has written -/
def cs_cn (C : si_CF) (c : Nat) (r : si_CS) : Nat := if cs_q r = 4 then 0 else if cs_q r = 5 then 3 * cf_v C c else 3 * cs_q r + 1 + (if cs_b r = true then 1 else 0)
def lo_M (C : si_CF) (P : Nat → si_CS) : Nat := sm_N (fun c => cs_cn C c (P c)) (cf_n C)
theorem cs_cn_le {C : si_CF} {t1 t2 c : Nat} {r : si_CS} (hv : cf_V C) (hc : c < cf_n C) (h : si_ok C t1 t2 c r) : cs_cn C c r ≤ 12 := by
  have hv4 := (hv.2.2.1 c hc).2
  unfold cs_cn
  by_cases h4 : cs_q r = 4
  · rw [if_pos h4]; omega
  · by_cases h5 : cs_q r = 5
    · rw [if_neg h4, if_pos h5]; omega
    · have := h.2.1 (by have := h.1; omega)
      rw [if_neg h4, if_neg h5]
      split <;> omega
theorem lo_M_le {C : si_CF} {t1 t2 : Nat} {P : Nat → si_CS} (hv : cf_V C) (h : si_OK C t1 t2 P) : lo_M C P ≤ 144 := by
  have := sm_N_le (f := fun c => cs_cn C c (P c)) (g := fun _ => 12) (n := cf_n C) (fun c hc => cs_cn_le hv hc (h c hc))
  rw [sm_N_cst] at this
  have hn := hv.1
  unfold lo_M
  omega
theorem lo_M_fu {C : si_CF} {P : Nat → si_CS} {c : Nat} {r : si_CS} (hc : c < cf_n C) : lo_M C (si_fu P c r) + cs_cn C c (P c) = lo_M C P + cs_cn C c r := by
  have k := sm_N_one (f := fun d => cs_cn C d (si_fu P c r d)) (g := fun d => cs_cn C d (P d)) (i := c) (n := cf_n C) hc (fun j _ hj => by (try dsimp only); rw [si_fn hj])
  (try dsimp only at k)
  rw [si_fs] at k
  exact k
theorem cs_cn_4 {C : si_CF} {c : Nat} {r : si_CS} (h : cs_q r = 4) : cs_cn C c r = 0 := if_pos h
theorem cs_cn_5 {C : si_CF} {c : Nat} {r : si_CS} (h : cs_q r = 5) : cs_cn C c r = 3 * cf_v C c := by
  unfold cs_cn; rw [if_neg (by omega), if_pos h]
theorem cs_cn_w {C : si_CF} {c : Nat} {r : si_CS} (h : cs_q r < 4) (hb : cs_b r = false) : cs_cn C c r = 3 * cs_q r + 1 := by
  unfold cs_cn; rw [if_neg (by omega), if_neg (by omega), if_neg (by rw [hb]; decide)]
theorem cs_cn_s {C : si_CF} {c : Nat} {r : si_CS} (h : cs_q r < 4) (hb : cs_b r = true) : cs_cn C c r = 3 * cs_q r + 2 := by
  unfold cs_cn; rw [if_neg (by omega), if_neg (by omega), if_pos hb]
theorem cs_cn_e5 {C : si_CF} {T c : Nat} {r : si_CS} (h : cs_nx r = cf_v C c) : cs_cn C c (si_en C T c r) = 3 * cs_nx r := by
  rw [si_en_5 h, cs_cn_5 rfl, h]
theorem cs_cn_ek {C : si_CF} {T c : Nat} {r : si_CS} (h : cs_nx r < cf_v C c) (hv4 : cf_v C c ≤ 4) : cs_cn C c (si_en C T c r) = 3 * cs_nx r + 1 := by
  rw [si_en_k (by omega)]
  exact cs_cn_w (r := (cs_nx r, false, si_fu (cs_J r) (cs_nx r) T, cs_B r, cs_G r)) (show cs_nx r < 4 by omega) rfl
end
section
/-! the component: entering, finishing, choosing -/
def cs_vo (C : si_CF) (c : Nat) (r : si_CS) : Nat := if cs_q r = 4 then 0 else if cs_q r = 5 then cf_v C c else cs_q r
theorem cs_vo_q {C : si_CF} {c : Nat} {r : si_CS} (h : cs_q r < 4) : cs_vo C c r = cs_q r := by
  unfold cs_vo; rw [if_neg (by omega), if_neg (by omega)]
theorem cs_vo_4 {C : si_CF} {c : Nat} {r : si_CS} (h : cs_q r = 4) : cs_vo C c r = 0 := if_pos h
theorem cs_vo_5 {C : si_CF} {c : Nat} {r : si_CS} (h : cs_q r = 5) : cs_vo C c r = cf_v C c := by
  unfold cs_vo; rw [if_neg (by omega), if_pos h]
def xr_R (C : si_CF) (P : Nat → si_CS) (tj tb tl vo ws fr : Nat → Int32) : Prop :=
  (∀ c, c < cf_n C → vo c = nI (cs_vo C c (P c))) ∧ (∀ c k, c < cf_n C → k < cf_v C c → cs_en (P c) k → tj (4 * c + k) = nI (cs_J (P c) k)) ∧
  (∀ c k, c < cf_n C → k < cf_v C c → cs_bn (P c) k → tb (4 * c + k) = nI (cs_B (P c) k)) ∧ (∀ c, c < cf_n C → cs_q (P c) = 5 → tl c = nI (cs_G (P c))) ∧
  (∀ s, s < 4 → ∀ i, i < 32 → bt (ws s) i = si_wt C s i (P i)) ∧ (∀ s, s < 4 → fr s = nI (cf_s C s - si_nc C P s (cf_n C)))
theorem xr_en {C : si_CF} {P : Nat → si_CS} {T c : Nat} {tj tb tl vo ws fr tj' tl' vo' ws' fr' : Nat → Int32} (hv : cf_V C) (hR : xr_R C P tj tb tl vo ws fr) (hc : c < cf_n C) (hq : cs_q (P c) = 4 ∨ (cs_q (P c) < 4 ∧ cs_b (P c) = true)) (hn : cs_nx (P c) ≤ cf_v C c)
    (h1 : vo' c = nI (cs_nx (P c))) (h1' : ∀ d, d ≠ c → vo' d = vo d) (h2 : cs_nx (P c) < cf_v C c → tj' (4 * c + cs_nx (P c)) = nI T) (h2' : ∀ x, (cs_nx (P c) < cf_v C c → x ≠ 4 * c + cs_nx (P c)) → tj' x = tj x)
    (h3 : cs_nx (P c) = cf_v C c → tl' c = nI T) (h3' : ∀ d, d ≠ c → tl' d = tl d)
    (h4 : ∀ s, s < 4 → ∀ i, i < 32 → bt (ws' s) i = si_wt C s i (si_fu P c (si_en C T c (P c)) i)) (h5 : ∀ s, s < 4 → fr' s = nI (cf_s C s - si_nc C (si_fu P c (si_en C T c (P c))) s (cf_n C))) :
    xr_R C (si_fu P c (si_en C T c (P c))) tj' tb tl' vo' ws' fr' := by
  obtain ⟨r1, r2, r3, r4, r5, r6⟩ := hR
  have hv4 := (hv.2.2.1 c hc).2
  have hk : ∀ k, k < cs_nx (P c) → cs_q (P c) < 4 ∧ k ≤ cs_q (P c) ∧ cs_b (P c) = true := by
    intro k hk
    unfold cs_nx at hk
    rcases hq with q | ⟨q, b⟩
    · rw [if_pos q] at hk; omega
    · rw [if_neg (by omega)] at hk; exact ⟨q, by omega, b⟩
  have hoth : ∀ d k, d ≠ c → d < cf_n C → k < cf_v C d → tj' (4 * d + k) = tj (4 * d + k) := by
    intro d k hd hdn hkd
    have := (hv.2.2.1 d hdn).2
    exact h2' _ (fun _ => by omega)
  have hbn : ∀ k, k < cs_nx (P c) → k < cf_v C c → cs_bn (P c) k := by
    intro k h1 _
    have a := hk k h1
    refine Or.inr ⟨a.1, ?_⟩
    by_cases y : k = cs_q (P c)
    · exact Or.inr ⟨y, a.2.2⟩
    · exact Or.inl (by omega)
  by_cases z : cs_nx (P c) = cf_v C c
  · have e : si_en C T c (P c) = (5, false, cs_J (P c), cs_B (P c), T) := si_en_5 z
    rw [e] at h4 h5 ⊢
    refine ⟨fun d hd => ?_, fun d k hd hk' he => ?_, fun d k hd hk' he => ?_, fun d hd hq5 => ?_, h4, h5⟩
    · by_cases y : d = c
      · rw [y, si_fs, h1, cs_vo_5 rfl, z]
      · rw [si_fn y, h1' d y]; exact r1 d hd
    · by_cases y : d = c
      · rw [y] at hk' ⊢
        rw [si_fs, h2' _ (fun w => by omega)]
        have a := hk k (by omega)
        exact r2 c k hc hk' (Or.inr ⟨a.1, a.2.1⟩)
      · rw [si_fn y] at he ⊢; rw [hoth d k y hd hk']; exact r2 d k hd hk' he
    · by_cases y : d = c
      · rw [y] at hk' ⊢
        rw [si_fs]; exact r3 c k hc hk' (hbn k (by omega) hk')
      · rw [si_fn y] at he ⊢; exact r3 d k hd hk' he
    · by_cases y : d = c
      · rw [y, si_fs, h3 z]; rfl
      · rw [si_fn y] at hq5 ⊢; rw [h3' d y]; exact r4 d hd hq5
  · have hlt : cs_nx (P c) < cf_v C c := by omega
    have e : si_en C T c (P c) = (cs_nx (P c), false, si_fu (cs_J (P c)) (cs_nx (P c)) T, cs_B (P c), cs_G (P c)) := si_en_k z
    rw [e] at h4 h5 ⊢
    have q5 : ¬ cs_nx (P c) = 5 := by omega
    refine ⟨fun d hd => ?_, fun d k hd hk' he => ?_, fun d k hd hk' he => ?_, fun d hd hq5 => ?_, h4, h5⟩
    · by_cases y : d = c
      · rw [y, si_fs, h1, cs_vo_q (r := (cs_nx (P c), false, si_fu (cs_J (P c)) (cs_nx (P c)) T, cs_B (P c), cs_G (P c))) (show cs_nx (P c) < 4 by omega)]; rfl
      · rw [si_fn y, h1' d y]; exact r1 d hd
    · by_cases y : d = c
      · rw [y] at hk' ⊢
        rw [y, si_fs] at he
        rw [si_fs]
        show _ = nI (si_fu (cs_J (P c)) (cs_nx (P c)) T k)
        by_cases w : k = cs_nx (P c)
        · rw [w, h2 hlt, si_fs]
        · rw [h2' _ (fun _ => by omega), si_fn w]
          have he' : cs_nx (P c) = 5 ∨ (cs_nx (P c) < 4 ∧ k ≤ cs_nx (P c)) := he
          have a := hk k (by omega)
          exact r2 c k hc hk' (Or.inr ⟨a.1, a.2.1⟩)
      · rw [si_fn y] at he ⊢; rw [hoth d k y hd hk']; exact r2 d k hd hk' he
    · by_cases y : d = c
      · rw [y] at hk' ⊢
        rw [y, si_fs] at he
        rw [si_fs]
        have he' : cs_nx (P c) = 5 ∨ (cs_nx (P c) < 4 ∧ (k < cs_nx (P c) ∨ (k = cs_nx (P c) ∧ false = true))) := he
        have hk2 : k < cs_nx (P c) := by
          rcases he' with w | ⟨_, w | ⟨_, w⟩⟩
          · exact absurd w q5
          · exact w
          · exact nomatch w
        exact r3 c k hc hk' (hbn k hk2 hk')
      · rw [si_fn y] at he ⊢; exact r3 d k hd hk' he
    · by_cases y : d = c
      · rw [y, si_fs] at hq5; exact absurd hq5 q5
      · rw [si_fn y] at hq5 ⊢; rw [h3' d y]; exact r4 d hd hq5
theorem si_en_nc {C : si_CF} {P : Nat → si_CS} {T c s : Nat} (hc : c < cf_n C) : si_nc C (si_fu P c (si_en C T c (P c))) s (cf_n C) + (if si_sv C s c (P c) = true then 1 else 0) = si_nc C P s (cf_n C) := by
  have k := sm_N_one (f := fun d => if si_sv C s d (si_fu P c (si_en C T c (P c)) d) = true then 1 else 0) (g := fun d => if si_sv C s d (P d) = true then 1 else 0) (i := c) (n := cf_n C) hc (fun j _ hj => by (try dsimp only); rw [si_fn hj])
  (try dsimp only at k)
  have e : si_sv C s c (si_en C T c (P c)) = false := bo_f (fun w => by
    have := (si_sv_i.mp w).2.2.1
    rw [si_en_b] at this
    exact nomatch this)
  rw [si_fs, e, if_neg (show ¬ false = true by decide)] at k
  exact k
theorem si_en_wt {C : si_CF} {T s c : Nat} {r : si_CS} (hc : c < cf_n C) (hv4 : cf_v C c ≤ 4) (hn : cs_nx r ≤ cf_v C c) : si_wt C s c (si_en C T c r) = decide (cs_nx r < cf_v C c ∧ cf_t C (4 * c + cs_nx r) = s) := by
  by_cases z : cs_nx r = cf_v C c
  · rw [si_en_5 z, decide_eq_false (by omega)]
    exact bo_f (fun w => absurd (si_wt_i.mp w).2.1 (show ¬ 5 < 4 by decide))
  · rw [si_en_k z]
    unfold si_wt
    refine decide_eq_decide.mpr ⟨fun w => ⟨by omega, w.2.2.2⟩, fun w => ⟨hc, (by show cs_nx r < 4; omega), rfl, w.2⟩⟩
section
variable {f_customers f_changes f_engine f_pending f_today f_root f_lastTaken : Int32} {a_servers a_rules a_arrivalOf a_visitCount a_visitStation a_visitNeed a_joinTime a_beginTime a_leaveTime a_keptTime a_keptJoin a_keptBegin a_changeTime a_changeStation a_changeAt a_changeWaits a_visitOf a_waitingSet a_free a_heap a_dayFirst a_nextInDay a_eventOf a_firstChild a_nextSibling a_pairs a_bucketFirst : Nat → Int32} {C : si_CF} {P : Nat → si_CS}
theorem xw_note {post : SX → Prop} {m s : Nat} {p0 p2 p3 : Int32} (hm : f_changes = nI m) (hm2 : m < 160) (hs : s < 4) (h2 : vp_nar .byte p2.toInt8.toInt32 = p2) (h3 : vp_nar .byte p3.toInt8.toInt32 = p3)
  (K : post (f_customers, nI (m + 1), f_engine, f_pending, f_today, f_root, f_lastTaken, a_servers, a_rules, a_arrivalOf, a_visitCount, a_visitStation, a_visitNeed, a_joinTime, a_beginTime, a_leaveTime, a_keptTime, a_keptJoin, a_keptBegin, upd a_changeTime m p0, upd a_changeStation m (nI s), upd a_changeAt m p2, upd a_changeWaits m p3, a_visitOf, a_waitingSet, a_free, a_heap, a_dayFirst, a_nextInDay, a_eventOf, a_firstChild, a_nextSibling, a_pairs, a_bucketFirst)) : wpX_note post (f_customers, f_changes, f_engine, f_pending, f_today, f_root, f_lastTaken, a_servers, a_rules, a_arrivalOf, a_visitCount, a_visitStation, a_visitNeed, a_joinTime, a_beginTime, a_leaveTime, a_keptTime, a_keptJoin, a_keptBegin, a_changeTime, a_changeStation, a_changeAt, a_changeWaits, a_visitOf, a_waitingSet, a_free, a_heap, a_dayFirst, a_nextInDay, a_eventOf, a_firstChild, a_nextSibling, a_pairs, a_bucketFirst) p0 (nI s) p2 p3 := by
  subst hm
  refine ⟨pk_in m 160 hm2, ?_⟩
  rw [nI_clamp (by omega : m < 2 ^ 31), h2, h3, by_2 (by omega), nI_1]
  intro y ey
  subst ey
  refine ⟨pk_in m 160 hm2, ?_⟩
  intro y ey
  subst ey
  refine ⟨pk_in m 160 hm2, ?_⟩
  intro y ey
  subst ey
  refine ⟨pk_in m 160 hm2, ?_⟩
  intro y ey
  subst ey
  intro y ey
  subst ey
  exact K
theorem by_5 : vp_nar .byte ((1 : Int32)).toInt8.toInt32 = 1 := by_2 (c := 1) (by omega)
theorem by_6 : vp_nar .byte ((0 : Int32)).toInt8.toInt32 = 0 := by_2 (c := 0) (by omega)
theorem xw_goOn {post : SX → Prop} {c k m : Nat} {p1 : Int32} (hv : cf_V C) (hc : c < cf_n C) (hk : a_visitOf c = nI k) (hkv : k ≤ cf_v C c) (hm : f_changes = nI m) (hm2 : m < 160)
  (K5 : k = cf_v C c → post (nI (cf_n C), f_changes, f_engine, f_pending, f_today, f_root, f_lastTaken, ai_N (cf_s C), ai_N (cf_r C), ai_N (cf_a C), ai_N (cf_v C), ai_N (cf_t C), ai_N (cf_d C), a_joinTime, a_beginTime, upd a_leaveTime c p1, a_keptTime, a_keptJoin, a_keptBegin, a_changeTime, a_changeStation, a_changeAt, a_changeWaits, a_visitOf, a_waitingSet, a_free, a_heap, a_dayFirst, a_nextInDay, a_eventOf, a_firstChild, a_nextSibling, a_pairs, a_bucketFirst))
  (Kk : k < cf_v C c → post (nI (cf_n C), nI (m + 1), f_engine, f_pending, f_today, f_root, f_lastTaken, ai_N (cf_s C), ai_N (cf_r C), ai_N (cf_a C), ai_N (cf_v C), ai_N (cf_t C), ai_N (cf_d C), upd a_joinTime (4 * c + k) p1, a_beginTime, a_leaveTime, a_keptTime, a_keptJoin, a_keptBegin, upd a_changeTime m p1, upd a_changeStation m (nI (cf_t C (4 * c + k))), upd a_changeAt m 1, upd a_changeWaits m 1, a_visitOf, upd a_waitingSet (cf_t C (4 * c + k)) (a_waitingSet (cf_t C (4 * c + k)) ||| ((1 : Int32) <<< (nI c &&& 31))), a_free, a_heap, a_dayFirst, a_nextInDay, a_eventOf, a_firstChild, a_nextSibling, a_pairs, a_bucketFirst)) :
  wpX_goOn post (nI (cf_n C), f_changes, f_engine, f_pending, f_today, f_root, f_lastTaken, ai_N (cf_s C), ai_N (cf_r C), ai_N (cf_a C), ai_N (cf_v C), ai_N (cf_t C), ai_N (cf_d C), a_joinTime, a_beginTime, a_leaveTime, a_keptTime, a_keptJoin, a_keptBegin, a_changeTime, a_changeStation, a_changeAt, a_changeWaits, a_visitOf, a_waitingSet, a_free, a_heap, a_dayFirst, a_nextInDay, a_eventOf, a_firstChild, a_nextSibling, a_pairs, a_bucketFirst) (nI c) p1 := by
  have h12 := hv.1
  have hv4 := (hv.2.2.1 c hc).2
  refine ⟨pk_in c 12 (by omega), pk_in c 12 (by omega), ?_⟩
  rw [nI_clamp (by omega : c < 2 ^ 31), hk, ai_at]
  refine pk_lt k (cf_v C c) (fun h => ⟨pk_in c 12 (by omega), ?_⟩) (fun h => ⟨pk_in c 12 (by omega), ?_⟩)
  · have ht := (hv.2.2.2 c k hc h).1
    rw [yx_5]
    intro x3 e3
    subst e3
    rw [nI_clamp (by omega : 4 * c + k < 2 ^ 31), ai_at]
    refine ⟨pk_in (4 * c + k) 48 (by omega), ?_⟩
    intro y ey
    subst ey
    refine ⟨pk_in (4 * c + k) 48 (by omega), ?_⟩
    intro x4 e4
    subst e4
    rw [nI_clamp (by omega : cf_t C (4 * c + k) < 2 ^ 31)]
    refine ⟨pk_in (cf_t C (4 * c + k)) 4 ht, pk_in (cf_t C (4 * c + k)) 4 ht, ?_⟩
    intro y ey
    subst ey
    exact xw_note hm hm2 ht by_5 by_5 (Kk h)
  · intro y ey
    subst ey
    exact K5 (by omega)
theorem xw_finish {post : SX → Prop} {c k m f : Nat} {p1 : Int32} (hv : cf_V C) (hc : c < cf_n C) (hk : a_visitOf c = nI k) (hkv : k < cf_v C c) (hm : f_changes = nI m) (hm2 : m + 1 < 160) (hf : a_free (cf_t C (4 * c + k)) = nI f) (hf2 : f < 100)
  (K5 : k + 1 = cf_v C c → post (nI (cf_n C), nI (m + 1), f_engine, f_pending, f_today, f_root, f_lastTaken, ai_N (cf_s C), ai_N (cf_r C), ai_N (cf_a C), ai_N (cf_v C), ai_N (cf_t C), ai_N (cf_d C), a_joinTime, a_beginTime, upd a_leaveTime c p1, a_keptTime, a_keptJoin, a_keptBegin, upd a_changeTime m p1, upd a_changeStation m (nI (cf_t C (4 * c + k))), upd a_changeAt m (-1), upd a_changeWaits m 0, upd a_visitOf c (nI (k + 1)), a_waitingSet, upd a_free (cf_t C (4 * c + k)) (nI (f + 1)), a_heap, a_dayFirst, a_nextInDay, a_eventOf, a_firstChild, a_nextSibling, a_pairs, a_bucketFirst))
  (Kk : k + 1 < cf_v C c → post (nI (cf_n C), nI (m + 1 + 1), f_engine, f_pending, f_today, f_root, f_lastTaken, ai_N (cf_s C), ai_N (cf_r C), ai_N (cf_a C), ai_N (cf_v C), ai_N (cf_t C), ai_N (cf_d C), upd a_joinTime (4 * c + (k + 1)) p1, a_beginTime, a_leaveTime, a_keptTime, a_keptJoin, a_keptBegin, upd (upd a_changeTime m p1) (m + 1) p1, upd (upd a_changeStation m (nI (cf_t C (4 * c + k)))) (m + 1) (nI (cf_t C (4 * c + (k + 1)))), upd (upd a_changeAt m (-1)) (m + 1) 1, upd (upd a_changeWaits m 0) (m + 1) 1, upd a_visitOf c (nI (k + 1)), upd a_waitingSet (cf_t C (4 * c + (k + 1))) (a_waitingSet (cf_t C (4 * c + (k + 1))) ||| ((1 : Int32) <<< (nI c &&& 31))), upd a_free (cf_t C (4 * c + k)) (nI (f + 1)), a_heap, a_dayFirst, a_nextInDay, a_eventOf, a_firstChild, a_nextSibling, a_pairs, a_bucketFirst)) :
  wpX_finish post (nI (cf_n C), f_changes, f_engine, f_pending, f_today, f_root, f_lastTaken, ai_N (cf_s C), ai_N (cf_r C), ai_N (cf_a C), ai_N (cf_v C), ai_N (cf_t C), ai_N (cf_d C), a_joinTime, a_beginTime, a_leaveTime, a_keptTime, a_keptJoin, a_keptBegin, a_changeTime, a_changeStation, a_changeAt, a_changeWaits, a_visitOf, a_waitingSet, a_free, a_heap, a_dayFirst, a_nextInDay, a_eventOf, a_firstChild, a_nextSibling, a_pairs, a_bucketFirst) (nI c) p1 := by
  have h12 := hv.1
  have hv4 := (hv.2.2.1 c hc).2
  have ht := (hv.2.2.2 c k hc hkv).1
  refine ⟨pk_in c 12 (by omega), ?_⟩
  rw [nI_clamp (by omega : c < 2 ^ 31), hk, yx_5, nI_clamp (by omega : 4 * c + k < 2 ^ 31), ai_at]
  refine ⟨pk_in (4 * c + k) 48 (by omega), ?_⟩
  intro x3 e3
  subst e3
  rw [nI_clamp (by omega : cf_t C (4 * c + k) < 2 ^ 31), hf, nI_1, by_2 (by omega)]
  refine ⟨pk_in (cf_t C (4 * c + k)) 4 ht, pk_in (cf_t C (4 * c + k)) 4 ht, ?_⟩
  intro y ey
  subst ey
  refine xw_note hm (by omega) ht by_4 by_6 ?_
  refine ⟨pk_in c 12 (by omega), pk_in c 12 (by omega), ?_⟩
  rw [hk, nI_1, by_2 (by omega)]
  intro y ey
  subst ey
  exact xw_goOn hv hc pk_us (by omega) rfl hm2 K5 Kk
theorem xw_isB {post : Int32 → Prop} {c d s : Nat} (hv : cf_V C) (hR : xr_R C P a_joinTime a_beginTime a_leaveTime a_visitOf a_waitingSet a_free) (hs : s < 4) (hc : si_wt C s c (P c) = true) (hd : si_wt C s d (P d) = true)
  (hO : ∀ d, d < cf_n C → cs_q (P d) < 4 → cs_q (P d) < cf_v C d ∧ cs_J (P d) (cs_q (P d)) < 65536)
  (K1 : si_bf C P s c d = true → post 1) (K0 : si_bf C P s c d = false → post 0) : wpX_isBefore post (nI (cf_n C), f_changes, f_engine, f_pending, f_today, f_root, f_lastTaken, ai_N (cf_s C), ai_N (cf_r C), ai_N (cf_a C), ai_N (cf_v C), ai_N (cf_t C), ai_N (cf_d C), a_joinTime, a_beginTime, a_leaveTime, a_keptTime, a_keptJoin, a_keptBegin, a_changeTime, a_changeStation, a_changeAt, a_changeWaits, a_visitOf, a_waitingSet, a_free, a_heap, a_dayFirst, a_nextInDay, a_eventOf, a_firstChild, a_nextSibling, a_pairs, a_bucketFirst) (nI c) (nI d) (ai_N (cf_r C) s) := by
  have h12 := hv.1
  have wc := si_wt_i.mp hc
  have wd := si_wt_i.mp hd
  have oc := hO c wc.1 wc.2.1
  have od := hO d wd.1 wd.2.1
  have dc := hv.2.2.2 c _ wc.1 oc.1
  have dd := hv.2.2.2 d _ wd.1 od.1
  have hr := (hv.2.1 s hs).2.2
  have jc := hR.2.1 c _ wc.1 oc.1 (Or.inr ⟨wc.2.1, Nat.le_refl _⟩)
  have jd := hR.2.1 d _ wd.1 od.1 (Or.inr ⟨wd.2.1, Nat.le_refl _⟩)
  have vc : a_visitOf c = nI (cs_q (P c)) := by rw [hR.1 c wc.1, cs_vo_q wc.2.1]
  have vd : a_visitOf d = nI (cs_q (P d)) := by rw [hR.1 d wd.1, cs_vo_q wd.2.1]
  refine ⟨pk_in c 12 (by omega), ?_⟩
  rw [nI_clamp (by omega : c < 2 ^ 31), vc, yx_5]
  intro x4 e4
  subst e4
  refine ⟨pk_in d 12 (by omega), ?_⟩
  rw [nI_clamp (by omega : d < 2 ^ 31), vd, yx_5]
  intro x5 e5
  subst e5
  rw [nI_clamp (by omega : 4 * c + cs_q (P c) < 2 ^ 31), nI_clamp (by omega : 4 * d + cs_q (P d) < 2 ^ 31), jc, jd, ai_at, ai_at, ai_at]
  have join : cf_r C s ≠ 1 → ¬ (cf_r C s = 2 ∧ cf_d C (4 * c + cs_q (P c)) ≠ cf_d C (4 * d + cs_q (P d))) → wX_isBefore_97 post (nI (4 * c + cs_q (P c))) (nI (4 * d + cs_q (P d))) (nI (cf_n C)) f_changes f_engine f_pending f_today f_root f_lastTaken (ai_N (cf_s C)) (ai_N (cf_r C)) (ai_N (cf_a C)) (ai_N (cf_v C)) (ai_N (cf_t C)) (ai_N (cf_d C)) a_joinTime a_beginTime a_leaveTime a_keptTime a_keptJoin a_keptBegin a_changeTime a_changeStation a_changeAt a_changeWaits a_visitOf a_waitingSet a_free a_heap a_dayFirst a_nextInDay a_eventOf a_firstChild a_nextSibling a_pairs a_bucketFirst := by
    intro h1 hno
    unfold wX_isBefore_97
    rw [nI_clamp (by omega : 4 * c + cs_q (P c) < 2 ^ 31), nI_clamp (by omega : 4 * d + cs_q (P d) < 2 ^ 31), jc, jd]
    refine ⟨pk_in (4 * c + cs_q (P c)) 48 (by omega), pk_in (4 * d + cs_q (P d)) 48 (by omega), pk_le (cs_J (P d) (cs_q (P d))) (cs_J (P c) (cs_q (P c))) (fun w => K0 ?_) (fun w => K1 ?_)⟩
    · unfold si_bf; rw [if_neg h1, if_neg hno]; exact decide_eq_false (by omega)
    · unfold si_bf; rw [if_neg h1, if_neg hno]; exact decide_eq_true (by omega)
  refine pk_eq (cf_r C s) 1 (fun h => ?_) (fun h => ?_)
  · refine ⟨pk_in (4 * c + cs_q (P c)) 48 (by omega), pk_in (4 * d + cs_q (P d)) 48 (by omega), pk_lt (cs_J (P c) (cs_q (P c))) (cs_J (P d) (cs_q (P d))) (fun w => K0 ?_) (fun w => K1 ?_)⟩
    · unfold si_bf; rw [if_pos h]; exact decide_eq_false (by omega)
    · unfold si_bf; rw [if_pos h]; exact decide_eq_true (by omega)
  · refine pk_eq (cf_r C s) 2 (fun h2 => ?_) (fun h2 => join h (fun z => h2 z.1))
    refine ⟨pk_in (4 * c + cs_q (P c)) 48 (by omega), pk_in (4 * d + cs_q (P d)) 48 (by omega), pk_eq (cf_d C (4 * c + cs_q (P c))) (cf_d C (4 * d + cs_q (P d))) (fun w => join h (fun z => z.2 w)) (fun w => ?_)⟩
    refine ⟨pk_in (4 * c + cs_q (P c)) 48 (by omega), pk_in (4 * d + cs_q (P d)) 48 (by omega), pk_le (cf_d C (4 * d + cs_q (P d))) (cf_d C (4 * c + cs_q (P c))) (fun y => K0 ?_) (fun y => K1 ?_)⟩
    · unfold si_bf
      rw [if_neg h, if_pos ⟨h2, w⟩]; exact decide_eq_false (by omega)
    · unfold si_bf
      rw [if_neg h, if_pos ⟨h2, w⟩]; exact decide_eq_true (by omega)
theorem si_ch_ge {s : Nat} : ∀ i, cf_n C ≤ i → si_ch C P s i = si_ch C P s (cf_n C)
  | 0, h => by rw [show cf_n C = 0 from by omega]
  | i + 1, h => by
    by_cases z : cf_n C = i + 1
    · rw [z]
    · have e : si_ch C P s (i + 1) = si_ch C P s i := if_neg (fun w => by
        have := (si_wt_i.mp w.1).1
        omega)
      rw [e]; exact si_ch_ge i (by omega)
theorem xw_choose {post : Int32 → Prop} {s : Nat} (hv : cf_V C) (hR : xr_R C P a_joinTime a_beginTime a_leaveTime a_visitOf a_waitingSet a_free) (hs : s < 4)
  (hO : ∀ d, d < cf_n C → cs_q (P d) < 4 → cs_q (P d) < cf_v C d ∧ cs_J (P d) (cs_q (P d)) < 65536)
  (K : post (oi_I (si_ch C P s (cf_n C)))) : wpX_choose post (nI (cf_n C), f_changes, f_engine, f_pending, f_today, f_root, f_lastTaken, ai_N (cf_s C), ai_N (cf_r C), ai_N (cf_a C), ai_N (cf_v C), ai_N (cf_t C), ai_N (cf_d C), a_joinTime, a_beginTime, a_leaveTime, a_keptTime, a_keptJoin, a_keptBegin, a_changeTime, a_changeStation, a_changeAt, a_changeWaits, a_visitOf, a_waitingSet, a_free, a_heap, a_dayFirst, a_nextInDay, a_eventOf, a_firstChild, a_nextSibling, a_pairs, a_bucketFirst) (nI s) := by
  have h12 := hv.1
  have key : ∀ (N i : Nat), 12 < i + N → i ≤ 12 → wX_choose_4 post (nI s) (nI (cf_n C)) f_changes f_engine f_pending f_today f_root f_lastTaken (ai_N (cf_s C)) (ai_N (cf_r C)) (ai_N (cf_a C)) (ai_N (cf_v C)) (ai_N (cf_t C)) (ai_N (cf_d C)) a_joinTime a_beginTime a_leaveTime a_keptTime a_keptJoin a_keptBegin a_changeTime a_changeStation a_changeAt a_changeWaits a_visitOf a_waitingSet a_free a_heap a_dayFirst a_nextInDay a_eventOf a_firstChild a_nextSibling a_pairs a_bucketFirst N (oi_I (si_ch C P s i)) (nI i) := by
    intro N
    induction N with
    | zero => intro i h h'; omega
    | succ N ih =>
      intro i hN hi
      refine pk_le 12 i (fun h => ?_) (fun h => ⟨pk_in s 4 hs, ?_⟩)
      · rw [si_ch_ge i (by omega)]; exact K
      · rw [nI_clamp (by omega : s < 2 ^ 31)]
        have go0 : ∀ x2 : Int32, x2 = oi_I (si_ch C P s (i + 1)) → ∀ y, y = nI i + 1 → wX_choose_4 post (nI s) (nI (cf_n C)) f_changes f_engine f_pending f_today f_root f_lastTaken (ai_N (cf_s C)) (ai_N (cf_r C)) (ai_N (cf_a C)) (ai_N (cf_v C)) (ai_N (cf_t C)) (ai_N (cf_d C)) a_joinTime a_beginTime a_leaveTime a_keptTime a_keptJoin a_keptBegin a_changeTime a_changeStation a_changeAt a_changeWaits a_visitOf a_waitingSet a_free a_heap a_dayFirst a_nextInDay a_eventOf a_firstChild a_nextSibling a_pairs a_bucketFirst N x2 y := by
          intro x2 e2 y ey
          rw [nI_1] at ey
          subst e2 ey
          exact ih (i + 1) (by omega) (by omega)
        by_cases hw : si_wt C s i (P i) = true
        · have hb : ¬ (((a_waitingSet s) >>> (nI i &&& 31)) &&& 1) = 0 := by
            rw [ws_t _ (by omega), hR.2.2.2.2.1 s hs i (by omega), hw]; decide
          refine br_f hb ?_
          cases hc : si_ch C P s i with
          | none =>
            have e5 : si_ch C P s (i + 1) = some i := if_pos ⟨hw, by rw [hc]; rfl⟩
            exact br_t (by decide : (-1 : Int32) < 0) (go0 _ (by rw [e5]; rfl))
          | some d =>
            have wd := si_ch_s _ _ hc
            have ob : si_ob (si_ch C P s i) (si_bf C P s i) = si_bf C P s i d := by rw [hc]; rfl
            have eo : oi_I (some d) = nI d := rfl
            rw [eo]
            refine br_f (nI_pos (by omega : d < 2 ^ 31)) ⟨pk_in s 4 hs, ?_⟩
            refine xw_isB hv hR hs hw wd.2 hO (fun hb => ?_) (fun hb => ?_)
            · have e5 : si_ch C P s (i + 1) = some i := if_pos ⟨hw, by rw [ob]; exact hb⟩
              exact br_f (by decide) (go0 _ (by rw [e5]; rfl))
            · have e5 : si_ch C P s (i + 1) = si_ch C P s i := if_neg (fun z => by
                have := z.2
                rw [ob, hb] at this
                exact nomatch this)
              exact br_t rfl (go0 _ (by rw [e5, hc]; rfl))
        · have hb : (((a_waitingSet s) >>> (nI i &&& 31)) &&& 1) = 0 := by
            rw [ws_t _ (by omega), hR.2.2.2.2.1 s hs i (by omega)]; exact bo_f hw
          have e5 : si_ch C P s (i + 1) = si_ch C P s i := if_neg (fun z => hw z.1)
          exact br_t hb (go0 _ (by rw [e5]))
  exact ⟨13, key 13 0 (by omega) (by omega)⟩
end
end
section
/-! the component: an event, a station, a run -/
def xs_R (C : si_CF) (P : Nat → si_CS) (T : Nat) (ch : Int32) (tj tb tl vo ws fr ct cs ca cw : Nat → Int32) : Prop :=
  xr_R C P tj tb tl vo ws fr ∧ ch = nI (lo_M C P) ∧ lo_R (lo_A C P) (lo_W C P) T (lo_M C P) ct cs ca cw
def xa_R (C : si_CF) (P : Nat → si_CS) (e lo T : Nat) (ch pe td rt lk : Int32) (tj tb tl vo ws fr ct cs ca cw hp df nd eo fc ns pr bf : Nat → Int32) : Prop :=
  xs_R C P T ch tj tb tl vo ws fr ct cs ca cw ∧ qu_R e lo (si_e C P) pe td rt lk hp df nd eo fc ns bf
theorem xh_nw {C : si_CF} {s c : Nat} {r : si_CS} (hq : cs_q r = 4 ∨ (cs_q r < 4 ∧ cs_b r = true)) : si_wt C s c r = false := bo_f (fun w => by
  have w := si_wt_i.mp w
  rcases hq with q | ⟨q, b⟩
  · omega
  · rw [w.2.2.1] at b; exact nomatch b)
theorem xh_ws {C : si_CF} {P : Nat → si_CS} {T c : Nat} {ws : Nat → Int32} (hv : cf_V C) (hc : c < cf_n C) (hq : cs_q (P c) = 4 ∨ (cs_q (P c) < 4 ∧ cs_b (P c) = true)) (hn : cs_nx (P c) < cf_v C c)
    (h : ∀ s, s < 4 → ∀ i, i < 32 → bt (ws s) i = si_wt C s i (P i)) :
    ∀ s, s < 4 → ∀ i, i < 32 → bt (upd ws (cf_t C (4 * c + cs_nx (P c))) (ws (cf_t C (4 * c + cs_nx (P c))) ||| ((1 : Int32) <<< (nI c &&& 31))) s) i = si_wt C s i (si_fu P c (si_en C T c (P c)) i) := by
  intro s hs i hi
  have h12 := hv.1
  have hv4 := (hv.2.2.1 c hc).2
  have hnw : si_wt C s c (P c) = false := xh_nw hq
  have ht := (hv.2.2.2 c _ hc hn).1
  by_cases y : s = cf_t C (4 * c + cs_nx (P c))
  · rw [← y, pk_us, ws_or _ (by omega) hi, h s hs i hi]
    by_cases z : i = c
    · rw [z, si_fs, hnw, si_en_wt hc hv4 (by omega), decide_eq_true rfl, decide_eq_true ⟨hn, y.symm⟩]; rfl
    · rw [si_fn z, decide_eq_false z, Bool.or_false]
  · rw [pk_un y, h s hs i hi]
    by_cases z : i = c
    · rw [z, si_fs, hnw, si_en_wt hc hv4 (by omega), decide_eq_false (fun w => y w.2.symm)]
    · rw [si_fn z]
theorem xh_ws0 {C : si_CF} {P : Nat → si_CS} {T c : Nat} {ws : Nat → Int32} (hv : cf_V C) (hc : c < cf_n C) (hq : cs_q (P c) = 4 ∨ (cs_q (P c) < 4 ∧ cs_b (P c) = true)) (hn : cs_nx (P c) = cf_v C c)
    (h : ∀ s, s < 4 → ∀ i, i < 32 → bt (ws s) i = si_wt C s i (P i)) : ∀ s, s < 4 → ∀ i, i < 32 → bt (ws s) i = si_wt C s i (si_fu P c (si_en C T c (P c)) i) := by
  intro s hs i hi
  have hv4 := (hv.2.2.1 c hc).2
  have hnw : si_wt C s c (P c) = false := xh_nw hq
  rw [h s hs i hi]
  by_cases z : i = c
  · rw [z, si_fs, hnw, si_en_wt hc hv4 (by omega), decide_eq_false (by omega)]
  · rw [si_fn z]
theorem xh_fr4 {C : si_CF} {P : Nat → si_CS} {T c : Nat} {fr : Nat → Int32} (hc : c < cf_n C) (hq : cs_q (P c) = 4) (h : ∀ s, s < 4 → fr s = nI (cf_s C s - si_nc C P s (cf_n C))) :
    ∀ s, s < 4 → fr s = nI (cf_s C s - si_nc C (si_fu P c (si_en C T c (P c))) s (cf_n C)) := by
  intro s hs
  have k := si_en_nc (T := T) (s := s) (P := P) hc
  have e : si_sv C s c (P c) = false := bo_f (fun w => by have := (si_sv_i.mp w).2.1; omega)
  rw [e, if_neg (show ¬ false = true by decide), Nat.add_zero] at k
  rw [k]; exact h s hs
theorem xh_frs {C : si_CF} {P : Nat → si_CS} {T c : Nat} {fr : Nat → Int32} (hc : c < cf_n C) (hK : si_K C P) (hq : cs_q (P c) < 4) (hb : cs_b (P c) = true) (h : ∀ s, s < 4 → fr s = nI (cf_s C s - si_nc C P s (cf_n C))) :
    ∀ s, s < 4 → upd fr (cf_t C (4 * c + cs_q (P c))) (nI (cf_s C (cf_t C (4 * c + cs_q (P c))) - si_nc C P (cf_t C (4 * c + cs_q (P c))) (cf_n C) + 1)) s = nI (cf_s C s - si_nc C (si_fu P c (si_en C T c (P c))) s (cf_n C)) := by
  intro s hs
  have k := si_en_nc (T := T) (s := s) (P := P) hc
  have hKs := hK s hs
  by_cases y : s = cf_t C (4 * c + cs_q (P c))
  · rw [si_sv_i.mpr ⟨hc, hq, hb, y.symm⟩, if_pos rfl] at k
    rw [← y, pk_us]
    exact congrArg nI (by omega)
  · have e : si_sv C s c (P c) = false := bo_f (fun w => y (si_sv_i.mp w).2.2.2.symm)
    rw [e, if_neg (show ¬ false = true by decide), Nat.add_zero] at k
    rw [pk_un y, k]; exact h s hs
section
variable {f_customers f_changes f_engine f_pending f_today f_root f_lastTaken : Int32} {a_servers a_rules a_arrivalOf a_visitCount a_visitStation a_visitNeed a_joinTime a_beginTime a_leaveTime a_keptTime a_keptJoin a_keptBegin a_changeTime a_changeStation a_changeAt a_changeWaits a_visitOf a_waitingSet a_free a_heap a_dayFirst a_nextInDay a_eventOf a_firstChild a_nextSibling a_pairs a_bucketFirst : Nat → Int32} {C : si_CF} {P : Nat → si_CS}
theorem xw_handle {post : SX → Prop} {T c : Nat} (hv : cf_V C) (hO : si_OK C (T + 1) T P) (hK : si_K C P) (hT : T < 2000) (hd : si_e C P c ≠ 0 ∧ si_e C P c / 32 = T)
  (hR : xs_R C P T f_changes a_joinTime a_beginTime a_leaveTime a_visitOf a_waitingSet a_free a_changeTime a_changeStation a_changeAt a_changeWaits)
  (K : ∀ (ch : Int32) (tj tl vo ws fr ct cs ca cw : Nat → Int32), xs_R C (si_fu P c (si_en C T c (P c))) T ch tj a_beginTime tl vo ws fr ct cs ca cw →
    post (nI (cf_n C), ch, f_engine, f_pending, f_today, f_root, f_lastTaken, ai_N (cf_s C), ai_N (cf_r C), ai_N (cf_a C), ai_N (cf_v C), ai_N (cf_t C), ai_N (cf_d C), tj, a_beginTime, tl, a_keptTime, a_keptJoin, a_keptBegin, ct, cs, ca, cw, vo, ws, fr, a_heap, a_dayFirst, a_nextInDay, a_eventOf, a_firstChild, a_nextSibling, a_pairs, a_bucketFirst)) :
  wpX_handle post (nI (cf_n C), f_changes, f_engine, f_pending, f_today, f_root, f_lastTaken, ai_N (cf_s C), ai_N (cf_r C), ai_N (cf_a C), ai_N (cf_v C), ai_N (cf_t C), ai_N (cf_d C), a_joinTime, a_beginTime, a_leaveTime, a_keptTime, a_keptJoin, a_keptBegin, a_changeTime, a_changeStation, a_changeAt, a_changeWaits, a_visitOf, a_waitingSet, a_free, a_heap, a_dayFirst, a_nextInDay, a_eventOf, a_firstChild, a_nextSibling, a_pairs, a_bucketFirst) (nI (si_e C P c)) (nI T) := by
  have h12 := hv.1
  obtain ⟨hc, hr⟩ := si_ev_c hd.1
  have hv4 := (hv.2.2.1 c hc).2
  have o := hO c hc
  obtain ⟨hX, hch, hL⟩ := hR
  have hok := si_ok_en hv o hd
  have hOK' : si_OK C (T + 1) T (si_fu P c (si_en C T c (P c))) := by
    intro d hdn
    by_cases z : d = c
    · rw [z, si_fs]; exact si_ok_up (Nat.le_refl _) (Nat.le_succ _) hok
    · rw [si_fn z]; exact hO d hdn
  have hM := lo_M_le hv hOK'
  have hMf := lo_M_fu (P := P) (r := si_en C T c (P c)) hc
  have hA := lo_A_en hv o hd
  have hW := lo_W_en hv o hd
  have he16 : si_e C P c % 16 = c := by
    rcases hr with ⟨_, e⟩ | ⟨_, _, e⟩
    · unfold si_e; omega
    · unfold si_e; omega
  have hlt : si_e C P c < 65536 := by omega
  refine ⟨by decide, ?_⟩
  rw [ev_cu hlt, he16, show nI (si_e C P c) - nI (si_e C P c) / 32 * 32 = nI (si_e C P c % 32) from pk_rem (d := 32) (by omega) (by omega) (by omega)]
  refine ⟨by decide, ?_⟩
  rcases hr with ⟨hq, e⟩ | ⟨hq, hb, e⟩
  · have e32 : si_e C P c % 32 = 16 + c := by unfold si_e; omega
    have enx : cs_nx (P c) = 0 := if_pos hq
    have hvo : a_visitOf c = nI 0 := by rw [hX.1 c hc, cs_vo_4 hq]
    have hcn := cs_cn_4 (C := C) (c := c) hq
    refine pk_lt (si_e C P c % 32) 16 (fun h => by omega) (fun h => ?_)
    refine xw_goOn (k := 0) hv hc hvo (by omega) hch (by omega) (fun h0 => ?_) (fun h0 => ?_)
    · have hnx : cs_nx (P c) = cf_v C c := by omega
      have hcn' := cs_cn_e5 (T := T) hnx
      have hM0 : lo_M C (si_fu P c (si_en C T c (P c))) = lo_M C P := by omega
      refine K _ _ _ _ _ _ _ _ _ _ ⟨xr_en hv hX hc (Or.inl hq) (by omega) (by rw [hvo, enx]) (fun d hd => rfl) (fun w => by omega) (fun x _ => rfl) (fun _ => pk_us) (fun d hd => pk_un hd) (xh_ws0 hv hc (Or.inl hq) hnx hX.2.2.2.2.1) (xh_fr4 hc hq hX.2.2.2.2.2), by rw [hM0]; exact hch, ?_⟩
      rw [hM0]
      refine lo_R_up hL (Nat.le_refl _) (fun s τ => ?_) (fun s τ => ?_)
      · rw [hA, lo_f (p := cs_nx (P c) < cf_v C c ∧ _) (by omega), lo_f (p := cs_q (P c) < 4 ∧ _) (by omega)]; omega
      · rw [hW, lo_f (p := cs_nx (P c) < cf_v C c ∧ _) (by omega)]; omega
    · have hnx : cs_nx (P c) < cf_v C c := by omega
      have hcn' := cs_cn_ek (T := T) hnx hv4
      have ht := (hv.2.2.2 c _ hc h0).1
      have hM1 : lo_M C (si_fu P c (si_en C T c (P c))) = lo_M C P + 1 := by omega
      rw [← enx]
      rw [← enx] at ht
      refine K _ _ _ _ _ _ _ _ _ _ ⟨xr_en hv hX hc (Or.inl hq) (by omega) (by rw [hvo, enx]) (fun d hd => rfl) (fun w => pk_us) (fun x hx => pk_un (hx hnx)) (fun w => by omega) (fun d hd => rfl) (xh_ws hv hc (Or.inl hq) hnx hX.2.2.2.2.1) (xh_fr4 hc hq hX.2.2.2.2.2), by rw [hM1], ?_⟩
      rw [hM1]
      refine lo_R_nt (a := 1) (w := 1) hL ht (by omega) (by omega) (fun s τ => ?_) (fun s τ => ?_)
      · rw [hA, lo_f (p := cs_q (P c) < 4 ∧ _) (by omega), lo_c (p := cs_nx (P c) < cf_v C c ∧ _) ⟨fun w => w.2, fun w => ⟨hnx, w⟩⟩]; omega
      · rw [hW, lo_c (p := cs_nx (P c) < cf_v C c ∧ _) ⟨fun w => w.2, fun w => ⟨hnx, w⟩⟩]
  · have e32 : si_e C P c % 32 = c := by unfold si_e; omega
    have enx : cs_nx (P c) = cs_q (P c) + 1 := if_neg (by omega)
    have hvo : a_visitOf c = nI (cs_q (P c)) := by rw [hX.1 c hc, cs_vo_q hq]
    have hq2 := o.2.1 hq
    have ht := (hv.2.2.2 c _ hc hq2).1
    have hcn := cs_cn_s (C := C) (c := c) hq hb
    have hsv := hv.2.1 _ ht
    have hlow : cs_nx (P c) ≤ cf_v C c := by omega
    refine pk_lt (si_e C P c % 32) 16 (fun h => ?_) (fun h => by omega)
    refine xw_finish (k := cs_q (P c)) (f := cf_s C (cf_t C (4 * c + cs_q (P c))) - si_nc C P (cf_t C (4 * c + cs_q (P c))) (cf_n C)) hv hc hvo hq2 hch ?_ (hX.2.2.2.2.2 _ ht) (by omega) (fun h0 => ?_) (fun h0 => ?_)
    · by_cases z : cs_nx (P c) = cf_v C c
      · have hcn' := cs_cn_e5 (T := T) z
        omega
      · have hcn' := cs_cn_ek (T := T) (show cs_nx (P c) < cf_v C c by omega) hv4
        omega
    · have hnx : cs_nx (P c) = cf_v C c := by omega
      have hcn' := cs_cn_e5 (T := T) hnx
      have hM1 : lo_M C (si_fu P c (si_en C T c (P c))) = lo_M C P + 1 := by omega
      refine K _ _ _ _ _ _ _ _ _ _ ⟨xr_en hv hX hc (Or.inr ⟨hq, hb⟩) hlow (by rw [pk_us, enx]) (fun d hd => pk_un hd) (fun w => by omega) (fun x _ => rfl) (fun _ => pk_us) (fun d hd => pk_un hd) (xh_ws0 hv hc (Or.inr ⟨hq, hb⟩) hnx hX.2.2.2.2.1) (xh_frs hc hK hq hb hX.2.2.2.2.2), by rw [hM1], ?_⟩
      rw [hM1]
      refine lo_R_nt (a := -1) (w := 0) hL ht (by omega) (by omega) (fun s τ => ?_) (fun s τ => ?_)
      · rw [hA, lo_f (p := cs_nx (P c) < cf_v C c ∧ _) (by omega), lo_c (p := cs_q (P c) < 4 ∧ _) ⟨fun w => w.2, fun w => ⟨hq, w⟩⟩]; omega
      · rw [hW, lo_f (p := cs_nx (P c) < cf_v C c ∧ _) (by omega)]
        by_cases w : cf_t C (4 * c + cs_q (P c)) = s ∧ T ≤ τ
        · rw [lo_t w]
        · rw [lo_f w]
    · have hnx : cs_nx (P c) < cf_v C c := by omega
      have hcn' := cs_cn_ek (T := T) hnx hv4
      have ht2 := (hv.2.2.2 c _ hc hnx).1
      have hM1 : lo_M C (si_fu P c (si_en C T c (P c))) = lo_M C P + 1 + 1 := by omega
      rw [← enx]
      refine K _ _ _ _ _ _ _ _ _ _ ⟨xr_en hv hX hc (Or.inr ⟨hq, hb⟩) hlow pk_us (fun d hd => pk_un hd) (fun w => pk_us) (fun x hx => pk_un (hx hnx)) (fun w => by omega) (fun d hd => rfl) (xh_ws hv hc (Or.inr ⟨hq, hb⟩) hnx hX.2.2.2.2.1) (xh_frs hc hK hq hb hX.2.2.2.2.2), by rw [hM1], ?_⟩
      rw [hM1]
      have hL1 := lo_R_nt (A' := fun s' τ => lo_A C P s' τ + lo_i (cf_t C (4 * c + cs_q (P c)) = s' ∧ T ≤ τ) (-1)) (W' := lo_W C P) (a := -1) (w := 0) hL ht (by omega) (by omega) (fun s τ => rfl) (fun s τ => by
        by_cases w : cf_t C (4 * c + cs_q (P c)) = s ∧ T ≤ τ
        · rw [lo_t w]; omega
        · rw [lo_f w]; omega)
      refine lo_R_nt (a := 1) (w := 1) hL1 ht2 (by omega) (by omega) (fun s τ => ?_) (fun s τ => ?_)
      · rw [hA, lo_c (p := cs_nx (P c) < cf_v C c ∧ _) ⟨fun w => w.2, fun w => ⟨hnx, w⟩⟩, lo_c (p := cs_q (P c) < 4 ∧ _) ⟨fun w => w.2, fun w => ⟨hq, w⟩⟩]; omega
      · rw [hW, lo_c (p := cs_nx (P c) < cf_v C c ∧ _) ⟨fun w => w.2, fun w => ⟨hnx, w⟩⟩]
end
end
section
/-! the component: serving, and the loops of a run -/
theorem yx_6 (T d c : Nat) : (32 : Int32) * (nI T + nI d) + nI c = nI (32 * (T + d) + c) := by
  rw [nI_add T d, ← nI_add (32 * (T + d)) c, ← pk_mul]; rfl
theorem xs_bg {C : si_CF} {P : Nat → si_CS} {T s c : Nat} {ch : Int32} {tj tb tl vo ws fr ct cs ca cw : Nat → Int32} (hv : cf_V C) (hO : si_OK C (T + 1) (T + 1) P) (hs : s < 4) (hw : si_wt C s c (P c) = true)
    (hR : xs_R C P T ch tj tb tl vo ws fr ct cs ca cw) :
    xs_R C (si_fu P c (si_bg T (P c))) T (nI (lo_M C P + 1)) tj (upd tb (4 * c + cs_q (P c)) (nI T)) tl vo (upd ws s (ws s &&& (((1 : Int32) <<< (nI c &&& 31)) ^^^ (-1))))
      (upd fr s (nI (cf_s C s - si_nc C P s (cf_n C) - 1))) (upd ct (lo_M C P) (nI T)) (upd cs (lo_M C P) (nI s)) (upd ca (lo_M C P) 0) (upd cw (lo_M C P) (-1)) := by
  obtain ⟨⟨r1, r2, r3, r4, r5, r6⟩, hch, hL⟩ := hR
  have h12 := hv.1
  have w := si_wt_i.mp hw
  have hc := w.1
  have hq := w.2.1
  have hq2 := (hO c hc).2.1 hq
  have hMf := lo_M_fu (P := P) (r := si_bg T (P c)) hc
  rw [cs_cn_w hq w.2.2.1, cs_cn_s (r := si_bg T (P c)) hq rfl] at hMf
  have hM1 : lo_M C (si_fu P c (si_bg T (P c))) = lo_M C P + 1 := by
    have : cs_q (si_bg T (P c)) = cs_q (P c) := rfl
    omega
  refine ⟨⟨fun d hd => ?_, fun d k hd hk he => ?_, fun d k hd hk he => ?_, fun d hd h5 => ?_, fun s' hs' i hi => ?_, fun s' hs' => ?_⟩, by rw [hM1], ?_⟩
  · by_cases z : d = c
    · rw [z, si_fs]; exact r1 c hc
    · rw [si_fn z]; exact r1 d hd
  · by_cases z : d = c
    · rw [z] at hk ⊢
      rw [z, si_fs] at he
      rw [si_fs]; exact r2 c k hc hk he
    · rw [si_fn z] at he ⊢; exact r2 d k hd hk he
  · have hv4 := (hv.2.2.1 d hd).2
    have hv4' := (hv.2.2.1 c hc).2
    by_cases z : d = c
    · rw [z] at hk ⊢
      rw [z, si_fs] at he
      rw [si_fs]
      show _ = nI (si_fu (cs_B (P c)) (cs_q (P c)) T k)
      by_cases y : k = cs_q (P c)
      · rw [y, pk_us, si_fs]
      · rw [pk_un (by omega), si_fn y]
        have he' : cs_q (P c) = 5 ∨ (cs_q (P c) < 4 ∧ (k < cs_q (P c) ∨ (k = cs_q (P c) ∧ true = true))) := he
        exact r3 c k hc hk (by
          rcases he' with w | ⟨w1, w | ⟨w, _⟩⟩
          · exact Or.inl w
          · exact Or.inr ⟨w1, Or.inl w⟩
          · exact absurd w y)
    · rw [si_fn z] at he ⊢
      rw [pk_un (by omega)]
      exact r3 d k hd hk he
  · by_cases z : d = c
    · rw [z, si_fs] at h5; exact absurd h5 (show ¬ cs_q (P c) = 5 by omega)
    · rw [si_fn z] at h5 ⊢; exact r4 d hd h5
  · by_cases y : s' = s
    · rw [y, pk_us, ws_cl _ (by omega) hi, r5 s hs i hi]
      by_cases z : i = c
      · rw [z, si_fs, si_bg_wt, decide_eq_true rfl]; simp
      · rw [si_fn z, decide_eq_false z]; simp
    · rw [pk_un y, r5 s' hs' i hi, si_bg_ww y hw]
  · by_cases y : s' = s
    · rw [y, pk_us, si_bg_nc hw]; exact congrArg nI (by omega)
    · rw [pk_un y, si_bg_nn y hw]; exact r6 s' hs'
  · rw [hM1]
    refine lo_R_nt (a := 0) (w := -1) hL hs (by omega) (by omega) (fun s' τ => ?_) (fun s' τ => ?_)
    · rw [lo_A_bg hc hq w.2.2.1 hq2]
      by_cases z : s = s' ∧ T ≤ τ
      · rw [lo_t z]; omega
      · rw [lo_f z]; omega
    · rw [lo_W_bg hv hc hq w.2.2.1 hq2, w.2.2.2]
theorem si_e_bg {C : si_CF} {P : Nat → si_CS} {T c s : Nat} (hw : si_wt C s c (P c) = true) : si_e C (si_fu P c (si_bg T (P c))) = si_fu (si_e C P) c (32 * (T + cf_d C (4 * c + cs_q (P c))) + c) := by
  have w := si_wt_i.mp hw
  funext d
  unfold si_e
  by_cases z : d = c
  · rw [z, si_fs, si_fs, si_ev_s w.1 (show cs_q (si_bg T (P c)) < 4 from w.2.1) rfl]
    show 32 * (si_fu (cs_B (P c)) (cs_q (P c)) T (cs_q (P c)) + _) + c = _
    rw [si_fs]; rfl
  · rw [si_fn z, si_fn z]
theorem si_e_en {C : si_CF} {P : Nat → si_CS} {T c : Nat} (hv : cf_V C) (hO : si_ok C (T + 1) T c (P c)) (hd : si_e C P c ≠ 0) : si_e C (si_fu P c (si_en C T c (P c))) = si_fu (si_e C P) c 0 := by
  obtain ⟨hc, hr⟩ := si_ev_c hd
  funext d
  unfold si_e
  by_cases z : d = c
  · rw [z, si_fs, si_fs]
    refine si_en_0 ?_
    by_cases y : cs_q (P c) = 3
    · exact Or.inr ⟨(hv.2.2.1 c hc).2, hO.2.1 (by omega)⟩
    · exact Or.inl y
  · rw [si_fn z, si_fn z]
theorem si_ea_en {C : si_CF} {P : Nat → si_CS} {T c : Nat} (hv : cf_V C) (hO : si_ok C (T + 1) T c (P c)) (hd : si_e C P c ≠ 0 ∧ si_e C P c / 32 = T) : si_ea C T (si_fu P c (si_en C T c (P c))) = si_ea C T P := by
  funext d
  unfold si_ea
  rw [si_e_en hv hO hd.1]
  by_cases z : d = c
  · rw [z, si_fs, si_fs, if_neg (fun w => w.1 rfl), if_pos hd]
  · rw [si_fn z, si_fn z]
section
variable {f_customers f_changes f_engine f_pending f_today f_root f_lastTaken : Int32} {a_servers a_rules a_arrivalOf a_visitCount a_visitStation a_visitNeed a_joinTime a_beginTime a_leaveTime a_keptTime a_keptJoin a_keptBegin a_changeTime a_changeStation a_changeAt a_changeWaits a_visitOf a_waitingSet a_free a_heap a_dayFirst a_nextInDay a_eventOf a_firstChild a_nextSibling a_pairs a_bucketFirst : Nat → Int32} {C : si_CF} {P : Nat → si_CS}
theorem xw_sl {post : SX → Prop} {e lo s T : Nat} {tj tl vo : Nat → Int32} (hv : cf_V C) (he : e < 4) (hs : s < 4) (hT : T < 1600) (hlo : lo < 32 * (T + 1)) :
  ∀ (f : Nat) (P : Nat → si_CS) (ch pe td rt lk : Int32) (tb ws fr ct cs ca cw hp df nd eo fc ns pr bf : Nat → Int32), si_wc C P s < f → si_OK C (T + 1) (T + 1) P → si_K C P → xa_R C P e lo T ch pe td rt lk tj tb tl vo ws fr ct cs ca cw hp df nd eo fc ns pr bf →
    (∀ (ch pe td rt lk : Int32) (tb ws fr ct cs ca cw hp df nd eo fc ns pr bf : Nat → Int32), xa_R C (si_sl C s T f P) e lo T ch pe td rt lk tj tb tl vo ws fr ct cs ca cw hp df nd eo fc ns pr bf → post (nI (cf_n C), ch, nI e, pe, td, rt, lk, ai_N (cf_s C), ai_N (cf_r C), ai_N (cf_a C), ai_N (cf_v C), ai_N (cf_t C), ai_N (cf_d C), tj, tb, tl, a_keptTime, a_keptJoin, a_keptBegin, ct, cs, ca, cw, vo, ws, fr, hp, df, nd, eo, fc, ns, pr, bf)) →
    wX_serve_0 post (nI s) (nI T) f (nI (cf_n C)) ch (nI e) pe td rt lk (ai_N (cf_s C)) (ai_N (cf_r C)) (ai_N (cf_a C)) (ai_N (cf_v C)) (ai_N (cf_t C)) (ai_N (cf_d C)) tj tb tl a_keptTime a_keptJoin a_keptBegin ct cs ca cw vo ws fr hp df nd eo fc ns pr bf := by
  have h12 := hv.1
  have hsv := hv.2.1 s hs
  intro f
  induction f with
  | zero => intro P ch pe td rt lk tb ws fr ct cs ca cw hp df nd eo fc ns pr bf h; omega
  | succ f ih =>
    intro P ch pe td rt lk tb ws fr ct cs ca cw hp df nd eo fc ns pr bf hwc hO hK hR K
    have hX := hR.1.1
    have hKs := hK s hs
    refine ⟨pk_in s 4 hs, ?_⟩
    rw [nI_clamp (by omega : s < 2 ^ 31), hX.2.2.2.2.2 s hs]
    refine pk_le (cf_s C s - si_nc C P s (cf_n C)) 0 (fun h => ?_) (fun h => ⟨pk_in s 4 hs, ?_⟩)
    · refine K ch pe td rt lk tb ws fr ct cs ca cw hp df nd eo fc ns pr bf ?_
      cases hc : si_ch C P s (cf_n C) with
      | none => rw [si_sl_n hc]; exact hR
      | some c => rw [si_sl_f hc (by omega)]; exact hR
    · cases hc : si_ch C P s (cf_n C) with
      | none =>
        have hz : ws s = 0 := ws_0.mpr (fun i hi => by
          rw [hX.2.2.2.2.1 s hs i hi]
          by_cases y : i < cf_n C
          · exact (si_ch_n _).mp hc i y
          · exact bo_f (fun w => y (si_wt_i.mp w).1))
        refine br_t hz (K ch pe td rt lk tb ws fr ct cs ca cw hp df nd eo fc ns pr bf ?_)
        rw [si_sl_n hc]; exact hR
      | some c =>
        have cs' := si_ch_s _ _ hc
        have w := si_wt_i.mp cs'.2
        have hq := w.2.1
        have hq2 := (hO c w.1).2.1 hq
        have hv4 := (hv.2.2.1 c w.1).2
        have hD := hv.2.2.2 c _ w.1 hq2
        have hz : ¬ ws s = 0 := fun z => by
          have a := ws_0.mp z c (by omega)
          rw [hX.2.2.2.2.1 s hs c (by omega), cs'.2] at a
          exact nomatch a
        refine br_f hz ?_
        refine xw_choose hv hX hs (fun d hd a => ?_) ?_
        · have o := hO d hd
          have := o.2.2.1 _ (o.2.1 a) (Or.inr ⟨a, Nat.le_refl _⟩)
          exact ⟨o.2.1 a, by omega⟩
        · have eo1 : oi_I (si_ch C P s (cf_n C)) = nI c := by rw [hc]; rfl
          rw [eo1]
          refine ⟨pk_in c 12 (by omega), ?_⟩
          rw [nI_clamp (by omega : c < 2 ^ 31), hX.1 c w.1, cs_vo_q hq, yx_5]
          intro x4 e4
          subst e4
          refine ⟨pk_in s 4 hs, pk_in s 4 hs, ?_⟩
          intro y ey
          subst ey
          refine ⟨pk_in s 4 hs, pk_in s 4 hs, ?_⟩
          have e1 : nI (cf_s C s - si_nc C P s (cf_n C)) - 1 = nI (cf_s C s - si_nc C P s (cf_n C) - 1) := pk_sub (b := 1) (by omega)
          rw [e1, by_2 (by omega)]
          intro y ey
          subst ey
          rw [nI_clamp (by omega : 4 * c + cs_q (P c) < 2 ^ 31)]
          refine ⟨pk_in (4 * c + cs_q (P c)) 48 (by omega), ?_⟩
          intro y ey
          subst ey
          have hO' := si_OK_bg hv (Nat.le_refl _) hO cs'.2
          have hM := lo_M_le hv hO'
          have hMf := lo_M_fu (P := P) (r := si_bg T (P c)) w.1
          rw [cs_cn_w hq w.2.2.1, cs_cn_s (r := si_bg T (P c)) hq rfl] at hMf
          have hMm : lo_M C P < 160 := by
            have : cs_q (si_bg T (P c)) = cs_q (P c) := rfl
            omega
          refine xw_note (m := lo_M C P) hR.1.2.1 hMm hs by_6 by_4 ?_
          refine ⟨pk_in (4 * c + cs_q (P c)) 48 (by omega), ?_⟩
          rw [ai_at, yx_6]
          have hxb := xs_bg hv hO hs cs'.2 hR.1
          have he0 : si_e C P c = 0 := si_ev_0 (by omega) (fun _ => w.2.2.1)
          refine qu_add he rfl hR.2 (c := c) (by omega) he0 (by omega) (by omega) (by omega) (by omega) ?_
          intro pe' td' rt' lk' hp' df' nd' eo' fc' ns' pr' bf' hq'
          refine ih (si_fu P c (si_bg T (P c))) _ pe' td' rt' lk' _ _ _ _ _ _ _ hp' df' nd' eo' fc' ns' pr' bf' ?_ hO' (si_K_bg hK cs'.2 (by omega)) ⟨hxb, by rw [si_e_bg cs'.2]; exact hq'⟩ ?_
          · have := si_bg_wc (T := T) cs'.2
            omega
          · intro ch pe td rt lk tb ws fr ct cs ca cw hp df nd eo fc ns pr bf hR'
            refine K ch pe td rt lk tb ws fr ct cs ca cw hp df nd eo fc ns pr bf ?_
            rw [si_sl_g hc (by omega)]; exact hR'
theorem xw_130 {post : SX → Prop} {J87 : Int32 → Int32 → Int32 → Int32 → Int32 → Int32 → Int32 →  (Nat → Int32) → (Nat → Int32) → (Nat → Int32) → (Nat → Int32) → (Nat → Int32) → (Nat → Int32) → (Nat → Int32) → (Nat → Int32) → (Nat → Int32) → (Nat → Int32) → (Nat → Int32) → (Nat → Int32) → (Nat → Int32) → (Nat → Int32) → (Nat → Int32) → (Nat → Int32) → (Nat → Int32) → (Nat → Int32) → (Nat → Int32) → (Nat → Int32) → (Nat → Int32) → (Nat → Int32) → (Nat → Int32) → (Nat → Int32) → (Nat → Int32) → (Nat → Int32) → (Nat → Int32) →  Prop} {e lo T : Nat} {Q : Nat → si_CS} {tj tl vo : Nat → Int32} (hv : cf_V C) (he : e < 4) (hT : T < 1600) (hlo : lo < 32 * (T + 1)) (hO : si_OK C (T + 1) (T + 1) Q) (hK : si_K C Q)
  (K : ∀ (ch pe td rt lk : Int32) (tb ws fr ct cs ca cw hp df nd eo fc ns pr bf : Nat → Int32), xa_R C (si_ss C T 4 Q) e lo T ch pe td rt lk tj tb tl vo ws fr ct cs ca cw hp df nd eo fc ns pr bf → J87 (nI (cf_n C)) ch (nI e) pe td rt lk (ai_N (cf_s C)) (ai_N (cf_r C)) (ai_N (cf_a C)) (ai_N (cf_v C)) (ai_N (cf_t C)) (ai_N (cf_d C)) tj tb tl a_keptTime a_keptJoin a_keptBegin ct cs ca cw vo ws fr hp df nd eo fc ns pr bf) :
  ∀ (N i : Nat) (ch pe td rt lk : Int32) (tb ws fr ct cs ca cw hp df nd eo fc ns pr bf : Nat → Int32), 4 < i + N → i ≤ 4 → xa_R C (si_ss C T i Q) e lo T ch pe td rt lk tj tb tl vo ws fr ct cs ca cw hp df nd eo fc ns pr bf → wX_run_130 post J87 (nI T) N (nI i) (nI (cf_n C)) ch (nI e) pe td rt lk (ai_N (cf_s C)) (ai_N (cf_r C)) (ai_N (cf_a C)) (ai_N (cf_v C)) (ai_N (cf_t C)) (ai_N (cf_d C)) tj tb tl a_keptTime a_keptJoin a_keptBegin ct cs ca cw vo ws fr hp df nd eo fc ns pr bf := by
  have h12 := hv.1
  intro N
  induction N with
  | zero => intro i ch pe td rt lk tb ws fr ct cs ca cw hp df nd eo fc ns pr bf h h'; omega
  | succ N ih =>
    intro i ch pe td rt lk tb ws fr ct cs ca cw hp df nd eo fc ns pr bf hN hi hR
    refine pk_le 4 i (fun h => ?_) (fun h => ?_)
    · have ei : i = 4 := by omega
      subst ei
      exact K ch pe td rt lk tb ws fr ct cs ca cw hp df nd eo fc ns pr bf hR
    · have hO' := si_ss_ind (F := fun P => si_OK C (T + 1) (T + 1) P) (fun _ _ _ _ hF hw _ => si_OK_bg hv (Nat.le_refl _) hF hw) i Q hi hO
      have hK' := si_ss_ind (F := fun P => si_K C P) (T := T) (fun _ _ _ _ hF hw hn => si_K_bg hF hw hn) i Q hi hK
      refine ⟨13, ?_⟩
      refine xw_sl hv he h hT hlo 13 (si_ss C T i Q) ch pe td rt lk tb ws fr ct cs ca cw hp df nd eo fc ns pr bf (by have := si_wc_le C (si_ss C T i Q) i; omega) hO' hK' hR ?_
      intro ch pe td rt lk tb ws fr ct cs ca cw hp df nd eo fc ns pr bf hR' y ey
      rw [nI_1] at ey
      subst ey
      exact ih (i + 1) ch pe td rt lk tb ws fr ct cs ca cw hp df nd eo fc ns pr bf (by omega) (by omega) hR'
theorem xw_99 {post : SX → Prop} {J87 : Int32 → Int32 → Int32 → Int32 → Int32 → Int32 → Int32 →  (Nat → Int32) → (Nat → Int32) → (Nat → Int32) → (Nat → Int32) → (Nat → Int32) → (Nat → Int32) → (Nat → Int32) → (Nat → Int32) → (Nat → Int32) → (Nat → Int32) → (Nat → Int32) → (Nat → Int32) → (Nat → Int32) → (Nat → Int32) → (Nat → Int32) → (Nat → Int32) → (Nat → Int32) → (Nat → Int32) → (Nat → Int32) → (Nat → Int32) → (Nat → Int32) → (Nat → Int32) → (Nat → Int32) → (Nat → Int32) → (Nat → Int32) → (Nat → Int32) → (Nat → Int32) →  Prop} {e T : Nat} {Q : Nat → si_CS} (hv : cf_V C) (he : e < 4) (hT : T < 1600)
  (K : ∀ (lo : Nat) (ch pe td rt lk : Int32) (tj tb tl vo ws fr ct cs ca cw hp df nd eo fc ns pr bf : Nat → Int32), lo < 32 * (T + 1) → xa_R C (si_ss C T 4 (si_ea C T Q)) e lo T ch pe td rt lk tj tb tl vo ws fr ct cs ca cw hp df nd eo fc ns pr bf → J87 (nI (cf_n C)) ch (nI e) pe td rt lk (ai_N (cf_s C)) (ai_N (cf_r C)) (ai_N (cf_a C)) (ai_N (cf_v C)) (ai_N (cf_t C)) (ai_N (cf_d C)) tj tb tl a_keptTime a_keptJoin a_keptBegin ct cs ca cw vo ws fr hp df nd eo fc ns pr bf) :
  ∀ (N : Nat) (P : Nat → si_CS) (lo : Nat) (ch pe td rt lk : Int32) (tj tb tl vo ws fr ct cs ca cw hp df nd eo fc ns pr bf : Nat → Int32), qu_n (si_e C P) < N → si_ea C T P = si_ea C T Q → si_OK C (T + 1) T P → si_K C P → lo < 32 * (T + 1) → xa_R C P e lo T ch pe td rt lk tj tb tl vo ws fr ct cs ca cw hp df nd eo fc ns pr bf → wX_run_99 post J87 (nI T) N (nI (cf_n C)) ch (nI e) pe td rt lk (ai_N (cf_s C)) (ai_N (cf_r C)) (ai_N (cf_a C)) (ai_N (cf_v C)) (ai_N (cf_t C)) (ai_N (cf_d C)) tj tb tl a_keptTime a_keptJoin a_keptBegin ct cs ca cw vo ws fr hp df nd eo fc ns pr bf := by
  have h12 := hv.1
  intro N
  induction N with
  | zero => intro P lo ch pe td rt lk tj tb tl vo ws fr ct cs ca cw hp df nd eo fc ns pr bf h; omega
  | succ N ih =>
    intro P lo ch pe td rt lk tj tb tl vo ws fr ct cs ca cw hp df nd eo fc ns pr bf hN hea hO hK hlo hR
    have hpe := hR.2.2.2.2.1
    have hle := qu_n_le (si_e C P)
    have hE := hR.2.1
    have fin : (∀ c, ¬ (si_e C P c ≠ 0 ∧ si_e C P c / 32 = T)) → ∃ n130 : Nat, wX_run_130 post J87 (nI T) n130 0 (nI (cf_n C)) ch (nI e) pe td rt lk (ai_N (cf_s C)) (ai_N (cf_r C)) (ai_N (cf_a C)) (ai_N (cf_v C)) (ai_N (cf_t C)) (ai_N (cf_d C)) tj tb tl a_keptTime a_keptJoin a_keptBegin ct cs ca cw vo ws fr hp df nd eo fc ns pr bf := by
      intro hno
      have e0 : si_ea C T P = P := funext fun c => if_neg (hno c)
      have hO' : si_OK C (T + 1) (T + 1) P := by rw [← e0]; exact si_OK_ea hv hO
      refine ⟨5, ?_⟩
      refine xw_130 (Q := P) hv he hT hlo hO' hK ?_ 5 0 ch pe td rt lk tb ws fr ct cs ca cw hp df nd eo fc ns pr bf (by omega) (by omega) hR
      intro ch pe td rt lk tb ws fr ct cs ca cw hp df nd eo fc ns pr bf hR'
      refine K lo ch pe td rt lk tj tb tl vo ws fr ct cs ca cw hp df nd eo fc ns pr bf hlo ?_
      rw [← hea, e0]; exact hR'
    refine pk_le (qu_n (si_e C P)) 0 (fun h => fin (fun c z => ?_)) (fun h => ?_) hpe
    · have := qu_n_pos (hE c z.1).1 z.1
      omega
    · obtain ⟨c, hM⟩ := qu_M_ex hE h
      have hdn := (si_ev_c hM.2.1).1
      have o := hO c hdn
      have hcl := qu_E_lt hE c
      refine qu_next he rfl hR.2 hM ?_
      refine pk_eq (si_e C P c / 32) T (fun hT' => ?_) (fun hT' => fin (fun d z => ?_))
      · have hd : si_e C P c ≠ 0 ∧ si_e C P c / 32 = T := ⟨hM.2.1, hT'⟩
        refine qu_take he rfl hR.2 hM ?_
        intro pe' td' rt' lk' hp' df' nd' eo' fc' ns' pr' bf' hq'
        refine xw_handle hv hO hK (by omega) hd hR.1 ?_
        intro ch' tj' tl' vo' ws' fr' ct' cs' ca' cw' hx'
        have hok := si_ok_en hv o hd
        refine ih (si_fu P c (si_en C T c (P c))) (si_e C P c) ch' pe' td' rt' lk' tj' tb tl' vo' ws' fr' ct' cs' ca' cw' hp' df' nd' eo' fc' ns' pr' bf' ?_ ?_ ?_ ?_ (by omega) ⟨hx', by rw [si_e_en hv o hM.2.1]; exact hq'⟩
        · rw [si_e_en hv o hM.2.1]
          have := qu_n_cut hM.1 hM.2.1
          omega
        · rw [si_ea_en hv o hd]; exact hea
        · intro d hdn'
          by_cases z : d = c
          · rw [z, si_fs]; exact si_ok_up (Nat.le_refl _) (Nat.le_succ _) hok
          · rw [si_fn z]; exact hO d hdn'
        · intro s hs
          have k := si_en_nc (T := T) (s := s) (P := P) hdn
          have := hK s hs
          omega
      · have h1 := hM.2.2 d z.1
        have h2 : T ≤ si_e C P c / 32 := by
          unfold si_e
          rcases (si_ev_c hM.2.1).2 with ⟨hq, e⟩ | ⟨hq, hb, e⟩
          · have := o.2.2.2.2.2.2.2 hq
            omega
          · have := o.2.2.2.2.2.2.1 hq hb
            omega
        have h3 := Nat.div_le_div_right (c := 32) h1
        omega
theorem xw_87 {post : SX → Prop} {e : Nat} (hv : cf_V C) (he : e < 4) (K : ∀ (lo T : Nat) (ch pe td rt lk : Int32) (tj tb tl vo ws fr ct cs ca cw hp df nd eo fc ns pr bf : Nat → Int32), T ≤ 1541 → xa_R C (si_F C) e lo T ch pe td rt lk tj tb tl vo ws fr ct cs ca cw hp df nd eo fc ns pr bf → post (nI (cf_n C), ch, nI e, pe, td, rt, lk, ai_N (cf_s C), ai_N (cf_r C), ai_N (cf_a C), ai_N (cf_v C), ai_N (cf_t C), ai_N (cf_d C), tj, tb, tl, a_keptTime, a_keptJoin, a_keptBegin, ct, cs, ca, cw, vo, ws, fr, hp, df, nd, eo, fc, ns, pr, bf)) :
  ∀ (N t lo T : Nat) (ch pe td rt lk : Int32) (tj tb tl vo ws fr ct cs ca cw hp df nd eo fc ns pr bf : Nat → Int32), 1541 < t + N → t ≤ 1541 → T ≤ t → xa_R C (si_S C t) e lo T ch pe td rt lk tj tb tl vo ws fr ct cs ca cw hp df nd eo fc ns pr bf → wX_run_87 post N (nI (cf_n C)) ch (nI e) pe td rt lk (ai_N (cf_s C)) (ai_N (cf_r C)) (ai_N (cf_a C)) (ai_N (cf_v C)) (ai_N (cf_t C)) (ai_N (cf_d C)) tj tb tl a_keptTime a_keptJoin a_keptBegin ct cs ca cw vo ws fr hp df nd eo fc ns pr bf := by
  have h12 := hv.1
  intro N
  induction N with
  | zero => intro t lo T ch pe td rt lk tj tb tl vo ws fr ct cs ca cw hp df nd eo fc ns pr bf h h'; omega
  | succ N ih =>
    intro t lo T ch pe td rt lk tj tb tl vo ws fr ct cs ca cw hp df nd eo fc ns pr bf hN ht hTt hR
    have hpe := hR.2.2.2.2.1
    have hle := qu_n_le (si_e C (si_S C t))
    have hE := hR.2.1
    have hG := si_Gt hv t
    refine pk_le (qu_n (si_e C (si_S C t))) 0 (fun h => ?_) (fun h => ?_) hpe
    · refine K lo T ch pe td rt lk tj tb tl vo ws fr ct cs ca cw hp df nd eo fc ns pr bf (by omega) ?_
      rw [← si_F_eq hv (t := t)]
      · exact hR
      · refine si_e0_A hv hG (fun c => ?_)
        by_cases z : si_e C (si_S C t) c = 0
        · exact z
        · have := qu_n_pos (hE c z).1 z
          omega
    · obtain ⟨c, hM⟩ := qu_M_ex hE h
      refine qu_next he rfl hR.2 hM ?_
      obtain ⟨b1, b2, b3⟩ := si_ev_lt hv hM.2.1 (fun d hd => Nat.div_le_div_right (hM.2.2 d hd))
      have hlo := hR.2.2.2.1 c hM.2.1
      refine ⟨13, ?_⟩
      refine xw_99 (Q := si_S C t) hv he (by omega) ?_ 13 (si_S C t) lo ch pe td rt lk tj tb tl vo ws fr ct cs ca cw hp df nd eo fc ns pr bf (by omega) rfl ?_ hG.2.1 (by omega) ?_
      · intro lo' ch pe td rt lk tj tb tl vo ws fr ct cs ca cw hp df nd eo fc ns pr bf hlo' hR'
        refine ih (si_e C (si_S C t) c / 32 + 1) lo' (si_e C (si_S C t) c / 32) ch pe td rt lk tj tb tl vo ws fr ct cs ca cw hp df nd eo fc ns pr bf (by omega) (by omega) (by omega) ?_
        have es : si_S C (si_e C (si_S C t) c / 32 + 1) = si_ss C (si_e C (si_S C t) c / 32) 4 (si_ea C (si_e C (si_S C t) c / 32) (si_S C t)) := by
          show si_ss C _ 4 (si_ea C _ (si_S C _)) = _
          rw [b3]
        rw [es]; exact hR'
      · intro d hd
        have := (si_Gt hv (si_e C (si_S C t) c / 32)).1 d hd
        rw [b3] at this
        exact si_ok_up (Nat.le_succ _) (Nat.le_refl _) this
      · exact ⟨⟨hR.1.1, hR.1.2.1, lo_R_up hR.1.2.2 (by omega) (fun _ _ => rfl) (fun _ _ => rfl)⟩, hR.2⟩
end
end
section
/-! the component: how a run starts -/
theorem yx_7 (a c : Nat) : (32 : Int32) * nI a + 16 + nI c = nI (32 * a + 16 + c) := by
  rw [← nI_add (32 * a + 16) c, ← nI_add (32 * a) 16, ← pk_mul]; rfl
theorem si_S0_en {C : si_CF} {c k : Nat} (h : cs_en (si_S C 0 c) k) : False := h.elim (fun h => absurd h (show ¬ 4 = 5 by decide)) (fun h => absurd h.1 (show ¬ 4 < 4 by decide))
theorem si_S0_bn {C : si_CF} {c k : Nat} (h : cs_bn (si_S C 0 c) k) : False := h.elim (fun h => absurd h (show ¬ 4 = 5 by decide)) (fun h => absurd h.1 (show ¬ 4 < 4 by decide))
theorem si_S0_fi {C : si_CF} {c k : Nat} (h : cs_fi (si_S C 0 c) k) : False := h.elim (fun h => absurd h (show ¬ 4 = 5 by decide)) (fun h => absurd h.1 (show ¬ 4 < 4 by decide))
theorem xs_0 {C : si_CF} {tj tb tl vo ws fr ct cs ca cw : Nat → Int32} (h1 : ∀ c, c < cf_n C → vo c = 0) (h2 : ∀ s, s < 4 → ws s = 0) (h3 : ∀ s, s < 4 → fr s = nI (cf_s C s)) : xs_R C (si_S C 0) 0 0 tj tb tl vo ws fr ct cs ca cw := by
  have nw : ∀ s c, si_wt C s c (si_S C 0 c) = false := fun s c => bo_f (fun h => absurd (si_wt_i.mp h).2.1 (show ¬ 4 < 4 by decide))
  have ns : ∀ s c, si_sv C s c (si_S C 0 c) = false := fun s c => bo_f (fun h => absurd (si_sv_i.mp h).2.1 (show ¬ 4 < 4 by decide))
  have q4 : ∀ c, cs_q (si_S C 0 c) = 4 := fun c => rfl
  have hM : lo_M C (si_S C 0) = 0 := by
    have : lo_M C (si_S C 0) = sm_N (fun _ => 0) (cf_n C) := sm_N_eq (fun c _ => cs_cn_4 (q4 c))
    rw [this, sm_N_cst, Nat.zero_mul]
  refine ⟨⟨fun c hc => ?_, fun c k _ _ he => (si_S0_en he).elim, fun c k _ _ he => (si_S0_bn he).elim, fun c _ h5 => absurd h5 (show ¬ 4 = 5 by decide), fun s hs i hi => ?_, fun s hs => ?_⟩, by rw [hM]; rfl, ?_⟩
  · rw [h1 c hc, cs_vo_4 (q4 c)]; rfl
  · rw [h2 s hs, b_0, nw]
  · have e : si_nc C (si_S C 0) s (cf_n C) = sm_N (fun _ => 0) (cf_n C) := sm_N_eq (fun i _ => by rw [ns s i, if_neg (show ¬ false = true by decide)])
    rw [h3 s hs, e, sm_N_cst, Nat.zero_mul]; rfl
  · rw [hM]
    refine ⟨fun _ => 0, fun _ => 0, fun _ => 0, fun _ => 0, fun i hi => by omega, fun i hi => by omega, fun i j _ hj => by omega, fun s τ => ?_, fun s τ => ?_⟩
    · have : lo_A C (si_S C 0) s τ = sm_Z (fun _ => 0) 48 := sm_Z_eq (fun v _ => by
        unfold lo_J lo_E
        rw [lo_f (fun w => si_S0_en w.2.1), lo_f (fun w => si_S0_fi w.2.1)]; rfl)
      rw [this, sm_Z_0]; rfl
    · have : lo_W C (si_S C 0) s τ = sm_Z (fun _ => 0) 48 := sm_Z_eq (fun v _ => by
        unfold lo_J lo_B
        rw [lo_f (fun w => si_S0_en w.2.1), lo_f (fun w => si_S0_bn w.2.1)]; rfl)
      rw [this, sm_Z_0]; rfl
def si_e0 (C : si_CF) (i : Nat) : Nat → Nat := fun c => if c < i then si_e C (si_S C 0) c else 0
theorem si_e0_n (C : si_CF) : si_e0 C (cf_n C) = si_e C (si_S C 0) := funext fun c => by
  unfold si_e0
  by_cases h : c < cf_n C
  · rw [if_pos h]
  · rw [if_neg h]
    by_cases z : si_e C (si_S C 0) c = 0
    · exact z.symm
    · exact absurd (si_ev_c z).1 h
theorem si_e0_s {C : si_CF} {i : Nat} (h : i < cf_n C) : si_e0 C (i + 1) = si_fu (si_e0 C i) i (32 * cf_a C i + 16 + i) := funext fun c => by
  unfold si_e0
  by_cases z : c = i
  · rw [z, si_fs, if_pos (by omega)]; exact si_ev_4 h rfl
  · rw [si_fn z]
    by_cases y : c < i
    · rw [if_pos (by omega), if_pos y]
    · rw [if_neg (by omega), if_neg y]
section
variable {f_customers f_changes f_engine f_pending f_today f_root f_lastTaken : Int32} {a_servers a_rules a_arrivalOf a_visitCount a_visitStation a_visitNeed a_joinTime a_beginTime a_leaveTime a_keptTime a_keptJoin a_keptBegin a_changeTime a_changeStation a_changeAt a_changeWaits a_visitOf a_waitingSet a_free a_heap a_dayFirst a_nextInDay a_eventOf a_firstChild a_nextSibling a_pairs a_bucketFirst : Nat → Int32} {C : si_CF} {P : Nat → si_CS}
theorem xw_48 {post : SX → Prop} {e : Nat} {tj tb tl ws fr ct cs ca cw : Nat → Int32} (hv : cf_V C) (he : e < 4) (K : ∀ (lo T : Nat) (ch pe td rt lk : Int32) (tj tb tl vo ws fr ct cs ca cw hp df nd eo fc ns pr bf : Nat → Int32), T ≤ 1541 → xa_R C (si_F C) e lo T ch pe td rt lk tj tb tl vo ws fr ct cs ca cw hp df nd eo fc ns pr bf → post (nI (cf_n C), ch, nI e, pe, td, rt, lk, ai_N (cf_s C), ai_N (cf_r C), ai_N (cf_a C), ai_N (cf_v C), ai_N (cf_t C), ai_N (cf_d C), tj, tb, tl, a_keptTime, a_keptJoin, a_keptBegin, ct, cs, ca, cw, vo, ws, fr, hp, df, nd, eo, fc, ns, pr, bf))
  (h2 : ∀ s, s < 4 → ws s = 0) (h3 : ∀ s, s < 4 → fr s = nI (cf_s C s)) :
  ∀ (N i : Nat) (pe td rt lk : Int32) (vo hp df nd eo fc ns pr bf : Nat → Int32), cf_n C < i + N → i ≤ cf_n C → (∀ c, c < i → vo c = 0) → qu_R e 0 (si_e0 C i) pe td rt lk hp df nd eo fc ns bf →
    wX_run_48 post N (nI i) (nI (cf_n C)) 0 (nI e) pe td rt lk (ai_N (cf_s C)) (ai_N (cf_r C)) (ai_N (cf_a C)) (ai_N (cf_v C)) (ai_N (cf_t C)) (ai_N (cf_d C)) tj tb tl a_keptTime a_keptJoin a_keptBegin ct cs ca cw vo ws fr hp df nd eo fc ns pr bf := by
  have h12 := hv.1
  intro N
  induction N with
  | zero => intro i pe td rt lk vo hp df nd eo fc ns pr bf h h'; omega
  | succ N ih =>
    intro i pe td rt lk vo hp df nd eo fc ns pr bf hN hi hvo hR
    refine pk_le (cf_n C) i (fun h => ⟨1542, ?_⟩) (fun h => ⟨pk_in i 12 (by omega), ?_⟩)
    · have ei : i = cf_n C := by omega
      rw [ei, si_e0_n] at hR
      exact xw_87 hv he K 1542 0 0 0 0 pe td rt lk tj tb tl vo ws fr ct cs ca cw hp df nd eo fc ns pr bf (by omega) (by omega) (by omega) ⟨xs_0 (fun c hc => hvo c (by omega)) h2 h3, hR⟩
    · have ha := (hv.2.2.1 i h).1
      rw [nI_clamp (by omega : i < 2 ^ 31), show vp_nar .byte 0 = 0 from by_1 (c := 0) (by omega)]
      intro y ey
      subst ey
      rw [ai_at, yx_7]
      refine ⟨pk_in i 12 (by omega), ?_⟩
      refine qu_add he rfl hR (c := i) (by omega) (if_neg (by omega)) (by omega) (by omega) (by omega) (by omega) ?_
      intro pe' td' rt' lk' hp' df' nd' eo' fc' ns' pr' bf' hR' y ey
      rw [nI_1] at ey
      subst ey
      refine ih (i + 1) pe' td' rt' lk' _ hp' df' nd' eo' fc' ns' pr' bf' (by omega) (by omega) (fun c hc => ?_) (by rw [si_e0_s h]; exact hR')
      by_cases z : c = i
      · rw [z, pk_us]
      · rw [pk_un z]; exact hvo c (by omega)
theorem xw_16 {post : SX → Prop} {e : Nat} {pe td rt lk : Int32} {tj tb tl vo ct cs ca cw hp df nd eo fc ns pr bf : Nat → Int32} (hv : cf_V C) (he : e < 4) (K : ∀ (lo T : Nat) (ch pe td rt lk : Int32) (tj tb tl vo ws fr ct cs ca cw hp df nd eo fc ns pr bf : Nat → Int32), T ≤ 1541 → xa_R C (si_F C) e lo T ch pe td rt lk tj tb tl vo ws fr ct cs ca cw hp df nd eo fc ns pr bf → post (nI (cf_n C), ch, nI e, pe, td, rt, lk, ai_N (cf_s C), ai_N (cf_r C), ai_N (cf_a C), ai_N (cf_v C), ai_N (cf_t C), ai_N (cf_d C), tj, tb, tl, a_keptTime, a_keptJoin, a_keptBegin, ct, cs, ca, cw, vo, ws, fr, hp, df, nd, eo, fc, ns, pr, bf))
  (hR : qu_R e 0 (si_e0 C 0) pe td rt lk hp df nd eo fc ns bf) :
  ∀ (N i : Nat) (ws fr : Nat → Int32), 4 < i + N → i ≤ 4 → (∀ s, s < i → ws s = 0) → (∀ s, s < i → fr s = nI (cf_s C s)) → wX_run_16 post (nI (cf_n C)) 0 (nI e) pe td rt lk N (nI i) (ai_N (cf_s C)) (ai_N (cf_r C)) (ai_N (cf_a C)) (ai_N (cf_v C)) (ai_N (cf_t C)) (ai_N (cf_d C)) tj tb tl a_keptTime a_keptJoin a_keptBegin ct cs ca cw vo ws fr hp df nd eo fc ns pr bf := by
  intro N
  induction N with
  | zero => intro i ws fr h h'; omega
  | succ N ih =>
    intro i ws fr hN hi h2 h3
    refine pk_le 4 i (fun h => ⟨cf_n C + 1, ?_⟩) (fun h => ⟨pk_in i 4 h, ?_⟩)
    · exact xw_48 hv he K (fun s hs => h2 s (by omega)) (fun s hs => h3 s (by omega)) (cf_n C + 1) 0 pe td rt lk vo hp df nd eo fc ns pr bf (by omega) (by omega) (fun c hc => by omega) hR
    · have hs := hv.2.1 i h
      rw [nI_clamp (by omega : i < 2 ^ 31), ai_at, by_1 (by omega), nI_1]
      intro y ey
      subst ey
      refine ⟨pk_in i 4 h, pk_in i 4 h, ?_⟩
      intro y ey
      subst ey
      intro y ey
      subst ey
      refine ih (i + 1) _ _ (by omega) (by omega) (fun s hs => ?_) (fun s hs => ?_)
      · by_cases z : s = i
        · rw [z, pk_us]
        · rw [pk_un z]; exact h2 s (by omega)
      · by_cases z : s = i
        · rw [z, pk_us]
        · rw [pk_un z]; exact h3 s (by omega)
theorem xw_run {post : SX → Prop} {e : Nat} (hv : cf_V C) (he : e < 4) (K : ∀ (lo T : Nat) (ch pe td rt lk : Int32) (tj tb tl vo ws fr ct cs ca cw hp df nd eo fc ns pr bf : Nat → Int32), T ≤ 1541 → xa_R C (si_F C) e lo T ch pe td rt lk tj tb tl vo ws fr ct cs ca cw hp df nd eo fc ns pr bf → post (nI (cf_n C), ch, nI e, pe, td, rt, lk, ai_N (cf_s C), ai_N (cf_r C), ai_N (cf_a C), ai_N (cf_v C), ai_N (cf_t C), ai_N (cf_d C), tj, tb, tl, a_keptTime, a_keptJoin, a_keptBegin, ct, cs, ca, cw, vo, ws, fr, hp, df, nd, eo, fc, ns, pr, bf)) : wpX_run post (nI (cf_n C), f_changes, f_engine, f_pending, f_today, f_root, f_lastTaken, ai_N (cf_s C), ai_N (cf_r C), ai_N (cf_a C), ai_N (cf_v C), ai_N (cf_t C), ai_N (cf_d C), a_joinTime, a_beginTime, a_leaveTime, a_keptTime, a_keptJoin, a_keptBegin, a_changeTime, a_changeStation, a_changeAt, a_changeWaits, a_visitOf, a_waitingSet, a_free, a_heap, a_dayFirst, a_nextInDay, a_eventOf, a_firstChild, a_nextSibling, a_pairs, a_bucketFirst) (nI e) := by
  unfold wpX_run
  (try dsimp only)
  refine qu_start e ?_
  intro df bf hR
  have e0 : si_e0 C 0 = fun _ => 0 := funext fun c => if_neg (by omega)
  exact ⟨5, xw_16 hv he K (by rw [e0]; exact hR) 5 0 a_waitingSet a_free (by omega) (by omega) (fun s hs => by omega) (fun s hs => by omega)⟩
end
end
section
/-! how it ended: counts by times -/
theorem sm_Z_tail {f : Nat → Int} {i : Nat} : ∀ {m : Nat}, i ≤ m → (∀ j, i ≤ j → j < m → f j = 0) → sm_Z f m = sm_Z f i
  | 0, h, _ => by rw [show i = 0 from by omega]
  | m + 1, h, hz => by
    by_cases z : i = m + 1
    · rw [z]
    · have a := sm_Z_tail (f := f) (i := i) (m := m) (by omega) (fun j h1 h2 => hz j h1 (by omega))
      have b := hz m (by omega) (by omega)
      simp only [sm_Z]; omega
theorem sm_Z_bd {f : Nat → Int} {a b : Int} : ∀ {n : Nat}, (∀ i, i < n → a ≤ f i ∧ f i ≤ b) → a * n ≤ sm_Z f n ∧ sm_Z f n ≤ b * n
  | 0, _ => by simp [sm_Z]
  | n + 1, h => by
    have x := sm_Z_bd (f := f) (n := n) (fun i hi => h i (by omega))
    have y := h n (by omega)
    simp only [sm_Z]
    rw [Int.natCast_succ, Int.mul_add, Int.mul_add, Int.mul_one, Int.mul_one]
    omega
theorem sm_Z_sub (f g : Nat → Int) : ∀ n : Nat, sm_Z (fun i => f i - g i) n = sm_Z f n - sm_Z g n
  | 0 => rfl
  | n + 1 => by simp only [sm_Z]; rw [sm_Z_sub f g n]; omega
theorem sm_Z_swap (f : Nat → Nat → Int) (m : Nat) : ∀ n : Nat, sm_Z (fun i => sm_Z (fun j => f i j) m) n = sm_Z (fun j => sm_Z (fun i => f i j) n) m
  | 0 => by
    show 0 = _
    have : sm_Z (fun j => sm_Z (fun i => f i j) 0) m = sm_Z (fun _ => 0) m := sm_Z_eq (fun j _ => rfl)
    rw [this, sm_Z_0]
  | n + 1 => by
    have : sm_Z (fun j => sm_Z (fun i => f i j) (n + 1)) m = sm_Z (fun j => sm_Z (fun i => f i j) n + f n j) m := sm_Z_eq (fun j _ => rfl)
    rw [this, sm_Z_add, ← sm_Z_swap f m n]
    rfl
theorem lo_i01 (p : Prop) : 0 ≤ lo_i p 1 ∧ lo_i p 1 ≤ 1 := by
  by_cases h : p
  · rw [lo_t h]; omega
  · rw [lo_f h]; omega
theorem sm_Z_iv {a b : Nat} (h : a ≤ b) : ∀ n : Nat, b ≤ n → sm_Z (fun τ => lo_i (a ≤ τ ∧ τ < b) 1) n = (b : Int) - a := by
  intro n hn
  rw [sm_Z_tail (i := b) hn (fun j h1 h2 => lo_f (by omega))]
  have key : ∀ c, c ≤ b → sm_Z (fun τ => lo_i (a ≤ τ ∧ τ < b) 1) c = if a ≤ c then (c : Int) - a else 0 := by
    intro c
    induction c with
    | zero =>
      intro _
      show (0 : Int) = _
      split <;> omega
    | succ c ih =>
      intro hc
      show sm_Z _ c + lo_i (a ≤ c ∧ c < b) 1 = _
      rw [ih (by omega)]
      by_cases z : a ≤ c
      · rw [if_pos z, if_pos (by omega), lo_t (by omega)]; omega
      · rw [if_neg z, lo_f (by omega)]
        split <;> omega
  rw [key b (Nat.le_refl _), if_pos h]
/-- visit v has come by t and isn't over; it waits (1), it is served (2) -/
def nz_D (C : si_CF) (kind s t v : Nat) : Prop :=
  (v / 4 < cf_n C ∧ v % 4 < cf_v C (v / 4)) ∧ cf_t C v = s ∧ cs_J (si_F C (v / 4)) (v % 4) ≤ t ∧ t < cs_B (si_F C (v / 4)) (v % 4) + cf_d C v ∧
    (kind = 0 ∨ (kind = 1 ∧ t < cs_B (si_F C (v / 4)) (v % 4)) ∨ (kind = 2 ∧ cs_B (si_F C (v / 4)) (v % 4) ≤ t))
noncomputable def nz_N (C : si_CF) (kind s t : Nat) : Int := sm_Z (fun v => lo_i (nz_D C kind s t v) 1) 48
theorem nz_bd (C : si_CF) (kind s t : Nat) : 0 ≤ nz_N C kind s t ∧ nz_N C kind s t ≤ 48 := by
  have := sm_Z_bd (f := fun v => lo_i (nz_D C kind s t v) 1) (a := 0) (b := 1) (n := 48) (fun i _ => lo_i01 _)
  unfold nz_N
  omega
theorem nz_ok {C : si_CF} (hv : cf_V C) {v : Nat} (h : v / 4 < cf_n C ∧ v % 4 < cf_v C (v / 4)) :
    cs_J (si_F C (v / 4)) (v % 4) ≤ cs_B (si_F C (v / 4)) (v % 4) ∧ 1 ≤ cf_d C v ∧ cs_B (si_F C (v / 4)) (v % 4) + cf_d C v ≤ cs_G (si_F C (v / 4)) ∧ cs_G (si_F C (v / 4)) < 2000 ∧ cf_d C v ≤ 30 := by
  have hG := (si_Gt hv 2000).1 (v / 4) h.1
  have hA := si_F_A hv (v / 4) h.1
  have e : 4 * (v / 4) + v % 4 = v := by omega
  have hd := hv.2.2.2 _ _ h.1 h.2
  have a := hG.2.2.2.1 _ h.2 (Or.inl hA)
  have b := (hG.2.2.2.2.1 _ h.2 (Or.inl hA)).1 hA
  have c := hG.2.2.2.2.2.1 hA
  rw [e] at hd b
  exact ⟨a.1, hd.2.1, b, c, hd.2.2⟩
theorem nz_en {C : si_CF} (hv : cf_V C) {c : Nat} (hc : c < cf_n C) (k : Nat) : cs_en (si_F C c) k ∧ cs_bn (si_F C c) k ∧ cs_fi (si_F C c) k :=
  ⟨Or.inl (si_F_A hv c hc), Or.inl (si_F_A hv c hc), Or.inl (si_F_A hv c hc)⟩
theorem nz_A {C : si_CF} (hv : cf_V C) (s τ : Nat) : lo_A C (si_F C) s τ = nz_N C 0 s τ := by
  refine sm_Z_eq (fun v _ => ?_)
  have e : 4 * (v / 4) + v % 4 = v := by omega
  unfold lo_J lo_E nz_D
  rw [e]
  by_cases h : v / 4 < cf_n C ∧ v % 4 < cf_v C (v / 4)
  · have o := nz_ok hv h
    have n := nz_en hv h.1 (v % 4)
    by_cases h1 : cf_t C v = s
    · by_cases h2 : cs_J (si_F C (v / 4)) (v % 4) ≤ τ
      · by_cases h3 : cs_B (si_F C (v / 4)) (v % 4) + cf_d C v ≤ τ
        · rw [lo_t ⟨⟨h.1, h.2, h1⟩, n.1, h2⟩, lo_t ⟨⟨h.1, h.2, h1⟩, n.2.2, h3⟩, lo_f (fun w => by omega)]; rfl
        · rw [lo_t ⟨⟨h.1, h.2, h1⟩, n.1, h2⟩, lo_f (fun w => h3 w.2.2), lo_t ⟨h, h1, h2, by omega, Or.inl rfl⟩]; rfl
      · rw [lo_f (fun w => h2 w.2.2), lo_f (fun w => by have := w.2.2; omega), lo_f (fun w => h2 w.2.2.1)]; rfl
    · rw [lo_f (fun w => h1 w.1.2.2), lo_f (fun w => h1 w.1.2.2), lo_f (fun w => h1 w.2.1)]; rfl
  · rw [lo_f (fun w => h ⟨w.1.1, w.1.2.1⟩), lo_f (fun w => h ⟨w.1.1, w.1.2.1⟩), lo_f (fun w => h w.1)]; rfl
theorem nz_W {C : si_CF} (hv : cf_V C) (s τ : Nat) : lo_W C (si_F C) s τ = nz_N C 1 s τ := by
  refine sm_Z_eq (fun v _ => ?_)
  have e : 4 * (v / 4) + v % 4 = v := by omega
  unfold lo_J lo_B nz_D
  rw [e]
  by_cases h : v / 4 < cf_n C ∧ v % 4 < cf_v C (v / 4)
  · have o := nz_ok hv h
    have n := nz_en hv h.1 (v % 4)
    by_cases h1 : cf_t C v = s
    · by_cases h2 : cs_J (si_F C (v / 4)) (v % 4) ≤ τ
      · by_cases h3 : cs_B (si_F C (v / 4)) (v % 4) ≤ τ
        · rw [lo_t ⟨⟨h.1, h.2, h1⟩, n.1, h2⟩, lo_t ⟨⟨h.1, h.2, h1⟩, n.2.1, h3⟩, lo_f (fun w => by omega)]; rfl
        · rw [lo_t ⟨⟨h.1, h.2, h1⟩, n.1, h2⟩, lo_f (fun w => h3 w.2.2), lo_t ⟨h, h1, h2, by omega, Or.inr (Or.inl ⟨rfl, by omega⟩)⟩]; rfl
      · rw [lo_f (fun w => h2 w.2.2), lo_f (fun w => by have := w.2.2; omega), lo_f (fun w => h2 w.2.2.1)]; rfl
    · rw [lo_f (fun w => h1 w.1.2.2), lo_f (fun w => h1 w.1.2.2), lo_f (fun w => h1 w.2.1)]; rfl
  · rw [lo_f (fun w => h ⟨w.1.1, w.1.2.1⟩), lo_f (fun w => h ⟨w.1.1, w.1.2.1⟩), lo_f (fun w => h w.1)]; rfl
theorem nz_S {C : si_CF} (s τ : Nat) : nz_N C 0 s τ - nz_N C 1 s τ = nz_N C 2 s τ := by
  unfold nz_N
  rw [← sm_Z_sub]
  refine sm_Z_eq (fun v _ => ?_)
  by_cases h0 : nz_D C 0 s τ v
  · obtain ⟨h1, h2, h3, h4, _⟩ := h0
    by_cases h : τ < cs_B (si_F C (v / 4)) (v % 4)
    · rw [lo_t ⟨h1, h2, h3, h4, Or.inl rfl⟩, lo_t ⟨h1, h2, h3, h4, Or.inr (Or.inl ⟨rfl, h⟩)⟩, lo_f (fun w => by have := w.2.2.2.2; omega)]; rfl
    · rw [lo_t ⟨h1, h2, h3, h4, Or.inl rfl⟩, lo_f (fun w => by have := w.2.2.2.2; omega), lo_t ⟨h1, h2, h3, h4, Or.inr (Or.inr ⟨rfl, by omega⟩)⟩]; rfl
  · have h0' : ∀ kind, ¬ nz_D C kind s τ v := fun kind w => h0 ⟨w.1, w.2.1, w.2.2.1, w.2.2.2.1, Or.inl rfl⟩
    rw [lo_f (h0' 0), lo_f (h0' 1), lo_f (h0' 2)]; rfl
/-- the last to leave -/
def mx_N (f : Nat → Nat) : Nat → Nat
  | 0 => 0
  | n + 1 => if f n ≤ mx_N f n then mx_N f n else f n
theorem mx_le {f : Nat → Nat} : ∀ {n i : Nat}, i < n → f i ≤ mx_N f n
  | 0, i, h => by omega
  | n + 1, i, h => by
    have e : mx_N f (n + 1) = if f n ≤ mx_N f n then mx_N f n else f n := rfl
    rw [e]
    by_cases z : i = n
    · rw [z]; split <;> omega
    · have := mx_le (f := f) (n := n) (i := i) (by omega)
      split <;> omega
theorem mx_bd {f : Nat → Nat} {b : Nat} : ∀ {n : Nat}, (∀ i, i < n → f i ≤ b) → mx_N f n ≤ b
  | 0, _ => Nat.zero_le _
  | n + 1, h => by
    have e : mx_N f (n + 1) = if f n ≤ mx_N f n then mx_N f n else f n := rfl
    have a := mx_bd (f := f) (n := n) (fun i hi => h i (by omega))
    have c := h n (by omega)
    rw [e]; split <;> omega
def la_T (C : si_CF) : Nat := mx_N (fun c => cs_G (si_F C c)) (cf_n C)
theorem la_lt {C : si_CF} (hv : cf_V C) : la_T C < 2000 := by
  have : la_T C ≤ 1999 := mx_bd (fun i hi => by
    have := ((si_Gt hv 2000).1 i hi).2.2.2.2.2.1 (si_F_A hv i hi)
    have e : cs_G (si_F C i) = cs_G (si_S C 2000 i) := rfl
    omega)
  omega
theorem nz_0 {C : si_CF} (hv : cf_V C) {kind s τ : Nat} (h : la_T C ≤ τ) : nz_N C kind s τ = 0 := by
  have : nz_N C kind s τ = sm_Z (fun _ => 0) 48 := sm_Z_eq (fun v _ => lo_f (fun w => by
    have o := nz_ok hv w.1
    have m := mx_le (f := fun c => cs_G (si_F C c)) w.1.1
    have e : la_T C = mx_N (fun c => cs_G (si_F C c)) (cf_n C) := rfl
    have := w.2.2.2.1
    (try dsimp only at m)
    omega))
  rw [this, sm_Z_0]
/-- the sum of the stays -/
theorem nz_stays {C : si_CF} (hv : cf_V C) (s : Nat) : sm_Z (fun t => nz_N C 0 s t) 2000 = sm_Z (fun v => lo_i ((v / 4 < cf_n C ∧ v % 4 < cf_v C (v / 4)) ∧ cf_t C v = s) ((cs_B (si_F C (v / 4)) (v % 4) : Int) + cf_d C v - cs_J (si_F C (v / 4)) (v % 4))) 48 := by
  unfold nz_N
  rw [sm_Z_swap]
  refine sm_Z_eq (fun v _ => ?_)
  by_cases h : (v / 4 < cf_n C ∧ v % 4 < cf_v C (v / 4)) ∧ cf_t C v = s
  · have o := nz_ok hv h.1
    rw [lo_t h]
    have := sm_Z_iv (a := cs_J (si_F C (v / 4)) (v % 4)) (b := cs_B (si_F C (v / 4)) (v % 4) + cf_d C v) (by omega) 2000 (by omega)
    rw [show ((cs_B (si_F C (v / 4)) (v % 4) : Int) + cf_d C v - cs_J (si_F C (v / 4)) (v % 4)) = ((cs_B (si_F C (v / 4)) (v % 4) + cf_d C v : Nat) : Int) - cs_J (si_F C (v / 4)) (v % 4) from by omega, ← this]
    exact sm_Z_eq (fun t _ => lo_c ⟨fun w => ⟨w.2.2.1, w.2.2.2.1⟩, fun w => ⟨h.1, h.2, w.1, w.2, Or.inl rfl⟩⟩)
  · rw [lo_f h]
    have : sm_Z (fun t => lo_i (nz_D C 0 s t v) 1) 2000 = sm_Z (fun _ => 0) 2000 := sm_Z_eq (fun t _ => lo_f (fun w => h ⟨w.1, w.2.1⟩))
    rw [this, sm_Z_0]
end
section
/-! the reference: what it answers -/
theorem zi_n (n : Nat) : Int32.ofInt (n : Int) = nI n := Int32.ofInt_eq_ofNat
theorem zi_0 : Int32.ofInt 0 = 0 := zi_n 0
theorem zi_1 (a : Int) : Int32.ofInt a + 1 = Int32.ofInt (a + 1) := by
  rw [Int32.ofInt_add, show Int32.ofInt 1 = 1 from zi_n 1]
theorem zi_le {a b : Int} (h1 : -100000 ≤ a) (h2 : a ≤ 100000) (h3 : -100000 ≤ b) (h4 : b ≤ 100000) : Int32.ofInt a ≤ Int32.ofInt b ↔ a ≤ b := by
  have e1 : Int32.minValue.toInt = -2147483648 := by decide
  have e2 : Int32.maxValue.toInt = 2147483647 := by decide
  exact Int32.ofInt_le_iff_le (by omega) (by omega) (by omega) (by omega)
def yf_R (C : si_CF) (jo be go : Nat → Int32) : Prop :=
  (∀ c k, c < cf_n C → k < cf_v C c → jo (4 * c + k) = nI (cs_J (si_F C c) k)) ∧ (∀ c k, c < cf_n C → k < cf_v C c → be (4 * c + k) = nI (cs_B (si_F C c) k)) ∧ (∀ c, c < cf_n C → go c = nI (cs_G (si_F C c)))
theorem yf_of {C : si_CF} {jo be go no : Nat → Int32} (hv : cf_V C) (h : yr_R C (si_F C) jo be go no) : yf_R C jo be go :=
  ⟨fun c k hc hk => h.2.1 c k hc hk (nz_en hv hc k).1, fun c k hc hk => h.2.2.1 c k hc hk (nz_en hv hc k).2.1, fun c hc => h.2.2.2.2 c hc (si_F_A hv c hc)⟩
theorem sF_G {C : si_CF} (hv : cf_V C) {c : Nat} (hc : c < cf_n C) : cs_G (si_F C c) < 2000 := ((si_Gt hv 2000).1 c hc).2.2.2.2.2.1 (si_F_A hv c hc)
section
variable {C : si_CF} {jo be go no : Nat → Int32}
theorem yq_vis {post : Int32 → Prop} {c k : Nat} (hv : cf_V C) (hc : c < 2 ^ 31) (hk : k < 2 ^ 31) (K1 : c < cf_n C ∧ k < cf_v C c → post 1) (K0 : ¬ (c < cf_n C ∧ k < cf_v C c) → post 0) : wpY_isVisit post (nI (cf_n C), ai_N (cf_s C), ai_N (cf_r C), ai_N (cf_a C), ai_N (cf_v C), ai_N (cf_t C), ai_N (cf_d C), jo, be, go, no) (nI c) (nI k) := by
  have h12 := hv.1
  unfold wpY_isVisit
  (try dsimp only)
  refine br_f (nI_pos hc) (pk_le (cf_n C) c (fun h => br_t rfl (K0 (by omega))) (fun h => br_f (by decide) (br_f (nI_pos hk) ⟨pk_in c 12 (by omega), ?_⟩)))
  rw [nI_clamp hc, ai_at]
  have hv4 := (hv.2.2.1 c h).2
  exact pk_le (cf_v C c) k (fun h' => K0 (by omega)) (fun h' => K1 ⟨h, h'⟩)
theorem yq_does {post : Int32 → Prop} {x : Int32} {s t v kind : Nat} (hx : ∀ j, j < 4 → (nI j = x ↔ j = s)) (hv : cf_V C) (hY : yf_R C jo be go) (hv48 : v < 48) (ht : t < 65536) (hk : kind ≤ 2)
  (K1 : nz_D C kind s t v → post 1) (K0 : ¬ nz_D C kind s t v → post 0) : wpY_does post (nI (cf_n C), ai_N (cf_s C), ai_N (cf_r C), ai_N (cf_a C), ai_N (cf_v C), ai_N (cf_t C), ai_N (cf_d C), jo, be, go, no) (nI v) x (nI t) (nI kind) := by
  have h12 := hv.1
  refine ⟨by decide, by decide, ?_⟩
  rw [show nI v / 4 = nI (v / 4) from pk_div (d := 4) (by omega) (by omega) (by omega), show nI v - nI (v / 4) * 4 = nI (v % 4) from by
    have := pk_rem (a := v) (d := 4) (by omega) (by omega) (by omega)
    rw [pk_div (by omega) (by omega) (by omega)] at this
    exact this]
  have e : 4 * (v / 4) + v % 4 = v := by omega
  refine yq_vis hv (by omega) (by omega) (fun h => br_f (by decide) ⟨pk_in v 48 hv48, ?_⟩) (fun h => br_t rfl (br_t rfl (K0 (fun w => h w.1))))
  have o := nz_ok hv h
  have hj := hY.1 _ _ h.1 h.2
  have hb := hY.2.1 _ _ h.1 h.2
  have hst := (hv.2.2.2 _ _ h.1 h.2).1
  rw [e] at hj hb hst
  rw [nI_clamp (by omega : v < 2 ^ 31), ai_at, ai_at, hj, hb, nI_add]
  refine br_c (fun hs => ⟨pk_in v 48 hv48, ?_⟩) (fun hs => br_t rfl (K0 (fun w => hs ((hx _ hst).mpr w.2.1))))
  have hs' := (hx _ hst).mp hs
  refine pk_lt t (cs_J (si_F C (v / 4)) (v % 4)) (fun h1 => br_t rfl (K0 (fun w => by have := w.2.2.1; omega))) (fun h1 => ⟨pk_in v 48 hv48, pk_in v 48 hv48, ?_⟩)
  refine pk_le (cs_B (si_F C (v / 4)) (v % 4) + cf_d C v) t (fun h2 => br_t rfl (K0 (fun w => by have := w.2.2.2.1; omega))) (fun h2 => br_f (by decide) ?_)
  have d78 : ∀ z0 : Nat, z0 < 2 → (cs_B (si_F C (v / 4)) (v % 4) ≤ t → (z0 = 0 → post 1) ∧ (¬ z0 = 0 → post 0)) → (t < cs_B (si_F C (v / 4)) (v % 4) → (z0 = 1 → post 1) ∧ (¬ z0 = 1 → post 0)) → wY_does_78 post (nI v) (nI t) (nI z0) (nI (cf_n C)) (ai_N (cf_s C)) (ai_N (cf_r C)) (ai_N (cf_a C)) (ai_N (cf_v C)) (ai_N (cf_t C)) (ai_N (cf_d C)) jo be go no := by
    intro z0 hz a b
    refine ⟨pk_in v 48 hv48, ?_⟩
    rw [nI_clamp (by omega : v < 2 ^ 31), hb]
    refine pk_le (cs_B (si_F C (v / 4)) (v % 4)) t (fun h3 => ?_) (fun h3 => ?_)
    · exact pk_eq z0 0 (fun h4 => (a h3).1 h4) (fun h4 => (a h3).2 h4)
    · exact pk_eq z0 1 (fun h4 => (b h3).1 h4) (fun h4 => (b h3).2 h4)
  refine pk_eq kind 0 (fun h3 => K1 ⟨h, hs', h1, h2, Or.inl h3⟩) (fun h3 => pk_eq kind 1 (fun h4 => ?_) (fun h4 => ?_))
  · refine d78 1 (by omega) (fun h5 => ⟨fun w => by omega, fun _ => K0 (fun w => by have := w.2.2.2.2; omega)⟩) (fun h5 => ⟨fun _ => K1 ⟨h, hs', h1, h2, Or.inr (Or.inl ⟨h4, h5⟩)⟩, fun w => absurd rfl w⟩)
  · have hk2 : kind = 2 := by omega
    refine d78 0 (by omega) (fun h5 => ⟨fun _ => K1 ⟨h, hs', h1, h2, Or.inr (Or.inr ⟨hk2, h5⟩)⟩, fun w => absurd rfl w⟩) (fun h5 => ⟨fun w => by omega, fun _ => K0 (fun w => by have := w.2.2.2.2; omega)⟩)
theorem yq_num {post : Int32 → Prop} {x : Int32} {s t kind : Nat} (hx : ∀ j, j < 4 → (nI j = x ↔ j = s)) (hv : cf_V C) (hY : yf_R C jo be go) (ht : t < 65536) (hk : kind ≤ 2) (K : post (Int32.ofInt (nz_N C kind s t))) : wpY_number post (nI (cf_n C), ai_N (cf_s C), ai_N (cf_r C), ai_N (cf_a C), ai_N (cf_v C), ai_N (cf_t C), ai_N (cf_d C), jo, be, go, no) x (nI t) (nI kind) := by
  have key : ∀ (N v : Nat), 48 < v + N → v ≤ 48 → wY_number_6 post x (nI t) (nI kind) (nI (cf_n C)) (ai_N (cf_s C)) (ai_N (cf_r C)) (ai_N (cf_a C)) (ai_N (cf_v C)) (ai_N (cf_t C)) (ai_N (cf_d C)) jo be go no N (Int32.ofInt (sm_Z (fun v => lo_i (nz_D C kind s t v) 1) v)) (nI v) := by
    intro N
    induction N with
    | zero => intro v h h'; omega
    | succ N ih =>
      intro v hN hv48
      refine pk_le 48 v (fun h => ?_) (fun h => ?_)
      · have e : v = 48 := by omega
        rw [e]; exact K
      · have nx : sm_Z (fun v => lo_i (nz_D C kind s t v) 1) (v + 1) = sm_Z (fun v => lo_i (nz_D C kind s t v) 1) v + lo_i (nz_D C kind s t v) 1 := rfl
        have i := ih (v + 1) (by omega) (by omega)
        rw [nx] at i
        refine yq_does hx hv hY h ht hk (fun hd => br_f (by decide) ?_) (fun hd => br_t rfl ?_)
        · rw [lo_t hd, ← zi_1] at i
          intro y ey
          subst ey
          intro y ey
          rw [nI_1] at ey
          subst ey
          exact i
        · rw [lo_f hd, Int.add_zero] at i
          intro y ey
          rw [nI_1] at ey
          subst ey
          exact i
  have := key 49 0 (by omega) (by omega)
  rw [show sm_Z (fun v => lo_i (nz_D C kind s t v) 1) 0 = 0 from rfl, zi_0] at this
  exact ⟨49, this⟩
theorem yq_last {post : Int32 → Prop} (hv : cf_V C) (hY : yf_R C jo be go) (K : post (nI (la_T C))) : wpY_last post (nI (cf_n C), ai_N (cf_s C), ai_N (cf_r C), ai_N (cf_a C), ai_N (cf_v C), ai_N (cf_t C), ai_N (cf_d C), jo, be, go, no) := by
  have h12 := hv.1
  have key : ∀ (N i : Nat), cf_n C < i + N → i ≤ cf_n C → wY_last_4 post (nI (cf_n C)) (ai_N (cf_s C)) (ai_N (cf_r C)) (ai_N (cf_a C)) (ai_N (cf_v C)) (ai_N (cf_t C)) (ai_N (cf_d C)) jo be go no N (nI (mx_N (fun c => cs_G (si_F C c)) i)) (nI i) := by
    intro N
    induction N with
    | zero => intro i h h'; omega
    | succ N ih =>
      intro i hN hi
      refine pk_le (cf_n C) i (fun h => ?_) (fun h => ⟨pk_in i 12 (by omega), ?_⟩)
      · have e : i = cf_n C := by omega
        rw [e]; exact K
      · have hG := sF_G hv h
        have hm : mx_N (fun c => cs_G (si_F C c)) i ≤ 2000 := mx_bd (fun j hj => by have := sF_G hv (show j < cf_n C by omega); omega)
        have nx : mx_N (fun c => cs_G (si_F C c)) (i + 1) = if cs_G (si_F C i) ≤ mx_N (fun c => cs_G (si_F C c)) i then mx_N (fun c => cs_G (si_F C c)) i else cs_G (si_F C i) := rfl
        have ii := ih (i + 1) (by omega) (by omega)
        rw [nx] at ii
        rw [nI_clamp (by omega : i < 2 ^ 31), hY.2.2 i h, nI_1]
        refine pk_le (cs_G (si_F C i)) (mx_N (fun c => cs_G (si_F C c)) i) (fun h' => ?_) (fun h' => ⟨pk_in i 12 (by omega), ?_⟩)
        · rw [if_pos h'] at ii
          intro y ey
          subst ey
          exact ii
        · rw [if_neg (by omega)] at ii
          intro y ey
          subst ey
          intro y ey
          subst ey
          exact ii
  exact ⟨cf_n C + 1, key (cf_n C + 1) 0 (by omega) (by omega)⟩
theorem yq_ar {post : Int32 → Prop} {s t2 : Nat} (hs : s < 4) (hv : cf_V C) (hY : yf_R C jo be go) (ht2 : t2 < 65536) (K : post (Int32.ofInt (sm_Z (fun t => nz_N C 0 s t) t2))) : ∃ n23 : Nat, wY_area_23 post (nI s) (nI t2) (nI (cf_n C)) (ai_N (cf_s C)) (ai_N (cf_r C)) (ai_N (cf_a C)) (ai_N (cf_v C)) (ai_N (cf_t C)) (ai_N (cf_d C)) jo be go no n23 0 0 := by
  have hla := la_lt hv
  have hx : ∀ j, j < 4 → (nI j = nI s ↔ j = s) := fun j hj => nI_eq (by omega) (by omega)
  have key : ∀ (N t : Nat), 2000 < t + N → t ≤ t2 → t ≤ la_T C → wY_area_23 post (nI s) (nI t2) (nI (cf_n C)) (ai_N (cf_s C)) (ai_N (cf_r C)) (ai_N (cf_a C)) (ai_N (cf_v C)) (ai_N (cf_t C)) (ai_N (cf_d C)) jo be go no N (Int32.ofInt (sm_Z (fun t => nz_N C 0 s t) t)) (nI t) := by
    intro N
    induction N with
    | zero => intro t h h' h''; omega
    | succ N ih =>
      intro t hN ht hl
      refine pk_le t2 t (fun h => ?_) (fun h => ?_)
      · have e : t = t2 := by omega
        rw [e]; exact K
      · refine yq_last hv hY ?_
        refine pk_le (la_T C) t (fun h' => ?_) (fun h' => ?_)
        · rw [← sm_Z_tail (m := t2) ht (fun j h1 h2 => nz_0 hv (by omega))]; exact K
        · refine yq_num (kind := 0) hx hv hY (by omega) (by omega) ?_
          intro y ey
          rw [← Int32.ofInt_add] at ey
          subst ey
          intro y ey
          rw [nI_1] at ey
          subst ey
          exact ih (t + 1) (by omega) (by omega) (by omega)
  have := key 2001 0 (by omega) (by omega) (by omega)
  rw [show sm_Z (fun t => nz_N C 0 s t) 0 = 0 from rfl, zi_0] at this
  exact ⟨2001, this⟩
theorem yq_bs {post : Int32 → Prop} {x : Int32} {s : Nat} (hx : ∀ j, j < 4 → (nI j = x ↔ j = s)) (hv : cf_V C) (hY : yf_R C jo be go)
  (K : wpY_isStation (fun r_14 => (r_14 = 0 → post (-1)) ∧ (¬ r_14 = 0 → post (Int32.ofInt (sm_Z (fun t => lo_i (0 < nz_N C 2 s t) 1) (la_T C))))) (nI (cf_n C), ai_N (cf_s C), ai_N (cf_r C), ai_N (cf_a C), ai_N (cf_v C), ai_N (cf_t C), ai_N (cf_d C), jo, be, go, no) x) : wpY_busy post (nI (cf_n C), ai_N (cf_s C), ai_N (cf_r C), ai_N (cf_a C), ai_N (cf_v C), ai_N (cf_t C), ai_N (cf_d C), jo, be, go, no) x := by
  have hla := la_lt hv
  have key : ∀ (N t : Nat), 2000 < t + N → t ≤ la_T C → wY_busy_4 post x (nI (cf_n C)) (ai_N (cf_s C)) (ai_N (cf_r C)) (ai_N (cf_a C)) (ai_N (cf_v C)) (ai_N (cf_t C)) (ai_N (cf_d C)) jo be go no N (Int32.ofInt (sm_Z (fun t => lo_i (0 < nz_N C 2 s t) 1) t)) (nI t) := by
    intro N
    induction N with
    | zero => intro t h h'; omega
    | succ N ih =>
      intro t hN hl
      refine yq_last hv hY ?_
      refine pk_le (la_T C) t (fun h' => ?_) (fun h' => ?_)
      · have e : t = la_T C := by omega
        rw [e]; exact K
      · have nx : sm_Z (fun t => lo_i (0 < nz_N C 2 s t) 1) (t + 1) = sm_Z (fun t => lo_i (0 < nz_N C 2 s t) 1) t + lo_i (0 < nz_N C 2 s t) 1 := rfl
        have i := ih (t + 1) (by omega) (by omega)
        rw [nx] at i
        have b := nz_bd C 2 s t
        refine yq_num (kind := 2) hx hv hY (by omega) (by omega) ?_
        have hc : Int32.ofInt (nz_N C 2 s t) ≤ 0 ↔ nz_N C 2 s t ≤ 0 := by
          rw [← zi_0]; exact zi_le (by omega) (by omega) (by omega) (by omega)
        refine ek_if hc (fun h0 => ?_) (fun h0 => ?_)
        · rw [lo_f (by omega), Int.add_zero] at i
          intro y ey
          rw [nI_1] at ey
          subst ey
          exact i
        · rw [lo_t (by omega), ← zi_1] at i
          intro y ey
          subst ey
          intro y ey
          rw [nI_1] at ey
          subst ey
          exact i
  have := key 2001 0 (by omega) (by omega)
  rw [show sm_Z (fun t => lo_i (0 < nz_N C 2 s t) 1) 0 = 0 from rfl, zi_0] at this
  exact ⟨2001, this⟩
/-- the greatest number of those that wait -/
def mz_P (C : si_CF) (s : Nat) (z : Int) : Prop := 0 ≤ z ∧ z ≤ 48 ∧ (z = 0 ∨ ∃ τ, z = nz_N C 1 s τ) ∧ ∀ τ, nz_N C 1 s τ ≤ z
theorem mz_u {C : si_CF} {s : Nat} {z w : Int} (hz : mz_P C s z) (hw : mz_P C s w) : z = w := by
  have a : z ≤ w := by
    rcases hz.2.2.1 with h | ⟨τ, h⟩
    · have := hw.1; omega
    · rw [h]; exact hw.2.2.2 τ
  have b : w ≤ z := by
    rcases hw.2.2.1 with h | ⟨τ, h⟩
    · have := hz.1; omega
    · rw [h]; exact hz.2.2.2 τ
  omega
theorem yq_lg {post : Int32 → Prop} {x : Int32} {s : Nat} (hx : ∀ j, j < 4 → (nI j = x ↔ j = s)) (hv : cf_V C) (hY : yf_R C jo be go)
  (K : ∀ z, mz_P C s z → wpY_isStation (fun r_14 => (r_14 = 0 → post (-1)) ∧ (¬ r_14 = 0 → post (Int32.ofInt z))) (nI (cf_n C), ai_N (cf_s C), ai_N (cf_r C), ai_N (cf_a C), ai_N (cf_v C), ai_N (cf_t C), ai_N (cf_d C), jo, be, go, no) x) : wpY_longest post (nI (cf_n C), ai_N (cf_s C), ai_N (cf_r C), ai_N (cf_a C), ai_N (cf_v C), ai_N (cf_t C), ai_N (cf_d C), jo, be, go, no) x := by
  have hla := la_lt hv
  have key : ∀ (N t : Nat) (z : Int), 2000 < t + N → t ≤ la_T C → 0 ≤ z → z ≤ 48 → (z = 0 ∨ ∃ τ, z = nz_N C 1 s τ) → (∀ τ, τ < t → nz_N C 1 s τ ≤ z) → wY_longest_4 post x (nI (cf_n C)) (ai_N (cf_s C)) (ai_N (cf_r C)) (ai_N (cf_a C)) (ai_N (cf_v C)) (ai_N (cf_t C)) (ai_N (cf_d C)) jo be go no N (Int32.ofInt z) (nI t) := by
    intro N
    induction N with
    | zero => intro t z h h'; omega
    | succ N ih =>
      intro t z hN hl z0 z48 hz hm
      refine yq_last hv hY ?_
      refine pk_le (la_T C) t (fun h' => ?_) (fun h' => ?_)
      · refine K z ⟨z0, z48, hz, fun τ => ?_⟩
        rcases Nat.lt_or_ge τ t with q | q
        · exact hm τ q
        · rw [nz_0 hv (by omega)]; exact z0
      · have b := nz_bd C 1 s t
        refine yq_num (kind := 1) hx hv hY (by omega) (by omega) ?_
        have hc : Int32.ofInt (nz_N C 1 s t) ≤ Int32.ofInt z ↔ nz_N C 1 s t ≤ z := zi_le (by omega) (by omega) (by omega) (by omega)
        refine ek_if hc (fun h0 => ?_) (fun h0 => ?_)
        · intro y ey
          rw [nI_1] at ey
          subst ey
          refine ih (t + 1) z (by omega) (by omega) z0 z48 hz (fun τ hτ => ?_)
          by_cases q : τ = t
          · rw [q]; exact h0
          · exact hm τ (by omega)
        · intro y ey
          rw [nI_1] at ey
          subst ey
          refine ih (t + 1) _ (by omega) (by omega) b.1 b.2 (Or.inr ⟨t, rfl⟩) (fun τ hτ => ?_)
          by_cases q : τ = t
          · rw [q]; exact Int.le_refl _
          · have := hm τ (by omega); omega
  have := key 2001 0 0 (by omega) (by omega) (by omega) (by omega) (Or.inl rfl) (fun τ h => by omega)
  rw [zi_0] at this
  exact ⟨2001, this⟩
end
end
section
/-! the component: what it answers -/
def xf_R (C : si_CF) (ch : Int32) (tj tb tl ct cs ca cw : Nat → Int32) : Prop :=
  (∀ c k, c < cf_n C → k < cf_v C c → tj (4 * c + k) = nI (cs_J (si_F C c) k)) ∧ (∀ c k, c < cf_n C → k < cf_v C c → tb (4 * c + k) = nI (cs_B (si_F C c) k)) ∧ (∀ c, c < cf_n C → tl c = nI (cs_G (si_F C c))) ∧
    ∃ m, ch = nI m ∧ m ≤ 144 ∧ lo_R (nz_N C 0) (nz_N C 1) 1541 m ct cs ca cw
theorem xf_of {C : si_CF} {e lo T : Nat} {ch pe td rt lk : Int32} {tj tb tl vo ws fr ct cs ca cw hp df nd eo fc ns pr bf : Nat → Int32} (hv : cf_V C) (hT : T ≤ 1541) (h : xa_R C (si_F C) e lo T ch pe td rt lk tj tb tl vo ws fr ct cs ca cw hp df nd eo fc ns pr bf) : xf_R C ch tj tb tl ct cs ca cw :=
  ⟨fun c k hc hk => h.1.1.2.1 c k hc hk (nz_en hv hc k).1, fun c k hc hk => h.1.1.2.2.1 c k hc hk (nz_en hv hc k).2.1, fun c hc => h.1.1.2.2.2.1 c hc (si_F_A hv c hc),
    lo_M C (si_F C), h.1.2.1, lo_M_le hv (si_Gt hv 2000).1, lo_R_up h.1.2.2 hT (fun s τ => (nz_A hv s τ).symm) (fun s τ => (nz_W hv s τ).symm)⟩
theorem sm_Z_cf {f : Nat → Int} {n : Int} {a : Nat} : ∀ {b : Nat}, a ≤ b → (∀ t, a ≤ t → t < b → f t = n) → sm_Z f b = sm_Z f a + n * ((b : Int) - a)
  | 0, h, _ => by
    have e : a = 0 := by omega
    subst e
    simp
  | b + 1, h, hf => by
    by_cases z : a = b + 1
    · subst z
      rw [Int.sub_self, Int.mul_zero, Int.add_zero]
    · have k := sm_Z_cf (f := f) (n := n) (a := a) (b := b) (by omega) (fun t h1 h2 => hf t h1 (by omega))
      have y := hf b (by omega) (by omega)
      show sm_Z f b + f b = _
      rw [k, y, Int.natCast_succ, show (b : Int) + 1 - a = (b - a) + 1 from by omega, Int.mul_add, Int.mul_one]
      omega
section
variable {f_customers f_changes f_engine f_pending f_today f_root f_lastTaken : Int32} {a_servers a_rules a_arrivalOf a_visitCount a_visitStation a_visitNeed a_joinTime a_beginTime a_leaveTime a_keptTime a_keptJoin a_keptBegin a_changeTime a_changeStation a_changeAt a_changeWaits a_visitOf a_waitingSet a_free a_heap a_dayFirst a_nextInDay a_eventOf a_firstChild a_nextSibling a_pairs a_bucketFirst : Nat → Int32} {C : si_CF}
theorem xw_runF {post : SX → Prop} {e : Nat} (hv : cf_V C) (he : e < 4) (K : ∀ (ch pe td rt lk : Int32) (tj tb tl vo ws fr ct cs ca cw hp df nd eo fc ns pr bf : Nat → Int32), xf_R C ch tj tb tl ct cs ca cw → post (nI (cf_n C), ch, nI e, pe, td, rt, lk, ai_N (cf_s C), ai_N (cf_r C), ai_N (cf_a C), ai_N (cf_v C), ai_N (cf_t C), ai_N (cf_d C), tj, tb, tl, a_keptTime, a_keptJoin, a_keptBegin, ct, cs, ca, cw, vo, ws, fr, hp, df, nd, eo, fc, ns, pr, bf)) : wpX_run post (nI (cf_n C), f_changes, f_engine, f_pending, f_today, f_root, f_lastTaken, ai_N (cf_s C), ai_N (cf_r C), ai_N (cf_a C), ai_N (cf_v C), ai_N (cf_t C), ai_N (cf_d C), a_joinTime, a_beginTime, a_leaveTime, a_keptTime, a_keptJoin, a_keptBegin, a_changeTime, a_changeStation, a_changeAt, a_changeWaits, a_visitOf, a_waitingSet, a_free, a_heap, a_dayFirst, a_nextInDay, a_eventOf, a_firstChild, a_nextSibling, a_pairs, a_bucketFirst) (nI e) :=
  xw_run hv he (fun _ _ ch pe td rt lk tj tb tl vo ws fr ct cs ca cw hp df nd eo fc ns pr bf hT h => K ch pe td rt lk tj tb tl vo ws fr ct cs ca cw hp df nd eo fc ns pr bf (xf_of hv hT h))
theorem xq_sum0 {post : Int32 → Prop} {s t : Nat} (hs : s < 4) (ht : t < 65536) (hF : xf_R C f_changes a_joinTime a_beginTime a_leaveTime a_changeTime a_changeStation a_changeAt a_changeWaits) (K : post (Int32.ofInt (nz_N C 0 s t))) :
  wpX_sumUpTo post (nI (cf_n C), f_changes, f_engine, f_pending, f_today, f_root, f_lastTaken, ai_N (cf_s C), ai_N (cf_r C), ai_N (cf_a C), ai_N (cf_v C), ai_N (cf_t C), ai_N (cf_d C), a_joinTime, a_beginTime, a_leaveTime, a_keptTime, a_keptJoin, a_keptBegin, a_changeTime, a_changeStation, a_changeAt, a_changeWaits, a_visitOf, a_waitingSet, a_free, a_heap, a_dayFirst, a_nextInDay, a_eventOf, a_firstChild, a_nextSibling, a_pairs, a_bucketFirst) (nI s) (nI t) 0 := by
  obtain ⟨_, _, _, m, rfl, hm, lt, ls, la, lw, h1, h2, h3, h4, h5⟩ := hF
  have key : ∀ (N i : Nat), m < i + N → i ≤ m → (∀ j, j < i → lt j ≤ t) → wX_sumUpTo_6 post (nI s) (nI t) 0 (nI (cf_n C)) (nI m) f_engine f_pending f_today f_root f_lastTaken (ai_N (cf_s C)) (ai_N (cf_r C)) (ai_N (cf_a C)) (ai_N (cf_v C)) (ai_N (cf_t C)) (ai_N (cf_d C)) a_joinTime a_beginTime a_leaveTime a_keptTime a_keptJoin a_keptBegin a_changeTime a_changeStation a_changeAt a_changeWaits a_visitOf a_waitingSet a_free a_heap a_dayFirst a_nextInDay a_eventOf a_firstChild a_nextSibling a_pairs a_bucketFirst N (Int32.ofInt (sm_Z (fun j => lo_i (ls j = s ∧ lt j ≤ t) (la j)) i)) (nI i) := by
    intro N
    induction N with
    | zero => intro i h h'; omega
    | succ N ih =>
      intro i hN hi hle
      refine pk_le m i (fun h => ?_) (fun h => ⟨pk_in i 160 (by omega), ?_⟩)
      · have e : i = m := by omega
        rw [e, h4]; exact K
      · have g1 := h1 i h
        have g2 := h2 i h
        rw [nI_clamp (by omega : i < 2 ^ 31), g1.1]
        refine pk_lt t (lt i) (fun h' => ?_) (fun h' => ?_)
        · rw [← sm_Z_tail (m := m) hi (fun j j1 j2 => lo_f (fun w => by have := h3 i j j1 j2; omega)), h4]; exact K
        · refine br_t rfl ⟨pk_in i 160 (by omega), ?_⟩
          rw [g1.2.2.1]
          refine ⟨pk_in i 160 (by omega), ?_⟩
          rw [nI_clamp (by omega : i < 2 ^ 31), g1.2.1, nI_1]
          have nx : sm_Z (fun j => lo_i (ls j = s ∧ lt j ≤ t) (la j)) (i + 1) = sm_Z (fun j => lo_i (ls j = s ∧ lt j ≤ t) (la j)) i + lo_i (ls i = s ∧ lt i ≤ t) (la i) := rfl
          have ii := ih (i + 1) (by omega) (by omega) (fun j hj => by
            by_cases z : j = i
            · rw [z]; omega
            · exact hle j (by omega))
          rw [nx] at ii
          refine pk_eq (ls i) s (fun h6 => ?_) (fun h6 => ?_)
          · rw [lo_t ⟨h6, by omega⟩, Int32.ofInt_add] at ii
            intro y ey
            subst ey
            intro y ey
            subst ey
            exact ii
          · rw [lo_f (fun w => h6 w.1), Int.add_zero] at ii
            intro y ey
            rw [Int32.add_zero] at ey
            subst ey
            intro y ey
            subst ey
            exact ii
  have := key (m + 1) 0 (by omega) (by omega) (fun j hj => by omega)
  rw [show sm_Z (fun j => lo_i (ls j = s ∧ lt j ≤ t) (la j)) 0 = 0 from rfl, zi_0] at this
  exact ⟨m + 1, this⟩
theorem xq_sum1 {post : Int32 → Prop} {s t : Nat} (hs : s < 4) (ht : t < 65536) (hF : xf_R C f_changes a_joinTime a_beginTime a_leaveTime a_changeTime a_changeStation a_changeAt a_changeWaits) (K : post (Int32.ofInt (nz_N C 1 s t))) :
  wpX_sumUpTo post (nI (cf_n C), f_changes, f_engine, f_pending, f_today, f_root, f_lastTaken, ai_N (cf_s C), ai_N (cf_r C), ai_N (cf_a C), ai_N (cf_v C), ai_N (cf_t C), ai_N (cf_d C), a_joinTime, a_beginTime, a_leaveTime, a_keptTime, a_keptJoin, a_keptBegin, a_changeTime, a_changeStation, a_changeAt, a_changeWaits, a_visitOf, a_waitingSet, a_free, a_heap, a_dayFirst, a_nextInDay, a_eventOf, a_firstChild, a_nextSibling, a_pairs, a_bucketFirst) (nI s) (nI t) 1 := by
  obtain ⟨_, _, _, m, rfl, hm, lt, ls, la, lw, h1, h2, h3, h4, h5⟩ := hF
  have key : ∀ (N i : Nat), m < i + N → i ≤ m → (∀ j, j < i → lt j ≤ t) → wX_sumUpTo_6 post (nI s) (nI t) 1 (nI (cf_n C)) (nI m) f_engine f_pending f_today f_root f_lastTaken (ai_N (cf_s C)) (ai_N (cf_r C)) (ai_N (cf_a C)) (ai_N (cf_v C)) (ai_N (cf_t C)) (ai_N (cf_d C)) a_joinTime a_beginTime a_leaveTime a_keptTime a_keptJoin a_keptBegin a_changeTime a_changeStation a_changeAt a_changeWaits a_visitOf a_waitingSet a_free a_heap a_dayFirst a_nextInDay a_eventOf a_firstChild a_nextSibling a_pairs a_bucketFirst N (Int32.ofInt (sm_Z (fun j => lo_i (ls j = s ∧ lt j ≤ t) (lw j)) i)) (nI i) := by
    intro N
    induction N with
    | zero => intro i h h'; omega
    | succ N ih =>
      intro i hN hi hle
      refine pk_le m i (fun h => ?_) (fun h => ⟨pk_in i 160 (by omega), ?_⟩)
      · have e : i = m := by omega
        rw [e, h5]; exact K
      · have g1 := h1 i h
        have g2 := h2 i h
        rw [nI_clamp (by omega : i < 2 ^ 31), g1.1]
        refine pk_lt t (lt i) (fun h' => ?_) (fun h' => ?_)
        · rw [← sm_Z_tail (m := m) hi (fun j j1 j2 => lo_f (fun w => by have := h3 i j j1 j2; omega)), h5]; exact K
        · refine br_f (by decide) ⟨pk_in i 160 (by omega), ?_⟩
          rw [g1.2.2.2]
          refine ⟨pk_in i 160 (by omega), ?_⟩
          rw [nI_clamp (by omega : i < 2 ^ 31), g1.2.1, nI_1]
          have nx : sm_Z (fun j => lo_i (ls j = s ∧ lt j ≤ t) (lw j)) (i + 1) = sm_Z (fun j => lo_i (ls j = s ∧ lt j ≤ t) (lw j)) i + lo_i (ls i = s ∧ lt i ≤ t) (lw i) := rfl
          have ii := ih (i + 1) (by omega) (by omega) (fun j hj => by
            by_cases z : j = i
            · rw [z]; omega
            · exact hle j (by omega))
          rw [nx] at ii
          refine pk_eq (ls i) s (fun h6 => ?_) (fun h6 => ?_)
          · rw [lo_t ⟨h6, by omega⟩, Int32.ofInt_add] at ii
            intro y ey
            subst ey
            intro y ey
            subst ey
            exact ii
          · rw [lo_f (fun w => h6 w.1), Int.add_zero] at ii
            intro y ey
            rw [Int32.add_zero] at ey
            subst ey
            intro y ey
            subst ey
            exact ii
  have := key (m + 1) 0 (by omega) (by omega) (fun j hj => by omega)
  rw [show sm_Z (fun j => lo_i (ls j = s ∧ lt j ≤ t) (lw j)) 0 = 0 from rfl, zi_0] at this
  exact ⟨m + 1, this⟩
theorem xq_area {post : Int32 → SX → Prop} {s t2 : Nat} (hs : s < 4) (ht2 : t2 < 65536) (hF : xf_R C f_changes a_joinTime a_beginTime a_leaveTime a_changeTime a_changeStation a_changeAt a_changeWaits) (K : post (Int32.ofInt (sm_Z (fun t => nz_N C 0 s t) t2)) (nI (cf_n C), f_changes, f_engine, f_pending, f_today, f_root, f_lastTaken, ai_N (cf_s C), ai_N (cf_r C), ai_N (cf_a C), ai_N (cf_v C), ai_N (cf_t C), ai_N (cf_d C), a_joinTime, a_beginTime, a_leaveTime, a_keptTime, a_keptJoin, a_keptBegin, a_changeTime, a_changeStation, a_changeAt, a_changeWaits, a_visitOf, a_waitingSet, a_free, a_heap, a_dayFirst, a_nextInDay, a_eventOf, a_firstChild, a_nextSibling, a_pairs, a_bucketFirst)) :
  ∃ n32 : Nat, wX_area_32 post (nI s) (nI t2) (nI (cf_n C)) f_changes f_engine f_pending f_today f_root f_lastTaken (ai_N (cf_s C)) (ai_N (cf_r C)) (ai_N (cf_a C)) (ai_N (cf_v C)) (ai_N (cf_t C)) (ai_N (cf_d C)) a_joinTime a_beginTime a_leaveTime a_keptTime a_keptJoin a_keptBegin a_changeTime a_changeStation a_changeAt a_changeWaits a_visitOf a_waitingSet a_free a_heap a_dayFirst a_nextInDay a_eventOf a_firstChild a_nextSibling a_pairs a_bucketFirst n32 0 0 0 0 := by
  obtain ⟨_, _, _, m, rfl, hm, lt, ls, la, lw, h1, h2, h3, h4, h5⟩ := hF
  have key : ∀ (N i fr : Nat) (n : Int), m < i + N → i ≤ m → fr ≤ t2 → (∀ j, i ≤ j → j < m → fr ≤ lt j) → (∀ τ, fr ≤ τ → τ < t2 → sm_Z (fun j => lo_i (ls j = s ∧ lt j ≤ τ) (la j)) i = n) →
      wX_area_32 post (nI s) (nI t2) (nI (cf_n C)) (nI m) f_engine f_pending f_today f_root f_lastTaken (ai_N (cf_s C)) (ai_N (cf_r C)) (ai_N (cf_a C)) (ai_N (cf_v C)) (ai_N (cf_t C)) (ai_N (cf_d C)) a_joinTime a_beginTime a_leaveTime a_keptTime a_keptJoin a_keptBegin a_changeTime a_changeStation a_changeAt a_changeWaits a_visitOf a_waitingSet a_free a_heap a_dayFirst a_nextInDay a_eventOf a_firstChild a_nextSibling a_pairs a_bucketFirst N (Int32.ofInt (sm_Z (fun τ => sm_Z (fun j => lo_i (ls j = s ∧ lt j ≤ τ) (la j)) i) fr)) (Int32.ofInt n) (nI fr) (nI i) := by
    intro N
    induction N with
    | zero => intro i fr n h h'; omega
    | succ N ih =>
      intro i fr n hN hi hfr hle hc
      have grow : ∀ to : Nat, fr ≤ to → to ≤ t2 → Int32.ofInt (sm_Z (fun τ => sm_Z (fun j => lo_i (ls j = s ∧ lt j ≤ τ) (la j)) i) fr) + Int32.ofInt n * (nI to - nI fr) = Int32.ofInt (sm_Z (fun τ => sm_Z (fun j => lo_i (ls j = s ∧ lt j ≤ τ) (la j)) i) to) := by
        intro to h6 h7
        rw [sm_Z_cf (f := fun τ => sm_Z (fun j => lo_i (ls j = s ∧ lt j ≤ τ) (la j)) i) (n := n) h6 (fun τ a b => hc τ a (by omega)), Int32.ofInt_add, Int32.ofInt_mul, Int32.ofInt_sub, zi_n, zi_n]
      refine pk_le m i (fun h => ?_) (fun h => ⟨pk_in i 160 (by omega), ?_⟩)
      · have e : i = m := by omega
        rw [grow t2 hfr (Nat.le_refl _), e, sm_Z_eq (fun τ _ => h4 s τ)]; exact K
      · have g1 := h1 i h
        have g2 := h2 i h
        have hfi := hle i (Nat.le_refl _) h
        rw [nI_clamp (by omega : i < 2 ^ 31), g1.2.1, nI_1]
        have st : ls i = s → ∀ to : Nat, fr ≤ to → to ≤ lt i → to ≤ t2 → (to = lt i ∨ to = t2) → wX_area_74 post (wX_area_32 post (nI s) (nI t2) (nI (cf_n C)) (nI m) f_engine f_pending f_today f_root f_lastTaken (ai_N (cf_s C)) (ai_N (cf_r C)) (ai_N (cf_a C)) (ai_N (cf_v C)) (ai_N (cf_t C)) (ai_N (cf_d C)) a_joinTime a_beginTime a_leaveTime a_keptTime a_keptJoin a_keptBegin a_changeTime a_changeStation a_changeAt a_changeWaits a_visitOf a_waitingSet a_free a_heap a_dayFirst a_nextInDay a_eventOf a_firstChild a_nextSibling a_pairs a_bucketFirst N) (nI s) (nI t2) (Int32.ofInt (sm_Z (fun τ => sm_Z (fun j => lo_i (ls j = s ∧ lt j ≤ τ) (la j)) i) fr)) (Int32.ofInt n) (nI fr) (nI i) (nI to) (nI (cf_n C)) (nI m) f_engine f_pending f_today f_root f_lastTaken (ai_N (cf_s C)) (ai_N (cf_r C)) (ai_N (cf_a C)) (ai_N (cf_v C)) (ai_N (cf_t C)) (ai_N (cf_d C)) a_joinTime a_beginTime a_leaveTime a_keptTime a_keptJoin a_keptBegin a_changeTime a_changeStation a_changeAt a_changeWaits a_visitOf a_waitingSet a_free a_heap a_dayFirst a_nextInDay a_eventOf a_firstChild a_nextSibling a_pairs a_bucketFirst := by
          intro hls to k1 k2 k3 k4 y ey
          rw [grow to k1 k3] at ey
          subst ey
          refine ⟨pk_in i 160 (by omega), ?_⟩
          rw [nI_clamp (by omega : i < 2 ^ 31), g1.2.2.1, ← Int32.ofInt_add, nI_1]
          intro y ey
          subst ey
          intro y ey
          subst ey
          have := ih (i + 1) to (n + la i) (by omega) (by omega) k3 (fun j j1 j2 => Nat.le_trans k2 (h3 i j (by omega) j2)) (fun τ a b => by
            show sm_Z _ i + lo_i (ls i = s ∧ lt i ≤ τ) (la i) = _
            rw [hc τ (by omega) b, lo_t ⟨hls, by omega⟩])
          rw [sm_Z_eq (f := fun τ => sm_Z (fun j => lo_i (ls j = s ∧ lt j ≤ τ) (la j)) (i + 1)) (g := fun τ => sm_Z (fun j => lo_i (ls j = s ∧ lt j ≤ τ) (la j)) i) (fun τ hτ => by
            show sm_Z _ i + lo_i (ls i = s ∧ lt i ≤ τ) (la i) = _
            rw [lo_f (fun w => by omega), Int.add_zero])] at this
          exact this
        refine pk_eq (ls i) s (fun h6 => ⟨pk_in i 160 (by omega), ?_⟩) (fun h6 => ?_)
        · rw [g1.1]
          refine pk_le t2 (lt i) (fun h7 => st h6 t2 hfr h7 (Nat.le_refl _) (Or.inr rfl)) (fun h7 => ⟨pk_in i 160 (by omega), st h6 (lt i) hfi (Nat.le_refl _) (by omega) (Or.inl rfl)⟩)
        · intro y ey
          subst ey
          have nz : ∀ τ, sm_Z (fun j => lo_i (ls j = s ∧ lt j ≤ τ) (la j)) (i + 1) = sm_Z (fun j => lo_i (ls j = s ∧ lt j ≤ τ) (la j)) i := fun τ => by
            show sm_Z _ i + lo_i (ls i = s ∧ lt i ≤ τ) (la i) = _
            rw [lo_f (fun w => h6 w.1), Int.add_zero]
          have := ih (i + 1) fr n (by omega) (by omega) hfr (fun j j1 j2 => hle j (by omega) j2) (fun τ a b => by rw [nz]; exact hc τ a b)
          rw [sm_Z_eq (fun τ _ => nz τ)] at this
          exact this
  have := key (m + 1) 0 0 0 (by omega) (by omega) (by omega) (fun j _ _ => Nat.zero_le _) (fun τ _ _ => rfl)
  rw [show sm_Z (fun τ => sm_Z (fun j => lo_i (ls j = s ∧ lt j ≤ τ) (la j)) 0) 0 = 0 from rfl, zi_0] at this
  exact ⟨m + 1, this⟩
theorem xq_busy {post : Int32 → SX → Prop} {s : Nat} (hv : cf_V C) (hs : s < 4) (hF : xf_R C f_changes a_joinTime a_beginTime a_leaveTime a_changeTime a_changeStation a_changeAt a_changeWaits) (K : post (Int32.ofInt (sm_Z (fun t => lo_i (0 < nz_N C 2 s t) 1) (la_T C))) (nI (cf_n C), f_changes, f_engine, f_pending, f_today, f_root, f_lastTaken, ai_N (cf_s C), ai_N (cf_r C), ai_N (cf_a C), ai_N (cf_v C), ai_N (cf_t C), ai_N (cf_d C), a_joinTime, a_beginTime, a_leaveTime, a_keptTime, a_keptJoin, a_keptBegin, a_changeTime, a_changeStation, a_changeAt, a_changeWaits, a_visitOf, a_waitingSet, a_free, a_heap, a_dayFirst, a_nextInDay, a_eventOf, a_firstChild, a_nextSibling, a_pairs, a_bucketFirst)) :
  ∃ n24 : Nat, wX_busy_24 post (nI s) (nI (cf_n C)) f_changes f_engine f_pending f_today f_root f_lastTaken (ai_N (cf_s C)) (ai_N (cf_r C)) (ai_N (cf_a C)) (ai_N (cf_v C)) (ai_N (cf_t C)) (ai_N (cf_d C)) a_joinTime a_beginTime a_leaveTime a_keptTime a_keptJoin a_keptBegin a_changeTime a_changeStation a_changeAt a_changeWaits a_visitOf a_waitingSet a_free a_heap a_dayFirst a_nextInDay a_eventOf a_firstChild a_nextSibling a_pairs a_bucketFirst n24 0 0 0 0 := by
  obtain ⟨_, _, _, m, rfl, hm, lt, ls, la, lw, h1, h2, h3, h4, h5⟩ := hF
  have hla := la_lt hv
  have hS : ∀ τ, sm_Z (fun j => lo_i (ls j = s ∧ lt j ≤ τ) (la j - lw j)) m = nz_N C 2 s τ := by
    intro τ
    rw [← nz_S, ← h4, ← h5, ← sm_Z_sub]
    refine sm_Z_eq (fun j _ => ?_)
    by_cases w : ls j = s ∧ lt j ≤ τ
    · rw [lo_t w, lo_t w, lo_t w]
    · rw [lo_f w, lo_f w, lo_f w]; rfl
  have key : ∀ (N i fr : Nat) (n : Int), m < i + N → i ≤ m → fr ≤ 1541 → (∀ j, i ≤ j → j < m → fr ≤ lt j) → (-2 * (i : Int) ≤ n ∧ n ≤ 2 * i) → (∀ τ, fr ≤ τ → sm_Z (fun j => lo_i (ls j = s ∧ lt j ≤ τ) (la j - lw j)) i = n) →
      wX_busy_24 post (nI s) (nI (cf_n C)) (nI m) f_engine f_pending f_today f_root f_lastTaken (ai_N (cf_s C)) (ai_N (cf_r C)) (ai_N (cf_a C)) (ai_N (cf_v C)) (ai_N (cf_t C)) (ai_N (cf_d C)) a_joinTime a_beginTime a_leaveTime a_keptTime a_keptJoin a_keptBegin a_changeTime a_changeStation a_changeAt a_changeWaits a_visitOf a_waitingSet a_free a_heap a_dayFirst a_nextInDay a_eventOf a_firstChild a_nextSibling a_pairs a_bucketFirst N (Int32.ofInt (sm_Z (fun τ => lo_i (0 < sm_Z (fun j => lo_i (ls j = s ∧ lt j ≤ τ) (la j - lw j)) i) 1) fr)) (Int32.ofInt n) (nI fr) (nI i) := by
    intro N
    induction N with
    | zero => intro i fr n h h'; omega
    | succ N ih =>
      intro i fr n hN hi hfr hle hn hc
      refine pk_le m i (fun h => ?_) (fun h => ⟨pk_in i 160 (by omega), ?_⟩)
      · have e : i = m := by omega
        rw [e] at hc ⊢
        have n0 : n = 0 := by
          rw [← hc 2000 (by omega), hS, nz_0 hv (by omega)]
        have z1 : sm_Z (fun τ => lo_i (0 < sm_Z (fun j => lo_i (ls j = s ∧ lt j ≤ τ) (la j - lw j)) m) 1) 2000 = sm_Z (fun τ => lo_i (0 < sm_Z (fun j => lo_i (ls j = s ∧ lt j ≤ τ) (la j - lw j)) m) 1) fr :=
          sm_Z_tail (by omega) (fun τ a _ => lo_f (by rw [hc τ a]; omega))
        have z2 : sm_Z (fun t => lo_i (0 < nz_N C 2 s t) 1) 2000 = sm_Z (fun t => lo_i (0 < nz_N C 2 s t) 1) (la_T C) := sm_Z_tail (by omega) (fun τ a _ => lo_f (by rw [nz_0 hv a]; omega))
        have z3 : sm_Z (fun τ => lo_i (0 < sm_Z (fun j => lo_i (ls j = s ∧ lt j ≤ τ) (la j - lw j)) m) 1) 2000 = sm_Z (fun t => lo_i (0 < nz_N C 2 s t) 1) 2000 := sm_Z_eq (fun τ _ => by rw [hS])
        rw [← z1, z3, z2]; exact K
      · have g1 := h1 i h
        have g2 := h2 i h
        have hfi := hle i (Nat.le_refl _) h
        rw [nI_clamp (by omega : i < 2 ^ 31), g1.2.1, nI_1]
        have st : ls i = s → ∀ (z0 : Int32), z0 = Int32.ofInt (lo_i (0 < n) 1 * ((lt i : Int) - fr)) → wX_busy_63 post (wX_busy_24 post (nI s) (nI (cf_n C)) (nI m) f_engine f_pending f_today f_root f_lastTaken (ai_N (cf_s C)) (ai_N (cf_r C)) (ai_N (cf_a C)) (ai_N (cf_v C)) (ai_N (cf_t C)) (ai_N (cf_d C)) a_joinTime a_beginTime a_leaveTime a_keptTime a_keptJoin a_keptBegin a_changeTime a_changeStation a_changeAt a_changeWaits a_visitOf a_waitingSet a_free a_heap a_dayFirst a_nextInDay a_eventOf a_firstChild a_nextSibling a_pairs a_bucketFirst N) (nI s) (Int32.ofInt n) (nI i) z0 (Int32.ofInt (sm_Z (fun τ => lo_i (0 < sm_Z (fun j => lo_i (ls j = s ∧ lt j ≤ τ) (la j - lw j)) i) 1) fr)) (nI (cf_n C)) (nI m) f_engine f_pending f_today f_root f_lastTaken (ai_N (cf_s C)) (ai_N (cf_r C)) (ai_N (cf_a C)) (ai_N (cf_v C)) (ai_N (cf_t C)) (ai_N (cf_d C)) a_joinTime a_beginTime a_leaveTime a_keptTime a_keptJoin a_keptBegin a_changeTime a_changeStation a_changeAt a_changeWaits a_visitOf a_waitingSet a_free a_heap a_dayFirst a_nextInDay a_eventOf a_firstChild a_nextSibling a_pairs a_bucketFirst := by
          intro hls z0 hz y ey
          rw [hz, ← Int32.ofInt_add, ← sm_Z_cf (f := fun τ => lo_i (0 < sm_Z (fun j => lo_i (ls j = s ∧ lt j ≤ τ) (la j - lw j)) i) 1) hfi (fun τ a b => by rw [hc τ a])] at ey
          subst ey
          refine ⟨pk_in i 160 (by omega), ?_⟩
          rw [nI_clamp (by omega : i < 2 ^ 31), g1.1, g1.2.2.1, g1.2.2.2, ← Int32.ofInt_sub, ← Int32.ofInt_add, nI_1]
          intro y ey
          subst ey
          refine ⟨pk_in i 160 (by omega), pk_in i 160 (by omega), ?_⟩
          intro y ey
          subst ey
          intro y ey
          subst ey
          have := ih (i + 1) (lt i) (n + (la i - lw i)) (by omega) (by omega) (by omega) (fun j j1 j2 => h3 i j (by omega) j2) (by omega) (fun τ a => by
            show sm_Z _ i + lo_i (ls i = s ∧ lt i ≤ τ) (la i - lw i) = _
            rw [hc τ (by omega), lo_t ⟨hls, a⟩])
          rw [sm_Z_eq (f := fun τ => lo_i (0 < sm_Z (fun j => lo_i (ls j = s ∧ lt j ≤ τ) (la j - lw j)) (i + 1)) 1) (g := fun τ => lo_i (0 < sm_Z (fun j => lo_i (ls j = s ∧ lt j ≤ τ) (la j - lw j)) i) 1) (fun τ hτ => by
            have e : sm_Z (fun j => lo_i (ls j = s ∧ lt j ≤ τ) (la j - lw j)) (i + 1) = sm_Z (fun j => lo_i (ls j = s ∧ lt j ≤ τ) (la j - lw j)) i := by
              show sm_Z _ i + lo_i (ls i = s ∧ lt i ≤ τ) (la i - lw i) = _
              rw [lo_f (fun w => by omega), Int.add_zero]
            rw [e])] at this
          exact this
        refine pk_eq (ls i) s (fun h6 => ?_) (fun h6 => ?_)
        · have hcmp : Int32.ofInt n ≤ 0 ↔ n ≤ 0 := by
            rw [← zi_0]; exact zi_le (by omega) (by omega) (by omega) (by omega)
          refine ek_if hcmp (fun h7 => st h6 0 ?_) (fun h7 => ⟨pk_in i 160 (by omega), st h6 _ ?_⟩)
          · rw [lo_f (by omega), Int.zero_mul, zi_0]
          · rw [lo_t (by omega), Int.one_mul, Int32.ofInt_sub, zi_n, zi_n, g1.1]
        · intro y ey
          subst ey
          have nz : ∀ τ, sm_Z (fun j => lo_i (ls j = s ∧ lt j ≤ τ) (la j - lw j)) (i + 1) = sm_Z (fun j => lo_i (ls j = s ∧ lt j ≤ τ) (la j - lw j)) i := fun τ => by
            show sm_Z _ i + lo_i (ls i = s ∧ lt i ≤ τ) (la i - lw i) = _
            rw [lo_f (fun w => h6 w.1), Int.add_zero]
          have := ih (i + 1) fr n (by omega) (by omega) hfr (fun j j1 j2 => hle j (by omega) j2) (by omega) (fun τ a => by rw [nz]; exact hc τ a)
          rw [sm_Z_eq (fun τ _ => by rw [nz τ])] at this
          exact this
  have := key (m + 1) 0 0 0 (by omega) (by omega) (by omega) (fun j _ _ => Nat.zero_le _) (by omega) (fun τ _ => rfl)
  rw [show sm_Z (fun τ => lo_i (0 < sm_Z (fun j => lo_i (ls j = s ∧ lt j ≤ τ) (la j - lw j)) 0) 1) 0 = 0 from rfl, zi_0] at this
  exact ⟨m + 1, this⟩
end
end
section
/-! the component: longest, stays, last, order, agree -/
section
variable {f_customers f_changes f_engine f_pending f_today f_root f_lastTaken : Int32} {a_servers a_rules a_arrivalOf a_visitCount a_visitStation a_visitNeed a_joinTime a_beginTime a_leaveTime a_keptTime a_keptJoin a_keptBegin a_changeTime a_changeStation a_changeAt a_changeWaits a_visitOf a_waitingSet a_free a_heap a_dayFirst a_nextInDay a_eventOf a_firstChild a_nextSibling a_pairs a_bucketFirst : Nat → Int32} {C : si_CF}
theorem xq_lg {post : Int32 → SX → Prop} {s : Nat} (hv : cf_V C) (hs : s < 4) (hF : xf_R C f_changes a_joinTime a_beginTime a_leaveTime a_changeTime a_changeStation a_changeAt a_changeWaits) (K : ∀ z, mz_P C s z → post (Int32.ofInt z) (nI (cf_n C), f_changes, f_engine, f_pending, f_today, f_root, f_lastTaken, ai_N (cf_s C), ai_N (cf_r C), ai_N (cf_a C), ai_N (cf_v C), ai_N (cf_t C), ai_N (cf_d C), a_joinTime, a_beginTime, a_leaveTime, a_keptTime, a_keptJoin, a_keptBegin, a_changeTime, a_changeStation, a_changeAt, a_changeWaits, a_visitOf, a_waitingSet, a_free, a_heap, a_dayFirst, a_nextInDay, a_eventOf, a_firstChild, a_nextSibling, a_pairs, a_bucketFirst)) :
  ∃ n21 : Nat, wX_longest_21 post (nI s) (nI (cf_n C)) f_changes f_engine f_pending f_today f_root f_lastTaken (ai_N (cf_s C)) (ai_N (cf_r C)) (ai_N (cf_a C)) (ai_N (cf_v C)) (ai_N (cf_t C)) (ai_N (cf_d C)) a_joinTime a_beginTime a_leaveTime a_keptTime a_keptJoin a_keptBegin a_changeTime a_changeStation a_changeAt a_changeWaits a_visitOf a_waitingSet a_free a_heap a_dayFirst a_nextInDay a_eventOf a_firstChild a_nextSibling a_pairs a_bucketFirst n21 0 0 0 := by
  obtain ⟨_, _, _, m, rfl, hm, lt, ls, la, lw, h1, h2, h3, h4, h5⟩ := hF
  have key : ∀ (N i : Nat) (z : Int), m < i + N → i ≤ m → 0 ≤ z → z ≤ 48 → (z = 0 ∨ ∃ τ, z = nz_N C 1 s τ) → (∀ τ, (∀ j, i ≤ j → j < m → τ < lt j) → nz_N C 1 s τ ≤ z) →
      wX_longest_21 post (nI s) (nI (cf_n C)) (nI m) f_engine f_pending f_today f_root f_lastTaken (ai_N (cf_s C)) (ai_N (cf_r C)) (ai_N (cf_a C)) (ai_N (cf_v C)) (ai_N (cf_t C)) (ai_N (cf_d C)) a_joinTime a_beginTime a_leaveTime a_keptTime a_keptJoin a_keptBegin a_changeTime a_changeStation a_changeAt a_changeWaits a_visitOf a_waitingSet a_free a_heap a_dayFirst a_nextInDay a_eventOf a_firstChild a_nextSibling a_pairs a_bucketFirst N (Int32.ofInt z) (Int32.ofInt (sm_Z (fun j => lo_i (ls j = s) (lw j)) i)) (nI i) := by
    intro N
    induction N with
    | zero => intro i z h h'; omega
    | succ N ih =>
      intro i z hN hi z0 z48 hz hc
      refine pk_le m i (fun h => ?_) (fun h => ⟨pk_in i 160 (by omega), ?_⟩)
      · exact K z ⟨z0, z48, hz, fun τ => hc τ (fun j a b => by omega)⟩
      · have g1 := h1 i h
        have g2 := h2 i h
        rw [nI_clamp (by omega : i < 2 ^ 31), g1.2.1]
        have nx : sm_Z (fun j => lo_i (ls j = s) (lw j)) (i + 1) = sm_Z (fun j => lo_i (ls j = s) (lw j)) i + lo_i (ls i = s) (lw i) := rfl
        have full : ∀ τ, lt i ≤ τ → (∀ j, i + 1 ≤ j → j < m → τ < lt j) → nz_N C 1 s τ = sm_Z (fun j => lo_i (ls j = s) (lw j)) (i + 1) := by
          intro τ a b
          rw [← h5 s τ, sm_Z_tail (i := i + 1) (m := m) (by omega) (fun j j1 j2 => lo_f (fun w => by have := b j j1 j2; omega))]
          exact sm_Z_eq (fun j hj => lo_c ⟨fun w => w.1, fun w => ⟨w, Nat.le_trans (h3 j i (by omega) h) a⟩⟩)
        have over : (i + 1 = m ∨ (i + 1 < m ∧ lt i < lt (i + 1))) → wX_longest_85 post (wX_longest_21 post (nI s) (nI (cf_n C)) (nI m) f_engine f_pending f_today f_root f_lastTaken (ai_N (cf_s C)) (ai_N (cf_r C)) (ai_N (cf_a C)) (ai_N (cf_v C)) (ai_N (cf_t C)) (ai_N (cf_d C)) a_joinTime a_beginTime a_leaveTime a_keptTime a_keptJoin a_keptBegin a_changeTime a_changeStation a_changeAt a_changeWaits a_visitOf a_waitingSet a_free a_heap a_dayFirst a_nextInDay a_eventOf a_firstChild a_nextSibling a_pairs a_bucketFirst N) (nI s) (Int32.ofInt z) (Int32.ofInt (sm_Z (fun j => lo_i (ls j = s) (lw j)) (i + 1))) (nI i) (nI (cf_n C)) (nI m) f_engine f_pending f_today f_root f_lastTaken (ai_N (cf_s C)) (ai_N (cf_r C)) (ai_N (cf_a C)) (ai_N (cf_v C)) (ai_N (cf_t C)) (ai_N (cf_d C)) a_joinTime a_beginTime a_leaveTime a_keptTime a_keptJoin a_keptBegin a_changeTime a_changeStation a_changeAt a_changeWaits a_visitOf a_waitingSet a_free a_heap a_dayFirst a_nextInDay a_eventOf a_firstChild a_nextSibling a_pairs a_bucketFirst := by
          intro ho
          have hov : ∀ j, i + 1 ≤ j → j < m → lt i < lt j := by
            intro j j1 j2
            rcases ho with o | ⟨o1, o2⟩
            · omega
            · have := h3 (i + 1) j j1 j2
              omega
          have hW := full (lt i) (Nat.le_refl _) hov
          have b := nz_bd C 1 s (lt i)
          rw [hW] at b
          have split : ∀ τ, (∀ j, i + 1 ≤ j → j < m → τ < lt j) → nz_N C 1 s τ ≤ z ∨ nz_N C 1 s τ = sm_Z (fun j => lo_i (ls j = s) (lw j)) (i + 1) := by
            intro τ hτ
            rcases Nat.lt_or_ge τ (lt i) with q | q
            · refine Or.inl (hc τ (fun j j1 j2 => ?_))
              have := h3 i j j1 j2
              omega
            · exact Or.inr (full τ q hτ)
          refine br_f (by decide) ?_
          have hcmp := zi_le (a := sm_Z (fun j => lo_i (ls j = s) (lw j)) (i + 1)) (b := z) (by omega) (by omega) (by omega) (by omega)
          rw [nI_1]
          refine ek_if hcmp (fun h6 => ?_) (fun h6 => ?_)
          · intro y ey
            subst ey
            refine ih (i + 1) z (by omega) (by omega) z0 z48 hz (fun τ hτ => ?_)
            rcases split τ hτ with q | q
            · exact q
            · omega
          · intro y ey
            subst ey
            refine ih (i + 1) _ (by omega) (by omega) b.1 b.2 (Or.inr ⟨lt i, hW.symm⟩) (fun τ hτ => ?_)
            rcases split τ hτ with q | q
            · omega
            · omega
        have st : ∀ z0' : Int32, z0' = Int32.ofInt (lo_i (ls i = s) (lw i)) → wX_longest_53 post (wX_longest_21 post (nI s) (nI (cf_n C)) (nI m) f_engine f_pending f_today f_root f_lastTaken (ai_N (cf_s C)) (ai_N (cf_r C)) (ai_N (cf_a C)) (ai_N (cf_v C)) (ai_N (cf_t C)) (ai_N (cf_d C)) a_joinTime a_beginTime a_leaveTime a_keptTime a_keptJoin a_keptBegin a_changeTime a_changeStation a_changeAt a_changeWaits a_visitOf a_waitingSet a_free a_heap a_dayFirst a_nextInDay a_eventOf a_firstChild a_nextSibling a_pairs a_bucketFirst N) (nI s) (Int32.ofInt z) (nI i) z0' (Int32.ofInt (sm_Z (fun j => lo_i (ls j = s) (lw j)) i)) (nI (cf_n C)) (nI m) f_engine f_pending f_today f_root f_lastTaken (ai_N (cf_s C)) (ai_N (cf_r C)) (ai_N (cf_a C)) (ai_N (cf_v C)) (ai_N (cf_t C)) (ai_N (cf_d C)) a_joinTime a_beginTime a_leaveTime a_keptTime a_keptJoin a_keptBegin a_changeTime a_changeStation a_changeAt a_changeWaits a_visitOf a_waitingSet a_free a_heap a_dayFirst a_nextInDay a_eventOf a_firstChild a_nextSibling a_pairs a_bucketFirst := by
          intro z0' ez y ey
          rw [ez, ← Int32.ofInt_add, ← nx] at ey
          subst ey
          rw [nI_1]
          refine pk_eq (i + 1) m (fun h6 => over (Or.inl h6)) (fun h6 => ⟨pk_in (i + 1) 160 (by omega), pk_in i 160 (by omega), ?_⟩)
          have g1' := h1 (i + 1) (by omega)
          have g2' := h2 (i + 1) (by omega)
          rw [nI_clamp (by omega : i + 1 < 2 ^ 31), nI_clamp (by omega : i < 2 ^ 31), g1.1, g1'.1]
          refine pk_le (lt (i + 1)) (lt i) (fun h7 => ?_) (fun h7 => over (Or.inr ⟨by omega, h7⟩))
          refine br_t rfl ?_
          intro y ey
          rw [nI_1] at ey
          subst ey
          refine ih (i + 1) z (by omega) (by omega) z0 z48 hz (fun τ hτ => hc τ (fun j j1 j2 => ?_))
          by_cases q : j = i
          · rw [q]
            have := hτ (i + 1) (Nat.le_refl _) (by omega)
            omega
          · exact hτ j (by omega) j2
        refine pk_eq (ls i) s (fun h6 => ⟨pk_in i 160 (by omega), st _ ?_⟩) (fun h6 => st 0 ?_)
        · rw [lo_t h6, g1.2.2.2]
        · rw [lo_f h6, zi_0]
  have := key (m + 1) 0 0 (by omega) (by omega) (by omega) (by omega) (Or.inl rfl) (fun τ hτ => by
    rw [← h5 s τ, sm_Z_tail (i := 0) (m := m) (by omega) (fun j j1 j2 => lo_f (fun w => by have := hτ j j1 j2; omega))]
    exact Int.le_refl _)
  rw [show sm_Z (fun j => lo_i (ls j = s) (lw j)) 0 = 0 from rfl, zi_0] at this
  exact ⟨m + 1, this⟩
theorem xq_last {post : Int32 → SX → Prop} (hv : cf_V C) (hF : xf_R C f_changes a_joinTime a_beginTime a_leaveTime a_changeTime a_changeStation a_changeAt a_changeWaits) (K : post (nI (la_T C)) (nI (cf_n C), f_changes, f_engine, f_pending, f_today, f_root, f_lastTaken, ai_N (cf_s C), ai_N (cf_r C), ai_N (cf_a C), ai_N (cf_v C), ai_N (cf_t C), ai_N (cf_d C), a_joinTime, a_beginTime, a_leaveTime, a_keptTime, a_keptJoin, a_keptBegin, a_changeTime, a_changeStation, a_changeAt, a_changeWaits, a_visitOf, a_waitingSet, a_free, a_heap, a_dayFirst, a_nextInDay, a_eventOf, a_firstChild, a_nextSibling, a_pairs, a_bucketFirst)) : ∃ n9 : Nat, wX_last_9 post (nI (cf_n C)) f_changes f_engine f_pending f_today f_root f_lastTaken (ai_N (cf_s C)) (ai_N (cf_r C)) (ai_N (cf_a C)) (ai_N (cf_v C)) (ai_N (cf_t C)) (ai_N (cf_d C)) a_joinTime a_beginTime a_leaveTime a_keptTime a_keptJoin a_keptBegin a_changeTime a_changeStation a_changeAt a_changeWaits a_visitOf a_waitingSet a_free a_heap a_dayFirst a_nextInDay a_eventOf a_firstChild a_nextSibling a_pairs a_bucketFirst n9 0 0 := by
  have h12 := hv.1
  have key : ∀ (N i : Nat), cf_n C < i + N → i ≤ cf_n C → wX_last_9 post (nI (cf_n C)) f_changes f_engine f_pending f_today f_root f_lastTaken (ai_N (cf_s C)) (ai_N (cf_r C)) (ai_N (cf_a C)) (ai_N (cf_v C)) (ai_N (cf_t C)) (ai_N (cf_d C)) a_joinTime a_beginTime a_leaveTime a_keptTime a_keptJoin a_keptBegin a_changeTime a_changeStation a_changeAt a_changeWaits a_visitOf a_waitingSet a_free a_heap a_dayFirst a_nextInDay a_eventOf a_firstChild a_nextSibling a_pairs a_bucketFirst N (nI (mx_N (fun c => cs_G (si_F C c)) i)) (nI i) := by
    intro N
    induction N with
    | zero => intro i h h'; omega
    | succ N ih =>
      intro i hN hi
      refine pk_le (cf_n C) i (fun h => ?_) (fun h => ⟨pk_in i 12 (by omega), ?_⟩)
      · have e : i = cf_n C := by omega
        rw [e]; exact K
      · have hG := sF_G hv h
        have hm : mx_N (fun c => cs_G (si_F C c)) i ≤ 2000 := mx_bd (fun j hj => by have := sF_G hv (show j < cf_n C by omega); omega)
        have nx : mx_N (fun c => cs_G (si_F C c)) (i + 1) = if cs_G (si_F C i) ≤ mx_N (fun c => cs_G (si_F C c)) i then mx_N (fun c => cs_G (si_F C c)) i else cs_G (si_F C i) := rfl
        have ii := ih (i + 1) (by omega) (by omega)
        rw [nx] at ii
        rw [nI_clamp (by omega : i < 2 ^ 31), hF.2.2.1 i h, nI_1]
        refine pk_le (cs_G (si_F C i)) (mx_N (fun c => cs_G (si_F C c)) i) (fun h' => ?_) (fun h' => ⟨pk_in i 12 (by omega), ?_⟩)
        · rw [if_pos h'] at ii
          intro y ey
          subst ey
          exact ii
        · rw [if_neg (by omega)] at ii
          intro y ey
          subst ey
          intro y ey
          subst ey
          exact ii
  exact ⟨cf_n C + 1, key (cf_n C + 1) 0 (by omega) (by omega)⟩
noncomputable def xq_F (C : si_CF) (s : Nat) : Nat → Int := fun v => lo_i ((v / 4 < cf_n C ∧ v % 4 < cf_v C (v / 4)) ∧ cf_t C v = s) ((cs_B (si_F C (v / 4)) (v % 4) : Int) + cf_d C v - cs_J (si_F C (v / 4)) (v % 4))
theorem xq_stays {post : Int32 → SX → Prop} {s : Nat} (hv : cf_V C) (hs : s < 4) (hF : xf_R C f_changes a_joinTime a_beginTime a_leaveTime a_changeTime a_changeStation a_changeAt a_changeWaits) (K : post (Int32.ofInt (sm_Z (xq_F C s) 48)) (nI (cf_n C), f_changes, f_engine, f_pending, f_today, f_root, f_lastTaken, ai_N (cf_s C), ai_N (cf_r C), ai_N (cf_a C), ai_N (cf_v C), ai_N (cf_t C), ai_N (cf_d C), a_joinTime, a_beginTime, a_leaveTime, a_keptTime, a_keptJoin, a_keptBegin, a_changeTime, a_changeStation, a_changeAt, a_changeWaits, a_visitOf, a_waitingSet, a_free, a_heap, a_dayFirst, a_nextInDay, a_eventOf, a_firstChild, a_nextSibling, a_pairs, a_bucketFirst)) : ∃ n18 : Nat, wX_stays_18 post (nI s) (nI (cf_n C)) f_changes f_engine f_pending f_today f_root f_lastTaken (ai_N (cf_s C)) (ai_N (cf_r C)) (ai_N (cf_a C)) (ai_N (cf_v C)) (ai_N (cf_t C)) (ai_N (cf_d C)) a_joinTime a_beginTime a_leaveTime a_keptTime a_keptJoin a_keptBegin a_changeTime a_changeStation a_changeAt a_changeWaits a_visitOf a_waitingSet a_free a_heap a_dayFirst a_nextInDay a_eventOf a_firstChild a_nextSibling a_pairs a_bucketFirst n18 0 0 := by
  have h12 := hv.1
  have key : ∀ (N c : Nat), cf_n C < c + N → c ≤ cf_n C → wX_stays_18 post (nI s) (nI (cf_n C)) f_changes f_engine f_pending f_today f_root f_lastTaken (ai_N (cf_s C)) (ai_N (cf_r C)) (ai_N (cf_a C)) (ai_N (cf_v C)) (ai_N (cf_t C)) (ai_N (cf_d C)) a_joinTime a_beginTime a_leaveTime a_keptTime a_keptJoin a_keptBegin a_changeTime a_changeStation a_changeAt a_changeWaits a_visitOf a_waitingSet a_free a_heap a_dayFirst a_nextInDay a_eventOf a_firstChild a_nextSibling a_pairs a_bucketFirst N (Int32.ofInt (sm_Z (xq_F C s) (4 * c))) (nI c) := by
    intro N
    induction N with
    | zero => intro c h h'; omega
    | succ N ih =>
      intro c hN hc
      refine pk_le (cf_n C) c (fun h => ?_) (fun h => ⟨5, ?_⟩)
      · rw [← sm_Z_tail (f := xq_F C s) (i := 4 * c) (m := 48) (by omega) (fun v a b => lo_f (fun w => by omega))]; exact K
      · have hv4 := (hv.2.2.1 c h).2
        have key2 : ∀ (M k : Nat), 4 < k + M → k ≤ cf_v C c → wX_stays_29 post (wX_stays_18 post (nI s) (nI (cf_n C)) f_changes f_engine f_pending f_today f_root f_lastTaken (ai_N (cf_s C)) (ai_N (cf_r C)) (ai_N (cf_a C)) (ai_N (cf_v C)) (ai_N (cf_t C)) (ai_N (cf_d C)) a_joinTime a_beginTime a_leaveTime a_keptTime a_keptJoin a_keptBegin a_changeTime a_changeStation a_changeAt a_changeWaits a_visitOf a_waitingSet a_free a_heap a_dayFirst a_nextInDay a_eventOf a_firstChild a_nextSibling a_pairs a_bucketFirst N) (nI s) (nI c) (nI (cf_n C)) f_changes f_engine f_pending f_today f_root f_lastTaken (ai_N (cf_s C)) (ai_N (cf_r C)) (ai_N (cf_a C)) (ai_N (cf_v C)) (ai_N (cf_t C)) (ai_N (cf_d C)) a_joinTime a_beginTime a_leaveTime a_keptTime a_keptJoin a_keptBegin a_changeTime a_changeStation a_changeAt a_changeWaits a_visitOf a_waitingSet a_free a_heap a_dayFirst a_nextInDay a_eventOf a_firstChild a_nextSibling a_pairs a_bucketFirst M (Int32.ofInt (sm_Z (xq_F C s) (4 * c + k))) (nI k) := by
          intro M
          induction M with
          | zero => intro k h h'; omega
          | succ M ih2 =>
            intro k hM hk
            refine ⟨pk_in c 12 (by omega), ?_⟩
            rw [nI_clamp (by omega : c < 2 ^ 31), ai_at]
            refine pk_le (cf_v C c) k (fun h6 => ?_) (fun h6 => ?_)
            · intro y ey
              rw [nI_1] at ey
              subst ey
              rw [← sm_Z_tail (f := xq_F C s) (i := 4 * c + k) (m := 4 * (c + 1)) (by omega) (fun v a b => lo_f (fun w => by
                have : v / 4 = c := by omega
                rw [this] at w
                omega))]
              exact ih (c + 1) (by omega) (by omega)
            · rw [yx_5]
              intro y ey
              subst ey
              rw [nI_clamp (by omega : 4 * c + k < 2 ^ 31), ai_at, ai_at, hF.1 c k h h6, hF.2.1 c k h h6, nI_1]
              have ht := (hv.2.2.2 c k h h6).1
              have e1 : (4 * c + k) / 4 = c := by omega
              have e2 : (4 * c + k) % 4 = k := by omega
              have nx : sm_Z (xq_F C s) (4 * c + (k + 1)) = sm_Z (xq_F C s) (4 * c + k) + xq_F C s (4 * c + k) := rfl
              have ii := ih2 (k + 1) (by omega) (by omega)
              rw [nx] at ii
              have eF : xq_F C s (4 * c + k) = lo_i ((c < cf_n C ∧ k < cf_v C c) ∧ cf_t C (4 * c + k) = s) ((cs_B (si_F C c) k : Int) + cf_d C (4 * c + k) - cs_J (si_F C c) k) := by
                unfold xq_F; rw [e1, e2]
              rw [eF] at ii
              refine ⟨pk_in (4 * c + k) 48 (by omega), pk_eq (cf_t C (4 * c + k)) s (fun h7 => ?_) (fun h7 => ?_)⟩
              · rw [lo_t ⟨⟨h, h6⟩, h7⟩, Int32.ofInt_add, Int32.ofInt_sub, Int32.ofInt_add, zi_n, zi_n, zi_n] at ii
                refine ⟨pk_in (4 * c + k) 48 (by omega), pk_in (4 * c + k) 48 (by omega), pk_in (4 * c + k) 48 (by omega), ?_⟩
                intro y ey
                subst ey
                intro y ey
                subst ey
                exact ii
              · rw [lo_f (fun w => h7 w.2), Int.add_zero] at ii
                intro y ey
                rw [Int32.add_zero] at ey
                subst ey
                intro y ey
                subst ey
                exact ii
        exact key2 5 0 (by omega) (by omega)
  have := key (cf_n C + 1) 0 (by omega) (by omega)
  rw [show sm_Z (xq_F C s) (4 * 0) = 0 from rfl, zi_0] at this
  exact ⟨cf_n C + 1, this⟩
/-- the places in the order of leaving -/
def or_k (C : si_CF) (c : Nat) : Nat → Nat := sm_N (fun b => if cs_G (si_F C b) < cs_G (si_F C c) ∨ (cs_G (si_F C b) = cs_G (si_F C c) ∧ b < c) then 1 else 0)
theorem or_le (C : si_CF) (c : Nat) : ∀ i, or_k C c i ≤ i
  | 0 => Nat.le_refl _
  | i + 1 => by
    have := or_le C c i
    show or_k C c i + (if _ then 1 else 0) ≤ i + 1
    split <;> omega
theorem or_lt {C : si_CF} {c : Nat} : ∀ {i : Nat}, c < i → or_k C c i < i
  | 0, h => by omega
  | i + 1, h => by
    show or_k C c i + (if cs_G (si_F C i) < cs_G (si_F C c) ∨ (cs_G (si_F C i) = cs_G (si_F C c) ∧ i < c) then 1 else 0) < i + 1
    by_cases z : c = i
    · have := or_le C c i
      rw [if_neg (by rw [z]; omega)]; omega
    · have := or_lt (C := C) (c := c) (i := i) (by omega)
      split <;> omega
theorem xq_or1 {post : Int32 → SX → Prop} {J17 : Int32 → Prop} {x1 : Int32} {c : Nat} (hv : cf_V C) (hF : xf_R C f_changes a_joinTime a_beginTime a_leaveTime a_changeTime a_changeStation a_changeAt a_changeWaits) (hc : c < cf_n C)
  (K : (nI (or_k C c (cf_n C)) = x1 → post (nI c) (nI (cf_n C), f_changes, f_engine, f_pending, f_today, f_root, f_lastTaken, ai_N (cf_s C), ai_N (cf_r C), ai_N (cf_a C), ai_N (cf_v C), ai_N (cf_t C), ai_N (cf_d C), a_joinTime, a_beginTime, a_leaveTime, a_keptTime, a_keptJoin, a_keptBegin, a_changeTime, a_changeStation, a_changeAt, a_changeWaits, a_visitOf, a_waitingSet, a_free, a_heap, a_dayFirst, a_nextInDay, a_eventOf, a_firstChild, a_nextSibling, a_pairs, a_bucketFirst)) ∧ (¬ nI (or_k C c (cf_n C)) = x1 → J17 (nI (c + 1)))) : ∃ n30 : Nat, wX_order_30 post J17 x1 (nI c) (nI (cf_n C)) f_changes f_engine f_pending f_today f_root f_lastTaken (ai_N (cf_s C)) (ai_N (cf_r C)) (ai_N (cf_a C)) (ai_N (cf_v C)) (ai_N (cf_t C)) (ai_N (cf_d C)) a_joinTime a_beginTime a_leaveTime a_keptTime a_keptJoin a_keptBegin a_changeTime a_changeStation a_changeAt a_changeWaits a_visitOf a_waitingSet a_free a_heap a_dayFirst a_nextInDay a_eventOf a_firstChild a_nextSibling a_pairs a_bucketFirst n30 0 0 := by
  have h12 := hv.1
  have key : ∀ (N i : Nat), cf_n C < i + N → i ≤ cf_n C → wX_order_30 post J17 x1 (nI c) (nI (cf_n C)) f_changes f_engine f_pending f_today f_root f_lastTaken (ai_N (cf_s C)) (ai_N (cf_r C)) (ai_N (cf_a C)) (ai_N (cf_v C)) (ai_N (cf_t C)) (ai_N (cf_d C)) a_joinTime a_beginTime a_leaveTime a_keptTime a_keptJoin a_keptBegin a_changeTime a_changeStation a_changeAt a_changeWaits a_visitOf a_waitingSet a_free a_heap a_dayFirst a_nextInDay a_eventOf a_firstChild a_nextSibling a_pairs a_bucketFirst N (nI (or_k C c i)) (nI i) := by
    intro N
    induction N with
    | zero => intro i h h'; omega
    | succ N ih =>
      intro i hN hi
      refine pk_le (cf_n C) i (fun h => ?_) (fun h => ⟨pk_in i 12 (by omega), pk_in c 12 (by omega), ?_⟩)
      · have e : i = cf_n C := by omega
        rw [e, nI_1]
        exact ⟨K.1, fun z y ey => by rw [ey]; exact K.2 z⟩
      · have hGi := sF_G hv h
        have hGc := sF_G hv hc
        have nx : or_k C c (i + 1) = or_k C c i + (if cs_G (si_F C i) < cs_G (si_F C c) ∨ (cs_G (si_F C i) = cs_G (si_F C c) ∧ i < c) then 1 else 0) := rfl
        have ii := ih (i + 1) (by omega) (by omega)
        rw [nx] at ii
        have yes : (cs_G (si_F C i) < cs_G (si_F C c) ∨ (cs_G (si_F C i) = cs_G (si_F C c) ∧ i < c)) → wX_order_77 post J17 (wX_order_30 post J17 x1 (nI c) (nI (cf_n C)) f_changes f_engine f_pending f_today f_root f_lastTaken (ai_N (cf_s C)) (ai_N (cf_r C)) (ai_N (cf_a C)) (ai_N (cf_v C)) (ai_N (cf_t C)) (ai_N (cf_d C)) a_joinTime a_beginTime a_leaveTime a_keptTime a_keptJoin a_keptBegin a_changeTime a_changeStation a_changeAt a_changeWaits a_visitOf a_waitingSet a_free a_heap a_dayFirst a_nextInDay a_eventOf a_firstChild a_nextSibling a_pairs a_bucketFirst N) x1 (nI c) (nI (or_k C c i)) (nI i) (nI (cf_n C)) f_changes f_engine f_pending f_today f_root f_lastTaken (ai_N (cf_s C)) (ai_N (cf_r C)) (ai_N (cf_a C)) (ai_N (cf_v C)) (ai_N (cf_t C)) (ai_N (cf_d C)) a_joinTime a_beginTime a_leaveTime a_keptTime a_keptJoin a_keptBegin a_changeTime a_changeStation a_changeAt a_changeWaits a_visitOf a_waitingSet a_free a_heap a_dayFirst a_nextInDay a_eventOf a_firstChild a_nextSibling a_pairs a_bucketFirst := by
          intro hy
          rw [if_pos hy] at ii
          refine br_f (by decide) ?_
          rw [nI_1, nI_1]
          intro y ey
          subst ey
          intro y ey
          subst ey
          exact ii
        have no : ¬ (cs_G (si_F C i) < cs_G (si_F C c) ∨ (cs_G (si_F C i) = cs_G (si_F C c) ∧ i < c)) → wX_order_81 post J17 (wX_order_30 post J17 x1 (nI c) (nI (cf_n C)) f_changes f_engine f_pending f_today f_root f_lastTaken (ai_N (cf_s C)) (ai_N (cf_r C)) (ai_N (cf_a C)) (ai_N (cf_v C)) (ai_N (cf_t C)) (ai_N (cf_d C)) a_joinTime a_beginTime a_leaveTime a_keptTime a_keptJoin a_keptBegin a_changeTime a_changeStation a_changeAt a_changeWaits a_visitOf a_waitingSet a_free a_heap a_dayFirst a_nextInDay a_eventOf a_firstChild a_nextSibling a_pairs a_bucketFirst N) x1 (nI c) (nI (or_k C c i)) (nI i) (nI (cf_n C)) f_changes f_engine f_pending f_today f_root f_lastTaken (ai_N (cf_s C)) (ai_N (cf_r C)) (ai_N (cf_a C)) (ai_N (cf_v C)) (ai_N (cf_t C)) (ai_N (cf_d C)) a_joinTime a_beginTime a_leaveTime a_keptTime a_keptJoin a_keptBegin a_changeTime a_changeStation a_changeAt a_changeWaits a_visitOf a_waitingSet a_free a_heap a_dayFirst a_nextInDay a_eventOf a_firstChild a_nextSibling a_pairs a_bucketFirst := by
          intro hy
          rw [if_neg hy, Nat.add_zero] at ii
          refine br_t rfl ?_
          rw [nI_1, Int32.add_zero]
          intro y ey
          subst ey
          intro y ey
          subst ey
          exact ii
        rw [nI_clamp (by omega : i < 2 ^ 31), nI_clamp (by omega : c < 2 ^ 31), hF.2.2.1 i h, hF.2.2.1 c hc]
        refine pk_lt (cs_G (si_F C i)) (cs_G (si_F C c)) (fun h6 => yes (Or.inl h6)) (fun h6 => ⟨pk_in i 12 (by omega), pk_in c 12 (by omega), ?_⟩)
        refine pk_eq (cs_G (si_F C i)) (cs_G (si_F C c)) (fun h7 => pk_le c i (fun h8 => no (by omega)) (fun h8 => yes (Or.inr ⟨h7, h8⟩))) (fun h7 => no (by omega))
  exact ⟨cf_n C + 1, key (cf_n C + 1) 0 (by omega) (by omega)⟩
end
section
variable {C : si_CF} {jo be go no : Nat → Int32}
theorem yq_or1 {post : Int32 → Prop} {J2 : Int32 → Prop} {x1 : Int32} {c : Nat} (hv : cf_V C) (hY : yf_R C jo be go) (hc : c < cf_n C)
  (K : (nI (or_k C c (cf_n C)) = x1 → post (nI c)) ∧ (¬ nI (or_k C c (cf_n C)) = x1 → J2 (nI (c + 1)))) : ∃ n15 : Nat, wY_order_15 post J2 x1 (nI c) (nI (cf_n C)) (ai_N (cf_s C)) (ai_N (cf_r C)) (ai_N (cf_a C)) (ai_N (cf_v C)) (ai_N (cf_t C)) (ai_N (cf_d C)) jo be go no n15 0 0 := by
  have h12 := hv.1
  have key : ∀ (N i : Nat), cf_n C < i + N → i ≤ cf_n C → wY_order_15 post J2 x1 (nI c) (nI (cf_n C)) (ai_N (cf_s C)) (ai_N (cf_r C)) (ai_N (cf_a C)) (ai_N (cf_v C)) (ai_N (cf_t C)) (ai_N (cf_d C)) jo be go no N (nI (or_k C c i)) (nI i) := by
    intro N
    induction N with
    | zero => intro i h h'; omega
    | succ N ih =>
      intro i hN hi
      refine pk_le (cf_n C) i (fun h => ?_) (fun h => ⟨pk_in i 12 (by omega), pk_in c 12 (by omega), ?_⟩)
      · have e : i = cf_n C := by omega
        rw [e, nI_1]
        exact ⟨K.1, fun z y ey => by rw [ey]; exact K.2 z⟩
      · have hGi := sF_G hv h
        have hGc := sF_G hv hc
        have nx : or_k C c (i + 1) = or_k C c i + (if cs_G (si_F C i) < cs_G (si_F C c) ∨ (cs_G (si_F C i) = cs_G (si_F C c) ∧ i < c) then 1 else 0) := rfl
        have ii := ih (i + 1) (by omega) (by omega)
        rw [nx] at ii
        have yes : (cs_G (si_F C i) < cs_G (si_F C c) ∨ (cs_G (si_F C i) = cs_G (si_F C c) ∧ i < c)) → ∀ y : Int32, y = nI (or_k C c i + 1) → ∀ w : Int32, w = nI (i + 1) → wY_order_15 post J2 x1 (nI c) (nI (cf_n C)) (ai_N (cf_s C)) (ai_N (cf_r C)) (ai_N (cf_a C)) (ai_N (cf_v C)) (ai_N (cf_t C)) (ai_N (cf_d C)) jo be go no N y w := by
          intro hy y ey w ew
          rw [if_pos hy] at ii
          subst ey ew
          exact ii
        have no' : ¬ (cs_G (si_F C i) < cs_G (si_F C c) ∨ (cs_G (si_F C i) = cs_G (si_F C c) ∧ i < c)) → ∀ w : Int32, w = nI (i + 1) → wY_order_15 post J2 x1 (nI c) (nI (cf_n C)) (ai_N (cf_s C)) (ai_N (cf_r C)) (ai_N (cf_a C)) (ai_N (cf_v C)) (ai_N (cf_t C)) (ai_N (cf_d C)) jo be go no N (nI (or_k C c i)) w := by
          intro hy w ew
          rw [if_neg hy, Nat.add_zero] at ii
          subst ew
          exact ii
        rw [nI_clamp (by omega : i < 2 ^ 31), nI_clamp (by omega : c < 2 ^ 31), hY.2.2 i h, hY.2.2 c hc, nI_1, nI_1]
        refine pk_lt (cs_G (si_F C i)) (cs_G (si_F C c)) (fun h6 => yes (Or.inl h6)) (fun h6 => ⟨pk_in i 12 (by omega), pk_in c 12 (by omega), ?_⟩)
        refine pk_eq (cs_G (si_F C i)) (cs_G (si_F C c)) (fun h7 => pk_le c i (fun h8 => no' (by omega)) (fun h8 => yes (Or.inr ⟨h7, h8⟩))) (fun h7 => no' (by omega))
  exact ⟨cf_n C + 1, key (cf_n C + 1) 0 (by omega) (by omega)⟩
/-- outside the numbers of the customers nothing is found -/
theorem yq_or0 {post : Int32 → Prop} {x1 : Int32} (hv : cf_V C) (hY : yf_R C jo be go) (hx : ∀ j, j < cf_n C → ¬ nI j = x1) (K : post (-1)) : wpY_order post (nI (cf_n C), ai_N (cf_s C), ai_N (cf_r C), ai_N (cf_a C), ai_N (cf_v C), ai_N (cf_t C), ai_N (cf_d C), jo, be, go, no) x1 := by
  have h12 := hv.1
  have key : ∀ (N c : Nat), cf_n C < c + N → c ≤ cf_n C → wY_order_2 post x1 (nI (cf_n C)) (ai_N (cf_s C)) (ai_N (cf_r C)) (ai_N (cf_a C)) (ai_N (cf_v C)) (ai_N (cf_t C)) (ai_N (cf_d C)) jo be go no N (nI c) := by
    intro N
    induction N with
    | zero => intro c h h'; omega
    | succ N ih =>
      intro c hN hc
      refine pk_le (cf_n C) c (fun h => K) (fun h => ?_)
      exact yq_or1 hv hY h ⟨fun z => absurd z (hx _ (or_lt h)), fun _ => ih (c + 1) (by omega) (by omega)⟩
  exact ⟨cf_n C + 1, key (cf_n C + 1) 0 (by omega) (by omega)⟩
end
section
variable {f_customers f_changes f_engine f_pending f_today f_root f_lastTaken : Int32} {a_servers a_rules a_arrivalOf a_visitCount a_visitStation a_visitNeed a_joinTime a_beginTime a_leaveTime a_keptTime a_keptJoin a_keptBegin a_changeTime a_changeStation a_changeAt a_changeWaits a_visitOf a_waitingSet a_free a_heap a_dayFirst a_nextInDay a_eventOf a_firstChild a_nextSibling a_pairs a_bucketFirst : Nat → Int32} {C : si_CF} {jo be go no : Nat → Int32}
theorem xy_or (hv : cf_V C) (hF : xf_R C f_changes a_joinTime a_beginTime a_leaveTime a_changeTime a_changeStation a_changeAt a_changeWaits) (hY : yf_R C jo be go) (x1 : Int32) :
  ∃ r : Int32, (∀ post : Int32 → SX → Prop, post r (nI (cf_n C), f_changes, f_engine, f_pending, f_today, f_root, f_lastTaken, ai_N (cf_s C), ai_N (cf_r C), ai_N (cf_a C), ai_N (cf_v C), ai_N (cf_t C), ai_N (cf_d C), a_joinTime, a_beginTime, a_leaveTime, a_keptTime, a_keptJoin, a_keptBegin, a_changeTime, a_changeStation, a_changeAt, a_changeWaits, a_visitOf, a_waitingSet, a_free, a_heap, a_dayFirst, a_nextInDay, a_eventOf, a_firstChild, a_nextSibling, a_pairs, a_bucketFirst) → ∃ n17 : Nat, wX_order_17 post x1 (nI (cf_n C)) f_changes f_engine f_pending f_today f_root f_lastTaken (ai_N (cf_s C)) (ai_N (cf_r C)) (ai_N (cf_a C)) (ai_N (cf_v C)) (ai_N (cf_t C)) (ai_N (cf_d C)) a_joinTime a_beginTime a_leaveTime a_keptTime a_keptJoin a_keptBegin a_changeTime a_changeStation a_changeAt a_changeWaits a_visitOf a_waitingSet a_free a_heap a_dayFirst a_nextInDay a_eventOf a_firstChild a_nextSibling a_pairs a_bucketFirst n17 0) ∧ (∀ post : Int32 → Prop, post r → wpY_order post (nI (cf_n C), ai_N (cf_s C), ai_N (cf_r C), ai_N (cf_a C), ai_N (cf_v C), ai_N (cf_t C), ai_N (cf_d C), jo, be, go, no) x1) := by
  have h12 := hv.1
  have key : ∀ (N c : Nat), cf_n C < c + N → c ≤ cf_n C → ∃ r : Int32, (∀ post : Int32 → SX → Prop, post r (nI (cf_n C), f_changes, f_engine, f_pending, f_today, f_root, f_lastTaken, ai_N (cf_s C), ai_N (cf_r C), ai_N (cf_a C), ai_N (cf_v C), ai_N (cf_t C), ai_N (cf_d C), a_joinTime, a_beginTime, a_leaveTime, a_keptTime, a_keptJoin, a_keptBegin, a_changeTime, a_changeStation, a_changeAt, a_changeWaits, a_visitOf, a_waitingSet, a_free, a_heap, a_dayFirst, a_nextInDay, a_eventOf, a_firstChild, a_nextSibling, a_pairs, a_bucketFirst) → wX_order_17 post x1 (nI (cf_n C)) f_changes f_engine f_pending f_today f_root f_lastTaken (ai_N (cf_s C)) (ai_N (cf_r C)) (ai_N (cf_a C)) (ai_N (cf_v C)) (ai_N (cf_t C)) (ai_N (cf_d C)) a_joinTime a_beginTime a_leaveTime a_keptTime a_keptJoin a_keptBegin a_changeTime a_changeStation a_changeAt a_changeWaits a_visitOf a_waitingSet a_free a_heap a_dayFirst a_nextInDay a_eventOf a_firstChild a_nextSibling a_pairs a_bucketFirst N (nI c)) ∧ (∀ post : Int32 → Prop, post r → wY_order_2 post x1 (nI (cf_n C)) (ai_N (cf_s C)) (ai_N (cf_r C)) (ai_N (cf_a C)) (ai_N (cf_v C)) (ai_N (cf_t C)) (ai_N (cf_d C)) jo be go no N (nI c)) := by
    intro N
    induction N with
    | zero => intro c h h'; omega
    | succ N ih =>
      intro c hN hc
      by_cases h : cf_n C ≤ c
      · exact ⟨-1, fun post hp => pk_le (cf_n C) c (fun _ => hp) (fun z => by omega), fun post hp => pk_le (cf_n C) c (fun _ => hp) (fun z => by omega)⟩
      · by_cases e : nI (or_k C c (cf_n C)) = x1
        · exact ⟨nI c, fun post hp => pk_le (cf_n C) c (fun z => by omega) (fun z => xq_or1 hv hF z ⟨fun _ => hp, fun w => absurd e w⟩),
            fun post hp => pk_le (cf_n C) c (fun z => by omega) (fun z => yq_or1 hv hY z ⟨fun _ => hp, fun w => absurd e w⟩)⟩
        · obtain ⟨r, i1, i2⟩ := ih (c + 1) (by omega) (by omega)
          exact ⟨r, fun post hp => pk_le (cf_n C) c (fun z => by omega) (fun z => xq_or1 hv hF z ⟨fun w => absurd w e, fun _ => i1 post hp⟩),
            fun post hp => pk_le (cf_n C) c (fun z => by omega) (fun z => yq_or1 hv hY z ⟨fun w => absurd w e, fun _ => i2 post hp⟩)⟩
  obtain ⟨r, i1, i2⟩ := key (cf_n C + 1) 0 (by omega) (by omega)
  exact ⟨r, fun post hp => ⟨cf_n C + 1, i1 post hp⟩, fun post hp => ⟨cf_n C + 1, i2 post hp⟩⟩
theorem xq_k40 {post : SX → Prop} (hv : cf_V C) (K : ∀ kt : Nat → Int32, (∀ c, c < cf_n C → kt c = a_leaveTime c) → post (nI (cf_n C), f_changes, f_engine, f_pending, f_today, f_root, f_lastTaken, ai_N (cf_s C), ai_N (cf_r C), ai_N (cf_a C), ai_N (cf_v C), ai_N (cf_t C), ai_N (cf_d C), a_joinTime, a_beginTime, a_leaveTime, kt, a_keptJoin, a_keptBegin, a_changeTime, a_changeStation, a_changeAt, a_changeWaits, a_visitOf, a_waitingSet, a_free, a_heap, a_dayFirst, a_nextInDay, a_eventOf, a_firstChild, a_nextSibling, a_pairs, a_bucketFirst)) :
  ∀ (N i : Nat) (kt : Nat → Int32), cf_n C < i + N → i ≤ cf_n C → (∀ c, c < i → kt c = a_leaveTime c) → wX_keepTimes_40 post (nI (cf_n C)) f_changes f_engine f_pending f_today f_root f_lastTaken N (nI i) (ai_N (cf_s C)) (ai_N (cf_r C)) (ai_N (cf_a C)) (ai_N (cf_v C)) (ai_N (cf_t C)) (ai_N (cf_d C)) a_joinTime a_beginTime a_leaveTime kt a_keptJoin a_keptBegin a_changeTime a_changeStation a_changeAt a_changeWaits a_visitOf a_waitingSet a_free a_heap a_dayFirst a_nextInDay a_eventOf a_firstChild a_nextSibling a_pairs a_bucketFirst := by
  have h12 := hv.1
  intro N
  induction N with
  | zero => intro i kt h h'; omega
  | succ N ih =>
    intro i kt hN hi hk
    refine pk_le (cf_n C) i (fun h => K kt (fun c hc => hk c (by omega))) (fun h => ⟨pk_in i 12 (by omega), pk_in i 12 (by omega), ?_⟩)
    rw [nI_clamp (by omega : i < 2 ^ 31), nI_1]
    intro y ey
    subst ey
    intro y ey
    subst ey
    refine ih (i + 1) _ (by omega) (by omega) (fun c hc => ?_)
    by_cases z : c = i
    · rw [z, pk_us]
    · rw [pk_un z]; exact hk c (by omega)
theorem xq_k2 {post : SX → Prop} (hv : cf_V C) (K : ∀ kt kj kb : Nat → Int32, (∀ c, c < cf_n C → kt c = a_leaveTime c) → (∀ v, v < 48 → kj v = a_joinTime v) → (∀ v, v < 48 → kb v = a_beginTime v) → post (nI (cf_n C), f_changes, f_engine, f_pending, f_today, f_root, f_lastTaken, ai_N (cf_s C), ai_N (cf_r C), ai_N (cf_a C), ai_N (cf_v C), ai_N (cf_t C), ai_N (cf_d C), a_joinTime, a_beginTime, a_leaveTime, kt, kj, kb, a_changeTime, a_changeStation, a_changeAt, a_changeWaits, a_visitOf, a_waitingSet, a_free, a_heap, a_dayFirst, a_nextInDay, a_eventOf, a_firstChild, a_nextSibling, a_pairs, a_bucketFirst)) :
  ∀ (N i : Nat) (kj kb : Nat → Int32), 48 < i + N → i ≤ 48 → (∀ v, v < i → kj v = a_joinTime v) → (∀ v, v < i → kb v = a_beginTime v) → wX_keepTimes_2 post (nI (cf_n C)) f_changes f_engine f_pending f_today f_root f_lastTaken N (nI i) (ai_N (cf_s C)) (ai_N (cf_r C)) (ai_N (cf_a C)) (ai_N (cf_v C)) (ai_N (cf_t C)) (ai_N (cf_d C)) a_joinTime a_beginTime a_leaveTime a_keptTime kj kb a_changeTime a_changeStation a_changeAt a_changeWaits a_visitOf a_waitingSet a_free a_heap a_dayFirst a_nextInDay a_eventOf a_firstChild a_nextSibling a_pairs a_bucketFirst := by
  intro N
  induction N with
  | zero => intro i kj kb h h'; omega
  | succ N ih =>
    intro i kj kb hN hi h1 h2
    refine pk_le 48 i (fun h => ⟨cf_n C + 1, ?_⟩) (fun h => ⟨pk_in i 48 h, pk_in i 48 h, ?_⟩)
    · exact xq_k40 hv (fun kt hk => K kt kj kb hk (fun v hv => h1 v (by omega)) (fun v hv => h2 v (by omega))) (cf_n C + 1) 0 a_keptTime (by omega) (by omega) (fun c hc => by omega)
    · rw [nI_clamp (by omega : i < 2 ^ 31), nI_1]
      intro y ey
      subst ey
      refine ⟨pk_in i 48 h, pk_in i 48 h, ?_⟩
      intro y ey
      subst ey
      intro y ey
      subst ey
      refine ih (i + 1) _ _ (by omega) (by omega) (fun v hv => ?_) (fun v hv => ?_)
      · by_cases z : v = i
        · rw [z, pk_us]
        · rw [pk_un z]; exact h1 v (by omega)
      · by_cases z : v = i
        · rw [z, pk_us]
        · rw [pk_un z]; exact h2 v (by omega)
theorem xq_keep {post : SX → Prop} (hv : cf_V C) (K : ∀ kt kj kb : Nat → Int32, (∀ c, c < cf_n C → kt c = a_leaveTime c) → (∀ v, v < 48 → kj v = a_joinTime v) → (∀ v, v < 48 → kb v = a_beginTime v) → post (nI (cf_n C), f_changes, f_engine, f_pending, f_today, f_root, f_lastTaken, ai_N (cf_s C), ai_N (cf_r C), ai_N (cf_a C), ai_N (cf_v C), ai_N (cf_t C), ai_N (cf_d C), a_joinTime, a_beginTime, a_leaveTime, kt, kj, kb, a_changeTime, a_changeStation, a_changeAt, a_changeWaits, a_visitOf, a_waitingSet, a_free, a_heap, a_dayFirst, a_nextInDay, a_eventOf, a_firstChild, a_nextSibling, a_pairs, a_bucketFirst)) : wpX_keepTimes post (nI (cf_n C), f_changes, f_engine, f_pending, f_today, f_root, f_lastTaken, ai_N (cf_s C), ai_N (cf_r C), ai_N (cf_a C), ai_N (cf_v C), ai_N (cf_t C), ai_N (cf_d C), a_joinTime, a_beginTime, a_leaveTime, a_keptTime, a_keptJoin, a_keptBegin, a_changeTime, a_changeStation, a_changeAt, a_changeWaits, a_visitOf, a_waitingSet, a_free, a_heap, a_dayFirst, a_nextInDay, a_eventOf, a_firstChild, a_nextSibling, a_pairs, a_bucketFirst) :=
  ⟨49, xq_k2 hv K 49 0 a_keptJoin a_keptBegin (by omega) (by omega) (fun v hv => by omega) (fun v hv => by omega)⟩
theorem xq_vis {post : Int32 → Prop} {c k : Nat} (hv : cf_V C) (hc : c < 2 ^ 31) (hk : k < 2 ^ 31) (K1 : c < cf_n C ∧ k < cf_v C c → post 1) (K0 : ¬ (c < cf_n C ∧ k < cf_v C c) → post 0) : wpX_isVisit post (nI (cf_n C), f_changes, f_engine, f_pending, f_today, f_root, f_lastTaken, ai_N (cf_s C), ai_N (cf_r C), ai_N (cf_a C), ai_N (cf_v C), ai_N (cf_t C), ai_N (cf_d C), a_joinTime, a_beginTime, a_leaveTime, a_keptTime, a_keptJoin, a_keptBegin, a_changeTime, a_changeStation, a_changeAt, a_changeWaits, a_visitOf, a_waitingSet, a_free, a_heap, a_dayFirst, a_nextInDay, a_eventOf, a_firstChild, a_nextSibling, a_pairs, a_bucketFirst) (nI c) (nI k) := by
  have h12 := hv.1
  unfold wpX_isVisit
  (try dsimp only)
  refine br_f (nI_pos hc) (pk_le (cf_n C) c (fun h => br_t rfl (K0 (by omega))) (fun h => br_f (by decide) (br_f (nI_pos hk) ⟨pk_in c 12 (by omega), ?_⟩)))
  rw [nI_clamp hc, ai_at]
  have hv4 := (hv.2.2.1 c h).2
  exact pk_le (cf_v C c) k (fun h' => K0 (by omega)) (fun h' => K1 ⟨h, h'⟩)
theorem xq_agree {post : Int32 → SX → Prop} (hv : cf_V C) (h1 : ∀ c, c < cf_n C → a_keptTime c = a_leaveTime c) (h2 : ∀ c k, c < cf_n C → k < cf_v C c → a_keptJoin (4 * c + k) = a_joinTime (4 * c + k)) (h3 : ∀ c k, c < cf_n C → k < cf_v C c → a_keptBegin (4 * c + k) = a_beginTime (4 * c + k))
  (K : post 1 (nI (cf_n C), f_changes, f_engine, f_pending, f_today, f_root, f_lastTaken, ai_N (cf_s C), ai_N (cf_r C), ai_N (cf_a C), ai_N (cf_v C), ai_N (cf_t C), ai_N (cf_d C), a_joinTime, a_beginTime, a_leaveTime, a_keptTime, a_keptJoin, a_keptBegin, a_changeTime, a_changeStation, a_changeAt, a_changeWaits, a_visitOf, a_waitingSet, a_free, a_heap, a_dayFirst, a_nextInDay, a_eventOf, a_firstChild, a_nextSibling, a_pairs, a_bucketFirst)) : ∃ n35 : Nat, wX_agree_35 post (nI (cf_n C)) f_changes f_engine f_pending f_today f_root f_lastTaken (ai_N (cf_s C)) (ai_N (cf_r C)) (ai_N (cf_a C)) (ai_N (cf_v C)) (ai_N (cf_t C)) (ai_N (cf_d C)) a_joinTime a_beginTime a_leaveTime a_keptTime a_keptJoin a_keptBegin a_changeTime a_changeStation a_changeAt a_changeWaits a_visitOf a_waitingSet a_free a_heap a_dayFirst a_nextInDay a_eventOf a_firstChild a_nextSibling a_pairs a_bucketFirst n35 1 0 := by
  have h12 := hv.1
  have k2 : ∀ (N i : Nat), cf_n C < i + N → i ≤ cf_n C → wX_agree_114 post (nI (cf_n C)) f_changes f_engine f_pending f_today f_root f_lastTaken (ai_N (cf_s C)) (ai_N (cf_r C)) (ai_N (cf_a C)) (ai_N (cf_v C)) (ai_N (cf_t C)) (ai_N (cf_d C)) a_joinTime a_beginTime a_leaveTime a_keptTime a_keptJoin a_keptBegin a_changeTime a_changeStation a_changeAt a_changeWaits a_visitOf a_waitingSet a_free a_heap a_dayFirst a_nextInDay a_eventOf a_firstChild a_nextSibling a_pairs a_bucketFirst N 1 (nI i) := by
    intro N
    induction N with
    | zero => intro i h h'; omega
    | succ N ih =>
      intro i hN hi
      refine pk_le (cf_n C) i (fun h => ⟨rfl, K⟩) (fun h => br_f (by decide) ⟨pk_in i 12 (by omega), pk_in i 12 (by omega), ?_⟩)
      rw [nI_clamp (by omega : i < 2 ^ 31), nI_1]
      refine br_t (h1 i h) ?_
      intro y ey
      subst ey
      exact ih (i + 1) (by omega) (by omega)
  have k1 : ∀ (N v : Nat), 48 < v + N → v ≤ 48 → wX_agree_35 post (nI (cf_n C)) f_changes f_engine f_pending f_today f_root f_lastTaken (ai_N (cf_s C)) (ai_N (cf_r C)) (ai_N (cf_a C)) (ai_N (cf_v C)) (ai_N (cf_t C)) (ai_N (cf_d C)) a_joinTime a_beginTime a_leaveTime a_keptTime a_keptJoin a_keptBegin a_changeTime a_changeStation a_changeAt a_changeWaits a_visitOf a_waitingSet a_free a_heap a_dayFirst a_nextInDay a_eventOf a_firstChild a_nextSibling a_pairs a_bucketFirst N 1 (nI v) := by
    intro N
    induction N with
    | zero => intro v h h'; omega
    | succ N ih =>
      intro v hN hv48
      refine pk_le 48 v (fun h => ⟨cf_n C + 1, k2 (cf_n C + 1) 0 (by omega) (by omega)⟩) (fun h => ⟨by decide, by decide, ?_⟩)
      have nxt : ∀ y : Int32, y = nI v + 1 → wX_agree_35 post (nI (cf_n C)) f_changes f_engine f_pending f_today f_root f_lastTaken (ai_N (cf_s C)) (ai_N (cf_r C)) (ai_N (cf_a C)) (ai_N (cf_v C)) (ai_N (cf_t C)) (ai_N (cf_d C)) a_joinTime a_beginTime a_leaveTime a_keptTime a_keptJoin a_keptBegin a_changeTime a_changeStation a_changeAt a_changeWaits a_visitOf a_waitingSet a_free a_heap a_dayFirst a_nextInDay a_eventOf a_firstChild a_nextSibling a_pairs a_bucketFirst N 1 y := by
        intro y ey
        rw [nI_1] at ey
        subst ey
        exact ih (v + 1) (by omega) (by omega)
      rw [show nI v / 4 = nI (v / 4) from pk_div (d := 4) (by omega) (by omega) (by omega), show nI v - nI (v / 4) * 4 = nI (v % 4) from by
        have := pk_rem (a := v) (d := 4) (by omega) (by omega) (by omega)
        rw [pk_div (by omega) (by omega) (by omega)] at this
        exact this]
      have e : 4 * (v / 4) + v % 4 = v := by omega
      refine xq_vis hv (by omega) (by omega) (fun h' => br_f (by decide) (br_f (by decide) ⟨pk_in v 48 h, pk_in v 48 h, ?_⟩)) (fun h' => br_f (by decide) (br_t rfl nxt))
      have e1 := h2 _ _ h'.1 h'.2
      have e2 := h3 _ _ h'.1 h'.2
      rw [e] at e1 e2
      rw [nI_clamp (by omega : v < 2 ^ 31)]
      exact br_t e1 ⟨pk_in v 48 h, pk_in v 48 h, br_t e2 nxt⟩
  exact ⟨49, k1 49 0 (by omega) (by omega)⟩
end
end
section
/-! the relation -/
def ir_X (C : si_CF) (u : SX) : Prop := match u with
  | (f_customers, f_changes, f_engine, f_pending, f_today, f_root, f_lastTaken, a_servers, a_rules, a_arrivalOf, a_visitCount, a_visitStation, a_visitNeed, a_joinTime, a_beginTime, a_leaveTime, a_keptTime, a_keptJoin, a_keptBegin, a_changeTime, a_changeStation, a_changeAt, a_changeWaits, a_visitOf, a_waitingSet, a_free, a_heap, a_dayFirst, a_nextInDay, a_eventOf, a_firstChild, a_nextSibling, a_pairs, a_bucketFirst) => f_customers = nI (cf_n C) ∧ a_servers = ai_N (cf_s C) ∧ a_rules = ai_N (cf_r C) ∧ a_arrivalOf = ai_N (cf_a C) ∧ a_visitCount = ai_N (cf_v C) ∧ a_visitStation = ai_N (cf_t C) ∧ a_visitNeed = ai_N (cf_d C)
def ir_Y (C : si_CF) (v : SY) : Prop := match v with
  | (f_size, a_servers, a_rules, a_arrivals, a_counts, a_stations, a_needs, a_joined, a_begun, a_gone, a_now) => f_size = nI (cf_n C) ∧ a_servers = ai_N (cf_s C) ∧ a_rules = ai_N (cf_r C) ∧ a_arrivals = ai_N (cf_a C) ∧ a_counts = ai_N (cf_v C) ∧ a_stations = ai_N (cf_t C) ∧ a_needs = ai_N (cf_d C) ∧ yf_R C a_joined a_begun a_gone
/-- both hold the same stations and customers; the reference also what came out of them -/
def i_Rel (k : Nat) (u : SX) (v : SY) : Prop := ∃ C : si_CF, cf_V C ∧ ir_X C u ∧ ir_Y C v
theorem i_up {k : Nat} {u : SX} {v : SY} (h : i_Rel k u v) : i_Rel (k + 4) u v := h
theorem ir_mk {k : Nat} {C : si_CF} {f_changes f_engine f_pending f_today f_root f_lastTaken : Int32} {a_joinTime a_beginTime a_leaveTime a_keptTime a_keptJoin a_keptBegin a_changeTime a_changeStation a_changeAt a_changeWaits a_visitOf a_waitingSet a_free a_heap a_dayFirst a_nextInDay a_eventOf a_firstChild a_nextSibling a_pairs a_bucketFirst : Nat → Int32} {jo be go no : Nat → Int32} (hv : cf_V C) (hY : yf_R C jo be go) : i_Rel k (nI (cf_n C), f_changes, f_engine, f_pending, f_today, f_root, f_lastTaken, ai_N (cf_s C), ai_N (cf_r C), ai_N (cf_a C), ai_N (cf_v C), ai_N (cf_t C), ai_N (cf_d C), a_joinTime, a_beginTime, a_leaveTime, a_keptTime, a_keptJoin, a_keptBegin, a_changeTime, a_changeStation, a_changeAt, a_changeWaits, a_visitOf, a_waitingSet, a_free, a_heap, a_dayFirst, a_nextInDay, a_eventOf, a_firstChild, a_nextSibling, a_pairs, a_bucketFirst) (nI (cf_n C), ai_N (cf_s C), ai_N (cf_r C), ai_N (cf_a C), ai_N (cf_v C), ai_N (cf_t C), ai_N (cf_d C), jo, be, go, no) :=
  ⟨C, hv, ⟨rfl, rfl, rfl, rfl, rfl, rfl, rfl⟩, ⟨rfl, rfl, rfl, rfl, rfl, rfl, rfl, hY⟩⟩
theorem ir_el {P : SX → SY → Prop} {k : Nat} {u : SX} {v : SY} (h : ∀ (C : si_CF) (f_changes f_engine f_pending f_today f_root f_lastTaken : Int32) (a_joinTime a_beginTime a_leaveTime a_keptTime a_keptJoin a_keptBegin a_changeTime a_changeStation a_changeAt a_changeWaits a_visitOf a_waitingSet a_free a_heap a_dayFirst a_nextInDay a_eventOf a_firstChild a_nextSibling a_pairs a_bucketFirst : Nat → Int32) (jo be go no : Nat → Int32), cf_V C → yf_R C jo be go → P (nI (cf_n C), f_changes, f_engine, f_pending, f_today, f_root, f_lastTaken, ai_N (cf_s C), ai_N (cf_r C), ai_N (cf_a C), ai_N (cf_v C), ai_N (cf_t C), ai_N (cf_d C), a_joinTime, a_beginTime, a_leaveTime, a_keptTime, a_keptJoin, a_keptBegin, a_changeTime, a_changeStation, a_changeAt, a_changeWaits, a_visitOf, a_waitingSet, a_free, a_heap, a_dayFirst, a_nextInDay, a_eventOf, a_firstChild, a_nextSibling, a_pairs, a_bucketFirst) (nI (cf_n C), ai_N (cf_s C), ai_N (cf_r C), ai_N (cf_a C), ai_N (cf_v C), ai_N (cf_t C), ai_N (cf_d C), jo, be, go, no)) (I : i_Rel k u v) : P u v := by
  obtain ⟨f_customers, f_changes, f_engine, f_pending, f_today, f_root, f_lastTaken, a_servers, a_rules, a_arrivalOf, a_visitCount, a_visitStation, a_visitNeed, a_joinTime, a_beginTime, a_leaveTime, a_keptTime, a_keptJoin, a_keptBegin, a_changeTime, a_changeStation, a_changeAt, a_changeWaits, a_visitOf, a_waitingSet, a_free, a_heap, a_dayFirst, a_nextInDay, a_eventOf, a_firstChild, a_nextSibling, a_pairs, a_bucketFirst⟩ := u
  obtain ⟨f_size, b_servers, b_rules, b_arrivals, b_counts, b_stations, b_needs, jo, be, go, no⟩ := v
  obtain ⟨C, hv, ⟨rfl, rfl, rfl, rfl, rfl, rfl, rfl⟩, ⟨rfl, rfl, rfl, rfl, rfl, rfl, rfl, hY⟩⟩ := I
  exact h C f_changes f_engine f_pending f_today f_root f_lastTaken a_joinTime a_beginTime a_leaveTime a_keptTime a_keptJoin a_keptBegin a_changeTime a_changeStation a_changeAt a_changeWaits a_visitOf a_waitingSet a_free a_heap a_dayFirst a_nextInDay a_eventOf a_firstChild a_nextSibling a_pairs a_bucketFirst jo be go no hv hY
theorem ix_2 (x : Int32) {n : Nat} (hn : n < 2 ^ 31) : (x < 0 ∨ nI n ≤ x) ∨ ∃ j, j < n ∧ x = nI j := by
  rcases pk_ix x hn with h | h | h
  · exact Or.inl (Or.inl h)
  · exact Or.inl (Or.inr h)
  · exact Or.inr h
theorem ix_ne {x : Int32} {n j : Nat} (hn : n < 2 ^ 31) (h : x < 0 ∨ nI n ≤ x) (hj : j < n) : ¬ nI j = x := by
  intro e
  rw [← e] at h
  rcases h with h | h
  · exact nI_pos (by omega) h
  · exact nI_ge hj hn h
section
variable {f_customers f_changes f_engine f_pending f_today f_root f_lastTaken : Int32} {a_servers a_rules a_arrivalOf a_visitCount a_visitStation a_visitNeed a_joinTime a_beginTime a_leaveTime a_keptTime a_keptJoin a_keptBegin a_changeTime a_changeStation a_changeAt a_changeWaits a_visitOf a_waitingSet a_free a_heap a_dayFirst a_nextInDay a_eventOf a_firstChild a_nextSibling a_pairs a_bucketFirst : Nat → Int32} {C : si_CF} {jo be go no : Nat → Int32} {post : Int32 → Prop} {x : Int32}
theorem xi_sb (h : x < 0 ∨ nI 4 ≤ x) (K : post 0) : wpX_isStation post x :=
  br_c (fun _ => K) (fun h0 => br_t (h.resolve_left h0) K)
theorem xi_so {s : Nat} (h : s < 4) (K : post 1) : wpX_isStation post (nI s) := br_f (nI_pos (by omega)) (br_f (nI_ge (b := 4) h (by decide)) K)
theorem xi_eb (h : x < 0 ∨ nI 4 ≤ x) (K : post 0) : wpX_isEngine post x :=
  br_c (fun _ => K) (fun h0 => br_t (h.resolve_left h0) K)
theorem xi_eo {s : Nat} (h : s < 4) (K : post 1) : wpX_isEngine post (nI s) := br_f (nI_pos (by omega)) (br_f (nI_ge (b := 4) h (by decide)) K)
theorem yi_sb (h : x < 0 ∨ nI 4 ≤ x) (K : post 0) : wpY_isStation post (nI (cf_n C), ai_N (cf_s C), ai_N (cf_r C), ai_N (cf_a C), ai_N (cf_v C), ai_N (cf_t C), ai_N (cf_d C), jo, be, go, no) x :=
  br_c (fun _ => K) (fun h0 => br_t (Int32.lt_of_lt_of_le (by decide : (3 : Int32) < nI 4) (h.resolve_left h0)) K)
theorem yi_so {s : Nat} (h : s < 4) (K : post 1) : wpY_isStation post (nI (cf_n C), ai_N (cf_s C), ai_N (cf_r C), ai_N (cf_a C), ai_N (cf_v C), ai_N (cf_t C), ai_N (cf_d C), jo, be, go, no) (nI s) := br_f (nI_pos (by omega)) (br_f (nI_nlt (a := 3) (by omega) (by omega)) K)
theorem yi_eb (h : x < 0 ∨ nI 4 ≤ x) (K : post 0) : wpY_engine post (nI (cf_n C), ai_N (cf_s C), ai_N (cf_r C), ai_N (cf_a C), ai_N (cf_v C), ai_N (cf_t C), ai_N (cf_d C), jo, be, go, no) x :=
  br_c (fun _ => K) (fun h0 => br_t (Int32.lt_of_lt_of_le (by decide : (3 : Int32) < nI 4) (h.resolve_left h0)) K)
theorem yi_eo {s : Nat} (h : s < 4) (K : post 1) : wpY_engine post (nI (cf_n C), ai_N (cf_s C), ai_N (cf_r C), ai_N (cf_a C), ai_N (cf_v C), ai_N (cf_t C), ai_N (cf_d C), jo, be, go, no) (nI s) := br_f (nI_pos (by omega)) (br_f (nI_nlt (a := 3) (by omega) (by omega)) K)
theorem xi_tb (h : x < 0 ∨ nI 10001 ≤ x) (K : post 0) : wpX_isTime post x :=
  br_c (fun _ => K) (fun h0 => br_t (Int32.lt_of_lt_of_le (by decide : (10000 : Int32) < nI 10001) (h.resolve_left h0)) K)
theorem xi_to {s : Nat} (h : s < 10001) (K : post 1) : wpX_isTime post (nI s) := br_f (nI_pos (by omega)) (br_f (nI_nlt (a := 10000) (by omega) (by omega)) K)
theorem yi_tb (h : x < 0 ∨ nI 10001 ≤ x) (K : post 0) : wpY_isTime post (nI (cf_n C), ai_N (cf_s C), ai_N (cf_r C), ai_N (cf_a C), ai_N (cf_v C), ai_N (cf_t C), ai_N (cf_d C), jo, be, go, no) x :=
  br_c (fun _ => K) (fun h0 => br_t (Int32.lt_of_lt_of_le (by decide : (10000 : Int32) < nI 10001) (h.resolve_left h0)) K)
theorem yi_to {s : Nat} (h : s < 10001) (K : post 1) : wpY_isTime post (nI (cf_n C), ai_N (cf_s C), ai_N (cf_r C), ai_N (cf_a C), ai_N (cf_v C), ai_N (cf_t C), ai_N (cf_d C), jo, be, go, no) (nI s) := br_f (nI_pos (by omega)) (br_f (nI_nlt (a := 10000) (by omega) (by omega)) K)
theorem xi_cb (h : x < 0 ∨ nI (cf_n C) ≤ x) (K : post 0) : wpX_isCustomer post (nI (cf_n C), f_changes, f_engine, f_pending, f_today, f_root, f_lastTaken, ai_N (cf_s C), ai_N (cf_r C), ai_N (cf_a C), ai_N (cf_v C), ai_N (cf_t C), ai_N (cf_d C), a_joinTime, a_beginTime, a_leaveTime, a_keptTime, a_keptJoin, a_keptBegin, a_changeTime, a_changeStation, a_changeAt, a_changeWaits, a_visitOf, a_waitingSet, a_free, a_heap, a_dayFirst, a_nextInDay, a_eventOf, a_firstChild, a_nextSibling, a_pairs, a_bucketFirst) x :=
  br_c (fun _ => K) (fun h0 => br_t (h.resolve_left h0) K)
theorem xi_co {c : Nat} (hn : cf_n C ≤ 12) (h : c < cf_n C) (K : post 1) : wpX_isCustomer post (nI (cf_n C), f_changes, f_engine, f_pending, f_today, f_root, f_lastTaken, ai_N (cf_s C), ai_N (cf_r C), ai_N (cf_a C), ai_N (cf_v C), ai_N (cf_t C), ai_N (cf_d C), a_joinTime, a_beginTime, a_leaveTime, a_keptTime, a_keptJoin, a_keptBegin, a_changeTime, a_changeStation, a_changeAt, a_changeWaits, a_visitOf, a_waitingSet, a_free, a_heap, a_dayFirst, a_nextInDay, a_eventOf, a_firstChild, a_nextSibling, a_pairs, a_bucketFirst) (nI c) := br_f (nI_pos (by omega)) (br_f (nI_ge h (by omega)) K)
theorem yi_cb (h : x < 0 ∨ nI (cf_n C) ≤ x) (K : post 0) : wpY_is post (nI (cf_n C), ai_N (cf_s C), ai_N (cf_r C), ai_N (cf_a C), ai_N (cf_v C), ai_N (cf_t C), ai_N (cf_d C), jo, be, go, no) x :=
  br_c (fun _ => K) (fun h0 => br_t (h.resolve_left h0) K)
theorem yi_co {c : Nat} (hn : cf_n C ≤ 12) (h : c < cf_n C) (K : post 1) : wpY_is post (nI (cf_n C), ai_N (cf_s C), ai_N (cf_r C), ai_N (cf_a C), ai_N (cf_v C), ai_N (cf_t C), ai_N (cf_d C), jo, be, go, no) (nI c) := br_f (nI_pos (by omega)) (br_f (nI_ge h (by omega)) K)
end
/-- a visit, or none for both -/
theorem ix_v {C : si_CF} (hv : cf_V C) (x y : Int32) : (∃ c k, c < cf_n C ∧ k < cf_v C c ∧ x = nI c ∧ y = nI k) ∨
    ((∀ (f_changes f_engine f_pending f_today f_root f_lastTaken : Int32) (a_joinTime a_beginTime a_leaveTime a_keptTime a_keptJoin a_keptBegin a_changeTime a_changeStation a_changeAt a_changeWaits a_visitOf a_waitingSet a_free a_heap a_dayFirst a_nextInDay a_eventOf a_firstChild a_nextSibling a_pairs a_bucketFirst : Nat → Int32) (post : Int32 → Prop), post 0 → wpX_isVisit post (nI (cf_n C), f_changes, f_engine, f_pending, f_today, f_root, f_lastTaken, ai_N (cf_s C), ai_N (cf_r C), ai_N (cf_a C), ai_N (cf_v C), ai_N (cf_t C), ai_N (cf_d C), a_joinTime, a_beginTime, a_leaveTime, a_keptTime, a_keptJoin, a_keptBegin, a_changeTime, a_changeStation, a_changeAt, a_changeWaits, a_visitOf, a_waitingSet, a_free, a_heap, a_dayFirst, a_nextInDay, a_eventOf, a_firstChild, a_nextSibling, a_pairs, a_bucketFirst) x y) ∧ (∀ (jo be go no : Nat → Int32) (post : Int32 → Prop), post 0 → wpY_isVisit post (nI (cf_n C), ai_N (cf_s C), ai_N (cf_r C), ai_N (cf_a C), ai_N (cf_v C), ai_N (cf_t C), ai_N (cf_d C), jo, be, go, no) x y)) := by
  have hn := hv.1
  rcases ix_2 x (n := cf_n C) (by omega) with h | ⟨c, hc, rfl⟩
  · refine Or.inr ⟨?_, ?_⟩
    · intro f_changes f_engine f_pending f_today f_root f_lastTaken a_joinTime a_beginTime a_leaveTime a_keptTime a_keptJoin a_keptBegin a_changeTime a_changeStation a_changeAt a_changeWaits a_visitOf a_waitingSet a_free a_heap a_dayFirst a_nextInDay a_eventOf a_firstChild a_nextSibling a_pairs a_bucketFirst post K
      unfold wpX_isVisit
      (try dsimp only)
      exact xi_cb h (br_t rfl K)
    · intro jo be go no post K
      unfold wpY_isVisit
      (try dsimp only)
      exact yi_cb h (br_t rfl K)
  · have hv4 := (hv.2.2.1 c hc).2
    rcases ix_2 y (n := cf_v C c) (by omega) with h | ⟨k, hk, rfl⟩
    · refine Or.inr ⟨?_, ?_⟩
      · intro f_changes f_engine f_pending f_today f_root f_lastTaken a_joinTime a_beginTime a_leaveTime a_keptTime a_keptJoin a_keptBegin a_changeTime a_changeStation a_changeAt a_changeWaits a_visitOf a_waitingSet a_free a_heap a_dayFirst a_nextInDay a_eventOf a_firstChild a_nextSibling a_pairs a_bucketFirst post K
        unfold wpX_isVisit
        (try dsimp only)
        refine xi_co hn hc (br_f (by decide) (br_c (fun _ => K) (fun h0 => ⟨pk_in c 12 (by omega), ?_⟩)))
        rw [nI_clamp (by omega : c < 2 ^ 31), ai_at]
        exact br_t (h.resolve_left h0) K
      · intro jo be go no post K
        unfold wpY_isVisit
        (try dsimp only)
        refine yi_co hn hc (br_f (by decide) (br_c (fun _ => K) (fun h0 => ⟨pk_in c 12 (by omega), ?_⟩)))
        rw [nI_clamp (by omega : c < 2 ^ 31), ai_at]
        exact br_t (h.resolve_left h0) K
    · exact Or.inl ⟨c, k, hc, hk, rfl, rfl⟩
end
section
/-! the owed statements: the questions -/
theorem i_vc_leaves {k : Nat} {u : SX} {v : SY} (I : i_Rel k u v) (hk : k + 4 ≤ 2048) (v1 : Int32) (v2 : Int32) : wpX_leaves (fun r u' => wpY_leaves (fun r' => r' = r ∧ i_Rel (k + 4) u' v) v v1 v2) u v1 v2 := by
  refine ir_el (P := fun u v => wpX_leaves (fun r u' => wpY_leaves (fun r' => r' = r ∧ i_Rel (k + 4) u' v) v v1 v2) u v1 v2) ?_ I
  intro C f_changes f_engine f_pending f_today f_root f_lastTaken a_joinTime a_beginTime a_leaveTime a_keptTime a_keptJoin a_keptBegin a_changeTime a_changeStation a_changeAt a_changeWaits a_visitOf a_waitingSet a_free a_heap a_dayFirst a_nextInDay a_eventOf a_firstChild a_nextSibling a_pairs a_bucketFirst jo be go no hv hY
  have hn := hv.1
  (try dsimp only)
  unfold wpX_leaves
  (try dsimp only)
  rcases ix_2 v1 (n := 4) (by omega) with h1 | ⟨e, he, rfl⟩
  · refine xi_eb h1 (br_t rfl ?_)
    (try dsimp only)
    unfold wpY_leaves
    (try dsimp only)
    exact yi_eb h1 (br_t rfl ⟨rfl, ir_mk hv hY⟩)
  · refine xi_eo he (br_f (by decide) ?_)
    rcases ix_2 v2 (n := cf_n C) (by omega) with h2 | ⟨c, hc, rfl⟩
    · refine xi_cb h2 (br_t rfl ?_)
      (try dsimp only)
      unfold wpY_leaves
      (try dsimp only)
      exact yi_eo he (br_f (by decide) (yi_cb h2 (br_t rfl ⟨rfl, ir_mk hv hY⟩)))
    · refine xi_co hn hc (br_f (by decide) ?_)
      refine xw_runF hv he ?_
      intro ch pe td rt lk tj tb tl vo ws fr ct cs ca cw hp df nd eo fc ns pr bf hF
      refine ⟨pk_in c 12 (by omega), ?_⟩
      dsimp only
      rw [nI_clamp (by omega : c < 2 ^ 31), hF.2.2.1 c hc]
      (try dsimp only)
      unfold wpY_leaves
      (try dsimp only)
      refine yi_eo he (br_f (by decide) (yi_co hn hc (br_f (by decide) ⟨pk_in c 12 (by omega), ?_⟩)))
      rw [nI_clamp (by omega : c < 2 ^ 31), hY.2.2 c hc]
      exact ⟨rfl, ir_mk hv hY⟩
theorem i_vc_joins {k : Nat} {u : SX} {v : SY} (I : i_Rel k u v) (hk : k + 4 ≤ 2048) (v1 : Int32) (v2 : Int32) : wpX_joins (fun r u' => wpY_joins (fun r' => r' = r ∧ i_Rel (k + 4) u' v) v v1 v2) u v1 v2 := by
  refine ir_el (P := fun u v => wpX_joins (fun r u' => wpY_joins (fun r' => r' = r ∧ i_Rel (k + 4) u' v) v v1 v2) u v1 v2) ?_ I
  intro C f_changes f_engine f_pending f_today f_root f_lastTaken a_joinTime a_beginTime a_leaveTime a_keptTime a_keptJoin a_keptBegin a_changeTime a_changeStation a_changeAt a_changeWaits a_visitOf a_waitingSet a_free a_heap a_dayFirst a_nextInDay a_eventOf a_firstChild a_nextSibling a_pairs a_bucketFirst jo be go no hv hY
  have hn := hv.1
  (try dsimp only)
  unfold wpX_joins
  (try dsimp only)
  rcases ix_v hv v1 v2 with ⟨c, kk, hc, hkk, rfl, rfl⟩ | ⟨hX, hYv⟩
  · have hv4 := (hv.2.2.1 c hc).2
    refine xq_vis hv (by omega) (by omega) (fun _ => br_f (by decide) ?_) (fun h => absurd ⟨hc, hkk⟩ h)
    refine xw_runF (e := 1) hv (by omega) ?_
    intro ch pe td rt lk tj tb tl vo ws fr ct cs ca cw hp df nd eo fc ns pr bf hF
    rw [yx_5]
    refine ⟨pk_in (4 * c + kk) 48 (by omega), ?_⟩
    dsimp only
    rw [nI_clamp (by omega : 4 * c + kk < 2 ^ 31), hF.1 c kk hc hkk]
    (try dsimp only)
    unfold wpY_joins
    (try dsimp only)
    refine yq_vis hv (by omega) (by omega) (fun _ => br_f (by decide) ?_) (fun h => absurd ⟨hc, hkk⟩ h)
    rw [yx_4]
    refine ⟨pk_in (4 * c + kk) 48 (by omega), ?_⟩
    rw [nI_clamp (by omega : 4 * c + kk < 2 ^ 31), hY.1 c kk hc hkk]
    exact ⟨rfl, ir_mk hv hY⟩
  · refine hX f_changes f_engine f_pending f_today f_root f_lastTaken a_joinTime a_beginTime a_leaveTime a_keptTime a_keptJoin a_keptBegin a_changeTime a_changeStation a_changeAt a_changeWaits a_visitOf a_waitingSet a_free a_heap a_dayFirst a_nextInDay a_eventOf a_firstChild a_nextSibling a_pairs a_bucketFirst _ (br_t rfl ?_)
    (try dsimp only)
    unfold wpY_joins
    (try dsimp only)
    exact hYv jo be go no _ (br_t rfl ⟨rfl, ir_mk hv hY⟩)
theorem i_vc_begins {k : Nat} {u : SX} {v : SY} (I : i_Rel k u v) (hk : k + 4 ≤ 2048) (v1 : Int32) (v2 : Int32) : wpX_begins (fun r u' => wpY_begins (fun r' => r' = r ∧ i_Rel (k + 4) u' v) v v1 v2) u v1 v2 := by
  refine ir_el (P := fun u v => wpX_begins (fun r u' => wpY_begins (fun r' => r' = r ∧ i_Rel (k + 4) u' v) v v1 v2) u v1 v2) ?_ I
  intro C f_changes f_engine f_pending f_today f_root f_lastTaken a_joinTime a_beginTime a_leaveTime a_keptTime a_keptJoin a_keptBegin a_changeTime a_changeStation a_changeAt a_changeWaits a_visitOf a_waitingSet a_free a_heap a_dayFirst a_nextInDay a_eventOf a_firstChild a_nextSibling a_pairs a_bucketFirst jo be go no hv hY
  have hn := hv.1
  (try dsimp only)
  unfold wpX_begins
  (try dsimp only)
  rcases ix_v hv v1 v2 with ⟨c, kk, hc, hkk, rfl, rfl⟩ | ⟨hX, hYv⟩
  · have hv4 := (hv.2.2.1 c hc).2
    refine xq_vis hv (by omega) (by omega) (fun _ => br_f (by decide) ?_) (fun h => absurd ⟨hc, hkk⟩ h)
    refine xw_runF (e := 3) hv (by omega) ?_
    intro ch pe td rt lk tj tb tl vo ws fr ct cs ca cw hp df nd eo fc ns pr bf hF
    rw [yx_5]
    refine ⟨pk_in (4 * c + kk) 48 (by omega), ?_⟩
    dsimp only
    rw [nI_clamp (by omega : 4 * c + kk < 2 ^ 31), hF.2.1 c kk hc hkk]
    (try dsimp only)
    unfold wpY_begins
    (try dsimp only)
    refine yq_vis hv (by omega) (by omega) (fun _ => br_f (by decide) ?_) (fun h => absurd ⟨hc, hkk⟩ h)
    rw [yx_4]
    refine ⟨pk_in (4 * c + kk) 48 (by omega), ?_⟩
    rw [nI_clamp (by omega : 4 * c + kk < 2 ^ 31), hY.2.1 c kk hc hkk]
    exact ⟨rfl, ir_mk hv hY⟩
  · refine hX f_changes f_engine f_pending f_today f_root f_lastTaken a_joinTime a_beginTime a_leaveTime a_keptTime a_keptJoin a_keptBegin a_changeTime a_changeStation a_changeAt a_changeWaits a_visitOf a_waitingSet a_free a_heap a_dayFirst a_nextInDay a_eventOf a_firstChild a_nextSibling a_pairs a_bucketFirst _ (br_t rfl ?_)
    (try dsimp only)
    unfold wpY_begins
    (try dsimp only)
    exact hYv jo be go no _ (br_t rfl ⟨rfl, ir_mk hv hY⟩)
theorem i_vc_at {k : Nat} {u : SX} {v : SY} (I : i_Rel k u v) (hk : k + 4 ≤ 2048) (v1 : Int32) (v2 : Int32) : wpX_at (fun r u' => wpY_at (fun r' => r' = r ∧ i_Rel (k + 4) u' v) v v1 v2) u v1 v2 := by
  refine ir_el (P := fun u v => wpX_at (fun r u' => wpY_at (fun r' => r' = r ∧ i_Rel (k + 4) u' v) v v1 v2) u v1 v2) ?_ I
  intro C f_changes f_engine f_pending f_today f_root f_lastTaken a_joinTime a_beginTime a_leaveTime a_keptTime a_keptJoin a_keptBegin a_changeTime a_changeStation a_changeAt a_changeWaits a_visitOf a_waitingSet a_free a_heap a_dayFirst a_nextInDay a_eventOf a_firstChild a_nextSibling a_pairs a_bucketFirst jo be go no hv hY
  have hn := hv.1
  (try dsimp only)
  unfold wpX_at
  (try dsimp only)
  rcases ix_2 v1 (n := 4) (by omega) with h1 | ⟨s, hs, rfl⟩
  · refine xi_sb h1 (br_t rfl ?_)
    (try dsimp only)
    unfold wpY_at
    (try dsimp only)
    exact yi_sb h1 (br_t rfl ⟨rfl, ir_mk hv hY⟩)
  · refine xi_so hs (br_f (by decide) ?_)
    have hx : ∀ j, j < 4 → (nI j = nI s ↔ j = s) := fun j hj => nI_eq (by omega) (by omega)
    rcases ix_2 v2 (n := 10001) (by omega) with h2 | ⟨t, ht, rfl⟩
    · refine xi_tb h2 (br_t rfl ?_)
      (try dsimp only)
      unfold wpY_at
      (try dsimp only)
      exact yi_so hs (br_f (by decide) (yi_tb h2 (br_t rfl ⟨rfl, ir_mk hv hY⟩)))
    · refine xi_to ht (br_f (by decide) ?_)
      refine xw_runF (e := 2) hv (by omega) ?_
      intro ch pe td rt lk tj tb tl vo ws fr ct cs ca cw hp df nd eo fc ns pr bf hF
      refine xq_sum0 hs (by omega) hF ?_
      (try dsimp only)
      unfold wpY_at
      (try dsimp only)
      exact yi_so hs (br_f (by decide) (yi_to ht (br_f (by decide) (yq_num (kind := 0) hx hv hY (by omega) (by omega) ⟨rfl, ir_mk hv hY⟩))))
theorem i_vc_waits {k : Nat} {u : SX} {v : SY} (I : i_Rel k u v) (hk : k + 4 ≤ 2048) (v1 : Int32) (v2 : Int32) : wpX_waits (fun r u' => wpY_waits (fun r' => r' = r ∧ i_Rel (k + 4) u' v) v v1 v2) u v1 v2 := by
  refine ir_el (P := fun u v => wpX_waits (fun r u' => wpY_waits (fun r' => r' = r ∧ i_Rel (k + 4) u' v) v v1 v2) u v1 v2) ?_ I
  intro C f_changes f_engine f_pending f_today f_root f_lastTaken a_joinTime a_beginTime a_leaveTime a_keptTime a_keptJoin a_keptBegin a_changeTime a_changeStation a_changeAt a_changeWaits a_visitOf a_waitingSet a_free a_heap a_dayFirst a_nextInDay a_eventOf a_firstChild a_nextSibling a_pairs a_bucketFirst jo be go no hv hY
  have hn := hv.1
  (try dsimp only)
  unfold wpX_waits
  (try dsimp only)
  rcases ix_2 v1 (n := 4) (by omega) with h1 | ⟨s, hs, rfl⟩
  · refine xi_sb h1 (br_t rfl ?_)
    (try dsimp only)
    unfold wpY_waits
    (try dsimp only)
    exact yi_sb h1 (br_t rfl ⟨rfl, ir_mk hv hY⟩)
  · refine xi_so hs (br_f (by decide) ?_)
    have hx : ∀ j, j < 4 → (nI j = nI s ↔ j = s) := fun j hj => nI_eq (by omega) (by omega)
    rcases ix_2 v2 (n := 10001) (by omega) with h2 | ⟨t, ht, rfl⟩
    · refine xi_tb h2 (br_t rfl ?_)
      (try dsimp only)
      unfold wpY_waits
      (try dsimp only)
      exact yi_so hs (br_f (by decide) (yi_tb h2 (br_t rfl ⟨rfl, ir_mk hv hY⟩)))
    · refine xi_to ht (br_f (by decide) ?_)
      refine xw_runF (e := 0) hv (by omega) ?_
      intro ch pe td rt lk tj tb tl vo ws fr ct cs ca cw hp df nd eo fc ns pr bf hF
      refine xq_sum1 hs (by omega) hF ?_
      (try dsimp only)
      unfold wpY_waits
      (try dsimp only)
      exact yi_so hs (br_f (by decide) (yi_to ht (br_f (by decide) (yq_num (kind := 1) hx hv hY (by omega) (by omega) ⟨rfl, ir_mk hv hY⟩))))
theorem i_vc_area {k : Nat} {u : SX} {v : SY} (I : i_Rel k u v) (hk : k + 4 ≤ 2048) (v1 : Int32) (v2 : Int32) : wpX_area (fun r u' => wpY_area (fun r' => r' = r ∧ i_Rel (k + 4) u' v) v v1 v2) u v1 v2 := by
  refine ir_el (P := fun u v => wpX_area (fun r u' => wpY_area (fun r' => r' = r ∧ i_Rel (k + 4) u' v) v v1 v2) u v1 v2) ?_ I
  intro C f_changes f_engine f_pending f_today f_root f_lastTaken a_joinTime a_beginTime a_leaveTime a_keptTime a_keptJoin a_keptBegin a_changeTime a_changeStation a_changeAt a_changeWaits a_visitOf a_waitingSet a_free a_heap a_dayFirst a_nextInDay a_eventOf a_firstChild a_nextSibling a_pairs a_bucketFirst jo be go no hv hY
  have hn := hv.1
  (try dsimp only)
  unfold wpX_area
  (try dsimp only)
  rcases ix_2 v1 (n := 4) (by omega) with h1 | ⟨s, hs, rfl⟩
  · refine xi_sb h1 (br_t rfl ?_)
    (try dsimp only)
    unfold wpY_area
    (try dsimp only)
    exact yi_sb h1 (br_t rfl ⟨rfl, ir_mk hv hY⟩)
  · refine xi_so hs (br_f (by decide) ?_)
    have hx : ∀ j, j < 4 → (nI j = nI s ↔ j = s) := fun j hj => nI_eq (by omega) (by omega)
    rcases ix_2 v2 (n := 10001) (by omega) with h2 | ⟨t, ht, rfl⟩
    · refine xi_tb h2 (br_t rfl ?_)
      (try dsimp only)
      unfold wpY_area
      (try dsimp only)
      exact yi_so hs (br_f (by decide) (yi_tb h2 (br_t rfl ⟨rfl, ir_mk hv hY⟩)))
    · refine xi_to ht (br_f (by decide) ?_)
      refine xw_runF (e := 1) hv (by omega) ?_
      intro ch pe td rt lk tj tb tl vo ws fr ct cs ca cw hp df nd eo fc ns pr bf hF
      refine xq_area hs (by omega) hF ?_
      (try dsimp only)
      unfold wpY_area
      (try dsimp only)
      exact yi_so hs (br_f (by decide) (yi_to ht (br_f (by decide) (yq_ar hs hv hY (by omega) ⟨rfl, ir_mk hv hY⟩))))
theorem i_vc_stays {k : Nat} {u : SX} {v : SY} (I : i_Rel k u v) (hk : k + 4 ≤ 2048) (v1 : Int32) : wpX_stays (fun r u' => wpY_stays (fun r' => r' = r ∧ i_Rel (k + 4) u' v) v v1) u v1 := by
  refine ir_el (P := fun u v => wpX_stays (fun r u' => wpY_stays (fun r' => r' = r ∧ i_Rel (k + 4) u' v) v v1) u v1) ?_ I
  intro C f_changes f_engine f_pending f_today f_root f_lastTaken a_joinTime a_beginTime a_leaveTime a_keptTime a_keptJoin a_keptBegin a_changeTime a_changeStation a_changeAt a_changeWaits a_visitOf a_waitingSet a_free a_heap a_dayFirst a_nextInDay a_eventOf a_firstChild a_nextSibling a_pairs a_bucketFirst jo be go no hv hY
  have hn := hv.1
  (try dsimp only)
  unfold wpX_stays
  (try dsimp only)
  rcases ix_2 v1 (n := 4) (by omega) with h1 | ⟨s, hs, rfl⟩
  · refine xi_sb h1 (br_t rfl ?_)
    (try dsimp only)
    unfold wpY_stays
    (try dsimp only)
    unfold wpY_area
    (try dsimp only)
    exact yi_sb h1 (br_t rfl ⟨rfl, ir_mk hv hY⟩)
  · refine xi_so hs (br_f (by decide) ?_)
    refine xw_runF (e := 2) hv (by omega) ?_
    intro ch pe td rt lk tj tb tl vo ws fr ct cs ca cw hp df nd eo fc ns pr bf hF
    refine xq_stays hv hs hF ?_
    have e := nz_stays hv s
    (try dsimp only)
    unfold wpY_stays
    (try dsimp only)
    unfold wpY_area
    (try dsimp only)
    refine yi_so hs (br_f (by decide) (yi_to (s := 2000) (by omega) (br_f (by decide) (yq_ar (t2 := 2000) hs hv hY (by omega) ⟨?_, ir_mk hv hY⟩))))
    rw [e]; rfl
theorem i_vc_busy {k : Nat} {u : SX} {v : SY} (I : i_Rel k u v) (hk : k + 4 ≤ 2048) (v1 : Int32) : wpX_busy (fun r u' => wpY_busy (fun r' => r' = r ∧ i_Rel (k + 4) u' v) v v1) u v1 := by
  refine ir_el (P := fun u v => wpX_busy (fun r u' => wpY_busy (fun r' => r' = r ∧ i_Rel (k + 4) u' v) v v1) u v1) ?_ I
  intro C f_changes f_engine f_pending f_today f_root f_lastTaken a_joinTime a_beginTime a_leaveTime a_keptTime a_keptJoin a_keptBegin a_changeTime a_changeStation a_changeAt a_changeWaits a_visitOf a_waitingSet a_free a_heap a_dayFirst a_nextInDay a_eventOf a_firstChild a_nextSibling a_pairs a_bucketFirst jo be go no hv hY
  have hn := hv.1
  (try dsimp only)
  unfold wpX_busy
  (try dsimp only)
  rcases ix_2 v1 (n := 4) (by omega) with h1 | ⟨s, hs, rfl⟩
  · refine xi_sb h1 (br_t rfl ?_)
    have hx : ∀ j, j < 4 → (nI j = v1 ↔ j = 4) := fun j hj => ⟨fun z => absurd z (ix_ne (by omega) h1 hj), fun z => by omega⟩
    exact yq_bs hx hv hY (yi_sb h1 (br_t rfl ⟨rfl, ir_mk hv hY⟩))
  · refine xi_so hs (br_f (by decide) ?_)
    have hx : ∀ j, j < 4 → (nI j = nI s ↔ j = s) := fun j hj => nI_eq (by omega) (by omega)
    refine xw_runF (e := 3) hv (by omega) ?_
    intro ch pe td rt lk tj tb tl vo ws fr ct cs ca cw hp df nd eo fc ns pr bf hF
    refine xq_busy hv hs hF ?_
    exact yq_bs hx hv hY (yi_so hs (br_f (by decide) ⟨rfl, ir_mk hv hY⟩))
theorem i_vc_longest {k : Nat} {u : SX} {v : SY} (I : i_Rel k u v) (hk : k + 4 ≤ 2048) (v1 : Int32) : wpX_longest (fun r u' => wpY_longest (fun r' => r' = r ∧ i_Rel (k + 4) u' v) v v1) u v1 := by
  refine ir_el (P := fun u v => wpX_longest (fun r u' => wpY_longest (fun r' => r' = r ∧ i_Rel (k + 4) u' v) v v1) u v1) ?_ I
  intro C f_changes f_engine f_pending f_today f_root f_lastTaken a_joinTime a_beginTime a_leaveTime a_keptTime a_keptJoin a_keptBegin a_changeTime a_changeStation a_changeAt a_changeWaits a_visitOf a_waitingSet a_free a_heap a_dayFirst a_nextInDay a_eventOf a_firstChild a_nextSibling a_pairs a_bucketFirst jo be go no hv hY
  have hn := hv.1
  (try dsimp only)
  unfold wpX_longest
  (try dsimp only)
  rcases ix_2 v1 (n := 4) (by omega) with h1 | ⟨s, hs, rfl⟩
  · refine xi_sb h1 (br_t rfl ?_)
    have hx : ∀ j, j < 4 → (nI j = v1 ↔ j = 4) := fun j hj => ⟨fun z => absurd z (ix_ne (by omega) h1 hj), fun z => by omega⟩
    exact yq_lg hx hv hY (fun z _ => yi_sb h1 (br_t rfl ⟨rfl, ir_mk hv hY⟩))
  · refine xi_so hs (br_f (by decide) ?_)
    have hx : ∀ j, j < 4 → (nI j = nI s ↔ j = s) := fun j hj => nI_eq (by omega) (by omega)
    refine xw_runF (e := 0) hv (by omega) ?_
    intro ch pe td rt lk tj tb tl vo ws fr ct cs ca cw hp df nd eo fc ns pr bf hF
    refine xq_lg hv hs hF (fun z hz => ?_)
    exact yq_lg hx hv hY (fun w hw => yi_so hs (br_f (by decide) ⟨by rw [mz_u hz hw], ir_mk hv hY⟩))
theorem i_vc_last {k : Nat} {u : SX} {v : SY} (I : i_Rel k u v) (hk : k + 4 ≤ 2048) : wpX_last (fun r u' => wpY_last (fun r' => r' = r ∧ i_Rel (k + 4) u' v) v) u := by
  refine ir_el (P := fun u v => wpX_last (fun r u' => wpY_last (fun r' => r' = r ∧ i_Rel (k + 4) u' v) v) u) ?_ I
  intro C f_changes f_engine f_pending f_today f_root f_lastTaken a_joinTime a_beginTime a_leaveTime a_keptTime a_keptJoin a_keptBegin a_changeTime a_changeStation a_changeAt a_changeWaits a_visitOf a_waitingSet a_free a_heap a_dayFirst a_nextInDay a_eventOf a_firstChild a_nextSibling a_pairs a_bucketFirst jo be go no hv hY
  have hn := hv.1
  (try dsimp only)
  unfold wpX_last
  (try dsimp only)
  refine xw_runF (e := 1) hv (by omega) ?_
  intro ch pe td rt lk tj tb tl vo ws fr ct cs ca cw hp df nd eo fc ns pr bf hF
  refine xq_last hv hF ?_
  exact yq_last hv hY ⟨rfl, ir_mk hv hY⟩
theorem i_vc_order {k : Nat} {u : SX} {v : SY} (I : i_Rel k u v) (hk : k + 4 ≤ 2048) (v1 : Int32) : wpX_order (fun r u' => wpY_order (fun r' => r' = r ∧ i_Rel (k + 4) u' v) v v1) u v1 := by
  refine ir_el (P := fun u v => wpX_order (fun r u' => wpY_order (fun r' => r' = r ∧ i_Rel (k + 4) u' v) v v1) u v1) ?_ I
  intro C f_changes f_engine f_pending f_today f_root f_lastTaken a_joinTime a_beginTime a_leaveTime a_keptTime a_keptJoin a_keptBegin a_changeTime a_changeStation a_changeAt a_changeWaits a_visitOf a_waitingSet a_free a_heap a_dayFirst a_nextInDay a_eventOf a_firstChild a_nextSibling a_pairs a_bucketFirst jo be go no hv hY
  have hn := hv.1
  (try dsimp only)
  unfold wpX_order
  (try dsimp only)
  rcases ix_2 v1 (n := cf_n C) (by omega) with h1 | ⟨c, hc, rfl⟩
  · refine xi_cb h1 (br_t rfl ?_)
    exact yq_or0 hv hY (fun j hj => ix_ne (by omega) h1 hj) ⟨rfl, ir_mk hv hY⟩
  · refine xi_co hn hc (br_f (by decide) ?_)
    refine xw_runF (e := 2) hv (by omega) ?_
    intro ch pe td rt lk tj tb tl vo ws fr ct cs ca cw hp df nd eo fc ns pr bf hF
    obtain ⟨r, i1, i2⟩ := xy_or (no := no) hv hF hY (nI c)
    exact i1 _ (i2 _ ⟨rfl, ir_mk hv hY⟩)
theorem i_vc_agree {k : Nat} {u : SX} {v : SY} (I : i_Rel k u v) (hk : k + 4 ≤ 2048) (v1 : Int32) (v2 : Int32) : wpX_agree (fun r u' => wpY_agree (fun r' => r' = r ∧ i_Rel (k + 4) u' v) v v1 v2) u v1 v2 := by
  refine ir_el (P := fun u v => wpX_agree (fun r u' => wpY_agree (fun r' => r' = r ∧ i_Rel (k + 4) u' v) v v1 v2) u v1 v2) ?_ I
  intro C f_changes f_engine f_pending f_today f_root f_lastTaken a_joinTime a_beginTime a_leaveTime a_keptTime a_keptJoin a_keptBegin a_changeTime a_changeStation a_changeAt a_changeWaits a_visitOf a_waitingSet a_free a_heap a_dayFirst a_nextInDay a_eventOf a_firstChild a_nextSibling a_pairs a_bucketFirst jo be go no hv hY
  have hn := hv.1
  (try dsimp only)
  unfold wpX_agree
  (try dsimp only)
  rcases ix_2 v1 (n := 4) (by omega) with h1 | ⟨e1, he1, rfl⟩
  · refine xi_eb h1 (br_t rfl ?_)
    (try dsimp only)
    unfold wpY_agree
    (try dsimp only)
    exact yi_eb h1 (br_t rfl ⟨rfl, ir_mk hv hY⟩)
  · refine xi_eo he1 (br_f (by decide) ?_)
    rcases ix_2 v2 (n := 4) (by omega) with h2 | ⟨e2, he2, rfl⟩
    · refine xi_eb h2 (br_t rfl ?_)
      (try dsimp only)
      unfold wpY_agree
      (try dsimp only)
      exact yi_eo he1 (br_f (by decide) (yi_eb h2 (br_t rfl ⟨rfl, ir_mk hv hY⟩)))
    · refine xi_eo he2 (br_f (by decide) ?_)
      refine xw_runF hv he1 ?_
      intro ch pe td rt lk tj tb tl vo ws fr ct cs ca cw hp df nd eo fc ns pr bf hF
      refine xq_keep hv ?_
      intro kt kj kb q1 q2 q3
      refine xw_runF hv he2 ?_
      intro ch' pe' td' rt' lk' tj' tb' tl' vo' ws' fr' ct' cs' ca' cw' hp' df' nd' eo' fc' ns' pr' bf' hF'
      refine xq_agree hv (fun c hc => ?_) (fun c k hc hk => ?_) (fun c k hc hk => ?_) ?_
      · exact (q1 c hc).trans ((hF.2.2.1 c hc).trans (hF'.2.2.1 c hc).symm)
      · have hv4 := (hv.2.2.1 c hc).2
        exact (q2 (4 * c + k) (by omega)).trans ((hF.1 c k hc hk).trans (hF'.1 c k hc hk).symm)
      · have hv4 := (hv.2.2.1 c hc).2
        exact (q3 (4 * c + k) (by omega)).trans ((hF.2.1 c k hc hk).trans (hF'.2.1 c k hc hk).symm)
      · (try dsimp only)
        unfold wpY_agree
        (try dsimp only)
        exact yi_eo he1 (br_f (by decide) (yi_eo he2 (br_f (by decide) ⟨rfl, ir_mk hv hY⟩)))
end
section
/-! the owed statements: the beginning, and what changes the network -/
def in_s (i : Nat) : Nat → Nat := fun s => if s < i then 1 else 0
theorem in_up (i : Nat) : upd (ai_N (in_s i)) i 1 = ai_N (in_s (i + 1)) := by
  rw [show (1 : Int32) = nI 1 from rfl, ai_up]
  congr 1
  funext s
  unfold in_s
  by_cases z : s = i
  · rw [z, si_fs, if_pos (by omega)]
  · rw [si_fn z]
    by_cases y : s < i
    · rw [if_pos y, if_pos (by omega)]
    · rw [if_neg y, if_neg (by omega)]
theorem in_0 : (fun _ => (0 : Int32) : Nat → Int32) = ai_N (in_s 0) := by
  funext s
  show (0 : Int32) = nI (if s < 0 then 1 else 0)
  rw [if_neg (by omega)]; rfl
def in_C : si_CF := (0, in_s 4, in_s 0, in_s 0, in_s 0, in_s 0, in_s 0)
theorem in_V : cf_V in_C := by
  refine ⟨Nat.zero_le _, fun s hs => ?_, fun c hc => absurd hc (Nat.not_lt_zero _), fun c k hc => absurd hc (Nat.not_lt_zero _)⟩
  show 1 ≤ in_s 4 s ∧ in_s 4 s ≤ 3 ∧ in_s 0 s ≤ 2
  unfold in_s
  rw [if_pos hs, if_neg (by omega)]; omega
theorem in_Y (jo be go : Nat → Int32) : yf_R in_C jo be go :=
  ⟨fun c k hc => absurd hc (Nat.not_lt_zero _), fun c k hc => absurd hc (Nat.not_lt_zero _), fun c hc => absurd hc (Nat.not_lt_zero _)⟩
section
variable {f_customers f_changes f_engine f_pending f_today f_root f_lastTaken : Int32} {a_servers a_rules a_arrivalOf a_visitCount a_visitStation a_visitNeed a_joinTime a_beginTime a_leaveTime a_keptTime a_keptJoin a_keptBegin a_changeTime a_changeStation a_changeAt a_changeWaits a_visitOf a_waitingSet a_free a_heap a_dayFirst a_nextInDay a_eventOf a_firstChild a_nextSibling a_pairs a_bucketFirst : Nat → Int32}
theorem xi_in {post : SX → Prop} (K : post (f_customers, f_changes, f_engine, f_pending, f_today, f_root, f_lastTaken, ai_N (in_s 4), a_rules, a_arrivalOf, a_visitCount, a_visitStation, a_visitNeed, a_joinTime, a_beginTime, a_leaveTime, a_keptTime, a_keptJoin, a_keptBegin, a_changeTime, a_changeStation, a_changeAt, a_changeWaits, a_visitOf, a_waitingSet, a_free, a_heap, a_dayFirst, a_nextInDay, a_eventOf, a_firstChild, a_nextSibling, a_pairs, a_bucketFirst)) : ∀ (N i : Nat), 4 < i + N → i ≤ 4 → wX_init_222 post f_customers f_changes f_engine f_pending f_today f_root f_lastTaken N (nI i) (ai_N (in_s i)) a_rules a_arrivalOf a_visitCount a_visitStation a_visitNeed a_joinTime a_beginTime a_leaveTime a_keptTime a_keptJoin a_keptBegin a_changeTime a_changeStation a_changeAt a_changeWaits a_visitOf a_waitingSet a_free a_heap a_dayFirst a_nextInDay a_eventOf a_firstChild a_nextSibling a_pairs a_bucketFirst := by
  intro N
  induction N with
  | zero => intro i h h'; omega
  | succ N ih =>
    intro i hN hi
    refine pk_le 4 i (fun h => ?_) (fun h => ⟨pk_in i 4 h, ?_⟩)
    · have e : i = 4 := by omega
      rw [e]; exact K
    · rw [nI_clamp (by omega : i < 2 ^ 31), show vp_nar .byte 1 = 1 from by_1 (c := 1) (by omega), in_up, nI_1]
      intro y ey
      subst ey
      intro y ey
      subst ey
      exact ih (i + 1) (by omega) (by omega)
end
section
variable {f_size : Int32} {a_servers a_rules a_arrivals a_counts a_stations a_needs a_joined a_begun a_gone a_now : Nat → Int32}
theorem yi_in {post : SY → Prop} (K : post (f_size, ai_N (in_s 4), a_rules, a_arrivals, a_counts, a_stations, a_needs, a_joined, a_begun, a_gone, a_now)) : ∀ (N i : Nat), 4 < i + N → i ≤ 4 → wY_init_84 post f_size N (nI i) (ai_N (in_s i)) a_rules a_arrivals a_counts a_stations a_needs a_joined a_begun a_gone a_now := by
  intro N
  induction N with
  | zero => intro i h h'; omega
  | succ N ih =>
    intro i hN hi
    refine pk_le 4 i (fun h => ?_) (fun h => ⟨pk_in i 4 h, ?_⟩)
    · have e : i = 4 := by omega
      rw [e]; exact K
    · rw [nI_clamp (by omega : i < 2 ^ 31), in_up, nI_1]
      intro y ey
      subst ey
      intro y ey
      subst ey
      exact ih (i + 1) (by omega) (by omega)
end
theorem i_vc0 : wpX_init (fun u => wpY_init (fun v => i_Rel 0 u v)) := by
  unfold wpX_init
  rw [in_0]
  refine ⟨5, xi_in ?_ 5 0 (by omega) (by omega)⟩
  unfold wpY_init
  rw [in_0]
  refine ⟨5, yi_in ?_ 5 0 (by omega) (by omega)⟩
  exact ir_mk (C := in_C) in_V (in_Y _ _ _)
def cf_st (C : si_CF) (s m r : Nat) : si_CF := (cf_n C, si_fu (cf_s C) s m, si_fu (cf_r C) s r, cf_a C, cf_v C, cf_t C, cf_d C)
theorem cf_st_V {C : si_CF} {s m r : Nat} (hv : cf_V C) (h1 : 1 ≤ m) (h2 : m ≤ 3) (h3 : r ≤ 2) : cf_V (cf_st C s m r) := by
  refine ⟨hv.1, fun s' hs' => ?_, hv.2.2.1, hv.2.2.2⟩
  show 1 ≤ si_fu (cf_s C) s m s' ∧ si_fu (cf_s C) s m s' ≤ 3 ∧ si_fu (cf_r C) s r s' ≤ 2
  by_cases z : s' = s
  · rw [z, si_fs, si_fs]; exact ⟨h1, h2, h3⟩
  · rw [si_fn z, si_fn z]; exact hv.2.1 s' hs'
def cf_ar (C : si_CF) (t : Nat) : si_CF := (cf_n C + 1, cf_s C, cf_r C, si_fu (cf_a C) (cf_n C) t, si_fu (cf_v C) (cf_n C) 0, cf_t C, cf_d C)
theorem cf_ar_V {C : si_CF} {t : Nat} (hv : cf_V C) (h1 : cf_n C < 12) (h2 : t ≤ 100) : cf_V (cf_ar C t) := by
  refine ⟨h1, hv.2.1, fun c hc => ?_, fun c k hc hk => ?_⟩
  · show si_fu (cf_a C) (cf_n C) t c ≤ 100 ∧ si_fu (cf_v C) (cf_n C) 0 c ≤ 4
    have hc' : c < cf_n C + 1 := hc
    by_cases z : c = cf_n C
    · rw [z, si_fs, si_fs]; exact ⟨h2, by omega⟩
    · rw [si_fn z, si_fn z]; exact hv.2.2.1 c (by omega)
  · have hc' : c < cf_n C + 1 := hc
    have hk' : k < si_fu (cf_v C) (cf_n C) 0 c := hk
    by_cases z : c = cf_n C
    · rw [z, si_fs] at hk'; omega
    · rw [si_fn z] at hk'; exact hv.2.2.2 c k (by omega) hk'
def cf_vi (C : si_CF) (c s d : Nat) : si_CF := (cf_n C, cf_s C, cf_r C, cf_a C, si_fu (cf_v C) c (cf_v C c + 1), si_fu (cf_t C) (4 * c + cf_v C c) s, si_fu (cf_d C) (4 * c + cf_v C c) d)
theorem cf_vi_V {C : si_CF} {c s d : Nat} (hv : cf_V C) (hc : c < cf_n C) (h1 : cf_v C c < 4) (h2 : s < 4) (h3 : 1 ≤ d) (h4 : d ≤ 30) : cf_V (cf_vi C c s d) := by
  refine ⟨hv.1, hv.2.1, fun c' hc' => ?_, fun c' k hc' hk => ?_⟩
  · show cf_a C c' ≤ 100 ∧ si_fu (cf_v C) c (cf_v C c + 1) c' ≤ 4
    by_cases z : c' = c
    · rw [z, si_fs]; exact ⟨(hv.2.2.1 c hc).1, h1⟩
    · rw [si_fn z]; exact hv.2.2.1 c' hc'
  · show si_fu (cf_t C) (4 * c + cf_v C c) s (4 * c' + k) < 4 ∧ 1 ≤ si_fu (cf_d C) (4 * c + cf_v C c) d (4 * c' + k) ∧ si_fu (cf_d C) (4 * c + cf_v C c) d (4 * c' + k) ≤ 30
    have hk' : k < si_fu (cf_v C) c (cf_v C c + 1) c' := hk
    have hcn : c' < cf_n C := hc'
    by_cases z : c' = c
    · rw [z, si_fs] at hk'
      by_cases y : k = cf_v C c
      · rw [z, y, si_fs, si_fs]; exact ⟨h2, h3, h4⟩
      · rw [z, si_fn (by omega), si_fn (by omega)]; exact hv.2.2.2 c k hc (by omega)
    · rw [si_fn z] at hk'
      have := (hv.2.2.1 c' hcn).2
      rw [si_fn (by omega), si_fn (by omega)]; exact hv.2.2.2 c' k hcn hk'
def cf_dr (C : si_CF) : si_CF := (cf_n C - 1, cf_s C, cf_r C, cf_a C, cf_v C, cf_t C, cf_d C)
theorem cf_dr_V {C : si_CF} (hv : cf_V C) : cf_V (cf_dr C) := by
  have e : cf_n (cf_dr C) = cf_n C - 1 := rfl
  have hn := hv.1
  exact ⟨by omega, hv.2.1, fun c hc => hv.2.2.1 c (by omega), fun c k hc hk => hv.2.2.2 c k (by omega) hk⟩
theorem i_vc_station {k : Nat} {u : SX} {v : SY} (I : i_Rel k u v) (hk : k + 4 ≤ 2048) (v1 : Int32) (v2 : Int32) (v3 : Int32) : wpX_station (fun r u' => wpY_station (fun r' v' => r' = r ∧ i_Rel (k + 4) u' v') v v1 v2 v3) u v1 v2 v3 := by
  refine ir_el (P := fun u v => wpX_station (fun r u' => wpY_station (fun r' v' => r' = r ∧ i_Rel (k + 4) u' v') v v1 v2 v3) u v1 v2 v3) ?_ I
  intro C f_changes f_engine f_pending f_today f_root f_lastTaken a_joinTime a_beginTime a_leaveTime a_keptTime a_keptJoin a_keptBegin a_changeTime a_changeStation a_changeAt a_changeWaits a_visitOf a_waitingSet a_free a_heap a_dayFirst a_nextInDay a_eventOf a_firstChild a_nextSibling a_pairs a_bucketFirst jo be go no hv hY
  have hn := hv.1
  (try dsimp only)
  unfold wpX_station wpY_station
  (try dsimp only)
  rcases ix_2 v1 (n := 4) (by omega) with h1 | ⟨s, hs, rfl⟩
  · exact xi_sb h1 (br_t rfl (yi_sb h1 (br_t rfl ⟨rfl, ir_mk hv hY⟩)))
  · refine xi_so hs (br_f (by decide) ?_)
    by_cases a1 : v2 < 1
    · exact br_t a1 (yi_so hs (br_f (by decide) (br_t a1 ⟨rfl, ir_mk hv hY⟩)))
    · refine br_f a1 ?_
      by_cases a2 : 3 < v2
      · exact br_t a2 (yi_so hs (br_f (by decide) (br_f a1 (br_t a2 ⟨rfl, ir_mk hv hY⟩))))
      · refine br_f a2 ?_
        by_cases a3 : v3 < 0
        · exact br_t a3 (yi_so hs (br_f (by decide) (br_f a1 (br_f a2 (br_t a3 ⟨rfl, ir_mk hv hY⟩)))))
        · refine br_f a3 ?_
          by_cases a4 : v3 ≤ 2
          · obtain ⟨m, hm, rfl⟩ : ∃ m, m < 4 ∧ v2 = nI m := by
              rcases ix_2 v2 (n := 4) (by omega) with h | h
              · rcases h with h | h
                · exact absurd (Int32.lt_trans h (by decide)) a1
                · exact absurd (Int32.lt_of_lt_of_le (by decide : (3 : Int32) < nI 4) h) a2
              · exact h
            obtain ⟨r, hr, rfl⟩ := nI_of2 (M := 2) (n := 2) (by decide) a3 a4
            have hm1 : 1 ≤ m := by
              rcases Nat.lt_or_ge m 1 with z | z
              · exact absurd (nI_lt (b := 1) z (by omega)) a1
              · exact z
            refine br_t a4 ⟨pk_in s 4 hs, ?_⟩
            rw [nI_clamp (by omega : s < 2 ^ 31), by_2 (by omega : m < 128), by_2 (by omega : r < 128), ai_up, ai_up]
            intro y ey
            subst ey
            refine ⟨pk_in s 4 hs, ?_⟩
            intro y ey
            subst ey
            refine yi_so hs (br_f (by decide) (br_f a1 (br_f a2 (br_f a3 (br_t a4 ⟨pk_in s 4 hs, ?_⟩)))))
            intro y ey
            subst ey
            refine ⟨pk_in s 4 hs, ?_⟩
            intro y ey
            subst ey
            have hV := cf_st_V (s := s) hv hm1 (by omega) hr
            refine yw_play (C := cf_st C s m r) hV ?_
            intro jo' be' go' no' h'
            exact ⟨rfl, ir_mk (C := cf_st C s m r) hV (yf_of hV h')⟩
          · exact br_f a4 (yi_so hs (br_f (by decide) (br_f a1 (br_f a2 (br_f a3 (br_f a4 ⟨rfl, ir_mk hv hY⟩))))))
theorem i_vc_arrive {k : Nat} {u : SX} {v : SY} (I : i_Rel k u v) (hk : k + 4 ≤ 2048) (v1 : Int32) : wpX_arrive (fun r u' => wpY_arrive (fun r' v' => r' = r ∧ i_Rel (k + 4) u' v') v v1) u v1 := by
  refine ir_el (P := fun u v => wpX_arrive (fun r u' => wpY_arrive (fun r' v' => r' = r ∧ i_Rel (k + 4) u' v') v v1) u v1) ?_ I
  intro C f_changes f_engine f_pending f_today f_root f_lastTaken a_joinTime a_beginTime a_leaveTime a_keptTime a_keptJoin a_keptBegin a_changeTime a_changeStation a_changeAt a_changeWaits a_visitOf a_waitingSet a_free a_heap a_dayFirst a_nextInDay a_eventOf a_firstChild a_nextSibling a_pairs a_bucketFirst jo be go no hv hY
  have hn := hv.1
  (try dsimp only)
  unfold wpX_arrive wpY_arrive
  (try dsimp only)
  by_cases a1 : v1 < 0
  · exact br_t a1 (br_t a1 ⟨rfl, ir_mk hv hY⟩)
  · refine br_f a1 ?_
    by_cases a2 : v1 ≤ 100
    · refine br_t a2 ?_
      obtain ⟨t, ht, rfl⟩ := nI_of2 (M := 100) (n := 100) (by decide) a1 a2
      refine pk_lt (cf_n C) 12 (fun h => ⟨pk_in (cf_n C) 12 h, ?_⟩) (fun h => ?_)
      · rw [nI_clamp (by omega : cf_n C < 2 ^ 31), by_2 (by omega : t < 128), show vp_nar .byte 0 = nI 0 from by_1 (c := 0) (by omega), ai_up, ai_up, nI_1]
        intro y ey
        subst ey
        refine ⟨pk_in (cf_n C) 12 h, ?_⟩
        intro y ey
        subst ey
        intro y ey
        subst ey
        refine br_f a1 (br_t a2 (br_t (nI_lt (b := 12) h (by omega)) ⟨pk_in (cf_n C) 12 h, ?_⟩))
        intro y ey
        subst ey
        refine ⟨pk_in (cf_n C) 12 h, ?_⟩
        intro y ey
        rw [show (0 : Int32) = nI 0 from rfl, ai_up] at ey
        subst ey
        intro y ey
        subst ey
        have hV := cf_ar_V hv h ht
        refine yw_play (C := cf_ar C t) hV ?_
        intro jo' be' go' no' h'
        exact ⟨rfl, ir_mk (C := cf_ar C t) hV (yf_of hV h')⟩
      · exact br_f a1 (br_t a2 (br_f (nI_nlt (b := 12) h (by omega)) ⟨rfl, ir_mk hv hY⟩))
    · exact br_f a2 (br_f a1 (br_f a2 ⟨rfl, ir_mk hv hY⟩))
theorem i_vc_visit {k : Nat} {u : SX} {v : SY} (I : i_Rel k u v) (hk : k + 4 ≤ 2048) (v1 : Int32) (v2 : Int32) (v3 : Int32) : wpX_visit (fun r u' => wpY_visit (fun r' v' => r' = r ∧ i_Rel (k + 4) u' v') v v1 v2 v3) u v1 v2 v3 := by
  refine ir_el (P := fun u v => wpX_visit (fun r u' => wpY_visit (fun r' v' => r' = r ∧ i_Rel (k + 4) u' v') v v1 v2 v3) u v1 v2 v3) ?_ I
  intro C f_changes f_engine f_pending f_today f_root f_lastTaken a_joinTime a_beginTime a_leaveTime a_keptTime a_keptJoin a_keptBegin a_changeTime a_changeStation a_changeAt a_changeWaits a_visitOf a_waitingSet a_free a_heap a_dayFirst a_nextInDay a_eventOf a_firstChild a_nextSibling a_pairs a_bucketFirst jo be go no hv hY
  have hn := hv.1
  (try dsimp only)
  unfold wpX_visit wpY_visit
  (try dsimp only)
  rcases ix_2 v1 (n := cf_n C) (by omega) with h1 | ⟨c, hc, rfl⟩
  · exact xi_cb h1 (br_t rfl (yi_cb h1 (br_t rfl ⟨rfl, ir_mk hv hY⟩)))
  · have hv4 := (hv.2.2.1 c hc).2
    refine xi_co hn hc (br_f (by decide) ?_)
    rcases ix_2 v2 (n := 4) (by omega) with h2 | ⟨s, hs, rfl⟩
    · exact xi_sb h2 (br_t rfl (yi_co hn hc (br_f (by decide) (yi_sb h2 (br_t rfl ⟨rfl, ir_mk hv hY⟩)))))
    · refine xi_so hs (br_f (by decide) ?_)
      by_cases a1 : v3 < 1
      · exact br_t a1 (yi_co hn hc (br_f (by decide) (yi_so hs (br_f (by decide) (br_t a1 ⟨rfl, ir_mk hv hY⟩)))))
      · refine br_f a1 ?_
        by_cases a2 : v3 ≤ 30
        · refine br_t a2 ⟨pk_in c 12 (by omega), ?_⟩
          obtain ⟨d, hd, rfl⟩ := nI_of2 (x := v3) (M := 30) (n := 30) (by decide) (fun z => a1 (Int32.lt_trans z (by decide))) a2
          have hd1 : 1 ≤ d := by
            rcases Nat.lt_or_ge d 1 with z | z
            · exact absurd (nI_lt (b := 1) z (by omega)) a1
            · exact z
          rw [nI_clamp (by omega : c < 2 ^ 31), ai_at, yx_5, nI_1]
          refine pk_lt (cf_v C c) 4 (fun h => ⟨pk_in c 12 (by omega), ?_⟩) (fun h => ?_)
          · intro y ey
            subst ey
            rw [nI_clamp (by omega : 4 * c + cf_v C c < 2 ^ 31), by_2 (by omega : s < 128), by_2 (by omega : d < 128), by_2 (by omega : cf_v C c + 1 < 128), ai_up, ai_up, ai_up]
            refine ⟨pk_in (4 * c + cf_v C c) 48 (by omega), ?_⟩
            intro y ey
            subst ey
            refine ⟨pk_in (4 * c + cf_v C c) 48 (by omega), ?_⟩
            intro y ey
            subst ey
            refine ⟨pk_in c 12 (by omega), pk_in c 12 (by omega), ?_⟩
            intro y ey
            subst ey
            refine ⟨pk_in c 12 (by omega), ?_⟩
            refine yi_co hn hc (br_f (by decide) (yi_so hs (br_f (by decide) (br_f a1 (br_t a2 ⟨pk_in c 12 (by omega), ?_⟩)))))
            rw [yx_4, nI_clamp (by omega : 4 * c + cf_v C c < 2 ^ 31), ai_up, ai_up]
            (try rw [ai_up])
            refine br_t (nI_lt (b := 4) h (by omega)) ⟨pk_in c 12 (by omega), pk_in (4 * c + cf_v C c) 48 (by omega), ?_⟩
            intro y ey
            subst ey
            refine ⟨pk_in c 12 (by omega), pk_in (4 * c + cf_v C c) 48 (by omega), ?_⟩
            intro y ey
            subst ey
            refine ⟨pk_in c 12 (by omega), pk_in c 12 (by omega), ?_⟩
            intro y ey
            subst ey
            have hV := cf_vi_V hv hc h hs hd1 hd
            refine yw_play (C := cf_vi C c s d) hV ?_
            intro jo' be' go' no' h'
            exact ⟨pk_in c 12 (by omega), rfl, ir_mk (C := cf_vi C c s d) hV (yf_of hV h')⟩
          · refine yi_co hn hc (br_f (by decide) (yi_so hs (br_f (by decide) (br_f a1 (br_t a2 ⟨pk_in c 12 (by omega), ?_⟩)))))
            exact br_f (nI_nlt (b := 4) h (by omega)) ⟨rfl, ir_mk hv hY⟩
        · exact br_f a2 (yi_co hn hc (br_f (by decide) (yi_so hs (br_f (by decide) (br_f a1 (br_f a2 ⟨rfl, ir_mk hv hY⟩))))))
theorem i_vc_drop {k : Nat} {u : SX} {v : SY} (I : i_Rel k u v) (hk : k + 4 ≤ 2048) : wpX_drop (fun r u' => wpY_drop (fun r' v' => r' = r ∧ i_Rel (k + 4) u' v') v) u := by
  refine ir_el (P := fun u v => wpX_drop (fun r u' => wpY_drop (fun r' v' => r' = r ∧ i_Rel (k + 4) u' v') v) u) ?_ I
  intro C f_changes f_engine f_pending f_today f_root f_lastTaken a_joinTime a_beginTime a_leaveTime a_keptTime a_keptJoin a_keptBegin a_changeTime a_changeStation a_changeAt a_changeWaits a_visitOf a_waitingSet a_free a_heap a_dayFirst a_nextInDay a_eventOf a_firstChild a_nextSibling a_pairs a_bucketFirst jo be go no hv hY
  have hn := hv.1
  (try dsimp only)
  unfold wpX_drop wpY_drop
  (try dsimp only)
  by_cases h : cf_n C = 0
  · have e : nI (cf_n C) = 0 := by rw [h]; rfl
    exact br_t e (br_t e ⟨rfl, ir_mk hv hY⟩)
  · have e : ¬ nI (cf_n C) = 0 := nI_ne0 (by omega) (by omega)
    have e1 : nI (cf_n C) - 1 = nI (cf_n C - 1) := pk_sub (b := 1) (by omega)
    refine br_f e ?_
    rw [e1]
    intro y ey
    subst ey
    refine br_f e ?_
    intro y ey
    subst ey
    have hV := cf_dr_V hv
    refine yw_play (C := cf_dr C) hV ?_
    intro jo' be' go' no' h'
    exact ⟨rfl, ir_mk (C := cf_dr C) hV (yf_of hV h')⟩
end
