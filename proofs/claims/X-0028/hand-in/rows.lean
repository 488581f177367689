section
/-! pure rows to paste: stores, nI and lN arithmetic, masks, shifts, narrowing, branches by naturals (pk_le, pk_lt, pk_eq), loops (lp1 .. lp16: the measure of the state; rp1 ..: recursion), negatives. Take what you need -/
theorem pk_us {f : Nat → Int32} {k : Nat} {x : Int32} : upd f k x k = x := if_pos rfl
theorem pk_un {f : Nat → Int32} {k j : Nat} {x : Int32} (h : j ≠ k) : upd f k x j = f j := if_neg h
theorem pk_uLs {f : Nat → Int64} {k : Nat} {x : Int64} : vp_updL f k x k = x := if_pos rfl
theorem pk_uLn {f : Nat → Int64} {k j : Nat} {x : Int64} (h : j ≠ k) : vp_updL f k x j = f j := if_neg h
theorem pk_sub {a b : Nat} (h : b ≤ a) : nI a - nI b = nI (a - b) := by
  obtain ⟨c, rfl⟩ : ∃ c, a = c + b := ⟨a - b, by omega⟩
  rw [← nI_add, Int32.add_sub_cancel, Nat.add_sub_cancel]
theorem pk_m1 (n : Nat) : nI (n + 1) + (-1) = nI n := by
  rw [← nI_1, Int32.add_assoc, show (1 : Int32) + (-1) = 0 from rfl, Int32.add_zero]
theorem pk_mul (a b : Nat) : nI a * nI b = nI (a * b) := (Int32.ofNat_mul a b).symm
theorem pk_div {a d : Nat} (ha : a < 2 ^ 31) (h0 : 0 < d) (hd : d < 2 ^ 31) : nI a / nI d = nI (a / d) := by
  apply Int32.toInt_inj.mp
  rw [lg_idiv_nonneg (by rw [nI_toInt ha]; omega) (by rw [nI_toInt hd]; omega), nI_toInt ha, nI_toInt hd, nI_toInt (Nat.lt_of_le_of_lt (Nat.div_le_self a d) ha)]
  first | rfl | exact (Int.natCast_ediv _ _).symm
theorem pk_rem {a d : Nat} (ha : a < 2 ^ 31) (h0 : 0 < d) (hd : d < 2 ^ 31) : nI a - nI a / nI d * nI d = nI (a % d) := by
  rw [pk_div ha h0 hd, pk_mul, pk_sub (Nat.div_mul_le_self a d)]
  exact congrArg nI (by have := Nat.div_add_mod' a d; omega)
theorem pk_sub_toInt {a b : Nat} (ha : a < 2 ^ 30) (hb : b < 2 ^ 30) : (nI a - nI b).toInt = (a : Int) - b := by
  rw [Int32.toInt_sub, nI_toInt (by omega), nI_toInt (by omega)]
  exact Int.bmod_eq_of_le (by omega) (by omega)
theorem pk_sneg {a b : Nat} (hb : b < 2 ^ 30) (h : a < b) : nI a - nI b < 0 := by
  rw [Int32.lt_iff_toInt_lt, pk_sub_toInt (by omega) hb, show (0 : Int32).toInt = 0 from by decide]
  omega
theorem pk_ix (x : Int32) {n : Nat} (hn : n < 2 ^ 31) : x < 0 ∨ nI n ≤ x ∨ ∃ j : Nat, j < n ∧ x = nI j := by
  by_cases h : x < 0
  · exact Or.inl h
  · obtain ⟨j, hj, rfl⟩ := nI_of h
    by_cases h2 : j < n
    · exact Or.inr (Or.inr ⟨j, h2, rfl⟩)
    · exact Or.inr (Or.inl (nI_le (by omega) hj))
theorem pk_le {x y : Int32} {A B : Prop} (a b : Nat) (f : a ≤ b → A) (g : b < a → B) (hx : x = nI a := by rfl) (hy : y = nI b := by rfl) (ha : a < 2 ^ 31 := by omega) (hb : b < 2 ^ 31 := by omega) : (x ≤ y → A) ∧ (¬ x ≤ y → B) := by
  subst hx hy
  rw [nI_leI ha hb]
  exact ⟨f, fun z => g (by omega)⟩
theorem pk_lt {x y : Int32} {A B : Prop} (a b : Nat) (f : a < b → A) (g : b ≤ a → B) (hx : x = nI a := by rfl) (hy : y = nI b := by rfl) (ha : a < 2 ^ 31 := by omega) (hb : b < 2 ^ 31 := by omega) : (x < y → A) ∧ (¬ x < y → B) := by
  subst hx hy
  rw [nI_ltI ha hb]
  exact ⟨f, fun z => g (by omega)⟩
theorem pk_eq {x y : Int32} {A B : Prop} (a b : Nat) (f : a = b → A) (g : a ≠ b → B) (hx : x = nI a := by rfl) (hy : y = nI b := by rfl) (ha : a < 2 ^ 31 := by omega) (hb : b < 2 ^ 31 := by omega) : (x = y → A) ∧ (¬ x = y → B) := by
  subst hx hy
  rw [nI_eq ha hb]
  exact ⟨f, g⟩
theorem pk_in {x : Int32} (n N : Nat) (h : n < N) (hx : x = nI n := by rfl) (hN : N < 2 ^ 31 := by omega) : vp_in x N := by
  subst hx
  exact vp_in_nI h hN
theorem pk_cl {x : Int32} (n : Nat) (hx : x = nI n := by rfl) (h : n < 2 ^ 31 := by omega) : x.toNatClampNeg = n := by
  subst hx
  exact nI_clamp h
theorem pk_tn {n : Nat} (h : n < 2 ^ 32) : (nI n).toBitVec.toNat = n := Nat.mod_eq_of_lt h
theorem pk_and (x : Int32) {m : Int32} (k : Nat) (hm : m.toBitVec.toNat = 2 ^ k - 1) : x &&& m = nI (x.toBitVec.toNat % 2 ^ k) := by
  apply Int32.toBitVec_inj.mp
  apply BitVec.eq_of_toNat_eq
  rw [Int32.toBitVec_and, BitVec.toNat_and, hm, Nat.and_two_pow_sub_one_eq_mod]
  show _ = (BitVec.ofNat 32 _).toNat
  rw [BitVec.toNat_ofNat]
  exact (Nat.mod_eq_of_lt (Nat.lt_of_le_of_lt (Nat.mod_le _ _) x.toBitVec.isLt)).symm
theorem pk_andN {n : Nat} (h : n < 2 ^ 32) {m : Int32} (k : Nat) (hm : m.toBitVec.toNat = 2 ^ k - 1) : nI n &&& m = nI (n % 2 ^ k) := by
  rw [pk_and _ k hm, pk_tn h]
theorem pk_andE (x : Int32) {m : Int32} (k : Nat) (hm : m.toBitVec.toNat = 2 ^ k - 1) : ∃ j : Nat, j < 2 ^ k ∧ x &&& m = nI j := ⟨_, Nat.mod_lt _ (Nat.two_pow_pos k), pk_and x k hm⟩
theorem pk_andIn (x : Int32) {m : Int32} (k : Nat) (hm : m.toBitVec.toNat = 2 ^ k - 1) (hk : k ≤ 30) : vp_in (x &&& m) (2 ^ k) := by
  obtain ⟨j, hj, e⟩ := pk_andE x k hm
  rw [e]
  exact vp_in_nI hj (Nat.lt_of_le_of_lt (Nat.pow_le_pow_right (by decide) hk) (by decide))
theorem pk_shl (a s : Int32) (k : Nat) (hs : (s.toBitVec.smod 32).toNat = k) : (a <<< s).toBitVec.toNat = a.toBitVec.toNat * 2 ^ k % 2 ^ 32 := by
  show (a.toBitVec <<< (s.toBitVec.smod 32).toNat).toNat = _
  rw [hs, BitVec.toNat_shiftLeft, Nat.shiftLeft_eq]
theorem pk_shlN {n : Nat} (s : Int32) (k : Nat) (hs : (s.toBitVec.smod 32).toNat = k) (h : n * 2 ^ k < 2 ^ 32) : nI n <<< s = nI (n * 2 ^ k) := by
  apply Int32.toBitVec_inj.mp
  apply BitVec.eq_of_toNat_eq
  have hn : n < 2 ^ 32 := Nat.lt_of_le_of_lt (Nat.le_mul_of_pos_right n (Nat.two_pow_pos k)) h
  rw [pk_shl _ _ k hs, pk_tn hn, pk_tn h, Nat.mod_eq_of_lt h]
theorem pk_shr (a s : Int32) (k : Nat) (hs : (s.toBitVec.smod 32).toNat = k) : (a >>> s).toInt = a.toInt >>> k := by
  show (a.toBitVec.sshiftRight (s.toBitVec.smod 32).toNat).toInt = _
  rw [hs, BitVec.toInt_sshiftRight]
  rfl
theorem pk_shrN {n : Nat} (h : n < 2 ^ 31) (s : Int32) (k : Nat) (hs : (s.toBitVec.smod 32).toNat = k) : nI n >>> s = nI (n / 2 ^ k) := by
  apply Int32.toInt_inj.mp
  have h2 : n / 2 ^ k ≤ n := Nat.div_le_self _ _
  rw [pk_shr _ _ k hs, nI_toInt h, nI_toInt (by omega), Int.shiftRight_eq_div_pow]
  rfl
theorem pk_ushr (x s : Int32) (k : Nat) (hs : ((s.toUInt32 &&& Int32.toUInt32 31).toBitVec % 32).toNat = k) : (x.toUInt32 >>> (s.toUInt32 &&& Int32.toUInt32 31)).toInt32.toBitVec.toNat = x.toBitVec.toNat / 2 ^ k := by
  have e : (x.toUInt32 >>> (s.toUInt32 &&& Int32.toUInt32 31)).toInt32.toBitVec = x.toBitVec >>> k := by
    rw [← hs]
    exact UInt32.toBitVec_shiftRight _ _
  rw [e, BitVec.toNat_ushiftRight, Nat.shiftRight_eq_div_pow]
theorem pk_ushrN {n : Nat} (hn : n < 2 ^ 32) (s : Int32) (k : Nat) (hs : ((s.toUInt32 &&& Int32.toUInt32 31).toBitVec % 32).toNat = k) : ((nI n).toUInt32 >>> (s.toUInt32 &&& Int32.toUInt32 31)).toInt32 = nI (n / 2 ^ k) := by
  apply Int32.toBitVec_inj.mp
  apply BitVec.eq_of_toNat_eq
  rw [pk_ushr _ s k hs, pk_tn hn, pk_tn (Nat.lt_of_le_of_lt (Nat.div_le_self _ _) hn)]
theorem pk_nb (z : Int32) : narrow .byte (.int z.toInt8.toInt32) = .int z.toInt8.toInt32 := congrArg Value.int (by simp)
theorem pk_ns (z : Int32) : narrow .short (.int z.toInt16.toInt32) = .int z.toInt16.toInt32 := congrArg Value.int (by simp)
theorem pk_fb (r : Int32) : fits .byte (.int r.toInt8.toInt32) = true := by
  have ⟨a, b⟩ := lg_i2b_range r
  have h1 : (-128 : Int32).toInt = -128 := by decide
  have h2 : (127 : Int32).toInt = 127 := by decide
  simp only [fits, Bool.and_eq_true, decide_eq_true_eq, Int32.le_iff_toInt_le, h1, h2]
  omega
theorem pk_fs (r : Int32) : fits .short (.int r.toInt16.toInt32) = true := by
  have ⟨a, b⟩ := lg_i2s_range r
  have h1 : (-32768 : Int32).toInt = -32768 := by decide
  have h2 : (32767 : Int32).toInt = 32767 := by decide
  simp only [fits, Bool.and_eq_true, decide_eq_true_eq, Int32.le_iff_toInt_le, h1, h2]
  omega
theorem pk_charN {q : Nat} (hq : q < 65536) : narrow .char (.int (nI q)) = .int (nI q) ∧ fits .char (.int (nI q)) = true := by
  constructor
  · have e : (nI q).toUInt32.toUInt16.toUInt32.toInt32 = nI q := by
      apply Int32.toBitVec_inj.mp
      apply BitVec.eq_of_toNat_eq
      show (nI q).toUInt32.toUInt16.toUInt32.toNat = q % 2 ^ 32
      rw [UInt16.toNat_toUInt32, UInt32.toNat_toUInt16, show (nI q).toUInt32.toNat = q % 2 ^ 32 from rfl]
      omega
    exact congrArg Value.int e
  · have a : (0 : Int32) ≤ nI q := nI_pos' (by omega)
    have b : nI q ≤ 65535 := nI_le (b := 65535) (by omega) (by decide)
    show (decide ((0 : Int32) ≤ nI q) && decide (nI q ≤ 65535)) = true
    rw [decide_eq_true a, decide_eq_true b]
    rfl
theorem pk_char (x : Int32) : (x.toUInt32 % 65536).toInt32 = nI (x.toBitVec.toNat % 65536) := by
  apply Int32.toBitVec_inj.mp
  apply BitVec.eq_of_toNat_eq
  rw [pk_tn (by omega)]
  show (x.toUInt32 % 65536).toNat = _
  rw [UInt32.toNat_mod]
  rfl
theorem pk_nc (x : Int32) : narrow .char (.int (x.toUInt32 % 65536).toInt32) = .int (x.toUInt32 % 65536).toInt32 := by
  rw [pk_char]
  exact (pk_charN (Nat.mod_lt _ (by decide))).1
theorem pk_fc (x : Int32) : fits .char (.int (x.toUInt32 % 65536).toInt32) = true := by
  rw [pk_char]
  exact (pk_charN (Nat.mod_lt _ (by decide))).2
theorem pk_vb (z : Int32) : vp_nar .byte z.toInt8.toInt32 = z.toInt8.toInt32 := by rw [vp_nar_byte]; simp
theorem pk_vs (z : Int32) : vp_nar .short z.toInt16.toInt32 = z.toInt16.toInt32 := by rw [vp_nar_short]; simp
theorem pk_vc (z : Int32) : vp_nar .char (z.toUInt32 % 65536).toInt32 = (z.toUInt32 % 65536).toInt32 := Value.int.inj (pk_nc z)
theorem pk_lT {n : Nat} (h : n < 2 ^ 63) : (lN n).toInt = (n : Int) := lg_ofNat_toInt h
theorem pk_lLT {a b : Nat} (ha : a < 2 ^ 63) (hb : b < 2 ^ 63) : lN a < lN b ↔ a < b := by
  rw [Int64.lt_iff_toInt_lt, pk_lT ha, pk_lT hb]; omega
theorem pk_lLE {a b : Nat} (ha : a < 2 ^ 63) (hb : b < 2 ^ 63) : lN a ≤ lN b ↔ a ≤ b := by
  rw [Int64.le_iff_toInt_le, pk_lT ha, pk_lT hb]; omega
theorem pk_lEQ {a b : Nat} (ha : a < 2 ^ 63) (hb : b < 2 ^ 63) : lN a = lN b ↔ a = b := by
  rw [← Int64.toInt_inj, pk_lT ha, pk_lT hb]; omega
theorem pk_lOf {x : Int64} (h : ¬ x < 0) : ∃ k : Nat, k < 2 ^ 63 ∧ x = lN k := by
  rw [Int64.lt_iff_toInt_lt] at h
  have h0 : (0 : Int64).toInt = 0 := by decide
  have hx := Int64.toInt_lt x
  refine ⟨x.toInt.toNat, by omega, Int64.toInt_inj.mp ?_⟩
  rw [pk_lT (by omega)]
  omega
theorem pk_lDiv {a b : Nat} (ha : a < 2 ^ 63) (h0 : 0 < b) (hb : b < 2 ^ 63) : lN a / lN b = lN (a / b) := by
  apply Int64.toInt_inj.mp
  rw [lg_ldiv_nonneg (by rw [pk_lT ha]; omega) (by rw [pk_lT hb]; omega), pk_lT ha, pk_lT hb, pk_lT (Nat.lt_of_le_of_lt (Nat.div_le_self a b) ha)]
  rfl
theorem pk_lRem {a b : Nat} (ha : a < 2 ^ 63) (h0 : 0 < b) (hb : b < 2 ^ 63) : lN a - lN a / lN b * lN b = lN (a % b) := by
  rw [pk_lDiv ha h0 hb, lN_mul, lN_sub (Nat.div_mul_le_self a b)]
  exact congrArg lN (by have := Nat.div_add_mod' a b; omega)
theorem pk_loop {σ : Type} (W : Nat → Nat → σ → Prop) (I : Nat → σ → Prop) (e i0 : Nat) (s : σ) (hi : i0 ≤ e) (h0 : I i0 s) (hx : ∀ n s, I e s → W (n + 1) e s)
    (hs : ∀ n i s, i < e → I i s → (∀ s', I (i + 1) s' → W n (i + 1) s') → W (n + 1) i s) : ∃ n, W n i0 s :=
  ⟨e + 1, loop_i W I e hx hs (e + 1) i0 s hi (by omega) h0⟩
theorem pk_loopD {σ : Type} (W : Nat → Nat → σ → Prop) (I : Nat → σ → Prop) (hx : ∀ n s, I 0 s → W (n + 1) 0 s)
    (hs : ∀ n i s, I (i + 1) s → (∀ s', I i s' → W n i s') → W (n + 1) (i + 1) s) : ∀ (e : Nat) (s : σ), I e s → W (e + 1) e s := by
  intro e
  induction e with
  | zero => exact fun s h => hx 0 s h
  | succ e ih => exact fun s h => hs (e + 1) e s h (fun s' h' => ih s' h')
theorem lp1 {A1 : Type} (W : Nat → A1 → Prop) (I : A1 → Prop) (μ : A1 → Nat) (hs : ∀ (n : Nat) (a1 : A1), I a1 → (∀ (b1 : A1), I b1 → μ b1 < μ a1 → W n b1) → W (n + 1) a1) (a1 : A1) (h : I a1) : ∃ n, W n a1 :=
  loop_m (σ := A1) (fun n s => W n s) (fun s => I s) (fun s => μ s) (fun n s hI hk => hs n s hI (fun b1 h9 hm => hk b1 h9 hm)) a1 h
theorem lp2 {A1 A2 : Type} (W : Nat → A1 → A2 → Prop) (I : A1 → A2 → Prop) (μ : A1 → A2 → Nat) (hs : ∀ (n : Nat) (a1 : A1) (a2 : A2), I a1 a2 → (∀ (b1 : A1) (b2 : A2), I b1 b2 → μ b1 b2 < μ a1 a2 → W n b1 b2) → W (n + 1) a1 a2) (a1 : A1) (a2 : A2) (h : I a1 a2) : ∃ n, W n a1 a2 :=
  loop_m (σ := A1 × A2) (fun n s => W n s.1 s.2) (fun s => I s.1 s.2) (fun s => μ s.1 s.2) (fun n s hI hk => hs n s.1 s.2 hI (fun b1 b2 h9 hm => hk (b1, b2) h9 hm)) (a1, a2) h
theorem lp3 {A1 A2 A3 : Type} (W : Nat → A1 → A2 → A3 → Prop) (I : A1 → A2 → A3 → Prop) (μ : A1 → A2 → A3 → Nat) (hs : ∀ (n : Nat) (a1 : A1) (a2 : A2) (a3 : A3), I a1 a2 a3 → (∀ (b1 : A1) (b2 : A2) (b3 : A3), I b1 b2 b3 → μ b1 b2 b3 < μ a1 a2 a3 → W n b1 b2 b3) → W (n + 1) a1 a2 a3) (a1 : A1) (a2 : A2) (a3 : A3) (h : I a1 a2 a3) : ∃ n, W n a1 a2 a3 :=
  loop_m (σ := A1 × A2 × A3) (fun n s => W n s.1 s.2.1 s.2.2) (fun s => I s.1 s.2.1 s.2.2) (fun s => μ s.1 s.2.1 s.2.2) (fun n s hI hk => hs n s.1 s.2.1 s.2.2 hI (fun b1 b2 b3 h9 hm => hk (b1, b2, b3) h9 hm)) (a1, a2, a3) h
theorem lp4 {A1 A2 A3 A4 : Type} (W : Nat → A1 → A2 → A3 → A4 → Prop) (I : A1 → A2 → A3 → A4 → Prop) (μ : A1 → A2 → A3 → A4 → Nat) (hs : ∀ (n : Nat) (a1 : A1) (a2 : A2) (a3 : A3) (a4 : A4), I a1 a2 a3 a4 → (∀ (b1 : A1) (b2 : A2) (b3 : A3) (b4 : A4), I b1 b2 b3 b4 → μ b1 b2 b3 b4 < μ a1 a2 a3 a4 → W n b1 b2 b3 b4) → W (n + 1) a1 a2 a3 a4) (a1 : A1) (a2 : A2) (a3 : A3) (a4 : A4) (h : I a1 a2 a3 a4) : ∃ n, W n a1 a2 a3 a4 :=
  loop_m (σ := A1 × A2 × A3 × A4) (fun n s => W n s.1 s.2.1 s.2.2.1 s.2.2.2) (fun s => I s.1 s.2.1 s.2.2.1 s.2.2.2) (fun s => μ s.1 s.2.1 s.2.2.1 s.2.2.2) (fun n s hI hk => hs n s.1 s.2.1 s.2.2.1 s.2.2.2 hI (fun b1 b2 b3 b4 h9 hm => hk (b1, b2, b3, b4) h9 hm)) (a1, a2, a3, a4) h
theorem lp5 {A1 A2 A3 A4 A5 : Type} (W : Nat → A1 → A2 → A3 → A4 → A5 → Prop) (I : A1 → A2 → A3 → A4 → A5 → Prop) (μ : A1 → A2 → A3 → A4 → A5 → Nat) (hs : ∀ (n : Nat) (a1 : A1) (a2 : A2) (a3 : A3) (a4 : A4) (a5 : A5), I a1 a2 a3 a4 a5 → (∀ (b1 : A1) (b2 : A2) (b3 : A3) (b4 : A4) (b5 : A5), I b1 b2 b3 b4 b5 → μ b1 b2 b3 b4 b5 < μ a1 a2 a3 a4 a5 → W n b1 b2 b3 b4 b5) → W (n + 1) a1 a2 a3 a4 a5) (a1 : A1) (a2 : A2) (a3 : A3) (a4 : A4) (a5 : A5) (h : I a1 a2 a3 a4 a5) : ∃ n, W n a1 a2 a3 a4 a5 :=
  loop_m (σ := A1 × A2 × A3 × A4 × A5) (fun n s => W n s.1 s.2.1 s.2.2.1 s.2.2.2.1 s.2.2.2.2) (fun s => I s.1 s.2.1 s.2.2.1 s.2.2.2.1 s.2.2.2.2) (fun s => μ s.1 s.2.1 s.2.2.1 s.2.2.2.1 s.2.2.2.2) (fun n s hI hk => hs n s.1 s.2.1 s.2.2.1 s.2.2.2.1 s.2.2.2.2 hI (fun b1 b2 b3 b4 b5 h9 hm => hk (b1, b2, b3, b4, b5) h9 hm)) (a1, a2, a3, a4, a5) h
theorem lp6 {A1 A2 A3 A4 A5 A6 : Type} (W : Nat → A1 → A2 → A3 → A4 → A5 → A6 → Prop) (I : A1 → A2 → A3 → A4 → A5 → A6 → Prop) (μ : A1 → A2 → A3 → A4 → A5 → A6 → Nat) (hs : ∀ (n : Nat) (a1 : A1) (a2 : A2) (a3 : A3) (a4 : A4) (a5 : A5) (a6 : A6), I a1 a2 a3 a4 a5 a6 → (∀ (b1 : A1) (b2 : A2) (b3 : A3) (b4 : A4) (b5 : A5) (b6 : A6), I b1 b2 b3 b4 b5 b6 → μ b1 b2 b3 b4 b5 b6 < μ a1 a2 a3 a4 a5 a6 → W n b1 b2 b3 b4 b5 b6) → W (n + 1) a1 a2 a3 a4 a5 a6) (a1 : A1) (a2 : A2) (a3 : A3) (a4 : A4) (a5 : A5) (a6 : A6) (h : I a1 a2 a3 a4 a5 a6) : ∃ n, W n a1 a2 a3 a4 a5 a6 :=
  loop_m (σ := A1 × A2 × A3 × A4 × A5 × A6) (fun n s => W n s.1 s.2.1 s.2.2.1 s.2.2.2.1 s.2.2.2.2.1 s.2.2.2.2.2) (fun s => I s.1 s.2.1 s.2.2.1 s.2.2.2.1 s.2.2.2.2.1 s.2.2.2.2.2) (fun s => μ s.1 s.2.1 s.2.2.1 s.2.2.2.1 s.2.2.2.2.1 s.2.2.2.2.2) (fun n s hI hk => hs n s.1 s.2.1 s.2.2.1 s.2.2.2.1 s.2.2.2.2.1 s.2.2.2.2.2 hI (fun b1 b2 b3 b4 b5 b6 h9 hm => hk (b1, b2, b3, b4, b5, b6) h9 hm)) (a1, a2, a3, a4, a5, a6) h
theorem lp7 {A1 A2 A3 A4 A5 A6 A7 : Type} (W : Nat → A1 → A2 → A3 → A4 → A5 → A6 → A7 → Prop) (I : A1 → A2 → A3 → A4 → A5 → A6 → A7 → Prop) (μ : A1 → A2 → A3 → A4 → A5 → A6 → A7 → Nat) (hs : ∀ (n : Nat) (a1 : A1) (a2 : A2) (a3 : A3) (a4 : A4) (a5 : A5) (a6 : A6) (a7 : A7), I a1 a2 a3 a4 a5 a6 a7 → (∀ (b1 : A1) (b2 : A2) (b3 : A3) (b4 : A4) (b5 : A5) (b6 : A6) (b7 : A7), I b1 b2 b3 b4 b5 b6 b7 → μ b1 b2 b3 b4 b5 b6 b7 < μ a1 a2 a3 a4 a5 a6 a7 → W n b1 b2 b3 b4 b5 b6 b7) → W (n + 1) a1 a2 a3 a4 a5 a6 a7) (a1 : A1) (a2 : A2) (a3 : A3) (a4 : A4) (a5 : A5) (a6 : A6) (a7 : A7) (h : I a1 a2 a3 a4 a5 a6 a7) : ∃ n, W n a1 a2 a3 a4 a5 a6 a7 :=
  loop_m (σ := A1 × A2 × A3 × A4 × A5 × A6 × A7) (fun n s => W n s.1 s.2.1 s.2.2.1 s.2.2.2.1 s.2.2.2.2.1 s.2.2.2.2.2.1 s.2.2.2.2.2.2) (fun s => I s.1 s.2.1 s.2.2.1 s.2.2.2.1 s.2.2.2.2.1 s.2.2.2.2.2.1 s.2.2.2.2.2.2) (fun s => μ s.1 s.2.1 s.2.2.1 s.2.2.2.1 s.2.2.2.2.1 s.2.2.2.2.2.1 s.2.2.2.2.2.2) (fun n s hI hk => hs n s.1 s.2.1 s.2.2.1 s.2.2.2.1 s.2.2.2.2.1 s.2.2.2.2.2.1 s.2.2.2.2.2.2 hI (fun b1 b2 b3 b4 b5 b6 b7 h9 hm => hk (b1, b2, b3, b4, b5, b6, b7) h9 hm)) (a1, a2, a3, a4, a5, a6, a7) h
theorem lp8 {A1 A2 A3 A4 A5 A6 A7 A8 : Type} (W : Nat → A1 → A2 → A3 → A4 → A5 → A6 → A7 → A8 → Prop) (I : A1 → A2 → A3 → A4 → A5 → A6 → A7 → A8 → Prop) (μ : A1 → A2 → A3 → A4 → A5 → A6 → A7 → A8 → Nat) (hs : ∀ (n : Nat) (a1 : A1) (a2 : A2) (a3 : A3) (a4 : A4) (a5 : A5) (a6 : A6) (a7 : A7) (a8 : A8), I a1 a2 a3 a4 a5 a6 a7 a8 → (∀ (b1 : A1) (b2 : A2) (b3 : A3) (b4 : A4) (b5 : A5) (b6 : A6) (b7 : A7) (b8 : A8), I b1 b2 b3 b4 b5 b6 b7 b8 → μ b1 b2 b3 b4 b5 b6 b7 b8 < μ a1 a2 a3 a4 a5 a6 a7 a8 → W n b1 b2 b3 b4 b5 b6 b7 b8) → W (n + 1) a1 a2 a3 a4 a5 a6 a7 a8) (a1 : A1) (a2 : A2) (a3 : A3) (a4 : A4) (a5 : A5) (a6 : A6) (a7 : A7) (a8 : A8) (h : I a1 a2 a3 a4 a5 a6 a7 a8) : ∃ n, W n a1 a2 a3 a4 a5 a6 a7 a8 :=
  loop_m (σ := A1 × A2 × A3 × A4 × A5 × A6 × A7 × A8) (fun n s => W n s.1 s.2.1 s.2.2.1 s.2.2.2.1 s.2.2.2.2.1 s.2.2.2.2.2.1 s.2.2.2.2.2.2.1 s.2.2.2.2.2.2.2) (fun s => I s.1 s.2.1 s.2.2.1 s.2.2.2.1 s.2.2.2.2.1 s.2.2.2.2.2.1 s.2.2.2.2.2.2.1 s.2.2.2.2.2.2.2) (fun s => μ s.1 s.2.1 s.2.2.1 s.2.2.2.1 s.2.2.2.2.1 s.2.2.2.2.2.1 s.2.2.2.2.2.2.1 s.2.2.2.2.2.2.2) (fun n s hI hk => hs n s.1 s.2.1 s.2.2.1 s.2.2.2.1 s.2.2.2.2.1 s.2.2.2.2.2.1 s.2.2.2.2.2.2.1 s.2.2.2.2.2.2.2 hI (fun b1 b2 b3 b4 b5 b6 b7 b8 h9 hm => hk (b1, b2, b3, b4, b5, b6, b7, b8) h9 hm)) (a1, a2, a3, a4, a5, a6, a7, a8) h
theorem lp9 {A1 A2 A3 A4 A5 A6 A7 A8 A9 : Type} (W : Nat → A1 → A2 → A3 → A4 → A5 → A6 → A7 → A8 → A9 → Prop) (I : A1 → A2 → A3 → A4 → A5 → A6 → A7 → A8 → A9 → Prop) (μ : A1 → A2 → A3 → A4 → A5 → A6 → A7 → A8 → A9 → Nat) (hs : ∀ (n : Nat) (a1 : A1) (a2 : A2) (a3 : A3) (a4 : A4) (a5 : A5) (a6 : A6) (a7 : A7) (a8 : A8) (a9 : A9), I a1 a2 a3 a4 a5 a6 a7 a8 a9 → (∀ (b1 : A1) (b2 : A2) (b3 : A3) (b4 : A4) (b5 : A5) (b6 : A6) (b7 : A7) (b8 : A8) (b9 : A9), I b1 b2 b3 b4 b5 b6 b7 b8 b9 → μ b1 b2 b3 b4 b5 b6 b7 b8 b9 < μ a1 a2 a3 a4 a5 a6 a7 a8 a9 → W n b1 b2 b3 b4 b5 b6 b7 b8 b9) → W (n + 1) a1 a2 a3 a4 a5 a6 a7 a8 a9) (a1 : A1) (a2 : A2) (a3 : A3) (a4 : A4) (a5 : A5) (a6 : A6) (a7 : A7) (a8 : A8) (a9 : A9) (h : I a1 a2 a3 a4 a5 a6 a7 a8 a9) : ∃ n, W n a1 a2 a3 a4 a5 a6 a7 a8 a9 :=
  loop_m (σ := A1 × A2 × A3 × A4 × A5 × A6 × A7 × A8 × A9) (fun n s => W n s.1 s.2.1 s.2.2.1 s.2.2.2.1 s.2.2.2.2.1 s.2.2.2.2.2.1 s.2.2.2.2.2.2.1 s.2.2.2.2.2.2.2.1 s.2.2.2.2.2.2.2.2) (fun s => I s.1 s.2.1 s.2.2.1 s.2.2.2.1 s.2.2.2.2.1 s.2.2.2.2.2.1 s.2.2.2.2.2.2.1 s.2.2.2.2.2.2.2.1 s.2.2.2.2.2.2.2.2) (fun s => μ s.1 s.2.1 s.2.2.1 s.2.2.2.1 s.2.2.2.2.1 s.2.2.2.2.2.1 s.2.2.2.2.2.2.1 s.2.2.2.2.2.2.2.1 s.2.2.2.2.2.2.2.2) (fun n s hI hk => hs n s.1 s.2.1 s.2.2.1 s.2.2.2.1 s.2.2.2.2.1 s.2.2.2.2.2.1 s.2.2.2.2.2.2.1 s.2.2.2.2.2.2.2.1 s.2.2.2.2.2.2.2.2 hI (fun b1 b2 b3 b4 b5 b6 b7 b8 b9 h9 hm => hk (b1, b2, b3, b4, b5, b6, b7, b8, b9) h9 hm)) (a1, a2, a3, a4, a5, a6, a7, a8, a9) h
theorem lp10 {A1 A2 A3 A4 A5 A6 A7 A8 A9 A10 : Type} (W : Nat → A1 → A2 → A3 → A4 → A5 → A6 → A7 → A8 → A9 → A10 → Prop) (I : A1 → A2 → A3 → A4 → A5 → A6 → A7 → A8 → A9 → A10 → Prop) (μ : A1 → A2 → A3 → A4 → A5 → A6 → A7 → A8 → A9 → A10 → Nat) (hs : ∀ (n : Nat) (a1 : A1) (a2 : A2) (a3 : A3) (a4 : A4) (a5 : A5) (a6 : A6) (a7 : A7) (a8 : A8) (a9 : A9) (a10 : A10), I a1 a2 a3 a4 a5 a6 a7 a8 a9 a10 → (∀ (b1 : A1) (b2 : A2) (b3 : A3) (b4 : A4) (b5 : A5) (b6 : A6) (b7 : A7) (b8 : A8) (b9 : A9) (b10 : A10), I b1 b2 b3 b4 b5 b6 b7 b8 b9 b10 → μ b1 b2 b3 b4 b5 b6 b7 b8 b9 b10 < μ a1 a2 a3 a4 a5 a6 a7 a8 a9 a10 → W n b1 b2 b3 b4 b5 b6 b7 b8 b9 b10) → W (n + 1) a1 a2 a3 a4 a5 a6 a7 a8 a9 a10) (a1 : A1) (a2 : A2) (a3 : A3) (a4 : A4) (a5 : A5) (a6 : A6) (a7 : A7) (a8 : A8) (a9 : A9) (a10 : A10) (h : I a1 a2 a3 a4 a5 a6 a7 a8 a9 a10) : ∃ n, W n a1 a2 a3 a4 a5 a6 a7 a8 a9 a10 :=
  loop_m (σ := A1 × A2 × A3 × A4 × A5 × A6 × A7 × A8 × A9 × A10) (fun n s => W n s.1 s.2.1 s.2.2.1 s.2.2.2.1 s.2.2.2.2.1 s.2.2.2.2.2.1 s.2.2.2.2.2.2.1 s.2.2.2.2.2.2.2.1 s.2.2.2.2.2.2.2.2.1 s.2.2.2.2.2.2.2.2.2) (fun s => I s.1 s.2.1 s.2.2.1 s.2.2.2.1 s.2.2.2.2.1 s.2.2.2.2.2.1 s.2.2.2.2.2.2.1 s.2.2.2.2.2.2.2.1 s.2.2.2.2.2.2.2.2.1 s.2.2.2.2.2.2.2.2.2) (fun s => μ s.1 s.2.1 s.2.2.1 s.2.2.2.1 s.2.2.2.2.1 s.2.2.2.2.2.1 s.2.2.2.2.2.2.1 s.2.2.2.2.2.2.2.1 s.2.2.2.2.2.2.2.2.1 s.2.2.2.2.2.2.2.2.2) (fun n s hI hk => hs n s.1 s.2.1 s.2.2.1 s.2.2.2.1 s.2.2.2.2.1 s.2.2.2.2.2.1 s.2.2.2.2.2.2.1 s.2.2.2.2.2.2.2.1 s.2.2.2.2.2.2.2.2.1 s.2.2.2.2.2.2.2.2.2 hI (fun b1 b2 b3 b4 b5 b6 b7 b8 b9 b10 h9 hm => hk (b1, b2, b3, b4, b5, b6, b7, b8, b9, b10) h9 hm)) (a1, a2, a3, a4, a5, a6, a7, a8, a9, a10) h
theorem lp11 {A1 A2 A3 A4 A5 A6 A7 A8 A9 A10 A11 : Type} (W : Nat → A1 → A2 → A3 → A4 → A5 → A6 → A7 → A8 → A9 → A10 → A11 → Prop) (I : A1 → A2 → A3 → A4 → A5 → A6 → A7 → A8 → A9 → A10 → A11 → Prop) (μ : A1 → A2 → A3 → A4 → A5 → A6 → A7 → A8 → A9 → A10 → A11 → Nat) (hs : ∀ (n : Nat) (a1 : A1) (a2 : A2) (a3 : A3) (a4 : A4) (a5 : A5) (a6 : A6) (a7 : A7) (a8 : A8) (a9 : A9) (a10 : A10) (a11 : A11), I a1 a2 a3 a4 a5 a6 a7 a8 a9 a10 a11 → (∀ (b1 : A1) (b2 : A2) (b3 : A3) (b4 : A4) (b5 : A5) (b6 : A6) (b7 : A7) (b8 : A8) (b9 : A9) (b10 : A10) (b11 : A11), I b1 b2 b3 b4 b5 b6 b7 b8 b9 b10 b11 → μ b1 b2 b3 b4 b5 b6 b7 b8 b9 b10 b11 < μ a1 a2 a3 a4 a5 a6 a7 a8 a9 a10 a11 → W n b1 b2 b3 b4 b5 b6 b7 b8 b9 b10 b11) → W (n + 1) a1 a2 a3 a4 a5 a6 a7 a8 a9 a10 a11) (a1 : A1) (a2 : A2) (a3 : A3) (a4 : A4) (a5 : A5) (a6 : A6) (a7 : A7) (a8 : A8) (a9 : A9) (a10 : A10) (a11 : A11) (h : I a1 a2 a3 a4 a5 a6 a7 a8 a9 a10 a11) : ∃ n, W n a1 a2 a3 a4 a5 a6 a7 a8 a9 a10 a11 :=
  loop_m (σ := A1 × A2 × A3 × A4 × A5 × A6 × A7 × A8 × A9 × A10 × A11) (fun n s => W n s.1 s.2.1 s.2.2.1 s.2.2.2.1 s.2.2.2.2.1 s.2.2.2.2.2.1 s.2.2.2.2.2.2.1 s.2.2.2.2.2.2.2.1 s.2.2.2.2.2.2.2.2.1 s.2.2.2.2.2.2.2.2.2.1 s.2.2.2.2.2.2.2.2.2.2) (fun s => I s.1 s.2.1 s.2.2.1 s.2.2.2.1 s.2.2.2.2.1 s.2.2.2.2.2.1 s.2.2.2.2.2.2.1 s.2.2.2.2.2.2.2.1 s.2.2.2.2.2.2.2.2.1 s.2.2.2.2.2.2.2.2.2.1 s.2.2.2.2.2.2.2.2.2.2) (fun s => μ s.1 s.2.1 s.2.2.1 s.2.2.2.1 s.2.2.2.2.1 s.2.2.2.2.2.1 s.2.2.2.2.2.2.1 s.2.2.2.2.2.2.2.1 s.2.2.2.2.2.2.2.2.1 s.2.2.2.2.2.2.2.2.2.1 s.2.2.2.2.2.2.2.2.2.2) (fun n s hI hk => hs n s.1 s.2.1 s.2.2.1 s.2.2.2.1 s.2.2.2.2.1 s.2.2.2.2.2.1 s.2.2.2.2.2.2.1 s.2.2.2.2.2.2.2.1 s.2.2.2.2.2.2.2.2.1 s.2.2.2.2.2.2.2.2.2.1 s.2.2.2.2.2.2.2.2.2.2 hI (fun b1 b2 b3 b4 b5 b6 b7 b8 b9 b10 b11 h9 hm => hk (b1, b2, b3, b4, b5, b6, b7, b8, b9, b10, b11) h9 hm)) (a1, a2, a3, a4, a5, a6, a7, a8, a9, a10, a11) h
theorem lp12 {A1 A2 A3 A4 A5 A6 A7 A8 A9 A10 A11 A12 : Type} (W : Nat → A1 → A2 → A3 → A4 → A5 → A6 → A7 → A8 → A9 → A10 → A11 → A12 → Prop) (I : A1 → A2 → A3 → A4 → A5 → A6 → A7 → A8 → A9 → A10 → A11 → A12 → Prop) (μ : A1 → A2 → A3 → A4 → A5 → A6 → A7 → A8 → A9 → A10 → A11 → A12 → Nat) (hs : ∀ (n : Nat) (a1 : A1) (a2 : A2) (a3 : A3) (a4 : A4) (a5 : A5) (a6 : A6) (a7 : A7) (a8 : A8) (a9 : A9) (a10 : A10) (a11 : A11) (a12 : A12), I a1 a2 a3 a4 a5 a6 a7 a8 a9 a10 a11 a12 → (∀ (b1 : A1) (b2 : A2) (b3 : A3) (b4 : A4) (b5 : A5) (b6 : A6) (b7 : A7) (b8 : A8) (b9 : A9) (b10 : A10) (b11 : A11) (b12 : A12), I b1 b2 b3 b4 b5 b6 b7 b8 b9 b10 b11 b12 → μ b1 b2 b3 b4 b5 b6 b7 b8 b9 b10 b11 b12 < μ a1 a2 a3 a4 a5 a6 a7 a8 a9 a10 a11 a12 → W n b1 b2 b3 b4 b5 b6 b7 b8 b9 b10 b11 b12) → W (n + 1) a1 a2 a3 a4 a5 a6 a7 a8 a9 a10 a11 a12) (a1 : A1) (a2 : A2) (a3 : A3) (a4 : A4) (a5 : A5) (a6 : A6) (a7 : A7) (a8 : A8) (a9 : A9) (a10 : A10) (a11 : A11) (a12 : A12) (h : I a1 a2 a3 a4 a5 a6 a7 a8 a9 a10 a11 a12) : ∃ n, W n a1 a2 a3 a4 a5 a6 a7 a8 a9 a10 a11 a12 :=
  loop_m (σ := A1 × A2 × A3 × A4 × A5 × A6 × A7 × A8 × A9 × A10 × A11 × A12) (fun n s => W n s.1 s.2.1 s.2.2.1 s.2.2.2.1 s.2.2.2.2.1 s.2.2.2.2.2.1 s.2.2.2.2.2.2.1 s.2.2.2.2.2.2.2.1 s.2.2.2.2.2.2.2.2.1 s.2.2.2.2.2.2.2.2.2.1 s.2.2.2.2.2.2.2.2.2.2.1 s.2.2.2.2.2.2.2.2.2.2.2) (fun s => I s.1 s.2.1 s.2.2.1 s.2.2.2.1 s.2.2.2.2.1 s.2.2.2.2.2.1 s.2.2.2.2.2.2.1 s.2.2.2.2.2.2.2.1 s.2.2.2.2.2.2.2.2.1 s.2.2.2.2.2.2.2.2.2.1 s.2.2.2.2.2.2.2.2.2.2.1 s.2.2.2.2.2.2.2.2.2.2.2) (fun s => μ s.1 s.2.1 s.2.2.1 s.2.2.2.1 s.2.2.2.2.1 s.2.2.2.2.2.1 s.2.2.2.2.2.2.1 s.2.2.2.2.2.2.2.1 s.2.2.2.2.2.2.2.2.1 s.2.2.2.2.2.2.2.2.2.1 s.2.2.2.2.2.2.2.2.2.2.1 s.2.2.2.2.2.2.2.2.2.2.2) (fun n s hI hk => hs n s.1 s.2.1 s.2.2.1 s.2.2.2.1 s.2.2.2.2.1 s.2.2.2.2.2.1 s.2.2.2.2.2.2.1 s.2.2.2.2.2.2.2.1 s.2.2.2.2.2.2.2.2.1 s.2.2.2.2.2.2.2.2.2.1 s.2.2.2.2.2.2.2.2.2.2.1 s.2.2.2.2.2.2.2.2.2.2.2 hI (fun b1 b2 b3 b4 b5 b6 b7 b8 b9 b10 b11 b12 h9 hm => hk (b1, b2, b3, b4, b5, b6, b7, b8, b9, b10, b11, b12) h9 hm)) (a1, a2, a3, a4, a5, a6, a7, a8, a9, a10, a11, a12) h
theorem lp13 {A1 A2 A3 A4 A5 A6 A7 A8 A9 A10 A11 A12 A13 : Type} (W : Nat → A1 → A2 → A3 → A4 → A5 → A6 → A7 → A8 → A9 → A10 → A11 → A12 → A13 → Prop) (I : A1 → A2 → A3 → A4 → A5 → A6 → A7 → A8 → A9 → A10 → A11 → A12 → A13 → Prop) (μ : A1 → A2 → A3 → A4 → A5 → A6 → A7 → A8 → A9 → A10 → A11 → A12 → A13 → Nat) (hs : ∀ (n : Nat) (a1 : A1) (a2 : A2) (a3 : A3) (a4 : A4) (a5 : A5) (a6 : A6) (a7 : A7) (a8 : A8) (a9 : A9) (a10 : A10) (a11 : A11) (a12 : A12) (a13 : A13), I a1 a2 a3 a4 a5 a6 a7 a8 a9 a10 a11 a12 a13 → (∀ (b1 : A1) (b2 : A2) (b3 : A3) (b4 : A4) (b5 : A5) (b6 : A6) (b7 : A7) (b8 : A8) (b9 : A9) (b10 : A10) (b11 : A11) (b12 : A12) (b13 : A13), I b1 b2 b3 b4 b5 b6 b7 b8 b9 b10 b11 b12 b13 → μ b1 b2 b3 b4 b5 b6 b7 b8 b9 b10 b11 b12 b13 < μ a1 a2 a3 a4 a5 a6 a7 a8 a9 a10 a11 a12 a13 → W n b1 b2 b3 b4 b5 b6 b7 b8 b9 b10 b11 b12 b13) → W (n + 1) a1 a2 a3 a4 a5 a6 a7 a8 a9 a10 a11 a12 a13) (a1 : A1) (a2 : A2) (a3 : A3) (a4 : A4) (a5 : A5) (a6 : A6) (a7 : A7) (a8 : A8) (a9 : A9) (a10 : A10) (a11 : A11) (a12 : A12) (a13 : A13) (h : I a1 a2 a3 a4 a5 a6 a7 a8 a9 a10 a11 a12 a13) : ∃ n, W n a1 a2 a3 a4 a5 a6 a7 a8 a9 a10 a11 a12 a13 :=
  loop_m (σ := A1 × A2 × A3 × A4 × A5 × A6 × A7 × A8 × A9 × A10 × A11 × A12 × A13) (fun n s => W n s.1 s.2.1 s.2.2.1 s.2.2.2.1 s.2.2.2.2.1 s.2.2.2.2.2.1 s.2.2.2.2.2.2.1 s.2.2.2.2.2.2.2.1 s.2.2.2.2.2.2.2.2.1 s.2.2.2.2.2.2.2.2.2.1 s.2.2.2.2.2.2.2.2.2.2.1 s.2.2.2.2.2.2.2.2.2.2.2.1 s.2.2.2.2.2.2.2.2.2.2.2.2) (fun s => I s.1 s.2.1 s.2.2.1 s.2.2.2.1 s.2.2.2.2.1 s.2.2.2.2.2.1 s.2.2.2.2.2.2.1 s.2.2.2.2.2.2.2.1 s.2.2.2.2.2.2.2.2.1 s.2.2.2.2.2.2.2.2.2.1 s.2.2.2.2.2.2.2.2.2.2.1 s.2.2.2.2.2.2.2.2.2.2.2.1 s.2.2.2.2.2.2.2.2.2.2.2.2) (fun s => μ s.1 s.2.1 s.2.2.1 s.2.2.2.1 s.2.2.2.2.1 s.2.2.2.2.2.1 s.2.2.2.2.2.2.1 s.2.2.2.2.2.2.2.1 s.2.2.2.2.2.2.2.2.1 s.2.2.2.2.2.2.2.2.2.1 s.2.2.2.2.2.2.2.2.2.2.1 s.2.2.2.2.2.2.2.2.2.2.2.1 s.2.2.2.2.2.2.2.2.2.2.2.2) (fun n s hI hk => hs n s.1 s.2.1 s.2.2.1 s.2.2.2.1 s.2.2.2.2.1 s.2.2.2.2.2.1 s.2.2.2.2.2.2.1 s.2.2.2.2.2.2.2.1 s.2.2.2.2.2.2.2.2.1 s.2.2.2.2.2.2.2.2.2.1 s.2.2.2.2.2.2.2.2.2.2.1 s.2.2.2.2.2.2.2.2.2.2.2.1 s.2.2.2.2.2.2.2.2.2.2.2.2 hI (fun b1 b2 b3 b4 b5 b6 b7 b8 b9 b10 b11 b12 b13 h9 hm => hk (b1, b2, b3, b4, b5, b6, b7, b8, b9, b10, b11, b12, b13) h9 hm)) (a1, a2, a3, a4, a5, a6, a7, a8, a9, a10, a11, a12, a13) h
theorem lp14 {A1 A2 A3 A4 A5 A6 A7 A8 A9 A10 A11 A12 A13 A14 : Type} (W : Nat → A1 → A2 → A3 → A4 → A5 → A6 → A7 → A8 → A9 → A10 → A11 → A12 → A13 → A14 → Prop) (I : A1 → A2 → A3 → A4 → A5 → A6 → A7 → A8 → A9 → A10 → A11 → A12 → A13 → A14 → Prop) (μ : A1 → A2 → A3 → A4 → A5 → A6 → A7 → A8 → A9 → A10 → A11 → A12 → A13 → A14 → Nat) (hs : ∀ (n : Nat) (a1 : A1) (a2 : A2) (a3 : A3) (a4 : A4) (a5 : A5) (a6 : A6) (a7 : A7) (a8 : A8) (a9 : A9) (a10 : A10) (a11 : A11) (a12 : A12) (a13 : A13) (a14 : A14), I a1 a2 a3 a4 a5 a6 a7 a8 a9 a10 a11 a12 a13 a14 → (∀ (b1 : A1) (b2 : A2) (b3 : A3) (b4 : A4) (b5 : A5) (b6 : A6) (b7 : A7) (b8 : A8) (b9 : A9) (b10 : A10) (b11 : A11) (b12 : A12) (b13 : A13) (b14 : A14), I b1 b2 b3 b4 b5 b6 b7 b8 b9 b10 b11 b12 b13 b14 → μ b1 b2 b3 b4 b5 b6 b7 b8 b9 b10 b11 b12 b13 b14 < μ a1 a2 a3 a4 a5 a6 a7 a8 a9 a10 a11 a12 a13 a14 → W n b1 b2 b3 b4 b5 b6 b7 b8 b9 b10 b11 b12 b13 b14) → W (n + 1) a1 a2 a3 a4 a5 a6 a7 a8 a9 a10 a11 a12 a13 a14) (a1 : A1) (a2 : A2) (a3 : A3) (a4 : A4) (a5 : A5) (a6 : A6) (a7 : A7) (a8 : A8) (a9 : A9) (a10 : A10) (a11 : A11) (a12 : A12) (a13 : A13) (a14 : A14) (h : I a1 a2 a3 a4 a5 a6 a7 a8 a9 a10 a11 a12 a13 a14) : ∃ n, W n a1 a2 a3 a4 a5 a6 a7 a8 a9 a10 a11 a12 a13 a14 :=
  loop_m (σ := A1 × A2 × A3 × A4 × A5 × A6 × A7 × A8 × A9 × A10 × A11 × A12 × A13 × A14) (fun n s => W n s.1 s.2.1 s.2.2.1 s.2.2.2.1 s.2.2.2.2.1 s.2.2.2.2.2.1 s.2.2.2.2.2.2.1 s.2.2.2.2.2.2.2.1 s.2.2.2.2.2.2.2.2.1 s.2.2.2.2.2.2.2.2.2.1 s.2.2.2.2.2.2.2.2.2.2.1 s.2.2.2.2.2.2.2.2.2.2.2.1 s.2.2.2.2.2.2.2.2.2.2.2.2.1 s.2.2.2.2.2.2.2.2.2.2.2.2.2) (fun s => I s.1 s.2.1 s.2.2.1 s.2.2.2.1 s.2.2.2.2.1 s.2.2.2.2.2.1 s.2.2.2.2.2.2.1 s.2.2.2.2.2.2.2.1 s.2.2.2.2.2.2.2.2.1 s.2.2.2.2.2.2.2.2.2.1 s.2.2.2.2.2.2.2.2.2.2.1 s.2.2.2.2.2.2.2.2.2.2.2.1 s.2.2.2.2.2.2.2.2.2.2.2.2.1 s.2.2.2.2.2.2.2.2.2.2.2.2.2) (fun s => μ s.1 s.2.1 s.2.2.1 s.2.2.2.1 s.2.2.2.2.1 s.2.2.2.2.2.1 s.2.2.2.2.2.2.1 s.2.2.2.2.2.2.2.1 s.2.2.2.2.2.2.2.2.1 s.2.2.2.2.2.2.2.2.2.1 s.2.2.2.2.2.2.2.2.2.2.1 s.2.2.2.2.2.2.2.2.2.2.2.1 s.2.2.2.2.2.2.2.2.2.2.2.2.1 s.2.2.2.2.2.2.2.2.2.2.2.2.2) (fun n s hI hk => hs n s.1 s.2.1 s.2.2.1 s.2.2.2.1 s.2.2.2.2.1 s.2.2.2.2.2.1 s.2.2.2.2.2.2.1 s.2.2.2.2.2.2.2.1 s.2.2.2.2.2.2.2.2.1 s.2.2.2.2.2.2.2.2.2.1 s.2.2.2.2.2.2.2.2.2.2.1 s.2.2.2.2.2.2.2.2.2.2.2.1 s.2.2.2.2.2.2.2.2.2.2.2.2.1 s.2.2.2.2.2.2.2.2.2.2.2.2.2 hI (fun b1 b2 b3 b4 b5 b6 b7 b8 b9 b10 b11 b12 b13 b14 h9 hm => hk (b1, b2, b3, b4, b5, b6, b7, b8, b9, b10, b11, b12, b13, b14) h9 hm)) (a1, a2, a3, a4, a5, a6, a7, a8, a9, a10, a11, a12, a13, a14) h
theorem lp15 {A1 A2 A3 A4 A5 A6 A7 A8 A9 A10 A11 A12 A13 A14 A15 : Type} (W : Nat → A1 → A2 → A3 → A4 → A5 → A6 → A7 → A8 → A9 → A10 → A11 → A12 → A13 → A14 → A15 → Prop) (I : A1 → A2 → A3 → A4 → A5 → A6 → A7 → A8 → A9 → A10 → A11 → A12 → A13 → A14 → A15 → Prop) (μ : A1 → A2 → A3 → A4 → A5 → A6 → A7 → A8 → A9 → A10 → A11 → A12 → A13 → A14 → A15 → Nat) (hs : ∀ (n : Nat) (a1 : A1) (a2 : A2) (a3 : A3) (a4 : A4) (a5 : A5) (a6 : A6) (a7 : A7) (a8 : A8) (a9 : A9) (a10 : A10) (a11 : A11) (a12 : A12) (a13 : A13) (a14 : A14) (a15 : A15), I a1 a2 a3 a4 a5 a6 a7 a8 a9 a10 a11 a12 a13 a14 a15 → (∀ (b1 : A1) (b2 : A2) (b3 : A3) (b4 : A4) (b5 : A5) (b6 : A6) (b7 : A7) (b8 : A8) (b9 : A9) (b10 : A10) (b11 : A11) (b12 : A12) (b13 : A13) (b14 : A14) (b15 : A15), I b1 b2 b3 b4 b5 b6 b7 b8 b9 b10 b11 b12 b13 b14 b15 → μ b1 b2 b3 b4 b5 b6 b7 b8 b9 b10 b11 b12 b13 b14 b15 < μ a1 a2 a3 a4 a5 a6 a7 a8 a9 a10 a11 a12 a13 a14 a15 → W n b1 b2 b3 b4 b5 b6 b7 b8 b9 b10 b11 b12 b13 b14 b15) → W (n + 1) a1 a2 a3 a4 a5 a6 a7 a8 a9 a10 a11 a12 a13 a14 a15) (a1 : A1) (a2 : A2) (a3 : A3) (a4 : A4) (a5 : A5) (a6 : A6) (a7 : A7) (a8 : A8) (a9 : A9) (a10 : A10) (a11 : A11) (a12 : A12) (a13 : A13) (a14 : A14) (a15 : A15) (h : I a1 a2 a3 a4 a5 a6 a7 a8 a9 a10 a11 a12 a13 a14 a15) : ∃ n, W n a1 a2 a3 a4 a5 a6 a7 a8 a9 a10 a11 a12 a13 a14 a15 :=
  loop_m (σ := A1 × A2 × A3 × A4 × A5 × A6 × A7 × A8 × A9 × A10 × A11 × A12 × A13 × A14 × A15) (fun n s => W n s.1 s.2.1 s.2.2.1 s.2.2.2.1 s.2.2.2.2.1 s.2.2.2.2.2.1 s.2.2.2.2.2.2.1 s.2.2.2.2.2.2.2.1 s.2.2.2.2.2.2.2.2.1 s.2.2.2.2.2.2.2.2.2.1 s.2.2.2.2.2.2.2.2.2.2.1 s.2.2.2.2.2.2.2.2.2.2.2.1 s.2.2.2.2.2.2.2.2.2.2.2.2.1 s.2.2.2.2.2.2.2.2.2.2.2.2.2.1 s.2.2.2.2.2.2.2.2.2.2.2.2.2.2) (fun s => I s.1 s.2.1 s.2.2.1 s.2.2.2.1 s.2.2.2.2.1 s.2.2.2.2.2.1 s.2.2.2.2.2.2.1 s.2.2.2.2.2.2.2.1 s.2.2.2.2.2.2.2.2.1 s.2.2.2.2.2.2.2.2.2.1 s.2.2.2.2.2.2.2.2.2.2.1 s.2.2.2.2.2.2.2.2.2.2.2.1 s.2.2.2.2.2.2.2.2.2.2.2.2.1 s.2.2.2.2.2.2.2.2.2.2.2.2.2.1 s.2.2.2.2.2.2.2.2.2.2.2.2.2.2) (fun s => μ s.1 s.2.1 s.2.2.1 s.2.2.2.1 s.2.2.2.2.1 s.2.2.2.2.2.1 s.2.2.2.2.2.2.1 s.2.2.2.2.2.2.2.1 s.2.2.2.2.2.2.2.2.1 s.2.2.2.2.2.2.2.2.2.1 s.2.2.2.2.2.2.2.2.2.2.1 s.2.2.2.2.2.2.2.2.2.2.2.1 s.2.2.2.2.2.2.2.2.2.2.2.2.1 s.2.2.2.2.2.2.2.2.2.2.2.2.2.1 s.2.2.2.2.2.2.2.2.2.2.2.2.2.2) (fun n s hI hk => hs n s.1 s.2.1 s.2.2.1 s.2.2.2.1 s.2.2.2.2.1 s.2.2.2.2.2.1 s.2.2.2.2.2.2.1 s.2.2.2.2.2.2.2.1 s.2.2.2.2.2.2.2.2.1 s.2.2.2.2.2.2.2.2.2.1 s.2.2.2.2.2.2.2.2.2.2.1 s.2.2.2.2.2.2.2.2.2.2.2.1 s.2.2.2.2.2.2.2.2.2.2.2.2.1 s.2.2.2.2.2.2.2.2.2.2.2.2.2.1 s.2.2.2.2.2.2.2.2.2.2.2.2.2.2 hI (fun b1 b2 b3 b4 b5 b6 b7 b8 b9 b10 b11 b12 b13 b14 b15 h9 hm => hk (b1, b2, b3, b4, b5, b6, b7, b8, b9, b10, b11, b12, b13, b14, b15) h9 hm)) (a1, a2, a3, a4, a5, a6, a7, a8, a9, a10, a11, a12, a13, a14, a15) h
theorem lp16 {A1 A2 A3 A4 A5 A6 A7 A8 A9 A10 A11 A12 A13 A14 A15 A16 : Type} (W : Nat → A1 → A2 → A3 → A4 → A5 → A6 → A7 → A8 → A9 → A10 → A11 → A12 → A13 → A14 → A15 → A16 → Prop) (I : A1 → A2 → A3 → A4 → A5 → A6 → A7 → A8 → A9 → A10 → A11 → A12 → A13 → A14 → A15 → A16 → Prop) (μ : A1 → A2 → A3 → A4 → A5 → A6 → A7 → A8 → A9 → A10 → A11 → A12 → A13 → A14 → A15 → A16 → Nat) (hs : ∀ (n : Nat) (a1 : A1) (a2 : A2) (a3 : A3) (a4 : A4) (a5 : A5) (a6 : A6) (a7 : A7) (a8 : A8) (a9 : A9) (a10 : A10) (a11 : A11) (a12 : A12) (a13 : A13) (a14 : A14) (a15 : A15) (a16 : A16), I a1 a2 a3 a4 a5 a6 a7 a8 a9 a10 a11 a12 a13 a14 a15 a16 → (∀ (b1 : A1) (b2 : A2) (b3 : A3) (b4 : A4) (b5 : A5) (b6 : A6) (b7 : A7) (b8 : A8) (b9 : A9) (b10 : A10) (b11 : A11) (b12 : A12) (b13 : A13) (b14 : A14) (b15 : A15) (b16 : A16), I b1 b2 b3 b4 b5 b6 b7 b8 b9 b10 b11 b12 b13 b14 b15 b16 → μ b1 b2 b3 b4 b5 b6 b7 b8 b9 b10 b11 b12 b13 b14 b15 b16 < μ a1 a2 a3 a4 a5 a6 a7 a8 a9 a10 a11 a12 a13 a14 a15 a16 → W n b1 b2 b3 b4 b5 b6 b7 b8 b9 b10 b11 b12 b13 b14 b15 b16) → W (n + 1) a1 a2 a3 a4 a5 a6 a7 a8 a9 a10 a11 a12 a13 a14 a15 a16) (a1 : A1) (a2 : A2) (a3 : A3) (a4 : A4) (a5 : A5) (a6 : A6) (a7 : A7) (a8 : A8) (a9 : A9) (a10 : A10) (a11 : A11) (a12 : A12) (a13 : A13) (a14 : A14) (a15 : A15) (a16 : A16) (h : I a1 a2 a3 a4 a5 a6 a7 a8 a9 a10 a11 a12 a13 a14 a15 a16) : ∃ n, W n a1 a2 a3 a4 a5 a6 a7 a8 a9 a10 a11 a12 a13 a14 a15 a16 :=
  loop_m (σ := A1 × A2 × A3 × A4 × A5 × A6 × A7 × A8 × A9 × A10 × A11 × A12 × A13 × A14 × A15 × A16) (fun n s => W n s.1 s.2.1 s.2.2.1 s.2.2.2.1 s.2.2.2.2.1 s.2.2.2.2.2.1 s.2.2.2.2.2.2.1 s.2.2.2.2.2.2.2.1 s.2.2.2.2.2.2.2.2.1 s.2.2.2.2.2.2.2.2.2.1 s.2.2.2.2.2.2.2.2.2.2.1 s.2.2.2.2.2.2.2.2.2.2.2.1 s.2.2.2.2.2.2.2.2.2.2.2.2.1 s.2.2.2.2.2.2.2.2.2.2.2.2.2.1 s.2.2.2.2.2.2.2.2.2.2.2.2.2.2.1 s.2.2.2.2.2.2.2.2.2.2.2.2.2.2.2) (fun s => I s.1 s.2.1 s.2.2.1 s.2.2.2.1 s.2.2.2.2.1 s.2.2.2.2.2.1 s.2.2.2.2.2.2.1 s.2.2.2.2.2.2.2.1 s.2.2.2.2.2.2.2.2.1 s.2.2.2.2.2.2.2.2.2.1 s.2.2.2.2.2.2.2.2.2.2.1 s.2.2.2.2.2.2.2.2.2.2.2.1 s.2.2.2.2.2.2.2.2.2.2.2.2.1 s.2.2.2.2.2.2.2.2.2.2.2.2.2.1 s.2.2.2.2.2.2.2.2.2.2.2.2.2.2.1 s.2.2.2.2.2.2.2.2.2.2.2.2.2.2.2) (fun s => μ s.1 s.2.1 s.2.2.1 s.2.2.2.1 s.2.2.2.2.1 s.2.2.2.2.2.1 s.2.2.2.2.2.2.1 s.2.2.2.2.2.2.2.1 s.2.2.2.2.2.2.2.2.1 s.2.2.2.2.2.2.2.2.2.1 s.2.2.2.2.2.2.2.2.2.2.1 s.2.2.2.2.2.2.2.2.2.2.2.1 s.2.2.2.2.2.2.2.2.2.2.2.2.1 s.2.2.2.2.2.2.2.2.2.2.2.2.2.1 s.2.2.2.2.2.2.2.2.2.2.2.2.2.2.1 s.2.2.2.2.2.2.2.2.2.2.2.2.2.2.2) (fun n s hI hk => hs n s.1 s.2.1 s.2.2.1 s.2.2.2.1 s.2.2.2.2.1 s.2.2.2.2.2.1 s.2.2.2.2.2.2.1 s.2.2.2.2.2.2.2.1 s.2.2.2.2.2.2.2.2.1 s.2.2.2.2.2.2.2.2.2.1 s.2.2.2.2.2.2.2.2.2.2.1 s.2.2.2.2.2.2.2.2.2.2.2.1 s.2.2.2.2.2.2.2.2.2.2.2.2.1 s.2.2.2.2.2.2.2.2.2.2.2.2.2.1 s.2.2.2.2.2.2.2.2.2.2.2.2.2.2.1 s.2.2.2.2.2.2.2.2.2.2.2.2.2.2.2 hI (fun b1 b2 b3 b4 b5 b6 b7 b8 b9 b10 b11 b12 b13 b14 b15 b16 h9 hm => hk (b1, b2, b3, b4, b5, b6, b7, b8, b9, b10, b11, b12, b13, b14, b15, b16) h9 hm)) (a1, a2, a3, a4, a5, a6, a7, a8, a9, a10, a11, a12, a13, a14, a15, a16) h
theorem pk_least (P : Nat → Prop) (h : ∃ k, P k) : ∃ k, P k ∧ ∀ j, j < k → ¬ P j := by
  obtain ⟨k, hk⟩ := h
  induction k using Nat.strongRecOn with
  | ind k ih =>
    by_cases e : ∃ j, j < k ∧ P j
    · obtain ⟨j, hj, pj⟩ := e
      exact ih j hj pj
    · exact ⟨k, hk, fun j hj pj => e ⟨j, hj, pj⟩⟩
theorem rp1 {ρ A1 : Type} (W : Nat → (ρ → Prop) → A1 → Prop) (ok : A1 → Prop) (μ : A1 → Nat) (val : A1 → ρ)
    (hs : ∀ (d : Nat) (post : ρ → Prop) (a1 : A1), ok a1 → post (val a1) → (∀ (post' : ρ → Prop) (b1 : A1), ok b1 → μ b1 < μ a1 → post' (val b1) → W d post' b1) → W (d + 1) post a1) :
    ∀ (d : Nat) (post : ρ → Prop) (a1 : A1), ok a1 → μ a1 < d → post (val a1) → W d post a1 := by
  intro d
  induction d with
  | zero => intro post a1 _ h; omega
  | succ d ih =>
    intro post a1 ho hm hp
    exact hs d post a1 ho hp (fun post' b1 ho' hm' hp' => ih post' b1 ho' (by omega) hp')
theorem rp2 {ρ A1 A2 : Type} (W : Nat → (ρ → Prop) → A1 → A2 → Prop) (ok : A1 → A2 → Prop) (μ : A1 → A2 → Nat) (val : A1 → A2 → ρ)
    (hs : ∀ (d : Nat) (post : ρ → Prop) (a1 : A1) (a2 : A2), ok a1 a2 → post (val a1 a2) → (∀ (post' : ρ → Prop) (b1 : A1) (b2 : A2), ok b1 b2 → μ b1 b2 < μ a1 a2 → post' (val b1 b2) → W d post' b1 b2) → W (d + 1) post a1 a2) :
    ∀ (d : Nat) (post : ρ → Prop) (a1 : A1) (a2 : A2), ok a1 a2 → μ a1 a2 < d → post (val a1 a2) → W d post a1 a2 := by
  intro d
  induction d with
  | zero => intro post a1 a2 _ h; omega
  | succ d ih =>
    intro post a1 a2 ho hm hp
    exact hs d post a1 a2 ho hp (fun post' b1 b2 ho' hm' hp' => ih post' b1 b2 ho' (by omega) hp')
theorem rp3 {ρ A1 A2 A3 : Type} (W : Nat → (ρ → Prop) → A1 → A2 → A3 → Prop) (ok : A1 → A2 → A3 → Prop) (μ : A1 → A2 → A3 → Nat) (val : A1 → A2 → A3 → ρ)
    (hs : ∀ (d : Nat) (post : ρ → Prop) (a1 : A1) (a2 : A2) (a3 : A3), ok a1 a2 a3 → post (val a1 a2 a3) → (∀ (post' : ρ → Prop) (b1 : A1) (b2 : A2) (b3 : A3), ok b1 b2 b3 → μ b1 b2 b3 < μ a1 a2 a3 → post' (val b1 b2 b3) → W d post' b1 b2 b3) → W (d + 1) post a1 a2 a3) :
    ∀ (d : Nat) (post : ρ → Prop) (a1 : A1) (a2 : A2) (a3 : A3), ok a1 a2 a3 → μ a1 a2 a3 < d → post (val a1 a2 a3) → W d post a1 a2 a3 := by
  intro d
  induction d with
  | zero => intro post a1 a2 a3 _ h; omega
  | succ d ih =>
    intro post a1 a2 a3 ho hm hp
    exact hs d post a1 a2 a3 ho hp (fun post' b1 b2 b3 ho' hm' hp' => ih post' b1 b2 b3 ho' (by omega) hp')
theorem rp4 {ρ A1 A2 A3 A4 : Type} (W : Nat → (ρ → Prop) → A1 → A2 → A3 → A4 → Prop) (ok : A1 → A2 → A3 → A4 → Prop) (μ : A1 → A2 → A3 → A4 → Nat) (val : A1 → A2 → A3 → A4 → ρ)
    (hs : ∀ (d : Nat) (post : ρ → Prop) (a1 : A1) (a2 : A2) (a3 : A3) (a4 : A4), ok a1 a2 a3 a4 → post (val a1 a2 a3 a4) → (∀ (post' : ρ → Prop) (b1 : A1) (b2 : A2) (b3 : A3) (b4 : A4), ok b1 b2 b3 b4 → μ b1 b2 b3 b4 < μ a1 a2 a3 a4 → post' (val b1 b2 b3 b4) → W d post' b1 b2 b3 b4) → W (d + 1) post a1 a2 a3 a4) :
    ∀ (d : Nat) (post : ρ → Prop) (a1 : A1) (a2 : A2) (a3 : A3) (a4 : A4), ok a1 a2 a3 a4 → μ a1 a2 a3 a4 < d → post (val a1 a2 a3 a4) → W d post a1 a2 a3 a4 := by
  intro d
  induction d with
  | zero => intro post a1 a2 a3 a4 _ h; omega
  | succ d ih =>
    intro post a1 a2 a3 a4 ho hm hp
    exact hs d post a1 a2 a3 a4 ho hp (fun post' b1 b2 b3 b4 ho' hm' hp' => ih post' b1 b2 b3 b4 ho' (by omega) hp')
theorem rp5 {ρ A1 A2 A3 A4 A5 : Type} (W : Nat → (ρ → Prop) → A1 → A2 → A3 → A4 → A5 → Prop) (ok : A1 → A2 → A3 → A4 → A5 → Prop) (μ : A1 → A2 → A3 → A4 → A5 → Nat) (val : A1 → A2 → A3 → A4 → A5 → ρ)
    (hs : ∀ (d : Nat) (post : ρ → Prop) (a1 : A1) (a2 : A2) (a3 : A3) (a4 : A4) (a5 : A5), ok a1 a2 a3 a4 a5 → post (val a1 a2 a3 a4 a5) → (∀ (post' : ρ → Prop) (b1 : A1) (b2 : A2) (b3 : A3) (b4 : A4) (b5 : A5), ok b1 b2 b3 b4 b5 → μ b1 b2 b3 b4 b5 < μ a1 a2 a3 a4 a5 → post' (val b1 b2 b3 b4 b5) → W d post' b1 b2 b3 b4 b5) → W (d + 1) post a1 a2 a3 a4 a5) :
    ∀ (d : Nat) (post : ρ → Prop) (a1 : A1) (a2 : A2) (a3 : A3) (a4 : A4) (a5 : A5), ok a1 a2 a3 a4 a5 → μ a1 a2 a3 a4 a5 < d → post (val a1 a2 a3 a4 a5) → W d post a1 a2 a3 a4 a5 := by
  intro d
  induction d with
  | zero => intro post a1 a2 a3 a4 a5 _ h; omega
  | succ d ih =>
    intro post a1 a2 a3 a4 a5 ho hm hp
    exact hs d post a1 a2 a3 a4 a5 ho hp (fun post' b1 b2 b3 b4 b5 ho' hm' hp' => ih post' b1 b2 b3 b4 b5 ho' (by omega) hp')
theorem rp6 {ρ A1 A2 A3 A4 A5 A6 : Type} (W : Nat → (ρ → Prop) → A1 → A2 → A3 → A4 → A5 → A6 → Prop) (ok : A1 → A2 → A3 → A4 → A5 → A6 → Prop) (μ : A1 → A2 → A3 → A4 → A5 → A6 → Nat) (val : A1 → A2 → A3 → A4 → A5 → A6 → ρ)
    (hs : ∀ (d : Nat) (post : ρ → Prop) (a1 : A1) (a2 : A2) (a3 : A3) (a4 : A4) (a5 : A5) (a6 : A6), ok a1 a2 a3 a4 a5 a6 → post (val a1 a2 a3 a4 a5 a6) → (∀ (post' : ρ → Prop) (b1 : A1) (b2 : A2) (b3 : A3) (b4 : A4) (b5 : A5) (b6 : A6), ok b1 b2 b3 b4 b5 b6 → μ b1 b2 b3 b4 b5 b6 < μ a1 a2 a3 a4 a5 a6 → post' (val b1 b2 b3 b4 b5 b6) → W d post' b1 b2 b3 b4 b5 b6) → W (d + 1) post a1 a2 a3 a4 a5 a6) :
    ∀ (d : Nat) (post : ρ → Prop) (a1 : A1) (a2 : A2) (a3 : A3) (a4 : A4) (a5 : A5) (a6 : A6), ok a1 a2 a3 a4 a5 a6 → μ a1 a2 a3 a4 a5 a6 < d → post (val a1 a2 a3 a4 a5 a6) → W d post a1 a2 a3 a4 a5 a6 := by
  intro d
  induction d with
  | zero => intro post a1 a2 a3 a4 a5 a6 _ h; omega
  | succ d ih =>
    intro post a1 a2 a3 a4 a5 a6 ho hm hp
    exact hs d post a1 a2 a3 a4 a5 a6 ho hp (fun post' b1 b2 b3 b4 b5 b6 ho' hm' hp' => ih post' b1 b2 b3 b4 b5 b6 ho' (by omega) hp')
theorem rec_p {σ ρ : Type} (W : Nat → (ρ → Prop) → σ → Prop) (ok : σ → Prop) (μ : σ → Nat) (val : σ → ρ)
    (hs : ∀ d s post, ok s → post (val s) → (∀ s' post', ok s' → μ s' < μ s → post' (val s') → W d post' s') → W (d + 1) post s) :
    ∀ d s post, ok s → μ s < d → post (val s) → W d post s := by
  intro d
  induction d with
  | zero => intro s post _ h; omega
  | succ d ih =>
    intro s post ho hm hp
    exact hs d s post ho hp (fun s' post' ho' hm' hp' => ih s' post' ho' (by omega) hp')
theorem rec_q {σ ρ : Type} (W : Nat → (ρ → Prop) → σ → Prop) (ok : σ → Prop) (μ : σ → Nat) (Q : σ → ρ → Prop)
    (hs : ∀ d s post, ok s → (∀ r, Q s r → post r) → (∀ s' post', ok s' → μ s' < μ s → (∀ r, Q s' r → post' r) → W d post' s') → W (d + 1) post s) :
    ∀ d s post, ok s → μ s < d → (∀ r, Q s r → post r) → W d post s := by
  intro d
  induction d with
  | zero => intro s post _ h; omega
  | succ d ih =>
    intro s post ho hm hp
    exact hs d s post ho hp (fun s' post' ho' hm' hp' => ih s' post' ho' (by omega) hp')
def bx_sum (f : Nat → Int32) : Nat → Int32
  | 0 => 0
  | n + 1 => bx_sum f n + f n
theorem ek_u {A : Prop} {B : Nat → Prop} {k N : Nat} (hk : k < N) (h : B k) : (some k = none → A) ∧ (∀ y : Nat, some k = some y → (y < N ∧ B y)) :=
  ⟨fun z => absurd z (Option.some_ne_none k), fun _ e => (by cases e; exact ⟨hk, h⟩)⟩
theorem ek_nu {A : Prop} {B : Nat → Prop} (h : A) : ((none : Option Nat) = none → A) ∧ (∀ y : Nat, (none : Option Nat) = some y → B y) :=
  ⟨fun _ => h, fun _ e => (by cases e)⟩
theorem ek_if {c d A B : Prop} (e : c ↔ d) (f : d → A) (g : ¬ d → B) : (c → A) ∧ (¬ c → B) :=
  ⟨fun z => f (e.mp z), fun z => g (fun y => z (e.mpr y))⟩
theorem ek_v {α : Sort _} {P : α → Prop} {a b : α} (e : a = b) (h : P b) : P a := e ▸ h
theorem co_some {x : Option Nat} {A : Prop} {B : Nat → Prop} (i : Nat) (h : B i) (hx : x = some i := by rfl) : (x = none → A) ∧ (∀ y : Nat, x = some y → B y) := by
  subst hx
  exact ⟨fun e => (nomatch e), fun y e => Option.some.inj e ▸ h⟩
theorem co_none {x : Option Nat} {A : Prop} {B : Nat → Prop} (h : A) (hx : x = none := by rfl) : (x = none → A) ∧ (∀ y : Nat, x = some y → B y) := by
  subst hx
  exact ⟨fun _ => h, fun y e => (nomatch e)⟩
theorem co_any {x : Option Nat} {A : Prop} {B : Nat → Prop} (hn : x = none → A) (hs : ∀ i : Nat, x = some i → B i) : (x = none → A) ∧ (∀ y : Nat, x = some y → B y) := ⟨hn, hs⟩
theorem co_2 {P : Nat → Prop} (h0 : P 0) (h1 : P 1) {i : Nat} (hi : i < 2) : P i :=
  match i, hi with
  | 0, _ => h0
  | 1, _ => h1
theorem co_3 {P : Nat → Prop} (h0 : P 0) (h1 : P 1) (h2 : P 2) {i : Nat} (hi : i < 3) : P i :=
  match i, hi with
  | 0, _ => h0
  | 1, _ => h1
  | 2, _ => h2
theorem co_4 {P : Nat → Prop} (h0 : P 0) (h1 : P 1) (h2 : P 2) (h3 : P 3) {i : Nat} (hi : i < 4) : P i :=
  match i, hi with
  | 0, _ => h0
  | 1, _ => h1
  | 2, _ => h2
  | 3, _ => h3
theorem co_dec {N : Nat} {P : Nat → Prop} [DecidablePred P] (h : (List.range N).all (fun i => decide (P i)) = true) {i : Nat} (hi : i < N) : P i := by
  have := List.all_eq_true.mp h i (List.mem_range.mpr hi)
  exact of_decide_eq_true this
theorem co_tab {α : Type} {l : List α} {d : α} {P : α → Prop} (h : ∀ a, a ∈ l → P a) {i : Nat} (hi : i < l.length) : P (l.getD i d) := by
  rw [List.getD_eq_getElem?_getD, List.getElem?_eq_getElem hi]
  exact h _ (List.getElem_mem hi)
theorem pk_mu {x : Int32} {L : Nat} (h0 : ¬ x < 0) (h : ¬ nI L ≤ x) (hL : L < 2 ^ 31) : ∃ j : Nat, j < L ∧ x = nI j ∧ x + 1 = nI (j + 1) ∧ x.toNatClampNeg = j ∧ L - (x + 1).toNatClampNeg < L - x.toNatClampNeg := by
  obtain ⟨j, hj, rfl⟩ := nI_of h0
  have hl : j < L := Nat.not_le.mp fun q => h (nI_le q hj)
  refine ⟨j, hl, rfl, nI_1 j, nI_clamp hj, ?_⟩
  rw [nI_1, nI_clamp (by omega), nI_clamp hj]
  omega
theorem op_s {α : Type} {r : Option α} {A : Prop} {B : α → Prop} {y : α} (h : r = some y) (b : B y) : (r = none → A) ∧ ∀ z, r = some z → B z :=
  ⟨fun e => (by rw [h] at e; cases e), fun z e => (by rw [h] at e; cases e; exact b)⟩
def l_holds {α : Type} (a : Nat → Option Nat) (LP : List Nat) (p : Nat → α) (c : Nat) (b : Nat → α) : Prop :=
  ∀ j, j < c → ∃ y, a j = some y ∧ y ∈ LP ∧ p y = b j
theorem l_holds_0 {α : Type} {a : Nat → Option Nat} {LP : List Nat} {p b : Nat → α} : l_holds a LP p 0 b := fun j h => absurd h (Nat.not_lt_zero j)
theorem l_in_new (LP : List Nat) (q : Nat) : q ∈ LP ++ [q] := List.mem_append.mpr (Or.inr (List.mem_singleton.mpr rfl))
def l_sum (b : Nat → Int32) : Nat → Int32
  | 0 => 0
  | k + 1 => l_sum b k + b k
theorem sb_shr0 (x : Int32) : x >>> ((0 : Int32) &&& 31) = x := by
  rw [show ((0 : Int32) &&& 31) = 0 by decide]
  simp
theorem sb_shl0 (x : Int32) : x <<< ((0 : Int32) &&& 31) = x := by
  rw [show ((0 : Int32) &&& 31) = 0 by decide]
  simp
theorem sb_cl0 : (0 : Int32).toNatClampNeg = 0 := by decide
theorem sb_m1 {p : Nat} (h : 0 < p) : nI p + (-1) = nI (p - 1) := by
  obtain ⟨q, rfl⟩ : ∃ q, p = q + 1 := ⟨p - 1, by omega⟩
  exact pk_m1 q
def sb_b (c : Nat) : Int32 := (nI c).toInt8.toInt32
theorem sb_byte : ∀ c, c < 256 → sb_b c &&& 255 = nI c ∧ ((nI c).toUInt32 % 65536).toInt32 = nI c ∧ nI c ≤ 255 := by decide +kernel
def sb_Fit (a : Nat → Int32) : Prop := ∀ j, fits .byte (.int (a j)) = true
def sb_Lat (t : Nat → Nat) (n : Nat) (a : Nat → Int32) : Prop := ∀ j, j < n → t j < 256 ∧ a j = sb_b (t j)
theorem sb_fitB (c : Nat) : fits .byte (.int (sb_b c)) = true := pk_fb _
theorem sb_fit0 : sb_Fit (fun _ => 0) := fun _ => by
  show fits .byte (.int 0) = true
  decide
theorem sb_fitU {a : Nat → Int32} {k : Nat} {x : Int32} (h : sb_Fit a) (hx : fits .byte (.int x) = true) : sb_Fit (upd a k x) := by
  intro j
  by_cases e : j = k
  · subst e
    rw [pk_us]
    exact hx
  · rw [pk_un e]
    exact h j
def sb_cat (t : Nat → Nat) (n : Nat) (s : Nat → Nat) : Nat → Nat := fun j => if j < n then t j else s (j - n)
theorem sb_cat_lo {t s : Nat → Nat} {n j : Nat} (h : j < n) : sb_cat t n s j = t j := if_pos h
theorem sb_cat_hi {t s : Nat → Nat} {n j : Nat} : sb_cat t n s (n + j) = s j := by
  show (if n + j < n then t (n + j) else s (n + j - n)) = s j
  rw [if_neg (by omega), Nat.add_sub_cancel_left]
theorem sb_latPut {t s : Nat → Nat} {n w : Nat} {a a' : Nat → Int32} (h : sb_Lat t n a) (hk : ∀ j, j < n → a' j = a j) (hs : ∀ i, i < w → s i < 256 ∧ a' (n + i) = sb_b (s i)) : sb_Lat (sb_cat t n s) (n + w) a' := by
  intro j hj
  by_cases e : j < n
  · rw [sb_cat_lo e, hk j e]
    exact h j e
  · obtain ⟨i, rfl⟩ : ∃ i, j = n + i := ⟨j - n, by omega⟩
    rw [sb_cat_hi]
    exact hs i (by omega)
theorem sb_latKeep {t : Nat → Nat} {n : Nat} {a a' : Nat → Int32} (h : sb_Lat t n a) (hk : ∀ j, j < n → a' j = a j) : sb_Lat t n a' := fun j hj => by
  rw [hk j hj]
  exact h j hj
def sb_cap (q m : Nat) : Nat := if q ≤ m then m else if 2 * m + 2 < q then q else 2 * m + 2
def sb_Room (q m mc ms : Nat) : Prop := q ≤ m ∨ (1 ≤ mc ∧ sb_cap q m ≤ ms ∧ sb_cap q m ≤ 65536)
theorem sb_cap_ge (q m : Nat) : q ≤ sb_cap q m := by
  unfold sb_cap
  split
  · omega
  · split <;> omega
theorem sb_cap_gem (q m : Nat) : m ≤ sb_cap q m := by
  unfold sb_cap
  split
  · omega
  · split <;> omega
theorem sb_cap_le {q m mc ms : Nat} (hm : m ≤ 65536) (hr : sb_Room q m mc ms) : sb_cap q m ≤ 65536 := by
  rcases hr with h | h
  · rw [sb_cap, if_pos h]
    exact hm
  · exact h.2.2
theorem sb_at {P : Int32 → Prop} {x y : Int32} (e : x = y) (h : P y) : P x := e ▸ h
def sb_dg (w : Nat) : Nat := if w < 10 then 1 else if w < 100 then 2 else if w < 1000 then 3 else if w < 10000 then 4 else if w < 100000 then 5 else if w < 1000000 then 6 else if w < 10000000 then 7 else if w < 100000000 then 8 else if w < 1000000000 then 9 else 10
def sb_dec (v : Nat) : Nat → Nat := fun i => 48 + v / 10 ^ (sb_dg v - 1 - i) % 10
theorem sb_dg_in (w : Nat) : 1 ≤ sb_dg w ∧ sb_dg w ≤ 10 := by
  unfold sb_dg
  constructor <;> (repeat' split) <;> omega
theorem sb_dg100 {w : Nat} (h : 100 ≤ w) (hw : w < 2 ^ 31) : sb_dg w = sb_dg (w / 100) + 2 := by
  rw [sb_dg, sb_dg, if_neg (show ¬ w < 10 by omega), if_neg (show ¬ w < 100 by omega)]
  by_cases h3 : w < 1000
  · rw [if_pos h3, if_pos (show w / 100 < 10 by omega)]
  rw [if_neg h3, if_neg (show ¬ w / 100 < 10 by omega)]
  by_cases h4 : w < 10000
  · rw [if_pos h4, if_pos (show w / 100 < 100 by omega)]
  rw [if_neg h4, if_neg (show ¬ w / 100 < 100 by omega)]
  by_cases h5 : w < 100000
  · rw [if_pos h5, if_pos (show w / 100 < 1000 by omega)]
  rw [if_neg h5, if_neg (show ¬ w / 100 < 1000 by omega)]
  by_cases h6 : w < 1000000
  · rw [if_pos h6, if_pos (show w / 100 < 10000 by omega)]
  rw [if_neg h6, if_neg (show ¬ w / 100 < 10000 by omega)]
  by_cases h7 : w < 10000000
  · rw [if_pos h7, if_pos (show w / 100 < 100000 by omega)]
  rw [if_neg h7, if_neg (show ¬ w / 100 < 100000 by omega)]
  by_cases h8 : w < 100000000
  · rw [if_pos h8, if_pos (show w / 100 < 1000000 by omega)]
  rw [if_neg h8, if_neg (show ¬ w / 100 < 1000000 by omega)]
  by_cases h9 : w < 1000000000
  · rw [if_pos h9, if_pos (show w / 100 < 10000000 by omega)]
  rw [if_neg h9, if_neg (show ¬ w / 100 < 10000000 by omega)]
  rw [if_pos (show w / 100 < 100000000 by omega)]
theorem sb_negT {w : Nat} (h : w < 2 ^ 31) : (-nI w).toInt = -(w : Int) := by
  rw [Int32.toInt_neg, nI_toInt h]
  exact Int.bmod_eq_of_le (by omega) (by omega)
theorem sb_nle {a b : Nat} (ha : a < 2 ^ 31) (hb : b < 2 ^ 31) : -nI a ≤ -nI b ↔ b ≤ a := by
  rw [Int32.le_iff_toInt_le, sb_negT ha, sb_negT hb]
  omega
theorem sb_nlt {a b : Nat} (ha : a < 2 ^ 31) (hb : b < 2 ^ 31) : -nI a < -nI b ↔ b < a := by
  rw [Int32.lt_iff_toInt_lt, sb_negT ha, sb_negT hb]
  omega
theorem sb_cmp {A B : Prop} {x : Int32} (v c : Nat) (f : c ≤ v → A) (g : v < c → B) (hv : v < 2 ^ 31) (hx : x = -nI c := by rfl) (hc : c < 2 ^ 31 := by omega) : (-nI v ≤ x → A) ∧ (¬ -nI v ≤ x → B) := by
  subst hx
  rw [sb_nle hv hc]
  exact ⟨f, fun z => g (by omega)⟩
theorem sb_ndiv {w : Nat} (hw : w < 2 ^ 31) : (-nI w) / 100 = -nI (w / 100) := by
  apply Int32.toInt_inj.mp
  have h100 : (100 : Int32).toInt = 100 := by decide
  rw [Int32.toInt_div, sb_negT hw, h100, sb_negT (by omega), Int.neg_tdiv, Int.tdiv_eq_ediv_of_nonneg (by omega), Int.bmod_eq_of_le (by omega) (by omega)]
  omega
theorem sb_nrem {w : Nat} (hw : w < 2 ^ 31) : (-nI (w / 100)) * 100 - (-nI w) = nI (w % 100) := by
  have h := pk_rem (a := w) (d := 100) hw (by decide) (by decide)
  rw [pk_div hw (by decide) (by decide)] at h
  rw [← h]
  show (-nI (w / 100)) * nI 100 - (-nI w) = nI w - nI (w / 100) * nI 100
  rw [Int32.neg_mul, Int32.sub_neg, Int32.add_comm, ← Int32.sub_eq_add_neg]
end
section
/-! base: numbers, stores, copies -/
theorem ba_ue {f : Nat → Int32} {k j : Nat} {x : Int32} (h : j = k) : upd f k x j = x := if_pos h
theorem ba_2 (a : Nat) : nI a + 2 = nI (a + 2) := nI_add a 2
theorem ba_3 (a : Nat) : nI a + 3 = nI (a + 3) := nI_add a 3
theorem ba_4 (a : Nat) : nI a + 4 = nI (a + 4) := nI_add a 4
theorem ba_56 (a : Nat) : nI a + 56 = nI (a + 56) := nI_add a 56
theorem ba_59 (a : Nat) : nI a + 59 = nI (a + 59) := nI_add a 59
theorem ba_60 (a : Nat) : nI a + 60 = nI (a + 60) := nI_add a 60
theorem ba_64 (a : Nat) : nI a + 64 = nI (a + 64) := nI_add a 64
theorem ba_m4 (a : Nat) : nI a * 4 = nI (a * 4) := pk_mul a 4
theorem ba_m5 (a : Nat) : nI a * 5 = nI (a * 5) := pk_mul a 5
theorem ba_m8 (a : Nat) : nI a * 8 = nI (a * 8) := pk_mul a 8
theorem ba_m12 (a : Nat) : nI a * 12 = nI (a * 12) := pk_mul a 12
theorem ba_m68 (a : Nat) : nI a * 68 = nI (a * 68) := pk_mul a 68
theorem ba_4m (a : Nat) : 4 * nI a = nI (4 * a) := pk_mul 4 a
theorem ba_2m (a : Nat) : 2 * nI a = nI (2 * a) := pk_mul 2 a
theorem ba_at (f k : Nat) : (nI f * 12 + nI k) * 4 = nI ((f * 12 + k) * 4) := by rw [ba_m12, nI_add, ba_m4]
theorem ba_t1 : (1 : Int32).toInt = 1 := by decide
theorem ba_t0 : (0 : Int32).toInt = 0 := by decide
theorem ba_tm1 : (-1 : Int32).toInt = -1 := by decide
theorem ba_w (v : Int32) (t : Nat) (ht : t < 1000) : v < 0 ∨ (¬ v < 0 ∧ nI t < v) ∨ ∃ j : Nat, j ≤ t ∧ v = nI j := by
  by_cases h : v < 0
  · exact Or.inl h
  · obtain ⟨j, hj, rfl⟩ := nI_of h
    by_cases h2 : j ≤ t
    · exact Or.inr (Or.inr ⟨j, h2, rfl⟩)
    · exact Or.inr (Or.inl ⟨h, nI_lt (by omega) hj⟩)
theorem ba_nb0 : vp_nar .boolean 0 = 0 := by decide
theorem ba_nb1 : vp_nar .boolean 1 = 1 := by decide
theorem ba_bt {b : Nat} (h : b < 2 ^ 30) : (nI b - 1).toInt = (b : Int) - 1 := pk_sub_toInt (b := 1) h (by decide)
theorem ba_blt {b : Nat} (h : b < 2 ^ 30) : nI b - 1 < 0 ↔ b = 0 := by
  rw [Int32.lt_iff_toInt_lt, ba_bt h, ba_t0]; omega
theorem ba_ble {b : Nat} (h : b < 2 ^ 30) : 0 ≤ nI b - 1 ↔ ¬ b = 0 := by
  rw [Int32.le_iff_toInt_le, ba_bt h, ba_t0]; omega
theorem ba_beq {a b : Nat} (h1 : a < 2 ^ 30) (h2 : b < 2 ^ 30) : nI a - 1 = nI b - 1 ↔ a = b := by
  rw [← Int32.toInt_inj, ba_bt h1, ba_bt h2]; omega
theorem ba_bp {b : Nat} (h : ¬ b = 0) : nI b - 1 = nI (b - 1) := by
  obtain ⟨c, rfl⟩ : ∃ c, b = c + 1 := ⟨b - 1, by omega⟩
  exact nI_pred c
theorem ba_m1 : (-1 : Int32) = nI 0 - 1 := by decide
theorem ba_eq0 {a : Nat} (h : a < 2 ^ 31) : nI a = 0 ↔ a = 0 := nI_eq (b := 0) h (by decide)
theorem ba_ln {a : Nat} (h : 0 < a) : nI a - 1 = nI (a - 1) := ba_bp (by omega)
/-- a copy of i cells -/
def ba_cp (d src : Nat → Int32) (t s i : Nat) : Nat → Int32 := fun x => if t ≤ x ∧ x < t + i then src (x - t + s) else d x
theorem ba_cp0 {d src : Nat → Int32} {t s : Nat} : ba_cp d src t s 0 = d := funext fun x => if_neg (by omega)
theorem ba_cps {d src : Nat → Int32} {t s i : Nat} : upd (ba_cp d src t s i) (t + i) (src (s + i)) = ba_cp d src t s (i + 1) := by
  funext x
  unfold upd ba_cp
  by_cases h : x = t + i
  · subst h
    rw [if_pos rfl, if_pos (by omega), show t + i - t + s = s + i by omega]
  · rw [if_neg h]
    by_cases h2 : t ≤ x ∧ x < t + i
    · rw [if_pos h2, if_pos (by omega)]
    · rw [if_neg h2, if_neg (by omega)]
theorem ba_cpi {d src : Nat → Int32} {t s i x : Nat} (h : t ≤ x) (h2 : x < t + i) : ba_cp d src t s i x = src (x - t + s) := if_pos ⟨h, h2⟩
theorem ba_cpo {d src : Nat → Int32} {t s i x : Nat} (h : x < t ∨ t + i ≤ x) : ba_cp d src t s i x = d x := if_neg (by omega)
/-- a store of any kind -/
def ba_up {α : Type} (f : Nat → α) (k : Nat) (x : α) : Nat → α := fun j => if j = k then x else f j
theorem ba_upe {α : Type} {f : Nat → α} {k j : Nat} {x : α} (h : j = k) : ba_up f k x j = x := if_pos h
theorem ba_upn {α : Type} {f : Nat → α} {k j : Nat} {x : α} (h : j ≠ k) : ba_up f k x j = f j := if_neg h
/-! the code of a function -/
def pt_o (b : Nat → Int32) (f k : Nat) : Nat := (b ((f * 12 + k) * 4)).toNatClampNeg
def pt_p (b : Nat → Int32) (f k : Nat) : Nat := (b ((f * 12 + k) * 4 + 1)).toNatClampNeg
def pt_q (b : Nat → Int32) (f k : Nat) : Nat := (b ((f * 12 + k) * 4 + 2)).toNatClampNeg
def pt_r (b : Nat → Int32) (f k : Nat) : Nat := (b ((f * 12 + k) * 4 + 3)).toNatClampNeg
/-- an instruction in order -/
def pt_Fi (b : Nat → Int32) (f k : Nat) : Prop :=
  b ((f * 12 + k) * 4) = nI (pt_o b f k) ∧ pt_o b f k ≤ 6 ∧ b ((f * 12 + k) * 4 + 1) = nI (pt_p b f k) ∧ pt_p b f k ≤ 3 ∧
  b ((f * 12 + k) * 4 + 2) = nI (pt_q b f k) ∧ pt_q b f k ≤ 3 ∧ (pt_o b f k = 2 → pt_q b f k ≤ f) ∧
  (pt_o b f k ≠ 6 → b ((f * 12 + k) * 4 + 3) = nI (pt_r b f k) ∧ pt_r b f k ≤ 63 ∧ (pt_o b f k ≠ 2 → pt_r b f k ≤ 3))
/-- forks -/
def pt_fk (o : Nat) : Prop := o = 3 ∨ o = 4 ∨ o = 5
/-- the ends of the trees -/
def pt_TF (o en : Nat → Nat) (n : Nat) : Prop := ∀ k, k < n → k < en k ∧ en k ≤ n ∧ (o k = 0 → en k = k + 1) ∧
  (o k ≠ 0 → k + 1 < n ∧ (¬ pt_fk (o k) → en k = en (k + 1)) ∧ (pt_fk (o k) → en (k + 1) < n ∧ en k = en (en (k + 1))))
def pt_CF (b te : Nat → Int32) (f n : Nat) : Prop := 1 ≤ n ∧ n ≤ 12 ∧ (∀ k, k < n → pt_Fi b f k) ∧
  ∃ en : Nat → Nat, pt_TF (pt_o b f) en n ∧ en 0 = n ∧ ∀ k, k < n → te (f * 12 + k) = nI (en k)
def pt_nd (o nd : Nat → Nat) (n : Nat) : Prop := ∀ k, k < n → 1 ≤ nd k ∧ (o k = 0 → nd k = nd (k + 1) + 1) ∧
  (pt_fk (o k) → nd (k + 1) = nd k + 1) ∧ (o k ≠ 0 → ¬ pt_fk (o k) → nd (k + 1) = nd k)
def pt_OF (b : Nat → Int32) (f n L : Nat) : Prop := 1 ≤ L ∧ n + L ≤ 12 ∧ (∀ k, k < n → pt_Fi b f k) ∧
  ∃ nd : Nat → Nat, nd 0 = 1 ∧ nd n = L ∧ pt_nd (pt_o b f) nd n
/-! the relation's parts -/
def pt_KP (parts most : Int32) : Prop := ∃ p m : Nat, parts = nI p ∧ 1 ≤ p ∧ p ≤ 4 ∧ most = nI m ∧ 1 ≤ m ∧ m ≤ 8
def pt_KF (fns opn lack : Int32) (body len te : Nat → Int32) : Prop := ∃ (F : Nat) (ln : Nat → Nat), fns = nI F ∧ F ≤ 4 ∧
  (∀ f, f < 4 → len f = nI (ln f) ∧ ln f ≤ 12) ∧ (∀ f, F ≤ f → f < 4 → ln f = 0) ∧
  ((opn = -1 ∧ lack = 0 ∧ ∀ f, f < F → pt_CF body te f (ln f)) ∨
   ∃ g L : Nat, F = g + 1 ∧ opn = nI g ∧ lack = nI L ∧ pt_OF body g (ln g) L ∧ ∀ f, f < g → pt_CF body te f (ln f))
def pt_KS (sig : Nat → Int32) : Prop := ∀ j, j < 20 → ∃ s : Nat, s ≤ 8 ∧ sig j = nI s
def pt_KZ (sizes : Nat → Int32) : Prop := ∃ s0 s1 s2 : Nat, sizes 0 = nI s0 ∧ s0 ≤ 8 ∧ sizes 1 = nI s1 ∧ s1 ≤ 8 ∧ sizes 2 = nI s2 ∧ s2 ≤ 176
def i_Rel (_ : Nat) (u : SX) (v : SY) : Prop := match u, v with
  | (f_parts, f_most, f_functions, f_openFn, f_lacking, f_subject, f_wantedRest, f_wantedLeft, f_formCount, f_bestA, f_bestB, f_bestC, f_cells, f_depth, f_entries, f_outcome, f_freeNow, f_lowest, a_body, a_lengths, a_treeEnd, a_accepted, a_sig, a_sizes, a_input, a_result, a_state, a_reached, a_forms, a_heads, a_tails, a_freed, a_ints, a_lists, a_frameFn, a_framePc), (g_parts, g_most, g_count, g_lacking, g_opened, g_purse, g_bases, g_cells, g_supply, g_depth, g_entries, b_body, b_len, b_sig, b_accepted, b_input, b_result, b_sizes, b_lastRun, b_rates, b_rest, b_known, b_base, b_head, b_tail, b_dead, b_fun, b_pc, b_ints, b_lists) =>
    (g_parts = f_parts ∧ g_most = f_most ∧ g_count = f_functions ∧ g_lacking = f_lacking ∧ g_opened = f_openFn) ∧
    (b_body = a_body ∧ b_len = a_lengths ∧ b_sig = a_sig ∧ b_accepted = a_accepted ∧ b_input = a_input ∧ b_result = a_result ∧ b_sizes = a_sizes ∧ b_fun = a_frameFn ∧ b_pc = a_framePc ∧ b_ints = a_ints) ∧
    (b_lastRun 0 = f_outcome ∧ b_lastRun 1 = f_freeNow ∧ b_lastRun 2 = f_lowest) ∧
    pt_KP f_parts f_most ∧ pt_KF f_functions f_openFn f_lacking a_body a_lengths a_treeEnd ∧ pt_KS a_sig ∧ pt_KZ a_sizes
theorem i_up {k : Nat} {u : SX} {v : SY} (h : i_Rel k u v) : i_Rel (k + 5) u v := h
section
variable {f_parts f_most f_functions f_openFn f_lacking f_subject f_wantedRest f_wantedLeft f_formCount f_bestA f_bestB f_bestC f_cells f_depth f_entries f_outcome f_freeNow f_lowest : Int32} {a_body a_lengths a_treeEnd a_accepted a_sig a_sizes a_input a_result a_state a_reached a_forms a_heads a_tails a_freed a_ints a_lists a_frameFn a_framePc : Nat → Int32} {g_purse g_bases g_cells g_supply g_depth g_entries : Int32} {b_lastRun b_rates b_rest b_known b_base b_head b_tail b_dead b_lists : Nat → Int32}
theorem pt_in {k : Nat} (hl : b_lastRun 0 = f_outcome ∧ b_lastRun 1 = f_freeNow ∧ b_lastRun 2 = f_lowest) (hP : pt_KP f_parts f_most) (hF : pt_KF f_functions f_openFn f_lacking a_body a_lengths a_treeEnd) (hS : pt_KS a_sig) (hZ : pt_KZ a_sizes) : i_Rel k (f_parts, f_most, f_functions, f_openFn, f_lacking, f_subject, f_wantedRest, f_wantedLeft, f_formCount, f_bestA, f_bestB, f_bestC, f_cells, f_depth, f_entries, f_outcome, f_freeNow, f_lowest, a_body, a_lengths, a_treeEnd, a_accepted, a_sig, a_sizes, a_input, a_result, a_state, a_reached, a_forms, a_heads, a_tails, a_freed, a_ints, a_lists, a_frameFn, a_framePc) (f_parts, f_most, f_functions, f_lacking, f_openFn, g_purse, g_bases, g_cells, g_supply, g_depth, g_entries, a_body, a_lengths, a_sig, a_accepted, a_input, a_result, a_sizes, b_lastRun, b_rates, b_rest, b_known, b_base, b_head, b_tail, b_dead, a_frameFn, a_framePc, a_ints, b_lists) :=
  ⟨⟨rfl, rfl, rfl, rfl, rfl⟩, ⟨rfl, rfl, rfl, rfl, rfl, rfl, rfl, rfl, rfl, rfl⟩, hl, hP, hF, hS, hZ⟩
end
def pt_elim (P : SX → SY → Prop) : Prop := ∀ (f_parts f_most f_functions f_openFn f_lacking f_subject f_wantedRest f_wantedLeft f_formCount f_bestA f_bestB f_bestC f_cells f_depth f_entries f_outcome f_freeNow f_lowest : Int32) (a_body a_lengths a_treeEnd a_accepted a_sig a_sizes a_input a_result a_state a_reached a_forms a_heads a_tails a_freed a_ints a_lists a_frameFn a_framePc : Nat → Int32) (g_purse g_bases g_cells g_supply g_depth g_entries : Int32) (b_lastRun b_rates b_rest b_known b_base b_head b_tail b_dead b_lists : Nat → Int32), (b_lastRun 0 = f_outcome ∧ b_lastRun 1 = f_freeNow ∧ b_lastRun 2 = f_lowest) → pt_KP f_parts f_most → pt_KF f_functions f_openFn f_lacking a_body a_lengths a_treeEnd → pt_KS a_sig → pt_KZ a_sizes → P (f_parts, f_most, f_functions, f_openFn, f_lacking, f_subject, f_wantedRest, f_wantedLeft, f_formCount, f_bestA, f_bestB, f_bestC, f_cells, f_depth, f_entries, f_outcome, f_freeNow, f_lowest, a_body, a_lengths, a_treeEnd, a_accepted, a_sig, a_sizes, a_input, a_result, a_state, a_reached, a_forms, a_heads, a_tails, a_freed, a_ints, a_lists, a_frameFn, a_framePc) (f_parts, f_most, f_functions, f_lacking, f_openFn, g_purse, g_bases, g_cells, g_supply, g_depth, g_entries, a_body, a_lengths, a_sig, a_accepted, a_input, a_result, a_sizes, b_lastRun, b_rates, b_rest, b_known, b_base, b_head, b_tail, b_dead, a_frameFn, a_framePc, a_ints, b_lists)
theorem pt_el {k : Nat} {u : SX} {v : SY} (P : SX → SY → Prop) (h : pt_elim P) (I : i_Rel k u v) : P u v := by
  obtain ⟨f_parts, f_most, f_functions, f_openFn, f_lacking, f_subject, f_wantedRest, f_wantedLeft, f_formCount, f_bestA, f_bestB, f_bestC, f_cells, f_depth, f_entries, f_outcome, f_freeNow, f_lowest, a_body, a_lengths, a_treeEnd, a_accepted, a_sig, a_sizes, a_input, a_result, a_state, a_reached, a_forms, a_heads, a_tails, a_freed, a_ints, a_lists, a_frameFn, a_framePc⟩ := u
  obtain ⟨g_parts, g_most, g_count, g_lacking, g_opened, g_purse, g_bases, g_cells, g_supply, g_depth, g_entries, b_body, b_len, b_sig, b_accepted, b_input, b_result, b_sizes, b_lastRun, b_rates, b_rest, b_known, b_base, b_head, b_tail, b_dead, b_fun, b_pc, b_ints, b_lists⟩ := v
  obtain ⟨⟨h1, h2, h3, h4, h5⟩, ⟨i1, i2, i3, i4, i5, i6, i7, i8, i9, i10⟩, hl, hP, hF, hS, hZ⟩ := I
  subst h1 h2 h3 h4 h5 i1 i2 i3 i4 i5 i6 i7 i8 i9 i10
  exact h _ _ _ _ _ _ _ _ _ _ _ _ _ _ _ _ _ _ _ _ _ _ _ _ _ _ _ _ _ _ _ _ _ _ _ _ _ _ _ _ _ _ _ _ _ _ _ _ _ _ _ hl hP hF hS hZ
end
section
/-! the easy calls -/
section
variable {f_parts f_most f_functions f_openFn f_lacking f_subject f_wantedRest f_wantedLeft f_formCount f_bestA f_bestB f_bestC f_cells f_depth f_entries f_outcome f_freeNow f_lowest : Int32} {a_body a_lengths a_treeEnd a_accepted a_sig a_sizes a_input a_result a_state a_reached a_forms a_heads a_tails a_freed a_ints a_lists a_frameFn a_framePc : Nat → Int32} {g_purse g_bases g_cells g_supply g_depth g_entries : Int32} {b_lastRun b_rates b_rest b_known b_base b_head b_tail b_dead b_lists : Nat → Int32}
theorem pt_st (hK : pt_KF f_functions f_openFn f_lacking a_body a_lengths a_treeEnd) (v : Int32) :
    ∃ r : Int32, (∀ post : Int32 → Prop, post r → wpX_status post (f_parts, f_most, f_functions, f_openFn, f_lacking, f_subject, f_wantedRest, f_wantedLeft, f_formCount, f_bestA, f_bestB, f_bestC, f_cells, f_depth, f_entries, f_outcome, f_freeNow, f_lowest, a_body, a_lengths, a_treeEnd, a_accepted, a_sig, a_sizes, a_input, a_result, a_state, a_reached, a_forms, a_heads, a_tails, a_freed, a_ints, a_lists, a_frameFn, a_framePc) v) ∧ (∀ post : Int32 → Prop, post r → wpY_status post (f_parts, f_most, f_functions, f_lacking, f_openFn, g_purse, g_bases, g_cells, g_supply, g_depth, g_entries, a_body, a_lengths, a_sig, a_accepted, a_input, a_result, a_sizes, b_lastRun, b_rates, b_rest, b_known, b_base, b_head, b_tail, b_dead, a_frameFn, a_framePc, a_ints, b_lists) v) ∧
    ((r = 0 ∧ (v < 0 ∨ ¬ v < 0 ∧ ¬ v < f_functions)) ∨ ∃ f n : Nat, v = nI f ∧ f < 4 ∧ nI f < f_functions ∧ a_lengths f = nI n ∧ n ≤ 12 ∧
      ((r = 1 ∧ v = f_openFn) ∨ ((r = 2 ∨ (r = 3 ∧ ¬ a_accepted f = 0)) ∧ ¬ v = f_openFn ∧ pt_CF a_body a_treeEnd f n))) := by
  by_cases h0 : v < 0
  · exact ⟨0, fun _ hp => br_t h0 hp, fun _ hp => br_t h0 hp, Or.inl ⟨rfl, Or.inl h0⟩⟩
  by_cases h1 : v < f_functions
  · obtain ⟨f, hf, rfl⟩ := nI_of h0
    obtain ⟨F, ln, rfl, hF4, hln, hz, hC⟩ := hK
    have hfF : f < F := (nI_ltI hf (by omega)).mp h1
    have hf4 : f < 4 := by omega
    by_cases ho : nI f = f_openFn
    · exact ⟨1, fun _ hp => br_f h0 (br_t h1 (br_t ho hp)), fun _ hp => br_f h0 (br_t h1 (br_t ho hp)), Or.inr ⟨f, ln f, rfl, hf4, h1, (hln f hf4).1, (hln f hf4).2, Or.inl ⟨rfl, ho⟩⟩⟩
    · have hi : vp_in (nI f) 4 := vp_in_nI hf4 (by omega)
      have hCf : pt_CF a_body a_treeEnd f (ln f) := by
        rcases hC with ⟨_, _, h⟩ | ⟨g, L, hg, rfl, _, _, h⟩
        · exact h f hfF
        · have hne : f ≠ g := fun e => ho (by rw [e])
          exact h f (by omega)
      have hcl : (nI f).toNatClampNeg = f := nI_clamp hf
      by_cases ha : a_accepted (nI f).toNatClampNeg = 0
      · exact ⟨2, fun _ hp => br_f h0 (br_t h1 (br_f ho ⟨hi, br_t ha hp⟩)), fun _ hp => br_f h0 (br_t h1 (br_f ho ⟨hi, br_t ha hp⟩)), Or.inr ⟨f, ln f, rfl, hf4, h1, (hln f hf4).1, (hln f hf4).2, Or.inr ⟨Or.inl rfl, ho, hCf⟩⟩⟩
      · exact ⟨3, fun _ hp => br_f h0 (br_t h1 (br_f ho ⟨hi, br_f ha hp⟩)), fun _ hp => br_f h0 (br_t h1 (br_f ho ⟨hi, br_f ha hp⟩)), Or.inr ⟨f, ln f, rfl, hf4, h1, (hln f hf4).1, (hln f hf4).2, Or.inr ⟨Or.inr ⟨rfl, by rw [hcl] at ha; exact ha⟩, ho, hCf⟩⟩⟩
  · exact ⟨0, fun _ hp => br_f h0 (br_f h1 hp), fun _ hp => br_f h0 (br_f h1 hp), Or.inl ⟨rfl, Or.inr ⟨h0, h1⟩⟩⟩
theorem pt_wi {post : Int32 → Prop} {v : Int32} {t : Nat} (ht : t < 1000) (h0 : (v < 0 ∨ (¬ v < 0 ∧ nI t < v)) → post 0) (h1 : ∀ j, j ≤ t → v = nI j → post 1) : wpX_within post (f_parts, f_most, f_functions, f_openFn, f_lacking, f_subject, f_wantedRest, f_wantedLeft, f_formCount, f_bestA, f_bestB, f_bestC, f_cells, f_depth, f_entries, f_outcome, f_freeNow, f_lowest, a_body, a_lengths, a_treeEnd, a_accepted, a_sig, a_sizes, a_input, a_result, a_state, a_reached, a_forms, a_heads, a_tails, a_freed, a_ints, a_lists, a_frameFn, a_framePc) v (nI t) := by
  rcases ba_w v t ht with h | h | ⟨j, hj, rfl⟩
  · exact br_t h (h0 (Or.inl h))
  · exact br_f h.1 (br_t h.2 (h0 (Or.inr h)))
  · exact br_f (nI_pos (by omega)) (br_f (nI_nlt hj (by omega)) (h1 j hj rfl))
end
theorem i_vc0 (k0 : Int32) (k1 : Int32) : wpX_init (fun u => wpY_init (fun v => i_Rel 2 u v) k0 k1) k0 k1 := by
  have hF : pt_KF 0 (-1) 0 (fun _ => 0) (fun _ => 0) (fun _ => 0) := ⟨0, fun _ => 0, rfl, by omega, fun f _ => ⟨rfl, Nat.zero_le _⟩, fun _ _ _ => rfl, Or.inl ⟨rfl, rfl, fun f h => absurd h (by omega)⟩⟩
  have hS : pt_KS (fun _ => 0) := fun j _ => ⟨0, by omega, rfl⟩
  have hZ : pt_KZ (fun _ => 0) := ⟨0, 0, 0, rfl, by omega, rfl, by omega, rfl, by omega⟩
  have key : ∀ (x : Int32) (t : Nat), 1 ≤ t → t < 1000 → (¬ 1 ≤ x) ∨ (1 ≤ x ∧ ¬ x ≤ nI t) ∨ (∃ p : Nat, 1 ≤ x ∧ x ≤ nI t ∧ x = nI p ∧ 1 ≤ p ∧ p ≤ t) := by
    intro x t h1 ht
    by_cases h : (1 : Int32) ≤ x
    · by_cases h2 : x ≤ nI t
      · have h0 : ¬ x < 0 := by
          rw [Int32.lt_iff_toInt_lt]; rw [Int32.le_iff_toInt_le, ba_t1] at h; rw [ba_t0]; omega
        obtain ⟨p, hp, rfl⟩ := nI_of h0
        exact Or.inr (Or.inr ⟨p, h, h2, rfl, (nI_leI (a := 1) (by omega) hp).mp h, (nI_leI hp (by omega)).mp h2⟩)
      · exact Or.inr (Or.inl ⟨h, h2⟩)
    · exact Or.inl h
  unfold wpX_init
  rcases key k0 4 (by omega) (by omega) with a | ⟨a, a2⟩ | ⟨p, a, a2, ep, hp1, hp2⟩ <;>
  rcases key k1 8 (by omega) (by omega) with b | ⟨b, b2⟩ | ⟨m, b, b2, em, hm1, hm2⟩
  · exact br_f a (br_f b (br_f a (br_f b (pt_in ⟨rfl, rfl, rfl⟩ ⟨1, 1, rfl, by omega, by omega, rfl, by omega, by omega⟩ hF hS hZ))))
  · exact br_f a (br_t b (br_f b2 (br_f a (br_t b (br_f b2 (pt_in ⟨rfl, rfl, rfl⟩ ⟨1, 8, rfl, by omega, by omega, rfl, by omega, by omega⟩ hF hS hZ))))))
  · exact br_f a (br_t b (br_t b2 (br_f a (br_t b (br_t b2 (pt_in ⟨rfl, rfl, rfl⟩ ⟨1, m, rfl, by omega, by omega, em, hm1, hm2⟩ hF hS hZ))))))
  · exact br_t a (br_f a2 (br_f b (br_t a (br_f a2 (br_f b (pt_in ⟨rfl, rfl, rfl⟩ ⟨4, 1, rfl, by omega, by omega, rfl, by omega, by omega⟩ hF hS hZ))))))
  · exact br_t a (br_f a2 (br_t b (br_f b2 (br_t a (br_f a2 (br_t b (br_f b2 (pt_in ⟨rfl, rfl, rfl⟩ ⟨4, 8, rfl, by omega, by omega, rfl, by omega, by omega⟩ hF hS hZ))))))))
  · exact br_t a (br_f a2 (br_t b (br_t b2 (br_t a (br_f a2 (br_t b (br_t b2 (pt_in ⟨rfl, rfl, rfl⟩ ⟨4, m, rfl, by omega, by omega, em, hm1, hm2⟩ hF hS hZ))))))))
  · exact br_t a (br_t a2 (br_f b (br_t a (br_t a2 (br_f b (pt_in ⟨rfl, rfl, rfl⟩ ⟨p, 1, ep, hp1, hp2, rfl, by omega, by omega⟩ hF hS hZ))))))
  · exact br_t a (br_t a2 (br_t b (br_f b2 (br_t a (br_t a2 (br_t b (br_f b2 (pt_in ⟨rfl, rfl, rfl⟩ ⟨p, 8, ep, hp1, hp2, rfl, by omega, by omega⟩ hF hS hZ))))))))
  · exact br_t a (br_t a2 (br_t b (br_t b2 (br_t a (br_t a2 (br_t b (br_t b2 (pt_in ⟨rfl, rfl, rfl⟩ ⟨p, m, ep, hp1, hp2, em, hm1, hm2⟩ hF hS hZ))))))))
theorem i_vc_setting {k : Nat} {u : SX} {v : SY} (I : i_Rel k u v) (hk : k + 5 ≤ 2562) (v1 : Int32) : wpX_setting (fun r => wpY_setting (fun r' => r' = r ∧ i_Rel (k + 5) u v) v v1) u v1 := by
  refine pt_el (fun u v => wpX_setting (fun r => wpY_setting (fun r' => r' = r ∧ i_Rel (k + 5) u v) v v1) u v1) ?_ I
  intro f_parts f_most f_functions f_openFn f_lacking f_subject f_wantedRest f_wantedLeft f_formCount f_bestA f_bestB f_bestC f_cells f_depth f_entries f_outcome f_freeNow f_lowest a_body a_lengths a_treeEnd a_accepted a_sig a_sizes a_input a_result a_state a_reached a_forms a_heads a_tails a_freed a_ints a_lists a_frameFn a_framePc g_purse g_bases g_cells g_supply g_depth g_entries b_lastRun b_rates b_rest b_known b_base b_head b_tail b_dead b_lists hl hP hF hS hZ
  have hR : i_Rel (k + 5) (f_parts, f_most, f_functions, f_openFn, f_lacking, f_subject, f_wantedRest, f_wantedLeft, f_formCount, f_bestA, f_bestB, f_bestC, f_cells, f_depth, f_entries, f_outcome, f_freeNow, f_lowest, a_body, a_lengths, a_treeEnd, a_accepted, a_sig, a_sizes, a_input, a_result, a_state, a_reached, a_forms, a_heads, a_tails, a_freed, a_ints, a_lists, a_frameFn, a_framePc) (f_parts, f_most, f_functions, f_lacking, f_openFn, g_purse, g_bases, g_cells, g_supply, g_depth, g_entries, a_body, a_lengths, a_sig, a_accepted, a_input, a_result, a_sizes, b_lastRun, b_rates, b_rest, b_known, b_base, b_head, b_tail, b_dead, a_frameFn, a_framePc, a_ints, b_lists) := pt_in hl hP hF hS hZ
  by_cases h : v1 = 0
  · exact br_t h (br_t h ⟨rfl, hR⟩)
  · exact br_f h (br_f h ⟨rfl, hR⟩)
theorem i_vc_open {k : Nat} {u : SX} {v : SY} (I : i_Rel k u v) (hk : k + 5 ≤ 2562) : wpX_open (fun r u' => wpY_open (fun r' v' => r' = r ∧ i_Rel (k + 5) u' v') v) u := by
  refine pt_el (fun u v => wpX_open (fun r u' => wpY_open (fun r' v' => r' = r ∧ i_Rel (k + 5) u' v') v) u) ?_ I
  intro f_parts f_most f_functions f_openFn f_lacking f_subject f_wantedRest f_wantedLeft f_formCount f_bestA f_bestB f_bestC f_cells f_depth f_entries f_outcome f_freeNow f_lowest a_body a_lengths a_treeEnd a_accepted a_sig a_sizes a_input a_result a_state a_reached a_forms a_heads a_tails a_freed a_ints a_lists a_frameFn a_framePc g_purse g_bases g_cells g_supply g_depth g_entries b_lastRun b_rates b_rest b_known b_base b_head b_tail b_dead b_lists hl hP hF hS hZ
  have hR : i_Rel (k + 5) (f_parts, f_most, f_functions, f_openFn, f_lacking, f_subject, f_wantedRest, f_wantedLeft, f_formCount, f_bestA, f_bestB, f_bestC, f_cells, f_depth, f_entries, f_outcome, f_freeNow, f_lowest, a_body, a_lengths, a_treeEnd, a_accepted, a_sig, a_sizes, a_input, a_result, a_state, a_reached, a_forms, a_heads, a_tails, a_freed, a_ints, a_lists, a_frameFn, a_framePc) (f_parts, f_most, f_functions, f_lacking, f_openFn, g_purse, g_bases, g_cells, g_supply, g_depth, g_entries, a_body, a_lengths, a_sig, a_accepted, a_input, a_result, a_sizes, b_lastRun, b_rates, b_rest, b_known, b_base, b_head, b_tail, b_dead, a_frameFn, a_framePc, a_ints, b_lists) := pt_in hl hP hF hS hZ
  by_cases h : f_openFn < 0
  · refine br_t h ?_
    obtain ⟨F, ln, rfl, hF4, hln, hz, hC⟩ := hF
    by_cases h4 : F < 4
    · have h4' : nI F < 4 := nI_lt (b := 4) h4 (by omega)
      have h4n : ¬ nI F = 4 := fun e => absurd ((nI_eq (b := 4) (by omega) (by omega)).mp e) (by omega)
      refine br_t h4' (nm_r (nI_1 F) (br_t h (br_f h4n (nm_r (nI_1 F) ⟨rfl, pt_in hl hP ?_ hS hZ⟩))))
      rcases hC with ⟨_, _, hC⟩ | ⟨g, L, rfl, rfl, _⟩
      · refine ⟨F + 1, ln, rfl, by omega, hln, fun f h1 h2 => hz f (by omega) h2, Or.inr ⟨F, 1, rfl, rfl, rfl, ?_, hC⟩⟩
        rw [hz F (by omega) h4]
        exact ⟨by omega, by omega, fun k hk => absurd hk (by omega), fun _ => 1, rfl, rfl, fun k hk => absurd hk (by omega)⟩
      · exact absurd h (nI_pos (by omega))
    · have h4' : ¬ nI F < 4 := nI_nlt (b := 4) (by omega) (by omega)
      have h4n : nI F = 4 := by rw [show F = 4 by omega]; rfl
      exact br_f h4' (br_t h (br_t h4n ⟨rfl, hR⟩))
  · exact br_f h (br_f h ⟨rfl, hR⟩)
theorem i_vc_pending {k : Nat} {u : SX} {v : SY} (I : i_Rel k u v) (hk : k + 5 ≤ 2562) : wpX_pending (fun r => wpY_pending (fun r' => r' = r ∧ i_Rel (k + 5) u v) v) u := by
  refine pt_el (fun u v => wpX_pending (fun r => wpY_pending (fun r' => r' = r ∧ i_Rel (k + 5) u v) v) u) ?_ I
  intro f_parts f_most f_functions f_openFn f_lacking f_subject f_wantedRest f_wantedLeft f_formCount f_bestA f_bestB f_bestC f_cells f_depth f_entries f_outcome f_freeNow f_lowest a_body a_lengths a_treeEnd a_accepted a_sig a_sizes a_input a_result a_state a_reached a_forms a_heads a_tails a_freed a_ints a_lists a_frameFn a_framePc g_purse g_bases g_cells g_supply g_depth g_entries b_lastRun b_rates b_rest b_known b_base b_head b_tail b_dead b_lists hl hP hF hS hZ
  have hR : i_Rel (k + 5) (f_parts, f_most, f_functions, f_openFn, f_lacking, f_subject, f_wantedRest, f_wantedLeft, f_formCount, f_bestA, f_bestB, f_bestC, f_cells, f_depth, f_entries, f_outcome, f_freeNow, f_lowest, a_body, a_lengths, a_treeEnd, a_accepted, a_sig, a_sizes, a_input, a_result, a_state, a_reached, a_forms, a_heads, a_tails, a_freed, a_ints, a_lists, a_frameFn, a_framePc) (f_parts, f_most, f_functions, f_lacking, f_openFn, g_purse, g_bases, g_cells, g_supply, g_depth, g_entries, a_body, a_lengths, a_sig, a_accepted, a_input, a_result, a_sizes, b_lastRun, b_rates, b_rest, b_known, b_base, b_head, b_tail, b_dead, a_frameFn, a_framePc, a_ints, b_lists) := pt_in hl hP hF hS hZ
  obtain ⟨F, ln, hF1, hF4, hln, hz, hC⟩ := hF
  unfold wpX_pending
  rcases hC with ⟨h1, h2, hC⟩ | ⟨g, L, h1, h2, _⟩
  · exact br_f (by rw [h1]; decide) ⟨h2.symm, hR⟩
  · exact br_t (by rw [h2]; exact nI_pos' (by omega)) ⟨rfl, hR⟩
theorem i_vc_status {k : Nat} {u : SX} {v : SY} (I : i_Rel k u v) (hk : k + 5 ≤ 2562) (v1 : Int32) : wpX_status (fun r => wpY_status (fun r' => r' = r ∧ i_Rel (k + 5) u v) v v1) u v1 := by
  refine pt_el (fun u v => wpX_status (fun r => wpY_status (fun r' => r' = r ∧ i_Rel (k + 5) u v) v v1) u v1) ?_ I
  intro f_parts f_most f_functions f_openFn f_lacking f_subject f_wantedRest f_wantedLeft f_formCount f_bestA f_bestB f_bestC f_cells f_depth f_entries f_outcome f_freeNow f_lowest a_body a_lengths a_treeEnd a_accepted a_sig a_sizes a_input a_result a_state a_reached a_forms a_heads a_tails a_freed a_ints a_lists a_frameFn a_framePc g_purse g_bases g_cells g_supply g_depth g_entries b_lastRun b_rates b_rest b_known b_base b_head b_tail b_dead b_lists hl hP hF hS hZ
  have hR : i_Rel (k + 5) (f_parts, f_most, f_functions, f_openFn, f_lacking, f_subject, f_wantedRest, f_wantedLeft, f_formCount, f_bestA, f_bestB, f_bestC, f_cells, f_depth, f_entries, f_outcome, f_freeNow, f_lowest, a_body, a_lengths, a_treeEnd, a_accepted, a_sig, a_sizes, a_input, a_result, a_state, a_reached, a_forms, a_heads, a_tails, a_freed, a_ints, a_lists, a_frameFn, a_framePc) (f_parts, f_most, f_functions, f_lacking, f_openFn, g_purse, g_bases, g_cells, g_supply, g_depth, g_entries, a_body, a_lengths, a_sig, a_accepted, a_input, a_result, a_sizes, b_lastRun, b_rates, b_rest, b_known, b_base, b_head, b_tail, b_dead, a_frameFn, a_framePc, a_ints, b_lists) := pt_in hl hP hF hS hZ
  obtain ⟨r, hX, hY, _⟩ := pt_st (f_parts := f_parts) (f_most := f_most) (f_functions := f_functions) (f_openFn := f_openFn) (f_lacking := f_lacking) (f_subject := f_subject) (f_wantedRest := f_wantedRest) (f_wantedLeft := f_wantedLeft) (f_formCount := f_formCount) (f_bestA := f_bestA) (f_bestB := f_bestB) (f_bestC := f_bestC) (f_cells := f_cells) (f_depth := f_depth) (f_entries := f_entries) (f_outcome := f_outcome) (f_freeNow := f_freeNow) (f_lowest := f_lowest) (a_body := a_body) (a_lengths := a_lengths) (a_treeEnd := a_treeEnd) (a_accepted := a_accepted) (a_sig := a_sig) (a_sizes := a_sizes) (a_input := a_input) (a_result := a_result) (a_state := a_state) (a_reached := a_reached) (a_forms := a_forms) (a_heads := a_heads) (a_tails := a_tails) (a_freed := a_freed) (a_ints := a_ints) (a_lists := a_lists) (a_frameFn := a_frameFn) (a_framePc := a_framePc) (g_purse := g_purse) (g_bases := g_bases) (g_cells := g_cells) (g_supply := g_supply) (g_depth := g_depth) (g_entries := g_entries) (b_lastRun := b_lastRun) (b_rates := b_rates) (b_rest := b_rest) (b_known := b_known) (b_base := b_base) (b_head := b_head) (b_tail := b_tail) (b_dead := b_dead) (b_lists := b_lists) hF v1
  exact hX _ (hY _ ⟨rfl, hR⟩)
theorem i_vc_length {k : Nat} {u : SX} {v : SY} (I : i_Rel k u v) (hk : k + 5 ≤ 2562) (v1 : Int32) : wpX_length (fun r => wpY_length (fun r' => r' = r ∧ i_Rel (k + 5) u v) v v1) u v1 := by
  refine pt_el (fun u v => wpX_length (fun r => wpY_length (fun r' => r' = r ∧ i_Rel (k + 5) u v) v v1) u v1) ?_ I
  intro f_parts f_most f_functions f_openFn f_lacking f_subject f_wantedRest f_wantedLeft f_formCount f_bestA f_bestB f_bestC f_cells f_depth f_entries f_outcome f_freeNow f_lowest a_body a_lengths a_treeEnd a_accepted a_sig a_sizes a_input a_result a_state a_reached a_forms a_heads a_tails a_freed a_ints a_lists a_frameFn a_framePc g_purse g_bases g_cells g_supply g_depth g_entries b_lastRun b_rates b_rest b_known b_base b_head b_tail b_dead b_lists hl hP hF hS hZ
  have hR : i_Rel (k + 5) (f_parts, f_most, f_functions, f_openFn, f_lacking, f_subject, f_wantedRest, f_wantedLeft, f_formCount, f_bestA, f_bestB, f_bestC, f_cells, f_depth, f_entries, f_outcome, f_freeNow, f_lowest, a_body, a_lengths, a_treeEnd, a_accepted, a_sig, a_sizes, a_input, a_result, a_state, a_reached, a_forms, a_heads, a_tails, a_freed, a_ints, a_lists, a_frameFn, a_framePc) (f_parts, f_most, f_functions, f_lacking, f_openFn, g_purse, g_bases, g_cells, g_supply, g_depth, g_entries, a_body, a_lengths, a_sig, a_accepted, a_input, a_result, a_sizes, b_lastRun, b_rates, b_rest, b_known, b_base, b_head, b_tail, b_dead, a_frameFn, a_framePc, a_ints, b_lists) := pt_in hl hP hF hS hZ
  obtain ⟨r, hX, hY, h⟩ := pt_st (f_parts := f_parts) (f_most := f_most) (f_functions := f_functions) (f_openFn := f_openFn) (f_lacking := f_lacking) (f_subject := f_subject) (f_wantedRest := f_wantedRest) (f_wantedLeft := f_wantedLeft) (f_formCount := f_formCount) (f_bestA := f_bestA) (f_bestB := f_bestB) (f_bestC := f_bestC) (f_cells := f_cells) (f_depth := f_depth) (f_entries := f_entries) (f_outcome := f_outcome) (f_freeNow := f_freeNow) (f_lowest := f_lowest) (a_body := a_body) (a_lengths := a_lengths) (a_treeEnd := a_treeEnd) (a_accepted := a_accepted) (a_sig := a_sig) (a_sizes := a_sizes) (a_input := a_input) (a_result := a_result) (a_state := a_state) (a_reached := a_reached) (a_forms := a_forms) (a_heads := a_heads) (a_tails := a_tails) (a_freed := a_freed) (a_ints := a_ints) (a_lists := a_lists) (a_frameFn := a_frameFn) (a_framePc := a_framePc) (g_purse := g_purse) (g_bases := g_bases) (g_cells := g_cells) (g_supply := g_supply) (g_depth := g_depth) (g_entries := g_entries) (b_lastRun := b_lastRun) (b_rates := b_rates) (b_rest := b_rest) (b_known := b_known) (b_base := b_base) (b_head := b_head) (b_tail := b_tail) (b_dead := b_dead) (b_lists := b_lists) hF v1
  unfold wpX_length
  refine hX _ ?_
  rcases h with ⟨rfl, h⟩ | ⟨f, n, rfl, hf, hlt, hn, hn2, h⟩
  · refine br_t rfl ?_
    rcases h with h | ⟨h, h1⟩
    · exact br_t h ⟨rfl, hR⟩
    · exact br_f h (br_f h1 ⟨rfl, hR⟩)
  · have hr : ¬ r = 0 := by
      rcases h with ⟨rfl, _⟩ | ⟨rfl | ⟨rfl, _⟩, _⟩ <;> decide
    have hi : vp_in (nI f) 4 := vp_in_nI hf (by omega)
    exact br_f hr ⟨hi, br_f (nI_pos (by omega)) (br_t hlt ⟨hi, rfl, hR⟩)⟩
theorem i_vc_code {k : Nat} {u : SX} {v : SY} (I : i_Rel k u v) (hk : k + 5 ≤ 2562) (v1 : Int32) (v2 : Int32) (v3 : Int32) : wpX_code (fun r => wpY_code (fun r' => r' = r ∧ i_Rel (k + 5) u v) v v1 v2 v3) u v1 v2 v3 := by
  refine pt_el (fun u v => wpX_code (fun r => wpY_code (fun r' => r' = r ∧ i_Rel (k + 5) u v) v v1 v2 v3) u v1 v2 v3) ?_ I
  intro f_parts f_most f_functions f_openFn f_lacking f_subject f_wantedRest f_wantedLeft f_formCount f_bestA f_bestB f_bestC f_cells f_depth f_entries f_outcome f_freeNow f_lowest a_body a_lengths a_treeEnd a_accepted a_sig a_sizes a_input a_result a_state a_reached a_forms a_heads a_tails a_freed a_ints a_lists a_frameFn a_framePc g_purse g_bases g_cells g_supply g_depth g_entries b_lastRun b_rates b_rest b_known b_base b_head b_tail b_dead b_lists hl hP hF hS hZ
  have hR : i_Rel (k + 5) (f_parts, f_most, f_functions, f_openFn, f_lacking, f_subject, f_wantedRest, f_wantedLeft, f_formCount, f_bestA, f_bestB, f_bestC, f_cells, f_depth, f_entries, f_outcome, f_freeNow, f_lowest, a_body, a_lengths, a_treeEnd, a_accepted, a_sig, a_sizes, a_input, a_result, a_state, a_reached, a_forms, a_heads, a_tails, a_freed, a_ints, a_lists, a_frameFn, a_framePc) (f_parts, f_most, f_functions, f_lacking, f_openFn, g_purse, g_bases, g_cells, g_supply, g_depth, g_entries, a_body, a_lengths, a_sig, a_accepted, a_input, a_result, a_sizes, b_lastRun, b_rates, b_rest, b_known, b_base, b_head, b_tail, b_dead, a_frameFn, a_framePc, a_ints, b_lists) := pt_in hl hP hF hS hZ
  obtain ⟨r, hX, hY, h⟩ := pt_st (f_parts := f_parts) (f_most := f_most) (f_functions := f_functions) (f_openFn := f_openFn) (f_lacking := f_lacking) (f_subject := f_subject) (f_wantedRest := f_wantedRest) (f_wantedLeft := f_wantedLeft) (f_formCount := f_formCount) (f_bestA := f_bestA) (f_bestB := f_bestB) (f_bestC := f_bestC) (f_cells := f_cells) (f_depth := f_depth) (f_entries := f_entries) (f_outcome := f_outcome) (f_freeNow := f_freeNow) (f_lowest := f_lowest) (a_body := a_body) (a_lengths := a_lengths) (a_treeEnd := a_treeEnd) (a_accepted := a_accepted) (a_sig := a_sig) (a_sizes := a_sizes) (a_input := a_input) (a_result := a_result) (a_state := a_state) (a_reached := a_reached) (a_forms := a_forms) (a_heads := a_heads) (a_tails := a_tails) (a_freed := a_freed) (a_ints := a_ints) (a_lists := a_lists) (a_frameFn := a_frameFn) (a_framePc := a_framePc) (g_purse := g_purse) (g_bases := g_bases) (g_cells := g_cells) (g_supply := g_supply) (g_depth := g_depth) (g_entries := g_entries) (b_lastRun := b_lastRun) (b_rates := b_rates) (b_rest := b_rest) (b_known := b_known) (b_base := b_base) (b_head := b_head) (b_tail := b_tail) (b_dead := b_dead) (b_lists := b_lists) hF v1
  unfold wpX_code
  unfold wpX_length
  refine hX _ ?_
  rcases h with ⟨rfl, h⟩ | ⟨f, n, rfl, hf, hlt, hn, hn2, h⟩
  · refine br_t rfl ?_
    have hY0 : wpY_code (fun r' => r' = 0 ∧ i_Rel (k + 5) (f_parts, f_most, f_functions, f_openFn, f_lacking, f_subject, f_wantedRest, f_wantedLeft, f_formCount, f_bestA, f_bestB, f_bestC, f_cells, f_depth, f_entries, f_outcome, f_freeNow, f_lowest, a_body, a_lengths, a_treeEnd, a_accepted, a_sig, a_sizes, a_input, a_result, a_state, a_reached, a_forms, a_heads, a_tails, a_freed, a_ints, a_lists, a_frameFn, a_framePc) (f_parts, f_most, f_functions, f_lacking, f_openFn, g_purse, g_bases, g_cells, g_supply, g_depth, g_entries, a_body, a_lengths, a_sig, a_accepted, a_input, a_result, a_sizes, b_lastRun, b_rates, b_rest, b_known, b_base, b_head, b_tail, b_dead, a_frameFn, a_framePc, a_ints, b_lists)) (f_parts, f_most, f_functions, f_lacking, f_openFn, g_purse, g_bases, g_cells, g_supply, g_depth, g_entries, a_body, a_lengths, a_sig, a_accepted, a_input, a_result, a_sizes, b_lastRun, b_rates, b_rest, b_known, b_base, b_head, b_tail, b_dead, a_frameFn, a_framePc, a_ints, b_lists) v1 v2 v3 := by
      rcases h with h | ⟨h, h1⟩
      · exact br_t h ⟨rfl, hR⟩
      · exact br_f h (br_t (Int32.not_lt.mp h1) ⟨rfl, hR⟩)
    by_cases h2 : v2 < 0
    · exact br_t h2 hY0
    · exact br_f h2 (br_t (Int32.not_lt.mp h2) hY0)
  · have hr : ¬ r = 0 := by
      rcases h with ⟨rfl, _⟩ | ⟨rfl | ⟨rfl, _⟩, _⟩ <;> decide
    have hi : vp_in (nI f) 4 := vp_in_nI hf (by omega)
    have hcl : (nI f).toNatClampNeg = f := nI_clamp (by omega)
    have h0 : ¬ nI f < 0 := nI_pos (by omega)
    have h1 : ¬ f_functions ≤ nI f := Int32.not_le.mpr hlt
    refine br_f hr ⟨hi, ?_⟩
    by_cases h2 : v2 < 0
    · exact br_t h2 (br_f h0 (br_f h1 (br_t h2 ⟨rfl, hR⟩)))
    · refine br_f h2 ?_
      by_cases h3 : a_lengths (nI f).toNatClampNeg ≤ v2
      · exact br_t h3 (br_f h0 (br_f h1 (br_f h2 ⟨hi, br_t h3 ⟨rfl, hR⟩⟩)))
      · refine br_f h3 (pt_wi (t := 3) (by omega) ?_ ?_)
        · rintro (h4 | ⟨h4, h5⟩)
          · exact br_t rfl (br_f h0 (br_f h1 (br_f h2 ⟨hi, br_f h3 (br_t h4 ⟨rfl, hR⟩)⟩)))
          · exact br_t rfl (br_f h0 (br_f h1 (br_f h2 ⟨hi, br_f h3 (br_f h4 (br_f (Int32.not_le.mpr h5) ⟨rfl, hR⟩))⟩)))
        · rintro j hj rfl
          obtain ⟨m, hm, rfl⟩ := nI_of h2
          rw [hcl, hn, nI_leI (by omega) hm] at h3
          have hix : vp_in ((nI f * 12 + nI m) * 4 + nI j) 192 := by
            rw [ba_at, nI_add]; exact vp_in_nI (by omega) (by omega)
          have h3' : ¬ a_lengths (nI f).toNatClampNeg ≤ nI m := by
            rw [hcl, hn, nI_leI (by omega) hm]; exact h3
          exact br_f (by decide) ⟨hix, br_f h0 (br_f h1 (br_f h2 ⟨hi, br_f h3' (br_f (nI_pos (by omega)) (br_t (nI_le (b := 3) hj (by omega)) ⟨hix, rfl, hR⟩))⟩))⟩
theorem i_vc_put {k : Nat} {u : SX} {v : SY} (I : i_Rel k u v) (hk : k + 5 ≤ 2562) (v1 : Int32) (v2 : Int32) : wpX_put (fun r u' => wpY_put (fun r' v' => r' = r ∧ i_Rel (k + 5) u' v') v v1 v2) u v1 v2 := by
  refine pt_el (fun u v => wpX_put (fun r u' => wpY_put (fun r' v' => r' = r ∧ i_Rel (k + 5) u' v') v v1 v2) u v1 v2) ?_ I
  intro f_parts f_most f_functions f_openFn f_lacking f_subject f_wantedRest f_wantedLeft f_formCount f_bestA f_bestB f_bestC f_cells f_depth f_entries f_outcome f_freeNow f_lowest a_body a_lengths a_treeEnd a_accepted a_sig a_sizes a_input a_result a_state a_reached a_forms a_heads a_tails a_freed a_ints a_lists a_frameFn a_framePc g_purse g_bases g_cells g_supply g_depth g_entries b_lastRun b_rates b_rest b_known b_base b_head b_tail b_dead b_lists hl hP hF hS hZ
  have hR : i_Rel (k + 5) (f_parts, f_most, f_functions, f_openFn, f_lacking, f_subject, f_wantedRest, f_wantedLeft, f_formCount, f_bestA, f_bestB, f_bestC, f_cells, f_depth, f_entries, f_outcome, f_freeNow, f_lowest, a_body, a_lengths, a_treeEnd, a_accepted, a_sig, a_sizes, a_input, a_result, a_state, a_reached, a_forms, a_heads, a_tails, a_freed, a_ints, a_lists, a_frameFn, a_framePc) (f_parts, f_most, f_functions, f_lacking, f_openFn, g_purse, g_bases, g_cells, g_supply, g_depth, g_entries, a_body, a_lengths, a_sig, a_accepted, a_input, a_result, a_sizes, b_lastRun, b_rates, b_rest, b_known, b_base, b_head, b_tail, b_dead, a_frameFn, a_framePc, a_ints, b_lists) := pt_in hl hP hF hS hZ
  unfold wpX_put
  refine pt_wi (t := 1) (by omega) ?_ ?_
  · intro h
    have h0 : ¬ v1 = 0 := by
      rcases h with h | h
      · rintro rfl; exact absurd h (by decide)
      · rintro rfl; exact absurd h.2 (by decide)
    have h1 : ¬ v1 = 1 := by
      rcases h with h | h
      · rintro rfl; exact absurd h (by decide)
      · rintro rfl; exact absurd h.2 (by decide)
    exact br_t rfl (br_f h0 (br_f h1 ⟨rfl, hR⟩))
  · rintro j hj rfl
    have hcl : (nI j).toNatClampNeg = j := nI_clamp (by omega)
    have hi : vp_in (nI j) 3 := vp_in_nI (by omega) (by omega)
    obtain ⟨s0, s1, s2, e0, l0, e1, l1, e2, l2⟩ := hZ
    obtain ⟨s, hs, ls⟩ : ∃ s : Nat, a_sizes j = nI s ∧ s ≤ 8 := by
      rcases (by omega : j = 0 ∨ j = 1) with rfl | rfl
      · exact ⟨s0, e0, l0⟩
      · exact ⟨s1, e1, l1⟩
    have hY0 : ∀ post : Int32 → SY → Prop, wY_put_12 post (nI j) v2 f_parts f_most f_functions f_lacking f_openFn g_purse g_bases g_cells g_supply g_depth g_entries a_body a_lengths a_sig a_accepted a_input a_result a_sizes b_lastRun b_rates b_rest b_known b_base b_head b_tail b_dead a_frameFn a_framePc a_ints b_lists → wpY_put post (f_parts, f_most, f_functions, f_lacking, f_openFn, g_purse, g_bases, g_cells, g_supply, g_depth, g_entries, a_body, a_lengths, a_sig, a_accepted, a_input, a_result, a_sizes, b_lastRun, b_rates, b_rest, b_known, b_base, b_head, b_tail, b_dead, a_frameFn, a_framePc, a_ints, b_lists) (nI j) v2 := by
      intro post h
      rcases (by omega : j = 0 ∨ j = 1) with rfl | rfl
      · exact br_t rfl h
      · exact br_f (by decide) (br_t rfl h)
    refine br_f (by decide) ⟨hi, ?_⟩
    by_cases h8 : s < 8
    · have h8a : a_sizes (nI j).toNatClampNeg < 8 := by rw [hcl, hs]; exact nI_lt (b := 8) h8 (by omega)
      have h8b : ¬ a_sizes (nI j).toNatClampNeg = 8 := by rw [hcl, hs]; exact fun e => absurd ((nI_eq (b := 8) (by omega) (by omega)).mp e) (by omega)
      have hix : vp_in (nI j * 8 + a_sizes (nI j).toNatClampNeg) 16 := by
        rw [hcl, hs, ba_m8, nI_add]; exact vp_in_nI (by omega) (by omega)
      refine br_t h8a ⟨hi, hix, nm_e ⟨hi, hi, nm_e ⟨hi, hY0 _ (And.intro hi (br_f h8b ⟨hi, hix, nm_e ⟨hi, hi, nm_e ⟨hi, rfl, pt_in hl hP hF hS ?_⟩⟩⟩))⟩⟩⟩
      rw [hcl, hs, nI_1]
      rcases (by omega : j = 0 ∨ j = 1) with rfl | rfl
      · exact ⟨s + 1, s1, s2, pk_us, by omega, (pk_un (by omega)).trans e1, l1, (pk_un (by omega)).trans e2, l2⟩
      · exact ⟨s0, s + 1, s2, (pk_un (by omega)).trans e0, l0, pk_us, by omega, (pk_un (by omega)).trans e2, l2⟩
    · have h8a : ¬ a_sizes (nI j).toNatClampNeg < 8 := by rw [hcl, hs]; exact nI_nlt (b := 8) (by omega) (by omega)
      have h8b : a_sizes (nI j).toNatClampNeg = 8 := by rw [hcl, hs, show s = 8 by omega]; rfl
      exact br_f h8a (hY0 _ (And.intro hi (br_t h8b ⟨rfl, hR⟩)))
theorem i_vc_clear {k : Nat} {u : SX} {v : SY} (I : i_Rel k u v) (hk : k + 5 ≤ 2562) (v1 : Int32) : wpX_clear (fun r u' => wpY_clear (fun r' v' => r' = r ∧ i_Rel (k + 5) u' v') v v1) u v1 := by
  refine pt_el (fun u v => wpX_clear (fun r u' => wpY_clear (fun r' v' => r' = r ∧ i_Rel (k + 5) u' v') v v1) u v1) ?_ I
  intro f_parts f_most f_functions f_openFn f_lacking f_subject f_wantedRest f_wantedLeft f_formCount f_bestA f_bestB f_bestC f_cells f_depth f_entries f_outcome f_freeNow f_lowest a_body a_lengths a_treeEnd a_accepted a_sig a_sizes a_input a_result a_state a_reached a_forms a_heads a_tails a_freed a_ints a_lists a_frameFn a_framePc g_purse g_bases g_cells g_supply g_depth g_entries b_lastRun b_rates b_rest b_known b_base b_head b_tail b_dead b_lists hl hP hF hS hZ
  have hR : i_Rel (k + 5) (f_parts, f_most, f_functions, f_openFn, f_lacking, f_subject, f_wantedRest, f_wantedLeft, f_formCount, f_bestA, f_bestB, f_bestC, f_cells, f_depth, f_entries, f_outcome, f_freeNow, f_lowest, a_body, a_lengths, a_treeEnd, a_accepted, a_sig, a_sizes, a_input, a_result, a_state, a_reached, a_forms, a_heads, a_tails, a_freed, a_ints, a_lists, a_frameFn, a_framePc) (f_parts, f_most, f_functions, f_lacking, f_openFn, g_purse, g_bases, g_cells, g_supply, g_depth, g_entries, a_body, a_lengths, a_sig, a_accepted, a_input, a_result, a_sizes, b_lastRun, b_rates, b_rest, b_known, b_base, b_head, b_tail, b_dead, a_frameFn, a_framePc, a_ints, b_lists) := pt_in hl hP hF hS hZ
  unfold wpX_clear
  refine pt_wi (t := 1) (by omega) ?_ ?_
  · intro h
    have h0 : ¬ v1 = 0 := by
      rcases h with h | h
      · rintro rfl; exact absurd h (by decide)
      · rintro rfl; exact absurd h.2 (by decide)
    have h1 : ¬ v1 = 1 := by
      rcases h with h | h
      · rintro rfl; exact absurd h (by decide)
      · rintro rfl; exact absurd h.2 (by decide)
    exact br_t rfl (br_f h0 (br_f h1 ⟨rfl, hR⟩))
  · rintro j hj rfl
    obtain ⟨s0, s1, s2, e0, l0, e1, l1, e2, l2⟩ := hZ
    rcases (by omega : j = 0 ∨ j = 1) with rfl | rfl
    · have hi : vp_in (nI 0) 3 := vp_in_nI (by omega) (by omega)
      exact br_f (by decide) ⟨hi, nm_e (br_t rfl ⟨hi, nm_e ⟨rfl, pt_in hl hP hF hS ⟨0, s1, s2, rfl, by omega, e1, l1, e2, l2⟩⟩⟩)⟩
    · have hi : vp_in (nI 1) 3 := vp_in_nI (by omega) (by omega)
      exact br_f (by decide) ⟨hi, nm_e (br_f (by decide) (br_t rfl ⟨hi, nm_e ⟨rfl, pt_in hl hP hF hS ⟨s0, 0, s2, e0, l0, rfl, by omega, e2, l2⟩⟩⟩))⟩
theorem i_vc_size {k : Nat} {u : SX} {v : SY} (I : i_Rel k u v) (hk : k + 5 ≤ 2562) (v1 : Int32) : wpX_size (fun r => wpY_size (fun r' => r' = r ∧ i_Rel (k + 5) u v) v v1) u v1 := by
  refine pt_el (fun u v => wpX_size (fun r => wpY_size (fun r' => r' = r ∧ i_Rel (k + 5) u v) v v1) u v1) ?_ I
  intro f_parts f_most f_functions f_openFn f_lacking f_subject f_wantedRest f_wantedLeft f_formCount f_bestA f_bestB f_bestC f_cells f_depth f_entries f_outcome f_freeNow f_lowest a_body a_lengths a_treeEnd a_accepted a_sig a_sizes a_input a_result a_state a_reached a_forms a_heads a_tails a_freed a_ints a_lists a_frameFn a_framePc g_purse g_bases g_cells g_supply g_depth g_entries b_lastRun b_rates b_rest b_known b_base b_head b_tail b_dead b_lists hl hP hF hS hZ
  have hR : i_Rel (k + 5) (f_parts, f_most, f_functions, f_openFn, f_lacking, f_subject, f_wantedRest, f_wantedLeft, f_formCount, f_bestA, f_bestB, f_bestC, f_cells, f_depth, f_entries, f_outcome, f_freeNow, f_lowest, a_body, a_lengths, a_treeEnd, a_accepted, a_sig, a_sizes, a_input, a_result, a_state, a_reached, a_forms, a_heads, a_tails, a_freed, a_ints, a_lists, a_frameFn, a_framePc) (f_parts, f_most, f_functions, f_lacking, f_openFn, g_purse, g_bases, g_cells, g_supply, g_depth, g_entries, a_body, a_lengths, a_sig, a_accepted, a_input, a_result, a_sizes, b_lastRun, b_rates, b_rest, b_known, b_base, b_head, b_tail, b_dead, a_frameFn, a_framePc, a_ints, b_lists) := pt_in hl hP hF hS hZ
  unfold wpX_size
  refine pt_wi (t := 2) (by omega) ?_ ?_
  · rintro (h | ⟨h, h2⟩)
    · exact br_t rfl (br_t h ⟨rfl, hR⟩)
    · exact br_t rfl (br_f h (br_f (Int32.not_le.mpr h2) ⟨rfl, hR⟩))
  · rintro j hj rfl
    have hi : vp_in (nI j) 3 := vp_in_nI (by omega) (by omega)
    exact br_f (by decide) ⟨hi, br_f (nI_pos (by omega)) (br_t (nI_le (b := 2) hj (by omega)) ⟨hi, rfl, hR⟩)⟩
theorem i_vc_item {k : Nat} {u : SX} {v : SY} (I : i_Rel k u v) (hk : k + 5 ≤ 2562) (v1 : Int32) (v2 : Int32) : wpX_item (fun r => wpY_item (fun r' => r' = r ∧ i_Rel (k + 5) u v) v v1 v2) u v1 v2 := by
  refine pt_el (fun u v => wpX_item (fun r => wpY_item (fun r' => r' = r ∧ i_Rel (k + 5) u v) v v1 v2) u v1 v2) ?_ I
  intro f_parts f_most f_functions f_openFn f_lacking f_subject f_wantedRest f_wantedLeft f_formCount f_bestA f_bestB f_bestC f_cells f_depth f_entries f_outcome f_freeNow f_lowest a_body a_lengths a_treeEnd a_accepted a_sig a_sizes a_input a_result a_state a_reached a_forms a_heads a_tails a_freed a_ints a_lists a_frameFn a_framePc g_purse g_bases g_cells g_supply g_depth g_entries b_lastRun b_rates b_rest b_known b_base b_head b_tail b_dead b_lists hl hP hF hS hZ
  have hR : i_Rel (k + 5) (f_parts, f_most, f_functions, f_openFn, f_lacking, f_subject, f_wantedRest, f_wantedLeft, f_formCount, f_bestA, f_bestB, f_bestC, f_cells, f_depth, f_entries, f_outcome, f_freeNow, f_lowest, a_body, a_lengths, a_treeEnd, a_accepted, a_sig, a_sizes, a_input, a_result, a_state, a_reached, a_forms, a_heads, a_tails, a_freed, a_ints, a_lists, a_frameFn, a_framePc) (f_parts, f_most, f_functions, f_lacking, f_openFn, g_purse, g_bases, g_cells, g_supply, g_depth, g_entries, a_body, a_lengths, a_sig, a_accepted, a_input, a_result, a_sizes, b_lastRun, b_rates, b_rest, b_known, b_base, b_head, b_tail, b_dead, a_frameFn, a_framePc, a_ints, b_lists) := pt_in hl hP hF hS hZ
  unfold wpX_item
  unfold wpX_size
  refine pt_wi (t := 2) (by omega) ?_ ?_
  · intro h
    refine br_t rfl ?_
    have hY0 : wpY_item (fun r' => r' = 0 ∧ i_Rel (k + 5) (f_parts, f_most, f_functions, f_openFn, f_lacking, f_subject, f_wantedRest, f_wantedLeft, f_formCount, f_bestA, f_bestB, f_bestC, f_cells, f_depth, f_entries, f_outcome, f_freeNow, f_lowest, a_body, a_lengths, a_treeEnd, a_accepted, a_sig, a_sizes, a_input, a_result, a_state, a_reached, a_forms, a_heads, a_tails, a_freed, a_ints, a_lists, a_frameFn, a_framePc) (f_parts, f_most, f_functions, f_lacking, f_openFn, g_purse, g_bases, g_cells, g_supply, g_depth, g_entries, a_body, a_lengths, a_sig, a_accepted, a_input, a_result, a_sizes, b_lastRun, b_rates, b_rest, b_known, b_base, b_head, b_tail, b_dead, a_frameFn, a_framePc, a_ints, b_lists)) (f_parts, f_most, f_functions, f_lacking, f_openFn, g_purse, g_bases, g_cells, g_supply, g_depth, g_entries, a_body, a_lengths, a_sig, a_accepted, a_input, a_result, a_sizes, b_lastRun, b_rates, b_rest, b_known, b_base, b_head, b_tail, b_dead, a_frameFn, a_framePc, a_ints, b_lists) v1 v2 := by
      rcases h with h | ⟨h, h2⟩
      · exact br_t h ⟨rfl, hR⟩
      · exact br_f h (br_t h2 ⟨rfl, hR⟩)
    by_cases h2 : v2 < 0
    · exact br_t h2 hY0
    · exact br_f h2 (br_f h2 hY0)
  · rintro j hj rfl
    have hcl : (nI j).toNatClampNeg = j := nI_clamp (by omega)
    have hi : vp_in (nI j) 3 := vp_in_nI (by omega) (by omega)
    have h0 : ¬ nI j < 0 := nI_pos (by omega)
    have h1 : ¬ 2 < nI j := nI_nlt (a := 2) hj (by omega)
    obtain ⟨s0, s1, s2, e0, l0, e1, l1, e2, l2⟩ := hZ
    refine br_f (by decide) ⟨hi, ?_⟩
    by_cases h2 : v2 < 0
    · exact br_t h2 (br_f h0 (br_f h1 (br_t h2 ⟨rfl, hR⟩)))
    · refine br_f h2 ?_
      by_cases h3 : v2 < a_sizes (nI j).toNatClampNeg
      · obtain ⟨m, hm, rfl⟩ := nI_of h2
        refine br_t h3 ?_
        rcases (by omega : j = 2 ∨ j < 2) with rfl | hj2
        · have h3' := h3
          rw [hcl, e2, nI_ltI hm (by omega)] at h3'
          exact br_t rfl ⟨vp_in_nI (by omega) (by omega), br_f h0 (br_f h1 (br_f h2 ⟨hi, br_t h3 (br_t rfl ⟨vp_in_nI (by omega) (by omega), rfl, hR⟩)⟩))⟩
        · have hn2 : ¬ nI j = 2 := fun e => absurd ((nI_eq (b := 2) (by omega) (by omega)).mp e) (by omega)
          have hm8 : m < 8 := by
            have h3' := h3
            rw [hcl] at h3'
            rcases (by omega : j = 0 ∨ j = 1) with rfl | rfl
            · rw [e0, nI_ltI hm (by omega)] at h3'; omega
            · rw [e1, nI_ltI hm (by omega)] at h3'; omega
          have hix : vp_in (nI j * 8 + nI m) 16 := by
            rw [ba_m8, nI_add]; exact vp_in_nI (by omega) (by omega)
          exact br_f hn2 ⟨hix, br_f h0 (br_f h1 (br_f h2 ⟨hi, br_t h3 (br_f hn2 ⟨hix, rfl, hR⟩)⟩))⟩
      · exact br_f h3 (br_f h0 (br_f h1 (br_f h2 ⟨hi, br_f h3 ⟨rfl, hR⟩⟩)))
theorem i_vc_signature {k : Nat} {u : SX} {v : SY} (I : i_Rel k u v) (hk : k + 5 ≤ 2562) (v1 : Int32) (v2 : Int32) : wpX_signature (fun r => wpY_signature (fun r' => r' = r ∧ i_Rel (k + 5) u v) v v1 v2) u v1 v2 := by
  refine pt_el (fun u v => wpX_signature (fun r => wpY_signature (fun r' => r' = r ∧ i_Rel (k + 5) u v) v v1 v2) u v1 v2) ?_ I
  intro f_parts f_most f_functions f_openFn f_lacking f_subject f_wantedRest f_wantedLeft f_formCount f_bestA f_bestB f_bestC f_cells f_depth f_entries f_outcome f_freeNow f_lowest a_body a_lengths a_treeEnd a_accepted a_sig a_sizes a_input a_result a_state a_reached a_forms a_heads a_tails a_freed a_ints a_lists a_frameFn a_framePc g_purse g_bases g_cells g_supply g_depth g_entries b_lastRun b_rates b_rest b_known b_base b_head b_tail b_dead b_lists hl hP hF hS hZ
  have hR : i_Rel (k + 5) (f_parts, f_most, f_functions, f_openFn, f_lacking, f_subject, f_wantedRest, f_wantedLeft, f_formCount, f_bestA, f_bestB, f_bestC, f_cells, f_depth, f_entries, f_outcome, f_freeNow, f_lowest, a_body, a_lengths, a_treeEnd, a_accepted, a_sig, a_sizes, a_input, a_result, a_state, a_reached, a_forms, a_heads, a_tails, a_freed, a_ints, a_lists, a_frameFn, a_framePc) (f_parts, f_most, f_functions, f_lacking, f_openFn, g_purse, g_bases, g_cells, g_supply, g_depth, g_entries, a_body, a_lengths, a_sig, a_accepted, a_input, a_result, a_sizes, b_lastRun, b_rates, b_rest, b_known, b_base, b_head, b_tail, b_dead, a_frameFn, a_framePc, a_ints, b_lists) := pt_in hl hP hF hS hZ
  obtain ⟨r, hX, hY, h⟩ := pt_st (f_parts := f_parts) (f_most := f_most) (f_functions := f_functions) (f_openFn := f_openFn) (f_lacking := f_lacking) (f_subject := f_subject) (f_wantedRest := f_wantedRest) (f_wantedLeft := f_wantedLeft) (f_formCount := f_formCount) (f_bestA := f_bestA) (f_bestB := f_bestB) (f_bestC := f_bestC) (f_cells := f_cells) (f_depth := f_depth) (f_entries := f_entries) (f_outcome := f_outcome) (f_freeNow := f_freeNow) (f_lowest := f_lowest) (a_body := a_body) (a_lengths := a_lengths) (a_treeEnd := a_treeEnd) (a_accepted := a_accepted) (a_sig := a_sig) (a_sizes := a_sizes) (a_input := a_input) (a_result := a_result) (a_state := a_state) (a_reached := a_reached) (a_forms := a_forms) (a_heads := a_heads) (a_tails := a_tails) (a_freed := a_freed) (a_ints := a_ints) (a_lists := a_lists) (a_frameFn := a_frameFn) (a_framePc := a_framePc) (g_purse := g_purse) (g_bases := g_bases) (g_cells := g_cells) (g_supply := g_supply) (g_depth := g_depth) (g_entries := g_entries) (b_lastRun := b_lastRun) (b_rates := b_rates) (b_rest := b_rest) (b_known := b_known) (b_base := b_base) (b_head := b_head) (b_tail := b_tail) (b_dead := b_dead) (b_lists := b_lists) hF v1
  unfold wpX_signature
  refine hX _ ?_
  by_cases h3 : r = 3
  · refine br_t h3 (pt_wi (t := 4) (by omega) ?_ ?_)
    · intro h4
      unfold wpY_signature
      refine br_t rfl (hY _ (br_t h3 ?_))
      rcases h4 with h4 | ⟨h4, h5⟩
      · exact br_t h4 ⟨rfl, hR⟩
      · exact br_f h4 (br_f (Int32.not_le.mpr h5) ⟨rfl, hR⟩)
    · rintro j hj rfl
      rcases h with ⟨rfl, h⟩ | ⟨f, n, rfl, hf, hlt, hn, hn2, h⟩
      · exact absurd h3 (by decide)
      · have hix : vp_in (nI f * 5 + nI j) 20 := by
          rw [ba_m5, nI_add]; exact vp_in_nI (by omega) (by omega)
        unfold wpY_signature
        exact br_f (by decide) ⟨hix, hY _ (br_t h3 (br_f (nI_pos (by omega)) (br_t (nI_le (b := 4) hj (by omega)) ⟨hix, rfl, hR⟩)))⟩
  · unfold wpY_signature
    exact br_f h3 (hY _ (br_f h3 ⟨rfl, hR⟩))
theorem i_vc_last {k : Nat} {u : SX} {v : SY} (I : i_Rel k u v) (hk : k + 5 ≤ 2562) (v1 : Int32) : wpX_last (fun r => wpY_last (fun r' => r' = r ∧ i_Rel (k + 5) u v) v v1) u v1 := by
  refine pt_el (fun u v => wpX_last (fun r => wpY_last (fun r' => r' = r ∧ i_Rel (k + 5) u v) v v1) u v1) ?_ I
  intro f_parts f_most f_functions f_openFn f_lacking f_subject f_wantedRest f_wantedLeft f_formCount f_bestA f_bestB f_bestC f_cells f_depth f_entries f_outcome f_freeNow f_lowest a_body a_lengths a_treeEnd a_accepted a_sig a_sizes a_input a_result a_state a_reached a_forms a_heads a_tails a_freed a_ints a_lists a_frameFn a_framePc g_purse g_bases g_cells g_supply g_depth g_entries b_lastRun b_rates b_rest b_known b_base b_head b_tail b_dead b_lists hl hP hF hS hZ
  have hR : i_Rel (k + 5) (f_parts, f_most, f_functions, f_openFn, f_lacking, f_subject, f_wantedRest, f_wantedLeft, f_formCount, f_bestA, f_bestB, f_bestC, f_cells, f_depth, f_entries, f_outcome, f_freeNow, f_lowest, a_body, a_lengths, a_treeEnd, a_accepted, a_sig, a_sizes, a_input, a_result, a_state, a_reached, a_forms, a_heads, a_tails, a_freed, a_ints, a_lists, a_frameFn, a_framePc) (f_parts, f_most, f_functions, f_lacking, f_openFn, g_purse, g_bases, g_cells, g_supply, g_depth, g_entries, a_body, a_lengths, a_sig, a_accepted, a_input, a_result, a_sizes, b_lastRun, b_rates, b_rest, b_known, b_base, b_head, b_tail, b_dead, a_frameFn, a_framePc, a_ints, b_lists) := pt_in hl hP hF hS hZ
  obtain ⟨l0, l1, l2⟩ := hl
  by_cases h0 : v1 = 0
  · subst h0
    exact br_t rfl (br_f (by decide) (br_t (by decide) ⟨vp_in_nI (n := 0) (by omega) (by omega), l0, hR⟩))
  refine br_f h0 ?_
  by_cases h1 : v1 = 1
  · subst h1
    exact br_t rfl (br_f (by decide) (br_t (by decide) ⟨vp_in_nI (n := 1) (by omega) (by omega), l1, hR⟩))
  refine br_f h1 ?_
  by_cases h2 : v1 = 2
  · subst h2
    exact br_t rfl (br_f (by decide) (br_t (by decide) ⟨vp_in_nI (n := 2) (by omega) (by omega), l2, hR⟩))
  refine br_f h2 ?_
  rcases ba_w v1 2 (by omega) with h | ⟨h, h'⟩ | ⟨j, hj, rfl⟩
  · exact br_t h ⟨rfl, hR⟩
  · exact br_f h (br_f (Int32.not_le.mpr h') ⟨rfl, hR⟩)
  · rcases (by omega : j = 0 ∨ j = 1 ∨ j = 2) with rfl | rfl | rfl
    · exact absurd rfl h0
    · exact absurd rfl h1
    · exact absurd rfl h2
end
section
/-! emit: the operands, the stores, the ends of the trees -/
section
variable {f_parts f_most f_functions f_openFn f_lacking f_subject f_wantedRest f_wantedLeft f_formCount f_bestA f_bestB f_bestC f_cells f_depth f_entries f_outcome f_freeNow f_lowest : Int32} {a_body a_lengths a_treeEnd a_accepted a_sig a_sizes a_input a_result a_state a_reached a_forms a_heads a_tails a_freed a_ints a_lists a_frameFn a_framePc : Nat → Int32} {g_purse g_bases g_cells g_supply g_depth g_entries : Int32} {b_lastRun b_rates b_rest b_known b_base b_head b_tail b_dead b_lists : Nat → Int32}
theorem pt_w1 {post : Int32 → Prop} {j t : Nat} (h : j ≤ t) (ht : t < 1000) (hp : post 1) : wpX_within post (f_parts, f_most, f_functions, f_openFn, f_lacking, f_subject, f_wantedRest, f_wantedLeft, f_formCount, f_bestA, f_bestB, f_bestC, f_cells, f_depth, f_entries, f_outcome, f_freeNow, f_lowest, a_body, a_lengths, a_treeEnd, a_accepted, a_sig, a_sizes, a_input, a_result, a_state, a_reached, a_forms, a_heads, a_tails, a_freed, a_ints, a_lists, a_frameFn, a_framePc) (nI j) (nI t) :=
  br_f (nI_pos (by omega)) (br_f (nI_nlt h (by omega)) hp)
theorem pt_w0 {post : Int32 → Prop} {v t : Int32} (h : v < 0 ∨ (¬ v < 0 ∧ t < v)) (hp : post 0) : wpX_within post (f_parts, f_most, f_functions, f_openFn, f_lacking, f_subject, f_wantedRest, f_wantedLeft, f_formCount, f_bestA, f_bestB, f_bestC, f_cells, f_depth, f_entries, f_outcome, f_freeNow, f_lowest, a_body, a_lengths, a_treeEnd, a_accepted, a_sig, a_sizes, a_input, a_result, a_state, a_reached, a_forms, a_heads, a_tails, a_freed, a_ints, a_lists, a_frameFn, a_framePc) v t := by
  rcases h with h | h
  · exact br_t h hp
  · exact br_f h.1 (br_t h.2 hp)
theorem pt_y0 {v t : Int32} {A B : Prop} (h : v < 0 ∨ (¬ v < 0 ∧ t < v)) (hp : A) : (v < 0 → A) ∧ (¬ v < 0 → ((v ≤ t → B) ∧ (¬ v ≤ t → A))) := by
  rcases h with h | h
  · exact br_t h hp
  · exact br_f h.1 (br_f (Int32.not_le.mpr h.2) hp)
theorem pt_y1 {j t : Nat} {A B : Prop} (h : j ≤ t) (ht : t < 1000) (hp : B) : (nI j < 0 → A) ∧ (¬ nI j < 0 → ((nI j ≤ nI t → B) ∧ (¬ nI j ≤ nI t → A))) :=
  br_f (nI_pos (by omega)) (br_t (nI_le h (by omega)) hp)
/-- operands that fit -/
def pt_fit (g : Nat) (v1 v2 v3 v4 : Int32) (o p : Nat) : Prop := v1 = nI o ∧ o ≤ 6 ∧ v2 = nI p ∧ p ≤ 3 ∧
  (o ≠ 0 → ∃ q : Nat, v3 = nI q ∧ q ≤ 3 ∧ (o = 2 → q ≤ g)) ∧ (o ≠ 0 → o ≠ 5 → o ≠ 6 → ∃ r : Nat, v4 = nI r ∧ r ≤ 63 ∧ (o ≠ 2 → r ≤ 3))
theorem pt_ops {g : Nat} (hg : g < 4) (ho : f_openFn = nI g) (v1 v2 v3 v4 : Int32) :
    ((∀ post : Int32 → Prop, post 0 → wpX_operandsFit post (f_parts, f_most, f_functions, f_openFn, f_lacking, f_subject, f_wantedRest, f_wantedLeft, f_formCount, f_bestA, f_bestB, f_bestC, f_cells, f_depth, f_entries, f_outcome, f_freeNow, f_lowest, a_body, a_lengths, a_treeEnd, a_accepted, a_sig, a_sizes, a_input, a_result, a_state, a_reached, a_forms, a_heads, a_tails, a_freed, a_ints, a_lists, a_frameFn, a_framePc) v1 v2 v3 v4) ∧ (∀ post : Int32 → SY → Prop, post (-2) (f_parts, f_most, f_functions, f_lacking, f_openFn, g_purse, g_bases, g_cells, g_supply, g_depth, g_entries, a_body, a_lengths, a_sig, a_accepted, a_input, a_result, a_sizes, b_lastRun, b_rates, b_rest, b_known, b_base, b_head, b_tail, b_dead, a_frameFn, a_framePc, a_ints, b_lists) → wpY_emit post (f_parts, f_most, f_functions, f_lacking, f_openFn, g_purse, g_bases, g_cells, g_supply, g_depth, g_entries, a_body, a_lengths, a_sig, a_accepted, a_input, a_result, a_sizes, b_lastRun, b_rates, b_rest, b_known, b_base, b_head, b_tail, b_dead, a_frameFn, a_framePc, a_ints, b_lists) v1 v2 v3 v4)) ∨
    ((∀ post : Int32 → Prop, post 1 → wpX_operandsFit post (f_parts, f_most, f_functions, f_openFn, f_lacking, f_subject, f_wantedRest, f_wantedLeft, f_formCount, f_bestA, f_bestB, f_bestC, f_cells, f_depth, f_entries, f_outcome, f_freeNow, f_lowest, a_body, a_lengths, a_treeEnd, a_accepted, a_sig, a_sizes, a_input, a_result, a_state, a_reached, a_forms, a_heads, a_tails, a_freed, a_ints, a_lists, a_frameFn, a_framePc) v1 v2 v3 v4) ∧ (∀ post : Int32 → SY → Prop, wY_emit_119 post v1 v2 v3 v4 f_parts f_most f_functions f_lacking f_openFn g_purse g_bases g_cells g_supply g_depth g_entries a_body a_lengths a_sig a_accepted a_input a_result a_sizes b_lastRun b_rates b_rest b_known b_base b_head b_tail b_dead a_frameFn a_framePc a_ints b_lists → wpY_emit post (f_parts, f_most, f_functions, f_lacking, f_openFn, g_purse, g_bases, g_cells, g_supply, g_depth, g_entries, a_body, a_lengths, a_sig, a_accepted, a_input, a_result, a_sizes, b_lastRun, b_rates, b_rest, b_known, b_base, b_head, b_tail, b_dead, a_frameFn, a_framePc, a_ints, b_lists) v1 v2 v3 v4) ∧ ∃ o p : Nat, pt_fit g v1 v2 v3 v4 o p) := by
  subst ho
  have h0 : (0 : Int32) ≤ nI g := nI_pos' (by omega)
  rcases ba_w v1 6 (by omega) with h | h | ⟨o, ho, rfl⟩
  · exact Or.inl ⟨fun post hp => by unfold wpX_operandsFit; exact pt_w0 (Or.inl h) (br_t rfl hp), fun post hp => br_t h0 (br_t h hp)⟩
  · exact Or.inl ⟨fun post hp => by unfold wpX_operandsFit; exact pt_w0 (Or.inr h) (br_t rfl hp), fun post hp => br_t h0 (br_f h.1 (br_t h.2 hp))⟩
  have o0 : ¬ nI o < 0 := nI_pos (by omega)
  have o6 : ¬ 6 < nI o := nI_nlt (a := 6) ho (by omega)
  rcases (or_assoc.mpr (ba_w v2 3 (by omega)) : (v2 < 0 ∨ (¬ v2 < 0 ∧ nI 3 < v2)) ∨ ∃ j : Nat, j ≤ 3 ∧ v2 = nI j) with h | ⟨p, hp3, rfl⟩
  · exact Or.inl ⟨fun post hp => by unfold wpX_operandsFit; exact pt_w1 (t := 6) ho (by omega) (br_f (by decide) (pt_w0 h (br_t rfl hp))), fun post hp => br_t h0 (br_f o0 (br_f o6 (pt_y0 h hp)))⟩
  have X1 : ∀ post : Int32 → Prop, (((nI o = 0 → (post 1)) ∧ (¬ nI o = 0 → (((nI o = 2 → (wpX_within (fun r_157 => (((r_157 = 0 → (post 0)) ∧ (¬ r_157 = 0 → (wpX_within (fun r_195 => (((r_195 = 0 → (post 0)) ∧ (¬ r_195 = 0 → (post 1))))) (f_parts, f_most, f_functions, nI g, f_lacking, f_subject, f_wantedRest, f_wantedLeft, f_formCount, f_bestA, f_bestB, f_bestC, f_cells, f_depth, f_entries, f_outcome, f_freeNow, f_lowest, a_body, a_lengths, a_treeEnd, a_accepted, a_sig, a_sizes, a_input, a_result, a_state, a_reached, a_forms, a_heads, a_tails, a_freed, a_ints, a_lists, a_frameFn, a_framePc) v4 63))))) (f_parts, f_most, f_functions, nI g, f_lacking, f_subject, f_wantedRest, f_wantedLeft, f_formCount, f_bestA, f_bestB, f_bestC, f_cells, f_depth, f_entries, f_outcome, f_freeNow, f_lowest, a_body, a_lengths, a_treeEnd, a_accepted, a_sig, a_sizes, a_input, a_result, a_state, a_reached, a_forms, a_heads, a_tails, a_freed, a_ints, a_lists, a_frameFn, a_framePc) v3 (nI g))) ∧ (¬ nI o = 2 → (wpX_within (fun r_79 => (((r_79 = 0 → (post 0)) ∧ (¬ r_79 = 0 → (((nI o = 5 → (post 1)) ∧ (¬ nI o = 5 → (((nI o = 6 → (post 1)) ∧ (¬ nI o = 6 → (wpX_within (fun r_119 => (((r_119 = 0 → (post 0)) ∧ (¬ r_119 = 0 → (post 1))))) (f_parts, f_most, f_functions, nI g, f_lacking, f_subject, f_wantedRest, f_wantedLeft, f_formCount, f_bestA, f_bestB, f_bestC, f_cells, f_depth, f_entries, f_outcome, f_freeNow, f_lowest, a_body, a_lengths, a_treeEnd, a_accepted, a_sig, a_sizes, a_input, a_result, a_state, a_reached, a_forms, a_heads, a_tails, a_freed, a_ints, a_lists, a_frameFn, a_framePc) v4 3))))))))))) (f_parts, f_most, f_functions, nI g, f_lacking, f_subject, f_wantedRest, f_wantedLeft, f_formCount, f_bestA, f_bestB, f_bestC, f_cells, f_depth, f_entries, f_outcome, f_freeNow, f_lowest, a_body, a_lengths, a_treeEnd, a_accepted, a_sig, a_sizes, a_input, a_result, a_state, a_reached, a_forms, a_heads, a_tails, a_freed, a_ints, a_lists, a_frameFn, a_framePc) v3 3))))))) → wpX_operandsFit post (f_parts, f_most, f_functions, nI g, f_lacking, f_subject, f_wantedRest, f_wantedLeft, f_formCount, f_bestA, f_bestB, f_bestC, f_cells, f_depth, f_entries, f_outcome, f_freeNow, f_lowest, a_body, a_lengths, a_treeEnd, a_accepted, a_sig, a_sizes, a_input, a_result, a_state, a_reached, a_forms, a_heads, a_tails, a_freed, a_ints, a_lists, a_frameFn, a_framePc) (nI o) (nI p) v3 v4 :=
    fun post h => by unfold wpX_operandsFit; exact pt_w1 (t := 6) ho (by omega) (br_f (by decide) (pt_w1 (t := 3) hp3 (by omega) (br_f (by decide) h)))
  have Y1 : ∀ post : Int32 → SY → Prop, ((nI o = 2 → (wY_emit_45 post (nI o) (nI p) v3 v4 (nI g) f_parts f_most f_functions f_lacking (nI g) g_purse g_bases g_cells g_supply g_depth g_entries a_body a_lengths a_sig a_accepted a_input a_result a_sizes b_lastRun b_rates b_rest b_known b_base b_head b_tail b_dead a_frameFn a_framePc a_ints b_lists)) ∧ (¬ nI o = 2 → (wY_emit_45 post (nI o) (nI p) v3 v4 3 f_parts f_most f_functions f_lacking (nI g) g_purse g_bases g_cells g_supply g_depth g_entries a_body a_lengths a_sig a_accepted a_input a_result a_sizes b_lastRun b_rates b_rest b_known b_base b_head b_tail b_dead a_frameFn a_framePc a_ints b_lists))) → wpY_emit post (f_parts, f_most, f_functions, f_lacking, nI g, g_purse, g_bases, g_cells, g_supply, g_depth, g_entries, a_body, a_lengths, a_sig, a_accepted, a_input, a_result, a_sizes, b_lastRun, b_rates, b_rest, b_known, b_base, b_head, b_tail, b_dead, a_frameFn, a_framePc, a_ints, b_lists) (nI o) (nI p) v3 v4 :=
    fun post h => br_t h0 (br_f o0 (br_f o6 (pt_y1 (t := 3) hp3 (by omega) h)))
  have n0 : ∀ post : Int32 → SY → Prop, wY_emit_119 post (nI o) (nI p) v3 v4 f_parts f_most f_functions f_lacking (nI g) g_purse g_bases g_cells g_supply g_depth g_entries a_body a_lengths a_sig a_accepted a_input a_result a_sizes b_lastRun b_rates b_rest b_known b_base b_head b_tail b_dead a_frameFn a_framePc a_ints b_lists → ∀ z : Int32, wY_emit_92 post (nI o) (nI p) v3 v4 z f_parts f_most f_functions f_lacking (nI g) g_purse g_bases g_cells g_supply g_depth g_entries a_body a_lengths a_sig a_accepted a_input a_result a_sizes b_lastRun b_rates b_rest b_known b_base b_head b_tail b_dead a_frameFn a_framePc a_ints b_lists := fun post h z => br_f (by decide) h
  rcases (by omega : o = 0 ∨ o = 2 ∨ (o = 5 ∨ o = 6) ∨ (o = 1 ∨ o = 3 ∨ o = 4)) with rfl | rfl | h56 | h134
  · exact Or.inr ⟨fun post hp => X1 post (br_t rfl hp), fun post hp => Y1 post (br_f (by decide) (br_t rfl (br_f (by decide) (br_t rfl (n0 post hp _))))), 0, p, rfl, by omega, rfl, hp3, fun h => absurd rfl h, fun h => absurd rfl h⟩
  · rcases (or_assoc.mpr (ba_w v3 g (by omega)) : (v3 < 0 ∨ (¬ v3 < 0 ∧ nI g < v3)) ∨ ∃ j : Nat, j ≤ g ∧ v3 = nI j) with h | ⟨q, hq, rfl⟩
    · exact Or.inl ⟨fun post hp => X1 post (br_f (by decide) (br_t rfl (pt_w0 h (br_t rfl hp)))), fun post hp => Y1 post (br_t rfl (br_f (by decide) (pt_y0 h hp)))⟩
    rcases (or_assoc.mpr (ba_w v4 63 (by omega)) : (v4 < 0 ∨ (¬ v4 < 0 ∧ nI 63 < v4)) ∨ ∃ j : Nat, j ≤ 63 ∧ v4 = nI j) with h | ⟨r, hr, rfl⟩
    · exact Or.inl ⟨fun post hp => X1 post (br_f (by decide) (br_t rfl (pt_w1 hq (by omega) (br_f (by decide) (pt_w0 h (br_t rfl hp)))))), fun post hp => Y1 post (br_t rfl (br_f (by decide) (pt_y1 hq (by omega) (br_t rfl (br_f (by decide) (br_f (by decide) (br_f (by decide) (br_t rfl (pt_y0 h hp)))))))))⟩
    · exact Or.inr ⟨fun post hp => X1 post (br_f (by decide) (br_t rfl (pt_w1 hq (by omega) (br_f (by decide) (pt_w1 (t := 63) hr (by omega) (br_f (by decide) hp)))))), fun post hp => Y1 post (br_t rfl (br_f (by decide) (pt_y1 hq (by omega) (br_t rfl (br_f (by decide) (br_f (by decide) (br_f (by decide) (br_t rfl (pt_y1 (t := 63) hr (by omega) hp))))))))), 2, p, rfl, by omega, rfl, hp3, fun _ => ⟨q, rfl, by omega, fun _ => hq⟩, fun _ _ _ => ⟨r, rfl, hr, fun h => absurd rfl h⟩⟩
  · have e0 : ¬ nI o = 0 := by rcases h56 with rfl | rfl <;> decide
    have e2 : ¬ nI o = 2 := by rcases h56 with rfl | rfl <;> decide
    rcases (or_assoc.mpr (ba_w v3 3 (by omega)) : (v3 < 0 ∨ (¬ v3 < 0 ∧ nI 3 < v3)) ∨ ∃ j : Nat, j ≤ 3 ∧ v3 = nI j) with h | ⟨q, hq, rfl⟩
    · exact Or.inl ⟨fun post hp => X1 post (br_f e0 (br_f e2 (pt_w0 h (br_t rfl hp)))), fun post hp => Y1 post (br_f e2 (br_f e0 (pt_y0 h hp)))⟩
    refine Or.inr ⟨fun post hp => X1 post (br_f e0 (br_f e2 (pt_w1 (t := 3) hq (by omega) (br_f (by decide) ?_)))), fun post hp => Y1 post (br_f e2 (br_f e0 (pt_y1 (t := 3) hq (by omega) (br_f e2 (br_f e0 ?_))))), o, p, rfl, ho, rfl, hp3, fun _ => ⟨q, rfl, hq, fun h => by omega⟩, fun _ h5 h6 => by omega⟩
    · rcases h56 with rfl | rfl
      · exact br_t rfl hp
      · exact br_f (by decide) (br_t rfl hp)
    · rcases h56 with rfl | rfl
      · exact br_t rfl (n0 post hp _)
      · exact br_f (by decide) (br_t rfl (n0 post hp _))
  · have e0 : ¬ nI o = 0 := by rcases h134 with rfl | rfl | rfl <;> decide
    have e2 : ¬ nI o = 2 := by rcases h134 with rfl | rfl | rfl <;> decide
    have e5 : ¬ nI o = 5 := by rcases h134 with rfl | rfl | rfl <;> decide
    have e6 : ¬ nI o = 6 := by rcases h134 with rfl | rfl | rfl <;> decide
    rcases (or_assoc.mpr (ba_w v3 3 (by omega)) : (v3 < 0 ∨ (¬ v3 < 0 ∧ nI 3 < v3)) ∨ ∃ j : Nat, j ≤ 3 ∧ v3 = nI j) with h | ⟨q, hq, rfl⟩
    · exact Or.inl ⟨fun post hp => X1 post (br_f e0 (br_f e2 (pt_w0 h (br_t rfl hp)))), fun post hp => Y1 post (br_f e2 (br_f e0 (pt_y0 h hp)))⟩
    rcases (or_assoc.mpr (ba_w v4 3 (by omega)) : (v4 < 0 ∨ (¬ v4 < 0 ∧ nI 3 < v4)) ∨ ∃ j : Nat, j ≤ 3 ∧ v4 = nI j) with h | ⟨r, hr, rfl⟩
    · exact Or.inl ⟨fun post hp => X1 post (br_f e0 (br_f e2 (pt_w1 (t := 3) hq (by omega) (br_f (by decide) (br_f e5 (br_f e6 (pt_w0 h (br_t rfl hp)))))))), fun post hp => Y1 post (br_f e2 (br_f e0 (pt_y1 (t := 3) hq (by omega) (br_f e2 (br_f e0 (br_f e5 (br_f e6 (br_t rfl (pt_y0 h hp)))))))))⟩
    · exact Or.inr ⟨fun post hp => X1 post (br_f e0 (br_f e2 (pt_w1 (t := 3) hq (by omega) (br_f (by decide) (br_f e5 (br_f e6 (pt_w1 (t := 3) hr (by omega) (br_f (by decide) hp)))))))), fun post hp => Y1 post (br_f e2 (br_f e0 (pt_y1 (t := 3) hq (by omega) (br_f e2 (br_f e0 (br_f e5 (br_f e6 (br_t rfl (pt_y1 (t := 3) hr (by omega) hp))))))))), o, p, rfl, ho, rfl, hp3, fun _ => ⟨q, rfl, hq, fun h => by omega⟩, fun _ _ _ => ⟨r, rfl, by omega, fun _ => hr⟩⟩
/-- the growth -/
def pt_gr (o : Nat) : Int32 := if o = 0 then -1 else if o = 3 ∨ o = 4 ∨ o = 5 then 1 else 0
def pt_nx (o L : Nat) : Nat := if o = 0 then L - 1 else if o = 3 ∨ o = 4 ∨ o = 5 then L + 1 else L
theorem pt_nx_le {o L : Nat} : pt_nx o L ≤ L + 1 := by
  unfold pt_nx
  split
  · omega
  · split <;> omega
theorem pt_nxe {o L : Nat} (h : 1 ≤ L) : nI L + pt_gr o = nI (pt_nx o L) := by
  unfold pt_gr pt_nx
  split
  · obtain ⟨M, rfl⟩ : ∃ M, L = M + 1 := ⟨L - 1, by omega⟩
    exact pk_m1 M
  · split
    · exact nI_1 L
    · exact Int32.add_zero _
theorem pt_xfk {post : Int32 → Prop} {o : Nat} (ho : o ≤ 6) (h1 : pt_fk o → post 1) (h0 : ¬ pt_fk o → post 0) : wpX_forks post (f_parts, f_most, f_functions, f_openFn, f_lacking, f_subject, f_wantedRest, f_wantedLeft, f_formCount, f_bestA, f_bestB, f_bestC, f_cells, f_depth, f_entries, f_outcome, f_freeNow, f_lowest, a_body, a_lengths, a_treeEnd, a_accepted, a_sig, a_sizes, a_input, a_result, a_state, a_reached, a_forms, a_heads, a_tails, a_freed, a_ints, a_lists, a_frameFn, a_framePc) (nI o) := by
  unfold pt_fk at h1 h0
  rcases (by omega : o = 0 ∨ o = 1 ∨ o = 2 ∨ o = 3 ∨ o = 4 ∨ o = 5 ∨ o = 6) with rfl | rfl | rfl | rfl | rfl | rfl | rfl
  · exact br_f (by decide) (br_f (by decide) (br_f (by decide) (h0 (by omega))))
  · exact br_f (by decide) (br_f (by decide) (br_f (by decide) (h0 (by omega))))
  · exact br_f (by decide) (br_f (by decide) (br_f (by decide) (h0 (by omega))))
  · exact br_t rfl (h1 (by omega))
  · exact br_f (by decide) (br_t rfl (h1 (by omega)))
  · exact br_f (by decide) (br_f (by decide) (br_t rfl (h1 (by omega))))
  · exact br_f (by decide) (br_f (by decide) (br_f (by decide) (h0 (by omega))))
theorem pt_xgr {post : Int32 → Prop} {o : Nat} (ho : o ≤ 6) (h : post (pt_gr o)) : wpX_growth post (f_parts, f_most, f_functions, f_openFn, f_lacking, f_subject, f_wantedRest, f_wantedLeft, f_formCount, f_bestA, f_bestB, f_bestC, f_cells, f_depth, f_entries, f_outcome, f_freeNow, f_lowest, a_body, a_lengths, a_treeEnd, a_accepted, a_sig, a_sizes, a_input, a_result, a_state, a_reached, a_forms, a_heads, a_tails, a_freed, a_ints, a_lists, a_frameFn, a_framePc) (nI o) := by
  by_cases h0 : o = 0
  · subst h0
    exact br_t rfl h
  · refine br_f (fun e => h0 ((ba_eq0 (by omega)).mp e)) (pt_xfk ho (fun hf => br_f (by decide) ?_) (fun hf => br_t rfl ?_))
    · unfold pt_fk at hf; rw [pt_gr, if_neg h0, if_pos hf] at h; exact h
    · unfold pt_fk at hf; rw [pt_gr, if_neg h0, if_neg hf] at h; exact h
end
section
variable {g_parts g_most g_count g_lacking g_opened g_purse g_bases g_cells g_supply g_depth g_entries : Int32} {b_body b_len b_sig b_accepted b_input b_result b_sizes b_lastRun b_rates b_rest b_known b_base b_head b_tail b_dead b_fun b_pc b_ints b_lists : Nat → Int32}
theorem pt_ygr {post : Int32 → Prop} {o : Nat} (ho : o ≤ 6) (h : post (pt_gr o)) : wpY_grow post (g_parts, g_most, g_count, g_lacking, g_opened, g_purse, g_bases, g_cells, g_supply, g_depth, g_entries, b_body, b_len, b_sig, b_accepted, b_input, b_result, b_sizes, b_lastRun, b_rates, b_rest, b_known, b_base, b_head, b_tail, b_dead, b_fun, b_pc, b_ints, b_lists) (nI o) := by
  rcases (by omega : o = 0 ∨ o = 1 ∨ o = 2 ∨ o = 3 ∨ o = 4 ∨ o = 5 ∨ o = 6) with rfl | rfl | rfl | rfl | rfl | rfl | rfl
  · exact br_t rfl h
  · exact br_f (by decide) (br_f (by decide) (br_f (by decide) (br_f (by decide) h)))
  · exact br_f (by decide) (br_f (by decide) (br_f (by decide) (br_f (by decide) h)))
  · exact br_f (by decide) (br_t rfl h)
  · exact br_f (by decide) (br_f (by decide) (br_t rfl h))
  · exact br_f (by decide) (br_f (by decide) (br_f (by decide) (br_t rfl h)))
  · exact br_f (by decide) (br_f (by decide) (br_f (by decide) (br_f (by decide) h)))
end
/-- the stores of an instruction -/
def pt_ap (b : Nat → Int32) (at' : Nat) (v1 v2 v3 v4 : Int32) : Nat → Int32 :=
  upd (upd (upd (upd b at' v1) (at' + 1) v2) (at' + 2) (if v1 = 0 then 0 else v3)) (at' + 3) (if v1 = 0 ∨ v1 = 5 then 0 else v4)
section
variable {f_parts f_most f_functions f_openFn f_lacking f_subject f_wantedRest f_wantedLeft f_formCount f_bestA f_bestB f_bestC f_cells f_depth f_entries f_outcome f_freeNow f_lowest : Int32} {a_body a_lengths a_treeEnd a_accepted a_sig a_sizes a_input a_result a_state a_reached a_forms a_heads a_tails a_freed a_ints a_lists a_frameFn a_framePc : Nat → Int32}
theorem pt_xap {post : SX → Prop} {g n : Nat} (hg : g < 4) (hn : n < 12) (ho : f_openFn = nI g) (hl : a_lengths g = nI n) {v1 v2 v3 v4 : Int32}
    (h : post (f_parts, f_most, f_functions, f_openFn, f_lacking, f_subject, f_wantedRest, f_wantedLeft, f_formCount, f_bestA, f_bestB, f_bestC, f_cells, f_depth, f_entries, f_outcome, f_freeNow, f_lowest, pt_ap a_body ((g * 12 + n) * 4) v1 v2 v3 v4, upd a_lengths g (nI (n + 1)), a_treeEnd, a_accepted, a_sig, a_sizes, a_input, a_result, a_state, a_reached, a_forms, a_heads, a_tails, a_freed, a_ints, a_lists, a_frameFn, a_framePc)) : wpX_append post (f_parts, f_most, f_functions, f_openFn, f_lacking, f_subject, f_wantedRest, f_wantedLeft, f_formCount, f_bestA, f_bestB, f_bestC, f_cells, f_depth, f_entries, f_outcome, f_freeNow, f_lowest, a_body, a_lengths, a_treeEnd, a_accepted, a_sig, a_sizes, a_input, a_result, a_state, a_reached, a_forms, a_heads, a_tails, a_freed, a_ints, a_lists, a_frameFn, a_framePc) v1 v2 v3 v4 := by
  subst ho
  have hcl : (nI g).toNatClampNeg = g := nI_clamp (by omega)
  have hi : vp_in (nI g) 4 := vp_in_nI hg (by omega)
  refine And.intro hi (nm_r (e' := nI ((g * 12 + n) * 4)) (by rw [hcl, hl, ba_at]) ⟨vp_in_nI (by omega) (by omega), nm_e ⟨by rw [nI_1]; exact vp_in_nI (by omega) (by omega), nm_e ?_⟩⟩)
  rw [nI_clamp (by omega), nI_1, nI_clamp (by omega), ba_2]
  unfold pt_ap at h
  by_cases h0 : v1 = 0
  · rw [if_pos h0, if_pos (Or.inl h0)] at h
    refine br_t h0 (And.intro (vp_in_nI (by omega) (by omega)) (nm_e (br_t h0 (And.intro (by rw [ba_3]; exact vp_in_nI (by omega) (by omega)) (nm_e ⟨hi, hi, nm_e ?_⟩)))))
    rw [nI_clamp (by omega), ba_3, nI_clamp (by omega), hcl, hl, nI_1]
    exact h
  · rw [if_neg h0] at h
    refine br_f h0 (And.intro (vp_in_nI (by omega) (by omega)) (nm_e (br_f h0 ?_)))
    by_cases h5 : v1 = 5
    · rw [if_pos (Or.inr h5)] at h
      refine br_t h5 (And.intro (by rw [ba_3]; exact vp_in_nI (by omega) (by omega)) (nm_e ⟨hi, hi, nm_e ?_⟩))
      rw [nI_clamp (by omega), ba_3, nI_clamp (by omega), hcl, hl, nI_1]
      exact h
    · rw [if_neg (fun e => e.elim h0 h5)] at h
      refine br_f h5 (And.intro (by rw [ba_3]; exact vp_in_nI (by omega) (by omega)) (nm_e ⟨hi, hi, nm_e ?_⟩))
      rw [nI_clamp (by omega), ba_3, nI_clamp (by omega), hcl, hl, nI_1]
      exact h
end
section
variable {g_parts g_most g_count g_lacking g_opened g_purse g_bases g_cells g_supply g_depth g_entries : Int32} {b_body b_len b_sig b_accepted b_input b_result b_sizes b_lastRun b_rates b_rest b_known b_base b_head b_tail b_dead b_fun b_pc b_ints b_lists : Nat → Int32}
theorem pt_yap {post : Int32 → SY → Prop} {g n o L : Nat} (hg : g < 4) (hn : n < 12) (ho6 : o ≤ 6) (hL : 1 ≤ L) (hL2 : L ≤ 12) (ho : g_opened = nI g) (hk : g_lacking = nI L) (hl : b_len g = nI n) {v2 v3 v4 : Int32}
    (hb : 12 < n + 1 + pt_nx o L → post (-6) (g_parts, g_most, g_count, g_lacking, g_opened, g_purse, g_bases, g_cells, g_supply, g_depth, g_entries, b_body, b_len, b_sig, b_accepted, b_input, b_result, b_sizes, b_lastRun, b_rates, b_rest, b_known, b_base, b_head, b_tail, b_dead, b_fun, b_pc, b_ints, b_lists))
    (h0 : pt_nx o L = 0 → post 1 (g_parts, g_most, g_count, 0, -1, g_purse, g_bases, g_cells, g_supply, g_depth, g_entries, pt_ap b_body ((g * 12 + n) * 4) (nI o) v2 v3 v4, upd b_len g (nI (n + 1)), b_sig, b_accepted, b_input, b_result, b_sizes, b_lastRun, b_rates, b_rest, b_known, b_base, b_head, b_tail, b_dead, b_fun, b_pc, b_ints, b_lists))
    (h1 : n + 1 + pt_nx o L ≤ 12 → pt_nx o L ≠ 0 → post 0 (g_parts, g_most, g_count, nI (pt_nx o L), g_opened, g_purse, g_bases, g_cells, g_supply, g_depth, g_entries, pt_ap b_body ((g * 12 + n) * 4) (nI o) v2 v3 v4, upd b_len g (nI (n + 1)), b_sig, b_accepted, b_input, b_result, b_sizes, b_lastRun, b_rates, b_rest, b_known, b_base, b_head, b_tail, b_dead, b_fun, b_pc, b_ints, b_lists)) :
    wY_emit_119 post (nI o) v2 v3 v4 g_parts g_most g_count g_lacking g_opened g_purse g_bases g_cells g_supply g_depth g_entries b_body b_len b_sig b_accepted b_input b_result b_sizes b_lastRun b_rates b_rest b_known b_base b_head b_tail b_dead b_fun b_pc b_ints b_lists := by
  subst ho hk
  have hcl : (nI g).toNatClampNeg = g := nI_clamp (by omega)
  have hi : vp_in (nI g) 4 := vp_in_nI hg (by omega)
  have hnx : pt_nx o L ≤ 13 := Nat.le_trans pt_nx_le (by omega)
  unfold wY_emit_119
  refine pt_ygr ho6 (nm_r (pt_nxe hL) ⟨hi, ?_⟩)
  rw [hcl, hl, nI_1, nI_add]
  refine pk_le (n + 1 + pt_nx o L) 12 (fun hle => ?_) (fun hgt => hb hgt)
  refine ⟨hi, nm_r (e' := nI ((g * 12 + n) * 4)) (ba_at g n) ⟨vp_in_nI (by omega) (by omega), nm_e ⟨by rw [nI_1]; exact vp_in_nI (by omega) (by omega), nm_e ?_⟩⟩⟩
  rw [nI_clamp (by omega), nI_1, nI_clamp (by omega), ba_2]
  have fin : ∀ w3 w4 : Int32, w3 = (if nI o = 0 then 0 else v3) → w4 = (if nI o = 0 ∨ nI o = 5 then 0 else v4) →
      wY_emit_233 post (nI (pt_nx o L)) w4 (nI ((g * 12 + n) * 4) + 3) g_parts g_most g_count (nI L) (nI g) g_purse g_bases g_cells g_supply g_depth g_entries (upd (upd (upd b_body ((g * 12 + n) * 4) (nI o)) ((g * 12 + n) * 4 + 1) v2) (nI ((g * 12 + n) * 4 + 2)).toNatClampNeg w3) b_len b_sig b_accepted b_input b_result b_sizes b_lastRun b_rates b_rest b_known b_base b_head b_tail b_dead b_fun b_pc b_ints b_lists := by
    intro w3 w4 e3 e4
    refine And.intro (by rw [ba_3]; exact vp_in_nI (by omega) (by omega)) (nm_e ⟨hi, hi, nm_e ?_⟩)
    rw [nI_clamp (by omega), ba_3, nI_clamp (by omega), hcl, hl, nI_1, e3, e4]
    refine pk_le (pt_nx o L) 0 (fun hz => ?_) (fun hz => h1 hle (by omega))
    have hz' : pt_nx o L = 0 := by omega
    rw [hz']
    exact h0 hz'
  by_cases e0 : nI o = 0
  · exact br_t e0 (And.intro (vp_in_nI (by omega) (by omega)) (nm_e (br_t e0 (fin 0 0 (if_pos e0).symm (if_pos (Or.inl e0)).symm))))
  · refine br_f e0 (And.intro (vp_in_nI (by omega) (by omega)) (nm_e (br_f e0 ?_)))
    by_cases e5 : nI o = 5
    · exact br_t e5 (fin v3 0 (if_neg e0).symm (if_pos (Or.inr e5)).symm)
    · exact br_f e5 (fin v3 v4 (if_neg e0).symm (if_neg (fun e => e.elim e0 e5)).symm)
end
end
section
/-! link: the ends from the back -/
/-- the facts of the trees from k on -/
def pt_Tk (o en : Nat → Nat) (n k : Nat) : Prop := ∀ j, k ≤ j → j < n → j < en j ∧ en j ≤ n ∧ (o j = 0 → en j = j + 1) ∧
  (o j ≠ 0 → j + 1 < n ∧ (¬ pt_fk (o j) → en j = en (j + 1)) ∧ (pt_fk (o j) → en (j + 1) < n ∧ en j = en (en (j + 1))))
/-- t trees from k on fill the rest -/
def pt_Ch (en : Nat → Nat) (n : Nat) : Nat → Nat → Prop
  | 0, k => k = n
  | t + 1, k => k < n ∧ pt_Ch en n t (en k)
theorem pt_Tk_map {o en en' : Nat → Nat} {n k : Nat} (he : ∀ x, k ≤ x → en' x = en x) (h : pt_Tk o en n k) : pt_Tk o en' n k := by
  intro j hj hn
  obtain ⟨h1, h2, h3, h4⟩ := h j hj hn
  rw [he j hj]
  refine ⟨h1, h2, h3, fun h0 => ?_⟩
  obtain ⟨h5, h6, h7⟩ := h4 h0
  rw [he (j + 1) (by omega)]
  refine ⟨h5, h6, fun hf => ?_⟩
  obtain ⟨h8, h9⟩ := h7 hf
  have := (h (j + 1) (by omega) h5).1
  rw [he (en (j + 1)) (by omega)]
  exact ⟨h8, h9⟩
theorem pt_Ch_map {o en en' : Nat → Nat} {n k : Nat} (he : ∀ x, k ≤ x → en' x = en x) (h : pt_Tk o en n k) : ∀ t j, k ≤ j → pt_Ch en n t j → pt_Ch en' n t j := by
  intro t
  induction t with
  | zero => intro j _ hc; exact hc
  | succ t ih =>
    intro j hj hc
    refine ⟨hc.1, ?_⟩
    rw [he j hj]
    have := (h j hj hc.1).1
    exact ih _ (by omega) hc.2
theorem pt_Ch_le {o en : Nat → Nat} {n k : Nat} (h : pt_Tk o en n k) : ∀ t j, k ≤ j → pt_Ch en n t j → j ≤ n := by
  intro t j hj hc
  cases t with
  | zero => exact Nat.le_of_eq hc
  | succ t => exact Nat.le_of_lt hc.1
/-- one step from the back -/
theorem pt_lstep {o en nd : Nat → Nat} {n j v : Nat} (hj : j < n) (hnd : pt_nd o nd n) (hT : pt_Tk o en n (j + 1)) (hC : pt_Ch en n (nd (j + 1)) (j + 1))
    (hv : (o j = 0 → v = j + 1) ∧ (o j ≠ 0 → ¬ pt_fk (o j) → v = en (j + 1)) ∧ (pt_fk (o j) → v = en (en (j + 1)))) :
    pt_Tk o (ba_up en j v) n j ∧ pt_Ch (ba_up en j v) n (nd j) j := by
  have he : ∀ x, j + 1 ≤ x → ba_up en j v x = en x := fun x hx => ba_upn (by omega)
  have ev : ba_up en j v j = v := ba_upe rfl
  have hT' := pt_Tk_map he hT
  obtain ⟨h1, h2, h3, h4⟩ := hnd j hj
  have hCm := pt_Ch_map (en' := ba_up en j v) he hT
  have main : (j < v ∧ v ≤ n ∧ (o j = 0 → v = j + 1) ∧ (o j ≠ 0 → j + 1 < n ∧ (¬ pt_fk (o j) → v = ba_up en j v (j + 1)) ∧ (pt_fk (o j) → ba_up en j v (j + 1) < n ∧ v = ba_up en j v (ba_up en j v (j + 1))))) ∧ pt_Ch (ba_up en j v) n (nd j) j := by
    rw [he (j + 1) (by omega)]
    by_cases h0 : o j = 0
    · have hv0 := hv.1 h0
      have hf : ¬ pt_fk (o j) := by unfold pt_fk; omega
      subst hv0
      rw [h2 h0]
      refine ⟨⟨by omega, by omega, fun _ => rfl, fun h => absurd h0 h⟩, hj, ?_⟩
      rw [ev]
      exact hCm _ _ (by omega) hC
    · by_cases hf : pt_fk (o j)
      · have hv0 := hv.2.2 hf
        rw [h3 hf] at hC
        obtain ⟨c1, c2⟩ := hC
        obtain ⟨t, ht⟩ : ∃ t, nd j = t + 1 := ⟨nd j - 1, by omega⟩
        rw [ht] at c2 ⊢
        obtain ⟨c3, c4⟩ := c2
        have t1 := hT (j + 1) (by omega) c1
        have t2 := hT (en (j + 1)) (by omega) c3
        rw [he (en (j + 1)) (by omega)]
        refine ⟨⟨by omega, by omega, fun h => absurd h h0, fun _ => ⟨c1, fun h => absurd hf h, fun _ => ⟨c3, hv0⟩⟩⟩, hj, ?_⟩
        rw [ev]
        have := hCm _ _ (by omega) c4
        rw [← hv0] at this
        exact this
      · have hv0 := hv.2.1 h0 hf
        rw [h4 h0 hf] at hC
        obtain ⟨t, ht⟩ : ∃ t, nd j = t + 1 := ⟨nd j - 1, by omega⟩
        rw [ht] at hC ⊢
        obtain ⟨c1, c2⟩ := hC
        have t1 := hT (j + 1) (by omega) c1
        refine ⟨⟨by omega, by omega, fun h => absurd h h0, fun _ => ⟨c1, fun _ => hv0, fun h => absurd h hf⟩⟩, hj, ?_⟩
        rw [ev]
        have := hCm _ _ (by omega) c2
        rw [← hv0] at this
        exact this
  refine ⟨fun i hi hin => ?_, main.2⟩
  rcases Nat.lt_or_ge j i with h | h
  · exact hT' i (by omega) hin
  · obtain rfl : i = j := by omega
    rw [ev]
    exact main.1
section
variable {f_parts f_most f_functions f_openFn f_lacking f_subject f_wantedRest f_wantedLeft f_formCount f_bestA f_bestB f_bestC f_cells f_depth f_entries f_outcome f_freeNow f_lowest : Int32} {a_body a_lengths a_treeEnd a_accepted a_sig a_sizes a_input a_result a_state a_reached a_forms a_heads a_tails a_freed a_ints a_lists a_frameFn a_framePc : Nat → Int32}
theorem pt_link {g n : Nat} {nd : Nat → Nat} (hg : g < 4) (hn : n ≤ 12) (hF : ∀ k, k < n → pt_Fi a_body g k) (hnd : pt_nd (pt_o a_body g) nd n) :
    ∀ k, k ≤ n → ∀ (te : Nat → Int32) (en : Nat → Nat), pt_Tk (pt_o a_body g) en n k → pt_Ch en n (nd k) k → (∀ j, k ≤ j → j < n → te (g * 12 + j) = nI (en j)) →
    ∃ (te' : Nat → Int32) (en' : Nat → Nat), pt_Tk (pt_o a_body g) en' n 0 ∧ pt_Ch en' n (nd 0) 0 ∧ (∀ j, j < n → te' (g * 12 + j) = nI (en' j)) ∧
      (∀ x, x < g * 12 ∨ g * 12 + 12 ≤ x → te' x = te x) ∧
      ∀ post : SX → Prop, post (f_parts, f_most, f_functions, f_openFn, f_lacking, f_subject, f_wantedRest, f_wantedLeft, f_formCount, f_bestA, f_bestB, f_bestC, f_cells, f_depth, f_entries, f_outcome, f_freeNow, f_lowest, a_body, a_lengths, te', a_accepted, a_sig, a_sizes, a_input, a_result, a_state, a_reached, a_forms, a_heads, a_tails, a_freed, a_ints, a_lists, a_frameFn, a_framePc) → wX_link_14 post (nI (g * 12)) f_parts f_most f_functions f_openFn f_lacking f_subject f_wantedRest f_wantedLeft f_formCount f_bestA f_bestB f_bestC f_cells f_depth f_entries f_outcome f_freeNow f_lowest (k + 1) (nI k - 1) a_body a_lengths te a_accepted a_sig a_sizes a_input a_result a_state a_reached a_forms a_heads a_tails a_freed a_ints a_lists a_frameFn a_framePc := by
  intro k
  induction k with
  | zero =>
    intro _ te en hT hC he
    exact ⟨te, en, hT, hC, fun j hj => he j (by omega) hj, fun _ _ => rfl, fun post hp => br_t (by decide) hp⟩
  | succ k ih =>
    intro hk te en hT hC he
    obtain ⟨b0, b1, _⟩ := hF k (by omega)
    have key : ∀ v : Nat, ((pt_o a_body g k = 0 → v = k + 1) ∧ (pt_o a_body g k ≠ 0 → ¬ pt_fk (pt_o a_body g k) → v = en (k + 1)) ∧ (pt_fk (pt_o a_body g k) → v = en (en (k + 1)))) → _ := fun v hv => pt_lstep (by omega) hnd hT hC hv
    have go : ∀ v : Nat, ((pt_o a_body g k = 0 → v = k + 1) ∧ (pt_o a_body g k ≠ 0 → ¬ pt_fk (pt_o a_body g k) → v = en (k + 1)) ∧ (pt_fk (pt_o a_body g k) → v = en (en (k + 1)))) →
        ∃ (te' : Nat → Int32) (en' : Nat → Nat), pt_Tk (pt_o a_body g) en' n 0 ∧ pt_Ch en' n (nd 0) 0 ∧ (∀ j, j < n → te' (g * 12 + j) = nI (en' j)) ∧
        (∀ x, x < g * 12 ∨ g * 12 + 12 ≤ x → te' x = te x) ∧
        ∀ post : SX → Prop, post (f_parts, f_most, f_functions, f_openFn, f_lacking, f_subject, f_wantedRest, f_wantedLeft, f_formCount, f_bestA, f_bestB, f_bestC, f_cells, f_depth, f_entries, f_outcome, f_freeNow, f_lowest, a_body, a_lengths, te', a_accepted, a_sig, a_sizes, a_input, a_result, a_state, a_reached, a_forms, a_heads, a_tails, a_freed, a_ints, a_lists, a_frameFn, a_framePc) → wX_link_72 post (wX_link_14 post (nI (g * 12)) f_parts f_most f_functions f_openFn f_lacking f_subject f_wantedRest f_wantedLeft f_formCount f_bestA f_bestB f_bestC f_cells f_depth f_entries f_outcome f_freeNow f_lowest (k + 1)) (nI (g * 12)) (nI k) (nI v) f_parts f_most f_functions f_openFn f_lacking f_subject f_wantedRest f_wantedLeft f_formCount f_bestA f_bestB f_bestC f_cells f_depth f_entries f_outcome f_freeNow f_lowest a_body a_lengths te a_accepted a_sig a_sizes a_input a_result a_state a_reached a_forms a_heads a_tails a_freed a_ints a_lists a_frameFn a_framePc := by
      intro v hv
      obtain ⟨k1, k2⟩ := key v hv
      obtain ⟨te', en', t1, t2, t3, t4, t5⟩ := ih (by omega) (upd te (g * 12 + k) (nI v)) (ba_up en k v) k1 k2 (by
        intro j hj hjn
        rcases Nat.lt_or_ge k j with h | h
        · rw [pk_un (by omega), ba_upn (by omega)]
          exact he j (by omega) hjn
        · obtain rfl : j = k := by omega
          rw [pk_us, ba_upe rfl])
      refine ⟨te', en', t1, t2, t3, fun x hx => (t4 x hx).trans (pk_un (by omega)), fun post hp => ?_⟩
      refine And.intro (by rw [nI_add]; exact vp_in_nI (by omega) (by omega)) (nm_e (nm_r (e' := nI k - 1) (Int32.sub_eq_add_neg _ _).symm ?_))
      rw [nI_add, nI_clamp (by omega)]
      exact t5 post hp
    have e52 : ∀ (v : Nat) (post : SX → Prop) (J : _), (¬ pt_fk (pt_o a_body g k) → wX_link_72 post J (nI (g * 12)) (nI k) (nI v) f_parts f_most f_functions f_openFn f_lacking f_subject f_wantedRest f_wantedLeft f_formCount f_bestA f_bestB f_bestC f_cells f_depth f_entries f_outcome f_freeNow f_lowest a_body a_lengths te a_accepted a_sig a_sizes a_input a_result a_state a_reached a_forms a_heads a_tails a_freed a_ints a_lists a_frameFn a_framePc) → (pt_fk (pt_o a_body g k) → g * 12 + v < 48 ∧ ∃ w, te (g * 12 + v) = nI w ∧ wX_link_72 post J (nI (g * 12)) (nI k) (nI w) f_parts f_most f_functions f_openFn f_lacking f_subject f_wantedRest f_wantedLeft f_formCount f_bestA f_bestB f_bestC f_cells f_depth f_entries f_outcome f_freeNow f_lowest a_body a_lengths te a_accepted a_sig a_sizes a_input a_result a_state a_reached a_forms a_heads a_tails a_freed a_ints a_lists a_frameFn a_framePc) →
        wX_link_52 post J (nI (g * 12)) (nI k) (nI (pt_o a_body g k)) (nI v) f_parts f_most f_functions f_openFn f_lacking f_subject f_wantedRest f_wantedLeft f_formCount f_bestA f_bestB f_bestC f_cells f_depth f_entries f_outcome f_freeNow f_lowest a_body a_lengths te a_accepted a_sig a_sizes a_input a_result a_state a_reached a_forms a_heads a_tails a_freed a_ints a_lists a_frameFn a_framePc := by
      intro v post J h0 h1
      unfold wX_link_52
      refine pt_xfk b1 (fun hf => br_f (by decide) ?_) (fun hf => br_t rfl (h0 hf))
      obtain ⟨h2, w, hw, h3⟩ := h1 hf
      refine ⟨by rw [nI_add]; exact vp_in_nI h2 (by omega), nm_r (e' := nI w) ?_ h3⟩
      rw [nI_add, nI_clamp (by omega), hw]
    have hstart : ∀ (post : SX → Prop), (pt_o a_body g k = 0 → wX_link_52 post (wX_link_14 post (nI (g * 12)) f_parts f_most f_functions f_openFn f_lacking f_subject f_wantedRest f_wantedLeft f_formCount f_bestA f_bestB f_bestC f_cells f_depth f_entries f_outcome f_freeNow f_lowest (k + 1)) (nI (g * 12)) (nI k) (nI (pt_o a_body g k)) (nI (k + 1)) f_parts f_most f_functions f_openFn f_lacking f_subject f_wantedRest f_wantedLeft f_formCount f_bestA f_bestB f_bestC f_cells f_depth f_entries f_outcome f_freeNow f_lowest a_body a_lengths te a_accepted a_sig a_sizes a_input a_result a_state a_reached a_forms a_heads a_tails a_freed a_ints a_lists a_frameFn a_framePc) →
        (pt_o a_body g k ≠ 0 → g * 12 + k + 1 < 48 ∧ ∃ w, te (g * 12 + k + 1) = nI w ∧ wX_link_52 post (wX_link_14 post (nI (g * 12)) f_parts f_most f_functions f_openFn f_lacking f_subject f_wantedRest f_wantedLeft f_formCount f_bestA f_bestB f_bestC f_cells f_depth f_entries f_outcome f_freeNow f_lowest (k + 1)) (nI (g * 12)) (nI k) (nI (pt_o a_body g k)) (nI w) f_parts f_most f_functions f_openFn f_lacking f_subject f_wantedRest f_wantedLeft f_formCount f_bestA f_bestB f_bestC f_cells f_depth f_entries f_outcome f_freeNow f_lowest a_body a_lengths te a_accepted a_sig a_sizes a_input a_result a_state a_reached a_forms a_heads a_tails a_freed a_ints a_lists a_frameFn a_framePc) →
        wX_link_14 post (nI (g * 12)) f_parts f_most f_functions f_openFn f_lacking f_subject f_wantedRest f_wantedLeft f_formCount f_bestA f_bestB f_bestC f_cells f_depth f_entries f_outcome f_freeNow f_lowest (k + 2) (nI (k + 1) - 1) a_body a_lengths te a_accepted a_sig a_sizes a_input a_result a_state a_reached a_forms a_heads a_tails a_freed a_ints a_lists a_frameFn a_framePc := by
      intro post h0 h1
      rw [nI_pred]
      refine br_f (nI_pos (by omega)) ⟨by rw [nI_add, ba_m4]; exact vp_in_nI (by omega) (by omega), nm_r (e' := nI (pt_o a_body g k)) (by rw [nI_add, ba_m4, nI_clamp (by omega)]; exact b0) (nm_r (nI_1 k) ?_)⟩
      by_cases hz : pt_o a_body g k = 0
      · exact br_t (by rw [hz]; rfl) (h0 hz)
      · obtain ⟨h2, w, hw, h3⟩ := h1 hz
        refine br_f (fun e => hz ((ba_eq0 (by omega)).mp e)) ⟨by rw [nI_add, nI_1]; exact vp_in_nI h2 (by omega), nm_r (e' := nI w) ?_ h3⟩
        rw [nI_add, nI_1, nI_clamp (by omega), hw]
    by_cases hz : pt_o a_body g k = 0
    · have hf : ¬ pt_fk (pt_o a_body g k) := by unfold pt_fk; omega
      obtain ⟨te', en', t1, t2, t3, t4, t5⟩ := go (k + 1) ⟨fun _ => rfl, fun h => absurd hz h, fun h => absurd h hf⟩
      exact ⟨te', en', t1, t2, t3, t4, fun post hp => hstart post (fun _ => e52 _ post _ (fun _ => t5 post hp) (fun h => absurd h hf)) (fun h => absurd hz h)⟩
    · have hc1 : k + 1 < n := by
        obtain ⟨h1, h2, h3, h4⟩ := hnd k (by omega)
        by_cases hf : pt_fk (pt_o a_body g k)
        · rw [h3 hf] at hC; exact hC.1
        · rw [h4 hz hf] at hC
          obtain ⟨t, ht⟩ : ∃ t, nd k = t + 1 := ⟨nd k - 1, by omega⟩
          rw [ht] at hC; exact hC.1
      have hw := he (k + 1) (by omega) hc1
      by_cases hf : pt_fk (pt_o a_body g k)
      · have hc2 : en (k + 1) < n := by
          obtain ⟨h1, h2, h3, h4⟩ := hnd k (by omega)
          rw [h3 hf] at hC
          obtain ⟨t, ht⟩ : ∃ t, nd k = t + 1 := ⟨nd k - 1, by omega⟩
          rw [ht] at hC; exact hC.2.1
        have hw2 := he (en (k + 1)) (by have := (hT (k + 1) (by omega) hc1).1; omega) hc2
        obtain ⟨te', en', t1, t2, t3, t4, t5⟩ := go (en (en (k + 1))) ⟨fun h => absurd h hz, fun _ h => absurd hf h, fun _ => rfl⟩
        exact ⟨te', en', t1, t2, t3, t4, fun post hp => hstart post (fun h => absurd h hz) (fun _ => ⟨by omega, en (k + 1), hw, e52 _ post _ (fun h => absurd hf h) (fun _ => ⟨by omega, _, hw2, t5 post hp⟩)⟩)⟩
      · obtain ⟨te', en', t1, t2, t3, t4, t5⟩ := go (en (k + 1)) ⟨fun h => absurd h hz, fun _ _ => rfl, fun h => absurd h hf⟩
        exact ⟨te', en', t1, t2, t3, t4, fun post hp => hstart post (fun h => absurd h hz) (fun _ => ⟨by omega, en (k + 1), hw, e52 _ post _ (fun _ => t5 post hp) (fun h => absurd h hf)⟩)⟩
/-- link closes a function -/
theorem pt_lk {g n : Nat} {nd : Nat → Nat} (hg : g < 4) (hn1 : 1 ≤ n) (hn : n ≤ 12) (hl : a_lengths g = nI n) (hF : ∀ k, k < n → pt_Fi a_body g k) (hnd : pt_nd (pt_o a_body g) nd n) (h1 : nd 0 = 1) (h0 : nd n = 0) :
    ∃ te' : Nat → Int32, pt_CF a_body te' g n ∧ (∀ x, x < g * 12 ∨ g * 12 + 12 ≤ x → te' x = a_treeEnd x) ∧ ∀ post : SX → Prop, post (f_parts, f_most, f_functions, f_openFn, f_lacking, f_subject, f_wantedRest, f_wantedLeft, f_formCount, f_bestA, f_bestB, f_bestC, f_cells, f_depth, f_entries, f_outcome, f_freeNow, f_lowest, a_body, a_lengths, te', a_accepted, a_sig, a_sizes, a_input, a_result, a_state, a_reached, a_forms, a_heads, a_tails, a_freed, a_ints, a_lists, a_frameFn, a_framePc) → wpX_link post (f_parts, f_most, f_functions, f_openFn, f_lacking, f_subject, f_wantedRest, f_wantedLeft, f_formCount, f_bestA, f_bestB, f_bestC, f_cells, f_depth, f_entries, f_outcome, f_freeNow, f_lowest, a_body, a_lengths, a_treeEnd, a_accepted, a_sig, a_sizes, a_input, a_result, a_state, a_reached, a_forms, a_heads, a_tails, a_freed, a_ints, a_lists, a_frameFn, a_framePc) (nI g) := by
  obtain ⟨te', en', t1, t2, t3, t4, t5⟩ := pt_link (f_parts := f_parts) (f_most := f_most) (f_functions := f_functions) (f_openFn := f_openFn) (f_lacking := f_lacking) (f_subject := f_subject) (f_wantedRest := f_wantedRest) (f_wantedLeft := f_wantedLeft) (f_formCount := f_formCount) (f_bestA := f_bestA) (f_bestB := f_bestB) (f_bestC := f_bestC) (f_cells := f_cells) (f_depth := f_depth) (f_entries := f_entries) (f_outcome := f_outcome) (f_freeNow := f_freeNow) (f_lowest := f_lowest) (a_body := a_body) (a_lengths := a_lengths) (a_accepted := a_accepted) (a_sig := a_sig) (a_sizes := a_sizes) (a_input := a_input) (a_result := a_result) (a_state := a_state) (a_reached := a_reached) (a_forms := a_forms) (a_heads := a_heads) (a_tails := a_tails) (a_freed := a_freed) (a_ints := a_ints) (a_lists := a_lists) (a_frameFn := a_frameFn) (a_framePc := a_framePc) hg hn hF hnd n (by omega) a_treeEnd (fun _ => 0) (fun j h1 h2 => by omega) (by rw [h0]; exact rfl) (fun j h1 h2 => by omega)
  refine ⟨te', ⟨hn1, hn, hF, en', fun k hk => t1 k (by omega) hk, ?_, t3⟩, t4, fun post hp => ?_⟩
  · rw [h1] at t2; exact t2.2
  · refine nm_r (ba_m12 g) ⟨vp_in_nI hg (by omega), nm_r (e' := nI n - 1) (by rw [nI_clamp (by omega), hl]) ⟨n + 1, t5 post hp⟩⟩
end
end
section
/-! emit and bound -/
theorem pt_Fi_c {b b' : Nat → Int32} {f k : Nat} (h : ∀ j, j < 4 → b' ((f * 12 + k) * 4 + j) = b ((f * 12 + k) * 4 + j)) : (pt_Fi b f k → pt_Fi b' f k) ∧ pt_o b' f k = pt_o b f k := by
  have h0 := h 0 (by omega)
  rw [Nat.add_zero] at h0
  have eo : pt_o b' f k = pt_o b f k := by unfold pt_o; rw [h0]
  have ep : pt_p b' f k = pt_p b f k := by unfold pt_p; rw [h 1 (by omega)]
  have eq : pt_q b' f k = pt_q b f k := by unfold pt_q; rw [h 2 (by omega)]
  have er : pt_r b' f k = pt_r b f k := by unfold pt_r; rw [h 3 (by omega)]
  refine ⟨fun hi => ?_, eo⟩
  unfold pt_Fi
  rw [eo, ep, eq, er, h0, h 1 (by omega), h 2 (by omega), h 3 (by omega)]
  exact hi
theorem pt_TF_c {o o' en : Nat → Nat} {n : Nat} (h : ∀ k, k < n → o' k = o k) (t : pt_TF o en n) : pt_TF o' en n := by
  intro k hk
  rw [h k hk]
  exact t k hk
theorem pt_CF_c {b b' te te' : Nat → Int32} {f n : Nat} (hb : ∀ x, f * 48 ≤ x → x < f * 48 + 48 → b' x = b x) (ht : ∀ x, f * 12 ≤ x → x < f * 12 + 12 → te' x = te x) (h : pt_CF b te f n) : pt_CF b' te' f n := by
  obtain ⟨h1, h2, h3, en, h4, h5, h6⟩ := h
  have hc : ∀ k, k < n → (pt_Fi b f k → pt_Fi b' f k) ∧ pt_o b' f k = pt_o b f k := fun k hk => pt_Fi_c (fun j hj => hb _ (by omega) (by omega))
  exact ⟨h1, h2, fun k hk => (hc k hk).1 (h3 k hk), en, pt_TF_c (fun k hk => (hc k hk).2) h4, h5, fun k hk => (ht _ (by omega) (by omega)).trans (h6 k hk)⟩
theorem pt_ap_o {b : Nat → Int32} {a x : Nat} {v1 v2 v3 v4 : Int32} (h : x < a ∨ a + 4 ≤ x) : pt_ap b a v1 v2 v3 v4 x = b x := by
  unfold pt_ap
  rw [pk_un (by omega), pk_un (by omega), pk_un (by omega), pk_un (by omega)]
theorem pt_ap_F {b : Nat → Int32} {g n o p : Nat} {v3 v4 : Int32} (hg : g < 4) (hf : pt_fit g (nI o) (nI p) v3 v4 o p) :
    pt_Fi (pt_ap b ((g * 12 + n) * 4) (nI o) (nI p) v3 v4) g n ∧ pt_o (pt_ap b ((g * 12 + n) * 4) (nI o) (nI p) v3 v4) g n = o := by
  obtain ⟨_, ho, _, hp, hq, hr⟩ := hf
  generalize hB : pt_ap b ((g * 12 + n) * 4) (nI o) (nI p) v3 v4 = B
  have B0 : B ((g * 12 + n) * 4) = nI o := by
    rw [← hB]; unfold pt_ap
    rw [pk_un (by omega), pk_un (by omega), pk_un (by omega), pk_us]
  have B1 : B ((g * 12 + n) * 4 + 1) = nI p := by
    rw [← hB]; unfold pt_ap
    rw [pk_un (by omega), pk_un (by omega), pk_us]
  have B2 : B ((g * 12 + n) * 4 + 2) = if nI o = 0 then 0 else v3 := by
    rw [← hB]; unfold pt_ap
    rw [pk_un (by omega), pk_us]
  have B3 : B ((g * 12 + n) * 4 + 3) = if nI o = 0 ∨ nI o = 5 then 0 else v4 := by
    rw [← hB]; unfold pt_ap
    rw [pk_us]
  have eo : pt_o B g n = o := by unfold pt_o; rw [B0]; exact nI_clamp (by omega)
  have ep : pt_p B g n = p := by unfold pt_p; rw [B1]; exact nI_clamp (by omega)
  refine ⟨?_, eo⟩
  have h2 : ∃ q : Nat, B ((g * 12 + n) * 4 + 2) = nI q ∧ q ≤ 3 ∧ (o = 2 → q ≤ g) := by
    by_cases h0 : o = 0
    · exact ⟨0, by rw [B2, h0]; rfl, by omega, fun _ => by omega⟩
    · obtain ⟨q, e, h1, h2⟩ := hq h0
      exact ⟨q, by rw [B2, if_neg (fun e => h0 ((ba_eq0 (by omega)).mp e)), e], h1, h2⟩
  have h3 : o ≠ 6 → ∃ r : Nat, B ((g * 12 + n) * 4 + 3) = nI r ∧ r ≤ 63 ∧ (o ≠ 2 → r ≤ 3) := by
    intro h6
    by_cases h0 : o = 0
    · exact ⟨0, by rw [B3, h0]; rfl, by omega, fun _ => by omega⟩
    · by_cases h5 : o = 5
      · exact ⟨0, by rw [B3, h5]; rfl, by omega, fun _ => by omega⟩
      · obtain ⟨r, e, h1, h2⟩ := hr h0 h5 h6
        refine ⟨r, ?_, h1, h2⟩
        rw [B3, if_neg, e]
        rintro (e | e)
        · exact h0 ((ba_eq0 (by omega)).mp e)
        · exact h5 ((nI_eq (b := 5) (by omega) (by omega)).mp e)
  obtain ⟨q, q1, q2, q3⟩ := h2
  have eq : pt_q B g n = q := by unfold pt_q; rw [q1]; exact nI_clamp (by omega)
  unfold pt_Fi
  rw [eo, ep, eq]
  refine ⟨B0, ho, B1, hp, q1, q2, q3, fun h6 => ?_⟩
  obtain ⟨r, r1, r2, r3⟩ := h3 h6
  have er : pt_r B g n = r := by unfold pt_r; rw [r1]; exact nI_clamp (by omega)
  rw [er]
  exact ⟨r1, r2, r3⟩
theorem pt_nd_s {o o' nd : Nat → Nat} {n w L : Nat} (hL : 1 ≤ L) (hn : nd n = L) (h : pt_nd o nd n) (ho : ∀ k, k < n → o' k = o k) (hw : o' n = w) : pt_nd o' (ba_up nd (n + 1) (pt_nx w L)) (n + 1) := by
  intro k hk
  rw [ba_upn (show k ≠ n + 1 by omega)]
  rcases Nat.lt_or_ge k n with h1 | h1
  · rw [ba_upn (show k + 1 ≠ n + 1 by omega), ho k h1]
    exact h k h1
  · obtain rfl : k = n := by omega
    rw [ba_upe rfl, hw, hn]
    unfold pt_nx pt_fk
    refine ⟨hL, fun h0 => ?_, fun h0 => ?_, fun h0 h1 => ?_⟩
    · rw [if_pos h0]; omega
    · rw [if_neg (by omega), if_pos h0]
    · rw [if_neg h0, if_neg h1]
theorem i_vc_emit {k : Nat} {u : SX} {v : SY} (I : i_Rel k u v) (hk : k + 5 ≤ 2562) (v1 : Int32) (v2 : Int32) (v3 : Int32) (v4 : Int32) : wpX_emit (fun r u' => wpY_emit (fun r' v' => r' = r ∧ i_Rel (k + 5) u' v') v v1 v2 v3 v4) u v1 v2 v3 v4 := by
  refine pt_el (fun u v => wpX_emit (fun r u' => wpY_emit (fun r' v' => r' = r ∧ i_Rel (k + 5) u' v') v v1 v2 v3 v4) u v1 v2 v3 v4) ?_ I
  intro f_parts f_most f_functions f_openFn f_lacking f_subject f_wantedRest f_wantedLeft f_formCount f_bestA f_bestB f_bestC f_cells f_depth f_entries f_outcome f_freeNow f_lowest a_body a_lengths a_treeEnd a_accepted a_sig a_sizes a_input a_result a_state a_reached a_forms a_heads a_tails a_freed a_ints a_lists a_frameFn a_framePc g_purse g_bases g_cells g_supply g_depth g_entries b_lastRun b_rates b_rest b_known b_base b_head b_tail b_dead b_lists hl hP hF hS hZ
  have hR : i_Rel (k + 5) (f_parts, f_most, f_functions, f_openFn, f_lacking, f_subject, f_wantedRest, f_wantedLeft, f_formCount, f_bestA, f_bestB, f_bestC, f_cells, f_depth, f_entries, f_outcome, f_freeNow, f_lowest, a_body, a_lengths, a_treeEnd, a_accepted, a_sig, a_sizes, a_input, a_result, a_state, a_reached, a_forms, a_heads, a_tails, a_freed, a_ints, a_lists, a_frameFn, a_framePc) (f_parts, f_most, f_functions, f_lacking, f_openFn, g_purse, g_bases, g_cells, g_supply, g_depth, g_entries, a_body, a_lengths, a_sig, a_accepted, a_input, a_result, a_sizes, b_lastRun, b_rates, b_rest, b_known, b_base, b_head, b_tail, b_dead, a_frameFn, a_framePc, a_ints, b_lists) := pt_in hl hP hF hS hZ
  obtain ⟨F, ln, hF1, hF4, hln, hz, hC⟩ := hF
  rcases hC with ⟨ho, hlk, hC⟩ | ⟨g, L, hFg, ho, hlk, hO, hC⟩
  · have h0 : ¬ 0 ≤ f_openFn := by rw [ho]; decide
    exact br_f h0 (br_f h0 ⟨rfl, hR⟩)
  · obtain ⟨hL1, hL2, hFi, nd, nd0, ndn, hnd⟩ := hO
    have hg : g < 4 := by omega
    have hlg := (hln g hg).1
    generalize hn : ln g = n at *
    subst ho hlk hF1
    have h0 : (0 : Int32) ≤ nI g := nI_pos' (by omega)
    rcases pt_ops (f_parts := f_parts) (f_most := f_most) (f_functions := nI F) (f_openFn := nI g) (f_lacking := nI L) (f_subject := f_subject) (f_wantedRest := f_wantedRest) (f_wantedLeft := f_wantedLeft) (f_formCount := f_formCount) (f_bestA := f_bestA) (f_bestB := f_bestB) (f_bestC := f_bestC) (f_cells := f_cells) (f_depth := f_depth) (f_entries := f_entries) (f_outcome := f_outcome) (f_freeNow := f_freeNow) (f_lowest := f_lowest) (a_body := a_body) (a_lengths := a_lengths) (a_treeEnd := a_treeEnd) (a_accepted := a_accepted) (a_sig := a_sig) (a_sizes := a_sizes) (a_input := a_input) (a_result := a_result) (a_state := a_state) (a_reached := a_reached) (a_forms := a_forms) (a_heads := a_heads) (a_tails := a_tails) (a_freed := a_freed) (a_ints := a_ints) (a_lists := a_lists) (a_frameFn := a_frameFn) (a_framePc := a_framePc) (g_purse := g_purse) (g_bases := g_bases) (g_cells := g_cells) (g_supply := g_supply) (g_depth := g_depth) (g_entries := g_entries) (b_lastRun := b_lastRun) (b_rates := b_rates) (b_rest := b_rest) (b_known := b_known) (b_base := b_base) (b_head := b_head) (b_tail := b_tail) (b_dead := b_dead) (b_lists := b_lists) hg rfl v1 v2 v3 v4 with ⟨hX, hY⟩ | ⟨hX, hY, o, p, hfit⟩
    · exact br_t h0 (hX _ (br_t rfl (hY _ ⟨rfl, hR⟩)))
    · have ho6 : o ≤ 6 := hfit.2.1
      have hv1 : v1 = nI o := hfit.1
      have hv2 : v2 = nI p := hfit.2.2.1
      subst hv1 hv2
      have hnx : pt_nx o L ≤ 13 := Nat.le_trans pt_nx_le (by omega)
      refine br_t h0 (hX _ (br_f (by decide) (pt_xgr ho6 (nm_r (pt_nxe hL1) ⟨vp_in_nI hg (by omega), ?_⟩))))
      rw [show a_lengths (nI g).toNatClampNeg = nI n by rw [nI_clamp (by omega), hlg], nI_1, nI_add]
      have hbo : ∀ x, x < (g * 12 + n) * 4 ∨ (g * 12 + n) * 4 + 4 ≤ x → pt_ap a_body ((g * 12 + n) * 4) (nI o) (nI p) v3 v4 x = a_body x := fun x hx => pt_ap_o hx
      obtain ⟨hap1, hap2⟩ := pt_ap_F (b := a_body) (n := n) hg hfit
      generalize hB : pt_ap a_body ((g * 12 + n) * 4) (nI o) (nI p) v3 v4 = B at hbo hap1 hap2
      have hFi' : ∀ k, k < n + 1 → pt_Fi B g k := by
        intro k hk
        rcases Nat.lt_or_ge k n with h1 | h1
        · exact (pt_Fi_c (fun j hj => hbo _ (by omega))).1 (hFi k h1)
        · obtain rfl : k = n := by omega
          exact hap1
      have hnd' := pt_nd_s (o' := pt_o B g) hL1 ndn hnd (fun k hk => (pt_Fi_c (fun j hj => hbo _ (by omega))).2) hap2
      have hln' : ∀ f, f < 4 → upd a_lengths g (nI (n + 1)) f = nI (ba_up ln g (n + 1) f) := by
        intro f hf
        by_cases e : f = g
        · subst e; rw [pk_us, ba_upe rfl]
        · rw [pk_un e, ba_upn e]; exact (hln f hf).1
      refine pk_le (n + 1 + pt_nx o L) 12 (fun hle => ?_) (fun hgt => ?_)
      · have hKF : ∀ te', (∀ x, x < g * 12 ∨ g * 12 + 12 ≤ x → te' x = a_treeEnd x) → ∀ f, f < g → pt_CF B te' f (ba_up ln g (n + 1) f) := by
          intro te' hte f hf
          rw [ba_upn (by omega)]
          exact pt_CF_c (fun x h1 h2 => hbo x (by omega)) (fun x h1 h2 => hte x (by omega)) (hC f hf)
        have hln12 : ∀ f, f < 4 → upd a_lengths g (nI (n + 1)) f = nI (ba_up ln g (n + 1) f) ∧ ba_up ln g (n + 1) f ≤ 12 := by
          intro f hf
          refine ⟨hln' f hf, ?_⟩
          by_cases e : f = g
          · rw [ba_upe e]; omega
          · rw [ba_upn e]; exact (hln f hf).2
        have hz' : ∀ f, F ≤ f → f < 4 → ba_up ln g (n + 1) f = 0 := fun f h1 h2 => by rw [ba_upn (by omega)]; exact hz f h1 h2
        refine pt_xap hg (by omega) rfl hlg ?_
        rw [hB]
        refine pk_le (pt_nx o L) 0 (fun hz0 => ?_) (fun hz0 => ?_)
        · have hz1 : pt_nx o L = 0 := by omega
          obtain ⟨te', hCF, hte, hlink⟩ := pt_lk (f_parts := f_parts) (f_most := f_most) (f_functions := nI F) (f_openFn := nI g) (f_lacking := nI (pt_nx o L)) (f_subject := f_subject) (f_wantedRest := f_wantedRest) (f_wantedLeft := f_wantedLeft) (f_formCount := f_formCount) (f_bestA := f_bestA) (f_bestB := f_bestB) (f_bestC := f_bestC) (f_cells := f_cells) (f_depth := f_depth) (f_entries := f_entries) (f_outcome := f_outcome) (f_freeNow := f_freeNow) (f_lowest := f_lowest) (a_body := B) (a_lengths := upd a_lengths g (nI (n + 1))) (a_treeEnd := a_treeEnd) (a_accepted := a_accepted) (a_sig := a_sig) (a_sizes := a_sizes) (a_input := a_input) (a_result := a_result) (a_state := a_state) (a_reached := a_reached) (a_forms := a_forms) (a_heads := a_heads) (a_tails := a_tails) (a_freed := a_freed) (a_ints := a_ints) (a_lists := a_lists) (a_frameFn := a_frameFn) (a_framePc := a_framePc) hg (n := n + 1) (by omega) (by omega) pk_us hFi' hnd' (by rw [ba_upn (by omega)]; exact nd0) (by rw [ba_upe rfl, hz1])
          refine hlink _ ?_
          refine hY _ (pt_yap hg (by omega) ho6 hL1 (by omega) rfl rfl hlg (fun h => absurd h (by omega)) (fun _ => ⟨rfl, ?_⟩) (fun _ h => absurd hz1 h))
          rw [hB, hz1]
          refine pt_in hl hP ⟨F, ba_up ln g (n + 1), rfl, hF4, hln12, hz', Or.inl ⟨rfl, rfl, fun f hf => ?_⟩⟩ hS hZ
          rcases Nat.lt_or_ge f g with h1 | h1
          · exact hKF te' hte f h1
          · obtain rfl : f = g := by omega
            rw [ba_upe rfl]; exact hCF
        · refine hY _ (pt_yap hg (by omega) ho6 hL1 (by omega) rfl rfl hlg (fun h => absurd h (by omega)) (fun h => absurd h (by omega)) (fun _ _ => ⟨rfl, ?_⟩))
          rw [hB]
          refine pt_in hl hP ⟨F, ba_up ln g (n + 1), rfl, hF4, hln12, hz', Or.inr ⟨g, pt_nx o L, hFg, rfl, rfl, ?_, hKF a_treeEnd (fun _ _ => rfl)⟩⟩ hS hZ
          rw [ba_upe rfl]
          exact ⟨by omega, by omega, hFi', _, by rw [ba_upn (by omega)]; exact nd0, ba_upe rfl, hnd'⟩
      · exact hY _ (pt_yap hg (by omega) ho6 hL1 (by omega) rfl rfl hlg (fun _ => ⟨rfl, hR⟩) (fun h => absurd h (by omega)) (fun h => absurd h (by omega)))
section
variable {g_parts g_most g_count g_lacking g_opened g_purse g_bases g_cells g_supply g_depth g_entries : Int32} {b_body b_len b_sig b_accepted b_input b_result b_sizes b_lastRun b_rates b_rest b_known b_base b_head b_tail b_dead b_fun b_pc b_ints b_lists : Nat → Int32}
theorem pt_bnd {post : Int32 → Prop} {T p L : Nat} (hp : g_parts = nI p) (hp1 : 1 ≤ p) (hp4 : p ≤ 4) (hT : T ≤ 136) (hL : L ≤ 136) (h1 : T ≤ L * p) (h2 : ∀ i, i < L → i * p < T) (h : post (nI L)) :
    ∀ d i, i + d = L → wY_bound_58 post (nI T) g_parts g_most g_count g_lacking g_opened g_purse g_bases g_cells g_supply g_depth g_entries b_body b_len b_sig b_accepted b_input b_result b_sizes b_lastRun b_rates b_rest b_known b_base b_head b_tail b_dead b_fun b_pc b_ints b_lists (d + 1) (nI i) := by
  intro d
  subst hp
  induction d with
  | zero =>
    intro i hi
    obtain rfl : i = L := by omega
    refine pk_le 136 i (fun _ => h) (fun h3 => br_t ?_ h)
    rw [pk_mul]
    have : i * p ≤ 136 * 4 := Nat.mul_le_mul (by omega) hp4
    exact nI_le h1 (by omega)
  | succ d ih =>
    intro i hi
    have h3 := h2 i (by omega)
    refine pk_le 136 i (fun _ => by omega) (fun _ => br_f ?_ (nm_r (nI_1 i) (ih (i + 1) (by omega))))
    rw [pk_mul]
    exact nI_ge h3 (by omega)
end
theorem pt_ceil {T p : Nat} (hp1 : 1 ≤ p) (hp4 : p ≤ 4) (hT : T ≤ 136) : (T + p - 1) / p ≤ 136 ∧ T ≤ (T + p - 1) / p * p ∧ ∀ i, i < (T + p - 1) / p → i * p < T := by
  rcases (by omega : p = 1 ∨ p = 2 ∨ p = 3 ∨ p = 4) with rfl | rfl | rfl | rfl <;> exact ⟨by omega, by omega, fun i hi => by omega⟩
theorem i_vc_bound {k : Nat} {u : SX} {v : SY} (I : i_Rel k u v) (hk : k + 5 ≤ 2562) (v1 : Int32) : wpX_bound (fun r => wpY_bound (fun r' => r' = r ∧ i_Rel (k + 5) u v) v v1) u v1 := by
  refine pt_el (fun u v => wpX_bound (fun r => wpY_bound (fun r' => r' = r ∧ i_Rel (k + 5) u v) v v1) u v1) ?_ I
  intro f_parts f_most f_functions f_openFn f_lacking f_subject f_wantedRest f_wantedLeft f_formCount f_bestA f_bestB f_bestC f_cells f_depth f_entries f_outcome f_freeNow f_lowest a_body a_lengths a_treeEnd a_accepted a_sig a_sizes a_input a_result a_state a_reached a_forms a_heads a_tails a_freed a_ints a_lists a_frameFn a_framePc g_purse g_bases g_cells g_supply g_depth g_entries b_lastRun b_rates b_rest b_known b_base b_head b_tail b_dead b_lists hl hP hF hS hZ
  have hR : i_Rel (k + 5) (f_parts, f_most, f_functions, f_openFn, f_lacking, f_subject, f_wantedRest, f_wantedLeft, f_formCount, f_bestA, f_bestB, f_bestC, f_cells, f_depth, f_entries, f_outcome, f_freeNow, f_lowest, a_body, a_lengths, a_treeEnd, a_accepted, a_sig, a_sizes, a_input, a_result, a_state, a_reached, a_forms, a_heads, a_tails, a_freed, a_ints, a_lists, a_frameFn, a_framePc) (f_parts, f_most, f_functions, f_lacking, f_openFn, g_purse, g_bases, g_cells, g_supply, g_depth, g_entries, a_body, a_lengths, a_sig, a_accepted, a_input, a_result, a_sizes, b_lastRun, b_rates, b_rest, b_known, b_base, b_head, b_tail, b_dead, a_frameFn, a_framePc, a_ints, b_lists) := pt_in hl hP hF hS hZ
  obtain ⟨r, hX, hY, h⟩ := pt_st (f_parts := f_parts) (f_most := f_most) (f_functions := f_functions) (f_openFn := f_openFn) (f_lacking := f_lacking) (f_subject := f_subject) (f_wantedRest := f_wantedRest) (f_wantedLeft := f_wantedLeft) (f_formCount := f_formCount) (f_bestA := f_bestA) (f_bestB := f_bestB) (f_bestC := f_bestC) (f_cells := f_cells) (f_depth := f_depth) (f_entries := f_entries) (f_outcome := f_outcome) (f_freeNow := f_freeNow) (f_lowest := f_lowest) (a_body := a_body) (a_lengths := a_lengths) (a_treeEnd := a_treeEnd) (a_accepted := a_accepted) (a_sig := a_sig) (a_sizes := a_sizes) (a_input := a_input) (a_result := a_result) (a_state := a_state) (a_reached := a_reached) (a_forms := a_forms) (a_heads := a_heads) (a_tails := a_tails) (a_freed := a_freed) (a_ints := a_ints) (a_lists := a_lists) (a_frameFn := a_frameFn) (a_framePc := a_framePc) (g_purse := g_purse) (g_bases := g_bases) (g_cells := g_cells) (g_supply := g_supply) (g_depth := g_depth) (g_entries := g_entries) (b_lastRun := b_lastRun) (b_rates := b_rates) (b_rest := b_rest) (b_known := b_known) (b_base := b_base) (b_head := b_head) (b_tail := b_tail) (b_dead := b_dead) (b_lists := b_lists) hF v1
  unfold wpX_bound
  refine hX _ ?_
  unfold wpY_bound
  by_cases h3 : r = 3
  · refine br_t h3 ?_
    rcases h with ⟨rfl, h⟩ | ⟨f, n, rfl, hf, hlt, hn, hn2, h⟩
    · exact absurd h3 (by decide)
    · obtain ⟨c, c8, ec⟩ := hS (f * 5 + 2) (by omega)
      obtain ⟨a, a8, ea⟩ := hS (f * 5) (by omega)
      obtain ⟨b, b8, eb⟩ := hS (f * 5 + 1) (by omega)
      obtain ⟨s0, s1, s2, e0, l0, e1, l1, _⟩ := hZ
      obtain ⟨p, m, ep, p1, p4, _⟩ := hP
      have hab : a * s0 ≤ 64 := Nat.mul_le_mul a8 l0
      have hbb : b * s1 ≤ 64 := Nat.mul_le_mul b8 l1
      have i0 : vp_in (nI (f * 5)) 20 := vp_in_nI (by omega) (by omega)
      have i1 : vp_in (nI (f * 5) + 1) 20 := by rw [nI_1]; exact vp_in_nI (by omega) (by omega)
      have i2 : vp_in (nI (f * 5) + 2) 20 := by rw [ba_2]; exact vp_in_nI (by omega) (by omega)
      have eT : a_sig (nI (f * 5) + 2).toNatClampNeg + a_sig (nI (f * 5)).toNatClampNeg * a_sizes 0 + a_sig (nI (f * 5) + 1).toNatClampNeg * a_sizes 1 = nI (c + a * s0 + b * s1) := by
        rw [ba_2, nI_1, nI_clamp (by omega), nI_clamp (by omega), nI_clamp (by omega), ec, ea, eb, e0, e1, pk_mul, pk_mul, nI_add, nI_add]
      obtain ⟨c1, c2, c3⟩ := pt_ceil (T := c + a * s0 + b * s1) p1 p4 (by omega)
      have eD : (nI (c + a * s0 + b * s1) + f_parts - 1) / f_parts = nI ((c + a * s0 + b * s1 + p - 1) / p) := by
        rw [ep, nI_add, ba_ln (by omega), pk_div (by omega) (by omega) (by omega)]
      refine nm_r (ba_m5 f) ⟨i2, i0, i1, nm_r eT ⟨?_, hY _ (br_t h3 ?_)⟩⟩
      · rw [ep]; exact nI_ne0 (by omega) (by omega)
      · rw [ba_m5]
        refine ⟨i2, i0, i1, nm_r eT ⟨_, pt_bnd ep p1 p4 (by omega) c1 c2 c3 ⟨eD.symm, hR⟩ _ 0 (Nat.zero_add _)⟩⟩
  · exact br_f h3 (hY _ (br_f h3 ⟨rfl, hR⟩))
end
section
/-! typing, pure: the state of the walk with numbers (purse, rests, known cells, bases: 0 is none) -/
abbrev ty_T : Type := Int32 × (Nat → Int32) × (Nat → Nat) × (Nat → Nat)
/-- a rest charged -/
def ty_cr (re : Nat → Int32) (b : Nat) (e : Int32) : Nat → Int32 := if b = 0 then re else upd re b (re b - e)
/-- not negative where there is a base -/
def ty_ok (re : Nat → Int32) (b : Nat) : Prop := b ≠ 0 → 0 ≤ re b
/-- the base known to be nil -/
def ty_dr (bs : Nat → Nat) (b : Nat) : Nat → Nat := fun s => if bs s = b then 0 else bs s
def ty_lb (kn bs : Nat → Nat) (b : Nat) : Nat → Nat := fun s => if bs s = b then kn s + 1 else kn s
section
variable (o p q r en : Nat → Nat) (f : Nat) (parts : Int32) (rt : Nat → Int32)
/-- RET -/
def ty_ret (k : Nat) (t : ty_T) : Prop := 0 ≤ t.1 - nI (t.2.2.1 (p k)) * rt (f * 5 + 3) - rt (f * 5 + 4) ∧ ty_ok (ty_cr t.2.1 (t.2.2.2 (p k)) (rt (f * 5 + 3))) (t.2.2.2 (p k))
/-- CALL: the purse and the rests when charged -/
def ty_cp (k : Nat) (t : ty_T) : Int32 := t.1 - nI (t.2.2.1 (r k / 4 % 4)) * rt (q k * 5) - nI (t.2.2.1 (r k % 4)) * rt (q k * 5 + 1) - rt (q k * 5 + 2)
def ty_cc (k : Nat) (t : ty_T) : Nat → Int32 := ty_cr (ty_cr t.2.1 (t.2.2.2 (r k / 4 % 4)) (rt (q k * 5))) (t.2.2.2 (r k % 4)) (rt (q k * 5 + 1))
def ty_call (k : Nat) (t : ty_T) : Prop := 0 ≤ ty_cp q r rt k t ∧ ty_ok (ty_cc q r rt k t) (t.2.2.2 (r k / 4 % 4)) ∧ ty_ok (ty_cc q r rt k t) (t.2.2.2 (r k % 4))
/-- the check at k is passed -/
def ty_pass (k : Nat) (t : ty_T) : Prop := (o k = 0 → ty_ret p f rt k t) ∧ (o k = 1 → 0 ≤ t.1 - parts) ∧ (o k = 2 → ty_call q r rt k t)
def ty_mt (k : Nat) : Prop := o k = 3 ∨ o k = 4
/-- the first tree is reached, the second is reached -/
def ty_g1 (k : Nat) (t : ty_T) : Prop := ty_mt o k → t.2.2.1 (p k) = 0
def ty_g2 (k : Nat) (t : ty_T) : Prop := ty_mt o k → ¬ (t.2.2.1 (p k) = 0 ∧ t.2.2.2 (p k) = 0)
/-- the states there -/
def ty_f1 (k : Nat) (t : ty_T) : ty_T :=
  if o k = 1 then (t.1 - parts, t.2.1, ba_up t.2.2.1 (p k) (t.2.2.1 (r k) + 1), ba_up t.2.2.2 (p k) (t.2.2.2 (r k)))
  else if o k = 2 then (ty_cp q r rt k t + rt (q k * 5 + 4), upd (ty_cc q r rt k t) (k + 3) (rt (q k * 5 + 3)), ba_up t.2.2.1 (p k) 0, ba_up t.2.2.2 (p k) (k + 3))
  else if o k = 3 ∨ o k = 4 then (t.1, t.2.1, t.2.2.1, ty_dr t.2.2.2 (t.2.2.2 (p k)))
  else t
def ty_gain (k : Nat) : Int32 := if o k = 3 then parts else 0
def ty_f2 (k : Nat) (t : ty_T) : ty_T :=
  if o k = 3 ∨ o k = 4 then
    (if t.2.2.1 (p k) = 0 then (t.1 + t.2.1 (t.2.2.2 (p k)) + ty_gain o parts k, t.2.1, ba_up (ty_lb t.2.2.1 t.2.2.2 (t.2.2.2 (p k))) (r k) 0, ba_up t.2.2.2 (r k) (t.2.2.2 (p k)))
     else (t.1 + ty_gain o parts k, t.2.1, ba_up t.2.2.1 (r k) (t.2.2.1 (p k) - 1), ba_up t.2.2.2 (r k) (t.2.2.2 (p k))))
  else t
/-- all checks of the tree at k are passed -/
def ty_chk : Nat → Nat → ty_T → Prop
  | 0, _, _ => True
  | d + 1, k, t => ty_pass o p q r f parts rt k t ∧ (o k ≠ 0 → ty_g1 o p k t → ty_chk d (k + 1) (ty_f1 o p q r parts rt k t)) ∧ (pt_fk (o k) → ty_g2 o p k t → ty_chk d (en (k + 1)) (ty_f2 o p r parts k t))
/-- the walk from k towards the leaf l rejects -/
def ty_rj (l : Nat) : Nat → Nat → ty_T → Prop
  | 0, _, _ => False
  | d + 1, k, t => ¬ ty_pass o p q r f parts rt k t ∨ (o k ≠ 0 ∧ ((pt_fk (o k) ∧ en (k + 1) ≤ l) ∧ ty_g2 o p k t ∧ ty_rj l d (en (k + 1)) (ty_f2 o p r parts k t) ∨ ¬ (pt_fk (o k) ∧ en (k + 1) ≤ l) ∧ ty_g1 o p k t ∧ ty_rj l d (k + 1) (ty_f1 o p q r parts rt k t)))
theorem ty_leaf {n : Nat} (hT : pt_TF o en n) : ∀ d k, k < n → n - k ≤ d → ∃ l, k ≤ l ∧ l < en k ∧ o l = 0 := by
  intro d
  induction d with
  | zero => intro k h1 h2; omega
  | succ d ih =>
    intro k hk hd
    obtain ⟨h1, h2, h3, h4⟩ := hT k hk
    by_cases h0 : o k = 0
    · exact ⟨k, by omega, h1, h0⟩
    · obtain ⟨h5, h6, h7⟩ := h4 h0
      obtain ⟨l, l1, l2, l3⟩ := ih (k + 1) h5 (by omega)
      refine ⟨l, by omega, ?_, l3⟩
      by_cases hf : pt_fk (o k)
      · obtain ⟨h8, h9⟩ := h7 hf
        have := (hT _ h8).1
        omega
      · rw [h6 hf]; exact l2
theorem ty_all {n : Nat} (hT : pt_TF o en n) : ∀ d k t, k < n → n - k ≤ d → (ty_chk o p q r en f parts rt d k t ↔ ∀ l, k ≤ l → l < en k → o l = 0 → ¬ ty_rj o p q r en f parts rt l d k t) := by
  intro d
  induction d with
  | zero => intro k t h1 h2; omega
  | succ d ih =>
    intro k t hk hd
    obtain ⟨h1, h2, h3, h4⟩ := hT k hk
    obtain ⟨l0, m1, m2, m3⟩ := ty_leaf o en hT _ k hk (Nat.le_refl _)
    constructor
    · rintro ⟨c1, c2, c3⟩ l l1 l2 l3 hr
      rcases hr with hr | ⟨h0, ⟨⟨hf, hl⟩, hg, hr⟩ | ⟨hf, hg, hr⟩⟩
      · exact hr c1
      · obtain ⟨h5, h6, h7⟩ := h4 h0
        obtain ⟨h8, h9⟩ := h7 hf
        have e1 := hT (k + 1) h5
        exact (ih _ _ h8 (by omega)).mp (c3 hf hg) l hl (by omega) l3 hr
      · obtain ⟨h5, h6, h7⟩ := h4 h0
        have hlk : l ≠ k := fun e => h0 (e ▸ l3)
        refine (ih _ _ h5 (by omega)).mp (c2 h0 hg) l (by omega) ?_ l3 hr
        by_cases hfk : pt_fk (o k)
        · exact Nat.lt_of_not_le (fun h => hf ⟨hfk, h⟩)
        · rw [← h6 hfk]; exact l2
    · intro H
      refine ⟨?_, fun h0 hg => ?_, fun hf hg => ?_⟩
      · exact Classical.byContradiction fun hn => H l0 m1 m2 m3 (Or.inl hn)
      · obtain ⟨h5, h6, h7⟩ := h4 h0
        refine (ih _ _ h5 (by omega)).mpr fun l l1 l2 l3 hr => H l (by omega) ?_ l3 (Or.inr ⟨h0, Or.inr ⟨fun h => by omega, hg, hr⟩⟩)
        by_cases hfk : pt_fk (o k)
        · obtain ⟨h8, h9⟩ := h7 hfk
          have := (hT _ h8).1
          omega
        · rw [h6 hfk]; exact l2
      · have h0 : o k ≠ 0 := by unfold pt_fk at hf; omega
        obtain ⟨h5, h6, h7⟩ := h4 h0
        obtain ⟨h8, h9⟩ := h7 hf
        have e1 := hT (k + 1) h5
        exact (ih _ _ h8 (by omega)).mpr fun l l1 l2 l3 hr => H l (by omega) (by omega) l3 (Or.inr ⟨h0, Or.inl ⟨⟨hf, l1⟩, hg, hr⟩⟩)
end
end
section
/-! the reference's walk against the pure one -/
theorem pt_nx_f {o L : Nat} (h0 : o ≠ 0) (h : pt_fk o) : pt_nx o L = L + 1 := by
  unfold pt_fk at h
  unfold pt_nx
  rw [if_neg h0, if_pos h]
theorem pt_nx_s {o L : Nat} (h0 : o ≠ 0) (h : ¬ pt_fk o) : pt_nx o L = L := by
  unfold pt_fk at h
  unfold pt_nx
  rw [if_neg h0, if_neg h]
theorem pt_gr_f {o : Nat} (h : pt_fk o) : pt_gr o = 1 := by
  unfold pt_fk at h
  unfold pt_gr
  rw [if_neg (by omega), if_pos h]
section
variable {g_parts g_most g_count g_lacking g_opened g_purse g_bases g_cells g_supply g_depth g_entries : Int32} {b_body b_len b_sig b_accepted b_input b_result b_sizes b_lastRun b_rates b_rest b_known b_base b_head b_tail b_dead b_fun b_pc b_ints b_lists : Nat → Int32}
theorem ty_ycd {post : Int32 → Prop} {f n k : Nat} (j : Nat) {x : Int32} (hf : f < 4) (hc : nI f < g_count) (hl : b_len f = nI n) (hn : n ≤ 12) (hk : k < n) (hj : j ≤ 3) (hx : b_body ((f * 12 + k) * 4 + j) = x) (h : post x) : wpY_code post (g_parts, g_most, g_count, g_lacking, g_opened, g_purse, g_bases, g_cells, g_supply, g_depth, g_entries, b_body, b_len, b_sig, b_accepted, b_input, b_result, b_sizes, b_lastRun, b_rates, b_rest, b_known, b_base, b_head, b_tail, b_dead, b_fun, b_pc, b_ints, b_lists) (nI f) (nI k) (nI j) := by
  refine br_f (nI_pos (by omega)) (br_f (Int32.not_le.mpr hc) (br_f (nI_pos (by omega)) ⟨vp_in_nI hf (by omega), br_f ?_ (br_f (nI_pos (by omega)) (br_t (nI_le (b := 3) hj (by omega)) ⟨?_, ?_⟩))⟩))
  · rw [nI_clamp (by omega), hl]; exact nI_ge hk (by omega)
  · rw [ba_at, nI_add]; exact vp_in_nI (by omega) (by omega)
  · rw [ba_at, nI_add, nI_clamp (by omega), hx]; exact h
theorem ty_yc0 {post : Int32 → Prop} {f n k : Nat} {v : Int32} (hf : f < 4) (hc : nI f < g_count) (hl : b_len f = nI n) (hk : n ≤ k) (hk2 : k < 1000) (h : post 0) : wpY_code post (g_parts, g_most, g_count, g_lacking, g_opened, g_purse, g_bases, g_cells, g_supply, g_depth, g_entries, b_body, b_len, b_sig, b_accepted, b_input, b_result, b_sizes, b_lastRun, b_rates, b_rest, b_known, b_base, b_head, b_tail, b_dead, b_fun, b_pc, b_ints, b_lists) (nI f) (nI k) v := by
  refine br_f (nI_pos (by omega)) (br_f (Int32.not_le.mpr hc) (br_f (nI_pos (by omega)) ⟨vp_in_nI hf (by omega), br_t ?_ h⟩))
  rw [nI_clamp (by omega), hl]; exact nI_le hk (by omega)
theorem ty_scan {f n : Nat} {en : Nat → Nat} (hf : f < 4) (hc : nI f < g_count) (hl : b_len f = nI n) (hn : n ≤ 12) (hF : ∀ k, k < n → pt_Fi b_body f k) (hT : pt_TF (pt_o b_body f) en n) (post : Int32 → Prop) :
    ∀ d a t m, a < n → n - a ≤ d → t < 100 + a → wY_second_7 post (nI f) g_parts g_most g_count g_lacking g_opened g_purse g_bases g_cells g_supply g_depth g_entries b_body b_len b_sig b_accepted b_input b_result b_sizes b_lastRun b_rates b_rest b_known b_base b_head b_tail b_dead b_fun b_pc b_ints b_lists m (nI t) (nI (en a)) → wY_second_7 post (nI f) g_parts g_most g_count g_lacking g_opened g_purse g_bases g_cells g_supply g_depth g_entries b_body b_len b_sig b_accepted b_input b_result b_sizes b_lastRun b_rates b_rest b_known b_base b_head b_tail b_dead b_fun b_pc b_ints b_lists (m + (en a - a)) (nI (t + 1)) (nI a) := by
  intro d
  induction d with
  | zero => intro a t m h1 h2; omega
  | succ d ih =>
    intro a t m ha hd ht h
    obtain ⟨h1, h2, h3, h4⟩ := hT a ha
    obtain ⟨b0, b1, _⟩ := hF a ha
    obtain ⟨c, hce⟩ : ∃ c, m + (en a - a) = c + 1 := ⟨m + (en a - a) - 1, by omega⟩
    rw [hce]
    refine br_f (nI_ge (b := 12) (by omega) (by omega)) (br_f (nI_ne0 (by omega) (by omega)) (ty_ycd 0 hf hc hl hn ha (by omega) b0 ?_))
    refine pt_ygr b1 (nm_r (pt_nxe (L := t + 1) (by omega)) (nm_r (nI_1 a) ?_))
    by_cases h0 : pt_o b_body f a = 0
    · have e1 := h3 h0
      rw [show pt_nx (pt_o b_body f a) (t + 1) = t by unfold pt_nx; rw [if_pos h0]; omega, show c = m by omega, ← e1]
      exact h
    · obtain ⟨h5, h6, h7⟩ := h4 h0
      by_cases hk : pt_fk (pt_o b_body f a)
      · obtain ⟨h8, h9⟩ := h7 hk
        have e1 := hT (a + 1) h5
        have e2 := hT _ h8
        rw [pt_nx_f h0 hk, show c = (m + (en a - en (a + 1))) + (en (a + 1) - (a + 1)) by omega]
        refine ih (a + 1) (t + 1) _ h5 (by omega) (by omega) ?_
        rw [h9] at h ⊢
        exact ih _ t m h8 (by omega) (by omega) h
      · have e1 := h6 hk
        have e2 := hT (a + 1) h5
        rw [pt_nx_s h0 hk, show c = m + (en (a + 1) - (a + 1)) by omega]
        refine ih (a + 1) t m h5 (by omega) (by omega) ?_
        rw [← e1]; exact h
theorem ty_sec {f n k : Nat} {en : Nat → Nat} (hf : f < 4) (hc : nI f < g_count) (hl : b_len f = nI n) (hn : n ≤ 12) (hF : ∀ k, k < n → pt_Fi b_body f k) (hT : pt_TF (pt_o b_body f) en n) (hk : k + 1 < n) (post : Int32 → Prop)
    (h : post (nI (en (k + 1)))) : wpY_second post (g_parts, g_most, g_count, g_lacking, g_opened, g_purse, g_bases, g_cells, g_supply, g_depth, g_entries, b_body, b_len, b_sig, b_accepted, b_input, b_result, b_sizes, b_lastRun, b_rates, b_rest, b_known, b_base, b_head, b_tail, b_dead, b_fun, b_pc, b_ints, b_lists) (nI f) (nI k) := by
  refine nm_r (nI_1 k) ⟨1 + (en (k + 1) - (k + 1)), ty_scan hf hc hl hn hF hT post n (k + 1) 0 1 hk (by omega) (by omega) ?_⟩
  have := hT _ hk
  refine pk_le 12 (en (k + 1)) (fun h1 => ?_) (fun h1 => br_t rfl h)
  rw [show en (k + 1) = 12 by omega] at h
  exact h
theorem ty_sec0 {f n k : Nat} (hf : f < 4) (hc : nI f < g_count) (hl : b_len f = nI n) (hn : n ≤ 12) (hk : k + 1 = n) : ∃ w : Nat, ∀ post : Int32 → Prop, post (nI w) → wpY_second post (g_parts, g_most, g_count, g_lacking, g_opened, g_purse, g_bases, g_cells, g_supply, g_depth, g_entries, b_body, b_len, b_sig, b_accepted, b_input, b_result, b_sizes, b_lastRun, b_rates, b_rest, b_known, b_base, b_head, b_tail, b_dead, b_fun, b_pc, b_ints, b_lists) (nI f) (nI k) := by
  rcases (by omega : n = 12 ∨ n < 12) with h12 | h12
  · exact ⟨12, fun post h => nm_r (nI_1 k) ⟨1, by rw [hk, h12]; exact br_t (by decide) h⟩⟩
  · rcases (by omega : n = 11 ∨ n < 11) with h11 | h11
    · refine ⟨12, fun post h => nm_r (nI_1 k) ⟨2, br_f (nI_ge (b := 12) (by omega) (by omega)) (br_f (by decide) (ty_yc0 hf hc hl (by omega) (by omega) (br_t rfl (nm_e (nm_r (nI_1 (k + 1)) ?_)))))⟩⟩
      rw [hk, h11]
      exact br_t (by decide) h
    · refine ⟨n + 1, fun post h => nm_r (nI_1 k) ⟨2, br_f (nI_ge (b := 12) (by omega) (by omega)) (br_f (by decide) (ty_yc0 hf hc hl (by omega) (by omega) (br_t rfl (nm_e (nm_r (nI_1 (k + 1)) ?_)))))⟩⟩
      rw [hk]
      exact br_f (nI_ge (b := 12) (by omega) (by omega)) (br_t (by decide) h)
theorem ty_ychg {post : SY → Prop} {s m i : Nat} {e : Int32} (hs : s < 4) (hm : b_known s = nI m) (hb : b_base s = nI i) (hi : i < 16)
    (h : post (g_parts, g_most, g_count, g_lacking, g_opened, g_purse - nI m * e, g_bases, g_cells, g_supply, g_depth, g_entries, b_body, b_len, b_sig, b_accepted, b_input, b_result, b_sizes, b_lastRun, b_rates, ty_cr b_rest i e, b_known, b_base, b_head, b_tail, b_dead, b_fun, b_pc, b_ints, b_lists)) : wpY_charge post (g_parts, g_most, g_count, g_lacking, g_opened, g_purse, g_bases, g_cells, g_supply, g_depth, g_entries, b_body, b_len, b_sig, b_accepted, b_input, b_result, b_sizes, b_lastRun, b_rates, b_rest, b_known, b_base, b_head, b_tail, b_dead, b_fun, b_pc, b_ints, b_lists) (nI s) e := by
  have hv : vp_in (nI s) 4 := vp_in_nI hs (by omega)
  have hcl : (nI s).toNatClampNeg = s := nI_clamp (by omega)
  refine And.intro hv (nm_r (e' := g_purse - nI m * e) (by rw [hcl, hm]) ⟨hv, ?_⟩)
  rw [hcl, hb]
  unfold ty_cr at h
  by_cases h0 : i = 0
  · rw [if_pos h0] at h
    exact br_t (by rw [h0]; rfl) h
  · rw [if_neg h0] at h
    have hv2 : vp_in (nI i) 16 := vp_in_nI hi (by omega)
    refine br_f (nI_ne0 (by omega) (by omega)) ⟨hv, hv2, hv2, nm_e ?_⟩
    rw [nI_clamp (by omega)]
    exact h
theorem ty_yneg {post : Int32 → Prop} {B : Nat} (hb : g_bases = nI B) (hB : B < 16) (h0 : (∀ i, 1 ≤ i → i ≤ B → 0 ≤ b_rest i) → 0 ≤ g_purse → post 0) (h1 : ¬ ((∀ i, 1 ≤ i → i ≤ B → 0 ≤ b_rest i) ∧ 0 ≤ g_purse) → post 1) : wpY_negative post (g_parts, g_most, g_count, g_lacking, g_opened, g_purse, g_bases, g_cells, g_supply, g_depth, g_entries, b_body, b_len, b_sig, b_accepted, b_input, b_result, b_sizes, b_lastRun, b_rates, b_rest, b_known, b_base, b_head, b_tail, b_dead, b_fun, b_pc, b_ints, b_lists) := by
  subst hb
  have go : ∀ d i, 1 ≤ i → i + d = B + 1 → (∀ j, 1 ≤ j → j < i → 0 ≤ b_rest j) → wY_negative_2 post g_parts g_most g_count g_lacking g_opened g_purse (nI B) g_cells g_supply g_depth g_entries b_body b_len b_sig b_accepted b_input b_result b_sizes b_lastRun b_rates b_rest b_known b_base b_head b_tail b_dead b_fun b_pc b_ints b_lists (d + 1) (nI i) := by
    intro d
    induction d with
    | zero =>
      intro i hi hd hj
      have hall : ∀ j, 1 ≤ j → j ≤ B → 0 ≤ b_rest j := fun j a b => hj j a (by omega)
      exact br_t (nI_lt (by omega) (by omega)) (br_c (fun h => h0 hall h) (fun h => h1 (fun c => h c.2)))
    | succ d ih =>
      intro i hi hd hj
      refine br_f (nI_nlt (by omega) (by omega)) ⟨vp_in_nI (by omega) (by omega), ?_⟩
      rw [nI_clamp (by omega)]
      refine br_c (fun h => nm_r (nI_1 i) (ih (i + 1) (by omega) (by omega) (fun j a b => ?_))) (fun h => h1 (fun c => h (c.1 i hi (by omega))))
      rcases Nat.lt_or_ge j i with h2 | h2
      · exact hj j a h2
      · obtain rfl : j = i := by omega
        exact h
  exact Exists.intro (B + 1) (go B 1 (by omega) (by omega) (fun j a b => by omega))
/-- the bases dropped and laid bare, up to slot i -/
def ty_db (base : Nat → Int32) (b : Int32) (i : Nat) : Nat → Int32 := fun s => if s < i ∧ base s = b then 0 else base s
def ty_kb (known base : Nat → Int32) (b : Int32) (i : Nat) : Nat → Int32 := fun s => if s < i ∧ base s = b then known s + 1 else known s
theorem ty_ydrop {post : Int32 → SY → Prop} {b : Int32} (hb : ∀ s, s < 4 → b_base s = b ∨ b_base s ≠ b) (h : post 1 (g_parts, g_most, g_count, g_lacking, g_opened, g_purse, g_bases, g_cells, g_supply, g_depth, g_entries, b_body, b_len, b_sig, b_accepted, b_input, b_result, b_sizes, b_lastRun, b_rates, b_rest, b_known, ty_db b_base b 4, b_head, b_tail, b_dead, b_fun, b_pc, b_ints, b_lists)) :
    ∀ d i, i + d = 4 → wY_match_31 post b g_parts g_most g_count g_lacking g_opened g_purse g_bases g_cells g_supply g_depth g_entries (d + 1) (nI i) b_body b_len b_sig b_accepted b_input b_result b_sizes b_lastRun b_rates b_rest b_known (ty_db b_base b i) b_head b_tail b_dead b_fun b_pc b_ints b_lists := by
  intro d
  induction d with
  | zero =>
    intro i hi
    obtain rfl : i = 4 := by omega
    exact br_t (by decide) h
  | succ d ih =>
    intro i hi
    have hv : vp_in (nI i) 4 := vp_in_nI (by omega) (by omega)
    have ei : ty_db b_base b i i = b_base i := if_neg (fun c => by omega)
    refine br_f (nI_ge (b := 4) (by omega) (by omega)) ⟨hv, ?_⟩
    rw [nI_clamp (by omega), ei]
    refine br_c (fun hc => ⟨hv, nm_r (e' := ty_db b_base b (i + 1)) ?_ (nm_r (nI_1 i) (ih (i + 1) (by omega)))⟩) (fun hc => nm_r (nI_1 i) ?_)
    · funext s
      unfold upd ty_db
      by_cases e : s = i
      · subst e
        rw [if_pos rfl, if_pos ⟨by omega, hc⟩]
      · rw [if_neg e]
        by_cases c : s < i ∧ b_base s = b
        · rw [if_pos c, if_pos ⟨by omega, c.2⟩]
        · rw [if_neg c, if_neg (fun z => c ⟨by omega, z.2⟩)]
    · have e2 : ty_db b_base b i = ty_db b_base b (i + 1) := by
        funext s
        unfold ty_db
        by_cases e : s = i
        · subst e
          rw [if_neg (fun z => hc z.2), if_neg (fun z => hc z.2)]
        · by_cases c : s < i ∧ b_base s = b
          · rw [if_pos c, if_pos ⟨by omega, c.2⟩]
          · rw [if_neg c, if_neg (fun z => c ⟨by omega, z.2⟩)]
      rw [e2]
      exact ih (i + 1) (by omega)
theorem ty_ybare {post : Int32 → SY → Prop} {x3 x5 b : Int32} (h : wY_match_154 post x3 x5 b g_parts g_most g_count g_lacking g_opened g_purse g_bases g_cells g_supply g_depth g_entries b_body b_len b_sig b_accepted b_input b_result b_sizes b_lastRun b_rates b_rest (ty_kb b_known b_base b 4) b_base b_head b_tail b_dead b_fun b_pc b_ints b_lists) :
    ∀ d i, i + d = 4 → wY_match_119 post x3 x5 b g_parts g_most g_count g_lacking g_opened g_purse g_bases g_cells g_supply g_depth g_entries (d + 1) (nI i) b_body b_len b_sig b_accepted b_input b_result b_sizes b_lastRun b_rates b_rest (ty_kb b_known b_base b i) b_base b_head b_tail b_dead b_fun b_pc b_ints b_lists := by
  intro d
  induction d with
  | zero =>
    intro i hi
    obtain rfl : i = 4 := by omega
    exact br_t (by decide) h
  | succ d ih =>
    intro i hi
    have hv : vp_in (nI i) 4 := vp_in_nI (by omega) (by omega)
    have ei : ty_kb b_known b_base b i i = b_known i := if_neg (fun c => by omega)
    refine br_f (nI_ge (b := 4) (by omega) (by omega)) ⟨hv, ?_⟩
    rw [nI_clamp (by omega)]
    refine br_c (fun hc => ⟨hv, hv, nm_r (e' := ty_kb b_known b_base b (i + 1)) ?_ (nm_r (nI_1 i) (ih (i + 1) (by omega)))⟩) (fun hc => nm_r (nI_1 i) ?_)
    · rw [ei]
      funext s
      unfold upd ty_kb
      by_cases e : s = i
      · subst e
        rw [if_pos rfl, if_pos ⟨by omega, hc⟩]
      · rw [if_neg e]
        by_cases c : s < i ∧ b_base s = b
        · rw [if_pos c, if_pos ⟨by omega, c.2⟩]
        · rw [if_neg c, if_neg (fun z => c ⟨by omega, z.2⟩)]
    · have e2 : ty_kb b_known b_base b i = ty_kb b_known b_base b (i + 1) := by
        funext s
        unfold ty_kb
        by_cases e : s = i
        · subst e
          rw [if_neg (fun z => hc z.2), if_neg (fun z => hc z.2)]
        · by_cases c : s < i ∧ b_base s = b
          · rw [if_pos c, if_pos ⟨by omega, c.2⟩]
          · rw [if_neg c, if_neg (fun z => c ⟨by omega, z.2⟩)]
      rw [e2]
      exact ih (i + 1) (by omega)
/-- match, the first tree -/
theorem ty_ym1 {post : Int32 → SY → Prop} {op x : Int32} {p m : Nat} (hp : p < 4) (hm : b_known p = nI m) (hm2 : m < 1000)
    (h1 : m = 0 → post 1 (g_parts, g_most, g_count, g_lacking, g_opened, g_purse, g_bases, g_cells, g_supply, g_depth, g_entries, b_body, b_len, b_sig, b_accepted, b_input, b_result, b_sizes, b_lastRun, b_rates, b_rest, b_known, ty_db b_base (b_base p) 4, b_head, b_tail, b_dead, b_fun, b_pc, b_ints, b_lists)) (h0 : m ≠ 0 → post 0 (g_parts, g_most, g_count, g_lacking, g_opened, g_purse, g_bases, g_cells, g_supply, g_depth, g_entries, b_body, b_len, b_sig, b_accepted, b_input, b_result, b_sizes, b_lastRun, b_rates, b_rest, b_known, b_base, b_head, b_tail, b_dead, b_fun, b_pc, b_ints, b_lists)) : wpY_match post (g_parts, g_most, g_count, g_lacking, g_opened, g_purse, g_bases, g_cells, g_supply, g_depth, g_entries, b_body, b_len, b_sig, b_accepted, b_input, b_result, b_sizes, b_lastRun, b_rates, b_rest, b_known, b_base, b_head, b_tail, b_dead, b_fun, b_pc, b_ints, b_lists) op (nI p) x 0 := by
  have hv : vp_in (nI p) 4 := vp_in_nI hp (by omega)
  have hcl : (nI p).toNatClampNeg = p := nI_clamp (by omega)
  refine And.intro hv (nm_r (e' := nI m) (by rw [hcl, hm]) ⟨hv, nm_r (e' := b_base p) (by rw [hcl]) (br_t rfl (pk_le m 0 (fun hz => ⟨5, ?_⟩) (fun hz => h0 (by omega))))⟩)
  have := ty_ydrop (post := post) (b := b_base p) (b_base := b_base) (fun s _ => Classical.em _) (h1 (by omega)) 4 0 (by omega)
  have e0 : ty_db b_base (b_base p) 0 = b_base := funext fun s => if_neg (fun c => by omega)
  rw [e0] at this
  exact this
/-- match, the second tree -/
theorem ty_ym2 {post : Int32 → SY → Prop} {op : Int32} {p r m i : Nat} (hp : p < 4) (hr : r < 4) (hm : b_known p = nI m) (hm2 : m < 1000) (hb : b_base p = nI i) (hi : i < 16)
    (h0 : m = 0 → i = 0 → post 0 (g_parts, g_most, g_count, g_lacking, g_opened, g_purse, g_bases, g_cells, g_supply, g_depth, g_entries, b_body, b_len, b_sig, b_accepted, b_input, b_result, b_sizes, b_lastRun, b_rates, b_rest, b_known, b_base, b_head, b_tail, b_dead, b_fun, b_pc, b_ints, b_lists))
    (h1 : m = 0 → i ≠ 0 → post 1 (g_parts, g_most, g_count, g_lacking, g_opened, g_purse + (if op = 3 then g_parts else 0) + b_rest i, g_bases, g_cells, g_supply, g_depth, g_entries, b_body, b_len, b_sig, b_accepted, b_input, b_result, b_sizes, b_lastRun, b_rates, b_rest, upd (ty_kb b_known b_base (nI i) 4) r 0, upd b_base r (nI i), b_head, b_tail, b_dead, b_fun, b_pc, b_ints, b_lists))
    (h2 : m ≠ 0 → post 1 (g_parts, g_most, g_count, g_lacking, g_opened, g_purse + (if op = 3 then g_parts else 0), g_bases, g_cells, g_supply, g_depth, g_entries, b_body, b_len, b_sig, b_accepted, b_input, b_result, b_sizes, b_lastRun, b_rates, b_rest, upd b_known r (nI (m - 1)), upd b_base r (nI i), b_head, b_tail, b_dead, b_fun, b_pc, b_ints, b_lists)) : wpY_match post (g_parts, g_most, g_count, g_lacking, g_opened, g_purse, g_bases, g_cells, g_supply, g_depth, g_entries, b_body, b_len, b_sig, b_accepted, b_input, b_result, b_sizes, b_lastRun, b_rates, b_rest, b_known, b_base, b_head, b_tail, b_dead, b_fun, b_pc, b_ints, b_lists) op (nI p) (nI r) 1 := by
  have hv : vp_in (nI p) 4 := vp_in_nI hp (by omega)
  have hvr : vp_in (nI r) 4 := vp_in_nI hr (by omega)
  have hcl : (nI p).toNatClampNeg = p := nI_clamp (by omega)
  refine And.intro hv (nm_r (e' := nI m) (by rw [hcl, hm]) ⟨hv, nm_r (e' := nI i) (by rw [hcl, hb]) (br_f (by decide) ?_)⟩)
  have key : ∀ pu : Int32, pu = g_purse + (if op = 3 then g_parts else 0) → (m = 0 → i ≠ 0) → wY_match_95 post (nI r) (nI m) (nI i) g_parts g_most g_count g_lacking g_opened pu g_bases g_cells g_supply g_depth g_entries b_body b_len b_sig b_accepted b_input b_result b_sizes b_lastRun b_rates b_rest b_known b_base b_head b_tail b_dead b_fun b_pc b_ints b_lists := by
    intro pu hpu hmi
    subst hpu
    refine pk_eq m 0 (fun hz => ⟨vp_in_nI hi (by omega), nm_e ⟨5, ?_⟩⟩) (fun hz => ?_)
    · rw [nI_clamp (by omega)]
      have := ty_ybare (post := post) (x3 := nI r) (x5 := nI m) (b := nI i) (b_known := b_known) (b_base := b_base) (g_purse := g_purse + (if op = 3 then g_parts else 0) + b_rest i) (g_parts := g_parts) (g_most := g_most) (g_count := g_count) (g_lacking := g_lacking) (g_opened := g_opened) (g_bases := g_bases) (g_cells := g_cells) (g_supply := g_supply) (g_depth := g_depth) (g_entries := g_entries) (b_body := b_body) (b_len := b_len) (b_sig := b_sig) (b_accepted := b_accepted) (b_input := b_input) (b_result := b_result) (b_sizes := b_sizes) (b_lastRun := b_lastRun) (b_rates := b_rates) (b_rest := b_rest) (b_head := b_head) (b_tail := b_tail) (b_dead := b_dead) (b_fun := b_fun) (b_pc := b_pc) (b_ints := b_ints) (b_lists := b_lists) (by
        refine pk_le m 0 (fun _ => And.intro hvr (nm_e ⟨hvr, nm_e ?_⟩)) (fun h => absurd h (by omega))
        rw [nI_clamp (by omega)]
        exact h1 hz (hmi hz)) 4 0 (by omega)
      have e0 : ty_kb b_known b_base (nI i) 0 = b_known := funext fun s => if_neg (fun c => by omega)
      rw [e0] at this
      exact this
    · refine pk_le m 0 (fun h => absurd h (by omega)) (fun _ => And.intro hvr (nm_e ⟨hvr, nm_e ?_⟩))
      rw [nI_clamp (by omega), ba_ln (by omega)]
      exact h2 hz
  have key2 : (m = 0 → i ≠ 0) → wY_match_77 post op (nI r) (nI m) (nI i) g_parts g_most g_count g_lacking g_opened g_purse g_bases g_cells g_supply g_depth g_entries b_body b_len b_sig b_accepted b_input b_result b_sizes b_lastRun b_rates b_rest b_known b_base b_head b_tail b_dead b_fun b_pc b_ints b_lists := by
    intro hmi
    refine br_c (fun e => nm_e (key _ (by rw [if_pos e]) hmi)) (fun e => key _ (by rw [if_neg e, Int32.add_zero]) hmi)
  refine pk_eq m 0 (fun hz => pk_eq i 0 (fun hi0 => h0 hz hi0) (fun hi0 => key2 (fun _ => hi0))) (fun hz => key2 (fun h => absurd h hz))
end
end
section
/-! the reference's walk: the relation with the pure state, node by node -/
def ty_Y (k : Nat) (purse bases : Int32) (rest known base : Nat → Int32) (pu : Int32) (re : Nat → Int32) (kn bs : Nat → Nat) (B : Nat) (w : Nat → Nat) : Prop :=
  purse = pu ∧ bases = nI B ∧ 2 ≤ B ∧ B ≤ k + 2 ∧ w 0 = 0 ∧ (∀ i, 1 ≤ i → i ≤ B → 1 ≤ w i ∧ w i ≤ k + 2 ∧ rest i = re (w i) ∧ 0 ≤ rest i) ∧
  (∀ i j, i ≤ B → j ≤ B → w i = w j → i = j) ∧ (∀ s, s < 4 → known s = nI (kn s) ∧ kn s ≤ k ∧ ∃ i, i ≤ B ∧ base s = nI i ∧ bs s = w i)
theorem ty_Ymono {k k' : Nat} {purse bases : Int32} {rest known base : Nat → Int32} {pu : Int32} {re : Nat → Int32} {kn bs : Nat → Nat} {B : Nat} {w : Nat → Nat} (hk : k ≤ k') (h : ty_Y k purse bases rest known base pu re kn bs B w) : ty_Y k' purse bases rest known base pu re kn bs B w := by
  obtain ⟨h1, h2, h3, h4, h5, h6, h7, h8⟩ := h
  refine ⟨h1, h2, h3, by omega, h5, fun i a b => ?_, h7, fun s hs => ?_⟩
  · obtain ⟨a1, a2, a3, a4⟩ := h6 i a b
    exact ⟨a1, by omega, a3, a4⟩
  · obtain ⟨a1, a2, a3⟩ := h8 s hs
    exact ⟨a1, by omega, a3⟩
theorem ty_cr_map {rest re : Nat → Int32} {B i : Nat} {w : Nat → Nat} {e : Int32} (hi : i ≤ B) (h0 : w 0 = 0) (hw : ∀ j, 1 ≤ j → j ≤ B → 1 ≤ w j) (hr : ∀ j, 1 ≤ j → j ≤ B → rest j = re (w j)) (hj : ∀ i j, i ≤ B → j ≤ B → w i = w j → i = j) :
    ∀ j, 1 ≤ j → j ≤ B → ty_cr rest i e j = ty_cr re (w i) e (w j) := by
  intro j h1 h2
  unfold ty_cr
  by_cases hz : i = 0
  · subst hz
    rw [if_pos rfl, if_pos h0]
    exact hr j h1 h2
  · have := hw i (by omega) hi
    rw [if_neg hz, if_neg (by omega)]
    by_cases e : j = i
    · subst e
      rw [pk_us, pk_us, hr j h1 h2]
    · rw [pk_un e, pk_un (fun c => e (hj j i h2 hi c))]
      exact hr j h1 h2
theorem ty_cr_o {re : Nat → Int32} {b j : Nat} {e : Int32} (h : j ≠ b) : ty_cr re b e j = re j := by
  unfold ty_cr
  split
  · rfl
  · exact pk_un h
/-- after a charge of two slots: negative says what the pure check says -/
theorem ty_neg2 {rest re : Nat → Int32} {B i1 i2 : Nat} {w : Nat → Nat} {e1 e2 pu : Int32} (hi1 : i1 ≤ B) (hi2 : i2 ≤ B) (h0 : w 0 = 0) (hw : ∀ j, 1 ≤ j → j ≤ B → 1 ≤ w j) (hr : ∀ j, 1 ≤ j → j ≤ B → rest j = re (w j) ∧ 0 ≤ rest j) (hj : ∀ i j, i ≤ B → j ≤ B → w i = w j → i = j) :
    (∀ j, 1 ≤ j → j ≤ B → ty_cr (ty_cr rest i1 e1) i2 e2 j = ty_cr (ty_cr re (w i1) e1) (w i2) e2 (w j)) ∧
    (((∀ i, 1 ≤ i → i ≤ B → 0 ≤ ty_cr (ty_cr rest i1 e1) i2 e2 i) ∧ 0 ≤ pu) ↔ (0 ≤ pu ∧ ty_ok (ty_cr (ty_cr re (w i1) e1) (w i2) e2) (w i1) ∧ ty_ok (ty_cr (ty_cr re (w i1) e1) (w i2) e2) (w i2))) := by
  have m1 := ty_cr_map (e := e1) hi1 h0 hw (fun j a b => (hr j a b).1) hj
  have m2 := ty_cr_map (e := e2) hi2 h0 hw m1 hj
  refine ⟨m2, ?_, ?_⟩
  · rintro ⟨a, b⟩
    refine ⟨b, fun hz => ?_, fun hz => ?_⟩
    · have h1 : i1 ≠ 0 := fun e => hz (by rw [e, h0])
      rw [← m2 i1 (by omega) hi1]; exact a i1 (by omega) hi1
    · have h1 : i2 ≠ 0 := fun e => hz (by rw [e, h0])
      rw [← m2 i2 (by omega) hi2]; exact a i2 (by omega) hi2
  · rintro ⟨b, c1, c2⟩
    refine ⟨fun i a1 a2 => ?_, b⟩
    have hwi := hw i a1 a2
    by_cases x1 : i = i1
    · subst x1
      rw [m2 i a1 a2]; exact c1 (by omega)
    · by_cases x2 : i = i2
      · subst x2
        rw [m2 i a1 a2]; exact c2 (by omega)
      · rw [ty_cr_o x2, ty_cr_o x1]; exact (hr i a1 a2).2
theorem ty_neg1 {rest re : Nat → Int32} {B i1 : Nat} {w : Nat → Nat} {e1 pu : Int32} (hi1 : i1 ≤ B) (h0 : w 0 = 0) (hw : ∀ j, 1 ≤ j → j ≤ B → 1 ≤ w j) (hr : ∀ j, 1 ≤ j → j ≤ B → rest j = re (w j) ∧ 0 ≤ rest j) (hj : ∀ i j, i ≤ B → j ≤ B → w i = w j → i = j) :
    ((∀ i, 1 ≤ i → i ≤ B → 0 ≤ ty_cr rest i1 e1 i) ∧ 0 ≤ pu) ↔ (0 ≤ pu ∧ ty_ok (ty_cr re (w i1) e1) (w i1)) := by
  have m1 := ty_cr_map (e := e1) hi1 h0 hw (fun j a b => (hr j a b).1) hj
  constructor
  · rintro ⟨a, b⟩
    refine ⟨b, fun hz => ?_⟩
    have h1 : i1 ≠ 0 := fun e => hz (by rw [e, h0])
    rw [← m1 i1 (by omega) hi1]; exact a i1 (by omega) hi1
  · rintro ⟨b, c1⟩
    refine ⟨fun i a1 a2 => ?_, b⟩
    have hwi := hw i a1 a2
    by_cases x1 : i = i1
    · subst x1
      rw [m1 i a1 a2]; exact c1 (by omega)
    · rw [ty_cr_o x1]; exact (hr i a1 a2).2
section
variable {g_parts g_most g_count g_lacking g_opened g_purse g_bases g_cells g_supply g_depth g_entries : Int32} {b_body b_len b_sig b_accepted b_input b_result b_sizes b_lastRun b_rates b_rest b_known b_base b_head b_tail b_dead b_fun b_pc b_ints b_lists : Nat → Int32} {o p q r : Nat → Nat} {f k : Nat} {pu : Int32} {re : Nat → Int32} {kn bs : Nat → Nat} {B : Nat} {w : Nat → Nat}
/-- CONS keeps it -/
theorem ty_Ycons {p r : Nat} (hp : p < 4) (hr : r < 4) (h : ty_Y k g_purse g_bases b_rest b_known b_base pu re kn bs B w) :
    ty_Y (k + 1) (g_purse - g_parts) g_bases b_rest (upd b_known p (b_known r + 1)) (upd b_base p (b_base r)) (pu - g_parts) re (ba_up kn p (kn r + 1)) (ba_up bs p (bs r)) B w := by
  obtain ⟨h1, h2, h3, h4, h5, h6, h7, h8⟩ := h
  refine ⟨by rw [h1], h2, h3, by omega, h5, fun i a b => ?_, h7, fun s hs => ?_⟩
  · obtain ⟨a1, a2, a3, a4⟩ := h6 i a b
    exact ⟨a1, by omega, a3, a4⟩
  · by_cases e : s = p
    · obtain ⟨a1, a2, a3⟩ := h8 r hr
      rw [ba_ue e, ba_ue e, ba_upe e, ba_upe e, a1, nI_1]
      exact ⟨rfl, by omega, a3⟩
    · obtain ⟨a1, a2, a3⟩ := h8 s hs
      rw [pk_un e, pk_un e, ba_upn e, ba_upn e]
      exact ⟨a1, by omega, a3⟩
theorem ty_Yeq {s p : Nat} (hk : k ≤ 12) (hs : s < 4) (hp : p < 4) (h : ty_Y k g_purse g_bases b_rest b_known b_base pu re kn bs B w) : b_base s = b_base p ↔ bs s = bs p := by
  obtain ⟨h1, h2, h3, h4, h5, h6, h7, h8⟩ := h
  obtain ⟨_, _, i, a3, a4, a5⟩ := h8 s hs
  obtain ⟨_, _, j, b3, b4, b5⟩ := h8 p hp
  rw [a4, b4, a5, b5, nI_eq (by omega) (by omega)]
  exact ⟨fun e => by rw [e], fun e => h7 i j a3 b3 e⟩
theorem ty_Ydrop {p : Nat} (hk : k ≤ 12) (hp : p < 4) (h : ty_Y k g_purse g_bases b_rest b_known b_base pu re kn bs B w) :
    ty_Y (k + 1) g_purse g_bases b_rest b_known (ty_db b_base (b_base p) 4) pu re kn (ty_dr bs (bs p)) B w := by
  have heq := fun s hs => ty_Yeq (s := s) hk hs hp h
  obtain ⟨h1, h2, h3, h4, h5, h6, h7, h8⟩ := h
  refine ⟨h1, h2, h3, by omega, h5, fun i a b => ?_, h7, fun s hs => ?_⟩
  · obtain ⟨a1, a2, a3, a4⟩ := h6 i a b
    exact ⟨a1, by omega, a3, a4⟩
  · obtain ⟨a1, a2, i, a3, a4, a5⟩ := h8 s hs
    refine ⟨a1, by omega, ?_⟩
    unfold ty_db ty_dr
    by_cases e : bs s = bs p
    · rw [if_pos e, if_pos ⟨hs, (heq s hs).mpr e⟩]
      exact ⟨0, by omega, rfl, h5.symm⟩
    · rw [if_neg e, if_neg (fun c => e ((heq s hs).mp c.2))]
      exact ⟨i, a3, a4, a5⟩
theorem ty_Ybare {p r : Nat} {g : Int32} (hk : k ≤ 12) (hp : p < 4) (hr : r < 4) (i : Nat) (hi31 : i < 2 ^ 31) (hi : b_base p = nI i) (h0 : i ≠ 0) (h : ty_Y k g_purse g_bases b_rest b_known b_base pu re kn bs B w) :
    ty_Y (k + 1) (g_purse + g + b_rest i) g_bases b_rest (upd (ty_kb b_known b_base (nI i) 4) r 0) (upd b_base r (nI i)) (pu + re (bs p) + g) re (ba_up (ty_lb kn bs (bs p)) r 0) (ba_up bs r (bs p)) B w := by
  have heq := fun s hs => ty_Yeq (s := s) hk hs hp h
  obtain ⟨h1, h2, h3, h4, h5, h6, h7, h8⟩ := h
  obtain ⟨_, _, i', p3, p4, p5⟩ := h8 p hp
  have ei : i' = i := by
    rw [hi] at p4
    exact ((nI_eq hi31 (by omega)).mp p4).symm
  subst ei
  refine ⟨?_, h2, h3, by omega, h5, fun i a b => ?_, h7, fun s hs => ?_⟩
  · rw [h1, p5, (h6 i' (by omega) p3).2.2.1, Int32.add_assoc, Int32.add_comm g, ← Int32.add_assoc]
  · obtain ⟨a1, a2, a3, a4⟩ := h6 i a b
    exact ⟨a1, by omega, a3, a4⟩
  · by_cases e : s = r
    · rw [ba_ue e, ba_ue e, ba_upe e, ba_upe e]
      exact ⟨rfl, by omega, i', p3, rfl, p5⟩
    · obtain ⟨a1, a2, a3⟩ := h8 s hs
      rw [pk_un e, pk_un e, ba_upn e, ba_upn e]
      unfold ty_kb ty_lb
      by_cases e2 : bs s = bs p
      · rw [if_pos e2, if_pos ⟨hs, by rw [← hi]; exact (heq s hs).mpr e2⟩, a1, nI_1]
        exact ⟨rfl, by omega, a3⟩
      · rw [if_neg e2, if_neg (fun c => e2 ((heq s hs).mp (by rw [hi]; exact c.2)))]
        exact ⟨a1, by omega, a3⟩
theorem ty_Ytail {p r : Nat} {g : Int32} (hp : p < 4) (hr : r < 4) (i : Nat) (hi : b_base p = nI i) (h0 : kn p ≠ 0) (h : ty_Y k g_purse g_bases b_rest b_known b_base pu re kn bs B w) :
    ty_Y (k + 1) (g_purse + g) g_bases b_rest (upd b_known r (nI (kn p - 1))) (upd b_base r (nI i)) (pu + g) re (ba_up kn r (kn p - 1)) (ba_up bs r (bs p)) B w := by
  obtain ⟨h1, h2, h3, h4, h5, h6, h7, h8⟩ := h
  obtain ⟨p1, p2, i', p3, p4, p5⟩ := h8 p hp
  refine ⟨by rw [h1], h2, h3, by omega, h5, fun i a b => ?_, h7, fun s hs => ?_⟩
  · obtain ⟨a1, a2, a3, a4⟩ := h6 i a b
    exact ⟨a1, by omega, a3, a4⟩
  · by_cases e : s = r
    · rw [ba_ue e, ba_ue e, ba_upe e, ba_upe e]
      exact ⟨rfl, by omega, i', p3, by rw [← hi, p4], p5⟩
    · obtain ⟨a1, a2, a3⟩ := h8 s hs
      rw [pk_un e, pk_un e, ba_upn e, ba_upn e]
      exact ⟨a1, by omega, a3⟩
/-- CALL: the rests when charged, a new base -/
theorem ty_Ycall {p : Nat} {pu' R : Int32} {rest' re' : Nat → Int32} (hk : k ≤ 12) (hp : p < 4) (hR : 0 ≤ R) (hr : ∀ j, 1 ≤ j → j ≤ B → rest' j = re' (w j) ∧ 0 ≤ rest' j)
    (h : ty_Y k g_purse g_bases b_rest b_known b_base pu re kn bs B w) :
    ty_Y (k + 1) pu' (g_bases + 1) (upd rest' (B + 1) R) (upd b_known p 0) (upd b_base p (nI (B + 1))) pu' (upd re' (k + 3) R) (ba_up kn p 0) (ba_up bs p (k + 3)) (B + 1) (ba_up w (B + 1) (k + 3)) := by
  obtain ⟨h1, h2, h3, h4, h5, h6, h7, h8⟩ := h
  have hw : ∀ i, i ≤ B → w i ≤ k + 2 := by
    intro i hi
    by_cases e : i = 0
    · rw [e, h5]; omega
    · exact (h6 i (by omega) hi).2.1
  refine ⟨rfl, by rw [h2, nI_1], by omega, by omega, by rw [ba_upn (by omega)]; exact h5, fun i a b => ?_, fun i j a b e => ?_, fun s hs => ?_⟩
  · by_cases e : i = B + 1
    · rw [ba_upe e, ba_ue e, ba_ue rfl]
      exact ⟨by omega, by omega, rfl, hR⟩
    · obtain ⟨a1, a2, a3, a4⟩ := h6 i a (by omega)
      rw [ba_upn e, pk_un e, pk_un (by omega)]
      exact ⟨a1, by omega, (hr i a (by omega)).1, (hr i a (by omega)).2⟩
  · by_cases e1 : i = B + 1
    · by_cases e2 : j = B + 1
      · omega
      · rw [ba_upe e1, ba_upn e2] at e
        have := hw j (by omega)
        omega
    · by_cases e2 : j = B + 1
      · rw [ba_upn e1, ba_upe e2] at e
        have := hw i (by omega)
        omega
      · rw [ba_upn e1, ba_upn e2] at e
        exact h7 i j (by omega) (by omega) e
  · by_cases e : s = p
    · rw [ba_ue e, ba_ue e, ba_upe e, ba_upe e]
      exact ⟨rfl, by omega, B + 1, by omega, rfl, (ba_upe rfl).symm⟩
    · obtain ⟨a1, a2, i, a3, a4, a5⟩ := h8 s hs
      rw [pk_un e, pk_un e, ba_upn e, ba_upn e]
      exact ⟨a1, by omega, i, by omega, a4, by rw [ba_upn (by omega)]; exact a5⟩
end
end
section
/-! rejects, fits -/
section
variable {g_parts g_most g_count g_lacking g_opened g_purse g_bases g_cells g_supply g_depth g_entries : Int32} {b_body b_len b_sig b_accepted b_input b_result b_sizes b_lastRun b_rates b_rest b_known b_base b_head b_tail b_dead b_fun b_pc b_ints b_lists : Nat → Int32} {f k st : Nat} {pu : Int32} {re : Nat → Int32} {kn bs : Nat → Nat} {B : Nat} {w : Nat → Nat} {post : Int32 → SY → Prop} {J : (Int32 → Int32 → Int32 → Int32 → Int32 → Int32 → Int32 → Int32 → Int32 → Int32 → Int32 → Int32 → Int32 → (Nat → Int32) → (Nat → Int32) → (Nat → Int32) → (Nat → Int32) → (Nat → Int32) → (Nat → Int32) → (Nat → Int32) → (Nat → Int32) → (Nat → Int32) → (Nat → Int32) → (Nat → Int32) → (Nat → Int32) → (Nat → Int32) → (Nat → Int32) → (Nat → Int32) → (Nat → Int32) → (Nat → Int32) → (Nat → Int32) → (Nat → Int32) → Prop)} {x2 x3 x4 x7 x8 x9 : Int32}
theorem ty_nret {p : Nat} (hf : f < 4) (hk : k ≤ 12) (hp : p < 4) (h : ty_Y k g_purse g_bases b_rest b_known b_base pu re kn bs B w)
    (h0 : (0 ≤ pu - nI (kn p) * b_rates (f * 5 + 3) - b_rates (f * 5 + 4) ∧ ty_ok (ty_cr re (bs p) (b_rates (f * 5 + 3))) (bs p)) → ∀ g_purse b_rest, post 0 (g_parts, g_most, g_count, g_lacking, g_opened, g_purse, g_bases, g_cells, g_supply, g_depth, g_entries, b_body, b_len, b_sig, b_accepted, b_input, b_result, b_sizes, b_lastRun, b_rates, b_rest, b_known, b_base, b_head, b_tail, b_dead, b_fun, b_pc, b_ints, b_lists))
    (h1 : ¬ (0 ≤ pu - nI (kn p) * b_rates (f * 5 + 3) - b_rates (f * 5 + 4) ∧ ty_ok (ty_cr re (bs p) (b_rates (f * 5 + 3))) (bs p)) → ∀ g_purse b_rest, post 1 (g_parts, g_most, g_count, g_lacking, g_opened, g_purse, g_bases, g_cells, g_supply, g_depth, g_entries, b_body, b_len, b_sig, b_accepted, b_input, b_result, b_sizes, b_lastRun, b_rates, b_rest, b_known, b_base, b_head, b_tail, b_dead, b_fun, b_pc, b_ints, b_lists)) :
    wY_rejects_164 post J (nI f) x2 x3 x4 0 (nI p) x7 x8 x9 0 g_parts g_most g_count g_lacking g_opened g_purse g_bases g_cells g_supply g_depth g_entries b_body b_len b_sig b_accepted b_input b_result b_sizes b_lastRun b_rates b_rest b_known b_base b_head b_tail b_dead b_fun b_pc b_ints b_lists := by
  obtain ⟨y1, y2, y3, y4, y5, y6, y7, y8⟩ := h
  obtain ⟨s1, s2, i, s3, s4, s5⟩ := y8 p hp
  refine br_t rfl (And.intro (by rw [ba_m5, ba_3]; exact vp_in_nI (by omega) (by omega)) ?_)
  have e3 : b_rates (nI f * 5 + 3).toNatClampNeg = b_rates (f * 5 + 3) := by rw [ba_m5, ba_3, nI_clamp (by omega)]
  have e4 : b_rates (nI f * 5 + 4).toNatClampNeg = b_rates (f * 5 + 4) := by rw [ba_m5, ba_4, nI_clamp (by omega)]
  rw [e3]
  refine ty_ychg hp s1 s4 (by omega) (And.intro (by rw [ba_m5, ba_4]; exact vp_in_nI (by omega) (by omega)) (nm_r (e' := g_purse - nI (kn p) * b_rates (f * 5 + 3) - b_rates (f * 5 + 4)) (by rw [e4]) ?_))
  have key := ty_neg1 (pu := g_purse - nI (kn p) * b_rates (f * 5 + 3) - b_rates (f * 5 + 4)) (e1 := b_rates (f * 5 + 3)) s3 y5 (fun j a b => (y6 j a b).1) (fun j a b => (y6 j a b).2.2) y7
  rw [y1, ← s5] at key
  rw [y1]
  exact ty_yneg y2 (by omega) (fun a b => ⟨narrow_b0, h0 (key.mp ⟨a, b⟩) _ _⟩) (fun c => ⟨narrow_b1, h1 (fun d => c (key.mpr d)) _ _⟩)
theorem ty_n446 {x1 : Int32} (h : J (nI (k + 1)) (nI (st + 1)) g_parts g_most g_count g_lacking g_opened g_purse g_bases g_cells g_supply g_depth g_entries b_body b_len b_sig b_accepted b_input b_result b_sizes b_lastRun b_rates b_rest b_known b_base b_head b_tail b_dead b_fun b_pc b_ints b_lists) : wY_rejects_446 post J x1 x2 (nI k) (nI st) x9 0 g_parts g_most g_count g_lacking g_opened g_purse g_bases g_cells g_supply g_depth g_entries b_body b_len b_sig b_accepted b_input b_result b_sizes b_lastRun b_rates b_rest b_known b_base b_head b_tail b_dead b_fun b_pc b_ints b_lists :=
  br_t rfl (nm_r (nI_1 k) (nm_r (nI_1 st) h))
theorem ty_n446b {x1 : Int32} {k2 : Nat} (h : J (nI k2) (nI (st + 1)) g_parts g_most g_count g_lacking g_opened g_purse g_bases g_cells g_supply g_depth g_entries b_body b_len b_sig b_accepted b_input b_result b_sizes b_lastRun b_rates b_rest b_known b_base b_head b_tail b_dead b_fun b_pc b_ints b_lists) : wY_rejects_446 post J x1 x2 (nI k) (nI st) (nI k2) 1 g_parts g_most g_count g_lacking g_opened g_purse g_bases g_cells g_supply g_depth g_entries b_body b_len b_sig b_accepted b_input b_result b_sizes b_lastRun b_rates b_rest b_known b_base b_head b_tail b_dead b_fun b_pc b_ints b_lists :=
  br_f (by decide) (nm_r (nI_1 st) h)
theorem ty_ncons {p r : Nat} {x1 : Int32} (hp : p < 4) (hr : r < 4) (h : ty_Y k g_purse g_bases b_rest b_known b_base pu re kn bs B w)
    (h0 : 0 ≤ pu - g_parts → J (nI (k + 1)) (nI (st + 1)) g_parts g_most g_count g_lacking g_opened (g_purse - g_parts) g_bases g_cells g_supply g_depth g_entries b_body b_len b_sig b_accepted b_input b_result b_sizes b_lastRun b_rates b_rest (upd b_known p (b_known r + 1)) (upd b_base p (b_base r)) b_head b_tail b_dead b_fun b_pc b_ints b_lists)
    (h1 : ¬ 0 ≤ pu - g_parts → ∀ g_purse, post 1 (g_parts, g_most, g_count, g_lacking, g_opened, g_purse, g_bases, g_cells, g_supply, g_depth, g_entries, b_body, b_len, b_sig, b_accepted, b_input, b_result, b_sizes, b_lastRun, b_rates, b_rest, b_known, b_base, b_head, b_tail, b_dead, b_fun, b_pc, b_ints, b_lists)) :
    wY_rejects_164 post J x1 x2 (nI k) (nI st) 1 (nI p) x7 (nI r) x9 0 g_parts g_most g_count g_lacking g_opened g_purse g_bases g_cells g_supply g_depth g_entries b_body b_len b_sig b_accepted b_input b_result b_sizes b_lastRun b_rates b_rest b_known b_base b_head b_tail b_dead b_fun b_pc b_ints b_lists := by
  have e : g_purse = pu := h.1
  have vp : vp_in (nI p) 4 := vp_in_nI hp (by omega)
  have vr : vp_in (nI r) 4 := vp_in_nI hr (by omega)
  refine br_f (by decide) (br_t rfl (nm_e (br_c (fun hc => ⟨vr, vp, nm_e ⟨vr, vp, nm_e (ty_n446 ?_)⟩⟩) (fun hc => h1 (by rw [← e]; exact hc) _))))
  rw [nI_clamp (by omega), nI_clamp (by omega)]
  exact h0 (by rw [← e]; exact hc)
theorem ty_ncall {p q r : Nat} {x1 : Int32} (hk : k ≤ 12) (hp : p < 4) (hq : q < 4) (hr : r ≤ 63) (h : ty_Y k g_purse g_bases b_rest b_known b_base pu re kn bs B w)
    (h0 : 0 ≤ pu - nI (kn (r / 4 % 4)) * b_rates (q * 5) - nI (kn (r % 4)) * b_rates (q * 5 + 1) - b_rates (q * 5 + 2) ∧
        ty_ok (ty_cr (ty_cr re (bs (r / 4 % 4)) (b_rates (q * 5))) (bs (r % 4)) (b_rates (q * 5 + 1))) (bs (r / 4 % 4)) ∧
        ty_ok (ty_cr (ty_cr re (bs (r / 4 % 4)) (b_rates (q * 5))) (bs (r % 4)) (b_rates (q * 5 + 1))) (bs (r % 4)) →
      ∀ rest', (∀ j, 1 ≤ j → j ≤ B → rest' j = ty_cr (ty_cr re (bs (r / 4 % 4)) (b_rates (q * 5))) (bs (r % 4)) (b_rates (q * 5 + 1)) (w j) ∧ 0 ≤ rest' j) →
      J (nI (k + 1)) (nI (st + 1)) g_parts g_most g_count g_lacking g_opened (pu - nI (kn (r / 4 % 4)) * b_rates (q * 5) - nI (kn (r % 4)) * b_rates (q * 5 + 1) - b_rates (q * 5 + 2) + b_rates (q * 5 + 4)) (g_bases + 1) g_cells g_supply g_depth g_entries b_body b_len b_sig b_accepted b_input b_result b_sizes b_lastRun b_rates (upd rest' (B + 1) (b_rates (q * 5 + 3))) (upd b_known p 0) (upd b_base p (nI (B + 1))) b_head b_tail b_dead b_fun b_pc b_ints b_lists)
    (h1 : ¬ (0 ≤ pu - nI (kn (r / 4 % 4)) * b_rates (q * 5) - nI (kn (r % 4)) * b_rates (q * 5 + 1) - b_rates (q * 5 + 2) ∧
        ty_ok (ty_cr (ty_cr re (bs (r / 4 % 4)) (b_rates (q * 5))) (bs (r % 4)) (b_rates (q * 5 + 1))) (bs (r / 4 % 4)) ∧
        ty_ok (ty_cr (ty_cr re (bs (r / 4 % 4)) (b_rates (q * 5))) (bs (r % 4)) (b_rates (q * 5 + 1))) (bs (r % 4))) → ∀ g_purse b_rest, post 1 (g_parts, g_most, g_count, g_lacking, g_opened, g_purse, g_bases, g_cells, g_supply, g_depth, g_entries, b_body, b_len, b_sig, b_accepted, b_input, b_result, b_sizes, b_lastRun, b_rates, b_rest, b_known, b_base, b_head, b_tail, b_dead, b_fun, b_pc, b_ints, b_lists)) :
    wY_rejects_164 post J x1 x2 (nI k) (nI st) 2 (nI p) (nI q) (nI r) x9 0 g_parts g_most g_count g_lacking g_opened g_purse g_bases g_cells g_supply g_depth g_entries b_body b_len b_sig b_accepted b_input b_result b_sizes b_lastRun b_rates b_rest b_known b_base b_head b_tail b_dead b_fun b_pc b_ints b_lists := by
  obtain ⟨y1, y2, y3, y4, y5, y6, y7, y8⟩ := h
  obtain ⟨s1, s2, i, s3, s4, s5⟩ := y8 (r / 4 % 4) (by omega)
  obtain ⟨t1, t2, j, t3, t4, t5⟩ := y8 (r % 4) (by omega)
  have vp : vp_in (nI p) 4 := vp_in_nI hp (by omega)
  have ex : nI r / 4 - nI r / 4 / 4 * 4 = nI (r / 4 % 4) := by
    rw [show (4 : Int32) = nI 4 from rfl, pk_div (by omega) (by omega) (by omega), pk_rem (by omega) (by omega) (by omega)]
  have ey : nI r - nI r / 4 * 4 = nI (r % 4) := by
    rw [show (4 : Int32) = nI 4 from rfl, pk_rem (by omega) (by omega) (by omega)]
  have q0 : b_rates (nI (q * 5)).toNatClampNeg = b_rates (q * 5) := by rw [nI_clamp (by omega)]
  have q1 : b_rates (nI (q * 5) + 1).toNatClampNeg = b_rates (q * 5 + 1) := by rw [nI_1, nI_clamp (by omega)]
  have q2 : b_rates (nI (q * 5) + 2).toNatClampNeg = b_rates (q * 5 + 2) := by rw [ba_2, nI_clamp (by omega)]
  have q3 : b_rates (nI (q * 5) + 3).toNatClampNeg = b_rates (q * 5 + 3) := by rw [ba_3, nI_clamp (by omega)]
  have q4 : b_rates (nI (q * 5) + 4).toNatClampNeg = b_rates (q * 5 + 4) := by rw [ba_4, nI_clamp (by omega)]
  have v0 : vp_in (nI (q * 5)) 20 := vp_in_nI (by omega) (by omega)
  have v1 : vp_in (nI (q * 5) + 1) 20 := by rw [nI_1]; exact vp_in_nI (by omega) (by omega)
  have v2 : vp_in (nI (q * 5) + 2) 20 := by rw [ba_2]; exact vp_in_nI (by omega) (by omega)
  have v3 : vp_in (nI (q * 5) + 3) 20 := by rw [ba_3]; exact vp_in_nI (by omega) (by omega)
  have v4 : vp_in (nI (q * 5) + 4) 20 := by rw [ba_4]; exact vp_in_nI (by omega) (by omega)
  have n4 : ¬ (4 : Int32) = 0 := by decide
  obtain ⟨m2, key⟩ := ty_neg2 (pu := pu - nI (kn (r / 4 % 4)) * b_rates (q * 5) - nI (kn (r % 4)) * b_rates (q * 5 + 1) - b_rates (q * 5 + 2)) (e1 := b_rates (q * 5)) (e2 := b_rates (q * 5 + 1)) s3 t3 y5 (fun j a b => (y6 j a b).1) (fun j a b => (y6 j a b).2.2) y7
  rw [← s5, ← t5] at key m2
  subst y1
  refine br_f (by decide) (br_f (by decide) (br_t rfl ?_))
  rw [ba_m5, ex, ey, q0]
  refine ⟨n4, n4, v0, ty_ychg (by omega) s1 s4 (by omega) ?_⟩
  refine And.intro n4 (And.intro v1 ?_)
  dsimp only
  rw [q1]
  refine ty_ychg (by omega) t1 t4 (by omega) ?_
  dsimp only
  refine And.intro v2 (nm_r (e' := g_purse - nI (kn (r / 4 % 4)) * b_rates (q * 5) - nI (kn (r % 4)) * b_rates (q * 5 + 1) - b_rates (q * 5 + 2)) (by rw [q2]) ?_)
  refine ty_yneg y2 (by omega) (fun a b => br_t rfl ⟨v4, nm_r (e' := g_purse - nI (kn (r / 4 % 4)) * b_rates (q * 5) - nI (kn (r % 4)) * b_rates (q * 5 + 1) - b_rates (q * 5 + 2) + b_rates (q * 5 + 4)) (by rw [q4]) (nm_e ⟨v3, by rw [y2, nI_1]; exact vp_in_nI (by omega) (by omega), nm_e ⟨vp, nm_e ⟨vp, nm_e (ty_n446 ?_)⟩⟩⟩)⟩) (fun c => br_f (by decide) (h1 (fun d => c (key.mpr d)) _ _))
  have hq := h0 (key.mp ⟨a, b⟩) _ (fun j' a' b' => ⟨m2 j' a' b', a j' a' b'⟩)
  rw [q3, nI_clamp (by omega), show (g_bases + 1).toNatClampNeg = B + 1 by rw [y2, nI_1, nI_clamp (by omega)]]
  rw [show upd b_base p (g_bases + 1) = upd b_base p (nI (B + 1)) by rw [y2, nI_1]]
  exact hq
end
end
section
/-! rejects and fits: the whole walk -/
section
variable {o p q r en : Nat → Nat} {f : Nat} {parts : Int32} {rt : Nat → Int32} {l d k : Nat} {t : ty_T}
theorem ty_rj_n (h : ¬ ty_pass o p q r f parts rt k t) : ty_rj o p q r en f parts rt l (d + 1) k t := Or.inl h
theorem ty_rj_0 (ho : o k = 0) (h : ty_pass o p q r f parts rt k t) : ¬ ty_rj o p q r en f parts rt l (d + 1) k t := fun c => c.elim (fun z => z h) (fun z => z.1 ho)
theorem ty_rj_1 (ho : o k ≠ 0) (hf : ¬ pt_fk (o k)) (hg : ty_g1 o p k t) (h : ty_pass o p q r f parts rt k t) : ty_rj o p q r en f parts rt l (d + 1) k t ↔ ty_rj o p q r en f parts rt l d (k + 1) (ty_f1 o p q r parts rt k t) :=
  ⟨fun c => c.elim (fun z => absurd h z) (fun z => z.2.elim (fun y => absurd y.1.1 hf) (fun y => y.2.2)), fun c => Or.inr ⟨ho, Or.inr ⟨fun y => hf y.1, hg, c⟩⟩⟩
theorem ty_rj_a (ho : o k ≠ 0) (hl : ¬ (pt_fk (o k) ∧ en (k + 1) ≤ l)) (h : ty_pass o p q r f parts rt k t) : ty_rj o p q r en f parts rt l (d + 1) k t ↔ ty_g1 o p k t ∧ ty_rj o p q r en f parts rt l d (k + 1) (ty_f1 o p q r parts rt k t) :=
  ⟨fun c => c.elim (fun z => absurd h z) (fun z => z.2.elim (fun y => absurd y.1 hl) (fun y => y.2)), fun c => Or.inr ⟨ho, Or.inr ⟨hl, c⟩⟩⟩
theorem ty_rj_b (ho : o k ≠ 0) (hl : pt_fk (o k) ∧ en (k + 1) ≤ l) (h : ty_pass o p q r f parts rt k t) : ty_rj o p q r en f parts rt l (d + 1) k t ↔ ty_g2 o p k t ∧ ty_rj o p q r en f parts rt l d (en (k + 1)) (ty_f2 o p r parts k t) :=
  ⟨fun c => c.elim (fun z => absurd h z) (fun z => z.2.elim (fun y => y.2) (fun y => absurd hl y.1)), fun c => Or.inr ⟨ho, Or.inl ⟨hl, c⟩⟩⟩
theorem ty_pass_f (h : 3 ≤ o k) : ty_pass o p q r f parts rt k t := ⟨fun e => by omega, fun e => by omega, fun e => by omega⟩
end
section
variable {g_parts g_most g_count g_lacking g_opened g_purse g_bases g_cells g_supply g_depth g_entries : Int32} {b_body b_len b_sig b_accepted b_input b_result b_sizes b_lastRun b_rates b_rest b_known b_base b_head b_tail b_dead b_fun b_pc b_ints b_lists : Nat → Int32} {k st : Nat} {post : Int32 → SY → Prop} {J : (Int32 → Int32 → Int32 → Int32 → Int32 → Int32 → Int32 → Int32 → Int32 → Int32 → Int32 → Int32 → Int32 → (Nat → Int32) → (Nat → Int32) → (Nat → Int32) → (Nat → Int32) → (Nat → Int32) → (Nat → Int32) → (Nat → Int32) → (Nat → Int32) → (Nat → Int32) → (Nat → Int32) → (Nat → Int32) → (Nat → Int32) → (Nat → Int32) → (Nat → Int32) → (Nat → Int32) → (Nat → Int32) → (Nat → Int32) → (Nat → Int32) → (Nat → Int32) → Prop)} {x1 x2 x3 x4 x6 x7 x8 x9 z : Int32}
theorem ty_n34 {ov : Nat} (h : ov = 3 ∨ ov = 4) (H : wY_rejects_429 post J x1 x2 x3 x4 (nI ov) x6 x8 x9 z g_parts g_most g_count g_lacking g_opened g_purse g_bases g_cells g_supply g_depth g_entries b_body b_len b_sig b_accepted b_input b_result b_sizes b_lastRun b_rates b_rest b_known b_base b_head b_tail b_dead b_fun b_pc b_ints b_lists) : wY_rejects_164 post J x1 x2 x3 x4 (nI ov) x6 x7 x8 x9 z g_parts g_most g_count g_lacking g_opened g_purse g_bases g_cells g_supply g_depth g_entries b_body b_len b_sig b_accepted b_input b_result b_sizes b_lastRun b_rates b_rest b_known b_base b_head b_tail b_dead b_fun b_pc b_ints b_lists := by
  rcases h with rfl | rfl
  · exact br_f (by decide) (br_f (by decide) (br_f (by decide) (br_t rfl H)))
  · exact br_f (by decide) (br_f (by decide) (br_f (by decide) (br_f (by decide) (br_t rfl H))))
theorem ty_n56 {ov : Nat} (h : ov = 5 ∨ ov = 6) (H : wY_rejects_446 post J x1 x2 x3 x4 x9 z g_parts g_most g_count g_lacking g_opened g_purse g_bases g_cells g_supply g_depth g_entries b_body b_len b_sig b_accepted b_input b_result b_sizes b_lastRun b_rates b_rest b_known b_base b_head b_tail b_dead b_fun b_pc b_ints b_lists) : wY_rejects_164 post J x1 x2 x3 x4 (nI ov) x6 x7 x8 x9 z g_parts g_most g_count g_lacking g_opened g_purse g_bases g_cells g_supply g_depth g_entries b_body b_len b_sig b_accepted b_input b_result b_sizes b_lastRun b_rates b_rest b_known b_base b_head b_tail b_dead b_fun b_pc b_ints b_lists := by
  rcases h with rfl | rfl
  · exact br_f (by decide) (br_f (by decide) (br_f (by decide) (br_f (by decide) (br_f (by decide) H))))
  · exact br_f (by decide) (br_f (by decide) (br_f (by decide) (br_f (by decide) (br_f (by decide) H))))
end
section
variable {g_parts g_most g_count g_lacking g_opened g_purse g_bases g_cells g_supply g_depth g_entries : Int32} {b_body b_len b_sig b_accepted b_input b_result b_sizes b_lastRun b_rates b_rest b_known b_base b_head b_tail b_dead b_fun b_pc b_ints b_lists : Nat → Int32} {f n l : Nat} {en : Nat → Nat}
theorem ty_yw (hf : f < 4) (hc : nI f < g_count) (hl : b_len f = nI n) (hn : n ≤ 12) (hF : ∀ k, k < n → pt_Fi b_body f k) (hT : pt_TF (pt_o b_body f) en n) (hrt : ∀ j, j < 20 → 0 ≤ b_rates j) (hl0 : pt_o b_body f l = 0) (hln : l < n) (post : Int32 → SY → Prop) :
    ∀ (d k st : Nat) (g_purse g_bases : Int32) (b_rest b_known b_base : Nat → Int32) (pu : Int32) (re : Nat → Int32) (kn bs : Nat → Nat) (B : Nat) (w : Nat → Nat), k < n → n - k ≤ d → st ≤ k → k ≤ l → l < en k →
    ty_Y k g_purse g_bases b_rest b_known b_base pu re kn bs B w →
    (¬ ty_rj (pt_o b_body f) (pt_p b_body f) (pt_q b_body f) (pt_r b_body f) en f g_parts b_rates l d k (pu, re, kn, bs) → ∀ (g_purse g_bases : Int32) (b_rest b_known b_base : Nat → Int32), post 0 (g_parts, g_most, g_count, g_lacking, g_opened, g_purse, g_bases, g_cells, g_supply, g_depth, g_entries, b_body, b_len, b_sig, b_accepted, b_input, b_result, b_sizes, b_lastRun, b_rates, b_rest, b_known, b_base, b_head, b_tail, b_dead, b_fun, b_pc, b_ints, b_lists)) →
    (ty_rj (pt_o b_body f) (pt_p b_body f) (pt_q b_body f) (pt_r b_body f) en f g_parts b_rates l d k (pu, re, kn, bs) → ∀ (g_purse g_bases : Int32) (b_rest b_known b_base : Nat → Int32), post 1 (g_parts, g_most, g_count, g_lacking, g_opened, g_purse, g_bases, g_cells, g_supply, g_depth, g_entries, b_body, b_len, b_sig, b_accepted, b_input, b_result, b_sizes, b_lastRun, b_rates, b_rest, b_known, b_base, b_head, b_tail, b_dead, b_fun, b_pc, b_ints, b_lists)) →
    wY_rejects_92 post (nI f) (nI l) (d + 1) (nI k) (nI st) g_parts g_most g_count g_lacking g_opened g_purse g_bases g_cells g_supply g_depth g_entries b_body b_len b_sig b_accepted b_input b_result b_sizes b_lastRun b_rates b_rest b_known b_base b_head b_tail b_dead b_fun b_pc b_ints b_lists := by
  intro d
  induction d with
  | zero => intro k st _ _ _ _ _ _ _ _ _ _ _ h1 h2; omega
  | succ d ih =>
    intro k st g_purse g_bases b_rest b_known b_base pu re kn bs B w hk hd hst hkl hlk hY h0 h1
    obtain ⟨b0, b1, b2, b3, b4, b5, b6, b7⟩ := hF k hk
    obtain ⟨T1, T2, T3, T4⟩ := hT k hk
    have hsec : ∃ w2 : Nat, (pt_fk (pt_o b_body f k) → w2 = en (k + 1)) ∧ ∀ post : Int32 → Prop, post (nI w2) → wpY_second post (g_parts, g_most, g_count, g_lacking, g_opened, g_purse, g_bases, g_cells, g_supply, g_depth, g_entries, b_body, b_len, b_sig, b_accepted, b_input, b_result, b_sizes, b_lastRun, b_rates, b_rest, b_known, b_base, b_head, b_tail, b_dead, b_fun, b_pc, b_ints, b_lists) (nI f) (nI k) := by
      by_cases hk1 : k + 1 < n
      · exact ⟨en (k + 1), fun _ => rfl, fun post h => ty_sec hf hc hl hn hF hT hk1 post h⟩
      · obtain ⟨w2, h⟩ := ty_sec0 (g_parts := g_parts) (g_most := g_most) (g_lacking := g_lacking) (g_opened := g_opened) (g_purse := g_purse) (g_bases := g_bases) (g_cells := g_cells) (g_supply := g_supply) (g_depth := g_depth) (g_entries := g_entries) (b_body := b_body) (b_sig := b_sig) (b_accepted := b_accepted) (b_input := b_input) (b_result := b_result) (b_sizes := b_sizes) (b_lastRun := b_lastRun) (b_rates := b_rates) (b_rest := b_rest) (b_known := b_known) (b_base := b_base) (b_head := b_head) (b_tail := b_tail) (b_dead := b_dead) (b_fun := b_fun) (b_pc := b_pc) (b_ints := b_ints) (b_lists := b_lists) hf hc hl hn (k := k) (by omega)
        refine ⟨w2, fun h' => ?_, h⟩
        exact absurd (T4 (by unfold pt_fk at h'; omega)).1 hk1
    obtain ⟨w2, hw2, hsec⟩ := hsec
    refine br_f (nI_ge (b := 12) (by omega) (by omega)) (ty_ycd 0 hf hc hl hn hk (by omega) b0 (ty_ycd 1 hf hc hl hn hk (by omega) b2 (ty_ycd 2 hf hc hl hn hk (by omega) b4 (ty_ycd 3 hf hc hl hn hk (by omega) rfl (hsec _ (pt_ygr b1 ?_))))))
    have hlk' : pt_o b_body f k ≠ 0 → k + 1 ≤ l := fun h => by
      have : l ≠ k := fun e => h (e ▸ hl0)
      omega
    rcases (by omega : pt_o b_body f k = 0 ∨ pt_o b_body f k = 1 ∨ pt_o b_body f k = 2 ∨ (pt_o b_body f k = 3 ∨ pt_o b_body f k = 4) ∨ pt_o b_body f k = 5 ∨ pt_o b_body f k = 6) with ho | ho | ho | ho | ho | ho
    · rw [ho]
      refine br_f (by decide) (ty_nret hf (by omega) (by omega) hY (fun hp _ _ => h0 (ty_rj_0 ho ⟨fun _ => hp, fun e => by omega, fun e => by omega⟩) _ _ _ _ _) (fun hp _ _ => h1 (ty_rj_n (fun c => hp (c.1 ho))) _ _ _ _ _))
    · rw [(b7 (by omega)).1, ho]
      have hfk : ¬ pt_fk (pt_o b_body f k) := by unfold pt_fk; omega
      refine br_f (by decide) (ty_ncons (by omega) (Nat.lt_succ_of_le ((b7 (by omega)).2.2 (by omega))) hY (fun hp => ?_) (fun hp _ => h1 (ty_rj_n (fun c => hp (c.2.1 ho))) _ _ _ _ _))
      have hps : ty_pass (pt_o b_body f) (pt_p b_body f) (pt_q b_body f) (pt_r b_body f) f g_parts b_rates k (pu, re, kn, bs) := ⟨fun e => by omega, fun _ => hp, fun e => by omega⟩
      have hg : ty_g1 (pt_o b_body f) (pt_p b_body f) k (pu, re, kn, bs) := fun e => by unfold ty_mt at e; omega
      have hrj := ty_rj_1 (en := en) (l := l) (d := d) (by omega) hfk hg hps
      rw [show ty_f1 (pt_o b_body f) (pt_p b_body f) (pt_q b_body f) (pt_r b_body f) g_parts b_rates k (pu, re, kn, bs) = (pu - g_parts, re, ba_up kn (pt_p b_body f k) (kn (pt_r b_body f k) + 1), ba_up bs (pt_p b_body f k) (bs (pt_r b_body f k))) from if_pos ho] at hrj
      have hr3 := (b7 (by omega)).2.2 (by omega)
      exact ih (k + 1) (st + 1) _ _ _ _ _ _ _ _ _ B w (T4 (by omega)).1 (by omega) (by omega) (hlk' (by omega)) (by rw [← (T4 (by omega)).2.1 hfk]; exact hlk) (ty_Ycons (by omega) (by omega) hY) (fun c => h0 (fun c' => c (hrj.mp c'))) (fun c => h1 (hrj.mpr c))
    · rw [(b7 (by omega)).1, ho]
      have hfk : ¬ pt_fk (pt_o b_body f k) := by unfold pt_fk; omega
      have hq3 := b5
      refine br_f (by decide) (ty_ncall (by omega) (by omega) (by omega) (b7 (by omega)).2.1 hY (fun hp rest' hre => ?_) (fun hp _ _ => h1 (ty_rj_n (fun c => hp (c.2.2 ho))) _ _ _ _ _))
      have hps : ty_pass (pt_o b_body f) (pt_p b_body f) (pt_q b_body f) (pt_r b_body f) f g_parts b_rates k (pu, re, kn, bs) := ⟨fun e => by omega, fun e => by omega, fun _ => hp⟩
      have hg : ty_g1 (pt_o b_body f) (pt_p b_body f) k (pu, re, kn, bs) := fun e => by unfold ty_mt at e; omega
      have hrj := ty_rj_1 (en := en) (l := l) (d := d) (by omega) hfk hg hps
      rw [show ty_f1 (pt_o b_body f) (pt_p b_body f) (pt_q b_body f) (pt_r b_body f) g_parts b_rates k (pu, re, kn, bs) = (ty_cp (pt_q b_body f) (pt_r b_body f) b_rates k (pu, re, kn, bs) + b_rates (pt_q b_body f k * 5 + 4), upd (ty_cc (pt_q b_body f) (pt_r b_body f) b_rates k (pu, re, kn, bs)) (k + 3) (b_rates (pt_q b_body f k * 5 + 3)), ba_up kn (pt_p b_body f k) 0, ba_up bs (pt_p b_body f k) (k + 3)) from (if_neg (by omega)).trans (if_pos ho)] at hrj
      exact ih (k + 1) (st + 1) _ _ _ _ _ _ _ _ _ (B + 1) _ (T4 (by omega)).1 (by omega) (by omega) (hlk' (by omega)) (by rw [← (T4 (by omega)).2.1 hfk]; exact hlk) (ty_Ycall (by omega) (by omega) (hrt _ (by omega)) hre hY) (fun c => h0 (fun c' => c (hrj.mp c'))) (fun c => h1 (hrj.mpr c))
    · have hfk : pt_fk (pt_o b_body f k) := by unfold pt_fk; omega
      have ho0 : pt_o b_body f k ≠ 0 := by omega
      have hps : ty_pass (pt_o b_body f) (pt_p b_body f) (pt_q b_body f) (pt_r b_body f) f g_parts b_rates k (pu, re, kn, bs) := ty_pass_f (by omega)
      have hr3 := (b7 (by omega)).2.2 (by omega)
      obtain ⟨T5, T6, T7⟩ := T4 ho0
      obtain ⟨T8, T9⟩ := T7 hfk
      have T10 := hT (k + 1) T5
      rw [(b7 (by omega)).1, hw2 hfk]
      have hgr : pt_gr (pt_o b_body f k) = 1 := pt_gr_f hfk
      obtain ⟨s1, s2, i, s3, s4, s5⟩ := hY.2.2.2.2.2.2.2 (pt_p b_body f k) (by omega)
      have hB := hY.2.2.2.1
      have hw0 := hY.2.2.2.2.1
      have hwp := hY.2.2.2.2.2.1
      refine br_t hgr (pk_lt l (en (k + 1)) (fun hlt => ty_n34 ho ?_) (fun hge => ty_n34 ho ?_))
      · have hrj := ty_rj_a (en := en) (l := l) (d := d) ho0 (fun c => absurd c.2 (by omega)) hps
        unfold wY_rejects_429
        refine ty_ym1 (by omega) s1 (by omega) (fun hz => br_f (by decide) (ty_n446 ?_)) (fun hz => br_t rfl (h0 (fun c => hz ((hrj.mp c).1 ho)) _ _ _ _ _))
        have hg : ty_g1 (pt_o b_body f) (pt_p b_body f) k (pu, re, kn, bs) := fun _ => hz
        rw [show ty_f1 (pt_o b_body f) (pt_p b_body f) (pt_q b_body f) (pt_r b_body f) g_parts b_rates k (pu, re, kn, bs) = (pu, re, kn, ty_dr bs (bs (pt_p b_body f k))) from (if_neg (by omega)).trans ((if_neg (by omega)).trans (if_pos ho))] at hrj
        exact ih (k + 1) (st + 1) _ _ _ _ _ _ _ _ _ B w T5 (by omega) (by omega) (hlk' ho0) hlt (ty_Ydrop (by omega) (by omega) hY) (fun c => h0 (fun c' => c (hrj.mp c').2)) (fun c => h1 (hrj.mpr ⟨hg, c⟩))
      · have hrj := ty_rj_b (en := en) (l := l) (d := d) ho0 ⟨hfk, hge⟩ hps
        have hgain : (if nI (pt_o b_body f k) = 3 then g_parts else 0) = ty_gain (pt_o b_body f) g_parts k := by
          unfold ty_gain
          rcases ho with e | e
          · rw [e]; rfl
          · rw [e]; rfl
        have hl2 : l < en (en (k + 1)) := by rw [← T9]; exact hlk
        unfold wY_rejects_429
        refine ty_ym2 (by omega) (by omega) s1 (by omega) s4 (by omega) (fun hz hi0 => br_t rfl (h0 (fun c => (hrj.mp c).1 ho ⟨hz, ?_⟩) _ _ _ _ _)) (fun hz hi0 => br_f (by decide) (ty_n446b ?_)) (fun hz => br_f (by decide) (ty_n446b ?_))
        · show bs (pt_p b_body f k) = 0
          rw [s5, hi0, hw0]
        · have hg : ty_g2 (pt_o b_body f) (pt_p b_body f) k (pu, re, kn, bs) := fun _ c => by
            have c2 : bs (pt_p b_body f k) = 0 := c.2
            have := (hwp i (by omega) s3).1
            omega
          rw [show ty_f2 (pt_o b_body f) (pt_p b_body f) (pt_r b_body f) g_parts k (pu, re, kn, bs) = (pu + re (bs (pt_p b_body f k)) + ty_gain (pt_o b_body f) g_parts k, re, ba_up (ty_lb kn bs (bs (pt_p b_body f k))) (pt_r b_body f k) 0, ba_up bs (pt_r b_body f k) (bs (pt_p b_body f k))) from (if_pos ho).trans (if_pos hz), ← hgain] at hrj
          exact ih (en (k + 1)) (st + 1) _ _ _ _ _ _ _ _ _ B w T8 (by omega) (by omega) hge hl2 (ty_Ymono (by omega) (ty_Ybare (by omega) (by omega) (by omega) i (by omega) s4 hi0 hY)) (fun c => h0 (fun c' => c (hrj.mp c').2)) (fun c => h1 (hrj.mpr ⟨hg, c⟩))
        · have hg : ty_g2 (pt_o b_body f) (pt_p b_body f) k (pu, re, kn, bs) := fun _ c => hz c.1
          rw [show ty_f2 (pt_o b_body f) (pt_p b_body f) (pt_r b_body f) g_parts k (pu, re, kn, bs) = (pu + ty_gain (pt_o b_body f) g_parts k, re, ba_up kn (pt_r b_body f k) (kn (pt_p b_body f k) - 1), ba_up bs (pt_r b_body f k) (bs (pt_p b_body f k))) from (if_pos ho).trans (if_neg hz), ← hgain] at hrj
          exact ih (en (k + 1)) (st + 1) _ _ _ _ _ _ _ _ _ B w T8 (by omega) (by omega) hge hl2 (ty_Ymono (by omega) (ty_Ytail (by omega) (by omega) i s4 hz hY)) (fun c => h0 (fun c' => c (hrj.mp c').2)) (fun c => h1 (hrj.mpr ⟨hg, c⟩))
    · have hfk : pt_fk (pt_o b_body f k) := by unfold pt_fk; omega
      have ho0 : pt_o b_body f k ≠ 0 := by omega
      have hps : ty_pass (pt_o b_body f) (pt_p b_body f) (pt_q b_body f) (pt_r b_body f) f g_parts b_rates k (pu, re, kn, bs) := ty_pass_f (by omega)
      obtain ⟨T5, T6, T7⟩ := T4 ho0
      obtain ⟨T8, T9⟩ := T7 hfk
      have T10 := hT (k + 1) T5
      rw [hw2 hfk]
      have hgr : pt_gr (pt_o b_body f k) = 1 := pt_gr_f hfk
      refine br_t hgr (pk_lt l (en (k + 1)) (fun hlt => ty_n56 (Or.inl ho) (ty_n446 ?_)) (fun hge => ty_n56 (Or.inl ho) (ty_n446b ?_)))
      · have hrj := ty_rj_a (en := en) (l := l) (d := d) ho0 (fun c => absurd c.2 (by omega)) hps
        have hg : ty_g1 (pt_o b_body f) (pt_p b_body f) k (pu, re, kn, bs) := fun e => by unfold ty_mt at e; omega
        rw [show ty_f1 (pt_o b_body f) (pt_p b_body f) (pt_q b_body f) (pt_r b_body f) g_parts b_rates k (pu, re, kn, bs) = (pu, re, kn, bs) from (if_neg (by omega)).trans ((if_neg (by omega)).trans (if_neg (by omega)))] at hrj
        exact ih (k + 1) (st + 1) _ _ _ _ _ _ _ _ _ B w T5 (by omega) (by omega) (hlk' ho0) hlt (ty_Ymono (by omega) hY) (fun c => h0 (fun c' => c (hrj.mp c').2)) (fun c => h1 (hrj.mpr ⟨hg, c⟩))
      · have hrj := ty_rj_b (en := en) (l := l) (d := d) ho0 ⟨hfk, hge⟩ hps
        have hg : ty_g2 (pt_o b_body f) (pt_p b_body f) k (pu, re, kn, bs) := fun e => by unfold ty_mt at e; omega
        rw [show ty_f2 (pt_o b_body f) (pt_p b_body f) (pt_r b_body f) g_parts k (pu, re, kn, bs) = (pu, re, kn, bs) from if_neg (by omega)] at hrj
        exact ih (en (k + 1)) (st + 1) _ _ _ _ _ _ _ _ _ B w T8 (by omega) (by omega) hge (by rw [← T9]; exact hlk) (ty_Ymono (by omega) hY) (fun c => h0 (fun c' => c (hrj.mp c').2)) (fun c => h1 (hrj.mpr ⟨hg, c⟩))
    · have hfk : ¬ pt_fk (pt_o b_body f k) := by unfold pt_fk; omega
      have hps : ty_pass (pt_o b_body f) (pt_p b_body f) (pt_q b_body f) (pt_r b_body f) f g_parts b_rates k (pu, re, kn, bs) := ty_pass_f (by omega)
      have hg : ty_g1 (pt_o b_body f) (pt_p b_body f) k (pu, re, kn, bs) := fun e => by unfold ty_mt at e; omega
      have hrj := ty_rj_1 (en := en) (l := l) (d := d) (by omega) hfk hg hps
      rw [show ty_f1 (pt_o b_body f) (pt_p b_body f) (pt_q b_body f) (pt_r b_body f) g_parts b_rates k (pu, re, kn, bs) = (pu, re, kn, bs) from (if_neg (by omega)).trans ((if_neg (by omega)).trans (if_neg (by omega)))] at hrj
      have hgr : ¬ pt_gr (pt_o b_body f k) = 1 := by rw [ho]; decide
      refine br_f hgr (ty_n56 (Or.inr ho) (ty_n446 ?_))
      exact ih (k + 1) (st + 1) _ _ _ _ _ _ _ _ _ B w (T4 (by omega)).1 (by omega) (by omega) (hlk' (by omega)) (by rw [← (T4 (by omega)).2.1 hfk]; exact hlk) (ty_Ymono (by omega) hY) (fun c => h0 (fun c' => c (hrj.mp c'))) (fun c => h1 (hrj.mpr c))
end
end
section
/-! rejects from its start, fits -/
def ty_r0 (a b : Int32) : Nat → Int32 := fun i => if i = 1 then a else if i = 2 then b else 0
def ty_b0 : Nat → Nat := fun s => if s < 2 then s + 1 else 0
def ty_t0 (a b c : Int32) : ty_T := (c, ty_r0 a b, fun _ => 0, ty_b0)
def ty_k0 (known : Nat → Int32) (i : Nat) : Nat → Int32 := fun s => if s < i then 0 else known s
def ty_bb (base : Nat → Int32) (i : Nat) : Nat → Int32 := fun s => if s < i then nI (ty_b0 s) else base s
theorem ty_k0s {known : Nat → Int32} {i : Nat} : upd (ty_k0 known i) i 0 = ty_k0 known (i + 1) := by
  funext s
  unfold upd ty_k0
  by_cases h : s = i
  · rw [if_pos h, if_pos (by omega)]
  · rw [if_neg h]
    by_cases h2 : s < i
    · rw [if_pos h2, if_pos (by omega)]
    · rw [if_neg h2, if_neg (by omega)]
theorem ty_bbs {base : Nat → Int32} {i : Nat} {v : Int32} (hv : v = nI (ty_b0 i)) : upd (ty_bb base i) i v = ty_bb base (i + 1) := by
  funext s
  unfold upd ty_bb
  by_cases h : s = i
  · rw [if_pos h, if_pos (by omega), hv, h]
  · rw [if_neg h]
    by_cases h2 : s < i
    · rw [if_pos h2, if_pos (by omega)]
    · rw [if_neg h2, if_neg (by omega)]
section
variable {g_parts g_most g_count g_lacking g_opened g_purse g_bases g_cells g_supply g_depth g_entries : Int32} {b_body b_len b_sig b_accepted b_input b_result b_sizes b_lastRun b_rates b_rest b_known b_base b_head b_tail b_dead b_fun b_pc b_ints b_lists : Nat → Int32} {f n l : Nat} {en : Nat → Nat}
theorem ty_rej0 {post : Int32 → SY → Prop} {x1 x2 : Int32} (H : ∃ n92 : Nat, wY_rejects_92 post x1 x2 n92 0 0 g_parts g_most g_count g_lacking g_opened g_purse g_bases g_cells g_supply g_depth g_entries b_body b_len b_sig b_accepted b_input b_result b_sizes b_lastRun b_rates b_rest (ty_k0 b_known 4) (ty_bb b_base 4) b_head b_tail b_dead b_fun b_pc b_ints b_lists) :
    ∀ d i, i + d = 4 → wY_rejects_51 post x1 x2 g_parts g_most g_count g_lacking g_opened g_purse g_bases g_cells g_supply g_depth g_entries (d + 1) (nI i) b_body b_len b_sig b_accepted b_input b_result b_sizes b_lastRun b_rates b_rest (ty_k0 b_known i) (ty_bb b_base i) b_head b_tail b_dead b_fun b_pc b_ints b_lists := by
  intro d
  induction d with
  | zero =>
    intro i hi
    obtain rfl : i = 4 := by omega
    exact br_t (by decide) H
  | succ d ih =>
    intro i hi
    have hv : vp_in (nI i) 4 := vp_in_nI (by omega) (by omega)
    have hcl : (nI i).toNatClampNeg = i := nI_clamp (by omega)
    refine br_f (nI_ge (b := 4) (by omega) (by omega)) ⟨hv, nm_r (e' := ty_k0 b_known (i + 1)) (by rw [hcl, ty_k0s]) (pk_le 2 i (fun h => ⟨hv, nm_r (e' := ty_bb b_base (i + 1)) ?_ (nm_r (nI_1 i) (ih (i + 1) (by omega)))⟩) (fun h => ⟨hv, nm_r (e' := ty_bb b_base (i + 1)) ?_ (nm_r (nI_1 i) (ih (i + 1) (by omega)))⟩))⟩
    · rw [hcl]
      exact ty_bbs (by unfold ty_b0; rw [if_neg (by omega)]; rfl)
    · rw [hcl]
      exact ty_bbs (by unfold ty_b0; rw [if_pos (by omega), nI_1])
theorem ty_rejects (hf : f < 4) (hc : nI f < g_count) (hl : b_len f = nI n) (hn1 : 1 ≤ n) (hn : n ≤ 12) (hF : ∀ k, k < n → pt_Fi b_body f k) (hT : pt_TF (pt_o b_body f) en n) (he : en 0 = n) (hrt : ∀ j, j < 20 → 0 ≤ b_rates j) (hl0 : pt_o b_body f l = 0) (hln : l < n) (post : Int32 → SY → Prop)
    (h0 : ¬ ty_rj (pt_o b_body f) (pt_p b_body f) (pt_q b_body f) (pt_r b_body f) en f g_parts b_rates l n 0 (ty_t0 (b_rates (f * 5)) (b_rates (f * 5 + 1)) (b_rates (f * 5 + 2))) → ∀ (g_purse g_bases : Int32) (b_rest b_known b_base : Nat → Int32), post 0 (g_parts, g_most, g_count, g_lacking, g_opened, g_purse, g_bases, g_cells, g_supply, g_depth, g_entries, b_body, b_len, b_sig, b_accepted, b_input, b_result, b_sizes, b_lastRun, b_rates, b_rest, b_known, b_base, b_head, b_tail, b_dead, b_fun, b_pc, b_ints, b_lists))
    (h1 : ty_rj (pt_o b_body f) (pt_p b_body f) (pt_q b_body f) (pt_r b_body f) en f g_parts b_rates l n 0 (ty_t0 (b_rates (f * 5)) (b_rates (f * 5 + 1)) (b_rates (f * 5 + 2))) → ∀ (g_purse g_bases : Int32) (b_rest b_known b_base : Nat → Int32), post 1 (g_parts, g_most, g_count, g_lacking, g_opened, g_purse, g_bases, g_cells, g_supply, g_depth, g_entries, b_body, b_len, b_sig, b_accepted, b_input, b_result, b_sizes, b_lastRun, b_rates, b_rest, b_known, b_base, b_head, b_tail, b_dead, b_fun, b_pc, b_ints, b_lists)) :
    wpY_rejects post (g_parts, g_most, g_count, g_lacking, g_opened, g_purse, g_bases, g_cells, g_supply, g_depth, g_entries, b_body, b_len, b_sig, b_accepted, b_input, b_result, b_sizes, b_lastRun, b_rates, b_rest, b_known, b_base, b_head, b_tail, b_dead, b_fun, b_pc, b_ints, b_lists) (nI f) (nI l) := by
  have q0 : b_rates (nI f * 5).toNatClampNeg = b_rates (f * 5) := by rw [ba_m5, nI_clamp (by omega)]
  have q1 : b_rates (nI f * 5 + 1).toNatClampNeg = b_rates (f * 5 + 1) := by rw [ba_m5, nI_1, nI_clamp (by omega)]
  have q2 : b_rates (nI f * 5 + 2).toNatClampNeg = b_rates (f * 5 + 2) := by rw [ba_m5, ba_2, nI_clamp (by omega)]
  refine And.intro (by rw [ba_m5]; exact vp_in_nI (by omega) (by omega)) (nm_r (e' := upd b_rest 1 (b_rates (f * 5))) (by rw [q0]) ⟨by rw [ba_m5, nI_1]; exact vp_in_nI (by omega) (by omega), nm_r (e' := upd (upd b_rest 1 (b_rates (f * 5))) 2 (b_rates (f * 5 + 1))) (by rw [q1]) ⟨by rw [ba_m5, ba_2]; exact vp_in_nI (by omega) (by omega), nm_r (e' := b_rates (f * 5 + 2)) q2 ⟨5, ?_⟩⟩⟩)
  have e1 : ty_k0 b_known 0 = b_known := funext fun s => if_neg (by omega)
  have e2 : ty_bb b_base 0 = b_base := funext fun s => if_neg (by omega)
  have H := ty_rej0 (post := post) (x1 := nI f) (x2 := nI l) (g_parts := g_parts) (g_most := g_most) (g_count := g_count) (g_lacking := g_lacking) (g_opened := g_opened) (g_purse := b_rates (f * 5 + 2)) (g_bases := 2) (g_cells := g_cells) (g_supply := g_supply) (g_depth := g_depth) (g_entries := g_entries) (b_body := b_body) (b_len := b_len) (b_sig := b_sig) (b_accepted := b_accepted) (b_input := b_input) (b_result := b_result) (b_sizes := b_sizes) (b_lastRun := b_lastRun) (b_rates := b_rates) (b_rest := upd (upd b_rest 1 (b_rates (f * 5))) 2 (b_rates (f * 5 + 1))) (b_known := b_known) (b_base := b_base) (b_head := b_head) (b_tail := b_tail) (b_dead := b_dead) (b_fun := b_fun) (b_pc := b_pc) (b_ints := b_ints) (b_lists := b_lists) ⟨n + 1, ty_yw hf hc hl hn hF hT hrt hl0 hln post n 0 0 _ _ _ _ _ (b_rates (f * 5 + 2)) (ty_r0 (b_rates (f * 5)) (b_rates (f * 5 + 1))) (fun _ => 0) ty_b0 2 (fun i => i) (by omega) (by omega) (by omega) (by omega) (by omega) ?_ h0 h1⟩ 4 0 (by omega)
  · rw [e1, e2] at H
    exact H
  · refine ⟨rfl, rfl, by omega, by omega, rfl, fun i a b => ?_, fun i j _ _ e => e, fun s hs => ?_⟩
    · rcases (by omega : i = 1 ∨ i = 2) with rfl | rfl
      · exact ⟨by omega, by omega, rfl, hrt _ (by omega)⟩
      · exact ⟨by omega, by omega, rfl, hrt _ (by omega)⟩
    · refine ⟨if_pos hs, Nat.zero_le _, ty_b0 s, ?_, if_pos hs, rfl⟩
      unfold ty_b0
      split <;> omega
theorem ty_fits (hf : f < 4) (hc : nI f < g_count) (hl : b_len f = nI n) (hn1 : 1 ≤ n) (hn : n ≤ 12) (hF : ∀ k, k < n → pt_Fi b_body f k) (hT : pt_TF (pt_o b_body f) en n) (he : en 0 = n) (hrt : ∀ j, j < 20 → 0 ≤ b_rates j) (post : Int32 → SY → Prop)
    (h1 : ty_chk (pt_o b_body f) (pt_p b_body f) (pt_q b_body f) (pt_r b_body f) en f g_parts b_rates n 0 (ty_t0 (b_rates (f * 5)) (b_rates (f * 5 + 1)) (b_rates (f * 5 + 2))) → ∀ (g_purse g_bases : Int32) (b_rest b_known b_base : Nat → Int32), post 1 (g_parts, g_most, g_count, g_lacking, g_opened, g_purse, g_bases, g_cells, g_supply, g_depth, g_entries, b_body, b_len, b_sig, b_accepted, b_input, b_result, b_sizes, b_lastRun, b_rates, b_rest, b_known, b_base, b_head, b_tail, b_dead, b_fun, b_pc, b_ints, b_lists))
    (h0 : ¬ ty_chk (pt_o b_body f) (pt_p b_body f) (pt_q b_body f) (pt_r b_body f) en f g_parts b_rates n 0 (ty_t0 (b_rates (f * 5)) (b_rates (f * 5 + 1)) (b_rates (f * 5 + 2))) → ∀ (g_purse g_bases : Int32) (b_rest b_known b_base : Nat → Int32), post 0 (g_parts, g_most, g_count, g_lacking, g_opened, g_purse, g_bases, g_cells, g_supply, g_depth, g_entries, b_body, b_len, b_sig, b_accepted, b_input, b_result, b_sizes, b_lastRun, b_rates, b_rest, b_known, b_base, b_head, b_tail, b_dead, b_fun, b_pc, b_ints, b_lists)) :
    wpY_fits post (g_parts, g_most, g_count, g_lacking, g_opened, g_purse, g_bases, g_cells, g_supply, g_depth, g_entries, b_body, b_len, b_sig, b_accepted, b_input, b_result, b_sizes, b_lastRun, b_rates, b_rest, b_known, b_base, b_head, b_tail, b_dead, b_fun, b_pc, b_ints, b_lists) (nI f) := by
  rw [ty_all _ _ _ _ en f g_parts b_rates hT n 0 _ (by omega) (by omega), he] at h1 h0
  have hcl : (nI f).toNatClampNeg = f := nI_clamp (by omega)
  have go : ∀ (d i : Nat) (g_purse g_bases : Int32) (b_rest b_known b_base : Nat → Int32), i + d = n → (∀ l, l < i → pt_o b_body f l = 0 → ¬ ty_rj (pt_o b_body f) (pt_p b_body f) (pt_q b_body f) (pt_r b_body f) en f g_parts b_rates l n 0 (ty_t0 (b_rates (f * 5)) (b_rates (f * 5 + 1)) (b_rates (f * 5 + 2)))) → wY_fits_2 post (nI f) (d + 1) (nI i) g_parts g_most g_count g_lacking g_opened g_purse g_bases g_cells g_supply g_depth g_entries b_body b_len b_sig b_accepted b_input b_result b_sizes b_lastRun b_rates b_rest b_known b_base b_head b_tail b_dead b_fun b_pc b_ints b_lists := by
    intro d
    induction d with
    | zero =>
      intro i g_purse g_bases b_rest b_known b_base hi hj
      refine And.intro (vp_in_nI hf (by omega)) (br_t ?_ (h1 (fun l _ a b => hj l (by omega) b) _ _ _ _ _))
      rw [hcl, hl]; exact nI_le (by omega) (by omega)
    | succ d ih =>
      intro i g_purse g_bases b_rest b_known b_base hi hj
      obtain ⟨b0, b1, _⟩ := hF i (by omega)
      refine And.intro (vp_in_nI hf (by omega)) (br_f ?_ (ty_ycd 0 hf hc hl hn (by omega) (by omega) b0 ?_))
      · rw [hcl, hl]; exact nI_ge (by omega) (by omega)
      · refine pk_eq (pt_o b_body f i) 0 (fun ho => ty_rejects hf hc hl hn1 hn hF hT he hrt ho (by omega) _ (fun hr g_purse g_bases b_rest b_known b_base => br_t rfl (nm_r (nI_1 i) (ih (i + 1) _ _ _ _ _ (by omega) (fun l a b => ?_)))) (fun hr g_purse g_bases b_rest b_known b_base => br_f (by decide) (h0 (fun c => c i (by omega) (by omega) ho hr) _ _ _ _ _))) (fun ho => nm_r (nI_1 i) (ih (i + 1) _ _ _ _ _ (by omega) (fun l a b => ?_)))
        · rcases Nat.lt_or_ge l i with h | h
          · exact hj l h b
          · obtain rfl : l = i := by omega
            exact hr
        · rcases Nat.lt_or_ge l i with h | h
          · exact hj l h b
          · obtain rfl : l = i := by omega
            exact absurd b ho
  exact Exists.intro (n + 1) (go n 0 _ _ _ _ _ (by omega) (fun l a => by omega))
end
end
section
/-! the component's helpers of the symbolic walk -/
/-- a charge, in the array; slot j, column c, base b (0: none) -/
def xs_cg (st : Nat → Int32) (s j c b : Nat) (amt : Int32) : Nat → Int32 :=
  if b = 0 then upd st (s + (56 + c)) (st (s + (56 + c)) - st (s + (60 + j)) * amt)
  else upd (upd st (s + (56 + c)) (st (s + (56 + c)) - st (s + (60 + j)) * amt)) (s + (4 * (b - 1) + c)) (st (s + (4 * (b - 1) + c)) - amt)
def xs_ss (st : Nat → Int32) (s j : Nat) (m b : Int32) : Nat → Int32 := upd (upd st (s + (60 + j)) m) (s + (64 + j)) b
def xs_dr (st : Nat → Int32) (s : Nat) (v : Int32) (i : Nat) : Nat → Int32 := fun x => if s + 64 ≤ x ∧ x < s + 64 + i ∧ st x = v then -1 else st x
def xs_lb (st : Nat → Int32) (s b i : Nat) : Nat → Int32 := fun x => if s + 56 ≤ x ∧ x < s + 56 + i then st x + st (x - 56 + 4 * b) else if s + 60 ≤ x ∧ x < s + 60 + i ∧ st (x + 4) = nI b then st x + 1 else st x
theorem xs_drs1 {st : Nat → Int32} {s i : Nat} {v : Int32} (h : st (s + 64 + i) = v) : upd (xs_dr st s v i) (s + 64 + i) (-1) = xs_dr st s v (i + 1) := by
  funext x
  unfold upd xs_dr
  by_cases e : x = s + 64 + i
  · subst e
    rw [if_pos rfl, if_pos ⟨by omega, by omega, h⟩]
  · rw [if_neg e]
    by_cases c : s + 64 ≤ x ∧ x < s + 64 + i ∧ st x = v
    · rw [if_pos c, if_pos ⟨c.1, by omega, c.2.2⟩]
    · rw [if_neg c, if_neg (fun z => c ⟨z.1, by omega, z.2.2⟩)]
theorem xs_drs0 {st : Nat → Int32} {s i : Nat} {v : Int32} (h : ¬ st (s + 64 + i) = v) : xs_dr st s v i = xs_dr st s v (i + 1) := by
  funext x
  unfold xs_dr
  by_cases e : x = s + 64 + i
  · subst e
    rw [if_neg (fun z => h z.2.2), if_neg (fun z => h z.2.2)]
  · by_cases c : s + 64 ≤ x ∧ x < s + 64 + i ∧ st x = v
    · rw [if_pos c, if_pos ⟨c.1, by omega, c.2.2⟩]
    · rw [if_neg c, if_neg (fun z => c ⟨z.1, by omega, z.2.2⟩)]
theorem xs_lbs0 {st : Nat → Int32} {s b i : Nat} (hi : i < 4) (h : ¬ st (s + 64 + i) = nI b) : upd (xs_lb st s b i) (s + 56 + i) (st (s + 56 + i) + st (s + 4 * b + i)) = xs_lb st s b (i + 1) := by
  funext x
  unfold upd xs_lb
  by_cases e : x = s + 56 + i
  · subst e
    rw [if_pos rfl, if_pos ⟨by omega, by omega⟩, show s + 56 + i - 56 + 4 * b = s + 4 * b + i by omega]
  · rw [if_neg e]
    by_cases c : s + 56 ≤ x ∧ x < s + 56 + i
    · rw [if_pos c, if_pos ⟨c.1, by omega⟩]
    · rw [if_neg c, if_neg (show ¬ (s + 56 ≤ x ∧ x < s + 56 + (i + 1)) from fun z => c ⟨z.1, by omega⟩)]
      by_cases e2 : x = s + 60 + i
      · subst e2
        rw [if_neg (fun z => by omega), if_neg (fun z => h (by rw [show s + 64 + i = s + 60 + i + 4 by omega]; exact z.2.2))]
      · by_cases c2 : s + 60 ≤ x ∧ x < s + 60 + i ∧ st (x + 4) = nI b
        · rw [if_pos c2, if_pos ⟨c2.1, by omega, c2.2.2⟩]
        · rw [if_neg c2, if_neg (fun z => c2 ⟨z.1, by omega, z.2.2⟩)]
theorem xs_lbs1 {st : Nat → Int32} {s b i : Nat} (hi : i < 4) (h : st (s + 64 + i) = nI b) : upd (upd (xs_lb st s b i) (s + 56 + i) (st (s + 56 + i) + st (s + 4 * b + i))) (s + 60 + i) (st (s + 60 + i) + 1) = xs_lb st s b (i + 1) := by
  funext x
  unfold upd xs_lb
  by_cases e2 : x = s + 60 + i
  · subst e2
    rw [if_pos rfl, if_neg (fun z => by omega), if_pos ⟨by omega, by omega, by rw [show s + 60 + i + 4 = s + 64 + i by omega]; exact h⟩]
  · rw [if_neg e2]
    by_cases e : x = s + 56 + i
    · subst e
      rw [if_pos rfl, if_pos ⟨by omega, by omega⟩, show s + 56 + i - 56 + 4 * b = s + 4 * b + i by omega]
    · rw [if_neg e]
      by_cases c : s + 56 ≤ x ∧ x < s + 56 + i
      · rw [if_pos c, if_pos ⟨c.1, by omega⟩]
      · rw [if_neg c, if_neg (show ¬ (s + 56 ≤ x ∧ x < s + 56 + (i + 1)) from fun z => c ⟨z.1, by omega⟩)]
        by_cases c2 : s + 60 ≤ x ∧ x < s + 60 + i ∧ st (x + 4) = nI b
        · rw [if_pos c2, if_pos ⟨c2.1, by omega, c2.2.2⟩]
        · rw [if_neg c2, if_neg (fun z => c2 ⟨z.1, by omega, z.2.2⟩)]
section
variable {f_parts f_most f_functions f_openFn f_lacking f_subject f_wantedRest f_wantedLeft f_formCount f_bestA f_bestB f_bestC f_cells f_depth f_entries f_outcome f_freeNow f_lowest : Int32} {a_body a_lengths a_treeEnd a_accepted a_sig a_sizes a_input a_result a_state a_reached a_forms a_heads a_tails a_freed a_ints a_lists a_frameFn a_framePc : Nat → Int32} {post : SX → Prop} {s j : Nat}
theorem xs_set {m b : Int32} (hs : s + 68 ≤ 816) (hj : j < 4) (h : post (f_parts, f_most, f_functions, f_openFn, f_lacking, f_subject, f_wantedRest, f_wantedLeft, f_formCount, f_bestA, f_bestB, f_bestC, f_cells, f_depth, f_entries, f_outcome, f_freeNow, f_lowest, a_body, a_lengths, a_treeEnd, a_accepted, a_sig, a_sizes, a_input, a_result, xs_ss a_state s j m b, a_reached, a_forms, a_heads, a_tails, a_freed, a_ints, a_lists, a_frameFn, a_framePc)) : wpX_setSlot post (f_parts, f_most, f_functions, f_openFn, f_lacking, f_subject, f_wantedRest, f_wantedLeft, f_formCount, f_bestA, f_bestB, f_bestC, f_cells, f_depth, f_entries, f_outcome, f_freeNow, f_lowest, a_body, a_lengths, a_treeEnd, a_accepted, a_sig, a_sizes, a_input, a_result, a_state, a_reached, a_forms, a_heads, a_tails, a_freed, a_ints, a_lists, a_frameFn, a_framePc) (nI s) (nI j) m b := by
  have e1 : nI s + 60 + nI j = nI (s + (60 + j)) := by rw [ba_60, nI_add, Nat.add_assoc]
  have e2 : nI s + 64 + nI j = nI (s + (64 + j)) := by rw [ba_64, nI_add, Nat.add_assoc]
  refine And.intro (by rw [e1]; exact vp_in_nI (by omega) (by omega)) (nm_e ⟨by rw [e2]; exact vp_in_nI (by omega) (by omega), nm_e ?_⟩)
  rw [e1, e2, nI_clamp (by omega), nI_clamp (by omega)]
  exact h
theorem xs_chg {c b : Nat} {amt : Int32} (hs : s + 68 ≤ 816) (hj : j < 4) (hc : c < 4) (hb : b ≤ 14) (eb : a_state (s + (64 + j)) = nI b - 1) (h : post (f_parts, f_most, f_functions, f_openFn, f_lacking, f_subject, f_wantedRest, f_wantedLeft, f_formCount, f_bestA, f_bestB, f_bestC, f_cells, f_depth, f_entries, f_outcome, f_freeNow, f_lowest, a_body, a_lengths, a_treeEnd, a_accepted, a_sig, a_sizes, a_input, a_result, xs_cg a_state s j c b amt, a_reached, a_forms, a_heads, a_tails, a_freed, a_ints, a_lists, a_frameFn, a_framePc)) : wpX_charge post (f_parts, f_most, f_functions, f_openFn, f_lacking, f_subject, f_wantedRest, f_wantedLeft, f_formCount, f_bestA, f_bestB, f_bestC, f_cells, f_depth, f_entries, f_outcome, f_freeNow, f_lowest, a_body, a_lengths, a_treeEnd, a_accepted, a_sig, a_sizes, a_input, a_result, a_state, a_reached, a_forms, a_heads, a_tails, a_freed, a_ints, a_lists, a_frameFn, a_framePc) (nI s) (nI j) (nI c) amt := by
  have e1 : nI s + 60 + nI j = nI (s + (60 + j)) := by rw [ba_60, nI_add, Nat.add_assoc]
  have e2 : nI s + 64 + nI j = nI (s + (64 + j)) := by rw [ba_64, nI_add, Nat.add_assoc]
  have e3 : nI s + 56 + nI c = nI (s + (56 + c)) := by rw [ba_56, nI_add, Nat.add_assoc]
  have v3 : vp_in (nI s + 56 + nI c) 816 := by rw [e3]; exact vp_in_nI (by omega) (by omega)
  refine And.intro v3 (And.intro (by rw [e1]; exact vp_in_nI (by omega) (by omega)) (And.intro v3 (nm_r (e' := upd a_state (s + (56 + c)) (a_state (s + (56 + c)) - a_state (s + (60 + j)) * amt)) (by rw [e1, e3, nI_clamp (by omega), nI_clamp (by omega)]) ⟨by rw [e2]; exact vp_in_nI (by omega) (by omega), nm_r (e' := nI b - 1) (by rw [e2, nI_clamp (by omega), pk_un (by omega), eb]) ?_⟩)))
  unfold xs_cg at h
  by_cases hz : b = 0
  · rw [if_pos hz] at h
    exact br_t ((ba_blt (by omega)).mpr hz) h
  · rw [if_neg hz] at h
    have e4 : nI s + 4 * (nI b - 1) + nI c = nI (s + (4 * (b - 1) + c)) := by rw [ba_bp hz, ba_4m, nI_add, nI_add, Nat.add_assoc]
    have v4 : vp_in (nI s + 4 * (nI b - 1) + nI c) 816 := by rw [e4]; exact vp_in_nI (by omega) (by omega)
    refine br_f (fun e => hz ((ba_blt (by omega)).mp e)) ⟨v4, v4, nm_e ?_⟩
    rw [e4, nI_clamp (by omega), pk_un (show s + (4 * (b - 1) + c) ≠ s + (56 + c) by omega)]
    exact h
theorem xs_req {c0 a : Nat} (hc : f_formCount = nI c0) (hc2 : c0 < 36) (ha : a + 4 ≤ 816) (h : post (f_parts, f_most, f_functions, f_openFn, f_lacking, f_subject, f_wantedRest, f_wantedLeft, nI (c0 + 1), f_bestA, f_bestB, f_bestC, f_cells, f_depth, f_entries, f_outcome, f_freeNow, f_lowest, a_body, a_lengths, a_treeEnd, a_accepted, a_sig, a_sizes, a_input, a_result, a_state, a_reached, ba_cp a_forms a_state (c0 * 4) a 4, a_heads, a_tails, a_freed, a_ints, a_lists, a_frameFn, a_framePc)) : wpX_require post (f_parts, f_most, f_functions, f_openFn, f_lacking, f_subject, f_wantedRest, f_wantedLeft, f_formCount, f_bestA, f_bestB, f_bestC, f_cells, f_depth, f_entries, f_outcome, f_freeNow, f_lowest, a_body, a_lengths, a_treeEnd, a_accepted, a_sig, a_sizes, a_input, a_result, a_state, a_reached, a_forms, a_heads, a_tails, a_freed, a_ints, a_lists, a_frameFn, a_framePc) (nI a) := by
  subst hc
  have go : ∀ d i, i + d = 4 → wX_require_2 post (nI a) f_parts f_most f_functions f_openFn f_lacking f_subject f_wantedRest f_wantedLeft (nI c0) f_bestA f_bestB f_bestC f_cells f_depth f_entries f_outcome f_freeNow f_lowest (d + 1) (nI i) a_body a_lengths a_treeEnd a_accepted a_sig a_sizes a_input a_result a_state a_reached (ba_cp a_forms a_state (c0 * 4) a i) a_heads a_tails a_freed a_ints a_lists a_frameFn a_framePc := by
    intro d
    induction d with
    | zero =>
      intro i hi
      obtain rfl : i = 4 := by omega
      exact br_t (by decide) (nm_r (nI_1 c0) h)
    | succ d ih =>
      intro i hi
      refine br_f (nI_ge (b := 4) (by omega) (by omega)) ⟨by rw [nI_add]; exact vp_in_nI (by omega) (by omega), by rw [ba_m4, nI_add]; exact vp_in_nI (by omega) (by omega), nm_r (e' := ba_cp a_forms a_state (c0 * 4) a (i + 1)) ?_ (nm_r (nI_1 i) (ih (i + 1) (by omega)))⟩
      rw [ba_m4, nI_add, nI_add, nI_clamp (by omega), nI_clamp (by omega), ba_cps]
  have := go 4 0 (by omega)
  rw [ba_cp0] at this
  exact Exists.intro 5 this
theorem xs_rr {c0 b : Nat} (hs : s + 68 ≤ 816) (hj : j < 4) (hb : b ≤ 14) (eb : a_state (s + (64 + j)) = nI b - 1) (hc : f_formCount = nI c0) (hc2 : c0 < 36)
    (h0 : b = 0 → post (f_parts, f_most, f_functions, f_openFn, f_lacking, f_subject, f_wantedRest, f_wantedLeft, f_formCount, f_bestA, f_bestB, f_bestC, f_cells, f_depth, f_entries, f_outcome, f_freeNow, f_lowest, a_body, a_lengths, a_treeEnd, a_accepted, a_sig, a_sizes, a_input, a_result, a_state, a_reached, a_forms, a_heads, a_tails, a_freed, a_ints, a_lists, a_frameFn, a_framePc)) (h : b ≠ 0 → post (f_parts, f_most, f_functions, f_openFn, f_lacking, f_subject, f_wantedRest, f_wantedLeft, nI (c0 + 1), f_bestA, f_bestB, f_bestC, f_cells, f_depth, f_entries, f_outcome, f_freeNow, f_lowest, a_body, a_lengths, a_treeEnd, a_accepted, a_sig, a_sizes, a_input, a_result, a_state, a_reached, ba_cp a_forms a_state (c0 * 4) (s + 4 * (b - 1)) 4, a_heads, a_tails, a_freed, a_ints, a_lists, a_frameFn, a_framePc)) : wpX_requireRest post (f_parts, f_most, f_functions, f_openFn, f_lacking, f_subject, f_wantedRest, f_wantedLeft, f_formCount, f_bestA, f_bestB, f_bestC, f_cells, f_depth, f_entries, f_outcome, f_freeNow, f_lowest, a_body, a_lengths, a_treeEnd, a_accepted, a_sig, a_sizes, a_input, a_result, a_state, a_reached, a_forms, a_heads, a_tails, a_freed, a_ints, a_lists, a_frameFn, a_framePc) (nI s) (nI j) := by
  have e2 : nI s + 64 + nI j = nI (s + (64 + j)) := by rw [ba_64, nI_add, Nat.add_assoc]
  refine And.intro (by rw [e2]; exact vp_in_nI (by omega) (by omega)) (nm_r (e' := nI b - 1) (by rw [e2, nI_clamp (by omega), eb]) ?_)
  by_cases hz : b = 0
  · exact br_t ((ba_blt (by omega)).mpr hz) (h0 hz)
  · refine br_f (fun e => hz ((ba_blt (by omega)).mp e)) ?_
    rw [ba_bp hz, ba_4m, nI_add]
    exact xs_req hc hc2 (by omega) (h hz)
theorem xs_fwd {k t : Nat} (hk : k < 12) (ht : t < 12) (hn : k ≠ t) (h : post (f_parts, f_most, f_functions, f_openFn, f_lacking, f_subject, f_wantedRest, f_wantedLeft, f_formCount, f_bestA, f_bestB, f_bestC, f_cells, f_depth, f_entries, f_outcome, f_freeNow, f_lowest, a_body, a_lengths, a_treeEnd, a_accepted, a_sig, a_sizes, a_input, a_result, ba_cp a_state a_state (t * 68) (k * 68) 68, upd a_reached t 1, a_forms, a_heads, a_tails, a_freed, a_ints, a_lists, a_frameFn, a_framePc)) : wpX_forward post (f_parts, f_most, f_functions, f_openFn, f_lacking, f_subject, f_wantedRest, f_wantedLeft, f_formCount, f_bestA, f_bestB, f_bestC, f_cells, f_depth, f_entries, f_outcome, f_freeNow, f_lowest, a_body, a_lengths, a_treeEnd, a_accepted, a_sig, a_sizes, a_input, a_result, a_state, a_reached, a_forms, a_heads, a_tails, a_freed, a_ints, a_lists, a_frameFn, a_framePc) (nI k) (nI t) := by
  have go : ∀ d i, i + d = 68 → wX_forward_2 post (nI k) (nI t) f_parts f_most f_functions f_openFn f_lacking f_subject f_wantedRest f_wantedLeft f_formCount f_bestA f_bestB f_bestC f_cells f_depth f_entries f_outcome f_freeNow f_lowest (d + 1) (nI i) a_body a_lengths a_treeEnd a_accepted a_sig a_sizes a_input a_result (ba_cp a_state a_state (t * 68) (k * 68) i) a_reached a_forms a_heads a_tails a_freed a_ints a_lists a_frameFn a_framePc := by
    intro d
    induction d with
    | zero =>
      intro i hi
      obtain rfl : i = 68 := by omega
      refine br_t (by decide) ⟨vp_in_nI ht (by omega), nm_r (e' := upd a_reached t 1) (by rw [nI_clamp (by omega), ba_nb1]) h⟩
    | succ d ih =>
      intro i hi
      refine br_f (nI_ge (b := 68) (by omega) (by omega)) ⟨by rw [ba_m68, nI_add]; exact vp_in_nI (by omega) (by omega), by rw [ba_m68, nI_add]; exact vp_in_nI (by omega) (by omega), nm_r (e' := ba_cp a_state a_state (t * 68) (k * 68) (i + 1)) ?_ (nm_r (nI_1 i) (ih (i + 1) (by omega)))⟩
      rw [ba_m68, ba_m68, nI_add, nI_add, nI_clamp (by omega), nI_clamp (by omega), ba_cpo (show k * 68 + i < t * 68 ∨ t * 68 + i ≤ k * 68 + i by omega), ba_cps]
  have := go 68 0 (by omega)
  rw [ba_cp0] at this
  exact Exists.intro 69 this
theorem xs_drop {v : Int32} (hs : s + 68 ≤ 816) (h : post (f_parts, f_most, f_functions, f_openFn, f_lacking, f_subject, f_wantedRest, f_wantedLeft, f_formCount, f_bestA, f_bestB, f_bestC, f_cells, f_depth, f_entries, f_outcome, f_freeNow, f_lowest, a_body, a_lengths, a_treeEnd, a_accepted, a_sig, a_sizes, a_input, a_result, xs_dr a_state s v 4, a_reached, a_forms, a_heads, a_tails, a_freed, a_ints, a_lists, a_frameFn, a_framePc)) : wpX_dropBase post (f_parts, f_most, f_functions, f_openFn, f_lacking, f_subject, f_wantedRest, f_wantedLeft, f_formCount, f_bestA, f_bestB, f_bestC, f_cells, f_depth, f_entries, f_outcome, f_freeNow, f_lowest, a_body, a_lengths, a_treeEnd, a_accepted, a_sig, a_sizes, a_input, a_result, a_state, a_reached, a_forms, a_heads, a_tails, a_freed, a_ints, a_lists, a_frameFn, a_framePc) (nI s) v := by
  have go : ∀ d i, i + d = 4 → wX_dropBase_2 post (nI s) v f_parts f_most f_functions f_openFn f_lacking f_subject f_wantedRest f_wantedLeft f_formCount f_bestA f_bestB f_bestC f_cells f_depth f_entries f_outcome f_freeNow f_lowest (d + 1) (nI i) a_body a_lengths a_treeEnd a_accepted a_sig a_sizes a_input a_result (xs_dr a_state s v i) a_reached a_forms a_heads a_tails a_freed a_ints a_lists a_frameFn a_framePc := by
    intro d
    induction d with
    | zero =>
      intro i hi
      obtain rfl : i = 4 := by omega
      exact br_t (by decide) h
    | succ d ih =>
      intro i hi
      have e2 : nI s + 64 + nI i = nI (s + 64 + i) := by rw [ba_64, nI_add]
      have hv : vp_in (nI s + 64 + nI i) 816 := by rw [e2]; exact vp_in_nI (by omega) (by omega)
      have hcl : (nI s + 64 + nI i).toNatClampNeg = s + 64 + i := by rw [e2, nI_clamp (by omega)]
      have ei : xs_dr a_state s v i (s + 64 + i) = a_state (s + 64 + i) := if_neg (fun z => by omega)
      refine br_f (nI_ge (b := 4) (by omega) (by omega)) ⟨hv, ?_⟩
      rw [hcl, ei]
      by_cases hb : a_state (s + 64 + i) = v
      · exact br_t hb ⟨hv, nm_r (xs_drs1 hb) (nm_r (nI_1 i) (ih (i + 1) (by omega)))⟩
      · refine br_f hb (nm_r (nI_1 i) ?_)
        rw [xs_drs0 hb]
        exact ih (i + 1) (by omega)
  have := go 4 0 (by omega)
  rw [show xs_dr a_state s v 0 = a_state from funext fun x => if_neg (fun z => by omega)] at this
  exact Exists.intro 5 this
theorem xs_bare {b : Nat} (hs : s + 68 ≤ 816) (hb : b < 14) (h : post (f_parts, f_most, f_functions, f_openFn, f_lacking, f_subject, f_wantedRest, f_wantedLeft, f_formCount, f_bestA, f_bestB, f_bestC, f_cells, f_depth, f_entries, f_outcome, f_freeNow, f_lowest, a_body, a_lengths, a_treeEnd, a_accepted, a_sig, a_sizes, a_input, a_result, xs_lb a_state s b 4, a_reached, a_forms, a_heads, a_tails, a_freed, a_ints, a_lists, a_frameFn, a_framePc)) : wpX_layBare post (f_parts, f_most, f_functions, f_openFn, f_lacking, f_subject, f_wantedRest, f_wantedLeft, f_formCount, f_bestA, f_bestB, f_bestC, f_cells, f_depth, f_entries, f_outcome, f_freeNow, f_lowest, a_body, a_lengths, a_treeEnd, a_accepted, a_sig, a_sizes, a_input, a_result, a_state, a_reached, a_forms, a_heads, a_tails, a_freed, a_ints, a_lists, a_frameFn, a_framePc) (nI s) (nI b) := by
  have go : ∀ d i, i + d = 4 → wX_layBare_2 post (nI s) (nI b) f_parts f_most f_functions f_openFn f_lacking f_subject f_wantedRest f_wantedLeft f_formCount f_bestA f_bestB f_bestC f_cells f_depth f_entries f_outcome f_freeNow f_lowest (d + 1) (nI i) a_body a_lengths a_treeEnd a_accepted a_sig a_sizes a_input a_result (xs_lb a_state s b i) a_reached a_forms a_heads a_tails a_freed a_ints a_lists a_frameFn a_framePc := by
    intro d
    induction d with
    | zero =>
      intro i hi
      obtain rfl : i = 4 := by omega
      exact br_t (by decide) h
    | succ d ih =>
      intro i hi
      have e0 : nI s + 56 + nI i = nI (s + 56 + i) := by rw [ba_56, nI_add]
      have e1 : nI s + 60 + nI i = nI (s + 60 + i) := by rw [ba_60, nI_add]
      have e2 : nI s + 64 + nI i = nI (s + 64 + i) := by rw [ba_64, nI_add]
      have e3 : nI s + 4 * nI b + nI i = nI (s + 4 * b + i) := by rw [ba_4m, nI_add, nI_add]
      have v0 : vp_in (nI s + 56 + nI i) 816 := by rw [e0]; exact vp_in_nI (by omega) (by omega)
      have v1 : vp_in (nI s + 60 + nI i) 816 := by rw [e1]; exact vp_in_nI (by omega) (by omega)
      have v2 : vp_in (nI s + 64 + nI i) 816 := by rw [e2]; exact vp_in_nI (by omega) (by omega)
      have v3 : vp_in (nI s + 4 * nI b + nI i) 816 := by rw [e3]; exact vp_in_nI (by omega) (by omega)
      have k0 : (nI s + 56 + nI i).toNatClampNeg = s + 56 + i := by rw [e0, nI_clamp (by omega)]
      have k1 : (nI s + 60 + nI i).toNatClampNeg = s + 60 + i := by rw [e1, nI_clamp (by omega)]
      have k2 : (nI s + 64 + nI i).toNatClampNeg = s + 64 + i := by rw [e2, nI_clamp (by omega)]
      have k3 : (nI s + 4 * nI b + nI i).toNatClampNeg = s + 4 * b + i := by rw [e3, nI_clamp (by omega)]
      have i0 : xs_lb a_state s b i (s + 56 + i) = a_state (s + 56 + i) := (if_neg (fun z => by omega)).trans (if_neg (fun z => by omega))
      have i1 : xs_lb a_state s b i (s + 60 + i) = a_state (s + 60 + i) := (if_neg (fun z => by omega)).trans (if_neg (fun z => by omega))
      have i2 : xs_lb a_state s b i (s + 64 + i) = a_state (s + 64 + i) := (if_neg (fun z => by omega)).trans (if_neg (fun z => by omega))
      have i3 : xs_lb a_state s b i (s + 4 * b + i) = a_state (s + 4 * b + i) := (if_neg (fun z => by omega)).trans (if_neg (fun z => by omega))
      refine br_f (nI_ge (b := 4) (by omega) (by omega)) ⟨v0, v3, v0, nm_e ⟨v2, ?_⟩⟩
      rw [k0, k1, k2, k3, i0, i3, pk_un (show s + 64 + i ≠ s + 56 + i by omega), pk_un (show s + 60 + i ≠ s + 56 + i by omega), i1, i2]
      by_cases hc : a_state (s + 64 + i) = nI b
      · exact br_t hc ⟨v1, v1, nm_r (xs_lbs1 (by omega) hc) (nm_r (nI_1 i) (ih (i + 1) (by omega)))⟩
      · refine br_f hc (nm_r (nI_1 i) ?_)
        rw [xs_lbs0 (by omega) hc]
        exact ih (i + 1) (by omega)
  have := go 4 0 (by omega)
  rw [show xs_lb a_state s b 0 = a_state from funext fun x => (if_neg (fun z => by omega)).trans (if_neg (fun z => by omega))] at this
  exact Exists.intro 5 this
end
end
section
/-! rows of the symbolic state: what they say, their bounds -/
def xs_row (st : Nat → Int32) (k : Nat) : Nat → Int32 := fun i => st (k * 68 + i)
theorem xs_row_u {st : Nat → Int32} {k x : Nat} {v : Int32} : xs_row (upd st (k * 68 + x) v) k = upd (xs_row st k) x v := by
  funext i
  unfold xs_row upd
  by_cases h : i = x
  · rw [if_pos h, if_pos (by omega)]
  · rw [if_neg h, if_neg (by omega)]
def rw_cg (ro : Nat → Int32) (j c b : Nat) (amt : Int32) : Nat → Int32 :=
  if b = 0 then upd ro (56 + c) (ro (56 + c) - ro (60 + j) * amt)
  else upd (upd ro (56 + c) (ro (56 + c) - ro (60 + j) * amt)) (4 * (b - 1) + c) (ro (4 * (b - 1) + c) - amt)
def rw_ss (ro : Nat → Int32) (j : Nat) (m b : Int32) : Nat → Int32 := upd (upd ro (60 + j) m) (64 + j) b
def rw_dr (ro : Nat → Int32) (v : Int32) : Nat → Int32 := fun i => if 64 ≤ i ∧ ro i = v then -1 else ro i
def rw_lb (ro : Nat → Int32) (b : Nat) : Nat → Int32 := fun i => if 56 ≤ i ∧ i < 60 then ro i + ro (i - 56 + 4 * b) else if 60 ≤ i ∧ i < 64 ∧ ro (i + 4) = nI b then ro i + 1 else ro i
theorem xs_row_cg {st : Nat → Int32} {k j c b : Nat} {amt : Int32} : xs_row (xs_cg st (k * 68) j c b amt) k = rw_cg (xs_row st k) j c b amt := by
  unfold xs_cg rw_cg
  split
  · rw [xs_row_u]; rfl
  · rw [xs_row_u, xs_row_u]; rfl
theorem xs_row_ss {st : Nat → Int32} {k j : Nat} {m b : Int32} : xs_row (xs_ss st (k * 68) j m b) k = rw_ss (xs_row st k) j m b := by
  unfold xs_ss rw_ss
  rw [xs_row_u, xs_row_u]
theorem xs_row_dr {st : Nat → Int32} {k : Nat} {v : Int32} : ∀ i, i < 68 → xs_row (xs_dr st (k * 68) v 4) k i = rw_dr (xs_row st k) v i := by
  intro i hi
  unfold xs_row xs_dr rw_dr
  by_cases c : 64 ≤ i ∧ st (k * 68 + i) = v
  · rw [if_pos c, if_pos ⟨by omega, by omega, c.2⟩]
  · rw [if_neg c, if_neg (fun z => c ⟨by omega, z.2.2⟩)]
theorem xs_row_lb {st : Nat → Int32} {k b : Nat} : ∀ i, i < 68 → xs_row (xs_lb st (k * 68) b 4) k i = rw_lb (xs_row st k) b i := by
  intro i hi
  unfold xs_row xs_lb rw_lb
  by_cases c : 56 ≤ i ∧ i < 60
  · rw [if_pos c, if_pos ⟨by omega, by omega⟩, show k * 68 + i - 56 + 4 * b = k * 68 + (i - 56 + 4 * b) by omega]
  · rw [if_neg c, if_neg (fun z => c ⟨by omega, by omega⟩)]
    by_cases c2 : 60 ≤ i ∧ i < 64 ∧ st (k * 68 + (i + 4)) = nI b
    · rw [if_pos c2, if_pos ⟨by omega, by omega, c2.2.2⟩]
    · rw [if_neg c2, if_neg (fun z => c2 ⟨by omega, by omega, z.2.2⟩)]
theorem xs_row_cp {st : Nat → Int32} {k t : Nat} : ∀ i, i < 68 → xs_row (ba_cp st st (t * 68) (k * 68) 68) t i = xs_row st k i := by
  intro i hi
  unfold xs_row
  rw [ba_cpi (by omega) (by omega), show t * 68 + i - t * 68 + k * 68 = k * 68 + i by omega]
/-! bounds -/
def xs_le (x : Int32) (B : Nat) : Prop := -(B : Int) ≤ x.toInt ∧ x.toInt ≤ (B : Int)
theorem xs_le_m {x : Int32} {A B : Nat} (h : xs_le x A) (hA : A ≤ B) : xs_le x B := ⟨by have := h.1; omega, by have := h.2; omega⟩
theorem xs_le_n {w C : Nat} (h : w ≤ C) (hC : C < 1000000) : xs_le (nI w) C := by
  unfold xs_le
  rw [nI_toInt (by omega)]
  omega
theorem xs_le_s {x y : Int32} {A C : Nat} (hx : xs_le x A) (hy : xs_le y C) (hA : A < 1000000) (hC : C < 1000000) : xs_le (x - y) (A + C) := by
  have e : (x - y).toInt = x.toInt - y.toInt := by
    rw [Int32.toInt_sub]
    unfold xs_le at hx hy
    exact Int.bmod_eq_of_le (by omega) (by omega)
  unfold xs_le at hx hy ⊢
  omega
theorem xs_le_a {x y : Int32} {A C : Nat} (hx : xs_le x A) (hy : xs_le y C) (hA : A < 1000000) (hC : C < 1000000) : xs_le (x + y) (A + C) := by
  have e : (x + y).toInt = x.toInt + y.toInt := by
    rw [Int32.toInt_add]
    unfold xs_le at hx hy
    exact Int.bmod_eq_of_le (by omega) (by omega)
  unfold xs_le at hx hy ⊢
  omega
/-- a row in order: slots up to k, rests up to Rb, purse up to Pb, zero from Z on -/
def xs_R (ro : Nat → Int32) (kn bs : Nat → Nat) (k Rb Pb Z : Nat) : Prop :=
  (∀ j, j < 4 → ro (60 + j) = nI (kn j) ∧ ro (64 + j) = nI (bs j) - 1 ∧ kn j ≤ k ∧ bs j ≤ k + 2) ∧
  (∀ i, i < 56 → xs_le (ro i) Rb) ∧ (∀ i, i < 4 → xs_le (ro (56 + i)) Pb) ∧ (∀ i, Z ≤ i → i < 56 → ro i = 0)
theorem xs_R_c {ro ro' : Nat → Int32} {kn bs : Nat → Nat} {k Rb Pb Z : Nat} (h : ∀ i, i < 68 → ro' i = ro i) (H : xs_R ro kn bs k Rb Pb Z) : xs_R ro' kn bs k Rb Pb Z := by
  obtain ⟨h1, h2, h3, h4⟩ := H
  refine ⟨fun j hj => ?_, fun i hi => ?_, fun i hi => ?_, fun i a b => ?_⟩
  · rw [h _ (by omega), h _ (by omega)]; exact h1 j hj
  · rw [h _ (by omega)]; exact h2 i hi
  · rw [h _ (by omega)]; exact h3 i hi
  · rw [h _ (by omega)]; exact h4 i a b
theorem xs_R_m {ro : Nat → Int32} {kn bs : Nat → Nat} {k Rb Pb Z k' Rb' Pb' Z' : Nat} (a : k ≤ k') (b : Rb ≤ Rb') (c : Pb ≤ Pb') (d : Z ≤ Z') (H : xs_R ro kn bs k Rb Pb Z) : xs_R ro kn bs k' Rb' Pb' Z' := by
  obtain ⟨h1, h2, h3, h4⟩ := H
  refine ⟨fun j hj => ?_, fun i hi => xs_le_m (h2 i hi) b, fun i hi => xs_le_m (h3 i hi) c, fun i e f => h4 i (by omega) f⟩
  obtain ⟨x1, x2, x3, x4⟩ := h1 j hj
  exact ⟨x1, x2, by omega, by omega⟩
theorem xs_R_cg {ro : Nat → Int32} {kn bs : Nat → Nat} {k Rb Pb Z j c w : Nat} (hk : k ≤ 12) (hj : j < 4) (hc : c < 4) (hw : w ≤ 8) (hZ : 4 * (k + 2) ≤ Z) (hR : Rb < 10000) (hP : Pb < 10000) (H : xs_R ro kn bs k Rb Pb Z) :
    xs_R (rw_cg ro j c (bs j) (nI w)) kn bs k (Rb + 8) (Pb + 96) Z := by
  obtain ⟨h1, h2, h3, h4⟩ := H
  obtain ⟨s1, s2, s3, s4⟩ := h1 j hj
  have hmul : kn j * w ≤ 96 := Nat.le_trans (Nat.mul_le_mul (show kn j ≤ 12 by omega) hw) (by omega)
  have hpu : xs_le (ro (56 + c) - ro (60 + j) * nI w) (Pb + 96) := by
    rw [s1, pk_mul]
    exact xs_le_s (h3 c hc) (xs_le_n hmul (by omega)) (by omega) (by omega)
  unfold rw_cg
  by_cases hb : bs j = 0
  · rw [if_pos hb]
    refine ⟨fun j' hj' => ?_, fun i hi => ?_, fun i hi => ?_, fun i a b => ?_⟩
    · rw [pk_un (by omega), pk_un (by omega)]; exact h1 j' hj'
    · rw [pk_un (by omega)]; exact xs_le_m (h2 i hi) (by omega)
    · by_cases e : i = c
      · rw [ba_ue (by omega)]; exact hpu
      · rw [pk_un (by omega)]; exact xs_le_m (h3 i hi) (by omega)
    · rw [pk_un (by omega)]; exact h4 i a b
  · rw [if_neg hb]
    refine ⟨fun j' hj' => ?_, fun i hi => ?_, fun i hi => ?_, fun i a b => ?_⟩
    · rw [pk_un (by omega), pk_un (by omega), pk_un (by omega), pk_un (by omega)]; exact h1 j' hj'
    · by_cases e : i = 4 * (bs j - 1) + c
      · rw [ba_ue e]
        exact xs_le_s (h2 _ (by omega)) (xs_le_n hw (by omega)) (by omega) (by omega)
      · rw [pk_un e, pk_un (by omega)]; exact xs_le_m (h2 i hi) (by omega)
    · rw [pk_un (by omega)]
      by_cases e : i = c
      · rw [ba_ue (by omega)]; exact hpu
      · rw [pk_un (by omega)]; exact xs_le_m (h3 i hi) (by omega)
    · rw [pk_un (by omega), pk_un (by omega)]; exact h4 i a b
/-- the purse changed in one column -/
theorem xs_R_pu {ro : Nat → Int32} {kn bs : Nat → Nat} {k Rb Pb Z c d : Nat} {v : Int32} (hc : c < 4) (hv : xs_le v (Pb + d)) (H : xs_R ro kn bs k Rb Pb Z) : xs_R (upd ro (56 + c) v) kn bs k Rb (Pb + d) Z := by
  obtain ⟨h1, h2, h3, h4⟩ := H
  refine ⟨fun j' hj' => ?_, fun i hi => ?_, fun i hi => ?_, fun i a b => ?_⟩
  · rw [pk_un (by omega), pk_un (by omega)]; exact h1 j' hj'
  · rw [pk_un (by omega)]; exact h2 i hi
  · by_cases e : i = c
    · rw [ba_ue (by omega)]; exact hv
    · rw [pk_un (by omega)]; exact xs_le_m (h3 i hi) (by omega)
  · rw [pk_un (by omega)]; exact h4 i a b
theorem xs_R_nb {ro : Nat → Int32} {kn bs : Nat → Nat} {k Rb Pb w : Nat} (hk : k ≤ 11) (hw : w ≤ 8) (hR : 8 ≤ Rb) (hR2 : Rb < 10000) (H : xs_R ro kn bs k Rb Pb (4 * (k + 2))) : xs_R (upd ro (4 * (k + 2) + 3) (nI w)) kn bs k Rb Pb (4 * (k + 3)) := by
  obtain ⟨h1, h2, h3, h4⟩ := H
  refine ⟨fun j' hj' => ?_, fun i hi => ?_, fun i hi => ?_, fun i a b => ?_⟩
  · rw [pk_un (by omega), pk_un (by omega)]; exact h1 j' hj'
  · by_cases e : i = 4 * (k + 2) + 3
    · rw [ba_ue e]; exact xs_le_n (by omega) (by omega)
    · rw [pk_un e]; exact h2 i hi
  · rw [pk_un (by omega)]; exact h3 i hi
  · rw [pk_un (by omega)]; exact h4 i (by omega) b
theorem xs_R_ss {ro : Nat → Int32} {kn bs : Nat → Nat} {k k' Rb Pb Z j m b : Nat} (hj : j < 4) (hk : k ≤ k') (hm : m ≤ k') (hb : b ≤ k' + 2) (H : xs_R ro kn bs k Rb Pb Z) : xs_R (rw_ss ro j (nI m) (nI b - 1)) (ba_up kn j m) (ba_up bs j b) k' Rb Pb Z := by
  obtain ⟨h1, h2, h3, h4⟩ := H
  unfold rw_ss
  refine ⟨fun j' hj' => ?_, fun i hi => ?_, fun i hi => ?_, fun i a b => ?_⟩
  · rw [pk_un (show 60 + j' ≠ 64 + j by omega)]
    by_cases e : j' = j
    · rw [ba_upe e, ba_upe e, ba_ue (by omega), ba_ue (by omega)]
      exact ⟨rfl, rfl, hm, hb⟩
    · obtain ⟨x1, x2, x3, x4⟩ := h1 j' hj'
      rw [ba_upn e, ba_upn e, pk_un (by omega), pk_un (by omega), pk_un (by omega)]
      exact ⟨x1, x2, by omega, by omega⟩
  · rw [pk_un (by omega), pk_un (by omega)]; exact h2 i hi
  · rw [pk_un (by omega), pk_un (by omega)]; exact h3 i hi
  · rw [pk_un (by omega), pk_un (by omega)]; exact h4 i a b
theorem rw_dr_lo {ro : Nat → Int32} {v : Int32} {i : Nat} (h : i < 64) : rw_dr ro v i = ro i := if_neg (fun z => by omega)
theorem rw_dr_e {ro : Nat → Int32} {v : Int32} {i : Nat} (h : 64 ≤ i) (e : ro i = v) : rw_dr ro v i = -1 := if_pos ⟨h, e⟩
theorem rw_dr_n {ro : Nat → Int32} {v : Int32} {i : Nat} (e : ¬ ro i = v) : rw_dr ro v i = ro i := if_neg (fun z => e z.2)
theorem rw_lb_o {ro : Nat → Int32} {b i : Nat} (h : i < 56 ∨ 64 ≤ i) : rw_lb ro b i = ro i := (if_neg (fun z => by omega)).trans (if_neg (fun z => by omega))
theorem rw_lb_p {ro : Nat → Int32} {b i : Nat} (h : 56 ≤ i) (h2 : i < 60) : rw_lb ro b i = ro i + ro (i - 56 + 4 * b) := if_pos ⟨h, h2⟩
theorem rw_lb_e {ro : Nat → Int32} {b i : Nat} (h : 60 ≤ i) (h2 : i < 64) (e : ro (i + 4) = nI b) : rw_lb ro b i = ro i + 1 := (if_neg (fun z => by omega)).trans (if_pos ⟨h, h2, e⟩)
theorem rw_lb_n {ro : Nat → Int32} {b i : Nat} (h : 60 ≤ i) (e : ¬ ro (i + 4) = nI b) : rw_lb ro b i = ro i := (if_neg (fun z => by omega)).trans (if_neg (fun z => e z.2.2))
theorem xs_R_dr {ro : Nat → Int32} {kn bs : Nat → Nat} {k Rb Pb Z b : Nat} (hk : k ≤ 12) (hb : b ≤ 14) (H : xs_R ro kn bs k Rb Pb Z) : xs_R (rw_dr ro (nI b - 1)) kn (ty_dr bs b) k Rb Pb Z := by
  obtain ⟨h1, h2, h3, h4⟩ := H
  refine ⟨fun j' hj' => ?_, fun i hi => ?_, fun i hi => ?_, fun i a b => ?_⟩
  · obtain ⟨x1, x2, x3, x4⟩ := h1 j' hj'
    rw [rw_dr_lo (by omega)]
    by_cases e : bs j' = b
    · have e1 : ty_dr bs b j' = 0 := if_pos e
      rw [e1, rw_dr_e (by omega) (by rw [x2, e])]
      exact ⟨x1, ba_m1, x3, by omega⟩
    · have e1 : ty_dr bs b j' = bs j' := if_neg e
      rw [e1, rw_dr_n (fun z => e ((ba_beq (by omega) (by omega)).mp (x2.symm.trans z)))]
      exact ⟨x1, x2, x3, x4⟩
  · rw [rw_dr_lo (by omega)]; exact h2 i hi
  · rw [rw_dr_lo (by omega)]; exact h3 i hi
  · rw [rw_dr_lo (by omega)]; exact h4 i a b
theorem xs_R_lb {ro : Nat → Int32} {kn bs : Nat → Nat} {k Rb Pb Z b : Nat} (hk : k ≤ 12) (hb : b < 14) (hR : Rb < 10000) (hP : Pb < 10000) (H : xs_R ro kn bs k Rb Pb Z) : xs_R (rw_lb ro b) (ty_lb kn bs (b + 1)) bs (k + 1) Rb (Pb + Rb) Z := by
  obtain ⟨h1, h2, h3, h4⟩ := H
  refine ⟨fun j' hj' => ?_, fun i hi => ?_, fun i hi => ?_, fun i a b => ?_⟩
  · obtain ⟨x1, x2, x3, x4⟩ := h1 j' hj'
    have e0 : 60 + j' + 4 = 64 + j' := by omega
    rw [rw_lb_o (i := 64 + j') (by omega)]
    have hbe : nI b = nI (b + 1) - 1 := (nI_pred b).symm
    by_cases e : bs j' = b + 1
    · have e1 : ty_lb kn bs (b + 1) j' = kn j' + 1 := if_pos e
      rw [e1, rw_lb_e (by omega) (by omega) (by rw [e0, x2, e, nI_pred]), x1, nI_1]
      exact ⟨rfl, x2, by omega, by omega⟩
    · have e1 : ty_lb kn bs (b + 1) j' = kn j' := if_neg e
      rw [e1, rw_lb_n (by omega) (fun z => e ((ba_beq (by omega) (by omega)).mp (x2.symm.trans ((e0 ▸ z).trans hbe))))]
      exact ⟨x1, x2, by omega, by omega⟩
  · rw [rw_lb_o (by omega)]; exact h2 i hi
  · rw [rw_lb_p (by omega) (by omega)]
    exact xs_le_a (h3 i hi) (h2 _ (by omega)) (by omega) (by omega)
  · rw [rw_lb_o (by omega)]; exact h4 i a b
/-! what a row says at numbers A, B, C -/
def xs_E (ro : Nat → Int32) (A B C pu : Int32) (re : Nat → Int32) : Prop :=
  pu = ro 56 * A + ro 57 * B + ro 58 * C + ro 59 ∧ ∀ b, b < 14 → re (b + 1) = ro (4 * b) * A + ro (4 * b + 1) * B + ro (4 * b + 2) * C + ro (4 * b + 3)
theorem xs_E_c {ro ro' : Nat → Int32} {A B C pu : Int32} {re : Nat → Int32} (h : ∀ i, i < 60 → ro' i = ro i) (H : xs_E ro A B C pu re) : xs_E ro' A B C pu re := by
  refine ⟨?_, fun b hb => ?_⟩
  · rw [h 56 (by omega), h 57 (by omega), h 58 (by omega), h 59 (by omega)]; exact H.1
  · rw [h _ (by omega), h _ (by omega), h _ (by omega), h _ (by omega)]; exact H.2 b hb
/-- the number of a column -/
def xs_cv (A B C : Int32) (c : Nat) : Int32 := if c = 0 then A else if c = 1 then B else if c = 2 then C else 1
theorem xs_g0 (x y z w A B C m : Int32) : (x - m) * A + y * B + z * C + w = (x * A + y * B + z * C + w) - m * A := by grind
theorem xs_g1 (x y z w A B C m : Int32) : x * A + (y - m) * B + z * C + w = (x * A + y * B + z * C + w) - m * B := by grind
theorem xs_g2 (x y z w A B C m : Int32) : x * A + y * B + (z - m) * C + w = (x * A + y * B + z * C + w) - m * C := by grind
theorem xs_g3 (x y z w A B C m : Int32) : x * A + y * B + z * C + (w - m) = (x * A + y * B + z * C + w) - m := by grind
theorem xs_g4 (x y z w A B C m : Int32) : x * A + y * B + z * C + (w + m) = (x * A + y * B + z * C + w) + m := by grind
theorem xs_g5 (x y z w x' y' z' w' A B C : Int32) : (x + x') * A + (y + y') * B + (z + z') * C + (w + w') = (x * A + y * B + z * C + w) + (x' * A + y' * B + z' * C + w') := by grind
theorem xs_g6 (R A B C : Int32) : (0 : Int32) * A + 0 * B + 0 * C + R = R := by grind
/-- the purse lessened in one column -/
theorem xs_E_pu {ro : Nat → Int32} {A B C pu m : Int32} {re : Nat → Int32} {c : Nat} (hc : c < 4) (H : xs_E ro A B C pu re) : xs_E (upd ro (56 + c) (ro (56 + c) - m)) A B C (pu - m * xs_cv A B C c) re := by
  refine ⟨?_, fun b hb => ?_⟩
  · rw [H.1]
    rcases (by omega : c = 0 ∨ c = 1 ∨ c = 2 ∨ c = 3) with rfl | rfl | rfl | rfl
    · rw [ba_ue rfl, pk_un (by omega), pk_un (by omega), pk_un (by omega)]
      exact (xs_g0 ..).symm
    · rw [pk_un (by omega), ba_ue rfl, pk_un (by omega), pk_un (by omega)]
      exact (xs_g1 ..).symm
    · rw [pk_un (by omega), pk_un (by omega), ba_ue rfl, pk_un (by omega)]
      exact (xs_g2 ..).symm
    · rw [pk_un (by omega), pk_un (by omega), pk_un (by omega), ba_ue rfl]
      rw [show xs_cv A B C 3 = 1 from rfl, Int32.mul_one]
      exact (xs_g3 ..).symm
  · rw [pk_un (by omega), pk_un (by omega), pk_un (by omega), pk_un (by omega)]; exact H.2 b hb
theorem xs_E_pa {ro : Nat → Int32} {A B C pu m : Int32} {re : Nat → Int32} (H : xs_E ro A B C pu re) : xs_E (upd ro 59 (ro 59 + m)) A B C (pu + m) re := by
  refine ⟨?_, fun b hb => ?_⟩
  · rw [H.1, pk_un (by omega), pk_un (by omega), pk_un (by omega), ba_ue rfl]
    exact (xs_g4 ..).symm
  · rw [pk_un (by omega), pk_un (by omega), pk_un (by omega), pk_un (by omega)]; exact H.2 b hb
/-- a rest lessened in one column -/
theorem xs_E_re {ro : Nat → Int32} {A B C pu m : Int32} {re : Nat → Int32} {b c : Nat} (hc : c < 4) (hb : b < 14) (H : xs_E ro A B C pu re) : xs_E (upd ro (4 * b + c) (ro (4 * b + c) - m)) A B C pu (upd re (b + 1) (re (b + 1) - m * xs_cv A B C c)) := by
  refine ⟨?_, fun b' hb' => ?_⟩
  · rw [pk_un (by omega), pk_un (by omega), pk_un (by omega), pk_un (by omega)]; exact H.1
  · by_cases e : b' = b
    · subst e
      rw [ba_ue rfl, H.2 b' hb']
      rcases (by omega : c = 0 ∨ c = 1 ∨ c = 2 ∨ c = 3) with rfl | rfl | rfl | rfl
      · rw [ba_ue (by omega), pk_un (by omega), pk_un (by omega), pk_un (by omega)]
        exact (xs_g0 ..).symm
      · rw [pk_un (by omega), ba_ue rfl, pk_un (by omega), pk_un (by omega)]
        exact (xs_g1 ..).symm
      · rw [pk_un (by omega), pk_un (by omega), ba_ue rfl, pk_un (by omega)]
        exact (xs_g2 ..).symm
      · rw [pk_un (by omega), pk_un (by omega), pk_un (by omega), ba_ue rfl]
        rw [show xs_cv A B C 3 = 1 from rfl, Int32.mul_one]
        exact (xs_g3 ..).symm
    · rw [pk_un (by omega), pk_un (by omega), pk_un (by omega), pk_un (by omega), pk_un (by omega)]; exact H.2 b' hb'
theorem xs_E_cg {ro : Nat → Int32} {A B C pu amt e : Int32} {re : Nat → Int32} {j c b m : Nat} (hc : c < 4) (hb : b ≤ 14) (hm : ro (60 + j) = nI m) (he : e = amt * xs_cv A B C c) (H : xs_E ro A B C pu re) : xs_E (rw_cg ro j c b amt) A B C (pu - nI m * e) (ty_cr re b e) := by
  have h1 : xs_E (upd ro (56 + c) (ro (56 + c) - ro (60 + j) * amt)) A B C (pu - nI m * e) re := by
    rw [he, ← Int32.mul_assoc, hm]
    exact xs_E_pu hc H
  unfold rw_cg ty_cr
  by_cases hz : b = 0
  · rw [if_pos hz, if_pos hz]; exact h1
  · rw [if_neg hz, if_neg hz]
    have h2 := xs_E_re (b := b - 1) (m := amt) hc (by omega) h1
    rw [pk_un (show 4 * (b - 1) + c ≠ 56 + c by omega), show b - 1 + 1 = b by omega, ← he] at h2
    exact h2
theorem xs_E_nb {ro : Nat → Int32} {A B C pu R : Int32} {re : Nat → Int32} {k : Nat} (hk : k ≤ 11) (hz : ∀ i, 4 * (k + 2) ≤ i → i < 56 → ro i = 0) (H : xs_E ro A B C pu re) : xs_E (upd ro (4 * (k + 2) + 3) R) A B C pu (upd re (k + 3) R) := by
  refine ⟨?_, fun b' hb' => ?_⟩
  · rw [pk_un (by omega), pk_un (by omega), pk_un (by omega), pk_un (by omega)]; exact H.1
  · by_cases e : b' = k + 2
    · subst e
      rw [ba_ue rfl, pk_un (by omega), pk_un (by omega), pk_un (by omega), ba_ue rfl, hz _ (by omega) (by omega), hz _ (by omega) (by omega), hz _ (by omega) (by omega)]
      exact (xs_g6 ..).symm
    · rw [pk_un (by omega), pk_un (by omega), pk_un (by omega), pk_un (by omega), pk_un (by omega)]; exact H.2 b' hb'
theorem xs_E_ss {ro : Nat → Int32} {A B C pu m b : Int32} {re : Nat → Int32} {j : Nat} (H : xs_E ro A B C pu re) : xs_E (rw_ss ro j m b) A B C pu re :=
  xs_E_c (fun i hi => by unfold rw_ss; rw [pk_un (by omega), pk_un (by omega)]) H
theorem xs_E_dr {ro : Nat → Int32} {A B C pu v : Int32} {re : Nat → Int32} (H : xs_E ro A B C pu re) : xs_E (rw_dr ro v) A B C pu re :=
  xs_E_c (fun i hi => rw_dr_lo (by omega)) H
theorem xs_E_lb {ro : Nat → Int32} {A B C pu : Int32} {re : Nat → Int32} {b : Nat} (hb : b < 14) (H : xs_E ro A B C pu re) : xs_E (rw_lb ro b) A B C (pu + re (b + 1)) re := by
  refine ⟨?_, fun b' hb' => ?_⟩
  · rw [rw_lb_p (i := 56) (by omega) (by omega), rw_lb_p (i := 57) (by omega) (by omega), rw_lb_p (i := 58) (by omega) (by omega), rw_lb_p (i := 59) (by omega) (by omega), H.1, H.2 b hb, show 56 - 56 + 4 * b = 4 * b by omega, show 57 - 56 + 4 * b = 4 * b + 1 by omega, show 58 - 56 + 4 * b = 4 * b + 2 by omega, show 59 - 56 + 4 * b = 4 * b + 3 by omega]
    exact (xs_g5 ..).symm
  · rw [H.2 b' hb', rw_lb_o (by omega), rw_lb_o (by omega), rw_lb_o (by omega), rw_lb_o (by omega)]
end
section
/-! a node of the symbolic walk: what it gathers, what it hands on -/
def xs_RT (sig : Nat → Int32) (f : Nat) (R D A B C : Int32) (rt : Nat → Int32) : Prop :=
  rt (f * 5) = A ∧ rt (f * 5 + 1) = B ∧ rt (f * 5 + 2) = C ∧ rt (f * 5 + 3) = R ∧ rt (f * 5 + 4) = D ∧ ∀ q j, q < 4 → q ≠ f → j < 5 → rt (q * 5 + j) = sig (q * 5 + j)
def xs_fv (fm : Nat → Int32) (A B C : Int32) (i : Nat) : Int32 := fm (i * 4) * A + fm (i * 4 + 1) * B + fm (i * 4 + 2) * C + fm (i * 4 + 3)
def xs_NN (fm : Nat → Int32) (A B C : Int32) (c0 c1 : Nat) : Prop := ∀ i, c0 ≤ i → i < c1 → 0 ≤ xs_fv fm A B C i
theorem xs_fv_cp {fm st : Nat → Int32} {A B C : Int32} {c a : Nat} : xs_fv (ba_cp fm st (c * 4) a 4) A B C c = st a * A + st (a + 1) * B + st (a + 2) * C + st (a + 3) := by
  unfold xs_fv
  rw [ba_cpi (by omega) (by omega), ba_cpi (by omega) (by omega), ba_cpi (by omega) (by omega), ba_cpi (by omega) (by omega), show c * 4 - c * 4 + a = a by omega, show c * 4 + 1 - c * 4 + a = a + 1 by omega, show c * 4 + 2 - c * 4 + a = a + 2 by omega, show c * 4 + 3 - c * 4 + a = a + 3 by omega]
theorem xs_fv_lt {fm fm' : Nat → Int32} {A B C : Int32} {c i : Nat} (h : ∀ x, x < c * 4 → fm' x = fm x) (hi : i < c) : xs_fv fm' A B C i = xs_fv fm A B C i := by
  unfold xs_fv
  rw [h _ (by omega), h _ (by omega), h _ (by omega), h _ (by omega)]
/-- forms appended: the old stay, the new are small, what they say -/
def xs_App (fm fm' : Nat → Int32) (c0 c1 : Nat) (Q : Int32 → Int32 → Int32 → Prop) : Prop :=
  c0 ≤ c1 ∧ (∀ x, x < c0 * 4 → fm' x = fm x) ∧ (∀ x, c0 * 4 ≤ x → x < c1 * 4 → xs_le (fm' x) 5000) ∧ ∀ A B C, xs_NN fm' A B C c0 c1 ↔ Q A B C
theorem xs_App0 {fm : Nat → Int32} {c : Nat} : xs_App fm fm c c (fun _ _ _ => True) :=
  ⟨by omega, fun _ _ => rfl, fun x a b => by omega, fun A B C => ⟨fun _ => trivial, fun _ i a b => by omega⟩⟩
theorem xs_App1 {fm st : Nat → Int32} {c a : Nat} (hb : ∀ i, i < 4 → xs_le (st (a + i)) 5000) : xs_App fm (ba_cp fm st (c * 4) a 4) c (c + 1) (fun A B C => 0 ≤ st a * A + st (a + 1) * B + st (a + 2) * C + st (a + 3)) := by
  refine ⟨by omega, fun x hx => ba_cpo (by omega), fun x h1 h2 => ?_, fun A B C => ?_⟩
  · rw [ba_cpi h1 (by omega), show x - c * 4 + a = a + (x - c * 4) by omega]
    exact hb _ (by omega)
  · show _ ↔ 0 ≤ st a * A + st (a + 1) * B + st (a + 2) * C + st (a + 3)
    rw [← xs_fv_cp (fm := fm) (c := c)]
    refine ⟨fun h => h c (by omega) (by omega), fun h i h1 h2 => ?_⟩
    obtain rfl : i = c := by omega
    exact h
theorem xs_AppT {fm fm1 fm2 : Nat → Int32} {c0 c1 c2 : Nat} {Q1 Q2 : Int32 → Int32 → Int32 → Prop} (h1 : xs_App fm fm1 c0 c1 Q1) (h2 : xs_App fm1 fm2 c1 c2 Q2) : xs_App fm fm2 c0 c2 (fun A B C => Q1 A B C ∧ Q2 A B C) := by
  obtain ⟨a1, a2, a3, a4⟩ := h1
  obtain ⟨b1, b2, b3, b4⟩ := h2
  refine ⟨by omega, fun x hx => (b2 x (by omega)).trans (a2 x hx), fun x x1 x2 => ?_, fun A B C => ?_⟩
  · rcases Nat.lt_or_ge x (c1 * 4) with h | h
    · rw [b2 x h]; exact a3 x x1 h
    · exact b3 x h x2
  · show _ ↔ (Q1 A B C ∧ Q2 A B C)
    rw [← a4, ← b4]
    refine ⟨fun h => ⟨fun i i1 i2 => ?_, fun i i1 i2 => h i (by omega) i2⟩, fun h i i1 i2 => ?_⟩
    · rw [← xs_fv_lt b2 i2]; exact h i i1 (by omega)
    · rcases Nat.lt_or_ge i c1 with h' | h'
      · rw [xs_fv_lt b2 h']; exact h.1 i i1 h'
      · exact h.2 i h' i2
theorem xs_AppQ {fm fm' : Nat → Int32} {c0 c1 : Nat} {Q Q' : Int32 → Int32 → Int32 → Prop} (h : xs_App fm fm' c0 c1 Q) (hq : ∀ A B C, Q A B C ↔ Q' A B C) : xs_App fm fm' c0 c1 Q' :=
  ⟨h.1, h.2.1, h.2.2.1, fun A B C => (h.2.2.2 A B C).trans (hq A B C)⟩
/-- the canonical row of level k -/
def xs_RC (ro : Nat → Int32) (k : Nat) (kn bs : Nat → Nat) : Prop := xs_R ro kn bs k (16 * k + 8) (300 * k + 10) (4 * (k + 2))
/-- a child t of k: reached if and only if g, and its row -/
def xs_Ch (sig : Nat → Int32) (f : Nat) (R D : Int32) (re re' st st' : Nat → Int32) (k t : Nat) (g : Prop) (F : (Nat → Int32) → ty_T → ty_T) (kn bs : Nat → Nat) : Prop :=
  (¬ g → re' t = re t) ∧ (g → re' t = 1 ∧ ∃ kn1 bs1 : Nat → Nat, xs_RC (xs_row st' t) t kn1 bs1 ∧
    ∀ A B C rt pu ree, xs_RT sig f R D A B C rt → xs_E (xs_row st k) A B C pu ree → ∃ pu1 re1, F rt (pu, ree, kn, bs) = (pu1, re1, kn1, bs1) ∧ xs_E (xs_row st' t) A B C pu1 re1)
def xs_W (o p q r en : Nat → Nat) (f k c0 : Nat) (parts : Int32) (sig : Nat → Int32) (R D : Int32) (kn bs : Nat → Nat) (st re fm st' re' fm' : Nat → Int32) (c1 : Nat) : Prop :=
  c1 ≤ c0 + 3 ∧
  (∀ j, k < j → ¬ (o k ≠ 0 ∧ j = k + 1) → ¬ (pt_fk (o k) ∧ j = en (k + 1)) → re' j = re j ∧ ∀ i, i < 68 → xs_row st' j i = xs_row st j i) ∧
  (∃ Q : Int32 → Int32 → Int32 → Prop, xs_App fm fm' c0 c1 Q ∧ ∀ A B C rt pu ree, xs_RT sig f R D A B C rt → xs_E (xs_row st k) A B C pu ree → (Q A B C ↔ ty_pass o p q r f parts rt k (pu, ree, kn, bs))) ∧
  (o k ≠ 0 → xs_Ch sig f R D re re' st st' k (k + 1) (ty_g1 o p k (0, fun _ => 0, kn, bs)) (fun rt t => ty_f1 o p q r parts rt k t) kn bs) ∧
  (pt_fk (o k) → xs_Ch sig f R D re re' st st' k (en (k + 1)) (ty_g2 o p k (0, fun _ => 0, kn, bs)) (fun _ t => ty_f2 o p r parts k t) kn bs)
/-- row j is not touched by a change in row k -/
theorem xs_row_o {st : Nat → Int32} {k j x : Nat} {v : Int32} (hjk : j ≠ k) (hx : x < 68) : ∀ i, i < 68 → xs_row (upd st (k * 68 + x) v) j i = xs_row st j i := by
  intro i hi
  exact pk_un (by omega)
theorem xs_cg_o {st : Nat → Int32} {k j a c b : Nat} {amt : Int32} (hjk : j ≠ k) (hc : c < 4) (hb : b ≤ 14) : ∀ i, i < 68 → xs_row (xs_cg st (k * 68) a c b amt) j i = xs_row st j i := by
  intro i hi
  unfold xs_cg
  split
  · exact xs_row_o hjk (by omega) i hi
  · exact (xs_row_o hjk (by omega) i hi).trans (xs_row_o hjk (by omega) i hi)
theorem xs_ss_o {st : Nat → Int32} {k j a : Nat} {m b : Int32} (hjk : j ≠ k) (ha : a < 4) : ∀ i, i < 68 → xs_row (xs_ss st (k * 68) a m b) j i = xs_row st j i := by
  intro i hi
  exact (xs_row_o hjk (by omega) i hi).trans (xs_row_o hjk (by omega) i hi)
theorem xs_cp_o {st : Nat → Int32} {t j s : Nat} (hjt : j ≠ t) : ∀ i, i < 68 → xs_row (ba_cp st st (t * 68) s 68) j i = xs_row st j i := by
  intro i hi
  exact ba_cpo (by omega)
theorem xs_dr_o {st : Nat → Int32} {k j : Nat} {v : Int32} (hjk : j ≠ k) : ∀ i, i < 68 → xs_row (xs_dr st (k * 68) v 4) j i = xs_row st j i := by
  intro i hi
  exact if_neg (fun z => by omega)
theorem xs_lb_o {st : Nat → Int32} {k j b : Nat} (hjk : j ≠ k) : ∀ i, i < 68 → xs_row (xs_lb st (k * 68) b 4) j i = xs_row st j i := by
  intro i hi
  exact (if_neg (fun z => by omega)).trans (if_neg (fun z => by omega))
section
variable {f_parts f_most f_functions f_openFn f_lacking f_subject f_wantedRest f_wantedLeft f_formCount f_bestA f_bestB f_bestC f_cells f_depth f_entries f_outcome f_freeNow f_lowest : Int32} {a_body a_lengths a_treeEnd a_accepted a_sig a_sizes a_input a_result a_state a_reached a_forms a_heads a_tails a_freed a_ints a_lists a_frameFn a_framePc : Nat → Int32} {f k c0 : Nat} {kn bs en : Nat → Nat}
/-- RET -/
theorem xs_nret {R D : Nat} (hf : f < 4) (hk : k < 12) (hs : f_subject = nI f) (hR : f_wantedRest = nI R) (hR8 : R ≤ 8) (hD : f_wantedLeft = nI D) (hD8 : D ≤ 8) (hc : f_formCount = nI c0) (hc2 : c0 + 3 ≤ 36) (hi : pt_Fi a_body f k) (ho : pt_o a_body f k = 0)
    (hr : xs_RC (xs_row a_state k) k kn bs) :
    ∃ st' fm' c1, xs_W (pt_o a_body f) (pt_p a_body f) (pt_q a_body f) (pt_r a_body f) en f k c0 f_parts a_sig f_wantedRest f_wantedLeft kn bs a_state a_reached a_forms st' a_reached fm' c1 ∧
      ∀ post : SX → Prop, post (f_parts, f_most, f_functions, f_openFn, f_lacking, f_subject, f_wantedRest, f_wantedLeft, nI c1, f_bestA, f_bestB, f_bestC, f_cells, f_depth, f_entries, f_outcome, f_freeNow, f_lowest, a_body, a_lengths, a_treeEnd, a_accepted, a_sig, a_sizes, a_input, a_result, st', a_reached, fm', a_heads, a_tails, a_freed, a_ints, a_lists, a_frameFn, a_framePc) → wpX_walkRet post (f_parts, f_most, f_functions, f_openFn, f_lacking, f_subject, f_wantedRest, f_wantedLeft, f_formCount, f_bestA, f_bestB, f_bestC, f_cells, f_depth, f_entries, f_outcome, f_freeNow, f_lowest, a_body, a_lengths, a_treeEnd, a_accepted, a_sig, a_sizes, a_input, a_result, a_state, a_reached, a_forms, a_heads, a_tails, a_freed, a_ints, a_lists, a_frameFn, a_framePc) (nI k) := by
  obtain ⟨b0, b1, b2, b3, _⟩ := hi
  subst hs hc hR hD
  obtain ⟨s1, s2, s3, s4⟩ := hr.1 (pt_p a_body f k) (by omega)
  have hk68 : k * 68 + 68 ≤ 816 := by omega
  have hfi : ((nI f * 12 + nI k) * 4 + 1) = nI ((f * 12 + k) * 4 + 1) := by rw [ba_at, nI_1]
  -- the row when charged
  have r1 := xs_R_cg (j := pt_p a_body f k) (c := 3) (w := R) (by omega) (by omega) (by omega) hR8 (Nat.le_refl _) (by omega) (by omega) hr
  have e1 : xs_row (xs_cg a_state (k * 68) (pt_p a_body f k) 3 (bs (pt_p a_body f k)) (nI R)) k = rw_cg (xs_row a_state k) (pt_p a_body f k) 3 (bs (pt_p a_body f k)) (nI R) := xs_row_cg
  generalize hst1 : xs_cg a_state (k * 68) (pt_p a_body f k) 3 (bs (pt_p a_body f k)) (nI R) = st1 at e1
  have r2 := xs_R_pu (c := 3) (d := 8) (v := xs_row st1 k 59 - nI D) (by omega) (by rw [e1]; exact xs_le_s (r1.2.2.1 3 (by omega)) (xs_le_n hD8 (by omega)) (by omega) (by omega)) r1
  have e2 : xs_row (upd st1 (k * 68 + 59) (st1 (k * 68 + 59) - nI D)) k = upd (rw_cg (xs_row a_state k) (pt_p a_body f k) 3 (bs (pt_p a_body f k)) (nI R)) (56 + 3) (xs_row st1 k 59 - nI D) := by
    rw [xs_row_u, ← e1]; rfl
  generalize hst2 : upd st1 (k * 68 + 59) (st1 (k * 68 + 59) - nI D) = st2 at e2
  rw [← e2] at r2
  have b14 : bs (pt_p a_body f k) ≤ 14 := by omega
  have eb : st2 (k * 68 + (64 + pt_p a_body f k)) = nI (bs (pt_p a_body f k)) - 1 := (r2.1 _ (by omega)).2.1
  have A1 := xs_App1 (fm := a_forms) (st := st2) (c := c0) (a := k * 68 + 56) (fun i hi => xs_le_m (by rw [show k * 68 + 56 + i = k * 68 + (56 + i) by omega]; exact r2.2.2.1 i hi) (by omega))
  have A2 : bs (pt_p a_body f k) ≠ 0 → _ := fun hb => xs_App1 (fm := ba_cp a_forms st2 (c0 * 4) (k * 68 + 56) 4) (st := st2) (c := c0 + 1) (a := k * 68 + 4 * (bs (pt_p a_body f k) - 1)) (fun i hi => xs_le_m (by rw [show k * 68 + 4 * (bs (pt_p a_body f k) - 1) + i = k * 68 + (4 * (bs (pt_p a_body f k) - 1) + i) by omega]; exact r2.2.1 _ (by omega)) (by omega))
  have hother : ∀ j, k < j → ∀ i, i < 68 → xs_row st2 j i = xs_row a_state j i := by
    intro j hj i hi
    rw [← hst2, xs_row_o (by omega) (by omega) i hi, ← hst1]
    exact xs_cg_o (by omega) (by omega) b14 i hi
  have hE : ∀ A B C rt pu ree, xs_RT a_sig f (nI R) (nI D) A B C rt → xs_E (xs_row a_state k) A B C pu ree → xs_E (xs_row st2 k) A B C (pu - nI (kn (pt_p a_body f k)) * rt (f * 5 + 3) - rt (f * 5 + 4)) (ty_cr ree (bs (pt_p a_body f k)) (rt (f * 5 + 3))) := by
    intro A B C rt pu ree hrt hE
    obtain ⟨_, _, _, t3, t4, _⟩ := hrt
    have x1 := xs_E_cg (j := pt_p a_body f k) (c := 3) (amt := nI R) (e := rt (f * 5 + 3)) (by omega) b14 s1 (by rw [t3]; exact (Int32.mul_one _).symm) hE
    rw [← e1] at x1
    have x2 := xs_E_pu (c := 3) (m := nI D) (by omega) x1
    rw [show xs_cv A B C 3 = 1 from rfl, Int32.mul_one] at x2
    rw [e2, t4, ← e1]
    exact x2
  have hstart : ∀ post : SX → Prop, (bs (pt_p a_body f k) = 0 → post (f_parts, f_most, f_functions, f_openFn, f_lacking, nI f, nI R, nI D, nI (c0 + 1), f_bestA, f_bestB, f_bestC, f_cells, f_depth, f_entries, f_outcome, f_freeNow, f_lowest, a_body, a_lengths, a_treeEnd, a_accepted, a_sig, a_sizes, a_input, a_result, st2, a_reached, ba_cp a_forms st2 (c0 * 4) (k * 68 + 56) 4, a_heads, a_tails, a_freed, a_ints, a_lists, a_frameFn, a_framePc)) →
      (bs (pt_p a_body f k) ≠ 0 → post (f_parts, f_most, f_functions, f_openFn, f_lacking, nI f, nI R, nI D, nI (c0 + 1 + 1), f_bestA, f_bestB, f_bestC, f_cells, f_depth, f_entries, f_outcome, f_freeNow, f_lowest, a_body, a_lengths, a_treeEnd, a_accepted, a_sig, a_sizes, a_input, a_result, st2, a_reached, ba_cp (ba_cp a_forms st2 (c0 * 4) (k * 68 + 56) 4) st2 ((c0 + 1) * 4) (k * 68 + 4 * (bs (pt_p a_body f k) - 1)) 4, a_heads, a_tails, a_freed, a_ints, a_lists, a_frameFn, a_framePc)) → wpX_walkRet post (f_parts, f_most, f_functions, f_openFn, f_lacking, nI f, nI R, nI D, nI c0, f_bestA, f_bestB, f_bestC, f_cells, f_depth, f_entries, f_outcome, f_freeNow, f_lowest, a_body, a_lengths, a_treeEnd, a_accepted, a_sig, a_sizes, a_input, a_result, a_state, a_reached, a_forms, a_heads, a_tails, a_freed, a_ints, a_lists, a_frameFn, a_framePc) (nI k) := by
    intro post H0 H1
    refine nm_r (ba_m68 k) ⟨by rw [hfi]; exact vp_in_nI (by omega) (by omega), nm_r (e' := nI (pt_p a_body f k)) (by rw [hfi, nI_clamp (by omega), b2]) ?_⟩
    refine xs_chg (c := 3) hk68 (by omega) (by omega) b14 s2 ?_
    rw [hst1]
    have v59 : vp_in (nI (k * 68) + 59) 816 := by rw [ba_59]; exact vp_in_nI (by omega) (by omega)
    refine And.intro v59 (And.intro v59 (nm_r (e' := st2) ?_ ?_))
    · rw [ba_59, nI_clamp (by omega), ← hst2]
    · rw [ba_56]
      exact xs_req rfl (by omega) (by omega) (xs_rr hk68 (by omega) b14 eb rfl (by omega) H0 H1)
  by_cases hb : bs (pt_p a_body f k) = 0
  · refine ⟨st2, _, c0 + 1, ⟨by omega, fun j hj _ _ => ⟨rfl, hother j hj⟩, ⟨_, A1, fun A B C rt pu ree hrt hEE => ?_⟩, fun h => absurd ho h, fun h => by unfold pt_fk at h; omega⟩, fun post hp => hstart post (fun _ => hp) (fun h => absurd hb h)⟩
    have hx := hE A B C rt pu ree hrt hEE
    have hx1 := hx.1
    unfold xs_row at hx1
    rw [show k * 68 + 56 + 1 = k * 68 + 57 by omega, show k * 68 + 56 + 2 = k * 68 + 58 by omega, show k * 68 + 56 + 3 = k * 68 + 59 by omega, ← hx1]
    exact ⟨fun h => ⟨fun _ => ⟨h, fun hz => absurd hb hz⟩, fun e => by omega, fun e => by omega⟩, fun h => (h.1 ho).1⟩
  · refine ⟨st2, _, c0 + 1 + 1, ⟨by omega, fun j hj _ _ => ⟨rfl, hother j hj⟩, ⟨_, xs_AppT A1 (A2 hb), fun A B C rt pu ree hrt hEE => ?_⟩, fun h => absurd ho h, fun h => by unfold pt_fk at h; omega⟩, fun post hp => hstart post (fun h => absurd h hb) (fun _ => hp)⟩
    have hx := hE A B C rt pu ree hrt hEE
    have hx1 := hx.1
    have hx2 := hx.2 (bs (pt_p a_body f k) - 1) (by omega)
    unfold xs_row at hx1 hx2
    rw [show k * 68 + 56 + 1 = k * 68 + 57 by omega, show k * 68 + 56 + 2 = k * 68 + 58 by omega, show k * 68 + 56 + 3 = k * 68 + 59 by omega, ← hx1]
    rw [show bs (pt_p a_body f k) - 1 + 1 = bs (pt_p a_body f k) by omega] at hx2
    rw [show k * 68 + 4 * (bs (pt_p a_body f k) - 1) = k * 68 + (4 * (bs (pt_p a_body f k) - 1)) from rfl]
    simp only [Nat.add_assoc] at hx2 ⊢
    rw [← hx2]
    exact ⟨fun h => ⟨fun _ => ⟨h.1, fun _ => h.2⟩, fun e => by omega, fun e => by omega⟩, fun h => ⟨(h.1 ho).1, (h.1 ho).2 hb⟩⟩
end
end
section
/-! nodes: CONS, ADD, LESS -/
theorem xs_row_e {st st' : Nat → Int32} {k : Nat} (h : ∀ i, i < 68 → xs_row st' k i = xs_row st k i) {A B C pu : Int32} {ree : Nat → Int32} (H : xs_E (xs_row st k) A B C pu ree) : xs_E (xs_row st' k) A B C pu ree := xs_E_c (fun i hi => h i (by omega)) H
theorem xs_RC_up {ro : Nat → Int32} {k t : Nat} {kn bs : Nat → Nat} (h : k ≤ t) (H : xs_RC ro k kn bs) : xs_RC ro t kn bs := xs_R_m h (by omega) (by omega) (by omega) H
theorem xs_NQ {fm : Nat → Int32} {c : Nat} {o p q r : Nat → Nat} {f k : Nat} {parts : Int32} {sig : Nat → Int32} {R D : Int32} {kn bs : Nat → Nat} {st : Nat → Int32} (h : 3 ≤ o k) : ∃ Q : Int32 → Int32 → Int32 → Prop, xs_App fm fm c c Q ∧ ∀ A B C rt pu ree, xs_RT sig f R D A B C rt → xs_E (xs_row st k) A B C pu ree → (Q A B C ↔ ty_pass o p q r f parts rt k (pu, ree, kn, bs)) :=
  ⟨_, xs_App0, fun _ _ _ _ _ _ _ _ => ⟨fun _ => ty_pass_f h, fun _ => trivial⟩⟩
section
variable {f_parts f_most f_functions f_openFn f_lacking f_subject f_wantedRest f_wantedLeft f_formCount f_bestA f_bestB f_bestC f_cells f_depth f_entries f_outcome f_freeNow f_lowest : Int32} {a_body a_lengths a_treeEnd a_accepted a_sig a_sizes a_input a_result a_state a_reached a_forms a_heads a_tails a_freed a_ints a_lists a_frameFn a_framePc : Nat → Int32} {f k c0 : Nat} {kn bs en : Nat → Nat}
/-- ADD -/
theorem xs_nadd (hk : k + 1 < 12) (hc : f_formCount = nI c0) (ho : pt_o a_body f k = 6)
    (hr : xs_RC (xs_row a_state k) k kn bs) :
    ∃ st' re' fm' c1, xs_W (pt_o a_body f) (pt_p a_body f) (pt_q a_body f) (pt_r a_body f) en f k c0 f_parts a_sig f_wantedRest f_wantedLeft kn bs a_state a_reached a_forms st' re' fm' c1 ∧
      ∀ post : SX → Prop, post (f_parts, f_most, f_functions, f_openFn, f_lacking, f_subject, f_wantedRest, f_wantedLeft, nI c1, f_bestA, f_bestB, f_bestC, f_cells, f_depth, f_entries, f_outcome, f_freeNow, f_lowest, a_body, a_lengths, a_treeEnd, a_accepted, a_sig, a_sizes, a_input, a_result, st', re', fm', a_heads, a_tails, a_freed, a_ints, a_lists, a_frameFn, a_framePc) → wpX_forward post (f_parts, f_most, f_functions, f_openFn, f_lacking, f_subject, f_wantedRest, f_wantedLeft, f_formCount, f_bestA, f_bestB, f_bestC, f_cells, f_depth, f_entries, f_outcome, f_freeNow, f_lowest, a_body, a_lengths, a_treeEnd, a_accepted, a_sig, a_sizes, a_input, a_result, a_state, a_reached, a_forms, a_heads, a_tails, a_freed, a_ints, a_lists, a_frameFn, a_framePc) (nI k) (nI k + 1) := by
  subst hc
  refine ⟨ba_cp a_state a_state ((k + 1) * 68) (k * 68) 68, upd a_reached (k + 1) 1, a_forms, c0, ⟨by omega, fun j hj h1 h2 => ⟨pk_un (fun e => h1 ⟨by omega, e⟩), xs_cp_o (fun e => h1 ⟨by omega, e⟩)⟩, xs_NQ (by omega), fun _ => ⟨fun hg => absurd (fun e => by unfold ty_mt at e; omega) hg, fun _ => ⟨pk_us, kn, bs, xs_RC_up (by omega) (xs_R_c xs_row_cp hr), fun A B C rt pu ree hrt hE => ⟨pu, ree, ?_, xs_E_c (fun i hi => xs_row_cp i (by omega)) hE⟩⟩⟩, fun h => by unfold pt_fk at h; omega⟩, fun post hp => ?_⟩
  · exact (if_neg (by omega)).trans ((if_neg (by omega)).trans (if_neg (by omega)))
  · rw [nI_1]
    exact xs_fwd (by omega) hk (by omega) hp
/-- LESS -/
theorem xs_nless (hf : f < 4) (hk : k + 1 < 12) (hs : f_subject = nI f) (hc : f_formCount = nI c0) (ho : pt_o a_body f k = 5) (ht : en (k + 1) < 12) (hkt : k + 1 < en (k + 1)) (hte : a_treeEnd (f * 12 + (k + 1)) = nI (en (k + 1)))
    (hr : xs_RC (xs_row a_state k) k kn bs) :
    ∃ st' re' fm' c1, xs_W (pt_o a_body f) (pt_p a_body f) (pt_q a_body f) (pt_r a_body f) en f k c0 f_parts a_sig f_wantedRest f_wantedLeft kn bs a_state a_reached a_forms st' re' fm' c1 ∧
      ∀ post : SX → Prop, post (f_parts, f_most, f_functions, f_openFn, f_lacking, f_subject, f_wantedRest, f_wantedLeft, nI c1, f_bestA, f_bestB, f_bestC, f_cells, f_depth, f_entries, f_outcome, f_freeNow, f_lowest, a_body, a_lengths, a_treeEnd, a_accepted, a_sig, a_sizes, a_input, a_result, st', re', fm', a_heads, a_tails, a_freed, a_ints, a_lists, a_frameFn, a_framePc) → ∀ Q : SX → Prop, (∀ a_state a_reached, (vp_in (((nI f * 12) + nI k) + 1) 48 ∧ wpX_forward post (f_parts, f_most, f_functions, f_openFn, f_lacking, f_subject, f_wantedRest, f_wantedLeft, f_formCount, f_bestA, f_bestB, f_bestC, f_cells, f_depth, f_entries, f_outcome, f_freeNow, f_lowest, a_body, a_lengths, a_treeEnd, a_accepted, a_sig, a_sizes, a_input, a_result, a_state, a_reached, a_forms, a_heads, a_tails, a_freed, a_ints, a_lists, a_frameFn, a_framePc) (nI k) (a_treeEnd (((nI f * 12) + nI k) + 1).toNatClampNeg)) → Q (f_parts, f_most, f_functions, f_openFn, f_lacking, f_subject, f_wantedRest, f_wantedLeft, f_formCount, f_bestA, f_bestB, f_bestC, f_cells, f_depth, f_entries, f_outcome, f_freeNow, f_lowest, a_body, a_lengths, a_treeEnd, a_accepted, a_sig, a_sizes, a_input, a_result, a_state, a_reached, a_forms, a_heads, a_tails, a_freed, a_ints, a_lists, a_frameFn, a_framePc)) → wpX_forward Q (f_parts, f_most, f_functions, f_openFn, f_lacking, f_subject, f_wantedRest, f_wantedLeft, f_formCount, f_bestA, f_bestB, f_bestC, f_cells, f_depth, f_entries, f_outcome, f_freeNow, f_lowest, a_body, a_lengths, a_treeEnd, a_accepted, a_sig, a_sizes, a_input, a_result, a_state, a_reached, a_forms, a_heads, a_tails, a_freed, a_ints, a_lists, a_frameFn, a_framePc) (nI k) (nI k + 1) := by
  subst hc
  have hk1 := hk
  refine ⟨ba_cp (ba_cp a_state a_state ((k + 1) * 68) (k * 68) 68) (ba_cp a_state a_state ((k + 1) * 68) (k * 68) 68) (en (k + 1) * 68) (k * 68) 68, upd (upd a_reached (k + 1) 1) (en (k + 1)) 1, a_forms, c0, ⟨by omega, fun j hj h1 h2 => ⟨?_, fun i hi => ?_⟩, xs_NQ (by omega), fun _ => ⟨fun hg => absurd (fun e => by unfold ty_mt at e; omega) hg, fun _ => ⟨?_, kn, bs, ?_, fun A B C rt pu ree hrt hE => ⟨pu, ree, ?_, ?_⟩⟩⟩, fun _ => ⟨fun hg => absurd (fun e => by unfold ty_mt at e; omega) hg, fun _ => ⟨pk_us, kn, bs, ?_, fun A B C rt pu ree hrt hE => ⟨pu, ree, ?_, ?_⟩⟩⟩⟩, fun post hp Q hQ => ?_⟩
  · rw [pk_un (fun e => h2 ⟨by unfold pt_fk; omega, e⟩), pk_un (fun e => h1 ⟨by omega, e⟩)]
  · rw [xs_cp_o (fun e => h2 ⟨by unfold pt_fk; omega, e⟩) i hi, xs_cp_o (fun e => h1 ⟨by omega, e⟩) i hi]
  · rw [pk_un (by omega), pk_us]
  · refine xs_RC_up (k := k) (by omega) (xs_R_c (fun i hi => ?_) hr)
    rw [xs_cp_o (by omega) i hi, xs_row_cp i hi]
  · exact (if_neg (by omega)).trans ((if_neg (by omega)).trans (if_neg (by omega)))
  · refine xs_E_c (fun i hi => ?_) hE
    rw [xs_cp_o (by omega) i (by omega), xs_row_cp i (by omega)]
  · refine xs_RC_up (k := k) (by omega) (xs_R_c (fun i hi => ?_) hr)
    rw [xs_row_cp i hi, xs_cp_o (by omega) i hi]
  · exact if_neg (by omega)
  · refine xs_E_c (fun i hi => ?_) hE
    rw [xs_row_cp i (by omega), xs_cp_o (by omega) i (by omega)]
  · have e1 : nI f * 12 + nI k + 1 = nI (f * 12 + (k + 1)) := by rw [ba_m12, nI_add, nI_1, Nat.add_assoc]
    rw [nI_1]
    refine xs_fwd (by omega) hk (by omega) (hQ _ _ ⟨by rw [e1]; exact vp_in_nI (by omega) (by omega), ?_⟩)
    rw [e1, nI_clamp (by omega), hte]
    exact xs_fwd (by omega) ht (by omega) hp
/-- CONS -/
theorem xs_ncons {P : Nat} (hf : f < 4) (hk : k + 1 < 12) (hs : f_subject = nI f) (hP : f_parts = nI P) (hP4 : P ≤ 4) (hc : f_formCount = nI c0) (hc2 : c0 + 3 ≤ 36) (hi : pt_Fi a_body f k) (ho : pt_o a_body f k = 1)
    (hr : xs_RC (xs_row a_state k) k kn bs) :
    ∃ st' re' fm' c1, xs_W (pt_o a_body f) (pt_p a_body f) (pt_q a_body f) (pt_r a_body f) en f k c0 f_parts a_sig f_wantedRest f_wantedLeft kn bs a_state a_reached a_forms st' re' fm' c1 ∧
      ∀ post : SX → Prop, post (f_parts, f_most, f_functions, f_openFn, f_lacking, f_subject, f_wantedRest, f_wantedLeft, nI c1, f_bestA, f_bestB, f_bestC, f_cells, f_depth, f_entries, f_outcome, f_freeNow, f_lowest, a_body, a_lengths, a_treeEnd, a_accepted, a_sig, a_sizes, a_input, a_result, st', re', fm', a_heads, a_tails, a_freed, a_ints, a_lists, a_frameFn, a_framePc) → wpX_walkCons post (f_parts, f_most, f_functions, f_openFn, f_lacking, f_subject, f_wantedRest, f_wantedLeft, f_formCount, f_bestA, f_bestB, f_bestC, f_cells, f_depth, f_entries, f_outcome, f_freeNow, f_lowest, a_body, a_lengths, a_treeEnd, a_accepted, a_sig, a_sizes, a_input, a_result, a_state, a_reached, a_forms, a_heads, a_tails, a_freed, a_ints, a_lists, a_frameFn, a_framePc) (nI k) := by
  obtain ⟨b0, b1, b2, b3, b4, b5, b6, b7⟩ := hi
  obtain ⟨b8, b9, b10⟩ := b7 (by omega)
  have hr3 := b10 (by omega)
  subst hs hc hP
  obtain ⟨s1, s2, s3, s4⟩ := hr.1 (pt_r a_body f k) (by omega)
  have r1 := xs_R_pu (c := 3) (d := 4) (v := xs_row a_state k 59 - nI P) (by omega) (xs_le_s (hr.2.2.1 3 (by omega)) (xs_le_n hP4 (by omega)) (by omega) (by omega)) hr
  have e1 : xs_row (upd a_state (k * 68 + 59) (a_state (k * 68 + 59) - nI P)) k = upd (xs_row a_state k) (56 + 3) (xs_row a_state k 59 - nI P) := xs_row_u
  generalize hst1 : upd a_state (k * 68 + 59) (a_state (k * 68 + 59) - nI P) = st1 at e1
  rw [← e1] at r1
  have r2 := xs_R_ss (j := pt_p a_body f k) (k' := k + 1) (m := kn (pt_r a_body f k) + 1) (b := bs (pt_r a_body f k)) (by omega) (by omega) (by omega) (by omega) r1
  have e2 : xs_row (xs_ss st1 (k * 68) (pt_p a_body f k) (nI (kn (pt_r a_body f k) + 1)) (nI (bs (pt_r a_body f k)) - 1)) k = rw_ss (xs_row st1 k) (pt_p a_body f k) (nI (kn (pt_r a_body f k) + 1)) (nI (bs (pt_r a_body f k)) - 1) := xs_row_ss
  have o2 : ∀ j, k < j → ∀ i, i < 68 → xs_row (xs_ss st1 (k * 68) (pt_p a_body f k) (nI (kn (pt_r a_body f k) + 1)) (nI (bs (pt_r a_body f k)) - 1)) j i = xs_row a_state j i := by
    intro j hj i hi
    rw [xs_ss_o (by omega) (by omega) i hi, ← hst1]
    exact xs_row_o (by omega) (by omega) i hi
  generalize hst2 : xs_ss st1 (k * 68) (pt_p a_body f k) (nI (kn (pt_r a_body f k) + 1)) (nI (bs (pt_r a_body f k)) - 1) = st2 at e2 o2
  rw [← e2] at r2
  have A1 := xs_App1 (fm := a_forms) (st := st1) (c := c0) (a := k * 68 + 56) (fun i hi => xs_le_m (by rw [show k * 68 + 56 + i = k * 68 + (56 + i) by omega]; exact r1.2.2.1 i hi) (by omega))
  have hE : ∀ A B C pu ree, xs_E (xs_row a_state k) A B C pu ree → xs_E (xs_row st1 k) A B C (pu - nI P) ree := by
    intro A B C pu ree hE
    have x1 := xs_E_pu (c := 3) (m := nI P) (by omega) hE
    rw [show xs_cv A B C 3 = 1 from rfl, Int32.mul_one] at x1
    rw [e1]; exact x1
  refine ⟨ba_cp st2 st2 ((k + 1) * 68) (k * 68) 68, upd a_reached (k + 1) 1, _, c0 + 1, ⟨by omega, fun j hj h1 h2 => ⟨pk_un (fun e => h1 ⟨by omega, e⟩), fun i hi => ?_⟩, ⟨_, A1, fun A B C rt pu ree hrt hEE => ?_⟩, fun _ => ⟨fun hg => absurd (fun e => by unfold ty_mt at e; omega) hg, fun _ => ⟨pk_us, _, _, xs_R_c xs_row_cp (xs_R_m (by omega) (by omega) (by omega) (by omega) r2), fun A B C rt pu ree hrt hEE => ⟨pu - nI P, ree, if_pos ho, xs_E_c (fun i hi => xs_row_cp i (by omega)) (by rw [e2]; exact xs_E_ss (hE A B C pu ree hEE))⟩⟩⟩, fun h => by unfold pt_fk at h; omega⟩, fun post hp => ?_⟩
  · rw [xs_cp_o (fun e => h1 ⟨by omega, e⟩) i hi]
    exact o2 j hj i hi
  · have hx1 := (hE A B C pu ree hEE).1
    unfold xs_row at hx1
    rw [show k * 68 + 56 + 1 = k * 68 + 57 by omega, show k * 68 + 56 + 2 = k * 68 + 58 by omega, show k * 68 + 56 + 3 = k * 68 + 59 by omega, ← hx1]
    exact ⟨fun h => ⟨fun e => by omega, fun _ => h, fun e => by omega⟩, fun h => h.2.1 ho⟩
  · have v59 : vp_in (nI (k * 68) + 59) 816 := by rw [ba_59]; exact vp_in_nI (by omega) (by omega)
    refine nm_r (ba_m68 k) (nm_r (ba_at f k) ⟨by rw [ba_3]; exact vp_in_nI (by omega) (by omega), nm_r (e' := nI (pt_r a_body f k)) (by rw [ba_3, nI_clamp (by omega), b8]) ⟨v59, v59, nm_r (e' := st1) (by rw [ba_59, nI_clamp (by omega), hst1]) ?_⟩⟩)
    rw [ba_56]
    refine xs_req rfl (by omega) (by omega) ?_
    have e60 : nI (k * 68) + 60 + nI (pt_r a_body f k) = nI (k * 68 + (60 + pt_r a_body f k)) := by rw [ba_60, nI_add, Nat.add_assoc]
    have e64 : nI (k * 68) + 64 + nI (pt_r a_body f k) = nI (k * 68 + (64 + pt_r a_body f k)) := by rw [ba_64, nI_add, Nat.add_assoc]
    obtain ⟨t1, t2, _⟩ := r1.1 (pt_r a_body f k) (by omega)
    unfold xs_row at t1 t2
    refine And.intro (by rw [nI_1]; exact vp_in_nI (by omega) (by omega)) (And.intro (by rw [e60]; exact vp_in_nI (by omega) (by omega)) (And.intro (by rw [e64]; exact vp_in_nI (by omega) (by omega)) ?_))
    dsimp only
    rw [show a_body (nI ((f * 12 + k) * 4) + 1).toNatClampNeg = nI (pt_p a_body f k) by rw [nI_1, nI_clamp (by omega), b2], show st1 (nI (k * 68) + 60 + nI (pt_r a_body f k)).toNatClampNeg + 1 = nI (kn (pt_r a_body f k) + 1) by rw [e60, nI_clamp (by omega), t1, nI_1], show st1 (nI (k * 68) + 64 + nI (pt_r a_body f k)).toNatClampNeg = nI (bs (pt_r a_body f k)) - 1 by rw [e64, nI_clamp (by omega), t2]]
    refine xs_set (by omega) (by omega) ?_
    dsimp only
    rw [hst2, nI_1 k]
    exact xs_fwd (by omega) hk (by omega) hp
end
end
section
/-! nodes: CALL -/
def rr_f (fm st : Nat → Int32) (c s b : Nat) : Nat → Int32 := if b = 0 then fm else ba_cp fm st (c * 4) (s + 4 * (b - 1)) 4
def rr_c (c b : Nat) : Nat := if b = 0 then c else c + 1
theorem rr_c_le {c b : Nat} : c ≤ rr_c c b ∧ rr_c c b ≤ c + 1 := by
  unfold rr_c
  split <;> omega
theorem xs_AppR {fm st : Nat → Int32} {c s b : Nat} (hb : b ≠ 0 → ∀ i, i < 4 → xs_le (st (s + 4 * (b - 1) + i)) 5000) : xs_App fm (rr_f fm st c s b) c (rr_c c b) (fun A B C => b ≠ 0 → 0 ≤ st (s + 4 * (b - 1)) * A + st (s + 4 * (b - 1) + 1) * B + st (s + 4 * (b - 1) + 2) * C + st (s + 4 * (b - 1) + 3)) := by
  unfold rr_f rr_c
  by_cases h : b = 0
  · rw [if_pos h, if_pos h]
    exact xs_AppQ xs_App0 (fun A B C => ⟨fun _ z => absurd h z, fun _ => trivial⟩)
  · rw [if_neg h, if_neg h]
    exact xs_AppQ (xs_App1 (hb h)) (fun A B C => ⟨fun z _ => z, fun z => z h⟩)
section
variable {f_parts f_most f_functions f_openFn f_lacking f_subject f_wantedRest f_wantedLeft f_formCount f_bestA f_bestB f_bestC f_cells f_depth f_entries f_outcome f_freeNow f_lowest : Int32} {a_body a_lengths a_treeEnd a_accepted a_sig a_sizes a_input a_result a_state a_reached a_forms a_heads a_tails a_freed a_ints a_lists a_frameFn a_framePc : Nat → Int32} {post : SX → Prop} {s j : Nat}
theorem xs_rr2 {c0 b : Nat} (hs : s + 68 ≤ 816) (hj : j < 4) (hb : b ≤ 14) (eb : a_state (s + (64 + j)) = nI b - 1) (hc : f_formCount = nI c0) (hc2 : c0 < 36)
    (h : post (f_parts, f_most, f_functions, f_openFn, f_lacking, f_subject, f_wantedRest, f_wantedLeft, nI (rr_c c0 b), f_bestA, f_bestB, f_bestC, f_cells, f_depth, f_entries, f_outcome, f_freeNow, f_lowest, a_body, a_lengths, a_treeEnd, a_accepted, a_sig, a_sizes, a_input, a_result, a_state, a_reached, rr_f a_forms a_state c0 s b, a_heads, a_tails, a_freed, a_ints, a_lists, a_frameFn, a_framePc)) : wpX_requireRest post (f_parts, f_most, f_functions, f_openFn, f_lacking, f_subject, f_wantedRest, f_wantedLeft, f_formCount, f_bestA, f_bestB, f_bestC, f_cells, f_depth, f_entries, f_outcome, f_freeNow, f_lowest, a_body, a_lengths, a_treeEnd, a_accepted, a_sig, a_sizes, a_input, a_result, a_state, a_reached, a_forms, a_heads, a_tails, a_freed, a_ints, a_lists, a_frameFn, a_framePc) (nI s) (nI j) := by
  unfold rr_f rr_c at h
  refine xs_rr hs hj hb eb hc hc2 (fun hz => ?_) (fun hz => ?_)
  · rw [if_pos hz, if_pos hz, ← hc] at h; exact h
  · rw [if_neg hz, if_neg hz] at h; exact h
end
/-- the call's rates: of another function, or of the function itself -/
def cs_S (x7 : Int32) (sig : Nat → Int32) (R D : Int32) (q cA wA cB wB cC wC wR wD : Nat) : Prop :=
  (x7 = 0 ∧ cA = 3 ∧ cB = 3 ∧ cC = 3 ∧ sig (q * 5) = nI wA ∧ sig (q * 5 + 1) = nI wB ∧ sig (q * 5 + 2) = nI wC ∧ sig (q * 5 + 3) = nI wR ∧ sig (q * 5 + 4) = nI wD) ∨
  (x7 = 1 ∧ cA = 0 ∧ cB = 1 ∧ cC = 2 ∧ wA = 1 ∧ wB = 1 ∧ wC = 1 ∧ R = nI wR ∧ D = nI wD)
section
variable {f_parts f_most f_functions f_openFn f_lacking f_subject f_wantedRest f_wantedLeft f_formCount f_bestA f_bestB f_bestC f_cells f_depth f_entries f_outcome f_freeNow f_lowest : Int32} {a_body a_lengths a_treeEnd a_accepted a_sig a_sizes a_input a_result a_state a_reached a_forms a_heads a_tails a_freed a_ints a_lists a_frameFn a_framePc : Nat → Int32} {post : SX → Prop} {x1 x2 x3 x4 x5 x7 : Int32} {q cA wA cB wB cC wC wR wD : Nat}
theorem cs_75 (hq : q < 4) (hS : cs_S x7 a_sig f_wantedRest f_wantedLeft q cA wA cB wB cC wC wR wD) (h : wX_walkCall_107 post x1 x2 x3 x4 x5 (nI (q * 5)) x7 (nI wA) (nI cA) x4 x2 f_parts f_most f_functions f_openFn f_lacking f_subject f_wantedRest f_wantedLeft f_formCount f_bestA f_bestB f_bestC f_cells f_depth f_entries f_outcome f_freeNow f_lowest a_body a_lengths a_treeEnd a_accepted a_sig a_sizes a_input a_result a_state a_reached a_forms a_heads a_tails a_freed a_ints a_lists a_frameFn a_framePc) : wX_walkCall_75 post x1 x2 x3 x4 x5 (nI (q * 5)) x7 f_parts f_most f_functions f_openFn f_lacking f_subject f_wantedRest f_wantedLeft f_formCount f_bestA f_bestB f_bestC f_cells f_depth f_entries f_outcome f_freeNow f_lowest a_body a_lengths a_treeEnd a_accepted a_sig a_sizes a_input a_result a_state a_reached a_forms a_heads a_tails a_freed a_ints a_lists a_frameFn a_framePc := by
  rcases hS with ⟨rfl, rfl, rfl, rfl, s0, s1, s2, s3, s4⟩ | ⟨rfl, rfl, rfl, rfl, rfl, rfl, rfl, s3, s4⟩
  · exact br_t rfl (br_t rfl (And.intro (vp_in_nI (by omega) (by omega)) (by rw [nI_clamp (by omega), s0]; exact h)))
  · exact br_f (by decide) (br_f (by decide) h)
theorem cs_124 (hq : q < 4) (hS : cs_S x7 a_sig f_wantedRest f_wantedLeft q cA wA cB wB cC wC wR wD) (h : wX_walkCall_142 post x1 x2 x3 x4 x5 (nI (q * 5)) x7 (nI wB) (nI cB) x5 x2 f_parts f_most f_functions f_openFn f_lacking f_subject f_wantedRest f_wantedLeft f_formCount f_bestA f_bestB f_bestC f_cells f_depth f_entries f_outcome f_freeNow f_lowest a_body a_lengths a_treeEnd a_accepted a_sig a_sizes a_input a_result a_state a_reached a_forms a_heads a_tails a_freed a_ints a_lists a_frameFn a_framePc) :
    (x7 = 0 → wX_walkCall_124 post x1 x2 x3 x4 x5 (nI (q * 5)) x7 3 x5 x2 f_parts f_most f_functions f_openFn f_lacking f_subject f_wantedRest f_wantedLeft f_formCount f_bestA f_bestB f_bestC f_cells f_depth f_entries f_outcome f_freeNow f_lowest a_body a_lengths a_treeEnd a_accepted a_sig a_sizes a_input a_result a_state a_reached a_forms a_heads a_tails a_freed a_ints a_lists a_frameFn a_framePc) ∧ (¬ x7 = 0 → wX_walkCall_124 post x1 x2 x3 x4 x5 (nI (q * 5)) x7 1 x5 x2 f_parts f_most f_functions f_openFn f_lacking f_subject f_wantedRest f_wantedLeft f_formCount f_bestA f_bestB f_bestC f_cells f_depth f_entries f_outcome f_freeNow f_lowest a_body a_lengths a_treeEnd a_accepted a_sig a_sizes a_input a_result a_state a_reached a_forms a_heads a_tails a_freed a_ints a_lists a_frameFn a_framePc) := by
  rcases hS with ⟨rfl, rfl, rfl, rfl, s0, s1, s2, s3, s4⟩ | ⟨rfl, rfl, rfl, rfl, rfl, rfl, rfl, s3, s4⟩
  · exact br_t rfl (br_t rfl (And.intro (by rw [nI_1]; exact vp_in_nI (by omega) (by omega)) (by rw [nI_1, nI_clamp (by omega), s1]; exact h)))
  · exact br_f (by decide) (br_f (by decide) h)
theorem cs_163 (hq : q < 4) (hS : cs_S x7 a_sig f_wantedRest f_wantedLeft q cA wA cB wB cC wC wR wD) (hv : vp_in (x2 + 56 + nI cC) 816) (h : wX_walkCall_184 post x1 x2 x3 x4 x5 (nI (q * 5)) x7 (nI wC) (a_state (x2 + 56 + nI cC).toNatClampNeg) (x2 + 56 + nI cC) f_parts f_most f_functions f_openFn f_lacking f_subject f_wantedRest f_wantedLeft f_formCount f_bestA f_bestB f_bestC f_cells f_depth f_entries f_outcome f_freeNow f_lowest a_body a_lengths a_treeEnd a_accepted a_sig a_sizes a_input a_result a_state a_reached a_forms a_heads a_tails a_freed a_ints a_lists a_frameFn a_framePc) :
    (x7 = 0 → wX_walkCall_163 post x1 x2 x3 x4 x5 (nI (q * 5)) x7 3 (x2 + 56) f_parts f_most f_functions f_openFn f_lacking f_subject f_wantedRest f_wantedLeft f_formCount f_bestA f_bestB f_bestC f_cells f_depth f_entries f_outcome f_freeNow f_lowest a_body a_lengths a_treeEnd a_accepted a_sig a_sizes a_input a_result a_state a_reached a_forms a_heads a_tails a_freed a_ints a_lists a_frameFn a_framePc) ∧ (¬ x7 = 0 → wX_walkCall_163 post x1 x2 x3 x4 x5 (nI (q * 5)) x7 2 (x2 + 56) f_parts f_most f_functions f_openFn f_lacking f_subject f_wantedRest f_wantedLeft f_formCount f_bestA f_bestB f_bestC f_cells f_depth f_entries f_outcome f_freeNow f_lowest a_body a_lengths a_treeEnd a_accepted a_sig a_sizes a_input a_result a_state a_reached a_forms a_heads a_tails a_freed a_ints a_lists a_frameFn a_framePc) := by
  rcases hS with ⟨rfl, rfl, rfl, rfl, s0, s1, s2, s3, s4⟩ | ⟨rfl, rfl, rfl, rfl, rfl, rfl, rfl, s3, s4⟩
  · exact br_t rfl (And.intro hv (br_t rfl (And.intro (by rw [ba_2]; exact vp_in_nI (by omega) (by omega)) (by rw [ba_2, nI_clamp (by omega), s2]; exact h))))
  · exact br_f (by decide) (And.intro hv (br_f (by decide) h))
theorem cs_239 {z1 z2 : Int32} (hq : q < 4) (hS : cs_S x7 a_sig f_wantedRest f_wantedLeft q cA wA cB wB cC wC wR wD) (h : wX_walkCall_239 post x1 x2 x3 (nI (q * 5)) x7 (nI wD) z1 z2 f_parts f_most f_functions f_openFn f_lacking f_subject f_wantedRest f_wantedLeft f_formCount f_bestA f_bestB f_bestC f_cells f_depth f_entries f_outcome f_freeNow f_lowest a_body a_lengths a_treeEnd a_accepted a_sig a_sizes a_input a_result a_state a_reached a_forms a_heads a_tails a_freed a_ints a_lists a_frameFn a_framePc) :
    (x7 = 0 → (vp_in (nI (q * 5) + 4) 20 ∧ wX_walkCall_239 post x1 x2 x3 (nI (q * 5)) x7 (a_sig (nI (q * 5) + 4).toNatClampNeg) z1 z2 f_parts f_most f_functions f_openFn f_lacking f_subject f_wantedRest f_wantedLeft f_formCount f_bestA f_bestB f_bestC f_cells f_depth f_entries f_outcome f_freeNow f_lowest a_body a_lengths a_treeEnd a_accepted a_sig a_sizes a_input a_result a_state a_reached a_forms a_heads a_tails a_freed a_ints a_lists a_frameFn a_framePc)) ∧ (¬ x7 = 0 → wX_walkCall_239 post x1 x2 x3 (nI (q * 5)) x7 f_wantedLeft z1 z2 f_parts f_most f_functions f_openFn f_lacking f_subject f_wantedRest f_wantedLeft f_formCount f_bestA f_bestB f_bestC f_cells f_depth f_entries f_outcome f_freeNow f_lowest a_body a_lengths a_treeEnd a_accepted a_sig a_sizes a_input a_result a_state a_reached a_forms a_heads a_tails a_freed a_ints a_lists a_frameFn a_framePc) := by
  rcases hS with ⟨rfl, rfl, rfl, rfl, s0, s1, s2, s3, s4⟩ | ⟨rfl, rfl, rfl, rfl, rfl, rfl, rfl, s3, s4⟩
  · exact br_t rfl (And.intro (by rw [ba_4]; exact vp_in_nI (by omega) (by omega)) (by rw [ba_4, nI_clamp (by omega), s4]; exact h))
  · exact br_f (by decide) (by rw [s4] at h ⊢; exact h)
theorem cs_275 {z1 : Int32} (hq : q < 4) (hS : cs_S x7 a_sig f_wantedRest f_wantedLeft q cA wA cB wB cC wC wR wD) (h : wX_walkCall_275 post x1 x2 x3 (nI wR) z1 f_parts f_most f_functions f_openFn f_lacking f_subject f_wantedRest f_wantedLeft f_formCount f_bestA f_bestB f_bestC f_cells f_depth f_entries f_outcome f_freeNow f_lowest a_body a_lengths a_treeEnd a_accepted a_sig a_sizes a_input a_result a_state a_reached a_forms a_heads a_tails a_freed a_ints a_lists a_frameFn a_framePc) :
    (x7 = 0 → (vp_in (nI (q * 5) + 3) 20 ∧ wX_walkCall_275 post x1 x2 x3 (a_sig (nI (q * 5) + 3).toNatClampNeg) z1 f_parts f_most f_functions f_openFn f_lacking f_subject f_wantedRest f_wantedLeft f_formCount f_bestA f_bestB f_bestC f_cells f_depth f_entries f_outcome f_freeNow f_lowest a_body a_lengths a_treeEnd a_accepted a_sig a_sizes a_input a_result a_state a_reached a_forms a_heads a_tails a_freed a_ints a_lists a_frameFn a_framePc)) ∧ (¬ x7 = 0 → wX_walkCall_275 post x1 x2 x3 f_wantedRest z1 f_parts f_most f_functions f_openFn f_lacking f_subject f_wantedRest f_wantedLeft f_formCount f_bestA f_bestB f_bestC f_cells f_depth f_entries f_outcome f_freeNow f_lowest a_body a_lengths a_treeEnd a_accepted a_sig a_sizes a_input a_result a_state a_reached a_forms a_heads a_tails a_freed a_ints a_lists a_frameFn a_framePc) := by
  rcases hS with ⟨rfl, rfl, rfl, rfl, s0, s1, s2, s3, s4⟩ | ⟨rfl, rfl, rfl, rfl, rfl, rfl, rfl, s3, s4⟩
  · exact br_t rfl (And.intro (by rw [ba_3]; exact vp_in_nI (by omega) (by omega)) (by rw [ba_3, nI_clamp (by omega), s3]; exact h))
  · exact br_f (by decide) (by rw [s3] at h ⊢; exact h)
end
theorem cs_rt {x7 : Int32} {sig : Nat → Int32} {R D : Int32} {f q cA wA cB wB cC wC wR wD : Nat} (hq : q < 4) (h0 : x7 = 0 → q ≠ f) (h1 : x7 = 1 → q = f) (hS : cs_S x7 sig R D q cA wA cB wB cC wC wR wD) {A B C : Int32} {rt : Nat → Int32} (hrt : xs_RT sig f R D A B C rt) :
    rt (q * 5) = nI wA * xs_cv A B C cA ∧ rt (q * 5 + 1) = nI wB * xs_cv A B C cB ∧ rt (q * 5 + 2) = nI wC * xs_cv A B C cC ∧ rt (q * 5 + 3) = nI wR ∧ rt (q * 5 + 4) = nI wD := by
  obtain ⟨t0, t1, t2, t3, t4, t5⟩ := hrt
  rcases hS with ⟨h7, rfl, rfl, rfl, s0, s1, s2, s3, s4⟩ | ⟨h7, rfl, rfl, rfl, rfl, rfl, rfl, s3, s4⟩
  · have hqf := h0 h7
    have u0 := t5 q 0 hq hqf (by omega)
    rw [Nat.add_zero] at u0
    rw [u0, t5 q 1 hq hqf (by omega), t5 q 2 hq hqf (by omega), t5 q 3 hq hqf (by omega), t5 q 4 hq hqf (by omega), s0, s1, s2, s3, s4]
    exact ⟨(Int32.mul_one _).symm, (Int32.mul_one _).symm, (Int32.mul_one _).symm, rfl, rfl⟩
  · have hqf := h1 h7
    subst hqf
    rw [t0, t1, t2, t3, t4, s3, s4]
    exact ⟨(Int32.one_mul _).symm, (Int32.one_mul _).symm, (Int32.one_mul _).symm, rfl, rfl⟩
section
variable {f_parts f_most f_functions f_openFn f_lacking f_subject f_wantedRest f_wantedLeft f_formCount f_bestA f_bestB f_bestC f_cells f_depth f_entries f_outcome f_freeNow f_lowest : Int32} {a_body a_lengths a_treeEnd a_accepted a_sig a_sizes a_input a_result a_state a_reached a_forms a_heads a_tails a_freed a_ints a_lists a_frameFn a_framePc : Nat → Int32} {f k c0 : Nat} {kn bs en : Nat → Nat}
theorem xs_ncall {R D : Nat} (hf : f < 4) (hk : k + 1 < 12) (hs : f_subject = nI f) (hR : f_wantedRest = nI R) (hR8 : R ≤ 8) (hD : f_wantedLeft = nI D) (hD8 : D ≤ 8) (hsig : pt_KS a_sig) (hc : f_formCount = nI c0) (hc2 : c0 + 3 ≤ 36) (hi : pt_Fi a_body f k) (ho : pt_o a_body f k = 2)
    (hr : xs_RC (xs_row a_state k) k kn bs) :
    ∃ st' re' fm' c1, xs_W (pt_o a_body f) (pt_p a_body f) (pt_q a_body f) (pt_r a_body f) en f k c0 f_parts a_sig f_wantedRest f_wantedLeft kn bs a_state a_reached a_forms st' re' fm' c1 ∧
      ∀ post : SX → Prop, post (f_parts, f_most, f_functions, f_openFn, f_lacking, f_subject, f_wantedRest, f_wantedLeft, nI c1, f_bestA, f_bestB, f_bestC, f_cells, f_depth, f_entries, f_outcome, f_freeNow, f_lowest, a_body, a_lengths, a_treeEnd, a_accepted, a_sig, a_sizes, a_input, a_result, st', re', fm', a_heads, a_tails, a_freed, a_ints, a_lists, a_frameFn, a_framePc) → wpX_walkCall post (f_parts, f_most, f_functions, f_openFn, f_lacking, f_subject, f_wantedRest, f_wantedLeft, f_formCount, f_bestA, f_bestB, f_bestC, f_cells, f_depth, f_entries, f_outcome, f_freeNow, f_lowest, a_body, a_lengths, a_treeEnd, a_accepted, a_sig, a_sizes, a_input, a_result, a_state, a_reached, a_forms, a_heads, a_tails, a_freed, a_ints, a_lists, a_frameFn, a_framePc) (nI k) := by
  obtain ⟨b0, b1, b2, b3, b4, b5, b6, b7⟩ := hi
  obtain ⟨b8, b9, b10⟩ := b7 (by omega)
  -- which rates
  have hsel : ∃ (x7 : Int32) (cA wA cB wB cC wC wR wD : Nat), (x7 = 0 → pt_q a_body f k ≠ f) ∧ (x7 = 1 → pt_q a_body f k = f) ∧ (x7 = 0 ∨ x7 = 1) ∧ cA < 4 ∧ cB < 4 ∧ cC < 4 ∧ wA ≤ 8 ∧ wB ≤ 8 ∧ wC ≤ 8 ∧ wR ≤ 8 ∧ wD ≤ 8 ∧ cs_S x7 a_sig f_wantedRest f_wantedLeft (pt_q a_body f k) cA wA cB wB cC wC wR wD := by
    by_cases hq : pt_q a_body f k = f
    · exact ⟨1, 0, 1, 1, 1, 2, 1, R, D, fun h => absurd h (by decide), fun _ => hq, Or.inr rfl, by omega, by omega, by omega, by omega, by omega, by omega, hR8, hD8, Or.inr ⟨rfl, rfl, rfl, rfl, rfl, rfl, rfl, hR, hD⟩⟩
    · obtain ⟨wA, a1, a2⟩ := hsig (pt_q a_body f k * 5) (by omega)
      obtain ⟨wB, a3, a4⟩ := hsig (pt_q a_body f k * 5 + 1) (by omega)
      obtain ⟨wC, a5, a6⟩ := hsig (pt_q a_body f k * 5 + 2) (by omega)
      obtain ⟨wR, a7, a8⟩ := hsig (pt_q a_body f k * 5 + 3) (by omega)
      obtain ⟨wD, a9, a10⟩ := hsig (pt_q a_body f k * 5 + 4) (by omega)
      exact ⟨0, 3, wA, 3, wB, 3, wC, wR, wD, fun _ => hq, fun h => absurd h (by decide), Or.inl rfl, by omega, by omega, by omega, a1, a3, a5, a7, a9, Or.inl ⟨rfl, rfl, rfl, rfl, a2, a4, a6, a8, a10⟩⟩
  obtain ⟨x7, cA, wA, cB, wB, cC, wC, wR, wD, g0, g1, g01, hcA, hcB, hcC, hwA, hwB, hwC, hwR, hwD, hS⟩ := hsel
  have hrt := fun {A B C : Int32} {rt : Nat → Int32} => cs_rt (A := A) (B := B) (C := C) (rt := rt) (show pt_q a_body f k < 4 by omega) g0 g1 hS
  subst hs hc
  generalize hX : pt_r a_body f k / 4 % 4 = X at *
  generalize hY : pt_r a_body f k % 4 = Y at *
  have hX4 : X < 4 := by omega
  have hY4 : Y < 4 := by omega
  obtain ⟨s1, s2, s3, s4⟩ := hr.1 X hX4
  obtain ⟨t1, t2, t3, t4⟩ := hr.1 Y hY4
  have hk68 : k * 68 + 68 ≤ 816 := by omega
  have bX : bs X ≤ 14 := by omega
  have bY : bs Y ≤ 14 := by omega
  -- the rows
  have r1 := xs_R_cg (j := X) (c := cA) (w := wA) (by omega) hX4 hcA hwA (Nat.le_refl _) (by omega) (by omega) hr
  have e1 : xs_row (xs_cg a_state (k * 68) X cA (bs X) (nI wA)) k = rw_cg (xs_row a_state k) X cA (bs X) (nI wA) := xs_row_cg
  have o1 : ∀ j, k < j → ∀ i, i < 68 → xs_row (xs_cg a_state (k * 68) X cA (bs X) (nI wA)) j i = xs_row a_state j i := fun j hj => xs_cg_o (by omega) hcA bX
  generalize hst1 : xs_cg a_state (k * 68) X cA (bs X) (nI wA) = st1 at e1 o1
  rw [← e1] at r1
  have r2 := xs_R_cg (j := Y) (c := cB) (w := wB) (by omega) hY4 hcB hwB (Nat.le_refl _) (by omega) (by omega) r1
  have e2 : xs_row (xs_cg st1 (k * 68) Y cB (bs Y) (nI wB)) k = rw_cg (xs_row st1 k) Y cB (bs Y) (nI wB) := xs_row_cg
  have o2 : ∀ j, k < j → ∀ i, i < 68 → xs_row (xs_cg st1 (k * 68) Y cB (bs Y) (nI wB)) j i = xs_row a_state j i := fun j hj i hi => (xs_cg_o (by omega) hcB bY i hi).trans (o1 j hj i hi)
  generalize hst2 : xs_cg st1 (k * 68) Y cB (bs Y) (nI wB) = st2 at e2 o2
  rw [← e2] at r2
  have r3 := xs_R_pu (c := cC) (d := 8) (v := xs_row st2 k (56 + cC) - nI wC) hcC (xs_le_s (r2.2.2.1 cC hcC) (xs_le_n hwC (by omega)) (by omega) (by omega)) r2
  have e3 : xs_row (upd st2 (k * 68 + (56 + cC)) (st2 (k * 68 + (56 + cC)) - nI wC)) k = upd (xs_row st2 k) (56 + cC) (xs_row st2 k (56 + cC) - nI wC) := xs_row_u
  have o3 : ∀ j, k < j → ∀ i, i < 68 → xs_row (upd st2 (k * 68 + (56 + cC)) (st2 (k * 68 + (56 + cC)) - nI wC)) j i = xs_row a_state j i := fun j hj i hi => (xs_row_o (by omega) (by omega) i hi).trans (o2 j hj i hi)
  generalize hst3 : upd st2 (k * 68 + (56 + cC)) (st2 (k * 68 + (56 + cC)) - nI wC) = st3 at e3 o3
  rw [← e3] at r3
  have r4 := xs_R_pu (c := 3) (d := 8) (v := xs_row st3 k 59 + nI wD) (by omega) (xs_le_a (r3.2.2.1 3 (by omega)) (xs_le_n hwD (by omega)) (by omega) (by omega)) r3
  have e4 : xs_row (upd st3 (k * 68 + 59) (st3 (k * 68 + 59) + nI wD)) k = upd (xs_row st3 k) 59 (xs_row st3 k 59 + nI wD) := xs_row_u
  have o4 : ∀ j, k < j → ∀ i, i < 68 → xs_row (upd st3 (k * 68 + 59) (st3 (k * 68 + 59) + nI wD)) j i = xs_row a_state j i := fun j hj i hi => (xs_row_o (by omega) (by omega) i hi).trans (o3 j hj i hi)
  generalize hst4 : upd st3 (k * 68 + 59) (st3 (k * 68 + 59) + nI wD) = st4 at e4 o4
  rw [show (56 + 3 : Nat) = 59 from rfl, ← e4] at r4
  have r5 := xs_R_nb (w := wR) (by omega) hwR (by omega) (by omega) r4
  have e5 : xs_row (upd st4 (k * 68 + (4 * (k + 2) + 3)) (nI wR)) k = upd (xs_row st4 k) (4 * (k + 2) + 3) (nI wR) := xs_row_u
  have o5 : ∀ j, k < j → ∀ i, i < 68 → xs_row (upd st4 (k * 68 + (4 * (k + 2) + 3)) (nI wR)) j i = xs_row a_state j i := fun j hj i hi => (xs_row_o (by omega) (by omega) i hi).trans (o4 j hj i hi)
  generalize hst5 : upd st4 (k * 68 + (4 * (k + 2) + 3)) (nI wR) = st5 at e5 o5
  rw [← e5] at r5
  have r6 := xs_R_ss (j := pt_p a_body f k) (k' := k + 1) (m := 0) (b := k + 3) (by omega) (by omega) (by omega) (by omega) r5
  have e6 : xs_row (xs_ss st5 (k * 68) (pt_p a_body f k) (nI 0) (nI (k + 3) - 1)) k = rw_ss (xs_row st5 k) (pt_p a_body f k) (nI 0) (nI (k + 3) - 1) := xs_row_ss
  have o6 : ∀ j, k < j → ∀ i, i < 68 → xs_row (xs_ss st5 (k * 68) (pt_p a_body f k) (nI 0) (nI (k + 3) - 1)) j i = xs_row a_state j i := fun j hj i hi => (xs_ss_o (by omega) (by omega) i hi).trans (o5 j hj i hi)
  generalize hst6 : xs_ss st5 (k * 68) (pt_p a_body f k) (nI 0) (nI (k + 3) - 1) = st6 at e6 o6
  rw [← e6] at r6
  -- the forms
  have A1 := xs_App1 (fm := a_forms) (st := st3) (c := c0) (a := k * 68 + 56) (fun i hi => xs_le_m (by rw [show k * 68 + 56 + i = k * 68 + (56 + i) by omega]; exact r3.2.2.1 i hi) (by omega))
  have A2 := xs_AppR (fm := ba_cp a_forms st3 (c0 * 4) (k * 68 + 56) 4) (st := st3) (c := c0 + 1) (s := k * 68) (b := bs X) (fun hb i hi => xs_le_m (by rw [show k * 68 + 4 * (bs X - 1) + i = k * 68 + (4 * (bs X - 1) + i) by omega]; exact r3.2.1 _ (by omega)) (by omega))
  have A3 := xs_AppR (fm := rr_f (ba_cp a_forms st3 (c0 * 4) (k * 68 + 56) 4) st3 (c0 + 1) (k * 68) (bs X)) (st := st3) (c := rr_c (c0 + 1) (bs X)) (s := k * 68) (b := bs Y) (fun hb i hi => xs_le_m (by rw [show k * 68 + 4 * (bs Y - 1) + i = k * 68 + (4 * (bs Y - 1) + i) by omega]; exact r3.2.1 _ (by omega)) (by omega))
  have c1 := rr_c_le (c := c0 + 1) (b := bs X)
  have c2 := rr_c_le (c := rr_c (c0 + 1) (bs X)) (b := bs Y)
  -- what they say
  have hE3 : ∀ A B C rt pu ree, xs_RT a_sig f f_wantedRest f_wantedLeft A B C rt → xs_E (xs_row a_state k) A B C pu ree → xs_E (xs_row st3 k) A B C (ty_cp (pt_q a_body f) (pt_r a_body f) rt k (pu, ree, kn, bs)) (ty_cc (pt_q a_body f) (pt_r a_body f) rt k (pu, ree, kn, bs)) := by
    intro A B C rt pu ree h hE
    obtain ⟨u0, u1, u2, u3, u4⟩ := hrt h
    unfold ty_cp ty_cc
    rw [hX, hY]
    have x1 := xs_E_cg (j := X) (b := bs X) hcA bX s1 u0 hE
    rw [← e1] at x1
    have x2 := xs_E_cg (j := Y) (b := bs Y) hcB bY (r1.1 Y hY4).1 u1 x1
    rw [← e2] at x2
    have x3 := xs_E_pu (c := cC) (m := nI wC) hcC x2
    rw [← e3, ← u2] at x3
    exact x3
  refine ⟨ba_cp st6 st6 ((k + 1) * 68) (k * 68) 68, upd a_reached (k + 1) 1, rr_f (rr_f (ba_cp a_forms st3 (c0 * 4) (k * 68 + 56) 4) st3 (c0 + 1) (k * 68) (bs X)) st3 (rr_c (c0 + 1) (bs X)) (k * 68) (bs Y), rr_c (rr_c (c0 + 1) (bs X)) (bs Y), ⟨by omega, fun j hj h1 h2 => ⟨pk_un (fun e => h1 ⟨by omega, e⟩), fun i hi => (xs_cp_o (fun e => h1 ⟨by omega, e⟩) i hi).trans (o6 j hj i hi)⟩, ⟨_, xs_AppT A1 (xs_AppT A2 A3), fun A B C rt pu ree hrt' hEE => ?_⟩, fun _ => ⟨fun hg => absurd (fun e => by unfold ty_mt at e; omega) hg, fun _ => ⟨pk_us, _, _, xs_R_c xs_row_cp (xs_R_m (by omega) (by omega) (by omega) (by omega) r6), fun A B C rt pu ree hrt' hEE => ⟨_, _, (if_neg (by omega)).trans (if_pos ho), xs_E_c (fun i hi => xs_row_cp i (by omega)) ?_⟩⟩⟩, fun h => by unfold pt_fk at h; omega⟩, fun post hp => ?_⟩
  · have hx := hE3 A B C rt pu ree hrt' hEE
    have hx1 := hx.1
    have hxx := fun hb : bs X ≠ 0 => hx.2 (bs X - 1) (by omega)
    have hxy := fun hb : bs Y ≠ 0 => hx.2 (bs Y - 1) (by omega)
    unfold xs_row at hx1 hxx hxy
    have ps : ty_pass (pt_o a_body f) (pt_p a_body f) (pt_q a_body f) (pt_r a_body f) f f_parts rt k (pu, ree, kn, bs) ↔ (0 ≤ ty_cp (pt_q a_body f) (pt_r a_body f) rt k (pu, ree, kn, bs) ∧ ty_ok (ty_cc (pt_q a_body f) (pt_r a_body f) rt k (pu, ree, kn, bs)) (bs X) ∧ ty_ok (ty_cc (pt_q a_body f) (pt_r a_body f) rt k (pu, ree, kn, bs)) (bs Y)) := by
      rw [← hX, ← hY]
      exact ⟨fun h => h.2.2 ho, fun h => ⟨fun e => by omega, fun e => by omega, fun _ => h⟩⟩
    rw [ps]
    show (0 ≤ _ ∧ (bs X ≠ 0 → 0 ≤ _) ∧ (bs Y ≠ 0 → 0 ≤ _)) ↔ _
    rw [show k * 68 + 56 + 1 = k * 68 + 57 by omega, show k * 68 + 56 + 2 = k * 68 + 58 by omega, show k * 68 + 56 + 3 = k * 68 + 59 by omega, ← hx1]
    unfold ty_ok
    have q1 : ∀ b : Nat, b ≠ 0 → b - 1 + 1 = b := fun b hb => by omega
    refine and_congr_right fun _ => and_congr ?_ ?_
    · refine forall_congr' fun hb => ?_
      have hz := hxx hb
      rw [q1 _ hb] at hz
      rw [hz]
      simp only [Nat.add_assoc]
    · refine forall_congr' fun hb => ?_
      have hz := hxy hb
      rw [q1 _ hb] at hz
      rw [hz]
      simp only [Nat.add_assoc]
  · obtain ⟨u0, u1, u2, u3, u4⟩ := hrt hrt'
    have x3 := hE3 A B C rt pu ree hrt' hEE
    have x4 := xs_E_pa (m := nI wD) x3
    rw [← e4] at x4
    have x5 := xs_E_nb (k := k) (R := nI wR) (by omega) r4.2.2.2 x4
    rw [← e5] at x5
    rw [u3, u4, e6]
    exact xs_E_ss x5
  · have hfi1 : nI ((f * 12 + k) * 4) + 1 = nI ((f * 12 + k) * 4 + 1) := nI_1 _
    have hv2 : vp_in (nI ((f * 12 + k) * 4) + 2) 192 := by rw [ba_2]; exact vp_in_nI (by omega) (by omega)
    have hv3 : vp_in (nI ((f * 12 + k) * 4) + 3) 192 := by rw [ba_3]; exact vp_in_nI (by omega) (by omega)
    have eb3 : a_body (nI ((f * 12 + k) * 4) + 3).toNatClampNeg = nI (pt_r a_body f k) := by rw [ba_3, nI_clamp (by omega), b8]
    have eb2 : a_body (nI ((f * 12 + k) * 4) + 2).toNatClampNeg = nI (pt_q a_body f k) := by rw [ba_2, nI_clamp (by omega), b4]
    have ex : (nI (pt_r a_body f k) >>> ((2 : Int32) &&& 31)) &&& 3 = nI X := by
      rw [pk_shrN (by omega) _ 2 (by decide), pk_andN (by omega) 2 (by decide), ← hX]
    have ey : nI (pt_r a_body f k) &&& 3 = nI Y := by
      rw [pk_andN (by omega) 2 (by decide), ← hY]
    have e56 : nI (k * 68) + 56 + nI cC = nI (k * 68 + (56 + cC)) := by rw [ba_56, nI_add, Nat.add_assoc]
    have e59 : nI (k * 68) + 59 = nI (k * 68 + 59) := ba_59 _
    have v59 : vp_in (nI (k * 68) + 59) 816 := by rw [e59]; exact vp_in_nI (by omega) (by omega)
    have core : wX_walkCall_75 post (nI k) (nI (k * 68)) (nI ((f * 12 + k) * 4)) (nI X) (nI Y) (nI (pt_q a_body f k * 5)) x7 f_parts f_most f_functions f_openFn f_lacking (nI f) f_wantedRest f_wantedLeft (nI c0) f_bestA f_bestB f_bestC f_cells f_depth f_entries f_outcome f_freeNow f_lowest a_body a_lengths a_treeEnd a_accepted a_sig a_sizes a_input a_result a_state a_reached a_forms a_heads a_tails a_freed a_ints a_lists a_frameFn a_framePc := by
      refine cs_75 (by omega) hS ?_
      unfold wX_walkCall_107
      refine xs_chg hk68 hX4 hcA bX s2 ?_
      rw [hst1]
      dsimp only
      refine cs_124 (by omega) hS ?_
      unfold wX_walkCall_142
      refine xs_chg hk68 hY4 hcB bY (r1.1 Y hY4).2.1 ?_
      rw [hst2]
      dsimp only
      refine cs_163 (by omega) hS (by rw [e56]; exact vp_in_nI (by omega) (by omega)) ?_
      rw [e56, nI_clamp (by omega)]
      refine And.intro (vp_in_nI (by omega) (by omega)) (nm_r (e' := st3) (by rw [nI_clamp (by omega), hst3]) ?_)
      rw [ba_56]
      refine xs_req rfl (by omega) (by omega) ?_
      dsimp only
      refine xs_rr2 hk68 hX4 bX (r3.1 X hX4).2.1 rfl (by omega) ?_
      dsimp only
      refine xs_rr2 hk68 hY4 bY (r3.1 Y hY4).2.1 rfl (by omega) ?_
      refine And.intro v59 ?_
      dsimp only
      refine cs_239 (by omega) hS ?_
      rw [e59, nI_clamp (by omega)]
      refine And.intro (vp_in_nI (by omega) (by omega)) (nm_r (e' := st4) (by rw [nI_clamp (by omega), hst4]) ?_)
      refine cs_275 (by omega) hS ?_
      have ek : nI (k * 68) + 4 * (nI k + 2) + 3 = nI (k * 68 + (4 * (k + 2) + 3)) := by rw [ba_2, ba_4m, nI_add, ba_3, Nat.add_assoc]
      rw [ek]
      refine And.intro (vp_in_nI (by omega) (by omega)) (nm_r (e' := st5) (by rw [nI_clamp (by omega), hst5]) ⟨by rw [nI_1]; exact vp_in_nI (by omega) (by omega), ?_⟩)
      rw [show a_body (nI ((f * 12 + k) * 4) + 1).toNatClampNeg = nI (pt_p a_body f k) by rw [nI_1, nI_clamp (by omega), b2], show nI k + 2 = nI (k + 3) - 1 by rw [ba_2]; exact (nI_pred (k + 2)).symm]
      refine xs_set hk68 (by omega) ?_
      rw [show (0 : Int32) = nI 0 from rfl, hst6]
      dsimp only
      rw [nI_1 k]
      exact xs_fwd (by omega) hk (by omega) hp
    refine nm_r (ba_m68 k) (nm_r (ba_at f k) ⟨hv3, nm_r (e' := nI X) (by rw [eb3, ex]) ⟨hv3, nm_r (e' := nI Y) (by rw [eb3, ey]) ⟨hv2, nm_r (e' := nI (pt_q a_body f k * 5)) (by rw [eb2, ba_m5]) ⟨hv2, ?_⟩⟩⟩⟩)
    rw [eb2]
    rcases g01 with e | e
    · refine br_f (fun c => g0 e ((nI_eq (by omega) (by omega)).mp c)) ?_
      rw [e] at core
      exact core
    · refine br_t (by rw [g1 e]) ?_
      rw [e] at core
      exact core
end
end
section
/-! nodes: TAKE, READ -/
theorem ty_dr0 (bs : Nat → Nat) : ty_dr bs 0 = bs := by
  funext s
  unfold ty_dr
  split
  · rename_i h; exact h.symm
  · rfl
section
variable {f_parts f_most f_functions f_openFn f_lacking f_subject f_wantedRest f_wantedLeft f_formCount f_bestA f_bestB f_bestC f_cells f_depth f_entries f_outcome f_freeNow f_lowest : Int32} {a_body a_lengths a_treeEnd a_accepted a_sig a_sizes a_input a_result a_state a_reached a_forms a_heads a_tails a_freed a_ints a_lists a_frameFn a_framePc : Nat → Int32} {f k c0 : Nat} {kn bs en : Nat → Nat}
theorem xs_nmatch {G : Nat} {gain : Int32} (hf : f < 4) (hk : k + 1 < 12) (hs : f_subject = nI f) (hg : gain = nI G) (hG : G ≤ 4) (hgain : gain = ty_gain (pt_o a_body f) f_parts k) (hc : f_formCount = nI c0) (hi : pt_Fi a_body f k) (ho : pt_o a_body f k = 3 ∨ pt_o a_body f k = 4)
    (ht : en (k + 1) < 12) (hkt : k + 1 < en (k + 1)) (hte : a_treeEnd (f * 12 + (k + 1)) = nI (en (k + 1)))
    (hr : xs_RC (xs_row a_state k) k kn bs) :
    ∃ st' re' fm' c1, xs_W (pt_o a_body f) (pt_p a_body f) (pt_q a_body f) (pt_r a_body f) en f k c0 f_parts a_sig f_wantedRest f_wantedLeft kn bs a_state a_reached a_forms st' re' fm' c1 ∧
      ∀ post : SX → Prop, post (f_parts, f_most, f_functions, f_openFn, f_lacking, f_subject, f_wantedRest, f_wantedLeft, nI c1, f_bestA, f_bestB, f_bestC, f_cells, f_depth, f_entries, f_outcome, f_freeNow, f_lowest, a_body, a_lengths, a_treeEnd, a_accepted, a_sig, a_sizes, a_input, a_result, st', re', fm', a_heads, a_tails, a_freed, a_ints, a_lists, a_frameFn, a_framePc) → wpX_walkMatch post (f_parts, f_most, f_functions, f_openFn, f_lacking, f_subject, f_wantedRest, f_wantedLeft, f_formCount, f_bestA, f_bestB, f_bestC, f_cells, f_depth, f_entries, f_outcome, f_freeNow, f_lowest, a_body, a_lengths, a_treeEnd, a_accepted, a_sig, a_sizes, a_input, a_result, a_state, a_reached, a_forms, a_heads, a_tails, a_freed, a_ints, a_lists, a_frameFn, a_framePc) (nI k) gain := by
  obtain ⟨b0, b1, b2, b3, b4, b5, b6, b7⟩ := hi
  obtain ⟨b8, b9, b10⟩ := b7 (by omega)
  have hr3 := b10 (by omega)
  have hfk : pt_fk (pt_o a_body f k) := by unfold pt_fk; omega
  have ho0 : pt_o a_body f k ≠ 0 := by omega
  subst hs hc
  generalize hT : en (k + 1) = t at *
  obtain ⟨s1, s2, s3, s4⟩ := hr.1 (pt_p a_body f k) (by omega)
  have bP : bs (pt_p a_body f k) ≤ 14 := by omega
  have e60 : nI k * 68 + 60 + nI (pt_p a_body f k) = nI (k * 68 + (60 + pt_p a_body f k)) := by rw [ba_m68, ba_60, nI_add, Nat.add_assoc]
  have e64 : nI k * 68 + 64 + nI (pt_p a_body f k) = nI (k * 68 + (64 + pt_p a_body f k)) := by rw [ba_m68, ba_64, nI_add, Nat.add_assoc]
  have et : nI f * 12 + nI k + 1 = nI (f * 12 + (k + 1)) := by rw [ba_m12, nI_add, nI_1, Nat.add_assoc]
  have e59 : nI (t * 68) + 59 = nI (t * 68 + 59) := ba_59 _
  have v59 : vp_in (nI (t * 68) + 59) 816 := by rw [e59]; exact vp_in_nI (by omega) (by omega)
  have ek1 : (nI k + 1) * 68 = nI ((k + 1) * 68) := by rw [nI_1, ba_m68]
  have w1 : vp_in (nI ((f * 12 + k) * 4) + 1) 192 := by rw [nI_1]; exact vp_in_nI (by omega) (by omega)
  have w3 : vp_in (nI ((f * 12 + k) * 4) + 3) 192 := by rw [ba_3]; exact vp_in_nI (by omega) (by omega)
  have eb1 : a_body (nI ((f * 12 + k) * 4) + 1).toNatClampNeg = nI (pt_p a_body f k) := by rw [nI_1, nI_clamp (by omega), b2]
  have eb3 : a_body (nI ((f * 12 + k) * 4) + 3).toNatClampNeg = nI (pt_r a_body f k) := by rw [ba_3, nI_clamp (by omega), b8]
  have w60 : vp_in (nI k * 68 + 60 + nI (pt_p a_body f k)) 816 := by rw [e60]; exact vp_in_nI (by omega) (by omega)
  have w64 : vp_in (nI k * 68 + 64 + nI (pt_p a_body f k)) 816 := by rw [e64]; exact vp_in_nI (by omega) (by omega)
  have wt : vp_in (nI f * 12 + nI k + 1) 48 := by rw [et]; exact vp_in_nI (by omega) (by omega)
  have q60 : a_state (nI k * 68 + 60 + nI (pt_p a_body f k)).toNatClampNeg = nI (kn (pt_p a_body f k)) := by rw [e60, nI_clamp (by omega)]; exact s1
  have q64 : a_state (nI k * 68 + 64 + nI (pt_p a_body f k)).toNatClampNeg = nI (bs (pt_p a_body f k)) - 1 := by rw [e64, nI_clamp (by omega)]; exact s2
  have qt : a_treeEnd (nI f * 12 + nI k + 1).toNatClampNeg = nI t := by rw [et, nI_clamp (by omega), hte]
  by_cases hm : kn (pt_p a_body f k) = 0
  · have hm' : nI (kn (pt_p a_body f k)) ≤ 0 := by rw [hm]; decide
    -- the first tree is reached
    have R1 : xs_RC (xs_row (ba_cp a_state a_state ((k + 1) * 68) (k * 68) 68) (k + 1)) (k + 1) kn bs := xs_RC_up (by omega) (xs_R_c xs_row_cp hr)
    have E1 : ∀ A B C pu ree, xs_E (xs_row a_state k) A B C pu ree → xs_E (xs_row (ba_cp a_state a_state ((k + 1) * 68) (k * 68) 68) (k + 1)) A B C pu ree := fun A B C pu ree h => xs_E_c (fun i hi => xs_row_cp i (by omega)) h
    have o1 : ∀ j, j ≠ k + 1 → ∀ i, i < 68 → xs_row (ba_cp a_state a_state ((k + 1) * 68) (k * 68) 68) j i = xs_row a_state j i := fun j hj => xs_cp_o hj
    by_cases hb : bs (pt_p a_body f k) = 0
    · refine ⟨ba_cp a_state a_state ((k + 1) * 68) (k * 68) 68, upd a_reached (k + 1) 1, a_forms, c0, ⟨by omega, fun j hj h1 h2 => ⟨pk_un (fun e => h1 ⟨ho0, e⟩), o1 j (fun e => h1 ⟨ho0, e⟩)⟩, xs_NQ (by omega), fun _ => ⟨fun hg' => absurd (fun _ => hm) hg', fun _ => ⟨pk_us, kn, bs, R1, fun A B C rt pu ree hrt hE => ⟨pu, ree, ?_, E1 A B C pu ree hE⟩⟩⟩, fun _ => ⟨fun _ => pk_un (by omega), fun hg' => absurd ⟨hm, hb⟩ (hg' ho)⟩⟩, fun post hp => ?_⟩
      · refine (if_neg (by omega)).trans ((if_neg (by omega)).trans ((if_pos ho).trans ?_))
        show (pu, ree, kn, ty_dr bs (bs (pt_p a_body f k))) = (pu, ree, kn, bs)
        rw [hb, ty_dr0]
      · refine nm_r (ba_at f k) ⟨w1, nm_r eb1 ⟨w3, nm_r eb3 ⟨w60, nm_r q60 ⟨w64, nm_r q64 ⟨wt, nm_r qt (nm_r (ba_m68 t) (br_t hm' ?_))⟩⟩⟩⟩⟩
        rw [nI_1 k]
        exact xs_fwd (by omega) hk (by omega) (br_t ((ba_blt (by omega)).mpr hb) hp)
    · generalize hst1 : ba_cp a_state a_state ((k + 1) * 68) (k * 68) 68 = st1 at R1 E1 o1
      have R2 : xs_RC (xs_row (xs_dr st1 ((k + 1) * 68) (nI (bs (pt_p a_body f k)) - 1) 4) (k + 1)) (k + 1) kn (ty_dr bs (bs (pt_p a_body f k))) := xs_R_c xs_row_dr (xs_R_dr (by omega) bP R1)
      have E2 : ∀ A B C pu ree, xs_E (xs_row a_state k) A B C pu ree → xs_E (xs_row (xs_dr st1 ((k + 1) * 68) (nI (bs (pt_p a_body f k)) - 1) 4) (k + 1)) A B C pu ree := fun A B C pu ree h => xs_E_c (fun i hi => xs_row_dr i (by omega)) (xs_E_dr (E1 A B C pu ree h))
      have o2 : ∀ j, j ≠ k + 1 → ∀ i, i < 68 → xs_row (xs_dr st1 ((k + 1) * 68) (nI (bs (pt_p a_body f k)) - 1) 4) j i = xs_row a_state j i := fun j hj i hi => (xs_dr_o hj i hi).trans (o1 j hj i hi)
      generalize hst2 : xs_dr st1 ((k + 1) * 68) (nI (bs (pt_p a_body f k)) - 1) 4 = st2 at R2 E2 o2
      have p3 : ∀ i, i < 68 → xs_row (ba_cp st2 st2 (t * 68) (k * 68) 68) t i = xs_row a_state k i := fun i hi => (xs_row_cp i hi).trans (o2 k (by omega) i hi)
      have o3 : ∀ j, j ≠ t → ∀ i, i < 68 → xs_row (ba_cp st2 st2 (t * 68) (k * 68) 68) j i = xs_row st2 j i := fun j hj => xs_cp_o hj
      generalize hst3 : ba_cp st2 st2 (t * 68) (k * 68) 68 = st3 at p3 o3
      have r3 := xs_R_c p3 hr
      have r4 := xs_R_lb (b := bs (pt_p a_body f k) - 1) (by omega) (by omega) (by omega) (by omega) r3
      rw [show bs (pt_p a_body f k) - 1 + 1 = bs (pt_p a_body f k) by omega] at r4
      have p4 : ∀ i, i < 68 → xs_row (xs_lb st3 (t * 68) (bs (pt_p a_body f k) - 1) 4) t i = rw_lb (xs_row st3 t) (bs (pt_p a_body f k) - 1) i := xs_row_lb
      have o4 : ∀ j, j ≠ t → ∀ i, i < 68 → xs_row (xs_lb st3 (t * 68) (bs (pt_p a_body f k) - 1) 4) j i = xs_row st2 j i := fun j hj i hi => (xs_lb_o hj i hi).trans (o3 j hj i hi)
      generalize hst4 : xs_lb st3 (t * 68) (bs (pt_p a_body f k) - 1) 4 = st4 at p4 o4
      have r4' := xs_R_c p4 r4
      have r5 := xs_R_pu (c := 3) (d := 4) (v := xs_row st4 t 59 + nI G) (by omega) (xs_le_a (r4'.2.2.1 3 (by omega)) (xs_le_n hG (by omega)) (by omega) (by omega)) r4'
      have e5 : xs_row (upd st4 (t * 68 + 59) (st4 (t * 68 + 59) + nI G)) t = upd (xs_row st4 t) 59 (xs_row st4 t 59 + nI G) := xs_row_u
      have o5 : ∀ j, j ≠ t → ∀ i, i < 68 → xs_row (upd st4 (t * 68 + 59) (st4 (t * 68 + 59) + nI G)) j i = xs_row st2 j i := fun j hj i hi => (xs_row_o hj (by omega) i hi).trans (o4 j hj i hi)
      generalize hst5 : upd st4 (t * 68 + 59) (st4 (t * 68 + 59) + nI G) = st5 at e5 o5
      rw [show (56 + 3 : Nat) = 59 from rfl, ← e5] at r5
      have r6 := xs_R_ss (j := pt_r a_body f k) (k' := t) (m := 0) (b := bs (pt_p a_body f k)) (by omega) (by omega) (by omega) (by omega) r5
      have e6 : xs_row (xs_ss st5 (t * 68) (pt_r a_body f k) (nI 0) (nI (bs (pt_p a_body f k)) - 1)) t = rw_ss (xs_row st5 t) (pt_r a_body f k) (nI 0) (nI (bs (pt_p a_body f k)) - 1) := xs_row_ss
      have o6 : ∀ j, j ≠ t → ∀ i, i < 68 → xs_row (xs_ss st5 (t * 68) (pt_r a_body f k) (nI 0) (nI (bs (pt_p a_body f k)) - 1)) j i = xs_row st2 j i := fun j hj i hi => (xs_ss_o hj (by omega) i hi).trans (o5 j hj i hi)
      generalize hst6 : xs_ss st5 (t * 68) (pt_r a_body f k) (nI 0) (nI (bs (pt_p a_body f k)) - 1) = st6 at e6 o6
      rw [← e6] at r6
      refine ⟨st6, upd (upd a_reached (k + 1) 1) t 1, a_forms, c0, ⟨by omega, fun j hj h1 h2 => ⟨?_, fun i hi => ?_⟩, xs_NQ (by omega), fun _ => ⟨fun hg' => absurd (fun _ => hm) hg', fun _ => ⟨?_, kn, _, xs_R_c (o6 (k + 1) (by omega)) R2, fun A B C rt pu ree hrt hE => ⟨pu, ree, ?_, xs_E_c (fun i hi => o6 (k + 1) (by omega) i (by omega)) (E2 A B C pu ree hE)⟩⟩⟩, fun _ => ⟨fun hg' => absurd (fun _ c => hb c.2) hg', fun _ => ⟨?_, ba_up (ty_lb kn bs (bs (pt_p a_body f k))) (pt_r a_body f k) 0, ba_up bs (pt_r a_body f k) (bs (pt_p a_body f k)), ?_, fun A B C rt pu ree hrt hE => ⟨pu + ree (bs (pt_p a_body f k)) + ty_gain (pt_o a_body f) f_parts k, ree, (if_pos ho).trans (if_pos hm), ?_⟩⟩⟩⟩, fun post hp => ?_⟩
      · rw [pk_un (fun e => h2 ⟨hfk, by rw [hT]; exact e⟩), pk_un (fun e => h1 ⟨ho0, e⟩)]
      · exact (o6 j (fun e => h2 ⟨hfk, by rw [hT]; exact e⟩) i hi).trans (o2 j (fun e => h1 ⟨ho0, e⟩) i hi)
      · rw [pk_un (by omega), pk_us]
      · exact (if_neg (by omega)).trans ((if_neg (by omega)).trans (if_pos ho))
      · rw [hT]; exact pk_us
      · rw [hT]
        exact xs_R_m (by omega) (by omega) (by omega) (by omega) r6
      · rw [hT]
        have x3 := xs_E_c (fun i hi => p3 i (by omega)) hE
        have x4 := xs_E_lb (b := bs (pt_p a_body f k) - 1) (by omega) x3
        have x4' := xs_E_c (fun i hi => p4 i (by omega)) x4
        have x5 := xs_E_pa (m := nI G) x4'
        rw [← e5, show bs (pt_p a_body f k) - 1 + 1 = bs (pt_p a_body f k) by omega] at x5
        rw [e6, ← hgain, hg]
        exact xs_E_ss x5
      · refine nm_r (ba_at f k) ⟨w1, nm_r eb1 ⟨w3, nm_r eb3 ⟨w60, nm_r q60 ⟨w64, nm_r q64 ⟨wt, nm_r qt (nm_r (ba_m68 t) (br_t hm' ?_))⟩⟩⟩⟩⟩
        rw [nI_1 k]
        refine xs_fwd (by omega) hk (by omega) (br_f (fun e => hb ((ba_blt (by omega)).mp e)) ?_)
        rw [ba_m68, hst1]
        refine xs_drop (by omega) ?_
        rw [hst2]
        refine xs_fwd (by omega) ht (by omega) ?_
        rw [hst3, ba_bp hb]
        refine xs_bare (by omega) (by omega) ?_
        rw [hst4]
        refine And.intro v59 (And.intro v59 (nm_r (e' := st5) (by rw [e59, nI_clamp (by omega), hg, hst5]) ?_))
        rw [← ba_bp hb]
        refine xs_set (by omega) (by omega) ?_
        rw [show (0 : Int32) = nI 0 from rfl, hst6]
        exact hp
  · have hm' : ¬ nI (kn (pt_p a_body f k)) ≤ 0 := nI_nle (by omega) (by omega)
    have p1 : ∀ i, i < 68 → xs_row (ba_cp a_state a_state (t * 68) (k * 68) 68) t i = xs_row a_state k i := xs_row_cp
    have o1 : ∀ j, j ≠ t → ∀ i, i < 68 → xs_row (ba_cp a_state a_state (t * 68) (k * 68) 68) j i = xs_row a_state j i := fun j hj => xs_cp_o hj
    generalize hst1 : ba_cp a_state a_state (t * 68) (k * 68) 68 = st1 at p1 o1
    have r1 := xs_R_c p1 hr
    have r5 := xs_R_pu (c := 3) (d := 4) (v := xs_row st1 t 59 + nI G) (by omega) (xs_le_a (r1.2.2.1 3 (by omega)) (xs_le_n hG (by omega)) (by omega) (by omega)) r1
    have e5 : xs_row (upd st1 (t * 68 + 59) (st1 (t * 68 + 59) + nI G)) t = upd (xs_row st1 t) 59 (xs_row st1 t 59 + nI G) := xs_row_u
    have o5 : ∀ j, j ≠ t → ∀ i, i < 68 → xs_row (upd st1 (t * 68 + 59) (st1 (t * 68 + 59) + nI G)) j i = xs_row a_state j i := fun j hj i hi => (xs_row_o hj (by omega) i hi).trans (o1 j hj i hi)
    generalize hst5 : upd st1 (t * 68 + 59) (st1 (t * 68 + 59) + nI G) = st5 at e5 o5
    rw [show (56 + 3 : Nat) = 59 from rfl, ← e5] at r5
    have r6 := xs_R_ss (j := pt_r a_body f k) (k' := t) (m := kn (pt_p a_body f k) - 1) (b := bs (pt_p a_body f k)) (by omega) (by omega) (by omega) (by omega) r5
    have e6 : xs_row (xs_ss st5 (t * 68) (pt_r a_body f k) (nI (kn (pt_p a_body f k) - 1)) (nI (bs (pt_p a_body f k)) - 1)) t = rw_ss (xs_row st5 t) (pt_r a_body f k) (nI (kn (pt_p a_body f k) - 1)) (nI (bs (pt_p a_body f k)) - 1) := xs_row_ss
    have o6 : ∀ j, j ≠ t → ∀ i, i < 68 → xs_row (xs_ss st5 (t * 68) (pt_r a_body f k) (nI (kn (pt_p a_body f k) - 1)) (nI (bs (pt_p a_body f k)) - 1)) j i = xs_row a_state j i := fun j hj i hi => (xs_ss_o hj (by omega) i hi).trans (o5 j hj i hi)
    generalize hst6 : xs_ss st5 (t * 68) (pt_r a_body f k) (nI (kn (pt_p a_body f k) - 1)) (nI (bs (pt_p a_body f k)) - 1) = st6 at e6 o6
    rw [← e6] at r6
    refine ⟨st6, upd a_reached t 1, a_forms, c0, ⟨by omega, fun j hj h1 h2 => ⟨pk_un (fun e => h2 ⟨hfk, by rw [hT]; exact e⟩), o6 j (fun e => h2 ⟨hfk, by rw [hT]; exact e⟩)⟩, xs_NQ (by omega), fun _ => ⟨fun _ => pk_un (by omega), fun hg' => absurd (hg' ho) hm⟩, fun _ => ⟨fun hg' => absurd (fun _ c => hm c.1) hg', fun _ => ⟨?_, ba_up kn (pt_r a_body f k) (kn (pt_p a_body f k) - 1), ba_up bs (pt_r a_body f k) (bs (pt_p a_body f k)), ?_, fun A B C rt pu ree hrt hE => ⟨pu + ty_gain (pt_o a_body f) f_parts k, ree, (if_pos ho).trans (if_neg hm), ?_⟩⟩⟩⟩, fun post hp => ?_⟩
    · rw [hT]; exact pk_us
    · rw [hT]
      exact xs_R_m (by omega) (by omega) (by omega) (by omega) r6
    · rw [hT]
      have x1 := xs_E_c (fun i hi => p1 i (by omega)) hE
      have x5 := xs_E_pa (m := nI G) x1
      rw [← e5] at x5
      rw [e6, ← hgain, hg]
      exact xs_E_ss x5
    · refine nm_r (ba_at f k) ⟨w1, nm_r eb1 ⟨w3, nm_r eb3 ⟨w60, nm_r q60 ⟨w64, nm_r q64 ⟨wt, nm_r qt (nm_r (ba_m68 t) (br_f hm' ?_))⟩⟩⟩⟩⟩
      refine xs_fwd (by omega) ht (by omega) ?_
      rw [hst1]
      refine And.intro v59 (And.intro v59 (nm_r (e' := st5) (by rw [e59, nI_clamp (by omega), hg, hst5]) ?_))
      rw [ba_ln (show 0 < kn (pt_p a_body f k) by omega)]
      refine xs_set (by omega) (by omega) ?_
      rw [hst6]
      exact hp
end
end
section
/-! the walk of a node, of a tree, gather -/
section
variable {f_parts f_most f_functions f_openFn f_lacking f_subject f_wantedRest f_wantedLeft f_formCount f_bestA f_bestB f_bestC f_cells f_depth f_entries f_outcome f_freeNow f_lowest : Int32} {a_body a_lengths a_treeEnd a_accepted a_sig a_sizes a_input a_result a_state a_reached a_forms a_heads a_tails a_freed a_ints a_lists a_frameFn a_framePc : Nat → Int32} {f k n c0 : Nat} {kn bs en : Nat → Nat}
theorem xs_walk {P R D : Nat} (hf : f < 4) (hk : k < n) (hn : n ≤ 12) (hF : ∀ k, k < n → pt_Fi a_body f k) (hT : pt_TF (pt_o a_body f) en n) (hte : ∀ k, k < n → a_treeEnd (f * 12 + k) = nI (en k)) (hs : f_subject = nI f) (hP : f_parts = nI P) (hP4 : P ≤ 4) (hR : f_wantedRest = nI R) (hR8 : R ≤ 8) (hD : f_wantedLeft = nI D) (hD8 : D ≤ 8) (hsig : pt_KS a_sig) (hc : f_formCount = nI c0) (hc2 : c0 + 3 ≤ 36)
    (hr : xs_RC (xs_row a_state k) k kn bs) :
    ∃ st' re' fm' c1, xs_W (pt_o a_body f) (pt_p a_body f) (pt_q a_body f) (pt_r a_body f) en f k c0 f_parts a_sig f_wantedRest f_wantedLeft kn bs a_state a_reached a_forms st' re' fm' c1 ∧
      ∀ post : SX → Prop, post (f_parts, f_most, f_functions, f_openFn, f_lacking, f_subject, f_wantedRest, f_wantedLeft, nI c1, f_bestA, f_bestB, f_bestC, f_cells, f_depth, f_entries, f_outcome, f_freeNow, f_lowest, a_body, a_lengths, a_treeEnd, a_accepted, a_sig, a_sizes, a_input, a_result, st', re', fm', a_heads, a_tails, a_freed, a_ints, a_lists, a_frameFn, a_framePc) → wpX_walk post (f_parts, f_most, f_functions, f_openFn, f_lacking, f_subject, f_wantedRest, f_wantedLeft, f_formCount, f_bestA, f_bestB, f_bestC, f_cells, f_depth, f_entries, f_outcome, f_freeNow, f_lowest, a_body, a_lengths, a_treeEnd, a_accepted, a_sig, a_sizes, a_input, a_result, a_state, a_reached, a_forms, a_heads, a_tails, a_freed, a_ints, a_lists, a_frameFn, a_framePc) (nI k) := by
  have hi := hF k hk
  obtain ⟨b0, b1, _⟩ := hF k hk
  obtain ⟨T1, T2, T3, T4⟩ := hT k hk
  have hv : vp_in ((f_subject * 12 + nI k) * 4) 192 := by rw [hs, ba_at]; exact vp_in_nI (by omega) (by omega)
  have eb : a_body ((f_subject * 12 + nI k) * 4).toNatClampNeg = nI (pt_o a_body f k) := by rw [hs, ba_at, nI_clamp (by omega), b0]
  have hge : ¬ nI (pt_o a_body f k) < 0 := nI_pos (by omega)
  rcases (by omega : pt_o a_body f k = 0 ∨ pt_o a_body f k = 1 ∨ pt_o a_body f k = 2 ∨ (pt_o a_body f k = 3 ∨ pt_o a_body f k = 4) ∨ pt_o a_body f k = 5 ∨ pt_o a_body f k = 6) with ho | ho | ho | ho | ho | ho
  · obtain ⟨st', fm', c1, hW, hp⟩ := xs_nret (f_parts := f_parts) (f_most := f_most) (f_functions := f_functions) (f_openFn := f_openFn) (f_lacking := f_lacking) (f_subject := f_subject) (f_wantedRest := f_wantedRest) (f_wantedLeft := f_wantedLeft) (f_formCount := f_formCount) (f_bestA := f_bestA) (f_bestB := f_bestB) (f_bestC := f_bestC) (f_cells := f_cells) (f_depth := f_depth) (f_entries := f_entries) (f_outcome := f_outcome) (f_freeNow := f_freeNow) (f_lowest := f_lowest) (a_body := a_body) (a_lengths := a_lengths) (a_treeEnd := a_treeEnd) (a_accepted := a_accepted) (a_sig := a_sig) (a_sizes := a_sizes) (a_input := a_input) (a_result := a_result) (a_state := a_state) (a_reached := a_reached) (a_forms := a_forms) (a_heads := a_heads) (a_tails := a_tails) (a_freed := a_freed) (a_ints := a_ints) (a_lists := a_lists) (a_frameFn := a_frameFn) (a_framePc := a_framePc) (en := en) hf (by omega) hs hR hR8 hD hD8 hc hc2 hi ho hr
    refine ⟨st', a_reached, fm', c1, hW, fun post h => And.intro hv (nm_r eb ?_)⟩
    rw [ho]
    exact br_f (by decide) (br_f (by decide) (br_t rfl (hp _ h)))
  · obtain ⟨st', re', fm', c1, hW, hp⟩ := xs_ncons (f_parts := f_parts) (f_most := f_most) (f_functions := f_functions) (f_openFn := f_openFn) (f_lacking := f_lacking) (f_subject := f_subject) (f_wantedRest := f_wantedRest) (f_wantedLeft := f_wantedLeft) (f_formCount := f_formCount) (f_bestA := f_bestA) (f_bestB := f_bestB) (f_bestC := f_bestC) (f_cells := f_cells) (f_depth := f_depth) (f_entries := f_entries) (f_outcome := f_outcome) (f_freeNow := f_freeNow) (f_lowest := f_lowest) (a_body := a_body) (a_lengths := a_lengths) (a_treeEnd := a_treeEnd) (a_accepted := a_accepted) (a_sig := a_sig) (a_sizes := a_sizes) (a_input := a_input) (a_result := a_result) (a_state := a_state) (a_reached := a_reached) (a_forms := a_forms) (a_heads := a_heads) (a_tails := a_tails) (a_freed := a_freed) (a_ints := a_ints) (a_lists := a_lists) (a_frameFn := a_frameFn) (a_framePc := a_framePc) (en := en) hf (by have := (T4 (by omega)).1; omega) hs hP hP4 hc hc2 hi ho hr
    refine ⟨st', re', fm', c1, hW, fun post h => And.intro hv (nm_r eb ?_)⟩
    rw [ho]
    exact br_f (by decide) (br_f (by decide) (br_f (by decide) (br_t rfl (hp _ h))))
  · obtain ⟨st', re', fm', c1, hW, hp⟩ := xs_ncall (f_parts := f_parts) (f_most := f_most) (f_functions := f_functions) (f_openFn := f_openFn) (f_lacking := f_lacking) (f_subject := f_subject) (f_wantedRest := f_wantedRest) (f_wantedLeft := f_wantedLeft) (f_formCount := f_formCount) (f_bestA := f_bestA) (f_bestB := f_bestB) (f_bestC := f_bestC) (f_cells := f_cells) (f_depth := f_depth) (f_entries := f_entries) (f_outcome := f_outcome) (f_freeNow := f_freeNow) (f_lowest := f_lowest) (a_body := a_body) (a_lengths := a_lengths) (a_treeEnd := a_treeEnd) (a_accepted := a_accepted) (a_sig := a_sig) (a_sizes := a_sizes) (a_input := a_input) (a_result := a_result) (a_state := a_state) (a_reached := a_reached) (a_forms := a_forms) (a_heads := a_heads) (a_tails := a_tails) (a_freed := a_freed) (a_ints := a_ints) (a_lists := a_lists) (a_frameFn := a_frameFn) (a_framePc := a_framePc) (en := en) hf (by have := (T4 (by omega)).1; omega) hs hR hR8 hD hD8 hsig hc hc2 hi ho hr
    refine ⟨st', re', fm', c1, hW, fun post h => And.intro hv (nm_r eb ?_)⟩
    rw [ho]
    exact br_f (by decide) (br_f (by decide) (br_f (by decide) (br_f (by decide) (br_t rfl (hp _ h)))))
  · obtain ⟨T5, T6, T7⟩ := T4 (by omega)
    obtain ⟨T8, T9⟩ := T7 (by unfold pt_fk; omega)
    have T10 := (hT (k + 1) T5).1
    rcases ho with ho | ho
    · obtain ⟨st', re', fm', c1, hW, hp⟩ := xs_nmatch (f_parts := f_parts) (f_most := f_most) (f_functions := f_functions) (f_openFn := f_openFn) (f_lacking := f_lacking) (f_subject := f_subject) (f_wantedRest := f_wantedRest) (f_wantedLeft := f_wantedLeft) (f_formCount := f_formCount) (f_bestA := f_bestA) (f_bestB := f_bestB) (f_bestC := f_bestC) (f_cells := f_cells) (f_depth := f_depth) (f_entries := f_entries) (f_outcome := f_outcome) (f_freeNow := f_freeNow) (f_lowest := f_lowest) (a_body := a_body) (a_lengths := a_lengths) (a_treeEnd := a_treeEnd) (a_accepted := a_accepted) (a_sig := a_sig) (a_sizes := a_sizes) (a_input := a_input) (a_result := a_result) (a_state := a_state) (a_reached := a_reached) (a_forms := a_forms) (a_heads := a_heads) (a_tails := a_tails) (a_freed := a_freed) (a_ints := a_ints) (a_lists := a_lists) (a_frameFn := a_frameFn) (a_framePc := a_framePc) (gain := f_parts) (en := en) hf (by omega) hs hP hP4 (by unfold ty_gain; rw [if_pos ho]) hc hi (Or.inl ho) (by omega) T10 (hte (k + 1) T5) hr
      refine ⟨st', re', fm', c1, hW, fun post h => And.intro hv (nm_r eb ?_)⟩
      rw [ho]
      exact br_f (by decide) (br_f (by decide) (br_f (by decide) (br_f (by decide) (br_f (by decide) (br_t rfl (hp _ h))))))
    · obtain ⟨st', re', fm', c1, hW, hp⟩ := xs_nmatch (f_parts := f_parts) (f_most := f_most) (f_functions := f_functions) (f_openFn := f_openFn) (f_lacking := f_lacking) (f_subject := f_subject) (f_wantedRest := f_wantedRest) (f_wantedLeft := f_wantedLeft) (f_formCount := f_formCount) (f_bestA := f_bestA) (f_bestB := f_bestB) (f_bestC := f_bestC) (f_cells := f_cells) (f_depth := f_depth) (f_entries := f_entries) (f_outcome := f_outcome) (f_freeNow := f_freeNow) (f_lowest := f_lowest) (a_body := a_body) (a_lengths := a_lengths) (a_treeEnd := a_treeEnd) (a_accepted := a_accepted) (a_sig := a_sig) (a_sizes := a_sizes) (a_input := a_input) (a_result := a_result) (a_state := a_state) (a_reached := a_reached) (a_forms := a_forms) (a_heads := a_heads) (a_tails := a_tails) (a_freed := a_freed) (a_ints := a_ints) (a_lists := a_lists) (a_frameFn := a_frameFn) (a_framePc := a_framePc) (G := 0) (gain := 0) (en := en) hf (by omega) hs rfl (by omega) (by unfold ty_gain; rw [if_neg (by omega)]) hc hi (Or.inr ho) (by omega) T10 (hte (k + 1) T5) hr
      refine ⟨st', re', fm', c1, hW, fun post h => And.intro hv (nm_r eb ?_)⟩
      rw [ho]
      exact br_f (by decide) (br_f (by decide) (br_f (by decide) (br_f (by decide) (br_f (by decide) (br_f (by decide) (br_t rfl (hp _ h)))))))
  · obtain ⟨T5, T6, T7⟩ := T4 (by omega)
    obtain ⟨T8, T9⟩ := T7 (by unfold pt_fk; omega)
    have T10 := (hT (k + 1) T5).1
    subst hs
    obtain ⟨st', re', fm', c1, hW, hp⟩ := xs_nless (f_parts := f_parts) (f_most := f_most) (f_functions := f_functions) (f_openFn := f_openFn) (f_lacking := f_lacking) (f_subject := nI f) (f_wantedRest := f_wantedRest) (f_wantedLeft := f_wantedLeft) (f_formCount := f_formCount) (f_bestA := f_bestA) (f_bestB := f_bestB) (f_bestC := f_bestC) (f_cells := f_cells) (f_depth := f_depth) (f_entries := f_entries) (f_outcome := f_outcome) (f_freeNow := f_freeNow) (f_lowest := f_lowest) (a_body := a_body) (a_lengths := a_lengths) (a_treeEnd := a_treeEnd) (a_accepted := a_accepted) (a_sig := a_sig) (a_sizes := a_sizes) (a_input := a_input) (a_result := a_result) (a_state := a_state) (a_reached := a_reached) (a_forms := a_forms) (a_heads := a_heads) (a_tails := a_tails) (a_freed := a_freed) (a_ints := a_ints) (a_lists := a_lists) (a_frameFn := a_frameFn) (a_framePc := a_framePc) (en := en) hf (by omega) rfl hc ho (by omega) T10 (hte (k + 1) T5) hr
    refine ⟨st', re', fm', c1, hW, fun post h => And.intro hv (nm_r eb ?_)⟩
    rw [ho]
    exact br_f (by decide) (br_f (by decide) (br_f (by decide) (br_f (by decide) (br_f (by decide) (br_f (by decide) (br_f (by decide) (br_t rfl (hp _ h _ (fun _ _ z => z)))))))))
  · obtain ⟨st', re', fm', c1, hW, hp⟩ := xs_nadd (f_parts := f_parts) (f_most := f_most) (f_functions := f_functions) (f_openFn := f_openFn) (f_lacking := f_lacking) (f_subject := f_subject) (f_wantedRest := f_wantedRest) (f_wantedLeft := f_wantedLeft) (f_formCount := f_formCount) (f_bestA := f_bestA) (f_bestB := f_bestB) (f_bestC := f_bestC) (f_cells := f_cells) (f_depth := f_depth) (f_entries := f_entries) (f_outcome := f_outcome) (f_freeNow := f_freeNow) (f_lowest := f_lowest) (a_body := a_body) (a_lengths := a_lengths) (a_treeEnd := a_treeEnd) (a_accepted := a_accepted) (a_sig := a_sig) (a_sizes := a_sizes) (a_input := a_input) (a_result := a_result) (a_state := a_state) (a_reached := a_reached) (a_forms := a_forms) (a_heads := a_heads) (a_tails := a_tails) (a_freed := a_freed) (a_ints := a_ints) (a_lists := a_lists) (a_frameFn := a_frameFn) (a_framePc := a_framePc) (en := en) (by have := (T4 (by omega)).1; omega) hc ho hr
    refine ⟨st', re', fm', c1, hW, fun post h => And.intro hv (nm_r eb ?_)⟩
    rw [ho]
    exact br_f (by decide) (br_t (by decide) (hp _ h))
theorem xs_skip {post : SX → Prop} (hf : f < 4) (hs : f_subject = nI f) (hl : a_lengths f = nI n) (hn : n ≤ 12) : ∀ e k m, k + e ≤ n → (∀ j, k ≤ j → j < k + e → a_reached j = 0) → wX_gather_32 post m (nI (k + e)) f_parts f_most f_functions f_openFn f_lacking f_subject f_wantedRest f_wantedLeft f_formCount f_bestA f_bestB f_bestC f_cells f_depth f_entries f_outcome f_freeNow f_lowest a_body a_lengths a_treeEnd a_accepted a_sig a_sizes a_input a_result a_state a_reached a_forms a_heads a_tails a_freed a_ints a_lists a_frameFn a_framePc → wX_gather_32 post (m + e) (nI k) f_parts f_most f_functions f_openFn f_lacking f_subject f_wantedRest f_wantedLeft f_formCount f_bestA f_bestB f_bestC f_cells f_depth f_entries f_outcome f_freeNow f_lowest a_body a_lengths a_treeEnd a_accepted a_sig a_sizes a_input a_result a_state a_reached a_forms a_heads a_tails a_freed a_ints a_lists a_frameFn a_framePc := by
  intro e
  induction e with
  | zero => intro k m _ _ h; exact h
  | succ e ih =>
    intro k m hk hj h
    refine And.intro (by rw [hs]; exact vp_in_nI hf (by omega)) (br_f ?_ ⟨vp_in_nI (by omega) (by omega), br_t ?_ (nm_r (nI_1 k) (ih (k + 1) m (by omega) (fun j a b => hj j (by omega) (by omega)) ?_))⟩)
    · rw [hs, nI_clamp (by omega), hl]; exact nI_ge (by omega) (by omega)
    · rw [nI_clamp (by omega)]; exact hj k (by omega) (by omega)
    · rw [show k + 1 + e = k + (e + 1) by omega]; exact h
end
section
variable {f_parts f_most f_functions f_openFn f_lacking f_subject f_wantedRest f_wantedLeft f_formCount f_bestA f_bestB f_bestC f_cells f_depth f_entries f_outcome f_freeNow f_lowest : Int32} {a_body a_lengths a_treeEnd a_accepted a_sig a_sizes a_input a_result a_state a_reached a_forms a_heads a_tails a_freed a_ints a_lists a_frameFn a_framePc : Nat → Int32} {f n : Nat} {en : Nat → Nat}
theorem xs_tree {P R D : Nat} (hf : f < 4) (hl : a_lengths f = nI n) (hn : n ≤ 12) (hF : ∀ k, k < n → pt_Fi a_body f k) (hT : pt_TF (pt_o a_body f) en n) (hte : ∀ k, k < n → a_treeEnd (f * 12 + k) = nI (en k)) (hs : f_subject = nI f) (hP : f_parts = nI P) (hP4 : P ≤ 4) (hR : f_wantedRest = nI R) (hR8 : R ≤ 8) (hD : f_wantedLeft = nI D) (hD8 : D ≤ 8) (hsig : pt_KS a_sig) (post : SX → Prop) :
    ∀ (d k : Nat), k < n → n - k ≤ d → ∀ (m : Nat) (a_state a_reached a_forms : Nat → Int32) (c0 : Nat) (g : Prop) (kn bs : Nat → Nat), c0 ≤ 3 * k → (∀ j, k < j → j < en k → a_reached j = 0) → (¬ g → a_reached k = 0) → (g → a_reached k = 1 ∧ xs_RC (xs_row a_state k) k kn bs) →
    (∀ st' re' fm' c1, c1 ≤ 3 * en k → (∀ j, en k ≤ j → re' j = a_reached j ∧ ∀ i, i < 68 → xs_row st' j i = xs_row a_state j i) →
      (∃ Q : Int32 → Int32 → Int32 → Prop, xs_App a_forms fm' c0 c1 Q ∧ ∀ A B C rt pu ree, xs_RT a_sig f f_wantedRest f_wantedLeft A B C rt → (g → xs_E (xs_row a_state k) A B C pu ree) → (Q A B C ↔ (g → ty_chk (pt_o a_body f) (pt_p a_body f) (pt_q a_body f) (pt_r a_body f) en f f_parts rt d k (pu, ree, kn, bs)))) →
      wX_gather_32 post m (nI (en k)) f_parts f_most f_functions f_openFn f_lacking f_subject f_wantedRest f_wantedLeft (nI c1) f_bestA f_bestB f_bestC f_cells f_depth f_entries f_outcome f_freeNow f_lowest a_body a_lengths a_treeEnd a_accepted a_sig a_sizes a_input a_result (st') (re') (fm') a_heads a_tails a_freed a_ints a_lists a_frameFn a_framePc) →
    wX_gather_32 post (m + (en k - k)) (nI k) f_parts f_most f_functions f_openFn f_lacking f_subject f_wantedRest f_wantedLeft (nI c0) f_bestA f_bestB f_bestC f_cells f_depth f_entries f_outcome f_freeNow f_lowest a_body a_lengths a_treeEnd a_accepted a_sig a_sizes a_input a_result a_state a_reached a_forms a_heads a_tails a_freed a_ints a_lists a_frameFn a_framePc := by
  intro d
  induction d with
  | zero => intro k h1 h2; omega
  | succ d ih =>
    intro k hk hd m a_state a_reached a_forms c0 g kn bs hc hz hg0 hg1 cont
    obtain ⟨T1, T2, T3, T4⟩ := hT k hk
    by_cases hg : g
    · obtain ⟨hre, hr⟩ := hg1 hg
      obtain ⟨st1, re1, fm1, c1, ⟨w1, w2, ⟨Q1, w3, w4⟩, w5, w6⟩, hw⟩ := xs_walk (f_parts := f_parts) (f_most := f_most) (f_functions := f_functions) (f_openFn := f_openFn) (f_lacking := f_lacking) (f_subject := f_subject) (f_wantedRest := f_wantedRest) (f_wantedLeft := f_wantedLeft) (f_formCount := nI c0) (f_bestA := f_bestA) (f_bestB := f_bestB) (f_bestC := f_bestC) (f_cells := f_cells) (f_depth := f_depth) (f_entries := f_entries) (f_outcome := f_outcome) (f_freeNow := f_freeNow) (f_lowest := f_lowest) (a_body := a_body) (a_lengths := a_lengths) (a_treeEnd := a_treeEnd) (a_accepted := a_accepted) (a_sig := a_sig) (a_sizes := a_sizes) (a_input := a_input) (a_result := a_result) (a_state := a_state) (a_reached := a_reached) (a_forms := a_forms) (a_heads := a_heads) (a_tails := a_tails) (a_freed := a_freed) (a_ints := a_ints) (a_lists := a_lists) (a_frameFn := a_frameFn) (a_framePc := a_framePc) (en := en) (kn := kn) (bs := bs) hf hk hn hF hT hte hs hP hP4 hR hR8 hD hD8 hsig rfl (by omega) hr
      obtain ⟨c, hce⟩ : ∃ c, m + (en k - k) = c + 1 := ⟨m + (en k - k) - 1, by omega⟩
      rw [hce]
      refine And.intro (by rw [hs]; exact vp_in_nI hf (by omega)) (br_f (by rw [hs, nI_clamp (by omega), hl]; exact nI_ge hk (by omega)) ⟨vp_in_nI (by omega) (by omega), br_f (by rw [nI_clamp (by omega), hre]; decide) (hw _ (nm_r (nI_1 k) ?_))⟩)
      by_cases ho : pt_o a_body f k = 0
      · have e1 := T3 ho
        rw [show c = m by omega, ← e1]
        refine cont st1 re1 fm1 c1 (by omega) (fun j hj => w2 j (by omega) (fun z => z.1 ho) (fun z => by have := z.1; unfold pt_fk at this; omega)) ⟨Q1, w3, fun A B C rt pu ree hrt hE => ?_⟩
        rw [w4 A B C rt pu ree hrt (hE hg)]
        exact ⟨fun h _ => ⟨h, fun z => absurd ho z, fun z => by unfold pt_fk at z; omega⟩, fun h => (h hg).1⟩
      · obtain ⟨T5, T6, T7⟩ := T4 ho
        obtain ⟨ch0, ch1⟩ := w5 ho
        have Tk := hT (k + 1) T5
        by_cases hfk : pt_fk (pt_o a_body f k)
        · obtain ⟨T8, T9⟩ := T7 hfk
          have Tt := hT (en (k + 1)) T8
          obtain ⟨dh0, dh1⟩ := w6 hfk
          have hz1 : ∀ j, k + 1 < j → j ≠ en (k + 1) → j < en k → re1 j = 0 := fun j a b c => (w2 j (by omega) (fun z => by omega) (fun z => b z.2)).1.trans (hz j (by omega) c)
          rw [show c = (m + (en k - en (k + 1))) + (en (k + 1) - (k + 1)) by omega]
          obtain ⟨kn1, bs1, hc1⟩ : ∃ kn1 bs1 : Nat → Nat, ty_g1 (pt_o a_body f) (pt_p a_body f) k (0, fun _ => 0, kn, bs) → re1 (k + 1) = 1 ∧ xs_RC (xs_row st1 (k + 1)) (k + 1) kn1 bs1 ∧ ∀ A B C rt pu ree, xs_RT a_sig f f_wantedRest f_wantedLeft A B C rt → xs_E (xs_row a_state k) A B C pu ree → ∃ pu1 re1', ty_f1 (pt_o a_body f) (pt_p a_body f) (pt_q a_body f) (pt_r a_body f) f_parts rt k (pu, ree, kn, bs) = (pu1, re1', kn1, bs1) ∧ xs_E (xs_row st1 (k + 1)) A B C pu1 re1' := by
            by_cases hgg : ty_g1 (pt_o a_body f) (pt_p a_body f) k (0, fun _ => 0, kn, bs)
            · obtain ⟨x1, x2, x3, x4⟩ := ch1 hgg
              exact ⟨x2, x3, fun _ => ⟨x1, x4⟩⟩
            · exact ⟨fun _ => 0, fun _ => 0, fun z => absurd z hgg⟩
          obtain ⟨kn2, bs2, hc2⟩ : ∃ kn1 bs1 : Nat → Nat, ty_g2 (pt_o a_body f) (pt_p a_body f) k (0, fun _ => 0, kn, bs) → re1 (en (k + 1)) = 1 ∧ xs_RC (xs_row st1 (en (k + 1))) (en (k + 1)) kn1 bs1 ∧ ∀ A B C rt pu ree, xs_RT a_sig f f_wantedRest f_wantedLeft A B C rt → xs_E (xs_row a_state k) A B C pu ree → ∃ pu1 re1', ty_f2 (pt_o a_body f) (pt_p a_body f) (pt_r a_body f) f_parts k (pu, ree, kn, bs) = (pu1, re1', kn1, bs1) ∧ xs_E (xs_row st1 (en (k + 1))) A B C pu1 re1' := by
            by_cases hgg : ty_g2 (pt_o a_body f) (pt_p a_body f) k (0, fun _ => 0, kn, bs)
            · obtain ⟨x1, x2, x3, x4⟩ := dh1 hgg
              exact ⟨x2, x3, fun _ => ⟨x1, x4⟩⟩
            · exact ⟨fun _ => 0, fun _ => 0, fun z => absurd z hgg⟩
          refine ih (k + 1) T5 (by omega) _ st1 re1 fm1 c1 (ty_g1 (pt_o a_body f) (pt_p a_body f) k (0, fun _ => 0, kn, bs)) kn1 bs1 (by omega) (fun j a b => hz1 j a (by omega) (by omega)) (fun z => (ch0 z).trans (hz (k + 1) (by omega) (by omega))) (fun z => ⟨(hc1 z).1, (hc1 z).2.1⟩) ?_
          intro st2 re2 fm2 c2 l2 u2 hQ2
          obtain ⟨Q2, a2, q2⟩ := hQ2
          rw [show en k - en (k + 1) = en (en (k + 1)) - en (k + 1) by omega]
          refine ih (en (k + 1)) T8 (by omega) m st2 re2 fm2 c2 (ty_g2 (pt_o a_body f) (pt_p a_body f) k (0, fun _ => 0, kn, bs)) kn2 bs2 l2 (fun j a b => (u2 j (by omega)).1.trans (hz1 j (by omega) (by omega) (by omega))) (fun z => (u2 _ (by omega)).1.trans ((dh0 z).trans (hz _ (by omega) (by omega)))) (fun z => ⟨(u2 _ (by omega)).1.trans (hc2 z).1, xs_R_c (u2 _ (by omega)).2 (hc2 z).2.1⟩) ?_
          intro st3 re3 fm3 c3 l3 u3 hQ3
          obtain ⟨Q3, a3, q3⟩ := hQ3
          rw [← T9] at l3 u3 ⊢
          refine cont st3 re3 fm3 c3 l3 (fun j hj => ?_) ⟨_, xs_AppT w3 (xs_AppT a2 a3), fun A B C rt pu ree hrt hE => ?_⟩
          · have j1 := u3 j hj
            have j2 := u2 j (by omega)
            have j3 := w2 j (by omega) (fun z => by omega) (fun z => by omega)
            exact ⟨j1.1.trans (j2.1.trans j3.1), fun i hi => (j1.2 i hi).trans ((j2.2 i hi).trans (j3.2 i hi))⟩
          · have hE' := hE hg
            have z1 := w4 A B C rt pu ree hrt hE'
            have z2 : Q2 A B C ↔ (ty_g1 (pt_o a_body f) (pt_p a_body f) k (pu, ree, kn, bs) → ty_chk (pt_o a_body f) (pt_p a_body f) (pt_q a_body f) (pt_r a_body f) en f f_parts rt d (k + 1) (ty_f1 (pt_o a_body f) (pt_p a_body f) (pt_q a_body f) (pt_r a_body f) f_parts rt k (pu, ree, kn, bs))) := by
              by_cases hgg : ty_g1 (pt_o a_body f) (pt_p a_body f) k (0, fun _ => 0, kn, bs)
              · obtain ⟨pu1, re1', x1, x2⟩ := (hc1 hgg).2.2 A B C rt pu ree hrt hE'
                rw [x1]
                exact q2 A B C rt pu1 re1' hrt (fun _ => x2)
              · exact (q2 A B C rt 0 (fun _ => 0) hrt (fun z => absurd z hgg)).trans ⟨fun _ z => absurd z hgg, fun _ z => absurd z hgg⟩
            have z3 : Q3 A B C ↔ (ty_g2 (pt_o a_body f) (pt_p a_body f) k (pu, ree, kn, bs) → ty_chk (pt_o a_body f) (pt_p a_body f) (pt_q a_body f) (pt_r a_body f) en f f_parts rt d (en (k + 1)) (ty_f2 (pt_o a_body f) (pt_p a_body f) (pt_r a_body f) f_parts k (pu, ree, kn, bs))) := by
              by_cases hgg : ty_g2 (pt_o a_body f) (pt_p a_body f) k (0, fun _ => 0, kn, bs)
              · obtain ⟨pu1, re1', x1, x2⟩ := (hc2 hgg).2.2 A B C rt pu ree hrt hE'
                rw [x1]
                exact q3 A B C rt pu1 re1' hrt (fun _ => xs_E_c (fun i hi => (u2 _ (by omega)).2 i (by omega)) x2)
              · exact (q3 A B C rt 0 (fun _ => 0) hrt (fun z => absurd z hgg)).trans ⟨fun _ z => absurd z hgg, fun _ z => absurd z hgg⟩
            show (Q1 A B C ∧ Q2 A B C ∧ Q3 A B C) ↔ _
            rw [z1, z2, z3]
            exact ⟨fun h _ => ⟨h.1, fun _ => h.2.1, fun _ => h.2.2⟩, fun h => ⟨(h hg).1, (h hg).2.1 ho, (h hg).2.2 hfk⟩⟩
        · have hgg : ty_g1 (pt_o a_body f) (pt_p a_body f) k (0, fun _ => 0, kn, bs) := fun e => absurd (by unfold ty_mt at e; unfold pt_fk; omega) hfk
          have T9 := T6 hfk
          obtain ⟨x1, kn1, bs1, x3, x4⟩ := ch1 hgg
          have hz1 : ∀ j, k + 1 < j → j < en k → re1 j = 0 := fun j a c => (w2 j (by omega) (fun z => by omega) (fun z => hfk z.1)).1.trans (hz j (by omega) c)
          rw [show c = m + (en (k + 1) - (k + 1)) by omega]
          refine ih (k + 1) T5 (by omega) m st1 re1 fm1 c1 True kn1 bs1 (by omega) (fun j a b => hz1 j a (by omega)) (fun z => absurd trivial z) (fun _ => ⟨x1, x3⟩) ?_
          intro st2 re2 fm2 c2 l2 u2 hQ2
          obtain ⟨Q2, a2, q2⟩ := hQ2
          rw [← T9] at l2 u2 ⊢
          refine cont st2 re2 fm2 c2 l2 (fun j hj => ?_) ⟨_, xs_AppT w3 a2, fun A B C rt pu ree hrt hE => ?_⟩
          · have j2 := u2 j hj
            have j3 := w2 j (by omega) (fun z => by omega) (fun z => hfk z.1)
            exact ⟨j2.1.trans j3.1, fun i hi => (j2.2 i hi).trans (j3.2 i hi)⟩
          · have hE' := hE hg
            have z1 := w4 A B C rt pu ree hrt hE'
            obtain ⟨pu1, re1', y1, y2⟩ := x4 A B C rt pu ree hrt hE'
            have z2 := q2 A B C rt pu1 re1' hrt (fun _ => y2)
            show (Q1 A B C ∧ Q2 A B C) ↔ _
            rw [z1, z2, ← y1]
            exact ⟨fun h _ => ⟨h.1, fun _ _ => h.2 trivial, fun z => absurd z hfk⟩, fun h => ⟨(h hg).1, fun _ => (h hg).2.1 ho hgg⟩⟩
    · refine xs_skip (n := n) hf hs hl hn (en k - k) k m (by omega) (fun j a b => ?_) ?_
      · rcases Nat.lt_or_ge k j with h | h
        · exact hz j h (by omega)
        · obtain rfl : j = k := by omega
          exact hg0 hg
      · rw [show k + (en k - k) = en k by omega]
        exact cont a_state a_reached a_forms c0 (by omega) (fun j hj => ⟨rfl, fun i hi => rfl⟩) ⟨_, xs_App0, fun A B C rt pu ree _ _ => ⟨fun _ z => absurd z hg, fun _ => trivial⟩⟩
end
end
section
/-! gather from its start -/
def xs_z0 (i : Nat) : Int32 := if i = 0 ∨ i = 5 ∨ i = 58 ∨ i = 65 then 1 else if i = 66 ∨ i = 67 then -1 else 0
def xs_Z (st : Nat → Int32) : Nat → Int32 := xs_ss (xs_ss (xs_ss (xs_ss (upd (upd (upd (ba_cp st (fun _ => 0) 0 0 68) 0 1) 5 1) 58 1) 0 0 0 0) 0 1 0 1) 0 2 0 (-1)) 0 3 0 (-1)
theorem xs_Z_e {st : Nat → Int32} : ∀ i, i < 68 → xs_row (xs_Z st) 0 i = xs_z0 i := by
  intro i hi
  by_cases h : 60 ≤ i
  · rcases (by omega : i = 60 ∨ i = 61 ∨ i = 62 ∨ i = 63 ∨ i = 64 ∨ i = 65 ∨ i = 66 ∨ i = 67) with rfl | rfl | rfl | rfl | rfl | rfl | rfl | rfl <;> rfl
  · by_cases h0 : i = 0
    · subst h0; rfl
    by_cases h5 : i = 5
    · subst h5; rfl
    by_cases h58 : i = 58
    · subst h58; rfl
    unfold xs_row xs_Z xs_ss xs_z0
    rw [if_neg (by omega), if_neg (by omega), pk_un (by omega), pk_un (by omega), pk_un (by omega), pk_un (by omega), pk_un (by omega), pk_un (by omega), pk_un (by omega), pk_un (by omega), pk_un (by omega), pk_un (by omega), pk_un (by omega), ba_cpi (by omega) (by omega)]
theorem xs_z0_le (i B : Nat) (hB : 1 ≤ B) : xs_le (xs_z0 i) B := by
  have h1 : (1 : Int32).toInt = 1 := by decide
  have hm : (-1 : Int32).toInt = -1 := by decide
  have h0 : (0 : Int32).toInt = 0 := by decide
  unfold xs_z0 xs_le
  split
  · rw [h1]; omega
  · split
    · rw [hm]; omega
    · rw [h0]; omega
theorem xs_z0_R : xs_RC xs_z0 0 (fun _ => 0) ty_b0 := by
  refine ⟨fun j hj => ?_, fun i hi => xs_z0_le _ _ (by omega), fun i hi => xs_z0_le _ _ (by omega), fun i h1 h2 => ?_⟩
  · rcases (by omega : j = 0 ∨ j = 1 ∨ j = 2 ∨ j = 3) with rfl | rfl | rfl | rfl <;> decide
  · unfold xs_z0
    rw [if_neg (by omega), if_neg (by omega)]
theorem xs_z0_E (A B C : Int32) : xs_E xs_z0 A B C C (ty_r0 A B) := by
  have g0 : ∀ A B C : Int32, C = 0 * A + 0 * B + 1 * C + 0 := by intro A B C; grind
  have g1 : ∀ A B C : Int32, A = 1 * A + 0 * B + 0 * C + 0 := by intro A B C; grind
  have g2 : ∀ A B C : Int32, B = 0 * A + 1 * B + 0 * C + 0 := by intro A B C; grind
  have g3 : ∀ A B C : Int32, (0 : Int32) = 0 * A + 0 * B + 0 * C + 0 := by intro A B C; grind
  refine ⟨g0 A B C, fun b hb => ?_⟩
  by_cases h0 : b = 0
  · subst h0; exact g1 A B C
  by_cases h1 : b = 1
  · subst h1; exact g2 A B C
  have z : ∀ i, 8 ≤ i → i < 56 → xs_z0 i = 0 := fun i a b => by
    unfold xs_z0
    rw [if_neg (by omega), if_neg (by omega)]
  unfold ty_r0
  rw [if_neg (by omega), if_neg (by omega), z _ (by omega) (by omega), z _ (by omega) (by omega), z _ (by omega) (by omega), z _ (by omega) (by omega)]
  exact g3 A B C
section
variable {f_parts f_most f_functions f_openFn f_lacking f_subject f_wantedRest f_wantedLeft f_formCount f_bestA f_bestB f_bestC f_cells f_depth f_entries f_outcome f_freeNow f_lowest : Int32} {a_body a_lengths a_treeEnd a_accepted a_sig a_sizes a_input a_result a_state a_reached a_forms a_heads a_tails a_freed a_ints a_lists a_frameFn a_framePc : Nat → Int32} {f n : Nat} {en : Nat → Nat} {post : SX → Prop}
theorem xs_start (h : post (f_parts, f_most, f_functions, f_openFn, f_lacking, f_subject, f_wantedRest, f_wantedLeft, f_formCount, f_bestA, f_bestB, f_bestC, f_cells, f_depth, f_entries, f_outcome, f_freeNow, f_lowest, a_body, a_lengths, a_treeEnd, a_accepted, a_sig, a_sizes, a_input, a_result, xs_Z a_state, upd a_reached 0 1, a_forms, a_heads, a_tails, a_freed, a_ints, a_lists, a_frameFn, a_framePc)) : wpX_startState post (f_parts, f_most, f_functions, f_openFn, f_lacking, f_subject, f_wantedRest, f_wantedLeft, f_formCount, f_bestA, f_bestB, f_bestC, f_cells, f_depth, f_entries, f_outcome, f_freeNow, f_lowest, a_body, a_lengths, a_treeEnd, a_accepted, a_sig, a_sizes, a_input, a_result, a_state, a_reached, a_forms, a_heads, a_tails, a_freed, a_ints, a_lists, a_frameFn, a_framePc) := by
  have go : ∀ d i, i + d = 68 → wX_startState_2 post f_parts f_most f_functions f_openFn f_lacking f_subject f_wantedRest f_wantedLeft f_formCount f_bestA f_bestB f_bestC f_cells f_depth f_entries f_outcome f_freeNow f_lowest (d + 1) (nI i) a_body a_lengths a_treeEnd a_accepted a_sig a_sizes a_input a_result (ba_cp a_state (fun _ => 0) 0 0 i) a_reached a_forms a_heads a_tails a_freed a_ints a_lists a_frameFn a_framePc := by
    intro d
    induction d with
    | zero =>
      intro i hi
      obtain rfl : i = 68 := by omega
      refine br_t (by decide) (nm_e (nm_e (nm_e ?_)))
      refine xs_set (s := 0) (j := 0) (by omega) (by omega) ?_
      refine xs_set (s := 0) (j := 1) (by omega) (by omega) ?_
      refine xs_set (s := 0) (j := 2) (by omega) (by omega) ?_
      refine xs_set (s := 0) (j := 3) (by omega) (by omega) ?_
      refine nm_r (e' := upd a_reached 0 1) (by rw [ba_nb1]) ?_
      exact h
    | succ d ih =>
      intro i hi
      refine br_f (nI_ge (b := 68) (by omega) (by omega)) ⟨vp_in_nI (by omega) (by omega), nm_r (e' := ba_cp a_state (fun _ => 0) 0 0 (i + 1)) ?_ (nm_r (nI_1 i) (ih (i + 1) (by omega)))⟩
      rw [nI_clamp (by omega), ← ba_cps, Nat.zero_add]
  have := go 68 0 (by omega)
  rw [ba_cp0] at this
  exact Exists.intro 69 this
theorem xs_gather {P R D : Nat} (hf : f < 4) (hl : a_lengths f = nI n) (hn1 : 1 ≤ n) (hn : n ≤ 12) (hF : ∀ k, k < n → pt_Fi a_body f k) (hT : pt_TF (pt_o a_body f) en n) (he : en 0 = n) (hte : ∀ k, k < n → a_treeEnd (f * 12 + k) = nI (en k)) (hs : f_subject = nI f) (hP : f_parts = nI P) (hP4 : P ≤ 4) (hR : f_wantedRest = nI R) (hR8 : R ≤ 8) (hD : f_wantedLeft = nI D) (hD8 : D ≤ 8) (hsig : pt_KS a_sig)
    (h : ∀ st' re' fm' c1, c1 ≤ 36 → (∀ x, x < c1 * 4 → xs_le (fm' x) 5000) → (∀ A B C rt, xs_RT a_sig f f_wantedRest f_wantedLeft A B C rt → (xs_NN fm' A B C 0 c1 ↔ ty_chk (pt_o a_body f) (pt_p a_body f) (pt_q a_body f) (pt_r a_body f) en f f_parts rt n 0 (ty_t0 A B C))) →
      post (f_parts, f_most, f_functions, f_openFn, f_lacking, f_subject, f_wantedRest, f_wantedLeft, nI c1, f_bestA, f_bestB, f_bestC, f_cells, f_depth, f_entries, f_outcome, f_freeNow, f_lowest, a_body, a_lengths, a_treeEnd, a_accepted, a_sig, a_sizes, a_input, a_result, st', re', fm', a_heads, a_tails, a_freed, a_ints, a_lists, a_frameFn, a_framePc)) : wpX_gather post (f_parts, f_most, f_functions, f_openFn, f_lacking, f_subject, f_wantedRest, f_wantedLeft, f_formCount, f_bestA, f_bestB, f_bestC, f_cells, f_depth, f_entries, f_outcome, f_freeNow, f_lowest, a_body, a_lengths, a_treeEnd, a_accepted, a_sig, a_sizes, a_input, a_result, a_state, a_reached, a_forms, a_heads, a_tails, a_freed, a_ints, a_lists, a_frameFn, a_framePc) := by
  have go : ∀ d i, i + d = 12 → wX_gather_7 post f_parts f_most f_functions f_openFn f_lacking f_subject f_wantedRest f_wantedLeft 0 f_bestA f_bestB f_bestC f_cells f_depth f_entries f_outcome f_freeNow f_lowest (d + 1) (nI i) a_body a_lengths a_treeEnd a_accepted a_sig a_sizes a_input a_result a_state (ba_cp a_reached (fun _ => 0) 0 0 i) a_forms a_heads a_tails a_freed a_ints a_lists a_frameFn a_framePc := by
    intro d
    induction d with
    | zero =>
      intro i hi
      obtain rfl : i = 12 := by omega
      refine br_t (by decide) (xs_start ⟨1 + (en 0 - 0), ?_⟩)
      refine xs_tree (c0 := 0) (en := en) (n := n) hf hl hn hF hT hte hs hP hP4 hR hR8 hD hD8 hsig post n 0 (by omega) (by omega) 1 _ _ _ True (fun _ => 0) ty_b0 (by omega) (fun j a b => ?_) (fun z => absurd trivial z) (fun _ => ⟨pk_us, xs_R_c xs_Z_e xs_z0_R⟩) ?_
      · rw [pk_un (by omega), ba_cpi (by omega) (by omega)]
      · intro st' re' fm' c1 l1 u1 hQ
        obtain ⟨Q, ⟨a1, a2, a3, a4⟩, q⟩ := hQ
        rw [he]
        refine And.intro (by rw [hs]; exact vp_in_nI hf (by omega)) (br_t (by rw [hs, nI_clamp (by omega), hl]; exact nI_le (by omega) (by omega)) (h st' re' fm' c1 (by omega) (fun x hx => a3 x (by omega) hx) (fun A B C rt hrt => ?_)))
        rw [a4, q A B C rt C (ty_r0 A B) hrt (fun _ => xs_E_c (fun i hi => xs_Z_e i (by omega)) (xs_z0_E A B C))]
        exact ⟨fun z => z trivial, fun z _ => z⟩
    | succ d ih =>
      intro i hi
      refine br_f (nI_ge (b := 12) (by omega) (by omega)) ⟨vp_in_nI (by omega) (by omega), nm_r (e' := ba_cp a_reached (fun _ => 0) 0 0 (i + 1)) ?_ (nm_r (nI_1 i) (ih (i + 1) (by omega)))⟩
      rw [nI_clamp (by omega), ba_nb0, ← ba_cps, Nat.zero_add]
  have := go 12 0 (by omega)
  rw [ba_cp0] at this
  exact Exists.intro 13 this
end
end
section
/-! leastC: an interval for C -/
theorem lc_mul {x : Int32} {a : Nat} (hx : xs_le x 5000) (ha : a ≤ 8) : (x * nI a).toInt = x.toInt * (a : Int) ∧ xs_le (x * nI a) 40000 := by
  have e : (x * nI a).toInt = x.toInt * (a : Int) := by
    rw [Int32.toInt_mul, nI_toInt (by omega)]
    unfold xs_le at hx
    rcases (by omega : a = 0 ∨ a = 1 ∨ a = 2 ∨ a = 3 ∨ a = 4 ∨ a = 5 ∨ a = 6 ∨ a = 7 ∨ a = 8) with rfl | rfl | rfl | rfl | rfl | rfl | rfl | rfl | rfl <;> exact Int.bmod_eq_of_le (by omega) (by omega)
  refine ⟨e, ?_⟩
  unfold xs_le at hx ⊢
  rw [e]
  rcases (by omega : a = 0 ∨ a = 1 ∨ a = 2 ∨ a = 3 ∨ a = 4 ∨ a = 5 ∨ a = 6 ∨ a = 7 ∨ a = 8) with rfl | rfl | rfl | rfl | rfl | rfl | rfl | rfl | rfl <;> omega
/-- the value of a form without C -/
def lc_v (fm : Nat → Int32) (a b : Nat) (i : Nat) : Int32 := fm (i * 4) * nI a + fm (i * 4 + 1) * nI b + fm (i * 4 + 3)
theorem lc_vle {fm : Nat → Int32} {a b i n : Nat} (hb : ∀ x, x < n * 4 → xs_le (fm x) 5000) (hi : i < n) (ha : a ≤ 8) (hb8 : b ≤ 8) : xs_le (lc_v fm a b i) 85000 :=
  xs_le_a (xs_le_a (lc_mul (hb _ (by omega)) ha).2 (lc_mul (hb _ (by omega)) hb8).2 (by omega) (by omega)) (hb _ (by omega)) (by omega) (by omega)
theorem lc_ring (x y z w A B C : Int32) : x * A + y * B + z * C + w = (x * A + y * B + w) + z * C := by grind
theorem lc_fv {fm : Nat → Int32} {a b c i n : Nat} (hb : ∀ x, x < n * 4 → xs_le (fm x) 5000) (hi : i < n) (ha : a ≤ 8) (hb8 : b ≤ 8) (hc : c ≤ 8) :
    (xs_fv fm (nI a) (nI b) (nI c) i).toInt = (lc_v fm a b i).toInt + (fm (i * 4 + 2)).toInt * (c : Int) := by
  have hv := lc_vle hb hi ha hb8
  have hm := lc_mul (hb (i * 4 + 2) (by omega)) hc
  unfold xs_fv
  rw [lc_ring]
  show (lc_v fm a b i + fm (i * 4 + 2) * nI c).toInt = _
  rw [Int32.toInt_add, hm.1]
  have h2 := hm.2
  unfold xs_le at hv h2
  rw [hm.1] at h2
  exact Int.bmod_eq_of_le (by omega) (by omega)
theorem lc_0le (x : Int32) : (0 : Int32) ≤ x ↔ 0 ≤ x.toInt := by rw [Int32.le_iff_toInt_le, ba_t0]
/-- the four kinds of a form -/
theorem lc_A {F V : Int} {c : Int} (hF : 0 < F) : (F - 1 - V) / F ≤ c ↔ 0 ≤ V + F * c := by
  have h := Int.ediv_lt_iff_lt_mul (a := F - 1 - V) (b := c + 1) hF
  rw [Int.add_mul, Int.one_mul, Int.mul_comm c F] at h
  constructor
  · intro h1
    have := h.mp (by omega)
    omega
  · intro h1
    have := h.mpr (by omega)
    omega
theorem lc_D {F V : Int} {c : Int} (hF : F < 0) : c ≤ V / (-F) ↔ 0 ≤ V + F * c := by
  have h := Int.le_ediv_iff_mul_le (a := c) (b := V) (show 0 < -F by omega)
  rw [h, Int.mul_neg, Int.mul_comm c F]
  omega
section
variable {f_parts f_most f_functions f_openFn f_lacking f_subject f_wantedRest f_wantedLeft f_formCount f_bestA f_bestB f_bestC f_cells f_depth f_entries f_outcome f_freeNow f_lowest : Int32} {a_body a_lengths a_treeEnd a_accepted a_sig a_sizes a_input a_result a_state a_reached a_forms a_heads a_tails a_freed a_ints a_lists a_frameFn a_framePc : Nat → Int32} {m n a b : Nat} {post : Int32 → Prop}
theorem xs_least (hm : f_most = nI m) (hm8 : m ≤ 8) (hc : f_formCount = nI n) (hn : n ≤ 36) (hb : ∀ x, x < n * 4 → xs_le (a_forms x) 5000) (ha : a ≤ 8) (hb8 : b ≤ 8)
    (h0 : (∀ c, c ≤ m → ¬ xs_NN a_forms (nI a) (nI b) (nI c) 0 n) → post (-1))
    (h1 : ∀ c, c ≤ m → xs_NN a_forms (nI a) (nI b) (nI c) 0 n → (∀ c', c' < c → ¬ xs_NN a_forms (nI a) (nI b) (nI c') 0 n) → post (nI c)) : wpX_leastC post (f_parts, f_most, f_functions, f_openFn, f_lacking, f_subject, f_wantedRest, f_wantedLeft, f_formCount, f_bestA, f_bestB, f_bestC, f_cells, f_depth, f_entries, f_outcome, f_freeNow, f_lowest, a_body, a_lengths, a_treeEnd, a_accepted, a_sig, a_sizes, a_input, a_result, a_state, a_reached, a_forms, a_heads, a_tails, a_freed, a_ints, a_lists, a_frameFn, a_framePc) (nI a) (nI b) := by
  subst hm hc
  have go : ∀ (d i lo hi : Nat), i + d = n → lo < 200000 → hi ≤ m → (∀ c, c ≤ m → (xs_NN a_forms (nI a) (nI b) (nI c) 0 i ↔ lo ≤ c ∧ c ≤ hi)) → wX_leastC_11 post (nI a) (nI b) f_parts (nI m) f_functions f_openFn f_lacking f_subject f_wantedRest f_wantedLeft (nI n) f_bestA f_bestB f_bestC f_cells f_depth f_entries f_outcome f_freeNow f_lowest a_body a_lengths a_treeEnd a_accepted a_sig a_sizes a_input a_result a_state a_reached a_forms a_heads a_tails a_freed a_ints a_lists a_frameFn a_framePc (d + 1) (nI lo) (nI hi) (nI i) := by
    intro d
    induction d with
    | zero =>
      intro i lo hi hid hlo hhi H
      obtain rfl : i = n := by omega
      refine br_t (nI_le (by omega) (by omega)) (pk_lt hi lo (fun h => h0 (fun c hcm hN => ?_)) (fun h => h1 lo (by omega) ((H lo (by omega)).mpr ⟨by omega, by omega⟩) (fun c' hc' hN => ?_)))
      · have := (H c hcm).mp hN; omega
      · have := (H c' (by omega)).mp hN; omega
    | succ d ih =>
      intro i lo hi hid hlo hhi H
      have hin : i < n := by omega
      have hf2 := hb (i * 4 + 2) (by omega)
      have hv := lc_vle (a := a) (b := b) hb hin ha hb8
      have hstep : ∀ c, c ≤ m → (xs_NN a_forms (nI a) (nI b) (nI c) 0 (i + 1) ↔ xs_NN a_forms (nI a) (nI b) (nI c) 0 i ∧ 0 ≤ (lc_v a_forms a b i).toInt + (a_forms (i * 4 + 2)).toInt * (c : Int)) := by
        intro c hcm
        rw [← lc_fv hb hin ha hb8 (by omega), ← lc_0le]
        refine ⟨fun h => ⟨fun j j1 j2 => h j j1 (by omega), h i (by omega) (by omega)⟩, fun h j j1 j2 => ?_⟩
        rcases Nat.lt_or_ge j i with h' | h'
        · exact h.1 j j1 h'
        · obtain rfl : j = i := by omega
          exact h.2
      have i0 : vp_in (nI i * 4) 144 := by rw [ba_m4]; exact vp_in_nI (by omega) (by omega)
      have i1 : vp_in (nI i * 4 + 1) 144 := by rw [ba_m4, nI_1]; exact vp_in_nI (by omega) (by omega)
      have i2 : vp_in (nI i * 4 + 2) 144 := by rw [ba_m4, ba_2]; exact vp_in_nI (by omega) (by omega)
      have i3 : vp_in (nI i * 4 + 3) 144 := by rw [ba_m4, ba_3]; exact vp_in_nI (by omega) (by omega)
      have ev : a_forms (nI i * 4).toNatClampNeg * nI a + a_forms (nI i * 4 + 1).toNatClampNeg * nI b + a_forms (nI i * 4 + 3).toNatClampNeg = lc_v a_forms a b i := by
        rw [ba_m4, nI_1, ba_3, nI_clamp (by omega), nI_clamp (by omega), nI_clamp (by omega)]; rfl
      refine br_f (nI_ge hin (by omega)) ⟨i2, nm_r (e' := a_forms (i * 4 + 2)) (by rw [ba_m4, ba_2, nI_clamp (by omega)]) ⟨i0, i1, i3, nm_r ev ?_⟩⟩
      generalize hF : a_forms (i * 4 + 2) = F at *
      generalize hV : lc_v a_forms a b i = V at *
      have hf2' := hf2
      have hv' := hv
      unfold xs_le at hf2' hv'
      -- the next round with the interval as it is
      have same : (∀ c, c ≤ m → 0 ≤ V.toInt + F.toInt * (c : Int)) → wX_leastC_11 post (nI a) (nI b) f_parts (nI m) f_functions f_openFn f_lacking f_subject f_wantedRest f_wantedLeft (nI n) f_bestA f_bestB f_bestC f_cells f_depth f_entries f_outcome f_freeNow f_lowest a_body a_lengths a_treeEnd a_accepted a_sig a_sizes a_input a_result a_state a_reached a_forms a_heads a_tails a_freed a_ints a_lists a_frameFn a_framePc (d + 1) (nI lo) (nI hi) (nI (i + 1)) := fun hall => ih (i + 1) lo hi (by omega) hlo hhi (fun c hcm => by rw [hstep c hcm, H c hcm]; exact ⟨fun z => z.1, fun z => ⟨z, hall c hcm⟩⟩)
      have j122 : 0 ≤ V.toInt → wX_leastC_122 post (wX_leastC_11 post (nI a) (nI b) f_parts (nI m) f_functions f_openFn f_lacking f_subject f_wantedRest f_wantedLeft (nI n) f_bestA f_bestB f_bestC f_cells f_depth f_entries f_outcome f_freeNow f_lowest a_body a_lengths a_treeEnd a_accepted a_sig a_sizes a_input a_result a_state a_reached a_forms a_heads a_tails a_freed a_ints a_lists a_frameFn a_framePc (d + 1)) (nI a) (nI b) (nI lo) (nI hi) (nI i) F V f_parts (nI m) f_functions f_openFn f_lacking f_subject f_wantedRest f_wantedLeft (nI n) f_bestA f_bestB f_bestC f_cells f_depth f_entries f_outcome f_freeNow f_lowest a_body a_lengths a_treeEnd a_accepted a_sig a_sizes a_input a_result a_state a_reached a_forms a_heads a_tails a_freed a_ints a_lists a_frameFn a_framePc := by
        intro hV0
        by_cases hF0 : 0 ≤ F
        · refine br_t hF0 (nm_r (nI_1 i) (same (fun c hcm => ?_)))
          rw [lc_0le] at hF0
          have := Int.mul_nonneg hF0 (show (0 : Int) ≤ (c : Int) by omega)
          omega
        · have hF1 : F.toInt < 0 := by rw [lc_0le] at hF0; omega
          have hneg : (-F).toInt = -F.toInt := by
            rw [Int32.toInt_neg]
            exact Int.bmod_eq_of_le (by omega) (by omega)
          have hq : (V / -F).toInt = V.toInt / (-F.toInt) := by
            rw [lg_idiv_nonneg hV0 (by omega), hneg]
          have hq0 : 0 ≤ V.toInt / (-F.toInt) := Int.ediv_nonneg hV0 (by omega)
          have hq1 : V.toInt / (-F.toInt) ≤ V.toInt := Int.ediv_le_self _ hV0
          obtain ⟨w, hw, ew⟩ : ∃ w : Nat, (w : Int) = V.toInt / (-F.toInt) ∧ V / -F = nI w := by
            refine ⟨(V.toInt / (-F.toInt)).toNat, by omega, ?_⟩
            rw [← Int32.toInt_inj, nI_toInt (by omega), hq]
            omega
          refine br_f hF0 ⟨?_, nm_r ew (pk_le hi w (fun hle => nm_r (nI_1 i) (ih (i + 1) lo hi (by omega) hlo hhi (fun c hcm => ?_))) (fun hgt => nm_r (nI_1 i) (ih (i + 1) lo w (by omega) hlo (by omega) (fun c hcm => ?_))))⟩
          · intro z
            have : (-F).toInt = 0 := by rw [z]; rfl
            omega
          · rw [hstep c hcm, H c hcm, ← lc_D hF1, ← hw]; omega
          · rw [hstep c hcm, H c hcm, ← lc_D hF1, ← hw]; omega
      have j110 : ¬ (0 < F.toInt ∧ V.toInt < 0) → wX_leastC_110 post (wX_leastC_11 post (nI a) (nI b) f_parts (nI m) f_functions f_openFn f_lacking f_subject f_wantedRest f_wantedLeft (nI n) f_bestA f_bestB f_bestC f_cells f_depth f_entries f_outcome f_freeNow f_lowest a_body a_lengths a_treeEnd a_accepted a_sig a_sizes a_input a_result a_state a_reached a_forms a_heads a_tails a_freed a_ints a_lists a_frameFn a_framePc (d + 1)) (nI a) (nI b) (nI lo) (nI hi) (nI i) F V f_parts (nI m) f_functions f_openFn f_lacking f_subject f_wantedRest f_wantedLeft (nI n) f_bestA f_bestB f_bestC f_cells f_depth f_entries f_outcome f_freeNow f_lowest a_body a_lengths a_treeEnd a_accepted a_sig a_sizes a_input a_result a_state a_reached a_forms a_heads a_tails a_freed a_ints a_lists a_frameFn a_framePc := by
        intro hno
        by_cases hF0 : 0 < F
        · have : 0 < F.toInt := by rw [Int32.lt_iff_toInt_lt, ba_t0] at hF0; exact hF0
          exact br_t hF0 (j122 (by omega))
        · have hF1 : ¬ 0 < F.toInt := by rw [Int32.lt_iff_toInt_lt, ba_t0] at hF0; exact hF0
          refine br_f hF0 ?_
          by_cases hV0 : 0 ≤ V
          · exact br_t hV0 (j122 (by rw [lc_0le] at hV0; exact hV0))
          · refine br_f hV0 (h0 (fun c hcm hN => ?_))
            rw [lc_0le] at hV0
            have hN1 : xs_NN a_forms (nI a) (nI b) (nI c) 0 (i + 1) := fun j j1 j2 => hN j j1 (by omega)
            have := ((hstep c hcm).mp hN1).2
            have := Int.mul_nonneg (show 0 ≤ -F.toInt by omega) (show (0 : Int) ≤ (c : Int) by omega)
            rw [Int.neg_mul] at this
            omega
      by_cases hF0 : F ≤ 0
      · rw [Int32.le_iff_toInt_le, ba_t0] at hF0
        exact br_t (by rw [Int32.le_iff_toInt_le, ba_t0]; exact hF0) (j110 (by omega))
      · refine br_f hF0 ?_
        rw [Int32.le_iff_toInt_le, ba_t0] at hF0
        by_cases hV0 : 0 ≤ V
        · refine br_t hV0 (j110 ?_)
          rw [lc_0le] at hV0; omega
        · refine br_f hV0 ⟨?_, ?_⟩
          · intro z
            have : F.toInt = 0 := by rw [z]; rfl
            omega
          · rw [lc_0le] at hV0
            have hnum : (F - 1 - V).toInt = F.toInt - 1 - V.toInt := by
              have h1 : (F - 1).toInt = F.toInt - 1 := by
                rw [Int32.toInt_sub, ba_t1]
                exact Int.bmod_eq_of_le (by omega) (by omega)
              rw [Int32.toInt_sub, h1]
              exact Int.bmod_eq_of_le (by omega) (by omega)
            have hq : ((F - 1 - V) / F).toInt = (F.toInt - 1 - V.toInt) / F.toInt := by
              rw [lg_idiv_nonneg (by omega) (by omega), hnum]
            have hq0 : 0 ≤ (F.toInt - 1 - V.toInt) / F.toInt := Int.ediv_nonneg (by omega) (by omega)
            have hq1 : (F.toInt - 1 - V.toInt) / F.toInt ≤ F.toInt - 1 - V.toInt := Int.ediv_le_self _ (by omega)
            obtain ⟨w, hw, ew⟩ : ∃ w : Nat, (w : Int) = (F.toInt - 1 - V.toInt) / F.toInt ∧ (F - 1 - V) / F = nI w := by
              refine ⟨((F.toInt - 1 - V.toInt) / F.toInt).toNat, by omega, ?_⟩
              rw [← Int32.toInt_inj, nI_toInt (by omega), hq]
              omega
            refine nm_r ew (pk_le w lo (fun hle => nm_r (nI_1 i) (ih (i + 1) lo hi (by omega) hlo hhi (fun c hcm => ?_))) (fun hgt => nm_r (nI_1 i) (ih (i + 1) w hi (by omega) (by omega) hhi (fun c hcm => ?_))))
            · rw [hstep c hcm, H c hcm, ← lc_A (by omega), ← hw]; omega
            · rw [hstep c hcm, H c hcm, ← lc_A (by omega), ← hw]; omega
  exact Exists.intro (n + 1) (go n 0 0 m (by omega) (by omega) (by omega) (fun c hcm => ⟨fun _ => ⟨by omega, hcm⟩, fun _ j j1 j2 => by omega⟩))
end
end
section
/-! solve: the least sum, then C, then A -/
def sv_G (Φ : Int32 → Int32 → Int32 → Prop) (m s c a : Nat) : Prop := a ≤ m ∧ a ≤ s ∧ s - a ≤ m ∧ c ≤ m ∧ Φ (nI a) (nI (s - a)) (nI c)
def sv_S (Φ : Int32 → Int32 → Int32 → Prop) (m s c a : Nat) : Prop := sv_G Φ m s c a ∧ ∀ c' a', sv_G Φ m s c' a' → c < c' ∨ (c = c' ∧ a ≤ a')
def sv_B (Φ : Int32 → Int32 → Int32 → Prop) (m s c a : Nat) : Prop := s ≤ 2 * m ∧ sv_S Φ m s c a ∧ ∀ s' c' a', s' < s → ¬ sv_G Φ m s' c' a'
def sv_N (Φ : Int32 → Int32 → Int32 → Prop) (m : Nat) : Prop := ∀ s c a, s ≤ 2 * m → ¬ sv_G Φ m s c a
section
variable {f_parts f_most f_functions f_openFn f_lacking f_subject f_wantedRest f_wantedLeft f_formCount f_bestA f_bestB f_bestC f_cells f_depth f_entries f_outcome f_freeNow f_lowest : Int32} {a_body a_lengths a_treeEnd a_accepted a_sig a_sizes a_input a_result a_state a_reached a_forms a_heads a_tails a_freed a_ints a_lists a_frameFn a_framePc : Nat → Int32} {m n : Nat} {post : Int32 → SX → Prop}
theorem xs_ssum {s : Nat} (hm : f_most = nI m) (hm8 : m ≤ 8) (hc : f_formCount = nI n) (hn : n ≤ 36) (hb : ∀ x, x < n * 4 → xs_le (a_forms x) 5000) (hs : s ≤ 16)
    (h0 : (∀ c a, ¬ sv_G (fun A B C => xs_NN a_forms A B C 0 n) m s c a) → post 0 (f_parts, f_most, f_functions, f_openFn, f_lacking, f_subject, f_wantedRest, f_wantedLeft, f_formCount, f_bestA, f_bestB, f_bestC, f_cells, f_depth, f_entries, f_outcome, f_freeNow, f_lowest, a_body, a_lengths, a_treeEnd, a_accepted, a_sig, a_sizes, a_input, a_result, a_state, a_reached, a_forms, a_heads, a_tails, a_freed, a_ints, a_lists, a_frameFn, a_framePc))
    (h1 : ∀ c a, sv_S (fun A B C => xs_NN a_forms A B C 0 n) m s c a → post 1 (f_parts, f_most, f_functions, f_openFn, f_lacking, f_subject, f_wantedRest, f_wantedLeft, f_formCount, nI a, nI (s - a), nI c, f_cells, f_depth, f_entries, f_outcome, f_freeNow, f_lowest, a_body, a_lengths, a_treeEnd, a_accepted, a_sig, a_sizes, a_input, a_result, a_state, a_reached, a_forms, a_heads, a_tails, a_freed, a_ints, a_lists, a_frameFn, a_framePc)) : wpX_solveSum post (f_parts, f_most, f_functions, f_openFn, f_lacking, f_subject, f_wantedRest, f_wantedLeft, f_formCount, f_bestA, f_bestB, f_bestC, f_cells, f_depth, f_entries, f_outcome, f_freeNow, f_lowest, a_body, a_lengths, a_treeEnd, a_accepted, a_sig, a_sizes, a_input, a_result, a_state, a_reached, a_forms, a_heads, a_tails, a_freed, a_ints, a_lists, a_frameFn, a_framePc) (nI s) := by
  subst hm hc
  have go1 : ∀ (d i : Nat) (c0 a0 : Nat), i + d = m + 1 → a0 < i → sv_G (fun A B C => xs_NN a_forms A B C 0 n) m s c0 a0 → (∀ c a, a < i → sv_G (fun A B C => xs_NN a_forms A B C 0 n) m s c a → c0 < c ∨ (c0 = c ∧ a0 ≤ a)) →
      wX_solveSum_4 post (nI s) f_parts (nI m) f_functions f_openFn f_lacking f_subject f_wantedRest f_wantedLeft (nI n) f_cells f_depth f_entries f_outcome f_freeNow f_lowest a_body a_lengths a_treeEnd a_accepted a_sig a_sizes a_input a_result a_state a_reached a_forms a_heads a_tails a_freed a_ints a_lists a_frameFn a_framePc (d + 1) 1 (nI i) (nI a0) (nI (s - a0)) (nI c0) := by
    intro d
    induction d with
    | zero =>
      intro i c0 a0 hi ha hG hall
      exact br_t (nI_lt (by omega) (by omega)) ⟨narrow_b1, h1 c0 a0 ⟨hG, fun c a h => hall c a (by have := h.1; omega) h⟩⟩
    | succ d ih =>
      intro i c0 a0 hi ha hG hall
      have hc0 : c0 ≤ m := hG.2.2.2.1
      have nxt : (∀ c, ¬ sv_G (fun A B C => xs_NN a_forms A B C 0 n) m s c i) ∨ (∀ c, sv_G (fun A B C => xs_NN a_forms A B C 0 n) m s c i → c0 < c ∨ c0 = c) → wX_solveSum_4 post (nI s) f_parts (nI m) f_functions f_openFn f_lacking f_subject f_wantedRest f_wantedLeft (nI n) f_cells f_depth f_entries f_outcome f_freeNow f_lowest a_body a_lengths a_treeEnd a_accepted a_sig a_sizes a_input a_result a_state a_reached a_forms a_heads a_tails a_freed a_ints a_lists a_frameFn a_framePc (d + 1) 1 (nI (i + 1)) (nI a0) (nI (s - a0)) (nI c0) := by
        intro h
        refine ih (i + 1) c0 a0 (by omega) (by omega) hG (fun c a hai hg => ?_)
        rcases Nat.lt_or_ge a i with h' | h'
        · exact hall c a h' hg
        · obtain rfl : a = i := by omega
          rcases h with h | h
          · exact absurd hg (h c)
          · rcases h c hg with h | h
            · exact Or.inl h
            · exact Or.inr ⟨h, by omega⟩
      refine br_f (nI_nlt (by omega) (by omega)) ?_
      by_cases hv : i ≤ s ∧ s - i ≤ m
      · refine nm_r (pk_sub hv.1) (pt_w1 hv.2 (by omega) (br_f (by decide) (xs_least rfl hm8 rfl hn hb (by omega) (by omega) (fun hno => br_t (by decide) (nm_r (nI_1 i) (nxt (Or.inl (fun c hg => hno c hg.2.2.2.1 hg.2.2.2.2))))) (fun c hcm hN hmin => br_f (nI_pos (by omega)) (br_f (by decide) (pk_le c0 c (fun hle => nm_r (nI_1 i) (nxt (Or.inr (fun c' hg => ?_)))) (fun hgt => nm_r (nI_1 i) (ih (i + 1) c i (by omega) (by omega) ⟨by omega, hv.1, hv.2, hcm, hN⟩ (fun c' a' hai hg => ?_)))))))))
        · have : ¬ c' < c := fun hlt => hmin c' hlt hg.2.2.2.2
          omega
        · rcases Nat.lt_or_ge a' i with h' | h'
          · rcases hall c' a' h' hg with h | h
            · exact Or.inl (by omega)
            · exact Or.inl (by omega)
          · obtain rfl : a' = i := by omega
            have : ¬ c' < c := fun hlt => hmin c' hlt hg.2.2.2.2
            omega
      · have hno : ∀ c, ¬ sv_G (fun A B C => xs_NN a_forms A B C 0 n) m s c i := fun c hg => hv ⟨hg.2.1, hg.2.2.1⟩
        refine nm_e (pt_w0 ?_ (br_t rfl (nm_r (nI_1 i) (nxt (Or.inl hno)))))
        by_cases his : i ≤ s
        · rw [pk_sub his]
          exact Or.inr ⟨nI_pos (by omega), nI_lt (by omega) (by omega)⟩
        · exact Or.inl (pk_sneg (by omega) (by omega))
  have go0 : ∀ (d i : Nat), i + d = m + 1 → (∀ c a, a < i → ¬ sv_G (fun A B C => xs_NN a_forms A B C 0 n) m s c a) →
      wX_solveSum_4 post (nI s) f_parts (nI m) f_functions f_openFn f_lacking f_subject f_wantedRest f_wantedLeft (nI n) f_cells f_depth f_entries f_outcome f_freeNow f_lowest a_body a_lengths a_treeEnd a_accepted a_sig a_sizes a_input a_result a_state a_reached a_forms a_heads a_tails a_freed a_ints a_lists a_frameFn a_framePc (d + 1) 0 (nI i) f_bestA f_bestB f_bestC := by
    intro d
    induction d with
    | zero =>
      intro i hi hall
      exact br_t (nI_lt (by omega) (by omega)) ⟨narrow_b0, h0 (fun c a hg => hall c a (by have := hg.1; omega) hg)⟩
    | succ d ih =>
      intro i hi hall
      have nxt : (∀ c, ¬ sv_G (fun A B C => xs_NN a_forms A B C 0 n) m s c i) → wX_solveSum_4 post (nI s) f_parts (nI m) f_functions f_openFn f_lacking f_subject f_wantedRest f_wantedLeft (nI n) f_cells f_depth f_entries f_outcome f_freeNow f_lowest a_body a_lengths a_treeEnd a_accepted a_sig a_sizes a_input a_result a_state a_reached a_forms a_heads a_tails a_freed a_ints a_lists a_frameFn a_framePc (d + 1) 0 (nI (i + 1)) f_bestA f_bestB f_bestC := by
        intro h
        refine ih (i + 1) (by omega) (fun c a hai hg => ?_)
        rcases Nat.lt_or_ge a i with h' | h'
        · exact hall c a h' hg
        · obtain rfl : a = i := by omega
          exact h c hg
      refine br_f (nI_nlt (by omega) (by omega)) ?_
      by_cases hv : i ≤ s ∧ s - i ≤ m
      · refine nm_r (pk_sub hv.1) (pt_w1 hv.2 (by omega) (br_f (by decide) (xs_least rfl hm8 rfl hn hb (by omega) (by omega) (fun hno => br_t (by decide) (nm_r (nI_1 i) (nxt (fun c hg => hno c hg.2.2.2.1 hg.2.2.2.2)))) (fun c hcm hN hmin => br_f (nI_pos (by omega)) (br_t rfl (nm_r (nI_1 i) (go1 d (i + 1) c i (by omega) (by omega) ⟨by omega, hv.1, hv.2, hcm, hN⟩ (fun c' a' hai hg => ?_))))))))
        rcases Nat.lt_or_ge a' i with h' | h'
        · exact absurd hg (hall c' a' h')
        · obtain rfl : a' = i := by omega
          have : ¬ c' < c := fun hlt => hmin c' hlt hg.2.2.2.2
          omega
      · have hno : ∀ c, ¬ sv_G (fun A B C => xs_NN a_forms A B C 0 n) m s c i := fun c hg => hv ⟨hg.2.1, hg.2.2.1⟩
        refine nm_e (pt_w0 ?_ (br_t rfl (nm_r (nI_1 i) (nxt hno))))
        by_cases his : i ≤ s
        · rw [pk_sub his]
          exact Or.inr ⟨nI_pos (by omega), nI_lt (by omega) (by omega)⟩
        · exact Or.inl (pk_sneg (by omega) (by omega))
  exact Exists.intro (m + 1 + 1) (go0 (m + 1) 0 (by omega) (fun c a h => by omega))
theorem xs_solve (hm : f_most = nI m) (hm8 : m ≤ 8) (hc : f_formCount = nI n) (hn : n ≤ 36) (hb : ∀ x, x < n * 4 → xs_le (a_forms x) 5000)
    (h0 : sv_N (fun A B C => xs_NN a_forms A B C 0 n) m → post 0 (f_parts, f_most, f_functions, f_openFn, f_lacking, f_subject, f_wantedRest, f_wantedLeft, f_formCount, f_bestA, f_bestB, f_bestC, f_cells, f_depth, f_entries, f_outcome, f_freeNow, f_lowest, a_body, a_lengths, a_treeEnd, a_accepted, a_sig, a_sizes, a_input, a_result, a_state, a_reached, a_forms, a_heads, a_tails, a_freed, a_ints, a_lists, a_frameFn, a_framePc))
    (h1 : ∀ s c a, sv_B (fun A B C => xs_NN a_forms A B C 0 n) m s c a → post 1 (f_parts, f_most, f_functions, f_openFn, f_lacking, f_subject, f_wantedRest, f_wantedLeft, f_formCount, nI a, nI (s - a), nI c, f_cells, f_depth, f_entries, f_outcome, f_freeNow, f_lowest, a_body, a_lengths, a_treeEnd, a_accepted, a_sig, a_sizes, a_input, a_result, a_state, a_reached, a_forms, a_heads, a_tails, a_freed, a_ints, a_lists, a_frameFn, a_framePc)) : wpX_solve post (f_parts, f_most, f_functions, f_openFn, f_lacking, f_subject, f_wantedRest, f_wantedLeft, f_formCount, f_bestA, f_bestB, f_bestC, f_cells, f_depth, f_entries, f_outcome, f_freeNow, f_lowest, a_body, a_lengths, a_treeEnd, a_accepted, a_sig, a_sizes, a_input, a_result, a_state, a_reached, a_forms, a_heads, a_tails, a_freed, a_ints, a_lists, a_frameFn, a_framePc) := by
  have go : ∀ (d i : Nat), i + d = 2 * m + 1 → (∀ s c a, s < i → ¬ sv_G (fun A B C => xs_NN a_forms A B C 0 n) m s c a) → wX_solve_2 post (d + 1) (nI i) f_parts f_most f_functions f_openFn f_lacking f_subject f_wantedRest f_wantedLeft f_formCount f_bestA f_bestB f_bestC f_cells f_depth f_entries f_outcome f_freeNow f_lowest a_body a_lengths a_treeEnd a_accepted a_sig a_sizes a_input a_result a_state a_reached a_forms a_heads a_tails a_freed a_ints a_lists a_frameFn a_framePc := by
    intro d
    induction d with
    | zero =>
      intro i hi hall
      refine br_t ?_ (h0 (fun s c a hs hg => hall s c a (by omega) hg))
      rw [hm, ba_2m]; exact nI_lt (by omega) (by omega)
    | succ d ih =>
      intro i hi hall
      refine br_f ?_ (xs_ssum hm hm8 hc hn hb (by omega) (fun hno => br_t rfl (nm_r (nI_1 i) (ih (i + 1) (by omega) (fun s c a hs hg => ?_)))) (fun c a hS => br_f (by decide) (h1 i c a ⟨by omega, hS, fun s' c' a' hs => hall s' c' a' hs⟩)))
      · rw [hm, ba_2m]; exact nI_nlt (by omega) (by omega)
      · rcases Nat.lt_or_ge s i with h' | h'
        · exact hall s c a h' hg
        · obtain rfl : s = i := by omega
          exact hno c a hg
  exact Exists.intro (2 * m + 1 + 1) (go (2 * m + 1) 0 (by omega) (fun s c a h => by omega))
end
end
section
/-! the reference's search -/
def yi_RT (sig rates : Nat → Int32) (f : Nat) (R D : Int32) : Prop := rates (f * 5 + 3) = R ∧ rates (f * 5 + 4) = D ∧ ∀ q j, q < 4 → q ≠ f → j < 5 → rates (q * 5 + j) = sig (q * 5 + j)
theorem yi_u {sig rates : Nat → Int32} {f k : Nat} {R D v : Int32} (hk : k < 3) (h : yi_RT sig rates f R D) : yi_RT sig (upd rates (f * 5 + k) v) f R D := by
  obtain ⟨h1, h2, h3⟩ := h
  refine ⟨(pk_un (by omega)).trans h1, (pk_un (by omega)).trans h2, fun q j a b c => (pk_un ?_).trans (h3 q j a b c)⟩
  omega
theorem yi_0 {sig rates : Nat → Int32} {f a b c : Nat} {R D A B C : Int32} (h : yi_RT sig rates f R D) (ha : rates (f * 5) = A) (hb : rates (f * 5 + 1) = B) (hc : rates (f * 5 + 2) = C) : xs_RT sig f R D A B C rates := ⟨ha, hb, hc, h.1, h.2.1, h.2.2⟩
theorem yi_pos {sig rates : Nat → Int32} {f a b c R D : Nat} (hf : f < 4) (ha : a < 1000) (hb : b < 1000) (hc : c < 1000) (hR : R < 1000) (hD : D < 1000) (hS : pt_KS sig) (h : xs_RT sig f (nI R) (nI D) (nI a) (nI b) (nI c) rates) : ∀ j, j < 20 → 0 ≤ rates j := by
  obtain ⟨h0, h1, h2, h3, h4, h5⟩ := h
  intro j hj
  by_cases e : j / 5 = f
  · rcases (by omega : j = f * 5 ∨ j = f * 5 + 1 ∨ j = f * 5 + 2 ∨ j = f * 5 + 3 ∨ j = f * 5 + 4) with rfl | rfl | rfl | rfl | rfl
    · rw [h0]; exact nI_pos' (by omega)
    · rw [h1]; exact nI_pos' (by omega)
    · rw [h2]; exact nI_pos' (by omega)
    · rw [h3]; exact nI_pos' (by omega)
    · rw [h4]; exact nI_pos' (by omega)
  · have := h5 (j / 5) (j % 5) (by omega) e (by omega)
    rw [show j / 5 * 5 + j % 5 = j by omega] at this
    obtain ⟨s, s8, es⟩ := hS j hj
    rw [this, es]
    exact nI_pos' (by omega)
section
variable {g_parts g_most g_count g_lacking g_opened g_purse g_bases g_cells g_supply g_depth g_entries : Int32} {b_body b_len b_sig b_accepted b_input b_result b_sizes b_lastRun b_rates b_rest b_known b_base b_head b_tail b_dead b_fun b_pc b_ints b_lists : Nat → Int32} {f n m : Nat} {en : Nat → Nat} {post : Int32 → SY → Prop} {Φ : Int32 → Int32 → Int32 → Prop} {R D : Nat}
theorem yi_found {s c : Nat} (hf : f < 4) (hct : nI f < g_count) (hl : b_len f = nI n) (hn1 : 1 ≤ n) (hn : n ≤ 12) (hF : ∀ k, k < n → pt_Fi b_body f k) (hT : pt_TF (pt_o b_body f) en n) (he : en 0 = n) (hm : g_most = nI m) (hm8 : m ≤ 8) (hR8 : R ≤ 8) (hD8 : D ≤ 8) (hS : pt_KS b_sig)
    (hΦ : ∀ A B C rt, xs_RT b_sig f (nI R) (nI D) A B C rt → (Φ A B C ↔ ty_chk (pt_o b_body f) (pt_p b_body f) (pt_q b_body f) (pt_r b_body f) en f g_parts rt n 0 (ty_t0 A B C))) (hs : s ≤ 16) (hcm : c ≤ m)
    (h0 : (∀ a, ¬ sv_G Φ m s c a) → ∀ (g_purse g_bases : Int32) (b_rates b_rest b_known b_base : Nat → Int32), yi_RT b_sig b_rates f (nI R) (nI D) → post 0 (g_parts, g_most, g_count, g_lacking, g_opened, g_purse, g_bases, g_cells, g_supply, g_depth, g_entries, b_body, b_len, b_sig, b_accepted, b_input, b_result, b_sizes, b_lastRun, b_rates, b_rest, b_known, b_base, b_head, b_tail, b_dead, b_fun, b_pc, b_ints, b_lists))
    (h1 : ∀ a, sv_G Φ m s c a → (∀ a', a' < a → ¬ sv_G Φ m s c a') → ∀ (g_purse g_bases : Int32) (b_rates b_rest b_known b_base : Nat → Int32), xs_RT b_sig f (nI R) (nI D) (nI a) (nI (s - a)) (nI c) b_rates → post 1 (g_parts, g_most, g_count, g_lacking, g_opened, g_purse, g_bases, g_cells, g_supply, g_depth, g_entries, b_body, b_len, b_sig, b_accepted, b_input, b_result, b_sizes, b_lastRun, b_rates, b_rest, b_known, b_base, b_head, b_tail, b_dead, b_fun, b_pc, b_ints, b_lists)) :
    ∀ (d i : Nat) (g_purse g_bases : Int32) (b_rates b_rest b_known b_base : Nat → Int32), i + d = m + 1 → yi_RT b_sig b_rates f (nI R) (nI D) → b_rates (f * 5 + 2) = nI c → (∀ a, a < i → ¬ sv_G Φ m s c a) → wY_found_2 post (nI f) (nI s) (d + 1) (nI i) g_parts g_most g_count g_lacking g_opened g_purse g_bases g_cells g_supply g_depth g_entries b_body b_len b_sig b_accepted b_input b_result b_sizes b_lastRun b_rates b_rest b_known b_base b_head b_tail b_dead b_fun b_pc b_ints b_lists := by
  subst hm
  intro d
  induction d with
  | zero =>
    intro i g_purse g_bases b_rates b_rest b_known b_base hi hrt hrc hall
    exact br_t (nI_lt (by omega) (by omega)) (h0 (fun a hg => hall a (by have := hg.1; omega) hg) _ _ _ _ _ _ hrt)
  | succ d ih =>
    intro i g_purse g_bases b_rates b_rest b_known b_base hi hrt hrc hall
    have v0 : vp_in (nI f * 5) 20 := by rw [ba_m5]; exact vp_in_nI (by omega) (by omega)
    have v1 : vp_in (nI f * 5 + 1) 20 := by rw [ba_m5, nI_1]; exact vp_in_nI (by omega) (by omega)
    have q0 : (nI f * 5).toNatClampNeg = f * 5 + 0 := by rw [ba_m5, nI_clamp (by omega)]; rfl
    have q1 : (nI f * 5 + 1).toNatClampNeg = f * 5 + 1 := by rw [ba_m5, nI_1, nI_clamp (by omega)]
    refine br_f (nI_nlt (by omega) (by omega)) ?_
    refine nm_e ⟨v0, nm_e ⟨v1, nm_e ?_⟩⟩
    rw [q0, q1]
    have hrt' : yi_RT b_sig (upd (upd b_rates (f * 5 + 0) (nI i)) (f * 5 + 1) (nI s - nI i)) f (nI R) (nI D) := yi_u (by omega) (yi_u (by omega) hrt)
    have hrc' : upd (upd b_rates (f * 5 + 0) (nI i)) (f * 5 + 1) (nI s - nI i) (f * 5 + 2) = nI c := by rw [pk_un (by omega), pk_un (by omega)]; exact hrc
    have ra : upd (upd b_rates (f * 5 + 0) (nI i)) (f * 5 + 1) (nI s - nI i) (f * 5) = nI i := by rw [pk_un (by omega)]; exact ba_ue (by omega)
    have rb : upd (upd b_rates (f * 5 + 0) (nI i)) (f * 5 + 1) (nI s - nI i) (f * 5 + 1) = nI s - nI i := ba_ue rfl
    generalize upd (upd b_rates (f * 5 + 0) (nI i)) (f * 5 + 1) (nI s - nI i) = rates at *
    have nxt : ¬ sv_G Φ m s c i → ∀ (g_purse g_bases : Int32) (b_rest b_known b_base : Nat → Int32), wY_found_2 post (nI f) (nI s) (d + 1) (nI (i + 1)) g_parts (nI m) g_count g_lacking g_opened g_purse g_bases g_cells g_supply g_depth g_entries b_body b_len b_sig b_accepted b_input b_result b_sizes b_lastRun rates b_rest b_known b_base b_head b_tail b_dead b_fun b_pc b_ints b_lists := by
      intro hno g_purse g_bases b_rest b_known b_base
      refine ih (i + 1) _ _ _ _ _ _ (by omega) hrt' hrc' (fun a ha hg => ?_)
      rcases Nat.lt_or_ge a i with h' | h'
      · exact hall a h' hg
      · obtain rfl : a = i := by omega
        exact hno hg
    by_cases his : i ≤ s
    · rw [pk_sub his] at rb ⊢
      refine br_f (nI_pos (by omega)) (pk_lt m (s - i) (fun hlt => nm_r (nI_1 i) (nxt (fun hg => by have := hg.2.2.1; omega) _ _ _ _ _)) (fun hle => ?_))
      have hRT : xs_RT b_sig f (nI R) (nI D) (nI i) (nI (s - i)) (nI c) rates := yi_0 (a := 0) (b := 0) (c := 0) hrt' ra rb hrc'
      have hiff := hΦ _ _ _ _ hRT
      refine ty_fits hf hct hl hn1 hn hF hT he (yi_pos hf (by omega) (by omega) (by omega) (by omega) (by omega) hS hRT) _ (fun hchk g_purse g_bases b_rest b_known b_base => ?_) (fun hchk g_purse g_bases b_rest b_known b_base => ?_)
      · rw [ra, rb, hrc', ← hiff] at hchk
        exact br_f (by decide) (h1 i ⟨by omega, his, hle, hcm, hchk⟩ hall _ _ _ _ _ _ hRT)
      · rw [ra, rb, hrc', ← hiff] at hchk
        exact br_t rfl (nm_r (nI_1 i) (nxt (fun hg => hchk hg.2.2.2.2) _ _ _ _ _))
    · exact br_t (pk_sneg (by omega) (by omega)) (nm_r (nI_1 i) (nxt (fun hg => his hg.2.1) _ _ _ _ _))
theorem yi_acc {post : SY → Prop} (hf : f < 4) (h : post (g_parts, g_most, g_count, g_lacking, g_opened, g_purse, g_bases, g_cells, g_supply, g_depth, g_entries, b_body, b_len, ba_cp b_sig b_rates 0 0 20, upd b_accepted f 1, b_input, b_result, b_sizes, b_lastRun, b_rates, b_rest, b_known, b_base, b_head, b_tail, b_dead, b_fun, b_pc, b_ints, b_lists)) : wpY_accept post (g_parts, g_most, g_count, g_lacking, g_opened, g_purse, g_bases, g_cells, g_supply, g_depth, g_entries, b_body, b_len, b_sig, b_accepted, b_input, b_result, b_sizes, b_lastRun, b_rates, b_rest, b_known, b_base, b_head, b_tail, b_dead, b_fun, b_pc, b_ints, b_lists) (nI f) := by
  have go : ∀ d i, i + d = 20 → wY_accept_2 post (nI f) g_parts g_most g_count g_lacking g_opened g_purse g_bases g_cells g_supply g_depth g_entries (d + 1) (nI i) b_body b_len (ba_cp b_sig b_rates 0 0 i) b_accepted b_input b_result b_sizes b_lastRun b_rates b_rest b_known b_base b_head b_tail b_dead b_fun b_pc b_ints b_lists := by
    intro d
    induction d with
    | zero =>
      intro i hi
      obtain rfl : i = 20 := by omega
      exact br_t (by decide) ⟨vp_in_nI hf (by omega), nm_r (e' := upd b_accepted f 1) (by rw [nI_clamp (by omega), ba_nb1]) h⟩
    | succ d ih =>
      intro i hi
      have hv : vp_in (nI i) 20 := vp_in_nI (by omega) (by omega)
      refine br_f (nI_ge (b := 20) (by omega) (by omega)) ⟨hv, hv, nm_r (e' := ba_cp b_sig b_rates 0 0 (i + 1)) ?_ (nm_r (nI_1 i) (ih (i + 1) (by omega)))⟩
      rw [nI_clamp (by omega), ← ba_cps, Nat.zero_add]
  have := go 20 0 (by omega)
  rw [ba_cp0] at this
  exact Exists.intro 21 this
theorem yi_search (hf : f < 4) (hct : nI f < g_count) (hl : b_len f = nI n) (hn1 : 1 ≤ n) (hn : n ≤ 12) (hF : ∀ k, k < n → pt_Fi b_body f k) (hT : pt_TF (pt_o b_body f) en n) (he : en 0 = n) (hm : g_most = nI m) (hm8 : m ≤ 8) (hR8 : R ≤ 8) (hD8 : D ≤ 8) (hS : pt_KS b_sig)
    (hΦ : ∀ A B C rt, xs_RT b_sig f (nI R) (nI D) A B C rt → (Φ A B C ↔ ty_chk (pt_o b_body f) (pt_p b_body f) (pt_q b_body f) (pt_r b_body f) en f g_parts rt n 0 (ty_t0 A B C)))
    (h0 : sv_N Φ m → ∀ (g_purse g_bases : Int32) (b_rates b_rest b_known b_base : Nat → Int32), post (-8) (g_parts, g_most, g_count, g_lacking, g_opened, g_purse, g_bases, g_cells, g_supply, g_depth, g_entries, b_body, b_len, b_sig, b_accepted, b_input, b_result, b_sizes, b_lastRun, b_rates, b_rest, b_known, b_base, b_head, b_tail, b_dead, b_fun, b_pc, b_ints, b_lists))
    (h1 : ∀ s c a, sv_B Φ m s c a → ∀ (g_purse g_bases : Int32) (b_rates b_rest b_known b_base : Nat → Int32), xs_RT b_sig f (nI R) (nI D) (nI a) (nI (s - a)) (nI c) b_rates → post 0 (g_parts, g_most, g_count, g_lacking, g_opened, g_purse, g_bases, g_cells, g_supply, g_depth, g_entries, b_body, b_len, ba_cp b_sig b_rates 0 0 20, upd b_accepted f 1, b_input, b_result, b_sizes, b_lastRun, b_rates, b_rest, b_known, b_base, b_head, b_tail, b_dead, b_fun, b_pc, b_ints, b_lists)) :
    ∀ (d i : Nat) (g_purse g_bases : Int32) (b_rates b_rest b_known b_base : Nat → Int32), i + d = 2 * m + 1 → yi_RT b_sig b_rates f (nI R) (nI D) → (∀ s c a, s < i → ¬ sv_G Φ m s c a) → wY_infer_167 post (nI f) (d + 1) (nI i) g_parts g_most g_count g_lacking g_opened g_purse g_bases g_cells g_supply g_depth g_entries b_body b_len b_sig b_accepted b_input b_result b_sizes b_lastRun b_rates b_rest b_known b_base b_head b_tail b_dead b_fun b_pc b_ints b_lists := by
  intro d
  induction d with
  | zero =>
    intro i g_purse g_bases b_rates b_rest b_known b_base hi hrt hall
    refine br_t ?_ (h0 (fun s c a hs hg => hall s c a (by omega) hg) _ _ _ _ _ _)
    rw [hm, ba_2m]; exact nI_lt (by omega) (by omega)
  | succ d ih =>
    intro i g_purse g_bases b_rates b_rest b_known b_base hi hrt hall
    have go : ∀ (e c : Nat) (g_purse g_bases : Int32) (b_rates b_rest b_known b_base : Nat → Int32), c + e = m + 1 → yi_RT b_sig b_rates f (nI R) (nI D) → (∀ c' a, c' < c → ¬ sv_G Φ m i c' a) → wY_infer_181 post (wY_infer_167 post (nI f) (d + 1)) (nI f) (nI i) (e + 1) (nI c) g_parts g_most g_count g_lacking g_opened g_purse g_bases g_cells g_supply g_depth g_entries b_body b_len b_sig b_accepted b_input b_result b_sizes b_lastRun b_rates b_rest b_known b_base b_head b_tail b_dead b_fun b_pc b_ints b_lists := by
      intro e
      induction e with
      | zero =>
        intro c g_purse g_bases b_rates b_rest b_known b_base hc hrt hcall
        refine br_t (by rw [hm]; exact nI_lt (by omega) (by omega)) (nm_r (nI_1 i) (ih (i + 1) _ _ _ _ _ _ (by omega) hrt (fun s c' a hs hg => ?_)))
        rcases Nat.lt_or_ge s i with h' | h'
        · exact hall s c' a h' hg
        · obtain rfl : s = i := by omega
          exact hcall c' a (by have := hg.2.2.2.1; omega) hg
      | succ e ihe =>
        intro c g_purse g_bases b_rates b_rest b_known b_base hc hrt hcall
        have v2 : vp_in (nI f * 5 + 2) 20 := by rw [ba_m5, ba_2]; exact vp_in_nI (by omega) (by omega)
        refine br_f (by rw [hm]; exact nI_nlt (by omega) (by omega)) ⟨v2, nm_r (e' := upd b_rates (f * 5 + 2) (nI c)) (by rw [ba_m5, ba_2, nI_clamp (by omega)]) ?_⟩
        refine Exists.intro (m + 1 + 1) (yi_found (s := i) (c := c) (Φ := Φ) hf hct hl hn1 hn hF hT he hm hm8 hR8 hD8 hS hΦ (by omega) (by omega) (fun hno g_purse g_bases b_rates b_rest b_known b_base hrt' => br_t rfl (nm_r (nI_1 c) (ihe (c + 1) _ _ _ _ _ _ (by omega) hrt' (fun c' a hcc hg => ?_)))) (fun a hg hmin g_purse g_bases b_rates b_rest b_known b_base hRT => br_f (by decide) (yi_acc hf (h1 i c a ⟨by omega, ⟨hg, fun c' a' hg' => ?_⟩, fun s' c' a' hs' => hall s' c' a' hs'⟩ _ _ _ _ _ _ hRT))) (m + 1) 0 _ _ _ _ _ _ (by omega) (yi_u (by omega) hrt) (ba_ue rfl) (fun a ha => by omega))
        · rcases Nat.lt_or_ge c' c with h' | h'
          · exact hcall c' a h' hg
          · obtain rfl : c' = c := by omega
            exact hno a hg
        · have w1 : ¬ c' < c := fun hlt => hcall c' a' hlt hg'
          by_cases e : c' = c
          · subst e
            have w2 : ¬ a' < a := fun hlt => hmin a' hlt hg'
            omega
          · omega
    refine br_f ?_ ⟨m + 1 + 1, go (m + 1) 0 _ _ _ _ _ _ (by omega) hrt (fun c' a h => by omega)⟩
    rw [hm, ba_2m]; exact nI_nlt (by omega) (by omega)
theorem yi_115 {x2 x3 : Int32} (hf : f < 4) (H : ∀ b_rates, yi_RT b_sig b_rates f x2 x3 → ∃ n167 : Nat, wY_infer_167 post (nI f) n167 0 g_parts g_most g_count g_lacking g_opened g_purse g_bases g_cells g_supply g_depth g_entries b_body b_len b_sig b_accepted b_input b_result b_sizes b_lastRun b_rates b_rest b_known b_base b_head b_tail b_dead b_fun b_pc b_ints b_lists) : ∃ n115 : Nat, wY_infer_115 post (nI f) x2 x3 g_parts g_most g_count g_lacking g_opened g_purse g_bases g_cells g_supply g_depth g_entries n115 0 b_body b_len b_sig b_accepted b_input b_result b_sizes b_lastRun b_rates b_rest b_known b_base b_head b_tail b_dead b_fun b_pc b_ints b_lists := by
  have go : ∀ d i, i + d = 20 → wY_infer_115 post (nI f) x2 x3 g_parts g_most g_count g_lacking g_opened g_purse g_bases g_cells g_supply g_depth g_entries (d + 1) (nI i) b_body b_len b_sig b_accepted b_input b_result b_sizes b_lastRun (ba_cp b_rates b_sig 0 0 i) b_rest b_known b_base b_head b_tail b_dead b_fun b_pc b_ints b_lists := by
    intro d
    induction d with
    | zero =>
      intro i hi
      obtain rfl : i = 20 := by omega
      have v3 : vp_in (nI f * 5 + 3) 20 := by rw [ba_m5, ba_3]; exact vp_in_nI (by omega) (by omega)
      have v4 : vp_in (nI f * 5 + 4) 20 := by rw [ba_m5, ba_4]; exact vp_in_nI (by omega) (by omega)
      refine br_t (by decide) ⟨v3, nm_r (e' := upd (ba_cp b_rates b_sig 0 0 20) (f * 5 + 3) x2) (by rw [ba_m5, ba_3, nI_clamp (by omega)]) ⟨v4, nm_r (e' := upd (upd (ba_cp b_rates b_sig 0 0 20) (f * 5 + 3) x2) (f * 5 + 4) x3) (by rw [ba_m5, ba_4, nI_clamp (by omega)]) (H _ ⟨?_, ba_ue rfl, fun q j a b c => ?_⟩)⟩⟩
      · rw [pk_un (by omega)]; exact ba_ue rfl
      · rw [pk_un (by omega), pk_un (by omega), ba_cpi (by omega) (by omega)]; rfl
    | succ d ih =>
      intro i hi
      have hv : vp_in (nI i) 20 := vp_in_nI (by omega) (by omega)
      refine br_f (nI_ge (b := 20) (by omega) (by omega)) ⟨hv, hv, nm_r (e' := ba_cp b_rates b_sig 0 0 (i + 1)) ?_ (nm_r (nI_1 i) (ih (i + 1) (by omega)))⟩
      rw [nI_clamp (by omega), ← ba_cps, Nat.zero_add]
  have := go 20 0 (by omega)
  rw [ba_cp0] at this
  exact ⟨21, this⟩
/-- a call of a function without a type -/
def yi_U (o q : Nat → Nat) (f n : Nat) (acc : Nat → Int32) : Prop := ∃ k, k < n ∧ o k = 2 ∧ q k ≠ f ∧ acc (q k) = 0
theorem yi_unt {x2 x3 : Int32} (hf : f < 4) (hct : nI f < g_count) (hl : b_len f = nI n) (hn : n ≤ 12) (hF : ∀ k, k < n → pt_Fi b_body f k)
    (h1 : yi_U (pt_o b_body f) (pt_q b_body f) f n b_accepted → post (-7) (g_parts, g_most, g_count, g_lacking, g_opened, g_purse, g_bases, g_cells, g_supply, g_depth, g_entries, b_body, b_len, b_sig, b_accepted, b_input, b_result, b_sizes, b_lastRun, b_rates, b_rest, b_known, b_base, b_head, b_tail, b_dead, b_fun, b_pc, b_ints, b_lists)) (h0 : ¬ yi_U (pt_o b_body f) (pt_q b_body f) f n b_accepted → ∃ n115 : Nat, wY_infer_115 post (nI f) x2 x3 g_parts g_most g_count g_lacking g_opened g_purse g_bases g_cells g_supply g_depth g_entries n115 0 b_body b_len b_sig b_accepted b_input b_result b_sizes b_lastRun b_rates b_rest b_known b_base b_head b_tail b_dead b_fun b_pc b_ints b_lists) :
    ∃ n50 : Nat, wY_infer_50 post (nI f) x2 x3 g_parts g_most g_count g_lacking g_opened g_purse g_bases g_cells g_supply g_depth g_entries b_body b_len b_sig b_accepted b_input b_result b_sizes b_lastRun b_rates b_rest b_known b_base b_head b_tail b_dead b_fun b_pc b_ints b_lists n50 0 := by
  have go : ∀ d i, i + d = n → (∀ k, k < i → ¬ (pt_o b_body f k = 2 ∧ pt_q b_body f k ≠ f ∧ b_accepted (pt_q b_body f k) = 0)) → wY_infer_50 post (nI f) x2 x3 g_parts g_most g_count g_lacking g_opened g_purse g_bases g_cells g_supply g_depth g_entries b_body b_len b_sig b_accepted b_input b_result b_sizes b_lastRun b_rates b_rest b_known b_base b_head b_tail b_dead b_fun b_pc b_ints b_lists (d + 1) (nI i) := by
    intro d
    induction d with
    | zero =>
      intro i hi hall
      refine And.intro (vp_in_nI hf (by omega)) (br_t (by rw [nI_clamp (by omega), hl]; exact nI_le (by omega) (by omega)) (h0 (fun c => ?_)))
      obtain ⟨k, k1, k2⟩ := c
      exact hall k (by omega) k2
    | succ d ih =>
      intro i hi hall
      obtain ⟨b0, b1, b2, b3, b4, b5, b6, b7⟩ := hF i (by omega)
      have nxt : ¬ (pt_o b_body f i = 2 ∧ pt_q b_body f i ≠ f ∧ b_accepted (pt_q b_body f i) = 0) → wY_infer_50 post (nI f) x2 x3 g_parts g_most g_count g_lacking g_opened g_purse g_bases g_cells g_supply g_depth g_entries b_body b_len b_sig b_accepted b_input b_result b_sizes b_lastRun b_rates b_rest b_known b_base b_head b_tail b_dead b_fun b_pc b_ints b_lists (d + 1) (nI (i + 1)) := by
        intro hno
        refine ih (i + 1) (by omega) (fun k hk hc => ?_)
        rcases Nat.lt_or_ge k i with h' | h'
        · exact hall k h' hc
        · obtain rfl : k = i := by omega
          exact hno hc
      refine And.intro (vp_in_nI hf (by omega)) (br_f (by rw [nI_clamp (by omega), hl]; exact nI_ge (by omega) (by omega)) (ty_ycd 0 hf hct hl hn (by omega) (by omega) b0 (ty_ycd 2 hf hct hl hn (by omega) (by omega) b4 ?_)))
      refine pk_eq (pt_o b_body f i) 2 (fun e2 => pk_eq (pt_q b_body f i) f (fun eq => nm_r (nI_1 i) (nxt (fun c => c.2.1 eq))) (fun eq => ⟨vp_in_nI (by omega) (by omega), ?_⟩)) (fun e2 => nm_r (nI_1 i) (nxt (fun c => e2 c.1)))
      rw [nI_clamp (by omega)]
      exact br_c (fun hz => h1 ⟨i, by omega, e2, eq, hz⟩) (fun hz => nm_r (nI_1 i) (nxt (fun c => hz c.2.2)))
  exact ⟨n + 1, go n 0 (by omega) (fun k hk => by omega)⟩
end
section
variable {f_parts f_most f_functions f_openFn f_lacking f_subject f_wantedRest f_wantedLeft f_formCount f_bestA f_bestB f_bestC f_cells f_depth f_entries f_outcome f_freeNow f_lowest : Int32} {a_body a_lengths a_treeEnd a_accepted a_sig a_sizes a_input a_result a_state a_reached a_forms a_heads a_tails a_freed a_ints a_lists a_frameFn a_framePc : Nat → Int32} {f n : Nat} {post : Int32 → Prop}
theorem xs_unt (hf : f < 4) (hl : a_lengths f = nI n) (hn : n ≤ 12) (hF : ∀ k, k < n → pt_Fi a_body f k)
    (h1 : yi_U (pt_o a_body f) (pt_q a_body f) f n a_accepted → post 1) (h0 : ¬ yi_U (pt_o a_body f) (pt_q a_body f) f n a_accepted → post 0) : wpX_callsUntyped post (f_parts, f_most, f_functions, f_openFn, f_lacking, f_subject, f_wantedRest, f_wantedLeft, f_formCount, f_bestA, f_bestB, f_bestC, f_cells, f_depth, f_entries, f_outcome, f_freeNow, f_lowest, a_body, a_lengths, a_treeEnd, a_accepted, a_sig, a_sizes, a_input, a_result, a_state, a_reached, a_forms, a_heads, a_tails, a_freed, a_ints, a_lists, a_frameFn, a_framePc) (nI f) := by
  have go : ∀ d i, i + d = n → (∀ k, k < i → ¬ (pt_o a_body f k = 2 ∧ pt_q a_body f k ≠ f ∧ a_accepted (pt_q a_body f k) = 0)) → wX_callsUntyped_2 post (nI f) f_parts f_most f_functions f_openFn f_lacking f_subject f_wantedRest f_wantedLeft f_formCount f_bestA f_bestB f_bestC f_cells f_depth f_entries f_outcome f_freeNow f_lowest a_body a_lengths a_treeEnd a_accepted a_sig a_sizes a_input a_result a_state a_reached a_forms a_heads a_tails a_freed a_ints a_lists a_frameFn a_framePc (d + 1) (nI i) := by
    intro d
    induction d with
    | zero =>
      intro i hi hall
      refine And.intro (vp_in_nI hf (by omega)) (br_t (by rw [nI_clamp (by omega), hl]; exact nI_le (by omega) (by omega)) (h0 (fun c => ?_)))
      obtain ⟨k, k1, k2⟩ := c
      exact hall k (by omega) k2
    | succ d ih =>
      intro i hi hall
      obtain ⟨b0, b1, b2, b3, b4, b5, b6, b7⟩ := hF i (by omega)
      have nxt : ¬ (pt_o a_body f i = 2 ∧ pt_q a_body f i ≠ f ∧ a_accepted (pt_q a_body f i) = 0) → wX_callsUntyped_2 post (nI f) f_parts f_most f_functions f_openFn f_lacking f_subject f_wantedRest f_wantedLeft f_formCount f_bestA f_bestB f_bestC f_cells f_depth f_entries f_outcome f_freeNow f_lowest a_body a_lengths a_treeEnd a_accepted a_sig a_sizes a_input a_result a_state a_reached a_forms a_heads a_tails a_freed a_ints a_lists a_frameFn a_framePc (d + 1) (nI (i + 1)) := by
        intro hno
        refine ih (i + 1) (by omega) (fun k hk hc => ?_)
        rcases Nat.lt_or_ge k i with h' | h'
        · exact hall k h' hc
        · obtain rfl : k = i := by omega
          exact hno hc
      refine And.intro (vp_in_nI hf (by omega)) (br_f (by rw [nI_clamp (by omega), hl]; exact nI_ge (by omega) (by omega)) (nm_r (ba_at f i) ⟨by rw [ba_2]; exact vp_in_nI (by omega) (by omega), nm_r (e' := nI (pt_q a_body f i)) (by rw [ba_2, nI_clamp (by omega), b4]) ⟨vp_in_nI (by omega) (by omega), ?_⟩⟩))
      rw [nI_clamp (by omega), b0]
      refine pk_eq (pt_o a_body f i) 2 (fun e2 => pk_eq (pt_q a_body f i) f (fun eq => nm_r (nI_1 i) (nxt (fun c => c.2.1 eq))) (fun eq => ⟨vp_in_nI (by omega) (by omega), ?_⟩)) (fun e2 => nm_r (nI_1 i) (nxt (fun c => e2 c.1)))
      rw [nI_clamp (by omega)]
      exact br_c (fun hz => h1 ⟨i, by omega, e2, eq, hz⟩) (fun hz => nm_r (nI_1 i) (nxt (fun c => hz c.2.2)))
  exact Exists.intro (n + 1) (go n 0 (by omega) (fun k hk => by omega))
end
end
section
/-! infer -/
theorem sv_u {Φ : Int32 → Int32 → Int32 → Prop} {m s c a s' c' a' : Nat} (h : sv_B Φ m s c a) (h' : sv_B Φ m s' c' a') : s' = s ∧ c' = c ∧ a' = a := by
  obtain ⟨_, ⟨g, l⟩, z⟩ := h
  obtain ⟨_, ⟨g', l'⟩, z'⟩ := h'
  have e : s' = s := by
    rcases Nat.lt_trichotomy s' s with h | h | h
    · exact absurd g' (z s' c' a' h)
    · exact h
    · exact absurd g (z' s c a h)
  subst e
  have x := l c' a' g'
  have y := l' c a g
  omega
theorem sv_n {Φ : Int32 → Int32 → Int32 → Prop} {m s c a : Nat} (h : sv_B Φ m s c a) (h' : sv_N Φ m) : False := h' s c a h.1 h.2.1.1
/-- the accepted signature -/
def in_sg (sig : Nat → Int32) (f : Nat) (A B C R D : Int32) : Nat → Int32 := upd (upd (upd (upd (upd sig (f * 5) A) (f * 5 + 1) B) (f * 5 + 2) C) (f * 5 + 3) R) (f * 5 + 4) D
theorem in_sge {sig rates : Nat → Int32} {f : Nat} {A B C R D : Int32} (hf : f < 4) (h : xs_RT sig f R D A B C rates) : ba_cp sig rates 0 0 20 = in_sg sig f A B C R D := by
  obtain ⟨h0, h1, h2, h3, h4, h5⟩ := h
  funext j
  unfold in_sg
  by_cases hj : j < 20
  · rw [ba_cpi (by omega) (by omega), show j - 0 + 0 = j by omega]
    by_cases e : j / 5 = f
    · rcases (by omega : j = f * 5 ∨ j = f * 5 + 1 ∨ j = f * 5 + 2 ∨ j = f * 5 + 3 ∨ j = f * 5 + 4) with rfl | rfl | rfl | rfl | rfl
      · rw [pk_un (by omega), pk_un (by omega), pk_un (by omega), pk_un (by omega), pk_us, h0]
      · rw [pk_un (by omega), pk_un (by omega), pk_un (by omega), pk_us, h1]
      · rw [pk_un (by omega), pk_un (by omega), pk_us, h2]
      · rw [pk_un (by omega), pk_us, h3]
      · rw [pk_us, h4]
    · have := h5 (j / 5) (j % 5) (by omega) e (by omega)
      rw [show j / 5 * 5 + j % 5 = j by omega] at this
      rw [this, pk_un (by omega), pk_un (by omega), pk_un (by omega), pk_un (by omega), pk_un (by omega)]
  · rw [ba_cpo (by omega), pk_un (by omega), pk_un (by omega), pk_un (by omega), pk_un (by omega), pk_un (by omega)]
theorem in_KS {sig : Nat → Int32} {f a b c R D : Nat} (hS : pt_KS sig) (ha : a ≤ 8) (hb : b ≤ 8) (hc : c ≤ 8) (hR : R ≤ 8) (hD : D ≤ 8) : pt_KS (in_sg sig f (nI a) (nI b) (nI c) (nI R) (nI D)) := by
  intro j hj
  unfold in_sg
  by_cases e4 : j = f * 5 + 4
  · exact ⟨D, hD, ba_ue e4⟩
  rw [pk_un e4]
  by_cases e3 : j = f * 5 + 3
  · exact ⟨R, hR, ba_ue e3⟩
  rw [pk_un e3]
  by_cases e2 : j = f * 5 + 2
  · exact ⟨c, hc, ba_ue e2⟩
  rw [pk_un e2]
  by_cases e1 : j = f * 5 + 1
  · exact ⟨b, hb, ba_ue e1⟩
  rw [pk_un e1]
  by_cases e0 : j = f * 5
  · exact ⟨a, ha, ba_ue e0⟩
  rw [pk_un e0]
  exact hS j hj
section
variable {f_parts f_most f_functions f_openFn f_lacking f_subject f_wantedRest f_wantedLeft f_formCount f_bestA f_bestB f_bestC f_cells f_depth f_entries f_outcome f_freeNow f_lowest : Int32} {a_body a_lengths a_treeEnd a_accepted a_sig a_sizes a_input a_result a_state a_reached a_forms a_heads a_tails a_freed a_ints a_lists a_frameFn a_framePc : Nat → Int32} {f : Nat} {post : SX → Prop}
theorem xs_acc (hf : f < 4) (hs : f_subject = nI f) (h : post (f_parts, f_most, f_functions, f_openFn, f_lacking, f_subject, f_wantedRest, f_wantedLeft, f_formCount, f_bestA, f_bestB, f_bestC, f_cells, f_depth, f_entries, f_outcome, f_freeNow, f_lowest, a_body, a_lengths, a_treeEnd, upd a_accepted f 1, in_sg a_sig f f_bestA f_bestB f_bestC f_wantedRest f_wantedLeft, a_sizes, a_input, a_result, a_state, a_reached, a_forms, a_heads, a_tails, a_freed, a_ints, a_lists, a_frameFn, a_framePc)) : wpX_accept post (f_parts, f_most, f_functions, f_openFn, f_lacking, f_subject, f_wantedRest, f_wantedLeft, f_formCount, f_bestA, f_bestB, f_bestC, f_cells, f_depth, f_entries, f_outcome, f_freeNow, f_lowest, a_body, a_lengths, a_treeEnd, a_accepted, a_sig, a_sizes, a_input, a_result, a_state, a_reached, a_forms, a_heads, a_tails, a_freed, a_ints, a_lists, a_frameFn, a_framePc) := by
  subst hs
  refine nm_r (ba_m5 f) ⟨vp_in_nI (by omega) (by omega), nm_e ⟨by rw [nI_1]; exact vp_in_nI (by omega) (by omega), nm_e ⟨by rw [ba_2]; exact vp_in_nI (by omega) (by omega), nm_e ⟨by rw [ba_3]; exact vp_in_nI (by omega) (by omega), nm_e ⟨by rw [ba_4]; exact vp_in_nI (by omega) (by omega), nm_e ⟨vp_in_nI hf (by omega), nm_e ?_⟩⟩⟩⟩⟩⟩
  rw [nI_1, ba_2, ba_3, ba_4, nI_clamp (show f * 5 < 2 ^ 31 by omega), nI_clamp (show f * 5 + 1 < 2 ^ 31 by omega), nI_clamp (show f * 5 + 2 < 2 ^ 31 by omega), nI_clamp (show f * 5 + 3 < 2 ^ 31 by omega), nI_clamp (show f * 5 + 4 < 2 ^ 31 by omega), nI_clamp (show f < 2 ^ 31 by omega), ba_nb1]
  exact h
end
theorem i_vc_infer {k : Nat} {u : SX} {v : SY} (I : i_Rel k u v) (hk : k + 5 ≤ 2562) (v1 : Int32) (v2 : Int32) (v3 : Int32) : wpX_infer (fun r u' => wpY_infer (fun r' v' => r' = r ∧ i_Rel (k + 5) u' v') v v1 v2 v3) u v1 v2 v3 := by
  refine pt_el (fun u v => wpX_infer (fun r u' => wpY_infer (fun r' v' => r' = r ∧ i_Rel (k + 5) u' v') v v1 v2 v3) u v1 v2 v3) ?_ I
  intro f_parts f_most f_functions f_openFn f_lacking f_subject f_wantedRest f_wantedLeft f_formCount f_bestA f_bestB f_bestC f_cells f_depth f_entries f_outcome f_freeNow f_lowest a_body a_lengths a_treeEnd a_accepted a_sig a_sizes a_input a_result a_state a_reached a_forms a_heads a_tails a_freed a_ints a_lists a_frameFn a_framePc g_purse g_bases g_cells g_supply g_depth g_entries b_lastRun b_rates b_rest b_known b_base b_head b_tail b_dead b_lists hl hP hF hS hZ
  have hR : i_Rel (k + 5) (f_parts, f_most, f_functions, f_openFn, f_lacking, f_subject, f_wantedRest, f_wantedLeft, f_formCount, f_bestA, f_bestB, f_bestC, f_cells, f_depth, f_entries, f_outcome, f_freeNow, f_lowest, a_body, a_lengths, a_treeEnd, a_accepted, a_sig, a_sizes, a_input, a_result, a_state, a_reached, a_forms, a_heads, a_tails, a_freed, a_ints, a_lists, a_frameFn, a_framePc) (f_parts, f_most, f_functions, f_lacking, f_openFn, g_purse, g_bases, g_cells, g_supply, g_depth, g_entries, a_body, a_lengths, a_sig, a_accepted, a_input, a_result, a_sizes, b_lastRun, b_rates, b_rest, b_known, b_base, b_head, b_tail, b_dead, a_frameFn, a_framePc, a_ints, b_lists) := pt_in hl hP hF hS hZ
  obtain ⟨r, hX, hY, h⟩ := pt_st (f_parts := f_parts) (f_most := f_most) (f_functions := f_functions) (f_openFn := f_openFn) (f_lacking := f_lacking) (f_subject := f_subject) (f_wantedRest := f_wantedRest) (f_wantedLeft := f_wantedLeft) (f_formCount := f_formCount) (f_bestA := f_bestA) (f_bestB := f_bestB) (f_bestC := f_bestC) (f_cells := f_cells) (f_depth := f_depth) (f_entries := f_entries) (f_outcome := f_outcome) (f_freeNow := f_freeNow) (f_lowest := f_lowest) (a_body := a_body) (a_lengths := a_lengths) (a_treeEnd := a_treeEnd) (a_accepted := a_accepted) (a_sig := a_sig) (a_sizes := a_sizes) (a_input := a_input) (a_result := a_result) (a_state := a_state) (a_reached := a_reached) (a_forms := a_forms) (a_heads := a_heads) (a_tails := a_tails) (a_freed := a_freed) (a_ints := a_ints) (a_lists := a_lists) (a_frameFn := a_frameFn) (a_framePc := a_framePc) (g_purse := g_purse) (g_bases := g_bases) (g_cells := g_cells) (g_supply := g_supply) (g_depth := g_depth) (g_entries := g_entries) (b_lastRun := b_lastRun) (b_rates := b_rates) (b_rest := b_rest) (b_known := b_known) (b_base := b_base) (b_head := b_head) (b_tail := b_tail) (b_dead := b_dead) (b_lists := b_lists) hF v1
  have hP0 := hP
  obtain ⟨P, m, hp, p1, p4, hm, m1, m8⟩ := hP
  subst hm
  unfold wpX_infer
  refine hX _ ?_
  have hYs : ∀ post : Int32 → SY → Prop, _ → wpY_infer post (f_parts, nI m, f_functions, f_lacking, f_openFn, g_purse, g_bases, g_cells, g_supply, g_depth, g_entries, a_body, a_lengths, a_sig, a_accepted, a_input, a_result, a_sizes, b_lastRun, b_rates, b_rest, b_known, b_base, b_head, b_tail, b_dead, a_frameFn, a_framePc, a_ints, b_lists) v1 v2 v3 := fun post z => by
    unfold wpY_infer
    exact hY _ z
  rcases h with ⟨rfl, h⟩ | ⟨f, n, rfl, hf, hlt, hn, hn2, h⟩
  · exact br_t rfl (hYs _ (br_t rfl ⟨rfl, hR⟩))
  rcases h with ⟨rfl, _⟩ | ⟨hr, hop, hCF⟩
  · exact br_f (by decide) (br_t rfl (hYs _ (br_f (by decide) (br_t rfl ⟨rfl, hR⟩))))
  have r0 : ¬ r = 0 := by rcases hr with rfl | ⟨rfl, _⟩ <;> decide
  have r1 : ¬ r = 1 := by rcases hr with rfl | ⟨rfl, _⟩ <;> decide
  obtain ⟨n1, n12, hFi, en, hT, he, hte⟩ := hCF
  refine br_f r0 (br_f r1 ?_)
  rcases or_assoc.mpr (ba_w v2 m (by omega)) with h | ⟨R, hR8, rfl⟩
  · refine pt_w0 h (br_t rfl (hYs _ (br_f r0 (br_f r1 ?_))))
    rcases h with h | h
    · exact br_t h ⟨rfl, hR⟩
    · exact br_f h.1 (br_t h.2 ⟨rfl, hR⟩)
  refine pt_w1 hR8 (by omega) (br_f (by decide) ?_)
  have hR0 : ¬ nI R < 0 := nI_pos (by omega)
  have hR1 : ¬ nI m < nI R := nI_nlt hR8 (by omega)
  rcases or_assoc.mpr (ba_w v3 m (by omega)) with h | ⟨D, hD8, rfl⟩
  · refine pt_w0 h (br_t rfl (hYs _ (br_f r0 (br_f r1 (br_f hR0 (br_f hR1 ?_))))))
    exact pt_y0 h ⟨rfl, hR⟩
  refine pt_w1 hD8 (by omega) (br_f (by decide) ?_)
  have hD0 : ¬ nI D < 0 := nI_pos (by omega)
  have hD1 : nI D ≤ nI m := nI_le hD8 (by omega)
  have hYt : ∀ post : Int32 → SY → Prop, (∃ n50 : Nat, wY_infer_50 post (nI f) (nI R) (nI D) f_parts (nI m) f_functions f_lacking f_openFn g_purse g_bases g_cells g_supply g_depth g_entries a_body a_lengths a_sig a_accepted a_input a_result a_sizes b_lastRun b_rates b_rest b_known b_base b_head b_tail b_dead a_frameFn a_framePc a_ints b_lists n50 0) → wpY_infer post (f_parts, nI m, f_functions, f_lacking, f_openFn, g_purse, g_bases, g_cells, g_supply, g_depth, g_entries, a_body, a_lengths, a_sig, a_accepted, a_input, a_result, a_sizes, b_lastRun, b_rates, b_rest, b_known, b_base, b_head, b_tail, b_dead, a_frameFn, a_framePc, a_ints, b_lists) (nI f) (nI R) (nI D) := fun post z => hYs post (br_f r0 (br_f r1 (br_f hR0 (br_f hR1 (br_f hD0 (br_t hD1 z))))))
  refine xs_unt hf hn n12 hFi (fun hU => br_f (by decide) (hYt _ (yi_unt hf hlt hn n12 hFi (fun _ => ⟨rfl, hR⟩) (fun z => absurd hU z)))) (fun hU => br_t rfl ?_)
  refine xs_gather (en := en) (n := n) (P := P) (R := R) (D := D) hf hn n1 n12 hFi hT he hte rfl hp p4 rfl (by omega) rfl (by omega) hS ?_
  intro st' re' fm' c1 hc1 hbd hiff
  have hYu : ∀ post : Int32 → SY → Prop, (sv_N (fun A B C => xs_NN fm' A B C 0 c1) m → ∀ (g_purse g_bases : Int32) (b_rates b_rest b_known b_base : Nat → Int32), post (-8) (f_parts, nI m, f_functions, f_lacking, f_openFn, g_purse, g_bases, g_cells, g_supply, g_depth, g_entries, a_body, a_lengths, a_sig, a_accepted, a_input, a_result, a_sizes, b_lastRun, b_rates, b_rest, b_known, b_base, b_head, b_tail, b_dead, a_frameFn, a_framePc, a_ints, b_lists)) →
      (∀ s c a, sv_B (fun A B C => xs_NN fm' A B C 0 c1) m s c a → ∀ (g_purse g_bases : Int32) (b_rates b_rest b_known b_base : Nat → Int32), xs_RT a_sig f (nI R) (nI D) (nI a) (nI (s - a)) (nI c) b_rates → post 0 (f_parts, nI m, f_functions, f_lacking, f_openFn, g_purse, g_bases, g_cells, g_supply, g_depth, g_entries, a_body, a_lengths, ba_cp a_sig b_rates 0 0 20, upd a_accepted f 1, a_input, a_result, a_sizes, b_lastRun, b_rates, b_rest, b_known, b_base, b_head, b_tail, b_dead, a_frameFn, a_framePc, a_ints, b_lists)) → wpY_infer post (f_parts, nI m, f_functions, f_lacking, f_openFn, g_purse, g_bases, g_cells, g_supply, g_depth, g_entries, a_body, a_lengths, a_sig, a_accepted, a_input, a_result, a_sizes, b_lastRun, b_rates, b_rest, b_known, b_base, b_head, b_tail, b_dead, a_frameFn, a_framePc, a_ints, b_lists) (nI f) (nI R) (nI D) := by
    intro post h0 h1
    refine hYt post (yi_unt hf hlt hn n12 hFi (fun z => absurd z hU) (fun _ => yi_115 hf (fun rates hRT => ⟨2 * m + 1 + 1, ?_⟩)))
    exact yi_search (Φ := fun A B C => xs_NN fm' A B C 0 c1) (en := en) (n := n) hf hlt hn n1 n12 hFi hT he rfl m8 (by omega) (by omega) hS (fun A B C rt hrt => hiff A B C rt hrt) h0 h1 (2 * m + 1) 0 _ _ _ _ _ _ (by omega) hRT (fun s c a z => by omega)
  refine xs_solve (m := m) rfl m8 rfl hc1 hbd (fun hN => br_t rfl (hYu _ (fun _ g_purse g_bases b_rates b_rest b_known b_base => ⟨rfl, pt_in hl hP0 hF hS hZ⟩) (fun s c a hB => (sv_n hB hN).elim))) (fun s c a hB => br_f (by decide) (xs_acc hf rfl (hYu _ (fun hN => (sv_n hB hN).elim) (fun s' c' a' hB' g_purse g_bases b_rates b_rest b_known b_base hRT => ⟨rfl, ?_⟩))))
  obtain ⟨e1, e2, e3⟩ := sv_u hB hB'
  subst e1 e2 e3
  obtain ⟨g1, g2, g3, g4, g5⟩ := hB.2.1.1
  rw [in_sge hf hRT]
  exact pt_in hl hP0 hF (in_KS hS (by omega) (by omega) (by omega) (by omega) (by omega)) hZ
end
section
/-! the machine: both states side by side -/
/-- cells not freed among the first c -/
def mc_cn (fr : Nat → Int32) : Nat → Nat
  | 0 => 0
  | c + 1 => mc_cn fr c + (if fr c = 0 then 1 else 0)
theorem mc_cn_c {fr fr' : Nat → Int32} : ∀ c, (∀ i, i < c → fr' i = fr i) → mc_cn fr' c = mc_cn fr c := by
  intro c
  induction c with
  | zero => intro _; rfl
  | succ c ih =>
    intro h
    show mc_cn fr' c + _ = mc_cn fr c + _
    rw [ih (fun i hi => h i (by omega)), h c (by omega)]
theorem mc_cn_m {fr : Nat → Int32} {a b : Nat} (h : a ≤ b) : mc_cn fr a ≤ mc_cn fr b := by
  induction b with
  | zero => rw [show a = 0 by omega]; exact Nat.le_refl _
  | succ b ih =>
    rcases Nat.lt_or_ge a (b + 1) with h' | h'
    · exact Nat.le_trans (ih (by omega)) (Nat.le_add_right _ _)
    · rw [show a = b + 1 by omega]; exact Nat.le_refl _
theorem mc_cn_s {fr : Nat → Int32} {c : Nat} (h : fr c = 0) : mc_cn fr (c + 1) = mc_cn fr c + 1 := by
  show mc_cn fr c + _ = _
  rw [if_pos h]
/-- a cell freed -/
theorem mc_cn_f {fr : Nat → Int32} {x : Int32} {i : Nat} (hx : ¬ x = 0) (h : fr i = 0) : ∀ c, i < c → mc_cn (upd fr i x) c + 1 = mc_cn fr c := by
  intro c
  induction c with
  | zero => intro hi; omega
  | succ c ih =>
    intro hi
    show mc_cn (upd fr i x) c + (if upd fr i x c = 0 then 1 else 0) + 1 = mc_cn fr c + (if fr c = 0 then 1 else 0)
    rcases Nat.lt_or_ge i c with h' | h'
    · have := ih h'
      rw [pk_un (by omega)]
      omega
    · obtain rfl : i = c := by omega
      rw [pk_us, if_neg hx, if_pos h, mc_cn_c i (fun j hj => pk_un (by omega))]
def mc_H (c : Nat) (xh xt xf yh yt yd : Nat → Int32) : Prop := ∀ i, i < c → yh (i + 1) = xh i ∧ yd (i + 1) = xf i ∧ ∃ t, t ≤ i ∧ xt i = nI t - 1 ∧ yt (i + 1) = nI t
def mc_L (c d : Nat) (xl yl : Nat → Int32) : Prop := ∀ j, j < d * 4 → ∃ t, t ≤ c ∧ xl j = nI t - 1 ∧ yl j = nI t
def mc_F (ln : Nat → Nat) (body : Nat → Int32) (f d : Nat) (fn pc : Nat → Int32) : Prop := ∀ i, i < d → ∃ g k, fn i = nI g ∧ g ≤ f ∧ pc i = nI k ∧ k < ln g ∧ (i + 1 < d → pt_o body g k = 2)
def mc_Cl (fns : Int32) (body len te : Nat → Int32) (f : Nat) (ln : Nat → Nat) : Prop := ∀ g, g ≤ f → g < 4 ∧ nI g < fns ∧ len g = nI (ln g) ∧ pt_CF body te g (ln g)
def mc_Pre (st f : Nat) (ln : Nat → Nat) (c d e w l : Nat) (fns : Int32) (body len te sizes heads tails freed lists fn pc head tail dead ylists : Nat → Int32) : Prop :=
  mc_Cl fns body len te f ln ∧ (d + 1 ≤ 32 ∧ e ≤ 128 ∧ l ≤ w ∧ mc_cn freed c + w ≤ 176 ∧ 2 * c + w ≤ 192 + st) ∧
  mc_H c heads tails freed head tail dead ∧ mc_L c (d + 1) lists ylists ∧ mc_F ln body f (d + 1) fn pc ∧ sizes 2 = 0
def mc_Run (st : Nat) (lo fns cX dX eX fX cY dY eY : Int32) (body len te sizes heads tails freed lists fn pc head tail dead ylists : Nat → Int32) : Prop :=
  ∃ (f : Nat) (ln : Nat → Nat) (c d e w l : Nat), (cX = nI c ∧ cY = nI c ∧ dX = nI (d + 1) ∧ dY = nI (d + 1) ∧ eX = nI e ∧ eY = nI e ∧ fX = nI w ∧ lo = nI l) ∧
    mc_Pre st f ln c d e w l fns body len te sizes heads tails freed lists fn pc head tail dead ylists
def mc_Rel (st : Nat) (o lo : Int32) (u : SX) (v : SY) : Prop := match u, v with
  | (f_parts, f_most, f_functions, f_openFn, f_lacking, f_subject, f_wantedRest, f_wantedLeft, f_formCount, f_bestA, f_bestB, f_bestC, f_cells, f_depth, f_entries, f_outcome, f_freeNow, f_lowest, a_body, a_lengths, a_treeEnd, a_accepted, a_sig, a_sizes, a_input, a_result, a_state, a_reached, a_forms, a_heads, a_tails, a_freed, a_ints, a_lists, a_frameFn, a_framePc), (g_parts, g_most, g_count, g_lacking, g_opened, g_purse, g_bases, g_cells, g_supply, g_depth, g_entries, b_body, b_len, b_sig, b_accepted, b_input, b_result, b_sizes, b_lastRun, b_rates, b_rest, b_known, b_base, b_head, b_tail, b_dead, b_fun, b_pc, b_ints, b_lists) =>
    (g_parts = f_parts ∧ g_most = f_most ∧ g_count = f_functions ∧ g_lacking = f_lacking ∧ g_opened = f_openFn) ∧
    (b_body = a_body ∧ b_len = a_lengths ∧ b_sig = a_sig ∧ b_accepted = a_accepted ∧ b_input = a_input ∧ b_result = a_result ∧ b_sizes = a_sizes ∧ b_fun = a_frameFn ∧ b_pc = a_framePc ∧ b_ints = a_ints) ∧
    (f_outcome = o ∧ f_lowest = lo ∧ g_supply = f_freeNow) ∧
    pt_KP f_parts f_most ∧ pt_KF f_functions f_openFn f_lacking a_body a_lengths a_treeEnd ∧ pt_KS a_sig ∧ pt_KZ a_sizes ∧
    (o = 0 → mc_Run st lo f_functions f_cells f_depth f_entries f_freeNow g_cells g_depth g_entries a_body a_lengths a_treeEnd a_sizes a_heads a_tails a_freed a_lists a_frameFn a_framePc b_head b_tail b_dead b_lists)
def mc_K (parts most fns opn lack : Int32) (body len te sig sizes : Nat → Int32) : Prop := pt_KP parts most ∧ pt_KF fns opn lack body len te ∧ pt_KS sig ∧ pt_KZ sizes
section
variable {f_parts f_most f_functions f_openFn f_lacking f_subject f_wantedRest f_wantedLeft f_formCount f_bestA f_bestB f_bestC f_cells f_depth f_entries f_outcome f_freeNow f_lowest : Int32} {a_body a_lengths a_treeEnd a_accepted a_sig a_sizes a_input a_result a_state a_reached a_forms a_heads a_tails a_freed a_ints a_lists a_frameFn a_framePc : Nat → Int32} {g_purse g_bases g_cells g_supply g_depth g_entries : Int32} {b_lastRun b_rates b_rest b_known b_base b_head b_tail b_dead b_lists : Nat → Int32} {st : Nat}
theorem mc_in (hK : mc_K f_parts f_most f_functions f_openFn f_lacking a_body a_lengths a_treeEnd a_sig a_sizes)
    (hr : f_outcome = 0 → mc_Run st f_lowest f_functions f_cells f_depth f_entries f_freeNow g_cells g_depth g_entries a_body a_lengths a_treeEnd a_sizes a_heads a_tails a_freed a_lists a_frameFn a_framePc b_head b_tail b_dead b_lists) :
    mc_Rel st f_outcome f_lowest (f_parts, f_most, f_functions, f_openFn, f_lacking, f_subject, f_wantedRest, f_wantedLeft, f_formCount, f_bestA, f_bestB, f_bestC, f_cells, f_depth, f_entries, f_outcome, f_freeNow, f_lowest, a_body, a_lengths, a_treeEnd, a_accepted, a_sig, a_sizes, a_input, a_result, a_state, a_reached, a_forms, a_heads, a_tails, a_freed, a_ints, a_lists, a_frameFn, a_framePc) (f_parts, f_most, f_functions, f_lacking, f_openFn, g_purse, g_bases, g_cells, f_freeNow, g_depth, g_entries, a_body, a_lengths, a_sig, a_accepted, a_input, a_result, a_sizes, b_lastRun, b_rates, b_rest, b_known, b_base, b_head, b_tail, b_dead, a_frameFn, a_framePc, a_ints, b_lists) :=
  ⟨⟨rfl, rfl, rfl, rfl, rfl⟩, ⟨rfl, rfl, rfl, rfl, rfl, rfl, rfl, rfl, rfl, rfl⟩, ⟨rfl, rfl, rfl⟩, hK.1, hK.2.1, hK.2.2.1, hK.2.2.2, hr⟩
end
def mc_elim (st : Nat) (P : Int32 → Int32 → SX → SY → Prop) : Prop := ∀ (f_parts f_most f_functions f_openFn f_lacking f_subject f_wantedRest f_wantedLeft f_formCount f_bestA f_bestB f_bestC f_cells f_depth f_entries f_outcome f_freeNow f_lowest : Int32) (a_body a_lengths a_treeEnd a_accepted a_sig a_sizes a_input a_result a_state a_reached a_forms a_heads a_tails a_freed a_ints a_lists a_frameFn a_framePc : Nat → Int32) (g_purse g_bases g_cells g_depth g_entries : Int32) (b_lastRun b_rates b_rest b_known b_base b_head b_tail b_dead b_lists : Nat → Int32), mc_K f_parts f_most f_functions f_openFn f_lacking a_body a_lengths a_treeEnd a_sig a_sizes → (f_outcome = 0 → mc_Run st f_lowest f_functions f_cells f_depth f_entries f_freeNow g_cells g_depth g_entries a_body a_lengths a_treeEnd a_sizes a_heads a_tails a_freed a_lists a_frameFn a_framePc b_head b_tail b_dead b_lists) → P f_outcome f_lowest (f_parts, f_most, f_functions, f_openFn, f_lacking, f_subject, f_wantedRest, f_wantedLeft, f_formCount, f_bestA, f_bestB, f_bestC, f_cells, f_depth, f_entries, f_outcome, f_freeNow, f_lowest, a_body, a_lengths, a_treeEnd, a_accepted, a_sig, a_sizes, a_input, a_result, a_state, a_reached, a_forms, a_heads, a_tails, a_freed, a_ints, a_lists, a_frameFn, a_framePc) (f_parts, f_most, f_functions, f_lacking, f_openFn, g_purse, g_bases, g_cells, f_freeNow, g_depth, g_entries, a_body, a_lengths, a_sig, a_accepted, a_input, a_result, a_sizes, b_lastRun, b_rates, b_rest, b_known, b_base, b_head, b_tail, b_dead, a_frameFn, a_framePc, a_ints, b_lists)
theorem mc_el {st : Nat} {o lo : Int32} {u : SX} {v : SY} (P : Int32 → Int32 → SX → SY → Prop) (h : mc_elim st P) (I : mc_Rel st o lo u v) : P o lo u v := by
  obtain ⟨f_parts, f_most, f_functions, f_openFn, f_lacking, f_subject, f_wantedRest, f_wantedLeft, f_formCount, f_bestA, f_bestB, f_bestC, f_cells, f_depth, f_entries, f_outcome, f_freeNow, f_lowest, a_body, a_lengths, a_treeEnd, a_accepted, a_sig, a_sizes, a_input, a_result, a_state, a_reached, a_forms, a_heads, a_tails, a_freed, a_ints, a_lists, a_frameFn, a_framePc⟩ := u
  obtain ⟨g_parts, g_most, g_count, g_lacking, g_opened, g_purse, g_bases, g_cells, g_supply, g_depth, g_entries, b_body, b_len, b_sig, b_accepted, b_input, b_result, b_sizes, b_lastRun, b_rates, b_rest, b_known, b_base, b_head, b_tail, b_dead, b_fun, b_pc, b_ints, b_lists⟩ := v
  obtain ⟨⟨h1, h2, h3, h4, h5⟩, ⟨i1, i2, i3, i4, i5, i6, i7, i8, i9, i10⟩, ⟨j1, j2, j3⟩, hP, hF, hS, hZ, hr⟩ := I
  subst h1 h2 h3 h4 h5 i1 i2 i3 i4 i5 i6 i7 i8 i9 i10 j1 j2 j3
  exact h _ _ _ _ _ _ _ _ _ _ _ _ _ _ _ _ _ _ _ _ _ _ _ _ _ _ _ _ _ _ _ _ _ _ _ _ _ _ _ _ _ _ _ _ _ _ _ _ _ _ ⟨hP, hF, hS, hZ⟩ hr
def mc_sup (v : SY) : Int32 := match v with
  | (g_parts, g_most, g_count, g_lacking, g_opened, g_purse, g_bases, g_cells, g_supply, g_depth, g_entries, b_body, b_len, b_sig, b_accepted, b_input, b_result, b_sizes, b_lastRun, b_rates, b_rest, b_known, b_base, b_head, b_tail, b_dead, b_fun, b_pc, b_ints, b_lists) => g_supply
/-- both sides make one step -/
def mc_Go (st : Nat) (lo : Int32) (u : SX) (v : SY) : Prop := ∃ (o lo' : Int32) (u' : SX) (v' : SY), mc_Rel (st + 1) o lo' u' v' ∧ ((lo ≤ mc_sup v' ∧ lo' = lo) ∨ (¬ lo ≤ mc_sup v' ∧ lo' = mc_sup v')) ∧
  (∀ post : SX → Prop, post u' → wpX_execute post u) ∧ (∀ post : Int32 → SY → Prop, post o v' → wpY_execute post v)
/-! enter -/
def en_i (ints : Nat → Int32) (s : Nat) (i : Int32) : Nat → Int32 := upd (ba_cp ints (fun _ => 0) s 0 4) s i
def en_l (lists : Nat → Int32) (s : Nat) (x y z : Int32) : Nat → Int32 := upd (upd (ba_cp lists (fun _ => z) s 0 4) s x) (s + 1) y
section
variable {f_parts f_most f_functions f_openFn f_lacking f_subject f_wantedRest f_wantedLeft f_formCount f_bestA f_bestB f_bestC f_cells f_depth f_entries f_outcome f_freeNow f_lowest : Int32} {a_body a_lengths a_treeEnd a_accepted a_sig a_sizes a_input a_result a_state a_reached a_forms a_heads a_tails a_freed a_ints a_lists a_frameFn a_framePc : Nat → Int32}
theorem mc_xen {post : SX → Prop} {d e : Nat} {g i x y : Int32} (hd : d < 32) (he : e ≤ 128) (hdd : f_depth = nI d) (hee : f_entries = nI e) (h : post (f_parts, f_most, f_functions, f_openFn, f_lacking, f_subject, f_wantedRest, f_wantedLeft, f_formCount, f_bestA, f_bestB, f_bestC, f_cells, nI (d + 1), nI (e + 1), f_outcome, f_freeNow, f_lowest, a_body, a_lengths, a_treeEnd, a_accepted, a_sig, a_sizes, a_input, a_result, a_state, a_reached, a_forms, a_heads, a_tails, a_freed, en_i a_ints (d * 4) i, en_l a_lists (d * 4) x y (-1), upd a_frameFn d g, upd a_framePc d 0)) : wpX_enter post (f_parts, f_most, f_functions, f_openFn, f_lacking, f_subject, f_wantedRest, f_wantedLeft, f_formCount, f_bestA, f_bestB, f_bestC, f_cells, f_depth, f_entries, f_outcome, f_freeNow, f_lowest, a_body, a_lengths, a_treeEnd, a_accepted, a_sig, a_sizes, a_input, a_result, a_state, a_reached, a_forms, a_heads, a_tails, a_freed, a_ints, a_lists, a_frameFn, a_framePc) g i x y := by
  subst hdd hee
  have go : ∀ r j, j + r = 4 → wX_enter_11 post g i x y (nI (d * 4)) f_parts f_most f_functions f_openFn f_lacking f_subject f_wantedRest f_wantedLeft f_formCount f_bestA f_bestB f_bestC f_cells (nI d) (nI e) f_outcome f_freeNow f_lowest (r + 1) (nI j) a_body a_lengths a_treeEnd a_accepted a_sig a_sizes a_input a_result a_state a_reached a_forms a_heads a_tails a_freed (ba_cp a_ints (fun _ => 0) (d * 4) 0 j) (ba_cp a_lists (fun _ => -1) (d * 4) 0 j) a_frameFn a_framePc := by
    intro r
    induction r with
    | zero =>
      intro j hj
      obtain rfl : j = 4 := by omega
      have v0 : vp_in (nI (d * 4)) 128 := vp_in_nI (by omega) (by omega)
      have vd : vp_in (nI d) 32 := vp_in_nI hd (by omega)
      refine br_t (by decide) ⟨v0, nm_e ⟨v0, nm_e ⟨by rw [nI_1]; exact vp_in_nI (by omega) (by omega), nm_e ⟨vd, nm_e ⟨vd, nm_e (nm_r (nI_1 d) (nm_r (nI_1 e) ?_))⟩⟩⟩⟩⟩
      rw [nI_1, nI_clamp (by omega), nI_clamp (by omega), nI_clamp (by omega)]
      exact h
    | succ r ih =>
      intro j hj
      have e1 : nI (d * 4) + nI j = nI (d * 4 + j) := nI_add _ _
      have v1 : vp_in (nI (d * 4) + nI j) 128 := by rw [e1]; exact vp_in_nI (by omega) (by omega)
      refine br_f (nI_ge (b := 4) (by omega) (by omega)) ⟨v1, nm_r (e' := ba_cp a_ints (fun _ => 0) (d * 4) 0 (j + 1)) (by rw [e1, nI_clamp (by omega), ← ba_cps]) ⟨v1, nm_r (e' := ba_cp a_lists (fun _ => -1) (d * 4) 0 (j + 1)) (by rw [e1, nI_clamp (by omega), ← ba_cps]) (nm_r (nI_1 j) (ih (j + 1) (by omega)))⟩⟩
  have := go 4 0 (by omega)
  rw [ba_cp0, ba_cp0] at this
  exact nm_r (ba_m4 d) ⟨5, this⟩
end
/-- the reference's enter, up to slot j -/
def en_yi (ints : Nat → Int32) (s : Nat) (i : Int32) (j : Nat) : Nat → Int32 := fun z => if s ≤ z ∧ z < s + j then (if z = s then i else 0) else ints z
def en_yl (lists : Nat → Int32) (s : Nat) (x y : Int32) (j : Nat) : Nat → Int32 := fun z => if s ≤ z ∧ z < s + j then (if z = s then x else if z = s + 1 then y else 0) else lists z
theorem en_yis {ints : Nat → Int32} {s j : Nat} {i v : Int32} (hv : v = if j = 0 then i else 0) : upd (en_yi ints s i j) (s + j) v = en_yi ints s i (j + 1) := by
  funext z
  unfold upd en_yi
  by_cases h : z = s + j
  · rw [if_pos h, if_pos (show s ≤ z ∧ z < s + (j + 1) by omega), hv]
    by_cases h0 : j = 0
    · rw [if_pos h0, if_pos (by omega)]
    · rw [if_neg h0, if_neg (by omega)]
  · rw [if_neg h]
    by_cases h2 : s ≤ z ∧ z < s + j
    · rw [if_pos h2, if_pos (show s ≤ z ∧ z < s + (j + 1) by omega)]
    · rw [if_neg h2, if_neg (show ¬ (s ≤ z ∧ z < s + (j + 1)) by omega)]
theorem en_yls {lists : Nat → Int32} {s j : Nat} {x y v : Int32} (hv : v = if j = 0 then x else if j = 1 then y else 0) : upd (en_yl lists s x y j) (s + j) v = en_yl lists s x y (j + 1) := by
  funext z
  unfold upd en_yl
  by_cases h : z = s + j
  · rw [if_pos h, if_pos (show s ≤ z ∧ z < s + (j + 1) by omega), hv]
    by_cases h0 : j = 0
    · rw [if_pos h0, if_pos (by omega)]
    · rw [if_neg h0, if_neg (show ¬ z = s by omega)]
      by_cases h1 : j = 1
      · rw [if_pos h1, if_pos (show z = s + 1 by omega)]
      · rw [if_neg h1, if_neg (show ¬ z = s + 1 by omega)]
  · rw [if_neg h]
    by_cases h2 : s ≤ z ∧ z < s + j
    · rw [if_pos h2, if_pos (show s ≤ z ∧ z < s + (j + 1) by omega)]
    · rw [if_neg h2, if_neg (show ¬ (s ≤ z ∧ z < s + (j + 1)) by omega)]
theorem en_ie {ints : Nat → Int32} {s : Nat} {i : Int32} : en_yi ints s i 4 = en_i ints s i := by
  funext z
  unfold en_yi en_i
  by_cases h : z = s
  · rw [ba_ue h, if_pos (show s ≤ z ∧ z < s + 4 by omega), if_pos h]
  · rw [pk_un h]
    by_cases h2 : s ≤ z ∧ z < s + 4
    · rw [if_pos h2, if_neg h, ba_cpi h2.1 h2.2]
    · rw [if_neg h2, ba_cpo (by omega)]
theorem en_le {lists : Nat → Int32} {s : Nat} {x y : Int32} : en_yl lists s x y 4 = en_l lists s x y 0 := by
  funext z
  unfold en_yl en_l
  by_cases h1 : z = s + 1
  · rw [ba_ue h1, if_pos (show s ≤ z ∧ z < s + 4 by omega), if_neg (by omega), if_pos h1]
  · rw [pk_un h1]
    by_cases h : z = s
    · rw [ba_ue h, if_pos (show s ≤ z ∧ z < s + 4 by omega), if_pos h]
    · rw [pk_un h]
      by_cases h2 : s ≤ z ∧ z < s + 4
      · rw [if_pos h2, if_neg h, if_neg h1, ba_cpi h2.1 h2.2]
      · rw [if_neg h2, ba_cpo (by omega)]
section
variable {g_parts g_most g_count g_lacking g_opened g_purse g_bases g_cells g_supply g_depth g_entries : Int32} {b_body b_len b_sig b_accepted b_input b_result b_sizes b_lastRun b_rates b_rest b_known b_base b_head b_tail b_dead b_fun b_pc b_ints b_lists : Nat → Int32}
theorem mc_yen {post : Int32 → SY → Prop} {d e : Nat} {g i x y : Int32} (hd : d < 32) (he : e < 128) (hdd : g_depth = nI d) (hee : g_entries = nI e) (h : post 0 (g_parts, g_most, g_count, g_lacking, g_opened, g_purse, g_bases, g_cells, g_supply, nI (d + 1), nI (e + 1), b_body, b_len, b_sig, b_accepted, b_input, b_result, b_sizes, b_lastRun, b_rates, b_rest, b_known, b_base, b_head, b_tail, b_dead, upd b_fun d g, upd b_pc d 0, en_i b_ints (d * 4) i, en_l b_lists (d * 4) x y 0)) : wpY_enter post (g_parts, g_most, g_count, g_lacking, g_opened, g_purse, g_bases, g_cells, g_supply, g_depth, g_entries, b_body, b_len, b_sig, b_accepted, b_input, b_result, b_sizes, b_lastRun, b_rates, b_rest, b_known, b_base, b_head, b_tail, b_dead, b_fun, b_pc, b_ints, b_lists) g i x y := by
  subst hdd hee
  rw [← en_ie, ← en_le] at h
  have go : ∀ r j, j + r = 4 → wY_enter_24 post g i x y g_parts g_most g_count g_lacking g_opened g_purse g_bases g_cells g_supply (nI d) (nI e) (r + 1) (nI j) b_body b_len b_sig b_accepted b_input b_result b_sizes b_lastRun b_rates b_rest b_known b_base b_head b_tail b_dead b_fun b_pc (en_yi b_ints (d * 4) i j) (en_yl b_lists (d * 4) x y j) := by
    intro r
    induction r with
    | zero =>
      intro j hj
      obtain rfl : j = 4 := by omega
      have vd : vp_in (nI d) 32 := vp_in_nI hd (by omega)
      refine br_t (by decide) ⟨vd, nm_e ⟨vd, nm_e (nm_r (nI_1 d) (nm_r (nI_1 e) ?_))⟩⟩
      rw [nI_clamp (by omega)]
      exact h
    | succ r ih =>
      intro j hj
      have e1 : nI d * 4 + nI j = nI (d * 4 + j) := by rw [ba_m4, nI_add]
      have v1 : vp_in (nI d * 4 + nI j) 128 := by rw [e1]; exact vp_in_nI (by omega) (by omega)
      have cl : (nI d * 4 + nI j).toNatClampNeg = d * 4 + j := by rw [e1, nI_clamp (by omega)]
      have j53 : ∀ v : Int32, v = (if j = 0 then i else 0) → wY_enter_53 post (wY_enter_24 post g i x y g_parts g_most g_count g_lacking g_opened g_purse g_bases g_cells g_supply (nI d) (nI e) (r + 1)) g i x y (nI j) v (nI d * 4 + nI j) g_parts g_most g_count g_lacking g_opened g_purse g_bases g_cells g_supply (nI d) (nI e) b_body b_len b_sig b_accepted b_input b_result b_sizes b_lastRun b_rates b_rest b_known b_base b_head b_tail b_dead b_fun b_pc (en_yi b_ints (d * 4) i j) (en_yl b_lists (d * 4) x y j) := by
        intro v hv
        refine And.intro v1 (nm_r (e' := en_yi b_ints (d * 4) i (j + 1)) (by rw [cl]; exact en_yis hv) ?_)
        refine pk_eq j 0 (fun h0 => ⟨v1, nm_r (e' := en_yl b_lists (d * 4) x y (j + 1)) (by rw [cl]; exact en_yls (by rw [if_pos h0])) (nm_r (nI_1 j) (ih (j + 1) (by omega)))⟩) (fun h0 => pk_eq j 1 (fun h1 => ⟨v1, nm_r (e' := en_yl b_lists (d * 4) x y (j + 1)) (by rw [cl]; exact en_yls (by rw [if_neg h0, if_pos h1])) (nm_r (nI_1 j) (ih (j + 1) (by omega)))⟩) (fun h1 => ⟨v1, nm_r (e' := en_yl b_lists (d * 4) x y (j + 1)) (by rw [cl]; exact en_yls (by rw [if_neg h0, if_neg h1])) (nm_r (nI_1 j) (ih (j + 1) (by omega)))⟩))
      exact br_f (nI_ge (b := 4) (by omega) (by omega)) (pk_eq j 0 (fun h0 => j53 i (by rw [if_pos h0])) (fun h0 => j53 0 (by rw [if_neg h0])))
  have := go 4 0 (by omega)
  rw [show en_yi b_ints (d * 4) i 0 = b_ints from funext fun z => if_neg (by omega), show en_yl b_lists (d * 4) x y 0 = b_lists from funext fun z => if_neg (by omega)] at this
  exact pk_eq d 32 (fun h => absurd h (by omega)) (fun _ => pk_eq e 128 (fun h => absurd h (by omega)) (fun _ => ⟨5, this⟩))
end
end
section
/-! finish, give; small laws of the relation -/
theorem mc_L_u {c d t j : Nat} {xl yl : Nat → Int32} (h : mc_L c d xl yl) (ht : t ≤ c) : mc_L c d (upd xl j (nI t - 1)) (upd yl j (nI t)) := by
  intro i hi
  by_cases e : i = j
  · exact ⟨t, ht, ba_ue e, ba_ue e⟩
  · rw [pk_un e, pk_un e]; exact h i hi
theorem mc_L_m {c c' d d' : Nat} {xl yl : Nat → Int32} (h : mc_L c d xl yl) (hc : c ≤ c') (hd : d' ≤ d) : mc_L c' d' xl yl := by
  intro i hi
  obtain ⟨t, h1, h2⟩ := h i (by omega)
  exact ⟨t, by omega, h2⟩
theorem mc_F_u {ln : Nat → Nat} {body fn pc : Nat → Int32} {f d g k' : Nat} (h : mc_F ln body f (d + 1) fn pc) (hfn : fn d = nI g) (hg : g ≤ f) (hk : k' < ln g) : mc_F ln body f (d + 1) fn (upd pc d (nI k')) := by
  intro i hi
  by_cases e : i = d
  · subst e
    exact ⟨g, k', hfn, hg, ba_ue rfl, hk, fun z => by omega⟩
  · obtain ⟨g', k, h1, h2, h3, h4, h5⟩ := h i hi
    exact ⟨g', k, h1, h2, by rw [pk_un e]; exact h3, h4, h5⟩
theorem mc_Z2 {sz : Nat → Int32} {n : Nat} (hn : n ≤ 176) (h : pt_KZ sz) : pt_KZ (upd sz 2 (nI n)) := by
  obtain ⟨s0, s1, s2, h1, h2, h3, h4, h5, h6⟩ := h
  exact ⟨s0, s1, n, h1, h2, h3, h4, ba_ue rfl, hn⟩
theorem mc_u2 {sz : Nat → Int32} (h : sz 2 = 0) : upd sz 2 0 = sz := by
  funext j
  by_cases e : j = 2
  · rw [ba_ue e, e, h]
  · rw [pk_un e]
section
variable {f_parts f_most f_functions f_openFn f_lacking f_subject f_wantedRest f_wantedLeft f_formCount f_bestA f_bestB f_bestC f_cells f_depth f_entries f_outcome f_freeNow f_lowest : Int32} {a_body a_lengths a_treeEnd a_accepted a_sig a_sizes a_input a_result a_state a_reached a_forms a_heads a_tails a_freed a_ints a_lists a_frameFn a_framePc : Nat → Int32} {g_purse g_bases g_cells g_supply g_depth g_entries : Int32} {b_lastRun b_rates b_rest b_known b_base b_head b_tail b_dead b_lists : Nat → Int32}
theorem mf_loop {c : Nat} (hc : c < 1000) (hH : mc_H c a_heads a_tails a_freed b_head b_tail b_dead) (hs2 : a_sizes 2 = 0) (hZ : pt_KZ a_sizes) :
    ∀ (N t n : Nat) (rs : Nat → Int32), t < N → t ≤ c → n + mc_cn a_freed t ≤ 176 →
    ∃ (o : Int32) (sz rs' : Nat → Int32), ¬ o = 0 ∧ pt_KZ sz ∧
      (∀ post : SX → Prop, post (f_parts, f_most, f_functions, f_openFn, f_lacking, f_subject, f_wantedRest, f_wantedLeft, f_formCount, f_bestA, f_bestB, f_bestC, f_cells, f_depth, f_entries, o, f_freeNow, f_lowest, a_body, a_lengths, a_treeEnd, a_accepted, a_sig, sz, a_input, rs', a_state, a_reached, a_forms, a_heads, a_tails, a_freed, a_ints, a_lists, a_frameFn, a_framePc) → ∀ F, t < F → wX_finish_4 post f_parts f_most f_functions f_openFn f_lacking f_subject f_wantedRest f_wantedLeft f_formCount f_bestA f_bestB f_bestC f_cells f_depth f_entries f_outcome f_freeNow f_lowest F (nI t - 1) (nI n) a_body a_lengths a_treeEnd a_accepted a_sig a_sizes a_input rs a_state a_reached a_forms a_heads a_tails a_freed a_ints a_lists a_frameFn a_framePc) ∧
      (∀ post : Int32 → SY → Prop, post o (f_parts, f_most, f_functions, f_lacking, f_openFn, g_purse, g_bases, g_cells, g_supply, g_depth, g_entries, a_body, a_lengths, a_sig, a_accepted, a_input, rs', sz, b_lastRun, b_rates, b_rest, b_known, b_base, b_head, b_tail, b_dead, a_frameFn, a_framePc, a_ints, b_lists) → ∀ F, t < F → wY_give_69 post f_parts f_most f_functions f_lacking f_openFn g_purse g_bases g_cells g_supply g_depth g_entries F (nI n) (nI t) a_body a_lengths a_sig a_accepted a_input rs a_sizes b_lastRun b_rates b_rest b_known b_base b_head b_tail b_dead a_frameFn a_framePc a_ints b_lists) := by
  intro N
  induction N with
  | zero => intro t n rs h; omega
  | succ N ih =>
    intro t n rs hN htc hn
    cases t with
    | zero =>
      refine ⟨1, upd a_sizes 2 (nI n), rs, by decide, mc_Z2 (by omega) hZ, fun post hp F hF => ?_, fun post hp F hF => ?_⟩
      · obtain ⟨F', rfl⟩ : ∃ F', F = F' + 1 := ⟨F - 1, by omega⟩
        have h49 : wX_finish_49 post (nI 0 - 1) (nI n) f_parts f_most f_functions f_openFn f_lacking f_subject f_wantedRest f_wantedLeft f_formCount f_bestA f_bestB f_bestC f_cells f_depth f_entries f_outcome f_freeNow f_lowest a_body a_lengths a_treeEnd a_accepted a_sig a_sizes a_input rs a_state a_reached a_forms a_heads a_tails a_freed a_ints a_lists a_frameFn a_framePc := br_t (by decide) (br_t (by decide) (nm_e hp))
        exact br_c (fun _ => h49) (fun _ => br_t (by decide) h49)
      · obtain ⟨F', rfl⟩ : ∃ F', F = F' + 1 := ⟨F - 1, by omega⟩
        exact br_t rfl (nm_e hp)
    | succ i =>
      obtain ⟨h1, h2, t', h3, h4, h5⟩ := hH i (by omega)
      have vi : vp_in (nI i) 1440 := vp_in_nI (by omega) (by omega)
      have vi1 : vp_in (nI (i + 1)) 1600 := vp_in_nI (by omega) (by omega)
      have hi0 : ¬ nI i < 0 := nI_pos (by omega)
      have hcl : (nI i).toNatClampNeg = i := nI_clamp (by omega)
      have hcl1 : (nI (i + 1)).toNatClampNeg = i + 1 := nI_clamp (by omega)
      by_cases hf : a_freed i = 0
      · have hs := mc_cn_s hf
        have hm := mc_cn_m (fr := a_freed) h3
        obtain ⟨o, sz, rs', q1, q2, q3, q4⟩ := ih t' (n + 1) (upd rs n (a_heads i)) (by omega) (by omega) (by omega)
        refine ⟨o, sz, rs', q1, q2, fun post hp F hF => ?_, fun post hp F hF => ?_⟩
        · obtain ⟨F', rfl⟩ : ∃ F', F = F' + 1 := ⟨F - 1, by omega⟩
          rw [nI_pred]
          exact br_f (nI_ge (b := 176) (by omega) (by omega)) (br_f hi0 ⟨vi, br_t (by rw [hcl]; exact hf) ⟨vi, vp_in_nI (by omega) (by omega), nm_r (e' := upd rs n (a_heads i)) (by rw [hcl, nI_clamp (by omega)]) ⟨vi, nm_r (e' := nI t' - 1) (by rw [hcl, h4]) (nm_r (nI_1 n) (q3 post hp F' (by omega)))⟩⟩⟩)
        · obtain ⟨F', rfl⟩ : ∃ F', F = F' + 1 := ⟨F - 1, by omega⟩
          exact br_f (nI_ne0 (by omega) (by omega)) (br_f (nI_ge (b := 1600) (by omega) (by omega)) ⟨vi1, br_t (by rw [hcl1, h2]; exact hf) ⟨vi1, vp_in_nI (by omega) (by omega), nm_r (e' := upd rs n (a_heads i)) (by rw [hcl1, nI_clamp (by omega), h1]) (nm_r (nI_1 n) ⟨vi1, nm_r (e' := nI t') (by rw [hcl1, h5]) (q4 post hp F' (by omega))⟩)⟩⟩)
      · refine ⟨3, a_sizes, rs, by decide, hZ, fun post hp F hF => ?_, fun post hp F hF => ?_⟩
        · obtain ⟨F', rfl⟩ : ∃ F', F = F' + 1 := ⟨F - 1, by omega⟩
          rw [nI_pred]
          have h49 : wX_finish_49 post (nI i) (nI n) f_parts f_most f_functions f_openFn f_lacking f_subject f_wantedRest f_wantedLeft f_formCount f_bestA f_bestB f_bestC f_cells f_depth f_entries f_outcome f_freeNow f_lowest a_body a_lengths a_treeEnd a_accepted a_sig a_sizes a_input rs a_state a_reached a_forms a_heads a_tails a_freed a_ints a_lists a_frameFn a_framePc := br_f hi0 (br_f hi0 (nm_r (mc_u2 hs2) hp))
          exact br_c (fun _ => h49) (fun _ => br_f hi0 ⟨vi, br_f (by rw [hcl]; exact hf) h49⟩)
        · obtain ⟨F', rfl⟩ : ∃ F', F = F' + 1 := ⟨F - 1, by omega⟩
          exact br_f (nI_ne0 (by omega) (by omega)) (br_f (nI_ge (b := 1600) (by omega) (by omega)) ⟨vi1, br_f (by rw [hcl1, h2]; exact hf) hp⟩)
/-- RET of the last frame -/
theorem ms_ret0 {f : Nat} {ln : Nat → Nat} {c d e w l st g k : Nat} (h : mc_Pre st f ln c d e w l f_functions a_body a_lengths a_treeEnd a_sizes a_heads a_tails a_freed a_lists a_frameFn a_framePc b_head b_tail b_dead b_lists) (hst : st < 1536) (hK : mc_K f_parts f_most f_functions f_openFn f_lacking a_body a_lengths a_treeEnd a_sig a_sizes) (hfn : a_frameFn d = nI g) (hg : g ≤ f) (hpc : a_framePc d = nI k) (hk : k < ln g) (ho : pt_o a_body g k = 0) (hd0 : d = 0) : mc_Go st (nI l) (f_parts, f_most, f_functions, f_openFn, f_lacking, f_subject, f_wantedRest, f_wantedLeft, f_formCount, f_bestA, f_bestB, f_bestC, nI c, nI (d + 1), nI e, 0, nI w, nI l, a_body, a_lengths, a_treeEnd, a_accepted, a_sig, a_sizes, a_input, a_result, a_state, a_reached, a_forms, a_heads, a_tails, a_freed, a_ints, a_lists, a_frameFn, a_framePc) (f_parts, f_most, f_functions, f_lacking, f_openFn, g_purse, g_bases, nI c, nI w, nI (d + 1), nI e, a_body, a_lengths, a_sig, a_accepted, a_input, a_result, a_sizes, b_lastRun, b_rates, b_rest, b_known, b_base, b_head, b_tail, b_dead, a_frameFn, a_framePc, a_ints, b_lists) := by
  obtain ⟨hCl, ⟨hd, he, hlw, hcn, hcw⟩, hH, hL, hFr, hs2⟩ := h
  obtain ⟨g4, hlt, hlen, n1, n12, hFi, en, hT, hen, hte⟩ := hCl g hg
  obtain ⟨b0, b1, b2, b3, b4, b5, b6, b7⟩ := hFi k hk
  obtain ⟨T1, T2, T3, T4⟩ := hT k hk
  have vd : vp_in (nI d) 32 := vp_in_nI (by omega) (by omega)
  have hdc : (nI d).toNatClampNeg = d := nI_clamp (by omega)
  have vat : vp_in (nI ((g * 12 + k) * 4)) 192 := vp_in_nI (by omega) (by omega)
  have eat : (a_frameFn (nI d).toNatClampNeg * 12 + a_framePc (nI d).toNatClampNeg) * 4 = nI ((g * 12 + k) * 4) := by rw [hdc, hfn, hpc, ba_at]
  have ebo : a_body (nI ((g * 12 + k) * 4)).toNatClampNeg = nI (pt_o a_body g k) := by rw [nI_clamp (by omega), b0]
  have w1 : vp_in (nI ((g * 12 + k) * 4) + 1) 192 := by rw [nI_1]; exact vp_in_nI (by omega) (by omega)
  have w2 : vp_in (nI ((g * 12 + k) * 4) + 2) 192 := by rw [ba_2]; exact vp_in_nI (by omega) (by omega)
  have w3 : vp_in (nI ((g * 12 + k) * 4) + 3) 192 := by rw [ba_3]; exact vp_in_nI (by omega) (by omega)
  have eb1 : a_body (nI ((g * 12 + k) * 4) + 1).toNatClampNeg = nI (pt_p a_body g k) := by rw [nI_1, nI_clamp (by omega), b2]
  have eb2 : a_body (nI ((g * 12 + k) * 4) + 2).toNatClampNeg = nI (pt_q a_body g k) := by rw [ba_2, nI_clamp (by omega), b4]
  have eb3 : a_body (nI ((g * 12 + k) * 4) + 3).toNatClampNeg = a_body ((g * 12 + k) * 4 + 3) := by rw [ba_3, nI_clamp (by omega)]
  have sv : ∀ j, j ≤ 3 → vp_in (nI (d * 4) + nI j) 128 := fun j hj => by rw [nI_add]; exact vp_in_nI (by omega) (by omega)
  have sc : ∀ j, j ≤ 3 → (nI (d * 4) + nI j).toNatClampNeg = d * 4 + j := fun j hj => by rw [nI_add, nI_clamp (by omega)]
  subst hd0
  obtain ⟨t, t1, t2, t3⟩ := hL (0 * 4 + pt_p a_body g k) (by omega)
  have hm := mc_cn_m (fr := a_freed) t1
  obtain ⟨o, sz, rs', q1, q2, q3, q4⟩ := mf_loop (f_parts := f_parts) (f_most := f_most) (f_functions := f_functions) (f_openFn := f_openFn) (f_lacking := f_lacking) (f_subject := f_subject) (f_wantedRest := f_wantedRest) (f_wantedLeft := f_wantedLeft) (f_formCount := f_formCount) (f_bestA := f_bestA) (f_bestB := f_bestB) (f_bestC := f_bestC) (f_cells := nI c) (f_depth := nI 0) (f_entries := nI e) (f_outcome := 0) (f_freeNow := nI w) (f_lowest := nI l) (a_body := a_body) (a_lengths := a_lengths) (a_treeEnd := a_treeEnd) (a_accepted := a_accepted) (a_sig := a_sig) (a_sizes := a_sizes) (a_input := a_input) (a_state := a_state) (a_reached := a_reached) (a_forms := a_forms) (a_heads := a_heads) (a_tails := a_tails) (a_freed := a_freed) (a_ints := a_ints) (a_lists := a_lists) (a_frameFn := a_frameFn) (a_framePc := a_framePc) (g_purse := g_purse) (g_bases := g_bases) (g_cells := nI c) (g_depth := nI 0) (g_entries := nI e) (b_lastRun := b_lastRun) (b_rates := b_rates) (b_rest := b_rest) (b_known := b_known) (b_base := b_base) (b_head := b_head) (b_tail := b_tail) (b_dead := b_dead) (b_lists := b_lists) (g_supply := nI w) (c := c) (by omega) hH hs2 hK.2.2.2 (t + 1) t 0 a_result (by omega) t1 (by omega)
  refine ⟨o, nI l, (f_parts, f_most, f_functions, f_openFn, f_lacking, f_subject, f_wantedRest, f_wantedLeft, f_formCount, f_bestA, f_bestB, f_bestC, nI c, nI 0, nI e, o, nI w, nI l, a_body, a_lengths, a_treeEnd, a_accepted, a_sig, sz, a_input, rs', a_state, a_reached, a_forms, a_heads, a_tails, a_freed, a_ints, a_lists, a_frameFn, a_framePc), (f_parts, f_most, f_functions, f_lacking, f_openFn, g_purse, g_bases, nI c, nI w, nI 0, nI e, a_body, a_lengths, a_sig, a_accepted, a_input, rs', sz, b_lastRun, b_rates, b_rest, b_known, b_base, b_head, b_tail, b_dead, a_frameFn, a_framePc, a_ints, b_lists), mc_in ⟨hK.1, hK.2.1, hK.2.2.1, q2⟩ (fun z => absurd z q1), Or.inl ⟨nI_le hlw (by omega), rfl⟩, fun post hp => ?_, fun post hp => ?_⟩
  · refine nm_r (nI_pred 0) ⟨vd, vd, nm_r eat (nm_r (ba_m4 0) ⟨vat, nm_r ebo ?_⟩)⟩
    rw [ho]
    refine br_f (by decide) (br_f (by decide) (br_t rfl ⟨w1, by rw [eb1]; exact sv _ b3, ?_⟩))
    rw [eb1, sc _ b3, t2]
    exact nm_r (nI_pred 0) (br_t rfl (Exists.intro (t + 1) (q3 _ hp (t + 1) (by omega))))
  · refine nm_r (nI_pred 0) (nm_r (ba_m4 0) ⟨vd, nm_r (e' := nI g) (by rw [hdc, hfn]) ⟨vd, nm_r (e' := nI k) (by rw [hdc, hpc]) (ty_ycd 0 g4 hlt hlen n12 hk (by omega) b0 (ty_ycd 1 g4 hlt hlen n12 hk (by omega) b2 (ty_ycd 2 g4 hlt hlen n12 hk (by omega) b4 (ty_ycd 3 g4 hlt hlen n12 hk (by omega) rfl ?_))))⟩⟩)
    rw [ho]
    refine br_t rfl ⟨sv _ b3, ?_⟩
    rw [sc _ b3, t3]
    exact nm_r (nI_pred 0) (br_t (by decide) ⟨t + 1, q4 _ hp (t + 1) (by omega)⟩)
end
end
section
/-! the machine's steps -/
theorem mc_F_r {ln : Nat → Nat} {body fn pc : Nat → Int32} {f d : Nat} (h : mc_F ln body f (d + 1) fn pc) : mc_F ln body f d fn pc := by
  intro i hi
  obtain ⟨g, k, h1, h2, h3, h4, h5⟩ := h i (by omega)
  exact ⟨g, k, h1, h2, h3, h4, fun z => h5 (by omega)⟩
section
variable {f_parts f_most f_functions f_openFn f_lacking f_subject f_wantedRest f_wantedLeft f_formCount f_bestA f_bestB f_bestC f_cells f_depth f_entries f_outcome f_freeNow f_lowest : Int32} {a_body a_lengths a_treeEnd a_accepted a_sig a_sizes a_input a_result a_state a_reached a_forms a_heads a_tails a_freed a_ints a_lists a_frameFn a_framePc : Nat → Int32} {g_purse g_bases g_cells g_supply g_depth g_entries : Int32} {b_lastRun b_rates b_rest b_known b_base b_head b_tail b_dead b_lists : Nat → Int32}
/-- RET into a caller -/
theorem ms_ret1 {f : Nat} {ln : Nat → Nat} {c d e w l st g k : Nat} (h : mc_Pre st f ln c d e w l f_functions a_body a_lengths a_treeEnd a_sizes a_heads a_tails a_freed a_lists a_frameFn a_framePc b_head b_tail b_dead b_lists) (hst : st < 1536) (hK : mc_K f_parts f_most f_functions f_openFn f_lacking a_body a_lengths a_treeEnd a_sig a_sizes) (hfn : a_frameFn d = nI g) (hg : g ≤ f) (hpc : a_framePc d = nI k) (hk : k < ln g) (ho : pt_o a_body g k = 0) {p : Nat} (hdp : d = p + 1) : mc_Go st (nI l) (f_parts, f_most, f_functions, f_openFn, f_lacking, f_subject, f_wantedRest, f_wantedLeft, f_formCount, f_bestA, f_bestB, f_bestC, nI c, nI (d + 1), nI e, 0, nI w, nI l, a_body, a_lengths, a_treeEnd, a_accepted, a_sig, a_sizes, a_input, a_result, a_state, a_reached, a_forms, a_heads, a_tails, a_freed, a_ints, a_lists, a_frameFn, a_framePc) (f_parts, f_most, f_functions, f_lacking, f_openFn, g_purse, g_bases, nI c, nI w, nI (d + 1), nI e, a_body, a_lengths, a_sig, a_accepted, a_input, a_result, a_sizes, b_lastRun, b_rates, b_rest, b_known, b_base, b_head, b_tail, b_dead, a_frameFn, a_framePc, a_ints, b_lists) := by
  obtain ⟨hCl, ⟨hd, he, hlw, hcn, hcw⟩, hH, hL, hFr, hs2⟩ := h
  obtain ⟨g4, hlt, hlen, n1, n12, hFi, en, hT, hen, hte⟩ := hCl g hg
  obtain ⟨b0, b1, b2, b3, b4, b5, b6, b7⟩ := hFi k hk
  obtain ⟨T1, T2, T3, T4⟩ := hT k hk
  have vd : vp_in (nI d) 32 := vp_in_nI (by omega) (by omega)
  have hdc : (nI d).toNatClampNeg = d := nI_clamp (by omega)
  have vat : vp_in (nI ((g * 12 + k) * 4)) 192 := vp_in_nI (by omega) (by omega)
  have eat : (a_frameFn (nI d).toNatClampNeg * 12 + a_framePc (nI d).toNatClampNeg) * 4 = nI ((g * 12 + k) * 4) := by rw [hdc, hfn, hpc, ba_at]
  have ebo : a_body (nI ((g * 12 + k) * 4)).toNatClampNeg = nI (pt_o a_body g k) := by rw [nI_clamp (by omega), b0]
  have w1 : vp_in (nI ((g * 12 + k) * 4) + 1) 192 := by rw [nI_1]; exact vp_in_nI (by omega) (by omega)
  have w2 : vp_in (nI ((g * 12 + k) * 4) + 2) 192 := by rw [ba_2]; exact vp_in_nI (by omega) (by omega)
  have w3 : vp_in (nI ((g * 12 + k) * 4) + 3) 192 := by rw [ba_3]; exact vp_in_nI (by omega) (by omega)
  have eb1 : a_body (nI ((g * 12 + k) * 4) + 1).toNatClampNeg = nI (pt_p a_body g k) := by rw [nI_1, nI_clamp (by omega), b2]
  have eb2 : a_body (nI ((g * 12 + k) * 4) + 2).toNatClampNeg = nI (pt_q a_body g k) := by rw [ba_2, nI_clamp (by omega), b4]
  have eb3 : a_body (nI ((g * 12 + k) * 4) + 3).toNatClampNeg = a_body ((g * 12 + k) * 4 + 3) := by rw [ba_3, nI_clamp (by omega)]
  have sv : ∀ j, j ≤ 3 → vp_in (nI (d * 4) + nI j) 128 := fun j hj => by rw [nI_add]; exact vp_in_nI (by omega) (by omega)
  have sc : ∀ j, j ≤ 3 → (nI (d * 4) + nI j).toNatClampNeg = d * 4 + j := fun j hj => by rw [nI_add, nI_clamp (by omega)]
  obtain ⟨t, t1, t2, t3⟩ := hL (d * 4 + pt_p a_body g k) (by omega)
  obtain ⟨g', k', f1, f2, f3, f4, f5⟩ := hFr p (by omega)
  have ho' := f5 (by omega)
  obtain ⟨g4', hlt', hlen', n1', n12', hFi', en', hT', _⟩ := hCl g' f2
  obtain ⟨c0, c1, c2, c3, _⟩ := hFi' k' f4
  have hk1 := ((hT' k' f4).2.2.2 (by omega)).1
  have vp' : vp_in (nI p) 32 := vp_in_nI (by omega) (by omega)
  have hpc' : (nI p).toNatClampNeg = p := nI_clamp (by omega)
  have e1 : nI (d + 1) - 1 = nI (p + 1) := by rw [nI_pred, hdp]
  have e2 : nI (p + 1) - 1 = nI p := nI_pred p
  have es : nI p * 4 + nI (pt_p a_body g' k') = nI (p * 4 + pt_p a_body g' k') := by rw [ba_m4, nI_add]
  have vs : vp_in (nI p * 4 + nI (pt_p a_body g' k')) 128 := by rw [es]; exact vp_in_nI (by omega) (by omega)
  have cs : (nI p * 4 + nI (pt_p a_body g' k')).toNatClampNeg = p * 4 + pt_p a_body g' k' := by rw [es, nI_clamp (by omega)]
  have epc : a_framePc (nI p).toNatClampNeg + 1 = nI (k' + 1) := by rw [hpc', f3, nI_1]
  have hnp : ¬ nI (p + 1) = 0 := nI_ne0 (by omega) (by omega)
  have hnp2 : ¬ nI (p + 1) ≤ 0 := nI_nle (by omega) (by omega)
  refine ⟨0, nI l, (f_parts, f_most, f_functions, f_openFn, f_lacking, f_subject, f_wantedRest, f_wantedLeft, f_formCount, f_bestA, f_bestB, f_bestC, nI c, nI (p + 1), nI e, 0, nI w, nI l, a_body, a_lengths, a_treeEnd, a_accepted, a_sig, a_sizes, a_input, a_result, a_state, a_reached, a_forms, a_heads, a_tails, a_freed, a_ints, upd a_lists (p * 4 + pt_p a_body g' k') (nI t - 1), a_frameFn, upd a_framePc p (nI (k' + 1))), (f_parts, f_most, f_functions, f_lacking, f_openFn, g_purse, g_bases, nI c, nI w, nI (p + 1), nI e, a_body, a_lengths, a_sig, a_accepted, a_input, a_result, a_sizes, b_lastRun, b_rates, b_rest, b_known, b_base, b_head, b_tail, b_dead, a_frameFn, upd a_framePc p (nI (k' + 1)), a_ints, upd b_lists (p * 4 + pt_p a_body g' k') (nI t)), mc_in hK (fun _ => ⟨f, ln, c, p, e, w, l, ⟨rfl, rfl, rfl, rfl, rfl, rfl, rfl, rfl⟩, hCl, ⟨by omega, he, hlw, hcn, by omega⟩, hH, mc_L_u (mc_L_m hL (Nat.le_refl _) (by omega)) t1, mc_F_u (mc_F_r (hdp ▸ hFr)) f1 f2 hk1, hs2⟩), Or.inl ⟨nI_le hlw (by omega), rfl⟩, fun post hp => ?_, fun post hp => ?_⟩
  · refine nm_r (nI_pred d) ⟨vd, vd, nm_r eat (nm_r (ba_m4 d) ⟨vat, nm_r ebo ?_⟩)⟩; rw [ho]
    refine br_f (by decide) (br_f (by decide) (br_t rfl ⟨w1, by rw [eb1]; exact sv _ b3, ?_⟩))
    rw [eb1, sc _ b3, t2]
    have eat' : (a_frameFn (nI p).toNatClampNeg * 12 + a_framePc (nI p).toNatClampNeg) * 4 = nI ((g' * 12 + k') * 4) := by rw [hpc', f1, f3, ba_at]
    have eb' : a_body (nI ((g' * 12 + k') * 4) + 1).toNatClampNeg = nI (pt_p a_body g' k') := by rw [nI_1, nI_clamp (by omega), c2]
    refine nm_r e1 (br_f hnp (nm_r e2 ⟨vp', vp', nm_r eat' ⟨by rw [nI_1]; exact vp_in_nI (by omega) (by omega), by rw [eb']; exact vs, nm_r (e' := upd a_lists (p * 4 + pt_p a_body g' k') (nI t - 1)) (by rw [eb', cs]) ⟨vp', vp', nm_r (e' := upd a_framePc p (nI (k' + 1))) (by rw [epc, hpc']) hp⟩⟩⟩))
  · refine nm_r (nI_pred d) (nm_r (ba_m4 d) ⟨vd, nm_r (e' := nI g) (by rw [hdc, hfn]) ⟨vd, nm_r (e' := nI k) (by rw [hdc, hpc]) (ty_ycd 0 g4 hlt hlen n12 hk (by omega) b0 (ty_ycd 1 g4 hlt hlen n12 hk (by omega) b2 (ty_ycd 2 g4 hlt hlen n12 hk (by omega) b4 (ty_ycd 3 g4 hlt hlen n12 hk (by omega) rfl ?_))))⟩⟩); rw [ho]
    refine br_t rfl ⟨sv _ b3, ?_⟩
    rw [sc _ b3, t3]
    refine nm_r e1 (br_f hnp2 (nm_r e2 ⟨vp', vp', ?_⟩))
    rw [show a_frameFn (nI p).toNatClampNeg = nI g' by rw [hpc', f1], show a_framePc (nI p).toNatClampNeg = nI k' by rw [hpc', f3]]
    refine ty_ycd 1 g4' hlt' hlen' n12' f4 (by omega) c2 ⟨vs, nm_r (e' := upd b_lists (p * 4 + pt_p a_body g' k') (nI t)) (by rw [cs]) ⟨vp', vp', nm_r (e' := upd a_framePc p (nI (k' + 1))) (by rw [nI_1, hpc']) hp⟩⟩
/-- CONS -/
theorem ms_cons {f : Nat} {ln : Nat → Nat} {c d e w l st g k : Nat} (h : mc_Pre st f ln c d e w l f_functions a_body a_lengths a_treeEnd a_sizes a_heads a_tails a_freed a_lists a_frameFn a_framePc b_head b_tail b_dead b_lists) (hst : st < 1536) (hK : mc_K f_parts f_most f_functions f_openFn f_lacking a_body a_lengths a_treeEnd a_sig a_sizes) (hfn : a_frameFn d = nI g) (hg : g ≤ f) (hpc : a_framePc d = nI k) (hk : k < ln g) (ho : pt_o a_body g k = 1) : mc_Go st (nI l) (f_parts, f_most, f_functions, f_openFn, f_lacking, f_subject, f_wantedRest, f_wantedLeft, f_formCount, f_bestA, f_bestB, f_bestC, nI c, nI (d + 1), nI e, 0, nI w, nI l, a_body, a_lengths, a_treeEnd, a_accepted, a_sig, a_sizes, a_input, a_result, a_state, a_reached, a_forms, a_heads, a_tails, a_freed, a_ints, a_lists, a_frameFn, a_framePc) (f_parts, f_most, f_functions, f_lacking, f_openFn, g_purse, g_bases, nI c, nI w, nI (d + 1), nI e, a_body, a_lengths, a_sig, a_accepted, a_input, a_result, a_sizes, b_lastRun, b_rates, b_rest, b_known, b_base, b_head, b_tail, b_dead, a_frameFn, a_framePc, a_ints, b_lists) := by
  obtain ⟨hCl, ⟨hd, he, hlw, hcn, hcw⟩, hH, hL, hFr, hs2⟩ := h
  obtain ⟨g4, hlt, hlen, n1, n12, hFi, en, hT, hen, hte⟩ := hCl g hg
  obtain ⟨b0, b1, b2, b3, b4, b5, b6, b7⟩ := hFi k hk
  obtain ⟨T1, T2, T3, T4⟩ := hT k hk
  have vd : vp_in (nI d) 32 := vp_in_nI (by omega) (by omega)
  have hdc : (nI d).toNatClampNeg = d := nI_clamp (by omega)
  have vat : vp_in (nI ((g * 12 + k) * 4)) 192 := vp_in_nI (by omega) (by omega)
  have eat : (a_frameFn (nI d).toNatClampNeg * 12 + a_framePc (nI d).toNatClampNeg) * 4 = nI ((g * 12 + k) * 4) := by rw [hdc, hfn, hpc, ba_at]
  have ebo : a_body (nI ((g * 12 + k) * 4)).toNatClampNeg = nI (pt_o a_body g k) := by rw [nI_clamp (by omega), b0]
  have w1 : vp_in (nI ((g * 12 + k) * 4) + 1) 192 := by rw [nI_1]; exact vp_in_nI (by omega) (by omega)
  have w2 : vp_in (nI ((g * 12 + k) * 4) + 2) 192 := by rw [ba_2]; exact vp_in_nI (by omega) (by omega)
  have w3 : vp_in (nI ((g * 12 + k) * 4) + 3) 192 := by rw [ba_3]; exact vp_in_nI (by omega) (by omega)
  have eb1 : a_body (nI ((g * 12 + k) * 4) + 1).toNatClampNeg = nI (pt_p a_body g k) := by rw [nI_1, nI_clamp (by omega), b2]
  have eb2 : a_body (nI ((g * 12 + k) * 4) + 2).toNatClampNeg = nI (pt_q a_body g k) := by rw [ba_2, nI_clamp (by omega), b4]
  have eb3 : a_body (nI ((g * 12 + k) * 4) + 3).toNatClampNeg = a_body ((g * 12 + k) * 4 + 3) := by rw [ba_3, nI_clamp (by omega)]
  have sv : ∀ j, j ≤ 3 → vp_in (nI (d * 4) + nI j) 128 := fun j hj => by rw [nI_add]; exact vp_in_nI (by omega) (by omega)
  have sc : ∀ j, j ≤ 3 → (nI (d * 4) + nI j).toNatClampNeg = d * 4 + j := fun j hj => by rw [nI_add, nI_clamp (by omega)]
  obtain ⟨b8, b9, b10⟩ := b7 (by omega)
  have b11 := b10 (by omega)
  have hk1 := (T4 (by omega)).1
  cases w with
  | zero =>
    refine ⟨2, nI l, (f_parts, f_most, f_functions, f_openFn, f_lacking, f_subject, f_wantedRest, f_wantedLeft, f_formCount, f_bestA, f_bestB, f_bestC, nI c, nI (d + 1), nI e, 2, nI 0, nI l, a_body, a_lengths, a_treeEnd, a_accepted, a_sig, a_sizes, a_input, a_result, a_state, a_reached, a_forms, a_heads, a_tails, a_freed, a_ints, a_lists, a_frameFn, a_framePc), (f_parts, f_most, f_functions, f_lacking, f_openFn, g_purse, g_bases, nI c, nI 0, nI (d + 1), nI e, a_body, a_lengths, a_sig, a_accepted, a_input, a_result, a_sizes, b_lastRun, b_rates, b_rest, b_known, b_base, b_head, b_tail, b_dead, a_frameFn, a_framePc, a_ints, b_lists), mc_in hK (fun z => absurd z (by decide)), Or.inl ⟨nI_le hlw (by omega), rfl⟩, fun post hp => ?_, fun post hp => ?_⟩
    · refine nm_r (nI_pred d) ⟨vd, vd, nm_r eat (nm_r (ba_m4 d) ⟨vat, nm_r ebo ?_⟩)⟩; rw [ho]
      exact br_f (by decide) (br_f (by decide) (br_f (by decide) (br_t rfl (br_t rfl hp))))
    · refine nm_r (nI_pred d) (nm_r (ba_m4 d) ⟨vd, nm_r (e' := nI g) (by rw [hdc, hfn]) ⟨vd, nm_r (e' := nI k) (by rw [hdc, hpc]) (ty_ycd 0 g4 hlt hlen n12 hk (by omega) b0 (ty_ycd 1 g4 hlt hlen n12 hk (by omega) b2 (ty_ycd 2 g4 hlt hlen n12 hk (by omega) b4 (ty_ycd 3 g4 hlt hlen n12 hk (by omega) rfl ?_))))⟩⟩); rw [ho]
      exact br_f (by decide) (br_f (by decide) (nm_e (br_t rfl (br_t rfl hp))))
  | succ w =>
    obtain ⟨t, t1, t2, t3⟩ := hL (d * 4 + pt_r a_body g k) (by omega)
    have vc : vp_in (nI c) 1440 := vp_in_nI (by omega) (by omega)
    have vc1 : vp_in (nI (c + 1)) 1600 := vp_in_nI (by omega) (by omega)
    have cc : (nI c).toNatClampNeg = c := nI_clamp (by omega)
    have cc1 : (nI (c + 1)).toNatClampNeg = c + 1 := nI_clamp (by omega)
    have hw0 : ¬ nI (w + 1) = 0 := nI_ne0 (by omega) (by omega)
    have epc : a_framePc (nI d).toNatClampNeg + 1 = nI (k + 1) := by rw [hdc, hpc, nI_1]
    have hH' : mc_H (c + 1) (upd a_heads c (a_ints (d * 4 + pt_q a_body g k))) (upd a_tails c (nI t - 1)) (upd a_freed c 0) (upd b_head (c + 1) (a_ints (d * 4 + pt_q a_body g k))) (upd b_tail (c + 1) (nI t)) (upd b_dead (c + 1) 0) := by
      intro i hi
      rcases Nat.lt_or_ge i c with h' | h'
      · rw [pk_un (by omega), pk_un (by omega), pk_un (by omega), pk_un (by omega), pk_un (by omega), pk_un (by omega)]
        exact hH i h'
      · obtain rfl : i = c := by omega
        rw [pk_us, pk_us, pk_us, pk_us, pk_us, pk_us]
        exact ⟨rfl, rfl, t, t1, rfl, rfl⟩
    have hcn' : mc_cn (upd a_freed c 0) (c + 1) = mc_cn a_freed c + 1 := by
      rw [mc_cn_s (ba_ue rfl), mc_cn_c c (fun i hi => pk_un (by omega))]
    have hL' : mc_L (c + 1) (d + 1) (upd a_lists (d * 4 + pt_p a_body g k) (nI (c + 1) - 1)) (upd b_lists (d * 4 + pt_p a_body g k) (nI (c + 1))) := mc_L_u (mc_L_m hL (by omega) (Nat.le_refl _)) (Nat.le_refl _)
    have fin : ∀ l' : Nat, l' ≤ w → (nI l ≤ nI w ∧ nI l' = nI l) ∨ (¬ nI l ≤ nI w ∧ nI l' = nI w) → (∀ P : Int32 → Prop, (l ≤ w → P (nI l)) → (w < l → P (nI w)) → P (nI l')) →
        mc_Go st (nI l) (f_parts, f_most, f_functions, f_openFn, f_lacking, f_subject, f_wantedRest, f_wantedLeft, f_formCount, f_bestA, f_bestB, f_bestC, nI c, nI (d + 1), nI e, 0, nI (w + 1), nI l, a_body, a_lengths, a_treeEnd, a_accepted, a_sig, a_sizes, a_input, a_result, a_state, a_reached, a_forms, a_heads, a_tails, a_freed, a_ints, a_lists, a_frameFn, a_framePc) (f_parts, f_most, f_functions, f_lacking, f_openFn, g_purse, g_bases, nI c, nI (w + 1), nI (d + 1), nI e, a_body, a_lengths, a_sig, a_accepted, a_input, a_result, a_sizes, b_lastRun, b_rates, b_rest, b_known, b_base, b_head, b_tail, b_dead, a_frameFn, a_framePc, a_ints, b_lists) := by
      intro l' hl' hor hsel
      refine ⟨0, nI l', (f_parts, f_most, f_functions, f_openFn, f_lacking, f_subject, f_wantedRest, f_wantedLeft, f_formCount, f_bestA, f_bestB, f_bestC, nI (c + 1), nI (d + 1), nI e, 0, nI w, nI l', a_body, a_lengths, a_treeEnd, a_accepted, a_sig, a_sizes, a_input, a_result, a_state, a_reached, a_forms, upd a_heads c (a_ints (d * 4 + pt_q a_body g k)), upd a_tails c (nI t - 1), upd a_freed c 0, a_ints, upd a_lists (d * 4 + pt_p a_body g k) (nI (c + 1) - 1), a_frameFn, upd a_framePc d (nI (k + 1))), (f_parts, f_most, f_functions, f_lacking, f_openFn, g_purse, g_bases, nI (c + 1), nI w, nI (d + 1), nI e, a_body, a_lengths, a_sig, a_accepted, a_input, a_result, a_sizes, b_lastRun, b_rates, b_rest, b_known, b_base, upd b_head (c + 1) (a_ints (d * 4 + pt_q a_body g k)), upd b_tail (c + 1) (nI t), upd b_dead (c + 1) 0, a_frameFn, upd a_framePc d (nI (k + 1)), a_ints, upd b_lists (d * 4 + pt_p a_body g k) (nI (c + 1))), mc_in hK (fun _ => ⟨f, ln, c + 1, d, e, w, l', ⟨rfl, rfl, rfl, rfl, rfl, rfl, rfl, rfl⟩, hCl, ⟨hd, he, hl', by omega, by omega⟩, hH', hL', mc_F_u hFr hfn hg hk1, hs2⟩), hor, fun post hp => ?_, fun post hp => ?_⟩
      · refine nm_r (nI_pred d) ⟨vd, vd, nm_r eat (nm_r (ba_m4 d) ⟨vat, nm_r ebo ?_⟩)⟩; rw [ho]
        have h42 : ∀ lo : Int32, lo = nI l' → wX_doCons_42 (fun u => post u) (nI d) (nI ((g * 12 + k) * 4)) f_parts f_most f_functions f_openFn f_lacking f_subject f_wantedRest f_wantedLeft f_formCount f_bestA f_bestB f_bestC (nI c) (nI (d + 1)) (nI e) 0 (nI w) lo a_body a_lengths a_treeEnd a_accepted a_sig a_sizes a_input a_result a_state a_reached a_forms a_heads a_tails a_freed a_ints a_lists a_frameFn a_framePc := by
          intro lo elo
          subst elo
          refine nm_r (ba_m4 d) ⟨w2, by rw [eb2]; exact sv _ b5, w3, by rw [eb3, b8]; exact sv _ b11, ?_⟩
          rw [eb2, sc _ b5, eb3, b8, sc _ b11, t2]
          refine And.intro vc (nm_r (e' := upd a_heads c (a_ints (d * 4 + pt_q a_body g k))) (by rw [cc]) ⟨vc, nm_r (e' := upd a_tails c (nI t - 1)) (by rw [cc]) ⟨vc, nm_r (e' := upd a_freed c 0) (by rw [cc, ba_nb0]) (nm_r (nI_1 c) ?_)⟩⟩)
          refine And.intro w1 (And.intro (by rw [eb1]; exact sv _ b3) (nm_r (e' := upd a_lists (d * 4 + pt_p a_body g k) (nI (c + 1) - 1)) (by rw [eb1, sc _ b3, nI_pred]) ⟨vd, vd, nm_r (e' := upd a_framePc d (nI (k + 1))) ?_ hp⟩))
          show upd a_framePc (nI d).toNatClampNeg (a_framePc (nI d).toNatClampNeg + 1) = _
          rw [epc, hdc]
        refine br_f (by decide) (br_f (by decide) (br_f (by decide) (br_t rfl ?_)))
        refine br_f hw0 (nm_r (nI_pred w) (pk_le l w (fun hle => h42 _ ?_) (fun hgt => h42 _ ?_)))
        · rcases hor with z | z
          · exact z.2.symm
          · exact absurd (nI_le hle (by omega)) z.1
        · rcases hor with z | z
          · exact absurd ((nI_leI (by omega) (by omega)).mp z.1) (by omega)
          · exact z.2.symm
      · refine nm_r (nI_pred d) (nm_r (ba_m4 d) ⟨vd, nm_r (e' := nI g) (by rw [hdc, hfn]) ⟨vd, nm_r (e' := nI k) (by rw [hdc, hpc]) (ty_ycd 0 g4 hlt hlen n12 hk (by omega) b0 (ty_ycd 1 g4 hlt hlen n12 hk (by omega) b2 (ty_ycd 2 g4 hlt hlen n12 hk (by omega) b4 (ty_ycd 3 g4 hlt hlen n12 hk (by omega) rfl ?_))))⟩⟩); rw [ho]
        refine br_f (by decide) (br_f (by decide) (nm_r (nI_1 k) (br_t rfl (br_f hw0 (nm_r (nI_pred w) ⟨sv _ b5, by rw [b8]; exact sv _ b11, ?_⟩)))))
        rw [sc _ b5, b8, sc _ b11, t3]
        refine nm_r (nI_1 c) ⟨vc1, nm_r (e' := upd b_head (c + 1) (a_ints (d * 4 + pt_q a_body g k))) (by rw [cc1]) ⟨vc1, nm_r (e' := upd b_tail (c + 1) (nI t)) (by rw [cc1]) ⟨vc1, nm_r (e' := upd b_dead (c + 1) 0) (by rw [cc1, ba_nb0]) ?_⟩⟩⟩
        refine And.intro (sv _ b3) (nm_r (e' := upd b_lists (d * 4 + pt_p a_body g k) (nI (c + 1))) (by rw [sc _ b3]) ⟨vd, nm_r (e' := upd a_framePc d (nI (k + 1))) ?_ hp⟩)
        show upd a_framePc (nI d).toNatClampNeg _ = _
        rw [hdc]
    by_cases hle : l ≤ w
    · exact fin l hle (Or.inl ⟨nI_le hle (by omega), rfl⟩) (fun P z _ => z hle)
    · exact fin w (Nat.le_refl _) (Or.inr ⟨nI_ge (by omega) (by omega), rfl⟩) (fun P _ z => z (by omega))
/-- CALL -/
theorem ms_call {f : Nat} {ln : Nat → Nat} {c d e w l st g k : Nat} (h : mc_Pre st f ln c d e w l f_functions a_body a_lengths a_treeEnd a_sizes a_heads a_tails a_freed a_lists a_frameFn a_framePc b_head b_tail b_dead b_lists) (hst : st < 1536) (hK : mc_K f_parts f_most f_functions f_openFn f_lacking a_body a_lengths a_treeEnd a_sig a_sizes) (hfn : a_frameFn d = nI g) (hg : g ≤ f) (hpc : a_framePc d = nI k) (hk : k < ln g) (ho : pt_o a_body g k = 2) : mc_Go st (nI l) (f_parts, f_most, f_functions, f_openFn, f_lacking, f_subject, f_wantedRest, f_wantedLeft, f_formCount, f_bestA, f_bestB, f_bestC, nI c, nI (d + 1), nI e, 0, nI w, nI l, a_body, a_lengths, a_treeEnd, a_accepted, a_sig, a_sizes, a_input, a_result, a_state, a_reached, a_forms, a_heads, a_tails, a_freed, a_ints, a_lists, a_frameFn, a_framePc) (f_parts, f_most, f_functions, f_lacking, f_openFn, g_purse, g_bases, nI c, nI w, nI (d + 1), nI e, a_body, a_lengths, a_sig, a_accepted, a_input, a_result, a_sizes, b_lastRun, b_rates, b_rest, b_known, b_base, b_head, b_tail, b_dead, a_frameFn, a_framePc, a_ints, b_lists) := by
  obtain ⟨hCl, ⟨hd, he, hlw, hcn, hcw⟩, hH, hL, hFr, hs2⟩ := h
  obtain ⟨g4, hlt, hlen, n1, n12, hFi, en, hT, hen, hte⟩ := hCl g hg
  obtain ⟨b0, b1, b2, b3, b4, b5, b6, b7⟩ := hFi k hk
  obtain ⟨T1, T2, T3, T4⟩ := hT k hk
  have vd : vp_in (nI d) 32 := vp_in_nI (by omega) (by omega)
  have hdc : (nI d).toNatClampNeg = d := nI_clamp (by omega)
  have vat : vp_in (nI ((g * 12 + k) * 4)) 192 := vp_in_nI (by omega) (by omega)
  have eat : (a_frameFn (nI d).toNatClampNeg * 12 + a_framePc (nI d).toNatClampNeg) * 4 = nI ((g * 12 + k) * 4) := by rw [hdc, hfn, hpc, ba_at]
  have ebo : a_body (nI ((g * 12 + k) * 4)).toNatClampNeg = nI (pt_o a_body g k) := by rw [nI_clamp (by omega), b0]
  have w1 : vp_in (nI ((g * 12 + k) * 4) + 1) 192 := by rw [nI_1]; exact vp_in_nI (by omega) (by omega)
  have w2 : vp_in (nI ((g * 12 + k) * 4) + 2) 192 := by rw [ba_2]; exact vp_in_nI (by omega) (by omega)
  have w3 : vp_in (nI ((g * 12 + k) * 4) + 3) 192 := by rw [ba_3]; exact vp_in_nI (by omega) (by omega)
  have eb1 : a_body (nI ((g * 12 + k) * 4) + 1).toNatClampNeg = nI (pt_p a_body g k) := by rw [nI_1, nI_clamp (by omega), b2]
  have eb2 : a_body (nI ((g * 12 + k) * 4) + 2).toNatClampNeg = nI (pt_q a_body g k) := by rw [ba_2, nI_clamp (by omega), b4]
  have eb3 : a_body (nI ((g * 12 + k) * 4) + 3).toNatClampNeg = a_body ((g * 12 + k) * 4 + 3) := by rw [ba_3, nI_clamp (by omega)]
  have sv : ∀ j, j ≤ 3 → vp_in (nI (d * 4) + nI j) 128 := fun j hj => by rw [nI_add]; exact vp_in_nI (by omega) (by omega)
  have sc : ∀ j, j ≤ 3 → (nI (d * 4) + nI j).toNatClampNeg = d * 4 + j := fun j hj => by rw [nI_add, nI_clamp (by omega)]
  obtain ⟨b8, b9, _⟩ := b7 (by omega)
  have hq := b6 ho
  by_cases h32 : d + 1 = 32
  · refine ⟨4, nI l, (f_parts, f_most, f_functions, f_openFn, f_lacking, f_subject, f_wantedRest, f_wantedLeft, f_formCount, f_bestA, f_bestB, f_bestC, nI c, nI (d + 1), nI e, 4, nI w, nI l, a_body, a_lengths, a_treeEnd, a_accepted, a_sig, a_sizes, a_input, a_result, a_state, a_reached, a_forms, a_heads, a_tails, a_freed, a_ints, a_lists, a_frameFn, a_framePc), (f_parts, f_most, f_functions, f_lacking, f_openFn, g_purse, g_bases, nI c, nI w, nI (d + 1), nI e, a_body, a_lengths, a_sig, a_accepted, a_input, a_result, a_sizes, b_lastRun, b_rates, b_rest, b_known, b_base, b_head, b_tail, b_dead, a_frameFn, a_framePc, a_ints, b_lists), mc_in hK (fun z => absurd z (by decide)), Or.inl ⟨nI_le hlw (by omega), rfl⟩, fun post hp => ?_, fun post hp => ?_⟩
    · refine nm_r (nI_pred d) ⟨vd, vd, nm_r eat (nm_r (ba_m4 d) ⟨vat, nm_r ebo ?_⟩)⟩; rw [ho]
      exact br_f (by decide) (br_f (by decide) (br_f (by decide) (br_f (by decide) (br_t rfl (br_t (nI_le (a := 32) (by omega) (by omega)) hp)))))
    · refine nm_r (nI_pred d) (nm_r (ba_m4 d) ⟨vd, nm_r (e' := nI g) (by rw [hdc, hfn]) ⟨vd, nm_r (e' := nI k) (by rw [hdc, hpc]) (ty_ycd 0 g4 hlt hlen n12 hk (by omega) b0 (ty_ycd 1 g4 hlt hlen n12 hk (by omega) b2 (ty_ycd 2 g4 hlt hlen n12 hk (by omega) b4 (ty_ycd 3 g4 hlt hlen n12 hk (by omega) rfl ?_))))⟩⟩); rw [ho]
      rw [b8]
      have n4 : ¬ (4 : Int32) = 0 := by decide
      have n16 : ¬ (16 : Int32) = 0 := by decide
      have x1 : nI (pt_r a_body g k) / 16 = nI (pt_r a_body g k / 16) := pk_div (d := 16) (by omega) (by omega) (by omega)
      have x2 : nI (pt_r a_body g k) / 4 - nI (pt_r a_body g k) / 4 / 4 * 4 = nI (pt_r a_body g k / 4 % 4) := by
        rw [show (4 : Int32) = nI 4 from rfl, pk_div (by omega) (by omega) (by omega), pk_rem (by omega) (by omega) (by omega)]
      have x3 : nI (pt_r a_body g k) - nI (pt_r a_body g k) / 4 * 4 = nI (pt_r a_body g k % 4) := by
        rw [show (4 : Int32) = nI 4 from rfl, pk_rem (by omega) (by omega) (by omega)]
      rw [x1, x2, x3]
      refine br_f (by decide) (br_t rfl ⟨n16, sv _ (by omega), n4, n4, sv _ (by omega), n4, sv _ (by omega), ?_⟩)
      exact br_t (by rw [h32]; rfl) hp
  · by_cases h128 : e = 128
    · refine ⟨4, nI l, (f_parts, f_most, f_functions, f_openFn, f_lacking, f_subject, f_wantedRest, f_wantedLeft, f_formCount, f_bestA, f_bestB, f_bestC, nI c, nI (d + 1), nI e, 4, nI w, nI l, a_body, a_lengths, a_treeEnd, a_accepted, a_sig, a_sizes, a_input, a_result, a_state, a_reached, a_forms, a_heads, a_tails, a_freed, a_ints, a_lists, a_frameFn, a_framePc), (f_parts, f_most, f_functions, f_lacking, f_openFn, g_purse, g_bases, nI c, nI w, nI (d + 1), nI e, a_body, a_lengths, a_sig, a_accepted, a_input, a_result, a_sizes, b_lastRun, b_rates, b_rest, b_known, b_base, b_head, b_tail, b_dead, a_frameFn, a_framePc, a_ints, b_lists), mc_in hK (fun z => absurd z (by decide)), Or.inl ⟨nI_le hlw (by omega), rfl⟩, fun post hp => ?_, fun post hp => ?_⟩
      · refine nm_r (nI_pred d) ⟨vd, vd, nm_r eat (nm_r (ba_m4 d) ⟨vat, nm_r ebo ?_⟩)⟩; rw [ho]
        exact br_f (by decide) (br_f (by decide) (br_f (by decide) (br_f (by decide) (br_t rfl (br_f (nI_ge (b := 32) (by omega) (by omega)) (br_f (nI_nlt (b := 128) (by omega) (by omega)) hp))))))
      · refine nm_r (nI_pred d) (nm_r (ba_m4 d) ⟨vd, nm_r (e' := nI g) (by rw [hdc, hfn]) ⟨vd, nm_r (e' := nI k) (by rw [hdc, hpc]) (ty_ycd 0 g4 hlt hlen n12 hk (by omega) b0 (ty_ycd 1 g4 hlt hlen n12 hk (by omega) b2 (ty_ycd 2 g4 hlt hlen n12 hk (by omega) b4 (ty_ycd 3 g4 hlt hlen n12 hk (by omega) rfl ?_))))⟩⟩); rw [ho]
        rw [b8]
        have n4 : ¬ (4 : Int32) = 0 := by decide
        have n16 : ¬ (16 : Int32) = 0 := by decide
        have x1 : nI (pt_r a_body g k) / 16 = nI (pt_r a_body g k / 16) := pk_div (d := 16) (by omega) (by omega) (by omega)
        have x2 : nI (pt_r a_body g k) / 4 - nI (pt_r a_body g k) / 4 / 4 * 4 = nI (pt_r a_body g k / 4 % 4) := by
          rw [show (4 : Int32) = nI 4 from rfl, pk_div (by omega) (by omega) (by omega), pk_rem (by omega) (by omega) (by omega)]
        have x3 : nI (pt_r a_body g k) - nI (pt_r a_body g k) / 4 * 4 = nI (pt_r a_body g k % 4) := by
          rw [show (4 : Int32) = nI 4 from rfl, pk_rem (by omega) (by omega) (by omega)]
        rw [x1, x2, x3]
        refine br_f (by decide) (br_t rfl ⟨n16, sv _ (by omega), n4, n4, sv _ (by omega), n4, sv _ (by omega), ?_⟩)
        exact pk_eq (d + 1) 32 (fun z => absurd z h32) (fun _ => br_t (by rw [h128]; rfl) hp)
    · obtain ⟨tx, tx1, tx2, tx3⟩ := hL (d * 4 + pt_r a_body g k / 4 % 4) (by omega)
      obtain ⟨ty, ty1, ty2, ty3⟩ := hL (d * 4 + pt_r a_body g k % 4) (by omega)
      obtain ⟨q4, qlt, qlen, qn1, _⟩ := hCl (pt_q a_body g k) (by omega)
      have hL' : mc_L c (d + 1 + 1) (en_l a_lists ((d + 1) * 4) (nI tx - 1) (nI ty - 1) (-1)) (en_l b_lists ((d + 1) * 4) (nI tx) (nI ty) 0) := by
        intro j hj
        unfold en_l
        by_cases e1 : j = (d + 1) * 4 + 1
        · exact ⟨ty, ty1, ba_ue e1, ba_ue e1⟩
        · rw [pk_un e1, pk_un e1]
          by_cases e0 : j = (d + 1) * 4
          · exact ⟨tx, tx1, ba_ue e0, ba_ue e0⟩
          · rw [pk_un e0, pk_un e0]
            rcases Nat.lt_or_ge j ((d + 1) * 4) with h' | h'
            · rw [ba_cpo (Or.inl h'), ba_cpo (Or.inl h')]
              exact hL j h'
            · rw [ba_cpi h' (by omega), ba_cpi h' (by omega)]
              exact ⟨0, by omega, ba_m1, rfl⟩
      have hF' : mc_F ln a_body f (d + 1 + 1) (upd a_frameFn (d + 1) (nI (pt_q a_body g k))) (upd a_framePc (d + 1) (nI 0)) := by
        intro i hi
        rcases Nat.lt_or_ge i (d + 1) with h' | h'
        · obtain ⟨g', k', y1, y2, y3, y4, y5⟩ := hFr i h'
          refine ⟨g', k', by rw [pk_un (by omega)]; exact y1, y2, by rw [pk_un (by omega)]; exact y3, y4, fun _ => ?_⟩
          rcases Nat.lt_or_ge (i + 1) (d + 1) with h'' | h''
          · exact y5 h''
          · obtain rfl : i = d := by omega
            have eg : g' = g := by
              rw [hfn] at y1
              exact ((nI_eq (by omega) (by have := (hCl g' y2).1; omega)).mp y1).symm
            subst eg
            have ek : k' = k := by
              rw [hpc] at y3
              exact ((nI_eq (by omega) (by omega)).mp y3).symm
            subst ek
            exact ho
        · obtain rfl : i = d + 1 := by omega
          exact ⟨pt_q a_body g k, 0, ba_ue rfl, by omega, ba_ue rfl, by omega, fun z => by omega⟩
      refine ⟨0, nI l, (f_parts, f_most, f_functions, f_openFn, f_lacking, f_subject, f_wantedRest, f_wantedLeft, f_formCount, f_bestA, f_bestB, f_bestC, nI c, nI (d + 1 + 1), nI (e + 1), 0, nI w, nI l, a_body, a_lengths, a_treeEnd, a_accepted, a_sig, a_sizes, a_input, a_result, a_state, a_reached, a_forms, a_heads, a_tails, a_freed, en_i a_ints ((d + 1) * 4) (a_ints (d * 4 + pt_r a_body g k / 16)), en_l a_lists ((d + 1) * 4) (nI tx - 1) (nI ty - 1) (-1), upd a_frameFn (d + 1) (nI (pt_q a_body g k)), upd a_framePc (d + 1) 0), (f_parts, f_most, f_functions, f_lacking, f_openFn, g_purse, g_bases, nI c, nI w, nI (d + 1 + 1), nI (e + 1), a_body, a_lengths, a_sig, a_accepted, a_input, a_result, a_sizes, b_lastRun, b_rates, b_rest, b_known, b_base, b_head, b_tail, b_dead, upd a_frameFn (d + 1) (nI (pt_q a_body g k)), upd a_framePc (d + 1) 0, en_i a_ints ((d + 1) * 4) (a_ints (d * 4 + pt_r a_body g k / 16)), en_l b_lists ((d + 1) * 4) (nI tx) (nI ty) 0), mc_in hK (fun _ => ⟨f, ln, c, d + 1, e + 1, w, l, ⟨rfl, rfl, rfl, rfl, rfl, rfl, rfl, rfl⟩, hCl, ⟨by omega, by omega, hlw, hcn, by omega⟩, hH, hL', hF', hs2⟩), Or.inl ⟨nI_le hlw (by omega), rfl⟩, fun post hp => ?_, fun post hp => ?_⟩
      · refine nm_r (nI_pred d) ⟨vd, vd, nm_r eat (nm_r (ba_m4 d) ⟨vat, nm_r ebo ?_⟩)⟩; rw [ho]
        have x1 : nI (pt_r a_body g k) >>> ((4 : Int32) &&& 31) = nI (pt_r a_body g k / 16) := pk_shrN (by omega) _ 4 (by decide)
        have x2 : (nI (pt_r a_body g k) >>> ((2 : Int32) &&& 31)) &&& 3 = nI (pt_r a_body g k / 4 % 4) := by
          rw [pk_shrN (by omega) _ 2 (by decide), pk_andN (by omega) 2 (by decide)]
        have x3 : nI (pt_r a_body g k) &&& 3 = nI (pt_r a_body g k % 4) := pk_andN (by omega) 2 (by decide)
        refine br_f (by decide) (br_f (by decide) (br_f (by decide) (br_f (by decide) (br_t rfl ?_))))
        refine br_f (nI_ge (b := 32) (by omega) (by omega)) (br_t (nI_lt (b := 128) (by omega) (by omega)) ⟨w3, nm_r (e' := nI (pt_r a_body g k)) (by rw [eb3, b8]) ⟨w2, by rw [x1]; exact sv _ (by omega), by rw [x2]; exact sv _ (by omega), by rw [x3]; exact sv _ (by omega), ?_⟩⟩)
        rw [x1, x2, x3, eb2, sc _ (by omega), sc _ (by omega), sc _ (by omega), tx2, ty2]
        exact mc_xen (by omega) he rfl rfl hp
      · refine nm_r (nI_pred d) (nm_r (ba_m4 d) ⟨vd, nm_r (e' := nI g) (by rw [hdc, hfn]) ⟨vd, nm_r (e' := nI k) (by rw [hdc, hpc]) (ty_ycd 0 g4 hlt hlen n12 hk (by omega) b0 (ty_ycd 1 g4 hlt hlen n12 hk (by omega) b2 (ty_ycd 2 g4 hlt hlen n12 hk (by omega) b4 (ty_ycd 3 g4 hlt hlen n12 hk (by omega) rfl ?_))))⟩⟩); rw [ho]
        rw [b8]
        have n4 : ¬ (4 : Int32) = 0 := by decide
        have n16 : ¬ (16 : Int32) = 0 := by decide
        have x1 : nI (pt_r a_body g k) / 16 = nI (pt_r a_body g k / 16) := pk_div (d := 16) (by omega) (by omega) (by omega)
        have x2 : nI (pt_r a_body g k) / 4 - nI (pt_r a_body g k) / 4 / 4 * 4 = nI (pt_r a_body g k / 4 % 4) := by
          rw [show (4 : Int32) = nI 4 from rfl, pk_div (by omega) (by omega) (by omega), pk_rem (by omega) (by omega) (by omega)]
        have x3 : nI (pt_r a_body g k) - nI (pt_r a_body g k) / 4 * 4 = nI (pt_r a_body g k % 4) := by
          rw [show (4 : Int32) = nI 4 from rfl, pk_rem (by omega) (by omega) (by omega)]
        rw [x1, x2, x3]
        refine br_f (by decide) (br_t rfl ⟨n16, sv _ (by omega), n4, n4, sv _ (by omega), n4, sv _ (by omega), ?_⟩)
        rw [sc _ (by omega), sc _ (by omega), sc _ (by omega), tx3, ty3]
        exact mc_yen (by omega) (by omega) rfl rfl hp
end
end
section
/-! LESS, ADD, TAKE, READ -/
section
variable {f_parts f_most f_functions f_openFn f_lacking f_subject f_wantedRest f_wantedLeft f_formCount f_bestA f_bestB f_bestC f_cells f_depth f_entries f_outcome f_freeNow f_lowest : Int32} {a_body a_lengths a_treeEnd a_accepted a_sig a_sizes a_input a_result a_state a_reached a_forms a_heads a_tails a_freed a_ints a_lists a_frameFn a_framePc : Nat → Int32}
theorem mc_xj1 {post : SX → Prop} {d k : Nat} (hd : d < 32) (hpc : a_framePc d = nI k) (h : post (f_parts, f_most, f_functions, f_openFn, f_lacking, f_subject, f_wantedRest, f_wantedLeft, f_formCount, f_bestA, f_bestB, f_bestC, f_cells, f_depth, f_entries, f_outcome, f_freeNow, f_lowest, a_body, a_lengths, a_treeEnd, a_accepted, a_sig, a_sizes, a_input, a_result, a_state, a_reached, a_forms, a_heads, a_tails, a_freed, a_ints, a_lists, a_frameFn, upd a_framePc d (nI (k + 1)))) : wpX_jump post (f_parts, f_most, f_functions, f_openFn, f_lacking, f_subject, f_wantedRest, f_wantedLeft, f_formCount, f_bestA, f_bestB, f_bestC, f_cells, f_depth, f_entries, f_outcome, f_freeNow, f_lowest, a_body, a_lengths, a_treeEnd, a_accepted, a_sig, a_sizes, a_input, a_result, a_state, a_reached, a_forms, a_heads, a_tails, a_freed, a_ints, a_lists, a_frameFn, a_framePc) (nI d) 1 := by
  have vd : vp_in (nI d) 32 := vp_in_nI hd (by omega)
  have hdc : (nI d).toNatClampNeg = d := nI_clamp (by omega)
  exact And.intro vd (nm_r (e' := nI (k + 1)) (by rw [hdc, hpc, nI_1]) (br_f (by decide) ⟨vd, nm_r (e' := upd a_framePc d (nI (k + 1))) (by rw [hdc]) h⟩))
theorem mc_xj0 {post : SX → Prop} {d k g t : Nat} (hd : d < 32) (hg : g < 4) (hk : k + 1 < 12) (hfn : a_frameFn d = nI g) (hpc : a_framePc d = nI k) (hte : a_treeEnd (g * 12 + (k + 1)) = nI t) (h : post (f_parts, f_most, f_functions, f_openFn, f_lacking, f_subject, f_wantedRest, f_wantedLeft, f_formCount, f_bestA, f_bestB, f_bestC, f_cells, f_depth, f_entries, f_outcome, f_freeNow, f_lowest, a_body, a_lengths, a_treeEnd, a_accepted, a_sig, a_sizes, a_input, a_result, a_state, a_reached, a_forms, a_heads, a_tails, a_freed, a_ints, a_lists, a_frameFn, upd a_framePc d (nI t))) : wpX_jump post (f_parts, f_most, f_functions, f_openFn, f_lacking, f_subject, f_wantedRest, f_wantedLeft, f_formCount, f_bestA, f_bestB, f_bestC, f_cells, f_depth, f_entries, f_outcome, f_freeNow, f_lowest, a_body, a_lengths, a_treeEnd, a_accepted, a_sig, a_sizes, a_input, a_result, a_state, a_reached, a_forms, a_heads, a_tails, a_freed, a_ints, a_lists, a_frameFn, a_framePc) (nI d) 0 := by
  have vd : vp_in (nI d) 32 := vp_in_nI hd (by omega)
  have hdc : (nI d).toNatClampNeg = d := nI_clamp (by omega)
  have e1 : a_frameFn (nI d).toNatClampNeg * 12 + nI (k + 1) = nI (g * 12 + (k + 1)) := by rw [hdc, hfn, ba_m12, nI_add]
  exact And.intro vd (nm_r (e' := nI (k + 1)) (by rw [hdc, hpc, nI_1]) (br_t rfl ⟨vd, by rw [e1]; exact vp_in_nI (by omega) (by omega), vd, nm_r (e' := upd a_framePc d (nI t)) (by rw [e1, hdc, nI_clamp (by omega), hte]) h⟩))
end
section
variable {f_parts f_most f_functions f_openFn f_lacking f_subject f_wantedRest f_wantedLeft f_formCount f_bestA f_bestB f_bestC f_cells f_depth f_entries f_outcome f_freeNow f_lowest : Int32} {a_body a_lengths a_treeEnd a_accepted a_sig a_sizes a_input a_result a_state a_reached a_forms a_heads a_tails a_freed a_ints a_lists a_frameFn a_framePc : Nat → Int32} {g_purse g_bases g_cells g_supply g_depth g_entries : Int32} {b_lastRun b_rates b_rest b_known b_base b_head b_tail b_dead b_lists : Nat → Int32}
theorem ms_less {f : Nat} {ln : Nat → Nat} {c d e w l st g k : Nat} (h : mc_Pre st f ln c d e w l f_functions a_body a_lengths a_treeEnd a_sizes a_heads a_tails a_freed a_lists a_frameFn a_framePc b_head b_tail b_dead b_lists) (hst : st < 1536) (hK : mc_K f_parts f_most f_functions f_openFn f_lacking a_body a_lengths a_treeEnd a_sig a_sizes) (hfn : a_frameFn d = nI g) (hg : g ≤ f) (hpc : a_framePc d = nI k) (hk : k < ln g) (ho : pt_o a_body g k = 5) : mc_Go st (nI l) (f_parts, f_most, f_functions, f_openFn, f_lacking, f_subject, f_wantedRest, f_wantedLeft, f_formCount, f_bestA, f_bestB, f_bestC, nI c, nI (d + 1), nI e, 0, nI w, nI l, a_body, a_lengths, a_treeEnd, a_accepted, a_sig, a_sizes, a_input, a_result, a_state, a_reached, a_forms, a_heads, a_tails, a_freed, a_ints, a_lists, a_frameFn, a_framePc) (f_parts, f_most, f_functions, f_lacking, f_openFn, g_purse, g_bases, nI c, nI w, nI (d + 1), nI e, a_body, a_lengths, a_sig, a_accepted, a_input, a_result, a_sizes, b_lastRun, b_rates, b_rest, b_known, b_base, b_head, b_tail, b_dead, a_frameFn, a_framePc, a_ints, b_lists) := by
  obtain ⟨hCl, ⟨hd, he, hlw, hcn, hcw⟩, hH, hL, hFr, hs2⟩ := h
  obtain ⟨g4, hlt, hlen, n1, n12, hFi, en, hT, hen, hte⟩ := hCl g hg
  obtain ⟨b0, b1, b2, b3, b4, b5, b6, b7⟩ := hFi k hk
  obtain ⟨T1, T2, T3, T4⟩ := hT k hk
  have vd : vp_in (nI d) 32 := vp_in_nI (by omega) (by omega)
  have hdc : (nI d).toNatClampNeg = d := nI_clamp (by omega)
  have vat : vp_in (nI ((g * 12 + k) * 4)) 192 := vp_in_nI (by omega) (by omega)
  have eat : (a_frameFn (nI d).toNatClampNeg * 12 + a_framePc (nI d).toNatClampNeg) * 4 = nI ((g * 12 + k) * 4) := by rw [hdc, hfn, hpc, ba_at]
  have ebo : a_body (nI ((g * 12 + k) * 4)).toNatClampNeg = nI (pt_o a_body g k) := by rw [nI_clamp (by omega), b0]
  have w1 : vp_in (nI ((g * 12 + k) * 4) + 1) 192 := by rw [nI_1]; exact vp_in_nI (by omega) (by omega)
  have w2 : vp_in (nI ((g * 12 + k) * 4) + 2) 192 := by rw [ba_2]; exact vp_in_nI (by omega) (by omega)
  have w3 : vp_in (nI ((g * 12 + k) * 4) + 3) 192 := by rw [ba_3]; exact vp_in_nI (by omega) (by omega)
  have eb1 : a_body (nI ((g * 12 + k) * 4) + 1).toNatClampNeg = nI (pt_p a_body g k) := by rw [nI_1, nI_clamp (by omega), b2]
  have eb2 : a_body (nI ((g * 12 + k) * 4) + 2).toNatClampNeg = nI (pt_q a_body g k) := by rw [ba_2, nI_clamp (by omega), b4]
  have eb3 : a_body (nI ((g * 12 + k) * 4) + 3).toNatClampNeg = a_body ((g * 12 + k) * 4 + 3) := by rw [ba_3, nI_clamp (by omega)]
  have sv : ∀ j, j ≤ 3 → vp_in (nI (d * 4) + nI j) 128 := fun j hj => by rw [nI_add]; exact vp_in_nI (by omega) (by omega)
  have sc : ∀ j, j ≤ 3 → (nI (d * 4) + nI j).toNatClampNeg = d * 4 + j := fun j hj => by rw [nI_add, nI_clamp (by omega)]
  obtain ⟨T5, T6, T7⟩ := T4 (by omega)
  obtain ⟨T8, T9⟩ := T7 (by unfold pt_fk; omega)
  by_cases hlt' : a_ints (d * 4 + pt_p a_body g k) < a_ints (d * 4 + pt_q a_body g k)
  · refine ⟨0, nI l, (f_parts, f_most, f_functions, f_openFn, f_lacking, f_subject, f_wantedRest, f_wantedLeft, f_formCount, f_bestA, f_bestB, f_bestC, nI c, nI (d + 1), nI e, 0, nI w, nI l, a_body, a_lengths, a_treeEnd, a_accepted, a_sig, a_sizes, a_input, a_result, a_state, a_reached, a_forms, a_heads, a_tails, a_freed, a_ints, a_lists, a_frameFn, upd a_framePc d (nI (k + 1))), (f_parts, f_most, f_functions, f_lacking, f_openFn, g_purse, g_bases, nI c, nI w, nI (d + 1), nI e, a_body, a_lengths, a_sig, a_accepted, a_input, a_result, a_sizes, b_lastRun, b_rates, b_rest, b_known, b_base, b_head, b_tail, b_dead, a_frameFn, upd a_framePc d (nI (k + 1)), a_ints, b_lists), mc_in hK (fun _ => ⟨f, ln, c, d, e, w, l, ⟨rfl, rfl, rfl, rfl, rfl, rfl, rfl, rfl⟩, hCl, ⟨hd, he, hlw, hcn, by omega⟩, hH, hL, mc_F_u hFr hfn hg T5, hs2⟩), Or.inl ⟨nI_le hlw (by omega), rfl⟩, fun post hp => ?_, fun post hp => ?_⟩
    · refine nm_r (nI_pred d) ⟨vd, vd, nm_r eat (nm_r (ba_m4 d) ⟨vat, nm_r ebo ?_⟩)⟩; rw [ho]
      refine br_f (by decide) (br_f (by decide) (br_f (by decide) (br_f (by decide) (br_f (by decide) (br_f (by decide) (br_f (by decide) (br_t rfl ⟨w1, by rw [eb1]; exact sv _ b3, w2, by rw [eb2]; exact sv _ b5, ?_⟩)))))))
      rw [eb1, eb2, sc _ b3, sc _ b5]
      exact br_f (Int32.not_le.mpr hlt') (mc_xj1 (by omega) hpc hp)
    · refine nm_r (nI_pred d) (nm_r (ba_m4 d) ⟨vd, nm_r (e' := nI g) (by rw [hdc, hfn]) ⟨vd, nm_r (e' := nI k) (by rw [hdc, hpc]) (ty_ycd 0 g4 hlt hlen n12 hk (by omega) b0 (ty_ycd 1 g4 hlt hlen n12 hk (by omega) b2 (ty_ycd 2 g4 hlt hlen n12 hk (by omega) b4 (ty_ycd 3 g4 hlt hlen n12 hk (by omega) rfl ?_))))⟩⟩); rw [ho]
      refine br_f (by decide) (br_f (by decide) (nm_r (nI_1 k) (br_f (by decide) (br_f (by decide) (br_t rfl ⟨sv _ b3, sv _ b5, ?_⟩)))))
      rw [sc _ b3, sc _ b5]
      exact br_t hlt' ⟨vd, nm_r (e' := upd a_framePc d (nI (k + 1))) (by rw [hdc]) hp⟩
  · refine ⟨0, nI l, (f_parts, f_most, f_functions, f_openFn, f_lacking, f_subject, f_wantedRest, f_wantedLeft, f_formCount, f_bestA, f_bestB, f_bestC, nI c, nI (d + 1), nI e, 0, nI w, nI l, a_body, a_lengths, a_treeEnd, a_accepted, a_sig, a_sizes, a_input, a_result, a_state, a_reached, a_forms, a_heads, a_tails, a_freed, a_ints, a_lists, a_frameFn, upd a_framePc d (nI (en (k + 1)))), (f_parts, f_most, f_functions, f_lacking, f_openFn, g_purse, g_bases, nI c, nI w, nI (d + 1), nI e, a_body, a_lengths, a_sig, a_accepted, a_input, a_result, a_sizes, b_lastRun, b_rates, b_rest, b_known, b_base, b_head, b_tail, b_dead, a_frameFn, upd a_framePc d (nI (en (k + 1))), a_ints, b_lists), mc_in hK (fun _ => ⟨f, ln, c, d, e, w, l, ⟨rfl, rfl, rfl, rfl, rfl, rfl, rfl, rfl⟩, hCl, ⟨hd, he, hlw, hcn, by omega⟩, hH, hL, mc_F_u hFr hfn hg T8, hs2⟩), Or.inl ⟨nI_le hlw (by omega), rfl⟩, fun post hp => ?_, fun post hp => ?_⟩
    · refine nm_r (nI_pred d) ⟨vd, vd, nm_r eat (nm_r (ba_m4 d) ⟨vat, nm_r ebo ?_⟩)⟩; rw [ho]
      refine br_f (by decide) (br_f (by decide) (br_f (by decide) (br_f (by decide) (br_f (by decide) (br_f (by decide) (br_f (by decide) (br_t rfl ⟨w1, by rw [eb1]; exact sv _ b3, w2, by rw [eb2]; exact sv _ b5, ?_⟩)))))))
      rw [eb1, eb2, sc _ b3, sc _ b5]
      exact br_t (Int32.not_lt.mp hlt') (mc_xj0 (by omega) g4 (by omega) hfn hpc (hte (k + 1) T5) hp)
    · refine nm_r (nI_pred d) (nm_r (ba_m4 d) ⟨vd, nm_r (e' := nI g) (by rw [hdc, hfn]) ⟨vd, nm_r (e' := nI k) (by rw [hdc, hpc]) (ty_ycd 0 g4 hlt hlen n12 hk (by omega) b0 (ty_ycd 1 g4 hlt hlen n12 hk (by omega) b2 (ty_ycd 2 g4 hlt hlen n12 hk (by omega) b4 (ty_ycd 3 g4 hlt hlen n12 hk (by omega) rfl ?_))))⟩⟩); rw [ho]
      refine br_f (by decide) (br_f (by decide) (nm_r (nI_1 k) (br_f (by decide) (br_f (by decide) (br_t rfl ⟨sv _ b3, sv _ b5, ?_⟩)))))
      rw [sc _ b3, sc _ b5]
      exact br_f hlt' (ty_sec g4 hlt hlen n12 hFi hT T5 _ ⟨vd, nm_r (e' := upd a_framePc d (nI (en (k + 1)))) (by rw [hdc]) hp⟩)
theorem ms_add {f : Nat} {ln : Nat → Nat} {c d e w l st g k : Nat} (h : mc_Pre st f ln c d e w l f_functions a_body a_lengths a_treeEnd a_sizes a_heads a_tails a_freed a_lists a_frameFn a_framePc b_head b_tail b_dead b_lists) (hst : st < 1536) (hK : mc_K f_parts f_most f_functions f_openFn f_lacking a_body a_lengths a_treeEnd a_sig a_sizes) (hfn : a_frameFn d = nI g) (hg : g ≤ f) (hpc : a_framePc d = nI k) (hk : k < ln g) (ho : pt_o a_body g k = 6) : mc_Go st (nI l) (f_parts, f_most, f_functions, f_openFn, f_lacking, f_subject, f_wantedRest, f_wantedLeft, f_formCount, f_bestA, f_bestB, f_bestC, nI c, nI (d + 1), nI e, 0, nI w, nI l, a_body, a_lengths, a_treeEnd, a_accepted, a_sig, a_sizes, a_input, a_result, a_state, a_reached, a_forms, a_heads, a_tails, a_freed, a_ints, a_lists, a_frameFn, a_framePc) (f_parts, f_most, f_functions, f_lacking, f_openFn, g_purse, g_bases, nI c, nI w, nI (d + 1), nI e, a_body, a_lengths, a_sig, a_accepted, a_input, a_result, a_sizes, b_lastRun, b_rates, b_rest, b_known, b_base, b_head, b_tail, b_dead, a_frameFn, a_framePc, a_ints, b_lists) := by
  obtain ⟨hCl, ⟨hd, he, hlw, hcn, hcw⟩, hH, hL, hFr, hs2⟩ := h
  obtain ⟨g4, hlt, hlen, n1, n12, hFi, en, hT, hen, hte⟩ := hCl g hg
  obtain ⟨b0, b1, b2, b3, b4, b5, b6, b7⟩ := hFi k hk
  obtain ⟨T1, T2, T3, T4⟩ := hT k hk
  have vd : vp_in (nI d) 32 := vp_in_nI (by omega) (by omega)
  have hdc : (nI d).toNatClampNeg = d := nI_clamp (by omega)
  have vat : vp_in (nI ((g * 12 + k) * 4)) 192 := vp_in_nI (by omega) (by omega)
  have eat : (a_frameFn (nI d).toNatClampNeg * 12 + a_framePc (nI d).toNatClampNeg) * 4 = nI ((g * 12 + k) * 4) := by rw [hdc, hfn, hpc, ba_at]
  have ebo : a_body (nI ((g * 12 + k) * 4)).toNatClampNeg = nI (pt_o a_body g k) := by rw [nI_clamp (by omega), b0]
  have w1 : vp_in (nI ((g * 12 + k) * 4) + 1) 192 := by rw [nI_1]; exact vp_in_nI (by omega) (by omega)
  have w2 : vp_in (nI ((g * 12 + k) * 4) + 2) 192 := by rw [ba_2]; exact vp_in_nI (by omega) (by omega)
  have w3 : vp_in (nI ((g * 12 + k) * 4) + 3) 192 := by rw [ba_3]; exact vp_in_nI (by omega) (by omega)
  have eb1 : a_body (nI ((g * 12 + k) * 4) + 1).toNatClampNeg = nI (pt_p a_body g k) := by rw [nI_1, nI_clamp (by omega), b2]
  have eb2 : a_body (nI ((g * 12 + k) * 4) + 2).toNatClampNeg = nI (pt_q a_body g k) := by rw [ba_2, nI_clamp (by omega), b4]
  have eb3 : a_body (nI ((g * 12 + k) * 4) + 3).toNatClampNeg = a_body ((g * 12 + k) * 4 + 3) := by rw [ba_3, nI_clamp (by omega)]
  have sv : ∀ j, j ≤ 3 → vp_in (nI (d * 4) + nI j) 128 := fun j hj => by rw [nI_add]; exact vp_in_nI (by omega) (by omega)
  have sc : ∀ j, j ≤ 3 → (nI (d * 4) + nI j).toNatClampNeg = d * 4 + j := fun j hj => by rw [nI_add, nI_clamp (by omega)]
  have hk1 := (T4 (by omega)).1
  refine ⟨0, nI l, (f_parts, f_most, f_functions, f_openFn, f_lacking, f_subject, f_wantedRest, f_wantedLeft, f_formCount, f_bestA, f_bestB, f_bestC, nI c, nI (d + 1), nI e, 0, nI w, nI l, a_body, a_lengths, a_treeEnd, a_accepted, a_sig, a_sizes, a_input, a_result, a_state, a_reached, a_forms, a_heads, a_tails, a_freed, upd a_ints (d * 4 + pt_p a_body g k) (a_ints (d * 4 + pt_q a_body g k) + a_body ((g * 12 + k) * 4 + 3)), a_lists, a_frameFn, upd a_framePc d (nI (k + 1))), (f_parts, f_most, f_functions, f_lacking, f_openFn, g_purse, g_bases, nI c, nI w, nI (d + 1), nI e, a_body, a_lengths, a_sig, a_accepted, a_input, a_result, a_sizes, b_lastRun, b_rates, b_rest, b_known, b_base, b_head, b_tail, b_dead, a_frameFn, upd a_framePc d (nI (k + 1)), upd a_ints (d * 4 + pt_p a_body g k) (a_ints (d * 4 + pt_q a_body g k) + a_body ((g * 12 + k) * 4 + 3)), b_lists), mc_in hK (fun _ => ⟨f, ln, c, d, e, w, l, ⟨rfl, rfl, rfl, rfl, rfl, rfl, rfl, rfl⟩, hCl, ⟨hd, he, hlw, hcn, by omega⟩, hH, hL, mc_F_u hFr hfn hg hk1, hs2⟩), Or.inl ⟨nI_le hlw (by omega), rfl⟩, fun post hp => ?_, fun post hp => ?_⟩
  · refine nm_r (nI_pred d) ⟨vd, vd, nm_r eat (nm_r (ba_m4 d) ⟨vat, nm_r ebo ?_⟩)⟩; rw [ho]
    refine br_f (by decide) (br_f (by decide) (br_f (by decide) (br_f (by decide) (br_f (by decide) (br_f (by decide) (br_f (by decide) (br_f (by decide) (br_t rfl ⟨w1, w2, by rw [eb2]; exact sv _ b5, w3, by rw [eb1]; exact sv _ b3, nm_r (e' := upd a_ints (d * 4 + pt_p a_body g k) (a_ints (d * 4 + pt_q a_body g k) + a_body ((g * 12 + k) * 4 + 3))) ?_ ⟨vd, vd, nm_r (e' := upd a_framePc d (nI (k + 1))) (by rw [hdc, hpc, nI_1]) hp⟩⟩))))))))
    rw [eb1, eb2, eb3, sc _ b3, sc _ b5]
  · refine nm_r (nI_pred d) (nm_r (ba_m4 d) ⟨vd, nm_r (e' := nI g) (by rw [hdc, hfn]) ⟨vd, nm_r (e' := nI k) (by rw [hdc, hpc]) (ty_ycd 0 g4 hlt hlen n12 hk (by omega) b0 (ty_ycd 1 g4 hlt hlen n12 hk (by omega) b2 (ty_ycd 2 g4 hlt hlen n12 hk (by omega) b4 (ty_ycd 3 g4 hlt hlen n12 hk (by omega) rfl ?_))))⟩⟩); rw [ho]
    refine br_f (by decide) (br_f (by decide) (nm_r (nI_1 k) (br_f (by decide) (br_t rfl ⟨sv _ b5, sv _ b3, nm_r (e' := upd a_ints (d * 4 + pt_p a_body g k) (a_ints (d * 4 + pt_q a_body g k) + a_body ((g * 12 + k) * 4 + 3))) ?_ ⟨vd, nm_r (e' := upd a_framePc d (nI (k + 1))) (by rw [hdc]) hp⟩⟩))))
    rw [sc _ b3, sc _ b5]
/-- TAKE, READ -/
theorem ms_match {f : Nat} {ln : Nat → Nat} {c d e w l st g k : Nat} (h : mc_Pre st f ln c d e w l f_functions a_body a_lengths a_treeEnd a_sizes a_heads a_tails a_freed a_lists a_frameFn a_framePc b_head b_tail b_dead b_lists) (hst : st < 1536) (hK : mc_K f_parts f_most f_functions f_openFn f_lacking a_body a_lengths a_treeEnd a_sig a_sizes) (hfn : a_frameFn d = nI g) (hg : g ≤ f) (hpc : a_framePc d = nI k) (hk : k < ln g) (ho34 : pt_o a_body g k = 3 ∨ pt_o a_body g k = 4) : mc_Go st (nI l) (f_parts, f_most, f_functions, f_openFn, f_lacking, f_subject, f_wantedRest, f_wantedLeft, f_formCount, f_bestA, f_bestB, f_bestC, nI c, nI (d + 1), nI e, 0, nI w, nI l, a_body, a_lengths, a_treeEnd, a_accepted, a_sig, a_sizes, a_input, a_result, a_state, a_reached, a_forms, a_heads, a_tails, a_freed, a_ints, a_lists, a_frameFn, a_framePc) (f_parts, f_most, f_functions, f_lacking, f_openFn, g_purse, g_bases, nI c, nI w, nI (d + 1), nI e, a_body, a_lengths, a_sig, a_accepted, a_input, a_result, a_sizes, b_lastRun, b_rates, b_rest, b_known, b_base, b_head, b_tail, b_dead, a_frameFn, a_framePc, a_ints, b_lists) := by
  obtain ⟨hCl, ⟨hd, he, hlw, hcn, hcw⟩, hH, hL, hFr, hs2⟩ := h
  obtain ⟨g4, hlt, hlen, n1, n12, hFi, en, hT, hen, hte⟩ := hCl g hg
  obtain ⟨b0, b1, b2, b3, b4, b5, b6, b7⟩ := hFi k hk
  obtain ⟨T1, T2, T3, T4⟩ := hT k hk
  have vd : vp_in (nI d) 32 := vp_in_nI (by omega) (by omega)
  have hdc : (nI d).toNatClampNeg = d := nI_clamp (by omega)
  have vat : vp_in (nI ((g * 12 + k) * 4)) 192 := vp_in_nI (by omega) (by omega)
  have eat : (a_frameFn (nI d).toNatClampNeg * 12 + a_framePc (nI d).toNatClampNeg) * 4 = nI ((g * 12 + k) * 4) := by rw [hdc, hfn, hpc, ba_at]
  have ebo : a_body (nI ((g * 12 + k) * 4)).toNatClampNeg = nI (pt_o a_body g k) := by rw [nI_clamp (by omega), b0]
  have w1 : vp_in (nI ((g * 12 + k) * 4) + 1) 192 := by rw [nI_1]; exact vp_in_nI (by omega) (by omega)
  have w2 : vp_in (nI ((g * 12 + k) * 4) + 2) 192 := by rw [ba_2]; exact vp_in_nI (by omega) (by omega)
  have w3 : vp_in (nI ((g * 12 + k) * 4) + 3) 192 := by rw [ba_3]; exact vp_in_nI (by omega) (by omega)
  have eb1 : a_body (nI ((g * 12 + k) * 4) + 1).toNatClampNeg = nI (pt_p a_body g k) := by rw [nI_1, nI_clamp (by omega), b2]
  have eb2 : a_body (nI ((g * 12 + k) * 4) + 2).toNatClampNeg = nI (pt_q a_body g k) := by rw [ba_2, nI_clamp (by omega), b4]
  have eb3 : a_body (nI ((g * 12 + k) * 4) + 3).toNatClampNeg = a_body ((g * 12 + k) * 4 + 3) := by rw [ba_3, nI_clamp (by omega)]
  have sv : ∀ j, j ≤ 3 → vp_in (nI (d * 4) + nI j) 128 := fun j hj => by rw [nI_add]; exact vp_in_nI (by omega) (by omega)
  have sc : ∀ j, j ≤ 3 → (nI (d * 4) + nI j).toNatClampNeg = d * 4 + j := fun j hj => by rw [nI_add, nI_clamp (by omega)]
  obtain ⟨b8, b9, b10⟩ := b7 (by omega)
  have b11 := b10 (by omega)
  obtain ⟨T5, T6, T7⟩ := T4 (by omega)
  obtain ⟨T8, T9⟩ := T7 (by unfold pt_fk; omega)
  obtain ⟨t, t1, t2, t3⟩ := hL (d * 4 + pt_p a_body g k) (by omega)
  have px : ∀ post : SX → Prop, wpX_doMatch post (f_parts, f_most, f_functions, f_openFn, f_lacking, f_subject, f_wantedRest, f_wantedLeft, f_formCount, f_bestA, f_bestB, f_bestC, nI c, nI (d + 1), nI e, 0, nI w, nI l, a_body, a_lengths, a_treeEnd, a_accepted, a_sig, a_sizes, a_input, a_result, a_state, a_reached, a_forms, a_heads, a_tails, a_freed, a_ints, a_lists, a_frameFn, a_framePc) (nI d) (nI ((g * 12 + k) * 4)) → wpX_execute post (f_parts, f_most, f_functions, f_openFn, f_lacking, f_subject, f_wantedRest, f_wantedLeft, f_formCount, f_bestA, f_bestB, f_bestC, nI c, nI (d + 1), nI e, 0, nI w, nI l, a_body, a_lengths, a_treeEnd, a_accepted, a_sig, a_sizes, a_input, a_result, a_state, a_reached, a_forms, a_heads, a_tails, a_freed, a_ints, a_lists, a_frameFn, a_framePc) := by
    intro post H
    refine nm_r (nI_pred d) ⟨vd, vd, nm_r eat (nm_r (ba_m4 d) ⟨vat, nm_r ebo ?_⟩)⟩
    rcases ho34 with ho | ho
    · rw [ho]
      exact br_f (by decide) (br_f (by decide) (br_f (by decide) (br_f (by decide) (br_f (by decide) (br_t rfl H)))))
    · rw [ho]
      exact br_f (by decide) (br_f (by decide) (br_f (by decide) (br_f (by decide) (br_f (by decide) (br_f (by decide) (br_t rfl H))))))
  have o0 : ¬ nI (pt_o a_body g k) = 0 := by rcases ho34 with ho | ho <;> rw [ho] <;> decide
  have o2 : ¬ nI (pt_o a_body g k) = 2 := by rcases ho34 with ho | ho <;> rw [ho] <;> decide
  have o1 : ¬ nI (pt_o a_body g k) = 1 := by rcases ho34 with ho | ho <;> rw [ho] <;> decide
  have o6 : ¬ nI (pt_o a_body g k) = 6 := by rcases ho34 with ho | ho <;> rw [ho] <;> decide
  have o5 : ¬ nI (pt_o a_body g k) = 5 := by rcases ho34 with ho | ho <;> rw [ho] <;> decide
  cases t with
  | zero =>
    refine ⟨0, nI l, (f_parts, f_most, f_functions, f_openFn, f_lacking, f_subject, f_wantedRest, f_wantedLeft, f_formCount, f_bestA, f_bestB, f_bestC, nI c, nI (d + 1), nI e, 0, nI w, nI l, a_body, a_lengths, a_treeEnd, a_accepted, a_sig, a_sizes, a_input, a_result, a_state, a_reached, a_forms, a_heads, a_tails, a_freed, a_ints, a_lists, a_frameFn, upd a_framePc d (nI (k + 1))), (f_parts, f_most, f_functions, f_lacking, f_openFn, g_purse, g_bases, nI c, nI w, nI (d + 1), nI e, a_body, a_lengths, a_sig, a_accepted, a_input, a_result, a_sizes, b_lastRun, b_rates, b_rest, b_known, b_base, b_head, b_tail, b_dead, a_frameFn, upd a_framePc d (nI (k + 1)), a_ints, b_lists), mc_in hK (fun _ => ⟨f, ln, c, d, e, w, l, ⟨rfl, rfl, rfl, rfl, rfl, rfl, rfl, rfl⟩, hCl, ⟨hd, he, hlw, hcn, by omega⟩, hH, hL, mc_F_u hFr hfn hg T5, hs2⟩), Or.inl ⟨nI_le hlw (by omega), rfl⟩, fun post hp => ?_, fun post hp => ?_⟩
    · refine px post (nm_r (ba_m4 d) ⟨w1, by rw [eb1]; exact sv _ b3, nm_r (e' := nI 0 - 1) (by rw [eb1, sc _ b3, t2]) (br_f (by decide) (mc_xj1 (by omega) hpc hp))⟩)
    · refine nm_r (nI_pred d) (nm_r (ba_m4 d) ⟨vd, nm_r (e' := nI g) (by rw [hdc, hfn]) ⟨vd, nm_r (e' := nI k) (by rw [hdc, hpc]) (ty_ycd 0 g4 hlt hlen n12 hk (by omega) b0 (ty_ycd 1 g4 hlt hlen n12 hk (by omega) b2 (ty_ycd 2 g4 hlt hlen n12 hk (by omega) b4 (ty_ycd 3 g4 hlt hlen n12 hk (by omega) rfl ?_))))⟩⟩)
      refine br_f o0 (br_f o2 (nm_r (nI_1 k) (br_f o1 (br_f o6 (br_f o5 ⟨sv _ b3, br_t (by rw [sc _ b3, t3]; rfl) ⟨vd, nm_r (e' := upd a_framePc d (nI (k + 1))) (by rw [hdc]) hp⟩⟩)))))
  | succ i =>
    obtain ⟨h1, h2, t', h3, h4, h5⟩ := hH i (by omega)
    have vi : vp_in (nI i) 1440 := vp_in_nI (by omega) (by omega)
    have vi1 : vp_in (nI (i + 1)) 1600 := vp_in_nI (by omega) (by omega)
    have hcl : (nI i).toNatClampNeg = i := nI_clamp (by omega)
    have hcl1 : (nI (i + 1)).toNatClampNeg = i + 1 := nI_clamp (by omega)
    have hi1 : ¬ nI (i + 1) = 0 := nI_ne0 (by omega) (by omega)
    have hi0 : (0 : Int32) ≤ nI i := nI_pos' (by omega)
    have xin : ∀ post : SX → Prop, _ → wpX_doMatch post (f_parts, f_most, f_functions, f_openFn, f_lacking, f_subject, f_wantedRest, f_wantedLeft, f_formCount, f_bestA, f_bestB, f_bestC, nI c, nI (d + 1), nI e, 0, nI w, nI l, a_body, a_lengths, a_treeEnd, a_accepted, a_sig, a_sizes, a_input, a_result, a_state, a_reached, a_forms, a_heads, a_tails, a_freed, a_ints, a_lists, a_frameFn, a_framePc) (nI d) (nI ((g * 12 + k) * 4)) := fun post z => nm_r (ba_m4 d) ⟨w1, by rw [eb1]; exact sv _ b3, nm_r (e' := nI i) (by rw [eb1, sc _ b3, t2, nI_pred]) (br_t hi0 ⟨vi, z⟩)⟩
    by_cases hf : a_freed i = 0
    · have hpcs := mc_F_u hFr hfn hg T8
      have hL' : mc_L c (d + 1) (upd a_lists (d * 4 + pt_r a_body g k) (nI t' - 1)) (upd b_lists (d * 4 + pt_r a_body g k) (nI t')) := mc_L_u hL (by omega)
      rcases ho34 with ho | ho
      · have hH' : mc_H c a_heads a_tails (upd a_freed i 1) b_head b_tail (upd b_dead (i + 1) 1) := by
          intro j hj
          obtain ⟨x1, x2, x3⟩ := hH j hj
          refine ⟨x1, ?_, x3⟩
          by_cases ej : j = i
          · rw [ba_ue (by omega), ba_ue ej]
          · rw [pk_un (by omega), pk_un ej]; exact x2
        have hcn' := mc_cn_f (x := 1) (by decide) hf c (by omega)
        refine ⟨0, nI l, (f_parts, f_most, f_functions, f_openFn, f_lacking, f_subject, f_wantedRest, f_wantedLeft, f_formCount, f_bestA, f_bestB, f_bestC, nI c, nI (d + 1), nI e, 0, nI (w + 1), nI l, a_body, a_lengths, a_treeEnd, a_accepted, a_sig, a_sizes, a_input, a_result, a_state, a_reached, a_forms, a_heads, a_tails, upd a_freed i 1, upd a_ints (d * 4 + pt_q a_body g k) (a_heads i), upd a_lists (d * 4 + pt_r a_body g k) (nI t' - 1), a_frameFn, upd a_framePc d (nI (en (k + 1)))), (f_parts, f_most, f_functions, f_lacking, f_openFn, g_purse, g_bases, nI c, nI (w + 1), nI (d + 1), nI e, a_body, a_lengths, a_sig, a_accepted, a_input, a_result, a_sizes, b_lastRun, b_rates, b_rest, b_known, b_base, b_head, b_tail, upd b_dead (i + 1) 1, a_frameFn, upd a_framePc d (nI (en (k + 1))), upd a_ints (d * 4 + pt_q a_body g k) (a_heads i), upd b_lists (d * 4 + pt_r a_body g k) (nI t')), mc_in hK (fun _ => ⟨f, ln, c, d, e, w + 1, l, ⟨rfl, rfl, rfl, rfl, rfl, rfl, rfl, rfl⟩, hCl, ⟨hd, he, by omega, by omega, by omega⟩, hH', hL', hpcs, hs2⟩), Or.inl ⟨nI_le (show l ≤ w + 1 by omega) (by omega), rfl⟩, fun post hp => ?_, fun post hp => ?_⟩
        · refine px post (xin post (br_t (by rw [hcl]; exact hf) ⟨vat, br_t (by rw [ebo, ho]; rfl) ⟨vi, nm_r (e' := upd a_freed i 1) (by rw [hcl, ba_nb1]) (nm_r (nI_1 w) ?_)⟩⟩))
          refine And.intro w2 (And.intro vi (And.intro (by rw [eb2]; exact sv _ b5) (nm_r (e' := upd a_ints (d * 4 + pt_q a_body g k) (a_heads i)) (by rw [eb2, sc _ b5, hcl]) ⟨w3, vi, by rw [eb3, b8]; exact sv _ b11, nm_r (e' := upd a_lists (d * 4 + pt_r a_body g k) (nI t' - 1)) (by rw [eb3, b8, sc _ b11, hcl, h4]) (mc_xj0 (by omega) g4 (by omega) hfn hpc (hte (k + 1) T5) hp)⟩)))
        · refine nm_r (nI_pred d) (nm_r (ba_m4 d) ⟨vd, nm_r (e' := nI g) (by rw [hdc, hfn]) ⟨vd, nm_r (e' := nI k) (by rw [hdc, hpc]) (ty_ycd 0 g4 hlt hlen n12 hk (by omega) b0 (ty_ycd 1 g4 hlt hlen n12 hk (by omega) b2 (ty_ycd 2 g4 hlt hlen n12 hk (by omega) b4 (ty_ycd 3 g4 hlt hlen n12 hk (by omega) b8 ?_))))⟩⟩)
          refine br_f o0 (br_f o2 (nm_r (nI_1 k) (br_f o1 (br_f o6 (br_f o5 ⟨sv _ b3, br_f (by rw [sc _ b3, t3]; exact hi1) ⟨sv _ b3, nm_r (e' := nI (i + 1)) (by rw [sc _ b3, t3]) ⟨vi1, br_t (by rw [hcl1, h2]; exact hf) (br_t (by rw [ho]; rfl) ⟨vi1, nm_r (e' := upd b_dead (i + 1) 1) (by rw [hcl1, ba_nb1]) (nm_r (nI_1 w) ?_)⟩)⟩⟩⟩)))))
          exact And.intro vi1 (And.intro (sv _ b5) (nm_r (e' := upd a_ints (d * 4 + pt_q a_body g k) (a_heads i)) (by rw [sc _ b5, hcl1, h1]) ⟨vi1, sv _ b11, nm_r (e' := upd b_lists (d * 4 + pt_r a_body g k) (nI t')) (by rw [sc _ b11, hcl1, h5]) (ty_sec g4 hlt hlen n12 hFi hT T5 _ ⟨vd, nm_r (e' := upd a_framePc d (nI (en (k + 1)))) (by rw [hdc]) hp⟩)⟩))
      · have no3 : ¬ nI (pt_o a_body g k) = 3 := by rw [ho]; decide
        refine ⟨0, nI l, (f_parts, f_most, f_functions, f_openFn, f_lacking, f_subject, f_wantedRest, f_wantedLeft, f_formCount, f_bestA, f_bestB, f_bestC, nI c, nI (d + 1), nI e, 0, nI w, nI l, a_body, a_lengths, a_treeEnd, a_accepted, a_sig, a_sizes, a_input, a_result, a_state, a_reached, a_forms, a_heads, a_tails, a_freed, upd a_ints (d * 4 + pt_q a_body g k) (a_heads i), upd a_lists (d * 4 + pt_r a_body g k) (nI t' - 1), a_frameFn, upd a_framePc d (nI (en (k + 1)))), (f_parts, f_most, f_functions, f_lacking, f_openFn, g_purse, g_bases, nI c, nI w, nI (d + 1), nI e, a_body, a_lengths, a_sig, a_accepted, a_input, a_result, a_sizes, b_lastRun, b_rates, b_rest, b_known, b_base, b_head, b_tail, b_dead, a_frameFn, upd a_framePc d (nI (en (k + 1))), upd a_ints (d * 4 + pt_q a_body g k) (a_heads i), upd b_lists (d * 4 + pt_r a_body g k) (nI t')), mc_in hK (fun _ => ⟨f, ln, c, d, e, w, l, ⟨rfl, rfl, rfl, rfl, rfl, rfl, rfl, rfl⟩, hCl, ⟨hd, he, by omega, by omega, by omega⟩, hH, hL', hpcs, hs2⟩), Or.inl ⟨nI_le hlw (by omega), rfl⟩, fun post hp => ?_, fun post hp => ?_⟩
        · refine px post (xin post (br_t (by rw [hcl]; exact hf) ⟨vat, br_f (by rw [ebo]; exact no3) ?_⟩))
          refine And.intro w2 (And.intro vi (And.intro (by rw [eb2]; exact sv _ b5) (nm_r (e' := upd a_ints (d * 4 + pt_q a_body g k) (a_heads i)) (by rw [eb2, sc _ b5, hcl]) ⟨w3, vi, by rw [eb3, b8]; exact sv _ b11, nm_r (e' := upd a_lists (d * 4 + pt_r a_body g k) (nI t' - 1)) (by rw [eb3, b8, sc _ b11, hcl, h4]) (mc_xj0 (by omega) g4 (by omega) hfn hpc (hte (k + 1) T5) hp)⟩)))
        · refine nm_r (nI_pred d) (nm_r (ba_m4 d) ⟨vd, nm_r (e' := nI g) (by rw [hdc, hfn]) ⟨vd, nm_r (e' := nI k) (by rw [hdc, hpc]) (ty_ycd 0 g4 hlt hlen n12 hk (by omega) b0 (ty_ycd 1 g4 hlt hlen n12 hk (by omega) b2 (ty_ycd 2 g4 hlt hlen n12 hk (by omega) b4 (ty_ycd 3 g4 hlt hlen n12 hk (by omega) b8 ?_))))⟩⟩)
          refine br_f o0 (br_f o2 (nm_r (nI_1 k) (br_f o1 (br_f o6 (br_f o5 ⟨sv _ b3, br_f (by rw [sc _ b3, t3]; exact hi1) ⟨sv _ b3, nm_r (e' := nI (i + 1)) (by rw [sc _ b3, t3]) ⟨vi1, br_t (by rw [hcl1, h2]; exact hf) (br_f no3 ?_)⟩⟩⟩)))))
          exact And.intro vi1 (And.intro (sv _ b5) (nm_r (e' := upd a_ints (d * 4 + pt_q a_body g k) (a_heads i)) (by rw [sc _ b5, hcl1, h1]) ⟨vi1, sv _ b11, nm_r (e' := upd b_lists (d * 4 + pt_r a_body g k) (nI t')) (by rw [sc _ b11, hcl1, h5]) (ty_sec g4 hlt hlen n12 hFi hT T5 _ ⟨vd, nm_r (e' := upd a_framePc d (nI (en (k + 1)))) (by rw [hdc]) hp⟩)⟩))
    · refine ⟨3, nI l, (f_parts, f_most, f_functions, f_openFn, f_lacking, f_subject, f_wantedRest, f_wantedLeft, f_formCount, f_bestA, f_bestB, f_bestC, nI c, nI (d + 1), nI e, 3, nI w, nI l, a_body, a_lengths, a_treeEnd, a_accepted, a_sig, a_sizes, a_input, a_result, a_state, a_reached, a_forms, a_heads, a_tails, a_freed, a_ints, a_lists, a_frameFn, a_framePc), (f_parts, f_most, f_functions, f_lacking, f_openFn, g_purse, g_bases, nI c, nI w, nI (d + 1), nI e, a_body, a_lengths, a_sig, a_accepted, a_input, a_result, a_sizes, b_lastRun, b_rates, b_rest, b_known, b_base, b_head, b_tail, b_dead, a_frameFn, a_framePc, a_ints, b_lists), mc_in hK (fun z => absurd z (by decide)), Or.inl ⟨nI_le hlw (by omega), rfl⟩, fun post hp => ?_, fun post hp => ?_⟩
      · exact px post (xin post (br_f (by rw [hcl]; exact hf) hp))
      · refine nm_r (nI_pred d) (nm_r (ba_m4 d) ⟨vd, nm_r (e' := nI g) (by rw [hdc, hfn]) ⟨vd, nm_r (e' := nI k) (by rw [hdc, hpc]) (ty_ycd 0 g4 hlt hlen n12 hk (by omega) b0 (ty_ycd 1 g4 hlt hlen n12 hk (by omega) b2 (ty_ycd 2 g4 hlt hlen n12 hk (by omega) b4 (ty_ycd 3 g4 hlt hlen n12 hk (by omega) b8 ?_))))⟩⟩)
        exact br_f o0 (br_f o2 (nm_r (nI_1 k) (br_f o1 (br_f o6 (br_f o5 ⟨sv _ b3, br_f (by rw [sc _ b3, t3]; exact hi1) ⟨sv _ b3, nm_r (e' := nI (i + 1)) (by rw [sc _ b3, t3]) ⟨vi1, br_f (by rw [hcl1, h2]; exact hf) hp⟩⟩⟩)))))
end
end
section
/-! the run -/
theorem mc_step {st : Nat} {lo : Int32} {u : SX} {v : SY} (hst : st < 1536) (h : mc_Rel st 0 lo u v) : mc_Go st lo u v := by
  refine mc_el (st := st) (fun o lo u v => o = 0 → mc_Go st lo u v) ?_ h rfl
  intro f_parts f_most f_functions f_openFn f_lacking f_subject f_wantedRest f_wantedLeft f_formCount f_bestA f_bestB f_bestC f_cells f_depth f_entries f_outcome f_freeNow f_lowest a_body a_lengths a_treeEnd a_accepted a_sig a_sizes a_input a_result a_state a_reached a_forms a_heads a_tails a_freed a_ints a_lists a_frameFn a_framePc g_purse g_bases g_cells g_depth g_entries b_lastRun b_rates b_rest b_known b_base b_head b_tail b_dead b_lists hK hr h0
  obtain ⟨f, ln, c, d, e, w, l, ⟨e1, e2, e3, e4, e5, e6, e7, e8⟩, hP⟩ := hr h0
  subst e1 e2 e3 e4 e5 e6 e7 e8 h0
  obtain ⟨g, k, hfn, hg, hpc, hk, _⟩ := hP.2.2.2.2.1 d (by omega)
  have ho6 := ((hP.1 g hg).2.2.2.2.2.1 k hk).2.1
  rcases (by omega : pt_o a_body g k = 0 ∨ pt_o a_body g k = 1 ∨ pt_o a_body g k = 2 ∨ (pt_o a_body g k = 3 ∨ pt_o a_body g k = 4) ∨ pt_o a_body g k = 5 ∨ pt_o a_body g k = 6) with ho | ho | ho | ho | ho | ho
  · cases d with
    | zero => exact ms_ret0 hP hst hK hfn hg hpc hk ho rfl
    | succ p => exact ms_ret1 hP hst hK hfn hg hpc hk ho rfl
  · exact ms_cons hP hst hK hfn hg hpc hk ho
  · exact ms_call hP hst hK hfn hg hpc hk ho
  · exact ms_match hP hst hK hfn hg hpc hk ho
  · exact ms_less hP hst hK hfn hg hpc hk ho
  · exact ms_add hP hst hK hfn hg hpc hk ho
def mx_run (post : Int32 → SX → Prop) (n : Nat) (x7 : Int32) (u : SX) : Prop := match u with
  | (f_parts, f_most, f_functions, f_openFn, f_lacking, f_subject, f_wantedRest, f_wantedLeft, f_formCount, f_bestA, f_bestB, f_bestC, f_cells, f_depth, f_entries, f_outcome, f_freeNow, f_lowest, a_body, a_lengths, a_treeEnd, a_accepted, a_sig, a_sizes, a_input, a_result, a_state, a_reached, a_forms, a_heads, a_tails, a_freed, a_ints, a_lists, a_frameFn, a_framePc) => wX_run_66 post n x7 f_parts f_most f_functions f_openFn f_lacking f_subject f_wantedRest f_wantedLeft f_formCount f_bestA f_bestB f_bestC f_cells f_depth f_entries f_outcome f_freeNow f_lowest a_body a_lengths a_treeEnd a_accepted a_sig a_sizes a_input a_result a_state a_reached a_forms a_heads a_tails a_freed a_ints a_lists a_frameFn a_framePc
def my_run (post : Int32 → SY → Prop) (n : Nat) (lo o x9 : Int32) (v : SY) : Prop := match v with
  | (g_parts, g_most, g_count, g_lacking, g_opened, g_purse, g_bases, g_cells, g_supply, g_depth, g_entries, b_body, b_len, b_sig, b_accepted, b_input, b_result, b_sizes, b_lastRun, b_rates, b_rest, b_known, b_base, b_head, b_tail, b_dead, b_fun, b_pc, b_ints, b_lists) => wY_run_93 post n lo o x9 g_parts g_most g_count g_lacking g_opened g_purse g_bases g_cells g_supply g_depth g_entries b_body b_len b_sig b_accepted b_input b_result b_sizes b_lastRun b_rates b_rest b_known b_base b_head b_tail b_dead b_fun b_pc b_ints b_lists
def my_133 (post : Int32 → SY → Prop) (lo o : Int32) (v : SY) : Prop := match v with
  | (g_parts, g_most, g_count, g_lacking, g_opened, g_purse, g_bases, g_cells, g_supply, g_depth, g_entries, b_body, b_len, b_sig, b_accepted, b_input, b_result, b_sizes, b_lastRun, b_rates, b_rest, b_known, b_base, b_head, b_tail, b_dead, b_fun, b_pc, b_ints, b_lists) => wY_run_133 post lo o g_parts g_most g_count g_lacking g_opened g_purse g_bases g_cells g_supply g_depth g_entries b_body b_len b_sig b_accepted b_input b_result b_sizes b_lastRun b_rates b_rest b_known b_base b_head b_tail b_dead b_fun b_pc b_ints b_lists
def mx_out (u : SX) : Int32 := match u with
  | (f_parts, f_most, f_functions, f_openFn, f_lacking, f_subject, f_wantedRest, f_wantedLeft, f_formCount, f_bestA, f_bestB, f_bestC, f_cells, f_depth, f_entries, f_outcome, f_freeNow, f_lowest, a_body, a_lengths, a_treeEnd, a_accepted, a_sig, a_sizes, a_input, a_result, a_state, a_reached, a_forms, a_heads, a_tails, a_freed, a_ints, a_lists, a_frameFn, a_framePc) => f_outcome
theorem mx_step {post : Int32 → SX → Prop} {n st : Nat} {u u1 : SX} (hst : st < 1536) (h0 : mx_out u = 0) (hX : ∀ post : SX → Prop, post u1 → wpX_execute post u) (H : mx_run post n (nI (st + 1)) u1) : mx_run post (n + 1) (nI st) u := by
  obtain ⟨f_parts, f_most, f_functions, f_openFn, f_lacking, f_subject, f_wantedRest, f_wantedLeft, f_formCount, f_bestA, f_bestB, f_bestC, f_cells, f_depth, f_entries, f_outcome, f_freeNow, f_lowest, a_body, a_lengths, a_treeEnd, a_accepted, a_sig, a_sizes, a_input, a_result, a_state, a_reached, a_forms, a_heads, a_tails, a_freed, a_ints, a_lists, a_frameFn, a_framePc⟩ := u
  exact br_f (nI_ge (b := 1536) hst (by omega)) (br_t h0 (hX _ (nm_r (nI_1 st) H)))
theorem my_step {post : Int32 → SY → Prop} {n st : Nat} {lo lo1 o1 : Int32} {v v1 : SY} (hst : st < 1536) (hlo : (lo ≤ mc_sup v1 ∧ lo1 = lo) ∨ (¬ lo ≤ mc_sup v1 ∧ lo1 = mc_sup v1)) (hY : ∀ post : Int32 → SY → Prop, post o1 v1 → wpY_execute post v) (H : my_run post n lo1 o1 (nI (st + 1)) v1) : my_run post (n + 1) lo 0 (nI st) v := by
  obtain ⟨g_parts, g_most, g_count, g_lacking, g_opened, g_purse, g_bases, g_cells, g_supply, g_depth, g_entries, b_body, b_len, b_sig, b_accepted, b_input, b_result, b_sizes, b_lastRun, b_rates, b_rest, b_known, b_base, b_head, b_tail, b_dead, b_fun, b_pc, b_ints, b_lists⟩ := v
  refine br_f (nI_ge (b := 1536) hst (by omega)) (br_t rfl (hY _ ?_))
  rcases hlo with ⟨h1, h2⟩ | ⟨h1, h2⟩
  · subst h2
    exact br_t h1 (nm_r (nI_1 st) H)
  · subst h2
    exact br_f h1 (nm_r (nI_1 st) H)
theorem mx_end {post : Int32 → SX → Prop} {n st : Nat} {u : SX} (h : 1536 ≤ st ∨ ¬ mx_out u = 0) (hst : st ≤ 1536) (hp : post (mx_out u) u) : mx_run post (n + 1) (nI st) u := by
  obtain ⟨f_parts, f_most, f_functions, f_openFn, f_lacking, f_subject, f_wantedRest, f_wantedLeft, f_formCount, f_bestA, f_bestB, f_bestC, f_cells, f_depth, f_entries, f_outcome, f_freeNow, f_lowest, a_body, a_lengths, a_treeEnd, a_accepted, a_sig, a_sizes, a_input, a_result, a_state, a_reached, a_forms, a_heads, a_tails, a_freed, a_ints, a_lists, a_frameFn, a_framePc⟩ := u
  refine pk_le 1536 st (fun _ => hp) (fun hlt => ?_)
  rcases h with h | h
  · omega
  · exact br_f h hp
theorem my_end {post : Int32 → SY → Prop} {n st : Nat} {lo o : Int32} {v : SY} (h : 1536 ≤ st ∨ ¬ o = 0) (hst : st ≤ 1536) (hp : my_133 post lo o v) : my_run post (n + 1) lo o (nI st) v := by
  obtain ⟨g_parts, g_most, g_count, g_lacking, g_opened, g_purse, g_bases, g_cells, g_supply, g_depth, g_entries, b_body, b_len, b_sig, b_accepted, b_input, b_result, b_sizes, b_lastRun, b_rates, b_rest, b_known, b_base, b_head, b_tail, b_dead, b_fun, b_pc, b_ints, b_lists⟩ := v
  refine pk_le 1536 st (fun _ => hp) (fun hlt => ?_)
  rcases h with h | h
  · omega
  · exact br_f h hp
theorem mc_oute {st : Nat} {o lo : Int32} {u : SX} {v : SY} (h : mc_Rel st o lo u v) : mx_out u = o :=
  mc_el (fun o _ u _ => mx_out u = o) (fun _ _ _ _ _ _ _ _ _ _ _ _ _ _ _ _ _ _ _ _ _ _ _ _ _ _ _ _ _ _ _ _ _ _ _ _ _ _ _ _ _ _ _ _ _ _ _ _ _ _ _ _ => rfl) h
theorem mc_loop : ∀ (r st : Nat) (o lo : Int32) (u : SX) (v : SY), st + r = 1536 → mc_Rel st o lo u v →
    ∃ (st' : Nat) (o' lo' : Int32) (u' : SX) (v' : SY), mc_Rel st' o' lo' u' v' ∧ (∀ post : Int32 → SX → Prop, post o' u' → mx_run post (r + 1) (nI st) u) ∧ (∀ post : Int32 → SY → Prop, my_133 post lo' o' v' → my_run post (r + 1) lo o (nI st) v) := by
  intro r
  induction r with
  | zero =>
    intro st o lo u v hst h
    refine ⟨st, o, lo, u, v, h, fun post hp => mx_end (Or.inl (by omega)) (by omega) ?_, fun post hp => my_end (Or.inl (by omega)) (by omega) hp⟩
    rw [mc_oute h]; exact hp
  | succ r ih =>
    intro st o lo u v hst h
    by_cases ho : o = 0
    · subst ho
      obtain ⟨o1, lo1, u1, v1, hR1, hlo, hX, hY⟩ := mc_step (by omega) h
      obtain ⟨st', o', lo', u', v', hR', hX', hY'⟩ := ih (st + 1) o1 lo1 u1 v1 (by omega) hR1
      exact ⟨st', o', lo', u', v', hR', fun post hp => mx_step (by omega) (mc_oute h) hX (hX' post hp), fun post hp => my_step (by omega) hlo hY (hY' post hp)⟩
    · refine ⟨st, o, lo, u, v, h, fun post hp => mx_end (Or.inr ?_) (by omega) ?_, fun post hp => my_end (Or.inr ho) (by omega) hp⟩
      · rw [mc_oute h]; exact ho
      · rw [mc_oute h]; exact hp
theorem mc_fin {st k : Nat} {o lo : Int32} {u : SX} {v : SY} (h : mc_Rel st o lo u v) : my_133 (fun r' v' => r' = o ∧ i_Rel k u v') lo o v := by
  refine mc_el (st := st) (fun o lo u v => my_133 (fun r' v' => r' = o ∧ i_Rel k u v') lo o v) ?_ h
  intro f_parts f_most f_functions f_openFn f_lacking f_subject f_wantedRest f_wantedLeft f_formCount f_bestA f_bestB f_bestC f_cells f_depth f_entries f_outcome f_freeNow f_lowest a_body a_lengths a_treeEnd a_accepted a_sig a_sizes a_input a_result a_state a_reached a_forms a_heads a_tails a_freed a_ints a_lists a_frameFn a_framePc g_purse g_bases g_cells g_depth g_entries b_lastRun b_rates b_rest b_known b_base b_head b_tail b_dead b_lists hK hr
  exact nm_e (nm_e (nm_e ⟨rfl, pt_in ⟨rfl, rfl, rfl⟩ hK.1 hK.2.1 hK.2.2.1 hK.2.2.2⟩))
end
section
/-! the lists laid out; the call itself -/
section
variable {f_parts f_most f_functions f_openFn f_lacking f_subject f_wantedRest f_wantedLeft f_formCount f_bestA f_bestB f_bestC f_cells f_depth f_entries f_outcome f_freeNow f_lowest : Int32} {a_body a_lengths a_treeEnd a_accepted a_sig a_sizes a_input a_result a_state a_reached a_forms a_heads a_tails a_freed a_ints a_lists a_frameFn a_framePc : Nat → Int32} {g_purse g_bases g_cells g_supply g_depth g_entries : Int32} {b_lastRun b_rates b_rest b_known b_base b_head b_tail b_dead b_lists : Nat → Int32}
/-- a list is laid out -/
theorem ml_lay {q : Nat} (hq : q < 2) : ∀ (k c t : Nat) (a_heads a_tails a_freed b_head b_tail b_dead : Nat → Int32), k ≤ 8 → t ≤ c → mc_H c a_heads a_tails a_freed b_head b_tail b_dead → mc_cn a_freed c = c → c + k ≤ 16 →
    ∃ (t' : Nat) (hd' tl' fr' yh' yt' yd' : Nat → Int32), t' ≤ c + k ∧ mc_H (c + k) hd' tl' fr' yh' yt' yd' ∧ mc_cn fr' (c + k) = c + k ∧
      (∀ post : Int32 → SX → Prop, post (nI t' - 1) (f_parts, f_most, f_functions, f_openFn, f_lacking, f_subject, f_wantedRest, f_wantedLeft, f_formCount, f_bestA, f_bestB, f_bestC, nI (c + k), f_depth, f_entries, f_outcome, f_freeNow, f_lowest, a_body, a_lengths, a_treeEnd, a_accepted, a_sig, a_sizes, a_input, a_result, a_state, a_reached, a_forms, hd', tl', fr', a_ints, a_lists, a_frameFn, a_framePc) → wX_layOut_11 post (nI q) (k + 1) (nI t - 1) (nI k - 1) f_parts f_most f_functions f_openFn f_lacking f_subject f_wantedRest f_wantedLeft f_formCount f_bestA f_bestB f_bestC (nI c) f_depth f_entries f_outcome f_freeNow f_lowest a_body a_lengths a_treeEnd a_accepted a_sig a_sizes a_input a_result a_state a_reached a_forms a_heads a_tails a_freed a_ints a_lists a_frameFn a_framePc) ∧
      (∀ post : Int32 → SY → Prop, post (nI t') (f_parts, f_most, f_functions, f_lacking, f_openFn, g_purse, g_bases, nI (c + k), g_supply, g_depth, g_entries, a_body, a_lengths, a_sig, a_accepted, a_input, a_result, a_sizes, b_lastRun, b_rates, b_rest, b_known, b_base, yh', yt', yd', a_frameFn, a_framePc, a_ints, b_lists) → wY_laidOut_11 post (nI q) (k + 1) (nI t) (nI k - 1) f_parts f_most f_functions f_lacking f_openFn g_purse g_bases (nI c) g_supply g_depth g_entries a_body a_lengths a_sig a_accepted a_input a_result a_sizes b_lastRun b_rates b_rest b_known b_base b_head b_tail b_dead a_frameFn a_framePc a_ints b_lists) := by
  intro k
  induction k with
  | zero =>
    intro c t a_heads a_tails a_freed b_head b_tail b_dead _ ht hH hcn _
    exact ⟨t, a_heads, a_tails, a_freed, b_head, b_tail, b_dead, ht, hH, hcn, fun post hp => br_t (by decide) hp, fun post hp => br_t (by decide) hp⟩
  | succ k ih =>
    intro c t a_heads a_tails a_freed b_head b_tail b_dead hk ht hH hcn hck
    have hi : nI q * 8 + nI k = nI (q * 8 + k) := by rw [ba_m8, nI_add]
    have vi : vp_in (nI q * 8 + nI k) 16 := by rw [hi]; exact vp_in_nI (by omega) (by omega)
    have ei : a_input (nI q * 8 + nI k).toNatClampNeg = a_input (q * 8 + k) := by rw [hi, nI_clamp (by omega)]
    have vc : vp_in (nI c) 1440 := vp_in_nI (by omega) (by omega)
    have vc1 : vp_in (nI (c + 1)) 1600 := vp_in_nI (by omega) (by omega)
    have cc : (nI c).toNatClampNeg = c := nI_clamp (by omega)
    have cc1 : (nI (c + 1)).toNatClampNeg = c + 1 := nI_clamp (by omega)
    have hH' : mc_H (c + 1) (upd a_heads c (a_input (q * 8 + k))) (upd a_tails c (nI t - 1)) (upd a_freed c 0) (upd b_head (c + 1) (a_input (q * 8 + k))) (upd b_tail (c + 1) (nI t)) (upd b_dead (c + 1) 0) := by
      intro i hi
      rcases Nat.lt_or_ge i c with h' | h'
      · rw [pk_un (by omega), pk_un (by omega), pk_un (by omega), pk_un (by omega), pk_un (by omega), pk_un (by omega)]
        exact hH i h'
      · obtain rfl : i = c := by omega
        rw [pk_us, pk_us, pk_us, pk_us, pk_us, pk_us]
        exact ⟨rfl, rfl, t, ht, rfl, rfl⟩
    have hcn' : mc_cn (upd a_freed c 0) (c + 1) = c + 1 := by
      rw [mc_cn_s (ba_ue rfl), mc_cn_c c (fun i hi => pk_un (by omega)), hcn]
    obtain ⟨t', hd', tl', fr', yh', yt', yd', q1, q2, q3, q4, q5⟩ := ih (c + 1) (c + 1) _ _ _ _ _ _ (by omega) (Nat.le_refl _) hH' hcn' (by omega)
    rw [show c + 1 + k = c + (k + 1) by omega] at q1 q2 q3 q4 q5
    refine ⟨t', hd', tl', fr', yh', yt', yd', q1, q2, q3, fun post hp => ?_, fun post hp => ?_⟩
    · rw [nI_pred]
      refine br_f (nI_pos (by omega)) ⟨vi, ?_⟩
      rw [ei]
      refine And.intro vc (nm_r (e' := upd a_heads c (a_input (q * 8 + k))) (by rw [cc]) ⟨vc, nm_r (e' := upd a_tails c (nI t - 1)) (by rw [cc]) ⟨vc, nm_r (e' := upd a_freed c 0) (by rw [cc, ba_nb0]) (nm_r (nI_1 c) (nm_r (e' := nI k - 1) (Int32.sub_eq_add_neg _ _).symm ?_))⟩⟩)
      have := q4 post hp
      rw [nI_pred] at this
      exact this
    · rw [nI_pred]
      refine br_f (nI_pos (by omega)) ⟨vi, ?_⟩
      rw [ei]
      exact nm_r (nI_1 c) ⟨vc1, nm_r (e' := upd b_head (c + 1) (a_input (q * 8 + k))) (by rw [cc1]) ⟨vc1, nm_r (e' := upd b_tail (c + 1) (nI t)) (by rw [cc1]) ⟨vc1, nm_r (e' := upd b_dead (c + 1) 0) (by rw [cc1, ba_nb0]) (nm_r (e' := nI k - 1) (Int32.sub_eq_add_neg _ _).symm (q5 post hp))⟩⟩⟩
end
theorem mc_Cl_of {fns opn lack : Int32} {body len te : Nat → Int32} {f : Nat} (h : pt_KF fns opn lack body len te) (hf : nI f < fns) (hf4 : f < 4) (ho : ¬ nI f = opn) : ∃ ln, mc_Cl fns body len te f ln := by
  obtain ⟨F, ln, rfl, hF4, hln, hz, hC⟩ := h
  have hfF : f < F := (nI_ltI (by omega) (by omega)).mp hf
  refine ⟨ln, fun g hg => ⟨by omega, nI_lt (by omega) (by omega), (hln g (by omega)).1, ?_⟩⟩
  rcases hC with ⟨_, _, hC⟩ | ⟨g0, L, hF, rfl, _, _, hC⟩
  · exact hC g (by omega)
  · have hne : f ≠ g0 := fun e => ho (by rw [e])
    exact hC g (by omega)
theorem i_vc_run {k : Nat} {u : SX} {v : SY} (I : i_Rel k u v) (hk : k + 5 ≤ 2562) (v1 : Int32) (v2 : Int32) (v3 : Int32) : wpX_run (fun r u' => wpY_run (fun r' v' => r' = r ∧ i_Rel (k + 5) u' v') v v1 v2 v3) u v1 v2 v3 := by
  refine pt_el (fun u v => wpX_run (fun r u' => wpY_run (fun r' v' => r' = r ∧ i_Rel (k + 5) u' v') v v1 v2 v3) u v1 v2 v3) ?_ I
  intro f_parts f_most f_functions f_openFn f_lacking f_subject f_wantedRest f_wantedLeft f_formCount f_bestA f_bestB f_bestC f_cells f_depth f_entries f_outcome f_freeNow f_lowest a_body a_lengths a_treeEnd a_accepted a_sig a_sizes a_input a_result a_state a_reached a_forms a_heads a_tails a_freed a_ints a_lists a_frameFn a_framePc g_purse g_bases g_cells g_supply g_depth g_entries b_lastRun b_rates b_rest b_known b_base b_head b_tail b_dead b_lists hl hP hF hS hZ
  have hR : i_Rel (k + 5) (f_parts, f_most, f_functions, f_openFn, f_lacking, f_subject, f_wantedRest, f_wantedLeft, f_formCount, f_bestA, f_bestB, f_bestC, f_cells, f_depth, f_entries, f_outcome, f_freeNow, f_lowest, a_body, a_lengths, a_treeEnd, a_accepted, a_sig, a_sizes, a_input, a_result, a_state, a_reached, a_forms, a_heads, a_tails, a_freed, a_ints, a_lists, a_frameFn, a_framePc) (f_parts, f_most, f_functions, f_lacking, f_openFn, g_purse, g_bases, g_cells, g_supply, g_depth, g_entries, a_body, a_lengths, a_sig, a_accepted, a_input, a_result, a_sizes, b_lastRun, b_rates, b_rest, b_known, b_base, b_head, b_tail, b_dead, a_frameFn, a_framePc, a_ints, b_lists) := pt_in hl hP hF hS hZ
  obtain ⟨r, hX, hY, h⟩ := pt_st (f_parts := f_parts) (f_most := f_most) (f_functions := f_functions) (f_openFn := f_openFn) (f_lacking := f_lacking) (f_subject := f_subject) (f_wantedRest := f_wantedRest) (f_wantedLeft := f_wantedLeft) (f_formCount := f_formCount) (f_bestA := f_bestA) (f_bestB := f_bestB) (f_bestC := f_bestC) (f_cells := f_cells) (f_depth := f_depth) (f_entries := f_entries) (f_outcome := f_outcome) (f_freeNow := f_freeNow) (f_lowest := f_lowest) (a_body := a_body) (a_lengths := a_lengths) (a_treeEnd := a_treeEnd) (a_accepted := a_accepted) (a_sig := a_sig) (a_sizes := a_sizes) (a_input := a_input) (a_result := a_result) (a_state := a_state) (a_reached := a_reached) (a_forms := a_forms) (a_heads := a_heads) (a_tails := a_tails) (a_freed := a_freed) (a_ints := a_ints) (a_lists := a_lists) (a_frameFn := a_frameFn) (a_framePc := a_framePc) (g_purse := g_purse) (g_bases := g_bases) (g_cells := g_cells) (g_supply := g_supply) (g_depth := g_depth) (g_entries := g_entries) (b_lastRun := b_lastRun) (b_rates := b_rates) (b_rest := b_rest) (b_known := b_known) (b_base := b_base) (b_head := b_head) (b_tail := b_tail) (b_dead := b_dead) (b_lists := b_lists) hF v1
  unfold wpX_run
  refine hX _ ?_
  have hYs : ∀ post : Int32 → SY → Prop, _ → wpY_run post (f_parts, f_most, f_functions, f_lacking, f_openFn, g_purse, g_bases, g_cells, g_supply, g_depth, g_entries, a_body, a_lengths, a_sig, a_accepted, a_input, a_result, a_sizes, b_lastRun, b_rates, b_rest, b_known, b_base, b_head, b_tail, b_dead, a_frameFn, a_framePc, a_ints, b_lists) v1 v2 v3 := fun post z => by
    unfold wpY_run
    exact hY _ z
  rcases h with ⟨rfl, h⟩ | ⟨f, n, rfl, hf, hlt, hn, hn2, h⟩
  · exact br_t rfl (hYs _ (br_t rfl ⟨rfl, hR⟩))
  rcases h with ⟨rfl, _⟩ | ⟨hr, hop, hCF⟩
  · exact br_f (by decide) (br_t rfl (hYs _ (br_f (by decide) (br_t rfl ⟨rfl, hR⟩))))
  have r0 : ¬ r = 0 := by rcases hr with rfl | ⟨rfl, _⟩ <;> decide
  have r1 : ¬ r = 1 := by rcases hr with rfl | ⟨rfl, _⟩ <;> decide
  refine br_f r0 (br_f r1 ?_)
  rcases or_assoc.mpr (ba_w v3 160 (by omega)) with h | ⟨w, hw, rfl⟩
  · exact pt_w0 h (br_t rfl (hYs _ (br_f r0 (br_f r1 (pt_y0 (t := 160) h ⟨rfl, hR⟩)))))
  refine pt_w1 (t := 160) hw (by omega) (br_f (by decide) ?_)
  obtain ⟨s0, s1, s2, z0, l0, z1, l1, z2, l2⟩ := hZ
  have hZ' : pt_KZ (upd a_sizes 2 0) := ⟨s0, s1, 0, z0, l0, z1, l1, rfl, by omega⟩
  obtain ⟨ln, hCl⟩ := mc_Cl_of hF hlt hf hop
  obtain ⟨_, _, _, hCFf⟩ := hCl f (Nat.le_refl _)
  -- the lists
  obtain ⟨t0, hd0, tl0, fr0, yh0, yt0, yd0, q1, q2, q3, q4, q5⟩ := ml_lay (f_parts := f_parts) (f_most := f_most) (f_functions := f_functions) (f_openFn := f_openFn) (f_lacking := f_lacking) (f_subject := f_subject) (f_wantedRest := f_wantedRest) (f_wantedLeft := f_wantedLeft) (f_formCount := f_formCount) (f_bestA := f_bestA) (f_bestB := f_bestB) (f_bestC := f_bestC) (f_depth := 0) (f_entries := 0) (f_outcome := 0) (f_freeNow := nI w) (f_lowest := nI w) (a_body := a_body) (a_lengths := a_lengths) (a_treeEnd := a_treeEnd) (a_accepted := a_accepted) (a_sig := a_sig) (a_sizes := upd a_sizes 2 0) (a_input := a_input) (a_result := a_result) (a_state := a_state) (a_reached := a_reached) (a_forms := a_forms) (a_ints := a_ints) (a_lists := a_lists) (a_frameFn := a_frameFn) (a_framePc := a_framePc) (g_purse := g_purse) (g_bases := g_bases) (g_supply := nI w) (g_depth := 0) (g_entries := 0) (b_lastRun := b_lastRun) (b_rates := b_rates) (b_rest := b_rest) (b_known := b_known) (b_base := b_base) (b_lists := b_lists) (q := 0) (by omega) s0 0 0 a_heads a_tails a_freed b_head b_tail b_dead l0 (by omega) (fun i hi => by omega) rfl (by omega)
  rw [Nat.zero_add] at q1 q2 q3 q4 q5
  obtain ⟨t1, hd1, tl1, fr1, yh1, yt1, yd1, p1, p2, p3, p4, p5⟩ := ml_lay (f_parts := f_parts) (f_most := f_most) (f_functions := f_functions) (f_openFn := f_openFn) (f_lacking := f_lacking) (f_subject := f_subject) (f_wantedRest := f_wantedRest) (f_wantedLeft := f_wantedLeft) (f_formCount := f_formCount) (f_bestA := f_bestA) (f_bestB := f_bestB) (f_bestC := f_bestC) (f_depth := 0) (f_entries := 0) (f_outcome := 0) (f_freeNow := nI w) (f_lowest := nI w) (a_body := a_body) (a_lengths := a_lengths) (a_treeEnd := a_treeEnd) (a_accepted := a_accepted) (a_sig := a_sig) (a_sizes := upd a_sizes 2 0) (a_input := a_input) (a_result := a_result) (a_state := a_state) (a_reached := a_reached) (a_forms := a_forms) (a_ints := a_ints) (a_lists := a_lists) (a_frameFn := a_frameFn) (a_framePc := a_framePc) (g_purse := g_purse) (g_bases := g_bases) (g_supply := nI w) (g_depth := 0) (g_entries := 0) (b_lastRun := b_lastRun) (b_rates := b_rates) (b_rest := b_rest) (b_known := b_known) (b_base := b_base) (b_lists := b_lists) (q := 1) (by omega) s1 s0 0 hd0 tl0 fr0 yh0 yt0 yd0 l1 (by omega) q2 q3 (by omega)
  -- the machine's start
  have hL' : mc_L (s0 + s1) (0 + 1) (en_l a_lists (0 * 4) (nI t0 - 1) (nI t1 - 1) (-1)) (en_l b_lists (0 * 4) (nI t0) (nI t1) 0) := by
    intro j hj
    unfold en_l
    by_cases e1 : j = 0 * 4 + 1
    · exact ⟨t1, p1, ba_ue e1, ba_ue e1⟩
    · rw [pk_un e1, pk_un e1]
      by_cases e0 : j = 0 * 4
      · exact ⟨t0, by omega, ba_ue e0, ba_ue e0⟩
      · rw [pk_un e0, pk_un e0, ba_cpi (by omega) (by omega), ba_cpi (by omega) (by omega)]
        exact ⟨0, by omega, ba_m1, rfl⟩
  have hF' : mc_F ln a_body f (0 + 1) (upd a_frameFn 0 (nI f)) (upd a_framePc 0 (nI 0)) := by
    intro i hi
    obtain rfl : i = 0 := by omega
    exact ⟨f, 0, ba_ue rfl, Nat.le_refl _, ba_ue rfl, hCFf.1, fun z => by omega⟩
  have hStart : mc_Rel 0 0 (nI w) (f_parts, f_most, f_functions, f_openFn, f_lacking, f_subject, f_wantedRest, f_wantedLeft, f_formCount, f_bestA, f_bestB, f_bestC, nI (s0 + s1), nI (0 + 1), nI (0 + 1), 0, nI w, nI w, a_body, a_lengths, a_treeEnd, a_accepted, a_sig, upd a_sizes 2 0, a_input, a_result, a_state, a_reached, a_forms, hd1, tl1, fr1, en_i a_ints (0 * 4) v2, en_l a_lists (0 * 4) (nI t0 - 1) (nI t1 - 1) (-1), upd a_frameFn 0 (nI f), upd a_framePc 0 0) (f_parts, f_most, f_functions, f_lacking, f_openFn, g_purse, g_bases, nI (s0 + s1), nI w, nI (0 + 1), nI (0 + 1), a_body, a_lengths, a_sig, a_accepted, a_input, a_result, upd a_sizes 2 0, b_lastRun, b_rates, b_rest, b_known, b_base, yh1, yt1, yd1, upd a_frameFn 0 (nI f), upd a_framePc 0 0, en_i a_ints (0 * 4) v2, en_l b_lists (0 * 4) (nI t0) (nI t1) 0) :=
    mc_in ⟨hP, hF, hS, hZ'⟩ (fun _ => ⟨f, ln, s0 + s1, 0, 0 + 1, w, w, ⟨rfl, rfl, rfl, rfl, rfl, rfl, rfl, rfl⟩, hCl, ⟨by omega, by omega, by omega, by omega, by omega⟩, p2, hL', hF', rfl⟩)
  obtain ⟨st', o', lo', u', v', hR', hX', hY'⟩ := mc_loop 1536 0 0 (nI w) _ _ (by omega) hStart
  dsimp only [mx_run] at hX'
  dsimp only [my_run] at hY'
  have c0 : (0 : Int32).toNatClampNeg = 0 := nI_clamp (n := 0) (by omega)
  have c1 : (1 : Int32).toNatClampNeg = 1 := nI_clamp (n := 1) (by omega)
  have v30 : vp_in (0 : Int32) 3 := vp_in_nI (n := 0) (by omega) (by omega)
  have v31 : vp_in (1 : Int32) 3 := vp_in_nI (n := 1) (by omega) (by omega)
  have ez0 : upd a_sizes 2 0 (0 : Int32).toNatClampNeg - 1 = nI s0 - 1 := by rw [c0, pk_un (by omega), z0]
  have ez1 : upd a_sizes 2 0 (1 : Int32).toNatClampNeg - 1 = nI s1 - 1 := by rw [c1, pk_un (by omega), z1]
  refine nm_e ?_
  refine And.intro v30 (nm_r ez0 ⟨s0 + 1, q4 _ ?_⟩)
  refine And.intro v31 (nm_r ez1 ⟨s1 + 1, p4 _ ?_⟩)
  refine mc_xen (d := 0) (e := 0) (by omega) (by omega) rfl rfl ⟨1536 + 1, hX' _ ?_⟩
  refine hYs _ (br_f r0 (br_f r1 (pt_y1 (t := 160) hw (by omega) (nm_e ?_))))
  refine And.intro v30 (nm_r ez0 ⟨s0 + 1, q5 _ ?_⟩)
  refine And.intro v31 (nm_r ez1 ⟨s1 + 1, p5 _ ?_⟩)
  exact mc_yen (d := 0) (e := 0) (by omega) (by omega) rfl rfl ⟨1536 + 1, hY' _ (mc_fin hR')⟩
end
