section
/-! pure rows to paste: stores, nI and lN arithmetic, masks, shifts, narrowing, branches by naturals (pk_le, pk_lt, pk_eq), loops (lp1 .. lp16: the measure of the state; rp1 ..: recursion), negatives. Take what you need -/
theorem pk_us {f : Nat → Int32} {k : Nat} {x : Int32} : upd f k x k = x := if_pos rfl
theorem pk_un {f : Nat → Int32} {k j : Nat} {x : Int32} (h : j ≠ k) : upd f k x j = f j := if_neg h
theorem pk_uLs {f : Nat → Int64} {k : Nat} {x : Int64} : vp_updL f k x k = x := if_pos rfl
theorem pk_uLn {f : Nat → Int64} {k j : Nat} {x : Int64} (h : j ≠ k) : vp_updL f k x j = f j := if_neg h
theorem pk_sub {a b : Nat} (h : b ≤ a) : nI a - nI b = nI (a - b) := by
  obtain ⟨c, rfl⟩ : ∃ c, a = c + b := ⟨a - b, by omega⟩
  rw [← nI_add, Int32.add_sub_cancel, Nat.add_sub_cancel]
theorem pk_m1 (n : Nat) : nI (n + 1) + (-1) = nI n := by
  rw [← nI_1, Int32.add_assoc, show (1 : Int32) + (-1) = 0 from rfl, Int32.add_zero]
theorem pk_mul (a b : Nat) : nI a * nI b = nI (a * b) := (Int32.ofNat_mul a b).symm
theorem pk_div {a d : Nat} (ha : a < 2 ^ 31) (h0 : 0 < d) (hd : d < 2 ^ 31) : nI a / nI d = nI (a / d) := by
  apply Int32.toInt_inj.mp
  rw [lg_idiv_nonneg (by rw [nI_toInt ha]; omega) (by rw [nI_toInt hd]; omega), nI_toInt ha, nI_toInt hd, nI_toInt (Nat.lt_of_le_of_lt (Nat.div_le_self a d) ha)]
  first | rfl | exact (Int.natCast_ediv _ _).symm
theorem pk_rem {a d : Nat} (ha : a < 2 ^ 31) (h0 : 0 < d) (hd : d < 2 ^ 31) : nI a - nI a / nI d * nI d = nI (a % d) := by
  rw [pk_div ha h0 hd, pk_mul, pk_sub (Nat.div_mul_le_self a d)]
  exact congrArg nI (by have := Nat.div_add_mod' a d; omega)
theorem pk_sub_toInt {a b : Nat} (ha : a < 2 ^ 30) (hb : b < 2 ^ 30) : (nI a - nI b).toInt = (a : Int) - b := by
  rw [Int32.toInt_sub, nI_toInt (by omega), nI_toInt (by omega)]
  exact Int.bmod_eq_of_le (by omega) (by omega)
theorem pk_sneg {a b : Nat} (hb : b < 2 ^ 30) (h : a < b) : nI a - nI b < 0 := by
  rw [Int32.lt_iff_toInt_lt, pk_sub_toInt (by omega) hb, show (0 : Int32).toInt = 0 from by decide]
  omega
theorem pk_ix (x : Int32) {n : Nat} (hn : n < 2 ^ 31) : x < 0 ∨ nI n ≤ x ∨ ∃ j : Nat, j < n ∧ x = nI j := by
  by_cases h : x < 0
  · exact Or.inl h
  · obtain ⟨j, hj, rfl⟩ := nI_of h
    by_cases h2 : j < n
    · exact Or.inr (Or.inr ⟨j, h2, rfl⟩)
    · exact Or.inr (Or.inl (nI_le (by omega) hj))
theorem pk_le {x y : Int32} {A B : Prop} (a b : Nat) (f : a ≤ b → A) (g : b < a → B) (hx : x = nI a := by rfl) (hy : y = nI b := by rfl) (ha : a < 2 ^ 31 := by omega) (hb : b < 2 ^ 31 := by omega) : (x ≤ y → A) ∧ (¬ x ≤ y → B) := by
  subst hx hy
  rw [nI_leI ha hb]
  exact ⟨f, fun z => g (by omega)⟩
theorem pk_lt {x y : Int32} {A B : Prop} (a b : Nat) (f : a < b → A) (g : b ≤ a → B) (hx : x = nI a := by rfl) (hy : y = nI b := by rfl) (ha : a < 2 ^ 31 := by omega) (hb : b < 2 ^ 31 := by omega) : (x < y → A) ∧ (¬ x < y → B) := by
  subst hx hy
  rw [nI_ltI ha hb]
  exact ⟨f, fun z => g (by omega)⟩
theorem pk_eq {x y : Int32} {A B : Prop} (a b : Nat) (f : a = b → A) (g : a ≠ b → B) (hx : x = nI a := by rfl) (hy : y = nI b := by rfl) (ha : a < 2 ^ 31 := by omega) (hb : b < 2 ^ 31 := by omega) : (x = y → A) ∧ (¬ x = y → B) := by
  subst hx hy
  rw [nI_eq ha hb]
  exact ⟨f, g⟩
theorem pk_in {x : Int32} (n N : Nat) (h : n < N) (hx : x = nI n := by rfl) (hN : N < 2 ^ 31 := by omega) : vp_in x N := by
  subst hx
  exact vp_in_nI h hN
theorem pk_cl {x : Int32} (n : Nat) (hx : x = nI n := by rfl) (h : n < 2 ^ 31 := by omega) : x.toNatClampNeg = n := by
  subst hx
  exact nI_clamp h
theorem pk_tn {n : Nat} (h : n < 2 ^ 32) : (nI n).toBitVec.toNat = n := Nat.mod_eq_of_lt h
theorem pk_and (x : Int32) {m : Int32} (k : Nat) (hm : m.toBitVec.toNat = 2 ^ k - 1) : x &&& m = nI (x.toBitVec.toNat % 2 ^ k) := by
  apply Int32.toBitVec_inj.mp
  apply BitVec.eq_of_toNat_eq
  rw [Int32.toBitVec_and, BitVec.toNat_and, hm, Nat.and_two_pow_sub_one_eq_mod]
  show _ = (BitVec.ofNat 32 _).toNat
  rw [BitVec.toNat_ofNat]
  exact (Nat.mod_eq_of_lt (Nat.lt_of_le_of_lt (Nat.mod_le _ _) x.toBitVec.isLt)).symm
theorem pk_andN {n : Nat} (h : n < 2 ^ 32) {m : Int32} (k : Nat) (hm : m.toBitVec.toNat = 2 ^ k - 1) : nI n &&& m = nI (n % 2 ^ k) := by
  rw [pk_and _ k hm, pk_tn h]
theorem pk_andE (x : Int32) {m : Int32} (k : Nat) (hm : m.toBitVec.toNat = 2 ^ k - 1) : ∃ j : Nat, j < 2 ^ k ∧ x &&& m = nI j := ⟨_, Nat.mod_lt _ (Nat.two_pow_pos k), pk_and x k hm⟩
theorem pk_andIn (x : Int32) {m : Int32} (k : Nat) (hm : m.toBitVec.toNat = 2 ^ k - 1) (hk : k ≤ 30) : vp_in (x &&& m) (2 ^ k) := by
  obtain ⟨j, hj, e⟩ := pk_andE x k hm
  rw [e]
  exact vp_in_nI hj (Nat.lt_of_le_of_lt (Nat.pow_le_pow_right (by decide) hk) (by decide))
theorem pk_shl (a s : Int32) (k : Nat) (hs : (s.toBitVec.smod 32).toNat = k) : (a <<< s).toBitVec.toNat = a.toBitVec.toNat * 2 ^ k % 2 ^ 32 := by
  show (a.toBitVec <<< (s.toBitVec.smod 32).toNat).toNat = _
  rw [hs, BitVec.toNat_shiftLeft, Nat.shiftLeft_eq]
theorem pk_shlN {n : Nat} (s : Int32) (k : Nat) (hs : (s.toBitVec.smod 32).toNat = k) (h : n * 2 ^ k < 2 ^ 32) : nI n <<< s = nI (n * 2 ^ k) := by
  apply Int32.toBitVec_inj.mp
  apply BitVec.eq_of_toNat_eq
  have hn : n < 2 ^ 32 := Nat.lt_of_le_of_lt (Nat.le_mul_of_pos_right n (Nat.two_pow_pos k)) h
  rw [pk_shl _ _ k hs, pk_tn hn, pk_tn h, Nat.mod_eq_of_lt h]
theorem pk_shr (a s : Int32) (k : Nat) (hs : (s.toBitVec.smod 32).toNat = k) : (a >>> s).toInt = a.toInt >>> k := by
  show (a.toBitVec.sshiftRight (s.toBitVec.smod 32).toNat).toInt = _
  rw [hs, BitVec.toInt_sshiftRight]
  rfl
theorem pk_shrN {n : Nat} (h : n < 2 ^ 31) (s : Int32) (k : Nat) (hs : (s.toBitVec.smod 32).toNat = k) : nI n >>> s = nI (n / 2 ^ k) := by
  apply Int32.toInt_inj.mp
  have h2 : n / 2 ^ k ≤ n := Nat.div_le_self _ _
  rw [pk_shr _ _ k hs, nI_toInt h, nI_toInt (by omega), Int.shiftRight_eq_div_pow]
  rfl
theorem pk_ushr (x s : Int32) (k : Nat) (hs : ((s.toUInt32 &&& Int32.toUInt32 31).toBitVec % 32).toNat = k) : (x.toUInt32 >>> (s.toUInt32 &&& Int32.toUInt32 31)).toInt32.toBitVec.toNat = x.toBitVec.toNat / 2 ^ k := by
  have e : (x.toUInt32 >>> (s.toUInt32 &&& Int32.toUInt32 31)).toInt32.toBitVec = x.toBitVec >>> k := by
    rw [← hs]
    exact UInt32.toBitVec_shiftRight _ _
  rw [e, BitVec.toNat_ushiftRight, Nat.shiftRight_eq_div_pow]
theorem pk_ushrN {n : Nat} (hn : n < 2 ^ 32) (s : Int32) (k : Nat) (hs : ((s.toUInt32 &&& Int32.toUInt32 31).toBitVec % 32).toNat = k) : ((nI n).toUInt32 >>> (s.toUInt32 &&& Int32.toUInt32 31)).toInt32 = nI (n / 2 ^ k) := by
  apply Int32.toBitVec_inj.mp
  apply BitVec.eq_of_toNat_eq
  rw [pk_ushr _ s k hs, pk_tn hn, pk_tn (Nat.lt_of_le_of_lt (Nat.div_le_self _ _) hn)]
theorem pk_nb (z : Int32) : narrow .byte (.int z.toInt8.toInt32) = .int z.toInt8.toInt32 := congrArg Value.int (by simp)
theorem pk_ns (z : Int32) : narrow .short (.int z.toInt16.toInt32) = .int z.toInt16.toInt32 := congrArg Value.int (by simp)
theorem pk_fb (r : Int32) : fits .byte (.int r.toInt8.toInt32) = true := by
  have ⟨a, b⟩ := lg_i2b_range r
  have h1 : (-128 : Int32).toInt = -128 := by decide
  have h2 : (127 : Int32).toInt = 127 := by decide
  simp only [fits, Bool.and_eq_true, decide_eq_true_eq, Int32.le_iff_toInt_le, h1, h2]
  omega
theorem pk_fs (r : Int32) : fits .short (.int r.toInt16.toInt32) = true := by
  have ⟨a, b⟩ := lg_i2s_range r
  have h1 : (-32768 : Int32).toInt = -32768 := by decide
  have h2 : (32767 : Int32).toInt = 32767 := by decide
  simp only [fits, Bool.and_eq_true, decide_eq_true_eq, Int32.le_iff_toInt_le, h1, h2]
  omega
theorem pk_charN {q : Nat} (hq : q < 65536) : narrow .char (.int (nI q)) = .int (nI q) ∧ fits .char (.int (nI q)) = true := by
  constructor
  · have e : (nI q).toUInt32.toUInt16.toUInt32.toInt32 = nI q := by
      apply Int32.toBitVec_inj.mp
      apply BitVec.eq_of_toNat_eq
      show (nI q).toUInt32.toUInt16.toUInt32.toNat = q % 2 ^ 32
      rw [UInt16.toNat_toUInt32, UInt32.toNat_toUInt16, show (nI q).toUInt32.toNat = q % 2 ^ 32 from rfl]
      omega
    exact congrArg Value.int e
  · have a : (0 : Int32) ≤ nI q := nI_pos' (by omega)
    have b : nI q ≤ 65535 := nI_le (b := 65535) (by omega) (by decide)
    show (decide ((0 : Int32) ≤ nI q) && decide (nI q ≤ 65535)) = true
    rw [decide_eq_true a, decide_eq_true b]
    rfl
theorem pk_char (x : Int32) : (x.toUInt32 % 65536).toInt32 = nI (x.toBitVec.toNat % 65536) := by
  apply Int32.toBitVec_inj.mp
  apply BitVec.eq_of_toNat_eq
  rw [pk_tn (by omega)]
  show (x.toUInt32 % 65536).toNat = _
  rw [UInt32.toNat_mod]
  rfl
theorem pk_nc (x : Int32) : narrow .char (.int (x.toUInt32 % 65536).toInt32) = .int (x.toUInt32 % 65536).toInt32 := by
  rw [pk_char]
  exact (pk_charN (Nat.mod_lt _ (by decide))).1
theorem pk_fc (x : Int32) : fits .char (.int (x.toUInt32 % 65536).toInt32) = true := by
  rw [pk_char]
  exact (pk_charN (Nat.mod_lt _ (by decide))).2
theorem pk_vb (z : Int32) : vp_nar .byte z.toInt8.toInt32 = z.toInt8.toInt32 := by rw [vp_nar_byte]; simp
theorem pk_vs (z : Int32) : vp_nar .short z.toInt16.toInt32 = z.toInt16.toInt32 := by rw [vp_nar_short]; simp
theorem pk_vc (z : Int32) : vp_nar .char (z.toUInt32 % 65536).toInt32 = (z.toUInt32 % 65536).toInt32 := Value.int.inj (pk_nc z)
theorem pk_lT {n : Nat} (h : n < 2 ^ 63) : (lN n).toInt = (n : Int) := lg_ofNat_toInt h
theorem pk_lLT {a b : Nat} (ha : a < 2 ^ 63) (hb : b < 2 ^ 63) : lN a < lN b ↔ a < b := by
  rw [Int64.lt_iff_toInt_lt, pk_lT ha, pk_lT hb]; omega
theorem pk_lLE {a b : Nat} (ha : a < 2 ^ 63) (hb : b < 2 ^ 63) : lN a ≤ lN b ↔ a ≤ b := by
  rw [Int64.le_iff_toInt_le, pk_lT ha, pk_lT hb]; omega
theorem pk_lEQ {a b : Nat} (ha : a < 2 ^ 63) (hb : b < 2 ^ 63) : lN a = lN b ↔ a = b := by
  rw [← Int64.toInt_inj, pk_lT ha, pk_lT hb]; omega
theorem pk_lOf {x : Int64} (h : ¬ x < 0) : ∃ k : Nat, k < 2 ^ 63 ∧ x = lN k := by
  rw [Int64.lt_iff_toInt_lt] at h
  have h0 : (0 : Int64).toInt = 0 := by decide
  have hx := Int64.toInt_lt x
  refine ⟨x.toInt.toNat, by omega, Int64.toInt_inj.mp ?_⟩
  rw [pk_lT (by omega)]
  omega
theorem pk_lDiv {a b : Nat} (ha : a < 2 ^ 63) (h0 : 0 < b) (hb : b < 2 ^ 63) : lN a / lN b = lN (a / b) := by
  apply Int64.toInt_inj.mp
  rw [lg_ldiv_nonneg (by rw [pk_lT ha]; omega) (by rw [pk_lT hb]; omega), pk_lT ha, pk_lT hb, pk_lT (Nat.lt_of_le_of_lt (Nat.div_le_self a b) ha)]
  rfl
theorem pk_lRem {a b : Nat} (ha : a < 2 ^ 63) (h0 : 0 < b) (hb : b < 2 ^ 63) : lN a - lN a / lN b * lN b = lN (a % b) := by
  rw [pk_lDiv ha h0 hb, lN_mul, lN_sub (Nat.div_mul_le_self a b)]
  exact congrArg lN (by have := Nat.div_add_mod' a b; omega)
theorem pk_loop {σ : Type} (W : Nat → Nat → σ → Prop) (I : Nat → σ → Prop) (e i0 : Nat) (s : σ) (hi : i0 ≤ e) (h0 : I i0 s) (hx : ∀ n s, I e s → W (n + 1) e s)
    (hs : ∀ n i s, i < e → I i s → (∀ s', I (i + 1) s' → W n (i + 1) s') → W (n + 1) i s) : ∃ n, W n i0 s :=
  ⟨e + 1, loop_i W I e hx hs (e + 1) i0 s hi (by omega) h0⟩
theorem pk_loopD {σ : Type} (W : Nat → Nat → σ → Prop) (I : Nat → σ → Prop) (hx : ∀ n s, I 0 s → W (n + 1) 0 s)
    (hs : ∀ n i s, I (i + 1) s → (∀ s', I i s' → W n i s') → W (n + 1) (i + 1) s) : ∀ (e : Nat) (s : σ), I e s → W (e + 1) e s := by
  intro e
  induction e with
  | zero => exact fun s h => hx 0 s h
  | succ e ih => exact fun s h => hs (e + 1) e s h (fun s' h' => ih s' h')
theorem lp1 {A1 : Type} (W : Nat → A1 → Prop) (I : A1 → Prop) (μ : A1 → Nat) (hs : ∀ (n : Nat) (a1 : A1), I a1 → (∀ (b1 : A1), I b1 → μ b1 < μ a1 → W n b1) → W (n + 1) a1) (a1 : A1) (h : I a1) : ∃ n, W n a1 :=
  loop_m (σ := A1) (fun n s => W n s) (fun s => I s) (fun s => μ s) (fun n s hI hk => hs n s hI (fun b1 h9 hm => hk b1 h9 hm)) a1 h
theorem lp2 {A1 A2 : Type} (W : Nat → A1 → A2 → Prop) (I : A1 → A2 → Prop) (μ : A1 → A2 → Nat) (hs : ∀ (n : Nat) (a1 : A1) (a2 : A2), I a1 a2 → (∀ (b1 : A1) (b2 : A2), I b1 b2 → μ b1 b2 < μ a1 a2 → W n b1 b2) → W (n + 1) a1 a2) (a1 : A1) (a2 : A2) (h : I a1 a2) : ∃ n, W n a1 a2 :=
  loop_m (σ := A1 × A2) (fun n s => W n s.1 s.2) (fun s => I s.1 s.2) (fun s => μ s.1 s.2) (fun n s hI hk => hs n s.1 s.2 hI (fun b1 b2 h9 hm => hk (b1, b2) h9 hm)) (a1, a2) h
theorem lp3 {A1 A2 A3 : Type} (W : Nat → A1 → A2 → A3 → Prop) (I : A1 → A2 → A3 → Prop) (μ : A1 → A2 → A3 → Nat) (hs : ∀ (n : Nat) (a1 : A1) (a2 : A2) (a3 : A3), I a1 a2 a3 → (∀ (b1 : A1) (b2 : A2) (b3 : A3), I b1 b2 b3 → μ b1 b2 b3 < μ a1 a2 a3 → W n b1 b2 b3) → W (n + 1) a1 a2 a3) (a1 : A1) (a2 : A2) (a3 : A3) (h : I a1 a2 a3) : ∃ n, W n a1 a2 a3 :=
  loop_m (σ := A1 × A2 × A3) (fun n s => W n s.1 s.2.1 s.2.2) (fun s => I s.1 s.2.1 s.2.2) (fun s => μ s.1 s.2.1 s.2.2) (fun n s hI hk => hs n s.1 s.2.1 s.2.2 hI (fun b1 b2 b3 h9 hm => hk (b1, b2, b3) h9 hm)) (a1, a2, a3) h
theorem lp4 {A1 A2 A3 A4 : Type} (W : Nat → A1 → A2 → A3 → A4 → Prop) (I : A1 → A2 → A3 → A4 → Prop) (μ : A1 → A2 → A3 → A4 → Nat) (hs : ∀ (n : Nat) (a1 : A1) (a2 : A2) (a3 : A3) (a4 : A4), I a1 a2 a3 a4 → (∀ (b1 : A1) (b2 : A2) (b3 : A3) (b4 : A4), I b1 b2 b3 b4 → μ b1 b2 b3 b4 < μ a1 a2 a3 a4 → W n b1 b2 b3 b4) → W (n + 1) a1 a2 a3 a4) (a1 : A1) (a2 : A2) (a3 : A3) (a4 : A4) (h : I a1 a2 a3 a4) : ∃ n, W n a1 a2 a3 a4 :=
  loop_m (σ := A1 × A2 × A3 × A4) (fun n s => W n s.1 s.2.1 s.2.2.1 s.2.2.2) (fun s => I s.1 s.2.1 s.2.2.1 s.2.2.2) (fun s => μ s.1 s.2.1 s.2.2.1 s.2.2.2) (fun n s hI hk => hs n s.1 s.2.1 s.2.2.1 s.2.2.2 hI (fun b1 b2 b3 b4 h9 hm => hk (b1, b2, b3, b4) h9 hm)) (a1, a2, a3, a4) h
theorem lp5 {A1 A2 A3 A4 A5 : Type} (W : Nat → A1 → A2 → A3 → A4 → A5 → Prop) (I : A1 → A2 → A3 → A4 → A5 → Prop) (μ : A1 → A2 → A3 → A4 → A5 → Nat) (hs : ∀ (n : Nat) (a1 : A1) (a2 : A2) (a3 : A3) (a4 : A4) (a5 : A5), I a1 a2 a3 a4 a5 → (∀ (b1 : A1) (b2 : A2) (b3 : A3) (b4 : A4) (b5 : A5), I b1 b2 b3 b4 b5 → μ b1 b2 b3 b4 b5 < μ a1 a2 a3 a4 a5 → W n b1 b2 b3 b4 b5) → W (n + 1) a1 a2 a3 a4 a5) (a1 : A1) (a2 : A2) (a3 : A3) (a4 : A4) (a5 : A5) (h : I a1 a2 a3 a4 a5) : ∃ n, W n a1 a2 a3 a4 a5 :=
  loop_m (σ := A1 × A2 × A3 × A4 × A5) (fun n s => W n s.1 s.2.1 s.2.2.1 s.2.2.2.1 s.2.2.2.2) (fun s => I s.1 s.2.1 s.2.2.1 s.2.2.2.1 s.2.2.2.2) (fun s => μ s.1 s.2.1 s.2.2.1 s.2.2.2.1 s.2.2.2.2) (fun n s hI hk => hs n s.1 s.2.1 s.2.2.1 s.2.2.2.1 s.2.2.2.2 hI (fun b1 b2 b3 b4 b5 h9 hm => hk (b1, b2, b3, b4, b5) h9 hm)) (a1, a2, a3, a4, a5) h
theorem lp6 {A1 A2 A3 A4 A5 A6 : Type} (W : Nat → A1 → A2 → A3 → A4 → A5 → A6 → Prop) (I : A1 → A2 → A3 → A4 → A5 → A6 → Prop) (μ : A1 → A2 → A3 → A4 → A5 → A6 → Nat) (hs : ∀ (n : Nat) (a1 : A1) (a2 : A2) (a3 : A3) (a4 : A4) (a5 : A5) (a6 : A6), I a1 a2 a3 a4 a5 a6 → (∀ (b1 : A1) (b2 : A2) (b3 : A3) (b4 : A4) (b5 : A5) (b6 : A6), I b1 b2 b3 b4 b5 b6 → μ b1 b2 b3 b4 b5 b6 < μ a1 a2 a3 a4 a5 a6 → W n b1 b2 b3 b4 b5 b6) → W (n + 1) a1 a2 a3 a4 a5 a6) (a1 : A1) (a2 : A2) (a3 : A3) (a4 : A4) (a5 : A5) (a6 : A6) (h : I a1 a2 a3 a4 a5 a6) : ∃ n, W n a1 a2 a3 a4 a5 a6 :=
  loop_m (σ := A1 × A2 × A3 × A4 × A5 × A6) (fun n s => W n s.1 s.2.1 s.2.2.1 s.2.2.2.1 s.2.2.2.2.1 s.2.2.2.2.2) (fun s => I s.1 s.2.1 s.2.2.1 s.2.2.2.1 s.2.2.2.2.1 s.2.2.2.2.2) (fun s => μ s.1 s.2.1 s.2.2.1 s.2.2.2.1 s.2.2.2.2.1 s.2.2.2.2.2) (fun n s hI hk => hs n s.1 s.2.1 s.2.2.1 s.2.2.2.1 s.2.2.2.2.1 s.2.2.2.2.2 hI (fun b1 b2 b3 b4 b5 b6 h9 hm => hk (b1, b2, b3, b4, b5, b6) h9 hm)) (a1, a2, a3, a4, a5, a6) h
theorem lp7 {A1 A2 A3 A4 A5 A6 A7 : Type} (W : Nat → A1 → A2 → A3 → A4 → A5 → A6 → A7 → Prop) (I : A1 → A2 → A3 → A4 → A5 → A6 → A7 → Prop) (μ : A1 → A2 → A3 → A4 → A5 → A6 → A7 → Nat) (hs : ∀ (n : Nat) (a1 : A1) (a2 : A2) (a3 : A3) (a4 : A4) (a5 : A5) (a6 : A6) (a7 : A7), I a1 a2 a3 a4 a5 a6 a7 → (∀ (b1 : A1) (b2 : A2) (b3 : A3) (b4 : A4) (b5 : A5) (b6 : A6) (b7 : A7), I b1 b2 b3 b4 b5 b6 b7 → μ b1 b2 b3 b4 b5 b6 b7 < μ a1 a2 a3 a4 a5 a6 a7 → W n b1 b2 b3 b4 b5 b6 b7) → W (n + 1) a1 a2 a3 a4 a5 a6 a7) (a1 : A1) (a2 : A2) (a3 : A3) (a4 : A4) (a5 : A5) (a6 : A6) (a7 : A7) (h : I a1 a2 a3 a4 a5 a6 a7) : ∃ n, W n a1 a2 a3 a4 a5 a6 a7 :=
  loop_m (σ := A1 × A2 × A3 × A4 × A5 × A6 × A7) (fun n s => W n s.1 s.2.1 s.2.2.1 s.2.2.2.1 s.2.2.2.2.1 s.2.2.2.2.2.1 s.2.2.2.2.2.2) (fun s => I s.1 s.2.1 s.2.2.1 s.2.2.2.1 s.2.2.2.2.1 s.2.2.2.2.2.1 s.2.2.2.2.2.2) (fun s => μ s.1 s.2.1 s.2.2.1 s.2.2.2.1 s.2.2.2.2.1 s.2.2.2.2.2.1 s.2.2.2.2.2.2) (fun n s hI hk => hs n s.1 s.2.1 s.2.2.1 s.2.2.2.1 s.2.2.2.2.1 s.2.2.2.2.2.1 s.2.2.2.2.2.2 hI (fun b1 b2 b3 b4 b5 b6 b7 h9 hm => hk (b1, b2, b3, b4, b5, b6, b7) h9 hm)) (a1, a2, a3, a4, a5, a6, a7) h
theorem lp8 {A1 A2 A3 A4 A5 A6 A7 A8 : Type} (W : Nat → A1 → A2 → A3 → A4 → A5 → A6 → A7 → A8 → Prop) (I : A1 → A2 → A3 → A4 → A5 → A6 → A7 → A8 → Prop) (μ : A1 → A2 → A3 → A4 → A5 → A6 → A7 → A8 → Nat) (hs : ∀ (n : Nat) (a1 : A1) (a2 : A2) (a3 : A3) (a4 : A4) (a5 : A5) (a6 : A6) (a7 : A7) (a8 : A8), I a1 a2 a3 a4 a5 a6 a7 a8 → (∀ (b1 : A1) (b2 : A2) (b3 : A3) (b4 : A4) (b5 : A5) (b6 : A6) (b7 : A7) (b8 : A8), I b1 b2 b3 b4 b5 b6 b7 b8 → μ b1 b2 b3 b4 b5 b6 b7 b8 < μ a1 a2 a3 a4 a5 a6 a7 a8 → W n b1 b2 b3 b4 b5 b6 b7 b8) → W (n + 1) a1 a2 a3 a4 a5 a6 a7 a8) (a1 : A1) (a2 : A2) (a3 : A3) (a4 : A4) (a5 : A5) (a6 : A6) (a7 : A7) (a8 : A8) (h : I a1 a2 a3 a4 a5 a6 a7 a8) : ∃ n, W n a1 a2 a3 a4 a5 a6 a7 a8 :=
  loop_m (σ := A1 × A2 × A3 × A4 × A5 × A6 × A7 × A8) (fun n s => W n s.1 s.2.1 s.2.2.1 s.2.2.2.1 s.2.2.2.2.1 s.2.2.2.2.2.1 s.2.2.2.2.2.2.1 s.2.2.2.2.2.2.2) (fun s => I s.1 s.2.1 s.2.2.1 s.2.2.2.1 s.2.2.2.2.1 s.2.2.2.2.2.1 s.2.2.2.2.2.2.1 s.2.2.2.2.2.2.2) (fun s => μ s.1 s.2.1 s.2.2.1 s.2.2.2.1 s.2.2.2.2.1 s.2.2.2.2.2.1 s.2.2.2.2.2.2.1 s.2.2.2.2.2.2.2) (fun n s hI hk => hs n s.1 s.2.1 s.2.2.1 s.2.2.2.1 s.2.2.2.2.1 s.2.2.2.2.2.1 s.2.2.2.2.2.2.1 s.2.2.2.2.2.2.2 hI (fun b1 b2 b3 b4 b5 b6 b7 b8 h9 hm => hk (b1, b2, b3, b4, b5, b6, b7, b8) h9 hm)) (a1, a2, a3, a4, a5, a6, a7, a8) h
theorem lp9 {A1 A2 A3 A4 A5 A6 A7 A8 A9 : Type} (W : Nat → A1 → A2 → A3 → A4 → A5 → A6 → A7 → A8 → A9 → Prop) (I : A1 → A2 → A3 → A4 → A5 → A6 → A7 → A8 → A9 → Prop) (μ : A1 → A2 → A3 → A4 → A5 → A6 → A7 → A8 → A9 → Nat) (hs : ∀ (n : Nat) (a1 : A1) (a2 : A2) (a3 : A3) (a4 : A4) (a5 : A5) (a6 : A6) (a7 : A7) (a8 : A8) (a9 : A9), I a1 a2 a3 a4 a5 a6 a7 a8 a9 → (∀ (b1 : A1) (b2 : A2) (b3 : A3) (b4 : A4) (b5 : A5) (b6 : A6) (b7 : A7) (b8 : A8) (b9 : A9), I b1 b2 b3 b4 b5 b6 b7 b8 b9 → μ b1 b2 b3 b4 b5 b6 b7 b8 b9 < μ a1 a2 a3 a4 a5 a6 a7 a8 a9 → W n b1 b2 b3 b4 b5 b6 b7 b8 b9) → W (n + 1) a1 a2 a3 a4 a5 a6 a7 a8 a9) (a1 : A1) (a2 : A2) (a3 : A3) (a4 : A4) (a5 : A5) (a6 : A6) (a7 : A7) (a8 : A8) (a9 : A9) (h : I a1 a2 a3 a4 a5 a6 a7 a8 a9) : ∃ n, W n a1 a2 a3 a4 a5 a6 a7 a8 a9 :=
  loop_m (σ := A1 × A2 × A3 × A4 × A5 × A6 × A7 × A8 × A9) (fun n s => W n s.1 s.2.1 s.2.2.1 s.2.2.2.1 s.2.2.2.2.1 s.2.2.2.2.2.1 s.2.2.2.2.2.2.1 s.2.2.2.2.2.2.2.1 s.2.2.2.2.2.2.2.2) (fun s => I s.1 s.2.1 s.2.2.1 s.2.2.2.1 s.2.2.2.2.1 s.2.2.2.2.2.1 s.2.2.2.2.2.2.1 s.2.2.2.2.2.2.2.1 s.2.2.2.2.2.2.2.2) (fun s => μ s.1 s.2.1 s.2.2.1 s.2.2.2.1 s.2.2.2.2.1 s.2.2.2.2.2.1 s.2.2.2.2.2.2.1 s.2.2.2.2.2.2.2.1 s.2.2.2.2.2.2.2.2) (fun n s hI hk => hs n s.1 s.2.1 s.2.2.1 s.2.2.2.1 s.2.2.2.2.1 s.2.2.2.2.2.1 s.2.2.2.2.2.2.1 s.2.2.2.2.2.2.2.1 s.2.2.2.2.2.2.2.2 hI (fun b1 b2 b3 b4 b5 b6 b7 b8 b9 h9 hm => hk (b1, b2, b3, b4, b5, b6, b7, b8, b9) h9 hm)) (a1, a2, a3, a4, a5, a6, a7, a8, a9) h
theorem lp10 {A1 A2 A3 A4 A5 A6 A7 A8 A9 A10 : Type} (W : Nat → A1 → A2 → A3 → A4 → A5 → A6 → A7 → A8 → A9 → A10 → Prop) (I : A1 → A2 → A3 → A4 → A5 → A6 → A7 → A8 → A9 → A10 → Prop) (μ : A1 → A2 → A3 → A4 → A5 → A6 → A7 → A8 → A9 → A10 → Nat) (hs : ∀ (n : Nat) (a1 : A1) (a2 : A2) (a3 : A3) (a4 : A4) (a5 : A5) (a6 : A6) (a7 : A7) (a8 : A8) (a9 : A9) (a10 : A10), I a1 a2 a3 a4 a5 a6 a7 a8 a9 a10 → (∀ (b1 : A1) (b2 : A2) (b3 : A3) (b4 : A4) (b5 : A5) (b6 : A6) (b7 : A7) (b8 : A8) (b9 : A9) (b10 : A10), I b1 b2 b3 b4 b5 b6 b7 b8 b9 b10 → μ b1 b2 b3 b4 b5 b6 b7 b8 b9 b10 < μ a1 a2 a3 a4 a5 a6 a7 a8 a9 a10 → W n b1 b2 b3 b4 b5 b6 b7 b8 b9 b10) → W (n + 1) a1 a2 a3 a4 a5 a6 a7 a8 a9 a10) (a1 : A1) (a2 : A2) (a3 : A3) (a4 : A4) (a5 : A5) (a6 : A6) (a7 : A7) (a8 : A8) (a9 : A9) (a10 : A10) (h : I a1 a2 a3 a4 a5 a6 a7 a8 a9 a10) : ∃ n, W n a1 a2 a3 a4 a5 a6 a7 a8 a9 a10 :=
  loop_m (σ := A1 × A2 × A3 × A4 × A5 × A6 × A7 × A8 × A9 × A10) (fun n s => W n s.1 s.2.1 s.2.2.1 s.2.2.2.1 s.2.2.2.2.1 s.2.2.2.2.2.1 s.2.2.2.2.2.2.1 s.2.2.2.2.2.2.2.1 s.2.2.2.2.2.2.2.2.1 s.2.2.2.2.2.2.2.2.2) (fun s => I s.1 s.2.1 s.2.2.1 s.2.2.2.1 s.2.2.2.2.1 s.2.2.2.2.2.1 s.2.2.2.2.2.2.1 s.2.2.2.2.2.2.2.1 s.2.2.2.2.2.2.2.2.1 s.2.2.2.2.2.2.2.2.2) (fun s => μ s.1 s.2.1 s.2.2.1 s.2.2.2.1 s.2.2.2.2.1 s.2.2.2.2.2.1 s.2.2.2.2.2.2.1 s.2.2.2.2.2.2.2.1 s.2.2.2.2.2.2.2.2.1 s.2.2.2.2.2.2.2.2.2) (fun n s hI hk => hs n s.1 s.2.1 s.2.2.1 s.2.2.2.1 s.2.2.2.2.1 s.2.2.2.2.2.1 s.2.2.2.2.2.2.1 s.2.2.2.2.2.2.2.1 s.2.2.2.2.2.2.2.2.1 s.2.2.2.2.2.2.2.2.2 hI (fun b1 b2 b3 b4 b5 b6 b7 b8 b9 b10 h9 hm => hk (b1, b2, b3, b4, b5, b6, b7, b8, b9, b10) h9 hm)) (a1, a2, a3, a4, a5, a6, a7, a8, a9, a10) h
theorem lp11 {A1 A2 A3 A4 A5 A6 A7 A8 A9 A10 A11 : Type} (W : Nat → A1 → A2 → A3 → A4 → A5 → A6 → A7 → A8 → A9 → A10 → A11 → Prop) (I : A1 → A2 → A3 → A4 → A5 → A6 → A7 → A8 → A9 → A10 → A11 → Prop) (μ : A1 → A2 → A3 → A4 → A5 → A6 → A7 → A8 → A9 → A10 → A11 → Nat) (hs : ∀ (n : Nat) (a1 : A1) (a2 : A2) (a3 : A3) (a4 : A4) (a5 : A5) (a6 : A6) (a7 : A7) (a8 : A8) (a9 : A9) (a10 : A10) (a11 : A11), I a1 a2 a3 a4 a5 a6 a7 a8 a9 a10 a11 → (∀ (b1 : A1) (b2 : A2) (b3 : A3) (b4 : A4) (b5 : A5) (b6 : A6) (b7 : A7) (b8 : A8) (b9 : A9) (b10 : A10) (b11 : A11), I b1 b2 b3 b4 b5 b6 b7 b8 b9 b10 b11 → μ b1 b2 b3 b4 b5 b6 b7 b8 b9 b10 b11 < μ a1 a2 a3 a4 a5 a6 a7 a8 a9 a10 a11 → W n b1 b2 b3 b4 b5 b6 b7 b8 b9 b10 b11) → W (n + 1) a1 a2 a3 a4 a5 a6 a7 a8 a9 a10 a11) (a1 : A1) (a2 : A2) (a3 : A3) (a4 : A4) (a5 : A5) (a6 : A6) (a7 : A7) (a8 : A8) (a9 : A9) (a10 : A10) (a11 : A11) (h : I a1 a2 a3 a4 a5 a6 a7 a8 a9 a10 a11) : ∃ n, W n a1 a2 a3 a4 a5 a6 a7 a8 a9 a10 a11 :=
  loop_m (σ := A1 × A2 × A3 × A4 × A5 × A6 × A7 × A8 × A9 × A10 × A11) (fun n s => W n s.1 s.2.1 s.2.2.1 s.2.2.2.1 s.2.2.2.2.1 s.2.2.2.2.2.1 s.2.2.2.2.2.2.1 s.2.2.2.2.2.2.2.1 s.2.2.2.2.2.2.2.2.1 s.2.2.2.2.2.2.2.2.2.1 s.2.2.2.2.2.2.2.2.2.2) (fun s => I s.1 s.2.1 s.2.2.1 s.2.2.2.1 s.2.2.2.2.1 s.2.2.2.2.2.1 s.2.2.2.2.2.2.1 s.2.2.2.2.2.2.2.1 s.2.2.2.2.2.2.2.2.1 s.2.2.2.2.2.2.2.2.2.1 s.2.2.2.2.2.2.2.2.2.2) (fun s => μ s.1 s.2.1 s.2.2.1 s.2.2.2.1 s.2.2.2.2.1 s.2.2.2.2.2.1 s.2.2.2.2.2.2.1 s.2.2.2.2.2.2.2.1 s.2.2.2.2.2.2.2.2.1 s.2.2.2.2.2.2.2.2.2.1 s.2.2.2.2.2.2.2.2.2.2) (fun n s hI hk => hs n s.1 s.2.1 s.2.2.1 s.2.2.2.1 s.2.2.2.2.1 s.2.2.2.2.2.1 s.2.2.2.2.2.2.1 s.2.2.2.2.2.2.2.1 s.2.2.2.2.2.2.2.2.1 s.2.2.2.2.2.2.2.2.2.1 s.2.2.2.2.2.2.2.2.2.2 hI (fun b1 b2 b3 b4 b5 b6 b7 b8 b9 b10 b11 h9 hm => hk (b1, b2, b3, b4, b5, b6, b7, b8, b9, b10, b11) h9 hm)) (a1, a2, a3, a4, a5, a6, a7, a8, a9, a10, a11) h
theorem lp12 {A1 A2 A3 A4 A5 A6 A7 A8 A9 A10 A11 A12 : Type} (W : Nat → A1 → A2 → A3 → A4 → A5 → A6 → A7 → A8 → A9 → A10 → A11 → A12 → Prop) (I : A1 → A2 → A3 → A4 → A5 → A6 → A7 → A8 → A9 → A10 → A11 → A12 → Prop) (μ : A1 → A2 → A3 → A4 → A5 → A6 → A7 → A8 → A9 → A10 → A11 → A12 → Nat) (hs : ∀ (n : Nat) (a1 : A1) (a2 : A2) (a3 : A3) (a4 : A4) (a5 : A5) (a6 : A6) (a7 : A7) (a8 : A8) (a9 : A9) (a10 : A10) (a11 : A11) (a12 : A12), I a1 a2 a3 a4 a5 a6 a7 a8 a9 a10 a11 a12 → (∀ (b1 : A1) (b2 : A2) (b3 : A3) (b4 : A4) (b5 : A5) (b6 : A6) (b7 : A7) (b8 : A8) (b9 : A9) (b10 : A10) (b11 : A11) (b12 : A12), I b1 b2 b3 b4 b5 b6 b7 b8 b9 b10 b11 b12 → μ b1 b2 b3 b4 b5 b6 b7 b8 b9 b10 b11 b12 < μ a1 a2 a3 a4 a5 a6 a7 a8 a9 a10 a11 a12 → W n b1 b2 b3 b4 b5 b6 b7 b8 b9 b10 b11 b12) → W (n + 1) a1 a2 a3 a4 a5 a6 a7 a8 a9 a10 a11 a12) (a1 : A1) (a2 : A2) (a3 : A3) (a4 : A4) (a5 : A5) (a6 : A6) (a7 : A7) (a8 : A8) (a9 : A9) (a10 : A10) (a11 : A11) (a12 : A12) (h : I a1 a2 a3 a4 a5 a6 a7 a8 a9 a10 a11 a12) : ∃ n, W n a1 a2 a3 a4 a5 a6 a7 a8 a9 a10 a11 a12 :=
  loop_m (σ := A1 × A2 × A3 × A4 × A5 × A6 × A7 × A8 × A9 × A10 × A11 × A12) (fun n s => W n s.1 s.2.1 s.2.2.1 s.2.2.2.1 s.2.2.2.2.1 s.2.2.2.2.2.1 s.2.2.2.2.2.2.1 s.2.2.2.2.2.2.2.1 s.2.2.2.2.2.2.2.2.1 s.2.2.2.2.2.2.2.2.2.1 s.2.2.2.2.2.2.2.2.2.2.1 s.2.2.2.2.2.2.2.2.2.2.2) (fun s => I s.1 s.2.1 s.2.2.1 s.2.2.2.1 s.2.2.2.2.1 s.2.2.2.2.2.1 s.2.2.2.2.2.2.1 s.2.2.2.2.2.2.2.1 s.2.2.2.2.2.2.2.2.1 s.2.2.2.2.2.2.2.2.2.1 s.2.2.2.2.2.2.2.2.2.2.1 s.2.2.2.2.2.2.2.2.2.2.2) (fun s => μ s.1 s.2.1 s.2.2.1 s.2.2.2.1 s.2.2.2.2.1 s.2.2.2.2.2.1 s.2.2.2.2.2.2.1 s.2.2.2.2.2.2.2.1 s.2.2.2.2.2.2.2.2.1 s.2.2.2.2.2.2.2.2.2.1 s.2.2.2.2.2.2.2.2.2.2.1 s.2.2.2.2.2.2.2.2.2.2.2) (fun n s hI hk => hs n s.1 s.2.1 s.2.2.1 s.2.2.2.1 s.2.2.2.2.1 s.2.2.2.2.2.1 s.2.2.2.2.2.2.1 s.2.2.2.2.2.2.2.1 s.2.2.2.2.2.2.2.2.1 s.2.2.2.2.2.2.2.2.2.1 s.2.2.2.2.2.2.2.2.2.2.1 s.2.2.2.2.2.2.2.2.2.2.2 hI (fun b1 b2 b3 b4 b5 b6 b7 b8 b9 b10 b11 b12 h9 hm => hk (b1, b2, b3, b4, b5, b6, b7, b8, b9, b10, b11, b12) h9 hm)) (a1, a2, a3, a4, a5, a6, a7, a8, a9, a10, a11, a12) h
theorem lp13 {A1 A2 A3 A4 A5 A6 A7 A8 A9 A10 A11 A12 A13 : Type} (W : Nat → A1 → A2 → A3 → A4 → A5 → A6 → A7 → A8 → A9 → A10 → A11 → A12 → A13 → Prop) (I : A1 → A2 → A3 → A4 → A5 → A6 → A7 → A8 → A9 → A10 → A11 → A12 → A13 → Prop) (μ : A1 → A2 → A3 → A4 → A5 → A6 → A7 → A8 → A9 → A10 → A11 → A12 → A13 → Nat) (hs : ∀ (n : Nat) (a1 : A1) (a2 : A2) (a3 : A3) (a4 : A4) (a5 : A5) (a6 : A6) (a7 : A7) (a8 : A8) (a9 : A9) (a10 : A10) (a11 : A11) (a12 : A12) (a13 : A13), I a1 a2 a3 a4 a5 a6 a7 a8 a9 a10 a11 a12 a13 → (∀ (b1 : A1) (b2 : A2) (b3 : A3) (b4 : A4) (b5 : A5) (b6 : A6) (b7 : A7) (b8 : A8) (b9 : A9) (b10 : A10) (b11 : A11) (b12 : A12) (b13 : A13), I b1 b2 b3 b4 b5 b6 b7 b8 b9 b10 b11 b12 b13 → μ b1 b2 b3 b4 b5 b6 b7 b8 b9 b10 b11 b12 b13 < μ a1 a2 a3 a4 a5 a6 a7 a8 a9 a10 a11 a12 a13 → W n b1 b2 b3 b4 b5 b6 b7 b8 b9 b10 b11 b12 b13) → W (n + 1) a1 a2 a3 a4 a5 a6 a7 a8 a9 a10 a11 a12 a13) (a1 : A1) (a2 : A2) (a3 : A3) (a4 : A4) (a5 : A5) (a6 : A6) (a7 : A7) (a8 : A8) (a9 : A9) (a10 : A10) (a11 : A11) (a12 : A12) (a13 : A13) (h : I a1 a2 a3 a4 a5 a6 a7 a8 a9 a10 a11 a12 a13) : ∃ n, W n a1 a2 a3 a4 a5 a6 a7 a8 a9 a10 a11 a12 a13 :=
  loop_m (σ := A1 × A2 × A3 × A4 × A5 × A6 × A7 × A8 × A9 × A10 × A11 × A12 × A13) (fun n s => W n s.1 s.2.1 s.2.2.1 s.2.2.2.1 s.2.2.2.2.1 s.2.2.2.2.2.1 s.2.2.2.2.2.2.1 s.2.2.2.2.2.2.2.1 s.2.2.2.2.2.2.2.2.1 s.2.2.2.2.2.2.2.2.2.1 s.2.2.2.2.2.2.2.2.2.2.1 s.2.2.2.2.2.2.2.2.2.2.2.1 s.2.2.2.2.2.2.2.2.2.2.2.2) (fun s => I s.1 s.2.1 s.2.2.1 s.2.2.2.1 s.2.2.2.2.1 s.2.2.2.2.2.1 s.2.2.2.2.2.2.1 s.2.2.2.2.2.2.2.1 s.2.2.2.2.2.2.2.2.1 s.2.2.2.2.2.2.2.2.2.1 s.2.2.2.2.2.2.2.2.2.2.1 s.2.2.2.2.2.2.2.2.2.2.2.1 s.2.2.2.2.2.2.2.2.2.2.2.2) (fun s => μ s.1 s.2.1 s.2.2.1 s.2.2.2.1 s.2.2.2.2.1 s.2.2.2.2.2.1 s.2.2.2.2.2.2.1 s.2.2.2.2.2.2.2.1 s.2.2.2.2.2.2.2.2.1 s.2.2.2.2.2.2.2.2.2.1 s.2.2.2.2.2.2.2.2.2.2.1 s.2.2.2.2.2.2.2.2.2.2.2.1 s.2.2.2.2.2.2.2.2.2.2.2.2) (fun n s hI hk => hs n s.1 s.2.1 s.2.2.1 s.2.2.2.1 s.2.2.2.2.1 s.2.2.2.2.2.1 s.2.2.2.2.2.2.1 s.2.2.2.2.2.2.2.1 s.2.2.2.2.2.2.2.2.1 s.2.2.2.2.2.2.2.2.2.1 s.2.2.2.2.2.2.2.2.2.2.1 s.2.2.2.2.2.2.2.2.2.2.2.1 s.2.2.2.2.2.2.2.2.2.2.2.2 hI (fun b1 b2 b3 b4 b5 b6 b7 b8 b9 b10 b11 b12 b13 h9 hm => hk (b1, b2, b3, b4, b5, b6, b7, b8, b9, b10, b11, b12, b13) h9 hm)) (a1, a2, a3, a4, a5, a6, a7, a8, a9, a10, a11, a12, a13) h
theorem lp14 {A1 A2 A3 A4 A5 A6 A7 A8 A9 A10 A11 A12 A13 A14 : Type} (W : Nat → A1 → A2 → A3 → A4 → A5 → A6 → A7 → A8 → A9 → A10 → A11 → A12 → A13 → A14 → Prop) (I : A1 → A2 → A3 → A4 → A5 → A6 → A7 → A8 → A9 → A10 → A11 → A12 → A13 → A14 → Prop) (μ : A1 → A2 → A3 → A4 → A5 → A6 → A7 → A8 → A9 → A10 → A11 → A12 → A13 → A14 → Nat) (hs : ∀ (n : Nat) (a1 : A1) (a2 : A2) (a3 : A3) (a4 : A4) (a5 : A5) (a6 : A6) (a7 : A7) (a8 : A8) (a9 : A9) (a10 : A10) (a11 : A11) (a12 : A12) (a13 : A13) (a14 : A14), I a1 a2 a3 a4 a5 a6 a7 a8 a9 a10 a11 a12 a13 a14 → (∀ (b1 : A1) (b2 : A2) (b3 : A3) (b4 : A4) (b5 : A5) (b6 : A6) (b7 : A7) (b8 : A8) (b9 : A9) (b10 : A10) (b11 : A11) (b12 : A12) (b13 : A13) (b14 : A14), I b1 b2 b3 b4 b5 b6 b7 b8 b9 b10 b11 b12 b13 b14 → μ b1 b2 b3 b4 b5 b6 b7 b8 b9 b10 b11 b12 b13 b14 < μ a1 a2 a3 a4 a5 a6 a7 a8 a9 a10 a11 a12 a13 a14 → W n b1 b2 b3 b4 b5 b6 b7 b8 b9 b10 b11 b12 b13 b14) → W (n + 1) a1 a2 a3 a4 a5 a6 a7 a8 a9 a10 a11 a12 a13 a14) (a1 : A1) (a2 : A2) (a3 : A3) (a4 : A4) (a5 : A5) (a6 : A6) (a7 : A7) (a8 : A8) (a9 : A9) (a10 : A10) (a11 : A11) (a12 : A12) (a13 : A13) (a14 : A14) (h : I a1 a2 a3 a4 a5 a6 a7 a8 a9 a10 a11 a12 a13 a14) : ∃ n, W n a1 a2 a3 a4 a5 a6 a7 a8 a9 a10 a11 a12 a13 a14 :=
  loop_m (σ := A1 × A2 × A3 × A4 × A5 × A6 × A7 × A8 × A9 × A10 × A11 × A12 × A13 × A14) (fun n s => W n s.1 s.2.1 s.2.2.1 s.2.2.2.1 s.2.2.2.2.1 s.2.2.2.2.2.1 s.2.2.2.2.2.2.1 s.2.2.2.2.2.2.2.1 s.2.2.2.2.2.2.2.2.1 s.2.2.2.2.2.2.2.2.2.1 s.2.2.2.2.2.2.2.2.2.2.1 s.2.2.2.2.2.2.2.2.2.2.2.1 s.2.2.2.2.2.2.2.2.2.2.2.2.1 s.2.2.2.2.2.2.2.2.2.2.2.2.2) (fun s => I s.1 s.2.1 s.2.2.1 s.2.2.2.1 s.2.2.2.2.1 s.2.2.2.2.2.1 s.2.2.2.2.2.2.1 s.2.2.2.2.2.2.2.1 s.2.2.2.2.2.2.2.2.1 s.2.2.2.2.2.2.2.2.2.1 s.2.2.2.2.2.2.2.2.2.2.1 s.2.2.2.2.2.2.2.2.2.2.2.1 s.2.2.2.2.2.2.2.2.2.2.2.2.1 s.2.2.2.2.2.2.2.2.2.2.2.2.2) (fun s => μ s.1 s.2.1 s.2.2.1 s.2.2.2.1 s.2.2.2.2.1 s.2.2.2.2.2.1 s.2.2.2.2.2.2.1 s.2.2.2.2.2.2.2.1 s.2.2.2.2.2.2.2.2.1 s.2.2.2.2.2.2.2.2.2.1 s.2.2.2.2.2.2.2.2.2.2.1 s.2.2.2.2.2.2.2.2.2.2.2.1 s.2.2.2.2.2.2.2.2.2.2.2.2.1 s.2.2.2.2.2.2.2.2.2.2.2.2.2) (fun n s hI hk => hs n s.1 s.2.1 s.2.2.1 s.2.2.2.1 s.2.2.2.2.1 s.2.2.2.2.2.1 s.2.2.2.2.2.2.1 s.2.2.2.2.2.2.2.1 s.2.2.2.2.2.2.2.2.1 s.2.2.2.2.2.2.2.2.2.1 s.2.2.2.2.2.2.2.2.2.2.1 s.2.2.2.2.2.2.2.2.2.2.2.1 s.2.2.2.2.2.2.2.2.2.2.2.2.1 s.2.2.2.2.2.2.2.2.2.2.2.2.2 hI (fun b1 b2 b3 b4 b5 b6 b7 b8 b9 b10 b11 b12 b13 b14 h9 hm => hk (b1, b2, b3, b4, b5, b6, b7, b8, b9, b10, b11, b12, b13, b14) h9 hm)) (a1, a2, a3, a4, a5, a6, a7, a8, a9, a10, a11, a12, a13, a14) h
theorem lp15 {A1 A2 A3 A4 A5 A6 A7 A8 A9 A10 A11 A12 A13 A14 A15 : Type} (W : Nat → A1 → A2 → A3 → A4 → A5 → A6 → A7 → A8 → A9 → A10 → A11 → A12 → A13 → A14 → A15 → Prop) (I : A1 → A2 → A3 → A4 → A5 → A6 → A7 → A8 → A9 → A10 → A11 → A12 → A13 → A14 → A15 → Prop) (μ : A1 → A2 → A3 → A4 → A5 → A6 → A7 → A8 → A9 → A10 → A11 → A12 → A13 → A14 → A15 → Nat) (hs : ∀ (n : Nat) (a1 : A1) (a2 : A2) (a3 : A3) (a4 : A4) (a5 : A5) (a6 : A6) (a7 : A7) (a8 : A8) (a9 : A9) (a10 : A10) (a11 : A11) (a12 : A12) (a13 : A13) (a14 : A14) (a15 : A15), I a1 a2 a3 a4 a5 a6 a7 a8 a9 a10 a11 a12 a13 a14 a15 → (∀ (b1 : A1) (b2 : A2) (b3 : A3) (b4 : A4) (b5 : A5) (b6 : A6) (b7 : A7) (b8 : A8) (b9 : A9) (b10 : A10) (b11 : A11) (b12 : A12) (b13 : A13) (b14 : A14) (b15 : A15), I b1 b2 b3 b4 b5 b6 b7 b8 b9 b10 b11 b12 b13 b14 b15 → μ b1 b2 b3 b4 b5 b6 b7 b8 b9 b10 b11 b12 b13 b14 b15 < μ a1 a2 a3 a4 a5 a6 a7 a8 a9 a10 a11 a12 a13 a14 a15 → W n b1 b2 b3 b4 b5 b6 b7 b8 b9 b10 b11 b12 b13 b14 b15) → W (n + 1) a1 a2 a3 a4 a5 a6 a7 a8 a9 a10 a11 a12 a13 a14 a15) (a1 : A1) (a2 : A2) (a3 : A3) (a4 : A4) (a5 : A5) (a6 : A6) (a7 : A7) (a8 : A8) (a9 : A9) (a10 : A10) (a11 : A11) (a12 : A12) (a13 : A13) (a14 : A14) (a15 : A15) (h : I a1 a2 a3 a4 a5 a6 a7 a8 a9 a10 a11 a12 a13 a14 a15) : ∃ n, W n a1 a2 a3 a4 a5 a6 a7 a8 a9 a10 a11 a12 a13 a14 a15 :=
  loop_m (σ := A1 × A2 × A3 × A4 × A5 × A6 × A7 × A8 × A9 × A10 × A11 × A12 × A13 × A14 × A15) (fun n s => W n s.1 s.2.1 s.2.2.1 s.2.2.2.1 s.2.2.2.2.1 s.2.2.2.2.2.1 s.2.2.2.2.2.2.1 s.2.2.2.2.2.2.2.1 s.2.2.2.2.2.2.2.2.1 s.2.2.2.2.2.2.2.2.2.1 s.2.2.2.2.2.2.2.2.2.2.1 s.2.2.2.2.2.2.2.2.2.2.2.1 s.2.2.2.2.2.2.2.2.2.2.2.2.1 s.2.2.2.2.2.2.2.2.2.2.2.2.2.1 s.2.2.2.2.2.2.2.2.2.2.2.2.2.2) (fun s => I s.1 s.2.1 s.2.2.1 s.2.2.2.1 s.2.2.2.2.1 s.2.2.2.2.2.1 s.2.2.2.2.2.2.1 s.2.2.2.2.2.2.2.1 s.2.2.2.2.2.2.2.2.1 s.2.2.2.2.2.2.2.2.2.1 s.2.2.2.2.2.2.2.2.2.2.1 s.2.2.2.2.2.2.2.2.2.2.2.1 s.2.2.2.2.2.2.2.2.2.2.2.2.1 s.2.2.2.2.2.2.2.2.2.2.2.2.2.1 s.2.2.2.2.2.2.2.2.2.2.2.2.2.2) (fun s => μ s.1 s.2.1 s.2.2.1 s.2.2.2.1 s.2.2.2.2.1 s.2.2.2.2.2.1 s.2.2.2.2.2.2.1 s.2.2.2.2.2.2.2.1 s.2.2.2.2.2.2.2.2.1 s.2.2.2.2.2.2.2.2.2.1 s.2.2.2.2.2.2.2.2.2.2.1 s.2.2.2.2.2.2.2.2.2.2.2.1 s.2.2.2.2.2.2.2.2.2.2.2.2.1 s.2.2.2.2.2.2.2.2.2.2.2.2.2.1 s.2.2.2.2.2.2.2.2.2.2.2.2.2.2) (fun n s hI hk => hs n s.1 s.2.1 s.2.2.1 s.2.2.2.1 s.2.2.2.2.1 s.2.2.2.2.2.1 s.2.2.2.2.2.2.1 s.2.2.2.2.2.2.2.1 s.2.2.2.2.2.2.2.2.1 s.2.2.2.2.2.2.2.2.2.1 s.2.2.2.2.2.2.2.2.2.2.1 s.2.2.2.2.2.2.2.2.2.2.2.1 s.2.2.2.2.2.2.2.2.2.2.2.2.1 s.2.2.2.2.2.2.2.2.2.2.2.2.2.1 s.2.2.2.2.2.2.2.2.2.2.2.2.2.2 hI (fun b1 b2 b3 b4 b5 b6 b7 b8 b9 b10 b11 b12 b13 b14 b15 h9 hm => hk (b1, b2, b3, b4, b5, b6, b7, b8, b9, b10, b11, b12, b13, b14, b15) h9 hm)) (a1, a2, a3, a4, a5, a6, a7, a8, a9, a10, a11, a12, a13, a14, a15) h
theorem lp16 {A1 A2 A3 A4 A5 A6 A7 A8 A9 A10 A11 A12 A13 A14 A15 A16 : Type} (W : Nat → A1 → A2 → A3 → A4 → A5 → A6 → A7 → A8 → A9 → A10 → A11 → A12 → A13 → A14 → A15 → A16 → Prop) (I : A1 → A2 → A3 → A4 → A5 → A6 → A7 → A8 → A9 → A10 → A11 → A12 → A13 → A14 → A15 → A16 → Prop) (μ : A1 → A2 → A3 → A4 → A5 → A6 → A7 → A8 → A9 → A10 → A11 → A12 → A13 → A14 → A15 → A16 → Nat) (hs : ∀ (n : Nat) (a1 : A1) (a2 : A2) (a3 : A3) (a4 : A4) (a5 : A5) (a6 : A6) (a7 : A7) (a8 : A8) (a9 : A9) (a10 : A10) (a11 : A11) (a12 : A12) (a13 : A13) (a14 : A14) (a15 : A15) (a16 : A16), I a1 a2 a3 a4 a5 a6 a7 a8 a9 a10 a11 a12 a13 a14 a15 a16 → (∀ (b1 : A1) (b2 : A2) (b3 : A3) (b4 : A4) (b5 : A5) (b6 : A6) (b7 : A7) (b8 : A8) (b9 : A9) (b10 : A10) (b11 : A11) (b12 : A12) (b13 : A13) (b14 : A14) (b15 : A15) (b16 : A16), I b1 b2 b3 b4 b5 b6 b7 b8 b9 b10 b11 b12 b13 b14 b15 b16 → μ b1 b2 b3 b4 b5 b6 b7 b8 b9 b10 b11 b12 b13 b14 b15 b16 < μ a1 a2 a3 a4 a5 a6 a7 a8 a9 a10 a11 a12 a13 a14 a15 a16 → W n b1 b2 b3 b4 b5 b6 b7 b8 b9 b10 b11 b12 b13 b14 b15 b16) → W (n + 1) a1 a2 a3 a4 a5 a6 a7 a8 a9 a10 a11 a12 a13 a14 a15 a16) (a1 : A1) (a2 : A2) (a3 : A3) (a4 : A4) (a5 : A5) (a6 : A6) (a7 : A7) (a8 : A8) (a9 : A9) (a10 : A10) (a11 : A11) (a12 : A12) (a13 : A13) (a14 : A14) (a15 : A15) (a16 : A16) (h : I a1 a2 a3 a4 a5 a6 a7 a8 a9 a10 a11 a12 a13 a14 a15 a16) : ∃ n, W n a1 a2 a3 a4 a5 a6 a7 a8 a9 a10 a11 a12 a13 a14 a15 a16 :=
  loop_m (σ := A1 × A2 × A3 × A4 × A5 × A6 × A7 × A8 × A9 × A10 × A11 × A12 × A13 × A14 × A15 × A16) (fun n s => W n s.1 s.2.1 s.2.2.1 s.2.2.2.1 s.2.2.2.2.1 s.2.2.2.2.2.1 s.2.2.2.2.2.2.1 s.2.2.2.2.2.2.2.1 s.2.2.2.2.2.2.2.2.1 s.2.2.2.2.2.2.2.2.2.1 s.2.2.2.2.2.2.2.2.2.2.1 s.2.2.2.2.2.2.2.2.2.2.2.1 s.2.2.2.2.2.2.2.2.2.2.2.2.1 s.2.2.2.2.2.2.2.2.2.2.2.2.2.1 s.2.2.2.2.2.2.2.2.2.2.2.2.2.2.1 s.2.2.2.2.2.2.2.2.2.2.2.2.2.2.2) (fun s => I s.1 s.2.1 s.2.2.1 s.2.2.2.1 s.2.2.2.2.1 s.2.2.2.2.2.1 s.2.2.2.2.2.2.1 s.2.2.2.2.2.2.2.1 s.2.2.2.2.2.2.2.2.1 s.2.2.2.2.2.2.2.2.2.1 s.2.2.2.2.2.2.2.2.2.2.1 s.2.2.2.2.2.2.2.2.2.2.2.1 s.2.2.2.2.2.2.2.2.2.2.2.2.1 s.2.2.2.2.2.2.2.2.2.2.2.2.2.1 s.2.2.2.2.2.2.2.2.2.2.2.2.2.2.1 s.2.2.2.2.2.2.2.2.2.2.2.2.2.2.2) (fun s => μ s.1 s.2.1 s.2.2.1 s.2.2.2.1 s.2.2.2.2.1 s.2.2.2.2.2.1 s.2.2.2.2.2.2.1 s.2.2.2.2.2.2.2.1 s.2.2.2.2.2.2.2.2.1 s.2.2.2.2.2.2.2.2.2.1 s.2.2.2.2.2.2.2.2.2.2.1 s.2.2.2.2.2.2.2.2.2.2.2.1 s.2.2.2.2.2.2.2.2.2.2.2.2.1 s.2.2.2.2.2.2.2.2.2.2.2.2.2.1 s.2.2.2.2.2.2.2.2.2.2.2.2.2.2.1 s.2.2.2.2.2.2.2.2.2.2.2.2.2.2.2) (fun n s hI hk => hs n s.1 s.2.1 s.2.2.1 s.2.2.2.1 s.2.2.2.2.1 s.2.2.2.2.2.1 s.2.2.2.2.2.2.1 s.2.2.2.2.2.2.2.1 s.2.2.2.2.2.2.2.2.1 s.2.2.2.2.2.2.2.2.2.1 s.2.2.2.2.2.2.2.2.2.2.1 s.2.2.2.2.2.2.2.2.2.2.2.1 s.2.2.2.2.2.2.2.2.2.2.2.2.1 s.2.2.2.2.2.2.2.2.2.2.2.2.2.1 s.2.2.2.2.2.2.2.2.2.2.2.2.2.2.1 s.2.2.2.2.2.2.2.2.2.2.2.2.2.2.2 hI (fun b1 b2 b3 b4 b5 b6 b7 b8 b9 b10 b11 b12 b13 b14 b15 b16 h9 hm => hk (b1, b2, b3, b4, b5, b6, b7, b8, b9, b10, b11, b12, b13, b14, b15, b16) h9 hm)) (a1, a2, a3, a4, a5, a6, a7, a8, a9, a10, a11, a12, a13, a14, a15, a16) h
theorem pk_least (P : Nat → Prop) (h : ∃ k, P k) : ∃ k, P k ∧ ∀ j, j < k → ¬ P j := by
  obtain ⟨k, hk⟩ := h
  induction k using Nat.strongRecOn with
  | ind k ih =>
    by_cases e : ∃ j, j < k ∧ P j
    · obtain ⟨j, hj, pj⟩ := e
      exact ih j hj pj
    · exact ⟨k, hk, fun j hj pj => e ⟨j, hj, pj⟩⟩
theorem rp1 {ρ A1 : Type} (W : Nat → (ρ → Prop) → A1 → Prop) (ok : A1 → Prop) (μ : A1 → Nat) (val : A1 → ρ)
    (hs : ∀ (d : Nat) (post : ρ → Prop) (a1 : A1), ok a1 → post (val a1) → (∀ (post' : ρ → Prop) (b1 : A1), ok b1 → μ b1 < μ a1 → post' (val b1) → W d post' b1) → W (d + 1) post a1) :
    ∀ (d : Nat) (post : ρ → Prop) (a1 : A1), ok a1 → μ a1 < d → post (val a1) → W d post a1 := by
  intro d
  induction d with
  | zero => intro post a1 _ h; omega
  | succ d ih =>
    intro post a1 ho hm hp
    exact hs d post a1 ho hp (fun post' b1 ho' hm' hp' => ih post' b1 ho' (by omega) hp')
theorem rp2 {ρ A1 A2 : Type} (W : Nat → (ρ → Prop) → A1 → A2 → Prop) (ok : A1 → A2 → Prop) (μ : A1 → A2 → Nat) (val : A1 → A2 → ρ)
    (hs : ∀ (d : Nat) (post : ρ → Prop) (a1 : A1) (a2 : A2), ok a1 a2 → post (val a1 a2) → (∀ (post' : ρ → Prop) (b1 : A1) (b2 : A2), ok b1 b2 → μ b1 b2 < μ a1 a2 → post' (val b1 b2) → W d post' b1 b2) → W (d + 1) post a1 a2) :
    ∀ (d : Nat) (post : ρ → Prop) (a1 : A1) (a2 : A2), ok a1 a2 → μ a1 a2 < d → post (val a1 a2) → W d post a1 a2 := by
  intro d
  induction d with
  | zero => intro post a1 a2 _ h; omega
  | succ d ih =>
    intro post a1 a2 ho hm hp
    exact hs d post a1 a2 ho hp (fun post' b1 b2 ho' hm' hp' => ih post' b1 b2 ho' (by omega) hp')
theorem rp3 {ρ A1 A2 A3 : Type} (W : Nat → (ρ → Prop) → A1 → A2 → A3 → Prop) (ok : A1 → A2 → A3 → Prop) (μ : A1 → A2 → A3 → Nat) (val : A1 → A2 → A3 → ρ)
    (hs : ∀ (d : Nat) (post : ρ → Prop) (a1 : A1) (a2 : A2) (a3 : A3), ok a1 a2 a3 → post (val a1 a2 a3) → (∀ (post' : ρ → Prop) (b1 : A1) (b2 : A2) (b3 : A3), ok b1 b2 b3 → μ b1 b2 b3 < μ a1 a2 a3 → post' (val b1 b2 b3) → W d post' b1 b2 b3) → W (d + 1) post a1 a2 a3) :
    ∀ (d : Nat) (post : ρ → Prop) (a1 : A1) (a2 : A2) (a3 : A3), ok a1 a2 a3 → μ a1 a2 a3 < d → post (val a1 a2 a3) → W d post a1 a2 a3 := by
  intro d
  induction d with
  | zero => intro post a1 a2 a3 _ h; omega
  | succ d ih =>
    intro post a1 a2 a3 ho hm hp
    exact hs d post a1 a2 a3 ho hp (fun post' b1 b2 b3 ho' hm' hp' => ih post' b1 b2 b3 ho' (by omega) hp')
theorem rp4 {ρ A1 A2 A3 A4 : Type} (W : Nat → (ρ → Prop) → A1 → A2 → A3 → A4 → Prop) (ok : A1 → A2 → A3 → A4 → Prop) (μ : A1 → A2 → A3 → A4 → Nat) (val : A1 → A2 → A3 → A4 → ρ)
    (hs : ∀ (d : Nat) (post : ρ → Prop) (a1 : A1) (a2 : A2) (a3 : A3) (a4 : A4), ok a1 a2 a3 a4 → post (val a1 a2 a3 a4) → (∀ (post' : ρ → Prop) (b1 : A1) (b2 : A2) (b3 : A3) (b4 : A4), ok b1 b2 b3 b4 → μ b1 b2 b3 b4 < μ a1 a2 a3 a4 → post' (val b1 b2 b3 b4) → W d post' b1 b2 b3 b4) → W (d + 1) post a1 a2 a3 a4) :
    ∀ (d : Nat) (post : ρ → Prop) (a1 : A1) (a2 : A2) (a3 : A3) (a4 : A4), ok a1 a2 a3 a4 → μ a1 a2 a3 a4 < d → post (val a1 a2 a3 a4) → W d post a1 a2 a3 a4 := by
  intro d
  induction d with
  | zero => intro post a1 a2 a3 a4 _ h; omega
  | succ d ih =>
    intro post a1 a2 a3 a4 ho hm hp
    exact hs d post a1 a2 a3 a4 ho hp (fun post' b1 b2 b3 b4 ho' hm' hp' => ih post' b1 b2 b3 b4 ho' (by omega) hp')
theorem rp5 {ρ A1 A2 A3 A4 A5 : Type} (W : Nat → (ρ → Prop) → A1 → A2 → A3 → A4 → A5 → Prop) (ok : A1 → A2 → A3 → A4 → A5 → Prop) (μ : A1 → A2 → A3 → A4 → A5 → Nat) (val : A1 → A2 → A3 → A4 → A5 → ρ)
    (hs : ∀ (d : Nat) (post : ρ → Prop) (a1 : A1) (a2 : A2) (a3 : A3) (a4 : A4) (a5 : A5), ok a1 a2 a3 a4 a5 → post (val a1 a2 a3 a4 a5) → (∀ (post' : ρ → Prop) (b1 : A1) (b2 : A2) (b3 : A3) (b4 : A4) (b5 : A5), ok b1 b2 b3 b4 b5 → μ b1 b2 b3 b4 b5 < μ a1 a2 a3 a4 a5 → post' (val b1 b2 b3 b4 b5) → W d post' b1 b2 b3 b4 b5) → W (d + 1) post a1 a2 a3 a4 a5) :
    ∀ (d : Nat) (post : ρ → Prop) (a1 : A1) (a2 : A2) (a3 : A3) (a4 : A4) (a5 : A5), ok a1 a2 a3 a4 a5 → μ a1 a2 a3 a4 a5 < d → post (val a1 a2 a3 a4 a5) → W d post a1 a2 a3 a4 a5 := by
  intro d
  induction d with
  | zero => intro post a1 a2 a3 a4 a5 _ h; omega
  | succ d ih =>
    intro post a1 a2 a3 a4 a5 ho hm hp
    exact hs d post a1 a2 a3 a4 a5 ho hp (fun post' b1 b2 b3 b4 b5 ho' hm' hp' => ih post' b1 b2 b3 b4 b5 ho' (by omega) hp')
theorem rp6 {ρ A1 A2 A3 A4 A5 A6 : Type} (W : Nat → (ρ → Prop) → A1 → A2 → A3 → A4 → A5 → A6 → Prop) (ok : A1 → A2 → A3 → A4 → A5 → A6 → Prop) (μ : A1 → A2 → A3 → A4 → A5 → A6 → Nat) (val : A1 → A2 → A3 → A4 → A5 → A6 → ρ)
    (hs : ∀ (d : Nat) (post : ρ → Prop) (a1 : A1) (a2 : A2) (a3 : A3) (a4 : A4) (a5 : A5) (a6 : A6), ok a1 a2 a3 a4 a5 a6 → post (val a1 a2 a3 a4 a5 a6) → (∀ (post' : ρ → Prop) (b1 : A1) (b2 : A2) (b3 : A3) (b4 : A4) (b5 : A5) (b6 : A6), ok b1 b2 b3 b4 b5 b6 → μ b1 b2 b3 b4 b5 b6 < μ a1 a2 a3 a4 a5 a6 → post' (val b1 b2 b3 b4 b5 b6) → W d post' b1 b2 b3 b4 b5 b6) → W (d + 1) post a1 a2 a3 a4 a5 a6) :
    ∀ (d : Nat) (post : ρ → Prop) (a1 : A1) (a2 : A2) (a3 : A3) (a4 : A4) (a5 : A5) (a6 : A6), ok a1 a2 a3 a4 a5 a6 → μ a1 a2 a3 a4 a5 a6 < d → post (val a1 a2 a3 a4 a5 a6) → W d post a1 a2 a3 a4 a5 a6 := by
  intro d
  induction d with
  | zero => intro post a1 a2 a3 a4 a5 a6 _ h; omega
  | succ d ih =>
    intro post a1 a2 a3 a4 a5 a6 ho hm hp
    exact hs d post a1 a2 a3 a4 a5 a6 ho hp (fun post' b1 b2 b3 b4 b5 b6 ho' hm' hp' => ih post' b1 b2 b3 b4 b5 b6 ho' (by omega) hp')
theorem rec_p {σ ρ : Type} (W : Nat → (ρ → Prop) → σ → Prop) (ok : σ → Prop) (μ : σ → Nat) (val : σ → ρ)
    (hs : ∀ d s post, ok s → post (val s) → (∀ s' post', ok s' → μ s' < μ s → post' (val s') → W d post' s') → W (d + 1) post s) :
    ∀ d s post, ok s → μ s < d → post (val s) → W d post s := by
  intro d
  induction d with
  | zero => intro s post _ h; omega
  | succ d ih =>
    intro s post ho hm hp
    exact hs d s post ho hp (fun s' post' ho' hm' hp' => ih s' post' ho' (by omega) hp')
theorem rec_q {σ ρ : Type} (W : Nat → (ρ → Prop) → σ → Prop) (ok : σ → Prop) (μ : σ → Nat) (Q : σ → ρ → Prop)
    (hs : ∀ d s post, ok s → (∀ r, Q s r → post r) → (∀ s' post', ok s' → μ s' < μ s → (∀ r, Q s' r → post' r) → W d post' s') → W (d + 1) post s) :
    ∀ d s post, ok s → μ s < d → (∀ r, Q s r → post r) → W d post s := by
  intro d
  induction d with
  | zero => intro s post _ h; omega
  | succ d ih =>
    intro s post ho hm hp
    exact hs d s post ho hp (fun s' post' ho' hm' hp' => ih s' post' ho' (by omega) hp')
def bx_sum (f : Nat → Int32) : Nat → Int32
  | 0 => 0
  | n + 1 => bx_sum f n + f n
theorem ek_u {A : Prop} {B : Nat → Prop} {k N : Nat} (hk : k < N) (h : B k) : (some k = none → A) ∧ (∀ y : Nat, some k = some y → (y < N ∧ B y)) :=
  ⟨fun z => absurd z (Option.some_ne_none k), fun _ e => (by cases e; exact ⟨hk, h⟩)⟩
theorem ek_nu {A : Prop} {B : Nat → Prop} (h : A) : ((none : Option Nat) = none → A) ∧ (∀ y : Nat, (none : Option Nat) = some y → B y) :=
  ⟨fun _ => h, fun _ e => (by cases e)⟩
theorem ek_if {c d A B : Prop} (e : c ↔ d) (f : d → A) (g : ¬ d → B) : (c → A) ∧ (¬ c → B) :=
  ⟨fun z => f (e.mp z), fun z => g (fun y => z (e.mpr y))⟩
theorem ek_v {α : Sort _} {P : α → Prop} {a b : α} (e : a = b) (h : P b) : P a := e ▸ h
theorem co_some {x : Option Nat} {A : Prop} {B : Nat → Prop} (i : Nat) (h : B i) (hx : x = some i := by rfl) : (x = none → A) ∧ (∀ y : Nat, x = some y → B y) := by
  subst hx
  exact ⟨fun e => (nomatch e), fun y e => Option.some.inj e ▸ h⟩
theorem co_none {x : Option Nat} {A : Prop} {B : Nat → Prop} (h : A) (hx : x = none := by rfl) : (x = none → A) ∧ (∀ y : Nat, x = some y → B y) := by
  subst hx
  exact ⟨fun _ => h, fun y e => (nomatch e)⟩
theorem co_any {x : Option Nat} {A : Prop} {B : Nat → Prop} (hn : x = none → A) (hs : ∀ i : Nat, x = some i → B i) : (x = none → A) ∧ (∀ y : Nat, x = some y → B y) := ⟨hn, hs⟩
theorem co_2 {P : Nat → Prop} (h0 : P 0) (h1 : P 1) {i : Nat} (hi : i < 2) : P i :=
  match i, hi with
  | 0, _ => h0
  | 1, _ => h1
theorem co_3 {P : Nat → Prop} (h0 : P 0) (h1 : P 1) (h2 : P 2) {i : Nat} (hi : i < 3) : P i :=
  match i, hi with
  | 0, _ => h0
  | 1, _ => h1
  | 2, _ => h2
theorem co_4 {P : Nat → Prop} (h0 : P 0) (h1 : P 1) (h2 : P 2) (h3 : P 3) {i : Nat} (hi : i < 4) : P i :=
  match i, hi with
  | 0, _ => h0
  | 1, _ => h1
  | 2, _ => h2
  | 3, _ => h3
theorem co_dec {N : Nat} {P : Nat → Prop} [DecidablePred P] (h : (List.range N).all (fun i => decide (P i)) = true) {i : Nat} (hi : i < N) : P i := by
  have := List.all_eq_true.mp h i (List.mem_range.mpr hi)
  exact of_decide_eq_true this
theorem co_tab {α : Type} {l : List α} {d : α} {P : α → Prop} (h : ∀ a, a ∈ l → P a) {i : Nat} (hi : i < l.length) : P (l.getD i d) := by
  rw [List.getD_eq_getElem?_getD, List.getElem?_eq_getElem hi]
  exact h _ (List.getElem_mem hi)
theorem pk_mu {x : Int32} {L : Nat} (h0 : ¬ x < 0) (h : ¬ nI L ≤ x) (hL : L < 2 ^ 31) : ∃ j : Nat, j < L ∧ x = nI j ∧ x + 1 = nI (j + 1) ∧ x.toNatClampNeg = j ∧ L - (x + 1).toNatClampNeg < L - x.toNatClampNeg := by
  obtain ⟨j, hj, rfl⟩ := nI_of h0
  have hl : j < L := Nat.not_le.mp fun q => h (nI_le q hj)
  refine ⟨j, hl, rfl, nI_1 j, nI_clamp hj, ?_⟩
  rw [nI_1, nI_clamp (by omega), nI_clamp hj]
  omega
theorem op_s {α : Type} {r : Option α} {A : Prop} {B : α → Prop} {y : α} (h : r = some y) (b : B y) : (r = none → A) ∧ ∀ z, r = some z → B z :=
  ⟨fun e => (by rw [h] at e; cases e), fun z e => (by rw [h] at e; cases e; exact b)⟩
def l_holds {α : Type} (a : Nat → Option Nat) (LP : List Nat) (p : Nat → α) (c : Nat) (b : Nat → α) : Prop :=
  ∀ j, j < c → ∃ y, a j = some y ∧ y ∈ LP ∧ p y = b j
theorem l_holds_0 {α : Type} {a : Nat → Option Nat} {LP : List Nat} {p b : Nat → α} : l_holds a LP p 0 b := fun j h => absurd h (Nat.not_lt_zero j)
theorem l_in_new (LP : List Nat) (q : Nat) : q ∈ LP ++ [q] := List.mem_append.mpr (Or.inr (List.mem_singleton.mpr rfl))
def l_sum (b : Nat → Int32) : Nat → Int32
  | 0 => 0
  | k + 1 => l_sum b k + b k
theorem sb_shr0 (x : Int32) : x >>> ((0 : Int32) &&& 31) = x := by
  rw [show ((0 : Int32) &&& 31) = 0 by decide]
  simp
theorem sb_shl0 (x : Int32) : x <<< ((0 : Int32) &&& 31) = x := by
  rw [show ((0 : Int32) &&& 31) = 0 by decide]
  simp
theorem sb_cl0 : (0 : Int32).toNatClampNeg = 0 := by decide
theorem sb_m1 {p : Nat} (h : 0 < p) : nI p + (-1) = nI (p - 1) := by
  obtain ⟨q, rfl⟩ : ∃ q, p = q + 1 := ⟨p - 1, by omega⟩
  exact pk_m1 q
def sb_b (c : Nat) : Int32 := (nI c).toInt8.toInt32
theorem sb_byte : ∀ c, c < 256 → sb_b c &&& 255 = nI c ∧ ((nI c).toUInt32 % 65536).toInt32 = nI c ∧ nI c ≤ 255 := by decide +kernel
def sb_Fit (a : Nat → Int32) : Prop := ∀ j, fits .byte (.int (a j)) = true
def sb_Lat (t : Nat → Nat) (n : Nat) (a : Nat → Int32) : Prop := ∀ j, j < n → t j < 256 ∧ a j = sb_b (t j)
theorem sb_fitB (c : Nat) : fits .byte (.int (sb_b c)) = true := pk_fb _
theorem sb_fit0 : sb_Fit (fun _ => 0) := fun _ => by
  show fits .byte (.int 0) = true
  decide
theorem sb_fitU {a : Nat → Int32} {k : Nat} {x : Int32} (h : sb_Fit a) (hx : fits .byte (.int x) = true) : sb_Fit (upd a k x) := by
  intro j
  by_cases e : j = k
  · subst e
    rw [pk_us]
    exact hx
  · rw [pk_un e]
    exact h j
def sb_cat (t : Nat → Nat) (n : Nat) (s : Nat → Nat) : Nat → Nat := fun j => if j < n then t j else s (j - n)
theorem sb_cat_lo {t s : Nat → Nat} {n j : Nat} (h : j < n) : sb_cat t n s j = t j := if_pos h
theorem sb_cat_hi {t s : Nat → Nat} {n j : Nat} : sb_cat t n s (n + j) = s j := by
  show (if n + j < n then t (n + j) else s (n + j - n)) = s j
  rw [if_neg (by omega), Nat.add_sub_cancel_left]
theorem sb_latPut {t s : Nat → Nat} {n w : Nat} {a a' : Nat → Int32} (h : sb_Lat t n a) (hk : ∀ j, j < n → a' j = a j) (hs : ∀ i, i < w → s i < 256 ∧ a' (n + i) = sb_b (s i)) : sb_Lat (sb_cat t n s) (n + w) a' := by
  intro j hj
  by_cases e : j < n
  · rw [sb_cat_lo e, hk j e]
    exact h j e
  · obtain ⟨i, rfl⟩ : ∃ i, j = n + i := ⟨j - n, by omega⟩
    rw [sb_cat_hi]
    exact hs i (by omega)
theorem sb_latKeep {t : Nat → Nat} {n : Nat} {a a' : Nat → Int32} (h : sb_Lat t n a) (hk : ∀ j, j < n → a' j = a j) : sb_Lat t n a' := fun j hj => by
  rw [hk j hj]
  exact h j hj
def sb_cap (q m : Nat) : Nat := if q ≤ m then m else if 2 * m + 2 < q then q else 2 * m + 2
def sb_Room (q m mc ms : Nat) : Prop := q ≤ m ∨ (1 ≤ mc ∧ sb_cap q m ≤ ms ∧ sb_cap q m ≤ 65536)
theorem sb_cap_ge (q m : Nat) : q ≤ sb_cap q m := by
  unfold sb_cap
  split
  · omega
  · split <;> omega
theorem sb_cap_gem (q m : Nat) : m ≤ sb_cap q m := by
  unfold sb_cap
  split
  · omega
  · split <;> omega
theorem sb_cap_le {q m mc ms : Nat} (hm : m ≤ 65536) (hr : sb_Room q m mc ms) : sb_cap q m ≤ 65536 := by
  rcases hr with h | h
  · rw [sb_cap, if_pos h]
    exact hm
  · exact h.2.2
theorem sb_at {P : Int32 → Prop} {x y : Int32} (e : x = y) (h : P y) : P x := e ▸ h
def sb_dg (w : Nat) : Nat := if w < 10 then 1 else if w < 100 then 2 else if w < 1000 then 3 else if w < 10000 then 4 else if w < 100000 then 5 else if w < 1000000 then 6 else if w < 10000000 then 7 else if w < 100000000 then 8 else if w < 1000000000 then 9 else 10
def sb_dec (v : Nat) : Nat → Nat := fun i => 48 + v / 10 ^ (sb_dg v - 1 - i) % 10
theorem sb_dg_in (w : Nat) : 1 ≤ sb_dg w ∧ sb_dg w ≤ 10 := by
  unfold sb_dg
  constructor <;> (repeat' split) <;> omega
theorem sb_dg100 {w : Nat} (h : 100 ≤ w) (hw : w < 2 ^ 31) : sb_dg w = sb_dg (w / 100) + 2 := by
  rw [sb_dg, sb_dg, if_neg (show ¬ w < 10 by omega), if_neg (show ¬ w < 100 by omega)]
  by_cases h3 : w < 1000
  · rw [if_pos h3, if_pos (show w / 100 < 10 by omega)]
  rw [if_neg h3, if_neg (show ¬ w / 100 < 10 by omega)]
  by_cases h4 : w < 10000
  · rw [if_pos h4, if_pos (show w / 100 < 100 by omega)]
  rw [if_neg h4, if_neg (show ¬ w / 100 < 100 by omega)]
  by_cases h5 : w < 100000
  · rw [if_pos h5, if_pos (show w / 100 < 1000 by omega)]
  rw [if_neg h5, if_neg (show ¬ w / 100 < 1000 by omega)]
  by_cases h6 : w < 1000000
  · rw [if_pos h6, if_pos (show w / 100 < 10000 by omega)]
  rw [if_neg h6, if_neg (show ¬ w / 100 < 10000 by omega)]
  by_cases h7 : w < 10000000
  · rw [if_pos h7, if_pos (show w / 100 < 100000 by omega)]
  rw [if_neg h7, if_neg (show ¬ w / 100 < 100000 by omega)]
  by_cases h8 : w < 100000000
  · rw [if_pos h8, if_pos (show w / 100 < 1000000 by omega)]
  rw [if_neg h8, if_neg (show ¬ w / 100 < 1000000 by omega)]
  by_cases h9 : w < 1000000000
  · rw [if_pos h9, if_pos (show w / 100 < 10000000 by omega)]
  rw [if_neg h9, if_neg (show ¬ w / 100 < 10000000 by omega)]
  rw [if_pos (show w / 100 < 100000000 by omega)]
theorem sb_negT {w : Nat} (h : w < 2 ^ 31) : (-nI w).toInt = -(w : Int) := by
  rw [Int32.toInt_neg, nI_toInt h]
  exact Int.bmod_eq_of_le (by omega) (by omega)
theorem sb_nle {a b : Nat} (ha : a < 2 ^ 31) (hb : b < 2 ^ 31) : -nI a ≤ -nI b ↔ b ≤ a := by
  rw [Int32.le_iff_toInt_le, sb_negT ha, sb_negT hb]
  omega
theorem sb_nlt {a b : Nat} (ha : a < 2 ^ 31) (hb : b < 2 ^ 31) : -nI a < -nI b ↔ b < a := by
  rw [Int32.lt_iff_toInt_lt, sb_negT ha, sb_negT hb]
  omega
theorem sb_cmp {A B : Prop} {x : Int32} (v c : Nat) (f : c ≤ v → A) (g : v < c → B) (hv : v < 2 ^ 31) (hx : x = -nI c := by rfl) (hc : c < 2 ^ 31 := by omega) : (-nI v ≤ x → A) ∧ (¬ -nI v ≤ x → B) := by
  subst hx
  rw [sb_nle hv hc]
  exact ⟨f, fun z => g (by omega)⟩
theorem sb_ndiv {w : Nat} (hw : w < 2 ^ 31) : (-nI w) / 100 = -nI (w / 100) := by
  apply Int32.toInt_inj.mp
  have h100 : (100 : Int32).toInt = 100 := by decide
  rw [Int32.toInt_div, sb_negT hw, h100, sb_negT (by omega), Int.neg_tdiv, Int.tdiv_eq_ediv_of_nonneg (by omega), Int.bmod_eq_of_le (by omega) (by omega)]
  omega
theorem sb_nrem {w : Nat} (hw : w < 2 ^ 31) : (-nI (w / 100)) * 100 - (-nI w) = nI (w % 100) := by
  have h := pk_rem (a := w) (d := 100) hw (by decide) (by decide)
  rw [pk_div hw (by decide) (by decide)] at h
  rw [← h]
  show (-nI (w / 100)) * nI 100 - (-nI w) = nI w - nI (w / 100) * nI 100
  rw [Int32.neg_mul, Int32.sub_neg, Int32.add_comm, ← Int32.sub_eq_add_neg]
end
section
/-- sum of f 0 .. f (n-1) -/
def sf_S : Nat → (Nat → Int) → Int
  | 0, _ => 0
  | n + 1, f => sf_S n f + f n
theorem sf_S_congr {n : Nat} {f g : Nat → Int} (h : ∀ j, j < n → f j = g j) : sf_S n f = sf_S n g := by
  induction n with
  | zero => rfl
  | succ n ih =>
    show sf_S n f + f n = sf_S n g + g n
    rw [ih (fun j hj => h j (by omega)), h n (by omega)]
theorem sf_S_lin {n : Nat} {f g h : Nat → Int} {c : Int} (e : ∀ j, j < n → f j = g j + c * h j) :
    sf_S n f = sf_S n g + c * sf_S n h := by
  induction n with
  | zero => show (0 : Int) = 0 + c * 0; omega
  | succ n ih =>
    show sf_S n f + f n = (sf_S n g + g n) + c * (sf_S n h + h n)
    rw [ih (fun j hj => e j (by omega)), e n (by omega), Int.mul_add]
    omega
theorem sf_S_zero {n : Nat} {f : Nat → Int} (e : ∀ j, j < n → f j = 0) : sf_S n f = 0 := by
  induction n with
  | zero => rfl
  | succ n ih =>
    show sf_S n f + f n = 0
    rw [ih (fun j hj => e j (by omega)), e n (by omega)]; rfl
theorem sf_S_dvd {n : Nat} {f : Nat → Int} {d : Int} (e : ∀ j, j < n → d ∣ f j) : d ∣ sf_S n f := by
  induction n with
  | zero => exact Int.dvd_zero d
  | succ n ih => exact Int.dvd_add (ih (fun j hj => e j (by omega))) (e n (by omega))
theorem sf_S_one {n : Nat} {f : Nat → Int} {s : Nat} (hs : s < n) (e : ∀ j, j < n → j ≠ s → f j = 0) : sf_S n f = f s := by
  induction n with
  | zero => omega
  | succ n ih =>
    show sf_S n f + f n = f s
    by_cases h : s = n
    · subst h
      rw [sf_S_zero (fun j hj => e j (by omega) (by omega))]; omega
    · rw [ih (by omega) (fun j hj hn => e j (by omega) hn), e n (by omega) (by omega)]; omega
theorem sf_S_upd {n : Nat} {f g : Nat → Int} {s : Nat} {c : Int} (hs : s < n) (e : ∀ j, j < n → j ≠ s → f j = g j) (h : f s = g s + c) : sf_S n f = sf_S n g + c := by
  induction n with
  | zero => omega
  | succ n ih =>
    show sf_S n f + f n = sf_S n g + g n + c
    by_cases hn : s = n
    · subst hn
      rw [sf_S_congr (fun j hj => e j (by omega) (by omega)), h]; omega
    · rw [ih (by omega) (fun j hj hn => e j (by omega) hn), e n (by omega) (by omega)]; omega
/-- the place l with place j left out -/
def sf_sk (j l : Nat) : Nat := if l < j then l else l + 1
theorem sf_sk_lt {j l k : Nat} (hl : l < k) : sf_sk j l < k + 1 := by unfold sf_sk; split <;> omega
theorem sf_sk_ne (j l : Nat) : sf_sk j l ≠ j := by unfold sf_sk; split <;> omega
theorem sf_sk_lo {j l : Nat} (h : l < j) : sf_sk j l = l := if_pos h
theorem sf_sk_hi {j l : Nat} (h : ¬ l < j) : sf_sk j l = l + 1 := if_neg h
theorem sf_sk_inj {j a b : Nat} (h : sf_sk j a = sf_sk j b) : a = b := by
  unfold sf_sk at h; split at h <;> split at h <;> omega
def sf_sn (j : Nat) (x : Int) : Int := if j % 2 = 0 then x else -x
theorem sf_sn_lin (j : Nat) (a b c : Int) : sf_sn j (a + c * b) = sf_sn j a + c * sf_sn j b := by
  unfold sf_sn; split
  · rfl
  · rw [Int.neg_add, Int.mul_neg]
theorem sf_sn_0 (j : Nat) : sf_sn j 0 = 0 := by unfold sf_sn; split <;> rfl
theorem sf_sn_dvd {j : Nat} {d x : Int} (h : d ∣ x) : d ∣ sf_sn j x := by
  unfold sf_sn; split
  · exact h
  · exact Int.dvd_neg.mpr h
/-- the determinant of the first k rows and columns, along row 0 -/
def sf_dt : Nat → (Nat → Nat → Int) → Int
  | 0, _ => 1
  | k + 1, f => sf_S (k + 1) (fun j => sf_sn j (f 0 j) * sf_dt k (fun i l => f (i + 1) (sf_sk j l)))
theorem sf_dt_s (k : Nat) (f : Nat → Nat → Int) : sf_dt (k + 1) f = sf_S (k + 1) (fun j => sf_sn j (f 0 j) * sf_dt k (fun i l => f (i + 1) (sf_sk j l))) := rfl
theorem sf_dt_congr {k : Nat} : ∀ {f g : Nat → Nat → Int}, (∀ i j, i < k → j < k → f i j = g i j) → sf_dt k f = sf_dt k g := by
  induction k with
  | zero => intros; rfl
  | succ k ih =>
    intro f g h
    rw [sf_dt_s, sf_dt_s]
    refine sf_S_congr fun j hj => ?_
    rw [h 0 j (by omega) hj, ih (f := fun i l => f (i + 1) (sf_sk j l)) (g := fun i l => g (i + 1) (sf_sk j l)) (fun i l hi hl => h _ _ (by omega) (sf_sk_lt hl))]
theorem sf_dt_row {k : Nat} : ∀ {f g h : Nat → Nat → Int} {s : Nat} {c : Int}, s < k →
    (∀ i j, i < k → j < k → i ≠ s → f i j = g i j ∧ f i j = h i j) → (∀ j, j < k → f s j = g s j + c * h s j) →
    sf_dt k f = sf_dt k g + c * sf_dt k h := by
  induction k with
  | zero => intro _ _ _ s _ hs; omega
  | succ k ih =>
    intro f g h s c hs h1 h2
    rw [sf_dt_s, sf_dt_s, sf_dt_s]
    refine sf_S_lin fun j hj => ?_
    cases s with
    | zero =>
      rw [h2 j hj, sf_sn_lin,
        ← sf_dt_congr (f := fun i l => f (i + 1) (sf_sk j l)) (g := fun i l => g (i + 1) (sf_sk j l)) (fun i l hi hl => (h1 _ _ (by omega) (sf_sk_lt hl) (by omega)).1),
        ← sf_dt_congr (f := fun i l => f (i + 1) (sf_sk j l)) (g := fun i l => h (i + 1) (sf_sk j l)) (fun i l hi hl => (h1 _ _ (by omega) (sf_sk_lt hl) (by omega)).2)]
      rw [Int.add_mul, Int.mul_assoc]
    | succ s =>
      have e := ih (f := fun i l => f (i + 1) (sf_sk j l)) (g := fun i l => g (i + 1) (sf_sk j l)) (h := fun i l => h (i + 1) (sf_sk j l)) (s := s) (c := c) (by omega)
        (fun i l hi hl hn => h1 _ _ (by omega) (sf_sk_lt hl) (by omega)) (fun l hl => h2 _ (sf_sk_lt hl))
      have e1 := h1 0 j (by omega) hj (by omega)
      rw [e, ← e1.1, ← e1.2, Int.mul_add, Int.mul_left_comm]
theorem sf_dt_col {k : Nat} : ∀ {f g h : Nat → Nat → Int} {s : Nat} {c : Int}, s < k →
    (∀ i j, i < k → j < k → j ≠ s → f i j = g i j ∧ f i j = h i j) → (∀ i, i < k → f i s = g i s + c * h i s) →
    sf_dt k f = sf_dt k g + c * sf_dt k h := by
  induction k with
  | zero => intro _ _ _ s _ hs; omega
  | succ k ih =>
    intro f g h s c hs h1 h2
    rw [sf_dt_s, sf_dt_s, sf_dt_s]
    refine sf_S_lin fun j hj => ?_
    by_cases e : j = s
    · subst e
      rw [h2 0 (by omega), sf_sn_lin,
        ← sf_dt_congr (f := fun i l => f (i + 1) (sf_sk j l)) (g := fun i l => g (i + 1) (sf_sk j l)) (fun i l hi hl => (h1 _ _ (by omega) (sf_sk_lt hl) (sf_sk_ne _ _)).1),
        ← sf_dt_congr (f := fun i l => f (i + 1) (sf_sk j l)) (g := fun i l => h (i + 1) (sf_sk j l)) (fun i l hi hl => (h1 _ _ (by omega) (sf_sk_lt hl) (sf_sk_ne _ _)).2)]
      rw [Int.add_mul, Int.mul_assoc]
    · have hx : ∃ s', s' < k ∧ sf_sk j s' = s := by
        by_cases q : s < j
        · exact ⟨s, by omega, sf_sk_lo q⟩
        · exact ⟨s - 1, by omega, by rw [sf_sk_hi (by omega)]; omega⟩
      obtain ⟨s', hs', es⟩ := hx
      have e2 := ih (f := fun i l => f (i + 1) (sf_sk j l)) (g := fun i l => g (i + 1) (sf_sk j l)) (h := fun i l => h (i + 1) (sf_sk j l)) (s := s') (c := c) hs'
        (fun i l hi hl hn => h1 _ _ (by omega) (sf_sk_lt hl) (fun z => hn (sf_sk_inj (z.trans es.symm)))) (fun i hi => by show f (i + 1) (sf_sk j s') = _; rw [es]; exact h2 _ (by omega))
      have e1 := h1 0 j (by omega) hj e
      rw [e2, ← e1.1, ← e1.2, Int.mul_add, Int.mul_left_comm]
theorem sf_dt_z {k : Nat} {f : Nat → Nat → Int} {s : Nat} (hs : s < k) (h : ∀ i, i < k → f i s = 0) : sf_dt k f = 0 := by
  have e := sf_dt_col (f := f) (g := f) (h := f) (s := s) (c := 1) hs (fun _ _ _ _ _ => ⟨rfl, rfl⟩) (fun i hi => by rw [h i hi]; rfl)
  omega
theorem sf_dt1 (f : Nat → Nat → Int) : sf_dt 1 f = f 0 0 := by
  simp [sf_dt, sf_S, sf_sn]
theorem sf_dt2 (f : Nat → Nat → Int) : sf_dt 2 f = f 0 0 * f 1 1 - f 0 1 * f 1 0 := by
  simp [sf_dt, sf_S, sf_sn, sf_sk]; grind
theorem sf_dt3 (f : Nat → Nat → Int) : sf_dt 3 f = f 0 0 * (f 1 1 * f 2 2 - f 1 2 * f 2 1) - f 0 1 * (f 1 0 * f 2 2 - f 1 2 * f 2 0) + f 0 2 * (f 1 0 * f 2 1 - f 1 1 * f 2 0) := by
  rw [sf_dt_s]; simp only [sf_dt2]; simp [sf_S, sf_sn, sf_sk]; grind
theorem sf_dt4 (f : Nat → Nat → Int) : sf_dt 4 f =
    f 0 0 * (f 1 1 * (f 2 2 * f 3 3 - f 2 3 * f 3 2) - f 1 2 * (f 2 1 * f 3 3 - f 2 3 * f 3 1) + f 1 3 * (f 2 1 * f 3 2 - f 2 2 * f 3 1))
    - f 0 1 * (f 1 0 * (f 2 2 * f 3 3 - f 2 3 * f 3 2) - f 1 2 * (f 2 0 * f 3 3 - f 2 3 * f 3 0) + f 1 3 * (f 2 0 * f 3 2 - f 2 2 * f 3 0))
    + f 0 2 * (f 1 0 * (f 2 1 * f 3 3 - f 2 3 * f 3 1) - f 1 1 * (f 2 0 * f 3 3 - f 2 3 * f 3 0) + f 1 3 * (f 2 0 * f 3 1 - f 2 1 * f 3 0))
    - f 0 3 * (f 1 0 * (f 2 1 * f 3 2 - f 2 2 * f 3 1) - f 1 1 * (f 2 0 * f 3 2 - f 2 2 * f 3 0) + f 1 2 * (f 2 0 * f 3 1 - f 2 1 * f 3 0)) := by
  rw [sf_dt_s]; simp only [sf_dt3]; simp [sf_S, sf_sn, sf_sk]; grind
end
section
/-- swap of the places s and s + 1 -/
def sf_sw (s j : Nat) : Nat := if j = s then s + 1 else if j = s + 1 then s else j
theorem sf_dt_tr {k : Nat} (hk : k ≤ 4) (f : Nat → Nat → Int) : sf_dt k (fun i j => f j i) = sf_dt k f := by
  have h : k = 0 ∨ k = 1 ∨ k = 2 ∨ k = 3 ∨ k = 4 := by omega
  rcases h with rfl | rfl | rfl | rfl | rfl
  · rfl
  · rw [sf_dt1, sf_dt1]
  · rw [sf_dt2, sf_dt2]; grind
  · rw [sf_dt3, sf_dt3]; grind
  · rw [sf_dt4, sf_dt4]; grind
theorem sf_dt_swap {k s : Nat} (hk : k ≤ 4) (hs : s + 1 < k) (f : Nat → Nat → Int) : sf_dt k (fun i j => f i (sf_sw s j)) = - sf_dt k f := by
  have h : (k = 2 ∧ s = 0) ∨ (k = 3 ∧ s = 0) ∨ (k = 3 ∧ s = 1) ∨ (k = 4 ∧ s = 0) ∨ (k = 4 ∧ s = 1) ∨ (k = 4 ∧ s = 2) := by omega
  rcases h with ⟨rfl, rfl⟩ | ⟨rfl, rfl⟩ | ⟨rfl, rfl⟩ | ⟨rfl, rfl⟩ | ⟨rfl, rfl⟩ | ⟨rfl, rfl⟩
  · rw [sf_dt2, sf_dt2]; simp [sf_sw]; grind
  · rw [sf_dt3, sf_dt3]; simp [sf_sw]; grind
  · rw [sf_dt3, sf_dt3]; simp [sf_sw]; grind
  · rw [sf_dt4, sf_dt4]; simp [sf_sw]; grind
  · rw [sf_dt4, sf_dt4]; simp [sf_sw]; grind
  · rw [sf_dt4, sf_dt4]; simp [sf_sw]; grind
theorem sf_dt_rswap {k s : Nat} (hk : k ≤ 4) (hs : s + 1 < k) (f : Nat → Nat → Int) : sf_dt k (fun i j => f (sf_sw s i) j) = - sf_dt k f := by
  have e1 := sf_dt_tr hk (fun i j => f (sf_sw s i) j)
  have e2 := sf_dt_swap hk hs (fun i j => f j i)
  have e3 := sf_dt_tr hk f
  rw [← e1, ← e3]; exact e2
theorem sf_sw_lt {s j k : Nat} (hs : s + 1 < k) (hj : j < k) : sf_sw s j < k := by
  unfold sf_sw; split
  · omega
  · split <;> omega
theorem sf_dt_ceq {k s : Nat} (hk : k ≤ 4) (hs : s + 1 < k) (f : Nat → Nat → Int) (h : ∀ i, i < k → f i s = f i (s + 1)) : sf_dt k f = 0 := by
  have e := sf_dt_swap hk hs f
  have e2 : sf_dt k (fun i j => f i (sf_sw s j)) = sf_dt k f := by
    refine sf_dt_congr fun i j hi hj => ?_
    unfold sf_sw
    by_cases a : j = s
    · rw [if_pos a, a, h i hi]
    · rw [if_neg a]
      by_cases b : j = s + 1
      · rw [if_pos b, b, h i hi]
      · rw [if_neg b]
  omega
theorem sf_dt_req {k s : Nat} (hk : k ≤ 4) (hs : s + 1 < k) (f : Nat → Nat → Int) (h : ∀ j, j < k → f s j = f (s + 1) j) : sf_dt k f = 0 := by
  rw [← sf_dt_tr hk f]
  exact sf_dt_ceq hk hs (fun i j => f j i) h
/-- along any column -/
theorem sf_dt_colx {k s : Nat} (hk : k + 1 ≤ 4) (hs : s ≤ k) (f : Nat → Nat → Int) :
    sf_dt (k + 1) f = sf_S (k + 1) (fun i => sf_sn (i + s) (f i s) * sf_dt k (fun a b => f (sf_sk i a) (sf_sk s b))) := by
  have h : (k = 0 ∧ s = 0) ∨ (k = 1 ∧ s = 0) ∨ (k = 1 ∧ s = 1) ∨ (k = 2 ∧ s = 0) ∨ (k = 2 ∧ s = 1) ∨ (k = 2 ∧ s = 2) ∨ (k = 3 ∧ s = 0) ∨ (k = 3 ∧ s = 1) ∨ (k = 3 ∧ s = 2) ∨ (k = 3 ∧ s = 3) := by omega
  rcases h with ⟨rfl, rfl⟩ | ⟨rfl, rfl⟩ | ⟨rfl, rfl⟩ | ⟨rfl, rfl⟩ | ⟨rfl, rfl⟩ | ⟨rfl, rfl⟩ | ⟨rfl, rfl⟩ | ⟨rfl, rfl⟩ | ⟨rfl, rfl⟩ | ⟨rfl, rfl⟩
  · simp [sf_dt, sf_S, sf_sn]
  · rw [sf_dt2]; simp only [sf_dt1]; simp [sf_S, sf_sn, sf_sk]; grind
  · rw [sf_dt2]; simp only [sf_dt1]; simp [sf_S, sf_sn, sf_sk]; grind
  · rw [sf_dt3]; simp only [sf_dt2]; simp [sf_S, sf_sn, sf_sk]; grind
  · rw [sf_dt3]; simp only [sf_dt2]; simp [sf_S, sf_sn, sf_sk]; grind
  · rw [sf_dt3]; simp only [sf_dt2]; simp [sf_S, sf_sn, sf_sk]; grind
  · rw [sf_dt4]; simp only [sf_dt3]; simp [sf_S, sf_sn, sf_sk]; grind
  · rw [sf_dt4]; simp only [sf_dt3]; simp [sf_S, sf_sn, sf_sk]; grind
  · rw [sf_dt4]; simp only [sf_dt3]; simp [sf_S, sf_sn, sf_sk]; grind
  · rw [sf_dt4]; simp only [sf_dt3]; simp [sf_S, sf_sn, sf_sk]; grind
/-- along the last row: what stands before an entry of that row doesn't depend on the row -/
theorem sf_dt_last {r : Nat} (hk : r + 1 ≤ 4) (f : Nat → Nat → Int) : ∃ K : Nat → Int, ∀ w : Nat → Int,
    sf_dt (r + 1) (fun a b => if a < r then f a b else w b) = sf_S r (fun b => w b * K b) + w r * sf_dt r f := by
  have h : r = 0 ∨ r = 1 ∨ r = 2 ∨ r = 3 := by omega
  rcases h with rfl | rfl | rfl | rfl
  · exact ⟨fun _ => 0, fun w => by simp [sf_dt, sf_S, sf_sn]⟩
  · refine ⟨fun _ => - f 0 1, fun w => ?_⟩
    rw [sf_dt2, sf_dt1]; simp [sf_S]; grind
  · refine ⟨fun b => if b = 0 then f 0 1 * f 1 2 - f 0 2 * f 1 1 else - (f 0 0 * f 1 2 - f 0 2 * f 1 0), fun w => ?_⟩
    rw [sf_dt3, sf_dt2]; simp [sf_S]; grind
  · refine ⟨fun b => if b = 0 then - (f 0 1 * (f 1 2 * f 2 3 - f 1 3 * f 2 2) - f 0 2 * (f 1 1 * f 2 3 - f 1 3 * f 2 1) + f 0 3 * (f 1 1 * f 2 2 - f 1 2 * f 2 1))
      else if b = 1 then f 0 0 * (f 1 2 * f 2 3 - f 1 3 * f 2 2) - f 0 2 * (f 1 0 * f 2 3 - f 1 3 * f 2 0) + f 0 3 * (f 1 0 * f 2 2 - f 1 2 * f 2 0)
      else - (f 0 0 * (f 1 1 * f 2 3 - f 1 3 * f 2 1) - f 0 1 * (f 1 0 * f 2 3 - f 1 3 * f 2 0) + f 0 3 * (f 1 0 * f 2 1 - f 1 1 * f 2 0)), fun w => ?_⟩
    rw [sf_dt4, sf_dt3]; simp [sf_S]; grind
/-- Sylvester's identity, as far as it is needed -/
theorem sf_syl {k : Nat} (hk : k ≤ 2) (f : Nat → Nat → Int) :
    sf_dt (k + 1) f * sf_dt (k + 1) (fun a b => f (if a < k then a else k + 1) (if b < k then b else k + 1))
      - sf_dt (k + 1) (fun a b => f (if a < k then a else k + 1) b) * sf_dt (k + 1) (fun a b => f a (if b < k then b else k + 1))
      = sf_dt k f * sf_dt (k + 2) f := by
  have h : k = 0 ∨ k = 1 ∨ k = 2 := by omega
  rcases h with rfl | rfl | rfl
  · simp only [Nat.reduceAdd, sf_dt1, sf_dt2]; simp [sf_dt]; exact Int.mul_comm _ _
  · simp only [Nat.reduceAdd, sf_dt1, sf_dt2, sf_dt3]; simp; grind
  · simp only [Nat.reduceAdd, sf_dt2, sf_dt3, sf_dt4]; simp; grind
theorem sf_dt_scale {k : Nat} (c : Int) : ∀ f : Nat → Nat → Int, sf_dt k (fun i j => c * f i j) = c ^ k * sf_dt k f := by
  induction k with
  | zero => intro f; show (1 : Int) = c ^ 0 * 1; simp
  | succ k ih =>
    intro f
    rw [sf_dt_s, sf_dt_s]
    have e : sf_S (k + 1) (fun j => sf_sn j (c * f 0 j) * sf_dt k (fun i l => c * f (i + 1) (sf_sk j l))) = sf_S (k + 1) (fun _ => 0) + c ^ (k + 1) * sf_S (k + 1) (fun j => sf_sn j (f 0 j) * sf_dt k (fun i l => f (i + 1) (sf_sk j l))) := by
      refine sf_S_lin fun j hj => ?_
      rw [ih (fun i l => f (i + 1) (sf_sk j l))]
      have e2 : sf_sn j (c * f 0 j) = c * sf_sn j (f 0 j) := by
        have := sf_sn_lin j 0 (f 0 j) c
        rw [sf_sn_0, Int.zero_add, Int.zero_add] at this; exact this
      rw [e2, Int.pow_succ]; grind
    rw [e, sf_S_zero (fun _ _ => rfl), Int.zero_add]
/-- the measure of a tuple for sorting -/
def sf_mu (K : Nat) (c : Nat → Nat) : Nat → Nat
  | 0 => 0
  | n + 1 => sf_mu K c n + (K - n) * c n
theorem sf_mu_congr {K : Nat} {c c' : Nat → Nat} : ∀ n, (∀ j, j < n → c j = c' j) → sf_mu K c n = sf_mu K c' n := by
  intro n
  induction n with
  | zero => intro _; rfl
  | succ n ih =>
    intro h
    show sf_mu K c n + (K - n) * c n = sf_mu K c' n + (K - n) * c' n
    rw [ih (fun j hj => h j (by omega)), h n (by omega)]
theorem sf_mu_sw {K : Nat} {c : Nat → Nat} {s : Nat} (hd : c (s + 1) < c s) : ∀ d, s + 2 + d ≤ K →
    sf_mu K (fun j => c (sf_sw s j)) (s + 2 + d) < sf_mu K c (s + 2 + d) := by
  intro d
  induction d with
  | zero =>
    intro hK
    have e := sf_mu_congr (K := K) (c := fun j => c (sf_sw s j)) (c' := c) s (fun j hj => by
      show c (sf_sw s j) = c j
      unfold sf_sw; rw [if_neg (by omega), if_neg (by omega)])
    show sf_mu K (fun j => c (sf_sw s j)) s + (K - s) * c (sf_sw s s) + (K - (s + 1)) * c (sf_sw s (s + 1)) < sf_mu K c s + (K - s) * c s + (K - (s + 1)) * c (s + 1)
    have e1 : sf_sw s s = s + 1 := if_pos rfl
    have e2 : sf_sw s (s + 1) = s := by unfold sf_sw; rw [if_neg (by omega), if_pos rfl]
    obtain ⟨a, ha⟩ : ∃ a, K - s = a + 1 := ⟨K - s - 1, by omega⟩
    have hb : K - (s + 1) = a := by omega
    rw [e, e1, e2, ha, hb, Nat.succ_mul, Nat.succ_mul]
    omega
  | succ d ih =>
    intro hK
    have h := ih (by omega)
    show sf_mu K (fun j => c (sf_sw s j)) (s + 2 + d) + (K - (s + 2 + d)) * c (sf_sw s (s + 2 + d)) < sf_mu K c (s + 2 + d) + (K - (s + 2 + d)) * c (s + 2 + d)
    have e : sf_sw s (s + 2 + d) = s + 2 + d := by unfold sf_sw; rw [if_neg (by omega), if_neg (by omega)]
    rw [e]; omega
theorem sf_sort (k : Nat) (P : (Nat → Nat) → Prop)
    (hsw : ∀ c s, s + 1 < k → P (fun j => c (sf_sw s j)) → P c)
    (heq : ∀ c s, s + 1 < k → c s = c (s + 1) → P c)
    (hin : ∀ c, (∀ s, s + 1 < k → c s < c (s + 1)) → P c) : ∀ c, P c := by
  have H : ∀ N c, sf_mu k c k < N → P c := by
    intro N
    induction N with
    | zero => intro c h; omega
    | succ N ih =>
      intro c h
      by_cases q : ∀ s, s + 1 < k → c s < c (s + 1)
      · exact hin c q
      · have q' : ∃ s, ¬ (s + 1 < k → c s < c (s + 1)) := Classical.not_forall.mp q
        obtain ⟨s, hs⟩ := q'
        have hs1 : s + 1 < k := Classical.byContradiction fun z => hs (fun y => absurd y z)
        have hs2 : ¬ c s < c (s + 1) := fun z => hs (fun _ => z)
        by_cases e : c s = c (s + 1)
        · exact heq c s hs1 e
        · refine hsw c s hs1 (ih _ ?_)
          have := sf_mu_sw (K := k) (c := c) (s := s) (by omega) (k - (s + 2)) (by omega)
          have ek : s + 2 + (k - (s + 2)) = k := by omega
          rw [ek] at this
          omega
  exact fun c => H (sf_mu k c k + 1) c (by omega)
end
section
/-- v lies in the lattice of F's N columns and M times the units, on the rows below m -/
def sf_In (m N : Nat) (M : Int) (F : Nat → Nat → Int) (v : Nat → Int) : Prop :=
  ∃ x : Nat → Int, ∀ i, i < m → M ∣ v i - sf_S N (fun j => F i j * x j)
/-- d divides every k-determinant of vectors of the lattice -/
def sf_Dv (m N : Nat) (M : Int) (F : Nat → Nat → Int) (k : Nat) (d : Int) : Prop :=
  ∀ (v : Nat → Nat → Int) (r : Nat → Nat), (∀ j, j < k → sf_In m N M F (v j)) → (∀ i, i < k → r i < m) → d ∣ sf_dt k (fun i j => v j (r i))
/-- d divides every k-minor of F -/
def sf_Gc (m N : Nat) (F : Nat → Nat → Int) (k : Nat) (d : Int) : Prop :=
  ∀ r c : Nat → Nat, (∀ i, i < k → r i < m) → (∀ j, j < k → c j < N) → d ∣ sf_dt k (fun i j => F (r i) (c j))
def sf_cs (f : Nat → Nat → Int) (s : Nat) (w : Nat → Int) : Nat → Nat → Int := fun i j => if j = s then w i else f i j
theorem sf_cs_s (f : Nat → Nat → Int) (s : Nat) (w : Nat → Int) (i : Nat) : sf_cs f s w i s = w i := if_pos rfl
theorem sf_cs_n (f : Nat → Nat → Int) {s : Nat} (w : Nat → Int) (i : Nat) {j : Nat} (h : j ≠ s) : sf_cs f s w i j = f i j := if_neg h
theorem sf_cs_lin {k s : Nat} (hs : s < k) (f : Nat → Nat → Int) {a b w : Nat → Int} {c : Int} (h : ∀ i, i < k → w i = a i + c * b i) :
    sf_dt k (sf_cs f s w) = sf_dt k (sf_cs f s a) + c * sf_dt k (sf_cs f s b) := by
  refine sf_dt_col hs (fun i j hi hj hn => ?_) (fun i hi => ?_)
  · rw [sf_cs_n f w i hn, sf_cs_n f a i hn, sf_cs_n f b i hn]; exact ⟨rfl, rfl⟩
  · rw [sf_cs_s, sf_cs_s, sf_cs_s]; exact h i hi
theorem sf_cs_sum {k s : Nat} (hs : s < k) (f : Nat → Nat → Int) {G : Nat → Nat → Int} {x : Nat → Int} {d : Int} : ∀ N : Nat,
    (∀ l, l < N → d ∣ sf_dt k (sf_cs f s (fun i => G i l))) → d ∣ sf_dt k (sf_cs f s (fun i => sf_S N (fun l => G i l * x l))) := by
  intro N
  induction N with
  | zero =>
    intro _
    rw [sf_dt_z hs (fun i hi => by rw [sf_cs_s]; rfl)]
    exact Int.dvd_zero d
  | succ N ih =>
    intro h
    have e := sf_cs_lin hs f (w := fun i => sf_S (N + 1) (fun l => G i l * x l)) (a := fun i => sf_S N (fun l => G i l * x l)) (b := fun i => G i N) (c := x N)
      (fun i hi => by show sf_S N (fun l => G i l * x l) + G i N * x N = _; rw [Int.mul_comm (G i N)])
    rw [e]
    exact Int.dvd_add (ih (fun l hl => h l (by omega))) (Int.dvd_trans (h N (by omega)) (Int.dvd_mul_left _ _))
theorem sf_In_z {m N : Nat} {M : Int} {F : Nat → Nat → Int} {v : Nat → Int} (h : sf_In m N M F v) :
    ∃ x z : Nat → Int, ∀ i, i < m → v i = sf_S N (fun j => F i j * x j) + M * z i := by
  obtain ⟨x, hx⟩ := h
  refine ⟨x, fun i => (v i - sf_S N (fun j => F i j * x j)) / M, fun i hi => ?_⟩
  have := Int.mul_ediv_cancel' (hx i hi)
  show v i = _ + M * ((v i - sf_S N (fun j => F i j * x j)) / M)
  rw [this]; omega
theorem sf_gen {m N k : Nat} {M d : Int} {F : Nat → Nat → Int} (hM : d ∣ M) (hG : sf_Gc m N F k d) : sf_Dv m N M F k d := by
  have H : ∀ s, s ≤ k → ∀ (v : Nat → Nat → Int) (r c : Nat → Nat), (∀ j, j < s → sf_In m N M F (v j)) → (∀ i, i < k → r i < m) → (∀ j, j < k → c j < N ∨ j < s) →
      d ∣ sf_dt k (fun i j => if j < s then v j (r i) else F (r i) (c j)) := by
    intro s
    induction s with
    | zero =>
      intro _ v r c _ hr hc
      exact hG r c hr (fun j hj => (hc j hj).resolve_right (by omega))
    | succ s ih =>
      intro hs v r c hv hr hc
      obtain ⟨x, z, hz⟩ := sf_In_z (hv s (by omega))
      have e0 : sf_dt k (fun i j => if j < s + 1 then v j (r i) else F (r i) (c j)) = sf_dt k (sf_cs (fun i j => if j < s then v j (r i) else F (r i) (c j)) s (fun i => v s (r i))) := by
        refine sf_dt_congr fun i j hi hj => ?_
        unfold sf_cs; dsimp only
        by_cases a : j = s
        · rw [if_pos a, if_pos (by omega), a]
        · rw [if_neg a]
          by_cases b : j < s
          · rw [if_pos b, if_pos (by omega)]
          · rw [if_neg b, if_neg (by omega)]
      rw [e0, sf_cs_lin (by omega) _ (a := fun i => sf_S N (fun l => F (r i) l * x l)) (b := fun i => z (r i)) (c := M) (fun i hi => hz _ (hr i hi))]
      refine Int.dvd_add (sf_cs_sum (by omega) _ N fun l hl => ?_) (Int.dvd_trans hM (Int.dvd_mul_right _ _))
      have h2 := ih (by omega) v r (fun j => if j = s then l else c j) (fun j hj => hv j (by omega)) hr (fun j hj => by
        by_cases a : j = s
        · rw [if_pos a]; exact Or.inl hl
        · rw [if_neg a]
          rcases hc j hj with q | q
          · exact Or.inl q
          · exact Or.inr (by omega))
      refine (sf_dt_congr fun i j hi hj => ?_) ▸ h2
      unfold sf_cs; dsimp only
      by_cases a : j = s
      · rw [if_neg (by omega), if_pos a, if_pos a]
      · rw [if_neg a, if_neg a]
  intro v r hv hr
  have := H k (Nat.le_refl k) v r (fun _ => 0) hv hr (fun j hj => Or.inr hj)
  refine (sf_dt_congr fun i j hi hj => ?_) ▸ this
  rw [if_pos hj]
theorem sf_In_col {m N : Nat} {M : Int} {F : Nat → Nat → Int} {c : Nat} (hc : c < N) : sf_In m N M F (fun i => F i c) := by
  refine ⟨fun j => if j = c then 1 else 0, fun i hi => ?_⟩
  rw [sf_S_one hc (fun j hj hn => by dsimp only; rw [if_neg hn, Int.mul_zero])]
  dsimp only
  rw [if_pos rfl, Int.mul_one, Int.sub_self]
  exact Int.dvd_zero M
theorem sf_Dv_Gc {m N k : Nat} {M d : Int} {F : Nat → Nat → Int} (h : sf_Dv m N M F k d) : sf_Gc m N F k d :=
  fun r c hr hc => h (fun j i => F i (c j)) r (fun j hj => sf_In_col (hc j hj)) hr
/-- divisors of the k-minors divide the (k+1)-minors -/
theorem sf_Gc_up {m N k : Nat} {d : Int} {F : Nat → Nat → Int} (h : sf_Gc m N F k d) : sf_Gc m N F (k + 1) d := by
  intro r c hr hc
  rw [sf_dt_s]
  refine sf_S_dvd fun j hj => Int.dvd_trans ?_ (Int.dvd_mul_left _ _)
  exact h (fun i => r (i + 1)) (fun l => c (sf_sk j l)) (fun i hi => hr _ (by omega)) (fun l hl => hc _ (sf_sk_lt hl))
theorem sf_Gc_ge {m N k : Nat} {d : Int} {F : Nat → Nat → Int} (h : sf_Gc m N F k d) : ∀ e, sf_Gc m N F (k + e) d := by
  intro e
  induction e with
  | zero => exact h
  | succ e ih => exact sf_Gc_up ih
theorem sf_rows {m k : Nat} (hk : k ≤ 4) {d : Int} {G : Nat → Nat → Int}
    (h : ∀ r : Nat → Nat, (∀ i, i < k → r i < m) → (∀ s, s + 1 < k → r s < r (s + 1)) → d ∣ sf_dt k (fun i j => G (r i) j)) :
    ∀ r : Nat → Nat, (∀ i, i < k → r i < m) → d ∣ sf_dt k (fun i j => G (r i) j) := by
  refine sf_sort k (fun r => (∀ i, i < k → r i < m) → d ∣ sf_dt k (fun i j => G (r i) j)) ?_ ?_ ?_
  · intro r s hs ih hr
    have h1 := ih (fun i hi => hr _ (sf_sw_lt hs hi))
    rw [sf_dt_rswap hk hs (fun i j => G (r i) j)] at h1
    exact Int.dvd_neg.mp h1
  · intro r s hs he hr
    rw [sf_dt_req hk hs (fun i j => G (r i) j) (fun j hj => by show G (r s) j = G (r (s + 1)) j; rw [he])]
    exact Int.dvd_zero d
  · exact fun r hs hr => h r hr hs
theorem sf_cols {N k : Nat} (hk : k ≤ 4) {d : Int} {G : Nat → Nat → Int}
    (h : ∀ r : Nat → Nat, (∀ i, i < k → r i < N) → (∀ s, s + 1 < k → r s < r (s + 1)) → d ∣ sf_dt k (fun i j => G i (r j))) :
    ∀ r : Nat → Nat, (∀ i, i < k → r i < N) → d ∣ sf_dt k (fun i j => G i (r j)) := by
  intro r hr
  have := sf_rows (m := N) hk (d := d) (G := fun i j => G j i) (fun r hr hs => by
    have e := sf_dt_tr hk (fun i j => G i (r j))
    rw [e]; exact h r hr hs) r hr
  rw [← sf_dt_tr hk (fun i j => G i (r j))]
  exact this
/-- it is enough to ask the minors of increasing rows and columns -/
theorem sf_Gc_inc {m N k : Nat} (hk : k ≤ 4) {d : Int} {F : Nat → Nat → Int}
    (h : ∀ r c : Nat → Nat, (∀ i, i < k → r i < m) → (∀ j, j < k → c j < N) → (∀ s, s + 1 < k → r s < r (s + 1)) → (∀ s, s + 1 < k → c s < c (s + 1)) →
      d ∣ sf_dt k (fun i j => F (r i) (c j))) : sf_Gc m N F k d := by
  intro r c hr hc
  refine sf_rows (m := m) hk (G := fun i j => F i (c j)) (fun r hr hs => ?_) r hr
  exact sf_cols (N := N) hk (G := fun i j => F (r i) j) (fun c hc hs2 => h r c hr hc hs hs2) c hc
theorem sf_inc_ge {k : Nat} {r : Nat → Nat} (h : ∀ s, s + 1 < k → r s < r (s + 1)) : ∀ i, i < k → i ≤ r i := by
  intro i
  induction i with
  | zero => intro _; omega
  | succ i ih =>
    intro hi
    have := ih (by omega)
    have := h i hi
    omega
theorem sf_Gc_big {m N k : Nat} (hk : k ≤ 4) (hm : m < k) {d : Int} {F : Nat → Nat → Int} : sf_Gc m N F k d := by
  refine sf_Gc_inc hk fun r c hr hc hs _ => ?_
  have := sf_inc_ge hs (k - 1) (by omega)
  have := hr (k - 1) (by omega)
  omega
theorem sf_Gc_bigN {m N k : Nat} (hk : k ≤ 4) (hm : N < k) {d : Int} {F : Nat → Nat → Int} : sf_Gc m N F k d := by
  refine sf_Gc_inc hk fun r c hr hc _ hs => ?_
  have := sf_inc_ge hs (k - 1) (by omega)
  have := hc (k - 1) (by omega)
  omega
/-- if the (r+1)-minors vanish and g divides the r-determinants, M * g divides the (r+1)-determinants -/
theorem sf_F4 {m N r : Nat} {M g : Int} {F : Nat → Nat → Int} (hr4 : r + 1 ≤ 4) (hz : sf_Gc m N F (r + 1) 0) (hg : sf_Dv m N M F r g) : sf_Dv m N M F (r + 1) (M * g) := by
  intro v ro hv hr
  have hx : ∀ j, ∃ x : (Nat → Int) × (Nat → Int), j < r + 1 → ∀ i, i < m → v j i = sf_S N (fun l => F i l * x.1 l) + M * x.2 i := by
    intro j
    by_cases hj : j < r + 1
    · obtain ⟨x, z, h⟩ := sf_In_z (hv j hj)
      exact ⟨(x, z), fun _ => h⟩
    · exact ⟨(fun _ => 0, fun _ => 0), fun q => absurd q hj⟩
  obtain ⟨X, hX⟩ := Classical.axiomOfChoice hx
  have huL : ∀ (M' : Int) j, sf_In m N M' F (fun i => sf_S N (fun l => F i l * (X j).1 l)) := fun M' j => ⟨(X j).1, fun i hi => by rw [Int.sub_self]; exact Int.dvd_zero _⟩
  have H : ∀ s, s ≤ r + 1 → M * g ∣ sf_dt (r + 1) (fun i j => if j < s then v j (ro i) else sf_S N (fun l => F (ro i) l * (X j).1 l)) := by
    intro s
    induction s with
    | zero =>
      intro _
      have h0 := sf_gen (M := 0) (d := 0) (Int.dvd_refl 0) hz (fun j i => sf_S N (fun l => F i l * (X j).1 l)) ro (fun j _ => huL 0 j) hr
      have e0 := Int.zero_dvd.mp h0
      have e1 : sf_dt (r + 1) (fun i j => if j < 0 then v j (ro i) else sf_S N (fun l => F (ro i) l * (X j).1 l)) = 0 := by
        rw [← e0]
        exact sf_dt_congr fun i j hi hj => if_neg (by omega)
      rw [e1]; exact Int.dvd_zero _
    | succ s ih =>
      intro hs
      have e0 : sf_dt (r + 1) (fun i j => if j < s + 1 then v j (ro i) else sf_S N (fun l => F (ro i) l * (X j).1 l)) = sf_dt (r + 1) (sf_cs (fun i j => if j < s then v j (ro i) else sf_S N (fun l => F (ro i) l * (X j).1 l)) s (fun i => v s (ro i))) := by
        refine sf_dt_congr fun i j hi hj => ?_
        unfold sf_cs; dsimp only
        by_cases a : j = s
        · rw [if_pos a, if_pos (by omega), a]
        · rw [if_neg a]
          by_cases b : j < s
          · rw [if_pos b, if_pos (by omega)]
          · rw [if_neg b, if_neg (by omega)]
      rw [e0, sf_cs_lin (by omega) _ (a := fun i => sf_S N (fun l => F (ro i) l * (X s).1 l)) (b := fun i => (X s).2 (ro i)) (c := M) (fun i hi => hX s (by omega) _ (hr i hi))]
      refine Int.dvd_add ?_ (Int.mul_dvd_mul (Int.dvd_refl M) ?_)
      · refine (sf_dt_congr fun i j hi hj => ?_) ▸ ih (by omega)
        unfold sf_cs; dsimp only
        by_cases a : j = s
        · rw [if_neg (by omega), if_pos a, a]
        · rw [if_neg a]
      · rw [sf_dt_colx (s := s) hr4 (by omega)]
        refine sf_S_dvd fun i hi => Int.dvd_trans ?_ (Int.dvd_mul_left _ _)
        have h3 := hg (fun b => if sf_sk s b < s then v (sf_sk s b) else fun i => sf_S N (fun l => F i l * (X (sf_sk s b)).1 l)) (fun a => ro (sf_sk i a)) (fun b hb => by
          by_cases q : sf_sk s b < s
          · rw [if_pos q]; exact hv _ (sf_sk_lt hb)
          · rw [if_neg q]; exact huL M _) (fun a ha => hr _ (sf_sk_lt ha))
        refine (sf_dt_congr fun a b ha hb => ?_) ▸ h3
        rw [sf_cs_n _ _ _ (sf_sk_ne s b)]
        by_cases q : sf_sk s b < s
        · rw [if_pos q, if_pos q]
        · rw [if_neg q, if_neg q]
  refine (sf_dt_congr fun i j hi hj => ?_) ▸ H (r + 1) (Nat.le_refl _)
  rw [if_pos hj]
end
section
def sf_pr : Nat → (Nat → Int) → Int
  | 0, _ => 1
  | k + 1, a => a 0 * sf_pr k (fun i => a (i + 1))
theorem sf_pr_s (k : Nat) (a : Nat → Int) : sf_pr (k + 1) a = a 0 * sf_pr k (fun i => a (i + 1)) := rfl
theorem sf_pr_congr {k : Nat} : ∀ {a b : Nat → Int}, (∀ i, i < k → a i = b i) → sf_pr k a = sf_pr k b := by
  induction k with
  | zero => intros; rfl
  | succ k ih =>
    intro a b h
    rw [sf_pr_s, sf_pr_s, h 0 (by omega), ih (a := fun i => a (i + 1)) (b := fun i => b (i + 1)) (fun i hi => h _ (by omega))]
theorem sf_pr_last (k : Nat) : ∀ a : Nat → Int, sf_pr (k + 1) a = sf_pr k a * a k := by
  induction k with
  | zero => intro a; show a 0 * 1 = 1 * a 0; omega
  | succ k ih =>
    intro a
    rw [sf_pr_s, ih (fun i => a (i + 1)), sf_pr_s k a, Int.mul_assoc]
theorem sf_pr_sk {k : Nat} : ∀ {s : Nat} (_ : s ≤ k) (a : Nat → Int), sf_pr (k + 1) a = a s * sf_pr k (fun i => a (sf_sk s i)) := by
  induction k with
  | zero =>
    intro s hs a
    have e : s = 0 := by omega
    subst e; rfl
  | succ k ih =>
    intro s hs a
    cases s with
    | zero => rfl
    | succ s =>
      rw [sf_pr_s, ih (s := s) (by omega) (fun i => a (i + 1)), sf_pr_s]
      have e0 : sf_sk (s + 1) 0 = 0 := sf_sk_lo (by omega)
      have e1 : ∀ i, sf_sk (s + 1) (i + 1) = sf_sk s i + 1 := by
        intro i; unfold sf_sk; split <;> split <;> omega
      rw [e0]; simp only [e1]; rw [Int.mul_left_comm]
theorem sf_pr_pos {k : Nat} : ∀ {a : Nat → Int}, (∀ i, i < k → 0 < a i) → 0 < sf_pr k a := by
  induction k with
  | zero => intro a _; show (0 : Int) < 1; omega
  | succ k ih =>
    intro a h
    rw [sf_pr_s]
    exact Int.mul_pos (h 0 (by omega)) (ih (fun i hi => h _ (by omega)))
theorem sf_pr_dvd {k : Nat} : ∀ {a : Nat → Int} {f : Nat → Nat → Int}, (∀ i j, i < k → j < k → a i ∣ f i j) → sf_pr k a ∣ sf_dt k f := by
  induction k with
  | zero => intro a f _; exact Int.dvd_refl 1
  | succ k ih =>
    intro a f h
    rw [sf_dt_s, sf_pr_s]
    refine sf_S_dvd fun j hj => Int.mul_dvd_mul (sf_sn_dvd (h 0 j (by omega) hj)) ?_
    exact ih (a := fun i => a (i + 1)) (f := fun i l => f (i + 1) (sf_sk j l)) (fun i l hi hl => h _ _ (by omega) (sf_sk_lt hl))
theorem sf_dt_lt {k : Nat} : ∀ {f : Nat → Nat → Int}, (∀ i j, i < j → j < k → f i j = 0) → sf_dt k f = sf_pr k (fun i => f i i) := by
  induction k with
  | zero => intros; rfl
  | succ k ih =>
    intro f h
    rw [sf_dt_s, sf_pr_s, sf_S_one (s := 0) (by omega) (fun j hj hn => by rw [h 0 j (by omega) hj, sf_sn_0, Int.zero_mul])]
    have e : sf_dt k (fun i l => f (i + 1) (sf_sk 0 l)) = sf_pr k (fun i => f (i + 1) (i + 1)) := ih (f := fun i l => f (i + 1) (l + 1)) (fun i j hij hj => h _ _ (by omega) (by omega))
    rw [e]; rfl
/-- bounds -/
def sf_np : Nat → (Nat → Nat) → Nat
  | 0, _ => 1
  | k + 1, a => a 0 * sf_np k (fun i => a (i + 1))
theorem sf_np_s (k : Nat) (a : Nat → Nat) : sf_np (k + 1) a = a 0 * sf_np k (fun i => a (i + 1)) := rfl
theorem sf_np_sk {k : Nat} : ∀ {s : Nat} (_ : s ≤ k) (a : Nat → Nat), sf_np (k + 1) a = a s * sf_np k (fun i => a (sf_sk s i)) := by
  induction k with
  | zero =>
    intro s hs a
    have e : s = 0 := by omega
    subst e; rfl
  | succ k ih =>
    intro s hs a
    cases s with
    | zero => rfl
    | succ s =>
      rw [sf_np_s, ih (s := s) (by omega) (fun i => a (i + 1)), sf_np_s]
      have e0 : sf_sk (s + 1) 0 = 0 := sf_sk_lo (by omega)
      have e1 : ∀ i, sf_sk (s + 1) (i + 1) = sf_sk s i + 1 := by
        intro i; unfold sf_sk; split <;> split <;> omega
      rw [e0]; simp only [e1]; rw [Nat.mul_left_comm]
def sf_fa : Nat → Nat
  | 0 => 1
  | k + 1 => (k + 1) * sf_fa k
theorem sf_S_bd {n C : Nat} {f : Nat → Int} (h : ∀ j, j < n → (f j).natAbs ≤ C) : (sf_S n f).natAbs ≤ n * C := by
  induction n with
  | zero => show (0 : Int).natAbs ≤ 0 * C; simp
  | succ n ih =>
    show (sf_S n f + f n).natAbs ≤ (n + 1) * C
    have h1 := ih (fun j hj => h j (by omega))
    have h2 := h n (by omega)
    have h3 := Int.natAbs_add_le (sf_S n f) (f n)
    rw [Nat.succ_mul]; omega
theorem sf_sn_abs (j : Nat) (x : Int) : (sf_sn j x).natAbs = x.natAbs := by
  unfold sf_sn; split
  · rfl
  · exact Int.natAbs_neg x
theorem sf_dt_bd {k : Nat} : ∀ {B : Nat → Nat} {f : Nat → Nat → Int}, (∀ i j, i < k → j < k → (f i j).natAbs ≤ B j) → (sf_dt k f).natAbs ≤ sf_fa k * sf_np k B := by
  induction k with
  | zero => intro B f _; exact Nat.le_refl 1
  | succ k ih =>
    intro B f h
    rw [sf_dt_s]
    have e : sf_fa (k + 1) * sf_np (k + 1) B = (k + 1) * (sf_fa k * sf_np (k + 1) B) := by
      show (k + 1) * sf_fa k * _ = _
      rw [Nat.mul_assoc]
    rw [e]
    refine sf_S_bd fun j hj => ?_
    rw [Int.natAbs_mul, sf_sn_abs, sf_np_sk (s := j) (by omega) B, Nat.mul_left_comm]
    exact Nat.mul_le_mul (h 0 j (by omega) hj) (ih (B := fun i => B (sf_sk j i)) (f := fun i l => f (i + 1) (sf_sk j l)) (fun i l hi hl => h _ _ (by omega) (sf_sk_lt hl)))
/-- n columns of W, and c times its column 4 -/
def sf_ex (n : Nat) (c : Int) (W : Nat → Nat → Int) : Nat → Nat → Int := fun i j => if j < n then W i j else c * W i 4
def sf_eb (f : Nat) (e : Nat → Int) (M : Int) : Nat → Int := fun i => if i < f then e i else M
def sf_Dg (m n : Nat) (M : Int) (f : Nat) (e : Nat → Int) (W : Nat → Nat → Int) : Prop :=
  f ≤ m ∧ f ≤ n ∧ 0 < M ∧ (∀ i, i < f → 0 < e i ∧ 2 * e i ≤ M ∧ e i ∣ M) ∧ (∀ i, i + 1 < f → e i ∣ e (i + 1)) ∧
    (∀ i j, i < m → j < n → W i j = if i = j ∧ i < f then e i else 0)
section
variable {m n f : Nat} {M c : Int} {e : Nat → Int} {W : Nat → Nat → Int}
theorem sf_eb_M (hD : sf_Dg m n M f e W) (i : Nat) : sf_eb f e M i ∣ M := by
  unfold sf_eb; split
  · next h => exact (hD.2.2.2.1 i h).2.2
  · exact Int.dvd_refl M
theorem sf_e_ch (hD : sf_Dg m n M f e W) : ∀ d i, i + d < f → e i ∣ e (i + d) := by
  intro d
  induction d with
  | zero => intro i _; exact Int.dvd_refl _
  | succ d ih => intro i h; exact Int.dvd_trans (ih i (by omega)) (hD.2.2.2.2.1 (i + d) (by omega))
theorem sf_eb_le (hD : sf_Dg m n M f e W) {i j : Nat} (h : i ≤ j) : sf_eb f e M i ∣ sf_eb f e M j := by
  by_cases hj : j < f
  · have e1 : sf_eb f e M i = e i := if_pos (by omega)
    have e2 : sf_eb f e M j = e j := if_pos hj
    rw [e1, e2]
    have := sf_e_ch hD (j - i) i (by omega)
    rwa [show i + (j - i) = j by omega] at this
  · have e2 : sf_eb f e M j = M := if_neg hj
    rw [e2]; exact sf_eb_M hD i
theorem sf_eb_In (hD : sf_Dg m n M f e W) (hf : ∀ i, i < m → sf_eb f e M i ∣ c * W i 4) {v : Nat → Int} (hv : sf_In m (n + 1) M (sf_ex n c W) v) :
    ∀ i, i < m → sf_eb f e M i ∣ v i := by
  intro i hi
  obtain ⟨x, hx⟩ := hv
  have h1 := Int.dvd_trans (sf_eb_M hD i) (hx i hi)
  have h2 : sf_eb f e M i ∣ sf_S (n + 1) (fun j => sf_ex n c W i j * x j) := by
    refine sf_S_dvd fun j hj => Int.dvd_trans ?_ (Int.dvd_mul_right _ _)
    unfold sf_ex
    by_cases q : j < n
    · rw [if_pos q, hD.2.2.2.2.2 i j hi q]
      by_cases q2 : i = j ∧ i < f
      · rw [if_pos q2]; unfold sf_eb; rw [if_pos q2.2]; exact Int.dvd_refl _
      · rw [if_neg q2]; exact Int.dvd_zero _
    · rw [if_neg q]; exact hf i hi
  have := Int.dvd_add h1 h2
  rwa [Int.sub_add_cancel] at this
theorem sf_D2 (hD : sf_Dg m n M f e W) (hf : ∀ i, i < m → sf_eb f e M i ∣ c * W i 4) {k : Nat} (hk : k ≤ 4) : sf_Dv m (n + 1) M (sf_ex n c W) k (sf_pr k (sf_eb f e M)) := by
  intro v r hv hr
  refine sf_rows (m := m) hk (G := fun i j => v j i) (fun r hr hs => ?_) r hr
  refine sf_pr_dvd fun i j hi hj => ?_
  exact Int.dvd_trans (sf_eb_le hD (sf_inc_ge hs i hi)) (sf_eb_In hD hf (hv j hj) _ (hr i hi))
theorem sf_D3 (hD : sf_Dg m n M f e W) {s : Nat} (hs : s < m) : sf_In m (n + 1) M (sf_ex n c W) (fun i => if i = s then sf_eb f e M s else 0) := by
  by_cases q : s < f
  · have hn : s < n := by have := hD.2.1; omega
    refine ⟨fun j => if j = s then 1 else 0, fun i hi => ?_⟩
    rw [sf_S_one (s := s) (by omega) (fun j hj hn => by dsimp only; rw [if_neg hn, Int.mul_zero])]
    dsimp only
    rw [if_pos rfl, Int.mul_one]
    have e1 : sf_ex n c W i s = if i = s then sf_eb f e M s else 0 := by
      unfold sf_ex; rw [if_pos hn, hD.2.2.2.2.2 i s hi hn]
      by_cases z : i = s
      · subst z; rw [if_pos ⟨rfl, q⟩, if_pos rfl]; exact (if_pos q).symm
      · rw [if_neg (fun w => z w.1), if_neg z]
    rw [e1, Int.sub_self]; exact Int.dvd_zero M
  · refine ⟨fun _ => 0, fun i hi => ?_⟩
    rw [sf_S_zero (fun j hj => Int.mul_zero _), Int.sub_zero]
    dsimp only
    by_cases z : i = s
    · rw [if_pos z]; unfold sf_eb; rw [if_neg q]; exact Int.dvd_refl M
    · rw [if_neg z]; exact Int.dvd_zero M
theorem sf_D3t : sf_In m (n + 1) M (sf_ex n c W) (fun i => c * W i 4) := by
  have h := sf_In_col (m := m) (N := n + 1) (M := M) (F := sf_ex n c W) (c := n) (by omega)
  have e1 : (fun i => sf_ex n c W i n) = (fun i => c * W i 4) := funext fun i => if_neg (by omega)
  rwa [e1] at h
theorem sf_D4 (hD : sf_Dg m n M f e W) {k : Nat} (hk : k ≤ m) {d : Int} (h : sf_Dv m (n + 1) M (sf_ex n c W) k d) : d ∣ sf_pr k (sf_eb f e M) := by
  have h1 := h (fun j i => if i = j then sf_eb f e M j else 0) (fun i => i) (fun j hj => sf_D3 hD (by omega)) (fun i hi => by omega)
  rw [sf_dt_lt (fun i j hij hj => if_neg (by omega))] at h1
  have e1 : sf_pr k (fun i => if i = i then sf_eb f e M i else 0) = sf_pr k (sf_eb f e M) := sf_pr_congr fun i hi => if_pos rfl
  rwa [e1] at h1
/-- with the target in row s ahead -/
theorem sf_D5 (hD : sf_Dg m n M f e W) {k s : Nat} (hk : k + 1 ≤ m) (hs : s ≤ k) {d : Int} (h : sf_Dv m (n + 1) M (sf_ex n c W) (k + 1) d) :
    d ∣ (c * W s 4) * sf_pr k (fun i => sf_eb f e M (sf_sk s i)) := by
  have h1 := h (fun j => match j with | 0 => (fun i => c * W i 4) | j + 1 => (fun i => if i = sf_sk s j then sf_eb f e M (sf_sk s j) else 0))
    (fun i => match i with | 0 => s | i + 1 => sf_sk s i)
    (fun j hj => by
      cases j with
      | zero => exact sf_D3t
      | succ j => exact sf_D3 hD (by have := sf_sk_lt (j := s) (l := j) (k := k) (by omega); omega))
    (fun i hi => by
      cases i with
      | zero => show s < m; omega
      | succ i => show sf_sk s i < m; have := sf_sk_lt (j := s) (l := i) (k := k) (by omega); omega)
  rw [sf_dt_lt (fun i j hij hj => by
    cases j with
    | zero => omega
    | succ j =>
      cases i with
      | zero => exact if_neg (fun z => sf_sk_ne s j z.symm)
      | succ i => exact if_neg (fun z => by have := sf_sk_inj z; omega))] at h1
  rw [sf_pr_s] at h1
  have e1 : sf_pr k (fun i => if sf_sk s i = sf_sk s i then sf_eb f e M (sf_sk s i) else 0) = sf_pr k (fun i => sf_eb f e M (sf_sk s i)) := sf_pr_congr fun i hi => if_pos rfl
  rw [← e1]; exact h1
/-- with the target in row s behind the k first ones -/
theorem sf_D6 (hD : sf_Dg m n M f e W) {k s : Nat} (hs : k ≤ s) (hm : s < m) {d : Int} (h : sf_Dv m (n + 1) M (sf_ex n c W) (k + 1) d) :
    d ∣ (c * W s 4) * sf_pr k (sf_eb f e M) := by
  have h1 := h (fun j => match j with | 0 => (fun i => c * W i 4) | j + 1 => (fun i => if i = j then sf_eb f e M j else 0))
    (fun i => match i with | 0 => s | i + 1 => i)
    (fun j hj => by
      cases j with
      | zero => exact sf_D3t
      | succ j => exact sf_D3 hD (by omega))
    (fun i hi => by
      cases i with
      | zero => show s < m; omega
      | succ i => show i < m; omega)
  rw [sf_dt_lt (fun i j hij hj => by
    cases j with
    | zero => omega
    | succ j =>
      cases i with
      | zero => exact if_neg (fun z : s = j => by omega)
      | succ i => exact if_neg (fun z : i = j => by omega))] at h1
  rw [sf_pr_s] at h1
  have e1 : sf_pr k (fun i => if i = i then sf_eb f e M i else 0) = sf_pr k (sf_eb f e M) := sf_pr_congr fun i hi => if_pos rfl
  rw [← e1]; exact h1
end
theorem sf_Gc_0 {m n k : Nat} {d : Int} {A : Nat → Nat → Int} (h : sf_Gc m n A k d) : sf_Gc m (n + 1) (sf_ex n 0 A) k d := by
  intro r c hr hc
  by_cases q : ∀ j, j < k → c j < n
  · refine (sf_dt_congr fun i j hi hj => ?_) ▸ h r c hr q
    exact (if_pos (q j hj)).symm
  · obtain ⟨s, hs⟩ := Classical.not_forall.mp q
    have hs1 : s < k := Classical.byContradiction fun z => hs (fun y => absurd y z)
    have hs2 : ¬ c s < n := fun z => hs (fun _ => z)
    rw [sf_dt_z hs1 (fun i hi => by
      show sf_ex n 0 A (r i) (c s) = 0
      unfold sf_ex; rw [if_neg hs2, Int.zero_mul])]
    exact Int.dvd_zero d
theorem sf_Gc_n {m n k : Nat} {d c : Int} {A : Nat → Nat → Int} (h : sf_Gc m (n + 1) (sf_ex n c A) k d) : sf_Gc m n A k d := by
  intro r c hr hc
  refine (sf_dt_congr fun i j hi hj => ?_) ▸ h r c hr (fun j hj => by have := hc j hj; omega)
  exact if_pos (hc j hj)
def sf_Rk (m n : Nat) (A : Nat → Nat → Int) (r : Nat) (D : Int) : Prop :=
  r ≤ m ∧ r ≤ n ∧ D ≠ 0 ∧ (∃ ρ γ : Nat → Nat, (∀ i, i < r → ρ i < m) ∧ (∀ j, j < r → γ j < n) ∧ sf_dt r (fun i j => A (ρ i) (γ j)) = D) ∧ (r + 1 ≤ 4 → sf_Gc m n A (r + 1) 0)
theorem sf_Rk_dvd {m n r k : Nat} {A : Nat → Nat → Int} {D d : Int} (hR : sf_Rk m n A r D) (hk : k ≤ r) (h : sf_Gc m n A k d) : d ∣ D := by
  obtain ⟨ρ, γ, h1, h2, h3⟩ := hR.2.2.2.1
  rw [← h3]
  have := sf_Gc_ge h (r - k)
  rw [show k + (r - k) = r by omega] at this
  exact this ρ γ h1 h2
theorem sf_T1 {m n r f : Nat} {A W : Nat → Nat → Int} {D M : Int} {e : Nat → Int} (hm : m ≤ 4) (hR : sf_Rk m n A r D) (hM : M = 120 * (D.natAbs : Int))
    (hS : ∀ k d, k ≤ 4 → (sf_Dv m (n + 1) M (sf_ex n 0 A) k d ↔ sf_Dv m (n + 1) M (sf_ex n 0 W) k d)) (hD : sf_Dg m n M f e W) :
    f = r ∧ ∀ k, k ≤ r → ∀ d, d ∣ sf_pr k e ↔ sf_Gc m n A k d := by
  have hfit : ∀ i, i < m → sf_eb f e M i ∣ 0 * W i 4 := fun i _ => by rw [Int.zero_mul]; exact Int.dvd_zero _
  have hfm := hD.1
  have hDA : D ∣ M := by
    rw [hM]
    exact Int.dvd_trans (Int.dvd_natAbs.mpr (Int.dvd_refl D)) (Int.dvd_mul_left _ _)
  have hup : ∀ k, k ≤ m → sf_Gc m n A k (sf_pr k (sf_eb f e M)) := fun k hk => sf_Gc_n (sf_Dv_Gc ((hS k _ (by omega)).mpr (sf_D2 hD hfit (by omega))))
  have hpe : ∀ k, k ≤ f → sf_pr k (sf_eb f e M) = sf_pr k e := fun k hk => sf_pr_congr fun i hi => if_pos (by omega)
  have hlo : ∀ k, k ≤ r → k ≤ f → ∀ d, sf_Gc m n A k d → d ∣ sf_pr k e := by
    intro k hk hkf d h
    have h1 := sf_Rk_dvd hR hk h
    have h2 := sf_gen (M := M) (Int.dvd_trans h1 hDA) (sf_Gc_0 h)
    have h3 := sf_D4 hD (by omega) ((hS k d (by omega)).mp h2)
    rwa [hpe k hkf] at h3
  have hpp : ∀ k, k ≤ f → 0 < sf_pr k e := fun k hk => sf_pr_pos fun i hi => (hD.2.2.2.1 i (by omega)).1
  have a1 : ¬ f < r := by
    intro q
    have hrm := hR.1
    have h1 := sf_Rk_dvd hR (by omega) (hup (f + 1) (by omega))
    rw [sf_pr_last, hpe f (Nat.le_refl f)] at h1
    have e1 : sf_eb f e M f = M := if_neg (by omega)
    rw [e1] at h1
    have h2 : M ∣ D := Int.dvd_trans (Int.dvd_mul_left _ _) h1
    have h3 : M.natAbs ∣ D.natAbs := Int.natAbs_dvd_natAbs.mpr h2
    have h4 := Nat.le_of_dvd (by have := hR.2.2.1; omega) h3
    have := hR.2.2.1
    omega
  have a2 : ¬ r < f := by
    intro q
    have hz := sf_Gc_0 (hR.2.2.2.2 (by omega))
    have hg : sf_Dv m (n + 1) M (sf_ex n 0 A) r (sf_pr r e) := by
      have := (hS r _ (by omega)).mpr (sf_D2 hD hfit (by omega))
      rwa [hpe r (by omega)] at this
    have h1 := sf_D4 hD (by omega) ((hS (r + 1) _ (by omega)).mp (sf_F4 (by omega) hz hg))
    rw [hpe (r + 1) (by omega), sf_pr_last, Int.mul_comm] at h1
    have h2 : M ∣ e r := Int.dvd_of_mul_dvd_mul_left (by have := hpp r (by omega); omega) h1
    have h3 := hD.2.2.2.1 r q
    have h4 := Int.le_of_dvd h3.1 h2
    omega
  have hfr : f = r := by omega
  refine ⟨hfr, fun k hk d => ⟨fun h => ?_, hlo k hk (by omega) d⟩⟩
  intro r' c hr hc
  have := hup k (by have := hR.1; omega) r' c hr hc
  rw [hpe k (by omega)] at this
  exact Int.dvd_trans h this
theorem sf_T2 {m n r : Nat} {A W : Nat → Nat → Int} {D M c : Int} {e : Nat → Int} (hm : m ≤ 4) (hR : sf_Rk m n A r D) (hM : M = 120 * (D.natAbs : Int))
    (hS : ∀ c k d, k ≤ 4 → (sf_Dv m (n + 1) M (sf_ex n c A) k d ↔ sf_Dv m (n + 1) M (sf_ex n c W) k d)) (hD : sf_Dg m n M r e W)
    (hz : r + 1 ≤ 4 → sf_Gc m (n + 1) (sf_ex n c A) (r + 1) 0) :
    (∀ i, i < m → sf_eb r e M i ∣ c * W i 4) ↔ sf_Gc m (n + 1) (sf_ex n c A) r (sf_pr r e) := by
  have hrm := hR.1
  have hDA : D ∣ M := by
    rw [hM]
    exact Int.dvd_trans (Int.dvd_natAbs.mpr (Int.dvd_refl D)) (Int.dvd_mul_left _ _)
  have hpe : ∀ k, k ≤ r → sf_pr k (sf_eb r e M) = sf_pr k e := fun k hk => sf_pr_congr fun i hi => if_pos (by omega)
  have hpp : 0 < sf_pr r e := sf_pr_pos fun i hi => (hD.2.2.2.1 i (by omega)).1
  constructor
  · intro hf
    have h1 := sf_Dv_Gc ((hS c r _ (by omega)).mpr (sf_D2 hD hf (by omega)))
    rwa [hpe r (Nat.le_refl r)] at h1
  · intro hg i hi
    have hgD : sf_pr r e ∣ M := Int.dvd_trans (sf_Rk_dvd hR (Nat.le_refl r) (sf_Gc_n hg)) hDA
    have h1 := sf_gen (M := M) hgD hg
    by_cases q : i < r
    · have e1 : sf_eb r e M i = e i := if_pos q
      rw [e1]
      obtain ⟨k, rfl⟩ : ∃ k, r = k + 1 := ⟨r - 1, by omega⟩
      have h2 := sf_D5 hD (s := i) (by omega) (by omega) ((hS c (k + 1) _ (by omega)).mp h1)
      have e2 : sf_pr k (fun l => sf_eb (k + 1) e M (sf_sk i l)) = sf_pr k (fun l => e (sf_sk i l)) := sf_pr_congr fun l hl => if_pos (sf_sk_lt hl)
      rw [e2, sf_pr_sk (s := i) (by omega) e] at h2
      have hp : 0 < sf_pr k (fun l => e (sf_sk i l)) := sf_pr_pos fun l hl => (hD.2.2.2.1 _ (sf_sk_lt hl)).1
      exact Int.dvd_of_mul_dvd_mul_right (by omega) h2
    · have e1 : sf_eb r e M i = M := if_neg q
      rw [e1]
      have h2 := sf_F4 (by omega) (hz (by omega)) h1
      have h3 := sf_D6 hD (k := r) (s := i) (by omega) hi ((hS c (r + 1) _ (by omega)).mp h2)
      rw [hpe r (Nat.le_refl r)] at h3
      exact Int.dvd_of_mul_dvd_mul_right (by omega) h3
end
section
theorem sf_S_swap {n a b : Nat} (ha : a < n) (hb : b < n) (f : Nat → Int) : sf_S n (fun j => f (if j = a then b else if j = b then a else j)) = sf_S n f := by
  by_cases q : a = b
  · subst q
    refine sf_S_congr fun j hj => ?_
    by_cases z : j = a
    · rw [if_pos z, z]
    · rw [if_neg z, if_neg z]
  · have e1 := sf_S_upd (n := n) (f := fun j => if j = a then f b else f j) (g := f) (s := a) (c := f b - f a) ha (fun j hj hn => if_neg hn) (by (try dsimp only); rw [if_pos rfl]; omega)
    have e2 := sf_S_upd (n := n) (f := fun j => f (if j = a then b else if j = b then a else j)) (g := fun j => if j = a then f b else f j) (s := b) (c := f a - f b) hb (fun j hj hn => by
      try dsimp only
      by_cases z : j = a
      · rw [if_pos z, if_pos z]
      · rw [if_neg z, if_neg hn, if_neg z]) (by
      try dsimp only
      rw [if_neg (Ne.symm q), if_pos rfl, if_neg (Ne.symm q)]; omega)
    rw [e2, e1]; omega
theorem sf_Dv_perm1 {m N k : Nat} {M d : Int} {F F' : Nat → Nat → Int} {σ : Nat → Nat} (h1 : ∀ i, i < m → σ i < m) (h2 : ∀ i, i < m → σ (σ i) = i)
    (h : ∀ i j, i < m → j < N → F' i j = F (σ i) j) (hd : sf_Dv m N M F k d) : sf_Dv m N M F' k d := by
  intro v r hv hr
  have h3 := hd (fun j i => v j (σ i)) (fun i => σ (r i)) (fun j hj => by
    obtain ⟨x, hx⟩ := hv j hj
    refine ⟨x, fun i hi => ?_⟩
    have := hx (σ i) (h1 i hi)
    rw [sf_S_congr (g := fun j => F i j * x j) (fun j hj => by rw [h _ _ (h1 i hi) hj, h2 i hi])] at this
    exact this) (fun i hi => h1 _ (hr i hi))
  refine (sf_dt_congr fun i j hi hj => ?_) ▸ h3
  show v j (σ (σ (r i))) = _
  rw [h2 _ (hr i hi)]
theorem sf_Dv_perm {m N k : Nat} {M d : Int} {F F' : Nat → Nat → Int} {σ : Nat → Nat} (h1 : ∀ i, i < m → σ i < m) (h2 : ∀ i, i < m → σ (σ i) = i)
    (h : ∀ i j, i < m → j < N → F' i j = F (σ i) j) : sf_Dv m N M F k d ↔ sf_Dv m N M F' k d :=
  ⟨sf_Dv_perm1 h1 h2 h, sf_Dv_perm1 h1 h2 (fun i j hi hj => by rw [h _ _ (h1 i hi) hj, h2 i hi])⟩
theorem sf_Dv_add1 {m N k to fr : Nat} {M d t : Int} {F F' : Nat → Nat → Int} (hto : to < m) (hfr : fr < m) (hne : to ≠ fr)
    (h : ∀ i j, i < m → j < N → M ∣ F' i j - (F i j + if i = to then t * F fr j else 0)) (hd : sf_Dv m N M F k d) : sf_Dv m N M F' k d := by
  intro v r hv hr
  have hu : ∀ j, j < k → sf_In m N M F (fun i => if i = to then v j to - t * v j fr else v j i) := by
    intro j hj
    obtain ⟨x, hx⟩ := hv j hj
    refine ⟨x, fun i hi => ?_⟩
    have hdiff : ∀ i, i < m → M ∣ sf_S N (fun l => F' i l * x l) - sf_S N (fun l => (F i l + if i = to then t * F fr l else 0) * x l) := by
      intro i hi
      have e := sf_S_lin (n := N) (f := fun l => F' i l * x l) (g := fun l => (F' i l - (F i l + if i = to then t * F fr l else 0)) * x l) (h := fun l => (F i l + if i = to then t * F fr l else 0) * x l) (c := 1) (fun l hl => by
        rw [Int.one_mul, ← Int.add_mul, Int.sub_add_cancel])
      rw [e, Int.one_mul, Int.add_sub_cancel]
      exact sf_S_dvd fun l hl => Int.dvd_trans (h i l hi hl) (Int.dvd_mul_right _ _)
    try dsimp only
    by_cases q : i = to
    · subst q
      rw [if_pos rfl]
      have d1 := hx i hi
      have d2 := hdiff i hi
      have d3 := hx fr hfr
      have d4 := hdiff fr hfr
      have e1 : sf_S N (fun l => (F i l + if i = i then t * F fr l else 0) * x l) = sf_S N (fun l => F i l * x l) + t * sf_S N (fun l => F fr l * x l) := sf_S_lin fun l hl => by
        rw [if_pos rfl, Int.add_mul, Int.mul_assoc]
      have e2 : sf_S N (fun l => (F fr l + if fr = i then t * F fr l else 0) * x l) = sf_S N (fun l => F fr l * x l) := sf_S_congr fun l hl => by
        rw [if_neg (Ne.symm hne), Int.add_zero]
      rw [e1] at d2
      rw [e2] at d4
      have d5 := Int.dvd_add (Int.dvd_add d1 d2) (Int.dvd_trans (Int.dvd_add d3 d4) (Int.dvd_mul_left (-t) _))
      generalize sf_S N (fun l => F i l * x l) = a1 at d5 ⊢
      generalize sf_S N (fun l => F fr l * x l) = a2 at d5 ⊢
      generalize sf_S N (fun l => F' i l * x l) = a3 at d5 ⊢
      generalize sf_S N (fun l => F' fr l * x l) = a4 at d5 ⊢
      have e3 : v j i - t * v j fr - a1 = v j i - a3 + (a3 - (a1 + t * a2)) + -t * (v j fr - a4 + (a4 - a2)) := by grind
      rw [e3]; exact d5
    · rw [if_neg q]
      have d1 := hx i hi
      have d2 := hdiff i hi
      have e2 : sf_S N (fun l => (F i l + if i = to then t * F fr l else 0) * x l) = sf_S N (fun l => F i l * x l) := sf_S_congr fun l hl => by
        rw [if_neg q, Int.add_zero]
      rw [e2] at d2
      have d5 := Int.dvd_add d1 d2
      rwa [show v j i - sf_S N (fun l => F' i l * x l) + (sf_S N (fun l => F' i l * x l) - sf_S N (fun l => F i l * x l)) = v j i - sf_S N (fun l => F i l * x l) by omega] at d5
  have H : ∀ s, s ≤ k → ∀ r : Nat → Nat, (∀ i, i < k → r i < m) → d ∣ sf_dt k (fun i j => if i < s then v j (r i) else (if r i = to then v j to - t * v j fr else v j (r i))) := by
    intro s
    induction s with
    | zero =>
      intro _ r hr
      refine (sf_dt_congr fun i j hi hj => ?_) ▸ hd _ r hu hr
      rw [if_neg (show ¬ i < 0 by omega)]
    | succ s ih =>
      intro hs r hr
      by_cases q : r s = to
      · have h1 := ih (by omega) r hr
        have h2 := ih (by omega) (fun i => if i = s then fr else r i) (fun i hi => by
          try dsimp only
          by_cases z : i = s
          · rw [if_pos z]; exact hfr
          · rw [if_neg z]; exact hr i hi)
        rw [sf_dt_row (f := fun i j => if i < s + 1 then v j (r i) else (if r i = to then v j to - t * v j fr else v j (r i)))
          (g := fun i j => if i < s then v j (r i) else (if r i = to then v j to - t * v j fr else v j (r i)))
          (h := fun i j => if i < s then v j (if i = s then fr else r i) else (if (if i = s then fr else r i) = to then v j to - t * v j fr else v j (if i = s then fr else r i)))
          (s := s) (c := t) (by omega) (fun i j hi hj hn => by
            try dsimp only
            rw [if_neg hn]
            by_cases z : i < s
            · rw [if_pos z, if_pos (by omega)]; exact ⟨rfl, rfl⟩
            · rw [if_neg z, if_neg (by omega)]; exact ⟨rfl, rfl⟩) (fun j hj => by
            try dsimp only
            rw [if_pos (by omega), if_neg (by omega), if_pos q, if_neg (by omega), if_pos rfl, if_neg (Ne.symm hne), q]; omega)]
        exact Int.dvd_add h1 (Int.dvd_trans h2 (Int.dvd_mul_left _ _))
      · refine (sf_dt_congr fun i j hi hj => ?_) ▸ ih (by omega) r hr
        by_cases z : i = s
        · subst z; rw [if_neg (show ¬ i < i by omega), if_neg q, if_pos (show i < i + 1 by omega)]
        · by_cases z2 : i < s
          · rw [if_pos z2, if_pos (show i < s + 1 by omega)]
          · rw [if_neg z2, if_neg (show ¬ i < s + 1 by omega)]
  refine (sf_dt_congr fun i j hi hj => ?_) ▸ H k (Nat.le_refl k) r hr
  rw [if_pos hi]
theorem sf_Dv_add {m N k to fr : Nat} {M d t : Int} {F F' : Nat → Nat → Int} (hto : to < m) (hfr : fr < m) (hne : to ≠ fr)
    (h : ∀ i j, i < m → j < N → M ∣ F' i j - (F i j + if i = to then t * F fr j else 0)) : sf_Dv m N M F k d ↔ sf_Dv m N M F' k d := by
  refine ⟨sf_Dv_add1 hto hfr hne h, sf_Dv_add1 (t := -t) hto hfr hne fun i j hi hj => ?_⟩
  have h1 := h i j hi hj
  have h2 := h fr j hfr hj
  rw [if_neg (Ne.symm hne), Int.add_zero] at h2
  by_cases q : i = to
  · rw [if_pos q] at h1 ⊢
    have h3 := Int.dvd_add (Int.dvd_neg.mpr h1) (Int.dvd_trans h2 (Int.dvd_mul_left t _))
    rwa [show -(F' i j - (F i j + t * F fr j)) + t * (F' fr j - F fr j) = F i j - (F' i j + -t * F' fr j) by grind] at h3
  · rw [if_neg q] at h1 ⊢
    have h3 := Int.dvd_neg.mpr h1
    rwa [show -(F' i j - (F i j + 0)) = F i j - (F' i j + 0) by omega] at h3
theorem sf_In_mono {m N : Nat} {M : Int} {F F' : Nat → Nat → Int} (h : ∀ x : Nat → Int, ∃ x' : Nat → Int, ∀ i, i < m → M ∣ sf_S N (fun j => F' i j * x j) - sf_S N (fun j => F i j * x' j))
    {v : Nat → Int} (hv : sf_In m N M F' v) : sf_In m N M F v := by
  obtain ⟨x, hx⟩ := hv
  obtain ⟨x', hx'⟩ := h x
  refine ⟨x', fun i hi => ?_⟩
  have := Int.dvd_add (hx i hi) (hx' i hi)
  rwa [show v i - sf_S N (fun j => F' i j * x j) + (sf_S N (fun j => F' i j * x j) - sf_S N (fun j => F i j * x' j)) = v i - sf_S N (fun j => F i j * x' j) by omega] at this
theorem sf_Dv_In {m N k : Nat} {M d : Int} {F F' : Nat → Nat → Int} (h : ∀ v, sf_In m N M F v ↔ sf_In m N M F' v) : sf_Dv m N M F k d ↔ sf_Dv m N M F' k d :=
  ⟨fun g v r hv hr => g v r (fun j hj => (h _).mpr (hv j hj)) hr, fun g v r hv hr => g v r (fun j hj => (h _).mp (hv j hj)) hr⟩
/-- a column's multiple added to another -/
theorem sf_In_cadd1 {m N to fr : Nat} {M t : Int} {F F' : Nat → Nat → Int} (hto : to < N) (hfr : fr < N)
    (h : ∀ i j, i < m → j < N → M ∣ F' i j - (F i j + if j = to then t * F i fr else 0)) {v : Nat → Int} : sf_In m N M F' v → sf_In m N M F v := by
  refine sf_In_mono fun x => ⟨fun j => x j + if j = fr then t * x to else 0, fun i hi => ?_⟩
  have e1 : sf_S N (fun j => F i j * (x j + if j = fr then t * x to else 0)) = sf_S N (fun j => F i j * x j) + F i fr * (t * x to) := by
    rw [sf_S_lin (f := fun j => F i j * (x j + if j = fr then t * x to else 0)) (g := fun j => F i j * x j) (h := fun j => F i j * (if j = fr then t * x to else 0)) (c := 1) (fun j hj => by rw [Int.one_mul, Int.mul_add]),
      sf_S_one (f := fun j => F i j * (if j = fr then t * x to else 0)) (s := fr) hfr (fun j hj hn => by rw [if_neg hn, Int.mul_zero]), if_pos rfl, Int.one_mul]
  have e2 : sf_S N (fun j => (F i j + if j = to then t * F i fr else 0) * x j) = sf_S N (fun j => F i j * x j) + F i fr * (t * x to) := by
    rw [sf_S_lin (f := fun j => (F i j + if j = to then t * F i fr else 0) * x j) (g := fun j => F i j * x j) (h := fun j => (if j = to then t * F i fr else 0) * x j) (c := 1) (fun j hj => by rw [Int.one_mul, Int.add_mul]),
      sf_S_one (f := fun j => (if j = to then t * F i fr else 0) * x j) (s := to) hto (fun j hj hn => by rw [if_neg hn, Int.zero_mul]), if_pos rfl, Int.one_mul]
    grind
  rw [e1, ← e2]
  have e := sf_S_lin (n := N) (f := fun l => F' i l * x l) (g := fun l => (F' i l - (F i l + if l = to then t * F i fr else 0)) * x l) (h := fun l => (F i l + if l = to then t * F i fr else 0) * x l) (c := 1) (fun l hl => by
    rw [Int.one_mul, ← Int.add_mul, Int.sub_add_cancel])
  rw [e, Int.one_mul, Int.add_sub_cancel]
  exact sf_S_dvd fun l hl => Int.dvd_trans (h i l hi hl) (Int.dvd_mul_right _ _)
theorem sf_In_cadd {m N to fr : Nat} {M t : Int} {F F' : Nat → Nat → Int} (hto : to < N) (hfr : fr < N) (hne : to ≠ fr)
    (h : ∀ i j, i < m → j < N → M ∣ F' i j - (F i j + if j = to then t * F i fr else 0)) (v : Nat → Int) : sf_In m N M F v ↔ sf_In m N M F' v := by
  refine ⟨sf_In_cadd1 (t := -t) hto hfr fun i j hi hj => ?_, sf_In_cadd1 hto hfr h⟩
  have h1 := h i j hi hj
  have h2 := h i fr hi hfr
  rw [if_neg (Ne.symm hne), Int.add_zero] at h2
  by_cases q : j = to
  · rw [if_pos q] at h1 ⊢
    have h3 := Int.dvd_add (Int.dvd_neg.mpr h1) (Int.dvd_trans h2 (Int.dvd_mul_left t _))
    rwa [show -(F' i j - (F i j + t * F i fr)) + t * (F' i fr - F i fr) = F i j - (F' i j + -t * F' i fr) by grind] at h3
  · rw [if_neg q] at h1 ⊢
    have h3 := Int.dvd_neg.mpr h1
    rwa [show -(F' i j - (F i j + 0)) = F i j - (F' i j + 0) by omega] at h3
theorem sf_In_cswap {m N a b : Nat} {M : Int} {F F' : Nat → Nat → Int} (ha : a < N) (hb : b < N)
    (h : ∀ i j, i < m → j < N → F' i j = F i (if j = a then b else if j = b then a else j)) (v : Nat → Int) : sf_In m N M F v ↔ sf_In m N M F' v := by
  have hs : ∀ j, (if (if j = a then b else if j = b then a else j) = a then b else if (if j = a then b else if j = b then a else j) = b then a else (if j = a then b else if j = b then a else j)) = j := by
    intro j
    by_cases z : j = a
    · rw [if_pos z]
      by_cases w : b = a
      · rw [if_pos w]; omega
      · rw [if_neg w, if_pos rfl]; omega
    · rw [if_neg z]
      by_cases w : j = b
      · rw [if_pos w, if_pos rfl]; omega
      · rw [if_neg w, if_neg z, if_neg w]
  have key : ∀ {F F' : Nat → Nat → Int}, (∀ i j, i < m → j < N → F' i j = F i (if j = a then b else if j = b then a else j)) → sf_In m N M F' v → sf_In m N M F v := by
    intro F F' h
    refine sf_In_mono fun x => ⟨fun j => x (if j = a then b else if j = b then a else j), fun i hi => ?_⟩
    have e := sf_S_swap (n := N) ha hb (fun j => F i j * x (if j = a then b else if j = b then a else j))
    rw [← e]
    rw [sf_S_congr (f := fun j => F' i j * x j) (g := fun j => F i (if j = a then b else if j = b then a else j) * x (if (if j = a then b else if j = b then a else j) = a then b else if (if j = a then b else if j = b then a else j) = b then a else (if j = a then b else if j = b then a else j))) (fun j hj => by rw [hs j, h i j hi hj]), Int.sub_self]
    exact Int.dvd_zero M
  refine ⟨key fun i j hi hj => ?_, key h⟩
  have hlt : (if j = a then b else if j = b then a else j) < N := by
    by_cases z : j = a
    · rw [if_pos z]; exact hb
    · rw [if_neg z]
      by_cases w : j = b
      · rw [if_pos w]; exact ha
      · rw [if_neg w]; exact hj
  rw [h i _ hi hlt, hs j]
/-- the only entry of a column is multiplied by what has an inverse -/
theorem sf_In_cunit1 {m N k : Nat} {M α : Int} {F F' : Nat → Nat → Int} (hk : k < N) (h0 : ∀ i j, i < m → j < N → j ≠ k → F' i j = F i j)
    (h1 : ∀ i, i < m → M ∣ F' i k - α * F i k) {v : Nat → Int} : sf_In m N M F' v → sf_In m N M F v := by
  refine sf_In_mono fun x => ⟨fun j => if j = k then α * x k else x j, fun i hi => ?_⟩
  have e := sf_S_upd (n := N) (f := fun j => F' i j * x j) (g := fun j => F i j * (if j = k then α * x k else x j)) (s := k) (c := (F' i k - α * F i k) * x k) hk (fun j hj hn => by
    (try dsimp only); rw [if_neg hn, h0 i j hi hj hn]) (by (try dsimp only); rw [if_pos rfl]; grind)
  have e2 : ∀ a b : Int, a + b - a = b := fun a b => by omega
  rw [e, e2]
  exact Int.dvd_trans (h1 i hi) (Int.dvd_mul_right _ _)
end
section
/-- sums of naturals -/
def sf_Q : Nat → (Nat → Nat) → Nat
  | 0, _ => 0
  | p + 1, f => sf_Q p f + f p
theorem sf_Q_congr {p : Nat} {f g : Nat → Nat} (h : ∀ a, a < p → f a = g a) : sf_Q p f = sf_Q p g := by
  induction p with
  | zero => rfl
  | succ p ih =>
    show sf_Q p f + f p = sf_Q p g + g p
    rw [ih (fun a ha => h a (by omega)), h p (by omega)]
theorem sf_Q_add (p : Nat) (f g : Nat → Nat) : sf_Q p (fun a => f a + g a) = sf_Q p f + sf_Q p g := by
  induction p with
  | zero => rfl
  | succ p ih =>
    show sf_Q p (fun a => f a + g a) + (f p + g p) = (sf_Q p f + f p) + (sf_Q p g + g p)
    rw [ih]; omega
theorem sf_Q_0 (p : Nat) : sf_Q p (fun _ => 0) = 0 := by
  induction p with
  | zero => rfl
  | succ p ih => show sf_Q p (fun _ => 0) + 0 = 0; rw [ih]
theorem sf_Q_mul (p c : Nat) (f : Nat → Nat) : sf_Q p (fun a => f a * c) = sf_Q p f * c := by
  induction p with
  | zero => show 0 = 0 * c; omega
  | succ p ih =>
    show sf_Q p (fun a => f a * c) + f p * c = (sf_Q p f + f p) * c
    rw [ih, Nat.add_mul]
theorem sf_Q_comm (p q : Nat) (F : Nat → Nat → Nat) : sf_Q p (fun a => sf_Q q (fun b => F a b)) = sf_Q q (fun b => sf_Q p (fun a => F a b)) := by
  induction p with
  | zero => exact (sf_Q_0 q).symm
  | succ p ih =>
    show sf_Q p (fun a => sf_Q q (fun b => F a b)) + sf_Q q (fun b => F p b) = sf_Q q (fun b => sf_Q p (fun a => F a b) + F p b)
    rw [ih, sf_Q_add]
def sf_up (y : Nat → Int) (j : Nat) (a : Int) : Nat → Int := fun i => if i = j then a else y i
theorem sf_up_s (y : Nat → Int) (j : Nat) (a : Int) : sf_up y j a j = a := if_pos rfl
theorem sf_up_n (y : Nat → Int) {j : Nat} (a : Int) {i : Nat} (h : i ≠ j) : sf_up y j a i = y i := if_neg h
theorem sf_up_up (y : Nat → Int) (j : Nat) (a b : Int) : sf_up (sf_up y j a) j b = sf_up y j b := by
  funext i
  by_cases h : i = j
  · subst h; rw [sf_up_s, sf_up_s]
  · rw [sf_up_n _ _ h, sf_up_n _ _ h, sf_up_n _ _ h]
theorem sf_up_cm (y : Nat → Int) {j k : Nat} (h : j ≠ k) (a b : Int) : sf_up (sf_up y k a) j b = sf_up (sf_up y j b) k a := by
  funext i
  by_cases h1 : i = j
  · subst h1; rw [sf_up_s, sf_up_n _ _ h, sf_up_s]
  · rw [sf_up_n _ _ h1]
    by_cases h2 : i = k
    · subst h2; rw [sf_up_s, sf_up_s]
    · rw [sf_up_n _ _ h2, sf_up_n _ _ h2, sf_up_n _ _ h1]
/-- f summed over all x with x 0 .. x (n-1) in 0 .. p-1 -/
def sf_cn (p : Nat) : Nat → ((Nat → Int) → Nat) → Nat
  | 0, f => f (fun _ => 0)
  | n + 1, f => sf_cn p n (fun y => sf_Q p (fun a => f (sf_up y n (a : Int))))
theorem sf_cn_s (p n : Nat) (f : (Nat → Int) → Nat) : sf_cn p (n + 1) f = sf_cn p n (fun y => sf_Q p (fun a => f (sf_up y n (a : Int)))) := rfl
theorem sf_cn_lin (p q : Nat) : ∀ (n : Nat) (F : Nat → (Nat → Int) → Nat), sf_cn p n (fun y => sf_Q q (fun a => F a y)) = sf_Q q (fun a => sf_cn p n (F a)) := by
  intro n
  induction n with
  | zero => intro F; rfl
  | succ n ih =>
    intro F
    rw [sf_cn_s]
    have e : (fun y => sf_Q p (fun b => sf_Q q (fun a => F a (sf_up y n (b : Int))))) = (fun y => sf_Q q (fun a => sf_Q p (fun b => F a (sf_up y n (b : Int))))) := funext fun y => sf_Q_comm p q (fun b a => F a (sf_up y n (b : Int)))
    rw [e, ih (fun a y => sf_Q p (fun b => F a (sf_up y n (b : Int))))]
    rfl
theorem sf_cn_mul (p c : Nat) : ∀ (n : Nat) (f : (Nat → Int) → Nat), sf_cn p n (fun y => f y * c) = sf_cn p n f * c := by
  intro n
  induction n with
  | zero => intro f; rfl
  | succ n ih =>
    intro f
    rw [sf_cn_s, sf_cn_s]
    have e : (fun y => sf_Q p (fun a => f (sf_up y n (a : Int)) * c)) = (fun y => sf_Q p (fun a => f (sf_up y n (a : Int))) * c) := funext fun y => sf_Q_mul p c _
    rw [e, ih]
theorem sf_cn_0 (p : Nat) : ∀ n : Nat, sf_cn p n (fun _ => 0) = 0 := by
  intro n
  have := sf_cn_mul p 0 n (fun _ => 0)
  rw [Nat.mul_zero] at this; exact this
def sf_Per (p : Nat) (f : (Nat → Int) → Nat) : Prop := ∀ x y : Nat → Int, (∀ j, (p : Int) ∣ x j - y j) → f x = f y
def sf_Pe1 (p : Nat) (h : Int → Nat) : Prop := ∀ a b : Int, (p : Int) ∣ a - b → h a = h b
def sf_Bij (p : Nat) (ψ : Int → Int) : Prop := ∀ h : Int → Nat, sf_Pe1 p h → sf_Q p (fun a => h (ψ (a : Int))) = sf_Q p (fun a => h (a : Int))
theorem sf_dvd_self_sub (p x : Int) : p ∣ x - x := by rw [Int.sub_self]; exact Int.dvd_zero p
theorem sf_cn_op (p : Nat) : ∀ (n : Nat) (f : (Nat → Int) → Nat) (j : Nat) (φ : (Nat → Int) → Int → Int), j < n → sf_Per p f → (∀ x v, φ (sf_up x j v) = φ x) → (∀ x, sf_Bij p (φ x)) →
    sf_cn p n (fun x => f (sf_up x j (φ x (x j)))) = sf_cn p n f := by
  intro n
  induction n with
  | zero => intro f j φ hj; omega
  | succ n ih =>
    intro f j φ hj hP hi hB
    rw [sf_cn_s, sf_cn_s]
    by_cases q : j = n
    · subst q
      refine congrArg (sf_cn p j) (funext fun y => ?_)
      have e : sf_Q p (fun a => f (sf_up (sf_up y j (a : Int)) j (φ (sf_up y j (a : Int)) (sf_up y j (a : Int) j)))) = sf_Q p (fun a => f (sf_up y j (φ y (a : Int)))) := sf_Q_congr fun a _ => by
        rw [hi, sf_up_up, sf_up_s]
      rw [e]
      refine hB y (fun b => f (sf_up y j b)) fun a b hab => hP _ _ fun i => ?_
      by_cases z : i = j
      · subst z; rw [sf_up_s, sf_up_s]; exact hab
      · rw [sf_up_n _ _ z, sf_up_n _ _ z]; exact sf_dvd_self_sub _ _
    · rw [sf_cn_lin p p n (fun a y => f (sf_up (sf_up y n (a : Int)) j (φ (sf_up y n (a : Int)) (sf_up y n (a : Int) j)))), sf_cn_lin p p n (fun a y => f (sf_up y n (a : Int)))]
      refine sf_Q_congr fun a _ => ?_
      have h := ih (fun y => f (sf_up y n (a : Int))) j (fun y => φ (sf_up y n (a : Int))) (by omega) (fun x y hxy => hP _ _ fun i => by
        by_cases z : i = n
        · subst z; rw [sf_up_s, sf_up_s]; exact sf_dvd_self_sub _ _
        · rw [sf_up_n _ _ z, sf_up_n _ _ z]; exact hxy i) (fun x v => by
          rw [← sf_up_cm x q, hi]) (fun x => hB _)
      rw [← h]
      refine congrArg (sf_cn p n) (funext fun y => ?_)
      rw [sf_up_cm y q, sf_up_n _ _ q]
theorem sf_bij_1 {p : Nat} {h : Int → Nat} (hh : sf_Pe1 p h) : sf_Q p (fun a => h ((a : Int) + 1)) = sf_Q p (fun a => h (a : Int)) := by
  have H : ∀ q : Nat, sf_Q q (fun a => h ((a : Int) + 1)) + h 0 = sf_Q q (fun a => h (a : Int)) + h (q : Int) := by
    intro q
    induction q with
    | zero => rfl
    | succ q ih =>
      show sf_Q q (fun a => h ((a : Int) + 1)) + h ((q : Int) + 1) + h 0 = sf_Q q (fun a => h (a : Int)) + h (q : Int) + h ((q + 1 : Nat) : Int)
      rw [Int.natCast_succ]; omega
  have e : h (p : Int) = h 0 := hh _ _ (by rw [Int.sub_zero]; exact Int.dvd_refl _)
  have := H p
  omega
theorem sf_bij_nat {p : Nat} {h : Int → Nat} (hh : sf_Pe1 p h) : ∀ c : Nat, sf_Q p (fun a => h ((a : Int) + (c : Int))) = sf_Q p (fun a => h (a : Int)) := by
  intro c
  induction c with
  | zero => refine sf_Q_congr fun a _ => ?_; rw [Int.natCast_zero, Int.add_zero]
  | succ c ih =>
    rw [← ih]
    have h1 := sf_bij_1 (p := p) (h := fun b => h (b + (c : Int))) (fun a b hab => hh _ _ (by rwa [show a + (c : Int) - (b + (c : Int)) = a - b by omega]))
    rw [← h1]
    refine sf_Q_congr fun a _ => congrArg h ?_
    rw [Int.natCast_succ]; omega
theorem sf_bij_add {p : Nat} (hp : 0 < p) (c : Int) : sf_Bij p (fun a => a + c) := by
  intro h hh
  rw [← sf_bij_nat hh (c % (p : Int)).toNat]
  refine sf_Q_congr fun a _ => hh _ _ ?_
  rw [Int.toNat_of_nonneg (Int.emod_nonneg _ (by omega))]
  have := Int.dvd_self_sub_emod (x := c) (m := (p : Int))
  rwa [show (a : Int) + c - ((a : Int) + c % (p : Int)) = c - c % (p : Int) by omega]
theorem sf_bij_u {p u : Nat} (hp : 1 ≤ p) (h6 : p ≤ 6) (hu : u < p) (hg : Nat.gcd u p = 1) : sf_Bij p (fun a => (u : Int) * a) := by
  intro h hh
  have e : sf_Q p (fun a => h ((u : Int) * (a : Int))) = sf_Q p (fun a => h (((u : Int) * (a : Int)) % (p : Int))) := sf_Q_congr fun a _ => hh _ _ Int.dvd_self_sub_emod
  rw [e]
  have hc : p = 1 ∨ p = 2 ∨ p = 3 ∨ p = 4 ∨ p = 5 ∨ p = 6 := by omega
  have hd : u = 0 ∨ u = 1 ∨ u = 2 ∨ u = 3 ∨ u = 4 ∨ u = 5 := by omega
  rcases hc with rfl | rfl | rfl | rfl | rfl | rfl <;> rcases hd with rfl | rfl | rfl | rfl | rfl | rfl <;>
    first
    | (exfalso; revert hu; decide)
    | (exfalso; revert hg; decide)
    | (simp [sf_Q]; done)
    | (simp [sf_Q]; omega)
noncomputable def sf_ind (P : Prop) : Nat := @ite Nat P (Classical.propDecidable P) 1 0
theorem sf_ind_t {P : Prop} (h : P) : sf_ind P = 1 := by unfold sf_ind; rw [if_pos h]
theorem sf_ind_f {P : Prop} (h : ¬ P) : sf_ind P = 0 := by unfold sf_ind; rw [if_neg h]
theorem sf_ind_c {P Q : Prop} (h : P ↔ Q) : sf_ind P = sf_ind Q := by rw [propext h]
theorem sf_ind_and (P Q : Prop) : sf_ind (P ∧ Q) = sf_ind P * sf_ind Q := by
  by_cases p : P
  · by_cases q : Q
    · rw [sf_ind_t ⟨p, q⟩, sf_ind_t p, sf_ind_t q]
    · rw [sf_ind_f (fun h => q h.2), sf_ind_f q, Nat.mul_zero]
  · rw [sf_ind_f (fun h => p h.1), sf_ind_f p, Nat.zero_mul]
/-- x solves the system modulo p -/
def sf_cd (m n p : Nat) (W : Nat → Nat → Int) (x : Nat → Int) : Prop := ∀ i, i < m → (p : Int) ∣ sf_S n (fun j => W i j * x j) - W i 4
noncomputable def sf_ct (m n p : Nat) (W : Nat → Nat → Int) : Nat := sf_cn p n (fun x => sf_ind (sf_cd m n p W x))
theorem sf_cd_per (m n p : Nat) (W : Nat → Nat → Int) : sf_Per p (fun x => sf_ind (sf_cd m n p W x)) := by
  have key : ∀ x y : Nat → Int, (∀ j, (p : Int) ∣ x j - y j) → sf_cd m n p W x → sf_cd m n p W y := by
    intro x y h hx i hi
    have h1 := hx i hi
    have e := sf_S_lin (n := n) (f := fun j => W i j * x j) (g := fun j => W i j * y j) (h := fun j => W i j * (x j - y j)) (c := 1) (fun j _ => by rw [Int.one_mul, ← Int.mul_add]; congr 1; omega)
    rw [Int.one_mul] at e
    have h2 : (p : Int) ∣ sf_S n (fun j => W i j * (x j - y j)) := sf_S_dvd fun j _ => Int.dvd_trans (h j) (Int.dvd_mul_left _ _)
    have h3 := Int.dvd_sub h1 h2
    rwa [e, show sf_S n (fun j => W i j * y j) + sf_S n (fun j => W i j * (x j - y j)) - W i 4 - sf_S n (fun j => W i j * (x j - y j)) = sf_S n (fun j => W i j * y j) - W i 4 by omega] at h3
  intro x y h
  refine sf_ind_c ⟨key x y h, key y x fun j => ?_⟩
  have := Int.dvd_neg.mpr (h j)
  rwa [Int.neg_sub] at this
end
section
theorem sf_S_modc {n : Nat} {p : Int} {f g : Nat → Int} (h : ∀ j, j < n → p ∣ f j - g j) : p ∣ sf_S n f - sf_S n g := by
  have e := sf_S_lin (n := n) (f := f) (g := g) (h := fun j => f j - g j) (c := 1) (fun j _ => by omega)
  rw [e, Int.one_mul, show sf_S n g + sf_S n (fun j => f j - g j) - sf_S n g = sf_S n (fun j => f j - g j) by omega]
  exact sf_S_dvd h
theorem sf_dvd_iff {p a b : Int} (h : p ∣ a - b) : p ∣ a ↔ p ∣ b := by
  constructor
  · intro q; have := Int.dvd_sub q h; rwa [show a - (a - b) = b by omega] at this
  · intro q; have := Int.dvd_add h q; rwa [show a - b + b = a by omega] at this
/-- rows in another order -/
theorem sf_ct_perm {m n p : Nat} {W W' : Nat → Nat → Int} {σ : Nat → Nat} (h1 : ∀ i, i < m → σ i < m) (h2 : ∀ i, i < m → σ (σ i) = i)
    (h : ∀ i j, i < m → j < n → W' i j = W (σ i) j) (h4 : ∀ i, i < m → W' i 4 = W (σ i) 4) : sf_ct m n p W = sf_ct m n p W' := by
  refine congrArg (sf_cn p n) (funext fun x => sf_ind_c ⟨fun g i hi => ?_, fun g i hi => ?_⟩)
  · have := g (σ i) (h1 i hi)
    rwa [sf_S_congr (g := fun j => W' i j * x j) (fun j hj => by rw [h i j hi hj]), ← h4 i hi] at this
  · have := g (σ i) (h1 i hi)
    rwa [sf_S_congr (g := fun j => W i j * x j) (fun j hj => by rw [h _ j (h1 i hi) hj, h2 i hi]), h4 _ (h1 i hi), h2 i hi] at this
/-- a row's multiple added to another -/
theorem sf_ct_add1 {m n p to fr : Nat} {t : Int} {W W' : Nat → Nat → Int} (hfr : fr < m)
    (h : ∀ i j, i < m → (j < n ∨ j = 4) → (p : Int) ∣ W' i j - (W i j + if i = to then t * W fr j else 0)) {x : Nat → Int} (g : sf_cd m n p W x) : sf_cd m n p W' x := by
  intro i hi
  have e1 : (p : Int) ∣ (sf_S n (fun j => W' i j * x j) - W' i 4) - (sf_S n (fun j => (W i j + if i = to then t * W fr j else 0) * x j) - (W i 4 + if i = to then t * W fr 4 else 0)) := by
    have d1 : (p : Int) ∣ sf_S n (fun j => W' i j * x j) - sf_S n (fun j => (W i j + if i = to then t * W fr j else 0) * x j) := sf_S_modc fun j hj => by
      rw [← Int.sub_mul]; exact Int.dvd_trans (h i j hi (Or.inl hj)) (Int.dvd_mul_right _ _)
    have d2 := h i 4 hi (Or.inr rfl)
    have d3 := Int.dvd_sub d1 d2
    generalize sf_S n (fun j => W' i j * x j) = s1 at d3 ⊢
    generalize sf_S n (fun j => (W i j + if i = to then t * W fr j else 0) * x j) = s2 at d3 ⊢
    generalize (W i 4 + if i = to then t * W fr 4 else 0) = s3 at d3 ⊢
    rwa [show s1 - s2 - (W' i 4 - s3) = s1 - W' i 4 - (s2 - s3) by omega] at d3
  refine (sf_dvd_iff e1).mpr ?_
  by_cases q : i = to
  · rw [if_pos q]
    have e2 : sf_S n (fun j => (W i j + if i = to then t * W fr j else 0) * x j) = sf_S n (fun j => W i j * x j) + t * sf_S n (fun j => W fr j * x j) := sf_S_lin fun j _ => by
      rw [if_pos q, Int.add_mul, Int.mul_assoc]
    rw [e2]
    have d1 := Int.dvd_add (g i hi) (Int.dvd_trans (g fr hfr) (Int.dvd_mul_left t _))
    generalize sf_S n (fun j => W i j * x j) = s1 at d1 ⊢
    generalize sf_S n (fun j => W fr j * x j) = s2 at d1 ⊢
    rwa [show s1 - W i 4 + t * (s2 - W fr 4) = s1 + t * s2 - (W i 4 + t * W fr 4) by grind] at d1
  · rw [if_neg q, Int.add_zero]
    have e2 : sf_S n (fun j => (W i j + if i = to then t * W fr j else 0) * x j) = sf_S n (fun j => W i j * x j) := sf_S_congr fun j _ => by
      rw [if_neg q, Int.add_zero]
    rw [e2]; exact g i hi
theorem sf_ct_add {m n p to fr : Nat} {t : Int} {W W' : Nat → Nat → Int} (hfr : fr < m) (hne : to ≠ fr)
    (h : ∀ i j, i < m → (j < n ∨ j = 4) → (p : Int) ∣ W' i j - (W i j + if i = to then t * W fr j else 0)) : sf_ct m n p W = sf_ct m n p W' := by
  refine congrArg (sf_cn p n) (funext fun x => sf_ind_c ⟨sf_ct_add1 hfr h, sf_ct_add1 (to := to) (t := -t) hfr fun i j hi hj => ?_⟩)
  have h1 := h i j hi hj
  have h2 := h fr j hfr hj
  rw [if_neg (Ne.symm hne), Int.add_zero] at h2
  by_cases q : i = to
  · rw [if_pos q] at h1 ⊢
    have h3 := Int.dvd_add (Int.dvd_neg.mpr h1) (Int.dvd_trans h2 (Int.dvd_mul_left t _))
    rwa [show -(W' i j - (W i j + t * W fr j)) + t * (W' fr j - W fr j) = W i j - (W' i j + -t * W' fr j) by grind] at h3
  · rw [if_neg q] at h1 ⊢
    have h3 := Int.dvd_neg.mpr h1
    rwa [show -(W' i j - (W i j + 0)) = W i j - (W' i j + 0) by omega] at h3
/-- a substitution that gives the same rows modulo p -/
theorem sf_cd_sub {m n p : Nat} {W W' : Nat → Nat → Int} {x y : Nat → Int} (h : ∀ i, i < m → (p : Int) ∣ (sf_S n (fun j => W' i j * x j) - W' i 4) - (sf_S n (fun j => W i j * y j) - W i 4)) :
    sf_cd m n p W' x ↔ sf_cd m n p W y :=
  ⟨fun g i hi => (sf_dvd_iff (h i hi)).mp (g i hi), fun g i hi => (sf_dvd_iff (h i hi)).mpr (g i hi)⟩
/-- a column's multiple added to another -/
theorem sf_ct_cadd {m n p to fr : Nat} {t : Int} {W W' : Nat → Nat → Int} (hp : 0 < p) (hto : to < n) (hfr : fr < n) (hne : to ≠ fr)
    (h : ∀ i j, i < m → j < n → (p : Int) ∣ W' i j - (W i j + if j = to then t * W i fr else 0)) (h4 : ∀ i, i < m → W' i 4 = W i 4) : sf_ct m n p W = sf_ct m n p W' := by
  have e := sf_cn_op p n (fun x => sf_ind (sf_cd m n p W x)) fr (fun x a => a + t * x to) hfr (sf_cd_per m n p W) (fun x v => by
    funext a; rw [sf_up_n _ _ hne]) (fun x => sf_bij_add hp _)
  unfold sf_ct
  rw [← e]
  refine congrArg (sf_cn p n) (funext fun x => sf_ind_c (Iff.symm (sf_cd_sub fun i hi => ?_)))
  have e1 : sf_S n (fun j => W i j * sf_up x fr (x fr + t * x to) j) = sf_S n (fun j => W i j * x j) + W i fr * (t * x to) := sf_S_upd (s := fr) hfr (fun j _ hn => by
    rw [sf_up_n _ _ hn]) (by rw [sf_up_s, Int.mul_add])
  have e2 : sf_S n (fun j => (W i j + if j = to then t * W i fr else 0) * x j) = sf_S n (fun j => W i j * x j) + W i fr * (t * x to) := sf_S_upd (s := to) hto (fun j _ hn => by
    rw [if_neg hn, Int.add_zero]) (by rw [if_pos rfl]; grind)
  have d1 : (p : Int) ∣ sf_S n (fun j => W' i j * x j) - sf_S n (fun j => (W i j + if j = to then t * W i fr else 0) * x j) := sf_S_modc fun j hj => by
    rw [← Int.sub_mul]; exact Int.dvd_trans (h i j hi hj) (Int.dvd_mul_right _ _)
  rw [e1, ← e2, h4 i hi]
  rwa [show ∀ a b c : Int, (a - c) - (b - c) = a - b from fun a b c => by omega]
/-- columns swapped, in the count -/
theorem sf_cn_swap {p n a b : Nat} (hp : 1 ≤ p) (h6 : p ≤ 6) (ha : a < n) (hb : b < n) (hne : a ≠ b) {f : (Nat → Int) → Nat} (hf : sf_Per p f) :
    sf_cn p n (fun x => f (sf_up (sf_up x a (x b)) b (x a))) = sf_cn p n f := by
  have hg : Nat.gcd (p - 1) p = 1 := by
    have hc : p = 1 ∨ p = 2 ∨ p = 3 ∨ p = 4 ∨ p = 5 ∨ p = 6 := by omega
    rcases hc with rfl | rfl | rfl | rfl | rfl | rfl <;> decide
  have per : ∀ (f : (Nat → Int) → Nat) (T : (Nat → Int) → Nat → Int), sf_Per p f → (∀ x y : Nat → Int, (∀ j, (p : Int) ∣ x j - y j) → ∀ j, (p : Int) ∣ T x j - T y j) → sf_Per p (fun x => f (T x)) :=
    fun f T hf hT x y hxy => hf _ _ (hT x y hxy)
  have upd : ∀ (j : Nat) (g : (Nat → Int) → Int), (∀ x y : Nat → Int, (∀ j, (p : Int) ∣ x j - y j) → (p : Int) ∣ g x - g y) → ∀ x y : Nat → Int, (∀ j, (p : Int) ∣ x j - y j) → ∀ i, (p : Int) ∣ sf_up x j (g x) i - sf_up y j (g y) i := by
    intro j g hg x y hxy i
    by_cases z : i = j
    · subst z; rw [sf_up_s, sf_up_s]; exact hg x y hxy
    · rw [sf_up_n _ _ z, sf_up_n _ _ z]; exact hxy i
  have sumd : ∀ (i j : Nat) (c : Int) (x y : Nat → Int), (∀ j, (p : Int) ∣ x j - y j) → (p : Int) ∣ (x i + c * x j) - (y i + c * y j) := by
    intro i j c x y h
    have := Int.dvd_add (h i) (Int.dvd_trans (h j) (Int.dvd_mul_left c _))
    rwa [show x i - y i + c * (x j - y j) = (x i + c * x j) - (y i + c * y j) by grind] at this
  -- T4, T3, T2, T1
  have p4 : sf_Per p (fun x => f (sf_up x b (((p - 1 : Nat) : Int) * x b))) := per f (fun x => sf_up x b (((p - 1 : Nat) : Int) * x b)) hf (upd b (fun x => ((p - 1 : Nat) : Int) * x b) (fun x y h => by
    rw [← Int.mul_sub]; exact Int.dvd_trans (h b) (Int.dvd_mul_left _ _)))
  have p3 := per _ (fun x => sf_up x a (x a + 1 * x b)) p4 (upd a (fun x => x a + 1 * x b) (sumd a b 1))
  have p2 := per _ (fun x => sf_up x b (x b + (-1) * x a)) p3 (upd b (fun x => x b + (-1) * x a) (sumd b a (-1)))
  have s4 := sf_cn_op p n f b (fun _ a => ((p - 1 : Nat) : Int) * a) hb hf (fun _ _ => rfl) (fun _ => sf_bij_u hp h6 (by omega) hg)
  have s3 := sf_cn_op p n _ a (fun x c => c + 1 * x b) ha p4 (fun x v => by funext c; rw [sf_up_n _ _ (Ne.symm hne)]) (fun x => sf_bij_add (by omega) _)
  have s2 := sf_cn_op p n _ b (fun x c => c + (-1) * x a) hb p3 (fun x v => by funext c; rw [sf_up_n _ _ hne]) (fun x => sf_bij_add (by omega) _)
  have s1 := sf_cn_op p n _ a (fun x c => c + 1 * x b) ha p2 (fun x v => by funext c; rw [sf_up_n _ _ (Ne.symm hne)]) (fun x => sf_bij_add (by omega) _)
  rw [← s4, ← s3, ← s2, ← s1]
  refine congrArg (sf_cn p n) (funext fun x => hf _ _ fun i => ?_)
  have hba := Ne.symm hne
  by_cases z : i = b
  · subst z
    simp only [sf_up_s, sf_up_n _ _ hne, sf_up_n _ _ hba]
    have : (p : Int) ∣ (p : Int) * x a := Int.dvd_mul_right _ _
    have ec : ((p - 1 : Nat) : Int) = (p : Int) - 1 := by omega
    rw [ec]
    rwa [show x a - ((p : Int) - 1) * (x i + -1 * (x a + 1 * x i)) = (p : Int) * x a by grind]
  · by_cases z2 : i = a
    · subst z2
      simp only [sf_up_s, sf_up_n _ _ z, sf_up_n _ _ hba]
      rw [show x b - (x i + 1 * x b + 1 * (x b + -1 * (x i + 1 * x b))) = 0 by omega]
      exact Int.dvd_zero _
    · simp only [sf_up_n _ _ z, sf_up_n _ _ z2]
      exact sf_dvd_self_sub _ _
theorem sf_ct_cswap {m n p a b : Nat} {W W' : Nat → Nat → Int} (hp : 1 ≤ p) (h6 : p ≤ 6) (ha : a < n) (hb : b < n)
    (h : ∀ i j, i < m → j < n → W' i j = W i (if j = a then b else if j = b then a else j)) (h4 : ∀ i, i < m → W' i 4 = W i 4) : sf_ct m n p W = sf_ct m n p W' := by
  by_cases hne : a = b
  · subst hne
    refine congrArg (sf_cn p n) (funext fun x => sf_ind_c (Iff.symm (sf_cd_sub fun i hi => ?_)))
    rw [h4 i hi, sf_S_congr (f := fun j => W' i j * x j) (g := fun j => W i j * x j) (fun j hj => by
      rw [h i j hi hj]
      by_cases z : j = a
      · rw [if_pos z, z]
      · rw [if_neg z, if_neg z])]
    exact sf_dvd_self_sub _ _
  · unfold sf_ct
    rw [← sf_cn_swap hp h6 ha hb hne (sf_cd_per m n p W)]
    refine congrArg (sf_cn p n) (funext fun x => sf_ind_c (Iff.symm (sf_cd_sub fun i hi => ?_)))
    have e := sf_S_swap (n := n) ha hb (fun j => W i j * sf_up (sf_up x a (x b)) b (x a) j)
    rw [← e, h4 i hi, sf_S_congr (f := fun j => W' i j * x j) (g := fun j => W i (if j = a then b else if j = b then a else j) * sf_up (sf_up x a (x b)) b (x a) (if j = a then b else if j = b then a else j)) (fun j hj => by
      rw [h i j hi hj]
      congr 1
      by_cases z : j = a
      · rw [if_pos z, sf_up_s, z]
      · rw [if_neg z]
        by_cases z2 : j = b
        · rw [if_pos z2, sf_up_n _ _ hne, sf_up_s, z2]
        · rw [if_neg z2, sf_up_n _ _ z2, sf_up_n _ _ z])]
    exact sf_dvd_self_sub _ _
/-- the only entry of a column multiplied by a unit modulo p -/
theorem sf_ct_cunit {m n p k u : Nat} {W W' : Nat → Nat → Int} (hp : 1 ≤ p) (h6 : p ≤ 6) (hk : k < n) (hu : u < p) (hg : Nat.gcd u p = 1)
    (h0 : ∀ i j, i < m → j < n → j ≠ k → W' i j = W i j) (h1 : ∀ i, i < m → (p : Int) ∣ W' i k - (u : Int) * W i k) (h4 : ∀ i, i < m → W' i 4 = W i 4) : sf_ct m n p W = sf_ct m n p W' := by
  have e := sf_cn_op p n (fun x => sf_ind (sf_cd m n p W x)) k (fun _ a => (u : Int) * a) hk (sf_cd_per m n p W) (fun _ _ => rfl) (fun _ => sf_bij_u hp h6 hu hg)
  unfold sf_ct
  rw [← e]
  refine congrArg (sf_cn p n) (funext fun x => sf_ind_c (Iff.symm (sf_cd_sub fun i hi => ?_)))
  have e1 : sf_S n (fun j => W' i j * x j) = sf_S n (fun j => W i j * sf_up x k ((u : Int) * x k) j) + (W' i k - (u : Int) * W i k) * x k := sf_S_upd (s := k) hk (fun j hj hn => by
    rw [sf_up_n _ _ hn, h0 i j hi hj hn]) (by rw [sf_up_s]; grind)
  rw [e1, h4 i hi]
  have := Int.dvd_trans (h1 i hi) (Int.dvd_mul_right _ (x k))
  rwa [show ∀ a b c : Int, (a + b - c) - (a - c) = b from fun a b c => by omega]
theorem sf_unit_tab0 : ((List.range 7).all fun p => (List.range p).all fun a => (List.range p).all fun b => !(Nat.gcd a p == Nat.gcd b p) || (List.range p).any (fun u => Nat.gcd u p == 1 && u * a % p == b)) = true := by
  decide +kernel
theorem sf_unit_tab {p a b : Nat} (h6 : p ≤ 6) (ha : a < p) (hb : b < p) (hg : Nat.gcd a p = Nat.gcd b p) : ∃ u, u < p ∧ Nat.gcd u p = 1 ∧ u * a % p = b := by
  have h := List.all_eq_true.mp (List.all_eq_true.mp (List.all_eq_true.mp sf_unit_tab0 p (List.mem_range.mpr (by omega))) a (List.mem_range.mpr ha)) b (List.mem_range.mpr hb)
  rw [hg, beq_self_eq_true, Bool.not_true, Bool.false_or, List.any_eq_true] at h
  obtain ⟨u, hu, h2⟩ := h
  rw [Bool.and_eq_true, beq_iff_eq, beq_iff_eq] at h2
  exact ⟨u, List.mem_range.mp hu, h2.1, h2.2⟩
/-- the pivot replaced by its common divisor with a multiple of p -/
theorem sf_ct_gcd {m n p k : Nat} {M : Int} {W W' : Nat → Nat → Int} (hp : 1 ≤ p) (h6 : p ≤ 6) (hpM : (p : Int) ∣ M) (hk : k < n) (hkm : k < m)
    (h0 : ∀ i j, i < m → j < n → ¬ (i = k ∧ j = k) → W' i j = W i j) (hz : ∀ i, i < m → i ≠ k → W i k = 0) (hg : W' k k = (Int.gcd (W k k) M : Int)) (h4 : ∀ i, i < m → W' i 4 = W i 4) :
    sf_ct m n p W = sf_ct m n p W' := by
  have hp0 : (0 : Int) < (p : Int) := by omega
  have red : ∀ z : Int, ∃ a : Nat, a < p ∧ (p : Int) ∣ z - (a : Int) ∧ Nat.gcd a p = Int.gcd z (p : Int) := by
    intro z
    refine ⟨(z % (p : Int)).toNat, ?_, ?_, ?_⟩
    · have := Int.emod_lt_of_pos z hp0
      have := Int.emod_nonneg z (b := (p : Int)) (by omega)
      omega
    · rw [Int.toNat_of_nonneg (Int.emod_nonneg _ (by omega))]
      exact Int.dvd_self_sub_emod
    · have e : ((z % (p : Int)).toNat : Int) = z % (p : Int) := Int.toNat_of_nonneg (Int.emod_nonneg _ (by omega))
      have d : (p : Int) ∣ z - ((z % (p : Int)).toNat : Int) := by rw [e]; exact Int.dvd_self_sub_emod
      generalize (z % (p : Int)).toNat = a at d
      apply Nat.dvd_antisymm
      · refine Int.dvd_gcd ?_ (Int.natCast_dvd_natCast.mpr (Nat.gcd_dvd_right _ _))
        have x1 : ((Nat.gcd a p : Nat) : Int) ∣ (p : Int) := Int.natCast_dvd_natCast.mpr (Nat.gcd_dvd_right _ _)
        have x2 : ((Nat.gcd a p : Nat) : Int) ∣ (a : Int) := Int.natCast_dvd_natCast.mpr (Nat.gcd_dvd_left _ _)
        exact (sf_dvd_iff (Int.dvd_trans x1 d)).mpr x2
      · refine Nat.dvd_gcd ?_ ?_
        · have x1 := Int.gcd_dvd_right z (p : Int)
          have x2 := Int.gcd_dvd_left z (p : Int)
          exact Int.natCast_dvd_natCast.mp ((sf_dvd_iff (Int.dvd_trans x1 d)).mp x2)
        · exact Int.natCast_dvd_natCast.mp (Int.gcd_dvd_right z (p : Int))
  obtain ⟨a, ha, da, ga⟩ := red (W k k)
  obtain ⟨b, hb, db, gb⟩ := red (W' k k)
  have hgg : Nat.gcd a p = Nat.gcd b p := by
    rw [ga, gb, hg]
    apply Nat.dvd_antisymm
    · refine Int.dvd_gcd (Int.natCast_dvd_natCast.mpr (Int.dvd_gcd (Int.gcd_dvd_left _ _) (Int.dvd_trans (Int.gcd_dvd_right _ _) hpM))) (Int.gcd_dvd_right _ _)
    · refine Int.dvd_gcd (Int.dvd_trans (Int.gcd_dvd_left _ _) (Int.gcd_dvd_left _ _)) (Int.gcd_dvd_right _ _)
  obtain ⟨u, hu, hu1, hu2⟩ := sf_unit_tab h6 ha hb hgg
  refine sf_ct_cunit hp h6 hk hu hu1 (fun i j hi hj hn => h0 i j hi hj (fun z => hn z.2)) (fun i hi => ?_) h4
  by_cases q : i = k
  · subst q
    have x1 : (p : Int) ∣ (u : Int) * (a : Int) - (b : Int) := by
      rw [← Int.natCast_mul, ← hu2, Int.natCast_emod]
      exact Int.dvd_self_sub_emod
    have x2 := Int.dvd_sub (Int.dvd_sub db x1) (Int.dvd_trans da (Int.dvd_mul_left (u : Int) _))
    rwa [show W' i i - (b : Int) - ((u : Int) * (a : Int) - (b : Int)) - (u : Int) * (W i i - (a : Int)) = W' i i - (u : Int) * W i i by grind] at x2
  · rw [h0 i k hi hk (fun z => q z.1), hz i hi q, Int.mul_zero, Int.sub_zero]
    exact Int.dvd_zero _
end
section
theorem sf_bez (a b : Nat) : ∃ x y : Int, (Nat.gcd a b : Int) = (a : Int) * x + (b : Int) * y := by
  refine Nat.gcd.induction (P := fun a b => ∃ x y : Int, (Nat.gcd a b : Int) = (a : Int) * x + (b : Int) * y) a b ?_ ?_
  · intro n; exact ⟨0, 1, by rw [Nat.gcd_zero_left, Int.mul_zero, Int.mul_one, Int.zero_add]⟩
  · intro m n _ ⟨x, y, h⟩
    refine ⟨y - ((n / m : Nat) : Int) * x, x, ?_⟩
    rw [Nat.gcd_rec, h]
    have e : ((n % m : Nat) : Int) = (n : Int) - (m : Int) * ((n / m : Nat) : Int) := by
      have := Nat.mod_add_div n m
      have h2 : ((n % m + m * (n / m) : Nat) : Int) = (n : Int) := by rw [this]
      rw [Int.natCast_add, Int.natCast_mul] at h2
      omega
    rw [e]; grind
theorem sf_bezI (a b : Int) : ∃ x y : Int, (Int.gcd a b : Int) = a * x + b * y := by
  obtain ⟨x, y, h⟩ := sf_bez a.natAbs b.natAbs
  have h' : (Int.gcd a b : Int) = (a.natAbs : Int) * x + (b.natAbs : Int) * y := h
  rcases Int.natAbs_eq a with ea | ea <;> rcases Int.natAbs_eq b with eb | eb
  · exact ⟨x, y, by rw [h']; rw [← ea, ← eb]⟩
  · exact ⟨x, -y, by rw [h']; rw [← ea]; generalize (b.natAbs : Int) = q at eb ⊢; subst eb; grind⟩
  · exact ⟨-x, y, by rw [h']; rw [← eb]; generalize (a.natAbs : Int) = q at ea ⊢; subst ea; grind⟩
  · exact ⟨-x, -y, by rw [h']; generalize (b.natAbs : Int) = q at eb ⊢; generalize (a.natAbs : Int) = q2 at ea ⊢; subst eb; subst ea; grind⟩
/-- W has the lattices' determinants and the counts of A -/
def sf_Sm (m n : Nat) (M : Int) (A W : Nat → Nat → Int) : Prop :=
  (∀ (c : Int) (k : Nat) (d : Int), k ≤ 4 → (sf_Dv m (n + 1) M (sf_ex n c A) k d ↔ sf_Dv m (n + 1) M (sf_ex n c W) k d)) ∧
  (∀ p : Nat, 1 ≤ p → p ≤ 6 → sf_ct m n p A = sf_ct m n p W)
theorem sf_Sm_rf {m n : Nat} {M : Int} (A : Nat → Nat → Int) : sf_Sm m n M A A := ⟨fun _ _ _ _ => Iff.rfl, fun _ _ _ => rfl⟩
theorem sf_Sm_tr {m n : Nat} {M : Int} {A B C : Nat → Nat → Int} (h : sf_Sm m n M A B) (g : sf_Sm m n M B C) : sf_Sm m n M A C :=
  ⟨fun c k d hk => (h.1 c k d hk).trans (g.1 c k d hk), fun p h1 h6 => (h.2 p h1 h6).trans (g.2 p h1 h6)⟩
theorem sf_p120 {M : Int} (h : (120 : Int) ∣ M) {p : Nat} (h1 : 1 ≤ p) (h6 : p ≤ 6) : (p : Int) ∣ M := by
  refine Int.dvd_trans ?_ h
  have hc : p = 1 ∨ p = 2 ∨ p = 3 ∨ p = 4 ∨ p = 5 ∨ p = 6 := by omega
  rcases hc with rfl | rfl | rfl | rfl | rfl | rfl <;> decide
def sf_tp (a b i : Nat) : Nat := if i = a then b else if i = b then a else i
theorem sf_tp_lt {a b m i : Nat} (ha : a < m) (hb : b < m) (hi : i < m) : sf_tp a b i < m := by
  unfold sf_tp
  split
  · exact hb
  · split
    · exact ha
    · exact hi
theorem sf_tp_tp (a b i : Nat) : sf_tp a b (sf_tp a b i) = i := by
  unfold sf_tp
  by_cases z : i = a
  · rw [if_pos z]
    by_cases w : b = a
    · rw [if_pos w]; omega
    · rw [if_neg w, if_pos rfl]; omega
  · rw [if_neg z]
    by_cases w : i = b
    · rw [if_pos w, if_pos rfl]; omega
    · rw [if_neg w, if_neg z, if_neg w]
section
variable {m n : Nat} {M : Int} {W W' : Nat → Nat → Int}
theorem sf_Sm_rswap {a b : Nat} (ha : a < m) (hb : b < m) (h : ∀ i j, i < m → (j < n ∨ j = 4) → W' i j = W (sf_tp a b i) j) : sf_Sm m n M W W' := by
  refine ⟨fun c k d _ => sf_Dv_perm (σ := sf_tp a b) (fun i hi => sf_tp_lt ha hb hi) (fun i _ => sf_tp_tp a b i) fun i j hi hj => ?_,
    fun p _ _ => sf_ct_perm (σ := sf_tp a b) (fun i hi => sf_tp_lt ha hb hi) (fun i _ => sf_tp_tp a b i) (fun i j hi hj => h i j hi (Or.inl hj)) (fun i hi => h i 4 hi (Or.inr rfl))⟩
  unfold sf_ex
  by_cases q : j < n
  · rw [if_pos q, if_pos q]; exact h i j hi (Or.inl q)
  · rw [if_neg q, if_neg q, h i 4 hi (Or.inr rfl)]
theorem sf_Sm_radd {to fr : Nat} {t : Int} (h120 : (120 : Int) ∣ M) (hto : to < m) (hfr : fr < m) (hne : to ≠ fr)
    (h : ∀ i j, i < m → (j < n ∨ j = 4) → M ∣ W' i j - (W i j + if i = to then t * W fr j else 0)) : sf_Sm m n M W W' := by
  refine ⟨fun c k d _ => sf_Dv_add (t := t) hto hfr hne fun i j hi hj => ?_, fun p h1 h6 => sf_ct_add (t := t) hfr hne fun i j hi hj => Int.dvd_trans (sf_p120 h120 h1 h6) (h i j hi hj)⟩
  unfold sf_ex
  by_cases q : j < n
  · rw [if_pos q, if_pos q, if_pos q]; exact h i j hi (Or.inl q)
  · rw [if_neg q, if_neg q, if_neg q]
    have h2 := Int.dvd_trans (h i 4 hi (Or.inr rfl)) (Int.dvd_mul_left c _)
    by_cases z : i = to
    · rw [if_pos z] at h2 ⊢
      rwa [show c * (W' i 4 - (W i 4 + t * W fr 4)) = c * W' i 4 - (c * W i 4 + t * (c * W fr 4)) by grind] at h2
    · rw [if_neg z] at h2 ⊢
      rwa [show c * (W' i 4 - (W i 4 + 0)) = c * W' i 4 - (c * W i 4 + 0) by grind] at h2
theorem sf_Sm_cswap {a b : Nat} (ha : a < n) (hb : b < n) (h : ∀ i j, i < m → j < n → W' i j = W i (sf_tp a b j)) (h4 : ∀ i, i < m → W' i 4 = W i 4) : sf_Sm m n M W W' := by
  refine ⟨fun c k d _ => sf_Dv_In (sf_In_cswap (a := a) (b := b) (by omega) (by omega) fun i j hi hj => ?_), fun p h1 h6 => sf_ct_cswap h1 h6 ha hb h h4⟩
  have e : sf_ex n c W i (if j = a then b else if j = b then a else j) = sf_ex n c W i (sf_tp a b j) := rfl
  rw [e]
  unfold sf_ex
  by_cases q : j < n
  · rw [if_pos q, if_pos (sf_tp_lt ha hb q)]; exact h i j hi q
  · have e2 : sf_tp a b j = j := by unfold sf_tp; rw [if_neg (by omega), if_neg (by omega)]
    rw [e2, if_neg q, if_neg q, h4 i hi]
theorem sf_Sm_cadd {to fr : Nat} {t : Int} (h120 : (120 : Int) ∣ M) (hto : to < n) (hfr : fr < n) (hne : to ≠ fr)
    (h : ∀ i j, i < m → j < n → M ∣ W' i j - (W i j + if j = to then t * W i fr else 0)) (h4 : ∀ i, i < m → W' i 4 = W i 4) : sf_Sm m n M W W' := by
  refine ⟨fun c k d _ => sf_Dv_In (sf_In_cadd (to := to) (fr := fr) (t := t) (by omega) (by omega) hne fun i j hi hj => ?_),
    fun p h1 h6 => sf_ct_cadd (t := t) (by omega) hto hfr hne (fun i j hi hj => Int.dvd_trans (sf_p120 h120 h1 h6) (h i j hi hj)) h4⟩
  unfold sf_ex
  by_cases q : j < n
  · rw [if_pos q, if_pos q, if_pos hfr]; exact h i j hi q
  · rw [if_neg q, if_neg q, if_neg (show ¬ j = to by omega), h4 i hi, Int.add_zero]
    exact sf_dvd_self_sub _ _
theorem sf_Sm_gcd {k : Nat} (h120 : (120 : Int) ∣ M) (hk : k < n) (hkm : k < m) (h0 : ∀ i j, i < m → j < n → ¬ (i = k ∧ j = k) → W' i j = W i j)
    (hz : ∀ i, i < m → i ≠ k → W i k = 0) (hg : W' k k = (Int.gcd (W k k) M : Int)) (h4 : ∀ i, i < m → W' i 4 = W i 4) : sf_Sm m n M W W' := by
  refine ⟨fun c l d _ => sf_Dv_In fun v => ?_, fun p h1 h6 => sf_ct_gcd h1 h6 (sf_p120 h120 h1 h6) hk hkm h0 hz hg h4⟩
  have e0 : ∀ i j, i < m → j < n + 1 → j ≠ k → sf_ex n c W' i j = sf_ex n c W i j := by
    intro i j hi hj hn
    unfold sf_ex
    by_cases q : j < n
    · rw [if_pos q, if_pos q]; exact h0 i j hi q (fun z => hn z.2)
    · rw [if_neg q, if_neg q, h4 i hi]
  have ek : ∀ W : Nat → Nat → Int, ∀ i, sf_ex n c W i k = W i k := fun W i => if_pos hk
  constructor
  · obtain ⟨q, hq⟩ := Int.gcd_dvd_left (W k k) M
    refine sf_In_cunit1 (k := k) (α := q) (by omega) (fun i j hi hj hn => (e0 i j hi hj hn).symm) fun i hi => ?_
    rw [ek, ek]
    by_cases z : i = k
    · subst z
      rw [hg, Int.mul_comm q, ← hq, Int.sub_self]; exact Int.dvd_zero M
    · rw [h0 i k hi hk (fun w => z w.1), hz i hi z, Int.mul_zero, Int.sub_zero]; exact Int.dvd_zero M
  · obtain ⟨x, y, hxy⟩ := sf_bezI (W k k) M
    refine sf_In_cunit1 (k := k) (α := x) (by omega) e0 fun i hi => ?_
    rw [ek, ek]
    by_cases z : i = k
    · subst z
      rw [hg, hxy, show W i i * x + M * y - x * W i i = M * y by grind]; exact Int.dvd_mul_right M y
    · rw [h0 i k hi hk (fun w => z w.1), hz i hi z, Int.mul_zero, Int.sub_zero]; exact Int.dvd_zero M
end
/-- left products of naturals -/
def sf_qp (g : Nat → Nat) : Nat → Nat
  | 0 => 1
  | n + 1 => sf_qp g n * g n
theorem sf_qp_congr {g g' : Nat → Nat} {n : Nat} (h : ∀ j, j < n → g j = g' j) : sf_qp g n = sf_qp g' n := by
  induction n with
  | zero => rfl
  | succ n ih =>
    show sf_qp g n * g n = sf_qp g' n * g' n
    rw [ih (fun j hj => h j (by omega)), h n (by omega)]
theorem sf_cn_prod (p : Nat) (R : Nat → Int → Prop) : ∀ n : Nat, sf_cn p n (fun x => sf_ind (∀ i, i < n → R i (x i))) = sf_qp (fun j => sf_Q p (fun a => sf_ind (R j (a : Int)))) n := by
  intro n
  induction n with
  | zero => exact sf_ind_t (fun i hi => absurd hi (by omega))
  | succ n ih =>
    rw [sf_cn_s]
    have e : (fun y : Nat → Int => sf_Q p (fun a => sf_ind (∀ i, i < n + 1 → R i (sf_up y n (a : Int) i)))) = (fun y => sf_ind (∀ i, i < n → R i (y i)) * sf_Q p (fun a => sf_ind (R n (a : Int)))) := by
      funext y
      rw [Nat.mul_comm, ← sf_Q_mul]
      refine sf_Q_congr fun a _ => ?_
      rw [Nat.mul_comm, ← sf_ind_and]
      refine sf_ind_c ⟨fun h => ⟨fun i hi => ?_, ?_⟩, fun h i hi => ?_⟩
      · have := h i (by omega); rwa [sf_up_n _ _ (by omega)] at this
      · have := h n (by omega); rwa [sf_up_s] at this
      · by_cases z : i = n
        · subst z; rw [sf_up_s]; exact h.2
        · rw [sf_up_n _ _ z]; exact h.1 i (by omega)
    rw [e, sf_cn_mul, ih]; rfl
theorem sf_cnt_tab : ((List.range 7).all fun p => (List.range p).all fun a => (List.range p).all fun t => !(t % Nat.gcd a p == 0) || sf_Q p (fun x => if (a * x) % p = t then 1 else 0) == Nat.gcd a p) = true := by
  decide +kernel
theorem sf_red {p : Nat} (hp : 1 ≤ p) (z : Int) : ∃ a : Nat, a < p ∧ (p : Int) ∣ z - (a : Int) ∧ Nat.gcd a p = Int.gcd z (p : Int) := by
  have hp0 : (0 : Int) < (p : Int) := by omega
  refine ⟨(z % (p : Int)).toNat, ?_, ?_, ?_⟩
  · have := Int.emod_lt_of_pos z hp0
    have := Int.emod_nonneg z (b := (p : Int)) (by omega)
    omega
  · rw [Int.toNat_of_nonneg (Int.emod_nonneg _ (by omega))]
    exact Int.dvd_self_sub_emod
  · have e : ((z % (p : Int)).toNat : Int) = z % (p : Int) := Int.toNat_of_nonneg (Int.emod_nonneg _ (by omega))
    have d : (p : Int) ∣ z - ((z % (p : Int)).toNat : Int) := by rw [e]; exact Int.dvd_self_sub_emod
    generalize (z % (p : Int)).toNat = a at d
    apply Nat.dvd_antisymm
    · refine Int.dvd_gcd ?_ (Int.natCast_dvd_natCast.mpr (Nat.gcd_dvd_right _ _))
      have x1 : ((Nat.gcd a p : Nat) : Int) ∣ (p : Int) := Int.natCast_dvd_natCast.mpr (Nat.gcd_dvd_right _ _)
      have x2 : ((Nat.gcd a p : Nat) : Int) ∣ (a : Int) := Int.natCast_dvd_natCast.mpr (Nat.gcd_dvd_left _ _)
      exact (sf_dvd_iff (Int.dvd_trans x1 d)).mpr x2
    · refine Nat.dvd_gcd ?_ ?_
      · have x1 := Int.gcd_dvd_right z (p : Int)
        have x2 := Int.gcd_dvd_left z (p : Int)
        exact Int.natCast_dvd_natCast.mp ((sf_dvd_iff (Int.dvd_trans x1 d)).mp x2)
      · exact Int.natCast_dvd_natCast.mp (Int.gcd_dvd_right z (p : Int))
theorem sf_cnt1 {p : Nat} (hp : 1 ≤ p) (h6 : p ≤ 6) {e t : Int} (h : (Int.gcd e (p : Int) : Int) ∣ t) : sf_Q p (fun a => sf_ind ((p : Int) ∣ e * (a : Int) - t)) = Int.gcd e (p : Int) := by
  obtain ⟨E, hE, dE, gE⟩ := sf_red hp e
  obtain ⟨T, hT, dT, gT⟩ := sf_red hp t
  have h1 := List.all_eq_true.mp (List.all_eq_true.mp (List.all_eq_true.mp sf_cnt_tab p (List.mem_range.mpr (by omega))) E (List.mem_range.mpr hE)) T (List.mem_range.mpr hT)
  have h2 : T % Nat.gcd E p = 0 := by
    apply Nat.mod_eq_zero_of_dvd
    rw [gE]
    exact Int.natCast_dvd_natCast.mp ((sf_dvd_iff (Int.dvd_trans (Int.gcd_dvd_right e (p : Int)) dT)).mp h)
  rw [h2, beq_self_eq_true, Bool.not_true, Bool.false_or, beq_iff_eq] at h1
  rw [← gE, ← h1]
  refine sf_Q_congr fun a _ => ?_
  have d1 : (p : Int) ∣ (e * (a : Int) - t) - ((E : Int) * (a : Int) - (T : Int)) := by
    have := Int.dvd_sub (Int.dvd_trans dE (Int.dvd_mul_right _ (a : Int))) dT
    rwa [show (e - (E : Int)) * (a : Int) - (t - (T : Int)) = (e * (a : Int) - t) - ((E : Int) * (a : Int) - (T : Int)) by grind] at this
  by_cases z : E * a % p = T
  · rw [if_pos z]
    refine sf_ind_t ((sf_dvd_iff d1).mpr ?_)
    rw [← z, Int.natCast_emod, Int.natCast_mul]; exact Int.dvd_self_sub_emod
  · rw [if_neg z]
    refine sf_ind_f fun w => z ?_
    have w2 := (sf_dvd_iff d1).mp w
    have w3 : (p : Int) ∣ (E : Int) * (a : Int) - ((E * a % p : Nat) : Int) := by rw [Int.natCast_emod, Int.natCast_mul]; exact Int.dvd_self_sub_emod
    have w4 := Int.dvd_sub w2 w3
    rw [show (E : Int) * (a : Int) - (T : Int) - ((E : Int) * (a : Int) - ((E * a % p : Nat) : Int)) = ((E * a % p : Nat) : Int) - (T : Int) by omega] at w4
    have w5 := Nat.mod_lt (E * a) (show p > 0 by omega)
    obtain ⟨k, hk⟩ := w4
    have k0 : k = 0 := by
      by_cases a1 : k ≥ 1
      · exfalso
        have : (p : Int) * k ≥ (p : Int) * 1 := Int.mul_le_mul_of_nonneg_left a1 (by omega)
        omega
      · by_cases a2 : k ≤ -1
        · exfalso
          have : (p : Int) * k ≤ (p : Int) * (-1) := Int.mul_le_mul_of_nonneg_left a2 (by omega)
          omega
        · omega
    rw [k0, Int.mul_zero] at hk
    omega
/-- what divides the target in row i, modulo p -/
def sf_cg (f : Nat) (e : Nat → Int) (p : Nat) (i : Nat) : Nat := if i < f then Int.gcd (e i) (p : Int) else p
theorem sf_Q_const (p c : Nat) : sf_Q p (fun _ => c) = p * c := by
  induction p with
  | zero => show 0 = 0 * c; omega
  | succ p ih => show sf_Q p (fun _ => c) + c = (p + 1) * c; rw [ih, Nat.succ_mul]
theorem sf_ct_diag {m n f p : Nat} {M : Int} {e : Nat → Int} {W : Nat → Nat → Int} (hp : 1 ≤ p) (h6 : p ≤ 6) (hD : sf_Dg m n M f e W) :
    ((∀ i, i < m → (sf_cg f e p i : Int) ∣ W i 4) → sf_ct m n p W = sf_qp (sf_cg f e p) n) ∧ (¬ (∀ i, i < m → (sf_cg f e p i : Int) ∣ W i 4) → sf_ct m n p W = 0) := by
  have hfm := hD.1
  have hfn := hD.2.1
  have row : ∀ (x : Nat → Int) i, i < m → sf_S n (fun j => W i j * x j) = if i < f then e i * x i else 0 := by
    intro x i hi
    by_cases q : i < f
    · rw [if_pos q, sf_S_one (s := i) (by omega) (fun j hj hn => by rw [hD.2.2.2.2.2 i j hi hj, if_neg (fun z => hn z.1.symm), Int.zero_mul]), hD.2.2.2.2.2 i i hi (by omega), if_pos ⟨rfl, q⟩]
    · rw [if_neg q]
      exact sf_S_zero fun j hj => by rw [hD.2.2.2.2.2 i j hi hj, if_neg (fun z => q z.2), Int.zero_mul]
  constructor
  · intro hok
    have e1 : sf_ct m n p W = sf_cn p n (fun x => sf_ind (∀ i, i < n → (fun i a => i < f → (p : Int) ∣ e i * a - W i 4) i (x i))) := by
      refine congrArg (sf_cn p n) (funext fun x => sf_ind_c ⟨fun h i hi q => ?_, fun h i hi => ?_⟩)
      · have := h i (by omega)
        rwa [row x i (by omega), if_pos q] at this
      · rw [row x i hi]
        by_cases q : i < f
        · rw [if_pos q]; exact h i (by omega) q
        · rw [if_neg q, Int.zero_sub, Int.dvd_neg]
          have := hok i hi
          unfold sf_cg at this; rwa [if_neg q] at this
    rw [e1]
    refine (sf_cn_prod p (fun i a => i < f → (p : Int) ∣ e i * a - W i 4) n).trans ?_
    refine sf_qp_congr fun j hj => ?_
    by_cases q : j < f
    · have h2 := hok j (by omega)
      unfold sf_cg at h2 ⊢
      rw [if_pos q] at h2 ⊢
      rw [← sf_cnt1 hp h6 h2]
      exact sf_Q_congr fun a _ => sf_ind_c ⟨fun h => h q, fun h _ => h⟩
    · unfold sf_cg
      rw [if_neg q, sf_Q_congr (g := fun _ => 1) (fun a _ => sf_ind_t (fun h => absurd h q)), sf_Q_const, Nat.mul_one]
  · intro hno
    have e1 : (fun x => sf_ind (sf_cd m n p W x)) = (fun _ => 0) := by
      funext x
      refine sf_ind_f fun h => hno fun i hi => ?_
      have h1 := h i hi
      rw [row x i hi] at h1
      unfold sf_cg
      by_cases q : i < f
      · rw [if_pos q] at h1 ⊢
        have h2 := Int.dvd_trans (Int.gcd_dvd_right (e i) (p : Int)) h1
        have h3 := Int.dvd_trans (Int.gcd_dvd_left (e i) (p : Int)) (Int.dvd_mul_right (e i) (x i))
        have h4 := Int.dvd_sub h3 h2
        rwa [show e i * x i - (e i * x i - W i 4) = W i 4 by omega] at h4
      · rw [if_neg q] at h1 ⊢
        rwa [Int.zero_sub, Int.dvd_neg] at h1
    unfold sf_ct
    rw [e1, sf_cn_0]
end
section
theorem sf_inc_lt {k : Nat} {r : Nat → Nat} (h : ∀ s, s + 1 < k → r s < r (s + 1)) : ∀ d a, a + d + 1 < k → r a < r (a + d + 1) := by
  intro d
  induction d with
  | zero => intro a ha; exact h a ha
  | succ d ih => intro a ha; exact Nat.lt_trans (ih a (by omega)) (h (a + d + 1) (by omega))
theorem sf_sw_sw (s j : Nat) : sf_sw s (sf_sw s j) = j := by
  unfold sf_sw
  by_cases a : j = s
  · rw [if_pos a, if_neg (by omega), if_pos rfl]; omega
  · rw [if_neg a]
    by_cases b : j = s + 1
    · rw [if_pos b, if_pos rfl]; omega
    · rw [if_neg b, if_neg a, if_neg b]
/-- two equal rows -/
theorem sf_dt_rep {k : Nat} (hk : k ≤ 4) (G : Nat → Nat → Int) : ∀ r : Nat → Nat, (∃ a b, a < k ∧ b < k ∧ a ≠ b ∧ r a = r b) → sf_dt k (fun i j => G (r i) j) = 0 := by
  refine sf_sort k (fun r => (∃ a b, a < k ∧ b < k ∧ a ≠ b ∧ r a = r b) → sf_dt k (fun i j => G (r i) j) = 0) ?_ ?_ ?_
  · intro r s hs ih ⟨a, b, ha, hb, hn, he⟩
    have h1 := ih ⟨sf_sw s a, sf_sw s b, sf_sw_lt hs ha, sf_sw_lt hs hb, fun z => hn (by rw [← sf_sw_sw s a, z, sf_sw_sw]), by show r (sf_sw s (sf_sw s a)) = r (sf_sw s (sf_sw s b)); rw [sf_sw_sw, sf_sw_sw]; exact he⟩
    rw [sf_dt_rswap hk hs (fun i j => G (r i) j)] at h1
    omega
  · intro r s hs he _
    exact sf_dt_req hk hs (fun i j => G (r i) j) (fun j _ => by show G (r s) j = G (r (s + 1)) j; rw [he])
  · intro r hs ⟨a, b, ha, hb, hn, he⟩
    exfalso
    by_cases q : a < b
    · have := sf_inc_lt hs (b - a - 1) a (by omega)
      rw [show a + (b - a - 1) + 1 = b by omega] at this; omega
    · have := sf_inc_lt hs (a - b - 1) b (by omega)
      rw [show b + (a - b - 1) + 1 = a by omega] at this; omega
theorem sf_dt_crep {k : Nat} (hk : k ≤ 4) (G : Nat → Nat → Int) (r : Nat → Nat) (h : ∃ a b, a < k ∧ b < k ∧ a ≠ b ∧ r a = r b) : sf_dt k (fun i j => G i (r j)) = 0 := by
  rw [← sf_dt_tr hk]
  exact sf_dt_rep hk (fun i j => G j i) r h
theorem sf_pow_ne {x : Int} (h : x ≠ 0) : ∀ k : Nat, x ^ k ≠ 0 := by
  intro k
  induction k with
  | zero => rw [Int.pow_zero]; decide
  | succ k ih =>
    rw [Int.pow_succ]
    intro z
    rcases Int.mul_eq_zero.mp z with q | q
    · exact ih q
    · exact h q
/-- if all minors that border a minor other than 0 vanish, all minors of that size do -/
theorem sf_rank {m N r : Nat} (hr : r + 1 ≤ 4) {F : Nat → Nat → Int} {ρ γ : Nat → Nat} (hP : sf_dt r (fun a b => F (ρ a) (γ b)) ≠ 0)
    (hB : ∀ i j, i < m → j < N → sf_dt (r + 1) (fun a b => F (if a < r then ρ a else i) (if b < r then γ b else j)) = 0) : sf_Gc m N F (r + 1) 0 := by
  have hL : ∀ j, j < N → sf_In m r 0 (fun i b => F i (γ b)) (fun i => sf_dt r (fun a b => F (ρ a) (γ b)) * F i j) := by
    intro j hj
    obtain ⟨K, hK⟩ := sf_dt_last hr (fun a b => F (ρ a) (if b < r then γ b else j))
    refine ⟨fun b => - K b, fun i hi => ?_⟩
    have h1 := hK (fun b => F i (if b < r then γ b else j))
    have e1 : sf_dt (r + 1) (fun a b => if a < r then F (ρ a) (if b < r then γ b else j) else F i (if b < r then γ b else j)) = 0 := by
      rw [← hB i j hi hj]
      refine sf_dt_congr fun a b _ _ => ?_
      by_cases q : a < r
      · rw [if_pos q, if_pos q]
      · rw [if_neg q, if_neg q]
    rw [e1] at h1
    have e2 : sf_S r (fun b => F i (if b < r then γ b else j) * K b) = sf_S r (fun b => F i (γ b) * K b) := sf_S_congr fun b hb => by rw [if_pos hb]
    have e3 : sf_dt r (fun a b => F (ρ a) (if b < r then γ b else j)) = sf_dt r (fun a b => F (ρ a) (γ b)) := sf_dt_congr fun a b _ hb => by rw [if_pos hb]
    have e4 : sf_S r (fun b => F i (γ b) * - K b) = sf_S r (fun _ => 0) + (-1) * sf_S r (fun b => F i (γ b) * K b) := sf_S_lin fun b _ => by grind
    rw [e2, e3, if_neg (by omega)] at h1
    rw [e4, sf_S_zero (fun _ _ => rfl)]
    dsimp only
    rw [Int.mul_comm (sf_dt r (fun a b => F (ρ a) (γ b)))]
    refine ⟨0, ?_⟩
    omega
  intro R C hR hC
  have h1 := sf_gen (M := 0) (d := 0) (Int.dvd_refl 0) (sf_Gc_bigN (m := m) (N := r) (k := r + 1) (d := 0) hr (by omega) (F := fun i b => F i (γ b)))
    (fun j i => sf_dt r (fun a b => F (ρ a) (γ b)) * F i (C j)) R (fun j hj => hL _ (hC j hj)) hR
  have h2 := Int.zero_dvd.mp h1
  rw [sf_dt_scale (sf_dt r (fun a b => F (ρ a) (γ b))) (fun i j => F (R i) (C j))] at h2
  rcases Int.mul_eq_zero.mp h2 with h3 | h3
  · exact absurd h3 (sf_pow_ne hP _)
  · rw [h3]; exact Int.dvd_refl 0
/-- what measure finds -/
def sf_Ms (m n : Nat) (A : Nat → Nat → Int) (r : Nat) (ρ γ : Nat → Nat) (D : Int) : Prop :=
  r ≤ m ∧ r ≤ n ∧ (∀ i, i < m → ρ i < m) ∧ (∀ i, i < m → ∃ i', i' < m ∧ ρ i' = i) ∧ (∀ j, j < n → γ j < n) ∧ (∀ j, j < n → ∃ j', j' < n ∧ γ j' = j) ∧ γ 4 = 4 ∧
  sf_dt r (fun a b => A (ρ a) (γ b)) = D ∧ D ≠ 0 ∧
  (∀ i j, r ≤ i → i < m → r ≤ j → j < n → sf_dt (r + 1) (fun a b => A (ρ (if a < r then a else i)) (γ (if b < r then b else j))) = 0)
def sf_Dp (m : Nat) (A : Nat → Nat → Int) (r : Nat) (ρ γ : Nat → Nat) : Prop :=
  ∀ i, r ≤ i → i < m → sf_dt (r + 1) (fun a b => A (ρ (if a < r then a else i)) (γ (if b < r then b else 4))) = 0
section
variable {m n r : Nat} {A : Nat → Nat → Int} {ρ γ : Nat → Nat} {D : Int}
theorem sf_if_app {α β : Type} (f : α → β) (p : Prop) [Decidable p] (a b : α) : f (if p then a else b) = if p then f a else f b := by split <;> rfl
theorem sf_Ms_bd (hr : r + 1 ≤ 4) (h : sf_Ms m n A r ρ γ D) : ∀ i j, i < m → j < n → sf_dt (r + 1) (fun a b => A (if a < r then ρ a else i) (if b < r then γ b else j)) = 0 := by
  obtain ⟨h1, h2, h3, h4, h5, h6, h7, h8, h9, h10⟩ := h
  intro i j hi hj
  obtain ⟨i', hi', rfl⟩ := h4 i hi
  obtain ⟨j', hj', rfl⟩ := h6 j hj
  by_cases qi : i' < r
  · exact sf_dt_rep hr (fun i j => A (ρ i) (if j < r then γ j else γ j')) (fun a => if a < r then a else i') ⟨i', r, by omega, by omega, by omega, by rw [if_pos qi, if_neg (by omega)]⟩ ▸
      (sf_dt_congr fun a b _ _ => by rw [sf_if_app ρ])
  · by_cases qj : j' < r
    · exact sf_dt_crep hr (fun i j => A (if i < r then ρ i else ρ i') (γ j)) (fun b => if b < r then b else j') ⟨j', r, by omega, by omega, by omega, by rw [if_pos qj, if_neg (by omega)]⟩ ▸
        (sf_dt_congr fun a b _ _ => by rw [sf_if_app γ])
    · exact h10 i' j' (by omega) hi' (by omega) hj' ▸ (sf_dt_congr fun a b _ _ => by rw [sf_if_app ρ, sf_if_app γ])
theorem sf_Ms_Rk (hm : m ≤ 4) (h : sf_Ms m n A r ρ γ D) : sf_Rk m n A r D := by
  refine ⟨h.1, h.2.1, h.2.2.2.2.2.2.2.2.1, ⟨ρ, γ, fun i hi => h.2.2.1 i (by have := h.1; omega), fun j hj => h.2.2.2.2.1 j (by have := h.2.1; omega), h.2.2.2.2.2.2.2.1⟩, fun hr => ?_⟩
  refine sf_rank hr (ρ := ρ) (γ := γ) ?_ (sf_Ms_bd hr h)
  rw [h.2.2.2.2.2.2.2.1]; exact h.2.2.2.2.2.2.2.2.1
theorem sf_ex_bd {c : Int} (hr : r ≤ n) (h5 : ∀ j, j < n → γ j < n) (R : Nat → Nat) : sf_dt (r + 1) (fun a b => sf_ex n c A (R a) (if b < r then γ b else n)) = c * sf_dt (r + 1) (fun a b => A (R a) (if b < r then γ b else 4)) := by
  have e := sf_dt_col (k := r + 1) (f := fun a b => sf_ex n c A (R a) (if b < r then γ b else n)) (g := fun a b => if b < r then A (R a) (γ b) else 0) (h := fun a b => A (R a) (if b < r then γ b else 4)) (s := r) (c := c) (by omega)
    (fun a b _ hb hn => by
      have hb' : b < r := by omega
      rw [if_pos hb', if_pos hb', if_pos hb']
      have e1 : sf_ex n c A (R a) (γ b) = A (R a) (γ b) := if_pos (h5 b (by omega))
      exact ⟨e1, e1⟩)
    (fun a _ => by
      rw [if_neg (by omega), if_neg (by omega), if_neg (by omega), Int.zero_add]
      exact if_neg (by omega))
  rw [e, sf_dt_z (s := r) (by omega) (fun a _ => if_neg (by omega)), Int.zero_add]
theorem sf_Ms_dep {c : Int} (hc : c ≠ 0) (hm : m ≤ 4) (h : sf_Ms m n A r ρ γ D) : sf_Dp m A r ρ γ ↔ (r + 1 ≤ 4 → sf_Gc m (n + 1) (sf_ex n c A) (r + 1) 0) := by
  constructor
  · intro hd hr
    refine sf_rank hr (ρ := ρ) (γ := γ) ?_ ?_
    · rw [sf_dt_congr (f := fun a b => sf_ex n c A (ρ a) (γ b)) (g := fun a b => A (ρ a) (γ b)) (fun a b _ hb => if_pos (h.2.2.2.2.1 b (by have := h.2.1; omega))), h.2.2.2.2.2.2.2.1]
      exact h.2.2.2.2.2.2.2.2.1
    · intro i j hi hj
      by_cases q : j < n
      · refine Eq.trans (sf_dt_congr fun a b _ hb => ?_) (sf_Ms_bd hr h i j hi q)
        refine if_pos ?_
        by_cases z : b < r
        · rw [if_pos z]; exact h.2.2.2.2.1 b (by have := h.2.1; omega)
        · rw [if_neg z]; exact q
      · have ej : j = n := by omega
        subst ej
        rw [sf_ex_bd h.2.1 h.2.2.2.2.1 (fun a => if a < r then ρ a else i)]
        obtain ⟨i', hi', rfl⟩ := h.2.2.2.1 i hi
        have e0 : sf_dt (r + 1) (fun a b => A (if a < r then ρ a else ρ i') (if b < r then γ b else 4)) = 0 := by
          by_cases qi : i' < r
          · exact sf_dt_rep hr (fun i j => A (ρ i) (if j < r then γ j else 4)) (fun a => if a < r then a else i') ⟨i', r, by omega, by omega, by omega, by rw [if_pos qi, if_neg (by omega)]⟩ ▸
              (sf_dt_congr fun a b _ _ => by rw [sf_if_app ρ])
          · exact hd i' (by omega) hi' ▸ (sf_dt_congr fun a b _ _ => by rw [sf_if_app ρ, sf_if_app γ, h.2.2.2.2.2.2.1])
        rw [e0, Int.mul_zero]
  · intro hg i hi him
    have h1 := hg (by omega) (fun a => ρ (if a < r then a else i)) (fun b => if b < r then γ b else n) (fun a ha => h.2.2.1 _ (by
      by_cases z : a < r
      · rw [if_pos z]; omega
      · rw [if_neg z]; exact him)) (fun b hb => by
      by_cases z : b < r
      · rw [if_pos z]; have := h.2.2.2.2.1 b (by have := h.2.1; omega); omega
      · rw [if_neg z]; omega)
    rw [sf_ex_bd h.2.1 h.2.2.2.2.1 (fun a => ρ (if a < r then a else i))] at h1
    have h2 := Int.zero_dvd.mp h1
    rcases Int.mul_eq_zero.mp h2 with h3 | h3
    · exact absurd h3 hc
    · rw [← h3]
      exact sf_dt_congr fun a b _ _ => by rw [sf_if_app γ, h.2.2.2.2.2.2.1]
end
/-- digits to the base p -/
def sf_dg (p n c : Nat) : Nat → Int := fun j => if j < n then ((c / p ^ j % p : Nat) : Int) else 0
theorem sf_Q_plus (a b : Nat) (F : Nat → Nat) : sf_Q (a + b) F = sf_Q a F + sf_Q b (fun c => F (a + c)) := by
  induction b with
  | zero => rfl
  | succ b ih =>
    show sf_Q (a + b) F + F (a + b) = sf_Q a F + (sf_Q b (fun c => F (a + c)) + F (a + b))
    rw [ih]; omega
theorem sf_Q_split (N : Nat) (F : Nat → Nat) : ∀ p : Nat, sf_Q (N * p) F = sf_Q p (fun a => sf_Q N (fun c => F (N * a + c))) := by
  intro p
  induction p with
  | zero => rfl
  | succ p ih =>
    rw [Nat.mul_succ, sf_Q_plus, ih]; rfl
theorem sf_cn_code {p : Nat} (hp : 0 < p) : ∀ (n : Nat) (f : (Nat → Int) → Nat), sf_cn p n f = sf_Q (p ^ n) (fun c => f (sf_dg p n c)) := by
  intro n
  induction n with
  | zero =>
    intro f
    show f (fun _ => 0) = 0 + f (sf_dg p 0 0)
    rw [Nat.zero_add]
    exact congrArg f (funext fun j => (if_neg (by omega)).symm)
  | succ n ih =>
    intro f
    rw [sf_cn_s, ih, sf_Q_comm, Nat.pow_succ, sf_Q_split]
    refine sf_Q_congr fun a ha => sf_Q_congr fun c hc => congrArg f (funext fun j => ?_)
    unfold sf_up sf_dg
    by_cases q : j = n
    · rw [if_pos q, if_pos (by omega), q, Nat.mul_add_div (Nat.pow_pos hp), Nat.div_eq_of_lt hc, Nat.add_zero, Nat.mod_eq_of_lt ha]
    · rw [if_neg q]
      by_cases q2 : j < n
      · rw [if_pos q2, if_pos (by omega)]
        have e : p ^ n = p ^ j * (p * p ^ (n - j - 1)) := by
          rw [← Nat.pow_succ', ← Nat.pow_add]; congr 1; omega
        have e2 : (p ^ n * a + c) / p ^ j % p = c / p ^ j % p := by
          rw [e, Nat.mul_assoc, Nat.mul_add_div (Nat.pow_pos hp), Nat.mul_assoc, Nat.mul_add_mod]
        rw [e2]
      · rw [if_neg q2, if_neg (by omega)]
end
section
theorem sf_bm {z : Int} (h1 : -9223372036854775808 ≤ z) (h2 : z < 9223372036854775808) : z.bmod (2 ^ 64) = z := Int.bmod_eq_of_le (by omega) (by omega)
theorem sf_iadd {x y : Int64} (h1 : -9223372036854775808 ≤ x.toInt + y.toInt) (h2 : x.toInt + y.toInt < 9223372036854775808) : (x + y).toInt = x.toInt + y.toInt := by
  rw [Int64.toInt_add, sf_bm h1 h2]
theorem sf_isub {x y : Int64} (h1 : -9223372036854775808 ≤ x.toInt - y.toInt) (h2 : x.toInt - y.toInt < 9223372036854775808) : (x - y).toInt = x.toInt - y.toInt := by
  rw [Int64.toInt_sub, sf_bm h1 h2]
theorem sf_imul {x y : Int64} (h1 : -9223372036854775808 ≤ x.toInt * y.toInt) (h2 : x.toInt * y.toInt < 9223372036854775808) : (x * y).toInt = x.toInt * y.toInt := by
  rw [Int64.toInt_mul, sf_bm h1 h2]
theorem sf_ineg {x : Int64} (h1 : -9223372036854775808 < x.toInt) : (-x).toInt = -x.toInt := by
  have := x.toInt_lt
  rw [Int64.toInt_neg, sf_bm (by omega) (by omega)]
theorem sf_idiv {x y : Int64} (h1 : -9223372036854775808 < x.toInt) : (x / y).toInt = x.toInt.tdiv y.toInt :=
  Int64.toInt_div_of_ne_left x y fun h => by
    rw [h] at h1
    exact absurd h1 (by decide)
theorem sf_irem (x y : Int64) : (x - x / y * y).toInt = x.toInt.tmod y.toInt := by
  have e : (x % y).toInt = x.toInt.tmod y.toInt := Int64.toInt_mod x y
  have e2 : (x - x / y * y).toInt = (x.toInt - x.toInt.tdiv y.toInt * y.toInt).bmod (2 ^ 64) := by
    rw [Int64.toInt_sub, Int64.toInt_mul, Int64.toInt_div, Int.sub_bmod_bmod, ← Int.sub_bmod_bmod, Int.bmod_mul_bmod, Int.sub_bmod_bmod]
  rw [e2, Int.mul_comm, ← Int.tmod_def, ← e]
  exact sf_bm (by have := (x % y).le_toInt; omega) (by have := (x % y).toInt_lt; omega)
theorem sf_i0 {x : Int64} : x = 0 ↔ x.toInt = 0 := by
  rw [← Int64.toInt_inj]; exact Iff.rfl
theorem sf_i0le {x : Int64} : 0 ≤ x ↔ 0 ≤ x.toInt := by
  rw [Int64.le_iff_toInt_le]; exact Iff.rfl
theorem sf_ile0 {x : Int64} : x ≤ 0 ↔ x.toInt ≤ 0 := by
  rw [Int64.le_iff_toInt_le]; exact Iff.rfl
/-- products by bounds -/
theorem sf_mb {x y : Int} {a b : Nat} (hx : x.natAbs ≤ a) (hy : y.natAbs ≤ b) : (x * y).natAbs ≤ a * b := by
  rw [Int.natAbs_mul]; exact Nat.mul_le_mul hx hy
theorem sf_lN_rem {a b : Nat} (ha : a < 2 ^ 63) (h0 : 0 < b) (hb : b < 2 ^ 63) : lN a - lN a / lN b * lN b = lN (a % b) := pk_lRem ha h0 hb
/-- Euclid, two steps -/
theorem sf_half {x y : Nat} (hx : 0 < x) (h : 0 < y % x) {q : Nat} (hq : x < 2 ^ (q + 1)) : x % (y % x) < 2 ^ q := by
  have h1 := Nat.mod_lt y hx
  have h2 := Nat.mod_lt x h
  have h3 : x % (y % x) ≤ x - y % x := by
    by_cases z : y % x ≤ x
    · rw [Nat.mod_eq_sub_mod z]; exact Nat.mod_le _ _
    · omega
  rw [Nat.pow_succ] at hq
  omega
theorem sx_gcd_l {post : Int64 → Prop} : ∀ (q x y k N : Nat), x < 2 ^ q → q ≤ 60 → y < 2 ^ 62 → k + 2 * q ≤ 100 → 2 * q < N → post (lN (Nat.gcd x y)) → wX_gcd_31 post N (lN x) (lN y) (nI k) := by
  intro q
  induction q with
  | zero =>
    intro x y k N hx _ hy hk hN hp
    obtain ⟨N, rfl⟩ : ∃ N', N = N' + 1 := ⟨N - 1, by omega⟩
    have ex : x = 0 := by rw [Nat.pow_zero] at hx; omega
    subst ex
    rw [Nat.gcd_zero_left] at hp
    rw [wX_gcd_31]
    exact br_c (fun _ => hp) (fun _ => br_t rfl hp)
  | succ q ih =>
    intro x y k N hx hq hy hk hN hp
    have hx62 : x < 2 ^ 62 := Nat.lt_of_lt_of_le hx (Nat.pow_le_pow_right (by omega) (by omega))
    obtain ⟨N, rfl⟩ : ∃ N', N = N' + 1 := ⟨N - 1, by omega⟩
    rw [wX_gcd_31]
    refine br_f (nI_ge (a := k) (b := 100) (by omega) (by omega)) ?_
    by_cases x0 : x = 0
    · subst x0
      rw [Nat.gcd_zero_left] at hp
      exact br_t rfl hp
    · have hne : ¬ lN x = 0 := by
        rw [show (0 : Int64) = lN 0 from rfl, pk_lEQ (by omega) (by omega)]; exact x0
      refine br_f hne ⟨hne, fun z ez k1 ek1 => ?_⟩
      rw [ez, ek1, sf_lN_rem (by omega) (by omega) (by omega), nI_1]
      have hr := Nat.mod_lt y (show x > 0 by omega)
      have hg : Nat.gcd x y = Nat.gcd (y % x) x := Nat.gcd_rec x y
      obtain ⟨N, rfl⟩ : ∃ N', N = N' + 1 := ⟨N - 1, by omega⟩
      rw [wX_gcd_31]
      refine br_f (nI_ge (a := k + 1) (b := 100) (by omega) (by omega)) ?_
      by_cases r0 : y % x = 0
      · rw [r0] at hg ⊢
        rw [Nat.gcd_zero_left] at hg
        rw [hg] at hp
        exact br_t rfl hp
      · have hne2 : ¬ lN (y % x) = 0 := by
          rw [show (0 : Int64) = lN 0 from rfl, pk_lEQ (by omega) (by omega)]; exact r0
        refine br_f hne2 ⟨hne2, fun z ez k1 ek1 => ?_⟩
        rw [ez, ek1, sf_lN_rem (by omega) (by omega) (by omega), nI_1]
        refine ih (x % (y % x)) (y % x) (k + 1 + 1) N (sf_half (by omega) (by omega) hx) (by omega) (by omega) (by omega) (by omega) ?_
        rw [← Nat.gcd_rec, ← hg]; exact hp
/-- a long's size -/
theorem sf_abs {x : Int64} (h : x.toInt.natAbs < 2 ^ 62) : (0 ≤ x → x = lN x.toInt.natAbs) ∧ (¬ 0 ≤ x → -x = lN x.toInt.natAbs) := by
  constructor
  · intro h0
    rw [sf_i0le] at h0
    apply Int64.toInt_inj.mp
    rw [pk_lT (by omega)]; omega
  · intro h0
    rw [sf_i0le] at h0
    apply Int64.toInt_inj.mp
    rw [pk_lT (by omega), sf_ineg (by omega)]; omega
theorem sx_gcd {post : Int64 → Prop} {a b : Int64} (ha : a.toInt.natAbs < 2 ^ 50) (hb : b.toInt.natAbs < 2 ^ 50) (h : post (lN (Int.gcd a.toInt b.toInt))) : wpX_gcd post a b := by
  have key : wX_gcd_12 post b (lN a.toInt.natAbs) := by
    have hl := sx_gcd_l (post := post) 50 a.toInt.natAbs b.toInt.natAbs 0 101 ha (by omega) (by omega) (by omega) (by omega) h
    unfold wX_gcd_12
    refine br_c (fun h0 => ⟨101, ?_⟩) (fun h0 z ez => ⟨101, ?_⟩)
    · have e := (sf_abs (x := b) (by omega)).1 h0
      have : wX_gcd_31 post 101 (lN a.toInt.natAbs) b 0 := e ▸ hl
      exact this
    · rw [ez, (sf_abs (x := b) (by omega)).2 h0]; exact hl
  unfold wpX_gcd
  refine br_c (fun h0 => ?_) (fun h0 => ?_)
  · have e := (sf_abs (x := a) (by omega)).1 h0
    rw [e]
    have e2 : (lN a.toInt.natAbs).toInt.natAbs = a.toInt.natAbs := by rw [← e]
    exact key
  · rw [(sf_abs (x := a) (by omega)).2 h0]; exact key
theorem sf_tmod_le (x : Int) {y : Int} (hy : 0 < y) : -y < x.tmod y ∧ x.tmod y < y := ⟨Int.lt_tmod_of_pos x hy, Int.tmod_lt_of_pos x hy⟩
/-- a number modulo M, of least size -/
theorem sx_normal {post : Int64 → Prop} {fm fn fo de : Int32} {mo : Int64} {ce ta : Nat → Int32} {w fa : Nat → Int64} {v : Int64} (h0 : 0 < mo.toInt) (h1 : mo.toInt < 2 ^ 60)
    (h : ∀ r : Int64, mo.toInt ∣ r.toInt - v.toInt → - mo.toInt < 2 * r.toInt → 2 * r.toInt ≤ mo.toInt → post r) : wpX_normal post (fm, fn, fo, mo, de, ce, ta, w, fa) v := by
  unfold wpX_normal
  dsimp only
  have hn : ¬ mo ≤ 0 := by rw [sf_ile0]; omega
  refine br_f hn ?_
  unfold wX_normal_17
  have hz : ¬ mo = 0 := by rw [sf_i0]; omega
  refine ⟨hz, fun x ex => ?_⟩
  have ex2 : x.toInt = v.toInt.tmod mo.toInt := by rw [ex, sf_irem]
  obtain ⟨b1, b2⟩ := sf_tmod_le v.toInt h0
  have d0 : mo.toInt ∣ x.toInt - v.toInt := by rw [ex2]; exact Int.dvd_tmod_sub_self
  have e2 : ((2 : Int64) * x).toInt = 2 * x.toInt := sf_imul (by show _ ≤ 2 * x.toInt; omega) (by show 2 * x.toInt < _; omega)
  have e3 : (-mo).toInt = - mo.toInt := sf_ineg (by omega)
  refine br_c (fun a => br_c (fun b => ?_) (fun b => ?_)) (fun a => ?_)
  · rw [Int64.le_iff_toInt_le, e2] at a
    rw [Int64.lt_iff_toInt_lt, e2, e3] at b
    exact h x d0 b a
  · rw [Int64.le_iff_toInt_le, e2] at a
    rw [Int64.lt_iff_toInt_lt, e2, e3] at b
    have e4 : (x + mo).toInt = x.toInt + mo.toInt := sf_iadd (by omega) (by omega)
    refine h _ ?_ ?_ ?_
    · rw [e4]
      have := Int.dvd_add d0 (Int.dvd_refl mo.toInt)
      rwa [show x.toInt - v.toInt + mo.toInt = x.toInt + mo.toInt - v.toInt by omega] at this
    · rw [e4]; omega
    · rw [e4]; omega
  · rw [Int64.le_iff_toInt_le, e2] at a
    have e4 : (x - mo).toInt = x.toInt - mo.toInt := sf_isub (by omega) (by omega)
    refine h _ ?_ ?_ ?_
    · rw [e4]
      have := Int.dvd_sub d0 (Int.dvd_refl mo.toInt)
      rwa [show x.toInt - v.toInt - mo.toInt = x.toInt - mo.toInt - v.toInt by omega] at this
    · rw [e4]; omega
    · rw [e4]; omega
end
section
theorem sx_nearest {post : Int64 → Prop} {v p : Int64} (hp : p.toInt ≠ 0) (hv : v.toInt.natAbs < 2 ^ 60) (hp2 : p.toInt.natAbs < 2 ^ 60)
    (h : ∀ q : Int64, 2 * (v.toInt - q.toInt * p.toInt).natAbs ≤ p.toInt.natAbs → q.toInt.natAbs ≤ v.toInt.natAbs + 1 → post q) : wpX_nearest post v p := by
  unfold wpX_nearest
  have hne : ¬ p = 0 := by rw [sf_i0]; exact hp
  refine br_f hne ⟨hne, fun Q eQ R eR => ?_⟩
  have eQ2 : Q.toInt = v.toInt.tdiv p.toInt := by rw [eQ]; exact sf_idiv (by omega)
  have eR2 : R.toInt = v.toInt.tmod p.toInt := by rw [eR, eQ, sf_irem]
  have hs : R.toInt + Q.toInt * p.toInt = v.toInt := by rw [eQ2, eR2]; exact Int.tmod_add_tdiv_mul _ _
  have hQ : Q.toInt.natAbs ≤ v.toInt.natAbs := by rw [eQ2, Int.natAbs_tdiv]; exact Nat.div_le_self _ _
  have hR : R.toInt.natAbs < p.toInt.natAbs := by rw [eR2, Int.natAbs_tmod]; exact Nat.mod_lt _ (by omega)
  have e2 : ((2 : Int64) * R).toInt = 2 * R.toInt := sf_imul (by show _ ≤ 2 * R.toInt; omega) (by show 2 * R.toInt < _; omega)
  have e2n : ((-2 : Int64) * R).toInt = -2 * R.toInt := sf_imul (by show _ ≤ -2 * R.toInt; omega) (by show -2 * R.toInt < _; omega)
  have en : (-p).toInt = - p.toInt := sf_ineg (by omega)
  have eq1 : (Q + 1).toInt = Q.toInt + 1 := sf_iadd (by show _ ≤ Q.toInt + 1; omega) (by show Q.toInt + 1 < _; omega)
  have eqm : (Q - 1).toInt = Q.toInt - 1 := sf_isub (by show _ ≤ Q.toInt - 1; omega) (by show Q.toInt - 1 < _; omega)
  have fin0 : 2 * R.toInt.natAbs ≤ p.toInt.natAbs → post Q := fun z => h Q (by rw [← hs]; omega) (by omega)
  have finp : ¬ 2 * R.toInt.natAbs ≤ p.toInt.natAbs → (0 ≤ R.toInt ↔ 0 ≤ p.toInt) → post (Q + 1) := by
    intro z s
    refine h _ ?_ (by rw [eq1]; omega)
    rw [eq1, Int.add_mul, Int.one_mul, ← hs]
    by_cases a : 0 ≤ p.toInt
    · have b := s.mpr a; omega
    · have b : ¬ 0 ≤ R.toInt := fun y => a (s.mp y)
      omega
  have finm : ¬ 2 * R.toInt.natAbs ≤ p.toInt.natAbs → ¬ (0 ≤ R.toInt ↔ 0 ≤ p.toInt) → post (Q - 1) := by
    intro z s
    refine h _ ?_ (by rw [eqm]; omega)
    rw [eqm, Int.sub_mul, Int.one_mul, ← hs]
    by_cases a : 0 ≤ p.toInt
    · have b : ¬ 0 ≤ R.toInt := fun y => s ⟨fun _ => a, fun _ => y⟩
      omega
    · have b : 0 ≤ R.toInt := Classical.byContradiction fun y => s ⟨fun w => absurd w y, fun w => absurd w a⟩
      omega
  have key : ∀ tw wd : Int64, tw.toInt = 2 * (R.toInt.natAbs : Int) → wd.toInt = (p.toInt.natAbs : Int) → wX_nearest_57 post p Q R tw wd := by
    intro tw wd et ew
    unfold wX_nearest_57
    refine br_c (fun c => ?_) (fun c => fin0 ?_)
    · rw [Int64.lt_iff_toInt_lt, et, ew] at c
      have c' : ¬ 2 * R.toInt.natAbs ≤ p.toInt.natAbs := by omega
      unfold wX_nearest_82 wX_nearest_93
      refine br_c (fun a => ?_) (fun a => ?_)
      · rw [sf_i0le] at a
        refine br_c (fun b => br_t rfl (finp c' ?_)) (fun b => br_f (by decide) (finm c' ?_))
        · rw [sf_i0le] at b; exact ⟨fun _ => b, fun _ => a⟩
        · rw [sf_i0le] at b; exact fun s => b (s.mp a)
      · rw [sf_i0le] at a
        refine br_c (fun b => br_f (by decide) (finm c' ?_)) (fun b => br_t rfl (finp c' ?_))
        · rw [sf_i0le] at b; exact fun s => a (s.mpr b)
        · rw [sf_i0le] at b; exact ⟨fun w => absurd w a, fun w => absurd w b⟩
    · rw [Int64.lt_iff_toInt_lt, et, ew] at c; omega
  refine br_c (fun a => ?_) (fun a => ?_)
  · rw [sf_i0le] at a
    unfold wX_nearest_43
    refine br_c (fun b => key _ _ ?_ ?_) (fun b => key _ _ ?_ ?_)
    · rw [e2]; omega
    · rw [sf_i0le] at b; omega
    · rw [e2]; omega
    · rw [sf_i0le] at b; rw [en]; omega
  · rw [sf_i0le] at a
    unfold wX_nearest_43
    refine br_c (fun b => key _ _ ?_ ?_) (fun b => key _ _ ?_ ?_)
    · rw [e2n]; omega
    · rw [sf_i0le] at b; omega
    · rw [e2n]; omega
    · rw [sf_i0le] at b; rw [en]; omega
theorem sf_ix (i j : Nat) : (5 : Int32) * nI i + nI j = nI (5 * i + j) := by
  rw [show (5 : Int32) = nI 5 from rfl, pk_mul, nI_add]
theorem sf_ix4 (i : Nat) : (5 : Int32) * nI i + 4 = nI (5 * i + 4) := by
  rw [show (4 : Int32) = nI 4 from rfl, sf_ix]
theorem sf_cl (i j : Nat) (h : 5 * i + j < 2 ^ 31) : (nI (5 * i + j)).toNatClampNeg = 5 * i + j := nI_clamp h
theorem sf_u (w : Nat → Int64) (i j a b : Nat) (v : Int64) (hj : j < 5) (hb : b < 5) : vp_updL w (5 * i + j) v (5 * a + b) = if a = i ∧ b = j then v else w (5 * a + b) := by
  unfold vp_updL
  by_cases h : a = i ∧ b = j
  · rw [if_pos h, if_pos (by omega)]
  · rw [if_neg h, if_neg (by omega)]
section
variable {post : SX → Prop} {m n : Nat} {fm fn fo de : Int32} {mo : Int64} {ce ta : Nat → Int32} {fa : Nat → Int64}
theorem sx_swR_l {i k : Nat} (hi : i < 4) (hk : k < 4) : ∀ (d j N : Nat) (w : Nat → Int64), j + d = 5 → d < N →
    (∀ w', (∀ a b, a < 4 → b < 5 → w' (5 * a + b) = if j ≤ b then w (5 * sf_tp i k a + b) else w (5 * a + b)) → post (fm, fn, fo, mo, de, ce, ta, w', fa)) →
    wX_swapRows_2 post (nI i) (nI k) fm fn fo mo de N (nI j) ce ta w fa := by
  intro d
  induction d with
  | zero =>
    intro j N w hj hN h
    obtain ⟨N, rfl⟩ : ∃ N', N = N' + 1 := ⟨N - 1, by omega⟩
    rw [wX_swapRows_2]
    exact br_t (nI_le (a := 5) (b := j) (by omega) (by omega)) (h w (fun a b _ hb => by rw [if_neg (by omega)]))
  | succ d ih =>
    intro j N w hj hN h
    obtain ⟨N, rfl⟩ : ∃ N', N = N' + 1 := ⟨N - 1, by omega⟩
    rw [wX_swapRows_2]
    refine br_f (nI_ge (a := j) (b := 5) (by omega) (by omega)) ?_
    simp only [sf_ix, sf_cl i j (by omega), sf_cl k j (by omega)]
    refine ⟨vp_in_nI (by omega) (by omega), fun x ex => ⟨vp_in_nI (by omega) (by omega), vp_in_nI (by omega) (by omega), fun w1 e1 => ⟨vp_in_nI (by omega) (by omega), fun w2 e2 x3 e3 => ?_⟩⟩⟩
    rw [e3, nI_1]
    refine ih (j + 1) N w2 (by omega) (by omega) fun w' hw' => h w' fun a b ha hb => ?_
    have U : ∀ a b, b < 5 → w2 (5 * a + b) = if a = k ∧ b = j then w (5 * i + j) else if a = i ∧ b = j then w (5 * k + j) else w (5 * a + b) := by
      intro a b hb
      rw [e2, sf_u _ _ _ _ _ _ (by omega) hb, e1, sf_u _ _ _ _ _ _ (by omega) hb, ex]
    rw [hw' a b ha hb, U _ _ hb, U _ _ hb]
    unfold sf_tp
    grind
theorem sx_swR {i k : Nat} (hi : i < 4) (hk : k < 4) {w : Nat → Int64}
    (h : ∀ w', (∀ a b, a < 4 → b < 5 → w' (5 * a + b) = w (5 * sf_tp i k a + b)) → post (fm, fn, fo, mo, de, ce, ta, w', fa)) :
    wpX_swapRows post (fm, fn, fo, mo, de, ce, ta, w, fa) (nI i) (nI k) :=
  ⟨6, sx_swR_l hi hk 5 0 6 w rfl (by omega) fun w' hw' => h w' fun a b ha hb => by rw [hw' a b ha hb, if_pos (by omega)]⟩
theorem sx_swC_l {i k : Nat} (hm : m ≤ 4) (hi : i < 5) (hk : k < 5) : ∀ (d j N : Nat) (w : Nat → Int64), j + d = m → d < N →
    (∀ w', (∀ a b, a < 4 → b < 5 → w' (5 * a + b) = if j ≤ a ∧ a < m then w (5 * a + sf_tp i k b) else w (5 * a + b)) → post (nI m, fn, fo, mo, de, ce, ta, w', fa)) →
    wX_swapColumns_2 post (nI i) (nI k) (nI m) fn fo mo de N (nI j) ce ta w fa := by
  intro d
  induction d with
  | zero =>
    intro j N w hj hN h
    obtain ⟨N, rfl⟩ : ∃ N', N = N' + 1 := ⟨N - 1, by omega⟩
    rw [wX_swapColumns_2]
    exact br_t (nI_le (by omega) (by omega)) (h w (fun a b _ hb => by rw [if_neg (by omega)]))
  | succ d ih =>
    intro j N w hj hN h
    obtain ⟨N, rfl⟩ : ∃ N', N = N' + 1 := ⟨N - 1, by omega⟩
    rw [wX_swapColumns_2]
    refine br_f (nI_ge (by omega) (by omega)) ?_
    simp only [sf_ix, sf_cl j i (by omega), sf_cl j k (by omega)]
    refine ⟨vp_in_nI (by omega) (by omega), fun x ex => ⟨vp_in_nI (by omega) (by omega), vp_in_nI (by omega) (by omega), fun w1 e1 => ⟨vp_in_nI (by omega) (by omega), fun w2 e2 x3 e3 => ?_⟩⟩⟩
    rw [e3, nI_1]
    refine ih (j + 1) N w2 (by omega) (by omega) fun w' hw' => h w' fun a b ha hb => ?_
    have U : ∀ a b, b < 5 → w2 (5 * a + b) = if a = j ∧ b = k then w (5 * j + i) else if a = j ∧ b = i then w (5 * j + k) else w (5 * a + b) := by
      intro a b hb
      rw [e2, sf_u _ _ _ _ _ _ (by omega) hb, e1, sf_u _ _ _ _ _ _ (by omega) hb, ex]
    rw [hw' a b ha hb, U _ _ hb, U _ _ (sf_tp_lt hi hk hb)]
    unfold sf_tp
    grind
theorem sx_swC {i k : Nat} (hm : m ≤ 4) (hi : i < 5) (hk : k < 5) {w : Nat → Int64}
    (h : ∀ w', (∀ a b, a < 4 → b < 5 → w' (5 * a + b) = if a < m then w (5 * a + sf_tp i k b) else w (5 * a + b)) → post (nI m, fn, fo, mo, de, ce, ta, w', fa)) :
    wpX_swapColumns post (nI m, fn, fo, mo, de, ce, ta, w, fa) (nI i) (nI k) :=
  ⟨m + 1, sx_swC_l hm hi hk m 0 (m + 1) w (by omega) (by omega) fun w' hw' => h w' fun a b ha hb => by
    rw [hw' a b ha hb]
    by_cases q : a < m
    · rw [if_pos ⟨by omega, q⟩, if_pos q]
    · rw [if_neg (fun z => q z.2), if_neg q]⟩
/-- a row's multiple added: each entry modulo M -/
theorem sx_adR_l {i k : Nat} {t : Int64} (hi : i < 4) (hk : k < 4) (hne : i ≠ k) (h0 : 0 < mo.toInt) (h1 : mo.toInt < 2 ^ 60) : ∀ (d j N : Nat) (w : Nat → Int64), j + d = 5 → d < N →
    (∀ w', (∀ a b, a < 4 → b < 5 → (a ≠ i ∨ b < j) → w' (5 * a + b) = w (5 * a + b)) →
      (∀ b, b < 5 → j ≤ b → mo.toInt ∣ (w' (5 * i + b)).toInt - (w (5 * i + b) + t * w (5 * k + b)).toInt ∧ - mo.toInt < 2 * (w' (5 * i + b)).toInt ∧ 2 * (w' (5 * i + b)).toInt ≤ mo.toInt) →
      post (fm, fn, fo, mo, de, ce, ta, w', fa)) →
    wX_addRow_3 post (nI i) (nI k) t fm fn fo mo de N (nI j) ce ta w fa := by
  intro d
  induction d with
  | zero =>
    intro j N w hj hN h
    obtain ⟨N, rfl⟩ : ∃ N', N = N' + 1 := ⟨N - 1, by omega⟩
    rw [wX_addRow_3]
    exact br_t (nI_le (a := 5) (b := j) (by omega) (by omega)) (h w (fun a b _ hb _ => rfl) (fun b hb hj => by omega))
  | succ d ih =>
    intro j N w hj hN h
    obtain ⟨N, rfl⟩ : ∃ N', N = N' + 1 := ⟨N - 1, by omega⟩
    rw [wX_addRow_3]
    refine br_f (nI_ge (a := j) (b := 5) (by omega) (by omega)) ?_
    simp only [sf_ix, sf_cl i j (by omega), sf_cl k j (by omega)]
    refine ⟨vp_in_nI (by omega) (by omega), vp_in_nI (by omega) (by omega), sx_normal h0 h1 fun r d1 d2 d3 => ⟨vp_in_nI (by omega) (by omega), fun w2 e2 x3 e3 => ?_⟩⟩
    rw [e3, nI_1]
    have U : ∀ a b, b < 5 → w2 (5 * a + b) = if a = i ∧ b = j then r else w (5 * a + b) := by
      intro a b hb
      rw [e2, sf_u _ _ _ _ _ _ (by omega) hb]
    refine ih (j + 1) N w2 (by omega) (by omega) fun w' hw' hw2 => h w' (fun a b ha hb hab => ?_) (fun b hb hjb => ?_)
    · rw [hw' a b ha hb (by omega), U a b hb, if_neg (by omega)]
    · by_cases q : b = j
      · subst q
        rw [hw' i b hi hb (by omega), U i b hb, if_pos ⟨rfl, rfl⟩]
        exact ⟨d1, d2, d3⟩
      · have h3 := hw2 b hb (by omega)
        rw [U i b hb, U k b hb, if_neg (by omega), if_neg (by omega)] at h3
        exact h3
theorem sx_adR {i k : Nat} {t : Int64} {w : Nat → Int64} (hi : i < 4) (hk : k < 4) (hne : i ≠ k) (h0 : 0 < mo.toInt) (h1 : mo.toInt < 2 ^ 60)
    (h : ∀ w', (∀ a b, a < 4 → b < 5 → a ≠ i → w' (5 * a + b) = w (5 * a + b)) →
      (∀ b, b < 5 → mo.toInt ∣ (w' (5 * i + b)).toInt - (w (5 * i + b) + t * w (5 * k + b)).toInt ∧ - mo.toInt < 2 * (w' (5 * i + b)).toInt ∧ 2 * (w' (5 * i + b)).toInt ≤ mo.toInt) →
      post (fm, fn, fo, mo, de, ce, ta, w', fa)) :
    wpX_addRow post (fm, fn, fo, mo, de, ce, ta, w, fa) (nI i) (nI k) t :=
  ⟨6, sx_adR_l hi hk hne h0 h1 5 0 6 w rfl (by omega) fun w' a1 a2 => h w' (fun a b ha hb hn => a1 a b ha hb (Or.inl hn)) (fun b hb => a2 b hb (by omega))⟩
theorem sx_adC_l {i k : Nat} {t : Int64} (hm : m ≤ 4) (hi : i < 5) (hk : k < 5) (hne : i ≠ k) (h0 : 0 < mo.toInt) (h1 : mo.toInt < 2 ^ 60) : ∀ (d j N : Nat) (w : Nat → Int64), j + d = m → d < N →
    (∀ w', (∀ a b, a < 4 → b < 5 → (b ≠ i ∨ a < j) → w' (5 * a + b) = w (5 * a + b)) →
      (∀ a, a < m → j ≤ a → mo.toInt ∣ (w' (5 * a + i)).toInt - (w (5 * a + i) + t * w (5 * a + k)).toInt ∧ - mo.toInt < 2 * (w' (5 * a + i)).toInt ∧ 2 * (w' (5 * a + i)).toInt ≤ mo.toInt) →
      post (nI m, fn, fo, mo, de, ce, ta, w', fa)) →
    wX_addColumn_3 post (nI i) (nI k) t (nI m) fn fo mo de N (nI j) ce ta w fa := by
  intro d
  induction d with
  | zero =>
    intro j N w hj hN h
    obtain ⟨N, rfl⟩ : ∃ N', N = N' + 1 := ⟨N - 1, by omega⟩
    rw [wX_addColumn_3]
    exact br_t (nI_le (by omega) (by omega)) (h w (fun a b _ hb _ => rfl) (fun b hb hj => by omega))
  | succ d ih =>
    intro j N w hj hN h
    obtain ⟨N, rfl⟩ : ∃ N', N = N' + 1 := ⟨N - 1, by omega⟩
    rw [wX_addColumn_3]
    refine br_f (nI_ge (by omega) (by omega)) ?_
    simp only [sf_ix, sf_cl j i (by omega), sf_cl j k (by omega)]
    refine ⟨vp_in_nI (by omega) (by omega), vp_in_nI (by omega) (by omega), sx_normal h0 h1 fun r d1 d2 d3 => ⟨vp_in_nI (by omega) (by omega), fun w2 e2 x3 e3 => ?_⟩⟩
    rw [e3, nI_1]
    have U : ∀ a b, b < 5 → w2 (5 * a + b) = if a = j ∧ b = i then r else w (5 * a + b) := by
      intro a b hb
      rw [e2, sf_u _ _ _ _ _ _ (by omega) hb]
    refine ih (j + 1) N w2 (by omega) (by omega) fun w' hw' hw2 => h w' (fun a b ha hb hab => ?_) (fun a ha hja => ?_)
    · rw [hw' a b ha hb (by omega), U a b hb, if_neg (by omega)]
    · by_cases q : a = j
      · subst q
        rw [hw' a i (by omega) hi (by omega), U a i hi, if_pos ⟨rfl, rfl⟩]
        exact ⟨d1, d2, d3⟩
      · have h3 := hw2 a ha (by omega)
        rw [U a i hi, U a k hk, if_neg (by omega), if_neg (by omega)] at h3
        exact h3
theorem sx_adC {i k : Nat} {t : Int64} {w : Nat → Int64} (hm : m ≤ 4) (hi : i < 5) (hk : k < 5) (hne : i ≠ k) (h0 : 0 < mo.toInt) (h1 : mo.toInt < 2 ^ 60)
    (h : ∀ w', (∀ a b, a < 4 → b < 5 → b ≠ i → w' (5 * a + b) = w (5 * a + b)) →
      (∀ a, a < m → mo.toInt ∣ (w' (5 * a + i)).toInt - (w (5 * a + i) + t * w (5 * a + k)).toInt ∧ - mo.toInt < 2 * (w' (5 * a + i)).toInt ∧ 2 * (w' (5 * a + i)).toInt ≤ mo.toInt) →
      post (nI m, fn, fo, mo, de, ce, ta, w', fa)) :
    wpX_addColumn post (nI m, fn, fo, mo, de, ce, ta, w, fa) (nI i) (nI k) t :=
  ⟨m + 1, sx_adC_l hm hi hk hne h0 h1 m 0 (m + 1) w (by omega) (by omega) fun w' a1 a2 => h w' (fun a b ha hb hn => a1 a b ha hb (Or.inl hn)) (fun a ha => a2 a ha (by omega))⟩
end
end
section
theorem sf_ix16 (t i j : Nat) : ((16 : Int32) * nI t + 4 * nI i) + nI j = nI (16 * t + 4 * i + j) := by
  rw [show (16 : Int32) = nI 16 from rfl, show (4 : Int32) = nI 4 from rfl, pk_mul, pk_mul, nI_add, nI_add]
theorem sf_cl16 (t i j : Nat) (h : 16 * t + 4 * i + j < 2 ^ 31) : (nI (16 * t + 4 * i + j)).toNatClampNeg = 16 * t + 4 * i + j := nI_clamp h
section
variable {post : SX → Prop} {m n : Nat} {fm fn fo de : Int32} {mo : Int64} {ce ta : Nat → Int32} {fa : Nat → Int64}
theorem sx_ld_in {J : Int32 → (Nat → Int32) → (Nat → Int32) → (Nat → Int64) → (Nat → Int64) → Prop} {t i : Nat} (ht : t < 2) (hi : i < 4) (hn : n ≤ 4) : ∀ (d j N : Nat) (w : Nat → Int64), j + d = n → d < N →
    (∀ w', (∀ a b, a < 4 → b < 5 → w' (5 * a + b) = if a = i then (if b = 4 then 0 else if j ≤ b ∧ b < n then (ce (16 * t + 4 * i + b)).toInt64 else w (5 * a + b)) else w (5 * a + b)) → J (nI (i + 1)) ce ta w' fa) →
    wX_load_12 post J (nI t) (nI i) fm (nI n) fo mo de N (nI j) ce ta w fa := by
  intro d
  induction d with
  | zero =>
    intro j N w hj hN h
    obtain ⟨N, rfl⟩ : ∃ N', N = N' + 1 := ⟨N - 1, by omega⟩
    rw [wX_load_12]
    refine br_t (nI_le (by omega) (by omega)) ?_
    simp only [sf_ix4, sf_cl i 4 (by omega)]
    refine ⟨vp_in_nI (by omega) (by omega), fun w2 e2 x3 e3 => ?_⟩
    rw [e3, nI_1]
    refine h w2 fun a b ha hb => ?_
    rw [e2, sf_u _ _ _ _ _ _ (by omega) hb]
    by_cases q : a = i
    · rw [if_pos q]
      by_cases q2 : b = 4
      · rw [if_pos q2, if_pos ⟨q, q2⟩]
      · rw [if_neg q2, if_neg (fun z => q2 z.2), if_neg (by omega)]
    · rw [if_neg q, if_neg (fun z => q z.1)]
  | succ d ih =>
    intro j N w hj hN h
    obtain ⟨N, rfl⟩ : ∃ N', N = N' + 1 := ⟨N - 1, by omega⟩
    rw [wX_load_12]
    refine br_f (nI_ge (by omega) (by omega)) ?_
    simp only [sf_ix16, sf_ix, sf_cl i j (by omega), sf_cl16 t i j (by omega)]
    refine ⟨vp_in_nI (by omega) (by omega), vp_in_nI (by omega) (by omega), fun w2 e2 x3 e3 => ?_⟩
    rw [e3, nI_1]
    refine ih (j + 1) N w2 (by omega) (by omega) fun w' hw' => h w' fun a b ha hb => ?_
    rw [hw' a b ha hb, e2, sf_u _ _ _ _ _ _ (by omega) hb]
    by_cases q : a = i
    · rw [if_pos q, if_pos q]
      by_cases q2 : b = 4
      · rw [if_pos q2, if_pos q2]
      · rw [if_neg q2, if_neg q2]
        by_cases q3 : b = j
        · subst q3
          rw [if_neg (by omega), if_pos ⟨q, rfl⟩, if_pos (by omega)]
        · rw [if_neg (show ¬ (a = i ∧ b = j) from fun z => q3 z.2)]
          by_cases q4 : j ≤ b ∧ b < n
          · rw [if_pos (show j + 1 ≤ b ∧ b < n by omega), if_pos q4]
          · rw [if_neg (show ¬ (j + 1 ≤ b ∧ b < n) by omega), if_neg q4]
    · rw [if_neg q, if_neg q, if_neg (fun z => q z.1)]
theorem sx_ld_l {t : Nat} (ht : t < 2) (hm : m ≤ 4) (hn : n ≤ 4) : ∀ (d i N : Nat) (w : Nat → Int64), i + d = m → d < N →
    (∀ w', (∀ a b, i ≤ a → a < m → b < n → w' (5 * a + b) = (ce (16 * t + 4 * a + b)).toInt64) → (∀ a, i ≤ a → a < m → w' (5 * a + 4) = 0) → (∀ a b, a < i → b < 5 → w' (5 * a + b) = w (5 * a + b)) → post (nI m, nI n, fo, mo, de, ce, ta, w', fa)) →
    wX_load_2 post (nI t) (nI m) (nI n) fo mo de N (nI i) ce ta w fa := by
  intro d
  induction d with
  | zero =>
    intro i N w hi hN h
    obtain ⟨N, rfl⟩ : ∃ N', N = N' + 1 := ⟨N - 1, by omega⟩
    rw [wX_load_2]
    exact br_t (nI_le (by omega) (by omega)) (h w (fun a b _ _ _ => by omega) (fun a _ _ => by omega) (fun _ _ _ _ => rfl))
  | succ d ih =>
    intro i N w hi hN h
    obtain ⟨N, rfl⟩ : ∃ N', N = N' + 1 := ⟨N - 1, by omega⟩
    rw [wX_load_2]
    refine br_f (nI_ge (by omega) (by omega)) ⟨n + 1, ?_⟩
    refine sx_ld_in ht (by omega) hn n 0 (n + 1) w (by omega) (by omega) fun w1 hw1 => ?_
    refine ih (i + 1) N w1 (by omega) (by omega) fun w' a1 a2 a3 => h w' (fun a b h1 h2 h3 => ?_) (fun a h1 h2 => ?_) (fun a b h1 h2 => ?_)
    · by_cases q : a = i
      · rw [a3 a b (by omega) (by omega), hw1 a b (by omega) (by omega), if_pos q, if_neg (by omega), if_pos (by omega), q]
      · exact a1 a b (by omega) h2 h3
    · by_cases q : a = i
      · rw [a3 a 4 (by omega) (by omega), hw1 a 4 (by omega) (by omega), if_pos q, if_pos rfl]
      · exact a2 a (by omega) h2
    · rw [a3 a b (by omega) h2, hw1 a b (by omega) h2, if_neg (by omega)]
theorem sx_load {t : Nat} (ht : t < 2) (hm : m ≤ 4) (hn : n ≤ 4) {w : Nat → Int64}
    (h : ∀ w', (∀ a b, a < m → b < n → w' (5 * a + b) = (ce (16 * t + 4 * a + b)).toInt64) → (∀ a, a < m → w' (5 * a + 4) = 0) → post (nI m, nI n, fo, mo, de, ce, ta, w', fa)) :
    wpX_load post (nI m, nI n, fo, mo, de, ce, ta, w, fa) (nI t) :=
  ⟨m + 1, sx_ld_l ht hm hn m 0 (m + 1) w (by omega) (by omega) fun w' a1 a2 _ => h w' (fun a b => a1 a b (by omega)) (fun a => a2 a (by omega))⟩
theorem sx_lwt_l (hm : m ≤ 4) : ∀ (d i N : Nat) (w : Nat → Int64), i + d = m → d < N →
    (∀ w', (∀ a b, a < 4 → b < 5 → w' (5 * a + b) = if i ≤ a ∧ a < m ∧ b = 4 then (ta a).toInt64 else w (5 * a + b)) → post (nI m, fn, fo, mo, de, ce, ta, w', fa)) →
    wX_loadWithTarget_7 post (nI m) fn fo mo de N (nI i) ce ta w fa := by
  intro d
  induction d with
  | zero =>
    intro i N w hi hN h
    obtain ⟨N, rfl⟩ : ∃ N', N = N' + 1 := ⟨N - 1, by omega⟩
    rw [wX_loadWithTarget_7]
    exact br_t (nI_le (by omega) (by omega)) (h w (fun a b _ _ => by rw [if_neg (by omega)]))
  | succ d ih =>
    intro i N w hi hN h
    obtain ⟨N, rfl⟩ : ∃ N', N = N' + 1 := ⟨N - 1, by omega⟩
    rw [wX_loadWithTarget_7]
    refine br_f (nI_ge (by omega) (by omega)) ?_
    simp only [sf_ix4, sf_cl i 4 (by omega), nI_clamp (show i < 2 ^ 31 by omega)]
    refine ⟨vp_in_nI (by omega) (by omega), vp_in_nI (by omega) (by omega), fun w2 e2 x3 e3 => ?_⟩
    rw [e3, nI_1]
    refine ih (i + 1) N w2 (by omega) (by omega) fun w' hw' => h w' fun a b ha hb => ?_
    rw [hw' a b ha hb, e2, sf_u _ _ _ _ _ _ (by omega) hb]
    by_cases q : a = i ∧ b = 4
    · rw [if_neg (by omega), if_pos q, if_pos (by omega), q.1]
    · rw [if_neg q]
      by_cases q2 : i ≤ a ∧ a < m ∧ b = 4
      · rw [if_pos (show i + 1 ≤ a ∧ a < m ∧ b = 4 by omega), if_pos q2]
      · rw [if_neg (show ¬ (i + 1 ≤ a ∧ a < m ∧ b = 4) by omega), if_neg q2]
theorem sx_lwt {t : Nat} (ht : t < 2) (hm : m ≤ 4) (hn : n ≤ 4) {w : Nat → Int64}
    (h : ∀ w', (∀ a b, a < m → b < n → w' (5 * a + b) = (ce (16 * t + 4 * a + b)).toInt64) → (∀ a, a < m → w' (5 * a + 4) = (ta a).toInt64) → post (nI m, nI n, fo, mo, de, ce, ta, w', fa)) :
    wpX_loadWithTarget post (nI m, nI n, fo, mo, de, ce, ta, w, fa) (nI t) := by
  unfold wpX_loadWithTarget
  dsimp only
  refine sx_load ht hm hn fun w1 a1 a2 => ⟨m + 1, ?_⟩
  refine sx_lwt_l hm m 0 (m + 1) w1 (by omega) (by omega) fun w' hw' => h w' (fun a b ha hb => ?_) (fun a ha => ?_)
  · rw [hw' a b (by omega) (by omega), if_neg (by omega)]; exact a1 a b ha hb
  · rw [hw' a 4 (by omega) (by omega), if_pos (by omega)]
theorem sx_lcl_l {t c : Nat} (ht : t < 2) (hc : c < 4) (hm : m ≤ 4) : ∀ (d i N : Nat) (w : Nat → Int64), i + d = m → d < N →
    (∀ w', (∀ a b, a < 4 → b < 5 → w' (5 * a + b) = if i ≤ a ∧ a < m ∧ b = 4 then (ce (16 * t + 4 * a + c)).toInt64 else w (5 * a + b)) → post (nI m, fn, fo, mo, de, ce, ta, w', fa)) →
    wX_loadColumn_9 post (nI t) (nI c) (nI m) fn fo mo de N (nI i) ce ta w fa := by
  intro d
  induction d with
  | zero =>
    intro i N w hi hN h
    obtain ⟨N, rfl⟩ : ∃ N', N = N' + 1 := ⟨N - 1, by omega⟩
    rw [wX_loadColumn_9]
    exact br_t (nI_le (by omega) (by omega)) (h w (fun a b _ _ => by rw [if_neg (by omega)]))
  | succ d ih =>
    intro i N w hi hN h
    obtain ⟨N, rfl⟩ : ∃ N', N = N' + 1 := ⟨N - 1, by omega⟩
    rw [wX_loadColumn_9]
    refine br_f (nI_ge (by omega) (by omega)) ?_
    simp only [sf_ix16, sf_ix4, sf_cl i 4 (by omega), sf_cl16 t i c (by omega)]
    refine ⟨vp_in_nI (by omega) (by omega), vp_in_nI (by omega) (by omega), fun w2 e2 x3 e3 => ?_⟩
    rw [e3, nI_1]
    refine ih (i + 1) N w2 (by omega) (by omega) fun w' hw' => h w' fun a b ha hb => ?_
    rw [hw' a b ha hb, e2, sf_u _ _ _ _ _ _ (by omega) hb]
    by_cases q : a = i ∧ b = 4
    · rw [if_neg (by omega), if_pos q, if_pos (by omega), q.1]
    · rw [if_neg q]
      by_cases q2 : i ≤ a ∧ a < m ∧ b = 4
      · rw [if_pos (show i + 1 ≤ a ∧ a < m ∧ b = 4 by omega), if_pos q2]
      · rw [if_neg (show ¬ (i + 1 ≤ a ∧ a < m ∧ b = 4) by omega), if_neg q2]
theorem sx_lcl {t c : Nat} (ht : t < 2) (hc : c < 4) (hm : m ≤ 4) (hn : n ≤ 4) {w : Nat → Int64}
    (h : ∀ w', (∀ a b, a < m → b < n → w' (5 * a + b) = (ce (16 * (1 - t) + 4 * a + b)).toInt64) → (∀ a, a < m → w' (5 * a + 4) = (ce (16 * t + 4 * a + c)).toInt64) → post (nI m, nI n, fo, mo, de, ce, ta, w', fa)) :
    wpX_loadColumn post (nI m, nI n, fo, mo, de, ce, ta, w, fa) (nI t) (nI c) := by
  unfold wpX_loadColumn
  dsimp only
  rw [show (1 : Int32) - nI t = nI (1 - t) from pk_sub (a := 1) (by omega)]
  refine sx_load (by omega) hm hn fun w1 a1 a2 => ⟨m + 1, ?_⟩
  refine sx_lcl_l ht hc hm m 0 (m + 1) w1 (by omega) (by omega) fun w' hw' => h w' (fun a b ha hb => ?_) (fun a ha => ?_)
  · rw [hw' a b (by omega) (by omega), if_neg (by omega)]; exact a1 a b ha hb
  · rw [hw' a 4 (by omega) (by omega), if_pos (by omega)]
theorem sx_ev_l {i k : Nat} {pv en bf : Int64} (hi : i < 4) (hk : k < 4) (hne : i ≠ k) (hb : ¬ bf = 0) : ∀ (d j N : Nat) (w : Nat → Int64), j + d = 5 → d < N →
    (∀ w', (∀ a b, a < 4 → b < 5 → (a ≠ i ∨ b < j) → w' (5 * a + b) = w (5 * a + b)) →
      (∀ b, b < 5 → j ≤ b → w' (5 * i + b) = (pv * w (5 * i + b) - en * w (5 * k + b)) / bf) → post (fm, fn, fo, mo, de, ce, ta, w', fa)) →
    wX_evenStep_40 post (nI i) (nI k) pv en bf fm fn fo mo de N (nI j) ce ta w fa := by
  intro d
  induction d with
  | zero =>
    intro j N w hj hN h
    obtain ⟨N, rfl⟩ : ∃ N', N = N' + 1 := ⟨N - 1, by omega⟩
    rw [wX_evenStep_40]
    exact br_t (nI_le (a := 5) (b := j) (by omega) (by omega)) (h w (fun a b _ hb _ => rfl) (fun b hb hj => by omega))
  | succ d ih =>
    intro j N w hj hN h
    obtain ⟨N, rfl⟩ : ∃ N', N = N' + 1 := ⟨N - 1, by omega⟩
    rw [wX_evenStep_40]
    refine br_f (nI_ge (a := j) (b := 5) (by omega) (by omega)) ?_
    simp only [sf_ix, sf_cl i j (by omega), sf_cl k j (by omega)]
    refine ⟨vp_in_nI (by omega) (by omega), vp_in_nI (by omega) (by omega), hb, vp_in_nI (by omega) (by omega), fun w2 e2 x3 e3 => ?_⟩
    rw [e3, nI_1]
    have U : ∀ a b, b < 5 → w2 (5 * a + b) = if a = i ∧ b = j then (pv * w (5 * i + j) - en * w (5 * k + j)) / bf else w (5 * a + b) := by
      intro a b hb
      rw [e2, sf_u _ _ _ _ _ _ (by omega) hb]
    refine ih (j + 1) N w2 (by omega) (by omega) fun w' hw' hw2 => h w' (fun a b ha hb hab => ?_) (fun b hb hjb => ?_)
    · rw [hw' a b ha hb (by omega), U a b hb, if_neg (by omega)]
    · by_cases q : b = j
      · subst q
        rw [hw' i b hi hb (by omega), U i b hb, if_pos ⟨rfl, rfl⟩]
      · have h3 := hw2 b hb (by omega)
        rw [U i b hb, U k b hb, if_neg (by omega), if_neg (by omega)] at h3
        exact h3
theorem sx_ev {i k : Nat} {bf : Int64} {w : Nat → Int64} (hi : i < 4) (hk : k < 4) (hne : i ≠ k) (hb : ¬ bf = 0)
    (h : ∀ w', (∀ a b, a < 4 → b < 5 → (a ≠ i ∨ b < k) → w' (5 * a + b) = w (5 * a + b)) →
      (∀ b, b < 5 → k ≤ b → w' (5 * i + b) = (w (5 * k + k) * w (5 * i + b) - w (5 * i + k) * w (5 * k + b)) / bf) → post (fm, fn, fo, mo, de, ce, ta, w', fa)) :
    wpX_evenStep post (fm, fn, fo, mo, de, ce, ta, w, fa) (nI i) (nI k) bf := by
  unfold wpX_evenStep
  dsimp only
  simp only [sf_ix, sf_cl i k (by omega), sf_cl k k (by omega)]
  refine ⟨vp_in_nI (by omega) (by omega), fun x ex => ⟨vp_in_nI (by omega) (by omega), fun y ey => br_f hb ⟨6, ?_⟩⟩⟩
  rw [ex, ey]
  exact sx_ev_l hi hk hne hb (5 - k) k 6 w (by omega) (by omega) h
end
end
section
theorem sf_dvd0 (x y : Int64) : (x - x / y * y) = 0 ↔ y.toInt ∣ x.toInt := by
  rw [sf_i0, sf_irem, Int.dvd_iff_tmod_eq_zero]
theorem sf_sh2 {q : Nat} (h : q < 16) : nI q >>> ((2 : Int32) &&& 31) = nI (q / 4) := pk_shrN (by omega) _ 2 (by decide)
theorem sf_an3 {q : Nat} (h : q < 16) : nI q &&& 3 = nI (q % 4) := pk_andN (by omega) 2 (by decide)
section
variable {m n : Nat} {fm fn fo de : Int32} {mo : Int64} {ce ta : Nat → Int32} {fa : Nat → Int64}
theorem sx_size {post : Int64 → Prop} {w : Nat → Int64} {q : Nat} (hq : q < 16) (h : ∀ r, post r) : wpX_size post (fm, fn, fo, mo, de, ce, ta, w, fa) (nI q) := by
  unfold wpX_size
  dsimp only
  rw [sf_sh2 hq, sf_an3 hq, sf_ix]
  exact ⟨vp_in_nI (by omega) (by omega), fun x _ => br_c (fun _ => h _) (fun _ => h _)⟩
def sx_cand (m n k : Nat) (w : Nat → Int64) (q : Nat) : Prop := q < 16 ∧ k ≤ q / 4 ∧ q / 4 < m ∧ k ≤ q % 4 ∧ q % 4 < n ∧ w (5 * (q / 4) + q % 4) ≠ 0
def sx_pinv (m n k : Nat) (w : Nat → Int64) (at_ : Nat) (x2 : Int32) : Prop := (x2 = -1 ∧ ∀ q, q < at_ → ¬ sx_cand m n k w q) ∨ (∃ q, x2 = nI q ∧ sx_cand m n k w q)
theorem sx_pinv_no {k : Nat} {w : Nat → Int64} {p : Nat} {x2 : Int32} (h : sx_pinv m n k w p x2) (hc : ¬ sx_cand m n k w p) : sx_pinv m n k w (p + 1) x2 := by
  rcases h with ⟨e, h⟩ | h
  · refine Or.inl ⟨e, fun q hq => ?_⟩
    by_cases z : q = p
    · rw [z]; exact hc
    · exact h q (by omega)
  · exact Or.inr h
theorem sx_pick_l {post : Int32 → SX → Prop} {k : Nat} {w : Nat → Int64} (hm : m ≤ 4) (hn : n ≤ 4) (hk : k < 4)
    (h0 : (∀ i j, k ≤ i → i < m → k ≤ j → j < n → w (5 * i + j) = 0) → post 0 (nI m, nI n, fo, mo, de, ce, ta, w, fa))
    (h1 : ∀ i j, k ≤ i → i < m → k ≤ j → j < n → w (5 * i + j) ≠ 0 → ∀ w', (∀ a b, a < m → b < 5 → w' (5 * a + b) = w (5 * sf_tp i k a + sf_tp j k b)) → post 1 (nI m, nI n, fo, mo, de, ce, ta, w', fa)) :
    ∀ (d p N : Nat) (x2 : Int32), p + d = 16 → d < N → sx_pinv m n k w p x2 → wX_pickPivot_4 post (nI k) (nI m) (nI n) fo mo de ce ta w fa N x2 (nI p) := by
  intro d
  induction d with
  | zero =>
    intro p N x2 hp hN hI
    obtain ⟨N, rfl⟩ : ∃ N', N = N' + 1 := ⟨N - 1, by omega⟩
    rw [wX_pickPivot_4]
    refine br_t (nI_le (a := 16) (b := p) (by omega) (by omega)) ?_
    rcases hI with ⟨e, hz⟩ | ⟨q, e, hq⟩
    · subst e
      refine br_f (by decide) (h0 fun i j a1 a2 a3 a4 => Classical.byContradiction fun z => hz (4 * i + j) (by omega) ?_)
      unfold sx_cand
      rw [show (4 * i + j) / 4 = i by omega, show (4 * i + j) % 4 = j by omega]
      exact ⟨by omega, a1, a2, a3, a4, z⟩
    · subst e
      obtain ⟨q16, c1, c2, c3, c4, c5⟩ := hq
      refine br_t (nI_pos' (by omega)) ?_
      rw [sf_sh2 q16, sf_an3 q16]
      refine sx_swR (by omega) hk fun w1 hw1 => ?_
      refine sx_swC hm (by omega) (by omega) fun w2 hw2 => ?_
      refine h1 (q / 4) (q % 4) c1 c2 c3 c4 c5 w2 fun a b ha hb => ?_
      rw [hw2 a b (by omega) hb, if_pos ha, hw1 a _ (by omega) (sf_tp_lt (by omega) (by omega) hb)]
  | succ d ih =>
    intro p N x2 hp hN hI
    obtain ⟨N, rfl⟩ : ∃ N', N = N' + 1 := ⟨N - 1, by omega⟩
    rw [wX_pickPivot_4]
    refine br_f (nI_ge (a := p) (b := 16) (by omega) (by omega)) ?_
    have step : ∀ x2' x3', x3' = nI p + 1 → sx_pinv m n k w (p + 1) x2' → wX_pickPivot_4 post (nI k) (nI m) (nI n) fo mo de ce ta w fa N x2' x3' := by
      intro x2' x3' e h
      rw [e, nI_1]
      exact ih (p + 1) N x2' (by omega) (by omega) h
    intro x4 e4 x5 e5
    rw [sf_sh2 (by omega)] at e4
    rw [sf_an3 (by omega)] at e5
    subst e4; subst e5
    refine br_c (fun c x e => step _ _ e (sx_pinv_no hI fun z => ?_)) (fun c => ?_)
    · rw [nI_ltI (by omega) (by omega)] at c; have := z.2.1; omega
    refine br_c (fun c2 x e => step _ _ e (sx_pinv_no hI fun z => ?_)) (fun c2 => ?_)
    · rw [nI_leI (by omega) (by omega)] at c2; have := z.2.2.1; omega
    refine br_c (fun c3 x e => step _ _ e (sx_pinv_no hI fun z => ?_)) (fun c3 => ?_)
    · rw [nI_ltI (by omega) (by omega)] at c3; have := z.2.2.2.1; omega
    refine br_c (fun c4 x e => step _ _ e (sx_pinv_no hI fun z => ?_)) (fun c4 => ?_)
    · rw [nI_leI (by omega) (by omega)] at c4; have := z.2.2.2.2.1; omega
    rw [nI_ltI (by omega) (by omega)] at c c3
    rw [nI_leI (by omega) (by omega)] at c2 c4
    rw [sf_ix, sf_cl _ _ (by omega)]
    refine ⟨vp_in_nI (by omega) (by omega), br_c (fun c5 x e => step _ _ e (sx_pinv_no hI fun z => z.2.2.2.2.2 c5)) (fun c5 => ?_)⟩
    have hc : sx_cand m n k w p := ⟨by omega, by omega, by omega, by omega, by omega, c5⟩
    have hnew : sx_pinv m n k w (p + 1) (nI p) := Or.inr ⟨p, rfl, hc⟩
    refine br_c (fun c6 x e => step _ _ e hnew) (fun c6 => ?_)
    rcases hI with ⟨e, _⟩ | ⟨q, e, hq⟩
    · exact absurd (show x2 < 0 by rw [e]; decide) c6
    · refine sx_size (by omega) fun r => ?_
      rw [e]
      refine sx_size hq.1 fun r2 => br_c (fun _ x ex => step _ _ ex (Or.inr ⟨q, rfl, hq⟩)) (fun _ x ex => step _ _ ex hnew)
theorem sx_pick {post : Int32 → SX → Prop} {k : Nat} {w : Nat → Int64} (hm : m ≤ 4) (hn : n ≤ 4) (hk : k < 4)
    (h0 : (∀ i j, k ≤ i → i < m → k ≤ j → j < n → w (5 * i + j) = 0) → post 0 (nI m, nI n, fo, mo, de, ce, ta, w, fa))
    (h1 : ∀ i j, k ≤ i → i < m → k ≤ j → j < n → w (5 * i + j) ≠ 0 → ∀ w', (∀ a b, a < m → b < 5 → w' (5 * a + b) = w (5 * sf_tp i k a + sf_tp j k b)) → post 1 (nI m, nI n, fo, mo, de, ce, ta, w', fa)) :
    wpX_pickPivot post (nI m, nI n, fo, mo, de, ce, ta, w, fa) (nI k) :=
  ⟨17, sx_pick_l hm hn hk h0 h1 16 0 17 (-1) rfl (by omega) (Or.inl ⟨rfl, fun q hq => by omega⟩)⟩
theorem sx_stub_in {post : Int32 → Prop} {J : Int32 → Prop} {k i : Nat} {g : Int64} {w : Nat → Int64} (hi : i < 4) (hn : n ≤ 4) (hg : ¬ g = 0) : ∀ (d j N : Nat), j + d = n → d < N →
    ((∀ b, j ≤ b → b < n → g.toInt ∣ (w (5 * i + b)).toInt) → J (nI (i + 1))) → (∀ b, j ≤ b → b < n → ¬ g.toInt ∣ (w (5 * i + b)).toInt → post (nI i)) →
    wX_stubborn_43 post J (nI k) g (nI i) fm (nI n) fo mo de ce ta w fa N (nI j) := by
  intro d
  induction d with
  | zero =>
    intro j N hj hN h0 h1
    obtain ⟨N, rfl⟩ : ∃ N', N = N' + 1 := ⟨N - 1, by omega⟩
    rw [wX_stubborn_43]
    refine br_t (nI_le (by omega) (by omega)) fun x e => ?_
    rw [e, nI_1]
    exact h0 fun b _ _ => by omega
  | succ d ih =>
    intro j N hj hN h0 h1
    obtain ⟨N, rfl⟩ : ∃ N', N = N' + 1 := ⟨N - 1, by omega⟩
    rw [wX_stubborn_43]
    refine br_f (nI_ge (by omega) (by omega)) ?_
    rw [sf_ix, sf_cl _ _ (by omega)]
    refine ⟨vp_in_nI (by omega) (by omega), hg, br_c (fun c x e => ?_) (fun c => ?_)⟩
    · rw [sf_dvd0] at c
      rw [e, nI_1]
      refine ih (j + 1) N (by omega) (by omega) (fun q => h0 fun b b1 b2 => ?_) (fun b b1 b2 => h1 b (by omega) b2)
      by_cases z : b = j
      · rw [z]; exact c
      · exact q b (by omega) b2
    · rw [sf_dvd0] at c
      exact h1 j (by omega) (by omega) c
theorem sx_stub_l {post : Int32 → Prop} {k : Nat} {g : Int64} {w : Nat → Int64} (hm : m ≤ 4) (hn : n ≤ 4) (hk : k < n) (hg : ¬ g = 0) : ∀ (d i N : Nat), i + d = m → d < N →
    ((∀ a b, i ≤ a → a < m → k < b → b < n → g.toInt ∣ (w (5 * a + b)).toInt) → post (-1)) → (∀ a b, i ≤ a → a < m → k < b → b < n → ¬ g.toInt ∣ (w (5 * a + b)).toInt → post (nI a)) →
    wX_stubborn_29 post (nI k) g (nI m) (nI n) fo mo de ce ta w fa N (nI i) := by
  intro d
  induction d with
  | zero =>
    intro i N hi hN h0 h1
    obtain ⟨N, rfl⟩ : ∃ N', N = N' + 1 := ⟨N - 1, by omega⟩
    rw [wX_stubborn_29]
    exact br_t (nI_le (by omega) (by omega)) (h0 fun a b _ _ => by omega)
  | succ d ih =>
    intro i N hi hN h0 h1
    obtain ⟨N, rfl⟩ : ∃ N', N = N' + 1 := ⟨N - 1, by omega⟩
    rw [wX_stubborn_29]
    refine br_f (nI_ge (by omega) (by omega)) fun x e => ⟨n + 1, ?_⟩
    rw [e, nI_1]
    refine sx_stub_in (by omega) hn hg (n - (k + 1)) (k + 1) (n + 1) (by omega) (by omega) (fun q => ?_) (fun b b1 b2 => h1 i b (by omega) (by omega) (by omega) b2)
    refine ih (i + 1) N (by omega) (by omega) (fun q2 => h0 fun a b a1 a2 b1 b2 => ?_) (fun a b a1 => h1 a b (by omega))
    by_cases z : a = i
    · rw [z]; exact q b (by omega) b2
    · exact q2 a b (by omega) a2 b1 b2
theorem sx_stub {post : Int32 → Prop} {k : Nat} {w : Nat → Int64} (hm : m ≤ 4) (hn : n ≤ 4) (hk : k < n) (hkm : k < m) (hg : (w (5 * k + k)).toInt ≠ 0)
    (h0 : (∀ a b, k < a → a < m → k < b → b < n → (w (5 * k + k)).toInt ∣ (w (5 * a + b)).toInt) → post (-1))
    (h1 : ∀ a b, k < a → a < m → k < b → b < n → ¬ (w (5 * k + k)).toInt ∣ (w (5 * a + b)).toInt → post (nI a)) :
    wpX_stubborn post (nI m, nI n, fo, mo, de, ce, ta, w, fa) (nI k) := by
  unfold wpX_stubborn
  dsimp only
  rw [sf_ix, sf_cl _ _ (by omega)]
  have hne : ¬ w (5 * k + k) = 0 := by rw [sf_i0]; exact hg
  refine ⟨vp_in_nI (by omega) (by omega), fun x ex => ?_⟩
  rw [ex]
  refine br_f hne fun y ey => ⟨m + 1, ?_⟩
  rw [ey, nI_1]
  exact sx_stub_l hm hn hk hne (m - (k + 1)) (k + 1) (m + 1) (by omega) (by omega) (fun q => h0 fun a b a1 => q a b (by omega)) (fun a b a1 => h1 a b (by omega))
end
end
section
/-- what stays true while place k of the diagonal is worked on -/
def sx_G (m n : Nat) (M : Int) (A : Nat → Nat → Int) (k : Nat) (e : Nat → Int) (q : Int) (W : Nat → Nat → Int) : Prop :=
  sf_Sm m n M A W ∧ (∀ i j, i < m → j < n → 2 * ((W i j).natAbs : Int) ≤ M) ∧ (∀ i, i < m → (W i 4).natAbs ≤ 67108864) ∧
  (∀ i j, i < m → j < n → i ≠ j → (i < k ∨ j < k) → W i j = 0) ∧ (∀ i, i < k → W i i = e i) ∧
  (∀ i j, k ≤ i → i < m → k ≤ j → j < n → q ∣ W i j)
theorem sf_small {M x : Int} (hM : 0 < M) (h : M ∣ x) (h2 : x.natAbs < M.natAbs) : x = 0 := by
  by_cases z : x = 0
  · exact z
  · exfalso
    have h3 : M.natAbs ∣ x.natAbs := Int.natAbs_dvd_natAbs.mpr h
    have := Nat.le_of_dvd (by omega) h3
    omega
section
variable {m n k : Nat} {M q : Int} {A W W' : Nat → Nat → Int} {e : Nat → Int}
theorem sx_G_radd {to fr : Nat} {t : Int} (h120 : (120 : Int) ∣ M) (hM : 0 < M) (hM2 : M ≤ 67108864) (hq : q ∣ M) (hkm : k ≤ m) (hkn : k ≤ n) (G : sx_G m n M A k e q W)
    (h1 : k ≤ to) (h2 : to < m) (h3 : k ≤ fr) (h4 : fr < m) (hne : to ≠ fr)
    (g1 : ∀ i j, i < m → (j < n ∨ j = 4) → i ≠ to → W' i j = W i j)
    (g2 : ∀ j, (j < n ∨ j = 4) → M ∣ W' to j - (W to j + t * W fr j) ∧ - M < 2 * W' to j ∧ 2 * W' to j ≤ M) : sx_G m n M A k e q W' := by
  obtain ⟨a1, a2, a3, a4, a5, a6⟩ := G
  refine ⟨sf_Sm_tr a1 (sf_Sm_radd (t := t) h120 h2 h4 hne fun i j hi hj => ?_), fun i j hi hj => ?_, fun i hi => ?_, fun i j hi hj hn hk => ?_, fun i hi => ?_, fun i j b1 b2 b3 b4 => ?_⟩
  · by_cases z : i = to
    · rw [if_pos z, z]; exact (g2 j hj).1
    · rw [if_neg z, g1 i j hi hj z, Int.add_zero]; exact sf_dvd_self_sub _ _
  · by_cases z : i = to
    · have := g2 j (Or.inl hj); rw [z]; omega
    · rw [g1 i j hi (Or.inl hj) z]; exact a2 i j hi hj
  · by_cases z : i = to
    · have := g2 4 (Or.inr rfl); rw [z]; omega
    · rw [g1 i 4 hi (Or.inr rfl) z]; exact a3 i hi
  · by_cases z : i = to
    · subst z
      obtain ⟨d, d2, d3⟩ := g2 j (Or.inl hj)
      rw [a4 i j hi hj hn hk, a4 fr j h4 hj (by omega) (by omega), Int.mul_zero, Int.add_zero, Int.sub_zero] at d
      exact sf_small hM d (by omega)
    · rw [g1 i j hi (Or.inl hj) z]; exact a4 i j hi hj hn hk
  · rw [g1 i i (by omega) (Or.inl (by omega)) (by omega)]; exact a5 i hi
  · by_cases z : i = to
    · subst z
      have d := Int.dvd_trans hq (g2 j (Or.inl b4)).1
      exact (sf_dvd_iff d).mpr (Int.dvd_add (a6 i j b1 b2 b3 b4) (Int.dvd_trans (a6 fr j h3 h4 b3 b4) (Int.dvd_mul_left _ _)))
    · rw [g1 i j b2 (Or.inl b4) z]; exact a6 i j b1 b2 b3 b4
theorem sx_G_cadd {to fr : Nat} {t : Int} (h120 : (120 : Int) ∣ M) (hM : 0 < M) (hq : q ∣ M) (hkm : k ≤ m) (hkn : k ≤ n) (G : sx_G m n M A k e q W)
    (h1 : k ≤ to) (h2 : to < n) (h3 : k ≤ fr) (h4 : fr < n) (hne : to ≠ fr)
    (g1 : ∀ i j, i < m → j < n → j ≠ to → W' i j = W i j) (g3 : ∀ i, i < m → W' i 4 = W i 4)
    (g2 : ∀ i, i < m → M ∣ W' i to - (W i to + t * W i fr) ∧ - M < 2 * W' i to ∧ 2 * W' i to ≤ M) : sx_G m n M A k e q W' := by
  obtain ⟨a1, a2, a3, a4, a5, a6⟩ := G
  refine ⟨sf_Sm_tr a1 (sf_Sm_cadd (t := t) h120 h2 h4 hne (fun i j hi hj => ?_) g3), fun i j hi hj => ?_, fun i hi => ?_, fun i j hi hj hn hk => ?_, fun i hi => ?_, fun i j b1 b2 b3 b4 => ?_⟩
  · by_cases z : j = to
    · rw [if_pos z, z]; exact (g2 i hi).1
    · rw [if_neg z, g1 i j hi hj z, Int.add_zero]; exact sf_dvd_self_sub _ _
  · by_cases z : j = to
    · have := g2 i hi; rw [z]; omega
    · rw [g1 i j hi hj z]; exact a2 i j hi hj
  · rw [g3 i hi]; exact a3 i hi
  · by_cases z : j = to
    · subst z
      obtain ⟨d, d2, d3⟩ := g2 i hi
      rw [a4 i j hi hj hn hk, a4 i fr hi h4 (by omega) (by omega), Int.mul_zero, Int.add_zero, Int.sub_zero] at d
      exact sf_small hM d (by omega)
    · rw [g1 i j hi hj z]; exact a4 i j hi hj hn hk
  · rw [g1 i i (by omega) (by omega) (by omega)]; exact a5 i hi
  · by_cases z : j = to
    · subst z
      have d := Int.dvd_trans hq (g2 i b2).1
      exact (sf_dvd_iff d).mpr (Int.dvd_add (a6 i j b1 b2 b3 b4) (Int.dvd_trans (a6 i fr b1 b2 h3 h4) (Int.dvd_mul_left _ _)))
    · rw [g1 i j b2 b4 z]; exact a6 i j b1 b2 b3 b4
theorem sf_tp_ge {a b i k : Nat} (ha : k ≤ a) (hb : k ≤ b) (hi : k ≤ i) : k ≤ sf_tp a b i := by
  unfold sf_tp
  split
  · exact hb
  · split
    · exact ha
    · exact hi
theorem sf_tp_lo {a b i k : Nat} (ha : k ≤ a) (hb : k ≤ b) (hi : i < k) : sf_tp a b i = i := by
  unfold sf_tp; rw [if_neg (by omega), if_neg (by omega)]
theorem sf_tp_ne {a b i : Nat} (h1 : i ≠ a) (h2 : i ≠ b) : sf_tp a b i = i := by
  unfold sf_tp; rw [if_neg h1, if_neg h2]
theorem sx_G_rswap {a b : Nat} (hkm : k ≤ m) (hkn : k ≤ n) (G : sx_G m n M A k e q W) (h1 : k ≤ a) (h2 : a < m) (h3 : k ≤ b) (h4 : b < m)
    (g : ∀ i j, i < m → (j < n ∨ j = 4) → W' i j = W (sf_tp a b i) j) : sx_G m n M A k e q W' := by
  obtain ⟨a1, a2, a3, a4, a5, a6⟩ := G
  refine ⟨sf_Sm_tr a1 (sf_Sm_rswap h2 h4 g), fun i j hi hj => ?_, fun i hi => ?_, fun i j hi hj hn hk => ?_, fun i hi => ?_, fun i j b1 b2 b3 b4 => ?_⟩
  · rw [g i j hi (Or.inl hj)]; exact a2 _ j (sf_tp_lt h2 h4 hi) hj
  · rw [g i 4 hi (Or.inr rfl)]; exact a3 _ (sf_tp_lt h2 h4 hi)
  · rw [g i j hi (Or.inl hj)]
    by_cases z : i < k
    · rw [sf_tp_lo h1 h3 z]; exact a4 i j hi hj hn hk
    · have := sf_tp_ge (i := i) h1 h3 (by omega)
      exact a4 _ j (sf_tp_lt h2 h4 hi) hj (by omega) (by omega)
  · rw [g i i (by omega) (Or.inl (by omega)), sf_tp_lo h1 h3 hi]; exact a5 i hi
  · rw [g i j b2 (Or.inl b4)]; exact a6 _ j (sf_tp_ge h1 h3 b1) (sf_tp_lt h2 h4 b2) b3 b4
theorem sx_G_cswap {a b : Nat} (hkm : k ≤ m) (hkn : k ≤ n) (G : sx_G m n M A k e q W) (h1 : k ≤ a) (h2 : a < n) (h3 : k ≤ b) (h4 : b < n)
    (g : ∀ i j, i < m → j < n → W' i j = W i (sf_tp a b j)) (g4 : ∀ i, i < m → W' i 4 = W i 4) : sx_G m n M A k e q W' := by
  obtain ⟨a1, a2, a3, a4, a5, a6⟩ := G
  refine ⟨sf_Sm_tr a1 (sf_Sm_cswap h2 h4 g g4), fun i j hi hj => ?_, fun i hi => ?_, fun i j hi hj hn hk => ?_, fun i hi => ?_, fun i j b1 b2 b3 b4 => ?_⟩
  · rw [g i j hi hj]; exact a2 i _ hi (sf_tp_lt h2 h4 hj)
  · rw [g4 i hi]; exact a3 i hi
  · rw [g i j hi hj]
    by_cases z : j < k
    · rw [sf_tp_lo h1 h3 z]; exact a4 i j hi hj hn hk
    · have := sf_tp_ge (i := j) h1 h3 (by omega)
      exact a4 i _ hi (sf_tp_lt h2 h4 hj) (by omega) (by omega)
  · rw [g i i (by omega) (by omega), sf_tp_lo h1 h3 hi]; exact a5 i hi
  · rw [g i j b2 b4]; exact a6 i _ b1 b2 (sf_tp_ge h1 h3 b3) (sf_tp_lt h2 h4 b4)
theorem sx_G_gcd (hn4 : n ≤ 4) (h120 : (120 : Int) ∣ M) (hM : 0 < M) (hq : q ∣ M) (hkm : k < m) (hkn : k < n) (G : sx_G m n M A k e q W) (hz : ∀ i, k < i → i < m → W i k = 0) (hp : W k k ≠ 0)
    (g : ∀ i j, i < m → (j < n ∨ j = 4) → ¬ (i = k ∧ j = k) → W' i j = W i j) (g2 : W' k k = (Int.gcd (W k k) M : Int)) : sx_G m n M A k e q W' := by
  obtain ⟨a1, a2, a3, a4, a5, a6⟩ := G
  have hcol : ∀ i, i < m → i ≠ k → W i k = 0 := by
    intro i hi hn
    by_cases z : i < k
    · exact a4 i k hi hkn hn (Or.inl z)
    · exact hz i (by omega) hi
  have g4 : ∀ i, i < m → W' i 4 = W i 4 := fun i hi => g i 4 hi (Or.inr rfl) (by omega)
  have hgle : (Int.gcd (W k k) M : Int) ≤ ((W k k).natAbs : Int) := by
    have : Int.gcd (W k k) M ≤ (W k k).natAbs := Nat.le_of_dvd (by omega) (Nat.gcd_dvd_left _ _)
    omega
  refine ⟨sf_Sm_tr a1 (sf_Sm_gcd h120 hkn hkm (fun i j hi hj hn => g i j hi (Or.inl hj) hn) hcol g2 g4), fun i j hi hj => ?_, fun i hi => ?_, fun i j hi hj hn hk => ?_, fun i hi => ?_, fun i j b1 b2 b3 b4 => ?_⟩
  · by_cases z : i = k ∧ j = k
    · rw [z.1, z.2, g2]
      have := a2 k k hkm hkn
      omega
    · rw [g i j hi (Or.inl hj) z]; exact a2 i j hi hj
  · rw [g4 i hi]; exact a3 i hi
  · rw [g i j hi (Or.inl hj) (by omega)]; exact a4 i j hi hj hn hk
  · rw [g i i (by omega) (Or.inl (by omega)) (by omega)]; exact a5 i hi
  · by_cases z : i = k ∧ j = k
    · rw [z.1, z.2, g2]
      obtain ⟨x, y, hxy⟩ := sf_bezI (W k k) M
      rw [hxy]
      exact Int.dvd_add (Int.dvd_trans (a6 k k (Nat.le_refl k) hkm (Nat.le_refl k) hkn) (Int.dvd_mul_right _ _)) (Int.dvd_trans hq (Int.dvd_mul_right _ _))
    · rw [g i j b2 (Or.inl b4) z]; exact a6 i j b1 b2 b3 b4
end
end
section
def sf_w (w : Nat → Int64) : Nat → Nat → Int := fun i j => (w (5 * i + j)).toInt
theorem sf_lin_i {x y t : Int64} (hx : x.toInt.natAbs ≤ 67108864) (hy : y.toInt.natAbs ≤ 67108864) (ht : t.toInt.natAbs ≤ 134217728) : (x + t * y).toInt = x.toInt + t.toInt * y.toInt := by
  have h1 := sf_mb ht hy
  have e : (t * y).toInt = t.toInt * y.toInt := sf_imul (by omega) (by omega)
  have e2 : (x + t * y).toInt = x.toInt + (t * y).toInt := sf_iadd (by rw [e]; omega) (by rw [e]; omega)
  rw [e2, e]
theorem sf_eq_mod {M x y : Int} (hM : 0 < M) (h : M ∣ x - y) (hx1 : - M < 2 * x) (hx2 : 2 * x ≤ M) (hy : 4 * (y.natAbs : Int) ≤ M) : x = y := by
  have := sf_small hM h (by omega)
  omega
section
variable {m n k : Nat} {q : Int} {A : Nat → Nat → Int} {e : Nat → Int} {fo de : Int32} {mo : Int64} {ce ta : Nat → Int32} {fa : Nat → Int64}
theorem sx_G_bd {M : Int} {W : Nat → Nat → Int} (hM2 : M ≤ 67108864) (G : sx_G m n M A k e q W) {i j : Nat} (hi : i < m) (hj : j < n ∨ j = 4) : (W i j).natAbs ≤ 67108864 := by
  rcases hj with hj | hj
  · have := G.2.1 i j hi hj; omega
  · rw [hj]; exact G.2.2.1 i hi
theorem sx_G_radd_w {to fr : Nat} {t : Int64} {w w' : Nat → Int64} (hm : m ≤ 4) (hn : n ≤ 4) (h120 : (120 : Int) ∣ mo.toInt) (hM : 0 < mo.toInt) (hM2 : mo.toInt ≤ 67108864) (hq : q ∣ mo.toInt) (hkm : k ≤ m) (hkn : k ≤ n)
    (G : sx_G m n mo.toInt A k e q (sf_w w)) (ht : t.toInt.natAbs ≤ 134217728) (h1 : k ≤ to) (h2 : to < m) (h3 : k ≤ fr) (h4 : fr < m) (hne : to ≠ fr)
    (g1 : ∀ a b, a < 4 → b < 5 → a ≠ to → w' (5 * a + b) = w (5 * a + b))
    (g2 : ∀ b, b < 5 → mo.toInt ∣ (w' (5 * to + b)).toInt - (w (5 * to + b) + t * w (5 * fr + b)).toInt ∧ - mo.toInt < 2 * (w' (5 * to + b)).toInt ∧ 2 * (w' (5 * to + b)).toInt ≤ mo.toInt) :
    sx_G m n mo.toInt A k e q (sf_w w') ∧ (∀ b, (b < n ∨ b = 4) → mo.toInt ∣ sf_w w' to b - (sf_w w to b + t.toInt * sf_w w fr b)) := by
  have key : ∀ b, (b < n ∨ b = 4) → mo.toInt ∣ sf_w w' to b - (sf_w w to b + t.toInt * sf_w w fr b) := by
    intro b hb
    have := (g2 b (by omega)).1
    rwa [sf_lin_i (sx_G_bd hM2 G h2 hb) (sx_G_bd hM2 G h4 hb) ht] at this
  refine ⟨sx_G_radd (t := t.toInt) h120 hM hM2 hq hkm hkn G h1 h2 h3 h4 hne (fun i j hi hj hn => ?_) (fun j hj => ⟨key j hj, (g2 j (by omega)).2⟩), key⟩
  unfold sf_w
  rw [g1 i j (by omega) (by omega) hn]
theorem sx_G_cadd_w {to fr : Nat} {t : Int64} {w w' : Nat → Int64} (hm : m ≤ 4) (hn : n ≤ 4) (h120 : (120 : Int) ∣ mo.toInt) (hM : 0 < mo.toInt) (hM2 : mo.toInt ≤ 67108864) (hq : q ∣ mo.toInt) (hkm : k ≤ m) (hkn : k ≤ n)
    (G : sx_G m n mo.toInt A k e q (sf_w w)) (ht : t.toInt.natAbs ≤ 134217728) (h1 : k ≤ to) (h2 : to < n) (h3 : k ≤ fr) (h4 : fr < n) (hne : to ≠ fr)
    (g1 : ∀ a b, a < 4 → b < 5 → b ≠ to → w' (5 * a + b) = w (5 * a + b))
    (g2 : ∀ a, a < m → mo.toInt ∣ (w' (5 * a + to)).toInt - (w (5 * a + to) + t * w (5 * a + fr)).toInt ∧ - mo.toInt < 2 * (w' (5 * a + to)).toInt ∧ 2 * (w' (5 * a + to)).toInt ≤ mo.toInt) :
    sx_G m n mo.toInt A k e q (sf_w w') ∧ (∀ a, a < m → mo.toInt ∣ sf_w w' a to - (sf_w w a to + t.toInt * sf_w w a fr)) := by
  have key : ∀ a, a < m → mo.toInt ∣ sf_w w' a to - (sf_w w a to + t.toInt * sf_w w a fr) := by
    intro a ha
    have := (g2 a ha).1
    rwa [sf_lin_i (sx_G_bd hM2 G ha (Or.inl h2)) (sx_G_bd hM2 G ha (Or.inl h4)) ht] at this
  refine ⟨sx_G_cadd (t := t.toInt) h120 hM hq hkm hkn G h1 h2 h3 h4 hne (fun i j hi hj hn => ?_) (fun i hi => ?_) (fun i hi => ⟨key i hi, (g2 i hi).2⟩), key⟩
  · unfold sf_w
    rw [g1 i j (by omega) (by omega) hn]
  · unfold sf_w
    rw [g1 i 4 (by omega) (by omega) (by omega)]
theorem sf_neg_i {r : Int64} (h : r.toInt.natAbs ≤ 134217728) : (-r).toInt = - r.toInt := sf_ineg (by omega)
theorem sx_cc_cols {post : Int32 → SX → Prop} {W0 : Nat → Nat → Int} {p : Int} (hm : m ≤ 4) (hn : n ≤ 4) (h120 : (120 : Int) ∣ mo.toInt) (hM : 0 < mo.toInt) (hM2 : mo.toInt ≤ 67108864) (hq : q ∣ mo.toInt) (hkm : k < m) (hkn : k < n) (hp : p ≠ 0)
    (h0 : ∀ w', sx_G m n mo.toInt A k e q (sf_w w') → sf_w w' k k ≠ 0 → 2 * (sf_w w' k k).natAbs ≤ p.natAbs → post 0 (nI m, nI n, fo, mo, de, ce, ta, w', fa))
    (h1 : ∀ w', sx_G m n mo.toInt A k e q (sf_w w') → sf_w w' k k = p → (∀ a, k < a → a < m → sf_w w' a k = 0) → (∀ b, k < b → b < n → sf_w w' k b = 0) → (∀ b, k < b → b < n → p ∣ W0 k b) → post 1 (nI m, nI n, fo, mo, de, ce, ta, w', fa)) :
    ∀ (d j N : Nat) (w : Nat → Int64), j + d = n → d < N → k < j → sx_G m n mo.toInt A k e q (sf_w w) → sf_w w k k = p → (∀ a, k < a → a < m → sf_w w a k = 0) → (∀ b, k < b → b < j → sf_w w k b = 0 ∧ p ∣ W0 k b) → (∀ b, j ≤ b → b < n → sf_w w k b = W0 k b) →
      wX_clearCross_77 post (nI k) N (nI j) (nI m) (nI n) fo mo de ce ta w fa := by
  intro d
  induction d with
  | zero =>
    intro j N w hj hN hkj G ep hc hr hr2
    obtain ⟨N, rfl⟩ : ∃ N', N = N' + 1 := ⟨N - 1, by omega⟩
    rw [wX_clearCross_77]
    exact br_t (nI_le (by omega) (by omega)) (h1 w G ep hc (fun b b1 b2 => (hr b b1 (by omega)).1) (fun b b1 b2 => (hr b b1 (by omega)).2))
  | succ d ih =>
    intro j N w hj hN hkj G ep hc hr hr2
    obtain ⟨N, rfl⟩ : ∃ N', N = N' + 1 := ⟨N - 1, by omega⟩
    rw [wX_clearCross_77]
    refine br_f (nI_ge (by omega) (by omega)) ?_
    simp only [sf_ix, sf_cl k j (by omega), sf_cl k k (by omega)]
    have bv := sx_G_bd hM2 G hkm (Or.inl (show j < n by omega))
    have bp := G.2.1 k k hkm hkn
    have ep' : (w (5 * k + k)).toInt = p := ep
    refine ⟨vp_in_nI (by omega) (by omega), vp_in_nI (by omega) (by omega), sx_nearest (by rw [ep']; exact hp) (by unfold sf_w at bv; omega) (by unfold sf_w at bp; omega) fun r r1 r2 x ex => ?_⟩
    have r3 : r.toInt.natAbs ≤ 134217728 := by unfold sf_w at bv; omega
    have et : x.toInt = - r.toInt := by rw [ex]; exact sf_neg_i r3
    refine sx_adC hm (by omega) (by omega) (by omega) hM (by omega) fun w1 g1 g2 => ?_
    obtain ⟨G1, K1⟩ := sx_G_cadd_w (t := x) hm hn h120 hM hM2 hq (by omega) (by omega) G (by omega) (by omega) (by omega) (by omega) hkn (by omega) g1 g2
    have hv : sf_w w1 k j = sf_w w k j - r.toInt * p := by
      have d1 := K1 k hkm
      rw [et, ep] at d1
      have d2 := g2 k hkm
      refine sf_eq_mod hM ?_ d2.2.1 d2.2.2 ?_
      · rwa [show sf_w w k j + -r.toInt * p = sf_w w k j - r.toInt * p by rw [Int.neg_mul]; omega] at d1
      · rw [ep'] at r1
        rw [ep] at bp
        unfold sf_w; omega
    have hk1 : ∀ a b, a < m → b < n → b ≠ j → sf_w w1 a b = sf_w w a b := by
      intro a b ha hb hne
      unfold sf_w; rw [g1 a b (by omega) (by omega) hne]
    have hsm : 2 * (sf_w w1 k j).natAbs ≤ p.natAbs := by
      rw [hv]; rw [ep'] at r1; exact r1
    refine ⟨vp_in_nI (by omega) (by omega), br_c (fun c y ey => ?_) (fun c => ?_)⟩
    · rw [ey, nI_1]
      have c0 : sf_w w1 k j = 0 := by rw [sf_i0] at c; exact c
      refine ih (j + 1) N w1 (by omega) (by omega) (by omega) G1 (by rw [hk1 k k hkm hkn (by omega)]; exact ep) (fun a a1 a2 => by rw [hk1 a k a2 hkn (by omega)]; exact hc a a1 a2) (fun b b1 b2 => ?_) (fun b b1 b2 => ?_)
      · by_cases z : b = j
        · subst z
          refine ⟨c0, ?_⟩
          rw [← hr2 b (Nat.le_refl b) (by omega)]
          exact ⟨r.toInt, by rw [Int.mul_comm]; omega⟩
        · rw [hk1 k b hkm (by omega) z]; exact hr b b1 (by omega)
      · rw [hk1 k b hkm b2 (by omega)]; exact hr2 b (by omega) b2
    · have c0 : sf_w w1 k j ≠ 0 := by rw [sf_i0] at c; exact c
      refine sx_swC hm (by omega) (by omega) fun w2 hw2 => ?_
      have G2 := sx_G_cswap (W' := sf_w w2) (a := j) (b := k) (by omega) (by omega) G1 (by omega) (by omega) (Nat.le_refl k) hkn (fun a b ha hb => by
        unfold sf_w; rw [hw2 a b (by omega) (by omega), if_pos ha]) (fun a ha => by
        unfold sf_w; rw [hw2 a 4 (by omega) (by omega), if_pos ha, sf_tp_ne (by omega) (by omega)])
      have e2 : sf_w w2 k k = sf_w w1 k j := by
        unfold sf_w; rw [hw2 k k (by omega) (by omega), if_pos hkm]
        have : sf_tp j k k = j := by unfold sf_tp; rw [if_neg (by omega), if_pos rfl]
        rw [this]
      exact h0 w2 G2 (by rw [e2]; exact c0) (by rw [e2]; exact hsm)
theorem sx_cc_rows {post : Int32 → SX → Prop} {W0 : Nat → Nat → Int} {p : Int} (hm : m ≤ 4) (hn : n ≤ 4) (h120 : (120 : Int) ∣ mo.toInt) (hM : 0 < mo.toInt) (hM2 : mo.toInt ≤ 67108864) (hq : q ∣ mo.toInt) (hkm : k < m) (hkn : k < n) (hp : p ≠ 0) (hW0 : W0 k k = p)
    (h0 : ∀ w', sx_G m n mo.toInt A k e q (sf_w w') → sf_w w' k k ≠ 0 → 2 * (sf_w w' k k).natAbs ≤ p.natAbs → post 0 (nI m, nI n, fo, mo, de, ce, ta, w', fa))
    (h1 : ∀ w', sx_G m n mo.toInt A k e q (sf_w w') → sf_w w' k k = p → (∀ a, k < a → a < m → sf_w w' a k = 0) → (∀ b, k < b → b < n → sf_w w' k b = 0) → (∀ b, k < b → b < n → p ∣ W0 k b) → post 1 (nI m, nI n, fo, mo, de, ce, ta, w', fa)) :
    ∀ (d i N : Nat) (w : Nat → Int64), i + d = m → d < N → k < i → sx_G m n mo.toInt A k e q (sf_w w) → (∀ a, k < a → a < i → sf_w w a k = 0) → (∀ b, b < n → sf_w w k b = W0 k b) →
      wX_clearCross_4 post (nI k) N (nI i) (nI m) (nI n) fo mo de ce ta w fa := by
  intro d
  induction d with
  | zero =>
    intro i N w hi hN hki G hc hr
    obtain ⟨N, rfl⟩ : ∃ N', N = N' + 1 := ⟨N - 1, by omega⟩
    rw [wX_clearCross_4]
    refine br_t (nI_le (by omega) (by omega)) fun x ex => ⟨n + 1, ?_⟩
    rw [ex, nI_1]
    exact sx_cc_cols hm hn h120 hM hM2 hq hkm hkn hp h0 h1 (n - (k + 1)) (k + 1) (n + 1) w (by omega) (by omega) (by omega) G (by rw [hr k hkn]; exact hW0) (fun a a1 a2 => hc a a1 (by omega)) (fun b b1 b2 => by omega) (fun b b1 b2 => hr b b2)
  | succ d ih =>
    intro i N w hi hN hki G hc hr
    obtain ⟨N, rfl⟩ : ∃ N', N = N' + 1 := ⟨N - 1, by omega⟩
    rw [wX_clearCross_4]
    refine br_f (nI_ge (by omega) (by omega)) ?_
    simp only [sf_ix, sf_cl i k (by omega), sf_cl k k (by omega)]
    have bv := sx_G_bd hM2 G (show i < m by omega) (Or.inl hkn)
    have bp := G.2.1 k k hkm hkn
    have ep : sf_w w k k = p := by rw [hr k hkn]; exact hW0
    have ep' : (w (5 * k + k)).toInt = p := ep
    refine ⟨vp_in_nI (by omega) (by omega), vp_in_nI (by omega) (by omega), sx_nearest (by rw [ep']; exact hp) (by unfold sf_w at bv; omega) (by unfold sf_w at bp; omega) fun r r1 r2 x ex => ?_⟩
    have r3 : r.toInt.natAbs ≤ 134217728 := by unfold sf_w at bv; omega
    have et : x.toInt = - r.toInt := by rw [ex]; exact sf_neg_i r3
    refine sx_adR (by omega) (by omega) (by omega) hM (by omega) fun w1 g1 g2 => ?_
    obtain ⟨G1, K1⟩ := sx_G_radd_w (t := x) hm hn h120 hM hM2 hq (by omega) (by omega) G (by omega) (by omega) (by omega) (by omega) hkm (by omega) g1 g2
    have hv : sf_w w1 i k = sf_w w i k - r.toInt * p := by
      have d1 := K1 k (Or.inl hkn)
      rw [et, ep] at d1
      have d2 := g2 k (by omega)
      refine sf_eq_mod hM ?_ d2.2.1 d2.2.2 ?_
      · rwa [show sf_w w i k + -r.toInt * p = sf_w w i k - r.toInt * p by rw [Int.neg_mul]; omega] at d1
      · rw [ep'] at r1
        rw [ep] at bp
        unfold sf_w; omega
    have hk1 : ∀ a b, a < m → b < n → a ≠ i → sf_w w1 a b = sf_w w a b := by
      intro a b ha hb hne
      unfold sf_w; rw [g1 a b (by omega) (by omega) hne]
    have hsm : 2 * (sf_w w1 i k).natAbs ≤ p.natAbs := by
      rw [hv]; rw [ep'] at r1; exact r1
    refine ⟨vp_in_nI (by omega) (by omega), br_c (fun c y ey => ?_) (fun c => ?_)⟩
    · rw [ey, nI_1]
      have c0 : sf_w w1 i k = 0 := by rw [sf_i0] at c; exact c
      refine ih (i + 1) N w1 (by omega) (by omega) (by omega) G1 (fun a a1 a2 => ?_) (fun b b2 => ?_)
      · by_cases z : a = i
        · rw [z]; exact c0
        · rw [hk1 a k (by omega) hkn z]; exact hc a a1 (by omega)
      · rw [hk1 k b hkm b2 (by omega)]; exact hr b b2
    · have c0 : sf_w w1 i k ≠ 0 := by rw [sf_i0] at c; exact c
      refine sx_swR (by omega) (by omega) fun w2 hw2 => ?_
      have G2 := sx_G_rswap (W' := sf_w w2) (a := i) (b := k) (by omega) (by omega) G1 (by omega) (by omega) (Nat.le_refl k) hkm (fun a b ha hb => by
        unfold sf_w; rw [hw2 a b (by omega) (by omega)])
      have e2 : sf_w w2 k k = sf_w w1 i k := by
        unfold sf_w; rw [hw2 k k (by omega) (by omega)]
        have : sf_tp i k k = i := by unfold sf_tp; rw [if_neg (by omega), if_pos rfl]
        rw [this]
      exact h0 w2 G2 (by rw [e2]; exact c0) (by rw [e2]; exact hsm)
theorem sx_cc {post : Int32 → SX → Prop} {w : Nat → Int64} (hm : m ≤ 4) (hn : n ≤ 4) (h120 : (120 : Int) ∣ mo.toInt) (hM : 0 < mo.toInt) (hM2 : mo.toInt ≤ 67108864) (hq : q ∣ mo.toInt) (hkm : k < m) (hkn : k < n)
    (G : sx_G m n mo.toInt A k e q (sf_w w)) (hp : sf_w w k k ≠ 0)
    (h0 : ∀ w', sx_G m n mo.toInt A k e q (sf_w w') → sf_w w' k k ≠ 0 → 2 * (sf_w w' k k).natAbs ≤ (sf_w w k k).natAbs → post 0 (nI m, nI n, fo, mo, de, ce, ta, w', fa))
    (h1 : ∀ w', sx_G m n mo.toInt A k e q (sf_w w') → sf_w w' k k = sf_w w k k → (∀ a, k < a → a < m → sf_w w' a k = 0) → (∀ b, k < b → b < n → sf_w w' k b = 0) → (∀ b, k < b → b < n → sf_w w k k ∣ sf_w w k b) → post 1 (nI m, nI n, fo, mo, de, ce, ta, w', fa)) :
    wpX_clearCross post (nI m, nI n, fo, mo, de, ce, ta, w, fa) (nI k) := by
  intro x ex
  refine ⟨m + 1, ?_⟩
  rw [ex, nI_1]
  exact sx_cc_rows (W0 := sf_w w) hm hn h120 hM hM2 hq hkm hkn hp rfl h0 h1 (m - (k + 1)) (k + 1) (m + 1) w (by omega) (by omega) (by omega) G (fun a a1 a2 => by omega) (fun _ _ => rfl)
end
end
section
section
variable {m n k : Nat} {q : Int} {A : Nat → Nat → Int} {e : Nat → Int} {fo de : Int32} {mo : Int64} {ce ta : Nat → Int32} {fa : Nat → Int64}
theorem sx_rounds {post : SX → Prop} {J : Int32 → Int32 → Int32 → Int32 → Int64 → Int32 → (Nat → Int32) → (Nat → Int32) → (Nat → Int64) → (Nat → Int64) → Prop} {x1 : Int32}
    (hm : m ≤ 4) (hn : n ≤ 4) (h120 : (120 : Int) ∣ mo.toInt) (hM : 0 < mo.toInt) (hM2 : mo.toInt ≤ 67108864) (hq : q ∣ mo.toInt) (hkm : k < m) (hkn : k < n)
    (hx : ∀ w', sx_G m n mo.toInt A k e q (sf_w w') → 0 < sf_w w' k k → sf_w w' k k ∣ mo.toInt → (∀ a, k < a → a < m → sf_w w' a k = 0) → (∀ b, k < b → b < n → sf_w w' k b = 0) →
      (∀ a b, k < a → a < m → k < b → b < n → sf_w w' k k ∣ sf_w w' a b) → wX_reduce_120 post J x1 (nI k) (nI m) (nI n) fo mo de ce ta w' fa) :
    ∀ (s t N : Nat) (w : Nat → Int64), sx_G m n mo.toInt A k e q (sf_w w) → sf_w w k k ≠ 0 → (sf_w w k k).natAbs < 2 ^ s → t + 2 * s ≤ 81 → 2 * s ≤ N →
      wX_reduce_49 post J x1 (nI k) N (nI t) (nI m) (nI n) fo mo de ce ta w fa := by
  intro s
  induction s with
  | zero =>
    intro t N w _ h0 h1
    rw [Nat.pow_zero] at h1; omega
  | succ s ih =>
    intro t N w G hp hs ht hN
    obtain ⟨N, rfl⟩ : ∃ N', N = N' + 1 := ⟨N - 1, by omega⟩
    rw [wX_reduce_49]
    refine br_f (nI_ge (a := t) (b := 80) (by omega) (by omega)) ?_
    have hs2 : (sf_w w k k).natAbs < 2 * 2 ^ s := by rw [Nat.pow_succ] at hs; omega
    refine sx_cc hm hn h120 hM hM2 hq hkm hkn G hp (fun w1 G1 p1 s1 => ?_) (fun w1 G1 e1 c1 r1 _ => ?_)
    · refine br_t rfl fun x ex => ?_
      rw [ex, nI_1]
      exact ih (t + 1) N w1 G1 p1 (by omega) (by omega) (by omega)
    · refine br_f (by decide) ?_
      rw [sf_ix, sf_cl _ _ (by omega)]
      have bp := G1.2.1 k k hkm hkn
      refine ⟨vp_in_nI (by omega) (by omega), sx_gcd (by unfold sf_w at bp; omega) (by omega) ⟨vp_in_nI (by omega) (by omega), fun w2 ew2 => ?_⟩⟩
      have hp1 : sf_w w1 k k ≠ 0 := by rw [e1]; exact hp
      have hgle : Int.gcd (sf_w w1 k k) mo.toInt ≤ (sf_w w1 k k).natAbs := Nat.le_of_dvd (by omega) (Nat.gcd_dvd_left _ _)
      have hgpos : 0 < Int.gcd (sf_w w1 k k) mo.toInt := Nat.gcd_pos_of_pos_left _ (by omega)
      have U : ∀ a b, b < 5 → w2 (5 * a + b) = if a = k ∧ b = k then lN (Int.gcd (sf_w w1 k k) mo.toInt) else w1 (5 * a + b) := by
        intro a b hb
        rw [ew2, sf_u _ _ _ _ _ _ (by omega) hb]; rfl
      have Uk : sf_w w2 k k = (Int.gcd (sf_w w1 k k) mo.toInt : Int) := by
        show (w2 (5 * k + k)).toInt = _
        rw [U k k (by omega), if_pos ⟨rfl, rfl⟩, pk_lT (by omega)]
      have Un : ∀ a b, b < 5 → ¬ (a = k ∧ b = k) → sf_w w2 a b = sf_w w1 a b := by
        intro a b hb hne
        show (w2 (5 * a + b)).toInt = _
        rw [U a b hb, if_neg hne]; rfl
      have G2 : sx_G m n mo.toInt A k e q (sf_w w2) := sx_G_gcd hn h120 hM hq hkm hkn G1 c1 hp1 (fun i j hi hj hne => Un i j (by omega) hne) Uk
      have hg0 : 0 < sf_w w2 k k := by rw [Uk]; omega
      have hgM : sf_w w2 k k ∣ mo.toInt := by rw [Uk]; exact Int.gcd_dvd_right _ _
      have c2 : ∀ a, k < a → a < m → sf_w w2 a k = 0 := fun a a1 a2 => by rw [Un a k (by omega) (by omega)]; exact c1 a a1 a2
      have r2 : ∀ b, k < b → b < n → sf_w w2 k b = 0 := fun b b1 b2 => by rw [Un k b (by omega) (by omega)]; exact r1 b b1 b2
      refine sx_stub hm hn hkn hkm (show sf_w w2 k k ≠ 0 by omega) (fun hall => ?_) (fun a b a1 a2 b1 b2 hnd => ?_)
      · exact br_f (by decide) (hx w2 G2 hg0 hgM c2 r2 hall)
      · refine br_t (nI_pos' (by omega)) ?_
        refine sx_adR (t := 1) (by omega) (by omega) (by omega) hM (by omega) fun w3 g1 g2 => ?_
        obtain ⟨G3, K3⟩ := sx_G_radd_w (t := 1) hm hn h120 hM hM2 hq (by omega) (by omega) G2 (by decide) (Nat.le_refl k) hkm (by omega) a2 (by omega) g1 g2
        have e31 : (1 : Int64).toInt = 1 := rfl
        rw [e31] at K3
        have bg := G2.2.1 k k hkm hkn
        have hk3 : sf_w w3 k k = sf_w w2 k k := by
          have d1 := K3 k (Or.inl hkn)
          rw [c2 a a1 a2, Int.mul_zero, Int.add_zero] at d1
          have d2 := g2 k (by omega)
          have d3 : -mo.toInt < 2 * sf_w w3 k k := d2.2.1
          have d4 : 2 * sf_w w3 k k ≤ mo.toInt := d2.2.2
          have := sf_small hM d1 (by omega)
          omega
        have hb3 : ¬ sf_w w3 k k ∣ sf_w w3 k b := by
          rw [hk3]
          intro z
          have d1 := K3 b (Or.inl b2)
          rw [r2 b b1 b2, Int.one_mul, Int.zero_add] at d1
          exact hnd ((sf_dvd_iff (Int.dvd_trans hgM d1)).mp z)
        have hg2 : ¬ sf_w w3 k k = 1 := fun z => hb3 (by rw [z]; exact Int.one_dvd _)
        have hle3 : (sf_w w3 k k).natAbs < 2 * 2 ^ s := by rw [hk3, Uk]; rw [e1] at hgle ⊢; omega
        have s1 : 1 ≤ s := by
          by_cases z : s = 0
          · subst z; rw [Nat.pow_zero] at hle3; rw [hk3] at hg2 hle3; omega
          · omega
        intro x ex
        rw [ex, nI_1]
        obtain ⟨N, rfl⟩ : ∃ N', N = N' + 1 := ⟨N - 1, by omega⟩
        rw [wX_reduce_49]
        refine br_f (nI_ge (a := t + 1) (b := 80) (by omega) (by omega)) ?_
        refine sx_cc hm hn h120 hM hM2 hq hkm hkn G3 (by rw [hk3]; omega) (fun w4 G4 p4 s4 => ?_) (fun w4 _ _ _ _ hd => absurd (hd b b1 b2) hb3)
        refine br_t rfl fun x ex => ?_
        rw [ex, nI_1]
        exact ih (t + 1 + 1) N w4 G4 p4 (by omega) (by omega) (by omega)
end
/-- what reduce leaves -/
def sx_R (m n : Nat) (A : Nat → Nat → Int) (M : Int) (f : Nat) (e : Nat → Int) (w fa : Nat → Int64) : Prop :=
  sf_Sm m n M A (sf_w w) ∧ sf_Dg m n M f e (sf_w w) ∧ (∀ i, i < m → (sf_w w i 4).natAbs ≤ 67108864) ∧ (∀ i, i < f → (fa i).toInt = e i)
section
variable {m n : Nat} {A : Nat → Nat → Int} {de : Int32} {mo : Int64} {ce ta : Nat → Int32}
theorem sx_red_l {post : SX → Prop} {mx : Nat} (hm : m ≤ 4) (hn : n ≤ 4) (hmx : (mx = n ∧ n ≤ m) ∨ (mx = m ∧ m ≤ n)) (h120 : (120 : Int) ∣ mo.toInt) (hM : 0 < mo.toInt) (hM2 : mo.toInt ≤ 67108864)
    (h : ∀ f e w fa, sx_R m n A mo.toInt f e w fa → post (nI m, nI n, nI f, mo, de, ce, ta, w, fa)) :
    ∀ (d k N : Nat) (e : Nat → Int) (q : Int) (w fa : Nat → Int64), k + d = mx → d < N → q ∣ mo.toInt → (k = 0 ∨ q = e (k - 1)) →
      (∀ i, i < k → 0 < e i ∧ 2 * e i ≤ mo.toInt ∧ e i ∣ mo.toInt) → (∀ i, i + 1 < k → e i ∣ e (i + 1)) → (∀ i, i < k → (fa i).toInt = e i) → sx_G m n mo.toInt A k e q (sf_w w) →
      wX_reduce_30 post (nI mx) N (nI k) (nI m) (nI n) (nI k) mo de ce ta w fa := by
  intro d
  induction d with
  | zero =>
    intro k N e q w fa hk hN hq hqe E1 E2 F G
    obtain ⟨N, rfl⟩ : ∃ N', N = N' + 1 := ⟨N - 1, by omega⟩
    rw [wX_reduce_30]
    refine br_t (nI_le (by omega) (by omega)) (h k e w fa ⟨G.1, ⟨by omega, by omega, hM, E1, E2, fun i j hi hj => ?_⟩, G.2.2.1, F⟩)
    by_cases z : i = j
    · subst z
      rw [if_pos ⟨rfl, by omega⟩]; exact G.2.2.2.2.1 i (by omega)
    · rw [if_neg (fun y => z y.1)]; exact G.2.2.2.1 i j hi hj z (by omega)
  | succ d ih =>
    intro k N e q w fa hk hN hq hqe E1 E2 F G
    obtain ⟨N, rfl⟩ : ∃ N', N = N' + 1 := ⟨N - 1, by omega⟩
    rw [wX_reduce_30]
    refine br_f (nI_ge (by omega) (by omega)) ?_
    refine sx_pick hm hn (by omega) (fun hz => ?_) (fun i j i1 i2 j1 j2 hnz w' hw' => ?_)
    · refine br_t rfl (h k e w fa ⟨G.1, ⟨by omega, by omega, hM, E1, E2, fun i j hi hj => ?_⟩, G.2.2.1, F⟩)
      by_cases z : i = j ∧ i < k
      · rw [if_pos z, ← z.1]; exact G.2.2.2.2.1 i z.2
      · rw [if_neg z]
        by_cases y : i < k ∨ j < k
        · exact G.2.2.2.1 i j hi hj (by omega) y
        · show (w (5 * i + j)).toInt = 0
          rw [hz i j (by omega) hi (by omega) hj]; rfl
    · refine br_f (by decide) ⟨100, ?_⟩
      -- the pivot swapped to its corner: rows first, then columns
      have G1 : sx_G m n mo.toInt A k e q (fun a b => sf_w w (sf_tp i k a) b) := sx_G_rswap (by omega) (by omega) G i1 i2 (Nat.le_refl k) (by omega) (fun a b _ _ => rfl)
      have G2 : sx_G m n mo.toInt A k e q (sf_w w') := sx_G_cswap (a := j) (b := k) (by omega) (by omega) G1 j1 j2 (Nat.le_refl k) (by omega) (fun a b ha hb => by
        show (w' (5 * a + b)).toInt = _
        rw [hw' a b ha (by omega)]; rfl) (fun a ha => by
        show (w' (5 * a + 4)).toInt = _
        rw [hw' a 4 ha (by omega), sf_tp_ne (a := j) (b := k) (i := 4) (by omega) (by omega)]; rfl)
      have ek : sf_w w' k k = sf_w w i j := by
        show (w' (5 * k + k)).toInt = _
        rw [hw' k k (by omega) (by omega)]
        have t1 : sf_tp i k k = i := by
          unfold sf_tp
          by_cases z : k = i
          · rw [if_pos z]; omega
          · rw [if_neg z, if_pos rfl]
        have t2 : sf_tp j k k = j := by
          unfold sf_tp
          by_cases z : k = j
          · rw [if_pos z]; omega
          · rw [if_neg z, if_pos rfl]
        rw [t1, t2]; rfl
      have hnz' : sf_w w' k k ≠ 0 := by
        rw [ek]; intro z; exact hnz (sf_i0.mpr z)
      have bk := G2.2.1 k k (by omega) (by omega)
      refine sx_rounds hm hn h120 hM hM2 hq (by omega) (by omega) (fun w2 H hg0 hgM hc hr hb => ?_) 30 0 100 w' G2 hnz' (by omega) (by omega) (by omega)
      unfold wX_reduce_120
      simp only [sf_ix, sf_cl k k (by omega), nI_clamp (show k < 2 ^ 31 by omega)]
      refine ⟨vp_in_nI (by omega) (by omega), vp_in_nI (by omega) (by omega), fun fa2 efa x ex y ey => ?_⟩
      rw [ex, ey, nI_1]
      have efk : ∀ i, i ≠ k → fa2 i = fa i := fun i hi => by rw [efa]; exact pk_uLn hi
      have efk2 : fa2 k = w2 (5 * k + k) := by rw [efa]; exact pk_uLs
      have bk2 := H.2.1 k k (by omega) (by omega)
      refine ih (k + 1) N (fun i => if i = k then sf_w w2 k k else e i) (sf_w w2 k k) w2 fa2 (by omega) (by omega) hgM (Or.inr (by rw [if_pos (by omega)])) (fun i hi => ?_) (fun i hi => ?_) (fun i hi => ?_) ?_
      · by_cases z : i = k
        · rw [if_pos z]; exact ⟨hg0, by omega, hgM⟩
        · rw [if_neg z]; exact E1 i (by omega)
      · rw [if_neg (show ¬ i = k by omega)]
        by_cases z : i + 1 = k
        · rw [if_pos z]
          rcases hqe with y | y
          · omega
          · rw [show i = k - 1 by omega, ← y]
            exact H.2.2.2.2.2 k k (Nat.le_refl k) (by omega) (Nat.le_refl k) (by omega)
        · rw [if_neg z]; exact E2 i (by omega)
      · by_cases z : i = k
        · rw [if_pos z, z, efk2]; rfl
        · rw [if_neg z, efk i z]; exact F i (by omega)
      · obtain ⟨a1, a2, a3, a4, a5, a6⟩ := H
        refine ⟨a1, a2, a3, fun i j hi hj hne hk => ?_, fun i hi => ?_, fun i j b1 b2 b3 b4 => hb i j (by omega) b2 (by omega) b4⟩
        · by_cases y : i < k ∨ j < k
          · exact a4 i j hi hj hne y
          · by_cases y2 : i = k
            · rw [y2]; exact hr j (by omega) hj
            · have y3 : j = k := by omega
              rw [y3]; exact hc i (by omega) hi
        · dsimp only
          by_cases z : i = k
          · rw [if_pos z, z]
          · rw [if_neg z]; exact a5 i (by omega)
theorem sx_reduce {post : SX → Prop} {fo : Int32} {w fa : Nat → Int64} (hm : m ≤ 4) (hn : n ≤ 4) (h120 : (120 : Int) ∣ mo.toInt) (hM : 0 < mo.toInt) (hM2 : mo.toInt ≤ 67108864)
    (hb1 : ∀ i j, i < m → j < n → 2 * ((sf_w w i j).natAbs : Int) ≤ mo.toInt) (hb2 : ∀ i, i < m → (sf_w w i 4).natAbs ≤ 67108864) (hA : ∀ i j, i < m → (j < n ∨ j = 4) → sf_w w i j = A i j)
    (h : ∀ f e w fa, sx_R m n A mo.toInt f e w fa → post (nI m, nI n, nI f, mo, de, ce, ta, w, fa)) :
    wpX_reduce post (nI m, nI n, fo, mo, de, ce, ta, w, fa) := by
  have hS : sf_Sm m n mo.toInt A (sf_w w) := by
    by_cases hm0 : 0 < m
    · exact sf_Sm_rswap (a := 0) (b := 0) hm0 hm0 (fun i j hi hj => by
        rw [hA i j hi hj]
        have : sf_tp 0 0 i = i := by
          unfold sf_tp
          by_cases z : i = 0
          · rw [if_pos z, z]
          · rw [if_neg z, if_neg z]
        rw [this])
    · refine ⟨fun c k d _ => ?_, fun p _ _ => ?_⟩
      · exact sf_Dv_In fun v => ⟨fun _ => ⟨fun _ => 0, fun i hi => by omega⟩, fun _ => ⟨fun _ => 0, fun i hi => by omega⟩⟩
      · exact congrArg (sf_cn p n) (funext fun x => sf_ind_c ⟨fun _ i hi => by omega, fun _ i hi => by omega⟩)
  have G0 : sx_G m n mo.toInt A 0 (fun _ => 0) 1 (sf_w w) := ⟨hS, hb1, hb2, fun i j _ _ _ h => by omega, fun i hi => by omega, fun i j _ _ _ _ => Int.one_dvd _⟩
  unfold wpX_reduce
  dsimp only
  refine br_c (fun c => ⟨n + 1, ?_⟩) (fun c => ⟨m + 1, ?_⟩)
  · rw [nI_leI (by omega) (by omega)] at c
    exact sx_red_l hm hn (Or.inl ⟨rfl, c⟩) h120 hM hM2 h n 0 (n + 1) (fun _ => 0) 1 w fa (by omega) (by omega) (Int.one_dvd _) (Or.inl rfl) (fun i hi => by omega) (fun i hi => by omega) (fun i hi => by omega) G0
  · rw [nI_leI (by omega) (by omega)] at c
    exact sx_red_l hm hn (Or.inr ⟨rfl, by omega⟩) h120 hM hM2 h m 0 (m + 1) (fun _ => 0) 1 w fa (by omega) (by omega) (Int.one_dvd _) (Or.inl rfl) (fun i hi => by omega) (fun i hi => by omega) (fun i hi => by omega) G0
end
end
section
/-- the first k rows and columns, and row i, column j -/
def sf_bd (A : Nat → Nat → Int) (ρ γ : Nat → Nat) (k i j : Nat) : Nat → Nat → Int := fun a b => A (ρ (if a < k then a else i)) (γ (if b < k then b else j))
theorem sf_np1 (a : Nat → Nat) : sf_np 1 a = a 0 * 1 := rfl
theorem sf_bd_np {k : Nat} (hk : k ≤ 4) (hk1 : 1 ≤ k) (c : Nat) (hc : 12 ≤ c) : sf_fa k * sf_np k (fun b => if b + 1 = k then c else 12) ≤ 41472 * c := by
  have h : k = 1 ∨ k = 2 ∨ k = 3 ∨ k = 4 := by omega
  rcases h with rfl | rfl | rfl | rfl <;> simp [sf_fa, sf_np] <;> omega
section
variable {A : Nat → Nat → Int} {m n : Nat} {ρ γ : Nat → Nat}
theorem sf_bd_b1 (hA : ∀ i j, i < m → j < n → (A i j).natAbs ≤ 12) (h3 : ∀ i, i < m → ρ i < m) (h5 : ∀ j, j < n → γ j < n) {k i j : Nat} (hk : k < 4) (hkm : k ≤ m) (hkn : k ≤ n) (hi : i < m) (hj : j < n) :
    (sf_dt (k + 1) (sf_bd A ρ γ k i j)).natAbs ≤ 497664 := by
  have h := sf_dt_bd (k := k + 1) (B := fun b => if b + 1 = k + 1 then 12 else 12) (f := sf_bd A ρ γ k i j) (fun a b ha hb => by
    have : (if b + 1 = k + 1 then 12 else 12) = 12 := by split <;> rfl
    rw [this]
    refine hA _ _ (h3 _ ?_) (h5 _ ?_)
    · split <;> omega
    · split <;> omega)
  have := sf_bd_np (k := k + 1) (by omega) (by omega) 12 (by omega)
  omega
theorem sf_bd_b2 (hA : ∀ i j, i < m → j < n → (A i j).natAbs ≤ 12) (hA4 : ∀ i, i < m → (A i 4).natAbs ≤ 200) (h3 : ∀ i, i < m → ρ i < m) (h5 : ∀ j, j < n → γ j < n) (h7 : γ 4 = 4) {k i j : Nat} (hk : k < 4) (hkm : k ≤ m) (hkn : k ≤ n) (hi : i < m) (hj : j < n ∨ j = 4) :
    (sf_dt (k + 1) (sf_bd A ρ γ k i j)).natAbs ≤ 8294400 := by
  have h := sf_dt_bd (k := k + 1) (B := fun b => if b + 1 = k + 1 then 200 else 12) (f := sf_bd A ρ γ k i j) (fun a b ha hb => by
    have hr : ρ (if a < k then a else i) < m := h3 _ (by split <;> omega)
    unfold sf_bd
    by_cases z : b = k
    · rw [if_pos (show b + 1 = k + 1 by omega), if_neg (show ¬ b < k by omega)]
      rcases hj with q | q
      · have := hA _ _ hr (h5 j q); omega
      · rw [q, h7]; exact hA4 _ hr
    · rw [if_neg (show ¬ b + 1 = k + 1 by omega), if_pos (show b < k by omega)]
      exact hA _ _ hr (h5 b (by omega)))
  have := sf_bd_np (k := k + 1) (by omega) (by omega) 200 (by omega)
  omega
theorem sf_bd_syl {k i j : Nat} (hk : k ≤ 2) :
    sf_dt (k + 1) (sf_bd A ρ γ k k k) * sf_dt (k + 1) (sf_bd A ρ γ k i j) - sf_dt (k + 1) (sf_bd A ρ γ k i k) * sf_dt (k + 1) (sf_bd A ρ γ k k j) = sf_dt k (fun a b => A (ρ a) (γ b)) * sf_dt (k + 1 + 1) (sf_bd A ρ γ (k + 1) i j) := by
  have h := sf_syl hk (sf_bd A ρ γ (k + 1) i j)
  have c1 : ∀ x y z w : Nat, (if (if x < y then x else y + 1) < y + 1 then (if x < y then x else y + 1) else w) = if x < y then x else w := by
    intro x y z w
    by_cases q : x < y
    · rw [if_pos q, if_pos q, if_pos (by omega)]
    · rw [if_neg q, if_neg q, if_neg (by omega)]
  have c2 : ∀ x y w : Nat, x < y + 1 → (if x < y + 1 then x else w) = if x < y then x else y := by
    intro x y w hx
    rw [if_pos hx]
    by_cases q : x < y
    · rw [if_pos q]
    · rw [if_neg q]; omega
  have e1 : sf_dt (k + 1) (sf_bd A ρ γ (k + 1) i j) = sf_dt (k + 1) (sf_bd A ρ γ k k k) := sf_dt_congr fun a b ha hb => by
    unfold sf_bd; rw [c2 a k i ha, c2 b k j hb]
  have e2 : sf_dt (k + 1) (fun a b => sf_bd A ρ γ (k + 1) i j (if a < k then a else k + 1) (if b < k then b else k + 1)) = sf_dt (k + 1) (sf_bd A ρ γ k i j) := sf_dt_congr fun a b ha hb => by
    unfold sf_bd; rw [c1 a k 0 i, c1 b k 0 j]
  have e3 : sf_dt (k + 1) (fun a b => sf_bd A ρ γ (k + 1) i j (if a < k then a else k + 1) b) = sf_dt (k + 1) (sf_bd A ρ γ k i k) := sf_dt_congr fun a b ha hb => by
    unfold sf_bd; rw [c1 a k 0 i, c2 b k j hb]
  have e4 : sf_dt (k + 1) (fun a b => sf_bd A ρ γ (k + 1) i j a (if b < k then b else k + 1)) = sf_dt (k + 1) (sf_bd A ρ γ k k j) := sf_dt_congr fun a b ha hb => by
    unfold sf_bd; rw [c2 a k i ha, c1 b k 0 j]
  have e5 : sf_dt k (sf_bd A ρ γ (k + 1) i j) = sf_dt k (fun a b => A (ρ a) (γ b)) := sf_dt_congr fun a b ha hb => by
    unfold sf_bd; rw [if_pos (by omega), if_pos (by omega)]
  rw [e1, e2, e3, e4, e5] at h
  exact h
end
/-- permutations of rows and columns -/
def sf_PG (m n : Nat) (ρ γ : Nat → Nat) : Prop :=
  (∀ i, i < m → ρ i < m) ∧ (∀ i, i < m → ∃ i', i' < m ∧ ρ i' = i) ∧ (∀ j, j < n → γ j < n) ∧ (∀ j, j < n → ∃ j', j' < n ∧ γ j' = j) ∧ γ 4 = 4
theorem sf_PG_tp {m n a b c d : Nat} {ρ γ : Nat → Nat} (h : sf_PG m n ρ γ) (hn : n ≤ 4) (ha : a < m) (hb : b < m) (hc : c < n) (hd : d < n) : sf_PG m n (fun i => ρ (sf_tp a b i)) (fun j => γ (sf_tp c d j)) := by
  obtain ⟨h1, h2, h3, h4, h5⟩ := h
  refine ⟨fun i hi => h1 _ (sf_tp_lt ha hb hi), fun i hi => ?_, fun j hj => h3 _ (sf_tp_lt hc hd hj), fun j hj => ?_, ?_⟩
  · obtain ⟨i', hi', e⟩ := h2 i hi
    exact ⟨sf_tp a b i', sf_tp_lt ha hb hi', by dsimp only; rw [sf_tp_tp]; exact e⟩
  · obtain ⟨j', hj', e⟩ := h4 j hj
    exact ⟨sf_tp c d j', sf_tp_lt hc hd hj', by dsimp only; rw [sf_tp_tp]; exact e⟩
  · show γ (sf_tp c d 4) = 4
    rw [sf_tp_ne (a := c) (b := d) (i := 4) (by omega) (by omega), h5]
section
variable {m n : Nat} {A : Nat → Nat → Int} {fo : Int32} {ce ta : Nat → Int32} {fa : Nat → Int64}
theorem sx_dep_l {post : SX → Prop} {mo : Int64} {w : Nat → Int64} (hm : m ≤ 4) : ∀ (d i N : Nat) (de : Int32), i + d = m → d < N → (de = 0 ∨ de = 1) →
    (∀ de' : Int32, ((de' = 1 ∧ de = 1 ∧ ∀ a, i ≤ a → a < m → sf_w w a 4 = 0) ∨ (de' = 0 ∧ ¬ (de = 1 ∧ ∀ a, i ≤ a → a < m → sf_w w a 4 = 0))) → post (nI m, nI n, fo, mo, de', ce, ta, w, fa)) →
    wX_measure_113 post (nI m) (nI n) fo mo ce ta w fa N (nI i) de := by
  intro d
  induction d with
  | zero =>
    intro i N de hi hN hd h
    obtain ⟨N, rfl⟩ : ∃ N', N = N' + 1 := ⟨N - 1, by omega⟩
    rw [wX_measure_113]
    refine br_t (nI_le (by omega) (by omega)) (h de ?_)
    rcases hd with e | e
    · exact Or.inr ⟨e, fun z => by rw [e] at z; exact absurd z.1 (by decide)⟩
    · exact Or.inl ⟨e, e, fun a _ _ => by omega⟩
  | succ d ih =>
    intro i N de hi hN hd h
    obtain ⟨N, rfl⟩ : ∃ N', N = N' + 1 := ⟨N - 1, by omega⟩
    rw [wX_measure_113]
    refine br_f (nI_ge (by omega) (by omega)) ?_
    rw [sf_ix4, sf_cl _ _ (by omega)]
    have no : ¬ (de = 1 ∧ ∀ a, i ≤ a → a < m → sf_w w a 4 = 0) → wX_measure_113 post (nI m) (nI n) fo mo ce ta w fa N (nI (i + 1)) 0 := by
      intro hno
      refine ih (i + 1) N 0 (by omega) (by omega) (Or.inl rfl) fun de' hde => h de' (Or.inr ⟨?_, hno⟩)
      rcases hde with y | y
      · exact absurd y.2.1 (by decide)
      · exact y.1
    refine br_c (fun c x ex => ?_) (fun c => ⟨vp_in_nI (by omega) (by omega), br_c (fun c2 x ex => ?_) (fun c2 x ex => ?_)⟩)
    · rw [ex, nI_1]
      exact no fun z => by rw [c] at z; exact absurd z.1 (by decide)
    · rw [ex, nI_1]
      have hd1 : de = 1 := hd.resolve_left c
      have c3 : sf_w w i 4 = 0 := sf_i0.mp c2
      refine ih (i + 1) N 1 (by omega) (by omega) (Or.inr rfl) fun de' hde => h de' ?_
      have key : ((1 : Int32) = 1 ∧ ∀ a, i + 1 ≤ a → a < m → sf_w w a 4 = 0) ↔ (de = 1 ∧ ∀ a, i ≤ a → a < m → sf_w w a 4 = 0) := by
        constructor
        · intro y
          refine ⟨hd1, fun a a1 a2 => ?_⟩
          by_cases z : a = i
          · rw [z]; exact c3
          · exact y.2 a (by omega) a2
        · intro y; exact ⟨rfl, fun a a1 a2 => y.2 a (by omega) a2⟩
      rcases hde with y | y
      · exact Or.inl ⟨y.1, key.mp y.2⟩
      · exact Or.inr ⟨y.1, fun z => y.2 (key.mpr z)⟩
    · rw [ex, nI_1]
      exact no fun z => c2 (sf_i0.mpr (z.2 i (Nat.le_refl i) (by omega)))
/-- the state of measure ahead of step k -/
def sx_B (m n : Nat) (A : Nat → Nat → Int) (ρ γ : Nat → Nat) (k : Nat) (bf : Int64) (w : Nat → Int64) : Prop :=
  k ≤ m ∧ k ≤ n ∧ sf_PG m n ρ γ ∧ bf.toInt = sf_dt k (fun a b => A (ρ a) (γ b)) ∧ bf.toInt ≠ 0 ∧
  (∀ i j, k ≤ i → i < m → (k ≤ j ∧ j < n ∨ j = 4) → sf_w w i j = sf_dt (k + 1) (sf_bd A ρ γ k i j))
def sx_MQ (m n : Nat) (A : Nat → Nat → Int) (r : Nat) (ρ γ : Nat → Nat) (D : Int) (mo : Int64) (de : Int32) : Prop :=
  sf_Ms m n A r ρ γ D ∧ mo.toInt = 120 * (D.natAbs : Int) ∧ D.natAbs ≤ 497664 ∧ ((de = 1 ∧ sf_Dp m A r ρ γ) ∨ (de = 0 ∧ ¬ sf_Dp m A r ρ γ))
theorem sx_me_end {post : SX → Prop} {ρ γ : Nat → Nat} {k : Nat} {bf mo : Int64} {de : Int32} {w : Nat → Int64} (hm : m ≤ 4) (hn : n ≤ 4) (hA : ∀ i j, i < m → j < n → (A i j).natAbs ≤ 12) (hB : sx_B m n A ρ γ k bf w)
    (hz : ∀ i j, k ≤ i → i < m → k ≤ j → j < n → sf_w w i j = 0)
    (h : ∀ r ρ γ D mo' de' w', sx_MQ m n A r ρ γ D mo' de' → post (nI m, nI n, fo, mo', de', ce, ta, w', fa)) :
    wX_measure_85 post bf (nI k) (nI m) (nI n) fo mo de ce ta w fa := by
  obtain ⟨b1, b2, b3, b4, b5, b6⟩ := hB
  have hD : bf.toInt.natAbs ≤ 497664 := by
    rw [b4]
    by_cases k0 : k = 0
    · subst k0; show (1 : Int).natAbs ≤ 497664; decide
    · have h1 := sf_dt_bd (k := k) (B := fun b => if b + 1 = k then 12 else 12) (f := fun a b => A (ρ a) (γ b)) (fun a b ha hb => by
        have : (if b + 1 = k then 12 else 12) = 12 := by split <;> rfl
        rw [this]
        exact hA _ _ (b3.1 a (by omega)) (b3.2.2.1 b (by omega)))
      have := sf_bd_np (k := k) (by omega) (by omega) 12 (by omega)
      omega
  have hMs : sf_Ms m n A k ρ γ bf.toInt := ⟨b1, b2, b3.1, b3.2.1, b3.2.2.1, b3.2.2.2.1, b3.2.2.2.2, b4.symm, b5, fun i j i1 i2 j1 j2 => by
    have e1 := b6 i j i1 i2 (Or.inl ⟨j1, j2⟩)
    rw [hz i j i1 i2 j1 j2] at e1
    exact e1.symm⟩
  have hdp : sf_Dp m A k ρ γ ↔ ((1 : Int32) = 1 ∧ ∀ a, k ≤ a → a < m → sf_w w a 4 = 0) := by
    constructor
    · intro y; exact ⟨rfl, fun a a1 a2 => by rw [b6 a 4 a1 a2 (Or.inr rfl)]; exact y a a1 a2⟩
    · intro y a a1 a2
      have := y.2 a a1 a2
      rw [b6 a 4 a1 a2 (Or.inr rfl)] at this; exact this
  have fin : ∀ mo' : Int64, mo'.toInt = 120 * (bf.toInt.natAbs : Int) → wX_measure_113 post (nI m) (nI n) fo mo' ce ta w fa (m + 1) (nI k) 1 := by
    intro mo' emo
    refine sx_dep_l hm (m - k) k (m + 1) 1 (by omega) (by omega) (Or.inr rfl) fun de' hde => h k ρ γ bf.toInt mo' de' w ⟨hMs, emo, hD, ?_⟩
    rcases hde with y | y
    · exact Or.inl ⟨y.1, hdp.mpr y.2⟩
    · exact Or.inr ⟨y.1, fun z => y.2 (hdp.mp z)⟩
  unfold wX_measure_85
  refine br_c (fun c x ex => ⟨m + 1, fin x ?_⟩) (fun c x ex => ⟨m + 1, fin x ?_⟩)
  · rw [sf_i0le] at c
    have e1 : ((120 : Int64) * bf).toInt = 120 * bf.toInt := sf_imul (by show _ ≤ 120 * bf.toInt; omega) (by show 120 * bf.toInt < _; omega)
    rw [ex, e1]; omega
  · rw [sf_i0le] at c
    have e0 : (-bf).toInt = - bf.toInt := sf_ineg (by omega)
    have e1 : ((120 : Int64) * (-bf)).toInt = 120 * (-bf).toInt := sf_imul (by rw [e0]; show _ ≤ 120 * (- bf.toInt); omega) (by rw [e0]; show 120 * (- bf.toInt) < _; omega)
    rw [ex, e1, e0]; omega
end
end
section
section
variable {m n : Nat} {A : Nat → Nat → Int} {fo : Int32} {ce ta : Nat → Int32} {fa : Nat → Int64}
/-- one entry of an even step -/
theorem sf_even {p x y z bf : Int64} {P Q : Int} (hp : p.toInt.natAbs ≤ 8294400) (hx : x.toInt.natAbs ≤ 8294400) (hy : y.toInt.natAbs ≤ 8294400) (hz : z.toInt.natAbs ≤ 8294400) (hb : bf.toInt = P) (hP : P ≠ 0)
    (h : p.toInt * x.toInt - y.toInt * z.toInt = P * Q) : ((p * x - y * z) / bf).toInt = Q := by
  have h1 := sf_mb hp hx
  have h2 := sf_mb hy hz
  have e1 : (p * x).toInt = p.toInt * x.toInt := sf_imul (by omega) (by omega)
  have e2 : (y * z).toInt = y.toInt * z.toInt := sf_imul (by omega) (by omega)
  have e3 : (p * x - y * z).toInt = p.toInt * x.toInt - y.toInt * z.toInt := by
    rw [sf_isub (by rw [e1, e2]; omega) (by rw [e1, e2]; omega), e1, e2]
  rw [sf_idiv (by rw [e3]; omega), e3, h, hb]
  exact Int.mul_tdiv_cancel_left Q hP
theorem sx_me_in {post : SX → Prop} {J : Int64 → Int32 → Int32 → Int32 → Int32 → Int32 → Int64 → Int32 → (Nat → Int32) → (Nat → Int32) → (Nat → Int64) → (Nat → Int64) → Prop} {ρ γ : Nat → Nat} {k : Nat} {bf mo : Int64} {de x4 : Int32}
    (hm : m ≤ 4) (hn : n ≤ 4) (hA : ∀ i j, i < m → j < n → (A i j).natAbs ≤ 12) (hA4 : ∀ i, i < m → (A i 4).natAbs ≤ 200) (hkm : k < m) (hkn : k < n) (hG : sf_PG m n ρ γ)
    (hbf : bf.toInt = sf_dt k (fun a b => A (ρ a) (γ b))) (hb0 : bf.toInt ≠ 0)
    (h : ∀ w', (∀ j, (k ≤ j ∧ j < n ∨ j = 4) → sf_w w' k j = sf_dt (k + 1) (sf_bd A ρ γ k k j)) →
      (∀ a j, k < a → a < m → (k + 1 ≤ j ∧ j < n ∨ j = 4) → sf_w w' a j = sf_dt (k + 1 + 1) (sf_bd A ρ γ (k + 1) a j)) → J (w' (5 * k + k)) (nI (k + 1)) x4 (nI m) (nI n) fo mo de ce ta w' fa) :
    ∀ (d i N : Nat) (w : Nat → Int64), i + d = m → d < N → k < i →
      (∀ j, (k ≤ j ∧ j < n ∨ j = 4) → sf_w w k j = sf_dt (k + 1) (sf_bd A ρ γ k k j)) →
      (∀ a j, k < a → a < i → (k + 1 ≤ j ∧ j < n ∨ j = 4) → sf_w w a j = sf_dt (k + 1 + 1) (sf_bd A ρ γ (k + 1) a j)) →
      (∀ a j, i ≤ a → a < m → (k ≤ j ∧ j < n ∨ j = 4) → sf_w w a j = sf_dt (k + 1) (sf_bd A ρ γ k a j)) →
      wX_measure_45 post J bf (nI k) x4 N (nI i) (nI m) (nI n) fo mo de ce ta w fa := by
  intro d
  induction d with
  | zero =>
    intro i N w hi hN hki h1 h2 h3
    obtain ⟨N, rfl⟩ : ∃ N', N = N' + 1 := ⟨N - 1, by omega⟩
    rw [wX_measure_45]
    refine br_t (nI_le (by omega) (by omega)) ?_
    rw [sf_ix, sf_cl _ _ (by omega)]
    refine ⟨vp_in_nI (by omega) (by omega), fun x ex y ey => ?_⟩
    rw [ex, ey, nI_1]
    exact h w h1 (fun a j a1 a2 => h2 a j a1 (by omega))
  | succ d ih =>
    intro i N w hi hN hki h1 h2 h3
    obtain ⟨N, rfl⟩ : ∃ N', N = N' + 1 := ⟨N - 1, by omega⟩
    rw [wX_measure_45]
    refine br_f (nI_ge (by omega) (by omega)) ?_
    have hbn : ¬ bf = 0 := fun z => hb0 (sf_i0.mp z)
    refine sx_ev (by omega) (by omega) (by omega) hbn fun w1 g1 g2 x ex => ?_
    rw [ex, nI_1]
    have hk1 : ∀ a j, a < m → j < 5 → a ≠ i → sf_w w1 a j = sf_w w a j := by
      intro a j ha hj hne
      unfold sf_w; rw [g1 a j (by omega) hj (Or.inl hne)]
    refine ih (i + 1) N w1 (by omega) (by omega) (by omega) (fun j hj => ?_) (fun a j a1 a2 hj => ?_) (fun a j a1 a2 hj => ?_)
    · rw [hk1 k j hkm (by omega) (by omega)]; exact h1 j hj
    · by_cases z : a = i
      · subst z
        have bk := sf_bd_b2 hA hA4 hG.1 hG.2.2.1 hG.2.2.2.2 (show k < 4 by omega) (by omega) (by omega) hkm (Or.inl hkn)
        have bij := sf_bd_b2 hA hA4 hG.1 hG.2.2.1 hG.2.2.2.2 (show k < 4 by omega) (by omega) (by omega) (show a < m by omega) (show j < n ∨ j = 4 by omega)
        have bik := sf_bd_b2 hA hA4 hG.1 hG.2.2.1 hG.2.2.2.2 (show k < 4 by omega) (by omega) (by omega) (show a < m by omega) (Or.inl hkn)
        have bkj := sf_bd_b2 hA hA4 hG.1 hG.2.2.1 hG.2.2.2.2 (show k < 4 by omega) (by omega) (by omega) hkm (show j < n ∨ j = 4 by omega)
        have ek : (w (5 * k + k)).toInt = sf_dt (k + 1) (sf_bd A ρ γ k k k) := h1 k (Or.inl ⟨Nat.le_refl k, hkn⟩)
        have eij : (w (5 * a + j)).toInt = sf_dt (k + 1) (sf_bd A ρ γ k a j) := h3 a j (Nat.le_refl a) (by omega) (by omega)
        have eik : (w (5 * a + k)).toInt = sf_dt (k + 1) (sf_bd A ρ γ k a k) := h3 a k (Nat.le_refl a) (by omega) (Or.inl ⟨Nat.le_refl k, hkn⟩)
        have ekj : (w (5 * k + j)).toInt = sf_dt (k + 1) (sf_bd A ρ γ k k j) := h1 j (by omega)
        show (w1 (5 * a + j)).toInt = _
        rw [g2 j (by omega) (by omega)]
        refine sf_even (P := sf_dt k (fun a b => A (ρ a) (γ b))) (by rw [ek]; exact bk) (by rw [eij]; exact bij) (by rw [eik]; exact bik) (by rw [ekj]; exact bkj) hbf (by rw [← hbf]; exact hb0) ?_
        rw [ek, eij, eik, ekj]
        exact sf_bd_syl (by omega)
      · rw [hk1 a j (by omega) (by omega) z]; exact h2 a j a1 (by omega) hj
    · rw [hk1 a j a2 (by omega) (by omega)]; exact h3 a j (by omega) a2 hj
theorem sx_me_l {post : SX → Prop} {mo : Int64} {de : Int32} (hm : m ≤ 4) (hn : n ≤ 4) (hA : ∀ i j, i < m → j < n → (A i j).natAbs ≤ 12) (hA4 : ∀ i, i < m → (A i 4).natAbs ≤ 200)
    (h : ∀ r ρ γ D mo' de' w', sx_MQ m n A r ρ γ D mo' de' → post (nI m, nI n, fo, mo', de', ce, ta, w', fa)) :
    ∀ (d k N : Nat) (ρ γ : Nat → Nat) (bf : Int64) (w : Nat → Int64), k + d = m → d + 1 < N → sx_B m n A ρ γ k bf w → wX_measure_7 post N bf (nI k) 1 (nI m) (nI n) fo mo de ce ta w fa := by
  intro d
  induction d with
  | zero =>
    intro k N ρ γ bf w hk hN hB
    obtain ⟨N, rfl⟩ : ∃ N', N = N' + 1 := ⟨N - 1, by omega⟩
    rw [wX_measure_7]
    exact br_t (nI_le (by omega) (by omega)) (sx_me_end hm hn hA hB (fun i j _ _ _ _ => by omega) h)
  | succ d ih =>
    intro k N ρ γ bf w hk hN hB
    obtain ⟨N, rfl⟩ : ∃ N', N = N' + 1 := ⟨N - 1, by omega⟩
    rw [wX_measure_7]
    refine br_f (nI_ge (by omega) (by omega)) (br_c (fun c => ?_) (fun c => br_f (by decide) ?_))
    · rw [nI_leI (by omega) (by have := hB.2.1; omega)] at c
      exact sx_me_end hm hn hA hB (fun i j _ _ _ _ => by omega) h
    · rw [nI_leI (by omega) (by have := hB.2.1; omega)] at c
      refine sx_pick hm hn (by omega) (fun hz => ?_) (fun i0 j0 i1 i2 j1 j2 hnz w' hw' => ?_)
      · refine br_t rfl ?_
        obtain ⟨N, rfl⟩ : ∃ N', N = N' + 1 := ⟨N - 1, by omega⟩
        rw [wX_measure_7]
        refine br_f (nI_ge (by omega) (by omega)) (br_f (nI_ge (by omega) (by omega)) (br_t rfl ?_))
        refine sx_me_end hm hn hA hB (fun i j a1 a2 a3 a4 => ?_) h
        show (w (5 * i + j)).toInt = 0
        rw [hz i j a1 a2 a3 a4]; rfl
      · refine br_f (by decide) fun x ex => ⟨m + 1, ?_⟩
        rw [ex, nI_1]
        obtain ⟨b1, b2, b3, b4, b5, b6⟩ := hB
        have hG := sf_PG_tp (a := i0) (b := k) (c := j0) (d := k) b3 hn i2 (by omega) j2 (by omega)
        have t1 : sf_tp i0 k k = i0 := by
          unfold sf_tp
          by_cases z : k = i0
          · rw [if_pos z]; omega
          · rw [if_neg z, if_pos rfl]
        have t2 : sf_tp j0 k k = j0 := by
          unfold sf_tp
          by_cases z : k = j0
          · rw [if_pos z]; omega
          · rw [if_neg z, if_pos rfl]
        have hbd : ∀ i j, k ≤ i → sf_dt (k + 1) (sf_bd A ρ γ k (sf_tp i0 k i) (sf_tp j0 k j)) = sf_dt (k + 1) (sf_bd A (fun i => ρ (sf_tp i0 k i)) (fun j => γ (sf_tp j0 k j)) k i j) := by
          intro i j hi
          refine sf_dt_congr fun a b ha hb => ?_
          unfold sf_bd
          by_cases z : a < k
          · by_cases y : b < k
            · rw [if_pos z, if_pos y, if_pos z, if_pos y]; dsimp only; rw [sf_tp_lo i1 (Nat.le_refl k) z, sf_tp_lo j1 (Nat.le_refl k) y]
            · rw [if_pos z, if_neg y, if_pos z, if_neg y]; dsimp only; rw [sf_tp_lo i1 (Nat.le_refl k) z]
          · by_cases y : b < k
            · rw [if_neg z, if_pos y, if_neg z, if_pos y]; dsimp only; rw [sf_tp_lo j1 (Nat.le_refl k) y]
            · rw [if_neg z, if_neg y, if_neg z, if_neg y]
        have hbf : bf.toInt = sf_dt k (fun a b => A (ρ (sf_tp i0 k a)) (γ (sf_tp j0 k b))) := by
          rw [b4]
          refine sf_dt_congr fun a b ha hb => ?_
          rw [sf_tp_lo i1 (Nat.le_refl k) ha, sf_tp_lo j1 (Nat.le_refl k) hb]
        have hall : ∀ a j, k ≤ a → a < m → (k ≤ j ∧ j < n ∨ j = 4) → sf_w w' a j = sf_dt (k + 1) (sf_bd A (fun i => ρ (sf_tp i0 k i)) (fun j => γ (sf_tp j0 k j)) k a j) := by
          intro a j a1 a2 hj
          rw [← hbd a j a1]
          show (w' (5 * a + j)).toInt = _
          rw [hw' a j a2 (by omega)]
          refine b6 _ _ (sf_tp_ge i1 (Nat.le_refl k) a1) (sf_tp_lt i2 (by omega) a2) ?_
          rcases hj with y | y
          · exact Or.inl ⟨sf_tp_ge j1 (Nat.le_refl k) y.1, sf_tp_lt j2 (by omega) y.2⟩
          · exact Or.inr (by rw [y, sf_tp_ne (a := j0) (b := k) (i := 4) (by omega) (by omega)])
        refine sx_me_in hm hn hA hA4 (by omega) (by omega) hG hbf b5 (fun w2 r1 r2 => ?_) (m - (k + 1)) (k + 1) (m + 1) w' (by omega) (by omega) (by omega) (fun j hj => hall k j (Nat.le_refl k) (by omega) hj) (fun a j a1 a2 => by omega) (fun a j a1 a2 hj => hall a j (by omega) a2 hj)
        have ek := r1 k (Or.inl ⟨Nat.le_refl k, by omega⟩)
        have ekk : sf_dt (k + 1) (sf_bd A (fun i => ρ (sf_tp i0 k i)) (fun j => γ (sf_tp j0 k j)) k k k) = sf_dt (k + 1) (fun a b => A (ρ (sf_tp i0 k a)) (γ (sf_tp j0 k b))) := by
          refine sf_dt_congr fun a b ha hb => ?_
          have c2 : ∀ x : Nat, x < k + 1 → (if x < k then x else k) = x := by
            intro x hx
            by_cases z : x < k
            · rw [if_pos z]
            · rw [if_neg z]; omega
          unfold sf_bd; rw [c2 a ha, c2 b hb]
        refine ih (k + 1) N _ _ (w2 (5 * k + k)) w2 (by omega) (by omega) ⟨by omega, by omega, hG, ek.trans ekk, ?_, fun i j i1 i2 hj => r2 i j (by omega) i2 hj⟩
        have e0 : (w2 (5 * k + k)).toInt = (w (5 * i0 + j0)).toInt := by
          rw [show (w2 (5 * k + k)).toInt = _ from ek, ← hbd k k (Nat.le_refl k), t1, t2]
          exact (b6 i0 j0 i1 i2 (Or.inl ⟨j1, j2⟩)).symm
        rw [e0]; intro z; exact hnz (sf_i0.mpr z)
theorem sx_measure {post : SX → Prop} {mo : Int64} {de : Int32} {w : Nat → Int64} (hm : m ≤ 4) (hn : n ≤ 4) (hA : ∀ i j, i < m → j < n → (A i j).natAbs ≤ 12) (hA4 : ∀ i, i < m → (A i 4).natAbs ≤ 200)
    (hw : ∀ i j, i < m → (j < n ∨ j = 4) → sf_w w i j = A i j)
    (h : ∀ r ρ γ D mo' de' w', sx_MQ m n A r ρ γ D mo' de' → post (nI m, nI n, fo, mo', de', ce, ta, w', fa)) :
    wpX_measure post (nI m, nI n, fo, mo, de, ce, ta, w, fa) := by
  refine ⟨m + 2, ?_⟩
  refine sx_me_l hm hn hA hA4 h m 0 (m + 2) (fun i => i) (fun j => j) 1 w (by omega) (by omega) ⟨by omega, by omega, ⟨fun i hi => hi, fun i hi => ⟨i, hi, rfl⟩, fun j hj => hj, fun j hj => ⟨j, hj, rfl⟩, rfl⟩, rfl, by decide, fun i j i1 i2 hj => ?_⟩
  rw [sf_dt1]
  exact hw i j i2 (by omega)
end
end
section
/-- v is the common divisor of the k-minors -/
def sf_gd (m N : Nat) (F : Nat → Nat → Int) (k : Nat) (v : Int) : Prop := 0 ≤ v ∧ ∀ d : Int, d ∣ v ↔ sf_Gc m N F k d
theorem sf_dvd_anti {a b : Int} (ha : 0 ≤ a) (hb : 0 ≤ b) (h1 : a ∣ b) (h2 : b ∣ a) : a = b := by
  have h3 := Nat.dvd_antisymm (Int.natAbs_dvd_natAbs.mpr h1) (Int.natAbs_dvd_natAbs.mpr h2)
  omega
theorem sf_gd_u {m N k : Nat} {F : Nat → Nat → Int} {v v' : Int} (h : sf_gd m N F k v) (h' : sf_gd m N F k v') : v = v' :=
  sf_dvd_anti h.1 h'.1 ((h'.2 v).mpr ((h.2 v).mp (Int.dvd_refl v))) ((h.2 v').mpr ((h'.2 v').mp (Int.dvd_refl v')))
theorem sf_gd_0 {m N k : Nat} {F : Nat → Nat → Int} {v : Int} (h : sf_gd m N F k v) : v = 0 ↔ sf_Gc m N F k 0 := by
  rw [← h.2 0, Int.zero_dvd]
theorem sf_Gc_all {m N k : Nat} {F : Nat → Nat → Int} (h : sf_Gc m N F k 0) (d : Int) : sf_Gc m N F k d := fun r c hr hc => by
  rw [Int.zero_dvd.mp (h r c hr hc)]; exact Int.dvd_zero d
theorem sf_gd_z {m N k : Nat} {F : Nat → Nat → Int} (h : sf_Gc m N F k 0) : sf_gd m N F k 0 :=
  ⟨Int.le_refl 0, fun d => ⟨fun _ => sf_Gc_all h d, fun _ => Int.dvd_zero d⟩⟩
/-- r is the rank -/
def sf_rk (m N : Nat) (F : Nat → Nat → Int) (r : Nat) : Prop := r ≤ 4 ∧ (∀ k, r < k → k ≤ 4 → sf_Gc m N F k 0) ∧ ¬ sf_Gc m N F r 0
theorem sf_rk_u {m N r r' : Nat} {F : Nat → Nat → Int} (h : sf_rk m N F r) (h' : sf_rk m N F r') : r = r' := by
  by_cases a : r < r'
  · exact absurd (h.2.1 r' a h'.1) h'.2.2
  · by_cases b : r' < r
    · exact absurd (h'.2.1 r b h.1) h.2.2
    · omega
theorem sf_Rk_rk {m n r : Nat} {A : Nat → Nat → Int} {D : Int} (hm : m ≤ 4) (h : sf_Rk m n A r D) : sf_rk m n A r := by
  have h1 := h.1
  refine ⟨by omega, fun k hk h4 => ?_, fun z => ?_⟩
  · have := sf_Gc_ge (h.2.2.2.2 (by omega)) (k - (r + 1))
    rwa [show r + 1 + (k - (r + 1)) = k by omega] at this
  · exact h.2.2.1 (Int.zero_dvd.mp (sf_Rk_dvd h (Nat.le_refl r) z))
/-- c times the target is met -/
def sf_mt (m n : Nat) (A : Nat → Nat → Int) (c : Int) : Prop :=
  ∀ (r : Nat) (g : Int), sf_rk m n A r → sf_gd m n A r g → sf_rk m (n + 1) (sf_ex n c A) r ∧ sf_gd m (n + 1) (sf_ex n c A) r g
/-- what the component knows behind reduceTable -/
def sx_F (m n : Nat) (A : Nat → Nat → Int) (r : Nat) (e : Nat → Int) (mo : Int64) (de : Int32) (w fa : Nat → Int64) : Prop :=
  ∃ ρ γ D, sx_MQ m n A r ρ γ D mo de ∧ sx_R m n A mo.toInt r e w fa
section
variable {m n r : Nat} {A : Nat → Nat → Int} {e : Nat → Int} {mo : Int64} {de : Int32} {w fa : Nat → Int64}
theorem sx_MQ_M {ρ γ : Nat → Nat} {D : Int} (h : sx_MQ m n A r ρ γ D mo de) : (120 : Int) ∣ mo.toInt ∧ 120 ≤ mo.toInt ∧ mo.toInt ≤ 67108864 := by
  obtain ⟨h1, h2, h3, _⟩ := h
  have h9 := h1.2.2.2.2.2.2.2.2.1
  refine ⟨by rw [h2]; exact Int.dvd_mul_right _ _, by omega, by omega⟩
theorem sx_F_mk {f : Nat} {ρ γ : Nat → Nat} {D : Int} (hm : m ≤ 4) (h1 : sx_MQ m n A r ρ γ D mo de) (h2 : sx_R m n A mo.toInt f e w fa) : f = r ∧ sx_F m n A r e mo de w fa := by
  have ht := (sf_T1 hm (sf_Ms_Rk hm h1.1) h1.2.1 (h2.1.1 0) h2.2.1).1
  subst ht
  exact ⟨rfl, ρ, γ, D, h1, h2⟩
theorem sx_F_M (h : sx_F m n A r e mo de w fa) : 120 ≤ mo.toInt ∧ mo.toInt ≤ 67108864 := by
  obtain ⟨ρ, γ, D, h1, h2⟩ := h
  exact (sx_MQ_M h1).2
theorem sx_F_de (h : sx_F m n A r e mo de w fa) : de = 0 ∨ de = 1 := by
  obtain ⟨ρ, γ, D, h1, h2⟩ := h
  rcases h1.2.2.2 with y | y
  · exact Or.inr y.1
  · exact Or.inl y.1
theorem sx_F_rk (hm : m ≤ 4) (h : sx_F m n A r e mo de w fa) : sf_rk m n A r := by
  obtain ⟨ρ, γ, D, h1, h2⟩ := h
  exact sf_Rk_rk hm (sf_Ms_Rk hm h1.1)
theorem sx_F_e (h : sx_F m n A r e mo de w fa) : ∀ i, i < r → 0 < e i ∧ 2 * e i ≤ mo.toInt ∧ e i ∣ mo.toInt := by
  obtain ⟨ρ, γ, D, h1, h2⟩ := h
  exact h2.2.1.2.2.2.1
theorem sx_F_pos (h : sx_F m n A r e mo de w fa) {k : Nat} (hk : k ≤ r) : 0 < sf_pr k e := sf_pr_pos fun i hi => (sx_F_e h i (by omega)).1
theorem sx_F_gd (hm : m ≤ 4) (h : sx_F m n A r e mo de w fa) {k : Nat} (hk : k ≤ r) : sf_gd m n A k (sf_pr k e) := by
  have hp := sx_F_pos h hk
  obtain ⟨ρ, γ, D, h1, h2⟩ := h
  exact ⟨by omega, (sf_T1 hm (sf_Ms_Rk hm h1.1) h1.2.1 (h2.1.1 0) h2.2.1).2 k hk⟩
theorem sx_F_gd0 (hm : m ≤ 4) (h : sx_F m n A r e mo de w fa) {k : Nat} (hk : r < k) (h4 : k ≤ 4) : sf_gd m n A k 0 := sf_gd_z ((sx_F_rk hm h).2.1 k hk h4)
theorem sx_F_le (h : sx_F m n A r e mo de w fa) : r ≤ m ∧ r ≤ n := by
  obtain ⟨ρ, γ, D, h1, h2⟩ := h
  exact ⟨h1.1.1, h1.1.2.1⟩
theorem sx_F_mt (hm : m ≤ 4) (h : sx_F m n A r e mo de w fa) {c : Int} (hc : c ≠ 0) : (de = 1 ∧ ∀ i, i < m → sf_eb r e mo.toInt i ∣ c * sf_w w i 4) ↔ sf_mt m n A c := by
  have hrk := sx_F_rk hm h
  have hgd := sx_F_gd hm h (Nat.le_refl r)
  have hrm := (sx_F_le h).1
  obtain ⟨ρ, γ, D, h1, h2⟩ := h
  have hdep := sf_Ms_dep (c := c) hc hm h1.1
  constructor
  · intro ⟨hd, hf⟩ r' g' hr' hg'
    have er := sf_rk_u hr' hrk
    subst er
    have eg := sf_gd_u hg' hgd
    subst eg
    have hDp : sf_Dp m A r' ρ γ := by
      rcases h1.2.2.2 with y | y
      · exact y.2
      · rw [y.1] at hd; exact absurd hd (by decide)
    have hz := hdep.mp hDp
    have hG := (sf_T2 hm (sf_Ms_Rk hm h1.1) h1.2.1 h2.1.1 h2.2.1 hz).mp hf
    refine ⟨⟨hrk.1, fun k hk h4 => ?_, fun z => hrk.2.2 (sf_Gc_n z)⟩, hgd.1, fun d => ⟨fun hd => fun R C hR hC => Int.dvd_trans hd (hG R C hR hC), fun hd => (hgd.2 d).mpr (sf_Gc_n hd)⟩⟩
    have := sf_Gc_ge (hz (by omega)) (k - (r' + 1))
    rwa [show r' + 1 + (k - (r' + 1)) = k by omega] at this
  · intro hmt
    obtain ⟨k1, k2⟩ := hmt r (sf_pr r e) hrk hgd
    have hz : r + 1 ≤ 4 → sf_Gc m (n + 1) (sf_ex n c A) (r + 1) 0 := fun h4 => k1.2.1 (r + 1) (by omega) h4
    have hDp := hdep.mpr hz
    refine ⟨?_, (sf_T2 hm (sf_Ms_Rk hm h1.1) h1.2.1 h2.1.1 h2.2.1 hz).mpr ((k2.2 _).mp (Int.dvd_refl _))⟩
    rcases h1.2.2.2 with y | y
    · exact y.1
    · exact absurd hDp y.2
end
/-- the table t with the target, and the other table with column c of t -/
def sf_At (ce ta : Nat → Int32) (t : Nat) : Nat → Nat → Int := fun i j => if j = 4 then (ta i).toInt else (ce (16 * t + 4 * i + j)).toInt
def sf_Ac (ce : Nat → Int32) (t c : Nat) : Nat → Nat → Int := fun i j => if j = 4 then (ce (16 * t + 4 * i + c)).toInt else (ce (16 * (1 - t) + 4 * i + j)).toInt
section
variable {m n t : Nat} {fo de : Int32} {mo : Int64} {ce ta : Nat → Int32} {w fa : Nat → Int64}
theorem sx_rt {post : SX → Prop} (ht : t < 2) (hm : m ≤ 4) (hn : n ≤ 4) (hce : ∀ j, (ce j).toInt.natAbs ≤ 12) (hta : ∀ j, (ta j).toInt.natAbs ≤ 200)
    (h : ∀ r e mo de w fa, sx_F m n (sf_At ce ta t) r e mo de w fa → post (nI m, nI n, nI r, mo, de, ce, ta, w, fa)) :
    wpX_reduceTable post (nI m, nI n, fo, mo, de, ce, ta, w, fa) (nI t) := by
  have hA : ∀ i j, i < m → j < n → (sf_At ce ta t i j).natAbs ≤ 12 := fun i j _ hj => by
    unfold sf_At; rw [if_neg (by omega)]; exact hce _
  have hA4 : ∀ i, i < m → (sf_At ce ta t i 4).natAbs ≤ 200 := fun i _ => by
    unfold sf_At; rw [if_pos rfl]; exact hta _
  have ld : ∀ w' : Nat → Int64, (∀ a b, a < m → b < n → w' (5 * a + b) = (ce (16 * t + 4 * a + b)).toInt64) → (∀ a, a < m → w' (5 * a + 4) = (ta a).toInt64) → ∀ i j, i < m → (j < n ∨ j = 4) → sf_w w' i j = sf_At ce ta t i j := by
    intro w' h1 h2 i j hi hj
    unfold sf_w sf_At
    rcases hj with y | y
    · rw [if_neg (by omega), h1 i j hi y, Int32.toInt_toInt64]
    · rw [if_pos y, y, h2 i hi, Int32.toInt_toInt64]
  unfold wpX_reduceTable
  dsimp only
  refine sx_lwt ht hm hn fun w1 a1 a2 => ?_
  refine sx_measure hm hn hA hA4 (ld w1 a1 a2) fun r ρ γ D mo1 de1 w2 hQ => ?_
  refine sx_lwt ht hm hn fun w3 b1 b2 => ?_
  obtain ⟨m1, m2, m3⟩ := sx_MQ_M hQ
  have hl := ld w3 b1 b2
  refine sx_reduce (mo := mo1) (A := sf_At ce ta t) hm hn m1 (by omega) m3 (fun i j hi hj => ?_) (fun i hi => ?_) hl fun f e w4 fa4 hR => ?_
  · rw [hl i j hi (Or.inl hj)]; have := hA i j hi hj; omega
  · rw [hl i 4 hi (Or.inr rfl)]; have := hA4 i hi; omega
  · obtain ⟨ef, hF⟩ := sx_F_mk hm hQ hR
    subst ef
    exact h f e mo1 de1 w4 fa4 hF
theorem sx_fit_l {post : Int32 → Prop} {r : Nat} {e : Nat → Int} {M : Int} (hm : m ≤ 4) (hr : r ≤ m) (hM : mo.toInt = M) (hM0 : 0 < M) (hfa : ∀ i, i < r → (fa i).toInt = e i ∧ 0 < e i) (hde : de = 0 ∨ de = 1)
    : ∀ (d i N : Nat), i + d = m → d < N →
    (∀ b : Int32, ((b = 1 ∧ de = 1 ∧ ∀ a, i ≤ a → a < m → sf_eb r e M a ∣ sf_w w a 4) ∨ (b = 0 ∧ ¬ (de = 1 ∧ ∀ a, i ≤ a → a < m → sf_eb r e M a ∣ sf_w w a 4))) → post b) →
    wX_fits_2 post (nI m) (nI n) (nI r) mo de ce ta w fa N (nI i) := by
  intro d
  induction d with
  | zero =>
    intro i N hi hN h
    obtain ⟨N, rfl⟩ : ∃ N', N = N' + 1 := ⟨N - 1, by omega⟩
    rw [wX_fits_2]
    refine br_t (nI_le (by omega) (by omega)) ⟨?_, h de ?_⟩
    · rcases hde with y | y <;> rw [y] <;> rfl
    · rcases hde with y | y
      · exact Or.inr ⟨y, fun z => by rw [y] at z; exact absurd z.1 (by decide)⟩
      · exact Or.inl ⟨y, y, fun a _ _ => by omega⟩
  | succ d ih =>
    intro i N hi hN h
    obtain ⟨N, rfl⟩ : ∃ N', N = N' + 1 := ⟨N - 1, by omega⟩
    rw [wX_fits_2]
    refine br_f (nI_ge (by omega) (by omega)) ?_
    have key : ∀ z : Int64, z.toInt = sf_eb r e M i → 0 < z.toInt → wX_fits_31 post (wX_fits_2 post (nI m) (nI n) (nI r) mo de ce ta w fa N) (nI i) z (nI m) (nI n) (nI r) mo de ce ta w fa := by
      intro z ez hz
      unfold wX_fits_31
      rw [sf_ix4, sf_cl _ _ (by omega)]
      refine ⟨vp_in_nI (by omega) (by omega), br_f (by rw [sf_ile0]; omega) ?_⟩
      unfold wX_fits_53
      refine ⟨by rw [sf_i0]; omega, br_c (fun c x ex => ?_) (fun c => ?_)⟩
      · rw [sf_dvd0, ez] at c
        rw [ex, nI_1]
        refine ih (i + 1) N (by omega) (by omega) fun b hb => h b ?_
        have iff : (de = 1 ∧ ∀ a, i + 1 ≤ a → a < m → sf_eb r e M a ∣ sf_w w a 4) ↔ (de = 1 ∧ ∀ a, i ≤ a → a < m → sf_eb r e M a ∣ sf_w w a 4) := by
          constructor
          · intro y
            refine ⟨y.1, fun a a1 a2 => ?_⟩
            by_cases q : a = i
            · rw [q]; exact c
            · exact y.2 a (by omega) a2
          · intro y; exact ⟨y.1, fun a a1 a2 => y.2 a (by omega) a2⟩
        rcases hb with y | y
        · exact Or.inl ⟨y.1, iff.mp y.2⟩
        · exact Or.inr ⟨y.1, fun q => y.2 (iff.mpr q)⟩
      · rw [sf_dvd0, ez] at c
        exact h 0 (Or.inr ⟨rfl, fun q => c (q.2 i (Nat.le_refl i) (by omega))⟩)
    refine br_c (fun c => ?_) (fun c => ?_)
    · rw [nI_leI (by omega) (by omega)] at c
      refine key mo ?_ (by omega)
      unfold sf_eb; rw [if_neg (by omega), hM]
    · rw [nI_leI (by omega) (by omega)] at c
      rw [nI_clamp (by omega)]
      have h2 := hfa i (by omega)
      refine ⟨vp_in_nI (by omega) (by omega), key _ ?_ (by rw [h2.1]; exact h2.2)⟩
      unfold sf_eb; rw [if_pos (by omega), h2.1]
theorem sx_fits {post : Int32 → Prop} {r : Nat} {e : Nat → Int} {A : Nat → Nat → Int} (hm : m ≤ 4) (hF : sx_F m n A r e mo de w fa)
    (h : ∀ b : Int32, ((b = 1 ∧ sf_mt m n A 1) ∨ (b = 0 ∧ ¬ sf_mt m n A 1)) → post b) : wpX_fits post (nI m, nI n, nI r, mo, de, ce, ta, w, fa) := by
  have hMM := sx_F_M hF
  have he := sx_F_e hF
  have hde := sx_F_de hF
  have hle := sx_F_le hF
  have hmt := sx_F_mt hm hF (c := 1) (by decide)
  have hfa : ∀ i, i < r → (fa i).toInt = e i := by
    obtain ⟨ρ, γ, D, h1, h2⟩ := hF
    exact h2.2.2.2
  refine ⟨m + 1, sx_fit_l (e := e) hm hle.1 rfl (by omega) (fun i hi => ⟨hfa i hi, (he i hi).1⟩) hde m 0 (m + 1) (by omega) (by omega) fun b hb => h b ?_⟩
  have iff : (de = 1 ∧ ∀ a, 0 ≤ a → a < m → sf_eb r e mo.toInt a ∣ sf_w w a 4) ↔ sf_mt m n A 1 := by
    rw [← hmt]
    constructor
    · intro y; exact ⟨y.1, fun i hi => by rw [Int.one_mul]; exact y.2 i (by omega) hi⟩
    · intro y; exact ⟨y.1, fun i _ hi => by have := y.2 i hi; rwa [Int.one_mul] at this⟩
  rcases hb with y | y
  · exact Or.inl ⟨y.1, iff.mp y.2⟩
  · exact Or.inr ⟨y.1, fun q => y.2 (iff.mpr q)⟩
end
end
section
/-- the quotient of two common divisors -/
def sf_fc (m n : Nat) (A : Nat → Nat → Int) (k : Nat) (x : Int) : Prop :=
  ∀ dk d1, sf_gd m n A k dk → sf_gd m n A (k - 1) d1 → x = if dk = 0 ∨ d1 = 0 then 0 else dk.tdiv d1
theorem sx_tab {post : Int32 → Prop} {t : Nat} (ht : t < 2) (h : post 1) : wpX_isTable post (nI t) := by
  have : t = 0 ∨ t = 1 := by omega
  rcases this with rfl | rfl
  · exact br_t rfl h
  · exact br_f (by decide) (br_t rfl h)
section
variable {m n t : Nat} {fo de : Int32} {mo : Int64} {ce ta : Nat → Int32} {w fa : Nat → Int64}
theorem sx_F_small {r k : Nat} {A : Nat → Nat → Int} {e : Nat → Int} (hm : m ≤ 4) (h : sx_F m n A r e mo de w fa) (hk : k ≤ r) : sf_pr k e ≤ 497664 := by
  have hp := sx_F_pos h hk
  have hg := sx_F_gd hm h hk
  obtain ⟨ρ, γ, D, h1, h2⟩ := h
  have hR := sf_Ms_Rk hm h1.1
  have hd := sf_Rk_dvd hR hk ((hg.2 _).mp (Int.dvd_refl _))
  have h3 := Nat.le_of_dvd (by have := hR.2.2.1; omega) (Int.natAbs_dvd_natAbs.mpr hd)
  have := h1.2.2.1
  omega
theorem sx_F_fa {r : Nat} {A : Nat → Nat → Int} {e : Nat → Int} (h : sx_F m n A r e mo de w fa) : ∀ i, i < r → (fa i).toInt = e i := by
  obtain ⟨ρ, γ, D, h1, h2⟩ := h
  exact h2.2.2.2
theorem sx_rank {post : Int32 → SX → Prop} (ht : t < 2) (hm : m ≤ 4) (hn : n ≤ 4) (hce : ∀ j, (ce j).toInt.natAbs ≤ 12) (hta : ∀ j, (ta j).toInt.natAbs ≤ 200)
    (h : ∀ r fo mo de w fa, sf_rk m n (sf_At ce ta t) r → post (nI r) (nI m, nI n, fo, mo, de, ce, ta, w, fa)) :
    wpX_rank post (nI m, nI n, fo, mo, de, ce, ta, w, fa) (nI t) := by
  unfold wpX_rank
  dsimp only
  refine sx_tab ht (br_f (by decide) ?_)
  exact sx_rt ht hm hn hce hta fun r e mo de w fa hF => h r _ mo de w fa (sx_F_rk hm hF)
theorem sx_div_l {post : Int64 → SX → Prop} {r k : Nat} {A : Nat → Nat → Int} {e : Nat → Int} (hm : m ≤ 4) (hF : sx_F m n A r e mo de w fa) (hk : k ≤ r) (hr : r ≤ 4)
    (h : ∀ x : Int64, x.toInt = sf_pr k e → post x (nI m, nI n, nI r, mo, de, ce, ta, w, fa)) : ∀ (d i N : Nat) (x : Int64), i + d = k → d < N → x.toInt = sf_pr i e →
    wX_divisor_44 post (nI k) (nI m) (nI n) (nI r) mo de ce ta w fa N x (nI i) := by
  intro d
  induction d with
  | zero =>
    intro i N x hi hN hx
    obtain ⟨N, rfl⟩ : ∃ N', N = N' + 1 := ⟨N - 1, by omega⟩
    rw [wX_divisor_44]
    exact br_t (nI_le (by omega) (by omega)) (h x (by rw [hx]; congr 1))
  | succ d ih =>
    intro i N x hi hN hx
    obtain ⟨N, rfl⟩ : ∃ N', N = N' + 1 := ⟨N - 1, by omega⟩
    rw [wX_divisor_44]
    refine br_f (nI_ge (by omega) (by omega)) ?_
    rw [nI_clamp (by omega)]
    refine ⟨vp_in_nI (by omega) (by omega), fun y ey z ez => ?_⟩
    rw [ez, nI_1]
    refine ih (i + 1) N y (by omega) (by omega) ?_
    have e1 := sf_pr_last i e
    have b1 := sx_F_small hm hF (show i + 1 ≤ r by omega)
    have b2 := sx_F_pos hF (show i + 1 ≤ r by omega)
    rw [e1] at b1 b2
    rw [ey, e1, ← hx, ← sx_F_fa hF i (by omega)]
    rw [← hx, ← sx_F_fa hF i (by omega)] at b1 b2
    exact sf_imul (by omega) (by omega)
theorem sx_divisor {post : Int64 → SX → Prop} {k : Nat} (ht : t < 2) (hk : k ≤ 4) (hm : m ≤ 4) (hn : n ≤ 4) (hce : ∀ j, (ce j).toInt.natAbs ≤ 12) (hta : ∀ j, (ta j).toInt.natAbs ≤ 200)
    (h : ∀ (x : Int64) fo mo de w fa, sf_gd m n (sf_At ce ta t) k x.toInt → post x (nI m, nI n, fo, mo, de, ce, ta, w, fa)) :
    wpX_divisor post (nI m, nI n, fo, mo, de, ce, ta, w, fa) (nI t) (nI k) := by
  unfold wpX_divisor
  dsimp only
  refine sx_tab ht (br_f (by decide) (br_f (nI_pos (by omega)) (br_t (nI_le (b := 4) hk (by omega)) ?_)))
  refine sx_rt ht hm hn hce hta fun r e mo de w fa hF => ?_
  have hr := (sx_F_rk hm hF).1
  refine br_c (fun c => ⟨k + 1, ?_⟩) (fun c => ?_)
  · rw [nI_leI (by omega) (by omega)] at c
    exact sx_div_l hm hF c hr (fun x hx => h x _ mo de w fa (by rw [hx]; exact sx_F_gd hm hF c)) k 0 (k + 1) 1 (by omega) (by omega) rfl
  · rw [nI_leI (by omega) (by omega)] at c
    exact h 0 _ mo de w fa (sx_F_gd0 hm hF (by omega) hk)
theorem sx_factor {post : Int64 → SX → Prop} {k : Nat} (ht : t < 2) (hk1 : 1 ≤ k) (hk : k ≤ 4) (hm : m ≤ 4) (hn : n ≤ 4) (hce : ∀ j, (ce j).toInt.natAbs ≤ 12) (hta : ∀ j, (ta j).toInt.natAbs ≤ 200)
    (h : ∀ (x : Int64) fo mo de w fa, sf_fc m n (sf_At ce ta t) k x.toInt → post x (nI m, nI n, fo, mo, de, ce, ta, w, fa)) :
    wpX_factor post (nI m, nI n, fo, mo, de, ce, ta, w, fa) (nI t) (nI k) := by
  unfold wpX_factor
  dsimp only
  refine sx_tab ht (br_f (by decide) (br_f (nI_nlt (b := 1) hk1 (by omega)) (br_t (nI_le (b := 4) hk (by omega)) ?_)))
  refine sx_rt ht hm hn hce hta fun r e mo de w fa hF => ?_
  have hr := (sx_F_rk hm hF).1
  refine br_c (fun c => ?_) (fun c => ?_)
  · rw [nI_leI (by omega) (by omega)] at c
    obtain ⟨j, rfl⟩ : ∃ j, k = j + 1 := ⟨k - 1, by omega⟩
    rw [nI_pred, nI_clamp (by omega)]
    refine ⟨vp_in_nI (by omega) (by omega), h _ _ mo de w fa fun dk d1 h1 h2 => ?_⟩
    have e1 := sf_gd_u h1 (sx_F_gd hm hF c)
    have e2 := sf_gd_u h2 (sx_F_gd hm hF (show j + 1 - 1 ≤ r by omega))
    rw [show j + 1 - 1 = j by omega] at e2
    have p1 := sx_F_pos hF c
    have p2 := sx_F_pos hF (show j ≤ r by omega)
    rw [e1, e2, if_neg (by omega), sx_F_fa hF j (by omega), sf_pr_last]
    exact (Int.mul_tdiv_cancel_left _ (by omega)).symm
  · rw [nI_leI (by omega) (by omega)] at c
    refine h 0 _ mo de w fa fun dk d1 h1 _ => ?_
    rw [sf_gd_u h1 (sx_F_gd0 hm hF (by omega) hk), if_pos (Or.inl rfl)]; rfl
theorem sx_reaches {post : Int32 → SX → Prop} (ht : t < 2) (hm : m ≤ 4) (hn : n ≤ 4) (hce : ∀ j, (ce j).toInt.natAbs ≤ 12) (hta : ∀ j, (ta j).toInt.natAbs ≤ 200)
    (h : ∀ (b : Int32) fo mo de w fa, ((b = 1 ∧ sf_mt m n (sf_At ce ta t) 1) ∨ (b = 0 ∧ ¬ sf_mt m n (sf_At ce ta t) 1)) → post b (nI m, nI n, fo, mo, de, ce, ta, w, fa)) :
    wpX_reaches post (nI m, nI n, fo, mo, de, ce, ta, w, fa) (nI t) := by
  unfold wpX_reaches
  dsimp only
  refine sx_tab ht (br_f (by decide) ?_)
  refine sx_rt ht hm hn hce hta fun r e mo de w fa hF => ?_
  refine sx_fits hm hF fun b hb => ?_
  rcases hb with ⟨y1, y2⟩ | ⟨y1, y2⟩
  · rw [y1]; exact br_f (by decide) (h 1 _ mo de w fa (Or.inl ⟨rfl, y2⟩))
  · rw [y1]; exact br_t rfl (h 0 _ mo de w fa (Or.inr ⟨rfl, y2⟩))
theorem sx_classes {post : Int64 → SX → Prop} (ht : t < 2) (hm : m ≤ 4) (hn : n ≤ 4) (hce : ∀ j, (ce j).toInt.natAbs ≤ 12) (hta : ∀ j, (ta j).toInt.natAbs ≤ 200)
    (h : ∀ (x : Int64) fo mo de w fa, sf_gd m n (sf_At ce ta t) m x.toInt → post x (nI m, nI n, fo, mo, de, ce, ta, w, fa)) :
    wpX_classes post (nI m, nI n, fo, mo, de, ce, ta, w, fa) (nI t) := by
  unfold wpX_classes
  dsimp only
  refine sx_tab ht (br_f (by decide) ?_)
  exact sx_divisor ht hm hm hn hce hta h
theorem sx_with_l {post : Int32 → SX → Prop} (ht : t < 2) (hm : m ≤ 4) (hn : n ≤ 4) (hce : ∀ j, (ce j).toInt.natAbs ≤ 12)
    (h : ∀ (b : Int32) fo mo de w fa, ((b = 1 ∧ ∀ j, j < n → sf_mt m n (sf_Ac ce t j) 1) ∨ (b = 0 ∧ ¬ ∀ j, j < n → sf_mt m n (sf_Ac ce t j) 1)) → post b (nI m, nI n, fo, mo, de, ce, ta, w, fa)) :
    ∀ (d j N : Nat) (fo : Int32) (mo : Int64) (de : Int32) (w fa : Nat → Int64), j + d = n → d < N → (∀ a, a < j → sf_mt m n (sf_Ac ce t a) 1) →
    wX_within_11 post (nI t) N (nI j) (nI m) (nI n) fo mo de ce ta w fa := by
  intro d
  induction d with
  | zero =>
    intro j N fo mo de w fa hj hN hp
    obtain ⟨N, rfl⟩ : ∃ N', N = N' + 1 := ⟨N - 1, by omega⟩
    rw [wX_within_11]
    exact br_t (nI_le (by omega) (by omega)) (h 1 _ _ _ _ _ (Or.inl ⟨rfl, fun a ha => hp a (by omega)⟩))
  | succ d ih =>
    intro j N fo mo de w fa hj hN hp
    obtain ⟨N, rfl⟩ : ∃ N', N = N' + 1 := ⟨N - 1, by omega⟩
    rw [wX_within_11]
    refine br_f (nI_ge (by omega) (by omega)) ?_
    have hA : ∀ i j', i < m → j' < n → (sf_Ac ce t j i j').natAbs ≤ 12 := fun i j' _ hj => by
      unfold sf_Ac; rw [if_neg (by omega)]; exact hce _
    have hA4 : ∀ i, i < m → (sf_Ac ce t j i 4).natAbs ≤ 200 := fun i _ => by
      unfold sf_Ac; rw [if_pos rfl]; have := hce (16 * t + 4 * i + j); omega
    have ld : ∀ w' : Nat → Int64, (∀ a b, a < m → b < n → w' (5 * a + b) = (ce (16 * (1 - t) + 4 * a + b)).toInt64) → (∀ a, a < m → w' (5 * a + 4) = (ce (16 * t + 4 * a + j)).toInt64) → ∀ i j', i < m → (j' < n ∨ j' = 4) → sf_w w' i j' = sf_Ac ce t j i j' := by
      intro w' h1 h2 i j' hi hj
      unfold sf_w sf_Ac
      rcases hj with y | y
      · rw [if_neg (by omega), h1 i j' hi y, Int32.toInt_toInt64]
      · rw [if_pos y, y, h2 i hi, Int32.toInt_toInt64]
    refine sx_lcl ht (by omega) hm hn fun w1 a1 a2 => ?_
    refine sx_measure hm hn hA hA4 (ld w1 a1 a2) fun r ρ γ D mo1 de1 w2 hQ => ?_
    refine sx_lcl ht (by omega) hm hn fun w3 b1 b2 => ?_
    obtain ⟨m1, m2, m3⟩ := sx_MQ_M hQ
    have hl := ld w3 b1 b2
    refine sx_reduce (mo := mo1) (A := sf_Ac ce t j) hm hn m1 (by omega) m3 (fun i j' hi hj' => ?_) (fun i hi => ?_) hl fun f e w4 fa4 hR => ?_
    · rw [hl i j' hi (Or.inl hj')]; have := hA i j' hi hj'; omega
    · rw [hl i 4 hi (Or.inr rfl)]; have := hA4 i hi; omega
    · obtain ⟨ef, hF⟩ := sx_F_mk hm hQ hR
      subst ef
      refine sx_fits hm hF fun b hb => ?_
      rcases hb with ⟨y1, y2⟩ | ⟨y1, y2⟩
      · rw [y1]
        refine br_f (by decide) fun x ex => ?_
        rw [ex, nI_1]
        refine ih (j + 1) N _ mo1 de1 w4 fa4 (by omega) (by omega) fun a ha => ?_
        by_cases q : a = j
        · rw [q]; exact y2
        · exact hp a (by omega)
      · rw [y1]
        exact br_t rfl (h 0 _ _ _ _ _ (Or.inr ⟨rfl, fun z => y2 (z j (by omega))⟩))
theorem sx_within {post : Int32 → SX → Prop} (ht : t < 2) (hm : m ≤ 4) (hn : n ≤ 4) (hce : ∀ j, (ce j).toInt.natAbs ≤ 12)
    (h : ∀ (b : Int32) fo mo de w fa, ((b = 1 ∧ ∀ j, j < n → sf_mt m n (sf_Ac ce t j) 1) ∨ (b = 0 ∧ ¬ ∀ j, j < n → sf_mt m n (sf_Ac ce t j) 1)) → post b (nI m, nI n, fo, mo, de, ce, ta, w, fa)) :
    wpX_within post (nI m, nI n, fo, mo, de, ce, ta, w, fa) (nI t) := by
  unfold wpX_within
  dsimp only
  exact sx_tab ht (br_f (by decide) ⟨n + 1, sx_with_l ht hm hn hce h n 0 (n + 1) fo mo de w fa (by omega) (by omega) (fun a ha => by omega)⟩)
end
end
section
/-- the least multiple of the target that is met, 0 if there is none up to 100 -/
def sf_lm (m n : Nat) (A : Nat → Nat → Int) (R : Nat) : Prop :=
  (R = 0 ∧ ∀ c : Nat, 1 ≤ c → c ≤ 100 → ¬ sf_mt m n A (c : Int)) ∨ (1 ≤ R ∧ R ≤ 100 ∧ sf_mt m n A (R : Int) ∧ ∀ c : Nat, 1 ≤ c → c < R → ¬ sf_mt m n A (c : Int))
theorem sf_lm_u {m n : Nat} {A : Nat → Nat → Int} {R R' : Nat} (h : sf_lm m n A R) (h' : sf_lm m n A R') : R = R' := by
  rcases h with ⟨a1, a2⟩ | ⟨a1, a2, a3, a4⟩ <;> rcases h' with ⟨b1, b2⟩ | ⟨b1, b2, b3, b4⟩
  · omega
  · exact absurd b3 (a2 R' b1 b2)
  · exact absurd a3 (b2 R a1 a2)
  · by_cases q : R < R'
    · exact absurd a3 (b4 R a1 q)
    · by_cases q2 : R' < R
      · exact absurd b3 (a4 R' b1 q2)
      · omega
theorem sf_need {B W c : Nat} (hB : 0 < B) : B ∣ c * W ↔ B / Nat.gcd W B ∣ c := by
  have hg : 0 < Nat.gcd W B := Nat.gcd_pos_of_pos_right _ hB
  obtain ⟨b, hb⟩ := Nat.gcd_dvd_right W B
  obtain ⟨v, hv⟩ := Nat.gcd_dvd_left W B
  have hco : Nat.gcd v b = 1 := by
    have h1 : Nat.gcd (Nat.gcd W B * v) (Nat.gcd W B * b) = Nat.gcd W B * Nat.gcd v b := Nat.gcd_mul_left _ _ _
    rw [← hv, ← hb] at h1
    have h2 : Nat.gcd W B * Nat.gcd v b = Nat.gcd W B * 1 := by omega
    exact Nat.eq_of_mul_eq_mul_left hg h2
  have e1 : B / Nat.gcd W B = b := by
    rw [Nat.div_eq_iff_eq_mul_right hg ⟨b, hb⟩]; exact hb
  rw [e1]
  generalize Nat.gcd W B = g at *
  subst hb; subst hv
  rw [Nat.mul_left_comm]
  constructor
  · intro h
    have h1 : b ∣ c * v := Nat.dvd_of_mul_dvd_mul_left hg h
    exact Nat.Coprime.dvd_of_dvd_mul_right (k := b) (n := v) (m := c) (by rw [Nat.coprime_comm]; exact hco) h1
  · intro h
    exact Nat.mul_dvd_mul_left g (Nat.dvd_trans h (Nat.dvd_mul_right _ _))
theorem sf_lcm {L d c : Nat} (hL : 0 < L) : (L ∣ c ∧ d ∣ c) ↔ L / Nat.gcd L d * d ∣ c := by
  have e : L / Nat.gcd L d * d = Nat.lcm L d := by
    unfold Nat.lcm
    rw [Nat.mul_div_right_comm (Nat.gcd_dvd_left L d)]
  rw [e]
  exact Nat.lcm_dvd_iff.symm
section
variable {m n t : Nat} {fo de : Int32} {mo : Int64} {ce ta : Nat → Int32} {w fa : Nat → Int64}
theorem sf_ldiv {a b : Nat} (ha : a < 2 ^ 62) (h0 : 0 < b) (hb : b < 2 ^ 62) : lN a / lN b = lN (a / b) := pk_lDiv (by omega) h0 (by omega)
theorem sf_lpos {a : Nat} (h0 : 0 < a) (h : a < 2 ^ 62) : ¬ lN a ≤ 0 := by
  rw [show (0 : Int64) = lN 0 from rfl, pk_lLE (by omega) (by omega)]; omega
theorem sf_lne {a : Nat} (h0 : 0 < a) (h : a < 2 ^ 62) : ¬ lN a = 0 := by
  rw [show (0 : Int64) = lN 0 from rfl, pk_lEQ (by omega) (by omega)]; omega
theorem sf_lnt {a : Nat} (h : a < 2 ^ 62) : (lN a).toInt = (a : Int) := pk_lT (by omega)
theorem sx_mul_l {post : Int32 → SX → Prop} {r : Nat} {e : Nat → Int} (hm : m ≤ 4) (hr : r ≤ m) (hM0 : 0 < mo.toInt) (hM2 : mo.toInt ≤ 67108864) (he : ∀ i, i < r → (fa i).toInt = e i ∧ 0 < e i ∧ e i ≤ 67108864)
    (hw : ∀ i, i < m → (sf_w w i 4).natAbs ≤ 67108864)
    (h : ∀ R : Nat, ((R = 0 ∧ ∀ c : Nat, 1 ≤ c → c ≤ 100 → ¬ ∀ i, i < m → sf_eb r e mo.toInt i ∣ (c : Int) * sf_w w i 4) ∨ (1 ≤ R ∧ R ≤ 100 ∧ ∀ c : Nat, 1 ≤ c → ((∀ i, i < m → sf_eb r e mo.toInt i ∣ (c : Int) * sf_w w i 4) ↔ R ∣ c))) → post (nI R) (nI m, nI n, nI r, mo, de, ce, ta, w, fa)) :
    ∀ (d i N L : Nat), i + d = m → d < N → 1 ≤ L → L ≤ 100 → (∀ c : Nat, 1 ≤ c → ((∀ a, a < i → sf_eb r e mo.toInt a ∣ (c : Int) * sf_w w a 4) ↔ L ∣ c)) →
    wX_multiple_28 post (nI m) (nI n) (nI r) mo de ce ta w fa N (lN L) (nI i) := by
  intro d
  induction d with
  | zero =>
    intro i N L hi hN h1 h2 hc
    obtain ⟨N, rfl⟩ : ∃ N', N = N' + 1 := ⟨N - 1, by omega⟩
    rw [wX_multiple_28]
    refine br_t (nI_le (by omega) (by omega)) ?_
    rw [lN_i]
    have ei : i = m := by omega
    subst ei
    exact h L (Or.inr ⟨h1, h2, hc⟩)
  | succ d ih =>
    intro i N L hi hN h1 h2 hc
    obtain ⟨N, rfl⟩ : ∃ N', N = N' + 1 := ⟨N - 1, by omega⟩
    rw [wX_multiple_28]
    refine br_f (nI_ge (by omega) (by omega)) ?_
    have key : ∀ z : Int64, z.toInt = sf_eb r e mo.toInt i → 0 < z.toInt → z.toInt ≤ 67108864 → wX_multiple_60 post (wX_multiple_28 post (nI m) (nI n) (nI r) mo de ce ta w fa N) (lN L) (nI i) z (nI m) (nI n) (nI r) mo de ce ta w fa := by
      intro z ez hz hz2
      have bw := hw i (by omega)
      unfold wX_multiple_60
      rw [sf_ix4, sf_cl _ _ (by omega)]
      refine ⟨vp_in_nI (by omega) (by omega), sx_gcd (by unfold sf_w at bw; omega) (by omega) ?_⟩
      obtain ⟨B, eB⟩ : ∃ B : Nat, z.toInt = (B : Int) := ⟨z.toInt.toNat, by omega⟩
      have ezN : z = lN B := Int64.toInt_inj.mp (by rw [eB, sf_lnt (by omega)])
      have hgp : 0 < Int.gcd (w (5 * i + 4)).toInt z.toInt := Nat.gcd_pos_of_pos_right _ (by omega)
      have hgB : Int.gcd (w (5 * i + 4)).toInt z.toInt ≤ B := Nat.le_of_dvd (by omega) (by have := Nat.gcd_dvd_right (w (5 * i + 4)).toInt.natAbs z.toInt.natAbs; rw [eB] at this; rw [eB]; exact this)
      refine br_f (sf_lpos hgp (by omega)) ?_
      unfold wX_multiple_95
      refine ⟨sf_lne hgp (by omega), fun y ey => ?_⟩
      rw [ezN] at ey hgp hgB
      rw [sf_ldiv (by omega) hgp (by omega)] at ey
      have eg : Int.gcd (w (5 * i + 4)).toInt (lN B).toInt = Nat.gcd (sf_w w i 4).natAbs B := by
        rw [sf_lnt (by omega)]; rfl
      rw [eg] at ey
      have hneed : ∀ c : Nat, (sf_eb r e mo.toInt i ∣ (c : Int) * sf_w w i 4) ↔ B / Nat.gcd (sf_w w i 4).natAbs B ∣ c := by
        intro c
        rw [← sf_need (by omega), ← ez, eB, ← Int.natAbs_dvd_natAbs, Int.natAbs_mul]
        rfl
      have hnp : 0 < B / Nat.gcd (sf_w w i 4).natAbs B := by
        refine Nat.div_pos (Nat.le_of_dvd (by omega) (Nat.gcd_dvd_right _ _)) (Nat.gcd_pos_of_pos_right _ (by omega))
      have hnB : B / Nat.gcd (sf_w w i 4).natAbs B ≤ B := Nat.div_le_self _ _
      generalize B / Nat.gcd (sf_w w i 4).natAbs B = Q at ey hneed hnp hnB
      rw [ey]
      refine sx_gcd (by rw [sf_lnt (by omega)]; omega) (by rw [sf_lnt (by omega)]; omega) ?_
      have eg2 : Int.gcd (lN L).toInt (lN Q).toInt = Nat.gcd L Q := by
        rw [sf_lnt (by omega), sf_lnt (by omega)]; rfl
      rw [eg2]
      have hsp : 0 < Nat.gcd L Q := Nat.gcd_pos_of_pos_left _ (by omega)
      have hsL : Nat.gcd L Q ≤ L := Nat.le_of_dvd (by omega) (Nat.gcd_dvd_left _ _)
      refine br_f (sf_lpos hsp (by omega)) ?_
      unfold wX_multiple_120
      refine ⟨sf_lne hsp (by omega), fun x ex => ?_⟩
      rw [sf_ldiv (by omega) hsp (by omega), lN_mul] at ex
      have hlc : ∀ c : Nat, 1 ≤ c → ((∀ a, a < i + 1 → sf_eb r e mo.toInt a ∣ (c : Int) * sf_w w a 4) ↔ L / Nat.gcd L Q * Q ∣ c) := by
        intro c h1c
        rw [← sf_lcm (by omega), ← hc c h1c, ← hneed c]
        constructor
        · intro y; exact ⟨fun a ha => y a (by omega), y i (by omega)⟩
        · intro y a ha
          by_cases q : a = i
          · rw [q]; exact y.2
          · exact y.1 a (by omega)
      have hl1 : 1 ≤ L / Nat.gcd L Q * Q := Nat.mul_pos (Nat.div_pos hsL hsp) hnp
      have hl2 : L / Nat.gcd L Q * Q ≤ 100 * Q := Nat.mul_le_mul_right _ (Nat.le_trans (Nat.div_le_self _ _) h2)
      generalize L / Nat.gcd L Q * Q = L2 at ex hlc hl1 hl2
      rw [ex]
      refine br_c (fun c y ey => ?_) (fun c => ?_)
      · rw [show (100 : Int64) = lN 100 from rfl, pk_lLE (by omega) (by omega)] at c
        rw [ey, nI_1]
        exact ih (i + 1) N L2 (by omega) (by omega) hl1 c hlc
      · rw [show (100 : Int64) = lN 100 from rfl, pk_lLE (by omega) (by omega)] at c
        refine h 0 (Or.inl ⟨rfl, fun k k1 k2 hk => ?_⟩)
        have := Nat.le_of_dvd (by omega) ((hlc k k1).mp (fun a ha => hk a (by omega)))
        omega
    refine br_c (fun c => ?_) (fun c => ?_)
    · rw [nI_leI (by omega) (by omega)] at c
      refine key mo ?_ hM0 hM2
      unfold sf_eb; rw [if_neg (by omega)]
    · rw [nI_leI (by omega) (by omega)] at c
      rw [nI_clamp (by omega)]
      have h2 := he i (by omega)
      refine ⟨vp_in_nI (by omega) (by omega), key _ ?_ (by rw [h2.1]; exact h2.2.1) (by rw [h2.1]; exact h2.2.2)⟩
      unfold sf_eb; rw [if_pos (by omega), h2.1]
theorem sx_F_w {r : Nat} {A : Nat → Nat → Int} {e : Nat → Int} (h : sx_F m n A r e mo de w fa) : ∀ i, i < m → (sf_w w i 4).natAbs ≤ 67108864 := by
  obtain ⟨ρ, γ, D, h1, h2⟩ := h
  exact h2.2.2.1
theorem sx_multiple {post : Int32 → SX → Prop} (ht : t < 2) (hm : m ≤ 4) (hn : n ≤ 4) (hce : ∀ j, (ce j).toInt.natAbs ≤ 12) (hta : ∀ j, (ta j).toInt.natAbs ≤ 200)
    (h : ∀ (R : Nat) fo mo de w fa, sf_lm m n (sf_At ce ta t) R → post (nI R) (nI m, nI n, fo, mo, de, ce, ta, w, fa)) :
    wpX_multiple post (nI m, nI n, fo, mo, de, ce, ta, w, fa) (nI t) := by
  unfold wpX_multiple
  dsimp only
  refine sx_tab ht (br_f (by decide) ?_)
  refine sx_rt ht hm hn hce hta fun r e mo de w fa hF => ?_
  have hMM := sx_F_M hF
  have he := sx_F_e hF
  have hle := sx_F_le hF
  have hmt : ∀ c : Nat, 1 ≤ c → ((de = 1 ∧ ∀ i, i < m → sf_eb r e mo.toInt i ∣ (c : Int) * sf_w w i 4) ↔ sf_mt m n (sf_At ce ta t) (c : Int)) := fun c hc => sx_F_mt hm hF (c := (c : Int)) (by omega)
  refine br_c (fun c => ?_) (fun c => ⟨m + 1, ?_⟩)
  · refine h 0 _ mo de w fa (Or.inl ⟨rfl, fun k k1 _ hk => ?_⟩)
    have h3 : de = 1 := ((hmt k k1).mpr hk).1
    have c' : de = 0 := c
    rw [c'] at h3; exact absurd h3 (by decide)
  · have hd : de = 1 := (sx_F_de hF).resolve_left c
    refine sx_mul_l (e := e) hm hle.1 (by omega) hMM.2 (fun i hi => ⟨sx_F_fa hF i hi, (he i hi).1, by have := (he i hi).2.1; have := (he i hi).1; omega⟩) (sx_F_w hF) (fun R hR => h R _ mo de w fa ?_) m 0 (m + 1) 1 (by omega) (by omega) (by omega) (by omega) (fun c _ => ⟨fun _ => ⟨c, by omega⟩, fun _ a ha => by omega⟩)
    rcases hR with ⟨y1, y2⟩ | ⟨y1, y2, y3⟩
    · exact Or.inl ⟨y1, fun k k1 k2 hk => y2 k k1 k2 ((hmt k k1).mpr hk).2⟩
    · refine Or.inr ⟨y1, y2, (hmt R y1).mp ⟨hd, (y3 R y1).mpr (Nat.dvd_refl R)⟩, fun k k1 k2 hk => ?_⟩
      have := Nat.le_of_dvd (by omega) ((y3 k k1).mp ((hmt k k1).mpr hk).2)
      omega
theorem sx_sol2_l {post : Int32 → SX → Prop} {p r : Nat} {g : Nat → Nat} (hn : n ≤ 4) (hg : ∀ j, r ≤ j → g j = p)
    (h : post (nI (sf_qp g n)) (nI m, nI n, nI r, mo, de, ce, ta, w, fa)) : ∀ (d j N : Nat), j + d = n → d < N → r ≤ j → wX_solutions_133 post (nI p) (nI m) (nI n) (nI r) mo de ce ta w fa N (nI (sf_qp g j)) (nI j) := by
  intro d
  induction d with
  | zero =>
    intro j N hj hN hr
    obtain ⟨N, rfl⟩ : ∃ N', N = N' + 1 := ⟨N - 1, by omega⟩
    rw [wX_solutions_133]
    have ej : j = n := by omega
    subst ej
    exact br_t (nI_le (by omega) (by omega)) h
  | succ d ih =>
    intro j N hj hN hr
    obtain ⟨N, rfl⟩ : ∃ N', N = N' + 1 := ⟨N - 1, by omega⟩
    rw [wX_solutions_133]
    refine br_f (nI_ge (by omega) (by omega)) fun x ex y ey => ?_
    rw [ex, ey, nI_1, pk_mul, show sf_qp g j * p = sf_qp g (j + 1) by rw [← hg j hr]; rfl]
    exact ih (j + 1) N (by omega) (by omega) (by omega)
theorem sx_sol_l {post : Int32 → SX → Prop} {p r : Nat} {e : Nat → Int} (hp : 1 ≤ p) (h6 : p ≤ 6) (hm : m ≤ 4) (hn : n ≤ 4) (hrm : r ≤ m) (hrn : r ≤ n) (he : ∀ i, i < r → (fa i).toInt = e i ∧ 0 < e i ∧ e i ≤ 67108864)
    (h0 : (¬ ∀ i, i < m → (sf_cg r e p i : Int) ∣ sf_w w i 4) → post 0 (nI m, nI n, nI r, mo, de, ce, ta, w, fa))
    (h1 : (∀ i, i < m → (sf_cg r e p i : Int) ∣ sf_w w i 4) → post (nI (sf_qp (sf_cg r e p) n)) (nI m, nI n, nI r, mo, de, ce, ta, w, fa)) :
    ∀ (d i N : Nat), i + d = m → d < N → (∀ a, a < i → (sf_cg r e p a : Int) ∣ sf_w w a 4) →
    wX_solutions_33 post (nI p) (nI m) (nI n) (nI r) mo de ce ta w fa N (nI (sf_qp (sf_cg r e p) (if i < r then i else r))) (nI i) := by
  intro d
  induction d with
  | zero =>
    intro i N hi hN hc
    obtain ⟨N, rfl⟩ : ∃ N', N = N' + 1 := ⟨N - 1, by omega⟩
    rw [wX_solutions_33]
    refine br_t (nI_le (by omega) (by omega)) ⟨n + 1, ?_⟩
    rw [if_neg (by omega)]
    exact sx_sol2_l hn (fun j hj => if_neg (by omega)) (h1 fun a ha => hc a (by omega)) (n - r) r (n + 1) (by omega) (by omega) (Nat.le_refl r)
  | succ d ih =>
    intro i N hi hN hc
    obtain ⟨N, rfl⟩ : ∃ N', N = N' + 1 := ⟨N - 1, by omega⟩
    rw [wX_solutions_33]
    refine br_f (nI_ge (by omega) (by omega)) ?_
    rw [sf_ix4, sf_cl _ _ (by omega)]
    have key : ∀ (x : Int64) (q : Nat), q = sf_cg r e p i → 1 ≤ q → q ≤ 6 → x = w (5 * i + 4) → wX_solutions_81 post (wX_solutions_33 post (nI p) (nI m) (nI n) (nI r) mo de ce ta w fa N) (nI p) (nI (sf_qp (sf_cg r e p) (if i < r then i else r))) (nI i) x (lN q) (nI m) (nI n) (nI r) mo de ce ta w fa := by
      intro x q eq q1 q6 ex
      unfold wX_solutions_81
      refine br_f (sf_lpos (by omega) (by omega)) ?_
      unfold wX_solutions_98
      refine ⟨sf_lne (by omega) (by omega), br_c (fun c => ?_) (fun c => ?_)⟩
      · rw [sf_dvd0, sf_lnt (by omega), ex] at c
        have hc2 : ∀ a, a < i + 1 → (sf_cg r e p a : Int) ∣ sf_w w a 4 := by
          intro a ha
          by_cases z : a = i
          · rw [z, ← eq]; exact c
          · exact hc a (by omega)
        have hi := ih (i + 1) N (by omega) (by omega) hc2
        refine br_c (fun c2 y ey => ?_) (fun c2 y ey z ez => ?_)
        · rw [nI_leI (by omega) (by omega)] at c2
          rw [ey, nI_1]
          rw [if_neg (by omega)] at hi ⊢
          exact hi
        · rw [nI_leI (by omega) (by omega)] at c2
          rw [ey, ez, nI_1, lN_i, pk_mul, if_pos (by omega)]
          have e2 : sf_qp (sf_cg r e p) i * q = sf_qp (sf_cg r e p) (if i + 1 < r then i + 1 else r) := by
            have : (if i + 1 < r then i + 1 else r) = i + 1 := by
              by_cases z : i + 1 < r
              · rw [if_pos z]
              · rw [if_neg z]; omega
            rw [this, eq]; rfl
          rw [e2]; exact hi
      · rw [sf_dvd0, sf_lnt (by omega), ex] at c
        exact h0 fun z => c (by rw [eq]; exact z i (by omega))
    refine ⟨vp_in_nI (by omega) (by omega), fun x ex => br_c (fun c => ?_) (fun c => ?_)⟩
    · rw [nI_leI (by omega) (by omega)] at c
      rw [nI_l (by omega)]
      exact key x p (by unfold sf_cg; rw [if_neg (by omega)]) hp h6 ex
    · rw [nI_leI (by omega) (by omega)] at c
      rw [nI_clamp (by omega), nI_l (by omega)]
      have h2 := he i (by omega)
      refine ⟨vp_in_nI (by omega) (by omega), sx_gcd (by rw [h2.1]; omega) (by rw [sf_lnt (by omega)]; omega) ?_⟩
      rw [h2.1, sf_lnt (by omega)]
      have g1 : 0 < Int.gcd (e i) (p : Int) := Nat.gcd_pos_of_pos_right _ (by omega)
      have g2 : Int.gcd (e i) (p : Int) ≤ p := Nat.le_of_dvd (by omega) (Nat.gcd_dvd_right (e i).natAbs p)
      exact key x _ (by unfold sf_cg; rw [if_pos (by omega)]) (by omega) (by omega) ex
theorem sx_solutions {post : Int32 → SX → Prop} {p : Nat} (hp : 1 ≤ p) (h6 : p ≤ 6) (ht : t < 2) (hm : m ≤ 4) (hn : n ≤ 4) (hce : ∀ j, (ce j).toInt.natAbs ≤ 12) (hta : ∀ j, (ta j).toInt.natAbs ≤ 200)
    (h : ∀ fo mo de w fa, post (nI (sf_ct m n p (sf_At ce ta t))) (nI m, nI n, fo, mo, de, ce, ta, w, fa)) :
    wpX_solutions post (nI m, nI n, fo, mo, de, ce, ta, w, fa) (nI t) (nI p) := by
  unfold wpX_solutions
  dsimp only
  refine sx_tab ht (br_f (by decide) (br_f (nI_nlt (b := 1) hp (by omega)) (br_t (nI_le (b := 6) h6 (by omega)) ?_)))
  refine sx_rt ht hm hn hce hta fun r e mo de w fa hF => ⟨m + 1, ?_⟩
  have he := sx_F_e hF
  have hle := sx_F_le hF
  have hfa := sx_F_fa hF
  have hMM := sx_F_M hF
  obtain ⟨ρ, γ, D, q1, q2⟩ := hF
  have hct := sf_ct_diag hp h6 q2.2.1
  have hsm := q2.1.2 p hp h6
  have := sx_sol_l (post := post) (mo := mo) (de := de) (ce := ce) (ta := ta) (e := e) hp h6 hm hn hle.1 hle.2 (fun i hi => ⟨hfa i hi, (he i hi).1, by have := (he i hi).2.1; have := (he i hi).1; omega⟩)
    (fun hno => by
      have e0 := hsm.trans (hct.2 hno)
      have := h (nI r) mo de w fa
      rw [e0] at this; exact this)
    (fun hyes => by
      have e0 := hsm.trans (hct.1 hyes)
      have := h (nI r) mo de w fa
      rw [e0] at this; exact this) m 0 (m + 1) (by omega) (by omega) (fun a ha => by omega)
  have e1 : (if 0 < r then 0 else r) = 0 := by split <;> omega
  rw [e1] at this
  exact this
end
end
section
theorem sf_dt_rtp {k a b : Nat} (hk : k ≤ 4) (ha : a < k) (hb : b < k) (hne : a ≠ b) (f : Nat → Nat → Int) : sf_dt k (fun i j => f (sf_tp a b i) j) = - sf_dt k f := by
  have hc : k = 2 ∨ k = 3 ∨ k = 4 := by omega
  have h1 : a = 0 ∨ a = 1 ∨ a = 2 ∨ a = 3 := by omega
  have h2 : b = 0 ∨ b = 1 ∨ b = 2 ∨ b = 3 := by omega
  rcases hc with rfl | rfl | rfl
  · rcases h1 with rfl | rfl | rfl | rfl <;> rcases h2 with rfl | rfl | rfl | rfl <;> first | omega | (rw [sf_dt2, sf_dt2]; simp [sf_tp]; grind)
  · rcases h1 with rfl | rfl | rfl | rfl <;> rcases h2 with rfl | rfl | rfl | rfl <;> first | omega | (rw [sf_dt3, sf_dt3]; simp [sf_tp]; grind)
  · rcases h1 with rfl | rfl | rfl | rfl <;> rcases h2 with rfl | rfl | rfl | rfl <;> first | omega | (rw [sf_dt4, sf_dt4]; simp [sf_tp]; grind)
/-- if the minors of the first columns vanish, so do the larger ones that hold these columns -/
theorem sf_det0 {n k : Nat} {A : Nat → Nat → Int} (h : ∀ r : Nat → Nat, (∀ i, i < k → r i < n) → sf_dt k (fun i j => A (r i) j) = 0) :
    ∀ e, k + e ≤ 4 → ∀ r : Nat → Nat, (∀ i, i < k + e → r i < n) → sf_dt (k + e) (fun i j => A (r i) j) = 0 := by
  intro e
  induction e with
  | zero => intro _ r hr; exact h r hr
  | succ e ih =>
    intro he r hr
    show sf_dt (k + e + 1) _ = 0
    rw [sf_dt_colx (s := k + e) (by omega) (Nat.le_refl _)]
    refine sf_S_zero fun i hi => ?_
    have e1 : sf_dt (k + e) (fun a b => A (r (sf_sk i a)) (sf_sk (k + e) b)) = sf_dt (k + e) (fun a b => A (r (sf_sk i a)) b) := sf_dt_congr fun a b _ hb => by rw [sf_sk_lo hb]
    rw [e1, ih (by omega) (fun a => r (sf_sk i a)) (fun a ha => hr _ (sf_sk_lt ha)), Int.mul_zero]
section
variable {n : Nat} {A : Nat → Nat → Int} {fo de : Int32} {mo : Int64} {ce ta : Nat → Int32} {fa : Nat → Int64}
theorem sx_dt_in {post : Int64 → SX → Prop} {J : Int64 → Int64 → Int32 → Int32 → Int32 → Int32 → Int64 → Int32 → (Nat → Int32) → (Nat → Int32) → (Nat → Int64) → (Nat → Int64) → Prop} {ρ : Nat → Nat} {k : Nat} {bf sg : Int64} {fm : Int32}
    (hn : n ≤ 4) (hA : ∀ i j, i < n → j < n → (A i j).natAbs ≤ 12) (hkn : k < n) (hρ : ∀ i, i < n → ρ i < n)
    (hbf : bf.toInt = sf_dt k (fun a b => A (ρ a) b)) (hb0 : bf.toInt ≠ 0)
    (h : ∀ w', sf_w w' k k = sf_dt (k + 1) (sf_bd A ρ (fun j => j) k k k) →
      (∀ a j, k < a → a < n → k + 1 ≤ j → j < n → sf_w w' a j = sf_dt (k + 1 + 1) (sf_bd A ρ (fun j => j) (k + 1) a j)) → J (w' (5 * k + k)) sg (nI (k + 1)) fm (nI n) fo mo de ce ta w' fa) :
    ∀ (d i N : Nat) (w : Nat → Int64), i + d = n → d < N → k < i →
      (∀ j, k ≤ j → j < n → sf_w w k j = sf_dt (k + 1) (sf_bd A ρ (fun j => j) k k j)) →
      (∀ a j, k < a → a < i → k + 1 ≤ j → j < n → sf_w w a j = sf_dt (k + 1 + 1) (sf_bd A ρ (fun j => j) (k + 1) a j)) →
      (∀ a j, i ≤ a → a < n → k ≤ j → j < n → sf_w w a j = sf_dt (k + 1) (sf_bd A ρ (fun j => j) k a j)) →
      wX_determinant_115 post J bf sg (nI k) N (nI i) fm (nI n) fo mo de ce ta w fa := by
  intro d
  induction d with
  | zero =>
    intro i N w hi hN hki h1 h2 h3
    obtain ⟨N, rfl⟩ : ∃ N', N = N' + 1 := ⟨N - 1, by omega⟩
    rw [wX_determinant_115]
    refine br_t (nI_le (by omega) (by omega)) ?_
    rw [sf_ix, sf_cl _ _ (by omega)]
    refine ⟨vp_in_nI (by omega) (by omega), fun x ex y ey => ?_⟩
    rw [ex, ey, nI_1]
    exact h w (h1 k (Nat.le_refl k) hkn) (fun a j a1 a2 => h2 a j a1 (by omega))
  | succ d ih =>
    intro i N w hi hN hki h1 h2 h3
    obtain ⟨N, rfl⟩ : ∃ N', N = N' + 1 := ⟨N - 1, by omega⟩
    rw [wX_determinant_115]
    refine br_f (nI_ge (by omega) (by omega)) ?_
    have hbn : ¬ bf = 0 := fun z => hb0 (sf_i0.mp z)
    refine sx_ev (by omega) (by omega) (by omega) hbn fun w1 g1 g2 x ex => ?_
    rw [ex, nI_1]
    have hk1 : ∀ a j, a < n → j < 5 → a ≠ i → sf_w w1 a j = sf_w w a j := by
      intro a j ha hj hne
      unfold sf_w; rw [g1 a j (by omega) hj (Or.inl hne)]
    refine ih (i + 1) N w1 (by omega) (by omega) (by omega) (fun j j1 j2 => ?_) (fun a j a1 a2 j1 j2 => ?_) (fun a j a1 a2 j1 j2 => ?_)
    · rw [hk1 k j hkn (by omega) (by omega)]; exact h1 j j1 j2
    · by_cases z : a = i
      · subst z
        have bd : ∀ i j, i < n → j < n → (sf_dt (k + 1) (sf_bd A ρ (fun j => j) k i j)).natAbs ≤ 497664 := fun i j hi hj => sf_bd_b1 hA hρ (fun j hj => hj) (show k < 4 by omega) (by omega) (by omega) hi hj
        have bk := bd k k hkn hkn
        have bij := bd a j (by omega) j2
        have bik := bd a k (by omega) hkn
        have bkj := bd k j hkn j2
        have ek : (w (5 * k + k)).toInt = sf_dt (k + 1) (sf_bd A ρ (fun j => j) k k k) := h1 k (Nat.le_refl k) hkn
        have eij : (w (5 * a + j)).toInt = sf_dt (k + 1) (sf_bd A ρ (fun j => j) k a j) := h3 a j (Nat.le_refl a) (by omega) (by omega) j2
        have eik : (w (5 * a + k)).toInt = sf_dt (k + 1) (sf_bd A ρ (fun j => j) k a k) := h3 a k (Nat.le_refl a) (by omega) (Nat.le_refl k) hkn
        have ekj : (w (5 * k + j)).toInt = sf_dt (k + 1) (sf_bd A ρ (fun j => j) k k j) := h1 j (by omega) j2
        show (w1 (5 * a + j)).toInt = _
        rw [g2 j (by omega) (by omega)]
        refine sf_even (P := sf_dt k (fun a b => A (ρ a) b)) (by rw [ek]; omega) (by rw [eij]; omega) (by rw [eik]; omega) (by rw [ekj]; omega) hbf (by rw [← hbf]; exact hb0) ?_
        rw [ek, eij, eik, ekj]
        exact sf_bd_syl (γ := fun j => j) (by omega)
      · rw [hk1 a j (by omega) (by omega) z]; exact h2 a j a1 (by omega) j1 j2
    · rw [hk1 a j a2 (by omega) (by omega)]; exact h3 a j (by omega) a2 j1 j2
theorem sx_dt_find {post : Int64 → SX → Prop} {J : Int64 → Int64 → Int32 → Int32 → Int32 → Int32 → Int64 → Int32 → (Nat → Int32) → (Nat → Int32) → (Nat → Int64) → (Nat → Int64) → Prop} {k : Nat} {bf sg : Int64} {fm : Int32} {w : Nat → Int64}
    (hn : n ≤ 4) (hkn : k < n)
    (h : ∀ p, k ≤ p → p ≤ n → (∀ a, k ≤ a → a < p → sf_w w a k = 0) → (p < n → sf_w w p k ≠ 0) → wX_determinant_78 post J bf sg (nI k) (nI p) fm (nI n) fo mo de ce ta w fa) :
    ∀ (d p N : Nat), p + d = n → d < N → k ≤ p → (∀ a, k ≤ a → a < p → sf_w w a k = 0) → wX_determinant_46 post J bf sg (nI k) fm (nI n) fo mo de ce ta w fa N (nI p) := by
  intro d
  induction d with
  | zero =>
    intro p N hp hN hk hz
    obtain ⟨N, rfl⟩ : ∃ N', N = N' + 1 := ⟨N - 1, by omega⟩
    rw [wX_determinant_46]
    exact br_t (nI_le (by omega) (by omega)) (h p hk (by omega) hz (fun q => by omega))
  | succ d ih =>
    intro p N hp hN hk hz
    obtain ⟨N, rfl⟩ : ∃ N', N = N' + 1 := ⟨N - 1, by omega⟩
    rw [wX_determinant_46]
    refine br_f (nI_ge (by omega) (by omega)) ?_
    rw [sf_ix, sf_cl _ _ (by omega)]
    refine ⟨vp_in_nI (by omega) (by omega), br_c (fun c x ex => ?_) (fun c => h p hk (by omega) hz (fun _ z => c (sf_i0.mpr z)))⟩
    rw [ex, nI_1]
    refine ih (p + 1) N (by omega) (by omega) (by omega) fun a a1 a2 => ?_
    by_cases q : a = p
    · rw [q]; exact sf_i0.mp c
    · exact hz a a1 (by omega)
theorem sx_dt_l {post : Int64 → SX → Prop} (hn : n ≤ 4) (hA : ∀ i j, i < n → j < n → (A i j).natAbs ≤ 12)
    (h : ∀ (x : Int64) w', x.toInt = sf_dt n A → post x (nI n, nI n, fo, mo, de, ce, ta, w', fa)) :
    ∀ (d k N : Nat) (ρ : Nat → Nat) (bf sg : Int64) (w : Nat → Int64), k + d = n → d < N → (∀ i, i < n → ρ i < n) → (∀ i, i < n → ∃ i', i' < n ∧ ρ i' = i) →
      bf.toInt = sf_dt k (fun a b => A (ρ a) b) → bf.toInt ≠ 0 → (sg.toInt = 1 ∨ sg.toInt = -1) → sg.toInt * sf_dt n (fun a b => A (ρ a) b) = sf_dt n A →
      (∀ i j, k ≤ i → i < n → k ≤ j → j < n → sf_w w i j = sf_dt (k + 1) (sf_bd A ρ (fun j => j) k i j)) →
      wX_determinant_33 post N bf sg (nI k) (nI n) (nI n) fo mo de ce ta w fa := by
  intro d
  induction d with
  | zero =>
    intro k N ρ bf sg w hk hN hρ hρ2 hbf hb0 hs hsd hw
    obtain ⟨N, rfl⟩ : ∃ N', N = N' + 1 := ⟨N - 1, by omega⟩
    rw [wX_determinant_33]
    have ek : k = n := by omega
    subst ek
    refine br_t (nI_le (by omega) (by omega)) (h _ w ?_)
    have hb : bf.toInt.natAbs ≤ 497664 := by
      rw [hbf]
      by_cases k0 : k = 0
      · subst k0; show (1 : Int).natAbs ≤ 497664; decide
      · have h1 := sf_dt_bd (k := k) (B := fun b => if b + 1 = k then 12 else 12) (f := fun a b => A (ρ a) b) (fun a b ha hb => by
          have : (if b + 1 = k then 12 else 12) = 12 := by split <;> rfl
          rw [this]
          exact hA _ _ (hρ a (by omega)) hb)
        have := sf_bd_np (k := k) (by omega) (by omega) 12 (by omega)
        omega
    rw [← hsd, ← hbf]
    rcases hs with q | q
    · exact sf_imul (by rw [q]; omega) (by rw [q]; omega)
    · exact sf_imul (by rw [q]; omega) (by rw [q]; omega)
  | succ d ih =>
    intro k N ρ bf sg w hk hN hρ hρ2 hbf hb0 hs hsd hw
    obtain ⟨N, rfl⟩ : ∃ N', N = N' + 1 := ⟨N - 1, by omega⟩
    rw [wX_determinant_33]
    refine br_f (nI_ge (by omega) (by omega)) ⟨n + 1, ?_⟩
    refine sx_dt_find hn (by omega) (fun p p1 p2 pz pn => ?_) (n - k) k (n + 1) (by omega) (by omega) (Nat.le_refl k) (fun a a1 a2 => by omega)
    unfold wX_determinant_78
    -- what follows once the row is in its place
    have go : ∀ (ρ' : Nat → Nat) (sg' : Int64) (w' : Nat → Int64), (∀ i, i < n → ρ' i < n) → (∀ i, i < n → ∃ i', i' < n ∧ ρ' i' = i) → bf.toInt = sf_dt k (fun a b => A (ρ' a) b) → (sg'.toInt = 1 ∨ sg'.toInt = -1) →
        sg'.toInt * sf_dt n (fun a b => A (ρ' a) b) = sf_dt n A → (∀ i j, k ≤ i → i < n → k ≤ j → j < n → sf_w w' i j = sf_dt (k + 1) (sf_bd A ρ' (fun j => j) k i j)) → sf_w w' k k ≠ 0 →
        ∃ n115, wX_determinant_115 post (wX_determinant_33 post N) bf sg' (nI k) n115 (nI (k + 1)) (nI n) (nI n) fo mo de ce ta w' fa := by
      intro ρ' sg' w' r1 r2 r3 r4 r5 r6 r7
      refine ⟨n + 1, sx_dt_in hn hA (by omega) r1 r3 hb0 (fun w2 q1 q2 => ?_) (n - (k + 1)) (k + 1) (n + 1) w' (by omega) (by omega) (by omega) (fun j j1 j2 => r6 k j (Nat.le_refl k) (by omega) j1 j2) (fun a j a1 a2 => by omega) (fun a j a1 a2 j1 j2 => r6 a j (by omega) a2 j1 j2)⟩
      have ekk : sf_dt (k + 1) (sf_bd A ρ' (fun j => j) k k k) = sf_dt (k + 1) (fun a b => A (ρ' a) b) := by
        refine sf_dt_congr fun a b ha hb => ?_
        have c2 : ∀ x : Nat, x < k + 1 → (if x < k then x else k) = x := by
          intro x hx
          by_cases z : x < k
          · rw [if_pos z]
          · rw [if_neg z]; omega
        unfold sf_bd; rw [c2 a ha, c2 b hb]
      refine ih (k + 1) N ρ' (w2 (5 * k + k)) sg' w2 (by omega) (by omega) r1 r2 (q1.trans ekk) ?_ r4 r5 (fun i j i1 i2 j1 j2 => q2 i j (by omega) i2 j1 j2)
      have e0 : (w2 (5 * k + k)).toInt = sf_w w' k k := q1.trans (r6 k k (Nat.le_refl k) (by omega) (Nat.le_refl k) (by omega)).symm
      rw [e0]; exact r7
    by_cases hpn : p = n
    · subst hpn
      refine br_t rfl (h 0 w ?_)
      -- no pivot: the determinant is 0
      have hG : sf_Gc p (k + 1) A (k + 1) 0 := by
        refine sf_rank (by omega) (ρ := ρ) (γ := fun j => j) (by rw [← hbf]; exact hb0) fun i j hi hj => ?_
        obtain ⟨i', hi', rfl⟩ := hρ2 i hi
        by_cases qi : i' < k
        · exact Eq.trans (sf_dt_congr fun a b _ _ => by rw [sf_if_app ρ]) (sf_dt_rep (k := k + 1) (by omega) (fun i b => A (ρ i) (if b < k then b else j)) (fun a => if a < k then a else i') ⟨i', k, by omega, by omega, by omega, by rw [if_pos qi, if_neg (by omega)]⟩)
        · by_cases qj : j < k
          · exact sf_dt_crep (by omega) (fun i b => A (if i < k then ρ i else ρ i') b) (fun b => if b < k then b else j) ⟨j, k, by omega, by omega, by omega, by rw [if_pos qj, if_neg (by omega)]⟩
          · have ej : j = k := by omega
            subst ej
            have e1 := hw i' j (by omega) hi' (Nat.le_refl j) (by omega)
            rw [pz i' (by omega) hi'] at e1
            exact Eq.trans (sf_dt_congr fun a b _ _ => by unfold sf_bd; rw [sf_if_app ρ]) e1.symm
      have h0 := sf_det0 (n := p) (k := k + 1) (A := A) (fun r hr => Int.zero_dvd.mp (hG r (fun j => j) hr (fun j hj => hj))) (p - (k + 1)) (by omega) (fun i => i) (fun i hi => by omega)
      rw [show k + 1 + (p - (k + 1)) = p by omega] at h0
      exact h0.symm
    · have hpl : p < n := by omega
      refine br_f (by rw [nI_eq (by omega) (by omega)]; exact hpn) ?_
      by_cases hpk : p = k
      · subst hpk
        refine br_t rfl fun x ex => ?_
        rw [ex, nI_1]
        exact go ρ sg w hρ hρ2 hbf hs hsd hw (pn hpl)
      · refine br_f (by rw [nI_eq (by omega) (by omega)]; exact hpk) ?_
        refine sx_swR (by omega) (by omega) fun w1 hw1 x ex y ey => ?_
        rw [ey, nI_1]
        have esg : x.toInt = - sg.toInt := by rw [ex]; exact sf_ineg (by rcases hs with q | q <;> omega)
        refine go (fun i => ρ (sf_tp p k i)) x w1 (fun i hi => hρ _ (sf_tp_lt hpl (by omega) hi)) (fun i hi => ?_) ?_ (by rcases hs with q | q <;> omega) ?_ (fun i j i1 i2 j1 j2 => ?_) ?_
        · obtain ⟨i', hi', e⟩ := hρ2 i hi
          exact ⟨sf_tp p k i', sf_tp_lt hpl (by omega) hi', by rw [sf_tp_tp]; exact e⟩
        · rw [hbf]
          exact sf_dt_congr fun a b ha _ => by rw [sf_tp_lo p1 (Nat.le_refl k) ha]
        · rw [esg, sf_dt_rtp hn hpl (by omega) hpk (fun a b => A (ρ a) b), Int.neg_mul_neg]; exact hsd
        · show (w1 (5 * i + j)).toInt = _
          rw [hw1 i j (by omega) (by omega)]
          refine Eq.trans (hw _ j (sf_tp_ge p1 (Nat.le_refl k) i1) (sf_tp_lt hpl (by omega) i2) j1 j2) (sf_dt_congr fun a b _ _ => ?_)
          unfold sf_bd
          by_cases z : a < k
          · rw [if_pos z, if_pos z]; dsimp only; rw [sf_tp_lo p1 (Nat.le_refl k) z]
          · rw [if_neg z, if_neg z]
        · show (w1 (5 * k + k)).toInt ≠ 0
          rw [hw1 k k (by omega) (by omega)]
          have : sf_tp p k k = p := by unfold sf_tp; rw [if_neg (by omega), if_pos rfl]
          rw [this]; exact pn hpl
theorem sx_determinant {post : Int64 → SX → Prop} {t m : Nat} {w : Nat → Int64} (ht : t < 2) (hm : m ≤ 4) (hn : n ≤ 4) (hce : ∀ j, (ce j).toInt.natAbs ≤ 12)
    (h0 : m ≠ n → post 0 (nI m, nI n, fo, mo, de, ce, ta, w, fa))
    (h : ∀ (x : Int64) w', m = n → x.toInt = sf_dt n (sf_At ce ta t) → post x (nI m, nI n, fo, mo, de, ce, ta, w', fa)) :
    wpX_determinant post (nI m, nI n, fo, mo, de, ce, ta, w, fa) (nI t) := by
  unfold wpX_determinant
  dsimp only
  refine sx_tab ht (br_f (by decide) ?_)
  by_cases e : m = n
  · subst e
    refine br_t rfl ?_
    refine sx_load ht hm hm fun w1 a1 _ => ⟨m + 1, ?_⟩
    have hAw : ∀ i j, i < m → j < m → sf_w w1 i j = sf_At ce ta t i j := by
      intro i j hi hj
      unfold sf_w sf_At; rw [if_neg (by omega), a1 i j hi hj, Int32.toInt_toInt64]
    refine sx_dt_l (A := sf_At ce ta t) hm (fun i j _ hj => by unfold sf_At; rw [if_neg (by omega)]; exact hce _) (fun x w' hx => h x w' rfl hx) m 0 (m + 1) (fun i => i) 1 1 w1 (by omega) (by omega) (fun i hi => hi) (fun i hi => ⟨i, hi, rfl⟩) rfl (by decide) (Or.inl rfl) (Int.one_mul _) (fun i j _ i2 _ j2 => ?_)
    rw [sf_dt1]
    exact hAw i j i2 j2
  · exact br_f (by rw [nI_eq (by omega) (by omega)]; exact e) (h0 e)
end
end
section
section
variable {fm fn fw : Int32} {ce ta : Nat → Int32} {w : Nat → Int64} {ra ca pm : Nat → Int32}
theorem sy_idle {post : Int64 → Prop} {a : Nat} : ∀ (d k N : Nat), k + d = 120 → d < N → post (lN a) → wY_common_31 post fm fn fw ce ta w ra ca pm N (lN a) (lN 0) (nI k) := by
  intro d
  induction d with
  | zero =>
    intro k N hk hN hp
    obtain ⟨N, rfl⟩ : ∃ N', N = N' + 1 := ⟨N - 1, by omega⟩
    rw [wY_common_31]
    exact br_t (nI_le (a := 120) (b := k) (by omega) (by omega)) hp
  | succ d ih =>
    intro k N hk hN hp
    obtain ⟨N, rfl⟩ : ∃ N', N = N' + 1 := ⟨N - 1, by omega⟩
    rw [wY_common_31]
    refine br_f (nI_ge (a := k) (b := 120) (by omega) (by omega)) (br_t (by decide) fun x ex => ?_)
    rw [ex, nI_1]
    exact ih (k + 1) N (by omega) (by omega) hp
theorem sy_com_l {post : Int64 → Prop} : ∀ (q a b k N : Nat), b < 2 ^ q → q ≤ 60 → a < 2 ^ 62 → k + 2 * q ≤ 120 → 120 < k + N → post (lN (Nat.gcd a b)) → wY_common_31 post fm fn fw ce ta w ra ca pm N (lN a) (lN b) (nI k) := by
  intro q
  induction q with
  | zero =>
    intro a b k N hb _ ha hk hN hp
    have eb : b = 0 := by rw [Nat.pow_zero] at hb; omega
    subst eb
    rw [Nat.gcd_zero_right] at hp
    exact sy_idle (120 - k) k N (by omega) (by omega) hp
  | succ q ih =>
    intro a b k N hb hq ha hk hN hp
    have hb62 : b < 2 ^ 62 := Nat.lt_of_lt_of_le hb (Nat.pow_le_pow_right (by omega) (by omega))
    by_cases b0 : b = 0
    · subst b0
      rw [Nat.gcd_zero_right] at hp
      exact sy_idle (120 - k) k N (by omega) (by omega) hp
    · obtain ⟨N, rfl⟩ : ∃ N', N = N' + 1 := ⟨N - 1, by omega⟩
      rw [wY_common_31]
      refine br_f (nI_ge (a := k) (b := 120) (by omega) (by omega)) (br_f (sf_lpos (by omega) (by omega)) ⟨sf_lne (by omega) (by omega), fun x ex y ey => ?_⟩)
      rw [ex, ey, sf_lN_rem (by omega) (by omega) (by omega), nI_1]
      have hr := Nat.mod_lt a (show b > 0 by omega)
      have hg : Nat.gcd a b = Nat.gcd b (a % b) := by
        rw [Nat.gcd_comm a b, Nat.gcd_rec b a, Nat.gcd_comm]
      by_cases r0 : a % b = 0
      · rw [r0] at hg ⊢
        rw [Nat.gcd_zero_right] at hg
        rw [hg] at hp
        exact sy_idle (120 - (k + 1)) (k + 1) N (by omega) (by omega) hp
      · obtain ⟨N, rfl⟩ : ∃ N', N = N' + 1 := ⟨N - 1, by omega⟩
        rw [wY_common_31]
        refine br_f (nI_ge (a := k + 1) (b := 120) (by omega) (by omega)) (br_f (sf_lpos (by omega) (by omega)) ⟨sf_lne (by omega) (by omega), fun x ex y ey => ?_⟩)
        rw [ex, ey, sf_lN_rem (by omega) (by omega) (by omega), nI_1]
        refine ih (a % b) (b % (a % b)) (k + 1 + 1) N (sf_half (by omega) (by omega) hb) (by omega) (by omega) (by omega) (by omega) ?_
        rw [hg, Nat.gcd_comm b, Nat.gcd_rec (a % b) b, Nat.gcd_comm] at hp
        exact hp
theorem sy_common {post : Int64 → Prop} {a b : Int64} (ha : a.toInt.natAbs < 2 ^ 50) (hb : b.toInt.natAbs < 2 ^ 50) (h : post (lN (Int.gcd a.toInt b.toInt))) : wpY_common post (fm, fn, fw, ce, ta, w, ra, ca, pm) a b := by
  have hl : wY_common_31 post fm fn fw ce ta w ra ca pm 121 (lN a.toInt.natAbs) (lN b.toInt.natAbs) 0 := sy_com_l 50 a.toInt.natAbs b.toInt.natAbs 0 121 hb (by omega) (by omega) (by omega) (by omega) h
  have key : wY_common_12 post b (lN a.toInt.natAbs) fm fn fw ce ta w ra ca pm := by
    unfold wY_common_12
    refine br_c (fun h0 => ⟨121, ?_⟩) (fun h0 z ez => ⟨121, ?_⟩)
    · have e := (sf_abs (x := b) (by omega)).1 h0
      have : wY_common_31 post fm fn fw ce ta w ra ca pm 121 (lN a.toInt.natAbs) b 0 := e ▸ hl
      exact this
    · rw [ez, (sf_abs (x := b) (by omega)).2 h0]; exact hl
  unfold wpY_common
  dsimp only
  refine br_c (fun h0 => ?_) (fun h0 => ?_)
  · have e := (sf_abs (x := a) (by omega)).1 h0
    rw [e]; exact key
  · rw [(sf_abs (x := a) (by omega)).2 h0]; exact key
end
/-- the parity of the inversions behind place i, from j on -/
def sy_iv (q : Nat → Nat) (i : Nat) : Nat → Nat → Bool → Bool
  | 0, _, o => o
  | d + 1, j, o => sy_iv q i d (j + 1) (if q j ≤ q i then o else !o)
/-- the sign of a code, 0 if it is none of a permutation of 0 .. k-1 -/
def sy_sg (q : Nat → Nat) (k : Nat) : Nat → Nat → Nat → Bool → Int
  | 0, _, _, o => if o then -1 else 1
  | d + 1, i, u, o => if k ≤ q i then 0 else if u / 2 ^ q i % 2 = 1 then 0 else sy_sg q k d (i + 1) (u + 2 ^ q i) (sy_iv q i i 0 o)
def sy_b (o : Bool) : Int32 := if o then 1 else 0
def sy_dg (c i : Nat) : Nat := c / 4 ^ i % 4
theorem sy_dg_lt (c i : Nat) : sy_dg c i < 4 := Nat.mod_lt _ (by decide)
theorem sy_t1 : ((List.range 16).all fun u => (List.range 4).all fun q => decide (((nI u >>> (nI q &&& 31)) &&& 1) = nI (u / 2 ^ q % 2))) = true := by decide +kernel
theorem sy_t2 : ((List.range 16).all fun u => (List.range 4).all fun q => decide (u / 2 ^ q % 2 = 1 ∨ ((nI u ||| ((1 : Int32) <<< (nI q &&& 31))) = nI (u + 2 ^ q) ∧ u + 2 ^ q < 16))) = true := by decide +kernel
theorem sy_t3 : ((List.range 256).all fun c => (List.range 4).all fun i => decide (((nI c >>> ((2 * nI i) &&& 31)) &&& 3) = nI (sy_dg c i))) = true := by decide +kernel
theorem sy_all2 {P : Nat → Nat → Prop} [∀ a b, Decidable (P a b)] {A B : Nat} (h : ((List.range A).all fun a => (List.range B).all fun b => decide (P a b)) = true) {a b : Nat} (ha : a < A) (hb : b < B) : P a b :=
  of_decide_eq_true (List.all_eq_true.mp (List.all_eq_true.mp h a (List.mem_range.mpr ha)) b (List.mem_range.mpr hb))
end
section
section
variable {fm fn fw : Int32} {ce ta : Nat → Int32} {w : Nat → Int64} {ra ca : Nat → Int32} {k : Nat} {q R C : Nat → Nat}
theorem sf_oi (x : Int64) (s : Int) : Int64.ofInt s * x = Int64.ofInt (s * x.toInt) := by
  rw [Int64.ofInt_mul, Int64.ofInt_toInt]
theorem sy_pd_l {post : Int64 → SY → Prop} {pm : Nat → Int32} {s : Int} (hk : k ≤ 4) (hpm : ∀ i, i < k → pm i = nI (q i) ∧ q i < k) (hR : ∀ i, i < k → ra i = nI (R i) ∧ R i < 4) (hC : ∀ j, j < k → ca j = nI (C j) ∧ C j < 5)
    (h : post (Int64.ofInt (s * sf_pr k (fun i => sf_w w (R i) (C (q i))))) (fm, fn, fw, ce, ta, w, ra, ca, pm)) :
    ∀ (d i N : Nat), i + d = k → d < N → wY_product_143 post (nI k) fm fn fw ce ta w ra ca pm N (Int64.ofInt (s * sf_pr i (fun i => sf_w w (R i) (C (q i))))) (nI i) := by
  intro d
  induction d with
  | zero =>
    intro i N hi hN
    obtain ⟨N, rfl⟩ : ∃ N', N = N' + 1 := ⟨N - 1, by omega⟩
    rw [wY_product_143]
    have ei : i = k := by omega
    subst ei
    exact br_t (nI_le (by omega) (by omega)) h
  | succ d ih =>
    intro i N hi hN
    obtain ⟨N, rfl⟩ : ∃ N', N = N' + 1 := ⟨N - 1, by omega⟩
    rw [wY_product_143]
    refine br_f (nI_ge (by omega) (by omega)) (br_f (nI_ge (a := i) (b := 4) (by omega) (by omega)) ?_)
    obtain ⟨p1, p2⟩ := hpm i (by omega)
    obtain ⟨r1, r2⟩ := hR i (by omega)
    obtain ⟨c1, c2⟩ := hC (q i) p2
    rw [nI_clamp (show i < 2 ^ 31 by omega), p1, nI_clamp (show q i < 2 ^ 31 by omega), r1, c1, sf_ix, sf_cl _ _ (by omega)]
    refine ⟨vp_in_nI (by omega) (by omega), vp_in_nI (by omega) (by omega), vp_in_nI (by omega) (by omega), vp_in_nI (by omega) (by omega), fun x ex y ey => ?_⟩
    rw [ex, ey, nI_1, sf_oi]
    have e1 : s * sf_pr i (fun i => sf_w w (R i) (C (q i))) * (w (5 * R i + C (q i))).toInt = s * sf_pr (i + 1) (fun i => sf_w w (R i) (C (q i))) := by
      rw [sf_pr_last, Int.mul_assoc]; rfl
    rw [e1]
    exact ih (i + 1) N (by omega) (by omega)
theorem sy_iv_l {post : Int64 → SY → Prop} {J : Int32 → Int32 → Int32 → (Nat → Int32) → (Nat → Int32) → (Nat → Int64) → (Nat → Int32) → (Nat → Int32) → (Nat → Int32) → Prop} {pm : Nat → Int32} {x1 x2 x3 : Int32} {i : Nat} (hi : i < 4)
    (hpm : ∀ a, a ≤ i → pm a = nI (q a) ∧ q a < 4) : ∀ (d j N : Nat) (o : Bool), j + d = i → d < N → J x3 (sy_b (sy_iv q i d j o)) (nI (i + 1)) ce ta w ra ca pm →
    wY_product_78 post J x1 x2 x3 (nI i) fm fn fw ce ta w ra ca pm N (sy_b o) (nI j) := by
  intro d
  induction d with
  | zero =>
    intro j N o hj hN h
    obtain ⟨N, rfl⟩ : ∃ N', N = N' + 1 := ⟨N - 1, by omega⟩
    rw [wY_product_78]
    refine br_t (nI_le (by omega) (by omega)) fun x ex => ?_
    rw [ex, nI_1]; exact h
  | succ d ih =>
    intro j N o hj hN h
    obtain ⟨N, rfl⟩ : ∃ N', N = N' + 1 := ⟨N - 1, by omega⟩
    rw [wY_product_78]
    refine br_f (nI_ge (by omega) (by omega)) ?_
    obtain ⟨p1, p2⟩ := hpm j (by omega)
    obtain ⟨r1, r2⟩ := hpm i (Nat.le_refl i)
    rw [nI_clamp (show i < 2 ^ 31 by omega), nI_clamp (show j < 2 ^ 31 by omega), p1, r1]
    refine ⟨vp_in_nI (by omega) (by omega), vp_in_nI (by omega) (by omega), br_c (fun c x ex => ?_) (fun c => ?_)⟩
    · rw [nI_leI (by omega) (by omega)] at c
      rw [ex, nI_1]
      refine ih (j + 1) N o (by omega) (by omega) ?_
      have e : sy_iv q i (d + 1) j o = sy_iv q i d (j + 1) o := by
        show sy_iv q i d (j + 1) (if q j ≤ q i then o else !o) = _
        rw [if_pos c]
      rw [e] at h; exact h
    · rw [nI_leI (by omega) (by omega)] at c
      have e : sy_iv q i (d + 1) j o = sy_iv q i d (j + 1) (!o) := by
        show sy_iv q i d (j + 1) (if q j ≤ q i then o else !o) = _
        rw [if_neg c]
      rw [e] at h
      have hh := ih (j + 1) N (!o) (by omega) (by omega) h
      cases o with
      | false =>
        refine br_t rfl fun x ex => ?_
        rw [ex, nI_1]; exact hh
      | true =>
        refine br_f (by decide) fun x ex => ?_
        rw [ex, nI_1]; exact hh
theorem sy_pr_l {post : Int64 → SY → Prop} {c : Nat} (hc : c < 256) (hk : k ≤ 4) (hR : ∀ i, i < k → ra i = nI (R i) ∧ R i < 4) (hC : ∀ j, j < k → ca j = nI (C j) ∧ C j < 5) : ∀ (d i u N : Nat) (o : Bool) (pm : Nat → Int32), i + d = k → d < N → u < 16 →
    (∀ a, a < i → pm a = nI (sy_dg c a) ∧ sy_dg c a < k) →
    (∀ pm', post (Int64.ofInt (sy_sg (sy_dg c) k d i u o * sf_pr k (fun i => sf_w w (R i) (C (sy_dg c i))))) (fm, fn, fw, ce, ta, w, ra, ca, pm')) →
    wY_product_8 post (nI c) (nI k) fm fn fw N (nI u) (sy_b o) (nI i) ce ta w ra ca pm := by
  intro d
  induction d with
  | zero =>
    intro i u N o pm hi hN hu hpm h
    obtain ⟨N, rfl⟩ : ∃ N', N = N' + 1 := ⟨N - 1, by omega⟩
    rw [wY_product_8]
    refine br_t (nI_le (by omega) (by omega)) ?_
    have ei : i = k := by omega
    subst ei
    unfold wY_product_126
    cases o with
    | false =>
      refine br_t rfl ⟨i + 1, ?_⟩
      exact sy_pd_l (s := 1) (q := sy_dg c) hk hpm hR hC (h pm) i 0 (i + 1) (by omega) (by omega)
    | true =>
      refine br_f (by decide) ⟨i + 1, ?_⟩
      exact sy_pd_l (s := -1) (q := sy_dg c) hk hpm hR hC (h pm) i 0 (i + 1) (by omega) (by omega)
  | succ d ih =>
    intro i u N o pm hi hN hu hpm h
    obtain ⟨N, rfl⟩ : ∃ N', N = N' + 1 := ⟨N - 1, by omega⟩
    rw [wY_product_8]
    refine br_f (nI_ge (by omega) (by omega)) (br_f (nI_ge (a := i) (b := 4) (by omega) (by omega)) ?_)
    have hq := sy_dg_lt c i
    rw [sy_all2 sy_t3 hc (show i < 4 by omega), nI_clamp (show i < 2 ^ 31 by omega)]
    refine ⟨vp_in_nI (by omega) (by omega), fun pm1 epm => ⟨vp_in_nI (by omega) (by omega), ?_⟩⟩
    have e1 : pm1 i = nI (sy_dg c i) := by rw [epm]; exact pk_us
    have e2 : ∀ a, a ≠ i → pm1 a = pm a := fun a ha => by rw [epm]; exact pk_un ha
    rw [e1]
    have zero : sy_sg (sy_dg c) k (d + 1) i u o = 0 → post 0 (fm, fn, fw, ce, ta, w, ra, ca, pm1) := by
      intro z
      have := h pm1
      rw [z, Int.zero_mul] at this; exact this
    refine br_c (fun a => zero ?_) (fun a => ⟨vp_in_nI (by omega) (by omega), ?_⟩)
    · rw [nI_leI (by omega) (by omega)] at a
      exact if_pos a
    rw [nI_leI (by omega) (by omega)] at a
    rw [sy_all2 sy_t1 hu hq]
    refine br_c (fun b => zero ?_) (fun b => ⟨vp_in_nI (by omega) (by omega), fun x ex => ⟨i + 1, ?_⟩⟩)
    · rw [show (1 : Int32) = nI 1 from rfl, nI_eq (by omega) (by omega)] at b
      show (if k ≤ sy_dg c i then 0 else if u / 2 ^ sy_dg c i % 2 = 1 then 0 else _) = (0 : Int)
      rw [if_neg a, if_pos b]
    · rw [show (1 : Int32) = nI 1 from rfl, nI_eq (by omega) (by omega)] at b
      obtain ⟨t1, t2⟩ := (sy_all2 sy_t2 hu hq).resolve_left b
      rw [t1] at ex
      rw [ex]
      refine sy_iv_l (q := sy_dg c) (by omega) (fun z hz => ?_) i 0 (i + 1) o (by omega) (by omega) ?_
      · by_cases y : z = i
        · rw [y]; exact ⟨e1, hq⟩
        · rw [e2 z y]; exact ⟨(hpm z (by omega)).1, sy_dg_lt c z⟩
      · refine ih (i + 1) (u + 2 ^ sy_dg c i) N (sy_iv (sy_dg c) i i 0 o) pm1 (by omega) (by omega) t2 (fun z hz => ?_) (fun pm' => ?_)
        · by_cases y : z = i
          · rw [y]; exact ⟨e1, by omega⟩
          · rw [e2 z y]; exact hpm z (by omega)
        · have e3 : sy_sg (sy_dg c) k (d + 1) i u o = sy_sg (sy_dg c) k d (i + 1) (u + 2 ^ sy_dg c i) (sy_iv (sy_dg c) i i 0 o) := by
            show (if k ≤ sy_dg c i then 0 else if u / 2 ^ sy_dg c i % 2 = 1 then 0 else _) = _
            rw [if_neg a, if_neg b]
          rw [← e3]; exact h pm'
/-- what a code adds to the determinant -/
def sy_tm (k : Nat) (G : Nat → Nat → Int) (c : Nat) : Int := sy_sg (sy_dg c) k k 0 0 false * sf_pr k (fun i => G i (sy_dg c i))
theorem sy_product {post : Int64 → SY → Prop} {c : Nat} {pm : Nat → Int32} (hc : c < 256) (hk : k ≤ 4) (hR : ∀ i, i < k → ra i = nI (R i) ∧ R i < 4) (hC : ∀ j, j < k → ca j = nI (C j) ∧ C j < 5)
    (h : ∀ pm', post (Int64.ofInt (sy_tm k (fun i j => sf_w w (R i) (C j)) c)) (fm, fn, fw, ce, ta, w, ra, ca, pm')) : wpY_product post (fm, fn, fw, ce, ta, w, ra, ca, pm) (nI c) (nI k) :=
  ⟨k + 1, sy_pr_l hc hk hR hC k 0 0 (k + 1) false pm (by omega) (by omega) (by omega) (fun a ha => by omega) h⟩
theorem sy_mi_l {post : Int64 → SY → Prop} (hk : k ≤ 4) (hR : ∀ i, i < k → ra i = nI (R i) ∧ R i < 4) (hC : ∀ j, j < k → ca j = nI (C j) ∧ C j < 5)
    (h : ∀ pm', post (Int64.ofInt (sf_S (4 ^ k) (sy_tm k (fun i j => sf_w w (R i) (C j))))) (fm, fn, fw, ce, ta, w, ra, ca, pm')) (hp : 4 ^ k ≤ 256) :
    ∀ (d c N : Nat) (pm : Nat → Int32), c + d = 4 ^ k → d < N → wY_minor_24 post (nI k) (nI (4 ^ k)) N (Int64.ofInt (sf_S c (sy_tm k (fun i j => sf_w w (R i) (C j))))) (nI c) fm fn fw ce ta w ra ca pm := by
  intro d
  induction d with
  | zero =>
    intro c N pm hc hN
    obtain ⟨N, rfl⟩ : ∃ N', N = N' + 1 := ⟨N - 1, by omega⟩
    rw [wY_minor_24]
    have ec : c = 4 ^ k := by omega
    subst ec
    exact br_t (nI_le (Nat.le_refl _) (by omega)) (h pm)
  | succ d ih =>
    intro c N pm hc hN
    obtain ⟨N, rfl⟩ : ∃ N', N = N' + 1 := ⟨N - 1, by omega⟩
    rw [wY_minor_24]
    refine br_f (nI_ge (by omega) (by omega)) ?_
    refine sy_product (by omega) hk hR hC fun pm' x ex y ey => ?_
    rw [ex, ey, nI_1, ← Int64.ofInt_add]
    exact ih (c + 1) N pm' (by omega) (by omega)
theorem sy_me_l {post : Int64 → SY → Prop} {pm : Nat → Int32} (hk : k ≤ 4) (h : ∃ n24, wY_minor_24 post (nI k) (nI (4 ^ k)) n24 0 0 fm fn fw ce ta w ra ca pm) :
    ∀ (d i N : Nat), i + d = k → d < N → wY_minor_4 post (nI k) fm fn fw ce ta w ra ca pm N (nI (4 ^ i)) (nI i) := by
  intro d
  induction d with
  | zero =>
    intro i N hi hN
    obtain ⟨N, rfl⟩ : ∃ N', N = N' + 1 := ⟨N - 1, by omega⟩
    rw [wY_minor_4]
    have ei : i = k := by omega
    subst ei
    exact br_t (nI_le (by omega) (by omega)) h
  | succ d ih =>
    intro i N hi hN
    obtain ⟨N, rfl⟩ : ∃ N', N = N' + 1 := ⟨N - 1, by omega⟩
    rw [wY_minor_4]
    refine br_f (nI_ge (by omega) (by omega)) fun x ex y ey => ?_
    rw [ex, ey, nI_1, show (4 : Int32) = nI 4 from rfl, pk_mul, ← Nat.pow_succ]
    exact ih (i + 1) N (by omega) (by omega)
end
end
section
def sy_L {α : Type} (T : α → Int) : List α → Int
  | [] => 0
  | x :: l => T x + sy_L T l
theorem sy_L_app {α : Type} (T : α → Int) (l l' : List α) : sy_L T (l ++ l') = sy_L T l + sy_L T l' := by
  induction l with
  | nil => show sy_L T l' = 0 + sy_L T l'; omega
  | cons x l ih => show T x + sy_L T (l ++ l') = T x + sy_L T l + sy_L T l'; rw [ih]; omega
theorem sy_S_L {α : Type} {T : α → Int} : ∀ (n : Nat) (f : Nat → Int) (h : Nat → Option α), (∀ c, c < n → h c = none → f c = 0) → (∀ c, c < n → ∀ x, h c = some x → f c = T x) → sf_S n f = sy_L T ((List.range n).filterMap h) := by
  intro n
  induction n with
  | zero => intros; rfl
  | succ n ih =>
    intro f h h0 h1
    rw [List.range_succ, List.filterMap_append, sy_L_app, ← ih f h (fun c hc => h0 c (by omega)) (fun c hc => h1 c (by omega))]
    show sf_S n f + f n = _
    congr 1
    cases e : h n with
    | none => rw [h0 n (by omega) e]; simp [List.filterMap, e, sy_L]
    | some x => rw [h1 n (by omega) x e]; simp [List.filterMap, e, sy_L]
def sy_h (k c : Nat) : Option (Int × Nat × Nat × Nat × Nat) :=
  if sy_sg (sy_dg c) k k 0 0 false = 0 then none else some (sy_sg (sy_dg c) k k 0 0 false, sy_dg c 0, if 1 < k then sy_dg c 1 else 0, if 2 < k then sy_dg c 2 else 0, if 3 < k then sy_dg c 3 else 0)
theorem sy_h0 {k c : Nat} {G : Nat → Nat → Int} (h : sy_h k c = none) : sy_tm k G c = 0 := by
  unfold sy_h at h
  by_cases z : sy_sg (sy_dg c) k k 0 0 false = 0
  · unfold sy_tm; rw [z, Int.zero_mul]
  · rw [if_neg z] at h; exact absurd h (by simp)
theorem sy_h1 {k c : Nat} {x : Int × Nat × Nat × Nat × Nat} (h : sy_h k c = some x) : x = (sy_sg (sy_dg c) k k 0 0 false, sy_dg c 0, if 1 < k then sy_dg c 1 else 0, if 2 < k then sy_dg c 2 else 0, if 3 < k then sy_dg c 3 else 0) := by
  unfold sy_h at h
  by_cases z : sy_sg (sy_dg c) k k 0 0 false = 0
  · rw [if_pos z] at h; exact absurd h (by simp)
  · rw [if_neg z] at h; exact (Option.some.inj h).symm
theorem sy_fm1 : (List.range 4).filterMap (sy_h 1) = [(1, 0, 0, 0, 0)] := by decide +kernel
theorem sy_sum1 (G : Nat → Nat → Int) : sf_S 4 (sy_tm 1 G) = sf_dt 1 G := by
  rw [sy_S_L (T := fun x : Int × Nat × Nat × Nat × Nat => x.1 * (G 0 x.2.1 * 1)) 4 (sy_tm 1 G) (sy_h 1) (fun c _ hc => sy_h0 hc) (fun c _ x hx => ?_), sy_fm1]
  · rw [sf_dt1]; simp [sy_L]; try grind
  · rw [sy_h1 hx]; simp [sf_pr, sy_tm]
theorem sy_fm2 : (List.range 16).filterMap (sy_h 2) = [(-1, 1, 0, 0, 0), (1, 0, 1, 0, 0)] := by decide +kernel
theorem sy_sum2 (G : Nat → Nat → Int) : sf_S 16 (sy_tm 2 G) = sf_dt 2 G := by
  rw [sy_S_L (T := fun x : Int × Nat × Nat × Nat × Nat => x.1 * (G 0 x.2.1 * (G 1 x.2.2.1 * 1))) 16 (sy_tm 2 G) (sy_h 2) (fun c _ hc => sy_h0 hc) (fun c _ x hx => ?_), sy_fm2]
  · rw [sf_dt2]; simp [sy_L]; try grind
  · rw [sy_h1 hx]; simp [sf_pr, sy_tm]
theorem sy_fm3 : (List.range 64).filterMap (sy_h 3) = [(-1, 2, 1, 0, 0), (1, 1, 2, 0, 0), (1, 2, 0, 1, 0), (-1, 0, 2, 1, 0), (-1, 1, 0, 2, 0), (1, 0, 1, 2, 0)] := by decide +kernel
theorem sy_sum3 (G : Nat → Nat → Int) : sf_S 64 (sy_tm 3 G) = sf_dt 3 G := by
  rw [sy_S_L (T := fun x : Int × Nat × Nat × Nat × Nat => x.1 * (G 0 x.2.1 * (G 1 x.2.2.1 * (G 2 x.2.2.2.1 * 1)))) 64 (sy_tm 3 G) (sy_h 3) (fun c _ hc => sy_h0 hc) (fun c _ x hx => ?_), sy_fm3]
  · rw [sf_dt3]; simp [sy_L]; try grind
  · rw [sy_h1 hx]; simp [sf_pr, sy_tm]
theorem sy_fm4 : (List.range 256).filterMap (sy_h 4) = [(1, 3, 2, 1, 0), (-1, 2, 3, 1, 0), (-1, 3, 1, 2, 0), (1, 1, 3, 2, 0), (1, 2, 1, 3, 0), (-1, 1, 2, 3, 0), (-1, 3, 2, 0, 1), (1, 2, 3, 0, 1), (1, 3, 0, 2, 1), (-1, 0, 3, 2, 1), (-1, 2, 0, 3, 1), (1, 0, 2, 3, 1), (1, 3, 1, 0, 2), (-1, 1, 3, 0, 2), (-1, 3, 0, 1, 2), (1, 0, 3, 1, 2), (1, 1, 0, 3, 2), (-1, 0, 1, 3, 2), (-1, 2, 1, 0, 3), (1, 1, 2, 0, 3), (1, 2, 0, 1, 3), (-1, 0, 2, 1, 3), (-1, 1, 0, 2, 3), (1, 0, 1, 2, 3)] := by decide +kernel
theorem sy_sum4 (G : Nat → Nat → Int) : sf_S 256 (sy_tm 4 G) = sf_dt 4 G := by
  rw [sy_S_L (T := fun x : Int × Nat × Nat × Nat × Nat => x.1 * (G 0 x.2.1 * (G 1 x.2.2.1 * (G 2 x.2.2.2.1 * (G 3 x.2.2.2.2 * 1))))) 256 (sy_tm 4 G) (sy_h 4) (fun c _ hc => sy_h0 hc) (fun c _ x hx => ?_), sy_fm4]
  · rw [sf_dt4]; simp [sy_L]; try grind
  · rw [sy_h1 hx]; simp [sf_pr, sy_tm]
theorem sy_sum {k : Nat} (h1 : 1 ≤ k) (h4 : k ≤ 4) (G : Nat → Nat → Int) : sf_S (4 ^ k) (sy_tm k G) = sf_dt k G := by
  have h : k = 1 ∨ k = 2 ∨ k = 3 ∨ k = 4 := by omega
  rcases h with rfl | rfl | rfl | rfl
  · exact sy_sum1 G
  · exact sy_sum2 G
  · exact sy_sum3 G
  · exact sy_sum4 G
section
variable {fm fn fw : Int32} {ce ta : Nat → Int32} {w : Nat → Int64} {ra ca : Nat → Int32} {k : Nat} {R C : Nat → Nat}
theorem sy_minor {post : Int64 → SY → Prop} {pm : Nat → Int32} (h1 : 1 ≤ k) (hk : k ≤ 4) (hR : ∀ i, i < k → ra i = nI (R i) ∧ R i < 4) (hC : ∀ j, j < k → ca j = nI (C j) ∧ C j < 5)
    (h : ∀ pm', post (Int64.ofInt (sf_dt k (fun i j => sf_w w (R i) (C j)))) (fm, fn, fw, ce, ta, w, ra, ca, pm')) : wpY_minor post (fm, fn, fw, ce, ta, w, ra, ca, pm) (nI k) := by
  have hp : 4 ^ k ≤ 256 := by
    have h : k = 1 ∨ k = 2 ∨ k = 3 ∨ k = 4 := by omega
    rcases h with rfl | rfl | rfl | rfl <;> decide
  refine ⟨k + 1, sy_me_l hk ⟨4 ^ k + 1, ?_⟩ k 0 (k + 1) (by omega) (by omega)⟩
  exact sy_mi_l hk hR hC (by rw [sy_sum h1 hk]; exact h) hp (4 ^ k) 0 (4 ^ k + 1) pm (by omega) (by omega)
end
end
section
/-- the places of the bits of a below N -/
def sy_bl (a N : Nat) : List Nat := (List.range N).filter (fun i => a / 2 ^ i % 2 == 1)
theorem sy_bl_s (a N : Nat) : sy_bl a (N + 1) = sy_bl a N ++ (if a / 2 ^ N % 2 = 1 then [N] else []) := by
  unfold sy_bl
  rw [List.range_succ, List.filter_append]
  congr 1
  by_cases h : a / 2 ^ N % 2 = 1
  · rw [if_pos h]; simp [List.filter, h]
  · rw [if_neg h]
    have : (a / 2 ^ N % 2 == 1) = false := by simp [h]
    simp [List.filter, this]
theorem sy_gd1 {l : List Nat} {x j : Nat} (h : j < l.length) : (l ++ [x]).getD j 0 = l.getD j 0 := by
  simp [List.getD, List.getElem?_append, h]
theorem sy_gd2 {l : List Nat} {x : Nat} : (l ++ [x]).getD l.length 0 = x := by
  simp [List.getD]
theorem sy_t4 : ((List.range 32).all fun a => (List.range 5).all fun i => decide (((nI a >>> (nI i &&& 31)) &&& 1) = nI (a / 2 ^ i % 2))) = true := by decide +kernel
theorem sy_t5 : ((List.range 32).all fun a => (List.range 6).all fun i => decide ((sy_bl a i).length ≤ (sy_bl a 5).length ∧ (sy_bl a i).length ≤ i)) = true := by decide +kernel
theorem sy_t6 : ((List.range 32).all fun a => (List.range 1).all fun _ => decide ((((((nI a &&& 1) + ((nI a >>> ((1 : Int32) &&& 31)) &&& 1)) + ((nI a >>> ((2 : Int32) &&& 31)) &&& 1)) + ((nI a >>> ((3 : Int32) &&& 31)) &&& 1)) + ((nI a >>> ((4 : Int32) &&& 31)) &&& 1)) = nI (sy_bl a 5).length)) = true := by decide +kernel
theorem sy_t7 : ((List.range 16).all fun a => (List.range 1).all fun _ => decide (sy_bl a 4 = sy_bl a 5)) = true := by decide +kernel
theorem sy_t8 : ((List.range 6).all fun N => (List.range 1).all fun _ => decide ((1 : Int32) <<< (nI N &&& 31) = nI (2 ^ N))) = true := by decide +kernel
theorem sy_t9 : ((List.range 6).all fun N => (List.range 32).all fun a => decide (a < 2 ^ N → ∀ i, i < (sy_bl a 5).length → (sy_bl a 5).getD i 0 < N)) = true := by decide +kernel
theorem sy_t10 : ((List.range 32).all fun a => (List.range 5).all fun i => decide (i + 1 < (sy_bl a 5).length → (sy_bl a 5).getD i 0 < (sy_bl a 5).getD (i + 1) 0)) = true := by decide +kernel
theorem sy_k1 : ((List.range 6).all fun N => (List.range 5).all fun a => decide (a < N → 2 ^ a < 2 ^ N ∧ sy_bl (2 ^ a) 5 = [a])) = true := by decide +kernel
theorem sy_k2 : ((List.range 6).all fun N => (List.range 5).all fun a => (List.range 5).all fun b => decide (a < b → b < N → 2 ^ a + 2 ^ b < 2 ^ N ∧ sy_bl (2 ^ a + 2 ^ b) 5 = [a, b])) = true := by decide +kernel
theorem sy_k3 : ((List.range 6).all fun N => (List.range 5).all fun a => (List.range 5).all fun b => (List.range 5).all fun c => decide (a < b → b < c → c < N → 2 ^ a + 2 ^ b + 2 ^ c < 2 ^ N ∧ sy_bl (2 ^ a + 2 ^ b + 2 ^ c) 5 = [a, b, c])) = true := by decide +kernel
theorem sy_k4 : ((List.range 6).all fun N => (List.range 5).all fun a => (List.range 5).all fun b => (List.range 5).all fun c => (List.range 5).all fun d => decide (a < b → b < c → c < d → d < N → 2 ^ a + 2 ^ b + 2 ^ c + 2 ^ d < 2 ^ N ∧ sy_bl (2 ^ a + 2 ^ b + 2 ^ c + 2 ^ d) 5 = [a, b, c, d])) = true := by decide +kernel
theorem sy_ex {N k : Nat} (hN : N ≤ 5) (h1 : 1 ≤ k) (h4 : k ≤ 4) {r : Nat → Nat} (hr : ∀ i, i < k → r i < N) (hi : ∀ s, s + 1 < k → r s < r (s + 1)) :
    ∃ a, a < 2 ^ N ∧ (sy_bl a 5).length = k ∧ ∀ i, i < k → (sy_bl a 5).getD i 0 = r i := by
  have h : k = 1 ∨ k = 2 ∨ k = 3 ∨ k = 4 := by omega
  have mem : ∀ {x y : Nat}, x < y → x ∈ List.range y := fun h => List.mem_range.mpr h
  rcases h with rfl | rfl | rfl | rfl
  · have h0 := hr 0 (by omega)
    have t := of_decide_eq_true (List.all_eq_true.mp (List.all_eq_true.mp sy_k1 N (mem (by omega))) (r 0) (mem (by omega))) h0
    refine ⟨_, t.1, by rw [t.2]; rfl, fun i hi => ?_⟩
    rw [t.2]
    have e : i = 0 := by omega
    subst e; rfl
  · have h0 := hr 0 (by omega)
    have h1 := hr 1 (by omega)
    have i0 := hi 0 (by omega)
    have t := of_decide_eq_true (List.all_eq_true.mp (List.all_eq_true.mp (List.all_eq_true.mp sy_k2 N (mem (by omega))) (r 0) (mem (by omega))) (r 1) (mem (by omega))) i0 h1
    refine ⟨_, t.1, by rw [t.2]; rfl, fun i hi => ?_⟩
    rw [t.2]
    have e : i = 0 ∨ i = 1 := by omega
    rcases e with rfl | rfl <;> rfl
  · have h0 := hr 0 (by omega)
    have h1 := hr 1 (by omega)
    have h2 := hr 2 (by omega)
    have i0 := hi 0 (by omega)
    have i1 := hi 1 (by omega)
    have t := of_decide_eq_true (List.all_eq_true.mp (List.all_eq_true.mp (List.all_eq_true.mp (List.all_eq_true.mp sy_k3 N (mem (by omega))) (r 0) (mem (by omega))) (r 1) (mem (by omega))) (r 2) (mem (by omega))) i0 i1 h2
    refine ⟨_, t.1, by rw [t.2]; rfl, fun i hi => ?_⟩
    rw [t.2]
    have e : i = 0 ∨ i = 1 ∨ i = 2 := by omega
    rcases e with rfl | rfl | rfl <;> rfl
  · have h0 := hr 0 (by omega)
    have h1 := hr 1 (by omega)
    have h2 := hr 2 (by omega)
    have h3 := hr 3 (by omega)
    have i0 := hi 0 (by omega)
    have i1 := hi 1 (by omega)
    have i2 := hi 2 (by omega)
    have t := of_decide_eq_true (List.all_eq_true.mp (List.all_eq_true.mp (List.all_eq_true.mp (List.all_eq_true.mp (List.all_eq_true.mp sy_k4 N (mem (by omega))) (r 0) (mem (by omega))) (r 1) (mem (by omega))) (r 2) (mem (by omega))) (r 3) (mem (by omega))) i0 i1 i2 h3
    refine ⟨_, t.1, by rw [t.2]; rfl, fun i hi => ?_⟩
    rw [t.2]
    have e : i = 0 ∨ i = 1 ∨ i = 2 ∨ i = 3 := by omega
    rcases e with rfl | rfl | rfl | rfl <;> rfl
section
variable {fm fn fw : Int32} {ce ta : Nat → Int32} {w : Nat → Int64} {pm : Nat → Int32}
theorem sy_pR_l {post : SY → Prop} {a : Nat} {ca : Nat → Int32} (ha : a < 32) (h : ∀ ra', (∀ j, j < (sy_bl a 4).length → ra' j = nI ((sy_bl a 4).getD j 0)) → post (fm, fn, fw, ce, ta, w, ra', ca, pm)) :
    ∀ (d i N : Nat) (ra : Nat → Int32), i + d = 4 → d < N → (∀ j, j < (sy_bl a i).length → ra j = nI ((sy_bl a i).getD j 0)) → wY_pickRows_4 post (nI a) fm fn fw N (nI (sy_bl a i).length) (nI i) ce ta w ra ca pm := by
  intro d
  induction d with
  | zero =>
    intro i N ra hi hN hra
    obtain ⟨N, rfl⟩ : ∃ N', N = N' + 1 := ⟨N - 1, by omega⟩
    rw [wY_pickRows_4]
    have ei : i = 4 := by omega
    subst ei
    exact br_t (by decide) (h ra hra)
  | succ d ih =>
    intro i N ra hi hN hra
    obtain ⟨N, rfl⟩ : ∃ N', N = N' + 1 := ⟨N - 1, by omega⟩
    rw [wY_pickRows_4]
    refine br_f (nI_ge (a := i) (b := 4) (by omega) (by omega)) ?_
    have hl := (sy_all2 sy_t5 ha (show i < 6 by omega)).2
    have hm := Nat.mod_lt (a / 2 ^ i) (show 2 > 0 by omega)
    rw [sy_all2 sy_t4 ha (show i < 5 by omega), nI_clamp (show (sy_bl a i).length < 2 ^ 31 by omega)]
    have hs := sy_bl_s a i
    refine br_c (fun c => ⟨vp_in_nI (by omega) (by omega), fun ra1 e1 x ex y ey => ?_⟩) (fun c x ex => ?_)
    · rw [show (1 : Int32) = nI 1 from rfl, nI_eq (by omega) (by omega)] at c
      rw [if_pos c] at hs
      rw [ex, ey, nI_1, nI_1]
      have hi2 := ih (i + 1) N ra1 (by omega) (by omega) (fun j hj => ?_)
      · rw [hs, List.length_append] at hi2; exact hi2
      · rw [hs, List.length_append, List.length_singleton] at hj
        rw [hs, e1]
        by_cases z : j = (sy_bl a i).length
        · rw [z, sy_gd2]; exact pk_us
        · rw [sy_gd1 (by omega), pk_un z]; exact hra j (by omega)
    · rw [show (1 : Int32) = nI 1 from rfl, nI_eq (by omega) (by omega)] at c
      rw [if_neg c, List.append_nil] at hs
      rw [ex, nI_1]
      have hi2 := ih (i + 1) N ra (by omega) (by omega) (by rw [hs]; exact hra)
      rw [hs] at hi2; exact hi2
theorem sy_pickRows {post : SY → Prop} {a : Nat} {ra ca : Nat → Int32} (ha : a < 16) (h : ∀ ra', (∀ j, j < (sy_bl a 5).length → ra' j = nI ((sy_bl a 5).getD j 0)) → post (fm, fn, fw, ce, ta, w, ra', ca, pm)) :
    wpY_pickRows post (fm, fn, fw, ce, ta, w, ra, ca, pm) (nI a) := by
  have e := sy_all2 sy_t7 ha (show 0 < 1 by omega)
  exact ⟨5, sy_pR_l (by omega) (by rw [e]; exact h) 4 0 5 ra (by omega) (by omega) (fun j hj => absurd hj (by simp [sy_bl]))⟩
theorem sy_pC_l {post : SY → Prop} {a : Nat} {ra : Nat → Int32} (ha : a < 32) (h4 : (sy_bl a 5).length ≤ 4) (h : ∀ ca', (∀ j, j < (sy_bl a 5).length → ca' j = nI ((sy_bl a 5).getD j 0)) → post (fm, fn, fw, ce, ta, w, ra, ca', pm)) :
    ∀ (d i N : Nat) (ca : Nat → Int32), i + d = 5 → d < N → (∀ j, j < (sy_bl a i).length → ca j = nI ((sy_bl a i).getD j 0)) → wY_pickColumns_4 post (nI a) fm fn fw N (nI (sy_bl a i).length) (nI i) ce ta w ra ca pm := by
  intro d
  induction d with
  | zero =>
    intro i N ca hi hN hca
    obtain ⟨N, rfl⟩ : ∃ N', N = N' + 1 := ⟨N - 1, by omega⟩
    rw [wY_pickColumns_4]
    have ei : i = 5 := by omega
    subst ei
    exact br_t (by decide) (h ca hca)
  | succ d ih =>
    intro i N ca hi hN hca
    obtain ⟨N, rfl⟩ : ∃ N', N = N' + 1 := ⟨N - 1, by omega⟩
    rw [wY_pickColumns_4]
    refine br_f (nI_ge (a := i) (b := 5) (by omega) (by omega)) ?_
    have hl := (sy_all2 sy_t5 ha (show i < 6 by omega)).2
    have hl2 := (sy_all2 sy_t5 ha (show i + 1 < 6 by omega)).1
    have hm := Nat.mod_lt (a / 2 ^ i) (show 2 > 0 by omega)
    rw [sy_all2 sy_t4 ha (show i < 5 by omega), nI_clamp (show (sy_bl a i).length < 2 ^ 31 by omega)]
    have hs := sy_bl_s a i
    refine br_c (fun c => ?_) (fun c x ex => ?_)
    · rw [show (1 : Int32) = nI 1 from rfl, nI_eq (by omega) (by omega)] at c
      rw [if_pos c] at hs
      rw [hs, List.length_append, List.length_singleton] at hl2
      refine br_f (nI_ge (a := (sy_bl a i).length) (b := 4) (by omega) (by omega)) ⟨vp_in_nI (by omega) (by omega), fun ca1 e1 x ex y ey => ?_⟩
      rw [ex, ey, nI_1, nI_1]
      have hi2 := ih (i + 1) N ca1 (by omega) (by omega) (fun j hj => ?_)
      · rw [hs, List.length_append] at hi2; exact hi2
      · rw [hs, List.length_append, List.length_singleton] at hj
        rw [hs, e1]
        by_cases z : j = (sy_bl a i).length
        · rw [z, sy_gd2]; exact pk_us
        · rw [sy_gd1 (by omega), pk_un z]; exact hca j (by omega)
    · rw [show (1 : Int32) = nI 1 from rfl, nI_eq (by omega) (by omega)] at c
      rw [if_neg c, List.append_nil] at hs
      rw [ex, nI_1]
      have hi2 := ih (i + 1) N ca (by omega) (by omega) (by rw [hs]; exact hca)
      rw [hs] at hi2; exact hi2
theorem sy_pickColumns {post : SY → Prop} {a : Nat} {ra ca : Nat → Int32} (ha : a < 32) (h4 : (sy_bl a 5).length ≤ 4) (h : ∀ ca', (∀ j, j < (sy_bl a 5).length → ca' j = nI ((sy_bl a 5).getD j 0)) → post (fm, fn, fw, ce, ta, w, ra, ca', pm)) :
    wpY_pickColumns post (fm, fn, fw, ce, ta, w, ra, ca, pm) (nI a) :=
  ⟨6, sy_pC_l ha h4 h 5 0 6 ca (by omega) (by omega) (fun j hj => absurd hj (by simp [sy_bl]))⟩
theorem sy_size {post : Int32 → Prop} {a : Nat} {ra ca : Nat → Int32} (ha : a < 32) (h : post (nI (sy_bl a 5).length)) : wpY_size post (fm, fn, fw, ce, ta, w, ra, ca, pm) (nI a) := by
  unfold wpY_size
  dsimp only
  rw [sy_all2 sy_t6 ha (show 0 < 1 by omega)]; exact h
end
end
section
/-- the minor of the choices a and b -/
def sy_mv (w : Nat → Int64) (k a b : Nat) : Int := sf_dt k (fun i j => sf_w w ((sy_bl a 5).getD i 0) ((sy_bl b 5).getD j 0))
/-- g is the common divisor of the minors of all choices ahead of (a, b) -/
def sy_Iv (w : Nat → Int64) (k Nw a b g : Nat) : Prop := g < 2 ^ 40 ∧ ∀ q : Int, q ∣ (g : Int) ↔ ∀ a' b', (a' < a ∧ b' < 2 ^ Nw ∨ a' = a ∧ b' < b) → (sy_bl a' 5).length = k → (sy_bl b' 5).length = k → q ∣ sy_mv w k a' b'
theorem sf_dvd_gcd (q : Int) (a b : Int) : q ∣ (Int.gcd a b : Int) ↔ q ∣ a ∧ q ∣ b := by
  constructor
  · intro h; exact ⟨Int.dvd_trans h (Int.gcd_dvd_left _ _), Int.dvd_trans h (Int.gcd_dvd_right _ _)⟩
  · intro h
    obtain ⟨x, y, hxy⟩ := sf_bezI a b
    rw [hxy]
    exact Int.dvd_add (Int.dvd_trans h.1 (Int.dvd_mul_right _ _)) (Int.dvd_trans h.2 (Int.dvd_mul_right _ _))
section
variable {k m Nw : Nat} {w : Nat → Int64}
theorem sy_Iv_no {a b g : Nat} (h : sy_Iv w k Nw a b g) (hn : ¬ ((sy_bl a 5).length = k ∧ (sy_bl b 5).length = k)) : sy_Iv w k Nw a (b + 1) g := by
  refine ⟨h.1, fun q => (h.2 q).trans ⟨fun y a' b' hab h1 h2 => ?_, fun y a' b' hab h1 h2 => y a' b' (by omega) h1 h2⟩⟩
  by_cases z : a' = a ∧ b' = b
  · exact absurd ⟨z.1 ▸ h1, z.2 ▸ h2⟩ hn
  · exact y a' b' (by omega) h1 h2
theorem sy_Iv_yes {a b g : Nat} (h : sy_Iv w k Nw a b g) (h1 : (sy_bl a 5).length = k) (h2 : (sy_bl b 5).length = k) (hb : (sy_mv w k a b).natAbs < 2 ^ 40) : sy_Iv w k Nw a (b + 1) (Int.gcd (g : Int) (sy_mv w k a b)) := by
  refine ⟨?_, fun q => ?_⟩
  · by_cases z : sy_mv w k a b = 0
    · rw [z]
      have : Int.gcd (g : Int) 0 = g := by simp
      rw [this]; exact h.1
    · have : Int.gcd (g : Int) (sy_mv w k a b) ≤ (sy_mv w k a b).natAbs := Nat.le_of_dvd (by omega) (Nat.gcd_dvd_right _ _)
      omega
  · rw [sf_dvd_gcd, h.2 q]
    constructor
    · intro y a' b' hab e1 e2
      by_cases z : a' = a ∧ b' = b
      · rw [z.1, z.2]; exact y.2
      · exact y.1 a' b' (by omega) e1 e2
    · intro y
      exact ⟨fun a' b' hab e1 e2 => y a' b' (by omega) e1 e2, y a b (Or.inr ⟨rfl, by omega⟩) h1 h2⟩
theorem sy_Iv_next {a g : Nat} (h : sy_Iv w k Nw a (2 ^ Nw) g) : sy_Iv w k Nw (a + 1) 0 g := by
  refine ⟨h.1, fun q => (h.2 q).trans ⟨fun y a' b' hab h1 h2 => y a' b' (by omega) h1 h2, fun y a' b' hab h1 h2 => y a' b' (by omega) h1 h2⟩⟩
theorem sy_Iv_end {g : Nat} (hm : m ≤ 4) (hN : Nw ≤ 5) (h1 : 1 ≤ k) (h4 : k ≤ 4) (h : sy_Iv w k Nw (2 ^ m) 0 g) : sf_gd m Nw (sf_w w) k (g : Int) := by
  have p4 : 2 ^ m ≤ 16 := Nat.pow_le_pow_right (by omega) hm (n := 2)
  have p5 : 2 ^ Nw ≤ 32 := Nat.pow_le_pow_right (by omega) hN (n := 2)
  refine ⟨by omega, fun q => (h.2 q).trans ⟨fun y => ?_, fun y a' b' hab e1 e2 => ?_⟩⟩
  · refine sf_Gc_inc h4 fun r c hr hc ir ic => ?_
    obtain ⟨a, a1, a2, a3⟩ := sy_ex (by omega) h1 h4 hr ir
    obtain ⟨b, b1, b2, b3⟩ := sy_ex hN h1 h4 hc ic
    have := y a b (Or.inl ⟨a1, b1⟩) a2 b2
    refine (sf_dt_congr fun i j hi hj => ?_) ▸ this
    rw [a3 i hi, b3 j hj]
  · have t1 := sy_all2 sy_t9 (show m < 6 by omega) (show a' < 32 by omega) (by omega)
    have t2 := sy_all2 sy_t9 (show Nw < 6 by omega) (show b' < 32 by omega) (by omega)
    exact y _ _ (fun i hi => t1 i (by omega)) (fun j hj => t2 j (by omega))
theorem sy_Iv_0 : sy_Iv w k Nw 0 0 0 := ⟨by decide, fun q => ⟨fun _ a' b' hab => by omega, fun _ => Int.dvd_zero q⟩⟩
theorem sy_mv_bd {a b : Nat} (hm : m ≤ 4) (hN : Nw ≤ 5) (h1 : 1 ≤ k) (h4 : k ≤ 4) (hF : ∀ i j, i < m → j < Nw → (sf_w w i j).natAbs ≤ 20000 ∧ (j + 1 < Nw → (sf_w w i j).natAbs ≤ 12)) (ha : a < 2 ^ m) (hb : b < 2 ^ Nw) (ea : (sy_bl a 5).length = k) (eb : (sy_bl b 5).length = k) :
    (sy_mv w k a b).natAbs < 2 ^ 40 := by
  have p4 : 2 ^ m ≤ 16 := Nat.pow_le_pow_right (by omega) hm (n := 2)
  have p5 : 2 ^ Nw ≤ 32 := Nat.pow_le_pow_right (by omega) hN (n := 2)
  have t1 := sy_all2 sy_t9 (show m < 6 by omega) (show a < 32 by omega) ha
  have t2 := sy_all2 sy_t9 (show Nw < 6 by omega) (show b < 32 by omega) hb
  have h := sf_dt_bd (k := k) (B := fun j => if j + 1 = k then 20000 else 12) (f := fun i j => sf_w w ((sy_bl a 5).getD i 0) ((sy_bl b 5).getD j 0)) (fun i j hi hj => by
    have f := hF _ _ (t1 i (by omega)) (t2 j (by omega))
    by_cases z : j + 1 = k
    · rw [if_pos z]; exact f.1
    · rw [if_neg z]
      refine f.2 ?_
      have := sy_all2 sy_t10 (show b < 32 by omega) (show j < 5 by omega) (by omega)
      have := t2 (j + 1) (by omega)
      omega)
  have := sf_bd_np h4 h1 20000 (by omega)
  unfold sy_mv
  omega
end
section
variable {fn : Int32} {ce ta : Nat → Int32} {w : Nat → Int64} {k m Nw : Nat}
theorem sy_dv_in {post : Int64 → SY → Prop} {J : Int64 → Int32 → Int32 → Int32 → Int32 → (Nat → Int32) → (Nat → Int32) → (Nat → Int64) → (Nat → Int32) → (Nat → Int32) → (Nat → Int32) → Prop} {a : Nat}
    (hm : m ≤ 4) (hN : Nw ≤ 5) (h1 : 1 ≤ k) (h4 : k ≤ 4) (hF : ∀ i j, i < m → j < Nw → (sf_w w i j).natAbs ≤ 20000 ∧ (j + 1 < Nw → (sf_w w i j).natAbs ≤ 12)) (ha : a < 2 ^ m)
    (h : ∀ g ra ca pm, sy_Iv w k Nw (a + 1) 0 g → J (lN g) (nI (a + 1)) (nI m) fn (nI Nw) ce ta w ra ca pm) :
    ∀ (d b N g : Nat) (ra ca pm : Nat → Int32), b + d = 2 ^ Nw → d < N → sy_Iv w k Nw a b g → wY_divided_25 post J (nI k) (nI a) N (lN g) (nI b) (nI m) fn (nI Nw) ce ta w ra ca pm := by
  have p4 : 2 ^ m ≤ 16 := Nat.pow_le_pow_right (by omega) hm (n := 2)
  have p5 : 2 ^ Nw ≤ 32 := Nat.pow_le_pow_right (by omega) hN (n := 2)
  have es : (1 : Int32) <<< (nI Nw &&& 31) = nI (2 ^ Nw) := sy_all2 sy_t8 (show Nw < 6 by omega) (show 0 < 1 by omega)
  intro d
  induction d with
  | zero =>
    intro b N g ra ca pm hb hN' hI
    obtain ⟨N, rfl⟩ : ∃ N', N = N' + 1 := ⟨N - 1, by omega⟩
    rw [wY_divided_25]
    dsimp only
    rw [es]
    refine br_t (nI_le (by omega) (by omega)) fun x ex => ?_
    rw [ex, nI_1]
    have eb : b = 2 ^ Nw := by omega
    subst eb
    exact h g ra ca pm (sy_Iv_next hI)
  | succ d ih =>
    intro b N g ra ca pm hb hN' hI
    obtain ⟨N, rfl⟩ : ∃ N', N = N' + 1 := ⟨N - 1, by omega⟩
    rw [wY_divided_25]
    dsimp only
    rw [es]
    refine br_f (nI_ge (by omega) (by omega)) ?_
    have la := (sy_all2 sy_t5 (show a < 32 by omega) (show 5 < 6 by omega)).2
    have lb := (sy_all2 sy_t5 (show b < 32 by omega) (show 5 < 6 by omega)).2
    have skip : ¬ ((sy_bl a 5).length = k ∧ (sy_bl b 5).length = k) → ∀ x, x = nI b + 1 → wY_divided_25 post J (nI k) (nI a) N (lN g) x (nI m) fn (nI Nw) ce ta w ra ca pm := by
      intro hn x ex
      rw [ex, nI_1]
      exact ih (b + 1) N g ra ca pm (by omega) (by omega) (sy_Iv_no hI hn)
    refine sy_size (by omega) (br_c (fun c => ?_) (fun c => skip fun z => c ?_))
    · rw [nI_eq (by omega) (by omega)] at c
      refine sy_size (by omega) (br_c (fun c2 => ?_) (fun c2 => skip fun z => c2 ?_))
      · rw [nI_eq (by omega) (by omega)] at c2
        refine sy_pickRows (by omega) fun ra1 hra => ?_
        refine sy_pickColumns (by omega) (by omega) fun ca1 hca => ?_
        have t1 := sy_all2 sy_t9 (show 4 < 6 by omega) (show a < 32 by omega) (by omega)
        have t2 := sy_all2 sy_t9 (show 5 < 6 by omega) (show b < 32 by omega) (by omega)
        refine sy_minor (R := fun i => (sy_bl a 5).getD i 0) (C := fun j => (sy_bl b 5).getD j 0) h1 h4 (fun i hi => ⟨hra i (by omega), t1 i (by omega)⟩) (fun j hj => ⟨hca j (by omega), t2 j (by omega)⟩) fun pm1 => ?_
        have hbd := sy_mv_bd hm hN h1 h4 hF ha (show b < 2 ^ Nw by omega) c c2
        have ev : (Int64.ofInt (sy_mv w k a b)).toInt = sy_mv w k a b := Int64.toInt_ofInt_of_le (by omega) (by omega)
        have eg : (lN g).toInt = (g : Int) := sf_lnt (by have := hI.1; omega)
        refine sy_common (by rw [eg]; have := hI.1; omega) (show (Int64.ofInt (sy_mv w k a b)).toInt.natAbs < _ by rw [ev]; omega) ?_
        show ∀ x, x = nI b + 1 → wY_divided_25 post J (nI k) (nI a) N (lN (Int.gcd (lN g).toInt (Int64.ofInt (sy_mv w k a b)).toInt)) x (nI m) fn (nI Nw) ce ta w ra1 ca1 pm1
        intro x ex
        rw [ex, nI_1, ev, eg]
        exact ih (b + 1) N _ ra1 ca1 pm1 (by omega) (by omega) (sy_Iv_yes hI c c2 hbd)
      · rw [z.2]
    · rw [z.1]
theorem sy_dv_l {post : Int64 → SY → Prop} (hm : m ≤ 4) (hN : Nw ≤ 5) (h1 : 1 ≤ k) (h4 : k ≤ 4) (hF : ∀ i j, i < m → j < Nw → (sf_w w i j).natAbs ≤ 20000 ∧ (j + 1 < Nw → (sf_w w i j).natAbs ≤ 12))
    (h : ∀ g ra ca pm, g < 2 ^ 40 → sf_gd m Nw (sf_w w) k ((g : Nat) : Int) → post (lN g) (nI m, fn, nI Nw, ce, ta, w, ra, ca, pm)) :
    ∀ (d a N g : Nat) (ra ca pm : Nat → Int32), a + d = 2 ^ m → d < N → sy_Iv w k Nw a 0 g → wY_divided_11 post (nI k) N (lN g) (nI a) (nI m) fn (nI Nw) ce ta w ra ca pm := by
  have p4 : 2 ^ m ≤ 16 := Nat.pow_le_pow_right (by omega) hm (n := 2)
  have es : (1 : Int32) <<< (nI m &&& 31) = nI (2 ^ m) := sy_all2 sy_t8 (show m < 6 by omega) (show 0 < 1 by omega)
  intro d
  induction d with
  | zero =>
    intro a N g ra ca pm ha hN' hI
    obtain ⟨N, rfl⟩ : ∃ N', N = N' + 1 := ⟨N - 1, by omega⟩
    rw [wY_divided_11]
    dsimp only
    rw [es]
    have ea : a = 2 ^ m := by omega
    subst ea
    exact br_t (nI_le (Nat.le_refl _) (by omega)) (h g ra ca pm hI.1 (sy_Iv_end hm hN h1 h4 hI))
  | succ d ih =>
    intro a N g ra ca pm ha hN' hI
    obtain ⟨N, rfl⟩ : ∃ N', N = N' + 1 := ⟨N - 1, by omega⟩
    rw [wY_divided_11]
    dsimp only
    rw [es]
    refine br_f (nI_ge (by omega) (by omega)) ⟨2 ^ Nw + 1, ?_⟩
    exact sy_dv_in hm hN h1 h4 hF (by omega) (fun g ra ca pm hI => ih (a + 1) N g ra ca pm (by omega) (by omega) hI) (2 ^ Nw) 0 (2 ^ Nw + 1) g ra ca pm (by omega) (by omega) hI
theorem sf_gd_zero {m N : Nat} {F : Nat → Nat → Int} : sf_gd m N F 0 1 := by
  refine ⟨by decide, fun d => ⟨fun h r c _ _ => h, fun h => h (fun _ => 0) (fun _ => 0) (fun i hi => by omega) (fun i hi => by omega)⟩⟩
theorem sy_divided {post : Int64 → SY → Prop} {ra ca pm : Nat → Int32} (hm : m ≤ 4) (hN : Nw ≤ 5) (h4 : k ≤ 4) (hF : ∀ i j, i < m → j < Nw → (sf_w w i j).natAbs ≤ 20000 ∧ (j + 1 < Nw → (sf_w w i j).natAbs ≤ 12))
    (h : ∀ g ra ca pm, g < 2 ^ 40 → sf_gd m Nw (sf_w w) k ((g : Nat) : Int) → post (lN g) (nI m, fn, nI Nw, ce, ta, w, ra, ca, pm)) :
    wpY_divided post (nI m, fn, nI Nw, ce, ta, w, ra, ca, pm) (nI k) := by
  unfold wpY_divided
  dsimp only
  by_cases k0 : k = 0
  · subst k0
    exact br_t rfl (h 1 ra ca pm (by decide) sf_gd_zero)
  · refine br_f (nI_ne0 (by omega) (by omega)) ⟨2 ^ m + 1, ?_⟩
    exact sy_dv_l hm hN (by omega) h4 hF h (2 ^ m) 0 (2 ^ m + 1) 0 ra ca pm (by omega) (by omega) sy_Iv_0
theorem sy_rk_l {post : Int32 → SY → Prop} (hm : m ≤ 4) (hN : Nw ≤ 5) (hF : ∀ i j, i < m → j < Nw → (sf_w w i j).natAbs ≤ 20000 ∧ (j + 1 < Nw → (sf_w w i j).natAbs ≤ 12))
    (h : ∀ r ra ca pm, sf_rk m Nw (sf_w w) r → post (nI r) (nI m, fn, nI Nw, ce, ta, w, ra, ca, pm)) :
    ∀ (d k N r : Nat) (ra ca pm : Nat → Int32), k + d = 5 → d < N → r < k → (∀ k', r < k' → k' < k → sf_Gc m Nw (sf_w w) k' 0) → ¬ sf_Gc m Nw (sf_w w) r 0 →
      wY_ranked_4 post N (nI r) (nI k) (nI m) fn (nI Nw) ce ta w ra ca pm := by
  intro d
  induction d with
  | zero =>
    intro k N r ra ca pm hk hN' hr h1 h2
    obtain ⟨N, rfl⟩ : ∃ N', N = N' + 1 := ⟨N - 1, by omega⟩
    rw [wY_ranked_4]
    exact br_t (nI_le (a := 5) (b := k) (by omega) (by omega)) (h r ra ca pm ⟨by omega, fun k' a b => h1 k' a (by omega), h2⟩)
  | succ d ih =>
    intro k N r ra ca pm hk hN' hr h1 h2
    obtain ⟨N, rfl⟩ : ∃ N', N = N' + 1 := ⟨N - 1, by omega⟩
    rw [wY_ranked_4]
    refine br_f (nI_ge (a := k) (b := 5) (by omega) (by omega)) ?_
    refine sy_divided hm hN (by omega) hF fun g ra ca pm hg hgd => br_c (fun c x ex => ?_) (fun c x ex => ?_)
    · rw [ex, nI_1]
      have g0 : (g : Int) = 0 := by rw [sf_i0, sf_lnt (by omega)] at c; exact c
      refine ih (k + 1) N r ra ca pm (by omega) (by omega) (by omega) (fun k' a b => ?_) h2
      by_cases z : k' = k
      · rw [z]; exact (sf_gd_0 hgd).mp g0
      · exact h1 k' a (by omega)
    · rw [ex, nI_1]
      have g0 : ¬ (g : Int) = 0 := by rw [sf_i0, sf_lnt (by omega)] at c; exact c
      exact ih (k + 1) N k ra ca pm (by omega) (by omega) (by omega) (fun k' a b => by omega) (fun z => g0 ((sf_gd_0 hgd).mpr z))
theorem sy_ranked {post : Int32 → SY → Prop} {ra ca pm : Nat → Int32} (hm : m ≤ 4) (hN : Nw ≤ 5) (hF : ∀ i j, i < m → j < Nw → (sf_w w i j).natAbs ≤ 20000 ∧ (j + 1 < Nw → (sf_w w i j).natAbs ≤ 12))
    (h : ∀ r ra ca pm, sf_rk m Nw (sf_w w) r → post (nI r) (nI m, fn, nI Nw, ce, ta, w, ra, ca, pm)) :
    wpY_ranked post (nI m, fn, nI Nw, ce, ta, w, ra, ca, pm) := by
  refine ⟨5, sy_rk_l hm hN hF h 4 1 5 0 ra ca pm (by omega) (by omega) (by omega) (fun k' a b => by omega) (fun z => ?_)⟩
  have := z (fun _ => 0) (fun _ => 0) (fun i hi => by omega) (fun i hi => by omega)
  have h2 : (1 : Int) = 0 := Int.zero_dvd.mp this
  exact absurd h2 (by decide)
end
end
section
theorem sf_Gc_cg {m N k : Nat} {d : Int} {F F' : Nat → Nat → Int} (h : ∀ i j, i < m → j < N → F i j = F' i j) : sf_Gc m N F k d ↔ sf_Gc m N F' k d := by
  constructor
  · intro g r c hr hc
    exact (sf_dt_congr fun i j hi hj => h _ _ (hr i hi) (hc j hj)) ▸ g r c hr hc
  · intro g r c hr hc
    exact (sf_dt_congr fun i j hi hj => (h _ _ (hr i hi) (hc j hj)).symm) ▸ g r c hr hc
theorem sf_rk_cg {m N r : Nat} {F F' : Nat → Nat → Int} (h : ∀ i j, i < m → j < N → F i j = F' i j) : sf_rk m N F r ↔ sf_rk m N F' r := by
  unfold sf_rk
  constructor
  · intro g; exact ⟨g.1, fun k a b => (sf_Gc_cg h).mp (g.2.1 k a b), fun z => g.2.2 ((sf_Gc_cg h).mpr z)⟩
  · intro g; exact ⟨g.1, fun k a b => (sf_Gc_cg h).mpr (g.2.1 k a b), fun z => g.2.2 ((sf_Gc_cg h).mp z)⟩
theorem sf_gd_cg {m N k : Nat} {v : Int} {F F' : Nat → Nat → Int} (h : ∀ i j, i < m → j < N → F i j = F' i j) : sf_gd m N F k v ↔ sf_gd m N F' k v := by
  unfold sf_gd
  constructor
  · intro g; exact ⟨g.1, fun d => (g.2 d).trans (sf_Gc_cg h)⟩
  · intro g; exact ⟨g.1, fun d => (g.2 d).trans (sf_Gc_cg h).symm⟩
/-- the further column in place n is met -/
def sf_mtF (m n : Nat) (F : Nat → Nat → Int) : Prop := ∀ (r : Nat) (g : Int), sf_rk m n F r → sf_gd m n F r g → sf_rk m (n + 1) F r ∧ sf_gd m (n + 1) F r g
theorem sf_mt_F {m n : Nat} {F A : Nat → Nat → Int} {c : Int} (h : ∀ i j, i < m → j < n → F i j = A i j) (hn : ∀ i, i < m → F i n = c * A i 4) : sf_mtF m n F ↔ sf_mt m n A c := by
  have h2 : ∀ i j, i < m → j < n + 1 → F i j = sf_ex n c A i j := by
    intro i j hi hj
    unfold sf_ex
    by_cases z : j < n
    · rw [if_pos z]; exact h i j hi z
    · rw [if_neg z, show j = n by omega]; exact hn i hi
  constructor
  · intro g r v h3 h4
    have := g r v ((sf_rk_cg h).mpr h3) ((sf_gd_cg h).mpr h4)
    exact ⟨(sf_rk_cg h2).mp this.1, (sf_gd_cg h2).mp this.2⟩
  · intro g r v h3 h4
    have := g r v ((sf_rk_cg h).mp h3) ((sf_gd_cg h).mp h4)
    exact ⟨(sf_rk_cg h2).mpr this.1, (sf_gd_cg h2).mpr this.2⟩
section
variable {m n t : Nat} {fm fn fw : Int32} {ce ta : Nat → Int32} {w : Nat → Int64} {ra ca pm : Nat → Int32}
theorem sy_bad {post : Int32 → Prop} (ht : t < 2) (h : post 0) : wpY_bad post (fm, fn, fw, ce, ta, w, ra, ca, pm) (nI t) := by
  unfold wpY_bad
  dsimp only
  exact br_f (nI_pos (by omega)) (br_t (nI_le (b := 1) (by omega) (by omega)) h)
theorem sy_tk_in {post : SY → Prop} {J : Int32 → (Nat → Int32) → (Nat → Int32) → (Nat → Int64) → (Nat → Int32) → (Nat → Int32) → (Nat → Int32) → Prop} {i : Nat} (ht : t < 2) (hi : i < 4) : ∀ (d j N : Nat) (w : Nat → Int64), j + d = 4 → d < N →
    (∀ w', (∀ a b, a < 4 → b < 5 → w' (5 * a + b) = if a = i ∧ j ≤ b ∧ b < 4 then (ce (16 * t + 4 * i + b)).toInt64 else w (5 * a + b)) → J (nI (i + 1)) ce ta w' ra ca pm) →
    wY_take_17 post J (nI t) (nI i) fm fn fw N (nI j) ce ta w ra ca pm := by
  intro d
  induction d with
  | zero =>
    intro j N w hj hN h
    obtain ⟨N, rfl⟩ : ∃ N', N = N' + 1 := ⟨N - 1, by omega⟩
    rw [wY_take_17]
    refine br_t (nI_le (a := 4) (b := j) (by omega) (by omega)) fun x ex => ?_
    rw [ex, nI_1]
    exact h w fun a b _ hb => by rw [if_neg (by omega)]
  | succ d ih =>
    intro j N w hj hN h
    obtain ⟨N, rfl⟩ : ∃ N', N = N' + 1 := ⟨N - 1, by omega⟩
    rw [wY_take_17]
    refine br_f (nI_ge (a := j) (b := 4) (by omega) (by omega)) ?_
    simp only [sf_ix16, sf_ix, sf_cl i j (by omega), sf_cl16 t i j (by omega)]
    refine ⟨vp_in_nI (by omega) (by omega), vp_in_nI (by omega) (by omega), fun w2 e2 x3 e3 => ?_⟩
    rw [e3, nI_1]
    refine ih (j + 1) N w2 (by omega) (by omega) fun w' hw' => h w' fun a b ha hb => ?_
    rw [hw' a b ha hb, e2, sf_u _ _ _ _ _ _ (by omega) hb]
    by_cases q : a = i ∧ b = j
    · rw [if_neg (by omega), if_pos q, if_pos (by omega), q.2]
    · rw [if_neg q]
      by_cases q2 : a = i ∧ j ≤ b ∧ b < 4
      · rw [if_pos (show a = i ∧ j + 1 ≤ b ∧ b < 4 by omega), if_pos q2]
      · rw [if_neg (show ¬ (a = i ∧ j + 1 ≤ b ∧ b < 4) by omega), if_neg q2]
theorem sy_tk_l {post : SY → Prop} (ht : t < 2) : ∀ (d i N : Nat) (w : Nat → Int64), i + d = 4 → d < N →
    (∀ w', (∀ a b, i ≤ a → a < 4 → b < 4 → w' (5 * a + b) = (ce (16 * t + 4 * a + b)).toInt64) → (∀ a b, a < i → b < 5 → w' (5 * a + b) = w (5 * a + b)) → post (fm, fn, fw, ce, ta, w', ra, ca, pm)) →
    wY_take_10 post (nI t) fm fn fw N (nI i) ce ta w ra ca pm := by
  intro d
  induction d with
  | zero =>
    intro i N w hi hN h
    obtain ⟨N, rfl⟩ : ∃ N', N = N' + 1 := ⟨N - 1, by omega⟩
    rw [wY_take_10]
    exact br_t (nI_le (a := 4) (b := i) (by omega) (by omega)) (h w (fun a b _ _ _ => by omega) (fun _ _ _ _ => rfl))
  | succ d ih =>
    intro i N w hi hN h
    obtain ⟨N, rfl⟩ : ∃ N', N = N' + 1 := ⟨N - 1, by omega⟩
    rw [wY_take_10]
    refine br_f (nI_ge (a := i) (b := 4) (by omega) (by omega)) ⟨5, ?_⟩
    refine sy_tk_in ht (by omega) 4 0 5 w (by omega) (by omega) fun w1 hw1 => ?_
    refine ih (i + 1) N w1 (by omega) (by omega) fun w' a1 a3 => h w' (fun a b h1 h2 h3 => ?_) (fun a b h1 h2 => ?_)
    · by_cases q : a = i
      · rw [a3 a b (by omega) (by omega), hw1 a b (by omega) (by omega), if_pos (by omega), q]
      · exact a1 a b (by omega) h2 h3
    · rw [a3 a b (by omega) h2, hw1 a b (by omega) h2, if_neg (by omega)]
theorem sy_take {post : SY → Prop} (ht : t < 2) (h : ∀ w', (∀ a b, a < 4 → b < 4 → w' (5 * a + b) = (ce (16 * t + 4 * a + b)).toInt64) → post (fm, fn, fn, ce, ta, w', ra, ca, pm)) :
    wpY_take post (fm, fn, fw, ce, ta, w, ra, ca, pm) (nI t) :=
  ⟨5, sy_tk_l ht 4 0 5 w (by omega) (by omega) fun w' a1 _ => h w' (fun a b => a1 a b (by omega))⟩
/-- the table at hand -/
theorem sy_tk_w {w' : Nat → Int64} (hm : m ≤ 4) (hn : n ≤ 4) (h : ∀ a b, a < 4 → b < 4 → w' (5 * a + b) = (ce (16 * t + 4 * a + b)).toInt64) : ∀ i j, i < m → j < n → sf_w w' i j = sf_At ce ta t i j := by
  intro i j hi hj
  unfold sf_w sf_At
  rw [if_neg (by omega), h i j (by omega) (by omega), Int32.toInt_toInt64]
theorem sy_tk_b {w' : Nat → Int64} (hm : m ≤ 4) (hn : n ≤ 4) (hce : ∀ j, (ce j).toInt.natAbs ≤ 12) (h : ∀ a b, a < 4 → b < 4 → w' (5 * a + b) = (ce (16 * t + 4 * a + b)).toInt64) : ∀ i j, i < m → j < n → (sf_w w' i j).natAbs ≤ 20000 ∧ (j + 1 < n → (sf_w w' i j).natAbs ≤ 12) := by
  intro i j hi hj
  unfold sf_w
  rw [h i j (by omega) (by omega), Int32.toInt_toInt64]
  have := hce (16 * t + 4 * i + j)
  exact ⟨by omega, fun _ => this⟩
theorem sy_rank {post : Int32 → SY → Prop} (ht : t < 2) (hm : m ≤ 4) (hn : n ≤ 4) (hce : ∀ j, (ce j).toInt.natAbs ≤ 12)
    (h : ∀ r fw w ra ca pm, sf_rk m n (sf_At ce ta t) r → post (nI r) (nI m, nI n, fw, ce, ta, w, ra, ca, pm)) :
    wpY_rank post (nI m, nI n, fw, ce, ta, w, ra, ca, pm) (nI t) := by
  unfold wpY_rank
  dsimp only
  refine sy_bad ht (br_t rfl ?_)
  refine sy_take ht fun w1 hw1 => ?_
  refine sy_ranked hm (by omega) (sy_tk_b hm hn hce hw1) fun r ra ca pm hr => ?_
  exact h r _ w1 ra ca pm ((sf_rk_cg (sy_tk_w hm hn hw1)).mp hr)
theorem sy_divisor {post : Int64 → SY → Prop} {k : Nat} (ht : t < 2) (hk : k ≤ 4) (hm : m ≤ 4) (hn : n ≤ 4) (hce : ∀ j, (ce j).toInt.natAbs ≤ 12)
    (h : ∀ (x : Int64) fw w ra ca pm, sf_gd m n (sf_At ce ta t) k x.toInt → post x (nI m, nI n, fw, ce, ta, w, ra, ca, pm)) :
    wpY_divisor post (nI m, nI n, fw, ce, ta, w, ra, ca, pm) (nI t) (nI k) := by
  unfold wpY_divisor
  dsimp only
  refine sy_bad ht (br_t rfl (br_f (nI_pos (by omega)) (br_t (nI_le (b := 4) hk (by omega)) ?_)))
  refine sy_take ht fun w1 hw1 => ?_
  refine sy_divided hm (by omega) hk (sy_tk_b hm hn hce hw1) fun g ra ca pm hg hgd => ?_
  refine h _ _ w1 ra ca pm ?_
  rw [sf_lnt (by omega)]
  exact (sf_gd_cg (sy_tk_w hm hn hw1)).mp hgd
theorem sy_classes {post : Int64 → SY → Prop} (ht : t < 2) (hm : m ≤ 4) (hn : n ≤ 4) (hce : ∀ j, (ce j).toInt.natAbs ≤ 12)
    (h : ∀ (x : Int64) fw w ra ca pm, sf_gd m n (sf_At ce ta t) m x.toInt → post x (nI m, nI n, fw, ce, ta, w, ra, ca, pm)) :
    wpY_classes post (nI m, nI n, fw, ce, ta, w, ra, ca, pm) (nI t) := by
  unfold wpY_classes
  dsimp only
  refine sy_bad ht (br_t rfl ?_)
  refine sy_take ht fun w1 hw1 => ?_
  refine sy_divided hm (by omega) hm (sy_tk_b hm hn hce hw1) fun g ra ca pm hg hgd => ?_
  refine h _ _ w1 ra ca pm ?_
  rw [sf_lnt (by omega)]
  exact (sf_gd_cg (sy_tk_w hm hn hw1)).mp hgd
theorem sy_factor {post : Int64 → SY → Prop} {k : Nat} (ht : t < 2) (hk1 : 1 ≤ k) (hk : k ≤ 4) (hm : m ≤ 4) (hn : n ≤ 4) (hce : ∀ j, (ce j).toInt.natAbs ≤ 12)
    (h : ∀ (x : Int64) fw w ra ca pm, (∃ dk d1, sf_gd m n (sf_At ce ta t) k dk ∧ sf_gd m n (sf_At ce ta t) (k - 1) d1 ∧ x.toInt = if dk = 0 ∨ d1 = 0 then 0 else dk.tdiv d1) → post x (nI m, nI n, fw, ce, ta, w, ra, ca, pm)) :
    wpY_factor post (nI m, nI n, fw, ce, ta, w, ra, ca, pm) (nI t) (nI k) := by
  unfold wpY_factor
  dsimp only
  refine sy_bad ht (br_t rfl (br_f (nI_nlt (b := 1) hk1 (by omega)) (br_t (nI_le (b := 4) hk (by omega)) ?_)))
  refine sy_take ht fun w1 hw1 => ?_
  refine sy_divided hm (by omega) hk (sy_tk_b hm hn hce hw1) fun g ra ca pm hg hgd => ?_
  have hgd' := (sf_gd_cg (sy_tk_w (ta := ta) hm hn hw1)).mp hgd
  obtain ⟨j, rfl⟩ : ∃ j, k = j + 1 := ⟨k - 1, by omega⟩
  dsimp only
  rw [nI_pred]
  refine sy_divided hm (by omega) (by omega) (sy_tk_b hm hn hce hw1) fun g2 ra ca pm hg2 hgd2 => ?_
  have hgd2' := (sf_gd_cg (sy_tk_w (ta := ta) hm hn hw1)).mp hgd2
  refine br_c (fun c => ?_) (fun c => br_c (fun c2 => ?_) (fun c2 => ⟨c2, ?_⟩))
  · rw [sf_i0, sf_lnt (by omega)] at c
    exact h 0 _ w1 ra ca pm ⟨_, _, hgd', hgd2', by rw [if_pos (Or.inl c)]; rfl⟩
  · rw [sf_i0, sf_lnt (by omega)] at c2
    exact h 0 _ w1 ra ca pm ⟨_, _, hgd', hgd2', by rw [if_pos (Or.inr c2)]; rfl⟩
  · rw [sf_i0, sf_lnt (by omega)] at c c2
    refine h _ _ w1 ra ca pm ⟨_, _, hgd', hgd2', ?_⟩
    rw [if_neg (fun z => z.elim c c2), sf_idiv (by rw [sf_lnt (by omega)]; omega), sf_lnt (by omega), sf_lnt (by omega)]
theorem sy_met {post : Int32 → SY → Prop} (hm : m ≤ 4) (hn : n ≤ 4) (hF : ∀ i j, i < m → j < n + 1 → (sf_w w i j).natAbs ≤ 20000 ∧ (j + 1 < n + 1 → (sf_w w i j).natAbs ≤ 12))
    (h : ∀ (b : Int32) fw ra ca pm, ((b = 1 ∧ sf_mtF m n (sf_w w)) ∨ (b = 0 ∧ ¬ sf_mtF m n (sf_w w))) → post b (nI m, nI n, fw, ce, ta, w, ra, ca, pm)) :
    wpY_met post (nI m, nI n, fw, ce, ta, w, ra, ca, pm) := by
  have hF' : ∀ i j, i < m → j < n → (sf_w w i j).natAbs ≤ 20000 ∧ (j + 1 < n → (sf_w w i j).natAbs ≤ 12) := fun i j hi hj => by
    have := hF i j hi (by omega)
    exact ⟨this.1, fun _ => this.2 (by omega)⟩
  unfold wpY_met
  dsimp only
  refine sy_ranked hm (by omega) hF' fun r ra ca pm hr => ?_
  have hr4 := hr.1
  refine sy_divided hm (by omega) hr.1 hF' fun g ra ca pm hg hgd => ?_
  dsimp only
  intro fw1 efw
  rw [efw, nI_1]
  refine sy_ranked hm (by omega) hF fun r2 ra ca pm hr2 => ?_
  have hr24 := hr2.1
  refine br_c (fun c => ?_) (fun c => h 0 _ _ _ _ (Or.inr ⟨rfl, fun z => c ?_⟩))
  · rw [nI_eq (by omega) (by omega)] at c
    subst c
    refine sy_divided hm (by omega) hr.1 hF fun g2 ra ca pm hg2 hgd2 => ?_
    refine br_c (fun c2 => h 1 _ _ _ _ (Or.inl ⟨rfl, fun r' g' h1 h2 => ?_⟩)) (fun c2 => h 0 _ _ _ _ (Or.inr ⟨rfl, fun z => c2 ?_⟩))
    · rw [pk_lEQ (by omega) (by omega)] at c2
      rw [sf_rk_u h1 hr] at h2 ⊢
      rw [sf_gd_u h2 hgd, ← c2]
      exact ⟨hr2, hgd2⟩
    · have := sf_gd_u hgd2 (z _ _ hr hgd).2
      rw [pk_lEQ (by omega) (by omega)]; omega
  · rw [nI_eq (by omega) (by omega)]
    exact sf_rk_u hr2 (z _ _ hr hgd).1
end
end
section
section
variable {m n t : Nat} {fm fn fw : Int32} {ce ta : Nat → Int32} {w : Nat → Int64} {ra ca pm : Nat → Int32}
theorem sy_mt_l {post : Int32 → SY → Prop} {c : Nat} (hn : n ≤ 4)
    (h : ∀ w', (∀ a b, a < 4 → b < 5 → b ≠ n → w' (5 * a + b) = w (5 * a + b)) → (∀ a, a < 4 → w' (5 * a + n) = (ta a).toInt64 * (nI c).toInt64) →
      wpY_met (fun r u => match u with | (f_m, f_n, f_width, a_cells, a_target, a_work, a_rowAt, a_columnAt, a_perm) => (narrow .boolean (.int r) = .int r ∧ (post r (f_m, f_n, f_width, a_cells, a_target, a_work, a_rowAt, a_columnAt, a_perm)))) (fm, nI n, fw, ce, ta, w', ra, ca, pm)) :
    ∀ (d i N : Nat) (w1 : Nat → Int64), i + d = 4 → d < N → (∀ a b, a < 4 → b < 5 → w1 (5 * a + b) = if b = n ∧ a < i then (ta a).toInt64 * (nI c).toInt64 else w (5 * a + b)) →
    wY_meets_7 post (nI c) fm (nI n) fw N (nI i) ce ta w1 ra ca pm := by
  intro d
  induction d with
  | zero =>
    intro i N w1 hi hN hw
    obtain ⟨N, rfl⟩ : ∃ N', N = N' + 1 := ⟨N - 1, by omega⟩
    rw [wY_meets_7]
    refine br_t (nI_le (a := 4) (b := i) (by omega) (by omega)) ?_
    refine h w1 (fun a b ha hb hne => ?_) (fun a ha => ?_)
    · rw [hw a b ha hb, if_neg (by omega)]
    · rw [hw a n ha (by omega), if_pos (by omega)]
  | succ d ih =>
    intro i N w1 hi hN hw
    obtain ⟨N, rfl⟩ : ∃ N', N = N' + 1 := ⟨N - 1, by omega⟩
    rw [wY_meets_7]
    refine br_f (nI_ge (a := i) (b := 4) (by omega) (by omega)) ?_
    simp only [sf_ix, sf_cl i n (by omega), nI_clamp (show i < 2 ^ 31 by omega)]
    refine ⟨vp_in_nI (by omega) (by omega), vp_in_nI (by omega) (by omega), fun w2 e2 x3 e3 => ?_⟩
    rw [e3, nI_1]
    refine ih (i + 1) N w2 (by omega) (by omega) fun a b ha hb => ?_
    rw [e2, sf_u _ _ _ _ _ _ (by omega) hb, hw a b ha hb]
    by_cases q : a = i ∧ b = n
    · rw [if_pos q, if_pos (by omega), q.1]
    · rw [if_neg q]
      by_cases q2 : b = n ∧ a < i
      · rw [if_pos q2, if_pos (by omega)]
      · rw [if_neg q2, if_neg (by omega)]
theorem sy_meets {post : Int32 → SY → Prop} {c : Nat} (ht : t < 2) (hc : c ≤ 100) (hm : m ≤ 4) (hn : n ≤ 4) (hce : ∀ j, (ce j).toInt.natAbs ≤ 12) (hta : ∀ j, (ta j).toInt.natAbs ≤ 200)
    (h : ∀ (b : Int32) fw w ra ca pm, ((b = 1 ∧ sf_mt m n (sf_At ce ta t) (c : Int)) ∨ (b = 0 ∧ ¬ sf_mt m n (sf_At ce ta t) (c : Int))) → post b (nI m, nI n, fw, ce, ta, w, ra, ca, pm)) :
    wpY_meets post (nI m, nI n, fw, ce, ta, w, ra, ca, pm) (nI t) (nI c) := by
  unfold wpY_meets
  dsimp only
  refine sy_take ht fun w1 hw1 => ⟨5, ?_⟩
  refine sy_mt_l (w := w1) hn (fun w2 a1 a2 => ?_) 4 0 5 w1 (by omega) (by omega) (fun a b _ _ => by rw [if_neg (by omega)])
  have e1 : ∀ i j, i < m → j < n → sf_w w2 i j = sf_At ce ta t i j := by
    intro i j hi hj
    have : sf_w w2 i j = sf_w w1 i j := by unfold sf_w; rw [a1 i j (by omega) (by omega) (by omega)]
    rw [this]; exact sy_tk_w hm hn hw1 i j hi hj
  have e2 : ∀ i, i < m → sf_w w2 i n = (c : Int) * sf_At ce ta t i 4 := by
    intro i hi
    unfold sf_w sf_At
    have b1 := hta i
    have b2 := sf_mb (x := (ta i).toInt) (y := (c : Int)) b1 (b := 100) (by omega)
    have e0 : ((ta i).toInt64 * (nI c).toInt64).toInt = (ta i).toInt64.toInt * ((nI c).toInt64).toInt := sf_imul (by rw [nI_l (by omega), sf_lnt (by omega), Int32.toInt_toInt64]; omega) (by rw [nI_l (by omega), sf_lnt (by omega), Int32.toInt_toInt64]; omega)
    rw [a2 i (by omega), if_pos rfl, e0, nI_l (by omega), sf_lnt (by omega), Int32.toInt_toInt64, Int.mul_comm]
  refine sy_met hm hn (fun i j hi hj => ?_) fun b fw ra ca pm hb => ?_
  · by_cases z : j < n
    · rw [e1 i j hi z]
      unfold sf_At; rw [if_neg (by omega)]
      have := hce (16 * t + 4 * i + j)
      exact ⟨by omega, fun _ => this⟩
    · rw [show j = n by omega, e2 i hi]
      refine ⟨?_, fun q => by omega⟩
      unfold sf_At; rw [if_pos rfl]
      have := sf_mb (x := (c : Int)) (y := (ta i).toInt) (a := 100) (by omega) (hta i)
      omega
  · rw [sf_mt_F e1 e2] at hb
    refine ⟨?_, h b fw w2 ra ca pm hb⟩
    rcases hb with y | y <;> rw [y.1] <;> rfl
theorem sy_reaches {post : Int32 → SY → Prop} (ht : t < 2) (hm : m ≤ 4) (hn : n ≤ 4) (hce : ∀ j, (ce j).toInt.natAbs ≤ 12) (hta : ∀ j, (ta j).toInt.natAbs ≤ 200)
    (h : ∀ (b : Int32) fw w ra ca pm, ((b = 1 ∧ sf_mt m n (sf_At ce ta t) 1) ∨ (b = 0 ∧ ¬ sf_mt m n (sf_At ce ta t) 1)) → post b (nI m, nI n, fw, ce, ta, w, ra, ca, pm)) :
    wpY_reaches post (nI m, nI n, fw, ce, ta, w, ra, ca, pm) (nI t) := by
  unfold wpY_reaches
  dsimp only
  refine sy_bad ht (br_t rfl ?_)
  refine sy_meets (c := 1) ht (by omega) hm hn hce hta fun b fw w ra ca pm hb => ?_
  rcases hb with ⟨y1, y2⟩ | ⟨y1, y2⟩
  · rw [y1]; exact br_f (by decide) (h 1 fw w ra ca pm (Or.inl ⟨rfl, y2⟩))
  · rw [y1]; exact br_t rfl (h 0 fw w ra ca pm (Or.inr ⟨rfl, y2⟩))
theorem sy_mul_l {post : Int32 → SY → Prop} (ht : t < 2) (hm : m ≤ 4) (hn : n ≤ 4) (hce : ∀ j, (ce j).toInt.natAbs ≤ 12) (hta : ∀ j, (ta j).toInt.natAbs ≤ 200)
    (h : ∀ (R : Nat) fw w ra ca pm, sf_lm m n (sf_At ce ta t) R → post (nI R) (nI m, nI n, fw, ce, ta, w, ra, ca, pm)) :
    ∀ (d c N : Nat) (fw : Int32) (w : Nat → Int64) (ra ca pm : Nat → Int32), c + d = 101 → d < N → 1 ≤ c → (∀ c', 1 ≤ c' → c' < c → ¬ sf_mt m n (sf_At ce ta t) ((c' : Nat) : Int)) →
    wY_multiple_12 post (nI t) N (nI c) (nI m) (nI n) fw ce ta w ra ca pm := by
  intro d
  induction d with
  | zero =>
    intro c N fw w ra ca pm hc hN h1 hp
    obtain ⟨N, rfl⟩ : ∃ N', N = N' + 1 := ⟨N - 1, by omega⟩
    rw [wY_multiple_12]
    exact br_t (nI_lt (a := 100) (b := c) (by omega) (by omega)) (h 0 _ _ _ _ _ (Or.inl ⟨rfl, fun k k1 k2 => hp k k1 (by omega)⟩))
  | succ d ih =>
    intro c N fw w ra ca pm hc hN h1 hp
    obtain ⟨N, rfl⟩ : ∃ N', N = N' + 1 := ⟨N - 1, by omega⟩
    rw [wY_multiple_12]
    refine br_f (nI_nlt (a := 100) (b := c) (by omega) (by omega)) ?_
    refine sy_meets ht (by omega) hm hn hce hta fun b fw w ra ca pm hb => ?_
    rcases hb with ⟨y1, y2⟩ | ⟨y1, y2⟩
    · rw [y1]
      exact br_f (by decide) (h c fw w ra ca pm (Or.inr ⟨h1, by omega, y2, hp⟩))
    · rw [y1]
      refine br_t rfl fun x ex => ?_
      rw [ex, nI_1]
      refine ih (c + 1) N fw w ra ca pm (by omega) (by omega) (by omega) fun k k1 k2 => ?_
      by_cases z : k = c
      · rw [z]; exact y2
      · exact hp k k1 (by omega)
theorem sy_multiple {post : Int32 → SY → Prop} (ht : t < 2) (hm : m ≤ 4) (hn : n ≤ 4) (hce : ∀ j, (ce j).toInt.natAbs ≤ 12) (hta : ∀ j, (ta j).toInt.natAbs ≤ 200)
    (h : ∀ (R : Nat) fw w ra ca pm, sf_lm m n (sf_At ce ta t) R → post (nI R) (nI m, nI n, fw, ce, ta, w, ra, ca, pm)) :
    wpY_multiple post (nI m, nI n, fw, ce, ta, w, ra, ca, pm) (nI t) := by
  unfold wpY_multiple
  dsimp only
  exact sy_bad ht (br_t rfl ⟨101, sy_mul_l ht hm hn hce hta h 100 1 101 fw w ra ca pm (by omega) (by omega) (by omega) (fun k k1 k2 => by omega)⟩)
theorem sy_wi_in {post : Int32 → SY → Prop} {J : Int32 → Int32 → Int32 → Int32 → (Nat → Int32) → (Nat → Int32) → (Nat → Int64) → (Nat → Int32) → (Nat → Int32) → (Nat → Int32) → Prop} {c : Nat} (ht : t < 2) (hc : c < 4) (hn : n ≤ 4)
    (h : ∀ w', (∀ a b, a < 4 → b < 5 → b ≠ n → w' (5 * a + b) = w (5 * a + b)) → (∀ a, a < 4 → w' (5 * a + n) = (ce (16 * t + 4 * a + c)).toInt64) →
      wpY_met (fun r u => match u with | (f_m, f_n, f_width, a_cells, a_target, a_work, a_rowAt, a_columnAt, a_perm) => ((r = 0 → (post 0 (f_m, f_n, f_width, a_cells, a_target, a_work, a_rowAt, a_columnAt, a_perm))) ∧ (¬ r = 0 → (∀ x : Int32, x = nI c + 1 → (J x f_m f_n f_width a_cells a_target a_work a_rowAt a_columnAt a_perm))))) (fm, nI n, fw, ce, ta, w', ra, ca, pm)) :
    ∀ (d i N : Nat) (w1 : Nat → Int64), i + d = 4 → d < N → (∀ a b, a < 4 → b < 5 → w1 (5 * a + b) = if b = n ∧ a < i then (ce (16 * t + 4 * a + c)).toInt64 else w (5 * a + b)) →
    wY_within_29 post J (nI t) (nI c) fm (nI n) fw N (nI i) ce ta w1 ra ca pm := by
  intro d
  induction d with
  | zero =>
    intro i N w1 hi hN hw
    obtain ⟨N, rfl⟩ : ∃ N', N = N' + 1 := ⟨N - 1, by omega⟩
    rw [wY_within_29]
    refine br_t (nI_le (a := 4) (b := i) (by omega) (by omega)) ?_
    refine h w1 (fun a b ha hb hne => ?_) (fun a ha => ?_)
    · rw [hw a b ha hb, if_neg (by omega)]
    · rw [hw a n ha (by omega), if_pos (by omega)]
  | succ d ih =>
    intro i N w1 hi hN hw
    obtain ⟨N, rfl⟩ : ∃ N', N = N' + 1 := ⟨N - 1, by omega⟩
    rw [wY_within_29]
    refine br_f (nI_ge (a := i) (b := 4) (by omega) (by omega)) ?_
    simp only [sf_ix16, sf_ix, sf_cl i n (by omega), sf_cl16 t i c (by omega)]
    refine ⟨vp_in_nI (by omega) (by omega), vp_in_nI (by omega) (by omega), fun w2 e2 x3 e3 => ?_⟩
    rw [e3, nI_1]
    refine ih (i + 1) N w2 (by omega) (by omega) fun a b ha hb => ?_
    rw [e2, sf_u _ _ _ _ _ _ (by omega) hb, hw a b ha hb]
    by_cases q : a = i ∧ b = n
    · rw [if_pos q, if_pos (by omega), q.1]
    · rw [if_neg q]
      by_cases q2 : b = n ∧ a < i
      · rw [if_pos q2, if_pos (by omega)]
      · rw [if_neg q2, if_neg (by omega)]
theorem sy_wi_l {post : Int32 → SY → Prop} (ht : t < 2) (hm : m ≤ 4) (hn : n ≤ 4) (hce : ∀ j, (ce j).toInt.natAbs ≤ 12)
    (h : ∀ (b : Int32) fw w ra ca pm, ((b = 1 ∧ ∀ j, j < n → sf_mt m n (sf_Ac ce t j) 1) ∨ (b = 0 ∧ ¬ ∀ j, j < n → sf_mt m n (sf_Ac ce t j) 1)) → post b (nI m, nI n, fw, ce, ta, w, ra, ca, pm)) :
    ∀ (d c N : Nat) (fw : Int32) (w : Nat → Int64) (ra ca pm : Nat → Int32), c + d = n → d < N → (∀ c', c' < c → sf_mt m n (sf_Ac ce t c') 1) →
    wY_within_12 post (nI t) N (nI c) (nI m) (nI n) fw ce ta w ra ca pm := by
  intro d
  induction d with
  | zero =>
    intro c N fw w ra ca pm hc hN hp
    obtain ⟨N, rfl⟩ : ∃ N', N = N' + 1 := ⟨N - 1, by omega⟩
    rw [wY_within_12]
    exact br_t (nI_le (by omega) (by omega)) (h 1 _ _ _ _ _ (Or.inl ⟨rfl, fun a ha => hp a (by omega)⟩))
  | succ d ih =>
    intro c N fw w ra ca pm hc hN hp
    obtain ⟨N, rfl⟩ : ∃ N', N = N' + 1 := ⟨N - 1, by omega⟩
    rw [wY_within_12]
    refine br_f (nI_ge (by omega) (by omega)) ?_
    rw [show (1 : Int32) - nI t = nI (1 - t) from pk_sub (a := 1) (by omega)]
    refine sy_take (by omega) fun w1 hw1 => ⟨5, ?_⟩
    refine sy_wi_in (w := w1) ht (by omega) hn (fun w2 a1 a2 => ?_) 4 0 5 w1 (by omega) (by omega) (fun a b _ _ => by rw [if_neg (by omega)])
    have e1 : ∀ i j, i < m → j < n → sf_w w2 i j = sf_Ac ce t c i j := by
      intro i j hi hj
      unfold sf_w sf_Ac
      rw [if_neg (by omega), a1 i j (by omega) (by omega) (by omega), hw1 i j (by omega) (by omega), Int32.toInt_toInt64]
    have e2 : ∀ i, i < m → sf_w w2 i n = 1 * sf_Ac ce t c i 4 := by
      intro i hi
      unfold sf_w sf_Ac
      rw [a2 i (by omega), if_pos rfl, Int32.toInt_toInt64, Int.one_mul]
    refine sy_met hm hn (fun i j hi hj => ?_) fun b fw ra ca pm hb => ?_
    · by_cases z : j < n
      · rw [e1 i j hi z]
        unfold sf_Ac; rw [if_neg (by omega)]
        have := hce (16 * (1 - t) + 4 * i + j)
        exact ⟨by omega, fun _ => this⟩
      · rw [show j = n by omega, e2 i hi, Int.one_mul]
        refine ⟨?_, fun q => by omega⟩
        unfold sf_Ac; rw [if_pos rfl]
        have := hce (16 * t + 4 * i + c)
        omega
    · rw [sf_mt_F e1 e2] at hb
      rcases hb with ⟨y1, y2⟩ | ⟨y1, y2⟩
      · rw [y1]
        refine br_f (by decide) fun x ex => ?_
        rw [ex, nI_1]
        refine ih (c + 1) N fw w2 ra ca pm (by omega) (by omega) fun k k2 => ?_
        by_cases z : k = c
        · rw [z]; exact y2
        · exact hp k (by omega)
      · rw [y1]
        exact br_t rfl (h 0 fw w2 ra ca pm (Or.inr ⟨rfl, fun z => y2 (z c (by omega))⟩))
theorem sy_within {post : Int32 → SY → Prop} (ht : t < 2) (hm : m ≤ 4) (hn : n ≤ 4) (hce : ∀ j, (ce j).toInt.natAbs ≤ 12)
    (h : ∀ (b : Int32) fw w ra ca pm, ((b = 1 ∧ ∀ j, j < n → sf_mt m n (sf_Ac ce t j) 1) ∨ (b = 0 ∧ ¬ ∀ j, j < n → sf_mt m n (sf_Ac ce t j) 1)) → post b (nI m, nI n, fw, ce, ta, w, ra, ca, pm)) :
    wpY_within post (nI m, nI n, fw, ce, ta, w, ra, ca, pm) (nI t) := by
  unfold wpY_within
  dsimp only
  exact sy_bad ht (br_t rfl ⟨n + 1, sy_wi_l ht hm hn hce h n 0 (n + 1) fw w ra ca pm (by omega) (by omega) (fun k k2 => by omega)⟩)
theorem sy_t11 : ((List.range 5).all fun m => (List.range 5).all fun i => decide ((1 : Int32) <<< (nI m &&& 31) - 1 = nI (2 ^ m - 1) ∧ 2 ^ m - 1 < 16 ∧ (sy_bl (2 ^ m - 1) 5).length = m ∧ (i < m → (sy_bl (2 ^ m - 1) 5).getD i 0 = i))) = true := by decide +kernel
theorem sy_determinant {post : Int64 → SY → Prop} (ht : t < 2) (h1m : 1 ≤ m) (hm : m ≤ 4) (hn : n ≤ 4) (hce : ∀ j, (ce j).toInt.natAbs ≤ 12)
    (h0 : m ≠ n → post 0 (nI m, nI n, fw, ce, ta, w, ra, ca, pm))
    (h : ∀ (x : Int64) fw w ra ca pm, m = n → x.toInt = sf_dt n (sf_At ce ta t) → post x (nI m, nI n, fw, ce, ta, w, ra, ca, pm)) :
    wpY_determinant post (nI m, nI n, fw, ce, ta, w, ra, ca, pm) (nI t) := by
  unfold wpY_determinant
  dsimp only
  refine sy_bad ht (br_t rfl ?_)
  by_cases e : m = n
  · subst e
    refine br_t rfl ?_
    refine sy_take ht fun w1 hw1 => ?_
    have T := fun i (hi : i < 5) => sy_all2 sy_t11 (show m < 5 by omega) hi
    have T0 := T 0 (by omega)
    dsimp only
    intro x ex
    rw [T0.1] at ex
    rw [ex]
    refine sy_pickRows T0.2.1 fun ra1 hra => ?_
    refine sy_pickColumns (by omega) (by omega) fun ca1 hca => ?_
    rw [T0.2.2.1] at hra hca
    have hR : ∀ i, i < m → ra1 i = nI i ∧ i < 4 := fun i hi => ⟨by rw [hra i hi, (T i (by omega)).2.2.2 hi], by omega⟩
    have hC : ∀ j, j < m → ca1 j = nI j ∧ j < 5 := fun j hj => ⟨by rw [hca j hj, (T j (by omega)).2.2.2 hj], by omega⟩
    refine sy_minor (R := fun i => i) (C := fun j => j) h1m hm hR hC fun pm1 => ?_
    refine h _ _ w1 ra1 ca1 pm1 rfl ?_
    have e1 : sf_dt m (fun i j => sf_w w1 i j) = sf_dt m (sf_At ce ta t) := sf_dt_congr fun i j hi hj => sy_tk_w hm hm hw1 i j hi hj
    rw [e1]
    have hb := sf_dt_bd (k := m) (B := fun b => if b + 1 = m then 12 else 12) (f := sf_At ce ta t) (fun a b ha hb => by
      have : (if b + 1 = m then 12 else 12) = 12 := by split <;> rfl
      rw [this]
      unfold sf_At; rw [if_neg (by omega)]; exact hce _)
    have := sf_bd_np hm h1m 12 (by omega)
    exact Int64.toInt_ofInt_of_le (by omega) (by omega)
  · exact br_f (by rw [nI_eq (by omega) (by omega)]; exact e) (h0 e)
end
end
section
theorem sf_irem32 (x y : Int32) : (x - x / y * y).toInt = x.toInt.tmod y.toInt := by
  have e : (x % y).toInt = x.toInt.tmod y.toInt := Int32.toInt_mod x y
  have e2 : (x - x / y * y).toInt = (x.toInt - x.toInt.tdiv y.toInt * y.toInt).bmod (2 ^ 32) := by
    rw [Int32.toInt_sub, Int32.toInt_mul, Int32.toInt_div, Int.sub_bmod_bmod, ← Int.sub_bmod_bmod, Int.bmod_mul_bmod, Int.sub_bmod_bmod]
  rw [e2, Int.mul_comm, ← Int.tmod_def, ← e]
  exact Int.bmod_eq_of_le (by have := (x % y).le_toInt; omega) (by have := (x % y).toInt_lt; omega)
theorem sf_dvd032 (x y : Int32) : (x - x / y * y) = 0 ↔ y.toInt ∣ x.toInt := by
  have h0 : ∀ z : Int32, z = 0 ↔ z.toInt = 0 := fun z => by rw [← Int32.toInt_inj]; exact Iff.rfl
  rw [h0, sf_irem32, Int.dvd_iff_tmod_eq_zero]
theorem sf_oi32 (x y : Int32) (s : Int) : Int32.ofInt s + x * y = Int32.ofInt (s + x.toInt * y.toInt) := by
  rw [Int32.ofInt_add, Int32.ofInt_mul, Int32.ofInt_toInt, Int32.ofInt_toInt]
section
variable {m n t p : Nat} {fm fw : Int32} {ce ta : Nat → Int32} {w : Nat → Int64} {ra ca pm : Nat → Int32}
theorem sy_lf_l {post : Int32 → Prop} {i c : Nat} (ht : t < 2) (hi : i < 4) (hn : n ≤ 4) (hp : 1 ≤ p) (h6 : p ≤ 6) (hc : c < 2 ^ 31)
    (h : post (Int32.ofInt (sf_S n (fun j => (ce (16 * t + 4 * i + j)).toInt * ((c / p ^ j % p : Nat) : Int))))) :
    ∀ (d j N : Nat), j + d = n → d < N → wY_left_9 post (nI t) (nI i) (nI p) fm (nI n) fw ce ta w ra ca pm N (Int32.ofInt (sf_S j (fun j => (ce (16 * t + 4 * i + j)).toInt * ((c / p ^ j % p : Nat) : Int)))) (nI (c / p ^ j)) (nI j) := by
  intro d
  induction d with
  | zero =>
    intro j N hj hN
    obtain ⟨N, rfl⟩ : ∃ N', N = N' + 1 := ⟨N - 1, by omega⟩
    rw [wY_left_9]
    have ej : j = n := by omega
    subst ej
    exact br_t (nI_le (by omega) (by omega)) h
  | succ d ih =>
    intro j N hj hN
    obtain ⟨N, rfl⟩ : ∃ N', N = N' + 1 := ⟨N - 1, by omega⟩
    rw [wY_left_9]
    refine br_f (nI_ge (by omega) (by omega)) ?_
    have hle : c / p ^ j ≤ c := Nat.div_le_self _ _
    have hmd := Nat.mod_lt (c / p ^ j) (show p > 0 by omega)
    have hne : ¬ nI p = 0 := nI_ne0 (by omega) (by omega)
    rw [sf_ix16, sf_cl16 _ _ _ (by omega), pk_rem (by omega) (by omega) (by omega), pk_div (by omega) (by omega) (by omega)]
    refine ⟨vp_in_nI (by omega) (by omega), hne, fun x ex => ⟨hne, fun y ey z ez => ?_⟩⟩
    rw [ex, ey, ez, nI_1, sf_oi32, nI_toInt (by omega), Nat.div_div_eq_div_mul, ← Nat.pow_succ]
    exact ih (j + 1) N (by omega) (by omega)
theorem sy_left {post : Int32 → Prop} {i c : Nat} (ht : t < 2) (hi : i < 4) (hn : n ≤ 4) (hp : 1 ≤ p) (h6 : p ≤ 6) (hc : c < 2 ^ 31)
    (h : post (Int32.ofInt (sf_S n (fun j => (ce (16 * t + 4 * i + j)).toInt * ((c / p ^ j % p : Nat) : Int))))) : wpY_left post (fm, nI n, fw, ce, ta, w, ra, ca, pm) (nI t) (nI i) (nI c) (nI p) := by
  have := sy_lf_l (post := post) (fm := fm) (fw := fw) (ta := ta) (w := w) (ra := ra) (ca := ca) (pm := pm) ht hi hn hp h6 hc h n 0 (n + 1) (by omega) (by omega)
  rw [Nat.pow_zero, Nat.div_one] at this
  exact ⟨n + 1, this⟩
/-- row i of the system at a code -/
def sy_rw (ce ta : Nat → Int32) (n t p i c : Nat) : Prop := (p : Int) ∣ sf_S n (fun j => (ce (16 * t + 4 * i + j)).toInt * ((c / p ^ j % p : Nat) : Int)) - (ta i).toInt
theorem sy_cd {c : Nat} (hn : n ≤ 4) : sf_cd m n p (sf_At ce ta t) (sf_dg p n c) ↔ ∀ i, i < m → sy_rw ce ta n t p i c := by
  have e : ∀ i, sf_S n (fun j => sf_At ce ta t i j * sf_dg p n c j) = sf_S n (fun j => (ce (16 * t + 4 * i + j)).toInt * ((c / p ^ j % p : Nat) : Int)) := fun i => sf_S_congr fun j hj => by
    unfold sf_At sf_dg; rw [if_neg (by omega), if_pos hj]
  unfold sf_cd sy_rw
  constructor
  · intro h i hi
    have := h i hi
    rw [e] at this; exact this
  · intro h i hi
    rw [e]; exact h i hi
theorem sy_s66 {post : Int32 → Prop} {J : Int32 → Int32 → Prop} {c : Nat} {x3 : Int32} {x4 : Nat} (ht : t < 2) (hm : m ≤ 4) (hn : n ≤ 4) (hp : 1 ≤ p) (h6 : p ≤ 6) (hc : c < 2 ^ 31) (hce : ∀ j, (ce j).toInt.natAbs ≤ 12) (hta : ∀ j, (ta j).toInt.natAbs ≤ 200)
    (h1 : (∀ i, i < m → sy_rw ce ta n t p i c) → J (nI (x4 + 1)) (nI (c + 1))) (h0 : (¬ ∀ i, i < m → sy_rw ce ta n t p i c) → J (nI x4) (nI (c + 1))) :
    ∀ (d i N : Nat) (g : Int32), i + d = m → d < N → ((g = 1 ∧ ∀ a, a < i → sy_rw ce ta n t p a c) ∨ (g = 0 ∧ ¬ ∀ a, a < i → sy_rw ce ta n t p a c)) →
      wY_solutions_66 post J (nI t) (nI p) x3 (nI x4) (nI c) (nI m) (nI n) fw ce ta w ra ca pm N g (nI i) := by
  intro d
  induction d with
  | zero =>
    intro i N g hi hN hg
    obtain ⟨N, rfl⟩ : ∃ N', N = N' + 1 := ⟨N - 1, by omega⟩
    rw [wY_solutions_66]
    have ei : i = m := by omega
    subst ei
    refine br_t (nI_le (by omega) (by omega)) ?_
    rcases hg with ⟨y1, y2⟩ | ⟨y1, y2⟩
    · rw [y1]
      refine br_f (by decide) fun x ex y ey => ?_
      rw [ex, ey, nI_1, nI_1]; exact h1 y2
    · rw [y1]
      refine br_t rfl fun x ex => ?_
      rw [ex, nI_1]; exact h0 y2
  | succ d ih =>
    intro i N g hi hN hg
    obtain ⟨N, rfl⟩ : ∃ N', N = N' + 1 := ⟨N - 1, by omega⟩
    rw [wY_solutions_66]
    refine br_f (nI_ge (by omega) (by omega)) ?_
    refine sy_left ht (by omega) hn hp h6 hc ?_
    rw [nI_clamp (by omega)]
    have hb : (sf_S n (fun j => (ce (16 * t + 4 * i + j)).toInt * ((c / p ^ j % p : Nat) : Int))).natAbs ≤ n * (12 * 6) := sf_S_bd fun j hj => sf_mb (hce _) (by have := Nat.mod_lt (c / p ^ j) (show p > 0 by omega); omega)
    have hb2 : n * (12 * 6) ≤ 4 * (12 * 6) := Nat.mul_le_mul_right _ hn
    have ht2 := hta i
    have es : (Int32.ofInt (sf_S n (fun j => (ce (16 * t + 4 * i + j)).toInt * ((c / p ^ j % p : Nat) : Int)))).toInt = sf_S n (fun j => (ce (16 * t + 4 * i + j)).toInt * ((c / p ^ j % p : Nat) : Int)) := Int32.toInt_ofInt_of_le (by omega) (by omega)
    have ed : (Int32.ofInt (sf_S n (fun j => (ce (16 * t + 4 * i + j)).toInt * ((c / p ^ j % p : Nat) : Int))) - ta i).toInt = sf_S n (fun j => (ce (16 * t + 4 * i + j)).toInt * ((c / p ^ j % p : Nat) : Int)) - (ta i).toInt := by
      rw [Int32.toInt_sub, es]
      exact Int.bmod_eq_of_le (by omega) (by omega)
    have key : ∀ P : Prop, P ↔ P := fun _ => Iff.rfl
    refine ⟨vp_in_nI (by omega) (by omega), nI_ne0 (by omega) (by omega), br_c (fun a x ex => ?_) (fun a x ex => ?_)⟩
    · rw [sf_dvd032, ed, nI_toInt (by omega)] at a
      rw [ex, nI_1]
      refine ih (i + 1) N g (by omega) (by omega) ?_
      rcases hg with ⟨y1, y2⟩ | ⟨y1, y2⟩
      · refine Or.inl ⟨y1, fun z hz => ?_⟩
        by_cases q : z = i
        · rw [q]; exact a
        · exact y2 z (by omega)
      · exact Or.inr ⟨y1, fun z => y2 fun b hb => z b (by omega)⟩
    · rw [sf_dvd032, ed, nI_toInt (by omega)] at a
      rw [ex, nI_1]
      exact ih (i + 1) N 0 (by omega) (by omega) (Or.inr ⟨rfl, fun z => a (z i (by omega))⟩)
theorem sy_s54 {post : Int32 → Prop} (ht : t < 2) (hm : m ≤ 4) (hn : n ≤ 4) (hp : 1 ≤ p) (h6 : p ≤ 6) (hpn : p ^ n < 2 ^ 30) (hce : ∀ j, (ce j).toInt.natAbs ≤ 12) (hta : ∀ j, (ta j).toInt.natAbs ≤ 200)
    (h : post (nI (sf_Q (p ^ n) (fun c => sf_ind (sf_cd m n p (sf_At ce ta t) (sf_dg p n c)))))) :
    ∀ (d c N : Nat), c + d = p ^ n → d < N → wY_solutions_54 post (nI t) (nI p) (nI (p ^ n)) (nI m) (nI n) fw ce ta w ra ca pm N (nI (sf_Q c (fun c => sf_ind (sf_cd m n p (sf_At ce ta t) (sf_dg p n c))))) (nI c) := by
  intro d
  induction d with
  | zero =>
    intro c N hc hN
    obtain ⟨N, rfl⟩ : ∃ N', N = N' + 1 := ⟨N - 1, by omega⟩
    rw [wY_solutions_54]
    have ec : c = p ^ n := by omega
    subst ec
    exact br_t (nI_le (Nat.le_refl _) (by omega)) h
  | succ d ih =>
    intro c N hc hN
    obtain ⟨N, rfl⟩ : ∃ N', N = N' + 1 := ⟨N - 1, by omega⟩
    rw [wY_solutions_54]
    refine br_f (nI_ge (by omega) (by omega)) ⟨m + 1, ?_⟩
    have hi := ih (c + 1) N (by omega) (by omega)
    have eq : sf_Q (c + 1) (fun c => sf_ind (sf_cd m n p (sf_At ce ta t) (sf_dg p n c))) = sf_Q c (fun c => sf_ind (sf_cd m n p (sf_At ce ta t) (sf_dg p n c))) + sf_ind (sf_cd m n p (sf_At ce ta t) (sf_dg p n c)) := rfl
    rw [eq] at hi
    refine sy_s66 ht hm hn hp h6 (by omega) hce hta (fun hy => ?_) (fun hno => ?_) m 0 (m + 1) 1 (by omega) (by omega) (Or.inl ⟨rfl, fun a ha => by omega⟩)
    · rw [sf_ind_t ((sy_cd hn).mpr hy)] at hi; exact hi
    · rw [sf_ind_f (fun z => hno ((sy_cd hn).mp z)), Nat.add_zero] at hi; exact hi
theorem sy_s29 {post : Int32 → Prop} (hn : n ≤ 4) (h : ∃ n54, wY_solutions_54 post (nI t) (nI p) (nI (p ^ n)) (nI m) (nI n) fw ce ta w ra ca pm n54 0 0) :
    ∀ (d j N : Nat), j + d = n → d < N → wY_solutions_29 post (nI t) (nI p) (nI m) (nI n) fw ce ta w ra ca pm N (nI (p ^ j)) (nI j) := by
  intro d
  induction d with
  | zero =>
    intro j N hj hN
    obtain ⟨N, rfl⟩ : ∃ N', N = N' + 1 := ⟨N - 1, by omega⟩
    rw [wY_solutions_29]
    have ej : j = n := by omega
    subst ej
    exact br_t (nI_le (by omega) (by omega)) h
  | succ d ih =>
    intro j N hj hN
    obtain ⟨N, rfl⟩ : ∃ N', N = N' + 1 := ⟨N - 1, by omega⟩
    rw [wY_solutions_29]
    refine br_f (nI_ge (by omega) (by omega)) fun x ex y ey => ?_
    rw [ex, ey, nI_1, pk_mul, ← Nat.pow_succ]
    exact ih (j + 1) N (by omega) (by omega)
theorem sy_solutions {post : Int32 → Prop} (hp : 1 ≤ p) (h6 : p ≤ 6) (ht : t < 2) (hm : m ≤ 4) (hn : n ≤ 4) (hce : ∀ j, (ce j).toInt.natAbs ≤ 12) (hta : ∀ j, (ta j).toInt.natAbs ≤ 200)
    (h : post (nI (sf_ct m n p (sf_At ce ta t)))) : wpY_solutions post (nI m, nI n, fw, ce, ta, w, ra, ca, pm) (nI t) (nI p) := by
  have hpn : p ^ n < 2 ^ 30 := by
    have a1 : p ^ n ≤ 6 ^ n := Nat.pow_le_pow_left h6 n
    have a2 : 6 ^ n ≤ 6 ^ 4 := Nat.pow_le_pow_right (by omega) hn
    omega
  have e : sf_ct m n p (sf_At ce ta t) = sf_Q (p ^ n) (fun c => sf_ind (sf_cd m n p (sf_At ce ta t) (sf_dg p n c))) := sf_cn_code (by omega) n _
  rw [e] at h
  unfold wpY_solutions
  dsimp only
  refine sy_bad ht (br_t rfl (br_f (nI_nlt (b := 1) hp (by omega)) (br_t (nI_le (b := 6) h6 (by omega)) ⟨n + 1, ?_⟩)))
  exact sy_s29 hn ⟨p ^ n + 1, sy_s54 ht hm hn hp h6 hpn hce hta h (p ^ n) 0 (p ^ n + 1) (by omega) (by omega)⟩ n 0 (n + 1) (by omega) (by omega)
end
end
section
def sr_OK (m n : Nat) (ce ta : Nat → Int32) : Prop := 1 ≤ m ∧ m ≤ 4 ∧ 1 ≤ n ∧ n ≤ 4 ∧ (∀ j, (ce j).toInt.natAbs ≤ 12) ∧ (∀ j, (ta j).toInt.natAbs ≤ 200)
/-- the same sizes, cells and targets; all else is worked out anew -/
def i_Rel (k : Nat) (u : SX) (v : SY) : Prop :=
  ∃ (m n : Nat) (fo : Int32) (mo : Int64) (de : Int32) (ce ta : Nat → Int32) (w fa : Nat → Int64) (fw : Int32) (w' : Nat → Int64) (ra ca pm : Nat → Int32),
    sr_OK m n ce ta ∧ u = (nI m, nI n, fo, mo, de, ce, ta, w, fa) ∧ v = (nI m, nI n, fw, ce, ta, w', ra, ca, pm)
theorem sr_el {k : Nat} {u : SX} {v : SY} {P : SX → SY → Prop}
    (h : ∀ (m n : Nat) (fo : Int32) (mo : Int64) (de : Int32) (ce ta : Nat → Int32) (w fa : Nat → Int64) (fw : Int32) (w' : Nat → Int64) (ra ca pm : Nat → Int32), sr_OK m n ce ta → P (nI m, nI n, fo, mo, de, ce, ta, w, fa) (nI m, nI n, fw, ce, ta, w', ra, ca, pm))
    (I : i_Rel k u v) : P u v := by
  obtain ⟨m, n, fo, mo, de, ce, ta, w, fa, fw, w', ra, ca, pm, hok, e1, e2⟩ := I
  rw [e1, e2]
  exact h m n fo mo de ce ta w fa fw w' ra ca pm hok
theorem sr_in {k m n : Nat} {fo : Int32} {mo : Int64} {de : Int32} {ce ta : Nat → Int32} {w fa : Nat → Int64} {fw : Int32} {w' : Nat → Int64} {ra ca pm : Nat → Int32} (h : sr_OK m n ce ta) :
    i_Rel k (nI m, nI n, fo, mo, de, ce, ta, w, fa) (nI m, nI n, fw, ce, ta, w', ra, ca, pm) :=
  ⟨m, n, fo, mo, de, ce, ta, w, fa, fw, w', ra, ca, pm, h, rfl, rfl⟩
theorem i_up {k : Nat} {u : SX} {v : SY} (h : i_Rel k u v) : i_Rel (k + 5) u v := h
/-- the constructors' clamp -/
def sr_cl (x : Int32) : Int32 := if 1 ≤ x then (if x ≤ 4 then x else 4) else 1
theorem sr_cl_n (x : Int32) : ∃ j : Nat, 1 ≤ j ∧ j ≤ 4 ∧ sr_cl x = nI j := by
  unfold sr_cl
  by_cases a : 1 ≤ x
  · rw [if_pos a]
    by_cases b : x ≤ 4
    · rw [if_pos b]
      have h0 : ¬ x < 0 := by
        rw [Int32.lt_iff_toInt_lt]
        rw [Int32.le_iff_toInt_le] at a
        have : (1 : Int32).toInt = 1 := rfl
        have : (0 : Int32).toInt = 0 := rfl
        omega
      obtain ⟨j, hj, e⟩ := nI_of2 (M := 4) (n := 4) rfl h0 b
      refine ⟨j, ?_, hj, e⟩
      rw [e, show (1 : Int32) = nI 1 from rfl, nI_leI (by omega) (by omega)] at a
      exact a
    · rw [if_neg b]; exact ⟨4, by omega, by omega, rfl⟩
  · rw [if_neg a]; exact ⟨1, by omega, by omega, rfl⟩
theorem sr_x0 {post : SX → Prop} (k0 k1 : Int32) (h : post (sr_cl k0, sr_cl k1, 0, 0, 0, (fun _ => 0), (fun _ => 0), (fun _ => 0), (fun _ => 0))) : wpX_init post k0 k1 := by
  have key : ∀ fm, post (fm, sr_cl k1, 0, 0, 0, (fun _ => 0), (fun _ => 0), (fun _ => 0), (fun _ => 0)) → wX_init_61 post k1 fm 0 0 0 0 (fun _ => 0) (fun _ => 0) (fun _ => 0) (fun _ => 0) := by
    intro fm hp
    unfold wX_init_61 wX_init_72
    unfold sr_cl at hp
    refine br_c (fun a => br_c (fun b => ?_) (fun b => ?_)) (fun a => br_t (by decide) ?_)
    · rw [if_pos a, if_pos b] at hp; exact hp
    · rw [if_pos a, if_neg b] at hp; exact hp
    · rw [if_neg a] at hp; exact hp
  unfold wpX_init wX_init_45
  have e : sr_cl k0 = if 1 ≤ k0 then (if k0 ≤ 4 then k0 else 4) else 1 := rfl
  refine br_c (fun a => br_c (fun b => key _ ?_) (fun b => key _ ?_)) (fun a => br_t (by decide) (key _ ?_))
  · rw [e, if_pos a, if_pos b] at h; exact h
  · rw [e, if_pos a, if_neg b] at h; exact h
  · rw [e, if_neg a] at h; exact h
theorem sr_y0 {post : SY → Prop} (k0 k1 : Int32) (h : post (sr_cl k0, sr_cl k1, 0, (fun _ => 0), (fun _ => 0), (fun _ => 0), (fun _ => 0), (fun _ => 0), (fun _ => 0))) : wpY_init post k0 k1 := by
  have key : ∀ fm, post (fm, sr_cl k1, 0, (fun _ => 0), (fun _ => 0), (fun _ => 0), (fun _ => 0), (fun _ => 0), (fun _ => 0)) → wY_init_68 post k1 fm 0 0 0 (fun _ => 0) (fun _ => 0) (fun _ => 0) (fun _ => 0) (fun _ => 0) (fun _ => 0) := by
    intro fm hp
    unfold wY_init_68
    unfold sr_cl at hp
    refine br_c (fun a => br_c (fun b => ?_) (fun b => ?_)) (fun a => ?_)
    · rw [if_pos a, if_pos b] at hp; exact hp
    · rw [if_pos a, if_neg b] at hp; exact hp
    · rw [if_neg a] at hp; exact hp
  unfold wpY_init
  have e : sr_cl k0 = if 1 ≤ k0 then (if k0 ≤ 4 then k0 else 4) else 1 := rfl
  refine br_c (fun a => br_c (fun b => key _ ?_) (fun b => key _ ?_)) (fun a => key _ ?_)
  · rw [e, if_pos a, if_pos b] at h; exact h
  · rw [e, if_pos a, if_neg b] at h; exact h
  · rw [e, if_neg a] at h; exact h
theorem i_vc0 (k0 : Int32) (k1 : Int32) : wpX_init (fun u => wpY_init (fun v => i_Rel 2 u v) k0 k1) k0 k1 := by
  obtain ⟨m, m1, m2, em⟩ := sr_cl_n k0
  obtain ⟨n, n1, n2, en⟩ := sr_cl_n k1
  refine sr_x0 k0 k1 (sr_y0 k0 k1 ?_)
  rw [em, en]
  exact sr_in ⟨m1, m2, n1, n2, fun _ => show (0 : Int32).toInt.natAbs ≤ 12 by decide, fun _ => show (0 : Int32).toInt.natAbs ≤ 200 by decide⟩
theorem i_vc_rows {k : Nat} {u : SX} {v : SY} (I : i_Rel k u v) (hk : k + 5 ≤ 2562) : wpX_rows (fun r => wpY_rows (fun r' => r' = r ∧ i_Rel (k + 5) u v) v) u := by
  refine sr_el (P := fun u v => wpX_rows (fun r => wpY_rows (fun r' => r' = r ∧ i_Rel (k + 5) u v) v) u) ?_ I
  intro m n fo mo de ce ta w fa fw w' ra ca pm hok
  exact ⟨rfl, sr_in hok⟩
theorem i_vc_columns {k : Nat} {u : SX} {v : SY} (I : i_Rel k u v) (hk : k + 5 ≤ 2562) : wpX_columns (fun r => wpY_columns (fun r' => r' = r ∧ i_Rel (k + 5) u v) v) u := by
  refine sr_el (P := fun u v => wpX_columns (fun r => wpY_columns (fun r' => r' = r ∧ i_Rel (k + 5) u v) v) u) ?_ I
  intro m n fo mo de ce ta w fa fw w' ra ca pm hok
  exact ⟨rfl, sr_in hok⟩
/-- a table's number: good on both sides, or bad on both -/
theorem sr_tab (v1 : Int32) : (∃ t : Nat, t < 2 ∧ v1 = nI t) ∨ ((∀ post : Int32 → Prop, post 0 → wpX_isTable post v1) ∧ (∀ (post : Int32 → Prop) (u : SY), post 1 → wpY_bad post u v1)) := by
  by_cases a : v1 = 0
  · exact Or.inl ⟨0, by omega, a⟩
  · by_cases b : v1 = 1
    · exact Or.inl ⟨1, by omega, b⟩
    · refine Or.inr ⟨fun post h => br_f a (br_f b h), fun post u h => ?_⟩
      obtain ⟨f1, f2, f3, f4, f5, f6, f7, f8, f9⟩ := u
      unfold wpY_bad
      dsimp only
      refine br_c (fun _ => h) (fun c => br_c (fun d => ?_) (fun _ => h))
      exfalso
      obtain ⟨j, hj, e⟩ := nI_of2 (M := 1) (n := 1) rfl c d
      have : j = 0 ∨ j = 1 := by omega
      rcases this with rfl | rfl
      · exact a e
      · exact b e
theorem sr_sm (x : Int32) : ((∀ post : Int32 → Prop, post 1 → wpX_isSmall post x) ∧ (∀ (post : Int32 → Prop) (u : SY), post 0 → wpY_far post u x) ∧ x.toInt.natAbs ≤ 12) ∨
    ((∀ post : Int32 → Prop, post 0 → wpX_isSmall post x) ∧ (∀ (post : Int32 → Prop) (u : SY), post 1 → wpY_far post u x) ∧ ¬ x.toInt.natAbs ≤ 12) := by
  have e1 : ((-12 : Int32)).toInt = -12 := rfl
  have e2 : ((12 : Int32)).toInt = 12 := rfl
  have h1 : x < -12 ↔ x.toInt < -12 := by rw [Int32.lt_iff_toInt_lt, e1]
  have h2 : 12 < x ↔ 12 < x.toInt := by rw [Int32.lt_iff_toInt_lt, e2]
  have h3 : x ≤ 12 ↔ x.toInt ≤ 12 := by rw [Int32.le_iff_toInt_le, e2]
  by_cases a : x.toInt.natAbs ≤ 12
  · refine Or.inl ⟨fun post h => br_f (by rw [h1]; omega) (br_f (by rw [h2]; omega) h), fun post u h => ?_, a⟩
    obtain ⟨f1, f2, f3, f4, f5, f6, f7, f8, f9⟩ := u
    exact br_f (by rw [h1]; omega) (br_t (by rw [h3]; omega) h)
  · refine Or.inr ⟨fun post h => ?_, fun post u h => ?_, a⟩
    · refine br_c (fun _ => h) (fun b => br_t ?_ h)
      rw [h1] at b; rw [h2]; omega
    · obtain ⟨f1, f2, f3, f4, f5, f6, f7, f8, f9⟩ := u
      refine br_c (fun _ => h) (fun b => br_f ?_ h)
      rw [h1] at b; rw [h3]; omega
theorem sr_upd {ce : Nat → Int32} {k B : Nat} {x : Int32} (h : ∀ j, (ce j).toInt.natAbs ≤ B) (hx : x.toInt.natAbs ≤ B) : ∀ j, (upd ce k x j).toInt.natAbs ≤ B := by
  intro j
  by_cases z : j = k
  · rw [z, pk_us]; exact hx
  · rw [pk_un z]; exact h j
theorem i_vc_set {k : Nat} {u : SX} {v : SY} (I : i_Rel k u v) (hk : k + 5 ≤ 2562) (v1 : Int32) (v2 : Int32) (v3 : Int32) : wpX_set (fun r u' => wpY_set (fun r' v' => r' = r ∧ i_Rel (k + 5) u' v') v v1 v2 v3) u v1 v2 v3 := by
  refine sr_el (P := fun u v => wpX_set (fun r u' => wpY_set (fun r' v' => r' = r ∧ i_Rel (k + 5) u' v') v v1 v2 v3) u v1 v2 v3) ?_ I
  intro m n fo mo de ce ta w fa fw w' ra ca pm hok
  have hI : i_Rel (k + 5) (nI m, nI n, fo, mo, de, ce, ta, w, fa) (nI m, nI n, fw, ce, ta, w', ra, ca, pm) := sr_in hok
  obtain ⟨m1, m2, n1, n2, hce, hta⟩ := hok
  unfold wpX_set wpY_set
  dsimp only
  rcases sr_tab v1 with ⟨t, ht, e⟩ | ⟨hX, hY⟩
  · subst e
    refine sx_tab ht (br_f (by decide) ?_)
    by_cases a : v2 < 0
    · exact br_t a (sy_bad ht (br_t rfl (br_t a ⟨rfl, hI⟩)))
    · refine br_f a ?_
      obtain ⟨q, hq, e⟩ := nI_of a
      subst e
      have e4 : nI q >>> ((2 : Int32) &&& 31) = nI (q / 4) := pk_shrN hq _ 2 (by decide)
      have e3 : nI q &&& 3 = nI (q % 4) := pk_andN (by omega) 2 (by decide)
      have d4 : nI q / 4 = nI (q / 4) := pk_div (d := 4) hq (by omega) (by omega)
      have d3 : nI q - nI q / 4 * 4 = nI (q % 4) := pk_rem (d := 4) hq (by omega) (by omega)
      rw [e4, e3, d3, d4]
      by_cases b : m ≤ q / 4
      · have b' := nI_le b (show q / 4 < 2 ^ 31 by omega)
        exact br_t b' (sy_bad ht (br_t rfl (br_f a ⟨by decide, br_t b' ⟨rfl, hI⟩⟩)))
      · have b' : ¬ nI m ≤ nI (q / 4) := nI_ge (by omega) (by omega)
        refine br_f b' ?_
        by_cases c : q % 4 < n
        · have c' := nI_lt c (show n < 2 ^ 31 by omega)
          refine br_t c' ?_
          have eix : (16 : Int32) * nI t + nI q = nI (16 * t + q) := by rw [show (16 : Int32) = nI 16 from rfl, pk_mul, nI_add]
          rw [eix, nI_clamp (show 16 * t + q < 2 ^ 31 by omega)]
          have hin : vp_in (nI (16 * t + q)) 32 := vp_in_nI (by omega) (by omega)
          rcases sr_sm v3 with ⟨sX, sY, sb⟩ | ⟨sX, sY, _⟩
          · refine sX _ (br_f (by decide) ⟨hin, fun c1 ec => ?_⟩)
            refine sy_bad ht (br_t rfl (br_f a ⟨by decide, br_f b' ⟨by decide, br_t c' (sY _ _ (br_t rfl ⟨hin, fun c2 ec2 => ⟨rfl, ?_⟩⟩))⟩⟩))
            rw [ec2, ← ec]
            exact sr_in ⟨m1, m2, n1, n2, by rw [ec]; exact sr_upd hce sb, hta⟩
          · refine sX _ (br_t rfl ?_)
            exact sy_bad ht (br_t rfl (br_f a ⟨by decide, br_f b' ⟨by decide, br_t c' (sY _ _ (br_f (by decide) ⟨rfl, hI⟩))⟩⟩))
        · have c' : ¬ nI (q % 4) < nI n := nI_nlt (by omega) (by omega)
          exact br_f c' (sy_bad ht (br_t rfl (br_f a ⟨by decide, br_f b' ⟨by decide, br_f c' ⟨rfl, hI⟩⟩⟩)))
  · exact hX _ (br_t rfl (hY _ _ (br_f (by decide) ⟨rfl, hI⟩)))
/-- a row: below 0, or too large, or good -/
theorem sr_row (v : Int32) {m : Nat} (hm : m ≤ 4) : (∃ i : Nat, i < m ∧ v = nI i) ∨ (v < 0) ∨ (¬ v < 0 ∧ ¬ v < nI m ∧ nI m ≤ v) := by
  rcases pk_ix v (n := m) (by omega) with h | h | h
  · exact Or.inr (Or.inl h)
  · refine Or.inr (Or.inr ⟨fun z => ?_, fun z => ?_, h⟩)
    · have := nI_pos' (n := m) (by omega)
      rw [Int32.lt_iff_toInt_lt] at z
      rw [Int32.le_iff_toInt_le] at h this
      omega
    · rw [Int32.lt_iff_toInt_lt] at z
      rw [Int32.le_iff_toInt_le] at h
      omega
  · exact Or.inl h
theorem i_vc_aim {k : Nat} {u : SX} {v : SY} (I : i_Rel k u v) (hk : k + 5 ≤ 2562) (v1 : Int32) (v2 : Int32) : wpX_aim (fun r u' => wpY_aim (fun r' v' => r' = r ∧ i_Rel (k + 5) u' v') v v1 v2) u v1 v2 := by
  refine sr_el (P := fun u v => wpX_aim (fun r u' => wpY_aim (fun r' v' => r' = r ∧ i_Rel (k + 5) u' v') v v1 v2) u v1 v2) ?_ I
  intro m n fo mo de ce ta w fa fw w' ra ca pm hok
  have hI : i_Rel (k + 5) (nI m, nI n, fo, mo, de, ce, ta, w, fa) (nI m, nI n, fw, ce, ta, w', ra, ca, pm) := sr_in hok
  obtain ⟨m1, m2, n1, n2, hce, hta⟩ := hok
  unfold wpX_aim wpY_aim wpY_badRow
  dsimp only
  have f1 : (-200 : Int32).toInt = -200 := rfl
  have f2 : (200 : Int32).toInt = 200 := rfl
  rcases sr_row v1 m2 with ⟨i, hi, e⟩ | a | ⟨a, b, _⟩
  · subst e
    have a := nI_pos (n := i) (by omega)
    have b := nI_lt hi (show m < 2 ^ 31 by omega)
    refine br_f a (br_t b ?_)
    by_cases c : v2 < -200
    · exact br_t c (br_f a (br_t b (br_t rfl (br_t c ⟨rfl, hI⟩))))
    · refine br_f c ?_
      by_cases d : v2 ≤ 200
      · have hin : vp_in (nI i) 4 := vp_in_nI (by omega) (by omega)
        refine br_t d ⟨hin, fun t1 e1 => ?_⟩
        refine br_f a (br_t b (br_t rfl (br_f c (br_t d ⟨hin, fun t2 e2 => ⟨rfl, ?_⟩⟩))))
        rw [e2, ← e1]
        refine sr_in ⟨m1, m2, n1, n2, hce, ?_⟩
        rw [e1]
        refine sr_upd hta ?_
        rw [Int32.lt_iff_toInt_lt, f1] at c
        rw [Int32.le_iff_toInt_le, f2] at d
        omega
      · exact br_f d (br_f a (br_t b (br_t rfl (br_f c (br_f d ⟨rfl, hI⟩)))))
  · exact br_t a (br_t a (br_f (by decide) ⟨rfl, hI⟩))
  · exact br_f a (br_f b (br_f a (br_f b (br_f (by decide) ⟨rfl, hI⟩))))
theorem i_vc_get {k : Nat} {u : SX} {v : SY} (I : i_Rel k u v) (hk : k + 5 ≤ 2562) (v1 : Int32) (v2 : Int32) (v3 : Int32) : wpX_get (fun r => wpY_get (fun r' => r' = r ∧ i_Rel (k + 5) u v) v v1 v2 v3) u v1 v2 v3 := by
  refine sr_el (P := fun u v => wpX_get (fun r => wpY_get (fun r' => r' = r ∧ i_Rel (k + 5) u v) v v1 v2 v3) u v1 v2 v3) ?_ I
  intro m n fo mo de ce ta w fa fw w' ra ca pm hok
  have hI : i_Rel (k + 5) (nI m, nI n, fo, mo, de, ce, ta, w, fa) (nI m, nI n, fw, ce, ta, w', ra, ca, pm) := sr_in hok
  obtain ⟨m1, m2, n1, n2, hce, hta⟩ := hok
  unfold wpX_get wpY_get wpY_badRow wX_get_35 wX_get_36
  dsimp only
  rcases sr_tab v1 with ⟨t, ht, e⟩ | ⟨hX, hY⟩
  · subst e
    refine sx_tab ht (br_f (by decide) ?_)
    rcases sr_row v2 m2 with ⟨i, hi, e⟩ | a | ⟨a, b, b2⟩
    · subst e
      have a := nI_pos (n := i) (by omega)
      have b := nI_lt hi (show m < 2 ^ 31 by omega)
      refine br_f a (br_f (nI_ge hi (by omega)) ?_)
      rcases sr_row v3 n2 with ⟨j, hj, e⟩ | c | ⟨c, d, d2⟩
      · subst e
        have c := nI_pos (n := j) (by omega)
        have d := nI_lt hj (show n < 2 ^ 31 by omega)
        rw [sf_ix16]
        have hin : vp_in (nI (16 * t + 4 * i + j)) 32 := vp_in_nI (by omega) (by omega)
        exact br_f c (br_f (nI_ge hj (by omega)) (br_f (by decide) ⟨hin, sy_bad ht (br_t rfl (br_f a (br_t b (br_t rfl (br_f c (br_t d ⟨hin, rfl, hI⟩))))))⟩))
      · exact br_t c (br_t rfl (sy_bad ht (br_t rfl (br_f a (br_t b (br_t rfl (br_t c ⟨rfl, hI⟩)))))))
      · exact br_f c (br_t d2 (br_t rfl (sy_bad ht (br_t rfl (br_f a (br_t b (br_t rfl (br_f c (br_f d ⟨rfl, hI⟩)))))))))
    · exact br_t a (br_t rfl (sy_bad ht (br_t rfl (br_t a (br_f (by decide) ⟨rfl, hI⟩)))))
    · exact br_f a (br_t b2 (br_t rfl (sy_bad ht (br_t rfl (br_f a (br_f b (br_f (by decide) ⟨rfl, hI⟩)))))))
  · exact hX _ (br_t rfl (br_t rfl (hY _ _ (br_f (by decide) ⟨rfl, hI⟩))))
end
section
/-- the value of fill at place j -/
def sr_v (x3 x5 x6 : Int32) (j : Nat) : Int32 := (x3 + (nI j * x5)) + ((nI j * nI j) * x6)
/-- the cells behind j stores -/
def sr_st (b : Nat) (g : Nat → Int32) (ce : Nat → Int32) : Nat → Nat → Int32
  | 0 => ce
  | j + 1 => upd (sr_st b g ce j) (b + j) (g j)
theorem sr_st_b {b : Nat} {g ce : Nat → Int32} (hce : ∀ j, (ce j).toInt.natAbs ≤ 12) : ∀ n, (∀ j, j < n → (g j).toInt.natAbs ≤ 12) → ∀ j, (sr_st b g ce n j).toInt.natAbs ≤ 12 := by
  intro n
  induction n with
  | zero => intro _; exact hce
  | succ n ih => intro h; exact sr_upd (ih fun j hj => h j (by omega)) (h n (by omega))
section
variable {m n t i : Nat} {fo de : Int32} {mo : Int64} {ce ta : Nat → Int32} {w fa : Nat → Int64} {fw : Int32} {ra ca pm : Nat → Int32} {x3 x5 x6 : Int32}
theorem sr_fx2 {post : Int32 → SX → Prop} (ht : t < 2) (hi : i < 4) (hn : n ≤ 4) (h : post 0 (nI m, nI n, fo, mo, de, sr_st (16 * t + 4 * i) (sr_v x3 x5 x6) ce n, ta, w, fa)) :
    ∀ (d j N : Nat), j + d = n → d < N → wX_fill_120 post (nI t) (nI i) x3 x5 x6 (nI m) (nI n) fo mo de N (nI j) (sr_st (16 * t + 4 * i) (sr_v x3 x5 x6) ce j) ta w fa := by
  intro d
  induction d with
  | zero =>
    intro j N hj hN
    obtain ⟨N, rfl⟩ : ∃ N', N = N' + 1 := ⟨N - 1, by omega⟩
    rw [wX_fill_120]
    have ej : j = n := by omega
    subst ej
    exact br_t (nI_le (by omega) (by omega)) h
  | succ d ih =>
    intro j N hj hN
    obtain ⟨N, rfl⟩ : ∃ N', N = N' + 1 := ⟨N - 1, by omega⟩
    rw [wX_fill_120]
    refine br_f (nI_ge (by omega) (by omega)) ?_
    rw [sf_ix16, sf_cl16 _ _ _ (by omega)]
    refine ⟨vp_in_nI (by omega) (by omega), fun c ec x ex => ?_⟩
    rw [ex, nI_1, ec]
    exact ih (j + 1) N (by omega) (by omega)
theorem sr_fy2 {post : Int32 → SY → Prop} (ht : t < 2) (hi : i < 4) (hn : n ≤ 4) (h : post 0 (nI m, nI n, fw, sr_st (16 * t + 4 * i) (sr_v x3 x5 x6) ce n, ta, w, ra, ca, pm)) :
    ∀ (d j N : Nat), j + d = n → d < N → wY_fill_124 post (nI t) (nI i) x3 x5 x6 (nI m) (nI n) fw N (nI j) (sr_st (16 * t + 4 * i) (sr_v x3 x5 x6) ce j) ta w ra ca pm := by
  intro d
  induction d with
  | zero =>
    intro j N hj hN
    obtain ⟨N, rfl⟩ : ∃ N', N = N' + 1 := ⟨N - 1, by omega⟩
    rw [wY_fill_124]
    have ej : j = n := by omega
    subst ej
    exact br_t (nI_le (by omega) (by omega)) h
  | succ d ih =>
    intro j N hj hN
    obtain ⟨N, rfl⟩ : ∃ N', N = N' + 1 := ⟨N - 1, by omega⟩
    rw [wY_fill_124]
    refine br_f (nI_ge (by omega) (by omega)) ?_
    rw [sf_ix16, sf_cl16 _ _ _ (by omega)]
    refine ⟨vp_in_nI (by omega) (by omega), fun c ec x ex => ?_⟩
    rw [ex, nI_1, ec]
    exact ih (j + 1) N (by omega) (by omega)
theorem sr_fx1 {post : Int32 → SX → Prop} (ht : t < 2) (hi : i < 4) (hn : n ≤ 4) (h0 : (¬ ∀ j, j < n → (sr_v x3 x5 x6 j).toInt.natAbs ≤ 12) → post (-3) (nI m, nI n, fo, mo, de, ce, ta, w, fa))
    (h1 : (∀ j, j < n → (sr_v x3 x5 x6 j).toInt.natAbs ≤ 12) → post 0 (nI m, nI n, fo, mo, de, sr_st (16 * t + 4 * i) (sr_v x3 x5 x6) ce n, ta, w, fa)) :
    ∀ (d j N : Nat), j + d = n → d < N → (∀ a, a < j → (sr_v x3 x5 x6 a).toInt.natAbs ≤ 12) → wX_fill_77 post (nI t) (nI i) x3 x5 x6 (nI m) (nI n) fo mo de ce ta w fa N (nI j) := by
  intro d
  induction d with
  | zero =>
    intro j N hj hN hp
    obtain ⟨N, rfl⟩ : ∃ N', N = N' + 1 := ⟨N - 1, by omega⟩
    rw [wX_fill_77]
    refine br_t (nI_le (by omega) (by omega)) ⟨n + 1, ?_⟩
    exact sr_fx2 ht hi hn (h1 fun a ha => hp a (by omega)) n 0 (n + 1) (by omega) (by omega)
  | succ d ih =>
    intro j N hj hN hp
    obtain ⟨N, rfl⟩ : ∃ N', N = N' + 1 := ⟨N - 1, by omega⟩
    rw [wX_fill_77]
    refine br_f (nI_ge (by omega) (by omega)) ?_
    rcases sr_sm (sr_v x3 x5 x6 j) with ⟨sX, _, sb⟩ | ⟨sX, _, sb⟩
    · refine sX _ (br_f (by decide) fun x ex => ?_)
      rw [ex, nI_1]
      refine ih (j + 1) N (by omega) (by omega) fun a ha => ?_
      by_cases z : a = j
      · rw [z]; exact sb
      · exact hp a (by omega)
    · exact sX _ (br_t rfl (h0 fun z => sb (z j (by omega))))
theorem sr_fy1 {post : Int32 → SY → Prop} (ht : t < 2) (hi : i < 4) (hn : n ≤ 4) (h0 : (¬ ∀ j, j < n → (sr_v x3 x5 x6 j).toInt.natAbs ≤ 12) → post (-3) (nI m, nI n, fw, ce, ta, w, ra, ca, pm))
    (h1 : (∀ j, j < n → (sr_v x3 x5 x6 j).toInt.natAbs ≤ 12) → post 0 (nI m, nI n, fw, sr_st (16 * t + 4 * i) (sr_v x3 x5 x6) ce n, ta, w, ra, ca, pm)) :
    ∀ (d j N : Nat), j + d = n → d < N → (∀ a, a < j → (sr_v x3 x5 x6 a).toInt.natAbs ≤ 12) → wY_fill_80 post (nI t) (nI i) x3 x5 x6 (nI m) (nI n) fw ce ta w ra ca pm N (nI j) := by
  intro d
  induction d with
  | zero =>
    intro j N hj hN hp
    obtain ⟨N, rfl⟩ : ∃ N', N = N' + 1 := ⟨N - 1, by omega⟩
    rw [wY_fill_80]
    refine br_t (nI_le (by omega) (by omega)) ⟨n + 1, ?_⟩
    exact sr_fy2 ht hi hn (h1 fun a ha => hp a (by omega)) n 0 (n + 1) (by omega) (by omega)
  | succ d ih =>
    intro j N hj hN hp
    obtain ⟨N, rfl⟩ : ∃ N', N = N' + 1 := ⟨N - 1, by omega⟩
    rw [wY_fill_80]
    refine br_f (nI_ge (by omega) (by omega)) ?_
    rcases sr_sm (sr_v x3 x5 x6 j) with ⟨_, sY, sb⟩ | ⟨_, sY, sb⟩
    · refine sY _ _ (br_t rfl fun x ex => ?_)
      rw [ex, nI_1]
      refine ih (j + 1) N (by omega) (by omega) fun a ha => ?_
      by_cases z : a = j
      · rw [z]; exact sb
      · exact hp a (by omega)
    · exact sY _ _ (br_f (by decide) (h0 fun z => sb (z j (by omega))))
end
theorem sr_m12 {a : Nat} (h : a < 2 ^ 30) : (nI a - 12).toInt = (a : Int) - 12 := pk_sub_toInt (b := 12) h (by omega)
theorem i_vc_fill {k : Nat} {u : SX} {v : SY} (I : i_Rel k u v) (hk : k + 5 ≤ 2562) (v1 : Int32) (v2 : Int32) (v3 : Int32) (v4 : Int32) : wpX_fill (fun r u' => wpY_fill (fun r' v' => r' = r ∧ i_Rel (k + 5) u' v') v v1 v2 v3 v4) u v1 v2 v3 v4 := by
  refine sr_el (P := fun u v => wpX_fill (fun r u' => wpY_fill (fun r' v' => r' = r ∧ i_Rel (k + 5) u' v') v v1 v2 v3 v4) u v1 v2 v3 v4) ?_ I
  intro m n fo mo de ce ta w fa fw w' ra ca pm hok
  have hI : i_Rel (k + 5) (nI m, nI n, fo, mo, de, ce, ta, w, fa) (nI m, nI n, fw, ce, ta, w', ra, ca, pm) := sr_in hok
  obtain ⟨m1, m2, n1, n2, hce, hta⟩ := hok
  unfold wpX_fill wpY_fill wpY_badRow
  dsimp only
  rcases sr_tab v1 with ⟨t, ht, e⟩ | ⟨hX, hY⟩
  · subst e
    refine sx_tab ht (br_f (by decide) ?_)
    rcases sr_row v2 m2 with ⟨i, hi, e⟩ | a | ⟨a, b, _⟩
    · subst e
      have a := nI_pos (n := i) (by omega)
      have b := nI_lt hi (show m < 2 ^ 31 by omega)
      refine br_f a (br_t b fun x5 e5 x6 e6 => ?_)
      by_cases c : v4 < 0
      · exact br_t c (sy_bad ht (br_t rfl (br_f a (br_t b (br_t rfl (br_t c ⟨rfl, hI⟩))))))
      · refine br_f c ?_
        obtain ⟨q, hq, e⟩ := nI_of c
        subst e
        have s5 : nI q >>> ((5 : Int32) &&& 31) = nI (q / 32) := pk_shrN hq _ 5 (by decide)
        have a31 : nI q &&& 31 = nI (q % 32) := pk_andN (by omega) 5 (by decide)
        have d5 : nI q / 32 = nI (q / 32) := pk_div (d := 32) hq (by omega) (by omega)
        have r5 : nI q - nI q / 32 * 32 = nI (q % 32) := pk_rem (d := 32) hq (by omega) (by omega)
        rw [s5] at e5
        rw [a31] at e6
        rw [r5, d5]
        have t5 : x5.toInt = ((q / 32 : Nat) : Int) - 12 := by rw [e5]; exact sr_m12 (by omega)
        have t6 : x6.toInt = ((q % 32 : Nat) : Int) - 12 := by rw [e6]; exact sr_m12 (by omega)
        rcases sr_sm v3 with ⟨sX, sY, sb⟩ | ⟨sX, sY, sb⟩
        · refine sX _ (br_f (by decide) ?_)
          by_cases h5 : q / 32 ≤ 24
          · have n5 : ¬ (24 : Int32) < nI (q / 32) := by
              rw [show (24 : Int32) = nI 24 from rfl, nI_ltI (by omega) (by omega)]; omega
            rcases sr_sm x5 with ⟨tX, _, _⟩ | ⟨_, _, tb⟩
            · refine tX _ (br_f (by decide) ?_)
              by_cases h6 : q % 32 ≤ 24
              · have n6 : ¬ (24 : Int32) < nI (q % 32) := by
                  rw [show (24 : Int32) = nI 24 from rfl, nI_ltI (by omega) (by omega)]; omega
                rcases sr_sm x6 with ⟨uX, _, _⟩ | ⟨_, _, ub⟩
                · refine uX _ (br_f (by decide) ⟨n + 1, ?_⟩)
                  have goY : ∀ (post : Int32 → SY → Prop), ((¬ ∀ j, j < n → (sr_v v3 x5 x6 j).toInt.natAbs ≤ 12) → post (-3) (nI m, nI n, fw, ce, ta, w', ra, ca, pm)) →
                      ((∀ j, j < n → (sr_v v3 x5 x6 j).toInt.natAbs ≤ 12) → post 0 (nI m, nI n, fw, sr_st (16 * t + 4 * i) (sr_v v3 x5 x6) ce n, ta, w', ra, ca, pm)) →
                      ∃ n80, wY_fill_80 post (nI t) (nI i) v3 x5 x6 (nI m) (nI n) fw ce ta w' ra ca pm n80 0 :=
                    fun post p0 p1 => ⟨n + 1, sr_fy1 ht (by omega) n2 p0 p1 n 0 (n + 1) (by omega) (by omega) (fun a ha => by omega)⟩
                  refine sr_fx1 ht (by omega) n2 (fun hno => ?_) (fun hyes => ?_) n 0 (n + 1) (by omega) (by omega) (fun a ha => by omega)
                  · refine sy_bad ht (br_t rfl (br_f a (br_t b (br_t rfl (br_f c ⟨by decide, br_f n5 ⟨by decide, br_f n6 (sY _ _ (br_t rfl ⟨by decide, fun y5 ey5 => ⟨by decide, fun y6 ey6 => ?_⟩⟩))⟩⟩)))))
                    rw [ey5, ← e5, ey6, ← e6]
                    exact goY _ (fun _ => ⟨rfl, hI⟩) (fun z => absurd z hno)
                  · refine sy_bad ht (br_t rfl (br_f a (br_t b (br_t rfl (br_f c ⟨by decide, br_f n5 ⟨by decide, br_f n6 (sY _ _ (br_t rfl ⟨by decide, fun y5 ey5 => ⟨by decide, fun y6 ey6 => ?_⟩⟩))⟩⟩)))))
                    rw [ey5, ← e5, ey6, ← e6]
                    exact goY _ (fun z => absurd hyes z) (fun _ => ⟨rfl, sr_in ⟨m1, m2, n1, n2, sr_st_b hce n hyes, hta⟩⟩)
                · exfalso; omega
              · have n6 : (24 : Int32) < nI (q % 32) := nI_lt (a := 24) (by omega) (by omega)
                rcases sr_sm x6 with ⟨_, _, ub⟩ | ⟨uX, _, _⟩
                · exfalso; omega
                · exact uX _ (br_t rfl (sy_bad ht (br_t rfl (br_f a (br_t b (br_t rfl (br_f c ⟨by decide, br_f n5 ⟨by decide, br_t n6 ⟨rfl, hI⟩⟩⟩)))))))
            · exfalso; omega
          · have n5 : (24 : Int32) < nI (q / 32) := nI_lt (a := 24) (by omega) (by omega)
            rcases sr_sm x5 with ⟨_, _, tb⟩ | ⟨tX, _, _⟩
            · exfalso; omega
            · exact tX _ (br_t rfl (sy_bad ht (br_t rfl (br_f a (br_t b (br_t rfl (br_f c ⟨by decide, br_t n5 ⟨rfl, hI⟩⟩)))))))
        · refine sX _ (br_t rfl (sy_bad ht (br_t rfl (br_f a (br_t b (br_t rfl (br_f c ⟨by decide, br_c (fun _ => ⟨rfl, hI⟩) (fun _ => ⟨by decide, br_c (fun _ => ⟨rfl, hI⟩) (fun _ => sY _ _ (br_f (by decide) ⟨rfl, hI⟩))⟩)⟩)))))))
    · exact br_t a (sy_bad ht (br_t rfl (br_t a (br_f (by decide) ⟨rfl, hI⟩))))
    · exact br_f a (br_f b (sy_bad ht (br_t rfl (br_f a (br_f b (br_f (by decide) ⟨rfl, hI⟩))))))
  · exact hX _ (br_t rfl (hY _ _ (br_f (by decide) ⟨rfl, hI⟩)))
end
section
/-- the cells behind j stores of a mirrored row, and behind i mirrored rows -/
def sr_mi (t i n : Nat) (ce : Nat → Int32) : Nat → Nat → Int32
  | 0 => ce
  | j + 1 => upd (sr_mi t i n ce j) (16 * t + 4 * i + j) (sr_mi t i n ce j (16 * (1 - t) + 4 * i + n - 1 - j))
def sr_mo (t n : Nat) (ce : Nat → Int32) : Nat → Nat → Int32
  | 0 => ce
  | i + 1 => sr_mi t i n (sr_mo t n ce i) n
theorem sr_mi_b {t i n : Nat} {ce : Nat → Int32} (h : ∀ j, (ce j).toInt.natAbs ≤ 12) : ∀ k j, (sr_mi t i n ce k j).toInt.natAbs ≤ 12 := by
  intro k
  induction k with
  | zero => exact h
  | succ k ih => exact sr_upd ih (ih _)
theorem sr_mo_b {t n : Nat} {ce : Nat → Int32} (h : ∀ j, (ce j).toInt.natAbs ≤ 12) : ∀ k j, (sr_mo t n ce k j).toInt.natAbs ≤ 12 := by
  intro k
  induction k with
  | zero => exact h
  | succ k ih => exact sr_mi_b ih n
theorem sr_ixX {t i n j : Nat} (ht : t < 2) (hj : j < n) : ((((16 : Int32) * (1 - nI t) + 4 * nI i) + nI n) - 1) - nI j = nI (16 * (1 - t) + 4 * i + n - 1 - j) := by
  rw [show (1 : Int32) - nI t = nI (1 - t) from pk_sub (a := 1) (by omega), sf_ix16, show (1 : Int32) = nI 1 from rfl, pk_sub (by omega), pk_sub (by omega)]
theorem sr_ixY {t i n j : Nat} (ht : t < 2) (hj : j < n) : ((((16 : Int32) - 16 * nI t + 4 * nI i) + nI n) - 1) - nI j = nI (16 * (1 - t) + 4 * i + n - 1 - j) := by
  have e : (16 : Int32) - 16 * nI t = 16 * nI (1 - t) := by
    have : t = 0 ∨ t = 1 := by omega
    rcases this with rfl | rfl <;> decide
  rw [e, sf_ix16, show (1 : Int32) = nI 1 from rfl, pk_sub (by omega), pk_sub (by omega)]
section
variable {m n t i : Nat} {fo de : Int32} {mo : Int64} {ce ta : Nat → Int32} {w fa : Nat → Int64} {fw : Int32} {ra ca pm : Nat → Int32}
theorem sr_mx1 {post : Int32 → SX → Prop} {J : Int32 → (Nat → Int32) → (Nat → Int32) → (Nat → Int64) → (Nat → Int64) → Prop} {fm : Int32} (ht : t < 2) (hi : i < 4) (hn : n ≤ 4) (h : J (nI (i + 1)) (sr_mi t i n ce n) ta w fa) :
    ∀ (d j N : Nat), j + d = n → d < N → wX_mirror_21 post J (nI t) (nI i) fm (nI n) fo mo de N (nI j) (sr_mi t i n ce j) ta w fa := by
  intro d
  induction d with
  | zero =>
    intro j N hj hN
    obtain ⟨N, rfl⟩ : ∃ N', N = N' + 1 := ⟨N - 1, by omega⟩
    rw [wX_mirror_21]
    have ej : j = n := by omega
    subst ej
    refine br_t (nI_le (by omega) (by omega)) fun x ex => ?_
    rw [ex, nI_1]; exact h
  | succ d ih =>
    intro j N hj hN
    obtain ⟨N, rfl⟩ : ∃ N', N = N' + 1 := ⟨N - 1, by omega⟩
    rw [wX_mirror_21]
    refine br_f (nI_ge (by omega) (by omega)) ?_
    rw [sr_ixX ht (by omega), sf_ix16, nI_clamp (show 16 * (1 - t) + 4 * i + n - 1 - j < 2 ^ 31 by omega), sf_cl16 _ _ _ (by omega)]
    refine ⟨vp_in_nI (by omega) (by omega), vp_in_nI (by omega) (by omega), fun c ec x ex => ?_⟩
    rw [ex, nI_1, ec]
    exact ih (j + 1) N (by omega) (by omega)
theorem sr_mx2 {post : Int32 → SX → Prop} (ht : t < 2) (hm : m ≤ 4) (hn : n ≤ 4) (h : post 0 (nI m, nI n, fo, mo, de, sr_mo t n ce m, ta, w, fa)) :
    ∀ (d i N : Nat), i + d = m → d < N → wX_mirror_11 post (nI t) (nI m) (nI n) fo mo de N (nI i) (sr_mo t n ce i) ta w fa := by
  intro d
  induction d with
  | zero =>
    intro i N hi hN
    obtain ⟨N, rfl⟩ : ∃ N', N = N' + 1 := ⟨N - 1, by omega⟩
    rw [wX_mirror_11]
    have ei : i = m := by omega
    subst ei
    exact br_t (nI_le (by omega) (by omega)) h
  | succ d ih =>
    intro i N hi hN
    obtain ⟨N, rfl⟩ : ∃ N', N = N' + 1 := ⟨N - 1, by omega⟩
    rw [wX_mirror_11]
    refine br_f (nI_ge (by omega) (by omega)) ⟨n + 1, ?_⟩
    exact sr_mx1 ht (by omega) hn (ih (i + 1) N (by omega) (by omega)) n 0 (n + 1) (by omega) (by omega)
theorem sr_my1 {post : Int32 → SY → Prop} {J : Int32 → (Nat → Int32) → (Nat → Int32) → (Nat → Int64) → (Nat → Int32) → (Nat → Int32) → (Nat → Int32) → Prop} {fm : Int32} (ht : t < 2) (hi : i < 4) (hn : n ≤ 4) (h : J (nI (i + 1)) (sr_mi t i n ce n) ta w ra ca pm) :
    ∀ (d j N : Nat), j + d = n → d < N → wY_mirror_22 post J (nI t) (nI i) fm (nI n) fw N (nI j) (sr_mi t i n ce j) ta w ra ca pm := by
  intro d
  induction d with
  | zero =>
    intro j N hj hN
    obtain ⟨N, rfl⟩ : ∃ N', N = N' + 1 := ⟨N - 1, by omega⟩
    rw [wY_mirror_22]
    have ej : j = n := by omega
    subst ej
    refine br_t (nI_le (by omega) (by omega)) fun x ex => ?_
    rw [ex, nI_1]; exact h
  | succ d ih =>
    intro j N hj hN
    obtain ⟨N, rfl⟩ : ∃ N', N = N' + 1 := ⟨N - 1, by omega⟩
    rw [wY_mirror_22]
    refine br_f (nI_ge (by omega) (by omega)) ?_
    rw [sr_ixY ht (by omega), sf_ix16, nI_clamp (show 16 * (1 - t) + 4 * i + n - 1 - j < 2 ^ 31 by omega), sf_cl16 _ _ _ (by omega)]
    refine ⟨vp_in_nI (by omega) (by omega), vp_in_nI (by omega) (by omega), fun c ec x ex => ?_⟩
    rw [ex, nI_1, ec]
    exact ih (j + 1) N (by omega) (by omega)
theorem sr_my2 {post : Int32 → SY → Prop} (ht : t < 2) (hm : m ≤ 4) (hn : n ≤ 4) (h : post 0 (nI m, nI n, fw, sr_mo t n ce m, ta, w, ra, ca, pm)) :
    ∀ (d i N : Nat), i + d = m → d < N → wY_mirror_12 post (nI t) (nI m) (nI n) fw N (nI i) (sr_mo t n ce i) ta w ra ca pm := by
  intro d
  induction d with
  | zero =>
    intro i N hi hN
    obtain ⟨N, rfl⟩ : ∃ N', N = N' + 1 := ⟨N - 1, by omega⟩
    rw [wY_mirror_12]
    have ei : i = m := by omega
    subst ei
    exact br_t (nI_le (by omega) (by omega)) h
  | succ d ih =>
    intro i N hi hN
    obtain ⟨N, rfl⟩ : ∃ N', N = N' + 1 := ⟨N - 1, by omega⟩
    rw [wY_mirror_12]
    refine br_f (nI_ge (by omega) (by omega)) ⟨n + 1, ?_⟩
    exact sr_my1 ht (by omega) hn (ih (i + 1) N (by omega) (by omega)) n 0 (n + 1) (by omega) (by omega)
end
theorem i_vc_mirror {k : Nat} {u : SX} {v : SY} (I : i_Rel k u v) (hk : k + 5 ≤ 2562) (v1 : Int32) : wpX_mirror (fun r u' => wpY_mirror (fun r' v' => r' = r ∧ i_Rel (k + 5) u' v') v v1) u v1 := by
  refine sr_el (P := fun u v => wpX_mirror (fun r u' => wpY_mirror (fun r' v' => r' = r ∧ i_Rel (k + 5) u' v') v v1) u v1) ?_ I
  intro m n fo mo de ce ta w fa fw w' ra ca pm hok
  have hI : i_Rel (k + 5) (nI m, nI n, fo, mo, de, ce, ta, w, fa) (nI m, nI n, fw, ce, ta, w', ra, ca, pm) := sr_in hok
  obtain ⟨m1, m2, n1, n2, hce, hta⟩ := hok
  unfold wpX_mirror wpY_mirror
  dsimp only
  rcases sr_tab v1 with ⟨t, ht, e⟩ | ⟨hX, hY⟩
  · subst e
    refine sx_tab ht (br_f (by decide) ⟨m + 1, sr_mx2 ht m2 n2 ?_ m 0 (m + 1) (by omega) (by omega)⟩)
    refine sy_bad ht (br_t rfl ⟨m + 1, sr_my2 ht m2 n2 ?_ m 0 (m + 1) (by omega) (by omega)⟩)
    exact ⟨rfl, sr_in ⟨m1, m2, n1, n2, sr_mo_b hce m, hta⟩⟩
  · exact hX _ (br_t rfl (hY _ _ (br_f (by decide) ⟨rfl, hI⟩)))
end
section
/-- a number of 0 .. 4, or refused on both sides -/
theorem sr_k (x : Int32) {lo hi : Nat} (hl : lo ≤ hi) (hh : hi < 2 ^ 31) : (∃ j : Nat, lo ≤ j ∧ j ≤ hi ∧ x = nI j) ∨ (x < nI lo) ∨ (¬ x < nI lo ∧ ¬ x ≤ nI hi) := by
  by_cases a : x < nI lo
  · exact Or.inr (Or.inl a)
  · by_cases b : x ≤ nI hi
    · have h0 : ¬ x < 0 := by
        intro z
        apply a
        have := nI_pos' (n := lo) (by omega)
        rw [Int32.lt_iff_toInt_lt] at z ⊢
        rw [Int32.le_iff_toInt_le] at this
        omega
      obtain ⟨j, hj, e⟩ := nI_of2 (M := nI hi) (n := hi) (nI_toInt hh) h0 b
      refine Or.inl ⟨j, ?_, hj, e⟩
      rw [e, nI_ltI (by omega) (by omega)] at a
      omega
    · exact Or.inr (Or.inr ⟨a, b⟩)
theorem i_vc_rank {k : Nat} {u : SX} {v : SY} (I : i_Rel k u v) (hk : k + 5 ≤ 2562) (v1 : Int32) : wpX_rank (fun r u' => wpY_rank (fun r' v' => r' = r ∧ i_Rel (k + 5) u' v') v v1) u v1 := by
  refine sr_el (P := fun u v => wpX_rank (fun r u' => wpY_rank (fun r' v' => r' = r ∧ i_Rel (k + 5) u' v') v v1) u v1) ?_ I
  intro m n fo mo de ce ta w fa fw w' ra ca pm hok
  have hI : i_Rel (k + 5) (nI m, nI n, fo, mo, de, ce, ta, w, fa) (nI m, nI n, fw, ce, ta, w', ra, ca, pm) := sr_in hok
  have hok' := hok
  obtain ⟨m1, m2, n1, n2, hce, hta⟩ := hok
  rcases sr_tab v1 with ⟨t, ht, e⟩ | ⟨hX, hY⟩
  · subst e
    refine sx_rank ht m2 n2 hce hta fun r fo mo de w fa hr => ?_
    refine sy_rank ht m2 n2 hce fun r' fw w ra ca pm hr' => ?_
    rw [sf_rk_u hr' hr]
    exact ⟨rfl, sr_in hok'⟩
  · unfold wpX_rank wpY_rank
    dsimp only
    exact hX _ (br_t rfl (hY _ _ (br_f (by decide) ⟨rfl, hI⟩)))
theorem i_vc_divisor {k : Nat} {u : SX} {v : SY} (I : i_Rel k u v) (hk : k + 5 ≤ 2562) (v1 : Int32) (v2 : Int32) : wpX_divisor (fun r u' => wpY_divisor (fun r' v' => r' = r ∧ i_Rel (k + 5) u' v') v v1 v2) u v1 v2 := by
  refine sr_el (P := fun u v => wpX_divisor (fun r u' => wpY_divisor (fun r' v' => r' = r ∧ i_Rel (k + 5) u' v') v v1 v2) u v1 v2) ?_ I
  intro m n fo mo de ce ta w fa fw w' ra ca pm hok
  have hI : i_Rel (k + 5) (nI m, nI n, fo, mo, de, ce, ta, w, fa) (nI m, nI n, fw, ce, ta, w', ra, ca, pm) := sr_in hok
  have hok' := hok
  obtain ⟨m1, m2, n1, n2, hce, hta⟩ := hok
  rcases sr_tab v1 with ⟨t, ht, e⟩ | ⟨hX, hY⟩
  · subst e
    rcases sr_k v2 (lo := 0) (hi := 4) (by omega) (by omega) with ⟨j, _, j2, e⟩ | a | ⟨a, b⟩
    · subst e
      refine sx_divisor ht j2 m2 n2 hce hta fun x fo mo de w fa hx => ?_
      refine sy_divisor ht j2 m2 n2 hce fun x' fw w ra ca pm hx' => ?_
      exact ⟨Int64.toInt_inj.mp (sf_gd_u hx' hx), sr_in hok'⟩
    · unfold wpX_divisor wpY_divisor
      dsimp only
      exact sx_tab ht (br_f (by decide) (br_t a (sy_bad ht (br_t rfl (br_t a ⟨rfl, hI⟩)))))
    · unfold wpX_divisor wpY_divisor
      dsimp only
      exact sx_tab ht (br_f (by decide) (br_f a (br_f b (sy_bad ht (br_t rfl (br_f a (br_f b ⟨rfl, hI⟩)))))))
  · unfold wpX_divisor wpY_divisor
    dsimp only
    exact hX _ (br_t rfl (hY _ _ (br_f (by decide) ⟨rfl, hI⟩)))
theorem i_vc_factor {k : Nat} {u : SX} {v : SY} (I : i_Rel k u v) (hk : k + 5 ≤ 2562) (v1 : Int32) (v2 : Int32) : wpX_factor (fun r u' => wpY_factor (fun r' v' => r' = r ∧ i_Rel (k + 5) u' v') v v1 v2) u v1 v2 := by
  refine sr_el (P := fun u v => wpX_factor (fun r u' => wpY_factor (fun r' v' => r' = r ∧ i_Rel (k + 5) u' v') v v1 v2) u v1 v2) ?_ I
  intro m n fo mo de ce ta w fa fw w' ra ca pm hok
  have hI : i_Rel (k + 5) (nI m, nI n, fo, mo, de, ce, ta, w, fa) (nI m, nI n, fw, ce, ta, w', ra, ca, pm) := sr_in hok
  have hok' := hok
  obtain ⟨m1, m2, n1, n2, hce, hta⟩ := hok
  rcases sr_tab v1 with ⟨t, ht, e⟩ | ⟨hX, hY⟩
  · subst e
    rcases sr_k v2 (lo := 1) (hi := 4) (by omega) (by omega) with ⟨j, j1, j2, e⟩ | a | ⟨a, b⟩
    · subst e
      refine sx_factor ht j1 j2 m2 n2 hce hta fun x fo mo de w fa hx => ?_
      refine sy_factor ht j1 j2 m2 n2 hce fun x' fw w ra ca pm hx' => ?_
      obtain ⟨dk, d1, g1, g2, ex⟩ := hx'
      exact ⟨Int64.toInt_inj.mp (ex.trans (hx dk d1 g1 g2).symm), sr_in hok'⟩
    · unfold wpX_factor wpY_factor
      dsimp only
      exact sx_tab ht (br_f (by decide) (br_t a (sy_bad ht (br_t rfl (br_t a ⟨rfl, hI⟩)))))
    · unfold wpX_factor wpY_factor
      dsimp only
      exact sx_tab ht (br_f (by decide) (br_f a (br_f b (sy_bad ht (br_t rfl (br_f a (br_f b ⟨rfl, hI⟩)))))))
  · unfold wpX_factor wpY_factor
    dsimp only
    exact hX _ (br_t rfl (hY _ _ (br_f (by decide) ⟨rfl, hI⟩)))
/-- two answers of one question -/
theorem sr_b {P : Prop} {b b' : Int32} (h : (b = 1 ∧ P) ∨ (b = 0 ∧ ¬ P)) (h' : (b' = 1 ∧ P) ∨ (b' = 0 ∧ ¬ P)) : b' = b := by
  rcases h with ⟨a1, a2⟩ | ⟨a1, a2⟩ <;> rcases h' with ⟨b1, b2⟩ | ⟨b1, b2⟩
  · rw [a1, b1]
  · exact absurd a2 b2
  · exact absurd b2 a2
  · rw [a1, b1]
theorem i_vc_reaches {k : Nat} {u : SX} {v : SY} (I : i_Rel k u v) (hk : k + 5 ≤ 2562) (v1 : Int32) : wpX_reaches (fun r u' => wpY_reaches (fun r' v' => r' = r ∧ i_Rel (k + 5) u' v') v v1) u v1 := by
  refine sr_el (P := fun u v => wpX_reaches (fun r u' => wpY_reaches (fun r' v' => r' = r ∧ i_Rel (k + 5) u' v') v v1) u v1) ?_ I
  intro m n fo mo de ce ta w fa fw w' ra ca pm hok
  have hI : i_Rel (k + 5) (nI m, nI n, fo, mo, de, ce, ta, w, fa) (nI m, nI n, fw, ce, ta, w', ra, ca, pm) := sr_in hok
  have hok' := hok
  obtain ⟨m1, m2, n1, n2, hce, hta⟩ := hok
  rcases sr_tab v1 with ⟨t, ht, e⟩ | ⟨hX, hY⟩
  · subst e
    refine sx_reaches ht m2 n2 hce hta fun b fo mo de w fa hb => ?_
    refine sy_reaches ht m2 n2 hce hta fun b' fw w ra ca pm hb' => ?_
    exact ⟨sr_b hb hb', sr_in hok'⟩
  · unfold wpX_reaches wpY_reaches
    dsimp only
    exact hX _ (br_t rfl (hY _ _ (br_f (by decide) ⟨rfl, hI⟩)))
theorem i_vc_multiple {k : Nat} {u : SX} {v : SY} (I : i_Rel k u v) (hk : k + 5 ≤ 2562) (v1 : Int32) : wpX_multiple (fun r u' => wpY_multiple (fun r' v' => r' = r ∧ i_Rel (k + 5) u' v') v v1) u v1 := by
  refine sr_el (P := fun u v => wpX_multiple (fun r u' => wpY_multiple (fun r' v' => r' = r ∧ i_Rel (k + 5) u' v') v v1) u v1) ?_ I
  intro m n fo mo de ce ta w fa fw w' ra ca pm hok
  have hI : i_Rel (k + 5) (nI m, nI n, fo, mo, de, ce, ta, w, fa) (nI m, nI n, fw, ce, ta, w', ra, ca, pm) := sr_in hok
  have hok' := hok
  obtain ⟨m1, m2, n1, n2, hce, hta⟩ := hok
  rcases sr_tab v1 with ⟨t, ht, e⟩ | ⟨hX, hY⟩
  · subst e
    refine sx_multiple ht m2 n2 hce hta fun R fo mo de w fa hR => ?_
    refine sy_multiple ht m2 n2 hce hta fun R' fw w ra ca pm hR' => ?_
    rw [sf_lm_u hR' hR]
    exact ⟨rfl, sr_in hok'⟩
  · unfold wpX_multiple wpY_multiple
    dsimp only
    exact hX _ (br_t rfl (hY _ _ (br_f (by decide) ⟨rfl, hI⟩)))
theorem i_vc_solutions {k : Nat} {u : SX} {v : SY} (I : i_Rel k u v) (hk : k + 5 ≤ 2562) (v1 : Int32) (v2 : Int32) : wpX_solutions (fun r u' => wpY_solutions (fun r' => r' = r ∧ i_Rel (k + 5) u' v) v v1 v2) u v1 v2 := by
  refine sr_el (P := fun u v => wpX_solutions (fun r u' => wpY_solutions (fun r' => r' = r ∧ i_Rel (k + 5) u' v) v v1 v2) u v1 v2) ?_ I
  intro m n fo mo de ce ta w fa fw w' ra ca pm hok
  have hI : i_Rel (k + 5) (nI m, nI n, fo, mo, de, ce, ta, w, fa) (nI m, nI n, fw, ce, ta, w', ra, ca, pm) := sr_in hok
  have hok' := hok
  obtain ⟨m1, m2, n1, n2, hce, hta⟩ := hok
  rcases sr_tab v1 with ⟨t, ht, e⟩ | ⟨hX, hY⟩
  · subst e
    rcases sr_k v2 (lo := 1) (hi := 6) (by omega) (by omega) with ⟨j, j1, j2, e⟩ | a | ⟨a, b⟩
    · subst e
      refine sx_solutions j1 j2 ht m2 n2 hce hta fun fo mo de w fa => ?_
      exact sy_solutions j1 j2 ht m2 n2 hce hta ⟨rfl, sr_in hok'⟩
    · unfold wpX_solutions wpY_solutions
      dsimp only
      exact sx_tab ht (br_f (by decide) (br_t a (sy_bad ht (br_t rfl (br_t a ⟨rfl, hI⟩)))))
    · unfold wpX_solutions wpY_solutions
      dsimp only
      exact sx_tab ht (br_f (by decide) (br_f a (br_f b (sy_bad ht (br_t rfl (br_f a (br_f b ⟨rfl, hI⟩)))))))
  · unfold wpX_solutions wpY_solutions
    dsimp only
    exact hX _ (br_t rfl (hY _ _ (br_f (by decide) ⟨rfl, hI⟩)))
theorem i_vc_within {k : Nat} {u : SX} {v : SY} (I : i_Rel k u v) (hk : k + 5 ≤ 2562) (v1 : Int32) : wpX_within (fun r u' => wpY_within (fun r' v' => r' = r ∧ i_Rel (k + 5) u' v') v v1) u v1 := by
  refine sr_el (P := fun u v => wpX_within (fun r u' => wpY_within (fun r' v' => r' = r ∧ i_Rel (k + 5) u' v') v v1) u v1) ?_ I
  intro m n fo mo de ce ta w fa fw w' ra ca pm hok
  have hI : i_Rel (k + 5) (nI m, nI n, fo, mo, de, ce, ta, w, fa) (nI m, nI n, fw, ce, ta, w', ra, ca, pm) := sr_in hok
  have hok' := hok
  obtain ⟨m1, m2, n1, n2, hce, hta⟩ := hok
  rcases sr_tab v1 with ⟨t, ht, e⟩ | ⟨hX, hY⟩
  · subst e
    refine sx_within ht m2 n2 hce fun b fo mo de w fa hb => ?_
    refine sy_within ht m2 n2 hce fun b' fw w ra ca pm hb' => ?_
    exact ⟨sr_b hb hb', sr_in hok'⟩
  · unfold wpX_within wpY_within
    dsimp only
    exact hX _ (br_t rfl (hY _ _ (br_f (by decide) ⟨rfl, hI⟩)))
theorem i_vc_classes {k : Nat} {u : SX} {v : SY} (I : i_Rel k u v) (hk : k + 5 ≤ 2562) (v1 : Int32) : wpX_classes (fun r u' => wpY_classes (fun r' v' => r' = r ∧ i_Rel (k + 5) u' v') v v1) u v1 := by
  refine sr_el (P := fun u v => wpX_classes (fun r u' => wpY_classes (fun r' v' => r' = r ∧ i_Rel (k + 5) u' v') v v1) u v1) ?_ I
  intro m n fo mo de ce ta w fa fw w' ra ca pm hok
  have hI : i_Rel (k + 5) (nI m, nI n, fo, mo, de, ce, ta, w, fa) (nI m, nI n, fw, ce, ta, w', ra, ca, pm) := sr_in hok
  have hok' := hok
  obtain ⟨m1, m2, n1, n2, hce, hta⟩ := hok
  rcases sr_tab v1 with ⟨t, ht, e⟩ | ⟨hX, hY⟩
  · subst e
    refine sx_classes ht m2 n2 hce hta fun x fo mo de w fa hx => ?_
    refine sy_classes ht m2 n2 hce fun x' fw w ra ca pm hx' => ?_
    exact ⟨Int64.toInt_inj.mp (sf_gd_u hx' hx), sr_in hok'⟩
  · unfold wpX_classes wpY_classes
    dsimp only
    exact hX _ (br_t rfl (hY _ _ (br_f (by decide) ⟨rfl, hI⟩)))
theorem i_vc_determinant {k : Nat} {u : SX} {v : SY} (I : i_Rel k u v) (hk : k + 5 ≤ 2562) (v1 : Int32) : wpX_determinant (fun r u' => wpY_determinant (fun r' v' => r' = r ∧ i_Rel (k + 5) u' v') v v1) u v1 := by
  refine sr_el (P := fun u v => wpX_determinant (fun r u' => wpY_determinant (fun r' v' => r' = r ∧ i_Rel (k + 5) u' v') v v1) u v1) ?_ I
  intro m n fo mo de ce ta w fa fw w' ra ca pm hok
  have hI : i_Rel (k + 5) (nI m, nI n, fo, mo, de, ce, ta, w, fa) (nI m, nI n, fw, ce, ta, w', ra, ca, pm) := sr_in hok
  have hok' := hok
  obtain ⟨m1, m2, n1, n2, hce, hta⟩ := hok
  rcases sr_tab v1 with ⟨t, ht, e⟩ | ⟨hX, hY⟩
  · subst e
    refine sx_determinant ht m2 n2 hce (fun hne => ?_) (fun x w hmn hx => ?_)
    · exact sy_determinant ht m1 m2 n2 hce (fun _ => ⟨rfl, hI⟩) (fun x' fw w ra ca pm hmn => absurd hmn hne)
    · exact sy_determinant ht m1 m2 n2 hce (fun hne => absurd hmn hne) (fun x' fw w ra ca pm _ hx' => ⟨Int64.toInt_inj.mp (hx'.trans hx.symm), sr_in hok'⟩)
  · unfold wpX_determinant wpY_determinant
    dsimp only
    exact hX _ (br_t rfl (hY _ _ (br_f (by decide) ⟨rfl, hI⟩)))
end
