section
/-! pure rows to paste: stores, nI and lN arithmetic, masks, shifts, narrowing, branches by naturals (pk_le, pk_lt, pk_eq), loops (lp1 .. lp16: the measure of the state; rp1 ..: recursion), negatives. Take what you need -/
theorem pk_us {f : Nat → Int32} {k : Nat} {x : Int32} : upd f k x k = x := if_pos rfl
theorem pk_un {f : Nat → Int32} {k j : Nat} {x : Int32} (h : j ≠ k) : upd f k x j = f j := if_neg h
theorem pk_uLs {f : Nat → Int64} {k : Nat} {x : Int64} : vp_updL f k x k = x := if_pos rfl
theorem pk_uLn {f : Nat → Int64} {k j : Nat} {x : Int64} (h : j ≠ k) : vp_updL f k x j = f j := if_neg h
theorem pk_sub {a b : Nat} (h : b ≤ a) : nI a - nI b = nI (a - b) := by
  obtain ⟨c, rfl⟩ : ∃ c, a = c + b := ⟨a - b, by omega⟩
  rw [← nI_add, Int32.add_sub_cancel, Nat.add_sub_cancel]
theorem pk_m1 (n : Nat) : nI (n + 1) + (-1) = nI n := by
  rw [← nI_1, Int32.add_assoc, show (1 : Int32) + (-1) = 0 from rfl, Int32.add_zero]
theorem pk_mul (a b : Nat) : nI a * nI b = nI (a * b) := (Int32.ofNat_mul a b).symm
theorem pk_div {a d : Nat} (ha : a < 2 ^ 31) (h0 : 0 < d) (hd : d < 2 ^ 31) : nI a / nI d = nI (a / d) := by
  apply Int32.toInt_inj.mp
  rw [lg_idiv_nonneg (by rw [nI_toInt ha]; omega) (by rw [nI_toInt hd]; omega), nI_toInt ha, nI_toInt hd, nI_toInt (Nat.lt_of_le_of_lt (Nat.div_le_self a d) ha)]
  first | rfl | exact (Int.natCast_ediv _ _).symm
theorem pk_rem {a d : Nat} (ha : a < 2 ^ 31) (h0 : 0 < d) (hd : d < 2 ^ 31) : nI a - nI a / nI d * nI d = nI (a % d) := by
  rw [pk_div ha h0 hd, pk_mul, pk_sub (Nat.div_mul_le_self a d)]
  exact congrArg nI (by have := Nat.div_add_mod' a d; omega)
theorem pk_sub_toInt {a b : Nat} (ha : a < 2 ^ 30) (hb : b < 2 ^ 30) : (nI a - nI b).toInt = (a : Int) - b := by
  rw [Int32.toInt_sub, nI_toInt (by omega), nI_toInt (by omega)]
  exact Int.bmod_eq_of_le (by omega) (by omega)
theorem pk_sneg {a b : Nat} (hb : b < 2 ^ 30) (h : a < b) : nI a - nI b < 0 := by
  rw [Int32.lt_iff_toInt_lt, pk_sub_toInt (by omega) hb, show (0 : Int32).toInt = 0 from by decide]
  omega
theorem pk_ix (x : Int32) {n : Nat} (hn : n < 2 ^ 31) : x < 0 ∨ nI n ≤ x ∨ ∃ j : Nat, j < n ∧ x = nI j := by
  by_cases h : x < 0
  · exact Or.inl h
  · obtain ⟨j, hj, rfl⟩ := nI_of h
    by_cases h2 : j < n
    · exact Or.inr (Or.inr ⟨j, h2, rfl⟩)
    · exact Or.inr (Or.inl (nI_le (by omega) hj))
theorem pk_le {x y : Int32} {A B : Prop} (a b : Nat) (f : a ≤ b → A) (g : b < a → B) (hx : x = nI a := by rfl) (hy : y = nI b := by rfl) (ha : a < 2 ^ 31 := by omega) (hb : b < 2 ^ 31 := by omega) : (x ≤ y → A) ∧ (¬ x ≤ y → B) := by
  subst hx hy
  rw [nI_leI ha hb]
  exact ⟨f, fun z => g (by omega)⟩
theorem pk_lt {x y : Int32} {A B : Prop} (a b : Nat) (f : a < b → A) (g : b ≤ a → B) (hx : x = nI a := by rfl) (hy : y = nI b := by rfl) (ha : a < 2 ^ 31 := by omega) (hb : b < 2 ^ 31 := by omega) : (x < y → A) ∧ (¬ x < y → B) := by
  subst hx hy
  rw [nI_ltI ha hb]
  exact ⟨f, fun z => g (by omega)⟩
theorem pk_eq {x y : Int32} {A B : Prop} (a b : Nat) (f : a = b → A) (g : a ≠ b → B) (hx : x = nI a := by rfl) (hy : y = nI b := by rfl) (ha : a < 2 ^ 31 := by omega) (hb : b < 2 ^ 31 := by omega) : (x = y → A) ∧ (¬ x = y → B) := by
  subst hx hy
  rw [nI_eq ha hb]
  exact ⟨f, g⟩
theorem pk_in {x : Int32} (n N : Nat) (h : n < N) (hx : x = nI n := by rfl) (hN : N < 2 ^ 31 := by omega) : vp_in x N := by
  subst hx
  exact vp_in_nI h hN
theorem pk_cl {x : Int32} (n : Nat) (hx : x = nI n := by rfl) (h : n < 2 ^ 31 := by omega) : x.toNatClampNeg = n := by
  subst hx
  exact nI_clamp h
theorem pk_tn {n : Nat} (h : n < 2 ^ 32) : (nI n).toBitVec.toNat = n := Nat.mod_eq_of_lt h
theorem pk_and (x : Int32) {m : Int32} (k : Nat) (hm : m.toBitVec.toNat = 2 ^ k - 1) : x &&& m = nI (x.toBitVec.toNat % 2 ^ k) := by
  apply Int32.toBitVec_inj.mp
  apply BitVec.eq_of_toNat_eq
  rw [Int32.toBitVec_and, BitVec.toNat_and, hm, Nat.and_two_pow_sub_one_eq_mod]
  show _ = (BitVec.ofNat 32 _).toNat
  rw [BitVec.toNat_ofNat]
  exact (Nat.mod_eq_of_lt (Nat.lt_of_le_of_lt (Nat.mod_le _ _) x.toBitVec.isLt)).symm
theorem pk_andN {n : Nat} (h : n < 2 ^ 32) {m : Int32} (k : Nat) (hm : m.toBitVec.toNat = 2 ^ k - 1) : nI n &&& m = nI (n % 2 ^ k) := by
  rw [pk_and _ k hm, pk_tn h]
theorem pk_andE (x : Int32) {m : Int32} (k : Nat) (hm : m.toBitVec.toNat = 2 ^ k - 1) : ∃ j : Nat, j < 2 ^ k ∧ x &&& m = nI j := ⟨_, Nat.mod_lt _ (Nat.two_pow_pos k), pk_and x k hm⟩
theorem pk_andIn (x : Int32) {m : Int32} (k : Nat) (hm : m.toBitVec.toNat = 2 ^ k - 1) (hk : k ≤ 30) : vp_in (x &&& m) (2 ^ k) := by
  obtain ⟨j, hj, e⟩ := pk_andE x k hm
  rw [e]
  exact vp_in_nI hj (Nat.lt_of_le_of_lt (Nat.pow_le_pow_right (by decide) hk) (by decide))
theorem pk_shl (a s : Int32) (k : Nat) (hs : (s.toBitVec.smod 32).toNat = k) : (a <<< s).toBitVec.toNat = a.toBitVec.toNat * 2 ^ k % 2 ^ 32 := by
  show (a.toBitVec <<< (s.toBitVec.smod 32).toNat).toNat = _
  rw [hs, BitVec.toNat_shiftLeft, Nat.shiftLeft_eq]
theorem pk_shlN {n : Nat} (s : Int32) (k : Nat) (hs : (s.toBitVec.smod 32).toNat = k) (h : n * 2 ^ k < 2 ^ 32) : nI n <<< s = nI (n * 2 ^ k) := by
  apply Int32.toBitVec_inj.mp
  apply BitVec.eq_of_toNat_eq
  have hn : n < 2 ^ 32 := Nat.lt_of_le_of_lt (Nat.le_mul_of_pos_right n (Nat.two_pow_pos k)) h
  rw [pk_shl _ _ k hs, pk_tn hn, pk_tn h, Nat.mod_eq_of_lt h]
theorem pk_shr (a s : Int32) (k : Nat) (hs : (s.toBitVec.smod 32).toNat = k) : (a >>> s).toInt = a.toInt >>> k := by
  show (a.toBitVec.sshiftRight (s.toBitVec.smod 32).toNat).toInt = _
  rw [hs, BitVec.toInt_sshiftRight]
  rfl
theorem pk_shrN {n : Nat} (h : n < 2 ^ 31) (s : Int32) (k : Nat) (hs : (s.toBitVec.smod 32).toNat = k) : nI n >>> s = nI (n / 2 ^ k) := by
  apply Int32.toInt_inj.mp
  have h2 : n / 2 ^ k ≤ n := Nat.div_le_self _ _
  rw [pk_shr _ _ k hs, nI_toInt h, nI_toInt (by omega), Int.shiftRight_eq_div_pow]
  rfl
theorem pk_ushr (x s : Int32) (k : Nat) (hs : ((s.toUInt32 &&& Int32.toUInt32 31).toBitVec % 32).toNat = k) : (x.toUInt32 >>> (s.toUInt32 &&& Int32.toUInt32 31)).toInt32.toBitVec.toNat = x.toBitVec.toNat / 2 ^ k := by
  have e : (x.toUInt32 >>> (s.toUInt32 &&& Int32.toUInt32 31)).toInt32.toBitVec = x.toBitVec >>> k := by
    rw [← hs]
    exact UInt32.toBitVec_shiftRight _ _
  rw [e, BitVec.toNat_ushiftRight, Nat.shiftRight_eq_div_pow]
theorem pk_ushrN {n : Nat} (hn : n < 2 ^ 32) (s : Int32) (k : Nat) (hs : ((s.toUInt32 &&& Int32.toUInt32 31).toBitVec % 32).toNat = k) : ((nI n).toUInt32 >>> (s.toUInt32 &&& Int32.toUInt32 31)).toInt32 = nI (n / 2 ^ k) := by
  apply Int32.toBitVec_inj.mp
  apply BitVec.eq_of_toNat_eq
  rw [pk_ushr _ s k hs, pk_tn hn, pk_tn (Nat.lt_of_le_of_lt (Nat.div_le_self _ _) hn)]
theorem pk_nb (z : Int32) : narrow .byte (.int z.toInt8.toInt32) = .int z.toInt8.toInt32 := congrArg Value.int (by simp)
theorem pk_ns (z : Int32) : narrow .short (.int z.toInt16.toInt32) = .int z.toInt16.toInt32 := congrArg Value.int (by simp)
theorem pk_fb (r : Int32) : fits .byte (.int r.toInt8.toInt32) = true := by
  have ⟨a, b⟩ := lg_i2b_range r
  have h1 : (-128 : Int32).toInt = -128 := by decide
  have h2 : (127 : Int32).toInt = 127 := by decide
  simp only [fits, Bool.and_eq_true, decide_eq_true_eq, Int32.le_iff_toInt_le, h1, h2]
  omega
theorem pk_fs (r : Int32) : fits .short (.int r.toInt16.toInt32) = true := by
  have ⟨a, b⟩ := lg_i2s_range r
  have h1 : (-32768 : Int32).toInt = -32768 := by decide
  have h2 : (32767 : Int32).toInt = 32767 := by decide
  simp only [fits, Bool.and_eq_true, decide_eq_true_eq, Int32.le_iff_toInt_le, h1, h2]
  omega
theorem pk_charN {q : Nat} (hq : q < 65536) : narrow .char (.int (nI q)) = .int (nI q) ∧ fits .char (.int (nI q)) = true := by
  constructor
  · have e : (nI q).toUInt32.toUInt16.toUInt32.toInt32 = nI q := by
      apply Int32.toBitVec_inj.mp
      apply BitVec.eq_of_toNat_eq
      show (nI q).toUInt32.toUInt16.toUInt32.toNat = q % 2 ^ 32
      rw [UInt16.toNat_toUInt32, UInt32.toNat_toUInt16, show (nI q).toUInt32.toNat = q % 2 ^ 32 from rfl]
      omega
    exact congrArg Value.int e
  · have a : (0 : Int32) ≤ nI q := nI_pos' (by omega)
    have b : nI q ≤ 65535 := nI_le (b := 65535) (by omega) (by decide)
    show (decide ((0 : Int32) ≤ nI q) && decide (nI q ≤ 65535)) = true
    rw [decide_eq_true a, decide_eq_true b]
    rfl
theorem pk_char (x : Int32) : (x.toUInt32 % 65536).toInt32 = nI (x.toBitVec.toNat % 65536) := by
  apply Int32.toBitVec_inj.mp
  apply BitVec.eq_of_toNat_eq
  rw [pk_tn (by omega)]
  show (x.toUInt32 % 65536).toNat = _
  rw [UInt32.toNat_mod]
  rfl
theorem pk_nc (x : Int32) : narrow .char (.int (x.toUInt32 % 65536).toInt32) = .int (x.toUInt32 % 65536).toInt32 := by
  rw [pk_char]
  exact (pk_charN (Nat.mod_lt _ (by decide))).1
theorem pk_fc (x : Int32) : fits .char (.int (x.toUInt32 % 65536).toInt32) = true := by
  rw [pk_char]
  exact (pk_charN (Nat.mod_lt _ (by decide))).2
theorem pk_vb (z : Int32) : vp_nar .byte z.toInt8.toInt32 = z.toInt8.toInt32 := by rw [vp_nar_byte]; simp
theorem pk_vs (z : Int32) : vp_nar .short z.toInt16.toInt32 = z.toInt16.toInt32 := by rw [vp_nar_short]; simp
theorem pk_vc (z : Int32) : vp_nar .char (z.toUInt32 % 65536).toInt32 = (z.toUInt32 % 65536).toInt32 := Value.int.inj (pk_nc z)
theorem pk_lT {n : Nat} (h : n < 2 ^ 63) : (lN n).toInt = (n : Int) := lg_ofNat_toInt h
theorem pk_lLT {a b : Nat} (ha : a < 2 ^ 63) (hb : b < 2 ^ 63) : lN a < lN b ↔ a < b := by
  rw [Int64.lt_iff_toInt_lt, pk_lT ha, pk_lT hb]; omega
theorem pk_lLE {a b : Nat} (ha : a < 2 ^ 63) (hb : b < 2 ^ 63) : lN a ≤ lN b ↔ a ≤ b := by
  rw [Int64.le_iff_toInt_le, pk_lT ha, pk_lT hb]; omega
theorem pk_lEQ {a b : Nat} (ha : a < 2 ^ 63) (hb : b < 2 ^ 63) : lN a = lN b ↔ a = b := by
  rw [← Int64.toInt_inj, pk_lT ha, pk_lT hb]; omega
theorem pk_lOf {x : Int64} (h : ¬ x < 0) : ∃ k : Nat, k < 2 ^ 63 ∧ x = lN k := by
  rw [Int64.lt_iff_toInt_lt] at h
  have h0 : (0 : Int64).toInt = 0 := by decide
  have hx := Int64.toInt_lt x
  refine ⟨x.toInt.toNat, by omega, Int64.toInt_inj.mp ?_⟩
  rw [pk_lT (by omega)]
  omega
theorem pk_lDiv {a b : Nat} (ha : a < 2 ^ 63) (h0 : 0 < b) (hb : b < 2 ^ 63) : lN a / lN b = lN (a / b) := by
  apply Int64.toInt_inj.mp
  rw [lg_ldiv_nonneg (by rw [pk_lT ha]; omega) (by rw [pk_lT hb]; omega), pk_lT ha, pk_lT hb, pk_lT (Nat.lt_of_le_of_lt (Nat.div_le_self a b) ha)]
  rfl
theorem pk_lRem {a b : Nat} (ha : a < 2 ^ 63) (h0 : 0 < b) (hb : b < 2 ^ 63) : lN a - lN a / lN b * lN b = lN (a % b) := by
  rw [pk_lDiv ha h0 hb, lN_mul, lN_sub (Nat.div_mul_le_self a b)]
  exact congrArg lN (by have := Nat.div_add_mod' a b; omega)
theorem pk_loop {σ : Type} (W : Nat → Nat → σ → Prop) (I : Nat → σ → Prop) (e i0 : Nat) (s : σ) (hi : i0 ≤ e) (h0 : I i0 s) (hx : ∀ n s, I e s → W (n + 1) e s)
    (hs : ∀ n i s, i < e → I i s → (∀ s', I (i + 1) s' → W n (i + 1) s') → W (n + 1) i s) : ∃ n, W n i0 s :=
  ⟨e + 1, loop_i W I e hx hs (e + 1) i0 s hi (by omega) h0⟩
theorem pk_loopD {σ : Type} (W : Nat → Nat → σ → Prop) (I : Nat → σ → Prop) (hx : ∀ n s, I 0 s → W (n + 1) 0 s)
    (hs : ∀ n i s, I (i + 1) s → (∀ s', I i s' → W n i s') → W (n + 1) (i + 1) s) : ∀ (e : Nat) (s : σ), I e s → W (e + 1) e s := by
  intro e
  induction e with
  | zero => exact fun s h => hx 0 s h
  | succ e ih => exact fun s h => hs (e + 1) e s h (fun s' h' => ih s' h')
theorem lp1 {A1 : Type} (W : Nat → A1 → Prop) (I : A1 → Prop) (μ : A1 → Nat) (hs : ∀ (n : Nat) (a1 : A1), I a1 → (∀ (b1 : A1), I b1 → μ b1 < μ a1 → W n b1) → W (n + 1) a1) (a1 : A1) (h : I a1) : ∃ n, W n a1 :=
  loop_m (σ := A1) (fun n s => W n s) (fun s => I s) (fun s => μ s) (fun n s hI hk => hs n s hI (fun b1 h9 hm => hk b1 h9 hm)) a1 h
theorem lp2 {A1 A2 : Type} (W : Nat → A1 → A2 → Prop) (I : A1 → A2 → Prop) (μ : A1 → A2 → Nat) (hs : ∀ (n : Nat) (a1 : A1) (a2 : A2), I a1 a2 → (∀ (b1 : A1) (b2 : A2), I b1 b2 → μ b1 b2 < μ a1 a2 → W n b1 b2) → W (n + 1) a1 a2) (a1 : A1) (a2 : A2) (h : I a1 a2) : ∃ n, W n a1 a2 :=
  loop_m (σ := A1 × A2) (fun n s => W n s.1 s.2) (fun s => I s.1 s.2) (fun s => μ s.1 s.2) (fun n s hI hk => hs n s.1 s.2 hI (fun b1 b2 h9 hm => hk (b1, b2) h9 hm)) (a1, a2) h
theorem lp3 {A1 A2 A3 : Type} (W : Nat → A1 → A2 → A3 → Prop) (I : A1 → A2 → A3 → Prop) (μ : A1 → A2 → A3 → Nat) (hs : ∀ (n : Nat) (a1 : A1) (a2 : A2) (a3 : A3), I a1 a2 a3 → (∀ (b1 : A1) (b2 : A2) (b3 : A3), I b1 b2 b3 → μ b1 b2 b3 < μ a1 a2 a3 → W n b1 b2 b3) → W (n + 1) a1 a2 a3) (a1 : A1) (a2 : A2) (a3 : A3) (h : I a1 a2 a3) : ∃ n, W n a1 a2 a3 :=
  loop_m (σ := A1 × A2 × A3) (fun n s => W n s.1 s.2.1 s.2.2) (fun s => I s.1 s.2.1 s.2.2) (fun s => μ s.1 s.2.1 s.2.2) (fun n s hI hk => hs n s.1 s.2.1 s.2.2 hI (fun b1 b2 b3 h9 hm => hk (b1, b2, b3) h9 hm)) (a1, a2, a3) h
theorem lp4 {A1 A2 A3 A4 : Type} (W : Nat → A1 → A2 → A3 → A4 → Prop) (I : A1 → A2 → A3 → A4 → Prop) (μ : A1 → A2 → A3 → A4 → Nat) (hs : ∀ (n : Nat) (a1 : A1) (a2 : A2) (a3 : A3) (a4 : A4), I a1 a2 a3 a4 → (∀ (b1 : A1) (b2 : A2) (b3 : A3) (b4 : A4), I b1 b2 b3 b4 → μ b1 b2 b3 b4 < μ a1 a2 a3 a4 → W n b1 b2 b3 b4) → W (n + 1) a1 a2 a3 a4) (a1 : A1) (a2 : A2) (a3 : A3) (a4 : A4) (h : I a1 a2 a3 a4) : ∃ n, W n a1 a2 a3 a4 :=
  loop_m (σ := A1 × A2 × A3 × A4) (fun n s => W n s.1 s.2.1 s.2.2.1 s.2.2.2) (fun s => I s.1 s.2.1 s.2.2.1 s.2.2.2) (fun s => μ s.1 s.2.1 s.2.2.1 s.2.2.2) (fun n s hI hk => hs n s.1 s.2.1 s.2.2.1 s.2.2.2 hI (fun b1 b2 b3 b4 h9 hm => hk (b1, b2, b3, b4) h9 hm)) (a1, a2, a3, a4) h
theorem lp5 {A1 A2 A3 A4 A5 : Type} (W : Nat → A1 → A2 → A3 → A4 → A5 → Prop) (I : A1 → A2 → A3 → A4 → A5 → Prop) (μ : A1 → A2 → A3 → A4 → A5 → Nat) (hs : ∀ (n : Nat) (a1 : A1) (a2 : A2) (a3 : A3) (a4 : A4) (a5 : A5), I a1 a2 a3 a4 a5 → (∀ (b1 : A1) (b2 : A2) (b3 : A3) (b4 : A4) (b5 : A5), I b1 b2 b3 b4 b5 → μ b1 b2 b3 b4 b5 < μ a1 a2 a3 a4 a5 → W n b1 b2 b3 b4 b5) → W (n + 1) a1 a2 a3 a4 a5) (a1 : A1) (a2 : A2) (a3 : A3) (a4 : A4) (a5 : A5) (h : I a1 a2 a3 a4 a5) : ∃ n, W n a1 a2 a3 a4 a5 :=
  loop_m (σ := A1 × A2 × A3 × A4 × A5) (fun n s => W n s.1 s.2.1 s.2.2.1 s.2.2.2.1 s.2.2.2.2) (fun s => I s.1 s.2.1 s.2.2.1 s.2.2.2.1 s.2.2.2.2) (fun s => μ s.1 s.2.1 s.2.2.1 s.2.2.2.1 s.2.2.2.2) (fun n s hI hk => hs n s.1 s.2.1 s.2.2.1 s.2.2.2.1 s.2.2.2.2 hI (fun b1 b2 b3 b4 b5 h9 hm => hk (b1, b2, b3, b4, b5) h9 hm)) (a1, a2, a3, a4, a5) h
theorem lp6 {A1 A2 A3 A4 A5 A6 : Type} (W : Nat → A1 → A2 → A3 → A4 → A5 → A6 → Prop) (I : A1 → A2 → A3 → A4 → A5 → A6 → Prop) (μ : A1 → A2 → A3 → A4 → A5 → A6 → Nat) (hs : ∀ (n : Nat) (a1 : A1) (a2 : A2) (a3 : A3) (a4 : A4) (a5 : A5) (a6 : A6), I a1 a2 a3 a4 a5 a6 → (∀ (b1 : A1) (b2 : A2) (b3 : A3) (b4 : A4) (b5 : A5) (b6 : A6), I b1 b2 b3 b4 b5 b6 → μ b1 b2 b3 b4 b5 b6 < μ a1 a2 a3 a4 a5 a6 → W n b1 b2 b3 b4 b5 b6) → W (n + 1) a1 a2 a3 a4 a5 a6) (a1 : A1) (a2 : A2) (a3 : A3) (a4 : A4) (a5 : A5) (a6 : A6) (h : I a1 a2 a3 a4 a5 a6) : ∃ n, W n a1 a2 a3 a4 a5 a6 :=
  loop_m (σ := A1 × A2 × A3 × A4 × A5 × A6) (fun n s => W n s.1 s.2.1 s.2.2.1 s.2.2.2.1 s.2.2.2.2.1 s.2.2.2.2.2) (fun s => I s.1 s.2.1 s.2.2.1 s.2.2.2.1 s.2.2.2.2.1 s.2.2.2.2.2) (fun s => μ s.1 s.2.1 s.2.2.1 s.2.2.2.1 s.2.2.2.2.1 s.2.2.2.2.2) (fun n s hI hk => hs n s.1 s.2.1 s.2.2.1 s.2.2.2.1 s.2.2.2.2.1 s.2.2.2.2.2 hI (fun b1 b2 b3 b4 b5 b6 h9 hm => hk (b1, b2, b3, b4, b5, b6) h9 hm)) (a1, a2, a3, a4, a5, a6) h
theorem lp7 {A1 A2 A3 A4 A5 A6 A7 : Type} (W : Nat → A1 → A2 → A3 → A4 → A5 → A6 → A7 → Prop) (I : A1 → A2 → A3 → A4 → A5 → A6 → A7 → Prop) (μ : A1 → A2 → A3 → A4 → A5 → A6 → A7 → Nat) (hs : ∀ (n : Nat) (a1 : A1) (a2 : A2) (a3 : A3) (a4 : A4) (a5 : A5) (a6 : A6) (a7 : A7), I a1 a2 a3 a4 a5 a6 a7 → (∀ (b1 : A1) (b2 : A2) (b3 : A3) (b4 : A4) (b5 : A5) (b6 : A6) (b7 : A7), I b1 b2 b3 b4 b5 b6 b7 → μ b1 b2 b3 b4 b5 b6 b7 < μ a1 a2 a3 a4 a5 a6 a7 → W n b1 b2 b3 b4 b5 b6 b7) → W (n + 1) a1 a2 a3 a4 a5 a6 a7) (a1 : A1) (a2 : A2) (a3 : A3) (a4 : A4) (a5 : A5) (a6 : A6) (a7 : A7) (h : I a1 a2 a3 a4 a5 a6 a7) : ∃ n, W n a1 a2 a3 a4 a5 a6 a7 :=
  loop_m (σ := A1 × A2 × A3 × A4 × A5 × A6 × A7) (fun n s => W n s.1 s.2.1 s.2.2.1 s.2.2.2.1 s.2.2.2.2.1 s.2.2.2.2.2.1 s.2.2.2.2.2.2) (fun s => I s.1 s.2.1 s.2.2.1 s.2.2.2.1 s.2.2.2.2.1 s.2.2.2.2.2.1 s.2.2.2.2.2.2) (fun s => μ s.1 s.2.1 s.2.2.1 s.2.2.2.1 s.2.2.2.2.1 s.2.2.2.2.2.1 s.2.2.2.2.2.2) (fun n s hI hk => hs n s.1 s.2.1 s.2.2.1 s.2.2.2.1 s.2.2.2.2.1 s.2.2.2.2.2.1 s.2.2.2.2.2.2 hI (fun b1 b2 b3 b4 b5 b6 b7 h9 hm => hk (b1, b2, b3, b4, b5, b6, b7) h9 hm)) (a1, a2, a3, a4, a5, a6, a7) h
theorem lp8 {A1 A2 A3 A4 A5 A6 A7 A8 : Type} (W : Nat → A1 → A2 → A3 → A4 → A5 → A6 → A7 → A8 → Prop) (I : A1 → A2 → A3 → A4 → A5 → A6 → A7 → A8 → Prop) (μ : A1 → A2 → A3 → A4 → A5 → A6 → A7 → A8 → Nat) (hs : ∀ (n : Nat) (a1 : A1) (a2 : A2) (a3 : A3) (a4 : A4) (a5 : A5) (a6 : A6) (a7 : A7) (a8 : A8), I a1 a2 a3 a4 a5 a6 a7 a8 → (∀ (b1 : A1) (b2 : A2) (b3 : A3) (b4 : A4) (b5 : A5) (b6 : A6) (b7 : A7) (b8 : A8), I b1 b2 b3 b4 b5 b6 b7 b8 → μ b1 b2 b3 b4 b5 b6 b7 b8 < μ a1 a2 a3 a4 a5 a6 a7 a8 → W n b1 b2 b3 b4 b5 b6 b7 b8) → W (n + 1) a1 a2 a3 a4 a5 a6 a7 a8) (a1 : A1) (a2 : A2) (a3 : A3) (a4 : A4) (a5 : A5) (a6 : A6) (a7 : A7) (a8 : A8) (h : I a1 a2 a3 a4 a5 a6 a7 a8) : ∃ n, W n a1 a2 a3 a4 a5 a6 a7 a8 :=
  loop_m (σ := A1 × A2 × A3 × A4 × A5 × A6 × A7 × A8) (fun n s => W n s.1 s.2.1 s.2.2.1 s.2.2.2.1 s.2.2.2.2.1 s.2.2.2.2.2.1 s.2.2.2.2.2.2.1 s.2.2.2.2.2.2.2) (fun s => I s.1 s.2.1 s.2.2.1 s.2.2.2.1 s.2.2.2.2.1 s.2.2.2.2.2.1 s.2.2.2.2.2.2.1 s.2.2.2.2.2.2.2) (fun s => μ s.1 s.2.1 s.2.2.1 s.2.2.2.1 s.2.2.2.2.1 s.2.2.2.2.2.1 s.2.2.2.2.2.2.1 s.2.2.2.2.2.2.2) (fun n s hI hk => hs n s.1 s.2.1 s.2.2.1 s.2.2.2.1 s.2.2.2.2.1 s.2.2.2.2.2.1 s.2.2.2.2.2.2.1 s.2.2.2.2.2.2.2 hI (fun b1 b2 b3 b4 b5 b6 b7 b8 h9 hm => hk (b1, b2, b3, b4, b5, b6, b7, b8) h9 hm)) (a1, a2, a3, a4, a5, a6, a7, a8) h
theorem lp9 {A1 A2 A3 A4 A5 A6 A7 A8 A9 : Type} (W : Nat → A1 → A2 → A3 → A4 → A5 → A6 → A7 → A8 → A9 → Prop) (I : A1 → A2 → A3 → A4 → A5 → A6 → A7 → A8 → A9 → Prop) (μ : A1 → A2 → A3 → A4 → A5 → A6 → A7 → A8 → A9 → Nat) (hs : ∀ (n : Nat) (a1 : A1) (a2 : A2) (a3 : A3) (a4 : A4) (a5 : A5) (a6 : A6) (a7 : A7) (a8 : A8) (a9 : A9), I a1 a2 a3 a4 a5 a6 a7 a8 a9 → (∀ (b1 : A1) (b2 : A2) (b3 : A3) (b4 : A4) (b5 : A5) (b6 : A6) (b7 : A7) (b8 : A8) (b9 : A9), I b1 b2 b3 b4 b5 b6 b7 b8 b9 → μ b1 b2 b3 b4 b5 b6 b7 b8 b9 < μ a1 a2 a3 a4 a5 a6 a7 a8 a9 → W n b1 b2 b3 b4 b5 b6 b7 b8 b9) → W (n + 1) a1 a2 a3 a4 a5 a6 a7 a8 a9) (a1 : A1) (a2 : A2) (a3 : A3) (a4 : A4) (a5 : A5) (a6 : A6) (a7 : A7) (a8 : A8) (a9 : A9) (h : I a1 a2 a3 a4 a5 a6 a7 a8 a9) : ∃ n, W n a1 a2 a3 a4 a5 a6 a7 a8 a9 :=
  loop_m (σ := A1 × A2 × A3 × A4 × A5 × A6 × A7 × A8 × A9) (fun n s => W n s.1 s.2.1 s.2.2.1 s.2.2.2.1 s.2.2.2.2.1 s.2.2.2.2.2.1 s.2.2.2.2.2.2.1 s.2.2.2.2.2.2.2.1 s.2.2.2.2.2.2.2.2) (fun s => I s.1 s.2.1 s.2.2.1 s.2.2.2.1 s.2.2.2.2.1 s.2.2.2.2.2.1 s.2.2.2.2.2.2.1 s.2.2.2.2.2.2.2.1 s.2.2.2.2.2.2.2.2) (fun s => μ s.1 s.2.1 s.2.2.1 s.2.2.2.1 s.2.2.2.2.1 s.2.2.2.2.2.1 s.2.2.2.2.2.2.1 s.2.2.2.2.2.2.2.1 s.2.2.2.2.2.2.2.2) (fun n s hI hk => hs n s.1 s.2.1 s.2.2.1 s.2.2.2.1 s.2.2.2.2.1 s.2.2.2.2.2.1 s.2.2.2.2.2.2.1 s.2.2.2.2.2.2.2.1 s.2.2.2.2.2.2.2.2 hI (fun b1 b2 b3 b4 b5 b6 b7 b8 b9 h9 hm => hk (b1, b2, b3, b4, b5, b6, b7, b8, b9) h9 hm)) (a1, a2, a3, a4, a5, a6, a7, a8, a9) h
theorem lp10 {A1 A2 A3 A4 A5 A6 A7 A8 A9 A10 : Type} (W : Nat → A1 → A2 → A3 → A4 → A5 → A6 → A7 → A8 → A9 → A10 → Prop) (I : A1 → A2 → A3 → A4 → A5 → A6 → A7 → A8 → A9 → A10 → Prop) (μ : A1 → A2 → A3 → A4 → A5 → A6 → A7 → A8 → A9 → A10 → Nat) (hs : ∀ (n : Nat) (a1 : A1) (a2 : A2) (a3 : A3) (a4 : A4) (a5 : A5) (a6 : A6) (a7 : A7) (a8 : A8) (a9 : A9) (a10 : A10), I a1 a2 a3 a4 a5 a6 a7 a8 a9 a10 → (∀ (b1 : A1) (b2 : A2) (b3 : A3) (b4 : A4) (b5 : A5) (b6 : A6) (b7 : A7) (b8 : A8) (b9 : A9) (b10 : A10), I b1 b2 b3 b4 b5 b6 b7 b8 b9 b10 → μ b1 b2 b3 b4 b5 b6 b7 b8 b9 b10 < μ a1 a2 a3 a4 a5 a6 a7 a8 a9 a10 → W n b1 b2 b3 b4 b5 b6 b7 b8 b9 b10) → W (n + 1) a1 a2 a3 a4 a5 a6 a7 a8 a9 a10) (a1 : A1) (a2 : A2) (a3 : A3) (a4 : A4) (a5 : A5) (a6 : A6) (a7 : A7) (a8 : A8) (a9 : A9) (a10 : A10) (h : I a1 a2 a3 a4 a5 a6 a7 a8 a9 a10) : ∃ n, W n a1 a2 a3 a4 a5 a6 a7 a8 a9 a10 :=
  loop_m (σ := A1 × A2 × A3 × A4 × A5 × A6 × A7 × A8 × A9 × A10) (fun n s => W n s.1 s.2.1 s.2.2.1 s.2.2.2.1 s.2.2.2.2.1 s.2.2.2.2.2.1 s.2.2.2.2.2.2.1 s.2.2.2.2.2.2.2.1 s.2.2.2.2.2.2.2.2.1 s.2.2.2.2.2.2.2.2.2) (fun s => I s.1 s.2.1 s.2.2.1 s.2.2.2.1 s.2.2.2.2.1 s.2.2.2.2.2.1 s.2.2.2.2.2.2.1 s.2.2.2.2.2.2.2.1 s.2.2.2.2.2.2.2.2.1 s.2.2.2.2.2.2.2.2.2) (fun s => μ s.1 s.2.1 s.2.2.1 s.2.2.2.1 s.2.2.2.2.1 s.2.2.2.2.2.1 s.2.2.2.2.2.2.1 s.2.2.2.2.2.2.2.1 s.2.2.2.2.2.2.2.2.1 s.2.2.2.2.2.2.2.2.2) (fun n s hI hk => hs n s.1 s.2.1 s.2.2.1 s.2.2.2.1 s.2.2.2.2.1 s.2.2.2.2.2.1 s.2.2.2.2.2.2.1 s.2.2.2.2.2.2.2.1 s.2.2.2.2.2.2.2.2.1 s.2.2.2.2.2.2.2.2.2 hI (fun b1 b2 b3 b4 b5 b6 b7 b8 b9 b10 h9 hm => hk (b1, b2, b3, b4, b5, b6, b7, b8, b9, b10) h9 hm)) (a1, a2, a3, a4, a5, a6, a7, a8, a9, a10) h
theorem lp11 {A1 A2 A3 A4 A5 A6 A7 A8 A9 A10 A11 : Type} (W : Nat → A1 → A2 → A3 → A4 → A5 → A6 → A7 → A8 → A9 → A10 → A11 → Prop) (I : A1 → A2 → A3 → A4 → A5 → A6 → A7 → A8 → A9 → A10 → A11 → Prop) (μ : A1 → A2 → A3 → A4 → A5 → A6 → A7 → A8 → A9 → A10 → A11 → Nat) (hs : ∀ (n : Nat) (a1 : A1) (a2 : A2) (a3 : A3) (a4 : A4) (a5 : A5) (a6 : A6) (a7 : A7) (a8 : A8) (a9 : A9) (a10 : A10) (a11 : A11), I a1 a2 a3 a4 a5 a6 a7 a8 a9 a10 a11 → (∀ (b1 : A1) (b2 : A2) (b3 : A3) (b4 : A4) (b5 : A5) (b6 : A6) (b7 : A7) (b8 : A8) (b9 : A9) (b10 : A10) (b11 : A11), I b1 b2 b3 b4 b5 b6 b7 b8 b9 b10 b11 → μ b1 b2 b3 b4 b5 b6 b7 b8 b9 b10 b11 < μ a1 a2 a3 a4 a5 a6 a7 a8 a9 a10 a11 → W n b1 b2 b3 b4 b5 b6 b7 b8 b9 b10 b11) → W (n + 1) a1 a2 a3 a4 a5 a6 a7 a8 a9 a10 a11) (a1 : A1) (a2 : A2) (a3 : A3) (a4 : A4) (a5 : A5) (a6 : A6) (a7 : A7) (a8 : A8) (a9 : A9) (a10 : A10) (a11 : A11) (h : I a1 a2 a3 a4 a5 a6 a7 a8 a9 a10 a11) : ∃ n, W n a1 a2 a3 a4 a5 a6 a7 a8 a9 a10 a11 :=
  loop_m (σ := A1 × A2 × A3 × A4 × A5 × A6 × A7 × A8 × A9 × A10 × A11) (fun n s => W n s.1 s.2.1 s.2.2.1 s.2.2.2.1 s.2.2.2.2.1 s.2.2.2.2.2.1 s.2.2.2.2.2.2.1 s.2.2.2.2.2.2.2.1 s.2.2.2.2.2.2.2.2.1 s.2.2.2.2.2.2.2.2.2.1 s.2.2.2.2.2.2.2.2.2.2) (fun s => I s.1 s.2.1 s.2.2.1 s.2.2.2.1 s.2.2.2.2.1 s.2.2.2.2.2.1 s.2.2.2.2.2.2.1 s.2.2.2.2.2.2.2.1 s.2.2.2.2.2.2.2.2.1 s.2.2.2.2.2.2.2.2.2.1 s.2.2.2.2.2.2.2.2.2.2) (fun s => μ s.1 s.2.1 s.2.2.1 s.2.2.2.1 s.2.2.2.2.1 s.2.2.2.2.2.1 s.2.2.2.2.2.2.1 s.2.2.2.2.2.2.2.1 s.2.2.2.2.2.2.2.2.1 s.2.2.2.2.2.2.2.2.2.1 s.2.2.2.2.2.2.2.2.2.2) (fun n s hI hk => hs n s.1 s.2.1 s.2.2.1 s.2.2.2.1 s.2.2.2.2.1 s.2.2.2.2.2.1 s.2.2.2.2.2.2.1 s.2.2.2.2.2.2.2.1 s.2.2.2.2.2.2.2.2.1 s.2.2.2.2.2.2.2.2.2.1 s.2.2.2.2.2.2.2.2.2.2 hI (fun b1 b2 b3 b4 b5 b6 b7 b8 b9 b10 b11 h9 hm => hk (b1, b2, b3, b4, b5, b6, b7, b8, b9, b10, b11) h9 hm)) (a1, a2, a3, a4, a5, a6, a7, a8, a9, a10, a11) h
theorem lp12 {A1 A2 A3 A4 A5 A6 A7 A8 A9 A10 A11 A12 : Type} (W : Nat → A1 → A2 → A3 → A4 → A5 → A6 → A7 → A8 → A9 → A10 → A11 → A12 → Prop) (I : A1 → A2 → A3 → A4 → A5 → A6 → A7 → A8 → A9 → A10 → A11 → A12 → Prop) (μ : A1 → A2 → A3 → A4 → A5 → A6 → A7 → A8 → A9 → A10 → A11 → A12 → Nat) (hs : ∀ (n : Nat) (a1 : A1) (a2 : A2) (a3 : A3) (a4 : A4) (a5 : A5) (a6 : A6) (a7 : A7) (a8 : A8) (a9 : A9) (a10 : A10) (a11 : A11) (a12 : A12), I a1 a2 a3 a4 a5 a6 a7 a8 a9 a10 a11 a12 → (∀ (b1 : A1) (b2 : A2) (b3 : A3) (b4 : A4) (b5 : A5) (b6 : A6) (b7 : A7) (b8 : A8) (b9 : A9) (b10 : A10) (b11 : A11) (b12 : A12), I b1 b2 b3 b4 b5 b6 b7 b8 b9 b10 b11 b12 → μ b1 b2 b3 b4 b5 b6 b7 b8 b9 b10 b11 b12 < μ a1 a2 a3 a4 a5 a6 a7 a8 a9 a10 a11 a12 → W n b1 b2 b3 b4 b5 b6 b7 b8 b9 b10 b11 b12) → W (n + 1) a1 a2 a3 a4 a5 a6 a7 a8 a9 a10 a11 a12) (a1 : A1) (a2 : A2) (a3 : A3) (a4 : A4) (a5 : A5) (a6 : A6) (a7 : A7) (a8 : A8) (a9 : A9) (a10 : A10) (a11 : A11) (a12 : A12) (h : I a1 a2 a3 a4 a5 a6 a7 a8 a9 a10 a11 a12) : ∃ n, W n a1 a2 a3 a4 a5 a6 a7 a8 a9 a10 a11 a12 :=
  loop_m (σ := A1 × A2 × A3 × A4 × A5 × A6 × A7 × A8 × A9 × A10 × A11 × A12) (fun n s => W n s.1 s.2.1 s.2.2.1 s.2.2.2.1 s.2.2.2.2.1 s.2.2.2.2.2.1 s.2.2.2.2.2.2.1 s.2.2.2.2.2.2.2.1 s.2.2.2.2.2.2.2.2.1 s.2.2.2.2.2.2.2.2.2.1 s.2.2.2.2.2.2.2.2.2.2.1 s.2.2.2.2.2.2.2.2.2.2.2) (fun s => I s.1 s.2.1 s.2.2.1 s.2.2.2.1 s.2.2.2.2.1 s.2.2.2.2.2.1 s.2.2.2.2.2.2.1 s.2.2.2.2.2.2.2.1 s.2.2.2.2.2.2.2.2.1 s.2.2.2.2.2.2.2.2.2.1 s.2.2.2.2.2.2.2.2.2.2.1 s.2.2.2.2.2.2.2.2.2.2.2) (fun s => μ s.1 s.2.1 s.2.2.1 s.2.2.2.1 s.2.2.2.2.1 s.2.2.2.2.2.1 s.2.2.2.2.2.2.1 s.2.2.2.2.2.2.2.1 s.2.2.2.2.2.2.2.2.1 s.2.2.2.2.2.2.2.2.2.1 s.2.2.2.2.2.2.2.2.2.2.1 s.2.2.2.2.2.2.2.2.2.2.2) (fun n s hI hk => hs n s.1 s.2.1 s.2.2.1 s.2.2.2.1 s.2.2.2.2.1 s.2.2.2.2.2.1 s.2.2.2.2.2.2.1 s.2.2.2.2.2.2.2.1 s.2.2.2.2.2.2.2.2.1 s.2.2.2.2.2.2.2.2.2.1 s.2.2.2.2.2.2.2.2.2.2.1 s.2.2.2.2.2.2.2.2.2.2.2 hI (fun b1 b2 b3 b4 b5 b6 b7 b8 b9 b10 b11 b12 h9 hm => hk (b1, b2, b3, b4, b5, b6, b7, b8, b9, b10, b11, b12) h9 hm)) (a1, a2, a3, a4, a5, a6, a7, a8, a9, a10, a11, a12) h
theorem lp13 {A1 A2 A3 A4 A5 A6 A7 A8 A9 A10 A11 A12 A13 : Type} (W : Nat → A1 → A2 → A3 → A4 → A5 → A6 → A7 → A8 → A9 → A10 → A11 → A12 → A13 → Prop) (I : A1 → A2 → A3 → A4 → A5 → A6 → A7 → A8 → A9 → A10 → A11 → A12 → A13 → Prop) (μ : A1 → A2 → A3 → A4 → A5 → A6 → A7 → A8 → A9 → A10 → A11 → A12 → A13 → Nat) (hs : ∀ (n : Nat) (a1 : A1) (a2 : A2) (a3 : A3) (a4 : A4) (a5 : A5) (a6 : A6) (a7 : A7) (a8 : A8) (a9 : A9) (a10 : A10) (a11 : A11) (a12 : A12) (a13 : A13), I a1 a2 a3 a4 a5 a6 a7 a8 a9 a10 a11 a12 a13 → (∀ (b1 : A1) (b2 : A2) (b3 : A3) (b4 : A4) (b5 : A5) (b6 : A6) (b7 : A7) (b8 : A8) (b9 : A9) (b10 : A10) (b11 : A11) (b12 : A12) (b13 : A13), I b1 b2 b3 b4 b5 b6 b7 b8 b9 b10 b11 b12 b13 → μ b1 b2 b3 b4 b5 b6 b7 b8 b9 b10 b11 b12 b13 < μ a1 a2 a3 a4 a5 a6 a7 a8 a9 a10 a11 a12 a13 → W n b1 b2 b3 b4 b5 b6 b7 b8 b9 b10 b11 b12 b13) → W (n + 1) a1 a2 a3 a4 a5 a6 a7 a8 a9 a10 a11 a12 a13) (a1 : A1) (a2 : A2) (a3 : A3) (a4 : A4) (a5 : A5) (a6 : A6) (a7 : A7) (a8 : A8) (a9 : A9) (a10 : A10) (a11 : A11) (a12 : A12) (a13 : A13) (h : I a1 a2 a3 a4 a5 a6 a7 a8 a9 a10 a11 a12 a13) : ∃ n, W n a1 a2 a3 a4 a5 a6 a7 a8 a9 a10 a11 a12 a13 :=
  loop_m (σ := A1 × A2 × A3 × A4 × A5 × A6 × A7 × A8 × A9 × A10 × A11 × A12 × A13) (fun n s => W n s.1 s.2.1 s.2.2.1 s.2.2.2.1 s.2.2.2.2.1 s.2.2.2.2.2.1 s.2.2.2.2.2.2.1 s.2.2.2.2.2.2.2.1 s.2.2.2.2.2.2.2.2.1 s.2.2.2.2.2.2.2.2.2.1 s.2.2.2.2.2.2.2.2.2.2.1 s.2.2.2.2.2.2.2.2.2.2.2.1 s.2.2.2.2.2.2.2.2.2.2.2.2) (fun s => I s.1 s.2.1 s.2.2.1 s.2.2.2.1 s.2.2.2.2.1 s.2.2.2.2.2.1 s.2.2.2.2.2.2.1 s.2.2.2.2.2.2.2.1 s.2.2.2.2.2.2.2.2.1 s.2.2.2.2.2.2.2.2.2.1 s.2.2.2.2.2.2.2.2.2.2.1 s.2.2.2.2.2.2.2.2.2.2.2.1 s.2.2.2.2.2.2.2.2.2.2.2.2) (fun s => μ s.1 s.2.1 s.2.2.1 s.2.2.2.1 s.2.2.2.2.1 s.2.2.2.2.2.1 s.2.2.2.2.2.2.1 s.2.2.2.2.2.2.2.1 s.2.2.2.2.2.2.2.2.1 s.2.2.2.2.2.2.2.2.2.1 s.2.2.2.2.2.2.2.2.2.2.1 s.2.2.2.2.2.2.2.2.2.2.2.1 s.2.2.2.2.2.2.2.2.2.2.2.2) (fun n s hI hk => hs n s.1 s.2.1 s.2.2.1 s.2.2.2.1 s.2.2.2.2.1 s.2.2.2.2.2.1 s.2.2.2.2.2.2.1 s.2.2.2.2.2.2.2.1 s.2.2.2.2.2.2.2.2.1 s.2.2.2.2.2.2.2.2.2.1 s.2.2.2.2.2.2.2.2.2.2.1 s.2.2.2.2.2.2.2.2.2.2.2.1 s.2.2.2.2.2.2.2.2.2.2.2.2 hI (fun b1 b2 b3 b4 b5 b6 b7 b8 b9 b10 b11 b12 b13 h9 hm => hk (b1, b2, b3, b4, b5, b6, b7, b8, b9, b10, b11, b12, b13) h9 hm)) (a1, a2, a3, a4, a5, a6, a7, a8, a9, a10, a11, a12, a13) h
theorem lp14 {A1 A2 A3 A4 A5 A6 A7 A8 A9 A10 A11 A12 A13 A14 : Type} (W : Nat → A1 → A2 → A3 → A4 → A5 → A6 → A7 → A8 → A9 → A10 → A11 → A12 → A13 → A14 → Prop) (I : A1 → A2 → A3 → A4 → A5 → A6 → A7 → A8 → A9 → A10 → A11 → A12 → A13 → A14 → Prop) (μ : A1 → A2 → A3 → A4 → A5 → A6 → A7 → A8 → A9 → A10 → A11 → A12 → A13 → A14 → Nat) (hs : ∀ (n : Nat) (a1 : A1) (a2 : A2) (a3 : A3) (a4 : A4) (a5 : A5) (a6 : A6) (a7 : A7) (a8 : A8) (a9 : A9) (a10 : A10) (a11 : A11) (a12 : A12) (a13 : A13) (a14 : A14), I a1 a2 a3 a4 a5 a6 a7 a8 a9 a10 a11 a12 a13 a14 → (∀ (b1 : A1) (b2 : A2) (b3 : A3) (b4 : A4) (b5 : A5) (b6 : A6) (b7 : A7) (b8 : A8) (b9 : A9) (b10 : A10) (b11 : A11) (b12 : A12) (b13 : A13) (b14 : A14), I b1 b2 b3 b4 b5 b6 b7 b8 b9 b10 b11 b12 b13 b14 → μ b1 b2 b3 b4 b5 b6 b7 b8 b9 b10 b11 b12 b13 b14 < μ a1 a2 a3 a4 a5 a6 a7 a8 a9 a10 a11 a12 a13 a14 → W n b1 b2 b3 b4 b5 b6 b7 b8 b9 b10 b11 b12 b13 b14) → W (n + 1) a1 a2 a3 a4 a5 a6 a7 a8 a9 a10 a11 a12 a13 a14) (a1 : A1) (a2 : A2) (a3 : A3) (a4 : A4) (a5 : A5) (a6 : A6) (a7 : A7) (a8 : A8) (a9 : A9) (a10 : A10) (a11 : A11) (a12 : A12) (a13 : A13) (a14 : A14) (h : I a1 a2 a3 a4 a5 a6 a7 a8 a9 a10 a11 a12 a13 a14) : ∃ n, W n a1 a2 a3 a4 a5 a6 a7 a8 a9 a10 a11 a12 a13 a14 :=
  loop_m (σ := A1 × A2 × A3 × A4 × A5 × A6 × A7 × A8 × A9 × A10 × A11 × A12 × A13 × A14) (fun n s => W n s.1 s.2.1 s.2.2.1 s.2.2.2.1 s.2.2.2.2.1 s.2.2.2.2.2.1 s.2.2.2.2.2.2.1 s.2.2.2.2.2.2.2.1 s.2.2.2.2.2.2.2.2.1 s.2.2.2.2.2.2.2.2.2.1 s.2.2.2.2.2.2.2.2.2.2.1 s.2.2.2.2.2.2.2.2.2.2.2.1 s.2.2.2.2.2.2.2.2.2.2.2.2.1 s.2.2.2.2.2.2.2.2.2.2.2.2.2) (fun s => I s.1 s.2.1 s.2.2.1 s.2.2.2.1 s.2.2.2.2.1 s.2.2.2.2.2.1 s.2.2.2.2.2.2.1 s.2.2.2.2.2.2.2.1 s.2.2.2.2.2.2.2.2.1 s.2.2.2.2.2.2.2.2.2.1 s.2.2.2.2.2.2.2.2.2.2.1 s.2.2.2.2.2.2.2.2.2.2.2.1 s.2.2.2.2.2.2.2.2.2.2.2.2.1 s.2.2.2.2.2.2.2.2.2.2.2.2.2) (fun s => μ s.1 s.2.1 s.2.2.1 s.2.2.2.1 s.2.2.2.2.1 s.2.2.2.2.2.1 s.2.2.2.2.2.2.1 s.2.2.2.2.2.2.2.1 s.2.2.2.2.2.2.2.2.1 s.2.2.2.2.2.2.2.2.2.1 s.2.2.2.2.2.2.2.2.2.2.1 s.2.2.2.2.2.2.2.2.2.2.2.1 s.2.2.2.2.2.2.2.2.2.2.2.2.1 s.2.2.2.2.2.2.2.2.2.2.2.2.2) (fun n s hI hk => hs n s.1 s.2.1 s.2.2.1 s.2.2.2.1 s.2.2.2.2.1 s.2.2.2.2.2.1 s.2.2.2.2.2.2.1 s.2.2.2.2.2.2.2.1 s.2.2.2.2.2.2.2.2.1 s.2.2.2.2.2.2.2.2.2.1 s.2.2.2.2.2.2.2.2.2.2.1 s.2.2.2.2.2.2.2.2.2.2.2.1 s.2.2.2.2.2.2.2.2.2.2.2.2.1 s.2.2.2.2.2.2.2.2.2.2.2.2.2 hI (fun b1 b2 b3 b4 b5 b6 b7 b8 b9 b10 b11 b12 b13 b14 h9 hm => hk (b1, b2, b3, b4, b5, b6, b7, b8, b9, b10, b11, b12, b13, b14) h9 hm)) (a1, a2, a3, a4, a5, a6, a7, a8, a9, a10, a11, a12, a13, a14) h
theorem lp15 {A1 A2 A3 A4 A5 A6 A7 A8 A9 A10 A11 A12 A13 A14 A15 : Type} (W : Nat → A1 → A2 → A3 → A4 → A5 → A6 → A7 → A8 → A9 → A10 → A11 → A12 → A13 → A14 → A15 → Prop) (I : A1 → A2 → A3 → A4 → A5 → A6 → A7 → A8 → A9 → A10 → A11 → A12 → A13 → A14 → A15 → Prop) (μ : A1 → A2 → A3 → A4 → A5 → A6 → A7 → A8 → A9 → A10 → A11 → A12 → A13 → A14 → A15 → Nat) (hs : ∀ (n : Nat) (a1 : A1) (a2 : A2) (a3 : A3) (a4 : A4) (a5 : A5) (a6 : A6) (a7 : A7) (a8 : A8) (a9 : A9) (a10 : A10) (a11 : A11) (a12 : A12) (a13 : A13) (a14 : A14) (a15 : A15), I a1 a2 a3 a4 a5 a6 a7 a8 a9 a10 a11 a12 a13 a14 a15 → (∀ (b1 : A1) (b2 : A2) (b3 : A3) (b4 : A4) (b5 : A5) (b6 : A6) (b7 : A7) (b8 : A8) (b9 : A9) (b10 : A10) (b11 : A11) (b12 : A12) (b13 : A13) (b14 : A14) (b15 : A15), I b1 b2 b3 b4 b5 b6 b7 b8 b9 b10 b11 b12 b13 b14 b15 → μ b1 b2 b3 b4 b5 b6 b7 b8 b9 b10 b11 b12 b13 b14 b15 < μ a1 a2 a3 a4 a5 a6 a7 a8 a9 a10 a11 a12 a13 a14 a15 → W n b1 b2 b3 b4 b5 b6 b7 b8 b9 b10 b11 b12 b13 b14 b15) → W (n + 1) a1 a2 a3 a4 a5 a6 a7 a8 a9 a10 a11 a12 a13 a14 a15) (a1 : A1) (a2 : A2) (a3 : A3) (a4 : A4) (a5 : A5) (a6 : A6) (a7 : A7) (a8 : A8) (a9 : A9) (a10 : A10) (a11 : A11) (a12 : A12) (a13 : A13) (a14 : A14) (a15 : A15) (h : I a1 a2 a3 a4 a5 a6 a7 a8 a9 a10 a11 a12 a13 a14 a15) : ∃ n, W n a1 a2 a3 a4 a5 a6 a7 a8 a9 a10 a11 a12 a13 a14 a15 :=
  loop_m (σ := A1 × A2 × A3 × A4 × A5 × A6 × A7 × A8 × A9 × A10 × A11 × A12 × A13 × A14 × A15) (fun n s => W n s.1 s.2.1 s.2.2.1 s.2.2.2.1 s.2.2.2.2.1 s.2.2.2.2.2.1 s.2.2.2.2.2.2.1 s.2.2.2.2.2.2.2.1 s.2.2.2.2.2.2.2.2.1 s.2.2.2.2.2.2.2.2.2.1 s.2.2.2.2.2.2.2.2.2.2.1 s.2.2.2.2.2.2.2.2.2.2.2.1 s.2.2.2.2.2.2.2.2.2.2.2.2.1 s.2.2.2.2.2.2.2.2.2.2.2.2.2.1 s.2.2.2.2.2.2.2.2.2.2.2.2.2.2) (fun s => I s.1 s.2.1 s.2.2.1 s.2.2.2.1 s.2.2.2.2.1 s.2.2.2.2.2.1 s.2.2.2.2.2.2.1 s.2.2.2.2.2.2.2.1 s.2.2.2.2.2.2.2.2.1 s.2.2.2.2.2.2.2.2.2.1 s.2.2.2.2.2.2.2.2.2.2.1 s.2.2.2.2.2.2.2.2.2.2.2.1 s.2.2.2.2.2.2.2.2.2.2.2.2.1 s.2.2.2.2.2.2.2.2.2.2.2.2.2.1 s.2.2.2.2.2.2.2.2.2.2.2.2.2.2) (fun s => μ s.1 s.2.1 s.2.2.1 s.2.2.2.1 s.2.2.2.2.1 s.2.2.2.2.2.1 s.2.2.2.2.2.2.1 s.2.2.2.2.2.2.2.1 s.2.2.2.2.2.2.2.2.1 s.2.2.2.2.2.2.2.2.2.1 s.2.2.2.2.2.2.2.2.2.2.1 s.2.2.2.2.2.2.2.2.2.2.2.1 s.2.2.2.2.2.2.2.2.2.2.2.2.1 s.2.2.2.2.2.2.2.2.2.2.2.2.2.1 s.2.2.2.2.2.2.2.2.2.2.2.2.2.2) (fun n s hI hk => hs n s.1 s.2.1 s.2.2.1 s.2.2.2.1 s.2.2.2.2.1 s.2.2.2.2.2.1 s.2.2.2.2.2.2.1 s.2.2.2.2.2.2.2.1 s.2.2.2.2.2.2.2.2.1 s.2.2.2.2.2.2.2.2.2.1 s.2.2.2.2.2.2.2.2.2.2.1 s.2.2.2.2.2.2.2.2.2.2.2.1 s.2.2.2.2.2.2.2.2.2.2.2.2.1 s.2.2.2.2.2.2.2.2.2.2.2.2.2.1 s.2.2.2.2.2.2.2.2.2.2.2.2.2.2 hI (fun b1 b2 b3 b4 b5 b6 b7 b8 b9 b10 b11 b12 b13 b14 b15 h9 hm => hk (b1, b2, b3, b4, b5, b6, b7, b8, b9, b10, b11, b12, b13, b14, b15) h9 hm)) (a1, a2, a3, a4, a5, a6, a7, a8, a9, a10, a11, a12, a13, a14, a15) h
theorem lp16 {A1 A2 A3 A4 A5 A6 A7 A8 A9 A10 A11 A12 A13 A14 A15 A16 : Type} (W : Nat → A1 → A2 → A3 → A4 → A5 → A6 → A7 → A8 → A9 → A10 → A11 → A12 → A13 → A14 → A15 → A16 → Prop) (I : A1 → A2 → A3 → A4 → A5 → A6 → A7 → A8 → A9 → A10 → A11 → A12 → A13 → A14 → A15 → A16 → Prop) (μ : A1 → A2 → A3 → A4 → A5 → A6 → A7 → A8 → A9 → A10 → A11 → A12 → A13 → A14 → A15 → A16 → Nat) (hs : ∀ (n : Nat) (a1 : A1) (a2 : A2) (a3 : A3) (a4 : A4) (a5 : A5) (a6 : A6) (a7 : A7) (a8 : A8) (a9 : A9) (a10 : A10) (a11 : A11) (a12 : A12) (a13 : A13) (a14 : A14) (a15 : A15) (a16 : A16), I a1 a2 a3 a4 a5 a6 a7 a8 a9 a10 a11 a12 a13 a14 a15 a16 → (∀ (b1 : A1) (b2 : A2) (b3 : A3) (b4 : A4) (b5 : A5) (b6 : A6) (b7 : A7) (b8 : A8) (b9 : A9) (b10 : A10) (b11 : A11) (b12 : A12) (b13 : A13) (b14 : A14) (b15 : A15) (b16 : A16), I b1 b2 b3 b4 b5 b6 b7 b8 b9 b10 b11 b12 b13 b14 b15 b16 → μ b1 b2 b3 b4 b5 b6 b7 b8 b9 b10 b11 b12 b13 b14 b15 b16 < μ a1 a2 a3 a4 a5 a6 a7 a8 a9 a10 a11 a12 a13 a14 a15 a16 → W n b1 b2 b3 b4 b5 b6 b7 b8 b9 b10 b11 b12 b13 b14 b15 b16) → W (n + 1) a1 a2 a3 a4 a5 a6 a7 a8 a9 a10 a11 a12 a13 a14 a15 a16) (a1 : A1) (a2 : A2) (a3 : A3) (a4 : A4) (a5 : A5) (a6 : A6) (a7 : A7) (a8 : A8) (a9 : A9) (a10 : A10) (a11 : A11) (a12 : A12) (a13 : A13) (a14 : A14) (a15 : A15) (a16 : A16) (h : I a1 a2 a3 a4 a5 a6 a7 a8 a9 a10 a11 a12 a13 a14 a15 a16) : ∃ n, W n a1 a2 a3 a4 a5 a6 a7 a8 a9 a10 a11 a12 a13 a14 a15 a16 :=
  loop_m (σ := A1 × A2 × A3 × A4 × A5 × A6 × A7 × A8 × A9 × A10 × A11 × A12 × A13 × A14 × A15 × A16) (fun n s => W n s.1 s.2.1 s.2.2.1 s.2.2.2.1 s.2.2.2.2.1 s.2.2.2.2.2.1 s.2.2.2.2.2.2.1 s.2.2.2.2.2.2.2.1 s.2.2.2.2.2.2.2.2.1 s.2.2.2.2.2.2.2.2.2.1 s.2.2.2.2.2.2.2.2.2.2.1 s.2.2.2.2.2.2.2.2.2.2.2.1 s.2.2.2.2.2.2.2.2.2.2.2.2.1 s.2.2.2.2.2.2.2.2.2.2.2.2.2.1 s.2.2.2.2.2.2.2.2.2.2.2.2.2.2.1 s.2.2.2.2.2.2.2.2.2.2.2.2.2.2.2) (fun s => I s.1 s.2.1 s.2.2.1 s.2.2.2.1 s.2.2.2.2.1 s.2.2.2.2.2.1 s.2.2.2.2.2.2.1 s.2.2.2.2.2.2.2.1 s.2.2.2.2.2.2.2.2.1 s.2.2.2.2.2.2.2.2.2.1 s.2.2.2.2.2.2.2.2.2.2.1 s.2.2.2.2.2.2.2.2.2.2.2.1 s.2.2.2.2.2.2.2.2.2.2.2.2.1 s.2.2.2.2.2.2.2.2.2.2.2.2.2.1 s.2.2.2.2.2.2.2.2.2.2.2.2.2.2.1 s.2.2.2.2.2.2.2.2.2.2.2.2.2.2.2) (fun s => μ s.1 s.2.1 s.2.2.1 s.2.2.2.1 s.2.2.2.2.1 s.2.2.2.2.2.1 s.2.2.2.2.2.2.1 s.2.2.2.2.2.2.2.1 s.2.2.2.2.2.2.2.2.1 s.2.2.2.2.2.2.2.2.2.1 s.2.2.2.2.2.2.2.2.2.2.1 s.2.2.2.2.2.2.2.2.2.2.2.1 s.2.2.2.2.2.2.2.2.2.2.2.2.1 s.2.2.2.2.2.2.2.2.2.2.2.2.2.1 s.2.2.2.2.2.2.2.2.2.2.2.2.2.2.1 s.2.2.2.2.2.2.2.2.2.2.2.2.2.2.2) (fun n s hI hk => hs n s.1 s.2.1 s.2.2.1 s.2.2.2.1 s.2.2.2.2.1 s.2.2.2.2.2.1 s.2.2.2.2.2.2.1 s.2.2.2.2.2.2.2.1 s.2.2.2.2.2.2.2.2.1 s.2.2.2.2.2.2.2.2.2.1 s.2.2.2.2.2.2.2.2.2.2.1 s.2.2.2.2.2.2.2.2.2.2.2.1 s.2.2.2.2.2.2.2.2.2.2.2.2.1 s.2.2.2.2.2.2.2.2.2.2.2.2.2.1 s.2.2.2.2.2.2.2.2.2.2.2.2.2.2.1 s.2.2.2.2.2.2.2.2.2.2.2.2.2.2.2 hI (fun b1 b2 b3 b4 b5 b6 b7 b8 b9 b10 b11 b12 b13 b14 b15 b16 h9 hm => hk (b1, b2, b3, b4, b5, b6, b7, b8, b9, b10, b11, b12, b13, b14, b15, b16) h9 hm)) (a1, a2, a3, a4, a5, a6, a7, a8, a9, a10, a11, a12, a13, a14, a15, a16) h
theorem pk_least (P : Nat → Prop) (h : ∃ k, P k) : ∃ k, P k ∧ ∀ j, j < k → ¬ P j := by
  obtain ⟨k, hk⟩ := h
  induction k using Nat.strongRecOn with
  | ind k ih =>
    by_cases e : ∃ j, j < k ∧ P j
    · obtain ⟨j, hj, pj⟩ := e
      exact ih j hj pj
    · exact ⟨k, hk, fun j hj pj => e ⟨j, hj, pj⟩⟩
theorem rp1 {ρ A1 : Type} (W : Nat → (ρ → Prop) → A1 → Prop) (ok : A1 → Prop) (μ : A1 → Nat) (val : A1 → ρ)
    (hs : ∀ (d : Nat) (post : ρ → Prop) (a1 : A1), ok a1 → post (val a1) → (∀ (post' : ρ → Prop) (b1 : A1), ok b1 → μ b1 < μ a1 → post' (val b1) → W d post' b1) → W (d + 1) post a1) :
    ∀ (d : Nat) (post : ρ → Prop) (a1 : A1), ok a1 → μ a1 < d → post (val a1) → W d post a1 := by
  intro d
  induction d with
  | zero => intro post a1 _ h; omega
  | succ d ih =>
    intro post a1 ho hm hp
    exact hs d post a1 ho hp (fun post' b1 ho' hm' hp' => ih post' b1 ho' (by omega) hp')
theorem rp2 {ρ A1 A2 : Type} (W : Nat → (ρ → Prop) → A1 → A2 → Prop) (ok : A1 → A2 → Prop) (μ : A1 → A2 → Nat) (val : A1 → A2 → ρ)
    (hs : ∀ (d : Nat) (post : ρ → Prop) (a1 : A1) (a2 : A2), ok a1 a2 → post (val a1 a2) → (∀ (post' : ρ → Prop) (b1 : A1) (b2 : A2), ok b1 b2 → μ b1 b2 < μ a1 a2 → post' (val b1 b2) → W d post' b1 b2) → W (d + 1) post a1 a2) :
    ∀ (d : Nat) (post : ρ → Prop) (a1 : A1) (a2 : A2), ok a1 a2 → μ a1 a2 < d → post (val a1 a2) → W d post a1 a2 := by
  intro d
  induction d with
  | zero => intro post a1 a2 _ h; omega
  | succ d ih =>
    intro post a1 a2 ho hm hp
    exact hs d post a1 a2 ho hp (fun post' b1 b2 ho' hm' hp' => ih post' b1 b2 ho' (by omega) hp')
theorem rp3 {ρ A1 A2 A3 : Type} (W : Nat → (ρ → Prop) → A1 → A2 → A3 → Prop) (ok : A1 → A2 → A3 → Prop) (μ : A1 → A2 → A3 → Nat) (val : A1 → A2 → A3 → ρ)
    (hs : ∀ (d : Nat) (post : ρ → Prop) (a1 : A1) (a2 : A2) (a3 : A3), ok a1 a2 a3 → post (val a1 a2 a3) → (∀ (post' : ρ → Prop) (b1 : A1) (b2 : A2) (b3 : A3), ok b1 b2 b3 → μ b1 b2 b3 < μ a1 a2 a3 → post' (val b1 b2 b3) → W d post' b1 b2 b3) → W (d + 1) post a1 a2 a3) :
    ∀ (d : Nat) (post : ρ → Prop) (a1 : A1) (a2 : A2) (a3 : A3), ok a1 a2 a3 → μ a1 a2 a3 < d → post (val a1 a2 a3) → W d post a1 a2 a3 := by
  intro d
  induction d with
  | zero => intro post a1 a2 a3 _ h; omega
  | succ d ih =>
    intro post a1 a2 a3 ho hm hp
    exact hs d post a1 a2 a3 ho hp (fun post' b1 b2 b3 ho' hm' hp' => ih post' b1 b2 b3 ho' (by omega) hp')
theorem rp4 {ρ A1 A2 A3 A4 : Type} (W : Nat → (ρ → Prop) → A1 → A2 → A3 → A4 → Prop) (ok : A1 → A2 → A3 → A4 → Prop) (μ : A1 → A2 → A3 → A4 → Nat) (val : A1 → A2 → A3 → A4 → ρ)
    (hs : ∀ (d : Nat) (post : ρ → Prop) (a1 : A1) (a2 : A2) (a3 : A3) (a4 : A4), ok a1 a2 a3 a4 → post (val a1 a2 a3 a4) → (∀ (post' : ρ → Prop) (b1 : A1) (b2 : A2) (b3 : A3) (b4 : A4), ok b1 b2 b3 b4 → μ b1 b2 b3 b4 < μ a1 a2 a3 a4 → post' (val b1 b2 b3 b4) → W d post' b1 b2 b3 b4) → W (d + 1) post a1 a2 a3 a4) :
    ∀ (d : Nat) (post : ρ → Prop) (a1 : A1) (a2 : A2) (a3 : A3) (a4 : A4), ok a1 a2 a3 a4 → μ a1 a2 a3 a4 < d → post (val a1 a2 a3 a4) → W d post a1 a2 a3 a4 := by
  intro d
  induction d with
  | zero => intro post a1 a2 a3 a4 _ h; omega
  | succ d ih =>
    intro post a1 a2 a3 a4 ho hm hp
    exact hs d post a1 a2 a3 a4 ho hp (fun post' b1 b2 b3 b4 ho' hm' hp' => ih post' b1 b2 b3 b4 ho' (by omega) hp')
theorem rp5 {ρ A1 A2 A3 A4 A5 : Type} (W : Nat → (ρ → Prop) → A1 → A2 → A3 → A4 → A5 → Prop) (ok : A1 → A2 → A3 → A4 → A5 → Prop) (μ : A1 → A2 → A3 → A4 → A5 → Nat) (val : A1 → A2 → A3 → A4 → A5 → ρ)
    (hs : ∀ (d : Nat) (post : ρ → Prop) (a1 : A1) (a2 : A2) (a3 : A3) (a4 : A4) (a5 : A5), ok a1 a2 a3 a4 a5 → post (val a1 a2 a3 a4 a5) → (∀ (post' : ρ → Prop) (b1 : A1) (b2 : A2) (b3 : A3) (b4 : A4) (b5 : A5), ok b1 b2 b3 b4 b5 → μ b1 b2 b3 b4 b5 < μ a1 a2 a3 a4 a5 → post' (val b1 b2 b3 b4 b5) → W d post' b1 b2 b3 b4 b5) → W (d + 1) post a1 a2 a3 a4 a5) :
    ∀ (d : Nat) (post : ρ → Prop) (a1 : A1) (a2 : A2) (a3 : A3) (a4 : A4) (a5 : A5), ok a1 a2 a3 a4 a5 → μ a1 a2 a3 a4 a5 < d → post (val a1 a2 a3 a4 a5) → W d post a1 a2 a3 a4 a5 := by
  intro d
  induction d with
  | zero => intro post a1 a2 a3 a4 a5 _ h; omega
  | succ d ih =>
    intro post a1 a2 a3 a4 a5 ho hm hp
    exact hs d post a1 a2 a3 a4 a5 ho hp (fun post' b1 b2 b3 b4 b5 ho' hm' hp' => ih post' b1 b2 b3 b4 b5 ho' (by omega) hp')
theorem rp6 {ρ A1 A2 A3 A4 A5 A6 : Type} (W : Nat → (ρ → Prop) → A1 → A2 → A3 → A4 → A5 → A6 → Prop) (ok : A1 → A2 → A3 → A4 → A5 → A6 → Prop) (μ : A1 → A2 → A3 → A4 → A5 → A6 → Nat) (val : A1 → A2 → A3 → A4 → A5 → A6 → ρ)
    (hs : ∀ (d : Nat) (post : ρ → Prop) (a1 : A1) (a2 : A2) (a3 : A3) (a4 : A4) (a5 : A5) (a6 : A6), ok a1 a2 a3 a4 a5 a6 → post (val a1 a2 a3 a4 a5 a6) → (∀ (post' : ρ → Prop) (b1 : A1) (b2 : A2) (b3 : A3) (b4 : A4) (b5 : A5) (b6 : A6), ok b1 b2 b3 b4 b5 b6 → μ b1 b2 b3 b4 b5 b6 < μ a1 a2 a3 a4 a5 a6 → post' (val b1 b2 b3 b4 b5 b6) → W d post' b1 b2 b3 b4 b5 b6) → W (d + 1) post a1 a2 a3 a4 a5 a6) :
    ∀ (d : Nat) (post : ρ → Prop) (a1 : A1) (a2 : A2) (a3 : A3) (a4 : A4) (a5 : A5) (a6 : A6), ok a1 a2 a3 a4 a5 a6 → μ a1 a2 a3 a4 a5 a6 < d → post (val a1 a2 a3 a4 a5 a6) → W d post a1 a2 a3 a4 a5 a6 := by
  intro d
  induction d with
  | zero => intro post a1 a2 a3 a4 a5 a6 _ h; omega
  | succ d ih =>
    intro post a1 a2 a3 a4 a5 a6 ho hm hp
    exact hs d post a1 a2 a3 a4 a5 a6 ho hp (fun post' b1 b2 b3 b4 b5 b6 ho' hm' hp' => ih post' b1 b2 b3 b4 b5 b6 ho' (by omega) hp')
theorem rec_p {σ ρ : Type} (W : Nat → (ρ → Prop) → σ → Prop) (ok : σ → Prop) (μ : σ → Nat) (val : σ → ρ)
    (hs : ∀ d s post, ok s → post (val s) → (∀ s' post', ok s' → μ s' < μ s → post' (val s') → W d post' s') → W (d + 1) post s) :
    ∀ d s post, ok s → μ s < d → post (val s) → W d post s := by
  intro d
  induction d with
  | zero => intro s post _ h; omega
  | succ d ih =>
    intro s post ho hm hp
    exact hs d s post ho hp (fun s' post' ho' hm' hp' => ih s' post' ho' (by omega) hp')
theorem rec_q {σ ρ : Type} (W : Nat → (ρ → Prop) → σ → Prop) (ok : σ → Prop) (μ : σ → Nat) (Q : σ → ρ → Prop)
    (hs : ∀ d s post, ok s → (∀ r, Q s r → post r) → (∀ s' post', ok s' → μ s' < μ s → (∀ r, Q s' r → post' r) → W d post' s') → W (d + 1) post s) :
    ∀ d s post, ok s → μ s < d → (∀ r, Q s r → post r) → W d post s := by
  intro d
  induction d with
  | zero => intro s post _ h; omega
  | succ d ih =>
    intro s post ho hm hp
    exact hs d s post ho hp (fun s' post' ho' hm' hp' => ih s' post' ho' (by omega) hp')
def bx_sum (f : Nat → Int32) : Nat → Int32
  | 0 => 0
  | n + 1 => bx_sum f n + f n
theorem ek_u {A : Prop} {B : Nat → Prop} {k N : Nat} (hk : k < N) (h : B k) : (some k = none → A) ∧ (∀ y : Nat, some k = some y → (y < N ∧ B y)) :=
  ⟨fun z => absurd z (Option.some_ne_none k), fun _ e => (by cases e; exact ⟨hk, h⟩)⟩
theorem ek_nu {A : Prop} {B : Nat → Prop} (h : A) : ((none : Option Nat) = none → A) ∧ (∀ y : Nat, (none : Option Nat) = some y → B y) :=
  ⟨fun _ => h, fun _ e => (by cases e)⟩
theorem ek_if {c d A B : Prop} (e : c ↔ d) (f : d → A) (g : ¬ d → B) : (c → A) ∧ (¬ c → B) :=
  ⟨fun z => f (e.mp z), fun z => g (fun y => z (e.mpr y))⟩
theorem ek_v {α : Sort _} {P : α → Prop} {a b : α} (e : a = b) (h : P b) : P a := e ▸ h
theorem co_some {x : Option Nat} {A : Prop} {B : Nat → Prop} (i : Nat) (h : B i) (hx : x = some i := by rfl) : (x = none → A) ∧ (∀ y : Nat, x = some y → B y) := by
  subst hx
  exact ⟨fun e => (nomatch e), fun y e => Option.some.inj e ▸ h⟩
theorem co_none {x : Option Nat} {A : Prop} {B : Nat → Prop} (h : A) (hx : x = none := by rfl) : (x = none → A) ∧ (∀ y : Nat, x = some y → B y) := by
  subst hx
  exact ⟨fun _ => h, fun y e => (nomatch e)⟩
theorem co_any {x : Option Nat} {A : Prop} {B : Nat → Prop} (hn : x = none → A) (hs : ∀ i : Nat, x = some i → B i) : (x = none → A) ∧ (∀ y : Nat, x = some y → B y) := ⟨hn, hs⟩
theorem co_2 {P : Nat → Prop} (h0 : P 0) (h1 : P 1) {i : Nat} (hi : i < 2) : P i :=
  match i, hi with
  | 0, _ => h0
  | 1, _ => h1
theorem co_3 {P : Nat → Prop} (h0 : P 0) (h1 : P 1) (h2 : P 2) {i : Nat} (hi : i < 3) : P i :=
  match i, hi with
  | 0, _ => h0
  | 1, _ => h1
  | 2, _ => h2
theorem co_4 {P : Nat → Prop} (h0 : P 0) (h1 : P 1) (h2 : P 2) (h3 : P 3) {i : Nat} (hi : i < 4) : P i :=
  match i, hi with
  | 0, _ => h0
  | 1, _ => h1
  | 2, _ => h2
  | 3, _ => h3
theorem co_dec {N : Nat} {P : Nat → Prop} [DecidablePred P] (h : (List.range N).all (fun i => decide (P i)) = true) {i : Nat} (hi : i < N) : P i := by
  have := List.all_eq_true.mp h i (List.mem_range.mpr hi)
  exact of_decide_eq_true this
theorem co_tab {α : Type} {l : List α} {d : α} {P : α → Prop} (h : ∀ a, a ∈ l → P a) {i : Nat} (hi : i < l.length) : P (l.getD i d) := by
  rw [List.getD_eq_getElem?_getD, List.getElem?_eq_getElem hi]
  exact h _ (List.getElem_mem hi)
theorem pk_mu {x : Int32} {L : Nat} (h0 : ¬ x < 0) (h : ¬ nI L ≤ x) (hL : L < 2 ^ 31) : ∃ j : Nat, j < L ∧ x = nI j ∧ x + 1 = nI (j + 1) ∧ x.toNatClampNeg = j ∧ L - (x + 1).toNatClampNeg < L - x.toNatClampNeg := by
  obtain ⟨j, hj, rfl⟩ := nI_of h0
  have hl : j < L := Nat.not_le.mp fun q => h (nI_le q hj)
  refine ⟨j, hl, rfl, nI_1 j, nI_clamp hj, ?_⟩
  rw [nI_1, nI_clamp (by omega), nI_clamp hj]
  omega
theorem op_s {α : Type} {r : Option α} {A : Prop} {B : α → Prop} {y : α} (h : r = some y) (b : B y) : (r = none → A) ∧ ∀ z, r = some z → B z :=
  ⟨fun e => (by rw [h] at e; cases e), fun z e => (by rw [h] at e; cases e; exact b)⟩
def l_holds {α : Type} (a : Nat → Option Nat) (LP : List Nat) (p : Nat → α) (c : Nat) (b : Nat → α) : Prop :=
  ∀ j, j < c → ∃ y, a j = some y ∧ y ∈ LP ∧ p y = b j
theorem l_holds_0 {α : Type} {a : Nat → Option Nat} {LP : List Nat} {p b : Nat → α} : l_holds a LP p 0 b := fun j h => absurd h (Nat.not_lt_zero j)
theorem l_in_new (LP : List Nat) (q : Nat) : q ∈ LP ++ [q] := List.mem_append.mpr (Or.inr (List.mem_singleton.mpr rfl))
def l_sum (b : Nat → Int32) : Nat → Int32
  | 0 => 0
  | k + 1 => l_sum b k + b k
theorem sb_shr0 (x : Int32) : x >>> ((0 : Int32) &&& 31) = x := by
  rw [show ((0 : Int32) &&& 31) = 0 by decide]
  simp
theorem sb_shl0 (x : Int32) : x <<< ((0 : Int32) &&& 31) = x := by
  rw [show ((0 : Int32) &&& 31) = 0 by decide]
  simp
theorem sb_cl0 : (0 : Int32).toNatClampNeg = 0 := by decide
theorem sb_m1 {p : Nat} (h : 0 < p) : nI p + (-1) = nI (p - 1) := by
  obtain ⟨q, rfl⟩ : ∃ q, p = q + 1 := ⟨p - 1, by omega⟩
  exact pk_m1 q
def sb_b (c : Nat) : Int32 := (nI c).toInt8.toInt32
theorem sb_byte : ∀ c, c < 256 → sb_b c &&& 255 = nI c ∧ ((nI c).toUInt32 % 65536).toInt32 = nI c ∧ nI c ≤ 255 := by decide +kernel
def sb_Fit (a : Nat → Int32) : Prop := ∀ j, fits .byte (.int (a j)) = true
def sb_Lat (t : Nat → Nat) (n : Nat) (a : Nat → Int32) : Prop := ∀ j, j < n → t j < 256 ∧ a j = sb_b (t j)
theorem sb_fitB (c : Nat) : fits .byte (.int (sb_b c)) = true := pk_fb _
theorem sb_fit0 : sb_Fit (fun _ => 0) := fun _ => by
  show fits .byte (.int 0) = true
  decide
theorem sb_fitU {a : Nat → Int32} {k : Nat} {x : Int32} (h : sb_Fit a) (hx : fits .byte (.int x) = true) : sb_Fit (upd a k x) := by
  intro j
  by_cases e : j = k
  · subst e
    rw [pk_us]
    exact hx
  · rw [pk_un e]
    exact h j
def sb_cat (t : Nat → Nat) (n : Nat) (s : Nat → Nat) : Nat → Nat := fun j => if j < n then t j else s (j - n)
theorem sb_cat_lo {t s : Nat → Nat} {n j : Nat} (h : j < n) : sb_cat t n s j = t j := if_pos h
theorem sb_cat_hi {t s : Nat → Nat} {n j : Nat} : sb_cat t n s (n + j) = s j := by
  show (if n + j < n then t (n + j) else s (n + j - n)) = s j
  rw [if_neg (by omega), Nat.add_sub_cancel_left]
theorem sb_latPut {t s : Nat → Nat} {n w : Nat} {a a' : Nat → Int32} (h : sb_Lat t n a) (hk : ∀ j, j < n → a' j = a j) (hs : ∀ i, i < w → s i < 256 ∧ a' (n + i) = sb_b (s i)) : sb_Lat (sb_cat t n s) (n + w) a' := by
  intro j hj
  by_cases e : j < n
  · rw [sb_cat_lo e, hk j e]
    exact h j e
  · obtain ⟨i, rfl⟩ : ∃ i, j = n + i := ⟨j - n, by omega⟩
    rw [sb_cat_hi]
    exact hs i (by omega)
theorem sb_latKeep {t : Nat → Nat} {n : Nat} {a a' : Nat → Int32} (h : sb_Lat t n a) (hk : ∀ j, j < n → a' j = a j) : sb_Lat t n a' := fun j hj => by
  rw [hk j hj]
  exact h j hj
def sb_cap (q m : Nat) : Nat := if q ≤ m then m else if 2 * m + 2 < q then q else 2 * m + 2
def sb_Room (q m mc ms : Nat) : Prop := q ≤ m ∨ (1 ≤ mc ∧ sb_cap q m ≤ ms ∧ sb_cap q m ≤ 65536)
theorem sb_cap_ge (q m : Nat) : q ≤ sb_cap q m := by
  unfold sb_cap
  split
  · omega
  · split <;> omega
theorem sb_cap_gem (q m : Nat) : m ≤ sb_cap q m := by
  unfold sb_cap
  split
  · omega
  · split <;> omega
theorem sb_cap_le {q m mc ms : Nat} (hm : m ≤ 65536) (hr : sb_Room q m mc ms) : sb_cap q m ≤ 65536 := by
  rcases hr with h | h
  · rw [sb_cap, if_pos h]
    exact hm
  · exact h.2.2
theorem sb_at {P : Int32 → Prop} {x y : Int32} (e : x = y) (h : P y) : P x := e ▸ h
def sb_dg (w : Nat) : Nat := if w < 10 then 1 else if w < 100 then 2 else if w < 1000 then 3 else if w < 10000 then 4 else if w < 100000 then 5 else if w < 1000000 then 6 else if w < 10000000 then 7 else if w < 100000000 then 8 else if w < 1000000000 then 9 else 10
def sb_dec (v : Nat) : Nat → Nat := fun i => 48 + v / 10 ^ (sb_dg v - 1 - i) % 10
theorem sb_dg_in (w : Nat) : 1 ≤ sb_dg w ∧ sb_dg w ≤ 10 := by
  unfold sb_dg
  constructor <;> (repeat' split) <;> omega
theorem sb_dg100 {w : Nat} (h : 100 ≤ w) (hw : w < 2 ^ 31) : sb_dg w = sb_dg (w / 100) + 2 := by
  rw [sb_dg, sb_dg, if_neg (show ¬ w < 10 by omega), if_neg (show ¬ w < 100 by omega)]
  by_cases h3 : w < 1000
  · rw [if_pos h3, if_pos (show w / 100 < 10 by omega)]
  rw [if_neg h3, if_neg (show ¬ w / 100 < 10 by omega)]
  by_cases h4 : w < 10000
  · rw [if_pos h4, if_pos (show w / 100 < 100 by omega)]
  rw [if_neg h4, if_neg (show ¬ w / 100 < 100 by omega)]
  by_cases h5 : w < 100000
  · rw [if_pos h5, if_pos (show w / 100 < 1000 by omega)]
  rw [if_neg h5, if_neg (show ¬ w / 100 < 1000 by omega)]
  by_cases h6 : w < 1000000
  · rw [if_pos h6, if_pos (show w / 100 < 10000 by omega)]
  rw [if_neg h6, if_neg (show ¬ w / 100 < 10000 by omega)]
  by_cases h7 : w < 10000000
  · rw [if_pos h7, if_pos (show w / 100 < 100000 by omega)]
  rw [if_neg h7, if_neg (show ¬ w / 100 < 100000 by omega)]
  by_cases h8 : w < 100000000
  · rw [if_pos h8, if_pos (show w / 100 < 1000000 by omega)]
  rw [if_neg h8, if_neg (show ¬ w / 100 < 1000000 by omega)]
  by_cases h9 : w < 1000000000
  · rw [if_pos h9, if_pos (show w / 100 < 10000000 by omega)]
  rw [if_neg h9, if_neg (show ¬ w / 100 < 10000000 by omega)]
  rw [if_pos (show w / 100 < 100000000 by omega)]
theorem sb_negT {w : Nat} (h : w < 2 ^ 31) : (-nI w).toInt = -(w : Int) := by
  rw [Int32.toInt_neg, nI_toInt h]
  exact Int.bmod_eq_of_le (by omega) (by omega)
theorem sb_nle {a b : Nat} (ha : a < 2 ^ 31) (hb : b < 2 ^ 31) : -nI a ≤ -nI b ↔ b ≤ a := by
  rw [Int32.le_iff_toInt_le, sb_negT ha, sb_negT hb]
  omega
theorem sb_nlt {a b : Nat} (ha : a < 2 ^ 31) (hb : b < 2 ^ 31) : -nI a < -nI b ↔ b < a := by
  rw [Int32.lt_iff_toInt_lt, sb_negT ha, sb_negT hb]
  omega
theorem sb_cmp {A B : Prop} {x : Int32} (v c : Nat) (f : c ≤ v → A) (g : v < c → B) (hv : v < 2 ^ 31) (hx : x = -nI c := by rfl) (hc : c < 2 ^ 31 := by omega) : (-nI v ≤ x → A) ∧ (¬ -nI v ≤ x → B) := by
  subst hx
  rw [sb_nle hv hc]
  exact ⟨f, fun z => g (by omega)⟩
theorem sb_ndiv {w : Nat} (hw : w < 2 ^ 31) : (-nI w) / 100 = -nI (w / 100) := by
  apply Int32.toInt_inj.mp
  have h100 : (100 : Int32).toInt = 100 := by decide
  rw [Int32.toInt_div, sb_negT hw, h100, sb_negT (by omega), Int.neg_tdiv, Int.tdiv_eq_ediv_of_nonneg (by omega), Int.bmod_eq_of_le (by omega) (by omega)]
  omega
theorem sb_nrem {w : Nat} (hw : w < 2 ^ 31) : (-nI (w / 100)) * 100 - (-nI w) = nI (w % 100) := by
  have h := pk_rem (a := w) (d := 100) hw (by decide) (by decide)
  rw [pk_div hw (by decide) (by decide)] at h
  rw [← h]
  show (-nI (w / 100)) * nI 100 - (-nI w) = nI w - nI (w / 100) * nI 100
  rw [Int32.neg_mul, Int32.sub_neg, Int32.add_comm, ← Int32.sub_eq_add_neg]
end
section
/-! rows on bits, shifts and unsigned numbers, to paste: each family out of a closed proof of our own, whole with what it rests on; each by itself clean at Lean in its own claim (generation 39, form 5). Take a family whole -/
/-! ===== Int32 by its bits: bt x i ===== -/
def bt (x : Int32) (i : Nat) : Bool := x.toBitVec.getLsbD i
theorem b_ext {x y : Int32} (h : ∀ i, i < 32 → bt x i = bt y i) : x = y := Int32.toBitVec_inj.mp (BitVec.eq_of_getLsbD_eq (fun i hi => h i hi))
theorem b_or (x y : Int32) (i : Nat) : bt (x ||| y) i = (bt x i || bt y i) := by unfold bt; rw [Int32.toBitVec_or, BitVec.getLsbD_or]
theorem b_and (x y : Int32) (i : Nat) : bt (x &&& y) i = (bt x i && bt y i) := by unfold bt; rw [Int32.toBitVec_and, BitVec.getLsbD_and]
theorem b_xor (x y : Int32) (i : Nat) : bt (x ^^^ y) i = (bt x i ^^ bt y i) := by unfold bt; rw [Int32.toBitVec_xor, BitVec.getLsbD_xor]
theorem b_big {x : Int32} {i : Nat} (h : 32 ≤ i) : bt x i = false := BitVec.getLsbD_of_ge _ _ h
theorem b_255 (i : Nat) : bt 255 i = decide (i < 8) := by
  rcases Nat.lt_or_ge i 32 with h | h
  · exact (by decide +kernel : ∀ i, i < 32 → bt 255 i = decide (i < 8)) i h
  · rw [b_big h, decide_eq_false (by omega)]
theorem b_65535 (i : Nat) : bt 65535 i = decide (i < 16) := by
  rcases Nat.lt_or_ge i 32 with h | h
  · exact (by decide +kernel : ∀ i, i < 32 → bt 65535 i = decide (i < 16)) i h
  · rw [b_big h, decide_eq_false (by omega)]
theorem b_m1 : ∀ i, i < 32 → bt (-1) i = true := by decide +kernel
theorem b_0 (i : Nat) : bt 0 i = false := BitVec.getLsbD_zero
theorem s_l : ∀ n, n < 32 → ((nI n &&& 31).toBitVec.smod 32).toNat = n := by decide +kernel
theorem s_u : ∀ n, n < 32 → (((nI n).toUInt32 &&& Int32.toUInt32 31).toBitVec % 32).toNat = n := by decide +kernel
theorem b_shl (n : Nat) (hn : n < 32) (x : Int32) {i : Nat} (hi : i < 32) : bt (x <<< (nI n &&& 31)) i = (decide (n ≤ i) && bt x (i - n)) := by
  unfold bt
  rw [Int32.toBitVec_shiftLeft]
  show (x.toBitVec <<< ((nI n &&& 31).toBitVec.smod 32).toNat).getLsbD i = _
  rw [s_l n hn, BitVec.getLsbD_shiftLeft]
  rcases Nat.lt_or_ge i n with h | h
  · simp [h, Nat.not_le.mpr h]
  · simp [hi, h, Nat.not_lt.mpr h]
theorem b_ushr (n : Nat) (hn : n < 32) (x : Int32) (i : Nat) : bt ((x.toUInt32 >>> ((nI n).toUInt32 &&& Int32.toUInt32 31)).toInt32) i = bt x (n + i) := by
  show (x.toUInt32 >>> ((nI n).toUInt32 &&& Int32.toUInt32 31)).toBitVec.getLsbD i = x.toUInt32.toBitVec.getLsbD (n + i)
  rw [UInt32.toBitVec_shiftRight]
  show (x.toUInt32.toBitVec >>> (((nI n).toUInt32 &&& Int32.toUInt32 31).toBitVec % 32).toNat).getLsbD i = _
  rw [s_u n hn, BitVec.getLsbD_ushiftRight]
theorem b_sshr (n : Nat) (hn : n < 32) (x : Int32) {i : Nat} (hi : i < 32) : bt (x >>> (nI n &&& 31)) i = if n + i < 32 then bt x (n + i) else bt x 31 := by
  unfold bt
  rw [Int32.toBitVec_shiftRight]
  show (x.toBitVec.sshiftRight ((nI n &&& 31).toBitVec.smod 32).toNat).getLsbD i = _
  rw [s_l n hn, BitVec.getLsbD_sshiftRight, BitVec.msb_eq_getLsbD_last]
  simp [hi]
theorem b_shl8 (x : Int32) {i : Nat} (hi : i < 32) : bt (x <<< ((8 : Int32) &&& 31)) i = (decide (8 ≤ i) && bt x (i - 8)) := b_shl 8 (by omega) x hi
theorem b_shl16 (x : Int32) {i : Nat} (hi : i < 32) : bt (x <<< ((16 : Int32) &&& 31)) i = (decide (16 ≤ i) && bt x (i - 16)) := b_shl 16 (by omega) x hi
theorem b_shl24 (x : Int32) {i : Nat} (hi : i < 32) : bt (x <<< ((24 : Int32) &&& 31)) i = (decide (24 ≤ i) && bt x (i - 24)) := b_shl 24 (by omega) x hi
theorem b_sshr8 (x : Int32) {i : Nat} (hi : i < 32) : bt (x >>> ((8 : Int32) &&& 31)) i = if 8 + i < 32 then bt x (8 + i) else bt x 31 := b_sshr 8 (by omega) x hi
/-! ===== nI under and, xor, >>>, one bit, 65535 ===== -/
theorem nx_and (a b : Nat) : nI a &&& nI b = nI (a &&& b) := by
  apply Int32.toBitVec_inj.1
  show BitVec.ofNat 32 a &&& BitVec.ofNat 32 b = BitVec.ofNat 32 (a &&& b)
  apply BitVec.eq_of_getLsbD_eq
  intro i hi
  simp [hi]
theorem nx_xor (a b : Nat) : nI a ^^^ nI b = nI (a ^^^ b) := by
  apply Int32.toBitVec_inj.1
  show BitVec.ofNat 32 a ^^^ BitVec.ofNat 32 b = BitVec.ofNat 32 (a ^^^ b)
  apply BitVec.eq_of_getLsbD_eq
  intro i hi
  simp [hi]
theorem nx_cnt : ∀ j : Fin 32, (UInt32.ofNat j.val &&& Int32.toUInt32 31).toNat % 32 = j.val := by decide +kernel
theorem nx_ush {k j : Nat} (hk : k < 65536) (hj : j < 32) : ((nI k).toUInt32 >>> ((nI j).toUInt32 &&& Int32.toUInt32 31)).toInt32 = nI (k >>> j) := by
  have hs : k >>> j ≤ k := by
    rw [Nat.shiftRight_eq_div_pow]
    exact Nat.div_le_self _ _
  have e2 : UInt32.ofNat k >>> (UInt32.ofNat j &&& Int32.toUInt32 31) = UInt32.ofNat (k >>> j) := by
    apply UInt32.toNat_inj.1
    have h1 : (UInt32.ofNat k).toNat = k := Nat.mod_eq_of_lt (by omega)
    have h2 : (UInt32.ofNat (k >>> j)).toNat = k >>> j := Nat.mod_eq_of_lt (by omega)
    rw [UInt32.toNat_shiftRight, nx_cnt ⟨j, hj⟩, h1, h2]
  show (UInt32.ofNat k >>> (UInt32.ofNat j &&& Int32.toUInt32 31)).toInt32 = _
  rw [e2]
  rfl
theorem nx_bit {k j : Nat} (hk : k < 65536) (hj : j < 16) : (((nI k).toUInt32 >>> ((nI j).toUInt32 &&& Int32.toUInt32 31)).toInt32 &&& 1) = 0 ↔ k.testBit j = false := by
  rw [nx_ush hk (by omega)]
  show nI (k >>> j) &&& nI 1 = 0 ↔ _
  rw [nx_and, Nat.and_one_is_mod, ← nI_0, nI_eq (by omega) (by omega), Nat.testBit_eq_decide_div_mod_eq, Nat.shiftRight_eq_div_pow, decide_eq_false_iff_not]
  generalize k / 2 ^ j = z
  omega
theorem nx_mod (k : Nat) : nI k &&& 65535 = nI (k % 65536) := by
  show nI k &&& nI 65535 = _
  rw [nx_and, show (65535 : Nat) = 2 ^ 16 - 1 from rfl, Nat.and_two_pow_sub_one_eq_mod]
theorem nx_m16 {k : Nat} (h : k < 65536) : nI k &&& 65535 = nI k := by rw [nx_mod, Nat.mod_eq_of_lt h]
theorem nx_mask (x : Int32) : ∃ k, k < 65536 ∧ x &&& 65535 = nI k := by
  have e : x = nI x.toBitVec.toNat := by
    apply Int32.toBitVec_inj.1
    show x.toBitVec = BitVec.ofNat 32 x.toBitVec.toNat
    simp
  refine ⟨x.toBitVec.toNat % 65536, Nat.mod_lt _ (by omega), ?_⟩
  rw [← nx_mod, ← e]
/-! ===== Int32 as a set of bits: test, set ===== -/
def nf_M (m : Int32) : Nat := 4294967296 - m.toBitVec.toNat
theorem nf_sh : ∀ l, l < 32 → ((1 : Int32) <<< (nI l &&& 31)).toBitVec = BitVec.twoPow 32 l := by decide +kernel
theorem nf_sl : ∀ l, l < 32 → (((nI l).toUInt32 &&& Int32.toUInt32 31).toBitVec % 32).toNat = l := by decide +kernel
theorem nf_tp : ∀ l, l < 32 → BitVec.twoPow 32 l ≠ 0#32 := by decide +kernel
theorem nf_bit (m : Int32) (l : Nat) (hl : l < 32) : ((m.toUInt32 >>> ((nI l).toUInt32 &&& Int32.toUInt32 31)).toInt32 &&& 1) = 0 ↔ (m &&& ((1 : Int32) <<< (nI l &&& 31))) = 0 := by
  have e : ((m.toUInt32 >>> ((nI l).toUInt32 &&& Int32.toUInt32 31)).toInt32).toBitVec = m.toBitVec >>> l := by
    show m.toBitVec >>> (((nI l).toUInt32 &&& Int32.toUInt32 31).toBitVec % 32) = m.toBitVec >>> l
    rw [BitVec.ushiftRight_eq', nf_sl l hl]
  rw [← Int32.toBitVec_inj, ← Int32.toBitVec_inj, Int32.toBitVec_and, Int32.toBitVec_and, nf_sh l hl, e, BitVec.and_twoPow]
  show (m.toBitVec >>> l &&& 1#32) = 0#32 ↔ _ = 0#32
  rw [BitVec.and_one_eq_setWidth_ofBool_getLsbD, BitVec.getLsbD_ushiftRight, Nat.add_zero]
  cases hb : m.toBitVec.getLsbD l
  · exact ⟨fun _ => by simp, fun _ => by decide⟩
  · exact ⟨fun z => absurd z (by decide), fun z => absurd ((if_pos rfl).symm.trans z) (nf_tp l hl)⟩
theorem nf_gr (m k : Int32) (h : m &&& k = 0) (hk : k ≠ 0) : nf_M (m ||| k) < nf_M m := by
  have hm := m.toBitVec.isLt
  have hm' := (m ||| k).toBitVec.isLt
  have h1 : m.toBitVec.toNat ≤ (m ||| k).toBitVec.toNat := by
    rw [Int32.toBitVec_or, BitVec.toNat_or]
    exact Nat.left_le_or
  have h2 : m.toBitVec.toNat ≠ (m ||| k).toBitVec.toNat := by
    intro e
    have e2 : m = m ||| k := Int32.toBitVec_inj.mp (BitVec.eq_of_toNat_eq e)
    apply hk
    apply Int32.toBitVec_inj.mp
    show k.toBitVec = 0#32
    apply BitVec.eq_of_getLsbD_eq
    intro i hi
    have a : m.toBitVec.getLsbD i = (m.toBitVec.getLsbD i || k.toBitVec.getLsbD i) := by rw [← BitVec.getLsbD_or, ← Int32.toBitVec_or, ← e2]
    have b : (m.toBitVec.getLsbD i && k.toBitVec.getLsbD i) = false := by
      rw [← BitVec.getLsbD_and, ← Int32.toBitVec_and, h]
      exact BitVec.getLsbD_zero
    rw [BitVec.getLsbD_zero]
    revert a b
    cases m.toBitVec.getLsbD i <;> cases k.toBitVec.getLsbD i <;> simp
  unfold nf_M
  omega
/-! ===== a byte read unsigned ===== -/
theorem bp_b (x : Int32) : x.toInt8.toInt32 &&& 255 = x &&& 255 := by
  apply Int32.toBitVec_inj.mp
  rw [Int32.toBitVec_and, Int32.toBitVec_and, Int8.toBitVec_toInt32, Int32.toBitVec_toInt8]
  apply BitVec.eq_of_getLsbD_eq
  intro i hi
  rw [BitVec.getLsbD_and, BitVec.getLsbD_and]
  have hm : ∀ i < 32, 8 ≤ i → (255 : Int32).toBitVec.getLsbD i = false := by decide
  rcases Nat.lt_or_ge i 8 with z | z
  · rw [BitVec.getLsbD_signExtend, BitVec.getLsbD_signExtend, if_pos z, if_pos hi]
    simp only [z, hi, decide_true, Bool.true_and]
  · rw [hm i hi z]; simp
/-! ===== the char cast and 65535 ===== -/
theorem em_w (v : Int32) : ∃ w : Nat, w < 65536 ∧ (v.toUInt32 % 65536).toInt32 = nI w ∧ v &&& 65535 = nI w := by
  have hr := lw_u16_r v
  have h0 : (0 : Int32).toInt = 0 := by decide
  obtain ⟨w, h1, h2⟩ := nI_of (x := lw_u16 v) (by rw [Int32.lt_iff_toInt_lt]; omega)
  have h3 : (v.toUInt32 % 65536).toInt32 = nI w := h2
  rw [h2, nI_toInt h1] at hr
  exact ⟨w, by omega, h3, by rw [← lg_i2c_mask, ← lg_i2c_nf, h3]⟩
/-! ===== Int64 as a set of bits: test, set, clear ===== -/
theorem ts_nf {x : Bool} (h : ¬ x = false) : x = true := by cases x <;> first | rfl | exact absurd rfl h
theorem ts_nt {x : Bool} (h : ¬ x = true) : x = false := by cases x <;> first | rfl | exact absurd rfl h
theorem ts_bit {w : Int64} {s : UInt64} {j : Nat} (hj : j < 64) (hs : s.toNat = j) : ((w.toUInt64 >>> s).toInt64 &&& 1) = 0 ↔ w.toBitVec.getLsbD j = false := by
  have e : (w.toUInt64 >>> s).toInt64.toBitVec = w.toBitVec >>> j := by
    apply BitVec.eq_of_toNat_eq
    show (w.toUInt64 >>> s).toNat = _
    rw [UInt64.toNat_shiftRight, hs, Nat.mod_eq_of_lt hj, BitVec.toNat_ushiftRight]
    rfl
  rw [← Int64.toBitVec_inj, Int64.toBitVec_and, e]
  show w.toBitVec >>> j &&& 1#64 = 0#64 ↔ _
  constructor
  · intro h
    have t := congrArg (fun x => x.getLsbD 0) h
    simpa using t
  · intro h
    apply BitVec.eq_of_getLsbD_eq
    intro i hi
    cases i with
    | zero => simp [h]
    | succ i => simp
theorem ts_or {w m : Int64} {j : Nat} (hj : j < 64) (hm : m.toBitVec = BitVec.twoPow 64 j) : (w ||| m) = w ↔ w.toBitVec.getLsbD j = true := by
  rw [← Int64.toBitVec_inj, Int64.toBitVec_or, hm]
  constructor
  · intro h
    have t := congrArg (fun x => x.getLsbD j) h
    simp only [BitVec.getLsbD_or, BitVec.getLsbD_twoPow] at t
    simpa [hj] using t.symm
  · intro h
    apply BitVec.eq_of_getLsbD_eq
    intro i hi
    rw [BitVec.getLsbD_or, BitVec.getLsbD_twoPow]
    by_cases e : j = i
    · subst e; rw [h, Bool.true_or]
    · simp [e]
theorem ts_and {w m : Int64} {j : Nat} (hj : j < 64) (hm : m.toBitVec = BitVec.twoPow 64 j) : (w &&& (m ^^^ (-1))) = w ↔ w.toBitVec.getLsbD j = false := by
  have ha : (-1 : Int64).toBitVec = BitVec.allOnes 64 := by decide
  rw [← Int64.toBitVec_inj, Int64.toBitVec_and, Int64.toBitVec_xor, hm, ha]
  constructor
  · intro h
    have t := congrArg (fun x => x.getLsbD j) h
    simp only [BitVec.getLsbD_and, BitVec.getLsbD_xor, BitVec.getLsbD_twoPow, BitVec.getLsbD_allOnes] at t
    simpa [hj] using t.symm
  · intro h
    apply BitVec.eq_of_getLsbD_eq
    intro i hi
    rw [BitVec.getLsbD_and, BitVec.getLsbD_xor, BitVec.getLsbD_twoPow, BitVec.getLsbD_allOnes]
    by_cases e : j = i
    · subst e; rw [h, Bool.false_and]
    · simp [e, hi]
/-! ===== lN n to 2^64: shifts, and, or, masks, one bit ===== -/
theorem wb_tb (n : Nat) : (lN n).toBitVec = BitVec.ofNat 64 n := rfl
theorem wb_inj {a b : Int64} (h : a.toBitVec = b.toBitVec) : a = b := Int64.toBitVec_inj.mp h
theorem wb_tn {n : Nat} (h : n < 2 ^ 64) : (lN n).toBitVec.toNat = n := by rw [wb_tb, BitVec.toNat_ofNat, Nat.mod_eq_of_lt h]
theorem wb_of (x : Int64) : ∃ n, n < 2 ^ 64 ∧ x = lN n := ⟨x.toBitVec.toNat, x.toBitVec.isLt, wb_inj (by rw [wb_tb]; simp)⟩
theorem wb_of32 (x : Int32) : ∃ n, n < 2 ^ 32 ∧ x = nI n := ⟨x.toBitVec.toNat, x.toBitVec.isLt, Int32.toBitVec_inj.mp (by show _ = BitVec.ofNat 32 _; simp)⟩
theorem wb_c : ∀ k, k < 64 → ((nI k).toInt64 &&& 63) = lN k := by decide +kernel
theorem wb_cu : ∀ k, k < 64 → ((nI k).toInt64.toUInt64 &&& Int64.toUInt64 63) = UInt64.ofNat k := by decide +kernel
theorem wb_sm : ∀ k, k < 64 → (BitVec.ofNat 64 k).smod 64 = BitVec.ofNat 64 k := by decide +kernel
theorem wb_pw {a b : Nat} (h : a ≤ b) : 2 ^ b = 2 ^ a * 2 ^ (b - a) := by rw [← Nat.pow_add]; congr 1; omega
theorem wb_lt2 {a b : Nat} (h : a < b) : 2 ^ a < 2 ^ b := Nat.pow_lt_pow_right (by decide) h
theorem wb_mod (n : Nat) : lN n = lN (n % 2 ^ 64) := wb_inj (by rw [wb_tb, wb_tb]; apply BitVec.eq_of_toNat_eq; rw [BitVec.toNat_ofNat, BitVec.toNat_ofNat, Nat.mod_mod])
theorem wb_shr {n k : Nat} (hn : n < 2 ^ 64) (hk : k < 64) : ((lN n).toUInt64 >>> ((nI k).toInt64.toUInt64 &&& Int64.toUInt64 63)).toInt64 = lN (n / 2 ^ k) := by
  rw [wb_cu k hk]
  apply wb_inj
  apply BitVec.eq_of_toNat_eq
  show ((lN n).toUInt64 >>> UInt64.ofNat k).toNat = (BitVec.ofNat 64 _).toNat
  have h1 : (UInt64.ofNat k).toNat = k := by
    show (BitVec.ofNat 64 k).toNat = k
    rw [BitVec.toNat_ofNat, Nat.mod_eq_of_lt (by omega)]
  have h2 : (lN n).toUInt64.toNat = n := wb_tn hn
  rw [UInt64.toNat_shiftRight, h1, h2, Nat.mod_eq_of_lt hk, Nat.shiftRight_eq_div_pow, BitVec.toNat_ofNat, Nat.mod_eq_of_lt (Nat.lt_of_le_of_lt (Nat.div_le_self _ _) hn)]
theorem wb_shl (n : Nat) {k : Nat} (hk : k < 64) : lN n <<< ((nI k).toInt64 &&& 63) = lN (n * 2 ^ k) := by
  rw [wb_c k hk]
  apply wb_inj
  rw [Int64.toBitVec_shiftLeft, wb_tb, wb_tb, wb_tb, wb_sm k hk]
  apply BitVec.eq_of_toNat_eq
  rw [BitVec.shiftLeft_eq', BitVec.toNat_shiftLeft, BitVec.toNat_ofNat, BitVec.toNat_ofNat, BitVec.toNat_ofNat, Nat.mod_eq_of_lt (show k < 2 ^ 64 by omega), Nat.shiftLeft_eq, Nat.mul_mod, Nat.mod_mod, ← Nat.mul_mod]
theorem wb_and {a b : Nat} (ha : a < 2 ^ 64) (hb : b < 2 ^ 64) : lN a &&& lN b = lN (a &&& b) := by
  apply wb_inj
  rw [Int64.toBitVec_and, wb_tb, wb_tb, wb_tb]
  apply BitVec.eq_of_toNat_eq
  rw [BitVec.toNat_and, BitVec.toNat_ofNat, BitVec.toNat_ofNat, BitVec.toNat_ofNat, Nat.mod_eq_of_lt ha, Nat.mod_eq_of_lt hb, Nat.mod_eq_of_lt (Nat.and_lt_two_pow _ hb)]
theorem wb_or {a b : Nat} (ha : a < 2 ^ 64) (hb : b < 2 ^ 64) : lN a ||| lN b = lN (a ||| b) := by
  apply wb_inj
  rw [Int64.toBitVec_or, wb_tb, wb_tb, wb_tb]
  apply BitVec.eq_of_toNat_eq
  rw [BitVec.toNat_or, BitVec.toNat_ofNat, BitVec.toNat_ofNat, BitVec.toNat_ofNat, Nat.mod_eq_of_lt ha, Nat.mod_eq_of_lt hb, Nat.mod_eq_of_lt (Nat.or_lt_two_pow ha hb)]
theorem wb_mask {n k : Nat} (hn : n < 2 ^ 64) (hk : k < 64) : lN n &&& lN (2 ^ k - 1) = lN (n % 2 ^ k) := by
  rw [wb_and hn (by have := wb_lt2 hk; omega), Nat.and_two_pow_sub_one_eq_mod]
theorem wb_a1 {n : Nat} (hn : n < 2 ^ 64) : lN n &&& 1 = lN (n % 2) := wb_mask (k := 1) hn (by decide)
theorem wb_bit {n k : Nat} (hn : n < 2 ^ 64) (hk : k < 64) : ((lN n).toUInt64 >>> ((nI k).toInt64.toUInt64 &&& Int64.toUInt64 63)).toInt64 &&& 1 = lN (n / 2 ^ k % 2) := by
  rw [wb_shr hn hk, wb_a1 (Nat.lt_of_le_of_lt (Nat.div_le_self _ _) hn)]
theorem wb_xor {q k : Nat} (hk : k < 63) (h : 2 ^ k ≤ q) (h2 : q < 2 ^ (k + 1)) : lN q ^^^ lN (2 ^ k) = lN (q - 2 ^ k) := by
  obtain ⟨r, rfl⟩ : ∃ r, q = 2 ^ k + r := ⟨q - 2 ^ k, by omega⟩
  have hr : r < 2 ^ k := by rw [Nat.pow_succ] at h2; omega
  have hx : (2 ^ k + r) ^^^ 2 ^ k = r := by
    apply Nat.eq_of_testBit_eq
    intro i
    rw [Nat.testBit_xor, Nat.testBit_two_pow]
    rcases Nat.lt_trichotomy i k with h | h | h
    · rw [Nat.testBit_two_pow_add_gt h]
      simp [show ¬ k = i by omega]
    · subst h
      rw [Nat.testBit_two_pow_add_eq]
      simp
    · have a1 : 2 ^ (k + 1) ≤ 2 ^ i := Nat.pow_le_pow_right (by decide) h
      rw [Nat.testBit_lt_two_pow (show 2 ^ k + r < 2 ^ i by omega), Nat.testBit_lt_two_pow (show r < 2 ^ i by omega)]
      simp [show ¬ k = i by omega]
  have b1 := wb_lt2 (show k + 1 < 64 by omega)
  have b2 := wb_lt2 (show k < 64 by omega)
  apply wb_inj
  rw [Int64.toBitVec_xor, wb_tb, wb_tb, wb_tb]
  apply BitVec.eq_of_toNat_eq
  rw [BitVec.toNat_xor, BitVec.toNat_ofNat, BitVec.toNat_ofNat, BitVec.toNat_ofNat, Nat.mod_eq_of_lt (by omega : 2 ^ k + r < 2 ^ 64), Nat.mod_eq_of_lt b2, hx, Nat.add_sub_cancel_left, Nat.mod_eq_of_lt (by omega)]
/-! ===== lN: masks, 'or' of parts that don't overlap is a sum ===== -/
theorem u_tn {n : Nat} (h : n < 2 ^ 64) : (UInt64.ofNat n).toNat = n := Nat.mod_eq_of_lt h
theorem g_and {a b c : Nat} (ha : a < 2 ^ 64) (hb : b < 2 ^ 64) (hc : a &&& b = c) : lN a &&& lN b = lN c := by
  subst hc
  have h : UInt64.ofNat a &&& UInt64.ofNat b = UInt64.ofNat (a &&& b) := UInt64.toNat_inj.mp (by rw [UInt64.toNat_and, u_tn ha, u_tn hb, u_tn (Nat.and_lt_two_pow a hb)])
  have h2 := congrArg UInt64.toInt64 h
  exact h2
theorem g_and1 {a : Nat} (ha : a < 2 ^ 64) : lN a &&& 1 = lN (a % 2) := g_and (b := 1) ha (by decide) (Nat.and_two_pow_sub_one_eq_mod a 1)
theorem g_mask {a s p : Nat} (hp : 2 ^ s = p) (hs : s < 64) (ha : a < 2 ^ 64) : lN a &&& lN (p - 1) = lN (a % p) := by
  subst hp
  have := Nat.pow_lt_pow_right (show 1 < 2 by decide) hs
  exact g_and ha (by omega) (Nat.and_two_pow_sub_one_eq_mod a s)
theorem g_or {k p a b : Nat} (hp : 2 ^ k = p) (ha : a < p) (h : b * p + a < 2 ^ 64) : lN (b * p) ||| lN a = lN (b * p + a) := by
  subst hp
  have h1 : b * 2 ^ k ||| a = b * 2 ^ k + a := by rw [← Nat.shiftLeft_eq, Nat.shiftLeft_add_eq_or_of_lt ha]
  have h3 : UInt64.ofNat (b * 2 ^ k) ||| UInt64.ofNat a = UInt64.ofNat (b * 2 ^ k + a) := UInt64.toNat_inj.mp (by rw [UInt64.toNat_or, u_tn (by omega), u_tn (by omega), u_tn h, h1])
  have h2 := congrArg UInt64.toInt64 h3
  exact h2
theorem g_or' {k p a b : Nat} (hp : 2 ^ k = p) (ha : a < p) (h : a + b * p < 2 ^ 64) : lN a ||| lN (b * p) = lN (a + b * p) := by
  rw [Int64.or_comm, g_or hp ha (by omega), Nat.add_comm]
theorem g_ushr {a k p : Nat} {y : UInt64} (hy : y = UInt64.ofNat k) (hk : k < 64) (hp : 2 ^ k = p) (ha : a < 2 ^ 64) : ((lN a).toUInt64 >>> y).toInt64 = lN (a / p) := by
  subst hy hp
  have h : UInt64.ofNat a >>> UInt64.ofNat k = UInt64.ofNat (a / 2 ^ k) := UInt64.toNat_inj.mp (by rw [UInt64.toNat_shiftRight, u_tn ha, u_tn (by omega), u_tn (Nat.lt_of_le_of_lt (Nat.div_le_self _ _) ha), Nat.mod_eq_of_lt hk, Nat.shiftRight_eq_div_pow])
  have h2 := congrArg UInt64.toInt64 h
  exact h2
theorem g_shl {a k p : Nat} {y : Int64} (hy : y.toBitVec.smod 64 = BitVec.ofNat 64 k) (hk : k < 64) (hp : 2 ^ k = p) (ha : a < 2 ^ 64) : lN a <<< y = lN (a * p) := by
  subst hp
  apply Int64.toBitVec_inj.mp
  rw [Int64.toBitVec_shiftLeft, hy]
  apply BitVec.eq_of_toNat_eq
  have hb : (lN a).toBitVec.toNat = a := Nat.mod_eq_of_lt ha
  have hk' : (BitVec.ofNat 64 k).toNat = k := Nat.mod_eq_of_lt (by omega)
  have h : ((lN a).toBitVec <<< BitVec.ofNat 64 k).toNat = (a * 2 ^ k) % 2 ^ 64 := by simp only [BitVec.shiftLeft_eq', BitVec.toNat_shiftLeft, hb, hk', Nat.shiftLeft_eq]
  exact h
/-! ===== lN to 2^62 under >> and >>> ===== -/
theorem pf_lI {a : Nat} (h : a < 2 ^ 63) : (lN a).toInt = (a : Int) := lg_ofNat_toInt h
theorem pf_shr {a d : Nat} {D : Int64} (hD : (D.toBitVec.smod 64).toNat = d) (h : a < 2 ^ 62) : lN a >>> D = lN (a / 2 ^ d) := by
  have hd : a / 2 ^ d ≤ a := Nat.div_le_self _ _
  apply Int64.toInt_inj.mp
  have e : (lN a >>> D).toInt = (lN a).toInt >>> d := by
    rw [← hD]
    exact BitVec.toInt_sshiftRight ..
  rw [e, Int.shiftRight_eq_div_pow, pf_lI (by omega), pf_lI (by omega)]
  rfl
theorem pf_ushr {a d : Nat} {D : UInt64} (hD : D.toNat % 64 = d) (h : a < 2 ^ 62) : ((lN a).toUInt64 >>> D).toInt64 = lN (a / 2 ^ d) := by
  have hd : a / 2 ^ d ≤ a := Nat.div_le_self _ _
  have e : (lN a).toUInt64 >>> D = UInt64.ofNat (a / 2 ^ d) := UInt64.toNat_inj.mp (by
    rw [UInt64.toNat_shiftRight, hD, Nat.shiftRight_eq_div_pow, UInt64.toNat_ofNat']
    show (UInt64.ofNat a).toNat / 2 ^ d = _
    rw [UInt64.toNat_ofNat', Nat.mod_eq_of_lt (by omega), Nat.mod_eq_of_lt (by omega)])
  rw [e]
  rfl
theorem pf_andw (x : Int64) : ∃ m, m < 2 ^ 32 ∧ x &&& 4294967295 = lN m := ⟨x.toBitVec.toNat % 2 ^ 32, Nat.mod_lt _ (by decide), Int64.toBitVec_inj.mp (BitVec.eq_of_toNat_eq (by
  show (x.toBitVec &&& 4294967295#64).toNat = (BitVec.ofNat 64 (x.toBitVec.toNat % 2 ^ 32)).toNat
  rw [BitVec.toNat_and, show (4294967295#64).toNat = 2 ^ 32 - 1 from by decide, Nat.and_two_pow_sub_one_eq_mod, BitVec.toNat_ofNat]
  omega))⟩
/-! ===== Int64 as an unsigned number: uN x ===== -/
def uN (x : Int64) : Nat := x.toUInt64.toNat
theorem uN_lt (x : Int64) : uN x < 18446744073709551616 := x.toUInt64.toNat_lt
theorem uN_inj {x y : Int64} (h : uN x = uN y) : x = y := congrArg UInt64.toInt64 (UInt64.toNat_inj.mp h)
theorem uN_add (x y : Int64) : uN (x + y) = (uN x + uN y) % 18446744073709551616 := by
  show (x.toUInt64 + y.toUInt64).toNat = _
  exact UInt64.toNat_add _ _
theorem uN_mul (x y : Int64) : uN (x * y) = (uN x * uN y) % 18446744073709551616 := by
  show (x.toUInt64 * y.toUInt64).toNat = _
  exact UInt64.toNat_mul _ _
theorem uN_shl (x : Int64) : uN (x <<< ((1 : Int32).toInt64 &&& 63)) = (2 * uN x) % 18446744073709551616 := by
  have h : (((1 : Int32).toInt64 &&& 63).toBitVec.smod 64).toNat = 1 := by decide
  show (x.toBitVec <<< (((1 : Int32).toInt64 &&& 63).toBitVec.smod 64).toNat).toNat = _
  rw [h, BitVec.toNat_shiftLeft, Nat.shiftLeft_eq, Nat.mul_comm]
  rfl
theorem uN_shr (x : Int64) (s : UInt64) : uN (x.toUInt64 >>> s).toInt64 = uN x / 2 ^ (s.toNat % 64) := by
  show (x.toUInt64 >>> s).toNat = _
  rw [UInt64.toNat_shiftRight, Nat.shiftRight_eq_div_pow]
  rfl
theorem uN_s32 (x : Int64) : uN (x.toUInt64 >>> ((32 : Int32).toInt64.toUInt64 &&& Int64.toUInt64 63)).toInt64 = uN x / 4294967296 := by
  have h : ((32 : Int32).toInt64.toUInt64 &&& Int64.toUInt64 63).toNat % 64 = 32 := by decide
  rw [uN_shr, h]
theorem uN_s63 (x : Int64) : uN (x.toUInt64 >>> ((63 : Int32).toInt64.toUInt64 &&& Int64.toUInt64 63)).toInt64 = uN x / 9223372036854775808 := by
  have h : ((63 : Int32).toInt64.toUInt64 &&& Int64.toUInt64 63).toNat % 64 = 63 := by decide
  rw [uN_shr, h]
theorem uN_lo (x : Int64) : uN (x &&& 4294967295) = uN x % 4294967296 := by
  show (x.toUInt64 &&& Int64.toUInt64 4294967295).toNat = _
  rw [UInt64.toNat_and]
  exact Nat.and_two_pow_sub_one_eq_mod _ 32
theorem uN_bit (x : Int64) : (x &&& 1) = 0 ↔ uN x % 2 = 0 := by
  have h : uN (x &&& 1) = uN x % 2 := by
    show (x.toUInt64 &&& Int64.toUInt64 1).toNat = _
    rw [UInt64.toNat_and]
    exact Nat.and_two_pow_sub_one_eq_mod _ 1
  rw [← h]
  exact ⟨fun z => by rw [z]; rfl, fun z => uN_inj (z.trans rfl)⟩
theorem uN_or {x y : Int64} (hy : uN y < 2) : uN ((x <<< ((1 : Int32).toInt64 &&& 63)) ||| y) = (2 * uN x) % 18446744073709551616 + uN y := by
  have h1 : uN ((x <<< ((1 : Int32).toInt64 &&& 63)) ||| y) = uN (x <<< ((1 : Int32).toInt64 &&& 63)) ||| uN y := UInt64.toNat_or _ _
  have h2 : (2 * uN x) % 18446744073709551616 = 2 ^ 1 * (uN x % 9223372036854775808) := by omega
  rw [h1, uN_shl, h2]
  exact (Nat.two_pow_add_eq_or_of_lt (i := 1) hy _).symm
theorem nat_xor {a : Nat} (h : a < 18446744073709551616) : a ^^^ 2 ^ 63 = (a + 9223372036854775808) % 18446744073709551616 := by
  have h1 : (a ^^^ 2 ^ 63) % 2 ^ 63 = a % 2 ^ 63 := by rw [Nat.xor_mod_two_pow, Nat.mod_self, Nat.xor_zero]
  have h2 : (a ^^^ 2 ^ 63) / 2 ^ 63 = (a / 2 ^ 63) ^^^ 1 := by rw [Nat.xor_div_two_pow, Nat.div_self (Nat.two_pow_pos 63)]
  have h3 : a / 2 ^ 63 = 0 ∨ a / 2 ^ 63 = 1 := by omega
  generalize a ^^^ 2 ^ 63 = t at h1 h2
  rcases h3 with h3 | h3
  · rw [h3] at h2
    have h2 : t / 2 ^ 63 = 1 := h2
    omega
  · rw [h3] at h2
    have h2 : t / 2 ^ 63 = 0 := h2
    omega
theorem uN_xor (x : Int64) : uN (x ^^^ (-9223372036854775808)) = (uN x + 9223372036854775808) % 18446744073709551616 := by
  rw [← nat_xor (uN_lt x)]
  exact UInt64.toNat_xor _ _
theorem uN_int (x : Int64) : x.toInt = if 2 * uN x < 18446744073709551616 then (uN x : Int) else (uN x : Int) - 18446744073709551616 := BitVec.toInt_eq_toNat_cond _
theorem uN_le (x y : Int64) : (x ^^^ (-9223372036854775808)) ≤ (y ^^^ (-9223372036854775808)) ↔ uN x ≤ uN y := by
  have hx := uN_lt x
  have hy := uN_lt y
  rw [Int64.le_iff_toInt_le, uN_int, uN_int, uN_xor, uN_xor]
  omega
theorem uN_sk (x : Int64) {k : Nat} (hk : k < 64) : uN (x.toUInt64 >>> ((nI k).toInt64.toUInt64 &&& Int64.toUInt64 63)).toInt64 = uN x / 2 ^ k := by
  have h : ((nI k).toInt64.toUInt64 &&& Int64.toUInt64 63).toNat % 64 = k := by
    rw [nI_l (by omega), UInt64.toNat_and]
    have e : (lN k).toUInt64.toNat = k % 2 ^ 64 := rfl
    have e2 : (Int64.toUInt64 63).toNat = 2 ^ 6 - 1 := by decide
    rw [e, e2, Nat.and_two_pow_sub_one_eq_mod]
    omega
  rw [uN_shr, h]
/-! ===== unsigned comparison by xor with the least ===== -/
theorem lN_bv (n : Nat) : (lN n).toBitVec = BitVec.ofNat 64 n := rfl
theorem lN_nat {n : Nat} (h : n < 2 ^ 64) : (lN n).toBitVec.toNat = n := by rw [lN_bv, BitVec.toNat_ofNat]; exact Nat.mod_eq_of_lt h
theorem lN_xor (a b : Nat) : lN a ^^^ lN b = lN (a ^^^ b) := by
  apply Int64.toBitVec_inj.mp; rw [Int64.toBitVec_xor, lN_bv, lN_bv, lN_bv]; apply BitVec.eq_of_getLsbD_eq; intro i hi; simp [BitVec.getLsbD_ofNat, Nat.testBit_xor, hi]
theorem lN_ti {m : Nat} (h : m < 2 ^ 64) : (lN m).toInt = if m < 2 ^ 63 then (m : Int) else (m : Int) - 2 ^ 64 := by
  have c := BitVec.toInt_eq_toNat_cond (lN m).toBitVec
  rw [lN_nat h] at c
  show (lN m).toBitVec.toInt = _
  rw [c]
  split <;> split <;> omega
theorem xor63 {x : Nat} (h : x < 2 ^ 63) : x ^^^ 2 ^ 63 = 2 ^ 63 + x := by
  apply Nat.eq_of_testBit_eq
  intro i
  rw [Nat.testBit_xor, Nat.testBit_two_pow]
  rcases Nat.lt_trichotomy i 63 with z | z | z
  · rw [Nat.testBit_two_pow_add_gt z, decide_eq_false (by omega)]; simp
  · subst z; rw [Nat.testBit_two_pow_add_eq]; simp
  · have hp : 2 ^ 64 ≤ 2 ^ i := Nat.pow_le_pow_right (by decide) z
    rw [Nat.testBit_lt_two_pow (show x < 2 ^ i by omega), Nat.testBit_lt_two_pow (show 2 ^ 63 + x < 2 ^ i by omega), decide_eq_false (by omega)]; rfl
theorem xorS {a : Nat} (h : a < 2 ^ 64) : (lN a ^^^ (-9223372036854775808)).toInt = (a : Int) - 2 ^ 63 := by
  rw [show (-9223372036854775808 : Int64) = lN (2 ^ 63) from by decide +kernel, lN_xor]
  rcases Nat.lt_or_ge a (2 ^ 63) with z | z
  · rw [xor63 z, lN_ti (by omega), if_neg (by omega)]; omega
  · obtain ⟨x, rfl⟩ : ∃ x, a = 2 ^ 63 + x := ⟨a - 2 ^ 63, by omega⟩
    rw [← xor63 (by omega), Nat.xor_assoc, Nat.xor_self, Nat.xor_zero, lN_ti (by omega), if_pos (by omega), xor63 (by omega)]; omega
theorem ultL {a b : Nat} (ha : a < 2 ^ 64) (hb : b < 2 ^ 64) : ((lN b ^^^ (-9223372036854775808)) ≤ (lN a ^^^ (-9223372036854775808))) ↔ b ≤ a := by
  rw [Int64.le_iff_toInt_le, xorS ha, xorS hb]; omega
/-! ===== Int64 masks of n low bits ===== -/
theorem cr_bits (W U M : BitVec 64) : ((W &&& U) &&& (U &&& (M ^^^ BitVec.allOnes 64))) = 0#64 ↔ (W &&& U) &&& M = W &&& U := by
  constructor
  · intro h
    apply BitVec.eq_of_getLsbD_eq
    intro i hi
    have e := congrArg (fun x => BitVec.getLsbD x i) h
    simp only [BitVec.getLsbD_and, BitVec.getLsbD_xor, BitVec.getLsbD_allOnes, BitVec.getLsbD_zero, hi, decide_true] at e ⊢
    revert e
    cases W.getLsbD i <;> cases U.getLsbD i <;> cases M.getLsbD i <;> decide
  · intro h
    apply BitVec.eq_of_getLsbD_eq
    intro i hi
    have e := congrArg (fun x => BitVec.getLsbD x i) h
    simp only [BitVec.getLsbD_and, BitVec.getLsbD_xor, BitVec.getLsbD_allOnes, BitVec.getLsbD_zero, hi, decide_true] at e ⊢
    revert e
    cases W.getLsbD i <;> cases U.getLsbD i <;> cases M.getLsbD i <;> decide
theorem cr_mask (w U m : Int64) (n : Nat) (hm : m.toBitVec.toNat = 2 ^ n - 1) : ((w &&& U) &&& (U &&& (m ^^^ (-1)))) = 0 ↔ (w &&& U).toBitVec.toNat < 2 ^ n := by
  have e0 : (-1 : Int64).toBitVec = BitVec.allOnes 64 := by decide
  have z0 : (0 : Int64).toBitVec = 0#64 := by decide
  rw [← Int64.toBitVec_inj, z0, Int64.toBitVec_and, Int64.toBitVec_and, Int64.toBitVec_and, Int64.toBitVec_xor, e0, cr_bits]
  generalize w.toBitVec &&& U.toBitVec = T
  rw [← BitVec.toNat_inj, BitVec.toNat_and, hm, Nat.and_two_pow_sub_one_eq_mod]
  constructor
  · intro h
    have t := Nat.mod_lt T.toNat (Nat.two_pow_pos n)
    rw [h] at t
    exact t
  · exact Nat.mod_eq_of_lt
theorem cr_shr (t : Int64) (x : UInt64) (n : Nat) (hx : x.toNat % 64 = n) : (t.toUInt64 >>> x).toInt64 = 0 ↔ t.toBitVec.toNat < 2 ^ n := by
  rw [← Int64.toBitVec_inj, ← BitVec.toNat_inj]
  show (t.toUInt64 >>> x).toNat = 0 ↔ t.toUInt64.toNat < 2 ^ n
  rw [UInt64.toNat_shiftRight, hx, Nat.shiftRight_eq_div_pow]
  constructor
  · intro h
    have d : t.toUInt64.toNat / 2 ^ n < 1 := by
      rw [h]
      decide
    have e := (Nat.div_lt_iff_lt_mul (Nat.two_pow_pos n)).mp d
    rw [Nat.one_mul] at e
    exact e
  · exact Nat.div_eq_of_lt
theorem cr_amt (s : Int64) : ∃ n, n < 64 ∧ s &&& 63 = lN n ∧ (s.toUInt64 &&& Int64.toUInt64 63).toNat % 64 = n := by
  have e : (s.toUInt64 &&& Int64.toUInt64 63).toNat = s.toUInt64.toNat % 2 ^ 6 := by
    rw [UInt64.toNat_and, show (Int64.toUInt64 63).toNat = 2 ^ 6 - 1 from by decide, Nat.and_two_pow_sub_one_eq_mod]
  refine ⟨s.toUInt64.toNat % 2 ^ 6, by omega, ?_, by omega⟩
  rw [← Int64.toBitVec_inj, ← BitVec.toNat_inj]
  show (s.toUInt64 &&& Int64.toUInt64 63).toNat = (BitVec.ofNat 64 (s.toUInt64.toNat % 2 ^ 6)).toNat
  rw [e, BitVec.toNat_ofNat]
  omega
end
section
/-! arrays of the state as pure functions, numbers, bits -/
def cs_up {α : Type} (f : Nat → α) (k : Nat) (x : α) : Nat → α := fun j => if j = k then x else f j
theorem cs_us {α : Type} {f : Nat → α} {k : Nat} {x : α} : cs_up f k x k = x := if_pos rfl
theorem cs_uo {α : Type} {f : Nat → α} {k j : Nat} {x : α} (h : j ≠ k) : cs_up f k x j = f j := if_neg h
theorem cs_ue {α : Type} (f : Nat → α) (k j : Nat) (x : α) : cs_up f k x j = if j = k then x else f j := rfl
def cs_n (L : Nat → Nat) : Nat → Int32 := fun j => nI (L j)
def cs_bi (b : Bool) : Int32 := if b = true then 1 else 0
def cs_b (C : Nat → Bool) : Nat → Int32 := fun j => cs_bi (C j)
def cs_oi (o : Option Nat) : Int32 := match o with
  | none => -1
  | some k => nI k
def cs_o (O : Nat → Option Nat) : Nat → Int32 := fun j => cs_oi (O j)
def cs_vi (o : Option Bool) : Int32 := match o with
  | none => 0
  | some true => 1
  | some false => -1
def cs_v (V : Nat → Option Bool) : Nat → Int32 := fun j => cs_vi (V j)
theorem cs_wu {α : Type} (φ : α → Int32) (f : Nat → α) (k : Nat) (x : α) : upd (fun j => φ (f j)) k (φ x) = fun j => φ (cs_up f k x j) := by
  funext j
  by_cases h : j = k
  · subst h; rw [pk_us, cs_us]
  · rw [pk_un h, cs_uo h]
theorem cs_wr {L : Nat → Nat} {x y : Int32} (k v : Nat) (hx : x = nI k) (hy : y = nI v) (hk : k < 2 ^ 31 := by omega) : upd (cs_n L) x.toNatClampNeg y = cs_n (cs_up L k v) := by
  subst hx hy; rw [nI_clamp hk]; exact cs_wu nI L k v
theorem cs_rd {L : Nat → Nat} {x : Int32} (k : Nat) (hx : x = nI k) (hk : k < 2 ^ 31 := by omega) : cs_n L x.toNatClampNeg = nI (L k) := by
  subst hx; rw [nI_clamp hk]; rfl
theorem cs_wb {C : Nat → Bool} {x y : Int32} (k : Nat) (v : Bool) (hx : x = nI k) (hy : y = cs_bi v) (hk : k < 2 ^ 31 := by omega) : upd (cs_b C) x.toNatClampNeg y = cs_b (cs_up C k v) := by
  subst hx hy; rw [nI_clamp hk]; exact cs_wu cs_bi C k v
theorem cs_rb {C : Nat → Bool} {x : Int32} (k : Nat) (hx : x = nI k) (hk : k < 2 ^ 31 := by omega) : cs_b C x.toNatClampNeg = cs_bi (C k) := by
  subst hx; rw [nI_clamp hk]; rfl
theorem cs_wv {V : Nat → Option Bool} {x y : Int32} (k : Nat) (v : Option Bool) (hx : x = nI k) (hy : y = cs_vi v) (hk : k < 2 ^ 31 := by omega) : upd (cs_v V) x.toNatClampNeg y = cs_v (cs_up V k v) := by
  subst hx hy; rw [nI_clamp hk]; exact cs_wu cs_vi V k v
theorem cs_rv {V : Nat → Option Bool} {x : Int32} (k : Nat) (hx : x = nI k) (hk : k < 2 ^ 31 := by omega) : cs_v V x.toNatClampNeg = cs_vi (V k) := by
  subst hx; rw [nI_clamp hk]; rfl
theorem cs_wo {O : Nat → Option Nat} {x y : Int32} (k : Nat) (v : Option Nat) (hx : x = nI k) (hy : y = cs_oi v) (hk : k < 2 ^ 31 := by omega) : upd (cs_o O) x.toNatClampNeg y = cs_o (cs_up O k v) := by
  subst hx hy; rw [nI_clamp hk]; exact cs_wu cs_oi O k v
theorem cs_ro {O : Nat → Option Nat} {x : Int32} (k : Nat) (hx : x = nI k) (hk : k < 2 ^ 31 := by omega) : cs_o O x.toNatClampNeg = cs_oi (O k) := by
  subst hx; rw [nI_clamp hk]; rfl
theorem cs_rl {f : Nat → Int64} {x : Int32} (k : Nat) (hx : x = nI k) (hk : k < 2 ^ 31 := by omega) : f x.toNatClampNeg = f k := by
  subst hx; rw [nI_clamp hk]
theorem cs_ri {f : Nat → Int32} {x : Int32} (k : Nat) (hx : x = nI k) (hk : k < 2 ^ 31 := by omega) : f x.toNatClampNeg = f k := by
  subst hx; rw [nI_clamp hk]
theorem cs_wl {f : Nat → Int64} {x : Int32} {y z : Int64} (k : Nat) (hx : x = nI k) (hy : y = z) (hk : k < 2 ^ 31 := by omega) : vp_updL f x.toNatClampNeg y = cs_up f k z := by
  subst hx hy; rw [nI_clamp hk]; rfl
theorem cs_wi {f : Nat → Int32} {x y z : Int32} (k : Nat) (hx : x = nI k) (hy : y = z) (hk : k < 2 ^ 31 := by omega) : upd f x.toNatClampNeg y = cs_up f k z := by
  subst hx hy; rw [nI_clamp hk]; rfl
theorem cs_n0 : (fun _ => 0 : Nat → Int32) = cs_n (fun _ => 0) := rfl
theorem cs_b0 : (fun _ => 0 : Nat → Int32) = cs_b (fun _ => false) := rfl
theorem cs_v0 : (fun _ => 0 : Nat → Int32) = cs_v (fun _ => none) := rfl
theorem cs_vb0 : vp_nar .boolean 0 = cs_bi false := by decide
theorem cs_vb1 : vp_nar .boolean 1 = cs_bi true := by decide
theorem cs_bi0 (b : Bool) : cs_bi b = 0 ↔ b = false := by cases b <;> decide
theorem cs_bnar (b : Bool) : narrow .boolean (.int (cs_bi b)) = .int (cs_bi b) := by cases b <;> rfl
theorem cs_bt {b : Bool} {A B : Prop} (h : b = true) (k : B) : (cs_bi b = 0 → A) ∧ (¬ cs_bi b = 0 → B) := by
  subst h; exact br_f (by decide) k
theorem cs_bf {b : Bool} {A B : Prop} (h : b = false) (k : A) : (cs_bi b = 0 → A) ∧ (¬ cs_bi b = 0 → B) := by
  subst h; exact br_t (by decide) k
theorem cs_bc {b : Bool} {x : Int32} {A B : Prop} (hx : x = cs_bi b) (k0 : b = false → A) (k1 : b = true → B) : (x = 0 → A) ∧ (¬ x = 0 → B) := by
  subst hx
  cases b
  · exact br_t (by decide) (k0 rfl)
  · exact br_f (by decide) (k1 rfl)
/-! Nat and nI -/
theorem cs_2m (a : Nat) : 2 * nI a = nI (2 * a) := pk_mul 2 a
theorem cs_3m (a : Nat) : 3 * nI a = nI (3 * a) := pk_mul 3 a
theorem cs_4m (a : Nat) : 4 * nI a = nI (4 * a) := pk_mul 4 a
theorem cs_m3 (a : Nat) : nI a * 3 = nI (3 * a) := by rw [show (3 : Int32) = nI 3 from rfl, pk_mul, Nat.mul_comm]
theorem cs_m4 (a : Nat) : nI a * 4 = nI (4 * a) := by rw [show (4 : Int32) = nI 4 from rfl, pk_mul, Nat.mul_comm]
theorem cs_m64 (a : Nat) : nI a * 64 = nI (a * 64) := pk_mul a 64
theorem cs_a1 (a : Nat) : nI a + 1 = nI (a + 1) := nI_1 a
theorem cs_a2 (a : Nat) : nI a + 2 = nI (a + 2) := nI_add a 2
theorem cs_4a (a : Nat) : 4 + nI a = nI (4 + a) := nI_add 4 a
theorem cs_m1 {a : Nat} (h : 0 < a) : nI a + (-1) = nI (a - 1) := by
  obtain ⟨m, rfl⟩ : ∃ m, a = m + 1 := ⟨a - 1, by omega⟩
  exact pk_m1 m
theorem cs_s1 {a : Nat} (h : 0 < a) : nI a - 1 = nI (a - 1) := by
  obtain ⟨m, rfl⟩ : ∃ m, a = m + 1 := ⟨a - 1, by omega⟩
  exact nI_pred m
theorem cs_sh {a : Nat} (h : a < 2 ^ 31) : nI a >>> ((1 : Int32) &&& 31) = nI (a / 2) := by
  have := pk_shrN h ((1 : Int32) &&& 31) 1 (by decide)
  rw [this]
theorem cs_and1 {a : Nat} (h : a < 2 ^ 31) : nI a &&& 1 = nI (a % 2) := by
  have := pk_andN (n := a) (by omega) (m := 1) 1 (by decide)
  rw [this]
theorem cs_dv {a : Nat} (h : a < 2 ^ 31) : nI a / 2 = nI (a / 2) := pk_div (d := 2) h (by omega) (by omega)
theorem cs_rm {a : Nat} (h : a < 2 ^ 31) : nI a - nI a / 2 * 2 = nI (a % 2) := pk_rem (d := 2) h (by omega) (by omega)
theorem cs_20 : ¬ (2 : Int32) = 0 := by decide
theorem cs_eq0 {a : Nat} (h : a < 2 ^ 31) : nI a = 0 ↔ a = 0 := by
  rw [← nI_0, nI_eq h (by omega)]
theorem cs_nm1 {a : Nat} (h : a < 2 ^ 31) : ¬ nI a = -1 := by
  intro e
  have h2 := nI_pos (n := a) h
  rw [e] at h2
  exact h2 (by decide)
/-- the other phase of a literal -/
def cs_fl (a : Nat) : Nat := if a % 2 = 0 then a + 1 else a - 1
theorem cs_fl2 (a : Nat) : cs_fl a / 2 = a / 2 := by unfold cs_fl; split <;> omega
theorem cs_flm (a : Nat) : cs_fl a % 2 = 1 - a % 2 := by unfold cs_fl; split <;> omega
theorem cs_xm2 (a b : Nat) : (a ^^^ b) % 2 = (a + b) % 2 := by
  have h := Nat.xor_mod_two_eq_one (a := a) (b := b)
  generalize a ^^^ b = c at h ⊢
  omega
theorem cs_flx (a : Nat) : a ^^^ 1 = cs_fl a := by
  have h1 : (a ^^^ 1) / 2 = a / 2 := by rw [Nat.xor_div_two]; simp
  have h2 : (a ^^^ 1) % 2 = (a + 1) % 2 := cs_xm2 a 1
  unfold cs_fl; split <;> omega
theorem cs_xor1 (a : Nat) : nI a ^^^ 1 = nI (cs_fl a) := by
  rw [← cs_flx]; exact nx_xor a 1
theorem cs_fllt {a n : Nat} (h : a < 2 * n) : cs_fl a < 2 * n := by unfold cs_fl; split <;> omega
/-- a literal xor a phase bit -/
def cs_xp (a d : Nat) : Nat := if d = 0 then a else cs_fl a
theorem cs_xph (a d : Nat) (hd : d < 2) : nI a ^^^ nI d = nI (cs_xp a d) := by
  unfold cs_xp
  rcases (show d = 0 ∨ d = 1 by omega) with rfl | rfl
  · rw [nx_xor, Nat.xor_zero]; rfl
  · exact cs_xor1 a
theorem cs_xplt {a d n : Nat} (h : a < 2 * n) : cs_xp a d < 2 * n := by
  unfold cs_xp; split
  · exact h
  · exact cs_fllt h
theorem cs_m2 {a : Nat} (h : a < 2 ^ 31) : nI a &&& (-2) = nI (2 * (a / 2)) := by
  have e : (nI a &&& (-2)).toBitVec = (nI (2 * (a / 2))).toBitVec := by
    rw [Int32.toBitVec_and]
    apply BitVec.eq_of_getLsbD_eq
    intro i hi
    show (BitVec.ofNat 32 a &&& (-2 : Int32).toBitVec).getLsbD i = (BitVec.ofNat 32 (2 * (a / 2))).getLsbD i
    rw [BitVec.getLsbD_and, BitVec.getLsbD_ofNat, BitVec.getLsbD_ofNat]
    rcases i with _ | j
    · rw [show (-2 : Int32).toBitVec.getLsbD 0 = false from by decide]
      simp [Nat.testBit_zero]
    · have h1 : (-2 : Int32).toBitVec.getLsbD (j + 1) = true := by
        have : ∀ i : Fin 32, i.val ≠ 0 → (-2 : Int32).toBitVec.getLsbD i.val = true := by decide
        exact this ⟨j + 1, hi⟩ (by simp)
      rw [h1, Nat.testBit_succ, Nat.testBit_succ]
      simp
  exact Int32.toBitVec_inj.1 e
/-! the bits of a word -/
def cs_lb (w : Int64) (p : Nat) : Bool := w.toBitVec.getLsbD p
theorem cs_lbext {a b : Int64} (h : ∀ p, p < 64 → cs_lb a p = cs_lb b p) : a = b :=
  Int64.toBitVec_inj.1 (BitVec.eq_of_getLsbD_eq fun i hi => h i hi)
theorem cs_lband (a b : Int64) (p : Nat) : cs_lb (a &&& b) p = (cs_lb a p && cs_lb b p) := by
  unfold cs_lb; rw [Int64.toBitVec_and, BitVec.getLsbD_and]
theorem cs_lbxor (a b : Int64) (p : Nat) : cs_lb (a ^^^ b) p = (cs_lb a p ^^ cs_lb b p) := by
  unfold cs_lb; rw [Int64.toBitVec_xor, BitVec.getLsbD_xor]
theorem cs_lbor (a b : Int64) (p : Nat) : cs_lb (a ||| b) p = (cs_lb a p || cs_lb b p) := by
  unfold cs_lb; rw [Int64.toBitVec_or, BitVec.getLsbD_or]
theorem cs_lb0 (p : Nat) : cs_lb 0 p = false := by
  show (0#64).getLsbD p = false
  exact BitVec.getLsbD_zero
theorem cs_lbge {w : Int64} {p : Nat} (h : 64 ≤ p) : cs_lb w p = false := BitVec.getLsbD_of_ge _ _ h
theorem cs_lbN {n p : Nat} : cs_lb (lN n) p = (decide (p < 64) && n.testBit p) := by
  unfold cs_lb; rw [wb_tb, BitVec.getLsbD_ofNat]
theorem cs_lb1 (p : Nat) : cs_lb 1 p = decide (p = 0) := by
  show cs_lb (lN 1) p = _
  rw [cs_lbN]
  rcases p with _ | q
  · decide
  · rw [Nat.testBit_succ]; simp
theorem cs_lbsh {k : Nat} (hk : k < 64) (p : Nat) : cs_lb ((1 : Int64) <<< ((nI k).toInt64 &&& 63)) p = decide (p = k) := by
  have e := wb_shl 1 hk
  rw [show (1 : Int64) = lN 1 from rfl, e, cs_lbN, Nat.one_mul, Nat.testBit_two_pow]
  by_cases h : p = k
  · subst h; simp [hk]
  · have h2 : ¬ k = p := fun e => h e.symm
    simp [h, h2]
theorem cs_lbt {w : Int64} {k : Nat} (hk : k < 64) : ((w.toUInt64 >>> ((nI k).toInt64.toUInt64 &&& Int64.toUInt64 63)).toInt64 &&& 1) = 0 ↔ cs_lb w k = false := by
  rw [wb_cu k hk]
  exact ts_bit hk (u_tn (by omega))
theorem cs_lbi {w : Int64} {k : Nat} (hk : k < 64) : ((w.toUInt64 >>> ((nI k).toInt64.toUInt64 &&& Int64.toUInt64 63)).toInt64 &&& 1).toInt32 = cs_bi (cs_lb w k) := by
  obtain ⟨n, hn, rfl⟩ := wb_of w
  rw [wb_bit hn hk, lN_i, cs_lbN, Nat.testBit_eq_decide_div_mod_eq]
  rcases Nat.mod_two_eq_zero_or_one (n / 2 ^ k) with h | h
  · rw [h]; simp; rfl
  · rw [h]; simp [hk]; rfl
theorem cs_lbz {w : Int64} : (w &&& 1).toInt32 = cs_bi (cs_lb w 0) := by
  obtain ⟨n, hn, rfl⟩ := wb_of w
  rw [wb_a1 hn, lN_i, cs_lbN, Nat.testBit_zero]
  rcases Nat.mod_two_eq_zero_or_one n with h | h
  · rw [h]; simp; rfl
  · rw [h]; simp; rfl
theorem cs_bibi (b : Bool) : cs_bi b = nI b.toNat := by cases b <;> rfl
/-- one bit of a pattern -/
theorem cs_pb {p i : Nat} (hp : p < 64) (h1 : 1 ≤ i) (h6 : i ≤ 6) : (nI p >>> ((nI i - 1) &&& 31)) &&& 1 = cs_bi (p.testBit (i - 1)) := by
  rw [cs_s1 (by omega)]
  have e : nI p >>> (nI (i - 1) &&& 31) = nI (p / 2 ^ (i - 1)) := pk_shrN (by omega) _ (i - 1) (s_l (i - 1) (by omega))
  rw [e, cs_and1 (Nat.lt_of_le_of_lt (Nat.div_le_self _ _) (by omega)), Nat.testBit_eq_decide_div_mod_eq]
  rcases Nat.mod_two_eq_zero_or_one (p / 2 ^ (i - 1)) with h | h
  · rw [h]; rfl
  · rw [h]; rfl
theorem cs_pn {i : Nat} (h6 : i ≤ 6) : (1 : Int32) <<< (nI i &&& 31) = nI (2 ^ i) := by
  have : ∀ i : Fin 7, (1 : Int32) <<< (nI i.val &&& 31) = nI (2 ^ i.val) := by decide +kernel
  exact this ⟨i, by omega⟩
theorem cs_p64 {i : Nat} (h6 : i ≤ 6) : 2 ^ i ≤ 64 := by
  have := Nat.pow_le_pow_right (n := 2) (by omega) h6
  omega
end
section
/-! values of nodes and of nets under a pattern -/
theorem cs_lt_bit {x y i : Nat} (hx : x.testBit i = false) (hy : y.testBit i = true) (h : ∀ j, i < j → x.testBit j = y.testBit j) : x < y := by
  have e : x / 2 ^ (i + 1) = y / 2 ^ (i + 1) := Nat.eq_of_testBit_eq fun j => by
    rw [Nat.testBit_div_two_pow, Nat.testBit_div_two_pow]
    exact h _ (by omega)
  rw [Nat.testBit_eq_decide_div_mod_eq] at hx hy
  have hx2 := of_decide_eq_false hx
  have hy2 := of_decide_eq_true hy
  rw [Nat.pow_succ, ← Nat.div_div_eq_div_mul, ← Nat.div_div_eq_div_mul] at e
  apply Nat.lt_of_not_le
  intro z
  have w := Nat.div_le_div_right (c := 2 ^ i) z
  generalize x / 2 ^ i = a at *
  generalize y / 2 ^ i = b at *
  omega
def cs_run (f : Nat → (Nat → Bool) → Bool) : Nat → Nat → Bool
  | 0 => fun _ => false
  | k + 1 => fun n => if n = k then f k (cs_run f k) else cs_run f k n
def cs_val (f : Nat → (Nat → Bool) → Bool) (n : Nat) : Bool := f n (cs_run f n)
theorem cs_run_lt {f : Nat → (Nat → Bool) → Bool} {k n : Nat} (h : n < k) : cs_run f k n = cs_val f n := by
  induction k with
  | zero => omega
  | succ k ih =>
    by_cases e : n = k
    · subst e; exact if_pos rfl
    · exact (if_neg e).trans (ih (by omega))
theorem cs_run_congr {f f' : Nat → (Nat → Bool) → Bool} {m : Nat} (h : ∀ k, k < m → f k = f' k) : cs_run f m = cs_run f' m := by
  induction m with
  | zero => rfl
  | succ k ih =>
    funext n
    show (if n = k then f k (cs_run f k) else cs_run f k n) = (if n = k then f' k (cs_run f' k) else cs_run f' k n)
    rw [ih fun j hj => h j (by omega), h k (by omega)]
theorem cs_val_congr {f f' : Nat → (Nat → Bool) → Bool} {n : Nat} (h : ∀ k, k ≤ n → f k = f' k) : cs_val f n = cs_val f' n := by
  unfold cs_val
  rw [cs_run_congr fun k hk => h k (by omega), h n (Nat.le_refl n)]
/-- the value of a literal, given those of the nets (nodes) -/
def cs_lv (h : Nat → Bool) (a : Nat) : Bool := h (a / 2) ^^ decide (a % 2 = 1)
theorem cs_lv_fl (h : Nat → Bool) (a : Nat) : cs_lv h (cs_fl a) = !cs_lv h a := by
  unfold cs_lv
  rw [cs_fl2, cs_flm]
  rcases Nat.mod_two_eq_zero_or_one a with e | e <;> rw [e] <;> cases h (a / 2) <;> decide
theorem cs_lv_xp (h : Nat → Bool) (a d : Nat) (hd : d < 2) : cs_lv h (cs_xp a d) = (cs_lv h a ^^ decide (d = 1)) := by
  unfold cs_xp
  rcases (show d = 0 ∨ d = 1 by omega) with rfl | rfl
  · simp
  · simp [cs_lv_fl]
theorem cs_lv_even (h : Nat → Bool) (n : Nat) : cs_lv h (2 * n) = h n := by
  unfold cs_lv
  rw [show 2 * n / 2 = n by omega, show 2 * n % 2 = 0 by omega]; simp
theorem cs_lv_odd (h : Nat → Bool) (n : Nat) : cs_lv h (2 * n + 1) = !h n := by
  unfold cs_lv
  rw [show (2 * n + 1) / 2 = n by omega, show (2 * n + 1) % 2 = 1 by omega]; simp
theorem cs_lv_congr {h h' : Nat → Bool} {a : Nat} (e : h (a / 2) = h' (a / 2)) : cs_lv h a = cs_lv h' a := by
  unfold cs_lv; rw [e]
/-- nodes of the graph -/
def cs_gf (I : Nat) (L R : Nat → Nat) (p : Nat) (n : Nat) (h : Nat → Bool) : Bool :=
  if n = 0 then false else if n ≤ I then p.testBit (n - 1) else cs_lv h (L n) && cs_lv h (R n)
def cs_gv (I : Nat) (L R : Nat → Nat) (p : Nat) : Nat → Bool := cs_val (cs_gf I L R p)
theorem cs_gv_0 {I p : Nat} {L R : Nat → Nat} : cs_gv I L R p 0 = false := rfl
theorem cs_gv_i {I p n : Nat} {L R : Nat → Nat} (h0 : 1 ≤ n) (h : n ≤ I) : cs_gv I L R p n = p.testBit (n - 1) := by
  unfold cs_gv cs_val cs_gf
  rw [if_neg (by omega), if_pos h]
theorem cs_gv_a {I p n : Nat} {L R : Nat → Nat} (h : I < n) (hl : L n / 2 < n) (hr : R n / 2 < n) : cs_gv I L R p n = (cs_lv (cs_gv I L R p) (L n) && cs_lv (cs_gv I L R p) (R n)) := by
  have e : cs_gv I L R p n = (cs_lv (cs_run (cs_gf I L R p) n) (L n) && cs_lv (cs_run (cs_gf I L R p) n) (R n)) := by
    show cs_gf I L R p n _ = _
    unfold cs_gf
    rw [if_neg (by omega), if_neg (by omega)]
  rw [e, cs_lv_congr (cs_run_lt hl), cs_lv_congr (cs_run_lt hr)]
  rfl
theorem cs_gv_congr {I p n : Nat} {L R L' R' : Nat → Nat} (h : ∀ k, k ≤ n → L k = L' k ∧ R k = R' k) : cs_gv I L R p n = cs_gv I L' R' p n := by
  unfold cs_gv
  apply cs_val_congr
  intro k hk
  funext q
  unfold cs_gf
  rw [(h k hk).1, (h k hk).2]
/-- gates -/
def cs_gate (k : Nat) (a b c : Bool) : Bool :=
  if k = 0 then a && b && c else if k = 1 then a || b || c else if k = 2 then a ^^ b ^^ c else if k = 3 then (if a = true then b else c) else (a && b) || (c && (a || b))
def cs_ef (I : Nat) (GK OP : Nat → Nat) (p : Nat) (n : Nat) (h : Nat → Bool) : Bool :=
  if n = 0 then false else if n ≤ I then p.testBit (n - 1) else cs_gate (GK n) (cs_lv h (OP (3 * n))) (cs_lv h (OP (3 * n + 1))) (cs_lv h (OP (3 * n + 2)))
def cs_ev (I : Nat) (GK OP : Nat → Nat) (p : Nat) : Nat → Bool := cs_val (cs_ef I GK OP p)
theorem cs_ev_0 {I p : Nat} {GK OP : Nat → Nat} : cs_ev I GK OP p 0 = false := rfl
theorem cs_ev_i {I p n : Nat} {GK OP : Nat → Nat} (h0 : 1 ≤ n) (h : n ≤ I) : cs_ev I GK OP p n = p.testBit (n - 1) := by
  unfold cs_ev cs_val cs_ef
  rw [if_neg (by omega), if_pos h]
theorem cs_ev_g {I p n : Nat} {GK OP : Nat → Nat} (h : I < n) (h0 : OP (3 * n) / 2 < n) (h1 : OP (3 * n + 1) / 2 < n) (h2 : OP (3 * n + 2) / 2 < n) :
    cs_ev I GK OP p n = cs_gate (GK n) (cs_lv (cs_ev I GK OP p) (OP (3 * n))) (cs_lv (cs_ev I GK OP p) (OP (3 * n + 1))) (cs_lv (cs_ev I GK OP p) (OP (3 * n + 2))) := by
  have e : cs_ev I GK OP p n = cs_gate (GK n) (cs_lv (cs_run (cs_ef I GK OP p) n) (OP (3 * n))) (cs_lv (cs_run (cs_ef I GK OP p) n) (OP (3 * n + 1))) (cs_lv (cs_run (cs_ef I GK OP p) n) (OP (3 * n + 2))) := by
    show cs_ef I GK OP p n _ = _
    unfold cs_ef
    rw [if_neg (by omega), if_neg (by omega)]
  rw [e, cs_lv_congr (cs_run_lt h0), cs_lv_congr (cs_run_lt h1), cs_lv_congr (cs_run_lt h2)]
  rfl
theorem cs_ev_congr {I p n : Nat} {GK OP GK' OP' : Nat → Nat} (h : ∀ k, I < k → k ≤ n → GK k = GK' k ∧ OP (3 * k) = OP' (3 * k) ∧ OP (3 * k + 1) = OP' (3 * k + 1) ∧ OP (3 * k + 2) = OP' (3 * k + 2)) : cs_ev I GK OP p n = cs_ev I GK' OP' p n := by
  unfold cs_ev
  apply cs_val_congr
  intro k hk
  funext q
  unfold cs_ef
  by_cases hI : k ≤ I
  · rw [if_pos hI, if_pos hI]
  · obtain ⟨a, b, c, d⟩ := h k (by omega) hk
    rw [a, b, c, d]
/-! sets of nets: up to complement, over all patterns, over S -/
def cs_Same (PN : Nat) (ev : Nat → Nat → Bool) (u v : Nat) : Prop := (∀ p, p < PN → ev p u = ev p v) ∨ (∀ p, p < PN → ev p u ≠ ev p v)
def cs_Mat (PN : Nat) (S : Nat → Bool) (ev : Nat → Nat → Bool) (u v : Nat) : Prop := (∀ p, p < PN → S p = true → ev p u = ev p v) ∨ (∀ p, p < PN → S p = true → ev p u ≠ ev p v)
def cs_Rep (PN : Nat) (ev : Nat → Nat → Bool) (v : Nat) : Prop := ∀ u, u < v → ¬ cs_Same PN ev u v
def cs_Lea (PN : Nat) (ev : Nat → Nat → Bool) (v u : Nat) : Prop := u ≤ v ∧ cs_Same PN ev u v ∧ ∀ w, w < u → ¬ cs_Same PN ev w v
theorem cs_bne {a b : Bool} : a ≠ b ↔ a = !b := by cases a <;> cases b <;> decide
theorem cs_same_refl {PN : Nat} {ev : Nat → Nat → Bool} (u : Nat) : cs_Same PN ev u u := Or.inl fun _ _ => rfl
theorem cs_same_symm {PN : Nat} {ev : Nat → Nat → Bool} {u v : Nat} (h : cs_Same PN ev u v) : cs_Same PN ev v u :=
  h.elim (fun h => Or.inl fun p hp => (h p hp).symm) (fun h => Or.inr fun p hp e => h p hp e.symm)
theorem cs_same_trans {PN : Nat} {ev : Nat → Nat → Bool} {u v w : Nat} (h : cs_Same PN ev u v) (k : cs_Same PN ev v w) : cs_Same PN ev u w := by
  rcases h with h | h <;> rcases k with k | k
  · exact Or.inl fun p hp => (h p hp).trans (k p hp)
  · exact Or.inr fun p hp => by rw [h p hp]; exact k p hp
  · exact Or.inr fun p hp => by rw [← k p hp]; exact h p hp
  · exact Or.inl fun p hp => by rw [cs_bne.1 (h p hp), cs_bne.1 (k p hp)]; simp
theorem cs_mat_symm {PN : Nat} {S : Nat → Bool} {ev : Nat → Nat → Bool} {u v : Nat} (h : cs_Mat PN S ev u v) : cs_Mat PN S ev v u :=
  h.elim (fun h => Or.inl fun p hp hs => (h p hp hs).symm) (fun h => Or.inr fun p hp hs e => h p hp hs e.symm)
theorem cs_mat_trans {PN : Nat} {S : Nat → Bool} {ev : Nat → Nat → Bool} {u v w : Nat} (h : cs_Mat PN S ev u v) (k : cs_Mat PN S ev v w) : cs_Mat PN S ev u w := by
  rcases h with h | h <;> rcases k with k | k
  · exact Or.inl fun p hp hs => (h p hp hs).trans (k p hp hs)
  · exact Or.inr fun p hp hs => by rw [h p hp hs]; exact k p hp hs
  · exact Or.inr fun p hp hs => by rw [← k p hp hs]; exact h p hp hs
  · exact Or.inl fun p hp hs => by rw [cs_bne.1 (h p hp hs), cs_bne.1 (k p hp hs)]; simp
theorem cs_same_mat {PN : Nat} {S : Nat → Bool} {ev : Nat → Nat → Bool} {u v : Nat} (h : cs_Same PN ev u v) : cs_Mat PN S ev u v :=
  h.elim (fun h => Or.inl fun p hp _ => h p hp) (fun h => Or.inr fun p hp _ => h p hp)
theorem cs_same_congr {PN : Nat} {ev ev' : Nat → Nat → Bool} {u v : Nat} (hu : ∀ p, p < PN → ev p u = ev' p u) (hv : ∀ p, p < PN → ev p v = ev' p v) : cs_Same PN ev u v ↔ cs_Same PN ev' u v := by
  unfold cs_Same
  constructor
  · rintro (h | h)
    · exact Or.inl fun p hp => by rw [← hu p hp, ← hv p hp]; exact h p hp
    · exact Or.inr fun p hp => by rw [← hu p hp, ← hv p hp]; exact h p hp
  · rintro (h | h)
    · exact Or.inl fun p hp => by rw [hu p hp, hv p hp]; exact h p hp
    · exact Or.inr fun p hp => by rw [hu p hp, hv p hp]; exact h p hp
theorem cs_mat_congr {PN : Nat} {S : Nat → Bool} {ev ev' : Nat → Nat → Bool} {u v : Nat} (hu : ∀ p, p < PN → ev p u = ev' p u) (hv : ∀ p, p < PN → ev p v = ev' p v) : cs_Mat PN S ev u v ↔ cs_Mat PN S ev' u v := by
  unfold cs_Mat
  constructor
  · rintro (h | h)
    · exact Or.inl fun p hp hs => by rw [← hu p hp, ← hv p hp]; exact h p hp hs
    · exact Or.inr fun p hp hs => by rw [← hu p hp, ← hv p hp]; exact h p hp hs
  · rintro (h | h)
    · exact Or.inl fun p hp hs => by rw [hu p hp, hv p hp]; exact h p hp hs
    · exact Or.inr fun p hp hs => by rw [hu p hp, hv p hp]; exact h p hp hs
theorem cs_mat_mono {PN : Nat} {S S' : Nat → Bool} {ev : Nat → Nat → Bool} {u v : Nat} (hS : ∀ p, S p = true → S' p = true) (h : cs_Mat PN S' ev u v) : cs_Mat PN S ev u v :=
  h.elim (fun h => Or.inl fun p hp hs => h p hp (hS p hs)) (fun h => Or.inr fun p hp hs => h p hp (hS p hs))
theorem cs_lea_uniq {PN : Nat} {ev : Nat → Nat → Bool} {v u u' : Nat} (h : cs_Lea PN ev v u) (h' : cs_Lea PN ev v u') : u = u' := by
  rcases Nat.lt_trichotomy u u' with a | a | a
  · exact absurd h.2.1 (h'.2.2 u a)
  · exact a
  · exact absurd h'.2.1 (h.2.2 u' a)
theorem cs_lea_rep {PN : Nat} {ev : Nat → Nat → Bool} {v u : Nat} (h : cs_Lea PN ev v u) : cs_Rep PN ev u := fun w hw e =>
  h.2.2 w hw (cs_same_trans e h.2.1)
theorem cs_rep_lea {PN : Nat} {ev : Nat → Nat → Bool} {v : Nat} : cs_Rep PN ev v ↔ cs_Lea PN ev v v :=
  ⟨fun h => ⟨Nat.le_refl v, cs_same_refl v, h⟩, fun h => h.2.2⟩
theorem cs_lea_congr {PN : Nat} {ev ev' : Nat → Nat → Bool} {v u : Nat} (h : ∀ n, n ≤ v → ∀ p, p < PN → ev p n = ev' p n) (k : cs_Lea PN ev v u) : cs_Lea PN ev' v u :=
  ⟨k.1, (cs_same_congr (h u k.1) (h v (Nat.le_refl v))).1 k.2.1, fun w hw e => k.2.2 w hw ((cs_same_congr (h w (by have := k.1; omega)) (h v (Nat.le_refl v))).2 e)⟩
theorem cs_rep_congr {PN : Nat} {ev ev' : Nat → Nat → Bool} {v : Nat} (h : ∀ n, n ≤ v → ∀ p, p < PN → ev p n = ev' p n) (k : cs_Rep PN ev v) : cs_Rep PN ev' v :=
  cs_rep_lea.2 (cs_lea_congr h (cs_rep_lea.1 k))
/-- the least pattern below m with f, or none -/
def cs_Lst (m : Nat) (f : Nat → Bool) (o : Option Nat) : Prop := match o with
  | none => ∀ p, p < m → f p = false
  | some q => q < m ∧ f q = true ∧ ∀ p, p < q → f p = false
theorem cs_lst_uniq {m : Nat} {f : Nat → Bool} {o o' : Option Nat} (h : cs_Lst m f o) (h' : cs_Lst m f o') : o = o' := by
  cases o with
  | none =>
    cases o' with
    | none => rfl
    | some q =>
      have a := h q h'.1
      rw [h'.2.1] at a
      exact absurd a (by decide)
  | some q =>
    cases o' with
    | none =>
      have a := h' q h.1
      rw [h.2.1] at a
      exact absurd a (by decide)
    | some r =>
      rcases Nat.lt_trichotomy q r with a | a | a
      · have := h'.2.2 q a
        rw [h.2.1] at this
        exact absurd this (by decide)
      · rw [a]
      · have := h.2.2 r a
        rw [h'.2.1] at this
        exact absurd this (by decide)
theorem cs_lst_congr {m : Nat} {f f' : Nat → Bool} {o : Option Nat} (e : ∀ p, p < m → f p = f' p) (h : cs_Lst m f o) : cs_Lst m f' o := by
  cases o with
  | none => exact fun p hp => by rw [← e p hp]; exact h p hp
  | some q =>
    have h1 : q < m := h.1
    exact ⟨h1, by rw [← e q h1]; exact h.2.1, fun p hp => by rw [← e p (by omega)]; exact h.2.2 p hp⟩
end
section
/-! the graph: nodes, chains of the hash, chains of the users, signatures -/
def cs_W (I N : Nat) (L R : Nat → Nat) : Prop := I < N ∧ ∀ n, I < n → n < N → 2 ≤ L n ∧ L n < 2 * n ∧ 2 ≤ R n ∧ R n < 2 * n
def cs_hs (lo hi : Nat) : Nat := (lo * 31 + hi) % 128
def cs_ch (L R : Nat → Nat) (e : Nat) : Nat := if e % 2 = 0 then L (e / 2) / 2 else R (e / 2) / 2
def cs_E (I : Nat) (L R : Nat → Nat) : Nat → Nat → Nat
  | 0, _ => 0
  | e + 1, x => if 2 * (I + 1) ≤ e ∧ cs_ch L R e = x then e else cs_E I L R e x
def cs_F (I N : Nat) (L R FH FN : Nat → Nat) : Prop := (∀ x, FH x = cs_E I L R (2 * N) x) ∧ (∀ e, 2 * (I + 1) ≤ e → e < 2 * N → FN e = cs_E I L R e (cs_ch L R e))
def cs_H (I N : Nat) (L R BH BN : Nat → Nat) : Prop :=
  (∀ b, BH b = 0 ∨ (I < BH b ∧ BH b < N ∧ cs_hs (L (BH b)) (R (BH b)) = b)) ∧ (∀ n, I < n → n < N → BN n = 0 ∨ (I < BN n ∧ BN n < n ∧ cs_hs (L (BN n)) (R (BN n)) = cs_hs (L n) (R n)))
def cs_S (I : Nat) (pw : Int64) (N : Nat) (L R : Nat → Nat) (sg : Nat → Int64) : Prop := ∀ n, n < N → ∀ p, p < 64 → cs_lb (sg n) p = (cs_lb pw p && cs_gv I L R p n)
def cs_G (I : Nat) (pw : Int64) (N : Nat) (L R : Nat → Nat) (sg : Nat → Int64) (BH BN FH FN : Nat → Nat) : Prop :=
  cs_W I N L R ∧ cs_H I N L R BH BN ∧ cs_F I N L R FH FN ∧ cs_S I pw N L R sg
abbrev cs_GT : Type := Nat × (Nat → Nat) × (Nat → Nat) × (Nat → Int64) × (Nat → Nat) × (Nat → Nat) × (Nat → Nat) × (Nat → Nat)
/-- the graph has grown by at most k nodes -/
def cs_Ex (N : Nat) (L R : Nat → Nat) (N' : Nat) (L' R' : Nat → Nat) (k : Nat) : Prop := N ≤ N' ∧ N' ≤ N + k ∧ ∀ n, n < N → L n = L' n ∧ R n = R' n
theorem cs_ex_refl {N : Nat} {L R : Nat → Nat} (k : Nat) : cs_Ex N L R N L R k := ⟨Nat.le_refl N, by omega, fun _ _ => ⟨rfl, rfl⟩⟩
theorem cs_ex_trans {N N1 N2 : Nat} {L R L1 R1 L2 R2 : Nat → Nat} {k l : Nat} (h : cs_Ex N L R N1 L1 R1 k) (h' : cs_Ex N1 L1 R1 N2 L2 R2 l) : cs_Ex N L R N2 L2 R2 (k + l) :=
  ⟨Nat.le_trans h.1 h'.1, by have := h.2.1; have := h'.2.1; omega, fun n hn => by
    have a := h.2.2 n hn
    have b := h'.2.2 n (by have := h.1; omega)
    exact ⟨a.1.trans b.1, a.2.trans b.2⟩⟩
theorem cs_ex_mono {N N1 : Nat} {L R L1 R1 : Nat → Nat} {k l : Nat} (h : cs_Ex N L R N1 L1 R1 k) (hl : k ≤ l) : cs_Ex N L R N1 L1 R1 l :=
  ⟨h.1, by have := h.2.1; omega, h.2.2⟩
theorem cs_ex_gv {I N N1 p n : Nat} {L R L1 R1 : Nat → Nat} {k : Nat} (h : cs_Ex N L R N1 L1 R1 k) (hn : n < N) : cs_gv I L1 R1 p n = cs_gv I L R p n :=
  (cs_gv_congr fun j hj => h.2.2 j (by omega)).symm
theorem cs_ex_lv {I N N1 p a : Nat} {L R L1 R1 : Nat → Nat} {k : Nat} (h : cs_Ex N L R N1 L1 R1 k) (ha : a < 2 * N) : cs_lv (cs_gv I L1 R1 p) a = cs_lv (cs_gv I L R p) a :=
  cs_lv_congr (cs_ex_gv h (by omega))
theorem cs_ex_lt {N N1 a : Nat} {L R L1 R1 : Nat → Nat} {k : Nat} (h : cs_Ex N L R N1 L1 R1 k) (ha : a < 2 * N) : a < 2 * N1 := by have := h.1; omega
/-! chains of the users -/
theorem cs_E_congr {I : Nat} {L R L' R' : Nat → Nat} {e : Nat} (h : ∀ n, 2 * n < e → L n = L' n ∧ R n = R' n) (x : Nat) : cs_E I L R e x = cs_E I L' R' e x := by
  induction e with
  | zero => rfl
  | succ e ih =>
    have hc : cs_ch L R e = cs_ch L' R' e := by
      unfold cs_ch
      rw [(h (e / 2) (by omega)).1, (h (e / 2) (by omega)).2]
    show (if 2 * (I + 1) ≤ e ∧ cs_ch L R e = x then e else cs_E I L R e x) = (if 2 * (I + 1) ≤ e ∧ cs_ch L' R' e = x then e else cs_E I L' R' e x)
    rw [hc, ih fun n hn => h n (by omega)]
theorem cs_E_lt {I : Nat} {L R : Nat → Nat} (e x : Nat) : cs_E I L R e x = 0 ∨ (2 * (I + 1) ≤ cs_E I L R e x ∧ cs_E I L R e x < e ∧ cs_ch L R (cs_E I L R e x) = x) := by
  induction e with
  | zero => exact Or.inl rfl
  | succ e ih =>
    by_cases c : 2 * (I + 1) ≤ e ∧ cs_ch L R e = x
    · have h : cs_E I L R (e + 1) x = e := if_pos c
      rw [h]
      exact Or.inr ⟨c.1, by omega, c.2⟩
    · have h : cs_E I L R (e + 1) x = cs_E I L R e x := if_neg c
      rw [h]
      rcases ih with ih | ih
      · exact Or.inl ih
      · exact Or.inr ⟨ih.1, by omega, ih.2.2⟩
theorem cs_E_max {I : Nat} {L R : Nat → Nat} (e x : Nat) : ∀ d, 2 * (I + 1) ≤ d → d < e → cs_ch L R d = x → d ≤ cs_E I L R e x := by
  induction e with
  | zero => intro d _ hd; omega
  | succ e ih =>
    intro d h1 h2 h3
    by_cases c : 2 * (I + 1) ≤ e ∧ cs_ch L R e = x
    · have h : cs_E I L R (e + 1) x = e := if_pos c
      rw [h]; omega
    · have h : cs_E I L R (e + 1) x = cs_E I L R e x := if_neg c
      rw [h]
      by_cases hd : d = e
      · subst hd; exact absurd ⟨h1, h3⟩ c
      · exact ih d h1 (by omega) h3
theorem cs_E_s {I : Nat} {L R : Nat → Nat} {e x : Nat} (h : 2 * (I + 1) ≤ e) : cs_E I L R (e + 1) x = if x = cs_ch L R e then e else cs_E I L R e x := by
  show (if 2 * (I + 1) ≤ e ∧ cs_ch L R e = x then e else cs_E I L R e x) = _
  by_cases c : x = cs_ch L R e
  · rw [if_pos c, if_pos ⟨h, c.symm⟩]
  · rw [if_neg c, if_neg fun z => c z.2.symm]
/-! a new node -/
theorem cs_W_new {I N : Nat} {L R : Nat → Nat} {lo hi : Nat} (h : cs_W I N L R) (l0 : 2 ≤ lo) (l1 : lo < 2 * N) (h0 : 2 ≤ hi) (h1 : hi < 2 * N) : cs_W I (N + 1) (cs_up L N lo) (cs_up R N hi) :=
  ⟨by have := h.1; omega, fun n hn hN => by
    by_cases e : n = N
    · subst e; rw [cs_us, cs_us]; exact ⟨l0, l1, h0, h1⟩
    · rw [cs_uo e, cs_uo e]; exact h.2 n hn (by omega)⟩
theorem cs_ex_new {N lo hi : Nat} {L R : Nat → Nat} : cs_Ex N L R (N + 1) (cs_up L N lo) (cs_up R N hi) 1 :=
  ⟨by omega, Nat.le_refl _, fun n hn => by rw [cs_uo (by omega), cs_uo (by omega)]; exact ⟨rfl, rfl⟩⟩
theorem cs_H_new {I N : Nat} {L R BH BN : Nat → Nat} {lo hi : Nat} (hI : I < N) (h : cs_H I N L R BH BN) : cs_H I (N + 1) (cs_up L N lo) (cs_up R N hi) (cs_up BH (cs_hs lo hi) N) (cs_up BN N (BH (cs_hs lo hi))) := by
  constructor
  · intro b
    by_cases e : b = cs_hs lo hi
    · subst e; rw [cs_us, cs_us, cs_us]; exact Or.inr ⟨hI, by omega, rfl⟩
    · rw [cs_uo e]
      rcases h.1 b with h1 | h1
      · exact Or.inl h1
      · rw [cs_uo (show BH b ≠ N by omega), cs_uo (show BH b ≠ N by omega)]
        exact Or.inr ⟨h1.1, by omega, h1.2.2⟩
  · intro n hn hN
    by_cases e : n = N
    · subst e; rw [cs_us, cs_us, cs_us]
      rcases h.1 (cs_hs lo hi) with h1 | h1
      · exact Or.inl h1
      · rw [cs_uo (show BH (cs_hs lo hi) ≠ n by omega), cs_uo (show BH (cs_hs lo hi) ≠ n by omega)]
        exact Or.inr ⟨h1.1, h1.2.1, h1.2.2⟩
    · rw [cs_uo e, cs_uo e, cs_uo e]
      rcases h.2 n hn (by omega) with h1 | h1
      · exact Or.inl h1
      · rw [cs_uo (show BN n ≠ N by omega), cs_uo (show BN n ≠ N by omega)]
        exact Or.inr h1
theorem cs_F_new {I N : Nat} {L R FH FN : Nat → Nat} {lo hi : Nat} (hI : I < N) (h : cs_F I N L R FH FN) : cs_F I (N + 1) (cs_up L N lo) (cs_up R N hi) (cs_up (cs_up FH (lo / 2) (2 * N)) (hi / 2) (2 * N + 1)) (cs_up (cs_up FN (2 * N) (FH (lo / 2))) (2 * N + 1) (cs_up FH (lo / 2) (2 * N) (hi / 2))) := by
  have hc : ∀ e, e ≤ 2 * N → ∀ x, cs_E I (cs_up L N lo) (cs_up R N hi) e x = cs_E I L R e x := fun e he x =>
    cs_E_congr (fun n hn => by rw [cs_uo (by omega), cs_uo (by omega)]; exact ⟨rfl, rfl⟩) x
  have c0 : cs_ch (cs_up L N lo) (cs_up R N hi) (2 * N) = lo / 2 := by
    unfold cs_ch
    rw [if_pos (by omega), show 2 * N / 2 = N by omega, cs_us]
  have c1 : cs_ch (cs_up L N lo) (cs_up R N hi) (2 * N + 1) = hi / 2 := by
    unfold cs_ch
    rw [if_neg (by omega), show (2 * N + 1) / 2 = N by omega, cs_us]
  have e1 : ∀ x, cs_E I (cs_up L N lo) (cs_up R N hi) (2 * N + 1) x = cs_up FH (lo / 2) (2 * N) x := fun x => by
    rw [cs_E_s (by omega), c0, hc _ (Nat.le_refl _), cs_ue, h.1 x]
  constructor
  · intro x
    rw [show 2 * (N + 1) = 2 * N + 1 + 1 by omega, cs_E_s (by omega), c1, e1, cs_ue]
  · intro e h1 h2
    by_cases a : e = 2 * N + 1
    · subst a; rw [cs_us, c1, e1]
    · rw [cs_uo a]
      by_cases b : e = 2 * N
      · subst b; rw [cs_us, c0, hc _ (Nat.le_refl _), h.1]
      · rw [cs_uo b, hc e (by omega), h.2 e h1 (by omega)]
        congr 1
        unfold cs_ch
        rw [cs_uo (by omega), cs_uo (by omega)]
/-- the signature of a literal, as the code reckons it -/
def cs_ls (sg : Nat → Int64) (pw : Int64) (a : Nat) : Int64 := if a % 2 = 0 then sg (a / 2) else sg (a / 2) ^^^ pw
theorem cs_ls_b {I : Nat} {pw : Int64} {N : Nat} {L R : Nat → Nat} {sg : Nat → Int64} (h : cs_S I pw N L R sg) {a : Nat} (ha : a < 2 * N) {p : Nat} (hp : p < 64) : cs_lb (cs_ls sg pw a) p = (cs_lb pw p && cs_lv (cs_gv I L R p) a) := by
  unfold cs_ls cs_lv
  have e := h (a / 2) (by omega) p hp
  rcases Nat.mod_two_eq_zero_or_one a with m | m
  · rw [if_pos m, m, e]; simp
  · rw [if_neg (by omega), m, cs_lbxor, e]
    cases cs_lb pw p <;> cases cs_gv I L R p (a / 2) <;> decide
theorem cs_S_new {I : Nat} {pw : Int64} {N : Nat} {L R : Nat → Nat} {sg : Nat → Int64} {lo hi : Nat} {w : Int64} (hI : I < N) (h : cs_S I pw N L R sg) (l1 : lo < 2 * N) (h1 : hi < 2 * N) (hw : w = cs_ls sg pw lo &&& cs_ls sg pw hi) : cs_S I pw (N + 1) (cs_up L N lo) (cs_up R N hi) (cs_up sg N w) := by
  intro n hn p hp
  have X : cs_Ex N L R (N + 1) (cs_up L N lo) (cs_up R N hi) 1 := cs_ex_new
  by_cases e : n = N
  · subst e
    rw [cs_us, hw, cs_lband, cs_ls_b h l1 hp, cs_ls_b h h1 hp, cs_gv_a hI (by rw [cs_us]; omega) (by rw [cs_us]; omega), cs_us, cs_us, cs_ex_lv X l1, cs_ex_lv X h1]
    cases cs_lb pw p <;> cases cs_lv (cs_gv I L R p) lo <;> cases cs_lv (cs_gv I L R p) hi <;> decide
  · rw [cs_uo e, h n (by omega) p hp, cs_ex_gv X (by omega)]
/-! the newest node is taken away -/
theorem cs_W_cut {I N : Nat} {L R : Nat → Nat} (h : cs_W I (N + 1) L R) (hI : I < N) : cs_W I N L R := ⟨hI, fun n a b => h.2 n a (by omega)⟩
theorem cs_H_cut {I N : Nat} {L R BH BN : Nat → Nat} (hI : I < N) (h : cs_H I (N + 1) L R BH BN) : cs_H I N L R (cs_up BH (cs_hs (L N) (R N)) (BN N)) BN := by
  constructor
  · intro b
    by_cases e : b = cs_hs (L N) (R N)
    · subst e; rw [cs_us]
      exact h.2 N hI (by omega)
    · rw [cs_uo e]
      rcases h.1 b with h1 | h1
      · exact Or.inl h1
      · refine Or.inr ⟨h1.1, ?_, h1.2.2⟩
        by_cases q : BH b = N
        · exact absurd (by rw [← h1.2.2, q]) e
        · omega
  · intro n a b; exact h.2 n a (by omega)
theorem cs_F_cut {I N : Nat} {L R FH FN : Nat → Nat} (hI : I < N) (h : cs_F I (N + 1) L R FH FN) : cs_F I N L R (cs_up (cs_up FH (R N / 2) (FN (2 * N + 1))) (L N / 2) (FN (2 * N))) FN := by
  have c0 : cs_ch L R (2 * N) = L N / 2 := by
    unfold cs_ch
    rw [if_pos (by omega), show 2 * N / 2 = N by omega]
  have c1 : cs_ch L R (2 * N + 1) = R N / 2 := by
    unfold cs_ch
    rw [if_neg (by omega), show (2 * N + 1) / 2 = N by omega]
  have e1 : ∀ x, cs_up FH (R N / 2) (FN (2 * N + 1)) x = cs_E I L R (2 * N + 1) x := fun x => by
    by_cases q : x = R N / 2
    · subst q; rw [cs_us, h.2 _ (by omega) (by omega), c1]
    · rw [cs_uo q, h.1 x, show 2 * (N + 1) = 2 * N + 1 + 1 by omega, cs_E_s (by omega), c1, if_neg q]
  constructor
  · intro x
    by_cases q : x = L N / 2
    · subst q; rw [cs_us, h.2 _ (by omega) (by omega), c0]
    · rw [cs_uo q, e1 x, cs_E_s (by omega), c0, if_neg q]
  · intro e a b; exact h.2 e a (by omega)
theorem cs_S_cut {I : Nat} {pw : Int64} {N : Nat} {L R : Nat → Nat} {sg : Nat → Int64} (h : cs_S I pw (N + 1) L R sg) : cs_S I pw N L R sg := fun n hn => h n (by omega)
theorem cs_G_cut {I : Nat} {pw : Int64} {N : Nat} {L R : Nat → Nat} {sg : Nat → Int64} {BH BN FH FN : Nat → Nat} (hI : I < N) (h : cs_G I pw (N + 1) L R sg BH BN FH FN) : cs_G I pw N L R sg (cs_up BH (cs_hs (L N) (R N)) (BN N)) BN (cs_up (cs_up FH (R N / 2) (FN (2 * N + 1))) (L N / 2) (FN (2 * N))) FN :=
  ⟨cs_W_cut h.1 hI, cs_H_cut hI h.2.1, cs_F_cut hI h.2.2.1, cs_S_cut h.2.2.2⟩
end
section
section
variable {I T E N t PN : Nat} {gl ou sd sv sw sp : Int32} {pw : Int64} {GS GK OP RP L R BH BN FH FN NL NM TR LI LT : Nat → Nat} {O : Nat → Option Nat} {V : Nat → Option Bool} {C RC S lw : Nat → Bool} {sg iw : Nat → Int64} {tb : Nat → Int32}
theorem cs_x_lsig {post : Int64 → Prop} {x : Int32} (a : Nat) (hx : x = nI a) (ha : a < 512) (K : post (cs_ls sg pw a)) : wpX_literalSignature post ((nI I), gl, ou, (nI T), sd, (nI E), pw, sv, sw, sp, (nI N), (nI t), (cs_n GS), (cs_n GK), (cs_n OP), (cs_o O), (cs_n RP), (cs_b RC), (cs_n L), (cs_n R), sg, iw, (cs_n BH), (cs_n BN), (cs_n FH), (cs_n FN), (cs_n NL), (cs_n NM), (cs_v V), (cs_b C), (cs_n TR), (cs_n LI), (cs_n LT)) x := by
  subst hx
  refine And.intro (pk_in (a / 2) 256 (by omega) (cs_sh (by omega))) (nm_r (cs_rl (a / 2) (cs_sh (by omega))) ?_)
  unfold cs_ls at K
  refine pk_eq (a % 2) 0 (fun e => ?_) (fun e => ?_) (cs_and1 (by omega)) rfl (by omega) (by omega)
  · rw [if_pos e] at K; exact K
  · rw [if_neg e] at K; exact K
theorem cs_x_asig {post : Int64 → Prop} {x : Int32} (k : Nat) (hx : x = nI k) (hk : k < 256) (hl : L k < 512) (hr : R k < 512) (K : post (cs_ls sg pw (L k) &&& cs_ls sg pw (R k))) : wpX_andSignature post ((nI I), gl, ou, (nI T), sd, (nI E), pw, sv, sw, sp, (nI N), (nI t), (cs_n GS), (cs_n GK), (cs_n OP), (cs_o O), (cs_n RP), (cs_b RC), (cs_n L), (cs_n R), sg, iw, (cs_n BH), (cs_n BN), (cs_n FH), (cs_n FN), (cs_n NL), (cs_n NM), (cs_v V), (cs_b C), (cs_n TR), (cs_n LI), (cs_n LT)) x := by
  subst hx
  exact And.intro (pk_in k 256 hk) (cs_x_lsig (L k) (cs_rd k rfl) hl (And.intro (pk_in k 256 hk) (cs_x_lsig (R k) (cs_rd k rfl) hr K)))
theorem cs_S_step {k : Nat} (hW : cs_W I N L R) (hk : I < k) (hN : k < N) (h : cs_S I pw k L R sg) : cs_S I pw (k + 1) L R (cs_up sg k (cs_ls sg pw (L k) &&& cs_ls sg pw (R k))) := by
  intro n hn p hp
  obtain ⟨_, l1, _, r1⟩ := hW.2 k hk hN
  by_cases e : n = k
  · subst e
    rw [cs_us, cs_lband, cs_ls_b h l1 hp, cs_ls_b h r1 hp, cs_gv_a hk (by omega) (by omega)]
    cases cs_lb pw p <;> cases cs_lv (cs_gv I L R p) (L n) <;> cases cs_lv (cs_gv I L R p) (R n) <;> decide
  · rw [cs_uo e]; exact h n (by omega) p hp
theorem cs_x_rs47 {post : SX → Prop} (hW : cs_W I N L R) (hN : N ≤ 256) (K : ∀ sg', cs_S I pw N L R sg' → post ((nI I), gl, ou, (nI T), sd, (nI E), pw, sv, sw, sp, (nI N), (nI t), (cs_n GS), (cs_n GK), (cs_n OP), (cs_o O), (cs_n RP), (cs_b RC), (cs_n L), (cs_n R), sg', iw, (cs_n BH), (cs_n BN), (cs_n FH), (cs_n FN), (cs_n NL), (cs_n NM), (cs_v V), (cs_b C), (cs_n TR), (cs_n LI), (cs_n LT))) : ∀ d k, k + d = N → I < k → ∀ n, d < n → ∀ sg, cs_S I pw k L R sg → (wX_resimulate_47 post (nI I) gl ou (nI T) sd (nI E) pw sv sw sp (nI N) (nI t) n (nI k) (cs_n GS) (cs_n GK) (cs_n OP) (cs_o O) (cs_n RP) (cs_b RC) (cs_n L) (cs_n R) sg iw (cs_n BH) (cs_n BN) (cs_n FH) (cs_n FN) (cs_n NL) (cs_n NM) (cs_v V) (cs_b C) (cs_n TR) (cs_n LI) (cs_n LT)) := by
  intro d
  induction d with
  | zero =>
    intro k hk hI n hn sg h
    obtain ⟨m, rfl⟩ : ∃ m, n = m + 1 := ⟨n - 1, by omega⟩
    obtain rfl : k = N := by omega
    exact br_t (nI_le (Nat.le_refl _) (by omega)) (K sg h)
  | succ d ih =>
    intro k hk hI n hn sg h
    obtain ⟨m, rfl⟩ : ∃ m, n = m + 1 := ⟨n - 1, by omega⟩
    obtain ⟨_, l1, _, r1⟩ := hW.2 k hI (by omega)
    refine br_f (nI_ge (by omega) (by omega)) (cs_x_asig k rfl (by omega) (by omega) (by omega) ?_)
    refine And.intro (pk_in k 256 (by omega)) (nm_r (cs_wl k rfl rfl) (nm_r (nI_1 k) ?_))
    exact ih (k + 1) (by omega) (by omega) m (by omega) _ (cs_S_step hW hI (by omega) h)
theorem cs_x_rs9 {post : SX → Prop} (hI6 : I ≤ 6) (hW : cs_W I N L R) (hN : N ≤ 256) (hiw : ∀ i, 1 ≤ i → i ≤ I → ∀ p, p < 64 → cs_lb (iw i) p = p.testBit (i - 1)) (K : ∀ sg', cs_S I pw N L R sg' → post ((nI I), gl, ou, (nI T), sd, (nI E), pw, sv, sw, sp, (nI N), (nI t), (cs_n GS), (cs_n GK), (cs_n OP), (cs_o O), (cs_n RP), (cs_b RC), (cs_n L), (cs_n R), sg', iw, (cs_n BH), (cs_n BN), (cs_n FH), (cs_n FN), (cs_n NL), (cs_n NM), (cs_v V), (cs_b C), (cs_n TR), (cs_n LI), (cs_n LT))) : ∀ d k, k + d = I + 1 → 1 ≤ k → ∀ n, d < n → ∀ sg, cs_S I pw k L R sg → (wX_resimulate_9 post (nI I) gl ou (nI T) sd (nI E) pw sv sw sp (nI N) (nI t) n (nI k) (cs_n GS) (cs_n GK) (cs_n OP) (cs_o O) (cs_n RP) (cs_b RC) (cs_n L) (cs_n R) sg iw (cs_n BH) (cs_n BN) (cs_n FH) (cs_n FN) (cs_n NL) (cs_n NM) (cs_v V) (cs_b C) (cs_n TR) (cs_n LI) (cs_n LT)) := by
  intro d
  have hI := hW.1
  induction d with
  | zero =>
    intro k hk h1 n hn sg h
    obtain ⟨m, rfl⟩ : ∃ m, n = m + 1 := ⟨n - 1, by omega⟩
    obtain rfl : k = I + 1 := by omega
    refine br_t (nI_lt (by omega) (by omega)) (nm_r (nI_1 I) ⟨N + 1, ?_⟩)
    exact cs_x_rs47 hW hN K (N - (I + 1)) (I + 1) (by omega) (by omega) _ (by omega) sg h
  | succ d ih =>
    intro k hk h1 n hn sg h
    obtain ⟨m, rfl⟩ : ∃ m, n = m + 1 := ⟨n - 1, by omega⟩
    refine br_f (nI_nlt (by omega) (by omega)) (And.intro (pk_in k 8 (by omega)) (And.intro (pk_in k 256 (by omega)) (nm_r (cs_wl k rfl rfl) (nm_r (nI_1 k) ?_))))
    refine ih (k + 1) (by omega) (by omega) m (by omega) _ ?_
    intro j hj p hp
    by_cases e : j = k
    · subst e
      rw [cs_us, cs_lband, cs_rl (f := iw) j rfl, hiw j h1 (by omega) p hp, cs_gv_i h1 (by omega), Bool.and_comm]
    · rw [cs_uo e]; exact h j (by omega) p hp
theorem cs_x_resim {post : SX → Prop} (hI6 : I ≤ 6) (hW : cs_W I N L R) (hN : N ≤ 256) (hiw : ∀ i, 1 ≤ i → i ≤ I → ∀ p, p < 64 → cs_lb (iw i) p = p.testBit (i - 1)) (K : ∀ sg', cs_S I pw N L R sg' → post ((nI I), gl, ou, (nI T), sd, (nI E), pw, sv, sw, sp, (nI N), (nI t), (cs_n GS), (cs_n GK), (cs_n OP), (cs_o O), (cs_n RP), (cs_b RC), (cs_n L), (cs_n R), sg', iw, (cs_n BH), (cs_n BN), (cs_n FH), (cs_n FN), (cs_n NL), (cs_n NM), (cs_v V), (cs_b C), (cs_n TR), (cs_n LI), (cs_n LT))) : wpX_resimulate post ((nI I), gl, ou, (nI T), sd, (nI E), pw, sv, sw, sp, (nI N), (nI t), (cs_n GS), (cs_n GK), (cs_n OP), (cs_o O), (cs_n RP), (cs_b RC), (cs_n L), (cs_n R), sg, iw, (cs_n BH), (cs_n BN), (cs_n FH), (cs_n FN), (cs_n NL), (cs_n NM), (cs_v V), (cs_b C), (cs_n TR), (cs_n LI), (cs_n LT)) := by
  refine nm_r (e' := cs_up sg 0 0) rfl ⟨I + 2, ?_⟩
  refine cs_x_rs9 hI6 hW hN hiw K I 1 (by omega) (by omega) _ (by omega) _ ?_
  intro n hn p hp
  obtain rfl : n = 0 := by omega
  rw [cs_us, cs_lb0, cs_gv_0, Bool.and_false]
theorem cs_x_valid {post : Int32 → Prop} {x : Int32} (hT : T < 1000) (K0 : (∀ a, a < 2 * T → ¬ x = nI a) → post 0) (K1 : ∀ a, a < 2 * T → x = nI a → post 1) : wpX_isValid post ((nI I), gl, ou, (nI T), sd, (nI E), pw, sv, sw, sp, (nI N), (nI t), (cs_n GS), (cs_n GK), (cs_n OP), (cs_o O), (cs_n RP), (cs_b RC), (cs_n L), (cs_n R), sg, iw, (cs_n BH), (cs_n BN), (cs_n FH), (cs_n FN), (cs_n NL), (cs_n NM), (cs_v V), (cs_b C), (cs_n TR), (cs_n LI), (cs_n LT)) x := by
  refine br_c (fun h => K0 fun a ha e => ?_) (fun h => ?_)
  · subst e; exact nI_pos (by omega) h
  · obtain ⟨j, hj, rfl⟩ := nI_of h
    refine pk_le (2 * T) j (fun e => K0 fun a ha q => ?_) (fun e => K1 j e rfl) (cs_2m T) rfl (by omega) hj
    have := (nI_eq hj (by omega)).1 q
    omega
theorem cs_x_gate {post : Int32 → Prop} {x : Int32} (hT : T < 1000) (hI : I < 1000) (K0 : (∀ a, I < a → a < T → ¬ x = nI a) → post 0) (K1 : ∀ a, I < a → a < T → x = nI a → post 1) : wpX_isGate post ((nI I), gl, ou, (nI T), sd, (nI E), pw, sv, sw, sp, (nI N), (nI t), (cs_n GS), (cs_n GK), (cs_n OP), (cs_o O), (cs_n RP), (cs_b RC), (cs_n L), (cs_n R), sg, iw, (cs_n BH), (cs_n BN), (cs_n FH), (cs_n FN), (cs_n NL), (cs_n NM), (cs_v V), (cs_b C), (cs_n TR), (cs_n LI), (cs_n LT)) x := by
  by_cases h : x < 0
  · refine br_t (Int32.le_trans (Int32.le_of_lt h) (nI_pos' (by omega))) (K0 fun a _ ha e => ?_)
    subst e; exact nI_pos (by omega) h
  · obtain ⟨j, hj, rfl⟩ := nI_of h
    refine pk_le j I (fun e => K0 fun a h1 h2 q => ?_) (fun e => ?_) rfl rfl hj (by omega)
    · have := (nI_eq hj (by omega)).1 q
      omega
    · refine pk_le T j (fun e2 => K0 fun a h1 h2 q => ?_) (fun e2 => K1 j e e2 rfl) rfl rfl (by omega) hj
      have := (nI_eq hj (by omega)).1 q
      omega
theorem cs_x_patt {post : Int32 → Prop} {x : Int32} (hI : I ≤ 6) (K0 : (∀ a, a < 2 ^ I → ¬ x = nI a) → post 0) (K1 : ∀ a, a < 2 ^ I → x = nI a → post 1) : wpX_isPattern post ((nI I), gl, ou, (nI T), sd, (nI E), pw, sv, sw, sp, (nI N), (nI t), (cs_n GS), (cs_n GK), (cs_n OP), (cs_o O), (cs_n RP), (cs_b RC), (cs_n L), (cs_n R), sg, iw, (cs_n BH), (cs_n BN), (cs_n FH), (cs_n FN), (cs_n NL), (cs_n NM), (cs_v V), (cs_b C), (cs_n TR), (cs_n LI), (cs_n LT)) x := by
  have hp := cs_p64 hI
  refine br_c (fun h => K0 fun a ha e => ?_) (fun h => ?_)
  · subst e; exact nI_pos (by omega) h
  · obtain ⟨j, hj, rfl⟩ := nI_of h
    refine pk_le (2 ^ I) j (fun e => K0 fun a ha q => ?_) (fun e => K1 j e rfl) (cs_pn hI) rfl (by omega) hj
    have := (nI_eq hj (by omega)).1 q
    omega
/-- the graph literal of a literal of a net -/
def cs_gl (NL : Nat → Nat) (a : Nat) : Nat := cs_xp (NL (a / 2)) (a % 2)
theorem cs_x_gl {post : Int32 → Prop} {x : Int32} (a : Nat) (hx : x = nI a) (ha : a < 80) (K : post (nI (cs_gl NL a))) : wpX_graphLiteral post ((nI I), gl, ou, (nI T), sd, (nI E), pw, sv, sw, sp, (nI N), (nI t), (cs_n GS), (cs_n GK), (cs_n OP), (cs_o O), (cs_n RP), (cs_b RC), (cs_n L), (cs_n R), sg, iw, (cs_n BH), (cs_n BN), (cs_n FH), (cs_n FN), (cs_n NL), (cs_n NM), (cs_v V), (cs_b C), (cs_n TR), (cs_n LI), (cs_n LT)) x := by
  subst hx
  refine And.intro (pk_in (a / 2) 40 (by omega) (cs_sh (by omega))) ?_
  have e : (cs_n NL (nI a >>> ((1 : Int32) &&& 31)).toNatClampNeg) ^^^ (nI a &&& 1) = nI (cs_gl NL a) := by
    rw [cs_rd (a / 2) (cs_sh (by omega)), cs_and1 (by omega), cs_xph _ _ (by omega)]
    rfl
  rw [e]
  exact K
theorem cs_x_bucket {post : Int32 → Prop} {x y : Int32} (a b : Nat) (hx : x = nI a) (hy : y = nI b) (ha : a < 1000) (hb : b < 1000) (K : post (nI (cs_hs a b))) : wpX_bucketOf post ((nI I), gl, ou, (nI T), sd, (nI E), pw, sv, sw, sp, (nI N), (nI t), (cs_n GS), (cs_n GK), (cs_n OP), (cs_o O), (cs_n RP), (cs_b RC), (cs_n L), (cs_n R), sg, iw, (cs_n BH), (cs_n BN), (cs_n FH), (cs_n FN), (cs_n NL), (cs_n NM), (cs_v V), (cs_b C), (cs_n TR), (cs_n LI), (cs_n LT)) x y := by
  subst hx hy
  show post (((nI a * 31) + nI b) &&& 127)
  have e : ((nI a * 31) + nI b) &&& 127 = nI (cs_hs a b) := by
    rw [show (31 : Int32) = nI 31 from rfl, pk_mul, nI_add]
    exact pk_andN (by omega) 7 (by decide)
  rw [e]
  exact K
theorem cs_hs_lt (a b : Nat) : cs_hs a b < 128 := Nat.mod_lt _ (by decide)
theorem cs_x_lk18 {post : Int32 → Prop} {lo hi : Nat} (hW : cs_W I N L R) (hH : cs_H I N L R BH BN) (hN : N ≤ 256) (hlo : lo < 1000) (hhi : hi < 1000) (K : ∀ r, (r = 0 ∨ (I < r ∧ r < N ∧ L r = lo ∧ R r = hi)) → post (nI r)) : ∀ n k s, k < n → k + s ≤ 256 → (k = 0 ∨ (I < k ∧ k < N)) → (wX_lookup_18 post (nI lo) (nI hi) (nI I) gl ou (nI T) sd (nI E) pw sv sw sp (nI N) (nI t) (cs_n GS) (cs_n GK) (cs_n OP) (cs_o O) (cs_n RP) (cs_b RC) (cs_n L) (cs_n R) sg iw (cs_n BH) (cs_n BN) (cs_n FH) (cs_n FN) (cs_n NL) (cs_n NM) (cs_v V) (cs_b C) (cs_n TR) (cs_n LI) (cs_n LT) n (nI k) (nI s)) := by
  intro n
  induction n with
  | zero => intro k s h; omega
  | succ n ih =>
    intro k s h1 h2 h3
    refine pk_eq k 0 (fun e => K 0 (Or.inl rfl)) (fun e => ?_) rfl rfl (by omega) (by omega)
    have h4 : I < k ∧ k < N := by omega
    obtain ⟨_, l1, _, r1⟩ := hW.2 k h4.1 h4.2
    have h5 : BN k < n ∧ BN k + (s + 1) ≤ 256 ∧ (BN k = 0 ∨ (I < BN k ∧ BN k < N)) := by
      rcases hH.2 k h4.1 h4.2 with q | q
      · omega
      · omega
    have hn := ih (BN k) (s + 1) h5.1 h5.2.1 h5.2.2
    refine br_f (nI_ge (b := 256) (by omega) (by omega)) (And.intro (pk_in k 256 (by omega)) ?_)
    refine pk_eq (L k) lo (fun e1 => ?_) (fun e1 => ?_) (cs_rd k rfl) rfl (by omega) (by omega)
    · refine And.intro (pk_in k 256 (by omega)) ?_
      refine pk_eq (R k) hi (fun e2 => K k (Or.inr ⟨h4.1, h4.2, e1, e2⟩)) (fun e2 => ?_) (cs_rd k rfl) rfl (by omega) (by omega)
      exact And.intro (pk_in k 256 (by omega)) (nm_r (cs_rd k rfl) (nm_r (nI_1 s) hn))
    · exact And.intro (pk_in k 256 (by omega)) (nm_r (cs_rd k rfl) (nm_r (nI_1 s) hn))
theorem cs_x_lookup {post : Int32 → Prop} {x y : Int32} (lo hi : Nat) (hx : x = nI lo) (hy : y = nI hi) (hW : cs_W I N L R) (hH : cs_H I N L R BH BN) (hN : N ≤ 256) (hlo : lo < 1000) (hhi : hi < 1000) (K : ∀ r, (r = 0 ∨ (I < r ∧ r < N ∧ L r = lo ∧ R r = hi)) → post (nI r)) : wpX_lookup post ((nI I), gl, ou, (nI T), sd, (nI E), pw, sv, sw, sp, (nI N), (nI t), (cs_n GS), (cs_n GK), (cs_n OP), (cs_o O), (cs_n RP), (cs_b RC), (cs_n L), (cs_n R), sg, iw, (cs_n BH), (cs_n BN), (cs_n FH), (cs_n FN), (cs_n NL), (cs_n NM), (cs_v V), (cs_b C), (cs_n TR), (cs_n LI), (cs_n LT)) x y := by
  subst hx hy
  have hl := cs_hs_lt lo hi
  unfold wpX_lookup
  refine cs_x_bucket lo hi rfl rfl hlo hhi ?_
  refine And.intro (pk_in (cs_hs lo hi) 128 hl) (nm_r (cs_rd (cs_hs lo hi) rfl) ?_)
  refine ⟨257, ?_⟩
  refine cs_x_lk18 hW hH hN hlo hhi K _ (BH (cs_hs lo hi)) 0 ?_ ?_ ?_
  all_goals
    rcases hH.1 (cs_hs lo hi) with q | q
    all_goals omega
theorem cs_x_new {post : Int32 → SX → Prop} {x y : Int32} (lo hi : Nat) (hx : x = nI lo) (hy : y = nI hi) (hG : cs_G I pw N L R sg BH BN FH FN) (hN : N + 1 ≤ 256) (l0 : 2 ≤ lo) (l1 : lo < 2 * N) (h0 : 2 ≤ hi) (h1 : hi < 2 * N)
    (K : ∀ g : cs_GT, cs_G I pw g.1 g.2.1 g.2.2.1 g.2.2.2.1 g.2.2.2.2.1 g.2.2.2.2.2.1 g.2.2.2.2.2.2.1 g.2.2.2.2.2.2.2 → g.1 = N + 1 → cs_Ex N L R g.1 g.2.1 g.2.2.1 1 → (∀ p, cs_gv I g.2.1 g.2.2.1 p N = (cs_lv (cs_gv I L R p) lo && cs_lv (cs_gv I L R p) hi)) → post (nI N) ((nI I), gl, ou, (nI T), sd, (nI E), pw, sv, sw, sp, (nI g.1), (nI t), (cs_n GS), (cs_n GK), (cs_n OP), (cs_o O), (cs_n RP), (cs_b RC), (cs_n g.2.1), (cs_n g.2.2.1), g.2.2.2.1, iw, (cs_n g.2.2.2.2.1), (cs_n g.2.2.2.2.2.1), (cs_n g.2.2.2.2.2.2.1), (cs_n g.2.2.2.2.2.2.2), (cs_n NL), (cs_n NM), (cs_v V), (cs_b C), (cs_n TR), (cs_n LI), (cs_n LT))) : wpX_newNode post ((nI I), gl, ou, (nI T), sd, (nI E), pw, sv, sw, sp, (nI N), (nI t), (cs_n GS), (cs_n GK), (cs_n OP), (cs_o O), (cs_n RP), (cs_b RC), (cs_n L), (cs_n R), sg, iw, (cs_n BH), (cs_n BN), (cs_n FH), (cs_n FN), (cs_n NL), (cs_n NM), (cs_v V), (cs_b C), (cs_n TR), (cs_n LI), (cs_n LT)) x y := by
  subst hx hy
  obtain ⟨hW, hH, hF, hS⟩ := hG
  have hI := hW.1
  have hl := cs_hs_lt lo hi
  have X : cs_Ex N L R (N + 1) (cs_up L N lo) (cs_up R N hi) 1 := cs_ex_new
  have k1 := K (N + 1, cs_up L N lo, cs_up R N hi, cs_up sg N (cs_ls sg pw lo &&& cs_ls sg pw hi), cs_up BH (cs_hs lo hi) N, cs_up BN N (BH (cs_hs lo hi)), cs_up (cs_up FH (lo / 2) (2 * N)) (hi / 2) (2 * N + 1), cs_up (cs_up FN (2 * N) (FH (lo / 2))) (2 * N + 1) (cs_up FH (lo / 2) (2 * N) (hi / 2)))
    ⟨cs_W_new hW l0 l1 h0 h1, cs_H_new hI hH, cs_F_new hI hF, cs_S_new hI hS l1 h1 rfl⟩ rfl X (fun p => by
      show cs_gv I (cs_up L N lo) (cs_up R N hi) p N = _
      rw [cs_gv_a hI (by rw [cs_us]; omega) (by rw [cs_us]; omega), cs_us, cs_us, cs_ex_lv X l1, cs_ex_lv X h1])
  refine nm_r (nI_1 N) (And.intro (pk_in N 256 (by omega)) (nm_r (cs_wr N lo rfl rfl) (And.intro (pk_in N 256 (by omega)) (nm_r (cs_wr N hi rfl rfl) ?_))))
  refine cs_x_bucket lo hi rfl rfl (by omega) (by omega) ?_
  refine And.intro (pk_in (cs_hs lo hi) 128 hl) (And.intro (pk_in N 256 (by omega)) (nm_r (cs_wr N (BH (cs_hs lo hi)) rfl (cs_rd _ rfl)) ?_))
  refine And.intro (pk_in (cs_hs lo hi) 128 hl) (nm_r (cs_wr (cs_hs lo hi) N rfl rfl) ?_)
  refine And.intro (pk_in (lo / 2) 256 (by omega) (cs_sh (by omega))) (And.intro (pk_in (2 * N) 512 (by omega) (cs_2m N)) (nm_r (cs_wr (2 * N) (FH (lo / 2)) (cs_2m N) (cs_rd _ (cs_sh (by omega)))) ?_))
  refine And.intro (pk_in (lo / 2) 256 (by omega) (cs_sh (by omega))) (nm_r (cs_wr (lo / 2) (2 * N) (cs_sh (by omega)) (cs_2m N)) ?_)
  have e1 : (2 * nI N) + 1 = nI (2 * N + 1) := by rw [cs_2m, nI_1]
  refine And.intro (pk_in (hi / 2) 256 (by omega) (cs_sh (by omega))) (And.intro (pk_in (2 * N + 1) 512 (by omega) e1) (nm_r (cs_wr (2 * N + 1) (cs_up FH (lo / 2) (2 * N) (hi / 2)) e1 (cs_rd _ (cs_sh (by omega)))) ?_))
  refine And.intro (pk_in (hi / 2) 256 (by omega) (cs_sh (by omega))) (nm_r (cs_wr (hi / 2) (2 * N + 1) (cs_sh (by omega)) e1) ?_)
  have e2 : cs_up L N lo N = lo := cs_us
  have e3 : cs_up R N hi N = hi := cs_us
  refine cs_x_asig N rfl (by omega) (by rw [e2]; omega) (by rw [e3]; omega) ?_
  rw [e2, e3]
  exact And.intro (pk_in N 256 (by omega)) (nm_r (cs_wl N rfl rfl) k1)
end
end
section
section
variable {I T E N t PN : Nat} {gl ou sd sv sw sp : Int32} {pw : Int64} {GS GK OP RP L R BH BN FH FN NL NM TR LI LT : Nat → Nat} {O : Nat → Option Nat} {V : Nat → Option Bool} {C RC S lw : Nat → Bool} {sg iw : Nat → Int64} {tb : Nat → Int32}
theorem cs_xor_one {a b : Nat} (h : a ^^^ b = 1) : b = cs_fl a := by
  rw [← cs_flx, ← h, ← Nat.xor_assoc, Nat.xor_self, Nat.zero_xor]
theorem cs_x_and21 {post : Int32 → SX → Prop} (lo hi : Nat) (hG : cs_G I pw N L R sg BH BN FH FN) (hN : N + 1 ≤ 256) (hl : lo ≤ hi) (hh : hi < 2 * N)
    (K : ∀ (r : Nat) (g : cs_GT), cs_G I pw g.1 g.2.1 g.2.2.1 g.2.2.2.1 g.2.2.2.2.1 g.2.2.2.2.2.1 g.2.2.2.2.2.2.1 g.2.2.2.2.2.2.2 → cs_Ex N L R g.1 g.2.1 g.2.2.1 1 → r < 2 * g.1 → (∀ p, cs_lv (cs_gv I g.2.1 g.2.2.1 p) r = (cs_lv (cs_gv I L R p) lo && cs_lv (cs_gv I L R p) hi)) → post (nI r) ((nI I), gl, ou, (nI T), sd, (nI E), pw, sv, sw, sp, (nI g.1), (nI t), (cs_n GS), (cs_n GK), (cs_n OP), (cs_o O), (cs_n RP), (cs_b RC), (cs_n g.2.1), (cs_n g.2.2.1), g.2.2.2.1, iw, (cs_n g.2.2.2.2.1), (cs_n g.2.2.2.2.2.1), (cs_n g.2.2.2.2.2.2.1), (cs_n g.2.2.2.2.2.2.2), (cs_n NL), (cs_n NM), (cs_v V), (cs_b C), (cs_n TR), (cs_n LI), (cs_n LT))) : (wX_andOf_21 post (nI lo) (nI hi) (nI I) gl ou (nI T) sd (nI E) pw sv sw sp (nI N) (nI t) (cs_n GS) (cs_n GK) (cs_n OP) (cs_o O) (cs_n RP) (cs_b RC) (cs_n L) (cs_n R) sg iw (cs_n BH) (cs_n BN) (cs_n FH) (cs_n FN) (cs_n NL) (cs_n NM) (cs_v V) (cs_b C) (cs_n TR) (cs_n LI) (cs_n LT)) := by
  have hW := hG.1
  have hI := hW.1
  have l0 : ∀ p, cs_lv (cs_gv I L R p) 0 = false := fun p => cs_lv_even _ 0
  have l1 : ∀ p, cs_lv (cs_gv I L R p) 1 = true := fun p => cs_lv_odd _ 0
  refine pk_eq lo 0 (fun e => ?_) (fun e => ?_) rfl rfl (by omega) (by omega)
  · subst e
    exact K 0 (N, L, R, sg, BH, BN, FH, FN) hG (cs_ex_refl 1) (show 0 < 2 * N by omega) (fun p => by rw [l0]; exact l0 p)
  · have hx : lo ^^^ hi < 2 ^ 10 := Nat.xor_lt_two_pow (by omega) (by omega)
    refine pk_eq (lo ^^^ hi) 1 (fun e1 => ?_) (fun e1 => ?_) (nx_xor lo hi) rfl (by omega) (by omega)
    · have e2 := cs_xor_one e1
      exact K 0 (N, L, R, sg, BH, BN, FH, FN) hG (cs_ex_refl 1) (show 0 < 2 * N by omega) (fun p => by
        rw [e2, cs_lv_fl]
        exact (l0 p).trans (by cases cs_lv (cs_gv I L R p) lo <;> rfl))
    · refine pk_eq lo 1 (fun e2 => ?_) (fun e2 => ?_) rfl rfl (by omega) (by omega)
      · subst e2
        exact K hi (N, L, R, sg, BH, BN, FH, FN) hG (cs_ex_refl 1) (show hi < 2 * N by omega) (fun p => by rw [l1, Bool.true_and])
      · refine pk_eq lo hi (fun e3 => ?_) (fun e3 => ?_) rfl rfl (by omega) (by omega)
        · subst e3
          exact K lo (N, L, R, sg, BH, BN, FH, FN) hG (cs_ex_refl 1) (show lo < 2 * N by omega) (fun p => by rw [Bool.and_self])
        · refine cs_x_lookup lo hi rfl rfl hW hG.2.1 (by omega) (by omega) (by omega) (fun r hr => ?_)
          refine pk_eq r 0 (fun e4 => ?_) (fun e4 => ?_) rfl rfl (by omega) (by omega)
          · refine cs_x_new lo hi rfl rfl hG hN (by omega) (by omega) (by omega) hh (fun g a1 a2 a3 a4 => ?_)
            have k1 := K (2 * N) g a1 a3 (by omega) (fun p => by rw [cs_lv_even]; exact a4 p)
            show post (2 * nI N) _
            rw [cs_2m]
            exact k1
          · have h5 : I < r ∧ r < N ∧ L r = lo ∧ R r = hi := by
              rcases hr with q | q
              · exact absurd q e4
              · exact q
            have k1 := K (2 * r) (N, L, R, sg, BH, BN, FH, FN) hG (cs_ex_refl 1) (show 2 * r < 2 * N by omega) (fun p => by
              show cs_lv (cs_gv I L R p) (2 * r) = _
              rw [cs_lv_even]
              obtain ⟨_, q1, _, q2⟩ := hW.2 r h5.1 h5.2.1
              rw [cs_gv_a h5.1 (by omega) (by omega), h5.2.2.1, h5.2.2.2])
            rw [cs_2m]
            exact k1
theorem cs_x_and {post : Int32 → SX → Prop} {x y : Int32} (a b : Nat) (hx : x = nI a) (hy : y = nI b) (hG : cs_G I pw N L R sg BH BN FH FN) (hN : N + 1 ≤ 256) (ha : a < 2 * N) (hb : b < 2 * N)
    (K : ∀ (r : Nat) (g : cs_GT), cs_G I pw g.1 g.2.1 g.2.2.1 g.2.2.2.1 g.2.2.2.2.1 g.2.2.2.2.2.1 g.2.2.2.2.2.2.1 g.2.2.2.2.2.2.2 → cs_Ex N L R g.1 g.2.1 g.2.2.1 1 → r < 2 * g.1 → (∀ p, cs_lv (cs_gv I g.2.1 g.2.2.1 p) r = (cs_lv (cs_gv I L R p) a && cs_lv (cs_gv I L R p) b)) → post (nI r) ((nI I), gl, ou, (nI T), sd, (nI E), pw, sv, sw, sp, (nI g.1), (nI t), (cs_n GS), (cs_n GK), (cs_n OP), (cs_o O), (cs_n RP), (cs_b RC), (cs_n g.2.1), (cs_n g.2.2.1), g.2.2.2.1, iw, (cs_n g.2.2.2.2.1), (cs_n g.2.2.2.2.2.1), (cs_n g.2.2.2.2.2.2.1), (cs_n g.2.2.2.2.2.2.2), (cs_n NL), (cs_n NM), (cs_v V), (cs_b C), (cs_n TR), (cs_n LI), (cs_n LT))) : wpX_andOf post ((nI I), gl, ou, (nI T), sd, (nI E), pw, sv, sw, sp, (nI N), (nI t), (cs_n GS), (cs_n GK), (cs_n OP), (cs_o O), (cs_n RP), (cs_b RC), (cs_n L), (cs_n R), sg, iw, (cs_n BH), (cs_n BN), (cs_n FH), (cs_n FN), (cs_n NL), (cs_n NM), (cs_v V), (cs_b C), (cs_n TR), (cs_n LI), (cs_n LT)) x y := by
  subst hx hy
  refine pk_le b a (fun e => ?_) (fun e => ?_) rfl rfl (by omega) (by omega)
  · refine pk_le b a (fun _ => ?_) (fun e2 => by omega) rfl rfl (by omega) (by omega)
    refine cs_x_and21 b a hG hN e ha (fun r g a1 a2 a3 a4 => K r g a1 a2 a3 fun p => ?_)
    rw [a4 p, Bool.and_comm]
  · refine pk_le b a (fun e2 => by omega) (fun _ => ?_) rfl rfl (by omega) (by omega)
    exact cs_x_and21 a b hG hN (by omega) hb K
theorem cs_x_or {post : Int32 → SX → Prop} {x y : Int32} (a b : Nat) (hx : x = nI a) (hy : y = nI b) (hG : cs_G I pw N L R sg BH BN FH FN) (hN : N + 1 ≤ 256) (ha : a < 2 * N) (hb : b < 2 * N)
    (K : ∀ (r : Nat) (g : cs_GT), cs_G I pw g.1 g.2.1 g.2.2.1 g.2.2.2.1 g.2.2.2.2.1 g.2.2.2.2.2.1 g.2.2.2.2.2.2.1 g.2.2.2.2.2.2.2 → cs_Ex N L R g.1 g.2.1 g.2.2.1 1 → r < 2 * g.1 → (∀ p, cs_lv (cs_gv I g.2.1 g.2.2.1 p) r = (cs_lv (cs_gv I L R p) a || cs_lv (cs_gv I L R p) b)) → post (nI r) ((nI I), gl, ou, (nI T), sd, (nI E), pw, sv, sw, sp, (nI g.1), (nI t), (cs_n GS), (cs_n GK), (cs_n OP), (cs_o O), (cs_n RP), (cs_b RC), (cs_n g.2.1), (cs_n g.2.2.1), g.2.2.2.1, iw, (cs_n g.2.2.2.2.1), (cs_n g.2.2.2.2.2.1), (cs_n g.2.2.2.2.2.2.1), (cs_n g.2.2.2.2.2.2.2), (cs_n NL), (cs_n NM), (cs_v V), (cs_b C), (cs_n TR), (cs_n LI), (cs_n LT))) : wpX_orOf post ((nI I), gl, ou, (nI T), sd, (nI E), pw, sv, sw, sp, (nI N), (nI t), (cs_n GS), (cs_n GK), (cs_n OP), (cs_o O), (cs_n RP), (cs_b RC), (cs_n L), (cs_n R), sg, iw, (cs_n BH), (cs_n BN), (cs_n FH), (cs_n FN), (cs_n NL), (cs_n NM), (cs_v V), (cs_b C), (cs_n TR), (cs_n LI), (cs_n LT)) x y := by
  subst hx hy
  refine cs_x_and (cs_fl a) (cs_fl b) (cs_xor1 a) (cs_xor1 b) hG hN (cs_fllt ha) (cs_fllt hb) (fun r g a1 a2 a3 a4 => ?_)
  have k1 := K (cs_fl r) g a1 a2 (cs_fllt a3) (fun p => by
    rw [cs_lv_fl, a4 p, cs_lv_fl, cs_lv_fl]
    cases cs_lv (cs_gv I L R p) a <;> cases cs_lv (cs_gv I L R p) b <;> rfl)
  show post (nI r ^^^ 1) _
  rw [cs_xor1]
  exact k1
theorem cs_x_xor {post : Int32 → SX → Prop} {x y : Int32} (a b : Nat) (hx : x = nI a) (hy : y = nI b) (hG : cs_G I pw N L R sg BH BN FH FN) (hN : N + 3 ≤ 256) (ha : a < 2 * N) (hb : b < 2 * N)
    (K : ∀ (r : Nat) (g : cs_GT), cs_G I pw g.1 g.2.1 g.2.2.1 g.2.2.2.1 g.2.2.2.2.1 g.2.2.2.2.2.1 g.2.2.2.2.2.2.1 g.2.2.2.2.2.2.2 → cs_Ex N L R g.1 g.2.1 g.2.2.1 3 → r < 2 * g.1 → (∀ p, cs_lv (cs_gv I g.2.1 g.2.2.1 p) r = (cs_lv (cs_gv I L R p) a ^^ cs_lv (cs_gv I L R p) b)) → post (nI r) ((nI I), gl, ou, (nI T), sd, (nI E), pw, sv, sw, sp, (nI g.1), (nI t), (cs_n GS), (cs_n GK), (cs_n OP), (cs_o O), (cs_n RP), (cs_b RC), (cs_n g.2.1), (cs_n g.2.2.1), g.2.2.2.1, iw, (cs_n g.2.2.2.2.1), (cs_n g.2.2.2.2.2.1), (cs_n g.2.2.2.2.2.2.1), (cs_n g.2.2.2.2.2.2.2), (cs_n NL), (cs_n NM), (cs_v V), (cs_b C), (cs_n TR), (cs_n LI), (cs_n LT))) : wpX_xorOf post ((nI I), gl, ou, (nI T), sd, (nI E), pw, sv, sw, sp, (nI N), (nI t), (cs_n GS), (cs_n GK), (cs_n OP), (cs_o O), (cs_n RP), (cs_b RC), (cs_n L), (cs_n R), sg, iw, (cs_n BH), (cs_n BN), (cs_n FH), (cs_n FN), (cs_n NL), (cs_n NM), (cs_v V), (cs_b C), (cs_n TR), (cs_n LI), (cs_n LT)) x y := by
  subst hx hy
  have e0 : (nI a ^^^ nI b) &&& 1 = nI ((a + b) % 2) := by
    rw [nx_xor, cs_and1 (Nat.lt_trans (Nat.xor_lt_two_pow (n := 10) (by omega) (by omega)) (by omega)), cs_xm2]
  have pa : ∀ p, cs_lv (cs_gv I L R p) (2 * (a / 2)) = cs_gv I L R p (a / 2) := fun p => cs_lv_even _ _
  have pb : ∀ p, cs_lv (cs_gv I L R p) (2 * (b / 2)) = cs_gv I L R p (b / 2) := fun p => cs_lv_even _ _
  refine nm_r e0 (nm_r (cs_m2 (by omega)) (nm_r (cs_m2 (by omega)) ?_))
  refine cs_x_and (2 * (a / 2)) (cs_fl (2 * (b / 2))) rfl (cs_xor1 _) hG (by omega) (by omega) (cs_fllt (by omega)) (fun r1 g1 a1 a2 a3 a4 => ?_)
  have n1 := a2.2.1
  have n1' := a2.1
  refine cs_x_and (cs_fl (2 * (a / 2))) (2 * (b / 2)) (cs_xor1 _) rfl a1 (by omega) (cs_fllt (by omega)) (by omega) (fun r2 g2 b1 b2 b3 b4 => ?_)
  have n2 := b2.2.1
  have n2' := b2.1
  refine cs_x_or r1 r2 rfl rfl b1 (by omega) (by omega) b3 (fun r3 g3 c1 c2 c3 c4 => ?_)
  have k1 := K (cs_xp r3 ((a + b) % 2)) g3 c1 (cs_ex_trans (cs_ex_trans a2 b2) c2) (cs_xplt c3) (fun p => by
    rw [cs_lv_xp _ _ _ (by omega), c4 p, b4 p, cs_ex_lv b2 a3, a4 p, cs_lv_fl, cs_lv_fl, cs_ex_lv a2 (by omega), cs_ex_lv a2 (by omega), pa, pb]
    unfold cs_lv
    rcases Nat.mod_two_eq_zero_or_one a with h1 | h1 <;> rcases Nat.mod_two_eq_zero_or_one b with h2 | h2
    all_goals
      rw [Nat.add_mod, h1, h2]
      cases cs_gv I L R p (a / 2) <;> cases cs_gv I L R p (b / 2) <;> rfl)
  show post (nI r3 ^^^ nI ((a + b) % 2)) _
  rw [cs_xph _ _ (by omega)]
  exact k1
theorem cs_x_mux {post : Int32 → SX → Prop} {x y z : Int32} (a b c : Nat) (hx : x = nI a) (hy : y = nI b) (hz : z = nI c) (hG : cs_G I pw N L R sg BH BN FH FN) (hN : N + 3 ≤ 256) (ha : a < 2 * N) (hb : b < 2 * N) (hc : c < 2 * N)
    (K : ∀ (r : Nat) (g : cs_GT), cs_G I pw g.1 g.2.1 g.2.2.1 g.2.2.2.1 g.2.2.2.2.1 g.2.2.2.2.2.1 g.2.2.2.2.2.2.1 g.2.2.2.2.2.2.2 → cs_Ex N L R g.1 g.2.1 g.2.2.1 3 → r < 2 * g.1 → (∀ p, cs_lv (cs_gv I g.2.1 g.2.2.1 p) r = (if cs_lv (cs_gv I L R p) a = true then cs_lv (cs_gv I L R p) b else cs_lv (cs_gv I L R p) c)) → post (nI r) ((nI I), gl, ou, (nI T), sd, (nI E), pw, sv, sw, sp, (nI g.1), (nI t), (cs_n GS), (cs_n GK), (cs_n OP), (cs_o O), (cs_n RP), (cs_b RC), (cs_n g.2.1), (cs_n g.2.2.1), g.2.2.2.1, iw, (cs_n g.2.2.2.2.1), (cs_n g.2.2.2.2.2.1), (cs_n g.2.2.2.2.2.2.1), (cs_n g.2.2.2.2.2.2.2), (cs_n NL), (cs_n NM), (cs_v V), (cs_b C), (cs_n TR), (cs_n LI), (cs_n LT))) : wpX_muxOf post ((nI I), gl, ou, (nI T), sd, (nI E), pw, sv, sw, sp, (nI N), (nI t), (cs_n GS), (cs_n GK), (cs_n OP), (cs_o O), (cs_n RP), (cs_b RC), (cs_n L), (cs_n R), sg, iw, (cs_n BH), (cs_n BN), (cs_n FH), (cs_n FN), (cs_n NL), (cs_n NM), (cs_v V), (cs_b C), (cs_n TR), (cs_n LI), (cs_n LT)) x y z := by
  subst hx hy hz
  refine pk_eq b c (fun e => ?_) (fun e => ?_) rfl rfl (by omega) (by omega)
  · subst e
    exact K b (N, L, R, sg, BH, BN, FH, FN) hG (cs_ex_refl 3) hb (fun p => by simp)
  · refine cs_x_and a b rfl rfl hG (by omega) ha hb (fun r1 g1 a1 a2 a3 a4 => ?_)
    have n1 := a2.2.1
    have n1' := a2.1
    refine cs_x_and (cs_fl a) c (cs_xor1 _) rfl a1 (by omega) (cs_fllt (by omega)) (by omega) (fun r2 g2 b1 b2 b3 b4 => ?_)
    have n2 := b2.2.1
    have n2' := b2.1
    refine cs_x_or r1 r2 rfl rfl b1 (by omega) (by omega) b3 (fun r3 g3 c1 c2 c3 c4 => ?_)
    exact K r3 g3 c1 (cs_ex_trans (cs_ex_trans a2 b2) c2) c3 (fun p => by
      rw [c4 p, b4 p, cs_ex_lv b2 a3, a4 p, cs_lv_fl, cs_ex_lv a2 ha, cs_ex_lv a2 hc]
      cases cs_lv (cs_gv I L R p) a <;> cases cs_lv (cs_gv I L R p) b <;> cases cs_lv (cs_gv I L R p) c <;> rfl)
theorem cs_x_gf {post : Int32 → SX → Prop} {w x y z : Int32} (k a b c : Nat) (hw : w = nI k) (hx : x = nI a) (hy : y = nI b) (hz : z = nI c) (hk : k ≤ 4) (hG : cs_G I pw N L R sg BH BN FH FN) (hN : N + 6 ≤ 256) (ha : a < 2 * N) (hb : b < 2 * N) (hc : c < 2 * N)
    (K : ∀ (r : Nat) (g : cs_GT), cs_G I pw g.1 g.2.1 g.2.2.1 g.2.2.2.1 g.2.2.2.2.1 g.2.2.2.2.2.1 g.2.2.2.2.2.2.1 g.2.2.2.2.2.2.2 → cs_Ex N L R g.1 g.2.1 g.2.2.1 6 → r < 2 * g.1 → (∀ p, cs_lv (cs_gv I g.2.1 g.2.2.1 p) r = cs_gate k (cs_lv (cs_gv I L R p) a) (cs_lv (cs_gv I L R p) b) (cs_lv (cs_gv I L R p) c)) → post (nI r) ((nI I), gl, ou, (nI T), sd, (nI E), pw, sv, sw, sp, (nI g.1), (nI t), (cs_n GS), (cs_n GK), (cs_n OP), (cs_o O), (cs_n RP), (cs_b RC), (cs_n g.2.1), (cs_n g.2.2.1), g.2.2.2.1, iw, (cs_n g.2.2.2.2.1), (cs_n g.2.2.2.2.2.1), (cs_n g.2.2.2.2.2.2.1), (cs_n g.2.2.2.2.2.2.2), (cs_n NL), (cs_n NM), (cs_v V), (cs_b C), (cs_n TR), (cs_n LI), (cs_n LT))) : wpX_gateFunction post ((nI I), gl, ou, (nI T), sd, (nI E), pw, sv, sw, sp, (nI N), (nI t), (cs_n GS), (cs_n GK), (cs_n OP), (cs_o O), (cs_n RP), (cs_b RC), (cs_n L), (cs_n R), sg, iw, (cs_n BH), (cs_n BN), (cs_n FH), (cs_n FN), (cs_n NL), (cs_n NM), (cs_v V), (cs_b C), (cs_n TR), (cs_n LI), (cs_n LT)) w x y z := by
  subst hw hx hy hz
  refine pk_eq k 0 (fun e => ?_) (fun e => ?_) rfl rfl (by omega) (by omega)
  · subst e
    refine cs_x_and a b rfl rfl hG (by omega) ha hb (fun r1 g1 a1 a2 a3 a4 => ?_)
    have n1 := a2.2.1
    have n1' := a2.1
    refine cs_x_and r1 c rfl rfl a1 (by omega) a3 (by omega) (fun r2 g2 b1 b2 b3 b4 => ?_)
    exact K r2 g2 b1 (cs_ex_mono (cs_ex_trans a2 b2) (by omega)) b3 (fun p => by
      rw [b4 p, a4 p, cs_ex_lv a2 hc]; rfl)
  · refine pk_eq k 1 (fun e1 => ?_) (fun e1 => ?_) rfl rfl (by omega) (by omega)
    · subst e1
      refine cs_x_or a b rfl rfl hG (by omega) ha hb (fun r1 g1 a1 a2 a3 a4 => ?_)
      have n1 := a2.2.1
      have n1' := a2.1
      refine cs_x_or r1 c rfl rfl a1 (by omega) a3 (by omega) (fun r2 g2 b1 b2 b3 b4 => ?_)
      exact K r2 g2 b1 (cs_ex_mono (cs_ex_trans a2 b2) (by omega)) b3 (fun p => by
        rw [b4 p, a4 p, cs_ex_lv a2 hc]; rfl)
    · refine pk_eq k 2 (fun e2 => ?_) (fun e2 => ?_) rfl rfl (by omega) (by omega)
      · subst e2
        refine cs_x_xor a b rfl rfl hG (by omega) ha hb (fun r1 g1 a1 a2 a3 a4 => ?_)
        have n1 := a2.2.1
        have n1' := a2.1
        refine cs_x_xor r1 c rfl rfl a1 (by omega) a3 (by omega) (fun r2 g2 b1 b2 b3 b4 => ?_)
        exact K r2 g2 b1 (cs_ex_mono (cs_ex_trans a2 b2) (by omega)) b3 (fun p => by
          rw [b4 p, a4 p, cs_ex_lv a2 hc]
          show _ = (cs_lv (cs_gv I L R p) a ^^ cs_lv (cs_gv I L R p) b ^^ cs_lv (cs_gv I L R p) c)
          cases cs_lv (cs_gv I L R p) a <;> cases cs_lv (cs_gv I L R p) b <;> cases cs_lv (cs_gv I L R p) c <;> rfl)
      · refine pk_eq k 3 (fun e3 => ?_) (fun e3 => ?_) rfl rfl (by omega) (by omega)
        · subst e3
          refine cs_x_mux a b c rfl rfl rfl hG (by omega) ha hb hc (fun r1 g1 a1 a2 a3 a4 => ?_)
          exact K r1 g1 a1 (cs_ex_mono a2 (by omega)) a3 (fun p => by rw [a4 p]; rfl)
        · obtain rfl : k = 4 := by omega
          refine cs_x_and a b rfl rfl hG (by omega) ha hb (fun r1 g1 a1 a2 a3 a4 => ?_)
          have n1 := a2.2.1
          have n1' := a2.1
          refine cs_x_or a b rfl rfl a1 (by omega) (by omega) (by omega) (fun r2 g2 b1 b2 b3 b4 => ?_)
          have n2 := b2.2.1
          have n2' := b2.1
          refine cs_x_and c r2 rfl rfl b1 (by omega) (by omega) b3 (fun r3 g3 c1 c2 c3 c4 => ?_)
          have n3 := c2.2.1
          have n3' := c2.1
          refine cs_x_or r1 r3 rfl rfl c1 (by omega) (by omega) c3 (fun r4 g4 d1 d2 d3 d4 => ?_)
          exact K r4 g4 d1 (cs_ex_mono (cs_ex_trans (cs_ex_trans (cs_ex_trans a2 b2) c2) d2) (by omega)) d3 (fun p => by
            rw [d4 p, c4 p, cs_ex_lv c2 (by omega), cs_ex_lv b2 a3, a4 p, b4 p, cs_ex_lv b2 (cs_ex_lt a2 hc), cs_ex_lv a2 hc, cs_ex_lv a2 ha, cs_ex_lv a2 hb]
            rfl)
/-! nets -/
def cs_CW (I T : Nat) (GK OP : Nat → Nat) : Prop := ∀ n, I < n → n < T → GK n ≤ 4 ∧ OP (3 * n) < 2 * n ∧ OP (3 * n + 1) < 2 * n ∧ OP (3 * n + 2) < 2 * n
def cs_NI (I : Nat) (GK OP : Nat → Nat) (T N : Nat) (L R NL NM : Nat → Nat) : Prop :=
  (∀ n, n ≤ I → NL n = 2 * n) ∧ N ≤ I + 1 + 6 * (T - (I + 1)) ∧ (I < T ∧ T ≤ 39 ∧ I ≤ 6) ∧
  (∀ n, n < T → NL n < 2 * N ∧ ∀ p, cs_lv (cs_gv I L R p) (NL n) = cs_ev I GK OP p n) ∧
  (∀ v, I < v → v < T → I < NM v ∧ NM v ≤ N ∧ NM v ≤ I + 1 + 6 * (v - (I + 1)) ∧ ∀ n, n < v → NL n < 2 * NM v) ∧
  (∀ v w, I < v → v ≤ w → w < T → NM v ≤ NM w)
theorem cs_lv_gl {h : Nat → Bool} {a : Nat} : cs_lv h (cs_gl NL a) = (cs_lv h (NL (a / 2)) ^^ decide (a % 2 = 1)) := by
  unfold cs_gl
  exact cs_lv_xp _ _ _ (by omega)
theorem cs_NI_gl {a : Nat} (h : cs_NI I GK OP T N L R NL NM) (ha : a < 2 * T) : cs_gl NL a < 2 * N ∧ ∀ p, cs_lv (cs_gv I L R p) (cs_gl NL a) = cs_lv (cs_ev I GK OP p) a := by
  have q := h.2.2.2.1 (a / 2) (by omega)
  refine ⟨cs_xplt q.1, fun p => ?_⟩
  rw [cs_lv_gl, q.2 p]; rfl
theorem cs_NI_step {r N' : Nat} {L' R' : Nat → Nat} (hI : I < N) (h : cs_NI I GK OP T N L R NL NM) (hT : T < 39) (hX : cs_Ex N L R N' L' R' 6) (hr : r < 2 * N') (hv : ∀ p, cs_lv (cs_gv I L' R' p) r = cs_ev I GK OP p T) : cs_NI I GK OP (T + 1) N' L' R' (cs_up NL T r) (cs_up NM T N) := by
  obtain ⟨h1, h2, h3, h4, h5, h6⟩ := h
  have x1 := hX.1
  have x2 := hX.2.1
  refine ⟨fun n hn => ?_, by omega, by omega, fun n hn => ?_, fun v hv1 hv2 => ?_, fun v w a b c => ?_⟩
  · rw [cs_uo (by omega)]; exact h1 n hn
  · by_cases e : n = T
    · subst e; rw [cs_us]; exact ⟨hr, hv⟩
    · rw [cs_uo e]
      have q := h4 n (by omega)
      exact ⟨by omega, fun p => by rw [cs_ex_lv hX q.1]; exact q.2 p⟩
  · by_cases e : v = T
    · subst e; rw [cs_us]
      exact ⟨hI, x1, h2, fun n hn => by rw [cs_uo (by omega)]; exact (h4 n hn).1⟩
    · rw [cs_uo e]
      have q := h5 v hv1 (by omega)
      exact ⟨q.1, by omega, q.2.2.1, fun n hn => by rw [cs_uo (by omega)]; exact q.2.2.2 n hn⟩
  · by_cases e : w = T
    · subst e; rw [cs_us]
      by_cases e2 : v = w
      · subst e2; rw [cs_us]; exact Nat.le_refl _
      · rw [cs_uo e2]; exact (h5 v a (by omega)).2.1
    · rw [cs_uo e, cs_uo (show v ≠ T by omega)]; exact h6 v w a b (by omega)
theorem cs_x_build {post : SX → Prop} {x : Int32} (v : Nat) (hx : x = nI v) (hG : cs_G I pw N L R sg BH BN FH FN) (hC : cs_CW I (v + 1) GK OP) (hI : I < v) (hv : v < 39) (hNI : cs_NI I GK OP v N L R NL NM)
    (K : ∀ (g : cs_GT) (NL' NM' : Nat → Nat), cs_G I pw g.1 g.2.1 g.2.2.1 g.2.2.2.1 g.2.2.2.2.1 g.2.2.2.2.2.1 g.2.2.2.2.2.2.1 g.2.2.2.2.2.2.2 → cs_NI I GK OP (v + 1) g.1 g.2.1 g.2.2.1 NL' NM' → (∀ n, n < v → NL' n = NL n) → post ((nI I), gl, ou, (nI T), sd, (nI E), pw, sv, sw, sp, (nI g.1), (nI t), (cs_n GS), (cs_n GK), (cs_n OP), (cs_o O), (cs_n RP), (cs_b RC), (cs_n g.2.1), (cs_n g.2.2.1), g.2.2.2.1, iw, (cs_n g.2.2.2.2.1), (cs_n g.2.2.2.2.2.1), (cs_n g.2.2.2.2.2.2.1), (cs_n g.2.2.2.2.2.2.2), (cs_n NL'), (cs_n NM'), (cs_v V), (cs_b C), (cs_n TR), (cs_n LI), (cs_n LT))) : wpX_buildGate post ((nI I), gl, ou, (nI T), sd, (nI E), pw, sv, sw, sp, (nI N), (nI t), (cs_n GS), (cs_n GK), (cs_n OP), (cs_o O), (cs_n RP), (cs_b RC), (cs_n L), (cs_n R), sg, iw, (cs_n BH), (cs_n BN), (cs_n FH), (cs_n FN), (cs_n NL), (cs_n NM), (cs_v V), (cs_b C), (cs_n TR), (cs_n LI), (cs_n LT)) x := by
  subst hx
  obtain ⟨c0, c1, c2, c3⟩ := hC v hI (by omega)
  have h2 := hNI.2.1
  have h3 := hNI.2.2.1
  obtain ⟨p1, q1⟩ := cs_NI_gl hNI c1
  obtain ⟨p2, q2⟩ := cs_NI_gl hNI c2
  obtain ⟨p3, q3⟩ := cs_NI_gl hNI c3
  have e1 : (3 * nI v) + 1 = nI (3 * v + 1) := by rw [cs_3m, nI_1]
  have e2 : (3 * nI v) + 2 = nI (3 * v + 2) := by rw [cs_3m, cs_a2]
  refine And.intro (pk_in v 40 (by omega)) (nm_r (cs_wr v N rfl rfl) ?_)
  refine And.intro (pk_in (3 * v) 120 (by omega) (cs_3m v)) (cs_x_gl (OP (3 * v)) (cs_rd _ (cs_3m v)) (by omega) ?_)
  refine And.intro (pk_in (3 * v + 1) 120 (by omega) e1) (cs_x_gl (OP (3 * v + 1)) (cs_rd _ e1) (by omega) ?_)
  refine And.intro (pk_in (3 * v + 2) 120 (by omega) e2) (cs_x_gl (OP (3 * v + 2)) (cs_rd _ e2) (by omega) ?_)
  refine And.intro (pk_in v 40 (by omega)) (cs_x_gf (GK v) _ _ _ (cs_rd v rfl) rfl rfl rfl c0 hG (by omega) p1 p2 p3 (fun r g a1 a2 a3 a4 => ?_))
  refine And.intro (pk_in v 40 (by omega)) (nm_r (cs_wr v r rfl rfl) ?_)
  refine K g _ _ a1 (cs_NI_step hG.1.1 hNI (by omega) a2 a3 fun p => ?_) (fun n hn => cs_uo (by omega))
  rw [a4 p, q1 p, q2 p, q3 p, cs_ev_g hI (by omega) (by omega) (by omega)]
theorem cs_CW_mono {T' : Nat} (h : cs_CW I T GK OP) (hT : T' ≤ T) : cs_CW I T' GK OP := fun n a b => h n a (by omega)
theorem cs_x_bf2 {post : SX → Prop} (hC : cs_CW I T GK OP) (hT : T ≤ 39)
    (K : ∀ (g : cs_GT) (NL' NM' : Nat → Nat), cs_G I pw g.1 g.2.1 g.2.2.1 g.2.2.2.1 g.2.2.2.2.1 g.2.2.2.2.2.1 g.2.2.2.2.2.2.1 g.2.2.2.2.2.2.2 → cs_NI I GK OP T g.1 g.2.1 g.2.2.1 NL' NM' → post ((nI I), gl, ou, (nI T), sd, (nI E), pw, sv, sw, sp, (nI g.1), (nI t), (cs_n GS), (cs_n GK), (cs_n OP), (cs_o O), (cs_n RP), (cs_b RC), (cs_n g.2.1), (cs_n g.2.2.1), g.2.2.2.1, iw, (cs_n g.2.2.2.2.1), (cs_n g.2.2.2.2.2.1), (cs_n g.2.2.2.2.2.2.1), (cs_n g.2.2.2.2.2.2.2), (cs_n NL'), (cs_n NM'), (cs_v V), (cs_b C), (cs_n TR), (cs_n LI), (cs_n LT))) :
    ∀ d v, v + d = T → I < v → ∀ n, d < n → ∀ (g : cs_GT) (NL NM : Nat → Nat), cs_G I pw g.1 g.2.1 g.2.2.1 g.2.2.2.1 g.2.2.2.2.1 g.2.2.2.2.2.1 g.2.2.2.2.2.2.1 g.2.2.2.2.2.2.2 → cs_NI I GK OP v g.1 g.2.1 g.2.2.1 NL NM → (wX_buildFrom_2 post n (nI v) (nI I) gl ou (nI T) sd (nI E) pw sv sw sp (nI g.1) (nI t) (cs_n GS) (cs_n GK) (cs_n OP) (cs_o O) (cs_n RP) (cs_b RC) (cs_n g.2.1) (cs_n g.2.2.1) g.2.2.2.1 iw (cs_n g.2.2.2.2.1) (cs_n g.2.2.2.2.2.1) (cs_n g.2.2.2.2.2.2.1) (cs_n g.2.2.2.2.2.2.2) (cs_n NL) (cs_n NM) (cs_v V) (cs_b C) (cs_n TR) (cs_n LI) (cs_n LT)) := by
  intro d
  induction d with
  | zero =>
    intro v hv hI n hn g NL NM hG hNI
    obtain ⟨m, rfl⟩ : ∃ m, n = m + 1 := ⟨n - 1, by omega⟩
    obtain rfl : v = T := by omega
    exact br_t (nI_le (Nat.le_refl _) (by omega)) (K g NL NM hG hNI)
  | succ d ih =>
    intro v hv hI n hn g NL NM hG hNI
    obtain ⟨m, rfl⟩ : ∃ m, n = m + 1 := ⟨n - 1, by omega⟩
    refine br_f (nI_ge (by omega) (by omega)) (cs_x_build v rfl hG (cs_CW_mono hC (by omega)) hI (by omega) hNI (fun g' NL' NM' a1 a2 _ => ?_))
    exact nm_r (nI_1 v) (ih (v + 1) (by omega) (by omega) m (by omega) g' NL' NM' a1 a2)
theorem cs_x_bf {post : SX → Prop} {x : Int32} (v : Nat) (hx : x = nI v) (hC : cs_CW I T GK OP) (hT : T ≤ 39) (hI : I < v) (hv : v ≤ T) (hG : cs_G I pw N L R sg BH BN FH FN) (hNI : cs_NI I GK OP v N L R NL NM)
    (K : ∀ (g : cs_GT) (NL' NM' : Nat → Nat), cs_G I pw g.1 g.2.1 g.2.2.1 g.2.2.2.1 g.2.2.2.2.1 g.2.2.2.2.2.1 g.2.2.2.2.2.2.1 g.2.2.2.2.2.2.2 → cs_NI I GK OP T g.1 g.2.1 g.2.2.1 NL' NM' → post ((nI I), gl, ou, (nI T), sd, (nI E), pw, sv, sw, sp, (nI g.1), (nI t), (cs_n GS), (cs_n GK), (cs_n OP), (cs_o O), (cs_n RP), (cs_b RC), (cs_n g.2.1), (cs_n g.2.2.1), g.2.2.2.1, iw, (cs_n g.2.2.2.2.1), (cs_n g.2.2.2.2.2.1), (cs_n g.2.2.2.2.2.2.1), (cs_n g.2.2.2.2.2.2.2), (cs_n NL'), (cs_n NM'), (cs_v V), (cs_b C), (cs_n TR), (cs_n LI), (cs_n LT))) : wpX_buildFrom post ((nI I), gl, ou, (nI T), sd, (nI E), pw, sv, sw, sp, (nI N), (nI t), (cs_n GS), (cs_n GK), (cs_n OP), (cs_o O), (cs_n RP), (cs_b RC), (cs_n L), (cs_n R), sg, iw, (cs_n BH), (cs_n BN), (cs_n FH), (cs_n FN), (cs_n NL), (cs_n NM), (cs_v V), (cs_b C), (cs_n TR), (cs_n LI), (cs_n LT)) x := by
  subst hx
  refine ⟨T + 1, ?_⟩
  exact cs_x_bf2 hC hT K (T - v) v (by omega) hI _ (by omega) (N, L, R, sg, BH, BN, FH, FN) NL NM hG hNI
/-! cutting the graph back -/
theorem cs_x_tr7 {post : SX → Prop} (k : Nat) (hI : I < k) (K : ∀ BH' FH', cs_G I pw k L R sg BH' BN FH' FN → post ((nI I), gl, ou, (nI T), sd, (nI E), pw, sv, sw, sp, (nI k), (nI t), (cs_n GS), (cs_n GK), (cs_n OP), (cs_o O), (cs_n RP), (cs_b RC), (cs_n L), (cs_n R), sg, iw, (cs_n BH'), (cs_n BN), (cs_n FH'), (cs_n FN), (cs_n NL), (cs_n NM), (cs_v V), (cs_b C), (cs_n TR), (cs_n LI), (cs_n LT))) :
    ∀ d N, k + d = N → N ≤ 256 → ∀ n, d < n → ∀ BH FH, cs_G I pw N L R sg BH BN FH FN → (wX_truncate_7 post (nI k) (nI I) gl ou (nI T) sd (nI E) pw sv sw sp (nI t) n (nI (N - 1)) (nI N) (cs_n GS) (cs_n GK) (cs_n OP) (cs_o O) (cs_n RP) (cs_b RC) (cs_n L) (cs_n R) sg iw (cs_n BH) (cs_n BN) (cs_n FH) (cs_n FN) (cs_n NL) (cs_n NM) (cs_v V) (cs_b C) (cs_n TR) (cs_n LI) (cs_n LT)) := by
  intro d
  induction d with
  | zero =>
    intro N hN hN2 n hn BH FH hG
    obtain ⟨m, rfl⟩ : ∃ m, n = m + 1 := ⟨n - 1, by omega⟩
    obtain rfl : k = N := by omega
    exact br_t (nI_lt (by omega) (by omega)) (K BH FH hG)
  | succ d ih =>
    intro N hN hN2 n hn BH FH hG
    obtain ⟨m, rfl⟩ : ∃ m, n = m + 1 := ⟨n - 1, by omega⟩
    obtain ⟨M, rfl⟩ : ∃ M, N = M + 1 := ⟨N - 1, by omega⟩
    have hcut := cs_G_cut (by omega) hG
    obtain ⟨_, l1, _, r1⟩ := hG.1.2 M (by omega) (by omega)
    have hl := cs_hs_lt (L M) (R M)
    have e1 : (2 * nI M) + 1 = nI (2 * M + 1) := by rw [cs_2m, nI_1]
    rw [Nat.add_sub_cancel]
    refine br_f (nI_nlt (by omega) (by omega)) ?_
    refine And.intro (pk_in M 256 (by omega)) (nm_r (cs_rd M rfl) (And.intro (pk_in M 256 (by omega)) (nm_r (cs_rd M rfl) ?_)))
    refine cs_x_bucket (L M) (R M) rfl rfl (by omega) (by omega) ?_
    refine And.intro (pk_in M 256 (by omega)) (And.intro (pk_in (cs_hs (L M) (R M)) 128 hl) (nm_r (cs_wr _ (BN M) rfl (cs_rd M rfl)) ?_))
    refine And.intro (pk_in (2 * M + 1) 512 (by omega) e1) (And.intro (pk_in (R M / 2) 256 (by omega) (cs_sh (by omega))) (nm_r (cs_wr (R M / 2) (FN (2 * M + 1)) (cs_sh (by omega)) (cs_rd _ e1)) ?_))
    refine And.intro (pk_in (2 * M) 512 (by omega) (cs_2m M)) (And.intro (pk_in (L M / 2) 256 (by omega) (cs_sh (by omega))) (nm_r (cs_wr (L M / 2) (FN (2 * M)) (cs_sh (by omega)) (cs_rd _ (cs_2m M))) ?_))
    exact nm_r (cs_m1 (by omega)) (ih M (by omega) (by omega) m (by omega) _ _ hcut)
theorem cs_x_tr {post : SX → Prop} {x : Int32} (k : Nat) (hx : x = nI k) (hI : I < k) (hk : k ≤ N) (hN : N ≤ 256) (hG : cs_G I pw N L R sg BH BN FH FN) (K : ∀ BH' FH', cs_G I pw k L R sg BH' BN FH' FN → post ((nI I), gl, ou, (nI T), sd, (nI E), pw, sv, sw, sp, (nI k), (nI t), (cs_n GS), (cs_n GK), (cs_n OP), (cs_o O), (cs_n RP), (cs_b RC), (cs_n L), (cs_n R), sg, iw, (cs_n BH'), (cs_n BN), (cs_n FH'), (cs_n FN), (cs_n NL), (cs_n NM), (cs_v V), (cs_b C), (cs_n TR), (cs_n LI), (cs_n LT))) : wpX_truncate post ((nI I), gl, ou, (nI T), sd, (nI E), pw, sv, sw, sp, (nI N), (nI t), (cs_n GS), (cs_n GK), (cs_n OP), (cs_o O), (cs_n RP), (cs_b RC), (cs_n L), (cs_n R), sg, iw, (cs_n BH), (cs_n BN), (cs_n FH), (cs_n FN), (cs_n NL), (cs_n NM), (cs_v V), (cs_b C), (cs_n TR), (cs_n LI), (cs_n LT)) x := by
  subst hx
  refine nm_r (cs_s1 (by omega)) ⟨N + 1, ?_⟩
  exact cs_x_tr7 k hI K (N - k) N (by omega) hN _ (by omega) BH FH hG
theorem cs_NI_cut {v : Nat} (h : cs_NI I GK OP T N L R NL NM) (hI : I < v) (hv : v < T) : cs_NI I GK OP v (NM v) L R NL NM := by
  obtain ⟨h1, h2, h3, h4, h5, h6⟩ := h
  have q := h5 v hI hv
  exact ⟨h1, q.2.2.1, by omega, fun n hn => ⟨q.2.2.2 n hn, (h4 n (by omega)).2⟩, fun w a b => by
    have z := h5 w a (by omega)
    exact ⟨z.1, h6 w v a (by omega) hv, z.2.2⟩, fun a b c d e => h6 a b c d (by omega)⟩
end
end
section
/-! the search, in plain terms: values, trail, what is implied -/
def cs_lo (V : Nat → Option Bool) (a : Nat) : Option Bool := if a % 2 = 0 then V (a / 2) else (V (a / 2)).map not
theorem cs_lo_none {V : Nat → Option Bool} {a : Nat} : cs_lo V a = none ↔ V (a / 2) = none := by
  unfold cs_lo
  split
  · exact Iff.rfl
  · cases V (a / 2) <;> simp
theorem cs_lo_congr {V V' : Nat → Option Bool} {a : Nat} (h : V (a / 2) = V' (a / 2)) : cs_lo V a = cs_lo V' a := by
  unfold cs_lo; rw [h]
theorem cs_lo_some {V : Nat → Option Bool} {a : Nat} {h : Nat → Bool} (e : V (a / 2) = some (h (a / 2))) : cs_lo V a = some (cs_lv h a) := by
  unfold cs_lo cs_lv
  rcases Nat.mod_two_eq_zero_or_one a with m | m
  · rw [if_pos m, e, m]; simp
  · rw [if_neg (by omega), e, m]; simp
theorem cs_lo_inv {V : Nat → Option Bool} {a : Nat} {b : Bool} (e : cs_lo V a = some b) : V (a / 2) = some (b ^^ decide (a % 2 = 1)) := by
  unfold cs_lo at e
  rcases Nat.mod_two_eq_zero_or_one a with m | m
  · rw [if_pos m] at e; rw [e, m]; simp
  · rw [if_neg (by omega)] at e
    rw [m]
    cases q : V (a / 2) with
    | none => rw [q] at e; exact absurd e (by simp)
    | some c => rw [q] at e; cases c <;> cases b <;> simp_all
theorem cs_lo_even {V : Nat → Option Bool} (n : Nat) : cs_lo V (2 * n) = V n := by
  unfold cs_lo; rw [if_pos (by omega), show 2 * n / 2 = n by omega]
theorem cs_lo_odd {V : Nat → Option Bool} (n : Nat) : cs_lo V (2 * n + 1) = (V n).map not := by
  unfold cs_lo; rw [if_neg (by omega), show (2 * n + 1) / 2 = n by omega]
theorem cs_lo_fl {V : Nat → Option Bool} (a : Nat) : cs_lo V (cs_fl a) = (cs_lo V a).map not := by
  unfold cs_lo
  rw [cs_fl2, cs_flm]
  rcases Nat.mod_two_eq_zero_or_one a with m | m
  · rw [m]; simp
  · rw [m]; cases V (a / 2) <;> simp
/-- how many values are set -/
def cs_cnt (V : Nat → Option Bool) : Nat → Nat
  | 0 => 0
  | n + 1 => cs_cnt V n + (if V n = none then 0 else 1)
theorem cs_cnt_le (V : Nat → Option Bool) (N : Nat) : cs_cnt V N ≤ N := by
  induction N with
  | zero => exact Nat.le_refl 0
  | succ n ih => show cs_cnt V n + _ ≤ n + 1; split <;> omega
theorem cs_cnt_congr {V V' : Nat → Option Bool} {N : Nat} (h : ∀ n, n < N → V n = V' n) : cs_cnt V N = cs_cnt V' N := by
  induction N with
  | zero => rfl
  | succ n ih =>
    show cs_cnt V n + _ = cs_cnt V' n + _
    rw [ih fun j hj => h j (by omega), h n (by omega)]
theorem cs_cnt_set {V : Nat → Option Bool} {n : Nat} {b : Bool} (h : V n = none) : ∀ N, n < N → cs_cnt (cs_up V n (some b)) N = cs_cnt V N + 1 := by
  intro N
  induction N with
  | zero => intro h; omega
  | succ m ih =>
    intro hm
    show cs_cnt (cs_up V n (some b)) m + _ = cs_cnt V m + _ + 1
    by_cases e : n = m
    · subst e
      rw [cs_us, h, cs_cnt_congr (V' := V) fun j hj => cs_uo (by omega)]
      simp
    · rw [ih (by omega), cs_uo (fun z => e z.symm)]
      omega
theorem cs_cnt_clr {V : Nat → Option Bool} {n : Nat} (h : V n ≠ none) : ∀ N, n < N → cs_cnt (cs_up V n none) N + 1 = cs_cnt V N := by
  intro N
  induction N with
  | zero => intro h; omega
  | succ m ih =>
    intro hm
    show cs_cnt (cs_up V n none) m + _ + 1 = cs_cnt V m + _
    by_cases e : n = m
    · subst e
      rw [cs_us, cs_cnt_congr (V' := V) fun j hj => cs_uo (by omega), if_neg h]
      simp
    · have := ih (by omega)
      rw [cs_uo (fun z => e z.symm)]
      omega
/-- the trail holds the set nodes once each -/
def cs_TI (N : Nat) (C : Nat → Bool) (V : Nat → Option Bool) (TR : Nat → Nat) (t : Nat) : Prop :=
  cs_cnt V N = t ∧ (∀ i, i < t → TR i < N ∧ C (TR i) = true ∧ V (TR i) ≠ none) ∧ (∀ n, n < N → V n ≠ none → ∃ i, i < t ∧ TR i = n) ∧ (∀ i j, i < t → j < t → TR i = TR j → i = j)
theorem cs_TI_le {N : Nat} {C : Nat → Bool} {V : Nat → Option Bool} {TR : Nat → Nat} {t : Nat} (h : cs_TI N C V TR t) : t ≤ N := by
  rw [← h.1]; exact cs_cnt_le V N
theorem cs_TI_lt {N : Nat} {C : Nat → Bool} {V : Nat → Option Bool} {TR : Nat → Nat} {t n : Nat} (h : cs_TI N C V TR t) (hn : n < N) (hv : V n = none) : t < N := by
  have := cs_cnt_set (b := true) hv N hn
  have := cs_cnt_le (cs_up V n (some true)) N
  have := h.1
  omega
theorem cs_TI_push {N : Nat} {C : Nat → Bool} {V : Nat → Option Bool} {TR : Nat → Nat} {t n : Nat} {b : Bool} (h : cs_TI N C V TR t) (hn : n < N) (hc : C n = true) (hv : V n = none) : cs_TI N C (cs_up V n (some b)) (cs_up TR t n) (t + 1) := by
  obtain ⟨h1, h2, h3, h4⟩ := h
  have hno : ∀ i, i < t → TR i ≠ n := fun i hi e => (h2 i hi).2.2 (by rw [e]; exact hv)
  refine ⟨?_, fun i hi => ?_, fun m hm hm2 => ?_, fun i j hi hj e => ?_⟩
  · rw [cs_cnt_set hv N hn, h1]
  · by_cases e : i = t
    · subst e; rw [cs_us, cs_us]; exact ⟨hn, hc, by simp⟩
    · rw [cs_uo e]
      have q := h2 i (by omega)
      exact ⟨q.1, q.2.1, by rw [cs_uo (hno i (by omega))]; exact q.2.2⟩
  · by_cases e : m = n
    · subst e; exact ⟨t, by omega, cs_us⟩
    · rw [cs_uo e] at hm2
      obtain ⟨i, hi, q⟩ := h3 m hm hm2
      exact ⟨i, by omega, by rw [cs_uo (by omega)]; exact q⟩
  · by_cases e1 : i = t
    · by_cases e2 : j = t
      · omega
      · subst e1; rw [cs_us, cs_uo e2] at e
        exact absurd e.symm (hno j (by omega))
    · by_cases e2 : j = t
      · subst e2; rw [cs_us, cs_uo e1] at e
        exact absurd e (hno i (by omega))
      · rw [cs_uo e1, cs_uo e2] at e
        exact h4 i j (by omega) (by omega) e
theorem cs_TI_pop {N : Nat} {C : Nat → Bool} {V : Nat → Option Bool} {TR : Nat → Nat} {t : Nat} (h : cs_TI N C V TR (t + 1)) : cs_TI N C (cs_up V (TR t) none) TR t := by
  obtain ⟨h1, h2, h3, h4⟩ := h
  have q := h2 t (by omega)
  refine ⟨?_, fun i hi => ?_, fun m hm hm2 => ?_, fun i j hi hj e => h4 i j (by omega) (by omega) e⟩
  · have := cs_cnt_clr q.2.2 N q.1
    omega
  · have z := h2 i (by omega)
    refine ⟨z.1, z.2.1, ?_⟩
    rw [cs_uo fun e => by have := h4 i t (by omega) (by omega) e; omega]
    exact z.2.2
  · by_cases e : m = TR t
    · subst e; rw [cs_us] at hm2; exact absurd rfl hm2
    · rw [cs_uo e] at hm2
      obtain ⟨i, hi, z⟩ := h3 m hm hm2
      refine ⟨i, ?_, z⟩
      by_cases e2 : i = t
      · subst e2; exact absurd z.symm e
      · omega
/-- values and trail have grown -/
def cs_ZE (N : Nat) (V : Nat → Option Bool) (TR : Nat → Nat) (t : Nat) (V' : Nat → Option Bool) (TR' : Nat → Nat) (t' : Nat) : Prop :=
  t ≤ t' ∧ (∀ i, i < t → TR' i = TR i) ∧ (∀ n, n < N → V n ≠ none → V' n = V n) ∧ (∀ n, n < N → V n = none → V' n ≠ none → ∃ i, t ≤ i ∧ i < t' ∧ TR' i = n)
theorem cs_ZE_refl {N : Nat} {V : Nat → Option Bool} {TR : Nat → Nat} {t : Nat} : cs_ZE N V TR t V TR t :=
  ⟨Nat.le_refl t, fun _ _ => rfl, fun _ _ _ => rfl, fun _ _ h h' => absurd h h'⟩
theorem cs_ZE_trans {N : Nat} {V V1 V2 : Nat → Option Bool} {TR TR1 TR2 : Nat → Nat} {t t1 t2 : Nat} (h : cs_ZE N V TR t V1 TR1 t1) (k : cs_ZE N V1 TR1 t1 V2 TR2 t2) : cs_ZE N V TR t V2 TR2 t2 := by
  obtain ⟨a1, a2, a3, a4⟩ := h
  obtain ⟨b1, b2, b3, b4⟩ := k
  refine ⟨by omega, fun i hi => (b2 i (by omega)).trans (a2 i hi), fun n hn hv => ?_, fun n hn hv hv2 => ?_⟩
  · have e := a3 n hn hv
    rw [b3 n hn (by rw [e]; exact hv), e]
  · by_cases q : V1 n = none
    · obtain ⟨i, z1, z2, z3⟩ := b4 n hn q hv2
      exact ⟨i, by omega, z2, z3⟩
    · obtain ⟨i, z1, z2, z3⟩ := a4 n hn hv q
      exact ⟨i, z1, by omega, (b2 i z2).trans z3⟩
theorem cs_ZE_push {N : Nat} {V : Nat → Option Bool} {TR : Nat → Nat} {t n : Nat} {b : Bool} (hv : V n = none) : cs_ZE N V TR t (cs_up V n (some b)) (cs_up TR t n) (t + 1) := by
  refine ⟨by omega, fun i hi => cs_uo (by omega), fun m hm h => ?_, fun m hm h h2 => ?_⟩
  · rw [cs_uo fun e => h (by rw [e]; exact hv)]
  · by_cases e : m = n
    · subst e; exact ⟨t, Nat.le_refl t, by omega, cs_us⟩
    · rw [cs_uo e] at h2; exact absurd h h2
/-- the values hold under every pattern of Q -/
def cs_So (N : Nat) (gv : Nat → Nat → Bool) (Q : Nat → Prop) (V : Nat → Option Bool) : Prop := ∀ p, Q p → ∀ n, n < N → ∀ b, V n = some b → gv p n = b
def cs_Re (N : Nat) (gv : Nat → Nat → Bool) (Q : Nat → Prop) (r : Bool) (V : Nat → Option Bool) : Prop := (r = true → cs_So N gv Q V) ∧ (r = false → ∀ p, ¬ Q p)
theorem cs_So_lo {N : Nat} {gv : Nat → Nat → Bool} {Q : Nat → Prop} {V : Nat → Option Bool} (h : cs_So N gv Q V) {p : Nat} (hp : Q p) {a : Nat} (ha : a < 2 * N) {b : Bool} (e : cs_lo V a = some b) : cs_lv (gv p) a = b := by
  have q := h p hp (a / 2) (by omega) _ (cs_lo_inv e)
  unfold cs_lv
  rw [q]
  cases b <;> cases decide (a % 2 = 1) <;> rfl
theorem cs_So_push {N : Nat} {gv : Nat → Nat → Bool} {Q : Nat → Prop} {V : Nat → Option Bool} (h : cs_So N gv Q V) {a : Nat} (hq : ∀ p, Q p → cs_lv (gv p) a = true) : cs_So N gv Q (cs_up V (a / 2) (some (decide (a % 2 = 0)))) := by
  intro p hp n hn b e
  by_cases q : n = a / 2
  · subst q
    rw [cs_us] at e
    have z := hq p hp
    unfold cs_lv at z
    have e2 : decide (a % 2 = 0) = b := by injection e
    rw [← e2]
    rcases Nat.mod_two_eq_zero_or_one a with m | m
    · rw [m] at z ⊢; simpa using z
    · rw [m] at z ⊢; simpa using z
  · rw [cs_uo q] at e; exact h p hp n hn b e
/-- forward consequences drawn at an AND node -/
def cs_Fw (L R : Nat → Nat) (V : Nat → Option Bool) (n : Nat) : Prop :=
  (cs_lo V (L n) = some false ∨ cs_lo V (R n) = some false → V n = some false) ∧ (cs_lo V (L n) = some true → cs_lo V (R n) = some true → V n = some true)
def cs_D (L R : Nat → Nat) (V : Nat → Option Bool) (TR : Nat → Nat) (h t n : Nat) : Prop := cs_Fw L R V n ∨ ∃ i, h ≤ i ∧ i < t ∧ (TR i = L n / 2 ∨ TR i = R n / 2)
theorem cs_Fw_congr {L R : Nat → Nat} {V V' : Nat → Option Bool} {n : Nat} (h1 : V' (L n / 2) = V (L n / 2)) (h2 : V' (R n / 2) = V (R n / 2)) (h3 : V n ≠ none → V' n = V n) (h : cs_Fw L R V n) : cs_Fw L R V' n := by
  unfold cs_Fw
  rw [cs_lo_congr h1, cs_lo_congr h2]
  refine ⟨fun e => ?_, fun e e2 => ?_⟩
  · have q := h.1 e
    rw [h3 (by rw [q]; simp), q]
  · have q := h.2 e e2
    rw [h3 (by rw [q]; simp), q]
theorem cs_D_ext {N : Nat} {L R : Nat → Nat} {V V' : Nat → Option Bool} {TR TR' : Nat → Nat} {h t t' n : Nat} (hE : cs_ZE N V TR t V' TR' t') (ht : h ≤ t) (hn : n < N) (hl : L n / 2 < N) (hr : R n / 2 < N) (hD : cs_D L R V TR h t n) : cs_D L R V' TR' h t' n := by
  obtain ⟨a1, a2, a3, a4⟩ := hE
  rcases hD with hD | ⟨i, b1, b2, b3⟩
  · have same : ∀ m, m < N → (V m = none ∧ V' m ≠ none) ∨ V' m = V m := fun m hm => by
      by_cases q : V m = none
      · by_cases q2 : V' m = none
        · exact Or.inr (by rw [q, q2])
        · exact Or.inl ⟨q, q2⟩
      · exact Or.inr (a3 m hm q)
    rcases same _ hl with q | q
    · obtain ⟨i, z1, z2, z3⟩ := a4 _ hl q.1 q.2
      exact Or.inr ⟨i, by omega, z2, Or.inl z3⟩
    · rcases same _ hr with q2 | q2
      · obtain ⟨i, z1, z2, z3⟩ := a4 _ hr q2.1 q2.2
        exact Or.inr ⟨i, by omega, z2, Or.inr z3⟩
      · exact Or.inl (cs_Fw_congr q q2 (a3 n hn) hD)
  · exact Or.inr ⟨i, b1, by omega, by rw [a2 i b2]; exact b3⟩
/-- the values of the first s nodes of the trail -/
def cs_inT (TR : Nat → Nat) : Nat → Nat → Bool
  | 0, _ => false
  | s + 1, n => decide (TR s = n) || cs_inT TR s n
theorem cs_inT_iff {TR : Nat → Nat} {s n : Nat} : cs_inT TR s n = true ↔ ∃ i, i < s ∧ TR i = n := by
  induction s with
  | zero => exact ⟨fun h => (by cases h), fun ⟨i, h, _⟩ => by omega⟩
  | succ s ih =>
    show (decide (TR s = n) || cs_inT TR s n) = true ↔ _
    rw [Bool.or_eq_true, ih]
    constructor
    · rintro (h | ⟨i, h1, h2⟩)
      · exact ⟨s, by omega, of_decide_eq_true h⟩
      · exact ⟨i, by omega, h2⟩
    · rintro ⟨i, h1, h2⟩
      by_cases e : i = s
      · subst e; exact Or.inl (decide_eq_true h2)
      · exact Or.inr ⟨i, by omega, h2⟩
theorem cs_inT_congr {TR TR' : Nat → Nat} {s n : Nat} (h : ∀ i, i < s → TR' i = TR i) : cs_inT TR' s n = cs_inT TR s n := by
  induction s with
  | zero => rfl
  | succ s ih =>
    show (decide (TR' s = n) || cs_inT TR' s n) = (decide (TR s = n) || cs_inT TR s n)
    rw [ih fun i hi => h i (by omega), h s (by omega)]
def cs_rs (V : Nat → Option Bool) (TR : Nat → Nat) (s n : Nat) : Option Bool := if cs_inT TR s n = true then V n else none
theorem cs_rs_ext {N : Nat} {C : Nat → Bool} {V V' : Nat → Option Bool} {TR TR' : Nat → Nat} {t t' s n : Nat} (hT : cs_TI N C V TR t) (hE : cs_ZE N V TR t V' TR' t') (hs : s ≤ t) (hn : n < N) : cs_rs V' TR' s n = cs_rs V TR s n := by
  unfold cs_rs
  rw [cs_inT_congr fun i hi => hE.2.1 i (by omega)]
  by_cases e : cs_inT TR s n = true
  · rw [if_pos e, if_pos e]
    obtain ⟨i, h1, h2⟩ := cs_inT_iff.1 e
    exact hE.2.2.1 n hn (by rw [← h2]; exact (hT.2.1 i (by omega)).2.2)
  · rw [if_neg e, if_neg e]
theorem cs_rs_full {N : Nat} {C : Nat → Bool} {V : Nat → Option Bool} {TR : Nat → Nat} {t n : Nat} (hT : cs_TI N C V TR t) (hn : n < N) : cs_rs V TR t n = V n := by
  unfold cs_rs
  by_cases e : cs_inT TR t n = true
  · rw [if_pos e]
  · rw [if_neg e]
    by_cases q : V n = none
    · exact q.symm
    · exact absurd (cs_inT_iff.2 (hT.2.2.1 n hn q)) e
theorem cs_rs_pop {N : Nat} {C : Nat → Bool} {V : Nat → Option Bool} {TR : Nat → Nat} {t n : Nat} (hT : cs_TI N C V TR (t + 1)) : cs_up V (TR t) none n = none ∨ cs_up V (TR t) none n = V n := by
  by_cases e : n = TR t
  · subst e; exact Or.inl cs_us
  · exact Or.inr (cs_uo e)
theorem cs_rs_rs {V V' : Nat → Option Bool} {TR : Nat → Nat} {s s0 n : Nat} (hs : s ≤ s0) (h : V' n = cs_rs V TR s0 n) : cs_rs V' TR s n = cs_rs V TR s n := by
  unfold cs_rs at h ⊢
  by_cases e : cs_inT TR s n = true
  · rw [if_pos e, if_pos e]
    obtain ⟨i, h1, h2⟩ := cs_inT_iff.1 e
    rw [if_pos (cs_inT_iff.2 ⟨i, by omega, h2⟩)] at h
    exact h
  · rw [if_neg e, if_neg e]
end
section
section
variable {I T E N t PN : Nat} {gl ou sd sv sw sp : Int32} {pw : Int64} {GS GK OP RP L R BH BN FH FN NL NM TR LI LT : Nat → Nat} {O : Nat → Option Nat} {V : Nat → Option Bool} {C RC S lw : Nat → Bool} {sg iw : Nat → Int64} {tb : Nat → Int32}
theorem cs_vi_neg (o : Option Bool) : -cs_vi o = cs_vi (o.map not) := by
  cases o with
  | none => decide
  | some b => cases b <;> decide
theorem cs_x_lval {post : Int32 → Prop} {x : Int32} (a : Nat) (hx : x = nI a) (ha : a < 512) (K : post (cs_vi (cs_lo V a))) : wpX_literalValue post ((nI I), gl, ou, (nI T), sd, (nI E), pw, sv, sw, sp, (nI N), (nI t), (cs_n GS), (cs_n GK), (cs_n OP), (cs_o O), (cs_n RP), (cs_b RC), (cs_n L), (cs_n R), sg, iw, (cs_n BH), (cs_n BN), (cs_n FH), (cs_n FN), (cs_n NL), (cs_n NM), (cs_v V), (cs_b C), (cs_n TR), (cs_n LI), (cs_n LT)) x := by
  subst hx
  refine And.intro (pk_in (a / 2) 256 (by omega) (cs_sh (by omega))) (nm_r (cs_rv (a / 2) (cs_sh (by omega))) ?_)
  unfold cs_lo at K
  refine pk_eq (a % 2) 0 (fun e => ?_) (fun e => ?_) (cs_and1 (by omega)) rfl (by omega) (by omega)
  · rw [if_pos e] at K; exact K
  · rw [if_neg e, ← cs_vi_neg] at K; exact K
theorem cs_dec_even {a : Nat} : cs_vi (some (decide (a % 2 = 0))) = if a % 2 = 0 then 1 else -1 := by
  by_cases h : a % 2 = 0
  · rw [if_pos h, decide_eq_true h]; rfl
  · rw [if_neg h, decide_eq_false h]; rfl
/-- a value that is not set yet is set -/
theorem cs_x_forceF {post : Int32 → SX → Prop} {x : Int32} (a : Nat) (hx : x = nI a) (ha : a < 512) (ht : t < 256) (hv : V (a / 2) = none)
    (K : post 1 ((nI I), gl, ou, (nI T), sd, (nI E), pw, sv, sw, sp, (nI N), (nI (t+1)), (cs_n GS), (cs_n GK), (cs_n OP), (cs_o O), (cs_n RP), (cs_b RC), (cs_n L), (cs_n R), sg, iw, (cs_n BH), (cs_n BN), (cs_n FH), (cs_n FN), (cs_n NL), (cs_n NM), (cs_v (cs_up V (a / 2) (some (decide (a % 2 = 0))))), (cs_b C), (cs_n (cs_up TR t (a / 2))), (cs_n LI), (cs_n LT))) : wpX_force post ((nI I), gl, ou, (nI T), sd, (nI E), pw, sv, sw, sp, (nI N), (nI t), (cs_n GS), (cs_n GK), (cs_n OP), (cs_o O), (cs_n RP), (cs_b RC), (cs_n L), (cs_n R), sg, iw, (cs_n BH), (cs_n BN), (cs_n FH), (cs_n FN), (cs_n NL), (cs_n NM), (cs_v V), (cs_b C), (cs_n TR), (cs_n LI), (cs_n LT)) x := by
  subst hx
  have e0 : cs_lo V a = none := cs_lo_none.2 hv
  unfold wpX_force
  refine cs_x_lval a rfl ha ?_
  rw [e0]
  refine br_t (show cs_vi none = 0 from rfl) (nm_r (cs_sh (by omega)) ?_)
  have key : ∀ w : Int32, w = cs_vi (some (decide (a % 2 = 0))) → (wX_force_40 post (nI (a / 2)) w (nI (a / 2)) (nI I) gl ou (nI T) sd (nI E) pw sv sw sp (nI N) (nI t) (cs_n GS) (cs_n GK) (cs_n OP) (cs_o O) (cs_n RP) (cs_b RC) (cs_n L) (cs_n R) sg iw (cs_n BH) (cs_n BN) (cs_n FH) (cs_n FN) (cs_n NL) (cs_n NM) (cs_v V) (cs_b C) (cs_n TR) (cs_n LI) (cs_n LT)) := by
    intro w hw
    refine And.intro (pk_in (a / 2) 256 (by omega)) (nm_r (cs_wv (a / 2) _ rfl hw) ?_)
    exact And.intro (pk_in t 256 ht) (nm_r (cs_wr t (a / 2) rfl rfl) (nm_r (nI_1 t) K))
  refine pk_eq (a % 2) 0 (fun e => key 1 ?_) (fun e => key (-1) ?_) (cs_and1 (by omega)) rfl (by omega) (by omega)
  · rw [cs_dec_even, if_pos e]
  · rw [cs_dec_even, if_neg e]
theorem cs_x_force {post : Int32 → SX → Prop} {x : Int32} {Q : Nat → Prop} (a : Nat) (hx : x = nI a) (hN : N ≤ 256) (ha : a < 2 * N) (hc : C (a / 2) = true) (hT : cs_TI N C V TR t) (hS : cs_So N (cs_gv I L R) Q V) (hq : ∀ p, Q p → cs_lv (cs_gv I L R p) a = true)
    (K : ∀ (r : Bool) V' TR' t', cs_TI N C V' TR' t' → cs_ZE N V TR t V' TR' t' → cs_Re N (cs_gv I L R) Q r V' → (r = true → cs_lo V' a = some true) → (∀ n, n ≠ a / 2 → V' n = V n) → post (cs_bi r) ((nI I), gl, ou, (nI T), sd, (nI E), pw, sv, sw, sp, (nI N), (nI t'), (cs_n GS), (cs_n GK), (cs_n OP), (cs_o O), (cs_n RP), (cs_b RC), (cs_n L), (cs_n R), sg, iw, (cs_n BH), (cs_n BN), (cs_n FH), (cs_n FN), (cs_n NL), (cs_n NM), (cs_v V'), (cs_b C), (cs_n TR'), (cs_n LI), (cs_n LT))) : wpX_force post ((nI I), gl, ou, (nI T), sd, (nI E), pw, sv, sw, sp, (nI N), (nI t), (cs_n GS), (cs_n GK), (cs_n OP), (cs_o O), (cs_n RP), (cs_b RC), (cs_n L), (cs_n R), sg, iw, (cs_n BH), (cs_n BN), (cs_n FH), (cs_n FN), (cs_n NL), (cs_n NM), (cs_v V), (cs_b C), (cs_n TR), (cs_n LI), (cs_n LT)) x := by
  cases e : cs_lo V a with
  | none =>
    have hv := cs_lo_none.1 e
    have ht := cs_TI_lt hT (show a / 2 < N by omega) hv
    refine cs_x_forceF a hx (by omega) (by omega) hv (K true _ _ _ (cs_TI_push hT (by omega) hc hv) (cs_ZE_push hv) ⟨fun _ => cs_So_push hS hq, fun h => by cases h⟩ (fun _ => ?_) (fun n hn => cs_uo hn))
    unfold cs_lo
    rw [cs_us]
    rcases Nat.mod_two_eq_zero_or_one a with m | m
    · rw [m]; rfl
    · rw [m]; rfl
  | some b =>
    subst hx
    unfold wpX_force
    refine cs_x_lval a rfl (by omega) ?_
    rw [e]
    cases b with
    | true =>
      refine br_f (by decide) (br_f (by decide) ?_)
      exact K true V TR t hT cs_ZE_refl ⟨fun _ => hS, fun h => by cases h⟩ (fun _ => e) (fun _ _ => rfl)
    | false =>
      refine br_f (by decide) (br_t (by decide) ?_)
      refine K false V TR t hT cs_ZE_refl ⟨fun h => (by cases h), fun _ p hp => ?_⟩ (fun h => by cases h) (fun _ _ => rfl)
      have z := cs_So_lo hS hp ha e
      rw [hq p hp] at z
      cases z
theorem cs_vi_lt0 (o : Option Bool) : cs_vi o < 0 ↔ o = some false := by
  cases o with
  | none => decide
  | some b => cases b <;> decide
theorem cs_vi_le0 (o : Option Bool) : cs_vi o ≤ 0 ↔ ¬ o = some true := by
  cases o with
  | none => decide
  | some b => cases b <;> decide
theorem cs_vi_ge0 (o : Option Bool) : 0 ≤ cs_vi o ↔ ¬ o = some false := by
  cases o with
  | none => decide
  | some b => cases b <;> decide
theorem cs_vi_eq0 (o : Option Bool) : cs_vi o = 0 ↔ o = none := by
  cases o with
  | none => decide
  | some b => cases b <;> decide
theorem cs_not_some {o : Option Bool} (h0 : ¬ o = some false) (h1 : ¬ o = some true) : o = none := by
  cases o with
  | none => rfl
  | some b => cases b <;> simp_all
/-- implications at one AND node -/
theorem cs_x_imply {post : Int32 → SX → Prop} {x : Int32} {Q : Nat → Prop} (n : Nat) (hx : x = nI n) (hN : N ≤ 256) (hW : cs_W I N L R) (h1 : I < n) (h2 : n < N) (hc : C n = true) (hcl : C (L n / 2) = true) (hcr : C (R n / 2) = true) (hT : cs_TI N C V TR t) (hS : cs_So N (cs_gv I L R) Q V)
    (K : ∀ (r : Bool) V' TR' t', cs_TI N C V' TR' t' → cs_ZE N V TR t V' TR' t' → cs_Re N (cs_gv I L R) Q r V' → (r = true → cs_Fw L R V' n) → post (cs_bi r) ((nI I), gl, ou, (nI T), sd, (nI E), pw, sv, sw, sp, (nI N), (nI t'), (cs_n GS), (cs_n GK), (cs_n OP), (cs_o O), (cs_n RP), (cs_b RC), (cs_n L), (cs_n R), sg, iw, (cs_n BH), (cs_n BN), (cs_n FH), (cs_n FN), (cs_n NL), (cs_n NM), (cs_v V'), (cs_b C), (cs_n TR'), (cs_n LI), (cs_n LT))) : wpX_implyAt post ((nI I), gl, ou, (nI T), sd, (nI E), pw, sv, sw, sp, (nI N), (nI t), (cs_n GS), (cs_n GK), (cs_n OP), (cs_o O), (cs_n RP), (cs_b RC), (cs_n L), (cs_n R), sg, iw, (cs_n BH), (cs_n BN), (cs_n FH), (cs_n FN), (cs_n NL), (cs_n NM), (cs_v V), (cs_b C), (cs_n TR), (cs_n LI), (cs_n LT)) x := by
  subst hx
  obtain ⟨l0, l1, r0, r1⟩ := hW.2 n h1 h2
  have hgv : ∀ p, cs_gv I L R p n = (cs_lv (cs_gv I L R p) (L n) && cs_lv (cs_gv I L R p) (R n)) := fun p => cs_gv_a h1 (by omega) (by omega)
  have en : (2 * n + 1) / 2 = n := by omega
  have en2 : (2 * n) / 2 = n := by omega
  have e1 : 2 * nI n + 1 = nI (2 * n + 1) := by rw [cs_2m, nI_1]
  have ln : L n / 2 ≠ n := by omega
  have rn : R n / 2 ≠ n := by omega
  have F0 : (∀ p, Q p → cs_gv I L R p n = false) → cs_lo V (L n) = some false ∨ cs_lo V (R n) = some false → (wX_implyAt_38 post (nI n) (nI I) gl ou (nI T) sd (nI E) pw sv sw sp (nI N) (nI t) (cs_n GS) (cs_n GK) (cs_n OP) (cs_o O) (cs_n RP) (cs_b RC) (cs_n L) (cs_n R) sg iw (cs_n BH) (cs_n BN) (cs_n FH) (cs_n FN) (cs_n NL) (cs_n NM) (cs_v V) (cs_b C) (cs_n TR) (cs_n LI) (cs_n LT)) := by
    intro hq hlr
    refine cs_x_force (Q := Q) (2 * n + 1) e1 hN (by omega) (by rw [en]; exact hc) hT hS (fun p hp => by rw [cs_lv_odd, hq p hp]; rfl) (fun r V' TR' t' a1 a2 a3 a4 a5 => ?_)
    refine And.intro (cs_bnar r) (K r V' TR' t' a1 a2 a3 fun hr => ?_)
    have b := a4 hr
    rw [cs_lo_odd] at b
    have b2 : V' n = some false := by
      cases q : V' n with
      | none => rw [q] at b; simp at b
      | some c => rw [q] at b; cases c <;> simp_all
    refine ⟨fun _ => b2, fun q1 q2 => ?_⟩
    rw [cs_lo_congr (a5 _ (by rw [en]; exact ln))] at q1
    rw [cs_lo_congr (a5 _ (by rw [en]; exact rn))] at q2
    rcases hlr with z | z
    · rw [q1] at z; cases z
    · rw [q2] at z; cases z
  refine And.intro (pk_in n 256 (by omega)) (nm_r (cs_rd n rfl) (And.intro (pk_in n 256 (by omega)) (nm_r (cs_rd n rfl) ?_)))
  refine cs_x_lval (L n) rfl (by omega) (cs_x_lval (R n) rfl (by omega) ?_)
  have F66 : ¬ cs_lo V (L n) = some false → ¬ cs_lo V (R n) = some false → ¬ (cs_lo V (L n) = some true ∧ cs_lo V (R n) = some true) → (wX_implyAt_66 post (nI n) (nI (L n)) (nI (R n)) (cs_vi (cs_lo V (L n))) (cs_vi (cs_lo V (R n))) (nI I) gl ou (nI T) sd (nI E) pw sv sw sp (nI N) (nI t) (cs_n GS) (cs_n GK) (cs_n OP) (cs_o O) (cs_n RP) (cs_b RC) (cs_n L) (cs_n R) sg iw (cs_n BH) (cs_n BN) (cs_n FH) (cs_n FN) (cs_n NL) (cs_n NM) (cs_v V) (cs_b C) (cs_n TR) (cs_n LI) (cs_n LT)) := by
    intro n1 n2 n3
    refine And.intro (pk_in n 256 (by omega)) ?_
    rw [cs_rv n rfl]
    refine br_c (fun c0 => ?_) (fun c0 => ?_)
    · have c1 := (cs_vi_le0 _).1 c0
      refine And.intro (pk_in n 256 (by omega)) (br_c (fun d0 => ?_) (fun d0 => ?_))
      · have d1 := (cs_vi_ge0 _).1 d0
        refine K true V TR t hT cs_ZE_refl ⟨fun _ => hS, fun h => by cases h⟩ (fun _ => ?_)
        exact ⟨fun z => absurd z (by rintro (z | z); exact n1 z; exact n2 z), fun z1 z2 => absurd ⟨z1, z2⟩ n3⟩
      · have d1 : V n = some false := by
          cases q : V n with
          | none => rw [q] at d0; exact absurd (by decide) d0
          | some b => cases b with
            | true => exact absurd q c1
            | false => rfl
        refine br_c (fun f0 => ?_) (fun f0 => ?_)
        · have f1 := (cs_vi_le0 _).1 f0
          have f2 := cs_not_some n1 f1
          refine br_c (fun g0 => ?_) (fun g0 => ?_)
          · refine K true V TR t hT cs_ZE_refl ⟨fun _ => hS, fun h => by cases h⟩ (fun _ => ?_)
            exact ⟨fun _ => d1, fun z1 z2 => absurd ⟨z1, z2⟩ n3⟩
          · have g1 : cs_lo V (R n) = some true := Classical.byContradiction fun q => g0 ((cs_vi_le0 _).2 q)
            refine cs_x_force (Q := Q) (cs_fl (L n)) (cs_xor1 _) hN (cs_fllt (by omega)) (by rw [cs_fl2]; exact hcl) hT hS (fun p hp => ?_) (fun r V' TR' t' a1 a2 a3 a4 a5 => ?_)
            · have z1 := hS p hp n h2 _ d1
              rw [hgv p, cs_So_lo hS hp (by omega) g1, Bool.and_true] at z1
              rw [cs_lv_fl, z1]; rfl
            · refine And.intro (cs_bnar r) (K r V' TR' t' a1 a2 a3 fun hr => ?_)
              have b := a4 hr
              rw [cs_lo_fl] at b
              have b3 : V' n = some false := by rw [a5 n (by rw [cs_fl2]; exact fun z => ln z.symm)]; exact d1
              refine ⟨fun _ => b3, fun q1 _ => ?_⟩
              rw [q1] at b; cases b
        · have f1 : cs_lo V (L n) = some true := Classical.byContradiction fun q => f0 ((cs_vi_le0 _).2 q)
          refine cs_x_force (Q := Q) (cs_fl (R n)) (cs_xor1 _) hN (cs_fllt (by omega)) (by rw [cs_fl2]; exact hcr) hT hS (fun p hp => ?_) (fun r V' TR' t' a1 a2 a3 a4 a5 => ?_)
          · have z1 := hS p hp n h2 _ d1
            rw [hgv p, cs_So_lo hS hp (by omega) f1, Bool.true_and] at z1
            rw [cs_lv_fl, z1]; rfl
          · refine And.intro (cs_bnar r) (K r V' TR' t' a1 a2 a3 fun hr => ?_)
            have b := a4 hr
            rw [cs_lo_fl] at b
            have b3 : V' n = some false := by rw [a5 n (by rw [cs_fl2]; exact fun z => rn z.symm)]; exact d1
            refine ⟨fun _ => b3, fun _ q2 => ?_⟩
            rw [q2] at b; cases b
    · have c1 : V n = some true := Classical.byContradiction fun q => c0 ((cs_vi_le0 _).2 q)
      have z1 : ∀ p, Q p → cs_lv (cs_gv I L R p) (L n) = true ∧ cs_lv (cs_gv I L R p) (R n) = true := fun p hp => by
        have z := hS p hp n h2 _ c1
        rw [hgv p, Bool.and_eq_true] at z
        exact z
      refine cs_x_force (Q := Q) (L n) rfl hN (by omega) hcl hT hS (fun p hp => (z1 p hp).1) (fun r V' TR' t' a1 a2 a3 a4 a5 => ?_)
      cases r with
      | false =>
        exact br_t rfl (K false V' TR' t' a1 a2 a3 (fun h => by cases h))
      | true =>
        refine br_f (by decide) ?_
        refine cs_x_force (Q := Q) (R n) rfl hN (by omega) hcr a1 (a3.1 rfl) (fun p hp => (z1 p hp).2) (fun r2 V2 TR2 t2 b1 b2 b3 b4 b5 => ?_)
        refine And.intro (cs_bnar r2) (K r2 V2 TR2 t2 b1 (cs_ZE_trans a2 b2) b3 fun hr => ?_)
        have q1 := a4 rfl
        have q2 := b4 hr
        have q3 : V2 (L n / 2) = V' (L n / 2) := b2.2.2.1 _ (by omega) (fun z => by rw [cs_lo_none.2 z] at q1; cases q1)
        have q4 : V2 n = some true := by rw [b5 n (fun z => rn z.symm), a5 n (fun z => ln z.symm)]; exact c1
        refine ⟨?_, fun _ _ => q4⟩
        rw [cs_lo_congr q3, q1, q2]
        rintro (z | z) <;> cases z
  refine br_c (fun c0 => ?_) (fun c0 => ?_)
  · have c1 := (cs_vi_lt0 _).1 c0
    refine F0 (fun p hp => ?_) (Or.inl c1)
    rw [hgv p, cs_So_lo hS hp (by omega) c1]; rfl
  · have c1 : ¬ cs_lo V (L n) = some false := fun q => c0 ((cs_vi_lt0 _).2 q)
    refine br_c (fun d0 => ?_) (fun d0 => ?_)
    · have d1 := (cs_vi_ge0 _).1 d0
      refine br_c (fun f0 => ?_) (fun f0 => ?_)
      · exact F66 c1 d1 (fun z => (cs_vi_le0 _).1 f0 z.1)
      · refine br_c (fun g0 => ?_) (fun g0 => ?_)
        · exact F66 c1 d1 (fun z => (cs_vi_le0 _).1 g0 z.2)
        · have f1 : cs_lo V (L n) = some true := Classical.byContradiction fun q => f0 ((cs_vi_le0 _).2 q)
          have g1 : cs_lo V (R n) = some true := Classical.byContradiction fun q => g0 ((cs_vi_le0 _).2 q)
          refine cs_x_force (Q := Q) (2 * n) (cs_2m n) hN (by omega) (by rw [en2]; exact hc) hT hS (fun p hp => ?_) (fun r V' TR' t' a1 a2 a3 a4 a5 => ?_)
          · rw [cs_lv_even, hgv p, cs_So_lo hS hp (by omega) f1, cs_So_lo hS hp (by omega) g1]; rfl
          · refine And.intro (cs_bnar r) (K r V' TR' t' a1 a2 a3 fun hr => ?_)
            have b := a4 hr
            rw [cs_lo_even] at b
            have q1 : cs_lo V' (L n) = some true := by rw [cs_lo_congr (a5 _ (by rw [en2]; exact ln))]; exact f1
            have q2 : cs_lo V' (R n) = some true := by rw [cs_lo_congr (a5 _ (by rw [en2]; exact rn))]; exact g1
            refine ⟨?_, fun _ _ => b⟩
            rw [q1, q2]
            rintro (z | z) <;> cases z
    · have d1 : cs_lo V (R n) = some false := Classical.byContradiction fun q => d0 ((cs_vi_ge0 _).2 q)
      refine F0 (fun p hp => ?_) (Or.inr d1)
      rw [hgv p, cs_So_lo hS hp (by omega) d1, Bool.and_false]
end
end
section
section
variable {I T E N t PN : Nat} {gl ou sd sv sw sp : Int32} {pw : Int64} {GS GK OP RP L R BH BN FH FN NL NM TR LI LT : Nat → Nat} {O : Nat → Option Nat} {V : Nat → Option Bool} {C RC S lw : Nat → Bool} {sg iw : Nat → Int64} {tb : Nat → Int32}
/-- the cone of a root -/
def cs_Cn (I N : Nat) (L R : Nat → Nat) (C : Nat → Bool) : Prop := (∀ n, n < N → C n = true → 1 ≤ n) ∧ (∀ n, I < n → n < N → C n = true → C (L n / 2) = true ∧ C (R n / 2) = true)
def cs_Pe (L R : Nat → Nat) (x e n : Nat) : Prop := (2 * n ≤ e ∧ L n / 2 = x) ∨ (2 * n + 1 ≤ e ∧ R n / 2 = x)
theorem cs_ch_even {n : Nat} : cs_ch L R (2 * n) = L n / 2 := by
  unfold cs_ch; rw [if_pos (by omega), show 2 * n / 2 = n by omega]
theorem cs_ch_odd {n : Nat} : cs_ch L R (2 * n + 1) = R n / 2 := by
  unfold cs_ch; rw [if_neg (by omega), show (2 * n + 1) / 2 = n by omega]
/-- an edge is done: what is still to do lies at or before the next one -/
theorem cs_Pe_next {x e n : Nat} (hI : I < n) (hp : cs_Pe L R x e n) (hne : n ≠ e / 2 ∨ True) : n = e / 2 ∨ cs_Pe L R x (cs_E I L R e x) n := by
  by_cases q : n = e / 2
  · exact Or.inl q
  · refine Or.inr ?_
    rcases hp with ⟨a, b⟩ | ⟨a, b⟩
    · exact Or.inl ⟨cs_E_max e x (2 * n) (by omega) (by omega) (cs_ch_even.trans b), b⟩
    · exact Or.inr ⟨cs_E_max e x (2 * n + 1) (by omega) (by omega) (cs_ch_odd.trans b), b⟩
theorem cs_x_iu9 {post : Int32 → SX → Prop} {Q : Nat → Prop} {V0 : Nat → Option Bool} {TR0 : Nat → Nat} {t0 h x : Nat} (hN : N ≤ 256) (hG : cs_W I N L R) (hF : cs_F I N L R FH FN) (hC : cs_Cn I N L R C) (hh : h + 1 ≤ t0)
    (K : ∀ (r : Bool) V' TR' t', cs_TI N C V' TR' t' → cs_ZE N V0 TR0 t0 V' TR' t' → cs_Re N (cs_gv I L R) Q r V' → (r = true → ∀ n, I < n → n < N → C n = true → cs_D L R V' TR' (h + 1) t' n) → post (cs_bi r) ((nI I), gl, ou, (nI T), sd, (nI E), pw, sv, sw, sp, (nI N), (nI t'), (cs_n GS), (cs_n GK), (cs_n OP), (cs_o O), (cs_n RP), (cs_b RC), (cs_n L), (cs_n R), sg, iw, (cs_n BH), (cs_n BN), (cs_n FH), (cs_n FN), (cs_n NL), (cs_n NM), (cs_v V'), (cs_b C), (cs_n TR'), (cs_n LI), (cs_n LT))) :
    ∀ f e s, e < f → e + s ≤ 512 → (e = 0 ∨ (2 * (I + 1) ≤ e ∧ e < 2 * N ∧ cs_ch L R e = x)) → ∀ V TR t, cs_TI N C V TR t → cs_ZE N V0 TR0 t0 V TR t → cs_So N (cs_gv I L R) Q V → (∀ n, I < n → n < N → C n = true → cs_D L R V TR (h + 1) t n ∨ cs_Pe L R x e n) →
    (wX_implyUsers_9 post f (nI e) (nI s) (nI I) gl ou (nI T) sd (nI E) pw sv sw sp (nI N) (nI t) (cs_n GS) (cs_n GK) (cs_n OP) (cs_o O) (cs_n RP) (cs_b RC) (cs_n L) (cs_n R) sg iw (cs_n BH) (cs_n BN) (cs_n FH) (cs_n FN) (cs_n NL) (cs_n NM) (cs_v V) (cs_b C) (cs_n TR) (cs_n LI) (cs_n LT)) := by
  intro f
  induction f with
  | zero => intro e s he; omega
  | succ f ih =>
    intro e s he hs hE V TR t hT hZ hS hD
    refine pk_eq e 0 (fun q => ?_) (fun q => ?_) rfl rfl (by omega) (by omega)
    · subst q
      refine K true V TR t hT hZ ⟨fun _ => hS, fun z => by cases z⟩ (fun _ n n1 n2 n3 => ?_)
      rcases hD n n1 n2 n3 with d | d
      · exact d
      · unfold cs_Pe at d; omega
    · have hE2 : 2 * (I + 1) ≤ e ∧ e < 2 * N ∧ cs_ch L R e = x := by
        rcases hE with z | z
        · exact absurd z q
        · exact z
      have hu1 : I < e / 2 := by omega
      have hu2 : e / 2 < N := by omega
      obtain ⟨_, l1, _, r1⟩ := hG.2 (e / 2) hu1 hu2
      have hfn : FN e = cs_E I L R e x := by rw [hF.2 e hE2.1 hE2.2.1, hE2.2.2]
      have hlt := cs_E_lt (I := I) (L := L) (R := R) e x
      have nx : cs_E I L R e x < f ∧ cs_E I L R e x + (s + 1) ≤ 512 ∧ (cs_E I L R e x = 0 ∨ (2 * (I + 1) ≤ cs_E I L R e x ∧ cs_E I L R e x < 2 * N ∧ cs_ch L R (cs_E I L R e x) = x)) := by
        rcases hlt with z | ⟨z1, z2, z3⟩
        · rw [z]; exact ⟨by omega, by omega, Or.inl rfl⟩
        · exact ⟨by omega, by omega, Or.inr ⟨z1, by omega, z3⟩⟩
      refine br_f (nI_ge (b := 512) (by omega) (by omega)) (nm_r (cs_sh (by omega)) (And.intro (pk_in (e / 2) 256 (by omega)) ?_))
      refine cs_bc (cs_rb (e / 2) rfl) (fun c0 => ?_) (fun c1 => ?_)
      · refine And.intro (pk_in e 512 (by omega)) (nm_r (cs_rd e rfl) (nm_r (nI_1 s) ?_))
        rw [hfn]
        refine ih _ (s + 1) nx.1 nx.2.1 nx.2.2 V TR t hT hZ hS (fun n n1 n2 n3 => ?_)
        rcases hD n n1 n2 n3 with d | d
        · exact Or.inl d
        · rcases cs_Pe_next n1 d (Or.inr trivial) with z | z
          · rw [z, c0] at n3; cases n3
          · exact Or.inr z
      · have cc := hC.2 (e / 2) hu1 hu2 c1
        refine cs_x_imply (Q := Q) (e / 2) rfl hN hG hu1 hu2 c1 cc.1 cc.2 hT hS (fun r V' TR' t' a1 a2 a3 a4 => ?_)
        have hZ' := cs_ZE_trans hZ a2
        cases r with
        | false => exact br_t rfl (K false V' TR' t' a1 hZ' a3 (fun z => by cases z))
        | true =>
          refine br_f (by decide) (And.intro (pk_in e 512 (by omega)) (nm_r (cs_rd e rfl) (nm_r (nI_1 s) ?_)))
          rw [hfn]
          refine ih _ (s + 1) nx.1 nx.2.1 nx.2.2 V' TR' t' a1 hZ' (a3.1 rfl) (fun n n1 n2 n3 => ?_)
          obtain ⟨_, m1, _, m2⟩ := hG.2 n n1 n2
          rcases hD n n1 n2 n3 with d | d
          · exact Or.inl (cs_D_ext a2 (by have := hZ.1; omega) n2 (by omega) (by omega) d)
          · rcases cs_Pe_next n1 d (Or.inr trivial) with z | z
            · subst z; exact Or.inl (Or.inl (a4 rfl))
            · exact Or.inr z
theorem cs_x_users {post : Int32 → SX → Prop} {y : Int32} {Q : Nat → Prop} {h : Nat} (x : Nat) (hx : y = nI x) (hN : N ≤ 256) (hxN : x < N) (hG : cs_W I N L R) (hF : cs_F I N L R FH FN) (hC : cs_Cn I N L R C) (hh : h + 1 ≤ t) (hT : cs_TI N C V TR t) (hS : cs_So N (cs_gv I L R) Q V)
    (hD : ∀ n, I < n → n < N → C n = true → cs_D L R V TR (h + 1) t n ∨ L n / 2 = x ∨ R n / 2 = x)
    (K : ∀ (r : Bool) V' TR' t', cs_TI N C V' TR' t' → cs_ZE N V TR t V' TR' t' → cs_Re N (cs_gv I L R) Q r V' → (r = true → ∀ n, I < n → n < N → C n = true → cs_D L R V' TR' (h + 1) t' n) → post (cs_bi r) ((nI I), gl, ou, (nI T), sd, (nI E), pw, sv, sw, sp, (nI N), (nI t'), (cs_n GS), (cs_n GK), (cs_n OP), (cs_o O), (cs_n RP), (cs_b RC), (cs_n L), (cs_n R), sg, iw, (cs_n BH), (cs_n BN), (cs_n FH), (cs_n FN), (cs_n NL), (cs_n NM), (cs_v V'), (cs_b C), (cs_n TR'), (cs_n LI), (cs_n LT))) : wpX_implyUsers post ((nI I), gl, ou, (nI T), sd, (nI E), pw, sv, sw, sp, (nI N), (nI t), (cs_n GS), (cs_n GK), (cs_n OP), (cs_o O), (cs_n RP), (cs_b RC), (cs_n L), (cs_n R), sg, iw, (cs_n BH), (cs_n BN), (cs_n FH), (cs_n FN), (cs_n NL), (cs_n NM), (cs_v V), (cs_b C), (cs_n TR), (cs_n LI), (cs_n LT)) y := by
  subst hx
  refine And.intro (pk_in x 256 (by omega)) (nm_r (cs_rd x rfl) ⟨513, ?_⟩)
  have e := hF.1 x
  have hlt := cs_E_lt (I := I) (L := L) (R := R) (2 * N) x
  rw [e]
  refine cs_x_iu9 (x := x) hN hG hF hC hh K _ (cs_E I L R (2 * N) x) 0 ?_ ?_ ?_ V TR t hT cs_ZE_refl hS (fun n n1 n2 n3 => ?_)
  · omega
  · omega
  · exact hlt
  · rcases hD n n1 n2 n3 with d | d | d
    · exact Or.inl d
    · exact Or.inr (Or.inl ⟨cs_E_max _ _ (2 * n) (by omega) (by omega) (cs_ch_even.trans d), d⟩)
    · exact Or.inr (Or.inr ⟨cs_E_max _ _ (2 * n + 1) (by omega) (by omega) (cs_ch_odd.trans d), d⟩)
theorem cs_x_pr2 {post : Int32 → SX → Prop} {Q : Nat → Prop} {V0 : Nat → Option Bool} {TR0 : Nat → Nat} {t0 : Nat} (hN : N ≤ 256) (hG : cs_W I N L R) (hF : cs_F I N L R FH FN) (hC : cs_Cn I N L R C)
    (K : ∀ (r : Bool) V' TR' t', cs_TI N C V' TR' t' → cs_ZE N V0 TR0 t0 V' TR' t' → cs_Re N (cs_gv I L R) Q r V' → (r = true → ∀ n, I < n → n < N → C n = true → cs_Fw L R V' n) → post (cs_bi r) ((nI I), gl, ou, (nI T), sd, (nI E), pw, sv, sw, sp, (nI N), (nI t'), (cs_n GS), (cs_n GK), (cs_n OP), (cs_o O), (cs_n RP), (cs_b RC), (cs_n L), (cs_n R), sg, iw, (cs_n BH), (cs_n BN), (cs_n FH), (cs_n FN), (cs_n NL), (cs_n NM), (cs_v V'), (cs_b C), (cs_n TR'), (cs_n LI), (cs_n LT))) :
    ∀ f h, N < f + h → ∀ V TR t, h ≤ t → cs_TI N C V TR t → cs_ZE N V0 TR0 t0 V TR t → cs_So N (cs_gv I L R) Q V → (∀ n, I < n → n < N → C n = true → cs_D L R V TR h t n) →
    (wX_propagate_2 post f (nI h) (nI I) gl ou (nI T) sd (nI E) pw sv sw sp (nI N) (nI t) (cs_n GS) (cs_n GK) (cs_n OP) (cs_o O) (cs_n RP) (cs_b RC) (cs_n L) (cs_n R) sg iw (cs_n BH) (cs_n BN) (cs_n FH) (cs_n FN) (cs_n NL) (cs_n NM) (cs_v V) (cs_b C) (cs_n TR) (cs_n LI) (cs_n LT)) := by
  intro f
  induction f with
  | zero => intro h hf V TR t ht hT; have := cs_TI_le hT; omega
  | succ f ih =>
    intro h hf V TR t ht hT hZ hS hD
    have htN := cs_TI_le hT
    refine pk_le t h (fun q => ?_) (fun q => ?_) rfl rfl (by omega) (by omega)
    · refine K true V TR t hT hZ ⟨fun _ => hS, fun z => by cases z⟩ (fun _ n n1 n2 n3 => ?_)
      rcases hD n n1 n2 n3 with d | ⟨i, d1, d2, _⟩
      · exact d
      · omega
    · obtain ⟨b1, b2, b3⟩ := hT.2.1 h q
      refine br_f (nI_ge (b := 256) (by omega) (by omega)) (And.intro (pk_in h 256 (by omega)) (nm_r (cs_rd h rfl) ?_))
      have step : ∀ V1 TR1 t1, cs_TI N C V1 TR1 t1 → cs_ZE N V TR t V1 TR1 t1 → cs_So N (cs_gv I L R) Q V1 → (wX_propagate_42 post (wX_propagate_2 post f) (nI h) (nI (TR h)) (nI I) gl ou (nI T) sd (nI E) pw sv sw sp (nI N) (nI t1) (cs_n GS) (cs_n GK) (cs_n OP) (cs_o O) (cs_n RP) (cs_b RC) (cs_n L) (cs_n R) sg iw (cs_n BH) (cs_n BN) (cs_n FH) (cs_n FN) (cs_n NL) (cs_n NM) (cs_v V1) (cs_b C) (cs_n TR1) (cs_n LI) (cs_n LT)) := by
        intro V1 TR1 t1 c1 c2 c3
        refine cs_x_users (Q := Q) (h := h) (TR h) rfl hN b1 hG hF hC (by have := c2.1; omega) c1 c3 (fun n n1 n2 n3 => ?_) (fun r V' TR' t' a1 a2 a3 a4 => ?_)
        · obtain ⟨_, m1, _, m2⟩ := hG.2 n n1 n2
          rcases cs_D_ext c2 ht n2 (by omega) (by omega) (hD n n1 n2 n3) with d | ⟨i, d1, d2, d3⟩
          · exact Or.inl (Or.inl d)
          · by_cases e : i = h
            · subst e
              rw [c2.2.1 i q] at d3
              exact Or.inr (d3.elim (fun z => Or.inl z.symm) (fun z => Or.inr z.symm))
            · exact Or.inl (Or.inr ⟨i, by omega, d2, d3⟩)
        · have hZ' := cs_ZE_trans hZ (cs_ZE_trans c2 a2)
          cases r with
          | false => exact br_t rfl (K false V' TR' t' a1 hZ' a3 (fun z => by cases z))
          | true =>
            refine br_f (by decide) (nm_r (nI_1 h) ?_)
            exact ih (h + 1) (by omega) V' TR' t' (by have := c2.1; have := a2.1; omega) a1 hZ' (a3.1 rfl) (a4 rfl)
      refine pk_le (TR h) I (fun z => step V TR t hT cs_ZE_refl hS) (fun z => ?_) rfl rfl (by omega) (by have := hG.1; omega)
      have cc := hC.2 (TR h) z b1 b2
      refine cs_x_imply (Q := Q) (TR h) rfl hN hG z b1 b2 cc.1 cc.2 hT hS (fun r V' TR' t' a1 a2 a3 a4 => ?_)
      cases r with
      | false => exact br_t rfl (K false V' TR' t' a1 (cs_ZE_trans hZ a2) a3 (fun z => by cases z))
      | true => exact br_f (by decide) (step V' TR' t' a1 a2 (a3.1 rfl))
theorem cs_x_prop {post : Int32 → SX → Prop} {y : Int32} {Q : Nat → Prop} (h : Nat) (hy : y = nI h) (hN : N ≤ 256) (hG : cs_W I N L R) (hF : cs_F I N L R FH FN) (hC : cs_Cn I N L R C) (ht : h ≤ t) (hT : cs_TI N C V TR t) (hS : cs_So N (cs_gv I L R) Q V) (hD : ∀ n, I < n → n < N → C n = true → cs_D L R V TR h t n)
    (K : ∀ (r : Bool) V' TR' t', cs_TI N C V' TR' t' → cs_ZE N V TR t V' TR' t' → cs_Re N (cs_gv I L R) Q r V' → (r = true → ∀ n, I < n → n < N → C n = true → cs_Fw L R V' n) → post (cs_bi r) ((nI I), gl, ou, (nI T), sd, (nI E), pw, sv, sw, sp, (nI N), (nI t'), (cs_n GS), (cs_n GK), (cs_n OP), (cs_o O), (cs_n RP), (cs_b RC), (cs_n L), (cs_n R), sg, iw, (cs_n BH), (cs_n BN), (cs_n FH), (cs_n FN), (cs_n NL), (cs_n NM), (cs_v V'), (cs_b C), (cs_n TR'), (cs_n LI), (cs_n LT))) : wpX_propagate post ((nI I), gl, ou, (nI T), sd, (nI E), pw, sv, sw, sp, (nI N), (nI t), (cs_n GS), (cs_n GK), (cs_n OP), (cs_o O), (cs_n RP), (cs_b RC), (cs_n L), (cs_n R), sg, iw, (cs_n BH), (cs_n BN), (cs_n FH), (cs_n FN), (cs_n NL), (cs_n NM), (cs_v V), (cs_b C), (cs_n TR), (cs_n LI), (cs_n LT)) y := by
  subst hy
  exact ⟨N + 1, cs_x_pr2 hN hG hF hC K _ h (by omega) V TR t ht hT cs_ZE_refl hS hD⟩
/-! preparing -/
theorem cs_x_ps44 {post : SX → Prop} {root : Nat} (hN : N ≤ 256) (hG : cs_W I N L R) (hr : root < N) (K : ∀ C', cs_Cn I N L R C' → C' root = true → post ((nI I), gl, ou, (nI T), sd, (nI E), pw, sv, sw, sp, (nI N), (nI t), (cs_n GS), (cs_n GK), (cs_n OP), (cs_o O), (cs_n RP), (cs_b RC), (cs_n L), (cs_n R), sg, iw, (cs_n BH), (cs_n BN), (cs_n FH), (cs_n FN), (cs_n NL), (cs_n NM), (cs_v V), (cs_b C'), (cs_n TR), (cs_n LI), (cs_n LT))) :
    ∀ f k, k < f → k ≤ root → ∀ C, C root = true → (∀ n, n < N → C n = true → 1 ≤ n) → (∀ n, I < n → k < n → n < N → C n = true → C (L n / 2) = true ∧ C (R n / 2) = true) → (wX_prepareSearch_44 post (nI I) gl ou (nI T) sd (nI E) pw sv sw sp (nI N) (nI t) f (nI k) (cs_n GS) (cs_n GK) (cs_n OP) (cs_o O) (cs_n RP) (cs_b RC) (cs_n L) (cs_n R) sg iw (cs_n BH) (cs_n BN) (cs_n FH) (cs_n FN) (cs_n NL) (cs_n NM) (cs_v V) (cs_b C) (cs_n TR) (cs_n LI) (cs_n LT)) := by
  intro f
  induction f with
  | zero => intro k hk; omega
  | succ f ih =>
    intro k hk hkr C c0 c1 c2
    refine pk_le k I (fun q => K C ⟨c1, fun n n1 n2 n3 => c2 n n1 (by omega) n2 n3⟩ c0) (fun q => ?_) rfl rfl (by omega) (by have := hG.1; omega)
    obtain ⟨l0, l1, r0, r1⟩ := hG.2 k q (by omega)
    refine And.intro (pk_in k 256 (by omega)) (cs_bc (cs_rb k rfl) (fun z => ?_) (fun z => ?_))
    · refine nm_r (cs_m1 (by omega)) (ih (k - 1) (by omega) (by omega) C c0 c1 (fun n n1 n2 n3 n4 => ?_))
      by_cases e : n = k
      · subst e; rw [z] at n4; cases n4
      · exact c2 n n1 (by omega) n3 n4
    · have el : nI (L k) >>> ((1 : Int32) &&& 31) = nI (L k / 2) := cs_sh (by omega)
      have er : nI (R k) >>> ((1 : Int32) &&& 31) = nI (R k / 2) := cs_sh (by omega)
      have el2 : (cs_n L (nI k).toNatClampNeg) >>> ((1 : Int32) &&& 31) = nI (L k / 2) := by rw [cs_rd k rfl]; exact el
      have er2 : (cs_n R (nI k).toNatClampNeg) >>> ((1 : Int32) &&& 31) = nI (R k / 2) := by rw [cs_rd k rfl]; exact er
      refine And.intro (pk_in k 256 (by omega)) (And.intro (pk_in (L k / 2) 256 (by omega) el2) (nm_r (cs_wb (L k / 2) true el2 cs_vb1) ?_))
      refine And.intro (pk_in k 256 (by omega)) (And.intro (pk_in (R k / 2) 256 (by omega) er2) (nm_r (cs_wb (R k / 2) true er2 cs_vb1) ?_))
      have mono : ∀ j, C j = true → cs_up (cs_up C (L k / 2) true) (R k / 2) true j = true := fun j hj => by
        unfold cs_up
        split
        · rfl
        · split
          · rfl
          · exact hj
      have low : ∀ j, cs_up (cs_up C (L k / 2) true) (R k / 2) true j = true → C j = true ∨ j = L k / 2 ∨ j = R k / 2 := fun j hj => by
        unfold cs_up at hj
        split at hj
        · exact Or.inr (Or.inr ‹_›)
        · split at hj
          · exact Or.inr (Or.inl ‹_›)
          · exact Or.inl hj
      refine nm_r (cs_m1 (by omega)) (ih (k - 1) (by omega) (by omega) _ (mono root c0) (fun n n1 n2 => ?_) (fun n n1 n2 n3 n4 => ?_))
      · rcases low n n2 with w | w | w
        · exact c1 n n1 w
        · omega
        · omega
      · by_cases e : n = k
        · subst e
          refine ⟨?_, cs_us⟩
          unfold cs_up
          split
          · rfl
          · rw [if_pos rfl]
        · have w : C n = true := by
            rcases low n n4 with w | w | w
            · exact w
            · omega
            · omega
          have v := c2 n n1 (by omega) n3 w
          exact ⟨mono _ v.1, mono _ v.2⟩
theorem cs_x_ps7 {post : SX → Prop} {root : Nat} (hN : N ≤ 256) (hG : cs_W I N L R) (hr : root < N) (hr1 : 1 ≤ root) (K : ∀ V' C', (∀ n, n < N → V' n = none) → cs_Cn I N L R C' → C' root = true → post ((nI I), gl, ou, (nI T), sd, (nI E), pw, sv, sw, sp, (nI N), (nI t), (cs_n GS), (cs_n GK), (cs_n OP), (cs_o O), (cs_n RP), (cs_b RC), (cs_n L), (cs_n R), sg, iw, (cs_n BH), (cs_n BN), (cs_n FH), (cs_n FN), (cs_n NL), (cs_n NM), (cs_v V'), (cs_b C'), (cs_n TR), (cs_n LI), (cs_n LT))) :
    ∀ d k, k + d = N → ∀ f, d < f → ∀ V C, (∀ n, n < k → V n = none ∧ C n = false) → (wX_prepareSearch_7 post (nI root) (nI I) gl ou (nI T) sd (nI E) pw sv sw sp (nI N) (nI t) f (nI k) (cs_n GS) (cs_n GK) (cs_n OP) (cs_o O) (cs_n RP) (cs_b RC) (cs_n L) (cs_n R) sg iw (cs_n BH) (cs_n BN) (cs_n FH) (cs_n FN) (cs_n NL) (cs_n NM) (cs_v V) (cs_b C) (cs_n TR) (cs_n LI) (cs_n LT)) := by
  intro d
  induction d with
  | zero =>
    intro k hk f hf V C h
    obtain ⟨m, rfl⟩ : ∃ m, f = m + 1 := ⟨f - 1, by omega⟩
    obtain rfl : k = N := by omega
    refine br_t (nI_le (Nat.le_refl _) (by omega)) (And.intro (pk_in root 256 (by omega)) (nm_r (cs_wb root true rfl cs_vb1) ⟨root + 1, ?_⟩))
    refine cs_x_ps44 hN hG hr (fun C' a1 a2 => K V C' (fun n hn => (h n hn).1) a1 a2) _ root (by omega) (Nat.le_refl _) _ cs_us (fun n n1 n2 => ?_) (fun n n1 n2 n3 n4 => ?_)
    · by_cases e : n = root
      · omega
      · rw [cs_uo e, (h n n1).2] at n2; cases n2
    · rw [cs_uo (by omega), (h n n3).2] at n4; cases n4
  | succ d ih =>
    intro k hk f hf V C h
    obtain ⟨m, rfl⟩ : ∃ m, f = m + 1 := ⟨f - 1, by omega⟩
    refine br_f (nI_ge (by omega) (by omega)) (And.intro (pk_in k 256 (by omega)) (nm_r (cs_wv k none rfl rfl) (And.intro (pk_in k 256 (by omega)) (nm_r (cs_wb k false rfl cs_vb0) (nm_r (nI_1 k) ?_)))))
    refine ih (k + 1) (by omega) m (by omega) _ _ (fun n hn => ?_)
    by_cases e : n = k
    · subst e; exact ⟨cs_us, cs_us⟩
    · rw [cs_uo e, cs_uo e]; exact h n (by omega)
theorem cs_x_prep {post : SX → Prop} {y : Int32} (root : Nat) (hy : y = nI root) (hN : N ≤ 256) (hG : cs_W I N L R) (hr : root < N) (hr1 : 1 ≤ root) (K : ∀ V' C', (∀ n, n < N → V' n = none) → cs_Cn I N L R C' → C' root = true → post ((nI I), gl, ou, (nI T), sd, (nI E), pw, sv, sw, sp, (nI N), (nI 0), (cs_n GS), (cs_n GK), (cs_n OP), (cs_o O), (cs_n RP), (cs_b RC), (cs_n L), (cs_n R), sg, iw, (cs_n BH), (cs_n BN), (cs_n FH), (cs_n FN), (cs_n NL), (cs_n NM), (cs_v V'), (cs_b C'), (cs_n TR), (cs_n LI), (cs_n LT))) : wpX_prepareSearch post ((nI I), gl, ou, (nI T), sd, (nI E), pw, sv, sw, sp, (nI N), (nI t), (cs_n GS), (cs_n GK), (cs_n OP), (cs_o O), (cs_n RP), (cs_b RC), (cs_n L), (cs_n R), sg, iw, (cs_n BH), (cs_n BN), (cs_n FH), (cs_n FN), (cs_n NL), (cs_n NM), (cs_v V), (cs_b C), (cs_n TR), (cs_n LI), (cs_n LT)) y := by
  subst hy
  refine ⟨N + 1, ?_⟩
  exact cs_x_ps7 (t := 0) hN hG hr hr1 K N 0 (by omega) _ (by omega) V C (fun n hn => by omega)
/-! taking back -/
theorem cs_x_un7 {post : SX → Prop} {V0 : Nat → Option Bool} {tf s : Nat} (hN : N ≤ 256) (hs : 1 ≤ s) (K : ∀ V', cs_TI N C V' TR s → (∀ n, n < N → V' n = cs_rs V0 TR s n) → post ((nI I), gl, ou, (nI T), sd, (nI E), pw, sv, sw, sp, (nI N), (nI s), (cs_n GS), (cs_n GK), (cs_n OP), (cs_o O), (cs_n RP), (cs_b RC), (cs_n L), (cs_n R), sg, iw, (cs_n BH), (cs_n BN), (cs_n FH), (cs_n FN), (cs_n NL), (cs_n NM), (cs_v V'), (cs_b C), (cs_n TR), (cs_n LI), (cs_n LT))) :
    ∀ d u, s + d = u → ∀ f, d < f → ∀ V, cs_TI N C V TR u → (∀ n, n < N → V n = cs_rs V0 TR u n) → (wX_undo_7 post (nI s) (nI I) gl ou (nI T) sd (nI E) pw sv sw sp (nI N) (nI tf) f (nI (u - 1)) (cs_n GS) (cs_n GK) (cs_n OP) (cs_o O) (cs_n RP) (cs_b RC) (cs_n L) (cs_n R) sg iw (cs_n BH) (cs_n BN) (cs_n FH) (cs_n FN) (cs_n NL) (cs_n NM) (cs_v V) (cs_b C) (cs_n TR) (cs_n LI) (cs_n LT)) := by
  intro d
  induction d with
  | zero =>
    intro u hu f hf V hT hV
    obtain ⟨m, rfl⟩ : ∃ m, f = m + 1 := ⟨f - 1, by omega⟩
    obtain rfl : s = u := by omega
    have := cs_TI_le hT
    exact br_t (nI_lt (by omega) (by omega)) (K V hT hV)
  | succ d ih =>
    intro u hu f hf V hT hV
    obtain ⟨m, rfl⟩ : ∃ m, f = m + 1 := ⟨f - 1, by omega⟩
    obtain ⟨w, rfl⟩ : ∃ w, u = w + 1 := ⟨u - 1, by omega⟩
    have hle := cs_TI_le hT
    obtain ⟨b1, b2, b3⟩ := hT.2.1 w (by omega)
    rw [Nat.add_sub_cancel]
    have e1 : cs_n TR (nI w).toNatClampNeg = nI (TR w) := cs_rd w rfl
    refine br_f (nI_nlt (by omega) (by omega)) (And.intro (pk_in w 256 (by omega)) (And.intro (pk_in (TR w) 256 (by omega) e1) (nm_r (cs_wv (TR w) none e1 rfl) (nm_r (cs_m1 (by omega)) ?_))))
    refine ih w (by omega) m (by omega) _ (cs_TI_pop hT) (fun n hn => ?_)
    have v := hV n hn
    unfold cs_rs at v ⊢
    have einT : cs_inT TR (w + 1) n = (decide (TR w = n) || cs_inT TR w n) := rfl
    by_cases e : n = TR w
    · subst e
      rw [cs_us, if_neg]
      intro z
      obtain ⟨i, z1, z2⟩ := cs_inT_iff.1 z
      have := hT.2.2.2 i w (by omega) (by omega) z2
      omega
    · rw [cs_uo e, v, einT, decide_eq_false (fun z => e z.symm), Bool.false_or]
theorem cs_x_undo {post : SX → Prop} {y : Int32} (s : Nat) (hy : y = nI s) (hN : N ≤ 256) (hs : 1 ≤ s) (hst : s ≤ t) (hT : cs_TI N C V TR t) (K : ∀ V', cs_TI N C V' TR s → (∀ n, n < N → V' n = cs_rs V TR s n) → post ((nI I), gl, ou, (nI T), sd, (nI E), pw, sv, sw, sp, (nI N), (nI s), (cs_n GS), (cs_n GK), (cs_n OP), (cs_o O), (cs_n RP), (cs_b RC), (cs_n L), (cs_n R), sg, iw, (cs_n BH), (cs_n BN), (cs_n FH), (cs_n FN), (cs_n NL), (cs_n NM), (cs_v V'), (cs_b C), (cs_n TR), (cs_n LI), (cs_n LT))) : wpX_undo post ((nI I), gl, ou, (nI T), sd, (nI E), pw, sv, sw, sp, (nI N), (nI t), (cs_n GS), (cs_n GK), (cs_n OP), (cs_o O), (cs_n RP), (cs_b RC), (cs_n L), (cs_n R), sg, iw, (cs_n BH), (cs_n BN), (cs_n FH), (cs_n FN), (cs_n NL), (cs_n NM), (cs_v V), (cs_b C), (cs_n TR), (cs_n LI), (cs_n LT)) y := by
  subst hy
  have := cs_TI_le hT
  refine nm_r (cs_s1 (by omega)) ⟨t + 1, ?_⟩
  exact cs_x_un7 hN hs K (t - s) t (by omega) _ (by omega) V hT (fun n hn => (cs_rs_full hT hn).symm)
/-! the inputs -/
theorem cs_x_ho5 {post : Int32 → Prop} (hI : I ≤ 6) (K : ∀ r, r ≤ I → (r = 0 ∨ (C r = true ∧ V r = none)) → (∀ i, r < i → i ≤ I → C i = true → V i ≠ none) → post (nI r)) :
    ∀ f k, k < f → k ≤ I → (∀ i, k < i → i ≤ I → C i = true → V i ≠ none) → (wX_highestOpenInput_5 post (nI I) gl ou (nI T) sd (nI E) pw sv sw sp (nI N) (nI t) (cs_n GS) (cs_n GK) (cs_n OP) (cs_o O) (cs_n RP) (cs_b RC) (cs_n L) (cs_n R) sg iw (cs_n BH) (cs_n BN) (cs_n FH) (cs_n FN) (cs_n NL) (cs_n NM) (cs_v V) (cs_b C) (cs_n TR) (cs_n LI) (cs_n LT) f (nI k)) := by
  intro f
  induction f with
  | zero => intro k hk; omega
  | succ f ih =>
    intro k hk hkI h
    refine pk_le k 0 (fun q => ?_) (fun q => ?_) rfl rfl (by omega) (by omega)
    · obtain rfl : k = 0 := by omega
      exact K 0 (by omega) (Or.inl rfl) h
    · have nx : (C k = true → V k ≠ none) → (wX_highestOpenInput_5 post (nI I) gl ou (nI T) sd (nI E) pw sv sw sp (nI N) (nI t) (cs_n GS) (cs_n GK) (cs_n OP) (cs_o O) (cs_n RP) (cs_b RC) (cs_n L) (cs_n R) sg iw (cs_n BH) (cs_n BN) (cs_n FH) (cs_n FN) (cs_n NL) (cs_n NM) (cs_v V) (cs_b C) (cs_n TR) (cs_n LI) (cs_n LT) f (nI (k - 1))) := fun z => ih (k - 1) (by omega) (by omega) (fun i i1 i2 i3 => by
        by_cases e : i = k
        · subst e; exact z i3
        · exact h i (by omega) i2 i3)
      refine And.intro (pk_in k 256 (by omega)) (cs_bc (cs_rb k rfl) (fun z => nm_r (cs_m1 q) (nx fun w => by rw [z] at w; cases w)) (fun z => ?_))
      refine And.intro (pk_in k 256 (by omega)) ?_
      rw [cs_rv k rfl]
      refine br_c (fun w => K k hkI (Or.inr ⟨z, (cs_vi_eq0 _).1 w⟩) h) (fun w => nm_r (cs_m1 q) (nx fun _ w2 => w ((cs_vi_eq0 _).2 w2)))
theorem cs_x_hoi {post : Int32 → Prop} (hI : I ≤ 6) (K : ∀ r, r ≤ I → (r = 0 ∨ (C r = true ∧ V r = none)) → (∀ i, r < i → i ≤ I → C i = true → V i ≠ none) → post (nI r)) : wpX_highestOpenInput post ((nI I), gl, ou, (nI T), sd, (nI E), pw, sv, sw, sp, (nI N), (nI t), (cs_n GS), (cs_n GK), (cs_n OP), (cs_o O), (cs_n RP), (cs_b RC), (cs_n L), (cs_n R), sg, iw, (cs_n BH), (cs_n BN), (cs_n FH), (cs_n FN), (cs_n NL), (cs_n NM), (cs_v V), (cs_b C), (cs_n TR), (cs_n LI), (cs_n LT)) :=
  ⟨I + 1, cs_x_ho5 hI K _ I (by omega) (Nat.le_refl I) (fun i a b => by omega)⟩
theorem cs_or (a b : Nat) : nI a ||| nI b = nI (a ||| b) := by
  apply Int32.toBitVec_inj.1
  show BitVec.ofNat 32 a ||| BitVec.ofNat 32 b = BitVec.ofNat 32 (a ||| b)
  apply BitVec.eq_of_getLsbD_eq
  intro i hi
  simp [hi]
theorem cs_x_po4 {post : Int32 → Prop} (hI : I ≤ 6) (K : ∀ P, P < 2 ^ I → (∀ i, 1 ≤ i → i ≤ I → (P.testBit (i - 1) = true ↔ V i = some true)) → post (nI P)) :
    ∀ d k, k + d = I + 1 → 1 ≤ k → ∀ f, d < f → ∀ P, P < 2 ^ (k - 1) → (∀ i, 1 ≤ i → i < k → (P.testBit (i - 1) = true ↔ V i = some true)) → (wX_patternOfInputs_4 post (nI I) gl ou (nI T) sd (nI E) pw sv sw sp (nI N) (nI t) (cs_n GS) (cs_n GK) (cs_n OP) (cs_o O) (cs_n RP) (cs_b RC) (cs_n L) (cs_n R) sg iw (cs_n BH) (cs_n BN) (cs_n FH) (cs_n FN) (cs_n NL) (cs_n NM) (cs_v V) (cs_b C) (cs_n TR) (cs_n LI) (cs_n LT) f (nI P) (nI k)) := by
  intro d
  induction d with
  | zero =>
    intro k hk h1 f hf P hP h
    obtain ⟨m, rfl⟩ : ∃ m, f = m + 1 := ⟨f - 1, by omega⟩
    obtain rfl : k = I + 1 := by omega
    exact br_t (nI_lt (by omega) (by omega)) (K P hP (fun i a b => h i a (by omega)))
  | succ d ih =>
    intro k hk h1 f hf P hP h
    obtain ⟨m, rfl⟩ : ∃ m, f = m + 1 := ⟨f - 1, by omega⟩
    obtain ⟨j, rfl⟩ : ∃ j, k = j + 1 := ⟨k - 1, by omega⟩
    rw [Nat.add_sub_cancel] at hP
    have hb : P.testBit j = false := Nat.testBit_lt_two_pow hP
    refine br_f (nI_nlt (by omega) (by omega)) (And.intro (pk_in (j + 1) 256 (by omega)) ?_)
    rw [cs_rv (j + 1) rfl]
    refine br_c (fun z => ?_) (fun z => ?_)
    · have z1 := (cs_vi_le0 _).1 z
      refine nm_r (nI_1 _) (ih (j + 1 + 1) (by omega) (by omega) m (by omega) P (Nat.lt_trans hP (wb_lt2 (by omega))) (fun i a b => ?_))
      by_cases e : i = j + 1
      · subst e
        rw [Nat.add_sub_cancel, hb]
        exact ⟨fun w => (by cases w), fun w => absurd w z1⟩
      · exact h i a (by omega)
    · have z1 : V (j + 1) = some true := Classical.byContradiction fun q => z ((cs_vi_le0 _).2 q)
      have e0 : nI P ||| ((1 : Int32) <<< ((nI (j + 1) - 1) &&& 31)) = nI (P ||| 2 ^ j) := by
        rw [nI_pred, cs_pn (by omega), cs_or]
      refine nm_r e0 (nm_r (nI_1 _) (ih (j + 1 + 1) (by omega) (by omega) m (by omega) _ ?_ (fun i a b => ?_)))
      · exact Nat.or_lt_two_pow (Nat.lt_trans hP (wb_lt2 (by omega))) (wb_lt2 (by omega))
      · rw [Nat.testBit_or, Nat.testBit_two_pow]
        by_cases e : i = j + 1
        · subst e
          rw [Nat.add_sub_cancel]
          simp [z1]
        · rw [decide_eq_false (by omega), Bool.or_false]
          exact h i a (by omega)
theorem cs_x_poi {post : Int32 → Prop} (hI : I ≤ 6) (K : ∀ P, P < 2 ^ I → (∀ i, 1 ≤ i → i ≤ I → (P.testBit (i - 1) = true ↔ V i = some true)) → post (nI P)) : wpX_patternOfInputs post ((nI I), gl, ou, (nI T), sd, (nI E), pw, sv, sw, sp, (nI N), (nI t), (cs_n GS), (cs_n GK), (cs_n OP), (cs_o O), (cs_n RP), (cs_b RC), (cs_n L), (cs_n R), sg, iw, (cs_n BH), (cs_n BN), (cs_n FH), (cs_n FN), (cs_n NL), (cs_n NM), (cs_v V), (cs_b C), (cs_n TR), (cs_n LI), (cs_n LT)) :=
  ⟨I + 1, cs_x_po4 hI K I 1 (by omega) (by omega) _ (by omega) 0 (by decide) (fun i a b => by omega)⟩
end
end
section
/-! the levels of the search -/
def cs_w (i : Nat) : Nat := 3 * 2 ^ i - 2
theorem cs_w_s (i : Nat) : cs_w (i + 1) = 2 * cs_w i + 2 := by
  unfold cs_w
  have : 0 < 2 ^ i := Nat.pos_of_ne_zero (by simp)
  rw [Nat.pow_succ]
  omega
theorem cs_w_mono {i j : Nat} (h : i ≤ j) : cs_w i ≤ cs_w j := by
  unfold cs_w
  have := Nat.pow_le_pow_right (n := 2) (by omega) h
  omega
def cs_pot (LI : Nat → Nat) : Nat → Nat
  | 0 => 0
  | k + 1 => cs_pot LI k + (cs_w (LI k - 1) + 1)
theorem cs_pot_congr {LI LI' : Nat → Nat} {k : Nat} (h : ∀ j, j < k → LI' j = LI j) : cs_pot LI' k = cs_pot LI k := by
  induction k with
  | zero => rfl
  | succ k ih =>
    show cs_pot LI' k + _ = cs_pot LI k + _
    rw [ih fun j hj => h j (by omega), h k (by omega)]
def cs_Qd (gv : Nat → Nat → Bool) (a : Nat) (LI : Nat → Nat) (j p : Nat) : Prop := cs_lv (gv p) a = true ∧ ∀ m, m < j → gv p (LI m) = false
theorem cs_Qd_congr {gv : Nat → Nat → Bool} {a : Nat} {LI LI' : Nat → Nat} {j p : Nat} (h : ∀ m, m < j → LI' m = LI m) (q : cs_Qd gv a LI' j p) : cs_Qd gv a LI j p :=
  ⟨q.1, fun m hm => by rw [← h m hm]; exact q.2 m hm⟩
theorem cs_So_sub {N : Nat} {gv : Nat → Nat → Bool} {Q Q' : Nat → Prop} {V : Nat → Option Bool} (h : ∀ p, Q' p → Q p) (k : cs_So N gv Q V) : cs_So N gv Q' V := fun p hp => k p (h p hp)
theorem cs_So_congr {N : Nat} {gv : Nat → Nat → Bool} {Q : Nat → Prop} {V V' : Nat → Option Bool} (h : ∀ n, n < N → V' n = V n) (k : cs_So N gv Q V) : cs_So N gv Q V' := fun p hp n hn b e => k p hp n hn b (by rw [← h n hn]; exact e)
def cs_L1 (I : Nat) (C : Nat → Bool) (LI LT : Nat → Nat) (V : Nat → Option Bool) (TR : Nat → Nat) (t j : Nat) : Prop := (1 ≤ LI j ∧ LI j + j ≤ I ∧ C (LI j) = true) ∧ (1 ≤ LT j ∧ LT j < t ∧ TR (LT j) = LI j ∧ V (LI j) = some false)
def cs_L2 (I N : Nat) (L R : Nat → Nat) (C : Nat → Bool) (gv : Nat → Nat → Bool) (a : Nat) (LI : Nat → Nat) (A : Nat → Option Bool) (j : Nat) : Prop :=
  cs_So N gv (cs_Qd gv a LI j) A ∧ (∀ n, I < n → n < N → C n = true → cs_Fw L R A n) ∧ (∀ i, LI j < i → i ≤ I → C i = true → A i ≠ none) ∧ A (LI j) = none
def cs_LV (I N : Nat) (L R : Nat → Nat) (C : Nat → Bool) (gv : Nat → Nat → Bool) (a k : Nat) (LI LT : Nat → Nat) (A : Nat → Nat → Option Bool) (V : Nat → Option Bool) (TR : Nat → Nat) (t : Nat) : Prop :=
  (∀ j, j < k → cs_L1 I C LI LT V TR t j ∧ cs_L2 I N L R C gv a LI (A j) j ∧ ∀ n, n < N → A j n = cs_rs V TR (LT j) n) ∧ (∀ j, j + 1 < k → LI (j + 1) < LI j ∧ LT j < LT (j + 1))
section
variable {I N a k t t' : Nat} {L R LI LT TR TR' : Nat → Nat} {C : Nat → Bool} {gv : Nat → Nat → Bool} {A : Nat → Nat → Option Bool} {V V' : Nat → Option Bool}
theorem cs_LV_ext (hI : I < N) (hT : cs_TI N C V TR t) (hE : cs_ZE N V TR t V' TR' t') (h : cs_LV I N L R C gv a k LI LT A V TR t) : cs_LV I N L R C gv a k LI LT A V' TR' t' := by
  refine ⟨fun j hj => ?_, h.2⟩
  obtain ⟨⟨a1, b1, b2, b3, b4⟩, c, d⟩ := h.1 j hj
  refine ⟨⟨a1, b1, by have := hE.1; omega, by rw [hE.2.1 _ b2]; exact b3, ?_⟩, c, fun n hn => by rw [d n hn, cs_rs_ext hT hE (by omega) hn]⟩
  rw [hE.2.2.1 _ (by omega) (by rw [b4]; simp)]
  exact b4
theorem cs_LV_lt (h : cs_LV I N L R C gv a k LI LT A V TR t) : ∀ d j, j + d + 1 < k → LT j < LT (j + d + 1) := by
  intro d
  induction d with
  | zero => intro j hj; exact (h.2 j hj).2
  | succ d ih =>
    intro j hj
    have a := ih j (by omega)
    have b := (h.2 (j + d + 1) (by omega)).2
    exact Nat.lt_trans a b
theorem cs_LV_undo (hI : I < N) (h : cs_LV I N L R C gv a (k + 1) LI LT A V TR t) (hV : ∀ n, n < N → V' n = cs_rs V TR (LT k) n) : cs_LV I N L R C gv a k LI LT A V' TR (LT k) := by
  refine ⟨fun j hj => ?_, fun j hj => h.2 j (by omega)⟩
  obtain ⟨⟨a1, b1, b2, b3, b4⟩, c, d⟩ := h.1 j (by omega)
  have hlt : LT j < LT k := by
    have := cs_LV_lt h (k - j - 1) j (by omega)
    rw [show j + (k - j - 1) + 1 = k by omega] at this
    exact this
  refine ⟨⟨a1, b1, hlt, b3, ?_⟩, c, fun n hn => by rw [d n hn, cs_rs_rs (by omega) (hV n hn)]⟩
  rw [hV _ (by omega)]
  unfold cs_rs
  rw [if_pos (cs_inT_iff.2 ⟨LT j, hlt, b3⟩)]
  exact b4
theorem cs_LV_push {r : Nat} (hI : I < N) (hT : cs_TI N C V TR t) (h : cs_LV I N L R C gv a k LI LT A V TR t) (ht : 1 ≤ t) (r1 : 1 ≤ r) (r2 : r ≤ I) (r3 : k = 0 ∨ r < LI (k - 1)) (hc : C r = true) (hv : V r = none)
    (hS : cs_So N gv (cs_Qd gv a LI k) V) (hF : ∀ n, I < n → n < N → C n = true → cs_Fw L R V n) (hi : ∀ i, r < i → i ≤ I → C i = true → V i ≠ none) :
    cs_LV I N L R C gv a (k + 1) (cs_up LI k r) (cs_up LT k t) (cs_up A k V) (cs_up V r (some false)) (cs_up TR t r) (t + 1) := by
  have hE : cs_ZE N V TR t (cs_up V r (some false)) (cs_up TR t r) (t + 1) := cs_ZE_push hv
  have h' := cs_LV_ext hI hT hE h
  have sub : ∀ j, j ≤ k → ∀ p, cs_Qd gv a (cs_up LI k r) j p → cs_Qd gv a LI j p := fun j hj p q => cs_Qd_congr (fun m hm => cs_uo (by omega)) q
  refine ⟨fun j hj => ?_, fun j hj => ?_⟩
  · by_cases e : j = k
    · subst e
      refine ⟨⟨?_, ?_⟩, ⟨?_, ?_, ?_, ?_⟩, ?_⟩
      · rw [cs_us]
        refine ⟨r1, ?_, hc⟩
        rcases r3 with z | z
        · omega
        · by_cases j0 : j = 0
          · omega
          · have := (h.1 (j - 1) (by omega)).1.1.2.1
            omega
      · rw [cs_us, cs_us, cs_us]
        exact ⟨ht, by omega, rfl, cs_us⟩
      · rw [cs_us]
        exact cs_So_sub (sub j (Nat.le_refl j)) hS
      · rw [cs_us]; exact hF
      · rw [cs_us, cs_us]; exact hi
      · rw [cs_us, cs_us]; exact hv
      · intro n hn
        rw [cs_us, cs_us, cs_rs_ext hT hE (Nat.le_refl t) hn, cs_rs_full hT hn]
    · obtain ⟨⟨a1, b1⟩, ⟨c1, c2⟩, d⟩ := h'.1 j (by omega)
      have e1 : cs_up LI k r j = LI j := cs_uo e
      have e2 : cs_up LT k t j = LT j := cs_uo e
      have e3 : cs_up A k V j = A j := cs_uo e
      refine ⟨⟨?_, ?_⟩, ⟨?_, ?_⟩, ?_⟩
      · rw [e1]; exact a1
      · rw [e1, e2]; exact b1
      · rw [e3]; exact cs_So_sub (sub j (by omega)) c1
      · rw [e1, e3]; exact c2
      · rw [e2, e3]; exact d
  · rw [cs_uo (show j ≠ k by omega), cs_uo (show j ≠ k by omega)]
    by_cases e : j + 1 = k
    · rw [e, cs_us, cs_us]
      have q := (h.1 j (by omega)).1.2.2.1
      rcases r3 with z | z
      · omega
      · rw [show k - 1 = j by omega] at z
        exact ⟨z, q⟩
    · rw [cs_uo e, cs_uo e]
      exact h.2 j (by omega)
end
section
variable {I N a k t : Nat} {L R LI LT TR : Nat → Nat} {C : Nat → Bool} {A : Nat → Nat → Option Bool} {V : Nat → Option Bool}
/-- all inputs of the cone are set: the values are those under the pattern -/
theorem cs_eval {P : Nat} (hW : cs_W I N L R) (hC : cs_Cn I N L R C) (hF : ∀ n, I < n → n < N → C n = true → cs_Fw L R V n) (hi : ∀ i, 1 ≤ i → i ≤ I → C i = true → V i ≠ none) (hP : ∀ i, 1 ≤ i → i ≤ I → (P.testBit (i - 1) = true ↔ V i = some true)) :
    ∀ n, n < N → C n = true → V n = some (cs_gv I L R P n) := by
  intro n
  induction n using Nat.strongRecOn with
  | ind n ih =>
    intro hn hc
    have h1 := hC.1 n hn hc
    by_cases e : n ≤ I
    · rw [cs_gv_i h1 e]
      have q := hP n h1 e
      cases v : V n with
      | none => exact absurd v (hi n h1 e hc)
      | some b =>
        cases b with
        | true => rw [q.2 v]
        | false =>
          cases z : P.testBit (n - 1) with
          | true => have w := q.1 z; rw [v] at w; cases w
          | false => rfl
    · have hI : I < n := by omega
      obtain ⟨_, l1, _, r1⟩ := hW.2 n hI hn
      have cc := hC.2 n hI hn hc
      have vl := cs_lo_some (a := L n) (h := cs_gv I L R P) (ih _ (by omega) (by omega) cc.1)
      have vr := cs_lo_some (a := R n) (h := cs_gv I L R P) (ih _ (by omega) (by omega) cc.2)
      have f := hF n hI hn hc
      rw [cs_gv_a hI (by omega) (by omega)]
      cases x : cs_lv (cs_gv I L R P) (L n) with
      | false => rw [x] at vl; rw [Bool.false_and]; exact f.1 (Or.inl vl)
      | true =>
        cases y : cs_lv (cs_gv I L R P) (R n) with
        | false => rw [y] at vr; rw [Bool.and_false]; exact f.1 (Or.inr vr)
        | true => rw [x] at vl; rw [y] at vr; exact f.2 vl vr
/-- no solution lies below: q is 0 where P is 1, and they agree above -/
theorem cs_no_low {P q i : Nat} (hI : I < N) (hLV : cs_LV I N L R C (cs_gv I L R) a k LI LT A V TR t) (hT : cs_TI N C V TR t) (hS : cs_So N (cs_gv I L R) (cs_Qd (cs_gv I L R) a LI k) V) (hP : ∀ i, 1 ≤ i → i ≤ I → (P.testBit (i - 1) = true ↔ V i = some true))
    (hq : cs_lv (cs_gv I L R q) a = true) (hi : i < I) (p1 : P.testBit i = true) (q0 : q.testBit i = false) (hag : ∀ j, i < j → j < I → q.testBit j = P.testBit j) : False := by
  have vi : V (i + 1) = some true := (hP (i + 1) (by omega) (by omega)).1 p1
  have gi : cs_gv I L R q (i + 1) = false := by rw [cs_gv_i (by omega) (by omega)]; exact q0
  have ci : C (i + 1) = true := by
    obtain ⟨j, j1, j2⟩ := hT.2.2.1 (i + 1) (by omega) (by rw [vi]; simp)
    have := (hT.2.1 j j1).2.1
    rw [j2] at this; exact this
  by_cases all : ∃ m, m < k ∧ cs_gv I L R q (LI m) = true
  · obtain ⟨m, ⟨m1, m2⟩, m3⟩ := pk_least _ all
    obtain ⟨⟨⟨a1, a2, a3⟩, b1, b2, b3, b4⟩, ⟨c1, c2, c3, c4⟩, d⟩ := hLV.1 m m1
    have hQ : cs_Qd (cs_gv I L R) a LI m q := ⟨hq, fun j hj => by
      cases z : cs_gv I L R q (LI j) with
      | false => rfl
      | true => exact absurd ⟨by omega, z⟩ (m3 j hj)⟩
    rcases Nat.lt_trichotomy (i + 1) (LI m) with o | o | o
    · have e1 : cs_gv I L R q (LI m) = q.testBit (LI m - 1) := cs_gv_i a1 (by omega)
      have e2 := hag (LI m - 1) (by omega) (by omega)
      rw [← e1, m2] at e2
      have e3 := (hP (LI m) a1 (by omega)).1 e2.symm
      rw [b4] at e3; cases e3
    · rw [← o, gi] at m2; cases m2
    · have e1 := c3 (i + 1) o (by omega) ci
      have e2 := d (i + 1) (by omega)
      unfold cs_rs at e2
      split at e2
      · rw [vi] at e2
        have e3 := c1 q hQ (i + 1) (by omega) _ e2
        rw [gi] at e3; cases e3
      · exact e1 e2
  · have hQ : cs_Qd (cs_gv I L R) a LI k q := ⟨hq, fun j hj => by
      cases z : cs_gv I L R q (LI j) with
      | false => rfl
      | true => exact absurd ⟨j, hj, z⟩ all⟩
    have e3 := hS q hQ (i + 1) (by omega) _ vi
    rw [gi] at e3; cases e3
theorem cs_least {P : Nat} (hI6 : I ≤ 6) (ha : a < 2 * N) (hW : cs_W I N L R) (hC : cs_Cn I N L R C) (hca : C (a / 2) = true) (hLV : cs_LV I N L R C (cs_gv I L R) a k LI LT A V TR t) (hT : cs_TI N C V TR t) (hS : cs_So N (cs_gv I L R) (cs_Qd (cs_gv I L R) a LI k) V)
    (hF : ∀ n, I < n → n < N → C n = true → cs_Fw L R V n) (hi : ∀ i, 1 ≤ i → i ≤ I → C i = true → V i ≠ none) (hlo : cs_lo V a = some true) (hP2 : P < 2 ^ I) (hP : ∀ i, 1 ≤ i → i ≤ I → (P.testBit (i - 1) = true ↔ V i = some true)) :
    cs_Lst (2 ^ I) (fun p => cs_lv (cs_gv I L R p) a) (some P) := by
  refine ⟨hP2, ?_, fun q hq => ?_⟩
  · have e := cs_eval hW hC hF hi hP (a / 2) (by omega) hca
    have e2 := cs_lo_some (a := a) (h := cs_gv I L R P) e
    rw [hlo] at e2
    injection e2 with e3
    exact e3.symm
  · cases z : cs_lv (cs_gv I L R q) a with
    | false => exact z
    | true =>
      exfalso
      have agree : ∀ d i, i + d = I → ∀ j, i ≤ j → j < I → q.testBit j = P.testBit j := by
        intro d
        induction d with
        | zero => intro i hi j h1 h2; omega
        | succ d ih =>
          intro i hi j h1 h2
          have up := ih (i + 1) (by omega)
          by_cases e : j = i
          · subst e
            cases x : P.testBit j with
            | true =>
              cases y : q.testBit j with
              | true => rfl
              | false => exact (cs_no_low hW.1 hLV hT hS hP z h2 x y (fun l l1 l2 => up l (by omega) l2)).elim
            | false =>
              cases y : q.testBit j with
              | false => rfl
              | true =>
                have lt : P < q := cs_lt_bit x y (fun l hl => by
                  by_cases l2 : l < I
                  · exact (up l (by omega) l2).symm
                  · have b1 : P.testBit l = false := Nat.testBit_lt_two_pow (Nat.lt_of_lt_of_le hP2 (Nat.pow_le_pow_right (by omega) (by omega)))
                    have b2 : q.testBit l = false := Nat.testBit_lt_two_pow (Nat.lt_of_lt_of_le (Nat.lt_trans hq hP2) (Nat.pow_le_pow_right (by omega) (by omega)))
                    rw [b1, b2])
                omega
          · exact up j (by omega) h2
      have eq : q = P := Nat.eq_of_testBit_eq fun j => by
        by_cases l2 : j < I
        · exact agree I 0 (by omega) j (by omega) l2
        · have b1 : P.testBit j = false := Nat.testBit_lt_two_pow (Nat.lt_of_lt_of_le hP2 (Nat.pow_le_pow_right (by omega) (by omega)))
          have b2 : q.testBit j = false := Nat.testBit_lt_two_pow (Nat.lt_of_lt_of_le (Nat.lt_trans hq hP2) (Nat.pow_le_pow_right (by omega) (by omega)))
          rw [b1, b2]
      omega
end
end
section
section
variable {I T E N t PN : Nat} {gl ou sd sv sw sp : Int32} {pw : Int64} {GS GK OP RP L R BH BN FH FN NL NM TR LI LT : Nat → Nat} {O : Nat → Option Nat} {V : Nat → Option Bool} {C RC S lw : Nat → Bool} {sg iw : Nat → Int64} {tb : Nat → Int32}
theorem cs_bi_nz : ¬ cs_bi true = 0 := by decide
theorem cs_D_push {x : Nat} {b : Bool} (hW : cs_W I N L R) (hv : V x = none) (hFw : ∀ n, I < n → n < N → C n = true → cs_Fw L R V n) : ∀ n, I < n → n < N → C n = true → cs_D L R (cs_up V x (some b)) (cs_up TR t x) t (t + 1) n := by
  intro n n1 n2 n3
  obtain ⟨_, l1, _, r1⟩ := hW.2 n n1 n2
  have hE : cs_ZE N V TR t (cs_up V x (some b)) (cs_up TR t x) (t + 1) := cs_ZE_push hv
  exact cs_D_ext hE (Nat.le_refl t) n2 (by omega) (by omega) (Or.inl (hFw n n1 n2 n3))
def cs_SI (I N : Nat) (L R : Nat → Nat) (C : Nat → Bool) (a k s : Nat) (c : Bool) (LI LT : Nat → Nat) (A : Nat → Nat → Option Bool) (V : Nat → Option Bool) (TR : Nat → Nat) (t : Nat) : Prop :=
  cs_TI N C V TR t ∧ cs_LV I N L R C (cs_gv I L R) a k LI LT A V TR t ∧ (1 ≤ t ∧ TR 0 = a / 2 ∧ cs_lo V a = some true) ∧
  (c = true → cs_So N (cs_gv I L R) (cs_Qd (cs_gv I L R) a LI k) V ∧ (∀ n, I < n → n < N → C n = true → cs_Fw L R V n) ∧ ∃ B, B ≤ I ∧ (∀ i, B < i → i ≤ I → C i = true → V i ≠ none) ∧ (k = 0 ∨ B < LI (k - 1)) ∧ s + cs_pot LI k + cs_w B ≤ 190) ∧
  (c = false → (∀ p, ¬ cs_Qd (cs_gv I L R) a LI k p) ∧ s + cs_pot LI k ≤ 190)
theorem cs_SI_lt {a k s : Nat} {c : Bool} {A : Nat → Nat → Option Bool} (h : cs_SI I N L R C a k s c LI LT A V TR t) : s ≤ 190 := by
  obtain ⟨_, _, _, h1, h2⟩ := h
  cases c with
  | true => obtain ⟨_, _, B, _, _, _, e⟩ := h1 rfl; omega
  | false => have := (h2 rfl).2; omega
theorem cs_x_se37 {post : Int32 → SX → Prop} (a : Nat) (ha : a < 2 * N) (hI1 : 1 ≤ I) (hI : I ≤ 6) (hN : N ≤ 256) (hW : cs_W I N L R) (hF : cs_F I N L R FH FN) (hC : cs_Cn I N L R C) (hca : C (a / 2) = true)
    (K : ∀ (o : Option Nat) t V TR LI LT, cs_Lst (2 ^ I) (fun p => cs_lv (cs_gv I L R p) a) o → post (cs_oi o) ((nI I), gl, ou, (nI T), sd, (nI E), pw, sv, sw, sp, (nI N), (nI t), (cs_n GS), (cs_n GK), (cs_n OP), (cs_o O), (cs_n RP), (cs_b RC), (cs_n L), (cs_n R), sg, iw, (cs_n BH), (cs_n BN), (cs_n FH), (cs_n FN), (cs_n NL), (cs_n NM), (cs_v V), (cs_b C), (cs_n TR), (cs_n LI), (cs_n LT))) :
    ∀ f s k c, 190 < s + f → ∀ V TR t LI LT A, cs_SI I N L R C a k s c LI LT A V TR t → (wX_search_37 post f (nI k) (cs_bi c) (nI s) (nI I) gl ou (nI T) sd (nI E) pw sv sw sp (nI N) (nI t) (cs_n GS) (cs_n GK) (cs_n OP) (cs_o O) (cs_n RP) (cs_b RC) (cs_n L) (cs_n R) sg iw (cs_n BH) (cs_n BN) (cs_n FH) (cs_n FN) (cs_n NL) (cs_n NM) (cs_v V) (cs_b C) (cs_n TR) (cs_n LI) (cs_n LT)) := by
  intro f
  induction f with
  | zero => intro s k c hf V TR t LI LT A h; have := cs_SI_lt h; omega
  | succ f ih =>
    intro s k c hf V TR t LI LT A hSI
    have hs := cs_SI_lt hSI
    have hIN := hW.1
    obtain ⟨hT, hLV, ⟨t1, t2, t3⟩, h1, h2⟩ := hSI
    have hV0 : V (a / 2) ≠ none := fun z => by rw [cs_lo_none.2 z] at t3; cases t3
    refine br_f (nI_ge (b := 256) (by omega) (by omega)) ?_
    refine cs_bc rfl (fun c0 => ?_) (fun c1 => ?_)
    · obtain ⟨q1, q2⟩ := h2 c0
      refine pk_eq k 0 (fun e => ?_) (fun e => ?_) rfl rfl (by
        by_cases k0 : k = 0
        · omega
        · have := (hLV.1 (k - 1) (by omega)).1.1.2.1
          omega) (by omega)
      · subst e
        exact K none t V TR LI LT (fun p _ => by
          cases z : cs_lv (cs_gv I L R p) a with
          | false => exact z
          | true => exact absurd ⟨z, fun m hm => by omega⟩ (q1 p))
      · obtain ⟨j, rfl⟩ : ∃ j, k = j + 1 := ⟨k - 1, by omega⟩
        obtain ⟨⟨⟨a1, a2, a3⟩, b1, b2, b3, b4⟩, ⟨c1, c2, c3, c4⟩, d⟩ := hLV.1 j (by omega)
        have htN := cs_TI_le hT
        refine nm_r (pk_m1 j) (And.intro (pk_in j 8 (by omega)) (nm_r (cs_rd j rfl) ?_))
        refine cs_x_undo (LT j) rfl hN b1 (by omega) hT (fun V1 u1 u2 => ?_)
        have hLV1 := cs_LV_undo hIN hLV u2
        have uA : ∀ n, n < N → V1 n = A j n := fun n hn => by rw [u2 n hn, d n hn]
        refine And.intro (pk_in j 8 (by omega)) ?_
        have e2 : 2 * (cs_n LI (nI j).toNatClampNeg) = nI (2 * LI j) := by rw [cs_rd j rfl, cs_2m]
        have e3 : 2 * LI j / 2 = LI j := by omega
        have hq : ∀ p, cs_Qd (cs_gv I L R) a LI j p → cs_gv I L R p (LI j) = true := fun p hp => by
          cases z : cs_gv I L R p (LI j) with
          | true => rfl
          | false => exact absurd ⟨hp.1, fun m hm => by
              by_cases e4 : m = j
              · subst e4; exact z
              · exact hp.2 m (by omega)⟩ (q1 p)
        have hSo : cs_So N (cs_gv I L R) (cs_Qd (cs_gv I L R) a LI j) V1 := cs_So_congr uA c1
        have hFw1 : ∀ n, I < n → n < N → C n = true → cs_Fw L R V1 n := fun n n1 n2 n3 => by
          obtain ⟨_, l1, _, r1⟩ := hW.2 n n1 n2
          exact cs_Fw_congr (uA _ (by omega)) (uA _ (by omega)) (fun _ => uA n n2) (c2 n n1 n2 n3)
        have hv1 : V1 (LI j) = none := by rw [uA _ (by omega)]; exact c4
        have ha1 : V1 (a / 2) = V (a / 2) := by
          rw [u2 _ (by omega)]
          unfold cs_rs
          rw [if_pos (cs_inT_iff.2 ⟨0, by omega, t2⟩)]
        have hv2 : V1 (2 * LI j / 2) = none := by rw [e3]; exact hv1
        refine cs_x_forceF (2 * LI j) e2 (by omega) (by omega) hv2 ?_
        refine cs_x_prop (Q := cs_Qd (cs_gv I L R) a LI j) (LT j) rfl hN hW hF hC (by omega) (cs_TI_push u1 (by omega) (by rw [e3]; exact a3) hv2) (cs_So_push hSo (fun p hp => by rw [cs_lv_even]; exact hq p hp)) (cs_D_push hW hv2 hFw1) (fun r V' TR' t' v1 v2 v3 v4 => ?_)
        rw [e3] at v2
        have hE1 : cs_ZE N V1 TR (LT j) V' TR' t' := cs_ZE_trans (cs_ZE_push hv1) v2
        have hset : V' (LI j) ≠ none := by
          have : cs_up V1 (LI j) (some (decide (2 * LI j % 2 = 0))) (LI j) ≠ none := by rw [cs_us]; simp
          rw [v2.2.2.1 (LI j) (by omega) this]
          exact this
        refine nm_r (nI_1 s) (ih (s + 1) j r (by omega) V' TR' t' LI LT A ⟨v1, cs_LV_ext hIN u1 hE1 hLV1, ⟨?_, ?_, ?_⟩, fun hr => ⟨v3.1 hr, v4 hr, LI j - 1, by omega, fun i i1 i2 i3 => ?_, ?_, ?_⟩, fun hr => ⟨v3.2 hr, ?_⟩⟩)
        · have := hE1.1; omega
        · rw [hE1.2.1 0 (by omega)]; exact t2
        · rw [← t3]
          apply cs_lo_congr
          rw [hE1.2.2.1 (a / 2) (by omega) (by rw [ha1]; exact hV0), ha1]
        · by_cases e4 : i = LI j
          · subst e4; exact hset
          · have z := c3 i (by omega) i2 i3
            rw [← uA i (by omega)] at z
            rw [hE1.2.2.1 i (by omega) z]
            exact z
        · by_cases j0 : j = 0
          · exact Or.inl j0
          · have z := (hLV.2 (j - 1) (by omega)).1
            rw [show j - 1 + 1 = j by omega] at z
            exact Or.inr (by omega)
        · have : cs_pot LI (j + 1) = cs_pot LI j + (cs_w (LI j - 1) + 1) := rfl
          omega
        · have : cs_pot LI (j + 1) = cs_pot LI j + (cs_w (LI j - 1) + 1) := rfl
          omega
    · obtain ⟨q1, q2, B, B1, B2, B3, B4⟩ := h1 c1
      refine cs_x_hoi hI (fun r r1 r2 r3 => ?_)
      refine pk_eq r 0 (fun e => ?_) (fun e => ?_) rfl rfl (by omega) (by omega)
      · subst e
        refine cs_x_poi hI (fun P p1 p2 => ?_)
        exact K (some P) t V TR LI LT (cs_least hI ha hW hC hca hLV hT q1 q2 (fun i i1 i2 i3 => r3 i (by omega) i2 i3) t3 p1 p2)
      · have r4 : C r = true ∧ V r = none := by
          rcases r2 with z | z
          · exact absurd z e
          · exact z
        have rB : r ≤ B := by
          by_cases z : r ≤ B
          · exact z
          · exact absurd r4.2 (B2 r (by omega) r1 r4.1)
        have k8 : k < 8 := by
          by_cases k0 : k = 0
          · omega
          · have := (hLV.1 (k - 1) (by omega)).1.1
            omega
        have r5 : k = 0 ∨ r < LI (k - 1) := by
          rcases B3 with z | z
          · exact Or.inl z
          · exact Or.inr (by omega)
        have e1 : 2 * nI r + 1 = nI (2 * r + 1) := by rw [cs_2m, nI_1]
        have e3 : (2 * r + 1) / 2 = r := by omega
        have e4 : decide ((2 * r + 1) % 2 = 0) = false := decide_eq_false (by omega)
        have htN := cs_TI_le hT
        have hLV2 := cs_LV_push hIN hT hLV t1 (by omega) r1 r5 r4.1 r4.2 q1 q2 r3
        refine And.intro (pk_in k 8 k8) (nm_r (cs_wr k r rfl rfl) (And.intro (pk_in k 8 k8) (nm_r (cs_wr k t rfl rfl) (nm_r (nI_1 k) ?_))))
        have sub : ∀ p, cs_Qd (cs_gv I L R) a (cs_up LI k r) (k + 1) p → cs_Qd (cs_gv I L R) a LI k p ∧ cs_gv I L R p r = false := fun p hp =>
          ⟨⟨hp.1, fun m hm => by have z := hp.2 m (by omega); rw [cs_uo (by omega)] at z; exact z⟩, by have z := hp.2 k (by omega); rw [cs_us] at z; exact z⟩
        have hv2 : V ((2 * r + 1) / 2) = none := by rw [e3]; exact r4.2
        have ht2 := cs_TI_lt hT (show r < N by omega) r4.2
        refine cs_x_forceF (2 * r + 1) e1 (by omega) (by omega) hv2 ?_
        refine cs_x_prop (Q := cs_Qd (cs_gv I L R) a (cs_up LI k r) (k + 1)) t rfl hN hW hF hC (by omega) (cs_TI_push hT (by omega) (by rw [e3]; exact r4.1) hv2) (cs_So_push (cs_So_sub (fun p hp => (sub p hp).1) q1) (fun p hp => by rw [cs_lv_odd, (sub p hp).2]; rfl)) (cs_D_push hW hv2 q2) (fun c' V' TR' t' v1 v2 v3 v4 => ?_)
        rw [e3, e4] at v2
        have hT2 : cs_TI N C (cs_up V r (some false)) (cs_up TR t r) (t + 1) := cs_TI_push hT (by omega) r4.1 r4.2
        have hE1 : cs_ZE N V TR t V' TR' t' := cs_ZE_trans (cs_ZE_push r4.2) v2
        have pc : cs_pot (cs_up LI k r) k = cs_pot LI k := cs_pot_congr fun j hj => cs_uo (by omega)
        have pp : cs_pot (cs_up LI k r) (k + 1) = cs_pot LI k + (cs_w (r - 1) + 1) := by
          show cs_pot (cs_up LI k r) k + (cs_w (cs_up LI k r k - 1) + 1) = _
          rw [pc, cs_us]
        have pw1 : cs_w r = 2 * cs_w (r - 1) + 2 := by
          have z := cs_w_s (r - 1)
          rw [show r - 1 + 1 = r by omega] at z
          exact z
        have pw2 : cs_w r ≤ cs_w B := cs_w_mono rB
        refine nm_r (nI_1 s) (ih (s + 1) (k + 1) c' (by omega) V' TR' t' _ _ _ ⟨v1, cs_LV_ext hIN hT2 v2 hLV2, ⟨?_, ?_, ?_⟩, fun hr => ⟨v3.1 hr, v4 hr, r - 1, by omega, fun i i1 i2 i3 => ?_, Or.inr ?_, ?_⟩, fun hr => ⟨v3.2 hr, ?_⟩⟩)
        · have := hE1.1; omega
        · rw [hE1.2.1 0 (by omega)]; exact t2
        · rw [← t3]
          apply cs_lo_congr
          rw [hE1.2.2.1 (a / 2) (by omega) hV0]
        · by_cases e5 : i = r
          · subst e5
            rw [v2.2.2.1 i (by omega) (by rw [cs_us]; simp), cs_us]; simp
          · have z := r3 i (by omega) i2 i3
            rw [hE1.2.2.1 i (by omega) z]
            exact z
        · rw [Nat.add_sub_cancel, cs_us]; omega
        · omega
        · omega
theorem cs_x_search {post : Int32 → SX → Prop} {x : Int32} (a : Nat) (hx : x = nI a) (ha : a < 2 * N) (hI1 : 1 ≤ I) (hI : I ≤ 6) (hN : N ≤ 256) (hW : cs_W I N L R) (hF : cs_F I N L R FH FN)
    (K : ∀ (o : Option Nat) t V C TR LI LT, cs_Lst (2 ^ I) (fun p => cs_lv (cs_gv I L R p) a) o → post (cs_oi o) ((nI I), gl, ou, (nI T), sd, (nI E), pw, sv, sw, sp, (nI N), (nI t), (cs_n GS), (cs_n GK), (cs_n OP), (cs_o O), (cs_n RP), (cs_b RC), (cs_n L), (cs_n R), sg, iw, (cs_n BH), (cs_n BN), (cs_n FH), (cs_n FN), (cs_n NL), (cs_n NM), (cs_v V), (cs_b C), (cs_n TR), (cs_n LI), (cs_n LT))) : wpX_search post ((nI I), gl, ou, (nI T), sd, (nI E), pw, sv, sw, sp, (nI N), (nI t), (cs_n GS), (cs_n GK), (cs_n OP), (cs_o O), (cs_n RP), (cs_b RC), (cs_n L), (cs_n R), sg, iw, (cs_n BH), (cs_n BN), (cs_n FH), (cs_n FN), (cs_n NL), (cs_n NM), (cs_v V), (cs_b C), (cs_n TR), (cs_n LI), (cs_n LT)) x := by
  subst hx
  refine pk_eq a 0 (fun e => ?_) (fun e => ?_) rfl rfl (by omega) (by omega)
  · subst e
    exact K none t V C TR LI LT (fun p _ => rfl)
  · refine pk_eq a 1 (fun e1 => ?_) (fun e1 => ?_) rfl rfl (by omega) (by omega)
    · subst e1
      exact K (some 0) t V C TR LI LT ⟨Nat.pos_of_ne_zero (by simp), rfl, fun p hp => by omega⟩
    · refine cs_x_prep (a / 2) (cs_sh (by omega)) hN hW (by omega) (by omega) (fun V0 C0 h1 h2 h3 => ?_)
      have hT : cs_TI N C0 V0 TR 0 := ⟨by
          have z : ∀ M, M ≤ N → cs_cnt V0 M = 0 := by
            intro M
            induction M with
            | zero => intro _; rfl
            | succ m ih => intro hm; show cs_cnt V0 m + _ = 0; rw [ih (by omega), if_pos (h1 m (by omega))]
          exact z N (Nat.le_refl N), fun i hi => by omega, fun n hn hv => absurd (h1 n hn) hv, fun i j hi => by omega⟩
      have hLV : ∀ A, cs_LV I N L R C0 (cs_gv I L R) a 0 LI LT A V0 TR 0 := fun A => ⟨fun j hj => by omega, fun j hj => by omega⟩
      have hSo : cs_So N (cs_gv I L R) (cs_Qd (cs_gv I L R) a LI 0) V0 := fun p _ n hn b e => by rw [h1 n hn] at e; cases e
      have hFw : ∀ n, I < n → n < N → C0 n = true → cs_Fw L R V0 n := fun n n1 n2 n3 => by
        obtain ⟨_, l1, _, r1⟩ := hW.2 n n1 n2
        unfold cs_Fw
        rw [cs_lo_none.2 (h1 _ (show L n / 2 < N by omega)), cs_lo_none.2 (h1 _ (show R n / 2 < N by omega))]
        exact ⟨fun z => (by rcases z with z | z <;> cases z), fun z => (by cases z)⟩
      have hv := h1 (a / 2) (by omega)
      refine cs_x_forceF a rfl (by omega) (by omega) hv ?_
      refine cs_x_prop (Q := cs_Qd (cs_gv I L R) a LI 0) 0 rfl hN hW hF h2 (by omega) (cs_TI_push hT (by omega) h3 hv) (cs_So_push hSo (fun p hp => hp.1)) (cs_D_push hW hv hFw) (fun r V' TR' t' v1 v2 v3 v4 => ?_)
      have hE : cs_ZE N V0 TR 0 V' TR' t' := cs_ZE_trans (cs_ZE_push hv) v2
      have hlo : cs_lo V' a = some true := by
        have z : cs_up V0 (a / 2) (some (decide (a % 2 = 0))) (a / 2) ≠ none := by rw [cs_us]; simp
        unfold cs_lo
        rw [v2.2.2.1 (a / 2) (by omega) z, cs_us]
        rcases Nat.mod_two_eq_zero_or_one a with m | m
        · rw [m]; rfl
        · rw [m]; rfl
      refine ⟨191, cs_x_se37 a ha hI1 hI hN hW hF h2 h3 (fun o t V TR LI LT h => K o t V C0 TR LI LT h) _ 0 0 r (by omega) V' TR' t' LI LT (fun _ _ => none) ⟨v1, cs_LV_ext hW.1 hT hE (hLV _), ⟨?_, ?_, hlo⟩, fun hr => ⟨v3.1 hr, v4 hr, I, Nat.le_refl I, fun i i1 i2 => by omega, Or.inl rfl, ?_⟩, fun hr => ⟨v3.2 hr, ?_⟩⟩⟩
      · have := v2.1; omega
      · rw [v2.2.1 0 (by omega), cs_us]
      · have z := cs_w_mono hI
        have z2 : cs_w 6 = 190 := by decide
        have z3 : cs_pot LI 0 = 0 := rfl
        omega
      · have z3 : cs_pot LI 0 = 0 := rfl
        omega
end
end
section
section
variable {I T E N t PN : Nat} {gl ou sd sv sw sp : Int32} {pw : Int64} {GS GK OP RP L R BH BN FH FN NL NM TR LI LT : Nat → Nat} {O : Nat → Option Nat} {V : Nat → Option Bool} {C RC S lw : Nat → Bool} {sg iw : Nat → Int64} {tb : Nat → Int32}
theorem cs_y_valid {post : Int32 → Prop} {x : Int32} (hT : T < 1000) (K0 : (∀ a, a < 2 * T → ¬ x = nI a) → post 0) (K1 : ∀ a, a < 2 * T → x = nI a → post 1) : wpY_valid post ((nI I), gl, ou, (nI PN), (nI T), sd, (nI E), sv, sw, sp, (cs_n GS), (cs_n GK), (cs_n OP), (cs_o O), (cs_b S), tb, (cs_b lw)) x := by
  refine br_c (fun h => K0 fun a ha e => ?_) (fun h => ?_)
  · subst e; exact nI_pos (by omega) h
  · obtain ⟨j, hj, rfl⟩ := nI_of h
    refine pk_le (2 * T) j (fun e => K0 fun a ha q => ?_) (fun e => K1 j e rfl) (cs_2m T) rfl (by omega) hj
    have := (nI_eq hj (by omega)).1 q
    omega
theorem cs_y_gate {post : Int32 → Prop} {x : Int32} (hT : T < 1000) (hI : I < 1000) (K0 : (∀ a, I < a → a < T → ¬ x = nI a) → post 0) (K1 : ∀ a, I < a → a < T → x = nI a → post 1) : wpY_isGate post ((nI I), gl, ou, (nI PN), (nI T), sd, (nI E), sv, sw, sp, (cs_n GS), (cs_n GK), (cs_n OP), (cs_o O), (cs_b S), tb, (cs_b lw)) x := by
  by_cases h : x < 0
  · refine br_t (Int32.le_trans (Int32.le_of_lt h) (nI_pos' (by omega))) (K0 fun a _ ha e => ?_)
    subst e; exact nI_pos (by omega) h
  · obtain ⟨j, hj, rfl⟩ := nI_of h
    refine pk_le j I (fun e => K0 fun a h1 h2 q => ?_) (fun e => ?_) rfl rfl hj (by omega)
    · have := (nI_eq hj (by omega)).1 q
      omega
    · refine pk_le T j (fun e2 => K0 fun a h1 h2 q => ?_) (fun e2 => K1 j e e2 rfl) rfl rfl (by omega) hj
      have := (nI_eq hj (by omega)).1 q
      omega
/-- the value of a literal, read from the table -/
theorem cs_y_value {post : Int32 → Prop} {x y : Int32} (a p : Nat) (b : Bool) (hx : x = nI a) (hy : y = nI p) (ha : a < 78) (hp : p < 64) (hb : tb (a / 2 * 64 + p) = cs_bi b) (K : post (cs_bi (b ^^ decide (a % 2 = 1)))) : wpY_value post ((nI I), gl, ou, (nI PN), (nI T), sd, (nI E), sv, sw, sp, (cs_n GS), (cs_n GK), (cs_n OP), (cs_o O), (cs_b S), tb, (cs_b lw)) x y := by
  subst hx hy
  have e1 : nI a / 2 * 64 + nI p = nI (a / 2 * 64 + p) := by rw [cs_dv (by omega), cs_m64, nI_add]
  refine And.intro cs_20 (And.intro (pk_in (a / 2 * 64 + p) 2496 (by omega) e1) (nm_r (e' := cs_bi b) (by rw [cs_ri (f := tb) (a / 2 * 64 + p) e1]; exact hb) (And.intro cs_20 ?_)))
  refine pk_eq (a % 2) 1 (fun e => ?_) (fun e => ?_) (cs_rm (by omega)) rfl (by omega) (by omega)
  · rw [e] at K
    cases b <;> exact K
  · rw [decide_eq_false e, Bool.xor_false] at K
    exact K
theorem cs_y_gv {post : Int32 → Prop} {w x y z : Int32} (k : Nat) (a b c : Bool) (hw : w = nI k) (hx : x = cs_bi a) (hy : y = cs_bi b) (hz : z = cs_bi c) (hk : k ≤ 4) (K : post (cs_bi (cs_gate k a b c))) : wpY_gateValue post ((nI I), gl, ou, (nI PN), (nI T), sd, (nI E), sv, sw, sp, (cs_n GS), (cs_n GK), (cs_n OP), (cs_o O), (cs_b S), tb, (cs_b lw)) w x y z := by
  subst hw hx hy hz
  refine nm_e ?_
  rcases (show k = 0 ∨ k = 1 ∨ k = 2 ∨ k = 3 ∨ k = 4 by omega) with rfl | rfl | rfl | rfl | rfl
  · refine br_t (by decide) ?_
    cases a <;> cases b <;> cases c <;> first | exact br_t (by decide) K | exact br_f (by decide) K
  · refine br_f (by decide) (br_t (by decide) ?_)
    cases a <;> cases b <;> cases c <;> first | exact br_t (by decide) K | exact br_f (by decide) K
  · refine br_f (by decide) (br_f (by decide) (br_t (by decide) (And.intro cs_20 ?_)))
    cases a <;> cases b <;> cases c <;> exact K
  · refine br_f (by decide) (br_f (by decide) (br_f (by decide) (br_t (by decide) ?_)))
    cases a <;> cases b <;> cases c <;> first | exact br_t (by decide) K | exact br_f (by decide) K
  · refine br_f (by decide) (br_f (by decide) (br_f (by decide) (br_f (by decide) ?_)))
    cases a <;> cases b <;> cases c <;> first | exact br_t (by decide) K | exact br_f (by decide) K
/-! the table -/
def cs_Tp (T : Nat) (ev : Nat → Nat → Bool) (p v : Nat) (tb : Nat → Int32) : Prop := (∀ q, q < p → ∀ n, n < T → tb (n * 64 + q) = cs_bi (ev q n)) ∧ (∀ n, n < v → tb (n * 64 + p) = cs_bi (ev p n))
theorem cs_Tp_step {ev : Nat → Nat → Bool} {p v : Nat} (hp : p < 64) (h : cs_Tp T ev p v tb) : cs_Tp T ev p (v + 1) (cs_up tb (v * 64 + p) (cs_bi (ev p v))) := by
  refine ⟨fun q hq n hn => ?_, fun n hn => ?_⟩
  · rw [cs_uo (by omega)]; exact h.1 q hq n hn
  · by_cases e : n = v
    · subst e; exact cs_us
    · rw [cs_uo (by omega)]; exact h.2 n (by omega)
theorem cs_Tp_end {ev : Nat → Nat → Bool} {p : Nat} (h : cs_Tp T ev p T tb) : cs_Tp T ev (p + 1) 0 tb :=
  ⟨fun q hq n hn => by
    by_cases e : q = p
    · subst e; exact h.2 n hn
    · exact h.1 q (by omega) n hn, fun n hn => by omega⟩
theorem cs_y_tb58 {post : SY → Prop} {J : Int32 → (Nat → Int32) → (Nat → Int32) → (Nat → Int32) → (Nat → Int32) → (Nat → Int32) → (Nat → Int32) → (Nat → Int32) → Prop} {p : Nat} (hp : p < 64) (hT : T ≤ 39) (hC : cs_CW I T GK OP)
    (K : ∀ tb, cs_Tp T (cs_ev I GK OP) (p + 1) 0 tb → J (nI (p + 1)) (cs_n GS) (cs_n GK) (cs_n OP) (cs_o O) (cs_b S) tb (cs_b lw)) :
    ∀ d v, v + d = T → I < v → ∀ f, d < f → ∀ tb, cs_Tp T (cs_ev I GK OP) p v tb → (wY_tabulate_58 post J (nI p) (nI I) gl ou (nI PN) (nI T) sd (nI E) sv sw sp f (nI v) (cs_n GS) (cs_n GK) (cs_n OP) (cs_o O) (cs_b S) tb (cs_b lw)) := by
  intro d
  induction d with
  | zero =>
    intro v hv hI f hf tb h
    obtain ⟨m, rfl⟩ : ∃ m, f = m + 1 := ⟨f - 1, by omega⟩
    obtain rfl : v = T := by omega
    exact br_t (nI_le (Nat.le_refl _) (by omega)) (nm_r (nI_1 p) (K tb (cs_Tp_end h)))
  | succ d ih =>
    intro v hv hI f hf tb h
    obtain ⟨m, rfl⟩ : ∃ m, f = m + 1 := ⟨f - 1, by omega⟩
    obtain ⟨c0, c1, c2, c3⟩ := hC v hI (by omega)
    have e0 : nI v * 3 = nI (3 * v) := cs_m3 v
    have e1 : nI v * 3 + 1 = nI (3 * v + 1) := by rw [e0, nI_1]
    have e2 : nI v * 3 + 2 = nI (3 * v + 2) := by rw [e0, cs_a2]
    have e3 : nI v * 64 + nI p = nI (v * 64 + p) := by rw [cs_m64, nI_add]
    refine br_f (nI_ge (by omega) (by omega)) (And.intro (pk_in (3 * v) 117 (by omega) e0) ?_)
    refine cs_y_value (OP (3 * v)) p _ (cs_rd _ e0) rfl (by omega) hp (h.2 _ (by omega)) (And.intro (pk_in (3 * v + 1) 117 (by omega) e1) ?_)
    refine cs_y_value (OP (3 * v + 1)) p _ (cs_rd _ e1) rfl (by omega) hp (h.2 _ (by omega)) (And.intro (pk_in (3 * v + 2) 117 (by omega) e2) ?_)
    refine cs_y_value (OP (3 * v + 2)) p _ (cs_rd _ e2) rfl (by omega) hp (h.2 _ (by omega)) (And.intro (pk_in v 39 (by omega)) ?_)
    refine cs_y_gv (GK v) _ _ _ (cs_rd v rfl) rfl rfl rfl c0 (And.intro (pk_in (v * 64 + p) 2496 (by omega) e3) (nm_r (e' := cs_up tb (v * 64 + p) (cs_bi (cs_ev I GK OP p v))) ?_ (nm_r (nI_1 v) ?_)))
    · rw [cs_wi (v * 64 + p) e3 rfl, cs_ev_g hI (by omega) (by omega) (by omega)]
      rfl
    · exact ih (v + 1) (by omega) (by omega) m (by omega) _ (cs_Tp_step hp h)
theorem cs_y_tb19 {post : SY → Prop} {J : Int32 → (Nat → Int32) → (Nat → Int32) → (Nat → Int32) → (Nat → Int32) → (Nat → Int32) → (Nat → Int32) → (Nat → Int32) → Prop} {p : Nat} (hp : p < 64) (hI6 : I ≤ 6) (hIT : I < T) (hT : T ≤ 39) (hC : cs_CW I T GK OP)
    (K : ∀ tb, cs_Tp T (cs_ev I GK OP) (p + 1) 0 tb → J (nI (p + 1)) (cs_n GS) (cs_n GK) (cs_n OP) (cs_o O) (cs_b S) tb (cs_b lw)) :
    ∀ d v, v + d = I + 1 → 1 ≤ v → ∀ f, d < f → ∀ tb, cs_Tp T (cs_ev I GK OP) p v tb → (wY_tabulate_19 post J (nI p) (nI I) gl ou (nI PN) (nI T) sd (nI E) sv sw sp f (nI v) (cs_n GS) (cs_n GK) (cs_n OP) (cs_o O) (cs_b S) tb (cs_b lw)) := by
  intro d
  induction d with
  | zero =>
    intro v hv h1 f hf tb h
    obtain ⟨m, rfl⟩ : ∃ m, f = m + 1 := ⟨f - 1, by omega⟩
    obtain rfl : v = I + 1 := by omega
    refine br_t (nI_lt (by omega) (by omega)) (nm_r (nI_1 I) ?_)
    refine ⟨T + 1, ?_⟩
    exact cs_y_tb58 hp hT hC K (T - (I + 1)) (I + 1) (by omega) (by omega) _ (by omega) tb h
  | succ d ih =>
    intro v hv h1 f hf tb h
    obtain ⟨m, rfl⟩ : ∃ m, f = m + 1 := ⟨f - 1, by omega⟩
    have e3 : nI v * 64 + nI p = nI (v * 64 + p) := by rw [cs_m64, nI_add]
    refine br_f (nI_nlt (by omega) (by omega)) (And.intro (pk_in (v * 64 + p) 2496 (by omega) e3) (nm_r (e' := cs_up tb (v * 64 + p) (cs_bi (cs_ev I GK OP p v))) ?_ (nm_r (nI_1 v) ?_)))
    · rw [cs_ev_i h1 (by omega)]
      exact cs_wi (v * 64 + p) e3 (cs_pb hp h1 (by omega))
    · exact ih (v + 1) (by omega) (by omega) m (by omega) _ (cs_Tp_step hp h)
theorem cs_y_tb2 {post : SY → Prop} (hPN : PN ≤ 64) (hI6 : I ≤ 6) (hIT : I < T) (hT : T ≤ 39) (hC : cs_CW I T GK OP)
    (K : ∀ tb, (∀ q, q < PN → ∀ n, n < T → tb (n * 64 + q) = cs_bi (cs_ev I GK OP q n)) → post ((nI I), gl, ou, (nI PN), (nI T), sd, (nI E), sv, sw, sp, (cs_n GS), (cs_n GK), (cs_n OP), (cs_o O), (cs_b S), tb, (cs_b lw))) :
    ∀ d p, p + d = PN → ∀ f, d < f → ∀ tb, cs_Tp T (cs_ev I GK OP) p 0 tb → (wY_tabulate_2 post (nI I) gl ou (nI PN) (nI T) sd (nI E) sv sw sp f (nI p) (cs_n GS) (cs_n GK) (cs_n OP) (cs_o O) (cs_b S) tb (cs_b lw)) := by
  intro d
  induction d with
  | zero =>
    intro p hp f hf tb h
    obtain ⟨m, rfl⟩ : ∃ m, f = m + 1 := ⟨f - 1, by omega⟩
    obtain rfl : p = PN := by omega
    exact br_t (nI_le (Nat.le_refl _) (by omega)) (K tb h.1)
  | succ d ih =>
    intro p hp f hf tb h
    obtain ⟨m, rfl⟩ : ∃ m, f = m + 1 := ⟨f - 1, by omega⟩
    refine br_f (nI_ge (by omega) (by omega)) (And.intro (pk_in p 2496 (by omega)) (nm_r (e' := cs_up tb (0 * 64 + p) (cs_bi (cs_ev I GK OP p 0))) ?_ ?_))
    · rw [Nat.zero_mul, Nat.zero_add]
      exact cs_wi p rfl rfl
    · refine ⟨I + 2, ?_⟩
      exact cs_y_tb19 (by omega) hI6 hIT hT hC (fun tb h => ih (p + 1) (by omega) m (by omega) tb h) I 1 (by omega) (by omega) _ (by omega) _ (cs_Tp_step (by omega) h)
theorem cs_y_tab {post : SY → Prop} (hPN : PN ≤ 64) (hI6 : I ≤ 6) (hIT : I < T) (hT : T ≤ 39) (hC : cs_CW I T GK OP)
    (K : ∀ tb, (∀ q, q < PN → ∀ n, n < T → tb (n * 64 + q) = cs_bi (cs_ev I GK OP q n)) → post ((nI I), gl, ou, (nI PN), (nI T), sd, (nI E), sv, sw, sp, (cs_n GS), (cs_n GK), (cs_n OP), (cs_o O), (cs_b S), tb, (cs_b lw))) : wpY_tabulate post ((nI I), gl, ou, (nI PN), (nI T), sd, (nI E), sv, sw, sp, (cs_n GS), (cs_n GK), (cs_n OP), (cs_o O), (cs_b S), tb, (cs_b lw)) :=
  ⟨PN + 1, cs_y_tb2 hPN hI6 hIT hT hC K PN 0 (by omega) _ (by omega) tb ⟨fun q hq => by omega, fun n hn => by omega⟩⟩
end
end
section
def cs_Fst (m : Nat) (P : Nat → Prop) (o : Option Nat) : Prop := match o with
  | none => ∀ p, p < m → ¬ P p
  | some q => q < m ∧ P q ∧ ∀ p, p < q → ¬ P p
theorem cs_fst_uniq {m : Nat} {P : Nat → Prop} {o o' : Option Nat} (h : cs_Fst m P o) (h' : cs_Fst m P o') : o = o' := by
  cases o with
  | none =>
    cases o' with
    | none => rfl
    | some q => exact absurd h'.2.1 (h q h'.1)
  | some q =>
    cases o' with
    | none => exact absurd h.2.1 (h' q h.1)
    | some r =>
      rcases Nat.lt_trichotomy q r with a | a | a
      · exact absurd h.2.1 (h'.2.2 q a)
      · rw [a]
      · exact absurd h'.2.1 (h.2.2 r a)
theorem cs_bi_inj {a b : Bool} : cs_bi a = cs_bi b ↔ a = b := by cases a <;> cases b <;> decide
theorem cs_bi_xor (a b : Bool) : cs_bi a ^^^ cs_bi b = cs_bi (a ^^ b) := by cases a <;> cases b <;> decide
section
variable {I T E N t PN : Nat} {gl ou sd sv sw sp : Int32} {pw : Int64} {GS GK OP RP L R BH BN FH FN NL NM TR LI LT : Nat → Nat} {O : Nat → Option Nat} {V : Nat → Option Bool} {C RC S lw : Nat → Bool} {sg iw : Nat → Int64} {tb : Nat → Int32}
variable {ev : Nat → Nat → Bool}
theorem cs_y_same8 {post : Int32 → Prop} {u v : Nat} (hPN : PN ≤ 64) (hT : T ≤ 39) (hu : u < T) (hv : v < T) (hTB : ∀ q, q < PN → ∀ n, n < T → tb (n * 64 + q) = cs_bi (ev q n)) (K1 : cs_Same PN ev u v → post 1) (K0 : ¬ cs_Same PN ev u v → post 0) :
    ∀ d p, p + d = PN → ∀ f, d < f → ∀ e s : Bool, (e = true ↔ ∀ q, q < p → ev q u = ev q v) → (s = true ↔ ∀ q, q < p → ev q u ≠ ev q v) → (wY_same_8 post (nI u) (nI v) (nI I) gl ou (nI PN) (nI T) sd (nI E) sv sw sp (cs_n GS) (cs_n GK) (cs_n OP) (cs_o O) (cs_b S) tb (cs_b lw) f (cs_bi e) (cs_bi s) (nI p)) := by
  intro d
  induction d with
  | zero =>
    intro p hp f hf e s he hs
    obtain ⟨m, rfl⟩ : ∃ m, f = m + 1 := ⟨f - 1, by omega⟩
    obtain rfl : p = PN := by omega
    refine br_t (nI_le (Nat.le_refl _) (by omega)) (cs_bc rfl (fun e0 => cs_bc rfl (fun s0 => K0 ?_) (fun s1 => K1 (Or.inr (hs.1 s1)))) (fun e1 => K1 (Or.inl (he.1 e1))))
    rintro (z | z)
    · rw [he.2 z] at e0; cases e0
    · rw [hs.2 z] at s0; cases s0
  | succ d ih =>
    intro p hp f hf e s he hs
    obtain ⟨m, rfl⟩ : ∃ m, f = m + 1 := ⟨f - 1, by omega⟩
    have e1 : nI u * 64 + nI p = nI (u * 64 + p) := by rw [cs_m64, nI_add]
    have e2 : nI v * 64 + nI p = nI (v * 64 + p) := by rw [cs_m64, nI_add]
    refine br_f (nI_ge (by omega) (by omega)) (And.intro (pk_in (u * 64 + p) 2496 (by omega) e1) (And.intro (pk_in (v * 64 + p) 2496 (by omega) e2) ?_))
    rw [cs_ri (f := tb) _ e1, cs_ri (f := tb) _ e2, hTB p (by omega) u hu, hTB p (by omega) v hv]
    refine br_c (fun z => ?_) (fun z => ?_)
    · have z1 := cs_bi_inj.1 z
      refine nm_r (nI_1 p) (ih (p + 1) (by omega) m (by omega) e false ⟨fun w q hq => ?_, fun w => he.2 fun q hq => w q (by omega)⟩ ⟨fun w => (by cases w), fun w => absurd z1 (w p (by omega))⟩)
      by_cases c : q = p
      · subst c; exact z1
      · exact he.1 w q (by omega)
    · have z1 : ev p u ≠ ev p v := fun w => z (cs_bi_inj.2 w)
      refine nm_r (nI_1 p) (ih (p + 1) (by omega) m (by omega) false s ⟨fun w => (by cases w), fun w => absurd (w p (by omega)) z1⟩ ⟨fun w q hq => ?_, fun w => hs.2 fun q hq => w q (by omega)⟩)
      by_cases c : q = p
      · subst c; exact z1
      · exact hs.1 w q (by omega)
theorem cs_y_same {post : Int32 → Prop} {x y : Int32} (u v : Nat) (hx : x = nI u) (hy : y = nI v) (hPN : PN ≤ 64) (hT : T ≤ 39) (hu : u < T) (hv : v < T) (hTB : ∀ q, q < PN → ∀ n, n < T → tb (n * 64 + q) = cs_bi (ev q n)) (K1 : cs_Same PN ev u v → post 1) (K0 : ¬ cs_Same PN ev u v → post 0) : wpY_same post ((nI I), gl, ou, (nI PN), (nI T), sd, (nI E), sv, sw, sp, (cs_n GS), (cs_n GK), (cs_n OP), (cs_o O), (cs_b S), tb, (cs_b lw)) x y := by
  subst hx hy
  exact ⟨PN + 1, cs_y_same8 hPN hT hu hv hTB K1 K0 PN 0 (by omega) _ (by omega) true true ⟨fun _ q hq => by omega, fun _ => rfl⟩ ⟨fun _ q hq => by omega, fun _ => rfl⟩⟩
theorem cs_y_match8 {post : Int32 → Prop} {u v : Nat} (hPN : PN ≤ 64) (hT : T ≤ 39) (hu : u < T) (hv : v < T) (hTB : ∀ q, q < PN → ∀ n, n < T → tb (n * 64 + q) = cs_bi (ev q n)) (K1 : cs_Mat PN S ev u v → post 1) (K0 : ¬ cs_Mat PN S ev u v → post 0) :
    ∀ d p, p + d = PN → ∀ f, d < f → ∀ e s : Bool, (e = true ↔ ∀ q, q < p → S q = true → ev q u = ev q v) → (s = true ↔ ∀ q, q < p → S q = true → ev q u ≠ ev q v) → (wY_match_8 post (nI u) (nI v) (nI I) gl ou (nI PN) (nI T) sd (nI E) sv sw sp (cs_n GS) (cs_n GK) (cs_n OP) (cs_o O) (cs_b S) tb (cs_b lw) f (cs_bi e) (cs_bi s) (nI p)) := by
  intro d
  induction d with
  | zero =>
    intro p hp f hf e s he hs
    obtain ⟨m, rfl⟩ : ∃ m, f = m + 1 := ⟨f - 1, by omega⟩
    obtain rfl : p = PN := by omega
    refine br_t (nI_le (Nat.le_refl _) (by omega)) (cs_bc rfl (fun e0 => cs_bc rfl (fun s0 => K0 ?_) (fun s1 => K1 (Or.inr (hs.1 s1)))) (fun e1 => K1 (Or.inl (he.1 e1))))
    rintro (z | z)
    · rw [he.2 z] at e0; cases e0
    · rw [hs.2 z] at s0; cases s0
  | succ d ih =>
    intro p hp f hf e s he hs
    obtain ⟨m, rfl⟩ : ∃ m, f = m + 1 := ⟨f - 1, by omega⟩
    have e1 : nI u * 64 + nI p = nI (u * 64 + p) := by rw [cs_m64, nI_add]
    have e2 : nI v * 64 + nI p = nI (v * 64 + p) := by rw [cs_m64, nI_add]
    refine br_f (nI_ge (by omega) (by omega)) (And.intro (pk_in p 64 (by omega)) (cs_bc (cs_rb p rfl) (fun i0 => ?_) (fun i1 => ?_)))
    · refine nm_r (nI_1 p) (ih (p + 1) (by omega) m (by omega) e s ⟨fun w q hq hS => ?_, fun w => he.2 fun q hq => w q (by omega)⟩ ⟨fun w q hq hS => ?_, fun w => hs.2 fun q hq => w q (by omega)⟩)
      · by_cases c : q = p
        · subst c; rw [i0] at hS; cases hS
        · exact he.1 w q (by omega) hS
      · by_cases c : q = p
        · subst c; rw [i0] at hS; cases hS
        · exact hs.1 w q (by omega) hS
    · refine And.intro (pk_in (u * 64 + p) 2496 (by omega) e1) (And.intro (pk_in (v * 64 + p) 2496 (by omega) e2) ?_)
      rw [cs_ri (f := tb) _ e1, cs_ri (f := tb) _ e2, hTB p (by omega) u hu, hTB p (by omega) v hv]
      refine br_c (fun z => ?_) (fun z => ?_)
      · have z1 := cs_bi_inj.1 z
        refine nm_r (nI_1 p) (ih (p + 1) (by omega) m (by omega) e false ⟨fun w q hq hS => ?_, fun w => he.2 fun q hq => w q (by omega)⟩ ⟨fun w => (by cases w), fun w => absurd z1 (w p (by omega) i1)⟩)
        by_cases c : q = p
        · subst c; exact z1
        · exact he.1 w q (by omega) hS
      · have z1 : ev p u ≠ ev p v := fun w => z (cs_bi_inj.2 w)
        refine nm_r (nI_1 p) (ih (p + 1) (by omega) m (by omega) false s ⟨fun w => (by cases w), fun w => absurd (w p (by omega) i1) z1⟩ ⟨fun w q hq hS => ?_, fun w => hs.2 fun q hq => w q (by omega)⟩)
        by_cases c : q = p
        · subst c; exact z1
        · exact hs.1 w q (by omega) hS
theorem cs_y_match {post : Int32 → Prop} {x y : Int32} (u v : Nat) (hx : x = nI u) (hy : y = nI v) (hPN : PN ≤ 64) (hT : T ≤ 39) (hu : u < T) (hv : v < T) (hTB : ∀ q, q < PN → ∀ n, n < T → tb (n * 64 + q) = cs_bi (ev q n)) (K1 : cs_Mat PN S ev u v → post 1) (K0 : ¬ cs_Mat PN S ev u v → post 0) : wpY_match post ((nI I), gl, ou, (nI PN), (nI T), sd, (nI E), sv, sw, sp, (cs_n GS), (cs_n GK), (cs_n OP), (cs_o O), (cs_b S), tb, (cs_b lw)) x y := by
  subst hx hy
  exact ⟨PN + 1, cs_y_match8 hPN hT hu hv hTB K1 K0 PN 0 (by omega) _ (by omega) true true ⟨fun _ q hq => by omega, fun _ => rfl⟩ ⟨fun _ q hq => by omega, fun _ => rfl⟩⟩
theorem cs_y_least2 {post : Int32 → Prop} {v : Nat} (hPN : PN ≤ 64) (hT : T ≤ 39) (hv : v < T) (hTB : ∀ q, q < PN → ∀ n, n < T → tb (n * 64 + q) = cs_bi (ev q n)) (K : ∀ u, cs_Lea PN ev v u → post (nI u)) :
    ∀ d u, u + d = v → ∀ f, d < f → (∀ w, w < u → ¬ cs_Same PN ev w v) → (wY_least_2 post (nI v) (nI I) gl ou (nI PN) (nI T) sd (nI E) sv sw sp (cs_n GS) (cs_n GK) (cs_n OP) (cs_o O) (cs_b S) tb (cs_b lw) f (nI u)) := by
  intro d
  induction d with
  | zero =>
    intro u hu f hf h
    obtain ⟨m, rfl⟩ : ∃ m, f = m + 1 := ⟨f - 1, by omega⟩
    obtain rfl : u = v := by omega
    exact br_t (nI_le (Nat.le_refl _) (by omega)) (K u ⟨Nat.le_refl _, cs_same_refl u, h⟩)
  | succ d ih =>
    intro u hu f hf h
    obtain ⟨m, rfl⟩ : ∃ m, f = m + 1 := ⟨f - 1, by omega⟩
    refine br_f (nI_ge (by omega) (by omega)) (cs_y_same u v rfl rfl hPN hT (by omega) hv hTB (fun z => ?_) (fun z => ?_))
    · exact br_f (by decide) (K u ⟨by omega, z, h⟩)
    · refine br_t rfl (nm_r (nI_1 u) (ih (u + 1) (by omega) m (by omega) (fun w hw => ?_)))
      by_cases c : w = u
      · subst c; exact z
      · exact h w (by omega)
theorem cs_y_least {post : Int32 → Prop} {x : Int32} (v : Nat) (hx : x = nI v) (hPN : PN ≤ 64) (hT : T ≤ 39) (hv : v < T) (hTB : ∀ q, q < PN → ∀ n, n < T → tb (n * 64 + q) = cs_bi (ev q n)) (K : ∀ u, cs_Lea PN ev v u → post (nI u)) : wpY_least post ((nI I), gl, ou, (nI PN), (nI T), sd, (nI E), sv, sw, sp, (cs_n GS), (cs_n GK), (cs_n OP), (cs_o O), (cs_b S), tb, (cs_b lw)) x := by
  subst hx
  exact ⟨v + 1, cs_y_least2 hPN hT hv hTB K v 0 (by omega) _ (by omega) (fun w hw => by omega)⟩
theorem cs_y_md2 {post : Int32 → Prop} {v : Nat} (hPN : PN ≤ 64) (hT : T ≤ 39) (hE : E ≤ T) (hv : v < T) (hTB : ∀ q, q < PN → ∀ n, n < T → tb (n * 64 + q) = cs_bi (ev q n)) (K : ∀ o, cs_Fst E (fun r => cs_Mat PN S ev r v ∧ cs_Rep PN ev r) o → post (cs_oi o)) :
    ∀ d r, r + d = E → ∀ f, d < f → (∀ w, w < r → ¬ (cs_Mat PN S ev w v ∧ cs_Rep PN ev w)) → (wY_matched_2 post (nI v) (nI I) gl ou (nI PN) (nI T) sd (nI E) sv sw sp (cs_n GS) (cs_n GK) (cs_n OP) (cs_o O) (cs_b S) tb (cs_b lw) f (nI r)) := by
  intro d
  induction d with
  | zero =>
    intro r hr f hf h
    obtain ⟨m, rfl⟩ : ∃ m, f = m + 1 := ⟨f - 1, by omega⟩
    obtain rfl : r = E := by omega
    exact br_t (nI_le (Nat.le_refl _) (by omega)) (K none h)
  | succ d ih =>
    intro r hr f hf h
    obtain ⟨m, rfl⟩ : ∃ m, f = m + 1 := ⟨f - 1, by omega⟩
    have nx : ¬ (cs_Mat PN S ev r v ∧ cs_Rep PN ev r) → (wY_matched_2 post (nI v) (nI I) gl ou (nI PN) (nI T) sd (nI E) sv sw sp (cs_n GS) (cs_n GK) (cs_n OP) (cs_o O) (cs_b S) tb (cs_b lw) m (nI (r + 1))) := fun z => ih (r + 1) (by omega) m (by omega) (fun w hw => by
      by_cases c : w = r
      · subst c; exact z
      · exact h w (by omega))
    refine br_f (nI_ge (by omega) (by omega)) (cs_y_match r v rfl rfl hPN hT (by omega) hv hTB (fun z => ?_) (fun z => ?_))
    · refine br_f (by decide) (cs_y_least r rfl hPN hT (by omega) hTB (fun u hu => ?_))
      have hur := hu.1
      refine pk_eq u r (fun c => ?_) (fun c => nm_r (nI_1 r) (nx fun w => c (cs_lea_uniq hu (cs_rep_lea.1 w.2)))) rfl rfl (by omega) (by omega)
      subst c
      exact K (some u) ⟨by omega, ⟨z, cs_lea_rep hu⟩, h⟩
    · exact br_t rfl (nm_r (nI_1 r) (nx fun w => z w.1))
theorem cs_y_matched {post : Int32 → Prop} {x : Int32} (v : Nat) (hx : x = nI v) (hPN : PN ≤ 64) (hT : T ≤ 39) (hE : E ≤ T) (hv : v < T) (hTB : ∀ q, q < PN → ∀ n, n < T → tb (n * 64 + q) = cs_bi (ev q n)) (K : ∀ o, cs_Fst E (fun r => cs_Mat PN S ev r v ∧ cs_Rep PN ev r) o → post (cs_oi o)) : wpY_matched post ((nI I), gl, ou, (nI PN), (nI T), sd, (nI E), sv, sw, sp, (cs_n GS), (cs_n GK), (cs_n OP), (cs_o O), (cs_b S), tb, (cs_b lw)) x := by
  subst hx
  exact ⟨E + 1, cs_y_md2 hPN hT hE hv hTB K E 0 (by omega) _ (by omega) (fun w hw => by omega)⟩
/-- the net that a literal resolves to -/
def cs_Rs (PN : Nat) (ev : Nat → Nat → Bool) (E a u : Nat) : Prop := (a / 2 < E ∧ cs_Lea PN ev (a / 2) u) ∨ (E ≤ a / 2 ∧ u = a / 2)
theorem cs_y_rnet {post : Int32 → Prop} {x : Int32} (a : Nat) (hx : x = nI a) (hPN : PN ≤ 64) (hT : T ≤ 39) (hE : E ≤ T) (ha : a < 2 * T) (hTB : ∀ q, q < PN → ∀ n, n < T → tb (n * 64 + q) = cs_bi (ev q n)) (K : ∀ u, cs_Rs PN ev E a u → post (nI u)) : wpY_resolvedNet post ((nI I), gl, ou, (nI PN), (nI T), sd, (nI E), sv, sw, sp, (cs_n GS), (cs_n GK), (cs_n OP), (cs_o O), (cs_b S), tb, (cs_b lw)) x := by
  subst hx
  refine And.intro cs_20 (nm_r (cs_dv (by omega)) ?_)
  refine pk_lt (a / 2) E (fun z => ?_) (fun z => K (a / 2) (Or.inr ⟨z, rfl⟩)) rfl rfl (by omega) (by omega)
  exact cs_y_least (a / 2) rfl hPN hT (by omega) hTB (fun u hu => K u (Or.inl ⟨z, hu⟩))
theorem cs_y_align {post : Int32 → Prop} {x y : Int32} (a u : Nat) (hx : x = nI a) (hy : y = nI u) (hP0 : 0 < PN) (hT : T ≤ 39) (ha : a < 2 * T) (hu : u < T) (hTB : ∀ q, q < PN → ∀ n, n < T → tb (n * 64 + q) = cs_bi (ev q n)) (K : post (nI (2 * u + (cs_lv (ev 0) a ^^ ev 0 u).toNat))) : wpY_aligned post ((nI I), gl, ou, (nI PN), (nI T), sd, (nI E), sv, sw, sp, (cs_n GS), (cs_n GK), (cs_n OP), (cs_o O), (cs_b S), tb, (cs_b lw)) x y := by
  subst hx hy
  have e0 : (2 * u) / 2 = u := by omega
  unfold wpY_aligned
  refine cs_y_value a 0 (ev 0 (a / 2)) rfl rfl (by omega) (by omega) (hTB 0 hP0 _ (by omega)) ?_
  refine cs_y_value (2 * u) 0 (ev 0 u) (cs_2m u) rfl (by omega) (by omega) (by rw [e0]; exact hTB 0 hP0 _ hu) ?_
  have e1 : decide (2 * u % 2 = 1) = false := decide_eq_false (by omega)
  rw [e1, Bool.xor_false]
  refine br_c (fun z => ?_) (fun z => ?_)
  · have z1 : cs_lv (ev 0) a = ev 0 u := cs_bi_inj.1 z
    rw [z1, Bool.xor_self] at K
    rw [cs_2m]; exact K
  · have z1 : ¬ cs_lv (ev 0) a = ev 0 u := fun w => z (cs_bi_inj.2 w)
    have z2 : (cs_lv (ev 0) a ^^ ev 0 u) = true := by
      cases p : cs_lv (ev 0) a <;> cases q : ev 0 u <;> simp_all
    rw [z2] at K
    rw [cs_2m, nI_1]; exact K
def cs_addS (S : Nat → Bool) (o : Option Nat) : Nat → Bool := match o with
  | none => S
  | some p => cs_up S p true
theorem cs_y_rf23 {post : SY → Prop} {v r : Nat} {b : Bool} (hPN : PN ≤ 64) (hT : T ≤ 39) (hv : v < T) (hr : r < T) (hTB : ∀ q, q < PN → ∀ n, n < T → tb (n * 64 + q) = cs_bi (ev q n)) (K : ∀ o, cs_Lst PN (fun p => (ev p v ^^ ev p r) ^^ b) o → post ((nI I), gl, ou, (nI PN), (nI T), sd, (nI E), sv, sw, sp, (cs_n GS), (cs_n GK), (cs_n OP), (cs_o O), (cs_b (cs_addS S o)), tb, (cs_b lw))) :
    ∀ d p, p + d = PN → ∀ f, d < f → (∀ q, q < p → ((ev q v ^^ ev q r) ^^ b) = false) → (wY_refute_23 post (nI v) (nI r) (cs_bi b) (nI I) gl ou (nI PN) (nI T) sd (nI E) sv sw sp (cs_n GS) (cs_n GK) (cs_n OP) (cs_o O) (cs_b S) tb (cs_b lw) f (nI p)) := by
  intro d
  induction d with
  | zero =>
    intro p hp f hf h
    obtain ⟨m, rfl⟩ : ∃ m, f = m + 1 := ⟨f - 1, by omega⟩
    obtain rfl : p = PN := by omega
    exact br_t (nI_le (Nat.le_refl _) (by omega)) (K none h)
  | succ d ih =>
    intro p hp f hf h
    obtain ⟨m, rfl⟩ : ∃ m, f = m + 1 := ⟨f - 1, by omega⟩
    have e1 : nI v * 64 + nI p = nI (v * 64 + p) := by rw [cs_m64, nI_add]
    have e2 : nI r * 64 + nI p = nI (r * 64 + p) := by rw [cs_m64, nI_add]
    refine br_f (nI_ge (by omega) (by omega)) (And.intro (pk_in (v * 64 + p) 2496 (by omega) e1) (And.intro (pk_in (r * 64 + p) 2496 (by omega) e2) ?_))
    rw [cs_ri (f := tb) _ e1, cs_ri (f := tb) _ e2, hTB p (by omega) v hv, hTB p (by omega) r hr, cs_bi_xor]
    refine br_c (fun z => ?_) (fun z => ?_)
    · have z1 := cs_bi_inj.1 z
      refine nm_r (nI_1 p) (ih (p + 1) (by omega) m (by omega) (fun q hq => ?_))
      by_cases c : q = p
      · subst c; rw [z1, Bool.xor_self]
      · exact h q (by omega)
    · have z1 : ¬ (ev p v ^^ ev p r) = b := fun w => z (cs_bi_inj.2 w)
      have z2 : ((ev p v ^^ ev p r) ^^ b) = true := by
        generalize (ev p v ^^ ev p r) = c at z1 ⊢
        cases c <;> cases b <;> simp_all
      exact And.intro (pk_in p 64 (by omega)) (nm_r (cs_wb p true rfl cs_vb1) (K (some p) ⟨by omega, z2, h⟩))
theorem cs_y_refute {post : SY → Prop} {x y : Int32} (v r : Nat) (hx : x = nI v) (hy : y = nI r) (hPN : PN ≤ 64) (hP0 : 0 < PN) (hT : T ≤ 39) (hv : v < T) (hr : r < T) (hTB : ∀ q, q < PN → ∀ n, n < T → tb (n * 64 + q) = cs_bi (ev q n)) (K : ∀ o, cs_Lst PN (fun p => (ev p v ^^ ev p r) ^^ (ev 0 v ^^ ev 0 r)) o → post ((nI I), gl, ou, (nI PN), (nI T), sd, (nI E), sv, sw, sp, (cs_n GS), (cs_n GK), (cs_n OP), (cs_o O), (cs_b (cs_addS S o)), tb, (cs_b lw))) : wpY_refute post ((nI I), gl, ou, (nI PN), (nI T), sd, (nI E), sv, sw, sp, (cs_n GS), (cs_n GK), (cs_n OP), (cs_o O), (cs_b S), tb, (cs_b lw)) x y := by
  subst hx hy
  refine And.intro (pk_in (v * 64) 2496 (by omega) (cs_m64 v)) (And.intro (pk_in (r * 64) 2496 (by omega) (cs_m64 r)) (nm_r (e' := cs_bi (ev 0 v ^^ ev 0 r)) ?_ ?_))
  · have a1 := hTB 0 hP0 v hv
    have a2 := hTB 0 hP0 r hr
    rw [Nat.add_zero] at a1 a2
    rw [cs_ri (f := tb) _ (cs_m64 v), cs_ri (f := tb) _ (cs_m64 r), a1, a2, cs_bi_xor]
  · refine ⟨PN + 1, ?_⟩
    exact cs_y_rf23 hPN hT hv hr hTB K PN 0 (by omega) _ (by omega) (fun q hq => by omega)
end
end
section
section
variable {I T E N t PN : Nat} {gl ou sd sv sw sp : Int32} {pw : Int64} {GS GK OP RP L R BH BN FH FN NL NM TR LI LT : Nat → Nat} {O : Nat → Option Nat} {V : Nat → Option Bool} {C RC S lw : Nat → Bool} {sg iw : Nat → Int64} {tb : Nat → Int32}
/-! literals that may be used -/
def cs_Us (I T : Nat) (GS : Nat → Nat) (x s : Int32) : Prop := ∃ a, a < 2 * T ∧ x = nI a ∧ (a / 2 ≤ I ∨ nI (GS (a / 2)) = s)
theorem cs_x_ust {post : Int32 → Prop} {x s : Int32} (hT : T ≤ 39) (hI : I ≤ 6) (h : cs_Us I T GS x s) (K : post 1) : wpX_isUsable post ((nI I), gl, ou, (nI T), sd, (nI E), pw, sv, sw, sp, (nI N), (nI t), (cs_n GS), (cs_n GK), (cs_n OP), (cs_o O), (cs_n RP), (cs_b RC), (cs_n L), (cs_n R), sg, iw, (cs_n BH), (cs_n BN), (cs_n FH), (cs_n FN), (cs_n NL), (cs_n NM), (cs_v V), (cs_b C), (cs_n TR), (cs_n LI), (cs_n LT)) x s := by
  obtain ⟨a, ha, rfl, h⟩ := h
  unfold wpX_isUsable
  refine cs_x_valid (by omega) (fun z => absurd rfl (z a ha)) (fun b hb e => ?_)
  refine br_f (by decide) (nm_r (cs_sh (by omega)) ?_)
  refine pk_le (a / 2) I (fun _ => K) (fun z => ?_) rfl rfl (by omega) (by omega)
  have h2 : nI (GS (a / 2)) = s := by
    rcases h with h | h
    · omega
    · exact h
  refine And.intro (pk_in (a / 2) 40 (by omega)) (br_t ?_ K)
  rw [cs_rd (a / 2) rfl]; exact h2
theorem cs_x_usf {post : Int32 → Prop} {x s : Int32} (hT : T ≤ 39) (hI : I ≤ 6) (h : ¬ cs_Us I T GS x s) (K : post 0) : wpX_isUsable post ((nI I), gl, ou, (nI T), sd, (nI E), pw, sv, sw, sp, (nI N), (nI t), (cs_n GS), (cs_n GK), (cs_n OP), (cs_o O), (cs_n RP), (cs_b RC), (cs_n L), (cs_n R), sg, iw, (cs_n BH), (cs_n BN), (cs_n FH), (cs_n FN), (cs_n NL), (cs_n NM), (cs_v V), (cs_b C), (cs_n TR), (cs_n LI), (cs_n LT)) x s := by
  unfold wpX_isUsable
  refine cs_x_valid (by omega) (fun z => br_t rfl K) (fun a ha e => ?_)
  subst e
  refine br_f (by decide) (nm_r (cs_sh (by omega)) ?_)
  refine pk_le (a / 2) I (fun z => absurd ⟨a, ha, rfl, Or.inl z⟩ h) (fun z => ?_) rfl rfl (by omega) (by omega)
  refine And.intro (pk_in (a / 2) 40 (by omega)) (br_f ?_ K)
  rw [cs_rd (a / 2) rfl]; exact fun w => h ⟨a, ha, rfl, Or.inr w⟩
theorem cs_y_ust {post : Int32 → Prop} {x s : Int32} (hT : T ≤ 39) (hI : I ≤ 6) (h : cs_Us I T GS x s) (K : post 1) : wpY_usable post ((nI I), gl, ou, (nI PN), (nI T), sd, (nI E), sv, sw, sp, (cs_n GS), (cs_n GK), (cs_n OP), (cs_o O), (cs_b S), tb, (cs_b lw)) x s := by
  obtain ⟨a, ha, rfl, h⟩ := h
  unfold wpY_usable
  refine cs_y_valid (by omega) (fun z => absurd rfl (z a ha)) (fun b hb e => ?_)
  refine br_f (by decide) (And.intro cs_20 (nm_r (cs_dv (by omega)) ?_))
  refine pk_le (a / 2) I (fun _ => K) (fun z => ?_) rfl rfl (by omega) (by omega)
  have h2 : nI (GS (a / 2)) = s := by
    rcases h with h | h
    · omega
    · exact h
  refine And.intro (pk_in (a / 2) 39 (by omega)) (br_t ?_ K)
  rw [cs_rd (a / 2) rfl]; exact h2
theorem cs_y_usf {post : Int32 → Prop} {x s : Int32} (hT : T ≤ 39) (hI : I ≤ 6) (h : ¬ cs_Us I T GS x s) (K : post 0) : wpY_usable post ((nI I), gl, ou, (nI PN), (nI T), sd, (nI E), sv, sw, sp, (cs_n GS), (cs_n GK), (cs_n OP), (cs_o O), (cs_b S), tb, (cs_b lw)) x s := by
  unfold wpY_usable
  refine cs_y_valid (by omega) (fun z => br_t rfl K) (fun a ha e => ?_)
  subst e
  refine br_f (by decide) (And.intro cs_20 (nm_r (cs_dv (by omega)) ?_))
  refine pk_le (a / 2) I (fun z => absurd ⟨a, ha, rfl, Or.inl z⟩ h) (fun z => ?_) rfl rfl (by omega) (by omega)
  refine And.intro (pk_in (a / 2) 39 (by omega)) (br_f ?_ K)
  rw [cs_rd (a / 2) rfl]; exact fun w => h ⟨a, ha, rfl, Or.inr w⟩
/-! a pattern is included -/
theorem cs_x_incl {post : SX → Prop} {x : Int32} (p : Nat) (hx : x = nI p) (hp : p < 64) (hI6 : I ≤ 6) (hN : N ≤ 256) (hG : cs_G I pw N L R sg BH BN FH FN) (hiw : ∀ i, 1 ≤ i → i ≤ I → ∀ p, p < 64 → cs_lb (iw i) p = p.testBit (i - 1))
    (K : ∀ pw' sg', (∀ q, cs_lb pw' q = (cs_lb pw q || decide (q = p))) → cs_G I pw' N L R sg' BH BN FH FN → post ((nI I), gl, ou, (nI T), sd, (nI E), pw', sv, sw, sp, (nI N), (nI t), (cs_n GS), (cs_n GK), (cs_n OP), (cs_o O), (cs_n RP), (cs_b RC), (cs_n L), (cs_n R), sg', iw, (cs_n BH), (cs_n BN), (cs_n FH), (cs_n FN), (cs_n NL), (cs_n NM), (cs_v V), (cs_b C), (cs_n TR), (cs_n LI), (cs_n LT))) : wpX_includePattern post ((nI I), gl, ou, (nI T), sd, (nI E), pw, sv, sw, sp, (nI N), (nI t), (cs_n GS), (cs_n GK), (cs_n OP), (cs_o O), (cs_n RP), (cs_b RC), (cs_n L), (cs_n R), sg, iw, (cs_n BH), (cs_n BN), (cs_n FH), (cs_n FN), (cs_n NL), (cs_n NM), (cs_v V), (cs_b C), (cs_n TR), (cs_n LI), (cs_n LT)) x := by
  subst hx
  refine nm_e ?_
  have e : pw &&& (1 : Int64) <<< ((nI p).toInt64 &&& 63) = 0 ↔ cs_lb pw p = false := by
    constructor
    · intro z
      have w := congrArg (fun a => cs_lb a p) z
      rw [cs_lband, cs_lbsh hp, cs_lb0] at w
      simpa using w
    · intro z
      apply cs_lbext
      intro q hq
      rw [cs_lband, cs_lbsh hp, cs_lb0]
      by_cases c : q = p
      · subst c; rw [z, Bool.false_and]
      · rw [decide_eq_false c, Bool.and_false]
  refine br_c (fun z => nm_e ?_) (fun z => ?_)
  · refine cs_x_resim hI6 hG.1 hN hiw (fun sg' h => ?_)
    exact K _ sg' (fun q => by rw [cs_lbor, cs_lbsh hp]) ⟨hG.1, hG.2.1, hG.2.2.1, h⟩
  · refine K pw sg (fun q => ?_) hG
    by_cases c : q = p
    · subst c
      cases w : cs_lb pw q with
      | false => exact absurd (e.2 w) z
      | true => simp
    · rw [decide_eq_false c, Bool.or_false]
/-! values under one pattern -/
theorem cs_x_si51 {post : SX → Prop} {p : Nat} (hW : cs_W I N L R) (hN : N ≤ 256) (K : ∀ V', (∀ n, n < N → V' n = some (cs_gv I L R p n)) → post ((nI I), gl, ou, (nI T), sd, (nI E), pw, sv, sw, sp, (nI N), (nI t), (cs_n GS), (cs_n GK), (cs_n OP), (cs_o O), (cs_n RP), (cs_b RC), (cs_n L), (cs_n R), sg, iw, (cs_n BH), (cs_n BN), (cs_n FH), (cs_n FN), (cs_n NL), (cs_n NM), (cs_v V'), (cs_b C), (cs_n TR), (cs_n LI), (cs_n LT))) :
    ∀ d k, k + d = N → I < k → ∀ f, d < f → ∀ V, (∀ n, n < k → V n = some (cs_gv I L R p n)) → (wX_simulate_51 post (nI I) gl ou (nI T) sd (nI E) pw sv sw sp (nI N) (nI t) f (nI k) (cs_n GS) (cs_n GK) (cs_n OP) (cs_o O) (cs_n RP) (cs_b RC) (cs_n L) (cs_n R) sg iw (cs_n BH) (cs_n BN) (cs_n FH) (cs_n FN) (cs_n NL) (cs_n NM) (cs_v V) (cs_b C) (cs_n TR) (cs_n LI) (cs_n LT)) := by
  intro d
  induction d with
  | zero =>
    intro k hk hI f hf V h
    obtain ⟨m, rfl⟩ : ∃ m, f = m + 1 := ⟨f - 1, by omega⟩
    obtain rfl : k = N := by omega
    exact br_t (nI_le (Nat.le_refl _) (by omega)) (K V h)
  | succ d ih =>
    intro k hk hI f hf V h
    obtain ⟨m, rfl⟩ : ∃ m, f = m + 1 := ⟨f - 1, by omega⟩
    obtain ⟨_, l1, _, r1⟩ := hW.2 k hI (by omega)
    have gk : cs_gv I L R p k = (cs_lv (cs_gv I L R p) (L k) && cs_lv (cs_gv I L R p) (R k)) := cs_gv_a hI (by omega) (by omega)
    have vl : cs_lo V (L k) = some (cs_lv (cs_gv I L R p) (L k)) := cs_lo_some (h _ (by omega))
    have vr : cs_lo V (R k) = some (cs_lv (cs_gv I L R p) (R k)) := cs_lo_some (h _ (by omega))
    have nx : ∀ b, b = cs_gv I L R p k → (wX_simulate_51 post (nI I) gl ou (nI T) sd (nI E) pw sv sw sp (nI N) (nI t) m (nI (k + 1)) (cs_n GS) (cs_n GK) (cs_n OP) (cs_o O) (cs_n RP) (cs_b RC) (cs_n L) (cs_n R) sg iw (cs_n BH) (cs_n BN) (cs_n FH) (cs_n FN) (cs_n NL) (cs_n NM) (cs_v (cs_up V k (some b))) (cs_b C) (cs_n TR) (cs_n LI) (cs_n LT)) := fun b hb => ih (k + 1) (by omega) (by omega) m (by omega) _ (fun n hn => by
      by_cases c : n = k
      · subst c; rw [cs_us, hb]
      · rw [cs_uo c]; exact h n (by omega))
    refine br_f (nI_ge (by omega) (by omega)) (And.intro (pk_in k 256 (by omega)) ?_)
    refine cs_x_lval (L k) (cs_rd k rfl) (by omega) (And.intro (pk_in k 256 (by omega)) ?_)
    refine cs_x_lval (R k) (cs_rd k rfl) (by omega) ?_
    rw [vl, vr]
    refine br_c (fun z => ?_) (fun z => ?_)
    · have z1 : cs_lv (cs_gv I L R p) (L k) = false := by
        have w := (cs_vi_le0 _).1 z
        cases q : cs_lv (cs_gv I L R p) (L k) with
        | false => rfl
        | true => rw [q] at w; exact absurd rfl w
      exact And.intro (pk_in k 256 (by omega)) (nm_r (cs_wv k (some false) rfl rfl) (nm_r (nI_1 k) (nx false (by rw [gk, z1]; rfl))))
    · have z1 : cs_lv (cs_gv I L R p) (L k) = true := by
        cases q : cs_lv (cs_gv I L R p) (L k) with
        | true => rfl
        | false => rw [q] at z; exact absurd (by decide) z
      refine br_c (fun y => ?_) (fun y => ?_)
      · have y1 : cs_lv (cs_gv I L R p) (R k) = false := by
          have w := (cs_vi_le0 _).1 y
          cases q : cs_lv (cs_gv I L R p) (R k) with
          | false => rfl
          | true => rw [q] at w; exact absurd rfl w
        exact And.intro (pk_in k 256 (by omega)) (nm_r (cs_wv k (some false) rfl rfl) (nm_r (nI_1 k) (nx false (by rw [gk, y1, Bool.and_false]))))
      · have y1 : cs_lv (cs_gv I L R p) (R k) = true := by
          cases q : cs_lv (cs_gv I L R p) (R k) with
          | true => rfl
          | false => rw [q] at y; exact absurd (by decide) y
        exact And.intro (pk_in k 256 (by omega)) (nm_r (cs_wv k (some true) rfl rfl) (nm_r (nI_1 k) (nx true (by rw [gk, z1, y1]; rfl))))
theorem cs_x_si9 {post : SX → Prop} {p : Nat} (hp : p < 64) (hI6 : I ≤ 6) (hW : cs_W I N L R) (hN : N ≤ 256) (K : ∀ V', (∀ n, n < N → V' n = some (cs_gv I L R p n)) → post ((nI I), gl, ou, (nI T), sd, (nI E), pw, sv, sw, sp, (nI N), (nI t), (cs_n GS), (cs_n GK), (cs_n OP), (cs_o O), (cs_n RP), (cs_b RC), (cs_n L), (cs_n R), sg, iw, (cs_n BH), (cs_n BN), (cs_n FH), (cs_n FN), (cs_n NL), (cs_n NM), (cs_v V'), (cs_b C), (cs_n TR), (cs_n LI), (cs_n LT))) :
    ∀ d k, k + d = I + 1 → 1 ≤ k → ∀ f, d < f → ∀ V, (∀ n, n < k → V n = some (cs_gv I L R p n)) → (wX_simulate_9 post (nI p) (nI I) gl ou (nI T) sd (nI E) pw sv sw sp (nI N) (nI t) f (nI k) (cs_n GS) (cs_n GK) (cs_n OP) (cs_o O) (cs_n RP) (cs_b RC) (cs_n L) (cs_n R) sg iw (cs_n BH) (cs_n BN) (cs_n FH) (cs_n FN) (cs_n NL) (cs_n NM) (cs_v V) (cs_b C) (cs_n TR) (cs_n LI) (cs_n LT)) := by
  intro d
  have hI := hW.1
  induction d with
  | zero =>
    intro k hk h1 f hf V h
    obtain ⟨m, rfl⟩ : ∃ m, f = m + 1 := ⟨f - 1, by omega⟩
    obtain rfl : k = I + 1 := by omega
    refine br_t (nI_lt (by omega) (by omega)) (nm_r (nI_1 I) ?_)
    refine ⟨N + 1, ?_⟩
    exact cs_x_si51 hW hN K (N - (I + 1)) (I + 1) (by omega) (by omega) _ (by omega) V h
  | succ d ih =>
    intro k hk h1 f hf V h
    obtain ⟨m, rfl⟩ : ∃ m, f = m + 1 := ⟨f - 1, by omega⟩
    have nx : ∀ b, b = p.testBit (k - 1) → (wX_simulate_9 post (nI p) (nI I) gl ou (nI T) sd (nI E) pw sv sw sp (nI N) (nI t) m (nI (k + 1)) (cs_n GS) (cs_n GK) (cs_n OP) (cs_o O) (cs_n RP) (cs_b RC) (cs_n L) (cs_n R) sg iw (cs_n BH) (cs_n BN) (cs_n FH) (cs_n FN) (cs_n NL) (cs_n NM) (cs_v (cs_up V k (some b))) (cs_b C) (cs_n TR) (cs_n LI) (cs_n LT)) := fun b hb => ih (k + 1) (by omega) (by omega) m (by omega) _ (fun n hn => by
      by_cases c : n = k
      · subst c; rw [cs_us, hb, cs_gv_i h1 (by omega)]
      · rw [cs_uo c]; exact h n (by omega))
    refine br_f (nI_nlt (by omega) (by omega)) (cs_bc (cs_pb hp h1 (by omega)) (fun z => ?_) (fun z => ?_))
    · exact And.intro (pk_in k 256 (by omega)) (nm_r (cs_wv k (some false) rfl rfl) (nm_r (nI_1 k) (nx false z.symm)))
    · exact And.intro (pk_in k 256 (by omega)) (nm_r (cs_wv k (some true) rfl rfl) (nm_r (nI_1 k) (nx true z.symm)))
theorem cs_x_sim {post : SX → Prop} {x : Int32} (p : Nat) (hx : x = nI p) (hp : p < 64) (hI6 : I ≤ 6) (hW : cs_W I N L R) (hN : N ≤ 256) (K : ∀ V', (∀ n, n < N → V' n = some (cs_gv I L R p n)) → post ((nI I), gl, ou, (nI T), sd, (nI E), pw, sv, sw, sp, (nI N), (nI t), (cs_n GS), (cs_n GK), (cs_n OP), (cs_o O), (cs_n RP), (cs_b RC), (cs_n L), (cs_n R), sg, iw, (cs_n BH), (cs_n BN), (cs_n FH), (cs_n FN), (cs_n NL), (cs_n NM), (cs_v V'), (cs_b C), (cs_n TR), (cs_n LI), (cs_n LT))) : wpX_simulate post ((nI I), gl, ou, (nI T), sd, (nI E), pw, sv, sw, sp, (nI N), (nI t), (cs_n GS), (cs_n GK), (cs_n OP), (cs_o O), (cs_n RP), (cs_b RC), (cs_n L), (cs_n R), sg, iw, (cs_n BH), (cs_n BN), (cs_n FH), (cs_n FN), (cs_n NL), (cs_n NM), (cs_v V), (cs_b C), (cs_n TR), (cs_n LI), (cs_n LT)) x := by
  subst hx
  refine nm_r (e' := cs_v (cs_up V 0 (some false))) (cs_wu cs_vi V 0 (some false)) ⟨I + 2, ?_⟩
  refine cs_x_si9 hp hI6 hW hN K I 1 (by omega) (by omega) _ (by omega) _ (fun n hn => ?_)
  obtain rfl : n = 0 := by omega
  rw [cs_us]; rfl
/-! resolving -/
def cs_rr (E : Nat) (RP : Nat → Nat) (a : Nat) : Nat := if a / 2 < E then cs_xp (RP (a / 2)) (a % 2) else a
theorem cs_x_resd {post : Int32 → Prop} {x : Int32} (a : Nat) (hx : x = nI a) (hE : E ≤ 39) (ha : a < 78) (K : post (nI (cs_rr E RP a))) : wpX_resolved post ((nI I), gl, ou, (nI T), sd, (nI E), pw, sv, sw, sp, (nI N), (nI t), (cs_n GS), (cs_n GK), (cs_n OP), (cs_o O), (cs_n RP), (cs_b RC), (cs_n L), (cs_n R), sg, iw, (cs_n BH), (cs_n BN), (cs_n FH), (cs_n FN), (cs_n NL), (cs_n NM), (cs_v V), (cs_b C), (cs_n TR), (cs_n LI), (cs_n LT)) x := by
  subst hx
  unfold cs_rr at K
  refine nm_r (cs_sh (by omega)) ?_
  refine pk_lt (a / 2) E (fun z => ?_) (fun z => ?_) rfl rfl (by omega) (by omega)
  · rw [if_pos z] at K
    refine And.intro (pk_in (a / 2) 40 (by omega)) ?_
    rw [cs_rd (a / 2) rfl, cs_and1 (by omega), cs_xph _ _ (by omega)]
    exact K
  · rw [if_neg (by omega)] at K
    exact K
end
end
section
/-! representatives -/
def cs_RI (PN : Nat) (S : Nat → Bool) (ev : Nat → Nat → Bool) (E : Nat) (RP : Nat → Nat) : Prop :=
  (∀ u, u < E → ∃ w, cs_Lea PN ev u w ∧ RP u = 2 * w + (ev 0 u ^^ ev 0 w).toNat) ∧ (∀ u w, u < E → w < E → cs_Rep PN ev u → cs_Rep PN ev w → cs_Mat PN S ev u w → u = w)
theorem cs_RI_rep {PN E : Nat} {S : Nat → Bool} {ev : Nat → Nat → Bool} {RP : Nat → Nat} (h : cs_RI PN S ev E RP) {u : Nat} (hu : u < E) : RP u = 2 * u ↔ cs_Rep PN ev u := by
  obtain ⟨w, h1, h2⟩ := h.1 u hu
  constructor
  · intro e
    have hb : (ev 0 u ^^ ev 0 w).toNat ≤ 1 := Bool.toNat_le _
    have : w = u := by omega
    subst this
    exact cs_rep_lea.2 h1
  · intro r
    have : w = u := cs_lea_uniq h1 (cs_rep_lea.1 r)
    subst this
    rw [h2, Bool.xor_self]; rfl
theorem cs_RI_cut {PN E E' : Nat} {S : Nat → Bool} {ev : Nat → Nat → Bool} {RP : Nat → Nat} (h : cs_RI PN S ev E RP) (hE : E' ≤ E) : cs_RI PN S ev E' RP :=
  ⟨fun u hu => h.1 u (by omega), fun u w a b => h.2 u w (by omega) (by omega)⟩
theorem cs_RI_S {PN E : Nat} {S S' : Nat → Bool} {ev : Nat → Nat → Bool} {RP : Nat → Nat} (h : cs_RI PN S ev E RP) (hS : ∀ p, S p = true → S' p = true) : cs_RI PN S' ev E RP :=
  ⟨h.1, fun u w a b c d e => h.2 u w a b c d (cs_mat_mono hS e)⟩
theorem cs_RI_ev {PN E : Nat} {S : Nat → Bool} {ev ev' : Nat → Nat → Bool} {RP : Nat → Nat} (hP : 0 < PN) (h : cs_RI PN S ev E RP) (he : ∀ n, n < E → ∀ p, p < PN → ev p n = ev' p n) : cs_RI PN S ev' E RP := by
  refine ⟨fun u hu => ?_, fun u w a b c d e => ?_⟩
  · obtain ⟨w, h1, h2⟩ := h.1 u hu
    have hw := h1.1
    exact ⟨w, cs_lea_congr (fun n hn => he n (by omega)) h1, by rw [h2, he u hu 0 hP, he w (by omega) 0 hP]⟩
  · exact h.2 u w a b (cs_rep_congr (fun n hn p hp => (he n (by omega) p hp).symm) c) (cs_rep_congr (fun n hn p hp => (he n (by omega) p hp).symm) d) ((cs_mat_congr (he u a) (he w b)).2 e)
/-- the literal that a literal resolves to -/
theorem cs_rr_eq {PN E a u : Nat} {S : Nat → Bool} {ev : Nat → Nat → Bool} {RP : Nat → Nat} (h : cs_RI PN S ev E RP) (hu : cs_Rs PN ev E a u) : cs_rr E RP a = 2 * u + (cs_lv (ev 0) a ^^ ev 0 u).toNat := by
  unfold cs_rr cs_lv
  rcases hu with ⟨h1, h2⟩ | ⟨h1, h2⟩
  · obtain ⟨w, h3, h4⟩ := h.1 (a / 2) h1
    have : w = u := cs_lea_uniq h3 h2
    subst this
    rw [if_pos h1, h4]
    unfold cs_xp cs_fl
    rcases Nat.mod_two_eq_zero_or_one a with m | m
    · rw [m]; simp
    · rw [m]
      cases ev 0 (a / 2) <;> cases ev 0 w
      all_goals
        simp only [Bool.xor_false, Bool.xor_true, Bool.not_true, Bool.not_false, Bool.toNat_true, Bool.toNat_false, Nat.add_zero, if_pos, decide_true, Bool.xor_self]
        simp
        try omega
  · subst h2
    rw [if_neg (by omega)]
    rcases Nat.mod_two_eq_zero_or_one a with m | m
    · rw [m]; cases ev 0 (a / 2) <;> simp <;> omega
    · rw [m]; cases ev 0 (a / 2) <;> simp <;> omega
theorem cs_Rs_ex {PN E a : Nat} {S : Nat → Bool} {ev : Nat → Nat → Bool} {RP : Nat → Nat} (h : cs_RI PN S ev E RP) : ∃ u, cs_Rs PN ev E a u := by
  by_cases c : a / 2 < E
  · obtain ⟨w, h3, _⟩ := h.1 (a / 2) c
    exact ⟨w, Or.inl ⟨c, h3⟩⟩
  · exact ⟨a / 2, Or.inr ⟨by omega, rfl⟩⟩
theorem cs_Rs_uniq {PN E a u u' : Nat} {ev : Nat → Nat → Bool} (h : cs_Rs PN ev E a u) (h' : cs_Rs PN ev E a u') : u = u' := by
  rcases h with ⟨h1, h2⟩ | ⟨h1, h2⟩ <;> rcases h' with ⟨k1, k2⟩ | ⟨k1, k2⟩
  · exact cs_lea_uniq h2 k2
  · omega
  · omega
  · omega
theorem cs_Rs_le {PN E a u : Nat} {ev : Nat → Nat → Bool} (h : cs_Rs PN ev E a u) : u ≤ a / 2 := by
  rcases h with ⟨h1, h2⟩ | ⟨h1, h2⟩
  · exact h2.1
  · omega
/-! matches, by signatures -/
theorem cs_sig_mat {I N PN : Nat} {L R : Nat → Nat} {pw : Int64} {sg : Nat → Int64} {S : Nat → Bool} {ev : Nat → Nat → Bool} {g h u v : Nat} {c : Bool} (hS : cs_S I pw N L R sg) (hg : g < 2 * N) (hh : h < 2 * N) (hP : PN ≤ 64) (hSp : ∀ p, S p = cs_lb pw p) (hSP : ∀ p, cs_lb pw p = true → p < PN)
    (eg : ∀ p, cs_lv (cs_gv I L R p) g = (ev p v ^^ c)) (eh : ∀ p, cs_lv (cs_gv I L R p) h = ev p u) :
    (cs_ls sg pw g ^^^ cs_ls sg pw h = 0 ∨ cs_ls sg pw g ^^^ cs_ls sg pw h = pw) ↔ cs_Mat PN S ev u v := by
  have bit : ∀ p, p < 64 → cs_lb (cs_ls sg pw g ^^^ cs_ls sg pw h) p = (cs_lb pw p && ((ev p v ^^ c) ^^ ev p u)) := fun p hp => by
    rw [cs_lbxor, cs_ls_b hS hg hp, cs_ls_b hS hh hp, eg, eh]
    cases cs_lb pw p <;> simp
  have z0 : cs_ls sg pw g ^^^ cs_ls sg pw h = 0 ↔ ∀ p, p < PN → S p = true → ((ev p v ^^ c) ^^ ev p u) = false := by
    constructor
    · intro z p hp hs
      have b := bit p (by omega)
      rw [z, cs_lb0, ← hSp, hs, Bool.true_and] at b
      exact b.symm
    · intro z
      apply cs_lbext
      intro p hp
      rw [bit p hp, cs_lb0]
      cases w : cs_lb pw p with
      | false => rfl
      | true => rw [z p (hSP p w) (by rw [hSp]; exact w)]; rfl
  have z1 : cs_ls sg pw g ^^^ cs_ls sg pw h = pw ↔ ∀ p, p < PN → S p = true → ((ev p v ^^ c) ^^ ev p u) = true := by
    constructor
    · intro z p hp hs
      have b := bit p (by omega)
      rw [z, ← hSp, hs, Bool.true_and] at b
      exact b.symm
    · intro z
      apply cs_lbext
      intro p hp
      rw [bit p hp]
      cases w : cs_lb pw p with
      | false => rfl
      | true => rw [z p (hSP p w) (by rw [hSp]; exact w)]; rfl
  rw [z0, z1]
  unfold cs_Mat
  cases c with
  | false =>
    constructor
    · rintro (z | z)
      · refine Or.inl fun p hp hs => ?_
        have w := z p hp hs
        cases a : ev p u <;> cases b : ev p v <;> simp_all
      · refine Or.inr fun p hp hs => ?_
        have w := z p hp hs
        cases a : ev p u <;> cases b : ev p v <;> simp_all
    · rintro (z | z)
      · refine Or.inl fun p hp hs => ?_
        have w := z p hp hs
        cases a : ev p u <;> cases b : ev p v <;> simp_all
      · refine Or.inr fun p hp hs => ?_
        have w := z p hp hs
        cases a : ev p u <;> cases b : ev p v <;> simp_all
  | true =>
    constructor
    · rintro (z | z)
      · refine Or.inr fun p hp hs => ?_
        have w := z p hp hs
        cases a : ev p u <;> cases b : ev p v <;> simp_all
      · refine Or.inl fun p hp hs => ?_
        have w := z p hp hs
        cases a : ev p u <;> cases b : ev p v <;> simp_all
    · rintro (z | z)
      · refine Or.inr fun p hp hs => ?_
        have w := z p hp hs
        cases a : ev p u <;> cases b : ev p v <;> simp_all
      · refine Or.inl fun p hp hs => ?_
        have w := z p hp hs
        cases a : ev p u <;> cases b : ev p v <;> simp_all
section
variable {I T E N t PN : Nat} {gl ou sd sv sw sp : Int32} {pw : Int64} {GS GK OP RP L R BH BN FH FN NL NM TR LI LT : Nat → Nat} {O : Nat → Option Nat} {V : Nat → Option Bool} {C RC S lw : Nat → Bool} {sg iw : Nat → Int64} {tb : Nat → Int32}
theorem cs_x_mr9 {post : Int32 → Prop} {g v : Nat} {c : Bool} (hN : N ≤ 256) (hET : E ≤ T) (hT : T ≤ 39) (hG : cs_G I pw N L R sg BH BN FH FN) (hNI : cs_NI I GK OP T N L R NL NM) (hP : PN ≤ 64) (hSp : ∀ p, S p = cs_lb pw p) (hSP : ∀ p, cs_lb pw p = true → p < PN) (hRI : cs_RI PN S (cs_ev I GK OP) E RP) (hg : g < 2 * N)
    (eg : ∀ p, cs_lv (cs_gv I L R p) g = (cs_ev I GK OP p v ^^ c)) (K : ∀ o, cs_Fst E (fun r => cs_Mat PN S (cs_ev I GK OP) r v ∧ cs_Rep PN (cs_ev I GK OP) r) o → post (cs_oi o)) :
    ∀ d u, u + d = E → ∀ f, d < f → (∀ w, w < u → ¬ (cs_Mat PN S (cs_ev I GK OP) w v ∧ cs_Rep PN (cs_ev I GK OP) w)) → (wX_matchingRepresentative_9 post (cs_ls sg pw g) (nI I) gl ou (nI T) sd (nI E) pw sv sw sp (nI N) (nI t) (cs_n GS) (cs_n GK) (cs_n OP) (cs_o O) (cs_n RP) (cs_b RC) (cs_n L) (cs_n R) sg iw (cs_n BH) (cs_n BN) (cs_n FH) (cs_n FN) (cs_n NL) (cs_n NM) (cs_v V) (cs_b C) (cs_n TR) (cs_n LI) (cs_n LT) f (nI u)) := by
  intro d
  induction d with
  | zero =>
    intro u hu f hf h
    obtain ⟨m, rfl⟩ : ∃ m, f = m + 1 := ⟨f - 1, by omega⟩
    obtain rfl : u = E := by omega
    exact br_t (nI_le (Nat.le_refl _) (by omega)) (K none h)
  | succ d ih =>
    intro u hu f hf h
    obtain ⟨m, rfl⟩ : ∃ m, f = m + 1 := ⟨f - 1, by omega⟩
    have nx : ¬ (cs_Mat PN S (cs_ev I GK OP) u v ∧ cs_Rep PN (cs_ev I GK OP) u) → (wX_matchingRepresentative_9 post (cs_ls sg pw g) (nI I) gl ou (nI T) sd (nI E) pw sv sw sp (nI N) (nI t) (cs_n GS) (cs_n GK) (cs_n OP) (cs_o O) (cs_n RP) (cs_b RC) (cs_n L) (cs_n R) sg iw (cs_n BH) (cs_n BN) (cs_n FH) (cs_n FN) (cs_n NL) (cs_n NM) (cs_v V) (cs_b C) (cs_n TR) (cs_n LI) (cs_n LT) m (nI (u + 1))) := fun z => ih (u + 1) (by omega) m (by omega) (fun w hw => by
      by_cases q : w = u
      · subst q; exact z
      · exact h w (by omega))
    have rep := cs_RI_rep hRI (show u < E by omega)
    obtain ⟨w, w1, w2⟩ := hRI.1 u (by omega)
    have hb : (cs_ev I GK OP 0 u ^^ cs_ev I GK OP 0 w).toNat ≤ 1 := Bool.toNat_le _
    have wle := w1.1
    obtain ⟨q1, q2⟩ := hNI.2.2.2.1 u (by omega)
    have hm := cs_sig_mat hG.2.2.2 hg q1 hP hSp hSP eg q2
    refine br_f (nI_ge (by omega) (by omega)) (And.intro (pk_in u 40 (by omega)) ?_)
    refine pk_eq (RP u) (2 * u) (fun e => ?_) (fun e => nm_r (nI_1 u) (nx fun z => e (rep.2 z.2))) (cs_rd u rfl) (cs_2m u) (by omega) (by omega)
    refine And.intro (pk_in u 40 (by omega)) (cs_x_lsig (NL u) (cs_rd u rfl) (by omega) (nm_e ?_))
    refine br_c (fun z => ?_) (fun z => br_c (fun y => ?_) (fun y => ?_))
    · exact K (some u) ⟨by omega, ⟨hm.1 (Or.inl z), rep.1 e⟩, h⟩
    · exact K (some u) ⟨by omega, ⟨hm.1 (Or.inr y), rep.1 e⟩, h⟩
    · exact nm_r (nI_1 u) (nx fun x => by
        rcases hm.2 x.1 with a | a
        · exact z a
        · exact y a)
theorem cs_x_mrep {post : Int32 → Prop} {x : Int32} {v : Nat} {c : Bool} (g : Nat) (hx : x = nI g) (hN : N ≤ 256) (hET : E ≤ T) (hT : T ≤ 39) (hG : cs_G I pw N L R sg BH BN FH FN) (hNI : cs_NI I GK OP T N L R NL NM) (hP : PN ≤ 64) (hSp : ∀ p, S p = cs_lb pw p) (hSP : ∀ p, cs_lb pw p = true → p < PN) (hRI : cs_RI PN S (cs_ev I GK OP) E RP) (hg : g < 2 * N)
    (eg : ∀ p, cs_lv (cs_gv I L R p) g = (cs_ev I GK OP p v ^^ c)) (K : ∀ o, cs_Fst E (fun r => cs_Mat PN S (cs_ev I GK OP) r v ∧ cs_Rep PN (cs_ev I GK OP) r) o → post (cs_oi o)) : wpX_matchingRepresentative post ((nI I), gl, ou, (nI T), sd, (nI E), pw, sv, sw, sp, (nI N), (nI t), (cs_n GS), (cs_n GK), (cs_n OP), (cs_o O), (cs_n RP), (cs_b RC), (cs_n L), (cs_n R), sg, iw, (cs_n BH), (cs_n BN), (cs_n FH), (cs_n FN), (cs_n NL), (cs_n NM), (cs_v V), (cs_b C), (cs_n TR), (cs_n LI), (cs_n LT)) x := by
  subst hx
  unfold wpX_matchingRepresentative
  refine cs_x_lsig g rfl (by omega) ?_
  refine ⟨E + 1, ?_⟩
  exact cs_x_mr9 hN hET hT hG hNI hP hSp hSP hRI hg eg K E 0 (by omega) _ (by omega) (fun w hw => by omega)
theorem cs_x_phase {post : Int32 → Prop} {x y : Int32} (g h : Nat) (hx : x = nI g) (hy : y = nI h) (hN : N ≤ 256) (hS : cs_S I pw N L R sg) (h0 : cs_lb pw 0 = true) (hg : g < 2 * N) (hh : h < 2 * N)
    (K : post (nI ((cs_lv (cs_gv I L R 0) g ^^ cs_lv (cs_gv I L R 0) h).toNat))) : wpX_phaseAtZero post ((nI I), gl, ou, (nI T), sd, (nI E), pw, sv, sw, sp, (nI N), (nI t), (cs_n GS), (cs_n GK), (cs_n OP), (cs_o O), (cs_n RP), (cs_b RC), (cs_n L), (cs_n R), sg, iw, (cs_n BH), (cs_n BN), (cs_n FH), (cs_n FN), (cs_n NL), (cs_n NM), (cs_v V), (cs_b C), (cs_n TR), (cs_n LI), (cs_n LT)) x y := by
  subst hx hy
  unfold wpX_phaseAtZero
  refine cs_x_lsig g rfl (by omega) (cs_x_lsig h rfl (by omega) ?_)
  rw [cs_lbz, cs_lbxor, cs_ls_b hS hg (by omega), cs_ls_b hS hh (by omega), h0, Bool.true_and, Bool.true_and, cs_bibi]
  exact K
end
end
section
/-- what holds between two calls -/
def cs_Inv (I T E N : Nat) (gl ou sd sv sw sp : Int32) (pw : Int64) (GK OP RP : Nat → Nat) (O : Nat → Option Nat) (S : Nat → Bool) (L R : Nat → Nat) (sg iw : Nat → Int64) (BH BN FH FN NL NM : Nat → Nat) : Prop :=
  (1 ≤ I ∧ I ≤ 6 ∧ I < T ∧ 1 ≤ E ∧ E ≤ T) ∧ (∃ GL, gl = nI GL ∧ GL ≤ 32 ∧ T ≤ I + 1 + GL) ∧ (∃ OU, ou = nI OU ∧ 1 ≤ OU ∧ OU ≤ 4) ∧ (∃ SD, sd = nI SD ∧ SD ≤ 1) ∧ (sv = 2 ∨ (sw = -1 ∧ sp = -1)) ∧
  ((∀ p, cs_lb pw p = true → p < 2 ^ I) ∧ cs_lb pw 0 = true ∧ (∀ p, S p = cs_lb pw p)) ∧ (∀ i, 1 ≤ i → i ≤ I → ∀ p, p < 64 → cs_lb (iw i) p = p.testBit (i - 1)) ∧ cs_CW I T GK OP ∧ (∀ j, j < 8 → ∀ a, O j = some a → a < 2 * T) ∧ cs_G I pw N L R sg BH BN FH FN ∧ cs_NI I GK OP T N L R NL NM ∧ cs_RI (2 ^ I) S (cs_ev I GK OP) E RP
/-- the relation at the head of a turn -/
def i_Rel (_ : Nat) (u : SX) (v : SY) : Prop := ∃ (I T E N t : Nat) (gl ou sd sv sw sp : Int32) (pw : Int64) (GS GK OP RP L R BH BN FH FN NL NM TR LI LT : Nat → Nat) (O : Nat → Option Nat) (V : Nat → Option Bool) (C RC S lw : Nat → Bool) (sg iw : Nat → Int64) (tb : Nat → Int32), u = ((nI I), gl, ou, (nI T), sd, (nI E), pw, sv, sw, sp, (nI N), (nI t), (cs_n GS), (cs_n GK), (cs_n OP), (cs_o O), (cs_n RP), (cs_b RC), (cs_n L), (cs_n R), sg, iw, (cs_n BH), (cs_n BN), (cs_n FH), (cs_n FN), (cs_n NL), (cs_n NM), (cs_v V), (cs_b C), (cs_n TR), (cs_n LI), (cs_n LT)) ∧ v = ((nI I), gl, ou, (nI (2 ^ I)), (nI T), sd, (nI E), sv, sw, sp, (cs_n GS), (cs_n GK), (cs_n OP), (cs_o O), (cs_b S), tb, (cs_b lw)) ∧ cs_Inv I T E N gl ou sd sv sw sp pw GK OP RP O S L R sg iw BH BN FH FN NL NM
section
variable {I T E N t PN : Nat} {gl ou sd sv sw sp : Int32} {pw : Int64} {GS GK OP RP L R BH BN FH FN NL NM TR LI LT : Nat → Nat} {O : Nat → Option Nat} {V : Nat → Option Bool} {C RC S lw : Nat → Bool} {sg iw : Nat → Int64} {tb : Nat → Int32}
theorem cs_mk {k : Nat} (h : cs_Inv I T E N gl ou sd sv sw sp pw GK OP RP O S L R sg iw BH BN FH FN NL NM) : i_Rel k ((nI I), gl, ou, (nI T), sd, (nI E), pw, sv, sw, sp, (nI N), (nI t), (cs_n GS), (cs_n GK), (cs_n OP), (cs_o O), (cs_n RP), (cs_b RC), (cs_n L), (cs_n R), sg, iw, (cs_n BH), (cs_n BN), (cs_n FH), (cs_n FN), (cs_n NL), (cs_n NM), (cs_v V), (cs_b C), (cs_n TR), (cs_n LI), (cs_n LT)) ((nI I), gl, ou, (nI (2 ^ I)), (nI T), sd, (nI E), sv, sw, sp, (cs_n GS), (cs_n GK), (cs_n OP), (cs_o O), (cs_b S), tb, (cs_b lw)) :=
  ⟨I, T, E, N, t, gl, ou, sd, sv, sw, sp, pw, GS, GK, OP, RP, L, R, BH, BN, FH, FN, NL, NM, TR, LI, LT, O, V, C, RC, S, lw, sg, iw, tb, rfl, rfl, h⟩
end
theorem cs_el {k : Nat} {u : SX} {v : SY} {P : SX → SY → Prop} (H : ∀ (I T E N t : Nat) (gl ou sd sv sw sp : Int32) (pw : Int64) (GS GK OP RP L R BH BN FH FN NL NM TR LI LT : Nat → Nat) (O : Nat → Option Nat) (V : Nat → Option Bool) (C RC S lw : Nat → Bool) (sg iw : Nat → Int64) (tb : Nat → Int32), cs_Inv I T E N gl ou sd sv sw sp pw GK OP RP O S L R sg iw BH BN FH FN NL NM → P ((nI I), gl, ou, (nI T), sd, (nI E), pw, sv, sw, sp, (nI N), (nI t), (cs_n GS), (cs_n GK), (cs_n OP), (cs_o O), (cs_n RP), (cs_b RC), (cs_n L), (cs_n R), sg, iw, (cs_n BH), (cs_n BN), (cs_n FH), (cs_n FN), (cs_n NL), (cs_n NM), (cs_v V), (cs_b C), (cs_n TR), (cs_n LI), (cs_n LT)) ((nI I), gl, ou, (nI (2 ^ I)), (nI T), sd, (nI E), sv, sw, sp, (cs_n GS), (cs_n GK), (cs_n OP), (cs_o O), (cs_b S), tb, (cs_b lw))) (J : i_Rel k u v) : P u v :=
  J.elim fun I q0 => q0.elim fun T q1 => q1.elim fun E q2 => q2.elim fun N q3 => q3.elim fun t q4 => q4.elim fun gl q5 => q5.elim fun ou q6 => q6.elim fun sd q7 => q7.elim fun sv q8 => q8.elim fun sw q9 => q9.elim fun sp q10 => q10.elim fun pw q11 => q11.elim fun GS q12 => q12.elim fun GK q13 => q13.elim fun OP q14 => q14.elim fun RP q15 => q15.elim fun L q16 => q16.elim fun R q17 => q17.elim fun BH q18 => q18.elim fun BN q19 => q19.elim fun FH q20 => q20.elim fun FN q21 => q21.elim fun NL q22 => q22.elim fun NM q23 => q23.elim fun TR q24 => q24.elim fun LI q25 => q25.elim fun LT q26 => q26.elim fun O q27 => q27.elim fun V q28 => q28.elim fun C q29 => q29.elim fun RC q30 => q30.elim fun S q31 => q31.elim fun lw q32 => q32.elim fun sg q33 => q33.elim fun iw q34 => q34.elim fun tb q35 => (by
    have e1 := q35.1
    have e2 := q35.2.1
    rw [e1, e2]
    exact H I T E N t gl ou sd sv sw sp pw GS GK OP RP L R BH BN FH FN NL NM TR LI LT O V C RC S lw sg iw tb q35.2.2)
theorem i_up {k : Nat} {u : SX} {v : SY} (h : i_Rel k u v) : i_Rel (k + 5) u v := h
end
section
section
variable {I T E N t PN : Nat} {gl ou sd sv sw sp : Int32} {pw : Int64} {GS GK OP RP L R BH BN FH FN NL NM TR LI LT : Nat → Nat} {O : Nat → Option Nat} {V : Nat → Option Bool} {C RC S lw : Nat → Bool} {sg iw : Nat → Int64} {tb : Nat → Int32}
/-! deterministic forms -/
theorem cs_xv1 {post : Int32 → Prop} {x : Int32} (hT : T ≤ 39) (h : ∃ a, a < 2 * T ∧ x = nI a) (K : post 1) : wpX_isValid post ((nI I), gl, ou, (nI T), sd, (nI E), pw, sv, sw, sp, (nI N), (nI t), (cs_n GS), (cs_n GK), (cs_n OP), (cs_o O), (cs_n RP), (cs_b RC), (cs_n L), (cs_n R), sg, iw, (cs_n BH), (cs_n BN), (cs_n FH), (cs_n FN), (cs_n NL), (cs_n NM), (cs_v V), (cs_b C), (cs_n TR), (cs_n LI), (cs_n LT)) x :=
  cs_x_valid (by omega) (fun z => by obtain ⟨a, ha, e⟩ := h; exact absurd e (z a ha)) (fun _ _ _ => K)
theorem cs_xv0 {post : Int32 → Prop} {x : Int32} (hT : T ≤ 39) (h : ¬ ∃ a, a < 2 * T ∧ x = nI a) (K : post 0) : wpX_isValid post ((nI I), gl, ou, (nI T), sd, (nI E), pw, sv, sw, sp, (nI N), (nI t), (cs_n GS), (cs_n GK), (cs_n OP), (cs_o O), (cs_n RP), (cs_b RC), (cs_n L), (cs_n R), sg, iw, (cs_n BH), (cs_n BN), (cs_n FH), (cs_n FN), (cs_n NL), (cs_n NM), (cs_v V), (cs_b C), (cs_n TR), (cs_n LI), (cs_n LT)) x :=
  cs_x_valid (by omega) (fun _ => K) (fun a ha e => absurd ⟨a, ha, e⟩ h)
theorem cs_yv1 {post : Int32 → Prop} {x : Int32} (hT : T ≤ 39) (h : ∃ a, a < 2 * T ∧ x = nI a) (K : post 1) : wpY_valid post ((nI I), gl, ou, (nI PN), (nI T), sd, (nI E), sv, sw, sp, (cs_n GS), (cs_n GK), (cs_n OP), (cs_o O), (cs_b S), tb, (cs_b lw)) x :=
  cs_y_valid (by omega) (fun z => by obtain ⟨a, ha, e⟩ := h; exact absurd e (z a ha)) (fun _ _ _ => K)
theorem cs_yv0 {post : Int32 → Prop} {x : Int32} (hT : T ≤ 39) (h : ¬ ∃ a, a < 2 * T ∧ x = nI a) (K : post 0) : wpY_valid post ((nI I), gl, ou, (nI PN), (nI T), sd, (nI E), sv, sw, sp, (cs_n GS), (cs_n GK), (cs_n OP), (cs_o O), (cs_b S), tb, (cs_b lw)) x :=
  cs_y_valid (by omega) (fun _ => K) (fun a ha e => absurd ⟨a, ha, e⟩ h)
theorem cs_xg1 {post : Int32 → Prop} {x : Int32} (hT : T ≤ 39) (hI : I ≤ 6) (h : ∃ a, I < a ∧ a < T ∧ x = nI a) (K : post 1) : wpX_isGate post ((nI I), gl, ou, (nI T), sd, (nI E), pw, sv, sw, sp, (nI N), (nI t), (cs_n GS), (cs_n GK), (cs_n OP), (cs_o O), (cs_n RP), (cs_b RC), (cs_n L), (cs_n R), sg, iw, (cs_n BH), (cs_n BN), (cs_n FH), (cs_n FN), (cs_n NL), (cs_n NM), (cs_v V), (cs_b C), (cs_n TR), (cs_n LI), (cs_n LT)) x :=
  cs_x_gate (by omega) (by omega) (fun z => by obtain ⟨a, h1, h2, e⟩ := h; exact absurd e (z a h1 h2)) (fun _ _ _ _ => K)
theorem cs_xg0 {post : Int32 → Prop} {x : Int32} (hT : T ≤ 39) (hI : I ≤ 6) (h : ¬ ∃ a, I < a ∧ a < T ∧ x = nI a) (K : post 0) : wpX_isGate post ((nI I), gl, ou, (nI T), sd, (nI E), pw, sv, sw, sp, (nI N), (nI t), (cs_n GS), (cs_n GK), (cs_n OP), (cs_o O), (cs_n RP), (cs_b RC), (cs_n L), (cs_n R), sg, iw, (cs_n BH), (cs_n BN), (cs_n FH), (cs_n FN), (cs_n NL), (cs_n NM), (cs_v V), (cs_b C), (cs_n TR), (cs_n LI), (cs_n LT)) x :=
  cs_x_gate (by omega) (by omega) (fun _ => K) (fun a h1 h2 e => absurd ⟨a, h1, h2, e⟩ h)
theorem cs_yg1 {post : Int32 → Prop} {x : Int32} (hT : T ≤ 39) (hI : I ≤ 6) (h : ∃ a, I < a ∧ a < T ∧ x = nI a) (K : post 1) : wpY_isGate post ((nI I), gl, ou, (nI PN), (nI T), sd, (nI E), sv, sw, sp, (cs_n GS), (cs_n GK), (cs_n OP), (cs_o O), (cs_b S), tb, (cs_b lw)) x :=
  cs_y_gate (by omega) (by omega) (fun z => by obtain ⟨a, h1, h2, e⟩ := h; exact absurd e (z a h1 h2)) (fun _ _ _ _ => K)
theorem cs_yg0 {post : Int32 → Prop} {x : Int32} (hT : T ≤ 39) (hI : I ≤ 6) (h : ¬ ∃ a, I < a ∧ a < T ∧ x = nI a) (K : post 0) : wpY_isGate post ((nI I), gl, ou, (nI PN), (nI T), sd, (nI E), sv, sw, sp, (cs_n GS), (cs_n GK), (cs_n OP), (cs_o O), (cs_b S), tb, (cs_b lw)) x :=
  cs_y_gate (by omega) (by omega) (fun _ => K) (fun a h1 h2 e => absurd ⟨a, h1, h2, e⟩ h)
theorem cs_xp1 {post : Int32 → Prop} {x : Int32} (hI : I ≤ 6) (h : ∃ a, a < 2 ^ I ∧ x = nI a) (K : post 1) : wpX_isPattern post ((nI I), gl, ou, (nI T), sd, (nI E), pw, sv, sw, sp, (nI N), (nI t), (cs_n GS), (cs_n GK), (cs_n OP), (cs_o O), (cs_n RP), (cs_b RC), (cs_n L), (cs_n R), sg, iw, (cs_n BH), (cs_n BN), (cs_n FH), (cs_n FN), (cs_n NL), (cs_n NM), (cs_v V), (cs_b C), (cs_n TR), (cs_n LI), (cs_n LT)) x :=
  cs_x_patt hI (fun z => by obtain ⟨a, h1, e⟩ := h; exact absurd e (z a h1)) (fun _ _ _ => K)
theorem cs_xp0 {post : Int32 → Prop} {x : Int32} (hI : I ≤ 6) (h : ¬ ∃ a, a < 2 ^ I ∧ x = nI a) (K : post 0) : wpX_isPattern post ((nI I), gl, ou, (nI T), sd, (nI E), pw, sv, sw, sp, (nI N), (nI t), (cs_n GS), (cs_n GK), (cs_n OP), (cs_o O), (cs_n RP), (cs_b RC), (cs_n L), (cs_n R), sg, iw, (cs_n BH), (cs_n BN), (cs_n FH), (cs_n FN), (cs_n NL), (cs_n NM), (cs_v V), (cs_b C), (cs_n TR), (cs_n LI), (cs_n LT)) x :=
  cs_x_patt hI (fun _ => K) (fun a h1 e => absurd ⟨a, h1, e⟩ h)
/-- a range test on the reference's side -/
theorem cs_rg1 {n : Nat} {x : Int32} {A B C : Prop} (hn : n < 1000) (h : ∃ a, a < n ∧ x = nI a) (K : B) : (x < 0 → A) ∧ (¬ x < 0 → ((x < nI n → B) ∧ (¬ x < nI n → C))) := by
  obtain ⟨a, ha, rfl⟩ := h
  exact br_f (nI_pos (by omega)) (br_t (nI_lt ha (by omega)) K)
theorem cs_rg0 {n : Nat} {x : Int32} {A B : Prop} (hn : n < 1000) (h : ¬ ∃ a, a < n ∧ x = nI a) (K : A) : (x < 0 → A) ∧ (¬ x < 0 → ((x < nI n → B) ∧ (¬ x < nI n → A))) := by
  refine br_c (fun _ => K) (fun z => ?_)
  obtain ⟨j, hj, rfl⟩ := nI_of z
  refine pk_lt j n (fun w => absurd ⟨j, w, rfl⟩ h) (fun _ => K) rfl rfl hj (by omega)
/-! the short calls -/
theorem cs_vc_selectSide {k : Nat} (h : cs_Inv I T E N gl ou sd sv sw sp pw GK OP RP O S L R sg iw BH BN FH FN NL NM) (v1 : Int32) : wpX_selectSide (fun r u' => wpY_selectSide (fun r' v' => r' = r ∧ i_Rel k u' v') ((nI I), gl, ou, (nI (2 ^ I)), (nI T), sd, (nI E), sv, sw, sp, (cs_n GS), (cs_n GK), (cs_n OP), (cs_o O), (cs_b S), tb, (cs_b lw)) v1) ((nI I), gl, ou, (nI T), sd, (nI E), pw, sv, sw, sp, (nI N), (nI t), (cs_n GS), (cs_n GK), (cs_n OP), (cs_o O), (cs_n RP), (cs_b RC), (cs_n L), (cs_n R), sg, iw, (cs_n BH), (cs_n BN), (cs_n FH), (cs_n FN), (cs_n NL), (cs_n NM), (cs_v V), (cs_b C), (cs_n TR), (cs_n LI), (cs_n LT)) v1 := by
  obtain ⟨h1, hgl, hou, hsd, hv, hp, hiw, hC, hO, hG, hNI, hRI⟩ := h
  by_cases z : v1 = 0
  · subst z
    exact br_t rfl (br_t rfl ⟨rfl, cs_mk ⟨h1, hgl, hou, ⟨0, rfl, by omega⟩, hv, hp, hiw, hC, hO, hG, hNI, hRI⟩⟩)
  · by_cases y : v1 = 1
    · subst y
      exact br_f z (br_t rfl (br_f z (br_t rfl ⟨rfl, cs_mk ⟨h1, hgl, hou, ⟨1, rfl, by omega⟩, hv, hp, hiw, hC, hO, hG, hNI, hRI⟩⟩)))
    · exact br_f z (br_f y (br_f z (br_f y ⟨rfl, cs_mk ⟨h1, hgl, hou, hsd, hv, hp, hiw, hC, hO, hG, hNI, hRI⟩⟩)))
theorem cs_vc_currentSide {k : Nat} (h : cs_Inv I T E N gl ou sd sv sw sp pw GK OP RP O S L R sg iw BH BN FH FN NL NM) : wpX_currentSide (fun r => wpY_currentSide (fun r' => r' = r ∧ i_Rel k ((nI I), gl, ou, (nI T), sd, (nI E), pw, sv, sw, sp, (nI N), (nI t), (cs_n GS), (cs_n GK), (cs_n OP), (cs_o O), (cs_n RP), (cs_b RC), (cs_n L), (cs_n R), sg, iw, (cs_n BH), (cs_n BN), (cs_n FH), (cs_n FN), (cs_n NL), (cs_n NM), (cs_v V), (cs_b C), (cs_n TR), (cs_n LI), (cs_n LT)) ((nI I), gl, ou, (nI (2 ^ I)), (nI T), sd, (nI E), sv, sw, sp, (cs_n GS), (cs_n GK), (cs_n OP), (cs_o O), (cs_b S), tb, (cs_b lw))) ((nI I), gl, ou, (nI (2 ^ I)), (nI T), sd, (nI E), sv, sw, sp, (cs_n GS), (cs_n GK), (cs_n OP), (cs_o O), (cs_b S), tb, (cs_b lw))) ((nI I), gl, ou, (nI T), sd, (nI E), pw, sv, sw, sp, (nI N), (nI t), (cs_n GS), (cs_n GK), (cs_n OP), (cs_o O), (cs_n RP), (cs_b RC), (cs_n L), (cs_n R), sg, iw, (cs_n BH), (cs_n BN), (cs_n FH), (cs_n FN), (cs_n NL), (cs_n NM), (cs_v V), (cs_b C), (cs_n TR), (cs_n LI), (cs_n LT)) := And.intro rfl (cs_mk h)
theorem cs_vc_netCount {k : Nat} (h : cs_Inv I T E N gl ou sd sv sw sp pw GK OP RP O S L R sg iw BH BN FH FN NL NM) : wpX_netCount (fun r => wpY_netCount (fun r' => r' = r ∧ i_Rel k ((nI I), gl, ou, (nI T), sd, (nI E), pw, sv, sw, sp, (nI N), (nI t), (cs_n GS), (cs_n GK), (cs_n OP), (cs_o O), (cs_n RP), (cs_b RC), (cs_n L), (cs_n R), sg, iw, (cs_n BH), (cs_n BN), (cs_n FH), (cs_n FN), (cs_n NL), (cs_n NM), (cs_v V), (cs_b C), (cs_n TR), (cs_n LI), (cs_n LT)) ((nI I), gl, ou, (nI (2 ^ I)), (nI T), sd, (nI E), sv, sw, sp, (cs_n GS), (cs_n GK), (cs_n OP), (cs_o O), (cs_b S), tb, (cs_b lw))) ((nI I), gl, ou, (nI (2 ^ I)), (nI T), sd, (nI E), sv, sw, sp, (cs_n GS), (cs_n GK), (cs_n OP), (cs_o O), (cs_b S), tb, (cs_b lw))) ((nI I), gl, ou, (nI T), sd, (nI E), pw, sv, sw, sp, (nI N), (nI t), (cs_n GS), (cs_n GK), (cs_n OP), (cs_o O), (cs_n RP), (cs_b RC), (cs_n L), (cs_n R), sg, iw, (cs_n BH), (cs_n BN), (cs_n FH), (cs_n FN), (cs_n NL), (cs_n NM), (cs_v V), (cs_b C), (cs_n TR), (cs_n LI), (cs_n LT)) := And.intro rfl (cs_mk h)
theorem cs_vc_settledCount {k : Nat} (h : cs_Inv I T E N gl ou sd sv sw sp pw GK OP RP O S L R sg iw BH BN FH FN NL NM) : wpX_settledCount (fun r => wpY_settledCount (fun r' => r' = r ∧ i_Rel k ((nI I), gl, ou, (nI T), sd, (nI E), pw, sv, sw, sp, (nI N), (nI t), (cs_n GS), (cs_n GK), (cs_n OP), (cs_o O), (cs_n RP), (cs_b RC), (cs_n L), (cs_n R), sg, iw, (cs_n BH), (cs_n BN), (cs_n FH), (cs_n FN), (cs_n NL), (cs_n NM), (cs_v V), (cs_b C), (cs_n TR), (cs_n LI), (cs_n LT)) ((nI I), gl, ou, (nI (2 ^ I)), (nI T), sd, (nI E), sv, sw, sp, (cs_n GS), (cs_n GK), (cs_n OP), (cs_o O), (cs_b S), tb, (cs_b lw))) ((nI I), gl, ou, (nI (2 ^ I)), (nI T), sd, (nI E), sv, sw, sp, (cs_n GS), (cs_n GK), (cs_n OP), (cs_o O), (cs_b S), tb, (cs_b lw))) ((nI I), gl, ou, (nI T), sd, (nI E), pw, sv, sw, sp, (nI N), (nI t), (cs_n GS), (cs_n GK), (cs_n OP), (cs_o O), (cs_n RP), (cs_b RC), (cs_n L), (cs_n R), sg, iw, (cs_n BH), (cs_n BN), (cs_n FH), (cs_n FN), (cs_n NL), (cs_n NM), (cs_v V), (cs_b C), (cs_n TR), (cs_n LI), (cs_n LT)) := And.intro rfl (cs_mk h)
theorem cs_vc_verdict {k : Nat} (h : cs_Inv I T E N gl ou sd sv sw sp pw GK OP RP O S L R sg iw BH BN FH FN NL NM) : wpX_verdict (fun r => wpY_verdict (fun r' => r' = r ∧ i_Rel k ((nI I), gl, ou, (nI T), sd, (nI E), pw, sv, sw, sp, (nI N), (nI t), (cs_n GS), (cs_n GK), (cs_n OP), (cs_o O), (cs_n RP), (cs_b RC), (cs_n L), (cs_n R), sg, iw, (cs_n BH), (cs_n BN), (cs_n FH), (cs_n FN), (cs_n NL), (cs_n NM), (cs_v V), (cs_b C), (cs_n TR), (cs_n LI), (cs_n LT)) ((nI I), gl, ou, (nI (2 ^ I)), (nI T), sd, (nI E), sv, sw, sp, (cs_n GS), (cs_n GK), (cs_n OP), (cs_o O), (cs_b S), tb, (cs_b lw))) ((nI I), gl, ou, (nI (2 ^ I)), (nI T), sd, (nI E), sv, sw, sp, (cs_n GS), (cs_n GK), (cs_n OP), (cs_o O), (cs_b S), tb, (cs_b lw))) ((nI I), gl, ou, (nI T), sd, (nI E), pw, sv, sw, sp, (nI N), (nI t), (cs_n GS), (cs_n GK), (cs_n OP), (cs_o O), (cs_n RP), (cs_b RC), (cs_n L), (cs_n R), sg, iw, (cs_n BH), (cs_n BN), (cs_n FH), (cs_n FN), (cs_n NL), (cs_n NM), (cs_v V), (cs_b C), (cs_n TR), (cs_n LI), (cs_n LT)) := And.intro rfl (cs_mk h)
theorem cs_vc_witness {k : Nat} (h : cs_Inv I T E N gl ou sd sv sw sp pw GK OP RP O S L R sg iw BH BN FH FN NL NM) : wpX_witness (fun r => wpY_witness (fun r' => r' = r ∧ i_Rel k ((nI I), gl, ou, (nI T), sd, (nI E), pw, sv, sw, sp, (nI N), (nI t), (cs_n GS), (cs_n GK), (cs_n OP), (cs_o O), (cs_n RP), (cs_b RC), (cs_n L), (cs_n R), sg, iw, (cs_n BH), (cs_n BN), (cs_n FH), (cs_n FN), (cs_n NL), (cs_n NM), (cs_v V), (cs_b C), (cs_n TR), (cs_n LI), (cs_n LT)) ((nI I), gl, ou, (nI (2 ^ I)), (nI T), sd, (nI E), sv, sw, sp, (cs_n GS), (cs_n GK), (cs_n OP), (cs_o O), (cs_b S), tb, (cs_b lw))) ((nI I), gl, ou, (nI (2 ^ I)), (nI T), sd, (nI E), sv, sw, sp, (cs_n GS), (cs_n GK), (cs_n OP), (cs_o O), (cs_b S), tb, (cs_b lw))) ((nI I), gl, ou, (nI T), sd, (nI E), pw, sv, sw, sp, (nI N), (nI t), (cs_n GS), (cs_n GK), (cs_n OP), (cs_o O), (cs_n RP), (cs_b RC), (cs_n L), (cs_n R), sg, iw, (cs_n BH), (cs_n BN), (cs_n FH), (cs_n FN), (cs_n NL), (cs_n NM), (cs_v V), (cs_b C), (cs_n TR), (cs_n LI), (cs_n LT)) := by
  refine br_c (fun _ => ⟨rfl, cs_mk h⟩) (fun z => ?_)
  rcases h.2.2.2.2.1 with w | w
  · exact absurd w z
  · exact ⟨w.1.symm, cs_mk h⟩
theorem cs_vc_witnessOutput {k : Nat} (h : cs_Inv I T E N gl ou sd sv sw sp pw GK OP RP O S L R sg iw BH BN FH FN NL NM) : wpX_witnessOutput (fun r => wpY_witnessOutput (fun r' => r' = r ∧ i_Rel k ((nI I), gl, ou, (nI T), sd, (nI E), pw, sv, sw, sp, (nI N), (nI t), (cs_n GS), (cs_n GK), (cs_n OP), (cs_o O), (cs_n RP), (cs_b RC), (cs_n L), (cs_n R), sg, iw, (cs_n BH), (cs_n BN), (cs_n FH), (cs_n FN), (cs_n NL), (cs_n NM), (cs_v V), (cs_b C), (cs_n TR), (cs_n LI), (cs_n LT)) ((nI I), gl, ou, (nI (2 ^ I)), (nI T), sd, (nI E), sv, sw, sp, (cs_n GS), (cs_n GK), (cs_n OP), (cs_o O), (cs_b S), tb, (cs_b lw))) ((nI I), gl, ou, (nI (2 ^ I)), (nI T), sd, (nI E), sv, sw, sp, (cs_n GS), (cs_n GK), (cs_n OP), (cs_o O), (cs_b S), tb, (cs_b lw))) ((nI I), gl, ou, (nI T), sd, (nI E), pw, sv, sw, sp, (nI N), (nI t), (cs_n GS), (cs_n GK), (cs_n OP), (cs_o O), (cs_n RP), (cs_b RC), (cs_n L), (cs_n R), sg, iw, (cs_n BH), (cs_n BN), (cs_n FH), (cs_n FN), (cs_n NL), (cs_n NM), (cs_v V), (cs_b C), (cs_n TR), (cs_n LI), (cs_n LT)) := by
  refine br_c (fun _ => ⟨rfl, cs_mk h⟩) (fun z => ?_)
  rcases h.2.2.2.2.1 with w | w
  · exact absurd w z
  · exact ⟨w.2.symm, cs_mk h⟩
theorem cs_y_ps4 {post : Int64 → Prop} (hPN : PN ≤ 64) (hSp : ∀ p, S p = cs_lb pw p) (hSP : ∀ p, cs_lb pw p = true → p < PN) (K : post pw) :
    ∀ d p, p + d = PN → ∀ f, d < f → ∀ w, (∀ q, cs_lb w q = (decide (q < p) && cs_lb pw q)) → (wY_patternSet_4 post (nI I) gl ou (nI PN) (nI T) sd (nI E) sv sw sp (cs_n GS) (cs_n GK) (cs_n OP) (cs_o O) (cs_b S) tb (cs_b lw) f w (nI p)) := by
  intro d
  induction d with
  | zero =>
    intro p hp f hf w h
    obtain ⟨m, rfl⟩ : ∃ m, f = m + 1 := ⟨f - 1, by omega⟩
    obtain rfl : p = PN := by omega
    have e : w = pw := cs_lbext fun q hq => by
      rw [h q]
      cases z : cs_lb pw q with
      | false => rw [Bool.and_false]
      | true => rw [decide_eq_true (hSP q z)]; rfl
    subst e
    exact br_t (nI_le (Nat.le_refl _) (by omega)) K
  | succ d ih =>
    intro p hp f hf w h
    obtain ⟨m, rfl⟩ : ∃ m, f = m + 1 := ⟨f - 1, by omega⟩
    refine br_f (nI_ge (by omega) (by omega)) (And.intro (pk_in p 64 (by omega)) (cs_bc (cs_rb p rfl) (fun z => ?_) (fun z => ?_)))
    · refine nm_r (nI_1 p) (ih (p + 1) (by omega) m (by omega) w (fun q => ?_))
      rw [h q]
      by_cases c : q = p
      · subst c; rw [← hSp, z, Bool.and_false, Bool.and_false]
      · rw [show decide (q < p + 1) = decide (q < p) from decide_eq_decide.2 (by omega)]
    · refine nm_e (nm_r (nI_1 p) (ih (p + 1) (by omega) m (by omega) _ (fun q => ?_)))
      rw [cs_lbor, cs_lbsh (by omega), h q]
      by_cases c : q = p
      · subst c
        rw [← hSp, z]; simp
      · rw [show decide (q < p + 1) = decide (q < p) from decide_eq_decide.2 (by omega), decide_eq_false c, Bool.or_false]
theorem cs_vc_patternSet {k : Nat} (h : cs_Inv I T E N gl ou sd sv sw sp pw GK OP RP O S L R sg iw BH BN FH FN NL NM) : wpX_patternSet (fun r => wpY_patternSet (fun r' => r' = r ∧ i_Rel k ((nI I), gl, ou, (nI T), sd, (nI E), pw, sv, sw, sp, (nI N), (nI t), (cs_n GS), (cs_n GK), (cs_n OP), (cs_o O), (cs_n RP), (cs_b RC), (cs_n L), (cs_n R), sg, iw, (cs_n BH), (cs_n BN), (cs_n FH), (cs_n FN), (cs_n NL), (cs_n NM), (cs_v V), (cs_b C), (cs_n TR), (cs_n LI), (cs_n LT)) ((nI I), gl, ou, (nI (2 ^ I)), (nI T), sd, (nI E), sv, sw, sp, (cs_n GS), (cs_n GK), (cs_n OP), (cs_o O), (cs_b S), tb, (cs_b lw))) ((nI I), gl, ou, (nI (2 ^ I)), (nI T), sd, (nI E), sv, sw, sp, (cs_n GS), (cs_n GK), (cs_n OP), (cs_o O), (cs_b S), tb, (cs_b lw))) ((nI I), gl, ou, (nI T), sd, (nI E), pw, sv, sw, sp, (nI N), (nI t), (cs_n GS), (cs_n GK), (cs_n OP), (cs_o O), (cs_n RP), (cs_b RC), (cs_n L), (cs_n R), sg, iw, (cs_n BH), (cs_n BN), (cs_n FH), (cs_n FN), (cs_n NL), (cs_n NM), (cs_v V), (cs_b C), (cs_n TR), (cs_n LI), (cs_n LT)) := by
  have hI := h.1.2.1
  have hp := h.2.2.2.2.2.1
  refine Exists.intro (2 ^ I + 1) ?_
  exact cs_y_ps4 (cs_p64 hI) hp.2.2 hp.1 ⟨rfl, cs_mk h⟩ (2 ^ I) 0 (by omega) _ (by omega) 0 (fun q => by rw [cs_lb0]; simp)
theorem cs_T39 (h : cs_Inv I T E N gl ou sd sv sw sp pw GK OP RP O S L R sg iw BH BN FH FN NL NM) : T ≤ 39 := by
  obtain ⟨h1, ⟨GL, _, a, b⟩, _⟩ := h
  omega
theorem cs_N256 (h : cs_Inv I T E N gl ou sd sv sw sp pw GK OP RP O S L R sg iw BH BN FH FN NL NM) : N ≤ 199 := by
  obtain ⟨GL, _, a, b⟩ := h.2.1
  have h2 := h.2.2.2.2.2.2.2.2.2.2.1.2.1
  have := h.1
  omega
theorem cs_vc_gateField {k : Nat} (h : cs_Inv I T E N gl ou sd sv sw sp pw GK OP RP O S L R sg iw BH BN FH FN NL NM) (v1 v2 : Int32) : wpX_gateField (fun r => wpY_gateField (fun r' => r' = r ∧ i_Rel k ((nI I), gl, ou, (nI T), sd, (nI E), pw, sv, sw, sp, (nI N), (nI t), (cs_n GS), (cs_n GK), (cs_n OP), (cs_o O), (cs_n RP), (cs_b RC), (cs_n L), (cs_n R), sg, iw, (cs_n BH), (cs_n BN), (cs_n FH), (cs_n FN), (cs_n NL), (cs_n NM), (cs_v V), (cs_b C), (cs_n TR), (cs_n LI), (cs_n LT)) ((nI I), gl, ou, (nI (2 ^ I)), (nI T), sd, (nI E), sv, sw, sp, (cs_n GS), (cs_n GK), (cs_n OP), (cs_o O), (cs_b S), tb, (cs_b lw))) ((nI I), gl, ou, (nI (2 ^ I)), (nI T), sd, (nI E), sv, sw, sp, (cs_n GS), (cs_n GK), (cs_n OP), (cs_o O), (cs_b S), tb, (cs_b lw)) v1 v2) ((nI I), gl, ou, (nI T), sd, (nI E), pw, sv, sw, sp, (nI N), (nI t), (cs_n GS), (cs_n GK), (cs_n OP), (cs_o O), (cs_n RP), (cs_b RC), (cs_n L), (cs_n R), sg, iw, (cs_n BH), (cs_n BN), (cs_n FH), (cs_n FN), (cs_n NL), (cs_n NM), (cs_v V), (cs_b C), (cs_n TR), (cs_n LI), (cs_n LT)) v1 v2 := by
  have hT := cs_T39 h
  have hI := h.1.2.1
  unfold wpX_gateField wpY_gateField
  by_cases hg : ∃ a, I < a ∧ a < T ∧ v1 = nI a
  · refine cs_xg1 hT hI hg (br_f (by decide) ?_)
    obtain ⟨a, a1, a2, rfl⟩ := hg
    have Y1 : ∀ {post : Int32 → Prop}, post 1 → wpY_isGate post ((nI I), gl, ou, (nI (2 ^ I)), (nI T), sd, (nI E), sv, sw, sp, (cs_n GS), (cs_n GK), (cs_n OP), (cs_o O), (cs_b S), tb, (cs_b lw)) (nI a) := fun K => cs_yg1 hT hI ⟨a, a1, a2, rfl⟩ K
    refine br_c (fun z => Y1 (br_f (by decide) (br_t z ⟨rfl, cs_mk h⟩))) (fun z => br_c (fun y => ?_) (fun y => Y1 (br_f (by decide) (br_f z (br_f y ⟨rfl, cs_mk h⟩)))))
    obtain ⟨f, hf, rfl⟩ := nI_of2 (M := 4) (n := 4) (by decide) z y
    refine br_c (fun w => ?_) (fun w => br_c (fun x => ?_) (fun x => ?_))
    · exact And.intro (pk_in a 40 (by omega)) (Y1 (br_f (by decide) (br_f z (br_t y (br_t w (And.intro (pk_in a 39 (by omega)) ⟨rfl, cs_mk h⟩))))))
    · exact And.intro (pk_in a 40 (by omega)) (Y1 (br_f (by decide) (br_f z (br_t y (br_f w (br_t x (And.intro (pk_in a 39 (by omega)) ⟨rfl, cs_mk h⟩)))))))
    · have f2 : 2 ≤ f := by
        by_cases c : 2 ≤ f
        · exact c
        · rcases (show f = 0 ∨ f = 1 by omega) with rfl | rfl
          · exact absurd rfl w
          · exact absurd rfl x
      have e1 : ((3 * nI a) + nI f) - 2 = nI (3 * a + f - 2) := by rw [cs_3m, nI_add]; exact pk_sub (b := 2) (by omega)
      have e2 : ((nI a * 3) + nI f) - 2 = nI (3 * a + f - 2) := by rw [cs_m3, nI_add]; exact pk_sub (b := 2) (by omega)
      refine And.intro (pk_in (3 * a + f - 2) 120 (by omega) e1) (Y1 (br_f (by decide) (br_f z (br_t y (br_f w (br_f x (And.intro (pk_in (3 * a + f - 2) 117 (by omega) e2) ⟨?_, cs_mk h⟩)))))))
      rw [e1, e2]
  · exact cs_xg0 hT hI hg (br_t rfl (cs_yg0 hT hI hg (br_t rfl ⟨rfl, cs_mk h⟩)))
theorem cs_oi_neg (o : Option Nat) (ho : ∀ a, o = some a → a < 1000) : (cs_oi o < 0 ↔ o = none) ∧ (0 ≤ cs_oi o ↔ ¬ o = none) ∧ (cs_oi o = -1 ↔ o = none) := by
  cases o with
  | none => exact ⟨by decide, by decide, by decide⟩
  | some a =>
    have ha := ho a rfl
    refine ⟨⟨fun z => absurd z (nI_pos (by omega)), fun z => by cases z⟩, ⟨fun _ z => (by cases z), fun _ => nI_pos' (by omega)⟩, ⟨fun z => absurd z (cs_nm1 (by omega)), fun z => by cases z⟩⟩
theorem cs_vc_outputLiteral {k : Nat} (h : cs_Inv I T E N gl ou sd sv sw sp pw GK OP RP O S L R sg iw BH BN FH FN NL NM) (v1 v2 : Int32) : wpX_outputLiteral (fun r => wpY_outputLiteral (fun r' => r' = r ∧ i_Rel k ((nI I), gl, ou, (nI T), sd, (nI E), pw, sv, sw, sp, (nI N), (nI t), (cs_n GS), (cs_n GK), (cs_n OP), (cs_o O), (cs_n RP), (cs_b RC), (cs_n L), (cs_n R), sg, iw, (cs_n BH), (cs_n BN), (cs_n FH), (cs_n FN), (cs_n NL), (cs_n NM), (cs_v V), (cs_b C), (cs_n TR), (cs_n LI), (cs_n LT)) ((nI I), gl, ou, (nI (2 ^ I)), (nI T), sd, (nI E), sv, sw, sp, (cs_n GS), (cs_n GK), (cs_n OP), (cs_o O), (cs_b S), tb, (cs_b lw))) ((nI I), gl, ou, (nI (2 ^ I)), (nI T), sd, (nI E), sv, sw, sp, (cs_n GS), (cs_n GK), (cs_n OP), (cs_o O), (cs_b S), tb, (cs_b lw)) v1 v2) ((nI I), gl, ou, (nI T), sd, (nI E), pw, sv, sw, sp, (nI N), (nI t), (cs_n GS), (cs_n GK), (cs_n OP), (cs_o O), (cs_n RP), (cs_b RC), (cs_n L), (cs_n R), sg, iw, (cs_n BH), (cs_n BN), (cs_n FH), (cs_n FN), (cs_n NL), (cs_n NM), (cs_v V), (cs_b C), (cs_n TR), (cs_n LI), (cs_n LT)) v1 v2 := by
  have hT := cs_T39 h
  obtain ⟨OU, hou, o1, o2⟩ := h.2.2.1
  have hO := h.2.2.2.2.2.2.2.2.1
  have key : ∀ s : Nat, s < 2 → ∀ {post : Int32 → Prop}, (∀ r, (wY_outputLiteral_12 ((fun r' => r' = r ∧ i_Rel k ((nI I), gl, ou, (nI T), sd, (nI E), pw, sv, sw, sp, (nI N), (nI t), (cs_n GS), (cs_n GK), (cs_n OP), (cs_o O), (cs_n RP), (cs_b RC), (cs_n L), (cs_n R), sg, iw, (cs_n BH), (cs_n BN), (cs_n FH), (cs_n FN), (cs_n NL), (cs_n NM), (cs_v V), (cs_b C), (cs_n TR), (cs_n LI), (cs_n LT)) ((nI I), gl, ou, (nI (2 ^ I)), (nI T), sd, (nI E), sv, sw, sp, (cs_n GS), (cs_n GK), (cs_n OP), (cs_o O), (cs_b S), tb, (cs_b lw)))) (nI s) v2 (nI I) gl ou (nI (2 ^ I)) (nI T) sd (nI E) sv sw sp (cs_n GS) (cs_n GK) (cs_n OP) (cs_o O) (cs_b S) tb (cs_b lw)) → post r) → (wX_outputLiteral_12 post (nI s) v2 (nI I) gl ou (nI T) sd (nI E) pw sv sw sp (nI N) (nI t) (cs_n GS) (cs_n GK) (cs_n OP) (cs_o O) (cs_n RP) (cs_b RC) (cs_n L) (cs_n R) sg iw (cs_n BH) (cs_n BN) (cs_n FH) (cs_n FN) (cs_n NL) (cs_n NM) (cs_v V) (cs_b C) (cs_n TR) (cs_n LI) (cs_n LT)) := by
    intro s hs post hpost
    subst hou
    by_cases c : ∃ b, b < OU ∧ v2 = nI b
    · obtain ⟨b, b1, rfl⟩ := c
      have e1 : (4 * nI s) + nI b = nI (4 * s + b) := by rw [cs_4m, nI_add]
      have e2 : (nI s * 4) + nI b = nI (4 * s + b) := by rw [cs_m4, nI_add]
      obtain ⟨q1, q2, q3⟩ := cs_oi_neg (O (4 * s + b)) (fun a ha => by have := hO (4 * s + b) (by omega) a ha; omega)
      refine br_f (nI_pos (by omega)) (br_t (nI_lt b1 (by omega)) (And.intro (pk_in (4 * s + b) 8 (by omega) e1) (nm_r (cs_ro _ e1) ?_)))
      refine br_c (fun z => hpost _ ?_) (fun z => hpost _ ?_)
      · have z1 := q2.1 z
        refine br_f (nI_pos (by omega)) (br_t (nI_lt b1 (by omega)) (And.intro (pk_in (4 * s + b) 8 (by omega) e2) ?_))
        rw [cs_ro (4 * s + b) e2]
        exact br_f (fun w => z1 (q3.1 w)) (And.intro (pk_in (4 * s + b) 8 (by omega) e2) ⟨rfl, cs_mk h⟩)
      · have z1 : O (4 * s + b) = none := Classical.byContradiction fun w => z (q2.2 w)
        refine br_f (nI_pos (by omega)) (br_t (nI_lt b1 (by omega)) (And.intro (pk_in (4 * s + b) 8 (by omega) e2) ?_))
        rw [cs_ro (4 * s + b) e2]
        exact br_t (q3.2 z1) ⟨rfl, cs_mk h⟩
    · exact cs_rg0 (by omega) c (hpost _ (cs_rg0 (by omega) c ⟨rfl, cs_mk h⟩))
  unfold wpX_outputLiteral wpY_outputLiteral
  refine br_c (fun z => ?_) (fun z => br_c (fun y => ?_) (fun y => ?_))
  · subst z
    exact key 0 (by omega) (fun r hr => br_t rfl hr)
  · subst y
    exact key 1 (by omega) (fun r hr => br_f z (br_t rfl hr))
  · exact br_f z (br_f y ⟨rfl, cs_mk h⟩)
end
end
section
section
variable {I T E N t PN : Nat} {gl ou sd sv sw sp : Int32} {pw : Int64} {GS GK OP RP L R BH BN FH FN NL NM TR LI LT : Nat → Nat} {O : Nat → Option Nat} {V : Nat → Option Bool} {C RC S lw : Nat → Bool} {sg iw : Nat → Int64} {tb : Nat → Int32}
theorem cs_NI_ev {GK' OP' : Nat → Nat} (h : cs_NI I GK OP T N L R NL NM) (he : ∀ n, n < T → ∀ p, cs_ev I GK OP p n = cs_ev I GK' OP' p n) : cs_NI I GK' OP' T N L R NL NM := by
  obtain ⟨h1, h2, h3, h4, h5, h6⟩ := h
  exact ⟨h1, h2, h3, fun n hn => ⟨(h4 n hn).1, fun p => by rw [← he n hn p]; exact (h4 n hn).2 p⟩, h5, h6⟩
theorem cs_ev_same {GK' OP' : Nat → Nat} {v : Nat} (hk : ∀ n, n < v → GK n = GK' n) (ho : ∀ n, n < 3 * v → OP n = OP' n) : ∀ n, n < v → ∀ p, cs_ev I GK OP p n = cs_ev I GK' OP' p n := fun n hn p =>
  cs_ev_congr fun k h1 h2 => ⟨hk k (by omega), ho _ (by omega), ho _ (by omega), ho _ (by omega)⟩
def cs_min (a b : Nat) : Nat := if a ≤ b then a else b
theorem cs_min_le (a b : Nat) : cs_min a b ≤ a ∧ cs_min a b ≤ b ∧ (cs_min a b = a ∨ cs_min a b = b) := by
  unfold cs_min; split <;> omega
theorem cs_x_gedit {post : SX → Prop} {x : Int32} (a : Nat) (hx : x = nI a) (hI6 : I ≤ 6) (hI : I < a) (ha : a < T) (hT : T ≤ 39) (hE : E ≤ 39) (hN : N ≤ 256) (hm1 : I < NM a) (hm2 : NM a ≤ N) (hG : cs_G I pw N L R sg BH BN FH FN) (hC : cs_CW I T GK OP) (hNI : cs_NI I GK OP a (NM a) L R NL NM)
    (K : ∀ (g : cs_GT) (NL' NM' : Nat → Nat), cs_G I pw g.1 g.2.1 g.2.2.1 g.2.2.2.1 g.2.2.2.2.1 g.2.2.2.2.2.1 g.2.2.2.2.2.2.1 g.2.2.2.2.2.2.2 → cs_NI I GK OP T g.1 g.2.1 g.2.2.1 NL' NM' → post ((nI I), gl, ou, (nI T), sd, (nI (cs_min E a)), pw, 0, (-1), (-1), (nI g.1), (nI t), (cs_n GS), (cs_n GK), (cs_n OP), (cs_o O), (cs_n RP), (cs_b RC), (cs_n g.2.1), (cs_n g.2.2.1), g.2.2.2.1, iw, (cs_n g.2.2.2.2.1), (cs_n g.2.2.2.2.2.1), (cs_n g.2.2.2.2.2.2.1), (cs_n g.2.2.2.2.2.2.2), (cs_n NL'), (cs_n NM'), (cs_v V), (cs_b C), (cs_n TR), (cs_n LI), (cs_n LT))) : wpX_gateEdited post ((nI I), gl, ou, (nI T), sd, (nI E), pw, sv, sw, sp, (nI N), (nI t), (cs_n GS), (cs_n GK), (cs_n OP), (cs_o O), (cs_n RP), (cs_b RC), (cs_n L), (cs_n R), sg, iw, (cs_n BH), (cs_n BN), (cs_n FH), (cs_n FN), (cs_n NL), (cs_n NM), (cs_v V), (cs_b C), (cs_n TR), (cs_n LI), (cs_n LT)) x := by
  subst hx
  have key : ∀ E : Nat, (∀ (g : cs_GT) (NL' NM' : Nat → Nat), cs_G I pw g.1 g.2.1 g.2.2.1 g.2.2.2.1 g.2.2.2.2.1 g.2.2.2.2.2.1 g.2.2.2.2.2.2.1 g.2.2.2.2.2.2.2 → cs_NI I GK OP T g.1 g.2.1 g.2.2.1 NL' NM' → post ((nI I), gl, ou, (nI T), sd, (nI E), pw, 0, (-1), (-1), (nI g.1), (nI t), (cs_n GS), (cs_n GK), (cs_n OP), (cs_o O), (cs_n RP), (cs_b RC), (cs_n g.2.1), (cs_n g.2.2.1), g.2.2.2.1, iw, (cs_n g.2.2.2.2.1), (cs_n g.2.2.2.2.2.1), (cs_n g.2.2.2.2.2.2.1), (cs_n g.2.2.2.2.2.2.2), (cs_n NL'), (cs_n NM'), (cs_v V), (cs_b C), (cs_n TR), (cs_n LI), (cs_n LT))) → (wX_gateEdited_13 post (nI a) (nI I) gl ou (nI T) sd (nI E) pw sv sw sp (nI N) (nI t) (cs_n GS) (cs_n GK) (cs_n OP) (cs_o O) (cs_n RP) (cs_b RC) (cs_n L) (cs_n R) sg iw (cs_n BH) (cs_n BN) (cs_n FH) (cs_n FN) (cs_n NL) (cs_n NM) (cs_v V) (cs_b C) (cs_n TR) (cs_n LI) (cs_n LT)) := by
    intro E K
    unfold wX_gateEdited_13 wpX_dropVerdict
    refine And.intro (pk_in a 40 (by omega)) ?_
    refine cs_x_tr (NM a) (cs_rd a rfl) hm1 hm2 hN hG (fun BH' FH' hG' => ?_)
    refine cs_x_bf a rfl hC hT hI (by omega) hG' hNI (fun g NL' NM' b1 b2 => ?_)
    exact K g NL' NM' b1 b2
  unfold cs_min at K
  refine pk_le E a (fun z => ?_) (fun z => ?_) rfl rfl (by omega) (by omega)
  · rw [if_pos z] at K
    exact key E K
  · rw [if_neg (by omega)] at K
    exact key a K
theorem cs_y_edit {post : SY → Prop} {x : Int32} (a : Nat) (hx : x = nI a) (ha : a < 1000) (hE : E < 1000) (K : post ((nI I), gl, ou, (nI PN), (nI T), sd, (nI (cs_min E a)), 0, (-1), (-1), (cs_n GS), (cs_n GK), (cs_n OP), (cs_o O), (cs_b S), tb, (cs_b lw))) : wpY_edited post ((nI I), gl, ou, (nI PN), (nI T), sd, (nI E), sv, sw, sp, (cs_n GS), (cs_n GK), (cs_n OP), (cs_o O), (cs_b S), tb, (cs_b lw)) x := by
  subst hx
  unfold cs_min at K
  refine pk_le E a (fun z => ?_) (fun z => ?_) rfl rfl (by omega) (by omega)
  · rw [if_pos z] at K
    exact K
  · rw [if_neg (by omega)] at K
    exact K
/-- the invariant after a gate was edited -/
theorem cs_Inv_edit {GK' OP' NL' NM' : Nat → Nat} {g : cs_GT} {a : Nat} (h : cs_Inv I T E N gl ou sd sv sw sp pw GK OP RP O S L R sg iw BH BN FH FN NL NM) (hI : I < a) (ha : a < T) (hC : cs_CW I T GK' OP') (hk : ∀ n, n < a → GK n = GK' n) (ho : ∀ n, n < 3 * a → OP n = OP' n) (hG : cs_G I pw g.1 g.2.1 g.2.2.1 g.2.2.2.1 g.2.2.2.2.1 g.2.2.2.2.2.1 g.2.2.2.2.2.2.1 g.2.2.2.2.2.2.2) (hNI : cs_NI I GK' OP' T g.1 g.2.1 g.2.2.1 NL' NM') :
    cs_Inv I T (cs_min E a) g.1 gl ou sd 0 (-1) (-1) pw GK' OP' RP O S g.2.1 g.2.2.1 g.2.2.2.1 iw g.2.2.2.2.1 g.2.2.2.2.2.1 g.2.2.2.2.2.2.1 g.2.2.2.2.2.2.2 NL' NM' := by
  obtain ⟨h1, hgl, hou, hsd, hv, hp, hiw, _, hO, _, _, hRI⟩ := h
  obtain ⟨m1, m2, m3⟩ := cs_min_le E a
  refine ⟨by omega, hgl, hou, hsd, Or.inr ⟨rfl, rfl⟩, hp, hiw, hC, hO, hG, hNI, ?_⟩
  exact cs_RI_ev (Nat.pos_of_ne_zero (by simp)) (cs_RI_cut hRI m1) (fun n hn p _ => cs_ev_same hk ho n (by omega) p)
theorem cs_vc_setKind {k : Nat} (h : cs_Inv I T E N gl ou sd sv sw sp pw GK OP RP O S L R sg iw BH BN FH FN NL NM) (v1 v2 : Int32) : wpX_setKind (fun r u' => wpY_setKind (fun r' v' => r' = r ∧ i_Rel k u' v') ((nI I), gl, ou, (nI (2 ^ I)), (nI T), sd, (nI E), sv, sw, sp, (cs_n GS), (cs_n GK), (cs_n OP), (cs_o O), (cs_b S), tb, (cs_b lw)) v1 v2) ((nI I), gl, ou, (nI T), sd, (nI E), pw, sv, sw, sp, (nI N), (nI t), (cs_n GS), (cs_n GK), (cs_n OP), (cs_o O), (cs_n RP), (cs_b RC), (cs_n L), (cs_n R), sg, iw, (cs_n BH), (cs_n BN), (cs_n FH), (cs_n FN), (cs_n NL), (cs_n NM), (cs_v V), (cs_b C), (cs_n TR), (cs_n LI), (cs_n LT)) v1 v2 := by
  have hT := cs_T39 h
  have hN := cs_N256 h
  have hI := h.1.2.1
  have hE := h.1.2.2.2.2
  unfold wpX_setKind wpY_setKind
  by_cases hg : ∃ a, I < a ∧ a < T ∧ v1 = nI a
  · refine cs_xg1 hT hI hg (br_f (by decide) ?_)
    obtain ⟨a, a1, a2, rfl⟩ := hg
    have Y1 : ∀ {post : Int32 → Prop}, post 1 → wpY_isGate post ((nI I), gl, ou, (nI (2 ^ I)), (nI T), sd, (nI E), sv, sw, sp, (cs_n GS), (cs_n GK), (cs_n OP), (cs_o O), (cs_b S), tb, (cs_b lw)) (nI a) := fun K => cs_yg1 hT hI ⟨a, a1, a2, rfl⟩ K
    refine br_c (fun z => Y1 (br_f (by decide) (br_t z ⟨rfl, cs_mk h⟩))) (fun z => br_c (fun y => ?_) (fun y => Y1 (br_f (by decide) (br_f z (br_f y ⟨rfl, cs_mk h⟩)))))
    obtain ⟨f, hf, rfl⟩ := nI_of2 (M := 4) (n := 4) (by decide) z y
    have hC := h.2.2.2.2.2.2.2.1
    have hG := h.2.2.2.2.2.2.2.2.2.1
    have hNI := h.2.2.2.2.2.2.2.2.2.2.1
    have q := hNI.2.2.2.2.1 a a1 a2
    have hk : ∀ n, n < a → GK n = cs_up GK a f n := fun n hn => (cs_uo (by omega)).symm
    have hC' : cs_CW I T (cs_up GK a f) OP := fun n n1 n2 => by
      obtain ⟨c0, c1⟩ := hC n n1 n2
      refine ⟨?_, c1⟩
      by_cases c : n = a
      · subst c; rw [cs_us]; exact hf
      · rw [cs_uo c]; exact c0
    refine And.intro (pk_in a 40 (by omega)) (nm_r (cs_wr a f rfl rfl) ?_)
    refine cs_x_gedit a rfl hI a1 a2 hT (by omega) (by omega) q.1 q.2.1 hG hC' (cs_NI_ev (cs_NI_cut hNI a1 a2) (cs_ev_same hk (fun _ _ => rfl))) (fun g NL' NM' b1 b2 => ?_)
    refine Y1 (br_f (by decide) (br_f z (br_t y (And.intro (pk_in a 39 (by omega)) (nm_r (cs_wr a f rfl rfl) ?_)))))
    refine cs_y_edit a rfl (by omega) (by omega) ⟨rfl, cs_mk (cs_Inv_edit h a1 a2 hC' hk (fun _ _ => rfl) b1 b2)⟩
  · exact cs_xg0 hT hI hg (br_t rfl (cs_yg0 hT hI hg (br_t rfl ⟨rfl, cs_mk h⟩)))
theorem cs_vc_setFanin {k : Nat} (h : cs_Inv I T E N gl ou sd sv sw sp pw GK OP RP O S L R sg iw BH BN FH FN NL NM) (v1 v2 v3 : Int32) : wpX_setFanin (fun r u' => wpY_setFanin (fun r' v' => r' = r ∧ i_Rel k u' v') ((nI I), gl, ou, (nI (2 ^ I)), (nI T), sd, (nI E), sv, sw, sp, (cs_n GS), (cs_n GK), (cs_n OP), (cs_o O), (cs_b S), tb, (cs_b lw)) v1 v2 v3) ((nI I), gl, ou, (nI T), sd, (nI E), pw, sv, sw, sp, (nI N), (nI t), (cs_n GS), (cs_n GK), (cs_n OP), (cs_o O), (cs_n RP), (cs_b RC), (cs_n L), (cs_n R), sg, iw, (cs_n BH), (cs_n BN), (cs_n FH), (cs_n FN), (cs_n NL), (cs_n NM), (cs_v V), (cs_b C), (cs_n TR), (cs_n LI), (cs_n LT)) v1 v2 v3 := by
  have hT := cs_T39 h
  have hN := cs_N256 h
  have hI := h.1.2.1
  have hE := h.1.2.2.2.2
  unfold wpX_setFanin wpY_setFanin
  by_cases hg : ∃ a, I < a ∧ a < T ∧ v1 = nI a
  · refine cs_xg1 hT hI hg (br_f (by decide) ?_)
    obtain ⟨a, a1, a2, rfl⟩ := hg
    have Y1 : ∀ {post : Int32 → Prop}, post 1 → wpY_isGate post ((nI I), gl, ou, (nI (2 ^ I)), (nI T), sd, (nI E), sv, sw, sp, (cs_n GS), (cs_n GK), (cs_n OP), (cs_o O), (cs_b S), tb, (cs_b lw)) (nI a) := fun K => cs_yg1 hT hI ⟨a, a1, a2, rfl⟩ K
    refine br_c (fun z => Y1 (br_f (by decide) (br_t z ⟨rfl, cs_mk h⟩))) (fun z => br_c (fun y => ?_) (fun y => Y1 (br_f (by decide) (br_f z (br_f y ⟨rfl, cs_mk h⟩)))))
    obtain ⟨f, hf, rfl⟩ := nI_of2 (M := 2) (n := 2) (by decide) z y
    have e4 : 2 * nI a - 1 = nI (2 * a - 1) := by rw [cs_2m]; exact cs_s1 (by omega)
    refine br_c (fun x => Y1 (br_f (by decide) (br_f z (br_t y (br_t x ⟨rfl, cs_mk h⟩))))) (fun x => ?_)
    obtain ⟨l, hl, rfl⟩ := nI_of x
    refine pk_le (2 * a) l (fun w => Y1 (br_f (by decide) (br_f z (br_t y (br_f x (br_t ?_ ⟨rfl, cs_mk h⟩)))))) (fun w => ?_) (cs_2m a) rfl (by omega) hl
    · rw [e4]; exact nI_lt (by omega) hl
    · have yl : ¬ 2 * nI a - 1 < nI l := by rw [e4]; exact nI_nlt (by omega) (by omega)
      refine And.intro (pk_in a 40 (by omega)) ?_
      by_cases us : cs_Us I T GS (nI l) (nI (GS a))
      · refine cs_x_ust hT hI (by rw [cs_rd a rfl]; exact us) (br_f (by decide) ?_)
        have hC := h.2.2.2.2.2.2.2.1
        have hG := h.2.2.2.2.2.2.2.2.2.1
        have hNI := h.2.2.2.2.2.2.2.2.2.2.1
        have q := hNI.2.2.2.2.1 a a1 a2
        have e1 : 3 * nI a + nI f = nI (3 * a + f) := by rw [cs_3m, nI_add]
        have e2 : nI a * 3 + nI f = nI (3 * a + f) := by rw [cs_m3, nI_add]
        have ho : ∀ n, n < 3 * a → OP n = cs_up OP (3 * a + f) l n := fun n hn => (cs_uo (by omega)).symm
        have hC' : cs_CW I T GK (cs_up OP (3 * a + f) l) := fun n n1 n2 => by
          obtain ⟨c0, c1, c2, c3⟩ := hC n n1 n2
          have gen : ∀ j, j < 3 → OP (3 * n + j) < 2 * n → cs_up OP (3 * a + f) l (3 * n + j) < 2 * n := fun j hj hh => by
            by_cases c : 3 * n + j = 3 * a + f
            · rw [c, cs_us]; omega
            · rw [cs_uo c]; exact hh
          exact ⟨c0, gen 0 (by omega) c1, gen 1 (by omega) c2, gen 2 (by omega) c3⟩
        refine And.intro (pk_in (3 * a + f) 120 (by omega) e1) (nm_r (cs_wr (3 * a + f) l e1 rfl) ?_)
        refine cs_x_gedit a rfl hI a1 a2 hT (by omega) (by omega) q.1 q.2.1 hG hC' (cs_NI_ev (cs_NI_cut hNI a1 a2) (cs_ev_same (fun _ _ => rfl) ho)) (fun g NL' NM' b1 b2 => ?_)
        refine Y1 (br_f (by decide) (br_f z (br_t y (br_f x (br_f yl (And.intro (pk_in a 39 (by omega)) ?_))))))
        refine cs_y_ust hT hI (by rw [cs_rd a rfl]; exact us) (br_f (by decide) (And.intro (pk_in (3 * a + f) 117 (by omega) e2) (nm_r (cs_wr (3 * a + f) l e2 rfl) ?_)))
        exact cs_y_edit a rfl (by omega) (by omega) ⟨rfl, cs_mk (cs_Inv_edit h a1 a2 hC' (fun _ _ => rfl) ho b1 b2)⟩
      · refine cs_x_usf hT hI (by rw [cs_rd a rfl]; exact us) (br_t rfl ?_)
        refine Y1 (br_f (by decide) (br_f z (br_t y (br_f x (br_f yl (And.intro (pk_in a 39 (by omega)) ?_))))))
        exact cs_y_usf hT hI (by rw [cs_rd a rfl]; exact us) (br_t rfl ⟨rfl, cs_mk h⟩)
  · exact cs_xg0 hT hI hg (br_t rfl (cs_yg0 hT hI hg (br_t rfl ⟨rfl, cs_mk h⟩)))
theorem cs_vc_setOutput {k : Nat} (h : cs_Inv I T E N gl ou sd sv sw sp pw GK OP RP O S L R sg iw BH BN FH FN NL NM) (v1 v2 v3 : Int32) : wpX_setOutput (fun r u' => wpY_setOutput (fun r' v' => r' = r ∧ i_Rel k u' v') ((nI I), gl, ou, (nI (2 ^ I)), (nI T), sd, (nI E), sv, sw, sp, (cs_n GS), (cs_n GK), (cs_n OP), (cs_o O), (cs_b S), tb, (cs_b lw)) v1 v2 v3) ((nI I), gl, ou, (nI T), sd, (nI E), pw, sv, sw, sp, (nI N), (nI t), (cs_n GS), (cs_n GK), (cs_n OP), (cs_o O), (cs_n RP), (cs_b RC), (cs_n L), (cs_n R), sg, iw, (cs_n BH), (cs_n BN), (cs_n FH), (cs_n FN), (cs_n NL), (cs_n NM), (cs_v V), (cs_b C), (cs_n TR), (cs_n LI), (cs_n LT)) v1 v2 v3 := by
  have hT := cs_T39 h
  have hI := h.1.2.1
  have key : ∀ s : Nat, s < 2 → ∀ {post : Int32 → SX → Prop}, (∀ r u', (wY_setOutput_12 ((fun r' v' => r' = r ∧ i_Rel k u' v')) (nI s) v2 v3 (nI I) gl ou (nI (2 ^ I)) (nI T) sd (nI E) sv sw sp (cs_n GS) (cs_n GK) (cs_n OP) (cs_o O) (cs_b S) tb (cs_b lw)) → post r u') → (wX_setOutput_12 post (nI s) v2 v3 (nI I) gl ou (nI T) sd (nI E) pw sv sw sp (nI N) (nI t) (cs_n GS) (cs_n GK) (cs_n OP) (cs_o O) (cs_n RP) (cs_b RC) (cs_n L) (cs_n R) sg iw (cs_n BH) (cs_n BN) (cs_n FH) (cs_n FN) (cs_n NL) (cs_n NM) (cs_v V) (cs_b C) (cs_n TR) (cs_n LI) (cs_n LT)) := by
    intro s hs post hpost
    obtain ⟨OU, hou, o1, o2⟩ := h.2.2.1
    subst hou
    by_cases c : ∃ b, b < OU ∧ v2 = nI b
    · obtain ⟨b, b1, rfl⟩ := c
      have e1 : (4 * nI s) + nI b = nI (4 * s + b) := by rw [cs_4m, nI_add]
      have e2 : (nI s * 4) + nI b = nI (4 * s + b) := by rw [cs_m4, nI_add]
      have finX : ∀ (o : Option Nat) {post : Int32 → SX → Prop}, v3 = cs_oi o → post 0 ((nI I), gl, (nI OU), (nI T), sd, (nI E), pw, 0, (-1), (-1), (nI N), (nI t), (cs_n GS), (cs_n GK), (cs_n OP), (cs_o (cs_up O (4 * s + b) o)), (cs_n RP), (cs_b RC), (cs_n L), (cs_n R), sg, iw, (cs_n BH), (cs_n BN), (cs_n FH), (cs_n FN), (cs_n NL), (cs_n NM), (cs_v V), (cs_b C), (cs_n TR), (cs_n LI), (cs_n LT)) → (wX_setOutput_44 post (nI s) (nI b) v3 (nI I) gl (nI OU) (nI T) sd (nI E) pw sv sw sp (nI N) (nI t) (cs_n GS) (cs_n GK) (cs_n OP) (cs_o O) (cs_n RP) (cs_b RC) (cs_n L) (cs_n R) sg iw (cs_n BH) (cs_n BN) (cs_n FH) (cs_n FN) (cs_n NL) (cs_n NM) (cs_v V) (cs_b C) (cs_n TR) (cs_n LI) (cs_n LT)) := fun o post ho K =>
        And.intro (pk_in (4 * s + b) 8 (by omega) e1) (nm_r (cs_wo (4 * s + b) o e1 ho) K)
      have finY : ∀ (o : Option Nat) {post : Int32 → SY → Prop}, v3 = cs_oi o → post 0 ((nI I), gl, (nI OU), (nI (2 ^ I)), (nI T), sd, (nI E), 0, (-1), (-1), (cs_n GS), (cs_n GK), (cs_n OP), (cs_o (cs_up O (4 * s + b) o)), (cs_b S), tb, (cs_b lw)) → (wY_setOutput_44 post (nI s) (nI b) v3 (nI I) gl (nI OU) (nI (2 ^ I)) (nI T) sd (nI E) sv sw sp (cs_n GS) (cs_n GK) (cs_n OP) (cs_o O) (cs_b S) tb (cs_b lw)) := fun o post ho K =>
        And.intro (pk_in (4 * s + b) 8 (by omega) e2) (nm_r (cs_wo (4 * s + b) o e2 ho) K)
      have inv : ∀ o : Option Nat, (∀ a, o = some a → a < 2 * T) → cs_Inv I T E N gl (nI OU) sd 0 (-1) (-1) pw GK OP RP (cs_up O (4 * s + b) o) S L R sg iw BH BN FH FN NL NM := by
        intro o ho
        obtain ⟨h1, hgl, hou, hsd, hv, hp, hiw, hC, hO, hG, hNI, hRI⟩ := h
        refine ⟨h1, hgl, hou, hsd, Or.inr ⟨rfl, rfl⟩, hp, hiw, hC, fun j hj a ha => ?_, hG, hNI, hRI⟩
        by_cases c : j = 4 * s + b
        · subst c; rw [cs_us] at ha; exact ho a ha
        · rw [cs_uo c] at ha; exact hO j hj a ha
      refine br_f (nI_pos (by omega)) (br_t (nI_lt b1 (by omega)) ?_)
      have Y0 : ∀ {A B C : Prop}, B → (nI b < 0 → A) ∧ (¬ nI b < 0 → ((nI b < nI OU → B) ∧ (¬ nI b < nI OU → C))) := fun K => br_f (nI_pos (by omega)) (br_t (nI_lt b1 (by omega)) K)
      refine br_c (fun z => ?_) (fun z => ?_)
      · exact finX none z (hpost _ _ (Y0 (br_t z (finY none z ⟨rfl, cs_mk (inv none (fun a ha => by cases ha))⟩))))
      · by_cases us : cs_Us I T GS v3 (nI s)
        · refine cs_x_ust hT hI us (br_f (by decide) ?_)
          obtain ⟨a, a1, a2, a3⟩ := us
          exact finX (some a) a2 (hpost _ _ (Y0 (br_f z (cs_y_ust hT hI ⟨a, a1, a2, a3⟩ (br_f (by decide) (finY (some a) a2 ⟨rfl, cs_mk (inv (some a) (fun w hw => by injection hw with hw; omega))⟩))))))
        · exact cs_x_usf hT hI us (br_t rfl (hpost _ _ (Y0 (br_f z (cs_y_usf hT hI us (br_t rfl ⟨rfl, cs_mk h⟩))))))
    · exact cs_rg0 (by omega) c (hpost _ _ (cs_rg0 (by omega) c ⟨rfl, cs_mk h⟩))
  unfold wpX_setOutput wpY_setOutput
  refine br_c (fun z => ?_) (fun z => br_c (fun y => ?_) (fun y => ?_))
  · subst z
    exact key 0 (by omega) (fun r u' hr => br_t rfl hr)
  · subst y
    exact key 1 (by omega) (fun r u' hr => br_f z (br_t rfl hr))
  · exact br_f z (br_f y ⟨rfl, cs_mk h⟩)
theorem cs_vc_addGate {k : Nat} (h : cs_Inv I T E N gl ou sd sv sw sp pw GK OP RP O S L R sg iw BH BN FH FN NL NM) (v1 v2 v3 v4 : Int32) : wpX_addGate (fun r u' => wpY_addGate (fun r' v' => r' = r ∧ i_Rel k u' v') ((nI I), gl, ou, (nI (2 ^ I)), (nI T), sd, (nI E), sv, sw, sp, (cs_n GS), (cs_n GK), (cs_n OP), (cs_o O), (cs_b S), tb, (cs_b lw)) v1 v2 v3 v4) ((nI I), gl, ou, (nI T), sd, (nI E), pw, sv, sw, sp, (nI N), (nI t), (cs_n GS), (cs_n GK), (cs_n OP), (cs_o O), (cs_n RP), (cs_b RC), (cs_n L), (cs_n R), sg, iw, (cs_n BH), (cs_n BN), (cs_n FH), (cs_n FN), (cs_n NL), (cs_n NM), (cs_v V), (cs_b C), (cs_n TR), (cs_n LI), (cs_n LT)) v1 v2 v3 v4 := by
  have hT := cs_T39 h
  have hN := cs_N256 h
  have hI := h.1.2.1
  have hIT := h.1.2.2.1
  have hE := h.1.2.2.2.2
  obtain ⟨GL, hgl, g1, g2⟩ := h.2.1
  obtain ⟨SD, hsd, sd1⟩ := h.2.2.2.1
  have e0 : (nI T - nI I) - 1 = nI (T - I - 1) := by rw [pk_sub (by omega), cs_s1 (by omega)]
  have e0' : (nI T - 1) - nI I = nI (T - I - 1) := by rw [cs_s1 (by omega), pk_sub (by omega)]; exact congrArg nI (by omega)
  unfold wpX_addGate wpY_addGate
  by_cases full : T - I - 1 < GL
  · have xf : (nI T - nI I) - 1 < gl := by rw [e0, hgl]; exact nI_lt full (by omega)
    have yf : (nI T - 1) - nI I < gl := by rw [e0', hgl]; exact nI_lt full (by omega)
    refine br_t xf (br_c (fun z => br_t yf (br_t z ⟨rfl, cs_mk h⟩)) (fun z => br_c (fun y => ?_) (fun y => br_t yf (br_f z (br_f y ⟨rfl, cs_mk h⟩)))))
    by_cases u1 : cs_Us I T GS v2 sd
    · refine cs_x_ust hT hI u1 (br_f (by decide) ?_)
      by_cases u2 : cs_Us I T GS v3 sd
      · refine cs_x_ust hT hI u2 (br_f (by decide) ?_)
        by_cases u3 : cs_Us I T GS v4 sd
        · refine cs_x_ust hT hI u3 (br_f (by decide) ?_)
          obtain ⟨f, hf, rfl⟩ := nI_of2 (M := 4) (n := 4) (by decide) z y
          have u1' := u1
          have u2' := u2
          have u3' := u3
          obtain ⟨a, a1, rfl, _⟩ := u1
          obtain ⟨b, b1, rfl, _⟩ := u2
          obtain ⟨c, c1, rfl, _⟩ := u3
          have hC := h.2.2.2.2.2.2.2.1
          have hG := h.2.2.2.2.2.2.2.2.2.1
          have hNI := h.2.2.2.2.2.2.2.2.2.2.1
          have e1 : (3 * nI T) + 1 = nI (3 * T + 1) := by rw [cs_3m, nI_1]
          have e2 : (3 * nI T) + 2 = nI (3 * T + 2) := by rw [cs_3m, cs_a2]
          have f1 : (nI T * 3) + 1 = nI (3 * T + 1) := by rw [cs_m3, nI_1]
          have f2 : (nI T * 3) + 2 = nI (3 * T + 2) := by rw [cs_m3, cs_a2]
          have o0 : cs_up (cs_up (cs_up OP (3 * T) a) (3 * T + 1) b) (3 * T + 2) c (3 * T) = a := by rw [cs_uo (by omega), cs_uo (by omega), cs_us]
          have o1 : cs_up (cs_up (cs_up OP (3 * T) a) (3 * T + 1) b) (3 * T + 2) c (3 * T + 1) = b := by rw [cs_uo (by omega), cs_us]
          have o2 : cs_up (cs_up (cs_up OP (3 * T) a) (3 * T + 1) b) (3 * T + 2) c (3 * T + 2) = c := cs_us
          have ho : ∀ n, n < 3 * T → OP n = cs_up (cs_up (cs_up OP (3 * T) a) (3 * T + 1) b) (3 * T + 2) c n := fun n hn => by rw [cs_uo (by omega), cs_uo (by omega), cs_uo (by omega)]
          have hk : ∀ n, n < T → GK n = cs_up GK T f n := fun n hn => (cs_uo (by omega)).symm
          have hC' : cs_CW I (T + 1) (cs_up GK T f) (cs_up (cs_up (cs_up OP (3 * T) a) (3 * T + 1) b) (3 * T + 2) c) := fun n n1 n2 => by
            by_cases q : n = T
            · subst q
              rw [o0, o1, o2, cs_us]
              exact ⟨hf, a1, b1, c1⟩
            · rw [← hk n (by omega), ← ho _ (by omega), ← ho _ (by omega), ← ho _ (by omega)]
              exact hC n n1 (by omega)
          have hev := cs_ev_same (I := I) hk ho
          refine And.intro (pk_in T 40 (by omega)) (nm_r (cs_wr T SD rfl hsd) (And.intro (pk_in T 40 (by omega)) (nm_r (cs_wr T f rfl rfl) ?_)))
          refine And.intro (pk_in (3 * T) 120 (by omega) (cs_3m T)) (nm_r (cs_wr (3 * T) a (cs_3m T) rfl) (And.intro (pk_in (3 * T + 1) 120 (by omega) e1) (nm_r (cs_wr (3 * T + 1) b e1 rfl) (And.intro (pk_in (3 * T + 2) 120 (by omega) e2) (nm_r (cs_wr (3 * T + 2) c e2 rfl) (nm_r (nI_1 T) ?_))))))
          refine cs_x_build T rfl hG hC' hIT (by omega) (cs_NI_ev hNI hev) (fun g NL' NM' d1 d2 _ => ?_)
          refine br_t yf (br_f z (br_t y (cs_y_ust hT hI u1' (br_f (by decide) (cs_y_ust hT hI u2' (br_f (by decide) (cs_y_ust hT hI u3' (br_f (by decide) ?_))))))))
          refine And.intro (pk_in T 39 (by omega)) (nm_r (cs_wr T SD rfl hsd) (And.intro (pk_in T 39 (by omega)) (nm_r (cs_wr T f rfl rfl) ?_)))
          refine And.intro (pk_in (3 * T) 117 (by omega) (cs_m3 T)) (nm_r (cs_wr (3 * T) a (cs_m3 T) rfl) (And.intro (pk_in (3 * T + 1) 117 (by omega) f1) (nm_r (cs_wr (3 * T + 1) b f1 rfl) (And.intro (pk_in (3 * T + 2) 117 (by omega) f2) (nm_r (cs_wr (3 * T + 2) c f2 rfl) (nm_r (nI_1 T) ?_))))))
          obtain ⟨h1, _, hou, hsd', hv, hp, hiw, _, hO, _, _, hRI⟩ := h
          refine ⟨rfl, cs_mk ⟨by omega, ⟨GL, hgl, g1, by omega⟩, hou, hsd', hv, hp, hiw, hC', fun j hj w hw => ?_, d1, d2, ?_⟩⟩
          · have := hO j hj w hw; omega
          · exact cs_RI_ev (Nat.pos_of_ne_zero (by simp)) hRI (fun n hn p _ => hev n (by omega) p)
        · refine cs_x_usf hT hI u3 (br_t rfl (br_t yf (br_f z (br_t y (cs_y_ust hT hI u1 (br_f (by decide) (cs_y_ust hT hI u2 (br_f (by decide) (cs_y_usf hT hI u3 (br_t rfl ⟨rfl, cs_mk h⟩)))))))))) 
      · refine cs_x_usf hT hI u2 (br_t rfl (br_t yf (br_f z (br_t y (cs_y_ust hT hI u1 (br_f (by decide) (cs_y_usf hT hI u2 (br_t rfl ⟨rfl, cs_mk h⟩))))))))
    · exact cs_x_usf hT hI u1 (br_t rfl (br_t yf (br_f z (br_t y (cs_y_usf hT hI u1 (br_t rfl ⟨rfl, cs_mk h⟩))))))
  · have xf : ¬ (nI T - nI I) - 1 < gl := by rw [e0, hgl]; exact nI_nlt (by omega) (by omega)
    have yf : ¬ (nI T - 1) - nI I < gl := by rw [e0', hgl]; exact nI_nlt (by omega) (by omega)
    exact br_f xf (br_f yf ⟨rfl, cs_mk h⟩)
/-! the last gate goes -/
def cs_use (O : Nat → Option Nat) (n j : Nat) : Prop := ∃ a, O j = some a ∧ a / 2 = n
theorem cs_x_rl24 {post : Int32 → SX → Prop} {n : Nat} (hn1 : I < n) (hn : n < T) (hT : T ≤ 39) (hE : E ≤ 39) (hN : N ≤ 256) (hm1 : I < NM n) (hm2 : NM n ≤ N) (hG : cs_G I pw N L R sg BH BN FH FN) (hO : ∀ j, j < 8 → ∀ a, O j = some a → a < 1000) (K7 : (∃ j, j < 8 ∧ cs_use O n j) → post (-7) ((nI I), gl, ou, (nI T), sd, (nI E), pw, sv, sw, sp, (nI N), (nI t), (cs_n GS), (cs_n GK), (cs_n OP), (cs_o O), (cs_n RP), (cs_b RC), (cs_n L), (cs_n R), sg, iw, (cs_n BH), (cs_n BN), (cs_n FH), (cs_n FN), (cs_n NL), (cs_n NM), (cs_v V), (cs_b C), (cs_n TR), (cs_n LI), (cs_n LT)))
    (K : (∀ j, j < 8 → ¬ cs_use O n j) → ∀ BH' FH', cs_G I pw (NM n) L R sg BH' BN FH' FN → post (nI n) ((nI I), gl, ou, (nI n), sd, (nI (cs_min E n)), pw, sv, sw, sp, (nI (NM n)), (nI t), (cs_n GS), (cs_n GK), (cs_n OP), (cs_o O), (cs_n RP), (cs_b RC), (cs_n L), (cs_n R), sg, iw, (cs_n BH'), (cs_n BN), (cs_n FH'), (cs_n FN), (cs_n NL), (cs_n NM), (cs_v V), (cs_b C), (cs_n TR), (cs_n LI), (cs_n LT))) :
    ∀ d j, j + d = 8 → ∀ f, d < f → (∀ i, i < j → ¬ cs_use O n i) → (wX_removeLast_24 post (nI n) (nI I) gl ou (nI T) sd (nI E) pw sv sw sp (nI N) (nI t) (cs_n GS) (cs_n GK) (cs_n OP) (cs_o O) (cs_n RP) (cs_b RC) (cs_n L) (cs_n R) sg iw (cs_n BH) (cs_n BN) (cs_n FH) (cs_n FN) (cs_n NL) (cs_n NM) (cs_v V) (cs_b C) (cs_n TR) (cs_n LI) (cs_n LT) f (nI j)) := by
  intro d
  induction d with
  | zero =>
    intro j hj f hf h
    obtain ⟨m, rfl⟩ : ∃ m, f = m + 1 := ⟨f - 1, by omega⟩
    obtain rfl : j = 8 := by omega
    refine br_t (nI_le (b := 8) (a := 8) (by omega) (by omega)) (And.intro (pk_in n 40 (by omega)) ?_)
    refine cs_x_tr (NM n) (cs_rd n rfl) hm1 hm2 hN hG (fun BH' FH' hG' => ?_)
    have k1 := K h BH' FH' hG'
    unfold cs_min at k1
    refine pk_le E n (fun z => ?_) (fun z => ?_) rfl rfl (by omega) (by omega)
    · rw [if_pos z] at k1; exact k1
    · rw [if_neg (by omega)] at k1; exact k1
  | succ d ih =>
    intro j hj f hf h
    obtain ⟨m, rfl⟩ : ∃ m, f = m + 1 := ⟨f - 1, by omega⟩
    have nx : ¬ cs_use O n j → (wX_removeLast_24 post (nI n) (nI I) gl ou (nI T) sd (nI E) pw sv sw sp (nI N) (nI t) (cs_n GS) (cs_n GK) (cs_n OP) (cs_o O) (cs_n RP) (cs_b RC) (cs_n L) (cs_n R) sg iw (cs_n BH) (cs_n BN) (cs_n FH) (cs_n FN) (cs_n NL) (cs_n NM) (cs_v V) (cs_b C) (cs_n TR) (cs_n LI) (cs_n LT) m (nI (j + 1))) := fun z => ih (j + 1) (by omega) m (by omega) (fun i hi => by
      by_cases c : i = j
      · subst c; exact z
      · exact h i (by omega))
    refine br_f (nI_ge (b := 8) (by omega) (by omega)) (And.intro (pk_in j 8 (by omega)) ?_)
    rw [cs_ro j rfl]
    cases e : O j with
    | none => exact br_t (by decide) (nm_r (nI_1 j) (nx fun ⟨a, z, _⟩ => by rw [e] at z; cases z))
    | some a =>
      have ha := hO j (by omega) a e
      refine br_f (nI_pos (by omega)) (And.intro (pk_in j 8 (by omega)) ?_)
      refine pk_eq (a / 2) n (fun z => K7 ⟨j, by omega, a, e, z⟩) (fun z => nm_r (nI_1 j) (nx fun ⟨b, w1, w2⟩ => by rw [e] at w1; injection w1 with w1; subst w1; exact z w2)) (cs_sh (by omega)) rfl (by omega) (by omega)
theorem cs_y_rl19 {post : Int32 → SY → Prop} {n : Nat} (hn : n < T) (hT : T ≤ 39) (hE : E ≤ 39) (hO : ∀ j, j < 8 → ∀ a, O j = some a → a < 1000) (K7 : (∃ j, j < 8 ∧ cs_use O n j) → post (-7) ((nI I), gl, ou, (nI PN), (nI T), sd, (nI E), sv, sw, sp, (cs_n GS), (cs_n GK), (cs_n OP), (cs_o O), (cs_b S), tb, (cs_b lw)))
    (K : (∀ j, j < 8 → ¬ cs_use O n j) → post (nI n) ((nI I), gl, ou, (nI PN), (nI n), sd, (nI (cs_min E n)), sv, sw, sp, (cs_n GS), (cs_n GK), (cs_n OP), (cs_o O), (cs_b S), tb, (cs_b lw))) :
    ∀ d j, j + d = 8 → ∀ f, d < f → (∀ i, i < j → ¬ cs_use O n i) → (wY_removeLast_19 post (nI n) (nI I) gl ou (nI PN) (nI T) sd (nI E) sv sw sp (cs_n GS) (cs_n GK) (cs_n OP) (cs_o O) (cs_b S) tb (cs_b lw) f (nI j)) := by
  intro d
  induction d with
  | zero =>
    intro j hj f hf h
    obtain ⟨m, rfl⟩ : ∃ m, f = m + 1 := ⟨f - 1, by omega⟩
    obtain rfl : j = 8 := by omega
    refine br_t (nI_le (b := 8) (a := 8) (by omega) (by omega)) ?_
    have k1 := K h
    unfold cs_min at k1
    refine pk_le E n (fun z => ?_) (fun z => ?_) rfl rfl (by omega) (by omega)
    · rw [if_pos z] at k1; exact k1
    · rw [if_neg (by omega)] at k1; exact k1
  | succ d ih =>
    intro j hj f hf h
    obtain ⟨m, rfl⟩ : ∃ m, f = m + 1 := ⟨f - 1, by omega⟩
    have nx : ¬ cs_use O n j → (wY_removeLast_19 post (nI n) (nI I) gl ou (nI PN) (nI T) sd (nI E) sv sw sp (cs_n GS) (cs_n GK) (cs_n OP) (cs_o O) (cs_b S) tb (cs_b lw) m (nI (j + 1))) := fun z => ih (j + 1) (by omega) m (by omega) (fun i hi => by
      by_cases c : i = j
      · subst c; exact z
      · exact h i (by omega))
    refine br_f (nI_ge (b := 8) (by omega) (by omega)) (And.intro (pk_in j 8 (by omega)) ?_)
    rw [cs_ro j rfl]
    cases e : O j with
    | none => exact br_t (by decide) (nm_r (nI_1 j) (nx fun ⟨a, z, _⟩ => by rw [e] at z; cases z))
    | some a =>
      have ha := hO j (by omega) a e
      refine br_f (cs_nm1 (by omega)) (And.intro (pk_in j 8 (by omega)) (And.intro cs_20 ?_))
      refine pk_eq (a / 2) n (fun z => K7 ⟨j, by omega, a, e, z⟩) (fun z => nm_r (nI_1 j) (nx fun ⟨b, w1, w2⟩ => by rw [e] at w1; injection w1 with w1; subst w1; exact z w2)) (cs_dv (by omega)) rfl (by omega) (by omega)
theorem cs_vc_removeLast {k : Nat} (h : cs_Inv I T E N gl ou sd sv sw sp pw GK OP RP O S L R sg iw BH BN FH FN NL NM) : wpX_removeLast (fun r u' => wpY_removeLast (fun r' v' => r' = r ∧ i_Rel k u' v') ((nI I), gl, ou, (nI (2 ^ I)), (nI T), sd, (nI E), sv, sw, sp, (cs_n GS), (cs_n GK), (cs_n OP), (cs_o O), (cs_b S), tb, (cs_b lw))) ((nI I), gl, ou, (nI T), sd, (nI E), pw, sv, sw, sp, (nI N), (nI t), (cs_n GS), (cs_n GK), (cs_n OP), (cs_o O), (cs_n RP), (cs_b RC), (cs_n L), (cs_n R), sg, iw, (cs_n BH), (cs_n BN), (cs_n FH), (cs_n FN), (cs_n NL), (cs_n NM), (cs_v V), (cs_b C), (cs_n TR), (cs_n LI), (cs_n LT)) := by
  have hT := cs_T39 h
  have hN := cs_N256 h
  have hI := h.1.2.1
  have hIT := h.1.2.2.1
  have hE := h.1.2.2.2.2
  have hO := h.2.2.2.2.2.2.2.2.1
  have hO' : ∀ j, j < 8 → ∀ a, O j = some a → a < 1000 := fun j hj a ha => by have := hO j hj a ha; omega
  have hG := h.2.2.2.2.2.2.2.2.2.1
  have hNI := h.2.2.2.2.2.2.2.2.2.2.1
  unfold wpX_removeLast wpY_removeLast
  refine pk_lt (I + 1) T (fun z => ?_) (fun z => ?_) (nI_1 I) rfl (by omega) (by omega)
  · have q := hNI.2.2.2.2.1 (T - 1) (by omega) (by omega)
    refine nm_r (cs_s1 (by omega)) ⟨9, ?_⟩
    refine cs_x_rl24 (n := T - 1) (by omega) (by omega) hT (by omega) (by omega) q.1 q.2.1 hG hO' (fun u => ?_) (fun u BH' FH' hG' => ?_) 8 0 (by omega) _ (by omega) (fun i hi => by omega)
    · refine nm_r (cs_s1 (by omega)) (cs_yg1 hT hI ⟨T - 1, by omega, by omega, rfl⟩ (br_f (by decide) ⟨9, ?_⟩))
      exact cs_y_rl19 (n := T - 1) (by omega) hT (by omega) hO' (fun _ => ⟨rfl, cs_mk h⟩) (fun w => by obtain ⟨j, j1, j2⟩ := u; exact absurd j2 (w j j1)) 8 0 (by omega) _ (by omega) (fun i hi => by omega)
    · refine nm_r (cs_s1 (by omega)) (cs_yg1 hT hI ⟨T - 1, by omega, by omega, rfl⟩ (br_f (by decide) ⟨9, ?_⟩))
      refine cs_y_rl19 (n := T - 1) (by omega) hT (by omega) hO' (fun ⟨j, j1, j2⟩ => absurd j2 (u j j1)) (fun _ => ⟨rfl, cs_mk ?_⟩) 8 0 (by omega) _ (by omega) (fun i hi => by omega)
      obtain ⟨h1, ⟨GL, hgl, g1, g2⟩, hou, hsd, hv, hp, hiw, hC, _, _, _, hRI⟩ := h
      obtain ⟨m1, m2, m3⟩ := cs_min_le E (T - 1)
      refine ⟨by omega, ⟨GL, hgl, g1, by omega⟩, hou, hsd, hv, hp, hiw, cs_CW_mono hC (by omega), fun j hj a ha => ?_, hG', cs_NI_cut hNI (by omega) (by omega), cs_RI_cut hRI m1⟩
      have w := hO j hj a ha
      have w2 : ¬ a / 2 = T - 1 := fun e => u j hj ⟨a, ha, e⟩
      omega
  · refine nm_r (cs_s1 (by omega)) (cs_yg0 hT hI (fun ⟨a, a1, a2, a3⟩ => ?_) (br_t rfl ⟨rfl, cs_mk h⟩))
    have := (nI_eq (by omega) (by omega)).1 a3
    omega
end
end
section
section
variable {I T E N t PN : Nat} {gl ou sd sv sw sp : Int32} {pw : Int64} {GS GK OP RP L R BH BN FH FN NL NM TR LI LT : Nat → Nat} {O : Nat → Option Nat} {V : Nat → Option Bool} {C RC S lw : Nat → Bool} {sg iw : Nat → Int64} {tb : Nat → Int32}
theorem cs_pp (I : Nat) : 0 < 2 ^ I := Nat.pos_of_ne_zero (by simp)
/-- the invariant with a larger set of patterns -/
theorem cs_Inv_S {p : Nat} {pw' : Int64} {sg' : Nat → Int64} {S' : Nat → Bool} (h : cs_Inv I T E N gl ou sd sv sw sp pw GK OP RP O S L R sg iw BH BN FH FN NL NM) (hp : p < 2 ^ I) (hq : ∀ q, cs_lb pw' q = (cs_lb pw q || decide (q = p))) (hS : ∀ q, S' q = (S q || decide (q = p))) (hG : cs_G I pw' N L R sg' BH BN FH FN) : cs_Inv I T E N gl ou sd sv sw sp pw' GK OP RP O S' L R sg' iw BH BN FH FN NL NM := by
  obtain ⟨h1, hgl, hou, hsd, hv, ⟨p1, p2, p3⟩, hiw, hC, hO, _, hNI, hRI⟩ := h
  refine ⟨h1, hgl, hou, hsd, hv, ⟨fun q e => ?_, ?_, fun q => ?_⟩, hiw, hC, hO, hG, hNI, cs_RI_S hRI (fun q e => ?_)⟩
  · rw [hq, Bool.or_eq_true] at e
    rcases e with e | e
    · exact p1 q e
    · rw [of_decide_eq_true e]; exact hp
  · rw [hq, p2]; rfl
  · rw [hq, hS, p3]
  · rw [hS, e]; rfl
theorem cs_addS_b {p : Nat} (q : Nat) : cs_up S p true q = (S q || decide (q = p)) := by
  by_cases c : q = p
  · subst c; rw [cs_us]; simp
  · rw [cs_uo c, decide_eq_false c, Bool.or_false]
theorem cs_vc_addPattern {k : Nat} (h : cs_Inv I T E N gl ou sd sv sw sp pw GK OP RP O S L R sg iw BH BN FH FN NL NM) (v1 : Int32) : wpX_addPattern (fun r u' => wpY_addPattern (fun r' v' => r' = r ∧ i_Rel k u' v') ((nI I), gl, ou, (nI (2 ^ I)), (nI T), sd, (nI E), sv, sw, sp, (cs_n GS), (cs_n GK), (cs_n OP), (cs_o O), (cs_b S), tb, (cs_b lw)) v1) ((nI I), gl, ou, (nI T), sd, (nI E), pw, sv, sw, sp, (nI N), (nI t), (cs_n GS), (cs_n GK), (cs_n OP), (cs_o O), (cs_n RP), (cs_b RC), (cs_n L), (cs_n R), sg, iw, (cs_n BH), (cs_n BN), (cs_n FH), (cs_n FN), (cs_n NL), (cs_n NM), (cs_v V), (cs_b C), (cs_n TR), (cs_n LI), (cs_n LT)) v1 := by
  have hN := cs_N256 h
  have hI := h.1.2.1
  have hp := h.2.2.2.2.2.1
  have hiw := h.2.2.2.2.2.2.1
  have hG := h.2.2.2.2.2.2.2.2.2.1
  have h64 := cs_p64 hI
  unfold wpX_addPattern wpY_addPattern
  by_cases c : ∃ p, p < 2 ^ I ∧ v1 = nI p
  · refine cs_xp1 hI c (br_f (by decide) ?_)
    obtain ⟨p, p1, rfl⟩ := c
    refine br_c (fun z => ?_) (fun z => ?_)
    · have z1 := (cs_lbt (show p < 64 by omega)).1 z
      refine cs_x_incl p rfl (by omega) hI (by omega) hG hiw (fun pw' sg' q1 q2 => ?_)
      refine cs_rg1 (by omega) ⟨p, p1, rfl⟩ (And.intro (pk_in p 64 (by omega)) (cs_bc (cs_rb p rfl) (fun _ => ?_) (fun w => ?_)))
      · exact And.intro (pk_in p 64 (by omega)) (nm_r (cs_wb p true rfl cs_vb1) ⟨rfl, cs_mk (cs_Inv_S h p1 q1 cs_addS_b q2)⟩)
      · rw [hp.2.2, z1] at w; cases w
    · have z1 : cs_lb pw p = true := by
        cases w : cs_lb pw p with
        | true => rfl
        | false => exact absurd ((cs_lbt (show p < 64 by omega)).2 w) z
      refine cs_rg1 (by omega) ⟨p, p1, rfl⟩ (And.intro (pk_in p 64 (by omega)) (cs_bc (cs_rb p rfl) (fun w => ?_) (fun _ => ⟨rfl, cs_mk h⟩)))
      rw [hp.2.2, z1] at w; cases w
  · exact cs_xp0 hI c (br_t rfl (cs_rg0 (by omega) c ⟨rfl, cs_mk h⟩))
theorem cs_y_re7 {post : SY → Prop} (K : ∀ S', (∀ p, p < 64 → S' p = decide (p = 0)) → (∀ p, 64 ≤ p → S' p = S p) → post ((nI I), gl, ou, (nI PN), (nI T), sd, (nI E), sv, sw, sp, (cs_n GS), (cs_n GK), (cs_n OP), (cs_o O), (cs_b S'), tb, (cs_b lw))) :
    ∀ d p, p + d = 64 → ∀ f, d < f → ∀ S', (∀ q, q < p → S' q = decide (q = 0)) → (∀ q, p ≤ q → S' q = S q) → (wY_restart_7 post (nI I) gl ou (nI PN) (nI T) sd (nI E) sv sw sp f (nI p) (cs_n GS) (cs_n GK) (cs_n OP) (cs_o O) (cs_b S') tb (cs_b lw)) := by
  intro d
  induction d with
  | zero =>
    intro p hp f hf S' a b
    obtain ⟨m, rfl⟩ : ∃ m, f = m + 1 := ⟨f - 1, by omega⟩
    obtain rfl : p = 64 := by omega
    exact br_t (nI_le (b := 64) (a := 64) (by omega) (by omega)) (K S' a b)
  | succ d ih =>
    intro p hp f hf S' a b
    obtain ⟨m, rfl⟩ : ∃ m, f = m + 1 := ⟨f - 1, by omega⟩
    have nx : ∀ c, c = decide (p = 0) → (wY_restart_7 post (nI I) gl ou (nI PN) (nI T) sd (nI E) sv sw sp m (nI (p + 1)) (cs_n GS) (cs_n GK) (cs_n OP) (cs_o O) (cs_b (cs_up S' p c)) tb (cs_b lw)) := fun c hc => ih (p + 1) (by omega) m (by omega) _ (fun q hq => by
      by_cases e : q = p
      · subst e; rw [cs_us]; exact hc
      · rw [cs_uo e]; exact a q (by omega)) (fun q hq => by rw [cs_uo (by omega)]; exact b q (by omega))
    refine br_f (nI_ge (b := 64) (by omega) (by omega)) ?_
    refine pk_eq p 0 (fun z => ?_) (fun z => ?_) rfl rfl (by omega) (by omega)
    · exact And.intro (pk_in p 64 (by omega)) (nm_r (cs_wb p true rfl cs_vb1) (nm_r (nI_1 p) (nx true (decide_eq_true z).symm)))
    · exact And.intro (pk_in p 64 (by omega)) (nm_r (cs_wb p false rfl cs_vb0) (nm_r (nI_1 p) (nx false (decide_eq_false z).symm)))
theorem cs_vc_restart {k : Nat} (h : cs_Inv I T E N gl ou sd sv sw sp pw GK OP RP O S L R sg iw BH BN FH FN NL NM) : wpX_restart (fun u' => wpY_restart (fun v' => i_Rel k u' v') ((nI I), gl, ou, (nI (2 ^ I)), (nI T), sd, (nI E), sv, sw, sp, (cs_n GS), (cs_n GK), (cs_n OP), (cs_o O), (cs_b S), tb, (cs_b lw))) ((nI I), gl, ou, (nI T), sd, (nI E), pw, sv, sw, sp, (nI N), (nI t), (cs_n GS), (cs_n GK), (cs_n OP), (cs_o O), (cs_n RP), (cs_b RC), (cs_n L), (cs_n R), sg, iw, (cs_n BH), (cs_n BN), (cs_n FH), (cs_n FN), (cs_n NL), (cs_n NM), (cs_v V), (cs_b C), (cs_n TR), (cs_n LI), (cs_n LT)) := by
  have hN := cs_N256 h
  obtain ⟨h1, hgl, hou, hsd, hv, ⟨p1, p2, p3⟩, hiw, hC, hO, hG, hNI, hRI⟩ := h
  unfold wpX_restart wpY_restart
  refine cs_x_resim (E := 1) (pw := 1) h1.2.1 hG.1 (by omega) hiw (fun sg' hS => ?_)
  refine Exists.intro 65 ?_
  refine cs_y_re7 (E := 1) (fun S' a b => ?_) 64 0 (by omega) _ (by omega) S (fun q hq => by omega) (fun q _ => rfl)
  have hS1 : ∀ p, S' p = cs_lb 1 p := fun p => by
    rw [cs_lb1]
    by_cases c : p < 64
    · exact a p c
    · rw [b p (by omega), p3, cs_lbge (by omega), decide_eq_false (by omega)]
  refine cs_mk ⟨by omega, hgl, hou, hsd, hv, ⟨fun p e => ?_, ?_, hS1⟩, hiw, hC, hO, ⟨hG.1, hG.2.1, hG.2.2.1, hS⟩, hNI, ⟨(cs_RI_cut hRI h1.2.2.2.1).1, fun u w a b _ _ _ => by omega⟩⟩
  · rw [cs_lb1] at e
    rw [of_decide_eq_true e]; exact cs_pp I
  · rw [cs_lb1]; rfl
theorem cs_vi_b {A B : Prop} {b : Bool} (ka : b = false → A) (kb : b = true → B) : (cs_vi (some b) ≤ 0 → A) ∧ (¬ cs_vi (some b) ≤ 0 → B) := by
  cases b with
  | false => exact br_t (by decide) (ka rfl)
  | true => exact br_f (by decide) (kb rfl)
theorem cs_vc_evaluate {k : Nat} (h : cs_Inv I T E N gl ou sd sv sw sp pw GK OP RP O S L R sg iw BH BN FH FN NL NM) (v1 v2 : Int32) : wpX_evaluate (fun r u' => wpY_evaluate (fun r' v' => r' = r ∧ i_Rel k u' v') ((nI I), gl, ou, (nI (2 ^ I)), (nI T), sd, (nI E), sv, sw, sp, (cs_n GS), (cs_n GK), (cs_n OP), (cs_o O), (cs_b S), tb, (cs_b lw)) v1 v2) ((nI I), gl, ou, (nI T), sd, (nI E), pw, sv, sw, sp, (nI N), (nI t), (cs_n GS), (cs_n GK), (cs_n OP), (cs_o O), (cs_n RP), (cs_b RC), (cs_n L), (cs_n R), sg, iw, (cs_n BH), (cs_n BN), (cs_n FH), (cs_n FN), (cs_n NL), (cs_n NM), (cs_v V), (cs_b C), (cs_n TR), (cs_n LI), (cs_n LT)) v1 v2 := by
  have hT := cs_T39 h
  have hN := cs_N256 h
  have hI := h.1.2.1
  have hIT := h.1.2.2.1
  have hp := h.2.2.2.2.2.1
  have hC := h.2.2.2.2.2.2.2.1
  have hG := h.2.2.2.2.2.2.2.2.2.1
  have hNI := h.2.2.2.2.2.2.2.2.2.2.1
  have h64 := cs_p64 hI
  unfold wpX_evaluate wpY_evaluate
  by_cases ca : ∃ a, a < 2 * T ∧ v1 = nI a
  · refine cs_xv1 hT ca (br_f (by decide) ?_)
    by_cases c : ∃ p, p < 2 ^ I ∧ v2 = nI p
    · refine cs_xp1 hI c (br_f (by decide) ?_)
      obtain ⟨p, p1, rfl⟩ := c
      obtain ⟨a, a1, rfl⟩ := ca
      obtain ⟨g1, g2⟩ := cs_NI_gl hNI a1
      refine cs_x_gl a rfl (by omega) ?_
      have fin : ∀ u' : SX, (∀ tb, i_Rel k u' ((nI I), gl, ou, (nI (2 ^ I)), (nI T), sd, (nI E), sv, sw, sp, (cs_n GS), (cs_n GK), (cs_n OP), (cs_o O), (cs_b S), tb, (cs_b lw))) → wpY_evaluate (fun r' v' => r' = cs_bi (cs_lv (cs_ev I GK OP p) a) ∧ i_Rel k u' v') ((nI I), gl, ou, (nI (2 ^ I)), (nI T), sd, (nI E), sv, sw, sp, (cs_n GS), (cs_n GK), (cs_n OP), (cs_o O), (cs_b S), tb, (cs_b lw)) (nI a) (nI p) := by
        intro u' hu
        unfold wpY_evaluate
        refine cs_yv1 hT ⟨a, a1, rfl⟩ (br_f (by decide) (cs_rg1 (by omega) ⟨p, p1, rfl⟩ ?_))
        refine cs_y_tab h64 hI hIT hT hC (fun tb htb => ?_)
        exact cs_y_value a p _ rfl rfl (by omega) (by omega) (htb p p1 _ (by omega)) ⟨rfl, hu tb⟩
      have fin2 : ∀ (u' : SX) (r : Int32), (∀ tb, i_Rel k u' ((nI I), gl, ou, (nI (2 ^ I)), (nI T), sd, (nI E), sv, sw, sp, (cs_n GS), (cs_n GK), (cs_n OP), (cs_o O), (cs_b S), tb, (cs_b lw))) → r = cs_bi (cs_lv (cs_ev I GK OP p) a) → wpY_evaluate (fun r' v' => r' = r ∧ i_Rel k u' v') ((nI I), gl, ou, (nI (2 ^ I)), (nI T), sd, (nI E), sv, sw, sp, (cs_n GS), (cs_n GK), (cs_n OP), (cs_o O), (cs_b S), tb, (cs_b lw)) (nI a) (nI p) := fun u' r hu hr => by
        subst hr; exact fin u' hu
      refine br_c (fun z => ?_) (fun z => ?_)
      · refine cs_x_sim p rfl (by omega) hI hG.1 (by omega) (fun V' hV => ?_)
        refine cs_x_lval (cs_gl NL a) rfl (by omega) ?_
        rw [cs_lo_some (hV _ (by omega)), g2 p]
        refine cs_vi_b (fun b => fin2 _ _ (fun tb => cs_mk h) (by rw [b]; rfl)) (fun b => fin2 _ _ (fun tb => cs_mk h) (by rw [b]; rfl))
      · have z1 : cs_lb pw p = true := by
          cases w : cs_lb pw p with
          | true => rfl
          | false => exact absurd ((cs_lbt (show p < 64 by omega)).2 w) z
        refine cs_x_lsig (cs_gl NL a) rfl (by omega) (fin2 _ _ (fun tb => cs_mk h) ?_)
        rw [cs_lbi (by omega), cs_ls_b hG.2.2.2 g1 (by omega), z1, Bool.true_and, g2 p]
    · exact cs_xp0 hI c (br_t rfl (cs_yv1 hT ca (br_f (by decide) (cs_rg0 (by omega) c ⟨rfl, cs_mk h⟩))))
  · exact cs_xv0 hT ca (br_t rfl (cs_yv0 hT ca (br_t rfl ⟨rfl, cs_mk h⟩)))
theorem cs_vc_resolve {k : Nat} (h : cs_Inv I T E N gl ou sd sv sw sp pw GK OP RP O S L R sg iw BH BN FH FN NL NM) (v1 : Int32) : wpX_resolve (fun r => wpY_resolve (fun r' v' => r' = r ∧ i_Rel k ((nI I), gl, ou, (nI T), sd, (nI E), pw, sv, sw, sp, (nI N), (nI t), (cs_n GS), (cs_n GK), (cs_n OP), (cs_o O), (cs_n RP), (cs_b RC), (cs_n L), (cs_n R), sg, iw, (cs_n BH), (cs_n BN), (cs_n FH), (cs_n FN), (cs_n NL), (cs_n NM), (cs_v V), (cs_b C), (cs_n TR), (cs_n LI), (cs_n LT)) v') ((nI I), gl, ou, (nI (2 ^ I)), (nI T), sd, (nI E), sv, sw, sp, (cs_n GS), (cs_n GK), (cs_n OP), (cs_o O), (cs_b S), tb, (cs_b lw)) v1) ((nI I), gl, ou, (nI T), sd, (nI E), pw, sv, sw, sp, (nI N), (nI t), (cs_n GS), (cs_n GK), (cs_n OP), (cs_o O), (cs_n RP), (cs_b RC), (cs_n L), (cs_n R), sg, iw, (cs_n BH), (cs_n BN), (cs_n FH), (cs_n FN), (cs_n NL), (cs_n NM), (cs_v V), (cs_b C), (cs_n TR), (cs_n LI), (cs_n LT)) v1 := by
  have hT := cs_T39 h
  have hI := h.1.2.1
  have hIT := h.1.2.2.1
  have hE := h.1.2.2.2.2
  have hC := h.2.2.2.2.2.2.2.1
  have hRI := h.2.2.2.2.2.2.2.2.2.2.2
  have h64 := cs_p64 hI
  unfold wpX_resolve wpY_resolve
  by_cases ca : ∃ a, a < 2 * T ∧ v1 = nI a
  · refine cs_xv1 hT ca (br_f (by decide) ?_)
    obtain ⟨a, a1, rfl⟩ := ca
    refine cs_x_resd a rfl (by omega) (by omega) ?_
    refine cs_yv1 hT ⟨a, a1, rfl⟩ (br_f (by decide) (And.intro cs_20 ?_))
    refine pk_lt (a / 2) E (fun z => ?_) (fun z => ⟨?_, cs_mk h⟩) (cs_dv (by omega)) rfl (by omega) (by omega)
    · refine cs_y_tab h64 hI hIT hT hC (fun tb htb => ?_)
      refine cs_y_rnet a rfl h64 hT hE a1 htb (fun u hu => ?_)
      have ule := cs_Rs_le hu
      exact cs_y_align a u rfl rfl (cs_pp I) hT a1 (by omega) htb ⟨by rw [cs_rr_eq hRI hu], cs_mk h⟩
    · unfold cs_rr; rw [if_neg (by omega)]
  · exact cs_xv0 hT ca (br_t rfl (cs_yv0 hT ca (br_t rfl ⟨rfl, cs_mk h⟩)))
theorem cs_vc_candidate {k : Nat} (h : cs_Inv I T E N gl ou sd sv sw sp pw GK OP RP O S L R sg iw BH BN FH FN NL NM) (v1 : Int32) : wpX_candidate (fun r => wpY_candidate (fun r' v' => r' = r ∧ i_Rel k ((nI I), gl, ou, (nI T), sd, (nI E), pw, sv, sw, sp, (nI N), (nI t), (cs_n GS), (cs_n GK), (cs_n OP), (cs_o O), (cs_n RP), (cs_b RC), (cs_n L), (cs_n R), sg, iw, (cs_n BH), (cs_n BN), (cs_n FH), (cs_n FN), (cs_n NL), (cs_n NM), (cs_v V), (cs_b C), (cs_n TR), (cs_n LI), (cs_n LT)) v') ((nI I), gl, ou, (nI (2 ^ I)), (nI T), sd, (nI E), sv, sw, sp, (cs_n GS), (cs_n GK), (cs_n OP), (cs_o O), (cs_b S), tb, (cs_b lw)) v1) ((nI I), gl, ou, (nI T), sd, (nI E), pw, sv, sw, sp, (nI N), (nI t), (cs_n GS), (cs_n GK), (cs_n OP), (cs_o O), (cs_n RP), (cs_b RC), (cs_n L), (cs_n R), sg, iw, (cs_n BH), (cs_n BN), (cs_n FH), (cs_n FN), (cs_n NL), (cs_n NM), (cs_v V), (cs_b C), (cs_n TR), (cs_n LI), (cs_n LT)) v1 := by
  have hT := cs_T39 h
  have hN := cs_N256 h
  have hI := h.1.2.1
  have hIT := h.1.2.2.1
  have hE := h.1.2.2.2.2
  have hp := h.2.2.2.2.2.1
  have hC := h.2.2.2.2.2.2.2.1
  have hG := h.2.2.2.2.2.2.2.2.2.1
  have hNI := h.2.2.2.2.2.2.2.2.2.2.1
  have hRI := h.2.2.2.2.2.2.2.2.2.2.2
  have h64 := cs_p64 hI
  unfold wpX_candidate wpY_candidate
  by_cases ca : ∃ a, a < 2 * T ∧ v1 = nI a
  · refine cs_xv1 hT ca (br_f (by decide) ?_)
    obtain ⟨a, a1, rfl⟩ := ca
    obtain ⟨g1, g2⟩ := cs_NI_gl hNI a1
    refine cs_x_gl a rfl (by omega) ?_
    refine cs_x_mrep (S := S) (PN := 2 ^ I) (v := a / 2) (c := decide (a % 2 = 1)) (cs_gl NL a) rfl (by omega) hE hT hG hNI h64 hp.2.2 hp.1 hRI g1 (fun p => g2 p) (fun o ho => ?_)
    have YK : ∀ (r : Int32), (∀ tb, (∀ q, q < 2 ^ I → ∀ n, n < T → tb (n * 64 + q) = cs_bi (cs_ev I GK OP q n)) → (0 ≤ cs_oi o → wpY_aligned (fun r_58 => r_58 = r ∧ i_Rel k ((nI I), gl, ou, (nI T), sd, (nI E), pw, sv, sw, sp, (nI N), (nI t), (cs_n GS), (cs_n GK), (cs_n OP), (cs_o O), (cs_n RP), (cs_b RC), (cs_n L), (cs_n R), sg, iw, (cs_n BH), (cs_n BN), (cs_n FH), (cs_n FN), (cs_n NL), (cs_n NM), (cs_v V), (cs_b C), (cs_n TR), (cs_n LI), (cs_n LT)) ((nI I), gl, ou, (nI (2 ^ I)), (nI T), sd, (nI E), sv, sw, sp, (cs_n GS), (cs_n GK), (cs_n OP), (cs_o O), (cs_b S), tb, (cs_b lw))) ((nI I), gl, ou, (nI (2 ^ I)), (nI T), sd, (nI E), sv, sw, sp, (cs_n GS), (cs_n GK), (cs_n OP), (cs_o O), (cs_b S), tb, (cs_b lw)) (nI a) (cs_oi o)) ∧ (¬ 0 ≤ cs_oi o → (-1 = r ∧ i_Rel k ((nI I), gl, ou, (nI T), sd, (nI E), pw, sv, sw, sp, (nI N), (nI t), (cs_n GS), (cs_n GK), (cs_n OP), (cs_o O), (cs_n RP), (cs_b RC), (cs_n L), (cs_n R), sg, iw, (cs_n BH), (cs_n BN), (cs_n FH), (cs_n FN), (cs_n NL), (cs_n NM), (cs_v V), (cs_b C), (cs_n TR), (cs_n LI), (cs_n LT)) ((nI I), gl, ou, (nI (2 ^ I)), (nI T), sd, (nI E), sv, sw, sp, (cs_n GS), (cs_n GK), (cs_n OP), (cs_o O), (cs_b S), tb, (cs_b lw))))) → wpY_candidate (fun r' v' => r' = r ∧ i_Rel k ((nI I), gl, ou, (nI T), sd, (nI E), pw, sv, sw, sp, (nI N), (nI t), (cs_n GS), (cs_n GK), (cs_n OP), (cs_o O), (cs_n RP), (cs_b RC), (cs_n L), (cs_n R), sg, iw, (cs_n BH), (cs_n BN), (cs_n FH), (cs_n FN), (cs_n NL), (cs_n NM), (cs_v V), (cs_b C), (cs_n TR), (cs_n LI), (cs_n LT)) v') ((nI I), gl, ou, (nI (2 ^ I)), (nI T), sd, (nI E), sv, sw, sp, (cs_n GS), (cs_n GK), (cs_n OP), (cs_o O), (cs_b S), tb, (cs_b lw)) (nI a) := by
      intro r KK
      unfold wpY_candidate
      refine cs_yv1 hT ⟨a, a1, rfl⟩ (br_f (by decide) ?_)
      refine cs_y_tab h64 hI hIT hT hC (fun tb htb => ?_)
      refine And.intro cs_20 (cs_y_matched (a / 2) (cs_dv (by omega)) h64 hT hE (by omega) htb (fun o' ho' => ?_))
      have := cs_fst_uniq ho' ho
      subst this
      exact KK tb htb
    cases o with
    | none => exact br_f (by decide) (YK _ (fun tb htb => br_f (by decide) ⟨rfl, cs_mk h⟩))
    | some r =>
      have rE : r < E := ho.1
      obtain ⟨n1, n2⟩ := hNI.2.2.2.1 r (by omega)
      have r0 : (0 : Int32) ≤ cs_oi (some r) := nI_pos' (by omega)
      refine br_t r0 (And.intro (pk_in r 40 (by omega)) ?_)
      refine cs_x_phase (cs_gl NL a) (NL r) rfl (cs_rd r rfl) (by omega) hG.2.2.2 hp.2.1 g1 n1 ?_
      rw [g2 0, n2 0]
      refine YK _ (fun tb htb => br_t r0 (cs_y_align a r rfl rfl (cs_pp I) hT a1 (by omega) htb ⟨?_, cs_mk h⟩))
      show _ = 2 * nI r + _
      rw [cs_2m, nI_add]
  · exact cs_xv0 hT ca (br_t rfl (cs_yv0 hT ca (br_t rfl ⟨rfl, cs_mk h⟩)))
end
end
section
/-! marks, in plain terms -/
def cs_m1o (rho : Nat → Nat) (o : Option Nat) (M : Nat → Bool) : Nat → Bool := match o with
  | none => M
  | some a => cs_up M (rho a) true
def cs_mo (rho : Nat → Nat) (O : Nat → Option Nat) : Nat → Nat → (Nat → Bool) → Nat → Bool
  | 0, _, M => M
  | d + 1, j, M => cs_mo rho O d (j + 1) (cs_m1o rho (O j) M)
def cs_m3d (rho : Nat → Nat) (OP : Nat → Nat) (n : Nat) (M : Nat → Bool) : Nat → Bool :=
  if M n = true then cs_up (cs_up (cs_up M (rho (OP (3 * n))) true) (rho (OP (3 * n + 1))) true) (rho (OP (3 * n + 2))) true else M
def cs_md (rho : Nat → Nat) (OP : Nat → Nat) (I : Nat) : Nat → (Nat → Bool) → Nat → Bool
  | 0, M => M
  | d + 1, M => cs_md rho OP I d (cs_m3d rho OP (I + d + 1) M)
theorem cs_up_agree {T k : Nat} {b : Bool} {M M' : Nat → Bool} (h : ∀ n, n < T → M n = M' n) : ∀ n, n < T → cs_up M k b n = cs_up M' k b n := fun n hn => by
  unfold cs_up; rw [h n hn]
theorem cs_mo_agree {rho : Nat → Nat} {O : Nat → Option Nat} {T : Nat} : ∀ d j (M M' : Nat → Bool), (∀ n, n < T → M n = M' n) → ∀ n, n < T → cs_mo rho O d j M n = cs_mo rho O d j M' n := by
  intro d
  induction d with
  | zero => intro j M M' h; exact h
  | succ d ih =>
    intro j M M' h
    refine ih (j + 1) _ _ ?_
    unfold cs_m1o
    cases O j with
    | none => exact h
    | some a => exact cs_up_agree h
theorem cs_md_agree {rho OP : Nat → Nat} {I T : Nat} : ∀ d, I + d < T → ∀ (M M' : Nat → Bool), (∀ n, n < T → M n = M' n) → ∀ n, n < T → cs_md rho OP I d M n = cs_md rho OP I d M' n := by
  intro d
  induction d with
  | zero => intro _ M M' h; exact h
  | succ d ih =>
    intro hd M M' h
    refine ih (by omega) _ _ ?_
    unfold cs_m3d
    rw [h (I + d + 1) (by omega)]
    split
    · exact cs_up_agree (cs_up_agree (cs_up_agree h))
    · exact h
section
variable {I T E N t PN : Nat} {gl ou sd sv sw sp : Int32} {pw : Int64} {GS GK OP RP L R BH BN FH FN NL NM TR LI LT : Nat → Nat} {O : Nat → Option Nat} {V : Nat → Option Bool} {C RC S lw : Nat → Bool} {sg iw : Nat → Int64} {tb : Nat → Int32}
variable {rho : Nat → Nat}
theorem cs_x_reach {post : SX → Prop} {x : Int32} (a : Nat) (hx : x = nI a) (hT : T ≤ 39) (hE : E ≤ T) (ha : a < 2 * T) (hr : ∀ a, a < 2 * T → rho a = cs_rr E RP a / 2 ∧ rho a < T ∧ cs_rr E RP a < 2 * T) (K : post ((nI I), gl, ou, (nI T), sd, (nI E), pw, sv, sw, sp, (nI N), (nI t), (cs_n GS), (cs_n GK), (cs_n OP), (cs_o O), (cs_n RP), (cs_b (cs_up RC (rho a) true)), (cs_n L), (cs_n R), sg, iw, (cs_n BH), (cs_n BN), (cs_n FH), (cs_n FN), (cs_n NL), (cs_n NM), (cs_v V), (cs_b C), (cs_n TR), (cs_n LI), (cs_n LT))) : wpX_reach post ((nI I), gl, ou, (nI T), sd, (nI E), pw, sv, sw, sp, (nI N), (nI t), (cs_n GS), (cs_n GK), (cs_n OP), (cs_o O), (cs_n RP), (cs_b RC), (cs_n L), (cs_n R), sg, iw, (cs_n BH), (cs_n BN), (cs_n FH), (cs_n FN), (cs_n NL), (cs_n NM), (cs_v V), (cs_b C), (cs_n TR), (cs_n LI), (cs_n LT)) x := by
  subst hx
  obtain ⟨r1, r2, r3⟩ := hr a ha
  have e : nI (cs_rr E RP a) >>> ((1 : Int32) &&& 31) = nI (rho a) := by rw [cs_sh (by omega), r1]
  unfold wpX_reach
  refine cs_x_resd a rfl (by omega) (by omega) ?_
  exact And.intro (pk_in (rho a) 40 (by omega) e) (nm_r (cs_wb (rho a) true e cs_vb1) K)
theorem cs_x_lv77 {post : Int32 → SX → Prop} {v : Nat} (hv : v < T) (hT : T ≤ 39) (hI : I < T) (hE : E ≤ T) (hC : cs_CW I T GK OP) (hr : ∀ a, a < 2 * T → rho a = cs_rr E RP a / 2 ∧ rho a < T ∧ cs_rr E RP a < 2 * T) :
    ∀ d, I + d < T → ∀ f, d < f → ∀ RC, post (cs_bi (cs_md rho OP I d RC v)) ((nI I), gl, ou, (nI T), sd, (nI E), pw, sv, sw, sp, (nI N), (nI t), (cs_n GS), (cs_n GK), (cs_n OP), (cs_o O), (cs_n RP), (cs_b (cs_md rho OP I d RC)), (cs_n L), (cs_n R), sg, iw, (cs_n BH), (cs_n BN), (cs_n FH), (cs_n FN), (cs_n NL), (cs_n NM), (cs_v V), (cs_b C), (cs_n TR), (cs_n LI), (cs_n LT)) → (wX_isLive_77 post (nI v) f (nI (I + d)) (nI I) gl ou (nI T) sd (nI E) pw sv sw sp (nI N) (nI t) (cs_n GS) (cs_n GK) (cs_n OP) (cs_o O) (cs_n RP) (cs_b RC) (cs_n L) (cs_n R) sg iw (cs_n BH) (cs_n BN) (cs_n FH) (cs_n FN) (cs_n NL) (cs_n NM) (cs_v V) (cs_b C) (cs_n TR) (cs_n LI) (cs_n LT)) := by
  intro d
  induction d with
  | zero =>
    intro hd f hf RC K
    obtain ⟨m, rfl⟩ : ∃ m, f = m + 1 := ⟨f - 1, by omega⟩
    refine br_t (nI_le (by omega) (by omega)) (And.intro (pk_in v 40 (by omega)) ?_)
    rw [cs_rb v rfl]
    exact And.intro (cs_bnar _) K
  | succ d ih =>
    intro hd f hf RC K
    obtain ⟨m, rfl⟩ : ∃ m, f = m + 1 := ⟨f - 1, by omega⟩
    obtain ⟨c0, c1, c2, c3⟩ := hC (I + d + 1) (by omega) (by omega)
    have e1 : 3 * nI (I + (d + 1)) + 1 = nI (3 * (I + d + 1) + 1) := by rw [cs_3m, nI_1]; rfl
    have e2 : 3 * nI (I + (d + 1)) + 2 = nI (3 * (I + d + 1) + 2) := by rw [cs_3m, cs_a2]; rfl
    refine br_f (nI_ge (by omega) (by omega)) (And.intro (pk_in (I + d + 1) 40 (by omega)) (cs_bc (cs_rb (I + d + 1) rfl) (fun z => ?_) (fun z => ?_)))
    · have K' : post (cs_bi (cs_md rho OP I d (cs_m3d rho OP (I + d + 1) RC) v)) ((nI I), gl, ou, (nI T), sd, (nI E), pw, sv, sw, sp, (nI N), (nI t), (cs_n GS), (cs_n GK), (cs_n OP), (cs_o O), (cs_n RP), (cs_b (cs_md rho OP I d (cs_m3d rho OP (I + d + 1) RC))), (cs_n L), (cs_n R), sg, iw, (cs_n BH), (cs_n BN), (cs_n FH), (cs_n FN), (cs_n NL), (cs_n NM), (cs_v V), (cs_b C), (cs_n TR), (cs_n LI), (cs_n LT)) := K
      have e : cs_m3d rho OP (I + d + 1) RC = RC := by unfold cs_m3d; rw [z]; rfl
      rw [e] at K'
      exact nm_r (cs_m1 (by omega)) (ih (by omega) m (by omega) RC K')
    · have K' : post (cs_bi (cs_md rho OP I d (cs_m3d rho OP (I + d + 1) RC) v)) ((nI I), gl, ou, (nI T), sd, (nI E), pw, sv, sw, sp, (nI N), (nI t), (cs_n GS), (cs_n GK), (cs_n OP), (cs_o O), (cs_n RP), (cs_b (cs_md rho OP I d (cs_m3d rho OP (I + d + 1) RC))), (cs_n L), (cs_n R), sg, iw, (cs_n BH), (cs_n BN), (cs_n FH), (cs_n FN), (cs_n NL), (cs_n NM), (cs_v V), (cs_b C), (cs_n TR), (cs_n LI), (cs_n LT)) := K
      have e : cs_m3d rho OP (I + d + 1) RC = cs_up (cs_up (cs_up RC (rho (OP (3 * (I + d + 1)))) true) (rho (OP (3 * (I + d + 1) + 1))) true) (rho (OP (3 * (I + d + 1) + 2))) true := by unfold cs_m3d; rw [z]; rfl
      rw [e] at K'
      refine And.intro (pk_in (3 * (I + d + 1)) 120 (by omega) (cs_3m _)) (cs_x_reach (OP (3 * (I + d + 1))) (cs_rd (3 * (I + d + 1)) (cs_3m _)) hT hE (by omega) hr ?_)
      refine And.intro (pk_in (3 * (I + d + 1) + 1) 120 (by omega) e1) (cs_x_reach _ (cs_rd _ e1) hT hE (by omega) hr ?_)
      refine And.intro (pk_in (3 * (I + d + 1) + 2) 120 (by omega) e2) (cs_x_reach _ (cs_rd _ e2) hT hE (by omega) hr ?_)
      exact nm_r (cs_m1 (by omega)) (ih (by omega) m (by omega) _ K')
theorem cs_x_lv39 {post : Int32 → SX → Prop} {v : Nat} (hv : v < T) (hT : T ≤ 39) (hI : I < T) (hE : E ≤ T) (hC : cs_CW I T GK OP) (hO : ∀ j, j < 8 → ∀ a, O j = some a → a < 2 * T) (hr : ∀ a, a < 2 * T → rho a = cs_rr E RP a / 2 ∧ rho a < T ∧ cs_rr E RP a < 2 * T) :
    ∀ d j, j + d = 8 → ∀ f, d < f → ∀ RC, post (cs_bi (cs_md rho OP I (T - 1 - I) (cs_mo rho O d j RC) v)) ((nI I), gl, ou, (nI T), sd, (nI E), pw, sv, sw, sp, (nI N), (nI t), (cs_n GS), (cs_n GK), (cs_n OP), (cs_o O), (cs_n RP), (cs_b (cs_md rho OP I (T - 1 - I) (cs_mo rho O d j RC))), (cs_n L), (cs_n R), sg, iw, (cs_n BH), (cs_n BN), (cs_n FH), (cs_n FN), (cs_n NL), (cs_n NM), (cs_v V), (cs_b C), (cs_n TR), (cs_n LI), (cs_n LT)) → (wX_isLive_39 post (nI v) f (nI j) (nI I) gl ou (nI T) sd (nI E) pw sv sw sp (nI N) (nI t) (cs_n GS) (cs_n GK) (cs_n OP) (cs_o O) (cs_n RP) (cs_b RC) (cs_n L) (cs_n R) sg iw (cs_n BH) (cs_n BN) (cs_n FH) (cs_n FN) (cs_n NL) (cs_n NM) (cs_v V) (cs_b C) (cs_n TR) (cs_n LI) (cs_n LT)) := by
  intro d
  induction d with
  | zero =>
    intro j hj f hf RC K
    obtain ⟨m, rfl⟩ : ∃ m, f = m + 1 := ⟨f - 1, by omega⟩
    obtain rfl : j = 8 := by omega
    have e : nI T - 1 = nI (I + (T - 1 - I)) := by rw [cs_s1 (by omega)]; exact congrArg nI (by omega)
    refine br_t (nI_le (b := 8) (a := 8) (by omega) (by omega)) (nm_r e ?_)
    refine ⟨T + 1, ?_⟩
    exact cs_x_lv77 hv hT hI hE hC hr (T - 1 - I) (by omega) _ (by omega) RC K
  | succ d ih =>
    intro j hj f hf RC K
    obtain ⟨m, rfl⟩ : ∃ m, f = m + 1 := ⟨f - 1, by omega⟩
    have K' : post (cs_bi (cs_md rho OP I (T - 1 - I) (cs_mo rho O d (j + 1) (cs_m1o rho (O j) RC)) v)) ((nI I), gl, ou, (nI T), sd, (nI E), pw, sv, sw, sp, (nI N), (nI t), (cs_n GS), (cs_n GK), (cs_n OP), (cs_o O), (cs_n RP), (cs_b (cs_md rho OP I (T - 1 - I) (cs_mo rho O d (j + 1) (cs_m1o rho (O j) RC)))), (cs_n L), (cs_n R), sg, iw, (cs_n BH), (cs_n BN), (cs_n FH), (cs_n FN), (cs_n NL), (cs_n NM), (cs_v V), (cs_b C), (cs_n TR), (cs_n LI), (cs_n LT)) := K
    refine br_f (nI_ge (b := 8) (by omega) (by omega)) (And.intro (pk_in j 8 (by omega)) ?_)
    have er : cs_o O (nI j).toNatClampNeg = cs_oi (O j) := cs_ro j rfl
    rw [er]
    cases e : O j with
    | none =>
      rw [e] at K'
      exact br_t (by decide) (nm_r (nI_1 j) (ih (j + 1) (by omega) m (by omega) RC K'))
    | some a =>
      rw [e] at K'
      have ha := hO j (by omega) a e
      refine br_f (nI_pos (by omega)) (And.intro (pk_in j 8 (by omega)) (cs_x_reach a rfl hT hE ha hr ?_))
      exact nm_r (nI_1 j) (ih (j + 1) (by omega) m (by omega) _ K')
theorem cs_x_lv16 {post : Int32 → SX → Prop} {v : Nat} (hv : v < T) (hT : T ≤ 39) (hI : I < T) (hE : E ≤ T) (hC : cs_CW I T GK OP) (hO : ∀ j, j < 8 → ∀ a, O j = some a → a < 2 * T) (hr : ∀ a, a < 2 * T → rho a = cs_rr E RP a / 2 ∧ rho a < T ∧ cs_rr E RP a < 2 * T) (K : ∀ RC, (∀ n, n < T → RC n = false) → post (cs_bi (cs_md rho OP I (T - 1 - I) (cs_mo rho O 8 0 RC) v)) ((nI I), gl, ou, (nI T), sd, (nI E), pw, sv, sw, sp, (nI N), (nI t), (cs_n GS), (cs_n GK), (cs_n OP), (cs_o O), (cs_n RP), (cs_b (cs_md rho OP I (T - 1 - I) (cs_mo rho O 8 0 RC))), (cs_n L), (cs_n R), sg, iw, (cs_n BH), (cs_n BN), (cs_n FH), (cs_n FN), (cs_n NL), (cs_n NM), (cs_v V), (cs_b C), (cs_n TR), (cs_n LI), (cs_n LT))) :
    ∀ d k, k + d = T → ∀ f, d < f → ∀ RC, (∀ n, n < k → RC n = false) → (wX_isLive_16 post (nI v) (nI I) gl ou (nI T) sd (nI E) pw sv sw sp (nI N) (nI t) f (nI k) (cs_n GS) (cs_n GK) (cs_n OP) (cs_o O) (cs_n RP) (cs_b RC) (cs_n L) (cs_n R) sg iw (cs_n BH) (cs_n BN) (cs_n FH) (cs_n FN) (cs_n NL) (cs_n NM) (cs_v V) (cs_b C) (cs_n TR) (cs_n LI) (cs_n LT)) := by
  intro d
  induction d with
  | zero =>
    intro k hk f hf RC h
    obtain ⟨m, rfl⟩ : ∃ m, f = m + 1 := ⟨f - 1, by omega⟩
    obtain rfl : k = T := by omega
    refine br_t (nI_le (Nat.le_refl _) (by omega)) ⟨9, ?_⟩
    exact cs_x_lv39 hv hT hI hE hC hO hr 8 0 (by omega) _ (by omega) RC (K RC h)
  | succ d ih =>
    intro k hk f hf RC h
    obtain ⟨m, rfl⟩ : ∃ m, f = m + 1 := ⟨f - 1, by omega⟩
    refine br_f (nI_ge (by omega) (by omega)) (And.intro (pk_in k 40 (by omega)) (nm_r (cs_wb k false rfl cs_vb0) (nm_r (nI_1 k) ?_)))
    refine ih (k + 1) (by omega) m (by omega) _ (fun n hn => ?_)
    by_cases c : n = k
    · subst c; exact cs_us
    · rw [cs_uo c]; exact h n (by omega)
/-! the reference -/
variable {ev : Nat → Nat → Bool}
theorem cs_y_lv88 {post : Int32 → SY → Prop} {v : Nat} (hPN : PN ≤ 64) (hv : v < T) (hT : T ≤ 39) (hI : I < T) (hE : E ≤ T) (hC : cs_CW I T GK OP) (hTB : ∀ q, q < PN → ∀ n, n < T → tb (n * 64 + q) = cs_bi (ev q n)) (hr : ∀ a, a < 2 * T → ∀ u, cs_Rs PN ev E a u → u = rho a ∧ rho a < T) :
    ∀ d, I + d < T → ∀ f, d < f → ∀ lw, post (cs_bi (cs_md rho OP I d lw v)) ((nI I), gl, ou, (nI PN), (nI T), sd, (nI E), sv, sw, sp, (cs_n GS), (cs_n GK), (cs_n OP), (cs_o O), (cs_b S), tb, (cs_b (cs_md rho OP I d lw))) → (wY_isLive_88 post (nI v) (nI I) gl ou (nI PN) (nI T) sd (nI E) sv sw sp f (nI (I + d)) (cs_n GS) (cs_n GK) (cs_n OP) (cs_o O) (cs_b S) tb (cs_b lw)) := by
  intro d
  induction d with
  | zero =>
    intro hd f hf lw K
    obtain ⟨m, rfl⟩ : ∃ m, f = m + 1 := ⟨f - 1, by omega⟩
    refine br_t (nI_le (by omega) (by omega)) (And.intro (pk_in v 39 (by omega)) ?_)
    rw [cs_rb v rfl]
    exact And.intro (cs_bnar _) K
  | succ d ih =>
    intro hd f hf lw K
    obtain ⟨m, rfl⟩ : ∃ m, f = m + 1 := ⟨f - 1, by omega⟩
    obtain ⟨c0, c1, c2, c3⟩ := hC (I + d + 1) (by omega) (by omega)
    have e0 : nI (I + (d + 1)) * 3 + nI 0 = nI (3 * (I + d + 1)) := by rw [cs_m3, nI_add]; rfl
    have e1 : nI (I + (d + 1)) * 3 + nI 1 = nI (3 * (I + d + 1) + 1) := by rw [cs_m3, nI_add]; rfl
    have e2 : nI (I + (d + 1)) * 3 + nI 2 = nI (3 * (I + d + 1) + 2) := by rw [cs_m3, nI_add]; rfl
    have K' : post (cs_bi (cs_md rho OP I d (cs_m3d rho OP (I + d + 1) lw) v)) ((nI I), gl, ou, (nI PN), (nI T), sd, (nI E), sv, sw, sp, (cs_n GS), (cs_n GK), (cs_n OP), (cs_o O), (cs_b S), tb, (cs_b (cs_md rho OP I d (cs_m3d rho OP (I + d + 1) lw)))) := K
    refine br_f (nI_ge (by omega) (by omega)) (And.intro (pk_in (I + d + 1) 39 (by omega)) (cs_bc (cs_rb (I + d + 1) rfl) (fun z => ?_) (fun z => ?_)))
    · have e : cs_m3d rho OP (I + d + 1) lw = lw := by unfold cs_m3d; rw [z]; rfl
      rw [e] at K'
      exact nm_r (cs_m1 (by omega)) (ih (by omega) m (by omega) lw K')
    · have e : cs_m3d rho OP (I + d + 1) lw = cs_up (cs_up (cs_up lw (rho (OP (3 * (I + d + 1)))) true) (rho (OP (3 * (I + d + 1) + 1))) true) (rho (OP (3 * (I + d + 1) + 2))) true := by unfold cs_m3d; rw [z]; rfl
      rw [e] at K'
      refine ⟨4, ?_⟩
      refine br_f (by decide) (And.intro (pk_in (3 * (I + d + 1)) 117 (by omega) e0) (cs_y_rnet _ (cs_rd _ e0) hPN hT hE (by omega) hTB (fun u hu => ?_)))
      obtain ⟨rfl, ru⟩ := hr _ (by omega) u hu
      refine And.intro (pk_in (rho (OP (3 * (I + d + 1)))) 39 (by omega)) (nm_r (cs_wb (rho (OP (3 * (I + d + 1)))) true rfl cs_vb1) (nm_r (e' := nI 1) rfl ?_))
      refine br_f (by decide) (And.intro (pk_in (3 * (I + d + 1) + 1) 117 (by omega) e1) (cs_y_rnet _ (cs_rd _ e1) hPN hT hE (by omega) hTB (fun u hu => ?_)))
      obtain ⟨rfl, ru⟩ := hr _ (by omega) u hu
      refine And.intro (pk_in (rho (OP (3 * (I + d + 1) + 1))) 39 (by omega)) (nm_r (cs_wb (rho (OP (3 * (I + d + 1) + 1))) true rfl cs_vb1) (nm_r (e' := nI 2) rfl ?_))
      refine br_f (by decide) (And.intro (pk_in (3 * (I + d + 1) + 2) 117 (by omega) e2) (cs_y_rnet _ (cs_rd _ e2) hPN hT hE (by omega) hTB (fun u hu => ?_)))
      obtain ⟨rfl, ru⟩ := hr _ (by omega) u hu
      refine And.intro (pk_in (rho (OP (3 * (I + d + 1) + 2))) 39 (by omega)) (nm_r (cs_wb (rho (OP (3 * (I + d + 1) + 2))) true rfl cs_vb1) (nm_r (e' := nI 3) rfl ?_))
      refine br_t (by decide) (nm_r (cs_m1 (by omega)) ?_)
      exact ih (by omega) m (by omega) _ K'
theorem cs_y_lv41 {post : Int32 → SY → Prop} {v : Nat} (hPN : PN ≤ 64) (hv : v < T) (hT : T ≤ 39) (hI : I < T) (hE : E ≤ T) (hC : cs_CW I T GK OP) (hO : ∀ j, j < 8 → ∀ a, O j = some a → a < 2 * T) (hTB : ∀ q, q < PN → ∀ n, n < T → tb (n * 64 + q) = cs_bi (ev q n)) (hr : ∀ a, a < 2 * T → ∀ u, cs_Rs PN ev E a u → u = rho a ∧ rho a < T) :
    ∀ d j, j + d = 8 → ∀ f, d < f → ∀ lw, post (cs_bi (cs_md rho OP I (T - 1 - I) (cs_mo rho O d j lw) v)) ((nI I), gl, ou, (nI PN), (nI T), sd, (nI E), sv, sw, sp, (cs_n GS), (cs_n GK), (cs_n OP), (cs_o O), (cs_b S), tb, (cs_b (cs_md rho OP I (T - 1 - I) (cs_mo rho O d j lw)))) → (wY_isLive_41 post (nI v) (nI I) gl ou (nI PN) (nI T) sd (nI E) sv sw sp f (nI j) (cs_n GS) (cs_n GK) (cs_n OP) (cs_o O) (cs_b S) tb (cs_b lw)) := by
  intro d
  induction d with
  | zero =>
    intro j hj f hf lw K
    obtain ⟨m, rfl⟩ : ∃ m, f = m + 1 := ⟨f - 1, by omega⟩
    obtain rfl : j = 8 := by omega
    have e : nI T - 1 = nI (I + (T - 1 - I)) := by rw [cs_s1 (by omega)]; exact congrArg nI (by omega)
    refine br_t (nI_le (b := 8) (a := 8) (by omega) (by omega)) (nm_r e ?_)
    refine ⟨T + 1, ?_⟩
    exact cs_y_lv88 hPN hv hT hI hE hC hTB hr (T - 1 - I) (by omega) _ (by omega) lw K
  | succ d ih =>
    intro j hj f hf lw K
    obtain ⟨m, rfl⟩ : ∃ m, f = m + 1 := ⟨f - 1, by omega⟩
    have K' : post (cs_bi (cs_md rho OP I (T - 1 - I) (cs_mo rho O d (j + 1) (cs_m1o rho (O j) lw)) v)) ((nI I), gl, ou, (nI PN), (nI T), sd, (nI E), sv, sw, sp, (cs_n GS), (cs_n GK), (cs_n OP), (cs_o O), (cs_b S), tb, (cs_b (cs_md rho OP I (T - 1 - I) (cs_mo rho O d (j + 1) (cs_m1o rho (O j) lw))))) := K
    refine br_f (nI_ge (b := 8) (by omega) (by omega)) (And.intro (pk_in j 8 (by omega)) ?_)
    have er : cs_o O (nI j).toNatClampNeg = cs_oi (O j) := cs_ro j rfl
    rw [er]
    cases e : O j with
    | none =>
      rw [e] at K'
      exact br_t (by decide) (nm_r (nI_1 j) (ih (j + 1) (by omega) m (by omega) lw K'))
    | some a =>
      rw [e] at K'
      have ha := hO j (by omega) a e
      refine br_f (cs_nm1 (by omega)) (And.intro (pk_in j 8 (by omega)) (cs_y_rnet a rfl hPN hT hE ha hTB (fun u hu => ?_)))
      obtain ⟨rfl, ru⟩ := hr a ha u hu
      refine And.intro (pk_in (rho a) 39 (by omega)) (nm_r (cs_wb (rho a) true rfl cs_vb1) (nm_r (nI_1 j) ?_))
      exact ih (j + 1) (by omega) m (by omega) _ K'
theorem cs_y_lv20 {post : Int32 → SY → Prop} {v : Nat} (hPN : PN ≤ 64) (hv : v < T) (hT : T ≤ 39) (hI : I < T) (hE : E ≤ T) (hC : cs_CW I T GK OP) (hO : ∀ j, j < 8 → ∀ a, O j = some a → a < 2 * T) (hTB : ∀ q, q < PN → ∀ n, n < T → tb (n * 64 + q) = cs_bi (ev q n)) (hr : ∀ a, a < 2 * T → ∀ u, cs_Rs PN ev E a u → u = rho a ∧ rho a < T) (K : ∀ lw, (∀ n, n < T → lw n = false) → post (cs_bi (cs_md rho OP I (T - 1 - I) (cs_mo rho O 8 0 lw) v)) ((nI I), gl, ou, (nI PN), (nI T), sd, (nI E), sv, sw, sp, (cs_n GS), (cs_n GK), (cs_n OP), (cs_o O), (cs_b S), tb, (cs_b (cs_md rho OP I (T - 1 - I) (cs_mo rho O 8 0 lw))))) :
    ∀ d k, k + d = 39 → ∀ f, d < f → ∀ lw, (∀ n, n < k → lw n = false) → (wY_isLive_20 post (nI v) (nI I) gl ou (nI PN) (nI T) sd (nI E) sv sw sp f (nI k) (cs_n GS) (cs_n GK) (cs_n OP) (cs_o O) (cs_b S) tb (cs_b lw)) := by
  intro d
  induction d with
  | zero =>
    intro k hk f hf lw h
    obtain ⟨m, rfl⟩ : ∃ m, f = m + 1 := ⟨f - 1, by omega⟩
    obtain rfl : k = 39 := by omega
    refine br_t (nI_le (b := 39) (a := 39) (by omega) (by omega)) ⟨9, ?_⟩
    exact cs_y_lv41 hPN hv hT hI hE hC hO hTB hr 8 0 (by omega) _ (by omega) lw (K lw (fun n hn => h n (by omega)))
  | succ d ih =>
    intro k hk f hf lw h
    obtain ⟨m, rfl⟩ : ∃ m, f = m + 1 := ⟨f - 1, by omega⟩
    refine br_f (nI_ge (b := 39) (by omega) (by omega)) (And.intro (pk_in k 39 (by omega)) (nm_r (cs_wb k false rfl cs_vb0) (nm_r (nI_1 k) ?_)))
    refine ih (k + 1) (by omega) m (by omega) _ (fun n hn => ?_)
    by_cases c : n = k
    · subst c; exact cs_us
    · rw [cs_uo c]; exact h n (by omega)
theorem cs_vc_isLive {k : Nat} (h : cs_Inv I T E N gl ou sd sv sw sp pw GK OP RP O S L R sg iw BH BN FH FN NL NM) (v1 : Int32) : wpX_isLive (fun r u' => wpY_isLive (fun r' v' => r' = r ∧ i_Rel k u' v') ((nI I), gl, ou, (nI (2 ^ I)), (nI T), sd, (nI E), sv, sw, sp, (cs_n GS), (cs_n GK), (cs_n OP), (cs_o O), (cs_b S), tb, (cs_b lw)) v1) ((nI I), gl, ou, (nI T), sd, (nI E), pw, sv, sw, sp, (nI N), (nI t), (cs_n GS), (cs_n GK), (cs_n OP), (cs_o O), (cs_n RP), (cs_b RC), (cs_n L), (cs_n R), sg, iw, (cs_n BH), (cs_n BN), (cs_n FH), (cs_n FN), (cs_n NL), (cs_n NM), (cs_v V), (cs_b C), (cs_n TR), (cs_n LI), (cs_n LT)) v1 := by
  have hT := cs_T39 h
  have hI := h.1.2.1
  have hIT := h.1.2.2.1
  have hE := h.1.2.2.2.2
  have hC := h.2.2.2.2.2.2.2.1
  have hO := h.2.2.2.2.2.2.2.2.1
  have hRI := h.2.2.2.2.2.2.2.2.2.2.2
  have h64 := cs_p64 hI
  have hx : ∀ a, a < 2 * T → (fun a => cs_rr E RP a / 2) a = cs_rr E RP a / 2 ∧ (fun a => cs_rr E RP a / 2) a < T ∧ cs_rr E RP a < 2 * T := fun a ha => by
    obtain ⟨u, hu⟩ := cs_Rs_ex (a := a) hRI
    have e := cs_rr_eq hRI hu
    have le := cs_Rs_le hu
    have hb : (cs_lv (cs_ev I GK OP 0) a ^^ cs_ev I GK OP 0 u).toNat ≤ 1 := Bool.toNat_le _
    refine ⟨rfl, ?_, ?_⟩
    · show cs_rr E RP a / 2 < T
      omega
    · omega
  have hy : ∀ a, a < 2 * T → ∀ u, cs_Rs (2 ^ I) (cs_ev I GK OP) E a u → u = (fun a => cs_rr E RP a / 2) a ∧ (fun a => cs_rr E RP a / 2) a < T := fun a ha u hu => by
    have e := cs_rr_eq hRI hu
    have hb : (cs_lv (cs_ev I GK OP 0) a ^^ cs_ev I GK OP 0 u).toNat ≤ 1 := Bool.toNat_le _
    refine ⟨?_, (hx a ha).2.1⟩
    show u = cs_rr E RP a / 2
    omega
  unfold wpX_isLive wpY_isLive
  by_cases c : ∃ v, v < T ∧ v1 = nI v
  · obtain ⟨v, v2, rfl⟩ := c
    refine cs_rg1 (by omega) ⟨v, v2, rfl⟩ ⟨T + 1, ?_⟩
    refine cs_x_lv16 v2 hT hIT hE hC hO hx (fun RC hRC => ?_) T 0 (by omega) _ (by omega) RC (fun n hn => by omega)
    refine cs_rg1 (by omega) ⟨v, v2, rfl⟩ ?_
    refine cs_y_tab h64 hI hIT hT hC (fun tb htb => ?_)
    refine ⟨40, ?_⟩
    refine cs_y_lv20 h64 v2 hT hIT hE hC hO htb hy (fun lw hlw => ⟨?_, cs_mk h⟩) 39 0 (by omega) _ (by omega) lw (fun n hn => by omega)
    have ag := cs_md_agree (rho := fun a => cs_rr E RP a / 2) (OP := OP) (I := I) (T := T) (T - 1 - I) (by omega) _ _ (cs_mo_agree (rho := fun a => cs_rr E RP a / 2) (O := O) 8 0 lw RC (fun n hn => by rw [hlw n hn, hRC n hn])) v v2
    rw [ag]
  · exact cs_rg0 (by omega) c (cs_rg0 (by omega) c ⟨rfl, cs_mk h⟩)
end
end
section
section
variable {I T E N t PN : Nat} {gl ou sd sv sw sp : Int32} {pw : Int64} {GS GK OP RP L R BH BN FH FN NL NM TR LI LT : Nat → Nat} {O : Nat → Option Nat} {V : Nat → Option Bool} {C RC S lw : Nat → Bool} {sg iw : Nat → Int64} {tb : Nat → Int32}
theorem cs_NI_ex {L' R' : Nat → Nat} (h : cs_NI I GK OP T N L R NL NM) (hX : ∀ n, n < N → L n = L' n ∧ R n = R' n) : cs_NI I GK OP T N L' R' NL NM := by
  obtain ⟨h1, h2, h3, h4, h5, h6⟩ := h
  refine ⟨h1, h2, h3, fun n hn => ⟨(h4 n hn).1, fun p => ?_⟩, h5, h6⟩
  have q := (h4 n hn).1
  rw [← (h4 n hn).2 p]
  exact cs_lv_congr (cs_gv_congr fun j hj => by have := hX j (by omega); exact ⟨this.1.symm, this.2.symm⟩)
/-- the invariant when the graph was used for a while and cut back -/
theorem cs_Inv_gr {L' R' : Nat → Nat} {sg' : Nat → Int64} {BH' BN' FH' FN' : Nat → Nat} (h : cs_Inv I T E N gl ou sd sv sw sp pw GK OP RP O S L R sg iw BH BN FH FN NL NM) (hX : ∀ n, n < N → L n = L' n ∧ R n = R' n) (hG : cs_G I pw N L' R' sg' BH' BN' FH' FN') : cs_Inv I T E N gl ou sd sv sw sp pw GK OP RP O S L' R' sg' iw BH' BN' FH' FN' NL NM := by
  obtain ⟨h1, hgl, hou, hsd, hv, hp, hiw, hC, hO, _, hNI, hRI⟩ := h
  exact ⟨h1, hgl, hou, hsd, hv, hp, hiw, hC, hO, hG, cs_NI_ex hNI hX, hRI⟩
theorem cs_y_fd34 {post : Int32 → SY → Prop} {ev : Nat → Nat → Bool} {a b c : Nat} (hPN : PN ≤ 64) (hT : T ≤ 39) (ha : a < 2 * T) (hb : b < 2 * T) (hc : c < 2 * T) (hTB : ∀ q, q < PN → ∀ n, n < T → tb (n * 64 + q) = cs_bi (ev q n)) (K : ∀ o, cs_Lst PN (fun p => (cs_lv (ev p) a && cs_lv (ev p) b) && cs_lv (ev p) c) o → post (cs_oi o) ((nI I), gl, ou, (nI PN), (nI T), sd, (nI E), sv, sw, sp, (cs_n GS), (cs_n GK), (cs_n OP), (cs_o O), (cs_b S), tb, (cs_b lw))) :
    ∀ d p, p + d = PN → ∀ f, d < f → (∀ q, q < p → ((cs_lv (ev q) a && cs_lv (ev q) b) && cs_lv (ev q) c) = false) → (wY_find_34 post (nI a) (nI b) (nI c) (nI I) gl ou (nI PN) (nI T) sd (nI E) sv sw sp (cs_n GS) (cs_n GK) (cs_n OP) (cs_o O) (cs_b S) tb (cs_b lw) f (nI p)) := by
  intro d
  induction d with
  | zero =>
    intro p hp f hf h
    obtain ⟨m, rfl⟩ : ∃ m, f = m + 1 := ⟨f - 1, by omega⟩
    obtain rfl : p = PN := by omega
    exact br_t (nI_le (Nat.le_refl _) (by omega)) (K none h)
  | succ d ih =>
    intro p hp f hf h
    obtain ⟨m, rfl⟩ : ∃ m, f = m + 1 := ⟨f - 1, by omega⟩
    have nx : ((cs_lv (ev p) a && cs_lv (ev p) b) && cs_lv (ev p) c) = false → (wY_find_34 post (nI a) (nI b) (nI c) (nI I) gl ou (nI PN) (nI T) sd (nI E) sv sw sp (cs_n GS) (cs_n GK) (cs_n OP) (cs_o O) (cs_b S) tb (cs_b lw) m (nI (p + 1))) := fun z => ih (p + 1) (by omega) m (by omega) (fun q hq => by
      by_cases e : q = p
      · subst e; exact z
      · exact h q (by omega))
    have one : ∀ {x : Bool} {A B : Prop}, (x = true → A) → (x = false → B) → (cs_bi x = 1 → A) ∧ (¬ cs_bi x = 1 → B) := fun {x A B} ka kb => by
      cases x with
      | true => exact br_t rfl (ka rfl)
      | false => exact br_f (by decide) (kb rfl)
    refine br_f (nI_ge (by omega) (by omega)) (cs_y_value a p _ rfl rfl (by omega) (by omega) (hTB p (by omega) _ (by omega)) (one (fun z1 => ?_) (fun z1 => nm_r (nI_1 p) (nx ?_))))
    · refine cs_y_value b p _ rfl rfl (by omega) (by omega) (hTB p (by omega) _ (by omega)) (one (fun z2 => ?_) (fun z2 => nm_r (nI_1 p) (nx ?_)))
      · refine cs_y_value c p _ rfl rfl (by omega) (by omega) (hTB p (by omega) _ (by omega)) (one (fun z3 => ?_) (fun z3 => nm_r (nI_1 p) (nx ?_)))
        · refine K (some p) ⟨by omega, ?_, h⟩
          show ((cs_lv (ev p) a && cs_lv (ev p) b) && cs_lv (ev p) c) = true
          unfold cs_lv; rw [z1, z2, z3]; rfl
        · unfold cs_lv; rw [z3, Bool.and_false]
      · unfold cs_lv; rw [z2, Bool.and_false, Bool.false_and]
    · unfold cs_lv; rw [z1]; rfl
theorem cs_vc_find {k : Nat} (h : cs_Inv I T E N gl ou sd sv sw sp pw GK OP RP O S L R sg iw BH BN FH FN NL NM) (v1 v2 v3 : Int32) : wpX_find (fun r u' => wpY_find (fun r' v' => r' = r ∧ i_Rel k u' v') ((nI I), gl, ou, (nI (2 ^ I)), (nI T), sd, (nI E), sv, sw, sp, (cs_n GS), (cs_n GK), (cs_n OP), (cs_o O), (cs_b S), tb, (cs_b lw)) v1 v2 v3) ((nI I), gl, ou, (nI T), sd, (nI E), pw, sv, sw, sp, (nI N), (nI t), (cs_n GS), (cs_n GK), (cs_n OP), (cs_o O), (cs_n RP), (cs_b RC), (cs_n L), (cs_n R), sg, iw, (cs_n BH), (cs_n BN), (cs_n FH), (cs_n FN), (cs_n NL), (cs_n NM), (cs_v V), (cs_b C), (cs_n TR), (cs_n LI), (cs_n LT)) v1 v2 v3 := by
  have hT := cs_T39 h
  have hN := cs_N256 h
  have hI1 := h.1.1
  have hI := h.1.2.1
  have hIT := h.1.2.2.1
  have hC := h.2.2.2.2.2.2.2.1
  have hG := h.2.2.2.2.2.2.2.2.2.1
  have hNI := h.2.2.2.2.2.2.2.2.2.2.1
  have h64 := cs_p64 hI
  have hIN := hG.1.1
  unfold wpX_find wpY_find
  by_cases c1 : ∃ a, a < 2 * T ∧ v1 = nI a
  · refine cs_xv1 hT c1 (br_f (by decide) ?_)
    by_cases c2 : ∃ a, a < 2 * T ∧ v2 = nI a
    · refine cs_xv1 hT c2 (br_f (by decide) ?_)
      by_cases c3 : ∃ a, a < 2 * T ∧ v3 = nI a
      · refine cs_xv1 hT c3 (br_f (by decide) ?_)
        have YF : ∀ (r : Int32) (u' : SX), (∀ tb, (∀ q, q < 2 ^ I → ∀ n, n < T → tb (n * 64 + q) = cs_bi (cs_ev I GK OP q n)) → (wY_find_34 ((fun r' v' => r' = r ∧ i_Rel k u' v')) v1 v2 v3 (nI I) gl ou (nI (2 ^ I)) (nI T) sd (nI E) sv sw sp (cs_n GS) (cs_n GK) (cs_n OP) (cs_o O) (cs_b S) tb (cs_b lw) (2 ^ I + 1) (nI 0))) → wpY_find (fun r' v' => r' = r ∧ i_Rel k u' v') ((nI I), gl, ou, (nI (2 ^ I)), (nI T), sd, (nI E), sv, sw, sp, (cs_n GS), (cs_n GK), (cs_n OP), (cs_o O), (cs_b S), tb, (cs_b lw)) v1 v2 v3 := by
          intro r u' K
          unfold wpY_find
          refine cs_yv1 hT c1 (br_f (by decide) (cs_yv1 hT c2 (br_f (by decide) (cs_yv1 hT c3 (br_f (by decide) ?_)))))
          exact cs_y_tab h64 hI hIT hT hC (fun tb htb => ⟨_, K tb htb⟩)
        obtain ⟨a, a1, rfl⟩ := c1
        obtain ⟨b, b1, rfl⟩ := c2
        obtain ⟨c, d1, rfl⟩ := c3
        obtain ⟨ga1, ga2⟩ := cs_NI_gl hNI a1
        obtain ⟨gb1, gb2⟩ := cs_NI_gl hNI b1
        obtain ⟨gc1, gc2⟩ := cs_NI_gl hNI d1
        refine cs_x_gl a rfl (by omega) (cs_x_gl b rfl (by omega) (cs_x_gl c rfl (by omega) ?_))
        refine cs_x_and (cs_gl NL a) (cs_gl NL b) rfl rfl hG (by omega) ga1 gb1 (fun r1 g1 x1 x2 x3 x4 => ?_)
        have n1 := x2.1
        have n1' := x2.2.1
        refine cs_x_and r1 (cs_gl NL c) rfl rfl x1 (by omega) x3 (by omega) (fun r2 g2 y1 y2 y3 y4 => ?_)
        have n2 := y2.1
        have n2' := y2.2.1
        refine cs_x_search r2 rfl y3 hI1 hI (by omega) y1.1 y1.2.2.1 (fun o t V C TR LI LT ho => ?_)
        refine cs_x_tr N rfl hIN (by omega) (by omega) y1 (fun BH' FH' hG' => ?_)
        have X2 := cs_ex_trans x2 y2
        refine YF _ _ (fun tb htb => cs_y_fd34 h64 hT a1 b1 d1 htb (fun o' ho' => ?_) (2 ^ I) 0 (by omega) _ (by omega) (fun q hq => by omega))
        have eo : o' = o := cs_lst_uniq ho' (cs_lst_congr (fun p _ => by rw [y4 p, x4 p, cs_ex_lv x2 gc1, ga2 p, gb2 p, gc2 p]) ho)
        subst eo
        exact ⟨rfl, cs_mk (cs_Inv_gr h X2.2.2 hG')⟩
      · exact cs_xv0 hT c3 (br_t rfl (cs_yv1 hT c1 (br_f (by decide) (cs_yv1 hT c2 (br_f (by decide) (cs_yv0 hT c3 (br_t rfl ⟨rfl, cs_mk h⟩)))))))
    · exact cs_xv0 hT c2 (br_t rfl (cs_yv1 hT c1 (br_f (by decide) (cs_yv0 hT c2 (br_t rfl ⟨rfl, cs_mk h⟩)))))
  · exact cs_xv0 hT c1 (br_t rfl (cs_yv0 hT c1 (br_t rfl ⟨rfl, cs_mk h⟩)))
end
end
section
/-! differences of the outputs -/
def cs_ol (o : Option Nat) : Nat := match o with
  | none => 0
  | some a => a
def cs_df (O : Nat → Option Nat) (h : Nat → Bool) (j : Nat) : Bool := cs_lv h (cs_ol (O j)) ^^ cs_lv h (cs_ol (O (4 + j)))
def cs_dif (O : Nat → Option Nat) (h : Nat → Bool) : Nat → Bool
  | 0 => false
  | j + 1 => cs_dif O h j || cs_df O h j
theorem cs_dif_f {O : Nat → Option Nat} {h : Nat → Bool} {n : Nat} : cs_dif O h n = false ↔ ∀ j, j < n → cs_df O h j = false := by
  induction n with
  | zero => exact ⟨fun _ j hj => by omega, fun _ => rfl⟩
  | succ n ih =>
    show (cs_dif O h n || cs_df O h n) = false ↔ _
    rw [Bool.or_eq_false_iff, ih]
    constructor
    · rintro ⟨a, b⟩ j hj
      by_cases e : j = n
      · subst e; exact b
      · exact a j (by omega)
    · intro a
      exact ⟨fun j hj => a j (by omega), a n (by omega)⟩
def cs_inc (O : Nat → Option Nat) (j : Nat) : Prop := O j = none ∨ O (4 + j) = none
section
variable {I T E N t PN : Nat} {gl ou sd sv sw sp : Int32} {pw : Int64} {GS GK OP RP L R BH BN FH FN NL NM TR LI LT : Nat → Nat} {O : Nat → Option Nat} {V : Nat → Option Bool} {C RC S lw : Nat → Bool} {sg iw : Nat → Int64} {tb : Nat → Int32}
variable {OU : Nat}
theorem cs_x_ld9 {post : Int32 → SX → Prop} {N0 : Nat} {L0 R0 : Nat → Nat} (hI1 : 1 ≤ I) (hI : I ≤ 6) (hT : T ≤ 39) (hOU : OU ≤ 4) (hN0 : N0 ≤ 199) (hIN : I < N0) (hNI : cs_NI I GK OP T N0 L0 R0 NL NM) (hO : ∀ j, j < 8 → ∀ a, O j = some a → a < 2 * T) (hD : ∀ j, j < OU → ¬ cs_inc O j)
    (K : ∀ (o : Option Nat) (L R : Nat → Nat) (sg : Nat → Int64) (BH BN FH FN : Nat → Nat) t V C TR LI LT, cs_Lst (2 ^ I) (fun p => cs_dif O (cs_ev I GK OP p) OU) o → cs_G I pw N0 L R sg BH BN FH FN → (∀ n, n < N0 → L0 n = L n ∧ R0 n = R n) → post (cs_oi o) ((nI I), gl, (nI OU), (nI T), sd, (nI E), pw, sv, sw, sp, (nI N0), (nI t), (cs_n GS), (cs_n GK), (cs_n OP), (cs_o O), (cs_n RP), (cs_b RC), (cs_n L), (cs_n R), sg, iw, (cs_n BH), (cs_n BN), (cs_n FH), (cs_n FN), (cs_n NL), (cs_n NM), (cs_v V), (cs_b C), (cs_n TR), (cs_n LI), (cs_n LT))) :
    ∀ d j, j + d = OU → ∀ f, d < f → ∀ (m : Nat) (g : cs_GT), cs_G I pw g.1 g.2.1 g.2.2.1 g.2.2.2.1 g.2.2.2.2.1 g.2.2.2.2.2.1 g.2.2.2.2.2.2.1 g.2.2.2.2.2.2.2 → cs_Ex N0 L0 R0 g.1 g.2.1 g.2.2.1 (4 * j) → m < 2 * g.1 → (∀ p, cs_lv (cs_gv I g.2.1 g.2.2.1 p) m = cs_dif O (cs_ev I GK OP p) j) → (wX_leastDifference_9 post (nI N0) f (nI m) (nI j) (nI I) gl (nI OU) (nI T) sd (nI E) pw sv sw sp (nI g.1) (nI t) (cs_n GS) (cs_n GK) (cs_n OP) (cs_o O) (cs_n RP) (cs_b RC) (cs_n g.2.1) (cs_n g.2.2.1) g.2.2.2.1 iw (cs_n g.2.2.2.2.1) (cs_n g.2.2.2.2.2.1) (cs_n g.2.2.2.2.2.2.1) (cs_n g.2.2.2.2.2.2.2) (cs_n NL) (cs_n NM) (cs_v V) (cs_b C) (cs_n TR) (cs_n LI) (cs_n LT)) := by
  intro d
  induction d with
  | zero =>
    intro j hj f hf m g hG hX hm hv
    obtain ⟨w, rfl⟩ : ∃ w, f = w + 1 := ⟨f - 1, by omega⟩
    obtain rfl : j = OU := by omega
    have x1 := hX.1
    have x2 := hX.2.1
    refine br_t (nI_le (Nat.le_refl _) (by omega)) ?_
    refine cs_x_search m rfl hm hI1 hI (by omega) hG.1 hG.2.2.1 (fun o t V C TR LI LT ho => ?_)
    refine cs_x_tr N0 rfl hIN x1 (by omega) hG (fun BH' FH' hG' => ?_)
    exact K o _ _ _ BH' _ FH' _ t V C TR LI LT (cs_lst_congr (fun p _ => hv p) ho) hG' hX.2.2
  | succ d ih =>
    intro j hj f hf m g hG hX hm hv
    obtain ⟨w, rfl⟩ : ∃ w, f = w + 1 := ⟨f - 1, by omega⟩
    have x1 := hX.1
    have x2 := hX.2.1
    have nd := hD j (by omega)
    obtain ⟨a, ea⟩ : ∃ a, O j = some a := by
      cases e : O j with
      | none => exact absurd (Or.inl e) nd
      | some a => exact ⟨a, rfl⟩
    obtain ⟨b, eb⟩ : ∃ b, O (4 + j) = some b := by
      cases e : O (4 + j) with
      | none => exact absurd (Or.inr e) nd
      | some a => exact ⟨a, rfl⟩
    have ha := hO j (by omega) a ea
    have hb := hO (4 + j) (by omega) b eb
    obtain ⟨ga1, ga2⟩ := cs_NI_gl hNI ha
    obtain ⟨gb1, gb2⟩ := cs_NI_gl hNI hb
    have e4 : 4 + nI j = nI (4 + j) := cs_4a j
    have ra : cs_o O (nI j).toNatClampNeg = nI a := by rw [cs_ro j rfl, ea]; rfl
    have rb : cs_o O (4 + nI j).toNatClampNeg = nI b := by rw [cs_ro (4 + j) e4, eb]; rfl
    refine br_f (nI_ge (by omega) (by omega)) (And.intro (pk_in j 8 (by omega)) (cs_x_gl a ra (by omega) (And.intro (pk_in (4 + j) 8 (by omega) e4) (cs_x_gl b rb (by omega) ?_))))
    refine cs_x_xor (cs_gl NL a) (cs_gl NL b) rfl rfl hG (by omega) (by omega) (by omega) (fun r1 g1 y1 y2 y3 y4 => ?_)
    have n1 := y2.1
    have n1' := y2.2.1
    refine cs_x_or m r1 rfl rfl y1 (by omega) (by omega) y3 (fun r2 g2 z1 z2 z3 z4 => ?_)
    refine nm_r (nI_1 j) (ih (j + 1) (by omega) w (by omega) r2 g2 z1 (cs_ex_mono (cs_ex_trans (cs_ex_trans hX y2) z2) (by omega)) z3 (fun p => ?_))
    rw [z4 p, cs_ex_lv y2 hm, hv p, y4 p, cs_ex_lv hX ga1, cs_ex_lv hX gb1, ga2 p, gb2 p]
    show _ = (cs_dif O (cs_ev I GK OP p) j || cs_df O (cs_ev I GK OP p) j)
    unfold cs_df
    rw [ea, eb]
    rfl
theorem cs_x_ldif {post : Int32 → SX → Prop} (hI1 : 1 ≤ I) (hI : I ≤ 6) (hT : T ≤ 39) (hOU : OU ≤ 4) (hN0 : N ≤ 199) (hG : cs_G I pw N L R sg BH BN FH FN) (hNI : cs_NI I GK OP T N L R NL NM) (hO : ∀ j, j < 8 → ∀ a, O j = some a → a < 2 * T) (hD : ∀ j, j < OU → ¬ cs_inc O j)
    (K : ∀ (o : Option Nat) (L' R' : Nat → Nat) (sg : Nat → Int64) (BH BN FH FN : Nat → Nat) t V C TR LI LT, cs_Lst (2 ^ I) (fun p => cs_dif O (cs_ev I GK OP p) OU) o → cs_G I pw N L' R' sg BH BN FH FN → (∀ n, n < N → L n = L' n ∧ R n = R' n) → post (cs_oi o) ((nI I), gl, (nI OU), (nI T), sd, (nI E), pw, sv, sw, sp, (nI N), (nI t), (cs_n GS), (cs_n GK), (cs_n OP), (cs_o O), (cs_n RP), (cs_b RC), (cs_n L'), (cs_n R'), sg, iw, (cs_n BH), (cs_n BN), (cs_n FH), (cs_n FN), (cs_n NL), (cs_n NM), (cs_v V), (cs_b C), (cs_n TR), (cs_n LI), (cs_n LT))) : wpX_leastDifference post ((nI I), gl, (nI OU), (nI T), sd, (nI E), pw, sv, sw, sp, (nI N), (nI t), (cs_n GS), (cs_n GK), (cs_n OP), (cs_o O), (cs_n RP), (cs_b RC), (cs_n L), (cs_n R), sg, iw, (cs_n BH), (cs_n BN), (cs_n FH), (cs_n FN), (cs_n NL), (cs_n NM), (cs_v V), (cs_b C), (cs_n TR), (cs_n LI), (cs_n LT)) := by
  refine Exists.intro (OU + 1) ?_
  refine cs_x_ld9 hI1 hI hT hOU hN0 hG.1.1 hNI hO hD K OU 0 (by omega) _ (by omega) 0 (N, L, R, sg, BH, BN, FH, FN) hG (cs_ex_refl _) ?_ (fun p => cs_lv_even _ 0)
  show 0 < 2 * N
  have := hG.1.1
  omega
theorem cs_x_lp7 {post : Int32 → SX → Prop} {p : Nat} (hT : T ≤ 39) (hOU : OU ≤ 4) (hN : N ≤ 256) (hNI : cs_NI I GK OP T N L R NL NM) (hV : ∀ n, n < N → V n = some (cs_gv I L R p n)) (hO : ∀ j, j < 8 → ∀ a, O j = some a → a < 2 * T) (hD : ∀ j, j < OU → ¬ cs_inc O j)
    (K : ∀ o, cs_Lst OU (fun j => cs_df O (cs_ev I GK OP p) j) o → post (cs_oi o) ((nI I), gl, (nI OU), (nI T), sd, (nI E), pw, sv, sw, sp, (nI N), (nI t), (cs_n GS), (cs_n GK), (cs_n OP), (cs_o O), (cs_n RP), (cs_b RC), (cs_n L), (cs_n R), sg, iw, (cs_n BH), (cs_n BN), (cs_n FH), (cs_n FN), (cs_n NL), (cs_n NM), (cs_v V), (cs_b C), (cs_n TR), (cs_n LI), (cs_n LT))) :
    ∀ d j, j + d = OU → ∀ f, d < f → (∀ i, i < j → cs_df O (cs_ev I GK OP p) i = false) → (wX_leastDifferingPlace_7 post (nI I) gl (nI OU) (nI T) sd (nI E) pw sv sw sp (nI N) (nI t) (cs_n GS) (cs_n GK) (cs_n OP) (cs_o O) (cs_n RP) (cs_b RC) (cs_n L) (cs_n R) sg iw (cs_n BH) (cs_n BN) (cs_n FH) (cs_n FN) (cs_n NL) (cs_n NM) (cs_v V) (cs_b C) (cs_n TR) (cs_n LI) (cs_n LT) f (nI j)) := by
  intro d
  induction d with
  | zero =>
    intro j hj f hf h
    obtain ⟨w, rfl⟩ : ∃ w, f = w + 1 := ⟨f - 1, by omega⟩
    obtain rfl : j = OU := by omega
    exact br_t (nI_le (Nat.le_refl _) (by omega)) (K none h)
  | succ d ih =>
    intro j hj f hf h
    obtain ⟨w, rfl⟩ : ∃ w, f = w + 1 := ⟨f - 1, by omega⟩
    have nd := hD j (by omega)
    obtain ⟨a, ea⟩ : ∃ a, O j = some a := by
      cases e : O j with
      | none => exact absurd (Or.inl e) nd
      | some a => exact ⟨a, rfl⟩
    obtain ⟨b, eb⟩ : ∃ b, O (4 + j) = some b := by
      cases e : O (4 + j) with
      | none => exact absurd (Or.inr e) nd
      | some a => exact ⟨a, rfl⟩
    have ha := hO j (by omega) a ea
    have hb := hO (4 + j) (by omega) b eb
    obtain ⟨ga1, ga2⟩ := cs_NI_gl hNI ha
    obtain ⟨gb1, gb2⟩ := cs_NI_gl hNI hb
    have e4 : 4 + nI j = nI (4 + j) := cs_4a j
    have ra : cs_o O (nI j).toNatClampNeg = nI a := by rw [cs_ro j rfl, ea]; rfl
    have rb : cs_o O (4 + nI j).toNatClampNeg = nI b := by rw [cs_ro (4 + j) e4, eb]; rfl
    have edf : cs_df O (cs_ev I GK OP p) j = (cs_lv (cs_ev I GK OP p) a ^^ cs_lv (cs_ev I GK OP p) b) := by unfold cs_df; rw [ea, eb]; rfl
    refine br_f (nI_ge (by omega) (by omega)) (And.intro (pk_in j 8 (by omega)) (cs_x_gl a ra (by omega) (And.intro (pk_in (4 + j) 8 (by omega) e4) (cs_x_gl b rb (by omega) ?_))))
    refine cs_x_lval (cs_gl NL a) rfl (by omega) (cs_x_lval (cs_gl NL b) rfl (by omega) ?_)
    rw [cs_lo_some (hV _ (show cs_gl NL a / 2 < N by omega)), cs_lo_some (hV _ (show cs_gl NL b / 2 < N by omega)), ga2 p, gb2 p]
    have vinj : ∀ x y : Bool, cs_vi (some x) = cs_vi (some y) ↔ x = y := fun x y => by cases x <;> cases y <;> decide
    refine br_c (fun z => ?_) (fun z => ?_)
    · have z1 := (vinj _ _).1 z
      refine nm_r (nI_1 j) (ih (j + 1) (by omega) w (by omega) (fun i hi => ?_))
      by_cases e : i = j
      · subst e; rw [edf, z1, Bool.xor_self]
      · exact h i (by omega)
    · have z1 : ¬ cs_lv (cs_ev I GK OP p) a = cs_lv (cs_ev I GK OP p) b := fun q => z ((vinj _ _).2 q)
      refine K (some j) ⟨by omega, ?_, h⟩
      show cs_df O (cs_ev I GK OP p) j = true
      rw [edf]
      generalize cs_lv (cs_ev I GK OP p) a = x at z1
      generalize cs_lv (cs_ev I GK OP p) b = y at z1
      cases x <;> cases y <;> simp_all
theorem cs_x_lplace {post : Int32 → SX → Prop} {x : Int32} (p : Nat) (hx : x = nI p) (hp : p < 64) (hI : I ≤ 6) (hT : T ≤ 39) (hOU : OU ≤ 4) (hN : N ≤ 256) (hG : cs_G I pw N L R sg BH BN FH FN) (hNI : cs_NI I GK OP T N L R NL NM) (hO : ∀ j, j < 8 → ∀ a, O j = some a → a < 2 * T) (hD : ∀ j, j < OU → ¬ cs_inc O j)
    (K : ∀ V o, cs_Lst OU (fun j => cs_df O (cs_ev I GK OP p) j) o → post (cs_oi o) ((nI I), gl, (nI OU), (nI T), sd, (nI E), pw, sv, sw, sp, (nI N), (nI t), (cs_n GS), (cs_n GK), (cs_n OP), (cs_o O), (cs_n RP), (cs_b RC), (cs_n L), (cs_n R), sg, iw, (cs_n BH), (cs_n BN), (cs_n FH), (cs_n FN), (cs_n NL), (cs_n NM), (cs_v V), (cs_b C), (cs_n TR), (cs_n LI), (cs_n LT))) : wpX_leastDifferingPlace post ((nI I), gl, (nI OU), (nI T), sd, (nI E), pw, sv, sw, sp, (nI N), (nI t), (cs_n GS), (cs_n GK), (cs_n OP), (cs_o O), (cs_n RP), (cs_b RC), (cs_n L), (cs_n R), sg, iw, (cs_n BH), (cs_n BN), (cs_n FH), (cs_n FN), (cs_n NL), (cs_n NM), (cs_v V), (cs_b C), (cs_n TR), (cs_n LI), (cs_n LT)) x := by
  subst hx
  unfold wpX_leastDifferingPlace
  refine cs_x_sim p rfl hp hI hG.1 hN (fun V' hV => ?_)
  refine ⟨OU + 1, ?_⟩
  exact cs_x_lp7 hT hOU hN hNI hV hO hD (fun o ho => K V' o ho) OU 0 (by omega) _ (by omega) (fun i hi => by omega)
/-! the reference -/
theorem cs_y_ck56 {post : Int32 → SY → Prop} {J : Int32 → Prop} {ev : Nat → Nat → Bool} {p : Nat} (hp : p < PN) (hPN : PN ≤ 64) (hT : T ≤ 39) (hOU : OU ≤ 4) (hO : ∀ j, j < 8 → ∀ a, O j = some a → a < 2 * T) (hD : ∀ j, j < OU → ¬ cs_inc O j) (hTB : ∀ q, q < PN → ∀ n, n < T → tb (n * 64 + q) = cs_bi (ev q n))
    (KJ : cs_dif O (ev p) OU = false → J (nI (p + 1))) (K : ∀ j, cs_Lst OU (fun j => cs_df O (ev p) j) (some j) → post 2 ((nI I), gl, (nI OU), (nI PN), (nI T), sd, (nI E), 2, (nI p), (nI j), (cs_n GS), (cs_n GK), (cs_n OP), (cs_o O), (cs_b (cs_up S p true)), tb, (cs_b lw))) :
    ∀ d j, j + d = OU → ∀ f, d < f → (∀ i, i < j → cs_df O (ev p) i = false) → (wY_check_56 post J (nI p) (nI I) gl (nI OU) (nI PN) (nI T) sd (nI E) sv sw sp (cs_n GS) (cs_n GK) (cs_n OP) (cs_o O) (cs_b S) tb (cs_b lw) f (nI j)) := by
  intro d
  induction d with
  | zero =>
    intro j hj f hf h
    obtain ⟨w, rfl⟩ : ∃ w, f = w + 1 := ⟨f - 1, by omega⟩
    obtain rfl : j = OU := by omega
    exact br_t (nI_le (Nat.le_refl _) (by omega)) (nm_r (nI_1 p) (KJ (cs_dif_f.2 h)))
  | succ d ih =>
    intro j hj f hf h
    obtain ⟨w, rfl⟩ : ∃ w, f = w + 1 := ⟨f - 1, by omega⟩
    have nd := hD j (by omega)
    obtain ⟨a, ea⟩ : ∃ a, O j = some a := by
      cases e : O j with
      | none => exact absurd (Or.inl e) nd
      | some a => exact ⟨a, rfl⟩
    obtain ⟨b, eb⟩ : ∃ b, O (4 + j) = some b := by
      cases e : O (4 + j) with
      | none => exact absurd (Or.inr e) nd
      | some a => exact ⟨a, rfl⟩
    have ha := hO j (by omega) a ea
    have hb := hO (4 + j) (by omega) b eb
    have e4 : 4 + nI j = nI (4 + j) := cs_4a j
    have ra : cs_o O (nI j).toNatClampNeg = nI a := by rw [cs_ro j rfl, ea]; rfl
    have rb : cs_o O (4 + nI j).toNatClampNeg = nI b := by rw [cs_ro (4 + j) e4, eb]; rfl
    have edf : cs_df O (ev p) j = ((ev p (a / 2) ^^ decide (a % 2 = 1)) ^^ (ev p (b / 2) ^^ decide (b % 2 = 1))) := by unfold cs_df; rw [ea, eb]; rfl
    refine br_f (nI_ge (by omega) (by omega)) (And.intro (pk_in j 8 (by omega)) ?_)
    refine cs_y_value a p _ ra rfl (by omega) (by omega) (hTB p hp _ (by omega)) (And.intro (pk_in (4 + j) 8 (by omega) e4) ?_)
    refine cs_y_value b p _ rb rfl (by omega) (by omega) (hTB p hp _ (by omega)) ?_
    refine br_c (fun z => ?_) (fun z => ?_)
    · have z1 := cs_bi_inj.1 z
      refine nm_r (nI_1 j) (ih (j + 1) (by omega) w (by omega) (fun i hi => ?_))
      by_cases e : i = j
      · subst e; rw [edf, z1, Bool.xor_self]
      · exact h i (by omega)
    · have z1 : ¬ (ev p (a / 2) ^^ decide (a % 2 = 1)) = (ev p (b / 2) ^^ decide (b % 2 = 1)) := fun q => z (cs_bi_inj.2 q)
      refine And.intro (pk_in p 64 (by omega)) (nm_r (cs_wb p true rfl cs_vb1) (K j ⟨by omega, ?_, h⟩))
      show cs_df O (ev p) j = true
      rw [edf]
      generalize (ev p (a / 2) ^^ decide (a % 2 = 1)) = x at z1
      generalize (ev p (b / 2) ^^ decide (b % 2 = 1)) = y at z1
      cases x <;> cases y <;> simp_all
theorem cs_y_ck46 {post : Int32 → SY → Prop} {ev : Nat → Nat → Bool} (hPN : PN ≤ 64) (hT : T ≤ 39) (hOU : OU ≤ 4) (hO : ∀ j, j < 8 → ∀ a, O j = some a → a < 2 * T) (hD : ∀ j, j < OU → ¬ cs_inc O j) (hTB : ∀ q, q < PN → ∀ n, n < T → tb (n * 64 + q) = cs_bi (ev q n))
    (K1 : (∀ p, p < PN → cs_dif O (ev p) OU = false) → post 1 ((nI I), gl, (nI OU), (nI PN), (nI T), sd, (nI E), 1, (-1), (-1), (cs_n GS), (cs_n GK), (cs_n OP), (cs_o O), (cs_b S), tb, (cs_b lw))) (K : ∀ p j, p < PN → (∀ q, q < p → cs_dif O (ev q) OU = false) → cs_Lst OU (fun j => cs_df O (ev p) j) (some j) → post 2 ((nI I), gl, (nI OU), (nI PN), (nI T), sd, (nI E), 2, (nI p), (nI j), (cs_n GS), (cs_n GK), (cs_n OP), (cs_o O), (cs_b (cs_up S p true)), tb, (cs_b lw))) :
    ∀ d p, p + d = PN → ∀ f, d < f → (∀ q, q < p → cs_dif O (ev q) OU = false) → (wY_check_46 post (nI I) gl (nI OU) (nI PN) (nI T) sd (nI E) sv sw sp (cs_n GS) (cs_n GK) (cs_n OP) (cs_o O) (cs_b S) tb (cs_b lw) f (nI p)) := by
  intro d
  induction d with
  | zero =>
    intro p hp f hf h
    obtain ⟨w, rfl⟩ : ∃ w, f = w + 1 := ⟨f - 1, by omega⟩
    obtain rfl : p = PN := by omega
    exact br_t (nI_le (Nat.le_refl _) (by omega)) (K1 h)
  | succ d ih =>
    intro p hp f hf h
    obtain ⟨w, rfl⟩ : ∃ w, f = w + 1 := ⟨f - 1, by omega⟩
    refine br_f (nI_ge (by omega) (by omega)) ?_
    refine ⟨OU + 1, ?_⟩
    refine cs_y_ck56 (p := p) (by omega) hPN hT hOU hO hD hTB (fun z => ih (p + 1) (by omega) w (by omega) (fun q hq => ?_)) (fun j hj => K p j (by omega) h hj) OU 0 (by omega) _ (by omega) (fun i hi => by omega)
    by_cases e : q = p
    · subst e; exact z
    · exact h q (by omega)
end
end
section
section
variable {I T E N t PN : Nat} {gl ou sd sv sw sp : Int32} {pw : Int64} {GS GK OP RP L R BH BN FH FN NL NM TR LI LT : Nat → Nat} {O : Nat → Option Nat} {V : Nat → Option Bool} {C RC S lw : Nat → Bool} {sg iw : Nat → Int64} {tb : Nat → Int32}
variable {OU : Nat}
theorem cs_x_ck2 {post : Int32 → SX → Prop} (hOU : OU ≤ 4) (hO : ∀ j, j < 8 → ∀ a, O j = some a → a < 1000) (K3 : (∃ j, j < OU ∧ cs_inc O j) → post 3 ((nI I), gl, (nI OU), (nI T), sd, (nI E), pw, sv, sw, sp, (nI N), (nI t), (cs_n GS), (cs_n GK), (cs_n OP), (cs_o O), (cs_n RP), (cs_b RC), (cs_n L), (cs_n R), sg, iw, (cs_n BH), (cs_n BN), (cs_n FH), (cs_n FN), (cs_n NL), (cs_n NM), (cs_v V), (cs_b C), (cs_n TR), (cs_n LI), (cs_n LT))) (KE : (∀ j, j < OU → ¬ cs_inc O j) → ∀ f, (wX_check_2 post (nI I) gl (nI OU) (nI T) sd (nI E) pw sv sw sp (nI N) (nI t) (cs_n GS) (cs_n GK) (cs_n OP) (cs_o O) (cs_n RP) (cs_b RC) (cs_n L) (cs_n R) sg iw (cs_n BH) (cs_n BN) (cs_n FH) (cs_n FN) (cs_n NL) (cs_n NM) (cs_v V) (cs_b C) (cs_n TR) (cs_n LI) (cs_n LT) (f + 1) (nI OU))) :
    ∀ d j, j + d = OU → ∀ f, d < f → (∀ i, i < j → ¬ cs_inc O i) → (wX_check_2 post (nI I) gl (nI OU) (nI T) sd (nI E) pw sv sw sp (nI N) (nI t) (cs_n GS) (cs_n GK) (cs_n OP) (cs_o O) (cs_n RP) (cs_b RC) (cs_n L) (cs_n R) sg iw (cs_n BH) (cs_n BN) (cs_n FH) (cs_n FN) (cs_n NL) (cs_n NM) (cs_v V) (cs_b C) (cs_n TR) (cs_n LI) (cs_n LT) f (nI j)) := by
  intro d
  induction d with
  | zero =>
    intro j hj f hf h
    obtain ⟨w, rfl⟩ : ∃ w, f = w + 1 := ⟨f - 1, by omega⟩
    obtain rfl : j = OU := by omega
    exact KE h w
  | succ d ih =>
    intro j hj f hf h
    obtain ⟨w, rfl⟩ : ∃ w, f = w + 1 := ⟨f - 1, by omega⟩
    have e4 : 4 + nI j = nI (4 + j) := cs_4a j
    refine br_f (nI_ge (by omega) (by omega)) (And.intro (pk_in j 8 (by omega)) ?_)
    rw [cs_ro j rfl, cs_ro (4 + j) e4]
    obtain ⟨q1, _, _⟩ := cs_oi_neg (O j) (hO j (by omega))
    obtain ⟨_, q2, _⟩ := cs_oi_neg (O (4 + j)) (hO (4 + j) (by omega))
    refine br_c (fun z => K3 ⟨j, by omega, Or.inl (q1.1 z)⟩) (fun z => And.intro (pk_in (4 + j) 8 (by omega) e4) (br_c (fun y => ?_) (fun y => K3 ⟨j, by omega, Or.inr (Classical.byContradiction fun c => y (q2.2 c))⟩)))
    refine nm_r (nI_1 j) (ih (j + 1) (by omega) w (by omega) (fun i hi => ?_))
    by_cases e : i = j
    · subst e
      rintro (c | c)
      · exact z (q1.2 c)
      · exact q2.1 y c
    · exact h i (by omega)
theorem cs_y_ck2 {post : Int32 → SY → Prop} (hOU : OU ≤ 4) (hO : ∀ j, j < 8 → ∀ a, O j = some a → a < 1000) (K3 : (∃ j, j < OU ∧ cs_inc O j) → post 3 ((nI I), gl, (nI OU), (nI PN), (nI T), sd, (nI E), sv, sw, sp, (cs_n GS), (cs_n GK), (cs_n OP), (cs_o O), (cs_b S), tb, (cs_b lw))) (KE : (∀ j, j < OU → ¬ cs_inc O j) → ∀ f, (wY_check_2 post (nI I) gl (nI OU) (nI PN) (nI T) sd (nI E) sv sw sp (cs_n GS) (cs_n GK) (cs_n OP) (cs_o O) (cs_b S) tb (cs_b lw) (f + 1) (nI OU))) :
    ∀ d j, j + d = OU → ∀ f, d < f → (∀ i, i < j → ¬ cs_inc O i) → (wY_check_2 post (nI I) gl (nI OU) (nI PN) (nI T) sd (nI E) sv sw sp (cs_n GS) (cs_n GK) (cs_n OP) (cs_o O) (cs_b S) tb (cs_b lw) f (nI j)) := by
  intro d
  induction d with
  | zero =>
    intro j hj f hf h
    obtain ⟨w, rfl⟩ : ∃ w, f = w + 1 := ⟨f - 1, by omega⟩
    obtain rfl : j = OU := by omega
    exact KE h w
  | succ d ih =>
    intro j hj f hf h
    obtain ⟨w, rfl⟩ : ∃ w, f = w + 1 := ⟨f - 1, by omega⟩
    have e4 : 4 + nI j = nI (4 + j) := cs_4a j
    refine br_f (nI_ge (by omega) (by omega)) (And.intro (pk_in j 8 (by omega)) ?_)
    rw [cs_ro j rfl, cs_ro (4 + j) e4]
    obtain ⟨_, _, q1⟩ := cs_oi_neg (O j) (hO j (by omega))
    obtain ⟨_, _, q2⟩ := cs_oi_neg (O (4 + j)) (hO (4 + j) (by omega))
    refine br_c (fun z => K3 ⟨j, by omega, Or.inl (q1.1 z)⟩) (fun z => And.intro (pk_in (4 + j) 8 (by omega) e4) (br_c (fun y => K3 ⟨j, by omega, Or.inr (q2.1 y)⟩) (fun y => ?_)))
    refine nm_r (nI_1 j) (ih (j + 1) (by omega) w (by omega) (fun i hi => ?_))
    by_cases e : i = j
    · subst e
      rintro (c | c)
      · exact z (q1.2 c)
      · exact y (q2.2 c)
    · exact h i (by omega)
theorem cs_vc_check' {k : Nat} (h : cs_Inv I T E N gl (nI OU) sd sv sw sp pw GK OP RP O S L R sg iw BH BN FH FN NL NM) (o1 : 1 ≤ OU) (o2 : OU ≤ 4) : wpX_check (fun r u' => wpY_check (fun r' v' => r' = r ∧ i_Rel k u' v') ((nI I), gl, (nI OU), (nI (2 ^ I)), (nI T), sd, (nI E), sv, sw, sp, (cs_n GS), (cs_n GK), (cs_n OP), (cs_o O), (cs_b S), tb, (cs_b lw))) ((nI I), gl, (nI OU), (nI T), sd, (nI E), pw, sv, sw, sp, (nI N), (nI t), (cs_n GS), (cs_n GK), (cs_n OP), (cs_o O), (cs_n RP), (cs_b RC), (cs_n L), (cs_n R), sg, iw, (cs_n BH), (cs_n BN), (cs_n FH), (cs_n FN), (cs_n NL), (cs_n NM), (cs_v V), (cs_b C), (cs_n TR), (cs_n LI), (cs_n LT)) := by
  have hT := cs_T39 h
  have hN := cs_N256 h
  have hI1 := h.1.1
  have hI := h.1.2.1
  have hIT := h.1.2.2.1
  have hiw := h.2.2.2.2.2.2.1
  have hC := h.2.2.2.2.2.2.2.1
  have hO := h.2.2.2.2.2.2.2.2.1
  have hG := h.2.2.2.2.2.2.2.2.2.1
  have hNI := h.2.2.2.2.2.2.2.2.2.2.1
  have h64 := cs_p64 hI
  have hO' : ∀ j, j < 8 → ∀ a, O j = some a → a < 1000 := fun j hj a ha => by have := hO j hj a ha; omega
  refine Exists.intro (OU + 1) ?_
  refine cs_x_ck2 o2 hO' (fun hi => ?_) (fun hD f => ?_) OU 0 (by omega) _ (by omega) (fun i hi => by omega)
  · refine Exists.intro (OU + 1) ?_
    exact cs_y_ck2 o2 hO' (fun _ => ⟨rfl, cs_mk h⟩) (fun hD => by obtain ⟨j, j1, j2⟩ := hi; exact absurd j2 (hD j j1)) OU 0 (by omega) _ (by omega) (fun i hi => by omega)
  · have YC : ∀ (r : Int32) (u' : SX), (∀ tb, (∀ q, q < 2 ^ I → ∀ n, n < T → tb (n * 64 + q) = cs_bi (cs_ev I GK OP q n)) → (wY_check_46 ((fun r' v' => r' = r ∧ i_Rel k u' v')) (nI I) gl (nI OU) (nI (2 ^ I)) (nI T) sd (nI E) sv sw sp (cs_n GS) (cs_n GK) (cs_n OP) (cs_o O) (cs_b S) tb (cs_b lw) (2 ^ I + 1) (nI 0))) → wpY_check (fun r' v' => r' = r ∧ i_Rel k u' v') ((nI I), gl, (nI OU), (nI (2 ^ I)), (nI T), sd, (nI E), sv, sw, sp, (cs_n GS), (cs_n GK), (cs_n OP), (cs_o O), (cs_b S), tb, (cs_b lw)) := by
      intro r u' K
      refine Exists.intro (OU + 1) ?_
      refine cs_y_ck2 o2 hO' (fun hi => by obtain ⟨j, j1, j2⟩ := hi; exact absurd j2 (hD j j1)) (fun _ f => ?_) OU 0 (by omega) _ (by omega) (fun i hi => by omega)
      refine br_t (nI_le (Nat.le_refl _) (by omega)) ?_
      exact cs_y_tab h64 hI hIT hT hC (fun tb htb => ⟨_, K tb htb⟩)
    refine br_t (nI_le (Nat.le_refl _) (by omega)) ?_
    refine cs_x_ldif hI1 hI hT o2 hN hG hNI hO hD (fun o L' R' sg' BH' BN' FH' FN' t V C TR LI LT ho hG' hag => ?_)
    have h' := cs_Inv_gr h hag hG'
    cases o with
    | none =>
      have h3 : cs_Inv I T E N gl (nI OU) sd 1 (-1) (-1) pw GK OP RP O S L' R' sg' iw BH' BN' FH' FN' NL NM := by
        obtain ⟨a1, a2, a3, a4, _, a6⟩ := h'
        exact ⟨a1, a2, a3, a4, Or.inr ⟨rfl, rfl⟩, a6⟩
      refine br_f (by decide) ?_
      refine YC _ _ (fun tb htb => cs_y_ck46 h64 hT o2 hO hD htb (fun _ => ⟨rfl, cs_mk h3⟩) (fun p j p1 _ p3 => ?_) (2 ^ I) 0 (by omega) _ (by omega) (fun q hq => by omega))
      · have z : cs_dif O (cs_ev I GK OP p) OU = false := ho p p1
        have z1 := cs_dif_f.1 z j p3.1
        have z2 : cs_df O (cs_ev I GK OP p) j = true := p3.2.1
        rw [z1] at z2; cases z2
    | some p =>
      have p1 : p < 2 ^ I := ho.1
      have p2 : cs_dif O (cs_ev I GK OP p) OU = true := ho.2.1
      refine br_t (nI_pos' (by omega)) ?_
      refine cs_x_lplace (sv := 2) (sw := cs_oi (some p)) p rfl (by omega) hI hT o2 (by omega) hG' h'.2.2.2.2.2.2.2.2.2.2.1 hO hD (fun V2 oj hoj => ?_)
      refine cs_x_incl (sv := 2) (sw := cs_oi (some p)) (sp := cs_oi oj) p rfl (by omega) hI (by omega) hG' hiw (fun pw' sg2 q1 q2 => ?_)
      refine YC _ _ (fun tb htb => cs_y_ck46 h64 hT o2 hO hD htb (fun z => ?_) (fun p' j p1' p2' p3' => ?_) (2 ^ I) 0 (by omega) _ (by omega) (fun q hq => by omega))
      · rw [z p p1] at p2; cases p2
      · have epp : p' = p := by
          rcases Nat.lt_trichotomy p' p with c | c | c
          · have z : cs_dif O (cs_ev I GK OP p') OU = false := ho.2.2 p' c
            have z1 := cs_dif_f.1 z j p3'.1
            have z2 : cs_df O (cs_ev I GK OP p') j = true := p3'.2.1
            rw [z1] at z2; cases z2
          · exact c
          · rw [p2' p c] at p2; cases p2
        subst epp
        have ej : some j = oj := cs_lst_uniq p3' hoj
        subst ej
        have h2 : cs_Inv I T E N gl (nI OU) sd 2 (cs_oi (some p')) (cs_oi (some j)) pw GK OP RP O S L' R' sg' iw BH' BN' FH' FN' NL NM := by
          obtain ⟨a1, a2, a3, a4, _, a6⟩ := h'
          exact ⟨a1, a2, a3, a4, Or.inl rfl, a6⟩
        exact ⟨rfl, cs_mk (cs_Inv_S h2 p1 q1 cs_addS_b q2)⟩
theorem cs_vc_check {k : Nat} (h : cs_Inv I T E N gl ou sd sv sw sp pw GK OP RP O S L R sg iw BH BN FH FN NL NM) : wpX_check (fun r u' => wpY_check (fun r' v' => r' = r ∧ i_Rel k u' v') ((nI I), gl, ou, (nI (2 ^ I)), (nI T), sd, (nI E), sv, sw, sp, (cs_n GS), (cs_n GK), (cs_n OP), (cs_o O), (cs_b S), tb, (cs_b lw))) ((nI I), gl, ou, (nI T), sd, (nI E), pw, sv, sw, sp, (nI N), (nI t), (cs_n GS), (cs_n GK), (cs_n OP), (cs_o O), (cs_n RP), (cs_b RC), (cs_n L), (cs_n R), sg, iw, (cs_n BH), (cs_n BN), (cs_n FH), (cs_n FN), (cs_n NL), (cs_n NM), (cs_v V), (cs_b C), (cs_n TR), (cs_n LI), (cs_n LT)) := by
  obtain ⟨OU, e, o1, o2⟩ := h.2.2.1
  subst e
  exact cs_vc_check' h o1 o2
end
end
section
/-! what settling a net gives, in plain terms -/
theorem cs_lea_ex {PN : Nat} {ev : Nat → Nat → Bool} (v : Nat) : ∃ u, cs_Lea PN ev v u := by
  obtain ⟨u, h1, h2⟩ := pk_least (fun u => cs_Same PN ev u v) ⟨v, cs_same_refl v⟩
  refine ⟨u, ?_, h1, fun w hw => h2 w hw⟩
  apply Classical.byContradiction
  intro c
  exact h2 v (by omega) (cs_same_refl v)
section
variable {PN v r p : Nat} {S S' : Nat → Bool} {ev : Nat → Nat → Bool} {RP : Nat → Nat}
theorem cs_st_none (hF : cs_Fst v (fun r => cs_Mat PN S ev r v ∧ cs_Rep PN ev r) none) : cs_Rep PN ev v := by
  obtain ⟨w, hw⟩ := cs_lea_ex (PN := PN) (ev := ev) v
  by_cases e : w = v
  · subst e; exact cs_rep_lea.2 hw
  · have := hw.1
    exact absurd ⟨cs_same_mat hw.2.1, cs_lea_rep hw⟩ (hF w (by omega))
theorem cs_RI_new (h : cs_RI PN S ev v RP) (hr : cs_Rep PN ev v) (hS : ∀ q, S q = true → S' q = true) (hm : ∀ u, u < v → cs_Rep PN ev u → ¬ cs_Mat PN S' ev u v) : cs_RI PN S' ev (v + 1) (cs_up RP v (2 * v)) := by
  refine ⟨fun u hu => ?_, fun u w a b c d e => ?_⟩
  · by_cases q : u = v
    · subst q
      exact ⟨u, cs_rep_lea.1 hr, by rw [cs_us, Bool.xor_self]; rfl⟩
    · rw [cs_uo q]; exact h.1 u (by omega)
  · by_cases q1 : u = v
    · by_cases q2 : w = v
      · omega
      · subst q1
        exact absurd (cs_mat_symm e) (hm w (by omega) d)
    · by_cases q2 : w = v
      · subst q2
        exact absurd e (hm u (by omega) c)
      · exact h.2 u w (by omega) (by omega) c d (cs_mat_mono hS e)
theorem cs_st_same (hn : cs_Lst PN (fun p => (ev p v ^^ ev p r) ^^ (ev 0 v ^^ ev 0 r)) none) : ∀ p, p < PN → ev p v = (ev p r ^^ (ev 0 v ^^ ev 0 r)) := fun p hp => by
  have z : ((ev p v ^^ ev p r) ^^ (ev 0 v ^^ ev 0 r)) = false := hn p hp
  generalize (ev 0 v ^^ ev 0 r) = b at z ⊢
  cases x : ev p v <;> cases y : ev p r <;> cases b <;> simp_all
theorem cs_st_lea (hr : cs_Rep PN ev r) (hrv : r < v) (hn : cs_Lst PN (fun p => (ev p v ^^ ev p r) ^^ (ev 0 v ^^ ev 0 r)) none) : cs_Lea PN ev v r := by
  have hs : cs_Same PN ev r v := by
    have z := cs_st_same hn
    cases b : (ev 0 v ^^ ev 0 r) with
    | false => exact Or.inl fun p hp => by rw [z p hp, b, Bool.xor_false]
    | true => exact Or.inr fun p hp => by rw [z p hp, b]; cases ev p r <;> decide
  exact ⟨by omega, hs, fun w hw e => hr w hw (cs_same_trans e (cs_same_symm hs))⟩
theorem cs_RI_merge (h : cs_RI PN S ev v RP) (hl : cs_Lea PN ev v r) (hrv : r < v) : cs_RI PN S ev (v + 1) (cs_up RP v (2 * r + (ev 0 v ^^ ev 0 r).toNat)) := by
  have nr : ¬ cs_Rep PN ev v := fun c => c r hrv hl.2.1
  refine ⟨fun u hu => ?_, fun u w a b c d e => ?_⟩
  · by_cases q : u = v
    · subst q
      exact ⟨r, hl, cs_us⟩
    · rw [cs_uo q]; exact h.1 u (by omega)
  · have q1 : u ≠ v := fun q => nr (q ▸ c)
    have q2 : w ≠ v := fun q => nr (q ▸ d)
    exact h.2 u w (by omega) (by omega) c d e
/-- a pattern tells v from r, which is then the only one that could be alike -/
theorem cs_st_ref (hP : 0 < PN) (h : cs_RI PN S ev v RP) (h0 : S 0 = true) (hF : cs_Fst v (fun r => cs_Mat PN S ev r v ∧ cs_Rep PN ev r) (some r)) (hp : cs_Lst PN (fun p => (ev p v ^^ ev p r) ^^ (ev 0 v ^^ ev 0 r)) (some p)) (hS : ∀ q, S' q = (S q || decide (q = p))) : cs_Rep PN ev v ∧ ∀ u, u < v → cs_Rep PN ev u → ¬ cs_Mat PN S' ev u v := by
  have h1 : p < PN := hp.1
  have h2 : ((ev p v ^^ ev p r) ^^ (ev 0 v ^^ ev 0 r)) = true := hp.2.1
  obtain ⟨f1, ⟨f2, f3⟩, _⟩ := hF
  have hSS : ∀ q, S q = true → S' q = true := fun q e => by rw [hS, e]; rfl
  have hSp : S' p = true := by rw [hS, decide_eq_true rfl, Bool.or_true]
  have nm : ¬ cs_Mat PN S' ev r v := by
    rintro (z | z)
    · rw [z p h1 hSp, z 0 hP (hSS 0 h0)] at h2
      simp at h2
    · have a := z p h1 hSp
      have b := z 0 hP (hSS 0 h0)
      cases x : ev p v <;> cases y : ev p r <;> cases x0 : ev 0 v <;> cases y0 : ev 0 r <;> simp_all
  have only : ∀ u, u < v → cs_Rep PN ev u → ¬ cs_Mat PN S' ev u v := fun u hu c e => by
    have e2 := cs_mat_mono hSS e
    have q := h.2 u r hu f1 c f3 (cs_mat_trans e2 (cs_mat_symm f2))
    subst q
    exact nm e
  refine ⟨?_, only⟩
  obtain ⟨w, hw⟩ := cs_lea_ex (PN := PN) (ev := ev) v
  by_cases e : w = v
  · subst e; exact cs_rep_lea.2 hw
  · have := hw.1
    exact absurd (cs_same_mat hw.2.1) (only w (by omega) (cs_lea_rep hw))
end
section
variable {I T E N t PN : Nat} {gl ou sd sv sw sp : Int32} {pw : Int64} {GS GK OP RP L R BH BN FH FN NL NM TR LI LT : Nat → Nat} {O : Nat → Option Nat} {V : Nat → Option Bool} {C RC S lw : Nat → Bool} {sg iw : Nat → Int64} {tb : Nat → Int32}
theorem cs_ev_mod {p : Nat} (n : Nat) : cs_ev I GK OP p n = cs_ev I GK OP (p % 2 ^ I) n := by
  unfold cs_ev
  apply cs_val_congr
  intro k _
  funext q
  unfold cs_ef
  by_cases h0 : k = 0
  · rw [if_pos h0, if_pos h0]
  · by_cases hI : k ≤ I
    · rw [if_neg h0, if_neg h0, if_pos hI, if_pos hI, Nat.testBit_mod_two_pow, decide_eq_true (by omega), Bool.true_and]
    · rw [if_neg h0, if_neg h0, if_neg hI, if_neg hI]
theorem cs_NI_merge {v lit : Nat} (h : cs_NI I GK OP v (NM v) L R NL NM) (hI : I < v) (hv : v < 39) (hm : I < NM v) (hl : lit < 2 * NM v) (hs : ∀ p, cs_lv (cs_gv I L R p) lit = cs_ev I GK OP p v) (hmn : ∀ w, I < w → w < v → NM w ≤ NM v) : cs_NI I GK OP (v + 1) (NM v) L R (cs_up NL v lit) NM := by
  obtain ⟨h1, h2, h3, h4, h5, h6⟩ := h
  refine ⟨fun n hn => ?_, by omega, by omega, fun n hn => ?_, fun w a b => ?_, fun a b c d e => ?_⟩
  · rw [cs_uo (by omega)]; exact h1 n hn
  · by_cases e : n = v
    · subst e; rw [cs_us]; exact ⟨hl, hs⟩
    · rw [cs_uo e]; exact h4 n (by omega)
  · by_cases e : w = v
    · subst e
      exact ⟨hm, Nat.le_refl _, h2, fun n hn => by rw [cs_uo (by omega)]; exact (h4 n hn).1⟩
    · have q := h5 w a (by omega)
      exact ⟨q.1, q.2.1, q.2.2.1, fun n hn => by rw [cs_uo (by omega)]; exact q.2.2.2 n hn⟩
  · by_cases q : b = v
    · subst q
      by_cases q2 : a = b
      · subst q2; exact Nat.le_refl _
      · exact hmn a c (by omega)
    · exact h6 a b c d (by omega)
theorem cs_x_merge {post : SX → Prop} {x y : Int32} (v lit : Nat) (hx : x = nI v) (hy : y = nI lit) (hI6 : I ≤ 6) (hI : I < v) (hv : v < T) (hT : T ≤ 39) (hN : N ≤ 256) (hG : cs_G I pw N L R sg BH BN FH FN) (hC : cs_CW I T GK OP) (hNI : cs_NI I GK OP T N L R NL NM) (hl : lit < 2 * NM v) (hs : ∀ p, cs_lv (cs_gv I L R p) lit = cs_ev I GK OP p v)
    (K : ∀ (g : cs_GT) (NL' NM' : Nat → Nat), cs_G I pw g.1 g.2.1 g.2.2.1 g.2.2.2.1 g.2.2.2.2.1 g.2.2.2.2.2.1 g.2.2.2.2.2.2.1 g.2.2.2.2.2.2.2 → cs_NI I GK OP T g.1 g.2.1 g.2.2.1 NL' NM' → post ((nI I), gl, ou, (nI T), sd, (nI E), pw, sv, sw, sp, (nI g.1), (nI t), (cs_n GS), (cs_n GK), (cs_n OP), (cs_o O), (cs_n RP), (cs_b RC), (cs_n g.2.1), (cs_n g.2.2.1), g.2.2.2.1, iw, (cs_n g.2.2.2.2.1), (cs_n g.2.2.2.2.2.1), (cs_n g.2.2.2.2.2.2.1), (cs_n g.2.2.2.2.2.2.2), (cs_n NL'), (cs_n NM'), (cs_v V), (cs_b C), (cs_n TR), (cs_n LI), (cs_n LT))) : wpX_mergeInGraph post ((nI I), gl, ou, (nI T), sd, (nI E), pw, sv, sw, sp, (nI N), (nI t), (cs_n GS), (cs_n GK), (cs_n OP), (cs_o O), (cs_n RP), (cs_b RC), (cs_n L), (cs_n R), sg, iw, (cs_n BH), (cs_n BN), (cs_n FH), (cs_n FN), (cs_n NL), (cs_n NM), (cs_v V), (cs_b C), (cs_n TR), (cs_n LI), (cs_n LT)) x y := by
  subst hx hy
  have q := hNI.2.2.2.2.1 v hI hv
  have hNv := cs_NI_cut hNI hI hv
  refine And.intro (pk_in v 40 (by omega)) ?_
  refine cs_x_tr (NM v) (cs_rd v rfl) q.1 q.2.1 hN hG (fun BH' FH' hG' => ?_)
  refine And.intro (pk_in v 40 (by omega)) (nm_r (cs_wr v lit rfl rfl) ?_)
  exact cs_x_bf (v + 1) (nI_1 v) hC hT (by omega) (by omega) hG' (cs_NI_merge hNv hI (by omega) q.1 hl hs (fun w a b => hNI.2.2.2.2.2 w v a (by omega) hv)) K
theorem cs_x_snet {post : Int32 → SX → Prop} {x : Int32} (v : Nat) (hx : x = nI v) (h : cs_Inv I T v N gl ou sd sv sw sp pw GK OP RP O S L R sg iw BH BN FH FN NL NM) (hv : v < T) (hT : T ≤ 39) (hN : N ≤ 199)
    (K1 : ∀ r RP N L R sg BH BN FH FN NL NM t V C TR LI LT, r < v → cs_Lea (2 ^ I) (cs_ev I GK OP) v r → cs_Inv I T (v + 1) N gl ou sd sv sw sp pw GK OP RP O S L R sg iw BH BN FH FN NL NM → post 1 ((nI I), gl, ou, (nI T), sd, (nI v), pw, sv, sw, sp, (nI N), (nI t), (cs_n GS), (cs_n GK), (cs_n OP), (cs_o O), (cs_n RP), (cs_b RC), (cs_n L), (cs_n R), sg, iw, (cs_n BH), (cs_n BN), (cs_n FH), (cs_n FN), (cs_n NL), (cs_n NM), (cs_v V), (cs_b C), (cs_n TR), (cs_n LI), (cs_n LT)))
    (K2 : ∀ RP, cs_Rep (2 ^ I) (cs_ev I GK OP) v → cs_Fst v (fun r => cs_Mat (2 ^ I) S (cs_ev I GK OP) r v ∧ cs_Rep (2 ^ I) (cs_ev I GK OP) r) none → cs_Inv I T (v + 1) N gl ou sd sv sw sp pw GK OP RP O S L R sg iw BH BN FH FN NL NM → post 0 ((nI I), gl, ou, (nI T), sd, (nI v), pw, sv, sw, sp, (nI N), (nI t), (cs_n GS), (cs_n GK), (cs_n OP), (cs_o O), (cs_n RP), (cs_b RC), (cs_n L), (cs_n R), sg, iw, (cs_n BH), (cs_n BN), (cs_n FH), (cs_n FN), (cs_n NL), (cs_n NM), (cs_v V), (cs_b C), (cs_n TR), (cs_n LI), (cs_n LT)))
    (K3 : ∀ r p RP pw' L R sg BH BN FH FN t V C TR LI LT, cs_Rep (2 ^ I) (cs_ev I GK OP) v → cs_Fst v (fun r => cs_Mat (2 ^ I) S (cs_ev I GK OP) r v ∧ cs_Rep (2 ^ I) (cs_ev I GK OP) r) (some r) → cs_Lst (2 ^ I) (fun p => (cs_ev I GK OP p v ^^ cs_ev I GK OP p r) ^^ (cs_ev I GK OP 0 v ^^ cs_ev I GK OP 0 r)) (some p) → cs_Inv I T (v + 1) N gl ou sd sv sw sp pw' GK OP RP O (cs_up S p true) L R sg iw BH BN FH FN NL NM → post 0 ((nI I), gl, ou, (nI T), sd, (nI v), pw', sv, sw, sp, (nI N), (nI t), (cs_n GS), (cs_n GK), (cs_n OP), (cs_o O), (cs_n RP), (cs_b RC), (cs_n L), (cs_n R), sg, iw, (cs_n BH), (cs_n BN), (cs_n FH), (cs_n FN), (cs_n NL), (cs_n NM), (cs_v V), (cs_b C), (cs_n TR), (cs_n LI), (cs_n LT))) :
    wpX_settleNet post ((nI I), gl, ou, (nI T), sd, (nI v), pw, sv, sw, sp, (nI N), (nI t), (cs_n GS), (cs_n GK), (cs_n OP), (cs_o O), (cs_n RP), (cs_b RC), (cs_n L), (cs_n R), sg, iw, (cs_n BH), (cs_n BN), (cs_n FH), (cs_n FN), (cs_n NL), (cs_n NM), (cs_v V), (cs_b C), (cs_n TR), (cs_n LI), (cs_n LT)) x := by
  subst hx
  have hI1 := h.1.1
  have hI := h.1.2.1
  have h64 := cs_p64 hI
  have hP0 := cs_pp I
  have hh := h
  obtain ⟨h1, hgl, hou, hsd, hvv, hp, hiw, hC, hO, hG, hNI, hRI⟩ := h
  have hIN := hG.1.1
  obtain ⟨g1, g2⟩ := hNI.2.2.2.1 v hv
  have hS0 : S 0 = true := by rw [hp.2.2]; exact hp.2.1
  refine And.intro (pk_in v 40 (by omega)) (nm_r (cs_rd v rfl) ?_)
  refine cs_x_mrep (S := S) (PN := 2 ^ I) (v := v) (c := false) (NL v) rfl (by omega) (by omega) hT hG hNI h64 hp.2.2 hp.1 hRI g1 (fun p => by rw [Bool.xor_false]; exact g2 p) (fun o ho => ?_)
  refine And.intro (pk_in v 40 (by omega)) (nm_r (cs_wr v (2 * v) rfl (cs_2m v)) ?_)
  cases o with
  | none =>
    refine br_f (by decide) (K2 _ (cs_st_none ho) ho ⟨by omega, hgl, hou, hsd, hvv, hp, hiw, hC, hO, hG, hNI, ?_⟩)
    exact cs_RI_new hRI (cs_st_none ho) (fun _ e => e) (fun u hu c e => ho u hu ⟨e, c⟩)
  | some r =>
    have f1 : r < v := ho.1
    have f3 : cs_Rep (2 ^ I) (cs_ev I GK OP) r := ho.2.1.2
    obtain ⟨n1, n2⟩ := hNI.2.2.2.1 r (by omega)
    refine br_t (nI_pos' (by omega)) (And.intro (pk_in r 40 (by omega)) (nm_r (cs_rd r rfl) ?_))
    refine cs_x_phase (NL v) (NL r) rfl rfl (by omega) hG.2.2.2 hp.2.1 g1 n1 ?_
    rw [g2 0, n2 0]
    have hd : (cs_ev I GK OP 0 v ^^ cs_ev I GK OP 0 r).toNat < 2 := Bool.toNat_lt _
    have hd1 : decide ((cs_ev I GK OP 0 v ^^ cs_ev I GK OP 0 r).toNat = 1) = (cs_ev I GK OP 0 v ^^ cs_ev I GK OP 0 r) := by cases (cs_ev I GK OP 0 v ^^ cs_ev I GK OP 0 r) <;> rfl
    refine cs_x_xor (NL v) (NL r) rfl rfl hG (by omega) g1 n1 (fun m g3 y1 y2 y3 y4 => ?_)
    have x1 := y2.1
    have x2 := y2.2.1
    refine cs_x_search (cs_xp m (cs_ev I GK OP 0 v ^^ cs_ev I GK OP 0 r).toNat) (cs_xph _ _ hd) (cs_xplt y3) hI1 hI (by omega) y1.1 y1.2.2.1 (fun o2 t V C TR LI LT ho2 => ?_)
    refine cs_x_tr N rfl hIN x1 (by omega) y1 (fun BH' FH' hG' => ?_)
    have ho3 : cs_Lst (2 ^ I) (fun p => (cs_ev I GK OP p v ^^ cs_ev I GK OP p r) ^^ (cs_ev I GK OP 0 v ^^ cs_ev I GK OP 0 r)) o2 := cs_lst_congr (fun p _ => by rw [cs_lv_xp _ _ _ hd, y4 p, g2 p, n2 p, hd1]) ho2
    have hNI' := cs_NI_ex hNI y2.2.2
    cases o2 with
    | none =>
      have hl := cs_st_lea f3 f1 ho3
      have e1 : 2 * cs_oi (some r) + nI (cs_ev I GK OP 0 v ^^ cs_ev I GK OP 0 r).toNat = nI (2 * r + (cs_ev I GK OP 0 v ^^ cs_ev I GK OP 0 r).toNat) := by
        show 2 * nI r + _ = _
        rw [cs_2m, nI_add]
      refine br_t (by decide) (And.intro (pk_in v 40 (by omega)) (nm_r (cs_wr v _ rfl e1) ?_))
      have hRI1 : cs_RI (2 ^ I) S (cs_ev I GK OP) (v + 1) (cs_up (cs_up RP v (2 * v)) v (2 * r + (cs_ev I GK OP 0 v ^^ cs_ev I GK OP 0 r).toNat)) := by
        have q := cs_RI_merge hRI hl f1
        refine ⟨fun u hu => ?_, q.2⟩
        obtain ⟨w, w1, w2⟩ := q.1 u hu
        refine ⟨w, w1, ?_⟩
        rw [← w2]
        by_cases c : u = v
        · subst c; rw [cs_us, cs_us]
        · rw [cs_uo c, cs_uo c, cs_uo c]
      refine pk_le v I (fun z => ?_) (fun z => ?_) rfl rfl (by omega) (by omega)
      · exact K1 r _ _ _ _ _ _ _ _ _ _ _ _ _ _ _ _ _ f1 hl ⟨by omega, hgl, hou, hsd, hvv, hp, hiw, hC, hO, hG', hNI', hRI1⟩
      · have q := hNI.2.2.2.2.1 v z hv
        refine cs_x_merge v (cs_xp (NL r) (cs_ev I GK OP 0 v ^^ cs_ev I GK OP 0 r).toNat) rfl (cs_xph _ _ hd) hI z hv hT (by omega) hG' hC hNI' (cs_xplt (q.2.2.2 r f1)) (fun p => ?_) (fun g NL' NM' b1 b2 => ?_)
        · rw [cs_lv_xp _ _ _ hd, cs_ex_lv y2 n1, n2 p, hd1, cs_ev_mod (p := p) r, cs_ev_mod (p := p) v]
          exact (cs_st_same ho3 (p % 2 ^ I) (Nat.mod_lt _ hP0)).symm
        · exact K1 r _ _ _ _ _ _ _ _ _ _ _ _ _ _ _ _ _ f1 hl ⟨by omega, hgl, hou, hsd, hvv, hp, hiw, hC, hO, b1, b2, hRI1⟩
    | some p =>
      have p1 : p < 2 ^ I := ho3.1
      refine br_f (nI_pos (by omega)) ?_
      refine cs_x_incl p rfl (by omega) hI (by omega) hG' hiw (fun pw' sg' q1 q2 => ?_)
      have rf := cs_st_ref (S' := cs_up S p true) hP0 hRI hS0 ho ho3 cs_addS_b
      refine K3 r p _ _ _ _ _ _ _ _ _ _ _ _ _ _ _ rf.1 ho ho3 ?_
      obtain ⟨a1, a2, a3, a4, a5, a6, a7, a8, a9, a10, a11, _⟩ := cs_Inv_S (cs_Inv_gr hh y2.2.2 hG') p1 q1 cs_addS_b q2
      exact ⟨by omega, a2, a3, a4, a5, a6, a7, a8, a9, a10, a11, cs_RI_new hRI rf.1 (fun q e => by rw [cs_addS_b, e]; rfl) rf.2⟩
end
end
section
section
variable {I T E N t PN : Nat} {gl ou sd sv sw sp : Int32} {pw : Int64} {GS GK OP RP L R BH BN FH FN NL NM TR LI LT : Nat → Nat} {O : Nat → Option Nat} {V : Nat → Option Bool} {C RC S lw : Nat → Bool} {sg iw : Nat → Int64} {tb : Nat → Int32}
variable {c v0 : Nat}
/-! one step of the reference -/
theorem cs_y_sm {postY : Int32 → SY → Prop} {d m v r : Nat} (h64 : 2 ^ I ≤ 64) (hT : T ≤ 39) (hv : v < T) (hc : v - v0 < c) (hv0 : v0 ≤ v) (hc31 : c < 2 ^ 31) (hTB : ∀ q, q < 2 ^ I → ∀ n, n < T → tb (n * 64 + q) = cs_bi (cs_ev I GK OP q n)) (hr : r < v) (hl : cs_Lea (2 ^ I) (cs_ev I GK OP) v r) (K : (wY_settle_31 postY (nI c) (nI v0) d (nI (m + 1)) (nI (v + 1)) (nI I) gl ou (nI (2 ^ I)) (nI T) sd (nI (v + 1)) sv sw sp (cs_n GS) (cs_n GK) (cs_n OP) (cs_o O) (cs_b S) tb (cs_b lw))) : (wY_settle_31 postY (nI c) (nI v0) (d + 1) (nI m) (nI v) (nI I) gl ou (nI (2 ^ I)) (nI T) sd (nI v) sv sw sp (cs_n GS) (cs_n GK) (cs_n OP) (cs_o O) (cs_b S) tb (cs_b lw)) := by
  refine br_f (nI_ge (by omega) (by omega)) (br_f ?_ ?_)
  · rw [pk_sub hv0]; exact nI_ge hc hc31
  · refine cs_y_least v rfl h64 hT hv hTB (fun u hu => ?_)
    have e := cs_lea_uniq hu hl
    subst e
    exact br_f (nI_ge hr (by omega)) (nm_r (nI_1 m) (nm_r (nI_1 v) (nm_r (nI_1 v) K)))
theorem cs_y_sn {postY : Int32 → SY → Prop} {d m v : Nat} (h64 : 2 ^ I ≤ 64) (hT : T ≤ 39) (hv : v < T) (hc : v - v0 < c) (hv0 : v0 ≤ v) (hc31 : c < 2 ^ 31) (hTB : ∀ q, q < 2 ^ I → ∀ n, n < T → tb (n * 64 + q) = cs_bi (cs_ev I GK OP q n)) (hr : cs_Rep (2 ^ I) (cs_ev I GK OP) v) (hf : cs_Fst v (fun r => cs_Mat (2 ^ I) S (cs_ev I GK OP) r v ∧ cs_Rep (2 ^ I) (cs_ev I GK OP) r) none) (K : (wY_settle_31 postY (nI c) (nI v0) d (nI m) (nI (v + 1)) (nI I) gl ou (nI (2 ^ I)) (nI T) sd (nI (v + 1)) sv sw sp (cs_n GS) (cs_n GK) (cs_n OP) (cs_o O) (cs_b S) tb (cs_b lw))) : (wY_settle_31 postY (nI c) (nI v0) (d + 1) (nI m) (nI v) (nI I) gl ou (nI (2 ^ I)) (nI T) sd (nI v) sv sw sp (cs_n GS) (cs_n GK) (cs_n OP) (cs_o O) (cs_b S) tb (cs_b lw)) := by
  refine br_f (nI_ge (by omega) (by omega)) (br_f ?_ ?_)
  · rw [pk_sub hv0]; exact nI_ge hc hc31
  · refine cs_y_least v rfl h64 hT hv hTB (fun u hu => ?_)
    have e := cs_lea_uniq hu (cs_rep_lea.1 hr)
    subst e
    refine br_t (nI_le (Nat.le_refl _) (by omega)) (cs_y_matched u rfl h64 hT (by omega) hv hTB (fun o ho => ?_))
    have e := cs_fst_uniq ho hf
    subst e
    exact br_t (by decide) (nm_r (nI_1 u) (nm_r (nI_1 u) K))
theorem cs_y_sr {postY : Int32 → SY → Prop} {d m v r p : Nat} (h64 : 2 ^ I ≤ 64) (hT : T ≤ 39) (hv : v < T) (hc : v - v0 < c) (hv0 : v0 ≤ v) (hc31 : c < 2 ^ 31) (hTB : ∀ q, q < 2 ^ I → ∀ n, n < T → tb (n * 64 + q) = cs_bi (cs_ev I GK OP q n)) (hr : cs_Rep (2 ^ I) (cs_ev I GK OP) v) (hf : cs_Fst v (fun r => cs_Mat (2 ^ I) S (cs_ev I GK OP) r v ∧ cs_Rep (2 ^ I) (cs_ev I GK OP) r) (some r)) (hp : cs_Lst (2 ^ I) (fun p => (cs_ev I GK OP p v ^^ cs_ev I GK OP p r) ^^ (cs_ev I GK OP 0 v ^^ cs_ev I GK OP 0 r)) (some p)) (K : (wY_settle_31 postY (nI c) (nI v0) d (nI m) (nI (v + 1)) (nI I) gl ou (nI (2 ^ I)) (nI T) sd (nI (v + 1)) sv sw sp (cs_n GS) (cs_n GK) (cs_n OP) (cs_o O) (cs_b (cs_up S p true)) tb (cs_b lw))) : (wY_settle_31 postY (nI c) (nI v0) (d + 1) (nI m) (nI v) (nI I) gl ou (nI (2 ^ I)) (nI T) sd (nI v) sv sw sp (cs_n GS) (cs_n GK) (cs_n OP) (cs_o O) (cs_b S) tb (cs_b lw)) := by
  refine br_f (nI_ge (by omega) (by omega)) (br_f ?_ ?_)
  · rw [pk_sub hv0]; exact nI_ge hc hc31
  · refine cs_y_least v rfl h64 hT hv hTB (fun u hu => ?_)
    have e := cs_lea_uniq hu (cs_rep_lea.1 hr)
    subst e
    refine br_t (nI_le (Nat.le_refl _) (by omega)) (cs_y_matched u rfl h64 hT (by omega) hv hTB (fun o ho => ?_))
    have e := cs_fst_uniq ho hf
    subst e
    have r1 : r < u := hf.1
    refine br_f (nI_pos (by omega)) (cs_y_refute u r rfl rfl h64 (cs_pp I) hT hv (by omega) hTB (fun o2 ho2 => ?_))
    have e := cs_lst_uniq ho2 hp
    subst e
    exact nm_r (nI_1 u) (nm_r (nI_1 u) K)
/-! the loop: the reference is carried along -/
theorem cs_x_st39 {post : Int32 → SX → Prop} {S0 : Nat → Bool} {en : Nat} (h64 : 2 ^ I ≤ 64) (hT : T ≤ 39) (hen : en ≤ T) (hec : en - v0 ≤ c) (hc31 : c < 2 ^ 31)
    (K : ∀ m S pw RP N L R sg BH BN FH FN NL NM t V C TR LI LT, cs_Inv I T en N gl ou sd sv sw sp pw GK OP RP O S L R sg iw BH BN FH FN NL NM → (∀ (tb : Nat → Int32) (postY : Int32 → SY → Prop), (∀ q, q < 2 ^ I → ∀ n, n < T → tb (n * 64 + q) = cs_bi (cs_ev I GK OP q n)) → (wY_settle_31 postY (nI c) (nI v0) 1 (nI m) (nI en) (nI I) gl ou (nI (2 ^ I)) (nI T) sd (nI en) sv sw sp (cs_n GS) (cs_n GK) (cs_n OP) (cs_o O) (cs_b S) tb (cs_b lw)) → (wY_settle_31 postY (nI c) (nI v0) (en - v0 + 1) (nI 0) (nI v0) (nI I) gl ou (nI (2 ^ I)) (nI T) sd (nI v0) sv sw sp (cs_n GS) (cs_n GK) (cs_n OP) (cs_o O) (cs_b S0) tb (cs_b lw))) → post (nI m) ((nI I), gl, ou, (nI T), sd, (nI en), pw, sv, sw, sp, (nI N), (nI t), (cs_n GS), (cs_n GK), (cs_n OP), (cs_o O), (cs_n RP), (cs_b RC), (cs_n L), (cs_n R), sg, iw, (cs_n BH), (cs_n BN), (cs_n FH), (cs_n FN), (cs_n NL), (cs_n NM), (cs_v V), (cs_b C), (cs_n TR), (cs_n LI), (cs_n LT))) :
    ∀ d v, v + d = en → v0 ≤ v → ∀ f, d < f → ∀ m S pw RP N L R sg BH BN FH FN NL NM t V C TR LI LT, cs_Inv I T v N gl ou sd sv sw sp pw GK OP RP O S L R sg iw BH BN FH FN NL NM → (∀ (tb : Nat → Int32) (postY : Int32 → SY → Prop), (∀ q, q < 2 ^ I → ∀ n, n < T → tb (n * 64 + q) = cs_bi (cs_ev I GK OP q n)) → (wY_settle_31 postY (nI c) (nI v0) (d + 1) (nI m) (nI v) (nI I) gl ou (nI (2 ^ I)) (nI T) sd (nI v) sv sw sp (cs_n GS) (cs_n GK) (cs_n OP) (cs_o O) (cs_b S) tb (cs_b lw)) → (wY_settle_31 postY (nI c) (nI v0) (en - v0 + 1) (nI 0) (nI v0) (nI I) gl ou (nI (2 ^ I)) (nI T) sd (nI v0) sv sw sp (cs_n GS) (cs_n GK) (cs_n OP) (cs_o O) (cs_b S0) tb (cs_b lw))) → (wX_settle_39 post (nI en) f (nI m) (nI v) (nI I) gl ou (nI T) sd (nI v) pw sv sw sp (nI N) (nI t) (cs_n GS) (cs_n GK) (cs_n OP) (cs_o O) (cs_n RP) (cs_b RC) (cs_n L) (cs_n R) sg iw (cs_n BH) (cs_n BN) (cs_n FH) (cs_n FN) (cs_n NL) (cs_n NM) (cs_v V) (cs_b C) (cs_n TR) (cs_n LI) (cs_n LT)) := by
  intro d
  induction d with
  | zero =>
    intro v hv hv0 f hf m S pw RP N L R sg BH BN FH FN NL NM t V C TR LI LT h HY
    obtain ⟨w, rfl⟩ : ∃ w, f = w + 1 := ⟨f - 1, by omega⟩
    obtain rfl : v = en := by omega
    exact br_t (nI_le (Nat.le_refl _) (by omega)) (K m S pw RP N L R sg BH BN FH FN NL NM t V C TR LI LT h HY)
  | succ d ih =>
    intro v hv hv0 f hf m S pw RP N L R sg BH BN FH FN NL NM t V C TR LI LT h HY
    obtain ⟨w, rfl⟩ : ∃ w, f = w + 1 := ⟨f - 1, by omega⟩
    have hN := cs_N256 h
    refine br_f (nI_ge (by omega) (by omega)) ?_
    refine cs_x_snet v rfl h (by omega) hT hN (fun r RP' N' L' R' sg' BH' BN' FH' FN' NL' NM' t' V' C' TR' LI' LT' r1 r2 r3 => ?_) (fun RP' r1 r2 r3 => ?_) (fun r p RP' pw' L' R' sg' BH' BN' FH' FN' t' V' C' TR' LI' LT' r1 r2 r3 r4 => ?_)
    · refine br_f (by decide) (nm_r (nI_1 m) (nm_r (nI_1 v) (nm_r (nI_1 v) ?_)))
      exact ih (v + 1) (by omega) (by omega) w (by omega) (m + 1) _ _ _ _ _ _ _ _ _ _ _ _ _ _ _ _ _ _ _ r3 (fun tb postY hTB q => HY tb postY hTB (cs_y_sm h64 hT (by omega) (by omega) hv0 hc31 hTB r1 r2 q))
    · refine br_t rfl (nm_r (nI_1 v) (nm_r (nI_1 v) ?_))
      exact ih (v + 1) (by omega) (by omega) w (by omega) m _ _ _ _ _ _ _ _ _ _ _ _ _ _ _ _ _ _ _ r3 (fun tb postY hTB q => HY tb postY hTB (cs_y_sn h64 hT (by omega) (by omega) hv0 hc31 hTB r1 r2 q))
    · refine br_t rfl (nm_r (nI_1 v) (nm_r (nI_1 v) ?_))
      exact ih (v + 1) (by omega) (by omega) w (by omega) m _ _ _ _ _ _ _ _ _ _ _ _ _ _ _ _ _ _ _ r4 (fun tb postY hTB q => HY tb postY hTB (cs_y_sr h64 hT (by omega) (by omega) hv0 hc31 hTB r1 r2 r3 q))
theorem cs_vc_settle {k : Nat} (h : cs_Inv I T E N gl ou sd sv sw sp pw GK OP RP O S L R sg iw BH BN FH FN NL NM) (v1 : Int32) : wpX_settle (fun r u' => wpY_settle (fun r' v' => r' = r ∧ i_Rel k u' v') ((nI I), gl, ou, (nI (2 ^ I)), (nI T), sd, (nI E), sv, sw, sp, (cs_n GS), (cs_n GK), (cs_n OP), (cs_o O), (cs_b S), tb, (cs_b lw)) v1) ((nI I), gl, ou, (nI T), sd, (nI E), pw, sv, sw, sp, (nI N), (nI t), (cs_n GS), (cs_n GK), (cs_n OP), (cs_o O), (cs_n RP), (cs_b RC), (cs_n L), (cs_n R), sg, iw, (cs_n BH), (cs_n BN), (cs_n FH), (cs_n FN), (cs_n NL), (cs_n NM), (cs_v V), (cs_b C), (cs_n TR), (cs_n LI), (cs_n LT)) v1 := by
  have hT := cs_T39 h
  have hI := h.1.2.1
  have hIT := h.1.2.2.1
  have hE := h.1.2.2.2.2
  have hC := h.2.2.2.2.2.2.2.1
  have h64 := cs_p64 hI
  unfold wpX_settle wpY_settle
  refine br_c (fun z => ?_) (fun z => ?_)
  · have z0 : ¬ v1 < 0 := fun w => by
      have := Int32.lt_trans z w
      exact absurd this (by decide)
    obtain ⟨c, hc, rfl⟩ := nI_of z0
    have c0 : 0 < c := by
      by_cases q : c = 0
      · subst q; exact absurd z (by decide)
      · omega
    have zle : ¬ nI c ≤ 0 := nI_nle c0 hc
    have key : ∀ en, (en = T ∨ en = E + c) → en ≤ T → E ≤ en → en - E ≤ c → ∀ post : Int32 → SX → Prop, (∀ r u', wpY_settle (fun r' v' => r' = r ∧ i_Rel k u' v') ((nI I), gl, ou, (nI (2 ^ I)), (nI T), sd, (nI E), sv, sw, sp, (cs_n GS), (cs_n GK), (cs_n OP), (cs_o O), (cs_b S), tb, (cs_b lw)) (nI c) → post r u') → ∃ n39 : Nat, (wX_settle_39 post (nI en) n39 (nI 0) (nI E) (nI I) gl ou (nI T) sd (nI E) pw sv sw sp (nI N) (nI t) (cs_n GS) (cs_n GK) (cs_n OP) (cs_o O) (cs_n RP) (cs_b RC) (cs_n L) (cs_n R) sg iw (cs_n BH) (cs_n BN) (cs_n FH) (cs_n FN) (cs_n NL) (cs_n NM) (cs_v V) (cs_b C) (cs_n TR) (cs_n LI) (cs_n LT)) := by
      intro en e0 e1 e2 e3 post hpost
      refine ⟨en - E + 1, ?_⟩
      by_cases q : E < T
      · refine cs_x_st39 (lw := lw) (c := c) (v0 := E) (S0 := S) h64 hT e1 e3 hc (fun m S' pw' RP' N' L' R' sg' BH' BN' FH' FN' NL' NM' t' V' C' TR' LI' LT' hI' HY => ?_) (en - E) E (by omega) (Nat.le_refl E) _ (by omega) 0 S pw RP N L R sg BH BN FH FN NL NM t V C TR LI LT h (fun tb postY _ q => q)
        refine hpost _ _ ?_
        unfold wpY_settle
        refine br_f zle (br_t (nI_lt q (by omega)) ?_)
        refine cs_y_tab h64 hI hIT hT hC (fun tb htb => ⟨en - E + 1, ?_⟩)
        refine HY tb _ htb ?_
        rcases e0 with e0 | e0
        · subst e0
          exact br_t (nI_le (Nat.le_refl _) (by omega)) ⟨rfl, cs_mk hI'⟩
        · by_cases q2 : en = T
          · subst q2
            exact br_t (nI_le (Nat.le_refl _) (by omega)) ⟨rfl, cs_mk hI'⟩
          · refine br_f (nI_ge (by omega) (by omega)) (br_t ?_ ⟨rfl, cs_mk hI'⟩)
            rw [pk_sub e2]
            exact nI_le (by omega) (by omega)
      · obtain rfl : en = E := by omega
        refine br_t (nI_le (Nat.le_refl _) (by omega)) (hpost _ _ ?_)
        exact br_f zle (br_f (nI_nlt (by omega) (by omega)) ⟨rfl, cs_mk h⟩)
    refine pk_le (T - E) c (fun w => ?_) (fun w => ?_) (pk_sub hE) rfl (by omega) hc
    · refine key T (Or.inl rfl) (Nat.le_refl T) hE w _ (fun r u' hr => ?_)
      exact hr
    · refine nm_r (nI_add E c) ?_
      refine key (E + c) (Or.inr rfl) (by omega) (by omega) (by omega) _ (fun r u' hr => ?_)
      exact hr
  · refine br_t (Int32.not_lt.1 z) ⟨rfl, cs_mk h⟩
end
end
section
section
variable {I T E N t PN : Nat} {gl ou sd sv sw sp : Int32} {pw : Int64} {GS GK OP RP L R BH BN FH FN NL NM TR LI LT : Nat → Nat} {O : Nat → Option Nat} {V : Nat → Option Bool} {C RC S lw : Nat → Bool} {sg iw : Nat → Int64} {tb : Nat → Int32}
/-! the constructors -/
def cs_cl (x : Int32) (M : Nat) : Nat := if 1 ≤ x then (if x ≤ nI M then x.toNatClampNeg else M) else 1
theorem cs_clamp {x : Int32} {M : Nat} (hM : M < 1000) (hM1 : 1 ≤ M) : (1 ≤ cs_cl x M ∧ cs_cl x M ≤ M) ∧ ∀ P : Int32 → Prop, P (nI (cs_cl x M)) → (1 ≤ x → ((x ≤ nI M → P x) ∧ (¬ x ≤ nI M → P (nI M)))) ∧ (¬ 1 ≤ x → P (nI 1)) := by
  unfold cs_cl
  by_cases a : 1 ≤ x
  · have a0 : ¬ x < 0 := fun w => by
      have := Int32.lt_of_le_of_lt a w
      exact absurd this (by decide)
    obtain ⟨j, hj, rfl⟩ := nI_of a0
    have j1 : 1 ≤ j := (nI_leI (a := 1) (by omega) hj).1 a
    rw [if_pos a]
    by_cases b : nI j ≤ nI M
    · have b1 := (nI_leI hj (by omega)).1 b
      rw [if_pos b, nI_clamp hj]
      exact ⟨⟨j1, b1⟩, fun P h => br_t a (br_t b h)⟩
    · rw [if_neg b]
      exact ⟨⟨hM1, Nat.le_refl M⟩, fun P h => br_t a (br_f b h)⟩
  · rw [if_neg a]
    exact ⟨⟨Nat.le_refl 1, hM1⟩, fun P h => br_f a h⟩
def cs_O8 : Nat → Option Nat := fun j => if j < 8 then none else some 0
theorem cs_O8_eq (h1 : ∀ j, j < 8 → O j = none) (h2 : ∀ j, 8 ≤ j → O j = some 0) : O = cs_O8 := by
  funext j
  unfold cs_O8
  by_cases c : j < 8
  · rw [if_pos c, h1 j c]
  · rw [if_neg c, h2 j (by omega)]
theorem cs_x_in302 {post : SX → Prop} {i f0 : Nat} (h1 : 1 ≤ i) (h6 : i ≤ 6) (K : ∀ iw, ((∀ m, 1 ≤ m → m < i + 1 → ∀ p, p < 64 → cs_lb (iw m) p = p.testBit (m - 1)) ∧ (∀ m, i + 1 ≤ m → iw m = 0)) → (wX_init_279 post (nI I) gl ou (nI T) sd (nI E) pw sv sw sp (nI N) (nI t) f0 (nI (i + 1)) (cs_n GS) (cs_n GK) (cs_n OP) (cs_o O) (cs_n RP) (cs_b RC) (cs_n L) (cs_n R) sg iw (cs_n BH) (cs_n BN) (cs_n FH) (cs_n FN) (cs_n NL) (cs_n NM) (cs_v V) (cs_b C) (cs_n TR) (cs_n LI) (cs_n LT))) :
    ∀ d p, p + d = 64 → ∀ f, d < f → ∀ iw, (∀ m, 1 ≤ m → m < i → ∀ p, p < 64 → cs_lb (iw m) p = p.testBit (m - 1)) → (∀ m, i + 1 ≤ m → iw m = 0) → (∀ q, q < 64 → cs_lb (iw i) q = (decide (q < p) && q.testBit (i - 1))) →
    (wX_init_302 post (wX_init_279 post (nI I) gl ou (nI T) sd (nI E) pw sv sw sp (nI N) (nI t) f0) (nI i) (nI I) gl ou (nI T) sd (nI E) pw sv sw sp (nI N) (nI t) f (nI p) (cs_n GS) (cs_n GK) (cs_n OP) (cs_o O) (cs_n RP) (cs_b RC) (cs_n L) (cs_n R) sg iw (cs_n BH) (cs_n BN) (cs_n FH) (cs_n FN) (cs_n NL) (cs_n NM) (cs_v V) (cs_b C) (cs_n TR) (cs_n LI) (cs_n LT)) := by
  intro d
  induction d with
  | zero =>
    intro p hp f hf iw a b c
    obtain ⟨w, rfl⟩ : ∃ w, f = w + 1 := ⟨f - 1, by omega⟩
    obtain rfl : p = 64 := by omega
    refine br_t (nI_le (b := 64) (a := 64) (by omega) (by omega)) (nm_r (nI_1 i) (K iw ⟨fun m m1 m2 q hq => ?_, b⟩))
    by_cases e : m = i
    · subst e; rw [c q hq, decide_eq_true hq, Bool.true_and]
    · exact a m m1 (by omega) q hq
  | succ d ih =>
    intro p hp f hf iw a b c
    obtain ⟨w, rfl⟩ : ∃ w, f = w + 1 := ⟨f - 1, by omega⟩
    refine br_f (nI_ge (b := 64) (by omega) (by omega)) (cs_bc (cs_pb (by omega) h1 h6) (fun z => ?_) (fun z => ?_))
    · refine nm_r (nI_1 p) (ih (p + 1) (by omega) w (by omega) iw a b (fun q hq => ?_))
      rw [c q hq]
      by_cases e : q = p
      · subst e; rw [z, Bool.and_false, Bool.and_false]
      · rw [show decide (q < p + 1) = decide (q < p) from decide_eq_decide.2 (by omega)]
    · refine And.intro (pk_in i 8 (by omega)) (And.intro (pk_in i 8 (by omega)) (nm_r (cs_wl i rfl rfl) (nm_r (nI_1 p) ?_)))
      refine ih (p + 1) (by omega) w (by omega) _ (fun m m1 m2 q hq => ?_) (fun m hm => ?_) (fun q hq => ?_)
      · rw [cs_uo (by omega)]; exact a m m1 m2 q hq
      · rw [cs_uo (by omega)]; exact b m hm
      · rw [cs_us, cs_rl (f := iw) i rfl, cs_lbor, cs_lbsh (by omega), c q hq]
        by_cases e : q = p
        · subst e; rw [z]; simp
        · rw [show decide (q < p + 1) = decide (q < p) from decide_eq_decide.2 (by omega), decide_eq_false e, Bool.or_false]
theorem cs_x_in279 {post : SX → Prop} (hI : I ≤ 6) (hW : cs_W I N L R) (hN : N ≤ 256)
    (K : ∀ iw NL sg, (∀ i, 1 ≤ i → i ≤ I → ∀ p, p < 64 → cs_lb (iw i) p = p.testBit (i - 1)) → (∀ n, n ≤ I → NL n = 2 * n) → cs_S I pw N L R sg → post ((nI I), gl, ou, (nI T), sd, (nI E), pw, 0, (-1), (-1), (nI N), (nI t), (cs_n GS), (cs_n GK), (cs_n OP), (cs_o O), (cs_n RP), (cs_b RC), (cs_n L), (cs_n R), sg, iw, (cs_n BH), (cs_n BN), (cs_n FH), (cs_n FN), (cs_n NL), (cs_n NM), (cs_v V), (cs_b C), (cs_n TR), (cs_n LI), (cs_n LT))) :
    ∀ d i, i + d = I + 1 → 1 ≤ i → ∀ f, d < f → ∀ iw NL, (∀ n, n < i → NL n = 2 * n) → ((∀ m, 1 ≤ m → m < i → ∀ p, p < 64 → cs_lb (iw m) p = p.testBit (m - 1)) ∧ (∀ m, i ≤ m → iw m = 0)) → (wX_init_279 post (nI I) gl ou (nI T) sd (nI E) pw sv sw sp (nI N) (nI t) f (nI i) (cs_n GS) (cs_n GK) (cs_n OP) (cs_o O) (cs_n RP) (cs_b RC) (cs_n L) (cs_n R) sg iw (cs_n BH) (cs_n BN) (cs_n FH) (cs_n FN) (cs_n NL) (cs_n NM) (cs_v V) (cs_b C) (cs_n TR) (cs_n LI) (cs_n LT)) := by
  intro d
  induction d with
  | zero =>
    intro i hi h1 f hf iw NL a b
    obtain ⟨w, rfl⟩ : ∃ w, f = w + 1 := ⟨f - 1, by omega⟩
    obtain rfl : i = I + 1 := by omega
    refine br_t (nI_lt (by omega) (by omega)) ?_
    unfold wpX_dropVerdict
    refine cs_x_resim (sv := 0) (sw := -1) (sp := -1) hI hW hN (fun i i1 i2 p hp => b.1 i i1 (by omega) p hp) (fun sg' hS => ?_)
    exact K iw NL sg' (fun i i1 i2 p hp => b.1 i i1 (by omega) p hp) (fun n hn => a n (by omega)) hS
  | succ d ih =>
    intro i hi h1 f hf iw NL a b
    obtain ⟨w, rfl⟩ : ∃ w, f = w + 1 := ⟨f - 1, by omega⟩
    refine br_f (nI_nlt (by omega) (by omega)) (And.intro (pk_in i 40 (by omega)) (nm_r (cs_wr i (2 * i) rfl (cs_2m i)) ⟨65, ?_⟩))
    refine cs_x_in302 h1 (by omega) (fun iw' b' => ih (i + 1) (by omega) (by omega) w (by omega) iw' _ (fun n hn => ?_) b') 64 0 (by omega) _ (by omega) iw b.1 (fun m hm => b.2 m (by omega)) (fun q hq => ?_)
    · by_cases e : n = i
      · subst e; exact cs_us
      · rw [cs_uo e]; exact a n (by omega)
    · rw [b.2 i (Nat.le_refl i), cs_lb0]; simp
theorem cs_x_in255 {post : SX → Prop} (K : ∃ f, (wX_init_279 post (nI I) gl ou (nI T) sd (nI E) pw sv sw sp (nI N) (nI t) f (nI 1) (cs_n GS) (cs_n GK) (cs_n OP) (cs_o cs_O8) (cs_n RP) (cs_b RC) (cs_n L) (cs_n R) sg iw (cs_n BH) (cs_n BN) (cs_n FH) (cs_n FN) (cs_n NL) (cs_n NM) (cs_v V) (cs_b C) (cs_n TR) (cs_n LI) (cs_n LT))) :
    ∀ d j, j + d = 8 → ∀ f, d < f → ∀ O, (∀ i, i < j → O i = none) → (∀ i, j ≤ i → O i = some 0) → (wX_init_255 post (nI I) gl ou (nI T) sd (nI E) pw sv sw sp (nI N) (nI t) f (nI j) (cs_n GS) (cs_n GK) (cs_n OP) (cs_o O) (cs_n RP) (cs_b RC) (cs_n L) (cs_n R) sg iw (cs_n BH) (cs_n BN) (cs_n FH) (cs_n FN) (cs_n NL) (cs_n NM) (cs_v V) (cs_b C) (cs_n TR) (cs_n LI) (cs_n LT)) := by
  intro d
  induction d with
  | zero =>
    intro j hj f hf O a b
    obtain ⟨w, rfl⟩ : ∃ w, f = w + 1 := ⟨f - 1, by omega⟩
    obtain rfl : j = 8 := by omega
    have e := cs_O8_eq a b
    subst e
    exact br_t (nI_le (b := 8) (a := 8) (by omega) (by omega)) K
  | succ d ih =>
    intro j hj f hf O a b
    obtain ⟨w, rfl⟩ : ∃ w, f = w + 1 := ⟨f - 1, by omega⟩
    refine br_f (nI_ge (b := 8) (by omega) (by omega)) (And.intro (pk_in j 8 (by omega)) (nm_r (cs_wo j none rfl rfl) (nm_r (nI_1 j) ?_)))
    refine ih (j + 1) (by omega) w (by omega) _ (fun i hi => ?_) (fun i hi => ?_)
    · by_cases e : i = j
      · subst e; exact cs_us
      · rw [cs_uo e]; exact a i (by omega)
    · rw [cs_uo (by omega)]; exact b i (by omega)
theorem cs_y_in182 {post : SY → Prop} (K : post ((nI I), gl, ou, (nI PN), (nI T), sd, (nI E), sv, sw, sp, (cs_n GS), (cs_n GK), (cs_n OP), (cs_o cs_O8), (cs_b (cs_up S 0 true)), tb, (cs_b lw))) :
    ∀ d j, j + d = 8 → ∀ f, d < f → ∀ O, (∀ i, i < j → O i = none) → (∀ i, j ≤ i → O i = some 0) → (wY_init_182 post (nI I) gl ou (nI PN) (nI T) sd (nI E) sv sw sp f (nI j) (cs_n GS) (cs_n GK) (cs_n OP) (cs_o O) (cs_b S) tb (cs_b lw)) := by
  intro d
  induction d with
  | zero =>
    intro j hj f hf O a b
    obtain ⟨w, rfl⟩ : ∃ w, f = w + 1 := ⟨f - 1, by omega⟩
    obtain rfl : j = 8 := by omega
    have e := cs_O8_eq a b
    subst e
    refine br_t (nI_le (b := 8) (a := 8) (by omega) (by omega)) (nm_r (e' := cs_b (cs_up S 0 true)) ?_ K)
    rw [cs_vb1]
    exact cs_wu cs_bi S 0 true
  | succ d ih =>
    intro j hj f hf O a b
    obtain ⟨w, rfl⟩ : ∃ w, f = w + 1 := ⟨f - 1, by omega⟩
    refine br_f (nI_ge (b := 8) (by omega) (by omega)) (And.intro (pk_in j 8 (by omega)) (nm_r (cs_wo j none rfl rfl) (nm_r (nI_1 j) ?_)))
    refine ih (j + 1) (by omega) w (by omega) _ (fun i hi => ?_) (fun i hi => ?_)
    · by_cases e : i = j
      · subst e; exact cs_us
      · rw [cs_uo e]; exact a i (by omega)
    · rw [cs_uo (by omega)]; exact b i (by omega)
theorem cs_E_low {e x : Nat} (h : e ≤ 2 * (I + 1)) : cs_E I L R e x = 0 := by
  rcases cs_E_lt (I := I) (L := L) (R := R) e x with z | z
  · exact z
  · omega
/-- the invariant of a new object -/
theorem cs_Inv_0 {GL OU : Nat} {RP : Nat → Nat} (i1 : 1 ≤ I) (i6 : I ≤ 6) (g2 : GL ≤ 32) (o1 : 1 ≤ OU) (o2 : OU ≤ 4) (hr : RP 0 = 0) (hb : ∀ b, BH b = 0) (hf : ∀ x, FH x = 0) (hiw : ∀ i, 1 ≤ i → i ≤ I → ∀ p, p < 64 → cs_lb (iw i) p = p.testBit (i - 1)) (hNL : ∀ n, n ≤ I → NL n = 2 * n) (hS : cs_S I 1 (I + 1) L R sg) :
    cs_Inv I (I + 1) 1 (I + 1) (nI GL) (nI OU) 0 0 (-1) (-1) 1 GK OP RP cs_O8 (cs_up (fun _ => false) 0 true) L R sg iw BH BN FH FN NL NM := by
  refine ⟨by omega, ⟨GL, rfl, g2, by omega⟩, ⟨OU, rfl, o1, o2⟩, ⟨0, rfl, by omega⟩, Or.inr ⟨rfl, rfl⟩, ⟨fun p e => ?_, ?_, fun p => ?_⟩, hiw, fun n a b => by omega, fun j hj a ha => ?_, ⟨⟨by omega, fun n a b => by omega⟩, ⟨fun b => Or.inl (hb b), fun n a b => by omega⟩, ⟨fun x => ?_, fun e a b => by omega⟩, hS⟩, ⟨hNL, by omega, by omega, fun n hn => ⟨?_, fun p => ?_⟩, fun v a b => by omega, fun v w a b c => by omega⟩, ⟨fun u hu => ⟨0, ?_⟩, fun u w a b _ _ _ => by omega⟩⟩
  · rw [cs_lb1] at e
    rw [of_decide_eq_true e]; exact cs_pp I
  · rw [cs_lb1]; rfl
  · rw [cs_lb1]; rfl
  · unfold cs_O8 at ha
    rw [if_pos hj] at ha; cases ha
  · rw [hf, cs_E_low (Nat.le_refl _)]
  · rw [hNL n (by omega)]; omega
  · rw [hNL n (by omega), cs_lv_even]
    by_cases c : n = 0
    · subst c; rfl
    · rw [cs_gv_i (by omega) (by omega), cs_ev_i (by omega) (by omega)]
  · obtain rfl : u = 0 := by omega
    exact ⟨⟨Nat.le_refl 0, cs_same_refl 0, fun w hw => by omega⟩, by rw [hr, Bool.xor_self]; rfl⟩
end
theorem cs_x_cl {post : Int32 → Prop} {u : SX} {x y : Int32} (M : Nat) (hy : y = nI M) (hM : M < 1000) (hM1 : 1 ≤ M) (K : post (nI (cs_cl x M))) : wpX_clamp post u x 1 y := by
  subst hy
  exact (cs_clamp hM hM1).2 post K
theorem cs_y_cl {post : SY → Prop} {p0 p1 p2 : Int32} (K : wY_init_131 post (nI (cs_cl p2 4)) (nI (cs_cl p0 6)) (nI (cs_cl p1 32)) 0 0 0 0 0 0 0 0 (fun _ => 0) (fun _ => 0) (fun _ => 0) (fun _ => 0) (fun _ => 0) (fun _ => 0) (fun _ => 0)) : wpY_init post p0 p1 p2 := by
  refine (cs_clamp (x := p0) (M := 6) (by omega) (by omega)).2 (fun z => wY_init_83 post p1 p2 z 0 0 0 0 0 0 0 0 0 0 (fun _ => 0) (fun _ => 0) (fun _ => 0) (fun _ => 0) (fun _ => 0) (fun _ => 0) (fun _ => 0)) ?_
  refine (cs_clamp (x := p1) (M := 32) (by omega) (by omega)).2 (fun z => wY_init_108 post p2 z (nI (cs_cl p0 6)) 0 0 0 0 0 0 0 0 0 (fun _ => 0) (fun _ => 0) (fun _ => 0) (fun _ => 0) (fun _ => 0) (fun _ => 0) (fun _ => 0)) ?_
  exact (cs_clamp (x := p2) (M := 4) (by omega) (by omega)).2 (fun z => wY_init_131 post z (nI (cs_cl p0 6)) (nI (cs_cl p1 32)) 0 0 0 0 0 0 0 0 (fun _ => 0) (fun _ => 0) (fun _ => 0) (fun _ => 0) (fun _ => 0) (fun _ => 0) (fun _ => 0)) K
theorem cs_vc0 (k0 k1 k2 : Int32) : wpX_init (fun u => wpY_init (fun v => i_Rel 3 u v) k0 k1 k2) k0 k1 k2 := by
  obtain ⟨⟨a1, a2⟩, A⟩ := cs_clamp (x := k0) (M := 6) (by omega) (by omega)
  obtain ⟨⟨b1, b2⟩, B⟩ := cs_clamp (x := k1) (M := 32) (by omega) (by omega)
  obtain ⟨⟨c1, c2⟩, C⟩ := cs_clamp (x := k2) (M := 4) (by omega) (by omega)
  unfold wpX_init
  refine cs_x_cl 6 rfl (by omega) (by omega) ?_
  refine cs_x_cl 32 rfl (by omega) (by omega) ?_
  refine cs_x_cl 4 rfl (by omega) (by omega) ?_
  have Y0 : ∀ post : SY → Prop, wY_init_131 post (nI (cs_cl k2 4)) (nI (cs_cl k0 6)) (nI (cs_cl k1 32)) 0 0 0 0 0 0 0 0 (fun _ => 0) (fun _ => 0) (fun _ => 0) (fun _ => 0) (fun _ => 0) (fun _ => 0) (fun _ => 0) → wpY_init post k0 k1 k2 := fun post K => cs_y_cl K
  clear A B C
  generalize cs_cl k0 6 = I at *
  generalize cs_cl k1 32 = GL at *
  generalize cs_cl k2 4 = OU at *
  refine nm_r (nI_1 I) (nm_r (nI_1 I) ⟨9, ?_⟩)
  refine cs_x_in255 (I := I) (gl := nI GL) (ou := nI OU) (T := I + 1) (sd := 0) (E := 1) (pw := 1) (sv := 0) (sw := 0) (sp := 0) (N := I + 1) (t := 0) (GS := fun _ => 0) (GK := fun _ => 0) (OP := fun _ => 0) (RP := fun _ => 0) (RC := fun _ => false) (L := fun _ => 0) (R := fun _ => 0) (sg := fun _ => 0) (iw := fun _ => 0) (BH := fun _ => 0) (BN := fun _ => 0) (FH := fun _ => 0) (FN := fun _ => 0) (NL := fun _ => 0) (NM := fun _ => 0) (V := fun _ => none) (C := fun _ => false) (TR := fun _ => 0) (LI := fun _ => 0) (LT := fun _ => 0) ⟨I + 1, ?_⟩ 8 0 (by omega) _ (by omega) (fun _ => some 0) (fun i hi => by omega) (fun i hi => rfl)
  refine cs_x_in279 a2 ⟨by omega, fun n a b => by omega⟩ (by omega) (fun iw NL sg d1 d2 d3 => ?_) I 1 (by omega) (by omega) _ (by omega) _ _ (fun n hn => ?_) ⟨fun m m1 m2 => by omega, fun m hm => rfl⟩
  · refine Y0 _ ?_
    refine nm_r (cs_pn a2) (nm_r (e' := nI (I + 1)) ?_ ⟨9, ?_⟩)
    · show nI 1 + nI I = _
      rw [nI_add, Nat.add_comm]
    · refine cs_y_in182 (I := I) (gl := nI GL) (ou := nI OU) (PN := 2 ^ I) (T := I + 1) (sd := 0) (E := 1) (sv := 0) (sw := -1) (sp := -1) (GS := fun _ => 0) (GK := fun _ => 0) (OP := fun _ => 0) (S := fun _ => false) (tb := fun _ => 0) (lw := fun _ => false) ?_ 8 0 (by omega) _ (by omega) (fun _ => some 0) (fun i hi => by omega) (fun i hi => rfl)
      exact cs_mk (cs_Inv_0 a1 a2 b2 c1 c2 rfl (fun _ => rfl) (fun _ => rfl) d1 d2 d3)
  · obtain rfl : n = 0 := by omega
    rfl
end
section
theorem i_vc0 (k0 : Int32) (k1 : Int32) (k2 : Int32) : wpX_init (fun u => wpY_init (fun v => i_Rel 3 u v) k0 k1 k2) k0 k1 k2 := cs_vc0 k0 k1 k2
theorem i_vc_selectSide {k : Nat} {u : SX} {v : SY} (I : i_Rel k u v) (hk : k + 5 ≤ 2563) (v1 : Int32) : wpX_selectSide (fun r u' => wpY_selectSide (fun r' v' => r' = r ∧ i_Rel (k + 5) u' v') v v1) u v1 := by
  refine cs_el (P := fun u v => wpX_selectSide (fun r u' => wpY_selectSide (fun r' v' => r' = r ∧ i_Rel (k + 5) u' v') v v1) u v1) ?_ I
  intro I T E N t gl ou sd sv sw sp pw GS GK OP RP L R BH BN FH FN NL NM TR LI LT O V C RC S lw sg iw tb h
  exact cs_vc_selectSide h v1
theorem i_vc_currentSide {k : Nat} {u : SX} {v : SY} (I : i_Rel k u v) (hk : k + 5 ≤ 2563) : wpX_currentSide (fun r => wpY_currentSide (fun r' => r' = r ∧ i_Rel (k + 5) u v) v) u := by
  refine cs_el (P := fun u v => wpX_currentSide (fun r => wpY_currentSide (fun r' => r' = r ∧ i_Rel (k + 5) u v) v) u) ?_ I
  intro I T E N t gl ou sd sv sw sp pw GS GK OP RP L R BH BN FH FN NL NM TR LI LT O V C RC S lw sg iw tb h
  exact cs_vc_currentSide h 
theorem i_vc_addGate {k : Nat} {u : SX} {v : SY} (I : i_Rel k u v) (hk : k + 5 ≤ 2563) (v1 : Int32) (v2 : Int32) (v3 : Int32) (v4 : Int32) : wpX_addGate (fun r u' => wpY_addGate (fun r' v' => r' = r ∧ i_Rel (k + 5) u' v') v v1 v2 v3 v4) u v1 v2 v3 v4 := by
  refine cs_el (P := fun u v => wpX_addGate (fun r u' => wpY_addGate (fun r' v' => r' = r ∧ i_Rel (k + 5) u' v') v v1 v2 v3 v4) u v1 v2 v3 v4) ?_ I
  intro I T E N t gl ou sd sv sw sp pw GS GK OP RP L R BH BN FH FN NL NM TR LI LT O V C RC S lw sg iw tb h
  exact cs_vc_addGate h v1 v2 v3 v4
theorem i_vc_setKind {k : Nat} {u : SX} {v : SY} (I : i_Rel k u v) (hk : k + 5 ≤ 2563) (v1 : Int32) (v2 : Int32) : wpX_setKind (fun r u' => wpY_setKind (fun r' v' => r' = r ∧ i_Rel (k + 5) u' v') v v1 v2) u v1 v2 := by
  refine cs_el (P := fun u v => wpX_setKind (fun r u' => wpY_setKind (fun r' v' => r' = r ∧ i_Rel (k + 5) u' v') v v1 v2) u v1 v2) ?_ I
  intro I T E N t gl ou sd sv sw sp pw GS GK OP RP L R BH BN FH FN NL NM TR LI LT O V C RC S lw sg iw tb h
  exact cs_vc_setKind h v1 v2
theorem i_vc_setFanin {k : Nat} {u : SX} {v : SY} (I : i_Rel k u v) (hk : k + 5 ≤ 2563) (v1 : Int32) (v2 : Int32) (v3 : Int32) : wpX_setFanin (fun r u' => wpY_setFanin (fun r' v' => r' = r ∧ i_Rel (k + 5) u' v') v v1 v2 v3) u v1 v2 v3 := by
  refine cs_el (P := fun u v => wpX_setFanin (fun r u' => wpY_setFanin (fun r' v' => r' = r ∧ i_Rel (k + 5) u' v') v v1 v2 v3) u v1 v2 v3) ?_ I
  intro I T E N t gl ou sd sv sw sp pw GS GK OP RP L R BH BN FH FN NL NM TR LI LT O V C RC S lw sg iw tb h
  exact cs_vc_setFanin h v1 v2 v3
theorem i_vc_removeLast {k : Nat} {u : SX} {v : SY} (I : i_Rel k u v) (hk : k + 5 ≤ 2563) : wpX_removeLast (fun r u' => wpY_removeLast (fun r' v' => r' = r ∧ i_Rel (k + 5) u' v') v) u := by
  refine cs_el (P := fun u v => wpX_removeLast (fun r u' => wpY_removeLast (fun r' v' => r' = r ∧ i_Rel (k + 5) u' v') v) u) ?_ I
  intro I T E N t gl ou sd sv sw sp pw GS GK OP RP L R BH BN FH FN NL NM TR LI LT O V C RC S lw sg iw tb h
  exact cs_vc_removeLast h 
theorem i_vc_setOutput {k : Nat} {u : SX} {v : SY} (I : i_Rel k u v) (hk : k + 5 ≤ 2563) (v1 : Int32) (v2 : Int32) (v3 : Int32) : wpX_setOutput (fun r u' => wpY_setOutput (fun r' v' => r' = r ∧ i_Rel (k + 5) u' v') v v1 v2 v3) u v1 v2 v3 := by
  refine cs_el (P := fun u v => wpX_setOutput (fun r u' => wpY_setOutput (fun r' v' => r' = r ∧ i_Rel (k + 5) u' v') v v1 v2 v3) u v1 v2 v3) ?_ I
  intro I T E N t gl ou sd sv sw sp pw GS GK OP RP L R BH BN FH FN NL NM TR LI LT O V C RC S lw sg iw tb h
  exact cs_vc_setOutput h v1 v2 v3
theorem i_vc_addPattern {k : Nat} {u : SX} {v : SY} (I : i_Rel k u v) (hk : k + 5 ≤ 2563) (v1 : Int32) : wpX_addPattern (fun r u' => wpY_addPattern (fun r' v' => r' = r ∧ i_Rel (k + 5) u' v') v v1) u v1 := by
  refine cs_el (P := fun u v => wpX_addPattern (fun r u' => wpY_addPattern (fun r' v' => r' = r ∧ i_Rel (k + 5) u' v') v v1) u v1) ?_ I
  intro I T E N t gl ou sd sv sw sp pw GS GK OP RP L R BH BN FH FN NL NM TR LI LT O V C RC S lw sg iw tb h
  exact cs_vc_addPattern h v1
theorem i_vc_settle {k : Nat} {u : SX} {v : SY} (I : i_Rel k u v) (hk : k + 5 ≤ 2563) (v1 : Int32) : wpX_settle (fun r u' => wpY_settle (fun r' v' => r' = r ∧ i_Rel (k + 5) u' v') v v1) u v1 := by
  refine cs_el (P := fun u v => wpX_settle (fun r u' => wpY_settle (fun r' v' => r' = r ∧ i_Rel (k + 5) u' v') v v1) u v1) ?_ I
  intro I T E N t gl ou sd sv sw sp pw GS GK OP RP L R BH BN FH FN NL NM TR LI LT O V C RC S lw sg iw tb h
  exact cs_vc_settle h v1
theorem i_vc_restart {k : Nat} {u : SX} {v : SY} (I : i_Rel k u v) (hk : k + 5 ≤ 2563) : wpX_restart (fun u' => wpY_restart (fun v' => i_Rel (k + 5) u' v') v) u := by
  refine cs_el (P := fun u v => wpX_restart (fun u' => wpY_restart (fun v' => i_Rel (k + 5) u' v') v) u) ?_ I
  intro I T E N t gl ou sd sv sw sp pw GS GK OP RP L R BH BN FH FN NL NM TR LI LT O V C RC S lw sg iw tb h
  exact cs_vc_restart h 
theorem i_vc_check {k : Nat} {u : SX} {v : SY} (I : i_Rel k u v) (hk : k + 5 ≤ 2563) : wpX_check (fun r u' => wpY_check (fun r' v' => r' = r ∧ i_Rel (k + 5) u' v') v) u := by
  refine cs_el (P := fun u v => wpX_check (fun r u' => wpY_check (fun r' v' => r' = r ∧ i_Rel (k + 5) u' v') v) u) ?_ I
  intro I T E N t gl ou sd sv sw sp pw GS GK OP RP L R BH BN FH FN NL NM TR LI LT O V C RC S lw sg iw tb h
  exact cs_vc_check h 
theorem i_vc_find {k : Nat} {u : SX} {v : SY} (I : i_Rel k u v) (hk : k + 5 ≤ 2563) (v1 : Int32) (v2 : Int32) (v3 : Int32) : wpX_find (fun r u' => wpY_find (fun r' v' => r' = r ∧ i_Rel (k + 5) u' v') v v1 v2 v3) u v1 v2 v3 := by
  refine cs_el (P := fun u v => wpX_find (fun r u' => wpY_find (fun r' v' => r' = r ∧ i_Rel (k + 5) u' v') v v1 v2 v3) u v1 v2 v3) ?_ I
  intro I T E N t gl ou sd sv sw sp pw GS GK OP RP L R BH BN FH FN NL NM TR LI LT O V C RC S lw sg iw tb h
  exact cs_vc_find h v1 v2 v3
theorem i_vc_evaluate {k : Nat} {u : SX} {v : SY} (I : i_Rel k u v) (hk : k + 5 ≤ 2563) (v1 : Int32) (v2 : Int32) : wpX_evaluate (fun r u' => wpY_evaluate (fun r' v' => r' = r ∧ i_Rel (k + 5) u' v') v v1 v2) u v1 v2 := by
  refine cs_el (P := fun u v => wpX_evaluate (fun r u' => wpY_evaluate (fun r' v' => r' = r ∧ i_Rel (k + 5) u' v') v v1 v2) u v1 v2) ?_ I
  intro I T E N t gl ou sd sv sw sp pw GS GK OP RP L R BH BN FH FN NL NM TR LI LT O V C RC S lw sg iw tb h
  exact cs_vc_evaluate h v1 v2
theorem i_vc_resolve {k : Nat} {u : SX} {v : SY} (I : i_Rel k u v) (hk : k + 5 ≤ 2563) (v1 : Int32) : wpX_resolve (fun r => wpY_resolve (fun r' v' => r' = r ∧ i_Rel (k + 5) u v') v v1) u v1 := by
  refine cs_el (P := fun u v => wpX_resolve (fun r => wpY_resolve (fun r' v' => r' = r ∧ i_Rel (k + 5) u v') v v1) u v1) ?_ I
  intro I T E N t gl ou sd sv sw sp pw GS GK OP RP L R BH BN FH FN NL NM TR LI LT O V C RC S lw sg iw tb h
  exact cs_vc_resolve h v1
theorem i_vc_candidate {k : Nat} {u : SX} {v : SY} (I : i_Rel k u v) (hk : k + 5 ≤ 2563) (v1 : Int32) : wpX_candidate (fun r => wpY_candidate (fun r' v' => r' = r ∧ i_Rel (k + 5) u v') v v1) u v1 := by
  refine cs_el (P := fun u v => wpX_candidate (fun r => wpY_candidate (fun r' v' => r' = r ∧ i_Rel (k + 5) u v') v v1) u v1) ?_ I
  intro I T E N t gl ou sd sv sw sp pw GS GK OP RP L R BH BN FH FN NL NM TR LI LT O V C RC S lw sg iw tb h
  exact cs_vc_candidate h v1
theorem i_vc_isLive {k : Nat} {u : SX} {v : SY} (I : i_Rel k u v) (hk : k + 5 ≤ 2563) (v1 : Int32) : wpX_isLive (fun r u' => wpY_isLive (fun r' v' => r' = r ∧ i_Rel (k + 5) u' v') v v1) u v1 := by
  refine cs_el (P := fun u v => wpX_isLive (fun r u' => wpY_isLive (fun r' v' => r' = r ∧ i_Rel (k + 5) u' v') v v1) u v1) ?_ I
  intro I T E N t gl ou sd sv sw sp pw GS GK OP RP L R BH BN FH FN NL NM TR LI LT O V C RC S lw sg iw tb h
  exact cs_vc_isLive h v1
theorem i_vc_netCount {k : Nat} {u : SX} {v : SY} (I : i_Rel k u v) (hk : k + 5 ≤ 2563) : wpX_netCount (fun r => wpY_netCount (fun r' => r' = r ∧ i_Rel (k + 5) u v) v) u := by
  refine cs_el (P := fun u v => wpX_netCount (fun r => wpY_netCount (fun r' => r' = r ∧ i_Rel (k + 5) u v) v) u) ?_ I
  intro I T E N t gl ou sd sv sw sp pw GS GK OP RP L R BH BN FH FN NL NM TR LI LT O V C RC S lw sg iw tb h
  exact cs_vc_netCount h 
theorem i_vc_settledCount {k : Nat} {u : SX} {v : SY} (I : i_Rel k u v) (hk : k + 5 ≤ 2563) : wpX_settledCount (fun r => wpY_settledCount (fun r' => r' = r ∧ i_Rel (k + 5) u v) v) u := by
  refine cs_el (P := fun u v => wpX_settledCount (fun r => wpY_settledCount (fun r' => r' = r ∧ i_Rel (k + 5) u v) v) u) ?_ I
  intro I T E N t gl ou sd sv sw sp pw GS GK OP RP L R BH BN FH FN NL NM TR LI LT O V C RC S lw sg iw tb h
  exact cs_vc_settledCount h 
theorem i_vc_patternSet {k : Nat} {u : SX} {v : SY} (I : i_Rel k u v) (hk : k + 5 ≤ 2563) : wpX_patternSet (fun r => wpY_patternSet (fun r' => r' = r ∧ i_Rel (k + 5) u v) v) u := by
  refine cs_el (P := fun u v => wpX_patternSet (fun r => wpY_patternSet (fun r' => r' = r ∧ i_Rel (k + 5) u v) v) u) ?_ I
  intro I T E N t gl ou sd sv sw sp pw GS GK OP RP L R BH BN FH FN NL NM TR LI LT O V C RC S lw sg iw tb h
  exact cs_vc_patternSet h 
theorem i_vc_gateField {k : Nat} {u : SX} {v : SY} (I : i_Rel k u v) (hk : k + 5 ≤ 2563) (v1 : Int32) (v2 : Int32) : wpX_gateField (fun r => wpY_gateField (fun r' => r' = r ∧ i_Rel (k + 5) u v) v v1 v2) u v1 v2 := by
  refine cs_el (P := fun u v => wpX_gateField (fun r => wpY_gateField (fun r' => r' = r ∧ i_Rel (k + 5) u v) v v1 v2) u v1 v2) ?_ I
  intro I T E N t gl ou sd sv sw sp pw GS GK OP RP L R BH BN FH FN NL NM TR LI LT O V C RC S lw sg iw tb h
  exact cs_vc_gateField h v1 v2
theorem i_vc_outputLiteral {k : Nat} {u : SX} {v : SY} (I : i_Rel k u v) (hk : k + 5 ≤ 2563) (v1 : Int32) (v2 : Int32) : wpX_outputLiteral (fun r => wpY_outputLiteral (fun r' => r' = r ∧ i_Rel (k + 5) u v) v v1 v2) u v1 v2 := by
  refine cs_el (P := fun u v => wpX_outputLiteral (fun r => wpY_outputLiteral (fun r' => r' = r ∧ i_Rel (k + 5) u v) v v1 v2) u v1 v2) ?_ I
  intro I T E N t gl ou sd sv sw sp pw GS GK OP RP L R BH BN FH FN NL NM TR LI LT O V C RC S lw sg iw tb h
  exact cs_vc_outputLiteral h v1 v2
theorem i_vc_verdict {k : Nat} {u : SX} {v : SY} (I : i_Rel k u v) (hk : k + 5 ≤ 2563) : wpX_verdict (fun r => wpY_verdict (fun r' => r' = r ∧ i_Rel (k + 5) u v) v) u := by
  refine cs_el (P := fun u v => wpX_verdict (fun r => wpY_verdict (fun r' => r' = r ∧ i_Rel (k + 5) u v) v) u) ?_ I
  intro I T E N t gl ou sd sv sw sp pw GS GK OP RP L R BH BN FH FN NL NM TR LI LT O V C RC S lw sg iw tb h
  exact cs_vc_verdict h 
theorem i_vc_witness {k : Nat} {u : SX} {v : SY} (I : i_Rel k u v) (hk : k + 5 ≤ 2563) : wpX_witness (fun r => wpY_witness (fun r' => r' = r ∧ i_Rel (k + 5) u v) v) u := by
  refine cs_el (P := fun u v => wpX_witness (fun r => wpY_witness (fun r' => r' = r ∧ i_Rel (k + 5) u v) v) u) ?_ I
  intro I T E N t gl ou sd sv sw sp pw GS GK OP RP L R BH BN FH FN NL NM TR LI LT O V C RC S lw sg iw tb h
  exact cs_vc_witness h 
theorem i_vc_witnessOutput {k : Nat} {u : SX} {v : SY} (I : i_Rel k u v) (hk : k + 5 ≤ 2563) : wpX_witnessOutput (fun r => wpY_witnessOutput (fun r' => r' = r ∧ i_Rel (k + 5) u v) v) u := by
  refine cs_el (P := fun u v => wpX_witnessOutput (fun r => wpY_witnessOutput (fun r' => r' = r ∧ i_Rel (k + 5) u v) v) u) ?_ I
  intro I T E N t gl ou sd sv sw sp pw GS GK OP RP L R BH BN FH FN NL NM TR LI LT O V C RC S lw sg iw tb h
  exact cs_vc_witnessOutput h 
end
