section
/-! pure rows to paste: stores, nI and lN arithmetic, masks, shifts, narrowing, branches by naturals (pk_le, pk_lt, pk_eq), loops (lp1 .. lp16: the measure of the state; rp1 ..: recursion), negatives. Take what you need -/
theorem pk_us {f : Nat → Int32} {k : Nat} {x : Int32} : upd f k x k = x := if_pos rfl
theorem pk_un {f : Nat → Int32} {k j : Nat} {x : Int32} (h : j ≠ k) : upd f k x j = f j := if_neg h
theorem pk_uLs {f : Nat → Int64} {k : Nat} {x : Int64} : vp_updL f k x k = x := if_pos rfl
theorem pk_uLn {f : Nat → Int64} {k j : Nat} {x : Int64} (h : j ≠ k) : vp_updL f k x j = f j := if_neg h
theorem pk_sub {a b : Nat} (h : b ≤ a) : nI a - nI b = nI (a - b) := by
  obtain ⟨c, rfl⟩ : ∃ c, a = c + b := ⟨a - b, by omega⟩
  rw [← nI_add, Int32.add_sub_cancel, Nat.add_sub_cancel]
theorem pk_m1 (n : Nat) : nI (n + 1) + (-1) = nI n := by
  rw [← nI_1, Int32.add_assoc, show (1 : Int32) + (-1) = 0 from rfl, Int32.add_zero]
theorem pk_mul (a b : Nat) : nI a * nI b = nI (a * b) := (Int32.ofNat_mul a b).symm
theorem pk_div {a d : Nat} (ha : a < 2 ^ 31) (h0 : 0 < d) (hd : d < 2 ^ 31) : nI a / nI d = nI (a / d) := by
  apply Int32.toInt_inj.mp
  rw [lg_idiv_nonneg (by rw [nI_toInt ha]; omega) (by rw [nI_toInt hd]; omega), nI_toInt ha, nI_toInt hd, nI_toInt (Nat.lt_of_le_of_lt (Nat.div_le_self a d) ha)]
  first | rfl | exact (Int.natCast_ediv _ _).symm
theorem pk_rem {a d : Nat} (ha : a < 2 ^ 31) (h0 : 0 < d) (hd : d < 2 ^ 31) : nI a - nI a / nI d * nI d = nI (a % d) := by
  rw [pk_div ha h0 hd, pk_mul, pk_sub (Nat.div_mul_le_self a d)]
  exact congrArg nI (by have := Nat.div_add_mod' a d; omega)
theorem pk_sub_toInt {a b : Nat} (ha : a < 2 ^ 30) (hb : b < 2 ^ 30) : (nI a - nI b).toInt = (a : Int) - b := by
  rw [Int32.toInt_sub, nI_toInt (by omega), nI_toInt (by omega)]
  exact Int.bmod_eq_of_le (by omega) (by omega)
theorem pk_sneg {a b : Nat} (hb : b < 2 ^ 30) (h : a < b) : nI a - nI b < 0 := by
  rw [Int32.lt_iff_toInt_lt, pk_sub_toInt (by omega) hb, show (0 : Int32).toInt = 0 from by decide]
  omega
theorem pk_ix (x : Int32) {n : Nat} (hn : n < 2 ^ 31) : x < 0 ∨ nI n ≤ x ∨ ∃ j : Nat, j < n ∧ x = nI j := by
  by_cases h : x < 0
  · exact Or.inl h
  · obtain ⟨j, hj, rfl⟩ := nI_of h
    by_cases h2 : j < n
    · exact Or.inr (Or.inr ⟨j, h2, rfl⟩)
    · exact Or.inr (Or.inl (nI_le (by omega) hj))
theorem pk_le {x y : Int32} {A B : Prop} (a b : Nat) (f : a ≤ b → A) (g : b < a → B) (hx : x = nI a := by rfl) (hy : y = nI b := by rfl) (ha : a < 2 ^ 31 := by omega) (hb : b < 2 ^ 31 := by omega) : (x ≤ y → A) ∧ (¬ x ≤ y → B) := by
  subst hx hy
  rw [nI_leI ha hb]
  exact ⟨f, fun z => g (by omega)⟩
theorem pk_lt {x y : Int32} {A B : Prop} (a b : Nat) (f : a < b → A) (g : b ≤ a → B) (hx : x = nI a := by rfl) (hy : y = nI b := by rfl) (ha : a < 2 ^ 31 := by omega) (hb : b < 2 ^ 31 := by omega) : (x < y → A) ∧ (¬ x < y → B) := by
  subst hx hy
  rw [nI_ltI ha hb]
  exact ⟨f, fun z => g (by omega)⟩
theorem pk_eq {x y : Int32} {A B : Prop} (a b : Nat) (f : a = b → A) (g : a ≠ b → B) (hx : x = nI a := by rfl) (hy : y = nI b := by rfl) (ha : a < 2 ^ 31 := by omega) (hb : b < 2 ^ 31 := by omega) : (x = y → A) ∧ (¬ x = y → B) := by
  subst hx hy
  rw [nI_eq ha hb]
  exact ⟨f, g⟩
theorem pk_in {x : Int32} (n N : Nat) (h : n < N) (hx : x = nI n := by rfl) (hN : N < 2 ^ 31 := by omega) : vp_in x N := by
  subst hx
  exact vp_in_nI h hN
theorem pk_cl {x : Int32} (n : Nat) (hx : x = nI n := by rfl) (h : n < 2 ^ 31 := by omega) : x.toNatClampNeg = n := by
  subst hx
  exact nI_clamp h
theorem pk_tn {n : Nat} (h : n < 2 ^ 32) : (nI n).toBitVec.toNat = n := Nat.mod_eq_of_lt h
theorem pk_and (x : Int32) {m : Int32} (k : Nat) (hm : m.toBitVec.toNat = 2 ^ k - 1) : x &&& m = nI (x.toBitVec.toNat % 2 ^ k) := by
  apply Int32.toBitVec_inj.mp
  apply BitVec.eq_of_toNat_eq
  rw [Int32.toBitVec_and, BitVec.toNat_and, hm, Nat.and_two_pow_sub_one_eq_mod]
  show _ = (BitVec.ofNat 32 _).toNat
  rw [BitVec.toNat_ofNat]
  exact (Nat.mod_eq_of_lt (Nat.lt_of_le_of_lt (Nat.mod_le _ _) x.toBitVec.isLt)).symm
theorem pk_andN {n : Nat} (h : n < 2 ^ 32) {m : Int32} (k : Nat) (hm : m.toBitVec.toNat = 2 ^ k - 1) : nI n &&& m = nI (n % 2 ^ k) := by
  rw [pk_and _ k hm, pk_tn h]
theorem pk_andE (x : Int32) {m : Int32} (k : Nat) (hm : m.toBitVec.toNat = 2 ^ k - 1) : ∃ j : Nat, j < 2 ^ k ∧ x &&& m = nI j := ⟨_, Nat.mod_lt _ (Nat.two_pow_pos k), pk_and x k hm⟩
theorem pk_andIn (x : Int32) {m : Int32} (k : Nat) (hm : m.toBitVec.toNat = 2 ^ k - 1) (hk : k ≤ 30) : vp_in (x &&& m) (2 ^ k) := by
  obtain ⟨j, hj, e⟩ := pk_andE x k hm
  rw [e]
  exact vp_in_nI hj (Nat.lt_of_le_of_lt (Nat.pow_le_pow_right (by decide) hk) (by decide))
theorem pk_shl (a s : Int32) (k : Nat) (hs : (s.toBitVec.smod 32).toNat = k) : (a <<< s).toBitVec.toNat = a.toBitVec.toNat * 2 ^ k % 2 ^ 32 := by
  show (a.toBitVec <<< (s.toBitVec.smod 32).toNat).toNat = _
  rw [hs, BitVec.toNat_shiftLeft, Nat.shiftLeft_eq]
theorem pk_shlN {n : Nat} (s : Int32) (k : Nat) (hs : (s.toBitVec.smod 32).toNat = k) (h : n * 2 ^ k < 2 ^ 32) : nI n <<< s = nI (n * 2 ^ k) := by
  apply Int32.toBitVec_inj.mp
  apply BitVec.eq_of_toNat_eq
  have hn : n < 2 ^ 32 := Nat.lt_of_le_of_lt (Nat.le_mul_of_pos_right n (Nat.two_pow_pos k)) h
  rw [pk_shl _ _ k hs, pk_tn hn, pk_tn h, Nat.mod_eq_of_lt h]
theorem pk_shr (a s : Int32) (k : Nat) (hs : (s.toBitVec.smod 32).toNat = k) : (a >>> s).toInt = a.toInt >>> k := by
  show (a.toBitVec.sshiftRight (s.toBitVec.smod 32).toNat).toInt = _
  rw [hs, BitVec.toInt_sshiftRight]
  rfl
theorem pk_shrN {n : Nat} (h : n < 2 ^ 31) (s : Int32) (k : Nat) (hs : (s.toBitVec.smod 32).toNat = k) : nI n >>> s = nI (n / 2 ^ k) := by
  apply Int32.toInt_inj.mp
  have h2 : n / 2 ^ k ≤ n := Nat.div_le_self _ _
  rw [pk_shr _ _ k hs, nI_toInt h, nI_toInt (by omega), Int.shiftRight_eq_div_pow]
  rfl
theorem pk_ushr (x s : Int32) (k : Nat) (hs : ((s.toUInt32 &&& Int32.toUInt32 31).toBitVec % 32).toNat = k) : (x.toUInt32 >>> (s.toUInt32 &&& Int32.toUInt32 31)).toInt32.toBitVec.toNat = x.toBitVec.toNat / 2 ^ k := by
  have e : (x.toUInt32 >>> (s.toUInt32 &&& Int32.toUInt32 31)).toInt32.toBitVec = x.toBitVec >>> k := by
    rw [← hs]
    exact UInt32.toBitVec_shiftRight _ _
  rw [e, BitVec.toNat_ushiftRight, Nat.shiftRight_eq_div_pow]
theorem pk_ushrN {n : Nat} (hn : n < 2 ^ 32) (s : Int32) (k : Nat) (hs : ((s.toUInt32 &&& Int32.toUInt32 31).toBitVec % 32).toNat = k) : ((nI n).toUInt32 >>> (s.toUInt32 &&& Int32.toUInt32 31)).toInt32 = nI (n / 2 ^ k) := by
  apply Int32.toBitVec_inj.mp
  apply BitVec.eq_of_toNat_eq
  rw [pk_ushr _ s k hs, pk_tn hn, pk_tn (Nat.lt_of_le_of_lt (Nat.div_le_self _ _) hn)]
theorem pk_nb (z : Int32) : narrow .byte (.int z.toInt8.toInt32) = .int z.toInt8.toInt32 := congrArg Value.int (by simp)
theorem pk_ns (z : Int32) : narrow .short (.int z.toInt16.toInt32) = .int z.toInt16.toInt32 := congrArg Value.int (by simp)
theorem pk_fb (r : Int32) : fits .byte (.int r.toInt8.toInt32) = true := by
  have ⟨a, b⟩ := lg_i2b_range r
  have h1 : (-128 : Int32).toInt = -128 := by decide
  have h2 : (127 : Int32).toInt = 127 := by decide
  simp only [fits, Bool.and_eq_true, decide_eq_true_eq, Int32.le_iff_toInt_le, h1, h2]
  omega
theorem pk_fs (r : Int32) : fits .short (.int r.toInt16.toInt32) = true := by
  have ⟨a, b⟩ := lg_i2s_range r
  have h1 : (-32768 : Int32).toInt = -32768 := by decide
  have h2 : (32767 : Int32).toInt = 32767 := by decide
  simp only [fits, Bool.and_eq_true, decide_eq_true_eq, Int32.le_iff_toInt_le, h1, h2]
  omega
theorem pk_charN {q : Nat} (hq : q < 65536) : narrow .char (.int (nI q)) = .int (nI q) ∧ fits .char (.int (nI q)) = true := by
  constructor
  · have e : (nI q).toUInt32.toUInt16.toUInt32.toInt32 = nI q := by
      apply Int32.toBitVec_inj.mp
      apply BitVec.eq_of_toNat_eq
      show (nI q).toUInt32.toUInt16.toUInt32.toNat = q % 2 ^ 32
      rw [UInt16.toNat_toUInt32, UInt32.toNat_toUInt16, show (nI q).toUInt32.toNat = q % 2 ^ 32 from rfl]
      omega
    exact congrArg Value.int e
  · have a : (0 : Int32) ≤ nI q := nI_pos' (by omega)
    have b : nI q ≤ 65535 := nI_le (b := 65535) (by omega) (by decide)
    show (decide ((0 : Int32) ≤ nI q) && decide (nI q ≤ 65535)) = true
    rw [decide_eq_true a, decide_eq_true b]
    rfl
theorem pk_char (x : Int32) : (x.toUInt32 % 65536).toInt32 = nI (x.toBitVec.toNat % 65536) := by
  apply Int32.toBitVec_inj.mp
  apply BitVec.eq_of_toNat_eq
  rw [pk_tn (by omega)]
  show (x.toUInt32 % 65536).toNat = _
  rw [UInt32.toNat_mod]
  rfl
theorem pk_nc (x : Int32) : narrow .char (.int (x.toUInt32 % 65536).toInt32) = .int (x.toUInt32 % 65536).toInt32 := by
  rw [pk_char]
  exact (pk_charN (Nat.mod_lt _ (by decide))).1
theorem pk_fc (x : Int32) : fits .char (.int (x.toUInt32 % 65536).toInt32) = true := by
  rw [pk_char]
  exact (pk_charN (Nat.mod_lt _ (by decide))).2
theorem pk_vb (z : Int32) : vp_nar .byte z.toInt8.toInt32 = z.toInt8.toInt32 := by rw [vp_nar_byte]; simp
theorem pk_vs (z : Int32) : vp_nar .short z.toInt16.toInt32 = z.toInt16.toInt32 := by rw [vp_nar_short]; simp
theorem pk_vc (z : Int32) : vp_nar .char (z.toUInt32 % 65536).toInt32 = (z.toUInt32 % 65536).toInt32 := Value.int.inj (pk_nc z)
theorem pk_lT {n : Nat} (h : n < 2 ^ 63) : (lN n).toInt = (n : Int) := lg_ofNat_toInt h
theorem pk_lLT {a b : Nat} (ha : a < 2 ^ 63) (hb : b < 2 ^ 63) : lN a < lN b ↔ a < b := by
  rw [Int64.lt_iff_toInt_lt, pk_lT ha, pk_lT hb]; omega
theorem pk_lLE {a b : Nat} (ha : a < 2 ^ 63) (hb : b < 2 ^ 63) : lN a ≤ lN b ↔ a ≤ b := by
  rw [Int64.le_iff_toInt_le, pk_lT ha, pk_lT hb]; omega
theorem pk_lEQ {a b : Nat} (ha : a < 2 ^ 63) (hb : b < 2 ^ 63) : lN a = lN b ↔ a = b := by
  rw [← Int64.toInt_inj, pk_lT ha, pk_lT hb]; omega
theorem pk_lOf {x : Int64} (h : ¬ x < 0) : ∃ k : Nat, k < 2 ^ 63 ∧ x = lN k := by
  rw [Int64.lt_iff_toInt_lt] at h
  have h0 : (0 : Int64).toInt = 0 := by decide
  have hx := Int64.toInt_lt x
  refine ⟨x.toInt.toNat, by omega, Int64.toInt_inj.mp ?_⟩
  rw [pk_lT (by omega)]
  omega
theorem pk_lDiv {a b : Nat} (ha : a < 2 ^ 63) (h0 : 0 < b) (hb : b < 2 ^ 63) : lN a / lN b = lN (a / b) := by
  apply Int64.toInt_inj.mp
  rw [lg_ldiv_nonneg (by rw [pk_lT ha]; omega) (by rw [pk_lT hb]; omega), pk_lT ha, pk_lT hb, pk_lT (Nat.lt_of_le_of_lt (Nat.div_le_self a b) ha)]
  rfl
theorem pk_lRem {a b : Nat} (ha : a < 2 ^ 63) (h0 : 0 < b) (hb : b < 2 ^ 63) : lN a - lN a / lN b * lN b = lN (a % b) := by
  rw [pk_lDiv ha h0 hb, lN_mul, lN_sub (Nat.div_mul_le_self a b)]
  exact congrArg lN (by have := Nat.div_add_mod' a b; omega)
theorem pk_loop {σ : Type} (W : Nat → Nat → σ → Prop) (I : Nat → σ → Prop) (e i0 : Nat) (s : σ) (hi : i0 ≤ e) (h0 : I i0 s) (hx : ∀ n s, I e s → W (n + 1) e s)
    (hs : ∀ n i s, i < e → I i s → (∀ s', I (i + 1) s' → W n (i + 1) s') → W (n + 1) i s) : ∃ n, W n i0 s :=
  ⟨e + 1, loop_i W I e hx hs (e + 1) i0 s hi (by omega) h0⟩
theorem pk_loopD {σ : Type} (W : Nat → Nat → σ → Prop) (I : Nat → σ → Prop) (hx : ∀ n s, I 0 s → W (n + 1) 0 s)
    (hs : ∀ n i s, I (i + 1) s → (∀ s', I i s' → W n i s') → W (n + 1) (i + 1) s) : ∀ (e : Nat) (s : σ), I e s → W (e + 1) e s := by
  intro e
  induction e with
  | zero => exact fun s h => hx 0 s h
  | succ e ih => exact fun s h => hs (e + 1) e s h (fun s' h' => ih s' h')
theorem lp1 {A1 : Type} (W : Nat → A1 → Prop) (I : A1 → Prop) (μ : A1 → Nat) (hs : ∀ (n : Nat) (a1 : A1), I a1 → (∀ (b1 : A1), I b1 → μ b1 < μ a1 → W n b1) → W (n + 1) a1) (a1 : A1) (h : I a1) : ∃ n, W n a1 :=
  loop_m (σ := A1) (fun n s => W n s) (fun s => I s) (fun s => μ s) (fun n s hI hk => hs n s hI (fun b1 h9 hm => hk b1 h9 hm)) a1 h
theorem lp2 {A1 A2 : Type} (W : Nat → A1 → A2 → Prop) (I : A1 → A2 → Prop) (μ : A1 → A2 → Nat) (hs : ∀ (n : Nat) (a1 : A1) (a2 : A2), I a1 a2 → (∀ (b1 : A1) (b2 : A2), I b1 b2 → μ b1 b2 < μ a1 a2 → W n b1 b2) → W (n + 1) a1 a2) (a1 : A1) (a2 : A2) (h : I a1 a2) : ∃ n, W n a1 a2 :=
  loop_m (σ := A1 × A2) (fun n s => W n s.1 s.2) (fun s => I s.1 s.2) (fun s => μ s.1 s.2) (fun n s hI hk => hs n s.1 s.2 hI (fun b1 b2 h9 hm => hk (b1, b2) h9 hm)) (a1, a2) h
theorem lp3 {A1 A2 A3 : Type} (W : Nat → A1 → A2 → A3 → Prop) (I : A1 → A2 → A3 → Prop) (μ : A1 → A2 → A3 → Nat) (hs : ∀ (n : Nat) (a1 : A1) (a2 : A2) (a3 : A3), I a1 a2 a3 → (∀ (b1 : A1) (b2 : A2) (b3 : A3), I b1 b2 b3 → μ b1 b2 b3 < μ a1 a2 a3 → W n b1 b2 b3) → W (n + 1) a1 a2 a3) (a1 : A1) (a2 : A2) (a3 : A3) (h : I a1 a2 a3) : ∃ n, W n a1 a2 a3 :=
  loop_m (σ := A1 × A2 × A3) (fun n s => W n s.1 s.2.1 s.2.2) (fun s => I s.1 s.2.1 s.2.2) (fun s => μ s.1 s.2.1 s.2.2) (fun n s hI hk => hs n s.1 s.2.1 s.2.2 hI (fun b1 b2 b3 h9 hm => hk (b1, b2, b3) h9 hm)) (a1, a2, a3) h
theorem lp4 {A1 A2 A3 A4 : Type} (W : Nat → A1 → A2 → A3 → A4 → Prop) (I : A1 → A2 → A3 → A4 → Prop) (μ : A1 → A2 → A3 → A4 → Nat) (hs : ∀ (n : Nat) (a1 : A1) (a2 : A2) (a3 : A3) (a4 : A4), I a1 a2 a3 a4 → (∀ (b1 : A1) (b2 : A2) (b3 : A3) (b4 : A4), I b1 b2 b3 b4 → μ b1 b2 b3 b4 < μ a1 a2 a3 a4 → W n b1 b2 b3 b4) → W (n + 1) a1 a2 a3 a4) (a1 : A1) (a2 : A2) (a3 : A3) (a4 : A4) (h : I a1 a2 a3 a4) : ∃ n, W n a1 a2 a3 a4 :=
  loop_m (σ := A1 × A2 × A3 × A4) (fun n s => W n s.1 s.2.1 s.2.2.1 s.2.2.2) (fun s => I s.1 s.2.1 s.2.2.1 s.2.2.2) (fun s => μ s.1 s.2.1 s.2.2.1 s.2.2.2) (fun n s hI hk => hs n s.1 s.2.1 s.2.2.1 s.2.2.2 hI (fun b1 b2 b3 b4 h9 hm => hk (b1, b2, b3, b4) h9 hm)) (a1, a2, a3, a4) h
theorem lp5 {A1 A2 A3 A4 A5 : Type} (W : Nat → A1 → A2 → A3 → A4 → A5 → Prop) (I : A1 → A2 → A3 → A4 → A5 → Prop) (μ : A1 → A2 → A3 → A4 → A5 → Nat) (hs : ∀ (n : Nat) (a1 : A1) (a2 : A2) (a3 : A3) (a4 : A4) (a5 : A5), I a1 a2 a3 a4 a5 → (∀ (b1 : A1) (b2 : A2) (b3 : A3) (b4 : A4) (b5 : A5), I b1 b2 b3 b4 b5 → μ b1 b2 b3 b4 b5 < μ a1 a2 a3 a4 a5 → W n b1 b2 b3 b4 b5) → W (n + 1) a1 a2 a3 a4 a5) (a1 : A1) (a2 : A2) (a3 : A3) (a4 : A4) (a5 : A5) (h : I a1 a2 a3 a4 a5) : ∃ n, W n a1 a2 a3 a4 a5 :=
  loop_m (σ := A1 × A2 × A3 × A4 × A5) (fun n s => W n s.1 s.2.1 s.2.2.1 s.2.2.2.1 s.2.2.2.2) (fun s => I s.1 s.2.1 s.2.2.1 s.2.2.2.1 s.2.2.2.2) (fun s => μ s.1 s.2.1 s.2.2.1 s.2.2.2.1 s.2.2.2.2) (fun n s hI hk => hs n s.1 s.2.1 s.2.2.1 s.2.2.2.1 s.2.2.2.2 hI (fun b1 b2 b3 b4 b5 h9 hm => hk (b1, b2, b3, b4, b5) h9 hm)) (a1, a2, a3, a4, a5) h
theorem lp6 {A1 A2 A3 A4 A5 A6 : Type} (W : Nat → A1 → A2 → A3 → A4 → A5 → A6 → Prop) (I : A1 → A2 → A3 → A4 → A5 → A6 → Prop) (μ : A1 → A2 → A3 → A4 → A5 → A6 → Nat) (hs : ∀ (n : Nat) (a1 : A1) (a2 : A2) (a3 : A3) (a4 : A4) (a5 : A5) (a6 : A6), I a1 a2 a3 a4 a5 a6 → (∀ (b1 : A1) (b2 : A2) (b3 : A3) (b4 : A4) (b5 : A5) (b6 : A6), I b1 b2 b3 b4 b5 b6 → μ b1 b2 b3 b4 b5 b6 < μ a1 a2 a3 a4 a5 a6 → W n b1 b2 b3 b4 b5 b6) → W (n + 1) a1 a2 a3 a4 a5 a6) (a1 : A1) (a2 : A2) (a3 : A3) (a4 : A4) (a5 : A5) (a6 : A6) (h : I a1 a2 a3 a4 a5 a6) : ∃ n, W n a1 a2 a3 a4 a5 a6 :=
  loop_m (σ := A1 × A2 × A3 × A4 × A5 × A6) (fun n s => W n s.1 s.2.1 s.2.2.1 s.2.2.2.1 s.2.2.2.2.1 s.2.2.2.2.2) (fun s => I s.1 s.2.1 s.2.2.1 s.2.2.2.1 s.2.2.2.2.1 s.2.2.2.2.2) (fun s => μ s.1 s.2.1 s.2.2.1 s.2.2.2.1 s.2.2.2.2.1 s.2.2.2.2.2) (fun n s hI hk => hs n s.1 s.2.1 s.2.2.1 s.2.2.2.1 s.2.2.2.2.1 s.2.2.2.2.2 hI (fun b1 b2 b3 b4 b5 b6 h9 hm => hk (b1, b2, b3, b4, b5, b6) h9 hm)) (a1, a2, a3, a4, a5, a6) h
theorem lp7 {A1 A2 A3 A4 A5 A6 A7 : Type} (W : Nat → A1 → A2 → A3 → A4 → A5 → A6 → A7 → Prop) (I : A1 → A2 → A3 → A4 → A5 → A6 → A7 → Prop) (μ : A1 → A2 → A3 → A4 → A5 → A6 → A7 → Nat) (hs : ∀ (n : Nat) (a1 : A1) (a2 : A2) (a3 : A3) (a4 : A4) (a5 : A5) (a6 : A6) (a7 : A7), I a1 a2 a3 a4 a5 a6 a7 → (∀ (b1 : A1) (b2 : A2) (b3 : A3) (b4 : A4) (b5 : A5) (b6 : A6) (b7 : A7), I b1 b2 b3 b4 b5 b6 b7 → μ b1 b2 b3 b4 b5 b6 b7 < μ a1 a2 a3 a4 a5 a6 a7 → W n b1 b2 b3 b4 b5 b6 b7) → W (n + 1) a1 a2 a3 a4 a5 a6 a7) (a1 : A1) (a2 : A2) (a3 : A3) (a4 : A4) (a5 : A5) (a6 : A6) (a7 : A7) (h : I a1 a2 a3 a4 a5 a6 a7) : ∃ n, W n a1 a2 a3 a4 a5 a6 a7 :=
  loop_m (σ := A1 × A2 × A3 × A4 × A5 × A6 × A7) (fun n s => W n s.1 s.2.1 s.2.2.1 s.2.2.2.1 s.2.2.2.2.1 s.2.2.2.2.2.1 s.2.2.2.2.2.2) (fun s => I s.1 s.2.1 s.2.2.1 s.2.2.2.1 s.2.2.2.2.1 s.2.2.2.2.2.1 s.2.2.2.2.2.2) (fun s => μ s.1 s.2.1 s.2.2.1 s.2.2.2.1 s.2.2.2.2.1 s.2.2.2.2.2.1 s.2.2.2.2.2.2) (fun n s hI hk => hs n s.1 s.2.1 s.2.2.1 s.2.2.2.1 s.2.2.2.2.1 s.2.2.2.2.2.1 s.2.2.2.2.2.2 hI (fun b1 b2 b3 b4 b5 b6 b7 h9 hm => hk (b1, b2, b3, b4, b5, b6, b7) h9 hm)) (a1, a2, a3, a4, a5, a6, a7) h
theorem lp8 {A1 A2 A3 A4 A5 A6 A7 A8 : Type} (W : Nat → A1 → A2 → A3 → A4 → A5 → A6 → A7 → A8 → Prop) (I : A1 → A2 → A3 → A4 → A5 → A6 → A7 → A8 → Prop) (μ : A1 → A2 → A3 → A4 → A5 → A6 → A7 → A8 → Nat) (hs : ∀ (n : Nat) (a1 : A1) (a2 : A2) (a3 : A3) (a4 : A4) (a5 : A5) (a6 : A6) (a7 : A7) (a8 : A8), I a1 a2 a3 a4 a5 a6 a7 a8 → (∀ (b1 : A1) (b2 : A2) (b3 : A3) (b4 : A4) (b5 : A5) (b6 : A6) (b7 : A7) (b8 : A8), I b1 b2 b3 b4 b5 b6 b7 b8 → μ b1 b2 b3 b4 b5 b6 b7 b8 < μ a1 a2 a3 a4 a5 a6 a7 a8 → W n b1 b2 b3 b4 b5 b6 b7 b8) → W (n + 1) a1 a2 a3 a4 a5 a6 a7 a8) (a1 : A1) (a2 : A2) (a3 : A3) (a4 : A4) (a5 : A5) (a6 : A6) (a7 : A7) (a8 : A8) (h : I a1 a2 a3 a4 a5 a6 a7 a8) : ∃ n, W n a1 a2 a3 a4 a5 a6 a7 a8 :=
  loop_m (σ := A1 × A2 × A3 × A4 × A5 × A6 × A7 × A8) (fun n s => W n s.1 s.2.1 s.2.2.1 s.2.2.2.1 s.2.2.2.2.1 s.2.2.2.2.2.1 s.2.2.2.2.2.2.1 s.2.2.2.2.2.2.2) (fun s => I s.1 s.2.1 s.2.2.1 s.2.2.2.1 s.2.2.2.2.1 s.2.2.2.2.2.1 s.2.2.2.2.2.2.1 s.2.2.2.2.2.2.2) (fun s => μ s.1 s.2.1 s.2.2.1 s.2.2.2.1 s.2.2.2.2.1 s.2.2.2.2.2.1 s.2.2.2.2.2.2.1 s.2.2.2.2.2.2.2) (fun n s hI hk => hs n s.1 s.2.1 s.2.2.1 s.2.2.2.1 s.2.2.2.2.1 s.2.2.2.2.2.1 s.2.2.2.2.2.2.1 s.2.2.2.2.2.2.2 hI (fun b1 b2 b3 b4 b5 b6 b7 b8 h9 hm => hk (b1, b2, b3, b4, b5, b6, b7, b8) h9 hm)) (a1, a2, a3, a4, a5, a6, a7, a8) h
theorem lp9 {A1 A2 A3 A4 A5 A6 A7 A8 A9 : Type} (W : Nat → A1 → A2 → A3 → A4 → A5 → A6 → A7 → A8 → A9 → Prop) (I : A1 → A2 → A3 → A4 → A5 → A6 → A7 → A8 → A9 → Prop) (μ : A1 → A2 → A3 → A4 → A5 → A6 → A7 → A8 → A9 → Nat) (hs : ∀ (n : Nat) (a1 : A1) (a2 : A2) (a3 : A3) (a4 : A4) (a5 : A5) (a6 : A6) (a7 : A7) (a8 : A8) (a9 : A9), I a1 a2 a3 a4 a5 a6 a7 a8 a9 → (∀ (b1 : A1) (b2 : A2) (b3 : A3) (b4 : A4) (b5 : A5) (b6 : A6) (b7 : A7) (b8 : A8) (b9 : A9), I b1 b2 b3 b4 b5 b6 b7 b8 b9 → μ b1 b2 b3 b4 b5 b6 b7 b8 b9 < μ a1 a2 a3 a4 a5 a6 a7 a8 a9 → W n b1 b2 b3 b4 b5 b6 b7 b8 b9) → W (n + 1) a1 a2 a3 a4 a5 a6 a7 a8 a9) (a1 : A1) (a2 : A2) (a3 : A3) (a4 : A4) (a5 : A5) (a6 : A6) (a7 : A7) (a8 : A8) (a9 : A9) (h : I a1 a2 a3 a4 a5 a6 a7 a8 a9) : ∃ n, W n a1 a2 a3 a4 a5 a6 a7 a8 a9 :=
  loop_m (σ := A1 × A2 × A3 × A4 × A5 × A6 × A7 × A8 × A9) (fun n s => W n s.1 s.2.1 s.2.2.1 s.2.2.2.1 s.2.2.2.2.1 s.2.2.2.2.2.1 s.2.2.2.2.2.2.1 s.2.2.2.2.2.2.2.1 s.2.2.2.2.2.2.2.2) (fun s => I s.1 s.2.1 s.2.2.1 s.2.2.2.1 s.2.2.2.2.1 s.2.2.2.2.2.1 s.2.2.2.2.2.2.1 s.2.2.2.2.2.2.2.1 s.2.2.2.2.2.2.2.2) (fun s => μ s.1 s.2.1 s.2.2.1 s.2.2.2.1 s.2.2.2.2.1 s.2.2.2.2.2.1 s.2.2.2.2.2.2.1 s.2.2.2.2.2.2.2.1 s.2.2.2.2.2.2.2.2) (fun n s hI hk => hs n s.1 s.2.1 s.2.2.1 s.2.2.2.1 s.2.2.2.2.1 s.2.2.2.2.2.1 s.2.2.2.2.2.2.1 s.2.2.2.2.2.2.2.1 s.2.2.2.2.2.2.2.2 hI (fun b1 b2 b3 b4 b5 b6 b7 b8 b9 h9 hm => hk (b1, b2, b3, b4, b5, b6, b7, b8, b9) h9 hm)) (a1, a2, a3, a4, a5, a6, a7, a8, a9) h
theorem lp10 {A1 A2 A3 A4 A5 A6 A7 A8 A9 A10 : Type} (W : Nat → A1 → A2 → A3 → A4 → A5 → A6 → A7 → A8 → A9 → A10 → Prop) (I : A1 → A2 → A3 → A4 → A5 → A6 → A7 → A8 → A9 → A10 → Prop) (μ : A1 → A2 → A3 → A4 → A5 → A6 → A7 → A8 → A9 → A10 → Nat) (hs : ∀ (n : Nat) (a1 : A1) (a2 : A2) (a3 : A3) (a4 : A4) (a5 : A5) (a6 : A6) (a7 : A7) (a8 : A8) (a9 : A9) (a10 : A10), I a1 a2 a3 a4 a5 a6 a7 a8 a9 a10 → (∀ (b1 : A1) (b2 : A2) (b3 : A3) (b4 : A4) (b5 : A5) (b6 : A6) (b7 : A7) (b8 : A8) (b9 : A9) (b10 : A10), I b1 b2 b3 b4 b5 b6 b7 b8 b9 b10 → μ b1 b2 b3 b4 b5 b6 b7 b8 b9 b10 < μ a1 a2 a3 a4 a5 a6 a7 a8 a9 a10 → W n b1 b2 b3 b4 b5 b6 b7 b8 b9 b10) → W (n + 1) a1 a2 a3 a4 a5 a6 a7 a8 a9 a10) (a1 : A1) (a2 : A2) (a3 : A3) (a4 : A4) (a5 : A5) (a6 : A6) (a7 : A7) (a8 : A8) (a9 : A9) (a10 : A10) (h : I a1 a2 a3 a4 a5 a6 a7 a8 a9 a10) : ∃ n, W n a1 a2 a3 a4 a5 a6 a7 a8 a9 a10 :=
  loop_m (σ := A1 × A2 × A3 × A4 × A5 × A6 × A7 × A8 × A9 × A10) (fun n s => W n s.1 s.2.1 s.2.2.1 s.2.2.2.1 s.2.2.2.2.1 s.2.2.2.2.2.1 s.2.2.2.2.2.2.1 s.2.2.2.2.2.2.2.1 s.2.2.2.2.2.2.2.2.1 s.2.2.2.2.2.2.2.2.2) (fun s => I s.1 s.2.1 s.2.2.1 s.2.2.2.1 s.2.2.2.2.1 s.2.2.2.2.2.1 s.2.2.2.2.2.2.1 s.2.2.2.2.2.2.2.1 s.2.2.2.2.2.2.2.2.1 s.2.2.2.2.2.2.2.2.2) (fun s => μ s.1 s.2.1 s.2.2.1 s.2.2.2.1 s.2.2.2.2.1 s.2.2.2.2.2.1 s.2.2.2.2.2.2.1 s.2.2.2.2.2.2.2.1 s.2.2.2.2.2.2.2.2.1 s.2.2.2.2.2.2.2.2.2) (fun n s hI hk => hs n s.1 s.2.1 s.2.2.1 s.2.2.2.1 s.2.2.2.2.1 s.2.2.2.2.2.1 s.2.2.2.2.2.2.1 s.2.2.2.2.2.2.2.1 s.2.2.2.2.2.2.2.2.1 s.2.2.2.2.2.2.2.2.2 hI (fun b1 b2 b3 b4 b5 b6 b7 b8 b9 b10 h9 hm => hk (b1, b2, b3, b4, b5, b6, b7, b8, b9, b10) h9 hm)) (a1, a2, a3, a4, a5, a6, a7, a8, a9, a10) h
theorem lp11 {A1 A2 A3 A4 A5 A6 A7 A8 A9 A10 A11 : Type} (W : Nat → A1 → A2 → A3 → A4 → A5 → A6 → A7 → A8 → A9 → A10 → A11 → Prop) (I : A1 → A2 → A3 → A4 → A5 → A6 → A7 → A8 → A9 → A10 → A11 → Prop) (μ : A1 → A2 → A3 → A4 → A5 → A6 → A7 → A8 → A9 → A10 → A11 → Nat) (hs : ∀ (n : Nat) (a1 : A1) (a2 : A2) (a3 : A3) (a4 : A4) (a5 : A5) (a6 : A6) (a7 : A7) (a8 : A8) (a9 : A9) (a10 : A10) (a11 : A11), I a1 a2 a3 a4 a5 a6 a7 a8 a9 a10 a11 → (∀ (b1 : A1) (b2 : A2) (b3 : A3) (b4 : A4) (b5 : A5) (b6 : A6) (b7 : A7) (b8 : A8) (b9 : A9) (b10 : A10) (b11 : A11), I b1 b2 b3 b4 b5 b6 b7 b8 b9 b10 b11 → μ b1 b2 b3 b4 b5 b6 b7 b8 b9 b10 b11 < μ a1 a2 a3 a4 a5 a6 a7 a8 a9 a10 a11 → W n b1 b2 b3 b4 b5 b6 b7 b8 b9 b10 b11) → W (n + 1) a1 a2 a3 a4 a5 a6 a7 a8 a9 a10 a11) (a1 : A1) (a2 : A2) (a3 : A3) (a4 : A4) (a5 : A5) (a6 : A6) (a7 : A7) (a8 : A8) (a9 : A9) (a10 : A10) (a11 : A11) (h : I a1 a2 a3 a4 a5 a6 a7 a8 a9 a10 a11) : ∃ n, W n a1 a2 a3 a4 a5 a6 a7 a8 a9 a10 a11 :=
  loop_m (σ := A1 × A2 × A3 × A4 × A5 × A6 × A7 × A8 × A9 × A10 × A11) (fun n s => W n s.1 s.2.1 s.2.2.1 s.2.2.2.1 s.2.2.2.2.1 s.2.2.2.2.2.1 s.2.2.2.2.2.2.1 s.2.2.2.2.2.2.2.1 s.2.2.2.2.2.2.2.2.1 s.2.2.2.2.2.2.2.2.2.1 s.2.2.2.2.2.2.2.2.2.2) (fun s => I s.1 s.2.1 s.2.2.1 s.2.2.2.1 s.2.2.2.2.1 s.2.2.2.2.2.1 s.2.2.2.2.2.2.1 s.2.2.2.2.2.2.2.1 s.2.2.2.2.2.2.2.2.1 s.2.2.2.2.2.2.2.2.2.1 s.2.2.2.2.2.2.2.2.2.2) (fun s => μ s.1 s.2.1 s.2.2.1 s.2.2.2.1 s.2.2.2.2.1 s.2.2.2.2.2.1 s.2.2.2.2.2.2.1 s.2.2.2.2.2.2.2.1 s.2.2.2.2.2.2.2.2.1 s.2.2.2.2.2.2.2.2.2.1 s.2.2.2.2.2.2.2.2.2.2) (fun n s hI hk => hs n s.1 s.2.1 s.2.2.1 s.2.2.2.1 s.2.2.2.2.1 s.2.2.2.2.2.1 s.2.2.2.2.2.2.1 s.2.2.2.2.2.2.2.1 s.2.2.2.2.2.2.2.2.1 s.2.2.2.2.2.2.2.2.2.1 s.2.2.2.2.2.2.2.2.2.2 hI (fun b1 b2 b3 b4 b5 b6 b7 b8 b9 b10 b11 h9 hm => hk (b1, b2, b3, b4, b5, b6, b7, b8, b9, b10, b11) h9 hm)) (a1, a2, a3, a4, a5, a6, a7, a8, a9, a10, a11) h
theorem lp12 {A1 A2 A3 A4 A5 A6 A7 A8 A9 A10 A11 A12 : Type} (W : Nat → A1 → A2 → A3 → A4 → A5 → A6 → A7 → A8 → A9 → A10 → A11 → A12 → Prop) (I : A1 → A2 → A3 → A4 → A5 → A6 → A7 → A8 → A9 → A10 → A11 → A12 → Prop) (μ : A1 → A2 → A3 → A4 → A5 → A6 → A7 → A8 → A9 → A10 → A11 → A12 → Nat) (hs : ∀ (n : Nat) (a1 : A1) (a2 : A2) (a3 : A3) (a4 : A4) (a5 : A5) (a6 : A6) (a7 : A7) (a8 : A8) (a9 : A9) (a10 : A10) (a11 : A11) (a12 : A12), I a1 a2 a3 a4 a5 a6 a7 a8 a9 a10 a11 a12 → (∀ (b1 : A1) (b2 : A2) (b3 : A3) (b4 : A4) (b5 : A5) (b6 : A6) (b7 : A7) (b8 : A8) (b9 : A9) (b10 : A10) (b11 : A11) (b12 : A12), I b1 b2 b3 b4 b5 b6 b7 b8 b9 b10 b11 b12 → μ b1 b2 b3 b4 b5 b6 b7 b8 b9 b10 b11 b12 < μ a1 a2 a3 a4 a5 a6 a7 a8 a9 a10 a11 a12 → W n b1 b2 b3 b4 b5 b6 b7 b8 b9 b10 b11 b12) → W (n + 1) a1 a2 a3 a4 a5 a6 a7 a8 a9 a10 a11 a12) (a1 : A1) (a2 : A2) (a3 : A3) (a4 : A4) (a5 : A5) (a6 : A6) (a7 : A7) (a8 : A8) (a9 : A9) (a10 : A10) (a11 : A11) (a12 : A12) (h : I a1 a2 a3 a4 a5 a6 a7 a8 a9 a10 a11 a12) : ∃ n, W n a1 a2 a3 a4 a5 a6 a7 a8 a9 a10 a11 a12 :=
  loop_m (σ := A1 × A2 × A3 × A4 × A5 × A6 × A7 × A8 × A9 × A10 × A11 × A12) (fun n s => W n s.1 s.2.1 s.2.2.1 s.2.2.2.1 s.2.2.2.2.1 s.2.2.2.2.2.1 s.2.2.2.2.2.2.1 s.2.2.2.2.2.2.2.1 s.2.2.2.2.2.2.2.2.1 s.2.2.2.2.2.2.2.2.2.1 s.2.2.2.2.2.2.2.2.2.2.1 s.2.2.2.2.2.2.2.2.2.2.2) (fun s => I s.1 s.2.1 s.2.2.1 s.2.2.2.1 s.2.2.2.2.1 s.2.2.2.2.2.1 s.2.2.2.2.2.2.1 s.2.2.2.2.2.2.2.1 s.2.2.2.2.2.2.2.2.1 s.2.2.2.2.2.2.2.2.2.1 s.2.2.2.2.2.2.2.2.2.2.1 s.2.2.2.2.2.2.2.2.2.2.2) (fun s => μ s.1 s.2.1 s.2.2.1 s.2.2.2.1 s.2.2.2.2.1 s.2.2.2.2.2.1 s.2.2.2.2.2.2.1 s.2.2.2.2.2.2.2.1 s.2.2.2.2.2.2.2.2.1 s.2.2.2.2.2.2.2.2.2.1 s.2.2.2.2.2.2.2.2.2.2.1 s.2.2.2.2.2.2.2.2.2.2.2) (fun n s hI hk => hs n s.1 s.2.1 s.2.2.1 s.2.2.2.1 s.2.2.2.2.1 s.2.2.2.2.2.1 s.2.2.2.2.2.2.1 s.2.2.2.2.2.2.2.1 s.2.2.2.2.2.2.2.2.1 s.2.2.2.2.2.2.2.2.2.1 s.2.2.2.2.2.2.2.2.2.2.1 s.2.2.2.2.2.2.2.2.2.2.2 hI (fun b1 b2 b3 b4 b5 b6 b7 b8 b9 b10 b11 b12 h9 hm => hk (b1, b2, b3, b4, b5, b6, b7, b8, b9, b10, b11, b12) h9 hm)) (a1, a2, a3, a4, a5, a6, a7, a8, a9, a10, a11, a12) h
theorem lp13 {A1 A2 A3 A4 A5 A6 A7 A8 A9 A10 A11 A12 A13 : Type} (W : Nat → A1 → A2 → A3 → A4 → A5 → A6 → A7 → A8 → A9 → A10 → A11 → A12 → A13 → Prop) (I : A1 → A2 → A3 → A4 → A5 → A6 → A7 → A8 → A9 → A10 → A11 → A12 → A13 → Prop) (μ : A1 → A2 → A3 → A4 → A5 → A6 → A7 → A8 → A9 → A10 → A11 → A12 → A13 → Nat) (hs : ∀ (n : Nat) (a1 : A1) (a2 : A2) (a3 : A3) (a4 : A4) (a5 : A5) (a6 : A6) (a7 : A7) (a8 : A8) (a9 : A9) (a10 : A10) (a11 : A11) (a12 : A12) (a13 : A13), I a1 a2 a3 a4 a5 a6 a7 a8 a9 a10 a11 a12 a13 → (∀ (b1 : A1) (b2 : A2) (b3 : A3) (b4 : A4) (b5 : A5) (b6 : A6) (b7 : A7) (b8 : A8) (b9 : A9) (b10 : A10) (b11 : A11) (b12 : A12) (b13 : A13), I b1 b2 b3 b4 b5 b6 b7 b8 b9 b10 b11 b12 b13 → μ b1 b2 b3 b4 b5 b6 b7 b8 b9 b10 b11 b12 b13 < μ a1 a2 a3 a4 a5 a6 a7 a8 a9 a10 a11 a12 a13 → W n b1 b2 b3 b4 b5 b6 b7 b8 b9 b10 b11 b12 b13) → W (n + 1) a1 a2 a3 a4 a5 a6 a7 a8 a9 a10 a11 a12 a13) (a1 : A1) (a2 : A2) (a3 : A3) (a4 : A4) (a5 : A5) (a6 : A6) (a7 : A7) (a8 : A8) (a9 : A9) (a10 : A10) (a11 : A11) (a12 : A12) (a13 : A13) (h : I a1 a2 a3 a4 a5 a6 a7 a8 a9 a10 a11 a12 a13) : ∃ n, W n a1 a2 a3 a4 a5 a6 a7 a8 a9 a10 a11 a12 a13 :=
  loop_m (σ := A1 × A2 × A3 × A4 × A5 × A6 × A7 × A8 × A9 × A10 × A11 × A12 × A13) (fun n s => W n s.1 s.2.1 s.2.2.1 s.2.2.2.1 s.2.2.2.2.1 s.2.2.2.2.2.1 s.2.2.2.2.2.2.1 s.2.2.2.2.2.2.2.1 s.2.2.2.2.2.2.2.2.1 s.2.2.2.2.2.2.2.2.2.1 s.2.2.2.2.2.2.2.2.2.2.1 s.2.2.2.2.2.2.2.2.2.2.2.1 s.2.2.2.2.2.2.2.2.2.2.2.2) (fun s => I s.1 s.2.1 s.2.2.1 s.2.2.2.1 s.2.2.2.2.1 s.2.2.2.2.2.1 s.2.2.2.2.2.2.1 s.2.2.2.2.2.2.2.1 s.2.2.2.2.2.2.2.2.1 s.2.2.2.2.2.2.2.2.2.1 s.2.2.2.2.2.2.2.2.2.2.1 s.2.2.2.2.2.2.2.2.2.2.2.1 s.2.2.2.2.2.2.2.2.2.2.2.2) (fun s => μ s.1 s.2.1 s.2.2.1 s.2.2.2.1 s.2.2.2.2.1 s.2.2.2.2.2.1 s.2.2.2.2.2.2.1 s.2.2.2.2.2.2.2.1 s.2.2.2.2.2.2.2.2.1 s.2.2.2.2.2.2.2.2.2.1 s.2.2.2.2.2.2.2.2.2.2.1 s.2.2.2.2.2.2.2.2.2.2.2.1 s.2.2.2.2.2.2.2.2.2.2.2.2) (fun n s hI hk => hs n s.1 s.2.1 s.2.2.1 s.2.2.2.1 s.2.2.2.2.1 s.2.2.2.2.2.1 s.2.2.2.2.2.2.1 s.2.2.2.2.2.2.2.1 s.2.2.2.2.2.2.2.2.1 s.2.2.2.2.2.2.2.2.2.1 s.2.2.2.2.2.2.2.2.2.2.1 s.2.2.2.2.2.2.2.2.2.2.2.1 s.2.2.2.2.2.2.2.2.2.2.2.2 hI (fun b1 b2 b3 b4 b5 b6 b7 b8 b9 b10 b11 b12 b13 h9 hm => hk (b1, b2, b3, b4, b5, b6, b7, b8, b9, b10, b11, b12, b13) h9 hm)) (a1, a2, a3, a4, a5, a6, a7, a8, a9, a10, a11, a12, a13) h
theorem lp14 {A1 A2 A3 A4 A5 A6 A7 A8 A9 A10 A11 A12 A13 A14 : Type} (W : Nat → A1 → A2 → A3 → A4 → A5 → A6 → A7 → A8 → A9 → A10 → A11 → A12 → A13 → A14 → Prop) (I : A1 → A2 → A3 → A4 → A5 → A6 → A7 → A8 → A9 → A10 → A11 → A12 → A13 → A14 → Prop) (μ : A1 → A2 → A3 → A4 → A5 → A6 → A7 → A8 → A9 → A10 → A11 → A12 → A13 → A14 → Nat) (hs : ∀ (n : Nat) (a1 : A1) (a2 : A2) (a3 : A3) (a4 : A4) (a5 : A5) (a6 : A6) (a7 : A7) (a8 : A8) (a9 : A9) (a10 : A10) (a11 : A11) (a12 : A12) (a13 : A13) (a14 : A14), I a1 a2 a3 a4 a5 a6 a7 a8 a9 a10 a11 a12 a13 a14 → (∀ (b1 : A1) (b2 : A2) (b3 : A3) (b4 : A4) (b5 : A5) (b6 : A6) (b7 : A7) (b8 : A8) (b9 : A9) (b10 : A10) (b11 : A11) (b12 : A12) (b13 : A13) (b14 : A14), I b1 b2 b3 b4 b5 b6 b7 b8 b9 b10 b11 b12 b13 b14 → μ b1 b2 b3 b4 b5 b6 b7 b8 b9 b10 b11 b12 b13 b14 < μ a1 a2 a3 a4 a5 a6 a7 a8 a9 a10 a11 a12 a13 a14 → W n b1 b2 b3 b4 b5 b6 b7 b8 b9 b10 b11 b12 b13 b14) → W (n + 1) a1 a2 a3 a4 a5 a6 a7 a8 a9 a10 a11 a12 a13 a14) (a1 : A1) (a2 : A2) (a3 : A3) (a4 : A4) (a5 : A5) (a6 : A6) (a7 : A7) (a8 : A8) (a9 : A9) (a10 : A10) (a11 : A11) (a12 : A12) (a13 : A13) (a14 : A14) (h : I a1 a2 a3 a4 a5 a6 a7 a8 a9 a10 a11 a12 a13 a14) : ∃ n, W n a1 a2 a3 a4 a5 a6 a7 a8 a9 a10 a11 a12 a13 a14 :=
  loop_m (σ := A1 × A2 × A3 × A4 × A5 × A6 × A7 × A8 × A9 × A10 × A11 × A12 × A13 × A14) (fun n s => W n s.1 s.2.1 s.2.2.1 s.2.2.2.1 s.2.2.2.2.1 s.2.2.2.2.2.1 s.2.2.2.2.2.2.1 s.2.2.2.2.2.2.2.1 s.2.2.2.2.2.2.2.2.1 s.2.2.2.2.2.2.2.2.2.1 s.2.2.2.2.2.2.2.2.2.2.1 s.2.2.2.2.2.2.2.2.2.2.2.1 s.2.2.2.2.2.2.2.2.2.2.2.2.1 s.2.2.2.2.2.2.2.2.2.2.2.2.2) (fun s => I s.1 s.2.1 s.2.2.1 s.2.2.2.1 s.2.2.2.2.1 s.2.2.2.2.2.1 s.2.2.2.2.2.2.1 s.2.2.2.2.2.2.2.1 s.2.2.2.2.2.2.2.2.1 s.2.2.2.2.2.2.2.2.2.1 s.2.2.2.2.2.2.2.2.2.2.1 s.2.2.2.2.2.2.2.2.2.2.2.1 s.2.2.2.2.2.2.2.2.2.2.2.2.1 s.2.2.2.2.2.2.2.2.2.2.2.2.2) (fun s => μ s.1 s.2.1 s.2.2.1 s.2.2.2.1 s.2.2.2.2.1 s.2.2.2.2.2.1 s.2.2.2.2.2.2.1 s.2.2.2.2.2.2.2.1 s.2.2.2.2.2.2.2.2.1 s.2.2.2.2.2.2.2.2.2.1 s.2.2.2.2.2.2.2.2.2.2.1 s.2.2.2.2.2.2.2.2.2.2.2.1 s.2.2.2.2.2.2.2.2.2.2.2.2.1 s.2.2.2.2.2.2.2.2.2.2.2.2.2) (fun n s hI hk => hs n s.1 s.2.1 s.2.2.1 s.2.2.2.1 s.2.2.2.2.1 s.2.2.2.2.2.1 s.2.2.2.2.2.2.1 s.2.2.2.2.2.2.2.1 s.2.2.2.2.2.2.2.2.1 s.2.2.2.2.2.2.2.2.2.1 s.2.2.2.2.2.2.2.2.2.2.1 s.2.2.2.2.2.2.2.2.2.2.2.1 s.2.2.2.2.2.2.2.2.2.2.2.2.1 s.2.2.2.2.2.2.2.2.2.2.2.2.2 hI (fun b1 b2 b3 b4 b5 b6 b7 b8 b9 b10 b11 b12 b13 b14 h9 hm => hk (b1, b2, b3, b4, b5, b6, b7, b8, b9, b10, b11, b12, b13, b14) h9 hm)) (a1, a2, a3, a4, a5, a6, a7, a8, a9, a10, a11, a12, a13, a14) h
theorem lp15 {A1 A2 A3 A4 A5 A6 A7 A8 A9 A10 A11 A12 A13 A14 A15 : Type} (W : Nat → A1 → A2 → A3 → A4 → A5 → A6 → A7 → A8 → A9 → A10 → A11 → A12 → A13 → A14 → A15 → Prop) (I : A1 → A2 → A3 → A4 → A5 → A6 → A7 → A8 → A9 → A10 → A11 → A12 → A13 → A14 → A15 → Prop) (μ : A1 → A2 → A3 → A4 → A5 → A6 → A7 → A8 → A9 → A10 → A11 → A12 → A13 → A14 → A15 → Nat) (hs : ∀ (n : Nat) (a1 : A1) (a2 : A2) (a3 : A3) (a4 : A4) (a5 : A5) (a6 : A6) (a7 : A7) (a8 : A8) (a9 : A9) (a10 : A10) (a11 : A11) (a12 : A12) (a13 : A13) (a14 : A14) (a15 : A15), I a1 a2 a3 a4 a5 a6 a7 a8 a9 a10 a11 a12 a13 a14 a15 → (∀ (b1 : A1) (b2 : A2) (b3 : A3) (b4 : A4) (b5 : A5) (b6 : A6) (b7 : A7) (b8 : A8) (b9 : A9) (b10 : A10) (b11 : A11) (b12 : A12) (b13 : A13) (b14 : A14) (b15 : A15), I b1 b2 b3 b4 b5 b6 b7 b8 b9 b10 b11 b12 b13 b14 b15 → μ b1 b2 b3 b4 b5 b6 b7 b8 b9 b10 b11 b12 b13 b14 b15 < μ a1 a2 a3 a4 a5 a6 a7 a8 a9 a10 a11 a12 a13 a14 a15 → W n b1 b2 b3 b4 b5 b6 b7 b8 b9 b10 b11 b12 b13 b14 b15) → W (n + 1) a1 a2 a3 a4 a5 a6 a7 a8 a9 a10 a11 a12 a13 a14 a15) (a1 : A1) (a2 : A2) (a3 : A3) (a4 : A4) (a5 : A5) (a6 : A6) (a7 : A7) (a8 : A8) (a9 : A9) (a10 : A10) (a11 : A11) (a12 : A12) (a13 : A13) (a14 : A14) (a15 : A15) (h : I a1 a2 a3 a4 a5 a6 a7 a8 a9 a10 a11 a12 a13 a14 a15) : ∃ n, W n a1 a2 a3 a4 a5 a6 a7 a8 a9 a10 a11 a12 a13 a14 a15 :=
  loop_m (σ := A1 × A2 × A3 × A4 × A5 × A6 × A7 × A8 × A9 × A10 × A11 × A12 × A13 × A14 × A15) (fun n s => W n s.1 s.2.1 s.2.2.1 s.2.2.2.1 s.2.2.2.2.1 s.2.2.2.2.2.1 s.2.2.2.2.2.2.1 s.2.2.2.2.2.2.2.1 s.2.2.2.2.2.2.2.2.1 s.2.2.2.2.2.2.2.2.2.1 s.2.2.2.2.2.2.2.2.2.2.1 s.2.2.2.2.2.2.2.2.2.2.2.1 s.2.2.2.2.2.2.2.2.2.2.2.2.1 s.2.2.2.2.2.2.2.2.2.2.2.2.2.1 s.2.2.2.2.2.2.2.2.2.2.2.2.2.2) (fun s => I s.1 s.2.1 s.2.2.1 s.2.2.2.1 s.2.2.2.2.1 s.2.2.2.2.2.1 s.2.2.2.2.2.2.1 s.2.2.2.2.2.2.2.1 s.2.2.2.2.2.2.2.2.1 s.2.2.2.2.2.2.2.2.2.1 s.2.2.2.2.2.2.2.2.2.2.1 s.2.2.2.2.2.2.2.2.2.2.2.1 s.2.2.2.2.2.2.2.2.2.2.2.2.1 s.2.2.2.2.2.2.2.2.2.2.2.2.2.1 s.2.2.2.2.2.2.2.2.2.2.2.2.2.2) (fun s => μ s.1 s.2.1 s.2.2.1 s.2.2.2.1 s.2.2.2.2.1 s.2.2.2.2.2.1 s.2.2.2.2.2.2.1 s.2.2.2.2.2.2.2.1 s.2.2.2.2.2.2.2.2.1 s.2.2.2.2.2.2.2.2.2.1 s.2.2.2.2.2.2.2.2.2.2.1 s.2.2.2.2.2.2.2.2.2.2.2.1 s.2.2.2.2.2.2.2.2.2.2.2.2.1 s.2.2.2.2.2.2.2.2.2.2.2.2.2.1 s.2.2.2.2.2.2.2.2.2.2.2.2.2.2) (fun n s hI hk => hs n s.1 s.2.1 s.2.2.1 s.2.2.2.1 s.2.2.2.2.1 s.2.2.2.2.2.1 s.2.2.2.2.2.2.1 s.2.2.2.2.2.2.2.1 s.2.2.2.2.2.2.2.2.1 s.2.2.2.2.2.2.2.2.2.1 s.2.2.2.2.2.2.2.2.2.2.1 s.2.2.2.2.2.2.2.2.2.2.2.1 s.2.2.2.2.2.2.2.2.2.2.2.2.1 s.2.2.2.2.2.2.2.2.2.2.2.2.2.1 s.2.2.2.2.2.2.2.2.2.2.2.2.2.2 hI (fun b1 b2 b3 b4 b5 b6 b7 b8 b9 b10 b11 b12 b13 b14 b15 h9 hm => hk (b1, b2, b3, b4, b5, b6, b7, b8, b9, b10, b11, b12, b13, b14, b15) h9 hm)) (a1, a2, a3, a4, a5, a6, a7, a8, a9, a10, a11, a12, a13, a14, a15) h
theorem lp16 {A1 A2 A3 A4 A5 A6 A7 A8 A9 A10 A11 A12 A13 A14 A15 A16 : Type} (W : Nat → A1 → A2 → A3 → A4 → A5 → A6 → A7 → A8 → A9 → A10 → A11 → A12 → A13 → A14 → A15 → A16 → Prop) (I : A1 → A2 → A3 → A4 → A5 → A6 → A7 → A8 → A9 → A10 → A11 → A12 → A13 → A14 → A15 → A16 → Prop) (μ : A1 → A2 → A3 → A4 → A5 → A6 → A7 → A8 → A9 → A10 → A11 → A12 → A13 → A14 → A15 → A16 → Nat) (hs : ∀ (n : Nat) (a1 : A1) (a2 : A2) (a3 : A3) (a4 : A4) (a5 : A5) (a6 : A6) (a7 : A7) (a8 : A8) (a9 : A9) (a10 : A10) (a11 : A11) (a12 : A12) (a13 : A13) (a14 : A14) (a15 : A15) (a16 : A16), I a1 a2 a3 a4 a5 a6 a7 a8 a9 a10 a11 a12 a13 a14 a15 a16 → (∀ (b1 : A1) (b2 : A2) (b3 : A3) (b4 : A4) (b5 : A5) (b6 : A6) (b7 : A7) (b8 : A8) (b9 : A9) (b10 : A10) (b11 : A11) (b12 : A12) (b13 : A13) (b14 : A14) (b15 : A15) (b16 : A16), I b1 b2 b3 b4 b5 b6 b7 b8 b9 b10 b11 b12 b13 b14 b15 b16 → μ b1 b2 b3 b4 b5 b6 b7 b8 b9 b10 b11 b12 b13 b14 b15 b16 < μ a1 a2 a3 a4 a5 a6 a7 a8 a9 a10 a11 a12 a13 a14 a15 a16 → W n b1 b2 b3 b4 b5 b6 b7 b8 b9 b10 b11 b12 b13 b14 b15 b16) → W (n + 1) a1 a2 a3 a4 a5 a6 a7 a8 a9 a10 a11 a12 a13 a14 a15 a16) (a1 : A1) (a2 : A2) (a3 : A3) (a4 : A4) (a5 : A5) (a6 : A6) (a7 : A7) (a8 : A8) (a9 : A9) (a10 : A10) (a11 : A11) (a12 : A12) (a13 : A13) (a14 : A14) (a15 : A15) (a16 : A16) (h : I a1 a2 a3 a4 a5 a6 a7 a8 a9 a10 a11 a12 a13 a14 a15 a16) : ∃ n, W n a1 a2 a3 a4 a5 a6 a7 a8 a9 a10 a11 a12 a13 a14 a15 a16 :=
  loop_m (σ := A1 × A2 × A3 × A4 × A5 × A6 × A7 × A8 × A9 × A10 × A11 × A12 × A13 × A14 × A15 × A16) (fun n s => W n s.1 s.2.1 s.2.2.1 s.2.2.2.1 s.2.2.2.2.1 s.2.2.2.2.2.1 s.2.2.2.2.2.2.1 s.2.2.2.2.2.2.2.1 s.2.2.2.2.2.2.2.2.1 s.2.2.2.2.2.2.2.2.2.1 s.2.2.2.2.2.2.2.2.2.2.1 s.2.2.2.2.2.2.2.2.2.2.2.1 s.2.2.2.2.2.2.2.2.2.2.2.2.1 s.2.2.2.2.2.2.2.2.2.2.2.2.2.1 s.2.2.2.2.2.2.2.2.2.2.2.2.2.2.1 s.2.2.2.2.2.2.2.2.2.2.2.2.2.2.2) (fun s => I s.1 s.2.1 s.2.2.1 s.2.2.2.1 s.2.2.2.2.1 s.2.2.2.2.2.1 s.2.2.2.2.2.2.1 s.2.2.2.2.2.2.2.1 s.2.2.2.2.2.2.2.2.1 s.2.2.2.2.2.2.2.2.2.1 s.2.2.2.2.2.2.2.2.2.2.1 s.2.2.2.2.2.2.2.2.2.2.2.1 s.2.2.2.2.2.2.2.2.2.2.2.2.1 s.2.2.2.2.2.2.2.2.2.2.2.2.2.1 s.2.2.2.2.2.2.2.2.2.2.2.2.2.2.1 s.2.2.2.2.2.2.2.2.2.2.2.2.2.2.2) (fun s => μ s.1 s.2.1 s.2.2.1 s.2.2.2.1 s.2.2.2.2.1 s.2.2.2.2.2.1 s.2.2.2.2.2.2.1 s.2.2.2.2.2.2.2.1 s.2.2.2.2.2.2.2.2.1 s.2.2.2.2.2.2.2.2.2.1 s.2.2.2.2.2.2.2.2.2.2.1 s.2.2.2.2.2.2.2.2.2.2.2.1 s.2.2.2.2.2.2.2.2.2.2.2.2.1 s.2.2.2.2.2.2.2.2.2.2.2.2.2.1 s.2.2.2.2.2.2.2.2.2.2.2.2.2.2.1 s.2.2.2.2.2.2.2.2.2.2.2.2.2.2.2) (fun n s hI hk => hs n s.1 s.2.1 s.2.2.1 s.2.2.2.1 s.2.2.2.2.1 s.2.2.2.2.2.1 s.2.2.2.2.2.2.1 s.2.2.2.2.2.2.2.1 s.2.2.2.2.2.2.2.2.1 s.2.2.2.2.2.2.2.2.2.1 s.2.2.2.2.2.2.2.2.2.2.1 s.2.2.2.2.2.2.2.2.2.2.2.1 s.2.2.2.2.2.2.2.2.2.2.2.2.1 s.2.2.2.2.2.2.2.2.2.2.2.2.2.1 s.2.2.2.2.2.2.2.2.2.2.2.2.2.2.1 s.2.2.2.2.2.2.2.2.2.2.2.2.2.2.2 hI (fun b1 b2 b3 b4 b5 b6 b7 b8 b9 b10 b11 b12 b13 b14 b15 b16 h9 hm => hk (b1, b2, b3, b4, b5, b6, b7, b8, b9, b10, b11, b12, b13, b14, b15, b16) h9 hm)) (a1, a2, a3, a4, a5, a6, a7, a8, a9, a10, a11, a12, a13, a14, a15, a16) h
theorem pk_least (P : Nat → Prop) (h : ∃ k, P k) : ∃ k, P k ∧ ∀ j, j < k → ¬ P j := by
  obtain ⟨k, hk⟩ := h
  induction k using Nat.strongRecOn with
  | ind k ih =>
    by_cases e : ∃ j, j < k ∧ P j
    · obtain ⟨j, hj, pj⟩ := e
      exact ih j hj pj
    · exact ⟨k, hk, fun j hj pj => e ⟨j, hj, pj⟩⟩
theorem rp1 {ρ A1 : Type} (W : Nat → (ρ → Prop) → A1 → Prop) (ok : A1 → Prop) (μ : A1 → Nat) (val : A1 → ρ)
    (hs : ∀ (d : Nat) (post : ρ → Prop) (a1 : A1), ok a1 → post (val a1) → (∀ (post' : ρ → Prop) (b1 : A1), ok b1 → μ b1 < μ a1 → post' (val b1) → W d post' b1) → W (d + 1) post a1) :
    ∀ (d : Nat) (post : ρ → Prop) (a1 : A1), ok a1 → μ a1 < d → post (val a1) → W d post a1 := by
  intro d
  induction d with
  | zero => intro post a1 _ h; omega
  | succ d ih =>
    intro post a1 ho hm hp
    exact hs d post a1 ho hp (fun post' b1 ho' hm' hp' => ih post' b1 ho' (by omega) hp')
theorem rp2 {ρ A1 A2 : Type} (W : Nat → (ρ → Prop) → A1 → A2 → Prop) (ok : A1 → A2 → Prop) (μ : A1 → A2 → Nat) (val : A1 → A2 → ρ)
    (hs : ∀ (d : Nat) (post : ρ → Prop) (a1 : A1) (a2 : A2), ok a1 a2 → post (val a1 a2) → (∀ (post' : ρ → Prop) (b1 : A1) (b2 : A2), ok b1 b2 → μ b1 b2 < μ a1 a2 → post' (val b1 b2) → W d post' b1 b2) → W (d + 1) post a1 a2) :
    ∀ (d : Nat) (post : ρ → Prop) (a1 : A1) (a2 : A2), ok a1 a2 → μ a1 a2 < d → post (val a1 a2) → W d post a1 a2 := by
  intro d
  induction d with
  | zero => intro post a1 a2 _ h; omega
  | succ d ih =>
    intro post a1 a2 ho hm hp
    exact hs d post a1 a2 ho hp (fun post' b1 b2 ho' hm' hp' => ih post' b1 b2 ho' (by omega) hp')
theorem rp3 {ρ A1 A2 A3 : Type} (W : Nat → (ρ → Prop) → A1 → A2 → A3 → Prop) (ok : A1 → A2 → A3 → Prop) (μ : A1 → A2 → A3 → Nat) (val : A1 → A2 → A3 → ρ)
    (hs : ∀ (d : Nat) (post : ρ → Prop) (a1 : A1) (a2 : A2) (a3 : A3), ok a1 a2 a3 → post (val a1 a2 a3) → (∀ (post' : ρ → Prop) (b1 : A1) (b2 : A2) (b3 : A3), ok b1 b2 b3 → μ b1 b2 b3 < μ a1 a2 a3 → post' (val b1 b2 b3) → W d post' b1 b2 b3) → W (d + 1) post a1 a2 a3) :
    ∀ (d : Nat) (post : ρ → Prop) (a1 : A1) (a2 : A2) (a3 : A3), ok a1 a2 a3 → μ a1 a2 a3 < d → post (val a1 a2 a3) → W d post a1 a2 a3 := by
  intro d
  induction d with
  | zero => intro post a1 a2 a3 _ h; omega
  | succ d ih =>
    intro post a1 a2 a3 ho hm hp
    exact hs d post a1 a2 a3 ho hp (fun post' b1 b2 b3 ho' hm' hp' => ih post' b1 b2 b3 ho' (by omega) hp')
theorem rp4 {ρ A1 A2 A3 A4 : Type} (W : Nat → (ρ → Prop) → A1 → A2 → A3 → A4 → Prop) (ok : A1 → A2 → A3 → A4 → Prop) (μ : A1 → A2 → A3 → A4 → Nat) (val : A1 → A2 → A3 → A4 → ρ)
    (hs : ∀ (d : Nat) (post : ρ → Prop) (a1 : A1) (a2 : A2) (a3 : A3) (a4 : A4), ok a1 a2 a3 a4 → post (val a1 a2 a3 a4) → (∀ (post' : ρ → Prop) (b1 : A1) (b2 : A2) (b3 : A3) (b4 : A4), ok b1 b2 b3 b4 → μ b1 b2 b3 b4 < μ a1 a2 a3 a4 → post' (val b1 b2 b3 b4) → W d post' b1 b2 b3 b4) → W (d + 1) post a1 a2 a3 a4) :
    ∀ (d : Nat) (post : ρ → Prop) (a1 : A1) (a2 : A2) (a3 : A3) (a4 : A4), ok a1 a2 a3 a4 → μ a1 a2 a3 a4 < d → post (val a1 a2 a3 a4) → W d post a1 a2 a3 a4 := by
  intro d
  induction d with
  | zero => intro post a1 a2 a3 a4 _ h; omega
  | succ d ih =>
    intro post a1 a2 a3 a4 ho hm hp
    exact hs d post a1 a2 a3 a4 ho hp (fun post' b1 b2 b3 b4 ho' hm' hp' => ih post' b1 b2 b3 b4 ho' (by omega) hp')
theorem rp5 {ρ A1 A2 A3 A4 A5 : Type} (W : Nat → (ρ → Prop) → A1 → A2 → A3 → A4 → A5 → Prop) (ok : A1 → A2 → A3 → A4 → A5 → Prop) (μ : A1 → A2 → A3 → A4 → A5 → Nat) (val : A1 → A2 → A3 → A4 → A5 → ρ)
    (hs : ∀ (d : Nat) (post : ρ → Prop) (a1 : A1) (a2 : A2) (a3 : A3) (a4 : A4) (a5 : A5), ok a1 a2 a3 a4 a5 → post (val a1 a2 a3 a4 a5) → (∀ (post' : ρ → Prop) (b1 : A1) (b2 : A2) (b3 : A3) (b4 : A4) (b5 : A5), ok b1 b2 b3 b4 b5 → μ b1 b2 b3 b4 b5 < μ a1 a2 a3 a4 a5 → post' (val b1 b2 b3 b4 b5) → W d post' b1 b2 b3 b4 b5) → W (d + 1) post a1 a2 a3 a4 a5) :
    ∀ (d : Nat) (post : ρ → Prop) (a1 : A1) (a2 : A2) (a3 : A3) (a4 : A4) (a5 : A5), ok a1 a2 a3 a4 a5 → μ a1 a2 a3 a4 a5 < d → post (val a1 a2 a3 a4 a5) → W d post a1 a2 a3 a4 a5 := by
  intro d
  induction d with
  | zero => intro post a1 a2 a3 a4 a5 _ h; omega
  | succ d ih =>
    intro post a1 a2 a3 a4 a5 ho hm hp
    exact hs d post a1 a2 a3 a4 a5 ho hp (fun post' b1 b2 b3 b4 b5 ho' hm' hp' => ih post' b1 b2 b3 b4 b5 ho' (by omega) hp')
theorem rp6 {ρ A1 A2 A3 A4 A5 A6 : Type} (W : Nat → (ρ → Prop) → A1 → A2 → A3 → A4 → A5 → A6 → Prop) (ok : A1 → A2 → A3 → A4 → A5 → A6 → Prop) (μ : A1 → A2 → A3 → A4 → A5 → A6 → Nat) (val : A1 → A2 → A3 → A4 → A5 → A6 → ρ)
    (hs : ∀ (d : Nat) (post : ρ → Prop) (a1 : A1) (a2 : A2) (a3 : A3) (a4 : A4) (a5 : A5) (a6 : A6), ok a1 a2 a3 a4 a5 a6 → post (val a1 a2 a3 a4 a5 a6) → (∀ (post' : ρ → Prop) (b1 : A1) (b2 : A2) (b3 : A3) (b4 : A4) (b5 : A5) (b6 : A6), ok b1 b2 b3 b4 b5 b6 → μ b1 b2 b3 b4 b5 b6 < μ a1 a2 a3 a4 a5 a6 → post' (val b1 b2 b3 b4 b5 b6) → W d post' b1 b2 b3 b4 b5 b6) → W (d + 1) post a1 a2 a3 a4 a5 a6) :
    ∀ (d : Nat) (post : ρ → Prop) (a1 : A1) (a2 : A2) (a3 : A3) (a4 : A4) (a5 : A5) (a6 : A6), ok a1 a2 a3 a4 a5 a6 → μ a1 a2 a3 a4 a5 a6 < d → post (val a1 a2 a3 a4 a5 a6) → W d post a1 a2 a3 a4 a5 a6 := by
  intro d
  induction d with
  | zero => intro post a1 a2 a3 a4 a5 a6 _ h; omega
  | succ d ih =>
    intro post a1 a2 a3 a4 a5 a6 ho hm hp
    exact hs d post a1 a2 a3 a4 a5 a6 ho hp (fun post' b1 b2 b3 b4 b5 b6 ho' hm' hp' => ih post' b1 b2 b3 b4 b5 b6 ho' (by omega) hp')
theorem rec_p {σ ρ : Type} (W : Nat → (ρ → Prop) → σ → Prop) (ok : σ → Prop) (μ : σ → Nat) (val : σ → ρ)
    (hs : ∀ d s post, ok s → post (val s) → (∀ s' post', ok s' → μ s' < μ s → post' (val s') → W d post' s') → W (d + 1) post s) :
    ∀ d s post, ok s → μ s < d → post (val s) → W d post s := by
  intro d
  induction d with
  | zero => intro s post _ h; omega
  | succ d ih =>
    intro s post ho hm hp
    exact hs d s post ho hp (fun s' post' ho' hm' hp' => ih s' post' ho' (by omega) hp')
theorem rec_q {σ ρ : Type} (W : Nat → (ρ → Prop) → σ → Prop) (ok : σ → Prop) (μ : σ → Nat) (Q : σ → ρ → Prop)
    (hs : ∀ d s post, ok s → (∀ r, Q s r → post r) → (∀ s' post', ok s' → μ s' < μ s → (∀ r, Q s' r → post' r) → W d post' s') → W (d + 1) post s) :
    ∀ d s post, ok s → μ s < d → (∀ r, Q s r → post r) → W d post s := by
  intro d
  induction d with
  | zero => intro s post _ h; omega
  | succ d ih =>
    intro s post ho hm hp
    exact hs d s post ho hp (fun s' post' ho' hm' hp' => ih s' post' ho' (by omega) hp')
def bx_sum (f : Nat → Int32) : Nat → Int32
  | 0 => 0
  | n + 1 => bx_sum f n + f n
theorem ek_u {A : Prop} {B : Nat → Prop} {k N : Nat} (hk : k < N) (h : B k) : (some k = none → A) ∧ (∀ y : Nat, some k = some y → (y < N ∧ B y)) :=
  ⟨fun z => absurd z (Option.some_ne_none k), fun _ e => (by cases e; exact ⟨hk, h⟩)⟩
theorem ek_nu {A : Prop} {B : Nat → Prop} (h : A) : ((none : Option Nat) = none → A) ∧ (∀ y : Nat, (none : Option Nat) = some y → B y) :=
  ⟨fun _ => h, fun _ e => (by cases e)⟩
theorem ek_if {c d A B : Prop} (e : c ↔ d) (f : d → A) (g : ¬ d → B) : (c → A) ∧ (¬ c → B) :=
  ⟨fun z => f (e.mp z), fun z => g (fun y => z (e.mpr y))⟩
theorem ek_v {α : Sort _} {P : α → Prop} {a b : α} (e : a = b) (h : P b) : P a := e ▸ h
theorem co_some {x : Option Nat} {A : Prop} {B : Nat → Prop} (i : Nat) (h : B i) (hx : x = some i := by rfl) : (x = none → A) ∧ (∀ y : Nat, x = some y → B y) := by
  subst hx
  exact ⟨fun e => (nomatch e), fun y e => Option.some.inj e ▸ h⟩
theorem co_none {x : Option Nat} {A : Prop} {B : Nat → Prop} (h : A) (hx : x = none := by rfl) : (x = none → A) ∧ (∀ y : Nat, x = some y → B y) := by
  subst hx
  exact ⟨fun _ => h, fun y e => (nomatch e)⟩
theorem co_any {x : Option Nat} {A : Prop} {B : Nat → Prop} (hn : x = none → A) (hs : ∀ i : Nat, x = some i → B i) : (x = none → A) ∧ (∀ y : Nat, x = some y → B y) := ⟨hn, hs⟩
theorem co_2 {P : Nat → Prop} (h0 : P 0) (h1 : P 1) {i : Nat} (hi : i < 2) : P i :=
  match i, hi with
  | 0, _ => h0
  | 1, _ => h1
theorem co_3 {P : Nat → Prop} (h0 : P 0) (h1 : P 1) (h2 : P 2) {i : Nat} (hi : i < 3) : P i :=
  match i, hi with
  | 0, _ => h0
  | 1, _ => h1
  | 2, _ => h2
theorem co_4 {P : Nat → Prop} (h0 : P 0) (h1 : P 1) (h2 : P 2) (h3 : P 3) {i : Nat} (hi : i < 4) : P i :=
  match i, hi with
  | 0, _ => h0
  | 1, _ => h1
  | 2, _ => h2
  | 3, _ => h3
theorem co_dec {N : Nat} {P : Nat → Prop} [DecidablePred P] (h : (List.range N).all (fun i => decide (P i)) = true) {i : Nat} (hi : i < N) : P i := by
  have := List.all_eq_true.mp h i (List.mem_range.mpr hi)
  exact of_decide_eq_true this
theorem co_tab {α : Type} {l : List α} {d : α} {P : α → Prop} (h : ∀ a, a ∈ l → P a) {i : Nat} (hi : i < l.length) : P (l.getD i d) := by
  rw [List.getD_eq_getElem?_getD, List.getElem?_eq_getElem hi]
  exact h _ (List.getElem_mem hi)
theorem pk_mu {x : Int32} {L : Nat} (h0 : ¬ x < 0) (h : ¬ nI L ≤ x) (hL : L < 2 ^ 31) : ∃ j : Nat, j < L ∧ x = nI j ∧ x + 1 = nI (j + 1) ∧ x.toNatClampNeg = j ∧ L - (x + 1).toNatClampNeg < L - x.toNatClampNeg := by
  obtain ⟨j, hj, rfl⟩ := nI_of h0
  have hl : j < L := Nat.not_le.mp fun q => h (nI_le q hj)
  refine ⟨j, hl, rfl, nI_1 j, nI_clamp hj, ?_⟩
  rw [nI_1, nI_clamp (by omega), nI_clamp hj]
  omega
theorem op_s {α : Type} {r : Option α} {A : Prop} {B : α → Prop} {y : α} (h : r = some y) (b : B y) : (r = none → A) ∧ ∀ z, r = some z → B z :=
  ⟨fun e => (by rw [h] at e; cases e), fun z e => (by rw [h] at e; cases e; exact b)⟩
def l_holds {α : Type} (a : Nat → Option Nat) (LP : List Nat) (p : Nat → α) (c : Nat) (b : Nat → α) : Prop :=
  ∀ j, j < c → ∃ y, a j = some y ∧ y ∈ LP ∧ p y = b j
theorem l_holds_0 {α : Type} {a : Nat → Option Nat} {LP : List Nat} {p b : Nat → α} : l_holds a LP p 0 b := fun j h => absurd h (Nat.not_lt_zero j)
theorem l_in_new (LP : List Nat) (q : Nat) : q ∈ LP ++ [q] := List.mem_append.mpr (Or.inr (List.mem_singleton.mpr rfl))
def l_sum (b : Nat → Int32) : Nat → Int32
  | 0 => 0
  | k + 1 => l_sum b k + b k
theorem sb_shr0 (x : Int32) : x >>> ((0 : Int32) &&& 31) = x := by
  rw [show ((0 : Int32) &&& 31) = 0 by decide]
  simp
theorem sb_shl0 (x : Int32) : x <<< ((0 : Int32) &&& 31) = x := by
  rw [show ((0 : Int32) &&& 31) = 0 by decide]
  simp
theorem sb_cl0 : (0 : Int32).toNatClampNeg = 0 := by decide
theorem sb_m1 {p : Nat} (h : 0 < p) : nI p + (-1) = nI (p - 1) := by
  obtain ⟨q, rfl⟩ : ∃ q, p = q + 1 := ⟨p - 1, by omega⟩
  exact pk_m1 q
def sb_b (c : Nat) : Int32 := (nI c).toInt8.toInt32
theorem sb_byte : ∀ c, c < 256 → sb_b c &&& 255 = nI c ∧ ((nI c).toUInt32 % 65536).toInt32 = nI c ∧ nI c ≤ 255 := by decide +kernel
def sb_Fit (a : Nat → Int32) : Prop := ∀ j, fits .byte (.int (a j)) = true
def sb_Lat (t : Nat → Nat) (n : Nat) (a : Nat → Int32) : Prop := ∀ j, j < n → t j < 256 ∧ a j = sb_b (t j)
theorem sb_fitB (c : Nat) : fits .byte (.int (sb_b c)) = true := pk_fb _
theorem sb_fit0 : sb_Fit (fun _ => 0) := fun _ => by
  show fits .byte (.int 0) = true
  decide
theorem sb_fitU {a : Nat → Int32} {k : Nat} {x : Int32} (h : sb_Fit a) (hx : fits .byte (.int x) = true) : sb_Fit (upd a k x) := by
  intro j
  by_cases e : j = k
  · subst e
    rw [pk_us]
    exact hx
  · rw [pk_un e]
    exact h j
def sb_cat (t : Nat → Nat) (n : Nat) (s : Nat → Nat) : Nat → Nat := fun j => if j < n then t j else s (j - n)
theorem sb_cat_lo {t s : Nat → Nat} {n j : Nat} (h : j < n) : sb_cat t n s j = t j := if_pos h
theorem sb_cat_hi {t s : Nat → Nat} {n j : Nat} : sb_cat t n s (n + j) = s j := by
  show (if n + j < n then t (n + j) else s (n + j - n)) = s j
  rw [if_neg (by omega), Nat.add_sub_cancel_left]
theorem sb_latPut {t s : Nat → Nat} {n w : Nat} {a a' : Nat → Int32} (h : sb_Lat t n a) (hk : ∀ j, j < n → a' j = a j) (hs : ∀ i, i < w → s i < 256 ∧ a' (n + i) = sb_b (s i)) : sb_Lat (sb_cat t n s) (n + w) a' := by
  intro j hj
  by_cases e : j < n
  · rw [sb_cat_lo e, hk j e]
    exact h j e
  · obtain ⟨i, rfl⟩ : ∃ i, j = n + i := ⟨j - n, by omega⟩
    rw [sb_cat_hi]
    exact hs i (by omega)
theorem sb_latKeep {t : Nat → Nat} {n : Nat} {a a' : Nat → Int32} (h : sb_Lat t n a) (hk : ∀ j, j < n → a' j = a j) : sb_Lat t n a' := fun j hj => by
  rw [hk j hj]
  exact h j hj
def sb_cap (q m : Nat) : Nat := if q ≤ m then m else if 2 * m + 2 < q then q else 2 * m + 2
def sb_Room (q m mc ms : Nat) : Prop := q ≤ m ∨ (1 ≤ mc ∧ sb_cap q m ≤ ms ∧ sb_cap q m ≤ 65536)
theorem sb_cap_ge (q m : Nat) : q ≤ sb_cap q m := by
  unfold sb_cap
  split
  · omega
  · split <;> omega
theorem sb_cap_gem (q m : Nat) : m ≤ sb_cap q m := by
  unfold sb_cap
  split
  · omega
  · split <;> omega
theorem sb_cap_le {q m mc ms : Nat} (hm : m ≤ 65536) (hr : sb_Room q m mc ms) : sb_cap q m ≤ 65536 := by
  rcases hr with h | h
  · rw [sb_cap, if_pos h]
    exact hm
  · exact h.2.2
theorem sb_at {P : Int32 → Prop} {x y : Int32} (e : x = y) (h : P y) : P x := e ▸ h
def sb_dg (w : Nat) : Nat := if w < 10 then 1 else if w < 100 then 2 else if w < 1000 then 3 else if w < 10000 then 4 else if w < 100000 then 5 else if w < 1000000 then 6 else if w < 10000000 then 7 else if w < 100000000 then 8 else if w < 1000000000 then 9 else 10
def sb_dec (v : Nat) : Nat → Nat := fun i => 48 + v / 10 ^ (sb_dg v - 1 - i) % 10
theorem sb_dg_in (w : Nat) : 1 ≤ sb_dg w ∧ sb_dg w ≤ 10 := by
  unfold sb_dg
  constructor <;> (repeat' split) <;> omega
theorem sb_dg100 {w : Nat} (h : 100 ≤ w) (hw : w < 2 ^ 31) : sb_dg w = sb_dg (w / 100) + 2 := by
  rw [sb_dg, sb_dg, if_neg (show ¬ w < 10 by omega), if_neg (show ¬ w < 100 by omega)]
  by_cases h3 : w < 1000
  · rw [if_pos h3, if_pos (show w / 100 < 10 by omega)]
  rw [if_neg h3, if_neg (show ¬ w / 100 < 10 by omega)]
  by_cases h4 : w < 10000
  · rw [if_pos h4, if_pos (show w / 100 < 100 by omega)]
  rw [if_neg h4, if_neg (show ¬ w / 100 < 100 by omega)]
  by_cases h5 : w < 100000
  · rw [if_pos h5, if_pos (show w / 100 < 1000 by omega)]
  rw [if_neg h5, if_neg (show ¬ w / 100 < 1000 by omega)]
  by_cases h6 : w < 1000000
  · rw [if_pos h6, if_pos (show w / 100 < 10000 by omega)]
  rw [if_neg h6, if_neg (show ¬ w / 100 < 10000 by omega)]
  by_cases h7 : w < 10000000
  · rw [if_pos h7, if_pos (show w / 100 < 100000 by omega)]
  rw [if_neg h7, if_neg (show ¬ w / 100 < 100000 by omega)]
  by_cases h8 : w < 100000000
  · rw [if_pos h8, if_pos (show w / 100 < 1000000 by omega)]
  rw [if_neg h8, if_neg (show ¬ w / 100 < 1000000 by omega)]
  by_cases h9 : w < 1000000000
  · rw [if_pos h9, if_pos (show w / 100 < 10000000 by omega)]
  rw [if_neg h9, if_neg (show ¬ w / 100 < 10000000 by omega)]
  rw [if_pos (show w / 100 < 100000000 by omega)]
theorem sb_negT {w : Nat} (h : w < 2 ^ 31) : (-nI w).toInt = -(w : Int) := by
  rw [Int32.toInt_neg, nI_toInt h]
  exact Int.bmod_eq_of_le (by omega) (by omega)
theorem sb_nle {a b : Nat} (ha : a < 2 ^ 31) (hb : b < 2 ^ 31) : -nI a ≤ -nI b ↔ b ≤ a := by
  rw [Int32.le_iff_toInt_le, sb_negT ha, sb_negT hb]
  omega
theorem sb_nlt {a b : Nat} (ha : a < 2 ^ 31) (hb : b < 2 ^ 31) : -nI a < -nI b ↔ b < a := by
  rw [Int32.lt_iff_toInt_lt, sb_negT ha, sb_negT hb]
  omega
theorem sb_cmp {A B : Prop} {x : Int32} (v c : Nat) (f : c ≤ v → A) (g : v < c → B) (hv : v < 2 ^ 31) (hx : x = -nI c := by rfl) (hc : c < 2 ^ 31 := by omega) : (-nI v ≤ x → A) ∧ (¬ -nI v ≤ x → B) := by
  subst hx
  rw [sb_nle hv hc]
  exact ⟨f, fun z => g (by omega)⟩
theorem sb_ndiv {w : Nat} (hw : w < 2 ^ 31) : (-nI w) / 100 = -nI (w / 100) := by
  apply Int32.toInt_inj.mp
  have h100 : (100 : Int32).toInt = 100 := by decide
  rw [Int32.toInt_div, sb_negT hw, h100, sb_negT (by omega), Int.neg_tdiv, Int.tdiv_eq_ediv_of_nonneg (by omega), Int.bmod_eq_of_le (by omega) (by omega)]
  omega
theorem sb_nrem {w : Nat} (hw : w < 2 ^ 31) : (-nI (w / 100)) * 100 - (-nI w) = nI (w % 100) := by
  have h := pk_rem (a := w) (d := 100) hw (by decide) (by decide)
  rw [pk_div hw (by decide) (by decide)] at h
  rw [← h]
  show (-nI (w / 100)) * nI 100 - (-nI w) = nI w - nI (w / 100) * nI 100
  rw [Int32.neg_mul, Int32.sub_neg, Int32.add_comm, ← Int32.sub_eq_add_neg]
end
section
/-! ===== plain lists and counts ===== -/
/-- how many v below n have p -/
def qa_cn (p : Nat → Bool) : Nat → Nat
  | 0 => 0
  | n + 1 => qa_cn p n + (if p n then 1 else 0)
theorem qa_cn_eq (p : Nat → Bool) (n : Nat) : qa_cn p n = ((List.range n).filter p).length := by
  induction n with
  | zero => rfl
  | succ n ih =>
    rw [List.range_succ, List.filter_append, List.length_append, ← ih]
    by_cases h : p n = true
    · simp [qa_cn, h]
    · simp [qa_cn, h]
theorem qa_cn_le (p : Nat → Bool) (n : Nat) : qa_cn p n ≤ n := by
  induction n with
  | zero => exact Nat.le_refl _
  | succ n ih => simp only [qa_cn]; split <;> omega
theorem qa_cn_mono {p q : Nat → Bool} {n : Nat} (h : ∀ v, v < n → p v = true → q v = true) : qa_cn p n ≤ qa_cn q n := by
  induction n with
  | zero => exact Nat.le_refl _
  | succ n ih =>
    have := ih (fun v hv => h v (by omega))
    have h2 := h n (by omega)
    simp only [qa_cn]
    by_cases hp : p n = true
    · simp [hp, h2 hp]; omega
    · simp [hp]; omega
theorem qa_cn_congr {p q : Nat → Bool} {n : Nat} (h : ∀ v, v < n → p v = q v) : qa_cn p n = qa_cn q n := by
  induction n with
  | zero => rfl
  | succ n ih => simp only [qa_cn, ih (fun v hv => h v (by omega)), h n (by omega)]
theorem qa_cn_add {p q r : Nat → Bool} {n : Nat} (h : ∀ v, v < n → (p v = true → r v = true ∧ q v = false) ∧ (q v = true → r v = true)) : qa_cn p n + qa_cn q n ≤ qa_cn r n := by
  induction n with
  | zero => exact Nat.le_refl _
  | succ n ih =>
    have h1 := ih (fun v hv => h v (by omega))
    have h2 := h n (by omega)
    simp only [qa_cn]
    by_cases hp : p n = true
    · have := h2.1 hp
      simp [hp, this.1, this.2]; omega
    · by_cases hq : q n = true
      · simp [hp, hq, h2.2 hq]; omega
      · simp [hp, hq]; omega
theorem qa_cn_lt {p : Nat → Bool} {n k : Nat} (hk : k < n) (h : p k = false) : qa_cn p n < n := by
  induction n with
  | zero => omega
  | succ n ih =>
    simp only [qa_cn]
    by_cases e : k = n
    · subst e; simp [h]; have := qa_cn_le p k; omega
    · have := ih (by omega); split <;> omega
theorem qa_len {L : List Nat} {p : Nat → Bool} {n : Nat} (hn : L.Nodup) (h : ∀ v, v ∈ L ↔ v < n ∧ p v = true) : L.length = qa_cn p n := by
  rw [qa_cn_eq]
  refine List.Perm.length_eq ((List.perm_ext_iff_of_nodup hn (List.Nodup.sublist List.filter_sublist List.nodup_range)).mpr ?_)
  intro v
  rw [h v, List.mem_filter, List.mem_range]
/-- the same, as a list -/
def qa_fl (p : Nat → Bool) (n : Nat) : List Nat := (List.range n).filter p
theorem qa_fl_nd (p : Nat → Bool) (n : Nat) : (qa_fl p n).Nodup := List.Nodup.sublist List.filter_sublist List.nodup_range
theorem qa_fl_mem {p : Nat → Bool} {n v : Nat} : v ∈ qa_fl p n ↔ v < n ∧ p v = true := by
  simp only [qa_fl, List.mem_filter, List.mem_range]
theorem qa_fl_len (p : Nat → Bool) (n : Nat) : (qa_fl p n).length = qa_cn p n := (qa_cn_eq p n).symm
theorem qa_fl_s (p : Nat → Bool) (n : Nat) : qa_fl p (n + 1) = qa_fl p n ++ (if p n then [n] else []) := by
  simp only [qa_fl, List.range_succ, List.filter_append]
  by_cases h : p n = true
  · simp [h]
  · simp [h]
theorem qa_pe {L M : List Nat} (h1 : L.Nodup) (h2 : M.Nodup) (h : ∀ v, v ∈ L ↔ v ∈ M) : L.Perm M := (List.perm_ext_iff_of_nodup h1 h2).mpr h
/-- sorted lists of numbers with the same members are one list -/
theorem qa_srt {L M : List Nat} (h1 : L.Pairwise (· ≤ ·)) (h2 : M.Pairwise (· ≤ ·)) (h : L.Perm M) : L = M :=
  List.Perm.eq_of_pairwise (le := (· ≤ ·)) (fun _ _ _ _ h1 h2 => Nat.le_antisymm h1 h2) h1 h2 h
theorem qa_perm {A B : List Nat} (hl : A.length = B.length) (h : ∀ x, x ∈ A → A.count x = B.count x) : A.Perm B := by
  induction A generalizing B with
  | nil => have : B = [] := List.eq_nil_of_length_eq_zero hl.symm; rw [this]
  | cons a A ih =>
    have ha := h a (List.mem_cons_self)
    have hb : a ∈ B := by
      rw [← List.count_pos_iff, ← ha, List.count_cons_self]; omega
    have e := List.perm_cons_erase hb
    refine List.Perm.trans (List.Perm.cons a (ih ?_ ?_)) e.symm
    · have := e.length_eq; simp only [List.length_cons] at this hl; omega
    · intro x hx
      have h1 := h x (List.mem_cons_of_mem _ hx)
      rw [e.count_eq x] at h1
      rw [List.count_cons, List.count_cons] at h1
      omega
theorem qa_fm_nd {L : List Nat} {f : Nat → List Nat} (h1 : L.Nodup) (h2 : ∀ p, p ∈ L → (f p).Nodup) (h3 : ∀ p q v, p ∈ L → q ∈ L → v ∈ f p → v ∈ f q → p = q) : (L.flatMap f).Nodup := by
  induction L with
  | nil => exact List.nodup_nil
  | cons a L ih =>
    rw [List.flatMap_cons, List.nodup_append]
    rw [List.nodup_cons] at h1
    refine ⟨h2 a List.mem_cons_self, ih h1.2 (fun p hp => h2 p (List.mem_cons_of_mem _ hp)) (fun p q v hp hq => h3 p q v (List.mem_cons_of_mem _ hp) (List.mem_cons_of_mem _ hq)), ?_⟩
    intro x hx y hy e
    subst e
    rw [List.mem_flatMap] at hy
    obtain ⟨q, hq, hxq⟩ := hy
    have := h3 a q x List.mem_cons_self (List.mem_cons_of_mem _ hq) hx hxq
    subst this
    exact h1.1 hq
theorem qa_fm_perm {L : List Nat} {f g : Nat → List Nat} (h : ∀ p, p ∈ L → (f p).Perm (g p)) : (L.flatMap f).Perm (L.flatMap g) := by
  induction L with
  | nil => exact List.Perm.refl _
  | cons a L ih =>
    rw [List.flatMap_cons, List.flatMap_cons]
    exact List.Perm.append (h a List.mem_cons_self) (ih (fun p hp => h p (List.mem_cons_of_mem _ hp)))
theorem qa_fm_map {L : List Nat} {f : Nat → List Nat} {g : Nat → Nat} : (L.flatMap f).map g = L.flatMap (fun p => (f p).map g) := by
  induction L with
  | nil => rfl
  | cons a L ih => rw [List.flatMap_cons, List.flatMap_cons, List.map_append, ih]
/-- the place of the border in a sorted list -/
theorem qa_tw {L : List Nat} {b : Nat} (h : L.Pairwise (· ≤ ·)) : ∃ n, n ≤ L.length ∧ (∀ i x, i < n → L[i]? = some x → x < b) ∧ (∀ x, L[n]? = some x → b ≤ x) ∧ L.take n = L.filter (fun x => decide (x < b)) ∧ L.drop n = L.filter (fun x => decide (b ≤ x)) := by
  induction L with
  | nil => exact ⟨0, Nat.le_refl _, fun i x hi => absurd hi (Nat.not_lt_zero _), fun x hx => by simp at hx, rfl, rfl⟩
  | cons a L ih =>
    rw [List.pairwise_cons] at h
    obtain ⟨n, h1, h2, h3, h4, h5⟩ := ih h.2
    by_cases hab : a < b
    · refine ⟨n + 1, by simp only [List.length_cons]; omega, ?_, ?_, ?_, ?_⟩
      · intro i x hi hx
        cases i with
        | zero => simp at hx; omega
        | succ i => exact h2 i x (by omega) (by simpa using hx)
      · intro x hx; exact h3 x (by simpa using hx)
      · rw [List.take_succ_cons, h4, List.filter_cons_of_pos (by simpa using hab)]
      · rw [List.drop_succ_cons, h5, List.filter_cons_of_neg (by simp; omega)]
    · have hge : ∀ x, x ∈ L → b ≤ x := fun x hx => by have := h.1 x hx; omega
      refine ⟨0, by omega, fun i x hi => absurd hi (Nat.not_lt_zero _), ?_, ?_, ?_⟩
      · intro x hx; simp at hx; omega
      · rw [List.take_zero, List.filter_cons_of_neg (by simpa using hab)]
        rw [List.filter_eq_nil_iff.mpr]
        intro x hx; have := hge x hx; simp; omega
      · rw [List.drop_zero, List.filter_cons_of_pos (by simp; omega), List.filter_eq_self.mpr]
        intro x hx; simpa using hge x hx
theorem qa_get {L : List Nat} {i : Nat} (h : i < L.length) : ∃ x, L[i]? = some x := ⟨L[i], List.getElem?_eq_getElem h⟩
theorem qa_lt {L : List Nat} {i x : Nat} (h : L[i]? = some x) : i < L.length := by
  rcases List.getElem?_eq_some_iff.mp h with ⟨h1, _⟩; exact h1
theorem qa_mem {L : List Nat} {i x : Nat} (h : L[i]? = some x) : x ∈ L := List.mem_of_getElem? h
/-- lists with equal entries -/
theorem qa_ext {L M : List Nat} (hl : L.length = M.length) (h : ∀ (i x y : Nat), L[i]? = some x → M[i]? = some y → x = y) : L = M := by
  apply List.ext_getElem? 
  intro i
  by_cases hi : i < L.length
  · obtain ⟨x, hx⟩ := qa_get hi
    obtain ⟨y, hy⟩ := qa_get (L := M) (i := i) (by omega)
    rw [hx, hy, h i x y hx hy]
  · rw [List.getElem?_eq_none (by omega), List.getElem?_eq_none (by omega)]
/-- the entry put into its place -/
theorem qa_ins {L : List Nat} {c n : Nat} (h : L.Pairwise (· ≤ ·)) (hn : n ≤ L.length) (h1 : ∀ x, n ≠ 0 → L[n - 1]? = some x → x ≤ c) (h2 : ∀ x, L[n]? = some x → c < x) : (L.take n ++ c :: L.drop n).Pairwise (· ≤ ·) ∧ (L.take n ++ c :: L.drop n).Perm (c :: L) := by
  have hp : (L.take n ++ c :: L.drop n).Perm (c :: L) := by
    have := List.perm_middle (a := c) (l₁ := L.take n) (l₂ := L.drop n)
    rw [List.take_append_drop] at this
    exact this
  refine ⟨?_, hp⟩
  have hsp : (L.take n ++ L.drop n).Pairwise (· ≤ ·) := by rw [List.take_append_drop]; exact h
  rw [List.pairwise_append] at hsp
  rw [List.pairwise_append, List.pairwise_cons]
  have hhi : ∀ x, x ∈ L.drop n → c ≤ x := by
    intro x hx
    obtain ⟨i, hi⟩ := List.getElem?_of_mem hx
    rw [List.getElem?_drop] at hi
    have hlt := qa_lt hi
    obtain ⟨y, hy⟩ := qa_get (L := L) (i := n) (by omega)
    have hcy := h2 y hy
    rcases Nat.eq_zero_or_pos i with e | e
    · subst e; rw [Nat.add_zero, hy] at hi; cases hi; omega
    · have := List.pairwise_iff_getElem.mp h n (n + i) (by omega) hlt (by omega)
      rw [List.getElem?_eq_getElem (by omega)] at hy hi
      injection hy with hy; injection hi with hi; omega
  have hlo : ∀ x, x ∈ L.take n → x ≤ c := by
    intro x hx
    obtain ⟨i, hi⟩ := List.getElem?_of_mem hx
    have hi0 := qa_lt hi
    rw [List.length_take] at hi0
    rw [List.getElem?_take_of_lt (by omega)] at hi
    obtain ⟨y, hy⟩ := qa_get (L := L) (i := n - 1) (by omega)
    have hcy := h1 y (by omega) hy
    by_cases e : i = n - 1
    · subst e; rw [hy] at hi; cases hi; omega
    · have := List.pairwise_iff_getElem.mp h i (n - 1) (by omega) (by omega) (by omega)
      rw [List.getElem?_eq_getElem (by omega)] at hy hi
      injection hy with hy; injection hi with hi; omega
  refine ⟨hsp.1, ⟨hhi, hsp.2.1⟩, ?_⟩
  intro a ha b hb
  rcases List.mem_cons.mp hb with e | e
  · subst e; exact hlo a ha
  · exact hsp.2.2 a ha b e
end
section
/-! ===== the term in its written order: places still wanted, depths ===== -/
def qt_st (t : Int32) (w : Nat) : Nat := if w = 0 then 0 else if t = -2 then w + 1 else if t < 0 then w else w - 1
/-- places wanted by the term that begins at q, behind d nodes -/
def qt_lf (tk : Nat → Int32) (q : Nat) : Nat → Nat
  | 0 => 1
  | d + 1 => qt_st (tk (q + d)) (qt_lf tk q d)
theorem qt_st0 (t : Int32) : qt_st t 0 = 0 := rfl
theorem qt_st_le (t : Int32) (w : Nat) : qt_st t w ≤ w + 1 := by
  unfold qt_st; split <;> first | omega | (split <;> first | omega | (split <;> omega))
theorem qt_lf_le (tk : Nat → Int32) (q d : Nat) : qt_lf tk q d ≤ d + 1 := by
  induction d with
  | zero => exact Nat.le_refl _
  | succ d ih => have := qt_st_le (tk (q + d)) (qt_lf tk q d); simp only [qt_lf]; omega
theorem qt_lf_z {tk : Nat → Int32} {q d : Nat} (h : qt_lf tk q d = 0) (e : Nat) : qt_lf tk q (d + e) = 0 := by
  induction e with
  | zero => exact h
  | succ e ih => show qt_st (tk (q + (d + e))) (qt_lf tk q (d + e)) = 0; rw [ih]; rfl
theorem qt_lf_p {tk : Nat → Int32} {q d e : Nat} (h : 0 < qt_lf tk q d) (he : e ≤ d) : 0 < qt_lf tk q e := by
  rcases Nat.eq_zero_or_pos (qt_lf tk q e) with z | z
  · have := qt_lf_z z (d - e); rw [Nat.add_sub_cancel' he] at this; omega
  · exact z
theorem qt_st_add {t : Int32} {x y z : Nat} (hx : 0 < x) (hz : 0 < z) (h : x + 1 = y + z) (hy : 0 < y) : qt_st t x + 1 = y + qt_st t z := by
  unfold qt_st
  rw [if_neg (show ¬ x = 0 by omega), if_neg (show ¬ z = 0 by omega)]
  by_cases h1 : t = -2
  · rw [if_pos h1, if_pos h1]; omega
  · rw [if_neg h1, if_neg h1]
    by_cases h2 : t < 0
    · rw [if_pos h2, if_pos h2]; omega
    · rw [if_neg h2, if_neg h2]; omega
/-- as long as the part at q + a is not closed before, the wants add up -/
theorem qt_add {tk : Nat → Int32} {q a : Nat} (ha : 0 < qt_lf tk q a) : ∀ b, (∀ d, d < b → 0 < qt_lf tk (q + a) d) → qt_lf tk q (a + b) + 1 = qt_lf tk q a + qt_lf tk (q + a) b := by
  intro b
  induction b with
  | zero => intro _; rfl
  | succ b ih =>
    intro h
    have h1 := ih (fun d hd => h d (by omega))
    have h2 := h b (by omega)
    show qt_st (tk (q + (a + b))) (qt_lf tk q (a + b)) + 1 = qt_lf tk q a + qt_st (tk (q + a + b)) (qt_lf tk (q + a) b)
    rw [← Nat.add_assoc q a b]
    exact qt_st_add (by omega) h2 h1 ha
/-- the same with the later place named -/
theorem qt_add' {tk : Nat → Int32} {q s p : Nat} (hq : q ≤ s) (hs : s ≤ p) (ha : 0 < qt_lf tk q (s - q)) (hb : ∀ d, s + d < p → 0 < qt_lf tk s d) : qt_lf tk q (p - q) + 1 = qt_lf tk q (s - q) + qt_lf tk s (p - s) := by
  have e : q + (s - q) = s := by omega
  have := qt_add (tk := tk) (q := q) (a := s - q) ha (p - s) (fun d hd => by rw [e]; exact hb d (by omega))
  rw [e] at this
  rw [show p - q = s - q + (p - s) by omega]
  exact this
theorem qt_app1 {tk : Nat → Int32} {s : Nat} (h : tk s = -2) : qt_lf tk s 1 = 2 := by
  show qt_st (tk (s + 0)) 1 = 2
  rw [Nat.add_zero, h]; rfl
theorem qt_lam1 {tk : Nat → Int32} {s : Nat} (h : tk s = -1) : qt_lf tk s 1 = 1 := by
  show qt_st (tk (s + 0)) 1 = 1
  rw [Nat.add_zero, h]; decide
/-- the number of lambdas around place p -/
def qt_dp (tk : Nat → Int32) (p : Nat) : Nat := qa_cn (fun q => decide (tk q = -1) && decide (0 < qt_lf tk q (p - q))) p
theorem qt_dp_le (tk : Nat → Int32) (p : Nat) : qt_dp tk p ≤ p := qa_cn_le _ _
theorem qt_dp0 (tk : Nat → Int32) : qt_dp tk 0 = 0 := rfl
theorem qt_pos_step {tk : Nat → Int32} {q s : Nat} (h : q ≤ s) (ht : tk s < 0) : (0 < qt_lf tk q (s + 1 - q)) ↔ 0 < qt_lf tk q (s - q) := by
  have e : s + 1 - q = (s - q) + 1 := by omega
  rw [e]
  show 0 < qt_st (tk (q + (s - q))) (qt_lf tk q (s - q)) ↔ _
  rw [show q + (s - q) = s by omega]
  unfold qt_st
  by_cases z : qt_lf tk q (s - q) = 0
  · rw [if_pos z, z]
  · rw [if_neg z]
    by_cases h1 : tk s = -2
    · rw [if_pos h1]; omega
    · rw [if_neg h1, if_pos ht]
theorem qt_dp_lam {tk : Nat → Int32} {s : Nat} (h : tk s = -1) : qt_dp tk (s + 1) = qt_dp tk s + 1 := by
  have hn : tk s < 0 := by rw [h]; decide
  show qa_cn _ s + _ = _
  rw [if_pos]
  · refine congrArg (· + 1) (qa_cn_congr fun q hq => ?_)
    have := qt_pos_step (tk := tk) (q := q) (s := s) (by omega) hn
    simp only [this]
  · dsimp only; rw [Nat.add_sub_cancel_left, qt_lam1 h]; simp [h]
theorem qt_dp_app {tk : Nat → Int32} {s : Nat} (h : tk s = -2) : qt_dp tk (s + 1) = qt_dp tk s := by
  have hn : tk s < 0 := by rw [h]; decide
  show qa_cn _ s + _ = _
  rw [if_neg]
  · refine qa_cn_congr fun q hq => ?_
    have := qt_pos_step (tk := tk) (q := q) (s := s) (by omega) hn
    simp only [this]
  · dsimp only; rw [h]; simp
/-- the count stops early when nothing is found behind -/
theorem qt_cn_cut {p : Nat → Bool} {a b : Nat} (hab : a ≤ b) (h : ∀ v, a ≤ v → v < b → p v = false) : qa_cn p b = qa_cn p a := by
  induction b with
  | zero => have : a = 0 := by omega
            subst this; rfl
  | succ b ih =>
    by_cases e : a = b + 1
    · subst e; rfl
    · rw [← ih (by omega) (fun v h1 h2 => h v h1 (by omega))]
      simp only [qa_cn, h b (by omega) (by omega)]; rfl
/-- where the function of the application s is closed first, the depth is that of s -/
theorem qt_dp_arg {tk : Nat → Int32} {s p : Nat} (hs : tk s = -2) (hp : s + 1 ≤ p) (h0 : qt_lf tk (s + 1) (p - (s + 1)) = 0) (h1 : ∀ d, s + 1 + d < p → 0 < qt_lf tk (s + 1) d) : qt_dp tk p = qt_dp tk s := by
  have hs1 : qt_lf tk s (s + 1 - s) = 2 := by rw [Nat.add_sub_cancel_left]; exact qt_app1 hs
  -- the application itself wants one place at p, and at least one before
  have hsp : qt_lf tk s (p - s) = 1 := by
    have := qt_add' (tk := tk) (q := s) (s := s + 1) (p := p) (by omega) hp (by omega) (fun d hd => h1 d hd)
    rw [hs1, h0] at this; omega
  have hsd : ∀ d, s + d < p → 0 < qt_lf tk s d := fun d hd => qt_lf_p (by rw [hsp]; omega) (by omega)
  have cut : qt_dp tk p = qa_cn (fun q => decide (tk q = -1) && decide (0 < qt_lf tk q (p - q))) s := by
    refine qt_cn_cut (by omega) fun q hq1 hq2 => ?_
    by_cases e : q = s
    · subst e; rw [hs]; rfl
    · have hz : ¬ 0 < qt_lf tk q (p - q) := by
        intro hpos
        have hd : ∀ d, q + d < p → 0 < qt_lf tk q d := fun d hd => qt_lf_p hpos (by omega)
        have h2 := h1 (q - (s + 1)) (by omega)
        have := qt_add' (tk := tk) (q := s + 1) (s := q) (p := p) (by omega) (by omega) h2 hd
        omega
      simp [hz]
  rw [cut]
  refine qa_cn_congr fun q hq => ?_
  have : (0 < qt_lf tk q (p - q)) ↔ 0 < qt_lf tk q (s - q) := by
    constructor
    · intro h; exact qt_lf_p h (by omega)
    · intro h
      have := qt_add' (tk := tk) (q := q) (s := s) (p := p) (by omega) (by omega) h hsd
      omega
  simp only [this]
/-! the state of the feeding; the function of an application is done at p -/
def qt_dn (tk : Nat → Int32) (s p : Nat) : Prop := s + 1 < p ∧ qt_lf tk (s + 1) (p - (s + 1)) = 0 ∧ ∀ d, s + 1 + d < p → 0 < qt_lf tk (s + 1) d
def qt_I (nl n w : Nat) (op nd : Int32) (tk dp au wt : Nat → Int32) : Prop :=
  8 ≤ nl ∧ nl ≤ 32 ∧ n + qt_lf tk 0 n ≤ nl ∧ op = nI (qt_lf tk 0 n) ∧
  (0 < qt_lf tk 0 n → nd = nI (qt_dp tk n) ∧ w + 1 = qt_lf tk 0 n) ∧
  (qt_lf tk 0 n = 0 → w = 0 ∧ 0 < n ∧ ¬ tk (n - 1) < 0) ∧
  (∀ s, s < n → dp s = nI (qt_dp tk s) ∧ 0 < qt_lf tk 0 s ∧ (tk s = -1 ∨ tk s = -2 ∨ ∃ i, i < qt_dp tk s ∧ tk s = nI i)) ∧
  (∀ j, j < w → ∃ a, wt j = nI a ∧ a < n ∧ tk a = -2 ∧ qt_lf tk (a + 1) (n - (a + 1)) = w - j) ∧
  (∀ s, s < n → tk s = -2 → 0 < qt_lf tk (s + 1) (n - (s + 1)) ∨ ∃ p, au s = nI p ∧ p ≤ n ∧ (p = n → 0 < qt_lf tk 0 n) ∧ qt_dn tk s p)
/-- what the machine asks of a whole term -/
def qt_T (n : Nat) (tk : Nat → Int32) (au : Nat → Nat) : Prop :=
  0 < n ∧ n ≤ 32 ∧ ∀ s, s < n →
    (tk s = -1 ∧ s + 1 < n ∧ qt_dp tk (s + 1) = qt_dp tk s + 1) ∨
    (tk s = -2 ∧ s + 1 < n ∧ qt_dp tk (s + 1) = qt_dp tk s ∧ s + 1 < au s ∧ au s < n ∧ qt_dp tk (au s) = qt_dp tk s ∧ qt_dn tk s (au s)) ∨
    (∃ i, i < qt_dp tk s ∧ tk s = nI i)
def qt_au (a : Nat → Int32) : Nat → Nat := fun s => (a s).toNatClampNeg
/-- a node inside a term wants at least a place while the term does -/
theorem qt_fun_wants {tk : Nat → Int32} {s n : Nat} (hs : tk s = -2) (hn : s < n) (h : 0 < qt_lf tk (s + 1) (n - (s + 1))) : qt_lf tk s (n - s) = 1 + qt_lf tk (s + 1) (n - (s + 1)) := by
  have hs1 : qt_lf tk s (s + 1 - s) = 2 := by rw [Nat.add_sub_cancel_left]; exact qt_app1 hs
  have := qt_add' (tk := tk) (q := s) (s := s + 1) (p := n) (by omega) (by omega) (by omega) (fun d hd => qt_lf_p h (by omega))
  omega
theorem qt_whole {nl n w : Nat} {op nd : Int32} {tk dp au wt : Nat → Int32} (h : qt_I nl n w op nd tk dp au wt) (z : qt_lf tk 0 n = 0) : qt_T n tk (qt_au au) := by
  obtain ⟨h1, h2, h3, h4, h5, h6, h7, h8, h9⟩ := h
  obtain ⟨_, h0, hl⟩ := h6 z
  refine ⟨h0, by omega, fun s hs => ?_⟩
  have hnl : tk s < 0 → s + 1 < n := by
    intro ht
    by_cases e : s = n - 1
    · subst e; exact absurd ht hl
    · omega
  obtain ⟨a1, a2, a3⟩ := h7 s hs
  rcases a3 with a | a | a
  · exact Or.inl ⟨a, hnl (by rw [a]; decide), qt_dp_lam a⟩
  · have hlt := hnl (by rw [a]; decide)
    refine Or.inr (Or.inl ⟨a, hlt, qt_dp_app a, ?_⟩)
    rcases h9 s hs a with b | ⟨p, b1, b2, b3, b4⟩
    · have c := qt_fun_wants a hs b
      have hpos : 0 < qt_lf tk s (n - s) := by omega
      have d := qt_add' (tk := tk) (q := 0) (s := s) (p := n) (by omega) (by omega) a2 (fun d hd => qt_lf_p hpos (by omega))
      simp only [Nat.sub_zero] at d
      omega
    · have hp : p < n := by
        rcases Nat.lt_or_ge p n with c | c
        · exact c
        · have := b3 (by omega); omega
      have e : qt_au au s = p := by unfold qt_au; rw [b1]; exact nI_clamp (by omega)
      rw [e]
      exact ⟨b4.1, hp, qt_dp_arg a (by have := b4.1; omega) b4.2.1 b4.2.2, b4⟩
  · exact Or.inr (Or.inr a)
end
section
/-! ===== one more node ===== -/
theorem qf_lf {tk tk' : Nat → Int32} {q : Nat} : ∀ d, (∀ i, q ≤ i → i < q + d → tk' i = tk i) → qt_lf tk' q d = qt_lf tk q d := by
  intro d
  induction d with
  | zero => intro _; rfl
  | succ d ih =>
    intro h
    show qt_st (tk' (q + d)) (qt_lf tk' q d) = qt_st (tk (q + d)) (qt_lf tk q d)
    rw [ih (fun i h1 h2 => h i h1 (by omega)), h (q + d) (by omega) (by omega)]
theorem qf_un {f : Nat → Int32} {k j : Nat} {x : Int32} (h : j ≠ k) : upd f k x j = f j := if_neg h
theorem qf_us {f : Nat → Int32} {k : Nat} {x : Int32} : upd f k x k = x := if_pos rfl
theorem qf_L1 {tk : Nat → Int32} {n : Nat} {t : Int32} {q d : Nat} (h : q + d ≤ n) : qt_lf (upd tk n t) q d = qt_lf tk q d :=
  qf_lf d fun i _ h2 => qf_un (by omega)
theorem qf_L2 {tk : Nat → Int32} {n : Nat} {t : Int32} {q : Nat} (h : q ≤ n) : qt_lf (upd tk n t) q (n + 1 - q) = qt_st t (qt_lf tk q (n - q)) := by
  rw [show n + 1 - q = (n - q) + 1 by omega]
  show qt_st (upd tk n t (q + (n - q))) (qt_lf (upd tk n t) q (n - q)) = _
  rw [show q + (n - q) = n by omega, qf_us, qf_L1 (by omega)]
theorem qf_L2' {tk : Nat → Int32} {n : Nat} {t : Int32} : qt_lf (upd tk n t) 0 (n + 1) = qt_st t (qt_lf tk 0 n) := qf_L2 (q := 0) (Nat.zero_le _)
theorem qf_L3 {tk : Nat → Int32} {n : Nat} {t : Int32} {p : Nat} (h : p ≤ n) : qt_dp (upd tk n t) p = qt_dp tk p := by
  unfold qt_dp
  refine qa_cn_congr fun q hq => ?_
  rw [qf_un (by omega), qf_L1 (by omega)]
theorem qf_dn {tk : Nat → Int32} {n : Nat} {t : Int32} {s p : Nat} (h : p ≤ n) (hd : qt_dn tk s p) : qt_dn (upd tk n t) s p := by
  obtain ⟨h1, h2, h3⟩ := hd
  refine ⟨h1, ?_, fun d hd => ?_⟩
  · rw [qf_L1 (by omega)]; exact h2
  · rw [qf_L1 (by omega)]; exact h3 d hd
theorem qf_7 {nl n w : Nat} {op nd : Int32} {tk dp au wt : Nat → Int32} (I : qt_I nl n w op nd tk dp au wt) (ho : 0 < qt_lf tk 0 n) {t : Int32} (ht : t = -1 ∨ t = -2 ∨ ∃ i, i < qt_dp tk n ∧ t = nI i) :
    ∀ s, s < n + 1 → (upd dp n nd) s = nI (qt_dp (upd tk n t) s) ∧ 0 < qt_lf (upd tk n t) 0 s ∧ ((upd tk n t) s = -1 ∨ (upd tk n t) s = -2 ∨ ∃ i, i < qt_dp (upd tk n t) s ∧ (upd tk n t) s = nI i) := by
  obtain ⟨h1, h2, h3, h4, h5, h6, h7, h8, h9⟩ := I
  intro s hs
  rw [qf_L3 (by omega), qf_L1 (by omega)]
  by_cases e : s = n
  · subst e
    rw [qf_us, qf_us]
    exact ⟨(h5 ho).1, ho, ht⟩
  · rw [qf_un e, qf_un e]
    exact h7 s (by omega)
theorem qf_sp1 {w : Nat} : qt_st (-1) w = w := by
  unfold qt_st
  by_cases h : w = 0
  · rw [if_pos h, h]
  · rw [if_neg h, if_neg (by decide), if_pos (by decide)]
theorem qf_sp2 {w : Nat} (h : 0 < w) : qt_st (-2) w = w + 1 := by
  unfold qt_st; rw [if_neg (by omega), if_pos rfl]
theorem qf_nneg {i : Nat} (h : i < 2 ^ 31) : ¬ nI i = -2 ∧ ¬ nI i = -1 ∧ ¬ nI i < 0 := by
  have hp := nI_pos h
  refine ⟨fun e => ?_, fun e => ?_, hp⟩
  · rw [e] at hp; exact hp (by decide)
  · rw [e] at hp; exact hp (by decide)
theorem qf_sp3 {i w : Nat} (h : i < 2 ^ 31) : qt_st (nI i) w = w - 1 := by
  unfold qt_st
  by_cases h0 : w = 0
  · rw [if_pos h0, h0]
  · have := qf_nneg h
    rw [if_neg h0, if_neg this.1, if_neg this.2.2]
theorem qf_lam {nl n w : Nat} {op nd : Int32} {tk dp au wt : Nat → Int32} (I : qt_I nl n w op nd tk dp au wt) (ho : 0 < qt_lf tk 0 n) (hf : n + 1 + qt_lf tk 0 n ≤ nl) : qt_I nl (n + 1) w op (nd + 1) (upd tk n (-1)) (upd dp n nd) au wt := by
  have h7' := qf_7 I ho (t := -1) (Or.inl rfl)
  obtain ⟨h1, h2, h3, h4, h5, h6, h7, h8, h9⟩ := I
  have e0 : qt_lf (upd tk n (-1)) 0 (n + 1) = qt_lf tk 0 n := by rw [qf_L2', qf_sp1]
  refine ⟨h1, h2, by rw [e0]; omega, by rw [e0]; exact h4, ?_, ?_, h7', ?_, ?_⟩
  · intro _
    rw [e0]
    refine ⟨?_, (h5 ho).2⟩
    rw [(h5 ho).1, nI_1, qt_dp_lam (qf_us), qf_L3 (Nat.le_refl _)]
  · intro z; rw [e0] at z; omega
  · intro j hj
    obtain ⟨a, b1, b2, b3, b4⟩ := h8 j hj
    exact ⟨a, b1, by omega, by rw [qf_un (by omega)]; exact b3, by rw [qf_L2 (by omega), qf_sp1]; exact b4⟩
  · intro s hs ha
    by_cases e : s = n
    · subst e; rw [qf_us] at ha; exact absurd ha (by decide)
    · rw [qf_un e] at ha
      rcases h9 s (by omega) ha with b | ⟨p, b1, b2, b3, b4⟩
      · left; rw [qf_L2 (by omega), qf_sp1]; exact b
      · exact Or.inr ⟨p, b1, by omega, fun c => by omega, qf_dn b2 b4⟩
theorem qf_app {nl n w : Nat} {op nd : Int32} {tk dp au wt : Nat → Int32} (I : qt_I nl n w op nd tk dp au wt) (ho : 0 < qt_lf tk 0 n) (hf : n + 1 + (qt_lf tk 0 n + 1) ≤ nl) : qt_I nl (n + 1) (w + 1) (op + 1) nd (upd tk n (-2)) (upd dp n nd) au (upd wt w (nI n)) := by
  have h7' := qf_7 I ho (t := -2) (Or.inr (Or.inl rfl))
  obtain ⟨h1, h2, h3, h4, h5, h6, h7, h8, h9⟩ := I
  have e0 : qt_lf (upd tk n (-2)) 0 (n + 1) = qt_lf tk 0 n + 1 := by rw [qf_L2', qf_sp2 ho]
  have hw := (h5 ho).2
  refine ⟨h1, h2, by rw [e0]; omega, by rw [e0, h4, nI_1], ?_, ?_, h7', ?_, ?_⟩
  · intro _
    rw [e0]
    refine ⟨?_, by omega⟩
    rw [(h5 ho).1, qt_dp_app (qf_us), qf_L3 (Nat.le_refl _)]
  · intro z; rw [e0] at z; omega
  · intro j hj
    by_cases e : j = w
    · subst e
      refine ⟨n, qf_us, by omega, qf_us, ?_⟩
      rw [Nat.sub_self]; show 1 = _; omega
    · obtain ⟨a, b1, b2, b3, b4⟩ := h8 j (by omega)
      exact ⟨a, by rw [qf_un e]; exact b1, by omega, by rw [qf_un (by omega)]; exact b3, by rw [qf_L2 (by omega), qf_sp2 (by omega)]; omega⟩
  · intro s hs ha
    by_cases e : s = n
    · subst e; left; rw [Nat.sub_self]; show 0 < 1; omega
    · rw [qf_un e] at ha
      rcases h9 s (by omega) ha with b | ⟨p, b1, b2, b3, b4⟩
      · left; rw [qf_L2 (by omega), qf_sp2 b]; omega
      · exact Or.inr ⟨p, b1, by omega, fun c => by omega, qf_dn b2 b4⟩
theorem qf_var0 {nl n : Nat} {op nd : Int32} {tk dp au wt : Nat → Int32} (I : qt_I nl n 0 op nd tk dp au wt) (ho : 0 < qt_lf tk 0 n) {i : Nat} (hi : i < qt_dp tk n) (hi3 : i < 2 ^ 31) (hf : n + 1 + (qt_lf tk 0 n - 1) ≤ nl) : qt_I nl (n + 1) 0 (op - 1) nd (upd tk n (nI i)) (upd dp n nd) au wt := by
  have h7' := qf_7 I ho (t := nI i) (Or.inr (Or.inr ⟨i, hi, rfl⟩))
  obtain ⟨h1, h2, h3, h4, h5, h6, h7, h8, h9⟩ := I
  have hw := (h5 ho).2
  have e0 : qt_lf (upd tk n (nI i)) 0 (n + 1) = 0 := by rw [qf_L2', qf_sp3 hi3]; omega
  have hop : op - 1 = nI 0 := by rw [h4, ← hw]; decide
  refine ⟨h1, h2, by rw [e0]; omega, by rw [e0]; exact hop, fun c => by omega, fun _ => ⟨rfl, by omega, ?_⟩, h7', fun j hj => by omega, ?_⟩
  · rw [Nat.add_sub_cancel, qf_us]; exact (qf_nneg hi3).2.2
  · intro s hs ha
    by_cases e : s = n
    · subst e; rw [qf_us] at ha; exact absurd ha (qf_nneg hi3).1
    · rw [qf_un e] at ha
      rcases h9 s (by omega) ha with b | ⟨p, b1, b2, b3, b4⟩
      · exfalso
        have c := qt_fun_wants ha (by omega) b
        have hpos : 0 < qt_lf tk s (n - s) := by omega
        have d := qt_add' (tk := tk) (q := 0) (s := s) (p := n) (by omega) (by omega) (h7 s (by omega)).2.1 (fun d hd => qt_lf_p hpos (by omega))
        have a2 := (h7 s (by omega)).2.1
        simp only [Nat.sub_zero] at d
        omega
      · exact Or.inr ⟨p, b1, by omega, fun c => by omega, qf_dn b2 b4⟩
theorem qf_varS {nl n w : Nat} {op nd : Int32} {tk dp au wt : Nat → Int32} (I : qt_I nl n (w + 1) op nd tk dp au wt) (ho : 0 < qt_lf tk 0 n) {i : Nat} (hi : i < qt_dp tk n) (hi3 : i < 2 ^ 31) (hf : n + 1 + (qt_lf tk 0 n - 1) ≤ nl) :
    ∃ a, wt w = nI a ∧ a < n ∧ qt_I nl (n + 1) w (op - 1) (upd dp n nd a) (upd tk n (nI i)) (upd dp n nd) (upd au a (nI (n + 1))) wt := by
  have h7' := qf_7 I ho (t := nI i) (Or.inr (Or.inr ⟨i, hi, rfl⟩))
  obtain ⟨h1, h2, h3, h4, h5, h6, h7, h8, h9⟩ := I
  have hw := (h5 ho).2
  obtain ⟨a, b1, b2, b3, b4⟩ := h8 w (by omega)
  have b5 : qt_lf tk (a + 1) (n - (a + 1)) = 1 := by rw [b4]; omega
  have e0 : qt_lf (upd tk n (nI i)) 0 (n + 1) = qt_lf tk 0 n - 1 := by rw [qf_L2', qf_sp3 hi3]
  have hop : op - 1 = nI (qt_lf tk 0 n - 1) := by
    rw [h4, show qt_lf tk 0 n = (qt_lf tk 0 n - 1) + 1 by omega, nI_pred, Nat.add_sub_cancel]
  have wa := qt_fun_wants b3 b2 (by omega)
  have b3' : upd tk n (nI i) a = -2 := by rw [qf_un (by omega)]; exact b3
  -- the function of a is closed now
  have z0 : qt_lf (upd tk n (nI i)) (a + 1) (n + 1 - (a + 1)) = 0 := by rw [qf_L2 (by omega), qf_sp3 hi3, b5]
  have z1 : ∀ d, a + 1 + d < n + 1 → 0 < qt_lf (upd tk n (nI i)) (a + 1) d := fun d hd => by
    rw [qf_L1 (by omega)]; exact qt_lf_p (d := n - (a + 1)) (by omega) (by omega)
  have dn : qt_dn (upd tk n (nI i)) a (n + 1) := ⟨by omega, z0, z1⟩
  have hdep : qt_dp (upd tk n (nI i)) (n + 1) = qt_dp (upd tk n (nI i)) a := qt_dp_arg b3' (by omega) z0 z1
  refine ⟨a, b1, b2, h1, h2, by rw [e0]; omega, by rw [e0]; exact hop, ?_, fun c => by omega, h7', ?_, ?_⟩
  · intro _
    rw [e0, hdep]
    exact ⟨(h7' a (by omega)).1, by omega⟩
  · intro j hj
    obtain ⟨a', c1, c2, c3, c4⟩ := h8 j (by omega)
    exact ⟨a', c1, by omega, by rw [qf_un (by omega)]; exact c3, by rw [qf_L2 (by omega), qf_sp3 hi3]; omega⟩
  · intro s hs ha
    by_cases e : s = n
    · subst e; rw [qf_us] at ha; exact absurd ha (qf_nneg hi3).1
    · rw [qf_un e] at ha
      by_cases ea : s = a
      · subst ea
        exact Or.inr ⟨n + 1, qf_us, by omega, fun _ => by rw [e0]; omega, dn⟩
      · rcases h9 s (by omega) ha with b | ⟨p, c1, c2, c3, c4⟩
        · left
          rw [qf_L2 (by omega), qf_sp3 hi3]
          have ws := qt_fun_wants ha (by omega) b
          rcases Nat.lt_or_gt_of_ne ea with g | g
          · -- s before a: a lies in the function of s
            have := qt_add' (tk := tk) (q := s + 1) (s := a) (p := n) (by omega) (by omega) (qt_lf_p b (by omega)) (fun d hd => qt_lf_p (d := n - a) (by omega) (by omega))
            have p1 := qt_lf_p (e := a - (s + 1)) b (by omega)
            omega
          · -- s behind a: s lies in the function of a
            have p1 : 0 < qt_lf tk (a + 1) (s - (a + 1)) := qt_lf_p (d := n - (a + 1)) (by omega) (by omega)
            have := qt_add' (tk := tk) (q := a + 1) (s := s) (p := n) (by omega) (by omega) p1 (fun d hd => qt_lf_p (d := n - s) (by omega) (by omega))
            omega
        · exact Or.inr ⟨p, by rw [qf_un ea]; exact c1, by omega, fun c => by omega, qf_dn c2 c4⟩
end
section
/-! ===== the machine's judgements as plain lists ===== -/
def qm_kd (t : Int32) : Nat := if t = -2 then 0 else if t = -1 then 1 else t.toNatClampNeg + 2
def qm_TR (m : Nat) (au kd S : Nat → Nat) (P C : Nat → List Nat) (R : Nat → Nat) : Prop :=
  S 0 = 0 ∧ P 0 = [] ∧ C 0 = [] ∧ R 0 = 99 ∧ ∀ k, k + 1 < m →
    (kd k = 0 ∧ S (k + 1) = S k + 1 ∧ P (k + 1) = k :: P k ∧ C (k + 1) = C k ∧ R (k + 1) = k) ∨
    (kd k = 1 ∧ S (k + 1) = S k + 1 ∧ (∃ a, P k = a :: P (k + 1)) ∧ C (k + 1) = k :: C k ∧ R (k + 1) = k) ∨
    (∃ i l a r, kd k = i + 2 ∧ (C k)[i]? = some l ∧ P l = a :: r ∧ S (k + 1) = au (S a) ∧ P (k + 1) = P k ∧ C (k + 1) = C a ∧ R (k + 1) = a)
section
variable {m : Nat} {au kd S R : Nat → Nat} {P C : Nat → List Nat}
theorem qm_ab (T : qm_TR m au kd S P C R) : ∀ k, k < m → (∀ x, x ∈ P k → x < k ∧ kd x = 0) ∧ (∀ l, l ∈ C k → l < k ∧ kd l = 1 ∧ ∃ a, P l = a :: P (l + 1)) ∧ (∀ a r, P k = a :: r → r = P a) ∧ (∀ l r, C k = l :: r → r = C l) := by
  obtain ⟨_, t2, t3, _, t5⟩ := T
  intro k
  induction k using Nat.strongRecOn with
  | _ k ih =>
    cases k with
    | zero =>
      intro _
      rw [t2, t3]
      exact ⟨fun x hx => by simp at hx, fun x hx => by simp at hx, fun a r h => by simp at h, fun a r h => by simp at h⟩
    | succ k =>
      intro hk
      obtain ⟨i1, i2, i3, i4⟩ := ih k (by omega) (by omega)
      rcases t5 k hk with ⟨a1, _, a3, a4, _⟩ | ⟨a1, _, ⟨a, a3⟩, a4, _⟩ | ⟨i, l, a, r, a1, a2, a3, _, a5, a6, _⟩
      · rw [a3, a4]
        refine ⟨fun x hx => ?_, fun l hl => ?_, fun a r h => ?_, i4⟩
        · rcases List.mem_cons.mp hx with e | e
          · subst e; exact ⟨by omega, a1⟩
          · have := i1 x e; exact ⟨by omega, this.2⟩
        · have := i2 l hl; exact ⟨by omega, this.2⟩
        · injection h with h1 h2; subst h1; exact h2.symm
      · rw [a4]
        have hPa := i3 a _ a3
        have hak : a ∈ P k := by rw [a3]; exact List.mem_cons_self
        have hal := (i1 a hak).1
        refine ⟨fun x hx => ?_, fun l hl => ?_, fun b r h => ?_, fun l r h => ?_⟩
        · have := i1 x (by rw [a3]; exact List.mem_cons_of_mem _ hx); exact ⟨by omega, this.2⟩
        · rcases List.mem_cons.mp hl with e | e
          · subst e; exact ⟨by omega, a1, a, a3⟩
          · have := i2 l e; exact ⟨by omega, this.2⟩
        · rw [hPa] at h; exact (ih a (by omega) (by omega)).2.2.1 b r h
        · injection h with h1 h2; subst h1; exact h2.symm
      · rw [a5, a6]
        have hl := (i2 l (qa_mem a2)).1
        have ha := ((ih l (by omega) (by omega)).1 a (by rw [a3]; exact List.mem_cons_self)).1
        have iA := ih a (by omega) (by omega)
        refine ⟨fun x hx => ?_, fun l' hl' => ?_, i3, iA.2.2.2⟩
        · have := i1 x hx; exact ⟨by omega, this.2⟩
        · have := iA.2.1 l' hl'; exact ⟨by omega, this.2⟩
end
/-! the judgements of a term -/
def qm_step (tk : Nat → Int32) (au : Nat → Nat) (h : Nat → Nat × List Nat × List Nat × Nat) (k : Nat) : Nat × List Nat × List Nat × Nat :=
  if qm_kd (tk (h k).1) = 0 then ((h k).1 + 1, k :: (h k).2.1, (h k).2.2.1, k)
  else if qm_kd (tk (h k).1) = 1 then ((h k).1 + 1, (h k).2.1.tail, k :: (h k).2.2.1, k)
  else (au (h ((h ((h k).2.2.1.getD (qm_kd (tk (h k).1) - 2) 0)).2.1.headD 0)).1, (h k).2.1, (h ((h ((h k).2.2.1.getD (qm_kd (tk (h k).1) - 2) 0)).2.1.headD 0)).2.2.1, (h ((h k).2.2.1.getD (qm_kd (tk (h k).1) - 2) 0)).2.1.headD 0)
def qm_h (tk : Nat → Int32) (au : Nat → Nat) : Nat → Nat → Nat × List Nat × List Nat × Nat
  | 0 => fun _ => (0, [], [], 99)
  | k + 1 => fun j => if j ≤ k then qm_h tk au k j else qm_step tk au (qm_h tk au k) k
def qm_S (tk : Nat → Int32) (au : Nat → Nat) (k : Nat) : Nat := (qm_h tk au k k).1
def qm_P (tk : Nat → Int32) (au : Nat → Nat) (k : Nat) : List Nat := (qm_h tk au k k).2.1
def qm_C (tk : Nat → Int32) (au : Nat → Nat) (k : Nat) : List Nat := (qm_h tk au k k).2.2.1
def qm_R (tk : Nat → Int32) (au : Nat → Nat) (k : Nat) : Nat := (qm_h tk au k k).2.2.2
def qm_K (tk : Nat → Int32) (au : Nat → Nat) (k : Nat) : Nat := qm_kd (tk (qm_S tk au k))
theorem qm_hle {tk : Nat → Int32} {au : Nat → Nat} {j : Nat} : ∀ {k : Nat}, j ≤ k → qm_h tk au k j = qm_h tk au j j := by
  intro k
  induction k with
  | zero => intro h; have : j = 0 := by omega
            subst this; rfl
  | succ k ih =>
    intro h
    by_cases e : j ≤ k
    · rw [show qm_h tk au (k + 1) j = qm_h tk au k j from if_pos e]; exact ih e
    · have : j = k + 1 := by omega
      subst this; rfl
theorem qm_hs {tk : Nat → Int32} {au : Nat → Nat} (k : Nat) : qm_h tk au (k + 1) (k + 1) = qm_step tk au (qm_h tk au k) k := if_neg (by omega)
/-- nothing pending at a lambda: the end -/
def qm_star (tk : Nat → Int32) (au : Nat → Nat) (k : Nat) : Prop := qm_K tk au k = 1 ∧ qm_P tk au k = []
def qm_ok (n : Nat) (tk : Nat → Int32) (au : Nat → Nat) (k : Nat) : Prop := qm_S tk au k < n ∧ (qm_C tk au k).length = qt_dp tk (qm_S tk au k)
def qm_tr (m : Nat) (tk : Nat → Int32) (au : Nat → Nat) : Prop := qm_TR m au (qm_K tk au) (qm_S tk au) (qm_P tk au) (qm_C tk au) (qm_R tk au)
theorem qm_kdV {i : Nat} (h : i < 2 ^ 31) : qm_kd (nI i) = i + 2 := by
  have := qf_nneg h
  unfold qm_kd; rw [if_neg this.1, if_neg this.2.1, nI_clamp h]
theorem qm_kdA : qm_kd (-2) = 0 := rfl
theorem qm_kdL : qm_kd (-1) = 1 := by decide
theorem qm_go {n : Nat} {tk : Nat → Int32} {au : Nat → Nat} (T : qt_T n tk au) : ∀ m, (∀ k, k < m → ¬ qm_star tk au k) → qm_tr (m + 1) tk au ∧ ∀ k, k ≤ m → qm_ok n tk au k := by
  intro m
  induction m with
  | zero =>
    intro _
    refine ⟨⟨rfl, rfl, rfl, rfl, fun k hk => by omega⟩, fun k hk => ?_⟩
    have : k = 0 := by omega
    subst this
    exact ⟨T.1, rfl⟩
  | succ m ih =>
    intro hs
    obtain ⟨tr, ok⟩ := ih (fun k hk => hs k (by omega))
    have ab := qm_ab tr
    have hm := hs m (by omega)
    obtain ⟨okS, okC⟩ := ok m (Nat.le_refl _)
    have eS : ∀ j, j ≤ m → (qm_h tk au m j) = qm_h tk au j j := fun j hj => qm_hle hj
    have hst := qm_hs (tk := tk) (au := au) m
    unfold qm_step at hst
    have tf := T.2.2 _ okS
    have key : ((qm_K tk au m = 0 ∧ qm_S tk au (m + 1) = qm_S tk au m + 1 ∧ qm_P tk au (m + 1) = m :: qm_P tk au m ∧ qm_C tk au (m + 1) = qm_C tk au m ∧ qm_R tk au (m + 1) = m) ∨
        (qm_K tk au m = 1 ∧ qm_S tk au (m + 1) = qm_S tk au m + 1 ∧ (∃ a, qm_P tk au m = a :: qm_P tk au (m + 1)) ∧ qm_C tk au (m + 1) = m :: qm_C tk au m ∧ qm_R tk au (m + 1) = m) ∨
        (∃ i l a r, qm_K tk au m = i + 2 ∧ (qm_C tk au m)[i]? = some l ∧ qm_P tk au l = a :: r ∧ qm_S tk au (m + 1) = au (qm_S tk au a) ∧ qm_P tk au (m + 1) = qm_P tk au m ∧ qm_C tk au (m + 1) = qm_C tk au a ∧ qm_R tk au (m + 1) = a)) ∧ qm_ok n tk au (m + 1) := by
      rcases tf with ⟨f1, f2, f3⟩ | ⟨f1, f2, f3, _⟩ | ⟨i, f1, f2⟩
      · have hk : qm_K tk au m = 1 := by show qm_kd (tk (qm_S tk au m)) = 1; rw [f1]; exact qm_kdL
        have hk' : qm_kd (tk (qm_h tk au m m).1) = 1 := hk
        rw [if_neg (by omega), if_pos hk'] at hst
        have hP : ∃ a, qm_P tk au m = a :: qm_P tk au (m + 1) := by
          have e : qm_P tk au (m + 1) = (qm_P tk au m).tail := congrArg (fun z => z.2.1) hst
          rw [e]
          cases hp : qm_P tk au m with
          | nil => exact absurd ⟨hk, hp⟩ hm
          | cons a r => exact ⟨a, rfl⟩
        have s1 : qm_S tk au (m + 1) = qm_S tk au m + 1 := congrArg (fun z => z.1) hst
        have c1 : qm_C tk au (m + 1) = m :: qm_C tk au m := congrArg (fun z => z.2.2.1) hst
        refine ⟨Or.inr (Or.inl ⟨hk, s1, hP, c1, congrArg (fun z => z.2.2.2) hst⟩), ?_, ?_⟩
        · rw [s1]; exact f2
        · rw [s1, c1, List.length_cons, okC, f3]
      · have hk : qm_K tk au m = 0 := by show qm_kd (tk (qm_S tk au m)) = 0; rw [f1]; exact qm_kdA
        have hk' : qm_kd (tk (qm_h tk au m m).1) = 0 := hk
        rw [if_pos hk'] at hst
        have s1 : qm_S tk au (m + 1) = qm_S tk au m + 1 := congrArg (fun z => z.1) hst
        have c1 : qm_C tk au (m + 1) = qm_C tk au m := congrArg (fun z => z.2.2.1) hst
        refine ⟨Or.inl ⟨hk, s1, congrArg (fun z => z.2.1) hst, c1, congrArg (fun z => z.2.2.2) hst⟩, ?_, ?_⟩
        · rw [s1]; exact f2
        · rw [s1, c1, okC, f3]
      · have hi : i < 2 ^ 31 := by have := qt_dp_le tk (qm_S tk au m); have := T.2.1; omega
        have hk : qm_K tk au m = i + 2 := by show qm_kd (tk (qm_S tk au m)) = _; rw [f2]; exact qm_kdV hi
        have hk' : qm_kd (tk (qm_h tk au m m).1) = i + 2 := hk
        rw [if_neg (by omega), if_neg (by omega), hk', Nat.add_sub_cancel] at hst
        obtain ⟨l, hl⟩ := qa_get (L := qm_C tk au m) (i := i) (by rw [okC]; exact f1)
        have hg : (qm_h tk au m m).2.2.1.getD i 0 = l := by
          rw [List.getD_eq_getElem?_getD]
          show ((qm_C tk au m)[i]?).getD 0 = l
          rw [hl]; rfl
        obtain ⟨b1, b2, a, b3⟩ := (ab m (by omega)).2.1 l (qa_mem hl)
        rw [hg, eS l (by omega)] at hst
        have ha : (qm_h tk au l l).2.1.headD 0 = a := by
          show (qm_P tk au l).headD 0 = a
          rw [b3]; rfl
        rw [ha] at hst
        obtain ⟨d1, d2⟩ := (ab l (by omega)).1 a (by rw [b3]; exact List.mem_cons_self)
        rw [eS a (by omega)] at hst
        have s1 : qm_S tk au (m + 1) = au (qm_S tk au a) := congrArg (fun z => z.1) hst
        have c1 : qm_C tk au (m + 1) = qm_C tk au a := congrArg (fun z => z.2.2.1) hst
        refine ⟨Or.inr (Or.inr ⟨i, l, a, _, hk, hl, b3, s1, congrArg (fun z => z.2.1) hst, c1, congrArg (fun z => z.2.2.2) hst⟩), ?_⟩
        obtain ⟨okSa, okCa⟩ := ok a (by omega)
        have hta : tk (qm_S tk au a) = -2 := by
          have d3 : qm_kd (tk (qm_S tk au a)) = 0 := d2
          unfold qm_kd at d3
          by_cases e : tk (qm_S tk au a) = -2
          · exact e
          · rw [if_neg e] at d3; split at d3 <;> omega
        rcases T.2.2 _ okSa with ⟨g1, _⟩ | ⟨_, _, _, g4, g5, g6, _⟩ | ⟨i', g1, g2⟩
        · rw [g1] at hta; exact absurd hta (by decide)
        · refine ⟨?_, ?_⟩
          · rw [s1]; exact g5
          · rw [s1, c1, okCa, g6]
        · rw [g2] at hta
          exact absurd hta (qf_nneg (by have := qt_dp_le tk (qm_S tk au a); have := T.2.1; omega)).1
    refine ⟨⟨tr.1, tr.2.1, tr.2.2.1, tr.2.2.2.1, fun k hk => ?_⟩, fun k hk => ?_⟩
    · by_cases e : k = m
      · subst e; exact key.1
      · exact tr.2.2.2.2 k (by omega)
    · by_cases e : k = m + 1
      · subst e; exact key.2
      · exact ok k (by omega)
end
section
/-! ===== the tree of judgements ===== -/
def qm_cl (kd : Nat → Nat) (C : Nat → List Nat) (v : Nat) : Nat := (C v).getD (kd v - 2) 0
def qm_hd (P : Nat → List Nat) (l : Nat) : Nat := (P l).headD 0
def qm_en (m : Nat) (kd : Nat → Nat) (P : Nat → List Nat) : Prop := 0 < m ∧ m ≤ 64 ∧ kd (m - 1) = 1 ∧ P (m - 1) = []
def qm_up (R : Nat → Nat) (k : Nat) : Nat → Nat → Nat
  | 0, x => x
  | n + 1, x => if x ≤ k then x else qm_up R k n (R x)
theorem qa_idx {L : List Nat} {i x : Nat} (nd : L.Nodup) (h : L[i]? = some x) : L.idxOf x = i := by
  induction L generalizing i with
  | nil => simp at h
  | cons a L ih =>
    rw [List.nodup_cons] at nd
    cases i with
    | zero => simp at h; subst h; exact List.idxOf_cons_self
    | succ i =>
      have h' : L[i]? = some x := by simpa using h
      have hne : ¬ a = x := fun e => nd.1 (by rw [e]; exact qa_mem h')
      rw [List.idxOf_cons, ih nd.2 h', show (a == x) = false by simpa using hne]; rfl
section
variable {m : Nat} {au kd S R : Nat → Nat} {P C : Nat → List Nat}
theorem qm_hdc {l a : Nat} {r : List Nat} (h : P l = a :: r) : qm_hd P l = a := by unfold qm_hd; rw [h]; rfl
theorem qm_app (T : qm_TR m au kd S P C R) (E : qm_en m kd P) {k : Nat} (hk : k < m) (h : kd k = 0) : k + 1 < m ∧ S (k + 1) = S k + 1 ∧ P (k + 1) = k :: P k ∧ C (k + 1) = C k ∧ R (k + 1) = k := by
  have h1 : k + 1 < m := by
    by_cases e : k = m - 1
    · subst e; rw [E.2.2.1] at h; omega
    · omega
  rcases T.2.2.2.2 k h1 with a | a | ⟨i, l, a, r, a1, _⟩
  · exact ⟨h1, a.2⟩
  · omega
  · omega
theorem qm_lam (T : qm_TR m au kd S P C R) {k : Nat} (h1 : k + 1 < m) (h : kd k = 1) : P k = qm_hd P k :: P (k + 1) ∧ S (k + 1) = S k + 1 ∧ C (k + 1) = k :: C k ∧ R (k + 1) = k := by
  rcases T.2.2.2.2 k h1 with a | ⟨a1, a2, ⟨a, a3⟩, a4⟩ | ⟨i, l, a, r, a1, _⟩
  · omega
  · refine ⟨?_, a2, a4⟩
    rw [qm_hdc a3]; exact a3
  · omega
theorem qm_lam1 (E : qm_en m kd P) {k : Nat} (hk : k < m) (hP : P k ≠ []) : k + 1 < m := by
  by_cases e : k = m - 1
  · subst e; exact absurd E.2.2.2 hP
  · omega
theorem qm_var (T : qm_TR m au kd S P C R) (E : qm_en m kd P) {v : Nat} (hv : v < m) (h : 2 ≤ kd v) : v + 1 < m ∧ (C v)[kd v - 2]? = some (qm_cl kd C v) ∧ qm_cl kd C v ∈ C v ∧ P (v + 1) = P v ∧ C (v + 1) = C (qm_hd P (qm_cl kd C v)) ∧ R (v + 1) = qm_hd P (qm_cl kd C v) ∧ S (v + 1) = au (S (qm_hd P (qm_cl kd C v))) := by
  have h1 : v + 1 < m := by
    by_cases e : v = m - 1
    · subst e; rw [E.2.2.1] at h; omega
    · omega
  rcases T.2.2.2.2 v h1 with a | a | ⟨i, l, a, r, a1, a2, a3, a4, a5, a6, a7⟩
  · omega
  · omega
  · have e : kd v - 2 = i := by omega
    have ec : qm_cl kd C v = l := by unfold qm_cl; rw [e, List.getD_eq_getElem?_getD, a2]; rfl
    rw [e, ec, qm_hdc a3]
    exact ⟨h1, a2, qa_mem a2, a5, a6, a7, a4⟩
/-- the cell of a use: a lambda that took something -/
theorem qm_cell (T : qm_TR m au kd S P C R) {v l : Nat} (hv : v < m) (h : l ∈ C v) : l < v ∧ kd l = 1 ∧ l + 1 < m ∧ P l = qm_hd P l :: P (l + 1) ∧ qm_hd P l < l ∧ kd (qm_hd P l) = 0 := by
  obtain ⟨a1, a2, a, a3⟩ := (qm_ab T v hv).2.1 l h
  rw [qm_hdc a3]
  have := (qm_ab T l (by omega)).1 a (by rw [a3]; exact List.mem_cons_self)
  exact ⟨a1, a2, by omega, a3, this.1, this.2⟩
theorem qm_Cnd (T : qm_TR m au kd S P C R) : ∀ k, k < m → (C k).Nodup := by
  intro k
  induction k using Nat.strongRecOn with
  | _ k ih =>
    intro hk
    cases hc : C k with
    | nil => exact List.nodup_nil
    | cons l r =>
      have ab := qm_ab T k hk
      have e := ab.2.2.2 l r hc
      have hl := (ab.2.1 l (by rw [hc]; exact List.mem_cons_self)).1
      rw [e, List.nodup_cons]
      exact ⟨fun h => Nat.lt_irrefl _ ((qm_ab T l (by omega)).2.1 l h).1, ih l hl (by omega)⟩
theorem qm_child (T : qm_TR m au kd S P C R) (E : qm_en m kd P) {x : Nat} (h0 : 0 < x) (hx : x < m) : R x < x ∧ ((x = R x + 1 ∧ kd (R x) = 0) ∨ (x = R x + 1 ∧ kd (R x) = 1) ∨ (kd (R x) = 0 ∧ x ≠ R x + 1 ∧ ∃ v, x = v + 1 ∧ 2 ≤ kd v ∧ qm_hd P (qm_cl kd C v) = R x)) := by
  obtain ⟨k, rfl⟩ : ∃ k, x = k + 1 := ⟨x - 1, by omega⟩
  rcases Nat.lt_or_ge (kd k) 2 with h | h
  · rcases T.2.2.2.2 k hx with a | a | ⟨i, l, a, r, a1, _⟩
    · rw [a.2.2.2.2]; exact ⟨by omega, Or.inl ⟨rfl, a.1⟩⟩
    · rw [a.2.2.2.2]; exact ⟨by omega, Or.inr (Or.inl ⟨rfl, a.1⟩)⟩
    · omega
  · obtain ⟨v1, v2, v3, v4, v5, v6, v7⟩ := qm_var T E (by omega) h
    obtain ⟨c1, c2, c3, c4, c5, c6⟩ := qm_cell T (by omega) v3
    rw [v6]
    refine ⟨by omega, Or.inr (Or.inr ⟨c6, ?_, k, rfl, h, rfl⟩)⟩
    intro e
    have : k = qm_hd P (qm_cl kd C k) := by omega
    rw [← this] at c6; omega
theorem qm_Rlt (T : qm_TR m au kd S P C R) (E : qm_en m kd P) {x : Nat} (h0 : 0 < x) (hx : x < m) : R x < x := (qm_child T E h0 hx).1
theorem qm_R0 (T : qm_TR m au kd S P C R) (E : qm_en m kd P) {k : Nat} (hk : k < m) : R 0 ≠ k := by have := T.2.2.2.1; have := E.2.1; omega
theorem qm_chpos (T : qm_TR m au kd S P C R) (E : qm_en m kd P) {k p : Nat} (hk : k < m) (hp : p < m) (h : R p = k) : k < p := by
  rcases Nat.eq_zero_or_pos p with e | e
  · subst e; exact absurd h (qm_R0 T E hk)
  · have := qm_Rlt T E e hp; omega
theorem qm_chL (T : qm_TR m au kd S P C R) (E : qm_en m kd P) {k p : Nat} (hk : kd k = 1) (hkm : k < m) (hp : p < m) (h : R p = k) : p = k + 1 := by
  have := qm_chpos T E hkm hp h
  rcases (qm_child T E (by omega) hp).2 with a | a | a
  · omega
  · omega
  · rw [h] at a; omega
theorem qm_chV (T : qm_TR m au kd S P C R) (E : qm_en m kd P) {k p : Nat} (hk : 2 ≤ kd k) (hkm : k < m) (hp : p < m) (h : R p = k) : False := by
  have := qm_chpos T E hkm hp h
  rcases (qm_child T E (by omega) hp).2 with a | a | a
  · rw [h] at a; omega
  · rw [h] at a; omega
  · rw [h] at a; omega
theorem qm_chC (T : qm_TR m au kd S P C R) (E : qm_en m kd P) {k p : Nat} (hk : kd k = 0) (hkm : k < m) (hp : p < m) (h : R p = k) : C p = C k := by
  have := qm_chpos T E hkm hp h
  rcases (qm_child T E (by omega) hp).2 with ⟨a, _⟩ | a | ⟨_, _, v, e, a1, a2⟩
  · rw [a, h]; exact (qm_app T E hkm hk).2.2.2.1
  · rw [h] at a; omega
  · subst e
    rw [(qm_var T E (by omega) a1).2.2.2.2.1, a2, h]
/-- what a lambda took is never pending again -/
theorem qm_gone (T : qm_TR m au kd S P C R) {l : Nat} (hl : kd l = 1) (hm : l + 1 < m) : ∀ j, l < j → j < m → ∀ x, x ∈ P j → x ∈ P (l + 1) ∨ l < x := by
  intro j
  induction j with
  | zero => intro h; omega
  | succ j ih =>
    intro h1 h2 x hx
    by_cases e : j = l
    · subst e; exact Or.inl hx
    · have ihj := ih (by omega) (by omega)
      rcases T.2.2.2.2 j h2 with ⟨_, _, a, _⟩ | ⟨_, _, ⟨a, b⟩, _⟩ | ⟨i, l', a, r, _, _, _, _, b, _⟩
      · rw [a] at hx
        rcases List.mem_cons.mp hx with z | z
        · right; omega
        · exact ihj x z
      · exact ihj x (by rw [b]; exact List.mem_cons_of_mem _ hx)
      · rw [b] at hx; exact ihj x hx
theorem qm_gone' (T : qm_TR m au kd S P C R) {l j : Nat} (hl : kd l = 1) (hm : l + 1 < m) (h1 : l < j) (h2 : j < m) : ¬ qm_hd P l ∈ P j := by
  intro h
  have hp := (qm_lam T hm hl).1
  have ab := qm_ab T l (by omega)
  have hlt := (ab.1 (qm_hd P l) (by rw [hp]; exact List.mem_cons_self)).1
  have hP := ab.2.2.1 _ _ hp
  rcases qm_gone T hl hm j h1 h2 _ h with z | z
  · rw [hP] at z
    exact Nat.lt_irrefl _ ((qm_ab T (qm_hd P l) (by omega)).1 _ z).1
  · omega
theorem qm_inj (T : qm_TR m au kd S P C R) {l l' : Nat} (h1 : kd l = 1) (h2 : kd l' = 1) (m1 : l + 1 < m) (m2 : l' + 1 < m) (e : qm_hd P l = qm_hd P l') : l = l' := by
  rcases Nat.lt_trichotomy l l' with h | h | h
  · exfalso; apply qm_gone' T h1 m1 h (by omega); rw [e, (qm_lam T m2 h2).1]; exact List.mem_cons_self
  · exact h
  · exfalso; apply qm_gone' T h2 m2 h (by omega); rw [← e, (qm_lam T m1 h1).1]; exact List.mem_cons_self
/-- arguments of what is pending at j come later than j -/
theorem qm_late (T : qm_TR m au kd S P C R) (E : qm_en m kd P) {j v : Nat} (hj : j < m) (hv : v < m) (h2 : 2 ≤ kd v) (h : qm_hd P (qm_cl kd C v) ∈ P j) : j < v := by
  obtain ⟨v1, v2, v3, _⟩ := qm_var T E hv h2
  obtain ⟨c1, c2, c3, _⟩ := qm_cell T hv v3
  rcases Nat.lt_or_ge (qm_cl kd C v) j with z | z
  · exact absurd h (qm_gone' T c2 c3 z hj)
  · omega
/-! above in the tree -/
theorem qm_fuel (H : ∀ x, 0 < x → x < m → R x < x) (k : Nat) : ∀ x, x < m → ∀ n n', x ≤ n → x ≤ n' → qm_up R k n x = qm_up R k n' x := by
  intro x
  induction x using Nat.strongRecOn with
  | _ x ih =>
    intro hx n n' h1 h2
    cases n with
    | zero =>
      have : x = 0 := by omega
      subst this
      cases n' with
      | zero => rfl
      | succ n' => exact (if_pos (Nat.zero_le _)).symm
    | succ n =>
      cases n' with
      | zero =>
        have : x = 0 := by omega
        subst this
        exact if_pos (Nat.zero_le _)
      | succ n' =>
        show (if x ≤ k then x else qm_up R k n (R x)) = (if x ≤ k then x else qm_up R k n' (R x))
        by_cases e : x ≤ k
        · rw [if_pos e, if_pos e]
        · rw [if_neg e, if_neg e]
          have := H x (by omega) hx
          exact ih (R x) this (by omega) n n' (by omega) (by omega)
def qm_rc (R : Nat → Nat) (k v : Nat) : Prop := qm_up R k v v = k
theorem qm_rc_s (R : Nat → Nat) (k : Nat) : qm_rc R k k := by
  cases k with
  | zero => rfl
  | succ k => exact if_pos (Nat.le_refl _)
theorem qm_rc_lt {R : Nat → Nat} {k v : Nat} (h : v < k) : ¬ qm_rc R k v := by
  intro e
  cases v with
  | zero => have : (0 : Nat) = k := e
            omega
  | succ v => have : (if v + 1 ≤ k then v + 1 else qm_up R k v (R (v + 1))) = k := e
              rw [if_pos (by omega)] at this; omega
theorem qm_rc_st (T : qm_TR m au kd S P C R) (E : qm_en m kd P) {k v : Nat} (h : k < v) (hv : v < m) : qm_rc R k v ↔ qm_rc R k (R v) := by
  obtain ⟨w, rfl⟩ : ∃ w, v = w + 1 := ⟨v - 1, by omega⟩
  have hlt := qm_Rlt T E (by omega) hv
  show (if w + 1 ≤ k then w + 1 else qm_up R k w (R (w + 1))) = k ↔ qm_up R k (R (w + 1)) (R (w + 1)) = k
  rw [if_neg (by omega), qm_fuel (m := m) (fun x h0 hx => qm_Rlt T E h0 hx) k (R (w + 1)) (by omega) w (R (w + 1)) (by omega) (Nat.le_refl _)]
theorem qm_rc_ge {R : Nat → Nat} {k v : Nat} (h : qm_rc R k v) : k ≤ v := by
  rcases Nat.lt_or_ge v k with z | z
  · exact absurd h (qm_rc_lt z)
  · exact z
theorem qm_rc_ch (T : qm_TR m au kd S P C R) (E : qm_en m kd P) {k : Nat} (hk : k < m) : ∀ v, k < v → v < m → (qm_rc R k v ↔ ∃ p, p < m ∧ R p = k ∧ qm_rc R p v) := by
  intro v
  induction v using Nat.strongRecOn with
  | _ v ih =>
    intro h1 h2
    have hlt := qm_Rlt T E (by omega) h2
    rw [qm_rc_st T E h1 h2]
    constructor
    · intro h
      by_cases e : R v = k
      · exact ⟨v, h2, e, qm_rc_s R v⟩
      · have := qm_rc_ge h
        obtain ⟨p, p1, p2, p3⟩ := (ih (R v) hlt (by omega) (by omega)).mp h
        have := qm_rc_ge p3
        exact ⟨p, p1, p2, (qm_rc_st T E (by omega) h2).mpr p3⟩
    · rintro ⟨p, p1, p2, p3⟩
      have hkp := qm_chpos T E hk p1 p2
      by_cases e : p = v
      · subst e; rw [p2]; exact qm_rc_s R k
      · have := qm_rc_ge p3
        have p4 := (qm_rc_st T E (by omega) h2).mp p3
        have := qm_rc_ge p4
        exact (ih (R v) hlt (by omega) (by omega)).mpr ⟨p, p1, p2, p4⟩
theorem qm_rc_un (T : qm_TR m au kd S P C R) (E : qm_en m kd P) {k p q : Nat} (hk : k < m) (hp : p < m) (hq : q < m) (e1 : R p = k) (e2 : R q = k) : ∀ v, v < m → qm_rc R p v → qm_rc R q v → p = q := by
  have kp := qm_chpos T E hk hp e1
  have kq := qm_chpos T E hk hq e2
  intro v
  induction v using Nat.strongRecOn with
  | _ v ih =>
    intro hv h1 h2
    have g1 := qm_rc_ge h1
    have g2 := qm_rc_ge h2
    have hlt := qm_Rlt T E (by omega) hv
    rcases Nat.lt_trichotomy p q with z | z | z
    · by_cases e : q = v
      · subst e
        have := (qm_rc_st T E z hv).mp h1
        rw [e2] at this
        exact absurd this (qm_rc_lt kp)
      · exact ih (R v) hlt (by omega) ((qm_rc_st T E (by omega) hv).mp h1) ((qm_rc_st T E (by omega) hv).mp h2)
    · exact z
    · by_cases e : p = v
      · subst e
        have := (qm_rc_st T E z hv).mp h2
        rw [e1] at this
        exact absurd this (qm_rc_lt kq)
      · exact ih (R v) hlt (by omega) ((qm_rc_st T E (by omega) hv).mp h1) ((qm_rc_st T E (by omega) hv).mp h2)
theorem qm_rc_cell (T : qm_TR m au kd S P C R) (E : qm_en m kd P) {l : Nat} : ∀ v, v < m → l ∈ C v → qm_rc R l v := by
  intro v
  induction v using Nat.strongRecOn with
  | _ v ih =>
    intro hv hl
    have c1 := (qm_cell T hv hl).1
    rw [qm_rc_st T E c1 hv]
    obtain ⟨hlt, hc⟩ := qm_child T E (by omega) hv
    rcases hc with ⟨a1, a2⟩ | ⟨a1, a2⟩ | ⟨a1, a2, _⟩
    · have := qm_chC T E a2 (by omega) hv rfl
      rw [this] at hl
      exact ih (R v) hlt (by omega) hl
    · have := (qm_lam T (by omega) a2).2.2.1
      rw [← a1] at this
      rw [this] at hl
      rcases List.mem_cons.mp hl with z | z
      · rw [← z]; exact qm_rc_s R l
      · exact ih (R v) hlt (by omega) z
    · have := qm_chC T E a1 (by omega) hv rfl
      rw [this] at hl
      exact ih (R v) hlt (by omega) hl
end
end
section
/-! ===== the uses under a judgement and their codes ===== -/
def qc_in (kd R : Nat → Nat) (C : Nat → List Nat) (k v : Nat) : Bool := decide (2 ≤ kd v) && (decide (qm_up R k v v = k) && decide (qm_cl kd C v ∈ C k))
def qc_U (m : Nat) (kd R : Nat → Nat) (C : Nat → List Nat) (k : Nat) : List Nat := qa_fl (qc_in kd R C k) m
def qc_cd (kd : Nat → Nat) (C : Nat → List Nat) (ty : Nat → Nat) (k v : Nat) : Nat := (C k).idxOf (qm_cl kd C v) * 64 + ty v
/-- the row of k: sorted, the codes of its uses -/
def qc_Row (m : Nat) (kd R : Nat → Nat) (C : Nat → List Nat) (ty : Nat → Nat) (k : Nat) (W : List Nat) : Prop := W.Pairwise (· ≤ ·) ∧ W.Perm ((qc_U m kd R C k).map (qc_cd kd C ty k))
theorem qc_in_iff {kd R : Nat → Nat} {C : Nat → List Nat} {k v : Nat} : qc_in kd R C k v = true ↔ 2 ≤ kd v ∧ qm_rc R k v ∧ qm_cl kd C v ∈ C k := by
  simp only [qc_in, Bool.and_eq_true, decide_eq_true_eq]; exact Iff.rfl
section
variable {m : Nat} {au kd S R : Nat → Nat} {P C : Nat → List Nat} {ty : Nat → Nat}
theorem qc_U_mem {k v : Nat} : v ∈ qc_U m kd R C k ↔ v < m ∧ 2 ≤ kd v ∧ qm_rc R k v ∧ qm_cl kd C v ∈ C k := by
  rw [qc_U, qa_fl_mem, qc_in_iff]
theorem qc_U_nd (k : Nat) : (qc_U m kd R C k).Nodup := qa_fl_nd _ _
/-- a list of different uses is short -/
theorem qc_short (E : qm_en m kd P) {L : List Nat} (nd : L.Nodup) (h : ∀ v, v ∈ L → v < m ∧ 2 ≤ kd v) : L.length < m := by
  have h1 : L.length ≤ (qa_fl (fun v => decide (2 ≤ kd v)) m).length := by
    refine List.Nodup.length_le_of_subset nd fun v hv => ?_
    rw [qa_fl_mem]; exact ⟨(h v hv).1, decide_eq_true (h v hv).2⟩
  rw [qa_fl_len] at h1
  have : qa_cn (fun v => decide (2 ≤ kd v)) m < m := by
    refine qa_cn_lt (k := m - 1) (by have := E.1; omega) ?_
    rw [E.2.2.1]; rfl
  omega
theorem qc_len (E : qm_en m kd P) {k : Nat} {W : List Nat} (h : qc_Row m kd R C ty k W) : W.length < m := by
  rw [h.2.length_eq, List.length_map]
  exact qc_short E (qc_U_nd k) fun v hv => ⟨(qc_U_mem.mp hv).1, (qc_U_mem.mp hv).2.1⟩
theorem qc_var_U (T : qm_TR m au kd S P C R) (E : qm_en m kd P) {k : Nat} (hk : k < m) (h : 2 ≤ kd k) : (qc_U m kd R C k).Perm [k] := by
  refine qa_pe (qc_U_nd k) (List.nodup_cons.mpr ⟨List.not_mem_nil, List.nodup_nil⟩) fun v => ?_
  rw [qc_U_mem, List.mem_singleton]
  constructor
  · rintro ⟨h1, h2, h3, h4⟩
    rcases Nat.eq_or_lt_of_le (qm_rc_ge h3) with e | e
    · exact e.symm
    · obtain ⟨p, p1, p2, _⟩ := (qm_rc_ch T E hk v e h1).mp h3
      exact absurd (qm_chV T E h hk p1 p2) id
  · intro e
    subst e
    exact ⟨hk, h, qm_rc_s R v, (qm_var T E hk h).2.2.1⟩
theorem qc_var_row (T : qm_TR m au kd S P C R) (E : qm_en m kd P) {k : Nat} (hk : k < m) (h : 2 ≤ kd k) : qc_Row m kd R C ty k [(kd k - 2) * 64 + ty k] := by
  refine ⟨List.pairwise_singleton _ _, ?_⟩
  have := (qc_var_U T E hk h).map (qc_cd kd C ty k)
  refine List.Perm.trans (List.Perm.of_eq ?_) this.symm
  show _ = [qc_cd kd C ty k k]
  unfold qc_cd
  rw [qa_idx (qm_Cnd T k hk) (qm_var T E hk h).2.1]
theorem qc_star_row (E : qm_en m kd P) {k : Nat} (hk : k = m - 1) : qc_Row m kd R C ty k [] := by
  refine ⟨List.Pairwise.nil, ?_⟩
  have : qc_U m kd R C k = [] := by
    refine List.eq_nil_iff_forall_not_mem.mpr fun v hv => ?_
    obtain ⟨h1, h2, h3, _⟩ := qc_U_mem.mp hv
    have := qm_rc_ge h3
    have e : v = m - 1 := by omega
    rw [e, E.2.2.1] at h2; omega
  rw [this]; exact List.Perm.refl _
/-- the children of k -/
def qc_ch (m : Nat) (R : Nat → Nat) (k : Nat) : List Nat := qa_fl (fun p => decide (R p = k)) m
theorem qc_ch_mem {k p : Nat} : p ∈ qc_ch m R k ↔ p < m ∧ R p = k := by rw [qc_ch, qa_fl_mem, decide_eq_true_eq]
theorem qc_app_in (T : qm_TR m au kd S P C R) (E : qm_en m kd P) {k v : Nat} (hk : k < m) (h0 : kd k = 0) : v ∈ qc_U m kd R C k ↔ ∃ p, p ∈ qc_ch m R k ∧ v ∈ qc_U m kd R C p := by
  constructor
  · intro h
    obtain ⟨h1, h2, h3, h4⟩ := qc_U_mem.mp h
    have : k < v := by
      rcases Nat.eq_or_lt_of_le (qm_rc_ge h3) with e | e
      · subst e; omega
      · exact e
    obtain ⟨p, p1, p2, p3⟩ := (qm_rc_ch T E hk v this h1).mp h3
    exact ⟨p, qc_ch_mem.mpr ⟨p1, p2⟩, qc_U_mem.mpr ⟨h1, h2, p3, by rw [qm_chC T E h0 hk p1 p2]; exact h4⟩⟩
  · rintro ⟨p, h, hv⟩
    obtain ⟨p1, p2⟩ := qc_ch_mem.mp h
    obtain ⟨h1, h2, h3, h4⟩ := qc_U_mem.mp hv
    have := qm_chpos T E hk p1 p2
    have := qm_rc_ge h3
    exact qc_U_mem.mpr ⟨h1, h2, (qm_rc_ch T E hk v (by omega) h1).mpr ⟨p, p1, p2, h3⟩, by rw [← qm_chC T E h0 hk p1 p2]; exact h4⟩
/-- some children of an application: their uses are different -/
theorem qc_app_nd (T : qm_TR m au kd S P C R) (E : qm_en m kd P) {k : Nat} (hk : k < m) {L : List Nat} (hL : L.Nodup) (hs : ∀ p, p ∈ L → p ∈ qc_ch m R k) : (L.flatMap (qc_U m kd R C)).Nodup := by
  refine qa_fm_nd hL (fun p _ => qc_U_nd p) fun p q v hp hq h1 h2 => ?_
  obtain ⟨p1, p2⟩ := qc_ch_mem.mp (hs p hp)
  obtain ⟨q1, q2⟩ := qc_ch_mem.mp (hs q hq)
  exact qm_rc_un T E hk p1 q1 p2 q2 v (qc_U_mem.mp h1).1 (qc_U_mem.mp h1).2.2.1 (qc_U_mem.mp h2).2.2.1
theorem qc_app_perm (T : qm_TR m au kd S P C R) (E : qm_en m kd P) {k : Nat} (hk : k < m) (h0 : kd k = 0) {L : List Nat} (hs : ∀ p, p ∈ L → p ∈ qc_ch m R k) {Wf : Nat → List Nat} (hW : ∀ p, p ∈ L → qc_Row m kd R C ty p (Wf p)) : (L.flatMap Wf).Perm ((L.flatMap (qc_U m kd R C)).map (qc_cd kd C ty k)) := by
  rw [qa_fm_map]
  refine qa_fm_perm fun p hp => ?_
  obtain ⟨p1, p2⟩ := qc_ch_mem.mp (hs p hp)
  refine List.Perm.trans (hW p hp).2 (List.Perm.of_eq (List.map_congr_left fun v _ => ?_))
  unfold qc_cd; rw [qm_chC T E h0 hk p1 p2]
theorem qc_app_short (T : qm_TR m au kd S P C R) (E : qm_en m kd P) {k : Nat} (hk : k < m) (h0 : kd k = 0) {L : List Nat} (hL : L.Nodup) (hs : ∀ p, p ∈ L → p ∈ qc_ch m R k) {Wf : Nat → List Nat} (hW : ∀ p, p ∈ L → qc_Row m kd R C ty p (Wf p)) : (L.flatMap Wf).length < m := by
  rw [(qc_app_perm T E hk h0 hs hW).length_eq, List.length_map]
  refine qc_short E (qc_app_nd T E hk hL hs) fun v hv => ?_
  obtain ⟨p, _, hv'⟩ := List.mem_flatMap.mp hv
  exact ⟨(qc_U_mem.mp hv').1, (qc_U_mem.mp hv').2.1⟩
theorem qc_app_row (T : qm_TR m au kd S P C R) (E : qm_en m kd P) {k : Nat} (hk : k < m) (h0 : kd k = 0) {Wf : Nat → List Nat} (hW : ∀ p, p ∈ qc_ch m R k → qc_Row m kd R C ty p (Wf p)) {W : List Nat} (hs : W.Pairwise (· ≤ ·)) (hp : W.Perm ((qc_ch m R k).flatMap Wf)) : qc_Row m kd R C ty k W := by
  refine ⟨hs, hp.trans ((qc_app_perm T E hk h0 (fun _ h => h) hW).trans (List.Perm.map _ ?_))⟩
  refine qa_pe (qc_app_nd T E hk (qa_fl_nd _ _) fun _ h => h) (qc_U_nd k) fun v => ?_
  rw [qc_app_in T E hk h0, List.mem_flatMap]
/-! a lambda: the uses of its own variable -/
def qc_B (m : Nat) (kd : Nat → Nat) (C : Nat → List Nat) (k : Nat) : List Nat := qa_fl (fun v => decide (2 ≤ kd v) && decide (qm_cl kd C v = k)) m
theorem qc_B_mem {k v : Nat} : v ∈ qc_B m kd C k ↔ v < m ∧ 2 ≤ kd v ∧ qm_cl kd C v = k := by
  rw [qc_B, qa_fl_mem, Bool.and_eq_true, decide_eq_true_eq, decide_eq_true_eq]
theorem qc_lam_in (T : qm_TR m au kd S P C R) (E : qm_en m kd P) {k v : Nat} (hk : k + 1 < m) (h1 : kd k = 1) : v ∈ qc_U m kd R C k ↔ v ∈ qc_U m kd R C (k + 1) ∧ qm_cl kd C v ≠ k := by
  obtain ⟨l1, l2, l3, l4⟩ := qm_lam T hk h1
  rw [qc_U_mem, qc_U_mem, l3, List.mem_cons]
  constructor
  · rintro ⟨a1, a2, a3, a4⟩
    have hlt := (qm_cell T (by omega) a4).1
    have : k < v := by
      rcases Nat.eq_or_lt_of_le (qm_rc_ge a3) with e | e
      · subst e; omega
      · exact e
    obtain ⟨p, p1, p2, p3⟩ := (qm_rc_ch T E (by omega) v this a1).mp a3
    have := qm_chL T E h1 (by omega) p1 p2
    subst this
    exact ⟨⟨a1, a2, p3, Or.inr a4⟩, by omega⟩
  · rintro ⟨⟨a1, a2, a3, a4⟩, a5⟩
    have := qm_rc_ge a3
    exact ⟨a1, a2, (qm_rc_ch T E (by omega) v (by omega) a1).mpr ⟨k + 1, hk, l4, a3⟩, a4.resolve_left a5⟩
theorem qc_lam_B (T : qm_TR m au kd S P C R) (E : qm_en m kd P) {k v : Nat} (hk : k + 1 < m) (h1 : kd k = 1) : v ∈ qc_B m kd C k ↔ v ∈ qc_U m kd R C (k + 1) ∧ qm_cl kd C v = k := by
  obtain ⟨l1, l2, l3, l4⟩ := qm_lam T hk h1
  rw [qc_U_mem, qc_B_mem, l3, List.mem_cons]
  constructor
  · rintro ⟨a1, a2, a3⟩
    have hc := (qm_var T E a1 a2).2.2.1
    have hrc := qm_rc_cell T E v a1 hc
    have hlt := (qm_cell T a1 hc).1
    rw [a3] at hrc hlt
    obtain ⟨p, p1, p2, p3⟩ := (qm_rc_ch T E (by omega) v hlt a1).mp hrc
    have := qm_chL T E h1 (by omega) p1 p2
    subst this
    exact ⟨⟨a1, a2, p3, Or.inl a3⟩, a3⟩
  · rintro ⟨⟨a1, a2, _, _⟩, a5⟩
    exact ⟨a1, a2, a5⟩
theorem qc_cd0 (T : qm_TR m au kd S P C R) {k v : Nat} (hk : k + 1 < m) (h1 : kd k = 1) (h : qm_cl kd C v = k) : qc_cd kd C ty (k + 1) v = ty v := by
  unfold qc_cd
  rw [(qm_lam T hk h1).2.2.1, h, List.idxOf_cons_self]; omega
theorem qc_cd1 (T : qm_TR m au kd S P C R) {k v : Nat} (hk : k + 1 < m) (h1 : kd k = 1) (h : qm_cl kd C v ≠ k) : qc_cd kd C ty (k + 1) v = qc_cd kd C ty k v + 64 := by
  unfold qc_cd
  rw [(qm_lam T hk h1).2.2.1, List.idxOf_cons]
  have : (k == qm_cl kd C v) = false := by simpa using fun e => h e.symm
  rw [this]
  show (List.idxOf (qm_cl kd C v) (C k) + 1) * 64 + ty v = _
  omega
/-- the border in the row of the body: own uses ahead of it, the others behind -/
theorem qc_lam_row (T : qm_TR m au kd S P C R) (E : qm_en m kd P) {k : Nat} (hk : k + 1 < m) (h1 : kd k = 1) (ht : ∀ v, v ∈ qc_U m kd R C (k + 1) → ty v < 64) {W : List Nat} (hW : qc_Row m kd R C ty (k + 1) W) {n : Nat} (hn1 : W.take n = W.filter (fun x => decide (x < 64))) (hn2 : W.drop n = W.filter (fun x => decide (64 ≤ x))) :
    (W.take n).Perm ((qc_B m kd C k).map ty) ∧ qc_Row m kd R C ty k ((W.drop n).map (fun x => x - 64)) := by
  have small : ∀ v, v ∈ qc_U m kd R C (k + 1) → (qc_cd kd C ty (k + 1) v < 64 ↔ qm_cl kd C v = k) := by
    intro v hv
    constructor
    · intro h
      by_cases e : qm_cl kd C v = k
      · exact e
      · rw [qc_cd1 T hk h1 e] at h; omega
    · intro e; rw [qc_cd0 T hk h1 e]; exact ht v hv
  refine ⟨?_, ?_, ?_⟩
  · rw [hn1]
    refine (hW.2.filter _).trans ?_
    rw [List.filter_map]
    have e1 : ((qc_U m kd R C (k + 1)).filter ((fun x => decide (x < 64)) ∘ qc_cd kd C ty (k + 1))).Perm (qc_B m kd C k) := by
      refine qa_pe (List.Nodup.sublist List.filter_sublist (qc_U_nd _)) (qa_fl_nd _ _) fun v => ?_
      rw [List.mem_filter, qc_lam_B T E hk h1]
      constructor
      · rintro ⟨a, b⟩; exact ⟨a, (small v a).mp (of_decide_eq_true b)⟩
      · rintro ⟨a, b⟩; exact ⟨a, decide_eq_true ((small v a).mpr b)⟩
    refine List.Perm.trans (List.Perm.of_eq (List.map_congr_left fun v hv => ?_)) (e1.map ty)
    obtain ⟨a, b⟩ := List.mem_filter.mp hv
    exact qc_cd0 T hk h1 ((small v a).mp (of_decide_eq_true b))
  · refine List.Pairwise.map _ (fun a b (h : a ≤ b) => ?_) (hW.1.drop)
    show a - 64 ≤ b - 64
    omega
  · rw [hn2]
    refine ((hW.2.filter _).map _).trans ?_
    rw [List.filter_map, List.map_map]
    have e1 : ((qc_U m kd R C (k + 1)).filter ((fun x => decide (64 ≤ x)) ∘ qc_cd kd C ty (k + 1))).Perm (qc_U m kd R C k) := by
      refine qa_pe (List.Nodup.sublist List.filter_sublist (qc_U_nd _)) (qc_U_nd _) fun v => ?_
      rw [List.mem_filter, qc_lam_in T E hk h1]
      constructor
      · rintro ⟨a, b⟩
        have b' : 64 ≤ qc_cd kd C ty (k + 1) v := of_decide_eq_true b
        exact ⟨a, fun e => by have := (small v a).mpr e; omega⟩
      · rintro ⟨a, b⟩
        refine ⟨a, decide_eq_true ?_⟩
        show 64 ≤ qc_cd kd C ty (k + 1) v
        rw [qc_cd1 T hk h1 b]; omega
    refine List.Perm.trans (List.Perm.of_eq (List.map_congr_left fun v hv => ?_)) (e1.map _)
    obtain ⟨a, b⟩ := List.mem_filter.mp hv
    have b' : 64 ≤ qc_cd kd C ty (k + 1) v := of_decide_eq_true b
    show qc_cd kd C ty (k + 1) v - 64 = _
    rw [qc_cd1 T hk h1 (fun e => by have := (small v a).mpr e; omega)]; omega
/-! the arguments handed to an application -/
def qc_ar (m : Nat) (R : Nat → Nat) (a : Nat) : List Nat := qa_fl (fun x => decide (R x = a) && !decide (x = a + 1)) m
theorem qc_ar_mem {a x : Nat} : x ∈ qc_ar m R a ↔ x < m ∧ R x = a ∧ x ≠ a + 1 := by
  rw [qc_ar, qa_fl_mem, Bool.and_eq_true, decide_eq_true_eq, Bool.not_eq_true', decide_eq_false_iff_not]
theorem qc_ar_B (T : qm_TR m au kd S P C R) (E : qm_en m kd P) {k : Nat} (hk : k + 1 < m) (h1 : kd k = 1) : (qc_ar m R (qm_hd P k)).Perm ((qc_B m kd C k).map (fun v => v + 1)) := by
  have hP := (qm_lam T hk h1).1
  have ha := (qm_ab T k (by omega)).1 (qm_hd P k) (by rw [hP]; exact List.mem_cons_self)
  refine qa_pe (qa_fl_nd _ _) ?_ fun x => ?_
  · exact List.Pairwise.map _ (fun a b (h : a ≠ b) e => h (by simpa using e)) (qa_fl_nd _ _)
  · rw [qc_ar_mem, List.mem_map]
    constructor
    · rintro ⟨h2, h3, h4⟩
      have hpos := qm_chpos T E (by omega) h2 h3
      rcases (qm_child T E (by omega) h2).2 with a | a | ⟨_, _, v, e, b1, b2⟩
      · rw [h3] at a; omega
      · rw [h3] at a; omega
      · subst e
        refine ⟨v, qc_B_mem.mpr ⟨by omega, b1, ?_⟩, rfl⟩
        obtain ⟨c1, c2, c3, _⟩ := qm_cell T (by omega) (qm_var T E (by omega) b1).2.2.1
        exact qm_inj T c2 h1 c3 hk (b2.trans h3)
    · rintro ⟨v, hv, rfl⟩
      obtain ⟨b1, b2, b3⟩ := qc_B_mem.mp hv
      obtain ⟨v1, _, _, _, _, v6, _⟩ := qm_var T E b1 b2
      refine ⟨v1, by rw [v6, b3], fun e => ?_⟩
      have : v = qm_hd P k := by omega
      rw [this] at b2; omega
/-- arguments of what is pending at j come later -/
theorem qc_ar_late (T : qm_TR m au kd S P C R) (E : qm_en m kd P) {j a x : Nat} (hj : j < m) (ha : a ∈ P j) (hx : x ∈ qc_ar m R a) : j + 1 < x := by
  obtain ⟨h2, h3, h4⟩ := qc_ar_mem.mp hx
  have ha2 := (qm_ab T j hj).1 a ha
  have hpos := qm_chpos T E (by omega) h2 h3
  rcases (qm_child T E (by omega) h2).2 with b | b | ⟨_, _, v, e, b1, b2⟩
  · rw [h3] at b; omega
  · rw [h3] at b; omega
  · subst e
    have := qm_late T E hj (by omega) b1 (by rw [b2, h3]; exact ha)
    omega
end
end
section
/-! ===== shared types ===== -/
def qy_Rep (tc : Nat) (cod : Nat → Nat) (dom D : Nat → List Nat) : List Nat → Nat → Prop
  | [], t => t = 0
  | a :: L, t => 0 < t ∧ t < tc ∧ (dom t).Perm (D a) ∧ qy_Rep tc cod dom D L (cod t)
def qy_Tab (tc : Nat) (cod : Nat → Nat) (dom : Nat → List Nat) : Prop :=
  0 < tc ∧ (∀ t, 0 < t → t < tc → cod t < tc ∧ (dom t).Pairwise (· ≤ ·)) ∧ (∀ t t', 0 < t → t < tc → 0 < t' → t' < tc → cod t = cod t' → dom t = dom t' → t = t')
theorem qy_uniq {tc : Nat} {cod : Nat → Nat} {dom D : Nat → List Nat} (H : qy_Tab tc cod dom) : ∀ {L : List Nat} {t t' : Nat}, qy_Rep tc cod dom D L t → qy_Rep tc cod dom D L t' → t = t' := by
  intro L
  induction L with
  | nil => intro t t' h1 h2; exact Eq.trans h1 (Eq.symm h2)
  | cons a L ih =>
    rintro t t' ⟨a1, a2, a3, a4⟩ ⟨b1, b2, b3, b4⟩
    refine H.2.2 t t' a1 a2 b1 b2 (ih a4 b4) ?_
    exact qa_srt (H.2.1 t a1 a2).2 (H.2.1 t' b1 b2).2 (a3.trans b3.symm)
theorem qy_mono {tc tc' : Nat} {cod cod' : Nat → Nat} {dom dom' D D' : Nat → List Nat} (htc : tc ≤ tc') (hx : ∀ t, 0 < t → t < tc → cod' t = cod t ∧ dom' t = dom t) : ∀ {L : List Nat} {t : Nat}, (∀ a, a ∈ L → D' a = D a) → qy_Rep tc cod dom D L t → qy_Rep tc' cod' dom' D' L t := by
  intro L
  induction L with
  | nil => intro t _ h; exact h
  | cons a L ih =>
    rintro t hD ⟨a1, a2, a3, a4⟩
    obtain ⟨e1, e2⟩ := hx t a1 a2
    refine ⟨a1, by omega, ?_, ?_⟩
    · rw [e2, hD a List.mem_cons_self]; exact a3
    · rw [e1]; exact ih (fun b hb => hD b (List.mem_cons_of_mem _ hb)) a4
theorem qy_eqv {tc : Nat} {cod : Nat → Nat} {dom D : Nat → List Nat} (H : qy_Tab tc cod dom) : ∀ {L L' : List Nat} {t t' : Nat}, qy_Rep tc cod dom D L t → qy_Rep tc cod dom D L' t' → (t = t' ↔ L.length = L'.length ∧ ∀ (i a b : Nat), L[i]? = some a → L'[i]? = some b → (D a).Perm (D b)) := by
  intro L
  induction L with
  | nil =>
    intro L' t t' h1 h2
    cases L' with
    | nil => exact ⟨fun _ => ⟨rfl, fun i a b h => by simp at h⟩, fun _ => Eq.trans h1 (Eq.symm h2)⟩
    | cons b L' =>
      have h1' : t = 0 := h1
      have h2' := h2.1
      exact ⟨fun e => by omega, fun e => by simp at e⟩
  | cons a L ih =>
    intro L' t t' h1 h2
    cases L' with
    | nil =>
      have h2' : t' = 0 := h2
      have h1' := h1.1
      exact ⟨fun e => by omega, fun e => by simp at e⟩
    | cons b L' =>
      obtain ⟨a1, a2, a3, a4⟩ := h1
      obtain ⟨b1, b2, b3, b4⟩ := h2
      have I := ih a4 b4
      constructor
      · intro e
        subst e
        obtain ⟨I1, I2⟩ := I.mp rfl
        refine ⟨by simp [I1], fun i x y hx hy => ?_⟩
        cases i with
        | zero => simp at hx hy; subst hx; subst hy; exact a3.symm.trans b3
        | succ i => exact I2 i x y (by simpa using hx) (by simpa using hy)
      · rintro ⟨e1, e2⟩
        have e3 : (D a).Perm (D b) := e2 0 a b rfl rfl
        refine H.2.2 t t' a1 a2 b1 b2 (I.mpr ⟨by simpa using e1, fun i x y hx hy => e2 (i + 1) x y (by simpa using hx) (by simpa using hy)⟩) ?_
        exact qa_srt (H.2.1 t a1 a2).2 (H.2.1 t' b1 b2).2 ((a3.trans e3).trans b3.symm)
/-- the types handed to the application a -/
def qy_D (m : Nat) (R ty : Nat → Nat) (a : Nat) : List Nat := (qc_ar m R a).map ty
/-- row r holds W -/
def qy_At (cx sz : Nat → Int32) (r : Nat) (W : List Nat) : Prop := sz r = nI W.length ∧ ∀ (i x : Nat), W[i]? = some x → cx (r * 64 + i) = nI x
def qy_J (m : Nat) (kd R : Nat → Nat) (P C : Nat → List Nat) (k tc : Nat) (cod : Nat → Nat) (dom : Nat → List Nat) (ty : Nat → Nat) (W : Nat → List Nat) (ta cx sz : Nat → Int32) : Prop :=
  ∀ j, k ≤ j → j < m → ta j = nI (ty j) ∧ ty j < tc ∧ qy_Rep tc cod dom (qy_D m R ty) (P j) (ty j) ∧ qc_Row m kd R C ty j (W j) ∧ qy_At cx sz j (W j)
theorem qc_Row_congr {m : Nat} {kd R : Nat → Nat} {C : Nat → List Nat} {ty ty' : Nat → Nat} {j : Nat} {W : List Nat} (h : ∀ v, v ∈ qc_U m kd R C j → ty' v = ty v) (H : qc_Row m kd R C ty j W) : qc_Row m kd R C ty' j W := by
  refine ⟨H.1, H.2.trans (List.Perm.of_eq (List.map_congr_left fun v hv => ?_))⟩
  unfold qc_cd; rw [h v hv]
section
variable {m : Nat} {au kd S R : Nat → Nat} {P C : Nat → List Nat} {ty : Nat → Nat}
theorem qc_small (T : qm_TR m au kd S P C R) {k : Nat} (hk : k < m) (hm : m ≤ 64) {W : List Nat} (h : qc_Row m kd R C ty k W) (ht : ∀ v, v ∈ qc_U m kd R C k → ty v < 64) : ∀ x, x ∈ W → x < 4160 := by
  intro x hx
  obtain ⟨v, hv, e⟩ := List.mem_map.mp (h.2.mem_iff.mp hx)
  have h1 := ht v hv
  have h2 : (C k).length ≤ k := by
    have := List.Nodup.length_le_of_subset (l₂ := List.range k) (qm_Cnd T k hk) (fun l hl => List.mem_range.mpr ((qm_ab T k hk).2.1 l hl).1)
    rwa [List.length_range] at this
  have h3 := List.idxOf_le_length (l := C k) (a := qm_cl kd C v)
  unfold qc_cd at e
  omega
theorem qy_push (T : qm_TR m au kd S P C R) (E : qm_en m kd P) {k tc tc' t : Nat} {cod cod' : Nat → Nat} {dom dom' W : Nat → List Nat} {Wk : List Nat} {ta ta' cx cx' sz sz' : Nat → Int32} (hk : k < m)
    (G : qy_J m kd R P C (k + 1) tc cod dom ty W ta cx sz) (htc : tc ≤ tc') (hx : ∀ t, 0 < t → t < tc → cod' t = cod t ∧ dom' t = dom t) (ht : t < tc')
    (hR : qy_Rep tc' cod' dom' (qy_D m R ty) (P k) t) (hW : qc_Row m kd R C (fun j => if j = k then t else ty j) k Wk) (hA : qy_At cx' sz' k Wk)
    (hA' : ∀ j, k < j → j < m → qy_At cx sz j (W j) → qy_At cx' sz' j (W j)) (hta : ta' k = nI t) (hta' : ∀ j, k < j → j < m → ta' j = ta j) :
    qy_J m kd R P C k tc' cod' dom' (fun j => if j = k then t else ty j) (fun j => if j = k then Wk else W j) ta' cx' sz' := by
  have hD : ∀ j, k ≤ j → j < m → ∀ a, a ∈ P j → qy_D m R (fun j => if j = k then t else ty j) a = qy_D m R ty a := by
    intro j hj hm a ha
    refine List.map_congr_left fun x hx => ?_
    have := qc_ar_late T E hm ha hx
    exact if_neg (by omega)
  intro j h1 h2
  by_cases e : j = k
  · subst e
    dsimp only
    rw [if_pos rfl, if_pos rfl]
    exact ⟨hta, ht, qy_mono (Nat.le_refl _) (fun _ _ _ => ⟨rfl, rfl⟩) (hD j (Nat.le_refl _) h2) hR, hW, hA⟩
  · dsimp only
    rw [if_neg e, if_neg e]
    obtain ⟨g1, g2, g3, g4, g5⟩ := G j (by omega) h2
    refine ⟨by rw [hta' j (by omega) h2]; exact g1, by omega, qy_mono htc hx (hD j (by omega) h2) g3, qc_Row_congr (fun v hv => ?_) g4, hA' j (by omega) h2 g5⟩
    have := qm_rc_ge (qc_U_mem.mp hv).2.2.1
    exact if_neg (by omega)
theorem qy_vs (T : qm_TR m au kd S P C R) (E : qm_en m kd P) {k tc : Nat} {cod : Nat → Nat} {dom W : Nat → List Nat} {ta cx sz : Nat → Int32} (H : qy_Tab tc cod dom) (G : qy_J m kd R P C k tc cod dom ty W ta cx sz) {v : Nat} (h1 : k ≤ v) (h2 : v < m) (h3 : 2 ≤ kd v) : ty (v + 1) = ty v := by
  obtain ⟨v1, _, _, v4, _⟩ := qm_var T E h2 h3
  have a := (G v h1 h2).2.2.1
  have b := (G (v + 1) (by omega) v1).2.2.1
  rw [v4] at b
  exact qy_uniq H b a
theorem qy_dom (T : qm_TR m au kd S P C R) (E : qm_en m kd P) {k tc : Nat} {cod : Nat → Nat} {dom W : Nat → List Nat} {ta cx sz : Nat → Int32} (H : qy_Tab tc cod dom) (hk : k + 1 < m) (h1 : kd k = 1) (G : qy_J m kd R P C (k + 1) tc cod dom ty W ta cx sz) : ((qc_B m kd C k).map ty).Perm (qy_D m R ty (qm_hd P k)) := by
  refine List.Perm.trans (List.Perm.of_eq ?_) ((qc_ar_B T E hk h1).symm.map ty)
  rw [List.map_map]
  refine List.map_congr_left fun v hv => ?_
  obtain ⟨b1, b2, b3⟩ := qc_B_mem.mp hv
  have hlt := (qm_cell T b1 (qm_var T E b1 b2).2.2.1).1
  exact (qy_vs T E H G (v := v) (by omega) b1 b2).symm
theorem qy_len (a : Nat) : (qy_D m R ty a).length = qa_cn (fun x => decide (R x = a) && !decide (x = a + 1)) m := by
  rw [qy_D, List.length_map, qc_ar, qa_fl_len]
theorem qy_cnt (a t : Nat) : (qy_D m R ty a).count t = qa_cn (fun x => (decide (R x = a) && !decide (x = a + 1)) && decide (t = ty x)) m := by
  rw [qy_D, List.count_eq_length_filter, List.filter_map, List.length_map, qc_ar, qa_fl, List.filter_filter, qa_cn_eq]
  refine congrArg List.length (List.filter_congr fun x _ => ?_)
  rw [Bool.and_comm]
  congr 1
  show (ty x == t) = decide (t = ty x)
  by_cases e : t = ty x
  · subst e; simp
  · simp [e]; exact fun h => e h.symm
theorem qy_same {tc : Nat} {cod : Nat → Nat} {dom W : Nat → List Nat} {ta cx sz : Nat → Int32} (H : qy_Tab tc cod dom) (G : qy_J m kd R P C 0 tc cod dom ty W ta cx sz) {j k : Nat} (hj : j < m) (hk : k < m) :
    ty j = ty k ↔ (P j).length = (P k).length ∧ ∀ (i a b : Nat), (P j)[i]? = some a → (P k)[i]? = some b →
      qa_cn (fun x => decide (R x = a) && !decide (x = a + 1)) m = qa_cn (fun x => decide (R x = b) && !decide (x = b + 1)) m ∧
      ∀ x, x < m → R x = a → x ≠ a + 1 → qa_cn (fun y => (decide (R y = a) && !decide (y = a + 1)) && decide (ty x = ty y)) m = qa_cn (fun y => (decide (R y = b) && !decide (y = b + 1)) && decide (ty x = ty y)) m := by
  rw [qy_eqv H (G j (Nat.zero_le _) hj).2.2.1 (G k (Nat.zero_le _) hk).2.2.1]
  refine and_congr_right fun _ => forall_congr' fun i => forall_congr' fun a => forall_congr' fun b => imp_congr_right fun _ => imp_congr_right fun _ => ?_
  rw [← qy_len (ty := ty) a, ← qy_len (ty := ty) b]
  constructor
  · intro h
    refine ⟨h.length_eq, fun x _ _ _ => ?_⟩
    rw [← qy_cnt, ← qy_cnt, h.count_eq]
  · rintro ⟨h1, h2⟩
    refine qa_perm h1 fun t ht => ?_
    obtain ⟨x, hx, e⟩ := List.mem_map.mp ht
    obtain ⟨x1, x2, x3⟩ := qc_ar_mem.mp hx
    rw [← e, qy_cnt, qy_cnt]
    exact h2 x x1 x2 x3
end
end
section
/-! ===== the reference: reading the term ===== -/
theorem qw_m64 (a : Nat) : nI a * 64 = nI (a * 64) := pk_mul a 64
theorem qw_m32 (a : Nat) : nI a * 32 = nI (a * 32) := pk_mul a 32
theorem qw_imp {c A : Prop} (h : c) : (c → A) ↔ A := ⟨fun f => f h, fun a _ => a⟩
section
variable {ynl yjl ync yct : Int32} {ytk ysj ypr ypl ysc ypd ygn ysm : Nat → Int32}
theorem qw_left30 {post : Int32 → Prop} {J : Int32 → Int32 → Prop} {x2 : Int32} {w i : Nat} (hi : i < 32) (h1 : ytk i < 0 → J (nI w) (nI (i + 1))) (h2 : ¬ ytk i < 0 → 0 < w ∧ J (nI (w - 1)) (nI (i + 1))) : wY_left_30 post J x2 (nI w) (nI i) ynl yjl ync yct ytk ysj ypr ypl ysc ypd ygn ysm := by
  unfold wY_left_30
  rw [nI_clamp (by omega)]
  refine ⟨vp_in_nI hi (by omega), br_c (fun h => nm_r (nI_1 i) (h1 h)) (fun h => ?_)⟩
  obtain ⟨a, b⟩ := h2 h
  refine nm_r (e' := nI (w - 1)) ?_ (nm_r (nI_1 i) b)
  obtain ⟨w', rfl⟩ : ∃ w', w = w' + 1 := ⟨w - 1, by omega⟩
  exact pk_m1 w'
theorem qw_left5 {post : Int32 → Prop} {q p : Nat} (hp : p ≤ 32) (hP : post (nI (qt_lf ytk q (p - q)))) : ∀ n d, p - (q + d) < n → q + d ≤ p → wY_left_5 post (nI p) ynl yjl ync yct ytk ysj ypr ypl ysc ypd ygn ysm n (nI (qt_lf ytk q d)) (nI (q + d)) := by
  intro n
  induction n with
  | zero => intro d h; omega
  | succ n ih =>
    intro d h1 h2
    have hb := qt_lf_le ytk q d
    rw [wY_left_5]
    refine pk_le p (q + d) (fun h => ?_) (fun h => ?_) rfl rfl (by omega) (by omega)
    · have e : p - q = d := by omega
      rw [e] at hP; exact hP
    · refine pk_le (qt_lf ytk q d) 0 (fun hz => ?_) (fun hz => ?_) rfl rfl (by omega) (by omega)
      · have z : qt_lf ytk q d = 0 := by omega
        have := qt_lf_z z (p - q - d)
        rw [show d + (p - q - d) = p - q by omega] at this
        rw [z]; rw [this] at hP; exact hP
      · refine ⟨vp_in_nI (by omega) (by omega), ?_⟩
        rw [nI_clamp (by omega)]
        have key : wY_left_5 post (nI p) ynl yjl ync yct ytk ysj ypr ypl ysc ypd ygn ysm n (nI (qt_st (ytk (q + d)) (qt_lf ytk q d))) (nI (q + d + 1)) := ih (d + 1) (by omega) (by omega)
        unfold qt_st at key
        rw [if_neg (by omega)] at key
        refine br_c (fun hA => ?_) (fun hA => ?_)
        · rw [if_pos hA] at key
          refine nm_r (nI_1 _) (qw_left30 (by omega) (fun _ => key) (fun hn => ?_))
          exact absurd (by rw [hA]; decide) hn
        · rw [if_neg hA] at key
          refine qw_left30 (by omega) (fun hn => ?_) (fun hn => ⟨by omega, ?_⟩)
          · rw [if_pos hn] at key; exact key
          · rw [if_neg hn] at key; exact key
theorem qw_left {post : Int32 → Prop} {q p : Nat} (hp : p ≤ 32) (hq : q ≤ p) (hP : post (nI (qt_lf ytk q (p - q)))) : wpY_left post (ynl, yjl, ync, yct, ytk, ysj, ypr, ypl, ysc, ypd, ygn, ysm) (nI q) (nI p) :=
  ⟨p - q + 1, qw_left5 (q := q) hp hP (p - q + 1) 0 (by omega) (by omega)⟩
theorem qw_depth4 {post : Int32 → Prop} {p : Nat} (hp : p ≤ 32) (hP : post (nI (qt_dp ytk p))) : ∀ n i, p - i < n → i ≤ p → wY_depth_4 post (nI p) ynl yjl ync yct ytk ysj ypr ypl ysc ypd ygn ysm n (nI (qa_cn (fun q => decide (ytk q = -1) && decide (0 < qt_lf ytk q (p - q))) i)) (nI i) := by
  intro n
  induction n with
  | zero => intro d h; omega
  | succ n ih =>
    intro i h1 h2
    rw [wY_depth_4]
    refine pk_le p i (fun h => ?_) (fun h => ?_) rfl rfl (by omega) (by omega)
    · have e : i = p := by omega
      subst e; exact hP
    · refine ⟨vp_in_nI (by omega) (by omega), ?_⟩
      rw [nI_clamp (by omega)]
      have key := ih (i + 1) (by omega) (by omega)
      simp only [qa_cn] at key
      refine br_c (fun hA => ?_) (fun hA => ?_)
      · refine qw_left (by omega) (by omega) ?_
        have hb := qt_lf_le ytk i (p - i)
        refine pk_le (qt_lf ytk i (p - i)) 0 (fun hz => ?_) (fun hz => ?_) rfl rfl (by omega) (by omega)
        · rw [if_neg (by simp; intro _; omega)] at key
          exact nm_r (nI_1 i) key
        · rw [if_pos (by simp [hA]; omega)] at key
          exact nm_r (nI_1 _) (nm_r (nI_1 i) key)
      · rw [if_neg (by simp [hA])] at key
        exact nm_r (nI_1 i) key
theorem qw_depth {post : Int32 → Prop} {p : Nat} (hp : p ≤ 32) (hP : post (nI (qt_dp ytk p))) : wpY_depth post (ynl, yjl, ync, yct, ytk, ysj, ypr, ypl, ysc, ypd, ygn, ysm) (nI p) :=
  ⟨p + 1, qw_depth4 hp hP (p + 1) 0 (by omega) (by omega)⟩
theorem qw_arg4 {post : Int32 → Prop} {s p : Nat} {N : Nat} (hN : N ≤ 32) (hy : ync = nI N) (hpN : p < N) (hd : qt_dn ytk s p) (hP : post (nI p)) : ∀ n i, p - i < n → s + 1 < i → i ≤ p → wY_argument_4 post (nI s) ynl yjl ync yct ytk ysj ypr ypl ysc ypd ygn ysm n (nI i) := by
  intro n
  induction n with
  | zero => intro d h; omega
  | succ n ih =>
    intro i h1 h2 h3
    rw [wY_argument_4]
    refine pk_le N i (fun h => ?_) (fun h => ?_) hy rfl (by omega) (by omega)
    · omega
    · rw [nI_1 s]
      refine qw_left (by omega) (by omega) ?_
      have hb := qt_lf_le ytk (s + 1) (i - (s + 1))
      refine pk_eq (qt_lf ytk (s + 1) (i - (s + 1))) 0 (fun hz => ?_) (fun hz => ?_) rfl rfl (by omega) (by omega)
      · by_cases e : i = p
        · subst e; exact hP
        · have := hd.2.2 (i - (s + 1)) (by omega); omega
      · by_cases e : i = p
        · subst e; exact absurd hd.2.1 hz
        · exact nm_r (nI_1 i) (ih (i + 1) (by omega) (by omega) (by omega))
theorem qw_arg {post : Int32 → Prop} {s p N : Nat} (hN : N ≤ 32) (hy : ync = nI N) (hpN : p < N) (hd : qt_dn ytk s p) (hP : post (nI p)) : wpY_argument post (ynl, yjl, ync, yct, ytk, ysj, ypr, ypl, ysc, ypd, ygn, ysm) (nI s) := by
  unfold wpY_argument
  refine nm_r (nI_add s 2) ⟨p + 1, qw_arg4 hN hy hpN hd hP _ _ (by omega) (by omega) ?_⟩
  have := hd.1; omega
end
end
section
/-! ===== the reference: the machine ===== -/
theorem qm_Plen {m : Nat} {au kd S R : Nat → Nat} {P C : Nat → List Nat} (T : qm_TR m au kd S P C R) : ∀ k, k < m → (P k).length ≤ k := by
  intro k
  induction k using Nat.strongRecOn with
  | _ k ih =>
    intro hk
    cases hp : P k with
    | nil => exact Nat.zero_le _
    | cons a r =>
      have ab := qm_ab T k hk
      have e := ab.2.2.1 a r hp
      have ha := (ab.1 a (by rw [hp]; exact List.mem_cons_self)).1
      have := ih a ha (by omega)
      rw [e, List.length_cons]; omega
def qw_M (tk : Nat → Int32) (au : Nat → Nat) (k : Nat) (sj pr pl sc pd : Nat → Int32) : Prop := ∀ j, j ≤ k →
  sj j = nI (qm_S tk au j) ∧ pr j = (if j = 0 then -1 else nI (qm_R tk au j)) ∧ pl j = nI (qm_P tk au j).length ∧
  (∀ i x, (qm_P tk au j)[i]? = some x → pd (j * 64 + i) = nI x) ∧ (∀ i l, (qm_C tk au j)[i]? = some l → sc (j * 32 + i) = nI (qm_hd (qm_P tk au) l))
section
variable {ynl yjl ync yct : Int32} {ytk ysj ypr ypl ysc ypd ygn ysm : Nat → Int32}
theorem qw_cs3 {post : SY → Prop} {f t at' : Nat} (hf : f < 64) (ht : t < 64) (hne : f ≠ t) (ha : at' ≤ 1)
    (hP : ∀ sc' : Nat → Int32, (∀ j, (j < t * 32 + at' ∨ t * 32 + 32 ≤ j) → sc' j = ysc j) → (∀ i, i + at' < 32 → sc' (t * 32 + at' + i) = ysc (f * 32 + i)) → post (ynl, yjl, ync, yct, ytk, ysj, ypr, ypl, sc', ypd, ygn, ysm)) :
    ∀ n i sc, 32 - i < n → i + at' ≤ 32 → (∀ j, (j < t * 32 + at' ∨ t * 32 + at' + i ≤ j) → sc j = ysc j) → (∀ i', i' < i → sc (t * 32 + at' + i') = ysc (f * 32 + i')) → wY_copyScope_3 post (nI f) (nI t) (nI at') ynl yjl ync yct n (nI i) ytk ysj ypr ypl sc ypd ygn ysm := by
  intro n
  induction n with
  | zero => intro i sc h; omega
  | succ n ih =>
    intro i sc h1 h2 h3 h4
    rw [wY_copyScope_3]
    simp only [nI_add, qw_m32]
    refine pk_le 32 (i + at') (fun h => ?_) (fun h => ?_) rfl rfl (by omega) (by omega)
    · exact hP sc (fun j hj => h3 j (by omega)) (fun i' hi' => h4 i' (by omega))
    · refine ⟨vp_in_nI (by omega) (by omega), vp_in_nI (by omega) (by omega), ?_⟩
      rw [nI_clamp (by omega), nI_clamp (by omega), h3 (f * 32 + i) (by omega)]
      refine nm_e (nm_r (nI_1 i) (ih (i + 1) _ (by omega) (by omega) ?_ ?_))
      · intro j hj
        rw [qf_un (by omega)]; exact h3 j (by omega)
      · intro i' hi'
        by_cases e : i' = i
        · subst e; rw [qf_us]
        · rw [qf_un (by omega)]; exact h4 i' (by omega)
theorem qw_cs {post : SY → Prop} {f t at' : Nat} (hf : f < 64) (ht : t < 64) (hne : f ≠ t) (ha : at' ≤ 1)
    (hP : ∀ sc' : Nat → Int32, (∀ j, (j < t * 32 + at' ∨ t * 32 + 32 ≤ j) → sc' j = ysc j) → (∀ i, i + at' < 32 → sc' (t * 32 + at' + i) = ysc (f * 32 + i)) → post (ynl, yjl, ync, yct, ytk, ysj, ypr, ypl, sc', ypd, ygn, ysm)) : wpY_copyScope post (ynl, yjl, ync, yct, ytk, ysj, ypr, ypl, ysc, ypd, ygn, ysm) (nI f) (nI t) (nI at') :=
  ⟨33, qw_cs3 hf ht hne ha hP 33 0 ysc (by omega) (by omega) (fun _ _ => rfl) (fun i' hi' => by omega)⟩
theorem qw_cp21 {post : SY → Prop} {k sk at' L : Nat} (hk : k + 1 < 64) (hL : ypl k = nI L) (hs : sk ≤ L) (hLk : L ≤ k) (ha : at' ≤ 1)
    (hP : ∀ pd' : Nat → Int32, (∀ j, (j < (k + 1) * 64 + at' ∨ (k + 1) * 64 + at' + (L - sk) ≤ j) → pd' j = ypd j) → (∀ i, i < L - sk → pd' ((k + 1) * 64 + at' + i) = ypd (k * 64 + sk + i)) → post (ynl, yjl, ync, yct, ytk, ysj, ypr, ypl, ysc, pd', ygn, ysm)) :
    ∀ n i pd, 64 - i < n → i ≤ L - sk → (∀ j, (j < (k + 1) * 64 + at' ∨ (k + 1) * 64 + at' + i ≤ j) → pd j = ypd j) → (∀ i', i' < i → pd ((k + 1) * 64 + at' + i') = ypd (k * 64 + sk + i')) → wY_copyPending_21 post (nI k) (nI sk) (nI at') ynl yjl ync yct n (nI i) ytk ysj ypr ypl ysc pd ygn ysm := by
  intro n
  induction n with
  | zero => intro i pd h; omega
  | succ n ih =>
    intro i pd h1 h2 h3 h4
    rw [wY_copyPending_21]
    dsimp only
    rw [nI_clamp (show k < 2 ^ 31 by omega), hL, pk_sub hs]
    simp only [nI_1, nI_add, qw_m64]
    refine ⟨vp_in_nI (by omega) (by omega), pk_le (L - sk) i (fun h => ?_) (fun h => ?_) rfl rfl (by omega) (by omega)⟩
    · exact hP pd (fun j hj => h3 j (by omega)) (fun i' hi' => h4 i' (by omega))
    · refine ⟨vp_in_nI (by omega) (by omega), vp_in_nI (by omega) (by omega), ?_⟩
      rw [nI_clamp (by omega), nI_clamp (by omega), h3 (k * 64 + sk + i) (by omega)]
      refine nm_e (nm_e (ih (i + 1) _ (by omega) (by omega) ?_ ?_))
      · intro j hj
        rw [qf_un (by omega)]; exact h3 j (by omega)
      · intro i' hi'
        by_cases e : i' = i
        · subst e; rw [qf_us]
        · rw [qf_un (by omega)]; exact h4 i' (by omega)
theorem qw_cp {post : SY → Prop} {k sk at' L : Nat} (hk : k + 1 < 64) (hL : ypl k = nI L) (hs : sk ≤ L) (hLk : L ≤ k) (ha : at' ≤ 1)
    (hP : ∀ pd' : Nat → Int32, (∀ j, (j < (k + 1) * 64 + at' ∨ (k + 1) * 64 + at' + (L - sk) ≤ j) → pd' j = ypd j) → (∀ i, i < L - sk → pd' ((k + 1) * 64 + at' + i) = ypd (k * 64 + sk + i)) → post (ynl, yjl, ync, yct, ytk, ysj, ypr, (upd ypl (k + 1) (nI (L - sk + at'))), ysc, pd', ygn, ysm)) : wpY_copyPending post (ynl, yjl, ync, yct, ytk, ysj, ypr, ypl, ysc, ypd, ygn, ysm) (nI k) (nI sk) (nI at') := by
  unfold wpY_copyPending
  simp only [nI_1]
  rw [nI_clamp (show k < 2 ^ 31 by omega), nI_clamp (show k + 1 < 2 ^ 31 by omega), hL, pk_sub hs, nI_add]
  refine ⟨vp_in_nI (by omega) (by omega), vp_in_nI (by omega) (by omega), nm_e ⟨65, ?_⟩⟩
  exact qw_cp21 (ypl := upd ypl (k + 1) (nI (L - sk + at'))) hk (by rw [qf_un (by omega)]; exact hL) hs hLk ha hP 65 0 ypd (by omega) (by omega) (fun _ _ => rfl) (fun i' hi' => by omega)
/-- the rows below k + 1 stay, the row k + 1 is new -/
theorem qw_Ms {tk : Nat → Int32} {au : Nat → Nat} {k : Nat} {sj pr pl sc pd sj' pr' pl' sc' pd' : Nat → Int32} (hk : k + 1 < 64) (hlen : ∀ j, j ≤ k → (qm_P tk au j).length ≤ j ∧ (qm_C tk au j).length ≤ 31) (H : qw_M tk au k sj pr pl sc pd)
    (h1 : ∀ j, j ≤ k → sj' j = sj j ∧ pr' j = pr j ∧ pl' j = pl j) (h2 : ∀ j, j < (k + 1) * 32 → sc' j = sc j) (h3 : ∀ j, j < (k + 1) * 64 → pd' j = pd j)
    (n1 : sj' (k + 1) = nI (qm_S tk au (k + 1))) (n2 : pr' (k + 1) = nI (qm_R tk au (k + 1))) (n3 : pl' (k + 1) = nI (qm_P tk au (k + 1)).length)
    (n4 : ∀ i x, (qm_P tk au (k + 1))[i]? = some x → pd' ((k + 1) * 64 + i) = nI x) (n5 : ∀ i l, (qm_C tk au (k + 1))[i]? = some l → sc' ((k + 1) * 32 + i) = nI (qm_hd (qm_P tk au) l)) : qw_M tk au (k + 1) sj' pr' pl' sc' pd' := by
  intro j hj
  by_cases e : j = k + 1
  · subst e
    exact ⟨n1, by rw [if_neg (by omega)]; exact n2, n3, n4, n5⟩
  · obtain ⟨a1, a2, a3, a4, a5⟩ := H j (by omega)
    obtain ⟨b1, b2, b3⟩ := h1 j (by omega)
    obtain ⟨l1, l2⟩ := hlen j (by omega)
    refine ⟨by rw [b1]; exact a1, by rw [b2]; exact a2, by rw [b3]; exact a3, fun i x hx => ?_, fun i l hl => ?_⟩
    · have := qa_lt hx
      rw [h3 _ (by omega)]; exact a4 i x hx
    · have := qa_lt hl
      rw [h2 _ (by omega)]; exact a5 i l hl
theorem qm_lens {n : Nat} {tk : Nat → Int32} {au : Nat → Nat} (T : qt_T n tk au) {k : Nat} (hs : ∀ j, j < k → ¬ qm_star tk au j) : ∀ j, j ≤ k → (qm_P tk au j).length ≤ j ∧ (qm_C tk au j).length ≤ 31 := by
  intro j hj
  obtain ⟨tr, ok⟩ := qm_go T k hs
  refine ⟨qm_Plen tr j (by omega), ?_⟩
  obtain ⟨o1, o2⟩ := ok j hj
  have := qt_dp_le tk (qm_S tk au j)
  have := T.2.1
  omega
theorem qm_tokA {n : Nat} {tk : Nat → Int32} {au : Nat → Nat} (T : qt_T n tk au) {s : Nat} (hs : s < n) (h : qm_kd (tk s) = 0) : tk s = -2 ∧ s + 1 < n ∧ s + 1 < au s ∧ au s < n ∧ qt_dn tk s (au s) := by
  rcases T.2.2 s hs with ⟨a, _⟩ | ⟨a, b, _, c, d, _, e⟩ | ⟨i, a, b⟩
  · rw [a, qm_kdL] at h; omega
  · exact ⟨a, b, c, d, e⟩
  · rw [b, qm_kdV (by have := qt_dp_le tk s; have := T.2.1; omega)] at h; omega
theorem qm_tokL {n : Nat} {tk : Nat → Int32} {au : Nat → Nat} (T : qt_T n tk au) {s : Nat} (hs : s < n) (h : qm_kd (tk s) = 1) : tk s = -1 ∧ s + 1 < n := by
  rcases T.2.2 s hs with ⟨a, b, _⟩ | ⟨a, _⟩ | ⟨i, a, b⟩
  · exact ⟨a, b⟩
  · rw [a, qm_kdA] at h; omega
  · rw [b, qm_kdV (by have := qt_dp_le tk s; have := T.2.1; omega)] at h; omega
theorem qm_tokV {n : Nat} {tk : Nat → Int32} {au : Nat → Nat} (T : qt_T n tk au) {s i : Nat} (hs : s < n) (h : qm_kd (tk s) = i + 2) : tk s = nI i ∧ i < qt_dp tk s ∧ i < 32 := by
  rcases T.2.2 s hs with ⟨a, b, _⟩ | ⟨a, _⟩ | ⟨i', a, b⟩
  · rw [a, qm_kdL] at h; omega
  · rw [a, qm_kdA] at h; omega
  · have h1 := qt_dp_le tk s
    have h2 := T.2.1
    rw [b, qm_kdV (by omega)] at h
    have : i' = i := by omega
    subst this
    exact ⟨b, a, by omega⟩
theorem qw_next {post : SY → Prop} {n : Nat} {au : Nat → Nat} {k : Nat} (T : qt_T n ytk au) (hy : ync = nI n) (hk : k + 1 < 64) (hs : ∀ j, j ≤ k → ¬ qm_star ytk au j) (H : qw_M ytk au k ysj ypr ypl ysc ypd)
    (hP : ∀ sj' pr' pl' sc' pd' : Nat → Int32, qw_M ytk au (k + 1) sj' pr' pl' sc' pd' → post (ynl, yjl, ync, yct, ytk, sj', pr', pl', sc', pd', ygn, ysm)) : wpY_next post (ynl, yjl, ync, yct, ytk, ysj, ypr, ypl, ysc, ypd, ygn, ysm) (nI k) := by
  obtain ⟨tr, ok⟩ := qm_go T (k + 1) (fun j hj => hs j (by omega))
  have hlen := qm_lens T (k := k) (fun j hj => hs j (by omega))
  have hn := T.2.1
  have okk := (ok k (by omega)).1
  obtain ⟨m1, m2, m3, m4, m5⟩ := H k (Nat.le_refl _)
  have lk := (hlen k (Nat.le_refl _)).1
  unfold wpY_next
  simp only [nI_1]
  rw [nI_clamp (show k < 2 ^ 31 by omega), nI_clamp (show k + 1 < 2 ^ 31 by omega), m1, nI_clamp (show qm_S ytk au k < 2 ^ 31 by omega)]
  refine ⟨vp_in_nI (by omega) (by omega), vp_in_nI (by omega) (by omega), nm_e ⟨vp_in_nI (by omega) (by omega), vp_in_nI (by omega) (by omega), nm_e ⟨vp_in_nI (by omega) (by omega), nm_e ?_⟩⟩⟩
  rcases tr.2.2.2.2 k (by omega) with ⟨a1, a2, a3, a4, a5⟩ | ⟨a1, a2, ⟨a, a3⟩, a4, a5⟩ | ⟨i, l, a, r, a1, a2, a3, a4, a5, a6, a7⟩
  · obtain ⟨t1, _⟩ := qm_tokA T okk a1
    refine br_t t1 (qw_cs (at' := 0) (by omega) hk (by omega) (by omega) fun sc' c1 c2 => ?_)
    dsimp only
    refine qw_cp (sk := 0) (at' := 1) hk m3 (by omega) lk (by omega) fun pd' d1 d2 => ?_
    simp only [qw_m64]
    rw [nI_clamp (by omega)]
    refine ⟨vp_in_nI (by omega) (by omega), nm_e (hP _ _ _ _ _ ?_)⟩
    refine qw_Ms hk hlen H (fun j hj => ⟨qf_un (by omega), qf_un (by omega), qf_un (by omega)⟩) (fun j hj => c1 j (by omega)) (fun j hj => by rw [qf_un (by omega)]; exact d1 j (by omega)) ?_ ?_ ?_ ?_ ?_
    · rw [qf_us, a2]; exact nI_1 _
    · rw [qf_us, a5]
    · rw [qf_us, a3, List.length_cons]; rfl
    · intro i x hx
      rw [a3] at hx
      cases i with
      | zero => simp at hx; subst hx; exact qf_us
      | succ i =>
        have hx' : (qm_P ytk au k)[i]? = some x := by simpa using hx
        rw [qf_un (by omega), show (k + 1) * 64 + (i + 1) = (k + 1) * 64 + 1 + i by omega, d2 i (qa_lt hx')]
        exact m4 i x hx'
    · intro i l hl
      rw [a4] at hl
      have := qa_lt hl
      have := (hlen k (Nat.le_refl _)).2
      exact (c2 i (by omega)).trans (m5 i l hl)
  · obtain ⟨t1, _⟩ := qm_tokL T okk a1
    have nA : ¬ ytk (qm_S ytk au k) = -2 := by rw [t1]; decide
    have hL : (qm_P ytk au k).length = (qm_P ytk au (k + 1)).length + 1 := by rw [a3]; rfl
    refine br_f nA (br_t t1 (qw_cs (at' := 1) (by omega) hk (by omega) (by omega) fun sc' c1 c2 => ?_))
    dsimp only
    simp only [qw_m64, qw_m32]
    rw [nI_clamp (show k * 64 < 2 ^ 31 by omega), nI_clamp (show (k + 1) * 32 < 2 ^ 31 by omega)]
    refine ⟨vp_in_nI (by omega) (by omega), vp_in_nI (by omega) (by omega), nm_e ?_⟩
    refine qw_cp (sk := 1) (at' := 0) hk m3 (by omega) lk (by omega) fun pd' d1 d2 => ?_
    dsimp only
    refine hP _ _ _ _ _ ?_
    refine qw_Ms hk hlen H (fun j hj => ⟨qf_un (by omega), qf_un (by omega), qf_un (by omega)⟩) (fun j hj => by rw [qf_un (by omega)]; exact c1 j (by omega)) (fun j hj => d1 j (by omega)) ?_ ?_ ?_ ?_ ?_
    · rw [qf_us, a2]; exact nI_1 _
    · rw [qf_us, a5]
    · rw [qf_us, hL]; rfl
    · intro i x hx
      have := qa_lt hx
      rw [show (k + 1) * 64 + i = (k + 1) * 64 + 0 + i by omega, d2 i (by omega)]
      rw [show k * 64 + 1 + i = k * 64 + (i + 1) by omega]
      exact m4 (i + 1) x (by rw [a3]; simpa using hx)
    · intro i l hl
      rw [a4] at hl
      cases i with
      | zero =>
        simp at hl; subst hl
        rw [qm_hdc a3]
        show upd sc' ((k + 1) * 32) (ypd (k * 64)) ((k + 1) * 32) = _
        rw [qf_us]
        exact m4 0 a (by rw [a3]; rfl)
      | succ i =>
        have hl' : (qm_C ytk au k)[i]? = some l := by simpa using hl
        have := qa_lt hl'
        have := (hlen k (Nat.le_refl _)).2
        rw [qf_un (by omega), show (k + 1) * 32 + (i + 1) = (k + 1) * 32 + 1 + i by omega, c2 i (by omega)]
        exact m5 i l hl'
  · obtain ⟨t1, t2, t3⟩ := qm_tokV T okk a1
    have nn := qf_nneg (i := i) (by omega)
    have nA : ¬ ytk (qm_S ytk au k) = -2 := by rw [t1]; exact nn.1
    have nL : ¬ ytk (qm_S ytk au k) = -1 := by rw [t1]; exact nn.2.1
    have ab := qm_ab tr
    have hl := (ab k (by omega)).2.1 l (qa_mem a2)
    have ha := (ab l (by omega)).1 a (by rw [a3]; exact List.mem_cons_self)
    obtain ⟨e1, e2, e3, e4, e5⟩ := H a (by omega)
    have oka := (ok a (by omega)).1
    obtain ⟨g1, g2, g3, g4, g5⟩ := qm_tokA T oka ha.2
    have hsc : ysc (k * 32 + i) = nI a := by rw [m5 i l a2, qm_hdc a3]
    refine br_f nA (br_f nL ?_)
    rw [t1]
    simp only [qw_m32, nI_add]
    rw [nI_clamp (show k * 32 + i < 2 ^ 31 by omega), hsc]
    refine ⟨vp_in_nI (by omega) (by omega), nm_e ⟨vp_in_nI (by omega) (by omega), ?_⟩⟩
    rw [nI_clamp (show a < 2 ^ 31 by omega), qf_un (show a ≠ k + 1 by omega), e1]
    refine qw_arg hn hy g4 g5 ?_
    refine ⟨vp_in_nI (by omega) (by omega), nm_e ⟨vp_in_nI (by omega) (by omega), nm_e ?_⟩⟩
    refine qw_cs (at' := 0) (by omega) hk (by omega) (by omega) fun sc' c1 c2 => ?_
    dsimp only
    refine qw_cp (sk := 0) (at' := 0) hk m3 (by omega) lk (by omega) fun pd' d1 d2 => ?_
    dsimp only
    refine hP _ _ _ _ _ ?_
    refine qw_Ms hk hlen H (fun j hj => ⟨by rw [qf_un (by omega), qf_un (by omega)], by rw [qf_un (by omega), qf_un (by omega)], qf_un (by omega)⟩) (fun j hj => c1 j (by omega)) (fun j hj => d1 j (by omega)) ?_ ?_ ?_ ?_ ?_
    · rw [qf_us, a4]
    · rw [qf_us, a7]
    · rw [qf_us, a5]; rfl
    · intro i' x hx
      rw [a5] at hx
      have := qa_lt hx
      rw [show (k + 1) * 64 + i' = (k + 1) * 64 + 0 + i' by omega, d2 i' (by omega)]
      rw [show k * 64 + 0 + i' = k * 64 + i' by omega]
      exact m4 i' x hx
    · intro i' l' hl'
      rw [a6] at hl'
      have := qa_lt hl'
      have := (hlen a (by omega)).2
      exact (c2 i' (by omega)).trans (e5 i' l' hl')
end
end
section
/-! ===== the reference: equal types, pair by pair ===== -/
def qw_p (R : Nat → Nat) (a y : Nat) : Bool := decide (R y = a) && !decide (y = a + 1)
def qw_q (R ty : Nat → Nat) (a x y : Nat) : Bool := (decide (R y = a) && !decide (y = a + 1)) && decide (ty x = ty y)
def qw_01 (b : Bool) : Int32 := if b then 1 else 0
def qw_E (m : Nat) (R ty : Nat → Nat) (a b : Nat) : Prop :=
  qa_cn (qw_p R a) m = qa_cn (qw_p R b) m ∧ ∀ x, x < m → R x = a → x ≠ a + 1 → qa_cn (qw_q R ty a x) m = qa_cn (qw_q R ty b x) m
def qw_Y (m : Nat) (R : Nat → Nat) (P : Nat → List Nat) (ct : Int32) (pr pl pd : Nat → Int32) : Prop :=
  ct = nI m ∧ m ≤ 64 ∧ (∀ y a, y < m → a < 64 → (pr y = nI a ↔ R y = a)) ∧
  ∀ j, j < m → pl j = nI (P j).length ∧ (P j).length ≤ j ∧ ∀ i x, (P j)[i]? = some x → x < j ∧ pd (j * 64 + i) = nI x
theorem qw_narb (b : Bool) : vp_nar .boolean (qw_01 b) = qw_01 b := by cases b <;> rfl
theorem qw_01z {b : Bool} : qw_01 b = 0 ↔ b = false := by cases b <;> decide
section
variable {ynl yjl ync yct : Int32} {ytk ysj ypr ypl ysc ypd ygn ysm : Nat → Int32}
variable {m : Nat} {R ty : Nat → Nat} {P : Nat → List Nat}
theorem qw_mem5a {post : Int32 → Prop} {a : Nat} (ha : a < 64) (H : qw_Y m R P yct ypr ypl ypd) (hP : post (nI (qa_cn (qw_p R a) m))) : ∀ n y, m - y < n → y ≤ m → wY_members_5 post (nI a) (-1) ynl yjl ync yct ytk ysj ypr ypl ysc ypd ygn ysm n (nI (qa_cn (qw_p R a) y)) (nI y) := by
  obtain ⟨h1, h2, h3, h4⟩ := H
  intro n
  induction n with
  | zero => intro y h; omega
  | succ n ih =>
    intro y g1 g2
    rw [wY_members_5]
    refine pk_le m y (fun h => ?_) (fun h => ?_) h1 rfl (by omega) (by omega)
    · have e : y = m := by omega
      subst e; exact hP
    · have key := ih (y + 1) (by omega) (by omega)
      simp only [qa_cn] at key
      rw [nI_clamp (show y < 2 ^ 31 by omega)]
      refine ⟨vp_in_nI (by omega) (by omega), ek_if (h3 y a (by omega) ha) (fun hR => ?_) (fun hR => ?_)⟩
      · rw [nI_1 a]
        refine pk_eq y (a + 1) (fun e => ?_) (fun e => ?_) rfl rfl (by omega) (by omega)
        · rw [if_neg (by simp [qw_p, e])] at key
          exact nm_r (nI_1 y) key
        · rw [if_pos (by simp [qw_p, e, hR])] at key
          exact br_t (by decide) (nm_r (nI_1 _) (nm_r (nI_1 y) key))
      · rw [if_neg (by simp [qw_p, hR])] at key
        exact nm_r (nI_1 y) key
theorem qw_mema {post : Int32 → Prop} {a : Nat} (ha : a < 64) (H : qw_Y m R P yct ypr ypl ypd) (hP : post (nI (qa_cn (qw_p R a) m))) : wpY_members post (ynl, yjl, ync, yct, ytk, ysj, ypr, ypl, ysc, ypd, ygn, ysm) (nI a) (-1) :=
  ⟨m + 1, qw_mem5a ha H hP (m + 1) 0 (by omega) (by omega)⟩
theorem qw_mem5b {post : Int32 → Prop} {a x : Nat} (ha : a < 64) (hx : x < m) (H : qw_Y m R P yct ypr ypl ypd) (hS : ∀ y, y < m → ysm (x * 64 + y) = qw_01 (decide (ty x = ty y))) (hP : post (nI (qa_cn (qw_q R ty a x) m))) : ∀ n y, m - y < n → y ≤ m → wY_members_5 post (nI a) (nI x) ynl yjl ync yct ytk ysj ypr ypl ysc ypd ygn ysm n (nI (qa_cn (qw_q R ty a x) y)) (nI y) := by
  obtain ⟨h1, h2, h3, h4⟩ := H
  intro n
  induction n with
  | zero => intro y h; omega
  | succ n ih =>
    intro y g1 g2
    rw [wY_members_5]
    refine pk_le m y (fun h => ?_) (fun h => ?_) h1 rfl (by omega) (by omega)
    · have e : y = m := by omega
      subst e; exact hP
    · have key := ih (y + 1) (by omega) (by omega)
      simp only [qa_cn] at key
      rw [nI_clamp (show y < 2 ^ 31 by omega)]
      refine ⟨vp_in_nI (by omega) (by omega), ek_if (h3 y a (by omega) ha) (fun hR => ?_) (fun hR => ?_)⟩
      · rw [nI_1 a]
        refine pk_eq y (a + 1) (fun e => ?_) (fun e => ?_) rfl rfl (by omega) (by omega)
        · rw [if_neg (by simp [qw_q, e])] at key
          exact nm_r (nI_1 y) key
        · refine br_f (nI_pos (by omega)) ?_
          rw [qw_m64, nI_add, nI_clamp (show x * 64 + y < 2 ^ 31 by omega), hS y (by omega)]
          refine ⟨vp_in_nI (by omega) (by omega), ek_if qw_01z (fun hz => ?_) (fun hz => ?_)⟩
          · rw [if_neg (by simp [qw_q]; intro _ _; simpa using hz)] at key
            exact nm_r (nI_1 y) key
          · rw [if_pos (by simp [qw_q, e, hR]; simpa using hz)] at key
            exact nm_r (nI_1 _) (nm_r (nI_1 y) key)
      · rw [if_neg (by simp [qw_q, hR])] at key
        exact nm_r (nI_1 y) key
theorem qw_memb {post : Int32 → Prop} {a x : Nat} (ha : a < 64) (hx : x < m) (H : qw_Y m R P yct ypr ypl ypd) (hS : ∀ y, y < m → ysm (x * 64 + y) = qw_01 (decide (ty x = ty y))) (hP : post (nI (qa_cn (qw_q R ty a x) m))) : wpY_members post (ynl, yjl, ync, yct, ytk, ysj, ypr, ypl, ysc, ypd, ygn, ysm) (nI a) (nI x) :=
  ⟨m + 1, qw_mem5b ha hx H hS hP (m + 1) 0 (by omega) (by omega)⟩
theorem qw_cmp77 {post : Int32 → Prop} {J : Int32 → Prop} {x1 x2 : Int32} {i a b : Nat} (ha : a < 64) (hb : b < 64) (H : qw_Y m R P yct ypr ypl ypd) (hS : ∀ x, x < m → R x = a → x ≠ a + 1 → ∀ y, y < m → ysm (x * 64 + y) = qw_01 (decide (ty x = ty y)))
    (hJ : (∀ x, x < m → R x = a → x ≠ a + 1 → qa_cn (qw_q R ty a x) m = qa_cn (qw_q R ty b x) m) → J (nI (i + 1))) (h0 : (¬ ∀ x, x < m → R x = a → x ≠ a + 1 → qa_cn (qw_q R ty a x) m = qa_cn (qw_q R ty b x) m) → post 0) :
    ∀ n x, m - x < n → x ≤ m → (∀ x', x' < x → R x' = a → x' ≠ a + 1 → qa_cn (qw_q R ty a x') m = qa_cn (qw_q R ty b x') m) → wY_compare_77 post J x1 x2 (nI i) (nI a) (nI b) ynl yjl ync yct ytk ysj ypr ypl ysc ypd ygn ysm n (nI x) := by
  have H' := H
  obtain ⟨h1, h2, h3, h4⟩ := H'
  intro n
  induction n with
  | zero => intro y h; omega
  | succ n ih =>
    intro x g1 g2 g3
    rw [wY_compare_77]
    refine pk_le m x (fun h => ?_) (fun h => ?_) h1 rfl (by omega) (by omega)
    · have e : x = m := by omega
      subst e
      exact nm_r (nI_1 i) (hJ g3)
    · have key : (R x = a → x ≠ a + 1 → qa_cn (qw_q R ty a x) m = qa_cn (qw_q R ty b x) m) → wY_compare_77 post J x1 x2 (nI i) (nI a) (nI b) ynl yjl ync yct ytk ysj ypr ypl ysc ypd ygn ysm n (nI (x + 1)) := fun hh => ih (x + 1) (by omega) (by omega) fun x' hx' => by
        by_cases e : x' = x
        · subst e; exact hh
        · exact g3 x' (by omega)
      rw [nI_clamp (show x < 2 ^ 31 by omega)]
      refine ⟨vp_in_nI (by omega) (by omega), ek_if (h3 x a (by omega) ha) (fun hR => ?_) (fun hR => ?_)⟩
      · rw [nI_1 a]
        refine pk_eq x (a + 1) (fun e => ?_) (fun e => ?_) rfl rfl (by omega) (by omega)
        · exact nm_r (nI_1 x) (key fun _ c => absurd e c)
        · have hs := hS x (by omega) hR e
          refine qw_memb ha (by omega) H hs (qw_memb hb (by omega) H hs ?_)
          have b1 := qa_cn_le (qw_q R ty a x) m
          have b2 := qa_cn_le (qw_q R ty b x) m
          refine pk_eq (qa_cn (qw_q R ty a x) m) (qa_cn (qw_q R ty b x) m) (fun c => ?_) (fun c => ?_) rfl rfl (by omega) (by omega)
          · exact nm_r (nI_1 x) (key fun _ _ => c)
          · exact h0 fun all => c (all x (by omega) hR e)
      · exact nm_r (nI_1 x) (key fun c => absurd c hR)
theorem qw_cmp19 {post : Int32 → Prop} {j k : Nat} (hj : j < m) (hk : k < m) (hl : (P j).length = (P k).length) (H : qw_Y m R P yct ypr ypl ypd)
    (hS : ∀ a, a ∈ P j → ∀ x, x < m → R x = a → x ≠ a + 1 → ∀ y, y < m → ysm (x * 64 + y) = qw_01 (decide (ty x = ty y)))
    (h1' : (∀ (i a b : Nat), (P j)[i]? = some a → (P k)[i]? = some b → qw_E m R ty a b) → post 1) (h0 : (¬ ∀ (i a b : Nat), (P j)[i]? = some a → (P k)[i]? = some b → qw_E m R ty a b) → post 0) :
    ∀ n i, (P j).length - i < n → i ≤ (P j).length → (∀ (i' a b : Nat), i' < i → (P j)[i']? = some a → (P k)[i']? = some b → qw_E m R ty a b) → wY_compare_19 post (nI j) (nI k) ynl yjl ync yct ytk ysj ypr ypl ysc ypd ygn ysm n (nI i) := by
  have H' := H
  obtain ⟨h1, h2, h3, h4⟩ := H'
  obtain ⟨p1, p2, p3⟩ := h4 j hj
  obtain ⟨q1, q2, q3⟩ := h4 k hk
  intro n
  induction n with
  | zero => intro y h; omega
  | succ n ih =>
    intro i g1 g2 g3
    rw [wY_compare_19, nI_clamp (show j < 2 ^ 31 by omega), p1]
    refine ⟨vp_in_nI (by omega) (by omega), pk_le (P j).length i (fun h => ?_) (fun h => ?_) rfl rfl (by omega) (by omega)⟩
    · exact h1' fun i' a b ha hb => g3 i' a b (by have := qa_lt ha; omega) ha hb
    · obtain ⟨a, ea⟩ := qa_get (L := P j) (i := i) h
      obtain ⟨b, eb⟩ := qa_get (L := P k) (i := i) (by omega)
      obtain ⟨a1, a2⟩ := p3 i a ea
      obtain ⟨b1, b2⟩ := q3 i b eb
      simp only [qw_m64, nI_add]
      rw [nI_clamp (show j * 64 + i < 2 ^ 31 by omega), nI_clamp (show k * 64 + i < 2 ^ 31 by omega), a2, b2]
      refine ⟨vp_in_nI (by omega) (by omega), nm_e ⟨vp_in_nI (by omega) (by omega), nm_e ?_⟩⟩
      refine qw_mema (by omega) H (qw_mema (by omega) H ?_)
      have c1 := qa_cn_le (qw_p R a) m
      have c2 := qa_cn_le (qw_p R b) m
      refine pk_eq (qa_cn (qw_p R a) m) (qa_cn (qw_p R b) m) (fun c => ?_) (fun c => ?_) rfl rfl (by omega) (by omega)
      · refine ⟨m + 1, qw_cmp77 (i := i) (by omega) (by omega) H (hS a (qa_mem ea)) (fun all => ?_) (fun c' => ?_) (m + 1) 0 (by omega) (by omega) (fun x' hx' => by omega)⟩
        · refine ih (i + 1) (by omega) (by omega) fun i' a' b' hi' ea' eb' => ?_
          by_cases e : i' = i
          · subst e
            rw [ea] at ea'; rw [eb] at eb'
            injection ea' with ea'; injection eb' with eb'
            subst ea'; subst eb'
            exact ⟨c, all⟩
          · exact g3 i' a' b' (by omega) ea' eb'
        · exact h0 fun all => c' (all i a b ea eb).2
      · exact h0 fun all => c (all i a b ea eb).1
theorem qw_cmp {post : Int32 → Prop} {j k : Nat} (hj : j < m) (hk : k < m) (H : qw_Y m R P yct ypr ypl ypd)
    (hS : ∀ a, a ∈ P j → ∀ x, x < m → R x = a → x ≠ a + 1 → ∀ y, y < m → ysm (x * 64 + y) = qw_01 (decide (ty x = ty y)))
    (hE : ty j = ty k ↔ (P j).length = (P k).length ∧ ∀ (i a b : Nat), (P j)[i]? = some a → (P k)[i]? = some b → qw_E m R ty a b) (hP : post (qw_01 (decide (ty j = ty k)))) : wpY_compare post (ynl, yjl, ync, yct, ytk, ysj, ypr, ypl, ysc, ypd, ygn, ysm) (nI j) (nI k) := by
  have H' := H
  obtain ⟨h1, h2, h3, h4⟩ := H'
  obtain ⟨p1, p2, p3⟩ := h4 j hj
  obtain ⟨q1, q2, q3⟩ := h4 k hk
  have e1 : ty j = ty k → post 1 := fun e => by rw [decide_eq_true e] at hP; exact hP
  have e0 : ¬ ty j = ty k → post 0 := fun e => by rw [decide_eq_false e] at hP; exact hP
  unfold wpY_compare
  dsimp only
  rw [nI_clamp (show j < 2 ^ 31 by omega), nI_clamp (show k < 2 ^ 31 by omega), p1, q1]
  refine ⟨vp_in_nI (by omega) (by omega), vp_in_nI (by omega) (by omega), pk_eq (P j).length (P k).length (fun c => ?_) (fun c => ?_) rfl rfl (by omega) (by omega)⟩
  · exact ⟨(P j).length + 1, qw_cmp19 hj hk c H hS (fun all => e1 (hE.mpr ⟨c, all⟩)) (fun c' => e0 fun e => c' (hE.mp e).2) _ 0 (by omega) (by omega) (fun i' a b h => by omega)⟩
  · exact e0 fun e => c (hE.mp e).1
theorem qw_b164 {post : Int32 → SY → Prop} {J : Int32 → (Nat → Int32) → (Nat → Int32) → (Nat → Int32) → (Nat → Int32) → (Nat → Int32) → (Nat → Int32) → (Nat → Int32) → (Nat → Int32) → Prop} {j : Nat} (hj : j < m) (H : qw_Y m R P yct ypr ypl ypd)
    (hlate : ∀ a, a ∈ P j → ∀ x, x < m → R x = a → x ≠ a + 1 → j < x)
    (hE : ∀ k, k < m → (ty j = ty k ↔ (P j).length = (P k).length ∧ ∀ (i a b : Nat), (P j)[i]? = some a → (P k)[i]? = some b → qw_E m R ty a b))
    (hJ : ∀ sm, (∀ x y, j ≤ x → x < m → y < m → sm (x * 64 + y) = qw_01 (decide (ty x = ty y))) → J (nI j + (-1)) ytk ysj ypr ypl ysc ypd ygn sm) :
    ∀ n k sm, m - k < n → k ≤ m → (∀ x y, j < x → x < m → y < m → sm (x * 64 + y) = qw_01 (decide (ty x = ty y))) → (∀ y, y < k → sm (j * 64 + y) = qw_01 (decide (ty j = ty y))) → wY_build_164 post J (nI j) ynl yjl ync yct n (nI k) ytk ysj ypr ypl ysc ypd ygn sm := by
  have H' := H
  obtain ⟨h1, h2, h3, h4⟩ := H'
  intro n
  induction n with
  | zero => intro k sm h; omega
  | succ n ih =>
    intro k sm g1 g2 g3 g4
    rw [wY_build_164]
    refine pk_le m k (fun h => ?_) (fun h => ?_) h1 rfl (by omega) (by omega)
    · refine nm_e (hJ sm fun x y hx1 hx2 hy => ?_)
      by_cases e : x = j
      · subst e; exact g4 y (by omega)
      · exact g3 x y (by omega) hx2 hy
    · refine qw_cmp hj h H (fun a ha x hx hR hne y hy => g3 x y (hlate a ha x hx hR hne) hx hy) (hE k h) ?_
      rw [qw_m64, nI_add, nI_clamp (show j * 64 + k < 2 ^ 31 by omega), qw_narb]
      refine ⟨vp_in_nI (by omega) (by omega), nm_e (nm_r (nI_1 k) (ih (k + 1) _ (by omega) (by omega) (fun x y hx1 hx2 hy => ?_) (fun y hy => ?_)))⟩
      · rw [qf_un (by omega)]; exact g3 x y hx1 hx2 hy
      · by_cases e : y = k
        · subst e; rw [qf_us]
        · rw [qf_un (by omega)]; exact g4 y (by omega)
theorem qw_b158 {post : Int32 → SY → Prop} (H : qw_Y m R P yct ypr ypl ypd)
    (hlate : ∀ j, j < m → ∀ a, a ∈ P j → ∀ x, x < m → R x = a → x ≠ a + 1 → j < x)
    (hE : ∀ j k, j < m → k < m → (ty j = ty k ↔ (P j).length = (P k).length ∧ ∀ (i a b : Nat), (P j)[i]? = some a → (P k)[i]? = some b → qw_E m R ty a b))
    (hP : ∀ sm, (∀ x y, x < m → y < m → sm (x * 64 + y) = qw_01 (decide (ty x = ty y))) → post yct (ynl, yjl, ync, yct, ytk, ysj, ypr, ypl, ysc, ypd, ygn, sm)) :
    ∀ n j sm, j < n → j ≤ m → (∀ x y, j ≤ x → x < m → y < m → sm (x * 64 + y) = qw_01 (decide (ty x = ty y))) → wY_build_158 post ynl yjl ync yct n (nI j + (-1)) ytk ysj ypr ypl ysc ypd ygn sm := by
  have H' := H
  obtain ⟨h1, h2, h3, h4⟩ := H'
  intro n
  induction n with
  | zero => intro j sm h; omega
  | succ n ih =>
    intro j sm g1 g2 g3
    rw [wY_build_158]
    cases j with
    | zero => exact br_t (by decide) (hP sm fun x y hx hy => g3 x y (by omega) hx hy)
    | succ j =>
      rw [pk_m1]
      refine br_f (nI_pos (by omega)) ⟨m + 1, qw_b164 (by omega) H (hlate j (by omega)) (fun k hk => hE j k (by omega) hk) (fun sm' hs' => ih j sm' (by omega) (by omega) hs') (m + 1) 0 sm (by omega) (by omega) (fun x y hx1 hx2 hy => g3 x y (by omega) hx2 hy) (fun y hy => by omega)⟩
theorem qw_b132 {post : Int32 → SY → Prop} (hP : ∀ gn : Nat → Int32, (∀ j, j < 64 → gn j = 0) → ∃ n, wY_build_158 post ynl yjl ync yct n (yct - 1) ytk ysj ypr ypl ysc ypd gn ysm) :
    ∀ n k gn, 64 - k < n → k ≤ 64 → (∀ j, j < k → gn j = 0) → wY_build_132 post ynl yjl ync yct n (nI k) ytk ysj ypr ypl ysc ypd gn ysm := by
  intro n
  induction n with
  | zero => intro k gn h; omega
  | succ n ih =>
    intro k gn g1 g2 g3
    rw [wY_build_132]
    refine pk_le 64 k (fun h => ?_) (fun h => ?_) rfl rfl (by omega) (by omega)
    · exact nm_e (hP gn fun j hj => g3 j (by omega))
    · rw [nI_clamp (show k < 2 ^ 31 by omega)]
      refine ⟨vp_in_nI (by omega) (by omega), nm_e (nm_r (nI_1 k) (ih (k + 1) _ (by omega) (by omega) fun j hj => ?_))⟩
      by_cases e : j = k
      · subst e; rw [qf_us]; rfl
      · rw [qf_un e]; exact g3 j (by omega)
end
end
section
/-! ===== the reference: build ===== -/
theorem qm_starI {n : Nat} {tk : Nat → Int32} {au : Nat → Nat} (T : qt_T n tk au) {k : Nat} (h : qm_S tk au k < n) : qm_star tk au k ↔ tk (qm_S tk au k) = -1 ∧ (qm_P tk au k).length = 0 := by
  unfold qm_star
  refine and_congr ⟨fun e => (qm_tokL T h e).1, fun e => ?_⟩ (List.length_eq_zero_iff).symm
  show qm_kd (tk (qm_S tk au k)) = 1
  rw [e]; exact qm_kdL
/-- m judgements, the last one at the end of the run -/
def qm_fin (tk : Nat → Int32) (au : Nat → Nat) (m : Nat) : Prop := 0 < m ∧ m ≤ 64 ∧ qm_star tk au (m - 1) ∧ ∀ j, j + 1 < m → ¬ qm_star tk au j
theorem qm_finU {tk : Nat → Int32} {au : Nat → Nat} {m m' : Nat} (h : qm_fin tk au m) (h' : qm_fin tk au m') : m = m' := by
  obtain ⟨a1, a2, a3, a4⟩ := h
  obtain ⟨b1, b2, b3, b4⟩ := h'
  rcases Nat.lt_trichotomy m m' with c | c | c
  · exact absurd a3 (b4 (m - 1) (by omega))
  · exact c
  · exact absurd b3 (a4 (m' - 1) (by omega))
theorem qm_finT {n : Nat} {tk : Nat → Int32} {au : Nat → Nat} (T : qt_T n tk au) {m : Nat} (h : qm_fin tk au m) : qm_tr m tk au ∧ qm_en m (qm_K tk au) (qm_P tk au) ∧ ∀ k, k < m → qm_ok n tk au k := by
  obtain ⟨a1, a2, a3, a4⟩ := h
  obtain ⟨tr, ok⟩ := qm_go T (m - 1) (fun k hk => a4 k (by omega))
  rw [show m - 1 + 1 = m by omega] at tr
  exact ⟨tr, ⟨a1, a2, a3.1, a3.2⟩, fun k hk => ok k (by omega)⟩
theorem qw_YM {n : Nat} {tk : Nat → Int32} {au : Nat → Nat} (T : qt_T n tk au) {m : Nat} (h : qm_fin tk au m) {sj pr pl sc pd : Nat → Int32} (H : qw_M tk au (m - 1) sj pr pl sc pd) : qw_Y m (qm_R tk au) (qm_P tk au) (nI m) pr pl pd := by
  obtain ⟨tr, en, ok⟩ := qm_finT T h
  refine ⟨rfl, h.2.1, fun y a hy ha => ?_, fun j hj => ?_⟩
  · obtain ⟨_, e, _⟩ := H y (by omega)
    rw [e]
    by_cases z : y = 0
    · subst z
      rw [if_pos rfl]
      have := tr.2.2.2.1
      constructor
      · intro c; exact absurd c.symm (qf_nneg (by omega)).2.1
      · intro c; omega
    · rw [if_neg z]
      have := qm_Rlt tr en (by omega) hy
      exact nI_eq (by have := h.2.1; omega) (by omega)
  · obtain ⟨_, _, e1, e2, _⟩ := H j (by omega)
    exact ⟨e1, qm_Plen tr j hj, fun i x hx => ⟨((qm_ab tr j hj).1 x (qa_mem hx)).1, e2 i x hx⟩⟩
section
variable {ynl yjl ync yct : Int32} {ytk ysj ypr ypl ysc ypd ygn ysm : Nat → Int32}
theorem qw_b99 {post : Int32 → SY → Prop} {J : Int32 → Int32 → Int32 → Int32 → Int32 → (Nat → Int32) → (Nat → Int32) → (Nat → Int32) → (Nat → Int32) → (Nat → Int32) → (Nat → Int32) → (Nat → Int32) → (Nat → Int32) → Prop} {n : Nat} {au : Nat → Nat} {k JL : Nat} (T : qt_T n ytk au) (hy : ync = nI n) (hj : yjl = nI JL) (hJL : JL ≤ 64) (hk : k < JL) (hs : ∀ j, j ≤ k → ¬ qm_star ytk au j) (H : qw_M ytk au k ysj ypr ypl ysc ypd)
    (hJ : ∀ sj pr pl sc pd : Nat → Int32, (k + 1 < JL → qw_M ytk au (k + 1) sj pr pl sc pd) → J (nI (k + 1)) ynl yjl ync yct ytk sj pr pl sc pd ygn ysm) : wY_build_99 post J (nI k) ynl yjl ync yct ytk ysj ypr ypl ysc ypd ygn ysm := by
  unfold wY_build_99
  rw [nI_1]
  refine pk_le JL (k + 1) (fun h => ?_) (fun h => ?_) hj rfl (by omega) (by omega)
  · exact nm_e (hJ _ _ _ _ _ fun c => by omega)
  · refine qw_next T hy (by omega) hs H fun sj pr pl sc pd h' => ?_
    dsimp only
    exact nm_e (hJ _ _ _ _ _ fun _ => h')
theorem qw_b50 {post : Int32 → SY → Prop} {n : Nat} {au : Nat → Nat} {JL : Nat} (T : qt_T n ytk au) (hy : ync = nI n) (hj : yjl = nI JL) (hJL : JL ≤ 64)
    (hL : (∀ j, j < JL → ¬ qm_star ytk au j) → ∀ sj pr pl sc pd : Nat → Int32, wY_build_120 post ynl yjl ync 0 ytk sj pr pl sc pd ygn ysm)
    (hS : ∀ m, m ≤ JL → qm_fin ytk au m → ∀ sj pr pl sc pd : Nat → Int32, qw_M ytk au (m - 1) sj pr pl sc pd → wY_build_120 post ynl yjl ync (nI m) ytk sj pr pl sc pd ygn ysm) :
    ∀ f k sj pr pl sc pd, JL - k + 1 < f → k ≤ JL → (∀ j, j < k → ¬ qm_star ytk au j) → (k < JL → qw_M ytk au k sj pr pl sc pd) → wY_build_50 post f (nI k) ynl yjl ync 0 ytk sj pr pl sc pd ygn ysm := by
  intro f
  induction f with
  | zero => intro k sj pr pl sc pd h; omega
  | succ f ih =>
    intro k sj pr pl sc pd g1 g2 g3 g4
    rw [wY_build_50]
    refine pk_le JL k (fun h => ?_) (fun h => ?_) hj rfl (by omega) (by omega)
    · exact hL (fun j hj => g3 j (by omega)) _ _ _ _ _
    · refine br_t rfl ?_
      have H := g4 h
      obtain ⟨m1, m2, m3, m4, m5⟩ := H k (Nat.le_refl _)
      have ok := ((qm_go T k g3).2 k (Nat.le_refl _)).1
      have hn := T.2.1
      have lk := (qm_lens T g3 k (Nat.le_refl _)).1
      have nx : ¬ qm_star ytk au k → wY_build_99 post (wY_build_50 post f) (nI k) ynl yjl ync 0 ytk sj pr pl sc pd ygn ysm := fun hns => by
        have hs : ∀ j, j ≤ k → ¬ qm_star ytk au j := fun j hj => by
          by_cases e : j = k
          · subst e; exact hns
          · exact g3 j (by omega)
        exact qw_b99 T hy hj hJL h hs H fun sj' pr' pl' sc' pd' h' => ih (k + 1) _ _ _ _ _ (by omega) (by omega) (fun j hj => hs j (by omega)) h'
      rw [nI_clamp (show k < 2 ^ 31 by omega), m1, nI_clamp (show qm_S ytk au k < 2 ^ 31 by omega), m3]
      have si := qm_starI T ok
      refine ⟨vp_in_nI (by omega) (by omega), vp_in_nI (by omega) (by omega), br_c (fun hl => ⟨vp_in_nI (by omega) (by omega), ?_⟩) (fun hl => nx fun c => hl (si.mp c).1)⟩
      refine pk_eq (qm_P ytk au k).length 0 (fun z => ?_) (fun z => nx fun c => z (si.mp c).2) rfl rfl (by omega) (by omega)
      have st := si.mpr ⟨hl, z⟩
      refine nm_r (nI_1 k) (nm_r (nI_1 k) ?_)
      have fin : qm_fin ytk au (k + 1) := ⟨by omega, by omega, st, fun j hj => g3 j (by omega)⟩
      have W := hS (k + 1) (by omega) fin sj pr pl sc pd H
      obtain ⟨f', rfl⟩ : ∃ f', f = f' + 1 := ⟨f - 1, by omega⟩
      rw [wY_build_50]
      refine pk_le JL (k + 1) (fun h => W) (fun h => ?_) hj rfl (by omega) (by omega)
      exact br_f (nI_ne0 (by omega) (by omega)) W
theorem qw_init {au : Nat → Nat} : qw_M ytk au 0 (upd ysj 0 0) (upd ypr 0 (-1)) (upd ypl 0 0) ysc ypd := by
  intro j hj
  have : j = 0 := by omega
  subst this
  refine ⟨qf_us, qf_us, qf_us, fun i x h => ?_, fun i x h => ?_⟩
  · have : (qm_P ytk au 0) = [] := rfl
    rw [this] at h; simp at h
  · have : (qm_C ytk au 0) = [] := rfl
    rw [this] at h; simp at h
theorem qw_buildG {post : Int32 → SY → Prop} {n : Nat} {au : Nat → Nat} {JL : Nat} (T : qt_T n ytk au) (hz : qt_lf ytk 0 n = 0) (hy : ync = nI n) (hj : yjl = nI JL) (hJL : JL ≤ 64) (hct : yct = 0)
    (hL : (∀ j, j < JL → ¬ qm_star ytk au j) → ∀ sj pr pl sc pd : Nat → Int32, wY_build_120 post ynl yjl ync 0 ytk sj pr pl sc pd ygn ysm)
    (hS : ∀ m, m ≤ JL → qm_fin ytk au m → ∀ sj pr pl sc pd : Nat → Int32, qw_M ytk au (m - 1) sj pr pl sc pd → wY_build_120 post ynl yjl ync (nI m) ytk sj pr pl sc pd ygn ysm) : wpY_build post (ynl, yjl, ync, yct, ytk, ysj, ypr, ypl, ysc, ypd, ygn, ysm) := by
  subst hct
  unfold wpY_build
  dsimp only
  rw [hy]
  have hn := T.2.1
  refine qw_left (q := 0) hn (by omega) ?_
  rw [Nat.sub_zero, hz]
  refine br_t (by decide) (br_t (by decide) (nm_e (nm_e (nm_e ⟨JL + 2, ?_⟩))))
  exact qw_b50 (ync := nI n) T rfl hj hJL (fun h sj pr pl sc pd => by have := hL h sj pr pl sc pd; rw [hy] at this; exact this) (fun m h1 h2 sj pr pl sc pd h3 => by have := hS m h1 h2 sj pr pl sc pd h3; rw [hy] at this; exact this) (JL + 2) 0 _ _ _ _ _ (by omega) (by omega) (fun j hj => by omega) (fun _ => qw_init)
theorem qw_buildL {post : Int32 → SY → Prop} {n : Nat} {au : Nat → Nat} {JL : Nat} (T : qt_T n ytk au) (hz : qt_lf ytk 0 n = 0) (hy : ync = nI n) (hj : yjl = nI JL) (hJL : JL ≤ 64) (hct : yct = 0)
    (hns : ∀ j, j < JL → ¬ qm_star ytk au j) (hP : ∀ sj pr pl sc pd : Nat → Int32, post (-16) (ynl, yjl, ync, 0, ytk, sj, pr, pl, sc, pd, ygn, ysm)) : wpY_build post (ynl, yjl, ync, yct, ytk, ysj, ypr, ypl, ysc, ypd, ygn, ysm) := by
  refine qw_buildG T hz hy hj hJL hct (fun _ sj pr pl sc pd => ?_) (fun m h1 h2 => ?_)
  · unfold wY_build_120
    exact br_t rfl (hP _ _ _ _ _)
  · exact absurd h2.2.2.1 (hns (m - 1) (by have := h2.1; omega))
theorem qw_buildS {post : Int32 → SY → Prop} {n : Nat} {au : Nat → Nat} {JL : Nat} (T : qt_T n ytk au) (hz : qt_lf ytk 0 n = 0) (hy : ync = nI n) (hj : yjl = nI JL) (hJL : JL ≤ 64) (hct : yct = 0) {m : Nat} (hm : qm_fin ytk au m) (hmJ : m ≤ JL) {ty : Nat → Nat}
    (hlate : ∀ j, j < m → ∀ a, a ∈ qm_P ytk au j → ∀ x, x < m → qm_R ytk au x = a → x ≠ a + 1 → j < x)
    (hE : ∀ j k, j < m → k < m → (ty j = ty k ↔ (qm_P ytk au j).length = (qm_P ytk au k).length ∧ ∀ (i a b : Nat), (qm_P ytk au j)[i]? = some a → (qm_P ytk au k)[i]? = some b → qw_E m (qm_R ytk au) ty a b))
    (hP : ∀ sj pr pl sc pd gn sm : Nat → Int32, qw_M ytk au (m - 1) sj pr pl sc pd → (∀ j, j < 64 → gn j = 0) → (∀ x y, x < m → y < m → sm (x * 64 + y) = qw_01 (decide (ty x = ty y))) → post (nI m) (ynl, yjl, ync, (nI m), ytk, sj, pr, pl, sc, pd, gn, sm)) : wpY_build post (ynl, yjl, ync, yct, ytk, ysj, ypr, ypl, ysc, ypd, ygn, ysm) := by
  refine qw_buildG T hz hy hj hJL hct (fun h => ?_) (fun m' h1 h2 sj pr pl sc pd H => ?_)
  · exact absurd hm.2.2.1 (h (m - 1) (by have := hm.1; omega))
  · have e := qm_finU h2 hm
    subst e
    have hYY := qw_YM T hm H
    have h0 := hm.1
    have h64 := hm.2.1
    unfold wY_build_120
    refine br_f (nI_ne0 h0 (by omega)) ⟨65, qw_b132 (fun gn hg => ⟨m' + 1, ?_⟩) 65 0 ygn (by omega) (by omega) (fun j hj => by omega)⟩
    have es : nI m' - 1 = nI m' + (-1) := by
      obtain ⟨m0, rfl⟩ : ∃ m0, m' = m0 + 1 := ⟨m' - 1, by omega⟩
      rw [nI_pred, pk_m1]
    rw [es]
    exact qw_b158 (ygn := gn) hYY hlate hE (fun sm hs => hP _ _ _ _ _ _ _ H hg hs) (m' + 1) m' ysm (by omega) (Nat.le_refl _) (fun x y h1 h2 => by omega)
end
end
section
/-! ===== the component: the machine ===== -/
def qx_h : List Nat → Int32
  | [] => -1
  | a :: _ => nI a
def qx_M (tk : Nat → Int32) (au : Nat → Nat) (k : Nat) (sj pr pn sc : Nat → Int32) : Prop := ∀ j, j ≤ k →
  sj j = nI (qm_S tk au j) ∧ pr j = (if j = 0 then -1 else nI (qm_R tk au j)) ∧ pn j = qx_h (qm_P tk au j) ∧ sc j = qx_h (qm_C tk au j)
theorem qx_hz {L : List Nat} (h : ∀ x, x ∈ L → x < 2 ^ 31) : qx_h L = -1 ↔ L = [] := by
  cases L with
  | nil => exact ⟨fun _ => rfl, fun _ => rfl⟩
  | cons a L => exact ⟨fun c => absurd c (qf_nneg (h a List.mem_cons_self)).2.1, fun c => by simp at c⟩
section
variable {xnl xjl xnc xop xnd xwc xct xtc xec xsr xar : Int32} {xtk xdp xau xwt xsj xpr xpn xsc xty xmk xcd xai xts xtz xen xcx xsz : Nat → Int32}
theorem qx_set {post : SX → Prop} {k : Nat} {a b c d : Int32} (hk : k < 64) (hP : post (xnl, xjl, xnc, xop, xnd, xwc, xct, xtc, xec, xsr, xar, xtk, xdp, xau, xwt, (upd xsj k a), (upd xpr k d), (upd xpn k c), (upd xsc k b), xty, xmk, xcd, xai, xts, xtz, xen, xcx, xsz)) : wpX_setJudgement post (xnl, xjl, xnc, xop, xnd, xwc, xct, xtc, xec, xsr, xar, xtk, xdp, xau, xwt, xsj, xpr, xpn, xsc, xty, xmk, xcd, xai, xts, xtz, xen, xcx, xsz) (nI k) a b c d := by
  unfold wpX_setJudgement
  dsimp only
  rw [nI_clamp (show k < 2 ^ 31 by omega)]
  have hv : vp_in (nI k) 64 := vp_in_nI hk (by omega)
  exact ⟨hv, nm_e ⟨hv, nm_e ⟨hv, nm_e ⟨hv, nm_e hP⟩⟩⟩⟩
theorem qx_star {post : Int32 → Prop} {k s : Nat} {L : List Nat} (hk : k < 64) (hs : xsj k = nI s) (hs2 : s < 32) (hp : xpn k = qx_h L) (hL : ∀ x, x ∈ L → x < 64) (h1 : (xtk s = -1 ∧ L = []) → post 1) (h0 : ¬ (xtk s = -1 ∧ L = []) → post 0) : wpX_isStar post (xnl, xjl, xnc, xop, xnd, xwc, xct, xtc, xec, xsr, xar, xtk, xdp, xau, xwt, xsj, xpr, xpn, xsc, xty, xmk, xcd, xai, xts, xtz, xen, xcx, xsz) (nI k) := by
  unfold wpX_isStar
  dsimp only
  rw [nI_clamp (show k < 2 ^ 31 by omega), hs, nI_clamp (show s < 2 ^ 31 by omega), hp]
  have hv : vp_in (nI k) 64 := vp_in_nI hk (by omega)
  have hz : qx_h L = -1 ↔ L = [] := qx_hz fun x hx => by have := hL x hx; omega
  exact ⟨hv, vp_in_nI hs2 (by omega), br_c (fun a => ⟨hv, ek_if hz (fun b => h1 ⟨a, b⟩) (fun b => h0 fun c => b c.2)⟩) (fun a => h0 fun c => a c.1)⟩
theorem qx_sup19 {post : Int32 → Prop} {C P : Nat → List Nat} {k : Nat} (hk : k ≤ 64) (hC : ∀ l, l < k → xsc l = qx_h (C l) ∧ xpn l = qx_h (P l) ∧ (∀ x, x ∈ C l → x < l) ∧ (∀ x r, C l = x :: r → r = C x)) {l' a : Nat} {r : List Nat} (hP' : P l' = a :: r) (hP : post (nI a)) :
    ∀ n i l, i < n → i < 64 → l < k → (l :: C l)[i]? = some l' → wX_supplier_19 post xnl xjl xnc xop xnd xwc xct xtc xec xsr xar xtk xdp xau xwt xsj xpr xpn xsc xty xmk xcd xai xts xtz xen xcx xsz n (nI l) (nI i) := by
  intro n
  induction n with
  | zero => intro i l h; omega
  | succ n ih =>
    intro i l g1 g0 g2 g3
    rw [wX_supplier_19]
    obtain ⟨c1, c2, c3, c4⟩ := hC l g2
    rw [nI_clamp (show l < 2 ^ 31 by omega)]
    have hv : vp_in (nI l) 64 := vp_in_nI (by omega) (by omega)
    cases i with
    | zero =>
      refine br_t (by decide) ⟨hv, ?_⟩
      simp at g3
      subst g3
      rw [c2, hP']; exact hP
    | succ i =>
      refine br_f (nI_nle (by omega) (by omega)) ⟨hv, ?_⟩
      have g3' : (C l)[i]? = some l' := by simpa using g3
      cases hc : C l with
      | nil => rw [hc] at g3'; simp at g3'
      | cons x y =>
        have e := c4 x y hc
        have hx := c3 x (by rw [hc]; exact List.mem_cons_self)
        rw [c1, hc]
        refine nm_e (nm_r (pk_m1 i) ?_)
        refine ih i x (by omega) (by omega) (by omega) ?_
        rw [← e, ← hc]; exact g3'
theorem qx_sup {post : Int32 → Prop} {C P : Nat → List Nat} {k s i : Nat} (hk : k < 64) (hsj : xsj k = nI s) (hs : s < 32) (ht : xtk s = nI i) (hi : i < 32) (hC : ∀ l, l < k + 1 → xsc l = qx_h (C l) ∧ xpn l = qx_h (P l) ∧ (∀ x, x ∈ C l → x < l) ∧ (∀ x r, C l = x :: r → r = C x)) {l a : Nat} {r : List Nat} (hl : (C k)[i]? = some l) (hP' : P l = a :: r) (hP : post (nI a)) : wpX_supplier post (xnl, xjl, xnc, xop, xnd, xwc, xct, xtc, xec, xsr, xar, xtk, xdp, xau, xwt, xsj, xpr, xpn, xsc, xty, xmk, xcd, xai, xts, xtz, xen, xcx, xsz) (nI k) := by
  unfold wpX_supplier
  dsimp only
  rw [nI_clamp (show k < 2 ^ 31 by omega), hsj, nI_clamp (show s < 2 ^ 31 by omega), ht]
  have hv : vp_in (nI k) 64 := vp_in_nI hk (by omega)
  obtain ⟨c1, c2, c3, c4⟩ := hC k (by omega)
  rw [c1]
  refine ⟨hv, nm_e ⟨hv, vp_in_nI hs (by omega), nm_e ⟨i + 1, ?_⟩⟩⟩
  cases hc : C k with
  | nil => rw [hc] at hl; simp at hl
  | cons x y =>
    have e := c4 x y hc
    have hx := c3 x (by rw [hc]; exact List.mem_cons_self)
    refine qx_sup19 (k := k + 1) (by omega) hC hP' hP (i + 1) i x (by omega) (by omega) (by omega) ?_
    rw [← e, ← hc]; exact hl
theorem qx_adv {post : SX → Prop} {n : Nat} {au : Nat → Nat} {k : Nat} (T : qt_T n xtk au) (hau : au = qt_au xau) (hA : ∀ s, s < n → xtk s = -2 → xau s = nI (au s)) (hk : k + 1 < 64) (hs : ∀ j, j ≤ k → ¬ qm_star xtk au j) (H : qx_M xtk au k xsj xpr xpn xsc)
    (hP : ∀ sj pr pn sc : Nat → Int32, qx_M xtk au (k + 1) sj pr pn sc → post (xnl, xjl, xnc, xop, xnd, xwc, xct, xtc, xec, xsr, xar, xtk, xdp, xau, xwt, sj, pr, pn, sc, xty, xmk, xcd, xai, xts, xtz, xen, xcx, xsz)) : wpX_advance post (xnl, xjl, xnc, xop, xnd, xwc, xct, xtc, xec, xsr, xar, xtk, xdp, xau, xwt, xsj, xpr, xpn, xsc, xty, xmk, xcd, xai, xts, xtz, xen, xcx, xsz) (nI k) := by
  obtain ⟨tr, ok⟩ := qm_go T (k + 1) (fun j hj => hs j (by omega))
  have ab := qm_ab tr
  have hn := T.2.1
  have okk := (ok k (by omega)).1
  obtain ⟨m1, m2, m3, m4⟩ := H k (Nat.le_refl _)
  have hv : vp_in (nI k) 64 := vp_in_nI (by omega) (by omega)
  have hM : ∀ s' r' p' c', s' = nI (qm_S xtk au (k + 1)) → r' = nI (qm_R xtk au (k + 1)) → p' = qx_h (qm_P xtk au (k + 1)) → c' = qx_h (qm_C xtk au (k + 1)) → qx_M xtk au (k + 1) (upd xsj (k + 1) s') (upd xpr (k + 1) r') (upd xpn (k + 1) p') (upd xsc (k + 1) c') := by
    intro s' r' p' c' e1 e2 e3 e4 j hj
    by_cases e : j = k + 1
    · subst e
      rw [qf_us, qf_us, qf_us, qf_us, if_neg (by omega)]
      exact ⟨e1, e2, e3, e4⟩
    · rw [qf_un e, qf_un e, qf_un e, qf_un e]
      exact H j (by omega)
  unfold wpX_advance
  dsimp only
  rw [nI_clamp (show k < 2 ^ 31 by omega), m1, nI_1 k]
  refine ⟨hv, nm_e ?_⟩
  rw [nI_clamp (show qm_S xtk au k < 2 ^ 31 by omega)]
  refine ⟨vp_in_nI (by omega) (by omega), ?_⟩
  rcases tr.2.2.2.2 k (by omega) with ⟨a1, a2, a3, a4, a5⟩ | ⟨a1, a2, ⟨a, a3⟩, a4, a5⟩ | ⟨i, l, a, r, a1, a2, a3, a4, a5, a6, a7⟩
  · obtain ⟨t1, _⟩ := qm_tokA T okk a1
    refine br_t t1 ⟨hv, qx_set hk ?_⟩
    dsimp only
    refine hP _ _ _ _ (hM _ _ _ _ ?_ ?_ ?_ ?_)
    · rw [a2]; exact nI_1 _
    · rw [a5]
    · rw [a3]; rfl
    · rw [a4, m4]
  · obtain ⟨t1, _⟩ := qm_tokL T okk a1
    have nA : ¬ xtk (qm_S xtk au k) = -2 := by rw [t1]; decide
    have ha := (ab k (by omega)).1 a (by rw [a3]; exact List.mem_cons_self)
    have hpk : xpn k = nI a := by rw [m3, a3]; rfl
    have hPa := (ab k (by omega)).2.2.1 a _ a3
    refine br_f nA ⟨vp_in_nI (by omega) (by omega), br_t t1 ⟨hv, ?_⟩⟩
    rw [hpk, nI_clamp (show a < 2 ^ 31 by omega)]
    refine ⟨vp_in_nI (by omega) (by omega), qx_set hk ?_⟩
    dsimp only
    refine hP _ _ _ _ (hM _ _ _ _ ?_ ?_ ?_ ?_)
    · rw [a2]; exact nI_1 _
    · rw [a5]
    · rw [hPa]; exact (H a (by omega)).2.2.1
    · rw [a4]; rfl
  · obtain ⟨t1, t2, t3⟩ := qm_tokV T okk a1
    have nn := qf_nneg (i := i) (by omega)
    have nA : ¬ xtk (qm_S xtk au k) = -2 := by rw [t1]; exact nn.1
    have nL : ¬ xtk (qm_S xtk au k) = -1 := by rw [t1]; exact nn.2.1
    have hl := (ab k (by omega)).2.1 l (qa_mem a2)
    have ha := (ab l (by omega)).1 a (by rw [a3]; exact List.mem_cons_self)
    obtain ⟨e1, e2, e3, e4⟩ := H a (by omega)
    have oka := (ok a (by omega)).1
    obtain ⟨g1, g2, g3, g4, g5⟩ := qm_tokA T oka ha.2
    refine br_f nA ⟨vp_in_nI (by omega) (by omega), br_f nL ?_⟩
    refine qx_sup (C := qm_C xtk au) (P := qm_P xtk au) (i := i) (l := l) (a := a) (r := r) (by omega) m1 (by omega) t1 t3 (fun l' hl' => ?_) a2 a3 ?_
    · have q := ab l' (by omega)
      exact ⟨(H l' (by omega)).2.2.2, (H l' (by omega)).2.2.1, fun x hx => (q.2.1 x hx).1, q.2.2.2⟩
    · have hva : vp_in (nI a) 64 := vp_in_nI (by omega) (by omega)
      rw [nI_clamp (show a < 2 ^ 31 by omega), e1, nI_clamp (show qm_S xtk au a < 2 ^ 31 by omega)]
      refine ⟨hva, vp_in_nI (by omega) (by omega), hva, hv, qx_set hk ?_⟩
      dsimp only
      refine hP _ _ _ _ (hM _ _ _ _ ?_ ?_ ?_ ?_)
      · rw [a4]; exact hA _ oka g1
      · rw [a7]
      · rw [a5]; exact m3
      · rw [a6]; exact e4
theorem qx_run11 {post : Int32 → SX → Prop} {n : Nat} {au : Nat → Nat} {JL : Nat} (T : qt_T n xtk au) (hau : au = qt_au xau) (hA : ∀ s, s < n → xtk s = -2 → xau s = nI (au s)) (hj : xjl = nI JL) (hJ0 : 0 < JL) (hJL : JL ≤ 64)
    (hL : (∀ j, j < JL → ¬ qm_star xtk au j) → ∀ sj pr pn sc : Nat → Int32, post 0 (xnl, xjl, xnc, xop, xnd, xwc, xct, xtc, xec, xsr, xar, xtk, xdp, xau, xwt, sj, pr, pn, sc, xty, xmk, xcd, xai, xts, xtz, xen, xcx, xsz))
    (hS : ∀ m, m ≤ JL → qm_fin xtk au m → ∀ sj pr pn sc : Nat → Int32, qx_M xtk au (m - 1) sj pr pn sc → post (nI m) (xnl, xjl, xnc, xop, xnd, xwc, xct, xtc, xec, xsr, xar, xtk, xdp, xau, xwt, sj, pr, pn, sc, xty, xmk, xcd, xai, xts, xtz, xen, xcx, xsz)) :
    ∀ f k sj pr pn sc, JL - k < f → k < JL → (∀ j, j < k → ¬ qm_star xtk au j) → qx_M xtk au k sj pr pn sc → wX_run_11 post f (nI k) xnl xjl xnc xop xnd xwc xct xtc xec xsr xar xtk xdp xau xwt sj pr pn sc xty xmk xcd xai xts xtz xen xcx xsz := by
  intro f
  induction f with
  | zero => intro k sj pr pn sc h; omega
  | succ f ih =>
    intro k sj pr pn sc g1 g2 g3 H
    obtain ⟨m1, m2, m3, m4⟩ := H k (Nat.le_refl _)
    obtain ⟨tr, ok⟩ := qm_go T k g3
    have okk := (ok k (Nat.le_refl _)).1
    have hn := T.2.1
    have hPk : ∀ x, x ∈ qm_P xtk au k → x < 64 := fun x hx => by have := ((qm_ab tr k (by omega)).1 x hx).1; omega
    have si : qm_star xtk au k ↔ xtk (qm_S xtk au k) = -1 ∧ qm_P xtk au k = [] := by
      rw [qm_starI T okk, List.length_eq_zero_iff]
    have fin : qm_star xtk au k → qm_fin xtk au (k + 1) := fun st => ⟨by omega, by omega, st, fun j hj => g3 j (by omega)⟩
    have ns : ¬ qm_star xtk au k → ∀ j, j ≤ k → ¬ qm_star xtk au j := fun hns j hj => by
      by_cases e : j = k
      · subst e; exact hns
      · exact g3 j (by omega)
    have star40 : (qm_star xtk au k → post (nI (k + 1)) (xnl, xjl, xnc, xop, xnd, xwc, xct, xtc, xec, xsr, xar, xtk, xdp, xau, xwt, sj, pr, pn, sc, xty, xmk, xcd, xai, xts, xtz, xen, xcx, xsz)) → (¬ qm_star xtk au k → post 0 (xnl, xjl, xnc, xop, xnd, xwc, xct, xtc, xec, xsr, xar, xtk, xdp, xau, xwt, sj, pr, pn, sc, xty, xmk, xcd, xai, xts, xtz, xen, xcx, xsz)) → wX_run_40 post (nI k) xnl xjl xnc xop xnd xwc xct xtc xec xsr xar xtk xdp xau xwt sj pr pn sc xty xmk xcd xai xts xtz xen xcx xsz := fun c1 c0 => by
      unfold wX_run_40
      refine qx_star (by omega) m1 (by omega) m3 hPk (fun c => ?_) (fun c => ?_)
      · refine br_f (by decide) ?_
        rw [nI_1]
        exact c1 (si.mpr c)
      · exact br_t rfl (c0 fun s => c (si.mp s))
    have yes : qm_star xtk au k → post (nI (k + 1)) (xnl, xjl, xnc, xop, xnd, xwc, xct, xtc, xec, xsr, xar, xtk, xdp, xau, xwt, sj, pr, pn, sc, xty, xmk, xcd, xai, xts, xtz, xen, xcx, xsz) := fun st => hS (k + 1) (by omega) (fin st) _ _ _ _ H
    rw [wX_run_11]
    dsimp only
    rw [hj, show nI JL - 1 = nI (JL - 1) by
      obtain ⟨J', rfl⟩ : ∃ J', JL = J' + 1 := ⟨JL - 1, by omega⟩
      exact nI_pred J']
    refine pk_le (JL - 1) k (fun h => ?_) (fun h => ?_) rfl rfl (by omega) (by omega)
    · rw [← hj]
      refine star40 yes fun hns => hL (fun j hj' => ns hns j (by omega)) _ _ _ _
    · rw [← hj]
      refine qx_star (by omega) m1 (by omega) m3 hPk (fun c => ?_) (fun c => ?_)
      · exact br_f (by decide) (star40 yes fun hns => absurd (si.mpr c) hns)
      · refine br_t rfl (qx_adv T hau hA (by omega) (ns fun s => c (si.mp s)) H fun sj' pr' pn' sc' H' => ?_)
        dsimp only
        exact nm_r (nI_1 k) (ih (k + 1) _ _ _ _ (by omega) (by omega) (fun j hj' => ns (fun s => c (si.mp s)) j (by omega)) H')
theorem qx_run {post : Int32 → SX → Prop} {n : Nat} {au : Nat → Nat} {JL : Nat} (T : qt_T n xtk au) (hau : au = qt_au xau) (hA : ∀ s, s < n → xtk s = -2 → xau s = nI (au s)) (hj : xjl = nI JL) (hJ0 : 0 < JL) (hJL : JL ≤ 64)
    (hL : (∀ j, j < JL → ¬ qm_star xtk au j) → ∀ sj pr pn sc : Nat → Int32, post 0 (xnl, xjl, xnc, xop, xnd, xwc, xct, xtc, xec, xsr, xar, xtk, xdp, xau, xwt, sj, pr, pn, sc, xty, xmk, xcd, xai, xts, xtz, xen, xcx, xsz))
    (hS : ∀ m, m ≤ JL → qm_fin xtk au m → ∀ sj pr pn sc : Nat → Int32, qx_M xtk au (m - 1) sj pr pn sc → post (nI m) (xnl, xjl, xnc, xop, xnd, xwc, xct, xtc, xec, xsr, xar, xtk, xdp, xau, xwt, sj, pr, pn, sc, xty, xmk, xcd, xai, xts, xtz, xen, xcx, xsz)) : wpX_run post (xnl, xjl, xnc, xop, xnd, xwc, xct, xtc, xec, xsr, xar, xtk, xdp, xau, xwt, xsj, xpr, xpn, xsc, xty, xmk, xcd, xai, xts, xtz, xen, xcx, xsz) := by
  unfold wpX_run
  dsimp only
  refine qx_set (k := 0) (by omega) ?_
  dsimp only
  refine ⟨JL + 1, qx_run11 T hau hA hj hJ0 hJL hL hS (JL + 1) 0 _ _ _ _ (by omega) hJ0 (fun j hj => by omega) ?_⟩
  intro j hj
  have : j = 0 := by omega
  subst this
  rw [qf_us, qf_us, qf_us, qf_us]
  exact ⟨rfl, rfl, rfl, rfl⟩
end
end
section
/-! ===== the component: rows of codes ===== -/
/-- outside row r nothing is other -/
def qx_out (r : Nat) (cx sz cx' sz' : Nat → Int32) : Prop := (∀ j, (j < r * 64 ∨ r * 64 + 64 ≤ j) → cx' j = cx j) ∧ (∀ j, j ≠ r → sz' j = sz j)
theorem qx_out_rf {r : Nat} {cx sz : Nat → Int32} : qx_out r cx sz cx sz := ⟨fun _ _ => rfl, fun _ _ => rfl⟩
theorem qx_out_tr {r : Nat} {cx sz cx' sz' cx2 sz2 : Nat → Int32} (h : qx_out r cx sz cx' sz') (h' : qx_out r cx' sz' cx2 sz2) : qx_out r cx sz cx2 sz2 :=
  ⟨fun j hj => (h'.1 j hj).trans (h.1 j hj), fun j hj => (h'.2 j hj).trans (h.2 j hj)⟩
theorem qx_out_at {r s : Nat} {cx sz cx' sz' : Nat → Int32} {W : List Nat} (h : qx_out r cx sz cx' sz') (hne : s ≠ r) (hl : W.length ≤ 64) (hA : qy_At cx sz s W) : qy_At cx' sz' s W := by
  refine ⟨by rw [h.2 s hne]; exact hA.1, fun i x hx => ?_⟩
  have := qa_lt hx
  rw [h.1 _ (by omega)]; exact hA.2 i x hx
theorem qx_out_sz {r : Nat} {cx sz : Nat → Int32} {x : Int32} : qx_out r cx sz cx (upd sz r x) := ⟨fun _ _ => rfl, fun _ h => qf_un h⟩
section
variable {xnl xjl xnc xop xnd xwc xct xtc xec xsr xar : Int32} {xtk xdp xau xwt xsj xpr xpn xsc xty xmk xcd xai xts xtz xen xcx xsz : Nat → Int32}
theorem qx_ins59 {post : SX → Prop} {r c at' L : Nat} (hr : r < 66) (ha : at' < 64) (hsz : xsz r = nI L) (hP : post (xnl, xjl, xnc, xop, xnd, xwc, xct, xtc, xec, xsr, xar, xtk, xdp, xau, xwt, xsj, xpr, xpn, xsc, xty, xmk, xcd, xai, xts, xtz, xen, (upd xcx (r * 64 + at') (nI c)), (upd xsz r (nI (L + 1))))) : wX_insert_59 post (nI r) (nI c) (nI (r * 64)) (nI at') xnl xjl xnc xop xnd xwc xct xtc xec xsr xar xtk xdp xau xwt xsj xpr xpn xsc xty xmk xcd xai xts xtz xen xcx xsz := by
  unfold wX_insert_59
  rw [nI_add, nI_clamp (show r * 64 + at' < 2 ^ 31 by omega), nI_clamp (show r < 2 ^ 31 by omega), hsz, nI_1]
  have hv : vp_in (nI r) 66 := vp_in_nI hr (by omega)
  exact ⟨vp_in_nI (by omega) (by omega), nm_e ⟨hv, hv, nm_e hP⟩⟩
theorem qx_ins13 {post : SX → Prop} {r c : Nat} {W : List Nat} (hr : r < 66) (hW : W.Pairwise (· ≤ ·)) (hl : W.length < 64) (hb : ∀ x, x ∈ W → x < 4160) (hc : c < 4160) (hsz : xsz r = nI W.length)
    (hP : ∀ (cx' : Nat → Int32) (W' : List Nat), W'.Pairwise (· ≤ ·) → W'.Perm (c :: W) → qy_At cx' (upd xsz r (nI (W.length + 1))) r W' → qx_out r xcx xsz cx' (upd xsz r (nI (W.length + 1))) → post (xnl, xjl, xnc, xop, xnd, xwc, xct, xtc, xec, xsr, xar, xtk, xdp, xau, xwt, xsj, xpr, xpn, xsc, xty, xmk, xcd, xai, xts, xtz, xen, cx', (upd xsz r (nI (W.length + 1))))) :
    ∀ n at' cx, at' < n → at' ≤ W.length → (∀ j, (j < r * 64 ∨ r * 64 + 64 ≤ j) → cx j = xcx j) → (∀ (i x : Nat), i < at' → W[i]? = some x → cx (r * 64 + i) = nI x) → (∀ (i x : Nat), at' ≤ i → W[i]? = some x → c < x ∧ cx (r * 64 + i + 1) = nI x) → wX_insert_13 post (nI r) (nI c) (nI (r * 64)) xnl xjl xnc xop xnd xwc xct xtc xec xsr xar n (nI at') xtk xdp xau xwt xsj xpr xpn xsc xty xmk xcd xai xts xtz xen cx xsz := by
  intro n
  induction n with
  | zero => intro at' cx h; omega
  | succ n ih =>
    intro at' cx g1 g2 g3 g4 g5
    have fin : (∀ x, at' ≠ 0 → W[at' - 1]? = some x → x ≤ c) → wX_insert_59 post (nI r) (nI c) (nI (r * 64)) (nI at') xnl xjl xnc xop xnd xwc xct xtc xec xsr xar xtk xdp xau xwt xsj xpr xpn xsc xty xmk xcd xai xts xtz xen cx xsz := fun h1 => by
      refine qx_ins59 hr (by omega) hsz (hP _ (W.take at' ++ c :: W.drop at') ?_ ?_ ?_ ⟨?_, ?_⟩)
      · exact (qa_ins hW g2 h1 (fun x hx => (g5 at' x (Nat.le_refl _) hx).1)).1
      · exact (qa_ins hW g2 h1 (fun x hx => (g5 at' x (Nat.le_refl _) hx).1)).2
      · have hlen : (W.take at').length = at' := by rw [List.length_take]; omega
        refine ⟨?_, fun i x hx => ?_⟩
        · rw [qf_us, List.length_append, List.length_cons, hlen, List.length_drop]
          exact congrArg nI (by omega)
        · rw [List.getElem?_append] at hx
          by_cases e : i < at'
          · rw [if_pos (by omega), List.getElem?_take_of_lt e] at hx
            rw [qf_un (by omega)]; exact g4 i x e hx
          · rw [if_neg (by omega), hlen] at hx
            by_cases e2 : i = at'
            · subst e2
              rw [Nat.sub_self] at hx
              simp at hx
              subst hx
              exact qf_us
            · rw [show i - at' = (i - at' - 1) + 1 by omega, List.getElem?_cons_succ, List.getElem?_drop] at hx
              rw [qf_un (by omega)]
              have := (g5 _ x (by omega) hx).2
              rw [show r * 64 + (at' + (i - at' - 1)) + 1 = r * 64 + i by omega] at this
              exact this
      · intro j hj
        rw [qf_un (by omega)]; exact g3 j hj
      · intro j hj; exact qf_un hj
    rw [wX_insert_13]
    cases at' with
    | zero => exact br_t (by decide) (fin fun x h => absurd rfl h)
    | succ a =>
      refine br_f (nI_nle (by omega) (by omega)) ?_
      obtain ⟨x, hx⟩ := qa_get (L := W) (i := a) (by omega)
      have hxb := hb x (qa_mem hx)
      rw [nI_add, show nI (r * 64 + (a + 1)) - 1 = nI (r * 64 + a) from nI_pred (r * 64 + a), nI_clamp (show r * 64 + a < 2 ^ 31 by omega), g4 a x (by omega) hx]
      refine ⟨vp_in_nI (by omega) (by omega), pk_le x c (fun h => fin fun y _ hy => ?_) (fun h => ?_) rfl rfl (by omega) (by omega)⟩
      · rw [Nat.add_sub_cancel, hx] at hy; injection hy with hy; omega
      · rw [nI_clamp (show r * 64 + (a + 1) < 2 ^ 31 by omega)]
        refine ⟨vp_in_nI (by omega) (by omega), vp_in_nI (by omega) (by omega), nm_e (nm_r (pk_m1 a) (ih a _ (by omega) (by omega) ?_ ?_ ?_))⟩
        · intro j hj; rw [qf_un (by omega)]; exact g3 j hj
        · intro i y hi hy; rw [qf_un (by omega)]; exact g4 i y (by omega) hy
        · intro i y hi hy
          by_cases e : i = a
          · subst e
            rw [hx] at hy; injection hy with hy; subst hy
            exact ⟨h, qf_us⟩
          · rw [qf_un (by omega)]; exact g5 i y (by omega) hy
theorem qx_ins {post : SX → Prop} {r c : Nat} {W : List Nat} (hr : r < 66) (hW : W.Pairwise (· ≤ ·)) (hl : W.length < 64) (hb : ∀ x, x ∈ W → x < 4160) (hc : c < 4160) (hA : qy_At xcx xsz r W)
    (hP : ∀ (cx' sz' : Nat → Int32) (W' : List Nat), W'.Pairwise (· ≤ ·) → W'.Perm (c :: W) → qy_At cx' sz' r W' → qx_out r xcx xsz cx' sz' → post (xnl, xjl, xnc, xop, xnd, xwc, xct, xtc, xec, xsr, xar, xtk, xdp, xau, xwt, xsj, xpr, xpn, xsc, xty, xmk, xcd, xai, xts, xtz, xen, cx', sz')) : wpX_insert post (xnl, xjl, xnc, xop, xnd, xwc, xct, xtc, xec, xsr, xar, xtk, xdp, xau, xwt, xsj, xpr, xpn, xsc, xty, xmk, xcd, xai, xts, xtz, xen, xcx, xsz) (nI r) (nI c) := by
  unfold wpX_insert
  dsimp only
  rw [qw_m64, nI_clamp (show r < 2 ^ 31 by omega), hA.1]
  refine nm_e ⟨vp_in_nI hr (by omega), nm_e ⟨W.length + 1, ?_⟩⟩
  exact qx_ins13 hr hW hl hb hc hA.1 (fun cx' W' a b c d => hP cx' _ W' a b c d) (W.length + 1) W.length xcx (by omega) (Nat.le_refl _) (fun _ _ => rfl) (fun i x _ hx => hA.2 i x hx) (fun i x hi hx => by have := qa_lt hx; omega)
theorem qx_add2 {post : SX → Prop} {r s : Nat} {W V : List Nat} (hr : r < 66) (hs : s < 66) (hne : s ≠ r) (hW : ∀ x, x ∈ W → x < 4160) (hV : ∀ x, x ∈ V → x < 4160) (hl : W.length + V.length < 64) (hAs : qy_At xcx xsz s V)
    (hP : ∀ (cx' sz' : Nat → Int32) (W' : List Nat), W'.Pairwise (· ≤ ·) → W'.Perm (W ++ V) → qy_At cx' sz' r W' → qx_out r xcx xsz cx' sz' → post (xnl, xjl, xnc, xop, xnd, xwc, xct, xtc, xec, xsr, xar, xtk, xdp, xau, xwt, xsj, xpr, xpn, xsc, xty, xmk, xcd, xai, xts, xtz, xen, cx', sz')) :
    ∀ n i cx sz Wi, V.length - i < n → i ≤ V.length → Wi.Pairwise (· ≤ ·) → Wi.Perm (W ++ V.take i) → qy_At cx sz r Wi → qx_out r xcx xsz cx sz → wX_addContext_2 post (nI r) (nI s) n (nI i) xnl xjl xnc xop xnd xwc xct xtc xec xsr xar xtk xdp xau xwt xsj xpr xpn xsc xty xmk xcd xai xts xtz xen cx sz := by
  intro n
  induction n with
  | zero => intro i cx sz Wi h; omega
  | succ n ih =>
    intro i cx sz Wi g1 g2 g3 g4 g5 g6
    have hA' := qx_out_at g6 hne (by omega) hAs
    rw [wX_addContext_2]
    dsimp only
    rw [nI_clamp (show s < 2 ^ 31 by omega), hA'.1]
    refine ⟨vp_in_nI hs (by omega), pk_le V.length i (fun h => ?_) (fun h => ?_) rfl rfl (by omega) (by omega)⟩
    · refine hP cx sz Wi g3 ?_ g5 g6
      rw [List.take_of_length_le h] at g4; exact g4
    · obtain ⟨x, hx⟩ := qa_get (L := V) (i := i) h
      rw [qw_m64, nI_add, nI_clamp (show s * 64 + i < 2 ^ 31 by omega), hA'.2 i x hx]
      have lW : Wi.length = W.length + i := by rw [g4.length_eq, List.length_append, List.length_take]; omega
      refine ⟨vp_in_nI (by omega) (by omega), qx_ins hr g3 (by omega) (fun y hy => ?_) (hV x (qa_mem hx)) g5 fun cx' sz' W' a1 a2 a3 a4 => ?_⟩
      · rcases List.mem_append.mp (g4.mem_iff.mp hy) with z | z
        · exact hW y z
        · exact hV y (List.mem_of_mem_take z)
      · dsimp only
        refine nm_r (nI_1 i) (ih (i + 1) cx' sz' W' (by omega) (by omega) a1 ?_ a3 (qx_out_tr g6 a4))
        refine a2.trans ((List.Perm.cons x g4).trans ?_)
        rw [List.take_succ, hx]
        show (x :: (W ++ V.take i)).Perm (W ++ (V.take i ++ [x]))
        rw [← List.append_assoc]
        exact (List.perm_append_singleton x _).symm
theorem qx_add {post : SX → Prop} {r s : Nat} {W V : List Nat} (hr : r < 66) (hs : s < 66) (hne : s ≠ r) (hWs : W.Pairwise (· ≤ ·)) (hW : ∀ x, x ∈ W → x < 4160) (hV : ∀ x, x ∈ V → x < 4160) (hl : W.length + V.length < 64) (hAr : qy_At xcx xsz r W) (hAs : qy_At xcx xsz s V)
    (hP : ∀ (cx' sz' : Nat → Int32) (W' : List Nat), W'.Pairwise (· ≤ ·) → W'.Perm (W ++ V) → qy_At cx' sz' r W' → qx_out r xcx xsz cx' sz' → post (xnl, xjl, xnc, xop, xnd, xwc, xct, xtc, xec, xsr, xar, xtk, xdp, xau, xwt, xsj, xpr, xpn, xsc, xty, xmk, xcd, xai, xts, xtz, xen, cx', sz')) : wpX_addContext post (xnl, xjl, xnc, xop, xnd, xwc, xct, xtc, xec, xsr, xar, xtk, xdp, xau, xwt, xsj, xpr, xpn, xsc, xty, xmk, xcd, xai, xts, xtz, xen, xcx, xsz) (nI r) (nI s) := by
  unfold wpX_addContext
  dsimp only
  exact ⟨V.length + 1, qx_add2 hr hs hne hW hV hl hAs hP (V.length + 1) 0 xcx xsz W (by omega) (by omega) hWs (by rw [List.take_zero, List.append_nil]) hAr qx_out_rf⟩
theorem qx_live {post : Int32 → Prop} {p : Nat} {k : Int32} {b : Bool} (hp : p < 64) (h : (xpr p = k ∧ xmk p = 0) ↔ b = true) (hP : post (qw_01 b)) : wpX_isLivePremise post (xnl, xjl, xnc, xop, xnd, xwc, xct, xtc, xec, xsr, xar, xtk, xdp, xau, xwt, xsj, xpr, xpn, xsc, xty, xmk, xcd, xai, xts, xtz, xen, xcx, xsz) (nI p) k := by
  unfold wpX_isLivePremise
  dsimp only
  rw [nI_clamp (show p < 2 ^ 31 by omega)]
  have hv : vp_in (nI p) 64 := vp_in_nI hp (by omega)
  have no : ¬ (xpr p = k ∧ xmk p = 0) → post 0 := fun c => by
    have : b = false := by cases b with
      | false => rfl
      | true => exact absurd (h.mpr rfl) c
    rw [this] at hP; exact hP
  refine ⟨hv, br_c (fun a => ⟨hv, br_c (fun b' => ?_) (fun b' => no fun c => b' c.2)⟩) (fun a => no fun c => a c.1)⟩
  rw [h.mp ⟨a, b'⟩] at hP; exact hP
theorem qx_flm {lv : Nat → Bool} {Wf : Nat → List Nat} {p m : Nat} (h : p ≤ m) : ((qa_fl lv p).flatMap Wf).length ≤ ((qa_fl lv m).flatMap Wf).length := by
  induction m with
  | zero => have : p = 0 := by omega
            subst this; exact Nat.le_refl _
  | succ m ih =>
    by_cases e : p = m + 1
    · subst e; exact Nat.le_refl _
    · refine Nat.le_trans (ih (by omega)) ?_
      rw [qa_fl_s, List.flatMap_append, List.length_append]; omega
theorem qx_sum11 {post : SX → Prop} {r k m : Nat} {lv : Nat → Bool} {Wf : Nat → List Nat} (hr : r < 66) (hm : m ≤ 64) (hct : xct = nI m) (hlv : ∀ p, p < m → ((xpr p = nI k ∧ xmk p = 0) ↔ lv p = true))
    (hrow : ∀ p, k < p → p < m → lv p = true → p ≠ r ∧ qy_At xcx xsz p (Wf p) ∧ ∀ x, x ∈ Wf p → x < 4160) (hl : ((qa_fl lv m).flatMap Wf).length < 64)
    (hP : ∀ (cx' sz' : Nat → Int32) (W' : List Nat), W'.Pairwise (· ≤ ·) → W'.Perm ((qa_fl lv m).flatMap Wf) → qy_At cx' sz' r W' → qx_out r xcx xsz cx' sz' → post (xnl, xjl, xnc, xop, xnd, xwc, xct, xtc, xec, xsr, xar, xtk, xdp, xau, xwt, xsj, xpr, xpn, xsc, xty, xmk, xcd, xai, xts, xtz, xen, cx', sz')) :
    ∀ n p cx sz W, m - p < n → k < p → p ≤ m → W.Pairwise (· ≤ ·) → W.Perm ((qa_fl lv p).flatMap Wf) → (∀ x, x ∈ W → x < 4160) → qy_At cx sz r W → qx_out r xcx xsz cx sz → wX_sumContexts_11 post (nI r) (nI k) n (nI p) xnl xjl xnc xop xnd xwc xct xtc xec xsr xar xtk xdp xau xwt xsj xpr xpn xsc xty xmk xcd xai xts xtz xen cx sz := by
  intro n
  induction n with
  | zero => intro p cx sz W h; omega
  | succ n ih =>
    intro p cx sz W g1 g0 g2 g3 g4 g5 g6 g7
    rw [wX_sumContexts_11]
    refine pk_le m p (fun h => ?_) (fun h => ?_) hct rfl (by omega) (by omega)
    · have e : p = m := by omega
      subst e
      exact hP cx sz W g3 g4 g6 g7
    · refine qx_live (b := lv p) (by omega) (hlv p h) ?_
      by_cases hb : lv p = true
      · rw [hb]
        obtain ⟨r1, r2, r3⟩ := hrow p g0 h hb
        have hfl : qa_fl lv (p + 1) = qa_fl lv p ++ [p] := by rw [qa_fl_s, if_pos hb]
        have hlen : W.length + (Wf p).length < 64 := by
          have := qx_flm (lv := lv) (Wf := Wf) (p := p + 1) (m := m) (by omega)
          rw [hfl, List.flatMap_append, List.length_append, List.flatMap_singleton] at this
          rw [g4.length_eq]; omega
        refine br_f (by decide) (qx_add hr (by omega) r1 g3 g5 r3 hlen g6 (qx_out_at g7 r1 (by omega) r2) fun cx' sz' W' a1 a2 a3 a4 => ?_)
        dsimp only
        refine nm_r (nI_1 p) (ih (p + 1) cx' sz' W' (by omega) (by omega) (by omega) a1 ?_ ?_ a3 (qx_out_tr g7 a4))
        · rw [hfl, List.flatMap_append, List.flatMap_singleton]
          exact a2.trans (List.Perm.append_right _ g4)
        · intro x hx
          rcases List.mem_append.mp (a2.mem_iff.mp hx) with z | z
          · exact g5 x z
          · exact r3 x z
      · have hf : lv p = false := by simpa using hb
        rw [hf]
        have hfl : qa_fl lv (p + 1) = qa_fl lv p := by rw [qa_fl_s, if_neg hb, List.append_nil]
        refine br_t rfl (nm_r (nI_1 p) (ih (p + 1) cx sz W (by omega) (by omega) (by omega) g3 ?_ g5 g6 g7))
        rw [hfl]; exact g4
theorem qx_sum {post : SX → Prop} {r k m : Nat} {lv : Nat → Bool} {Wf : Nat → List Nat} (hr : r < 66) (hm : m ≤ 64) (hk : k < m) (hct : xct = nI m) (hlv : ∀ p, p < m → ((xpr p = nI k ∧ xmk p = 0) ↔ lv p = true)) (hlo : ∀ p, p < m → lv p = true → k < p)
    (hrow : ∀ p, k < p → p < m → lv p = true → p ≠ r ∧ qy_At xcx xsz p (Wf p) ∧ ∀ x, x ∈ Wf p → x < 4160) (hl : ((qa_fl lv m).flatMap Wf).length < 64)
    (hP : ∀ (cx' sz' : Nat → Int32) (W' : List Nat), W'.Pairwise (· ≤ ·) → W'.Perm ((qa_fl lv m).flatMap Wf) → qy_At cx' sz' r W' → qx_out r xcx xsz cx' sz' → post (xnl, xjl, xnc, xop, xnd, xwc, xct, xtc, xec, xsr, xar, xtk, xdp, xau, xwt, xsj, xpr, xpn, xsc, xty, xmk, xcd, xai, xts, xtz, xen, cx', sz')) : wpX_sumContexts post (xnl, xjl, xnc, xop, xnd, xwc, xct, xtc, xec, xsr, xar, xtk, xdp, xau, xwt, xsj, xpr, xpn, xsc, xty, xmk, xcd, xai, xts, xtz, xen, xcx, xsz) (nI r) (nI k) := by
  unfold wpX_sumContexts
  dsimp only
  rw [nI_clamp (show r < 2 ^ 31 by omega), nI_1]
  refine ⟨vp_in_nI hr (by omega), nm_e (nm_e ⟨m + 1, ?_⟩)⟩
  have h0 : qa_fl lv (k + 1) = [] := by
    refine List.eq_nil_iff_forall_not_mem.mpr fun p hp => ?_
    obtain ⟨p1, p2⟩ := qa_fl_mem.mp hp
    have := hlo p (by omega) p2
    omega
  refine qx_sum11 (xsz := upd xsz r 0) hr hm hct hlv (fun p a b c => ?_) hl (fun cx' sz' W' a b c d => hP cx' sz' W' a b c (qx_out_tr qx_out_sz d)) (m + 1) (k + 1) xcx (upd xsz r 0) [] (by omega) (by omega) (by omega) List.Pairwise.nil ?_ (fun x hx => by simp at hx) ⟨qf_us, fun i x hx => by simp at hx⟩ qx_out_rf
  · obtain ⟨r1, r2, r3⟩ := hrow p a b c
    refine ⟨r1, ⟨by rw [qf_un r1]; exact r2.1, r2.2⟩, r3⟩
  · rw [h0]; exact List.Perm.refl _
theorem qx_bnd2 {post : Int32 → Prop} {r b : Nat} {W : List Nat} (hr : r < 66) (hl : W.length < 64) (hA : qy_At xcx xsz r W) (hx : ∀ x, x ∈ W → x < 4160) (hb : b ≤ W.length) (h1 : ∀ (i x : Nat), i < b → W[i]? = some x → x < 64) (h2 : ∀ x, W[b]? = some x → 64 ≤ x) (hP : post (nI b)) : ∀ n i, b - i < n → i ≤ b → wX_boundUses_2 post (nI r) xnl xjl xnc xop xnd xwc xct xtc xec xsr xar xtk xdp xau xwt xsj xpr xpn xsc xty xmk xcd xai xts xtz xen xcx xsz n (nI i) := by
  intro n
  induction n with
  | zero => intro i h; omega
  | succ n ih =>
    intro i g1 g2
    rw [wX_boundUses_2]
    rw [nI_clamp (show r < 2 ^ 31 by omega), hA.1]
    refine ⟨vp_in_nI hr (by omega), pk_le W.length i (fun h => ?_) (fun h => ?_) rfl rfl (by omega) (by omega)⟩
    · have e : i = b := by omega
      subst e; exact hP
    · obtain ⟨x, ex⟩ := qa_get (L := W) (i := i) h
      have hxx := hx x (qa_mem ex)
      rw [qw_m64, nI_add, nI_clamp (show r * 64 + i < 2 ^ 31 by omega), hA.2 i x ex]
      refine ⟨vp_in_nI (by omega) (by omega), pk_le 64 x (fun c => ?_) (fun c => ?_) rfl rfl (by omega) (by omega)⟩
      · have e : i = b := by
          rcases Nat.lt_or_ge i b with z | z
          · have := h1 i x z ex; omega
          · omega
        subst e; exact hP
      · have e : i ≠ b := fun e => by
          subst e
          have := h2 x ex; omega
        exact nm_r (nI_1 i) (ih (i + 1) (by omega) (by omega))
theorem qx_bnd {post : Int32 → Prop} {r b : Nat} {W : List Nat} (hr : r < 66) (hl : W.length < 64) (hA : qy_At xcx xsz r W) (hx : ∀ x, x ∈ W → x < 4160) (hb : b ≤ W.length) (h1 : ∀ (i x : Nat), i < b → W[i]? = some x → x < 64) (h2 : ∀ x, W[b]? = some x → 64 ≤ x) (hP : post (nI b)) : wpX_boundUses post (xnl, xjl, xnc, xop, xnd, xwc, xct, xtc, xec, xsr, xar, xtk, xdp, xau, xwt, xsj, xpr, xpn, xsc, xty, xmk, xcd, xai, xts, xtz, xen, xcx, xsz) (nI r) := by
  unfold wpX_boundUses
  dsimp only
  exact ⟨b + 1, qx_bnd2 hr hl hA hx hb h1 h2 hP (b + 1) 0 (by omega) (by omega)⟩
/-- the domain of t is D; the row's first codes are V -/
theorem qx_sd15 {post : Int32 → Prop} {t r st : Nat} {D V : List Nat} (ht : t < 64) (hr : r < 66) (hst : xts t = nI st) (hb : st + D.length ≤ 64) (hD : ∀ (c x : Nat), D[c]? = some x → xen (st + c) = nI x ∧ x < 64) (hV : ∀ (c x : Nat), V[c]? = some x → xcx (r * 64 + c) = nI x ∧ x < 4160) (hl : D.length = V.length) (hP1 : D = V → post 1) (hP0 : D ≠ V → post 0) :
    ∀ n i, V.length - i < n → i ≤ V.length → (∀ (c x y : Nat), c < i → D[c]? = some x → V[c]? = some y → x = y) → wX_sameDomain_15 post (nI t) (nI r) (nI V.length) xnl xjl xnc xop xnd xwc xct xtc xec xsr xar xtk xdp xau xwt xsj xpr xpn xsc xty xmk xcd xai xts xtz xen xcx xsz n (nI i) := by
  intro n
  induction n with
  | zero => intro i h; omega
  | succ n ih =>
    intro i g1 g2 g3
    rw [wX_sameDomain_15]
    refine pk_le V.length i (fun h => ?_) (fun h => ?_) rfl rfl (by omega) (by omega)
    · exact hP1 (qa_ext hl fun c x y hx hy => g3 c x y (by have := qa_lt hy; omega) hx hy)
    · obtain ⟨x, ex⟩ := qa_get (L := D) (i := i) (by omega)
      obtain ⟨y, ey⟩ := qa_get (L := V) (i := i) h
      obtain ⟨x1, x2⟩ := hD i x ex
      obtain ⟨y1, y2⟩ := hV i y ey
      rw [nI_clamp (show t < 2 ^ 31 by omega), hst, qw_m64, nI_add, nI_add, nI_clamp (show st + i < 2 ^ 31 by omega), nI_clamp (show r * 64 + i < 2 ^ 31 by omega), x1, y1]
      refine ⟨vp_in_nI ht (by omega), vp_in_nI (by omega) (by omega), vp_in_nI (by omega) (by omega), pk_eq x y (fun e => ?_) (fun e => ?_) rfl rfl (by omega) (by omega)⟩
      · refine nm_r (nI_1 i) (ih (i + 1) (by omega) (by omega) fun c x' y' hc hx' hy' => ?_)
        by_cases ec : c = i
        · subst ec
          rw [ex] at hx'; rw [ey] at hy'
          injection hx' with hx'; injection hy' with hy'
          omega
        · exact g3 c x' y' (by omega) hx' hy'
      · refine hP0 fun c => e ?_
        rw [c, ey] at ex; injection ex with ex; exact ex.symm
theorem qx_sd {post : Int32 → Prop} {t r st : Nat} {D V : List Nat} (ht : t < 64) (hr : r < 66) (hsz : xtz t = nI D.length) (hst : xts t = nI st) (hb : st + D.length ≤ 64) (hD : ∀ (c x : Nat), D[c]? = some x → xen (st + c) = nI x ∧ x < 64) (hVl : V.length < 64) (hV : ∀ (c x : Nat), V[c]? = some x → xcx (r * 64 + c) = nI x ∧ x < 4160) (hP1 : D = V → post 1) (hP0 : D ≠ V → post 0) : wpX_sameDomain post (xnl, xjl, xnc, xop, xnd, xwc, xct, xtc, xec, xsr, xar, xtk, xdp, xau, xwt, xsj, xpr, xpn, xsc, xty, xmk, xcd, xai, xts, xtz, xen, xcx, xsz) (nI t) (nI r) (nI V.length) := by
  unfold wpX_sameDomain
  dsimp only
  rw [nI_clamp (show t < 2 ^ 31 by omega), hsz]
  refine ⟨vp_in_nI ht (by omega), pk_eq D.length V.length (fun e => ?_) (fun e => ?_) rfl rfl (by omega) (by omega)⟩
  · exact ⟨V.length + 1, qx_sd15 ht hr hst hb hD hV e hP1 hP0 (V.length + 1) 0 (by omega) (by omega) (fun c x y hc => by omega)⟩
  · exact hP0 fun c => e (by rw [c])
end
end
section
/-! ===== the component: sharing a type ===== -/
def qy_Arr (tc ec : Nat) (cod st : Nat → Nat) (dom : Nat → List Nat) (cd ai ts tz en : Nat → Int32) : Prop :=
  ai 0 = 0 ∧ ∀ t, 0 < t → t < tc → cd t = nI (cod t) ∧ ai t = ai (cod t) + 1 ∧ ts t = nI (st t) ∧ tz t = nI (dom t).length ∧ st t + (dom t).length ≤ ec ∧ ∀ (c x : Nat), (dom t)[c]? = some x → en (st t + c) = nI x ∧ x < 64
/-- an older table inside a newer one -/
def qy_Ext (tc tc' : Nat) (cod cod' : Nat → Nat) (dom dom' : Nat → List Nat) : Prop := tc ≤ tc' ∧ ∀ t, 0 < t → t < tc → cod' t = cod t ∧ dom' t = dom t
section
variable {xnl xjl xnc xop xnd xwc xct xtc xec xsr xar : Int32} {xtk xdp xau xwt xsj xpr xpn xsc xty xmk xcd xai xts xtz xen xcx xsz : Nat → Int32}
theorem qx_sh104 {post : Int32 → SX → Prop} {r ec : Nat} {x4 : Int32} {V : List Nat} (hr : r < 66) (he : ec + V.length ≤ 64) (hV : ∀ (c x : Nat), V[c]? = some x → xcx (r * 64 + c) = nI x)
    (hP : ∀ en : Nat → Int32, (∀ j, j < ec → en j = xen j) → (∀ (c x : Nat), V[c]? = some x → en (ec + c) = nI x) → post x4 (xnl, xjl, xnc, xop, xnd, xwc, xct, xtc, (nI (ec + V.length)), xsr, xar, xtk, xdp, xau, xwt, xsj, xpr, xpn, xsc, xty, xmk, xcd, xai, xts, xtz, en, xcx, xsz)) :
    ∀ n i en, V.length - i < n → i ≤ V.length → (∀ j, j < ec → en j = xen j) → (∀ (c x : Nat), c < i → V[c]? = some x → en (ec + c) = nI x) → wX_shareType_104 post (nI r) (nI V.length) x4 xnl xjl xnc xop xnd xwc xct xtc (nI ec) xsr xar n (nI i) xtk xdp xau xwt xsj xpr xpn xsc xty xmk xcd xai xts xtz en xcx xsz := by
  intro n
  induction n with
  | zero => intro i en h; omega
  | succ n ih =>
    intro i en g1 g2 g3 g4
    rw [wX_shareType_104]
    refine pk_le V.length i (fun h => ?_) (fun h => ?_) rfl rfl (by omega) (by omega)
    · refine nm_r (nI_add _ _) (hP en g3 fun c x hx => g4 c x (by have := qa_lt hx; omega) hx)
    · obtain ⟨x, ex⟩ := qa_get (L := V) (i := i) h
      rw [qw_m64, nI_add, nI_add, nI_clamp (show r * 64 + i < 2 ^ 31 by omega), nI_clamp (show ec + i < 2 ^ 31 by omega), hV i x ex]
      refine ⟨vp_in_nI (by omega) (by omega), vp_in_nI (by omega) (by omega), nm_e (nm_r (nI_1 i) (ih (i + 1) _ (by omega) (by omega) ?_ ?_))⟩
      · intro j hj; rw [qf_un (by omega)]; exact g3 j hj
      · intro c y hc hy
        by_cases e : c = i
        · subst e
          rw [ex] at hy; injection hy with hy; subst hy
          exact qf_us
        · rw [qf_un (by omega)]; exact g4 c y (by omega) hy
theorem qx_sh3 {post : Int32 → SX → Prop} {r tc ec c : Nat} {cod st : Nat → Nat} {dom : Nat → List Nat} {V : List Nat} (hr : r < 66) (htc : tc < 64) (hc : c < tc) (he : ec + V.length ≤ 63) (hVs : V.Pairwise (· ≤ ·)) (hV : ∀ (i x : Nat), V[i]? = some x → xcx (r * 64 + i) = nI x ∧ x < 64)
    (Tb : qy_Tab tc cod dom) (Ar : qy_Arr tc ec cod st dom xcd xai xts xtz xen)
    (hP : ∀ (t tc' ec' : Nat) (cod' st' : Nat → Nat) (dom' : Nat → List Nat) (cd ai ts tz en : Nat → Int32), qy_Ext tc tc' cod cod' dom dom' → tc' ≤ tc + 1 → ec' ≤ ec + V.length → qy_Tab tc' cod' dom' → qy_Arr tc' ec' cod' st' dom' cd ai ts tz en → 0 < t → t < tc' → cod' t = c → dom' t = V → post (nI t) (xnl, xjl, xnc, xop, xnd, xwc, xct, (nI tc'), (nI ec'), xsr, xar, xtk, xdp, xau, xwt, xsj, xpr, xpn, xsc, xty, xmk, cd, ai, ts, tz, en, xcx, xsz)) :
    ∀ n t, tc - t < n → 0 < t → t ≤ tc → (∀ t', 0 < t' → t' < t → ¬ (cod t' = c ∧ dom t' = V)) → wX_shareType_3 post (nI r) (nI V.length) (nI c) xnl xjl xnc xop xnd xwc xct (nI tc) (nI ec) xsr xar xtk xdp xau xwt xsj xpr xpn xsc xty xmk xcd xai xts xtz xen xcx xsz n (nI t) := by
  have hT0 := Tb.1
  intro n
  induction n with
  | zero => intro t h; omega
  | succ n ih =>
    intro t g1 g0 g2 g3
    rw [wX_shareType_3]
    refine pk_le tc t (fun h => ?_) (fun h => ?_) rfl rfl (by omega) (by omega)
    · have e : t = tc := by omega
      subst e
      have hvt : vp_in (nI t) 64 := vp_in_nI (by omega) (by omega)
      rw [nI_clamp (show t < 2 ^ 31 by omega), nI_clamp (show c < 2 ^ 31 by omega)]
      refine nm_r (nI_1 t) ⟨hvt, nm_e ⟨vp_in_nI (by omega) (by omega), hvt, nm_e ⟨hvt, nm_e ⟨hvt, nm_e ⟨V.length + 1, ?_⟩⟩⟩⟩⟩
      refine qx_sh104 (xtc := nI (t + 1)) hr (by omega) (fun i x hx => (hV i x hx).1) (fun en e1 e2 => ?_) (V.length + 1) 0 xen (by omega) (by omega) (fun _ _ => rfl) (fun c x hc => by omega)
      refine hP t (t + 1) (ec + V.length) (fun j => if j = t then c else cod j) (fun j => if j = t then ec else st j) (fun j => if j = t then V else dom j) _ _ _ _ en ⟨by omega, fun j j0 j1 => ?_⟩ (Nat.le_refl _) (Nat.le_refl _) ⟨by omega, fun j j0 j1 => ?_, fun j j' j0 j1 j0' j1' => ?_⟩ ⟨?_, fun j j0 j1 => ?_⟩ g0 (by omega) (if_pos rfl) (if_pos rfl)
      · exact ⟨if_neg (by omega), if_neg (by omega)⟩
      · by_cases e : j = t
        · dsimp only
          rw [if_pos e, if_pos e]; exact ⟨by omega, hVs⟩
        · dsimp only
          rw [if_neg e, if_neg e]
          have := Tb.2.1 j j0 (by omega)
          exact ⟨by omega, this.2⟩
      · dsimp only
        by_cases e : j = t
        · by_cases e' : j' = t
          · intro _ _; omega
          · rw [if_pos e, if_pos e, if_neg e', if_neg e']
            intro a b; exact absurd ⟨a.symm, b.symm⟩ (g3 j' j0' (by omega))
        · by_cases e' : j' = t
          · rw [if_neg e, if_neg e, if_pos e', if_pos e']
            intro a b; exact absurd ⟨a, b⟩ (g3 j j0 (by omega))
          · rw [if_neg e, if_neg e, if_neg e', if_neg e']
            exact Tb.2.2 j j' j0 (by omega) j0' (by omega)
      · rw [qf_un (by omega)]; exact Ar.1
      · dsimp only
        by_cases e : j = t
        · subst e
          rw [if_pos rfl, if_pos rfl, if_pos rfl, qf_us, qf_us, qf_us, qf_us]
          refine ⟨rfl, ?_, rfl, rfl, Nat.le_refl _, fun i x hx => ⟨e2 i x hx, (hV i x hx).2⟩⟩
          rw [qf_un (by omega)]
        · obtain ⟨b1, b2, b3, b4, b5, b6⟩ := Ar.2 j j0 (by omega)
          have hcj := (Tb.2.1 j j0 (by omega)).1
          rw [if_neg e, if_neg e, if_neg e, qf_un e, qf_un e, qf_un e, qf_un e, qf_un (by omega)]
          refine ⟨b1, b2, b3, b4, by omega, fun i x hx => ?_⟩
          have := qa_lt hx
          rw [e1 _ (by omega)]; exact b6 i x hx
    · obtain ⟨b1, b2, b3, b4, b5, b6⟩ := Ar.2 t g0 h
      have hct := (Tb.2.1 t g0 h).1
      have nx : ¬ (cod t = c ∧ dom t = V) → wX_shareType_3 post (nI r) (nI V.length) (nI c) xnl xjl xnc xop xnd xwc xct (nI tc) (nI ec) xsr xar xtk xdp xau xwt xsj xpr xpn xsc xty xmk xcd xai xts xtz xen xcx xsz n (nI (t + 1)) := fun hn => ih (t + 1) (by omega) (by omega) (by omega) fun t' h1 h2 => by
        by_cases e : t' = t
        · subst e; exact hn
        · exact g3 t' h1 (by omega)
      rw [nI_clamp (show t < 2 ^ 31 by omega), b1]
      refine ⟨vp_in_nI (by omega) (by omega), pk_eq (cod t) c (fun e => ?_) (fun e => ?_) rfl rfl (by omega) (by omega)⟩
      · refine qx_sd (by omega) hr b4 b3 (by omega) b6 (by omega) (fun i x hx => ⟨(hV i x hx).1, by have := (hV i x hx).2; omega⟩) (fun eq => ?_) (fun ne => ?_)
        · exact br_f (by decide) (hP t tc ec cod st dom _ _ _ _ _ ⟨Nat.le_refl _, fun _ _ _ => ⟨rfl, rfl⟩⟩ (by omega) (by omega) Tb Ar g0 h e eq)
        · exact br_t rfl (nm_r (nI_1 t) (nx fun z => ne z.2))
      · exact nm_r (nI_1 t) (nx fun z => e z.1)
theorem qx_sh {post : Int32 → SX → Prop} {r tc ec c : Nat} {cod st : Nat → Nat} {dom : Nat → List Nat} {V : List Nat} (hr : r < 66) (htc : tc < 64) (hc : c < tc) (he : ec + V.length ≤ 63) (hVs : V.Pairwise (· ≤ ·)) (hV : ∀ (i x : Nat), V[i]? = some x → xcx (r * 64 + i) = nI x ∧ x < 64)
    (Tb : qy_Tab tc cod dom) (Ar : qy_Arr tc ec cod st dom xcd xai xts xtz xen)
    (hP : ∀ (t tc' ec' : Nat) (cod' st' : Nat → Nat) (dom' : Nat → List Nat) (cd ai ts tz en : Nat → Int32), qy_Ext tc tc' cod cod' dom dom' → tc' ≤ tc + 1 → ec' ≤ ec + V.length → qy_Tab tc' cod' dom' → qy_Arr tc' ec' cod' st' dom' cd ai ts tz en → 0 < t → t < tc' → cod' t = c → dom' t = V → post (nI t) (xnl, xjl, xnc, xop, xnd, xwc, xct, (nI tc'), (nI ec'), xsr, xar, xtk, xdp, xau, xwt, xsj, xpr, xpn, xsc, xty, xmk, cd, ai, ts, tz, en, xcx, xsz)) : wpX_shareType post (xnl, xjl, xnc, xop, xnd, xwc, xct, (nI tc), (nI ec), xsr, xar, xtk, xdp, xau, xwt, xsj, xpr, xpn, xsc, xty, xmk, xcd, xai, xts, xtz, xen, xcx, xsz) (nI r) (nI V.length) (nI c) := by
  unfold wpX_shareType
  dsimp only
  exact ⟨tc + 1, qx_sh3 hr htc hc he hVs hV Tb Ar hP (tc + 1) 1 (by have := Tb.1; omega) (by omega) (by have := Tb.1; omega) (fun t' h1 h2 => by omega)⟩
theorem qx_da48 {post : SX → Prop} {k b : Nat} {V : List Nat} (hk : k + 1 < 64) (hbV : b + V.length < 64) (hsz : xsz k = nI V.length) (hV : ∀ (c x : Nat), V[c]? = some x → xcx ((k + 1) * 64 + b + c) = nI x ∧ 64 ≤ x ∧ x < 4160)
    (hP : ∀ cx : Nat → Int32, (∀ j, (j < k * 64 ∨ k * 64 + 64 ≤ j) → cx j = xcx j) → (∀ (c x : Nat), V[c]? = some x → cx (k * 64 + c) = nI (x - 64)) → post (xnl, xjl, xnc, xop, xnd, xwc, xct, xtc, xec, xsr, xar, xtk, xdp, xau, xwt, xsj, xpr, xpn, xsc, xty, xmk, xcd, xai, xts, xtz, xen, cx, xsz)) :
    ∀ n i cx, V.length - i < n → i ≤ V.length → (∀ j, (j < k * 64 ∨ k * 64 + 64 ≤ j) → cx j = xcx j) → (∀ (c x : Nat), c < i → V[c]? = some x → cx (k * 64 + c) = nI (x - 64)) → wX_deriveAbstraction_48 post (nI k) (nI b) xnl xjl xnc xop xnd xwc xct xtc xec xsr xar n (nI i) xtk xdp xau xwt xsj xpr xpn xsc xty xmk xcd xai xts xtz xen cx xsz := by
  intro n
  induction n with
  | zero => intro i cx h; omega
  | succ n ih =>
    intro i cx g1 g2 g3 g4
    rw [wX_deriveAbstraction_48]
    dsimp only
    rw [nI_clamp (show k < 2 ^ 31 by omega), hsz]
    refine ⟨vp_in_nI (by omega) (by omega), pk_le V.length i (fun h => ?_) (fun h => ?_) rfl rfl (by omega) (by omega)⟩
    · exact hP cx g3 fun c x hx => g4 c x (by have := qa_lt hx; omega) hx
    · obtain ⟨x, ex⟩ := qa_get (L := V) (i := i) h
      obtain ⟨x1, x2, x3⟩ := hV i x ex
      simp only [nI_1, qw_m64, nI_add]
      rw [nI_clamp (show (k + 1) * 64 + b + i < 2 ^ 31 by omega), nI_clamp (show k * 64 + i < 2 ^ 31 by omega), g3 _ (by omega), x1, show nI x - 64 = nI (x - 64) from pk_sub (a := x) (b := 64) x2]
      refine ⟨vp_in_nI (by omega) (by omega), vp_in_nI (by omega) (by omega), nm_e (nm_e (ih (i + 1) _ (by omega) (by omega) ?_ ?_))⟩
      · intro j hj; rw [qf_un (by omega)]; exact g3 j hj
      · intro c y hc hy
        by_cases e : c = i
        · subst e
          rw [ex] at hy; injection hy with hy; subst hy
          exact qf_us
        · rw [qf_un (by omega)]; exact g4 c y (by omega) hy
end
end
section
/-! ===== the component: types and contexts from the last judgement back ===== -/
def qx_D (m : Nat) (kd R : Nat → Nat) (P C : Nat → List Nat) (k tc ec : Nat) (cod st ty : Nat → Nat) (dom W : Nat → List Nat) (ta cd ai ts tz en cx sz : Nat → Int32) : Prop :=
  qy_Tab tc cod dom ∧ qy_Arr tc ec cod st dom cd ai ts tz en ∧ (tc ≤ 1 ∨ tc + k ≤ m) ∧ ec ≤ qa_cn (fun v => decide (2 ≤ kd v) && decide (k ≤ qm_cl kd C v)) m ∧ qy_J m kd R P C k tc cod dom ty W ta cx sz
/-- what the arrays of the machine say, by kinds -/
def qx_K (m : Nat) (kd S R : Nat → Nat) (P : Nat → List Nat) (tk sj pr pn : Nat → Int32) : Prop :=
  (∀ k, k < m → S k < 32 ∧ sj k = nI (S k) ∧ pn k = qx_h (P k) ∧ ((kd k = 0 ∧ tk (S k) = -2) ∨ (kd k = 1 ∧ tk (S k) = -1) ∨ (∃ i, i < 32 ∧ kd k = i + 2 ∧ tk (S k) = nI i))) ∧
  ∀ p k, p < m → k < 64 → (pr p = nI k ↔ R p = k)
section
variable {m : Nat} {au kd S R : Nat → Nat} {P C : Nat → List Nat}
theorem qx_tc {k tc ec : Nat} {cod st ty : Nat → Nat} {dom W : Nat → List Nat} {ta cd ai ts tz en cx sz : Nat → Int32} (E : qm_en m kd P) (D : qx_D m kd R P C k tc ec cod st ty dom W ta cd ai ts tz en cx sz) : tc ≤ 64 := by
  have := D.2.2.1; have := E.2.1; omega
theorem qx_tyb {k tc ec : Nat} {cod st ty : Nat → Nat} {dom W : Nat → List Nat} {ta cd ai ts tz en cx sz : Nat → Int32} (E : qm_en m kd P) (D : qx_D m kd R P C k tc ec cod st ty dom W ta cd ai ts tz en cx sz) {j : Nat} (h1 : k ≤ j) : ∀ v, v ∈ qc_U m kd R C j → ty v < 64 := by
  intro v hv
  obtain ⟨a1, _, a3, _⟩ := qc_U_mem.mp hv
  have := qm_rc_ge a3
  have := (D.2.2.2.2 v (by omega) a1).2.1
  have := qx_tc E D
  omega
theorem qx_rowb (T : qm_TR m au kd S P C R) (E : qm_en m kd P) {k tc ec : Nat} {cod st ty : Nat → Nat} {dom W : Nat → List Nat} {ta cd ai ts tz en cx sz : Nat → Int32} (D : qx_D m kd R P C k tc ec cod st ty dom W ta cd ai ts tz en cx sz) {j : Nat} (h1 : k ≤ j) (h2 : j < m) : (∀ x, x ∈ W j → x < 4160) ∧ (W j).length < m := by
  obtain ⟨_, _, _, g4, _⟩ := D.2.2.2.2 j h1 h2
  exact ⟨qc_small T h2 E.2.1 g4 (qx_tyb E D h1), qc_len E g4⟩
variable {xnl xjl xnc xop xnd xwc xct xtc xec xsr xar : Int32} {xtk xdp xau xwt xsj xpr xpn xsc xty xmk xcd xai xts xtz xen xcx xsz : Nat → Int32}
theorem qx_da {post : SX → Prop} (T : qm_TR m au kd S P C R) (E : qm_en m kd P) {k tc ec : Nat} {cod st ty : Nat → Nat} {dom W : Nat → List Nat} (hk : k + 1 < m) (h1 : kd k = 1) (D : qx_D m kd R P C (k + 1) tc ec cod st ty dom W xty xcd xai xts xtz xen xcx xsz)
    (hP : ∀ (tc' ec' : Nat) (cod' st' ty' : Nat → Nat) (dom' W' : Nat → List Nat) (ta cd ai ts tz en cx sz : Nat → Int32), qx_D m kd R P C k tc' ec' cod' st' ty' dom' W' ta cd ai ts tz en cx sz → post (xnl, xjl, xnc, xop, xnd, xwc, xct, (nI tc'), (nI ec'), xsr, xar, xtk, xdp, xau, xwt, xsj, xpr, xpn, xsc, ta, xmk, cd, ai, ts, tz, en, cx, sz)) :
    wpX_deriveAbstraction post (xnl, xjl, xnc, xop, xnd, xwc, xct, (nI tc), (nI ec), xsr, xar, xtk, xdp, xau, xwt, xsj, xpr, xpn, xsc, xty, xmk, xcd, xai, xts, xtz, xen, xcx, xsz) (nI k) := by
  have hm := E.2.1
  obtain ⟨rb1, rb2⟩ := qx_rowb T E D (Nat.le_refl (k + 1)) hk
  have hD := D
  obtain ⟨Tb, Ar, htc, hec, J⟩ := hD
  obtain ⟨j1, j2, j3, j4, j5⟩ := J (k + 1) (Nat.le_refl _) hk
  obtain ⟨n, n1, n2, n3, n4, n5⟩ := qa_tw (b := 64) j4.1
  obtain ⟨q1, q2⟩ := qc_lam_row T E hk h1 (qx_tyb E D (Nat.le_refl _)) j4 n4 n5
  have lV : ((W (k + 1)).take n).length = n := by rw [List.length_take]; omega
  have lB : n = qa_cn (fun v => decide (2 ≤ kd v) && decide (qm_cl kd C v = k)) m := by
    have := q1.length_eq
    rw [lV, List.length_map, qc_B, qa_fl_len] at this; exact this
  have hsum : ec + n ≤ qa_cn (fun v => decide (2 ≤ kd v) && decide (k ≤ qm_cl kd C v)) m := by
    have := qa_cn_add (p := fun v => decide (2 ≤ kd v) && decide (k + 1 ≤ qm_cl kd C v)) (q := fun v => decide (2 ≤ kd v) && decide (qm_cl kd C v = k)) (r := fun v => decide (2 ≤ kd v) && decide (k ≤ qm_cl kd C v)) (n := m) (fun v _ => by
      simp only [Bool.and_eq_true, decide_eq_true_eq, Bool.and_eq_false_iff, decide_eq_false_iff_not]
      omega)
    omega
  have hlast : qa_cn (fun v => decide (2 ≤ kd v) && decide (k ≤ qm_cl kd C v)) m < m := qa_cn_lt (k := m - 1) (by omega) (by rw [E.2.2.1]; rfl)
  have htc64 : tc < 64 := by omega
  unfold wpX_deriveAbstraction
  dsimp only
  rw [nI_1 k, nI_clamp (show k + 1 < 2 ^ 31 by omega), j1]
  refine qx_bnd (by omega) (by omega) j5 rb1 n1 n2 n3 ⟨vp_in_nI (by omega) (by omega), ?_⟩
  have eqn : nI n = nI ((W (k + 1)).take n).length := by rw [lV]
  have getV : ∀ (i x : Nat), ((W (k + 1)).take n)[i]? = some x → (W (k + 1))[i]? = some x ∧ i < n := fun i x hx => by
    have hi := qa_lt hx
    rw [lV] at hi
    rw [List.getElem?_take_of_lt hi] at hx
    exact ⟨hx, hi⟩
  refine eqn ▸ qx_sh (V := (W (k + 1)).take n) (c := ty (k + 1)) (by omega) htc64 j2 (by omega) (j4.1.take) (fun i x hx => ?_) Tb Ar fun t tc' ec' cod' st' dom' cd ai ts tz en x1 x2 x3 x4 x5 x6 x7 x8 x9 => ?_
  · obtain ⟨a, b⟩ := getV i x hx
    exact ⟨j5.2 i x a, n2 i x b a⟩
  · dsimp only
    rw [← eqn]
    rw [nI_clamp (show k < 2 ^ 31 by omega), j5.1, pk_sub n1]
    have lD : ((W (k + 1)).drop n).length = (W (k + 1)).length - n := List.length_drop
    refine ⟨vp_in_nI (by omega) (by omega), nm_e ⟨vp_in_nI (by omega) (by omega), vp_in_nI (by omega) (by omega), nm_e ⟨(W (k + 1)).length + 1, ?_⟩⟩⟩
    refine qx_da48 (V := (W (k + 1)).drop n) (by omega) (by omega) (by rw [qf_us, lD]) (fun c x hx => ?_) (fun cx c1 c2 => ?_) _ 0 xcx (by omega) (by omega) (fun _ _ => rfl) (fun c x hc => by omega)
    · have hx' := hx
      rw [List.getElem?_drop] at hx'
      have hmem := qa_mem hx
      rw [n5, List.mem_filter] at hmem
      refine ⟨by rw [Nat.add_assoc]; exact j5.2 _ x hx', of_decide_eq_true hmem.2, rb1 x hmem.1⟩
    · have hUk : ∀ v, v ∈ qc_U m kd R C k → v ≠ k := fun v hv e => by
        have := (qc_U_mem.mp hv).2.1
        rw [e] at this; omega
      refine hP tc' ec' cod' st' (fun j => if j = k then t else ty j) dom' (fun j => if j = k then ((W (k + 1)).drop n).map (fun x => x - 64) else W j) _ _ _ _ _ _ _ _ ⟨x4, x5, by omega, by omega, ?_⟩
      rw [lV] at x3
      refine qy_push T E (t := t) (Wk := ((W (k + 1)).drop n).map (fun x => x - 64)) (by omega) J x1.1 x1.2 x7 ?_ (qc_Row_congr (fun v hv => if_neg (hUk v hv)) q2) ⟨?_, fun i x hx => ?_⟩ (fun j a b hA => ?_) qf_us (fun j a b => qf_un (by omega))
      · rw [(qm_lam T hk h1).1]
        refine ⟨x6, x7, ?_, ?_⟩
        · rw [x9]; exact q1.trans (qy_dom T E Tb hk h1 J)
        · rw [x8]; exact qy_mono x1.1 x1.2 (fun _ _ => rfl) j3
      · rw [qf_us, List.length_map, lD]
      · rw [List.getElem?_map] at hx
        obtain ⟨y, hy, e⟩ := Option.map_eq_some_iff.mp hx
        rw [← e]; exact c2 i y hy
      · refine ⟨by rw [qf_un (by omega)]; exact hA.1, fun i x hx => ?_⟩
        rw [c1 _ (by omega)]; exact hA.2 i x hx
theorem qx_dj {post : SX → Prop} (T : qm_TR m au kd S P C R) (E : qm_en m kd P) {k tc ec : Nat} {cod st ty : Nat → Nat} {dom W : Nat → List Nat} (hk : k < m) (K : qx_K m kd S R P xtk xsj xpr xpn) (hct : xct = nI m) (hmk : ∀ j, j < m → xmk j = 0) (D : qx_D m kd R P C (k + 1) tc ec cod st ty dom W xty xcd xai xts xtz xen xcx xsz)
    (hP : ∀ (tc' ec' : Nat) (cod' st' ty' : Nat → Nat) (dom' W' : Nat → List Nat) (ta cd ai ts tz en cx sz : Nat → Int32), qx_D m kd R P C k tc' ec' cod' st' ty' dom' W' ta cd ai ts tz en cx sz → post (xnl, xjl, xnc, xop, xnd, xwc, xct, (nI tc'), (nI ec'), xsr, xar, xtk, xdp, xau, xwt, xsj, xpr, xpn, xsc, ta, xmk, cd, ai, ts, tz, en, cx, sz)) :
    wpX_deriveJudgement post (xnl, xjl, xnc, xop, xnd, xwc, xct, (nI tc), (nI ec), xsr, xar, xtk, xdp, xau, xwt, xsj, xpr, xpn, xsc, xty, xmk, xcd, xai, xts, xtz, xen, xcx, xsz) (nI k) := by
  have hm := E.2.1
  obtain ⟨k1, k2, k3, k4⟩ := K.1 k hk
  have hPk : ∀ x, x ∈ P k → x < 64 := fun x hx => by have := ((qm_ab T k hk).1 x hx).1; omega
  have hv : vp_in (nI k) 64 := vp_in_nI (by omega) (by omega)
  have D0 : qx_D m kd R P C (k + 1) tc ec cod st ty dom W xty xcd xai xts xtz xen xcx (upd xsz k 0) := by
    obtain ⟨a, b, c, d, e⟩ := D
    refine ⟨a, b, c, d, fun j h1 h2 => ?_⟩
    obtain ⟨g1, g2, g3, g4, g5⟩ := e j h1 h2
    exact ⟨g1, g2, g3, g4, by rw [qf_un (by omega)]; exact g5.1, g5.2⟩
  have hmon : qa_cn (fun v => decide (2 ≤ kd v) && decide (k + 1 ≤ qm_cl kd C v)) m ≤ qa_cn (fun v => decide (2 ≤ kd v) && decide (k ≤ qm_cl kd C v)) m := by
    refine qa_cn_mono fun v _ => ?_
    simp only [Bool.and_eq_true, decide_eq_true_eq]
    omega
  unfold wpX_deriveJudgement
  dsimp only
  rw [nI_clamp (show k < 2 ^ 31 by omega), k2, nI_clamp (show S k < 2 ^ 31 by omega)]
  refine ⟨hv, vp_in_nI k1 (by omega), nm_e ⟨vp_in_nI (by omega) (by omega), nm_e ?_⟩⟩
  have ⟨Tb, Ar, htc, hec, J⟩ := D0
  refine qx_star (by omega) k2 k1 k3 hPk (fun ⟨c1, c2⟩ => ?_) (fun c => ?_)
  · -- the last judgement
    refine br_f (by decide) ⟨hv, nm_e ?_⟩
    have hkm : k = m - 1 := by
      have h1 : kd k = 1 := by
        rcases k4 with ⟨_, z⟩ | z | ⟨i, i1, _, z⟩
        · rw [c1] at z; exact absurd z (by decide)
        · exact z.1
        · rw [c1] at z; exact absurd z.symm (qf_nneg (by omega)).2.1
      by_cases e : k + 1 < m
      · have := (qm_lam T e h1).1; rw [c2] at this; exact absurd this (by simp)
      · omega
    refine hP tc ec cod st (fun j => if j = k then 0 else ty j) dom (fun j => if j = k then [] else W j) _ _ _ _ _ _ _ _ ⟨Tb, Ar, ?_, by omega, ?_⟩
    · rcases htc with z | z
      · exact Or.inl z
      · exact Or.inr (by omega)
    · refine qy_push T E (t := 0) (Wk := []) hk J (Nat.le_refl _) (fun _ _ _ => ⟨rfl, rfl⟩) Tb.1 ?_ (qc_star_row E hkm) ⟨qf_us, fun i x hx => by simp at hx⟩ (fun j a b hA => hA) qf_us (fun j a b => qf_un (by omega))
      rw [c2]; rfl
  · refine br_t rfl ?_
    rcases k4 with ⟨a1, a2⟩ | ⟨a1, a2⟩ | ⟨i, i1, a1, a2⟩
    · -- an application
      obtain ⟨p1, p2, p3, p4, p5⟩ := qm_app T E hk a1
      obtain ⟨j1, j2, j3, j4, j5⟩ := J (k + 1) (Nat.le_refl _) p1
      rw [p3] at j3
      obtain ⟨t1, t2, t3, t4⟩ := j3
      obtain ⟨b1, b2, b3, b4, b5, b6⟩ := Ar.2 _ t1 t2
      have hcod := (Tb.2.1 _ t1 t2).1
      have htc64 := qx_tc E D0
      rw [a2]
      refine br_f (by decide) (br_t rfl ?_)
      rw [nI_1 k, nI_clamp (show k + 1 < 2 ^ 31 by omega), j1, nI_clamp (show ty (k + 1) < 2 ^ 31 by omega), b1]
      refine ⟨vp_in_nI (by omega) (by omega), vp_in_nI (by omega) (by omega), hv, nm_e ?_⟩
      have hW : ∀ p, p ∈ qc_ch m R k → qc_Row m kd R C ty p (W p) := fun p hp => by
        obtain ⟨z1, z2⟩ := qc_ch_mem.mp hp
        have := qm_chpos T E hk z1 z2
        exact (J p (by omega) z1).2.2.2.1
      have hsh := qc_app_short T E hk a1 (qa_fl_nd _ _) (fun _ h => h) hW
      refine qx_sum (lv := fun p => decide (R p = k)) (Wf := W) (by omega) hm hk hct (fun p hp => ?_) (fun p hp hl => ?_) (fun p h1 h2 h3 => ?_) (Nat.lt_of_lt_of_le hsh hm) fun cx' sz' W' w1 w2 w3 w4 => ?_
      · rw [K.2 p k hp (by omega), decide_eq_true_eq]
        exact ⟨fun z => z.1, fun z => ⟨z, hmk p hp⟩⟩
      · exact qm_chpos T E hk hp (of_decide_eq_true hl)
      · have rb := qx_rowb T E D0 (j := p) (by omega) h2
        exact ⟨by omega, (J p (by omega) h2).2.2.2.2, rb.1⟩
      · dsimp only
        refine hP tc ec cod st (fun j => if j = k then cod (ty (k + 1)) else ty j) dom (fun j => if j = k then W' else W j) _ _ _ _ _ _ _ _ ⟨Tb, Ar, by omega, by omega, ?_⟩
        have hR := qc_app_row T E hk a1 hW w1 w2
        refine qy_push T E (t := cod (ty (k + 1))) (Wk := W') hk J (Nat.le_refl _) (fun _ _ _ => ⟨rfl, rfl⟩) hcod t4 (qc_Row_congr (fun v hv => if_neg fun e => ?_) hR) w3 (fun j h1 h2 hA => ?_) qf_us (fun j a b => qf_un (by omega))
        · have := (qc_U_mem.mp hv).2.1
          rw [e] at this; omega
        · have rb := qx_rowb T E D0 (j := j) (by omega) h2
          exact qx_out_at w4 (by omega) (by omega) hA
    · -- a lambda that takes something
      have hPne : P k ≠ [] := fun e => c ⟨a2, e⟩
      have hk1 := qm_lam1 E hk hPne
      rw [a2]
      refine br_t rfl (qx_da T E hk1 a1 D0 fun tc' ec' cod' st' ty' dom' W' ta cd ai ts tz en cx sz D' => ?_)
      exact hP _ _ _ _ _ _ _ _ _ _ _ _ _ _ _ D'
    · -- a variable
      have hkd : 2 ≤ kd k := by omega
      obtain ⟨v1, v2, v3, v4, v5, v6, v7⟩ := qm_var T E hk hkd
      obtain ⟨j1, j2, j3, j4, j5⟩ := J (k + 1) (Nat.le_refl _) v1
      have htc64 := qx_tc E D0
      have nn := qf_nneg (i := i) (by omega)
      rw [a2]
      refine br_f nn.2.1 (br_f nn.1 ?_)
      rw [nI_1 k, nI_clamp (show k + 1 < 2 ^ 31 by omega), j1]
      refine ⟨vp_in_nI (by omega) (by omega), hv, nm_e ⟨hv, ?_⟩⟩
      rw [qf_us, qw_m64, nI_add]
      refine qx_ins (W := []) (by omega) List.Pairwise.nil (by simp) (fun x hx => by simp at hx) (by omega) ⟨qf_us, fun i x hx => by simp at hx⟩ fun cx' sz' W' w1 w2 w3 w4 => ?_
      dsimp only
      have eW : W' = [i * 64 + ty (k + 1)] := w2.eq_singleton
      refine hP tc ec cod st (fun j => if j = k then ty (k + 1) else ty j) dom (fun j => if j = k then W' else W j) _ _ _ _ _ _ _ _ ⟨Tb, Ar, by omega, by omega, ?_⟩
      refine qy_push T E (t := ty (k + 1)) (Wk := W') hk J (Nat.le_refl _) (fun _ _ _ => ⟨rfl, rfl⟩) j2 ?_ ?_ w3 (fun j h1 h2 hA => ?_) qf_us (fun j a b => qf_un (by omega))
      · rw [← v4]; exact j3
      · have := qc_var_row (ty := fun j => if j = k then ty (k + 1) else ty j) T E hk hkd
        rw [eW]
        have e2 : kd k - 2 = i := by omega
        rw [e2] at this
        simpa using this
      · have rb := qx_rowb T E D0 (j := j) (by omega) h2
        exact qx_out_at w4 (by omega) (by omega) hA
theorem qx_der45 {post : SX → Prop} (T : qm_TR m au kd S P C R) (E : qm_en m kd P) (K : qx_K m kd S R P xtk xsj xpr xpn) (hct : xct = nI m) (hmk : ∀ j, j < m → xmk j = 0)
    (hP : ∀ (tc' ec' : Nat) (cod' st' ty' : Nat → Nat) (dom' W' : Nat → List Nat) (ta cd ai ts tz en cx sz : Nat → Int32), qx_D m kd R P C 0 tc' ec' cod' st' ty' dom' W' ta cd ai ts tz en cx sz → post (xnl, xjl, xnc, xop, xnd, xwc, xct, (nI tc'), (nI ec'), xsr, xar, xtk, xdp, xau, xwt, xsj, xpr, xpn, xsc, ta, xmk, cd, ai, ts, tz, en, cx, sz)) :
    ∀ (n k tc ec : Nat) (cod st ty : Nat → Nat) (dom W : Nat → List Nat) (ta cd ai ts tz en cx sz : Nat → Int32), k < n → k ≤ m → qx_D m kd R P C k tc ec cod st ty dom W ta cd ai ts tz en cx sz → wX_derive_45 post n (nI k + (-1)) xnl xjl xnc xop xnd xwc xct (nI tc) (nI ec) xsr xar xtk xdp xau xwt xsj xpr xpn xsc ta xmk cd ai ts tz en cx sz := by
  have hm := E.2.1
  intro n
  induction n with
  | zero => intro k tc ec cod st ty dom W ta cd ai ts tz en cx sz h; omega
  | succ n ih =>
    intro k tc ec cod st ty dom W ta cd ai ts tz en cx sz g1 g2 D
    rw [wX_derive_45]
    cases k with
    | zero => exact br_t (by decide) (hP _ _ _ _ _ _ _ _ _ _ _ _ _ _ _ D)
    | succ k =>
      rw [pk_m1]
      refine br_f (nI_pos (by omega)) (qx_dj T E (by omega) K hct hmk D fun tc' ec' cod' st' ty' dom' W' ta' cd' ai' ts' tz' en' cx' sz' D' => ?_)
      dsimp only
      exact nm_e (ih k _ _ _ _ _ _ _ _ _ _ _ _ _ _ _ (by omega) (by omega) D')
theorem qx_der {post : SX → Prop} (T : qm_TR m au kd S P C R) (E : qm_en m kd P) (K : qx_K m kd S R P xtk xsj xpr xpn) (hct : xct = nI m) (hmk : ∀ j, j < m → xmk j = 0)
    (hP : ∀ (tc' ec' : Nat) (cod' st' ty' : Nat → Nat) (dom' W' : Nat → List Nat) (ta cd ai ts tz en cx sz : Nat → Int32), qx_D m kd R P C 0 tc' ec' cod' st' ty' dom' W' ta cd ai ts tz en cx sz → post (xnl, xjl, xnc, xop, xnd, xwc, xct, (nI tc'), (nI ec'), xsr, xar, xtk, xdp, xau, xwt, xsj, xpr, xpn, xsc, ta, xmk, cd, ai, ts, tz, en, cx, sz)) : wpX_derive post (xnl, xjl, xnc, xop, xnd, xwc, xct, xtc, xec, xsr, xar, xtk, xdp, xau, xwt, xsj, xpr, xpn, xsc, xty, xmk, xcd, xai, xts, xtz, xen, xcx, xsz) := by
  unfold wpX_derive
  dsimp only
  have h0 := E.1
  refine nm_e (nm_e (nm_e (nm_e (nm_r (e' := nI m + (-1)) ?_ ⟨m + 1, ?_⟩))))
  · rw [hct]
    obtain ⟨m0, rfl⟩ : ∃ m0, m = m0 + 1 := ⟨m - 1, by omega⟩
    rw [nI_pred, pk_m1]
  · refine qx_der45 T E K hct hmk hP (m + 1) m 1 0 (fun _ => 0) (fun _ => 0) (fun _ => 0) (fun _ => []) (fun _ => []) _ _ _ _ _ _ _ _ (by omega) (Nat.le_refl _) ⟨⟨by omega, fun t a b => by omega, fun t t' a b => by omega⟩, ⟨qf_us, fun t a b => by omega⟩, Or.inl (Nat.le_refl _), Nat.zero_le _, fun j a b => by omega⟩
theorem qx_b41 {post : Int32 → SX → Prop} (hm : m ≤ 64) (hct : xct = nI m) (hP : ∀ mk : Nat → Int32, (∀ j, j < m → mk j = 0) → wpX_derive (fun u => match u with | (xnl, xjl, xnc, xop, xnd, xwc, xct, xtc, xec, xsr, xar, xtk, xdp, xau, xwt, xsj, xpr, xpn, xsc, xty, xmk, xcd, xai, xts, xtz, xen, xcx, xsz) => post xct (xnl, xjl, xnc, xop, xnd, xwc, xct, xtc, xec, xsr, xar, xtk, xdp, xau, xwt, xsj, xpr, xpn, xsc, xty, xmk, xcd, xai, xts, xtz, xen, xcx, xsz)) (xnl, xjl, xnc, xop, xnd, xwc, xct, xtc, xec, xsr, xar, xtk, xdp, xau, xwt, xsj, xpr, xpn, xsc, xty, mk, xcd, xai, xts, xtz, xen, xcx, xsz)) :
    ∀ n k mk, m - k < n → k ≤ m → (∀ j, j < k → mk j = 0) → wX_build_41 post xnl xjl xnc xop xnd xwc xct xtc xec xsr xar n (nI k) xtk xdp xau xwt xsj xpr xpn xsc xty mk xcd xai xts xtz xen xcx xsz := by
  intro n
  induction n with
  | zero => intro k mk h; omega
  | succ n ih =>
    intro k mk g1 g2 g3
    rw [wX_build_41]
    refine pk_le m k (fun h => ?_) (fun h => ?_) hct rfl (by omega) (by omega)
    · exact hP mk fun j hj => g3 j (by omega)
    · rw [nI_clamp (show k < 2 ^ 31 by omega)]
      refine ⟨vp_in_nI (by omega) (by omega), nm_e (nm_r (nI_1 k) (ih (k + 1) _ (by omega) (by omega) fun j hj => ?_))⟩
      by_cases e : j = k
      · subst e; rw [qf_us]; rfl
      · rw [qf_un e]; exact g3 j (by omega)
end
end
section
/-! ===== the relation ===== -/
/-- what stands while a derivation of m judgements is there -/
def qr_V (m : Nat) (xtk xau xsj xpr xpn xsc xty xmk xcd xai xts xtz xen xcx xsz ysj ypr ypl ysc ypd ygn ysm : Nat → Int32) : Prop :=
  qm_fin xtk (qt_au xau) m ∧ qx_M xtk (qt_au xau) (m - 1) xsj xpr xpn xsc ∧ qw_M xtk (qt_au xau) (m - 1) ysj ypr ypl ysc ypd ∧
  (∀ j, j < m → ygn j = xmk j ∧ (xmk j = 0 ∨ xmk j = 1)) ∧
  ∃ (tc ec : Nat) (cod st ty : Nat → Nat) (dom W : Nat → List Nat), qx_D m (qm_K xtk (qt_au xau)) (qm_R xtk (qt_au xau)) (qm_P xtk (qt_au xau)) (qm_C xtk (qt_au xau)) 0 tc ec cod st ty dom W xty xcd xai xts xtz xen xcx xsz ∧
    ∀ x y, x < m → y < m → ysm (x * 64 + y) = qw_01 (decide (ty x = ty y))
def qr_I (NL JL n w m : Nat) (xop xnd : Int32) (xtk xdp xau xwt xsj xpr xpn xsc xty xmk xcd xai xts xtz xen xcx xsz ysj ypr ypl ysc ypd ygn ysm : Nat → Int32) : Prop :=
  8 ≤ JL ∧ JL ≤ 64 ∧ qt_I NL n w xop xnd xtk xdp xau xwt ∧ (m ≠ 0 → qt_lf xtk 0 n = 0 ∧ m ≤ JL ∧ qr_V m xtk xau xsj xpr xpn xsc xty xmk xcd xai xts xtz xen xcx xsz ysj ypr ypl ysc ypd ygn ysm)
def qr_G (NL JL n w m : Nat) (xnl xjl xnc xop xnd xwc xct : Int32) (xtk xdp xau xwt xsj xpr xpn xsc xty xmk xcd xai xts xtz xen xcx xsz : Nat → Int32) (ynl yjl ync yct : Int32) (ytk ysj ypr ypl ysc ypd ygn ysm : Nat → Int32) : Prop :=
  xnl = nI NL ∧ xjl = nI JL ∧ xnc = nI n ∧ xwc = nI w ∧ xct = nI m ∧ ynl = nI NL ∧ yjl = nI JL ∧ ync = nI n ∧ yct = nI m ∧ ytk = xtk ∧
  qr_I NL JL n w m xop xnd xtk xdp xau xwt xsj xpr xpn xsc xty xmk xcd xai xts xtz xen xcx xsz ysj ypr ypl ysc ypd ygn ysm
def i_Rel (k : Nat) (u : SX) (v : SY) : Prop := ∃ NL JL n w m : Nat,
  qr_G NL JL n w m u.1 u.2.1 u.2.2.1 u.2.2.2.1 u.2.2.2.2.1 u.2.2.2.2.2.1 u.2.2.2.2.2.2.1
    u.2.2.2.2.2.2.2.2.2.2.2.1 u.2.2.2.2.2.2.2.2.2.2.2.2.1 u.2.2.2.2.2.2.2.2.2.2.2.2.2.1 u.2.2.2.2.2.2.2.2.2.2.2.2.2.2.1 u.2.2.2.2.2.2.2.2.2.2.2.2.2.2.2.1 u.2.2.2.2.2.2.2.2.2.2.2.2.2.2.2.2.1 u.2.2.2.2.2.2.2.2.2.2.2.2.2.2.2.2.2.1 u.2.2.2.2.2.2.2.2.2.2.2.2.2.2.2.2.2.2.1 u.2.2.2.2.2.2.2.2.2.2.2.2.2.2.2.2.2.2.2.1 u.2.2.2.2.2.2.2.2.2.2.2.2.2.2.2.2.2.2.2.2.1 u.2.2.2.2.2.2.2.2.2.2.2.2.2.2.2.2.2.2.2.2.2.1 u.2.2.2.2.2.2.2.2.2.2.2.2.2.2.2.2.2.2.2.2.2.2.1 u.2.2.2.2.2.2.2.2.2.2.2.2.2.2.2.2.2.2.2.2.2.2.2.1 u.2.2.2.2.2.2.2.2.2.2.2.2.2.2.2.2.2.2.2.2.2.2.2.2.1 u.2.2.2.2.2.2.2.2.2.2.2.2.2.2.2.2.2.2.2.2.2.2.2.2.2.1 u.2.2.2.2.2.2.2.2.2.2.2.2.2.2.2.2.2.2.2.2.2.2.2.2.2.2.1 u.2.2.2.2.2.2.2.2.2.2.2.2.2.2.2.2.2.2.2.2.2.2.2.2.2.2.2
    v.1 v.2.1 v.2.2.1 v.2.2.2.1 v.2.2.2.2.1 v.2.2.2.2.2.1 v.2.2.2.2.2.2.1 v.2.2.2.2.2.2.2.1 v.2.2.2.2.2.2.2.2.1 v.2.2.2.2.2.2.2.2.2.1 v.2.2.2.2.2.2.2.2.2.2.1 v.2.2.2.2.2.2.2.2.2.2.2
theorem qr_in {k : Nat} {NL JL n w m : Nat} {xop xnd xtc xec xsr xar : Int32} {xtk xdp xau xwt xsj xpr xpn xsc xty xmk xcd xai xts xtz xen xcx xsz ysj ypr ypl ysc ypd ygn ysm : Nat → Int32} (h : qr_I NL JL n w m xop xnd xtk xdp xau xwt xsj xpr xpn xsc xty xmk xcd xai xts xtz xen xcx xsz ysj ypr ypl ysc ypd ygn ysm) :
    i_Rel k ((nI NL), (nI JL), (nI n), xop, xnd, (nI w), (nI m), xtc, xec, xsr, xar, xtk, xdp, xau, xwt, xsj, xpr, xpn, xsc, xty, xmk, xcd, xai, xts, xtz, xen, xcx, xsz) ((nI NL), (nI JL), (nI n), (nI m), xtk, ysj, ypr, ypl, ysc, ypd, ygn, ysm) :=
  ⟨NL, JL, n, w, m, rfl, rfl, rfl, rfl, rfl, rfl, rfl, rfl, rfl, rfl, h⟩
theorem qr_el0 {Q : SX → SY → Prop} (h : ∀ (NL JL n w m : Nat) (xop xnd xtc xec xsr xar : Int32) (xtk xdp xau xwt xsj xpr xpn xsc xty xmk xcd xai xts xtz xen xcx xsz ysj ypr ypl ysc ypd ygn ysm : Nat → Int32), qr_I NL JL n w m xop xnd xtk xdp xau xwt xsj xpr xpn xsc xty xmk xcd xai xts xtz xen xcx xsz ysj ypr ypl ysc ypd ygn ysm →
      Q ((nI NL), (nI JL), (nI n), xop, xnd, (nI w), (nI m), xtc, xec, xsr, xar, xtk, xdp, xau, xwt, xsj, xpr, xpn, xsc, xty, xmk, xcd, xai, xts, xtz, xen, xcx, xsz) ((nI NL), (nI JL), (nI n), (nI m), xtk, ysj, ypr, ypl, ysc, ypd, ygn, ysm))
    {NL JL n w m : Nat} {xnl xjl xnc xop xnd xwc xct xtc xec xsr xar : Int32} {xtk xdp xau xwt xsj xpr xpn xsc xty xmk xcd xai xts xtz xen xcx xsz : Nat → Int32} {ynl yjl ync yct : Int32} {ytk ysj ypr ypl ysc ypd ygn ysm : Nat → Int32}
    (g : qr_G NL JL n w m xnl xjl xnc xop xnd xwc xct xtk xdp xau xwt xsj xpr xpn xsc xty xmk xcd xai xts xtz xen xcx xsz ynl yjl ync yct ytk ysj ypr ypl ysc ypd ygn ysm) : Q (xnl, xjl, xnc, xop, xnd, xwc, xct, xtc, xec, xsr, xar, xtk, xdp, xau, xwt, xsj, xpr, xpn, xsc, xty, xmk, xcd, xai, xts, xtz, xen, xcx, xsz) (ynl, yjl, ync, yct, ytk, ysj, ypr, ypl, ysc, ypd, ygn, ysm) := by
  obtain ⟨rfl, rfl, rfl, rfl, rfl, rfl, rfl, rfl, rfl, rfl, f⟩ := g
  exact h NL JL n w m _ _ _ _ _ _ _ _ _ _ _ _ _ _ _ _ _ _ _ _ _ _ _ _ _ _ _ _ _ _ f
theorem qr_el {k : Nat} {u : SX} {v : SY} {Q : SX → SY → Prop} (I : i_Rel k u v) (h : ∀ (NL JL n w m : Nat) (xop xnd xtc xec xsr xar : Int32) (xtk xdp xau xwt xsj xpr xpn xsc xty xmk xcd xai xts xtz xen xcx xsz ysj ypr ypl ysc ypd ygn ysm : Nat → Int32), qr_I NL JL n w m xop xnd xtk xdp xau xwt xsj xpr xpn xsc xty xmk xcd xai xts xtz xen xcx xsz ysj ypr ypl ysc ypd ygn ysm →
      Q ((nI NL), (nI JL), (nI n), xop, xnd, (nI w), (nI m), xtc, xec, xsr, xar, xtk, xdp, xau, xwt, xsj, xpr, xpn, xsc, xty, xmk, xcd, xai, xts, xtz, xen, xcx, xsz) ((nI NL), (nI JL), (nI n), (nI m), xtk, ysj, ypr, ypl, ysc, ypd, ygn, ysm)) : Q u v := by
  obtain ⟨NL, JL, n, w, m, g⟩ := I
  exact qr_el0 (Q := Q) h (xtc := u.2.2.2.2.2.2.2.1) (xec := u.2.2.2.2.2.2.2.2.1) (xsr := u.2.2.2.2.2.2.2.2.2.1) (xar := u.2.2.2.2.2.2.2.2.2.2.1) g
theorem i_up {k : Nat} {u : SX} {v : SY} (h : i_Rel k u v) : i_Rel (k + 3) u v := h
theorem qr_cl (p : Int32) (lo hi : Nat) (h : lo ≤ hi) (hh : hi < 2 ^ 31) : ∃ c : Nat, lo ≤ c ∧ c ≤ hi ∧ ∀ A : Int32 → Prop, A (nI c) → ((nI lo ≤ p → ((p ≤ nI hi → A p) ∧ (¬ p ≤ nI hi → A (nI hi)))) ∧ (¬ nI lo ≤ p → A (nI lo))) := by
  by_cases h1 : nI lo ≤ p
  · by_cases h2 : p ≤ nI hi
    · have hn : ¬ p < 0 := fun c => by
        have a : nI lo < 0 := Int32.lt_of_le_of_lt h1 c
        exact nI_pos (by omega) a
      obtain ⟨j, hj, rfl⟩ := nI_of hn
      rw [nI_leI (by omega) hj] at h1
      rw [nI_leI hj (by omega)] at h2
      exact ⟨j, h1, h2, fun A hA => br_t (nI_le h1 hj) (br_t (nI_le h2 hh) hA)⟩
    · exact ⟨hi, h, Nat.le_refl _, fun A hA => br_t h1 (br_f h2 hA)⟩
  · exact ⟨lo, Nat.le_refl _, h, fun A hA => br_f h1 hA⟩
theorem qr_new {NL : Nat} (h1 : 8 ≤ NL) (h2 : NL ≤ 32) (tk dp au wt : Nat → Int32) : qt_I NL 0 0 1 0 tk dp au wt :=
  ⟨h1, h2, by show 0 + 1 ≤ NL; omega, rfl, fun _ => ⟨rfl, rfl⟩, fun c => absurd c (by show ¬ 1 = 0; omega), fun s hs => by omega, fun j hj => by omega, fun s hs => by omega⟩
theorem qr_clX {post : Int32 → Prop} {u : SX} {p : Int32} {lo hi c : Nat} (H : ∀ A : Int32 → Prop, A (nI c) → ((nI lo ≤ p → ((p ≤ nI hi → A p) ∧ (¬ p ≤ nI hi → A (nI hi)))) ∧ (¬ nI lo ≤ p → A (nI lo)))) (h : post (nI c)) : wpX_clamp post u p (nI lo) (nI hi) := by
  unfold wpX_clamp
  exact H post h
theorem qr_iY {post : SY → Prop} {p0 p1 : Int32} {c d : Nat} (H : ∀ A : Int32 → Prop, A (nI c) → ((nI 8 ≤ p0 → ((p0 ≤ nI 32 → A p0) ∧ (¬ p0 ≤ nI 32 → A (nI 32)))) ∧ (¬ nI 8 ≤ p0 → A (nI 8)))) (H' : ∀ A : Int32 → Prop, A (nI d) → ((nI 8 ≤ p1 → ((p1 ≤ nI 64 → A p1) ∧ (¬ p1 ≤ nI 64 → A (nI 64)))) ∧ (¬ nI 8 ≤ p1 → A (nI 8))))
    (h : post (nI c, nI d, 0, 0, fun _ => 0, fun _ => 0, fun _ => 0, fun _ => 0, fun _ => 0, fun _ => 0, fun _ => 0, fun _ => 0)) : wpY_init post p0 p1 := by
  unfold wpY_init
  refine H (fun z => wY_init_95 post p1 z 0 0 0 0 (fun _ => 0) (fun _ => 0) (fun _ => 0) (fun _ => 0) (fun _ => 0) (fun _ => 0) (fun _ => 0) (fun _ => 0)) ?_
  unfold wY_init_95
  exact H' (fun z => post (nI c, z, 0, 0, fun _ => 0, fun _ => 0, fun _ => 0, fun _ => 0, fun _ => 0, fun _ => 0, fun _ => 0, fun _ => 0)) h
theorem i_vc0 (k0 : Int32) (k1 : Int32) : wpX_init (fun u => wpY_init (fun v => i_Rel 2 u v) k0 k1) k0 k1 := by
  obtain ⟨NL, a1, a2, a3⟩ := qr_cl k0 8 32 (by omega) (by omega)
  obtain ⟨JL, b1, b2, b3⟩ := qr_cl k1 8 64 (by omega) (by omega)
  unfold wpX_init
  refine qr_clX a3 ?_
  refine qr_clX b3 ?_
  unfold wpX_clear
  dsimp only
  refine qr_iY a3 b3 ?_
  exact qr_in (NL := NL) (JL := JL) (n := 0) (w := 0) (m := 0) ⟨b1, b2, qr_new a1 a2 _ _ _ _, fun c => absurd rfl c⟩
theorem i_vc_clear {k : Nat} {u : SX} {v : SY} (I : i_Rel k u v) (hk : k + 3 ≤ 1538) : wpX_clear (fun u' => wpY_clear (fun v' => i_Rel (k + 3) u' v') v) u := by
  refine qr_el (Q := fun u v => wpX_clear (fun u' => wpY_clear (fun v' => i_Rel (k + 3) u' v') v) u) I ?_
  intro NL JL n w m xop xnd xtc xec xsr xar xtk xdp xau xwt xsj xpr xpn xsc xty xmk xcd xai xts xtz xen xcx xsz ysj ypr ypl ysc ypd ygn ysm F
  obtain ⟨f1, f2, f3, f4⟩ := F
  unfold wpX_clear wpY_clear
  dsimp only
  exact qr_in (NL := NL) (JL := JL) (n := 0) (w := 0) (m := 0) ⟨f1, f2, qr_new f3.1 f3.2.1 _ _ _ _, fun c => absurd rfl c⟩
theorem i_vc_nodes {k : Nat} {u : SX} {v : SY} (I : i_Rel k u v) (hk : k + 3 ≤ 1538) : wpX_nodes (fun r => wpY_nodes (fun r' => r' = r ∧ i_Rel (k + 3) u v) v) u := by
  refine qr_el (Q := fun u v => wpX_nodes (fun r => wpY_nodes (fun r' => r' = r ∧ i_Rel (k + 3) u v) v) u) I ?_
  intro NL JL n w m xop xnd xtc xec xsr xar xtk xdp xau xwt xsj xpr xpn xsc xty xmk xcd xai xts xtz xen xcx xsz ysj ypr ypl ysc ypd ygn ysm F
  unfold wpX_nodes wpY_nodes
  dsimp only
  exact ⟨rfl, qr_in F⟩
theorem i_vc_token {k : Nat} {u : SX} {v : SY} (I : i_Rel k u v) (hk : k + 3 ≤ 1538) (v1 : Int32) : wpX_token (fun r => wpY_token (fun r' => r' = r ∧ i_Rel (k + 3) u v) v v1) u v1 := by
  refine qr_el (Q := fun u v => wpX_token (fun r => wpY_token (fun r' => r' = r ∧ i_Rel (k + 3) u v) v v1) u v1) I ?_
  intro NL JL n w m xop xnd xtc xec xsr xar xtk xdp xau xwt xsj xpr xpn xsc xty xmk xcd xai xts xtz xen xcx xsz ysj ypr ypl ysc ypd ygn ysm F
  have hn : n ≤ 32 := by have := F.2.2.1.2.1; have := F.2.2.1.2.2.1; omega
  unfold wpX_token wpY_token
  dsimp only
  by_cases h0 : v1 < 0
  · exact br_t h0 (br_t h0 ⟨rfl, qr_in F⟩)
  · obtain ⟨j, hj, rfl⟩ := nI_of h0
    by_cases hl : nI j < nI n
    · have hl' := (nI_ltI hj (by omega)).mp hl
      have hv : vp_in (nI j) 32 := vp_in_nI (by omega) (by omega)
      exact br_f h0 (br_t hl ⟨hv, br_f h0 (br_t hl ⟨hv, rfl, qr_in F⟩)⟩)
    · exact br_f h0 (br_f hl (br_f h0 (br_f hl ⟨rfl, qr_in F⟩)))
end
section
/-! ===== feed ===== -/
theorem qr_tok {p : Int32} (h : -2 ≤ p) : p = -2 ∨ p = -1 ∨ ∃ i : Nat, i < 2 ^ 31 ∧ p = nI i := by
  by_cases h0 : p < 0
  · have a := Int32.le_iff_toInt_le.mp h
    have b := Int32.lt_iff_toInt_lt.mp h0
    have e2 : (-2 : Int32).toInt = -2 := by decide
    have e0 : (0 : Int32).toInt = 0 := by decide
    have e1 : (-1 : Int32).toInt = -1 := by decide
    rw [e2] at a
    rw [e0] at b
    by_cases c : p.toInt = -2
    · left; exact Int32.toInt_inj.mp (c.trans e2.symm)
    · right; left
      refine Int32.toInt_inj.mp (Eq.trans ?_ e1.symm)
      omega
  · obtain ⟨j, hj, e⟩ := nI_of h0
    exact Or.inr (Or.inr ⟨j, hj, e⟩)
section
variable {ynl yjl ync yct : Int32} {ytk ysj ypr ypl ysc ypd ygn ysm : Nat → Int32}
theorem qw_feed71 {post : Int32 → SY → Prop} {NL n o' : Nat} {p : Int32} (hN : NL ≤ 32) (ho' : o' ≤ 64) (hn : n ≤ 32) (h1 : n + 1 + o' ≤ NL → post (nI o') ((nI NL), yjl, (nI (n + 1)), yct, (upd ytk n p), ysj, ypr, ypl, ysc, ypd, ygn, ysm)) (h0 : NL < n + 1 + o' → post (-14) ((nI NL), yjl, (nI n), yct, ytk, ysj, ypr, ypl, ysc, ypd, ygn, ysm)) : wY_feed_71 post p (nI o') (nI NL) yjl (nI n) yct ytk ysj ypr ypl ysc ypd ygn ysm := by
  unfold wY_feed_71
  rw [nI_1, nI_add, nI_clamp (show n < 2 ^ 31 by omega)]
  refine pk_le (n + 1 + o') NL (fun h => ?_) (fun h => h0 h) rfl rfl (by omega) (by omega)
  exact ⟨vp_in_nI (by omega) (by omega), nm_e (nm_e (h1 h))⟩
theorem qw_feed {post : Int32 → SY → Prop} {NL n o' : Nat} {p : Int32} (hN : NL ≤ 32) (hn : n ≤ 32) (ho : 0 < qt_lf ytk 0 n)
    (ht : (p = -2 ∧ o' = qt_lf ytk 0 n + 1) ∨ (p = -1 ∧ o' = qt_lf ytk 0 n) ∨ ∃ i, i < 2 ^ 31 ∧ i < qt_dp ytk n ∧ p = nI i ∧ o' + 1 = qt_lf ytk 0 n)
    (h1 : n + 1 + o' ≤ NL → post (nI o') ((nI NL), yjl, (nI (n + 1)), yct, (upd ytk n p), ysj, ypr, ypl, ysc, ypd, ygn, ysm)) (h0 : NL < n + 1 + o' → post (-14) ((nI NL), yjl, (nI n), yct, ytk, ysj, ypr, ypl, ysc, ypd, ygn, ysm)) : wpY_feed post ((nI NL), yjl, (nI n), yct, ytk, ysj, ypr, ypl, ysc, ypd, ygn, ysm) p := by
  have hb := qt_lf_le ytk 0 n
  have hd := qt_dp_le ytk n
  unfold wpY_feed
  dsimp only
  refine qw_left (q := 0) hn (by omega) ?_
  rw [Nat.sub_zero]
  refine br_f (nI_ne0 ho (by omega)) ?_
  rcases ht with ⟨e, e'⟩ | ⟨e, e'⟩ | ⟨i, i1, i2, e, e'⟩
  · subst e
    refine br_t (by decide) (qw_depth hn (br_t (by decide) ?_))
    unfold wY_feed_47
    rw [nI_1, ← e']
    exact br_t rfl (qw_feed71 hN (by omega) hn h1 h0)
  · subst e
    refine br_t (by decide) (qw_depth hn (br_t (by decide) ?_))
    unfold wY_feed_47
    rw [← e']
    exact br_f (by decide) (br_t rfl (qw_feed71 hN (by omega) hn h1 h0))
  · subst e
    have nn := qf_nneg i1
    refine br_t (Int32.le_trans (by decide) (nI_pos' i1)) (qw_depth hn (br_f nn.2.2 (br_t (nI_lt i2 (by omega)) ?_)))
    unfold wY_feed_47
    rw [← e', nI_pred]
    exact br_f nn.1 (br_f nn.2.1 (qw_feed71 hN (by omega) hn h1 h0))
theorem qw_feedO {post : Int32 → SY → Prop} {n i : Nat} (hn : n ≤ 32) (ho : 0 < qt_lf ytk 0 n) (i1 : i < 2 ^ 31) (i2 : qt_dp ytk n ≤ i) (h : post (-13) (ynl, yjl, (nI n), yct, ytk, ysj, ypr, ypl, ysc, ypd, ygn, ysm)) : wpY_feed post (ynl, yjl, (nI n), yct, ytk, ysj, ypr, ypl, ysc, ypd, ygn, ysm) (nI i) := by
  have hb := qt_lf_le ytk 0 n
  unfold wpY_feed
  dsimp only
  refine qw_left (q := 0) hn (by omega) ?_
  rw [Nat.sub_zero]
  refine br_f (nI_ne0 ho (by omega)) (br_t (Int32.le_trans (by decide) (nI_pos' i1)) (qw_depth hn (br_f (qf_nneg i1).2.2 (br_f (nI_nlt i2 i1) h))))
end
section
variable {xnl xjl xnc xop xnd xwc xct xtc xec xsr xar : Int32} {xtk xdp xau xwt xsj xpr xpn xsc xty xmk xcd xai xts xtz xen xcx xsz : Nat → Int32}
theorem qx_add1 {post : SX → Prop} {NL n w : Nat} {p : Int32} {o' : Nat} (I : qt_I NL n w xop xnd xtk xdp xau xwt) (ho : 0 < qt_lf xtk 0 n) (hf : n + 1 + o' ≤ NL)
    (ht : (p = -2 ∧ o' = qt_lf xtk 0 n + 1) ∨ (p = -1 ∧ o' = qt_lf xtk 0 n) ∨ ∃ i, i < 2 ^ 31 ∧ i < qt_dp xtk n ∧ p = nI i ∧ o' + 1 = qt_lf xtk 0 n)
    (hP : ∀ (w' : Nat) (nd' : Int32) (dp' au' wt' : Nat → Int32), qt_I NL (n + 1) w' (nI o') nd' (upd xtk n p) dp' au' wt' → post (xnl, xjl, (nI (n + 1)), xop, nd', (nI w'), xct, xtc, xec, xsr, xar, (upd xtk n p), dp', au', wt', xsj, xpr, xpn, xsc, xty, xmk, xcd, xai, xts, xtz, xen, xcx, xsz)) : wpX_addNode post (xnl, xjl, (nI n), xop, xnd, (nI w), xct, xtc, xec, xsr, xar, xtk, xdp, xau, xwt, xsj, xpr, xpn, xsc, xty, xmk, xcd, xai, xts, xtz, xen, xcx, xsz) p := by
  have hI := I
  obtain ⟨a1, a2, a3, a4, a5, a6, a7, a8, a9⟩ := hI
  have hb := qt_lf_le xtk 0 n
  have hw := (a5 ho).2
  have hv : vp_in (nI n) 32 := vp_in_nI (by omega) (by omega)
  unfold wpX_addNode
  dsimp only
  rw [nI_clamp (show n < 2 ^ 31 by omega)]
  refine nm_r (nI_1 n) ⟨hv, nm_e ⟨hv, nm_e ?_⟩⟩
  rcases ht with ⟨e, e'⟩ | ⟨e, e'⟩ | ⟨i, i1, i2, e, e'⟩
  · subst e
    refine br_f (by decide) (br_t rfl ⟨vp_in_nI (by omega) (by omega), ?_⟩)
    rw [nI_clamp (show w < 2 ^ 31 by omega)]
    refine nm_e (nm_r (nI_1 w) (hP _ _ _ _ _ ?_))
    have := qf_app I ho (by omega)
    rw [a4, nI_1, ← e'] at this
    exact this
  · subst e
    refine br_t rfl (nm_e (hP _ _ _ _ _ ?_))
    have := qf_lam I ho (by omega)
    rw [a4, ← e'] at this
    exact this
  · subst e
    have nn := qf_nneg i1
    refine br_f nn.2.1 (br_f nn.1 ?_)
    have hop : xop - 1 = nI o' := by rw [a4, ← e', nI_pred]
    cases w with
    | zero =>
      refine br_t (by decide) (hP _ _ _ _ _ ?_)
      have := qf_var0 I ho i2 i1 (by omega)
      rw [hop] at this
      exact this
    | succ w =>
      refine br_f (nI_nle (by omega) (by omega)) ?_
      obtain ⟨a, b1, b2, b3⟩ := qf_varS I ho i2 i1 (by omega)
      rw [hop] at b3
      unfold wpX_beginArgument
      dsimp only
      refine nm_r (nI_pred w) ⟨vp_in_nI (by omega) (by omega), ?_⟩
      rw [nI_clamp (show w < 2 ^ 31 by omega), b1]
      have hva : vp_in (nI a) 32 := vp_in_nI (by omega) (by omega)
      refine nm_e ⟨hva, ?_⟩
      rw [nI_clamp (show a < 2 ^ 31 by omega)]
      exact nm_e ⟨hva, nm_e (hP _ _ _ _ _ b3)⟩
theorem qx_feed {post : Int32 → SX → Prop} {NL n w : Nat} {p : Int32} {o' : Nat} (I : qt_I NL n w xop xnd xtk xdp xau xwt) (ho : 0 < qt_lf xtk 0 n)
    (ht : (p = -2 ∧ o' = qt_lf xtk 0 n + 1) ∨ (p = -1 ∧ o' = qt_lf xtk 0 n) ∨ ∃ i, i < 2 ^ 31 ∧ i < qt_dp xtk n ∧ p = nI i ∧ o' + 1 = qt_lf xtk 0 n)
    (h1 : n + 1 + o' ≤ NL → ∀ (w' : Nat) (nd' : Int32) (dp' au' wt' : Nat → Int32), qt_I NL (n + 1) w' (nI o') nd' (upd xtk n p) dp' au' wt' → post (nI o') ((nI NL), xjl, (nI (n + 1)), (nI o'), nd', (nI w'), xct, xtc, xec, xsr, xar, (upd xtk n p), dp', au', wt', xsj, xpr, xpn, xsc, xty, xmk, xcd, xai, xts, xtz, xen, xcx, xsz))
    (h0 : NL < n + 1 + o' → post (-14) ((nI NL), xjl, (nI n), xop, xnd, (nI w), xct, xtc, xec, xsr, xar, xtk, xdp, xau, xwt, xsj, xpr, xpn, xsc, xty, xmk, xcd, xai, xts, xtz, xen, xcx, xsz)) : wpX_feed post ((nI NL), xjl, (nI n), xop, xnd, (nI w), xct, xtc, xec, xsr, xar, xtk, xdp, xau, xwt, xsj, xpr, xpn, xsc, xty, xmk, xcd, xai, xts, xtz, xen, xcx, xsz) p := by
  have hI := I
  obtain ⟨a1, a2, a3, a4, a5, a6, a7, a8, a9⟩ := hI
  have hb := qt_lf_le xtk 0 n
  have hd := qt_dp_le xtk n
  have hnd := (a5 ho).1
  have hob : o' ≤ 64 := by rcases ht with ⟨_, e'⟩ | ⟨_, e'⟩ | ⟨i, _, _, _, e'⟩ <;> omega
  have hB : n + 1 + o' < 2 ^ 31 := by clear ht; omega
  have hNL : NL < 2 ^ 31 := by clear ht; omega
  have key : ∀ r, r = nI o' → ((((nI n + 1) + r) ≤ nI NL → wpX_addNode (fun u => match u with | (xnl, xjl, xnc, xop, xnd, xwc, xct, xtc, xec, xsr, xar, xtk, xdp, xau, xwt, xsj, xpr, xpn, xsc, xty, xmk, xcd, xai, xts, xtz, xen, xcx, xsz) => post r (xnl, xjl, xnc, r, xnd, xwc, xct, xtc, xec, xsr, xar, xtk, xdp, xau, xwt, xsj, xpr, xpn, xsc, xty, xmk, xcd, xai, xts, xtz, xen, xcx, xsz)) ((nI NL), xjl, (nI n), xop, xnd, (nI w), xct, xtc, xec, xsr, xar, xtk, xdp, xau, xwt, xsj, xpr, xpn, xsc, xty, xmk, xcd, xai, xts, xtz, xen, xcx, xsz) p) ∧ (¬ ((nI n + 1) + r) ≤ nI NL → post (-14) ((nI NL), xjl, (nI n), xop, xnd, (nI w), xct, xtc, xec, xsr, xar, xtk, xdp, xau, xwt, xsj, xpr, xpn, xsc, xty, xmk, xcd, xai, xts, xtz, xen, xcx, xsz))) := by
    intro r e
    subst e
    rw [nI_1, nI_add]
    refine pk_le (n + 1 + o') NL (fun h => ?_) (fun h => h0 h) rfl rfl hB hNL
    exact qx_add1 I ho h ht fun w' nd' dp' au' wt' I' => h1 h w' nd' dp' au' wt' I'
  unfold wpX_feed
  dsimp only
  refine br_f (by rw [a4]; exact nI_ne0 ho (by omega)) ?_
  unfold wpX_openAfter
  dsimp only
  rcases ht with ⟨e, e'⟩ | ⟨e, e'⟩ | ⟨i, i1, i2, e, e'⟩
  · subst e
    refine br_t (by decide) (br_t ?_ (br_f (by decide) (br_t rfl (key _ ?_))))
    · rw [hnd]; exact Int32.lt_of_lt_of_le (by decide) (nI_pos' (by omega))
    · rw [a4, nI_1, e']
  · subst e
    refine br_t (by decide) (br_t ?_ (br_t rfl (key _ ?_)))
    · rw [hnd]; exact Int32.lt_of_lt_of_le (by decide) (nI_pos' (by omega))
    · rw [a4, e']
  · have nn := qf_nneg i1
    subst e
    refine br_t (Int32.le_trans (by decide) (nI_pos' i1)) (br_t ?_ (br_f nn.2.1 (br_f nn.1 (key _ ?_))))
    · rw [hnd]; exact nI_lt i2 (by omega)
    · rw [a4, ← e', nI_pred]
end
theorem i_vc_feed {k : Nat} {u : SX} {v : SY} (I : i_Rel k u v) (hk : k + 3 ≤ 1538) (v1 : Int32) : wpX_feed (fun r u' => wpY_feed (fun r' v' => r' = r ∧ i_Rel (k + 3) u' v') v v1) u v1 := by
  refine qr_el (Q := fun u v => wpX_feed (fun r u' => wpY_feed (fun r' v' => r' = r ∧ i_Rel (k + 3) u' v') v v1) u v1) I ?_
  intro NL JL n w m xop xnd xtc xec xsr xar xtk xdp xau xwt xsj xpr xpn xsc xty xmk xcd xai xts xtz xen xcx xsz ysj ypr ypl ysc ypd ygn ysm F
  have F' := F
  obtain ⟨f1, f2, f3, f4⟩ := F'
  have hI := f3
  obtain ⟨a1, a2, a3, a4, a5, a6, a7, a8, a9⟩ := hI
  have hn : n ≤ 32 := by omega
  have hb := qt_lf_le xtk 0 n
  by_cases z : qt_lf xtk 0 n = 0
  · unfold wpX_feed wpY_feed
    dsimp only
    refine br_t (by rw [a4, z]; rfl) (qw_left (q := 0) hn (by omega) ?_)
    rw [Nat.sub_zero, z]
    exact br_t rfl ⟨rfl, qr_in F⟩
  · have ho : 0 < qt_lf xtk 0 n := by omega
    have hd := qt_dp_le xtk n
    have hm : m = 0 := by
      rcases Nat.eq_zero_or_pos m with e | e
      · exact e
      · exact absurd (f4 (by omega)).1 z
    by_cases hp : -2 ≤ v1
    · have go : ∀ o', ((v1 = -2 ∧ o' = qt_lf xtk 0 n + 1) ∨ (v1 = -1 ∧ o' = qt_lf xtk 0 n) ∨ ∃ i, i < 2 ^ 31 ∧ i < qt_dp xtk n ∧ v1 = nI i ∧ o' + 1 = qt_lf xtk 0 n) → wpX_feed (fun r u' => wpY_feed (fun r' v' => r' = r ∧ i_Rel (k + 3) u' v') ((nI NL), (nI JL), (nI n), (nI m), xtk, ysj, ypr, ypl, ysc, ypd, ygn, ysm) v1) ((nI NL), (nI JL), (nI n), xop, xnd, (nI w), (nI m), xtc, xec, xsr, xar, xtk, xdp, xau, xwt, xsj, xpr, xpn, xsc, xty, xmk, xcd, xai, xts, xtz, xen, xcx, xsz) v1 := by
        intro o' ht
        refine qx_feed f3 ho ht (fun h w' nd' dp' au' wt' I' => ?_) (fun h => ?_)
        · refine qw_feed a2 hn ho ht (fun _ => ?_) (fun h' => by omega)
          refine ⟨rfl, qr_in ⟨f1, f2, I', fun c => absurd hm c⟩⟩
        · refine qw_feed a2 hn ho ht (fun h' => by omega) (fun _ => ⟨rfl, qr_in F⟩)
      rcases qr_tok hp with e | e | ⟨i, i1, e⟩
      · exact go _ (Or.inl ⟨e, rfl⟩)
      · exact go _ (Or.inr (Or.inl ⟨e, rfl⟩))
      · rcases Nat.lt_or_ge i (qt_dp xtk n) with c | c
        · exact go (qt_lf xtk 0 n - 1) (Or.inr (Or.inr ⟨i, i1, c, e, by omega⟩))
        · subst e
          unfold wpX_feed
          dsimp only
          refine br_f (by rw [a4]; exact nI_ne0 ho (by omega)) (br_t hp (br_f (by rw [(a5 ho).1]; exact nI_nlt c i1) ?_))
          exact qw_feedO hn ho i1 c ⟨rfl, qr_in F⟩
    · unfold wpX_feed wpY_feed
      dsimp only
      refine br_f (by rw [a4]; exact nI_ne0 ho (by omega)) (br_f hp (qw_left (q := 0) hn (by omega) ?_))
      rw [Nat.sub_zero]
      exact br_f (nI_ne0 ho (by omega)) (br_f hp ⟨rfl, qr_in F⟩)
end
section
/-! ===== build ===== -/
theorem qx_clampP {x : Int32} (h : 0 < x.toNatClampNeg) : x = nI x.toNatClampNeg := by
  by_cases h0 : x < 0
  · have := Int32.lt_iff_toInt_lt.mp h0
    have e0 : (0 : Int32).toInt = 0 := by decide
    rw [e0] at this
    have e : x.toNatClampNeg = x.toInt.toNat := rfl
    omega
  · obtain ⟨j, hj, rfl⟩ := nI_of h0
    rw [nI_clamp hj]
theorem qx_hA {n : Nat} {tk au : Nat → Int32} (T : qt_T n tk (qt_au au)) : ∀ s, s < n → tk s = -2 → au s = nI (qt_au au s) := by
  intro s hs h
  have := (qm_tokA T hs (by rw [h]; exact qm_kdA)).2.2.1
  exact qx_clampP (by have e : qt_au au s = (au s).toNatClampNeg := rfl
                      omega)
theorem qx_KM {n : Nat} {tk : Nat → Int32} {au : Nat → Nat} (T : qt_T n tk au) {m : Nat} (h : qm_fin tk au m) {sj pr pn sc : Nat → Int32} (H : qx_M tk au (m - 1) sj pr pn sc) : qx_K m (qm_K tk au) (qm_S tk au) (qm_R tk au) (qm_P tk au) tk sj pr pn := by
  obtain ⟨tr, en, ok⟩ := qm_finT T h
  have hn := T.2.1
  refine ⟨fun k hk => ?_, fun y a hy ha => ?_⟩
  · obtain ⟨e1, e2, e3, e4⟩ := H k (by omega)
    have okk := (ok k hk).1
    refine ⟨by omega, e1, e3, ?_⟩
    rcases T.2.2 _ okk with ⟨a, _⟩ | ⟨a, _⟩ | ⟨i, i1, a⟩
    · exact Or.inr (Or.inl ⟨by show qm_kd (tk (qm_S tk au k)) = 1; rw [a]; exact qm_kdL, a⟩)
    · exact Or.inl ⟨by show qm_kd (tk (qm_S tk au k)) = 0; rw [a]; exact qm_kdA, a⟩
    · have hi : i < 32 := by have := qt_dp_le tk (qm_S tk au k); omega
      exact Or.inr (Or.inr ⟨i, hi, by show qm_kd (tk (qm_S tk au k)) = i + 2; rw [a]; exact qm_kdV (by omega), a⟩)
  · obtain ⟨_, e, _⟩ := H y (by omega)
    rw [e]
    by_cases z : y = 0
    · subst z
      rw [if_pos rfl]
      have := tr.2.2.2.1
      constructor
      · intro c; exact absurd c.symm (qf_nneg (by omega)).2.1
      · intro c; omega
    · rw [if_neg z]
      have := qm_Rlt tr en (by omega) hy
      exact nI_eq (by have := h.2.1; omega) (by omega)
section
variable {xnl xjl xnc xop xnd xwc xct xtc xec xsr xar : Int32} {xtk xdp xau xwt xsj xpr xpn xsc xty xmk xcd xai xts xtz xen xcx xsz : Nat → Int32}
theorem qx_build {post : Int32 → SX → Prop} {n JL : Nat} (T : qt_T n xtk (qt_au xau)) (hop : xop = 0) (hJ0 : 0 < JL) (hJL : JL ≤ 64)
    (hL : (∀ j, j < JL → ¬ qm_star xtk (qt_au xau) j) → ∀ sj pr pn sc : Nat → Int32, post (-16) (xnl, (nI JL), xnc, xop, xnd, xwc, 0, xtc, xec, xsr, xar, xtk, xdp, xau, xwt, sj, pr, pn, sc, xty, xmk, xcd, xai, xts, xtz, xen, xcx, xsz))
    (hS : ∀ m, m ≤ JL → qm_fin xtk (qt_au xau) m → ∀ (xtc xec : Int32) (sj pr pn sc mk ta cd ai ts tz en cx sz : Nat → Int32) (tc ec : Nat) (cod st ty : Nat → Nat) (dom W : Nat → List Nat), qx_M xtk (qt_au xau) (m - 1) sj pr pn sc → (∀ j, j < m → mk j = 0) →
      qx_D m (qm_K xtk (qt_au xau)) (qm_R xtk (qt_au xau)) (qm_P xtk (qt_au xau)) (qm_C xtk (qt_au xau)) 0 tc ec cod st ty dom W ta cd ai ts tz en cx sz → post (nI m) (xnl, (nI JL), xnc, xop, xnd, xwc, (nI m), xtc, xec, xsr, xar, xtk, xdp, xau, xwt, sj, pr, pn, sc, ta, mk, cd, ai, ts, tz, en, cx, sz)) :
    wpX_build post (xnl, (nI JL), xnc, xop, xnd, xwc, 0, xtc, xec, xsr, xar, xtk, xdp, xau, xwt, xsj, xpr, xpn, xsc, xty, xmk, xcd, xai, xts, xtz, xen, xcx, xsz) := by
  unfold wpX_build
  dsimp only
  refine br_t (by rw [hop]; decide) (br_t (by decide) (qx_run T rfl (qx_hA T) rfl hJ0 hJL (fun h sj pr pn sc => ?_) (fun m hm fin sj pr pn sc H => ?_)))
  · dsimp only
    exact br_t rfl (hL h sj pr pn sc)
  · dsimp only
    obtain ⟨tr, en, ok⟩ := qm_finT T fin
    refine br_f (nI_ne0 fin.1 (by have := fin.2.1; omega)) ⟨m + 1, qx_b41 fin.2.1 rfl (fun mk hmk => ?_) (m + 1) 0 xmk (by omega) (by omega) (fun j hj => by omega)⟩
    refine qx_der tr en (qx_KM T fin H) rfl hmk fun tc' ec' cod' st' ty' dom' W' ta cd ai ts tz en' cx sz D => ?_
    dsimp only
    exact hS m hm fin _ _ _ _ _ _ _ _ _ _ _ _ _ _ _ _ _ _ _ _ _ _ H hmk D
end
theorem i_vc_build {k : Nat} {u : SX} {v : SY} (I : i_Rel k u v) (hk : k + 3 ≤ 1538) : wpX_build (fun r u' => wpY_build (fun r' v' => r' = r ∧ i_Rel (k + 3) u' v') v) u := by
  refine qr_el (Q := fun u v => wpX_build (fun r u' => wpY_build (fun r' v' => r' = r ∧ i_Rel (k + 3) u' v') v) u) I ?_
  intro NL JL n w m xop xnd xtc xec xsr xar xtk xdp xau xwt xsj xpr xpn xsc xty xmk xcd xai xts xtz xen xcx xsz ysj ypr ypl ysc ypd ygn ysm F
  have F' := F
  obtain ⟨f1, f2, f3, f4⟩ := F'
  have hI := f3
  obtain ⟨a1, a2, a3, a4, a5, a6, a7, a8, a9⟩ := hI
  have hn : n ≤ 32 := by omega
  have hb := qt_lf_le xtk 0 n
  by_cases z : qt_lf xtk 0 n = 0
  · by_cases hm : m = 0
    · subst hm
      have T := qt_whole f3 z
      refine qx_build T (by rw [a4, z]; rfl) (by omega) f2 (fun hL sj pr pn sc => ?_) (fun m hmJ fin xtc' xec' sj pr pn sc mk ta cd ai ts tz en cx sz tc ec cod st ty dom W H hmk D => ?_)
      · refine qw_buildL T z rfl rfl f2 rfl hL fun sj' pr' pl' sc' pd' => ⟨rfl, ?_⟩
        exact qr_in (m := 0) ⟨f1, f2, f3, fun c => absurd rfl c⟩
      · obtain ⟨tr, en', ok⟩ := qm_finT T fin
        refine qw_buildS T z rfl rfl f2 rfl fin hmJ (ty := ty) (fun j hj a ha x hx hR hne => ?_) (fun j k hj hk => qy_same D.1 D.2.2.2.2 hj hk) fun sj' pr' pl' sc' pd' gn sm H' hg hs => ⟨rfl, ?_⟩
        · have := qc_ar_late tr en' hj ha (qc_ar_mem.mpr ⟨hx, hR, hne⟩)
          omega
        · refine qr_in ⟨f1, f2, f3, fun _ => ⟨z, hmJ, fin, H, H', fun j hj => ?_, tc, ec, cod, st, ty, dom, W, D, hs⟩⟩
          have h64 := fin.2.1
          rw [hmk j hj, hg j (by omega)]
          exact ⟨rfl, Or.inl rfl⟩
    · have h64 := (f4 hm).2.2.1.2.1
      unfold wpX_build wpY_build
      dsimp only
      refine br_t (by rw [a4, z]; decide) (br_f (nI_nle (by omega) (by omega)) (qw_left (q := 0) hn (by omega) ?_))
      rw [Nat.sub_zero, z]
      exact br_t (by decide) (br_f (nI_nle (by omega) (by omega)) ⟨rfl, qr_in F⟩)
  · unfold wpX_build wpY_build
    dsimp only
    refine br_f (by rw [a4]; exact nI_nle (by omega) (by omega)) (qw_left (q := 0) hn (by omega) ?_)
    rw [Nat.sub_zero]
    exact br_f (nI_nle (by omega) (by omega)) ⟨rfl, qr_in F⟩
end
section
/-! ===== reading a judgement ===== -/
section
variable {xnl xjl xnc xop xnd xwc xct xtc xec xsr xar : Int32} {xtk xdp xau xwt xsj xpr xpn xsc xty xmk xcd xai xts xtz xen xcx xsz : Nat → Int32}
variable {ynl yjl ync yct : Int32} {ytk ysj ypr ypl ysc ypd ygn ysm : Nat → Int32}
theorem qx_has1 {post : Int32 → Prop} {m j : Nat} (hm : m ≤ 64) (hj : j < m) (h : post 1) : wpX_has post (xnl, xjl, xnc, xop, xnd, xwc, (nI m), xtc, xec, xsr, xar, xtk, xdp, xau, xwt, xsj, xpr, xpn, xsc, xty, xmk, xcd, xai, xts, xtz, xen, xcx, xsz) (nI j) := by
  unfold wpX_has
  exact br_f (nI_pos (by omega)) (br_f (nI_ge hj (by omega)) h)
theorem qx_has0 {post : Int32 → Prop} {p : Int32} (hp : p < 0 ∨ xct ≤ p) (h : post 0) : wpX_has post (xnl, xjl, xnc, xop, xnd, xwc, xct, xtc, xec, xsr, xar, xtk, xdp, xau, xwt, xsj, xpr, xpn, xsc, xty, xmk, xcd, xai, xts, xtz, xen, xcx, xsz) p := by
  unfold wpX_has
  rcases hp with c | c
  · exact br_t c h
  · exact br_c (fun _ => h) (fun _ => br_t c h)
theorem qw_kn1 {post : Int32 → Prop} {m j : Nat} (hm : m ≤ 64) (hj : j < m) (h : post 1) : wpY_known post (ynl, yjl, ync, (nI m), ytk, ysj, ypr, ypl, ysc, ypd, ygn, ysm) (nI j) := by
  unfold wpY_known
  exact br_f (nI_pos (by omega)) (br_f (nI_ge hj (by omega)) h)
theorem qw_kn0 {post : Int32 → Prop} {p : Int32} (hp : p < 0 ∨ yct ≤ p) (h : post 0) : wpY_known post (ynl, yjl, ync, yct, ytk, ysj, ypr, ypl, ysc, ypd, ygn, ysm) p := by
  unfold wpY_known
  rcases hp with c | c
  · exact br_t c h
  · exact br_c (fun _ => h) (fun _ => br_t c h)
end
theorem qr_m64 {NL JL n w m : Nat} {xop xnd : Int32} {xtk xdp xau xwt xsj xpr xpn xsc xty xmk xcd xai xts xtz xen xcx xsz ysj ypr ypl ysc ypd ygn ysm : Nat → Int32} (F : qr_I NL JL n w m xop xnd xtk xdp xau xwt xsj xpr xpn xsc xty xmk xcd xai xts xtz xen xcx xsz ysj ypr ypl ysc ypd ygn ysm) : m ≤ 64 := by
  rcases Nat.eq_zero_or_pos m with e | e
  · omega
  · exact (F.2.2.2 (by omega)).2.2.1.2.1
theorem qr_ix (p : Int32) {m : Nat} (hm : m ≤ 64) : (p < 0 ∨ nI m ≤ p) ∨ ∃ j, j < m ∧ p = nI j := by
  rcases pk_ix p (n := m) (by omega) with c | c | c
  · exact Or.inl (Or.inl c)
  · exact Or.inl (Or.inr c)
  · exact Or.inr c
theorem qy_ari {tc ec : Nat} {cod st : Nat → Nat} {dom D : Nat → List Nat} {cd ai ts tz en : Nat → Int32} (A : qy_Arr tc ec cod st dom cd ai ts tz en) : ∀ {L : List Nat} {t : Nat}, qy_Rep tc cod dom D L t → ai t = nI L.length := by
  intro L
  induction L with
  | nil => intro t h; have : t = 0 := h
           rw [this]; exact A.1
  | cons a L ih =>
    rintro t ⟨a1, a2, a3, a4⟩
    rw [(A.2 t a1 a2).2.1, ih a4, nI_1]; rfl
section
variable {xnl xjl xnc xop xnd xwc xct xtc xec xsr xar : Int32} {xtk xdp xau xwt xsj xpr xpn xsc xty xmk xcd xai xts xtz xen xcx xsz : Nat → Int32}
variable {ynl yjl ync yct : Int32} {ytk ysj ypr ypl ysc ypd ygn ysm : Nat → Int32}
theorem qx_mul36 {post : Int32 → Prop} {tc ec i a : Nat} {cod st : Nat → Nat} {dom D : Nat → List Nat} (htc : tc ≤ 64) (hi : i < 64) (A : qy_Arr tc ec cod st dom xcd xai xts xtz xen) (hP : post (nI (D a).length)) :
    ∀ (n s : Nat) (L : List Nat) (t : Nat), i - s < n → s ≤ i → L[i - s]? = some a → qy_Rep tc cod dom D L t → wX_multiplicity_36 post (nI i) xnl xjl xnc xop xnd xwc xct xtc xec xsr xar xtk xdp xau xwt xsj xpr xpn xsc xty xmk xcd xai xts xtz xen xcx xsz n (nI t) (nI s) := by
  intro n
  induction n with
  | zero => intro s L t h; omega
  | succ n ih =>
    intro s L t g1 g2 g3 g4
    cases L with
    | nil => simp at g3
    | cons b L =>
      obtain ⟨b1, b2, b3, b4⟩ := g4
      obtain ⟨c1, c2, c3, c4, _⟩ := A.2 t b1 b2
      have hv : vp_in (nI t) 64 := vp_in_nI (by omega) (by omega)
      rw [wX_multiplicity_36]
      dsimp only
      rw [nI_clamp (show t < 2 ^ 31 by omega)]
      refine pk_le i s (fun h => ?_) (fun h => ?_) rfl rfl (by omega) (by omega)
      · have e : i - s = 0 := by omega
        rw [e] at g3
        simp at g3
        subst g3
        refine ⟨hv, ?_⟩
        rw [c4, b3.length_eq]; exact hP
      · refine ⟨hv, nm_r c1 (nm_r (nI_1 s) (ih (s + 1) L (cod t) (by omega) (by omega) ?_ b4))⟩
        rw [show i - s = (i - (s + 1)) + 1 by omega] at g3
        simpa using g3
theorem qx_cwt4 {post : Int32 → Prop} {m : Nat} {S : Nat → Nat} {t : Int32} (hm : m ≤ 64) (hS : ∀ k, k < m → S k < 32 ∧ xsj k = nI (S k)) (hP : post (nI (qa_cn (fun k => decide (xtk (S k) = t)) m))) :
    ∀ n k, m - k < n → k ≤ m → wX_countWithToken_4 post t xnl xjl xnc xop xnd xwc (nI m) xtc xec xsr xar xtk xdp xau xwt xsj xpr xpn xsc xty xmk xcd xai xts xtz xen xcx xsz n (nI (qa_cn (fun k => decide (xtk (S k) = t)) k)) (nI k) := by
  intro n
  induction n with
  | zero => intro k h; omega
  | succ n ih =>
    intro k g1 g2
    rw [wX_countWithToken_4]
    refine pk_le m k (fun h => ?_) (fun h => ?_) rfl rfl (by omega) (by omega)
    · have e : k = m := by omega
      subst e; exact hP
    · obtain ⟨s1, s2⟩ := hS k h
      have key := ih (k + 1) (by omega) (by omega)
      simp only [qa_cn] at key
      rw [nI_clamp (show k < 2 ^ 31 by omega), s2, nI_clamp (show S k < 2 ^ 31 by omega)]
      refine ⟨vp_in_nI (by omega) (by omega), vp_in_nI s1 (by omega), br_c (fun c => ?_) (fun c => ?_)⟩
      · rw [if_pos (decide_eq_true c)] at key
        exact nm_r (nI_1 _) (nm_r (nI_1 k) key)
      · rw [if_neg (by simpa using c)] at key
        exact nm_r (nI_1 k) key
theorem qx_cwt {post : Int32 → Prop} {m : Nat} {S : Nat → Nat} {t : Int32} (hm : m ≤ 64) (hS : ∀ k, k < m → S k < 32 ∧ xsj k = nI (S k)) (hP : post (nI (qa_cn (fun k => decide (xtk (S k) = t)) m))) : wpX_countWithToken post (xnl, xjl, xnc, xop, xnd, xwc, (nI m), xtc, xec, xsr, xar, xtk, xdp, xau, xwt, xsj, xpr, xpn, xsc, xty, xmk, xcd, xai, xts, xtz, xen, xcx, xsz) t := by
  unfold wpX_countWithToken
  exact ⟨m + 1, qx_cwt4 hm hS hP (m + 1) 0 (by omega) (by omega)⟩
theorem qw_st4 {post : Int32 → Prop} {m : Nat} {S : Nat → Nat} {P : Nat → List Nat} (hm : m ≤ 64) (h0 : 0 < m) (hS : ∀ k, k < m → S k < 32 ∧ ysj k = nI (S k) ∧ ypl k = nI (P k).length ∧ (P k).length ≤ k) (hP : post (nI (qa_cn (fun k => decide (ytk (S k) = -1) && decide (0 < (P k).length)) m))) :
    ∀ n k, m - k < n → k ≤ m → wY_steps_4 post ynl yjl ync (nI m) ytk ysj ypr ypl ysc ypd ygn ysm n (nI (qa_cn (fun k => decide (ytk (S k) = -1) && decide (0 < (P k).length)) k)) (nI k) := by
  intro n
  induction n with
  | zero => intro k h; omega
  | succ n ih =>
    intro k g1 g2
    rw [wY_steps_4]
    refine pk_le m k (fun h => ?_) (fun h => ?_) rfl rfl (by omega) (by omega)
    · have e : k = m := by omega
      subst e
      exact br_f (nI_ne0 h0 (by omega)) hP
    · obtain ⟨s1, s2, s3, s4⟩ := hS k h
      have key := ih (k + 1) (by omega) (by omega)
      simp only [qa_cn] at key
      rw [nI_clamp (show k < 2 ^ 31 by omega), s2, nI_clamp (show S k < 2 ^ 31 by omega), s3]
      have hv : vp_in (nI k) 64 := vp_in_nI (by omega) (by omega)
      refine ⟨hv, vp_in_nI s1 (by omega), br_c (fun c => ⟨hv, ?_⟩) (fun c => ?_)⟩
      · refine pk_le (P k).length 0 (fun d => ?_) (fun d => ?_) rfl rfl (by omega) (by omega)
        · rw [if_neg (by simp; intro _; exact List.eq_nil_of_length_eq_zero (by omega))] at key
          exact nm_r (nI_1 k) key
        · rw [if_pos (by rw [decide_eq_true c, decide_eq_true d]; rfl)] at key
          exact nm_r (nI_1 _) (nm_r (nI_1 k) key)
      · rw [if_neg (by rw [decide_eq_false c]; simp)] at key
        exact nm_r (nI_1 k) key
theorem qw_ap15 {post : Int32 → Prop} {m : Nat} {S : Nat → Nat} (hm : m ≤ 64) (hS : ∀ k, k < m → S k < 32 ∧ ysj k = nI (S k)) (hP : post (nI (qa_cn (fun k => decide (ytk (S k) = -2)) m))) :
    ∀ n k, m - k < n → k ≤ m → wY_apps_15 post ynl yjl ync (nI m) ytk ysj ypr ypl ysc ypd ygn ysm n (nI (qa_cn (fun k => decide (ytk (S k) = -2)) k)) (nI k) := by
  intro n
  induction n with
  | zero => intro k h; omega
  | succ n ih =>
    intro k g1 g2
    rw [wY_apps_15]
    refine pk_le m k (fun h => ?_) (fun h => ?_) rfl rfl (by omega) (by omega)
    · have e : k = m := by omega
      subst e; exact hP
    · obtain ⟨s1, s2⟩ := hS k h
      have key := ih (k + 1) (by omega) (by omega)
      simp only [qa_cn] at key
      rw [nI_clamp (show k < 2 ^ 31 by omega), s2, nI_clamp (show S k < 2 ^ 31 by omega)]
      refine ⟨vp_in_nI (by omega) (by omega), vp_in_nI s1 (by omega), br_c (fun c => ?_) (fun c => ?_)⟩
      · rw [if_pos (decide_eq_true c)] at key
        exact nm_r (nI_1 _) (nm_r (nI_1 k) key)
      · rw [if_neg (by simpa using c)] at key
        exact nm_r (nI_1 k) key
end
/-- one star: the lambdas are the steps and the last judgement -/
theorem qr_steps {n : Nat} {tk : Nat → Int32} {au : Nat → Nat} (T : qt_T n tk au) {m : Nat} (h : qm_fin tk au m) : qa_cn (fun k => decide (tk (qm_S tk au k) = -1)) m = qa_cn (fun k => decide (tk (qm_S tk au k) = -1) && decide (0 < (qm_P tk au k).length)) m + 1 := by
  obtain ⟨tr, en, ok⟩ := qm_finT T h
  obtain ⟨m0, rfl⟩ : ∃ m0, m = m0 + 1 := ⟨m - 1, by have := h.1; omega⟩
  have st := h.2.2.1
  rw [Nat.add_sub_cancel] at st
  have hl := (qm_tokL T (ok m0 (by omega)).1 st.1).1
  simp only [qa_cn]
  rw [if_pos (decide_eq_true hl), if_neg (by rw [st.2]; simp)]
  refine congrArg (· + 1) (qa_cn_congr fun k hk => ?_)
  by_cases c : tk (qm_S tk au k) = -1
  · have hk1 : qm_K tk au k = 1 := by show qm_kd (tk (qm_S tk au k)) = 1; rw [c]; exact qm_kdL
    have := (qm_lam tr (k := k) (by omega) hk1).1
    rw [decide_eq_true c, this]; simp
  · rw [decide_eq_false c]; rfl
end
section
/-! ===== the plain answers ===== -/
theorem i_vc_subject {k : Nat} {u : SX} {v : SY} (I : i_Rel k u v) (hk : k + 3 ≤ 1538) (v1 : Int32) : wpX_subject (fun r => wpY_subject (fun r' => r' = r ∧ i_Rel (k + 3) u v) v v1) u v1 := by
  refine qr_el (Q := fun u v => wpX_subject (fun r => wpY_subject (fun r' => r' = r ∧ i_Rel (k + 3) u v) v v1) u v1) I ?_
  intro NL JL n w m xop xnd xtc xec xsr xar xtk xdp xau xwt xsj xpr xpn xsc xty xmk xcd xai xts xtz xen xcx xsz ysj ypr ypl ysc ypd ygn ysm F
  have hm := qr_m64 F
  unfold wpX_subject wpY_subject
  dsimp only
  rcases qr_ix v1 hm with c | ⟨j, hj, rfl⟩
  · exact qx_has0 c (br_t rfl (qw_kn0 c (br_t rfl ⟨rfl, qr_in F⟩)))
  · obtain ⟨_, _, fin, HX, HY, _⟩ := F.2.2.2 (by omega)
    have hv : vp_in (nI j) 64 := vp_in_nI (by omega) (by omega)
    rw [nI_clamp (show j < 2 ^ 31 by omega)]
    refine qx_has1 hm hj (br_f (by decide) ⟨hv, qw_kn1 hm hj (br_f (by decide) ⟨hv, ?_, qr_in F⟩)⟩)
    rw [(HX j (by omega)).1, (HY j (by omega)).1]
theorem i_vc_parent {k : Nat} {u : SX} {v : SY} (I : i_Rel k u v) (hk : k + 3 ≤ 1538) (v1 : Int32) : wpX_parent (fun r => wpY_parent (fun r' => r' = r ∧ i_Rel (k + 3) u v) v v1) u v1 := by
  refine qr_el (Q := fun u v => wpX_parent (fun r => wpY_parent (fun r' => r' = r ∧ i_Rel (k + 3) u v) v v1) u v1) I ?_
  intro NL JL n w m xop xnd xtc xec xsr xar xtk xdp xau xwt xsj xpr xpn xsc xty xmk xcd xai xts xtz xen xcx xsz ysj ypr ypl ysc ypd ygn ysm F
  have hm := qr_m64 F
  unfold wpX_parent wpY_parent
  dsimp only
  rcases qr_ix v1 hm with c | ⟨j, hj, rfl⟩
  · exact qx_has0 c (br_t rfl (qw_kn0 c (br_t rfl ⟨rfl, qr_in F⟩)))
  · obtain ⟨_, _, fin, HX, HY, _⟩ := F.2.2.2 (by omega)
    have hv : vp_in (nI j) 64 := vp_in_nI (by omega) (by omega)
    rw [nI_clamp (show j < 2 ^ 31 by omega)]
    refine qx_has1 hm hj (br_f (by decide) ⟨hv, qw_kn1 hm hj (br_f (by decide) ⟨hv, ?_, qr_in F⟩)⟩)
    rw [(HX j (by omega)).2.1, (HY j (by omega)).2.1]
theorem i_vc_arity {k : Nat} {u : SX} {v : SY} (I : i_Rel k u v) (hk : k + 3 ≤ 1538) (v1 : Int32) : wpX_arity (fun r => wpY_arity (fun r' => r' = r ∧ i_Rel (k + 3) u v) v v1) u v1 := by
  refine qr_el (Q := fun u v => wpX_arity (fun r => wpY_arity (fun r' => r' = r ∧ i_Rel (k + 3) u v) v v1) u v1) I ?_
  intro NL JL n w m xop xnd xtc xec xsr xar xtk xdp xau xwt xsj xpr xpn xsc xty xmk xcd xai xts xtz xen xcx xsz ysj ypr ypl ysc ypd ygn ysm F
  have hm := qr_m64 F
  unfold wpX_arity wpY_arity
  dsimp only
  rcases qr_ix v1 hm with c | ⟨j, hj, rfl⟩
  · exact qx_has0 c (br_t rfl (qw_kn0 c (br_t rfl ⟨rfl, qr_in F⟩)))
  · obtain ⟨hz, _, fin, HX, HY, _, tc, ec, cod, st, ty, dom, W, D, hs⟩ := F.2.2.2 (by omega)
    obtain ⟨tr, en, ok⟩ := qm_finT (qt_whole F.2.2.1 hz) fin
    obtain ⟨g1, g2, g3, _⟩ := D.2.2.2.2 j (by omega) hj
    have htc := qx_tc en D
    have hv : vp_in (nI j) 64 := vp_in_nI (by omega) (by omega)
    rw [nI_clamp (show j < 2 ^ 31 by omega), g1, nI_clamp (show ty j < 2 ^ 31 by omega)]
    refine qx_has1 hm hj (br_f (by decide) ⟨hv, vp_in_nI (by omega) (by omega), qw_kn1 hm hj (br_f (by decide) ⟨hv, ?_, qr_in F⟩)⟩)
    rw [(HY j (by omega)).2.2.1, qy_ari D.2.1 g3]
theorem i_vc_multiplicity {k : Nat} {u : SX} {v : SY} (I : i_Rel k u v) (hk : k + 3 ≤ 1538) (v1 : Int32) (v2 : Int32) : wpX_multiplicity (fun r => wpY_multiplicity (fun r' => r' = r ∧ i_Rel (k + 3) u v) v v1 v2) u v1 v2 := by
  refine qr_el (Q := fun u v => wpX_multiplicity (fun r => wpY_multiplicity (fun r' => r' = r ∧ i_Rel (k + 3) u v) v v1 v2) u v1 v2) I ?_
  intro NL JL n w m xop xnd xtc xec xsr xar xtk xdp xau xwt xsj xpr xpn xsc xty xmk xcd xai xts xtz xen xcx xsz ysj ypr ypl ysc ypd ygn ysm F
  have hm := qr_m64 F
  unfold wpX_multiplicity wpY_multiplicity
  dsimp only
  rcases qr_ix v1 hm with c | ⟨j, hj, rfl⟩
  · exact qx_has0 c (br_t rfl (qw_kn0 c (br_t rfl ⟨rfl, qr_in F⟩)))
  · obtain ⟨hz, _, fin, HX, HY, _, tc, ec, cod, st, ty, dom, W, D, hs⟩ := F.2.2.2 (by omega)
    have T := qt_whole F.2.2.1 hz
    obtain ⟨tr, en, ok⟩ := qm_finT T fin
    obtain ⟨g1, g2, g3, _⟩ := D.2.2.2.2 j (by omega) hj
    have htc := qx_tc en D
    have hv : vp_in (nI j) 64 := vp_in_nI (by omega) (by omega)
    have hYY := qw_YM T fin HY
    obtain ⟨_, _, y1, y2, _⟩ := HY j (by omega)
    have hlen := qm_Plen tr j hj
    rw [nI_clamp (show j < 2 ^ 31 by omega), g1, y1]
    refine qx_has1 hm hj (br_f (by decide) ⟨hv, nm_e ?_⟩)
    rw [nI_clamp (show ty j < 2 ^ 31 by omega), qy_ari D.2.1 g3]
    by_cases h0 : v2 < 0
    · exact br_t h0 (qw_kn1 hm hj (br_f (by decide) (br_t h0 ⟨rfl, qr_in F⟩)))
    · obtain ⟨i, hi, rfl⟩ := nI_of h0
      refine br_f h0 ⟨vp_in_nI (by omega) (by omega), pk_lt i (qm_P xtk (qt_au xau) j).length (fun c => ?_) (fun c => ?_) rfl rfl (by omega) (by omega)⟩
      · obtain ⟨a, ea⟩ := qa_get (L := qm_P xtk (qt_au xau) j) (i := i) c
        have ha := ((qm_ab tr j hj).1 a (qa_mem ea)).1
        refine ⟨i + 1, qx_mul36 (D := qy_D m (qm_R xtk (qt_au xau)) ty) (a := a) htc (by omega) D.2.1 ?_ (i + 1) 0 _ _ (by omega) (by omega) ea g3⟩
        refine qw_kn1 hm hj (br_f (by decide) (br_f h0 ⟨hv, br_t (nI_lt c (by omega)) ?_⟩))
        rw [qw_m64, nI_add, nI_clamp (show j * 64 + i < 2 ^ 31 by omega), y2 i a ea]
        refine ⟨vp_in_nI (by omega) (by omega), qw_mema (by omega) hYY ⟨?_, qr_in F⟩⟩
        rw [qy_len]; rfl
      · refine qw_kn1 hm hj (br_f (by decide) (br_f h0 ⟨hv, br_f (nI_nlt c hi) ⟨rfl, qr_in F⟩⟩))
theorem i_vc_sameType {k : Nat} {u : SX} {v : SY} (I : i_Rel k u v) (hk : k + 3 ≤ 1538) (v1 : Int32) (v2 : Int32) : wpX_sameType (fun r => wpY_sameType (fun r' => r' = r ∧ i_Rel (k + 3) u v) v v1 v2) u v1 v2 := by
  refine qr_el (Q := fun u v => wpX_sameType (fun r => wpY_sameType (fun r' => r' = r ∧ i_Rel (k + 3) u v) v v1 v2) u v1 v2) I ?_
  intro NL JL n w m xop xnd xtc xec xsr xar xtk xdp xau xwt xsj xpr xpn xsc xty xmk xcd xai xts xtz xen xcx xsz ysj ypr ypl ysc ypd ygn ysm F
  have hm := qr_m64 F
  unfold wpX_sameType wpY_sameType
  dsimp only
  rcases qr_ix v1 hm with c | ⟨j, hj, rfl⟩
  · exact qx_has0 c (br_t rfl (qw_kn0 c (br_t rfl ⟨rfl, qr_in F⟩)))
  · refine qx_has1 hm hj (br_f (by decide) ?_)
    rcases qr_ix v2 hm with c | ⟨j', hj', rfl⟩
    · exact qx_has0 c (br_t rfl (qw_kn1 hm hj (br_f (by decide) (qw_kn0 c (br_t rfl ⟨rfl, qr_in F⟩)))))
    · obtain ⟨hz, _, fin, HX, HY, _, tc, ec, cod, st, ty, dom, W, D, hs⟩ := F.2.2.2 (by omega)
      obtain ⟨tr, en, ok⟩ := qm_finT (qt_whole F.2.2.1 hz) fin
      obtain ⟨g1, g2, _⟩ := D.2.2.2.2 j (by omega) hj
      obtain ⟨g1', g2', _⟩ := D.2.2.2.2 j' (by omega) hj'
      have htc := qx_tc en D
      refine qx_has1 hm hj' (br_f (by decide) ⟨vp_in_nI (by omega) (by omega), vp_in_nI (by omega) (by omega), ?_⟩)
      rw [nI_clamp (show j < 2 ^ 31 by omega), nI_clamp (show j' < 2 ^ 31 by omega), g1, g1', qw_m64, nI_add, nI_clamp (show j * 64 + j' < 2 ^ 31 by omega), hs j j' hj hj']
      have hv : vp_in (nI (j * 64 + j')) 4096 := vp_in_nI (by omega) (by omega)
      refine pk_eq (ty j) (ty j') (fun c => ?_) (fun c => ?_) rfl rfl (by omega) (by omega)
      · rw [decide_eq_true c]
        exact qw_kn1 hm hj (br_f (by decide) (qw_kn1 hm hj' (br_f (by decide) ⟨hv, br_f (by decide) ⟨rfl, qr_in F⟩⟩)))
      · rw [decide_eq_false c]
        exact qw_kn1 hm hj (br_f (by decide) (qw_kn1 hm hj' (br_f (by decide) ⟨hv, br_t rfl ⟨rfl, qr_in F⟩⟩)))
theorem i_vc_struck {k : Nat} {u : SX} {v : SY} (I : i_Rel k u v) (hk : k + 3 ≤ 1538) (v1 : Int32) : wpX_struck (fun r => wpY_struck (fun r' => r' = r ∧ i_Rel (k + 3) u v) v v1) u v1 := by
  refine qr_el (Q := fun u v => wpX_struck (fun r => wpY_struck (fun r' => r' = r ∧ i_Rel (k + 3) u v) v v1) u v1) I ?_
  intro NL JL n w m xop xnd xtc xec xsr xar xtk xdp xau xwt xsj xpr xpn xsc xty xmk xcd xai xts xtz xen xcx xsz ysj ypr ypl ysc ypd ygn ysm F
  have hm := qr_m64 F
  unfold wpX_struck wpY_struck
  dsimp only
  rcases qr_ix v1 hm with c | ⟨j, hj, rfl⟩
  · exact qx_has0 c (br_t rfl (qw_kn0 c (br_t rfl ⟨rfl, qr_in F⟩)))
  · obtain ⟨_, _, fin, HX, HY, hg, _⟩ := F.2.2.2 (by omega)
    have hv : vp_in (nI j) 64 := vp_in_nI (by omega) (by omega)
    rw [nI_clamp (show j < 2 ^ 31 by omega), (hg j hj).1]
    refine qx_has1 hm hj (br_f (by decide) ⟨hv, br_c (fun c => ?_) (fun c => ?_)⟩)
    · exact qw_kn1 hm hj (br_f (by decide) ⟨hv, br_t c ⟨rfl, qr_in F⟩⟩)
    · exact qw_kn1 hm hj (br_f (by decide) ⟨hv, br_f c ⟨rfl, qr_in F⟩⟩)
theorem qr_mark {NL JL n w m : Nat} {xop xnd : Int32} {xtk xdp xau xwt xsj xpr xpn xsc xty xmk xcd xai xts xtz xen xcx xsz ysj ypr ypl ysc ypd ygn ysm : Nat → Int32} (F : qr_I NL JL n w m xop xnd xtk xdp xau xwt xsj xpr xpn xsc xty xmk xcd xai xts xtz xen xcx xsz ysj ypr ypl ysc ypd ygn ysm) {j : Nat} {x : Int32} (hx : x = 0 ∨ x = 1) : qr_I NL JL n w m xop xnd xtk xdp xau xwt xsj xpr xpn xsc xty (upd xmk j x) xcd xai xts xtz xen xcx xsz ysj ypr ypl ysc ypd (upd ygn j x) ysm := by
  obtain ⟨f1, f2, f3, f4⟩ := F
  refine ⟨f1, f2, f3, fun hm => ?_⟩
  obtain ⟨a1, a2, a3, a4, a5, a6, a7⟩ := f4 hm
  refine ⟨a1, a2, a3, a4, a5, fun j' hj' => ?_, a7⟩
  by_cases e : j' = j
  · subst e; rw [qf_us, qf_us]; exact ⟨rfl, hx⟩
  · rw [qf_un e, qf_un e]; exact a6 j' hj'
theorem i_vc_strike {k : Nat} {u : SX} {v : SY} (I : i_Rel k u v) (hk : k + 3 ≤ 1538) (v1 : Int32) : wpX_strike (fun r u' => wpY_strike (fun r' v' => r' = r ∧ i_Rel (k + 3) u' v') v v1) u v1 := by
  refine qr_el (Q := fun u v => wpX_strike (fun r u' => wpY_strike (fun r' v' => r' = r ∧ i_Rel (k + 3) u' v') v v1) u v1) I ?_
  intro NL JL n w m xop xnd xtc xec xsr xar xtk xdp xau xwt xsj xpr xpn xsc xty xmk xcd xai xts xtz xen xcx xsz ysj ypr ypl ysc ypd ygn ysm F
  have hm := qr_m64 F
  unfold wpX_strike wpY_strike
  dsimp only
  rcases qr_ix v1 hm with c | ⟨j, hj, rfl⟩
  · exact qx_has0 c (br_t rfl (qw_kn0 c (br_t rfl ⟨rfl, qr_in F⟩)))
  · obtain ⟨_, _, fin, HX, HY, hg, _⟩ := F.2.2.2 (by omega)
    have hv : vp_in (nI j) 64 := vp_in_nI (by omega) (by omega)
    unfold wX_strike_29 wY_strike_29
    rw [nI_clamp (show j < 2 ^ 31 by omega), (hg j hj).1]
    refine qx_has1 hm hj (br_f (by decide) ⟨hv, br_c (fun c => ?_) (fun c => ?_)⟩)
    · refine ⟨hv, nm_r (e' := upd xmk j 1) rfl ⟨hv, br_f (by rw [qf_us]; decide) ?_⟩⟩
      refine qw_kn1 hm hj (br_f (by decide) ⟨hv, br_t c ⟨hv, nm_r (e' := upd ygn j 1) rfl ⟨hv, br_f (by rw [qf_us]; decide) ⟨rfl, qr_in (qr_mark F (Or.inr rfl))⟩⟩⟩⟩)
    · refine ⟨hv, nm_r (e' := upd xmk j 0) rfl ⟨hv, br_t (by rw [qf_us]) ?_⟩⟩
      refine qw_kn1 hm hj (br_f (by decide) ⟨hv, br_f c ⟨hv, nm_r (e' := upd ygn j 0) rfl ⟨hv, br_t (by rw [qf_us]) ⟨rfl, qr_in (qr_mark F (Or.inl rfl))⟩⟩⟩⟩)
theorem i_vc_steps {k : Nat} {u : SX} {v : SY} (I : i_Rel k u v) (hk : k + 3 ≤ 1538) : wpX_steps (fun r => wpY_steps (fun r' => r' = r ∧ i_Rel (k + 3) u v) v) u := by
  refine qr_el (Q := fun u v => wpX_steps (fun r => wpY_steps (fun r' => r' = r ∧ i_Rel (k + 3) u v) v) u) I ?_
  intro NL JL n w m xop xnd xtc xec xsr xar xtk xdp xau xwt xsj xpr xpn xsc xty xmk xcd xai xts xtz xen xcx xsz ysj ypr ypl ysc ypd ygn ysm F
  have hm := qr_m64 F
  unfold wpX_steps wpY_steps
  dsimp only
  by_cases h0 : m = 0
  · subst h0
    refine br_t rfl ⟨1, ?_⟩
    rw [wY_steps_4]
    exact br_t (by decide) (br_t rfl ⟨rfl, qr_in F⟩)
  · obtain ⟨hz, _, fin, HX, HY, hg, _⟩ := F.2.2.2 h0
    have T := qt_whole F.2.2.1 hz
    obtain ⟨tr, en, ok⟩ := qm_finT T fin
    have hn := T.2.1
    refine br_f (nI_ne0 (by omega) (by omega)) (qx_cwt (S := qm_S xtk (qt_au xau)) hm (fun k hk => ⟨by have := (ok k hk).1; omega, (HX k (by omega)).1⟩) ?_)
    refine ⟨m + 1, qw_st4 (S := qm_S xtk (qt_au xau)) (P := qm_P xtk (qt_au xau)) hm (by omega) (fun k hk => ⟨by have := (ok k hk).1; omega, (HY k (by omega)).1, (HY k (by omega)).2.2.1, qm_Plen tr k hk⟩) ⟨?_, qr_in F⟩ (m + 1) 0 (by omega) (by omega)⟩
    rw [qr_steps T fin, nI_pred]
end
section
/-! ===== context ===== -/
section
variable {xnl xjl xnc xop xnd xwc xct xtc xec xsr xar : Int32} {xtk xdp xau xwt xsj xpr xpn xsc xty xmk xcd xai xts xtz xen xcx xsz : Nat → Int32}
theorem qx_ctx36 {post : Int32 → Prop} {k i : Nat} {W : List Nat} (hk : k < 64) (hi : i < 64) (hl : W.length < 64) (hb : ∀ x, x ∈ W → x < 4160) (hA : qy_At xcx xsz k W) (hP : post (nI (W.countP (fun x => decide (x / 64 = i))))) :
    ∀ n c, W.length - c < n → c ≤ W.length → wX_context_36 post (nI k) (nI i) xnl xjl xnc xop xnd xwc xct xtc xec xsr xar xtk xdp xau xwt xsj xpr xpn xsc xty xmk xcd xai xts xtz xen xcx xsz n (nI ((W.take c).countP (fun x => decide (x / 64 = i)))) (nI c) := by
  intro n
  induction n with
  | zero => intro c h; omega
  | succ n ih =>
    intro c g1 g2
    rw [wX_context_36]
    rw [nI_clamp (show k < 2 ^ 31 by omega), hA.1]
    refine ⟨vp_in_nI (by omega) (by omega), pk_le W.length c (fun h => ?_) (fun h => ?_) rfl rfl (by omega) (by omega)⟩
    · rw [List.take_of_length_le h]; exact hP
    · obtain ⟨x, ex⟩ := qa_get (L := W) (i := c) h
      have hx := hb x (qa_mem ex)
      have key := ih (c + 1) (by omega) (by omega)
      rw [List.take_succ, ex, Option.toList_some, List.countP_append, List.countP_singleton] at key
      rw [qw_m64, nI_add, nI_clamp (show k * 64 + c < 2 ^ 31 by omega), hA.2 c x ex, show nI x / 64 = nI (x / 64) from pk_div (a := x) (d := 64) (by omega) (by omega) (by omega)]
      refine ⟨vp_in_nI (by omega) (by omega), by decide, pk_eq (x / 64) i (fun e => ?_) (fun e => ?_) rfl rfl (by omega) (by omega)⟩
      · rw [if_pos (decide_eq_true e)] at key
        exact nm_r (nI_1 _) (nm_r (nI_1 c) key)
      · rw [if_neg (by simpa using e)] at key
        exact nm_r (nI_1 c) key
end
section
variable {ynl yjl ync yct : Int32} {ytk ysj ypr ypl ysc ypd ygn ysm : Nat → Int32}
variable {m : Nat} {au kd S R : Nat → Nat} {P C : Nat → List Nat}
theorem qw_rc5 {post : Int32 → Prop} (T : qm_TR m au kd S P C R) (E : qm_en m kd P) {k : Nat} (hk : k < m) (hR : ∀ x, 0 < x → x < m → ypr x = nI (R x)) : ∀ n x c, x < n → x + c ≤ 63 → x < m → post (qw_01 (decide (qm_up R k x x = k))) → wY_reaches_5 post (nI k) ynl yjl ync yct ytk ysj ypr ypl ysc ypd ygn ysm n (nI x) (nI c) := by
  have hm := E.2.1
  intro n
  induction n with
  | zero => intro x c h; omega
  | succ n ih =>
    intro x c g1 g2 g3 hP
    rw [wY_reaches_5]
    refine br_f (show ¬ (64 : Int32) ≤ nI c from nI_ge (a := c) (b := 64) (by omega) (by omega)) ?_
    refine pk_le x k (fun h => ?_) (fun h => ?_) rfl rfl (by omega) (by omega)
    · unfold wY_reaches_30
      have e : qm_up R k x x = x := by
        cases x with
        | zero => rfl
        | succ x => exact if_pos h
      rw [e] at hP
      refine pk_eq x k (fun c => ?_) (fun c => ?_) rfl rfl (by omega) (by omega)
      · rw [decide_eq_true c] at hP; exact hP
      · rw [decide_eq_false c] at hP; exact hP
    · have hlt := qm_Rlt T E (by omega) g3
      have e : decide (qm_up R k x x = k) = decide (qm_up R k (R x) (R x) = k) := decide_eq_decide.mpr (qm_rc_st T E h g3)
      rw [e] at hP
      rw [nI_clamp (show x < 2 ^ 31 by omega), hR x (by omega) g3]
      exact ⟨vp_in_nI (by omega) (by omega), nm_e (nm_r (nI_1 c) (ih (R x) (c + 1) (by omega) (by omega) (by omega) hP))⟩
theorem qw_rc {post : Int32 → Prop} (T : qm_TR m au kd S P C R) (E : qm_en m kd P) {k v : Nat} (hk : k < m) (hv : v < m) (hR : ∀ x, 0 < x → x < m → ypr x = nI (R x)) (hP : post (qw_01 (decide (qm_up R k v v = k)))) : wpY_reaches post (ynl, yjl, ync, yct, ytk, ysj, ypr, ypl, ysc, ypd, ygn, ysm) (nI k) (nI v) := by
  unfold wpY_reaches
  exact ⟨v + 1, qw_rc5 T E hk hR (v + 1) v 0 (by omega) (by have := E.2.1; omega) hv hP⟩
theorem qw_ctx33 {post : Int32 → Prop} (T : qm_TR m au kd S P C R) (E : qm_en m kd P) {k i c0 : Nat} {H : Nat → Nat} (hk : k < m) (hi : i < 32) (hc0 : c0 < 64) (hR : ∀ x, 0 < x → x < m → ypr x = nI (R x)) (hki : ysc (k * 32 + i) = nI c0)
    (hV : ∀ v, v < m → S v < 32 ∧ ysj v = nI (S v) ∧ ((2 ≤ kd v ∧ ∃ t, t < 32 ∧ ytk (S v) = nI t ∧ ysc (v * 32 + t) = nI (H v) ∧ H v < 64) ∨ (kd v < 2 ∧ ytk (S v) < 0)))
    (hP : post (nI (qa_cn (fun v => decide (2 ≤ kd v) && (decide (H v = c0) && decide (qm_up R k v v = k))) m))) :
    ∀ n v, m - v < n → v ≤ m → wY_context_33 post (nI k) (nI i) ynl yjl ync (nI m) ytk ysj ypr ypl ysc ypd ygn ysm n (nI (qa_cn (fun v => decide (2 ≤ kd v) && (decide (H v = c0) && decide (qm_up R k v v = k))) v)) (nI v) := by
  have hm := E.2.1
  intro n
  induction n with
  | zero => intro v h; omega
  | succ n ih =>
    intro v g1 g2
    rw [wY_context_33]
    refine pk_le m v (fun h => ?_) (fun h => ?_) rfl rfl (by omega) (by omega)
    · have e : v = m := by omega
      subst e; exact hP
    · obtain ⟨s1, s2, s3⟩ := hV v h
      have key := ih (v + 1) (by omega) (by omega)
      simp only [qa_cn] at key
      rw [nI_clamp (show v < 2 ^ 31 by omega), s2, nI_clamp (show S v < 2 ^ 31 by omega)]
      refine ⟨vp_in_nI (by omega) (by omega), vp_in_nI s1 (by omega), nm_e ?_⟩
      rcases s3 with ⟨s4, t, t1, t2, t3, t4⟩ | ⟨s4, s5⟩
      · rw [t2]
        refine br_f (nI_pos (by omega)) ?_
        rw [qw_m32, qw_m32, nI_add, nI_add, nI_clamp (show v * 32 + t < 2 ^ 31 by omega), nI_clamp (show k * 32 + i < 2 ^ 31 by omega), t3, hki]
        refine ⟨vp_in_nI (by omega) (by omega), vp_in_nI (by omega) (by omega), pk_eq (H v) c0 (fun c => ?_) (fun c => ?_) rfl rfl (by omega) (by omega)⟩
        · refine qw_rc T E hk h hR ?_
          by_cases d : qm_up R k v v = k
          · rw [decide_eq_true d]
            rw [if_pos (by simp [s4, c, d])] at key
            exact br_f (by decide) (nm_r (nI_1 _) (nm_r (nI_1 v) key))
          · rw [decide_eq_false d]
            rw [if_neg (by simp [d])] at key
            exact br_t rfl (nm_r (nI_1 v) key)
        · rw [if_neg (by simp [c])] at key
          exact nm_r (nI_1 v) key
      · rw [if_neg (by rw [decide_eq_false (show ¬ 2 ≤ kd v by omega)]; simp)] at key
        exact br_t s5 (nm_r (nI_1 v) key)
end
/-- the uses of one index, counted by codes and counted by cells -/
theorem qr_uses {m : Nat} {au kd S R : Nat → Nat} {P C : Nat → List Nat} {ty : Nat → Nat} (T : qm_TR m au kd S P C R) (E : qm_en m kd P) {k i l : Nat} {W : List Nat} (hk : k < m) (hl : (C k)[i]? = some l) (hW : qc_Row m kd R C ty k W) (ht : ∀ v, v ∈ qc_U m kd R C k → ty v < 64) :
    W.countP (fun x => decide (x / 64 = i)) = qa_cn (fun v => decide (2 ≤ kd v) && (decide (qm_hd P (qm_cl kd C v) = qm_hd P l) && decide (qm_up R k v v = k))) m := by
  rw [hW.2.countP_eq, List.countP_map, List.countP_eq_length_filter]
  refine qa_len (List.Nodup.sublist List.filter_sublist (qc_U_nd k)) fun v => ?_
  rw [List.mem_filter]
  simp only [Function.comp, decide_eq_true_eq, Bool.and_eq_true]
  constructor
  · rintro ⟨h1, h2⟩
    obtain ⟨a1, a2, a3, a4⟩ := qc_U_mem.mp h1
    have h3 := ht v h1
    unfold qc_cd at h2
    have e : (C k).idxOf (qm_cl kd C v) = i := by omega
    have hlt := List.idxOf_lt_length_of_mem a4
    have g := List.getElem_idxOf hlt
    have : (C k)[i]? = some (qm_cl kd C v) := by
      rw [← e, List.getElem?_eq_getElem hlt, g]
    rw [hl] at this
    injection this with this
    exact ⟨a1, a2, by rw [this], a3⟩
  · rintro ⟨a1, a2, a3, a4⟩
    obtain ⟨c1, c2, c3, _⟩ := qm_cell T a1 (qm_var T E a1 a2).2.2.1
    obtain ⟨d1, d2, d3, _⟩ := qm_cell T hk (qa_mem hl)
    have e := qm_inj T c2 d2 c3 d3 a3
    have hU : v ∈ qc_U m kd R C k := qc_U_mem.mpr ⟨a1, a2, a4, by rw [e]; exact qa_mem hl⟩
    refine ⟨hU, ?_⟩
    unfold qc_cd
    rw [e, qa_idx (qm_Cnd T k hk) hl]
    have := ht v hU
    omega
theorem i_vc_context {k : Nat} {u : SX} {v : SY} (I : i_Rel k u v) (hk : k + 3 ≤ 1538) (v1 : Int32) (v2 : Int32) : wpX_context (fun r => wpY_context (fun r' => r' = r ∧ i_Rel (k + 3) u v) v v1 v2) u v1 v2 := by
  refine qr_el (Q := fun u v => wpX_context (fun r => wpY_context (fun r' => r' = r ∧ i_Rel (k + 3) u v) v v1 v2) u v1 v2) I ?_
  intro NL JL n w m xop xnd xtc xec xsr xar xtk xdp xau xwt xsj xpr xpn xsc xty xmk xcd xai xts xtz xen xcx xsz ysj ypr ypl ysc ypd ygn ysm F
  have hm := qr_m64 F
  unfold wpX_context wpY_context
  dsimp only
  rcases qr_ix v1 hm with c | ⟨j, hj, rfl⟩
  · exact qx_has0 c (br_t rfl (qw_kn0 c (br_t rfl ⟨rfl, qr_in F⟩)))
  · obtain ⟨hz, _, fin, HX, HY, _, tc, ec, cod, st, ty, dom, W, D, hs⟩ := F.2.2.2 (by omega)
    have T := qt_whole F.2.2.1 hz
    obtain ⟨tr, en, ok⟩ := qm_finT T fin
    have hn := T.2.1
    obtain ⟨o1, o2⟩ := ok j hj
    obtain ⟨x1, _⟩ := HX j (by omega)
    obtain ⟨y1, _, _, _, y5⟩ := HY j (by omega)
    have hdp := qt_dp_le xtk (qm_S xtk (qt_au xau) j)
    obtain ⟨_, _, _, g4, g5⟩ := D.2.2.2.2 j (by omega) hj
    obtain ⟨rb1, rb2⟩ := qx_rowb tr en D (j := j) (by omega) hj
    have hv : vp_in (nI j) 64 := vp_in_nI (by omega) (by omega)
    have hd := (F.2.2.1.2.2.2.2.2.2.1 _ o1).1
    rw [nI_clamp (show j < 2 ^ 31 by omega), x1, y1, nI_clamp (show qm_S xtk (qt_au xau) j < 2 ^ 31 by omega), hd]
    refine qx_has1 hm hj (br_f (by decide) ?_)
    by_cases h0 : v2 < 0
    · exact br_t h0 (qw_kn1 hm hj (br_f (by decide) (br_t h0 ⟨rfl, qr_in F⟩)))
    · obtain ⟨i, hi, rfl⟩ := nI_of h0
      refine br_f h0 ⟨hv, vp_in_nI (by omega) (by omega), pk_lt i (qt_dp xtk (qm_S xtk (qt_au xau) j)) (fun c => ?_) (fun c => ?_) rfl rfl (by omega) (by omega)⟩
      · obtain ⟨l, hl⟩ := qa_get (L := qm_C xtk (qt_au xau) j) (i := i) (by omega)
        have hcell := qm_cell tr hj (qa_mem hl)
        refine ⟨(W j).length + 1, qx_ctx36 (W := W j) (by omega) (by omega) (by omega) rb1 g5 ?_ _ 0 (by omega) (by omega)⟩
        refine qw_kn1 hm hj (br_f (by decide) (br_f h0 ⟨hv, qw_depth (by omega) (br_t (nI_lt c (by omega)) ⟨m + 1, ?_⟩)⟩))
        refine qw_ctx33 (c0 := qm_hd (qm_P xtk (qt_au xau)) l) (H := fun v => qm_hd (qm_P xtk (qt_au xau)) (qm_cl (qm_K xtk (qt_au xau)) (qm_C xtk (qt_au xau)) v)) tr en hj (by omega) (by omega) (fun x h1 h2 => ?_) (y5 i l hl) (fun v hv => ?_) ⟨?_, qr_in F⟩ (m + 1) 0 (by omega) (by omega)
        · rw [(HY x (by omega)).2.1, if_neg (by omega)]
        · have okv := (ok v hv).1
          refine ⟨by omega, (HY v (by omega)).1, ?_⟩
          rcases Nat.lt_or_ge (qm_K xtk (qt_au xau) v) 2 with z | z
          · right
            refine ⟨z, ?_⟩
            rcases T.2.2 _ okv with ⟨a, _⟩ | ⟨a, _⟩ | ⟨i', i1, a⟩
            · rw [a]; decide
            · rw [a]; decide
            · have : qm_K xtk (qt_au xau) v = i' + 2 := by
                show qm_kd (xtk (qm_S xtk (qt_au xau) v)) = i' + 2
                rw [a]; exact qm_kdV (by have := qt_dp_le xtk (qm_S xtk (qt_au xau) v); omega)
              omega
          · left
            obtain ⟨w1, w2, w3, _⟩ := qm_var tr en hv z
            obtain ⟨t1, t2, t3⟩ := qm_tokV T okv (i := qm_K xtk (qt_au xau) v - 2) (by show qm_K xtk (qt_au xau) v = _; omega)
            have hc := qm_cell tr hv w3
            exact ⟨z, _, t3, t1, (HY v (by omega)).2.2.2.2 _ _ w2, by omega⟩
        · rw [qr_uses tr en hj hl g4 (qx_tyb en D (by omega))]
      · exact qw_kn1 hm hj (br_f (by decide) (br_f h0 ⟨hv, qw_depth (by omega) (br_f (nI_nlt c hi) ⟨rfl, qr_in F⟩)⟩))
end
section
/-! ===== the checker: counting live premises ===== -/
theorem qa_cn_one {p : Nat → Bool} {m q : Nat} (hq : q < m) (h : ∀ v, v < m → (p v = true ↔ v = q)) : qa_cn p m = 1 := by
  have := qa_len (L := [q]) (p := p) (n := m) (List.nodup_cons.mpr ⟨List.not_mem_nil, List.nodup_nil⟩) (fun v => by
    rw [List.mem_singleton]
    constructor
    · intro e; subst e; exact ⟨hq, (h v hq).mpr rfl⟩
    · rintro ⟨a, b⟩; exact (h v a).mp b)
  exact this.symm
theorem qa_cn_zero {p : Nat → Bool} {m : Nat} (h : ∀ v, v < m → p v = false) : qa_cn p m = 0 := by
  induction m with
  | zero => rfl
  | succ m ih => simp only [qa_cn, ih (fun v hv => h v (by omega)), h m (by omega)]; rfl
theorem qa_cn_two {p q r : Nat → Bool} {m : Nat} (h : ∀ v, v < m → (r v = true ↔ (p v = true ∨ q v = true)) ∧ ¬ (p v = true ∧ q v = true)) : qa_cn p m + qa_cn q m = qa_cn r m := by
  induction m with
  | zero => rfl
  | succ m ih =>
    have h1 := ih (fun v hv => h v (by omega))
    obtain ⟨h2, h3⟩ := h m (by omega)
    simp only [qa_cn]
    by_cases hp : p m = true
    · have hq : q m = false := by
        cases hh : q m with
        | false => rfl
        | true => exact absurd ⟨hp, hh⟩ h3
      simp [hp, hq, h2.mpr (Or.inl hp)]; omega
    · by_cases hq : q m = true
      · simp [hp, hq, h2.mpr (Or.inr hq)]; omega
      · have hr : r m = false := by
          cases hh : r m with
          | false => rfl
          | true => exact absurd (h2.mp hh) (by simp [hp, hq])
        simp [hp, hq, hr]; omega
section
variable {xnl xjl xnc xop xnd xwc xct xtc xec xsr xar : Int32} {xtk xdp xau xwt xsj xpr xpn xsc xty xmk xcd xai xts xtz xen xcx xsz : Nat → Int32}
theorem qx_cl6 {post : Int32 → Prop} {k m : Nat} {lv : Nat → Bool} (hm : m ≤ 64) (hlv : ∀ p, p < m → ((xpr p = nI k ∧ xmk p = 0) ↔ lv p = true)) (hP : post (nI (qa_cn lv m))) :
    ∀ n p, m - p < n → p ≤ m → wX_countLive_6 post (nI k) xnl xjl xnc xop xnd xwc (nI m) xtc xec xsr xar xtk xdp xau xwt xsj xpr xpn xsc xty xmk xcd xai xts xtz xen xcx xsz n (nI (qa_cn lv p)) (nI p) := by
  intro n
  induction n with
  | zero => intro p h; omega
  | succ n ih =>
    intro p g1 g2
    rw [wX_countLive_6]
    refine pk_le m p (fun h => ?_) (fun h => ?_) rfl rfl (by omega) (by omega)
    · have e : p = m := by omega
      subst e; exact hP
    · have key := ih (p + 1) (by omega) (by omega)
      simp only [qa_cn] at key
      refine qx_live (b := lv p) (by omega) (hlv p h) ?_
      by_cases hb : lv p = true
      · rw [if_pos hb] at key
        rw [hb]
        exact br_f (by decide) (nm_r (nI_1 _) (nm_r (nI_1 p) key))
      · rw [if_neg hb] at key
        rw [show lv p = false by simpa using hb]
        exact br_t rfl (nm_r (nI_1 p) key)
theorem qx_lo {k m : Nat} {lv : Nat → Bool} (hk : k < m) (hlo : ∀ p, p < m → lv p = true → k < p) : qa_cn lv (k + 1) = 0 := qa_cn_zero fun v hv => by
  cases hh : lv v with
  | false => rfl
  | true => have := hlo v (by omega) hh; omega
theorem qx_cl {post : Int32 → Prop} {k m : Nat} {lv : Nat → Bool} (hm : m ≤ 64) (hk : k < m) (hlv : ∀ p, p < m → ((xpr p = nI k ∧ xmk p = 0) ↔ lv p = true)) (hlo : ∀ p, p < m → lv p = true → k < p) (hP : post (nI (qa_cn lv m))) : wpX_countLive post (xnl, xjl, xnc, xop, xnd, xwc, (nI m), xtc, xec, xsr, xar, xtk, xdp, xau, xwt, xsj, xpr, xpn, xsc, xty, xmk, xcd, xai, xts, xtz, xen, xcx, xsz) (nI k) := by
  unfold wpX_countLive
  dsimp only
  refine nm_r (nI_1 k) ⟨m + 1, ?_⟩
  have := qx_cl6 (xnl := xnl) (xjl := xjl) (xnc := xnc) (xop := xop) (xnd := xnd) (xwc := xwc) (xtc := xtc) (xec := xec) (xsr := xsr) (xar := xar) (xtk := xtk) (xdp := xdp) (xau := xau) (xwt := xwt) (xsj := xsj) (xpn := xpn) (xsc := xsc) (xty := xty) (xcd := xcd) (xai := xai) (xts := xts) (xtz := xtz) (xen := xen) (xcx := xcx) (xsz := xsz) hm hlv hP (m + 1) (k + 1) (by omega) (by omega)
  rw [qx_lo hk hlo] at this
  exact this
theorem qx_ca7 {post : Int32 → Prop} {k m node : Nat} {S : Nat → Nat} {lv : Nat → Bool} (hm : m ≤ 64) (hnode : node < 64) (hS : ∀ p, p < m → S p < 32 ∧ xsj p = nI (S p)) (hlv : ∀ p, p < m → ((xpr p = nI k ∧ xmk p = 0) ↔ lv p = true)) (hP : post (nI (qa_cn (fun p => lv p && decide (S p = node)) m))) :
    ∀ n p, m - p < n → p ≤ m → wX_countAbout_7 post (nI k) (nI node) xnl xjl xnc xop xnd xwc (nI m) xtc xec xsr xar xtk xdp xau xwt xsj xpr xpn xsc xty xmk xcd xai xts xtz xen xcx xsz n (nI (qa_cn (fun p => lv p && decide (S p = node)) p)) (nI p) := by
  intro n
  induction n with
  | zero => intro p h; omega
  | succ n ih =>
    intro p g1 g2
    rw [wX_countAbout_7]
    refine pk_le m p (fun h => ?_) (fun h => ?_) rfl rfl (by omega) (by omega)
    · have e : p = m := by omega
      subst e; exact hP
    · have key := ih (p + 1) (by omega) (by omega)
      simp only [qa_cn] at key
      obtain ⟨s1, s2⟩ := hS p h
      rw [nI_clamp (show p < 2 ^ 31 by omega), s2]
      refine qx_live (b := lv p) (by omega) (hlv p h) ?_
      by_cases hb : lv p = true
      · rw [hb]
        refine br_f (by decide) ⟨vp_in_nI (by omega) (by omega), pk_eq (S p) node (fun c => ?_) (fun c => ?_) rfl rfl (by omega) (by omega)⟩
        · rw [if_pos (by simp [hb, c])] at key
          exact nm_r (nI_1 _) (nm_r (nI_1 p) key)
        · rw [if_neg (by simp [c])] at key
          exact nm_r (nI_1 p) key
      · rw [if_neg (by simp [hb])] at key
        rw [show lv p = false by simpa using hb]
        exact br_t rfl (nm_r (nI_1 p) key)
theorem qx_ca {post : Int32 → Prop} {k m node : Nat} {S : Nat → Nat} {lv : Nat → Bool} (hm : m ≤ 64) (hk : k < m) (hnode : node < 64) (hS : ∀ p, p < m → S p < 32 ∧ xsj p = nI (S p)) (hlv : ∀ p, p < m → ((xpr p = nI k ∧ xmk p = 0) ↔ lv p = true)) (hlo : ∀ p, p < m → lv p = true → k < p) (hP : post (nI (qa_cn (fun p => lv p && decide (S p = node)) m))) : wpX_countAbout post (xnl, xjl, xnc, xop, xnd, xwc, (nI m), xtc, xec, xsr, xar, xtk, xdp, xau, xwt, xsj, xpr, xpn, xsc, xty, xmk, xcd, xai, xts, xtz, xen, xcx, xsz) (nI k) (nI node) := by
  unfold wpX_countAbout
  dsimp only
  refine nm_r (nI_1 k) ⟨m + 1, ?_⟩
  have := qx_ca7 (xnl := xnl) (xjl := xjl) (xnc := xnc) (xop := xop) (xnd := xnd) (xwc := xwc) (xtc := xtc) (xec := xec) (xsr := xsr) (xar := xar) (xtk := xtk) (xdp := xdp) (xau := xau) (xwt := xwt) (xpn := xpn) (xsc := xsc) (xty := xty) (xcd := xcd) (xai := xai) (xts := xts) (xtz := xtz) (xen := xen) (xcx := xcx) (xsz := xsz) hm hnode hS hlv hP (m + 1) (k + 1) (by omega) (by omega)
  rw [qx_lo hk (fun p h1 h2 => hlo p h1 (by simp at h2; exact h2.1))] at this
  exact this
theorem qx_fa4 {post : Int32 → Prop} {k m node : Nat} {S : Nat → Nat} {lv : Nat → Bool} (hm : m ≤ 64) (hnode : node < 64) (hS : ∀ p, p < m → S p < 32 ∧ xsj p = nI (S p)) (hlv : ∀ p, p < m → ((xpr p = nI k ∧ xmk p = 0) ↔ lv p = true))
    (hP : ∀ p, p < m → lv p = true → S p = node → post (nI p)) (h0 : (∀ p, k < p → p < m → lv p = true → S p ≠ node) → post (-1)) :
    ∀ n p, m - p < n → p ≤ m → (∀ q, k < q → q < p → lv q = true → S q ≠ node) → wX_firstAbout_4 post (nI k) (nI node) xnl xjl xnc xop xnd xwc (nI m) xtc xec xsr xar xtk xdp xau xwt xsj xpr xpn xsc xty xmk xcd xai xts xtz xen xcx xsz n (nI p) := by
  intro n
  induction n with
  | zero => intro p h; omega
  | succ n ih =>
    intro p g1 g2 g3
    rw [wX_firstAbout_4]
    refine pk_le m p (fun h => ?_) (fun h => ?_) rfl rfl (by omega) (by omega)
    · exact h0 fun q h1 h2 => g3 q h1 (by omega)
    · have nx : (lv p = true → S p ≠ node) → wX_firstAbout_4 post (nI k) (nI node) xnl xjl xnc xop xnd xwc (nI m) xtc xec xsr xar xtk xdp xau xwt xsj xpr xpn xsc xty xmk xcd xai xts xtz xen xcx xsz n (nI (p + 1)) := fun hh => ih (p + 1) (by omega) (by omega) fun q h1 h2 => by
        by_cases e : q = p
        · subst e; exact hh
        · exact g3 q h1 (by omega)
      obtain ⟨s1, s2⟩ := hS p h
      rw [nI_clamp (show p < 2 ^ 31 by omega), s2]
      refine qx_live (b := lv p) (by omega) (hlv p h) ?_
      by_cases hb : lv p = true
      · rw [hb]
        refine br_f (by decide) ⟨vp_in_nI (by omega) (by omega), pk_eq (S p) node (fun c => hP p h hb c) (fun c => nm_r (nI_1 p) (nx fun _ => c)) rfl rfl (by omega) (by omega)⟩
      · rw [show lv p = false by simpa using hb]
        exact br_t rfl (nm_r (nI_1 p) (nx fun c => absurd c hb))
theorem qx_fa {post : Int32 → Prop} {k m node : Nat} {S : Nat → Nat} {lv : Nat → Bool} (hm : m ≤ 64) (hk : k < m) (hnode : node < 64) (hS : ∀ p, p < m → S p < 32 ∧ xsj p = nI (S p)) (hlv : ∀ p, p < m → ((xpr p = nI k ∧ xmk p = 0) ↔ lv p = true))
    (hP : ∀ p, p < m → lv p = true → S p = node → post (nI p)) (h0 : (∀ p, k < p → p < m → lv p = true → S p ≠ node) → post (-1)) : wpX_firstAbout post (xnl, xjl, xnc, xop, xnd, xwc, (nI m), xtc, xec, xsr, xar, xtk, xdp, xau, xwt, xsj, xpr, xpn, xsc, xty, xmk, xcd, xai, xts, xtz, xen, xcx, xsz) (nI k) (nI node) := by
  unfold wpX_firstAbout
  dsimp only
  exact nm_r (nI_1 k) ⟨m + 1, qx_fa4 hm hnode hS hlv hP h0 (m + 1) (k + 1) (by omega) (by omega) (fun q h1 h2 => by omega)⟩
theorem qx_ct12 {post : SX → Prop} {k m node : Nat} {S ty : Nat → Nat} {lv : Nat → Bool} (hm : m ≤ 64) (hnode : node < 64) (hS : ∀ p, p < m → S p < 32 ∧ xsj p = nI (S p)) (hty : ∀ p, p < m → ty p < 64 ∧ xty p = nI (ty p)) (hlv : ∀ p, p < m → ((xpr p = nI k ∧ xmk p = 0) ↔ lv p = true)) (hl : qa_cn (fun p => lv p && decide (S p = node)) m < 64)
    (hP : ∀ (cx' sz' : Nat → Int32) (W' : List Nat), W'.Pairwise (· ≤ ·) → W'.Perm ((qa_fl (fun p => lv p && decide (S p = node)) m).map ty) → qy_At cx' sz' 65 W' → qx_out 65 xcx xsz cx' sz' → post (xnl, xjl, xnc, xop, xnd, xwc, (nI m), xtc, xec, xsr, xar, xtk, xdp, xau, xwt, xsj, xpr, xpn, xsc, xty, xmk, xcd, xai, xts, xtz, xen, cx', sz')) :
    ∀ n p cx sz W, m - p < n → p ≤ m → W.Pairwise (· ≤ ·) → W.Perm ((qa_fl (fun p => lv p && decide (S p = node)) p).map ty) → qy_At cx sz 65 W → qx_out 65 xcx xsz cx sz → wX_collectTypes_12 post (nI k) (nI node) n (nI p) xnl xjl xnc xop xnd xwc (nI m) xtc xec xsr xar xtk xdp xau xwt xsj xpr xpn xsc xty xmk xcd xai xts xtz xen cx sz := by
  intro n
  induction n with
  | zero => intro p cx sz W h; omega
  | succ n ih =>
    intro p cx sz W g1 g2 g3 g4 g5 g6
    rw [wX_collectTypes_12]
    dsimp only
    refine pk_le m p (fun h => ?_) (fun h => ?_) rfl rfl (by omega) (by omega)
    · have e : p = m := by omega
      subst e
      exact hP cx sz W g3 g4 g5 g6
    · obtain ⟨s1, s2⟩ := hS p h
      obtain ⟨t1, t2⟩ := hty p h
      have sk : ¬ (lv p = true ∧ S p = node) → wX_collectTypes_12 post (nI k) (nI node) n (nI (p + 1)) xnl xjl xnc xop xnd xwc (nI m) xtc xec xsr xar xtk xdp xau xwt xsj xpr xpn xsc xty xmk xcd xai xts xtz xen cx sz := fun hh => by
        refine ih (p + 1) cx sz W (by omega) (by omega) g3 ?_ g5 g6
        rw [qa_fl_s, if_neg (by simpa using hh), List.append_nil]; exact g4
      rw [nI_clamp (show p < 2 ^ 31 by omega), s2, t2]
      have hv : vp_in (nI p) 64 := vp_in_nI (by omega) (by omega)
      refine qx_live (b := lv p) (by omega) (hlv p h) ?_
      by_cases hb : lv p = true
      · rw [hb]
        refine br_f (by decide) ⟨hv, pk_eq (S p) node (fun c => ⟨hv, ?_⟩) (fun c => nm_r (nI_1 p) (sk fun z => c z.2)) rfl rfl (by omega) (by omega)⟩
        have hfl : qa_fl (fun p => lv p && decide (S p = node)) (p + 1) = qa_fl (fun p => lv p && decide (S p = node)) p ++ [p] := by rw [qa_fl_s, if_pos (by simp [hb, c])]
        have lW : W.length < 64 := by
          rw [g4.length_eq, List.length_map, qa_fl_len]
          have h1 : qa_cn (fun p => lv p && decide (S p = node)) p ≤ qa_cn (fun p => lv p && decide (S p = node)) m := by
            rw [← qa_fl_len, ← qa_fl_len]
            refine List.Nodup.length_le_of_subset (qa_fl_nd _ _) fun v hv => ?_
            obtain ⟨v1, v2⟩ := qa_fl_mem.mp hv
            exact qa_fl_mem.mpr ⟨by omega, v2⟩
          omega
        refine qx_ins (r := 65) (W := W) (by omega) g3 lW (fun x hx => ?_) (by omega) g5 fun cx' sz' W' w1 w2 w3 w4 => ?_
        · obtain ⟨q, hq, e⟩ := List.mem_map.mp (g4.mem_iff.mp hx)
          have := (hty q (by have := (qa_fl_mem.mp hq).1; omega)).1
          omega
        · dsimp only
          refine nm_r (nI_1 p) (ih (p + 1) cx' sz' W' (by omega) (by omega) w1 ?_ w3 (qx_out_tr g6 w4))
          rw [hfl, List.map_append]
          exact w2.trans ((List.Perm.cons _ g4).trans (List.perm_append_singleton (ty p) _).symm)
      · rw [show lv p = false by simpa using hb]
        exact br_t rfl (nm_r (nI_1 p) (sk fun z => hb z.1))
theorem qx_ct {post : SX → Prop} {k m node : Nat} {S ty : Nat → Nat} {lv : Nat → Bool} (hm : m ≤ 64) (hk : k < m) (hnode : node < 64) (hS : ∀ p, p < m → S p < 32 ∧ xsj p = nI (S p)) (hty : ∀ p, p < m → ty p < 64 ∧ xty p = nI (ty p)) (hlv : ∀ p, p < m → ((xpr p = nI k ∧ xmk p = 0) ↔ lv p = true)) (hlo : ∀ p, p < m → lv p = true → k < p) (hl : qa_cn (fun p => lv p && decide (S p = node)) m < 64)
    (hP : ∀ (cx' sz' : Nat → Int32) (W' : List Nat), W'.Pairwise (· ≤ ·) → W'.Perm ((qa_fl (fun p => lv p && decide (S p = node)) m).map ty) → qy_At cx' sz' 65 W' → qx_out 65 xcx xsz cx' sz' → post (xnl, xjl, xnc, xop, xnd, xwc, (nI m), xtc, xec, xsr, xar, xtk, xdp, xau, xwt, xsj, xpr, xpn, xsc, xty, xmk, xcd, xai, xts, xtz, xen, cx', sz')) : wpX_collectTypes post (xnl, xjl, xnc, xop, xnd, xwc, (nI m), xtc, xec, xsr, xar, xtk, xdp, xau, xwt, xsj, xpr, xpn, xsc, xty, xmk, xcd, xai, xts, xtz, xen, xcx, xsz) (nI k) (nI node) := by
  unfold wpX_collectTypes
  dsimp only
  refine nm_e (nm_r (nI_1 k) ⟨m + 1, ?_⟩)
  have h0 : qa_fl (fun p => lv p && decide (S p = node)) (k + 1) = [] := by
    have := qx_lo (lv := fun p => lv p && decide (S p = node)) hk (fun p h1 h2 => hlo p h1 (by simp at h2; exact h2.1))
    rw [← qa_fl_len] at this
    exact List.eq_nil_of_length_eq_zero this
  refine qx_ct12 (xsz := upd xsz 65 0) hm hnode hS hty hlv hl (fun cx' sz' W' a b c d => hP cx' sz' W' a b c (qx_out_tr qx_out_sz d)) (m + 1) (k + 1) xcx (upd xsz 65 0) [] (by omega) (by omega) List.Pairwise.nil (by rw [h0]; exact List.Perm.refl _) ⟨qf_us, fun i x hx => by simp at hx⟩ qx_out_rf
/-- equal rows are found equal -/
theorem qx_sc22 {post : Int32 → Prop} {r s b d : Nat} {V Z : List Nat} (hr : r < 66) (hs : s < 66) (hd : d ≤ 64) (hlV : V.length < 64) (hlZ : Z.length < 64) (hb : b + V.length ≤ Z.length) (hA : qy_At xcx xsz r V) (hZ : qy_At xcx xsz s Z) (hE : ∀ (c x y : Nat), V[c]? = some x → Z[b + c]? = some y → d ≤ y ∧ x = y - d) (hP : post 1) :
    ∀ n c, V.length - c < n → c ≤ V.length → wX_sameCodes_22 post (nI r) (nI s) (nI b) (nI d) xnl xjl xnc xop xnd xwc xct xtc xec xsr xar xtk xdp xau xwt xsj xpr xpn xsc xty xmk xcd xai xts xtz xen xcx xsz n (nI c) := by
  intro n
  induction n with
  | zero => intro c h; omega
  | succ n ih =>
    intro c g1 g2
    rw [wX_sameCodes_22]
    rw [nI_clamp (show r < 2 ^ 31 by omega), hA.1]
    refine ⟨vp_in_nI hr (by omega), pk_le V.length c (fun h => hP) (fun h => ?_) rfl rfl (by omega) (by omega)⟩
    obtain ⟨x, ex⟩ := qa_get (L := V) (i := c) h
    obtain ⟨y, ey⟩ := qa_get (L := Z) (i := b + c) (by omega)
    obtain ⟨e1, e2⟩ := hE c x y ex ey
    rw [qw_m64, qw_m64, nI_add, nI_add, nI_add, nI_clamp (show r * 64 + c < 2 ^ 31 by omega), nI_clamp (show s * 64 + b + c < 2 ^ 31 by omega), hA.2 c x ex, Nat.add_assoc, hZ.2 _ y ey, pk_sub e1, e2]
    exact ⟨vp_in_nI (by omega) (by omega), vp_in_nI (by omega) (by omega), br_t rfl (nm_r (nI_1 c) (ih (c + 1) (by omega) (by omega)))⟩
theorem qx_sc {post : Int32 → Prop} {r s b d : Nat} {V Z : List Nat} (hr : r < 66) (hs : s < 66) (hd : d ≤ 64) (hlV : V.length < 64) (hlZ : Z.length < 64) (hb : b + V.length = Z.length) (hA : qy_At xcx xsz r V) (hZ : qy_At xcx xsz s Z) (hE : ∀ (c x y : Nat), V[c]? = some x → Z[b + c]? = some y → d ≤ y ∧ x = y - d) (hP : post 1) : wpX_sameCodes post (xnl, xjl, xnc, xop, xnd, xwc, xct, xtc, xec, xsr, xar, xtk, xdp, xau, xwt, xsj, xpr, xpn, xsc, xty, xmk, xcd, xai, xts, xtz, xen, xcx, xsz) (nI r) (nI s) (nI b) (nI d) := by
  unfold wpX_sameCodes
  dsimp only
  rw [nI_clamp (show r < 2 ^ 31 by omega), nI_clamp (show s < 2 ^ 31 by omega), hA.1, hZ.1, pk_sub (show b ≤ Z.length by omega)]
  refine ⟨vp_in_nI hr (by omega), vp_in_nI hs (by omega), br_t (congrArg nI (by omega)) ⟨V.length + 1, ?_⟩⟩
  exact qx_sc22 hr hs hd hlV hlZ (by omega) hA hZ hE hP (V.length + 1) 0 (by omega) (by omega)
end
end
section
/-! ===== the checker: the rules ===== -/
/-- rows below 64 stay -/
def qx_kp (cx sz cx' sz' : Nat → Int32) : Prop := (∀ j, j < 4096 → cx' j = cx j) ∧ ∀ j, j < 64 → sz' j = sz j
theorem qx_kp_rf {cx sz : Nat → Int32} : qx_kp cx sz cx sz := ⟨fun _ _ => rfl, fun _ _ => rfl⟩
theorem qx_kp_tr {cx sz cx' sz' cx2 sz2 : Nat → Int32} (h : qx_kp cx sz cx' sz') (h' : qx_kp cx' sz' cx2 sz2) : qx_kp cx sz cx2 sz2 :=
  ⟨fun j hj => (h'.1 j hj).trans (h.1 j hj), fun j hj => (h'.2 j hj).trans (h.2 j hj)⟩
theorem qx_kp_out {r : Nat} {cx sz cx' sz' : Nat → Int32} (hr : 64 ≤ r) (h : qx_out r cx sz cx' sz') : qx_kp cx sz cx' sz' :=
  ⟨fun j hj => h.1 j (by omega), fun j hj => h.2 j (by omega)⟩
section
variable {m : Nat} {au kd S R : Nat → Nat} {P C : Nat → List Nat}
theorem qx_D_kp (T : qm_TR m au kd S P C R) (E : qm_en m kd P) {tc ec : Nat} {cod st ty : Nat → Nat} {dom W : Nat → List Nat} {ta cd ai ts tz en cx sz cx' sz' : Nat → Int32} (h : qx_kp cx sz cx' sz') (D : qx_D m kd R P C 0 tc ec cod st ty dom W ta cd ai ts tz en cx sz) : qx_D m kd R P C 0 tc ec cod st ty dom W ta cd ai ts tz en cx' sz' := by
  have D' := D
  obtain ⟨a, b, c, d, e⟩ := D'
  refine ⟨a, b, c, d, fun j h1 h2 => ?_⟩
  obtain ⟨g1, g2, g3, g4, g5⟩ := e j h1 h2
  have hm := E.2.1
  refine ⟨g1, g2, g3, g4, by rw [h.2 j (by omega)]; exact g5.1, fun i x hx => ?_⟩
  have := qa_lt hx
  have := (qx_rowb T E D h1 h2).2
  rw [h.1 _ (by omega)]; exact g5.2 i x hx
/-- who lives under k -/
def qx_lv (R : Nat → Nat) (mk : Nat → Int32) (k p : Nat) : Bool := decide (R p = k) && decide (mk p = 0)
theorem qx_lvI {R : Nat → Nat} {mk : Nat → Int32} {k p : Nat} : qx_lv R mk k p = true ↔ R p = k ∧ mk p = 0 := by
  simp only [qx_lv, Bool.and_eq_true, decide_eq_true_eq]
/-- the subjects of the premises of an application -/
theorem qx_chS (T : qm_TR m au kd S P C R) (E : qm_en m kd P) {k p : Nat} (hk : kd k = 0) (hkm : k < m) (hp : p < m) (h : R p = k) : (p = k + 1 ∧ S p = S k + 1) ∨ (p ≠ k + 1 ∧ S p = au (S k)) := by
  have := qm_chpos T E hkm hp h
  rcases (qm_child T E (by omega) hp).2 with ⟨a, _⟩ | a | ⟨_, b, v, e, a1, a2⟩
  · left
    rw [h] at a
    exact ⟨a, by rw [a]; exact (qm_app T E hkm hk).2.1⟩
  · rw [h] at a; omega
  · right
    rw [h] at b
    refine ⟨b, ?_⟩
    subst e
    rw [(qm_var T E (by omega) a1).2.2.2.2.2.2, a2, h]
variable {xnl xjl xnc xop xnd xwc xct xtc xec xsr xar : Int32} {xtk xdp xau xwt xsj xpr xpn xsc xty xmk xcd xai xts xtz xen xcx xsz : Nat → Int32}
theorem qx_lvX (K : qx_K m kd S R P xtk xsj xpr xpn) {k : Nat} (hk : k < 64) : ∀ p, p < m → ((xpr p = nI k ∧ xmk p = 0) ↔ qx_lv R xmk k p = true) := fun p hp => by
  rw [qx_lvI, K.2 p k hp hk]
theorem qx_lvlo (T : qm_TR m au kd S P C R) (E : qm_en m kd P) {k : Nat} (hk : k < m) : ∀ p, p < m → qx_lv R xmk k p = true → k < p := fun p hp h => qm_chpos T E hk hp (qx_lvI.mp h).1
theorem qx_vh {post : Int32 → Prop} (T : qm_TR m au kd S P C R) (E : qm_en m kd P) (K : qx_K m kd S R P xtk xsj xpr xpn) {tc ec : Nat} {cod st ty : Nat → Nat} {dom W : Nat → List Nat} (D : qx_D m kd R P C 0 tc ec cod st ty dom W xty xcd xai xts xtz xen xcx xsz) {k : Nat} (hk : k < m) (h2 : 2 ≤ kd k) (hP : post 1) : wpX_variableHolds post (xnl, xjl, xnc, xop, xnd, xwc, (nI m), xtc, xec, xsr, xar, xtk, xdp, xau, xwt, xsj, xpr, xpn, xsc, xty, xmk, xcd, xai, xts, xtz, xen, xcx, xsz) (nI k) := by
  have hm := E.2.1
  have htc := qx_tc E D
  obtain ⟨k1, k2, k3, k4⟩ := K.1 k hk
  obtain ⟨g1, g2, g3, g4, g5⟩ := D.2.2.2.2 k (Nat.zero_le _) hk
  have hv : vp_in (nI k) 64 := vp_in_nI (by omega) (by omega)
  rcases k4 with a | a | ⟨i, i1, i2, i3⟩
  · omega
  · omega
  · have eW : W k = [i * 64 + ty k] := by
      have := qa_srt g4.1 (qc_var_row (ty := ty) T E hk h2).1 (g4.2.trans (qc_var_row (ty := ty) T E hk h2).2.symm)
      rw [i2, Nat.add_sub_cancel] at this
      exact this
    rw [eW] at g5
    have e0 : xcx (k * 64) = nI (i * 64 + ty k) := g5.2 0 _ rfl
    unfold wpX_variableHolds
    dsimp only
    rw [nI_clamp (show k < 2 ^ 31 by omega), k2, nI_clamp (show S k < 2 ^ 31 by omega), i3, g1, qw_m64, nI_add, qw_m64, nI_clamp (show k * 64 < 2 ^ 31 by omega), g5.1, e0]
    refine ⟨hv, vp_in_nI k1 (by omega), hv, nm_e (qx_cl hm hk (qx_lvX K (by omega)) (qx_lvlo T E hk) ?_)⟩
    have z : qa_cn (qx_lv R xmk k) m = 0 := qa_cn_zero fun p hp => by
      cases hh : qx_lv R xmk k p with
      | false => rfl
      | true => exact absurd (qm_chV T E h2 hk hp (qx_lvI.mp hh).1) id
    rw [z]
    exact br_t rfl ⟨vp_in_nI (by omega) (by omega), br_t rfl ⟨vp_in_nI (by omega) (by omega), br_t rfl hP⟩⟩
theorem qx_sth {post : Int32 → Prop} (T : qm_TR m au kd S P C R) (E : qm_en m kd P) (K : qx_K m kd S R P xtk xsj xpr xpn) {tc ec : Nat} {cod st ty : Nat → Nat} {dom W : Nat → List Nat} (D : qx_D m kd R P C 0 tc ec cod st ty dom W xty xcd xai xts xtz xen xcx xsz) {k : Nat} (hk : k < m) (h1 : kd k = 1) (hPk : P k = []) (hP : post 1) : wpX_starHolds post (xnl, xjl, xnc, xop, xnd, xwc, (nI m), xtc, xec, xsr, xar, xtk, xdp, xau, xwt, xsj, xpr, xpn, xsc, xty, xmk, xcd, xai, xts, xtz, xen, xcx, xsz) (nI k) := by
  have hm := E.2.1
  have hkm : k = m - 1 := by
    by_cases e : k + 1 < m
    · have := (qm_lam T e h1).1; rw [hPk] at this; exact absurd this (by simp)
    · omega
  obtain ⟨g1, g2, g3, g4, g5⟩ := D.2.2.2.2 k (Nat.zero_le _) hk
  have hv : vp_in (nI k) 64 := vp_in_nI (by omega) (by omega)
  have eW : W k = [] := qa_srt g4.1 (qc_star_row (R := R) (C := C) (ty := ty) E hkm).1 (g4.2.trans (qc_star_row (R := R) (C := C) (ty := ty) E hkm).2.symm)
  rw [eW] at g5
  rw [hPk] at g3
  have et : ty k = 0 := g3
  rw [et] at g1
  unfold wpX_starHolds
  dsimp only
  rw [nI_clamp (show k < 2 ^ 31 by omega), g1, g5.1]
  refine qx_cl hm hk (qx_lvX K (by omega)) (qx_lvlo T E hk) ?_
  have z : qa_cn (qx_lv R xmk k) m = 0 := qa_cn_zero fun p hp => by
    cases hh : qx_lv R xmk k p with
    | false => rfl
    | true =>
      have := qm_chpos T E hk hp (qx_lvI.mp hh).1
      omega
  rw [z]
  exact br_t rfl ⟨hv, br_t rfl ⟨vp_in_nI (by omega) (by omega), br_t rfl hP⟩⟩
theorem qx_ah {post : Int32 → Prop} (T : qm_TR m au kd S P C R) (E : qm_en m kd P) (K : qx_K m kd S R P xtk xsj xpr xpn) {tc ec : Nat} {cod st ty : Nat → Nat} {dom W : Nat → List Nat} (D : qx_D m kd R P C 0 tc ec cod st ty dom W xty xcd xai xts xtz xen xcx xsz) {k : Nat} (hk : k + 1 < m) (h1 : kd k = 1) (hP1 : xmk (k + 1) = 0 → post 1) (hP0 : ¬ xmk (k + 1) = 0 → post 0) : wpX_abstractionHolds post (xnl, xjl, xnc, xop, xnd, xwc, (nI m), xtc, xec, xsr, xar, xtk, xdp, xau, xwt, xsj, xpr, xpn, xsc, xty, xmk, xcd, xai, xts, xtz, xen, xcx, xsz) (nI k) := by
  have hm := E.2.1
  have htc := qx_tc E D
  obtain ⟨k1, k2, k3, k4⟩ := K.1 k (by omega)
  have D' := D
  obtain ⟨Tb, Ar, _, _, J⟩ := D'
  obtain ⟨l1, l2, l3, l4⟩ := qm_lam T hk h1
  have hv : vp_in (nI k) 64 := vp_in_nI (by omega) (by omega)
  have hS : ∀ p, p < m → S p < 32 ∧ xsj p = nI (S p) := fun p hp => ⟨(K.1 p hp).1, (K.1 p hp).2.1⟩
  have one : ∀ p, p < m → qx_lv R xmk k p = true → p = k + 1 := fun p hp h => qm_chL T E h1 (by omega) hp (qx_lvI.mp h).1
  unfold wpX_abstractionHolds
  dsimp only
  rw [nI_clamp (show k < 2 ^ 31 by omega), k2, nI_1]
  refine ⟨hv, qx_fa (lv := qx_lv R xmk k) hm (by omega) (by omega) hS (qx_lvX K (by omega)) (fun p hp hl hs => ?_) (fun none => ?_)⟩
  · have e := one p hp hl
    subst e
    have hmk := (qx_lvI.mp hl).2
    refine br_f (qf_nneg (by omega)).2.1 (qx_cl (lv := qx_lv R xmk k) hm (by omega) (qx_lvX K (by omega)) (qx_lvlo T E (by omega)) ?_)
    have c1 : qa_cn (qx_lv R xmk k) m = 1 := qa_cn_one hk fun v hv' => ⟨one v hv', fun e => by rw [e]; exact hl⟩
    rw [c1]
    obtain ⟨g1, g2, g3, g4, g5⟩ := J k (Nat.zero_le _) (by omega)
    obtain ⟨j1, j2, j3, j4, j5⟩ := J (k + 1) (Nat.zero_le _) hk
    rw [l1] at g3
    obtain ⟨t1, t2, t3, t4⟩ := g3
    obtain ⟨b1, b2, b3, b4, b5, b6⟩ := Ar.2 _ t1 t2
    have ecod : cod (ty k) = ty (k + 1) := qy_uniq Tb t4 j3
    have hec : ec ≤ 63 := by
      have a := D.2.2.2.1
      have : qa_cn (fun v => decide (2 ≤ kd v) && decide (0 ≤ qm_cl kd C v)) m < m := qa_cn_lt (k := m - 1) (by omega) (by rw [E.2.2.1]; rfl)
      omega
    refine br_t rfl ⟨hv, nm_r g1 ?_⟩
    rw [nI_clamp (show ty k < 2 ^ 31 by omega), nI_clamp (show k + 1 < 2 ^ 31 by omega), b1, ecod, j1]
    refine br_f (nI_ne0 t1 (by omega)) ⟨vp_in_nI (by omega) (by omega), vp_in_nI (by omega) (by omega), br_t rfl ?_⟩
    obtain ⟨rb1, rb2⟩ := qx_rowb T E D (j := k + 1) (Nat.zero_le _) hk
    obtain ⟨rb3, rb4⟩ := qx_rowb T E D (j := k) (Nat.zero_le _) (by omega)
    obtain ⟨n, n1, n2, n3, n4, n5⟩ := qa_tw (b := 64) j4.1
    obtain ⟨q1, q2⟩ := qc_lam_row T E hk h1 (qx_tyb E D (Nat.zero_le _)) j4 n4 n5
    have lV : ((W (k + 1)).take n).length = n := by rw [List.length_take]; omega
    have eqn : nI n = nI ((W (k + 1)).take n).length := by rw [lV]
    refine qx_bnd (by omega) (by omega) j5 rb1 n1 n2 n3 ?_
    have J1 : qy_J m kd R P C (k + 1) tc cod dom ty W xty xcx xsz := fun j h1 h2 => J j (Nat.zero_le _) h2
    have edom : dom (ty k) = (W (k + 1)).take n := by
      refine qa_srt (Tb.2.1 _ t1 t2).2 (j4.1.take) ?_
      exact t3.trans ((q1.trans (qy_dom T E Tb hk h1 J1)).symm)
    have eWk : W k = ((W (k + 1)).drop n).map (fun x => x - 64) := qa_srt g4.1 q2.1 (g4.2.trans q2.2.symm)
    have lD : ((W (k + 1)).drop n).length = (W (k + 1)).length - n := List.length_drop
    have lWk : (W k).length = (W (k + 1)).length - n := by rw [eWk, List.length_map, lD]
    have sdv : ∀ post' : Int32 → Prop, post' 1 → wpX_sameDomain post' (xnl, xjl, xnc, xop, xnd, xwc, (nI m), xtc, xec, xsr, xar, xtk, xdp, xau, xwt, xsj, xpr, xpn, xsc, xty, xmk, xcd, xai, xts, xtz, xen, xcx, xsz) (nI (ty k)) (nI (k + 1)) (nI n) := fun post' hp => by
      rw [eqn]
      refine qx_sd (V := (W (k + 1)).take n) (by omega) (by omega) b4 b3 (by omega) b6 (by omega) (fun c x hx => ?_) (fun _ => hp) (fun ne => absurd edom ne)
      have hi := qa_lt hx
      rw [lV] at hi
      rw [List.getElem?_take_of_lt hi] at hx
      exact ⟨j5.2 c x hx, rb1 x (qa_mem hx)⟩
    refine sdv _ (br_f (by decide) ?_)
    refine qx_sc (V := W k) (Z := W (k + 1)) (d := 64) (by omega) (by omega) (by omega) (by omega) (by omega) (by omega) g5 j5 (fun c x y hx hy => ?_) ?_
    · rw [eWk, List.getElem?_map, List.getElem?_drop, hy] at hx
      have hmem : y ∈ (W (k + 1)).drop n := by
        refine qa_mem (i := c) ?_
        rw [List.getElem?_drop]; exact hy
      rw [n5, List.mem_filter] at hmem
      refine ⟨of_decide_eq_true hmem.2, ?_⟩
      have hx' : y - 64 = x := by simpa using hx
      exact hx'.symm
    · exact br_f (by decide) (hP1 hmk)
  · refine br_t rfl (hP0 fun c => ?_)
    exact none (k + 1) (by omega) hk (qx_lvI.mpr ⟨l4, c⟩) l2
end
end
section
/-! ===== the checker: the rule of application ===== -/
section
variable {m : Nat} {au kd S R : Nat → Nat} {P C : Nat → List Nat}
variable {xnl xjl xnc xop xnd xwc xct xtc xec xsr xar : Int32} {xtk xdp xau xwt xsj xpr xpn xsc xty xmk xcd xai xts xtz xen xcx xsz : Nat → Int32}
theorem qx_ph {post : Int32 → SX → Prop} (T : qm_TR m au kd S P C R) (E : qm_en m kd P) (K : qx_K m kd S R P xtk xsj xpr xpn) {tc ec : Nat} {cod st ty : Nat → Nat} {dom W : Nat → List Nat} (D : qx_D m kd R P C 0 tc ec cod st ty dom W xty xcd xai xts xtz xen xcx xsz) {k : Nat} (hk : k < m) (h0 : kd k = 0) (hau : xau (S k) = nI (au (S k)) ∧ au (S k) < 32 ∧ S k + 1 < au (S k))
    (hP1 : (∀ p, p < m → R p = k → xmk p = 0) → ∀ cx' sz' : Nat → Int32, qx_kp xcx xsz cx' sz' → post 1 (xnl, xjl, xnc, xop, xnd, xwc, (nI m), xtc, xec, xsr, xar, xtk, xdp, xau, xwt, xsj, xpr, xpn, xsc, xty, xmk, xcd, xai, xts, xtz, xen, cx', sz')) (hP0 : (¬ ∀ p, p < m → R p = k → xmk p = 0) → ∀ cx' sz' : Nat → Int32, qx_kp xcx xsz cx' sz' → post 0 (xnl, xjl, xnc, xop, xnd, xwc, (nI m), xtc, xec, xsr, xar, xtk, xdp, xau, xwt, xsj, xpr, xpn, xsc, xty, xmk, xcd, xai, xts, xtz, xen, cx', sz')) : wpX_applicationHolds post (xnl, xjl, xnc, xop, xnd, xwc, (nI m), xtc, xec, xsr, xar, xtk, xdp, xau, xwt, xsj, xpr, xpn, xsc, xty, xmk, xcd, xai, xts, xtz, xen, xcx, xsz) (nI k) := by
  have hm := E.2.1
  have htc := qx_tc E D
  obtain ⟨k1, k2, k3, k4⟩ := K.1 k hk
  have D' := D
  obtain ⟨Tb, Ar, _, hec0, J⟩ := D'
  obtain ⟨p1, p2, p3, p4, p5⟩ := qm_app T E hk h0
  obtain ⟨u1, u2, u3⟩ := hau
  have hv : vp_in (nI k) 64 := vp_in_nI (by omega) (by omega)
  have hS : ∀ p, p < m → S p < 32 ∧ xsj p = nI (S p) := fun p hp => ⟨(K.1 p hp).1, (K.1 p hp).2.1⟩
  have hlv := qx_lvX (xmk := xmk) K (k := k) (by omega)
  have hlo : ∀ p, p < m → qx_lv R xmk k p = true → k < p := qx_lvlo T E hk
  have hec : ec ≤ 63 := by
    have : qa_cn (fun v => decide (2 ≤ kd v) && decide (0 ≤ qm_cl kd C v)) m < m := qa_cn_lt (k := m - 1) (by omega) (by rw [E.2.2.1]; rfl)
    omega
  unfold wpX_applicationHolds
  dsimp only
  rw [nI_clamp (show k < 2 ^ 31 by omega), k2, nI_clamp (show S k < 2 ^ 31 by omega), u1]
  refine ⟨hv, nm_r (nI_1 (S k)) ⟨hv, vp_in_nI k1 (by omega), nm_e ?_⟩⟩
  refine qx_fa (lv := qx_lv R xmk k) hm hk (by omega) hS hlv (fun p hp hl hs => ?_) (fun none => ?_)
  · have e : p = k + 1 := by
      rcases qx_chS T E h0 hk hp (qx_lvI.mp hl).1 with z | z
      · exact z.1
      · omega
    subst e
    have hmk := (qx_lvI.mp hl).2
    refine br_f (qf_nneg (by omega)).2.1 (qx_ca (lv := qx_lv R xmk k) hm hk (by omega) hS hlv hlo ?_)
    have c1 : qa_cn (fun p => qx_lv R xmk k p && decide (S p = S k + 1)) m = 1 := qa_cn_one p1 fun v hv' => by
      simp only [Bool.and_eq_true, decide_eq_true_eq]
      constructor
      · rintro ⟨a, b⟩
        rcases qx_chS T E h0 hk hv' (qx_lvI.mp a).1 with z | z
        · exact z.1
        · omega
      · intro e; rw [e]; exact ⟨hl, p2⟩
    rw [c1]
    refine br_t rfl (qx_ca (lv := qx_lv R xmk k) hm hk (by omega) hS hlv hlo (qx_cl (lv := qx_lv R xmk k) hm hk hlv hlo ?_))
    have c2 : qa_cn (fun p => qx_lv R xmk k p && decide (S p = S k + 1)) m + qa_cn (fun p => qx_lv R xmk k p && decide (S p = au (S k))) m = qa_cn (qx_lv R xmk k) m := qa_cn_two fun v hv' => by
      simp only [Bool.and_eq_true, decide_eq_true_eq]
      constructor
      · constructor
        · intro a
          rcases qx_chS T E h0 hk hv' (qx_lvI.mp a).1 with z | z
          · exact Or.inl ⟨a, z.2⟩
          · exact Or.inr ⟨a, z.2⟩
        · rintro (a | a)
          · exact a.1
          · exact a.1
      · rintro ⟨a, b⟩; omega
    rw [c1] at c2
    have c3 : qa_cn (fun p => qx_lv R xmk k p && decide (S p = au (S k))) m < 64 := by
      have := qa_cn_le (qx_lv R xmk k) m
      omega
    refine br_t (by rw [nI_1]; exact congrArg nI (by omega)) ⟨vp_in_nI (by omega) (by omega), ?_⟩
    obtain ⟨g1, g2, g3, g4, g5⟩ := J k (Nat.zero_le _) hk
    obtain ⟨j1, j2, j3, j4, j5⟩ := J (k + 1) (Nat.zero_le _) p1
    rw [p3] at j3
    obtain ⟨t1, t2, t3, t4⟩ := j3
    obtain ⟨b1, b2, b3, b4, b5, b6⟩ := Ar.2 _ t1 t2
    have ecod : cod (ty (k + 1)) = ty k := qy_uniq Tb t4 g3
    rw [nI_clamp (show k + 1 < 2 ^ 31 by omega)]
    refine nm_r j1 (br_f (nI_ne0 t1 (by omega)) ⟨vp_in_nI (by omega) (by omega), hv, ?_⟩)
    rw [nI_clamp (show ty (k + 1) < 2 ^ 31 by omega), b1, ecod, g1]
    refine br_t rfl (qx_ct (lv := qx_lv R xmk k) (ty := ty) hm hk (by omega) hS (fun p hp => ?_) hlv hlo c3 fun cx1 sz1 V w1 w2 w3 w4 => ?_)
    · obtain ⟨z1, z2, _⟩ := J p (Nat.zero_le _) hp
      exact ⟨by omega, z1⟩
    · dsimp only
      have hsub : ∀ p, p ∈ qa_fl (qx_lv R xmk k) m → p ∈ qc_ch m R k := fun p hp => by
        obtain ⟨z1, z2⟩ := qa_fl_mem.mp hp
        exact qc_ch_mem.mpr ⟨z1, (qx_lvI.mp z2).1⟩
      have hsh : ((qa_fl (qx_lv R xmk k) m).flatMap W).length < m := qc_app_short T E hk h0 (qa_fl_nd _ _) hsub fun p hp => (J p (Nat.zero_le _) (qa_fl_mem.mp hp).1).2.2.2.1
      refine qx_sum (r := 64) (lv := qx_lv R xmk k) (Wf := W) (by omega) hm hk rfl hlv hlo (fun p q1 q2 q3 => ?_) (by omega) fun cx2 sz2 Z v1 v2 v3 v4 => ?_
      · have rb := qx_rowb T E D (j := p) (Nat.zero_le _) q2
        exact ⟨by omega, qx_out_at w4 (by omega) (by omega) (J p (Nat.zero_le _) q2).2.2.2.2, rb.1⟩
      · dsimp only
        have kp : qx_kp xcx xsz cx2 sz2 := qx_kp_tr (qx_kp_out (by omega) w4) (qx_kp_out (by omega) v4)
        have lV : V.length < 64 := by rw [w2.length_eq, List.length_map, qa_fl_len]; exact c3
        have w3' := qx_out_at v4 (show (65 : Nat) ≠ 64 by omega) (by omega) w3
        have lA : (qc_ar m R k).length = (dom (ty (k + 1))).length := by rw [t3.length_eq, qy_D, List.length_map]
        have argsub : ∀ p, p ∈ qa_fl (fun p => qx_lv R xmk k p && decide (S p = au (S k))) m → p ∈ qc_ar m R k := fun p hp => by
          obtain ⟨z1, z2⟩ := qa_fl_mem.mp hp
          simp only [Bool.and_eq_true, decide_eq_true_eq] at z2
          refine qc_ar_mem.mpr ⟨z1, (qx_lvI.mp z2.1).1, fun e => ?_⟩
          rw [e, p2] at z2; omega
        have toOk : dom (ty (k + 1)) = V → ∀ p, p < m → R p = k → xmk p = 0 := fun eV p hp hR => by
          rcases qx_chS T E h0 hk hp hR with z | z
          · rw [z.1]; exact hmk
          · by_cases c : xmk p = 0
            · exact c
            · exfalso
              have hnot : ¬ p ∈ qa_fl (fun p => qx_lv R xmk k p && decide (S p = au (S k))) m := fun hp' => by
                have z2 := (qa_fl_mem.mp hp').2
                simp only [Bool.and_eq_true, decide_eq_true_eq] at z2
                exact c (qx_lvI.mp z2.1).2
              have := List.Nodup.length_le_of_subset (l₁ := p :: qa_fl (fun p => qx_lv R xmk k p && decide (S p = au (S k))) m) (l₂ := qc_ar m R k) (List.nodup_cons.mpr ⟨hnot, qa_fl_nd _ _⟩) (fun q hq => by
                rcases List.mem_cons.mp hq with e | e
                · rw [e]; exact qc_ar_mem.mpr ⟨hp, hR, z.1⟩
                · exact argsub q e)
              rw [List.length_cons, lA, eV, w2.length_eq, List.length_map] at this
              omega
        have fromOk : (∀ p, p < m → R p = k → xmk p = 0) → dom (ty (k + 1)) = V := fun ok => by
          refine qa_srt (Tb.2.1 _ t1 t2).2 w1 (t3.trans (List.Perm.trans ?_ w2.symm))
          refine List.Perm.map ty (qa_pe (qa_fl_nd _ _) (qa_fl_nd _ _) fun p => ⟨fun hp => ?_, fun hp => argsub p hp⟩)
          obtain ⟨z1, z2, z3⟩ := qc_ar_mem.mp hp
          refine qa_fl_mem.mpr ⟨z1, ?_⟩
          simp only [Bool.and_eq_true, decide_eq_true_eq]
          rcases qx_chS T E h0 hk z1 z2 with z | z
          · exact absurd z.1 z3
          · exact ⟨qx_lvI.mpr ⟨z2, ok p z1 z2⟩, z.2⟩
        rw [w3'.1]
        refine qx_sd (r := 65) (V := V) (D := dom (ty (k + 1))) (by omega) (by omega) b4 b3 (by omega) b6 lV (fun c x hx => ⟨w3'.2 c x hx, ?_⟩) (fun eV => br_f (by decide) ?_) (fun ne => br_t rfl (hP0 (fun ok => ne (fromOk ok)) cx2 sz2 kp))
        · obtain ⟨q, hq, e⟩ := List.mem_map.mp (w2.mem_iff.mp (qa_mem hx))
          have := (J q (Nat.zero_le _) (qa_fl_mem.mp hq).1).2.1
          omega
        · have ok := toOk eV
          have efl : qa_fl (qx_lv R xmk k) m = qc_ch m R k := by
            refine List.filter_congr fun p hp => ?_
            have hp' := List.mem_range.mp hp
            by_cases c : R p = k
            · rw [qx_lv, decide_eq_true c, decide_eq_true (ok p hp' c)]; rfl
            · rw [qx_lv, decide_eq_false c]; rfl
          rw [efl] at v2
          have hZ := qc_app_row T E hk h0 (fun p hp => (J p (Nat.zero_le _) (qc_ch_mem.mp hp).1).2.2.2.1) v1 v2
          have eZ : W k = Z := qa_srt g4.1 hZ.1 (g4.2.trans hZ.2.symm)
          have D2 := qx_D_kp T E kp D
          have g5' := (D2.2.2.2.2 k (Nat.zero_le _) hk).2.2.2.2
          have rb := qx_rowb T E D (j := k) (Nat.zero_le _) hk
          refine qx_sc (r := k) (s := 64) (b := 0) (d := 0) (V := W k) (Z := Z) (by omega) (by omega) (by omega) (by omega) (by rw [← eZ]; omega) (by rw [← eZ]; omega) g5' v3 (fun c x y hx hy => ?_) (br_f (by decide) (hP1 ok cx2 sz2 kp))
          rw [eZ] at hx
          rw [Nat.zero_add, hx] at hy
          injection hy with hy
          exact ⟨Nat.zero_le _, by omega⟩
  · refine br_t rfl (hP0 (fun ok => ?_) xcx xsz qx_kp_rf)
    exact none (k + 1) (by omega) p1 (qx_lvI.mpr ⟨p5, ok _ p1 p5⟩) p2
end
end
section
/-! ===== check and apps ===== -/
def qr_bad (m : Nat) (R : Nat → Nat) (mk : Nat → Int32) (k : Nat) : Prop := mk k = 0 ∧ ¬ ∀ p, p < m → R p = k → mk p = 0
section
variable {m : Nat} {au kd S R : Nat → Nat} {P C : Nat → List Nat}
variable {xnl xjl xnc xop xnd xwc xct xtc xec xsr xar : Int32} {xtk xdp xau xwt xsj xpr xpn xsc xty xmk xcd xai xts xtz xen xcx xsz : Nat → Int32}
theorem qx_rule {post : Int32 → SX → Prop} (T : qm_TR m au kd S P C R) (E : qm_en m kd P) (K : qx_K m kd S R P xtk xsj xpr xpn) {tc ec : Nat} {cod st ty : Nat → Nat} {dom W : Nat → List Nat} (D : qx_D m kd R P C 0 tc ec cod st ty dom W xty xcd xai xts xtz xen xcx xsz) {k : Nat} (hk : k < m) (hau : ∀ k, k < m → kd k = 0 → xau (S k) = nI (au (S k)) ∧ au (S k) < 32 ∧ S k + 1 < au (S k))
    (hP1 : (∀ p, p < m → R p = k → xmk p = 0) → ∀ cx' sz' : Nat → Int32, qx_kp xcx xsz cx' sz' → post 1 (xnl, xjl, xnc, xop, xnd, xwc, (nI m), xtc, xec, xsr, xar, xtk, xdp, xau, xwt, xsj, xpr, xpn, xsc, xty, xmk, xcd, xai, xts, xtz, xen, cx', sz')) (hP0 : (¬ ∀ p, p < m → R p = k → xmk p = 0) → ∀ cx' sz' : Nat → Int32, qx_kp xcx xsz cx' sz' → post 0 (xnl, xjl, xnc, xop, xnd, xwc, (nI m), xtc, xec, xsr, xar, xtk, xdp, xau, xwt, xsj, xpr, xpn, xsc, xty, xmk, xcd, xai, xts, xtz, xen, cx', sz')) : wpX_ruleHolds post (xnl, xjl, xnc, xop, xnd, xwc, (nI m), xtc, xec, xsr, xar, xtk, xdp, xau, xwt, xsj, xpr, xpn, xsc, xty, xmk, xcd, xai, xts, xtz, xen, xcx, xsz) (nI k) := by
  have hm := E.2.1
  obtain ⟨k1, k2, k3, k4⟩ := K.1 k hk
  have hPk : ∀ x, x ∈ P k → x < 64 := fun x hx => by have := ((qm_ab T k hk).1 x hx).1; omega
  unfold wpX_ruleHolds
  dsimp only
  rw [nI_clamp (show k < 2 ^ 31 by omega), k2, nI_clamp (show S k < 2 ^ 31 by omega)]
  refine ⟨vp_in_nI (by omega) (by omega), vp_in_nI k1 (by omega), nm_e ?_⟩
  rcases k4 with ⟨a1, a2⟩ | ⟨a1, a2⟩ | ⟨i, i1, a1, a2⟩
  · rw [a2]
    refine br_t rfl (qx_ph T E K D hk a1 (hau k hk a1) (fun ok cx' sz' kp => ?_) (fun nok cx' sz' kp => ?_))
    · exact ⟨rfl, hP1 ok cx' sz' kp⟩
    · exact ⟨rfl, hP0 nok cx' sz' kp⟩
  · rw [a2]
    refine br_f (by decide) (br_t (by decide) (qx_star (by omega) k2 k1 k3 hPk (fun ⟨c1, c2⟩ => ?_) (fun c => ?_)))
    · refine br_f (by decide) (qx_sth T E K D hk a1 c2 ⟨rfl, hP1 (fun p hp hR => ?_) xcx xsz qx_kp_rf⟩)
      exfalso
      have e := qm_chL T E a1 hk hp hR
      subst e
      have := (qm_lam T hp a1).1
      rw [c2] at this; exact absurd this (by simp)
    · have hPne : P k ≠ [] := fun e => c ⟨a2, e⟩
      have hk1 := qm_lam1 E hk hPne
      refine br_t rfl (qx_ah T E K D hk1 a1 (fun z => ⟨rfl, hP1 (fun p hp hR => ?_) xcx xsz qx_kp_rf⟩) (fun z => ⟨rfl, hP0 (fun ok => ?_) xcx xsz qx_kp_rf⟩))
      · rw [qm_chL T E a1 hk hp hR]; exact z
      · exact z (ok (k + 1) hk1 (qm_lam T hk1 a1).2.2.2)
  · rw [a2]
    have nn := qf_nneg (i := i) (by omega)
    refine br_f nn.1 (br_f nn.2.2 (qx_vh T E K D hk (by omega) ⟨rfl, hP1 (fun p hp hR => ?_) xcx xsz qx_kp_rf⟩))
    exact absurd (qm_chV T E (by omega) hk hp hR) id
theorem qx_ck22 {post : Int32 → SX → Prop} (T : qm_TR m au kd S P C R) (E : qm_en m kd P) (K : qx_K m kd S R P xtk xsj xpr xpn) {tc ec : Nat} {cod st ty : Nat → Nat} {dom W : Nat → List Nat} (D : qx_D m kd R P C 0 tc ec cod st ty dom W xty xcd xai xts xtz xen xcx xsz) (hau : ∀ k, k < m → kd k = 0 → xau (S k) = nI (au (S k)) ∧ au (S k) < 32 ∧ S k + 1 < au (S k))
    (hF : ∀ k, k < m → qr_bad m R xmk k → (∀ j, j < k → ¬ qr_bad m R xmk j) → ∀ cx' sz' : Nat → Int32, qx_kp xcx xsz cx' sz' → post (nI k) (xnl, xjl, xnc, xop, xnd, xwc, (nI m), xtc, xec, xsr, xar, xtk, xdp, xau, xwt, xsj, xpr, xpn, xsc, xty, xmk, xcd, xai, xts, xtz, xen, cx', sz')) (hN : (∀ j, j < m → ¬ qr_bad m R xmk j) → ∀ cx' sz' : Nat → Int32, qx_kp xcx xsz cx' sz' → post (-2) (xnl, xjl, xnc, xop, xnd, xwc, (nI m), xtc, xec, xsr, xar, xtk, xdp, xau, xwt, xsj, xpr, xpn, xsc, xty, xmk, xcd, xai, xts, xtz, xen, cx', sz')) :
    ∀ n k cx sz, m - k < n → k ≤ m → (∀ j, j < k → ¬ qr_bad m R xmk j) → qx_kp xcx xsz cx sz → wX_check_22 post n (nI k) xnl xjl xnc xop xnd xwc (nI m) xtc xec xsr xar xtk xdp xau xwt xsj xpr xpn xsc xty xmk xcd xai xts xtz xen cx sz := by
  have hm := E.2.1
  intro n
  induction n with
  | zero => intro k cx sz h; omega
  | succ n ih =>
    intro k cx sz g1 g2 g3 g4
    rw [wX_check_22]
    dsimp only
    refine pk_le m k (fun h => ?_) (fun h => ?_) rfl rfl (by omega) (by omega)
    · exact hN (fun j hj => g3 j (by omega)) cx sz g4
    · rw [nI_clamp (show k < 2 ^ 31 by omega)]
      have nx : ¬ qr_bad m R xmk k → ∀ cx' sz' : Nat → Int32, qx_kp cx sz cx' sz' → wX_check_22 post n (nI (k + 1)) xnl xjl xnc xop xnd xwc (nI m) xtc xec xsr xar xtk xdp xau xwt xsj xpr xpn xsc xty xmk xcd xai xts xtz xen cx' sz' := fun nb cx' sz' kp => ih (k + 1) cx' sz' (by omega) (by omega) (fun j hj => by
        by_cases e : j = k
        · subst e; exact nb
        · exact g3 j (by omega)) (qx_kp_tr g4 kp)
      refine ⟨vp_in_nI (by omega) (by omega), br_c (fun c => ?_) (fun c => nm_r (nI_1 k) (nx (fun b => c b.1) cx sz qx_kp_rf))⟩
      refine qx_rule T E K (qx_D_kp T E g4 D) h hau (fun ok cx' sz' kp => ?_) (fun nok cx' sz' kp => ?_)
      · exact br_f (by decide) (nm_r (nI_1 k) (nx (fun b => b.2 ok) cx' sz' kp))
      · exact br_t rfl (hF k h ⟨c, nok⟩ g3 cx' sz' (qx_kp_tr g4 kp))
end
section
variable {m : Nat} {R : Nat → Nat} {P : Nat → List Nat}
variable {ynl yjl ync yct : Int32} {ytk ysj ypr ypl ysc ypd ygn ysm : Nat → Int32}
theorem qw_ck32 {post : Int32 → Prop} {J : Int32 → Prop} {k : Nat} (hk : k < m) (H : qw_Y m R P (nI m) ypr ypl ypd) (hF : qr_bad m R ygn k → post (nI k)) (hJ : ¬ qr_bad m R ygn k → J (nI (k + 1))) :
    ∀ n p, m - p < n → p ≤ m → (∀ q, q < p → ¬ (ygn k = 0 ∧ R q = k ∧ ¬ ygn q = 0)) → wY_check_32 post J (nI k) ynl yjl ync (nI m) ytk ysj ypr ypl ysc ypd ygn ysm n (nI p) := by
  obtain ⟨_, h2, h3, _⟩ := H
  intro n
  induction n with
  | zero => intro p h; omega
  | succ n ih =>
    intro p g1 g2 g3
    rw [wY_check_32]
    refine pk_le m p (fun h => ?_) (fun h => ?_) rfl rfl (by omega) (by omega)
    · refine nm_r (nI_1 k) (hJ fun b => b.2 fun q hq hR => ?_)
      by_cases c : ygn q = 0
      · exact c
      · exact absurd ⟨b.1, hR, c⟩ (g3 q (by omega))
    · have nx : ¬ (ygn k = 0 ∧ R p = k ∧ ¬ ygn p = 0) → wY_check_32 post J (nI k) ynl yjl ync (nI m) ytk ysj ypr ypl ysc ypd ygn ysm n (nI (p + 1)) := fun hh => ih (p + 1) (by omega) (by omega) fun q hq => by
        by_cases e : q = p
        · subst e; exact hh
        · exact g3 q (by omega)
      have hv : vp_in (nI p) 64 := vp_in_nI (by omega) (by omega)
      rw [nI_clamp (show k < 2 ^ 31 by omega), nI_clamp (show p < 2 ^ 31 by omega)]
      refine ⟨vp_in_nI (by omega) (by omega), br_c (fun c => ⟨hv, br_c (fun d => nm_r (nI_1 p) (nx fun z => z.2.2 d)) (fun d => ⟨hv, ek_if (h3 p k h (by omega)) (fun e => ?_) (fun e => nm_r (nI_1 p) (nx fun z => e z.2.1))⟩)⟩) (fun c => nm_r (nI_1 p) (nx fun z => c z.1))⟩
      exact hF ⟨c, fun all => d (all p h e)⟩
theorem qw_ck22 {post : Int32 → Prop} (H : qw_Y m R P (nI m) ypr ypl ypd) (hF : ∀ k, k < m → qr_bad m R ygn k → (∀ j, j < k → ¬ qr_bad m R ygn j) → post (nI k)) (hN : (∀ j, j < m → ¬ qr_bad m R ygn j) → post (-2)) :
    ∀ n k, m - k < n → k ≤ m → (∀ j, j < k → ¬ qr_bad m R ygn j) → wY_check_22 post ynl yjl ync (nI m) ytk ysj ypr ypl ysc ypd ygn ysm n (nI k) := by
  have h2 := H.2.1
  intro n
  induction n with
  | zero => intro k h; omega
  | succ n ih =>
    intro k g1 g2 g3
    rw [wY_check_22]
    refine pk_le m k (fun h => ?_) (fun h => ?_) rfl rfl (by omega) (by omega)
    · exact hN fun j hj => g3 j (by omega)
    · refine ⟨m + 1, qw_ck32 h H (fun b => hF k h b g3) (fun nb => ih (k + 1) (by omega) (by omega) fun j hj => ?_) (m + 1) 0 (by omega) (by omega) (fun q hq => by omega)⟩
      by_cases e : j = k
      · subst e; exact nb
      · exact g3 j (by omega)
end
theorem qr_badE {m : Nat} {R : Nat → Nat} {mk gn : Nat → Int32} (h : ∀ j, j < m → gn j = mk j) {k : Nat} (hk : k < m) : qr_bad m R gn k ↔ qr_bad m R mk k := by
  unfold qr_bad
  rw [h k hk]
  refine and_congr_right fun _ => not_congr ?_
  exact ⟨fun a p hp hR => by rw [← h p hp]; exact a p hp hR, fun a p hp hR => by rw [h p hp]; exact a p hp hR⟩
theorem qr_least {p : Nat → Prop} {m : Nat} : (∃ k, k < m ∧ p k ∧ ∀ j, j < k → ¬ p j) ∨ ∀ j, j < m → ¬ p j := by
  induction m with
  | zero => exact Or.inr fun j hj => by omega
  | succ m ih =>
    rcases ih with ⟨k, h1, h2, h3⟩ | h
    · exact Or.inl ⟨k, by omega, h2, h3⟩
    · by_cases c : p m
      · exact Or.inl ⟨m, by omega, c, h⟩
      · refine Or.inr fun j hj => ?_
        by_cases e : j = m
        · subst e; exact c
        · exact h j (by omega)
section
variable {xnl xjl xnc xop xnd xwc xct xtc xec xsr xar : Int32} {xtk xdp xau xwt xsj xpr xpn xsc xty xmk xcd xai xts xtz xen xcx xsz : Nat → Int32}
variable {ysj ypr ypl ysc ypd ygn ysm : Nat → Int32}
theorem qr_kpI {NL JL n w m : Nat} {cx' sz' : Nat → Int32} (F : qr_I NL JL n w m xop xnd xtk xdp xau xwt xsj xpr xpn xsc xty xmk xcd xai xts xtz xen xcx xsz ysj ypr ypl ysc ypd ygn ysm) (kp : qx_kp xcx xsz cx' sz') : qr_I NL JL n w m xop xnd xtk xdp xau xwt xsj xpr xpn xsc xty xmk xcd xai xts xtz xen cx' sz' ysj ypr ypl ysc ypd ygn ysm := by
  obtain ⟨f1, f2, f3, f4⟩ := F
  refine ⟨f1, f2, f3, fun hm => ?_⟩
  obtain ⟨a1, a2, a3, a4, a5, a6, tc, ec, cod, st, ty, dom, W, D, hs⟩ := f4 hm
  obtain ⟨tr, en, ok⟩ := qm_finT (qt_whole f3 a1) a3
  exact ⟨a1, a2, a3, a4, a5, a6, tc, ec, cod, st, ty, dom, W, qx_D_kp tr en kp D, hs⟩
theorem qr_check {NL JL n w m : Nat} (F : qr_I NL JL n w m xop xnd xtk xdp xau xwt xsj xpr xpn xsc xty xmk xcd xai xts xtz xen xcx xsz ysj ypr ypl ysc ypd ygn ysm) :
    ∃ r : Int32, (m = 0 → r = -1) ∧ (∀ post : Int32 → SX → Prop, (∀ cx' sz' : Nat → Int32, qx_kp xcx xsz cx' sz' → post r ((nI NL), (nI JL), (nI n), xop, xnd, (nI w), (nI m), xtc, xec, xsr, xar, xtk, xdp, xau, xwt, xsj, xpr, xpn, xsc, xty, xmk, xcd, xai, xts, xtz, xen, cx', sz')) → wpX_check post ((nI NL), (nI JL), (nI n), xop, xnd, (nI w), (nI m), xtc, xec, xsr, xar, xtk, xdp, xau, xwt, xsj, xpr, xpn, xsc, xty, xmk, xcd, xai, xts, xtz, xen, xcx, xsz)) ∧
      (∀ post : Int32 → Prop, post r → wpY_check post ((nI NL), (nI JL), (nI n), (nI m), xtk, ysj, ypr, ypl, ysc, ypd, ygn, ysm)) := by
  have hm := qr_m64 F
  unfold wpX_check wpY_check
  dsimp only
  by_cases h0 : m = 0
  · subst h0
    exact ⟨-1, fun _ => rfl, fun post h => br_t rfl (h _ _ qx_kp_rf), fun post h => br_t rfl h⟩
  · obtain ⟨a1, a2, fin, HX, HY, hg, tc, ec, cod, st, ty, dom, W, D, hs⟩ := F.2.2.2 h0
    have T := qt_whole F.2.2.1 a1
    obtain ⟨tr, en, ok⟩ := qm_finT T fin
    have hn := T.2.1
    have K := qx_KM T fin HX
    have hYY := qw_YM T fin HY
    have hA := qx_hA T
    have hau : ∀ k, k < m → qm_K xtk (qt_au xau) k = 0 → xau (qm_S xtk (qt_au xau) k) = nI (qt_au xau (qm_S xtk (qt_au xau) k)) ∧ qt_au xau (qm_S xtk (qt_au xau) k) < 32 ∧ qm_S xtk (qt_au xau) k + 1 < qt_au xau (qm_S xtk (qt_au xau) k) := fun k hk h => by
      obtain ⟨z1, z2, z3, z4, z5⟩ := qm_tokA T (ok k hk).1 h
      exact ⟨hA _ (ok k hk).1 z1, by omega, z3⟩
    have hmn : ¬ nI m = 0 := nI_ne0 (by omega) (by omega)
    by_cases c0 : xmk 0 = 0
    · have c0' : ygn 0 = 0 := (hg 0 (by omega)).1.trans c0
      rcases qr_least (p := qr_bad m (qm_R xtk (qt_au xau)) xmk) (m := m) with ⟨k, k1, k2, k3⟩ | all
      · refine ⟨nI k, fun e => absurd e h0, fun post h => br_f hmn (br_t c0 ⟨m + 1, qx_ck22 tr en K D hau (fun k' q1 q2 q3 cx' sz' kp => ?_) (fun q => absurd k2 (q k k1)) (m + 1) 0 xcx xsz (by omega) (by omega) (fun j hj => by omega) qx_kp_rf⟩), fun post h => br_f hmn (br_t c0' ⟨m + 1, qw_ck22 hYY (fun k' q1 q2 q3 => ?_) (fun q => absurd ((qr_badE (fun j hj => (hg j hj).1) k1).mpr k2) (q k k1)) (m + 1) 0 (by omega) (by omega) (fun j hj => by omega)⟩)⟩
        · have e : k' = k := by
            rcases Nat.lt_trichotomy k' k with z | z | z
            · exact absurd q2 (k3 k' z)
            · exact z
            · exact absurd k2 (q3 k z)
          subst e; exact h cx' sz' kp
        · have e : k' = k := by
            rcases Nat.lt_trichotomy k' k with z | z | z
            · exact absurd ((qr_badE (fun j hj => (hg j hj).1) q1).mp q2) (k3 k' z)
            · exact z
            · exact absurd ((qr_badE (fun j hj => (hg j hj).1) k1).mpr k2) (q3 k z)
          subst e; exact h
      · refine ⟨-2, fun e => absurd e h0, fun post h => br_f hmn (br_t c0 ⟨m + 1, qx_ck22 tr en K D hau (fun k' q1 q2 q3 cx' sz' kp => absurd q2 (all k' q1)) (fun q cx' sz' kp => h cx' sz' kp) (m + 1) 0 xcx xsz (by omega) (by omega) (fun j hj => by omega) qx_kp_rf⟩), fun post h => br_f hmn (br_t c0' ⟨m + 1, qw_ck22 hYY (fun k' q1 q2 q3 => absurd ((qr_badE (fun j hj => (hg j hj).1) q1).mp q2) (all k' q1)) (fun q => h) (m + 1) 0 (by omega) (by omega) (fun j hj => by omega)⟩)⟩
    · have c0' : ¬ ygn 0 = 0 := fun e => c0 ((hg 0 (by omega)).1.symm.trans e)
      exact ⟨0, fun e => absurd e h0, fun post h => br_f hmn (br_f c0 (h _ _ qx_kp_rf)), fun post h => br_f hmn (br_f c0' h)⟩
end
end
section
theorem i_vc_check {k : Nat} {u : SX} {v : SY} (I : i_Rel k u v) (hk : k + 3 ≤ 1538) : wpX_check (fun r u' => wpY_check (fun r' => r' = r ∧ i_Rel (k + 3) u' v) v) u := by
  refine qr_el (Q := fun u v => wpX_check (fun r u' => wpY_check (fun r' => r' = r ∧ i_Rel (k + 3) u' v) v) u) I ?_
  intro NL JL n w m xop xnd xtc xec xsr xar xtk xdp xau xwt xsj xpr xpn xsc xty xmk xcd xai xts xtz xen xcx xsz ysj ypr ypl ysc ypd ygn ysm F
  obtain ⟨r, _, hX, hY⟩ := qr_check (xtc := xtc) (xec := xec) (xsr := xsr) (xar := xar) F
  exact hX _ fun cx' sz' kp => hY _ ⟨rfl, qr_in (qr_kpI F kp)⟩
theorem i_vc_apps {k : Nat} {u : SX} {v : SY} (I : i_Rel k u v) (hk : k + 3 ≤ 1538) : wpX_apps (fun r u' => wpY_apps (fun r' => r' = r ∧ i_Rel (k + 3) u' v) v) u := by
  refine qr_el (Q := fun u v => wpX_apps (fun r u' => wpY_apps (fun r' => r' = r ∧ i_Rel (k + 3) u' v) v) u) I ?_
  intro NL JL n w m xop xnd xtc xec xsr xar xtk xdp xau xwt xsj xpr xpn xsc xty xmk xcd xai xts xtz xen xcx xsz ysj ypr ypl ysc ypd ygn ysm F
  have hm := qr_m64 F
  obtain ⟨r, hr0, hX, hY⟩ := qr_check (xtc := xtc) (xec := xec) (xsr := xsr) (xar := xar) F
  unfold wpX_apps wpY_apps
  dsimp only
  refine hX _ fun cx' sz' kp => ?_
  dsimp only
  by_cases e : r = -2
  · have h0 : m ≠ 0 := fun z => by
      have := hr0 z
      rw [e] at this; exact absurd this (by decide)
    obtain ⟨a1, a2, fin, HX, HY, _⟩ := F.2.2.2 h0
    have T := qt_whole F.2.2.1 a1
    obtain ⟨tr, en, ok⟩ := qm_finT T fin
    have hn := T.2.1
    refine br_t e (qx_cwt (S := qm_S xtk (qt_au xau)) hm (fun k hk => ⟨by have := (ok k hk).1; omega, (HX k (by omega)).1⟩) (hY _ (br_t e ⟨m + 1, ?_⟩)))
    exact qw_ap15 (S := qm_S xtk (qt_au xau)) hm (fun k hk => ⟨by have := (ok k hk).1; omega, (HY k (by omega)).1⟩) ⟨rfl, qr_in (qr_kpI F kp)⟩ (m + 1) 0 (by omega) (by omega)
  · exact br_f e (hY _ (br_f e ⟨rfl, qr_in (qr_kpI F kp)⟩))
end
