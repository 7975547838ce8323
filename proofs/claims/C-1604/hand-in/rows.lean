section
/-! pure rows to paste: stores, nI and lN arithmetic, masks, shifts, narrowing, branches by naturals (pk_le, pk_lt, pk_eq), loops (lp1 .. lp16: the measure of the state; rp1 ..: recursion), negatives. Take what you need -/
theorem pk_us {f : Nat → Int32} {k : Nat} {x : Int32} : upd f k x k = x := if_pos rfl
theorem pk_un {f : Nat → Int32} {k j : Nat} {x : Int32} (h : j ≠ k) : upd f k x j = f j := if_neg h
theorem pk_uLs {f : Nat → Int64} {k : Nat} {x : Int64} : vp_updL f k x k = x := if_pos rfl
theorem pk_uLn {f : Nat → Int64} {k j : Nat} {x : Int64} (h : j ≠ k) : vp_updL f k x j = f j := if_neg h
theorem pk_sub {a b : Nat} (h : b ≤ a) : nI a - nI b = nI (a - b) := by
  obtain ⟨c, rfl⟩ : ∃ c, a = c + b := ⟨a - b, by omega⟩
  rw [← nI_add, Int32.add_sub_cancel, Nat.add_sub_cancel]
theorem pk_m1 (n : Nat) : nI (n + 1) + (-1) = nI n := by
  rw [← nI_1, Int32.add_assoc, show (1 : Int32) + (-1) = 0 from rfl, Int32.add_zero]
theorem pk_mul (a b : Nat) : nI a * nI b = nI (a * b) := (Int32.ofNat_mul a b).symm
theorem pk_div {a d : Nat} (ha : a < 2 ^ 31) (h0 : 0 < d) (hd : d < 2 ^ 31) : nI a / nI d = nI (a / d) := by
  apply Int32.toInt_inj.mp
  rw [lg_idiv_nonneg (by rw [nI_toInt ha]; omega) (by rw [nI_toInt hd]; omega), nI_toInt ha, nI_toInt hd, nI_toInt (Nat.lt_of_le_of_lt (Nat.div_le_self a d) ha)]
  first | rfl | exact (Int.natCast_ediv _ _).symm
theorem pk_rem {a d : Nat} (ha : a < 2 ^ 31) (h0 : 0 < d) (hd : d < 2 ^ 31) : nI a - nI a / nI d * nI d = nI (a % d) := by
  rw [pk_div ha h0 hd, pk_mul, pk_sub (Nat.div_mul_le_self a d)]
  exact congrArg nI (by have := Nat.div_add_mod' a d; omega)
theorem pk_sub_toInt {a b : Nat} (ha : a < 2 ^ 30) (hb : b < 2 ^ 30) : (nI a - nI b).toInt = (a : Int) - b := by
  rw [Int32.toInt_sub, nI_toInt (by omega), nI_toInt (by omega)]
  exact Int.bmod_eq_of_le (by omega) (by omega)
theorem pk_sneg {a b : Nat} (hb : b < 2 ^ 30) (h : a < b) : nI a - nI b < 0 := by
  rw [Int32.lt_iff_toInt_lt, pk_sub_toInt (by omega) hb, show (0 : Int32).toInt = 0 from by decide]
  omega
theorem pk_ix (x : Int32) {n : Nat} (hn : n < 2 ^ 31) : x < 0 ∨ nI n ≤ x ∨ ∃ j : Nat, j < n ∧ x = nI j := by
  by_cases h : x < 0
  · exact Or.inl h
  · obtain ⟨j, hj, rfl⟩ := nI_of h
    by_cases h2 : j < n
    · exact Or.inr (Or.inr ⟨j, h2, rfl⟩)
    · exact Or.inr (Or.inl (nI_le (by omega) hj))
theorem pk_le {x y : Int32} {A B : Prop} (a b : Nat) (f : a ≤ b → A) (g : b < a → B) (hx : x = nI a := by rfl) (hy : y = nI b := by rfl) (ha : a < 2 ^ 31 := by omega) (hb : b < 2 ^ 31 := by omega) : (x ≤ y → A) ∧ (¬ x ≤ y → B) := by
  subst hx hy
  rw [nI_leI ha hb]
  exact ⟨f, fun z => g (by omega)⟩
theorem pk_lt {x y : Int32} {A B : Prop} (a b : Nat) (f : a < b → A) (g : b ≤ a → B) (hx : x = nI a := by rfl) (hy : y = nI b := by rfl) (ha : a < 2 ^ 31 := by omega) (hb : b < 2 ^ 31 := by omega) : (x < y → A) ∧ (¬ x < y → B) := by
  subst hx hy
  rw [nI_ltI ha hb]
  exact ⟨f, fun z => g (by omega)⟩
theorem pk_eq {x y : Int32} {A B : Prop} (a b : Nat) (f : a = b → A) (g : a ≠ b → B) (hx : x = nI a := by rfl) (hy : y = nI b := by rfl) (ha : a < 2 ^ 31 := by omega) (hb : b < 2 ^ 31 := by omega) : (x = y → A) ∧ (¬ x = y → B) := by
  subst hx hy
  rw [nI_eq ha hb]
  exact ⟨f, g⟩
theorem pk_in {x : Int32} (n N : Nat) (h : n < N) (hx : x = nI n := by rfl) (hN : N < 2 ^ 31 := by omega) : vp_in x N := by
  subst hx
  exact vp_in_nI h hN
theorem pk_cl {x : Int32} (n : Nat) (hx : x = nI n := by rfl) (h : n < 2 ^ 31 := by omega) : x.toNatClampNeg = n := by
  subst hx
  exact nI_clamp h
theorem pk_tn {n : Nat} (h : n < 2 ^ 32) : (nI n).toBitVec.toNat = n := Nat.mod_eq_of_lt h
theorem pk_and (x : Int32) {m : Int32} (k : Nat) (hm : m.toBitVec.toNat = 2 ^ k - 1) : x &&& m = nI (x.toBitVec.toNat % 2 ^ k) := by
  apply Int32.toBitVec_inj.mp
  apply BitVec.eq_of_toNat_eq
  rw [Int32.toBitVec_and, BitVec.toNat_and, hm, Nat.and_two_pow_sub_one_eq_mod]
  show _ = (BitVec.ofNat 32 _).toNat
  rw [BitVec.toNat_ofNat]
  exact (Nat.mod_eq_of_lt (Nat.lt_of_le_of_lt (Nat.mod_le _ _) x.toBitVec.isLt)).symm
theorem pk_andN {n : Nat} (h : n < 2 ^ 32) {m : Int32} (k : Nat) (hm : m.toBitVec.toNat = 2 ^ k - 1) : nI n &&& m = nI (n % 2 ^ k) := by
  rw [pk_and _ k hm, pk_tn h]
theorem pk_andE (x : Int32) {m : Int32} (k : Nat) (hm : m.toBitVec.toNat = 2 ^ k - 1) : ∃ j : Nat, j < 2 ^ k ∧ x &&& m = nI j := ⟨_, Nat.mod_lt _ (Nat.two_pow_pos k), pk_and x k hm⟩
theorem pk_andIn (x : Int32) {m : Int32} (k : Nat) (hm : m.toBitVec.toNat = 2 ^ k - 1) (hk : k ≤ 30) : vp_in (x &&& m) (2 ^ k) := by
  obtain ⟨j, hj, e⟩ := pk_andE x k hm
  rw [e]
  exact vp_in_nI hj (Nat.lt_of_le_of_lt (Nat.pow_le_pow_right (by decide) hk) (by decide))
theorem pk_shl (a s : Int32) (k : Nat) (hs : (s.toBitVec.smod 32).toNat = k) : (a <<< s).toBitVec.toNat = a.toBitVec.toNat * 2 ^ k % 2 ^ 32 := by
  show (a.toBitVec <<< (s.toBitVec.smod 32).toNat).toNat = _
  rw [hs, BitVec.toNat_shiftLeft, Nat.shiftLeft_eq]
theorem pk_shlN {n : Nat} (s : Int32) (k : Nat) (hs : (s.toBitVec.smod 32).toNat = k) (h : n * 2 ^ k < 2 ^ 32) : nI n <<< s = nI (n * 2 ^ k) := by
  apply Int32.toBitVec_inj.mp
  apply BitVec.eq_of_toNat_eq
  have hn : n < 2 ^ 32 := Nat.lt_of_le_of_lt (Nat.le_mul_of_pos_right n (Nat.two_pow_pos k)) h
  rw [pk_shl _ _ k hs, pk_tn hn, pk_tn h, Nat.mod_eq_of_lt h]
theorem pk_shr (a s : Int32) (k : Nat) (hs : (s.toBitVec.smod 32).toNat = k) : (a >>> s).toInt = a.toInt >>> k := by
  show (a.toBitVec.sshiftRight (s.toBitVec.smod 32).toNat).toInt = _
  rw [hs, BitVec.toInt_sshiftRight]
  rfl
theorem pk_shrN {n : Nat} (h : n < 2 ^ 31) (s : Int32) (k : Nat) (hs : (s.toBitVec.smod 32).toNat = k) : nI n >>> s = nI (n / 2 ^ k) := by
  apply Int32.toInt_inj.mp
  have h2 : n / 2 ^ k ≤ n := Nat.div_le_self _ _
  rw [pk_shr _ _ k hs, nI_toInt h, nI_toInt (by omega), Int.shiftRight_eq_div_pow]
  rfl
theorem pk_ushr (x s : Int32) (k : Nat) (hs : ((s.toUInt32 &&& Int32.toUInt32 31).toBitVec % 32).toNat = k) : (x.toUInt32 >>> (s.toUInt32 &&& Int32.toUInt32 31)).toInt32.toBitVec.toNat = x.toBitVec.toNat / 2 ^ k := by
  have e : (x.toUInt32 >>> (s.toUInt32 &&& Int32.toUInt32 31)).toInt32.toBitVec = x.toBitVec >>> k := by
    rw [← hs]
    exact UInt32.toBitVec_shiftRight _ _
  rw [e, BitVec.toNat_ushiftRight, Nat.shiftRight_eq_div_pow]
theorem pk_ushrN {n : Nat} (hn : n < 2 ^ 32) (s : Int32) (k : Nat) (hs : ((s.toUInt32 &&& Int32.toUInt32 31).toBitVec % 32).toNat = k) : ((nI n).toUInt32 >>> (s.toUInt32 &&& Int32.toUInt32 31)).toInt32 = nI (n / 2 ^ k) := by
  apply Int32.toBitVec_inj.mp
  apply BitVec.eq_of_toNat_eq
  rw [pk_ushr _ s k hs, pk_tn hn, pk_tn (Nat.lt_of_le_of_lt (Nat.div_le_self _ _) hn)]
theorem pk_nb (z : Int32) : narrow .byte (.int z.toInt8.toInt32) = .int z.toInt8.toInt32 := congrArg Value.int (by simp)
theorem pk_ns (z : Int32) : narrow .short (.int z.toInt16.toInt32) = .int z.toInt16.toInt32 := congrArg Value.int (by simp)
theorem pk_fb (r : Int32) : fits .byte (.int r.toInt8.toInt32) = true := by
  have ⟨a, b⟩ := lg_i2b_range r
  have h1 : (-128 : Int32).toInt = -128 := by decide
  have h2 : (127 : Int32).toInt = 127 := by decide
  simp only [fits, Bool.and_eq_true, decide_eq_true_eq, Int32.le_iff_toInt_le, h1, h2]
  omega
theorem pk_fs (r : Int32) : fits .short (.int r.toInt16.toInt32) = true := by
  have ⟨a, b⟩ := lg_i2s_range r
  have h1 : (-32768 : Int32).toInt = -32768 := by decide
  have h2 : (32767 : Int32).toInt = 32767 := by decide
  simp only [fits, Bool.and_eq_true, decide_eq_true_eq, Int32.le_iff_toInt_le, h1, h2]
  omega
theorem pk_charN {q : Nat} (hq : q < 65536) : narrow .char (.int (nI q)) = .int (nI q) ∧ fits .char (.int (nI q)) = true := by
  constructor
  · have e : (nI q).toUInt32.toUInt16.toUInt32.toInt32 = nI q := by
      apply Int32.toBitVec_inj.mp
      apply BitVec.eq_of_toNat_eq
      show (nI q).toUInt32.toUInt16.toUInt32.toNat = q % 2 ^ 32
      rw [UInt16.toNat_toUInt32, UInt32.toNat_toUInt16, show (nI q).toUInt32.toNat = q % 2 ^ 32 from rfl]
      omega
    exact congrArg Value.int e
  · have a : (0 : Int32) ≤ nI q := nI_pos' (by omega)
    have b : nI q ≤ 65535 := nI_le (b := 65535) (by omega) (by decide)
    show (decide ((0 : Int32) ≤ nI q) && decide (nI q ≤ 65535)) = true
    rw [decide_eq_true a, decide_eq_true b]
    rfl
theorem pk_char (x : Int32) : (x.toUInt32 % 65536).toInt32 = nI (x.toBitVec.toNat % 65536) := by
  apply Int32.toBitVec_inj.mp
  apply BitVec.eq_of_toNat_eq
  rw [pk_tn (by omega)]
  show (x.toUInt32 % 65536).toNat = _
  rw [UInt32.toNat_mod]
  rfl
theorem pk_nc (x : Int32) : narrow .char (.int (x.toUInt32 % 65536).toInt32) = .int (x.toUInt32 % 65536).toInt32 := by
  rw [pk_char]
  exact (pk_charN (Nat.mod_lt _ (by decide))).1
theorem pk_fc (x : Int32) : fits .char (.int (x.toUInt32 % 65536).toInt32) = true := by
  rw [pk_char]
  exact (pk_charN (Nat.mod_lt _ (by decide))).2
theorem pk_vb (z : Int32) : vp_nar .byte z.toInt8.toInt32 = z.toInt8.toInt32 := by rw [vp_nar_byte]; simp
theorem pk_vs (z : Int32) : vp_nar .short z.toInt16.toInt32 = z.toInt16.toInt32 := by rw [vp_nar_short]; simp
theorem pk_vc (z : Int32) : vp_nar .char (z.toUInt32 % 65536).toInt32 = (z.toUInt32 % 65536).toInt32 := Value.int.inj (pk_nc z)
theorem pk_lT {n : Nat} (h : n < 2 ^ 63) : (lN n).toInt = (n : Int) := lg_ofNat_toInt h
theorem pk_lLT {a b : Nat} (ha : a < 2 ^ 63) (hb : b < 2 ^ 63) : lN a < lN b ↔ a < b := by
  rw [Int64.lt_iff_toInt_lt, pk_lT ha, pk_lT hb]; omega
theorem pk_lLE {a b : Nat} (ha : a < 2 ^ 63) (hb : b < 2 ^ 63) : lN a ≤ lN b ↔ a ≤ b := by
  rw [Int64.le_iff_toInt_le, pk_lT ha, pk_lT hb]; omega
theorem pk_lEQ {a b : Nat} (ha : a < 2 ^ 63) (hb : b < 2 ^ 63) : lN a = lN b ↔ a = b := by
  rw [← Int64.toInt_inj, pk_lT ha, pk_lT hb]; omega
theorem pk_lOf {x : Int64} (h : ¬ x < 0) : ∃ k : Nat, k < 2 ^ 63 ∧ x = lN k := by
  rw [Int64.lt_iff_toInt_lt] at h
  have h0 : (0 : Int64).toInt = 0 := by decide
  have hx := Int64.toInt_lt x
  refine ⟨x.toInt.toNat, by omega, Int64.toInt_inj.mp ?_⟩
  rw [pk_lT (by omega)]
  omega
theorem pk_lDiv {a b : Nat} (ha : a < 2 ^ 63) (h0 : 0 < b) (hb : b < 2 ^ 63) : lN a / lN b = lN (a / b) := by
  apply Int64.toInt_inj.mp
  rw [lg_ldiv_nonneg (by rw [pk_lT ha]; omega) (by rw [pk_lT hb]; omega), pk_lT ha, pk_lT hb, pk_lT (Nat.lt_of_le_of_lt (Nat.div_le_self a b) ha)]
  rfl
theorem pk_lRem {a b : Nat} (ha : a < 2 ^ 63) (h0 : 0 < b) (hb : b < 2 ^ 63) : lN a - lN a / lN b * lN b = lN (a % b) := by
  rw [pk_lDiv ha h0 hb, lN_mul, lN_sub (Nat.div_mul_le_self a b)]
  exact congrArg lN (by have := Nat.div_add_mod' a b; omega)
theorem pk_loop {σ : Type} (W : Nat → Nat → σ → Prop) (I : Nat → σ → Prop) (e i0 : Nat) (s : σ) (hi : i0 ≤ e) (h0 : I i0 s) (hx : ∀ n s, I e s → W (n + 1) e s)
    (hs : ∀ n i s, i < e → I i s → (∀ s', I (i + 1) s' → W n (i + 1) s') → W (n + 1) i s) : ∃ n, W n i0 s :=
  ⟨e + 1, loop_i W I e hx hs (e + 1) i0 s hi (by omega) h0⟩
theorem pk_loopD {σ : Type} (W : Nat → Nat → σ → Prop) (I : Nat → σ → Prop) (hx : ∀ n s, I 0 s → W (n + 1) 0 s)
    (hs : ∀ n i s, I (i + 1) s → (∀ s', I i s' → W n i s') → W (n + 1) (i + 1) s) : ∀ (e : Nat) (s : σ), I e s → W (e + 1) e s := by
  intro e
  induction e with
  | zero => exact fun s h => hx 0 s h
  | succ e ih => exact fun s h => hs (e + 1) e s h (fun s' h' => ih s' h')
theorem lp1 {A1 : Type} (W : Nat → A1 → Prop) (I : A1 → Prop) (μ : A1 → Nat) (hs : ∀ (n : Nat) (a1 : A1), I a1 → (∀ (b1 : A1), I b1 → μ b1 < μ a1 → W n b1) → W (n + 1) a1) (a1 : A1) (h : I a1) : ∃ n, W n a1 :=
  loop_m (σ := A1) (fun n s => W n s) (fun s => I s) (fun s => μ s) (fun n s hI hk => hs n s hI (fun b1 h9 hm => hk b1 h9 hm)) a1 h
theorem lp2 {A1 A2 : Type} (W : Nat → A1 → A2 → Prop) (I : A1 → A2 → Prop) (μ : A1 → A2 → Nat) (hs : ∀ (n : Nat) (a1 : A1) (a2 : A2), I a1 a2 → (∀ (b1 : A1) (b2 : A2), I b1 b2 → μ b1 b2 < μ a1 a2 → W n b1 b2) → W (n + 1) a1 a2) (a1 : A1) (a2 : A2) (h : I a1 a2) : ∃ n, W n a1 a2 :=
  loop_m (σ := A1 × A2) (fun n s => W n s.1 s.2) (fun s => I s.1 s.2) (fun s => μ s.1 s.2) (fun n s hI hk => hs n s.1 s.2 hI (fun b1 b2 h9 hm => hk (b1, b2) h9 hm)) (a1, a2) h
theorem lp3 {A1 A2 A3 : Type} (W : Nat → A1 → A2 → A3 → Prop) (I : A1 → A2 → A3 → Prop) (μ : A1 → A2 → A3 → Nat) (hs : ∀ (n : Nat) (a1 : A1) (a2 : A2) (a3 : A3), I a1 a2 a3 → (∀ (b1 : A1) (b2 : A2) (b3 : A3), I b1 b2 b3 → μ b1 b2 b3 < μ a1 a2 a3 → W n b1 b2 b3) → W (n + 1) a1 a2 a3) (a1 : A1) (a2 : A2) (a3 : A3) (h : I a1 a2 a3) : ∃ n, W n a1 a2 a3 :=
  loop_m (σ := A1 × A2 × A3) (fun n s => W n s.1 s.2.1 s.2.2) (fun s => I s.1 s.2.1 s.2.2) (fun s => μ s.1 s.2.1 s.2.2) (fun n s hI hk => hs n s.1 s.2.1 s.2.2 hI (fun b1 b2 b3 h9 hm => hk (b1, b2, b3) h9 hm)) (a1, a2, a3) h
theorem lp4 {A1 A2 A3 A4 : Type} (W : Nat → A1 → A2 → A3 → A4 → Prop) (I : A1 → A2 → A3 → A4 → Prop) (μ : A1 → A2 → A3 → A4 → Nat) (hs : ∀ (n : Nat) (a1 : A1) (a2 : A2) (a3 : A3) (a4 : A4), I a1 a2 a3 a4 → (∀ (b1 : A1) (b2 : A2) (b3 : A3) (b4 : A4), I b1 b2 b3 b4 → μ b1 b2 b3 b4 < μ a1 a2 a3 a4 → W n b1 b2 b3 b4) → W (n + 1) a1 a2 a3 a4) (a1 : A1) (a2 : A2) (a3 : A3) (a4 : A4) (h : I a1 a2 a3 a4) : ∃ n, W n a1 a2 a3 a4 :=
  loop_m (σ := A1 × A2 × A3 × A4) (fun n s => W n s.1 s.2.1 s.2.2.1 s.2.2.2) (fun s => I s.1 s.2.1 s.2.2.1 s.2.2.2) (fun s => μ s.1 s.2.1 s.2.2.1 s.2.2.2) (fun n s hI hk => hs n s.1 s.2.1 s.2.2.1 s.2.2.2 hI (fun b1 b2 b3 b4 h9 hm => hk (b1, b2, b3, b4) h9 hm)) (a1, a2, a3, a4) h
theorem lp5 {A1 A2 A3 A4 A5 : Type} (W : Nat → A1 → A2 → A3 → A4 → A5 → Prop) (I : A1 → A2 → A3 → A4 → A5 → Prop) (μ : A1 → A2 → A3 → A4 → A5 → Nat) (hs : ∀ (n : Nat) (a1 : A1) (a2 : A2) (a3 : A3) (a4 : A4) (a5 : A5), I a1 a2 a3 a4 a5 → (∀ (b1 : A1) (b2 : A2) (b3 : A3) (b4 : A4) (b5 : A5), I b1 b2 b3 b4 b5 → μ b1 b2 b3 b4 b5 < μ a1 a2 a3 a4 a5 → W n b1 b2 b3 b4 b5) → W (n + 1) a1 a2 a3 a4 a5) (a1 : A1) (a2 : A2) (a3 : A3) (a4 : A4) (a5 : A5) (h : I a1 a2 a3 a4 a5) : ∃ n, W n a1 a2 a3 a4 a5 :=
  loop_m (σ := A1 × A2 × A3 × A4 × A5) (fun n s => W n s.1 s.2.1 s.2.2.1 s.2.2.2.1 s.2.2.2.2) (fun s => I s.1 s.2.1 s.2.2.1 s.2.2.2.1 s.2.2.2.2) (fun s => μ s.1 s.2.1 s.2.2.1 s.2.2.2.1 s.2.2.2.2) (fun n s hI hk => hs n s.1 s.2.1 s.2.2.1 s.2.2.2.1 s.2.2.2.2 hI (fun b1 b2 b3 b4 b5 h9 hm => hk (b1, b2, b3, b4, b5) h9 hm)) (a1, a2, a3, a4, a5) h
theorem lp6 {A1 A2 A3 A4 A5 A6 : Type} (W : Nat → A1 → A2 → A3 → A4 → A5 → A6 → Prop) (I : A1 → A2 → A3 → A4 → A5 → A6 → Prop) (μ : A1 → A2 → A3 → A4 → A5 → A6 → Nat) (hs : ∀ (n : Nat) (a1 : A1) (a2 : A2) (a3 : A3) (a4 : A4) (a5 : A5) (a6 : A6), I a1 a2 a3 a4 a5 a6 → (∀ (b1 : A1) (b2 : A2) (b3 : A3) (b4 : A4) (b5 : A5) (b6 : A6), I b1 b2 b3 b4 b5 b6 → μ b1 b2 b3 b4 b5 b6 < μ a1 a2 a3 a4 a5 a6 → W n b1 b2 b3 b4 b5 b6) → W (n + 1) a1 a2 a3 a4 a5 a6) (a1 : A1) (a2 : A2) (a3 : A3) (a4 : A4) (a5 : A5) (a6 : A6) (h : I a1 a2 a3 a4 a5 a6) : ∃ n, W n a1 a2 a3 a4 a5 a6 :=
  loop_m (σ := A1 × A2 × A3 × A4 × A5 × A6) (fun n s => W n s.1 s.2.1 s.2.2.1 s.2.2.2.1 s.2.2.2.2.1 s.2.2.2.2.2) (fun s => I s.1 s.2.1 s.2.2.1 s.2.2.2.1 s.2.2.2.2.1 s.2.2.2.2.2) (fun s => μ s.1 s.2.1 s.2.2.1 s.2.2.2.1 s.2.2.2.2.1 s.2.2.2.2.2) (fun n s hI hk => hs n s.1 s.2.1 s.2.2.1 s.2.2.2.1 s.2.2.2.2.1 s.2.2.2.2.2 hI (fun b1 b2 b3 b4 b5 b6 h9 hm => hk (b1, b2, b3, b4, b5, b6) h9 hm)) (a1, a2, a3, a4, a5, a6) h
theorem lp7 {A1 A2 A3 A4 A5 A6 A7 : Type} (W : Nat → A1 → A2 → A3 → A4 → A5 → A6 → A7 → Prop) (I : A1 → A2 → A3 → A4 → A5 → A6 → A7 → Prop) (μ : A1 → A2 → A3 → A4 → A5 → A6 → A7 → Nat) (hs : ∀ (n : Nat) (a1 : A1) (a2 : A2) (a3 : A3) (a4 : A4) (a5 : A5) (a6 : A6) (a7 : A7), I a1 a2 a3 a4 a5 a6 a7 → (∀ (b1 : A1) (b2 : A2) (b3 : A3) (b4 : A4) (b5 : A5) (b6 : A6) (b7 : A7), I b1 b2 b3 b4 b5 b6 b7 → μ b1 b2 b3 b4 b5 b6 b7 < μ a1 a2 a3 a4 a5 a6 a7 → W n b1 b2 b3 b4 b5 b6 b7) → W (n + 1) a1 a2 a3 a4 a5 a6 a7) (a1 : A1) (a2 : A2) (a3 : A3) (a4 : A4) (a5 : A5) (a6 : A6) (a7 : A7) (h : I a1 a2 a3 a4 a5 a6 a7) : ∃ n, W n a1 a2 a3 a4 a5 a6 a7 :=
  loop_m (σ := A1 × A2 × A3 × A4 × A5 × A6 × A7) (fun n s => W n s.1 s.2.1 s.2.2.1 s.2.2.2.1 s.2.2.2.2.1 s.2.2.2.2.2.1 s.2.2.2.2.2.2) (fun s => I s.1 s.2.1 s.2.2.1 s.2.2.2.1 s.2.2.2.2.1 s.2.2.2.2.2.1 s.2.2.2.2.2.2) (fun s => μ s.1 s.2.1 s.2.2.1 s.2.2.2.1 s.2.2.2.2.1 s.2.2.2.2.2.1 s.2.2.2.2.2.2) (fun n s hI hk => hs n s.1 s.2.1 s.2.2.1 s.2.2.2.1 s.2.2.2.2.1 s.2.2.2.2.2.1 s.2.2.2.2.2.2 hI (fun b1 b2 b3 b4 b5 b6 b7 h9 hm => hk (b1, b2, b3, b4, b5, b6, b7) h9 hm)) (a1, a2, a3, a4, a5, a6, a7) h
theorem lp8 {A1 A2 A3 A4 A5 A6 A7 A8 : Type} (W : Nat → A1 → A2 → A3 → A4 → A5 → A6 → A7 → A8 → Prop) (I : A1 → A2 → A3 → A4 → A5 → A6 → A7 → A8 → Prop) (μ : A1 → A2 → A3 → A4 → A5 → A6 → A7 → A8 → Nat) (hs : ∀ (n : Nat) (a1 : A1) (a2 : A2) (a3 : A3) (a4 : A4) (a5 : A5) (a6 : A6) (a7 : A7) (a8 : A8), I a1 a2 a3 a4 a5 a6 a7 a8 → (∀ (b1 : A1) (b2 : A2) (b3 : A3) (b4 : A4) (b5 : A5) (b6 : A6) (b7 : A7) (b8 : A8), I b1 b2 b3 b4 b5 b6 b7 b8 → μ b1 b2 b3 b4 b5 b6 b7 b8 < μ a1 a2 a3 a4 a5 a6 a7 a8 → W n b1 b2 b3 b4 b5 b6 b7 b8) → W (n + 1) a1 a2 a3 a4 a5 a6 a7 a8) (a1 : A1) (a2 : A2) (a3 : A3) (a4 : A4) (a5 : A5) (a6 : A6) (a7 : A7) (a8 : A8) (h : I a1 a2 a3 a4 a5 a6 a7 a8) : ∃ n, W n a1 a2 a3 a4 a5 a6 a7 a8 :=
  loop_m (σ := A1 × A2 × A3 × A4 × A5 × A6 × A7 × A8) (fun n s => W n s.1 s.2.1 s.2.2.1 s.2.2.2.1 s.2.2.2.2.1 s.2.2.2.2.2.1 s.2.2.2.2.2.2.1 s.2.2.2.2.2.2.2) (fun s => I s.1 s.2.1 s.2.2.1 s.2.2.2.1 s.2.2.2.2.1 s.2.2.2.2.2.1 s.2.2.2.2.2.2.1 s.2.2.2.2.2.2.2) (fun s => μ s.1 s.2.1 s.2.2.1 s.2.2.2.1 s.2.2.2.2.1 s.2.2.2.2.2.1 s.2.2.2.2.2.2.1 s.2.2.2.2.2.2.2) (fun n s hI hk => hs n s.1 s.2.1 s.2.2.1 s.2.2.2.1 s.2.2.2.2.1 s.2.2.2.2.2.1 s.2.2.2.2.2.2.1 s.2.2.2.2.2.2.2 hI (fun b1 b2 b3 b4 b5 b6 b7 b8 h9 hm => hk (b1, b2, b3, b4, b5, b6, b7, b8) h9 hm)) (a1, a2, a3, a4, a5, a6, a7, a8) h
theorem lp9 {A1 A2 A3 A4 A5 A6 A7 A8 A9 : Type} (W : Nat → A1 → A2 → A3 → A4 → A5 → A6 → A7 → A8 → A9 → Prop) (I : A1 → A2 → A3 → A4 → A5 → A6 → A7 → A8 → A9 → Prop) (μ : A1 → A2 → A3 → A4 → A5 → A6 → A7 → A8 → A9 → Nat) (hs : ∀ (n : Nat) (a1 : A1) (a2 : A2) (a3 : A3) (a4 : A4) (a5 : A5) (a6 : A6) (a7 : A7) (a8 : A8) (a9 : A9), I a1 a2 a3 a4 a5 a6 a7 a8 a9 → (∀ (b1 : A1) (b2 : A2) (b3 : A3) (b4 : A4) (b5 : A5) (b6 : A6) (b7 : A7) (b8 : A8) (b9 : A9), I b1 b2 b3 b4 b5 b6 b7 b8 b9 → μ b1 b2 b3 b4 b5 b6 b7 b8 b9 < μ a1 a2 a3 a4 a5 a6 a7 a8 a9 → W n b1 b2 b3 b4 b5 b6 b7 b8 b9) → W (n + 1) a1 a2 a3 a4 a5 a6 a7 a8 a9) (a1 : A1) (a2 : A2) (a3 : A3) (a4 : A4) (a5 : A5) (a6 : A6) (a7 : A7) (a8 : A8) (a9 : A9) (h : I a1 a2 a3 a4 a5 a6 a7 a8 a9) : ∃ n, W n a1 a2 a3 a4 a5 a6 a7 a8 a9 :=
  loop_m (σ := A1 × A2 × A3 × A4 × A5 × A6 × A7 × A8 × A9) (fun n s => W n s.1 s.2.1 s.2.2.1 s.2.2.2.1 s.2.2.2.2.1 s.2.2.2.2.2.1 s.2.2.2.2.2.2.1 s.2.2.2.2.2.2.2.1 s.2.2.2.2.2.2.2.2) (fun s => I s.1 s.2.1 s.2.2.1 s.2.2.2.1 s.2.2.2.2.1 s.2.2.2.2.2.1 s.2.2.2.2.2.2.1 s.2.2.2.2.2.2.2.1 s.2.2.2.2.2.2.2.2) (fun s => μ s.1 s.2.1 s.2.2.1 s.2.2.2.1 s.2.2.2.2.1 s.2.2.2.2.2.1 s.2.2.2.2.2.2.1 s.2.2.2.2.2.2.2.1 s.2.2.2.2.2.2.2.2) (fun n s hI hk => hs n s.1 s.2.1 s.2.2.1 s.2.2.2.1 s.2.2.2.2.1 s.2.2.2.2.2.1 s.2.2.2.2.2.2.1 s.2.2.2.2.2.2.2.1 s.2.2.2.2.2.2.2.2 hI (fun b1 b2 b3 b4 b5 b6 b7 b8 b9 h9 hm => hk (b1, b2, b3, b4, b5, b6, b7, b8, b9) h9 hm)) (a1, a2, a3, a4, a5, a6, a7, a8, a9) h
theorem lp10 {A1 A2 A3 A4 A5 A6 A7 A8 A9 A10 : Type} (W : Nat → A1 → A2 → A3 → A4 → A5 → A6 → A7 → A8 → A9 → A10 → Prop) (I : A1 → A2 → A3 → A4 → A5 → A6 → A7 → A8 → A9 → A10 → Prop) (μ : A1 → A2 → A3 → A4 → A5 → A6 → A7 → A8 → A9 → A10 → Nat) (hs : ∀ (n : Nat) (a1 : A1) (a2 : A2) (a3 : A3) (a4 : A4) (a5 : A5) (a6 : A6) (a7 : A7) (a8 : A8) (a9 : A9) (a10 : A10), I a1 a2 a3 a4 a5 a6 a7 a8 a9 a10 → (∀ (b1 : A1) (b2 : A2) (b3 : A3) (b4 : A4) (b5 : A5) (b6 : A6) (b7 : A7) (b8 : A8) (b9 : A9) (b10 : A10), I b1 b2 b3 b4 b5 b6 b7 b8 b9 b10 → μ b1 b2 b3 b4 b5 b6 b7 b8 b9 b10 < μ a1 a2 a3 a4 a5 a6 a7 a8 a9 a10 → W n b1 b2 b3 b4 b5 b6 b7 b8 b9 b10) → W (n + 1) a1 a2 a3 a4 a5 a6 a7 a8 a9 a10) (a1 : A1) (a2 : A2) (a3 : A3) (a4 : A4) (a5 : A5) (a6 : A6) (a7 : A7) (a8 : A8) (a9 : A9) (a10 : A10) (h : I a1 a2 a3 a4 a5 a6 a7 a8 a9 a10) : ∃ n, W n a1 a2 a3 a4 a5 a6 a7 a8 a9 a10 :=
  loop_m (σ := A1 × A2 × A3 × A4 × A5 × A6 × A7 × A8 × A9 × A10) (fun n s => W n s.1 s.2.1 s.2.2.1 s.2.2.2.1 s.2.2.2.2.1 s.2.2.2.2.2.1 s.2.2.2.2.2.2.1 s.2.2.2.2.2.2.2.1 s.2.2.2.2.2.2.2.2.1 s.2.2.2.2.2.2.2.2.2) (fun s => I s.1 s.2.1 s.2.2.1 s.2.2.2.1 s.2.2.2.2.1 s.2.2.2.2.2.1 s.2.2.2.2.2.2.1 s.2.2.2.2.2.2.2.1 s.2.2.2.2.2.2.2.2.1 s.2.2.2.2.2.2.2.2.2) (fun s => μ s.1 s.2.1 s.2.2.1 s.2.2.2.1 s.2.2.2.2.1 s.2.2.2.2.2.1 s.2.2.2.2.2.2.1 s.2.2.2.2.2.2.2.1 s.2.2.2.2.2.2.2.2.1 s.2.2.2.2.2.2.2.2.2) (fun n s hI hk => hs n s.1 s.2.1 s.2.2.1 s.2.2.2.1 s.2.2.2.2.1 s.2.2.2.2.2.1 s.2.2.2.2.2.2.1 s.2.2.2.2.2.2.2.1 s.2.2.2.2.2.2.2.2.1 s.2.2.2.2.2.2.2.2.2 hI (fun b1 b2 b3 b4 b5 b6 b7 b8 b9 b10 h9 hm => hk (b1, b2, b3, b4, b5, b6, b7, b8, b9, b10) h9 hm)) (a1, a2, a3, a4, a5, a6, a7, a8, a9, a10) h
theorem lp11 {A1 A2 A3 A4 A5 A6 A7 A8 A9 A10 A11 : Type} (W : Nat → A1 → A2 → A3 → A4 → A5 → A6 → A7 → A8 → A9 → A10 → A11 → Prop) (I : A1 → A2 → A3 → A4 → A5 → A6 → A7 → A8 → A9 → A10 → A11 → Prop) (μ : A1 → A2 → A3 → A4 → A5 → A6 → A7 → A8 → A9 → A10 → A11 → Nat) (hs : ∀ (n : Nat) (a1 : A1) (a2 : A2) (a3 : A3) (a4 : A4) (a5 : A5) (a6 : A6) (a7 : A7) (a8 : A8) (a9 : A9) (a10 : A10) (a11 : A11), I a1 a2 a3 a4 a5 a6 a7 a8 a9 a10 a11 → (∀ (b1 : A1) (b2 : A2) (b3 : A3) (b4 : A4) (b5 : A5) (b6 : A6) (b7 : A7) (b8 : A8) (b9 : A9) (b10 : A10) (b11 : A11), I b1 b2 b3 b4 b5 b6 b7 b8 b9 b10 b11 → μ b1 b2 b3 b4 b5 b6 b7 b8 b9 b10 b11 < μ a1 a2 a3 a4 a5 a6 a7 a8 a9 a10 a11 → W n b1 b2 b3 b4 b5 b6 b7 b8 b9 b10 b11) → W (n + 1) a1 a2 a3 a4 a5 a6 a7 a8 a9 a10 a11) (a1 : A1) (a2 : A2) (a3 : A3) (a4 : A4) (a5 : A5) (a6 : A6) (a7 : A7) (a8 : A8) (a9 : A9) (a10 : A10) (a11 : A11) (h : I a1 a2 a3 a4 a5 a6 a7 a8 a9 a10 a11) : ∃ n, W n a1 a2 a3 a4 a5 a6 a7 a8 a9 a10 a11 :=
  loop_m (σ := A1 × A2 × A3 × A4 × A5 × A6 × A7 × A8 × A9 × A10 × A11) (fun n s => W n s.1 s.2.1 s.2.2.1 s.2.2.2.1 s.2.2.2.2.1 s.2.2.2.2.2.1 s.2.2.2.2.2.2.1 s.2.2.2.2.2.2.2.1 s.2.2.2.2.2.2.2.2.1 s.2.2.2.2.2.2.2.2.2.1 s.2.2.2.2.2.2.2.2.2.2) (fun s => I s.1 s.2.1 s.2.2.1 s.2.2.2.1 s.2.2.2.2.1 s.2.2.2.2.2.1 s.2.2.2.2.2.2.1 s.2.2.2.2.2.2.2.1 s.2.2.2.2.2.2.2.2.1 s.2.2.2.2.2.2.2.2.2.1 s.2.2.2.2.2.2.2.2.2.2) (fun s => μ s.1 s.2.1 s.2.2.1 s.2.2.2.1 s.2.2.2.2.1 s.2.2.2.2.2.1 s.2.2.2.2.2.2.1 s.2.2.2.2.2.2.2.1 s.2.2.2.2.2.2.2.2.1 s.2.2.2.2.2.2.2.2.2.1 s.2.2.2.2.2.2.2.2.2.2) (fun n s hI hk => hs n s.1 s.2.1 s.2.2.1 s.2.2.2.1 s.2.2.2.2.1 s.2.2.2.2.2.1 s.2.2.2.2.2.2.1 s.2.2.2.2.2.2.2.1 s.2.2.2.2.2.2.2.2.1 s.2.2.2.2.2.2.2.2.2.1 s.2.2.2.2.2.2.2.2.2.2 hI (fun b1 b2 b3 b4 b5 b6 b7 b8 b9 b10 b11 h9 hm => hk (b1, b2, b3, b4, b5, b6, b7, b8, b9, b10, b11) h9 hm)) (a1, a2, a3, a4, a5, a6, a7, a8, a9, a10, a11) h
theorem lp12 {A1 A2 A3 A4 A5 A6 A7 A8 A9 A10 A11 A12 : Type} (W : Nat → A1 → A2 → A3 → A4 → A5 → A6 → A7 → A8 → A9 → A10 → A11 → A12 → Prop) (I : A1 → A2 → A3 → A4 → A5 → A6 → A7 → A8 → A9 → A10 → A11 → A12 → Prop) (μ : A1 → A2 → A3 → A4 → A5 → A6 → A7 → A8 → A9 → A10 → A11 → A12 → Nat) (hs : ∀ (n : Nat) (a1 : A1) (a2 : A2) (a3 : A3) (a4 : A4) (a5 : A5) (a6 : A6) (a7 : A7) (a8 : A8) (a9 : A9) (a10 : A10) (a11 : A11) (a12 : A12), I a1 a2 a3 a4 a5 a6 a7 a8 a9 a10 a11 a12 → (∀ (b1 : A1) (b2 : A2) (b3 : A3) (b4 : A4) (b5 : A5) (b6 : A6) (b7 : A7) (b8 : A8) (b9 : A9) (b10 : A10) (b11 : A11) (b12 : A12), I b1 b2 b3 b4 b5 b6 b7 b8 b9 b10 b11 b12 → μ b1 b2 b3 b4 b5 b6 b7 b8 b9 b10 b11 b12 < μ a1 a2 a3 a4 a5 a6 a7 a8 a9 a10 a11 a12 → W n b1 b2 b3 b4 b5 b6 b7 b8 b9 b10 b11 b12) → W (n + 1) a1 a2 a3 a4 a5 a6 a7 a8 a9 a10 a11 a12) (a1 : A1) (a2 : A2) (a3 : A3) (a4 : A4) (a5 : A5) (a6 : A6) (a7 : A7) (a8 : A8) (a9 : A9) (a10 : A10) (a11 : A11) (a12 : A12) (h : I a1 a2 a3 a4 a5 a6 a7 a8 a9 a10 a11 a12) : ∃ n, W n a1 a2 a3 a4 a5 a6 a7 a8 a9 a10 a11 a12 :=
  loop_m (σ := A1 × A2 × A3 × A4 × A5 × A6 × A7 × A8 × A9 × A10 × A11 × A12) (fun n s => W n s.1 s.2.1 s.2.2.1 s.2.2.2.1 s.2.2.2.2.1 s.2.2.2.2.2.1 s.2.2.2.2.2.2.1 s.2.2.2.2.2.2.2.1 s.2.2.2.2.2.2.2.2.1 s.2.2.2.2.2.2.2.2.2.1 s.2.2.2.2.2.2.2.2.2.2.1 s.2.2.2.2.2.2.2.2.2.2.2) (fun s => I s.1 s.2.1 s.2.2.1 s.2.2.2.1 s.2.2.2.2.1 s.2.2.2.2.2.1 s.2.2.2.2.2.2.1 s.2.2.2.2.2.2.2.1 s.2.2.2.2.2.2.2.2.1 s.2.2.2.2.2.2.2.2.2.1 s.2.2.2.2.2.2.2.2.2.2.1 s.2.2.2.2.2.2.2.2.2.2.2) (fun s => μ s.1 s.2.1 s.2.2.1 s.2.2.2.1 s.2.2.2.2.1 s.2.2.2.2.2.1 s.2.2.2.2.2.2.1 s.2.2.2.2.2.2.2.1 s.2.2.2.2.2.2.2.2.1 s.2.2.2.2.2.2.2.2.2.1 s.2.2.2.2.2.2.2.2.2.2.1 s.2.2.2.2.2.2.2.2.2.2.2) (fun n s hI hk => hs n s.1 s.2.1 s.2.2.1 s.2.2.2.1 s.2.2.2.2.1 s.2.2.2.2.2.1 s.2.2.2.2.2.2.1 s.2.2.2.2.2.2.2.1 s.2.2.2.2.2.2.2.2.1 s.2.2.2.2.2.2.2.2.2.1 s.2.2.2.2.2.2.2.2.2.2.1 s.2.2.2.2.2.2.2.2.2.2.2 hI (fun b1 b2 b3 b4 b5 b6 b7 b8 b9 b10 b11 b12 h9 hm => hk (b1, b2, b3, b4, b5, b6, b7, b8, b9, b10, b11, b12) h9 hm)) (a1, a2, a3, a4, a5, a6, a7, a8, a9, a10, a11, a12) h
theorem lp13 {A1 A2 A3 A4 A5 A6 A7 A8 A9 A10 A11 A12 A13 : Type} (W : Nat → A1 → A2 → A3 → A4 → A5 → A6 → A7 → A8 → A9 → A10 → A11 → A12 → A13 → Prop) (I : A1 → A2 → A3 → A4 → A5 → A6 → A7 → A8 → A9 → A10 → A11 → A12 → A13 → Prop) (μ : A1 → A2 → A3 → A4 → A5 → A6 → A7 → A8 → A9 → A10 → A11 → A12 → A13 → Nat) (hs : ∀ (n : Nat) (a1 : A1) (a2 : A2) (a3 : A3) (a4 : A4) (a5 : A5) (a6 : A6) (a7 : A7) (a8 : A8) (a9 : A9) (a10 : A10) (a11 : A11) (a12 : A12) (a13 : A13), I a1 a2 a3 a4 a5 a6 a7 a8 a9 a10 a11 a12 a13 → (∀ (b1 : A1) (b2 : A2) (b3 : A3) (b4 : A4) (b5 : A5) (b6 : A6) (b7 : A7) (b8 : A8) (b9 : A9) (b10 : A10) (b11 : A11) (b12 : A12) (b13 : A13), I b1 b2 b3 b4 b5 b6 b7 b8 b9 b10 b11 b12 b13 → μ b1 b2 b3 b4 b5 b6 b7 b8 b9 b10 b11 b12 b13 < μ a1 a2 a3 a4 a5 a6 a7 a8 a9 a10 a11 a12 a13 → W n b1 b2 b3 b4 b5 b6 b7 b8 b9 b10 b11 b12 b13) → W (n + 1) a1 a2 a3 a4 a5 a6 a7 a8 a9 a10 a11 a12 a13) (a1 : A1) (a2 : A2) (a3 : A3) (a4 : A4) (a5 : A5) (a6 : A6) (a7 : A7) (a8 : A8) (a9 : A9) (a10 : A10) (a11 : A11) (a12 : A12) (a13 : A13) (h : I a1 a2 a3 a4 a5 a6 a7 a8 a9 a10 a11 a12 a13) : ∃ n, W n a1 a2 a3 a4 a5 a6 a7 a8 a9 a10 a11 a12 a13 :=
  loop_m (σ := A1 × A2 × A3 × A4 × A5 × A6 × A7 × A8 × A9 × A10 × A11 × A12 × A13) (fun n s => W n s.1 s.2.1 s.2.2.1 s.2.2.2.1 s.2.2.2.2.1 s.2.2.2.2.2.1 s.2.2.2.2.2.2.1 s.2.2.2.2.2.2.2.1 s.2.2.2.2.2.2.2.2.1 s.2.2.2.2.2.2.2.2.2.1 s.2.2.2.2.2.2.2.2.2.2.1 s.2.2.2.2.2.2.2.2.2.2.2.1 s.2.2.2.2.2.2.2.2.2.2.2.2) (fun s => I s.1 s.2.1 s.2.2.1 s.2.2.2.1 s.2.2.2.2.1 s.2.2.2.2.2.1 s.2.2.2.2.2.2.1 s.2.2.2.2.2.2.2.1 s.2.2.2.2.2.2.2.2.1 s.2.2.2.2.2.2.2.2.2.1 s.2.2.2.2.2.2.2.2.2.2.1 s.2.2.2.2.2.2.2.2.2.2.2.1 s.2.2.2.2.2.2.2.2.2.2.2.2) (fun s => μ s.1 s.2.1 s.2.2.1 s.2.2.2.1 s.2.2.2.2.1 s.2.2.2.2.2.1 s.2.2.2.2.2.2.1 s.2.2.2.2.2.2.2.1 s.2.2.2.2.2.2.2.2.1 s.2.2.2.2.2.2.2.2.2.1 s.2.2.2.2.2.2.2.2.2.2.1 s.2.2.2.2.2.2.2.2.2.2.2.1 s.2.2.2.2.2.2.2.2.2.2.2.2) (fun n s hI hk => hs n s.1 s.2.1 s.2.2.1 s.2.2.2.1 s.2.2.2.2.1 s.2.2.2.2.2.1 s.2.2.2.2.2.2.1 s.2.2.2.2.2.2.2.1 s.2.2.2.2.2.2.2.2.1 s.2.2.2.2.2.2.2.2.2.1 s.2.2.2.2.2.2.2.2.2.2.1 s.2.2.2.2.2.2.2.2.2.2.2.1 s.2.2.2.2.2.2.2.2.2.2.2.2 hI (fun b1 b2 b3 b4 b5 b6 b7 b8 b9 b10 b11 b12 b13 h9 hm => hk (b1, b2, b3, b4, b5, b6, b7, b8, b9, b10, b11, b12, b13) h9 hm)) (a1, a2, a3, a4, a5, a6, a7, a8, a9, a10, a11, a12, a13) h
theorem lp14 {A1 A2 A3 A4 A5 A6 A7 A8 A9 A10 A11 A12 A13 A14 : Type} (W : Nat → A1 → A2 → A3 → A4 → A5 → A6 → A7 → A8 → A9 → A10 → A11 → A12 → A13 → A14 → Prop) (I : A1 → A2 → A3 → A4 → A5 → A6 → A7 → A8 → A9 → A10 → A11 → A12 → A13 → A14 → Prop) (μ : A1 → A2 → A3 → A4 → A5 → A6 → A7 → A8 → A9 → A10 → A11 → A12 → A13 → A14 → Nat) (hs : ∀ (n : Nat) (a1 : A1) (a2 : A2) (a3 : A3) (a4 : A4) (a5 : A5) (a6 : A6) (a7 : A7) (a8 : A8) (a9 : A9) (a10 : A10) (a11 : A11) (a12 : A12) (a13 : A13) (a14 : A14), I a1 a2 a3 a4 a5 a6 a7 a8 a9 a10 a11 a12 a13 a14 → (∀ (b1 : A1) (b2 : A2) (b3 : A3) (b4 : A4) (b5 : A5) (b6 : A6) (b7 : A7) (b8 : A8) (b9 : A9) (b10 : A10) (b11 : A11) (b12 : A12) (b13 : A13) (b14 : A14), I b1 b2 b3 b4 b5 b6 b7 b8 b9 b10 b11 b12 b13 b14 → μ b1 b2 b3 b4 b5 b6 b7 b8 b9 b10 b11 b12 b13 b14 < μ a1 a2 a3 a4 a5 a6 a7 a8 a9 a10 a11 a12 a13 a14 → W n b1 b2 b3 b4 b5 b6 b7 b8 b9 b10 b11 b12 b13 b14) → W (n + 1) a1 a2 a3 a4 a5 a6 a7 a8 a9 a10 a11 a12 a13 a14) (a1 : A1) (a2 : A2) (a3 : A3) (a4 : A4) (a5 : A5) (a6 : A6) (a7 : A7) (a8 : A8) (a9 : A9) (a10 : A10) (a11 : A11) (a12 : A12) (a13 : A13) (a14 : A14) (h : I a1 a2 a3 a4 a5 a6 a7 a8 a9 a10 a11 a12 a13 a14) : ∃ n, W n a1 a2 a3 a4 a5 a6 a7 a8 a9 a10 a11 a12 a13 a14 :=
  loop_m (σ := A1 × A2 × A3 × A4 × A5 × A6 × A7 × A8 × A9 × A10 × A11 × A12 × A13 × A14) (fun n s => W n s.1 s.2.1 s.2.2.1 s.2.2.2.1 s.2.2.2.2.1 s.2.2.2.2.2.1 s.2.2.2.2.2.2.1 s.2.2.2.2.2.2.2.1 s.2.2.2.2.2.2.2.2.1 s.2.2.2.2.2.2.2.2.2.1 s.2.2.2.2.2.2.2.2.2.2.1 s.2.2.2.2.2.2.2.2.2.2.2.1 s.2.2.2.2.2.2.2.2.2.2.2.2.1 s.2.2.2.2.2.2.2.2.2.2.2.2.2) (fun s => I s.1 s.2.1 s.2.2.1 s.2.2.2.1 s.2.2.2.2.1 s.2.2.2.2.2.1 s.2.2.2.2.2.2.1 s.2.2.2.2.2.2.2.1 s.2.2.2.2.2.2.2.2.1 s.2.2.2.2.2.2.2.2.2.1 s.2.2.2.2.2.2.2.2.2.2.1 s.2.2.2.2.2.2.2.2.2.2.2.1 s.2.2.2.2.2.2.2.2.2.2.2.2.1 s.2.2.2.2.2.2.2.2.2.2.2.2.2) (fun s => μ s.1 s.2.1 s.2.2.1 s.2.2.2.1 s.2.2.2.2.1 s.2.2.2.2.2.1 s.2.2.2.2.2.2.1 s.2.2.2.2.2.2.2.1 s.2.2.2.2.2.2.2.2.1 s.2.2.2.2.2.2.2.2.2.1 s.2.2.2.2.2.2.2.2.2.2.1 s.2.2.2.2.2.2.2.2.2.2.2.1 s.2.2.2.2.2.2.2.2.2.2.2.2.1 s.2.2.2.2.2.2.2.2.2.2.2.2.2) (fun n s hI hk => hs n s.1 s.2.1 s.2.2.1 s.2.2.2.1 s.2.2.2.2.1 s.2.2.2.2.2.1 s.2.2.2.2.2.2.1 s.2.2.2.2.2.2.2.1 s.2.2.2.2.2.2.2.2.1 s.2.2.2.2.2.2.2.2.2.1 s.2.2.2.2.2.2.2.2.2.2.1 s.2.2.2.2.2.2.2.2.2.2.2.1 s.2.2.2.2.2.2.2.2.2.2.2.2.1 s.2.2.2.2.2.2.2.2.2.2.2.2.2 hI (fun b1 b2 b3 b4 b5 b6 b7 b8 b9 b10 b11 b12 b13 b14 h9 hm => hk (b1, b2, b3, b4, b5, b6, b7, b8, b9, b10, b11, b12, b13, b14) h9 hm)) (a1, a2, a3, a4, a5, a6, a7, a8, a9, a10, a11, a12, a13, a14) h
theorem lp15 {A1 A2 A3 A4 A5 A6 A7 A8 A9 A10 A11 A12 A13 A14 A15 : Type} (W : Nat → A1 → A2 → A3 → A4 → A5 → A6 → A7 → A8 → A9 → A10 → A11 → A12 → A13 → A14 → A15 → Prop) (I : A1 → A2 → A3 → A4 → A5 → A6 → A7 → A8 → A9 → A10 → A11 → A12 → A13 → A14 → A15 → Prop) (μ : A1 → A2 → A3 → A4 → A5 → A6 → A7 → A8 → A9 → A10 → A11 → A12 → A13 → A14 → A15 → Nat) (hs : ∀ (n : Nat) (a1 : A1) (a2 : A2) (a3 : A3) (a4 : A4) (a5 : A5) (a6 : A6) (a7 : A7) (a8 : A8) (a9 : A9) (a10 : A10) (a11 : A11) (a12 : A12) (a13 : A13) (a14 : A14) (a15 : A15), I a1 a2 a3 a4 a5 a6 a7 a8 a9 a10 a11 a12 a13 a14 a15 → (∀ (b1 : A1) (b2 : A2) (b3 : A3) (b4 : A4) (b5 : A5) (b6 : A6) (b7 : A7) (b8 : A8) (b9 : A9) (b10 : A10) (b11 : A11) (b12 : A12) (b13 : A13) (b14 : A14) (b15 : A15), I b1 b2 b3 b4 b5 b6 b7 b8 b9 b10 b11 b12 b13 b14 b15 → μ b1 b2 b3 b4 b5 b6 b7 b8 b9 b10 b11 b12 b13 b14 b15 < μ a1 a2 a3 a4 a5 a6 a7 a8 a9 a10 a11 a12 a13 a14 a15 → W n b1 b2 b3 b4 b5 b6 b7 b8 b9 b10 b11 b12 b13 b14 b15) → W (n + 1) a1 a2 a3 a4 a5 a6 a7 a8 a9 a10 a11 a12 a13 a14 a15) (a1 : A1) (a2 : A2) (a3 : A3) (a4 : A4) (a5 : A5) (a6 : A6) (a7 : A7) (a8 : A8) (a9 : A9) (a10 : A10) (a11 : A11) (a12 : A12) (a13 : A13) (a14 : A14) (a15 : A15) (h : I a1 a2 a3 a4 a5 a6 a7 a8 a9 a10 a11 a12 a13 a14 a15) : ∃ n, W n a1 a2 a3 a4 a5 a6 a7 a8 a9 a10 a11 a12 a13 a14 a15 :=
  loop_m (σ := A1 × A2 × A3 × A4 × A5 × A6 × A7 × A8 × A9 × A10 × A11 × A12 × A13 × A14 × A15) (fun n s => W n s.1 s.2.1 s.2.2.1 s.2.2.2.1 s.2.2.2.2.1 s.2.2.2.2.2.1 s.2.2.2.2.2.2.1 s.2.2.2.2.2.2.2.1 s.2.2.2.2.2.2.2.2.1 s.2.2.2.2.2.2.2.2.2.1 s.2.2.2.2.2.2.2.2.2.2.1 s.2.2.2.2.2.2.2.2.2.2.2.1 s.2.2.2.2.2.2.2.2.2.2.2.2.1 s.2.2.2.2.2.2.2.2.2.2.2.2.2.1 s.2.2.2.2.2.2.2.2.2.2.2.2.2.2) (fun s => I s.1 s.2.1 s.2.2.1 s.2.2.2.1 s.2.2.2.2.1 s.2.2.2.2.2.1 s.2.2.2.2.2.2.1 s.2.2.2.2.2.2.2.1 s.2.2.2.2.2.2.2.2.1 s.2.2.2.2.2.2.2.2.2.1 s.2.2.2.2.2.2.2.2.2.2.1 s.2.2.2.2.2.2.2.2.2.2.2.1 s.2.2.2.2.2.2.2.2.2.2.2.2.1 s.2.2.2.2.2.2.2.2.2.2.2.2.2.1 s.2.2.2.2.2.2.2.2.2.2.2.2.2.2) (fun s => μ s.1 s.2.1 s.2.2.1 s.2.2.2.1 s.2.2.2.2.1 s.2.2.2.2.2.1 s.2.2.2.2.2.2.1 s.2.2.2.2.2.2.2.1 s.2.2.2.2.2.2.2.2.1 s.2.2.2.2.2.2.2.2.2.1 s.2.2.2.2.2.2.2.2.2.2.1 s.2.2.2.2.2.2.2.2.2.2.2.1 s.2.2.2.2.2.2.2.2.2.2.2.2.1 s.2.2.2.2.2.2.2.2.2.2.2.2.2.1 s.2.2.2.2.2.2.2.2.2.2.2.2.2.2) (fun n s hI hk => hs n s.1 s.2.1 s.2.2.1 s.2.2.2.1 s.2.2.2.2.1 s.2.2.2.2.2.1 s.2.2.2.2.2.2.1 s.2.2.2.2.2.2.2.1 s.2.2.2.2.2.2.2.2.1 s.2.2.2.2.2.2.2.2.2.1 s.2.2.2.2.2.2.2.2.2.2.1 s.2.2.2.2.2.2.2.2.2.2.2.1 s.2.2.2.2.2.2.2.2.2.2.2.2.1 s.2.2.2.2.2.2.2.2.2.2.2.2.2.1 s.2.2.2.2.2.2.2.2.2.2.2.2.2.2 hI (fun b1 b2 b3 b4 b5 b6 b7 b8 b9 b10 b11 b12 b13 b14 b15 h9 hm => hk (b1, b2, b3, b4, b5, b6, b7, b8, b9, b10, b11, b12, b13, b14, b15) h9 hm)) (a1, a2, a3, a4, a5, a6, a7, a8, a9, a10, a11, a12, a13, a14, a15) h
theorem lp16 {A1 A2 A3 A4 A5 A6 A7 A8 A9 A10 A11 A12 A13 A14 A15 A16 : Type} (W : Nat → A1 → A2 → A3 → A4 → A5 → A6 → A7 → A8 → A9 → A10 → A11 → A12 → A13 → A14 → A15 → A16 → Prop) (I : A1 → A2 → A3 → A4 → A5 → A6 → A7 → A8 → A9 → A10 → A11 → A12 → A13 → A14 → A15 → A16 → Prop) (μ : A1 → A2 → A3 → A4 → A5 → A6 → A7 → A8 → A9 → A10 → A11 → A12 → A13 → A14 → A15 → A16 → Nat) (hs : ∀ (n : Nat) (a1 : A1) (a2 : A2) (a3 : A3) (a4 : A4) (a5 : A5) (a6 : A6) (a7 : A7) (a8 : A8) (a9 : A9) (a10 : A10) (a11 : A11) (a12 : A12) (a13 : A13) (a14 : A14) (a15 : A15) (a16 : A16), I a1 a2 a3 a4 a5 a6 a7 a8 a9 a10 a11 a12 a13 a14 a15 a16 → (∀ (b1 : A1) (b2 : A2) (b3 : A3) (b4 : A4) (b5 : A5) (b6 : A6) (b7 : A7) (b8 : A8) (b9 : A9) (b10 : A10) (b11 : A11) (b12 : A12) (b13 : A13) (b14 : A14) (b15 : A15) (b16 : A16), I b1 b2 b3 b4 b5 b6 b7 b8 b9 b10 b11 b12 b13 b14 b15 b16 → μ b1 b2 b3 b4 b5 b6 b7 b8 b9 b10 b11 b12 b13 b14 b15 b16 < μ a1 a2 a3 a4 a5 a6 a7 a8 a9 a10 a11 a12 a13 a14 a15 a16 → W n b1 b2 b3 b4 b5 b6 b7 b8 b9 b10 b11 b12 b13 b14 b15 b16) → W (n + 1) a1 a2 a3 a4 a5 a6 a7 a8 a9 a10 a11 a12 a13 a14 a15 a16) (a1 : A1) (a2 : A2) (a3 : A3) (a4 : A4) (a5 : A5) (a6 : A6) (a7 : A7) (a8 : A8) (a9 : A9) (a10 : A10) (a11 : A11) (a12 : A12) (a13 : A13) (a14 : A14) (a15 : A15) (a16 : A16) (h : I a1 a2 a3 a4 a5 a6 a7 a8 a9 a10 a11 a12 a13 a14 a15 a16) : ∃ n, W n a1 a2 a3 a4 a5 a6 a7 a8 a9 a10 a11 a12 a13 a14 a15 a16 :=
  loop_m (σ := A1 × A2 × A3 × A4 × A5 × A6 × A7 × A8 × A9 × A10 × A11 × A12 × A13 × A14 × A15 × A16) (fun n s => W n s.1 s.2.1 s.2.2.1 s.2.2.2.1 s.2.2.2.2.1 s.2.2.2.2.2.1 s.2.2.2.2.2.2.1 s.2.2.2.2.2.2.2.1 s.2.2.2.2.2.2.2.2.1 s.2.2.2.2.2.2.2.2.2.1 s.2.2.2.2.2.2.2.2.2.2.1 s.2.2.2.2.2.2.2.2.2.2.2.1 s.2.2.2.2.2.2.2.2.2.2.2.2.1 s.2.2.2.2.2.2.2.2.2.2.2.2.2.1 s.2.2.2.2.2.2.2.2.2.2.2.2.2.2.1 s.2.2.2.2.2.2.2.2.2.2.2.2.2.2.2) (fun s => I s.1 s.2.1 s.2.2.1 s.2.2.2.1 s.2.2.2.2.1 s.2.2.2.2.2.1 s.2.2.2.2.2.2.1 s.2.2.2.2.2.2.2.1 s.2.2.2.2.2.2.2.2.1 s.2.2.2.2.2.2.2.2.2.1 s.2.2.2.2.2.2.2.2.2.2.1 s.2.2.2.2.2.2.2.2.2.2.2.1 s.2.2.2.2.2.2.2.2.2.2.2.2.1 s.2.2.2.2.2.2.2.2.2.2.2.2.2.1 s.2.2.2.2.2.2.2.2.2.2.2.2.2.2.1 s.2.2.2.2.2.2.2.2.2.2.2.2.2.2.2) (fun s => μ s.1 s.2.1 s.2.2.1 s.2.2.2.1 s.2.2.2.2.1 s.2.2.2.2.2.1 s.2.2.2.2.2.2.1 s.2.2.2.2.2.2.2.1 s.2.2.2.2.2.2.2.2.1 s.2.2.2.2.2.2.2.2.2.1 s.2.2.2.2.2.2.2.2.2.2.1 s.2.2.2.2.2.2.2.2.2.2.2.1 s.2.2.2.2.2.2.2.2.2.2.2.2.1 s.2.2.2.2.2.2.2.2.2.2.2.2.2.1 s.2.2.2.2.2.2.2.2.2.2.2.2.2.2.1 s.2.2.2.2.2.2.2.2.2.2.2.2.2.2.2) (fun n s hI hk => hs n s.1 s.2.1 s.2.2.1 s.2.2.2.1 s.2.2.2.2.1 s.2.2.2.2.2.1 s.2.2.2.2.2.2.1 s.2.2.2.2.2.2.2.1 s.2.2.2.2.2.2.2.2.1 s.2.2.2.2.2.2.2.2.2.1 s.2.2.2.2.2.2.2.2.2.2.1 s.2.2.2.2.2.2.2.2.2.2.2.1 s.2.2.2.2.2.2.2.2.2.2.2.2.1 s.2.2.2.2.2.2.2.2.2.2.2.2.2.1 s.2.2.2.2.2.2.2.2.2.2.2.2.2.2.1 s.2.2.2.2.2.2.2.2.2.2.2.2.2.2.2 hI (fun b1 b2 b3 b4 b5 b6 b7 b8 b9 b10 b11 b12 b13 b14 b15 b16 h9 hm => hk (b1, b2, b3, b4, b5, b6, b7, b8, b9, b10, b11, b12, b13, b14, b15, b16) h9 hm)) (a1, a2, a3, a4, a5, a6, a7, a8, a9, a10, a11, a12, a13, a14, a15, a16) h
theorem pk_least (P : Nat → Prop) (h : ∃ k, P k) : ∃ k, P k ∧ ∀ j, j < k → ¬ P j := by
  obtain ⟨k, hk⟩ := h
  induction k using Nat.strongRecOn with
  | ind k ih =>
    by_cases e : ∃ j, j < k ∧ P j
    · obtain ⟨j, hj, pj⟩ := e
      exact ih j hj pj
    · exact ⟨k, hk, fun j hj pj => e ⟨j, hj, pj⟩⟩
theorem rp1 {ρ A1 : Type} (W : Nat → (ρ → Prop) → A1 → Prop) (ok : A1 → Prop) (μ : A1 → Nat) (val : A1 → ρ)
    (hs : ∀ (d : Nat) (post : ρ → Prop) (a1 : A1), ok a1 → post (val a1) → (∀ (post' : ρ → Prop) (b1 : A1), ok b1 → μ b1 < μ a1 → post' (val b1) → W d post' b1) → W (d + 1) post a1) :
    ∀ (d : Nat) (post : ρ → Prop) (a1 : A1), ok a1 → μ a1 < d → post (val a1) → W d post a1 := by
  intro d
  induction d with
  | zero => intro post a1 _ h; omega
  | succ d ih =>
    intro post a1 ho hm hp
    exact hs d post a1 ho hp (fun post' b1 ho' hm' hp' => ih post' b1 ho' (by omega) hp')
theorem rp2 {ρ A1 A2 : Type} (W : Nat → (ρ → Prop) → A1 → A2 → Prop) (ok : A1 → A2 → Prop) (μ : A1 → A2 → Nat) (val : A1 → A2 → ρ)
    (hs : ∀ (d : Nat) (post : ρ → Prop) (a1 : A1) (a2 : A2), ok a1 a2 → post (val a1 a2) → (∀ (post' : ρ → Prop) (b1 : A1) (b2 : A2), ok b1 b2 → μ b1 b2 < μ a1 a2 → post' (val b1 b2) → W d post' b1 b2) → W (d + 1) post a1 a2) :
    ∀ (d : Nat) (post : ρ → Prop) (a1 : A1) (a2 : A2), ok a1 a2 → μ a1 a2 < d → post (val a1 a2) → W d post a1 a2 := by
  intro d
  induction d with
  | zero => intro post a1 a2 _ h; omega
  | succ d ih =>
    intro post a1 a2 ho hm hp
    exact hs d post a1 a2 ho hp (fun post' b1 b2 ho' hm' hp' => ih post' b1 b2 ho' (by omega) hp')
theorem rp3 {ρ A1 A2 A3 : Type} (W : Nat → (ρ → Prop) → A1 → A2 → A3 → Prop) (ok : A1 → A2 → A3 → Prop) (μ : A1 → A2 → A3 → Nat) (val : A1 → A2 → A3 → ρ)
    (hs : ∀ (d : Nat) (post : ρ → Prop) (a1 : A1) (a2 : A2) (a3 : A3), ok a1 a2 a3 → post (val a1 a2 a3) → (∀ (post' : ρ → Prop) (b1 : A1) (b2 : A2) (b3 : A3), ok b1 b2 b3 → μ b1 b2 b3 < μ a1 a2 a3 → post' (val b1 b2 b3) → W d post' b1 b2 b3) → W (d + 1) post a1 a2 a3) :
    ∀ (d : Nat) (post : ρ → Prop) (a1 : A1) (a2 : A2) (a3 : A3), ok a1 a2 a3 → μ a1 a2 a3 < d → post (val a1 a2 a3) → W d post a1 a2 a3 := by
  intro d
  induction d with
  | zero => intro post a1 a2 a3 _ h; omega
  | succ d ih =>
    intro post a1 a2 a3 ho hm hp
    exact hs d post a1 a2 a3 ho hp (fun post' b1 b2 b3 ho' hm' hp' => ih post' b1 b2 b3 ho' (by omega) hp')
theorem rp4 {ρ A1 A2 A3 A4 : Type} (W : Nat → (ρ → Prop) → A1 → A2 → A3 → A4 → Prop) (ok : A1 → A2 → A3 → A4 → Prop) (μ : A1 → A2 → A3 → A4 → Nat) (val : A1 → A2 → A3 → A4 → ρ)
    (hs : ∀ (d : Nat) (post : ρ → Prop) (a1 : A1) (a2 : A2) (a3 : A3) (a4 : A4), ok a1 a2 a3 a4 → post (val a1 a2 a3 a4) → (∀ (post' : ρ → Prop) (b1 : A1) (b2 : A2) (b3 : A3) (b4 : A4), ok b1 b2 b3 b4 → μ b1 b2 b3 b4 < μ a1 a2 a3 a4 → post' (val b1 b2 b3 b4) → W d post' b1 b2 b3 b4) → W (d + 1) post a1 a2 a3 a4) :
    ∀ (d : Nat) (post : ρ → Prop) (a1 : A1) (a2 : A2) (a3 : A3) (a4 : A4), ok a1 a2 a3 a4 → μ a1 a2 a3 a4 < d → post (val a1 a2 a3 a4) → W d post a1 a2 a3 a4 := by
  intro d
  induction d with
  | zero => intro post a1 a2 a3 a4 _ h; omega
  | succ d ih =>
    intro post a1 a2 a3 a4 ho hm hp
    exact hs d post a1 a2 a3 a4 ho hp (fun post' b1 b2 b3 b4 ho' hm' hp' => ih post' b1 b2 b3 b4 ho' (by omega) hp')
theorem rp5 {ρ A1 A2 A3 A4 A5 : Type} (W : Nat → (ρ → Prop) → A1 → A2 → A3 → A4 → A5 → Prop) (ok : A1 → A2 → A3 → A4 → A5 → Prop) (μ : A1 → A2 → A3 → A4 → A5 → Nat) (val : A1 → A2 → A3 → A4 → A5 → ρ)
    (hs : ∀ (d : Nat) (post : ρ → Prop) (a1 : A1) (a2 : A2) (a3 : A3) (a4 : A4) (a5 : A5), ok a1 a2 a3 a4 a5 → post (val a1 a2 a3 a4 a5) → (∀ (post' : ρ → Prop) (b1 : A1) (b2 : A2) (b3 : A3) (b4 : A4) (b5 : A5), ok b1 b2 b3 b4 b5 → μ b1 b2 b3 b4 b5 < μ a1 a2 a3 a4 a5 → post' (val b1 b2 b3 b4 b5) → W d post' b1 b2 b3 b4 b5) → W (d + 1) post a1 a2 a3 a4 a5) :
    ∀ (d : Nat) (post : ρ → Prop) (a1 : A1) (a2 : A2) (a3 : A3) (a4 : A4) (a5 : A5), ok a1 a2 a3 a4 a5 → μ a1 a2 a3 a4 a5 < d → post (val a1 a2 a3 a4 a5) → W d post a1 a2 a3 a4 a5 := by
  intro d
  induction d with
  | zero => intro post a1 a2 a3 a4 a5 _ h; omega
  | succ d ih =>
    intro post a1 a2 a3 a4 a5 ho hm hp
    exact hs d post a1 a2 a3 a4 a5 ho hp (fun post' b1 b2 b3 b4 b5 ho' hm' hp' => ih post' b1 b2 b3 b4 b5 ho' (by omega) hp')
theorem rp6 {ρ A1 A2 A3 A4 A5 A6 : Type} (W : Nat → (ρ → Prop) → A1 → A2 → A3 → A4 → A5 → A6 → Prop) (ok : A1 → A2 → A3 → A4 → A5 → A6 → Prop) (μ : A1 → A2 → A3 → A4 → A5 → A6 → Nat) (val : A1 → A2 → A3 → A4 → A5 → A6 → ρ)
    (hs : ∀ (d : Nat) (post : ρ → Prop) (a1 : A1) (a2 : A2) (a3 : A3) (a4 : A4) (a5 : A5) (a6 : A6), ok a1 a2 a3 a4 a5 a6 → post (val a1 a2 a3 a4 a5 a6) → (∀ (post' : ρ → Prop) (b1 : A1) (b2 : A2) (b3 : A3) (b4 : A4) (b5 : A5) (b6 : A6), ok b1 b2 b3 b4 b5 b6 → μ b1 b2 b3 b4 b5 b6 < μ a1 a2 a3 a4 a5 a6 → post' (val b1 b2 b3 b4 b5 b6) → W d post' b1 b2 b3 b4 b5 b6) → W (d + 1) post a1 a2 a3 a4 a5 a6) :
    ∀ (d : Nat) (post : ρ → Prop) (a1 : A1) (a2 : A2) (a3 : A3) (a4 : A4) (a5 : A5) (a6 : A6), ok a1 a2 a3 a4 a5 a6 → μ a1 a2 a3 a4 a5 a6 < d → post (val a1 a2 a3 a4 a5 a6) → W d post a1 a2 a3 a4 a5 a6 := by
  intro d
  induction d with
  | zero => intro post a1 a2 a3 a4 a5 a6 _ h; omega
  | succ d ih =>
    intro post a1 a2 a3 a4 a5 a6 ho hm hp
    exact hs d post a1 a2 a3 a4 a5 a6 ho hp (fun post' b1 b2 b3 b4 b5 b6 ho' hm' hp' => ih post' b1 b2 b3 b4 b5 b6 ho' (by omega) hp')
theorem rec_p {σ ρ : Type} (W : Nat → (ρ → Prop) → σ → Prop) (ok : σ → Prop) (μ : σ → Nat) (val : σ → ρ)
    (hs : ∀ d s post, ok s → post (val s) → (∀ s' post', ok s' → μ s' < μ s → post' (val s') → W d post' s') → W (d + 1) post s) :
    ∀ d s post, ok s → μ s < d → post (val s) → W d post s := by
  intro d
  induction d with
  | zero => intro s post _ h; omega
  | succ d ih =>
    intro s post ho hm hp
    exact hs d s post ho hp (fun s' post' ho' hm' hp' => ih s' post' ho' (by omega) hp')
theorem rec_q {σ ρ : Type} (W : Nat → (ρ → Prop) → σ → Prop) (ok : σ → Prop) (μ : σ → Nat) (Q : σ → ρ → Prop)
    (hs : ∀ d s post, ok s → (∀ r, Q s r → post r) → (∀ s' post', ok s' → μ s' < μ s → (∀ r, Q s' r → post' r) → W d post' s') → W (d + 1) post s) :
    ∀ d s post, ok s → μ s < d → (∀ r, Q s r → post r) → W d post s := by
  intro d
  induction d with
  | zero => intro s post _ h; omega
  | succ d ih =>
    intro s post ho hm hp
    exact hs d s post ho hp (fun s' post' ho' hm' hp' => ih s' post' ho' (by omega) hp')
def bx_sum (f : Nat → Int32) : Nat → Int32
  | 0 => 0
  | n + 1 => bx_sum f n + f n
theorem ek_u {A : Prop} {B : Nat → Prop} {k N : Nat} (hk : k < N) (h : B k) : (some k = none → A) ∧ (∀ y : Nat, some k = some y → (y < N ∧ B y)) :=
  ⟨fun z => absurd z (Option.some_ne_none k), fun _ e => (by cases e; exact ⟨hk, h⟩)⟩
theorem ek_nu {A : Prop} {B : Nat → Prop} (h : A) : ((none : Option Nat) = none → A) ∧ (∀ y : Nat, (none : Option Nat) = some y → B y) :=
  ⟨fun _ => h, fun _ e => (by cases e)⟩
theorem ek_if {c d A B : Prop} (e : c ↔ d) (f : d → A) (g : ¬ d → B) : (c → A) ∧ (¬ c → B) :=
  ⟨fun z => f (e.mp z), fun z => g (fun y => z (e.mpr y))⟩
theorem ek_v {α : Sort _} {P : α → Prop} {a b : α} (e : a = b) (h : P b) : P a := e ▸ h
theorem co_some {x : Option Nat} {A : Prop} {B : Nat → Prop} (i : Nat) (h : B i) (hx : x = some i := by rfl) : (x = none → A) ∧ (∀ y : Nat, x = some y → B y) := by
  subst hx
  exact ⟨fun e => (nomatch e), fun y e => Option.some.inj e ▸ h⟩
theorem co_none {x : Option Nat} {A : Prop} {B : Nat → Prop} (h : A) (hx : x = none := by rfl) : (x = none → A) ∧ (∀ y : Nat, x = some y → B y) := by
  subst hx
  exact ⟨fun _ => h, fun y e => (nomatch e)⟩
theorem co_any {x : Option Nat} {A : Prop} {B : Nat → Prop} (hn : x = none → A) (hs : ∀ i : Nat, x = some i → B i) : (x = none → A) ∧ (∀ y : Nat, x = some y → B y) := ⟨hn, hs⟩
theorem co_2 {P : Nat → Prop} (h0 : P 0) (h1 : P 1) {i : Nat} (hi : i < 2) : P i :=
  match i, hi with
  | 0, _ => h0
  | 1, _ => h1
theorem co_3 {P : Nat → Prop} (h0 : P 0) (h1 : P 1) (h2 : P 2) {i : Nat} (hi : i < 3) : P i :=
  match i, hi with
  | 0, _ => h0
  | 1, _ => h1
  | 2, _ => h2
theorem co_4 {P : Nat → Prop} (h0 : P 0) (h1 : P 1) (h2 : P 2) (h3 : P 3) {i : Nat} (hi : i < 4) : P i :=
  match i, hi with
  | 0, _ => h0
  | 1, _ => h1
  | 2, _ => h2
  | 3, _ => h3
theorem co_dec {N : Nat} {P : Nat → Prop} [DecidablePred P] (h : (List.range N).all (fun i => decide (P i)) = true) {i : Nat} (hi : i < N) : P i := by
  have := List.all_eq_true.mp h i (List.mem_range.mpr hi)
  exact of_decide_eq_true this
theorem co_tab {α : Type} {l : List α} {d : α} {P : α → Prop} (h : ∀ a, a ∈ l → P a) {i : Nat} (hi : i < l.length) : P (l.getD i d) := by
  rw [List.getD_eq_getElem?_getD, List.getElem?_eq_getElem hi]
  exact h _ (List.getElem_mem hi)
theorem pk_mu {x : Int32} {L : Nat} (h0 : ¬ x < 0) (h : ¬ nI L ≤ x) (hL : L < 2 ^ 31) : ∃ j : Nat, j < L ∧ x = nI j ∧ x + 1 = nI (j + 1) ∧ x.toNatClampNeg = j ∧ L - (x + 1).toNatClampNeg < L - x.toNatClampNeg := by
  obtain ⟨j, hj, rfl⟩ := nI_of h0
  have hl : j < L := Nat.not_le.mp fun q => h (nI_le q hj)
  refine ⟨j, hl, rfl, nI_1 j, nI_clamp hj, ?_⟩
  rw [nI_1, nI_clamp (by omega), nI_clamp hj]
  omega
theorem op_s {α : Type} {r : Option α} {A : Prop} {B : α → Prop} {y : α} (h : r = some y) (b : B y) : (r = none → A) ∧ ∀ z, r = some z → B z :=
  ⟨fun e => (by rw [h] at e; cases e), fun z e => (by rw [h] at e; cases e; exact b)⟩
def l_holds {α : Type} (a : Nat → Option Nat) (LP : List Nat) (p : Nat → α) (c : Nat) (b : Nat → α) : Prop :=
  ∀ j, j < c → ∃ y, a j = some y ∧ y ∈ LP ∧ p y = b j
theorem l_holds_0 {α : Type} {a : Nat → Option Nat} {LP : List Nat} {p b : Nat → α} : l_holds a LP p 0 b := fun j h => absurd h (Nat.not_lt_zero j)
theorem l_in_new (LP : List Nat) (q : Nat) : q ∈ LP ++ [q] := List.mem_append.mpr (Or.inr (List.mem_singleton.mpr rfl))
def l_sum (b : Nat → Int32) : Nat → Int32
  | 0 => 0
  | k + 1 => l_sum b k + b k
theorem sb_shr0 (x : Int32) : x >>> ((0 : Int32) &&& 31) = x := by
  rw [show ((0 : Int32) &&& 31) = 0 by decide]
  simp
theorem sb_shl0 (x : Int32) : x <<< ((0 : Int32) &&& 31) = x := by
  rw [show ((0 : Int32) &&& 31) = 0 by decide]
  simp
theorem sb_cl0 : (0 : Int32).toNatClampNeg = 0 := by decide
theorem sb_m1 {p : Nat} (h : 0 < p) : nI p + (-1) = nI (p - 1) := by
  obtain ⟨q, rfl⟩ : ∃ q, p = q + 1 := ⟨p - 1, by omega⟩
  exact pk_m1 q
def sb_b (c : Nat) : Int32 := (nI c).toInt8.toInt32
theorem sb_byte : ∀ c, c < 256 → sb_b c &&& 255 = nI c ∧ ((nI c).toUInt32 % 65536).toInt32 = nI c ∧ nI c ≤ 255 := by decide +kernel
def sb_Fit (a : Nat → Int32) : Prop := ∀ j, fits .byte (.int (a j)) = true
def sb_Lat (t : Nat → Nat) (n : Nat) (a : Nat → Int32) : Prop := ∀ j, j < n → t j < 256 ∧ a j = sb_b (t j)
theorem sb_fitB (c : Nat) : fits .byte (.int (sb_b c)) = true := pk_fb _
theorem sb_fit0 : sb_Fit (fun _ => 0) := fun _ => by
  show fits .byte (.int 0) = true
  decide
theorem sb_fitU {a : Nat → Int32} {k : Nat} {x : Int32} (h : sb_Fit a) (hx : fits .byte (.int x) = true) : sb_Fit (upd a k x) := by
  intro j
  by_cases e : j = k
  · subst e
    rw [pk_us]
    exact hx
  · rw [pk_un e]
    exact h j
def sb_cat (t : Nat → Nat) (n : Nat) (s : Nat → Nat) : Nat → Nat := fun j => if j < n then t j else s (j - n)
theorem sb_cat_lo {t s : Nat → Nat} {n j : Nat} (h : j < n) : sb_cat t n s j = t j := if_pos h
theorem sb_cat_hi {t s : Nat → Nat} {n j : Nat} : sb_cat t n s (n + j) = s j := by
  show (if n + j < n then t (n + j) else s (n + j - n)) = s j
  rw [if_neg (by omega), Nat.add_sub_cancel_left]
theorem sb_latPut {t s : Nat → Nat} {n w : Nat} {a a' : Nat → Int32} (h : sb_Lat t n a) (hk : ∀ j, j < n → a' j = a j) (hs : ∀ i, i < w → s i < 256 ∧ a' (n + i) = sb_b (s i)) : sb_Lat (sb_cat t n s) (n + w) a' := by
  intro j hj
  by_cases e : j < n
  · rw [sb_cat_lo e, hk j e]
    exact h j e
  · obtain ⟨i, rfl⟩ : ∃ i, j = n + i := ⟨j - n, by omega⟩
    rw [sb_cat_hi]
    exact hs i (by omega)
theorem sb_latKeep {t : Nat → Nat} {n : Nat} {a a' : Nat → Int32} (h : sb_Lat t n a) (hk : ∀ j, j < n → a' j = a j) : sb_Lat t n a' := fun j hj => by
  rw [hk j hj]
  exact h j hj
def sb_cap (q m : Nat) : Nat := if q ≤ m then m else if 2 * m + 2 < q then q else 2 * m + 2
def sb_Room (q m mc ms : Nat) : Prop := q ≤ m ∨ (1 ≤ mc ∧ sb_cap q m ≤ ms ∧ sb_cap q m ≤ 65536)
theorem sb_cap_ge (q m : Nat) : q ≤ sb_cap q m := by
  unfold sb_cap
  split
  · omega
  · split <;> omega
theorem sb_cap_gem (q m : Nat) : m ≤ sb_cap q m := by
  unfold sb_cap
  split
  · omega
  · split <;> omega
theorem sb_cap_le {q m mc ms : Nat} (hm : m ≤ 65536) (hr : sb_Room q m mc ms) : sb_cap q m ≤ 65536 := by
  rcases hr with h | h
  · rw [sb_cap, if_pos h]
    exact hm
  · exact h.2.2
theorem sb_at {P : Int32 → Prop} {x y : Int32} (e : x = y) (h : P y) : P x := e ▸ h
def sb_dg (w : Nat) : Nat := if w < 10 then 1 else if w < 100 then 2 else if w < 1000 then 3 else if w < 10000 then 4 else if w < 100000 then 5 else if w < 1000000 then 6 else if w < 10000000 then 7 else if w < 100000000 then 8 else if w < 1000000000 then 9 else 10
def sb_dec (v : Nat) : Nat → Nat := fun i => 48 + v / 10 ^ (sb_dg v - 1 - i) % 10
theorem sb_dg_in (w : Nat) : 1 ≤ sb_dg w ∧ sb_dg w ≤ 10 := by
  unfold sb_dg
  constructor <;> (repeat' split) <;> omega
theorem sb_dg100 {w : Nat} (h : 100 ≤ w) (hw : w < 2 ^ 31) : sb_dg w = sb_dg (w / 100) + 2 := by
  rw [sb_dg, sb_dg, if_neg (show ¬ w < 10 by omega), if_neg (show ¬ w < 100 by omega)]
  by_cases h3 : w < 1000
  · rw [if_pos h3, if_pos (show w / 100 < 10 by omega)]
  rw [if_neg h3, if_neg (show ¬ w / 100 < 10 by omega)]
  by_cases h4 : w < 10000
  · rw [if_pos h4, if_pos (show w / 100 < 100 by omega)]
  rw [if_neg h4, if_neg (show ¬ w / 100 < 100 by omega)]
  by_cases h5 : w < 100000
  · rw [if_pos h5, if_pos (show w / 100 < 1000 by omega)]
  rw [if_neg h5, if_neg (show ¬ w / 100 < 1000 by omega)]
  by_cases h6 : w < 1000000
  · rw [if_pos h6, if_pos (show w / 100 < 10000 by omega)]
  rw [if_neg h6, if_neg (show ¬ w / 100 < 10000 by omega)]
  by_cases h7 : w < 10000000
  · rw [if_pos h7, if_pos (show w / 100 < 100000 by omega)]
  rw [if_neg h7, if_neg (show ¬ w / 100 < 100000 by omega)]
  by_cases h8 : w < 100000000
  · rw [if_pos h8, if_pos (show w / 100 < 1000000 by omega)]
  rw [if_neg h8, if_neg (show ¬ w / 100 < 1000000 by omega)]
  by_cases h9 : w < 1000000000
  · rw [if_pos h9, if_pos (show w / 100 < 10000000 by omega)]
  rw [if_neg h9, if_neg (show ¬ w / 100 < 10000000 by omega)]
  rw [if_pos (show w / 100 < 100000000 by omega)]
theorem sb_negT {w : Nat} (h : w < 2 ^ 31) : (-nI w).toInt = -(w : Int) := by
  rw [Int32.toInt_neg, nI_toInt h]
  exact Int.bmod_eq_of_le (by omega) (by omega)
theorem sb_nle {a b : Nat} (ha : a < 2 ^ 31) (hb : b < 2 ^ 31) : -nI a ≤ -nI b ↔ b ≤ a := by
  rw [Int32.le_iff_toInt_le, sb_negT ha, sb_negT hb]
  omega
theorem sb_nlt {a b : Nat} (ha : a < 2 ^ 31) (hb : b < 2 ^ 31) : -nI a < -nI b ↔ b < a := by
  rw [Int32.lt_iff_toInt_lt, sb_negT ha, sb_negT hb]
  omega
theorem sb_cmp {A B : Prop} {x : Int32} (v c : Nat) (f : c ≤ v → A) (g : v < c → B) (hv : v < 2 ^ 31) (hx : x = -nI c := by rfl) (hc : c < 2 ^ 31 := by omega) : (-nI v ≤ x → A) ∧ (¬ -nI v ≤ x → B) := by
  subst hx
  rw [sb_nle hv hc]
  exact ⟨f, fun z => g (by omega)⟩
theorem sb_ndiv {w : Nat} (hw : w < 2 ^ 31) : (-nI w) / 100 = -nI (w / 100) := by
  apply Int32.toInt_inj.mp
  have h100 : (100 : Int32).toInt = 100 := by decide
  rw [Int32.toInt_div, sb_negT hw, h100, sb_negT (by omega), Int.neg_tdiv, Int.tdiv_eq_ediv_of_nonneg (by omega), Int.bmod_eq_of_le (by omega) (by omega)]
  omega
theorem sb_nrem {w : Nat} (hw : w < 2 ^ 31) : (-nI (w / 100)) * 100 - (-nI w) = nI (w % 100) := by
  have h := pk_rem (a := w) (d := 100) hw (by decide) (by decide)
  rw [pk_div hw (by decide) (by decide)] at h
  rw [← h]
  show (-nI (w / 100)) * nI 100 - (-nI w) = nI w - nI (w / 100) * nI 100
  rw [Int32.neg_mul, Int32.sub_neg, Int32.add_comm, ← Int32.sub_eq_add_neg]
end
section
/-! rows on bits, shifts and unsigned numbers, to paste: each family out of a closed proof of our own, whole with what it rests on; each by itself clean at Lean in its own claim (generation 39, form 5). Take a family whole -/
/-! ===== Int32 by its bits: bt x i ===== -/
def bt (x : Int32) (i : Nat) : Bool := x.toBitVec.getLsbD i
theorem b_ext {x y : Int32} (h : ∀ i, i < 32 → bt x i = bt y i) : x = y := Int32.toBitVec_inj.mp (BitVec.eq_of_getLsbD_eq (fun i hi => h i hi))
theorem b_or (x y : Int32) (i : Nat) : bt (x ||| y) i = (bt x i || bt y i) := by unfold bt; rw [Int32.toBitVec_or, BitVec.getLsbD_or]
theorem b_and (x y : Int32) (i : Nat) : bt (x &&& y) i = (bt x i && bt y i) := by unfold bt; rw [Int32.toBitVec_and, BitVec.getLsbD_and]
theorem b_xor (x y : Int32) (i : Nat) : bt (x ^^^ y) i = (bt x i ^^ bt y i) := by unfold bt; rw [Int32.toBitVec_xor, BitVec.getLsbD_xor]
theorem b_big {x : Int32} {i : Nat} (h : 32 ≤ i) : bt x i = false := BitVec.getLsbD_of_ge _ _ h
theorem b_255 (i : Nat) : bt 255 i = decide (i < 8) := by
  rcases Nat.lt_or_ge i 32 with h | h
  · exact (by decide +kernel : ∀ i, i < 32 → bt 255 i = decide (i < 8)) i h
  · rw [b_big h, decide_eq_false (by omega)]
theorem b_65535 (i : Nat) : bt 65535 i = decide (i < 16) := by
  rcases Nat.lt_or_ge i 32 with h | h
  · exact (by decide +kernel : ∀ i, i < 32 → bt 65535 i = decide (i < 16)) i h
  · rw [b_big h, decide_eq_false (by omega)]
theorem b_m1 : ∀ i, i < 32 → bt (-1) i = true := by decide +kernel
theorem b_0 (i : Nat) : bt 0 i = false := BitVec.getLsbD_zero
theorem s_l : ∀ n, n < 32 → ((nI n &&& 31).toBitVec.smod 32).toNat = n := by decide +kernel
theorem s_u : ∀ n, n < 32 → (((nI n).toUInt32 &&& Int32.toUInt32 31).toBitVec % 32).toNat = n := by decide +kernel
theorem b_shl (n : Nat) (hn : n < 32) (x : Int32) {i : Nat} (hi : i < 32) : bt (x <<< (nI n &&& 31)) i = (decide (n ≤ i) && bt x (i - n)) := by
  unfold bt
  rw [Int32.toBitVec_shiftLeft]
  show (x.toBitVec <<< ((nI n &&& 31).toBitVec.smod 32).toNat).getLsbD i = _
  rw [s_l n hn, BitVec.getLsbD_shiftLeft]
  rcases Nat.lt_or_ge i n with h | h
  · simp [h, Nat.not_le.mpr h]
  · simp [hi, h, Nat.not_lt.mpr h]
theorem b_ushr (n : Nat) (hn : n < 32) (x : Int32) (i : Nat) : bt ((x.toUInt32 >>> ((nI n).toUInt32 &&& Int32.toUInt32 31)).toInt32) i = bt x (n + i) := by
  show (x.toUInt32 >>> ((nI n).toUInt32 &&& Int32.toUInt32 31)).toBitVec.getLsbD i = x.toUInt32.toBitVec.getLsbD (n + i)
  rw [UInt32.toBitVec_shiftRight]
  show (x.toUInt32.toBitVec >>> (((nI n).toUInt32 &&& Int32.toUInt32 31).toBitVec % 32).toNat).getLsbD i = _
  rw [s_u n hn, BitVec.getLsbD_ushiftRight]
theorem b_sshr (n : Nat) (hn : n < 32) (x : Int32) {i : Nat} (hi : i < 32) : bt (x >>> (nI n &&& 31)) i = if n + i < 32 then bt x (n + i) else bt x 31 := by
  unfold bt
  rw [Int32.toBitVec_shiftRight]
  show (x.toBitVec.sshiftRight ((nI n &&& 31).toBitVec.smod 32).toNat).getLsbD i = _
  rw [s_l n hn, BitVec.getLsbD_sshiftRight, BitVec.msb_eq_getLsbD_last]
  simp [hi]
theorem b_shl8 (x : Int32) {i : Nat} (hi : i < 32) : bt (x <<< ((8 : Int32) &&& 31)) i = (decide (8 ≤ i) && bt x (i - 8)) := b_shl 8 (by omega) x hi
theorem b_shl16 (x : Int32) {i : Nat} (hi : i < 32) : bt (x <<< ((16 : Int32) &&& 31)) i = (decide (16 ≤ i) && bt x (i - 16)) := b_shl 16 (by omega) x hi
theorem b_shl24 (x : Int32) {i : Nat} (hi : i < 32) : bt (x <<< ((24 : Int32) &&& 31)) i = (decide (24 ≤ i) && bt x (i - 24)) := b_shl 24 (by omega) x hi
theorem b_sshr8 (x : Int32) {i : Nat} (hi : i < 32) : bt (x >>> ((8 : Int32) &&& 31)) i = if 8 + i < 32 then bt x (8 + i) else bt x 31 := b_sshr 8 (by omega) x hi
end
section
/-! bits of an Int32, counts -/
theorem gb_1 (i : Nat) : bt 1 i = decide (i = 0) := by
  rcases Nat.lt_or_ge i 32 with h | h
  · exact (by decide +kernel : ∀ i, i < 32 → bt 1 i = decide (i = 0)) i h
  · rw [b_big h, decide_eq_false (by omega)]
theorem gb_and1 (y : Int32) : (y &&& 1) = 0 ↔ bt y 0 = false := by
  constructor
  · intro h
    have e : bt (y &&& 1) 0 = false := by rw [h, b_0]
    rw [b_and, gb_1] at e
    simpa using e
  · intro h
    apply b_ext
    intro i hi
    rw [b_and, gb_1, b_0]
    by_cases e : i = 0
    · rw [e, h]; rfl
    · simp [e]
theorem gb_and1' (y : Int32) : (y &&& 1) = 1 ↔ bt y 0 = true := by
  constructor
  · intro h
    have e : bt (y &&& 1) 0 = true := by rw [h, gb_1]; rfl
    rw [b_and, gb_1] at e
    simpa using e
  · intro h
    apply b_ext
    intro i hi
    rw [b_and, gb_1]
    by_cases e : i = 0
    · rw [e, h]; rfl
    · simp [e]
theorem gb_shr (x : Int32) {v : Nat} (hv : v < 32) : ((x >>> (nI v &&& 31)) &&& 1) = 0 ↔ bt x v = false := by
  rw [gb_and1, b_sshr v hv x (by omega), if_pos (by omega)]
  exact Iff.rfl
theorem gb_ushr (x : Int32) {v : Nat} (hv : v < 32) : (((x.toUInt32 >>> ((nI v).toUInt32 &&& Int32.toUInt32 31)).toInt32) &&& 1) = 1 ↔ bt x v = true := by
  rw [gb_and1', b_ushr v hv x 0]
  exact Iff.rfl
theorem gb_bit {v : Nat} (hv : v < 32) (i : Nat) : bt ((1 : Int32) <<< (nI v &&& 31)) i = decide (i = v) := by
  rcases Nat.lt_or_ge i 32 with h | h
  · rw [b_shl v hv 1 h, gb_1]
    by_cases e : i = v
    · subst e; simp
    · by_cases e2 : v ≤ i
      · have : ¬ i - v = 0 := by omega
        simp [e, e2, this]
      · simp [e, e2]
  · rw [b_big h, decide_eq_false (by omega)]
theorem gb_bitT {v : Nat} (hv : v < 32) (i : Nat) : bt ((1 : Int32) <<< (nI v &&& 31)) i = true ↔ i = v := by
  rw [gb_bit hv]; exact decide_eq_true_iff
theorem gb_orT (x y : Int32) (i : Nat) : bt (x ||| y) i = true ↔ bt x i = true ∨ bt y i = true := by
  rw [b_or]; exact Bool.or_eq_true_iff
theorem gb_andT (x y : Int32) (i : Nat) : bt (x &&& y) i = true ↔ bt x i = true ∧ bt y i = true := by
  rw [b_and]; exact Bool.and_eq_true_iff
theorem gb_dif (x y : Int32) (i : Nat) : bt (x &&& (y ^^^ (-1))) i = true ↔ bt x i = true ∧ ¬ bt y i = true := by
  rcases Nat.lt_or_ge i 32 with h | h
  · rw [b_and, b_xor, b_m1 i h]
    cases bt x i <;> cases bt y i <;> decide
  · rw [b_big h, b_big (x := x) h]
    exact ⟨fun z => absurd z (by decide), fun z => absurd z.1 (by decide)⟩
theorem gb_0 (i : Nat) : ¬ bt 0 i = true := by rw [b_0]; decide
theorem gb_ne {x y : Int32} (h : ∀ i, bt x i = true → bt y i = true) (hn : ¬ y = x) : ∃ i, i < 32 ∧ bt y i = true ∧ ¬ bt x i = true := by
  apply Classical.byContradiction
  intro hc
  apply hn
  apply b_ext
  intro i hi
  cases e : bt x i with
  | true => exact h i e
  | false =>
    cases e2 : bt y i with
    | false => rfl
    | true => exact absurd ⟨i, hi, e2, by rw [e]; decide⟩ hc
theorem gb_eq {x y : Int32} (h : ∀ i, bt x i = true ↔ bt y i = true) : x = y := by
  apply b_ext
  intro i _
  cases e : bt x i with
  | true => exact ((h i).mp e).symm
  | false =>
    cases e2 : bt y i with
    | false => rfl
    | true => exact absurd ((h i).mpr e2) (by rw [e]; decide)
theorem gb_nf {b : Bool} : b = false ↔ ¬ b = true := by cases b <;> decide
/-- the bit test of the print, by the bit -/
theorem gb_br {x : Int32} {P Q : Prop} (v : Nat) (hv : v < 32) (p : ¬ bt x v = true → P) (q : bt x v = true → Q) : (((x >>> (nI v &&& 31)) &&& 1) = 0 → P) ∧ (¬ ((x >>> (nI v &&& 31)) &&& 1) = 0 → Q) := by
  rw [gb_shr x hv]
  exact ⟨fun h => p (gb_nf.mp h), fun h => q (by cases e : bt x v with | true => rfl | false => exact absurd e h)⟩
theorem gb_bru {x : Int32} {P Q : Prop} (v : Nat) (hv : v < 32) (p : bt x v = true → P) (q : ¬ bt x v = true → Q) : ((((x.toUInt32 >>> ((nI v).toUInt32 &&& Int32.toUInt32 31)).toInt32) &&& 1) = 1 → P) ∧ (¬ (((x.toUInt32 >>> ((nI v).toUInt32 &&& Int32.toUInt32 31)).toInt32) &&& 1) = 1 → Q) := by
  rw [gb_ushr x hv]
  exact ⟨p, q⟩
/-- how many below n -/
def gn_c (p : Nat → Bool) : Nat → Nat
  | 0 => 0
  | n + 1 => gn_c p n + (if p n = true then 1 else 0)
theorem gn_le (p : Nat → Bool) : ∀ n, gn_c p n ≤ n := by
  intro n
  induction n with
  | zero => exact Nat.le_refl _
  | succ n ih =>
    rw [gn_c]
    split <;> omega
theorem gn_mono {p q : Nat → Bool} : ∀ n, (∀ i, i < n → p i = true → q i = true) → gn_c p n ≤ gn_c q n := by
  intro n
  induction n with
  | zero => intro _; exact Nat.le_refl _
  | succ n ih =>
    intro h
    have := ih (fun i hi => h i (by omega))
    rw [gn_c, gn_c]
    by_cases e : p n = true
    · rw [if_pos e, if_pos (h n (by omega) e)]; omega
    · rw [if_neg e]; omega
theorem gn_lt {p q : Nat → Bool} : ∀ n, (∀ i, i < n → p i = true → q i = true) → (∃ i, i < n ∧ q i = true ∧ ¬ p i = true) → gn_c p n < gn_c q n := by
  intro n
  induction n with
  | zero => intro _ h; obtain ⟨i, hi, _⟩ := h; omega
  | succ n ih =>
    intro h hx
    rw [gn_c, gn_c]
    by_cases e : q n = true ∧ ¬ p n = true
    · have := gn_mono n (fun i hi => h i (by omega))
      rw [if_neg e.2, if_pos e.1]; omega
    · have h2 := ih (fun i hi => h i (by omega)) (by
        obtain ⟨i, hi, hq, hp⟩ := hx
        refine ⟨i, ?_, hq, hp⟩
        rcases Nat.lt_or_ge i n with z | z
        · exact z
        · have : i = n := by omega
          subst this
          exact absurd ⟨hq, hp⟩ e)
      by_cases e1 : p n = true
      · rw [if_pos e1, if_pos (h n (by omega) e1)]; omega
      · rw [if_neg e1]; omega
theorem gn_pos {p : Nat → Bool} : ∀ n, 0 < gn_c p n → ∃ i, i < n ∧ p i = true := by
  intro n
  induction n with
  | zero => intro h; exact absurd h (Nat.lt_irrefl 0)
  | succ n ih =>
    intro h
    by_cases e : p n = true
    · exact ⟨n, by omega, e⟩
    · rw [gn_c, if_neg e] at h
      obtain ⟨i, hi, hp⟩ := ih (by omega)
      exact ⟨i, by omega, hp⟩
theorem gn_ex {p : Nat → Bool} {n : Nat} (h : ∃ i, i < n ∧ p i = true) : 0 < gn_c p n := by
  have h2 := gn_lt (p := fun _ => false) (q := p) n (fun i _ z => absurd z (by decide)) (by
    obtain ⟨i, hi, e⟩ := h
    exact ⟨i, hi, e, by decide⟩)
  omega
theorem gn_same {p q : Nat → Bool} : ∀ n, (∀ i, i < n → p i = q i) → gn_c p n = gn_c q n := by
  intro n
  induction n with
  | zero => intro _; rfl
  | succ n ih =>
    intro h
    rw [gn_c, gn_c, ih (fun i hi => h i (by omega)), h n (by omega)]
theorem gn_del {p q : Nat → Bool} {v : Nat} : ∀ n, v < n → p v = true → ¬ q v = true → (∀ i, i < n → i ≠ v → q i = p i) → gn_c q n + 1 = gn_c p n := by
  intro n
  induction n with
  | zero => intro h; omega
  | succ n ih =>
    intro hv hp hq h
    rw [gn_c, gn_c]
    by_cases e : v = n
    · subst e
      rw [if_pos hp, if_neg hq, gn_same v (fun i hi => h i (by omega) (by omega))]
    · have := ih (by omega) hp hq (fun i hi => h i (by omega))
      rw [h n (by omega) (by omega)]
      omega
theorem gn_all : gn_c (fun i => bt 255 i) 8 = 8 := by decide +kernel
theorem gn_none {p : Nat → Bool} {n : Nat} (h : gn_c p n = 0) : ∀ i, i < n → ¬ p i = true := by
  intro i hi e
  have := gn_ex (p := p) ⟨i, hi, e⟩
  omega
/-! small casts -/
theorem gb_i8 : ∀ c, c < 128 → vp_nar .byte (nI c).toInt8.toInt32 = nI c := by
  intro c hc
  rw [pk_vb]
  exact (by decide +kernel : ∀ c, c < 128 → (nI c).toInt8.toInt32 = nI c) c hc
theorem gb_i8m : vp_nar .byte (-1 : Int32).toInt8.toInt32 = -1 := by
  rw [pk_vb]; decide
theorem gb_i16 : ∀ c, c < 256 → vp_nar .short (nI c).toInt16.toInt32 = nI c := by
  intro c hc
  rw [pk_vs]
  exact (by decide +kernel : ∀ c, c < 256 → (nI c).toInt16.toInt32 = nI c) c hc
theorem gb_us (a : Nat → Int32) (i : Nat) : upd a i (a i) = a := by
  funext j
  by_cases e : j = i
  · rw [e, pk_us]
  · rw [pk_un e]
theorem gb_lt0 : nI 0 + (-1) < 0 := by decide
theorem gb_neg1 : (-1 : Int32) < 0 := by decide
end
section
/-! the source program by numbers: O operation, A B C fields; L its length -/
def gc_rd (O A B C : Nat → Nat) (i v : Nat) : Prop := (O i = 1 ∧ B i = v) ∨ (2 ≤ O i ∧ O i ≤ 5 ∧ (B i = v ∨ C i = v)) ∨ ((O i = 6 ∨ O i = 8 ∨ O i = 9) ∧ A i = v)
def gc_wr (O A : Nat → Nat) (i v : Nat) : Prop := O i ≤ 5 ∧ A i = v
def gc_fo (O A B C : Nat → Nat) (i j : Nat) : Prop := (O i = 7 ∧ j = A i) ∨ (O i ≠ 7 ∧ O i ≠ 10 ∧ (j = i + 1 ∨ (O i = 8 ∧ j = B i) ∨ (O i = 9 ∧ B i ≤ j ∧ j < B i + C i)))
/-- v is live ahead of i: the least set -/
def gc_Lv (L : Nat) (O A B C : Nat → Nat) (v i : Nat) : Prop :=
  ∀ S : Nat → Prop, (∀ i, i < L → gc_rd O A B C i v → S i) → (∀ i j, i < L → j < L → ¬ gc_wr O A i v → gc_fo O A B C i j → S j → S i) → S i
/-- v is live behind i -/
def gc_Af (L : Nat) (O A B C : Nat → Nat) (v i : Nat) : Prop := ∃ j, j < L ∧ gc_fo O A B C i j ∧ gc_Lv L O A B C v j
def gc_Ins (o a b c : Nat) (op fa fb fc ya yc : Int32) : Prop :=
  op = nI o ∧ o ≤ 10 ∧ (o ≠ 10 → fa = nI a ∧ ya = nI a ∧ a < 32) ∧ (o ≠ 10 → o ≠ 7 → a < 8) ∧ (1 ≤ o → o ≤ 5 → fb = nI b ∧ b < 8) ∧ (2 ≤ o → o ≤ 5 → fc = nI c ∧ yc = nI c ∧ c < 8) ∧ (o = 8 ∨ o = 9 → fb = nI b ∧ b < 32) ∧ (o = 9 → fc = nI c ∧ yc = nI c ∧ 1 ≤ c ∧ c ≤ 4)
def gc_Src (L : Nat) (O A B C : Nat → Nat) (op fa fb fc ya yc : Nat → Int32) : Prop :=
  L ≤ 32 ∧ ∀ i, i < L → gc_Ins (O i) (A i) (B i) (C i) (op i) (fa i) (fb i) (fc i) (ya i) (yc i)
section
variable {L : Nat} {O A B C : Nat → Nat} {op fa fb fc ya yc : Nat → Int32}
theorem gc_Lrd {v i : Nat} (hi : i < L) (h : gc_rd O A B C i v) : gc_Lv L O A B C v i := fun _ a _ => a i hi h
theorem gc_Lst {v i j : Nat} (hi : i < L) (hj : j < L) (hw : ¬ gc_wr O A i v) (hf : gc_fo O A B C i j) (h : gc_Lv L O A B C v j) : gc_Lv L O A B C v i :=
  fun S a b => b i j hi hj hw hf (h S a b)
theorem gc_Linv {v i : Nat} (h : gc_Lv L O A B C v i) : i < L ∧ (gc_rd O A B C i v ∨ (¬ gc_wr O A i v ∧ gc_Af L O A B C v i)) := by
  have h2 := h (fun i => gc_Lv L O A B C v i ∧ i < L ∧ (gc_rd O A B C i v ∨ (¬ gc_wr O A i v ∧ gc_Af L O A B C v i))) (fun i hi hr => ⟨gc_Lrd hi hr, hi, Or.inl hr⟩)
    (fun i j hi hj hw hf hS => ⟨gc_Lst hi hj hw hf hS.1, hi, Or.inr ⟨hw, j, hj, hf, hS.1⟩⟩)
  exact h2.2
theorem gc_Laf {v i : Nat} (hi : i < L) (hw : ¬ gc_wr O A i v) (h : gc_Af L O A B C v i) : gc_Lv L O A B C v i := by
  obtain ⟨j, hj, hf, hl⟩ := h
  exact gc_Lst hi hj hw hf hl
theorem gc_rd8 {i v : Nat} (hS : gc_Src L O A B C op fa fb fc ya yc) (hi : i < L) (h : gc_rd O A B C i v) : v < 8 := by
  obtain ⟨_, h0, h1, h2, h3, h4, h5, h6⟩ := hS.2 i hi
  rcases h with ⟨e, rfl⟩ | ⟨e1, e2, rfl | rfl⟩ | ⟨e, rfl⟩
  · exact (h3 (by omega) (by omega)).2
  · exact (h3 (by omega) (by omega)).2
  · exact (h4 (by omega) (by omega)).2.2
  · exact h2 (by omega) (by omega)
theorem gc_L8 {i v : Nat} (hS : gc_Src L O A B C op fa fb fc ya yc) (h : gc_Lv L O A B C v i) : v < 8 :=
  h (fun _ => v < 8) (fun _ hi hr => gc_rd8 hS hi hr) (fun _ _ _ _ _ _ z => z)
theorem gc_fo64 {i j : Nat} (hS : gc_Src L O A B C op fa fb fc ya yc) (hi : i < L) (h : gc_fo O A B C i j) : j < 36 := by
  obtain ⟨_, h0, h1, h2, h3, h4, h5, h6⟩ := hS.2 i hi
  have := hS.1
  rcases h with ⟨e, rfl⟩ | ⟨e1, e2, rfl | ⟨e, rfl⟩ | ⟨e, z1, z2⟩⟩
  · have := (h1 (by omega)).2.2; omega
  · omega
  · have := (h5 (by omega)).2; omega
  · have := (h5 (by omega)).2
    have := h6 e
    omega
end
end
section
/-! the component's liveness -/
section
variable {L : Nat} {O A B C : Nat → Nat} {xl xm xe xp xf xo xn xc : Int32} {op fa fb fc sv li ri co rm on tg lf rt en re cl pv ya yc : Nat → Int32}
theorem gx_liveAt {post : Int32 → Prop} {j : Nat} (hL : L ≤ 32) (hj : j < 100) (h : ∀ r, (∀ v, bt r v = true ↔ (j < L ∧ bt (li j) v = true)) → post r) : wpX_liveAt post (nI L, xm, xe, xp, xf, xo, xn, xc, op, fa, fb, fc, sv, li, ri, co, rm, on, tg, lf, rt, en, re, cl, pv) (nI j) := by
  unfold wpX_liveAt
  dsimp only
  refine pk_le L j (fun hle => h 0 (fun v => ?_)) (fun hlt => And.intro (pk_in j 32 (by omega)) ?_)
  · exact ⟨fun z => absurd z (gb_0 v), fun z => by omega⟩
  · refine h _ (fun v => ?_)
    rw [nI_clamp (by omega)]
    exact ⟨fun z => ⟨hlt, z⟩, fun z => z.2⟩
theorem gx_la68 {post : Int32 → Prop} {i : Nat} (hS : gc_Src L O A B C op fa fb fc ya yc) (hi : i < L) (hO : O i = 9) : ∀ (n k : Nat) (x3 : Int32), C i < n + k → k ≤ C i →
    (∀ v, bt x3 v = true ↔ ∃ j, j < L ∧ (j = i + 1 ∨ (B i ≤ j ∧ j < B i + k)) ∧ bt (li j) v = true) →
    (∀ r, (∀ v, bt r v = true ↔ ∃ j, j < L ∧ (j = i + 1 ∨ (B i ≤ j ∧ j < B i + C i)) ∧ bt (li j) v = true) → post r) → wX_liveAfter_68 post (nI i) (nI L) xm xe xp xf xo xn xc op fa fb fc sv li ri co rm on tg lf rt en re cl pv n x3 (nI k) := by
  obtain ⟨_, h0, h1, h2, h3, h4, h5, h6⟩ := hS.2 i hi
  have hL := hS.1
  obtain ⟨ec, _, hc1, hc4⟩ := h6 hO
  obtain ⟨eb, hb⟩ := h5 (Or.inr hO)
  have ci : (nI i).toNatClampNeg = i := nI_clamp (by omega)
  intro n
  induction n with
  | zero => intro k x3 a b; omega
  | succ n ih =>
    intro k x3 hn hk hx h
    rw [wX_liveAfter_68]
    dsimp only
    have vi : vp_in (nI i) 32 := vp_in_nI (by omega) (by omega)
    rw [ci, ec, eb, nI_add]
    refine And.intro vi (pk_le (C i) k (fun hle => h _ ?_) (fun hlt => And.intro vi (gx_liveAt hL (by omega) (fun r hr => nm_e (nm_r (nI_1 k) (ih (k + 1) _ (by omega) (by omega) (fun v => ?_) h))))))
    · have : k = C i := by omega
      rw [← this]; exact hx
    · rw [gb_orT, hx, hr]
      constructor
      · rintro (⟨j, a, b, c⟩ | ⟨a, b⟩)
        · exact ⟨j, a, by omega, c⟩
        · exact ⟨_, a, by omega, b⟩
      · rintro ⟨j, a, b, c⟩
        by_cases e : j = B i + k
        · subst e; exact Or.inr ⟨a, c⟩
        · exact Or.inl ⟨j, a, by omega, c⟩
theorem gx_la59 {post : Int32 → Prop} {i : Nat} {x3 : Int32} (hS : gc_Src L O A B C op fa fb fc ya yc) (hi : i < L) (h7 : O i ≠ 7) (h10 : O i ≠ 10)
    (hx : ∀ v, bt x3 v = true ↔ ∃ j, j < L ∧ (j = i + 1 ∨ (O i = 8 ∧ j = B i)) ∧ bt (li j) v = true)
    (h : ∀ r, (∀ v, bt r v = true ↔ ∃ j, j < L ∧ gc_fo O A B C i j ∧ bt (li j) v = true) → post r) : wX_liveAfter_59 post (nI i) (nI (O i)) x3 (nI L) xm xe xp xf xo xn xc op fa fb fc sv li ri co rm on tg lf rt en re cl pv := by
  have ho := (hS.2 i hi).2.1
  unfold wX_liveAfter_59
  refine pk_eq (O i) 9 (fun e => ⟨10, ?_⟩) (fun e => h _ (fun v => ?_))
  · have hc := (hS.2 i hi).2.2.2.2.2.2.2 e
    refine gx_la68 hS hi e 10 0 x3 (by omega) (by omega) (fun v => ?_) (fun r hr => h r (fun v => ?_))
    · rw [hx]
      constructor
      · rintro ⟨j, a, b, c⟩
        exact ⟨j, a, by omega, c⟩
      · rintro ⟨j, a, b, c⟩
        exact ⟨j, a, by omega, c⟩
    · rw [hr]
      constructor
      · rintro ⟨j, a, b, c⟩
        exact ⟨j, a, Or.inr ⟨h7, h10, by omega⟩, c⟩
      · rintro ⟨j, a, b, c⟩
        refine ⟨j, a, ?_, c⟩
        rcases b with b | ⟨_, _, b⟩
        · omega
        · omega
  · rw [hx]
    constructor
    · rintro ⟨j, a, b, c⟩
      exact ⟨j, a, Or.inr ⟨h7, h10, by omega⟩, c⟩
    · rintro ⟨j, a, b, c⟩
      refine ⟨j, a, ?_, c⟩
      rcases b with b | ⟨_, _, b⟩
      · omega
      · omega
theorem gx_liveAfter {post : Int32 → Prop} {i : Nat} (hS : gc_Src L O A B C op fa fb fc ya yc) (hi : i < L)
    (h : ∀ r, (∀ v, bt r v = true ↔ ∃ j, j < L ∧ gc_fo O A B C i j ∧ bt (li j) v = true) → post r) : wpX_liveAfter post (nI L, xm, xe, xp, xf, xo, xn, xc, op, fa, fb, fc, sv, li, ri, co, rm, on, tg, lf, rt, en, re, cl, pv) (nI i) := by
  obtain ⟨h00, h0, h1, h2, h3, h4, h5, h6⟩ := hS.2 i hi
  have hL := hS.1
  have ci : (nI i).toNatClampNeg = i := nI_clamp (by omega)
  have vi : vp_in (nI i) 32 := vp_in_nI (by omega) (by omega)
  unfold wpX_liveAfter
  dsimp only
  refine And.intro vi (nm_r (e' := nI (O i)) (by rw [ci, h00]) ?_)
  refine pk_eq (O i) 10 (fun e => h _ (fun v => ?_)) (fun e10 => ?_)
  · exact ⟨fun z => absurd z (gb_0 v), fun ⟨j, _, b, _⟩ => by rcases b with b | b <;> omega⟩
  refine pk_eq (O i) 7 (fun e => And.intro vi ?_) (fun e7 => ?_)
  · obtain ⟨ea, _, ha⟩ := h1 e10
    rw [ci, ea]
    refine gx_liveAt hL (by omega) (fun r hr => h r (fun v => ?_))
    rw [hr]
    constructor
    · rintro ⟨a, b⟩
      exact ⟨_, a, Or.inl ⟨e, rfl⟩, b⟩
    · rintro ⟨j, a, b, c⟩
      rcases b with ⟨_, rfl⟩ | ⟨b, _⟩
      · exact ⟨a, c⟩
      · exact absurd e b
  rw [nI_1]
  refine gx_liveAt hL (by omega) (fun r hr => ?_)
  refine pk_eq (O i) 8 (fun e => And.intro vi ?_) (fun e8 => ?_)
  · obtain ⟨eb, hb⟩ := h5 (Or.inl e)
    rw [ci, eb]
    refine gx_liveAt hL (by omega) (fun r2 hr2 => nm_e (gx_la59 hS hi e7 e10 (fun v => ?_) h))
    rw [gb_orT, hr, hr2]
    constructor
    · rintro (⟨a, b⟩ | ⟨a, b⟩)
      · exact ⟨_, a, Or.inl rfl, b⟩
      · exact ⟨_, a, Or.inr ⟨e, rfl⟩, b⟩
    · rintro ⟨j, a, rfl | ⟨_, rfl⟩, c⟩
      · exact Or.inl ⟨a, c⟩
      · exact Or.inr ⟨a, c⟩
  · refine gx_la59 hS hi e7 e10 (fun v => ?_) h
    rw [hr]
    constructor
    · rintro ⟨a, b⟩
      exact ⟨_, a, Or.inl rfl, b⟩
    · rintro ⟨j, a, rfl | ⟨b, _⟩, c⟩
      · exact ⟨a, c⟩
      · exact absurd b e8
theorem gx_rb67 {post : Int32 → Prop} {i : Nat} (hS : gc_Src L O A B C op fa fb fc ya yc) (hi : i < L) (hO : O i = 6 ∨ O i = 8 ∨ O i = 9)
    (h : ∀ r, (∀ v, bt r v = true ↔ gc_rd O A B C i v) → post r) : wX_readBy_67 post (nI i) (nI L) xm xe xp xf xo xn xc op fa fb fc sv li ri co rm on tg lf rt en re cl pv := by
  obtain ⟨h00, h0, h1, h2, h3, h4, h5, h6⟩ := hS.2 i hi
  have hL := hS.1
  have ci : (nI i).toNatClampNeg = i := nI_clamp (by omega)
  unfold wX_readBy_67
  rw [ci, (h1 (by omega)).1]
  refine And.intro (vp_in_nI (by omega) (by omega)) (h _ (fun v => ?_))
  rw [gb_bitT (by have := h1 (by omega); omega)]
  unfold gc_rd
  omega
theorem gx_rb49 {post : Int32 → Prop} {i : Nat} (hS : gc_Src L O A B C op fa fb fc ya yc) (hi : i < L) (hO : O i = 0 ∨ 5 < O i)
    (h : ∀ r, (∀ v, bt r v = true ↔ gc_rd O A B C i v) → post r) : wX_readBy_49 post (nI i) (nI (O i)) (nI L) xm xe xp xf xo xn xc op fa fb fc sv li ri co rm on tg lf rt en re cl pv := by
  obtain ⟨h00, h0, h1, h2, h3, h4, h5, h6⟩ := hS.2 i hi
  unfold wX_readBy_49
  refine pk_eq (O i) 6 (fun e => gx_rb67 hS hi (by omega) h) (fun e6 => ?_)
  refine pk_eq (O i) 8 (fun e => gx_rb67 hS hi (by omega) h) (fun e8 => ?_)
  refine pk_eq (O i) 9 (fun e => gx_rb67 hS hi (by omega) h) (fun e9 => h _ (fun v => ?_))
  refine ⟨fun z => absurd z (gb_0 v), fun z => ?_⟩
  unfold gc_rd at z
  omega
theorem gx_readBy {post : Int32 → Prop} {i : Nat} (hS : gc_Src L O A B C op fa fb fc ya yc) (hi : i < L)
    (h : ∀ r, (∀ v, bt r v = true ↔ gc_rd O A B C i v) → post r) : wpX_readBy post (nI L, xm, xe, xp, xf, xo, xn, xc, op, fa, fb, fc, sv, li, ri, co, rm, on, tg, lf, rt, en, re, cl, pv) (nI i) := by
  obtain ⟨h00, h0, h1, h2, h3, h4, h5, h6⟩ := hS.2 i hi
  have hL := hS.1
  have ci : (nI i).toNatClampNeg = i := nI_clamp (by omega)
  have vi : vp_in (nI i) 32 := vp_in_nI (by omega) (by omega)
  unfold wpX_readBy
  dsimp only
  refine And.intro vi (nm_r (e' := nI (O i)) (by rw [ci, h00]) ?_)
  refine pk_eq (O i) 1 (fun e => And.intro vi ?_) (fun e1 => ?_)
  · obtain ⟨eb, hb⟩ := h3 (by omega) (by omega)
    rw [ci, eb]
    refine h _ (fun v => ?_)
    rw [gb_bitT (by omega)]
    unfold gc_rd
    omega
  refine pk_lt (O i) 2 (fun e => gx_rb49 hS hi (by omega) h) (fun e2 => ?_)
  refine pk_lt 5 (O i) (fun e => gx_rb49 hS hi (by omega) h) (fun e5 => And.intro vi (And.intro vi ?_))
  obtain ⟨eb, hb⟩ := h3 (by omega) (by omega)
  obtain ⟨ec, _, hc⟩ := h4 (by omega) (by omega)
  rw [ci, eb, ec]
  refine h _ (fun v => ?_)
  rw [gb_orT, gb_bitT (by omega), gb_bitT (by omega)]
  unfold gc_rd
  omega
theorem gx_writtenBy {post : Int32 → Prop} {i : Nat} (hS : gc_Src L O A B C op fa fb fc ya yc) (hi : i < L)
    (h : ∀ r, (∀ v, bt r v = true ↔ gc_wr O A i v) → post r) : wpX_writtenBy post (nI L, xm, xe, xp, xf, xo, xn, xc, op, fa, fb, fc, sv, li, ri, co, rm, on, tg, lf, rt, en, re, cl, pv) (nI i) := by
  obtain ⟨h00, h0, h1, h2, h3, h4, h5, h6⟩ := hS.2 i hi
  have hL := hS.1
  have ci : (nI i).toNatClampNeg = i := nI_clamp (by omega)
  have vi : vp_in (nI i) 32 := vp_in_nI (by omega) (by omega)
  unfold wpX_writtenBy
  dsimp only
  rw [ci, h00]
  refine And.intro vi (pk_lt 5 (O i) (fun e => h _ (fun v => ?_)) (fun e => And.intro vi ?_))
  · refine ⟨fun z => absurd z (gb_0 v), fun z => ?_⟩
    unfold gc_wr at z
    omega
  · rw [(h1 (by omega)).1]
    refine h _ (fun v => ?_)
    rw [gb_bitT (by have := h1 (by omega); omega)]
    unfold gc_wr
    omega
end
end
section
/-! the component's search for the fixed point: every round but the last raises the count -/
def gc_F (L : Nat) (O A B C : Nat → Nat) (li : Nat → Int32) (i v : Nat) : Prop := gc_rd O A B C i v ∨ ((∃ j, j < L ∧ gc_fo O A B C i j ∧ bt (li j) v = true) ∧ ¬ gc_wr O A i v)
def gc_Inc (L : Nat) (O A B C : Nat → Nat) (li : Nat → Int32) : Prop := ∀ i v, i < L → bt (li i) v = true → gc_F L O A B C li i v
def gc_Snd (L : Nat) (O A B C : Nat → Nat) (li : Nat → Int32) : Prop := ∀ i v, i < L → bt (li i) v = true → gc_Lv L O A B C v i
def gc_cnt (li : Nat → Int32) : Nat := gn_c (fun m => bt (li (m / 8)) (m % 8)) 256
abbrev gc_T17 : Type := (Nat → Int32) → (Nat → Int32) → (Nat → Int32) → (Nat → Int32) → (Nat → Int32) → (Nat → Int32) → (Nat → Int32) → (Nat → Int32) → (Nat → Int32) → (Nat → Int32) → (Nat → Int32) → (Nat → Int32) → (Nat → Int32) → (Nat → Int32) → (Nat → Int32) → (Nat → Int32) → (Nat → Int32) → Prop
theorem gc_cnt_le (li : Nat → Int32) : gc_cnt li ≤ 256 := gn_le _ _
theorem gb_sub1 (x : Int32) : x - 1 = x + (-1) := Int32.sub_eq_add_neg x 1
section
variable {L : Nat} {O A B C : Nat → Nat} {xl xm xe xp xf xo xn xc : Int32} {op fa fb fc sv li ri co rm on tg lf rt en re cl pv ya yc : Nat → Int32}
theorem gc_Fmono {li li' : Nat → Int32} {i v : Nat} (h : ∀ j v, bt (li j) v = true → bt (li' j) v = true) (hF : gc_F L O A B C li i v) : gc_F L O A B C li' i v := by
  rcases hF with h1 | ⟨⟨j, hj, hf, hb⟩, hw⟩
  · exact Or.inl h1
  · exact Or.inr ⟨⟨j, hj, hf, h j v hb⟩, hw⟩
theorem gc_FL {li : Nat → Int32} {i v : Nat} (hi : i < L) (hs : gc_Snd L O A B C li) (hF : gc_F L O A B C li i v) : gc_Lv L O A B C v i := by
  rcases hF with h1 | ⟨⟨j, hj, hf, hb⟩, hw⟩
  · exact gc_Lrd hi h1
  · exact gc_Lst hi hj hw hf (hs j v hj hb)
theorem gc_up {i : Nat} {x : Int32} (hi : i < L) (hI : gc_Inc L O A B C li) (hx : ∀ v, bt x v = true ↔ gc_F L O A B C li i v) : ∀ j v, bt (li j) v = true → bt (upd li i x j) v = true := by
  intro j v h
  by_cases e : j = i
  · subst e; rw [pk_us, hx]; exact hI j v hi h
  · rw [pk_un e]; exact h
theorem gc_upI {i : Nat} {x : Int32} (hi : i < L) (hI : gc_Inc L O A B C li) (hx : ∀ v, bt x v = true ↔ gc_F L O A B C li i v) : gc_Inc L O A B C (upd li i x) := by
  intro j v hj h
  by_cases e : j = i
  · subst e; rw [pk_us, hx] at h; exact gc_Fmono (gc_up hi hI hx) h
  · rw [pk_un e] at h; exact gc_Fmono (gc_up hi hI hx) (hI j v hj h)
theorem gc_upS {i : Nat} {x : Int32} (hi : i < L) (hs : gc_Snd L O A B C li) (hx : ∀ v, bt x v = true ↔ gc_F L O A B C li i v) : gc_Snd L O A B C (upd li i x) := by
  intro j v hj h
  by_cases e : j = i
  · subst e; rw [pk_us, hx] at h; exact gc_FL hj hs h
  · rw [pk_un e] at h; exact hs j v hj h
theorem gc_upC {i : Nat} {x : Int32} (hi : i < L) (hI : gc_Inc L O A B C li) (hx : ∀ v, bt x v = true ↔ gc_F L O A B C li i v) : gc_cnt li ≤ gc_cnt (upd li i x) :=
  gn_mono 256 (fun m _ h => gc_up hi hI hx (m / 8) (m % 8) h)
theorem gc_upCs {i : Nat} {x : Int32} (hS : gc_Src L O A B C op fa fb fc ya yc) (hi : i < L) (hI : gc_Inc L O A B C li) (hs : gc_Snd L O A B C li) (hx : ∀ v, bt x v = true ↔ gc_F L O A B C li i v) (hne : ¬ x = li i) : gc_cnt li < gc_cnt (upd li i x) := by
  refine gn_lt 256 (fun m _ h => gc_up hi hI hx (m / 8) (m % 8) h) ?_
  obtain ⟨v, _, h1, h2⟩ := gb_ne (x := li i) (y := x) (fun v h => (hx v).mpr (hI i v hi h)) hne
  have hL := hS.1
  have h8 : v < 8 := gc_L8 hS (gc_FL hi hs ((hx v).mp h1))
  refine ⟨i * 8 + v, by omega, ?_⟩
  have e1 : (i * 8 + v) / 8 = i := by omega
  have e2 : (i * 8 + v) % 8 = v := by omega
  show bt (upd li i x ((i * 8 + v) / 8)) ((i * 8 + v) % 8) = true ∧ ¬ bt (li ((i * 8 + v) / 8)) ((i * 8 + v) % 8) = true
  rw [e1, e2, pk_us]
  exact ⟨h1, h2⟩
theorem gx_fl45 {post : SX → Prop} {J25 : Int32 → Int32 → gc_T17} {k c0 : Nat} (hS : gc_Src L O A B C op fa fb fc ya yc)
    (hJ : ∀ (li : Nat → Int32) (x1 : Int32), gc_Inc L O A B C li → gc_Snd L O A B C li → ((x1 = 0 ∧ ∀ i, i < L → ∀ v, bt (li i) v = true ↔ gc_F L O A B C li i v) ∨ (x1 = 1 ∧ c0 < gc_cnt li)) → J25 x1 (nI (k + 1)) op fa fb fc sv li ri co rm on tg lf rt en re cl pv) :
    ∀ (m n : Nat) (li : Nat → Int32) (x1 : Int32), m ≤ L → m < n → gc_Inc L O A B C li → gc_Snd L O A B C li →
      ((x1 = 0 ∧ c0 ≤ gc_cnt li ∧ ∀ i, m ≤ i → i < L → ∀ v, bt (li i) v = true ↔ gc_F L O A B C li i v) ∨ (x1 = 1 ∧ c0 < gc_cnt li)) →
      wX_findLiveness_45 post J25 (nI k) (nI L) xm xe xp xf xo xn xc n x1 (nI m + (-1)) op fa fb fc sv li ri co rm on tg lf rt en re cl pv := by
  have hL := hS.1
  intro m
  induction m with
  | zero =>
    intro n li x1 hm hn hI hs hx
    obtain ⟨n, rfl⟩ : ∃ n', n = n' + 1 := ⟨n - 1, by omega⟩
    rw [wX_findLiveness_45]
    dsimp only
    refine br_t gb_lt0 (nm_r (nI_1 k) (hJ li x1 hI hs ?_))
    rcases hx with ⟨a, _, b⟩ | b
    · exact Or.inl ⟨a, fun i hi => b i (by omega) hi⟩
    · exact Or.inr b
  | succ m ih =>
    intro n li x1 hm hn hI hs hx
    obtain ⟨n, rfl⟩ : ∃ n', n = n' + 1 := ⟨n - 1, by omega⟩
    have vi : vp_in (nI m) 32 := vp_in_nI (by omega) (by omega)
    have ci : (nI m).toNatClampNeg = m := nI_clamp (by omega)
    rw [wX_findLiveness_45]
    dsimp only
    rw [pk_m1, ci]
    refine br_f (nI_pos (by omega)) (gx_liveAfter hS (by omega) (fun r1 h1 => gx_readBy hS (by omega) (fun r2 h2 => gx_writtenBy hS (by omega) (fun r3 h3 => ?_))))
    refine nm_e ?_
    have hv : ∀ v, bt (r2 ||| (r1 &&& (r3 ^^^ (-1)))) v = true ↔ gc_F L O A B C li m v := by
      intro v
      rw [gb_orT, gb_dif, h1, h2, h3]
      exact Iff.rfl
    generalize r2 ||| (r1 &&& (r3 ^^^ (-1))) = x at hv ⊢
    have hi : m < L := by omega
    refine And.intro vi (br_c (fun e => And.intro vi (nm_e (nm_e (ih n _ x1 (by omega) (by omega) (gc_upI hi hI hv) (gc_upS hi hs hv) ?_)))) (fun e => And.intro vi (nm_e (nm_e (ih n _ 1 (by omega) (by omega) (gc_upI hi hI hv) (gc_upS hi hs hv) ?_)))))
    · rw [e, gb_us]
      rcases hx with ⟨a, b, c⟩ | b
      · refine Or.inl ⟨a, b, fun i hm hi => ?_⟩
        by_cases em : i = m
        · subst em; rw [← e]; exact hv
        · exact c i (by omega) hi
      · exact Or.inr b
    · refine Or.inr ⟨rfl, ?_⟩
      have := gc_upCs hS hi hI hs hv e
      rcases hx with ⟨_, b, _⟩ | ⟨_, b⟩ <;> omega
theorem gc_fix {li : Nat → Int32} (hs : gc_Snd L O A B C li) (h : ∀ i, i < L → ∀ v, bt (li i) v = true ↔ gc_F L O A B C li i v) : ∀ i, i < L → ∀ v, bt (li i) v = true ↔ gc_Lv L O A B C v i := by
  intro i hi v
  refine ⟨hs i v hi, fun hl => ?_⟩
  have h2 := hl (fun i => i < L ∧ bt (li i) v = true) (fun i hi hr => ⟨hi, (h i hi v).mpr (Or.inl hr)⟩) (fun i j hi hj hw hf hS => ⟨hi, (h i hi v).mpr (Or.inr ⟨⟨j, hj, hf, hS.2⟩, hw⟩)⟩)
  exact h2.2
theorem gx_fl25 {post : SX → Prop} (hS : gc_Src L O A B C op fa fb fc ya yc)
    (h : ∀ li : Nat → Int32, (∀ i, i < L → ∀ v, bt (li i) v = true ↔ gc_Lv L O A B C v i) → post (nI L, xm, xe, xp, xf, xo, xn, xc, op, fa, fb, fc, sv, li, ri, co, rm, on, tg, lf, rt, en, re, cl, pv)) :
    ∀ (n k : Nat) (li : Nat → Int32) (x1 : Int32), 258 ≤ n + k → k ≤ 257 → gc_Inc L O A B C li → gc_Snd L O A B C li →
      ((x1 = 0 ∧ ∀ i, i < L → ∀ v, bt (li i) v = true ↔ gc_F L O A B C li i v) ∨ (x1 = 1 ∧ k ≤ gc_cnt li)) →
      wX_findLiveness_25 post (nI L) xm xe xp xf xo xn xc n x1 (nI k) op fa fb fc sv li ri co rm on tg lf rt en re cl pv := by
  have hL := hS.1
  intro n
  induction n with
  | zero => intro k li x1 h1 h2; omega
  | succ n ih =>
    intro k li x1 hn hk hI hs hx
    rw [wX_findLiveness_25]
    dsimp only
    have hc := gc_cnt_le li
    refine pk_le 257 k (fun hle => ?_) (fun hlt => ?_)
    · rcases hx with ⟨_, b⟩ | ⟨_, b⟩
      · exact h li (gc_fix hs b)
      · omega
    · rcases hx with ⟨a, b⟩ | ⟨a, b⟩
      · exact br_t a (h li (gc_fix hs b))
      · refine br_f (by rw [a]; decide) (nm_r (gb_sub1 (nI L)) ⟨L + 1, gx_fl45 (c0 := gc_cnt li) hS (fun li' x' hI' hs' hx' => ih (k + 1) li' x' (by omega) (by omega) hI' hs' ?_) L (L + 1) li 0 (Nat.le_refl _) (by omega) hI hs (Or.inl ⟨rfl, Nat.le_refl _, fun i h1 h2 => by omega⟩)⟩)
        rcases hx' with z | ⟨z, y⟩
        · exact Or.inl z
        · exact Or.inr ⟨z, by omega⟩
theorem gx_fl4 {post : SX → Prop} (hS : gc_Src L O A B C op fa fb fc ya yc)
    (h : ∀ li : Nat → Int32, (∀ i, i < L → ∀ v, bt (li i) v = true ↔ gc_Lv L O A B C v i) → post (nI L, xm, xe, xp, xf, xo, xn, xc, op, fa, fb, fc, sv, li, ri, co, rm, on, tg, lf, rt, en, re, cl, pv)) :
    ∀ (n i : Nat) (li : Nat → Int32), 32 < n + i → i ≤ 32 → (∀ j, j < i → li j = 0) → wX_findLiveness_4 post 1 (nI L) xm xe xp xf xo xn xc n (nI i) op fa fb fc sv li ri co rm on tg lf rt en re cl pv := by
  have hL := hS.1
  intro n
  induction n with
  | zero => intro i li h1 h2; omega
  | succ n ih =>
    intro i li hn hi hz
    rw [wX_findLiveness_4]
    dsimp only
    have ci : (nI i).toNatClampNeg = i := nI_clamp (by omega)
    refine pk_le 32 i (fun hle => ⟨258, ?_⟩) (fun hlt => And.intro (vp_in_nI (by omega) (by omega)) (nm_r (e' := upd li i 0) (by rw [ci]) (nm_r (nI_1 i) (ih (i + 1) _ (by omega) (by omega) (fun j hj => ?_)))))
    · have z : ∀ i v, i < L → ¬ bt (li i) v = true := fun i v hi => by rw [hz i (by omega)]; exact gb_0 v
      exact gx_fl25 hS h 258 0 li 1 (by omega) (by omega) (fun i v hi hb => absurd hb (z i v hi)) (fun i v hi hb => absurd hb (z i v hi)) (Or.inr ⟨rfl, Nat.zero_le _⟩)
    · by_cases e : j = i
      · rw [e, pk_us]
      · rw [pk_un e]; exact hz j (by omega)
theorem gx_findLiveness {post : SX → Prop} (hS : gc_Src L O A B C op fa fb fc ya yc)
    (h : ∀ li : Nat → Int32, (∀ i, i < L → ∀ v, bt (li i) v = true ↔ gc_Lv L O A B C v i) → post (nI L, xm, xe, xp, xf, xo, xn, xc, op, fa, fb, fc, sv, li, ri, co, rm, on, tg, lf, rt, en, re, cl, pv)) : wpX_findLiveness post (nI L, xm, xe, xp, xf, xo, xn, xc, op, fa, fb, fc, sv, li, ri, co, rm, on, tg, lf, rt, en, re, cl, pv) := by
  unfold wpX_findLiveness
  dsimp only
  exact ⟨33, gx_fl4 hS h 33 0 li (by omega) (by omega) (fun j hj => by omega)⟩
end
end
section
/-! the reference's liveness: a search from each instruction -/
section
variable {L : Nat} {O A B C : Nat → Nat} {yn yp ye : Int32} {op fa fb fc ya yc yg yv yu : Nat → Int32}
theorem gy_rd33 {post : Int32 → Prop} {i v : Nat} (hS : gc_Src L O A B C op fa fb fc ya yc) (hi : i < L) (hv : v < 8) (hO : O i = 6 ∨ O i = 8 ∨ O i = 9)
    (h1 : gc_rd O A B C i v → post 1) (h0 : ¬ gc_rd O A B C i v → post 0) : wY_reads_33 post (nI i) (nI v) (nI L) yp ye op ya fb yc yg yv yu := by
  obtain ⟨a0, a1, a2, a3, a4, a5, a6, a7⟩ := hS.2 i hi
  have hL := hS.1
  have ci : (nI i).toNatClampNeg = i := nI_clamp (by omega)
  have ha := a2 (by omega)
  unfold wY_reads_33
  rw [ci, ha.2.1]
  refine And.intro (vp_in_nI (by omega) (by omega)) (pk_eq (A i) v (fun e => h1 ?_) (fun e => h0 ?_))
  · unfold gc_rd; omega
  · unfold gc_rd; omega
theorem gy_reads {post : Int32 → Prop} {i v : Nat} (hS : gc_Src L O A B C op fa fb fc ya yc) (hi : i < L) (hv : v < 8)
    (h1 : gc_rd O A B C i v → post 1) (h0 : ¬ gc_rd O A B C i v → post 0) : wpY_reads post (nI L, yp, ye, op, ya, fb, yc, yg, yv, yu) (nI i) (nI v) := by
  obtain ⟨a0, a1, a2, a3, a4, a5, a6, a7⟩ := hS.2 i hi
  have hL := hS.1
  have ci : (nI i).toNatClampNeg = i := nI_clamp (by omega)
  have vi : vp_in (nI i) 32 := vp_in_nI (by omega) (by omega)
  unfold wpY_reads
  dsimp only
  rw [ci, a0]
  refine And.intro vi (pk_eq (O i) 6 (fun e => gy_rd33 hS hi hv (by omega) h1 h0) (fun e6 => And.intro vi ?_))
  refine pk_eq (O i) 8 (fun e => gy_rd33 hS hi hv (by omega) h1 h0) (fun e8 => And.intro vi ?_)
  refine pk_eq (O i) 9 (fun e => gy_rd33 hS hi hv (by omega) h1 h0) (fun e9 => And.intro vi ?_)
  refine pk_lt (O i) 1 (fun e => h0 (by unfold gc_rd; omega)) (fun e1 => And.intro vi ?_)
  refine pk_lt 5 (O i) (fun e => h0 (by unfold gc_rd; omega)) (fun e5 => And.intro vi ?_)
  obtain ⟨eb, hb⟩ := a4 (by omega) (by omega)
  rw [eb]
  refine pk_eq (B i) v (fun e => h1 (by unfold gc_rd; omega)) (fun e => And.intro vi ?_)
  refine pk_lt (O i) 2 (fun e2 => h0 (by unfold gc_rd; omega)) (fun e2 => And.intro vi ?_)
  obtain ⟨_, ec, hc⟩ := a5 (by omega) (by omega)
  rw [ec]
  exact pk_eq (C i) v (fun e => h1 (by unfold gc_rd; omega)) (fun e => h0 (by unfold gc_rd; omega))
theorem gy_writes {post : Int32 → Prop} {i v : Nat} (hS : gc_Src L O A B C op fa fb fc ya yc) (hi : i < L) (hv : v < 8)
    (h1 : gc_wr O A i v → post 1) (h0 : ¬ gc_wr O A i v → post 0) : wpY_writes post (nI L, yp, ye, op, ya, fb, yc, yg, yv, yu) (nI i) (nI v) := by
  obtain ⟨a0, a1, a2, a3, a4, a5, a6, a7⟩ := hS.2 i hi
  have hL := hS.1
  have ci : (nI i).toNatClampNeg = i := nI_clamp (by omega)
  have vi : vp_in (nI i) 32 := vp_in_nI (by omega) (by omega)
  unfold wpY_writes
  dsimp only
  rw [ci, a0]
  refine And.intro vi (pk_lt 5 (O i) (fun e => h0 (by unfold gc_wr; omega)) (fun e5 => And.intro vi ?_))
  have ha := a2 (by omega)
  rw [ha.2.1]
  exact pk_eq (A i) v (fun e => h1 (by unfold gc_wr; omega)) (fun e => h0 (by unfold gc_wr; omega))
theorem gy_canFollow {post : Int32 → Prop} {i j : Nat} (hS : gc_Src L O A B C op fa fb fc ya yc) (hi : i < L) (hj : j < 32)
    (h1 : gc_fo O A B C i j → post 1) (h0 : ¬ gc_fo O A B C i j → post 0) : wpY_canFollow post (nI L, yp, ye, op, ya, fb, yc, yg, yv, yu) (nI i) (nI j) := by
  obtain ⟨a0, a1, a2, a3, a4, a5, a6, a7⟩ := hS.2 i hi
  have hL := hS.1
  have ci : (nI i).toNatClampNeg = i := nI_clamp (by omega)
  have vi : vp_in (nI i) 32 := vp_in_nI (by omega) (by omega)
  unfold wpY_canFollow
  dsimp only
  rw [ci, a0, nI_1]
  refine And.intro vi (pk_eq (O i) 7 (fun e => And.intro vi ?_) (fun e7 => And.intro vi ?_))
  · have ha := a2 (by omega)
    rw [ha.2.1]
    exact pk_eq j (A i) (fun e => h1 (by unfold gc_fo; omega)) (fun e => h0 (by unfold gc_fo; omega))
  refine pk_eq (O i) 10 (fun e => h0 (by unfold gc_fo; omega)) (fun e10 => ?_)
  refine pk_eq j (i + 1) (fun e => h1 (by unfold gc_fo; omega)) (fun ej => And.intro vi ?_)
  refine pk_eq (O i) 8 (fun e => And.intro vi ?_) (fun e8 => And.intro vi ?_)
  · obtain ⟨eb, hb⟩ := a6 (by omega)
    rw [eb]
    exact pk_eq j (B i) (fun e => h1 (by unfold gc_fo; omega)) (fun e => h0 (by unfold gc_fo; omega))
  refine pk_eq (O i) 9 (fun e => And.intro vi ?_) (fun e9 => h0 (by unfold gc_fo; omega))
  obtain ⟨eb, hb⟩ := a6 (by omega)
  obtain ⟨_, ec, hc, hc4⟩ := a7 e
  rw [eb, ec, nI_add]
  refine pk_lt j (B i) (fun e => h0 (by unfold gc_fo; omega)) (fun e1 => And.intro vi (And.intro vi ?_))
  exact pk_le (B i + C i) j (fun e => h0 (by unfold gc_fo; omega)) (fun e => h1 (by unfold gc_fo; omega))
theorem gy_wd17 {post : Int32 → Prop} {J5 : Int32 → Int32 → Prop} {x1 a0 : Int32} {v i : Nat} (hS : gc_Src L O A B C op fa fb fc ya yc) (hi : i < L) (hv : v < 8)
    (hJ : ∀ r : Int32, (∀ w, bt r w = true ↔ bt a0 w = true ∨ (w < L ∧ bt x1 i = true ∧ ¬ gc_wr O A i v ∧ gc_fo O A B C i w)) → J5 r (nI (i + 1))) :
    ∀ (n j : Nat) (x3 : Int32), L < n + j → j ≤ L → (∀ w, bt x3 w = true ↔ bt a0 w = true ∨ (w < j ∧ bt x1 i = true ∧ ¬ gc_wr O A i v ∧ gc_fo O A B C i w)) →
      wY_widened_17 post J5 x1 (nI v) (nI i) (nI L) yp ye op ya fb yc yg yv yu n x3 (nI j) := by
  have hL := hS.1
  intro n
  induction n with
  | zero => intro j x3 h1 h2; omega
  | succ n ih =>
    intro j x3 hn hj hx
    rw [wY_widened_17]
    dsimp only
    have skip : ¬ (bt x1 i = true ∧ ¬ gc_wr O A i v ∧ gc_fo O A B C i j) → ∀ w, bt x3 w = true ↔ bt a0 w = true ∨ (w < j + 1 ∧ bt x1 i = true ∧ ¬ gc_wr O A i v ∧ gc_fo O A B C i w) := by
      intro hc w
      rw [hx]
      constructor
      · rintro (z | ⟨z1, z2⟩)
        · exact Or.inl z
        · exact Or.inr ⟨by omega, z2⟩
      · rintro (z | ⟨z1, z2⟩)
        · exact Or.inl z
        · by_cases e : w = j
          · subst e; exact absurd z2 hc
          · exact Or.inr ⟨by omega, z2⟩
    refine pk_le L j (fun hle => nm_r (nI_1 i) (hJ _ ?_)) (fun hlt => ?_)
    · have : j = L := by omega
      rw [← this]; exact hx
    refine gb_bru i (by omega) (fun hb => ?_) (fun hb => nm_r (nI_1 j) (ih (j + 1) _ (by omega) (by omega) (skip (fun z => hb z.1))))
    refine gy_writes hS hi hv (fun hw => br_f (by decide) (nm_r (nI_1 j) (ih (j + 1) _ (by omega) (by omega) (skip (fun z => z.2.1 hw))))) (fun hw => br_t rfl ?_)
    refine gy_canFollow hS hi (by omega) (fun hf => br_f (by decide) (nm_e (nm_r (nI_1 j) (ih (j + 1) _ (by omega) (by omega) (fun w => ?_))))) (fun hf => br_t rfl (nm_r (nI_1 j) (ih (j + 1) _ (by omega) (by omega) (skip (fun z => hf z.2.2)))))
    rw [gb_orT, hx, gb_bitT (by omega)]
    constructor
    · rintro ((z | ⟨z1, z2⟩) | rfl)
      · exact Or.inl z
      · exact Or.inr ⟨by omega, z2⟩
      · exact Or.inr ⟨by omega, hb, hw, hf⟩
    · rintro (z | ⟨z1, z2⟩)
      · exact Or.inl (Or.inl z)
      · by_cases e : w = j
        · exact Or.inr e
        · exact Or.inl (Or.inr ⟨by omega, z2⟩)
/-- one widening -/
def gc_Wd (L : Nat) (O A B C : Nat → Nat) (v : Nat) (s r : Int32) : Prop := ∀ w, bt r w = true ↔ bt s w = true ∨ (w < L ∧ ∃ i, i < L ∧ bt s i = true ∧ ¬ gc_wr O A i v ∧ gc_fo O A B C i w)
theorem gy_wd5 {post : Int32 → Prop} {x1 : Int32} {v : Nat} (hS : gc_Src L O A B C op fa fb fc ya yc) (hv : v < 8) (h : ∀ r, gc_Wd L O A B C v x1 r → post r) :
    ∀ (n i : Nat) (x3 : Int32), L < n + i → i ≤ L → (∀ w, bt x3 w = true ↔ bt x1 w = true ∨ (w < L ∧ ∃ i', i' < i ∧ bt x1 i' = true ∧ ¬ gc_wr O A i' v ∧ gc_fo O A B C i' w)) →
      wY_widened_5 post x1 (nI v) (nI L) yp ye op ya fb yc yg yv yu n x3 (nI i) := by
  have hL := hS.1
  intro n
  induction n with
  | zero => intro j x3 h1 h2; omega
  | succ n ih =>
    intro i x3 hn hi hx
    rw [wY_widened_5]
    dsimp only
    refine pk_le L i (fun hle => h _ ?_) (fun hlt => ⟨L + 1, gy_wd17 (a0 := x3) hS hlt hv (fun r hr => ih (i + 1) r (by omega) (by omega) (fun w => ?_)) (L + 1) 0 x3 (by omega) (by omega) (fun w => ?_)⟩)
    · have : i = L := by omega
      rw [this] at hx; exact hx
    · rw [hr, hx]
      constructor
      · rintro ((z | ⟨z1, i', z2, z3⟩) | ⟨z1, z2⟩)
        · exact Or.inl z
        · exact Or.inr ⟨z1, i', by omega, z3⟩
        · exact Or.inr ⟨z1, i, by omega, z2⟩
      · rintro (z | ⟨z1, i', z2, z3⟩)
        · exact Or.inl (Or.inl z)
        · by_cases e : i' = i
          · subst e; exact Or.inr ⟨z1, z3⟩
          · exact Or.inl (Or.inr ⟨z1, i', by omega, z3⟩)
    · exact ⟨fun z => Or.inl z, fun z => z.elim id (fun z => by omega)⟩
theorem gy_widened {post : Int32 → Prop} {x1 : Int32} {v : Nat} (hS : gc_Src L O A B C op fa fb fc ya yc) (hv : v < 8) (h : ∀ r, gc_Wd L O A B C v x1 r → post r) : wpY_widened post (nI L, yp, ye, op, ya, fb, yc, yg, yv, yu) x1 (nI v) := by
  unfold wpY_widened
  dsimp only
  refine ⟨L + 1, gy_wd5 hS hv h (L + 1) 0 x1 (by omega) (by omega) (fun w => ?_)⟩
  exact ⟨fun z => Or.inl z, fun z => z.elim id (fun ⟨_, i', z, _⟩ => by omega)⟩
theorem gy_il42 {post : Int32 → Prop} {x3 : Int32} {v : Nat} (hS : gc_Src L O A B C op fa fb fc ya yc) (hv : v < 8)
    (h1 : (∃ j, j < L ∧ bt x3 j = true ∧ gc_rd O A B C j v) → post 1) (h0 : (∀ j, j < L → bt x3 j = true → ¬ gc_rd O A B C j v) → post 0) :
    ∀ (n j : Nat), L < n + j → j ≤ L → (∀ j', j' < j → bt x3 j' = true → ¬ gc_rd O A B C j' v) → wY_isLive_42 post (nI v) x3 (nI L) yp ye op ya fb yc yg yv yu n (nI j) := by
  have hL := hS.1
  intro n
  induction n with
  | zero => intro j h1 h2; omega
  | succ n ih =>
    intro j hn hj hx
    rw [wY_isLive_42]
    dsimp only
    refine pk_le L j (fun hle => h0 (fun j' hj' => hx j' (by omega))) (fun hlt => ?_)
    have nx : (bt x3 j = true → ¬ gc_rd O A B C j v) → ∀ j', j' < j + 1 → bt x3 j' = true → ¬ gc_rd O A B C j' v := by
      intro z j' hj'
      by_cases e : j' = j
      · subst e; exact z
      · exact hx j' (by omega)
    refine gb_bru j (by omega) (fun hb => ?_) (fun hb => nm_r (nI_1 j) (ih (j + 1) (by omega) (by omega) (nx (fun z => absurd z hb))))
    exact gy_reads hS hlt hv (fun hr => br_f (by decide) (h1 ⟨j, hlt, hb, hr⟩)) (fun hr => br_t rfl (nm_r (nI_1 j) (ih (j + 1) (by omega) (by omega) (nx (fun _ => hr)))))
def gc_Cls (L : Nat) (O A B C : Nat → Nat) (v : Nat) (s : Int32) : Prop := ∀ i j, i < L → j < L → bt s i = true → ¬ gc_wr O A i v → gc_fo O A B C i j → bt s j = true
theorem gy_ans {x3 : Int32} {v s : Nat} (hs : s < L) (hc : gc_Cls L O A B C v x3) (h0 : bt x3 s = true) (hr : ∀ w, bt x3 w = true → gc_Lv L O A B C v w → gc_Lv L O A B C v s) :
    gc_Lv L O A B C v s ↔ ∃ j, j < L ∧ bt x3 j = true ∧ gc_rd O A B C j v := by
  constructor
  · intro hl
    apply Classical.byContradiction
    intro hn
    exact hl (fun k => ¬ bt x3 k = true) (fun i hi hr hb => hn ⟨i, hi, hb, hr⟩) (fun i j hi hj hw hf hj2 hb => hj2 (hc i j hi hj hb hw hf)) h0
  · rintro ⟨j, hj, hb, hrd⟩
    exact hr j hb (gc_Lrd hj hrd)
theorem gy_il10 {post : Int32 → Prop} {v s : Nat} (hS : gc_Src L O A B C op fa fb fc ya yc) (hv : v < 8) (hs : s < L) (h1 : gc_Lv L O A B C v s → post 1) (h0 : ¬ gc_Lv L O A B C v s → post 0) :
    ∀ (n k : Nat) (x3 x4 : Int32), 34 ≤ n + k → k ≤ 33 → bt x3 s = true → (∀ w, bt x3 w = true → w < L ∧ (gc_Lv L O A B C v w → gc_Lv L O A B C v s)) → (x3 = x4 → gc_Cls L O A B C v x3) → (¬ x3 = x4 → k + 1 ≤ gn_c (bt x3) 32) →
      wY_isLive_10 post (nI v) (nI L) yp ye op ya fb yc yg yv yu n x3 x4 (nI k) := by
  have hL := hS.1
  intro n
  induction n with
  | zero => intro k x3 x4 h1 h2; omega
  | succ n ih =>
    intro k x3 x4 hn hk hb hw hc hg
    rw [wY_isLive_10]
    dsimp only
    have fin : gc_Cls L O A B C v x3 → ∃ n42 : Nat, wY_isLive_42 post (nI v) x3 (nI L) yp ye op ya fb yc yg yv yu n42 0 := by
      intro hcl
      have ha := gy_ans hs hcl hb (fun w z => (hw w z).2)
      refine ⟨L + 1, gy_il42 hS hv (fun z => h1 (ha.mpr z)) (fun z => h0 (fun y => ?_)) (L + 1) 0 (by omega) (by omega) (fun j hj => by omega)⟩
      obtain ⟨j, a, b, c⟩ := ha.mp y
      exact z j a b c
    have hle := gn_le (bt x3) 32
    refine pk_le 33 k (fun h33 => fin ?_) (fun h33 => br_c (fun e => fin (hc e)) (fun e => ?_))
    · apply Classical.byContradiction
      intro hz
      have := hg (fun z => hz (hc z))
      omega
    refine gy_widened hS hv (fun r hr => nm_r (nI_1 k) (ih (k + 1) r x3 (by omega) (by omega) ((hr s).mpr (Or.inl hb)) (fun w hbw => ?_) (fun e2 => ?_) (fun e2 => ?_)))
    · rcases (hr w).mp hbw with z | ⟨z, i, z1, z2, z3, z4⟩
      · exact hw w z
      · exact ⟨z, fun y => (hw i z2).2 (gc_Lst z1 z z3 z4 y)⟩
    · intro i j hi hj hbi hwi hf
      rw [e2]
      rw [e2] at hr hbi
      exact (hr j).mpr (Or.inr ⟨hj, i, hi, hbi, hwi, hf⟩)
    · have h1 := hg e
      have h2 := gn_lt (p := bt x3) (q := bt r) 32 (fun i _ z => (hr i).mpr (Or.inl z)) (by
        obtain ⟨i, a, b, c⟩ := gb_ne (x := x3) (y := r) (fun i z => (hr i).mpr (Or.inl z)) e2
        exact ⟨i, a, b, c⟩)
      omega
theorem gy_isLive {post : Int32 → Prop} {v s : Nat} (hS : gc_Src L O A B C op fa fb fc ya yc) (hv : v < 8) (hs : s < L) (h1 : gc_Lv L O A B C v s → post 1) (h0 : ¬ gc_Lv L O A B C v s → post 0) : wpY_isLive post (nI L, yp, ye, op, ya, fb, yc, yg, yv, yu) (nI s) (nI v) := by
  have hL := hS.1
  unfold wpY_isLive
  dsimp only
  have hb : ∀ w, bt ((1 : Int32) <<< (nI s &&& 31)) w = true ↔ w = s := gb_bitT (by omega)
  have hne : ¬ ((1 : Int32) <<< (nI s &&& 31)) = 0 := by
    intro z
    have h2 := (hb s).mpr rfl
    rw [z] at h2
    exact gb_0 s h2
  refine nm_e ⟨34, gy_il10 hS hv hs h1 h0 34 0 _ 0 (by omega) (by omega) ((hb s).mpr rfl) (fun w hw => ?_) (fun z => absurd z hne) (fun _ => gn_ex ⟨s, by omega, (hb s).mpr rfl⟩)⟩
  have := (hb w).mp hw
  subst this
  exact ⟨hs, id⟩
theorem gy_live4 {post : Int32 → Prop} {i : Nat} (hS : gc_Src L O A B C op fa fb fc ya yc) (hi : i < L) (h : ∀ r, (∀ v, bt r v = true ↔ gc_Lv L O A B C v i) → post r) :
    ∀ (n k : Nat) (x2 : Int32), 8 < n + k → k ≤ 8 → (∀ v, bt x2 v = true ↔ v < k ∧ gc_Lv L O A B C v i) → wY_live_4 post (nI i) (nI L) yp ye op ya fb yc yg yv yu n x2 (nI k) := by
  have hL := hS.1
  intro n
  induction n with
  | zero => intro k x2 h1 h2; omega
  | succ n ih =>
    intro k x2 hn hk hx
    rw [wY_live_4]
    dsimp only
    refine pk_le 8 k (fun hle => h _ (fun v => ?_)) (fun hlt => ?_)
    · rw [hx]
      exact ⟨fun z => z.2, fun z => ⟨by have := gc_L8 hS z; omega, z⟩⟩
    unfold wpY_isInstruction
    dsimp only
    refine br_f (nI_pos (by omega)) (br_f (nI_ge (by omega) (by omega)) (br_f (by decide) ?_))
    refine gy_isLive hS hlt hi (fun hl => br_f (by decide) (nm_e (nm_r (nI_1 k) (ih (k + 1) _ (by omega) (by omega) (fun v => ?_))))) (fun hl => br_t rfl (nm_r (nI_1 k) (ih (k + 1) _ (by omega) (by omega) (fun v => ?_))))
    · rw [gb_orT, hx, gb_bitT (by omega)]
      constructor
      · rintro (⟨a, b⟩ | rfl)
        · exact ⟨by omega, b⟩
        · exact ⟨by omega, hl⟩
      · rintro ⟨a, b⟩
        by_cases e : v = k
        · exact Or.inr e
        · exact Or.inl ⟨by omega, b⟩
    · rw [hx]
      constructor
      · rintro ⟨a, b⟩
        exact ⟨by omega, b⟩
      · rintro ⟨a, b⟩
        by_cases e : v = k
        · subst e; exact absurd b hl
        · exact ⟨by omega, b⟩
theorem gy_live {post : Int32 → Prop} {i : Nat} (hS : gc_Src L O A B C op fa fb fc ya yc) (hi : i < L) (h : ∀ r, (∀ v, bt r v = true ↔ gc_Lv L O A B C v i) → post r) : wpY_live post (nI L, yp, ye, op, ya, fb, yc, yg, yv, yu) (nI i) := by
  unfold wpY_live
  dsimp only
  exact ⟨9, gy_live4 hS hi h 9 0 0 (by omega) (by omega) (fun v => ⟨fun z => absurd z (gb_0 v), fun z => by omega⟩)⟩
/-- no instruction: 0 -/
theorem gy_live0 {post : Int32 → Prop} {x : Int32} (hx : x < 0 ∨ nI L ≤ x) (h : post 0) : ∀ (n k : Nat), 8 < n + k → k ≤ 8 → wY_live_4 post x (nI L) yp ye op ya fb yc yg yv yu n 0 (nI k) := by
  intro n
  induction n with
  | zero => intro k h1 h2; omega
  | succ n ih =>
    intro k hn hk
    rw [wY_live_4]
    dsimp only
    refine pk_le 8 k (fun hle => h) (fun hlt => ?_)
    unfold wpY_isInstruction
    dsimp only
    have z := ih (k + 1) (by omega) (by omega)
    refine br_c (fun _ => br_t rfl (nm_r (nI_1 k) z)) (fun hn => br_t (hx.resolve_left hn) (br_t rfl (nm_r (nI_1 k) z)))
theorem gy_meet20 {post : Int32 → Prop} {u v : Nat} (hS : gc_Src L O A B C op fa fb fc ya yc) (hu : u < 8) (hv : v < 8)
    (h1 : (∃ i, i < L ∧ gc_Lv L O A B C u i ∧ gc_Lv L O A B C v i) → post 1) (h0 : (∀ i, i < L → gc_Lv L O A B C u i → ¬ gc_Lv L O A B C v i) → post 0) :
    ∀ (n i : Nat), L < n + i → i ≤ L → (∀ i', i' < i → gc_Lv L O A B C u i' → ¬ gc_Lv L O A B C v i') → wY_meet_20 post (nI u) (nI v) (nI L) yp ye op ya fb yc yg yv yu n (nI i) := by
  have hL := hS.1
  intro n
  induction n with
  | zero => intro i h1 h2; omega
  | succ n ih =>
    intro i hn hi hx
    rw [wY_meet_20]
    dsimp only
    refine pk_le L i (fun hle => h0 (fun i' hi' => hx i' (by omega))) (fun hlt => ?_)
    have nx : (gc_Lv L O A B C u i → ¬ gc_Lv L O A B C v i) → ∀ i', i' < i + 1 → gc_Lv L O A B C u i' → ¬ gc_Lv L O A B C v i' := by
      intro z i' hi'
      by_cases e : i' = i
      · subst e; exact z
      · exact hx i' (by omega)
    refine gy_isLive hS hu hlt (fun a => br_f (by decide) ?_) (fun a => br_t rfl (nm_r (nI_1 i) (ih (i + 1) (by omega) (by omega) (nx (fun z => absurd z a)))))
    exact gy_isLive hS hv hlt (fun b => br_f (by decide) (h1 ⟨i, hlt, a, b⟩)) (fun b => br_t rfl (nm_r (nI_1 i) (ih (i + 1) (by omega) (by omega) (nx (fun _ => b)))))
end
end
section
/-! rivals: bits are only added, and both ways where a written meets one that is live behind -/
def gc_Pr (ri : Nat → Int32) (v u : Nat) : Prop := bt (ri v) u = true ∧ bt (ri u) v = true
def gc_Mo (ri ri' : Nat → Int32) : Prop := ∀ a b, bt (ri a) b = true → bt (ri' a) b = true
theorem gc_Mor (ri : Nat → Int32) : gc_Mo ri ri := fun _ _ h => h
theorem gc_Mot {a b c : Nat → Int32} (h : gc_Mo a b) (h2 : gc_Mo b c) : gc_Mo a c := fun x y z => h2 x y (h x y z)
theorem gc_Moo (ri : Nat → Int32) (i : Nat) (x : Int32) : gc_Mo ri (upd ri i (ri i ||| x)) := by
  intro a b h
  by_cases e : a = i
  · subst e; rw [pk_us, gb_orT]; exact Or.inl h
  · rw [pk_un e]; exact h
theorem gc_Prm {a b : Nat → Int32} {u v : Nat} (h : gc_Mo a b) (hp : gc_Pr a v u) : gc_Pr b v u := ⟨h _ _ hp.1, h _ _ hp.2⟩
section
variable {L : Nat} {O A B C : Nat → Nat} {xl xm xe xp xf xo xn xc : Int32} {op fa fb fc sv li ri co rm on tg lf rt en re cl pv ya yc : Nat → Int32}
theorem gx_mr42 {post : SX → Prop} {J2 : Int32 → gc_T17} {x1 x2 x4 : Int32} {v : Nat} {r0 : Nat → Int32} (hv : v < 8)
    (hJ : ∀ ri : Nat → Int32, gc_Mo r0 ri → (∀ u, u < 8 → bt x4 u = true → bt (ri u) v = true) → J2 (nI (v + 1)) op fa fb fc sv li ri co rm on tg lf rt en re cl pv) :
    ∀ (n u : Nat) (ri : Nat → Int32), 8 < n + u → u ≤ 8 → gc_Mo r0 ri → (∀ u', u' < u → bt x4 u' = true → bt (ri u') v = true) →
      wX_makeRivals_42 post J2 x1 x2 (nI v) x4 xl xm xe xp xf xo xn xc n (nI u) op fa fb fc sv li ri co rm on tg lf rt en re cl pv := by
  intro n
  induction n with
  | zero => intro u ri h1 h2; omega
  | succ n ih =>
    intro u ri hn hu hm hb
    rw [wX_makeRivals_42]
    dsimp only
    have cu : (nI u).toNatClampNeg = u := nI_clamp (by omega)
    have vu : u < 8 → vp_in (nI u) 8 := fun h => vp_in_nI h (by omega)
    refine pk_le 8 u (fun hle => nm_r (nI_1 v) (hJ ri hm (fun u' hu' => hb u' (by omega)))) (fun hlt => ?_)
    refine gb_br u (by omega) (fun hz => nm_r (nI_1 u) (ih (u + 1) ri (by omega) (by omega) hm (fun u' hu' hb' => ?_))) (fun hz => And.intro (vu hlt) (And.intro (vu hlt) (nm_r (e' := upd ri u (ri u ||| ((1 : Int32) <<< (nI v &&& 31)))) (by rw [cu]) (nm_r (nI_1 u) (ih (u + 1) _ (by omega) (by omega) (gc_Mot hm (gc_Moo ri u _)) (fun u' hu' hb' => ?_))))))
    · by_cases e : u' = u
      · subst e; exact absurd hb' hz
      · exact hb u' (by omega) hb'
    · by_cases e : u' = u
      · subst e; rw [pk_us, gb_orT, gb_bitT (by omega)]; exact Or.inr rfl
      · rw [pk_un e]; exact hb u' (by omega) hb'
theorem gx_mr2 {post : SX → Prop} {x1 x2 : Int32} {r0 : Nat → Int32}
    (h : ∀ ri : Nat → Int32, gc_Mo r0 ri → (∀ v u, v < 8 → u < 8 → v ≠ u → bt x1 v = true → bt x2 u = true → gc_Pr ri v u) → post (xl, xm, xe, xp, xf, xo, xn, xc, op, fa, fb, fc, sv, li, ri, co, rm, on, tg, lf, rt, en, re, cl, pv)) :
    ∀ (n v : Nat) (ri : Nat → Int32), 8 < n + v → v ≤ 8 → gc_Mo r0 ri → (∀ v' u, v' < v → u < 8 → v' ≠ u → bt x1 v' = true → bt x2 u = true → gc_Pr ri v' u) →
      wX_makeRivals_2 post x1 x2 xl xm xe xp xf xo xn xc n (nI v) op fa fb fc sv li ri co rm on tg lf rt en re cl pv := by
  intro n
  induction n with
  | zero => intro v ri h1 h2; omega
  | succ n ih =>
    intro v ri hn hv hm hb
    rw [wX_makeRivals_2]
    dsimp only
    have cv : (nI v).toNatClampNeg = v := nI_clamp (by omega)
    refine pk_le 8 v (fun hle => h ri hm (fun v' u hv' => hb v' u (by omega))) (fun hlt => ?_)
    have vv : vp_in (nI v) 8 := vp_in_nI hlt (by omega)
    refine gb_br v (by omega) (fun hz => nm_r (nI_1 v) (ih (v + 1) ri (by omega) (by omega) hm (fun v' u hv' hu hne h1 h2 => ?_))) (fun hz => nm_e (And.intro vv (And.intro vv (nm_r (e' := upd ri v (ri v ||| (x2 &&& (((1 : Int32) <<< (nI v &&& 31)) ^^^ (-1))))) (by rw [cv]) ⟨9, ?_⟩))))
    · by_cases e : v' = v
      · subst e; exact absurd h1 hz
      · exact hb v' u (by omega) hu hne h1 h2
    · refine gx_mr42 (r0 := upd ri v (ri v ||| (x2 &&& (((1 : Int32) <<< (nI v &&& 31)) ^^^ (-1))))) hlt (fun ri' hm' hb' => ih (v + 1) ri' (by omega) (by omega) (gc_Mot hm (gc_Mot (gc_Moo ri v _) hm')) (fun v' u hv' hu hne h1 h2 => ?_)) 9 0 _ (by omega) (by omega) (gc_Mor _) (fun u' hu' => by omega)
      by_cases e : v' = v
      · subst e
        have hd : bt (x2 &&& (((1 : Int32) <<< (nI v' &&& 31)) ^^^ (-1))) u = true := by
          rw [gb_dif, gb_bitT (by omega)]
          exact ⟨h2, fun z => hne z.symm⟩
        refine ⟨hm' _ _ ?_, hb' u hu hd⟩
        rw [pk_us, gb_orT]
        exact Or.inr hd
      · exact gc_Prm (gc_Mot (gc_Moo ri v _) hm') (hb v' u (by omega) hu hne h1 h2)
theorem gx_makeRivals {post : SX → Prop} {x1 x2 : Int32} (h : ∀ ri' : Nat → Int32, gc_Mo ri ri' → (∀ v u, v < 8 → u < 8 → v ≠ u → bt x1 v = true → bt x2 u = true → gc_Pr ri' v u) → post (xl, xm, xe, xp, xf, xo, xn, xc, op, fa, fb, fc, sv, li, ri', co, rm, on, tg, lf, rt, en, re, cl, pv)) :
    wpX_makeRivals post (xl, xm, xe, xp, xf, xo, xn, xc, op, fa, fb, fc, sv, li, ri, co, rm, on, tg, lf, rt, en, re, cl, pv) x1 x2 := by
  unfold wpX_makeRivals
  dsimp only
  exact ⟨9, gx_mr2 h 9 0 ri (by omega) (by omega) (gc_Mor _) (fun v u hv => by omega)⟩
/-- the pairs that must differ, up to instruction k -/
def gc_RQ (L : Nat) (O A B C : Nat → Nat) (ri : Nat → Int32) (k : Nat) : Prop :=
  (∀ v u, v < 8 → u < 8 → v ≠ u → gc_Lv L O A B C v 0 → gc_Lv L O A B C u 0 → gc_Pr ri v u) ∧
  (∀ i v u, i < k → v < 8 → u < 8 → v ≠ u → gc_wr O A i v → gc_Af L O A B C u i → gc_Pr ri v u)
theorem gx_fr35 {post : SX → Prop} (hS : gc_Src L O A B C op fa fb fc ya yc) (hli : ∀ i, i < L → ∀ v, bt (li i) v = true ↔ gc_Lv L O A B C v i)
    (h : ∀ ri : Nat → Int32, gc_RQ L O A B C ri L → post (nI L, xm, xe, xp, xf, xo, xn, xc, op, fa, fb, fc, sv, li, ri, co, rm, on, tg, lf, rt, en, re, cl, pv)) :
    ∀ (n i : Nat) (ri : Nat → Int32), L < n + i → i ≤ L → gc_RQ L O A B C ri i → wX_findRivals_35 post n (nI i) (nI L) xm xe xp xf xo xn xc op fa fb fc sv li ri co rm on tg lf rt en re cl pv := by
  have hL := hS.1
  intro n
  induction n with
  | zero => intro i ri h1 h2; omega
  | succ n ih =>
    intro i ri hn hi hq
    rw [wX_findRivals_35]
    dsimp only
    refine pk_le L i (fun hle => h ri ?_) (fun hlt => ?_)
    · have : i = L := by omega
      rw [this] at hq; exact hq
    refine gx_writtenBy hS hlt (fun r1 h1 => gx_liveAfter hS hlt (fun r2 h2 => gx_makeRivals (fun ri' hm hb => nm_r (nI_1 i) (ih (i + 1) ri' (by omega) (by omega) ⟨fun v u a b c d e => gc_Prm hm (hq.1 v u a b c d e), fun k v u hk hv hu hne hw ha => ?_⟩))))
    by_cases e : k = i
    · subst e
      refine hb v u hv hu hne ((h1 v).mpr hw) ((h2 u).mpr ?_)
      obtain ⟨j, hj, hf, hl⟩ := ha
      exact ⟨j, hj, hf, (hli j hj u).mpr hl⟩
    · exact gc_Prm hm (hq.2 k v u (by omega) hv hu hne hw ha)
theorem gx_fr2 {post : SX → Prop} (hS : gc_Src L O A B C op fa fb fc ya yc) (hli : ∀ i, i < L → ∀ v, bt (li i) v = true ↔ gc_Lv L O A B C v i)
    (h : ∀ ri : Nat → Int32, gc_RQ L O A B C ri L → post (nI L, xm, xe, xp, xf, xo, xn, xc, op, fa, fb, fc, sv, li, ri, co, rm, on, tg, lf, rt, en, re, cl, pv)) :
    ∀ (n k : Nat) (ri : Nat → Int32), 8 < n + k → k ≤ 8 → wX_findRivals_2 post (nI L) xm xe xp xf xo xn xc n (nI k) op fa fb fc sv li ri co rm on tg lf rt en re cl pv := by
  have hL := hS.1
  intro n
  induction n with
  | zero => intro i ri h1 h2; omega
  | succ n ih =>
    intro k ri hn hk
    rw [wX_findRivals_2]
    dsimp only
    have ck : (nI k).toNatClampNeg = k := nI_clamp (by omega)
    refine pk_le 8 k (fun hle => ?_) (fun hlt => And.intro (vp_in_nI hlt (by omega)) (nm_e (nm_r (nI_1 k) (ih (k + 1) _ (by omega) (by omega)))))
    refine gx_liveAt (j := 0) hL (by omega) (fun r hr => gx_makeRivals (fun ri' hm hb => ⟨L + 1, gx_fr35 hS hli h (L + 1) 0 ri' (by omega) (by omega) ⟨fun v u hv hu hne h1 h2 => ?_, fun i v u hi => by omega⟩⟩))
    have hl : ∀ v, gc_Lv L O A B C v 0 → bt r v = true := by
      intro v hz
      have h0 := (gc_Linv hz).1
      exact (hr v).mpr ⟨h0, (hli 0 h0 v).mpr hz⟩
    exact hb v u hv hu hne (hl v h1) (hl u h2)
theorem gx_findRivals {post : SX → Prop} (hS : gc_Src L O A B C op fa fb fc ya yc) (hli : ∀ i, i < L → ∀ v, bt (li i) v = true ↔ gc_Lv L O A B C v i)
    (h : ∀ ri : Nat → Int32, gc_RQ L O A B C ri L → post (nI L, xm, xe, xp, xf, xo, xn, xc, op, fa, fb, fc, sv, li, ri, co, rm, on, tg, lf, rt, en, re, cl, pv)) : wpX_findRivals post (nI L, xm, xe, xp, xf, xo, xn, xc, op, fa, fb, fc, sv, li, ri, co, rm, on, tg, lf, rt, en, re, cl, pv) := by
  unfold wpX_findRivals
  dsimp only
  exact ⟨9, gx_fr2 hS hli h 9 0 ri (by omega) (by omega)⟩
end
end
section
/-! colours -/
/-- K v: the register of v, 3 if it is in memory -/
def gc_Co (co : Nat → Int32) (K : Nat → Nat) : Prop := ∀ v, v < 8 → (K v < 3 ∧ co v = nI (K v)) ∨ (K v = 3 ∧ co v = -1)
def gc_Ki (x : Int32) : Nat := if x < 0 then 3 else x.toNatClampNeg
section
variable {xl xm xe xp xf xo xn xc : Int32} {op fa fb fc sv li ri co rm on tg lf rt en re cl pv ya yc : Nat → Int32}
theorem gx_bits4 {post : Int32 → Prop} {x1 : Int32} (h : ∀ d : Nat, d ≤ 8 → post (nI d)) : ∀ (n k d : Nat), 8 < n + k → k ≤ 8 → d ≤ k → wX_bitsIn_4 post x1 xl xm xe xp xf xo xn xc op fa fb fc sv li ri co rm on tg lf rt en re cl pv n (nI d) (nI k) := by
  intro n
  induction n with
  | zero => intro k d h1 h2; omega
  | succ n ih =>
    intro k d hn hk hd
    rw [wX_bitsIn_4]
    dsimp only
    refine pk_le 8 k (fun hle => h d (by omega)) (fun hlt => ?_)
    obtain ⟨j, hj, e⟩ := pk_andE (x1 >>> (nI k &&& 31)) (m := 1) 1 (by decide)
    rw [e, nI_add]
    exact nm_e (nm_r (nI_1 k) (ih (k + 1) (d + j) (by omega) (by omega) (by omega)))
theorem gx_bitsIn {post : Int32 → Prop} {x1 : Int32} (h : ∀ d : Nat, d ≤ 8 → post (nI d)) : wpX_bitsIn post (xl, xm, xe, xp, xf, xo, xn, xc, op, fa, fb, fc, sv, li, ri, co, rm, on, tg, lf, rt, en, re, cl, pv) x1 := by
  unfold wpX_bitsIn
  dsimp only
  exact ⟨9, gx_bits4 h 9 0 0 (by omega) (by omega) (by omega)⟩
theorem gx_easy7 {post : Int32 → Prop} {x1 : Int32} (h : ∀ v, v < 8 → bt x1 v = true → post (nI v)) :
    ∀ (n k : Nat) (x2 x3 : Int32), 8 < n + k → k ≤ 8 → ((x3 = -1 ∧ ∃ v, k ≤ v ∧ v < 8 ∧ bt x1 v = true) ∨ (∃ v, v < 8 ∧ x2 = nI v ∧ bt x1 v = true)) → wX_easiest_7 post x1 xl xm xe xp xf xo xn xc op fa fb fc sv li ri co rm on tg lf rt en re cl pv n x2 x3 (nI k) := by
  intro n
  induction n with
  | zero => intro k x2 x3 h1 h2; omega
  | succ n ih =>
    intro k x2 x3 hn hk hx
    rw [wX_easiest_7]
    dsimp only
    refine pk_le 8 k (fun hle => ?_) (fun hlt => ?_)
    · rcases hx with ⟨_, v, a, b, _⟩ | ⟨v, a, b, c⟩
      · omega
      · rw [b]; exact h v a c
    refine gb_br k (by omega) (fun hz => nm_r (nI_1 k) (ih (k + 1) x2 x3 (by omega) (by omega) ?_)) (fun hz => And.intro (vp_in_nI hlt (by omega)) ?_)
    · rcases hx with ⟨z, v, a, b, c⟩ | z
      · refine Or.inl ⟨z, v, ?_, b, c⟩
        rcases Nat.lt_or_ge k v with y | y
        · omega
        · have : v = k := by omega
          subst this; exact absurd c hz
      · exact Or.inr z
    refine gx_bitsIn (fun d hd => ?_)
    refine pk_le 3 d (fun h3 => br_c (fun hle => nm_r (nI_1 k) (ih (k + 1) x2 x3 (by omega) (by omega) ?_)) (fun hle => nm_r (nI_1 k) (ih (k + 1) (nI k) (nI d) (by omega) (by omega) (Or.inr ⟨k, hlt, rfl, hz⟩)))) (fun h3 => h k hlt hz)
    rcases hx with ⟨z, _⟩ | z
    · rw [z] at hle
      exact absurd (Int32.lt_of_le_of_lt hle gb_neg1) (nI_pos (by omega))
    · exact Or.inr z
theorem gx_easiest {post : Int32 → Prop} {x1 : Int32} (hx : ∃ v, v < 8 ∧ bt x1 v = true) (h : ∀ v, v < 8 → bt x1 v = true → post (nI v)) : wpX_easiest post (xl, xm, xe, xp, xf, xo, xn, xc, op, fa, fb, fc, sv, li, ri, co, rm, on, tg, lf, rt, en, re, cl, pv) x1 := by
  unfold wpX_easiest
  dsimp only
  obtain ⟨v, a, b⟩ := hx
  exact ⟨9, gx_easy7 h 9 0 (-1) (-1) (by omega) (by omega) (Or.inl ⟨rfl, v, by omega, a, b⟩)⟩
theorem gx_free37 {post : Int32 → Prop} {x2 : Int32} (h : ∀ c, c < 3 → ¬ bt x2 c = true → post (nI c)) (hm : post (-1)) : ∀ (n k : Nat), 3 < n + k → k ≤ 3 → wX_freeColour_37 post x2 xl xm xe xp xf xo xn xc op fa fb fc sv li ri co rm on tg lf rt en re cl pv n (nI k) := by
  intro n
  induction n with
  | zero => intro k h1 h2; omega
  | succ n ih =>
    intro k hn hk
    rw [wX_freeColour_37]
    dsimp only
    refine pk_le 3 k (fun _ => hm) (fun hlt => gb_br k (by omega) (fun hz => h k hlt hz) (fun hz => nm_r (nI_1 k) (ih (k + 1) (by omega) (by omega))))
theorem gx_free4 {post : Int32 → Prop} {x1 : Int32} (hc : ∀ u, u < 8 → bt x1 u = true → ∃ c, c < 3 ∧ co u = nI c)
    (h : ∀ c, c < 3 → (∀ u, u < 8 → bt x1 u = true → co u ≠ nI c) → post (nI c)) (hm : post (-1)) :
    ∀ (n k : Nat) (x2 : Int32), 8 < n + k → k ≤ 8 → (∀ u c, u < k → bt x1 u = true → c < 3 → co u = nI c → bt x2 c = true) → wX_freeColour_4 post x1 xl xm xe xp xf xo xn xc op fa fb fc sv li ri co rm on tg lf rt en re cl pv n x2 (nI k) := by
  intro n
  induction n with
  | zero => intro k x2 h1 h2; omega
  | succ n ih =>
    intro k x2 hn hk hx
    rw [wX_freeColour_4]
    dsimp only
    have ck : (nI k).toNatClampNeg = k := nI_clamp (by omega)
    refine pk_le 8 k (fun hle => ⟨4, gx_free37 (fun c hc' hb => h c hc' (fun u hu hb2 e => hb (hx u c (by omega) hb2 hc' e))) hm 4 0 (by omega) (by omega)⟩) (fun hlt => ?_)
    refine gb_br k (by omega) (fun hz => nm_r (nI_1 k) (ih (k + 1) x2 (by omega) (by omega) (fun u c hu hb hc' e => ?_))) (fun hz => And.intro (vp_in_nI hlt (by omega)) (nm_e (nm_r (nI_1 k) (ih (k + 1) _ (by omega) (by omega) (fun u c hu hb hc' e => ?_)))))
    · by_cases e2 : u = k
      · subst e2; exact absurd hb hz
      · exact hx u c (by omega) hb hc' e
    · rw [ck]
      obtain ⟨d, hd, ed⟩ := hc k hlt hz
      rw [ed, gb_orT, gb_bitT (by omega)]
      by_cases e2 : u = k
      · subst e2
        rw [ed] at e
        exact Or.inr ((nI_eq (by omega) (by omega)).mp e).symm
      · exact Or.inl (hx u c (by omega) hb hc' e)
theorem gx_freeColour {post : Int32 → Prop} {x1 : Int32} (hc : ∀ u, u < 8 → bt x1 u = true → ∃ c, c < 3 ∧ co u = nI c)
    (h : ∀ c, c < 3 → (∀ u, u < 8 → bt x1 u = true → co u ≠ nI c) → post (nI c)) (hm : post (-1)) : wpX_freeColour post (xl, xm, xe, xp, xf, xo, xn, xc, op, fa, fb, fc, sv, li, ri, co, rm, on, tg, lf, rt, en, re, cl, pv) x1 := by
  unfold wpX_freeColour
  dsimp only
  exact ⟨9, gx_free4 hc h hm 9 0 0 (by omega) (by omega) (fun u c hu => by omega)⟩
/-- done: those taken out from place k on; x2: the coloured of them -/
def gc_Cl (rm co ri : Nat → Int32) (R : Nat → Nat) (x2 : Int32) (k : Nat) : Prop :=
  (∀ u, u < 8 → bt x2 u = true → ∃ j, k ≤ j ∧ j < 8 ∧ R j = u) ∧
  (∀ j, k ≤ j → j < 8 → (bt x2 (R j) = true ∧ ∃ c, c < 3 ∧ co (R j) = nI c) ∨ (¬ bt x2 (R j) = true ∧ co (R j) = -1)) ∧
  (∀ u v, u < 8 → v < 8 → u ≠ v → bt x2 u = true → bt x2 v = true → gc_Pr ri u v → co u ≠ co v)
theorem gx_cv45 {post : SX → Prop} {R : Nat → Nat} (hR : ∀ j, j < 8 → R j < 8 ∧ rm j = nI (R j)) (hinj : ∀ i j, i < 8 → j < 8 → R i = R j → i = j)
    (h : ∀ (co : Nat → Int32) (x2 : Int32), gc_Cl rm co ri R x2 0 → post (xl, xm, xe, xp, xf, xo, xn, xc, op, fa, fb, fc, sv, li, ri, co, rm, on, tg, lf, rt, en, re, cl, pv)) :
    ∀ (k n : Nat) (co : Nat → Int32) (x2 : Int32), k < n → k ≤ 8 → gc_Cl rm co ri R x2 k → wX_colourVariables_45 post xl xm xe xp xf xo xn xc n x2 (nI k + (-1)) op fa fb fc sv li ri co rm on tg lf rt en re cl pv := by
  intro k
  induction k with
  | zero =>
    intro n co x2 hn hk hc
    obtain ⟨n, rfl⟩ : ∃ n', n = n' + 1 := ⟨n - 1, by omega⟩
    rw [wX_colourVariables_45]
    dsimp only
    exact br_t gb_lt0 (h co x2 hc)
  | succ k ih =>
    intro n co x2 hn hk hc
    obtain ⟨n, rfl⟩ : ∃ n', n = n' + 1 := ⟨n - 1, by omega⟩
    obtain ⟨c1, c2, c3⟩ := hc
    have ck : (nI k).toNatClampNeg = k := nI_clamp (by omega)
    obtain ⟨hv, er⟩ := hR k (by omega)
    have cv : (nI (R k)).toNatClampNeg = R k := nI_clamp (by omega)
    have vv : vp_in (nI (R k)) 8 := vp_in_nI hv (by omega)
    have hnv : ¬ bt x2 (R k) = true := by
      intro z
      obtain ⟨j, a, b, e⟩ := c1 _ hv z
      have := hinj j k (by omega) (by omega) e
      omega
    rw [wX_colourVariables_45]
    dsimp only
    rw [pk_m1, ck, er]
    refine br_f (nI_pos (by omega)) (And.intro (vp_in_nI (by omega) (by omega)) (nm_e ?_))
    rw [cv]
    refine And.intro vv (gx_freeColour (fun u hu hb => ?_) (fun c hc hb => ?_) ?_)
    · rw [gb_andT] at hb
      obtain ⟨j, a, b, rfl⟩ := c1 u hu hb.2
      rcases c2 j a b with ⟨_, z⟩ | ⟨z, _⟩
      · exact z
      · exact absurd hb.2 z
    · refine And.intro vv (nm_r (e' := upd co (R k) (nI c)) (by rw [gb_i8 c (by omega)]) (And.intro vv ?_))
      rw [pk_us]
      refine br_f (nI_pos (by omega)) (nm_e (nm_e (ih n _ _ (by omega) (by omega) ⟨fun u hu hb2 => ?_, fun j hj hj8 => ?_, fun u v hu hv' hne hbu hbv hp => ?_⟩)))
      · rw [gb_orT, gb_bitT (by omega)] at hb2
        rcases hb2 with z | z
        · obtain ⟨j, a, b, e⟩ := c1 u hu z
          exact ⟨j, by omega, b, e⟩
        · exact ⟨k, by omega, by omega, z.symm⟩
      · refine Or.elim (Nat.lt_or_ge k j) (fun hkj => ?_) (fun hkj => ?_)
        · have hne : R j ≠ R k := fun z => by have := hinj j k hj8 (by omega) z; omega
          rw [gb_orT, gb_bitT (by omega), pk_un hne]
          rcases c2 j (by omega) hj8 with ⟨a, b⟩ | ⟨a, b⟩
          · exact Or.inl ⟨Or.inl a, b⟩
          · exact Or.inr ⟨fun z => z.elim a hne, b⟩
        · have : j = k := by omega
          subst this
          rw [gb_orT, gb_bitT (by omega), pk_us]
          exact Or.inl ⟨Or.inr rfl, c, hc, rfl⟩
      · rw [gb_orT, gb_bitT (by omega)] at hbu hbv
        by_cases eu : u = R k
        · have ev : v ≠ R k := fun z => hne (eu.trans z.symm)
          have hv2 := hbv.resolve_right ev
          rw [eu, pk_us, pk_un ev]
          refine fun z => hb v hv' ?_ z.symm
          rw [gb_andT, ← eu]
          exact ⟨hp.1, hv2⟩
        · by_cases ev : v = R k
          · have hu2 := hbu.resolve_right eu
            rw [ev, pk_us, pk_un eu]
            refine fun z => hb u hu ?_ z
            rw [gb_andT, ← ev]
            exact ⟨hp.2, hu2⟩
          · rw [pk_un eu, pk_un ev]
            exact c3 u v hu hv' hne (hbu.resolve_right eu) (hbv.resolve_right ev) hp
    · refine And.intro vv (nm_r (e' := upd co (R k) (-1)) (by rw [gb_i8m]) (And.intro vv ?_))
      rw [pk_us]
      refine br_t gb_neg1 (nm_e (ih n _ _ (by omega) (by omega) ⟨fun u hu hb2 => ?_, fun j hj hj8 => ?_, fun u v hu hv' hne hbu hbv hp => ?_⟩))
      · obtain ⟨j, a, b, e⟩ := c1 u hu hb2
        exact ⟨j, by omega, b, e⟩
      · refine Or.elim (Nat.lt_or_ge k j) (fun hkj => ?_) (fun hkj => ?_)
        · have hne : R j ≠ R k := fun z => by have := hinj j k hj8 (by omega) z; omega
          rw [pk_un hne]
          exact c2 j (by omega) hj8
        · have : j = k := by omega
          subst this
          rw [pk_us]
          exact Or.inr ⟨hnv, rfl⟩
      · have eu : u ≠ R k := fun z => hnv (z ▸ hbu)
        have ev : v ≠ R k := fun z => hnv (z ▸ hbv)
        rw [pk_un eu, pk_un ev]
        exact c3 u v hu hv' hne hbu hbv hp
/-- what the colours keep -/
def gc_Df (ri : Nat → Int32) (K : Nat → Nat) : Prop := ∀ u v, u < 8 → v < 8 → u ≠ v → gc_Pr ri u v → K u < 3 → K v < 3 → K u ≠ K v
theorem gc_ClK {R : Nat → Nat} {x2 : Int32} (hsur : ∀ v, v < 8 → ∃ j, j < 8 ∧ R j = v) (h : gc_Cl rm co ri R x2 0) : gc_Co co (fun v => gc_Ki (co v)) ∧ gc_Df ri (fun v => gc_Ki (co v)) := by
  obtain ⟨c1, c2, c3⟩ := h
  have cc : ∀ v, v < 8 → (bt x2 v = true ∧ ∃ c, c < 3 ∧ co v = nI c ∧ gc_Ki (co v) = c) ∨ (co v = -1 ∧ gc_Ki (co v) = 3) := by
    intro v hv
    obtain ⟨j, hj, rfl⟩ := hsur v hv
    rcases c2 j (by omega) hj with ⟨a, c, hc, e⟩ | ⟨_, e⟩
    · refine Or.inl ⟨a, c, hc, e, ?_⟩
      unfold gc_Ki
      rw [e, if_neg (nI_pos (by omega)), nI_clamp (by omega)]
    · refine Or.inr ⟨e, ?_⟩
      unfold gc_Ki
      rw [e, if_pos gb_neg1]
  refine ⟨fun v hv => ?_, fun u v hu hv hne hp h1 h2 => ?_⟩
  · rcases cc v hv with ⟨_, c, hc, e, ek⟩ | ⟨e, ek⟩
    · exact Or.inl ⟨by dsimp only; omega, by dsimp only; rw [ek, e]⟩
    · exact Or.inr ⟨ek, e⟩
  · dsimp only at h1 h2 ⊢
    rcases cc u hu with ⟨bu, c, hc, e, ek⟩ | ⟨e, ek⟩
    · rcases cc v hv with ⟨bv, c', hc', e', ek'⟩ | ⟨e', ek'⟩
      · rw [ek, ek']
        intro z
        subst z
        exact c3 u v hu hv hne bu bv hp (e.trans e'.symm)
      · omega
    · omega
theorem gx_cv6 {post : SX → Prop} (h : ∀ (co rm : Nat → Int32) (K : Nat → Nat), gc_Co co K → gc_Df ri K → post (xl, xm, xe, xp, xf, xo, xn, xc, op, fa, fb, fc, sv, li, ri, co, rm, on, tg, lf, rt, en, re, cl, pv)) :
    ∀ (n k : Nat) (rm : Nat → Int32) (x1 : Int32) (R : Nat → Nat), 8 < n + k → k ≤ 8 → (∀ j, j < k → R j < 8 ∧ rm j = nI (R j)) → (∀ i j, i < k → j < k → R i = R j → i = j) → gn_c (bt x1) 8 + k = 8 → (∀ v, v < 8 → (bt x1 v = true ↔ ∀ j, j < k → R j ≠ v)) →
      wX_colourVariables_6 post xl xm xe xp xf xo xn xc n x1 (nI k) op fa fb fc sv li ri co rm on tg lf rt en re cl pv := by
  intro n
  induction n with
  | zero => intro k rm x1 R h1 h2; omega
  | succ n ih =>
    intro k rm x1 R hn hk hR hinj hcn hx
    rw [wX_colourVariables_6]
    dsimp only
    have ck : (nI k).toNatClampNeg = k := nI_clamp (by omega)
    refine pk_le 8 k (fun hle => ⟨9, ?_⟩) (fun hlt => ?_)
    · have hk8 : k = 8 := by omega
      subst hk8
      have hsur : ∀ v, v < 8 → ∃ j, j < 8 ∧ R j = v := by
        intro v hv
        apply Classical.byContradiction
        intro hc
        exact gn_none (p := bt x1) (n := 8) (by omega) v hv ((hx v hv).mpr (fun j hj e => hc ⟨j, hj, e⟩))
      refine gx_cv45 hR hinj (fun co' x2 hcl => ?_) 8 9 co 0 (by omega) (by omega) ⟨fun u hu z => absurd z (gb_0 u), fun j h1 h2 => by omega, fun u v hu hv hne z => absurd z (gb_0 u)⟩
      obtain ⟨a, b⟩ := gc_ClK hsur hcl
      exact h co' rm _ a b
    · refine gx_easiest (gn_pos 8 (by omega)) (fun v hv hb => And.intro (vp_in_nI hlt (by omega)) (nm_r (e' := upd rm k (nI v)) (by rw [ck, gb_i8 v (by omega)]) (nm_e (nm_r (nI_1 k) (ih (k + 1) _ _ (fun j => if j = k then v else R j) (by omega) (by omega) (fun j hj => ?_) (fun i j hi hj e => ?_) ?_ (fun u hu => ?_))))))
      · by_cases e : j = k
        · rw [if_pos e, e, pk_us]; exact ⟨hv, rfl⟩
        · rw [if_neg e, pk_un e]; exact hR j (by omega)
      · have hf := (hx v hv).mp hb
        by_cases ei : i = k
        · by_cases ej : j = k
          · omega
          · rw [if_pos ei, if_neg ej] at e
            exact absurd e.symm (hf j (by omega))
        · by_cases ej : j = k
          · rw [if_neg ei, if_pos ej] at e
            exact absurd e (hf i (by omega))
          · rw [if_neg ei, if_neg ej] at e
            exact hinj i j (by omega) (by omega) e
      · have := gn_del (p := bt x1) (q := bt (x1 &&& (((1 : Int32) <<< (nI v &&& 31)) ^^^ (-1)))) (v := v) 8 hv hb (by rw [gb_dif, gb_bitT (by omega)]; exact fun z => z.2 rfl) (fun i hi hne => by
          rw [Bool.eq_iff_iff, gb_dif, gb_bitT (by omega)]
          exact ⟨fun z => z.1, fun z => ⟨z, hne⟩⟩)
        omega
      · rw [gb_dif, gb_bitT (by omega), hx u hu]
        constructor
        · rintro ⟨a, b⟩ j hj
          by_cases e : j = k
          · rw [if_pos e]; exact fun z => b z.symm
          · rw [if_neg e]; exact a j (by omega)
        · intro a
          refine ⟨fun j hj => ?_, fun z => ?_⟩
          · have := a j (by omega)
            rw [if_neg (by omega)] at this
            exact this
          · have := a k (by omega)
            rw [if_pos rfl] at this
            exact this z.symm
theorem gx_colourVariables {post : SX → Prop} (h : ∀ (co rm : Nat → Int32) (K : Nat → Nat), gc_Co co K → gc_Df ri K → post (xl, xm, xe, xp, xf, xo, xn, xc, op, fa, fb, fc, sv, li, ri, co, rm, on, tg, lf, rt, en, re, cl, pv)) : wpX_colourVariables post (xl, xm, xe, xp, xf, xo, xn, xc, op, fa, fb, fc, sv, li, ri, co, rm, on, tg, lf, rt, en, re, cl, pv) := by
  unfold wpX_colourVariables
  dsimp only
  refine ⟨9, gx_cv6 h 9 0 rm 255 (fun _ => 0) (by omega) (by omega) (fun j hj => by omega) (fun i j hi => by omega) ?_ (fun v hv => ?_)⟩
  · have := gn_all
    exact this
  · rw [b_255]
    exact ⟨fun _ j hj => by omega, fun _ => decide_eq_true hv⟩
end
end
section
/-! target code as a list; a write appends -/
abbrev gc_Q : Type := Int32 × Int32 × Int32 × Int32
def gc_Ho (on tg lf rt : Nat → Int32) (l : List gc_Q) : Prop := ∀ (k : Nat) (q : gc_Q), l[k]? = some q → on k = q.1 ∧ tg k = q.2.1 ∧ lf k = q.2.2.1 ∧ rt k = q.2.2.2
theorem gc_HoS {on tg lf rt : Nat → Int32} {l : List gc_Q} {a b c d : Int32} (h : gc_Ho on tg lf rt l) : gc_Ho (upd on l.length a) (upd tg l.length b) (upd lf l.length c) (upd rt l.length d) (l ++ [(a, b, c, d)]) := by
  intro k q hk
  rcases Nat.lt_or_ge k l.length with z | z
  · rw [List.getElem?_append_left z] at hk
    have hne : k ≠ l.length := by omega
    rw [pk_un hne, pk_un hne, pk_un hne, pk_un hne]
    exact h k q hk
  · rw [List.getElem?_append_right z] at hk
    by_cases e : k = l.length
    · subst e
      rw [Nat.sub_self] at hk
      have hq : (a, b, c, d) = q := Option.some.inj hk
      rw [← hq, pk_us, pk_us, pk_us, pk_us]
      exact ⟨rfl, rfl, rfl, rfl⟩
    · rw [List.getElem?_eq_none (by simp only [List.length_cons, List.length_nil]; omega)] at hk
      exact absurd hk (by intro w; exact nomatch w)
def gc_fet (K : Nat → Nat) (v s : Nat) : List gc_Q := if K v = 3 then [(nI 12, nI s, nI v, 0)] else []
def gc_rg (K : Nat → Nat) (v s : Nat) : Nat := if K v = 3 then s else K v
def gc_kp (K : Nat → Nat) (a : Nat) : List gc_Q := if K a = 3 then [(nI 13, nI 5, nI a, 0)] else []
def gc_asg (K : Nat → Nat) (o a b c : Nat) (imm : Int32) : List gc_Q :=
  (if o = 0 then [(nI 0, nI (gc_rg K a 5), imm, 0)] else if o = 1 then gc_fet K b 3 ++ (if gc_rg K b 3 = gc_rg K a 5 then [] else [(nI 1, nI (gc_rg K a 5), nI (gc_rg K b 3), 0)])
    else gc_fet K b 3 ++ (gc_fet K c 4 ++ [(nI o, nI (gc_rg K a 5), nI (gc_rg K b 3), nI (gc_rg K c 4))])) ++ gc_kp K a
def gc_bdy (K : Nat → Nat) (d : Bool) (o a b c : Nat) (imm : Int32) : List gc_Q :=
  if o ≤ 5 then (if d = true then gc_asg K o a b c imm else []) else if o = 7 then [(nI 7, nI 0, nI a, 0)] else if o = 10 then [(nI 10, nI 0, 0, 0)]
  else gc_fet K a 3 ++ [if o = 6 then (nI 6, nI (gc_rg K a 3), 0, 0) else if o = 8 then (nI 8, nI (gc_rg K a 3), nI b, 0) else (nI 9, nI (gc_rg K a 3), nI b, nI c)]
def gc_cg (K : Nat → Nat) (D : Nat → Bool) (O A B C : Nat → Nat) (fb : Nat → Int32) (i : Nat) : List gc_Q := (nI 11, nI 0, 0, 0) :: gc_bdy K (D i) (O i) (A i) (B i) (C i) (fb i)
def gc_all (K : Nat → Nat) (D : Nat → Bool) (O A B C : Nat → Nat) (fb : Nat → Int32) : Nat → List gc_Q
  | 0 => []
  | i + 1 => gc_all K D O A B C fb i ++ gc_cg K D O A B C fb i
noncomputable def gc_dd (L : Nat) (O A B C : Nat → Nat) (i : Nat) : Bool := @decide (gc_Af L O A B C (A i) i) (Classical.propDecidable _)
theorem gc_ddT {L : Nat} {O A B C : Nat → Nat} {i : Nat} : gc_dd L O A B C i = true ↔ gc_Af L O A B C (A i) i := by
  unfold gc_dd
  exact @decide_eq_true_iff _ (Classical.propDecidable _)
theorem gc_fet1 (K : Nat → Nat) (v s : Nat) : (gc_fet K v s).length ≤ 1 := by
  unfold gc_fet
  split
  · exact Nat.le_refl _
  · exact Nat.zero_le _
theorem gc_kp1 (K : Nat → Nat) (v : Nat) : (gc_kp K v).length ≤ 1 := by
  unfold gc_kp
  split
  · exact Nat.le_refl _
  · exact Nat.zero_le _
theorem gc_asg4 (K : Nat → Nat) (o a b c : Nat) (imm : Int32) : (gc_asg K o a b c imm).length ≤ 4 := by
  unfold gc_asg
  have h1 := gc_kp1 K a
  have h2 := gc_fet1 K b 3
  have h3 := gc_fet1 K c 4
  rw [List.length_append]
  split
  · simp only [List.length_cons, List.length_nil]; omega
  · split
    · rw [List.length_append]
      split
      · simp only [List.length_nil]; omega
      · simp only [List.length_cons, List.length_nil]; omega
    · rw [List.length_append, List.length_append]
      simp only [List.length_cons, List.length_nil]; omega
theorem gc_bdy4 (K : Nat → Nat) (d : Bool) (o a b c : Nat) (imm : Int32) : (gc_bdy K d o a b c imm).length ≤ 4 := by
  unfold gc_bdy
  have h1 := gc_asg4 K o a b c imm
  have h2 := gc_fet1 K a 3
  split
  · split
    · exact h1
    · exact Nat.zero_le _
  · split
    · simp only [List.length_cons, List.length_nil]; omega
    · split
      · simp only [List.length_cons, List.length_nil]; omega
      · rw [List.length_append]
        simp only [List.length_cons, List.length_nil]; omega
theorem gc_all5 (K : Nat → Nat) (D : Nat → Bool) (O A B C : Nat → Nat) (fb : Nat → Int32) : ∀ i, (gc_all K D O A B C fb i).length ≤ 5 * i := by
  intro i
  induction i with
  | zero => exact Nat.le_refl _
  | succ i ih =>
    have := gc_bdy4 K (D i) (O i) (A i) (B i) (C i) (fb i)
    rw [gc_all, List.length_append, gc_cg, List.length_cons]
    omega
section
variable {L : Nat} {O A B C : Nat → Nat} {K : Nat → Nat} {l : List gc_Q} {xl xm xe xp xf xo xn xc : Int32} {op fa fb fc sv li ri co rm on tg lf rt en re cl pv ya yc : Nat → Int32}
theorem gx_write {post : SX → Prop} {o t : Nat} {y z : Int32} (hl : l.length < 224) (ho : o < 128) (ht : t < 128) (hH : gc_Ho on tg lf rt l)
    (h : ∀ on tg lf rt : Nat → Int32, gc_Ho on tg lf rt (l ++ [(nI o, nI t, y, z)]) → post (xl, xm, nI (l ++ [(nI o, nI t, y, z)]).length, xp, xf, xo, xn, xc, op, fa, fb, fc, sv, li, ri, co, rm, on, tg, lf, rt, en, re, cl, pv)) : wpX_write post (xl, xm, nI l.length, xp, xf, xo, xn, xc, op, fa, fb, fc, sv, li, ri, co, rm, on, tg, lf, rt, en, re, cl, pv) (nI o) (nI t) y z := by
  have c : (nI l.length).toNatClampNeg = l.length := nI_clamp (by omega)
  have v : vp_in (nI l.length) 224 := vp_in_nI (by omega) (by omega)
  unfold wpX_write
  dsimp only
  rw [c, gb_i8 o ho, gb_i8 t ht]
  refine And.intro v (nm_e (And.intro v (nm_e (And.intro v (nm_e (And.intro v (nm_e (nm_r (e' := nI (l ++ [(nI o, nI t, y, z)]).length) ?_ (h _ _ _ _ (gc_HoS hH))))))))))
  rw [nI_1, List.length_append]
  rfl
theorem gx_fetched {post : Int32 → SX → Prop} {v s : Nat} (hK : gc_Co co K) (hv : v < 8) (hs : s < 8) (hl : l.length < 224) (hH : gc_Ho on tg lf rt l)
    (h : ∀ (l' : List gc_Q) (on tg lf rt : Nat → Int32), l' = l ++ gc_fet K v s → gc_Ho on tg lf rt l' → post (nI (gc_rg K v s)) (xl, xm, nI l'.length, xp, xf, xo, xn, xc, op, fa, fb, fc, sv, li, ri, co, rm, on, tg, lf, rt, en, re, cl, pv)) : wpX_fetched post (xl, xm, nI l.length, xp, xf, xo, xn, xc, op, fa, fb, fc, sv, li, ri, co, rm, on, tg, lf, rt, en, re, cl, pv) (nI v) (nI s) := by
  have c : (nI v).toNatClampNeg = v := nI_clamp (by omega)
  have vv : vp_in (nI v) 8 := vp_in_nI (by omega) (by omega)
  unfold wpX_fetched
  dsimp only
  rw [c]
  rcases hK v hv with ⟨hk, e⟩ | ⟨hk, e⟩
  · rw [e]
    have h2 := h l on tg lf rt (by rw [gc_fet, if_neg (by omega), List.append_nil]) hH
    rw [gc_rg, if_neg (by omega)] at h2
    exact And.intro vv (br_f (nI_pos (by omega)) (And.intro vv h2))
  · rw [e]
    refine And.intro vv (br_t gb_neg1 (gx_write (o := 12) (t := s) hl (by omega) (by omega) hH (fun on' tg' lf' rt' hH' => ?_)))
    have h2 := h _ on' tg' lf' rt' (by rw [gc_fet, if_pos hk]) hH'
    rw [gc_rg, if_pos hk] at h2
    exact h2
theorem gx_ca131 {post : SX → Prop} {a t : Nat} (hK : gc_Co co K) (ha : a < 8) (ht : t < 8) (hl : l.length < 224) (hH : gc_Ho on tg lf rt l) (hto : K a = 3 → t = 5)
    (h : ∀ (l' : List gc_Q) (on tg lf rt : Nat → Int32), l' = l ++ gc_kp K a → gc_Ho on tg lf rt l' → post (xl, xm, nI l'.length, xp, xf, xo, xn, xc, op, fa, fb, fc, sv, li, ri, co, rm, on, tg, lf, rt, en, re, cl, pv)) : wX_compileAssignment_131 post (nI a) (nI t) xl xm (nI l.length) xp xf xo xn xc op fa fb fc sv li ri co rm on tg lf rt en re cl pv := by
  have c : (nI a).toNatClampNeg = a := nI_clamp (by omega)
  have vv : vp_in (nI a) 8 := vp_in_nI (by omega) (by omega)
  unfold wX_compileAssignment_131
  rw [c]
  rcases hK a ha with ⟨hk, e⟩ | ⟨hk, e⟩
  · rw [e]
    exact And.intro vv (br_t (nI_pos' (by omega)) (h l on tg lf rt (by rw [gc_kp, if_neg (by omega), List.append_nil]) hH))
  · rw [e, hto hk]
    exact And.intro vv (br_f (by decide) (gx_write (o := 13) (t := 5) hl (by omega) (by omega) hH (fun on' tg' lf' rt' hH' => h _ on' tg' lf' rt' (by rw [gc_kp, if_pos hk]) hH')))
theorem gc_rg8 {v s : Nat} (hK : gc_Co co K) (hv : v < 8) (hs : s < 8) : gc_rg K v s < 8 := by
  unfold gc_rg
  rcases hK v hv with ⟨hk, _⟩ | ⟨hk, _⟩
  · rw [if_neg (by omega)]; omega
  · rw [if_pos hk]; exact hs
theorem gc_rg3 {v s : Nat} (h : K v = 3) : gc_rg K v s = s := by
  unfold gc_rg
  rw [if_pos h]
theorem gx_ca46 {post : SX → Prop} {i : Nat} (hS : gc_Src L O A B C op fa fb fc ya yc) (hi : i < L) (ho : O i ≤ 5) (hK : gc_Co co K) (hl : l.length + 4 < 224) (hH : gc_Ho on tg lf rt l)
    (h : ∀ (l' : List gc_Q) (on tg lf rt : Nat → Int32), l' = l ++ gc_asg K (O i) (A i) (B i) (C i) (fb i) → gc_Ho on tg lf rt l' → post (nI L, xm, nI l'.length, xp, xf, xo, xn, xc, op, fa, fb, fc, sv, li, ri, co, rm, on, tg, lf, rt, en, re, cl, pv)) :
    wX_compileAssignment_46 post (nI i) (nI (O i)) (nI (A i)) (nI (gc_rg K (A i) 5)) (nI L) xm (nI l.length) xp xf xo xn xc op fa fb fc sv li ri co rm on tg lf rt en re cl pv := by
  obtain ⟨a0, a1, a2, a3, a4, a5, a6, a7⟩ := hS.2 i hi
  have hL := hS.1
  have ci : (nI i).toNatClampNeg = i := nI_clamp (by omega)
  have vi : vp_in (nI i) 32 := vp_in_nI (by omega) (by omega)
  have ha : A i < 8 := a3 (by omega) (by omega)
  have ht : gc_rg K (A i) 5 < 8 := gc_rg8 hK ha (by omega)
  unfold wX_compileAssignment_46
  rw [ci]
  refine pk_eq (O i) 0 (fun e0 => And.intro vi ?_) (fun e0 => And.intro vi ?_)
  · refine gx_write (o := 0) (t := gc_rg K (A i) 5) (by omega) (by omega) (by omega) hH (fun on' tg' lf' rt' hH' => ?_)
    refine gx_ca131 hK ha ht (by rw [List.length_append, List.length_cons, List.length_nil]; omega) hH' (fun z => gc_rg3 z) (fun l' on2 tg2 lf2 rt2 e2 hH2 => h l' on2 tg2 lf2 rt2 ?_ hH2)
    rw [e2, gc_asg, if_pos e0, List.append_assoc]
  obtain ⟨eb, hb⟩ := a4 (by omega) (by omega)
  rw [eb]
  have f1 := gc_fet1 K (B i) 3
  have f2 := gc_fet1 K (C i) 4
  refine gx_fetched (s := 3) hK hb (by omega) (by omega) hH (fun l1 on1 tg1 lf1 rt1 e1 hH1 => ?_)
  have n1 : l1.length ≤ l.length + 1 := by rw [e1, List.length_append]; omega
  dsimp only
  refine pk_eq (O i) 1 (fun e => ?_) (fun e => And.intro vi ?_)
  · refine pk_eq (gc_rg K (B i) 3) (gc_rg K (A i) 5) (fun er => ?_) (fun er => ?_) rfl rfl (by have := gc_rg8 (s := 3) hK hb (by omega); omega) (by omega)
    · refine gx_ca131 hK ha ht (by omega) hH1 (fun z => gc_rg3 z) (fun l' on2 tg2 lf2 rt2 e2 hH2 => h l' on2 tg2 lf2 rt2 ?_ hH2)
      rw [e2, e1, gc_asg, if_neg e0, if_pos e, if_pos er, List.append_nil, List.append_assoc]
    · refine gx_write (o := 1) (t := gc_rg K (A i) 5) (by omega) (by omega) (by omega) hH1 (fun on' tg' lf' rt' hH' => ?_)
      refine gx_ca131 hK ha ht (by rw [List.length_append, List.length_cons, List.length_nil]; omega) hH' (fun z => gc_rg3 z) (fun l' on2 tg2 lf2 rt2 e2 hH2 => h l' on2 tg2 lf2 rt2 ?_ hH2)
      rw [e2, e1, gc_asg, if_neg e0, if_pos e, if_neg er, List.append_assoc, List.append_assoc, List.append_assoc]
  · obtain ⟨ec, _, hc⟩ := a5 (by omega) (by omega)
    rw [ec]
    refine gx_fetched (s := 4) hK hc (by omega) (by omega) hH1 (fun l2 on2 tg2 lf2 rt2 e2 hH2 => ?_)
    have n2 : l2.length ≤ l1.length + 1 := by rw [e2, List.length_append]; omega
    dsimp only
    refine gx_write (o := O i) (t := gc_rg K (A i) 5) (by omega) (by omega) (by omega) hH2 (fun on' tg' lf' rt' hH' => ?_)
    refine gx_ca131 hK ha ht (by rw [List.length_append, List.length_cons, List.length_nil]; omega) hH' (fun z => gc_rg3 z) (fun l' on3 tg3 lf3 rt3 e3 hH3 => h l' on3 tg3 lf3 rt3 ?_ hH3)
    rw [e3, e2, e1, gc_asg, if_neg e0, if_neg e]
    simp only [List.append_assoc]
theorem gx_ca {post : SX → Prop} {i : Nat} (hS : gc_Src L O A B C op fa fb fc ya yc) (hli : ∀ i, i < L → ∀ v, bt (li i) v = true ↔ gc_Lv L O A B C v i) (hi : i < L) (ho : O i ≤ 5) (hK : gc_Co co K) (hl : l.length + 4 < 224) (hH : gc_Ho on tg lf rt l)
    (h : ∀ (l' : List gc_Q) (on tg lf rt : Nat → Int32), l' = l ++ gc_bdy K (gc_dd L O A B C i) (O i) (A i) (B i) (C i) (fb i) → gc_Ho on tg lf rt l' → post (nI L, xm, nI l'.length, xp, xf, xo, xn, xc, op, fa, fb, fc, sv, li, ri, co, rm, on, tg, lf, rt, en, re, cl, pv)) :
    wpX_compileAssignment post (nI L, xm, nI l.length, xp, xf, xo, xn, xc, op, fa, fb, fc, sv, li, ri, co, rm, on, tg, lf, rt, en, re, cl, pv) (nI i) := by
  obtain ⟨a0, a1, a2, a3, a4, a5, a6, a7⟩ := hS.2 i hi
  have hL := hS.1
  have ci : (nI i).toNatClampNeg = i := nI_clamp (by omega)
  have vi : vp_in (nI i) 32 := vp_in_nI (by omega) (by omega)
  have ha : A i < 8 := a3 (by omega) (by omega)
  have ca : (nI (A i)).toNatClampNeg = A i := nI_clamp (by omega)
  have va : vp_in (nI (A i)) 8 := vp_in_nI (by omega) (by omega)
  unfold wpX_compileAssignment
  dsimp only
  rw [ci, a0, (a2 (by omega)).1]
  refine And.intro vi (nm_e (And.intro vi (nm_e (gx_liveAfter hS hi (fun r hr => ?_)))))
  have hr' : bt r (A i) = true ↔ gc_Af L O A B C (A i) i := by
    rw [hr]
    constructor
    · rintro ⟨j, x, y, z⟩
      exact ⟨j, x, y, (hli j x _).mp z⟩
    · rintro ⟨j, x, y, z⟩
      exact ⟨j, x, y, (hli j x _).mpr z⟩
  refine gb_br (A i) (by omega) (fun hz => ?_) (fun hz => And.intro va ?_)
  · refine h l on tg lf rt ?_ hH
    rw [gc_bdy, if_pos ho, if_neg (fun z => hz (hr'.mpr (gc_ddT.mp z))), List.append_nil]
  · have hd : gc_dd L O A B C i = true := gc_ddT.mpr (hr'.mp hz)
    rw [gc_bdy, if_pos ho, if_pos hd] at h
    have h46 := gx_ca46 hS hi ho hK hl hH h
    rw [ca]
    rcases hK (A i) ha with ⟨hk, e⟩ | ⟨hk, e⟩
    · rw [gc_rg, if_neg (by omega)] at h46
      rw [e]
      exact br_f (nI_pos (by omega)) (And.intro va h46)
    · rw [gc_rg, if_pos hk] at h46
      rw [e]
      exact br_t gb_neg1 h46
theorem gx_c1 {post : SX → Prop} {i : Nat} (hS : gc_Src L O A B C op fa fb fc ya yc) (hli : ∀ i, i < L → ∀ v, bt (li i) v = true ↔ gc_Lv L O A B C v i) (hi : i < L) (hK : gc_Co co K) (hl : l.length + 4 < 224) (hH : gc_Ho on tg lf rt l)
    (h : ∀ (l' : List gc_Q) (on tg lf rt : Nat → Int32), l' = l ++ gc_bdy K (gc_dd L O A B C i) (O i) (A i) (B i) (C i) (fb i) → gc_Ho on tg lf rt l' → post (nI L, xm, nI l'.length, xp, xf, xo, xn, xc, op, fa, fb, fc, sv, li, ri, co, rm, on, tg, lf, rt, en, re, cl, pv)) :
    wpX_compileOne post (nI L, xm, nI l.length, xp, xf, xo, xn, xc, op, fa, fb, fc, sv, li, ri, co, rm, on, tg, lf, rt, en, re, cl, pv) (nI i) := by
  obtain ⟨a0, a1, a2, a3, a4, a5, a6, a7⟩ := hS.2 i hi
  have hL := hS.1
  have ci : (nI i).toNatClampNeg = i := nI_clamp (by omega)
  have vi : vp_in (nI i) 32 := vp_in_nI (by omega) (by omega)
  unfold wpX_compileOne
  dsimp only
  rw [ci, a0]
  refine And.intro vi (nm_e (And.intro vi (nm_e ?_)))
  refine pk_lt 5 (O i) (fun h5 => ?_) (fun h5 => gx_ca hS hli hi h5 hK hl hH h)
  refine pk_eq (O i) 7 (fun e7 => ?_) (fun e7 => ?_)
  · rw [(a2 (by omega)).1]
    refine gx_write (o := 7) (t := 0) (by omega) (by omega) (by omega) hH (fun on' tg' lf' rt' hH' => h _ on' tg' lf' rt' ?_ hH')
    rw [gc_bdy, if_neg (by omega), if_pos e7]
  refine pk_eq (O i) 10 (fun e10 => ?_) (fun e10 => ?_)
  · refine gx_write (o := 10) (t := 0) (by omega) (by omega) (by omega) hH (fun on' tg' lf' rt' hH' => h _ on' tg' lf' rt' ?_ hH')
    rw [gc_bdy, if_neg (by omega), if_neg e7, if_pos e10]
  have ha : A i < 8 := a3 (by omega) (by omega)
  rw [(a2 (by omega)).1]
  have f1 := gc_fet1 K (A i) 3
  refine gx_fetched (s := 3) hK ha (by omega) (by omega) hH (fun l1 on1 tg1 lf1 rt1 e1 hH1 => ?_)
  have n1 : l1.length ≤ l.length + 1 := by rw [e1, List.length_append]; omega
  have ht : gc_rg K (A i) 3 < 8 := gc_rg8 hK ha (by omega)
  dsimp only
  refine pk_eq (O i) 6 (fun e6 => ?_) (fun e6 => ?_)
  · refine gx_write (o := 6) (t := gc_rg K (A i) 3) (by omega) (by omega) (by omega) hH1 (fun on' tg' lf' rt' hH' => h _ on' tg' lf' rt' ?_ hH')
    rw [gc_bdy, if_neg (by omega), if_neg e7, if_neg e10, if_pos e6, e1, List.append_assoc]
  refine pk_eq (O i) 8 (fun e8 => And.intro vi ?_) (fun e8 => And.intro vi (And.intro vi ?_))
  · rw [(a6 (by omega)).1]
    refine gx_write (o := 8) (t := gc_rg K (A i) 3) (by omega) (by omega) (by omega) hH1 (fun on' tg' lf' rt' hH' => h _ on' tg' lf' rt' ?_ hH')
    rw [gc_bdy, if_neg (by omega), if_neg e7, if_neg e10, if_neg e6, if_pos e8, e1, List.append_assoc]
  · rw [(a6 (by omega)).1, (a7 (by omega)).1]
    refine gx_write (o := 9) (t := gc_rg K (A i) 3) (by omega) (by omega) (by omega) hH1 (fun on' tg' lf' rt' hH' => h _ on' tg' lf' rt' ?_ hH')
    rw [gc_bdy, if_neg (by omega), if_neg e7, if_neg e10, if_neg e6, if_neg e8, e1, List.append_assoc]
end
end
section
/-! compile as a whole -/
def gc_Itf (L : Nat) (O A B C : Nat → Nat) (K : Nat → Nat) : Prop :=
  (∀ v u, v < 8 → u < 8 → v ≠ u → gc_Lv L O A B C v 0 → gc_Lv L O A B C u 0 → K v < 3 → K u < 3 → K v ≠ K u) ∧
  (∀ i v u, i < L → v < 8 → u < 8 → v ≠ u → gc_wr O A i v → gc_Af L O A B C u i → K v < 3 → K u < 3 → K v ≠ K u)
noncomputable def gc_code (L : Nat) (O A B C : Nat → Nat) (fb : Nat → Int32) (K : Nat → Nat) (i : Nat) : List gc_Q := gc_all K (gc_dd L O A B C) O A B C fb i
def gc_Tgt (L : Nat) (O A B C : Nat → Nat) (fb : Nat → Int32) (K : Nat → Nat) (on tg lf rt en : Nat → Int32) : Prop :=
  gc_Ho on tg lf rt (gc_code L O A B C fb K L ++ [(nI 10, nI 0, 0, 0)]) ∧ ∀ j, j < 36 → en j = nI (gc_code L O A B C fb K (min j L)).length
def gc_Cmp (L : Nat) (O A B C : Nat → Nat) (fb li co on tg lf rt en : Nat → Int32) : Prop :=
  (∀ i, i < L → ∀ v, bt (li i) v = true ↔ gc_Lv L O A B C v i) ∧ ∃ K : Nat → Nat, gc_Co co K ∧ gc_Itf L O A B C K ∧ gc_Tgt L O A B C fb K on tg lf rt en
section
variable {L : Nat} {O A B C : Nat → Nat} {K : Nat → Nat} {xl xm xe xp xf xo xn xc : Int32} {op fa fb fc sv li ri co rm on tg lf rt en re cl pv ya yc : Nat → Int32}
theorem gc_code5 (i : Nat) : (gc_code L O A B C fb K i).length ≤ 5 * i := gc_all5 _ _ _ _ _ _ _ i
theorem gx_c76 {post : SX → Prop} (hL : L ≤ 32) (hH : gc_Ho on tg lf rt (gc_code L O A B C fb K L))
    (h : ∀ (xe : Int32) (on tg lf rt en : Nat → Int32), gc_Tgt L O A B C fb K on tg lf rt en → post (nI L, xm, xe, xp, xf, xo, xn, xc, op, fa, fb, fc, sv, li, ri, co, rm, on, tg, lf, rt, en, re, cl, pv)) :
    ∀ (n j : Nat) (en : Nat → Int32), 36 < n + j → j ≤ 36 → L ≤ j → (∀ k, k < j → en k = nI (gc_code L O A B C fb K (min k L)).length) →
      wX_compile_76 post (nI L) xm (nI (gc_code L O A B C fb K L).length) xp xf xo xn xc n (nI j) op fa fb fc sv li ri co rm on tg lf rt en re cl pv := by
  have h5 := gc_code5 (L := L) (O := O) (A := A) (B := B) (C := C) (K := K) (fb := fb) L
  intro n
  induction n with
  | zero => intro j en h1 h2; omega
  | succ n ih =>
    intro j en hn hj hLj he
    rw [wX_compile_76]
    dsimp only
    have cj : (nI j).toNatClampNeg = j := nI_clamp (by omega)
    refine pk_le 36 j (fun hle => ?_) (fun hlt => And.intro (vp_in_nI hlt (by omega)) (nm_r (e' := upd en j (nI (gc_code L O A B C fb K L).length)) ?_ (nm_r (nI_1 j) (ih (j + 1) _ (by omega) (by omega) (by omega) (fun k hk => ?_)))))
    · exact gx_write (o := 10) (t := 0) (by omega) (by omega) (by omega) hH (fun on' tg' lf' rt' hH' => h _ on' tg' lf' rt' en ⟨hH', fun k hk => he k (by omega)⟩)
    · rw [cj, gb_i16 _ (by omega)]
    · by_cases e : k = j
      · rw [e, pk_us, Nat.min_eq_right hLj]
      · rw [pk_un e]; exact he k (by omega)
theorem gx_c32 {post : SX → Prop} (hS : gc_Src L O A B C op fa fb fc ya yc) (hli : ∀ i, i < L → ∀ v, bt (li i) v = true ↔ gc_Lv L O A B C v i) (hK : gc_Co co K)
    (h : ∀ (xe : Int32) (on tg lf rt en : Nat → Int32), gc_Tgt L O A B C fb K on tg lf rt en → post (nI L, xm, xe, xp, xf, xo, xn, xc, op, fa, fb, fc, sv, li, ri, co, rm, on, tg, lf, rt, en, re, cl, pv)) :
    ∀ (n i : Nat) (on tg lf rt en : Nat → Int32), L < n + i → i ≤ L → gc_Ho on tg lf rt (gc_code L O A B C fb K i) → (∀ k, k < i → en k = nI (gc_code L O A B C fb K k).length) →
      wX_compile_32 post n (nI i) (nI L) xm (nI (gc_code L O A B C fb K i).length) xp xf xo xn xc op fa fb fc sv li ri co rm on tg lf rt en re cl pv := by
  have hL := hS.1
  intro n
  induction n with
  | zero => intro i on tg lf rt en h1 h2; omega
  | succ n ih =>
    intro i on tg lf rt en hn hi hH he
    have h5 := gc_code5 (L := L) (O := O) (A := A) (B := B) (C := C) (K := K) (fb := fb) i
    rw [wX_compile_32]
    dsimp only
    have cj : (nI i).toNatClampNeg = i := nI_clamp (by omega)
    refine pk_le L i (fun hle => ?_) (fun hlt => And.intro (vp_in_nI (by omega) (by omega)) (nm_r (e' := upd en i (nI (gc_code L O A B C fb K i).length)) ?_ ?_))
    · have hiL : i = L := by omega
      rw [hiL] at hH he ⊢
      exact ⟨37, gx_c76 hL hH h 37 L en (by omega) (by omega) (Nat.le_refl _) (fun k hk => by rw [Nat.min_eq_left (by omega)]; exact he k hk)⟩
    · rw [cj, gb_i16 _ (by omega)]
    refine gx_write (o := 11) (t := 0) (by omega) (by omega) (by omega) hH (fun on1 tg1 lf1 rt1 hH1 => ?_)
    dsimp only
    refine gx_c1 hS hli hlt hK (by rw [List.length_append, List.length_cons, List.length_nil]; omega) hH1 (fun l' on2 tg2 lf2 rt2 e2 hH2 => ?_)
    have e3 : l' = gc_code L O A B C fb K (i + 1) := by
      rw [e2, gc_code, gc_code, gc_all, gc_cg, List.append_assoc]
      rfl
    rw [e3] at hH2 ⊢
    dsimp only
    refine nm_r (nI_1 i) (ih (i + 1) on2 tg2 lf2 rt2 _ (by omega) (by omega) hH2 (fun k hk => ?_))
    by_cases e : k = i
    · rw [e, pk_us]
    · rw [pk_un e]; exact he k (by omega)
theorem gc_itf {ri : Nat → Int32} (hq : gc_RQ L O A B C ri L) (hd : gc_Df ri K) : gc_Itf L O A B C K :=
  ⟨fun v u hv hu hne h1 h2 => hd v u hv hu hne (hq.1 v u hv hu hne h1 h2), fun i v u hi hv hu hne h1 h2 => hd v u hv hu hne (hq.2 i v u hi hv hu hne h1 h2)⟩
theorem gx_compile {post : SX → Prop} (hS : gc_Src L O A B C op fa fb fc ya yc) (hC : ¬ xm = 0 → gc_Cmp L O A B C fb li co on tg lf rt en)
    (h : ∀ (xm xe : Int32) (li ri co rm on tg lf rt en : Nat → Int32), ¬ xm = 0 → gc_Cmp L O A B C fb li co on tg lf rt en → post (nI L, xm, xe, xp, xf, xo, xn, xc, op, fa, fb, fc, sv, li, ri, co, rm, on, tg, lf, rt, en, re, cl, pv)) : wpX_compile post (nI L, xm, xe, xp, xf, xo, xn, xc, op, fa, fb, fc, sv, li, ri, co, rm, on, tg, lf, rt, en, re, cl, pv) := by
  unfold wpX_compile
  dsimp only
  refine br_c (fun e => ?_) (fun e => h xm xe li ri co rm on tg lf rt en e (hC e))
  refine gx_findLiveness hS (fun li hli => ?_)
  dsimp only
  refine gx_findRivals hS hli (fun ri hq => ?_)
  dsimp only
  refine gx_colourVariables (fun co rm K hK hd => ?_)
  dsimp only
  exact ⟨L + 1, gx_c32 hS hli hK (fun xe on tg lf rt en ht => h 1 xe li ri co rm on tg lf rt en (by decide) ⟨hli, K, hK, gc_itf hq hd, ht⟩) (L + 1) 0 on tg lf rt en (by omega) (by omega) (fun k q hk => by exact nomatch hk) (fun k hk => by omega)⟩
end
end
section
/-! one instruction, as the reference does it -/
def gc_val (o : Nat) (imm p q : Int32) : Int32 := if o = 0 then imm else if o = 1 then p else if o = 2 then p + q else if o = 3 then p - q else if o = 4 then p * q else if q ≤ p then 0 else 1
def gc_vr (O A B C : Nat → Nat) (fb : Nat → Int32) (i : Nat) (yv : Nat → Int32) : Nat → Int32 := if O i ≤ 5 then upd yv (A i) (gc_val (O i) (fb i) (yv (B i)) (yv (C i))) else yv
def gc_pr (O : Nat → Nat) (i p : Nat) : Nat := if O i = 6 then p + 1 else p
def gc_ou (O A : Nat → Nat) (i p : Nat) (yv yu : Nat → Int32) : Nat → Int32 := if O i = 6 ∧ p < 32 then upd yu p (yv (A i)) else yu
def gc_nx (O A B C : Nat → Nat) (i : Nat) (yv : Nat → Int32) : Option Nat :=
  if O i = 7 then some (A i) else if O i = 8 ∧ ¬ yv (A i) = 0 then some (B i) else if O i = 9 ∧ ¬ yv (A i) < 0 ∧ ¬ nI (C i) ≤ yv (A i) then some (B i + (yv (A i)).toNatClampNeg) else if O i = 10 then none else some (i + 1)
def gc_yi (o : Option Nat) : Int32 := match o with
  | none => -1
  | some j => nI j
section
variable {L : Nat} {O A B C : Nat → Nat} {yn yp ye : Int32} {op fa fb fc ya yc yg yv yu : Nat → Int32}
theorem gc_nx5 {i : Nat} (h : O i ≤ 5) : gc_nx O A B C i yv = some (i + 1) := by
  unfold gc_nx
  rw [if_neg (by omega), if_neg (by omega), if_neg (by omega), if_neg (by omega)]
theorem gc_sw {i : Nat} {x : Int32} (hc : C i ≤ 4) (h0 : ¬ x < 0) (h1 : ¬ nI (C i) ≤ x) : ∃ w, w < C i ∧ x = nI w := by
  obtain ⟨w, hw, e⟩ := nI_of h0
  refine ⟨w, ?_, e⟩
  rw [e, nI_leI (by omega) hw] at h1
  omega
theorem gc_nxf {i j : Nat} (hS : gc_Src L O A B C op fa fb fc ya yc) (hi : i < L) (h : gc_nx O A B C i yv = some j) : gc_fo O A B C i j := by
  obtain ⟨a0, a1, a2, a3, a4, a5, a6, a7⟩ := hS.2 i hi
  unfold gc_nx at h
  unfold gc_fo
  by_cases e7 : O i = 7
  · rw [if_pos e7] at h
    exact Or.inl ⟨e7, (Option.some.inj h).symm⟩
  rw [if_neg e7] at h
  by_cases e8 : O i = 8 ∧ ¬ yv (A i) = 0
  · rw [if_pos e8] at h
    exact Or.inr ⟨e7, by omega, Or.inr (Or.inl ⟨e8.1, (Option.some.inj h).symm⟩)⟩
  rw [if_neg e8] at h
  by_cases e9 : O i = 9 ∧ ¬ yv (A i) < 0 ∧ ¬ nI (C i) ≤ yv (A i)
  · rw [if_pos e9] at h
    have h9 := a7 e9.1
    obtain ⟨w, hw, ew⟩ := gc_sw (C := C) (i := i) (by omega) e9.2.1 e9.2.2
    rw [ew, nI_clamp (by omega)] at h
    have := Option.some.inj h
    exact Or.inr ⟨e7, by omega, Or.inr (Or.inr ⟨e9.1, by omega, by omega⟩)⟩
  rw [if_neg e9] at h
  by_cases e10 : O i = 10
  · rw [if_pos e10] at h
    exact nomatch h
  · rw [if_neg e10] at h
    exact Or.inr ⟨e7, e10, Or.inl (Option.some.inj h).symm⟩
theorem gy_c172 {post : SY → Prop} {i : Nat} {x2 x3 : Int32} (hS : gc_Src L O A B C op fa fb fc ya yc) (hi : i < L) (ho : O i ≤ 5)
    (h : 5 ≤ O i → post (yn, yp, ye, op, ya, fb, yc, yg, upd yv (A i) (gc_val (O i) (fb i) x2 x3), yu)) (h0 : O i < 5 → post (yn, yp, ye, op, ya, fb, yc, yg, yv, yu)) : wY_calculate_172 post (nI i) x2 x3 yn yp ye op ya fb yc yg yv yu := by
  obtain ⟨a0, a1, a2, a3, a4, a5, a6, a7⟩ := hS.2 i hi
  have hL := hS.1
  have ci : (nI i).toNatClampNeg = i := nI_clamp (by omega)
  have vi : vp_in (nI i) 32 := vp_in_nI (by omega) (by omega)
  have ha := a3 (by omega) (by omega)
  unfold wY_calculate_172
  rw [ci, a0, (a2 (by omega)).2.1, nI_clamp (by omega)]
  have va : vp_in (nI (A i)) 8 := vp_in_nI (by omega) (by omega)
  refine And.intro vi (pk_eq (O i) 5 (fun e => And.intro vi ?_) (fun e => h0 (by omega)))
  have h' := h (by omega)
  rw [gc_val, e, if_neg (by omega), if_neg (by omega), if_neg (by omega), if_neg (by omega), if_neg (by omega)] at h'
  refine br_c (fun z => And.intro va (nm_e ?_)) (fun z => And.intro va (nm_e ?_))
  · rw [if_pos z] at h'; exact h'
  · rw [if_neg z] at h'; exact h'
theorem gy_c148 {post : SY → Prop} {i : Nat} {x2 x3 : Int32} (hS : gc_Src L O A B C op fa fb fc ya yc) (hi : i < L) (ho : O i ≤ 5)
    (h : 4 ≤ O i → post (yn, yp, ye, op, ya, fb, yc, yg, upd yv (A i) (gc_val (O i) (fb i) x2 x3), yu)) (h0 : O i < 4 → post (yn, yp, ye, op, ya, fb, yc, yg, yv, yu)) : wY_calculate_148 post (nI i) x2 x3 yn yp ye op ya fb yc yg yv yu := by
  obtain ⟨a0, a1, a2, a3, a4, a5, a6, a7⟩ := hS.2 i hi
  have hL := hS.1
  have ci : (nI i).toNatClampNeg = i := nI_clamp (by omega)
  have vi : vp_in (nI i) 32 := vp_in_nI (by omega) (by omega)
  have ha := a3 (by omega) (by omega)
  unfold wY_calculate_148
  rw [ci, a0, (a2 (by omega)).2.1, nI_clamp (by omega)]
  have va : vp_in (nI (A i)) 8 := vp_in_nI (by omega) (by omega)
  refine And.intro vi (pk_eq (O i) 4 (fun e => And.intro vi (And.intro va (nm_e (gy_c172 hS hi ho (fun _ => by omega) (fun _ => ?_))))) (fun e => gy_c172 hS hi ho (fun _ => h (by omega)) (fun _ => h0 (by omega))))
  have h' := h (by omega)
  rw [gc_val, if_neg (by omega), if_neg (by omega), if_neg (by omega), if_neg (by omega), if_pos e] at h'
  exact h'
theorem gy_c124 {post : SY → Prop} {i : Nat} {x2 x3 : Int32} (hS : gc_Src L O A B C op fa fb fc ya yc) (hi : i < L) (ho : O i ≤ 5)
    (h : 3 ≤ O i → post (yn, yp, ye, op, ya, fb, yc, yg, upd yv (A i) (gc_val (O i) (fb i) x2 x3), yu)) (h0 : O i < 3 → post (yn, yp, ye, op, ya, fb, yc, yg, yv, yu)) : wY_calculate_124 post (nI i) x2 x3 yn yp ye op ya fb yc yg yv yu := by
  obtain ⟨a0, a1, a2, a3, a4, a5, a6, a7⟩ := hS.2 i hi
  have hL := hS.1
  have ci : (nI i).toNatClampNeg = i := nI_clamp (by omega)
  have vi : vp_in (nI i) 32 := vp_in_nI (by omega) (by omega)
  have ha := a3 (by omega) (by omega)
  unfold wY_calculate_124
  rw [ci, a0, (a2 (by omega)).2.1, nI_clamp (by omega)]
  have va : vp_in (nI (A i)) 8 := vp_in_nI (by omega) (by omega)
  refine And.intro vi (pk_eq (O i) 3 (fun e => And.intro vi (And.intro va (nm_e (gy_c148 hS hi ho (fun _ => by omega) (fun _ => ?_))))) (fun e => gy_c148 hS hi ho (fun _ => h (by omega)) (fun _ => h0 (by omega))))
  have h' := h (by omega)
  rw [gc_val, if_neg (by omega), if_neg (by omega), if_neg (by omega), if_pos e] at h'
  exact h'
theorem gy_c100 {post : SY → Prop} {i : Nat} {x2 x3 : Int32} (hS : gc_Src L O A B C op fa fb fc ya yc) (hi : i < L) (ho : O i ≤ 5)
    (h : 2 ≤ O i → post (yn, yp, ye, op, ya, fb, yc, yg, upd yv (A i) (gc_val (O i) (fb i) x2 x3), yu)) (h0 : O i < 2 → post (yn, yp, ye, op, ya, fb, yc, yg, yv, yu)) : wY_calculate_100 post (nI i) x2 x3 yn yp ye op ya fb yc yg yv yu := by
  obtain ⟨a0, a1, a2, a3, a4, a5, a6, a7⟩ := hS.2 i hi
  have hL := hS.1
  have ci : (nI i).toNatClampNeg = i := nI_clamp (by omega)
  have vi : vp_in (nI i) 32 := vp_in_nI (by omega) (by omega)
  have ha := a3 (by omega) (by omega)
  unfold wY_calculate_100
  rw [ci, a0, (a2 (by omega)).2.1, nI_clamp (by omega)]
  have va : vp_in (nI (A i)) 8 := vp_in_nI (by omega) (by omega)
  refine And.intro vi (pk_eq (O i) 2 (fun e => And.intro vi (And.intro va (nm_e (gy_c124 hS hi ho (fun _ => by omega) (fun _ => ?_))))) (fun e => gy_c124 hS hi ho (fun _ => h (by omega)) (fun _ => h0 (by omega))))
  have h' := h (by omega)
  rw [gc_val, if_neg (by omega), if_neg (by omega), if_pos e] at h'
  exact h'
theorem gy_c78 {post : SY → Prop} {i : Nat} {x2 x3 : Int32} (hS : gc_Src L O A B C op fa fb fc ya yc) (hi : i < L) (ho : O i ≤ 5)
    (h : 1 ≤ O i → post (yn, yp, ye, op, ya, fb, yc, yg, upd yv (A i) (gc_val (O i) (fb i) x2 x3), yu)) (h0 : O i < 1 → post (yn, yp, ye, op, ya, fb, yc, yg, yv, yu)) : wY_calculate_78 post (nI i) x2 x3 yn yp ye op ya fb yc yg yv yu := by
  obtain ⟨a0, a1, a2, a3, a4, a5, a6, a7⟩ := hS.2 i hi
  have hL := hS.1
  have ci : (nI i).toNatClampNeg = i := nI_clamp (by omega)
  have vi : vp_in (nI i) 32 := vp_in_nI (by omega) (by omega)
  have ha := a3 (by omega) (by omega)
  unfold wY_calculate_78
  rw [ci, a0, (a2 (by omega)).2.1, nI_clamp (by omega)]
  have va : vp_in (nI (A i)) 8 := vp_in_nI (by omega) (by omega)
  refine And.intro vi (pk_eq (O i) 1 (fun e => And.intro vi (And.intro va (nm_e (gy_c100 hS hi ho (fun _ => by omega) (fun _ => ?_))))) (fun e => gy_c100 hS hi ho (fun _ => h (by omega)) (fun _ => h0 (by omega))))
  have h' := h (by omega)
  rw [gc_val, if_neg (by omega), if_pos e] at h'
  exact h'
theorem gy_c51 {post : SY → Prop} {i : Nat} {x2 x3 : Int32} (hS : gc_Src L O A B C op fa fb fc ya yc) (hi : i < L) (ho : O i ≤ 5)
    (h : post (yn, yp, ye, op, ya, fb, yc, yg, upd yv (A i) (gc_val (O i) (fb i) x2 x3), yu)) : wY_calculate_51 post (nI i) x2 x3 yn yp ye op ya fb yc yg yv yu := by
  obtain ⟨a0, a1, a2, a3, a4, a5, a6, a7⟩ := hS.2 i hi
  have hL := hS.1
  have ci : (nI i).toNatClampNeg = i := nI_clamp (by omega)
  have vi : vp_in (nI i) 32 := vp_in_nI (by omega) (by omega)
  have ha := a3 (by omega) (by omega)
  unfold wY_calculate_51
  rw [ci, a0, (a2 (by omega)).2.1, nI_clamp (by omega)]
  have va : vp_in (nI (A i)) 8 := vp_in_nI (by omega) (by omega)
  refine And.intro vi (pk_eq (O i) 0 (fun e => And.intro vi (And.intro vi (And.intro va (nm_e (gy_c78 hS hi ho (fun _ => by omega) (fun _ => ?_)))))) (fun e => gy_c78 hS hi ho (fun _ => h) (fun _ => by omega)))
  rw [gc_val, if_pos e] at h
  exact h
theorem gc_val1 {o : Nat} {imm p q q' : Int32} (h : o < 2) : gc_val o imm p q = gc_val o imm p q' := by
  unfold gc_val
  by_cases e : o = 0
  · rw [if_pos e, if_pos e]
  · rw [if_neg e, if_neg e, if_pos (by omega), if_pos (by omega)]
theorem gc_val0 {o : Nat} {imm p p' q : Int32} (h : o < 1) : gc_val o imm p q = gc_val o imm p' q := by
  unfold gc_val
  rw [if_pos (by omega), if_pos (by omega)]
theorem gy_c25 {post : SY → Prop} {i : Nat} {x2 : Int32} (hS : gc_Src L O A B C op fa fb fc ya yc) (hi : i < L) (ho : O i ≤ 5)
    (h : post (yn, yp, ye, op, ya, fb, yc, yg, upd yv (A i) (gc_val (O i) (fb i) x2 (yv (C i))), yu)) : wY_calculate_25 post (nI i) x2 yn yp ye op ya fb yc yg yv yu := by
  obtain ⟨a0, a1, a2, a3, a4, a5, a6, a7⟩ := hS.2 i hi
  have hL := hS.1
  have ci : (nI i).toNatClampNeg = i := nI_clamp (by omega)
  have vi : vp_in (nI i) 32 := vp_in_nI (by omega) (by omega)
  unfold wY_calculate_25
  rw [ci, a0]
  refine And.intro vi (pk_lt (O i) 2 (fun e => gy_c51 hS hi ho ?_) (fun e => And.intro vi ?_))
  · rw [gc_val1 (q' := yv (C i)) e]; exact h
  · obtain ⟨_, ec, hc⟩ := a5 (by omega) (by omega)
    rw [ec, nI_clamp (by omega)]
    exact And.intro (vp_in_nI hc (by omega)) (gy_c51 hS hi ho h)
theorem gy_calculate {post : SY → Prop} {i : Nat} (hS : gc_Src L O A B C op fa fb fc ya yc) (hi : i < L) (ho : O i ≤ 5)
    (h : post (yn, yp, ye, op, ya, fb, yc, yg, upd yv (A i) (gc_val (O i) (fb i) (yv (B i)) (yv (C i))), yu)) : wpY_calculate post (yn, yp, ye, op, ya, fb, yc, yg, yv, yu) (nI i) := by
  obtain ⟨a0, a1, a2, a3, a4, a5, a6, a7⟩ := hS.2 i hi
  have hL := hS.1
  have ci : (nI i).toNatClampNeg = i := nI_clamp (by omega)
  have vi : vp_in (nI i) 32 := vp_in_nI (by omega) (by omega)
  unfold wpY_calculate
  dsimp only
  rw [ci, a0]
  refine And.intro vi (pk_lt (O i) 1 (fun e => gy_c25 hS hi ho ?_) (fun e => And.intro vi ?_))
  · rw [gc_val0 (p' := yv (B i)) e]; exact h
  · obtain ⟨eb, hb⟩ := a4 (by omega) (by omega)
    have h' := gy_c25 hS hi ho h
    rw [eb, nI_clamp (by omega)]
    exact And.intro (vp_in_nI hb (by omega)) h'
theorem gy_s179 {post : Int32 → SY → Prop} {i : Nat} (hS : gc_Src L O A B C op fa fb fc ya yc) (hi : i < L)
    (h : post (if O i = 10 then -1 else nI (i + 1)) (yn, yp, ye, op, ya, fb, yc, yg, yv, yu)) : wY_step_179 post (nI i) yn yp ye op ya fb yc yg yv yu := by
  obtain ⟨a0, a1, a2, a3, a4, a5, a6, a7⟩ := hS.2 i hi
  have hL := hS.1
  have ci : (nI i).toNatClampNeg = i := nI_clamp (by omega)
  have vi : vp_in (nI i) 32 := vp_in_nI (by omega) (by omega)
  unfold wY_step_179
  rw [ci, a0]
  refine And.intro vi (pk_eq (O i) 10 (fun e => ?_) (fun e => ?_))
  · rw [if_pos e] at h; exact h
  · rw [if_neg e] at h; rw [nI_1]; exact h
theorem gy_s115 {post : Int32 → SY → Prop} {i : Nat} (hS : gc_Src L O A B C op fa fb fc ya yc) (hi : i < L) (h7 : O i ≠ 7) (h8 : ¬ (O i = 8 ∧ ¬ yv (A i) = 0))
    (h : post (gc_yi (gc_nx O A B C i yv)) (yn, yp, ye, op, ya, fb, yc, yg, yv, yu)) : wY_step_115 post (nI i) yn yp ye op ya fb yc yg yv yu := by
  obtain ⟨a0, a1, a2, a3, a4, a5, a6, a7⟩ := hS.2 i hi
  have hL := hS.1
  have ci : (nI i).toNatClampNeg = i := nI_clamp (by omega)
  have vi : vp_in (nI i) 32 := vp_in_nI (by omega) (by omega)
  have fin : ¬ (O i = 9 ∧ ¬ yv (A i) < 0 ∧ ¬ nI (C i) ≤ yv (A i)) → wY_step_179 post (nI i) yn yp ye op ya fb yc yg yv yu := by
    intro hz
    rw [gc_nx, if_neg h7, if_neg h8, if_neg hz] at h
    refine gy_s179 hS hi ?_
    by_cases e : O i = 10
    · rw [if_pos e] at h ⊢; exact h
    · rw [if_neg e] at h ⊢; exact h
  unfold wY_step_115
  rw [ci, a0]
  refine And.intro vi (pk_eq (O i) 9 (fun e => And.intro vi ?_) (fun e => fin (fun z => e z.1)))
  have ha := a3 (by omega) (by omega)
  have hb := a6 (Or.inr e)
  have hc := a7 e
  rw [(a2 (by omega)).2.1, nI_clamp (by omega), hc.2.1, hb.1]
  have va : vp_in (nI (A i)) 8 := vp_in_nI (by omega) (by omega)
  refine And.intro va (br_c (fun z => fin (fun y => y.2.1 z)) (fun z => And.intro vi (And.intro va (And.intro vi (br_c (fun z2 => fin (fun y => y.2.2 z2)) (fun z2 => And.intro vi (And.intro vi (And.intro va ?_))))))))
  rw [gc_nx, if_neg h7, if_neg h8, if_pos ⟨e, z, z2⟩] at h
  obtain ⟨w, hw, ew⟩ := gc_sw (C := C) (i := i) (by omega) z z2
  rw [ew, nI_clamp (by omega)] at h
  rw [ew, nI_add]
  exact h
theorem gy_s65 {post : Int32 → SY → Prop} {i : Nat} (hS : gc_Src L O A B C op fa fb fc ya yc) (hi : i < L)
    (h : post (gc_yi (gc_nx O A B C i yv)) (yn, yp, ye, op, ya, fb, yc, yg, yv, yu)) : wY_step_65 post (nI i) yn yp ye op ya fb yc yg yv yu := by
  obtain ⟨a0, a1, a2, a3, a4, a5, a6, a7⟩ := hS.2 i hi
  have hL := hS.1
  have ci : (nI i).toNatClampNeg = i := nI_clamp (by omega)
  have vi : vp_in (nI i) 32 := vp_in_nI (by omega) (by omega)
  unfold wY_step_65
  rw [ci, a0]
  refine And.intro vi (pk_eq (O i) 7 (fun e => And.intro vi ?_) (fun e7 => And.intro vi (pk_eq (O i) 8 (fun e => And.intro vi ?_) (fun e8 => gy_s115 hS hi e7 (fun z => e8 z.1) h))))
  · rw [(a2 (by omega)).2.1]
    rw [gc_nx, if_pos e] at h
    exact h
  · have ha := a3 (by omega) (by omega)
    have hb := a6 (Or.inl e)
    rw [(a2 (by omega)).2.1, nI_clamp (by omega), hb.1]
    have va : vp_in (nI (A i)) 8 := vp_in_nI (by omega) (by omega)
    refine And.intro va (br_c (fun z => gy_s115 hS hi e7 (fun y => y.2 z) h) (fun z => And.intro vi ?_))
    rw [gc_nx, if_neg e7, if_pos ⟨e, z⟩] at h
    exact h
theorem gy_s15 {post : Int32 → SY → Prop} {i p : Nat} (hS : gc_Src L O A B C op fa fb fc ya yc) (hi : i < L) (hp : p < 1000)
    (h : post (gc_yi (gc_nx O A B C i yv)) (yn, nI (gc_pr O i p), ye, op, ya, fb, yc, yg, yv, gc_ou O A i p yv yu)) : wY_step_15 post (nI i) yn (nI p) ye op ya fb yc yg yv yu := by
  obtain ⟨a0, a1, a2, a3, a4, a5, a6, a7⟩ := hS.2 i hi
  have hL := hS.1
  have ci : (nI i).toNatClampNeg = i := nI_clamp (by omega)
  have vi : vp_in (nI i) 32 := vp_in_nI (by omega) (by omega)
  unfold wY_step_15
  rw [ci, a0]
  refine And.intro vi (pk_eq (O i) 6 (fun e => ?_) (fun e => ?_))
  · rw [gc_pr, if_pos e] at h
    refine pk_le 32 p (fun z => ?_) (fun z => And.intro vi ?_)
    · rw [gc_ou, if_neg (by omega)] at h
      unfold wY_step_55
      exact nm_r (nI_1 p) (gy_s65 hS hi h)
    · rw [gc_ou, if_pos ⟨e, z⟩] at h
      have ha := a3 (by omega) (by omega)
      rw [(a2 (by omega)).2.1, nI_clamp (by omega), nI_clamp (by omega)]
      refine And.intro (vp_in_nI ha (by omega)) (And.intro (vp_in_nI z (by omega)) (nm_e ?_))
      unfold wY_step_55
      exact nm_r (nI_1 p) (gy_s65 hS hi h)
  · rw [gc_pr, if_neg e, gc_ou, if_neg (fun z => e z.1)] at h
    exact gy_s65 hS hi h
theorem gy_step {post : Int32 → SY → Prop} {i p : Nat} (hS : gc_Src L O A B C op fa fb fc ya yc) (hi : i < L) (hp : p < 1000)
    (h : post (gc_yi (gc_nx O A B C i yv)) (yn, nI (gc_pr O i p), ye, op, ya, fb, yc, yg, gc_vr O A B C fb i yv, gc_ou O A i p yv yu)) : wpY_step post (yn, nI p, ye, op, ya, fb, yc, yg, yv, yu) (nI i) := by
  obtain ⟨a0, a1, a2, a3, a4, a5, a6, a7⟩ := hS.2 i hi
  have hL := hS.1
  have ci : (nI i).toNatClampNeg = i := nI_clamp (by omega)
  have vi : vp_in (nI i) 32 := vp_in_nI (by omega) (by omega)
  unfold wpY_step
  dsimp only
  rw [ci, a0]
  refine And.intro vi (pk_lt 5 (O i) (fun e => ?_) (fun e => ?_))
  · rw [gc_vr, if_neg (by omega)] at h
    exact gy_s15 hS hi hp h
  · rw [gc_vr, if_pos e, gc_nx5 e, gc_ou, if_neg (by omega)] at h
    refine gy_calculate hS hi e (gy_s15 hS hi hp ?_)
    rw [gc_nx5 e, gc_ou, if_neg (by omega)]
    exact h
/-! the reference's run, a turn at a time -/
theorem gy_rT {q : Int32 → SY → Prop} {M n i k p x : Nat} (hS : gc_Src L O A B C op fa fb fc ya yc) (hi : i < L) (hp : p < 1000) (hk : k < M) (hM : M ≤ 250)
    (h : wY_run_64 q (nI M) n (gc_yi (gc_nx O A B C i yv)) (nI (k + 1)) (nI L) (nI (gc_pr O i p)) (nI (x + 1)) op ya fb yc yg (gc_vr O A B C fb i yv) (gc_ou O A i p yv yu)) :
    wY_run_64 q (nI M) (n + 1) (nI i) (nI k) (nI L) (nI p) (nI x) op ya fb yc yg yv yu := by
  have hL := hS.1
  rw [wY_run_64]
  dsimp only
  refine br_f (nI_ge hk (by omega)) ?_
  unfold wpY_isInstruction
  refine br_f (nI_pos (by omega)) (br_f (nI_ge hi (by omega)) (br_f (by decide) ?_))
  refine gy_step hS hi hp ?_
  dsimp only
  exact nm_r (nI_1 x) (nm_r (nI_1 k) h)
theorem gy_rE {q : Int32 → SY → Prop} {M : Nat} {k a : Int32} (ha : a < 0 ∨ nI L ≤ a) (h : q 1 (nI L, yp, ye, op, ya, fb, yc, yg, yv, yu)) : wY_run_64 q (nI M) 1 a k (nI L) yp ye op ya fb yc yg yv yu := by
  rw [wY_run_64]
  dsimp only
  have h1 : wY_run_100 q a (nI L) yp ye op ya fb yc yg yv yu := by
    unfold wY_run_100 wpY_isInstruction
    exact br_c (fun _ => br_t rfl h) (fun hn => br_t (ha.resolve_left hn) (br_t rfl h))
  refine br_c (fun _ => h1) (fun _ => ?_)
  unfold wpY_isInstruction
  exact br_c (fun _ => br_t rfl h1) (fun hn => br_t (ha.resolve_left hn) (br_t rfl h1))
theorem gy_rF {q : Int32 → SY → Prop} {M i : Nat} (hi : i < L) (hL : L ≤ 32) (h : q 2 (nI L, yp, ye, op, ya, fb, yc, yg, yv, yu)) : wY_run_64 q (nI M) 1 (nI i) (nI M) (nI L) yp ye op ya fb yc yg yv yu := by
  rw [wY_run_64]
  dsimp only
  refine br_t (Int32.le_refl _) ?_
  unfold wY_run_100 wpY_isInstruction
  exact br_f (nI_pos (by omega)) (br_f (nI_ge hi (by omega)) (br_f (by decide) h))
end
end
section
/-! the target machine, one step -/
section
variable {L : Nat} {O A B C : Nat → Nat} {xl xm xe xp xf xo xn xc : Int32} {op fa fb fc sv li ri co rm on tg lf rt en re cl pv ya yc : Nat → Int32}
theorem ge_tick0 {post : SX → Prop} {p : Nat} (hp : p < 224) (h1 : on p = nI 11) (h : post (xl, xm, xe, nI (p + 1), 0, 2, xn, xc, op, fa, fb, fc, sv, li, ri, co, rm, on, tg, lf, rt, en, re, cl, pv)) : wpX_execute post (xl, xm, xe, nI p, 0, xo, xn, xc, op, fa, fb, fc, sv, li, ri, co, rm, on, tg, lf, rt, en, re, cl, pv) := by
  have c : (nI p).toNatClampNeg = p := nI_clamp (by omega)
  have v : vp_in (nI p) 224 := vp_in_nI (by omega) (by omega)
  unfold wpX_execute
  dsimp only
  rw [c, h1]
  refine And.intro v (nm_e (And.intro v (nm_e (And.intro v (nm_e (nm_r (nI_1 p) (br_t (by decide) ?_)))))))
  unfold wpX_tick
  exact br_t rfl h
theorem ge_tick {post : SX → Prop} {p f x : Nat} (hp : p < 224) (h1 : on p = nI 11) (hf : f < 1000) (h : post (xl, xm, xe, nI (p + 1), nI f, xo, nI (x + 1), xc, op, fa, fb, fc, sv, li, ri, co, rm, on, tg, lf, rt, en, re, cl, pv)) : wpX_execute post (xl, xm, xe, nI p, nI (f + 1), xo, nI x, xc, op, fa, fb, fc, sv, li, ri, co, rm, on, tg, lf, rt, en, re, cl, pv) := by
  have c : (nI p).toNatClampNeg = p := nI_clamp (by omega)
  have v : vp_in (nI p) 224 := vp_in_nI (by omega) (by omega)
  unfold wpX_execute
  dsimp only
  rw [c, h1]
  refine And.intro v (nm_e (And.intro v (nm_e (And.intro v (nm_e (nm_r (nI_1 p) (br_t (by decide) ?_)))))))
  unfold wpX_tick
  exact br_f (nI_ne0 (by omega) (by omega)) (nm_r (nI_pred f) (nm_r (nI_1 x) h))
theorem ge_num {post : SX → Prop} {p t : Nat} {y : Int32} (hp : p < 224) (h1 : on p = nI 0) (h2 : tg p = nI t) (h3 : lf p = y) (ht : t < 6) (h : post (xl, xm, xe, nI (p + 1), xf, xo, xn, xc, op, fa, fb, fc, sv, li, ri, co, rm, on, tg, lf, rt, en, upd re t y, cl, pv)) : wpX_execute post (xl, xm, xe, nI p, xf, xo, xn, xc, op, fa, fb, fc, sv, li, ri, co, rm, on, tg, lf, rt, en, re, cl, pv) := by
  have c : (nI p).toNatClampNeg = p := nI_clamp (by omega)
  have v : vp_in (nI p) 224 := vp_in_nI (by omega) (by omega)
  have ct : (nI t).toNatClampNeg = t := nI_clamp (by omega)
  have vt : vp_in (nI t) 6 := vp_in_nI (by omega) (by omega)
  unfold wpX_execute
  dsimp only
  rw [c, h1, h2, h3]
  refine And.intro v (nm_e (And.intro v (nm_e (And.intro v (nm_e (nm_r (nI_1 p) (br_f (by decide) (br_t (by decide) (And.intro vt (nm_r (e' := upd re t y) (by rw [ct]) h))))))))))
theorem ge_copy {post : SX → Prop} {p t s : Nat} (hp : p < 224) (h1 : on p = nI 1) (h2 : tg p = nI t) (h3 : lf p = nI s) (ht : t < 6) (hs : s < 6) (h : post (xl, xm, xe, nI (p + 1), xf, xo, xn, xc, op, fa, fb, fc, sv, li, ri, co, rm, on, tg, lf, rt, en, upd re t (re s), cl, pv)) : wpX_execute post (xl, xm, xe, nI p, xf, xo, xn, xc, op, fa, fb, fc, sv, li, ri, co, rm, on, tg, lf, rt, en, re, cl, pv) := by
  have c : (nI p).toNatClampNeg = p := nI_clamp (by omega)
  have v : vp_in (nI p) 224 := vp_in_nI (by omega) (by omega)
  have ct : (nI t).toNatClampNeg = t := nI_clamp (by omega)
  have vt : vp_in (nI t) 6 := vp_in_nI (by omega) (by omega)
  have cs : (nI s).toNatClampNeg = s := nI_clamp (by omega)
  have vs : vp_in (nI s) 6 := vp_in_nI (by omega) (by omega)
  unfold wpX_execute
  dsimp only
  rw [c, h1, h2, h3]
  refine And.intro v (nm_e (And.intro v (nm_e (And.intro v (nm_e (nm_r (nI_1 p) (br_f (by decide) (br_f (by decide) (br_t (by decide) (And.intro vs (And.intro vt (nm_r (e' := upd re t (re s)) (by rw [ct, cs]) h))))))))))))
theorem ge_fetch {post : SX → Prop} {p t s : Nat} (hp : p < 224) (h1 : on p = nI 12) (h2 : tg p = nI t) (h3 : lf p = nI s) (ht : t < 6) (hs : s < 8) (h : post (xl, xm, xe, nI (p + 1), xf, xo, xn, xc, op, fa, fb, fc, sv, li, ri, co, rm, on, tg, lf, rt, en, upd re t (cl s), cl, pv)) : wpX_execute post (xl, xm, xe, nI p, xf, xo, xn, xc, op, fa, fb, fc, sv, li, ri, co, rm, on, tg, lf, rt, en, re, cl, pv) := by
  have c : (nI p).toNatClampNeg = p := nI_clamp (by omega)
  have v : vp_in (nI p) 224 := vp_in_nI (by omega) (by omega)
  have ct : (nI t).toNatClampNeg = t := nI_clamp (by omega)
  have vt : vp_in (nI t) 6 := vp_in_nI (by omega) (by omega)
  have cs : (nI s).toNatClampNeg = s := nI_clamp (by omega)
  have vs : vp_in (nI s) 8 := vp_in_nI (by omega) (by omega)
  unfold wpX_execute
  dsimp only
  rw [c, h1, h2, h3]
  refine And.intro v (nm_e (And.intro v (nm_e (And.intro v (nm_e (nm_r (nI_1 p) (br_f (by decide) (br_f (by decide) (br_f (by decide) (br_t (by decide) (br_t (by decide) (And.intro vs (And.intro vt (nm_r (e' := upd re t (cl s)) (by rw [ct, cs]) h))))))))))))))
theorem ge_keep {post : SX → Prop} {p t s : Nat} (hp : p < 224) (h1 : on p = nI 13) (h2 : tg p = nI t) (h3 : lf p = nI s) (ht : t < 6) (hs : s < 8) (h : post (xl, xm, xe, nI (p + 1), xf, xo, xn, xc, op, fa, fb, fc, sv, li, ri, co, rm, on, tg, lf, rt, en, re, upd cl s (re t), pv)) : wpX_execute post (xl, xm, xe, nI p, xf, xo, xn, xc, op, fa, fb, fc, sv, li, ri, co, rm, on, tg, lf, rt, en, re, cl, pv) := by
  have c : (nI p).toNatClampNeg = p := nI_clamp (by omega)
  have v : vp_in (nI p) 224 := vp_in_nI (by omega) (by omega)
  have ct : (nI t).toNatClampNeg = t := nI_clamp (by omega)
  have vt : vp_in (nI t) 6 := vp_in_nI (by omega) (by omega)
  have cs : (nI s).toNatClampNeg = s := nI_clamp (by omega)
  have vs : vp_in (nI s) 8 := vp_in_nI (by omega) (by omega)
  unfold wpX_execute
  dsimp only
  rw [c, h1, h2, h3]
  refine And.intro v (nm_e (And.intro v (nm_e (And.intro v (nm_e (nm_r (nI_1 p) (br_f (by decide) (br_f (by decide) (br_f (by decide) (br_t (by decide) (br_f (by decide) (br_t (by decide) (And.intro vt (And.intro vs (nm_r (e' := upd cl s (re t)) (by rw [ct, cs]) h)))))))))))))))
theorem ge_write {post : SX → Prop} {p t k : Nat} (hp : p < 224) (h1 : on p = nI 6) (h2 : tg p = nI t) (ht : t < 6) (hk : k < 1000) (h : post (xl, xm, xe, nI (p + 1), xf, xo, xn, nI (k + 1), op, fa, fb, fc, sv, li, ri, co, rm, on, tg, lf, rt, en, re, cl, if k < 32 then upd pv k (re t) else pv)) : wpX_execute post (xl, xm, xe, nI p, xf, xo, xn, nI k, op, fa, fb, fc, sv, li, ri, co, rm, on, tg, lf, rt, en, re, cl, pv) := by
  have c : (nI p).toNatClampNeg = p := nI_clamp (by omega)
  have v : vp_in (nI p) 224 := vp_in_nI (by omega) (by omega)
  have ct : (nI t).toNatClampNeg = t := nI_clamp (by omega)
  have vt : vp_in (nI t) 6 := vp_in_nI (by omega) (by omega)
  unfold wpX_execute
  dsimp only
  rw [c, h1, h2]
  refine And.intro v (nm_e (And.intro v (nm_e (And.intro v (nm_e (nm_r (nI_1 p) (br_f (by decide) (br_f (by decide) (br_f (by decide) (br_t (by decide) (br_f (by decide) (br_f (by decide) (br_t (by decide) (And.intro vt ?_))))))))))))))
  rw [ct]
  unfold wpX_print
  refine pk_le 32 k (fun z => nm_r (nI_1 k) ?_) (fun z => And.intro (vp_in_nI z (by omega)) ?_)
  · rw [if_neg (by omega)] at h; exact h
  · rw [if_pos z] at h
    rw [nI_clamp (by omega)]
    exact nm_e (nm_r (nI_1 k) h)
theorem ge_halt {post : SX → Prop} {p : Nat} (hp : p < 224) (h1 : on p = nI 10) (h : post (xl, xm, xe, nI (p + 1), xf, 1, xn, xc, op, fa, fb, fc, sv, li, ri, co, rm, on, tg, lf, rt, en, re, cl, pv)) : wpX_execute post (xl, xm, xe, nI p, xf, xo, xn, xc, op, fa, fb, fc, sv, li, ri, co, rm, on, tg, lf, rt, en, re, cl, pv) := by
  have c : (nI p).toNatClampNeg = p := nI_clamp (by omega)
  have v : vp_in (nI p) 224 := vp_in_nI (by omega) (by omega)
  unfold wpX_execute
  dsimp only
  rw [c, h1]
  exact And.intro v (nm_e (And.intro v (nm_e (And.intro v (nm_e (nm_r (nI_1 p) (br_f (by decide) (br_f (by decide) (br_f (by decide) (br_t (by decide) (br_f (by decide) (br_f (by decide) (br_f (by decide) (br_t (by decide) h))))))))))))))
theorem ge_jump {post : SX → Prop} {p t a : Nat} (hp : p < 224) (h1 : on p = nI 7) (h2 : tg p = nI t) (h3 : lf p = nI a) (ht : t < 6) (ha : a < 36) (h : post (xl, xm, xe, en a, xf, xo, xn, xc, op, fa, fb, fc, sv, li, ri, co, rm, on, tg, lf, rt, en, re, cl, pv)) : wpX_execute post (xl, xm, xe, nI p, xf, xo, xn, xc, op, fa, fb, fc, sv, li, ri, co, rm, on, tg, lf, rt, en, re, cl, pv) := by
  have c : (nI p).toNatClampNeg = p := nI_clamp (by omega)
  have v : vp_in (nI p) 224 := vp_in_nI (by omega) (by omega)
  have vt : vp_in (nI t) 6 := vp_in_nI (by omega) (by omega)
  have ca : (nI a).toNatClampNeg = a := nI_clamp (by omega)
  have va : vp_in (nI a) 36 := vp_in_nI (by omega) (by omega)
  unfold wpX_execute
  dsimp only
  rw [c, h1, h2, h3]
  refine And.intro v (nm_e (And.intro v (nm_e (And.intro v (nm_e (nm_r (nI_1 p) (br_f (by decide) (br_f (by decide) (br_f (by decide) (br_t (by decide) (br_f (by decide) (br_f (by decide) (br_f (by decide) (br_f (by decide) (And.intro vt (And.intro v ?_))))))))))))))))
  unfold wpX_branch
  dsimp only
  rw [ca]
  refine br_t (by decide) (And.intro va (nm_e ?_))
  unfold wX_branch_16
  refine br_f (by decide) ?_
  unfold wX_branch_36
  exact br_f (by decide) h
theorem ge_jif {post : SX → Prop} {p t a : Nat} (hp : p < 224) (h1 : on p = nI 8) (h2 : tg p = nI t) (h3 : lf p = nI a) (ht : t < 6) (ha : a < 36) (h : ¬ re t = 0 → post (xl, xm, xe, en a, xf, xo, xn, xc, op, fa, fb, fc, sv, li, ri, co, rm, on, tg, lf, rt, en, re, cl, pv)) (h' : re t = 0 → post (xl, xm, xe, nI (p + 1), xf, xo, xn, xc, op, fa, fb, fc, sv, li, ri, co, rm, on, tg, lf, rt, en, re, cl, pv)) : wpX_execute post (xl, xm, xe, nI p, xf, xo, xn, xc, op, fa, fb, fc, sv, li, ri, co, rm, on, tg, lf, rt, en, re, cl, pv) := by
  have c : (nI p).toNatClampNeg = p := nI_clamp (by omega)
  have v : vp_in (nI p) 224 := vp_in_nI (by omega) (by omega)
  have ct : (nI t).toNatClampNeg = t := nI_clamp (by omega)
  have vt : vp_in (nI t) 6 := vp_in_nI (by omega) (by omega)
  have ca : (nI a).toNatClampNeg = a := nI_clamp (by omega)
  have va : vp_in (nI a) 36 := vp_in_nI (by omega) (by omega)
  unfold wpX_execute
  dsimp only
  rw [c, h1, h2, h3]
  refine And.intro v (nm_e (And.intro v (nm_e (And.intro v (nm_e (nm_r (nI_1 p) (br_f (by decide) (br_f (by decide) (br_f (by decide) (br_t (by decide) (br_f (by decide) (br_f (by decide) (br_f (by decide) (br_f (by decide) (And.intro vt (And.intro v ?_))))))))))))))))
  rw [ct]
  unfold wpX_branch
  dsimp only
  refine br_f (by decide) ?_
  unfold wX_branch_16
  rw [ca]
  refine br_t (by decide) (br_c (fun z => ?_) (fun z => And.intro va (nm_e ?_)))
  · unfold wX_branch_36
    exact br_f (by decide) (h' z)
  · unfold wX_branch_36
    exact br_f (by decide) (h z)
theorem ge_tab {post : SX → Prop} {p t a b : Nat} (hp : p < 224) (h1 : on p = nI 9) (h2 : tg p = nI t) (h3 : lf p = nI a) (h4 : rt p = nI b) (ht : t < 6) (ha : a + b < 37) (h : ∀ w, w < b → re t = nI w → post (xl, xm, xe, en (a + w), xf, xo, xn, xc, op, fa, fb, fc, sv, li, ri, co, rm, on, tg, lf, rt, en, re, cl, pv)) (h' : (re t < 0 ∨ nI b ≤ re t) → post (xl, xm, xe, nI (p + 1), xf, xo, xn, xc, op, fa, fb, fc, sv, li, ri, co, rm, on, tg, lf, rt, en, re, cl, pv)) : wpX_execute post (xl, xm, xe, nI p, xf, xo, xn, xc, op, fa, fb, fc, sv, li, ri, co, rm, on, tg, lf, rt, en, re, cl, pv) := by
  have c : (nI p).toNatClampNeg = p := nI_clamp (by omega)
  have v : vp_in (nI p) 224 := vp_in_nI (by omega) (by omega)
  have ct : (nI t).toNatClampNeg = t := nI_clamp (by omega)
  have vt : vp_in (nI t) 6 := vp_in_nI (by omega) (by omega)
  unfold wpX_execute
  dsimp only
  rw [c, h1, h2, h3, h4]
  refine And.intro v (nm_e (And.intro v (nm_e (And.intro v (nm_e (nm_r (nI_1 p) (br_f (by decide) (br_f (by decide) (br_f (by decide) (br_t (by decide) (br_f (by decide) (br_f (by decide) (br_f (by decide) (br_f (by decide) (And.intro vt (And.intro v ?_))))))))))))))))
  rw [ct]
  unfold wpX_branch
  dsimp only
  refine br_f (by decide) ?_
  unfold wX_branch_16
  refine br_f (by decide) ?_
  unfold wX_branch_36
  refine br_t (by decide) (br_c (fun z => h' (Or.inl z)) (fun z => br_c (fun z2 => h' (Or.inr z2)) (fun z2 => ?_)))
  obtain ⟨w, hw, e⟩ := nI_of z
  have hwb : w < b := by
    rw [e, nI_leI (by omega) hw] at z2
    omega
  rw [e, nI_add, nI_clamp (by omega)]
  exact And.intro (vp_in_nI (by omega) (by omega)) (nm_e (h w hwb e))
theorem ge_ari {post : SX → Prop} {p t s s' o : Nat} (hp : p < 224) (ho : 2 ≤ o) (ho5 : o ≤ 5) (h1 : on p = nI o) (h2 : tg p = nI t) (h3 : lf p = nI s) (h4 : rt p = nI s') (ht : t < 6) (hs : s < 6) (hs' : s' < 6) (imm : Int32) (h : post (xl, xm, xe, nI (p + 1), xf, xo, xn, xc, op, fa, fb, fc, sv, li, ri, co, rm, on, tg, lf, rt, en, upd re t (gc_val o imm (re s) (re s')), cl, pv)) : wpX_execute post (xl, xm, xe, nI p, xf, xo, xn, xc, op, fa, fb, fc, sv, li, ri, co, rm, on, tg, lf, rt, en, re, cl, pv) := by
  have c : (nI p).toNatClampNeg = p := nI_clamp (by omega)
  have v : vp_in (nI p) 224 := vp_in_nI (by omega) (by omega)
  have ct : (nI t).toNatClampNeg = t := nI_clamp (by omega)
  have vt : vp_in (nI t) 6 := vp_in_nI (by omega) (by omega)
  have cs : (nI s).toNatClampNeg = s := nI_clamp (by omega)
  have vs : vp_in (nI s) 6 := vp_in_nI (by omega) (by omega)
  have cs' : (nI s').toNatClampNeg = s' := nI_clamp (by omega)
  have vs' : vp_in (nI s') 6 := vp_in_nI (by omega) (by omega)
  unfold wpX_execute
  dsimp only
  rw [c, h1, h2, h3, h4]
  refine And.intro v (nm_e (And.intro v (nm_e (And.intro v (nm_e (nm_r (nI_1 p) (pk_eq o 11 (fun z => by omega) (fun _ => pk_eq o 0 (fun z => by omega) (fun _ => pk_eq o 1 (fun z => by omega) (fun _ => pk_lt 5 o (fun z => by omega) (fun _ => And.intro vs (And.intro v (And.intro vs' ?_)))))))))))))
  rw [cs, cs', ct]
  unfold wpX_compute
  dsimp only
  rw [gc_val, if_neg (by omega), if_neg (by omega)] at h
  refine pk_eq o 2 (fun z => And.intro vt (nm_e ?_)) (fun z2 => ?_)
  · rw [if_pos z] at h; exact h
  rw [if_neg z2] at h
  refine pk_eq o 3 (fun z => And.intro vt (nm_e ?_)) (fun z3 => ?_)
  · rw [if_pos z] at h; exact h
  rw [if_neg z3] at h
  refine pk_eq o 4 (fun z => And.intro vt (nm_e ?_)) (fun z4 => br_c (fun z => And.intro vt (nm_e ?_)) (fun z => And.intro vt (nm_e ?_)))
  · rw [if_pos z] at h; exact h
  · rw [if_neg z4, if_pos z] at h; exact h
  · rw [if_neg z4, if_neg z] at h; exact h
end
end
section
/-! the code of one instruction on the target machine -/
/-- the loop ends well from here with b steps in hand -/
def gx_R (post : Int32 → SX → Prop) (xl xm xe : Int32) (op fa fb fc sv li ri co rm on tg lf rt en : Nat → Int32) (b : Nat) (xp xf xo xn xc : Int32) (re cl pv : Nat → Int32) : Prop :=
  ∀ n x : Nat, b ≤ n → x + b ≤ 2000 → wX_run_119 post n (nI x) xl xm xe xp xf xo xn xc op fa fb fc sv li ri co rm on tg lf rt en re cl pv
def gc_Sg (on tg lf rt : Nat → Int32) (p : Nat) (l : List gc_Q) : Prop := ∀ (k : Nat) (q : gc_Q), l[k]? = some q → on (p + k) = q.1 ∧ tg (p + k) = q.2.1 ∧ lf (p + k) = q.2.2.1 ∧ rt (p + k) = q.2.2.2
def gc_loc (K : Nat → Nat) (re cl : Nat → Int32) (v : Nat) : Int32 := if K v = 3 then cl v else re (K v)
section
variable {L : Nat} {O A B C : Nat → Nat} {K : Nat → Nat} {post : Int32 → SX → Prop} {xl xm xe xp xf xo xn xc : Int32} {op fa fb fc sv li ri co rm on tg lf rt en re cl pv ya yc yv : Nat → Int32}
theorem gr_mono {b b' : Nat} (h : b ≤ b') (hR : gx_R post (nI L) xm xe op fa fb fc sv li ri co rm on tg lf rt en b xp xf xo xn xc re cl pv) : gx_R post (nI L) xm xe op fa fb fc sv li ri co rm on tg lf rt en b' xp xf xo xn xc re cl pv := fun n x hn hx => hR n x (by omega) (by omega)
theorem gr_step {b : Nat} (h : ∀ n x : Nat, b ≤ n → x + 1 + b ≤ 2000 → wpX_execute (fun u => match u with | (l', xm, xe, xp, xf, xo, xn, xc, op, fa, fb, fc, sv, li, ri, co, rm, on, tg, lf, rt, en, re, cl, pv) => ∀ y : Int32, y = nI x + 1 → wX_run_119 post n y l' xm xe xp xf xo xn xc op fa fb fc sv li ri co rm on tg lf rt en re cl pv) (nI L, xm, xe, xp, xf, 0, xn, xc, op, fa, fb, fc, sv, li, ri, co, rm, on, tg, lf, rt, en, re, cl, pv)) : gx_R post (nI L) xm xe op fa fb fc sv li ri co rm on tg lf rt en (b + 1) xp xf 0 xn xc re cl pv := by
  intro n x hn hx
  obtain ⟨n, rfl⟩ : ∃ n', n = n' + 1 := ⟨n - 1, by omega⟩
  rw [wX_run_119]
  dsimp only
  exact br_f (nI_ge (b := 2000) (by omega) (by omega)) (br_t rfl (h n x (by omega) (by omega)))
theorem gr_end {b : Nat} (hb : 0 < b) (ho : ¬ xo = 0) (h : post xo (nI L, xm, xe, xp, xf, xo, xn, xc, op, fa, fb, fc, sv, li, ri, co, rm, on, tg, lf, rt, en, re, cl, pv)) : gx_R post (nI L) xm xe op fa fb fc sv li ri co rm on tg lf rt en b xp xf xo xn xc re cl pv := by
  intro n x hn hx
  obtain ⟨n, rfl⟩ : ∃ n', n = n' + 1 := ⟨n - 1, by omega⟩
  rw [wX_run_119]
  dsimp only
  exact br_f (nI_ge (b := 2000) (by omega) (by omega)) (br_f ho h)
theorem gc_Sg1 {p : Nat} {q : gc_Q} {l : List gc_Q} (h : gc_Sg on tg lf rt p (q :: l)) : (on p = q.1 ∧ tg p = q.2.1 ∧ lf p = q.2.2.1 ∧ rt p = q.2.2.2) ∧ gc_Sg on tg lf rt (p + 1) l := by
  refine ⟨h 0 q rfl, fun k q' hk => ?_⟩
  have := h (k + 1) q' (by rw [List.getElem?_cons_succ]; exact hk)
  rw [show p + 1 + k = p + (k + 1) by omega]
  exact this
theorem gc_Sg2 {p : Nat} {l l' : List gc_Q} (h : gc_Sg on tg lf rt p (l ++ l')) : gc_Sg on tg lf rt p l ∧ gc_Sg on tg lf rt (p + l.length) l' := by
  refine ⟨fun k q hk => h k q ?_, fun k q hk => ?_⟩
  · have hlt : k < l.length := by
      rcases Nat.lt_or_ge k l.length with z | z
      · exact z
      · rw [List.getElem?_eq_none z] at hk; exact nomatch hk
    rw [List.getElem?_append_left hlt]; exact hk
  · have := h (l.length + k) q (by
      rw [List.getElem?_append_right (by omega), Nat.add_sub_cancel_left]; exact hk)
    rw [show p + l.length + k = p + (l.length + k) by omega]
    exact this
theorem gr_fet {b p v s : Nat} (hSg : gc_Sg on tg lf rt p (gc_fet K v s)) (hp : p < 224) (hv : v < 8) (hs : s < 6)
    (h : ∀ re' : Nat → Int32, (∀ c, c ≠ s → re' c = re c) → re' (gc_rg K v s) = gc_loc K re cl v → gx_R post (nI L) xm xe op fa fb fc sv li ri co rm on tg lf rt en b (nI (p + (gc_fet K v s).length)) xf 0 xn xc re' cl pv) :
    gx_R post (nI L) xm xe op fa fb fc sv li ri co rm on tg lf rt en (b + 1) (nI p) xf 0 xn xc re cl pv := by
  by_cases e : K v = 3
  · rw [gc_fet, if_pos e] at hSg
    obtain ⟨⟨h1, h2, h3, h4⟩, _⟩ := gc_Sg1 hSg
    have h' := h (upd re s (cl v)) (fun c hc => pk_un hc) (by rw [gc_rg, if_pos e, pk_us, gc_loc, if_pos e])
    rw [gc_fet, if_pos e] at h'
    exact gr_step (fun n x hn hx => ge_fetch hp h1 h2 h3 hs hv (nm_r (nI_1 x) (h' n (x + 1) hn hx)))
  · have h' := h re (fun c hc => rfl) (by rw [gc_rg, if_neg e, gc_loc, if_neg e])
    rw [gc_fet, if_neg e] at h'
    exact gr_mono (by omega) h'
theorem gr_fin {b p a : Nat} {re1 : Nat → Int32} {w : Int32} (hK : gc_Co co K) (hSg : gc_Sg on tg lf rt p (gc_kp K a)) (hp : p < 224) (ha : a < 8) (hw : re1 (gc_rg K a 5) = w) (hr : ∀ c, c < 3 → c ≠ gc_rg K a 5 → re1 c = re c)
    (h : ∀ re' cl' : Nat → Int32, gc_loc K re' cl' a = w → (∀ v, v < 8 → v ≠ a → (K a < 3 → K v < 3 → K a ≠ K v) → gc_loc K re' cl' v = gc_loc K re cl v) → gx_R post (nI L) xm xe op fa fb fc sv li ri co rm on tg lf rt en b (nI (p + (gc_kp K a).length)) xf 0 xn xc re' cl' pv) :
    gx_R post (nI L) xm xe op fa fb fc sv li ri co rm on tg lf rt en (b + 1) (nI p) xf 0 xn xc re1 cl pv := by
  have hk3 : ∀ v, v < 8 → K v ≠ 3 → K v < 3 := fun v hv hne => by rcases hK v hv with ⟨z, _⟩ | ⟨z, _⟩ <;> omega
  by_cases e : K a = 3
  · rw [gc_kp, if_pos e] at hSg
    obtain ⟨⟨h1, h2, h3, h4⟩, _⟩ := gc_Sg1 hSg
    rw [gc_rg, if_pos e] at hw hr
    have h' := h re1 (upd cl a (re1 5)) (by rw [gc_loc, if_pos e, pk_us, hw]) (fun v hv hne _ => by
      by_cases ev : K v = 3
      · rw [gc_loc, gc_loc, if_pos ev, if_pos ev, pk_un hne]
      · have := hk3 v hv ev
        rw [gc_loc, gc_loc, if_neg ev, if_neg ev]
        exact hr _ this (by omega))
    rw [gc_kp, if_pos e] at h'
    exact gr_step (fun n x hn hx => ge_keep hp h1 h2 h3 (by omega) ha (nm_r (nI_1 x) (h' n (x + 1) hn hx)))
  · rw [gc_rg, if_neg e] at hw hr
    have h' := h re1 cl (by rw [gc_loc, if_neg e, hw]) (fun v hv hne hd => by
      by_cases ev : K v = 3
      · rw [gc_loc, gc_loc, if_pos ev, if_pos ev]
      · have h3 := hk3 v hv ev
        rw [gc_loc, gc_loc, if_neg ev, if_neg ev]
        exact hr _ h3 (fun z => hd (hk3 a ha e) h3 z.symm))
    rw [gc_kp, if_neg e] at h'
    exact gr_mono (by omega) h'
theorem gc_rg6 {v s : Nat} (hK : gc_Co co K) (hv : v < 8) (hs : s < 6) : gc_rg K v s < 6 := by
  unfold gc_rg
  rcases hK v hv with ⟨hk, _⟩ | ⟨hk, _⟩
  · rw [if_neg (by omega)]; omega
  · rw [if_pos hk]; exact hs
theorem gc_rgs {v s s' : Nat} (hK : gc_Co co K) (hv : v < 8) (hs : 3 ≤ s') (hne : s ≠ s') : gc_rg K v s ≠ s' := by
  unfold gc_rg
  rcases hK v hv with ⟨hk, _⟩ | ⟨hk, _⟩
  · rw [if_neg (by omega)]; omega
  · rw [if_pos hk]; exact hne
theorem gc_locs {re' : Nat → Int32} {v s : Nat} (hK : gc_Co co K) (hv : v < 8) (hs : 3 ≤ s) (h : ∀ c, c ≠ s → re' c = re c) : gc_loc K re' cl v = gc_loc K re cl v := by
  unfold gc_loc
  rcases hK v hv with ⟨hk, _⟩ | ⟨hk, _⟩
  · rw [if_neg (by omega), if_neg (by omega)]
    exact h _ (by omega)
  · rw [if_pos hk, if_pos hk]
/-- an assignment -/
theorem gr_asg {b p o a b' c : Nat} {imm : Int32} (hK : gc_Co co K) (hSg : gc_Sg on tg lf rt p (gc_asg K o a b' c imm)) (hp : p + 4 < 224) (ho : o ≤ 5) (ha : a < 8) (hb : 1 ≤ o → b' < 8) (hc : 2 ≤ o → c < 8) {P Q : Int32} (eP : 1 ≤ o → gc_loc K re cl b' = P) (eQ : 2 ≤ o → gc_loc K re cl c = Q)
    (h : ∀ re' cl' : Nat → Int32, gc_loc K re' cl' a = gc_val o imm P Q → (∀ v, v < 8 → v ≠ a → (K a < 3 → K v < 3 → K a ≠ K v) → gc_loc K re' cl' v = gc_loc K re cl v) → gx_R post (nI L) xm xe op fa fb fc sv li ri co rm on tg lf rt en b (nI (p + (gc_asg K o a b' c imm).length)) xf 0 xn xc re' cl' pv) :
    gx_R post (nI L) xm xe op fa fb fc sv li ri co rm on tg lf rt en (b + 4) (nI p) xf 0 xn xc re cl pv := by
  have t6 : gc_rg K a 5 < 6 := gc_rg6 hK ha (by omega)
  have f1 := gc_fet1 K b' 3
  have f2 := gc_fet1 K c 4
  unfold gc_asg at hSg h
  by_cases e0 : o = 0
  · rw [if_pos e0] at hSg h
    obtain ⟨s1, s2⟩ := gc_Sg2 hSg
    obtain ⟨⟨h1, h2, h3, h4⟩, _⟩ := gc_Sg1 s1
    refine gr_mono (b := b + 1 + 1) (by omega) (gr_step (fun n x hn hx => ge_num (by omega) h1 h2 h3 t6 (nm_r (nI_1 x) (gr_fin (re := re) (w := imm) hK s2 (by simp only [List.length_cons, List.length_nil]; omega) ha pk_us (fun c _ hne => pk_un hne) (fun re' cl' q1 q2 => ?_) n (x + 1) hn hx))))
    have h' := h re' cl' (by rw [q1, gc_val, if_pos e0]) q2
    rw [List.length_append, ← Nat.add_assoc] at h'
    exact h'
  rw [if_neg e0] at hSg h
  by_cases e1 : o = 1
  · rw [if_pos e1] at hSg h
    rw [gc_val, if_neg e0, if_pos e1] at h
    obtain ⟨s1, s2⟩ := gc_Sg2 hSg
    obtain ⟨s3, s4⟩ := gc_Sg2 s1
    have hb8 := hb (by omega)
    refine gr_mono (b := b + 1 + 1 + 1) (by omega) (gr_fet s3 (by omega) hb8 (by omega) (fun re1 r1 r2 => ?_))
    rw [eP (by omega)] at r2
    by_cases er : gc_rg K b' 3 = gc_rg K a 5
    · rw [if_pos er] at s2 h
      rw [List.append_nil] at s2 h
      refine gr_mono (b := b + 1) (by omega) (gr_fin (re := re) (w := P) hK s2 (by omega) ha (by rw [← er]; exact r2) (fun c hc _ => r1 c (by omega)) (fun re' cl' q1 q2 => ?_))
      have h' := h re' cl' q1 q2
      rw [List.length_append, ← Nat.add_assoc] at h'
      exact h'
    · rw [if_neg er] at s2 s4 h
      obtain ⟨⟨h1, h2, h3, h4⟩, _⟩ := gc_Sg1 s4
      refine gr_step (fun n x hn hx => ge_copy (by omega) h1 h2 h3 t6 (gc_rg6 hK hb8 (by omega)) (nm_r (nI_1 x) (gr_fin (p := p + (gc_fet K b' 3).length + 1) (re := re) (w := P) hK ?_ (by omega) ha (by rw [pk_us]; exact r2) (fun c hc hne => by rw [pk_un hne]; exact r1 c (by omega)) (fun re' cl' q1 q2 => ?_) n (x + 1) hn hx)))
      · rw [List.length_append, ← Nat.add_assoc] at s2
        exact s2
      · have h' := h re' cl' q1 q2
        rw [List.length_append, List.length_append, ← Nat.add_assoc, ← Nat.add_assoc] at h'
        exact h'
  · rw [if_neg e1] at hSg h
    obtain ⟨s1, s2⟩ := gc_Sg2 hSg
    obtain ⟨s3, s4⟩ := gc_Sg2 s1
    obtain ⟨s5, s6⟩ := gc_Sg2 s4
    obtain ⟨⟨h1, h2, h3, h4⟩, _⟩ := gc_Sg1 s6
    have hb8 := hb (by omega)
    have hc8 := hc (by omega)
    refine gr_fet (b := b + 3) s3 (by omega) hb8 (by omega) (fun re1 r1 r2 => ?_)
    rw [eP (by omega)] at r2
    refine gr_fet (b := b + 2) s5 (by omega) hc8 (by omega) (fun re2 r3 r4 => ?_)
    rw [gc_locs hK hc8 (by omega) r1, eQ (by omega)] at r4
    have r5 : re2 (gc_rg K b' 3) = P := by rw [r3 _ (gc_rgs hK hb8 (by omega) (by omega)), r2]
    refine gr_step (fun n x hn hx => ge_ari (by omega) (by omega) ho h1 h2 h3 h4 t6 (gc_rg6 hK hb8 (by omega)) (gc_rg6 hK hc8 (by omega)) imm (nm_r (nI_1 x) (gr_fin (p := p + (gc_fet K b' 3).length + (gc_fet K c 4).length + 1) (re := re) (w := gc_val o imm P Q) hK ?_ (by omega) ha (by rw [pk_us, r5, r4]) (fun c hc hne => by rw [pk_un hne, r3 c (by omega)]; exact r1 c (by omega)) (fun re' cl' q1 q2 => ?_) n (x + 1) hn hx)))
    · rw [List.length_append, List.length_append, ← Nat.add_assoc, ← Nat.add_assoc] at s2
      exact s2
    · have h' := h re' cl' q1 q2
      rw [List.length_append, List.length_append, List.length_append, ← Nat.add_assoc, ← Nat.add_assoc, ← Nat.add_assoc] at h'
      exact h'
end
end
section
/-! where an instruction's code lies; what it does -/
section
variable {L : Nat} {O A B C : Nat → Nat} {K : Nat → Nat} {post : Int32 → SX → Prop} {xl xm xe xp xf xo xn xc : Int32} {op fa fb fc sv li ri co rm on tg lf rt en re cl pv ya yc yv : Nat → Int32}
theorem gc_aget {D : Nat → Bool} {i k : Nat} {q : gc_Q} (hq : (gc_cg K D O A B C fb i)[k]? = some q) : ∀ n, i < n → (gc_all K D O A B C fb n)[(gc_all K D O A B C fb i).length + k]? = some q := by
  intro n
  induction n with
  | zero => intro h; omega
  | succ n ih =>
    intro h
    rw [gc_all]
    by_cases e : i = n
    · subst e
      rw [List.getElem?_append_right (by omega), Nat.add_sub_cancel_left]
      exact hq
    · have h' := ih (by omega)
      have hlt : (gc_all K D O A B C fb i).length + k < (gc_all K D O A B C fb n).length := by
        rcases Nat.lt_or_ge ((gc_all K D O A B C fb i).length + k) (gc_all K D O A B C fb n).length with z | z
        · exact z
        · rw [List.getElem?_eq_none z] at h'; exact nomatch h'
      rw [List.getElem?_append_left hlt]
      exact h'
theorem gc_sg {i : Nat} (hT : gc_Tgt L O A B C fb K on tg lf rt en) (hi : i < L) : gc_Sg on tg lf rt (gc_code L O A B C fb K i).length (gc_cg K (gc_dd L O A B C) O A B C fb i) := by
  intro k q hk
  have h' := gc_aget hk L hi
  refine hT.1 _ q ?_
  have hlt : (gc_code L O A B C fb K i).length + k < (gc_code L O A B C fb K L).length := by
    rcases Nat.lt_or_ge ((gc_code L O A B C fb K i).length + k) (gc_code L O A B C fb K L).length with z | z
    · exact z
    · rw [gc_code, gc_code] at z
      rw [List.getElem?_eq_none z] at h'; exact nomatch h'
  rw [List.getElem?_append_left hlt]
  exact h'
theorem gc_hl (hT : gc_Tgt L O A B C fb K on tg lf rt en) : on (gc_code L O A B C fb K L).length = nI 10 := by
  have h := hT.1 (gc_code L O A B C fb K L).length (nI 10, nI 0, 0, 0) (by
    rw [List.getElem?_append_right (Nat.le_refl _), Nat.sub_self]; rfl)
  exact h.1
theorem gc_len {i : Nat} (hi : i < L) : (gc_code L O A B C fb K (min (i + 1) L)).length = (gc_code L O A B C fb K i).length + 1 + (gc_bdy K (gc_dd L O A B C i) (O i) (A i) (B i) (C i) (fb i)).length := by
  rw [Nat.min_eq_left (by omega), gc_code, gc_code, gc_all, List.length_append, gc_cg, List.length_cons]
  omega
theorem gr_body {i b k : Nat} (hS : gc_Src L O A B C op fa fb fc ya yc) (hi : i < L) (hK : gc_Co co K) (hI : gc_Itf L O A B C K) (hT : gc_Tgt L O A B C fb K on tg lf rt en) (hb : 0 < b) (hk : k < 900)
    (hinv : ∀ v, gc_Lv L O A B C v i → gc_loc K re cl v = yv v)
    (hn : ∀ (j : Nat) (re' cl' : Nat → Int32), gc_nx O A B C i yv = some j → (∀ v, gc_Lv L O A B C v j → gc_loc K re' cl' v = gc_vr O A B C fb i yv v) → gx_R post (nI L) xm xe op fa fb fc sv li ri co rm on tg lf rt en b (nI (gc_code L O A B C fb K (min j L)).length) xf 0 xn (nI (gc_pr O i k)) re' cl' (gc_ou O A i k yv pv))
    (hs : gc_nx O A B C i yv = none → ∀ (xp : Int32) (re' : Nat → Int32), post 1 (nI L, xm, xe, xp, xf, 1, xn, nI (gc_pr O i k), op, fa, fb, fc, sv, li, ri, co, rm, on, tg, lf, rt, en, re', cl, gc_ou O A i k yv pv)) :
    gx_R post (nI L) xm xe op fa fb fc sv li ri co rm on tg lf rt en (b + 4) (nI ((gc_code L O A B C fb K i).length + 1)) xf 0 xn (nI k) re cl pv := by
  obtain ⟨a0, a1, a2, a3, a4, a5, a6, a7⟩ := hS.2 i hi
  have hL := hS.1
  have h5 := gc_code5 (L := L) (O := O) (A := A) (B := B) (C := C) (K := K) (fb := fb) i
  have sb := (gc_Sg1 (gc_sg hT hi)).2
  have hlen := gc_len (L := L) (O := O) (A := A) (B := B) (C := C) (K := K) (fb := fb) hi
  generalize hp : (gc_code L O A B C fb K i).length = p at h5 sb hlen ⊢
  by_cases ho : O i ≤ 5
  · have ha := a3 (by omega) (by omega)
    have e1 : gc_pr O i k = k := by rw [gc_pr, if_neg (by omega)]
    have e2 : gc_ou O A i k yv pv = pv := by rw [gc_ou, if_neg (by omega)]
    have e3 : gc_vr O A B C fb i yv = upd yv (A i) (gc_val (O i) (fb i) (yv (B i)) (yv (C i))) := by rw [gc_vr, if_pos ho]
    have hn' := fun re' cl' hz => hn (i + 1) re' cl' (gc_nx5 ho) hz
    rw [e1, e2, e3, hlen] at hn'
    rw [gc_bdy, if_pos ho] at sb hn'
    have hfo : gc_fo O A B C i (i + 1) := gc_nxf (yv := yv) hS hi (gc_nx5 ho)
    have hup : ∀ v, gc_Lv L O A B C v (i + 1) → gc_Af L O A B C v i := fun v hv => ⟨i + 1, (gc_Linv hv).1, hfo, hv⟩
    by_cases hd : gc_dd L O A B C i = true
    · rw [if_pos hd] at sb hn'
      refine gr_asg (P := yv (B i)) (Q := yv (C i)) hK sb (by omega) ho ha (fun z => (a4 z ho).2) (fun z => (a5 z ho).2.2) (fun z => hinv _ (gc_Lrd hi ?_)) (fun z => hinv _ (gc_Lrd hi ?_)) (fun re' cl' q1 q2 => hn' re' cl' (fun v hv => ?_))
      · unfold gc_rd; omega
      · unfold gc_rd; omega
      · by_cases e : v = A i
        · rw [e, pk_us]; exact q1
        · rw [pk_un e, q2 v (gc_L8 hS hv) e (hI.2 i (A i) v hi ha (gc_L8 hS hv) (fun z => e z.symm) ⟨ho, rfl⟩ (hup v hv))]
          exact hinv v (gc_Laf hi (fun z => e z.2.symm) (hup v hv))
    · rw [if_neg hd] at sb hn'
      refine gr_mono (by omega) (hn' re cl (fun v hv => ?_))
      have e : v ≠ A i := fun z => hd (gc_ddT.mpr (z ▸ hup v hv))
      rw [pk_un e]
      exact hinv v (gc_Laf hi (fun z => e z.2.symm) (hup v hv))
  have e3 : gc_vr O A B C fb i yv = yv := by rw [gc_vr, if_neg ho]
  rw [e3] at hn
  have hmv : ∀ (j : Nat) (re' : Nat → Int32), gc_nx O A B C i yv = some j → (∀ c, c ≠ 3 → re' c = re c) → ∀ v, gc_Lv L O A B C v j → gc_loc K re' cl v = yv v := by
    intro j re' hj hr v hv
    rw [gc_locs hK (gc_L8 hS hv) (by omega) hr]
    exact hinv v (gc_Laf hi (fun z => ho z.1) ⟨j, (gc_Linv hv).1, gc_nxf hS hi hj, hv⟩)
  by_cases e7 : O i = 7
  · have e1 : gc_pr O i k = k := by rw [gc_pr, if_neg (by omega)]
    have e2 : gc_ou O A i k yv pv = pv := by rw [gc_ou, if_neg (by omega)]
    have ha := (a2 (by omega)).2.2
    rw [gc_bdy, if_neg ho, if_pos e7] at sb
    obtain ⟨⟨h1, h2, h3, h4⟩, _⟩ := gc_Sg1 sb
    have enx : gc_nx O A B C i yv = some (A i) := by rw [gc_nx, if_pos e7]
    have h' := hn (A i) re cl enx (hmv _ re enx (fun _ _ => rfl))
    rw [e1, e2] at h'
    refine gr_mono (b := b + 1) (by omega) (gr_step (fun n x hn' hx => ge_jump (by omega) h1 h2 h3 (by omega) (by omega) (nm_r (nI_1 x) ?_)))
    rw [hT.2 (A i) (by omega)]
    exact h' n (x + 1) hn' hx
  by_cases e10 : O i = 10
  · have enx : gc_nx O A B C i yv = none := by rw [gc_nx, if_neg e7, if_neg (by omega), if_neg (by omega), if_pos e10]
    have e1 : gc_pr O i k = k := by rw [gc_pr, if_neg (by omega)]
    have e2 : gc_ou O A i k yv pv = pv := by rw [gc_ou, if_neg (by omega)]
    have h' := hs enx
    rw [e1, e2] at h'
    rw [gc_bdy, if_neg ho, if_neg e7, if_pos e10] at sb
    obtain ⟨⟨h1, h2, h3, h4⟩, _⟩ := gc_Sg1 sb
    exact gr_mono (b := b + 1) (by omega) (gr_step (fun n x hn' hx => ge_halt (by omega) h1 (nm_r (nI_1 x) (gr_end (b := b) hb (by decide) (h' _ re) n (x + 1) hn' hx))))
  have ha := a3 (by omega) e7
  rw [gc_bdy, if_neg ho, if_neg e7, if_neg e10] at sb hlen
  obtain ⟨s1, s2⟩ := gc_Sg2 sb
  obtain ⟨⟨h1, h2, h3, h4⟩, _⟩ := gc_Sg1 s2
  have f1 := gc_fet1 K (A i) 3
  have t6 : gc_rg K (A i) 3 < 6 := gc_rg6 hK ha (by omega)
  refine gr_mono (b := b + 1 + 1) (by omega) (gr_fet s1 (by omega) ha (by omega) (fun re1 r1 r2 => ?_))
  have r3 : re1 (gc_rg K (A i) 3) = yv (A i) := by
    rw [r2]
    refine hinv _ (gc_Lrd hi ?_)
    unfold gc_rd; omega
  rw [List.length_append, List.length_cons, List.length_nil] at hlen
  have hnext : gc_nx O A B C i yv = some (i + 1) → gx_R post (nI L) xm xe op fa fb fc sv li ri co rm on tg lf rt en b (nI (p + 1 + (gc_fet K (A i) 3).length + 1)) xf 0 xn (nI (gc_pr O i k)) re1 cl (gc_ou O A i k yv pv) := by
    intro enx
    have h' := hn (i + 1) re1 cl enx (hmv _ re1 enx r1)
    rw [hlen] at h'
    exact h'
  by_cases e6 : O i = 6
  · rw [if_pos e6] at h1 h2 h3 h4
    have enx : gc_nx O A B C i yv = some (i + 1) := by rw [gc_nx, if_neg e7, if_neg (by omega), if_neg (by omega), if_neg e10]
    have h' := hnext enx
    rw [gc_pr, if_pos e6, gc_ou] at h'
    refine gr_step (fun n x hn' hx => ge_write (by omega) h1 h2 t6 (by omega) (nm_r (nI_1 x) ?_))
    rw [r3]
    by_cases hk2 : k < 32
    · rw [if_pos ⟨e6, hk2⟩] at h'
      rw [if_pos hk2]
      exact h' n (x + 1) hn' hx
    · rw [if_neg (fun z => hk2 z.2)] at h'
      rw [if_neg hk2]
      exact h' n (x + 1) hn' hx
  have e1 : gc_pr O i k = k := by rw [gc_pr, if_neg e6]
  have e2 : gc_ou O A i k yv pv = pv := by rw [gc_ou, if_neg (fun z => e6 z.1)]
  rw [e1, e2] at hnext hn
  rw [if_neg e6] at h1 h2 h3 h4
  by_cases e8 : O i = 8
  · rw [if_pos e8] at h1 h2 h3 h4
    have hb8 := (a6 (Or.inl e8)).2
    refine gr_step (fun n x hn' hx => ge_jif (by omega) h1 h2 h3 t6 (by omega) (fun z => nm_r (nI_1 x) ?_) (fun z => nm_r (nI_1 x) ?_))
    · rw [r3] at z
      have enx : gc_nx O A B C i yv = some (B i) := by rw [gc_nx, if_neg e7, if_pos ⟨e8, z⟩]
      rw [hT.2 (B i) (by omega)]
      exact hn (B i) re1 cl enx (hmv _ re1 enx r1) n (x + 1) hn' hx
    · rw [r3] at z
      have enx : gc_nx O A B C i yv = some (i + 1) := by rw [gc_nx, if_neg e7, if_neg (fun y => y.2 z), if_neg (by omega), if_neg e10]
      exact hnext enx n (x + 1) hn' hx
  · rw [if_neg e8] at h1 h2 h3 h4
    have e9 : O i = 9 := by omega
    have hb9 := (a6 (Or.inr e9)).2
    have hc9 := a7 e9
    refine gr_step (fun n x hn' hx => ge_tab (by omega) h1 h2 h3 h4 t6 (by omega) (fun w hw z => nm_r (nI_1 x) ?_) (fun z => nm_r (nI_1 x) ?_))
    · rw [r3] at z
      have enx : gc_nx O A B C i yv = some (B i + w) := by
        rw [gc_nx, if_neg e7, if_neg (fun y => e8 y.1), if_pos ⟨e9, by rw [z]; exact nI_pos (by omega), by rw [z]; exact nI_ge hw (by omega)⟩, z, nI_clamp (by omega)]
      rw [hT.2 (B i + w) (by omega)]
      exact hn (B i + w) re1 cl enx (hmv _ re1 enx r1) n (x + 1) hn' hx
    · rw [r3] at z
      have enx : gc_nx O A B C i yv = some (i + 1) := by
        rw [gc_nx, if_neg e7, if_neg (fun y => e8 y.1), if_neg (fun y => z.elim y.2.1 y.2.2), if_neg e10]
      exact hnext enx n (x + 1) hn' hx
end
end
section
/-! the run: both machines an instruction at a time -/
section
variable {L : Nat} {O A B C : Nat → Nat} {K : Nat → Nat} {post : Int32 → SX → Prop} {xl xm xe xp xf xo xn xc yn yp ye : Int32} {op fa fb fc sv li ri co rm on tg lf rt en re cl pv ya yc yg yv yu : Nat → Int32}
theorem gr_sim {M : Nat} {Z : (Int32 → SY → Prop) → Prop} (hS : gc_Src L O A B C op fa fb fc ya yc) (hK : gc_Co co K) (hI : gc_Itf L O A B C K) (hT : gc_Tgt L O A B C fb K on tg lf rt en) (hM : M ≤ 250)
    (hend : ∀ (r xp xf : Int32) (x k : Nat) (re cl pv yv : Nat → Int32), (∀ q : Int32 → SY → Prop, q r (nI L, nI k, nI x, op, ya, fb, yc, yg, yv, pv) → Z q) → post r (nI L, xm, xe, xp, xf, r, nI x, nI k, op, fa, fb, fc, sv, li, ri, co, rm, on, tg, lf, rt, en, re, cl, pv)) :
    ∀ (F j k x : Nat) (re cl pv yv : Nat → Int32), F ≤ M → j < 36 → k + F ≤ M → (∀ v, gc_Lv L O A B C v j → gc_loc K re cl v = yv v) →
      (∀ q : Int32 → SY → Prop, (∃ n, wY_run_64 q (nI M) n (nI j) (nI (M - F)) (nI L) (nI k) (nI x) op ya fb yc yg yv pv) → Z q) →
      gx_R post (nI L) xm xe op fa fb fc sv li ri co rm on tg lf rt en (5 * F + 2) (nI (gc_code L O A B C fb K (min j L)).length) (nI F) 0 (nI x) (nI k) re cl pv := by
  have hL := hS.1
  intro F
  have hout : ∀ (F j k x : Nat) (re cl pv yv : Nat → Int32), L ≤ j → j < 36 →
      (∀ q : Int32 → SY → Prop, (∃ n, wY_run_64 q (nI M) n (nI j) (nI (M - F)) (nI L) (nI k) (nI x) op ya fb yc yg yv pv) → Z q) →
      gx_R post (nI L) xm xe op fa fb fc sv li ri co rm on tg lf rt en (5 * F + 2) (nI (gc_code L O A B C fb K (min j L)).length) (nI F) 0 (nI x) (nI k) re cl pv := by
    intro F j k x re cl pv yv hj hj36 hY
    have h5 := gc_code5 (L := L) (O := O) (A := A) (B := B) (C := C) (K := K) (fb := fb) L
    rw [Nat.min_eq_right hj]
    refine gr_mono (b := 1 + 1) (by omega) (gr_step (fun n y hn hy => ge_halt (by omega) (gc_hl hT) (nm_r (nI_1 y) (gr_end (b := 1) (by omega) (by decide) (hend 1 _ _ x k re cl pv yv (fun q hq => hY q ⟨1, gy_rE (Or.inr (nI_le hj (by omega))) hq⟩)) n (y + 1) hn hy))))
  induction F with
  | zero =>
    intro j k x re cl pv yv hF hj hk hinv hY
    rcases Nat.lt_or_ge j L with hjL | hjL
    · have h5 := gc_code5 (L := L) (O := O) (A := A) (B := B) (C := C) (K := K) (fb := fb) j
      have h1 := (gc_Sg1 (gc_sg hT hjL)).1.1
      rw [Nat.min_eq_left (by omega)]
      rw [Nat.sub_zero] at hY
      refine gr_mono (b := 1 + 1) (by omega) (gr_step (fun n y hn hy => ge_tick0 (by omega) h1 (nm_r (nI_1 y) (gr_end (b := 1) (by omega) (by decide) (hend 2 _ _ x k re cl pv yv (fun q hq => hY q ⟨1, gy_rF hjL hL hq⟩)) n (y + 1) hn hy))))
    · exact hout 0 j k x re cl pv yv hjL hj hY
  | succ F ih =>
    intro j k x re cl pv yv hF hj hk hinv hY
    rcases Nat.lt_or_ge j L with hjL | hjL
    · have h5 := gc_code5 (L := L) (O := O) (A := A) (B := B) (C := C) (K := K) (fb := fb) j
      have h1 := (gc_Sg1 (gc_sg hT hjL)).1.1
      rw [Nat.min_eq_left (by omega)]
      have hY2 : ∀ (n : Nat) (q : Int32 → SY → Prop), wY_run_64 q (nI M) n (gc_yi (gc_nx O A B C j yv)) (nI (M - F)) (nI L) (nI (gc_pr O j k)) (nI (x + 1)) op ya fb yc yg (gc_vr O A B C fb j yv) (gc_ou O A j k yv pv) → Z q := by
        intro n q hq
        refine hY q ⟨n + 1, gy_rT hS hjL (by omega) (by omega) hM ?_⟩
        rw [show M - (F + 1) + 1 = M - F by omega]
        exact hq
      refine gr_mono (b := 5 * F + 2 + 4 + 1) (by omega) (gr_step (fun n y hn hy => ge_tick (by omega) h1 (by omega) (nm_r (nI_1 y) (gr_body (b := 5 * F + 2) hS hjL hK hI hT (by omega) (by omega) hinv (fun j' re' cl' hj' hv' => ?_) (fun hno xp' re' => ?_) n (y + 1) hn hy))))
      · have hfo := gc_nxf hS hjL hj'
        refine ih j' (gc_pr O j k) (x + 1) re' cl' _ _ (by omega) (gc_fo64 hS hjL hfo) ?_ hv' (fun q hq => ?_)
        · rw [gc_pr]
          split <;> omega
        · obtain ⟨n', hq⟩ := hq
          refine hY2 n' q ?_
          rw [hj']
          exact hq
      · refine hend 1 _ _ (x + 1) _ _ _ _ (gc_vr O A B C fb j yv) (fun q hq => hY2 1 q ?_)
        rw [hno]
        exact gy_rE (Or.inl gb_neg1) hq
    · exact hout (F + 1) j k x re cl pv yv hjL hj hY
theorem gc_clamp (p : Int32) : ∃ M : Nat, M ≤ 250 ∧ ∀ P : Int32 → Prop, P (nI M) → (0 ≤ p → (p ≤ 250 → P p) ∧ (¬ p ≤ 250 → P 250)) ∧ (¬ 0 ≤ p → P 0) := by
  by_cases h0 : 0 ≤ p
  · by_cases h1 : p ≤ 250
    · obtain ⟨j, hj, e⟩ := nI_of2 (x := p) (M := 250) (n := 250) (by decide) (Int32.not_lt.mpr h0) h1
      exact ⟨j, hj, fun P hP => br_t h0 (br_t h1 (e ▸ hP))⟩
    · exact ⟨250, by omega, fun P hP => br_t h0 (br_f h1 hP)⟩
  · exact ⟨0, by omega, fun P hP => br_f h0 hP⟩
def gc_mix (f g : Nat → Int32) (k : Nat) : Nat → Int32 := fun j => if j < k then f j else g j
theorem gc_mixS (f g : Nat → Int32) (k : Nat) : upd (gc_mix f g k) k (f k) = gc_mix f g (k + 1) := by
  funext j
  by_cases e : j = k
  · rw [e, pk_us, gc_mix, if_pos (by omega)]
  · rw [pk_un e, gc_mix, gc_mix]
    by_cases h : j < k
    · rw [if_pos h, if_pos (by omega)]
    · rw [if_neg h, if_neg (by omega)]
theorem gc_mix0 (f g : Nat → Int32) : gc_mix f g 0 = g := by
  funext j
  rw [gc_mix, if_neg (by omega)]
theorem gy_r25 {q : Int32 → SY → Prop} {x2 : Int32} {n64 : Nat} (h : wY_run_64 q x2 n64 0 0 yn 0 0 op ya fb yc yg (gc_mix yg yv 8) yu) :
    ∀ (n k : Nat), 8 < n + k → k ≤ 8 → wY_run_25 q x2 yn yp ye n (nI k) op ya fb yc yg (gc_mix yg yv k) yu := by
  intro n
  induction n with
  | zero => intro k h1 h2; omega
  | succ n ih =>
    intro k hn hk
    rw [wY_run_25]
    dsimp only
    have ck : (nI k).toNatClampNeg = k := nI_clamp (by omega)
    refine pk_le 8 k (fun hle => ⟨n64, ?_⟩) (fun hlt => And.intro (vp_in_nI hlt (by omega)) (And.intro (vp_in_nI hlt (by omega)) (nm_r (e' := gc_mix yg yv (k + 1)) (by rw [ck, gc_mixS]) (nm_r (nI_1 k) (ih (k + 1) (by omega) (by omega))))))
    have : k = 8 := by omega
    rw [this]
    exact h
theorem gx_r52 {x : Int32} (hS : gc_Src L O A B C op fa fb fc ya yc) (hli : ∀ i, i < L → ∀ v, bt (li i) v = true ↔ gc_Lv L O A B C v i) (hK : gc_Co co K) (hI : gc_Itf L O A B C K)
    (h : ∀ re cl : Nat → Int32, (∀ v, gc_Lv L O A B C v 0 → gc_loc K re cl v = sv v) → gx_R post (nI L) xm xe op fa fb fc sv li ri co rm on tg lf rt en 1252 0 x 0 0 0 re cl pv) :
    ∀ (n k : Nat) (re cl : Nat → Int32), 8 < n + k → k ≤ 8 → (∀ v, v < k → gc_Lv L O A B C v 0 → gc_loc K re cl v = sv v) →
      wX_run_52 post (nI L) xm xe 0 x 0 0 0 n (nI k) op fa fb fc sv li ri co rm on tg lf rt en re cl pv := by
  have hL := hS.1
  intro n
  induction n with
  | zero => intro k re cl h1 h2; omega
  | succ n ih =>
    intro k re cl hn hk hv
    rw [wX_run_52]
    dsimp only
    have ck : (nI k).toNatClampNeg = k := nI_clamp (by omega)
    refine pk_le 8 k (fun hle => ⟨2000, h re cl (fun v hl => hv v (by have := gc_L8 hS hl; omega) hl) 2000 0 (by omega) (by omega)⟩) (fun hlt => ?_)
    have vk : vp_in (nI k) 8 := vp_in_nI hlt (by omega)
    rw [ck]
    refine And.intro vk ?_
    rcases hK k hlt with ⟨hk3, e⟩ | ⟨hk3, e⟩
    · rw [e]
      refine br_t (nI_pos' (by omega)) (gx_liveAt (j := 0) hL (by omega) (fun r hr => ?_))
      have hr2 : bt r k = true ↔ gc_Lv L O A B C k 0 := by
        rw [hr]
        exact ⟨fun z => (hli 0 z.1 k).mp z.2, fun z => ⟨(gc_Linv z).1, (hli 0 (gc_Linv z).1 k).mpr z⟩⟩
      refine gb_br k (by omega) (fun hz => nm_r (nI_1 k) (ih (k + 1) re cl (by omega) (by omega) (fun v hvk hl => ?_))) (fun hz => And.intro vk (And.intro vk (And.intro (vp_in_nI (by omega) (by omega)) (nm_r (e' := upd re (K k) (sv k)) (by rw [nI_clamp (by omega)]) (nm_r (nI_1 k) (ih (k + 1) _ cl (by omega) (by omega) (fun v hvk hl => ?_)))))))
      · by_cases ev : v = k
        · subst ev; exact absurd (hr2.mpr hl) hz
        · exact hv v (by omega) hl
      · by_cases ev : v = k
        · subst ev
          rw [gc_loc, if_neg (by omega), pk_us]
        · have h2 := hv v (by omega) hl
          rw [gc_loc] at h2 ⊢
          by_cases ek : K v = 3
          · rw [if_pos ek] at h2 ⊢; exact h2
          · rw [if_neg ek] at h2 ⊢
            have hv8 := gc_L8 hS hl
            have hkv : K v < 3 := by rcases hK v hv8 with ⟨z, _⟩ | ⟨z, _⟩ <;> omega
            rw [pk_un (hI.1 v k hv8 hlt ev hl (hr2.mp hz) hkv hk3)]
            exact h2
    · rw [e]
      refine br_f (by decide) (And.intro vk (And.intro vk (nm_e (nm_r (nI_1 k) (ih (k + 1) re _ (by omega) (by omega) (fun v hvk hl => ?_))))))
      by_cases ev : v = k
      · subst ev
        rw [gc_loc, if_pos hk3, pk_us]
      · have h2 := hv v (by omega) hl
        rw [gc_loc] at h2 ⊢
        by_cases ek : K v = 3
        · rw [if_pos ek] at h2 ⊢; rw [pk_un ev]; exact h2
        · rw [if_neg ek] at h2 ⊢; exact h2
/-- run on both sides: X ends, and what Y is asked at the end it is asked at the start -/
theorem gx_run {p : Int32} {Yst : SY} (hS : gc_Src L O A B C op fa fb fc ya yc) (hC : ¬ xm = 0 → gc_Cmp L O A B C fb li co on tg lf rt en)
    (hend : ∀ (xm xe r xp xf : Int32) (x k : Nat) (li ri co rm on tg lf rt en re cl pv yv : Nat → Int32), (¬ xm = 0 → gc_Cmp L O A B C fb li co on tg lf rt en) → (∀ q : Int32 → SY → Prop, q r (nI L, nI k, nI x, op, ya, fb, yc, sv, yv, pv) → wpY_run q Yst p) → post r (nI L, xm, xe, xp, xf, r, nI x, nI k, op, fa, fb, fc, sv, li, ri, co, rm, on, tg, lf, rt, en, re, cl, pv)) (hY : Yst = (nI L, yp, ye, op, ya, fb, yc, sv, yv, pv)) : wpX_run post (nI L, xm, xe, xp, xf, xo, xn, xc, op, fa, fb, fc, sv, li, ri, co, rm, on, tg, lf, rt, en, re, cl, pv) p := by
  obtain ⟨M, hM, hP⟩ := gc_clamp p
  unfold wpX_run
  dsimp only
  refine gx_compile hS hC (fun xm xe li ri co rm on tg lf rt en hm hc => ?_)
  dsimp only
  refine hP (fun z => wX_run_27 post z (nI L) xm xe xp xf xo xn xc op fa fb fc sv li ri co rm on tg lf rt en re cl pv) ?_
  obtain ⟨hli, K, hK, hI, hT⟩ := hc
  unfold wX_run_27
  refine ⟨9, gx_r52 hS hli hK hI (fun re cl hv => ?_) 9 0 re cl (by omega) (by omega) (fun v hv => by omega)⟩
  have h0 : en 0 = en 0 := rfl
  have hs := gr_sim (post := post) (xm := xm) (xe := xe) (sv := sv) (li := li) (ri := ri) (rm := rm) (yg := sv) (Z := fun q => wpY_run q Yst p) hS hK hI hT hM (fun r xp xf x k re cl pv yv hz => hend xm xe r xp xf x k li ri co rm on tg lf rt en re cl pv yv (fun _ => ⟨hli, K, hK, hI, hT⟩) hz) M 0 0 0 re cl pv (gc_mix sv yv 8) (Nat.le_refl _) (by omega) (by omega) (fun v hl => by
    rw [hv v hl, gc_mix, if_pos (gc_L8 hS hl)]) (fun q hq => ?_)
  · rw [Nat.zero_min] at hs
    exact gr_mono (by omega) hs
  · obtain ⟨n, hq⟩ := hq
    rw [Nat.sub_self] at hq
    subst hY
    unfold wpY_run
    dsimp only
    refine hP (fun z => ∃ n25 : Nat, wY_run_25 q z (nI L) yp ye n25 0 op ya fb yc sv yv pv) ⟨9, ?_⟩
    have h' := gy_r25 (yp := yp) (ye := ye) hq 9 0 (by omega) (by omega)
    rw [gc_mix0] at h'
    exact h'
end
end
section
/-! the relation; the form of an instruction; the calls that only read -/
/-- the relation at the head of a turn: source, start values, counts and prints are the same; if compiled, the code is the source's -/
def i_Rel (_ : Nat) (u : SX) (v : SY) : Prop := match u with
  | (xl, xm, xe, xp, xf, xo, xn, xc, op, fa, fb, fc, sv, li, ri, co, rm, on, tg, lf, rt, en, re, cl, pv) => match v with
    | (yn, yp, ye, yo, ya, yb, yc, yg, _, yu) => ∃ (L : Nat) (O A B C : Nat → Nat), xl = nI L ∧ yn = nI L ∧ yp = xc ∧ ye = xn ∧ yo = op ∧ yb = fb ∧ yg = sv ∧ yu = pv ∧ gc_Src L O A B C op fa fb fc ya yc ∧ (¬ xm = 0 → gc_Cmp L O A B C fb li co on tg lf rt en)
theorem gc_el {P : SX → SY → Prop} {k : Nat} {u : SX} {v : SY} (h : ∀ (L : Nat) (O A B C : Nat → Nat) (xm xe xp xf xo xn xc : Int32) (op fa fb fc sv li ri co rm on tg lf rt en re cl pv ya yc yv : Nat → Int32), gc_Src L O A B C op fa fb fc ya yc → (¬ xm = 0 → gc_Cmp L O A B C fb li co on tg lf rt en) → P (nI L, xm, xe, xp, xf, xo, xn, xc, op, fa, fb, fc, sv, li, ri, co, rm, on, tg, lf, rt, en, re, cl, pv) (nI L, xc, xn, op, ya, fb, yc, sv, yv, pv)) (I : i_Rel k u v) : P u v := by
  obtain ⟨xl, xm, xe, xp, xf, xo, xn, xc, op, fa, fb, fc, sv, li, ri, co, rm, on, tg, lf, rt, en, re, cl, pv⟩ := u
  obtain ⟨yn, yp, ye, yo, ya, yb, yc, yg, yv, yu⟩ := v
  obtain ⟨L, O, A, B, C, e1, e2, e3, e4, e5, e6, e7, e8, hS, hC⟩ := I
  subst e1 e2 e3 e4 e5 e6 e7 e8
  exact h L O A B C _ _ _ _ _ _ _ _ _ _ _ _ _ _ _ _ _ _ _ _ _ _ _ _ _ _ _ hS hC
section
variable {L k : Nat} {O A B C : Nat → Nat} {xl xm xe xp xf xo xn xc yn yp ye : Int32} {op fa fb fc sv li ri co rm on tg lf rt en re cl pv ya yc yg yv yu : Nat → Int32}
theorem gc_in (hS : gc_Src L O A B C op fa fb fc ya yc) (hC : ¬ xm = 0 → gc_Cmp L O A B C fb li co on tg lf rt en) : i_Rel k (nI L, xm, xe, xp, xf, xo, xn, xc, op, fa, fb, fc, sv, li, ri, co, rm, on, tg, lf, rt, en, re, cl, pv) (nI L, xc, xn, op, ya, fb, yc, sv, yv, pv) := by
  unfold i_Rel
  exact ⟨L, O, A, B, C, rfl, rfl, rfl, rfl, rfl, rfl, rfl, rfl, hS, hC⟩
def gc_W (p : Int32) : Prop := ¬ p < 0 ∧ ¬ 7 < p
def gc_T (p : Int32) : Prop := ¬ p < 0 ∧ ¬ 31 < p
theorem gc_Wn {p : Int32} (h : gc_W p) : p = nI p.toNatClampNeg ∧ p.toNatClampNeg < 8 := by
  obtain ⟨j, hj, e⟩ := nI_of2 (x := p) (M := 7) (n := 7) (by decide) h.1 (Int32.not_lt.mp h.2)
  subst e
  rw [nI_clamp (by omega)]
  exact ⟨rfl, by omega⟩
theorem gc_Tn {p : Int32} (h : gc_T p) : p = nI p.toNatClampNeg ∧ p.toNatClampNeg < 32 := by
  obtain ⟨j, hj, e⟩ := nI_of2 (x := p) (M := 31) (n := 31) (by decide) h.1 (Int32.not_lt.mp h.2)
  subst e
  rw [nI_clamp (by omega)]
  exact ⟨rfl, by omega⟩
theorem gc_4n {p : Int32} (h1 : ¬ p < 1) (h4 : ¬ 4 < p) : p = nI p.toNatClampNeg ∧ 1 ≤ p.toNatClampNeg ∧ p.toNatClampNeg ≤ 4 := by
  have h0 : ¬ p < 0 := fun z => h1 (Int32.lt_trans z (by decide))
  obtain ⟨j, hj, e⟩ := nI_of2 (x := p) (M := 4) (n := 4) (by decide) h0 (Int32.not_lt.mp h4)
  subst e
  rw [nI_clamp (by omega)]
  refine ⟨rfl, ?_, hj⟩
  rcases Nat.lt_or_ge j 1 with z | z
  · exact absurd (nI_lt (b := 1) z (by omega)) h1
  · exact z
theorem gx_isv {post : Int32 → Prop} {p : Int32} (h1 : gc_W p → post 1) (h0 : ¬ gc_W p → post 0) : wpX_isVariable post (xl, xm, xe, xp, xf, xo, xn, xc, op, fa, fb, fc, sv, li, ri, co, rm, on, tg, lf, rt, en, re, cl, pv) p := by
  unfold wpX_isVariable
  exact br_c (fun a => h0 (fun z => z.1 a)) (fun a => br_c (fun b => h0 (fun z => z.2 b)) (fun b => h1 ⟨a, b⟩))
theorem gx_ist {post : Int32 → Prop} {p : Int32} (h1 : gc_T p → post 1) (h0 : ¬ gc_T p → post 0) : wpX_isTarget post (xl, xm, xe, xp, xf, xo, xn, xc, op, fa, fb, fc, sv, li, ri, co, rm, on, tg, lf, rt, en, re, cl, pv) p := by
  unfold wpX_isTarget
  exact br_c (fun a => h0 (fun z => z.1 a)) (fun a => br_c (fun b => h0 (fun z => z.2 b)) (fun b => h1 ⟨a, b⟩))
theorem gy_isv {post : Int32 → Prop} {p : Int32} (h1 : gc_W p → post 1) (h0 : ¬ gc_W p → post 0) : wpY_isVariable post (yn, yp, ye, op, ya, fb, yc, yg, yv, yu) p := by
  unfold wpY_isVariable
  exact br_c (fun a => h0 (fun z => z.1 a)) (fun a => br_c (fun b => h0 (fun z => z.2 b)) (fun b => h1 ⟨a, b⟩))
theorem gy_isp {post : Int32 → Prop} {p : Int32} (h1 : gc_T p → post 1) (h0 : ¬ gc_T p → post 0) : wpY_isPlace post (yn, yp, ye, op, ya, fb, yc, yg, yv, yu) p := by
  unfold wpY_isPlace
  exact br_c (fun a => h0 (fun z => z.1 a)) (fun a => br_c (fun b => h0 (fun z => z.2 b)) (fun b => h1 ⟨a, b⟩))
def gc_V9 (o : Nat) (p3 : Int32) : Prop := o = 9 → ¬ p3 < 1 ∧ ¬ 4 < p3
def gc_V8 (o : Nat) (p2 p3 : Int32) : Prop := (8 ≤ o → gc_T p2) ∧ gc_V9 o p3
def gc_V5 (o : Nat) (p2 p3 : Int32) : Prop := (2 ≤ o → o ≤ 5 → gc_W p3) ∧ gc_V8 o p2 p3
def gc_V1 (o : Nat) (p1 p2 p3 : Int32) : Prop := gc_W p1 ∧ (1 ≤ o → o ≤ 5 → gc_W p2) ∧ gc_V5 o p2 p3
def gc_V (o : Nat) (p1 p2 p3 : Int32) : Prop := o = 10 ∨ (o = 7 ∧ gc_T p1) ∨ (o ≠ 10 ∧ o ≠ 7 ∧ gc_V1 o p1 p2 p3)
theorem gx_f87 {post : Int32 → Prop} {o : Nat} {p3 : Int32} (ho : o ≤ 10) (h1 : gc_V9 o p3 → post 1) (h0 : ¬ gc_V9 o p3 → post 0) : wX_fits_87 post (nI o) p3 xl xm xe xp xf xo xn xc op fa fb fc sv li ri co rm on tg lf rt en re cl pv := by
  unfold wX_fits_87
  exact pk_eq o 9 (fun e => br_c (fun a => h0 (fun z => (z e).1 a)) (fun a => br_c (fun b => h0 (fun z => (z e).2 b)) (fun b => h1 (fun _ => ⟨a, b⟩)))) (fun e => h1 (fun z => absurd z e))
theorem gx_f71 {post : Int32 → Prop} {o : Nat} {p2 p3 : Int32} (ho : o ≤ 10) (h1 : gc_V8 o p2 p3 → post 1) (h0 : ¬ gc_V8 o p2 p3 → post 0) : wX_fits_71 post (nI o) p2 p3 xl xm xe xp xf xo xn xc op fa fb fc sv li ri co rm on tg lf rt en re cl pv := by
  unfold wX_fits_71
  exact pk_lt o 8 (fun a => gx_f87 ho (fun z => h1 ⟨fun b => absurd b (by omega), z⟩) (fun z => h0 (fun y => z y.2)))
    (fun a => gx_ist (fun t => br_f (by decide) (gx_f87 ho (fun z => h1 ⟨fun _ => t, z⟩) (fun z => h0 (fun y => z y.2)))) (fun t => br_t rfl (h0 (fun y => t (y.1 a)))))
theorem gx_f50 {post : Int32 → Prop} {o : Nat} {p2 p3 : Int32} (ho : o ≤ 10) (h1 : gc_V5 o p2 p3 → post 1) (h0 : ¬ gc_V5 o p2 p3 → post 0) : wX_fits_50 post (nI o) p2 p3 xl xm xe xp xf xo xn xc op fa fb fc sv li ri co rm on tg lf rt en re cl pv := by
  unfold wX_fits_50
  exact pk_lt o 2 (fun a => gx_f71 ho (fun z => h1 ⟨fun b => absurd b (by omega), z⟩) (fun z => h0 (fun y => z y.2)))
    (fun a => pk_lt 5 o (fun b => gx_f71 ho (fun z => h1 ⟨fun _ c => absurd c (by omega), z⟩) (fun z => h0 (fun y => z y.2)))
      (fun b => gx_isv (fun t => br_f (by decide) (gx_f71 ho (fun z => h1 ⟨fun _ _ => t, z⟩) (fun z => h0 (fun y => z y.2)))) (fun t => br_t rfl (h0 (fun y => t (y.1 a b))))))
theorem gx_fits {post : Int32 → Prop} {o : Nat} {p1 p2 p3 : Int32} (ho : o ≤ 10) (h1 : gc_V o p1 p2 p3 → post 1) (h0 : ¬ gc_V o p1 p2 p3 → post 0) : wpX_fits post (xl, xm, xe, xp, xf, xo, xn, xc, op, fa, fb, fc, sv, li, ri, co, rm, on, tg, lf, rt, en, re, cl, pv) (nI o) p1 p2 p3 := by
  unfold wpX_fits
  dsimp only
  refine pk_eq o 10 (fun e => h1 (Or.inl e)) (fun e10 => pk_eq o 7 (fun e => ?_) (fun e7 => ?_))
  · exact gx_ist (fun t => And.intro rfl (h1 (Or.inr (Or.inl ⟨e, t⟩)))) (fun t => And.intro rfl (h0 (fun z => by
      rcases z with z | z | z
      · exact e10 z
      · exact t z.2
      · exact z.2.1 e)))
  have h1' : gc_V1 o p1 p2 p3 → post 1 := fun z => h1 (Or.inr (Or.inr ⟨e10, e7, z⟩))
  have h0' : ¬ gc_V1 o p1 p2 p3 → post 0 := fun z => h0 (fun y => by
    rcases y with y | y | y
    · exact e10 y
    · exact e7 y.1
    · exact z y.2.2)
  refine gx_isv (fun t => br_f (by decide) ?_) (fun t => br_t rfl (h0' (fun y => t y.1)))
  exact pk_lt o 1 (fun a => gx_f50 ho (fun z => h1' ⟨t, fun b => absurd b (by omega), z⟩) (fun z => h0' (fun y => z y.2.2)))
    (fun a => pk_lt 5 o (fun b => gx_f50 ho (fun z => h1' ⟨t, fun _ c => absurd c (by omega), z⟩) (fun z => h0' (fun y => z y.2.2)))
      (fun b => gx_isv (fun s => br_f (by decide) (gx_f50 ho (fun z => h1' ⟨t, fun _ _ => s, z⟩) (fun z => h0' (fun y => z y.2.2)))) (fun s => br_t rfl (h0' (fun y => s (y.2.1 a b))))))
theorem gy_f99 {post : Int32 → Prop} {o : Nat} {p3 : Int32} (ho : o ≤ 10) (h1 : gc_V9 o p3 → post 1) (h0 : ¬ gc_V9 o p3 → post 0) : wY_fits_99 post (nI o) p3 yn yp ye op ya fb yc yg yv yu := by
  unfold wY_fits_99
  exact pk_eq o 9 (fun e => br_c (fun a => h0 (fun z => (z e).1 a)) (fun a => br_c (fun b => h0 (fun z => (z e).2 b)) (fun b => h1 (fun _ => ⟨a, b⟩)))) (fun e => h1 (fun z => absurd z e))
theorem gy_f83 {post : Int32 → Prop} {o : Nat} {p2 p3 : Int32} (ho : o ≤ 10) (h1 : gc_V8 o p2 p3 → post 1) (h0 : ¬ gc_V8 o p2 p3 → post 0) : wY_fits_83 post (nI o) p2 p3 yn yp ye op ya fb yc yg yv yu := by
  unfold wY_fits_83
  exact pk_lt o 8 (fun a => gy_f99 ho (fun z => h1 ⟨fun b => absurd b (by omega), z⟩) (fun z => h0 (fun y => z y.2)))
    (fun a => gy_isp (fun t => br_f (by decide) (gy_f99 ho (fun z => h1 ⟨fun _ => t, z⟩) (fun z => h0 (fun y => z y.2)))) (fun t => br_t rfl (h0 (fun y => t (y.1 a)))))
theorem gy_f62 {post : Int32 → Prop} {o : Nat} {p2 p3 : Int32} (ho : o ≤ 10) (h1 : gc_V5 o p2 p3 → post 1) (h0 : ¬ gc_V5 o p2 p3 → post 0) : wY_fits_62 post (nI o) p2 p3 yn yp ye op ya fb yc yg yv yu := by
  unfold wY_fits_62
  exact pk_lt o 2 (fun a => gy_f83 ho (fun z => h1 ⟨fun b => absurd b (by omega), z⟩) (fun z => h0 (fun y => z y.2)))
    (fun a => pk_lt 5 o (fun b => gy_f83 ho (fun z => h1 ⟨fun _ c => absurd c (by omega), z⟩) (fun z => h0 (fun y => z y.2)))
      (fun b => gy_isv (fun t => br_f (by decide) (gy_f83 ho (fun z => h1 ⟨fun _ _ => t, z⟩) (fun z => h0 (fun y => z y.2)))) (fun t => br_t rfl (h0 (fun y => t (y.1 a b))))))
theorem gy_fits {post : Int32 → Prop} {o : Nat} {p1 p2 p3 : Int32} (ho : o ≤ 10) (h1 : gc_V o p1 p2 p3 → post 1) (h0 : ¬ gc_V o p1 p2 p3 → post 0) : wpY_fits post (yn, yp, ye, op, ya, fb, yc, yg, yv, yu) (nI o) p1 p2 p3 := by
  unfold wpY_fits
  dsimp only
  refine br_f (nI_pos (by omega)) (br_t (nI_le (b := 10) ho (by omega)) ?_)
  refine pk_eq o 10 (fun e => h1 (Or.inl e)) (fun e10 => pk_eq o 7 (fun e => ?_) (fun e7 => ?_))
  · exact gy_isp (fun t => And.intro rfl (h1 (Or.inr (Or.inl ⟨e, t⟩)))) (fun t => And.intro rfl (h0 (fun z => by
      rcases z with z | z | z
      · exact e10 z
      · exact t z.2
      · exact z.2.1 e)))
  have h1' : gc_V1 o p1 p2 p3 → post 1 := fun z => h1 (Or.inr (Or.inr ⟨e10, e7, z⟩))
  have h0' : ¬ gc_V1 o p1 p2 p3 → post 0 := fun z => h0 (fun y => by
    rcases y with y | y | y
    · exact e10 y
    · exact e7 y.1
    · exact z y.2.2)
  refine gy_isv (fun t => br_f (by decide) ?_) (fun t => br_t rfl (h0' (fun y => t y.1)))
  exact pk_lt o 1 (fun a => gy_f62 ho (fun z => h1' ⟨t, fun b => absurd b (by omega), z⟩) (fun z => h0' (fun y => z y.2.2)))
    (fun a => pk_lt 5 o (fun b => gy_f62 ho (fun z => h1' ⟨t, fun _ c => absurd c (by omega), z⟩) (fun z => h0' (fun y => z y.2.2)))
      (fun b => gy_isv (fun s => br_f (by decide) (gy_f62 ho (fun z => h1' ⟨t, fun _ _ => s, z⟩) (fun z => h0' (fun y => z y.2.2)))) (fun s => br_t rfl (h0' (fun y => s (y.2.1 a b))))))
/-- a new instruction -/
def gc_put (f : Nat → Nat) (k x : Nat) : Nat → Nat := fun j => if j = k then x else f j
theorem gc_SrcE {o : Nat} {p1 p2 p3 : Int32} (hS : gc_Src L O A B C op fa fb fc ya yc) (hL : L < 32) (ho : o ≤ 10) (hV : gc_V o p1 p2 p3) :
    gc_Src (L + 1) (gc_put O L o) (gc_put A L p1.toNatClampNeg) (gc_put B L p2.toNatClampNeg) (gc_put C L p3.toNatClampNeg) (upd op L (nI o)) (upd fa L (vp_nar .byte p1.toInt8.toInt32)) (upd fb L p2) (upd fc L (vp_nar .byte p3.toInt8.toInt32)) (upd ya L p1) (upd yc L p3) := by
  refine ⟨by omega, fun i hi => ?_⟩
  by_cases e : i = L
  · subst e
    rw [pk_us, pk_us, pk_us, pk_us, pk_us, pk_us, gc_put, gc_put, gc_put, gc_put, if_pos rfl, if_pos rfl, if_pos rfl, if_pos rfl]
    have hW1 : o ≠ 10 → o ≠ 7 → gc_V1 o p1 p2 p3 := fun h10 h7 => by
      rcases hV with z | z | z
      · exact absurd z h10
      · exact absurd z.1 h7
      · exact z.2.2
    have nar : ∀ {p : Int32}, p = nI p.toNatClampNeg → p.toNatClampNeg < 128 → vp_nar .byte p.toInt8.toInt32 = nI p.toNatClampNeg := by
      intro p h1 h2
      have h3 := gb_i8 _ h2
      rw [← h1] at h3
      rw [← h1]
      exact h3
    have hp1 : o ≠ 10 → p1 = nI p1.toNatClampNeg ∧ p1.toNatClampNeg < 32 := fun h10 => by
      by_cases h7 : o = 7
      · rcases hV with z | z | z
        · exact absurd z h10
        · exact gc_Tn z.2
        · exact absurd h7 z.2.1
      · have := gc_Wn (hW1 h10 h7).1
        exact ⟨this.1, by omega⟩
    refine ⟨rfl, ho, fun h10 => ?_, fun h10 h7 => (gc_Wn (hW1 h10 h7).1).2, fun h1 h5 => gc_Wn ((hW1 (by omega) (by omega)).2.1 h1 h5), fun h2 h5 => ?_, fun h89 => gc_Tn ((hW1 (by omega) (by omega)).2.2.2.1 (by omega)), fun h9 => ?_⟩
    · have h := hp1 h10
      exact ⟨nar h.1 (by omega), h.1, h.2⟩
    · have h := gc_Wn ((hW1 (by omega) (by omega)).2.2.1 h2 h5)
      exact ⟨nar h.1 (by omega), h.1, h.2⟩
    · have h := (hW1 (by omega) (by omega)).2.2.2.2 h9
      have h' := gc_4n h.1 h.2
      exact ⟨nar h'.1 (by omega), h'.1, h'.2⟩
  · rw [pk_un e, pk_un e, pk_un e, pk_un e, pk_un e, pk_un e, gc_put, gc_put, gc_put, gc_put, if_neg e, if_neg e, if_neg e, if_neg e]
    exact hS.2 i (by omega)
theorem gy_emitB {q : Int32 → SY → Prop} {p0 p1 p2 p3 : Int32} (hL : L < 32) (hn : p0 < 0 ∨ 10 < p0 ∨ ∃ o, o ≤ 10 ∧ p0 = nI o ∧ ¬ gc_V o p1 p2 p3) (h : q (-1) (nI L, yp, ye, op, ya, fb, yc, yg, yv, yu)) : wpY_emit q (nI L, yp, ye, op, ya, fb, yc, yg, yv, yu) p0 p1 p2 p3 := by
  unfold wpY_emit
  dsimp only
  refine pk_eq L 32 (fun e => by omega) (fun e => ?_)
  rcases hn with z | z | ⟨o, ho, rfl, hV⟩
  · unfold wpY_fits
    exact br_t z (br_t rfl h)
  · unfold wpY_fits
    have h0 : ¬ p0 < 0 := fun y => Int32.lt_irrefl (Int32.lt_trans (Int32.lt_trans z y) (by decide))
    exact br_f h0 (br_f (Int32.not_le.mpr z) (br_t rfl h))
  · exact gy_fits ho (fun y => absurd y hV) (fun _ => br_t rfl h)
theorem gy_emitG {q : Int32 → SY → Prop} {o : Nat} {p1 p2 p3 : Int32} (hL : L < 32) (ho : o ≤ 10) (hV : gc_V o p1 p2 p3) (h : q (nI (L + 1)) (nI (L + 1), yp, ye, upd op L (nI o), upd ya L p1, upd fb L p2, upd yc L p3, yg, yv, yu)) : wpY_emit q (nI L, yp, ye, op, ya, fb, yc, yg, yv, yu) (nI o) p1 p2 p3 := by
  have cL : (nI L).toNatClampNeg = L := nI_clamp (by omega)
  have vL : vp_in (nI L) 32 := vp_in_nI hL (by omega)
  unfold wpY_emit
  dsimp only
  rw [cL]
  refine pk_eq L 32 (fun e => by omega) (fun e => gy_fits ho (fun _ => br_f (by decide) (And.intro vL (nm_e (And.intro vL (nm_e (And.intro vL (nm_e (And.intro vL (nm_e (nm_r (nI_1 L) h)))))))))) (fun y => absurd hV y))
theorem gb_br2 {x : Int32} {P Q : Prop} (u v : Nat) (hu : u < 32) (hv : v < 32) (p : ¬ (bt x u = true ∧ bt x v = true) → P) (q : bt x u = true → bt x v = true → Q) :
    ((((x >>> (nI u &&& 31)) &&& (x >>> (nI v &&& 31))) &&& 1) = 0 → P) ∧ (¬ (((x >>> (nI u &&& 31)) &&& (x >>> (nI v &&& 31))) &&& 1) = 0 → Q) := by
  rw [gb_and1, b_and, b_sshr u hu x (by omega), b_sshr v hv x (by omega), if_pos (by omega), if_pos (by omega)]
  show ((bt x u && bt x v) = false → P) ∧ (¬ (bt x u && bt x v) = false → Q)
  by_cases h : bt x u = true ∧ bt x v = true
  · rw [h.1, h.2]
    exact ⟨fun z => absurd z (by decide), fun _ => q h.1 h.2⟩
  · exact ⟨fun _ => p h, fun z => absurd (by rw [gb_nf, Bool.and_eq_true_iff]; exact h) z⟩
theorem gx_meet24 {post : Int32 → SX → Prop} {u v : Nat} (hL : L ≤ 32) (hu : u < 8) (hv : v < 8) (hli : ∀ i, i < L → ∀ v, bt (li i) v = true ↔ gc_Lv L O A B C v i)
    (h1 : (∃ i, i < L ∧ gc_Lv L O A B C u i ∧ gc_Lv L O A B C v i) → post 1 (nI L, xm, xe, xp, xf, xo, xn, xc, op, fa, fb, fc, sv, li, ri, co, rm, on, tg, lf, rt, en, re, cl, pv)) (h0 : (∀ i, i < L → gc_Lv L O A B C u i → ¬ gc_Lv L O A B C v i) → post 0 (nI L, xm, xe, xp, xf, xo, xn, xc, op, fa, fb, fc, sv, li, ri, co, rm, on, tg, lf, rt, en, re, cl, pv)) :
    ∀ (n i : Nat), L < n + i → i ≤ L → (∀ i', i' < i → gc_Lv L O A B C u i' → ¬ gc_Lv L O A B C v i') → wX_meet_24 post (nI u) (nI v) (nI L) xm xe xp xf xo xn xc op fa fb fc sv li ri co rm on tg lf rt en re cl pv n (nI i) := by
  intro n
  induction n with
  | zero => intro i h1 h2; omega
  | succ n ih =>
    intro i hn hi hx
    rw [wX_meet_24]
    dsimp only
    refine pk_le L i (fun hle => h0 (fun i' hi' => hx i' (by omega))) (fun hlt => ?_)
    have vi : vp_in (nI i) 32 := vp_in_nI (by omega) (by omega)
    rw [nI_clamp (by omega)]
    refine And.intro vi (And.intro vi (gb_br2 u v (by omega) (by omega) (fun z => nm_r (nI_1 i) (ih (i + 1) (by omega) (by omega) (fun i' hi' hl1 hl2 => ?_))) (fun z1 z2 => h1 ⟨i, hlt, (hli i hlt u).mp z1, (hli i hlt v).mp z2⟩)))
    by_cases e : i' = i
    · subst e
      exact z ⟨(hli i' hlt u).mpr hl1, (hli i' hlt v).mpr hl2⟩
    · exact hx i' (by omega) hl1 hl2
end
end
section
/-! what is owed -/
theorem i_up {k : Nat} {u : SX} {v : SY} (h : i_Rel k u v) : i_Rel (k + 5) u v :=
  gc_el (P := fun u v => i_Rel (k + 5) u v) (fun L O A B C xm xe xp xf xo xn xc op fa fb fc sv li ri co rm on tg lf rt en re cl pv ya yc yv hS hC => gc_in hS hC) h
theorem i_vc0 : wpX_init (fun u => wpY_init (fun v => i_Rel 0 u v)) := by
  unfold wpX_init wpY_init
  exact gc_in (L := 0) (O := fun _ => 0) (A := fun _ => 0) (B := fun _ => 0) (C := fun _ => 0) ⟨by omega, fun i hi => by omega⟩ (fun z => absurd rfl z)
theorem i_vc_emit {k : Nat} {u : SX} {v : SY} (I : i_Rel k u v) (hk : k + 5 ≤ 2560) (v1 : Int32) (v2 : Int32) (v3 : Int32) (v4 : Int32) : wpX_emit (fun r u' => wpY_emit (fun r' v' => r' = r ∧ i_Rel (k + 5) u' v') v v1 v2 v3 v4) u v1 v2 v3 v4 := by
  refine gc_el (P := fun u v => wpX_emit (fun r u' => wpY_emit (fun r' v' => r' = r ∧ i_Rel (k + 5) u' v') v v1 v2 v3 v4) u v1 v2 v3 v4) ?_ I
  intro L O A B C xm xe xp xf xo xn xc op fa fb fc sv li ri co rm on tg lf rt en re cl pv ya yc yv hS hC
  have hL := hS.1
  unfold wpX_emit
  dsimp only
  refine pk_lt L 32 (fun h32 => ?_) (fun h32 => ?_)
  · by_cases h0 : v1 < 0
    · exact br_t h0 (gy_emitB h32 (Or.inl h0) ⟨rfl, gc_in hS hC⟩)
    refine br_f h0 ?_
    by_cases h10 : 10 < v1
    · exact br_t h10 (gy_emitB h32 (Or.inr (Or.inl h10)) ⟨rfl, gc_in hS hC⟩)
    refine br_f h10 ?_
    obtain ⟨o, ho, rfl⟩ := nI_of2 (x := v1) (M := 10) (n := 10) (by decide) h0 (Int32.not_lt.mp h10)
    refine gx_fits ho (fun hV => br_f (by decide) ?_) (fun hV => br_t rfl (gy_emitB h32 (Or.inr (Or.inr ⟨o, ho, rfl, hV⟩)) ⟨rfl, gc_in hS hC⟩))
    have vL : vp_in (nI L) 32 := vp_in_nI h32 (by omega)
    rw [nI_clamp (by omega), gb_i8 o (by omega)]
    refine And.intro vL (nm_e (And.intro vL (nm_e (And.intro vL (nm_e (And.intro vL (nm_e (nm_r (nI_1 L) ?_))))))))
    exact gy_emitG h32 ho hV ⟨rfl, gc_in (gc_SrcE hS h32 ho hV) (fun z => absurd rfl z)⟩
  · have e : L = 32 := by omega
    unfold wpY_emit
    dsimp only
    exact pk_eq L 32 (fun _ => ⟨rfl, gc_in hS hC⟩) (fun z => absurd e z)
theorem i_vc_retract {k : Nat} {u : SX} {v : SY} (I : i_Rel k u v) (hk : k + 5 ≤ 2560) : wpX_retract (fun r u' => wpY_retract (fun r' v' => r' = r ∧ i_Rel (k + 5) u' v') v) u := by
  refine gc_el (P := fun u v => wpX_retract (fun r u' => wpY_retract (fun r' v' => r' = r ∧ i_Rel (k + 5) u' v') v) u) ?_ I
  intro L O A B C xm xe xp xf xo xn xc op fa fb fc sv li ri co rm on tg lf rt en re cl pv ya yc yv hS hC
  have hL := hS.1
  unfold wpX_retract wpY_retract
  dsimp only
  refine pk_eq L 0 (fun e => pk_eq L 0 (fun _ => ⟨rfl, gc_in hS hC⟩) (fun z => absurd e z)) (fun e => ?_)
  obtain ⟨M, rfl⟩ : ∃ M, L = M + 1 := ⟨L - 1, by omega⟩
  refine nm_r (nI_pred M) (pk_eq (M + 1) 0 (fun z => absurd z e) (fun _ => nm_r (nI_pred M) ⟨rfl, gc_in (L := M) (O := O) (A := A) (B := B) (C := C) ⟨by omega, fun i hi => hS.2 i (by omega)⟩ (fun z => absurd rfl z)⟩))
theorem i_vc_start {k : Nat} {u : SX} {v : SY} (I : i_Rel k u v) (hk : k + 5 ≤ 2560) (v1 : Int32) (v2 : Int32) : wpX_start (fun r u' => wpY_start (fun r' v' => r' = r ∧ i_Rel (k + 5) u' v') v v1 v2) u v1 v2 := by
  refine gc_el (P := fun u v => wpX_start (fun r u' => wpY_start (fun r' v' => r' = r ∧ i_Rel (k + 5) u' v') v v1 v2) u v1 v2) ?_ I
  intro L O A B C xm xe xp xf xo xn xc op fa fb fc sv li ri co rm on tg lf rt en re cl pv ya yc yv hS hC
  unfold wpX_start wpY_start
  dsimp only
  refine gx_isv (fun h => br_f (by decide) ?_) (fun h => br_t rfl (gy_isv (fun z => absurd z h) (fun _ => br_t rfl ⟨rfl, gc_in hS hC⟩)))
  obtain ⟨e, h8⟩ := gc_Wn h
  have vv : vp_in v1 8 := by rw [e]; exact vp_in_nI h8 (by omega)
  exact And.intro vv (nm_e (gy_isv (fun _ => br_f (by decide) (And.intro vv (nm_e ⟨rfl, gc_in hS hC⟩))) (fun z => absurd h z)))
theorem i_vc_run {k : Nat} {u : SX} {v : SY} (I : i_Rel k u v) (hk : k + 5 ≤ 2560) (v1 : Int32) : wpX_run (fun r u' => wpY_run (fun r' v' => r' = r ∧ i_Rel (k + 5) u' v') v v1) u v1 := by
  refine gc_el (P := fun u v => wpX_run (fun r u' => wpY_run (fun r' v' => r' = r ∧ i_Rel (k + 5) u' v') v v1) u v1) ?_ I
  intro L O A B C xm xe xp xf xo xn xc op fa fb fc sv li ri co rm on tg lf rt en re cl pv ya yc yv hS hC
  exact gx_run hS hC (fun xm xe r xp xf x k' li ri co rm on tg lf rt en re cl pv yv hC' hz => hz _ ⟨rfl, gc_in hS hC'⟩) rfl
theorem i_vc_executed {k : Nat} {u : SX} {v : SY} (I : i_Rel k u v) (hk : k + 5 ≤ 2560) : wpX_executed (fun r => wpY_executed (fun r' => r' = r ∧ i_Rel (k + 5) u v) v) u := by
  refine gc_el (P := fun u v => wpX_executed (fun r => wpY_executed (fun r' => r' = r ∧ i_Rel (k + 5) u v) v) u) ?_ I
  intro L O A B C xm xe xp xf xo xn xc op fa fb fc sv li ri co rm on tg lf rt en re cl pv ya yc yv hS hC
  unfold wpX_executed wpY_executed
  exact ⟨rfl, gc_in hS hC⟩
theorem i_vc_printed {k : Nat} {u : SX} {v : SY} (I : i_Rel k u v) (hk : k + 5 ≤ 2560) : wpX_printed (fun r => wpY_printed (fun r' => r' = r ∧ i_Rel (k + 5) u v) v) u := by
  refine gc_el (P := fun u v => wpX_printed (fun r => wpY_printed (fun r' => r' = r ∧ i_Rel (k + 5) u v) v) u) ?_ I
  intro L O A B C xm xe xp xf xo xn xc op fa fb fc sv li ri co rm on tg lf rt en re cl pv ya yc yv hS hC
  unfold wpX_printed wpY_printed
  exact ⟨rfl, gc_in hS hC⟩
theorem i_vc_output {k : Nat} {u : SX} {v : SY} (I : i_Rel k u v) (hk : k + 5 ≤ 2560) (v1 : Int32) : wpX_output (fun r => wpY_output (fun r' => r' = r ∧ i_Rel (k + 5) u v) v v1) u v1 := by
  refine gc_el (P := fun u v => wpX_output (fun r => wpY_output (fun r' => r' = r ∧ i_Rel (k + 5) u v) v v1) u v1) ?_ I
  intro L O A B C xm xe xp xf xo xn xc op fa fb fc sv li ri co rm on tg lf rt en re cl pv ya yc yv hS hC
  unfold wpX_output wpY_output
  dsimp only
  refine br_c (fun a => br_t a ⟨rfl, gc_in hS hC⟩) (fun a => br_c (fun b => br_f a (br_t b ⟨rfl, gc_in hS hC⟩)) (fun b => br_c (fun c => ?_) (fun c => br_f a (br_f b (br_t (Int32.not_lt.mp c) ⟨rfl, gc_in hS hC⟩)))))
  obtain ⟨j, hj, rfl⟩ := nI_of a
  have hj32 : j < 32 := (nI_ltI (b := 32) hj (by omega)).mp c
  have vv : vp_in (nI j) 32 := vp_in_nI hj32 (by omega)
  exact And.intro vv (br_f a (br_f b (br_f (Int32.not_le.mpr c) (And.intro vv ⟨rfl, gc_in hS hC⟩))))
theorem i_vc_live {k : Nat} {u : SX} {v : SY} (I : i_Rel k u v) (hk : k + 5 ≤ 2560) (v1 : Int32) : wpX_live (fun r u' => wpY_live (fun r' => r' = r ∧ i_Rel (k + 5) u' v) v v1) u v1 := by
  refine gc_el (P := fun u v => wpX_live (fun r u' => wpY_live (fun r' => r' = r ∧ i_Rel (k + 5) u' v) v v1) u v1) ?_ I
  intro L O A B C xm xe xp xf xo xn xc op fa fb fc sv li ri co rm on tg lf rt en re cl pv ya yc yv hS hC
  have hL := hS.1
  have out : (v1 < 0 ∨ nI L ≤ v1) → wpY_live (fun r' => r' = 0 ∧ i_Rel (k + 5) (nI L, xm, xe, xp, xf, xo, xn, xc, op, fa, fb, fc, sv, li, ri, co, rm, on, tg, lf, rt, en, re, cl, pv) (nI L, xc, xn, op, ya, fb, yc, sv, yv, pv)) (nI L, xc, xn, op, ya, fb, yc, sv, yv, pv) v1 := by
    intro h
    unfold wpY_live
    exact ⟨9, gy_live0 h ⟨rfl, gc_in hS hC⟩ 9 0 (by omega) (by omega)⟩
  unfold wpX_live
  dsimp only
  refine br_c (fun a => out (Or.inl a)) (fun a => ?_)
  obtain ⟨i, hi, rfl⟩ := nI_of a
  refine pk_lt i L (fun hlt => ?_) (fun hle => out (Or.inr (nI_le hle hi))) rfl rfl hi (by omega)
  refine gx_compile hS hC (fun xm xe li ri co rm on tg lf rt en hm hc => ?_)
  dsimp only
  refine And.intro (vp_in_nI (by omega) (by omega)) (gy_live hS hlt (fun r hr => ⟨?_, gc_in hS (fun _ => hc)⟩))
  rw [nI_clamp (by omega)]
  refine gb_eq (fun v => ?_)
  rw [hr, hc.1 i hlt]
theorem i_vc_meet {k : Nat} {u : SX} {v : SY} (I : i_Rel k u v) (hk : k + 5 ≤ 2560) (v1 : Int32) (v2 : Int32) : wpX_meet (fun r u' => wpY_meet (fun r' => r' = r ∧ i_Rel (k + 5) u' v) v v1 v2) u v1 v2 := by
  refine gc_el (P := fun u v => wpX_meet (fun r u' => wpY_meet (fun r' => r' = r ∧ i_Rel (k + 5) u' v) v v1 v2) u v1 v2) ?_ I
  intro L O A B C xm xe xp xf xo xn xc op fa fb fc sv li ri co rm on tg lf rt en re cl pv ya yc yv hS hC
  have hL := hS.1
  unfold wpX_meet wpY_meet
  dsimp only
  refine gx_isv (fun h1 => br_f (by decide) ?_) (fun h1 => br_t rfl (gy_isv (fun z => absurd z h1) (fun _ => br_t rfl ⟨rfl, gc_in hS hC⟩)))
  refine gx_isv (fun h2 => br_f (by decide) ?_) (fun h2 => br_t rfl (gy_isv (fun _ => br_f (by decide) (gy_isv (fun z => absurd z h2) (fun _ => br_t rfl ⟨rfl, gc_in hS hC⟩))) (fun z => absurd h1 z)))
  obtain ⟨e1, w1⟩ := gc_Wn h1
  obtain ⟨e2, w2⟩ := gc_Wn h2
  refine gx_compile hS hC (fun xm xe li ri co rm on tg lf rt en hm hc => ?_)
  dsimp only
  have fin : ∀ (r : Int32) (Y1 : Int32 → Prop), (∃ n20 : Nat, wY_meet_20 Y1 v1 v2 (nI L) xc xn op ya fb yc sv yv pv n20 0) → wpY_isVariable (fun r_1 => (r_1 = 0 → Y1 0) ∧ (¬ r_1 = 0 → wpY_isVariable (fun r_13 => (r_13 = 0 → Y1 0) ∧ (¬ r_13 = 0 → ∃ n20 : Nat, wY_meet_20 Y1 v1 v2 (nI L) xc xn op ya fb yc sv yv pv n20 0)) (nI L, xc, xn, op, ya, fb, yc, sv, yv, pv) v2)) (nI L, xc, xn, op, ya, fb, yc, sv, yv, pv) v1 :=
    fun r Y1 hz => gy_isv (fun _ => br_f (by decide) (gy_isv (fun _ => br_f (by decide) hz) (fun z => absurd h2 z))) (fun z => absurd h1 z)
  have rel : i_Rel (k + 5) (nI L, xm, xe, xp, xf, xo, xn, xc, op, fa, fb, fc, sv, li, ri, co, rm, on, tg, lf, rt, en, re, cl, pv) (nI L, xc, xn, op, ya, fb, yc, sv, yv, pv) := gc_in hS (fun _ => hc)
  rw [e1, e2] at fin ⊢
  refine ⟨L + 1, gx_meet24 hL w1 w2 hc.1 (fun hx => fin 1 (fun r' => r' = 1 ∧ i_Rel (k + 5) (nI L, xm, xe, xp, xf, xo, xn, xc, op, fa, fb, fc, sv, li, ri, co, rm, on, tg, lf, rt, en, re, cl, pv) (nI L, xc, xn, op, ya, fb, yc, sv, yv, pv)) ⟨L + 1, ?_⟩) (fun hx => fin 0 (fun r' => r' = 0 ∧ i_Rel (k + 5) (nI L, xm, xe, xp, xf, xo, xn, xc, op, fa, fb, fc, sv, li, ri, co, rm, on, tg, lf, rt, en, re, cl, pv) (nI L, xc, xn, op, ya, fb, yc, sv, yv, pv)) ⟨L + 1, ?_⟩) (L + 1) 0 (by omega) (by omega) (fun i' hi' => by omega)⟩
  · refine gy_meet20 hS w1 w2 (fun _ => ⟨rfl, rel⟩) (fun z => ?_) (L + 1) 0 (by omega) (by omega) (fun i' hi' => by omega)
    obtain ⟨i, a, b, c⟩ := hx
    exact absurd c (z i a b)
  · refine gy_meet20 hS w1 w2 (fun z => ?_) (fun _ => ⟨rfl, rel⟩) (L + 1) 0 (by omega) (by omega) (fun i' hi' => by omega)
    obtain ⟨i, a, b, c⟩ := z
    exact absurd c (hx i a b)
end
