section
/-! pure rows to paste: stores, nI and lN arithmetic, masks, shifts, narrowing, branches by naturals (pk_le, pk_lt, pk_eq), loops (lp1 .. lp16: the measure of the state; rp1 ..: recursion), negatives. Take what you need -/
theorem pk_us {f : Nat → Int32} {k : Nat} {x : Int32} : upd f k x k = x := if_pos rfl
theorem pk_un {f : Nat → Int32} {k j : Nat} {x : Int32} (h : j ≠ k) : upd f k x j = f j := if_neg h
theorem pk_uLs {f : Nat → Int64} {k : Nat} {x : Int64} : vp_updL f k x k = x := if_pos rfl
theorem pk_uLn {f : Nat → Int64} {k j : Nat} {x : Int64} (h : j ≠ k) : vp_updL f k x j = f j := if_neg h
theorem pk_sub {a b : Nat} (h : b ≤ a) : nI a - nI b = nI (a - b) := by
  obtain ⟨c, rfl⟩ : ∃ c, a = c + b := ⟨a - b, by omega⟩
  rw [← nI_add, Int32.add_sub_cancel, Nat.add_sub_cancel]
theorem pk_m1 (n : Nat) : nI (n + 1) + (-1) = nI n := by
  rw [← nI_1, Int32.add_assoc, show (1 : Int32) + (-1) = 0 from rfl, Int32.add_zero]
theorem pk_mul (a b : Nat) : nI a * nI b = nI (a * b) := (Int32.ofNat_mul a b).symm
theorem pk_div {a d : Nat} (ha : a < 2 ^ 31) (h0 : 0 < d) (hd : d < 2 ^ 31) : nI a / nI d = nI (a / d) := by
  apply Int32.toInt_inj.mp
  rw [lg_idiv_nonneg (by rw [nI_toInt ha]; omega) (by rw [nI_toInt hd]; omega), nI_toInt ha, nI_toInt hd, nI_toInt (Nat.lt_of_le_of_lt (Nat.div_le_self a d) ha)]
  first | rfl | exact (Int.natCast_ediv _ _).symm
theorem pk_rem {a d : Nat} (ha : a < 2 ^ 31) (h0 : 0 < d) (hd : d < 2 ^ 31) : nI a - nI a / nI d * nI d = nI (a % d) := by
  rw [pk_div ha h0 hd, pk_mul, pk_sub (Nat.div_mul_le_self a d)]
  exact congrArg nI (by have := Nat.div_add_mod' a d; omega)
theorem pk_sub_toInt {a b : Nat} (ha : a < 2 ^ 30) (hb : b < 2 ^ 30) : (nI a - nI b).toInt = (a : Int) - b := by
  rw [Int32.toInt_sub, nI_toInt (by omega), nI_toInt (by omega)]
  exact Int.bmod_eq_of_le (by omega) (by omega)
theorem pk_sneg {a b : Nat} (hb : b < 2 ^ 30) (h : a < b) : nI a - nI b < 0 := by
  rw [Int32.lt_iff_toInt_lt, pk_sub_toInt (by omega) hb, show (0 : Int32).toInt = 0 from by decide]
  omega
theorem pk_ix (x : Int32) {n : Nat} (hn : n < 2 ^ 31) : x < 0 ∨ nI n ≤ x ∨ ∃ j : Nat, j < n ∧ x = nI j := by
  by_cases h : x < 0
  · exact Or.inl h
  · obtain ⟨j, hj, rfl⟩ := nI_of h
    by_cases h2 : j < n
    · exact Or.inr (Or.inr ⟨j, h2, rfl⟩)
    · exact Or.inr (Or.inl (nI_le (by omega) hj))
theorem pk_le {x y : Int32} {A B : Prop} (a b : Nat) (f : a ≤ b → A) (g : b < a → B) (hx : x = nI a := by rfl) (hy : y = nI b := by rfl) (ha : a < 2 ^ 31 := by omega) (hb : b < 2 ^ 31 := by omega) : (x ≤ y → A) ∧ (¬ x ≤ y → B) := by
  subst hx hy
  rw [nI_leI ha hb]
  exact ⟨f, fun z => g (by omega)⟩
theorem pk_lt {x y : Int32} {A B : Prop} (a b : Nat) (f : a < b → A) (g : b ≤ a → B) (hx : x = nI a := by rfl) (hy : y = nI b := by rfl) (ha : a < 2 ^ 31 := by omega) (hb : b < 2 ^ 31 := by omega) : (x < y → A) ∧ (¬ x < y → B) := by
  subst hx hy
  rw [nI_ltI ha hb]
  exact ⟨f, fun z => g (by omega)⟩
theorem pk_eq {x y : Int32} {A B : Prop} (a b : Nat) (f : a = b → A) (g : a ≠ b → B) (hx : x = nI a := by rfl) (hy : y = nI b := by rfl) (ha : a < 2 ^ 31 := by omega) (hb : b < 2 ^ 31 := by omega) : (x = y → A) ∧ (¬ x = y → B) := by
  subst hx hy
  rw [nI_eq ha hb]
  exact ⟨f, g⟩
theorem pk_in {x : Int32} (n N : Nat) (h : n < N) (hx : x = nI n := by rfl) (hN : N < 2 ^ 31 := by omega) : vp_in x N := by
  subst hx
  exact vp_in_nI h hN
theorem pk_cl {x : Int32} (n : Nat) (hx : x = nI n := by rfl) (h : n < 2 ^ 31 := by omega) : x.toNatClampNeg = n := by
  subst hx
  exact nI_clamp h
theorem pk_tn {n : Nat} (h : n < 2 ^ 32) : (nI n).toBitVec.toNat = n := Nat.mod_eq_of_lt h
theorem pk_and (x : Int32) {m : Int32} (k : Nat) (hm : m.toBitVec.toNat = 2 ^ k - 1) : x &&& m = nI (x.toBitVec.toNat % 2 ^ k) := by
  apply Int32.toBitVec_inj.mp
  apply BitVec.eq_of_toNat_eq
  rw [Int32.toBitVec_and, BitVec.toNat_and, hm, Nat.and_two_pow_sub_one_eq_mod]
  show _ = (BitVec.ofNat 32 _).toNat
  rw [BitVec.toNat_ofNat]
  exact (Nat.mod_eq_of_lt (Nat.lt_of_le_of_lt (Nat.mod_le _ _) x.toBitVec.isLt)).symm
theorem pk_andN {n : Nat} (h : n < 2 ^ 32) {m : Int32} (k : Nat) (hm : m.toBitVec.toNat = 2 ^ k - 1) : nI n &&& m = nI (n % 2 ^ k) := by
  rw [pk_and _ k hm, pk_tn h]
theorem pk_andE (x : Int32) {m : Int32} (k : Nat) (hm : m.toBitVec.toNat = 2 ^ k - 1) : ∃ j : Nat, j < 2 ^ k ∧ x &&& m = nI j := ⟨_, Nat.mod_lt _ (Nat.two_pow_pos k), pk_and x k hm⟩
theorem pk_andIn (x : Int32) {m : Int32} (k : Nat) (hm : m.toBitVec.toNat = 2 ^ k - 1) (hk : k ≤ 30) : vp_in (x &&& m) (2 ^ k) := by
  obtain ⟨j, hj, e⟩ := pk_andE x k hm
  rw [e]
  exact vp_in_nI hj (Nat.lt_of_le_of_lt (Nat.pow_le_pow_right (by decide) hk) (by decide))
theorem pk_shl (a s : Int32) (k : Nat) (hs : (s.toBitVec.smod 32).toNat = k) : (a <<< s).toBitVec.toNat = a.toBitVec.toNat * 2 ^ k % 2 ^ 32 := by
  show (a.toBitVec <<< (s.toBitVec.smod 32).toNat).toNat = _
  rw [hs, BitVec.toNat_shiftLeft, Nat.shiftLeft_eq]
theorem pk_shlN {n : Nat} (s : Int32) (k : Nat) (hs : (s.toBitVec.smod 32).toNat = k) (h : n * 2 ^ k < 2 ^ 32) : nI n <<< s = nI (n * 2 ^ k) := by
  apply Int32.toBitVec_inj.mp
  apply BitVec.eq_of_toNat_eq
  have hn : n < 2 ^ 32 := Nat.lt_of_le_of_lt (Nat.le_mul_of_pos_right n (Nat.two_pow_pos k)) h
  rw [pk_shl _ _ k hs, pk_tn hn, pk_tn h, Nat.mod_eq_of_lt h]
theorem pk_shr (a s : Int32) (k : Nat) (hs : (s.toBitVec.smod 32).toNat = k) : (a >>> s).toInt = a.toInt >>> k := by
  show (a.toBitVec.sshiftRight (s.toBitVec.smod 32).toNat).toInt = _
  rw [hs, BitVec.toInt_sshiftRight]
  rfl
theorem pk_shrN {n : Nat} (h : n < 2 ^ 31) (s : Int32) (k : Nat) (hs : (s.toBitVec.smod 32).toNat = k) : nI n >>> s = nI (n / 2 ^ k) := by
  apply Int32.toInt_inj.mp
  have h2 : n / 2 ^ k ≤ n := Nat.div_le_self _ _
  rw [pk_shr _ _ k hs, nI_toInt h, nI_toInt (by omega), Int.shiftRight_eq_div_pow]
  rfl
theorem pk_ushr (x s : Int32) (k : Nat) (hs : ((s.toUInt32 &&& Int32.toUInt32 31).toBitVec % 32).toNat = k) : (x.toUInt32 >>> (s.toUInt32 &&& Int32.toUInt32 31)).toInt32.toBitVec.toNat = x.toBitVec.toNat / 2 ^ k := by
  have e : (x.toUInt32 >>> (s.toUInt32 &&& Int32.toUInt32 31)).toInt32.toBitVec = x.toBitVec >>> k := by
    rw [← hs]
    exact UInt32.toBitVec_shiftRight _ _
  rw [e, BitVec.toNat_ushiftRight, Nat.shiftRight_eq_div_pow]
theorem pk_ushrN {n : Nat} (hn : n < 2 ^ 32) (s : Int32) (k : Nat) (hs : ((s.toUInt32 &&& Int32.toUInt32 31).toBitVec % 32).toNat = k) : ((nI n).toUInt32 >>> (s.toUInt32 &&& Int32.toUInt32 31)).toInt32 = nI (n / 2 ^ k) := by
  apply Int32.toBitVec_inj.mp
  apply BitVec.eq_of_toNat_eq
  rw [pk_ushr _ s k hs, pk_tn hn, pk_tn (Nat.lt_of_le_of_lt (Nat.div_le_self _ _) hn)]
theorem pk_nb (z : Int32) : narrow .byte (.int z.toInt8.toInt32) = .int z.toInt8.toInt32 := congrArg Value.int (by simp)
theorem pk_ns (z : Int32) : narrow .short (.int z.toInt16.toInt32) = .int z.toInt16.toInt32 := congrArg Value.int (by simp)
theorem pk_fb (r : Int32) : fits .byte (.int r.toInt8.toInt32) = true := by
  have ⟨a, b⟩ := lg_i2b_range r
  have h1 : (-128 : Int32).toInt = -128 := by decide
  have h2 : (127 : Int32).toInt = 127 := by decide
  simp only [fits, Bool.and_eq_true, decide_eq_true_eq, Int32.le_iff_toInt_le, h1, h2]
  omega
theorem pk_fs (r : Int32) : fits .short (.int r.toInt16.toInt32) = true := by
  have ⟨a, b⟩ := lg_i2s_range r
  have h1 : (-32768 : Int32).toInt = -32768 := by decide
  have h2 : (32767 : Int32).toInt = 32767 := by decide
  simp only [fits, Bool.and_eq_true, decide_eq_true_eq, Int32.le_iff_toInt_le, h1, h2]
  omega
theorem pk_charN {q : Nat} (hq : q < 65536) : narrow .char (.int (nI q)) = .int (nI q) ∧ fits .char (.int (nI q)) = true := by
  constructor
  · have e : (nI q).toUInt32.toUInt16.toUInt32.toInt32 = nI q := by
      apply Int32.toBitVec_inj.mp
      apply BitVec.eq_of_toNat_eq
      show (nI q).toUInt32.toUInt16.toUInt32.toNat = q % 2 ^ 32
      rw [UInt16.toNat_toUInt32, UInt32.toNat_toUInt16, show (nI q).toUInt32.toNat = q % 2 ^ 32 from rfl]
      omega
    exact congrArg Value.int e
  · have a : (0 : Int32) ≤ nI q := nI_pos' (by omega)
    have b : nI q ≤ 65535 := nI_le (b := 65535) (by omega) (by decide)
    show (decide ((0 : Int32) ≤ nI q) && decide (nI q ≤ 65535)) = true
    rw [decide_eq_true a, decide_eq_true b]
    rfl
theorem pk_char (x : Int32) : (x.toUInt32 % 65536).toInt32 = nI (x.toBitVec.toNat % 65536) := by
  apply Int32.toBitVec_inj.mp
  apply BitVec.eq_of_toNat_eq
  rw [pk_tn (by omega)]
  show (x.toUInt32 % 65536).toNat = _
  rw [UInt32.toNat_mod]
  rfl
theorem pk_nc (x : Int32) : narrow .char (.int (x.toUInt32 % 65536).toInt32) = .int (x.toUInt32 % 65536).toInt32 := by
  rw [pk_char]
  exact (pk_charN (Nat.mod_lt _ (by decide))).1
theorem pk_fc (x : Int32) : fits .char (.int (x.toUInt32 % 65536).toInt32) = true := by
  rw [pk_char]
  exact (pk_charN (Nat.mod_lt _ (by decide))).2
theorem pk_vb (z : Int32) : vp_nar .byte z.toInt8.toInt32 = z.toInt8.toInt32 := by rw [vp_nar_byte]; simp
theorem pk_vs (z : Int32) : vp_nar .short z.toInt16.toInt32 = z.toInt16.toInt32 := by rw [vp_nar_short]; simp
theorem pk_vc (z : Int32) : vp_nar .char (z.toUInt32 % 65536).toInt32 = (z.toUInt32 % 65536).toInt32 := Value.int.inj (pk_nc z)
theorem pk_lT {n : Nat} (h : n < 2 ^ 63) : (lN n).toInt = (n : Int) := lg_ofNat_toInt h
theorem pk_lLT {a b : Nat} (ha : a < 2 ^ 63) (hb : b < 2 ^ 63) : lN a < lN b ↔ a < b := by
  rw [Int64.lt_iff_toInt_lt, pk_lT ha, pk_lT hb]; omega
theorem pk_lLE {a b : Nat} (ha : a < 2 ^ 63) (hb : b < 2 ^ 63) : lN a ≤ lN b ↔ a ≤ b := by
  rw [Int64.le_iff_toInt_le, pk_lT ha, pk_lT hb]; omega
theorem pk_lEQ {a b : Nat} (ha : a < 2 ^ 63) (hb : b < 2 ^ 63) : lN a = lN b ↔ a = b := by
  rw [← Int64.toInt_inj, pk_lT ha, pk_lT hb]; omega
theorem pk_lOf {x : Int64} (h : ¬ x < 0) : ∃ k : Nat, k < 2 ^ 63 ∧ x = lN k := by
  rw [Int64.lt_iff_toInt_lt] at h
  have h0 : (0 : Int64).toInt = 0 := by decide
  have hx := Int64.toInt_lt x
  refine ⟨x.toInt.toNat, by omega, Int64.toInt_inj.mp ?_⟩
  rw [pk_lT (by omega)]
  omega
theorem pk_lDiv {a b : Nat} (ha : a < 2 ^ 63) (h0 : 0 < b) (hb : b < 2 ^ 63) : lN a / lN b = lN (a / b) := by
  apply Int64.toInt_inj.mp
  rw [lg_ldiv_nonneg (by rw [pk_lT ha]; omega) (by rw [pk_lT hb]; omega), pk_lT ha, pk_lT hb, pk_lT (Nat.lt_of_le_of_lt (Nat.div_le_self a b) ha)]
  rfl
theorem pk_lRem {a b : Nat} (ha : a < 2 ^ 63) (h0 : 0 < b) (hb : b < 2 ^ 63) : lN a - lN a / lN b * lN b = lN (a % b) := by
  rw [pk_lDiv ha h0 hb, lN_mul, lN_sub (Nat.div_mul_le_self a b)]
  exact congrArg lN (by have := Nat.div_add_mod' a b; omega)
theorem pk_loop {σ : Type} (W : Nat → Nat → σ → Prop) (I : Nat → σ → Prop) (e i0 : Nat) (s : σ) (hi : i0 ≤ e) (h0 : I i0 s) (hx : ∀ n s, I e s → W (n + 1) e s)
    (hs : ∀ n i s, i < e → I i s → (∀ s', I (i + 1) s' → W n (i + 1) s') → W (n + 1) i s) : ∃ n, W n i0 s :=
  ⟨e + 1, loop_i W I e hx hs (e + 1) i0 s hi (by omega) h0⟩
theorem pk_loopD {σ : Type} (W : Nat → Nat → σ → Prop) (I : Nat → σ → Prop) (hx : ∀ n s, I 0 s → W (n + 1) 0 s)
    (hs : ∀ n i s, I (i + 1) s → (∀ s', I i s' → W n i s') → W (n + 1) (i + 1) s) : ∀ (e : Nat) (s : σ), I e s → W (e + 1) e s := by
  intro e
  induction e with
  | zero => exact fun s h => hx 0 s h
  | succ e ih => exact fun s h => hs (e + 1) e s h (fun s' h' => ih s' h')
theorem lp1 {A1 : Type} (W : Nat → A1 → Prop) (I : A1 → Prop) (μ : A1 → Nat) (hs : ∀ (n : Nat) (a1 : A1), I a1 → (∀ (b1 : A1), I b1 → μ b1 < μ a1 → W n b1) → W (n + 1) a1) (a1 : A1) (h : I a1) : ∃ n, W n a1 :=
  loop_m (σ := A1) (fun n s => W n s) (fun s => I s) (fun s => μ s) (fun n s hI hk => hs n s hI (fun b1 h9 hm => hk b1 h9 hm)) a1 h
theorem lp2 {A1 A2 : Type} (W : Nat → A1 → A2 → Prop) (I : A1 → A2 → Prop) (μ : A1 → A2 → Nat) (hs : ∀ (n : Nat) (a1 : A1) (a2 : A2), I a1 a2 → (∀ (b1 : A1) (b2 : A2), I b1 b2 → μ b1 b2 < μ a1 a2 → W n b1 b2) → W (n + 1) a1 a2) (a1 : A1) (a2 : A2) (h : I a1 a2) : ∃ n, W n a1 a2 :=
  loop_m (σ := A1 × A2) (fun n s => W n s.1 s.2) (fun s => I s.1 s.2) (fun s => μ s.1 s.2) (fun n s hI hk => hs n s.1 s.2 hI (fun b1 b2 h9 hm => hk (b1, b2) h9 hm)) (a1, a2) h
theorem lp3 {A1 A2 A3 : Type} (W : Nat → A1 → A2 → A3 → Prop) (I : A1 → A2 → A3 → Prop) (μ : A1 → A2 → A3 → Nat) (hs : ∀ (n : Nat) (a1 : A1) (a2 : A2) (a3 : A3), I a1 a2 a3 → (∀ (b1 : A1) (b2 : A2) (b3 : A3), I b1 b2 b3 → μ b1 b2 b3 < μ a1 a2 a3 → W n b1 b2 b3) → W (n + 1) a1 a2 a3) (a1 : A1) (a2 : A2) (a3 : A3) (h : I a1 a2 a3) : ∃ n, W n a1 a2 a3 :=
  loop_m (σ := A1 × A2 × A3) (fun n s => W n s.1 s.2.1 s.2.2) (fun s => I s.1 s.2.1 s.2.2) (fun s => μ s.1 s.2.1 s.2.2) (fun n s hI hk => hs n s.1 s.2.1 s.2.2 hI (fun b1 b2 b3 h9 hm => hk (b1, b2, b3) h9 hm)) (a1, a2, a3) h
theorem lp4 {A1 A2 A3 A4 : Type} (W : Nat → A1 → A2 → A3 → A4 → Prop) (I : A1 → A2 → A3 → A4 → Prop) (μ : A1 → A2 → A3 → A4 → Nat) (hs : ∀ (n : Nat) (a1 : A1) (a2 : A2) (a3 : A3) (a4 : A4), I a1 a2 a3 a4 → (∀ (b1 : A1) (b2 : A2) (b3 : A3) (b4 : A4), I b1 b2 b3 b4 → μ b1 b2 b3 b4 < μ a1 a2 a3 a4 → W n b1 b2 b3 b4) → W (n + 1) a1 a2 a3 a4) (a1 : A1) (a2 : A2) (a3 : A3) (a4 : A4) (h : I a1 a2 a3 a4) : ∃ n, W n a1 a2 a3 a4 :=
  loop_m (σ := A1 × A2 × A3 × A4) (fun n s => W n s.1 s.2.1 s.2.2.1 s.2.2.2) (fun s => I s.1 s.2.1 s.2.2.1 s.2.2.2) (fun s => μ s.1 s.2.1 s.2.2.1 s.2.2.2) (fun n s hI hk => hs n s.1 s.2.1 s.2.2.1 s.2.2.2 hI (fun b1 b2 b3 b4 h9 hm => hk (b1, b2, b3, b4) h9 hm)) (a1, a2, a3, a4) h
theorem lp5 {A1 A2 A3 A4 A5 : Type} (W : Nat → A1 → A2 → A3 → A4 → A5 → Prop) (I : A1 → A2 → A3 → A4 → A5 → Prop) (μ : A1 → A2 → A3 → A4 → A5 → Nat) (hs : ∀ (n : Nat) (a1 : A1) (a2 : A2) (a3 : A3) (a4 : A4) (a5 : A5), I a1 a2 a3 a4 a5 → (∀ (b1 : A1) (b2 : A2) (b3 : A3) (b4 : A4) (b5 : A5), I b1 b2 b3 b4 b5 → μ b1 b2 b3 b4 b5 < μ a1 a2 a3 a4 a5 → W n b1 b2 b3 b4 b5) → W (n + 1) a1 a2 a3 a4 a5) (a1 : A1) (a2 : A2) (a3 : A3) (a4 : A4) (a5 : A5) (h : I a1 a2 a3 a4 a5) : ∃ n, W n a1 a2 a3 a4 a5 :=
  loop_m (σ := A1 × A2 × A3 × A4 × A5) (fun n s => W n s.1 s.2.1 s.2.2.1 s.2.2.2.1 s.2.2.2.2) (fun s => I s.1 s.2.1 s.2.2.1 s.2.2.2.1 s.2.2.2.2) (fun s => μ s.1 s.2.1 s.2.2.1 s.2.2.2.1 s.2.2.2.2) (fun n s hI hk => hs n s.1 s.2.1 s.2.2.1 s.2.2.2.1 s.2.2.2.2 hI (fun b1 b2 b3 b4 b5 h9 hm => hk (b1, b2, b3, b4, b5) h9 hm)) (a1, a2, a3, a4, a5) h
theorem lp6 {A1 A2 A3 A4 A5 A6 : Type} (W : Nat → A1 → A2 → A3 → A4 → A5 → A6 → Prop) (I : A1 → A2 → A3 → A4 → A5 → A6 → Prop) (μ : A1 → A2 → A3 → A4 → A5 → A6 → Nat) (hs : ∀ (n : Nat) (a1 : A1) (a2 : A2) (a3 : A3) (a4 : A4) (a5 : A5) (a6 : A6), I a1 a2 a3 a4 a5 a6 → (∀ (b1 : A1) (b2 : A2) (b3 : A3) (b4 : A4) (b5 : A5) (b6 : A6), I b1 b2 b3 b4 b5 b6 → μ b1 b2 b3 b4 b5 b6 < μ a1 a2 a3 a4 a5 a6 → W n b1 b2 b3 b4 b5 b6) → W (n + 1) a1 a2 a3 a4 a5 a6) (a1 : A1) (a2 : A2) (a3 : A3) (a4 : A4) (a5 : A5) (a6 : A6) (h : I a1 a2 a3 a4 a5 a6) : ∃ n, W n a1 a2 a3 a4 a5 a6 :=
  loop_m (σ := A1 × A2 × A3 × A4 × A5 × A6) (fun n s => W n s.1 s.2.1 s.2.2.1 s.2.2.2.1 s.2.2.2.2.1 s.2.2.2.2.2) (fun s => I s.1 s.2.1 s.2.2.1 s.2.2.2.1 s.2.2.2.2.1 s.2.2.2.2.2) (fun s => μ s.1 s.2.1 s.2.2.1 s.2.2.2.1 s.2.2.2.2.1 s.2.2.2.2.2) (fun n s hI hk => hs n s.1 s.2.1 s.2.2.1 s.2.2.2.1 s.2.2.2.2.1 s.2.2.2.2.2 hI (fun b1 b2 b3 b4 b5 b6 h9 hm => hk (b1, b2, b3, b4, b5, b6) h9 hm)) (a1, a2, a3, a4, a5, a6) h
theorem lp7 {A1 A2 A3 A4 A5 A6 A7 : Type} (W : Nat → A1 → A2 → A3 → A4 → A5 → A6 → A7 → Prop) (I : A1 → A2 → A3 → A4 → A5 → A6 → A7 → Prop) (μ : A1 → A2 → A3 → A4 → A5 → A6 → A7 → Nat) (hs : ∀ (n : Nat) (a1 : A1) (a2 : A2) (a3 : A3) (a4 : A4) (a5 : A5) (a6 : A6) (a7 : A7), I a1 a2 a3 a4 a5 a6 a7 → (∀ (b1 : A1) (b2 : A2) (b3 : A3) (b4 : A4) (b5 : A5) (b6 : A6) (b7 : A7), I b1 b2 b3 b4 b5 b6 b7 → μ b1 b2 b3 b4 b5 b6 b7 < μ a1 a2 a3 a4 a5 a6 a7 → W n b1 b2 b3 b4 b5 b6 b7) → W (n + 1) a1 a2 a3 a4 a5 a6 a7) (a1 : A1) (a2 : A2) (a3 : A3) (a4 : A4) (a5 : A5) (a6 : A6) (a7 : A7) (h : I a1 a2 a3 a4 a5 a6 a7) : ∃ n, W n a1 a2 a3 a4 a5 a6 a7 :=
  loop_m (σ := A1 × A2 × A3 × A4 × A5 × A6 × A7) (fun n s => W n s.1 s.2.1 s.2.2.1 s.2.2.2.1 s.2.2.2.2.1 s.2.2.2.2.2.1 s.2.2.2.2.2.2) (fun s => I s.1 s.2.1 s.2.2.1 s.2.2.2.1 s.2.2.2.2.1 s.2.2.2.2.2.1 s.2.2.2.2.2.2) (fun s => μ s.1 s.2.1 s.2.2.1 s.2.2.2.1 s.2.2.2.2.1 s.2.2.2.2.2.1 s.2.2.2.2.2.2) (fun n s hI hk => hs n s.1 s.2.1 s.2.2.1 s.2.2.2.1 s.2.2.2.2.1 s.2.2.2.2.2.1 s.2.2.2.2.2.2 hI (fun b1 b2 b3 b4 b5 b6 b7 h9 hm => hk (b1, b2, b3, b4, b5, b6, b7) h9 hm)) (a1, a2, a3, a4, a5, a6, a7) h
theorem lp8 {A1 A2 A3 A4 A5 A6 A7 A8 : Type} (W : Nat → A1 → A2 → A3 → A4 → A5 → A6 → A7 → A8 → Prop) (I : A1 → A2 → A3 → A4 → A5 → A6 → A7 → A8 → Prop) (μ : A1 → A2 → A3 → A4 → A5 → A6 → A7 → A8 → Nat) (hs : ∀ (n : Nat) (a1 : A1) (a2 : A2) (a3 : A3) (a4 : A4) (a5 : A5) (a6 : A6) (a7 : A7) (a8 : A8), I a1 a2 a3 a4 a5 a6 a7 a8 → (∀ (b1 : A1) (b2 : A2) (b3 : A3) (b4 : A4) (b5 : A5) (b6 : A6) (b7 : A7) (b8 : A8), I b1 b2 b3 b4 b5 b6 b7 b8 → μ b1 b2 b3 b4 b5 b6 b7 b8 < μ a1 a2 a3 a4 a5 a6 a7 a8 → W n b1 b2 b3 b4 b5 b6 b7 b8) → W (n + 1) a1 a2 a3 a4 a5 a6 a7 a8) (a1 : A1) (a2 : A2) (a3 : A3) (a4 : A4) (a5 : A5) (a6 : A6) (a7 : A7) (a8 : A8) (h : I a1 a2 a3 a4 a5 a6 a7 a8) : ∃ n, W n a1 a2 a3 a4 a5 a6 a7 a8 :=
  loop_m (σ := A1 × A2 × A3 × A4 × A5 × A6 × A7 × A8) (fun n s => W n s.1 s.2.1 s.2.2.1 s.2.2.2.1 s.2.2.2.2.1 s.2.2.2.2.2.1 s.2.2.2.2.2.2.1 s.2.2.2.2.2.2.2) (fun s => I s.1 s.2.1 s.2.2.1 s.2.2.2.1 s.2.2.2.2.1 s.2.2.2.2.2.1 s.2.2.2.2.2.2.1 s.2.2.2.2.2.2.2) (fun s => μ s.1 s.2.1 s.2.2.1 s.2.2.2.1 s.2.2.2.2.1 s.2.2.2.2.2.1 s.2.2.2.2.2.2.1 s.2.2.2.2.2.2.2) (fun n s hI hk => hs n s.1 s.2.1 s.2.2.1 s.2.2.2.1 s.2.2.2.2.1 s.2.2.2.2.2.1 s.2.2.2.2.2.2.1 s.2.2.2.2.2.2.2 hI (fun b1 b2 b3 b4 b5 b6 b7 b8 h9 hm => hk (b1, b2, b3, b4, b5, b6, b7, b8) h9 hm)) (a1, a2, a3, a4, a5, a6, a7, a8) h
theorem lp9 {A1 A2 A3 A4 A5 A6 A7 A8 A9 : Type} (W : Nat → A1 → A2 → A3 → A4 → A5 → A6 → A7 → A8 → A9 → Prop) (I : A1 → A2 → A3 → A4 → A5 → A6 → A7 → A8 → A9 → Prop) (μ : A1 → A2 → A3 → A4 → A5 → A6 → A7 → A8 → A9 → Nat) (hs : ∀ (n : Nat) (a1 : A1) (a2 : A2) (a3 : A3) (a4 : A4) (a5 : A5) (a6 : A6) (a7 : A7) (a8 : A8) (a9 : A9), I a1 a2 a3 a4 a5 a6 a7 a8 a9 → (∀ (b1 : A1) (b2 : A2) (b3 : A3) (b4 : A4) (b5 : A5) (b6 : A6) (b7 : A7) (b8 : A8) (b9 : A9), I b1 b2 b3 b4 b5 b6 b7 b8 b9 → μ b1 b2 b3 b4 b5 b6 b7 b8 b9 < μ a1 a2 a3 a4 a5 a6 a7 a8 a9 → W n b1 b2 b3 b4 b5 b6 b7 b8 b9) → W (n + 1) a1 a2 a3 a4 a5 a6 a7 a8 a9) (a1 : A1) (a2 : A2) (a3 : A3) (a4 : A4) (a5 : A5) (a6 : A6) (a7 : A7) (a8 : A8) (a9 : A9) (h : I a1 a2 a3 a4 a5 a6 a7 a8 a9) : ∃ n, W n a1 a2 a3 a4 a5 a6 a7 a8 a9 :=
  loop_m (σ := A1 × A2 × A3 × A4 × A5 × A6 × A7 × A8 × A9) (fun n s => W n s.1 s.2.1 s.2.2.1 s.2.2.2.1 s.2.2.2.2.1 s.2.2.2.2.2.1 s.2.2.2.2.2.2.1 s.2.2.2.2.2.2.2.1 s.2.2.2.2.2.2.2.2) (fun s => I s.1 s.2.1 s.2.2.1 s.2.2.2.1 s.2.2.2.2.1 s.2.2.2.2.2.1 s.2.2.2.2.2.2.1 s.2.2.2.2.2.2.2.1 s.2.2.2.2.2.2.2.2) (fun s => μ s.1 s.2.1 s.2.2.1 s.2.2.2.1 s.2.2.2.2.1 s.2.2.2.2.2.1 s.2.2.2.2.2.2.1 s.2.2.2.2.2.2.2.1 s.2.2.2.2.2.2.2.2) (fun n s hI hk => hs n s.1 s.2.1 s.2.2.1 s.2.2.2.1 s.2.2.2.2.1 s.2.2.2.2.2.1 s.2.2.2.2.2.2.1 s.2.2.2.2.2.2.2.1 s.2.2.2.2.2.2.2.2 hI (fun b1 b2 b3 b4 b5 b6 b7 b8 b9 h9 hm => hk (b1, b2, b3, b4, b5, b6, b7, b8, b9) h9 hm)) (a1, a2, a3, a4, a5, a6, a7, a8, a9) h
theorem lp10 {A1 A2 A3 A4 A5 A6 A7 A8 A9 A10 : Type} (W : Nat → A1 → A2 → A3 → A4 → A5 → A6 → A7 → A8 → A9 → A10 → Prop) (I : A1 → A2 → A3 → A4 → A5 → A6 → A7 → A8 → A9 → A10 → Prop) (μ : A1 → A2 → A3 → A4 → A5 → A6 → A7 → A8 → A9 → A10 → Nat) (hs : ∀ (n : Nat) (a1 : A1) (a2 : A2) (a3 : A3) (a4 : A4) (a5 : A5) (a6 : A6) (a7 : A7) (a8 : A8) (a9 : A9) (a10 : A10), I a1 a2 a3 a4 a5 a6 a7 a8 a9 a10 → (∀ (b1 : A1) (b2 : A2) (b3 : A3) (b4 : A4) (b5 : A5) (b6 : A6) (b7 : A7) (b8 : A8) (b9 : A9) (b10 : A10), I b1 b2 b3 b4 b5 b6 b7 b8 b9 b10 → μ b1 b2 b3 b4 b5 b6 b7 b8 b9 b10 < μ a1 a2 a3 a4 a5 a6 a7 a8 a9 a10 → W n b1 b2 b3 b4 b5 b6 b7 b8 b9 b10) → W (n + 1) a1 a2 a3 a4 a5 a6 a7 a8 a9 a10) (a1 : A1) (a2 : A2) (a3 : A3) (a4 : A4) (a5 : A5) (a6 : A6) (a7 : A7) (a8 : A8) (a9 : A9) (a10 : A10) (h : I a1 a2 a3 a4 a5 a6 a7 a8 a9 a10) : ∃ n, W n a1 a2 a3 a4 a5 a6 a7 a8 a9 a10 :=
  loop_m (σ := A1 × A2 × A3 × A4 × A5 × A6 × A7 × A8 × A9 × A10) (fun n s => W n s.1 s.2.1 s.2.2.1 s.2.2.2.1 s.2.2.2.2.1 s.2.2.2.2.2.1 s.2.2.2.2.2.2.1 s.2.2.2.2.2.2.2.1 s.2.2.2.2.2.2.2.2.1 s.2.2.2.2.2.2.2.2.2) (fun s => I s.1 s.2.1 s.2.2.1 s.2.2.2.1 s.2.2.2.2.1 s.2.2.2.2.2.1 s.2.2.2.2.2.2.1 s.2.2.2.2.2.2.2.1 s.2.2.2.2.2.2.2.2.1 s.2.2.2.2.2.2.2.2.2) (fun s => μ s.1 s.2.1 s.2.2.1 s.2.2.2.1 s.2.2.2.2.1 s.2.2.2.2.2.1 s.2.2.2.2.2.2.1 s.2.2.2.2.2.2.2.1 s.2.2.2.2.2.2.2.2.1 s.2.2.2.2.2.2.2.2.2) (fun n s hI hk => hs n s.1 s.2.1 s.2.2.1 s.2.2.2.1 s.2.2.2.2.1 s.2.2.2.2.2.1 s.2.2.2.2.2.2.1 s.2.2.2.2.2.2.2.1 s.2.2.2.2.2.2.2.2.1 s.2.2.2.2.2.2.2.2.2 hI (fun b1 b2 b3 b4 b5 b6 b7 b8 b9 b10 h9 hm => hk (b1, b2, b3, b4, b5, b6, b7, b8, b9, b10) h9 hm)) (a1, a2, a3, a4, a5, a6, a7, a8, a9, a10) h
theorem lp11 {A1 A2 A3 A4 A5 A6 A7 A8 A9 A10 A11 : Type} (W : Nat → A1 → A2 → A3 → A4 → A5 → A6 → A7 → A8 → A9 → A10 → A11 → Prop) (I : A1 → A2 → A3 → A4 → A5 → A6 → A7 → A8 → A9 → A10 → A11 → Prop) (μ : A1 → A2 → A3 → A4 → A5 → A6 → A7 → A8 → A9 → A10 → A11 → Nat) (hs : ∀ (n : Nat) (a1 : A1) (a2 : A2) (a3 : A3) (a4 : A4) (a5 : A5) (a6 : A6) (a7 : A7) (a8 : A8) (a9 : A9) (a10 : A10) (a11 : A11), I a1 a2 a3 a4 a5 a6 a7 a8 a9 a10 a11 → (∀ (b1 : A1) (b2 : A2) (b3 : A3) (b4 : A4) (b5 : A5) (b6 : A6) (b7 : A7) (b8 : A8) (b9 : A9) (b10 : A10) (b11 : A11), I b1 b2 b3 b4 b5 b6 b7 b8 b9 b10 b11 → μ b1 b2 b3 b4 b5 b6 b7 b8 b9 b10 b11 < μ a1 a2 a3 a4 a5 a6 a7 a8 a9 a10 a11 → W n b1 b2 b3 b4 b5 b6 b7 b8 b9 b10 b11) → W (n + 1) a1 a2 a3 a4 a5 a6 a7 a8 a9 a10 a11) (a1 : A1) (a2 : A2) (a3 : A3) (a4 : A4) (a5 : A5) (a6 : A6) (a7 : A7) (a8 : A8) (a9 : A9) (a10 : A10) (a11 : A11) (h : I a1 a2 a3 a4 a5 a6 a7 a8 a9 a10 a11) : ∃ n, W n a1 a2 a3 a4 a5 a6 a7 a8 a9 a10 a11 :=
  loop_m (σ := A1 × A2 × A3 × A4 × A5 × A6 × A7 × A8 × A9 × A10 × A11) (fun n s => W n s.1 s.2.1 s.2.2.1 s.2.2.2.1 s.2.2.2.2.1 s.2.2.2.2.2.1 s.2.2.2.2.2.2.1 s.2.2.2.2.2.2.2.1 s.2.2.2.2.2.2.2.2.1 s.2.2.2.2.2.2.2.2.2.1 s.2.2.2.2.2.2.2.2.2.2) (fun s => I s.1 s.2.1 s.2.2.1 s.2.2.2.1 s.2.2.2.2.1 s.2.2.2.2.2.1 s.2.2.2.2.2.2.1 s.2.2.2.2.2.2.2.1 s.2.2.2.2.2.2.2.2.1 s.2.2.2.2.2.2.2.2.2.1 s.2.2.2.2.2.2.2.2.2.2) (fun s => μ s.1 s.2.1 s.2.2.1 s.2.2.2.1 s.2.2.2.2.1 s.2.2.2.2.2.1 s.2.2.2.2.2.2.1 s.2.2.2.2.2.2.2.1 s.2.2.2.2.2.2.2.2.1 s.2.2.2.2.2.2.2.2.2.1 s.2.2.2.2.2.2.2.2.2.2) (fun n s hI hk => hs n s.1 s.2.1 s.2.2.1 s.2.2.2.1 s.2.2.2.2.1 s.2.2.2.2.2.1 s.2.2.2.2.2.2.1 s.2.2.2.2.2.2.2.1 s.2.2.2.2.2.2.2.2.1 s.2.2.2.2.2.2.2.2.2.1 s.2.2.2.2.2.2.2.2.2.2 hI (fun b1 b2 b3 b4 b5 b6 b7 b8 b9 b10 b11 h9 hm => hk (b1, b2, b3, b4, b5, b6, b7, b8, b9, b10, b11) h9 hm)) (a1, a2, a3, a4, a5, a6, a7, a8, a9, a10, a11) h
theorem lp12 {A1 A2 A3 A4 A5 A6 A7 A8 A9 A10 A11 A12 : Type} (W : Nat → A1 → A2 → A3 → A4 → A5 → A6 → A7 → A8 → A9 → A10 → A11 → A12 → Prop) (I : A1 → A2 → A3 → A4 → A5 → A6 → A7 → A8 → A9 → A10 → A11 → A12 → Prop) (μ : A1 → A2 → A3 → A4 → A5 → A6 → A7 → A8 → A9 → A10 → A11 → A12 → Nat) (hs : ∀ (n : Nat) (a1 : A1) (a2 : A2) (a3 : A3) (a4 : A4) (a5 : A5) (a6 : A6) (a7 : A7) (a8 : A8) (a9 : A9) (a10 : A10) (a11 : A11) (a12 : A12), I a1 a2 a3 a4 a5 a6 a7 a8 a9 a10 a11 a12 → (∀ (b1 : A1) (b2 : A2) (b3 : A3) (b4 : A4) (b5 : A5) (b6 : A6) (b7 : A7) (b8 : A8) (b9 : A9) (b10 : A10) (b11 : A11) (b12 : A12), I b1 b2 b3 b4 b5 b6 b7 b8 b9 b10 b11 b12 → μ b1 b2 b3 b4 b5 b6 b7 b8 b9 b10 b11 b12 < μ a1 a2 a3 a4 a5 a6 a7 a8 a9 a10 a11 a12 → W n b1 b2 b3 b4 b5 b6 b7 b8 b9 b10 b11 b12) → W (n + 1) a1 a2 a3 a4 a5 a6 a7 a8 a9 a10 a11 a12) (a1 : A1) (a2 : A2) (a3 : A3) (a4 : A4) (a5 : A5) (a6 : A6) (a7 : A7) (a8 : A8) (a9 : A9) (a10 : A10) (a11 : A11) (a12 : A12) (h : I a1 a2 a3 a4 a5 a6 a7 a8 a9 a10 a11 a12) : ∃ n, W n a1 a2 a3 a4 a5 a6 a7 a8 a9 a10 a11 a12 :=
  loop_m (σ := A1 × A2 × A3 × A4 × A5 × A6 × A7 × A8 × A9 × A10 × A11 × A12) (fun n s => W n s.1 s.2.1 s.2.2.1 s.2.2.2.1 s.2.2.2.2.1 s.2.2.2.2.2.1 s.2.2.2.2.2.2.1 s.2.2.2.2.2.2.2.1 s.2.2.2.2.2.2.2.2.1 s.2.2.2.2.2.2.2.2.2.1 s.2.2.2.2.2.2.2.2.2.2.1 s.2.2.2.2.2.2.2.2.2.2.2) (fun s => I s.1 s.2.1 s.2.2.1 s.2.2.2.1 s.2.2.2.2.1 s.2.2.2.2.2.1 s.2.2.2.2.2.2.1 s.2.2.2.2.2.2.2.1 s.2.2.2.2.2.2.2.2.1 s.2.2.2.2.2.2.2.2.2.1 s.2.2.2.2.2.2.2.2.2.2.1 s.2.2.2.2.2.2.2.2.2.2.2) (fun s => μ s.1 s.2.1 s.2.2.1 s.2.2.2.1 s.2.2.2.2.1 s.2.2.2.2.2.1 s.2.2.2.2.2.2.1 s.2.2.2.2.2.2.2.1 s.2.2.2.2.2.2.2.2.1 s.2.2.2.2.2.2.2.2.2.1 s.2.2.2.2.2.2.2.2.2.2.1 s.2.2.2.2.2.2.2.2.2.2.2) (fun n s hI hk => hs n s.1 s.2.1 s.2.2.1 s.2.2.2.1 s.2.2.2.2.1 s.2.2.2.2.2.1 s.2.2.2.2.2.2.1 s.2.2.2.2.2.2.2.1 s.2.2.2.2.2.2.2.2.1 s.2.2.2.2.2.2.2.2.2.1 s.2.2.2.2.2.2.2.2.2.2.1 s.2.2.2.2.2.2.2.2.2.2.2 hI (fun b1 b2 b3 b4 b5 b6 b7 b8 b9 b10 b11 b12 h9 hm => hk (b1, b2, b3, b4, b5, b6, b7, b8, b9, b10, b11, b12) h9 hm)) (a1, a2, a3, a4, a5, a6, a7, a8, a9, a10, a11, a12) h
theorem lp13 {A1 A2 A3 A4 A5 A6 A7 A8 A9 A10 A11 A12 A13 : Type} (W : Nat → A1 → A2 → A3 → A4 → A5 → A6 → A7 → A8 → A9 → A10 → A11 → A12 → A13 → Prop) (I : A1 → A2 → A3 → A4 → A5 → A6 → A7 → A8 → A9 → A10 → A11 → A12 → A13 → Prop) (μ : A1 → A2 → A3 → A4 → A5 → A6 → A7 → A8 → A9 → A10 → A11 → A12 → A13 → Nat) (hs : ∀ (n : Nat) (a1 : A1) (a2 : A2) (a3 : A3) (a4 : A4) (a5 : A5) (a6 : A6) (a7 : A7) (a8 : A8) (a9 : A9) (a10 : A10) (a11 : A11) (a12 : A12) (a13 : A13), I a1 a2 a3 a4 a5 a6 a7 a8 a9 a10 a11 a12 a13 → (∀ (b1 : A1) (b2 : A2) (b3 : A3) (b4 : A4) (b5 : A5) (b6 : A6) (b7 : A7) (b8 : A8) (b9 : A9) (b10 : A10) (b11 : A11) (b12 : A12) (b13 : A13), I b1 b2 b3 b4 b5 b6 b7 b8 b9 b10 b11 b12 b13 → μ b1 b2 b3 b4 b5 b6 b7 b8 b9 b10 b11 b12 b13 < μ a1 a2 a3 a4 a5 a6 a7 a8 a9 a10 a11 a12 a13 → W n b1 b2 b3 b4 b5 b6 b7 b8 b9 b10 b11 b12 b13) → W (n + 1) a1 a2 a3 a4 a5 a6 a7 a8 a9 a10 a11 a12 a13) (a1 : A1) (a2 : A2) (a3 : A3) (a4 : A4) (a5 : A5) (a6 : A6) (a7 : A7) (a8 : A8) (a9 : A9) (a10 : A10) (a11 : A11) (a12 : A12) (a13 : A13) (h : I a1 a2 a3 a4 a5 a6 a7 a8 a9 a10 a11 a12 a13) : ∃ n, W n a1 a2 a3 a4 a5 a6 a7 a8 a9 a10 a11 a12 a13 :=
  loop_m (σ := A1 × A2 × A3 × A4 × A5 × A6 × A7 × A8 × A9 × A10 × A11 × A12 × A13) (fun n s => W n s.1 s.2.1 s.2.2.1 s.2.2.2.1 s.2.2.2.2.1 s.2.2.2.2.2.1 s.2.2.2.2.2.2.1 s.2.2.2.2.2.2.2.1 s.2.2.2.2.2.2.2.2.1 s.2.2.2.2.2.2.2.2.2.1 s.2.2.2.2.2.2.2.2.2.2.1 s.2.2.2.2.2.2.2.2.2.2.2.1 s.2.2.2.2.2.2.2.2.2.2.2.2) (fun s => I s.1 s.2.1 s.2.2.1 s.2.2.2.1 s.2.2.2.2.1 s.2.2.2.2.2.1 s.2.2.2.2.2.2.1 s.2.2.2.2.2.2.2.1 s.2.2.2.2.2.2.2.2.1 s.2.2.2.2.2.2.2.2.2.1 s.2.2.2.2.2.2.2.2.2.2.1 s.2.2.2.2.2.2.2.2.2.2.2.1 s.2.2.2.2.2.2.2.2.2.2.2.2) (fun s => μ s.1 s.2.1 s.2.2.1 s.2.2.2.1 s.2.2.2.2.1 s.2.2.2.2.2.1 s.2.2.2.2.2.2.1 s.2.2.2.2.2.2.2.1 s.2.2.2.2.2.2.2.2.1 s.2.2.2.2.2.2.2.2.2.1 s.2.2.2.2.2.2.2.2.2.2.1 s.2.2.2.2.2.2.2.2.2.2.2.1 s.2.2.2.2.2.2.2.2.2.2.2.2) (fun n s hI hk => hs n s.1 s.2.1 s.2.2.1 s.2.2.2.1 s.2.2.2.2.1 s.2.2.2.2.2.1 s.2.2.2.2.2.2.1 s.2.2.2.2.2.2.2.1 s.2.2.2.2.2.2.2.2.1 s.2.2.2.2.2.2.2.2.2.1 s.2.2.2.2.2.2.2.2.2.2.1 s.2.2.2.2.2.2.2.2.2.2.2.1 s.2.2.2.2.2.2.2.2.2.2.2.2 hI (fun b1 b2 b3 b4 b5 b6 b7 b8 b9 b10 b11 b12 b13 h9 hm => hk (b1, b2, b3, b4, b5, b6, b7, b8, b9, b10, b11, b12, b13) h9 hm)) (a1, a2, a3, a4, a5, a6, a7, a8, a9, a10, a11, a12, a13) h
theorem lp14 {A1 A2 A3 A4 A5 A6 A7 A8 A9 A10 A11 A12 A13 A14 : Type} (W : Nat → A1 → A2 → A3 → A4 → A5 → A6 → A7 → A8 → A9 → A10 → A11 → A12 → A13 → A14 → Prop) (I : A1 → A2 → A3 → A4 → A5 → A6 → A7 → A8 → A9 → A10 → A11 → A12 → A13 → A14 → Prop) (μ : A1 → A2 → A3 → A4 → A5 → A6 → A7 → A8 → A9 → A10 → A11 → A12 → A13 → A14 → Nat) (hs : ∀ (n : Nat) (a1 : A1) (a2 : A2) (a3 : A3) (a4 : A4) (a5 : A5) (a6 : A6) (a7 : A7) (a8 : A8) (a9 : A9) (a10 : A10) (a11 : A11) (a12 : A12) (a13 : A13) (a14 : A14), I a1 a2 a3 a4 a5 a6 a7 a8 a9 a10 a11 a12 a13 a14 → (∀ (b1 : A1) (b2 : A2) (b3 : A3) (b4 : A4) (b5 : A5) (b6 : A6) (b7 : A7) (b8 : A8) (b9 : A9) (b10 : A10) (b11 : A11) (b12 : A12) (b13 : A13) (b14 : A14), I b1 b2 b3 b4 b5 b6 b7 b8 b9 b10 b11 b12 b13 b14 → μ b1 b2 b3 b4 b5 b6 b7 b8 b9 b10 b11 b12 b13 b14 < μ a1 a2 a3 a4 a5 a6 a7 a8 a9 a10 a11 a12 a13 a14 → W n b1 b2 b3 b4 b5 b6 b7 b8 b9 b10 b11 b12 b13 b14) → W (n + 1) a1 a2 a3 a4 a5 a6 a7 a8 a9 a10 a11 a12 a13 a14) (a1 : A1) (a2 : A2) (a3 : A3) (a4 : A4) (a5 : A5) (a6 : A6) (a7 : A7) (a8 : A8) (a9 : A9) (a10 : A10) (a11 : A11) (a12 : A12) (a13 : A13) (a14 : A14) (h : I a1 a2 a3 a4 a5 a6 a7 a8 a9 a10 a11 a12 a13 a14) : ∃ n, W n a1 a2 a3 a4 a5 a6 a7 a8 a9 a10 a11 a12 a13 a14 :=
  loop_m (σ := A1 × A2 × A3 × A4 × A5 × A6 × A7 × A8 × A9 × A10 × A11 × A12 × A13 × A14) (fun n s => W n s.1 s.2.1 s.2.2.1 s.2.2.2.1 s.2.2.2.2.1 s.2.2.2.2.2.1 s.2.2.2.2.2.2.1 s.2.2.2.2.2.2.2.1 s.2.2.2.2.2.2.2.2.1 s.2.2.2.2.2.2.2.2.2.1 s.2.2.2.2.2.2.2.2.2.2.1 s.2.2.2.2.2.2.2.2.2.2.2.1 s.2.2.2.2.2.2.2.2.2.2.2.2.1 s.2.2.2.2.2.2.2.2.2.2.2.2.2) (fun s => I s.1 s.2.1 s.2.2.1 s.2.2.2.1 s.2.2.2.2.1 s.2.2.2.2.2.1 s.2.2.2.2.2.2.1 s.2.2.2.2.2.2.2.1 s.2.2.2.2.2.2.2.2.1 s.2.2.2.2.2.2.2.2.2.1 s.2.2.2.2.2.2.2.2.2.2.1 s.2.2.2.2.2.2.2.2.2.2.2.1 s.2.2.2.2.2.2.2.2.2.2.2.2.1 s.2.2.2.2.2.2.2.2.2.2.2.2.2) (fun s => μ s.1 s.2.1 s.2.2.1 s.2.2.2.1 s.2.2.2.2.1 s.2.2.2.2.2.1 s.2.2.2.2.2.2.1 s.2.2.2.2.2.2.2.1 s.2.2.2.2.2.2.2.2.1 s.2.2.2.2.2.2.2.2.2.1 s.2.2.2.2.2.2.2.2.2.2.1 s.2.2.2.2.2.2.2.2.2.2.2.1 s.2.2.2.2.2.2.2.2.2.2.2.2.1 s.2.2.2.2.2.2.2.2.2.2.2.2.2) (fun n s hI hk => hs n s.1 s.2.1 s.2.2.1 s.2.2.2.1 s.2.2.2.2.1 s.2.2.2.2.2.1 s.2.2.2.2.2.2.1 s.2.2.2.2.2.2.2.1 s.2.2.2.2.2.2.2.2.1 s.2.2.2.2.2.2.2.2.2.1 s.2.2.2.2.2.2.2.2.2.2.1 s.2.2.2.2.2.2.2.2.2.2.2.1 s.2.2.2.2.2.2.2.2.2.2.2.2.1 s.2.2.2.2.2.2.2.2.2.2.2.2.2 hI (fun b1 b2 b3 b4 b5 b6 b7 b8 b9 b10 b11 b12 b13 b14 h9 hm => hk (b1, b2, b3, b4, b5, b6, b7, b8, b9, b10, b11, b12, b13, b14) h9 hm)) (a1, a2, a3, a4, a5, a6, a7, a8, a9, a10, a11, a12, a13, a14) h
theorem lp15 {A1 A2 A3 A4 A5 A6 A7 A8 A9 A10 A11 A12 A13 A14 A15 : Type} (W : Nat → A1 → A2 → A3 → A4 → A5 → A6 → A7 → A8 → A9 → A10 → A11 → A12 → A13 → A14 → A15 → Prop) (I : A1 → A2 → A3 → A4 → A5 → A6 → A7 → A8 → A9 → A10 → A11 → A12 → A13 → A14 → A15 → Prop) (μ : A1 → A2 → A3 → A4 → A5 → A6 → A7 → A8 → A9 → A10 → A11 → A12 → A13 → A14 → A15 → Nat) (hs : ∀ (n : Nat) (a1 : A1) (a2 : A2) (a3 : A3) (a4 : A4) (a5 : A5) (a6 : A6) (a7 : A7) (a8 : A8) (a9 : A9) (a10 : A10) (a11 : A11) (a12 : A12) (a13 : A13) (a14 : A14) (a15 : A15), I a1 a2 a3 a4 a5 a6 a7 a8 a9 a10 a11 a12 a13 a14 a15 → (∀ (b1 : A1) (b2 : A2) (b3 : A3) (b4 : A4) (b5 : A5) (b6 : A6) (b7 : A7) (b8 : A8) (b9 : A9) (b10 : A10) (b11 : A11) (b12 : A12) (b13 : A13) (b14 : A14) (b15 : A15), I b1 b2 b3 b4 b5 b6 b7 b8 b9 b10 b11 b12 b13 b14 b15 → μ b1 b2 b3 b4 b5 b6 b7 b8 b9 b10 b11 b12 b13 b14 b15 < μ a1 a2 a3 a4 a5 a6 a7 a8 a9 a10 a11 a12 a13 a14 a15 → W n b1 b2 b3 b4 b5 b6 b7 b8 b9 b10 b11 b12 b13 b14 b15) → W (n + 1) a1 a2 a3 a4 a5 a6 a7 a8 a9 a10 a11 a12 a13 a14 a15) (a1 : A1) (a2 : A2) (a3 : A3) (a4 : A4) (a5 : A5) (a6 : A6) (a7 : A7) (a8 : A8) (a9 : A9) (a10 : A10) (a11 : A11) (a12 : A12) (a13 : A13) (a14 : A14) (a15 : A15) (h : I a1 a2 a3 a4 a5 a6 a7 a8 a9 a10 a11 a12 a13 a14 a15) : ∃ n, W n a1 a2 a3 a4 a5 a6 a7 a8 a9 a10 a11 a12 a13 a14 a15 :=
  loop_m (σ := A1 × A2 × A3 × A4 × A5 × A6 × A7 × A8 × A9 × A10 × A11 × A12 × A13 × A14 × A15) (fun n s => W n s.1 s.2.1 s.2.2.1 s.2.2.2.1 s.2.2.2.2.1 s.2.2.2.2.2.1 s.2.2.2.2.2.2.1 s.2.2.2.2.2.2.2.1 s.2.2.2.2.2.2.2.2.1 s.2.2.2.2.2.2.2.2.2.1 s.2.2.2.2.2.2.2.2.2.2.1 s.2.2.2.2.2.2.2.2.2.2.2.1 s.2.2.2.2.2.2.2.2.2.2.2.2.1 s.2.2.2.2.2.2.2.2.2.2.2.2.2.1 s.2.2.2.2.2.2.2.2.2.2.2.2.2.2) (fun s => I s.1 s.2.1 s.2.2.1 s.2.2.2.1 s.2.2.2.2.1 s.2.2.2.2.2.1 s.2.2.2.2.2.2.1 s.2.2.2.2.2.2.2.1 s.2.2.2.2.2.2.2.2.1 s.2.2.2.2.2.2.2.2.2.1 s.2.2.2.2.2.2.2.2.2.2.1 s.2.2.2.2.2.2.2.2.2.2.2.1 s.2.2.2.2.2.2.2.2.2.2.2.2.1 s.2.2.2.2.2.2.2.2.2.2.2.2.2.1 s.2.2.2.2.2.2.2.2.2.2.2.2.2.2) (fun s => μ s.1 s.2.1 s.2.2.1 s.2.2.2.1 s.2.2.2.2.1 s.2.2.2.2.2.1 s.2.2.2.2.2.2.1 s.2.2.2.2.2.2.2.1 s.2.2.2.2.2.2.2.2.1 s.2.2.2.2.2.2.2.2.2.1 s.2.2.2.2.2.2.2.2.2.2.1 s.2.2.2.2.2.2.2.2.2.2.2.1 s.2.2.2.2.2.2.2.2.2.2.2.2.1 s.2.2.2.2.2.2.2.2.2.2.2.2.2.1 s.2.2.2.2.2.2.2.2.2.2.2.2.2.2) (fun n s hI hk => hs n s.1 s.2.1 s.2.2.1 s.2.2.2.1 s.2.2.2.2.1 s.2.2.2.2.2.1 s.2.2.2.2.2.2.1 s.2.2.2.2.2.2.2.1 s.2.2.2.2.2.2.2.2.1 s.2.2.2.2.2.2.2.2.2.1 s.2.2.2.2.2.2.2.2.2.2.1 s.2.2.2.2.2.2.2.2.2.2.2.1 s.2.2.2.2.2.2.2.2.2.2.2.2.1 s.2.2.2.2.2.2.2.2.2.2.2.2.2.1 s.2.2.2.2.2.2.2.2.2.2.2.2.2.2 hI (fun b1 b2 b3 b4 b5 b6 b7 b8 b9 b10 b11 b12 b13 b14 b15 h9 hm => hk (b1, b2, b3, b4, b5, b6, b7, b8, b9, b10, b11, b12, b13, b14, b15) h9 hm)) (a1, a2, a3, a4, a5, a6, a7, a8, a9, a10, a11, a12, a13, a14, a15) h
theorem lp16 {A1 A2 A3 A4 A5 A6 A7 A8 A9 A10 A11 A12 A13 A14 A15 A16 : Type} (W : Nat → A1 → A2 → A3 → A4 → A5 → A6 → A7 → A8 → A9 → A10 → A11 → A12 → A13 → A14 → A15 → A16 → Prop) (I : A1 → A2 → A3 → A4 → A5 → A6 → A7 → A8 → A9 → A10 → A11 → A12 → A13 → A14 → A15 → A16 → Prop) (μ : A1 → A2 → A3 → A4 → A5 → A6 → A7 → A8 → A9 → A10 → A11 → A12 → A13 → A14 → A15 → A16 → Nat) (hs : ∀ (n : Nat) (a1 : A1) (a2 : A2) (a3 : A3) (a4 : A4) (a5 : A5) (a6 : A6) (a7 : A7) (a8 : A8) (a9 : A9) (a10 : A10) (a11 : A11) (a12 : A12) (a13 : A13) (a14 : A14) (a15 : A15) (a16 : A16), I a1 a2 a3 a4 a5 a6 a7 a8 a9 a10 a11 a12 a13 a14 a15 a16 → (∀ (b1 : A1) (b2 : A2) (b3 : A3) (b4 : A4) (b5 : A5) (b6 : A6) (b7 : A7) (b8 : A8) (b9 : A9) (b10 : A10) (b11 : A11) (b12 : A12) (b13 : A13) (b14 : A14) (b15 : A15) (b16 : A16), I b1 b2 b3 b4 b5 b6 b7 b8 b9 b10 b11 b12 b13 b14 b15 b16 → μ b1 b2 b3 b4 b5 b6 b7 b8 b9 b10 b11 b12 b13 b14 b15 b16 < μ a1 a2 a3 a4 a5 a6 a7 a8 a9 a10 a11 a12 a13 a14 a15 a16 → W n b1 b2 b3 b4 b5 b6 b7 b8 b9 b10 b11 b12 b13 b14 b15 b16) → W (n + 1) a1 a2 a3 a4 a5 a6 a7 a8 a9 a10 a11 a12 a13 a14 a15 a16) (a1 : A1) (a2 : A2) (a3 : A3) (a4 : A4) (a5 : A5) (a6 : A6) (a7 : A7) (a8 : A8) (a9 : A9) (a10 : A10) (a11 : A11) (a12 : A12) (a13 : A13) (a14 : A14) (a15 : A15) (a16 : A16) (h : I a1 a2 a3 a4 a5 a6 a7 a8 a9 a10 a11 a12 a13 a14 a15 a16) : ∃ n, W n a1 a2 a3 a4 a5 a6 a7 a8 a9 a10 a11 a12 a13 a14 a15 a16 :=
  loop_m (σ := A1 × A2 × A3 × A4 × A5 × A6 × A7 × A8 × A9 × A10 × A11 × A12 × A13 × A14 × A15 × A16) (fun n s => W n s.1 s.2.1 s.2.2.1 s.2.2.2.1 s.2.2.2.2.1 s.2.2.2.2.2.1 s.2.2.2.2.2.2.1 s.2.2.2.2.2.2.2.1 s.2.2.2.2.2.2.2.2.1 s.2.2.2.2.2.2.2.2.2.1 s.2.2.2.2.2.2.2.2.2.2.1 s.2.2.2.2.2.2.2.2.2.2.2.1 s.2.2.2.2.2.2.2.2.2.2.2.2.1 s.2.2.2.2.2.2.2.2.2.2.2.2.2.1 s.2.2.2.2.2.2.2.2.2.2.2.2.2.2.1 s.2.2.2.2.2.2.2.2.2.2.2.2.2.2.2) (fun s => I s.1 s.2.1 s.2.2.1 s.2.2.2.1 s.2.2.2.2.1 s.2.2.2.2.2.1 s.2.2.2.2.2.2.1 s.2.2.2.2.2.2.2.1 s.2.2.2.2.2.2.2.2.1 s.2.2.2.2.2.2.2.2.2.1 s.2.2.2.2.2.2.2.2.2.2.1 s.2.2.2.2.2.2.2.2.2.2.2.1 s.2.2.2.2.2.2.2.2.2.2.2.2.1 s.2.2.2.2.2.2.2.2.2.2.2.2.2.1 s.2.2.2.2.2.2.2.2.2.2.2.2.2.2.1 s.2.2.2.2.2.2.2.2.2.2.2.2.2.2.2) (fun s => μ s.1 s.2.1 s.2.2.1 s.2.2.2.1 s.2.2.2.2.1 s.2.2.2.2.2.1 s.2.2.2.2.2.2.1 s.2.2.2.2.2.2.2.1 s.2.2.2.2.2.2.2.2.1 s.2.2.2.2.2.2.2.2.2.1 s.2.2.2.2.2.2.2.2.2.2.1 s.2.2.2.2.2.2.2.2.2.2.2.1 s.2.2.2.2.2.2.2.2.2.2.2.2.1 s.2.2.2.2.2.2.2.2.2.2.2.2.2.1 s.2.2.2.2.2.2.2.2.2.2.2.2.2.2.1 s.2.2.2.2.2.2.2.2.2.2.2.2.2.2.2) (fun n s hI hk => hs n s.1 s.2.1 s.2.2.1 s.2.2.2.1 s.2.2.2.2.1 s.2.2.2.2.2.1 s.2.2.2.2.2.2.1 s.2.2.2.2.2.2.2.1 s.2.2.2.2.2.2.2.2.1 s.2.2.2.2.2.2.2.2.2.1 s.2.2.2.2.2.2.2.2.2.2.1 s.2.2.2.2.2.2.2.2.2.2.2.1 s.2.2.2.2.2.2.2.2.2.2.2.2.1 s.2.2.2.2.2.2.2.2.2.2.2.2.2.1 s.2.2.2.2.2.2.2.2.2.2.2.2.2.2.1 s.2.2.2.2.2.2.2.2.2.2.2.2.2.2.2 hI (fun b1 b2 b3 b4 b5 b6 b7 b8 b9 b10 b11 b12 b13 b14 b15 b16 h9 hm => hk (b1, b2, b3, b4, b5, b6, b7, b8, b9, b10, b11, b12, b13, b14, b15, b16) h9 hm)) (a1, a2, a3, a4, a5, a6, a7, a8, a9, a10, a11, a12, a13, a14, a15, a16) h
theorem pk_least (P : Nat → Prop) (h : ∃ k, P k) : ∃ k, P k ∧ ∀ j, j < k → ¬ P j := by
  obtain ⟨k, hk⟩ := h
  induction k using Nat.strongRecOn with
  | ind k ih =>
    by_cases e : ∃ j, j < k ∧ P j
    · obtain ⟨j, hj, pj⟩ := e
      exact ih j hj pj
    · exact ⟨k, hk, fun j hj pj => e ⟨j, hj, pj⟩⟩
theorem rp1 {ρ A1 : Type} (W : Nat → (ρ → Prop) → A1 → Prop) (ok : A1 → Prop) (μ : A1 → Nat) (val : A1 → ρ)
    (hs : ∀ (d : Nat) (post : ρ → Prop) (a1 : A1), ok a1 → post (val a1) → (∀ (post' : ρ → Prop) (b1 : A1), ok b1 → μ b1 < μ a1 → post' (val b1) → W d post' b1) → W (d + 1) post a1) :
    ∀ (d : Nat) (post : ρ → Prop) (a1 : A1), ok a1 → μ a1 < d → post (val a1) → W d post a1 := by
  intro d
  induction d with
  | zero => intro post a1 _ h; omega
  | succ d ih =>
    intro post a1 ho hm hp
    exact hs d post a1 ho hp (fun post' b1 ho' hm' hp' => ih post' b1 ho' (by omega) hp')
theorem rp2 {ρ A1 A2 : Type} (W : Nat → (ρ → Prop) → A1 → A2 → Prop) (ok : A1 → A2 → Prop) (μ : A1 → A2 → Nat) (val : A1 → A2 → ρ)
    (hs : ∀ (d : Nat) (post : ρ → Prop) (a1 : A1) (a2 : A2), ok a1 a2 → post (val a1 a2) → (∀ (post' : ρ → Prop) (b1 : A1) (b2 : A2), ok b1 b2 → μ b1 b2 < μ a1 a2 → post' (val b1 b2) → W d post' b1 b2) → W (d + 1) post a1 a2) :
    ∀ (d : Nat) (post : ρ → Prop) (a1 : A1) (a2 : A2), ok a1 a2 → μ a1 a2 < d → post (val a1 a2) → W d post a1 a2 := by
  intro d
  induction d with
  | zero => intro post a1 a2 _ h; omega
  | succ d ih =>
    intro post a1 a2 ho hm hp
    exact hs d post a1 a2 ho hp (fun post' b1 b2 ho' hm' hp' => ih post' b1 b2 ho' (by omega) hp')
theorem rp3 {ρ A1 A2 A3 : Type} (W : Nat → (ρ → Prop) → A1 → A2 → A3 → Prop) (ok : A1 → A2 → A3 → Prop) (μ : A1 → A2 → A3 → Nat) (val : A1 → A2 → A3 → ρ)
    (hs : ∀ (d : Nat) (post : ρ → Prop) (a1 : A1) (a2 : A2) (a3 : A3), ok a1 a2 a3 → post (val a1 a2 a3) → (∀ (post' : ρ → Prop) (b1 : A1) (b2 : A2) (b3 : A3), ok b1 b2 b3 → μ b1 b2 b3 < μ a1 a2 a3 → post' (val b1 b2 b3) → W d post' b1 b2 b3) → W (d + 1) post a1 a2 a3) :
    ∀ (d : Nat) (post : ρ → Prop) (a1 : A1) (a2 : A2) (a3 : A3), ok a1 a2 a3 → μ a1 a2 a3 < d → post (val a1 a2 a3) → W d post a1 a2 a3 := by
  intro d
  induction d with
  | zero => intro post a1 a2 a3 _ h; omega
  | succ d ih =>
    intro post a1 a2 a3 ho hm hp
    exact hs d post a1 a2 a3 ho hp (fun post' b1 b2 b3 ho' hm' hp' => ih post' b1 b2 b3 ho' (by omega) hp')
theorem rp4 {ρ A1 A2 A3 A4 : Type} (W : Nat → (ρ → Prop) → A1 → A2 → A3 → A4 → Prop) (ok : A1 → A2 → A3 → A4 → Prop) (μ : A1 → A2 → A3 → A4 → Nat) (val : A1 → A2 → A3 → A4 → ρ)
    (hs : ∀ (d : Nat) (post : ρ → Prop) (a1 : A1) (a2 : A2) (a3 : A3) (a4 : A4), ok a1 a2 a3 a4 → post (val a1 a2 a3 a4) → (∀ (post' : ρ → Prop) (b1 : A1) (b2 : A2) (b3 : A3) (b4 : A4), ok b1 b2 b3 b4 → μ b1 b2 b3 b4 < μ a1 a2 a3 a4 → post' (val b1 b2 b3 b4) → W d post' b1 b2 b3 b4) → W (d + 1) post a1 a2 a3 a4) :
    ∀ (d : Nat) (post : ρ → Prop) (a1 : A1) (a2 : A2) (a3 : A3) (a4 : A4), ok a1 a2 a3 a4 → μ a1 a2 a3 a4 < d → post (val a1 a2 a3 a4) → W d post a1 a2 a3 a4 := by
  intro d
  induction d with
  | zero => intro post a1 a2 a3 a4 _ h; omega
  | succ d ih =>
    intro post a1 a2 a3 a4 ho hm hp
    exact hs d post a1 a2 a3 a4 ho hp (fun post' b1 b2 b3 b4 ho' hm' hp' => ih post' b1 b2 b3 b4 ho' (by omega) hp')
theorem rp5 {ρ A1 A2 A3 A4 A5 : Type} (W : Nat → (ρ → Prop) → A1 → A2 → A3 → A4 → A5 → Prop) (ok : A1 → A2 → A3 → A4 → A5 → Prop) (μ : A1 → A2 → A3 → A4 → A5 → Nat) (val : A1 → A2 → A3 → A4 → A5 → ρ)
    (hs : ∀ (d : Nat) (post : ρ → Prop) (a1 : A1) (a2 : A2) (a3 : A3) (a4 : A4) (a5 : A5), ok a1 a2 a3 a4 a5 → post (val a1 a2 a3 a4 a5) → (∀ (post' : ρ → Prop) (b1 : A1) (b2 : A2) (b3 : A3) (b4 : A4) (b5 : A5), ok b1 b2 b3 b4 b5 → μ b1 b2 b3 b4 b5 < μ a1 a2 a3 a4 a5 → post' (val b1 b2 b3 b4 b5) → W d post' b1 b2 b3 b4 b5) → W (d + 1) post a1 a2 a3 a4 a5) :
    ∀ (d : Nat) (post : ρ → Prop) (a1 : A1) (a2 : A2) (a3 : A3) (a4 : A4) (a5 : A5), ok a1 a2 a3 a4 a5 → μ a1 a2 a3 a4 a5 < d → post (val a1 a2 a3 a4 a5) → W d post a1 a2 a3 a4 a5 := by
  intro d
  induction d with
  | zero => intro post a1 a2 a3 a4 a5 _ h; omega
  | succ d ih =>
    intro post a1 a2 a3 a4 a5 ho hm hp
    exact hs d post a1 a2 a3 a4 a5 ho hp (fun post' b1 b2 b3 b4 b5 ho' hm' hp' => ih post' b1 b2 b3 b4 b5 ho' (by omega) hp')
theorem rp6 {ρ A1 A2 A3 A4 A5 A6 : Type} (W : Nat → (ρ → Prop) → A1 → A2 → A3 → A4 → A5 → A6 → Prop) (ok : A1 → A2 → A3 → A4 → A5 → A6 → Prop) (μ : A1 → A2 → A3 → A4 → A5 → A6 → Nat) (val : A1 → A2 → A3 → A4 → A5 → A6 → ρ)
    (hs : ∀ (d : Nat) (post : ρ → Prop) (a1 : A1) (a2 : A2) (a3 : A3) (a4 : A4) (a5 : A5) (a6 : A6), ok a1 a2 a3 a4 a5 a6 → post (val a1 a2 a3 a4 a5 a6) → (∀ (post' : ρ → Prop) (b1 : A1) (b2 : A2) (b3 : A3) (b4 : A4) (b5 : A5) (b6 : A6), ok b1 b2 b3 b4 b5 b6 → μ b1 b2 b3 b4 b5 b6 < μ a1 a2 a3 a4 a5 a6 → post' (val b1 b2 b3 b4 b5 b6) → W d post' b1 b2 b3 b4 b5 b6) → W (d + 1) post a1 a2 a3 a4 a5 a6) :
    ∀ (d : Nat) (post : ρ → Prop) (a1 : A1) (a2 : A2) (a3 : A3) (a4 : A4) (a5 : A5) (a6 : A6), ok a1 a2 a3 a4 a5 a6 → μ a1 a2 a3 a4 a5 a6 < d → post (val a1 a2 a3 a4 a5 a6) → W d post a1 a2 a3 a4 a5 a6 := by
  intro d
  induction d with
  | zero => intro post a1 a2 a3 a4 a5 a6 _ h; omega
  | succ d ih =>
    intro post a1 a2 a3 a4 a5 a6 ho hm hp
    exact hs d post a1 a2 a3 a4 a5 a6 ho hp (fun post' b1 b2 b3 b4 b5 b6 ho' hm' hp' => ih post' b1 b2 b3 b4 b5 b6 ho' (by omega) hp')
theorem rec_p {σ ρ : Type} (W : Nat → (ρ → Prop) → σ → Prop) (ok : σ → Prop) (μ : σ → Nat) (val : σ → ρ)
    (hs : ∀ d s post, ok s → post (val s) → (∀ s' post', ok s' → μ s' < μ s → post' (val s') → W d post' s') → W (d + 1) post s) :
    ∀ d s post, ok s → μ s < d → post (val s) → W d post s := by
  intro d
  induction d with
  | zero => intro s post _ h; omega
  | succ d ih =>
    intro s post ho hm hp
    exact hs d s post ho hp (fun s' post' ho' hm' hp' => ih s' post' ho' (by omega) hp')
theorem rec_q {σ ρ : Type} (W : Nat → (ρ → Prop) → σ → Prop) (ok : σ → Prop) (μ : σ → Nat) (Q : σ → ρ → Prop)
    (hs : ∀ d s post, ok s → (∀ r, Q s r → post r) → (∀ s' post', ok s' → μ s' < μ s → (∀ r, Q s' r → post' r) → W d post' s') → W (d + 1) post s) :
    ∀ d s post, ok s → μ s < d → (∀ r, Q s r → post r) → W d post s := by
  intro d
  induction d with
  | zero => intro s post _ h; omega
  | succ d ih =>
    intro s post ho hm hp
    exact hs d s post ho hp (fun s' post' ho' hm' hp' => ih s' post' ho' (by omega) hp')
def bx_sum (f : Nat → Int32) : Nat → Int32
  | 0 => 0
  | n + 1 => bx_sum f n + f n
theorem ek_u {A : Prop} {B : Nat → Prop} {k N : Nat} (hk : k < N) (h : B k) : (some k = none → A) ∧ (∀ y : Nat, some k = some y → (y < N ∧ B y)) :=
  ⟨fun z => absurd z (Option.some_ne_none k), fun _ e => (by cases e; exact ⟨hk, h⟩)⟩
theorem ek_nu {A : Prop} {B : Nat → Prop} (h : A) : ((none : Option Nat) = none → A) ∧ (∀ y : Nat, (none : Option Nat) = some y → B y) :=
  ⟨fun _ => h, fun _ e => (by cases e)⟩
theorem ek_if {c d A B : Prop} (e : c ↔ d) (f : d → A) (g : ¬ d → B) : (c → A) ∧ (¬ c → B) :=
  ⟨fun z => f (e.mp z), fun z => g (fun y => z (e.mpr y))⟩
theorem ek_v {α : Sort _} {P : α → Prop} {a b : α} (e : a = b) (h : P b) : P a := e ▸ h
theorem co_some {x : Option Nat} {A : Prop} {B : Nat → Prop} (i : Nat) (h : B i) (hx : x = some i := by rfl) : (x = none → A) ∧ (∀ y : Nat, x = some y → B y) := by
  subst hx
  exact ⟨fun e => (nomatch e), fun y e => Option.some.inj e ▸ h⟩
theorem co_none {x : Option Nat} {A : Prop} {B : Nat → Prop} (h : A) (hx : x = none := by rfl) : (x = none → A) ∧ (∀ y : Nat, x = some y → B y) := by
  subst hx
  exact ⟨fun _ => h, fun y e => (nomatch e)⟩
theorem co_any {x : Option Nat} {A : Prop} {B : Nat → Prop} (hn : x = none → A) (hs : ∀ i : Nat, x = some i → B i) : (x = none → A) ∧ (∀ y : Nat, x = some y → B y) := ⟨hn, hs⟩
theorem co_2 {P : Nat → Prop} (h0 : P 0) (h1 : P 1) {i : Nat} (hi : i < 2) : P i :=
  match i, hi with
  | 0, _ => h0
  | 1, _ => h1
theorem co_3 {P : Nat → Prop} (h0 : P 0) (h1 : P 1) (h2 : P 2) {i : Nat} (hi : i < 3) : P i :=
  match i, hi with
  | 0, _ => h0
  | 1, _ => h1
  | 2, _ => h2
theorem co_4 {P : Nat → Prop} (h0 : P 0) (h1 : P 1) (h2 : P 2) (h3 : P 3) {i : Nat} (hi : i < 4) : P i :=
  match i, hi with
  | 0, _ => h0
  | 1, _ => h1
  | 2, _ => h2
  | 3, _ => h3
theorem co_dec {N : Nat} {P : Nat → Prop} [DecidablePred P] (h : (List.range N).all (fun i => decide (P i)) = true) {i : Nat} (hi : i < N) : P i := by
  have := List.all_eq_true.mp h i (List.mem_range.mpr hi)
  exact of_decide_eq_true this
theorem co_tab {α : Type} {l : List α} {d : α} {P : α → Prop} (h : ∀ a, a ∈ l → P a) {i : Nat} (hi : i < l.length) : P (l.getD i d) := by
  rw [List.getD_eq_getElem?_getD, List.getElem?_eq_getElem hi]
  exact h _ (List.getElem_mem hi)
theorem pk_mu {x : Int32} {L : Nat} (h0 : ¬ x < 0) (h : ¬ nI L ≤ x) (hL : L < 2 ^ 31) : ∃ j : Nat, j < L ∧ x = nI j ∧ x + 1 = nI (j + 1) ∧ x.toNatClampNeg = j ∧ L - (x + 1).toNatClampNeg < L - x.toNatClampNeg := by
  obtain ⟨j, hj, rfl⟩ := nI_of h0
  have hl : j < L := Nat.not_le.mp fun q => h (nI_le q hj)
  refine ⟨j, hl, rfl, nI_1 j, nI_clamp hj, ?_⟩
  rw [nI_1, nI_clamp (by omega), nI_clamp hj]
  omega
theorem op_s {α : Type} {r : Option α} {A : Prop} {B : α → Prop} {y : α} (h : r = some y) (b : B y) : (r = none → A) ∧ ∀ z, r = some z → B z :=
  ⟨fun e => (by rw [h] at e; cases e), fun z e => (by rw [h] at e; cases e; exact b)⟩
def l_holds {α : Type} (a : Nat → Option Nat) (LP : List Nat) (p : Nat → α) (c : Nat) (b : Nat → α) : Prop :=
  ∀ j, j < c → ∃ y, a j = some y ∧ y ∈ LP ∧ p y = b j
theorem l_holds_0 {α : Type} {a : Nat → Option Nat} {LP : List Nat} {p b : Nat → α} : l_holds a LP p 0 b := fun j h => absurd h (Nat.not_lt_zero j)
theorem l_in_new (LP : List Nat) (q : Nat) : q ∈ LP ++ [q] := List.mem_append.mpr (Or.inr (List.mem_singleton.mpr rfl))
def l_sum (b : Nat → Int32) : Nat → Int32
  | 0 => 0
  | k + 1 => l_sum b k + b k
theorem sb_shr0 (x : Int32) : x >>> ((0 : Int32) &&& 31) = x := by
  rw [show ((0 : Int32) &&& 31) = 0 by decide]
  simp
theorem sb_shl0 (x : Int32) : x <<< ((0 : Int32) &&& 31) = x := by
  rw [show ((0 : Int32) &&& 31) = 0 by decide]
  simp
theorem sb_cl0 : (0 : Int32).toNatClampNeg = 0 := by decide
theorem sb_m1 {p : Nat} (h : 0 < p) : nI p + (-1) = nI (p - 1) := by
  obtain ⟨q, rfl⟩ : ∃ q, p = q + 1 := ⟨p - 1, by omega⟩
  exact pk_m1 q
def sb_b (c : Nat) : Int32 := (nI c).toInt8.toInt32
theorem sb_byte : ∀ c, c < 256 → sb_b c &&& 255 = nI c ∧ ((nI c).toUInt32 % 65536).toInt32 = nI c ∧ nI c ≤ 255 := by decide +kernel
def sb_Fit (a : Nat → Int32) : Prop := ∀ j, fits .byte (.int (a j)) = true
def sb_Lat (t : Nat → Nat) (n : Nat) (a : Nat → Int32) : Prop := ∀ j, j < n → t j < 256 ∧ a j = sb_b (t j)
theorem sb_fitB (c : Nat) : fits .byte (.int (sb_b c)) = true := pk_fb _
theorem sb_fit0 : sb_Fit (fun _ => 0) := fun _ => by
  show fits .byte (.int 0) = true
  decide
theorem sb_fitU {a : Nat → Int32} {k : Nat} {x : Int32} (h : sb_Fit a) (hx : fits .byte (.int x) = true) : sb_Fit (upd a k x) := by
  intro j
  by_cases e : j = k
  · subst e
    rw [pk_us]
    exact hx
  · rw [pk_un e]
    exact h j
def sb_cat (t : Nat → Nat) (n : Nat) (s : Nat → Nat) : Nat → Nat := fun j => if j < n then t j else s (j - n)
theorem sb_cat_lo {t s : Nat → Nat} {n j : Nat} (h : j < n) : sb_cat t n s j = t j := if_pos h
theorem sb_cat_hi {t s : Nat → Nat} {n j : Nat} : sb_cat t n s (n + j) = s j := by
  show (if n + j < n then t (n + j) else s (n + j - n)) = s j
  rw [if_neg (by omega), Nat.add_sub_cancel_left]
theorem sb_latPut {t s : Nat → Nat} {n w : Nat} {a a' : Nat → Int32} (h : sb_Lat t n a) (hk : ∀ j, j < n → a' j = a j) (hs : ∀ i, i < w → s i < 256 ∧ a' (n + i) = sb_b (s i)) : sb_Lat (sb_cat t n s) (n + w) a' := by
  intro j hj
  by_cases e : j < n
  · rw [sb_cat_lo e, hk j e]
    exact h j e
  · obtain ⟨i, rfl⟩ : ∃ i, j = n + i := ⟨j - n, by omega⟩
    rw [sb_cat_hi]
    exact hs i (by omega)
theorem sb_latKeep {t : Nat → Nat} {n : Nat} {a a' : Nat → Int32} (h : sb_Lat t n a) (hk : ∀ j, j < n → a' j = a j) : sb_Lat t n a' := fun j hj => by
  rw [hk j hj]
  exact h j hj
def sb_cap (q m : Nat) : Nat := if q ≤ m then m else if 2 * m + 2 < q then q else 2 * m + 2
def sb_Room (q m mc ms : Nat) : Prop := q ≤ m ∨ (1 ≤ mc ∧ sb_cap q m ≤ ms ∧ sb_cap q m ≤ 65536)
theorem sb_cap_ge (q m : Nat) : q ≤ sb_cap q m := by
  unfold sb_cap
  split
  · omega
  · split <;> omega
theorem sb_cap_gem (q m : Nat) : m ≤ sb_cap q m := by
  unfold sb_cap
  split
  · omega
  · split <;> omega
theorem sb_cap_le {q m mc ms : Nat} (hm : m ≤ 65536) (hr : sb_Room q m mc ms) : sb_cap q m ≤ 65536 := by
  rcases hr with h | h
  · rw [sb_cap, if_pos h]
    exact hm
  · exact h.2.2
theorem sb_at {P : Int32 → Prop} {x y : Int32} (e : x = y) (h : P y) : P x := e ▸ h
def sb_dg (w : Nat) : Nat := if w < 10 then 1 else if w < 100 then 2 else if w < 1000 then 3 else if w < 10000 then 4 else if w < 100000 then 5 else if w < 1000000 then 6 else if w < 10000000 then 7 else if w < 100000000 then 8 else if w < 1000000000 then 9 else 10
def sb_dec (v : Nat) : Nat → Nat := fun i => 48 + v / 10 ^ (sb_dg v - 1 - i) % 10
theorem sb_dg_in (w : Nat) : 1 ≤ sb_dg w ∧ sb_dg w ≤ 10 := by
  unfold sb_dg
  constructor <;> (repeat' split) <;> omega
theorem sb_dg100 {w : Nat} (h : 100 ≤ w) (hw : w < 2 ^ 31) : sb_dg w = sb_dg (w / 100) + 2 := by
  rw [sb_dg, sb_dg, if_neg (show ¬ w < 10 by omega), if_neg (show ¬ w < 100 by omega)]
  by_cases h3 : w < 1000
  · rw [if_pos h3, if_pos (show w / 100 < 10 by omega)]
  rw [if_neg h3, if_neg (show ¬ w / 100 < 10 by omega)]
  by_cases h4 : w < 10000
  · rw [if_pos h4, if_pos (show w / 100 < 100 by omega)]
  rw [if_neg h4, if_neg (show ¬ w / 100 < 100 by omega)]
  by_cases h5 : w < 100000
  · rw [if_pos h5, if_pos (show w / 100 < 1000 by omega)]
  rw [if_neg h5, if_neg (show ¬ w / 100 < 1000 by omega)]
  by_cases h6 : w < 1000000
  · rw [if_pos h6, if_pos (show w / 100 < 10000 by omega)]
  rw [if_neg h6, if_neg (show ¬ w / 100 < 10000 by omega)]
  by_cases h7 : w < 10000000
  · rw [if_pos h7, if_pos (show w / 100 < 100000 by omega)]
  rw [if_neg h7, if_neg (show ¬ w / 100 < 100000 by omega)]
  by_cases h8 : w < 100000000
  · rw [if_pos h8, if_pos (show w / 100 < 1000000 by omega)]
  rw [if_neg h8, if_neg (show ¬ w / 100 < 1000000 by omega)]
  by_cases h9 : w < 1000000000
  · rw [if_pos h9, if_pos (show w / 100 < 10000000 by omega)]
  rw [if_neg h9, if_neg (show ¬ w / 100 < 10000000 by omega)]
  rw [if_pos (show w / 100 < 100000000 by omega)]
theorem sb_negT {w : Nat} (h : w < 2 ^ 31) : (-nI w).toInt = -(w : Int) := by
  rw [Int32.toInt_neg, nI_toInt h]
  exact Int.bmod_eq_of_le (by omega) (by omega)
theorem sb_nle {a b : Nat} (ha : a < 2 ^ 31) (hb : b < 2 ^ 31) : -nI a ≤ -nI b ↔ b ≤ a := by
  rw [Int32.le_iff_toInt_le, sb_negT ha, sb_negT hb]
  omega
theorem sb_nlt {a b : Nat} (ha : a < 2 ^ 31) (hb : b < 2 ^ 31) : -nI a < -nI b ↔ b < a := by
  rw [Int32.lt_iff_toInt_lt, sb_negT ha, sb_negT hb]
  omega
theorem sb_cmp {A B : Prop} {x : Int32} (v c : Nat) (f : c ≤ v → A) (g : v < c → B) (hv : v < 2 ^ 31) (hx : x = -nI c := by rfl) (hc : c < 2 ^ 31 := by omega) : (-nI v ≤ x → A) ∧ (¬ -nI v ≤ x → B) := by
  subst hx
  rw [sb_nle hv hc]
  exact ⟨f, fun z => g (by omega)⟩
theorem sb_ndiv {w : Nat} (hw : w < 2 ^ 31) : (-nI w) / 100 = -nI (w / 100) := by
  apply Int32.toInt_inj.mp
  have h100 : (100 : Int32).toInt = 100 := by decide
  rw [Int32.toInt_div, sb_negT hw, h100, sb_negT (by omega), Int.neg_tdiv, Int.tdiv_eq_ediv_of_nonneg (by omega), Int.bmod_eq_of_le (by omega) (by omega)]
  omega
theorem sb_nrem {w : Nat} (hw : w < 2 ^ 31) : (-nI (w / 100)) * 100 - (-nI w) = nI (w % 100) := by
  have h := pk_rem (a := w) (d := 100) hw (by decide) (by decide)
  rw [pk_div hw (by decide) (by decide)] at h
  rw [← h]
  show (-nI (w / 100)) * nI 100 - (-nI w) = nI w - nI (w / 100) * nI 100
  rw [Int32.neg_mul, Int32.sub_neg, Int32.add_comm, ← Int32.sub_eq_add_neg]
end
section
/-! ===== the abstract program: terms T (field, node), statements S (field, node), all naturals ===== -/
/-- terms: kind, number, left, right, size, mask -/
def zt_k (T : Nat → Nat → Nat) (t : Nat) : Nat := T 0 t
def zt_n (T : Nat → Nat → Nat) (t : Nat) : Nat := T 1 t
def zt_a (T : Nat → Nat → Nat) (t : Nat) : Nat := T 2 t
def zt_b (T : Nat → Nat → Nat) (t : Nat) : Nat := T 3 t
def zt_s (T : Nat → Nat → Nat) (t : Nat) : Nat := T 4 t
def zt_m (T : Nat → Nat → Nat) (t : Nat) : Nat := T 5 t
/-- statements: kind, register, number, parts, tests, code length, compiler work, words -/
def zs_k (S : Nat → Nat → Nat) (s : Nat) : Nat := S 0 s
def zs_r (S : Nat → Nat → Nat) (s : Nat) : Nat := S 1 s
def zs_n (S : Nat → Nat → Nat) (s : Nat) : Nat := S 2 s
def zs_a (S : Nat → Nat → Nat) (s : Nat) : Nat := S 3 s
def zs_b (S : Nat → Nat → Nat) (s : Nat) : Nat := S 4 s
def zs_x (S : Nat → Nat → Nat) (s : Nat) : Nat := S 5 s
def zs_y (S : Nat → Nat → Nat) (s : Nat) : Nat := S 6 s
def zs_L (S : Nat → Nat → Nat) (s : Nat) : Nat := S 7 s
def zs_I (S : Nat → Nat → Nat) (s : Nat) : Nat := S 8 s
def zs_W (S : Nat → Nat → Nat) (s : Nat) : Nat := S 9 s
/-- what an op of apply gives -/
def zt_op (k : Nat) (x y : Int32) : Int32 :=
  if k = 0 then x + y else if k = 1 then x - y else if k = 2 then x * y else if k = 3 then x ^^^ y else if k = 4 then x &&& y
  else if k = 5 then (if y ≤ x then 0 else 1) else (if x = y then 1 else 0)
/-- a term's value, with fuel -/
def zt_v (T : Nat → Nat → Nat) (ρ : Nat → Int32) : Nat → Nat → Int32
  | 0, _ => 0
  | n + 1, t => if zt_k T t = 7 then nI (zt_n T t) else if zt_k T t = 8 then ρ (zt_n T t) else zt_op (zt_k T t) (zt_v T ρ n (zt_a T t)) (zt_v T ρ n (zt_b T t))
def zt_val (T : Nat → Nat → Nat) (ρ : Nat → Int32) (t : Nat) : Int32 := zt_v T ρ (t + 1) t
/-- one term is in order -/
def zt_ok1 (T : Nat → Nat → Nat) (t : Nat) : Prop :=
  zt_k T t ≤ 8 ∧ (zt_k T t = 7 → vp_nar .byte (nI (zt_n T t)) = nI (zt_n T t)) ∧ (zt_k T t = 8 → zt_n T t < 6) ∧
  (zt_k T t ≤ 6 → zt_a T t < t ∧ zt_b T t < t ∧ zt_s T t = 1 + zt_s T (zt_a T t) + zt_s T (zt_b T t)) ∧ (7 ≤ zt_k T t → zt_s T t = 1) ∧
  zt_s T t ≤ t + 1 ∧ 1 ≤ zt_s T t ∧ zt_m T t < 64 ∧ (zt_k T t = 8 → zt_m T t = 2 ^ zt_n T t) ∧
  (zt_k T t ≤ 6 → zt_m T t = zt_m T (zt_a T t) ||| zt_m T (zt_b T t))
def zt_ok (T : Nat → Nat → Nat) (n : Nat) : Prop := ∀ t, t < n → zt_ok1 T t
theorem zt_fuel {T : Nat → Nat → Nat} {N : Nat} (h : zt_ok T N) (ρ : Nat → Int32) : ∀ t, t < N → ∀ n m, t < n → t < m → zt_v T ρ n t = zt_v T ρ m t := by
  intro t
  induction t using Nat.strongRecOn with
  | _ t ih =>
    intro ht n m hn hm
    obtain ⟨n, rfl⟩ : ∃ k, n = k + 1 := ⟨n - 1, by omega⟩
    obtain ⟨m, rfl⟩ : ∃ k, m = k + 1 := ⟨m - 1, by omega⟩
    unfold zt_v
    have hk := h t ht
    by_cases h7 : zt_k T t = 7
    · rw [if_pos h7, if_pos h7]
    · by_cases h8 : zt_k T t = 8
      · rw [if_neg h7, if_neg h7, if_pos h8, if_pos h8]
      · obtain ⟨ha, hb, _⟩ := hk.2.2.2.1 (by have := hk.1; omega)
        rw [if_neg h7, if_neg h7, if_neg h8, if_neg h8, ih _ ha (by omega) n m (by omega) (by omega), ih _ hb (by omega) n m (by omega) (by omega)]
theorem zt_val7 {T : Nat → Nat → Nat} {ρ : Nat → Int32} {t : Nat} (h : zt_k T t = 7) : zt_val T ρ t = nI (zt_n T t) := by
  unfold zt_val zt_v; rw [if_pos h]
theorem zt_val8 {T : Nat → Nat → Nat} {ρ : Nat → Int32} {t : Nat} (h : zt_k T t = 8) : zt_val T ρ t = ρ (zt_n T t) := by
  unfold zt_val zt_v; rw [if_neg (by omega), if_pos h]
theorem zt_valop {T : Nat → Nat → Nat} {N : Nat} (ho : zt_ok T N) {ρ : Nat → Int32} {t : Nat} (ht : t < N) (h : zt_k T t ≤ 6) :
    zt_val T ρ t = zt_op (zt_k T t) (zt_val T ρ (zt_a T t)) (zt_val T ρ (zt_b T t)) := by
  obtain ⟨ha, hb, _⟩ := (ho t ht).2.2.2.1 h
  show zt_v T ρ (t + 1) t = _
  unfold zt_v
  rw [if_neg (by omega), if_neg (by omega)]
  unfold zt_val
  rw [zt_fuel ho ρ _ (by omega) t (zt_a T t + 1) ha (by omega), zt_fuel ho ρ _ (by omega) t (zt_b T t + 1) hb (by omega)]
/-- a value depends on the six registers alone -/
theorem zt_cong {T : Nat → Nat → Nat} {N : Nat} (ho : zt_ok T N) {ρ σ : Nat → Int32} (e : ∀ r, r < 6 → ρ r = σ r) : ∀ t, t < N → zt_val T ρ t = zt_val T σ t := by
  intro t
  induction t using Nat.strongRecOn with
  | _ t ih =>
    intro ht
    have hk := ho t ht
    by_cases h7 : zt_k T t = 7
    · rw [zt_val7 h7, zt_val7 h7]
    · by_cases h8 : zt_k T t = 8
      · rw [zt_val8 h8, zt_val8 h8, e _ (hk.2.2.1 h8)]
      · have h6 : zt_k T t ≤ 6 := by have := hk.1; omega
        obtain ⟨ha, hb, _⟩ := hk.2.2.2.1 h6
        rw [zt_valop ho ht h6, zt_valop ho ht h6, ih _ ha (by omega), ih _ hb (by omega)]
/-- .. and on those of its mask -/
theorem zt_free {T : Nat → Nat → Nat} {N : Nat} (ho : zt_ok T N) {ρ : Nat → Int32} {r : Nat} (x : Int32) : ∀ t, t < N → (zt_m T t).testBit r = false → zt_val T (upd ρ r x) t = zt_val T ρ t := by
  intro t
  induction t using Nat.strongRecOn with
  | _ t ih =>
    intro ht hm
    have hk := ho t ht
    by_cases h7 : zt_k T t = 7
    · rw [zt_val7 h7, zt_val7 h7]
    · by_cases h8 : zt_k T t = 8
      · rw [zt_val8 h8, zt_val8 h8]
        refine pk_un ?_
        intro e
        rw [hk.2.2.2.2.2.2.2.2.1 h8, e, Nat.testBit_two_pow_self] at hm
        exact absurd hm (by decide)
      · have h6 : zt_k T t ≤ 6 := by have := hk.1; omega
        obtain ⟨ha, hb, _⟩ := hk.2.2.2.1 h6
        rw [hk.2.2.2.2.2.2.2.2.2 h6, Nat.testBit_or, Bool.or_eq_false_iff] at hm
        rw [zt_valop ho ht h6, zt_valop ho ht h6, ih _ ha (by omega) hm.1, ih _ hb (by omega) hm.2]
/-- one statement is in order -/
def zs_ok1 (S T : Nat → Nat → Nat) (nT s : Nat) : Prop :=
  zs_k S s ≤ 12 ∧ ((1 ≤ zs_k S s ∧ zs_k S s ≤ 3) ∨ (6 ≤ zs_k S s ∧ zs_k S s ≤ 8) → zs_r S s < 6) ∧ (zs_k S s = 1 → zs_n S s < 6) ∧
  (zs_k S s = 4 ∨ zs_k S s = 5 → zs_n S s < 3) ∧ (6 ≤ zs_k S s ∧ zs_k S s ≤ 9 → zs_x S s < nT) ∧
  (6 ≤ zs_k S s ∧ zs_k S s ≤ 8 → (zt_m T (zs_x S s)).testBit (zs_r S s) = false) ∧
  (10 ≤ zs_k S s → zs_a S s < s ∧ zs_b S s < s) ∧ (11 ≤ zs_k S s → zs_x S s < nT ∧ zs_y S s < nT) ∧
  (zs_k S s ≤ 9 → zs_L S s = 1 ∧ zs_I S s = 1) ∧
  (zs_k S s = 10 → zs_L S s = zs_L S (zs_a S s) + zs_L S (zs_b S s) ∧ zs_I S s = 1 + zs_I S (zs_a S s) + zs_I S (zs_b S s) ∧ zs_W S s = zs_W S (zs_a S s) + zs_W S (zs_b S s)) ∧
  (zs_k S s = 11 → zs_L S s = 4 + zs_L S (zs_a S s) + zs_L S (zs_b S s)) ∧
  (zs_k S s = 12 → zs_L S s = 3 + zs_L S (zs_a S s) + zs_L S (zs_b S s)) ∧
  (11 ≤ zs_k S s → zs_I S s = 3 + zs_I S (zs_a S s) + zs_I S (zs_b S s) ∧
    zs_W S s = zt_s T (zs_x S s) + zt_s T (zs_y S s) + 2 + zs_W S (zs_a S s) + zs_W S (zs_b S s)) ∧
  (6 ≤ zs_k S s ∧ zs_k S s ≤ 9 → zs_W S s = zt_s T (zs_x S s) + 1) ∧ 1 ≤ zs_I S s ∧ 1 ≤ zs_L S s
def zs_ok (S T : Nat → Nat → Nat) (nS nT : Nat) : Prop := ∀ s, s < nS → zs_ok1 S T nT s
/-- a list, its head last, lies in an array -/
def zl_h (a : Nat → Int32) : List Nat → Prop
  | [] => True
  | x :: l => a l.length = nI x ∧ zl_h a l
def zl_v (a : Nat → Int32) : List Int32 → Prop
  | [] => True
  | x :: l => a l.length = x ∧ zl_v a l
def zl_s (f : Nat → Nat) : List Nat → Nat
  | [] => 0
  | x :: l => f x + zl_s f l
def zl_lt (n : Nat) : List Nat → Prop
  | [] => True
  | x :: l => x < n ∧ zl_lt n l
theorem zl_h_upd {a : Nat → Int32} {k : Nat} {v : Int32} : ∀ {l : List Nat}, l.length ≤ k → zl_h a l → zl_h (upd a k v) l := by
  intro l
  induction l with
  | nil => intro _ _; exact trivial
  | cons x l ih =>
    intro hk h
    have hk' : l.length + 1 ≤ k := hk
    exact ⟨by rw [pk_un (by omega)]; exact h.1, ih (by omega) h.2⟩
theorem zl_v_upd {a : Nat → Int32} {k : Nat} {v : Int32} : ∀ {l : List Int32}, l.length ≤ k → zl_v a l → zl_v (upd a k v) l := by
  intro l
  induction l with
  | nil => intro _ _; exact trivial
  | cons x l ih =>
    intro hk h
    have hk' : l.length + 1 ≤ k := hk
    exact ⟨by rw [pk_un (by omega)]; exact h.1, ih (by omega) h.2⟩
theorem zl_h_push {a : Nat → Int32} {l : List Nat} {x : Nat} (h : zl_h a l) : zl_h (upd a l.length (nI x)) (x :: l) := ⟨pk_us, zl_h_upd (Nat.le_refl _) h⟩
theorem zl_v_push {a : Nat → Int32} {l : List Int32} {x : Int32} (h : zl_v a l) : zl_v (upd a l.length x) (x :: l) := ⟨pk_us, zl_v_upd (Nat.le_refl _) h⟩
theorem zl_v_cong {a b : Nat → Int32} : ∀ {l : List Int32}, (∀ j, j < l.length → a j = b j) → zl_v a l → zl_v b l := by
  intro l
  induction l with
  | nil => intro _ _; exact trivial
  | cons x l ih =>
    intro e h
    exact ⟨by rw [← e _ (by show l.length < l.length + 1; omega)]; exact h.1, ih (fun j hj => e j (by show j < l.length + 1; omega)) h.2⟩
theorem zl_s_cong {f g : Nat → Nat} {n : Nat} (e : ∀ x, x < n → f x = g x) : ∀ {l : List Nat}, zl_lt n l → zl_s f l = zl_s g l := by
  intro l
  induction l with
  | nil => intro _; exact rfl
  | cons x l ih => intro h; unfold zl_s; rw [e x h.1, ih h.2]
theorem zl_lt_mono {n m : Nat} (e : n ≤ m) : ∀ {l : List Nat}, zl_lt n l → zl_lt m l := by
  intro l
  induction l with
  | nil => intro _; exact trivial
  | cons x l ih => intro h; exact ⟨Nat.lt_of_lt_of_le h.1 e, ih h.2⟩
/-- a pile that two arrays hold: they agree below its height -/
theorem zl_v_eq {a b : Nat → Int32} : ∀ {l : List Int32}, zl_v a l → zl_v b l → ∀ j, j < l.length → a j = b j := by
  intro l
  induction l with
  | nil => intro _ _ j hj; exact absurd hj (Nat.not_lt_zero j)
  | cons x l ih =>
    intro ha hb j hj
    by_cases e : j = l.length
    · rw [e, ha.1, hb.1]
    · exact ih ha.2 hb.2 j (by have : j < l.length + 1 := hj; omega)
end
section
/-! ===== the two machines, without a program in sight: X's moves in both directions, Y's moves, one outcome ===== -/
def zm_e (d : Bool) (lo L : Nat) : Nat := if d then lo + L else lo
def zm_x (d : Bool) (lo L : Nat) : Nat := if d then lo else lo + L
theorem zm_en (d : Bool) (lo L : Nat) : zm_e (!d) lo L = zm_x d lo L := by cases d <;> rfl
theorem zm_xn (d : Bool) (lo L : Nat) : zm_x (!d) lo L = zm_e d lo L := by cases d <;> rfl
/-- a test, and the one that is near in direction d (back: the second) -/
def zm_t (T : Nat → Nat → Nat) (ρ : Nat → Int32) (t : Nat) : Bool := decide (¬ zt_val T ρ t = 0)
def zm_q (T : Nat → Nat → Nat) (ρ : Nat → Int32) (d : Bool) (x y : Nat) : Bool := if d then zm_t T ρ y else zm_t T ρ x
/-- what a leaf does -/
def zm_sto (r : Nat) (ρ : Nat → Int32) (π : List Int32) : Option ((Nat → Int32) × List Int32) := if π.length = 12 then none else some (upd ρ r 0, ρ r :: π)
def zm_fet (r : Nat) (ρ : Nat → Int32) : List Int32 → Option ((Nat → Int32) × List Int32)
  | [] => none
  | v :: π => if ρ r = 0 then some (upd ρ r v, π) else none
def zm_f (T : Nat → Nat → Nat) (k r n x : Nat) (d : Bool) (ρ : Nat → Int32) (π : List Int32) : Option ((Nat → Int32) × List Int32) :=
  if k = 0 then some (ρ, π)
  else if k = 1 then some (upd (upd ρ r (ρ n)) n (ρ r), π)
  else if k = 2 then (if d then zm_fet r ρ π else zm_sto r ρ π)
  else if k = 3 then (if d then zm_sto r ρ π else zm_fet r ρ π)
  else if k = 6 then (if d then some (upd ρ r (ρ r - zt_val T ρ x), π) else some (upd ρ r (ρ r + zt_val T ρ x), π))
  else if k = 7 then (if d then some (upd ρ r (ρ r + zt_val T ρ x), π) else some (upd ρ r (ρ r - zt_val T ρ x), π))
  else if k = 8 then some (upd ρ r (ρ r ^^^ zt_val T ρ x), π)
  else (if zt_val T ρ x = 0 then none else some (ρ, π))
theorem zm_ext {f g : Nat → Int32} (h : ∀ j, f j = g j) : f = g := funext h
theorem zm_uu {f : Nat → Int32} {k : Nat} {x y : Int32} (h : f k = y) : upd (upd f k x) k y = f := by
  refine zm_ext fun j => ?_
  by_cases e : j = k
  · rw [e, pk_us, h]
  · rw [pk_un e, pk_un e]
theorem zm_sto_r {r : Nat} {ρ ρ' : Nat → Int32} {π π' : List Int32} (h : zm_sto r ρ π = some (ρ', π')) : zm_fet r ρ' π' = some (ρ, π) := by
  unfold zm_sto at h
  by_cases e : π.length = 12
  · rw [if_pos e] at h; exact absurd h (by simp)
  · rw [if_neg e] at h
    injection h with h; injection h with h1 h2
    subst h1; subst h2
    show (if upd ρ r 0 r = 0 then some (upd (upd ρ r 0) r (ρ r), π) else none) = _
    rw [if_pos pk_us, zm_uu rfl]
theorem zm_fet_r {r : Nat} {ρ ρ' : Nat → Int32} {π π' : List Int32} (hl : π.length ≤ 12) (h : zm_fet r ρ π = some (ρ', π')) : zm_sto r ρ' π' = some (ρ, π) := by
  cases π with
  | nil => exact absurd h (by simp [zm_fet])
  | cons v π =>
    have h : (if ρ r = 0 then some (upd ρ r v, π) else none) = some (ρ', π') := h
    by_cases e : ρ r = 0
    · rw [if_pos e] at h
      injection h with h; injection h with h1 h2
      subst h1; subst h2
      unfold zm_sto
      have hl' : π.length + 1 ≤ 12 := hl
      rw [if_neg (by omega), zm_uu e, pk_us]
    · rw [if_neg e] at h; exact absurd h (by simp)
theorem zm_sto_l {r : Nat} {ρ ρ' : Nat → Int32} {π π' : List Int32} (hl : π.length ≤ 12) (h : zm_sto r ρ π = some (ρ', π')) : π'.length ≤ 12 := by
  unfold zm_sto at h
  by_cases e : π.length = 12
  · rw [if_pos e] at h; exact absurd h (by simp)
  · rw [if_neg e] at h
    injection h with h; injection h with h1 h2
    subst h2
    show π.length + 1 ≤ 12
    omega
theorem zm_fet_l {r : Nat} {ρ ρ' : Nat → Int32} {π π' : List Int32} (hl : π.length ≤ 12) (h : zm_fet r ρ π = some (ρ', π')) : π'.length ≤ 12 := by
  cases π with
  | nil => exact absurd h (by simp [zm_fet])
  | cons v π =>
    have h : (if ρ r = 0 then some (upd ρ r v, π) else none) = some (ρ', π') := h
    by_cases e : ρ r = 0
    · rw [if_pos e] at h
      injection h with h; injection h with h1 h2
      subst h2
      have hl' : π.length + 1 ≤ 12 := hl
      omega
    · rw [if_neg e] at h; exact absurd h (by simp)
theorem zm_swap {ρ : Nat → Int32} {r n : Nat} : upd (upd (upd (upd ρ r (ρ n)) n (ρ r)) r (upd (upd ρ r (ρ n)) n (ρ r) n)) n (upd (upd ρ r (ρ n)) n (ρ r) r) = ρ := by
  refine zm_ext fun j => ?_
  by_cases h1 : j = n
  · subst h1
    rw [pk_us]
    by_cases h2 : r = j
    · subst h2; rw [pk_us]
    · rw [pk_un h2, pk_us]
  · rw [pk_un h1]
    by_cases h2 : j = r
    · subst h2; rw [pk_us, pk_us]
    · rw [pk_un h2, pk_un h1, pk_un h2]
section
variable {T : Nat → Nat → Nat} {k r n x : Nat} {ρ ρ' : Nat → Int32} {π π' : List Int32}
theorem zm_f_l {d : Bool} (hl : π.length ≤ 12) (h : zm_f T k r n x d ρ π = some (ρ', π')) : π'.length ≤ 12 := by
  have key : ∀ {a : Nat → Int32}, some (a, π) = some (ρ', π') → π'.length ≤ 12 := by
    intro a h; injection h with h; injection h with h1 h2; rw [← h2]; exact hl
  unfold zm_f at h
  by_cases h0 : k = 0
  · rw [if_pos h0] at h; exact key h
  rw [if_neg h0] at h
  by_cases h0 : k = 1
  · rw [if_pos h0] at h; exact key h
  rw [if_neg h0] at h
  by_cases h0 : k = 2
  · rw [if_pos h0] at h
    cases d
    · exact zm_sto_l hl h
    · exact zm_fet_l hl h
  rw [if_neg h0] at h
  by_cases h0 : k = 3
  · rw [if_pos h0] at h
    cases d
    · exact zm_fet_l hl h
    · exact zm_sto_l hl h
  rw [if_neg h0] at h
  by_cases h0 : k = 6
  · rw [if_pos h0] at h
    cases d
    · exact key h
    · exact key h
  rw [if_neg h0] at h
  by_cases h0 : k = 7
  · rw [if_pos h0] at h
    cases d
    · exact key h
    · exact key h
  rw [if_neg h0] at h
  by_cases h0 : k = 8
  · rw [if_pos h0] at h; exact key h
  rw [if_neg h0] at h
  by_cases h0 : zt_val T ρ x = 0
  · rw [if_pos h0] at h; exact absurd h (by simp)
  · rw [if_neg h0] at h; exact key h
theorem zm_f_r {N : Nat} (ho : zt_ok T N) {d : Bool} (hl : π.length ≤ 12) (hx : 6 ≤ k ∧ k ≤ 8 → x < N ∧ (zt_m T x).testBit r = false)
    (h : zm_f T k r n x d ρ π = some (ρ', π')) : zm_f T k r n x (!d) ρ' π' = some (ρ, π) := by
  unfold zm_f at h
  unfold zm_f
  by_cases h0 : k = 0
  · rw [if_pos h0] at h ⊢
    injection h with h; injection h with h1 h2; rw [h1, h2]
  rw [if_neg h0] at h ⊢
  by_cases h0 : k = 1
  · rw [if_pos h0] at h ⊢
    injection h with h; injection h with h1 h2
    subst h1; subst h2
    rw [zm_swap]
  rw [if_neg h0] at h ⊢
  by_cases h0 : k = 2
  · rw [if_pos h0] at h ⊢
    cases d
    · exact zm_sto_r h
    · exact zm_fet_r hl h
  rw [if_neg h0] at h ⊢
  by_cases h0 : k = 3
  · rw [if_pos h0] at h ⊢
    cases d
    · exact zm_fet_r hl h
    · exact zm_sto_r h
  rw [if_neg h0] at h ⊢
  by_cases h0 : k = 6
  · rw [if_pos h0] at h ⊢
    obtain ⟨hn, hb⟩ := hx (by omega)
    cases d
    · have h : some (upd ρ r (ρ r + zt_val T ρ x), π) = some (ρ', π') := h
      injection h with h; injection h with h1 h2
      subst h1; subst h2
      show some (upd (upd ρ r (ρ r + zt_val T ρ x)) r (upd ρ r (ρ r + zt_val T ρ x) r - zt_val T (upd ρ r (ρ r + zt_val T ρ x)) x), π) = _
      rw [zt_free ho _ x hn hb, pk_us, zm_uu (by rw [Int32.add_sub_cancel])]
    · have h : some (upd ρ r (ρ r - zt_val T ρ x), π) = some (ρ', π') := h
      injection h with h; injection h with h1 h2
      subst h1; subst h2
      show some (upd (upd ρ r (ρ r - zt_val T ρ x)) r (upd ρ r (ρ r - zt_val T ρ x) r + zt_val T (upd ρ r (ρ r - zt_val T ρ x)) x), π) = _
      rw [zt_free ho _ x hn hb, pk_us, zm_uu (by rw [Int32.sub_add_cancel])]
  rw [if_neg h0] at h ⊢
  by_cases h0 : k = 7
  · rw [if_pos h0] at h ⊢
    obtain ⟨hn, hb⟩ := hx (by omega)
    cases d
    · have h : some (upd ρ r (ρ r - zt_val T ρ x), π) = some (ρ', π') := h
      injection h with h; injection h with h1 h2
      subst h1; subst h2
      show some (upd (upd ρ r (ρ r - zt_val T ρ x)) r (upd ρ r (ρ r - zt_val T ρ x) r + zt_val T (upd ρ r (ρ r - zt_val T ρ x)) x), π) = _
      rw [zt_free ho _ x hn hb, pk_us, zm_uu (by rw [Int32.sub_add_cancel])]
    · have h : some (upd ρ r (ρ r + zt_val T ρ x), π) = some (ρ', π') := h
      injection h with h; injection h with h1 h2
      subst h1; subst h2
      show some (upd (upd ρ r (ρ r + zt_val T ρ x)) r (upd ρ r (ρ r + zt_val T ρ x) r - zt_val T (upd ρ r (ρ r + zt_val T ρ x)) x), π) = _
      rw [zt_free ho _ x hn hb, pk_us, zm_uu (by rw [Int32.add_sub_cancel])]
  rw [if_neg h0] at h ⊢
  by_cases h0 : k = 8
  · rw [if_pos h0] at h ⊢
    obtain ⟨hn, hb⟩ := hx (by omega)
    injection h with h; injection h with h1 h2
    subst h1; subst h2
    rw [zt_free ho _ x hn hb, pk_us, zm_uu (by rw [Int32.xor_assoc, Int32.xor_self, Int32.xor_zero])]
  rw [if_neg h0] at h ⊢
  by_cases h0 : zt_val T ρ x = 0
  · rw [if_pos h0] at h; exact absurd h (by simp)
  · rw [if_neg h0] at h
    injection h with h; injection h with h1 h2
    subst h1; subst h2
    rw [if_neg h0]
end
abbrev zm_Fr : Type := Nat × Nat × Nat × Bool × Nat
abbrev zm_WX : Type := Option Nat → Nat → Nat → Nat → Bool → Nat → List (Nat × Nat) → (Nat → Int32) → List Int32 → Prop
abbrev zm_FX : Type := Nat → Nat → (Nat → Int32) → List Int32 → Prop
abbrev zm_WY : Type := Nat → List zm_Fr → Option Nat → Nat → Bool → Nat → (Nat → Int32) → List Int32 → Prop
def zm_st (uo : Option Nat) (st : Nat) : Nat := if uo = none then st + 1 else st
def zm_oc (uo : Option Nat) : Nat := uo.getD 0
/-- the direction within a called procedure -/
def zm_dd (k : Nat) (d : Bool) : Bool := if k = 5 then !d else d
theorem zm_ddn (k : Nat) (d : Bool) : zm_dd k (!d) = !(zm_dd k d) := by unfold zm_dd; by_cases h : k = 5 <;> simp [h]
section
variable (S T : Nat → Nat → Nat → Nat) (Lay : Nat → Nat → Nat → Prop) (bg ln nS : Nat → Nat)
/-- a test that is passed: from position a, in direction d, to position b -/
def zm_tm (ρ : Nat → Int32) (p : Nat) (d : Bool) (a b : Nat) : Prop :=
  ∃ s lo, Lay p s lo ∧
  ((zs_k (S p) s = 11 ∧ zm_q (T p) ρ d (zs_x (S p) s) (zs_y (S p) s) = true ∧ a = zm_e d lo (zs_L (S p) s) ∧ b = zm_e d (lo + 1) (zs_L (S p) (zs_a (S p) s))) ∨
   (zs_k (S p) s = 11 ∧ zm_q (T p) ρ d (zs_x (S p) s) (zs_y (S p) s) = false ∧ a = zm_e d lo (zs_L (S p) s) ∧ b = zm_e d (lo + 3 + zs_L (S p) (zs_a (S p) s)) (zs_L (S p) (zs_b (S p) s))) ∨
   (zs_k (S p) s = 11 ∧ zm_q (T p) ρ (!d) (zs_x (S p) s) (zs_y (S p) s) = true ∧ a = zm_x d (lo + 1) (zs_L (S p) (zs_a (S p) s)) ∧ b = zm_x d lo (zs_L (S p) s)) ∨
   (zs_k (S p) s = 11 ∧ zm_q (T p) ρ (!d) (zs_x (S p) s) (zs_y (S p) s) = false ∧ a = zm_x d (lo + 3 + zs_L (S p) (zs_a (S p) s)) (zs_L (S p) (zs_b (S p) s)) ∧ b = zm_x d lo (zs_L (S p) s)) ∨
   (zs_k (S p) s = 12 ∧ zm_q (T p) ρ d (zs_x (S p) s) (zs_y (S p) s) = true ∧ a = zm_e d lo (zs_L (S p) s) ∧ b = zm_e d (lo + 1) (zs_L (S p) (zs_a (S p) s))) ∨
   (zs_k (S p) s = 12 ∧ zm_q (T p) ρ (!d) (zs_x (S p) s) (zs_y (S p) s) = true ∧ a = zm_x d (lo + 1) (zs_L (S p) (zs_a (S p) s)) ∧ b = zm_x d lo (zs_L (S p) s)) ∨
   (zs_k (S p) s = 12 ∧ zm_q (T p) ρ (!d) (zs_x (S p) s) (zs_y (S p) s) = false ∧ a = zm_x d (lo + 1) (zs_L (S p) (zs_a (S p) s)) ∧ b = zm_e d (lo + 2 + zs_L (S p) (zs_a (S p) s)) (zs_L (S p) (zs_b (S p) s))) ∨
   (zs_k (S p) s = 12 ∧ zm_q (T p) ρ d (zs_x (S p) s) (zs_y (S p) s) = false ∧ a = zm_x d (lo + 2 + zs_L (S p) (zs_a (S p) s)) (zs_L (S p) (zs_b (S p) s)) ∧ b = zm_e d (lo + 1) (zs_L (S p) (zs_a (S p) s))))
theorem zm_tm_r {ρ : Nat → Int32} {p : Nat} {d : Bool} {a b : Nat} (h : zm_tm S T Lay ρ p d a b) : zm_tm S T Lay ρ p (!d) b a := by
  obtain ⟨s, lo, hL, h⟩ := h
  refine ⟨s, lo, hL, ?_⟩
  simp only [Bool.not_not, zm_en, zm_xn]
  rcases h with ⟨k, q, ha, hb⟩ | ⟨k, q, ha, hb⟩ | ⟨k, q, ha, hb⟩ | ⟨k, q, ha, hb⟩ | ⟨k, q, ha, hb⟩ | ⟨k, q, ha, hb⟩ | ⟨k, q, ha, hb⟩ | ⟨k, q, ha, hb⟩
  · exact Or.inr (Or.inr (Or.inl ⟨k, q, hb, ha⟩))
  · exact Or.inr (Or.inr (Or.inr (Or.inl ⟨k, q, hb, ha⟩)))
  · exact Or.inl ⟨k, q, hb, ha⟩
  · exact Or.inr (Or.inl ⟨k, q, hb, ha⟩)
  · exact Or.inr (Or.inr (Or.inr (Or.inr (Or.inr (Or.inl ⟨k, q, hb, ha⟩)))))
  · exact Or.inr (Or.inr (Or.inr (Or.inr (Or.inl ⟨k, q, hb, ha⟩))))
  · exact Or.inr (Or.inr (Or.inr (Or.inr (Or.inr (Or.inr (Or.inr ⟨k, q, hb, ha⟩))))))
  · exact Or.inr (Or.inr (Or.inr (Or.inr (Or.inr (Or.inr (Or.inl ⟨k, q, hb, ha⟩))))))
/-- a test that isn't passed -/
def zm_tf (ρ : Nat → Int32) (p : Nat) (d : Bool) (a : Nat) : Prop :=
  ∃ s lo, Lay p s lo ∧
  ((zs_k (S p) s = 11 ∧ zm_q (T p) ρ (!d) (zs_x (S p) s) (zs_y (S p) s) = false ∧ a = zm_x d (lo + 1) (zs_L (S p) (zs_a (S p) s))) ∨
   (zs_k (S p) s = 11 ∧ zm_q (T p) ρ (!d) (zs_x (S p) s) (zs_y (S p) s) = true ∧ a = zm_x d (lo + 3 + zs_L (S p) (zs_a (S p) s)) (zs_L (S p) (zs_b (S p) s))) ∨
   (zs_k (S p) s = 12 ∧ zm_q (T p) ρ d (zs_x (S p) s) (zs_y (S p) s) = false ∧ a = zm_e d lo (zs_L (S p) s)) ∨
   (zs_k (S p) s = 12 ∧ zm_q (T p) ρ d (zs_x (S p) s) (zs_y (S p) s) = true ∧ a = zm_x d (lo + 2 + zs_L (S p) (zs_a (S p) s)) (zs_L (S p) (zs_b (S p) s))))
def zr_leaf (W : zm_WX) : Prop := ∀ uo i st p d lo s cs ρ π ρ' π', i < 60000 → (uo = none → st < 300) → Lay p s lo → zs_k (S p) s ≤ 9 → zs_k (S p) s ≠ 4 → zs_k (S p) s ≠ 5 → π.length ≤ 12 →
  zm_f (T p) (zs_k (S p) s) (zs_r (S p) s) (zs_n (S p) s) (zs_x (S p) s) d ρ π = some (ρ', π') →
  W uo (i + 1) (zm_st uo st) p d (zm_x d lo 1) cs ρ' π' → W uo i st p d (zm_e d lo 1) cs ρ π
def zr_leafF (W : zm_WX) : Prop := ∀ i st p d lo s cs ρ π, i < 60000 → st < 300 → Lay p s lo → zs_k (S p) s ≤ 9 → zs_k (S p) s ≠ 4 → zs_k (S p) s ≠ 5 → π.length ≤ 12 →
  zm_f (T p) (zs_k (S p) s) (zs_r (S p) s) (zs_n (S p) s) (zs_x (S p) s) d ρ π = none →
  W (some 1) (i + 1) (st + 1) p (!d) (zm_e d lo 1) cs ρ π → W none i st p d (zm_e d lo 1) cs ρ π
def zr_tired (W : zm_WX) : Prop := ∀ i p d lo s cs ρ π, i < 60000 → Lay p s lo → zs_k (S p) s ≤ 9 →
  W (some 2) (i + 1) 300 p (!d) (zm_e d lo 1) cs ρ π → W none i 300 p d (zm_e d lo 1) cs ρ π
def zr_call (W : zm_WX) : Prop := ∀ uo i st p d lo s cs ρ π, i < 60000 → (uo = none → st < 300) → Lay p s lo → (zs_k (S p) s = 4 ∨ zs_k (S p) s = 5) → cs.length < 6 →
  W uo (i + 1) (zm_st uo st) (zs_n (S p) s) (zm_dd (zs_k (S p) s) d) (zm_e (zm_dd (zs_k (S p) s) d) (bg (zs_n (S p) s)) (ln (zs_n (S p) s))) ((lo, p) :: cs) ρ π →
  W uo i st p d (zm_e d lo 1) cs ρ π
def zr_deep (W : zm_WX) : Prop := ∀ i st p d lo s cs ρ π, i < 60000 → st < 300 → Lay p s lo → (zs_k (S p) s = 4 ∨ zs_k (S p) s = 5) → cs.length = 6 →
  W (some 3) (i + 1) (st + 1) p (!d) (zm_e d lo 1) cs ρ π → W none i st p d (zm_e d lo 1) cs ρ π
def zr_leave (W : zm_WX) : Prop := ∀ uo i st q d lo s cs ρ π, i < 60000 → Lay q s lo → (zs_k (S q) s = 4 ∨ zs_k (S q) s = 5) → cs.length < 6 →
  W uo (i + 1) st q d (zm_x d lo 1) cs ρ π →
  W uo i st (zs_n (S q) s) (zm_dd (zs_k (S q) s) d) (zm_x (zm_dd (zs_k (S q) s) d) (bg (zs_n (S q) s)) (ln (zs_n (S q) s))) ((lo, q) :: cs) ρ π
def zr_test (W : zm_WX) : Prop := ∀ uo i st p d a b cs ρ π, i < 60000 → zm_tm S T Lay ρ p d a b → W uo (i + 1) st p d b cs ρ π → W uo i st p d a cs ρ π
def zr_testF (W : zm_WX) : Prop := ∀ i st p d a cs ρ π, i < 60000 → zm_tf S T Lay ρ p d a → W (some 1) (i + 1) st p (!d) a cs ρ π → W none i st p d a cs ρ π
def zr_fin (W : zm_WX) (F : zm_FX) : Prop := ∀ uo i st p d ρ π, i < 60000 → p < 3 → zm_oc uo ≤ 3 → F (zm_oc uo) st ρ π → W uo i st p d (zm_x d (bg p) (ln p)) [] ρ π
def zm_XR (W : zm_WX) (F : zm_FX) : Prop := zr_leaf S T Lay W ∧ zr_leafF S T Lay W ∧ zr_tired S Lay W ∧ zr_call S Lay bg ln W ∧ zr_deep S Lay W ∧ zr_leave S Lay bg ln W ∧ zr_test S T Lay W ∧ zr_testF S T Lay W ∧ zr_fin bg ln W F
/-- calls under way -/
def zm_cl : List zm_Fr → Nat
  | [] => 0
  | (q, s, _, _, _) :: fs => (if zs_k (S q) s ≤ 9 then 1 else 0) + zm_cl fs
def zy_seq (W : zm_WY) : Prop := ∀ n fs p d st ρ π s lo, Lay p s lo → zs_k (S p) s = 10 → fs.length < 140 →
  W n ((p, s, 1, d, lo) :: fs) (some (if d then zs_b (S p) s else zs_a (S p) s)) p d st ρ π → W (n + 1) fs (some s) p d st ρ π
def zy_if (W : zm_WY) : Prop := ∀ n fs p d st ρ π s lo c, Lay p s lo → zs_k (S p) s = 11 → fs.length < 140 → zm_q (T p) ρ d (zs_x (S p) s) (zs_y (S p) s) = c →
  W n ((p, s, (if c then 1 else 2), d, lo) :: fs) (some (if c then zs_a (S p) s else zs_b (S p) s)) p d st ρ π → W (n + 1) fs (some s) p d st ρ π
def zy_lp (W : zm_WY) : Prop := ∀ n fs p d st ρ π s lo, Lay p s lo → zs_k (S p) s = 12 → fs.length < 140 → zm_q (T p) ρ d (zs_x (S p) s) (zs_y (S p) s) = true →
  W n ((p, s, 1, d, lo) :: fs) (some (zs_a (S p) s)) p d st ρ π → W (n + 1) fs (some s) p d st ρ π
def zy_lpF (W : zm_WY) (G : Nat → Nat → Prop) : Prop := ∀ n fs p d st ρ π s lo, Lay p s lo → zs_k (S p) s = 12 → zm_q (T p) ρ d (zs_x (S p) s) (zs_y (S p) s) = false →
  G 1 st → W (n + 2) fs (some s) p d st ρ π
def zy_leaf (W : zm_WY) : Prop := ∀ n fs p d st ρ π s lo ρ' π', Lay p s lo → zs_k (S p) s ≤ 9 → zs_k (S p) s ≠ 4 → zs_k (S p) s ≠ 5 → st < 300 → π.length ≤ 12 →
  zm_f (T p) (zs_k (S p) s) (zs_r (S p) s) (zs_n (S p) s) (zs_x (S p) s) d ρ π = some (ρ', π') →
  W n fs none p d (st + 1) ρ' π' → W (n + 1) fs (some s) p d st ρ π
def zy_leafF (W : zm_WY) (G : Nat → Nat → Prop) : Prop := ∀ n fs p d st ρ π s lo, Lay p s lo → zs_k (S p) s ≤ 9 → zs_k (S p) s ≠ 4 → zs_k (S p) s ≠ 5 → st < 300 → π.length ≤ 12 →
  zm_f (T p) (zs_k (S p) s) (zs_r (S p) s) (zs_n (S p) s) (zs_x (S p) s) d ρ π = none → G 1 (st + 1) → W (n + 2) fs (some s) p d st ρ π
def zy_tired (W : zm_WY) (G : Nat → Nat → Prop) : Prop := ∀ n fs p d ρ π s lo, Lay p s lo → zs_k (S p) s ≤ 9 → G 2 300 → W (n + 2) fs (some s) p d 300 ρ π
def zy_call (W : zm_WY) : Prop := ∀ n fs p d st ρ π s lo, Lay p s lo → (zs_k (S p) s = 4 ∨ zs_k (S p) s = 5) → st < 300 → fs.length < 140 → zm_cl S fs < 6 →
  W n ((p, s, 1, d, lo) :: fs) (some (nS (zs_n (S p) s) - 1)) (zs_n (S p) s) (zm_dd (zs_k (S p) s) d) (st + 1) ρ π → W (n + 1) fs (some s) p d st ρ π
def zy_deep (W : zm_WY) (G : Nat → Nat → Prop) : Prop := ∀ n fs p d st ρ π s lo, Lay p s lo → (zs_k (S p) s = 4 ∨ zs_k (S p) s = 5) → st < 300 → zm_cl S fs = 6 → G 3 (st + 1) → W (n + 2) fs (some s) p d st ρ π
def zy_fin (W : zm_WY) (F : Nat → (Nat → Int32) → List Int32 → Prop) : Prop := ∀ n p d st ρ π, F st ρ π → W (n + 2) [] none p d st ρ π
def zy_pcall (W : zm_WY) : Prop := ∀ n fs p d' st ρ π q s pt d lo, Lay q s lo → zs_k (S q) s ≤ 9 → fs.length < 140 → W n fs none q d st ρ π → W (n + 1) ((q, s, pt, d, lo) :: fs) none p d' st ρ π
def zy_pseq (W : zm_WY) : Prop := ∀ n fs p d' st ρ π q s pt d lo, Lay q s lo → zs_k (S q) s = 10 → fs.length < 140 → W n fs (some (if d then zs_a (S q) s else zs_b (S q) s)) q d st ρ π → W (n + 1) ((q, s, pt, d, lo) :: fs) none p d' st ρ π
def zy_pif (W : zm_WY) : Prop := ∀ n fs p d' st ρ π q s pt d lo, Lay q s lo → zs_k (S q) s = 11 → fs.length < 140 → (pt = 1 ∨ pt = 2) → zm_q (T q) ρ (!d) (zs_x (S q) s) (zs_y (S q) s) = decide (pt = 1) →
  W n fs none q d st ρ π → W (n + 1) ((q, s, pt, d, lo) :: fs) none p d' st ρ π
def zy_pifF (W : zm_WY) (G : Nat → Nat → Prop) : Prop := ∀ n fs p d' st ρ π q s pt d lo, Lay q s lo → zs_k (S q) s = 11 → fs.length < 140 → (pt = 1 ∨ pt = 2) → zm_q (T q) ρ (!d) (zs_x (S q) s) (zs_y (S q) s) = !decide (pt = 1) →
  G 1 st → W (n + 2) ((q, s, pt, d, lo) :: fs) none p d' st ρ π
def zy_plp (W : zm_WY) : Prop := ∀ n fs p d' st ρ π q s d lo, Lay q s lo → zs_k (S q) s = 12 → fs.length < 140 → zm_q (T q) ρ (!d) (zs_x (S q) s) (zs_y (S q) s) = true →
  W n fs none q d st ρ π → W (n + 1) ((q, s, 1, d, lo) :: fs) none p d' st ρ π
def zy_plp1 (W : zm_WY) : Prop := ∀ n fs p d' st ρ π q s d lo, Lay q s lo → zs_k (S q) s = 12 → fs.length < 140 → zm_q (T q) ρ (!d) (zs_x (S q) s) (zs_y (S q) s) = false →
  W n ((q, s, 2, d, lo) :: fs) (some (zs_b (S q) s)) q d st ρ π → W (n + 1) ((q, s, 1, d, lo) :: fs) none p d' st ρ π
def zy_plp2 (W : zm_WY) : Prop := ∀ n fs p d' st ρ π q s d lo, Lay q s lo → zs_k (S q) s = 12 → fs.length < 140 → zm_q (T q) ρ d (zs_x (S q) s) (zs_y (S q) s) = false →
  W n ((q, s, 1, d, lo) :: fs) (some (zs_a (S q) s)) q d st ρ π → W (n + 1) ((q, s, 2, d, lo) :: fs) none p d' st ρ π
def zy_plpF (W : zm_WY) (G : Nat → Nat → Prop) : Prop := ∀ n fs p d' st ρ π q s d lo, Lay q s lo → zs_k (S q) s = 12 → fs.length < 140 → zm_q (T q) ρ d (zs_x (S q) s) (zs_y (S q) s) = true →
  G 1 st → W (n + 2) ((q, s, 2, d, lo) :: fs) none p d' st ρ π
def zm_YB (W : zm_WY) (G : Nat → Nat → Prop) : Prop := zy_seq S Lay W ∧ zy_if S T Lay W ∧ zy_lp S T Lay W ∧ zy_lpF S T Lay W G ∧ zy_leaf S T Lay W ∧ zy_leafF S T Lay W G ∧ zy_tired S Lay W G ∧ zy_call S Lay nS W ∧ zy_deep S Lay W G
def zm_YP (W : zm_WY) (F : Nat → (Nat → Int32) → List Int32 → Prop) (G : Nat → Nat → Prop) : Prop := zy_fin W F ∧ zy_pcall S Lay W ∧ zy_pseq S Lay W ∧ zy_pif S T Lay W ∧ zy_pifF S T Lay W G ∧ zy_plp S T Lay W ∧ zy_plp1 S T Lay W ∧ zy_plp2 S T Lay W ∧ zy_plpF S T Lay W G
def zm_YR (W : zm_WY) (F : Nat → (Nat → Int32) → List Int32 → Prop) (G : Nat → Nat → Prop) : Prop := zm_YB S T Lay nS W G ∧ zm_YP S T Lay W F G
end
end
section
/-! ===== one outcome for both machines ===== -/
section
variable (S T : Nat → Nat → Nat → Nat) (Lay : Nat → Nat → Nat → Prop) (bg ln nS nT : Nat → Nat) (p0 : Nat) (d0 : Bool) (ρ0 : Nat → Int32) (π0 : List Int32)
/-- the stack: the present activity is in procedure p, direction d, ends at position e; X's calls cs; statements below m -/
def zm_stk : List zm_Fr → Nat → Bool → Nat → List (Nat × Nat) → Nat → Prop
  | [], p, d, e, cs, m => p = p0 ∧ d = d0 ∧ e = zm_x d0 (bg p0) (ln p0) ∧ cs = [] ∧ m = 16
  | (q, s, pt, d', lo) :: fs, p, d, e, cs, m => Lay q s lo ∧ ∃ m', s < m' ∧
    (((zs_k (S q) s = 4 ∨ zs_k (S q) s = 5) ∧ p = zs_n (S q) s ∧ d = zm_dd (zs_k (S q) s) d' ∧ e = zm_x d (bg p) (ln p) ∧ m = 16 ∧
        ∃ cs', cs = (lo, q) :: cs' ∧ cs'.length < 6 ∧ zm_stk fs q d' (zm_x d' lo 1) cs' m') ∨
     (zs_k (S q) s = 10 ∧ q = p ∧ d' = d ∧ e = lo + zs_L (S q) (zs_a (S q) s) ∧ s = m ∧ zm_stk fs q d (zm_x d lo (zs_L (S q) s)) cs m') ∨
     (zs_k (S q) s = 11 ∧ q = p ∧ d' = d ∧ ((pt = 1 ∧ e = zm_x d (lo + 1) (zs_L (S q) (zs_a (S q) s))) ∨ (pt = 2 ∧ e = zm_x d (lo + 3 + zs_L (S q) (zs_a (S q) s)) (zs_L (S q) (zs_b (S q) s)))) ∧
        s = m ∧ zm_stk fs q d (zm_x d lo (zs_L (S q) s)) cs m') ∨
     (zs_k (S q) s = 12 ∧ q = p ∧ d' = d ∧ ((pt = 1 ∧ e = zm_x d (lo + 1) (zs_L (S q) (zs_a (S q) s))) ∨ (pt = 2 ∧ e = zm_x d (lo + 2 + zs_L (S q) (zs_a (S q) s)) (zs_L (S q) (zs_b (S q) s)))) ∧
        s = m ∧ zm_stk fs q d (zm_x d lo (zs_L (S q) s)) cs m'))
def zm_mu (nx : Option Nat) (fs : List zm_Fr) (st : Nat) : Nat := 64 * (300 - st) + (match nx with | none => 40 | some s => 2 * s + 2) + fs.length
/-- undoing from here takes k steps -/
def zm_und (k p : Nat) (d : Bool) (pc : Nat) (cs : List (Nat × Nat)) (ρ : Nat → Int32) (π : List Int32) : Prop :=
  ∀ W F, zm_XR S T Lay bg ln W F → ∀ o j st, j + k < 60000 → W (some o) (j + k) st p0 (!d0) (zm_e d0 (bg p0) (ln p0)) [] ρ0 π0 → W (some o) j st p (!d) pc cs ρ π
def zm_out (i st p : Nat) (d : Bool) (pc : Nat) (cs : List (Nat × Nat)) (ρ : Nat → Int32) (π : List Int32) (fs : List zm_Fr) (nx : Option Nat) : Prop :=
  ∃ o st' ρ' π', o ≤ 3 ∧ (o ≠ 0 → ρ' = ρ0 ∧ π' = π0) ∧ π'.length ≤ 12 ∧ st' ≤ 300 ∧
    (∀ W F, zm_XR S T Lay bg ln W F → F o st' ρ' π' → W none i st p d pc cs ρ π) ∧
    (∀ W F G, zm_YR S T Lay nS W F G → (o = 0 → F st' ρ' π') → (o ≠ 0 → G o st') → ∀ n, zm_mu nx fs st < n → W n fs nx p d st ρ π)
/-- what the layout must give -/
def zm_lay : Prop := (∀ p s lo, Lay p s lo → p < 3 ∧ s < nS p ∧ s < 16) ∧
  (∀ p s lo, Lay p s lo → zs_k (S p) s = 10 → Lay p (zs_a (S p) s) lo ∧ Lay p (zs_b (S p) s) (lo + zs_L (S p) (zs_a (S p) s))) ∧
  (∀ p s lo, Lay p s lo → zs_k (S p) s = 11 → Lay p (zs_a (S p) s) (lo + 1) ∧ Lay p (zs_b (S p) s) (lo + 3 + zs_L (S p) (zs_a (S p) s))) ∧
  (∀ p s lo, Lay p s lo → zs_k (S p) s = 12 → Lay p (zs_a (S p) s) (lo + 1) ∧ Lay p (zs_b (S p) s) (lo + 2 + zs_L (S p) (zs_a (S p) s))) ∧
  (∀ p, p < 3 → Lay p (nS p - 1) (bg p) ∧ ln p = zs_L (S p) (nS p - 1)) ∧
  (∀ p, p < 3 → zs_ok (S p) (T p) (nS p) (nT p) ∧ zt_ok (T p) (nT p))
variable {S T Lay bg ln nS nT p0 d0 ρ0 π0}
theorem zm_stk_cl : ∀ {fs : List zm_Fr} {p : Nat} {d : Bool} {e : Nat} {cs : List (Nat × Nat)} {m : Nat}, zm_stk S Lay bg ln p0 d0 fs p d e cs m →
    zm_cl S fs = cs.length ∧ fs.length + m ≤ 16 + 17 * cs.length ∧ cs.length ≤ 6 := by
  intro fs
  induction fs with
  | nil =>
    intro p d e cs m h
    obtain ⟨_, _, _, rfl, rfl⟩ := h
    exact ⟨rfl, by decide, by decide⟩
  | cons f fs ih =>
    obtain ⟨q, s, pt, d', lo⟩ := f
    intro p d e cs m h
    obtain ⟨_, m', hm, h⟩ := h
    rcases h with ⟨hk, _, _, _, rfl, cs', rfl, hc, h⟩ | ⟨hk, _, _, _, rfl, h⟩ | ⟨hk, _, _, _, rfl, h⟩ | ⟨hk, _, _, _, rfl, h⟩
    · have := ih h
      refine ⟨?_, ?_, ?_⟩
      · show (if zs_k (S q) s ≤ 9 then 1 else 0) + zm_cl S fs = cs'.length + 1
        rw [if_pos (by omega)]; omega
      · show fs.length + 1 + 16 ≤ 16 + 17 * (cs'.length + 1)
        omega
      · show cs'.length + 1 ≤ 6
        omega
    all_goals
      have := ih h
      refine ⟨?_, ?_, this.2.2⟩
      · show (if zs_k (S q) s ≤ 9 then 1 else 0) + zm_cl S fs = cs.length
        rw [if_neg (by omega)]; omega
      · show fs.length + 1 + s ≤ 16 + 17 * cs.length
        omega
section
variable {i st p : Nat} {d : Bool} {pc : Nat} {cs : List (Nat × Nat)} {ρ : Nat → Int32} {π : List Int32} {fs : List zm_Fr} {nx : Option Nat}
variable {i' st' p' : Nat} {d' : Bool} {pc' : Nat} {cs' : List (Nat × Nat)} {ρ' : Nat → Int32} {π' : List Int32} {fs' : List zm_Fr} {nx' : Option Nat}
theorem zm_step (hX : ∀ W F, zm_XR S T Lay bg ln W F → W none i' st' p' d' pc' cs' ρ' π' → W none i st p d pc cs ρ π)
    (hY : ∀ W F G, zm_YR S T Lay nS W F G → ∀ n, W n fs' nx' p' d' st' ρ' π' → W (n + 1) fs nx p d st ρ π) (hm : zm_mu nx' fs' st' < zm_mu nx fs st)
    (h : zm_out S T Lay bg ln nS ρ0 π0 i' st' p' d' pc' cs' ρ' π' fs' nx') : zm_out S T Lay bg ln nS ρ0 π0 i st p d pc cs ρ π fs nx := by
  obtain ⟨o, t, r, q, h1, h2, h3, h4, h5, h6⟩ := h
  refine ⟨o, t, r, q, h1, h2, h3, h4, fun W F hR hF => hX W F hR (h5 W F hR hF), fun W F G hR hF hG n hn => ?_⟩
  obtain ⟨n, rfl⟩ : ∃ k, n = k + 1 := ⟨n - 1, by omega⟩
  exact hY W F G hR n (h6 W F G hR hF hG n (by omega))
theorem zm_undS (hu : zm_und S T Lay bg ln p0 d0 ρ0 π0 i p d pc cs ρ π)
    (hX : ∀ W F, zm_XR S T Lay bg ln W F → ∀ o j st, j < 60000 → W (some o) (j + 1) st p (!d) pc cs ρ π → W (some o) j st p' (!d') pc' cs' ρ' π') :
    zm_und S T Lay bg ln p0 d0 ρ0 π0 (i + 1) p' d' pc' cs' ρ' π' := by
  intro W F hR o j st hj hW
  exact hX W F hR o j st (by omega) (hu W F hR o (j + 1) st (by omega) (by rw [show j + 1 + i = j + (i + 1) from by omega]; exact hW))
theorem zm_fail {o : Nat} (ho : 1 ≤ o ∧ o ≤ 3) (hl : π0.length ≤ 12) (hp : p0 < 3) (hs : st' ≤ 300) (hi : i ≤ 29000) (hu : zm_und S T Lay bg ln p0 d0 ρ0 π0 i p d pc cs ρ π)
    (hX : ∀ W F, zm_XR S T Lay bg ln W F → W (some o) (i + 1) st' p (!d) pc cs ρ π → W none i st p d pc cs ρ π)
    (hY : ∀ W F G, zm_YR S T Lay nS W F G → G o st' → ∀ n, W (n + 2) fs nx p d st ρ π) (hm : 1 ≤ zm_mu nx fs st) :
    zm_out S T Lay bg ln nS ρ0 π0 i st p d pc cs ρ π fs nx := by
  refine ⟨o, st', ρ0, π0, ho.2, fun _ => ⟨rfl, rfl⟩, hl, hs, fun W F hR hF => ?_, fun W F G hR _ hG n hn => ?_⟩
  · refine hX W F hR (hu W F hR o (i + 1) st' (by omega) ?_)
    rw [← zm_xn]
    exact hR.2.2.2.2.2.2.2.2 (some o) _ st' p0 (!d0) ρ0 π0 (by omega) hp ho.2 hF
  · obtain ⟨n, rfl⟩ : ∃ k, n = k + 2 := ⟨n - 2, by omega⟩
    exact hY W F G hR (hG (by omega)) n
end
theorem zm_muN (fs : List zm_Fr) (st : Nat) : zm_mu none fs st = 64 * (300 - st) + 40 + fs.length := rfl
theorem zm_muS (s : Nat) (fs : List zm_Fr) (st : Nat) : zm_mu (some s) fs st = 64 * (300 - st) + (2 * s + 2) + fs.length := rfl
theorem zm_sim (hl0 : π0.length ≤ 12) (hp0 : p0 < 3) (HL : zm_lay S T Lay bg ln nS nT) : ∀ M fs nx p d pc cs ρ π st i e m,
    zm_stk S Lay bg ln p0 d0 fs p d e cs m → ((nx = none ∧ pc = e) ∨ ∃ s lo, nx = some s ∧ Lay p s lo ∧ s < m ∧ pc = zm_e d lo (zs_L (S p) s) ∧ e = zm_x d lo (zs_L (S p) s)) →
    π.length ≤ 12 → st ≤ 300 → zm_mu nx fs st ≤ M → i + zm_mu nx fs st ≤ 19300 → zm_und S T Lay bg ln p0 d0 ρ0 π0 i p d pc cs ρ π →
    zm_out S T Lay bg ln nS ρ0 π0 i st p d pc cs ρ π fs nx := by
  intro M
  induction M with
  | zero =>
    intro fs nx p d pc cs ρ π st i e m hst hn hl hs hM
    exfalso
    rcases hn with ⟨rfl, _⟩ | ⟨s, lo, rfl, _⟩
    · rw [zm_muN] at hM; omega
    · rw [zm_muS] at hM; omega
  | succ M ih =>
    intro fs nx p d pc cs ρ π st i e m hst hn hl hs hM hi hu
    obtain ⟨hLv, hL10, hL11, hL12, hLr, hLo⟩ := HL
    have hcl := zm_stk_cl hst
    rcases hn with ⟨rfl, rfl⟩ | ⟨s, lo, rfl, hLay, hsm, rfl, rfl⟩
    · -- what was begun last has ended
      rw [zm_muN] at hM hi
      cases fs with
      | nil =>
        obtain ⟨rfl, rfl, rfl, rfl, rfl⟩ := hst
        refine ⟨0, st, ρ, π, by omega, fun h => absurd rfl h, hl, hs, fun W F hR hF => ?_, fun W F G hR hF _ n hn => ?_⟩
        · exact hR.2.2.2.2.2.2.2.2 none i st p d ρ π (by omega) hp0 (by decide) hF
        · rw [zm_muN] at hn
          obtain ⟨n, rfl⟩ : ∃ k, n = k + 2 := ⟨n - 2, by omega⟩
          exact hR.2.1 n p d st ρ π (hF rfl)
      | cons f fs =>
        obtain ⟨q, s, pt, d', lo⟩ := f
        obtain ⟨hLay, m', hsm, hst⟩ := hst
        have hv := hLv _ _ _ hLay
        have hok := (hLo q hv.1).1 s hv.2.1
        have hfl : fs.length < 140 := by have h2 : fs.length + 1 + m ≤ 16 + 17 * cs.length := hcl.2.1; omega
        have hmu : ∀ t : Nat, zm_mu none ((q, s, pt, d', lo) :: fs) t = 64 * (300 - t) + 41 + fs.length := fun t => by rw [zm_muN]; show _ + 40 + (fs.length + 1) = _; omega
        have hM' : 64 * (300 - st) + 40 + (fs.length + 1) ≤ M + 1 := hM
        have hi' : i + (64 * (300 - st) + 40 + (fs.length + 1)) ≤ 19300 := hi
        rcases hst with ⟨hk, rfl, rfl, rfl, rfl, cs', rfl, hc6, hst⟩ | ⟨hk, rfl, rfl, rfl, rfl, hst⟩ | ⟨hk, rfl, rfl, hpt, rfl, hst⟩ | ⟨hk, rfl, rfl, hpt, rfl, hst⟩
        · -- a call
          refine zm_step (i' := i + 1) (pc' := zm_x d' lo 1) (cs' := cs') (fs' := fs) (nx' := none) (p' := q) (d' := d') (st' := st) (ρ' := ρ) (π' := π)
            (fun W F hR h => hR.2.2.2.2.2.1 none i st q d' lo s cs' ρ π (by omega) hLay hk hc6 h)
            (fun W F G hR n h => hR.2.2.1 n fs _ _ st ρ π q s pt d' lo hLay (by omega) hfl h) (by rw [hmu, zm_muN]; omega) ?_
          refine ih fs none q d' _ cs' ρ π st (i + 1) _ m' hst (Or.inl ⟨rfl, rfl⟩) hl hs (by rw [zm_muN]; omega) (by rw [zm_muN]; omega) ?_
          refine zm_undS hu fun W F hR o j st hj h => ?_
          rw [← zm_en]
          refine hR.2.2.2.1 (some o) j st q (!d') lo s cs' ρ π hj (fun h => nomatch h) hLay hk hc6 ?_
          rw [zm_ddn, zm_en]
          exact h
        · -- a sequence: the second part
          obtain ⟨hLa, hLb⟩ := hL10 _ _ _ hLay hk
          obtain ⟨ha, hb⟩ := hok.2.2.2.2.2.2.1 (by omega)
          obtain ⟨hLs, _, _⟩ := hok.2.2.2.2.2.2.2.2.2.1 hk
          refine zm_step (i' := i) (pc' := lo + zs_L (S q) (zs_a (S q) s)) (cs' := cs) (fs' := fs) (nx' := some (if d' then zs_a (S q) s else zs_b (S q) s)) (p' := q) (d' := d') (st' := st) (ρ' := ρ) (π' := π)
            (fun W F hR h => h) (fun W F G hR n h => hR.2.2.2.1 n fs _ _ st ρ π q s pt d' lo hLay hk hfl h) ?_ ?_
          · rw [hmu, zm_muS]; cases d' <;> (simp only [Bool.false_eq_true, if_true, if_false]; omega)
          · cases d'
            · refine ih fs (some (zs_b (S q) s)) q false _ cs ρ π st i _ m' hst (Or.inr ⟨_, _, rfl, hLb, by omega, rfl, ?_⟩) hl hs (by rw [zm_muS]; omega) (by rw [zm_muS]; omega) hu
              show lo + zs_L (S q) s = lo + zs_L (S q) (zs_a (S q) s) + zs_L (S q) (zs_b (S q) s)
              omega
            · exact ih fs (some (zs_a (S q) s)) q true _ cs ρ π st i _ m' hst (Or.inr ⟨_, _, rfl, hLa, by omega, rfl, rfl⟩) hl hs (by rw [zm_muS]; omega) (by rw [zm_muS]; omega) hu
        · -- an if
          have hgo : ∀ pc', zm_tm S T Lay ρ q d' pc pc' → pc' = zm_x d' lo (zs_L (S q) s) → zm_q (T q) ρ (!d') (zs_x (S q) s) (zs_y (S q) s) = decide (pt = 1) → (pt = 1 ∨ pt = 2) →
              zm_out S T Lay bg ln nS ρ0 π0 i st q d' pc cs ρ π ((q, s, pt, d', lo) :: fs) none := by
            intro pc' htm hpc' hq hpt
            refine zm_step (i' := i + 1) (pc' := pc') (cs' := cs) (fs' := fs) (nx' := none) (p' := q) (d' := d') (st' := st) (ρ' := ρ) (π' := π)
              (fun W F hR h => hR.2.2.2.2.2.2.1 none i st q d' _ _ cs ρ π (by omega) htm h)
              (fun W F G hR n h => hR.2.2.2.2.1 n fs _ _ st ρ π q s pt d' lo hLay hk hfl hpt hq h) (by rw [hmu, zm_muN]; omega) ?_
            refine ih fs none q d' _ cs ρ π st (i + 1) _ m' hst (Or.inl ⟨rfl, hpc'⟩) hl hs (by rw [zm_muN]; omega) (by rw [zm_muN]; omega) ?_
            exact zm_undS hu fun W F hR o j st hj h => hR.2.2.2.2.2.2.1 (some o) j st q (!d') _ _ cs ρ π hj (zm_tm_r S T Lay htm) h
          have hno : zm_tf S T Lay ρ q d' pc → zm_q (T q) ρ (!d') (zs_x (S q) s) (zs_y (S q) s) = !decide (pt = 1) → (pt = 1 ∨ pt = 2) →
              zm_out S T Lay bg ln nS ρ0 π0 i st q d' pc cs ρ π ((q, s, pt, d', lo) :: fs) none := by
            intro htf hq hpt
            exact zm_fail (o := 1) (st' := st) (by omega) hl0 hp0 hs (by omega) hu (fun W F hR h => hR.2.2.2.2.2.2.2.1 i st q d' _ cs ρ π (by omega) htf h)
              (fun W F G hR hG n => hR.2.2.2.2.2.1 n fs _ _ st ρ π q s pt d' lo hLay hk hfl hpt hq hG) (by rw [hmu]; omega)
          rcases hpt with ⟨rfl, rfl⟩ | ⟨rfl, rfl⟩
          · cases hq : zm_q (T q) ρ (!d') (zs_x (S q) s) (zs_y (S q) s)
            · exact hno ⟨s, lo, hLay, Or.inl ⟨hk, hq, rfl⟩⟩ (hq.trans rfl) (Or.inl rfl)
            · exact hgo _ ⟨s, lo, hLay, Or.inr (Or.inr (Or.inl ⟨hk, hq, rfl, rfl⟩))⟩ rfl (hq.trans rfl) (Or.inl rfl)
          · cases hq : zm_q (T q) ρ (!d') (zs_x (S q) s) (zs_y (S q) s)
            · exact hgo _ ⟨s, lo, hLay, Or.inr (Or.inr (Or.inr (Or.inl ⟨hk, hq, rfl, rfl⟩)))⟩ rfl (hq.trans rfl) (Or.inr rfl)
            · exact hno ⟨s, lo, hLay, Or.inr (Or.inl ⟨hk, hq, rfl⟩)⟩ (hq.trans rfl) (Or.inr rfl)
        · -- a loop
          obtain ⟨hLa, hLb⟩ := hL12 _ _ _ hLay hk
          obtain ⟨ha, hb⟩ := hok.2.2.2.2.2.2.1 (by omega)
          rcases hpt with ⟨rfl, rfl⟩ | ⟨rfl, rfl⟩
          · cases hq : zm_q (T q) ρ (!d') (zs_x (S q) s) (zs_y (S q) s)
            · have htm : zm_tm S T Lay ρ q d' (zm_x d' (lo + 1) (zs_L (S q) (zs_a (S q) s))) (zm_e d' (lo + 2 + zs_L (S q) (zs_a (S q) s)) (zs_L (S q) (zs_b (S q) s))) :=
                ⟨s, lo, hLay, Or.inr (Or.inr (Or.inr (Or.inr (Or.inr (Or.inr (Or.inl ⟨hk, hq, rfl, rfl⟩))))))⟩
              refine zm_step (i' := i + 1) (pc' := zm_e d' (lo + 2 + zs_L (S q) (zs_a (S q) s)) (zs_L (S q) (zs_b (S q) s))) (cs' := cs) (fs' := (q, s, 2, d', lo) :: fs) (nx' := some (zs_b (S q) s)) (p' := q) (d' := d') (st' := st) (ρ' := ρ) (π' := π)
                (fun W F hR h => hR.2.2.2.2.2.2.1 none i st q d' _ _ cs ρ π (by omega) htm h)
                (fun W F G hR n h => hR.2.2.2.2.2.2.2.1 n fs _ _ st ρ π q s d' lo hLay hk hfl hq h) (by rw [hmu, zm_muS]; show _ + (fs.length + 1) < _; omega) ?_
              refine ih ((q, s, 2, d', lo) :: fs) _ q d' _ cs ρ π st (i + 1) _ s ⟨hLay, m', hsm, Or.inr (Or.inr (Or.inr ⟨hk, rfl, rfl, Or.inr ⟨rfl, rfl⟩, rfl, hst⟩))⟩ (Or.inr ⟨_, _, rfl, hLb, hb, rfl, rfl⟩) hl hs
                (by rw [zm_muS]; show _ + (fs.length + 1) ≤ _; omega) (by rw [zm_muS]; show _ + (_ + (fs.length + 1)) ≤ _; omega) ?_
              exact zm_undS hu fun W F hR o j st hj h => hR.2.2.2.2.2.2.1 (some o) j st q (!d') _ _ cs ρ π hj (zm_tm_r S T Lay htm) h
            · have htm : zm_tm S T Lay ρ q d' (zm_x d' (lo + 1) (zs_L (S q) (zs_a (S q) s))) (zm_x d' lo (zs_L (S q) s)) :=
                ⟨s, lo, hLay, Or.inr (Or.inr (Or.inr (Or.inr (Or.inr (Or.inl ⟨hk, hq, rfl, rfl⟩)))))⟩
              refine zm_step (i' := i + 1) (pc' := zm_x d' lo (zs_L (S q) s)) (cs' := cs) (fs' := fs) (nx' := none) (p' := q) (d' := d') (st' := st) (ρ' := ρ) (π' := π)
                (fun W F hR h => hR.2.2.2.2.2.2.1 none i st q d' _ _ cs ρ π (by omega) htm h)
                (fun W F G hR n h => hR.2.2.2.2.2.2.1 n fs _ _ st ρ π q s d' lo hLay hk hfl hq h) (by rw [hmu, zm_muN]; omega) ?_
              refine ih fs none q d' _ cs ρ π st (i + 1) _ m' hst (Or.inl ⟨rfl, rfl⟩) hl hs (by rw [zm_muN]; omega) (by rw [zm_muN]; omega) ?_
              exact zm_undS hu fun W F hR o j st hj h => hR.2.2.2.2.2.2.1 (some o) j st q (!d') _ _ cs ρ π hj (zm_tm_r S T Lay htm) h
          · cases hq : zm_q (T q) ρ d' (zs_x (S q) s) (zs_y (S q) s)
            · have htm : zm_tm S T Lay ρ q d' (zm_x d' (lo + 2 + zs_L (S q) (zs_a (S q) s)) (zs_L (S q) (zs_b (S q) s))) (zm_e d' (lo + 1) (zs_L (S q) (zs_a (S q) s))) :=
                ⟨s, lo, hLay, Or.inr (Or.inr (Or.inr (Or.inr (Or.inr (Or.inr (Or.inr ⟨hk, hq, rfl, rfl⟩))))))⟩
              refine zm_step (i' := i + 1) (pc' := zm_e d' (lo + 1) (zs_L (S q) (zs_a (S q) s))) (cs' := cs) (fs' := (q, s, 1, d', lo) :: fs) (nx' := some (zs_a (S q) s)) (p' := q) (d' := d') (st' := st) (ρ' := ρ) (π' := π)
                (fun W F hR h => hR.2.2.2.2.2.2.1 none i st q d' _ _ cs ρ π (by omega) htm h)
                (fun W F G hR n h => hR.2.2.2.2.2.2.2.2.1 n fs _ _ st ρ π q s d' lo hLay hk hfl hq h) (by rw [hmu, zm_muS]; show _ + (fs.length + 1) < _; omega) ?_
              refine ih ((q, s, 1, d', lo) :: fs) _ q d' _ cs ρ π st (i + 1) _ s ⟨hLay, m', hsm, Or.inr (Or.inr (Or.inr ⟨hk, rfl, rfl, Or.inl ⟨rfl, rfl⟩, rfl, hst⟩))⟩ (Or.inr ⟨_, _, rfl, hLa, ha, rfl, rfl⟩) hl hs
                (by rw [zm_muS]; show _ + (fs.length + 1) ≤ _; omega) (by rw [zm_muS]; show _ + (_ + (fs.length + 1)) ≤ _; omega) ?_
              exact zm_undS hu fun W F hR o j st hj h => hR.2.2.2.2.2.2.1 (some o) j st q (!d') _ _ cs ρ π hj (zm_tm_r S T Lay htm) h
            · exact zm_fail (o := 1) (st' := st) (by omega) hl0 hp0 hs (by omega) hu
                (fun W F hR h => hR.2.2.2.2.2.2.2.1 i st q d' _ cs ρ π (by omega) ⟨s, lo, hLay, Or.inr (Or.inr (Or.inr ⟨hk, hq, rfl⟩))⟩ h)
                (fun W F G hR hG n => hR.2.2.2.2.2.2.2.2.2 n fs _ _ st ρ π q s d' lo hLay hk hfl hq hG) (by rw [hmu]; omega)
    · -- a statement is begun
      rw [zm_muS] at hM hi
      have hv := hLv _ _ _ hLay
      have hok := (hLo p hv.1).1 s hv.2.1
      have hto := (hLo p hv.1).2
      have hfl : fs.length < 140 := by have := hcl.2; omega
      have hkk := hok.1
      rcases (show zs_k (S p) s ≤ 9 ∨ zs_k (S p) s = 10 ∨ zs_k (S p) s = 11 ∨ zs_k (S p) s = 12 from by omega) with hk | hk | hk | hk
      · -- a leaf
        have hL1 : zs_L (S p) s = 1 := (hok.2.2.2.2.2.2.2.2.1 hk).1
        rw [hL1] at hst hu ⊢
        by_cases h300 : st = 300
        · subst h300
          exact zm_fail (o := 2) (st' := 300) (by omega) hl0 hp0 (by omega) (by omega) hu
            (fun W F hR h => hR.2.2.1 i p d lo s cs ρ π (by omega) hLay hk h)
            (fun W F G hR hG n => hR.1.2.2.2.2.2.2.1 n fs p d ρ π s lo hLay hk hG) (by rw [zm_muS]; omega)
        have hlt : st < 300 := by omega
        by_cases hc : zs_k (S p) s = 4 ∨ zs_k (S p) s = 5
        · by_cases h6 : cs.length = 6
          · exact zm_fail (o := 3) (st' := st + 1) (by omega) hl0 hp0 (by omega) (by omega) hu
              (fun W F hR h => hR.2.2.2.2.1 i st p d lo s cs ρ π (by omega) hlt hLay hc h6 h)
              (fun W F G hR hG n => hR.1.2.2.2.2.2.2.2.2 n fs p d st ρ π s lo hLay hc hlt (by omega) hG) (by rw [zm_muS]; omega)
          · have hc6 : cs.length < 6 := by omega
            have hn3 := hok.2.2.2.1 hc
            obtain ⟨hLR, hln⟩ := hLr _ hn3
            have hvr := hLv _ _ _ hLR
            refine zm_step (i' := i + 1) (pc' := zm_e (zm_dd (zs_k (S p) s) d) (bg (zs_n (S p) s)) (ln (zs_n (S p) s))) (cs' := (lo, p) :: cs) (fs' := (p, s, 1, d, lo) :: fs)
              (nx' := some (nS (zs_n (S p) s) - 1)) (p' := zs_n (S p) s) (d' := zm_dd (zs_k (S p) s) d) (st' := st + 1) (ρ' := ρ) (π' := π)
              (fun W F hR h => hR.2.2.2.1 none i st p d lo s cs ρ π (by omega) (fun _ => hlt) hLay hc hc6 h)
              (fun W F G hR n h => hR.1.2.2.2.2.2.2.2.1 n fs p d st ρ π s lo hLay hc hlt hfl (by omega) h) (by rw [zm_muS, zm_muS]; show _ + (fs.length + 1) < _; omega) ?_
            refine ih ((p, s, 1, d, lo) :: fs) _ _ _ _ ((lo, p) :: cs) ρ π (st + 1) (i + 1) _ 16 ⟨hLay, m, hsm, Or.inl ⟨hc, rfl, rfl, rfl, rfl, cs, rfl, hc6, hst⟩⟩
              (Or.inr ⟨_, _, rfl, hLR, hvr.2.2, by rw [hln], by rw [hln]⟩) hl (by omega) (by rw [zm_muS]; show _ + (fs.length + 1) ≤ _; omega) (by rw [zm_muS]; show _ + (_ + (fs.length + 1)) ≤ _; omega) ?_
            refine zm_undS hu fun W F hR o j st hj h => ?_
            rw [← zm_ddn, ← zm_xn, ← zm_ddn]
            refine hR.2.2.2.2.2.1 (some o) j st p (!d) lo s cs ρ π hj hLay hc hc6 ?_
            rw [zm_xn]
            exact h
        · have hc4 : zs_k (S p) s ≠ 4 := fun h => hc (Or.inl h)
          have hc5 : zs_k (S p) s ≠ 5 := fun h => hc (Or.inr h)
          cases hf : zm_f (T p) (zs_k (S p) s) (zs_r (S p) s) (zs_n (S p) s) (zs_x (S p) s) d ρ π with
          | none =>
            exact zm_fail (o := 1) (st' := st + 1) (by omega) hl0 hp0 (by omega) (by omega) hu
              (fun W F hR h => hR.2.1 i st p d lo s cs ρ π (by omega) hlt hLay hk hc4 hc5 hl hf h)
              (fun W F G hR hG n => hR.1.2.2.2.2.2.1 n fs p d st ρ π s lo hLay hk hc4 hc5 hlt hl hf hG) (by rw [zm_muS]; omega)
          | some c =>
            obtain ⟨ρ', π'⟩ := c
            have hl' := zm_f_l hl hf
            refine zm_step (i' := i + 1) (pc' := zm_x d lo 1) (cs' := cs) (fs' := fs) (nx' := none) (p' := p) (d' := d) (st' := st + 1) (ρ' := ρ') (π' := π')
              (fun W F hR h => hR.1 none i st p d lo s cs ρ π ρ' π' (by omega) (fun _ => hlt) hLay hk hc4 hc5 hl hf h)
              (fun W F G hR n h => hR.1.2.2.2.2.1 n fs p d st ρ π s lo ρ' π' hLay hk hc4 hc5 hlt hl hf h) (by rw [zm_muS, zm_muN]; omega) ?_
            refine ih fs none p d _ cs ρ' π' (st + 1) (i + 1) _ m hst (Or.inl ⟨rfl, rfl⟩) hl' (by omega) (by rw [zm_muN]; omega) (by rw [zm_muN]; omega) ?_
            refine zm_undS hu fun W F hR o j st hj h => ?_
            rw [← zm_en]
            refine hR.1 (some o) j st p (!d) lo s cs ρ' π' ρ π hj (fun h => nomatch h) hLay hk hc4 hc5 hl' (zm_f_r hto hl (fun h => ⟨hok.2.2.2.2.1 (by omega), hok.2.2.2.2.2.1 h⟩) hf) ?_
            rw [zm_xn]
            exact h
      · -- a sequence
        obtain ⟨hLa, hLb⟩ := hL10 _ _ _ hLay hk
        obtain ⟨ha, hb⟩ := hok.2.2.2.2.2.2.1 (by omega)
        obtain ⟨hLs, _, _⟩ := hok.2.2.2.2.2.2.2.2.2.1 hk
        refine zm_step (i' := i) (pc' := zm_e d lo (zs_L (S p) s)) (cs' := cs) (fs' := (p, s, 1, d, lo) :: fs) (nx' := some (if d then zs_b (S p) s else zs_a (S p) s)) (p' := p) (d' := d) (st' := st) (ρ' := ρ) (π' := π)
          (fun W F hR h => h) (fun W F G hR n h => hR.1.1 n fs p d st ρ π s lo hLay hk hfl h) ?_ ?_
        · rw [zm_muS, zm_muS]; show _ + (fs.length + 1) < _; cases d <;> (simp only [Bool.false_eq_true, if_true, if_false]; omega)
        · cases d
          · exact ih ((p, s, 1, false, lo) :: fs) (some (zs_a (S p) s)) p false _ cs ρ π st i _ s ⟨hLay, m, hsm, Or.inr (Or.inl ⟨hk, rfl, rfl, rfl, rfl, hst⟩)⟩ (Or.inr ⟨_, _, rfl, hLa, ha, rfl, rfl⟩) hl hs
              (by rw [zm_muS]; show _ + (fs.length + 1) ≤ _; omega) (by rw [zm_muS]; show _ + (_ + (fs.length + 1)) ≤ _; omega) hu
          · refine ih ((p, s, 1, true, lo) :: fs) (some (zs_b (S p) s)) p true _ cs ρ π st i _ s ⟨hLay, m, hsm, Or.inr (Or.inl ⟨hk, rfl, rfl, rfl, rfl, hst⟩)⟩ (Or.inr ⟨_, _, rfl, hLb, hb, ?_, rfl⟩) hl hs
              (by rw [zm_muS]; show _ + (fs.length + 1) ≤ _; omega) (by rw [zm_muS]; show _ + (_ + (fs.length + 1)) ≤ _; omega) hu
            show lo + zs_L (S p) s = lo + zs_L (S p) (zs_a (S p) s) + zs_L (S p) (zs_b (S p) s)
            omega
      · -- an if
        obtain ⟨hLa, hLb⟩ := hL11 _ _ _ hLay hk
        obtain ⟨ha, hb⟩ := hok.2.2.2.2.2.2.1 (by omega)
        cases hq : zm_q (T p) ρ d (zs_x (S p) s) (zs_y (S p) s)
        · have htm : zm_tm S T Lay ρ p d (zm_e d lo (zs_L (S p) s)) (zm_e d (lo + 3 + zs_L (S p) (zs_a (S p) s)) (zs_L (S p) (zs_b (S p) s))) := ⟨s, lo, hLay, Or.inr (Or.inl ⟨hk, hq, rfl, rfl⟩)⟩
          refine zm_step (i' := i + 1) (pc' := zm_e d (lo + 3 + zs_L (S p) (zs_a (S p) s)) (zs_L (S p) (zs_b (S p) s))) (cs' := cs) (fs' := (p, s, 2, d, lo) :: fs) (nx' := some (zs_b (S p) s)) (p' := p) (d' := d) (st' := st) (ρ' := ρ) (π' := π)
            (fun W F hR h => hR.2.2.2.2.2.2.1 none i st p d _ _ cs ρ π (by omega) htm h)
            (fun W F G hR n h => hR.1.2.1 n fs p d st ρ π s lo false hLay hk hfl hq h) (by rw [zm_muS, zm_muS]; show _ + (fs.length + 1) < _; omega) ?_
          refine ih ((p, s, 2, d, lo) :: fs) _ p d _ cs ρ π st (i + 1) _ s ⟨hLay, m, hsm, Or.inr (Or.inr (Or.inl ⟨hk, rfl, rfl, Or.inr ⟨rfl, rfl⟩, rfl, hst⟩))⟩ (Or.inr ⟨_, _, rfl, hLb, hb, rfl, rfl⟩) hl hs
            (by rw [zm_muS]; show _ + (fs.length + 1) ≤ _; omega) (by rw [zm_muS]; show _ + (_ + (fs.length + 1)) ≤ _; omega) ?_
          exact zm_undS hu fun W F hR o j st hj h => hR.2.2.2.2.2.2.1 (some o) j st p (!d) _ _ cs ρ π hj (zm_tm_r S T Lay htm) h
        · have htm : zm_tm S T Lay ρ p d (zm_e d lo (zs_L (S p) s)) (zm_e d (lo + 1) (zs_L (S p) (zs_a (S p) s))) := ⟨s, lo, hLay, Or.inl ⟨hk, hq, rfl, rfl⟩⟩
          refine zm_step (i' := i + 1) (pc' := zm_e d (lo + 1) (zs_L (S p) (zs_a (S p) s))) (cs' := cs) (fs' := (p, s, 1, d, lo) :: fs) (nx' := some (zs_a (S p) s)) (p' := p) (d' := d) (st' := st) (ρ' := ρ) (π' := π)
            (fun W F hR h => hR.2.2.2.2.2.2.1 none i st p d _ _ cs ρ π (by omega) htm h)
            (fun W F G hR n h => hR.1.2.1 n fs p d st ρ π s lo true hLay hk hfl hq h) (by rw [zm_muS, zm_muS]; show _ + (fs.length + 1) < _; omega) ?_
          refine ih ((p, s, 1, d, lo) :: fs) _ p d _ cs ρ π st (i + 1) _ s ⟨hLay, m, hsm, Or.inr (Or.inr (Or.inl ⟨hk, rfl, rfl, Or.inl ⟨rfl, rfl⟩, rfl, hst⟩))⟩ (Or.inr ⟨_, _, rfl, hLa, ha, rfl, rfl⟩) hl hs
            (by rw [zm_muS]; show _ + (fs.length + 1) ≤ _; omega) (by rw [zm_muS]; show _ + (_ + (fs.length + 1)) ≤ _; omega) ?_
          exact zm_undS hu fun W F hR o j st hj h => hR.2.2.2.2.2.2.1 (some o) j st p (!d) _ _ cs ρ π hj (zm_tm_r S T Lay htm) h
      · -- a loop
        obtain ⟨hLa, hLb⟩ := hL12 _ _ _ hLay hk
        obtain ⟨ha, hb⟩ := hok.2.2.2.2.2.2.1 (by omega)
        cases hq : zm_q (T p) ρ d (zs_x (S p) s) (zs_y (S p) s)
        · exact zm_fail (o := 1) (st' := st) (by omega) hl0 hp0 hs (by omega) hu
            (fun W F hR h => hR.2.2.2.2.2.2.2.1 i st p d _ cs ρ π (by omega) ⟨s, lo, hLay, Or.inr (Or.inr (Or.inl ⟨hk, hq, rfl⟩))⟩ h)
            (fun W F G hR hG n => hR.1.2.2.2.1 n fs p d st ρ π s lo hLay hk hq hG) (by rw [zm_muS]; omega)
        · have htm : zm_tm S T Lay ρ p d (zm_e d lo (zs_L (S p) s)) (zm_e d (lo + 1) (zs_L (S p) (zs_a (S p) s))) := ⟨s, lo, hLay, Or.inr (Or.inr (Or.inr (Or.inr (Or.inl ⟨hk, hq, rfl, rfl⟩))))⟩
          refine zm_step (i' := i + 1) (pc' := zm_e d (lo + 1) (zs_L (S p) (zs_a (S p) s))) (cs' := cs) (fs' := (p, s, 1, d, lo) :: fs) (nx' := some (zs_a (S p) s)) (p' := p) (d' := d) (st' := st) (ρ' := ρ) (π' := π)
            (fun W F hR h => hR.2.2.2.2.2.2.1 none i st p d _ _ cs ρ π (by omega) htm h)
            (fun W F G hR n h => hR.1.2.2.1 n fs p d st ρ π s lo hLay hk hfl hq h) (by rw [zm_muS, zm_muS]; show _ + (fs.length + 1) < _; omega) ?_
          refine ih ((p, s, 1, d, lo) :: fs) _ p d _ cs ρ π st (i + 1) _ s ⟨hLay, m, hsm, Or.inr (Or.inr (Or.inr ⟨hk, rfl, rfl, Or.inl ⟨rfl, rfl⟩, rfl, hst⟩))⟩ (Or.inr ⟨_, _, rfl, hLa, ha, rfl, rfl⟩) hl hs
            (by rw [zm_muS]; show _ + (fs.length + 1) ≤ _; omega) (by rw [zm_muS]; show _ + (_ + (fs.length + 1)) ≤ _; omega) ?_
          exact zm_undS hu fun W F hR o j st hj h => hR.2.2.2.2.2.2.1 (some o) j st p (!d) _ _ cs ρ π hj (zm_tm_r S T Lay htm) h
/-- a whole run -/
theorem zm_run (hl0 : π0.length ≤ 12) (hp0 : p0 < 3) (HL : zm_lay S T Lay bg ln nS nT) :
    zm_out S T Lay bg ln nS ρ0 π0 0 0 p0 d0 (zm_e d0 (bg p0) (ln p0)) [] ρ0 π0 [] (some (nS p0 - 1)) := by
  obtain ⟨hLR, hln⟩ := HL.2.2.2.2.1 p0 hp0
  have hv := HL.1 _ _ _ hLR
  refine zm_sim hl0 hp0 HL _ [] (some (nS p0 - 1)) p0 d0 _ [] ρ0 π0 0 0 (zm_x d0 (bg p0) (ln p0)) 16 ⟨rfl, rfl, rfl, rfl, rfl⟩ (Or.inr ⟨_, _, rfl, hLR, hv.2.2, by rw [hln], by rw [hln]⟩) hl0 (by omega) (Nat.le_refl _)
    (by rw [zm_muS]; show 0 + (64 * (300 - 0) + _ + 0) ≤ _; omega) ?_
  intro W F _ o j st _ h
  exact h
end
end
section
/-! ===== small numbers, combined and worked, the words of a term, valueAt ===== -/
theorem zn_b {n : Nat} (h : n < 128) : (nI n).toInt8.toInt32 = nI n := lg_i2b_small (by rw [nI_toInt (by omega)]; omega) (by rw [nI_toInt (by omega)]; omega)
theorem zn_s {n : Nat} (h : n < 32768) : (nI n).toInt16.toInt32 = nI n := lg_i2s_small (by rw [nI_toInt (by omega)]; omega) (by rw [nI_toInt (by omega)]; omega)
theorem zn_vb {n : Nat} (h : n < 128) : vp_nar .byte (nI n) = nI n := by rw [vp_nar_byte, zn_b h]
theorem zn_vs {n : Nat} (h : n < 32768) : vp_nar .short (nI n) = nI n := by rw [vp_nar_short, zn_s h]
theorem zn_vbb {n : Nat} (h : n < 128) : vp_nar .byte (nI n).toInt8.toInt32 = nI n := by rw [zn_b h, zn_vb h]
theorem zn_vss {n : Nat} (h : n < 32768) : vp_nar .short (nI n).toInt16.toInt32 = nI n := by rw [zn_s h, zn_vs h]
theorem zn_ne {a b : Nat} (ha : a < 2 ^ 31) (hb : b < 2 ^ 31) (h : a ≠ b) : ¬ nI a = nI b := fun e => h ((nI_eq ha hb).mp e)
theorem zn_c {n : Nat} (h : n < 2 ^ 31) : (nI n).toNatClampNeg = n := nI_clamp h
section
variable {f_terms f_termHeight f_made f_height f_compiled f_codeSize f_wordCount f_works f_procedure f_high f_at f_inside f_ahead f_undoing f_outcomeThen f_calls f_state f_last f_stepCount : Int32} {a_termKind a_termA a_termB a_termNumber a_registersIn a_termStack a_kind a_register a_number a_partA a_partB a_testX a_testY a_size a_stack a_code a_first a_second a_codeX a_codeY a_partner a_other a_begin a_end a_word a_wordNumber a_constant a_folded a_work a_workOn a_openAt a_middleAt a_placeX a_placeY a_todo a_value a_held a_operand a_callAt a_callIn : Nat → Int32}
theorem zx_comb {post : Int32 → Prop} {k : Nat} {x y : Int32} (hk : k ≤ 6) (h : post (zt_op k x y)) : wpX_combined post (f_terms, f_termHeight, f_made, f_height, f_compiled, f_codeSize, f_wordCount, f_works, f_procedure, f_high, f_at, f_inside, f_ahead, f_undoing, f_outcomeThen, f_calls, f_state, f_last, f_stepCount, a_termKind, a_termA, a_termB, a_termNumber, a_registersIn, a_termStack, a_kind, a_register, a_number, a_partA, a_partB, a_testX, a_testY, a_size, a_stack, a_code, a_first, a_second, a_codeX, a_codeY, a_partner, a_other, a_begin, a_end, a_word, a_wordNumber, a_constant, a_folded, a_work, a_workOn, a_openAt, a_middleAt, a_placeX, a_placeY, a_todo, a_value, a_held, a_operand, a_callAt, a_callIn) (nI k) x y := by
  unfold zt_op at h
  unfold wpX_combined
  dsimp only
  refine pk_eq k 0 (fun e => ?_) (fun e0 => ?_)
  · rw [if_pos e] at h; exact h
  rw [if_neg e0] at h
  refine pk_eq k 1 (fun e => ?_) (fun e1 => ?_)
  · rw [if_pos e] at h; exact h
  rw [if_neg e1] at h
  refine pk_eq k 2 (fun e => ?_) (fun e2 => ?_)
  · rw [if_pos e] at h; exact h
  rw [if_neg e2] at h
  refine pk_eq k 3 (fun e => ?_) (fun e3 => ?_)
  · rw [if_pos e] at h; exact h
  rw [if_neg e3] at h
  refine pk_eq k 4 (fun e => ?_) (fun e4 => ?_)
  · rw [if_pos e] at h; exact h
  rw [if_neg e4] at h
  refine pk_eq k 5 (fun e => ?_) (fun e5 => ?_)
  · rw [if_pos e] at h
    exact br_c (fun c => by rw [if_pos c] at h; exact h) (fun c => by rw [if_neg c] at h; exact h)
  rw [if_neg e5] at h
  exact br_c (fun c => by rw [if_pos c] at h; exact h) (fun c => by rw [if_neg c] at h; exact h)
end
section
variable {g_depth g_pieceDepth g_high g_oldHigh g_open g_next g_back g_calls g_end g_steps : Int32} {b_sorts b_regs b_numbers b_firsts b_seconds b_tests b_exits b_sizes b_kinds b_lefts b_rights b_masks b_counts b_values b_stack b_pieces b_registers b_pile b_oldRegisters b_oldPile b_openNode b_openPart b_openBack : Nat → Int32}
theorem zy_comb {post : Int32 → Prop} {k : Nat} {x y : Int32} (hk : k ≤ 6) (h : post (zt_op k x y)) : wpY_worked post (g_depth, g_pieceDepth, g_high, g_oldHigh, g_open, g_next, g_back, g_calls, g_end, g_steps, b_sorts, b_regs, b_numbers, b_firsts, b_seconds, b_tests, b_exits, b_sizes, b_kinds, b_lefts, b_rights, b_masks, b_counts, b_values, b_stack, b_pieces, b_registers, b_pile, b_oldRegisters, b_oldPile, b_openNode, b_openPart, b_openBack) (nI k) x y := by
  unfold zt_op at h
  unfold wpY_worked
  dsimp only
  refine pk_eq k 0 (fun e => ?_) (fun e0 => ?_)
  · rw [if_pos e] at h; exact h
  rw [if_neg e0] at h
  refine pk_eq k 1 (fun e => ?_) (fun e1 => ?_)
  · rw [if_pos e] at h; exact h
  rw [if_neg e1] at h
  refine pk_eq k 2 (fun e => ?_) (fun e2 => ?_)
  · rw [if_pos e] at h; exact h
  rw [if_neg e2] at h
  refine pk_eq k 3 (fun e => ?_) (fun e3 => ?_)
  · rw [if_pos e] at h; exact h
  rw [if_neg e3] at h
  refine pk_eq k 4 (fun e => ?_) (fun e4 => ?_)
  · rw [if_pos e] at h; exact h
  rw [if_neg e4] at h
  refine pk_eq k 5 (fun e => ?_) (fun e5 => ?_)
  · rw [if_pos e] at h
    exact br_c (fun c => by rw [if_pos c] at h; exact h) (fun c => by rw [if_neg c] at h; exact h)
  rw [if_neg e5] at h
  exact br_c (fun c => by rw [if_pos c] at h; exact h) (fun c => by rw [if_neg c] at h; exact h)
end
/-- the words from w to w' are those of term t -/
def zw_t (wd wn : Nat → Int32) (T : Nat → Nat → Nat) : Nat → Nat → Nat → Nat → Prop
  | 0, _, _, _ => False
  | n + 1, t, w, w' => (w' = w + 1 ∧ wd w = nI 7 ∧ ∀ ρ, zt_val T ρ t = wn w) ∨ (w' = w + 1 ∧ zt_k T t = 8 ∧ wd w = nI 8 ∧ wn w = nI (zt_n T t)) ∨
    (zt_k T t ≤ 6 ∧ ∃ m1 m2, zw_t wd wn T n (zt_a T t) w m1 ∧ zw_t wd wn T n (zt_b T t) m1 m2 ∧ wd m2 = nI (zt_k T t) ∧ w' = m2 + 1)
def zw_test (wd wn : Nat → Int32) (wc : Nat) (T : Nat → Nat → Nat) (t w : Nat) : Prop := ∃ n w', zw_t wd wn T n t w w' ∧ wd w' = nI 9 ∧ w' < wc
theorem zw_lt {wd wn : Nat → Int32} {T : Nat → Nat → Nat} : ∀ {n t w w' : Nat}, zw_t wd wn T n t w w' → w < w' := by
  intro n
  induction n with
  | zero => intro t w w' h; exact h.elim
  | succ n ih =>
    intro t w w' h
    rcases h with ⟨rfl, _⟩ | ⟨rfl, _⟩ | ⟨_, m1, m2, h1, h2, _, rfl⟩
    · omega
    · omega
    · have := ih h1; have := ih h2; omega
theorem zw_cong {wd wn wd' wn' : Nat → Int32} {T : Nat → Nat → Nat} : ∀ {n t w w' : Nat}, (∀ j, w ≤ j → j < w' → wd' j = wd j ∧ wn' j = wn j) → zw_t wd wn T n t w w' → zw_t wd' wn' T n t w w' := by
  intro n
  induction n with
  | zero => intro t w w' _ h; exact h.elim
  | succ n ih =>
    intro t w w' e h
    rcases h with ⟨rfl, h1, h2⟩ | ⟨rfl, h0, h1, h2⟩ | ⟨h0, m1, m2, h1, h2, h3, rfl⟩
    · exact Or.inl ⟨rfl, (e w (by omega) (by omega)).1.trans h1, fun ρ => (h2 ρ).trans (e w (by omega) (by omega)).2.symm⟩
    · exact Or.inr (Or.inl ⟨rfl, h0, (e w (by omega) (by omega)).1.trans h1, (e w (by omega) (by omega)).2.trans h2⟩)
    · have l1 := zw_lt h1
      have l2 := zw_lt h2
      exact Or.inr (Or.inr ⟨h0, m1, m2, ih (fun j a b => e j a (by omega)) h1, ih (fun j a b => e j (by omega) (by omega)) h2, (e m2 (by omega) (by omega)).1.trans h3, rfl⟩)
theorem zw_test_cong {wd wn wd' wn' : Nat → Int32} {wc wc' : Nat} {T : Nat → Nat → Nat} {t w : Nat} (e : ∀ j, j < wc → wd' j = wd j ∧ wn' j = wn j) (hc : wc ≤ wc') (h : zw_test wd wn wc T t w) : zw_test wd' wn' wc' T t w := by
  obtain ⟨n, w', h1, h2, h3⟩ := h
  exact ⟨n, w', zw_cong (fun j _ b => e j (by omega)) h1, (e w' h3).1.trans h2, by omega⟩
section
variable {f_terms f_termHeight f_made f_height f_compiled f_codeSize f_wordCount f_works f_procedure f_high f_at f_inside f_ahead f_undoing f_outcomeThen f_calls f_state f_last f_stepCount : Int32} {a_termKind a_termA a_termB a_termNumber a_registersIn a_termStack a_kind a_register a_number a_partA a_partB a_testX a_testY a_size a_stack a_code a_first a_second a_codeX a_codeY a_partner a_other a_begin a_end a_word a_wordNumber a_constant a_folded a_work a_workOn a_openAt a_middleAt a_placeX a_placeY a_todo a_value a_held a_operand a_callAt a_callIn : Nat → Int32}
theorem zx_words {post : Int32 → SX → Prop} {T : Nat → Nat → Nat} {N wc : Nat} {ρ : Nat → Int32} (ho : zt_ok T N) (hv : ∀ r, r < 6 → a_value r = ρ r) (hwc : wc ≤ 240) :
    ∀ (f t w w' n h : Nat) (op : Nat → Int32), zw_t a_word a_wordNumber T f t w w' → t < N → h + zt_s T t ≤ 24 → w' < wc → n + w = 241 →
    (∀ (op' : Nat → Int32) (n' : Nat), op' h = zt_val T ρ t → (∀ j, j < h → op' j = op j) → n' + w' = 241 →
      wX_valueAt_4 post f_terms f_termHeight f_made f_height f_compiled f_codeSize (nI wc) f_works f_procedure f_high f_at f_inside f_ahead f_undoing f_outcomeThen f_calls f_state f_last f_stepCount n' (nI (h + 1)) (nI w') a_termKind a_termA a_termB a_termNumber a_registersIn a_termStack a_kind a_register a_number a_partA a_partB a_testX a_testY a_size a_stack a_code a_first a_second a_codeX a_codeY a_partner a_other a_begin a_end a_word a_wordNumber a_constant a_folded a_work a_workOn a_openAt a_middleAt a_placeX a_placeY a_todo a_value a_held op' a_callAt a_callIn) →
    wX_valueAt_4 post f_terms f_termHeight f_made f_height f_compiled f_codeSize (nI wc) f_works f_procedure f_high f_at f_inside f_ahead f_undoing f_outcomeThen f_calls f_state f_last f_stepCount n (nI h) (nI w) a_termKind a_termA a_termB a_termNumber a_registersIn a_termStack a_kind a_register a_number a_partA a_partB a_testX a_testY a_size a_stack a_code a_first a_second a_codeX a_codeY a_partner a_other a_begin a_end a_word a_wordNumber a_constant a_folded a_work a_workOn a_openAt a_middleAt a_placeX a_placeY a_todo a_value a_held op a_callAt a_callIn := by
  intro f
  induction f with
  | zero => intro t w w' n h op hw; exact hw.elim
  | succ f ih =>
    intro t w w' n h op hw ht hh hwl hn K
    have hok := ho t ht
    have hs1 : 1 ≤ zt_s T t := hok.2.2.2.2.2.2.1
    rcases hw with ⟨rfl, h1, h2⟩ | ⟨rfl, h0, h1, h2⟩ | ⟨h0, m1, m2, h1, h2, h3, rfl⟩
    · obtain ⟨n, rfl⟩ : ∃ k, n = k + 1 := ⟨n - 1, by omega⟩
      refine br_f (nI_ge (by omega) (by omega)) ⟨vp_in_nI (by omega) (by omega), ?_⟩
      rw [zn_c (by omega : w < 2 ^ 31), h1]
      refine br_f (by decide) ⟨vp_in_nI (by omega) (by omega), nm_e (br_t rfl ⟨vp_in_nI (by omega) (by omega), vp_in_nI (by omega) (by omega), ?_⟩)⟩
      refine nm_e (nm_r (nI_1 h) (nm_r (nI_1 w) ?_))
      rw [zn_c (by omega : h < 2 ^ 31)]
      exact K _ n (by rw [pk_us]; exact (h2 ρ).symm) (fun j hj => pk_un (by omega)) (by omega)
    · obtain ⟨n, rfl⟩ : ∃ k, n = k + 1 := ⟨n - 1, by omega⟩
      have hr := hok.2.2.1 h0
      refine br_f (nI_ge (by omega) (by omega)) ⟨vp_in_nI (by omega) (by omega), ?_⟩
      rw [zn_c (by omega : w < 2 ^ 31), h1, h2]
      refine br_f (by decide) ⟨vp_in_nI (by omega) (by omega), nm_e (br_f (by decide) (br_t rfl ⟨vp_in_nI (by omega) (by omega), vp_in_nI (by omega) (by omega), vp_in_nI (by omega) (by omega), ?_⟩))⟩
      refine nm_e (nm_r (nI_1 h) (nm_r (nI_1 w) ?_))
      rw [zn_c (by omega : h < 2 ^ 31), zn_c (by omega : zt_n T t < 2 ^ 31)]
      exact K _ n (by rw [pk_us, zt_val8 h0, hv _ hr]) (fun j hj => pk_un (by omega)) (by omega)
    · obtain ⟨ha, hb, hsz⟩ := hok.2.2.2.1 h0
      have l1 := zw_lt h1
      have l2 := zw_lt h2
      have sa := (ho _ (Nat.lt_trans ha ht)).2.2.2.2.2.2.1
      have sb := (ho _ (Nat.lt_trans hb ht)).2.2.2.2.2.2.1
      refine ih (zt_a T t) w m1 n h op h1 (by omega) (by omega) (by omega) hn fun op1 n1 e1 p1 hn1 => ?_
      refine ih (zt_b T t) m1 m2 n1 (h + 1) op1 h2 (by omega) (by omega) (by omega) hn1 fun op2 n2 e2 p2 hn2 => ?_
      obtain ⟨n2, rfl⟩ : ∃ k, n2 = k + 1 := ⟨n2 - 1, by omega⟩
      refine br_f (nI_ge (by omega) (by omega)) ⟨vp_in_nI (by omega) (by omega), ?_⟩
      rw [zn_c (by omega : m2 < 2 ^ 31), h3]
      refine br_f (zn_ne (b := 9) (by omega) (by omega) (by omega)) ⟨vp_in_nI (by omega) (by omega), nm_e (br_f (zn_ne (b := 7) (by omega) (by omega) (by omega)) (br_f (zn_ne (b := 8) (by omega) (by omega) (by omega)) ?_))⟩
      refine nm_r (e' := nI (h + 1)) (pk_m1 (h + 1)) ?_
      rw [nI_pred h, zn_c (by omega : h < 2 ^ 31), zn_c (by omega : h + 1 < 2 ^ 31)]
      refine ⟨vp_in_nI (by omega) (by omega), vp_in_nI (by omega) (by omega), zx_comb h0 ⟨vp_in_nI (by omega) (by omega), ?_⟩⟩
      refine nm_e (nm_r (nI_1 m2) ?_)
      refine K _ n2 ?_ ?_ (by omega)
      · rw [pk_us, zt_valop ho ht h0, e2, p2 h (by omega), e1]
      · intro j hj
        rw [pk_un (by omega), p2 j (by omega), p1 j hj]
theorem zx_val {post : Int32 → SX → Prop} {T : Nat → Nat → Nat} {N wc : Nat} {ρ : Nat → Int32} {t w : Nat} (ho : zt_ok T N) (hv : ∀ r, r < 6 → a_value r = ρ r) (hwc : wc ≤ 240) (ht : t < N) (hN : N ≤ 24)
    (hw : zw_test a_word a_wordNumber wc T t w) (K : ∀ op : Nat → Int32, post (zt_val T ρ t) (f_terms, f_termHeight, f_made, f_height, f_compiled, f_codeSize, nI wc, f_works, f_procedure, f_high, f_at, f_inside, f_ahead, f_undoing, f_outcomeThen, f_calls, f_state, f_last, f_stepCount, a_termKind, a_termA, a_termB, a_termNumber, a_registersIn, a_termStack, a_kind, a_register, a_number, a_partA, a_partB, a_testX, a_testY, a_size, a_stack, a_code, a_first, a_second, a_codeX, a_codeY, a_partner, a_other, a_begin, a_end, a_word, a_wordNumber, a_constant, a_folded, a_work, a_workOn, a_openAt, a_middleAt, a_placeX, a_placeY, a_todo, a_value, a_held, op, a_callAt, a_callIn)) :
    wpX_valueAt post (f_terms, f_termHeight, f_made, f_height, f_compiled, f_codeSize, nI wc, f_works, f_procedure, f_high, f_at, f_inside, f_ahead, f_undoing, f_outcomeThen, f_calls, f_state, f_last, f_stepCount, a_termKind, a_termA, a_termB, a_termNumber, a_registersIn, a_termStack, a_kind, a_register, a_number, a_partA, a_partB, a_testX, a_testY, a_size, a_stack, a_code, a_first, a_second, a_codeX, a_codeY, a_partner, a_other, a_begin, a_end, a_word, a_wordNumber, a_constant, a_folded, a_work, a_workOn, a_openAt, a_middleAt, a_placeX, a_placeY, a_todo, a_value, a_held, a_operand, a_callAt, a_callIn) (nI w) := by
  obtain ⟨f, w', h1, h2, h3⟩ := hw
  have l1 := zw_lt h1
  have hs := (ho t ht).2.2.2.2.2.1
  refine ⟨241 - w, ?_⟩
  refine zx_words (ρ := ρ) ho hv hwc f t w w' (241 - w) 0 a_operand h1 ht (by omega) h3 (by omega) fun op n e _ hn => ?_
  obtain ⟨n, rfl⟩ : ∃ k, n = k + 1 := ⟨n - 1, by omega⟩
  refine br_f (nI_ge (by omega) (by omega)) ⟨vp_in_nI (by omega) (by omega), ?_⟩
  rw [zn_c (by omega : w' < 2 ^ 31), h2]
  refine br_t rfl ?_
  rw [e]
  exact K op
end
end
section
/-! ===== the code of a statement at its place ===== -/
def zc_ins (code cx cy : Nat → Int32) (i c wx wy : Nat) : Prop := code i = nI c ∧ cx i = nI wx ∧ cy i = nI wy
def zc_at (code fst snd cx cy prt oth wd wn : Nat → Int32) (wc : Nat) (S T : Nat → Nat → Nat) : Nat → Nat → Nat → Prop
  | 0, _, _ => False
  | n + 1, s, lo =>
    (zs_k S s ≤ 9 → code lo = nI (zs_k S s) ∧ ((1 ≤ zs_k S s ∧ zs_k S s ≤ 3) ∨ (6 ≤ zs_k S s ∧ zs_k S s ≤ 8) → fst lo = nI (zs_r S s)) ∧
      (zs_k S s = 1 ∨ zs_k S s = 4 ∨ zs_k S s = 5 → snd lo = nI (zs_n S s)) ∧ (6 ≤ zs_k S s → ∃ w, cx lo = nI w ∧ zw_test wd wn wc T (zs_x S s) w)) ∧
    (zs_k S s = 10 → zc_at code fst snd cx cy prt oth wd wn wc S T n (zs_a S s) lo ∧ zc_at code fst snd cx cy prt oth wd wn wc S T n (zs_b S s) (lo + zs_L S (zs_a S s))) ∧
    (zs_k S s = 11 → ∃ wx wy, zw_test wd wn wc T (zs_x S s) wx ∧ zw_test wd wn wc T (zs_y S s) wy ∧
      zc_ins code cx cy lo 10 wx wy ∧ zc_ins code cx cy (lo + 1 + zs_L S (zs_a S s)) 11 wx wy ∧ zc_ins code cx cy (lo + 2 + zs_L S (zs_a S s)) 12 wx wy ∧
      zc_ins code cx cy (lo + 3 + zs_L S (zs_a S s) + zs_L S (zs_b S s)) 13 wx wy ∧
      prt lo = nI (lo + 2 + zs_L S (zs_a S s)) ∧ prt (lo + 2 + zs_L S (zs_a S s)) = nI lo ∧
      prt (lo + 1 + zs_L S (zs_a S s)) = nI (lo + 3 + zs_L S (zs_a S s) + zs_L S (zs_b S s)) ∧ prt (lo + 3 + zs_L S (zs_a S s) + zs_L S (zs_b S s)) = nI (lo + 1 + zs_L S (zs_a S s)) ∧
      zc_at code fst snd cx cy prt oth wd wn wc S T n (zs_a S s) (lo + 1) ∧ zc_at code fst snd cx cy prt oth wd wn wc S T n (zs_b S s) (lo + 3 + zs_L S (zs_a S s))) ∧
    (zs_k S s = 12 → ∃ wx wy, zw_test wd wn wc T (zs_x S s) wx ∧ zw_test wd wn wc T (zs_y S s) wy ∧
      zc_ins code cx cy lo 14 wx wy ∧ zc_ins code cx cy (lo + 1 + zs_L S (zs_a S s)) 15 wx wy ∧
      zc_ins code cx cy (lo + 2 + zs_L S (zs_a S s) + zs_L S (zs_b S s)) 16 wx wy ∧
      prt lo = nI (lo + 2 + zs_L S (zs_a S s) + zs_L S (zs_b S s)) ∧
      prt (lo + 1 + zs_L S (zs_a S s)) = nI (lo + 2 + zs_L S (zs_a S s) + zs_L S (zs_b S s)) ∧ prt (lo + 2 + zs_L S (zs_a S s) + zs_L S (zs_b S s)) = nI (lo + 1 + zs_L S (zs_a S s)) ∧
      oth (lo + 2 + zs_L S (zs_a S s) + zs_L S (zs_b S s)) = nI lo ∧
      zc_at code fst snd cx cy prt oth wd wn wc S T n (zs_a S s) (lo + 1) ∧ zc_at code fst snd cx cy prt oth wd wn wc S T n (zs_b S s) (lo + 2 + zs_L S (zs_a S s)))
theorem zc_ins_cong {code cx cy code' cx' cy' : Nat → Int32} {i c wx wy : Nat} (h1 : code' i = code i) (h2 : cx' i = cx i) (h3 : cy' i = cy i) (h : zc_ins code cx cy i c wx wy) : zc_ins code' cx' cy' i c wx wy :=
  ⟨h1.trans h.1, h2.trans h.2.1, h3.trans h.2.2⟩
/-- what agrees on the place and on the words holds the same code -/
theorem zc_cong {code fst snd cx cy prt oth wd wn code' fst' snd' cx' cy' prt' oth' wd' wn' : Nat → Int32} {wc wc' : Nat} {S T : Nat → Nat → Nat} {nS nT : Nat} (ho : zs_ok S T nS nT)
    (ew : ∀ j, j < wc → wd' j = wd j ∧ wn' j = wn j) (hc : wc ≤ wc') : ∀ {n s lo : Nat}, s < nS →
    (∀ j, lo ≤ j → j < lo + zs_L S s → code' j = code j ∧ fst' j = fst j ∧ snd' j = snd j ∧ cx' j = cx j ∧ cy' j = cy j ∧ prt' j = prt j ∧ oth' j = oth j) →
    zc_at code fst snd cx cy prt oth wd wn wc S T n s lo → zc_at code' fst' snd' cx' cy' prt' oth' wd' wn' wc' S T n s lo := by
  intro n
  induction n with
  | zero => intro s lo _ _ h; exact h.elim
  | succ n ih =>
    intro s lo hs e h
    obtain ⟨h9, h10, h11, h12⟩ := h
    have hok := ho s hs
    refine ⟨fun hk => ?_, fun hk => ?_, fun hk => ?_, fun hk => ?_⟩
    · have hl := (hok.2.2.2.2.2.2.2.2.1 hk).1
      obtain ⟨e1, e2, e3, e4, _⟩ := e lo (by omega) (by omega)
      obtain ⟨g1, g2, g3, g4⟩ := h9 hk
      refine ⟨e1.trans g1, fun z => e2.trans (g2 z), fun z => e3.trans (g3 z), fun z => ?_⟩
      obtain ⟨w, gw, gt⟩ := g4 z
      exact ⟨w, e4.trans gw, zw_test_cong ew hc gt⟩
    · obtain ⟨ha, hb⟩ := hok.2.2.2.2.2.2.1 (by omega)
      obtain ⟨hl, _, _⟩ := hok.2.2.2.2.2.2.2.2.2.1 hk
      obtain ⟨ga, gb⟩ := h10 hk
      exact ⟨ih (by omega) (fun j a b => e j a (by omega)) ga, ih (by omega) (fun j a b => e j (by omega) (by omega)) gb⟩
    · obtain ⟨ha, hb⟩ := hok.2.2.2.2.2.2.1 (by omega)
      have hl := hok.2.2.2.2.2.2.2.2.2.2.1 hk
      obtain ⟨wx, wy, tx, ty, i1, i2, i3, i4, q1, q2, q3, q4, ga, gb⟩ := h11 hk
      obtain ⟨a1, a2, a3, a4, a5, a6, a7⟩ := e lo (by omega) (by omega)
      obtain ⟨b1, b2, b3, b4, b5, b6, b7⟩ := e (lo + 1 + zs_L S (zs_a S s)) (by omega) (by omega)
      obtain ⟨c1, c2, c3, c4, c5, c6, c7⟩ := e (lo + 2 + zs_L S (zs_a S s)) (by omega) (by omega)
      obtain ⟨d1, d2, d3, d4, d5, d6, d7⟩ := e (lo + 3 + zs_L S (zs_a S s) + zs_L S (zs_b S s)) (by omega) (by omega)
      exact ⟨wx, wy, zw_test_cong ew hc tx, zw_test_cong ew hc ty, zc_ins_cong a1 a4 a5 i1, zc_ins_cong b1 b4 b5 i2, zc_ins_cong c1 c4 c5 i3, zc_ins_cong d1 d4 d5 i4,
        a6.trans q1, c6.trans q2, b6.trans q3, d6.trans q4, ih (by omega) (fun j a b => e j (by omega) (by omega)) ga, ih (by omega) (fun j a b => e j (by omega) (by omega)) gb⟩
    · obtain ⟨ha, hb⟩ := hok.2.2.2.2.2.2.1 (by omega)
      have hl := hok.2.2.2.2.2.2.2.2.2.2.2.1 hk
      obtain ⟨wx, wy, tx, ty, i1, i2, i4, q1, q3, q4, q5, ga, gb⟩ := h12 hk
      obtain ⟨a1, a2, a3, a4, a5, a6, a7⟩ := e lo (by omega) (by omega)
      obtain ⟨b1, b2, b3, b4, b5, b6, b7⟩ := e (lo + 1 + zs_L S (zs_a S s)) (by omega) (by omega)
      obtain ⟨d1, d2, d3, d4, d5, d6, d7⟩ := e (lo + 2 + zs_L S (zs_a S s) + zs_L S (zs_b S s)) (by omega) (by omega)
      exact ⟨wx, wy, zw_test_cong ew hc tx, zw_test_cong ew hc ty, zc_ins_cong a1 a4 a5 i1, zc_ins_cong b1 b4 b5 i2, zc_ins_cong d1 d4 d5 i4,
        a6.trans q1, b6.trans q3, d6.trans q4, d7.trans q5, ih (by omega) (fun j a b => e j (by omega) (by omega)) ga, ih (by omega) (fun j a b => e j (by omega) (by omega)) gb⟩
/-- statement s of procedure p is laid at lo -/
def zc_Lay (code fst snd cx cy prt oth wd wn : Nat → Int32) (wc : Nat) (S T : Nat → Nat → Nat → Nat) (nS bg ln : Nat → Nat) (p s lo : Nat) : Prop :=
  p < 3 ∧ s < nS p ∧ s < 16 ∧ bg p ≤ lo ∧ lo + zs_L (S p) s ≤ bg p + ln p ∧ ∃ n, zc_at code fst snd cx cy prt oth wd wn wc (S p) (T p) n s lo
/-- all three procedures are laid -/
def zc_all (code fst snd cx cy prt oth wd wn : Nat → Int32) (beg en : Nat → Int32) (wc : Nat) (S T : Nat → Nat → Nat → Nat) (nS : Nat → Nat) : Prop :=
  wc ≤ 240 ∧ ∃ bg : Nat → Nat, ∀ p, p < 3 → bg p + zs_L (S p) (nS p - 1) ≤ 200 ∧ beg p = nI (bg p) ∧ en p = nI (bg p + zs_L (S p) (nS p - 1)) ∧
    ∃ n, zc_at code fst snd cx cy prt oth wd wn wc (S p) (T p) n (nS p - 1) (bg p)
theorem zc_lay {code fst snd cx cy prt oth wd wn : Nat → Int32} {wc : Nat} {S T : Nat → Nat → Nat → Nat} {nS nT bg : Nat → Nat}
    (hn : ∀ p, p < 3 → 1 ≤ nS p ∧ nS p ≤ 16) (ho : ∀ p, p < 3 → zs_ok (S p) (T p) (nS p) (nT p) ∧ zt_ok (T p) (nT p))
    (ha : ∀ p, p < 3 → ∃ n, zc_at code fst snd cx cy prt oth wd wn wc (S p) (T p) n (nS p - 1) (bg p)) :
    zm_lay S T (zc_Lay code fst snd cx cy prt oth wd wn wc S T nS bg (fun p => zs_L (S p) (nS p - 1))) bg (fun p => zs_L (S p) (nS p - 1)) nS nT := by
  refine ⟨fun p s lo h => ⟨h.1, h.2.1, h.2.2.1⟩, ?_, ?_, ?_, ?_, ho⟩
  · intro p s lo ⟨hp, hs, h16, hb, hl, n, h⟩ hk
    have hok := (ho p hp).1 s hs
    obtain ⟨pa, pb⟩ := hok.2.2.2.2.2.2.1 (by omega)
    obtain ⟨hL, _, _⟩ := hok.2.2.2.2.2.2.2.2.2.1 hk
    cases n with
    | zero => exact h.elim
    | succ n =>
      obtain ⟨ga, gb⟩ := h.2.1 hk
      exact ⟨⟨hp, by omega, by omega, hb, by omega, n, ga⟩, ⟨hp, by omega, by omega, by omega, by omega, n, gb⟩⟩
  · intro p s lo ⟨hp, hs, h16, hb, hl, n, h⟩ hk
    have hok := (ho p hp).1 s hs
    obtain ⟨pa, pb⟩ := hok.2.2.2.2.2.2.1 (by omega)
    have hL := hok.2.2.2.2.2.2.2.2.2.2.1 hk
    cases n with
    | zero => exact h.elim
    | succ n =>
      obtain ⟨wx, wy, _, _, _, _, _, _, _, _, _, _, ga, gb⟩ := h.2.2.1 hk
      exact ⟨⟨hp, by omega, by omega, by omega, by omega, n, ga⟩, ⟨hp, by omega, by omega, by omega, by omega, n, gb⟩⟩
  · intro p s lo ⟨hp, hs, h16, hb, hl, n, h⟩ hk
    have hok := (ho p hp).1 s hs
    obtain ⟨pa, pb⟩ := hok.2.2.2.2.2.2.1 (by omega)
    have hL := hok.2.2.2.2.2.2.2.2.2.2.2.1 hk
    cases n with
    | zero => exact h.elim
    | succ n =>
      obtain ⟨wx, wy, _, _, _, _, _, _, _, _, _, ga, gb⟩ := h.2.2.2 hk
      exact ⟨⟨hp, by omega, by omega, by omega, by omega, n, ga⟩, ⟨hp, by omega, by omega, by omega, by omega, n, gb⟩⟩
  · intro p hp
    obtain ⟨n, h⟩ := ha p hp
    have := hn p hp
    exact ⟨⟨hp, by omega, by omega, by omega, Nat.le_refl _, n, h⟩, rfl⟩
end
section
/-! ===== X's steps ===== -/
def zx_a (d : Bool) : Int32 := if d then 0 else 1
def zx_b (b : Bool) : Int32 := if b then 1 else 0
def zx_u (uo : Option Nat) : Int32 := if uo = none then 0 else 1
def zx_cs (ca ci : Nat → Int32) : List (Nat × Nat) → Prop
  | [] => True
  | (i, q) :: l => ca l.length = nI i ∧ ci l.length = nI q ∧ zx_cs ca ci l
theorem zx_cs_upd {ca ci : Nat → Int32} {k : Nat} {v w : Int32} : ∀ {l : List (Nat × Nat)}, l.length ≤ k → zx_cs ca ci l → zx_cs (upd ca k v) (upd ci k w) l := by
  intro l
  induction l with
  | nil => intro _ _; exact trivial
  | cons x l ih =>
    obtain ⟨i, q⟩ := x
    intro hk h
    have hk' : l.length + 1 ≤ k := hk
    exact ⟨by rw [pk_un (by omega)]; exact h.1, by rw [pk_un (by omega)]; exact h.2.1, ih (by omega) h.2.2⟩
theorem zx_vu {a ρ : Nat → Int32} {k : Nat} {x y : Int32} (h : ∀ r, r < 6 → a r = ρ r) (e : x = y) : ∀ r, r < 6 → upd a k x r = upd ρ k y r := by
  intro r hr
  by_cases z : r = k
  · rw [z, pk_us, pk_us, e]
  · rw [pk_un z, pk_un z, h r hr]
def zx_env (beg en : Nat → Int32) (wc : Nat) (S T : Nat → Nat → Nat → Nat) (nS nT bg ln : Nat → Nat) : Prop :=
  wc ≤ 240 ∧ ∀ p, p < 3 → nS p ≤ 16 ∧ nT p ≤ 24 ∧ zs_ok (S p) (T p) (nS p) (nT p) ∧ zt_ok (T p) (nT p) ∧ bg p + ln p ≤ 200 ∧ beg p = nI (bg p) ∧ en p = nI (bg p + ln p)
section
variable {f_terms f_termHeight f_made f_height f_compiled f_codeSize f_wordCount f_works f_procedure f_high f_at f_inside f_ahead f_undoing f_outcomeThen f_calls f_state f_last f_stepCount : Int32} {a_termKind a_termA a_termB a_termNumber a_registersIn a_termStack a_kind a_register a_number a_partA a_partB a_testX a_testY a_size a_stack a_code a_first a_second a_codeX a_codeY a_partner a_other a_begin a_end a_word a_wordNumber a_constant a_folded a_work a_workOn a_openAt a_middleAt a_placeX a_placeY a_todo a_value a_held a_operand a_callAt a_callIn : Nat → Int32}
variable {S T : Nat → Nat → Nat → Nat} {nS nT bg ln : Nat → Nat} {wc : Nat}
theorem zx_in {post : SX → Prop} {p i : Nat} {d : Bool} (hE : zx_env a_begin a_end wc S T nS nT bg ln) (hp : p < 3) (h1 : bg p ≤ i) (h2 : i < bg p + ln p)
    (h : wX_step_60 post (nI i) f_terms f_termHeight f_made f_height f_compiled f_codeSize f_wordCount f_works f_procedure f_high (nI (zm_e d i 1)) (nI p) (zx_a d) f_undoing f_outcomeThen f_calls f_state f_last f_stepCount a_termKind a_termA a_termB a_termNumber a_registersIn a_termStack a_kind a_register a_number a_partA a_partB a_testX a_testY a_size a_stack a_code a_first a_second a_codeX a_codeY a_partner a_other a_begin a_end a_word a_wordNumber a_constant a_folded a_work a_workOn a_openAt a_middleAt a_placeX a_placeY a_todo a_value a_held a_operand a_callAt a_callIn) : wpX_step post (f_terms, f_termHeight, f_made, f_height, f_compiled, f_codeSize, f_wordCount, f_works, f_procedure, f_high, nI (zm_e d i 1), nI p, zx_a d, f_undoing, f_outcomeThen, f_calls, f_state, f_last, f_stepCount, a_termKind, a_termA, a_termB, a_termNumber, a_registersIn, a_termStack, a_kind, a_register, a_number, a_partA, a_partB, a_testX, a_testY, a_size, a_stack, a_code, a_first, a_second, a_codeX, a_codeY, a_partner, a_other, a_begin, a_end, a_word, a_wordNumber, a_constant, a_folded, a_work, a_workOn, a_openAt, a_middleAt, a_placeX, a_placeY, a_todo, a_value, a_held, a_operand, a_callAt, a_callIn) := by
  obtain ⟨_, _, _, _, h200, hbeg, hend⟩ := hE.2 p hp
  cases d with
  | false =>
    have h : wX_step_60 post (nI i) f_terms f_termHeight f_made f_height f_compiled f_codeSize f_wordCount f_works f_procedure f_high (nI i) (nI p) 1 f_undoing f_outcomeThen f_calls f_state f_last f_stepCount a_termKind a_termA a_termB a_termNumber a_registersIn a_termStack a_kind a_register a_number a_partA a_partB a_testX a_testY a_size a_stack a_code a_first a_second a_codeX a_codeY a_partner a_other a_begin a_end a_word a_wordNumber a_constant a_folded a_work a_workOn a_openAt a_middleAt a_placeX a_placeY a_todo a_value a_held a_operand a_callAt a_callIn := h
    show wpX_step post (f_terms, f_termHeight, f_made, f_height, f_compiled, f_codeSize, f_wordCount, f_works, f_procedure, f_high, nI i, nI p, 1, f_undoing, f_outcomeThen, f_calls, f_state, f_last, f_stepCount, a_termKind, a_termA, a_termB, a_termNumber, a_registersIn, a_termStack, a_kind, a_register, a_number, a_partA, a_partB, a_testX, a_testY, a_size, a_stack, a_code, a_first, a_second, a_codeX, a_codeY, a_partner, a_other, a_begin, a_end, a_word, a_wordNumber, a_constant, a_folded, a_work, a_workOn, a_openAt, a_middleAt, a_placeX, a_placeY, a_todo, a_value, a_held, a_operand, a_callAt, a_callIn)
    unfold wpX_step
    refine br_f (by decide) (And.intro (vp_in_nI (by omega) (by omega)) ?_)
    rw [zn_c (by omega : p < 2 ^ 31), hend]
    unfold wX_step_32
    exact br_f (zn_ne (by omega) (by omega) (by omega)) (br_f (by decide) h)
  | true =>
    have h : wX_step_60 post (nI i) f_terms f_termHeight f_made f_height f_compiled f_codeSize f_wordCount f_works f_procedure f_high (nI (i + 1)) (nI p) 0 f_undoing f_outcomeThen f_calls f_state f_last f_stepCount a_termKind a_termA a_termB a_termNumber a_registersIn a_termStack a_kind a_register a_number a_partA a_partB a_testX a_testY a_size a_stack a_code a_first a_second a_codeX a_codeY a_partner a_other a_begin a_end a_word a_wordNumber a_constant a_folded a_work a_workOn a_openAt a_middleAt a_placeX a_placeY a_todo a_value a_held a_operand a_callAt a_callIn := h
    show wpX_step post (f_terms, f_termHeight, f_made, f_height, f_compiled, f_codeSize, f_wordCount, f_works, f_procedure, f_high, nI (i + 1), nI p, 0, f_undoing, f_outcomeThen, f_calls, f_state, f_last, f_stepCount, a_termKind, a_termA, a_termB, a_termNumber, a_registersIn, a_termStack, a_kind, a_register, a_number, a_partA, a_partB, a_testX, a_testY, a_size, a_stack, a_code, a_first, a_second, a_codeX, a_codeY, a_partner, a_other, a_begin, a_end, a_word, a_wordNumber, a_constant, a_folded, a_work, a_workOn, a_openAt, a_middleAt, a_placeX, a_placeY, a_todo, a_value, a_held, a_operand, a_callAt, a_callIn)
    unfold wpX_step
    refine br_t rfl (And.intro (vp_in_nI (by omega) (by omega)) ?_)
    rw [zn_c (by omega : p < 2 ^ 31), hbeg]
    unfold wX_step_32
    refine br_f (zn_ne (by omega) (by omega) (by omega)) (br_t rfl ?_)
    rw [nI_pred]
    exact h
theorem zx_bt {T : Nat → Nat → Nat} {ρ : Nat → Int32} {t : Nat} (h : ¬ zt_val T ρ t = 0) : zx_b (zm_t T ρ t) = 1 := by unfold zx_b zm_t; rw [decide_eq_true h]; rfl
theorem zx_bf {T : Nat → Nat → Nat} {ρ : Nat → Int32} {t : Nat} (h : zt_val T ρ t = 0) : zx_b (zm_t T ρ t) = 0 := by unfold zx_b zm_t; rw [decide_eq_false (fun z => z h)]; rfl
theorem zx_tA {post : SX → Prop} {p i c wx wy x y : Nat} {ρ : Nat → Int32} {f_at1 f_ahead1 f_undoing1 f_out1 : Int32}
    (hE : zx_env a_begin a_end wc S T nS nT bg ln) (hp : p < 3) (h1 : bg p ≤ i) (h2 : i < bg p + ln p) (hc : 10 ≤ c ∧ c ≤ 16) (hi : zc_ins a_code a_codeX a_codeY i c wx wy)
    (tx : zw_test a_word a_wordNumber wc (T p) x wx) (ty : zw_test a_word a_wordNumber wc (T p) y wy) (hx : x < nT p) (hy : y < nT p) (hv : ∀ r, r < 6 → a_value r = ρ r)
    (K : ∀ (Q : SX → Prop) (op : Nat → Int32), Q (f_terms, f_termHeight, f_made, f_height, f_compiled, f_codeSize, nI wc, f_works, f_procedure, f_high, f_at1, nI p, f_ahead1, f_undoing1, f_out1, f_calls, f_state, f_last, f_stepCount, a_termKind, a_termA, a_termB, a_termNumber, a_registersIn, a_termStack, a_kind, a_register, a_number, a_partA, a_partB, a_testX, a_testY, a_size, a_stack, a_code, a_first, a_second, a_codeX, a_codeY, a_partner, a_other, a_begin, a_end, a_word, a_wordNumber, a_constant, a_folded, a_work, a_workOn, a_openAt, a_middleAt, a_placeX, a_placeY, a_todo, a_value, a_held, op, a_callAt, a_callIn) →
      wpX_testAhead Q (f_terms, f_termHeight, f_made, f_height, f_compiled, f_codeSize, nI wc, f_works, f_procedure, f_high, nI i, nI p, 1, f_undoing, f_outcomeThen, f_calls, f_state, f_last, f_stepCount, a_termKind, a_termA, a_termB, a_termNumber, a_registersIn, a_termStack, a_kind, a_register, a_number, a_partA, a_partB, a_testX, a_testY, a_size, a_stack, a_code, a_first, a_second, a_codeX, a_codeY, a_partner, a_other, a_begin, a_end, a_word, a_wordNumber, a_constant, a_folded, a_work, a_workOn, a_openAt, a_middleAt, a_placeX, a_placeY, a_todo, a_value, a_held, op, a_callAt, a_callIn) (nI i) (zx_b (zm_t (T p) ρ x)) (zx_b (zm_t (T p) ρ y)))
    (h : ∀ op : Nat → Int32, post (f_terms, f_termHeight, f_made, f_height, f_compiled, f_codeSize, nI wc, f_works, f_procedure, f_high, f_at1, nI p, f_ahead1, f_undoing1, f_out1, f_calls, f_state, f_last, f_stepCount, a_termKind, a_termA, a_termB, a_termNumber, a_registersIn, a_termStack, a_kind, a_register, a_number, a_partA, a_partB, a_testX, a_testY, a_size, a_stack, a_code, a_first, a_second, a_codeX, a_codeY, a_partner, a_other, a_begin, a_end, a_word, a_wordNumber, a_constant, a_folded, a_work, a_workOn, a_openAt, a_middleAt, a_placeX, a_placeY, a_todo, a_value, a_held, op, a_callAt, a_callIn)) :
    wpX_step post (f_terms, f_termHeight, f_made, f_height, f_compiled, f_codeSize, nI wc, f_works, f_procedure, f_high, nI i, nI p, 1, f_undoing, f_outcomeThen, f_calls, f_state, f_last, f_stepCount, a_termKind, a_termA, a_termB, a_termNumber, a_registersIn, a_termStack, a_kind, a_register, a_number, a_partA, a_partB, a_testX, a_testY, a_size, a_stack, a_code, a_first, a_second, a_codeX, a_codeY, a_partner, a_other, a_begin, a_end, a_word, a_wordNumber, a_constant, a_folded, a_work, a_workOn, a_openAt, a_middleAt, a_placeX, a_placeY, a_todo, a_value, a_held, a_operand, a_callAt, a_callIn) := by
  obtain ⟨h16, h24, hS, hT, h200, hbeg, hend⟩ := hE.2 p hp
  refine zx_in (d := false) hE hp h1 h2 ?_
  unfold wX_step_60
  refine And.intro (vp_in_nI (by omega) (by omega)) ?_
  rw [zn_c (by omega : i < 2 ^ 31), hi.1]
  refine br_t (nI_le (a := 10) (by omega) (by omega)) (And.intro (vp_in_nI (by omega) (by omega)) ?_)
  rw [hi.2.1]
  refine zx_val hT hv hE.1 hx h24 tx fun op1 => ?_
  dsimp only
  refine And.intro (vp_in_nI (by omega) (by omega)) ?_
  rw [hi.2.2]
  refine zx_val hT hv hE.1 hy h24 ty fun op2 => ?_
  dsimp only
  refine br_f (by decide) ?_
  by_cases hx0 : zt_val (T p) ρ x = 0
  · rw [zx_bf hx0] at K
    refine br_t hx0 ?_
    unfold wX_step_118 wX_step_127
    by_cases hy0 : zt_val (T p) ρ y = 0
    · rw [zx_bf hy0] at K
      exact br_t hy0 (K _ op2 (h op2))
    · rw [zx_bt hy0] at K
      exact br_f hy0 (K _ op2 (h op2))
  · rw [zx_bt hx0] at K
    refine br_f hx0 ?_
    unfold wX_step_118 wX_step_127
    by_cases hy0 : zt_val (T p) ρ y = 0
    · rw [zx_bf hy0] at K
      exact br_t hy0 (K _ op2 (h op2))
    · rw [zx_bt hy0] at K
      exact br_f hy0 (K _ op2 (h op2))
theorem zx_tB {post : SX → Prop} {p i c wx wy x y : Nat} {ρ : Nat → Int32} {f_at1 f_ahead1 f_undoing1 f_out1 : Int32}
    (hE : zx_env a_begin a_end wc S T nS nT bg ln) (hp : p < 3) (h1 : bg p ≤ i) (h2 : i < bg p + ln p) (hc : 10 ≤ c ∧ c ≤ 16) (hi : zc_ins a_code a_codeX a_codeY i c wx wy)
    (tx : zw_test a_word a_wordNumber wc (T p) x wx) (ty : zw_test a_word a_wordNumber wc (T p) y wy) (hx : x < nT p) (hy : y < nT p) (hv : ∀ r, r < 6 → a_value r = ρ r)
    (K : ∀ (Q : SX → Prop) (op : Nat → Int32), Q (f_terms, f_termHeight, f_made, f_height, f_compiled, f_codeSize, nI wc, f_works, f_procedure, f_high, f_at1, nI p, f_ahead1, f_undoing1, f_out1, f_calls, f_state, f_last, f_stepCount, a_termKind, a_termA, a_termB, a_termNumber, a_registersIn, a_termStack, a_kind, a_register, a_number, a_partA, a_partB, a_testX, a_testY, a_size, a_stack, a_code, a_first, a_second, a_codeX, a_codeY, a_partner, a_other, a_begin, a_end, a_word, a_wordNumber, a_constant, a_folded, a_work, a_workOn, a_openAt, a_middleAt, a_placeX, a_placeY, a_todo, a_value, a_held, op, a_callAt, a_callIn) →
      wpX_testBack Q (f_terms, f_termHeight, f_made, f_height, f_compiled, f_codeSize, nI wc, f_works, f_procedure, f_high, nI (i + 1), nI p, 0, f_undoing, f_outcomeThen, f_calls, f_state, f_last, f_stepCount, a_termKind, a_termA, a_termB, a_termNumber, a_registersIn, a_termStack, a_kind, a_register, a_number, a_partA, a_partB, a_testX, a_testY, a_size, a_stack, a_code, a_first, a_second, a_codeX, a_codeY, a_partner, a_other, a_begin, a_end, a_word, a_wordNumber, a_constant, a_folded, a_work, a_workOn, a_openAt, a_middleAt, a_placeX, a_placeY, a_todo, a_value, a_held, op, a_callAt, a_callIn) (nI i) (zx_b (zm_t (T p) ρ x)) (zx_b (zm_t (T p) ρ y)))
    (h : ∀ op : Nat → Int32, post (f_terms, f_termHeight, f_made, f_height, f_compiled, f_codeSize, nI wc, f_works, f_procedure, f_high, f_at1, nI p, f_ahead1, f_undoing1, f_out1, f_calls, f_state, f_last, f_stepCount, a_termKind, a_termA, a_termB, a_termNumber, a_registersIn, a_termStack, a_kind, a_register, a_number, a_partA, a_partB, a_testX, a_testY, a_size, a_stack, a_code, a_first, a_second, a_codeX, a_codeY, a_partner, a_other, a_begin, a_end, a_word, a_wordNumber, a_constant, a_folded, a_work, a_workOn, a_openAt, a_middleAt, a_placeX, a_placeY, a_todo, a_value, a_held, op, a_callAt, a_callIn)) :
    wpX_step post (f_terms, f_termHeight, f_made, f_height, f_compiled, f_codeSize, nI wc, f_works, f_procedure, f_high, nI (i + 1), nI p, 0, f_undoing, f_outcomeThen, f_calls, f_state, f_last, f_stepCount, a_termKind, a_termA, a_termB, a_termNumber, a_registersIn, a_termStack, a_kind, a_register, a_number, a_partA, a_partB, a_testX, a_testY, a_size, a_stack, a_code, a_first, a_second, a_codeX, a_codeY, a_partner, a_other, a_begin, a_end, a_word, a_wordNumber, a_constant, a_folded, a_work, a_workOn, a_openAt, a_middleAt, a_placeX, a_placeY, a_todo, a_value, a_held, a_operand, a_callAt, a_callIn) := by
  obtain ⟨h16, h24, hS, hT, h200, hbeg, hend⟩ := hE.2 p hp
  refine zx_in (d := true) hE hp h1 h2 ?_
  unfold wX_step_60
  refine And.intro (vp_in_nI (by omega) (by omega)) ?_
  rw [zn_c (by omega : i < 2 ^ 31), hi.1]
  refine br_t (nI_le (a := 10) (by omega) (by omega)) (And.intro (vp_in_nI (by omega) (by omega)) ?_)
  rw [hi.2.1]
  refine zx_val hT hv hE.1 hx h24 tx fun op1 => ?_
  dsimp only
  refine And.intro (vp_in_nI (by omega) (by omega)) ?_
  rw [hi.2.2]
  refine zx_val hT hv hE.1 hy h24 ty fun op2 => ?_
  dsimp only
  refine br_t rfl ?_
  by_cases hx0 : zt_val (T p) ρ x = 0
  · rw [zx_bf hx0] at K
    refine br_t hx0 ?_
    unfold wX_step_144 wX_step_153
    by_cases hy0 : zt_val (T p) ρ y = 0
    · rw [zx_bf hy0] at K
      exact br_t hy0 (K _ op2 (h op2))
    · rw [zx_bt hy0] at K
      exact br_f hy0 (K _ op2 (h op2))
  · rw [zx_bt hx0] at K
    refine br_f hx0 ?_
    unfold wX_step_144 wX_step_153
    by_cases hy0 : zt_val (T p) ρ y = 0
    · rw [zx_bf hy0] at K
      exact br_t hy0 (K _ op2 (h op2))
    · rw [zx_bt hy0] at K
      exact br_f hy0 (K _ op2 (h op2))
theorem zx_pass {Q : SX → Prop} {d : Bool} {i : Nat} (h : Q (f_terms, f_termHeight, f_made, f_height, f_compiled, f_codeSize, f_wordCount, f_works, f_procedure, f_high, nI (zm_x d i 1), f_inside, zx_a d, f_undoing, f_outcomeThen, f_calls, f_state, f_last, f_stepCount, a_termKind, a_termA, a_termB, a_termNumber, a_registersIn, a_termStack, a_kind, a_register, a_number, a_partA, a_partB, a_testX, a_testY, a_size, a_stack, a_code, a_first, a_second, a_codeX, a_codeY, a_partner, a_other, a_begin, a_end, a_word, a_wordNumber, a_constant, a_folded, a_work, a_workOn, a_openAt, a_middleAt, a_placeX, a_placeY, a_todo, a_value, a_held, a_operand, a_callAt, a_callIn)) : wpX_pass Q (f_terms, f_termHeight, f_made, f_height, f_compiled, f_codeSize, f_wordCount, f_works, f_procedure, f_high, f_at, f_inside, zx_a d, f_undoing, f_outcomeThen, f_calls, f_state, f_last, f_stepCount, a_termKind, a_termA, a_termB, a_termNumber, a_registersIn, a_termStack, a_kind, a_register, a_number, a_partA, a_partB, a_testX, a_testY, a_size, a_stack, a_code, a_first, a_second, a_codeX, a_codeY, a_partner, a_other, a_begin, a_end, a_word, a_wordNumber, a_constant, a_folded, a_work, a_workOn, a_openAt, a_middleAt, a_placeX, a_placeY, a_todo, a_value, a_held, a_operand, a_callAt, a_callIn) (nI i) := by
  cases d with
  | false => exact br_f (by decide) (nm_r (nI_1 i) h)
  | true => exact br_t rfl h
theorem zx_turn {Q : SX → Prop} {d : Bool} {o : Int32} (h : Q (f_terms, f_termHeight, f_made, f_height, f_compiled, f_codeSize, f_wordCount, f_works, f_procedure, f_high, f_at, f_inside, zx_a (!d), 1, o, f_calls, f_state, f_last, f_stepCount, a_termKind, a_termA, a_termB, a_termNumber, a_registersIn, a_termStack, a_kind, a_register, a_number, a_partA, a_partB, a_testX, a_testY, a_size, a_stack, a_code, a_first, a_second, a_codeX, a_codeY, a_partner, a_other, a_begin, a_end, a_word, a_wordNumber, a_constant, a_folded, a_work, a_workOn, a_openAt, a_middleAt, a_placeX, a_placeY, a_todo, a_value, a_held, a_operand, a_callAt, a_callIn)) : wpX_turn Q (f_terms, f_termHeight, f_made, f_height, f_compiled, f_codeSize, f_wordCount, f_works, f_procedure, f_high, f_at, f_inside, zx_a d, f_undoing, f_outcomeThen, f_calls, f_state, f_last, f_stepCount, a_termKind, a_termA, a_termB, a_termNumber, a_registersIn, a_termStack, a_kind, a_register, a_number, a_partA, a_partB, a_testX, a_testY, a_size, a_stack, a_code, a_first, a_second, a_codeX, a_codeY, a_partner, a_other, a_begin, a_end, a_word, a_wordNumber, a_constant, a_folded, a_work, a_workOn, a_openAt, a_middleAt, a_placeX, a_placeY, a_todo, a_value, a_held, a_operand, a_callAt, a_callIn) o := by
  cases d with
  | false => exact br_f (by decide) h
  | true => exact br_t rfl h
end
end
section
/-! ===== X's simple steps ===== -/
theorem zx_nb (d : Bool) : narrow .boolean (.int (zx_a d)) = .int (zx_a d) := by cases d <;> rfl
theorem zx_fb (d : Bool) : fits .boolean (.int (zx_a d)) = true := by
  have h := fits_narrow_boolean (zx_a d)
  rw [zx_nb] at h
  exact h
theorem zx_u_n : zx_u none = 0 := if_pos rfl
theorem zx_u_s (o : Nat) : zx_u (some o) = 1 := if_neg (fun h => nomatch h)
theorem zm_st_n (st : Nat) : zm_st none st = st + 1 := if_pos rfl
theorem zm_st_s (o st : Nat) : zm_st (some o) st = st := if_neg (fun h => nomatch h)
section
variable {f_terms f_termHeight f_made f_height f_compiled f_codeSize f_wordCount f_works f_procedure f_high f_at f_inside f_ahead f_undoing f_outcomeThen f_calls f_state f_last f_stepCount : Int32} {a_termKind a_termA a_termB a_termNumber a_registersIn a_termStack a_kind a_register a_number a_partA a_partB a_testX a_testY a_size a_stack a_code a_first a_second a_codeX a_codeY a_partner a_other a_begin a_end a_word a_wordNumber a_constant a_folded a_work a_workOn a_openAt a_middleAt a_placeX a_placeY a_todo a_value a_held a_operand a_callAt a_callIn : Nat → Int32}
variable {S T : Nat → Nat → Nat → Nat} {nS nT bg ln : Nat → Nat} {wc : Nat} {f_at1 f_inside1 f_ahead1 f_undoing1 f_out1 f_calls1 f_high1 : Int32} {a_value1 a_held1 a_callAt1 a_callIn1 : Nat → Int32}
theorem zx_s40 {post : SX → Prop} {p i k st : Nat} {d : Bool} {uo : Option Nat} (hE : zx_env a_begin a_end wc S T nS nT bg ln) (hp : p < 3) (h1 : bg p ≤ i) (h2 : i < bg p + ln p)
    (hc : a_code i = nI k) (hk : k ≤ 9) (hu : uo = none → st < 300)
    (K : ∀ Q : SX → Prop, (∀ op : Nat → Int32, Q (f_terms, f_termHeight, f_made, f_height, f_compiled, f_codeSize, f_wordCount, f_works, f_procedure, f_high1, f_at1, f_inside1, f_ahead1, f_undoing1, f_out1, f_calls1, f_state, f_last, nI (zm_st uo st), a_termKind, a_termA, a_termB, a_termNumber, a_registersIn, a_termStack, a_kind, a_register, a_number, a_partA, a_partB, a_testX, a_testY, a_size, a_stack, a_code, a_first, a_second, a_codeX, a_codeY, a_partner, a_other, a_begin, a_end, a_word, a_wordNumber, a_constant, a_folded, a_work, a_workOn, a_openAt, a_middleAt, a_placeX, a_placeY, a_todo, a_value1, a_held1, op, a_callAt1, a_callIn1)) →
      wX_simpleStep_40 Q (nI i) (nI k) f_terms f_termHeight f_made f_height f_compiled f_codeSize f_wordCount f_works f_procedure f_high (nI (zm_e d i 1)) (nI p) (zx_a d) (zx_u uo) f_outcomeThen f_calls f_state f_last (nI (zm_st uo st)) a_termKind a_termA a_termB a_termNumber a_registersIn a_termStack a_kind a_register a_number a_partA a_partB a_testX a_testY a_size a_stack a_code a_first a_second a_codeX a_codeY a_partner a_other a_begin a_end a_word a_wordNumber a_constant a_folded a_work a_workOn a_openAt a_middleAt a_placeX a_placeY a_todo a_value a_held a_operand a_callAt a_callIn)
    (h : ∀ op : Nat → Int32, post (f_terms, f_termHeight, f_made, f_height, f_compiled, f_codeSize, f_wordCount, f_works, f_procedure, f_high1, f_at1, f_inside1, f_ahead1, f_undoing1, f_out1, f_calls1, f_state, f_last, nI (zm_st uo st), a_termKind, a_termA, a_termB, a_termNumber, a_registersIn, a_termStack, a_kind, a_register, a_number, a_partA, a_partB, a_testX, a_testY, a_size, a_stack, a_code, a_first, a_second, a_codeX, a_codeY, a_partner, a_other, a_begin, a_end, a_word, a_wordNumber, a_constant, a_folded, a_work, a_workOn, a_openAt, a_middleAt, a_placeX, a_placeY, a_todo, a_value1, a_held1, op, a_callAt1, a_callIn1)) :
    wpX_step post (f_terms, f_termHeight, f_made, f_height, f_compiled, f_codeSize, f_wordCount, f_works, f_procedure, f_high, nI (zm_e d i 1), nI p, zx_a d, zx_u uo, f_outcomeThen, f_calls, f_state, f_last, nI st, a_termKind, a_termA, a_termB, a_termNumber, a_registersIn, a_termStack, a_kind, a_register, a_number, a_partA, a_partB, a_testX, a_testY, a_size, a_stack, a_code, a_first, a_second, a_codeX, a_codeY, a_partner, a_other, a_begin, a_end, a_word, a_wordNumber, a_constant, a_folded, a_work, a_workOn, a_openAt, a_middleAt, a_placeX, a_placeY, a_todo, a_value, a_held, a_operand, a_callAt, a_callIn) := by
  obtain ⟨h16, h24, hS, hT, h200, hbeg, hend⟩ := hE.2 p hp
  refine zx_in hE hp h1 h2 ?_
  unfold wX_step_60
  refine And.intro (vp_in_nI (by omega) (by omega)) ?_
  rw [zn_c (by omega : i < 2 ^ 31), hc]
  refine br_f (nI_ge (b := 10) (by omega) (by omega)) ?_
  unfold wpX_simpleStep
  refine And.intro (vp_in_nI (by omega) (by omega)) ?_
  rw [zn_c (by omega : i < 2 ^ 31), hc]
  refine nm_e ?_
  cases uo with
  | none =>
    rw [zm_st_n] at K h
    have := hu rfl
    rw [zx_u_n] at K ⊢
    refine br_t rfl (br_f (zn_ne (b := 300) (by omega) (by omega) (by omega)) (nm_r (nI_1 st) ?_))
    exact K _ h
  | some o =>
    rw [zm_st_s] at K h
    rw [zx_u_s] at K ⊢
    refine br_f (by decide) ?_
    exact K _ h
theorem zx_tir {post : SX → Prop} {p i k : Nat} {d : Bool} (hE : zx_env a_begin a_end wc S T nS nT bg ln) (hp : p < 3) (h1 : bg p ≤ i) (h2 : i < bg p + ln p)
    (hc : a_code i = nI k) (hk : k ≤ 9) (h : post (f_terms, f_termHeight, f_made, f_height, f_compiled, f_codeSize, f_wordCount, f_works, f_procedure, f_high, nI (zm_e d i 1), nI p, zx_a (!d), 1, 2, f_calls, f_state, f_last, nI 300, a_termKind, a_termA, a_termB, a_termNumber, a_registersIn, a_termStack, a_kind, a_register, a_number, a_partA, a_partB, a_testX, a_testY, a_size, a_stack, a_code, a_first, a_second, a_codeX, a_codeY, a_partner, a_other, a_begin, a_end, a_word, a_wordNumber, a_constant, a_folded, a_work, a_workOn, a_openAt, a_middleAt, a_placeX, a_placeY, a_todo, a_value, a_held, a_operand, a_callAt, a_callIn)) :
    wpX_step post (f_terms, f_termHeight, f_made, f_height, f_compiled, f_codeSize, f_wordCount, f_works, f_procedure, f_high, nI (zm_e d i 1), nI p, zx_a d, 0, f_outcomeThen, f_calls, f_state, f_last, nI 300, a_termKind, a_termA, a_termB, a_termNumber, a_registersIn, a_termStack, a_kind, a_register, a_number, a_partA, a_partB, a_testX, a_testY, a_size, a_stack, a_code, a_first, a_second, a_codeX, a_codeY, a_partner, a_other, a_begin, a_end, a_word, a_wordNumber, a_constant, a_folded, a_work, a_workOn, a_openAt, a_middleAt, a_placeX, a_placeY, a_todo, a_value, a_held, a_operand, a_callAt, a_callIn) := by
  obtain ⟨h16, h24, hS, hT, h200, hbeg, hend⟩ := hE.2 p hp
  refine zx_in hE hp h1 h2 ?_
  unfold wX_step_60
  refine And.intro (vp_in_nI (by omega) (by omega)) ?_
  rw [zn_c (by omega : i < 2 ^ 31), hc]
  refine br_f (nI_ge (b := 10) (by omega) (by omega)) ?_
  unfold wpX_simpleStep
  refine And.intro (vp_in_nI (by omega) (by omega)) ?_
  rw [zn_c (by omega : i < 2 ^ 31), hc]
  exact nm_e (br_t rfl (br_t rfl (zx_turn h)))
theorem zx_exch {Q : SX → Prop} {r n : Nat} (hr : r < 6) (hn : n < 6) (h : Q (f_terms, f_termHeight, f_made, f_height, f_compiled, f_codeSize, f_wordCount, f_works, f_procedure, f_high, f_at, f_inside, f_ahead, f_undoing, f_outcomeThen, f_calls, f_state, f_last, f_stepCount, a_termKind, a_termA, a_termB, a_termNumber, a_registersIn, a_termStack, a_kind, a_register, a_number, a_partA, a_partB, a_testX, a_testY, a_size, a_stack, a_code, a_first, a_second, a_codeX, a_codeY, a_partner, a_other, a_begin, a_end, a_word, a_wordNumber, a_constant, a_folded, a_work, a_workOn, a_openAt, a_middleAt, a_placeX, a_placeY, a_todo, upd (upd a_value r (a_value n)) n (a_value r), a_held, a_operand, a_callAt, a_callIn)) : wpX_exchange Q (f_terms, f_termHeight, f_made, f_height, f_compiled, f_codeSize, f_wordCount, f_works, f_procedure, f_high, f_at, f_inside, f_ahead, f_undoing, f_outcomeThen, f_calls, f_state, f_last, f_stepCount, a_termKind, a_termA, a_termB, a_termNumber, a_registersIn, a_termStack, a_kind, a_register, a_number, a_partA, a_partB, a_testX, a_testY, a_size, a_stack, a_code, a_first, a_second, a_codeX, a_codeY, a_partner, a_other, a_begin, a_end, a_word, a_wordNumber, a_constant, a_folded, a_work, a_workOn, a_openAt, a_middleAt, a_placeX, a_placeY, a_todo, a_value, a_held, a_operand, a_callAt, a_callIn) (nI r) (nI n) := by
  unfold wpX_exchange
  dsimp only
  rw [zn_c (by omega : r < 2 ^ 31), zn_c (by omega : n < 2 ^ 31)]
  exact And.intro (vp_in_nI hr (by omega)) (nm_e (And.intro (vp_in_nI hn (by omega)) (And.intro (vp_in_nI hr (by omega)) (nm_e (And.intro (vp_in_nI hn (by omega)) (nm_e h))))))
theorem zx_sto {Q : SX → Prop} {r i k : Nat} {d : Bool} (hr : r < 6) (hk : k < 12)
    (h : Q (f_terms, f_termHeight, f_made, f_height, f_compiled, f_codeSize, f_wordCount, f_works, f_procedure, nI (k + 1), nI (zm_x d i 1), f_inside, zx_a d, f_undoing, f_outcomeThen, f_calls, f_state, f_last, f_stepCount, a_termKind, a_termA, a_termB, a_termNumber, a_registersIn, a_termStack, a_kind, a_register, a_number, a_partA, a_partB, a_testX, a_testY, a_size, a_stack, a_code, a_first, a_second, a_codeX, a_codeY, a_partner, a_other, a_begin, a_end, a_word, a_wordNumber, a_constant, a_folded, a_work, a_workOn, a_openAt, a_middleAt, a_placeX, a_placeY, a_todo, upd a_value r 0, upd a_held k (a_value r), a_operand, a_callAt, a_callIn)) : wpX_store Q (f_terms, f_termHeight, f_made, f_height, f_compiled, f_codeSize, f_wordCount, f_works, f_procedure, nI k, f_at, f_inside, zx_a d, f_undoing, f_outcomeThen, f_calls, f_state, f_last, f_stepCount, a_termKind, a_termA, a_termB, a_termNumber, a_registersIn, a_termStack, a_kind, a_register, a_number, a_partA, a_partB, a_testX, a_testY, a_size, a_stack, a_code, a_first, a_second, a_codeX, a_codeY, a_partner, a_other, a_begin, a_end, a_word, a_wordNumber, a_constant, a_folded, a_work, a_workOn, a_openAt, a_middleAt, a_placeX, a_placeY, a_todo, a_value, a_held, a_operand, a_callAt, a_callIn) (nI r) (nI i) := by
  unfold wpX_store
  dsimp only
  rw [zn_c (by omega : r < 2 ^ 31), zn_c (by omega : k < 2 ^ 31)]
  exact br_f (zn_ne (b := 12) (by omega) (by omega) (by omega)) (And.intro (vp_in_nI hr (by omega)) (And.intro (vp_in_nI hk (by omega)) (nm_e (nm_r (nI_1 k) (And.intro (vp_in_nI hr (by omega)) (nm_e (zx_pass h)))))))
theorem zx_stoF {Q : SX → Prop} {r i : Nat} {d : Bool} (h : Q (f_terms, f_termHeight, f_made, f_height, f_compiled, f_codeSize, f_wordCount, f_works, f_procedure, nI 12, f_at, f_inside, zx_a (!d), 1, 1, f_calls, f_state, f_last, f_stepCount, a_termKind, a_termA, a_termB, a_termNumber, a_registersIn, a_termStack, a_kind, a_register, a_number, a_partA, a_partB, a_testX, a_testY, a_size, a_stack, a_code, a_first, a_second, a_codeX, a_codeY, a_partner, a_other, a_begin, a_end, a_word, a_wordNumber, a_constant, a_folded, a_work, a_workOn, a_openAt, a_middleAt, a_placeX, a_placeY, a_todo, a_value, a_held, a_operand, a_callAt, a_callIn)) : wpX_store Q (f_terms, f_termHeight, f_made, f_height, f_compiled, f_codeSize, f_wordCount, f_works, f_procedure, nI 12, f_at, f_inside, zx_a d, f_undoing, f_outcomeThen, f_calls, f_state, f_last, f_stepCount, a_termKind, a_termA, a_termB, a_termNumber, a_registersIn, a_termStack, a_kind, a_register, a_number, a_partA, a_partB, a_testX, a_testY, a_size, a_stack, a_code, a_first, a_second, a_codeX, a_codeY, a_partner, a_other, a_begin, a_end, a_word, a_wordNumber, a_constant, a_folded, a_work, a_workOn, a_openAt, a_middleAt, a_placeX, a_placeY, a_todo, a_value, a_held, a_operand, a_callAt, a_callIn) (nI r) (nI i) := by
  unfold wpX_store
  dsimp only
  exact br_t rfl (zx_turn h)
theorem zx_fet {Q : SX → Prop} {r i k : Nat} {d : Bool} (hr : r < 6) (hk : k < 12) (hz : a_value r = 0)
    (h : Q (f_terms, f_termHeight, f_made, f_height, f_compiled, f_codeSize, f_wordCount, f_works, f_procedure, nI k, nI (zm_x d i 1), f_inside, zx_a d, f_undoing, f_outcomeThen, f_calls, f_state, f_last, f_stepCount, a_termKind, a_termA, a_termB, a_termNumber, a_registersIn, a_termStack, a_kind, a_register, a_number, a_partA, a_partB, a_testX, a_testY, a_size, a_stack, a_code, a_first, a_second, a_codeX, a_codeY, a_partner, a_other, a_begin, a_end, a_word, a_wordNumber, a_constant, a_folded, a_work, a_workOn, a_openAt, a_middleAt, a_placeX, a_placeY, a_todo, upd a_value r (a_held k), a_held, a_operand, a_callAt, a_callIn)) : wpX_fetch Q (f_terms, f_termHeight, f_made, f_height, f_compiled, f_codeSize, f_wordCount, f_works, f_procedure, nI (k + 1), f_at, f_inside, zx_a d, f_undoing, f_outcomeThen, f_calls, f_state, f_last, f_stepCount, a_termKind, a_termA, a_termB, a_termNumber, a_registersIn, a_termStack, a_kind, a_register, a_number, a_partA, a_partB, a_testX, a_testY, a_size, a_stack, a_code, a_first, a_second, a_codeX, a_codeY, a_partner, a_other, a_begin, a_end, a_word, a_wordNumber, a_constant, a_folded, a_work, a_workOn, a_openAt, a_middleAt, a_placeX, a_placeY, a_todo, a_value, a_held, a_operand, a_callAt, a_callIn) (nI r) (nI i) := by
  unfold wpX_fetch
  dsimp only
  rw [zn_c (by omega : r < 2 ^ 31), hz]
  refine br_f (zn_ne (b := 0) (by omega) (by omega) (by omega)) (And.intro (vp_in_nI hr (by omega)) (br_t rfl (nm_r (nI_pred k) ?_)))
  rw [zn_c (by omega : k < 2 ^ 31)]
  exact And.intro (vp_in_nI hk (by omega)) (And.intro (vp_in_nI hr (by omega)) (nm_e (zx_pass h)))
theorem zx_fetF {Q : SX → Prop} {r i k : Nat} {d : Bool} (hr : r < 6) (hk : k ≤ 12) (hz : k = 0 ∨ ¬ a_value r = 0)
    (h : Q (f_terms, f_termHeight, f_made, f_height, f_compiled, f_codeSize, f_wordCount, f_works, f_procedure, nI k, f_at, f_inside, zx_a (!d), 1, 1, f_calls, f_state, f_last, f_stepCount, a_termKind, a_termA, a_termB, a_termNumber, a_registersIn, a_termStack, a_kind, a_register, a_number, a_partA, a_partB, a_testX, a_testY, a_size, a_stack, a_code, a_first, a_second, a_codeX, a_codeY, a_partner, a_other, a_begin, a_end, a_word, a_wordNumber, a_constant, a_folded, a_work, a_workOn, a_openAt, a_middleAt, a_placeX, a_placeY, a_todo, a_value, a_held, a_operand, a_callAt, a_callIn)) : wpX_fetch Q (f_terms, f_termHeight, f_made, f_height, f_compiled, f_codeSize, f_wordCount, f_works, f_procedure, nI k, f_at, f_inside, zx_a d, f_undoing, f_outcomeThen, f_calls, f_state, f_last, f_stepCount, a_termKind, a_termA, a_termB, a_termNumber, a_registersIn, a_termStack, a_kind, a_register, a_number, a_partA, a_partB, a_testX, a_testY, a_size, a_stack, a_code, a_first, a_second, a_codeX, a_codeY, a_partner, a_other, a_begin, a_end, a_word, a_wordNumber, a_constant, a_folded, a_work, a_workOn, a_openAt, a_middleAt, a_placeX, a_placeY, a_todo, a_value, a_held, a_operand, a_callAt, a_callIn) (nI r) (nI i) := by
  unfold wpX_fetch
  dsimp only
  rw [zn_c (by omega : r < 2 ^ 31)]
  by_cases h0 : k = 0
  · subst h0
    refine br_t rfl ?_
    unfold wX_fetch_16
    exact zx_turn h
  · refine br_f (zn_ne (b := 0) (by omega) (by omega) h0) (And.intro (vp_in_nI hr (by omega)) (br_f (hz.resolve_left h0) ?_))
    unfold wX_fetch_16
    exact zx_turn h
theorem zx_k0 {Q : SX → Prop} {i : Nat} {d : Bool} (h : Q (f_terms, f_termHeight, f_made, f_height, f_compiled, f_codeSize, f_wordCount, f_works, f_procedure, f_high, nI (zm_x d i 1), f_inside, zx_a d, f_undoing, f_outcomeThen, f_calls, f_state, f_last, f_stepCount, a_termKind, a_termA, a_termB, a_termNumber, a_registersIn, a_termStack, a_kind, a_register, a_number, a_partA, a_partB, a_testX, a_testY, a_size, a_stack, a_code, a_first, a_second, a_codeX, a_codeY, a_partner, a_other, a_begin, a_end, a_word, a_wordNumber, a_constant, a_folded, a_work, a_workOn, a_openAt, a_middleAt, a_placeX, a_placeY, a_todo, a_value, a_held, a_operand, a_callAt, a_callIn)) : wX_simpleStep_40 Q (nI i) (nI 0) f_terms f_termHeight f_made f_height f_compiled f_codeSize f_wordCount f_works f_procedure f_high f_at f_inside (zx_a d) f_undoing f_outcomeThen f_calls f_state f_last f_stepCount a_termKind a_termA a_termB a_termNumber a_registersIn a_termStack a_kind a_register a_number a_partA a_partB a_testX a_testY a_size a_stack a_code a_first a_second a_codeX a_codeY a_partner a_other a_begin a_end a_word a_wordNumber a_constant a_folded a_work a_workOn a_openAt a_middleAt a_placeX a_placeY a_todo a_value a_held a_operand a_callAt a_callIn := by
  unfold wX_simpleStep_40
  exact br_t rfl (zx_pass h)
theorem zx_k1 {Q : SX → Prop} {i r n : Nat} {d : Bool} (hi : i < 200) (hr : a_first i = nI r) (hn : a_second i = nI n) (hr6 : r < 6) (hn6 : n < 6)
    (h : Q (f_terms, f_termHeight, f_made, f_height, f_compiled, f_codeSize, f_wordCount, f_works, f_procedure, f_high, nI (zm_x d i 1), f_inside, zx_a d, f_undoing, f_outcomeThen, f_calls, f_state, f_last, f_stepCount, a_termKind, a_termA, a_termB, a_termNumber, a_registersIn, a_termStack, a_kind, a_register, a_number, a_partA, a_partB, a_testX, a_testY, a_size, a_stack, a_code, a_first, a_second, a_codeX, a_codeY, a_partner, a_other, a_begin, a_end, a_word, a_wordNumber, a_constant, a_folded, a_work, a_workOn, a_openAt, a_middleAt, a_placeX, a_placeY, a_todo, upd (upd a_value r (a_value n)) n (a_value r), a_held, a_operand, a_callAt, a_callIn)) : wX_simpleStep_40 Q (nI i) (nI 1) f_terms f_termHeight f_made f_height f_compiled f_codeSize f_wordCount f_works f_procedure f_high f_at f_inside (zx_a d) f_undoing f_outcomeThen f_calls f_state f_last f_stepCount a_termKind a_termA a_termB a_termNumber a_registersIn a_termStack a_kind a_register a_number a_partA a_partB a_testX a_testY a_size a_stack a_code a_first a_second a_codeX a_codeY a_partner a_other a_begin a_end a_word a_wordNumber a_constant a_folded a_work a_workOn a_openAt a_middleAt a_placeX a_placeY a_todo a_value a_held a_operand a_callAt a_callIn := by
  unfold wX_simpleStep_40
  rw [zn_c (by omega : i < 2 ^ 31), hr, hn]
  refine br_f (by decide) (br_t rfl (And.intro (vp_in_nI hi (by omega)) (And.intro (vp_in_nI hi (by omega)) ?_)))
  refine zx_exch hr6 hn6 ?_
  exact zx_pass h
theorem zx_kst {Q : SX → Prop} {i r k : Nat} {d : Bool} (hi : i < 200) (hr : a_first i = nI r) (hkd : (k = 2 ∧ d = false) ∨ (k = 3 ∧ d = true))
    (K : ∀ R : SX → Prop, R (f_terms, f_termHeight, f_made, f_height, f_compiled, f_codeSize, f_wordCount, f_works, f_procedure, f_high1, f_at1, f_inside1, f_ahead1, f_undoing1, f_out1, f_calls1, f_state, f_last, f_stepCount, a_termKind, a_termA, a_termB, a_termNumber, a_registersIn, a_termStack, a_kind, a_register, a_number, a_partA, a_partB, a_testX, a_testY, a_size, a_stack, a_code, a_first, a_second, a_codeX, a_codeY, a_partner, a_other, a_begin, a_end, a_word, a_wordNumber, a_constant, a_folded, a_work, a_workOn, a_openAt, a_middleAt, a_placeX, a_placeY, a_todo, a_value1, a_held1, a_operand, a_callAt1, a_callIn1) → wpX_store R (f_terms, f_termHeight, f_made, f_height, f_compiled, f_codeSize, f_wordCount, f_works, f_procedure, f_high, f_at, f_inside, zx_a d, f_undoing, f_outcomeThen, f_calls, f_state, f_last, f_stepCount, a_termKind, a_termA, a_termB, a_termNumber, a_registersIn, a_termStack, a_kind, a_register, a_number, a_partA, a_partB, a_testX, a_testY, a_size, a_stack, a_code, a_first, a_second, a_codeX, a_codeY, a_partner, a_other, a_begin, a_end, a_word, a_wordNumber, a_constant, a_folded, a_work, a_workOn, a_openAt, a_middleAt, a_placeX, a_placeY, a_todo, a_value, a_held, a_operand, a_callAt, a_callIn) (nI r) (nI i)) (h : Q (f_terms, f_termHeight, f_made, f_height, f_compiled, f_codeSize, f_wordCount, f_works, f_procedure, f_high1, f_at1, f_inside1, f_ahead1, f_undoing1, f_out1, f_calls1, f_state, f_last, f_stepCount, a_termKind, a_termA, a_termB, a_termNumber, a_registersIn, a_termStack, a_kind, a_register, a_number, a_partA, a_partB, a_testX, a_testY, a_size, a_stack, a_code, a_first, a_second, a_codeX, a_codeY, a_partner, a_other, a_begin, a_end, a_word, a_wordNumber, a_constant, a_folded, a_work, a_workOn, a_openAt, a_middleAt, a_placeX, a_placeY, a_todo, a_value1, a_held1, a_operand, a_callAt1, a_callIn1)) : wX_simpleStep_40 Q (nI i) (nI k) f_terms f_termHeight f_made f_height f_compiled f_codeSize f_wordCount f_works f_procedure f_high f_at f_inside (zx_a d) f_undoing f_outcomeThen f_calls f_state f_last f_stepCount a_termKind a_termA a_termB a_termNumber a_registersIn a_termStack a_kind a_register a_number a_partA a_partB a_testX a_testY a_size a_stack a_code a_first a_second a_codeX a_codeY a_partner a_other a_begin a_end a_word a_wordNumber a_constant a_folded a_work a_workOn a_openAt a_middleAt a_placeX a_placeY a_todo a_value a_held a_operand a_callAt a_callIn := by
  unfold wX_simpleStep_40
  rcases hkd with ⟨rfl, rfl⟩ | ⟨rfl, rfl⟩
  · refine br_f (by decide) (br_f (by decide) (br_t rfl ?_))
    unfold wX_simpleStep_91 wX_simpleStep_101
    rw [zn_c (by omega : i < 2 ^ 31), hr]
    exact br_t rfl (br_t rfl (And.intro (vp_in_nI hi (by omega)) (K _ h)))
  · refine br_f (by decide) (br_f (by decide) (br_f (by decide) (br_t rfl ?_)))
    unfold wX_simpleStep_91 wX_simpleStep_101
    rw [zn_c (by omega : i < 2 ^ 31), hr]
    exact br_f (by decide) (br_t rfl (And.intro (vp_in_nI hi (by omega)) (K _ h)))
theorem zx_kft {Q : SX → Prop} {i r k : Nat} {d : Bool} (hi : i < 200) (hr : a_first i = nI r) (hkd : (k = 2 ∧ d = true) ∨ (k = 3 ∧ d = false))
    (K : ∀ R : SX → Prop, R (f_terms, f_termHeight, f_made, f_height, f_compiled, f_codeSize, f_wordCount, f_works, f_procedure, f_high1, f_at1, f_inside1, f_ahead1, f_undoing1, f_out1, f_calls1, f_state, f_last, f_stepCount, a_termKind, a_termA, a_termB, a_termNumber, a_registersIn, a_termStack, a_kind, a_register, a_number, a_partA, a_partB, a_testX, a_testY, a_size, a_stack, a_code, a_first, a_second, a_codeX, a_codeY, a_partner, a_other, a_begin, a_end, a_word, a_wordNumber, a_constant, a_folded, a_work, a_workOn, a_openAt, a_middleAt, a_placeX, a_placeY, a_todo, a_value1, a_held1, a_operand, a_callAt1, a_callIn1) → wpX_fetch R (f_terms, f_termHeight, f_made, f_height, f_compiled, f_codeSize, f_wordCount, f_works, f_procedure, f_high, f_at, f_inside, zx_a d, f_undoing, f_outcomeThen, f_calls, f_state, f_last, f_stepCount, a_termKind, a_termA, a_termB, a_termNumber, a_registersIn, a_termStack, a_kind, a_register, a_number, a_partA, a_partB, a_testX, a_testY, a_size, a_stack, a_code, a_first, a_second, a_codeX, a_codeY, a_partner, a_other, a_begin, a_end, a_word, a_wordNumber, a_constant, a_folded, a_work, a_workOn, a_openAt, a_middleAt, a_placeX, a_placeY, a_todo, a_value, a_held, a_operand, a_callAt, a_callIn) (nI r) (nI i)) (h : Q (f_terms, f_termHeight, f_made, f_height, f_compiled, f_codeSize, f_wordCount, f_works, f_procedure, f_high1, f_at1, f_inside1, f_ahead1, f_undoing1, f_out1, f_calls1, f_state, f_last, f_stepCount, a_termKind, a_termA, a_termB, a_termNumber, a_registersIn, a_termStack, a_kind, a_register, a_number, a_partA, a_partB, a_testX, a_testY, a_size, a_stack, a_code, a_first, a_second, a_codeX, a_codeY, a_partner, a_other, a_begin, a_end, a_word, a_wordNumber, a_constant, a_folded, a_work, a_workOn, a_openAt, a_middleAt, a_placeX, a_placeY, a_todo, a_value1, a_held1, a_operand, a_callAt1, a_callIn1)) : wX_simpleStep_40 Q (nI i) (nI k) f_terms f_termHeight f_made f_height f_compiled f_codeSize f_wordCount f_works f_procedure f_high f_at f_inside (zx_a d) f_undoing f_outcomeThen f_calls f_state f_last f_stepCount a_termKind a_termA a_termB a_termNumber a_registersIn a_termStack a_kind a_register a_number a_partA a_partB a_testX a_testY a_size a_stack a_code a_first a_second a_codeX a_codeY a_partner a_other a_begin a_end a_word a_wordNumber a_constant a_folded a_work a_workOn a_openAt a_middleAt a_placeX a_placeY a_todo a_value a_held a_operand a_callAt a_callIn := by
  unfold wX_simpleStep_40
  rcases hkd with ⟨rfl, rfl⟩ | ⟨rfl, rfl⟩
  · refine br_f (by decide) (br_f (by decide) (br_t rfl ?_))
    unfold wX_simpleStep_91 wX_simpleStep_101
    rw [zn_c (by omega : i < 2 ^ 31), hr]
    exact br_t rfl (br_f (by decide) (And.intro (vp_in_nI hi (by omega)) (K _ h)))
  · refine br_f (by decide) (br_f (by decide) (br_f (by decide) (br_t rfl ?_)))
    unfold wX_simpleStep_91 wX_simpleStep_101
    rw [zn_c (by omega : i < 2 ^ 31), hr]
    exact br_f (by decide) (br_f (by decide) (And.intro (vp_in_nI hi (by omega)) (K _ h)))
theorem zx_call64 {Q : SX → Prop} {n : Nat} {d : Bool} (hE : zx_env a_begin a_end wc S T nS nT bg ln) (hn : n < 3)
    (h : Q (f_terms, f_termHeight, f_made, f_height, f_compiled, f_codeSize, f_wordCount, f_works, f_procedure, f_high, nI (zm_e d (bg n) (ln n)), nI n, zx_a d, f_undoing, f_outcomeThen, f_calls, f_state, f_last, f_stepCount, a_termKind, a_termA, a_termB, a_termNumber, a_registersIn, a_termStack, a_kind, a_register, a_number, a_partA, a_partB, a_testX, a_testY, a_size, a_stack, a_code, a_first, a_second, a_codeX, a_codeY, a_partner, a_other, a_begin, a_end, a_word, a_wordNumber, a_constant, a_folded, a_work, a_workOn, a_openAt, a_middleAt, a_placeX, a_placeY, a_todo, a_value, a_held, a_operand, a_callAt, a_callIn)) : wX_call_64 Q (nI n) (zx_a d) f_terms f_termHeight f_made f_height f_compiled f_codeSize f_wordCount f_works f_procedure f_high f_at f_inside f_ahead f_undoing f_outcomeThen f_calls f_state f_last f_stepCount a_termKind a_termA a_termB a_termNumber a_registersIn a_termStack a_kind a_register a_number a_partA a_partB a_testX a_testY a_size a_stack a_code a_first a_second a_codeX a_codeY a_partner a_other a_begin a_end a_word a_wordNumber a_constant a_folded a_work a_workOn a_openAt a_middleAt a_placeX a_placeY a_todo a_value a_held a_operand a_callAt a_callIn := by
  obtain ⟨h16, h24, hS, hT, h200, hbeg, hend⟩ := hE.2 n hn
  unfold wX_call_64
  rw [zn_c (by omega : n < 2 ^ 31), hbeg, hend]
  refine And.intro (zx_nb d) (And.intro (zx_fb d) ?_)
  cases d with
  | false => exact br_f (by decide) (And.intro (vp_in_nI hn (by omega)) (nm_e h))
  | true => exact br_t rfl (And.intro (vp_in_nI hn (by omega)) (nm_e h))
theorem zx_call {Q : SX → Prop} {n k c i p : Nat} {d : Bool} (hE : zx_env a_begin a_end wc S T nS nT bg ln) (hn : n < 3) (hp : p < 3) (hi : i < 200) (hc : c < 6) (hk : k = 4 ∨ k = 5)
    (h : Q (f_terms, f_termHeight, f_made, f_height, f_compiled, f_codeSize, f_wordCount, f_works, f_procedure, f_high, nI (zm_e (zm_dd k d) (bg n) (ln n)), nI n, zx_a (zm_dd k d), f_undoing, f_outcomeThen, nI (c + 1), f_state, f_last, f_stepCount, a_termKind, a_termA, a_termB, a_termNumber, a_registersIn, a_termStack, a_kind, a_register, a_number, a_partA, a_partB, a_testX, a_testY, a_size, a_stack, a_code, a_first, a_second, a_codeX, a_codeY, a_partner, a_other, a_begin, a_end, a_word, a_wordNumber, a_constant, a_folded, a_work, a_workOn, a_openAt, a_middleAt, a_placeX, a_placeY, a_todo, a_value, a_held, a_operand, upd a_callAt c (nI i), upd a_callIn c (nI p))) :
    wpX_call Q (f_terms, f_termHeight, f_made, f_height, f_compiled, f_codeSize, f_wordCount, f_works, f_procedure, f_high, f_at, nI p, zx_a d, f_undoing, f_outcomeThen, nI c, f_state, f_last, f_stepCount, a_termKind, a_termA, a_termB, a_termNumber, a_registersIn, a_termStack, a_kind, a_register, a_number, a_partA, a_partB, a_testX, a_testY, a_size, a_stack, a_code, a_first, a_second, a_codeX, a_codeY, a_partner, a_other, a_begin, a_end, a_word, a_wordNumber, a_constant, a_folded, a_work, a_workOn, a_openAt, a_middleAt, a_placeX, a_placeY, a_todo, a_value, a_held, a_operand, a_callAt, a_callIn) (nI n) (if k = 5 then 1 else 0) (nI i) := by
  unfold wpX_call
  dsimp only
  rw [zn_c (by omega : c < 2 ^ 31), zn_vss (by omega : i < 32768), zn_vbb (by omega : p < 128)]
  refine br_f (zn_ne (b := 6) (by omega) (by omega) (by omega)) (And.intro (vp_in_nI hc (by omega)) (nm_e (And.intro (vp_in_nI hc (by omega)) (nm_e (nm_r (nI_1 c) ?_)))))
  rcases hk with rfl | rfl
  · cases d with
    | false => exact br_f (by decide) (zx_call64 (d := false) hE hn h)
    | true => exact br_t rfl (zx_call64 (d := true) hE hn h)
  · cases d with
    | false => exact br_t rfl (zx_call64 (d := true) hE hn h)
    | true => exact br_f (by decide) (zx_call64 (d := false) hE hn h)
theorem zx_deep {Q : SX → Prop} {n i : Nat} {t : Int32} {d : Bool} (h : Q (f_terms, f_termHeight, f_made, f_height, f_compiled, f_codeSize, f_wordCount, f_works, f_procedure, f_high, f_at, f_inside, zx_a (!d), 1, 3, nI 6, f_state, f_last, f_stepCount, a_termKind, a_termA, a_termB, a_termNumber, a_registersIn, a_termStack, a_kind, a_register, a_number, a_partA, a_partB, a_testX, a_testY, a_size, a_stack, a_code, a_first, a_second, a_codeX, a_codeY, a_partner, a_other, a_begin, a_end, a_word, a_wordNumber, a_constant, a_folded, a_work, a_workOn, a_openAt, a_middleAt, a_placeX, a_placeY, a_todo, a_value, a_held, a_operand, a_callAt, a_callIn)) :
    wpX_call Q (f_terms, f_termHeight, f_made, f_height, f_compiled, f_codeSize, f_wordCount, f_works, f_procedure, f_high, f_at, f_inside, zx_a d, f_undoing, f_outcomeThen, nI 6, f_state, f_last, f_stepCount, a_termKind, a_termA, a_termB, a_termNumber, a_registersIn, a_termStack, a_kind, a_register, a_number, a_partA, a_partB, a_testX, a_testY, a_size, a_stack, a_code, a_first, a_second, a_codeX, a_codeY, a_partner, a_other, a_begin, a_end, a_word, a_wordNumber, a_constant, a_folded, a_work, a_workOn, a_openAt, a_middleAt, a_placeX, a_placeY, a_todo, a_value, a_held, a_operand, a_callAt, a_callIn) (nI n) t (nI i) := by
  unfold wpX_call
  dsimp only
  exact br_t rfl (zx_turn h)
theorem zx_kcl {Q : SX → Prop} {i n k : Nat} (hi : i < 200) (hn : a_second i = nI n) (hk : k = 4 ∨ k = 5)
    (K : ∀ R : SX → Prop, R (f_terms, f_termHeight, f_made, f_height, f_compiled, f_codeSize, f_wordCount, f_works, f_procedure, f_high1, f_at1, f_inside1, f_ahead1, f_undoing1, f_out1, f_calls1, f_state, f_last, f_stepCount, a_termKind, a_termA, a_termB, a_termNumber, a_registersIn, a_termStack, a_kind, a_register, a_number, a_partA, a_partB, a_testX, a_testY, a_size, a_stack, a_code, a_first, a_second, a_codeX, a_codeY, a_partner, a_other, a_begin, a_end, a_word, a_wordNumber, a_constant, a_folded, a_work, a_workOn, a_openAt, a_middleAt, a_placeX, a_placeY, a_todo, a_value1, a_held1, a_operand, a_callAt1, a_callIn1) → wpX_call R (f_terms, f_termHeight, f_made, f_height, f_compiled, f_codeSize, f_wordCount, f_works, f_procedure, f_high, f_at, f_inside, f_ahead, f_undoing, f_outcomeThen, f_calls, f_state, f_last, f_stepCount, a_termKind, a_termA, a_termB, a_termNumber, a_registersIn, a_termStack, a_kind, a_register, a_number, a_partA, a_partB, a_testX, a_testY, a_size, a_stack, a_code, a_first, a_second, a_codeX, a_codeY, a_partner, a_other, a_begin, a_end, a_word, a_wordNumber, a_constant, a_folded, a_work, a_workOn, a_openAt, a_middleAt, a_placeX, a_placeY, a_todo, a_value, a_held, a_operand, a_callAt, a_callIn) (nI n) (if k = 5 then 1 else 0) (nI i)) (h : Q (f_terms, f_termHeight, f_made, f_height, f_compiled, f_codeSize, f_wordCount, f_works, f_procedure, f_high1, f_at1, f_inside1, f_ahead1, f_undoing1, f_out1, f_calls1, f_state, f_last, f_stepCount, a_termKind, a_termA, a_termB, a_termNumber, a_registersIn, a_termStack, a_kind, a_register, a_number, a_partA, a_partB, a_testX, a_testY, a_size, a_stack, a_code, a_first, a_second, a_codeX, a_codeY, a_partner, a_other, a_begin, a_end, a_word, a_wordNumber, a_constant, a_folded, a_work, a_workOn, a_openAt, a_middleAt, a_placeX, a_placeY, a_todo, a_value1, a_held1, a_operand, a_callAt1, a_callIn1)) : wX_simpleStep_40 Q (nI i) (nI k) f_terms f_termHeight f_made f_height f_compiled f_codeSize f_wordCount f_works f_procedure f_high f_at f_inside f_ahead f_undoing f_outcomeThen f_calls f_state f_last f_stepCount a_termKind a_termA a_termB a_termNumber a_registersIn a_termStack a_kind a_register a_number a_partA a_partB a_testX a_testY a_size a_stack a_code a_first a_second a_codeX a_codeY a_partner a_other a_begin a_end a_word a_wordNumber a_constant a_folded a_work a_workOn a_openAt a_middleAt a_placeX a_placeY a_todo a_value a_held a_operand a_callAt a_callIn := by
  unfold wX_simpleStep_40
  rcases hk with rfl | rfl
  · refine br_f (by decide) (br_f (by decide) (br_f (by decide) (br_f (by decide) (br_t rfl ?_))))
    unfold wX_simpleStep_146 wX_simpleStep_163
    rw [zn_c (by omega : i < 2 ^ 31), hn]
    exact And.intro (vp_in_nI hi (by omega)) (br_f (by decide) (K _ h))
  · refine br_f (by decide) (br_f (by decide) (br_f (by decide) (br_f (by decide) (br_f (by decide) (br_t rfl ?_)))))
    unfold wX_simpleStep_146 wX_simpleStep_163
    rw [zn_c (by omega : i < 2 ^ 31), hn]
    exact And.intro (vp_in_nI hi (by omega)) (br_t rfl (K _ h))
theorem zx_chg {Q : SX → Prop} {k r : Nat} {d : Bool} {x : Int32} (hr : r < 6) (hk : k = 6 ∨ k = 7 ∨ k = 8)
    (h : Q (f_terms, f_termHeight, f_made, f_height, f_compiled, f_codeSize, f_wordCount, f_works, f_procedure, f_high, f_at, f_inside, zx_a d, f_undoing, f_outcomeThen, f_calls, f_state, f_last, f_stepCount, a_termKind, a_termA, a_termB, a_termNumber, a_registersIn, a_termStack, a_kind, a_register, a_number, a_partA, a_partB, a_testX, a_testY, a_size, a_stack, a_code, a_first, a_second, a_codeX, a_codeY, a_partner, a_other, a_begin, a_end, a_word, a_wordNumber, a_constant, a_folded, a_work, a_workOn, a_openAt, a_middleAt, a_placeX, a_placeY, a_todo, upd a_value r (if k = 8 then a_value r ^^^ x else if (if k = 6 then d = false else d = true) then a_value r + x else a_value r - x), a_held, a_operand, a_callAt, a_callIn)) :
    wpX_change Q (f_terms, f_termHeight, f_made, f_height, f_compiled, f_codeSize, f_wordCount, f_works, f_procedure, f_high, f_at, f_inside, zx_a d, f_undoing, f_outcomeThen, f_calls, f_state, f_last, f_stepCount, a_termKind, a_termA, a_termB, a_termNumber, a_registersIn, a_termStack, a_kind, a_register, a_number, a_partA, a_partB, a_testX, a_testY, a_size, a_stack, a_code, a_first, a_second, a_codeX, a_codeY, a_partner, a_other, a_begin, a_end, a_word, a_wordNumber, a_constant, a_folded, a_work, a_workOn, a_openAt, a_middleAt, a_placeX, a_placeY, a_todo, a_value, a_held, a_operand, a_callAt, a_callIn) (nI k) (nI r) x := by
  unfold wpX_change wX_change_39
  dsimp only
  rw [zn_c (by omega : r < 2 ^ 31)]
  rcases hk with rfl | rfl | rfl
  · refine br_f (by decide) (br_t rfl ?_)
    cases d with
    | false => exact br_t rfl (And.intro (vp_in_nI hr (by omega)) (And.intro (vp_in_nI hr (by omega)) (nm_e h)))
    | true => exact br_f (by decide) (And.intro (vp_in_nI hr (by omega)) (And.intro (vp_in_nI hr (by omega)) (nm_e h)))
  · refine br_f (by decide) (br_f (by decide) ?_)
    cases d with
    | false => exact br_f (by decide) (And.intro (vp_in_nI hr (by omega)) (And.intro (vp_in_nI hr (by omega)) (nm_e h)))
    | true => exact br_t rfl (And.intro (vp_in_nI hr (by omega)) (And.intro (vp_in_nI hr (by omega)) (nm_e h)))
  · exact br_t rfl (And.intro (vp_in_nI hr (by omega)) (And.intro (vp_in_nI hr (by omega)) (nm_e h)))
theorem zx_kup {Q : SX → Prop} {N i k r t w : Nat} {T : Nat → Nat → Nat} {ρ : Nat → Int32} {d : Bool} (ho : zt_ok T N) (hN : N ≤ 24) (ht : t < N) (hwc : wc ≤ 240) (hv : ∀ r, r < 6 → a_value r = ρ r)
    (hi : i < 200) (hr : a_first i = nI r) (hr6 : r < 6) (hw : a_codeX i = nI w) (htw : zw_test a_word a_wordNumber wc T t w) (hk : k = 6 ∨ k = 7 ∨ k = 8)
    (h : ∀ op : Nat → Int32, Q (f_terms, f_termHeight, f_made, f_height, f_compiled, f_codeSize, nI wc, f_works, f_procedure, f_high, nI (zm_x d i 1), f_inside, zx_a d, f_undoing, f_outcomeThen, f_calls, f_state, f_last, f_stepCount, a_termKind, a_termA, a_termB, a_termNumber, a_registersIn, a_termStack, a_kind, a_register, a_number, a_partA, a_partB, a_testX, a_testY, a_size, a_stack, a_code, a_first, a_second, a_codeX, a_codeY, a_partner, a_other, a_begin, a_end, a_word, a_wordNumber, a_constant, a_folded, a_work, a_workOn, a_openAt, a_middleAt, a_placeX, a_placeY, a_todo, upd a_value r (if k = 8 then a_value r ^^^ zt_val T ρ t else if (if k = 6 then d = false else d = true) then a_value r + zt_val T ρ t else a_value r - zt_val T ρ t), a_held, op, a_callAt, a_callIn)) :
    wX_simpleStep_40 Q (nI i) (nI k) f_terms f_termHeight f_made f_height f_compiled f_codeSize (nI wc) f_works f_procedure f_high f_at f_inside (zx_a d) f_undoing f_outcomeThen f_calls f_state f_last f_stepCount a_termKind a_termA a_termB a_termNumber a_registersIn a_termStack a_kind a_register a_number a_partA a_partB a_testX a_testY a_size a_stack a_code a_first a_second a_codeX a_codeY a_partner a_other a_begin a_end a_word a_wordNumber a_constant a_folded a_work a_workOn a_openAt a_middleAt a_placeX a_placeY a_todo a_value a_held a_operand a_callAt a_callIn := by
  unfold wX_simpleStep_40
  rw [zn_c (by omega : i < 2 ^ 31), hw]
  refine br_f (zn_ne (b := 0) (by omega) (by omega) (by omega)) (br_f (zn_ne (b := 1) (by omega) (by omega) (by omega)) (br_f (zn_ne (b := 2) (by omega) (by omega) (by omega)) (br_f (zn_ne (b := 3) (by omega) (by omega) (by omega))
    (br_f (zn_ne (b := 4) (by omega) (by omega) (by omega)) (br_f (zn_ne (b := 5) (by omega) (by omega) (by omega)) (And.intro (vp_in_nI hi (by omega)) ?_))))))
  refine zx_val ho hv hwc ht hN htw fun op => ?_
  dsimp only
  rw [hr]
  refine br_f (zn_ne (b := 9) (by omega) (by omega) (by omega)) (And.intro (vp_in_nI hi (by omega)) ?_)
  refine zx_chg hr6 hk ?_
  exact zx_pass (h op)
theorem zx_kch {Q : SX → Prop} {N i t w : Nat} {T : Nat → Nat → Nat} {ρ : Nat → Int32} {d : Bool} (ho : zt_ok T N) (hN : N ≤ 24) (ht : t < N) (hwc : wc ≤ 240) (hv : ∀ r, r < 6 → a_value r = ρ r)
    (hi : i < 200) (hw : a_codeX i = nI w) (htw : zw_test a_word a_wordNumber wc T t w)
    (h : ∀ op : Nat → Int32, (zt_val T ρ t = 0 → Q (f_terms, f_termHeight, f_made, f_height, f_compiled, f_codeSize, nI wc, f_works, f_procedure, f_high, f_at, f_inside, zx_a (!d), 1, 1, f_calls, f_state, f_last, f_stepCount, a_termKind, a_termA, a_termB, a_termNumber, a_registersIn, a_termStack, a_kind, a_register, a_number, a_partA, a_partB, a_testX, a_testY, a_size, a_stack, a_code, a_first, a_second, a_codeX, a_codeY, a_partner, a_other, a_begin, a_end, a_word, a_wordNumber, a_constant, a_folded, a_work, a_workOn, a_openAt, a_middleAt, a_placeX, a_placeY, a_todo, a_value, a_held, op, a_callAt, a_callIn)) ∧
      (¬ zt_val T ρ t = 0 → Q (f_terms, f_termHeight, f_made, f_height, f_compiled, f_codeSize, nI wc, f_works, f_procedure, f_high, nI (zm_x d i 1), f_inside, zx_a d, f_undoing, f_outcomeThen, f_calls, f_state, f_last, f_stepCount, a_termKind, a_termA, a_termB, a_termNumber, a_registersIn, a_termStack, a_kind, a_register, a_number, a_partA, a_partB, a_testX, a_testY, a_size, a_stack, a_code, a_first, a_second, a_codeX, a_codeY, a_partner, a_other, a_begin, a_end, a_word, a_wordNumber, a_constant, a_folded, a_work, a_workOn, a_openAt, a_middleAt, a_placeX, a_placeY, a_todo, a_value, a_held, op, a_callAt, a_callIn))) :
    wX_simpleStep_40 Q (nI i) (nI 9) f_terms f_termHeight f_made f_height f_compiled f_codeSize (nI wc) f_works f_procedure f_high f_at f_inside (zx_a d) f_undoing f_outcomeThen f_calls f_state f_last f_stepCount a_termKind a_termA a_termB a_termNumber a_registersIn a_termStack a_kind a_register a_number a_partA a_partB a_testX a_testY a_size a_stack a_code a_first a_second a_codeX a_codeY a_partner a_other a_begin a_end a_word a_wordNumber a_constant a_folded a_work a_workOn a_openAt a_middleAt a_placeX a_placeY a_todo a_value a_held a_operand a_callAt a_callIn := by
  unfold wX_simpleStep_40
  rw [zn_c (by omega : i < 2 ^ 31), hw]
  refine br_f (by decide) (br_f (by decide) (br_f (by decide) (br_f (by decide) (br_f (by decide) (br_f (by decide) (And.intro (vp_in_nI hi (by omega)) ?_))))))
  refine zx_val ho hv hwc ht hN htw fun op => ?_
  dsimp only
  refine br_t rfl (br_c (fun z => ?_) (fun z => ?_))
  · unfold wX_simpleStep_197 wpX_passIf
    exact br_t rfl (zx_turn ((h op).1 z))
  · unfold wX_simpleStep_197 wpX_passIf
    exact br_f (by decide) (zx_pass ((h op).2 z))
end
end
section
/-! ===== X's tests, one instruction each (printed by gen_tests.py) ===== -/
section
variable {f_terms f_termHeight f_made f_height f_compiled f_codeSize f_wordCount f_works f_procedure f_high f_at f_inside f_ahead f_undoing f_outcomeThen f_calls f_state f_last f_stepCount : Int32} {a_termKind a_termA a_termB a_termNumber a_registersIn a_termStack a_kind a_register a_number a_partA a_partB a_testX a_testY a_size a_stack a_code a_first a_second a_codeX a_codeY a_partner a_other a_begin a_end a_word a_wordNumber a_constant a_folded a_work a_workOn a_openAt a_middleAt a_placeX a_placeY a_todo a_value a_held a_operand a_callAt a_callIn : Nat → Int32}
theorem zx_a10t {Q : SX → Prop} {i : Nat} {z : Int32} {q : Nat} (hq : a_partner i = nI q) (hi : i < 200) (hc : a_code i = nI 10)
    (h : Q (f_terms, f_termHeight, f_made, f_height, f_compiled, f_codeSize, f_wordCount, f_works, f_procedure, f_high, nI (i + 1), f_inside, 1, f_undoing, f_outcomeThen, f_calls, f_state, f_last, f_stepCount, a_termKind, a_termA, a_termB, a_termNumber, a_registersIn, a_termStack, a_kind, a_register, a_number, a_partA, a_partB, a_testX, a_testY, a_size, a_stack, a_code, a_first, a_second, a_codeX, a_codeY, a_partner, a_other, a_begin, a_end, a_word, a_wordNumber, a_constant, a_folded, a_work, a_workOn, a_openAt, a_middleAt, a_placeX, a_placeY, a_todo, a_value, a_held, a_operand, a_callAt, a_callIn)) : wpX_testAhead Q (f_terms, f_termHeight, f_made, f_height, f_compiled, f_codeSize, f_wordCount, f_works, f_procedure, f_high, f_at, f_inside, 1, f_undoing, f_outcomeThen, f_calls, f_state, f_last, f_stepCount, a_termKind, a_termA, a_termB, a_termNumber, a_registersIn, a_termStack, a_kind, a_register, a_number, a_partA, a_partB, a_testX, a_testY, a_size, a_stack, a_code, a_first, a_second, a_codeX, a_codeY, a_partner, a_other, a_begin, a_end, a_word, a_wordNumber, a_constant, a_folded, a_work, a_workOn, a_openAt, a_middleAt, a_placeX, a_placeY, a_todo, a_value, a_held, a_operand, a_callAt, a_callIn) (nI i) 1 z := by
  unfold wpX_testAhead
  dsimp only
  rw [zn_c (by omega : i < 2 ^ 31), hc, hq]
  refine And.intro (vp_in_nI hi (by omega)) (nm_e (And.intro (vp_in_nI hi (by omega)) (nm_e ?_)))
  refine (br_t rfl ?_)
  exact br_f (by decide) (nm_r (nI_1 i) h)
theorem zx_a10f {Q : SX → Prop} {i : Nat} {z : Int32} {q : Nat} (hq : a_partner i = nI q) (hi : i < 200) (hc : a_code i = nI 10)
    (h : Q (f_terms, f_termHeight, f_made, f_height, f_compiled, f_codeSize, f_wordCount, f_works, f_procedure, f_high, nI (q + 1), f_inside, 1, f_undoing, f_outcomeThen, f_calls, f_state, f_last, f_stepCount, a_termKind, a_termA, a_termB, a_termNumber, a_registersIn, a_termStack, a_kind, a_register, a_number, a_partA, a_partB, a_testX, a_testY, a_size, a_stack, a_code, a_first, a_second, a_codeX, a_codeY, a_partner, a_other, a_begin, a_end, a_word, a_wordNumber, a_constant, a_folded, a_work, a_workOn, a_openAt, a_middleAt, a_placeX, a_placeY, a_todo, a_value, a_held, a_operand, a_callAt, a_callIn)) : wpX_testAhead Q (f_terms, f_termHeight, f_made, f_height, f_compiled, f_codeSize, f_wordCount, f_works, f_procedure, f_high, f_at, f_inside, 1, f_undoing, f_outcomeThen, f_calls, f_state, f_last, f_stepCount, a_termKind, a_termA, a_termB, a_termNumber, a_registersIn, a_termStack, a_kind, a_register, a_number, a_partA, a_partB, a_testX, a_testY, a_size, a_stack, a_code, a_first, a_second, a_codeX, a_codeY, a_partner, a_other, a_begin, a_end, a_word, a_wordNumber, a_constant, a_folded, a_work, a_workOn, a_openAt, a_middleAt, a_placeX, a_placeY, a_todo, a_value, a_held, a_operand, a_callAt, a_callIn) (nI i) 0 z := by
  unfold wpX_testAhead
  dsimp only
  rw [zn_c (by omega : i < 2 ^ 31), hc, hq]
  refine And.intro (vp_in_nI hi (by omega)) (nm_e (And.intro (vp_in_nI hi (by omega)) (nm_e ?_)))
  refine (br_t rfl ?_)
  exact br_t rfl (nm_r (nI_1 q) h)
theorem zx_a11t {Q : SX → Prop} {i : Nat} {z : Int32} {q : Nat} (hq : a_partner i = nI q) (hi : i < 200) (hc : a_code i = nI 11)
    (h : Q (f_terms, f_termHeight, f_made, f_height, f_compiled, f_codeSize, f_wordCount, f_works, f_procedure, f_high, nI (q + 1), f_inside, 1, f_undoing, f_outcomeThen, f_calls, f_state, f_last, f_stepCount, a_termKind, a_termA, a_termB, a_termNumber, a_registersIn, a_termStack, a_kind, a_register, a_number, a_partA, a_partB, a_testX, a_testY, a_size, a_stack, a_code, a_first, a_second, a_codeX, a_codeY, a_partner, a_other, a_begin, a_end, a_word, a_wordNumber, a_constant, a_folded, a_work, a_workOn, a_openAt, a_middleAt, a_placeX, a_placeY, a_todo, a_value, a_held, a_operand, a_callAt, a_callIn)) : wpX_testAhead Q (f_terms, f_termHeight, f_made, f_height, f_compiled, f_codeSize, f_wordCount, f_works, f_procedure, f_high, f_at, f_inside, 1, f_undoing, f_outcomeThen, f_calls, f_state, f_last, f_stepCount, a_termKind, a_termA, a_termB, a_termNumber, a_registersIn, a_termStack, a_kind, a_register, a_number, a_partA, a_partB, a_testX, a_testY, a_size, a_stack, a_code, a_first, a_second, a_codeX, a_codeY, a_partner, a_other, a_begin, a_end, a_word, a_wordNumber, a_constant, a_folded, a_work, a_workOn, a_openAt, a_middleAt, a_placeX, a_placeY, a_todo, a_value, a_held, a_operand, a_callAt, a_callIn) (nI i) z 1 := by
  unfold wpX_testAhead
  dsimp only
  rw [zn_c (by omega : i < 2 ^ 31), hc, hq]
  refine And.intro (vp_in_nI hi (by omega)) (nm_e (And.intro (vp_in_nI hi (by omega)) (nm_e ?_)))
  refine (br_f (by decide) (br_t rfl ?_))
  unfold wpX_goTo
  rw [nI_1]
  exact br_f (by decide) h
theorem zx_a11f {Q : SX → Prop} {i : Nat} {z : Int32} {q : Nat} (hq : a_partner i = nI q) (hi : i < 200) (hc : a_code i = nI 11)
    (h : Q (f_terms, f_termHeight, f_made, f_height, f_compiled, f_codeSize, f_wordCount, f_works, f_procedure, f_high, f_at, f_inside, 0, 1, 1, f_calls, f_state, f_last, f_stepCount, a_termKind, a_termA, a_termB, a_termNumber, a_registersIn, a_termStack, a_kind, a_register, a_number, a_partA, a_partB, a_testX, a_testY, a_size, a_stack, a_code, a_first, a_second, a_codeX, a_codeY, a_partner, a_other, a_begin, a_end, a_word, a_wordNumber, a_constant, a_folded, a_work, a_workOn, a_openAt, a_middleAt, a_placeX, a_placeY, a_todo, a_value, a_held, a_operand, a_callAt, a_callIn)) : wpX_testAhead Q (f_terms, f_termHeight, f_made, f_height, f_compiled, f_codeSize, f_wordCount, f_works, f_procedure, f_high, f_at, f_inside, 1, f_undoing, f_outcomeThen, f_calls, f_state, f_last, f_stepCount, a_termKind, a_termA, a_termB, a_termNumber, a_registersIn, a_termStack, a_kind, a_register, a_number, a_partA, a_partB, a_testX, a_testY, a_size, a_stack, a_code, a_first, a_second, a_codeX, a_codeY, a_partner, a_other, a_begin, a_end, a_word, a_wordNumber, a_constant, a_folded, a_work, a_workOn, a_openAt, a_middleAt, a_placeX, a_placeY, a_todo, a_value, a_held, a_operand, a_callAt, a_callIn) (nI i) z 0 := by
  unfold wpX_testAhead
  dsimp only
  rw [zn_c (by omega : i < 2 ^ 31), hc, hq]
  refine And.intro (vp_in_nI hi (by omega)) (nm_e (And.intro (vp_in_nI hi (by omega)) (nm_e ?_)))
  refine (br_f (by decide) (br_t rfl ?_))
  unfold wpX_goTo
  exact br_t rfl (zx_turn (d := false) h)
theorem zx_a13f {Q : SX → Prop} {i : Nat} {z : Int32} {q : Nat} (hq : a_partner i = nI q) (hi : i < 200) (hc : a_code i = nI 13)
    (h : Q (f_terms, f_termHeight, f_made, f_height, f_compiled, f_codeSize, f_wordCount, f_works, f_procedure, f_high, nI (i + 1), f_inside, 1, f_undoing, f_outcomeThen, f_calls, f_state, f_last, f_stepCount, a_termKind, a_termA, a_termB, a_termNumber, a_registersIn, a_termStack, a_kind, a_register, a_number, a_partA, a_partB, a_testX, a_testY, a_size, a_stack, a_code, a_first, a_second, a_codeX, a_codeY, a_partner, a_other, a_begin, a_end, a_word, a_wordNumber, a_constant, a_folded, a_work, a_workOn, a_openAt, a_middleAt, a_placeX, a_placeY, a_todo, a_value, a_held, a_operand, a_callAt, a_callIn)) : wpX_testAhead Q (f_terms, f_termHeight, f_made, f_height, f_compiled, f_codeSize, f_wordCount, f_works, f_procedure, f_high, f_at, f_inside, 1, f_undoing, f_outcomeThen, f_calls, f_state, f_last, f_stepCount, a_termKind, a_termA, a_termB, a_termNumber, a_registersIn, a_termStack, a_kind, a_register, a_number, a_partA, a_partB, a_testX, a_testY, a_size, a_stack, a_code, a_first, a_second, a_codeX, a_codeY, a_partner, a_other, a_begin, a_end, a_word, a_wordNumber, a_constant, a_folded, a_work, a_workOn, a_openAt, a_middleAt, a_placeX, a_placeY, a_todo, a_value, a_held, a_operand, a_callAt, a_callIn) (nI i) z 0 := by
  unfold wpX_testAhead
  dsimp only
  rw [zn_c (by omega : i < 2 ^ 31), hc, hq]
  refine And.intro (vp_in_nI hi (by omega)) (nm_e (And.intro (vp_in_nI hi (by omega)) (nm_e ?_)))
  refine (br_f (by decide) (br_f (by decide) (br_t rfl ?_)))
  unfold wX_testAhead_80 wpX_passIf
  exact br_t rfl (br_f (by decide) (zx_pass (d := false) h))
theorem zx_a13t {Q : SX → Prop} {i : Nat} {z : Int32} {q : Nat} (hq : a_partner i = nI q) (hi : i < 200) (hc : a_code i = nI 13)
    (h : Q (f_terms, f_termHeight, f_made, f_height, f_compiled, f_codeSize, f_wordCount, f_works, f_procedure, f_high, f_at, f_inside, 0, 1, 1, f_calls, f_state, f_last, f_stepCount, a_termKind, a_termA, a_termB, a_termNumber, a_registersIn, a_termStack, a_kind, a_register, a_number, a_partA, a_partB, a_testX, a_testY, a_size, a_stack, a_code, a_first, a_second, a_codeX, a_codeY, a_partner, a_other, a_begin, a_end, a_word, a_wordNumber, a_constant, a_folded, a_work, a_workOn, a_openAt, a_middleAt, a_placeX, a_placeY, a_todo, a_value, a_held, a_operand, a_callAt, a_callIn)) : wpX_testAhead Q (f_terms, f_termHeight, f_made, f_height, f_compiled, f_codeSize, f_wordCount, f_works, f_procedure, f_high, f_at, f_inside, 1, f_undoing, f_outcomeThen, f_calls, f_state, f_last, f_stepCount, a_termKind, a_termA, a_termB, a_termNumber, a_registersIn, a_termStack, a_kind, a_register, a_number, a_partA, a_partB, a_testX, a_testY, a_size, a_stack, a_code, a_first, a_second, a_codeX, a_codeY, a_partner, a_other, a_begin, a_end, a_word, a_wordNumber, a_constant, a_folded, a_work, a_workOn, a_openAt, a_middleAt, a_placeX, a_placeY, a_todo, a_value, a_held, a_operand, a_callAt, a_callIn) (nI i) z 1 := by
  unfold wpX_testAhead
  dsimp only
  rw [zn_c (by omega : i < 2 ^ 31), hc, hq]
  refine And.intro (vp_in_nI hi (by omega)) (nm_e (And.intro (vp_in_nI hi (by omega)) (nm_e ?_)))
  refine (br_f (by decide) (br_f (by decide) (br_t rfl ?_)))
  unfold wX_testAhead_80 wpX_passIf
  exact br_f (by decide) (br_t rfl (zx_turn (d := false) h))
theorem zx_a14t {Q : SX → Prop} {i : Nat} {z : Int32} {q : Nat} (hq : a_partner i = nI q) (hi : i < 200) (hc : a_code i = nI 14)
    (h : Q (f_terms, f_termHeight, f_made, f_height, f_compiled, f_codeSize, f_wordCount, f_works, f_procedure, f_high, nI (i + 1), f_inside, 1, f_undoing, f_outcomeThen, f_calls, f_state, f_last, f_stepCount, a_termKind, a_termA, a_termB, a_termNumber, a_registersIn, a_termStack, a_kind, a_register, a_number, a_partA, a_partB, a_testX, a_testY, a_size, a_stack, a_code, a_first, a_second, a_codeX, a_codeY, a_partner, a_other, a_begin, a_end, a_word, a_wordNumber, a_constant, a_folded, a_work, a_workOn, a_openAt, a_middleAt, a_placeX, a_placeY, a_todo, a_value, a_held, a_operand, a_callAt, a_callIn)) : wpX_testAhead Q (f_terms, f_termHeight, f_made, f_height, f_compiled, f_codeSize, f_wordCount, f_works, f_procedure, f_high, f_at, f_inside, 1, f_undoing, f_outcomeThen, f_calls, f_state, f_last, f_stepCount, a_termKind, a_termA, a_termB, a_termNumber, a_registersIn, a_termStack, a_kind, a_register, a_number, a_partA, a_partB, a_testX, a_testY, a_size, a_stack, a_code, a_first, a_second, a_codeX, a_codeY, a_partner, a_other, a_begin, a_end, a_word, a_wordNumber, a_constant, a_folded, a_work, a_workOn, a_openAt, a_middleAt, a_placeX, a_placeY, a_todo, a_value, a_held, a_operand, a_callAt, a_callIn) (nI i) 1 z := by
  unfold wpX_testAhead
  dsimp only
  rw [zn_c (by omega : i < 2 ^ 31), hc, hq]
  refine And.intro (vp_in_nI hi (by omega)) (nm_e (And.intro (vp_in_nI hi (by omega)) (nm_e ?_)))
  refine (br_f (by decide) (br_f (by decide) (br_f (by decide) (br_t rfl ?_))))
  unfold wpX_passIf
  exact br_f (by decide) (zx_pass (d := false) h)
theorem zx_a14f {Q : SX → Prop} {i : Nat} {z : Int32} {q : Nat} (hq : a_partner i = nI q) (hi : i < 200) (hc : a_code i = nI 14)
    (h : Q (f_terms, f_termHeight, f_made, f_height, f_compiled, f_codeSize, f_wordCount, f_works, f_procedure, f_high, f_at, f_inside, 0, 1, 1, f_calls, f_state, f_last, f_stepCount, a_termKind, a_termA, a_termB, a_termNumber, a_registersIn, a_termStack, a_kind, a_register, a_number, a_partA, a_partB, a_testX, a_testY, a_size, a_stack, a_code, a_first, a_second, a_codeX, a_codeY, a_partner, a_other, a_begin, a_end, a_word, a_wordNumber, a_constant, a_folded, a_work, a_workOn, a_openAt, a_middleAt, a_placeX, a_placeY, a_todo, a_value, a_held, a_operand, a_callAt, a_callIn)) : wpX_testAhead Q (f_terms, f_termHeight, f_made, f_height, f_compiled, f_codeSize, f_wordCount, f_works, f_procedure, f_high, f_at, f_inside, 1, f_undoing, f_outcomeThen, f_calls, f_state, f_last, f_stepCount, a_termKind, a_termA, a_termB, a_termNumber, a_registersIn, a_termStack, a_kind, a_register, a_number, a_partA, a_partB, a_testX, a_testY, a_size, a_stack, a_code, a_first, a_second, a_codeX, a_codeY, a_partner, a_other, a_begin, a_end, a_word, a_wordNumber, a_constant, a_folded, a_work, a_workOn, a_openAt, a_middleAt, a_placeX, a_placeY, a_todo, a_value, a_held, a_operand, a_callAt, a_callIn) (nI i) 0 z := by
  unfold wpX_testAhead
  dsimp only
  rw [zn_c (by omega : i < 2 ^ 31), hc, hq]
  refine And.intro (vp_in_nI hi (by omega)) (nm_e (And.intro (vp_in_nI hi (by omega)) (nm_e ?_)))
  refine (br_f (by decide) (br_f (by decide) (br_f (by decide) (br_t rfl ?_))))
  unfold wpX_passIf
  exact br_t rfl (zx_turn (d := false) h)
theorem zx_a15t {Q : SX → Prop} {i : Nat} {z : Int32} {q : Nat} (hq : a_partner i = nI q) (hi : i < 200) (hc : a_code i = nI 15)
    (h : Q (f_terms, f_termHeight, f_made, f_height, f_compiled, f_codeSize, f_wordCount, f_works, f_procedure, f_high, nI (q + 1), f_inside, 1, f_undoing, f_outcomeThen, f_calls, f_state, f_last, f_stepCount, a_termKind, a_termA, a_termB, a_termNumber, a_registersIn, a_termStack, a_kind, a_register, a_number, a_partA, a_partB, a_testX, a_testY, a_size, a_stack, a_code, a_first, a_second, a_codeX, a_codeY, a_partner, a_other, a_begin, a_end, a_word, a_wordNumber, a_constant, a_folded, a_work, a_workOn, a_openAt, a_middleAt, a_placeX, a_placeY, a_todo, a_value, a_held, a_operand, a_callAt, a_callIn)) : wpX_testAhead Q (f_terms, f_termHeight, f_made, f_height, f_compiled, f_codeSize, f_wordCount, f_works, f_procedure, f_high, f_at, f_inside, 1, f_undoing, f_outcomeThen, f_calls, f_state, f_last, f_stepCount, a_termKind, a_termA, a_termB, a_termNumber, a_registersIn, a_termStack, a_kind, a_register, a_number, a_partA, a_partB, a_testX, a_testY, a_size, a_stack, a_code, a_first, a_second, a_codeX, a_codeY, a_partner, a_other, a_begin, a_end, a_word, a_wordNumber, a_constant, a_folded, a_work, a_workOn, a_openAt, a_middleAt, a_placeX, a_placeY, a_todo, a_value, a_held, a_operand, a_callAt, a_callIn) (nI i) z 1 := by
  unfold wpX_testAhead
  dsimp only
  rw [zn_c (by omega : i < 2 ^ 31), hc, hq]
  refine And.intro (vp_in_nI hi (by omega)) (nm_e (And.intro (vp_in_nI hi (by omega)) (nm_e ?_)))
  refine (br_f (by decide) (br_f (by decide) (br_f (by decide) (br_f (by decide) (br_t rfl ?_)))))
  exact br_f (by decide) (nm_r (nI_1 q) h)
theorem zx_a15f {Q : SX → Prop} {i : Nat} {z : Int32} {q : Nat} (hq : a_partner i = nI q) (hi : i < 200) (hc : a_code i = nI 15)
    (h : Q (f_terms, f_termHeight, f_made, f_height, f_compiled, f_codeSize, f_wordCount, f_works, f_procedure, f_high, nI (i + 1), f_inside, 1, f_undoing, f_outcomeThen, f_calls, f_state, f_last, f_stepCount, a_termKind, a_termA, a_termB, a_termNumber, a_registersIn, a_termStack, a_kind, a_register, a_number, a_partA, a_partB, a_testX, a_testY, a_size, a_stack, a_code, a_first, a_second, a_codeX, a_codeY, a_partner, a_other, a_begin, a_end, a_word, a_wordNumber, a_constant, a_folded, a_work, a_workOn, a_openAt, a_middleAt, a_placeX, a_placeY, a_todo, a_value, a_held, a_operand, a_callAt, a_callIn)) : wpX_testAhead Q (f_terms, f_termHeight, f_made, f_height, f_compiled, f_codeSize, f_wordCount, f_works, f_procedure, f_high, f_at, f_inside, 1, f_undoing, f_outcomeThen, f_calls, f_state, f_last, f_stepCount, a_termKind, a_termA, a_termB, a_termNumber, a_registersIn, a_termStack, a_kind, a_register, a_number, a_partA, a_partB, a_testX, a_testY, a_size, a_stack, a_code, a_first, a_second, a_codeX, a_codeY, a_partner, a_other, a_begin, a_end, a_word, a_wordNumber, a_constant, a_folded, a_work, a_workOn, a_openAt, a_middleAt, a_placeX, a_placeY, a_todo, a_value, a_held, a_operand, a_callAt, a_callIn) (nI i) z 0 := by
  unfold wpX_testAhead
  dsimp only
  rw [zn_c (by omega : i < 2 ^ 31), hc, hq]
  refine And.intro (vp_in_nI hi (by omega)) (nm_e (And.intro (vp_in_nI hi (by omega)) (nm_e ?_)))
  refine (br_f (by decide) (br_f (by decide) (br_f (by decide) (br_f (by decide) (br_t rfl ?_)))))
  exact br_t rfl (nm_r (nI_1 i) h)
theorem zx_a16f {Q : SX → Prop} {i : Nat} {z : Int32} {q : Nat} (hq : a_partner i = nI q) {o : Nat} (ho : a_other i = nI o) (hi : i < 200) (hc : a_code i = nI 16)
    (h : Q (f_terms, f_termHeight, f_made, f_height, f_compiled, f_codeSize, f_wordCount, f_works, f_procedure, f_high, nI (o + 1), f_inside, 1, f_undoing, f_outcomeThen, f_calls, f_state, f_last, f_stepCount, a_termKind, a_termA, a_termB, a_termNumber, a_registersIn, a_termStack, a_kind, a_register, a_number, a_partA, a_partB, a_testX, a_testY, a_size, a_stack, a_code, a_first, a_second, a_codeX, a_codeY, a_partner, a_other, a_begin, a_end, a_word, a_wordNumber, a_constant, a_folded, a_work, a_workOn, a_openAt, a_middleAt, a_placeX, a_placeY, a_todo, a_value, a_held, a_operand, a_callAt, a_callIn)) : wpX_testAhead Q (f_terms, f_termHeight, f_made, f_height, f_compiled, f_codeSize, f_wordCount, f_works, f_procedure, f_high, f_at, f_inside, 1, f_undoing, f_outcomeThen, f_calls, f_state, f_last, f_stepCount, a_termKind, a_termA, a_termB, a_termNumber, a_registersIn, a_termStack, a_kind, a_register, a_number, a_partA, a_partB, a_testX, a_testY, a_size, a_stack, a_code, a_first, a_second, a_codeX, a_codeY, a_partner, a_other, a_begin, a_end, a_word, a_wordNumber, a_constant, a_folded, a_work, a_workOn, a_openAt, a_middleAt, a_placeX, a_placeY, a_todo, a_value, a_held, a_operand, a_callAt, a_callIn) (nI i) 0 z := by
  unfold wpX_testAhead
  dsimp only
  rw [zn_c (by omega : i < 2 ^ 31), hc, hq]
  refine And.intro (vp_in_nI hi (by omega)) (nm_e (And.intro (vp_in_nI hi (by omega)) (nm_e ?_)))
  refine (br_f (by decide) (br_f (by decide) (br_f (by decide) (br_f (by decide) (br_f (by decide) ?_)))))
  unfold wX_testAhead_141 wpX_goTo
  rw [zn_c (by omega : i < 2 ^ 31), ho, nI_1]
  exact br_t rfl (And.intro (vp_in_nI hi (by omega)) (br_f (by decide) h))
theorem zx_a16t {Q : SX → Prop} {i : Nat} {z : Int32} {q : Nat} (hq : a_partner i = nI q) (hi : i < 200) (hc : a_code i = nI 16)
    (h : Q (f_terms, f_termHeight, f_made, f_height, f_compiled, f_codeSize, f_wordCount, f_works, f_procedure, f_high, f_at, f_inside, 0, 1, 1, f_calls, f_state, f_last, f_stepCount, a_termKind, a_termA, a_termB, a_termNumber, a_registersIn, a_termStack, a_kind, a_register, a_number, a_partA, a_partB, a_testX, a_testY, a_size, a_stack, a_code, a_first, a_second, a_codeX, a_codeY, a_partner, a_other, a_begin, a_end, a_word, a_wordNumber, a_constant, a_folded, a_work, a_workOn, a_openAt, a_middleAt, a_placeX, a_placeY, a_todo, a_value, a_held, a_operand, a_callAt, a_callIn)) : wpX_testAhead Q (f_terms, f_termHeight, f_made, f_height, f_compiled, f_codeSize, f_wordCount, f_works, f_procedure, f_high, f_at, f_inside, 1, f_undoing, f_outcomeThen, f_calls, f_state, f_last, f_stepCount, a_termKind, a_termA, a_termB, a_termNumber, a_registersIn, a_termStack, a_kind, a_register, a_number, a_partA, a_partB, a_testX, a_testY, a_size, a_stack, a_code, a_first, a_second, a_codeX, a_codeY, a_partner, a_other, a_begin, a_end, a_word, a_wordNumber, a_constant, a_folded, a_work, a_workOn, a_openAt, a_middleAt, a_placeX, a_placeY, a_todo, a_value, a_held, a_operand, a_callAt, a_callIn) (nI i) 1 z := by
  unfold wpX_testAhead
  dsimp only
  rw [zn_c (by omega : i < 2 ^ 31), hc, hq]
  refine And.intro (vp_in_nI hi (by omega)) (nm_e (And.intro (vp_in_nI hi (by omega)) (nm_e ?_)))
  refine (br_f (by decide) (br_f (by decide) (br_f (by decide) (br_f (by decide) (br_f (by decide) ?_)))))
  unfold wX_testAhead_141 wpX_goTo
  exact br_f (by decide) (And.intro (vp_in_nI hi (by omega)) (br_t rfl (zx_turn (d := false) h)))
theorem zx_b10t {Q : SX → Prop} {i : Nat} {z : Int32} {q : Nat} (hq : a_partner i = nI q) (hi : i < 200) (hc : a_code i = nI 10)
    (h : Q (f_terms, f_termHeight, f_made, f_height, f_compiled, f_codeSize, f_wordCount, f_works, f_procedure, f_high, nI i, f_inside, 0, f_undoing, f_outcomeThen, f_calls, f_state, f_last, f_stepCount, a_termKind, a_termA, a_termB, a_termNumber, a_registersIn, a_termStack, a_kind, a_register, a_number, a_partA, a_partB, a_testX, a_testY, a_size, a_stack, a_code, a_first, a_second, a_codeX, a_codeY, a_partner, a_other, a_begin, a_end, a_word, a_wordNumber, a_constant, a_folded, a_work, a_workOn, a_openAt, a_middleAt, a_placeX, a_placeY, a_todo, a_value, a_held, a_operand, a_callAt, a_callIn)) : wpX_testBack Q (f_terms, f_termHeight, f_made, f_height, f_compiled, f_codeSize, f_wordCount, f_works, f_procedure, f_high, f_at, f_inside, 0, f_undoing, f_outcomeThen, f_calls, f_state, f_last, f_stepCount, a_termKind, a_termA, a_termB, a_termNumber, a_registersIn, a_termStack, a_kind, a_register, a_number, a_partA, a_partB, a_testX, a_testY, a_size, a_stack, a_code, a_first, a_second, a_codeX, a_codeY, a_partner, a_other, a_begin, a_end, a_word, a_wordNumber, a_constant, a_folded, a_work, a_workOn, a_openAt, a_middleAt, a_placeX, a_placeY, a_todo, a_value, a_held, a_operand, a_callAt, a_callIn) (nI i) 1 z := by
  unfold wpX_testBack
  dsimp only
  rw [zn_c (by omega : i < 2 ^ 31), hc, hq]
  refine And.intro (vp_in_nI hi (by omega)) (nm_e (And.intro (vp_in_nI hi (by omega)) (nm_e ?_)))
  refine (br_t rfl ?_)
  unfold wpX_passIf
  exact br_f (by decide) (zx_pass (d := true) h)
theorem zx_b10f {Q : SX → Prop} {i : Nat} {z : Int32} {q : Nat} (hq : a_partner i = nI q) (hi : i < 200) (hc : a_code i = nI 10)
    (h : Q (f_terms, f_termHeight, f_made, f_height, f_compiled, f_codeSize, f_wordCount, f_works, f_procedure, f_high, f_at, f_inside, 1, 1, 1, f_calls, f_state, f_last, f_stepCount, a_termKind, a_termA, a_termB, a_termNumber, a_registersIn, a_termStack, a_kind, a_register, a_number, a_partA, a_partB, a_testX, a_testY, a_size, a_stack, a_code, a_first, a_second, a_codeX, a_codeY, a_partner, a_other, a_begin, a_end, a_word, a_wordNumber, a_constant, a_folded, a_work, a_workOn, a_openAt, a_middleAt, a_placeX, a_placeY, a_todo, a_value, a_held, a_operand, a_callAt, a_callIn)) : wpX_testBack Q (f_terms, f_termHeight, f_made, f_height, f_compiled, f_codeSize, f_wordCount, f_works, f_procedure, f_high, f_at, f_inside, 0, f_undoing, f_outcomeThen, f_calls, f_state, f_last, f_stepCount, a_termKind, a_termA, a_termB, a_termNumber, a_registersIn, a_termStack, a_kind, a_register, a_number, a_partA, a_partB, a_testX, a_testY, a_size, a_stack, a_code, a_first, a_second, a_codeX, a_codeY, a_partner, a_other, a_begin, a_end, a_word, a_wordNumber, a_constant, a_folded, a_work, a_workOn, a_openAt, a_middleAt, a_placeX, a_placeY, a_todo, a_value, a_held, a_operand, a_callAt, a_callIn) (nI i) 0 z := by
  unfold wpX_testBack
  dsimp only
  rw [zn_c (by omega : i < 2 ^ 31), hc, hq]
  refine And.intro (vp_in_nI hi (by omega)) (nm_e (And.intro (vp_in_nI hi (by omega)) (nm_e ?_)))
  refine (br_t rfl ?_)
  unfold wpX_passIf
  exact br_t rfl (zx_turn (d := true) h)
theorem zx_b12f {Q : SX → Prop} {i : Nat} {z : Int32} {q : Nat} (hq : a_partner i = nI q) (hi : i < 200) (hc : a_code i = nI 12)
    (h : Q (f_terms, f_termHeight, f_made, f_height, f_compiled, f_codeSize, f_wordCount, f_works, f_procedure, f_high, nI q, f_inside, 0, f_undoing, f_outcomeThen, f_calls, f_state, f_last, f_stepCount, a_termKind, a_termA, a_termB, a_termNumber, a_registersIn, a_termStack, a_kind, a_register, a_number, a_partA, a_partB, a_testX, a_testY, a_size, a_stack, a_code, a_first, a_second, a_codeX, a_codeY, a_partner, a_other, a_begin, a_end, a_word, a_wordNumber, a_constant, a_folded, a_work, a_workOn, a_openAt, a_middleAt, a_placeX, a_placeY, a_todo, a_value, a_held, a_operand, a_callAt, a_callIn)) : wpX_testBack Q (f_terms, f_termHeight, f_made, f_height, f_compiled, f_codeSize, f_wordCount, f_works, f_procedure, f_high, f_at, f_inside, 0, f_undoing, f_outcomeThen, f_calls, f_state, f_last, f_stepCount, a_termKind, a_termA, a_termB, a_termNumber, a_registersIn, a_termStack, a_kind, a_register, a_number, a_partA, a_partB, a_testX, a_testY, a_size, a_stack, a_code, a_first, a_second, a_codeX, a_codeY, a_partner, a_other, a_begin, a_end, a_word, a_wordNumber, a_constant, a_folded, a_work, a_workOn, a_openAt, a_middleAt, a_placeX, a_placeY, a_todo, a_value, a_held, a_operand, a_callAt, a_callIn) (nI i) 0 z := by
  unfold wpX_testBack
  dsimp only
  rw [zn_c (by omega : i < 2 ^ 31), hc, hq]
  refine And.intro (vp_in_nI hi (by omega)) (nm_e (And.intro (vp_in_nI hi (by omega)) (nm_e ?_)))
  refine (br_f (by decide) (br_t rfl ?_))
  unfold wX_testBack_49 wpX_goTo
  exact br_t rfl (br_f (by decide) h)
theorem zx_b12t {Q : SX → Prop} {i : Nat} {z : Int32} {q : Nat} (hq : a_partner i = nI q) (hi : i < 200) (hc : a_code i = nI 12)
    (h : Q (f_terms, f_termHeight, f_made, f_height, f_compiled, f_codeSize, f_wordCount, f_works, f_procedure, f_high, f_at, f_inside, 1, 1, 1, f_calls, f_state, f_last, f_stepCount, a_termKind, a_termA, a_termB, a_termNumber, a_registersIn, a_termStack, a_kind, a_register, a_number, a_partA, a_partB, a_testX, a_testY, a_size, a_stack, a_code, a_first, a_second, a_codeX, a_codeY, a_partner, a_other, a_begin, a_end, a_word, a_wordNumber, a_constant, a_folded, a_work, a_workOn, a_openAt, a_middleAt, a_placeX, a_placeY, a_todo, a_value, a_held, a_operand, a_callAt, a_callIn)) : wpX_testBack Q (f_terms, f_termHeight, f_made, f_height, f_compiled, f_codeSize, f_wordCount, f_works, f_procedure, f_high, f_at, f_inside, 0, f_undoing, f_outcomeThen, f_calls, f_state, f_last, f_stepCount, a_termKind, a_termA, a_termB, a_termNumber, a_registersIn, a_termStack, a_kind, a_register, a_number, a_partA, a_partB, a_testX, a_testY, a_size, a_stack, a_code, a_first, a_second, a_codeX, a_codeY, a_partner, a_other, a_begin, a_end, a_word, a_wordNumber, a_constant, a_folded, a_work, a_workOn, a_openAt, a_middleAt, a_placeX, a_placeY, a_todo, a_value, a_held, a_operand, a_callAt, a_callIn) (nI i) 1 z := by
  unfold wpX_testBack
  dsimp only
  rw [zn_c (by omega : i < 2 ^ 31), hc, hq]
  refine And.intro (vp_in_nI hi (by omega)) (nm_e (And.intro (vp_in_nI hi (by omega)) (nm_e ?_)))
  refine (br_f (by decide) (br_t rfl ?_))
  unfold wX_testBack_49 wpX_goTo
  exact br_f (by decide) (br_t rfl (zx_turn (d := true) h))
theorem zx_b13f {Q : SX → Prop} {i : Nat} {z : Int32} {q : Nat} (hq : a_partner i = nI q) (hi : i < 200) (hc : a_code i = nI 13)
    (h : Q (f_terms, f_termHeight, f_made, f_height, f_compiled, f_codeSize, f_wordCount, f_works, f_procedure, f_high, nI i, f_inside, 0, f_undoing, f_outcomeThen, f_calls, f_state, f_last, f_stepCount, a_termKind, a_termA, a_termB, a_termNumber, a_registersIn, a_termStack, a_kind, a_register, a_number, a_partA, a_partB, a_testX, a_testY, a_size, a_stack, a_code, a_first, a_second, a_codeX, a_codeY, a_partner, a_other, a_begin, a_end, a_word, a_wordNumber, a_constant, a_folded, a_work, a_workOn, a_openAt, a_middleAt, a_placeX, a_placeY, a_todo, a_value, a_held, a_operand, a_callAt, a_callIn)) : wpX_testBack Q (f_terms, f_termHeight, f_made, f_height, f_compiled, f_codeSize, f_wordCount, f_works, f_procedure, f_high, f_at, f_inside, 0, f_undoing, f_outcomeThen, f_calls, f_state, f_last, f_stepCount, a_termKind, a_termA, a_termB, a_termNumber, a_registersIn, a_termStack, a_kind, a_register, a_number, a_partA, a_partB, a_testX, a_testY, a_size, a_stack, a_code, a_first, a_second, a_codeX, a_codeY, a_partner, a_other, a_begin, a_end, a_word, a_wordNumber, a_constant, a_folded, a_work, a_workOn, a_openAt, a_middleAt, a_placeX, a_placeY, a_todo, a_value, a_held, a_operand, a_callAt, a_callIn) (nI i) z 0 := by
  unfold wpX_testBack
  dsimp only
  rw [zn_c (by omega : i < 2 ^ 31), hc, hq]
  refine And.intro (vp_in_nI hi (by omega)) (nm_e (And.intro (vp_in_nI hi (by omega)) (nm_e ?_)))
  refine (br_f (by decide) (br_f (by decide) (br_t rfl ?_)))
  exact br_t rfl h
theorem zx_b13t {Q : SX → Prop} {i : Nat} {z : Int32} {q : Nat} (hq : a_partner i = nI q) (hi : i < 200) (hc : a_code i = nI 13)
    (h : Q (f_terms, f_termHeight, f_made, f_height, f_compiled, f_codeSize, f_wordCount, f_works, f_procedure, f_high, nI q, f_inside, 0, f_undoing, f_outcomeThen, f_calls, f_state, f_last, f_stepCount, a_termKind, a_termA, a_termB, a_termNumber, a_registersIn, a_termStack, a_kind, a_register, a_number, a_partA, a_partB, a_testX, a_testY, a_size, a_stack, a_code, a_first, a_second, a_codeX, a_codeY, a_partner, a_other, a_begin, a_end, a_word, a_wordNumber, a_constant, a_folded, a_work, a_workOn, a_openAt, a_middleAt, a_placeX, a_placeY, a_todo, a_value, a_held, a_operand, a_callAt, a_callIn)) : wpX_testBack Q (f_terms, f_termHeight, f_made, f_height, f_compiled, f_codeSize, f_wordCount, f_works, f_procedure, f_high, f_at, f_inside, 0, f_undoing, f_outcomeThen, f_calls, f_state, f_last, f_stepCount, a_termKind, a_termA, a_termB, a_termNumber, a_registersIn, a_termStack, a_kind, a_register, a_number, a_partA, a_partB, a_testX, a_testY, a_size, a_stack, a_code, a_first, a_second, a_codeX, a_codeY, a_partner, a_other, a_begin, a_end, a_word, a_wordNumber, a_constant, a_folded, a_work, a_workOn, a_openAt, a_middleAt, a_placeX, a_placeY, a_todo, a_value, a_held, a_operand, a_callAt, a_callIn) (nI i) z 1 := by
  unfold wpX_testBack
  dsimp only
  rw [zn_c (by omega : i < 2 ^ 31), hc, hq]
  refine And.intro (vp_in_nI hi (by omega)) (nm_e (And.intro (vp_in_nI hi (by omega)) (nm_e ?_)))
  refine (br_f (by decide) (br_f (by decide) (br_t rfl ?_)))
  exact br_f (by decide) h
theorem zx_b14f {Q : SX → Prop} {i : Nat} {z : Int32} {q : Nat} (hq : a_partner i = nI q) (hi : i < 200) (hc : a_code i = nI 14)
    (h : Q (f_terms, f_termHeight, f_made, f_height, f_compiled, f_codeSize, f_wordCount, f_works, f_procedure, f_high, nI q, f_inside, 0, f_undoing, f_outcomeThen, f_calls, f_state, f_last, f_stepCount, a_termKind, a_termA, a_termB, a_termNumber, a_registersIn, a_termStack, a_kind, a_register, a_number, a_partA, a_partB, a_testX, a_testY, a_size, a_stack, a_code, a_first, a_second, a_codeX, a_codeY, a_partner, a_other, a_begin, a_end, a_word, a_wordNumber, a_constant, a_folded, a_work, a_workOn, a_openAt, a_middleAt, a_placeX, a_placeY, a_todo, a_value, a_held, a_operand, a_callAt, a_callIn)) : wpX_testBack Q (f_terms, f_termHeight, f_made, f_height, f_compiled, f_codeSize, f_wordCount, f_works, f_procedure, f_high, f_at, f_inside, 0, f_undoing, f_outcomeThen, f_calls, f_state, f_last, f_stepCount, a_termKind, a_termA, a_termB, a_termNumber, a_registersIn, a_termStack, a_kind, a_register, a_number, a_partA, a_partB, a_testX, a_testY, a_size, a_stack, a_code, a_first, a_second, a_codeX, a_codeY, a_partner, a_other, a_begin, a_end, a_word, a_wordNumber, a_constant, a_folded, a_work, a_workOn, a_openAt, a_middleAt, a_placeX, a_placeY, a_todo, a_value, a_held, a_operand, a_callAt, a_callIn) (nI i) 0 z := by
  unfold wpX_testBack
  dsimp only
  rw [zn_c (by omega : i < 2 ^ 31), hc, hq]
  refine And.intro (vp_in_nI hi (by omega)) (nm_e (And.intro (vp_in_nI hi (by omega)) (nm_e ?_)))
  refine (br_f (by decide) (br_f (by decide) (br_f (by decide) (br_t rfl ?_))))
  exact br_t rfl h
theorem zx_b14t {Q : SX → Prop} {i : Nat} {z : Int32} {q : Nat} (hq : a_partner i = nI q) (hi : i < 200) (hc : a_code i = nI 14)
    (h : Q (f_terms, f_termHeight, f_made, f_height, f_compiled, f_codeSize, f_wordCount, f_works, f_procedure, f_high, nI i, f_inside, 0, f_undoing, f_outcomeThen, f_calls, f_state, f_last, f_stepCount, a_termKind, a_termA, a_termB, a_termNumber, a_registersIn, a_termStack, a_kind, a_register, a_number, a_partA, a_partB, a_testX, a_testY, a_size, a_stack, a_code, a_first, a_second, a_codeX, a_codeY, a_partner, a_other, a_begin, a_end, a_word, a_wordNumber, a_constant, a_folded, a_work, a_workOn, a_openAt, a_middleAt, a_placeX, a_placeY, a_todo, a_value, a_held, a_operand, a_callAt, a_callIn)) : wpX_testBack Q (f_terms, f_termHeight, f_made, f_height, f_compiled, f_codeSize, f_wordCount, f_works, f_procedure, f_high, f_at, f_inside, 0, f_undoing, f_outcomeThen, f_calls, f_state, f_last, f_stepCount, a_termKind, a_termA, a_termB, a_termNumber, a_registersIn, a_termStack, a_kind, a_register, a_number, a_partA, a_partB, a_testX, a_testY, a_size, a_stack, a_code, a_first, a_second, a_codeX, a_codeY, a_partner, a_other, a_begin, a_end, a_word, a_wordNumber, a_constant, a_folded, a_work, a_workOn, a_openAt, a_middleAt, a_placeX, a_placeY, a_todo, a_value, a_held, a_operand, a_callAt, a_callIn) (nI i) 1 z := by
  unfold wpX_testBack
  dsimp only
  rw [zn_c (by omega : i < 2 ^ 31), hc, hq]
  refine And.intro (vp_in_nI hi (by omega)) (nm_e (And.intro (vp_in_nI hi (by omega)) (nm_e ?_)))
  refine (br_f (by decide) (br_f (by decide) (br_f (by decide) (br_t rfl ?_))))
  exact br_f (by decide) h
theorem zx_b15f {Q : SX → Prop} {i : Nat} {z : Int32} {q : Nat} (hq : a_partner i = nI q) (hi : i < 200) (hc : a_code i = nI 15)
    (h : Q (f_terms, f_termHeight, f_made, f_height, f_compiled, f_codeSize, f_wordCount, f_works, f_procedure, f_high, nI i, f_inside, 0, f_undoing, f_outcomeThen, f_calls, f_state, f_last, f_stepCount, a_termKind, a_termA, a_termB, a_termNumber, a_registersIn, a_termStack, a_kind, a_register, a_number, a_partA, a_partB, a_testX, a_testY, a_size, a_stack, a_code, a_first, a_second, a_codeX, a_codeY, a_partner, a_other, a_begin, a_end, a_word, a_wordNumber, a_constant, a_folded, a_work, a_workOn, a_openAt, a_middleAt, a_placeX, a_placeY, a_todo, a_value, a_held, a_operand, a_callAt, a_callIn)) : wpX_testBack Q (f_terms, f_termHeight, f_made, f_height, f_compiled, f_codeSize, f_wordCount, f_works, f_procedure, f_high, f_at, f_inside, 0, f_undoing, f_outcomeThen, f_calls, f_state, f_last, f_stepCount, a_termKind, a_termA, a_termB, a_termNumber, a_registersIn, a_termStack, a_kind, a_register, a_number, a_partA, a_partB, a_testX, a_testY, a_size, a_stack, a_code, a_first, a_second, a_codeX, a_codeY, a_partner, a_other, a_begin, a_end, a_word, a_wordNumber, a_constant, a_folded, a_work, a_workOn, a_openAt, a_middleAt, a_placeX, a_placeY, a_todo, a_value, a_held, a_operand, a_callAt, a_callIn) (nI i) z 0 := by
  unfold wpX_testBack
  dsimp only
  rw [zn_c (by omega : i < 2 ^ 31), hc, hq]
  refine And.intro (vp_in_nI hi (by omega)) (nm_e (And.intro (vp_in_nI hi (by omega)) (nm_e ?_)))
  refine (br_f (by decide) (br_f (by decide) (br_f (by decide) (br_f (by decide) (br_t rfl ?_)))))
  unfold wX_testBack_122 wpX_passIf
  exact br_t rfl (br_f (by decide) (zx_pass (d := true) h))
theorem zx_b15t {Q : SX → Prop} {i : Nat} {z : Int32} {q : Nat} (hq : a_partner i = nI q) (hi : i < 200) (hc : a_code i = nI 15)
    (h : Q (f_terms, f_termHeight, f_made, f_height, f_compiled, f_codeSize, f_wordCount, f_works, f_procedure, f_high, f_at, f_inside, 1, 1, 1, f_calls, f_state, f_last, f_stepCount, a_termKind, a_termA, a_termB, a_termNumber, a_registersIn, a_termStack, a_kind, a_register, a_number, a_partA, a_partB, a_testX, a_testY, a_size, a_stack, a_code, a_first, a_second, a_codeX, a_codeY, a_partner, a_other, a_begin, a_end, a_word, a_wordNumber, a_constant, a_folded, a_work, a_workOn, a_openAt, a_middleAt, a_placeX, a_placeY, a_todo, a_value, a_held, a_operand, a_callAt, a_callIn)) : wpX_testBack Q (f_terms, f_termHeight, f_made, f_height, f_compiled, f_codeSize, f_wordCount, f_works, f_procedure, f_high, f_at, f_inside, 0, f_undoing, f_outcomeThen, f_calls, f_state, f_last, f_stepCount, a_termKind, a_termA, a_termB, a_termNumber, a_registersIn, a_termStack, a_kind, a_register, a_number, a_partA, a_partB, a_testX, a_testY, a_size, a_stack, a_code, a_first, a_second, a_codeX, a_codeY, a_partner, a_other, a_begin, a_end, a_word, a_wordNumber, a_constant, a_folded, a_work, a_workOn, a_openAt, a_middleAt, a_placeX, a_placeY, a_todo, a_value, a_held, a_operand, a_callAt, a_callIn) (nI i) z 1 := by
  unfold wpX_testBack
  dsimp only
  rw [zn_c (by omega : i < 2 ^ 31), hc, hq]
  refine And.intro (vp_in_nI hi (by omega)) (nm_e (And.intro (vp_in_nI hi (by omega)) (nm_e ?_)))
  refine (br_f (by decide) (br_f (by decide) (br_f (by decide) (br_f (by decide) (br_t rfl ?_)))))
  unfold wX_testBack_122 wpX_passIf
  exact br_f (by decide) (br_t rfl (zx_turn (d := true) h))
theorem zx_b16t {Q : SX → Prop} {i : Nat} {z : Int32} {q : Nat} (hq : a_partner i = nI q) (hi : i < 200) (hc : a_code i = nI 16)
    (h : Q (f_terms, f_termHeight, f_made, f_height, f_compiled, f_codeSize, f_wordCount, f_works, f_procedure, f_high, nI q, f_inside, 0, f_undoing, f_outcomeThen, f_calls, f_state, f_last, f_stepCount, a_termKind, a_termA, a_termB, a_termNumber, a_registersIn, a_termStack, a_kind, a_register, a_number, a_partA, a_partB, a_testX, a_testY, a_size, a_stack, a_code, a_first, a_second, a_codeX, a_codeY, a_partner, a_other, a_begin, a_end, a_word, a_wordNumber, a_constant, a_folded, a_work, a_workOn, a_openAt, a_middleAt, a_placeX, a_placeY, a_todo, a_value, a_held, a_operand, a_callAt, a_callIn)) : wpX_testBack Q (f_terms, f_termHeight, f_made, f_height, f_compiled, f_codeSize, f_wordCount, f_works, f_procedure, f_high, f_at, f_inside, 0, f_undoing, f_outcomeThen, f_calls, f_state, f_last, f_stepCount, a_termKind, a_termA, a_termB, a_termNumber, a_registersIn, a_termStack, a_kind, a_register, a_number, a_partA, a_partB, a_testX, a_testY, a_size, a_stack, a_code, a_first, a_second, a_codeX, a_codeY, a_partner, a_other, a_begin, a_end, a_word, a_wordNumber, a_constant, a_folded, a_work, a_workOn, a_openAt, a_middleAt, a_placeX, a_placeY, a_todo, a_value, a_held, a_operand, a_callAt, a_callIn) (nI i) z 1 := by
  unfold wpX_testBack
  dsimp only
  rw [zn_c (by omega : i < 2 ^ 31), hc, hq]
  refine And.intro (vp_in_nI hi (by omega)) (nm_e (And.intro (vp_in_nI hi (by omega)) (nm_e ?_)))
  refine (br_f (by decide) (br_f (by decide) (br_f (by decide) (br_f (by decide) (br_f (by decide) ?_)))))
  unfold wpX_goTo
  exact br_f (by decide) h
theorem zx_b16f {Q : SX → Prop} {i : Nat} {z : Int32} {q : Nat} (hq : a_partner i = nI q) (hi : i < 200) (hc : a_code i = nI 16)
    (h : Q (f_terms, f_termHeight, f_made, f_height, f_compiled, f_codeSize, f_wordCount, f_works, f_procedure, f_high, f_at, f_inside, 1, 1, 1, f_calls, f_state, f_last, f_stepCount, a_termKind, a_termA, a_termB, a_termNumber, a_registersIn, a_termStack, a_kind, a_register, a_number, a_partA, a_partB, a_testX, a_testY, a_size, a_stack, a_code, a_first, a_second, a_codeX, a_codeY, a_partner, a_other, a_begin, a_end, a_word, a_wordNumber, a_constant, a_folded, a_work, a_workOn, a_openAt, a_middleAt, a_placeX, a_placeY, a_todo, a_value, a_held, a_operand, a_callAt, a_callIn)) : wpX_testBack Q (f_terms, f_termHeight, f_made, f_height, f_compiled, f_codeSize, f_wordCount, f_works, f_procedure, f_high, f_at, f_inside, 0, f_undoing, f_outcomeThen, f_calls, f_state, f_last, f_stepCount, a_termKind, a_termA, a_termB, a_termNumber, a_registersIn, a_termStack, a_kind, a_register, a_number, a_partA, a_partB, a_testX, a_testY, a_size, a_stack, a_code, a_first, a_second, a_codeX, a_codeY, a_partner, a_other, a_begin, a_end, a_word, a_wordNumber, a_constant, a_folded, a_work, a_workOn, a_openAt, a_middleAt, a_placeX, a_placeY, a_todo, a_value, a_held, a_operand, a_callAt, a_callIn) (nI i) z 0 := by
  unfold wpX_testBack
  dsimp only
  rw [zn_c (by omega : i < 2 ^ 31), hc, hq]
  refine And.intro (vp_in_nI hi (by omega)) (nm_e (And.intro (vp_in_nI hi (by omega)) (nm_e ?_)))
  refine (br_f (by decide) (br_f (by decide) (br_f (by decide) (br_f (by decide) (br_f (by decide) ?_)))))
  unfold wpX_goTo
  exact br_t rfl (zx_turn (d := true) h)
end
end
section
/-! ===== X's run obeys the rules ===== -/
def zx_W (post : Int32 → SX → Prop) (wc : Nat) (f_terms f_termHeight f_made f_height f_compiled f_codeSize f_works f_procedure f_last : Int32) (a_termKind a_termA a_termB a_termNumber a_registersIn a_termStack a_kind a_register a_number a_partA a_partB a_testX a_testY a_size a_stack a_code a_first a_second a_codeX a_codeY a_partner a_other a_begin a_end a_word a_wordNumber a_constant a_folded a_work a_workOn a_openAt a_middleAt a_placeX a_placeY a_todo : Nat → Int32) : zm_WX := fun uo i st p d pc cs ρ π =>
  ∀ (f_outcomeThen : Int32) (a_value a_held a_operand a_callAt a_callIn : Nat → Int32), (∀ o, uo = some o → f_outcomeThen = nI o) → (∀ r, r < 6 → a_value r = ρ r) → zl_v a_held π → zx_cs a_callAt a_callIn cs →
    wX_run_81 post (60001 - i) (nI i) f_terms f_termHeight f_made f_height f_compiled f_codeSize (nI wc) f_works f_procedure (nI π.length) (nI pc) (nI p) (zx_a d) (zx_u uo) f_outcomeThen (nI cs.length) (-6) f_last (nI st) a_termKind a_termA a_termB a_termNumber a_registersIn a_termStack a_kind a_register a_number a_partA a_partB a_testX a_testY a_size a_stack a_code a_first a_second a_codeX a_codeY a_partner a_other a_begin a_end a_word a_wordNumber a_constant a_folded a_work a_workOn a_openAt a_middleAt a_placeX a_placeY a_todo a_value a_held a_operand a_callAt a_callIn
def zx_F (post : Int32 → SX → Prop) (wc : Nat) (f_terms f_termHeight f_made f_height f_compiled f_codeSize f_works f_procedure f_last : Int32) (a_termKind a_termA a_termB a_termNumber a_registersIn a_termStack a_kind a_register a_number a_partA a_partB a_testX a_testY a_size a_stack a_code a_first a_second a_codeX a_codeY a_partner a_other a_begin a_end a_word a_wordNumber a_constant a_folded a_work a_workOn a_openAt a_middleAt a_placeX a_placeY a_todo : Nat → Int32) : zm_FX := fun o st ρ π =>
  ∀ (f_at f_inside f_ahead f_undoing f_outcomeThen f_calls : Int32) (a_value a_held a_operand a_callAt a_callIn : Nat → Int32), (∀ r, r < 6 → a_value r = ρ r) → zl_v a_held π →
    post (nI o) (f_terms, f_termHeight, f_made, f_height, f_compiled, f_codeSize, nI wc, f_works, f_procedure, nI π.length, f_at, f_inside, f_ahead, f_undoing, f_outcomeThen, f_calls, nI o, nI o, nI st, a_termKind, a_termA, a_termB, a_termNumber, a_registersIn, a_termStack, a_kind, a_register, a_number, a_partA, a_partB, a_testX, a_testY, a_size, a_stack, a_code, a_first, a_second, a_codeX, a_codeY, a_partner, a_other, a_begin, a_end, a_word, a_wordNumber, a_constant, a_folded, a_work, a_workOn, a_openAt, a_middleAt, a_placeX, a_placeY, a_todo, a_value, a_held, a_operand, a_callAt, a_callIn)
section
variable {f_terms f_termHeight f_made f_height f_compiled f_codeSize f_wordCount f_works f_procedure f_high f_at f_inside f_ahead f_undoing f_outcomeThen f_calls f_state f_last f_stepCount : Int32} {a_termKind a_termA a_termB a_termNumber a_registersIn a_termStack a_kind a_register a_number a_partA a_partB a_testX a_testY a_size a_stack a_code a_first a_second a_codeX a_codeY a_partner a_other a_begin a_end a_word a_wordNumber a_constant a_folded a_work a_workOn a_openAt a_middleAt a_placeX a_placeY a_todo a_value a_held a_operand a_callAt a_callIn : Nat → Int32}
variable {post : Int32 → SX → Prop} {S T : Nat → Nat → Nat → Nat} {nS nT bg ln : Nat → Nat} {wc : Nat} {f_at1 f_inside1 f_ahead1 f_undoing1 f_out1 f_calls1 f_high1 f_step1 f_state1 : Int32} {a_value1 a_held1 a_callAt1 a_callIn1 : Nat → Int32}
theorem zx_lp {i : Nat} (hi : i < 60000) (hs : ∀ Q : SX → Prop, (∀ op : Nat → Int32, Q (f_terms, f_termHeight, f_made, f_height, f_compiled, f_codeSize, f_wordCount, f_works, f_procedure, f_high1, f_at1, f_inside1, f_ahead1, f_undoing1, f_out1, f_calls1, (-6), f_last, f_step1, a_termKind, a_termA, a_termB, a_termNumber, a_registersIn, a_termStack, a_kind, a_register, a_number, a_partA, a_partB, a_testX, a_testY, a_size, a_stack, a_code, a_first, a_second, a_codeX, a_codeY, a_partner, a_other, a_begin, a_end, a_word, a_wordNumber, a_constant, a_folded, a_work, a_workOn, a_openAt, a_middleAt, a_placeX, a_placeY, a_todo, a_value1, a_held1, op, a_callAt1, a_callIn1)) → wpX_step Q (f_terms, f_termHeight, f_made, f_height, f_compiled, f_codeSize, f_wordCount, f_works, f_procedure, f_high, f_at, f_inside, f_ahead, f_undoing, f_outcomeThen, f_calls, (-6), f_last, f_stepCount, a_termKind, a_termA, a_termB, a_termNumber, a_registersIn, a_termStack, a_kind, a_register, a_number, a_partA, a_partB, a_testX, a_testY, a_size, a_stack, a_code, a_first, a_second, a_codeX, a_codeY, a_partner, a_other, a_begin, a_end, a_word, a_wordNumber, a_constant, a_folded, a_work, a_workOn, a_openAt, a_middleAt, a_placeX, a_placeY, a_todo, a_value, a_held, a_operand, a_callAt, a_callIn))
    (h : ∀ op : Nat → Int32, wX_run_81 post (60001 - (i + 1)) (nI (i + 1)) f_terms f_termHeight f_made f_height f_compiled f_codeSize f_wordCount f_works f_procedure f_high1 f_at1 f_inside1 f_ahead1 f_undoing1 f_out1 f_calls1 (-6) f_last f_step1 a_termKind a_termA a_termB a_termNumber a_registersIn a_termStack a_kind a_register a_number a_partA a_partB a_testX a_testY a_size a_stack a_code a_first a_second a_codeX a_codeY a_partner a_other a_begin a_end a_word a_wordNumber a_constant a_folded a_work a_workOn a_openAt a_middleAt a_placeX a_placeY a_todo a_value1 a_held1 op a_callAt1 a_callIn1) : wX_run_81 post (60001 - i) (nI i) f_terms f_termHeight f_made f_height f_compiled f_codeSize f_wordCount f_works f_procedure f_high f_at f_inside f_ahead f_undoing f_outcomeThen f_calls (-6) f_last f_stepCount a_termKind a_termA a_termB a_termNumber a_registersIn a_termStack a_kind a_register a_number a_partA a_partB a_testX a_testY a_size a_stack a_code a_first a_second a_codeX a_codeY a_partner a_other a_begin a_end a_word a_wordNumber a_constant a_folded a_work a_workOn a_openAt a_middleAt a_placeX a_placeY a_todo a_value a_held a_operand a_callAt a_callIn := by
  rw [show 60001 - i = (60001 - (i + 1)) + 1 from by omega]
  refine br_f (nI_ge (b := 60000) (by omega) (by omega)) (br_t rfl ?_)
  exact hs _ fun op => nm_r (nI_1 i) (h op)
theorem zx_bnd {post : SX → Prop} {p : Nat} {d : Bool} (hE : zx_env a_begin a_end wc S T nS nT bg ln) (hp : p < 3)
    (K : ∀ Q : SX → Prop, Q (f_terms, f_termHeight, f_made, f_height, f_compiled, f_codeSize, f_wordCount, f_works, f_procedure, f_high1, f_at1, f_inside1, f_ahead1, f_undoing1, f_out1, f_calls1, f_state1, f_last, f_step1, a_termKind, a_termA, a_termB, a_termNumber, a_registersIn, a_termStack, a_kind, a_register, a_number, a_partA, a_partB, a_testX, a_testY, a_size, a_stack, a_code, a_first, a_second, a_codeX, a_codeY, a_partner, a_other, a_begin, a_end, a_word, a_wordNumber, a_constant, a_folded, a_work, a_workOn, a_openAt, a_middleAt, a_placeX, a_placeY, a_todo, a_value1, a_held1, a_operand, a_callAt1, a_callIn1) → wpX_leave Q (f_terms, f_termHeight, f_made, f_height, f_compiled, f_codeSize, f_wordCount, f_works, f_procedure, f_high, nI (zm_x d (bg p) (ln p)), nI p, zx_a d, f_undoing, f_outcomeThen, f_calls, f_state, f_last, f_stepCount, a_termKind, a_termA, a_termB, a_termNumber, a_registersIn, a_termStack, a_kind, a_register, a_number, a_partA, a_partB, a_testX, a_testY, a_size, a_stack, a_code, a_first, a_second, a_codeX, a_codeY, a_partner, a_other, a_begin, a_end, a_word, a_wordNumber, a_constant, a_folded, a_work, a_workOn, a_openAt, a_middleAt, a_placeX, a_placeY, a_todo, a_value, a_held, a_operand, a_callAt, a_callIn)) (h : post (f_terms, f_termHeight, f_made, f_height, f_compiled, f_codeSize, f_wordCount, f_works, f_procedure, f_high1, f_at1, f_inside1, f_ahead1, f_undoing1, f_out1, f_calls1, f_state1, f_last, f_step1, a_termKind, a_termA, a_termB, a_termNumber, a_registersIn, a_termStack, a_kind, a_register, a_number, a_partA, a_partB, a_testX, a_testY, a_size, a_stack, a_code, a_first, a_second, a_codeX, a_codeY, a_partner, a_other, a_begin, a_end, a_word, a_wordNumber, a_constant, a_folded, a_work, a_workOn, a_openAt, a_middleAt, a_placeX, a_placeY, a_todo, a_value1, a_held1, a_operand, a_callAt1, a_callIn1)) :
    wpX_step post (f_terms, f_termHeight, f_made, f_height, f_compiled, f_codeSize, f_wordCount, f_works, f_procedure, f_high, nI (zm_x d (bg p) (ln p)), nI p, zx_a d, f_undoing, f_outcomeThen, f_calls, f_state, f_last, f_stepCount, a_termKind, a_termA, a_termB, a_termNumber, a_registersIn, a_termStack, a_kind, a_register, a_number, a_partA, a_partB, a_testX, a_testY, a_size, a_stack, a_code, a_first, a_second, a_codeX, a_codeY, a_partner, a_other, a_begin, a_end, a_word, a_wordNumber, a_constant, a_folded, a_work, a_workOn, a_openAt, a_middleAt, a_placeX, a_placeY, a_todo, a_value, a_held, a_operand, a_callAt, a_callIn) := by
  obtain ⟨_, h24, hS, hT, h200, hbeg, hend⟩ := hE.2 p hp
  unfold wpX_step
  dsimp only
  rw [zn_c (by omega : p < 2 ^ 31), hbeg, hend]
  unfold wX_step_32
  cases d with
  | false => exact br_f (by decide) (And.intro (vp_in_nI hp (by omega)) (br_t rfl (K _ h)))
  | true => exact br_t rfl (And.intro (vp_in_nI hp (by omega)) (br_t rfl (K _ h)))
theorem zx_r_test (hE : zx_env a_begin a_end wc S T nS nT bg ln) : zr_test S T (zc_Lay a_code a_first a_second a_codeX a_codeY a_partner a_other a_word a_wordNumber wc S T nS bg ln) (zx_W post wc f_terms f_termHeight f_made f_height f_compiled f_codeSize f_works f_procedure f_last a_termKind a_termA a_termB a_termNumber a_registersIn a_termStack a_kind a_register a_number a_partA a_partB a_testX a_testY a_size a_stack a_code a_first a_second a_codeX a_codeY a_partner a_other a_begin a_end a_word a_wordNumber a_constant a_folded a_work a_workOn a_openAt a_middleAt a_placeX a_placeY a_todo) := by
  intro uo i st p d a b cs ρ π hi ⟨s, lo, ⟨hp, hs, h16, hlo, hhi, n, hc⟩, ht⟩ hW fo va he op ca ci ho hv hh hcs
  obtain ⟨_, h24, hS, hT, h200, hbeg, hend⟩ := hE.2 p hp
  have hok := hS s hs
  refine zx_lp hi ?_ (fun op => hW fo va he op ca ci ho hv hh hcs)
  intro Q hQ
  cases n with
  | zero => exact hc.elim
  | succ n =>
  rcases (show zs_k (S p) s = 11 ∨ zs_k (S p) s = 12 from by rcases ht with h | h | h | h | h | h | h | h <;> first | exact Or.inl h.1 | exact Or.inr h.1) with hk | hk
  · obtain ⟨wx, wy, tx, ty, i1, i2, i3, i4, q1, q2, q3, q4, _, _⟩ := hc.2.2.1 hk
    obtain ⟨hx, hy⟩ := hok.2.2.2.2.2.2.2.1 (by omega)
    have hL := hok.2.2.2.2.2.2.2.2.2.2.1 hk
    rcases ht with ⟨_, hq, rfl, rfl⟩ | ⟨_, hq, rfl, rfl⟩ | ⟨_, hq, rfl, rfl⟩ | ⟨_, hq, rfl, rfl⟩ | ⟨h, _⟩ | ⟨h, _⟩ | ⟨h, _⟩ | ⟨h, _⟩
    · cases d with
      | false =>
        have hq : zm_t (T p) ρ (zs_x (S p) s) = true := hq
        exact zx_tA (i := lo) hE hp (by omega) (by omega) (c := 10) (by omega) i1 tx ty hx hy hv (fun R op h => by rw [hq]; exact zx_a10t q1 (by omega) i1.1 h) hQ
      | true =>
        have hq : zm_t (T p) ρ (zs_y (S p) s) = true := hq
        have ea : zm_e true lo (zs_L (S p) s) = (lo + 3 + zs_L (S p) (zs_a (S p) s) + zs_L (S p) (zs_b (S p) s)) + 1 := by show lo + zs_L (S p) s = _; omega
        rw [ea]
        exact zx_tB (i := lo + 3 + zs_L (S p) (zs_a (S p) s) + zs_L (S p) (zs_b (S p) s)) hE hp (by omega) (by omega) (c := 13) (by omega) i4 tx ty hx hy hv (fun R op h => by rw [hq]; exact zx_b13t q4 (by omega) i4.1 h) hQ
    · cases d with
      | false =>
        have hq : zm_t (T p) ρ (zs_x (S p) s) = false := hq
        have eb : zm_e false (lo + 3 + zs_L (S p) (zs_a (S p) s)) (zs_L (S p) (zs_b (S p) s)) = (lo + 2 + zs_L (S p) (zs_a (S p) s)) + 1 := by show lo + 3 + _ = _; omega
        rw [eb] at hQ
        exact zx_tA (i := lo) hE hp (by omega) (by omega) (c := 10) (by omega) i1 tx ty hx hy hv (fun R op h => by rw [hq]; exact zx_a10f q1 (by omega) i1.1 h) hQ
      | true =>
        have hq : zm_t (T p) ρ (zs_y (S p) s) = false := hq
        have ea : zm_e true lo (zs_L (S p) s) = (lo + 3 + zs_L (S p) (zs_a (S p) s) + zs_L (S p) (zs_b (S p) s)) + 1 := by show lo + zs_L (S p) s = _; omega
        rw [ea]
        exact zx_tB (i := lo + 3 + zs_L (S p) (zs_a (S p) s) + zs_L (S p) (zs_b (S p) s)) hE hp (by omega) (by omega) (c := 13) (by omega) i4 tx ty hx hy hv (fun R op h => by rw [hq]; exact zx_b13f q4 (by omega) i4.1 h) hQ
    · cases d with
      | false =>
        have hq : zm_t (T p) ρ (zs_y (S p) s) = true := hq
        have eb : zm_x false lo (zs_L (S p) s) = (lo + 3 + zs_L (S p) (zs_a (S p) s) + zs_L (S p) (zs_b (S p) s)) + 1 := by show lo + zs_L (S p) s = _; omega
        rw [eb] at hQ
        exact zx_tA (i := lo + 1 + zs_L (S p) (zs_a (S p) s)) hE hp (by omega) (by omega) (c := 11) (by omega) i2 tx ty hx hy hv (fun R op h => by rw [hq]; exact zx_a11t q3 (by omega) i2.1 h) hQ
      | true =>
        have hq : zm_t (T p) ρ (zs_x (S p) s) = true := hq
        exact zx_tB (i := lo) hE hp (by omega) (by omega) (c := 10) (by omega) i1 tx ty hx hy hv (fun R op h => by rw [hq]; exact zx_b10t q1 (by omega) i1.1 h) hQ
    · cases d with
      | false =>
        have hq : zm_t (T p) ρ (zs_y (S p) s) = false := hq
        have eb : zm_x false lo (zs_L (S p) s) = (lo + 3 + zs_L (S p) (zs_a (S p) s) + zs_L (S p) (zs_b (S p) s)) + 1 := by show lo + zs_L (S p) s = _; omega
        rw [eb] at hQ
        exact zx_tA (i := lo + 3 + zs_L (S p) (zs_a (S p) s) + zs_L (S p) (zs_b (S p) s)) hE hp (by omega) (by omega) (c := 13) (by omega) i4 tx ty hx hy hv (fun R op h => by rw [hq]; exact zx_a13f q4 (by omega) i4.1 h) hQ
      | true =>
        have hq : zm_t (T p) ρ (zs_x (S p) s) = false := hq
        have ea : zm_x true (lo + 3 + zs_L (S p) (zs_a (S p) s)) (zs_L (S p) (zs_b (S p) s)) = (lo + 2 + zs_L (S p) (zs_a (S p) s)) + 1 := by show lo + 3 + _ = _; omega
        rw [ea]
        exact zx_tB (i := lo + 2 + zs_L (S p) (zs_a (S p) s)) hE hp (by omega) (by omega) (c := 12) (by omega) i3 tx ty hx hy hv (fun R op h => by rw [hq]; exact zx_b12f q2 (by omega) i3.1 h) hQ
    all_goals exact absurd h (by omega)
  · obtain ⟨wx, wy, tx, ty, i1, i2, i4, q1, q3, q4, q5, _, _⟩ := hc.2.2.2 hk
    obtain ⟨hx, hy⟩ := hok.2.2.2.2.2.2.2.1 (by omega)
    have hL := hok.2.2.2.2.2.2.2.2.2.2.2.1 hk
    rcases ht with ⟨h, _⟩ | ⟨h, _⟩ | ⟨h, _⟩ | ⟨h, _⟩ | ⟨_, hq, rfl, rfl⟩ | ⟨_, hq, rfl, rfl⟩ | ⟨_, hq, rfl, rfl⟩ | ⟨_, hq, rfl, rfl⟩
    · exact absurd h (by omega)
    · exact absurd h (by omega)
    · exact absurd h (by omega)
    · exact absurd h (by omega)
    · cases d with
      | false =>
        have hq : zm_t (T p) ρ (zs_x (S p) s) = true := hq
        exact zx_tA (i := lo) hE hp (by omega) (by omega) (c := 14) (by omega) i1 tx ty hx hy hv (fun R op h => by rw [hq]; exact zx_a14t q1 (by omega) i1.1 h) hQ
      | true =>
        have hq : zm_t (T p) ρ (zs_y (S p) s) = true := hq
        have ea : zm_e true lo (zs_L (S p) s) = (lo + 2 + zs_L (S p) (zs_a (S p) s) + zs_L (S p) (zs_b (S p) s)) + 1 := by show lo + zs_L (S p) s = _; omega
        rw [ea]
        exact zx_tB (i := lo + 2 + zs_L (S p) (zs_a (S p) s) + zs_L (S p) (zs_b (S p) s)) hE hp (by omega) (by omega) (c := 16) (by omega) i4 tx ty hx hy hv (fun R op h => by rw [hq]; exact zx_b16t q4 (by omega) i4.1 h) hQ
    · cases d with
      | false =>
        have hq : zm_t (T p) ρ (zs_y (S p) s) = true := hq
        have eb : zm_x false lo (zs_L (S p) s) = (lo + 2 + zs_L (S p) (zs_a (S p) s) + zs_L (S p) (zs_b (S p) s)) + 1 := by show lo + zs_L (S p) s = _; omega
        rw [eb] at hQ
        exact zx_tA (i := lo + 1 + zs_L (S p) (zs_a (S p) s)) hE hp (by omega) (by omega) (c := 15) (by omega) i2 tx ty hx hy hv (fun R op h => by rw [hq]; exact zx_a15t q3 (by omega) i2.1 h) hQ
      | true =>
        have hq : zm_t (T p) ρ (zs_x (S p) s) = true := hq
        exact zx_tB (i := lo) hE hp (by omega) (by omega) (c := 14) (by omega) i1 tx ty hx hy hv (fun R op h => by rw [hq]; exact zx_b14t q1 (by omega) i1.1 h) hQ
    · cases d with
      | false =>
        have hq : zm_t (T p) ρ (zs_y (S p) s) = false := hq
        have eb : zm_e false (lo + 2 + zs_L (S p) (zs_a (S p) s)) (zs_L (S p) (zs_b (S p) s)) = (lo + 1 + zs_L (S p) (zs_a (S p) s)) + 1 := by show lo + 2 + _ = _; omega
        rw [eb] at hQ
        exact zx_tA (i := lo + 1 + zs_L (S p) (zs_a (S p) s)) hE hp (by omega) (by omega) (c := 15) (by omega) i2 tx ty hx hy hv (fun R op h => by rw [hq]; exact zx_a15f q3 (by omega) i2.1 h) hQ
      | true =>
        have hq : zm_t (T p) ρ (zs_x (S p) s) = false := hq
        exact zx_tB (i := lo) hE hp (by omega) (by omega) (c := 14) (by omega) i1 tx ty hx hy hv (fun R op h => by rw [hq]; exact zx_b14f q1 (by omega) i1.1 h) hQ
    · cases d with
      | false =>
        have hq : zm_t (T p) ρ (zs_x (S p) s) = false := hq
        exact zx_tA (i := lo + 2 + zs_L (S p) (zs_a (S p) s) + zs_L (S p) (zs_b (S p) s)) hE hp (by omega) (by omega) (c := 16) (by omega) i4 tx ty hx hy hv (fun R op h => by rw [hq]; exact zx_a16f q4 q5 (by omega) i4.1 h) hQ
      | true =>
        have hq : zm_t (T p) ρ (zs_y (S p) s) = false := hq
        have ea : zm_x true (lo + 2 + zs_L (S p) (zs_a (S p) s)) (zs_L (S p) (zs_b (S p) s)) = (lo + 1 + zs_L (S p) (zs_a (S p) s)) + 1 := by show lo + 2 + _ = _; omega
        rw [ea]
        exact zx_tB (i := lo + 1 + zs_L (S p) (zs_a (S p) s)) hE hp (by omega) (by omega) (c := 15) (by omega) i2 tx ty hx hy hv (fun R op h => by rw [hq]; exact zx_b15f q3 (by omega) i2.1 h) hQ
theorem zx_r_testF (hE : zx_env a_begin a_end wc S T nS nT bg ln) : zr_testF S T (zc_Lay a_code a_first a_second a_codeX a_codeY a_partner a_other a_word a_wordNumber wc S T nS bg ln) (zx_W post wc f_terms f_termHeight f_made f_height f_compiled f_codeSize f_works f_procedure f_last a_termKind a_termA a_termB a_termNumber a_registersIn a_termStack a_kind a_register a_number a_partA a_partB a_testX a_testY a_size a_stack a_code a_first a_second a_codeX a_codeY a_partner a_other a_begin a_end a_word a_wordNumber a_constant a_folded a_work a_workOn a_openAt a_middleAt a_placeX a_placeY a_todo) := by
  intro i st p d a cs ρ π hi ⟨s, lo, ⟨hp, hs, h16, hlo, hhi, n, hc⟩, ht⟩ hW fo va he op ca ci ho hv hh hcs
  obtain ⟨_, h24, hS, hT, h200, hbeg, hend⟩ := hE.2 p hp
  have hok := hS s hs
  rw [zx_u_n]
  have hW' := fun op => hW 1 va he op ca ci (fun o e => by injection e with e; rw [← e]; rfl) hv hh hcs
  rw [zx_u_s] at hW'
  refine zx_lp hi ?_ hW'
  intro Q hQ
  cases n with
  | zero => exact hc.elim
  | succ n =>
  rcases (show zs_k (S p) s = 11 ∨ zs_k (S p) s = 12 from by rcases ht with h | h | h | h <;> first | exact Or.inl h.1 | exact Or.inr h.1) with hk | hk
  · obtain ⟨wx, wy, tx, ty, i1, i2, i3, i4, q1, q2, q3, q4, _, _⟩ := hc.2.2.1 hk
    obtain ⟨hx, hy⟩ := hok.2.2.2.2.2.2.2.1 (by omega)
    have hL := hok.2.2.2.2.2.2.2.2.2.2.1 hk
    rcases ht with ⟨_, hq, rfl⟩ | ⟨_, hq, rfl⟩ | ⟨h, _⟩ | ⟨h, _⟩
    · cases d with
      | false =>
        have hq : zm_t (T p) ρ (zs_y (S p) s) = false := hq
        exact zx_tA (i := lo + 1 + zs_L (S p) (zs_a (S p) s)) hE hp (by omega) (by omega) (c := 11) (by omega) i2 tx ty hx hy hv (fun R op h => by rw [hq]; exact zx_a11f q3 (by omega) i2.1 h) hQ
      | true =>
        have hq : zm_t (T p) ρ (zs_x (S p) s) = false := hq
        exact zx_tB (i := lo) hE hp (by omega) (by omega) (c := 10) (by omega) i1 tx ty hx hy hv (fun R op h => by rw [hq]; exact zx_b10f q1 (by omega) i1.1 h) hQ
    · cases d with
      | false =>
        have hq : zm_t (T p) ρ (zs_y (S p) s) = true := hq
        exact zx_tA (i := lo + 3 + zs_L (S p) (zs_a (S p) s) + zs_L (S p) (zs_b (S p) s)) hE hp (by omega) (by omega) (c := 13) (by omega) i4 tx ty hx hy hv (fun R op h => by rw [hq]; exact zx_a13t q4 (by omega) i4.1 h) hQ
      | true =>
        have hq : zm_t (T p) ρ (zs_x (S p) s) = true := hq
        have ea : zm_x true (lo + 3 + zs_L (S p) (zs_a (S p) s)) (zs_L (S p) (zs_b (S p) s)) = (lo + 2 + zs_L (S p) (zs_a (S p) s)) + 1 := by show lo + 3 + _ = _; omega
        rw [ea] at hQ ⊢
        exact zx_tB (i := lo + 2 + zs_L (S p) (zs_a (S p) s)) hE hp (by omega) (by omega) (c := 12) (by omega) i3 tx ty hx hy hv (fun R op h => by rw [hq]; exact zx_b12t q2 (by omega) i3.1 h) hQ
    all_goals exact absurd h (by omega)
  · obtain ⟨wx, wy, tx, ty, i1, i2, i4, q1, q3, q4, q5, _, _⟩ := hc.2.2.2 hk
    obtain ⟨hx, hy⟩ := hok.2.2.2.2.2.2.2.1 (by omega)
    have hL := hok.2.2.2.2.2.2.2.2.2.2.2.1 hk
    rcases ht with ⟨h, _⟩ | ⟨h, _⟩ | ⟨_, hq, rfl⟩ | ⟨_, hq, rfl⟩
    · exact absurd h (by omega)
    · exact absurd h (by omega)
    · cases d with
      | false =>
        have hq : zm_t (T p) ρ (zs_x (S p) s) = false := hq
        exact zx_tA (i := lo) hE hp (by omega) (by omega) (c := 14) (by omega) i1 tx ty hx hy hv (fun R op h => by rw [hq]; exact zx_a14f q1 (by omega) i1.1 h) hQ
      | true =>
        have hq : zm_t (T p) ρ (zs_y (S p) s) = false := hq
        have ea : zm_e true lo (zs_L (S p) s) = (lo + 2 + zs_L (S p) (zs_a (S p) s) + zs_L (S p) (zs_b (S p) s)) + 1 := by show lo + zs_L (S p) s = _; omega
        rw [ea] at hQ ⊢
        exact zx_tB (i := lo + 2 + zs_L (S p) (zs_a (S p) s) + zs_L (S p) (zs_b (S p) s)) hE hp (by omega) (by omega) (c := 16) (by omega) i4 tx ty hx hy hv (fun R op h => by rw [hq]; exact zx_b16f q4 (by omega) i4.1 h) hQ
    · cases d with
      | false =>
        have hq : zm_t (T p) ρ (zs_x (S p) s) = true := hq
        exact zx_tA (i := lo + 2 + zs_L (S p) (zs_a (S p) s) + zs_L (S p) (zs_b (S p) s)) hE hp (by omega) (by omega) (c := 16) (by omega) i4 tx ty hx hy hv (fun R op h => by rw [hq]; exact zx_a16t q4 (by omega) i4.1 h) hQ
      | true =>
        have hq : zm_t (T p) ρ (zs_y (S p) s) = true := hq
        have ea : zm_x true (lo + 2 + zs_L (S p) (zs_a (S p) s)) (zs_L (S p) (zs_b (S p) s)) = (lo + 1 + zs_L (S p) (zs_a (S p) s)) + 1 := by show lo + 2 + _ = _; omega
        rw [ea] at hQ ⊢
        exact zx_tB (i := lo + 1 + zs_L (S p) (zs_a (S p) s)) hE hp (by omega) (by omega) (c := 15) (by omega) i2 tx ty hx hy hv (fun R op h => by rw [hq]; exact zx_b15t q3 (by omega) i2.1 h) hQ
theorem zx_r_fin (hE : zx_env a_begin a_end wc S T nS nT bg ln) : zr_fin bg ln (zx_W post wc f_terms f_termHeight f_made f_height f_compiled f_codeSize f_works f_procedure f_last a_termKind a_termA a_termB a_termNumber a_registersIn a_termStack a_kind a_register a_number a_partA a_partB a_testX a_testY a_size a_stack a_code a_first a_second a_codeX a_codeY a_partner a_other a_begin a_end a_word a_wordNumber a_constant a_folded a_work a_workOn a_openAt a_middleAt a_placeX a_placeY a_todo) (zx_F post wc f_terms f_termHeight f_made f_height f_compiled f_codeSize f_works f_procedure f_last a_termKind a_termA a_termB a_termNumber a_registersIn a_termStack a_kind a_register a_number a_partA a_partB a_testX a_testY a_size a_stack a_code a_first a_second a_codeX a_codeY a_partner a_other a_begin a_end a_word a_wordNumber a_constant a_folded a_work a_workOn a_openAt a_middleAt a_placeX a_placeY a_todo) := by
  intro uo i st p d ρ π hi hp ho3 hF fo va he op ca ci ho hv hh hcs
  obtain ⟨_, h24, hS, hT, h200, hbeg, hend⟩ := hE.2 p hp
  have key : ∀ (o : Nat) (ah un : Int32), o ≤ 3 → zx_F post wc f_terms f_termHeight f_made f_height f_compiled f_codeSize f_works f_procedure f_last a_termKind a_termA a_termB a_termNumber a_registersIn a_termStack a_kind a_register a_number a_partA a_partB a_testX a_testY a_size a_stack a_code a_first a_second a_codeX a_codeY a_partner a_other a_begin a_end a_word a_wordNumber a_constant a_folded a_work a_workOn a_openAt a_middleAt a_placeX a_placeY a_todo o st ρ π →
      wX_run_81 post (60001 - (i + 1)) (nI (i + 1)) f_terms f_termHeight f_made f_height f_compiled f_codeSize (nI wc) f_works f_procedure (nI π.length) (nI (zm_x d (bg p) (ln p))) (nI p) ah un fo 0 (nI o) f_last (nI st) a_termKind a_termA a_termB a_termNumber a_registersIn a_termStack a_kind a_register a_number a_partA a_partB a_testX a_testY a_size a_stack a_code a_first a_second a_codeX a_codeY a_partner a_other a_begin a_end a_word a_wordNumber a_constant a_folded a_work a_workOn a_openAt a_middleAt a_placeX a_placeY a_todo va he op ca ci := by
    intro o ah un h3 hF
    rw [show 60001 - (i + 1) = (60001 - (i + 2)) + 1 from by omega]
    have hp := hF (nI (zm_x d (bg p) (ln p))) (nI p) ah un fo 0 va he op ca ci hv hh
    refine br_c (fun _ => hp) (fun _ => br_f ?_ hp)
    intro e
    have : o = 0 ∨ o = 1 ∨ o = 2 ∨ o = 3 := by omega
    rcases this with rfl | rfl | rfl | rfl <;> exact absurd e (by decide)
  rw [show 60001 - i = (60001 - (i + 1)) + 1 from by omega]
  refine br_f (nI_ge (b := 60000) (by omega) (by omega)) (br_t rfl ?_)
  cases uo with
  | none =>
    rw [zx_u_n]
    refine zx_bnd hE hp ?_ (nm_r (nI_1 i) (key 0 (zx_a d) 0 (by omega) hF))
    intro Q h
    unfold wpX_leave
    exact br_t rfl (br_t rfl h)
  | some o =>
    rw [zx_u_s]
    refine zx_bnd hE hp ?_ (nm_r (nI_1 i) (key o (zx_a d) 1 ho3 hF))
    intro Q h
    unfold wpX_leave
    rw [ho o rfl] at h ⊢
    exact br_t rfl (br_f (by decide) h)
end
end
section
/-! ===== X's run obeys the rules: leaves, calls ===== -/
section
variable {f_terms f_termHeight f_made f_height f_compiled f_codeSize f_wordCount f_works f_procedure f_high f_at f_inside f_ahead f_undoing f_outcomeThen f_calls f_state f_last f_stepCount : Int32} {a_termKind a_termA a_termB a_termNumber a_registersIn a_termStack a_kind a_register a_number a_partA a_partB a_testX a_testY a_size a_stack a_code a_first a_second a_codeX a_codeY a_partner a_other a_begin a_end a_word a_wordNumber a_constant a_folded a_work a_workOn a_openAt a_middleAt a_placeX a_placeY a_todo a_value a_held a_operand a_callAt a_callIn : Nat → Int32}
variable {post : Int32 → SX → Prop} {S T : Nat → Nat → Nat → Nat} {nS nT bg ln : Nat → Nat} {wc : Nat}
theorem zx_r_leaf (hE : zx_env a_begin a_end wc S T nS nT bg ln) : zr_leaf S T (zc_Lay a_code a_first a_second a_codeX a_codeY a_partner a_other a_word a_wordNumber wc S T nS bg ln) (zx_W post wc f_terms f_termHeight f_made f_height f_compiled f_codeSize f_works f_procedure f_last a_termKind a_termA a_termB a_termNumber a_registersIn a_termStack a_kind a_register a_number a_partA a_partB a_testX a_testY a_size a_stack a_code a_first a_second a_codeX a_codeY a_partner a_other a_begin a_end a_word a_wordNumber a_constant a_folded a_work a_workOn a_openAt a_middleAt a_placeX a_placeY a_todo) := by
  intro uo i st p d lo s cs ρ π ρ' π' hi hu ⟨hp, hs, h16, hlo, hhi, n, hc⟩ hk9 h4 h5 hl hf hW fo va he op ca ci ho hv hh hcs
  obtain ⟨_, h24, hS, hT, h200, hbeg, hend⟩ := hE.2 p hp
  have hok := hS s hs
  have hL1 := (hok.2.2.2.2.2.2.2.2.1 hk9).1
  have hin : lo < bg p + ln p := by omega
  have hi2 : lo < 200 := by omega
  cases n with
  | zero => exact hc.elim
  | succ n =>
  obtain ⟨c1, c2, c3, c4⟩ := hc.1 hk9
  have hr6 := hok.2.1
  have hn6 := hok.2.2.1
  have hx := hok.2.2.2.2.1
  generalize hr : zs_r (S p) s = r at *
  generalize hnn : zs_n (S p) s = nn at *
  generalize hxx : zs_x (S p) s = x at *
  have hsto : (zs_k (S p) s = 2 ∧ d = false) ∨ (zs_k (S p) s = 3 ∧ d = true) → zm_sto r ρ π = some (ρ', π') →
      wX_run_81 post (60001 - i) (nI i) f_terms f_termHeight f_made f_height f_compiled f_codeSize (nI wc) f_works f_procedure (nI π.length) (nI (zm_e d lo 1)) (nI p) (zx_a d) (zx_u uo) fo (nI cs.length) (-6) f_last (nI st) a_termKind a_termA a_termB a_termNumber a_registersIn a_termStack a_kind a_register a_number a_partA a_partB a_testX a_testY a_size a_stack a_code a_first a_second a_codeX a_codeY a_partner a_other a_begin a_end a_word a_wordNumber a_constant a_folded a_work a_workOn a_openAt a_middleAt a_placeX a_placeY a_todo va he op ca ci := by
    intro hkd hf
    have hr := c2 (by omega)
    have h6 := hr6 (by omega)
    unfold zm_sto at hf
    by_cases e : π.length = 12
    · rw [if_pos e] at hf; exact absurd hf (by simp)
    rw [if_neg e] at hf
    injection hf with hf; injection hf with e1 e2
    subst e1; subst e2
    refine zx_lp hi ?_ (fun op => hW fo (upd va r 0) (upd he π.length (va r)) op ca ci ho (zx_vu hv rfl) ⟨pk_us.trans (hv r h6), zl_v_upd (Nat.le_refl _) hh⟩ hcs)
    intro Q hQ
    exact zx_s40 hE hp hlo hin c1 hk9 hu (fun R hR => zx_kst hi2 hr hkd (fun R h => zx_sto h6 (by omega) h) (hR _)) hQ
  have hfet : (zs_k (S p) s = 2 ∧ d = true) ∨ (zs_k (S p) s = 3 ∧ d = false) → zm_fet r ρ π = some (ρ', π') →
      wX_run_81 post (60001 - i) (nI i) f_terms f_termHeight f_made f_height f_compiled f_codeSize (nI wc) f_works f_procedure (nI π.length) (nI (zm_e d lo 1)) (nI p) (zx_a d) (zx_u uo) fo (nI cs.length) (-6) f_last (nI st) a_termKind a_termA a_termB a_termNumber a_registersIn a_termStack a_kind a_register a_number a_partA a_partB a_testX a_testY a_size a_stack a_code a_first a_second a_codeX a_codeY a_partner a_other a_begin a_end a_word a_wordNumber a_constant a_folded a_work a_workOn a_openAt a_middleAt a_placeX a_placeY a_todo va he op ca ci := by
    intro hkd hf
    have hr := c2 (by omega)
    have h6 := hr6 (by omega)
    cases π with
    | nil => exact absurd hf (by simp [zm_fet])
    | cons v π =>
    have hf : (if ρ r = 0 then some (upd ρ r v, π) else none) = some (ρ', π') := hf
    have hl' : π.length + 1 ≤ 12 := hl
    by_cases e : ρ r = 0
    · rw [if_pos e] at hf
      injection hf with hf; injection hf with e1 e2
      subst e1; subst e2
      refine zx_lp hi ?_ (fun op => hW fo (upd va r (he π.length)) he op ca ci ho (zx_vu hv hh.1) hh.2 hcs)
      intro Q hQ
      exact zx_s40 hE hp hlo hin c1 hk9 hu (fun R hR => zx_kft hi2 hr hkd (fun R h => zx_fet h6 (by omega) ((hv r h6).trans e) h) (hR _)) hQ
    · rw [if_neg e] at hf; exact absurd hf (by simp)
  rcases (show zs_k (S p) s = 0 ∨ zs_k (S p) s = 1 ∨ zs_k (S p) s = 2 ∨ zs_k (S p) s = 3 ∨ zs_k (S p) s = 6 ∨ zs_k (S p) s = 7 ∨ zs_k (S p) s = 8 ∨ zs_k (S p) s = 9 from by omega) with hk | hk | hk | hk | hk | hk | hk | hk
  · rw [hk] at hf c1
    have hf : some (ρ, π) = some (ρ', π') := hf
    injection hf with hf; injection hf with e1 e2
    subst e1; subst e2
    refine zx_lp hi ?_ (fun op => hW fo va he op ca ci ho hv hh hcs)
    intro Q hQ
    exact zx_s40 hE hp hlo hin c1 (by omega) hu (fun R hR => zx_k0 (hR _)) hQ
  · have hr := c2 (by omega)
    have hn := c3 (by omega)
    have h6 := hr6 (by omega)
    have h6n := hn6 hk
    rw [hk] at hf c1
    have hf : some (upd (upd ρ r (ρ nn)) nn (ρ r), π) = some (ρ', π') := hf
    injection hf with hf; injection hf with e1 e2
    subst e1; subst e2
    refine zx_lp hi ?_ (fun op => hW fo (upd (upd va r (va nn)) nn (va r)) he op ca ci ho (zx_vu (zx_vu hv (hv nn h6n)) (hv r h6)) hh hcs)
    intro Q hQ
    exact zx_s40 hE hp hlo hin c1 (by omega) hu (fun R hR => zx_k1 hi2 hr hn h6 h6n (hR _)) hQ
  · rw [hk] at hf
    cases d with
    | false => exact hsto (Or.inl ⟨hk, rfl⟩) hf
    | true => exact hfet (Or.inl ⟨hk, rfl⟩) hf
  · rw [hk] at hf
    cases d with
    | false => exact hfet (Or.inr ⟨hk, rfl⟩) hf
    | true => exact hsto (Or.inr ⟨hk, rfl⟩) hf
  · have hr := c2 (by omega)
    have h6 := hr6 (by omega)
    have hxn := hx (by omega)
    obtain ⟨w, hw, htw⟩ := c4 (by omega)
    rw [hk] at hf c1
    cases d with
    | false =>
      have hf : some (upd ρ r (ρ r + zt_val (T p) ρ x), π) = some (ρ', π') := hf
      injection hf with hf; injection hf with e1 e2
      subst e1; subst e2
      refine zx_lp hi ?_ (fun op => hW fo (upd va r (va r + zt_val (T p) ρ x)) he op ca ci ho (zx_vu hv (by rw [hv r h6])) hh hcs)
      intro Q hQ
      exact zx_s40 hE hp hlo hin c1 (by omega) hu (fun R hR => zx_kup hT h24 hxn hE.1 hv hi2 hr h6 hw htw (Or.inl rfl) hR) hQ
    | true =>
      have hf : some (upd ρ r (ρ r - zt_val (T p) ρ x), π) = some (ρ', π') := hf
      injection hf with hf; injection hf with e1 e2
      subst e1; subst e2
      refine zx_lp hi ?_ (fun op => hW fo (upd va r (va r - zt_val (T p) ρ x)) he op ca ci ho (zx_vu hv (by rw [hv r h6])) hh hcs)
      intro Q hQ
      exact zx_s40 hE hp hlo hin c1 (by omega) hu (fun R hR => zx_kup hT h24 hxn hE.1 hv hi2 hr h6 hw htw (Or.inl rfl) hR) hQ
  · have hr := c2 (by omega)
    have h6 := hr6 (by omega)
    have hxn := hx (by omega)
    obtain ⟨w, hw, htw⟩ := c4 (by omega)
    rw [hk] at hf c1
    cases d with
    | false =>
      have hf : some (upd ρ r (ρ r - zt_val (T p) ρ x), π) = some (ρ', π') := hf
      injection hf with hf; injection hf with e1 e2
      subst e1; subst e2
      refine zx_lp hi ?_ (fun op => hW fo (upd va r (va r - zt_val (T p) ρ x)) he op ca ci ho (zx_vu hv (by rw [hv r h6])) hh hcs)
      intro Q hQ
      exact zx_s40 hE hp hlo hin c1 (by omega) hu (fun R hR => zx_kup hT h24 hxn hE.1 hv hi2 hr h6 hw htw (Or.inr (Or.inl rfl)) hR) hQ
    | true =>
      have hf : some (upd ρ r (ρ r + zt_val (T p) ρ x), π) = some (ρ', π') := hf
      injection hf with hf; injection hf with e1 e2
      subst e1; subst e2
      refine zx_lp hi ?_ (fun op => hW fo (upd va r (va r + zt_val (T p) ρ x)) he op ca ci ho (zx_vu hv (by rw [hv r h6])) hh hcs)
      intro Q hQ
      exact zx_s40 hE hp hlo hin c1 (by omega) hu (fun R hR => zx_kup hT h24 hxn hE.1 hv hi2 hr h6 hw htw (Or.inr (Or.inl rfl)) hR) hQ
  · have hr := c2 (by omega)
    have h6 := hr6 (by omega)
    have hxn := hx (by omega)
    obtain ⟨w, hw, htw⟩ := c4 (by omega)
    rw [hk] at hf c1
    have hf : some (upd ρ r (ρ r ^^^ zt_val (T p) ρ x), π) = some (ρ', π') := hf
    injection hf with hf; injection hf with e1 e2
    subst e1; subst e2
    refine zx_lp hi ?_ (fun op => hW fo (upd va r (va r ^^^ zt_val (T p) ρ x)) he op ca ci ho (zx_vu hv (by rw [hv r h6])) hh hcs)
    intro Q hQ
    exact zx_s40 hE hp hlo hin c1 (by omega) hu (fun R hR => zx_kup hT h24 hxn hE.1 hv hi2 hr h6 hw htw (Or.inr (Or.inr rfl)) hR) hQ
  · have hxn := hx (by omega)
    obtain ⟨w, hw, htw⟩ := c4 (by omega)
    rw [hk] at hf c1
    have hf : (if zt_val (T p) ρ x = 0 then none else some (ρ, π)) = some (ρ', π') := hf
    by_cases e : zt_val (T p) ρ x = 0
    · rw [if_pos e] at hf; exact absurd hf (by simp)
    rw [if_neg e] at hf
    injection hf with hf; injection hf with e1 e2
    subst e1; subst e2
    refine zx_lp hi ?_ (fun op => hW fo va he op ca ci ho hv hh hcs)
    intro Q hQ
    exact zx_s40 hE hp hlo hin c1 (by omega) hu (fun R hR => zx_kch hT h24 hxn hE.1 hv hi2 hw htw (fun op => br_f e (hR op))) hQ
theorem zx_r_leafF (hE : zx_env a_begin a_end wc S T nS nT bg ln) : zr_leafF S T (zc_Lay a_code a_first a_second a_codeX a_codeY a_partner a_other a_word a_wordNumber wc S T nS bg ln) (zx_W post wc f_terms f_termHeight f_made f_height f_compiled f_codeSize f_works f_procedure f_last a_termKind a_termA a_termB a_termNumber a_registersIn a_termStack a_kind a_register a_number a_partA a_partB a_testX a_testY a_size a_stack a_code a_first a_second a_codeX a_codeY a_partner a_other a_begin a_end a_word a_wordNumber a_constant a_folded a_work a_workOn a_openAt a_middleAt a_placeX a_placeY a_todo) := by
  intro i st p d lo s cs ρ π hi hu ⟨hp, hs, h16, hlo, hhi, n, hc⟩ hk9 h4 h5 hl hf hW fo va he op ca ci ho hv hh hcs
  obtain ⟨_, h24, hS, hT, h200, hbeg, hend⟩ := hE.2 p hp
  have hok := hS s hs
  have hL1 := (hok.2.2.2.2.2.2.2.2.1 hk9).1
  have hin : lo < bg p + ln p := by omega
  have hi2 : lo < 200 := by omega
  cases n with
  | zero => exact hc.elim
  | succ n =>
  obtain ⟨c1, c2, c3, c4⟩ := hc.1 hk9
  have hr6 := hok.2.1
  have hx := hok.2.2.2.2.1
  have hW' := fun op => hW 1 va he op ca ci (fun o e => by injection e with e; rw [← e]; rfl) hv hh hcs
  rw [zx_u_s, ← zm_st_n] at hW'
  refine zx_lp hi ?_ hW'
  intro Q hQ
  generalize hr : zs_r (S p) s = r at *
  generalize hnn : zs_n (S p) s = nn at *
  generalize hxx : zs_x (S p) s = x at *
  have hsto : (zs_k (S p) s = 2 ∧ d = false) ∨ (zs_k (S p) s = 3 ∧ d = true) → zm_sto r ρ π = none →
      wpX_step Q (f_terms, f_termHeight, f_made, f_height, f_compiled, f_codeSize, nI wc, f_works, f_procedure, nI π.length, nI (zm_e d lo 1), nI p, zx_a d, zx_u none, fo, nI cs.length, (-6), f_last, nI st, a_termKind, a_termA, a_termB, a_termNumber, a_registersIn, a_termStack, a_kind, a_register, a_number, a_partA, a_partB, a_testX, a_testY, a_size, a_stack, a_code, a_first, a_second, a_codeX, a_codeY, a_partner, a_other, a_begin, a_end, a_word, a_wordNumber, a_constant, a_folded, a_work, a_workOn, a_openAt, a_middleAt, a_placeX, a_placeY, a_todo, va, he, op, ca, ci) := by
    intro hkd hf
    have hr := c2 (by omega)
    unfold zm_sto at hf
    by_cases e : π.length = 12
    · rw [e] at hQ ⊢
      exact zx_s40 hE hp hlo hin c1 hk9 (fun _ => hu) (fun R hR => zx_kst hi2 hr hkd (fun R h => zx_stoF h) (hR _)) hQ
    · rw [if_neg e] at hf; exact absurd hf (by simp)
  have hfet : (zs_k (S p) s = 2 ∧ d = true) ∨ (zs_k (S p) s = 3 ∧ d = false) → zm_fet r ρ π = none →
      wpX_step Q (f_terms, f_termHeight, f_made, f_height, f_compiled, f_codeSize, nI wc, f_works, f_procedure, nI π.length, nI (zm_e d lo 1), nI p, zx_a d, zx_u none, fo, nI cs.length, (-6), f_last, nI st, a_termKind, a_termA, a_termB, a_termNumber, a_registersIn, a_termStack, a_kind, a_register, a_number, a_partA, a_partB, a_testX, a_testY, a_size, a_stack, a_code, a_first, a_second, a_codeX, a_codeY, a_partner, a_other, a_begin, a_end, a_word, a_wordNumber, a_constant, a_folded, a_work, a_workOn, a_openAt, a_middleAt, a_placeX, a_placeY, a_todo, va, he, op, ca, ci) := by
    intro hkd hf
    have hr := c2 (by omega)
    have h6 := hr6 (by omega)
    have hz : π.length = 0 ∨ ¬ va r = 0 := by
      cases π with
      | nil => exact Or.inl rfl
      | cons v π =>
        have hf : (if ρ r = 0 then some (upd ρ r v, π) else none) = none := hf
        refine Or.inr fun e => ?_
        rw [if_pos ((hv r h6).symm.trans e)] at hf
        exact absurd hf (by simp)
    exact zx_s40 hE hp hlo hin c1 hk9 (fun _ => hu) (fun R hR => zx_kft hi2 hr hkd (fun R h => zx_fetF h6 hl hz h) (hR _)) hQ
  rcases (show zs_k (S p) s = 0 ∨ zs_k (S p) s = 1 ∨ zs_k (S p) s = 2 ∨ zs_k (S p) s = 3 ∨ zs_k (S p) s = 6 ∨ zs_k (S p) s = 7 ∨ zs_k (S p) s = 8 ∨ zs_k (S p) s = 9 from by omega) with hk | hk | hk | hk | hk | hk | hk | hk
  · rw [hk] at hf; exact absurd hf (by simp [zm_f])
  · rw [hk] at hf; exact absurd hf (by simp [zm_f])
  · rw [hk] at hf
    cases d with
    | false => exact hsto (Or.inl ⟨hk, rfl⟩) hf
    | true => exact hfet (Or.inl ⟨hk, rfl⟩) hf
  · rw [hk] at hf
    cases d with
    | false => exact hfet (Or.inr ⟨hk, rfl⟩) hf
    | true => exact hsto (Or.inr ⟨hk, rfl⟩) hf
  · rw [hk] at hf; cases d <;> exact absurd hf (by simp [zm_f])
  · rw [hk] at hf; cases d <;> exact absurd hf (by simp [zm_f])
  · rw [hk] at hf; exact absurd hf (by simp [zm_f])
  · have hxn := hx (by omega)
    obtain ⟨w, hw, htw⟩ := c4 (by omega)
    rw [hk] at hf c1
    have hf : (if zt_val (T p) ρ x = 0 then none else some (ρ, π)) = none := hf
    by_cases e : zt_val (T p) ρ x = 0
    · exact zx_s40 hE hp hlo hin c1 (by omega) (fun _ => hu) (fun R hR => zx_kch hT h24 hxn hE.1 hv hi2 hw htw (fun op => br_t e (hR op))) hQ
    · rw [if_neg e] at hf; exact absurd hf (by simp)
theorem zx_r_tired (hE : zx_env a_begin a_end wc S T nS nT bg ln) : zr_tired S (zc_Lay a_code a_first a_second a_codeX a_codeY a_partner a_other a_word a_wordNumber wc S T nS bg ln) (zx_W post wc f_terms f_termHeight f_made f_height f_compiled f_codeSize f_works f_procedure f_last a_termKind a_termA a_termB a_termNumber a_registersIn a_termStack a_kind a_register a_number a_partA a_partB a_testX a_testY a_size a_stack a_code a_first a_second a_codeX a_codeY a_partner a_other a_begin a_end a_word a_wordNumber a_constant a_folded a_work a_workOn a_openAt a_middleAt a_placeX a_placeY a_todo) := by
  intro i p d lo s cs ρ π hi ⟨hp, hs, h16, hlo, hhi, n, hc⟩ hk9 hW fo va he op ca ci ho hv hh hcs
  obtain ⟨_, h24, hS, hT, h200, hbeg, hend⟩ := hE.2 p hp
  have hL1 := ((hS s hs).2.2.2.2.2.2.2.2.1 hk9).1
  cases n with
  | zero => exact hc.elim
  | succ n =>
  have hW' := fun op => hW 2 va he op ca ci (fun o e => by injection e with e; rw [← e]; rfl) hv hh hcs
  rw [zx_u_s] at hW'
  rw [zx_u_n]
  refine zx_lp hi ?_ hW'
  intro Q hQ
  exact zx_tir hE hp hlo (by omega) (hc.1 hk9).1 hk9 (hQ _)
theorem zx_r_call (hE : zx_env a_begin a_end wc S T nS nT bg ln) : zr_call S (zc_Lay a_code a_first a_second a_codeX a_codeY a_partner a_other a_word a_wordNumber wc S T nS bg ln) bg ln (zx_W post wc f_terms f_termHeight f_made f_height f_compiled f_codeSize f_works f_procedure f_last a_termKind a_termA a_termB a_termNumber a_registersIn a_termStack a_kind a_register a_number a_partA a_partB a_testX a_testY a_size a_stack a_code a_first a_second a_codeX a_codeY a_partner a_other a_begin a_end a_word a_wordNumber a_constant a_folded a_work a_workOn a_openAt a_middleAt a_placeX a_placeY a_todo) := by
  intro uo i st p d lo s cs ρ π hi hu ⟨hp, hs, h16, hlo, hhi, n, hc⟩ hk hc6 hW fo va he op ca ci ho hv hh hcs
  obtain ⟨_, h24, hS, hT, h200, hbeg, hend⟩ := hE.2 p hp
  have hok := hS s hs
  have hL1 := (hok.2.2.2.2.2.2.2.2.1 (by omega)).1
  have hn3 := hok.2.2.2.1 hk
  cases n with
  | zero => exact hc.elim
  | succ n =>
  obtain ⟨c1, c2, c3, c4⟩ := hc.1 (by omega)
  refine zx_lp hi ?_ (fun op => hW fo va he op (upd ca cs.length (nI lo)) (upd ci cs.length (nI p)) ho hv hh ⟨pk_us, pk_us, zx_cs_upd (Nat.le_refl _) hcs⟩)
  intro Q hQ
  exact zx_s40 hE hp hlo (by omega) c1 (by omega) hu (fun R hR => zx_kcl (by omega) (c3 (by omega)) hk (fun R h => zx_call hE hn3 hp (by omega) hc6 hk h) (hR _)) hQ
theorem zx_r_deep (hE : zx_env a_begin a_end wc S T nS nT bg ln) : zr_deep S (zc_Lay a_code a_first a_second a_codeX a_codeY a_partner a_other a_word a_wordNumber wc S T nS bg ln) (zx_W post wc f_terms f_termHeight f_made f_height f_compiled f_codeSize f_works f_procedure f_last a_termKind a_termA a_termB a_termNumber a_registersIn a_termStack a_kind a_register a_number a_partA a_partB a_testX a_testY a_size a_stack a_code a_first a_second a_codeX a_codeY a_partner a_other a_begin a_end a_word a_wordNumber a_constant a_folded a_work a_workOn a_openAt a_middleAt a_placeX a_placeY a_todo) := by
  intro i st p d lo s cs ρ π hi hu ⟨hp, hs, h16, hlo, hhi, n, hc⟩ hk hc6 hW fo va he op ca ci ho hv hh hcs
  obtain ⟨_, h24, hS, hT, h200, hbeg, hend⟩ := hE.2 p hp
  have hok := hS s hs
  have hL1 := (hok.2.2.2.2.2.2.2.2.1 (by omega)).1
  cases n with
  | zero => exact hc.elim
  | succ n =>
  obtain ⟨c1, c2, c3, c4⟩ := hc.1 (by omega)
  have hW' := fun op => hW 3 va he op ca ci (fun o e => by injection e with e; rw [← e]; rfl) hv hh hcs
  rw [zx_u_s, ← zm_st_n] at hW'
  refine zx_lp hi ?_ hW'
  intro Q hQ
  rw [hc6] at hQ ⊢
  exact zx_s40 hE hp hlo (by omega) c1 (by omega) (fun _ => hu) (fun R hR => zx_kcl (by omega) (c3 (by omega)) hk (fun R h => zx_deep h) (hR _)) hQ
theorem zx_leave {Q : SX → Prop} {lo q k c : Nat} {d : Bool} (hlo : lo < 200) (hk : k = 4 ∨ k = 5) (hc : c < 6) (h1 : a_callAt c = nI lo) (h2 : a_callIn c = nI q) (h3 : a_code lo = nI k)
    (h : Q (f_terms, f_termHeight, f_made, f_height, f_compiled, f_codeSize, f_wordCount, f_works, f_procedure, f_high, nI (zm_x d lo 1), nI q, zx_a d, f_undoing, f_outcomeThen, nI c, f_state, f_last, f_stepCount, a_termKind, a_termA, a_termB, a_termNumber, a_registersIn, a_termStack, a_kind, a_register, a_number, a_partA, a_partB, a_testX, a_testY, a_size, a_stack, a_code, a_first, a_second, a_codeX, a_codeY, a_partner, a_other, a_begin, a_end, a_word, a_wordNumber, a_constant, a_folded, a_work, a_workOn, a_openAt, a_middleAt, a_placeX, a_placeY, a_todo, a_value, a_held, a_operand, a_callAt, a_callIn)) : wpX_leave Q (f_terms, f_termHeight, f_made, f_height, f_compiled, f_codeSize, f_wordCount, f_works, f_procedure, f_high, f_at, f_inside, zx_a (zm_dd k d), f_undoing, f_outcomeThen, nI (c + 1), f_state, f_last, f_stepCount, a_termKind, a_termA, a_termB, a_termNumber, a_registersIn, a_termStack, a_kind, a_register, a_number, a_partA, a_partB, a_testX, a_testY, a_size, a_stack, a_code, a_first, a_second, a_codeX, a_codeY, a_partner, a_other, a_begin, a_end, a_word, a_wordNumber, a_constant, a_folded, a_work, a_workOn, a_openAt, a_middleAt, a_placeX, a_placeY, a_todo, a_value, a_held, a_operand, a_callAt, a_callIn) := by
  unfold wpX_leave
  dsimp only
  refine br_f (zn_ne (b := 0) (by omega) (by omega) (by omega)) (nm_r (nI_pred c) ?_)
  rw [zn_c (by omega : c < 2 ^ 31), h1, h2]
  refine And.intro (vp_in_nI hc (by omega)) (nm_e (And.intro (vp_in_nI hc (by omega)) (nm_e (And.intro (vp_in_nI hlo (by omega)) ?_))))
  rw [zn_c (by omega : lo < 2 ^ 31), h3]
  unfold wX_leave_80 wX_leave_88
  rcases hk with rfl | rfl
  · cases d with
    | false => exact br_t rfl (br_t rfl (And.intro (zx_nb false) (And.intro (zx_fb false) (zx_pass (d := false) h))))
    | true => exact br_t rfl (br_f (by decide) (And.intro (zx_nb true) (And.intro (zx_fb true) (zx_pass (d := true) h))))
  · cases d with
    | false => exact br_f (by decide) (br_t rfl (And.intro (zx_nb false) (And.intro (zx_fb false) (zx_pass (d := false) h))))
    | true => exact br_f (by decide) (br_f (by decide) (And.intro (zx_nb true) (And.intro (zx_fb true) (zx_pass (d := true) h))))
theorem zx_r_leave (hE : zx_env a_begin a_end wc S T nS nT bg ln) : zr_leave S (zc_Lay a_code a_first a_second a_codeX a_codeY a_partner a_other a_word a_wordNumber wc S T nS bg ln) bg ln (zx_W post wc f_terms f_termHeight f_made f_height f_compiled f_codeSize f_works f_procedure f_last a_termKind a_termA a_termB a_termNumber a_registersIn a_termStack a_kind a_register a_number a_partA a_partB a_testX a_testY a_size a_stack a_code a_first a_second a_codeX a_codeY a_partner a_other a_begin a_end a_word a_wordNumber a_constant a_folded a_work a_workOn a_openAt a_middleAt a_placeX a_placeY a_todo) := by
  intro uo i st q d lo s cs ρ π hi ⟨hp, hs, h16, hlo, hhi, n, hc⟩ hk hc6 hW fo va he op ca ci ho hv hh hcs
  obtain ⟨_, h24, hS, hT, h200, hbeg, hend⟩ := hE.2 q hp
  have hok := hS s hs
  have hL1 := (hok.2.2.2.2.2.2.2.2.1 (by omega)).1
  have hn3 := hok.2.2.2.1 hk
  cases n with
  | zero => exact hc.elim
  | succ n =>
  obtain ⟨c1, c2, c3, c4⟩ := hc.1 (by omega)
  refine zx_lp hi ?_ (fun op => hW fo va he op ca ci ho hv hh hcs.2.2)
  intro Q hQ
  exact zx_bnd hE hn3 (fun R h => zx_leave (by omega) hk hc6 hcs.1 hcs.2.1 c1 h) (hQ _)
theorem zx_XR (hE : zx_env a_begin a_end wc S T nS nT bg ln) : zm_XR S T (zc_Lay a_code a_first a_second a_codeX a_codeY a_partner a_other a_word a_wordNumber wc S T nS bg ln) bg ln (zx_W post wc f_terms f_termHeight f_made f_height f_compiled f_codeSize f_works f_procedure f_last a_termKind a_termA a_termB a_termNumber a_registersIn a_termStack a_kind a_register a_number a_partA a_partB a_testX a_testY a_size a_stack a_code a_first a_second a_codeX a_codeY a_partner a_other a_begin a_end a_word a_wordNumber a_constant a_folded a_work a_workOn a_openAt a_middleAt a_placeX a_placeY a_todo) (zx_F post wc f_terms f_termHeight f_made f_height f_compiled f_codeSize f_works f_procedure f_last a_termKind a_termA a_termB a_termNumber a_registersIn a_termStack a_kind a_register a_number a_partA a_partB a_testX a_testY a_size a_stack a_code a_first a_second a_codeX a_codeY a_partner a_other a_begin a_end a_word a_wordNumber a_constant a_folded a_work a_workOn a_openAt a_middleAt a_placeX a_placeY a_todo) :=
  ⟨zx_r_leaf hE, zx_r_leafF hE, zx_r_tired hE, zx_r_call hE, zx_r_deep hE, zx_r_leave hE, zx_r_test hE, zx_r_testF hE, zx_r_fin hE⟩
end
end
section
/-! ===== Y: values, tests, the stack ===== -/
def zi_TY (base n : Nat) (T : Nat → Nat → Nat) (kd lf rt : Nat → Int32) : Prop := ∀ t, t < n → kd (base + t) = nI (zt_k T t) ∧ (7 ≤ zt_k T t → lf (base + t) = nI (zt_n T t)) ∧
  (zt_k T t ≤ 6 → lf (base + t) = nI (zt_a T t) ∧ rt (base + t) = nI (zt_b T t))
def zi_SY (base n : Nat) (S : Nat → Nat → Nat) (so re nu fi se te ex : Nat → Int32) : Prop := ∀ s, s < n → so (base + s) = nI (zs_k S s) ∧
  ((1 ≤ zs_k S s ∧ zs_k S s ≤ 3) ∨ (6 ≤ zs_k S s ∧ zs_k S s ≤ 8) → re (base + s) = nI (zs_r S s)) ∧ (zs_k S s = 1 ∨ zs_k S s = 4 ∨ zs_k S s = 5 → nu (base + s) = nI (zs_n S s)) ∧
  ((6 ≤ zs_k S s ∧ zs_k S s ≤ 9) ∨ 11 ≤ zs_k S s → te (base + s) = nI (zs_x S s)) ∧ (11 ≤ zs_k S s → ex (base + s) = nI (zs_y S s)) ∧
  (10 ≤ zs_k S s → fi (base + s) = nI (zs_a S s) ∧ se (base + s) = nI (zs_b S s))
theorem zn_m24 (p x : Nat) : 24 * nI p + nI x = nI (24 * p + x) := by rw [show (24 : Int32) = nI 24 from rfl, pk_mul, nI_add]
theorem zn_m16 (p x : Nat) : 16 * nI p + nI x = nI (16 * p + x) := by rw [show (16 : Int32) = nI 16 from rfl, pk_mul, nI_add]
theorem zn_d16 {p s : Nat} (hp : p < 4) (hs : s < 16) : nI (16 * p + s) / 16 = nI p := by
  rw [show (16 : Int32) = nI 16 from rfl, pk_div (by omega) (by omega) (by omega)]
  exact congrArg nI (by omega)
theorem zn_g16 {p s c : Nat} (hp : p < 4) (hs : s < 16) : nI (16 * p + s) / 16 * 16 + nI c = nI (16 * p + c) := by
  rw [zn_d16 hp hs, show (16 : Int32) = nI 16 from rfl, pk_mul, nI_add, Nat.mul_comm]
theorem zn_bb (b : Bool) : vp_nar .boolean (zx_b b) = zx_b b := by cases b <;> rfl
theorem zx_nbb (d : Bool) : narrow .boolean (.int (zx_b d)) = .int (zx_b d) := by cases d <;> rfl
theorem zx_fbb (d : Bool) : fits .boolean (.int (zx_b d)) = true := by
  have h := fits_narrow_boolean (zx_b d)
  rw [zx_nbb] at h
  exact h
section
variable {g_depth g_pieceDepth g_high g_oldHigh g_open g_next g_back g_calls g_end g_steps : Int32} {b_sorts b_regs b_numbers b_firsts b_seconds b_tests b_exits b_sizes b_kinds b_lefts b_rights b_masks b_counts b_values b_stack b_pieces b_registers b_pile b_oldRegisters b_oldPile b_openNode b_openPart b_openBack : Nat → Int32}
theorem zy_val2 {post : Int32 → SY → Prop} {T : Nat → Nat → Nat} {N p t : Nat} {ρ : Nat → Int32} (ho : zt_ok T N) (hN : N ≤ 24) (hp : p < 3) (hm : zi_TY (24 * p) N T b_kinds b_lefts b_rights) (hv : ∀ r, r < 6 → b_registers r = ρ r) (ht : t < N)
    (K : ∀ vs : Nat → Int32, post (zt_val T ρ t) (g_depth, g_pieceDepth, g_high, g_oldHigh, g_open, g_next, g_back, g_calls, g_end, g_steps, b_sorts, b_regs, b_numbers, b_firsts, b_seconds, b_tests, b_exits, b_sizes, b_kinds, b_lefts, b_rights, b_masks, b_counts, vs, b_stack, b_pieces, b_registers, b_pile, b_oldRegisters, b_oldPile, b_openNode, b_openPart, b_openBack)) :
    ∀ (k x n : Nat) (vs : Nat → Int32), x + k = t + 1 → k < n → (∀ j, j < x → vs j = zt_val T ρ j) → wY_value_2 post (nI p) (nI t) g_depth g_pieceDepth g_high g_oldHigh g_open g_next g_back g_calls g_end g_steps n (nI x) b_sorts b_regs b_numbers b_firsts b_seconds b_tests b_exits b_sizes b_kinds b_lefts b_rights b_masks b_counts vs b_stack b_pieces b_registers b_pile b_oldRegisters b_oldPile b_openNode b_openPart b_openBack := by
  intro k
  induction k with
  | zero =>
    intro x n vs hx hn hvs
    obtain ⟨n, rfl⟩ : ∃ k, n = k + 1 := ⟨n - 1, by omega⟩
    refine br_t (nI_lt (by omega) (by omega)) (And.intro (vp_in_nI (by omega) (by omega)) ?_)
    rw [zn_c (by omega : t < 2 ^ 31), hvs t (by omega)]
    exact K vs
  | succ k ih =>
    intro x n vs hx hn hvs
    obtain ⟨n, rfl⟩ : ∃ k, n = k + 1 := ⟨n - 1, by omega⟩
    have hxN : x < N := by omega
    have hok := ho x hxN
    obtain ⟨m1, m2, m3⟩ := hm x hxN
    have hin : vp_in (24 * nI p + nI x) 96 := by rw [zn_m24]; exact vp_in_nI (by omega) (by omega)
    have hcl : (24 * nI p + nI x).toNatClampNeg = 24 * p + x := by rw [zn_m24]; exact zn_c (by omega)
    have hx24 : vp_in (nI x) 24 := vp_in_nI (by omega) (by omega)
    have hnext : ∀ v : Int32, v = zt_val T ρ x → wY_value_2 post (nI p) (nI t) g_depth g_pieceDepth g_high g_oldHigh g_open g_next g_back g_calls g_end g_steps n (nI (x + 1)) b_sorts b_regs b_numbers b_firsts b_seconds b_tests b_exits b_sizes b_kinds b_lefts b_rights b_masks b_counts (upd vs (nI x).toNatClampNeg v) b_stack b_pieces b_registers b_pile b_oldRegisters b_oldPile b_openNode b_openPart b_openBack := by
      intro v hv
      rw [zn_c (by omega : x < 2 ^ 31)]
      refine ih (x + 1) n _ (by omega) (by omega) ?_
      intro j hj
      by_cases e : j = x
      · rw [e, pk_us, hv]
      · rw [pk_un e, hvs j (by omega)]
    have hk8 := hok.1
    have ek : b_kinds (24 * nI p + nI x).toNatClampNeg = nI (zt_k T x) := by rw [hcl]; exact m1
    refine br_f (nI_nlt (by omega) (by omega)) (And.intro hin (nm_r ek (And.intro hin (nm_e (And.intro hin (nm_e ?_))))))
    by_cases h7 : zt_k T x = 7
    · rw [h7]
      refine br_t rfl (And.intro hx24 (nm_e (nm_r (nI_1 x) ?_)))
      exact hnext _ (by rw [hcl, m2 (by omega), zt_val7 h7])
    refine br_f (zn_ne (b := 7) (by omega) (by omega) h7) ?_
    by_cases h8 : zt_k T x = 8
    · have hr := hok.2.2.1 h8
      rw [h8]
      have e : b_lefts (24 * nI p + nI x).toNatClampNeg = nI (zt_n T x) := by rw [hcl, m2 (by omega)]
      rw [e]
      refine br_t rfl (And.intro (vp_in_nI hr (by omega)) (And.intro hx24 (nm_e (nm_r (nI_1 x) ?_))))
      exact hnext _ (by rw [zn_c (by omega), hv _ hr, zt_val8 h8])
    refine br_f (zn_ne (b := 8) (by omega) (by omega) h8) ?_
    have h6 : zt_k T x ≤ 6 := by have := hok.1; omega
    obtain ⟨ha, hb, _⟩ := hok.2.2.2.1 h6
    have e1 : b_lefts (24 * nI p + nI x).toNatClampNeg = nI (zt_a T x) := by rw [hcl, (m3 h6).1]
    have e2 : b_rights (24 * nI p + nI x).toNatClampNeg = nI (zt_b T x) := by rw [hcl, (m3 h6).2]
    rw [e1, e2, zn_c (by omega : zt_a T x < 2 ^ 31), zn_c (by omega : zt_b T x < 2 ^ 31), hvs _ ha, hvs _ hb]
    refine And.intro (vp_in_nI (by omega) (by omega)) (And.intro (vp_in_nI (by omega) (by omega)) (zy_comb h6 (And.intro hx24 (nm_e (nm_r (nI_1 x) ?_)))))
    exact hnext _ (zt_valop ho hxN h6).symm
theorem zy_val {post : Int32 → SY → Prop} {T : Nat → Nat → Nat} {N p t : Nat} {ρ : Nat → Int32} (ho : zt_ok T N) (hN : N ≤ 24) (hp : p < 3) (hm : zi_TY (24 * p) N T b_kinds b_lefts b_rights) (hv : ∀ r, r < 6 → b_registers r = ρ r) (ht : t < N)
    (K : ∀ vs : Nat → Int32, post (zt_val T ρ t) (g_depth, g_pieceDepth, g_high, g_oldHigh, g_open, g_next, g_back, g_calls, g_end, g_steps, b_sorts, b_regs, b_numbers, b_firsts, b_seconds, b_tests, b_exits, b_sizes, b_kinds, b_lefts, b_rights, b_masks, b_counts, vs, b_stack, b_pieces, b_registers, b_pile, b_oldRegisters, b_oldPile, b_openNode, b_openPart, b_openBack)) : wpY_value post (g_depth, g_pieceDepth, g_high, g_oldHigh, g_open, g_next, g_back, g_calls, g_end, g_steps, b_sorts, b_regs, b_numbers, b_firsts, b_seconds, b_tests, b_exits, b_sizes, b_kinds, b_lefts, b_rights, b_masks, b_counts, b_values, b_stack, b_pieces, b_registers, b_pile, b_oldRegisters, b_oldPile, b_openNode, b_openPart, b_openBack) (nI p) (nI t) :=
  Exists.intro (t + 2) (zy_val2 ho hN hp hm hv ht K (t + 1) 0 (t + 2) b_values (by omega) (by omega) (fun j hj => absurd hj (Nat.not_lt_zero j)))
theorem zy_isT {post : Int32 → SY → Prop} {T : Nat → Nat → Nat} {N p s x y : Nat} {ρ : Nat → Int32} {d : Bool} (nr : Bool) (ho : zt_ok T N) (hN : N ≤ 24) (hp : p < 3) (hs : s < 16) (hm : zi_TY (24 * p) N T b_kinds b_lefts b_rights)
    (hv : ∀ r, r < 6 → b_registers r = ρ r) (hx : x < N) (hy : y < N) (ex : b_tests (16 * p + s) = nI x) (ey : b_exits (16 * p + s) = nI y)
    (K : ∀ vs : Nat → Int32, post (zx_b (zm_q T ρ (if nr then d else !d) x y)) (g_depth, g_pieceDepth, g_high, g_oldHigh, g_open, g_next, zx_b d, g_calls, g_end, g_steps, b_sorts, b_regs, b_numbers, b_firsts, b_seconds, b_tests, b_exits, b_sizes, b_kinds, b_lefts, b_rights, b_masks, b_counts, vs, b_stack, b_pieces, b_registers, b_pile, b_oldRegisters, b_oldPile, b_openNode, b_openPart, b_openBack)) : wpY_isTrue post (g_depth, g_pieceDepth, g_high, g_oldHigh, g_open, g_next, zx_b d, g_calls, g_end, g_steps, b_sorts, b_regs, b_numbers, b_firsts, b_seconds, b_tests, b_exits, b_sizes, b_kinds, b_lefts, b_rights, b_masks, b_counts, b_values, b_stack, b_pieces, b_registers, b_pile, b_oldRegisters, b_oldPile, b_openNode, b_openPart, b_openBack) (nI (16 * p + s)) (zx_b nr) := by
  have h23 : ∀ e : Nat, e < N → zm_q T ρ (if nr then d else !d) x y = zm_t T ρ e → wY_isTrue_23 post (nI (16 * p + s)) (nI e) g_depth g_pieceDepth g_high g_oldHigh g_open g_next (zx_b d) g_calls g_end g_steps b_sorts b_regs b_numbers b_firsts b_seconds b_tests b_exits b_sizes b_kinds b_lefts b_rights b_masks b_counts b_values b_stack b_pieces b_registers b_pile b_oldRegisters b_oldPile b_openNode b_openPart b_openBack := by
    intro e he hq
    rw [hq] at K
    unfold wY_isTrue_23
    refine And.intro (by decide) ?_
    rw [zn_d16 (by omega) hs]
    refine zy_val ho hN hp hm hv he fun vs => ?_
    dsimp only
    exact br_c (fun z => by rw [zx_bf z] at K; exact K vs) (fun z => by rw [zx_bt z] at K; exact K vs)
  unfold wpY_isTrue
  dsimp only
  rw [zn_c (by omega : 16 * p + s < 2 ^ 31), ex, ey]
  cases nr with
  | false =>
    cases d with
    | false => exact br_t rfl (And.intro (vp_in_nI (by omega) (by omega)) (h23 y hy rfl))
    | true => exact br_f (by decide) (And.intro (vp_in_nI (by omega) (by omega)) (h23 x hx rfl))
  | true =>
    cases d with
    | false => exact br_f (by decide) (And.intro (vp_in_nI (by omega) (by omega)) (h23 x hx rfl))
    | true => exact br_t rfl (And.intro (vp_in_nI (by omega) (by omega)) (h23 y hy rfl))
theorem zy_push {post : SY → Prop} {c m : Nat} {pt : Int32} {d : Bool} (hc : c < 140)
    (h : post (g_depth, g_pieceDepth, g_high, g_oldHigh, nI (c + 1), g_next, zx_b d, g_calls, g_end, g_steps, b_sorts, b_regs, b_numbers, b_firsts, b_seconds, b_tests, b_exits, b_sizes, b_kinds, b_lefts, b_rights, b_masks, b_counts, b_values, b_stack, b_pieces, b_registers, b_pile, b_oldRegisters, b_oldPile, upd b_openNode c (nI m), upd b_openPart c pt, upd b_openBack c (zx_b d))) : wpY_push post (g_depth, g_pieceDepth, g_high, g_oldHigh, nI c, g_next, zx_b d, g_calls, g_end, g_steps, b_sorts, b_regs, b_numbers, b_firsts, b_seconds, b_tests, b_exits, b_sizes, b_kinds, b_lefts, b_rights, b_masks, b_counts, b_values, b_stack, b_pieces, b_registers, b_pile, b_oldRegisters, b_oldPile, b_openNode, b_openPart, b_openBack) (nI m) pt := by
  unfold wpY_push
  dsimp only
  rw [zn_c (by omega : c < 2 ^ 31), zn_bb]
  exact And.intro (vp_in_nI hc (by omega)) (nm_e (And.intro (vp_in_nI hc (by omega)) (nm_e (And.intro (vp_in_nI hc (by omega)) (nm_e (nm_r (nI_1 c) h))))))
theorem zy_go {post : SY → Prop} {p s c : Nat} (hp : p < 4) (hs : s < 16) (h : post (g_depth, g_pieceDepth, g_high, g_oldHigh, g_open, nI (16 * p + c), g_back, g_calls, g_end, g_steps, b_sorts, b_regs, b_numbers, b_firsts, b_seconds, b_tests, b_exits, b_sizes, b_kinds, b_lefts, b_rights, b_masks, b_counts, b_values, b_stack, b_pieces, b_registers, b_pile, b_oldRegisters, b_oldPile, b_openNode, b_openPart, b_openBack)) : wpY_go post (g_depth, g_pieceDepth, g_high, g_oldHigh, g_open, g_next, g_back, g_calls, g_end, g_steps, b_sorts, b_regs, b_numbers, b_firsts, b_seconds, b_tests, b_exits, b_sizes, b_kinds, b_lefts, b_rights, b_masks, b_counts, b_values, b_stack, b_pieces, b_registers, b_pile, b_oldRegisters, b_oldPile, b_openNode, b_openPart, b_openBack) (nI (16 * p + s)) (nI c) := by
  unfold wpY_go
  dsimp only
  rw [zn_g16 hp hs]
  exact And.intro (by decide) (nm_e h)
end
end
section
/-! ===== Y's run: a statement is begun ===== -/
def zy_nx (p : Nat) : Option Nat → Int32
  | none => (-1)
  | some s => nI (16 * p + s)
def zy_fr (on op ob : Nat → Int32) : List zm_Fr → Prop
  | [] => True
  | (q, s, pt, d, _) :: fs => on fs.length = nI (16 * q + s) ∧ op fs.length = nI pt ∧ ob fs.length = zx_b d ∧ zy_fr on op ob fs
theorem zy_fr_upd {on op ob : Nat → Int32} {k : Nat} {a b c : Int32} : ∀ {fs : List zm_Fr}, fs.length ≤ k → zy_fr on op ob fs → zy_fr (upd on k a) (upd op k b) (upd ob k c) fs := by
  intro fs
  induction fs with
  | nil => intro _ _; exact trivial
  | cons f fs ih =>
    obtain ⟨q, s, pt, d, lo⟩ := f
    intro hk h
    have hk' : fs.length + 1 ≤ k := hk
    exact ⟨by rw [pk_un (by omega)]; exact h.1, by rw [pk_un (by omega)]; exact h.2.1, by rw [pk_un (by omega)]; exact h.2.2.1, ih (by omega) h.2.2.2⟩
def zy_env (so re nu fi se te ex sz kd lf rt : Nat → Int32) (S T : Nat → Nat → Nat → Nat) (nS nT : Nat → Nat) : Prop := ∀ p, p < 3 → nS p ≤ 16 ∧ 1 ≤ nS p ∧ nT p ≤ 24 ∧ zs_ok (S p) (T p) (nS p) (nT p) ∧ zt_ok (T p) (nT p) ∧
  sz p = nI (nS p) ∧ zi_TY (24 * p) (nT p) (T p) kd lf rt ∧ zi_SY (16 * p) (nS p) (S p) so re nu fi se te ex
def zy_W (post : Int32 → SY → Prop) (S : Nat → Nat → Nat → Nat) (g_depth g_pieceDepth g_oldHigh : Int32) (b_sorts b_regs b_numbers b_firsts b_seconds b_tests b_exits b_sizes b_kinds b_lefts b_rights b_masks b_counts b_stack b_pieces b_oldRegisters b_oldPile : Nat → Int32) : zm_WY := fun n fs nx p d st ρ π =>
  ∀ (b_values b_registers b_pile b_openNode b_openPart b_openBack : Nat → Int32), (∀ r, r < 6 → b_registers r = ρ r) → zl_v b_pile π → zy_fr b_openNode b_openPart b_openBack fs →
    wY_run_65 post n g_depth g_pieceDepth (nI π.length) g_oldHigh (nI fs.length) (zy_nx p nx) (zx_b d) (nI (zm_cl S fs)) (-1) (nI st) b_sorts b_regs b_numbers b_firsts b_seconds b_tests b_exits b_sizes b_kinds b_lefts b_rights b_masks b_counts b_values b_stack b_pieces b_registers b_pile b_oldRegisters b_oldPile b_openNode b_openPart b_openBack
def zy_G (post : Int32 → SY → Prop) (g_depth g_pieceDepth g_oldHigh : Int32) (b_sorts b_regs b_numbers b_firsts b_seconds b_tests b_exits b_sizes b_kinds b_lefts b_rights b_masks b_counts b_stack b_pieces b_oldRegisters b_oldPile : Nat → Int32) : Nat → Nat → Prop := fun o st =>
  ∀ (g_high g_open g_next g_back g_calls : Int32) (b_values b_registers b_pile b_openNode b_openPart b_openBack : Nat → Int32) (n : Nat), wY_run_65 post (n + 1) g_depth g_pieceDepth g_high g_oldHigh g_open g_next g_back g_calls (nI o) (nI st) b_sorts b_regs b_numbers b_firsts b_seconds b_tests b_exits b_sizes b_kinds b_lefts b_rights b_masks b_counts b_values b_stack b_pieces b_registers b_pile b_oldRegisters b_oldPile b_openNode b_openPart b_openBack
def zy_F (post : Int32 → SY → Prop) (g_depth g_pieceDepth g_oldHigh : Int32) (b_sorts b_regs b_numbers b_firsts b_seconds b_tests b_exits b_sizes b_kinds b_lefts b_rights b_masks b_counts b_stack b_pieces b_oldRegisters b_oldPile : Nat → Int32) : Nat → (Nat → Int32) → List Int32 → Prop := fun st ρ π =>
  ∀ (g_open g_next g_back g_calls : Int32) (b_values b_registers b_pile b_openNode b_openPart b_openBack : Nat → Int32) (n : Nat), (∀ r, r < 6 → b_registers r = ρ r) → zl_v b_pile π →
    wY_run_65 post (n + 1) g_depth g_pieceDepth (nI π.length) g_oldHigh g_open g_next g_back g_calls 0 (nI st) b_sorts b_regs b_numbers b_firsts b_seconds b_tests b_exits b_sizes b_kinds b_lefts b_rights b_masks b_counts b_values b_stack b_pieces b_registers b_pile b_oldRegisters b_oldPile b_openNode b_openPart b_openBack
section
variable {g_depth g_pieceDepth g_high g_oldHigh g_open g_next g_back g_calls g_end g_steps : Int32} {b_sorts b_regs b_numbers b_firsts b_seconds b_tests b_exits b_sizes b_kinds b_lefts b_rights b_masks b_counts b_values b_stack b_pieces b_registers b_pile b_oldRegisters b_oldPile b_openNode b_openPart b_openBack : Nat → Int32}
variable {post : Int32 → SY → Prop} {S T : Nat → Nat → Nat → Nat} {nS nT : Nat → Nat} {Lay : Nat → Nat → Nat → Prop} {g_high1 g_open1 g_next1 g_back1 g_calls1 g_end1 g_steps1 : Int32} {b_registers1 b_pile1 b_openNode1 b_openPart1 b_openBack1 : Nat → Int32}
theorem zy_lpB {n m : Nat} (hm : m < 64) (hs : ∀ Q : SY → Prop, (∀ vs : Nat → Int32, Q (g_depth, g_pieceDepth, g_high1, g_oldHigh, g_open1, g_next1, g_back1, g_calls1, g_end1, g_steps1, b_sorts, b_regs, b_numbers, b_firsts, b_seconds, b_tests, b_exits, b_sizes, b_kinds, b_lefts, b_rights, b_masks, b_counts, vs, b_stack, b_pieces, b_registers1, b_pile1, b_oldRegisters, b_oldPile, b_openNode1, b_openPart1, b_openBack1)) → wpY_begin Q (g_depth, g_pieceDepth, g_high, g_oldHigh, g_open, nI m, g_back, g_calls, (-1), g_steps, b_sorts, b_regs, b_numbers, b_firsts, b_seconds, b_tests, b_exits, b_sizes, b_kinds, b_lefts, b_rights, b_masks, b_counts, b_values, b_stack, b_pieces, b_registers, b_pile, b_oldRegisters, b_oldPile, b_openNode, b_openPart, b_openBack))
    (h : ∀ vs : Nat → Int32, wY_run_65 post n g_depth g_pieceDepth g_high1 g_oldHigh g_open1 g_next1 g_back1 g_calls1 g_end1 g_steps1 b_sorts b_regs b_numbers b_firsts b_seconds b_tests b_exits b_sizes b_kinds b_lefts b_rights b_masks b_counts vs b_stack b_pieces b_registers1 b_pile1 b_oldRegisters b_oldPile b_openNode1 b_openPart1 b_openBack1) : wY_run_65 post (n + 1) g_depth g_pieceDepth g_high g_oldHigh g_open (nI m) g_back g_calls (-1) g_steps b_sorts b_regs b_numbers b_firsts b_seconds b_tests b_exits b_sizes b_kinds b_lefts b_rights b_masks b_counts b_values b_stack b_pieces b_registers b_pile b_oldRegisters b_oldPile b_openNode b_openPart b_openBack := by
  refine br_t rfl (br_f (nI_pos (by omega)) ?_)
  exact hs _ h
theorem zy_lpP {n : Nat} (hs : ∀ Q : SY → Prop, (∀ vs : Nat → Int32, Q (g_depth, g_pieceDepth, g_high1, g_oldHigh, g_open1, g_next1, g_back1, g_calls1, g_end1, g_steps1, b_sorts, b_regs, b_numbers, b_firsts, b_seconds, b_tests, b_exits, b_sizes, b_kinds, b_lefts, b_rights, b_masks, b_counts, vs, b_stack, b_pieces, b_registers1, b_pile1, b_oldRegisters, b_oldPile, b_openNode1, b_openPart1, b_openBack1)) → wpY_passUp Q (g_depth, g_pieceDepth, g_high, g_oldHigh, g_open, (-1), g_back, g_calls, (-1), g_steps, b_sorts, b_regs, b_numbers, b_firsts, b_seconds, b_tests, b_exits, b_sizes, b_kinds, b_lefts, b_rights, b_masks, b_counts, b_values, b_stack, b_pieces, b_registers, b_pile, b_oldRegisters, b_oldPile, b_openNode, b_openPart, b_openBack))
    (h : ∀ vs : Nat → Int32, wY_run_65 post n g_depth g_pieceDepth g_high1 g_oldHigh g_open1 g_next1 g_back1 g_calls1 g_end1 g_steps1 b_sorts b_regs b_numbers b_firsts b_seconds b_tests b_exits b_sizes b_kinds b_lefts b_rights b_masks b_counts vs b_stack b_pieces b_registers1 b_pile1 b_oldRegisters b_oldPile b_openNode1 b_openPart1 b_openBack1) : wY_run_65 post (n + 1) g_depth g_pieceDepth g_high g_oldHigh g_open (-1) g_back g_calls (-1) g_steps b_sorts b_regs b_numbers b_firsts b_seconds b_tests b_exits b_sizes b_kinds b_lefts b_rights b_masks b_counts b_values b_stack b_pieces b_registers b_pile b_oldRegisters b_oldPile b_openNode b_openPart b_openBack := by
  refine br_t rfl (br_t (by decide) ?_)
  exact hs _ h
/-- a leaf -/
theorem zy_bs {Q : SY → Prop} {p s k : Nat} (hp : p < 3) (hs : s < 16) (hk : b_sorts (16 * p + s) = nI k) (hk9 : k ≤ 9)
    (K : ∀ R : SY → Prop, (∀ vs : Nat → Int32, R (g_depth, g_pieceDepth, g_high1, g_oldHigh, g_open1, g_next1, g_back1, g_calls1, g_end1, g_steps1, b_sorts, b_regs, b_numbers, b_firsts, b_seconds, b_tests, b_exits, b_sizes, b_kinds, b_lefts, b_rights, b_masks, b_counts, vs, b_stack, b_pieces, b_registers1, b_pile1, b_oldRegisters, b_oldPile, b_openNode1, b_openPart1, b_openBack1)) → wpY_simply R (g_depth, g_pieceDepth, g_high, g_oldHigh, g_open, (-1), g_back, g_calls, g_end, g_steps, b_sorts, b_regs, b_numbers, b_firsts, b_seconds, b_tests, b_exits, b_sizes, b_kinds, b_lefts, b_rights, b_masks, b_counts, b_values, b_stack, b_pieces, b_registers, b_pile, b_oldRegisters, b_oldPile, b_openNode, b_openPart, b_openBack) (nI (16 * p + s)))
    (h : ∀ vs : Nat → Int32, Q (g_depth, g_pieceDepth, g_high1, g_oldHigh, g_open1, g_next1, g_back1, g_calls1, g_end1, g_steps1, b_sorts, b_regs, b_numbers, b_firsts, b_seconds, b_tests, b_exits, b_sizes, b_kinds, b_lefts, b_rights, b_masks, b_counts, vs, b_stack, b_pieces, b_registers1, b_pile1, b_oldRegisters, b_oldPile, b_openNode1, b_openPart1, b_openBack1)) : wpY_begin Q (g_depth, g_pieceDepth, g_high, g_oldHigh, g_open, nI (16 * p + s), g_back, g_calls, g_end, g_steps, b_sorts, b_regs, b_numbers, b_firsts, b_seconds, b_tests, b_exits, b_sizes, b_kinds, b_lefts, b_rights, b_masks, b_counts, b_values, b_stack, b_pieces, b_registers, b_pile, b_oldRegisters, b_oldPile, b_openNode, b_openPart, b_openBack) := by
  unfold wpY_begin
  dsimp only
  rw [zn_c (by omega : 16 * p + s < 2 ^ 31), hk]
  exact And.intro (vp_in_nI (by omega) (by omega)) (br_f (nI_ge (b := 10) (by omega) (by omega)) (K _ h))
theorem zy_s0 {Q : SY → Prop} {m st : Nat} (hm : m < 64) (hk : b_sorts m = nI 0) (hst : st < 300) (h : Q (g_depth, g_pieceDepth, g_high, g_oldHigh, g_open, g_next, g_back, g_calls, g_end, nI (st + 1), b_sorts, b_regs, b_numbers, b_firsts, b_seconds, b_tests, b_exits, b_sizes, b_kinds, b_lefts, b_rights, b_masks, b_counts, b_values, b_stack, b_pieces, b_registers, b_pile, b_oldRegisters, b_oldPile, b_openNode, b_openPart, b_openBack)) : wpY_simply Q (g_depth, g_pieceDepth, g_high, g_oldHigh, g_open, g_next, g_back, g_calls, g_end, nI st, b_sorts, b_regs, b_numbers, b_firsts, b_seconds, b_tests, b_exits, b_sizes, b_kinds, b_lefts, b_rights, b_masks, b_counts, b_values, b_stack, b_pieces, b_registers, b_pile, b_oldRegisters, b_oldPile, b_openNode, b_openPart, b_openBack) (nI m) := by
  unfold wpY_simply
  dsimp only
  rw [zn_c (by omega : m < 2 ^ 31), hk]
  refine br_f (zn_ne (b := 300) (by omega) (by omega) (by omega)) (nm_r (nI_1 st) (And.intro (vp_in_nI hm (by omega)) (nm_e (And.intro (vp_in_nI hm (by omega)) (nm_e ?_)))))
  exact br_f (by decide) (br_f (by decide) (br_f (by decide) (br_f (by decide) (br_f (by decide) (br_t (by decide) h)))))
theorem zy_stir {Q : SY → Prop} {m : Nat} (h : Q (g_depth, g_pieceDepth, g_high, g_oldHigh, g_open, g_next, g_back, g_calls, nI 2, nI 300, b_sorts, b_regs, b_numbers, b_firsts, b_seconds, b_tests, b_exits, b_sizes, b_kinds, b_lefts, b_rights, b_masks, b_counts, b_values, b_stack, b_pieces, b_registers, b_pile, b_oldRegisters, b_oldPile, b_openNode, b_openPart, b_openBack)) : wpY_simply Q (g_depth, g_pieceDepth, g_high, g_oldHigh, g_open, g_next, g_back, g_calls, g_end, nI 300, b_sorts, b_regs, b_numbers, b_firsts, b_seconds, b_tests, b_exits, b_sizes, b_kinds, b_lefts, b_rights, b_masks, b_counts, b_values, b_stack, b_pieces, b_registers, b_pile, b_oldRegisters, b_oldPile, b_openNode, b_openPart, b_openBack) (nI m) := by
  unfold wpY_simply
  exact br_t rfl h
theorem zy_s1 {Q : SY → Prop} {m st r n : Nat} (hm : m < 64) (hk : b_sorts m = nI 1) (hr : b_regs m = nI r) (hn : b_numbers m = nI n) (hr6 : r < 6) (hn6 : n < 6) (hst : st < 300)
    (h : Q (g_depth, g_pieceDepth, g_high, g_oldHigh, g_open, g_next, g_back, g_calls, g_end, nI (st + 1), b_sorts, b_regs, b_numbers, b_firsts, b_seconds, b_tests, b_exits, b_sizes, b_kinds, b_lefts, b_rights, b_masks, b_counts, b_values, b_stack, b_pieces, upd (upd b_registers r (b_registers n)) n (b_registers r), b_pile, b_oldRegisters, b_oldPile, b_openNode, b_openPart, b_openBack)) : wpY_simply Q (g_depth, g_pieceDepth, g_high, g_oldHigh, g_open, g_next, g_back, g_calls, g_end, nI st, b_sorts, b_regs, b_numbers, b_firsts, b_seconds, b_tests, b_exits, b_sizes, b_kinds, b_lefts, b_rights, b_masks, b_counts, b_values, b_stack, b_pieces, b_registers, b_pile, b_oldRegisters, b_oldPile, b_openNode, b_openPart, b_openBack) (nI m) := by
  unfold wpY_simply
  dsimp only
  rw [zn_c (by omega : m < 2 ^ 31), hk, hr, hn]
  refine br_f (zn_ne (b := 300) (by omega) (by omega) (by omega)) (nm_r (nI_1 st) (And.intro (vp_in_nI hm (by omega)) (nm_e (And.intro (vp_in_nI hm (by omega)) (nm_e ?_)))))
  refine br_t rfl (And.intro (vp_in_nI hm (by omega)) (nm_e ?_))
  rw [zn_c (by omega : r < 2 ^ 31), zn_c (by omega : n < 2 ^ 31)]
  exact And.intro (vp_in_nI hr6 (by omega)) (nm_e (And.intro (vp_in_nI hn6 (by omega)) (And.intro (vp_in_nI hr6 (by omega)) (nm_e (And.intro (vp_in_nI hn6 (by omega)) (nm_e h))))))
theorem zy_on {Q : SY → Prop} {r k : Nat} (hr : r < 6) (hk : k < 12) (h : Q (g_depth, g_pieceDepth, nI (k + 1), g_oldHigh, g_open, g_next, g_back, g_calls, g_end, g_steps, b_sorts, b_regs, b_numbers, b_firsts, b_seconds, b_tests, b_exits, b_sizes, b_kinds, b_lefts, b_rights, b_masks, b_counts, b_values, b_stack, b_pieces, upd b_registers r 0, upd b_pile k (b_registers r), b_oldRegisters, b_oldPile, b_openNode, b_openPart, b_openBack)) : wpY_onto Q (g_depth, g_pieceDepth, nI k, g_oldHigh, g_open, g_next, g_back, g_calls, g_end, g_steps, b_sorts, b_regs, b_numbers, b_firsts, b_seconds, b_tests, b_exits, b_sizes, b_kinds, b_lefts, b_rights, b_masks, b_counts, b_values, b_stack, b_pieces, b_registers, b_pile, b_oldRegisters, b_oldPile, b_openNode, b_openPart, b_openBack) (nI r) := by
  unfold wpY_onto
  dsimp only
  rw [zn_c (by omega : r < 2 ^ 31), zn_c (by omega : k < 2 ^ 31)]
  exact br_f (zn_ne (b := 12) (by omega) (by omega) (by omega)) (And.intro (vp_in_nI hr (by omega)) (And.intro (vp_in_nI hk (by omega)) (nm_e (nm_r (nI_1 k) (And.intro (vp_in_nI hr (by omega)) (nm_e h))))))
theorem zy_onF {Q : SY → Prop} {r : Nat} (h : Q (g_depth, g_pieceDepth, nI 12, g_oldHigh, g_open, g_next, g_back, g_calls, nI 1, g_steps, b_sorts, b_regs, b_numbers, b_firsts, b_seconds, b_tests, b_exits, b_sizes, b_kinds, b_lefts, b_rights, b_masks, b_counts, b_values, b_stack, b_pieces, b_registers, b_pile, b_oldRegisters, b_oldPile, b_openNode, b_openPart, b_openBack)) : wpY_onto Q (g_depth, g_pieceDepth, nI 12, g_oldHigh, g_open, g_next, g_back, g_calls, g_end, g_steps, b_sorts, b_regs, b_numbers, b_firsts, b_seconds, b_tests, b_exits, b_sizes, b_kinds, b_lefts, b_rights, b_masks, b_counts, b_values, b_stack, b_pieces, b_registers, b_pile, b_oldRegisters, b_oldPile, b_openNode, b_openPart, b_openBack) (nI r) := by
  unfold wpY_onto
  exact br_t rfl h
theorem zy_off {Q : SY → Prop} {r k : Nat} (hr : r < 6) (hk : k < 12) (hz : b_registers r = 0) (h : Q (g_depth, g_pieceDepth, nI k, g_oldHigh, g_open, g_next, g_back, g_calls, g_end, g_steps, b_sorts, b_regs, b_numbers, b_firsts, b_seconds, b_tests, b_exits, b_sizes, b_kinds, b_lefts, b_rights, b_masks, b_counts, b_values, b_stack, b_pieces, upd b_registers r (b_pile k), b_pile, b_oldRegisters, b_oldPile, b_openNode, b_openPart, b_openBack)) : wpY_off Q (g_depth, g_pieceDepth, nI (k + 1), g_oldHigh, g_open, g_next, g_back, g_calls, g_end, g_steps, b_sorts, b_regs, b_numbers, b_firsts, b_seconds, b_tests, b_exits, b_sizes, b_kinds, b_lefts, b_rights, b_masks, b_counts, b_values, b_stack, b_pieces, b_registers, b_pile, b_oldRegisters, b_oldPile, b_openNode, b_openPart, b_openBack) (nI r) := by
  unfold wpY_off
  dsimp only
  rw [zn_c (by omega : r < 2 ^ 31), hz]
  refine br_f (zn_ne (b := 0) (by omega) (by omega) (by omega)) (And.intro (vp_in_nI hr (by omega)) (br_t rfl (nm_r (nI_pred k) ?_)))
  rw [zn_c (by omega : k < 2 ^ 31)]
  exact And.intro (vp_in_nI hk (by omega)) (And.intro (vp_in_nI hr (by omega)) (nm_e h))
theorem zy_offF {Q : SY → Prop} {r k : Nat} (hr : r < 6) (hk : k ≤ 12) (hz : k = 0 ∨ ¬ b_registers r = 0) (h : Q (g_depth, g_pieceDepth, nI k, g_oldHigh, g_open, g_next, g_back, g_calls, nI 1, g_steps, b_sorts, b_regs, b_numbers, b_firsts, b_seconds, b_tests, b_exits, b_sizes, b_kinds, b_lefts, b_rights, b_masks, b_counts, b_values, b_stack, b_pieces, b_registers, b_pile, b_oldRegisters, b_oldPile, b_openNode, b_openPart, b_openBack)) : wpY_off Q (g_depth, g_pieceDepth, nI k, g_oldHigh, g_open, g_next, g_back, g_calls, g_end, g_steps, b_sorts, b_regs, b_numbers, b_firsts, b_seconds, b_tests, b_exits, b_sizes, b_kinds, b_lefts, b_rights, b_masks, b_counts, b_values, b_stack, b_pieces, b_registers, b_pile, b_oldRegisters, b_oldPile, b_openNode, b_openPart, b_openBack) (nI r) := by
  unfold wpY_off
  dsimp only
  rw [zn_c (by omega : r < 2 ^ 31)]
  by_cases h0 : k = 0
  · subst h0
    exact br_t rfl h
  · exact br_f (zn_ne (b := 0) (by omega) (by omega) h0) (And.intro (vp_in_nI hr (by omega)) (br_f (hz.resolve_left h0) h))
theorem zy_sst {Q : SY → Prop} {m st r k : Nat} {d : Bool} (hm : m < 64) (hk : b_sorts m = nI k) (hr : b_regs m = nI r) (hst : st < 300) (hkd : (k = 2 ∧ d = false) ∨ (k = 3 ∧ d = true))
    (K : ∀ R : SY → Prop, R (g_depth, g_pieceDepth, g_high1, g_oldHigh, g_open1, g_next1, g_back1, g_calls1, g_end1, g_steps1, b_sorts, b_regs, b_numbers, b_firsts, b_seconds, b_tests, b_exits, b_sizes, b_kinds, b_lefts, b_rights, b_masks, b_counts, b_values, b_stack, b_pieces, b_registers1, b_pile1, b_oldRegisters, b_oldPile, b_openNode1, b_openPart1, b_openBack1) → wpY_onto R (g_depth, g_pieceDepth, g_high, g_oldHigh, g_open, g_next, zx_b d, g_calls, g_end, nI (st + 1), b_sorts, b_regs, b_numbers, b_firsts, b_seconds, b_tests, b_exits, b_sizes, b_kinds, b_lefts, b_rights, b_masks, b_counts, b_values, b_stack, b_pieces, b_registers, b_pile, b_oldRegisters, b_oldPile, b_openNode, b_openPart, b_openBack) (nI r)) (h : Q (g_depth, g_pieceDepth, g_high1, g_oldHigh, g_open1, g_next1, g_back1, g_calls1, g_end1, g_steps1, b_sorts, b_regs, b_numbers, b_firsts, b_seconds, b_tests, b_exits, b_sizes, b_kinds, b_lefts, b_rights, b_masks, b_counts, b_values, b_stack, b_pieces, b_registers1, b_pile1, b_oldRegisters, b_oldPile, b_openNode1, b_openPart1, b_openBack1)) : wpY_simply Q (g_depth, g_pieceDepth, g_high, g_oldHigh, g_open, g_next, zx_b d, g_calls, g_end, nI st, b_sorts, b_regs, b_numbers, b_firsts, b_seconds, b_tests, b_exits, b_sizes, b_kinds, b_lefts, b_rights, b_masks, b_counts, b_values, b_stack, b_pieces, b_registers, b_pile, b_oldRegisters, b_oldPile, b_openNode, b_openPart, b_openBack) (nI m) := by
  unfold wpY_simply
  dsimp only
  rw [zn_c (by omega : m < 2 ^ 31), hk, hr]
  refine br_f (zn_ne (b := 300) (by omega) (by omega) (by omega)) (nm_r (nI_1 st) (And.intro (vp_in_nI hm (by omega)) (nm_e (And.intro (vp_in_nI hm (by omega)) (nm_e ?_)))))
  unfold wY_simply_96 wY_simply_106
  rcases hkd with ⟨rfl, rfl⟩ | ⟨rfl, rfl⟩
  · exact br_f (by decide) (br_t rfl (br_t rfl (br_f (by decide) (K _ h))))
  · exact br_f (by decide) (br_f (by decide) (br_t rfl (br_f (by decide) (br_f (by decide) (K _ h)))))
theorem zy_sft {Q : SY → Prop} {m st r k : Nat} {d : Bool} (hm : m < 64) (hk : b_sorts m = nI k) (hr : b_regs m = nI r) (hst : st < 300) (hkd : (k = 2 ∧ d = true) ∨ (k = 3 ∧ d = false))
    (K : ∀ R : SY → Prop, R (g_depth, g_pieceDepth, g_high1, g_oldHigh, g_open1, g_next1, g_back1, g_calls1, g_end1, g_steps1, b_sorts, b_regs, b_numbers, b_firsts, b_seconds, b_tests, b_exits, b_sizes, b_kinds, b_lefts, b_rights, b_masks, b_counts, b_values, b_stack, b_pieces, b_registers1, b_pile1, b_oldRegisters, b_oldPile, b_openNode1, b_openPart1, b_openBack1) → wpY_off R (g_depth, g_pieceDepth, g_high, g_oldHigh, g_open, g_next, zx_b d, g_calls, g_end, nI (st + 1), b_sorts, b_regs, b_numbers, b_firsts, b_seconds, b_tests, b_exits, b_sizes, b_kinds, b_lefts, b_rights, b_masks, b_counts, b_values, b_stack, b_pieces, b_registers, b_pile, b_oldRegisters, b_oldPile, b_openNode, b_openPart, b_openBack) (nI r)) (h : Q (g_depth, g_pieceDepth, g_high1, g_oldHigh, g_open1, g_next1, g_back1, g_calls1, g_end1, g_steps1, b_sorts, b_regs, b_numbers, b_firsts, b_seconds, b_tests, b_exits, b_sizes, b_kinds, b_lefts, b_rights, b_masks, b_counts, b_values, b_stack, b_pieces, b_registers1, b_pile1, b_oldRegisters, b_oldPile, b_openNode1, b_openPart1, b_openBack1)) : wpY_simply Q (g_depth, g_pieceDepth, g_high, g_oldHigh, g_open, g_next, zx_b d, g_calls, g_end, nI st, b_sorts, b_regs, b_numbers, b_firsts, b_seconds, b_tests, b_exits, b_sizes, b_kinds, b_lefts, b_rights, b_masks, b_counts, b_values, b_stack, b_pieces, b_registers, b_pile, b_oldRegisters, b_oldPile, b_openNode, b_openPart, b_openBack) (nI m) := by
  unfold wpY_simply
  dsimp only
  rw [zn_c (by omega : m < 2 ^ 31), hk, hr]
  refine br_f (zn_ne (b := 300) (by omega) (by omega) (by omega)) (nm_r (nI_1 st) (And.intro (vp_in_nI hm (by omega)) (nm_e (And.intro (vp_in_nI hm (by omega)) (nm_e ?_)))))
  unfold wY_simply_96 wY_simply_106
  rcases hkd with ⟨rfl, rfl⟩ | ⟨rfl, rfl⟩
  · exact br_f (by decide) (br_t rfl (br_t rfl (br_t rfl (K _ h))))
  · exact br_f (by decide) (br_f (by decide) (br_t rfl (br_f (by decide) (br_t rfl (K _ h)))))
theorem zy_scl {Q : SY → Prop} {m st k : Nat} (hm : m < 64) (hk : b_sorts m = nI k) (hst : st < 300) (hk45 : k = 4 ∨ k = 5)
    (K : ∀ R : SY → Prop, R (g_depth, g_pieceDepth, g_high1, g_oldHigh, g_open1, g_next1, g_back1, g_calls1, g_end1, g_steps1, b_sorts, b_regs, b_numbers, b_firsts, b_seconds, b_tests, b_exits, b_sizes, b_kinds, b_lefts, b_rights, b_masks, b_counts, b_values, b_stack, b_pieces, b_registers1, b_pile1, b_oldRegisters, b_oldPile, b_openNode1, b_openPart1, b_openBack1) → wpY_enter R (g_depth, g_pieceDepth, g_high, g_oldHigh, g_open, g_next, g_back, g_calls, g_end, nI (st + 1), b_sorts, b_regs, b_numbers, b_firsts, b_seconds, b_tests, b_exits, b_sizes, b_kinds, b_lefts, b_rights, b_masks, b_counts, b_values, b_stack, b_pieces, b_registers, b_pile, b_oldRegisters, b_oldPile, b_openNode, b_openPart, b_openBack) (nI m)) (h : Q (g_depth, g_pieceDepth, g_high1, g_oldHigh, g_open1, g_next1, g_back1, g_calls1, g_end1, g_steps1, b_sorts, b_regs, b_numbers, b_firsts, b_seconds, b_tests, b_exits, b_sizes, b_kinds, b_lefts, b_rights, b_masks, b_counts, b_values, b_stack, b_pieces, b_registers1, b_pile1, b_oldRegisters, b_oldPile, b_openNode1, b_openPart1, b_openBack1)) : wpY_simply Q (g_depth, g_pieceDepth, g_high, g_oldHigh, g_open, g_next, g_back, g_calls, g_end, nI st, b_sorts, b_regs, b_numbers, b_firsts, b_seconds, b_tests, b_exits, b_sizes, b_kinds, b_lefts, b_rights, b_masks, b_counts, b_values, b_stack, b_pieces, b_registers, b_pile, b_oldRegisters, b_oldPile, b_openNode, b_openPart, b_openBack) (nI m) := by
  unfold wpY_simply
  dsimp only
  rw [zn_c (by omega : m < 2 ^ 31), hk]
  refine br_f (zn_ne (b := 300) (by omega) (by omega) (by omega)) (nm_r (nI_1 st) (And.intro (vp_in_nI hm (by omega)) (nm_e (And.intro (vp_in_nI hm (by omega)) (nm_e ?_)))))
  unfold wY_simply_139
  rcases hk45 with rfl | rfl
  · exact br_f (by decide) (br_f (by decide) (br_f (by decide) (br_t rfl (K _ h))))
  · exact br_f (by decide) (br_f (by decide) (br_f (by decide) (br_f (by decide) (br_t rfl (K _ h)))))
theorem zy_deep1 {Q : SY → Prop} {m : Nat} (h : Q (g_depth, g_pieceDepth, g_high, g_oldHigh, g_open, g_next, g_back, nI 6, nI 3, g_steps, b_sorts, b_regs, b_numbers, b_firsts, b_seconds, b_tests, b_exits, b_sizes, b_kinds, b_lefts, b_rights, b_masks, b_counts, b_values, b_stack, b_pieces, b_registers, b_pile, b_oldRegisters, b_oldPile, b_openNode, b_openPart, b_openBack)) : wpY_enter Q (g_depth, g_pieceDepth, g_high, g_oldHigh, g_open, g_next, g_back, nI 6, g_end, g_steps, b_sorts, b_regs, b_numbers, b_firsts, b_seconds, b_tests, b_exits, b_sizes, b_kinds, b_lefts, b_rights, b_masks, b_counts, b_values, b_stack, b_pieces, b_registers, b_pile, b_oldRegisters, b_oldPile, b_openNode, b_openPart, b_openBack) (nI m) := by
  unfold wpY_enter
  exact br_t rfl h
theorem zy_ent {Q : SY → Prop} {m k c o n z : Nat} {d : Bool} (hm : m < 64) (hk : b_sorts m = nI k) (hk45 : k = 4 ∨ k = 5) (hn : b_numbers m = nI n) (hn3 : n < 3) (hz : b_sizes n = nI z) (hz1 : 1 ≤ z) (hc : c < 6) (ho : o < 140)
    (h : Q (g_depth, g_pieceDepth, g_high, g_oldHigh, nI (o + 1), nI (16 * n + (z - 1)), zx_b (zm_dd k d), nI (c + 1), g_end, g_steps, b_sorts, b_regs, b_numbers, b_firsts, b_seconds, b_tests, b_exits, b_sizes, b_kinds, b_lefts, b_rights, b_masks, b_counts, b_values, b_stack, b_pieces, b_registers, b_pile, b_oldRegisters, b_oldPile, upd b_openNode o (nI m), upd b_openPart o 1, upd b_openBack o (zx_b d))) :
    wpY_enter Q (g_depth, g_pieceDepth, g_high, g_oldHigh, nI o, g_next, zx_b d, nI c, g_end, g_steps, b_sorts, b_regs, b_numbers, b_firsts, b_seconds, b_tests, b_exits, b_sizes, b_kinds, b_lefts, b_rights, b_masks, b_counts, b_values, b_stack, b_pieces, b_registers, b_pile, b_oldRegisters, b_oldPile, b_openNode, b_openPart, b_openBack) (nI m) := by
  have hnx : 16 * nI n + nI z - 1 = nI (16 * n + (z - 1)) := by
    rw [zn_m16, show (16 * n + z) = (16 * n + (z - 1)) + 1 from by omega, nI_pred]
  unfold wpY_enter
  dsimp only
  refine br_f (zn_ne (b := 6) (by omega) (by omega) (by omega)) (nm_r (nI_1 c) (zy_push ho ?_))
  dsimp only
  rw [zn_c (by omega : m < 2 ^ 31), hk]
  unfold wY_enter_54 wY_enter_57
  rw [zn_c (by omega : m < 2 ^ 31), hn]
  rcases hk45 with rfl | rfl
  · exact And.intro (vp_in_nI hm (by omega)) (br_f (by decide) (And.intro (vp_in_nI hm (by omega)) (nm_e (And.intro (vp_in_nI (by omega) (by omega)) (nm_r (by rw [zn_c (by omega : n < 2 ^ 31), hz, hnx]) h)))))
  · refine And.intro (vp_in_nI hm (by omega)) (br_t rfl ?_)
    cases d with
    | false => exact br_t rfl (And.intro (zx_nbb true) (And.intro (zx_fbb true) (And.intro (vp_in_nI hm (by omega)) (nm_e (And.intro (vp_in_nI (by omega) (by omega)) (nm_r (by rw [zn_c (by omega : n < 2 ^ 31), hz, hnx]) h))))))
    | true => exact br_f (by decide) (And.intro (zx_nbb false) (And.intro (zx_fbb false) (And.intro (vp_in_nI hm (by omega)) (nm_e (And.intro (vp_in_nI (by omega) (by omega)) (nm_r (by rw [zn_c (by omega : n < 2 ^ 31), hz, hnx]) h))))))
theorem zy_sup {Q : SY → Prop} {T : Nat → Nat → Nat} {N p s st r k x : Nat} {ρ : Nat → Int32} {d : Bool} (ho : zt_ok T N) (hN : N ≤ 24) (hp : p < 3) (hs : s < 16) (hmt : zi_TY (24 * p) N T b_kinds b_lefts b_rights)
    (hv : ∀ r, r < 6 → b_registers r = ρ r) (hx : x < N) (ex : b_tests (16 * p + s) = nI x) (hk : b_sorts (16 * p + s) = nI k) (hr : b_regs (16 * p + s) = nI r) (hr6 : r < 6) (hst : st < 300) (hk68 : k = 6 ∨ k = 7 ∨ k = 8)
    (h : ∀ vs : Nat → Int32, Q (g_depth, g_pieceDepth, g_high, g_oldHigh, g_open, g_next, zx_b d, g_calls, g_end, nI (st + 1), b_sorts, b_regs, b_numbers, b_firsts, b_seconds, b_tests, b_exits, b_sizes, b_kinds, b_lefts, b_rights, b_masks, b_counts, vs, b_stack, b_pieces, upd b_registers r (if k = 8 then b_registers r ^^^ zt_val T ρ x else if (if k = 6 then d = false else d = true) then b_registers r + zt_val T ρ x else b_registers r - zt_val T ρ x), b_pile, b_oldRegisters, b_oldPile, b_openNode, b_openPart, b_openBack)) :
    wpY_simply Q (g_depth, g_pieceDepth, g_high, g_oldHigh, g_open, g_next, zx_b d, g_calls, g_end, nI st, b_sorts, b_regs, b_numbers, b_firsts, b_seconds, b_tests, b_exits, b_sizes, b_kinds, b_lefts, b_rights, b_masks, b_counts, b_values, b_stack, b_pieces, b_registers, b_pile, b_oldRegisters, b_oldPile, b_openNode, b_openPart, b_openBack) (nI (16 * p + s)) := by
  have hm : 16 * p + s < 64 := by omega
  unfold wpY_simply
  dsimp only
  rw [zn_c (by omega : 16 * p + s < 2 ^ 31), hk, hr]
  refine br_f (zn_ne (b := 300) (by omega) (by omega) (by omega)) (nm_r (nI_1 st) (And.intro (vp_in_nI hm (by omega)) (nm_e (And.intro (vp_in_nI hm (by omega)) (nm_e ?_)))))
  refine br_f (zn_ne (b := 1) (by omega) (by omega) (by omega)) (br_f (zn_ne (b := 2) (by omega) (by omega) (by omega)) (br_f (zn_ne (b := 3) (by omega) (by omega) (by omega)) (br_f (zn_ne (b := 4) (by omega) (by omega) (by omega))
    (br_f (zn_ne (b := 5) (by omega) (by omega) (by omega)) (br_f (nI_ge (a := 5) (by omega) (by omega)) ?_)))))
  unfold wpY_change
  dsimp only
  rw [zn_d16 (by omega) hs, zn_c (by omega : 16 * p + s < 2 ^ 31), ex]
  refine And.intro (by decide) (And.intro (vp_in_nI hm (by omega)) (zy_val ho hN hp hmt hv hx fun vs => ?_))
  dsimp only
  refine br_f (zn_ne (b := 9) (by omega) (by omega) (by omega)) ?_
  unfold wY_change_75
  rw [zn_c (by omega : r < 2 ^ 31)]
  rcases hk68 with rfl | rfl | rfl
  · refine br_f (by decide) (br_t rfl ?_)
    cases d with
    | false => exact br_f (by decide) (And.intro (vp_in_nI hr6 (by omega)) (And.intro (vp_in_nI hr6 (by omega)) (nm_e (h vs))))
    | true => exact br_t rfl (And.intro (vp_in_nI hr6 (by omega)) (And.intro (vp_in_nI hr6 (by omega)) (nm_e (h vs))))
  · refine br_f (by decide) (br_f (by decide) ?_)
    cases d with
    | false => exact br_t rfl (And.intro (vp_in_nI hr6 (by omega)) (And.intro (vp_in_nI hr6 (by omega)) (nm_e (h vs))))
    | true => exact br_f (by decide) (And.intro (vp_in_nI hr6 (by omega)) (And.intro (vp_in_nI hr6 (by omega)) (nm_e (h vs))))
  · exact br_t rfl (And.intro (vp_in_nI hr6 (by omega)) (And.intro (vp_in_nI hr6 (by omega)) (nm_e (h vs))))
theorem zy_sch {Q : SY → Prop} {T : Nat → Nat → Nat} {N p s st x : Nat} {ρ : Nat → Int32} (ho : zt_ok T N) (hN : N ≤ 24) (hp : p < 3) (hs : s < 16) (hmt : zi_TY (24 * p) N T b_kinds b_lefts b_rights)
    (hv : ∀ r, r < 6 → b_registers r = ρ r) (hx : x < N) (ex : b_tests (16 * p + s) = nI x) (hk : b_sorts (16 * p + s) = nI 9) (hst : st < 300)
    (h : ∀ vs : Nat → Int32, (zt_val T ρ x = 0 → Q (g_depth, g_pieceDepth, g_high, g_oldHigh, g_open, g_next, g_back, g_calls, nI 1, nI (st + 1), b_sorts, b_regs, b_numbers, b_firsts, b_seconds, b_tests, b_exits, b_sizes, b_kinds, b_lefts, b_rights, b_masks, b_counts, vs, b_stack, b_pieces, b_registers, b_pile, b_oldRegisters, b_oldPile, b_openNode, b_openPart, b_openBack)) ∧ (¬ zt_val T ρ x = 0 → Q (g_depth, g_pieceDepth, g_high, g_oldHigh, g_open, g_next, g_back, g_calls, g_end, nI (st + 1), b_sorts, b_regs, b_numbers, b_firsts, b_seconds, b_tests, b_exits, b_sizes, b_kinds, b_lefts, b_rights, b_masks, b_counts, vs, b_stack, b_pieces, b_registers, b_pile, b_oldRegisters, b_oldPile, b_openNode, b_openPart, b_openBack))) :
    wpY_simply Q (g_depth, g_pieceDepth, g_high, g_oldHigh, g_open, g_next, g_back, g_calls, g_end, nI st, b_sorts, b_regs, b_numbers, b_firsts, b_seconds, b_tests, b_exits, b_sizes, b_kinds, b_lefts, b_rights, b_masks, b_counts, b_values, b_stack, b_pieces, b_registers, b_pile, b_oldRegisters, b_oldPile, b_openNode, b_openPart, b_openBack) (nI (16 * p + s)) := by
  have hm : 16 * p + s < 64 := by omega
  unfold wpY_simply
  dsimp only
  rw [zn_c (by omega : 16 * p + s < 2 ^ 31), hk]
  refine br_f (zn_ne (b := 300) (by omega) (by omega) (by omega)) (nm_r (nI_1 st) (And.intro (vp_in_nI hm (by omega)) (nm_e (And.intro (vp_in_nI hm (by omega)) (nm_e ?_)))))
  refine br_f (by decide) (br_f (by decide) (br_f (by decide) (br_f (by decide) (br_f (by decide) (br_f (by decide) ?_)))))
  unfold wpY_change
  dsimp only
  rw [zn_d16 (by omega) hs, zn_c (by omega : 16 * p + s < 2 ^ 31), ex]
  refine And.intro (by decide) (And.intro (vp_in_nI hm (by omega)) (zy_val ho hN hp hmt hv hx fun vs => ?_))
  exact br_t rfl (h vs)
end
end
section
/-! ===== Y's run: seq, if and loop are begun; passUp ===== -/
section
variable {g_depth g_pieceDepth g_high g_oldHigh g_open g_next g_back g_calls g_end g_steps : Int32} {b_sorts b_regs b_numbers b_firsts b_seconds b_tests b_exits b_sizes b_kinds b_lefts b_rights b_masks b_counts b_values b_stack b_pieces b_registers b_pile b_oldRegisters b_oldPile b_openNode b_openPart b_openBack : Nat → Int32}
theorem zy_b10 {Q : SY → Prop} {p s a b o : Nat} {d : Bool} (hp : p < 3) (hs : s < 16) (hk : b_sorts (16 * p + s) = nI 10) (ha : b_firsts (16 * p + s) = nI a) (hb : b_seconds (16 * p + s) = nI b) (hoo : o < 140)
    (h : Q (g_depth, g_pieceDepth, g_high, g_oldHigh, nI (o + 1), nI (16 * p + (if d then b else a)), zx_b d, g_calls, g_end, g_steps, b_sorts, b_regs, b_numbers, b_firsts, b_seconds, b_tests, b_exits, b_sizes, b_kinds, b_lefts, b_rights, b_masks, b_counts, b_values, b_stack, b_pieces, b_registers, b_pile, b_oldRegisters, b_oldPile, upd b_openNode o (nI (16 * p + s)), upd b_openPart o 1, upd b_openBack o (zx_b d))) : wpY_begin Q (g_depth, g_pieceDepth, g_high, g_oldHigh, nI o, nI (16 * p + s), zx_b d, g_calls, g_end, g_steps, b_sorts, b_regs, b_numbers, b_firsts, b_seconds, b_tests, b_exits, b_sizes, b_kinds, b_lefts, b_rights, b_masks, b_counts, b_values, b_stack, b_pieces, b_registers, b_pile, b_oldRegisters, b_oldPile, b_openNode, b_openPart, b_openBack) := by
  have hm : vp_in (nI (16 * p + s)) 64 := vp_in_nI (by omega) (by omega)
  unfold wpY_begin
  dsimp only
  rw [zn_c (by omega : 16 * p + s < 2 ^ 31), hk]
  refine And.intro hm (br_t (by decide) (And.intro hm (br_t (by decide) ?_)))
  unfold wY_begin_51 wY_begin_52
  rw [zn_c (by omega : 16 * p + s < 2 ^ 31), hk]
  refine And.intro hm (br_t rfl (zy_push hoo ?_))
  dsimp only
  unfold wY_begin_94
  rw [ha, hb]
  cases d with
  | false => exact br_t rfl (And.intro hm (zy_go (by omega) hs h))
  | true => exact br_f (by decide) (And.intro hm (zy_go (by omega) hs h))
theorem zy_b11 {Q : SY → Prop} {T : Nat → Nat → Nat} {ρ : Nat → Int32} {N p s a b o x y : Nat} {d : Bool} (c : Bool) (ho : zt_ok T N) (hN : N ≤ 24) (hmt : zi_TY (24 * p) N T b_kinds b_lefts b_rights) (hv : ∀ r, r < 6 → b_registers r = ρ r) (hx : x < N) (hy : y < N) (ex : b_tests (16 * p + s) = nI x) (ey : b_exits (16 * p + s) = nI y) (hp : p < 3) (hs : s < 16) (hk : b_sorts (16 * p + s) = nI 11)
    (ha : b_firsts (16 * p + s) = nI a) (hb : b_seconds (16 * p + s) = nI b) (hoo : o < 140) (hq : zm_q T ρ d x y = c)
    (h : ∀ vs : Nat → Int32, Q (g_depth, g_pieceDepth, g_high, g_oldHigh, nI (o + 1), nI (16 * p + (if c then a else b)), zx_b d, g_calls, g_end, g_steps, b_sorts, b_regs, b_numbers, b_firsts, b_seconds, b_tests, b_exits, b_sizes, b_kinds, b_lefts, b_rights, b_masks, b_counts, vs, b_stack, b_pieces, b_registers, b_pile, b_oldRegisters, b_oldPile, upd b_openNode o (nI (16 * p + s)), upd b_openPart o (nI (if c then 1 else 2)), upd b_openBack o (zx_b d))) : wpY_begin Q (g_depth, g_pieceDepth, g_high, g_oldHigh, nI o, nI (16 * p + s), zx_b d, g_calls, g_end, g_steps, b_sorts, b_regs, b_numbers, b_firsts, b_seconds, b_tests, b_exits, b_sizes, b_kinds, b_lefts, b_rights, b_masks, b_counts, b_values, b_stack, b_pieces, b_registers, b_pile, b_oldRegisters, b_oldPile, b_openNode, b_openPart, b_openBack) := by
  have hm : vp_in (nI (16 * p + s)) 64 := vp_in_nI (by omega) (by omega)
  unfold wpY_begin
  dsimp only
  rw [zn_c (by omega : 16 * p + s < 2 ^ 31), hk]
  refine And.intro hm (br_t (by decide) (And.intro hm (br_f (by decide) ?_)))
  refine zy_isT true ho hN hp hs hmt hv hx hy ex ey fun vs => ?_
  dsimp only
  rw [if_pos rfl, hq]
  unfold wY_begin_51 wY_begin_52 wY_begin_122
  rw [zn_c (by omega : 16 * p + s < 2 ^ 31), hk]
  cases c with
  | false =>
    refine br_t rfl (And.intro hm (br_f (by decide) (And.intro hm (br_t rfl (br_t rfl (zy_push hoo ?_))))))
    dsimp only
    rw [hb]
    exact br_t rfl (And.intro hm (zy_go (by omega) hs (h vs)))
  | true =>
    refine br_f (by decide) (And.intro hm (br_f (by decide) (And.intro hm (br_t rfl (br_f (by decide) (zy_push hoo ?_))))))
    dsimp only
    rw [ha]
    exact br_f (by decide) (And.intro hm (zy_go (by omega) hs (h vs)))
theorem zy_b12 {Q : SY → Prop} {T : Nat → Nat → Nat} {ρ : Nat → Int32} {N p s a o x y : Nat} {d : Bool} (ho : zt_ok T N) (hN : N ≤ 24) (hmt : zi_TY (24 * p) N T b_kinds b_lefts b_rights) (hv : ∀ r, r < 6 → b_registers r = ρ r) (hx : x < N) (hy : y < N) (ex : b_tests (16 * p + s) = nI x) (ey : b_exits (16 * p + s) = nI y) (hp : p < 3) (hs : s < 16) (hk : b_sorts (16 * p + s) = nI 12)
    (ha : b_firsts (16 * p + s) = nI a) (hoo : o < 140) (hq : zm_q T ρ d x y = true)
    (h : ∀ vs : Nat → Int32, Q (g_depth, g_pieceDepth, g_high, g_oldHigh, nI (o + 1), nI (16 * p + a), zx_b d, g_calls, g_end, g_steps, b_sorts, b_regs, b_numbers, b_firsts, b_seconds, b_tests, b_exits, b_sizes, b_kinds, b_lefts, b_rights, b_masks, b_counts, vs, b_stack, b_pieces, b_registers, b_pile, b_oldRegisters, b_oldPile, upd b_openNode o (nI (16 * p + s)), upd b_openPart o 1, upd b_openBack o (zx_b d))) : wpY_begin Q (g_depth, g_pieceDepth, g_high, g_oldHigh, nI o, nI (16 * p + s), zx_b d, g_calls, g_end, g_steps, b_sorts, b_regs, b_numbers, b_firsts, b_seconds, b_tests, b_exits, b_sizes, b_kinds, b_lefts, b_rights, b_masks, b_counts, b_values, b_stack, b_pieces, b_registers, b_pile, b_oldRegisters, b_oldPile, b_openNode, b_openPart, b_openBack) := by
  have hm : vp_in (nI (16 * p + s)) 64 := vp_in_nI (by omega) (by omega)
  unfold wpY_begin
  dsimp only
  rw [zn_c (by omega : 16 * p + s < 2 ^ 31), hk]
  refine And.intro hm (br_t (by decide) (And.intro hm (br_f (by decide) ?_)))
  refine zy_isT true ho hN hp hs hmt hv hx hy ex ey fun vs => ?_
  dsimp only
  rw [if_pos rfl, hq]
  unfold wY_begin_51 wY_begin_52
  rw [zn_c (by omega : 16 * p + s < 2 ^ 31), hk]
  refine br_f (by decide) (And.intro hm (br_f (by decide) (And.intro hm (br_f (by decide) (br_f (by decide) (zy_push hoo ?_))))))
  dsimp only
  rw [ha]
  exact And.intro hm (zy_go (by omega) hs (h vs))
theorem zy_b12F {Q : SY → Prop} {T : Nat → Nat → Nat} {ρ : Nat → Int32} {N p s x y : Nat} {d : Bool} (ho : zt_ok T N) (hN : N ≤ 24) (hmt : zi_TY (24 * p) N T b_kinds b_lefts b_rights) (hv : ∀ r, r < 6 → b_registers r = ρ r) (hx : x < N) (hy : y < N) (ex : b_tests (16 * p + s) = nI x) (ey : b_exits (16 * p + s) = nI y) (hp : p < 3) (hs : s < 16) (hk : b_sorts (16 * p + s) = nI 12) (hq : zm_q T ρ d x y = false)
    (h : ∀ vs : Nat → Int32, Q (g_depth, g_pieceDepth, g_high, g_oldHigh, g_open, (-1), zx_b d, g_calls, nI 1, g_steps, b_sorts, b_regs, b_numbers, b_firsts, b_seconds, b_tests, b_exits, b_sizes, b_kinds, b_lefts, b_rights, b_masks, b_counts, vs, b_stack, b_pieces, b_registers, b_pile, b_oldRegisters, b_oldPile, b_openNode, b_openPart, b_openBack)) : wpY_begin Q (g_depth, g_pieceDepth, g_high, g_oldHigh, g_open, nI (16 * p + s), zx_b d, g_calls, g_end, g_steps, b_sorts, b_regs, b_numbers, b_firsts, b_seconds, b_tests, b_exits, b_sizes, b_kinds, b_lefts, b_rights, b_masks, b_counts, b_values, b_stack, b_pieces, b_registers, b_pile, b_oldRegisters, b_oldPile, b_openNode, b_openPart, b_openBack) := by
  have hm : vp_in (nI (16 * p + s)) 64 := vp_in_nI (by omega) (by omega)
  unfold wpY_begin
  dsimp only
  rw [zn_c (by omega : 16 * p + s < 2 ^ 31), hk]
  refine And.intro hm (br_t (by decide) (And.intro hm (br_f (by decide) ?_)))
  refine zy_isT true ho hN hp hs hmt hv hx hy ex ey fun vs => ?_
  dsimp only
  rw [if_pos rfl, hq]
  unfold wY_begin_51 wY_begin_52
  rw [zn_c (by omega : 16 * p + s < 2 ^ 31), hk]
  exact br_t rfl (And.intro hm (br_f (by decide) (And.intro hm (br_f (by decide) (br_t rfl (h vs))))))
theorem zy_p0 {Q : SY → Prop} (h : Q (g_depth, g_pieceDepth, g_high, g_oldHigh, 0, g_next, g_back, g_calls, 0, g_steps, b_sorts, b_regs, b_numbers, b_firsts, b_seconds, b_tests, b_exits, b_sizes, b_kinds, b_lefts, b_rights, b_masks, b_counts, b_values, b_stack, b_pieces, b_registers, b_pile, b_oldRegisters, b_oldPile, b_openNode, b_openPart, b_openBack)) : wpY_passUp Q (g_depth, g_pieceDepth, g_high, g_oldHigh, 0, g_next, g_back, g_calls, g_end, g_steps, b_sorts, b_regs, b_numbers, b_firsts, b_seconds, b_tests, b_exits, b_sizes, b_kinds, b_lefts, b_rights, b_masks, b_counts, b_values, b_stack, b_pieces, b_registers, b_pile, b_oldRegisters, b_oldPile, b_openNode, b_openPart, b_openBack) := by
  unfold wpY_passUp
  exact br_t rfl h
theorem zy_pc {Q : SY → Prop} {p s o pt k c : Nat} {d : Bool} (hp : p < 3) (hs : s < 16) (hoo : o < 140) (h1 : b_openNode o = nI (16 * p + s)) (h2 : b_openPart o = nI pt) (h3 : b_openBack o = zx_b d) (hk : b_sorts (16 * p + s) = nI k) (hk9 : k ≤ 9)
    (h : Q (g_depth, g_pieceDepth, g_high, g_oldHigh, nI o, g_next, zx_b d, nI c, g_end, g_steps, b_sorts, b_regs, b_numbers, b_firsts, b_seconds, b_tests, b_exits, b_sizes, b_kinds, b_lefts, b_rights, b_masks, b_counts, b_values, b_stack, b_pieces, b_registers, b_pile, b_oldRegisters, b_oldPile, b_openNode, b_openPart, b_openBack)) : wpY_passUp Q (g_depth, g_pieceDepth, g_high, g_oldHigh, nI (o + 1), g_next, g_back, nI (c + 1), g_end, g_steps, b_sorts, b_regs, b_numbers, b_firsts, b_seconds, b_tests, b_exits, b_sizes, b_kinds, b_lefts, b_rights, b_masks, b_counts, b_values, b_stack, b_pieces, b_registers, b_pile, b_oldRegisters, b_oldPile, b_openNode, b_openPart, b_openBack) := by
  have hm : vp_in (nI (16 * p + s)) 64 := vp_in_nI (by omega) (by omega)
  have hov : vp_in (nI o) 140 := vp_in_nI hoo (by omega)
  unfold wpY_passUp
  dsimp only
  refine br_f (zn_ne (b := 0) (by omega) (by omega) (by omega)) (nm_r (nI_pred o) ?_)
  rw [zn_c (by omega : o < 2 ^ 31), h1, h2, h3]
  refine And.intro hov (nm_e (And.intro hov (nm_e (And.intro hov (nm_e (And.intro (zx_nbb d) (And.intro (zx_fbb d) (And.intro hm ?_))))))))
  rw [zn_c (by omega : 16 * p + s < 2 ^ 31), hk]
  exact br_f (nI_ge (b := 10) (by omega) (by omega)) (nm_r (nI_pred c) h)
theorem zy_p10 {Q : SY → Prop} {p s o pt a b : Nat} {d : Bool} (hp : p < 3) (hs : s < 16) (hoo : o < 140) (h1 : b_openNode o = nI (16 * p + s)) (h2 : b_openPart o = nI pt) (h3 : b_openBack o = zx_b d) (hk : b_sorts (16 * p + s) = nI 10) (ha : b_firsts (16 * p + s) = nI a) (hb : b_seconds (16 * p + s) = nI b)
    (h : Q (g_depth, g_pieceDepth, g_high, g_oldHigh, nI o, nI (16 * p + (if d then a else b)), zx_b d, g_calls, g_end, g_steps, b_sorts, b_regs, b_numbers, b_firsts, b_seconds, b_tests, b_exits, b_sizes, b_kinds, b_lefts, b_rights, b_masks, b_counts, b_values, b_stack, b_pieces, b_registers, b_pile, b_oldRegisters, b_oldPile, b_openNode, b_openPart, b_openBack)) : wpY_passUp Q (g_depth, g_pieceDepth, g_high, g_oldHigh, nI (o + 1), g_next, g_back, g_calls, g_end, g_steps, b_sorts, b_regs, b_numbers, b_firsts, b_seconds, b_tests, b_exits, b_sizes, b_kinds, b_lefts, b_rights, b_masks, b_counts, b_values, b_stack, b_pieces, b_registers, b_pile, b_oldRegisters, b_oldPile, b_openNode, b_openPart, b_openBack) := by
  have hm : vp_in (nI (16 * p + s)) 64 := vp_in_nI (by omega) (by omega)
  have hov : vp_in (nI o) 140 := vp_in_nI hoo (by omega)
  unfold wpY_passUp
  dsimp only
  refine br_f (zn_ne (b := 0) (by omega) (by omega) (by omega)) (nm_r (nI_pred o) ?_)
  rw [zn_c (by omega : o < 2 ^ 31), h1, h2, h3]
  refine And.intro hov (nm_e (And.intro hov (nm_e (And.intro hov (nm_e (And.intro (zx_nbb d) (And.intro (zx_fbb d) (And.intro hm ?_))))))))
  rw [zn_c (by omega : 16 * p + s < 2 ^ 31), hk, ha, hb]
  unfold wY_passUp_115
  refine br_t (by decide) (And.intro hm (br_t rfl ?_))
  cases d with
  | false => exact br_t rfl (And.intro hm (zy_go (by omega) hs h))
  | true => exact br_f (by decide) (And.intro hm (zy_go (by omega) hs h))
theorem zy_p11 {Q : SY → Prop} {T : Nat → Nat → Nat} {ρ : Nat → Int32} {N p s o pt x y : Nat} {d : Bool} (ho : zt_ok T N) (hN : N ≤ 24) (hmt : zi_TY (24 * p) N T b_kinds b_lefts b_rights) (hv : ∀ r, r < 6 → b_registers r = ρ r) (hx : x < N) (hy : y < N) (ex : b_tests (16 * p + s) = nI x) (ey : b_exits (16 * p + s) = nI y) (hp : p < 3) (hs : s < 16) (hoo : o < 140) (h1 : b_openNode o = nI (16 * p + s)) (h2 : b_openPart o = nI pt) (h3 : b_openBack o = zx_b d) (hk : b_sorts (16 * p + s) = nI 11) (hpt : pt = 1 ∨ pt = 2)
    (h : ∀ vs : Nat → Int32, (zm_q T ρ (!d) x y = decide (pt = 1) → Q (g_depth, g_pieceDepth, g_high, g_oldHigh, nI o, g_next, zx_b d, g_calls, g_end, g_steps, b_sorts, b_regs, b_numbers, b_firsts, b_seconds, b_tests, b_exits, b_sizes, b_kinds, b_lefts, b_rights, b_masks, b_counts, vs, b_stack, b_pieces, b_registers, b_pile, b_oldRegisters, b_oldPile, b_openNode, b_openPart, b_openBack)) ∧ (¬ zm_q T ρ (!d) x y = decide (pt = 1) → Q (g_depth, g_pieceDepth, g_high, g_oldHigh, nI o, g_next, zx_b d, g_calls, nI 1, g_steps, b_sorts, b_regs, b_numbers, b_firsts, b_seconds, b_tests, b_exits, b_sizes, b_kinds, b_lefts, b_rights, b_masks, b_counts, vs, b_stack, b_pieces, b_registers, b_pile, b_oldRegisters, b_oldPile, b_openNode, b_openPart, b_openBack))) :
    wpY_passUp Q (g_depth, g_pieceDepth, g_high, g_oldHigh, nI (o + 1), g_next, g_back, g_calls, g_end, g_steps, b_sorts, b_regs, b_numbers, b_firsts, b_seconds, b_tests, b_exits, b_sizes, b_kinds, b_lefts, b_rights, b_masks, b_counts, b_values, b_stack, b_pieces, b_registers, b_pile, b_oldRegisters, b_oldPile, b_openNode, b_openPart, b_openBack) := by
  have hm : vp_in (nI (16 * p + s)) 64 := vp_in_nI (by omega) (by omega)
  have hov : vp_in (nI o) 140 := vp_in_nI hoo (by omega)
  unfold wpY_passUp
  dsimp only
  refine br_f (zn_ne (b := 0) (by omega) (by omega) (by omega)) (nm_r (nI_pred o) ?_)
  rw [zn_c (by omega : o < 2 ^ 31), h1, h2, h3]
  refine And.intro hov (nm_e (And.intro hov (nm_e (And.intro hov (nm_e (And.intro (zx_nbb d) (And.intro (zx_fbb d) (And.intro hm ?_))))))))
  rw [zn_c (by omega : 16 * p + s < 2 ^ 31), hk]
  refine br_t (by decide) (And.intro hm (br_f (by decide) (And.intro hm (br_t rfl ?_))))
  refine zy_isT false ho hN hp hs hmt hv hx hy ex ey fun vs => ?_
  dsimp only
  rw [if_neg (by decide)]
  unfold wY_passUp_148
  have hvs := h vs
  rcases hpt with rfl | rfl
  · refine br_t rfl ?_
    cases hq : zm_q T ρ (!d) x y with
    | false => rw [hq] at hvs; exact br_f (by decide) (hvs.2 (by decide))
    | true => rw [hq] at hvs; exact br_t rfl (hvs.1 (by decide))
  · refine br_f (by decide) ?_
    cases hq : zm_q T ρ (!d) x y with
    | false => rw [hq] at hvs; exact br_t rfl (hvs.1 (by decide))
    | true => rw [hq] at hvs; exact br_f (by decide) (hvs.2 (by decide))
theorem zy_p12 {Q : SY → Prop} {T : Nat → Nat → Nat} {ρ : Nat → Int32} {N p s o x y b : Nat} {d : Bool} (ho : zt_ok T N) (hN : N ≤ 24) (hmt : zi_TY (24 * p) N T b_kinds b_lefts b_rights) (hv : ∀ r, r < 6 → b_registers r = ρ r) (hx : x < N) (hy : y < N) (ex : b_tests (16 * p + s) = nI x) (ey : b_exits (16 * p + s) = nI y) (hp : p < 3) (hs : s < 16) (hoo : o < 140) (h1 : b_openNode o = nI (16 * p + s)) (h2 : b_openPart o = nI 1) (h3 : b_openBack o = zx_b d)
    (hk : b_sorts (16 * p + s) = nI 12) (hb : b_seconds (16 * p + s) = nI b)
    (h : ∀ vs : Nat → Int32, (zm_q T ρ (!d) x y = true → Q (g_depth, g_pieceDepth, g_high, g_oldHigh, nI o, g_next, zx_b d, g_calls, g_end, g_steps, b_sorts, b_regs, b_numbers, b_firsts, b_seconds, b_tests, b_exits, b_sizes, b_kinds, b_lefts, b_rights, b_masks, b_counts, vs, b_stack, b_pieces, b_registers, b_pile, b_oldRegisters, b_oldPile, b_openNode, b_openPart, b_openBack)) ∧
      (zm_q T ρ (!d) x y = false → Q (g_depth, g_pieceDepth, g_high, g_oldHigh, nI (o + 1), nI (16 * p + b), zx_b d, g_calls, g_end, g_steps, b_sorts, b_regs, b_numbers, b_firsts, b_seconds, b_tests, b_exits, b_sizes, b_kinds, b_lefts, b_rights, b_masks, b_counts, vs, b_stack, b_pieces, b_registers, b_pile, b_oldRegisters, b_oldPile, upd b_openNode o (nI (16 * p + s)), upd b_openPart o (nI 2), upd b_openBack o (zx_b d)))) :
    wpY_passUp Q (g_depth, g_pieceDepth, g_high, g_oldHigh, nI (o + 1), g_next, g_back, g_calls, g_end, g_steps, b_sorts, b_regs, b_numbers, b_firsts, b_seconds, b_tests, b_exits, b_sizes, b_kinds, b_lefts, b_rights, b_masks, b_counts, b_values, b_stack, b_pieces, b_registers, b_pile, b_oldRegisters, b_oldPile, b_openNode, b_openPart, b_openBack) := by
  have hm : vp_in (nI (16 * p + s)) 64 := vp_in_nI (by omega) (by omega)
  have hov : vp_in (nI o) 140 := vp_in_nI hoo (by omega)
  unfold wpY_passUp
  dsimp only
  refine br_f (zn_ne (b := 0) (by omega) (by omega) (by omega)) (nm_r (nI_pred o) ?_)
  rw [zn_c (by omega : o < 2 ^ 31), h1, h2, h3]
  refine And.intro hov (nm_e (And.intro hov (nm_e (And.intro hov (nm_e (And.intro (zx_nbb d) (And.intro (zx_fbb d) (And.intro hm ?_))))))))
  rw [zn_c (by omega : 16 * p + s < 2 ^ 31), hk]
  refine br_t (by decide) (And.intro hm (br_f (by decide) (And.intro hm (br_f (by decide) (br_t rfl ?_)))))
  refine zy_isT false ho hN hp hs hmt hv hx hy ex ey fun vs => ?_
  dsimp only
  rw [if_neg (by decide)]
  have hvs := h vs
  cases hq : zm_q T ρ (!d) x y with
  | false =>
    refine br_t rfl (zy_push hoo ?_)
    dsimp only
    rw [hb]
    exact And.intro hm (zy_go (by omega) hs (hvs.2 hq))
  | true => exact br_f (by decide) (hvs.1 hq)
theorem zy_p13 {Q : SY → Prop} {T : Nat → Nat → Nat} {ρ : Nat → Int32} {N p s o x y a : Nat} {d : Bool} (ho : zt_ok T N) (hN : N ≤ 24) (hmt : zi_TY (24 * p) N T b_kinds b_lefts b_rights) (hv : ∀ r, r < 6 → b_registers r = ρ r) (hx : x < N) (hy : y < N) (ex : b_tests (16 * p + s) = nI x) (ey : b_exits (16 * p + s) = nI y) (hp : p < 3) (hs : s < 16) (hoo : o < 140) (h1 : b_openNode o = nI (16 * p + s)) (h2 : b_openPart o = nI 2) (h3 : b_openBack o = zx_b d)
    (hk : b_sorts (16 * p + s) = nI 12) (ha : b_firsts (16 * p + s) = nI a)
    (h : ∀ vs : Nat → Int32, (zm_q T ρ d x y = true → Q (g_depth, g_pieceDepth, g_high, g_oldHigh, nI o, g_next, zx_b d, g_calls, nI 1, g_steps, b_sorts, b_regs, b_numbers, b_firsts, b_seconds, b_tests, b_exits, b_sizes, b_kinds, b_lefts, b_rights, b_masks, b_counts, vs, b_stack, b_pieces, b_registers, b_pile, b_oldRegisters, b_oldPile, b_openNode, b_openPart, b_openBack)) ∧
      (zm_q T ρ d x y = false → Q (g_depth, g_pieceDepth, g_high, g_oldHigh, nI (o + 1), nI (16 * p + a), zx_b d, g_calls, g_end, g_steps, b_sorts, b_regs, b_numbers, b_firsts, b_seconds, b_tests, b_exits, b_sizes, b_kinds, b_lefts, b_rights, b_masks, b_counts, vs, b_stack, b_pieces, b_registers, b_pile, b_oldRegisters, b_oldPile, upd b_openNode o (nI (16 * p + s)), upd b_openPart o (nI 1), upd b_openBack o (zx_b d)))) :
    wpY_passUp Q (g_depth, g_pieceDepth, g_high, g_oldHigh, nI (o + 1), g_next, g_back, g_calls, g_end, g_steps, b_sorts, b_regs, b_numbers, b_firsts, b_seconds, b_tests, b_exits, b_sizes, b_kinds, b_lefts, b_rights, b_masks, b_counts, b_values, b_stack, b_pieces, b_registers, b_pile, b_oldRegisters, b_oldPile, b_openNode, b_openPart, b_openBack) := by
  have hm : vp_in (nI (16 * p + s)) 64 := vp_in_nI (by omega) (by omega)
  have hov : vp_in (nI o) 140 := vp_in_nI hoo (by omega)
  unfold wpY_passUp
  dsimp only
  refine br_f (zn_ne (b := 0) (by omega) (by omega) (by omega)) (nm_r (nI_pred o) ?_)
  rw [zn_c (by omega : o < 2 ^ 31), h1, h2, h3]
  refine And.intro hov (nm_e (And.intro hov (nm_e (And.intro hov (nm_e (And.intro (zx_nbb d) (And.intro (zx_fbb d) (And.intro hm ?_))))))))
  rw [zn_c (by omega : 16 * p + s < 2 ^ 31), hk]
  refine br_t (by decide) (And.intro hm (br_f (by decide) (And.intro hm (br_f (by decide) (br_f (by decide) ?_)))))
  refine zy_isT true ho hN hp hs hmt hv hx hy ex ey fun vs => ?_
  dsimp only
  rw [if_pos rfl]
  have hvs := h vs
  cases hq : zm_q T ρ d x y with
  | false =>
    refine br_t rfl (zy_push hoo ?_)
    dsimp only
    rw [ha]
    exact And.intro hm (zy_go (by omega) hs (hvs.2 hq))
  | true => exact br_f (by decide) (hvs.1 hq)
end
end
section
/-! ===== Y's run obeys the rules ===== -/
section
variable {g_depth g_pieceDepth g_high g_oldHigh g_open g_next g_back g_calls g_end g_steps : Int32} {b_sorts b_regs b_numbers b_firsts b_seconds b_tests b_exits b_sizes b_kinds b_lefts b_rights b_masks b_counts b_values b_stack b_pieces b_registers b_pile b_oldRegisters b_oldPile b_openNode b_openPart b_openBack : Nat → Int32}
variable {post : Int32 → SY → Prop} {S T : Nat → Nat → Nat → Nat} {nS nT : Nat → Nat} {Lay : Nat → Nat → Nat → Prop}
theorem zy_clc {q s pt lo : Nat} {d : Bool} {fs : List zm_Fr} (h : zs_k (S q) s ≤ 9) : zm_cl S ((q, s, pt, d, lo) :: fs) = zm_cl S fs + 1 := by
  show (if zs_k (S q) s ≤ 9 then 1 else 0) + zm_cl S fs = _
  rw [if_pos h]; omega
theorem zy_cln {q s pt lo : Nat} {d : Bool} {fs : List zm_Fr} (h : 10 ≤ zs_k (S q) s) : zm_cl S ((q, s, pt, d, lo) :: fs) = zm_cl S fs := by
  show (if zs_k (S q) s ≤ 9 then 1 else 0) + zm_cl S fs = _
  rw [if_neg (by omega)]; omega
theorem zy_frp {on op ob : Nat → Int32} {q s pt lo : Nat} {d : Bool} {fs : List zm_Fr} (h : zy_fr on op ob fs) :
    zy_fr (upd on fs.length (nI (16 * q + s))) (upd op fs.length (nI pt)) (upd ob fs.length (zx_b d)) ((q, s, pt, d, lo) :: fs) := ⟨pk_us, pk_us, pk_us, zy_fr_upd (Nat.le_refl _) h⟩
theorem zy_r_seq (hE : zy_env b_sorts b_regs b_numbers b_firsts b_seconds b_tests b_exits b_sizes b_kinds b_lefts b_rights S T nS nT) (hLv : ∀ p s lo, Lay p s lo → p < 3 ∧ s < nS p ∧ s < 16) : zy_seq S Lay (zy_W post S g_depth g_pieceDepth g_oldHigh b_sorts b_regs b_numbers b_firsts b_seconds b_tests b_exits b_sizes b_kinds b_lefts b_rights b_masks b_counts b_stack b_pieces b_oldRegisters b_oldPile) := by
  intro n fs p d st ρ π s lo hL hk hf hW vs re pi on op ob hv hh hfr
  obtain ⟨hp, hs, h16⟩ := hLv _ _ _ hL
  obtain ⟨_, _, h24, hS, hT, hsz, hTY, hSY⟩ := hE p hp
  obtain ⟨m1, m2, m3, m4, m5, m6⟩ := hSY s hs
  rw [hk] at m1
  have H := fun vs => hW vs re pi (upd on fs.length (nI (16 * p + s))) (upd op fs.length (nI 1)) (upd ob fs.length (zx_b d)) hv hh (zy_frp hfr)
  rw [zy_cln (by omega)] at H
  refine zy_lpB (by omega) ?_ H
  intro Q hQ
  exact zy_b10 hp h16 m1 (m6 (by omega)).1 (m6 (by omega)).2 hf (hQ _)
theorem zy_r_if (hE : zy_env b_sorts b_regs b_numbers b_firsts b_seconds b_tests b_exits b_sizes b_kinds b_lefts b_rights S T nS nT) (hLv : ∀ p s lo, Lay p s lo → p < 3 ∧ s < nS p ∧ s < 16) : zy_if S T Lay (zy_W post S g_depth g_pieceDepth g_oldHigh b_sorts b_regs b_numbers b_firsts b_seconds b_tests b_exits b_sizes b_kinds b_lefts b_rights b_masks b_counts b_stack b_pieces b_oldRegisters b_oldPile) := by
  intro n fs p d st ρ π s lo c hL hk hf hq hW vs re pi on op ob hv hh hfr
  obtain ⟨hp, hs, h16⟩ := hLv _ _ _ hL
  obtain ⟨_, _, h24, hS, hT, hsz, hTY, hSY⟩ := hE p hp
  obtain ⟨m1, m2, m3, m4, m5, m6⟩ := hSY s hs
  obtain ⟨hx, hy⟩ := (hS s hs).2.2.2.2.2.2.2.1 (by omega)
  rw [hk] at m1
  have H := fun vs => hW vs re pi (upd on fs.length (nI (16 * p + s))) (upd op fs.length (nI (if c then 1 else 2))) (upd ob fs.length (zx_b d)) hv hh (zy_frp hfr)
  rw [zy_cln (by omega)] at H
  refine zy_lpB (by omega) ?_ H
  intro Q hQ
  exact zy_b11 c hT h24 hTY hv hx hy (m4 (by omega)) (m5 (by omega)) hp h16 m1 (m6 (by omega)).1 (m6 (by omega)).2 hf hq hQ
theorem zy_r_lp (hE : zy_env b_sorts b_regs b_numbers b_firsts b_seconds b_tests b_exits b_sizes b_kinds b_lefts b_rights S T nS nT) (hLv : ∀ p s lo, Lay p s lo → p < 3 ∧ s < nS p ∧ s < 16) : zy_lp S T Lay (zy_W post S g_depth g_pieceDepth g_oldHigh b_sorts b_regs b_numbers b_firsts b_seconds b_tests b_exits b_sizes b_kinds b_lefts b_rights b_masks b_counts b_stack b_pieces b_oldRegisters b_oldPile) := by
  intro n fs p d st ρ π s lo hL hk hf hq hW vs re pi on op ob hv hh hfr
  obtain ⟨hp, hs, h16⟩ := hLv _ _ _ hL
  obtain ⟨_, _, h24, hS, hT, hsz, hTY, hSY⟩ := hE p hp
  obtain ⟨m1, m2, m3, m4, m5, m6⟩ := hSY s hs
  obtain ⟨hx, hy⟩ := (hS s hs).2.2.2.2.2.2.2.1 (by omega)
  rw [hk] at m1
  have H := fun vs => hW vs re pi (upd on fs.length (nI (16 * p + s))) (upd op fs.length (nI 1)) (upd ob fs.length (zx_b d)) hv hh (zy_frp hfr)
  rw [zy_cln (by omega)] at H
  refine zy_lpB (by omega) ?_ H
  intro Q hQ
  exact zy_b12 hT h24 hTY hv hx hy (m4 (by omega)) (m5 (by omega)) hp h16 m1 (m6 (by omega)).1 hf hq hQ
theorem zy_r_lpF (hE : zy_env b_sorts b_regs b_numbers b_firsts b_seconds b_tests b_exits b_sizes b_kinds b_lefts b_rights S T nS nT) (hLv : ∀ p s lo, Lay p s lo → p < 3 ∧ s < nS p ∧ s < 16) : zy_lpF S T Lay (zy_W post S g_depth g_pieceDepth g_oldHigh b_sorts b_regs b_numbers b_firsts b_seconds b_tests b_exits b_sizes b_kinds b_lefts b_rights b_masks b_counts b_stack b_pieces b_oldRegisters b_oldPile) (zy_G post g_depth g_pieceDepth g_oldHigh b_sorts b_regs b_numbers b_firsts b_seconds b_tests b_exits b_sizes b_kinds b_lefts b_rights b_masks b_counts b_stack b_pieces b_oldRegisters b_oldPile) := by
  intro n fs p d st ρ π s lo hL hk hq hG vs re pi on op ob hv hh hfr
  obtain ⟨hp, hs, h16⟩ := hLv _ _ _ hL
  obtain ⟨_, _, h24, hS, hT, hsz, hTY, hSY⟩ := hE p hp
  obtain ⟨m1, m2, m3, m4, m5, m6⟩ := hSY s hs
  obtain ⟨hx, hy⟩ := (hS s hs).2.2.2.2.2.2.2.1 (by omega)
  rw [hk] at m1
  refine zy_lpB (by omega) ?_ (fun vs => hG (nI π.length) (nI fs.length) (-1) (zx_b d) (nI (zm_cl S fs)) vs re pi on op ob n)
  intro Q hQ
  exact zy_b12F hT h24 hTY hv hx hy (m4 (by omega)) (m5 (by omega)) hp h16 m1 hq hQ
theorem zy_r_tired (hE : zy_env b_sorts b_regs b_numbers b_firsts b_seconds b_tests b_exits b_sizes b_kinds b_lefts b_rights S T nS nT) (hLv : ∀ p s lo, Lay p s lo → p < 3 ∧ s < nS p ∧ s < 16) : zy_tired S Lay (zy_W post S g_depth g_pieceDepth g_oldHigh b_sorts b_regs b_numbers b_firsts b_seconds b_tests b_exits b_sizes b_kinds b_lefts b_rights b_masks b_counts b_stack b_pieces b_oldRegisters b_oldPile) (zy_G post g_depth g_pieceDepth g_oldHigh b_sorts b_regs b_numbers b_firsts b_seconds b_tests b_exits b_sizes b_kinds b_lefts b_rights b_masks b_counts b_stack b_pieces b_oldRegisters b_oldPile) := by
  intro n fs p d ρ π s lo hL hk hG vs re pi on op ob hv hh hfr
  obtain ⟨hp, hs, h16⟩ := hLv _ _ _ hL
  obtain ⟨_, _, h24, hS, hT, hsz, hTY, hSY⟩ := hE p hp
  obtain ⟨m1, m2, m3, m4, m5, m6⟩ := hSY s hs
  refine zy_lpB (by omega) ?_ (fun vs => hG (nI π.length) (nI fs.length) (-1) (zx_b d) (nI (zm_cl S fs)) vs re pi on op ob n)
  intro Q hQ
  exact zy_bs hp h16 m1 hk (fun R hR => zy_stir (hR _)) hQ
theorem zy_r_call (hE : zy_env b_sorts b_regs b_numbers b_firsts b_seconds b_tests b_exits b_sizes b_kinds b_lefts b_rights S T nS nT) (hLv : ∀ p s lo, Lay p s lo → p < 3 ∧ s < nS p ∧ s < 16) : zy_call S Lay nS (zy_W post S g_depth g_pieceDepth g_oldHigh b_sorts b_regs b_numbers b_firsts b_seconds b_tests b_exits b_sizes b_kinds b_lefts b_rights b_masks b_counts b_stack b_pieces b_oldRegisters b_oldPile) := by
  intro n fs p d st ρ π s lo hL hk hst hf hcl hW vs re pi on op ob hv hh hfr
  obtain ⟨hp, hs, h16⟩ := hLv _ _ _ hL
  obtain ⟨_, _, h24, hS, hT, hsz, hTY, hSY⟩ := hE p hp
  obtain ⟨m1, m2, m3, m4, m5, m6⟩ := hSY s hs
  have hn3 := (hS s hs).2.2.2.1 hk
  obtain ⟨_, hz1, _, _, _, hszn, _, _⟩ := hE _ hn3
  have H := fun vs => hW vs re pi (upd on fs.length (nI (16 * p + s))) (upd op fs.length (nI 1)) (upd ob fs.length (zx_b d)) hv hh (zy_frp hfr)
  rw [zy_clc (by omega)] at H
  refine zy_lpB (by omega) ?_ H
  intro Q hQ
  exact zy_bs hp h16 m1 (by omega) (fun R hR => zy_scl (by omega) m1 hst hk (fun P hP => zy_ent (by omega) m1 hk (m3 (by omega)) hn3 hszn hz1 hcl hf hP) (hR _)) hQ
theorem zy_r_deep (hE : zy_env b_sorts b_regs b_numbers b_firsts b_seconds b_tests b_exits b_sizes b_kinds b_lefts b_rights S T nS nT) (hLv : ∀ p s lo, Lay p s lo → p < 3 ∧ s < nS p ∧ s < 16) : zy_deep S Lay (zy_W post S g_depth g_pieceDepth g_oldHigh b_sorts b_regs b_numbers b_firsts b_seconds b_tests b_exits b_sizes b_kinds b_lefts b_rights b_masks b_counts b_stack b_pieces b_oldRegisters b_oldPile) (zy_G post g_depth g_pieceDepth g_oldHigh b_sorts b_regs b_numbers b_firsts b_seconds b_tests b_exits b_sizes b_kinds b_lefts b_rights b_masks b_counts b_stack b_pieces b_oldRegisters b_oldPile) := by
  intro n fs p d st ρ π s lo hL hk hst hcl hG vs re pi on op ob hv hh hfr
  obtain ⟨hp, hs, h16⟩ := hLv _ _ _ hL
  obtain ⟨_, _, h24, hS, hT, hsz, hTY, hSY⟩ := hE p hp
  obtain ⟨m1, m2, m3, m4, m5, m6⟩ := hSY s hs
  rw [hcl]
  refine zy_lpB (by omega) ?_ (fun vs => hG (nI π.length) (nI fs.length) (-1) (zx_b d) (nI 6) vs re pi on op ob n)
  intro Q hQ
  exact zy_bs hp h16 m1 (by omega) (fun R hR => zy_scl (by omega) m1 hst hk (fun P hP => zy_deep1 hP) (hR _)) hQ
theorem zy_r_fin : zy_fin (zy_W post S g_depth g_pieceDepth g_oldHigh b_sorts b_regs b_numbers b_firsts b_seconds b_tests b_exits b_sizes b_kinds b_lefts b_rights b_masks b_counts b_stack b_pieces b_oldRegisters b_oldPile) (zy_F post g_depth g_pieceDepth g_oldHigh b_sorts b_regs b_numbers b_firsts b_seconds b_tests b_exits b_sizes b_kinds b_lefts b_rights b_masks b_counts b_stack b_pieces b_oldRegisters b_oldPile) := by
  intro n p d st ρ π hF vs re pi on op ob hv hh hfr
  refine zy_lpP ?_ (fun vs => hF 0 (-1) (zx_b d) (nI (zm_cl S [])) vs re pi on op ob n hv hh)
  intro Q hQ
  exact zy_p0 (hQ _)
theorem zy_r_pcall (hE : zy_env b_sorts b_regs b_numbers b_firsts b_seconds b_tests b_exits b_sizes b_kinds b_lefts b_rights S T nS nT) (hLv : ∀ p s lo, Lay p s lo → p < 3 ∧ s < nS p ∧ s < 16) : zy_pcall S Lay (zy_W post S g_depth g_pieceDepth g_oldHigh b_sorts b_regs b_numbers b_firsts b_seconds b_tests b_exits b_sizes b_kinds b_lefts b_rights b_masks b_counts b_stack b_pieces b_oldRegisters b_oldPile) := by
  intro n fs p d' st ρ π q s pt d lo hL hk hf hW vs re pi on op ob hv hh hfr
  obtain ⟨hp, hs, h16⟩ := hLv _ _ _ hL
  obtain ⟨_, _, h24, hS, hT, hsz, hTY, hSY⟩ := hE q hp
  obtain ⟨m1, m2, m3, m4, m5, m6⟩ := hSY s hs
  rw [zy_clc hk]
  refine zy_lpP ?_ (fun vs => hW vs re pi on op ob hv hh hfr.2.2.2)
  intro Q hQ
  exact zy_pc hp h16 hf hfr.1 hfr.2.1 hfr.2.2.1 m1 hk (hQ _)
theorem zy_r_pseq (hE : zy_env b_sorts b_regs b_numbers b_firsts b_seconds b_tests b_exits b_sizes b_kinds b_lefts b_rights S T nS nT) (hLv : ∀ p s lo, Lay p s lo → p < 3 ∧ s < nS p ∧ s < 16) : zy_pseq S Lay (zy_W post S g_depth g_pieceDepth g_oldHigh b_sorts b_regs b_numbers b_firsts b_seconds b_tests b_exits b_sizes b_kinds b_lefts b_rights b_masks b_counts b_stack b_pieces b_oldRegisters b_oldPile) := by
  intro n fs p d' st ρ π q s pt d lo hL hk hf hW vs re pi on op ob hv hh hfr
  obtain ⟨hp, hs, h16⟩ := hLv _ _ _ hL
  obtain ⟨_, _, h24, hS, hT, hsz, hTY, hSY⟩ := hE q hp
  obtain ⟨m1, m2, m3, m4, m5, m6⟩ := hSY s hs
  rw [hk] at m1
  rw [zy_cln (by omega)]
  refine zy_lpP ?_ (fun vs => hW vs re pi on op ob hv hh hfr.2.2.2)
  intro Q hQ
  exact zy_p10 hp h16 hf hfr.1 hfr.2.1 hfr.2.2.1 m1 (m6 (by omega)).1 (m6 (by omega)).2 (hQ _)
theorem zy_r_pif (hE : zy_env b_sorts b_regs b_numbers b_firsts b_seconds b_tests b_exits b_sizes b_kinds b_lefts b_rights S T nS nT) (hLv : ∀ p s lo, Lay p s lo → p < 3 ∧ s < nS p ∧ s < 16) : zy_pif S T Lay (zy_W post S g_depth g_pieceDepth g_oldHigh b_sorts b_regs b_numbers b_firsts b_seconds b_tests b_exits b_sizes b_kinds b_lefts b_rights b_masks b_counts b_stack b_pieces b_oldRegisters b_oldPile) := by
  intro n fs p d' st ρ π q s pt d lo hL hk hf hpt hq hW vs re pi on op ob hv hh hfr
  obtain ⟨hp, hs, h16⟩ := hLv _ _ _ hL
  obtain ⟨_, _, h24, hS, hT, hsz, hTY, hSY⟩ := hE q hp
  obtain ⟨m1, m2, m3, m4, m5, m6⟩ := hSY s hs
  obtain ⟨hx, hy⟩ := (hS s hs).2.2.2.2.2.2.2.1 (by omega)
  rw [hk] at m1
  rw [zy_cln (by omega)]
  refine zy_lpP ?_ (fun vs => hW vs re pi on op ob hv hh hfr.2.2.2)
  intro Q hQ
  exact zy_p11 hT h24 hTY hv hx hy (m4 (by omega)) (m5 (by omega)) hp h16 hf hfr.1 hfr.2.1 hfr.2.2.1 m1 hpt (fun vs => br_t hq (hQ vs))
theorem zy_r_pifF (hE : zy_env b_sorts b_regs b_numbers b_firsts b_seconds b_tests b_exits b_sizes b_kinds b_lefts b_rights S T nS nT) (hLv : ∀ p s lo, Lay p s lo → p < 3 ∧ s < nS p ∧ s < 16) : zy_pifF S T Lay (zy_W post S g_depth g_pieceDepth g_oldHigh b_sorts b_regs b_numbers b_firsts b_seconds b_tests b_exits b_sizes b_kinds b_lefts b_rights b_masks b_counts b_stack b_pieces b_oldRegisters b_oldPile) (zy_G post g_depth g_pieceDepth g_oldHigh b_sorts b_regs b_numbers b_firsts b_seconds b_tests b_exits b_sizes b_kinds b_lefts b_rights b_masks b_counts b_stack b_pieces b_oldRegisters b_oldPile) := by
  intro n fs p d' st ρ π q s pt d lo hL hk hf hpt hq hG vs re pi on op ob hv hh hfr
  obtain ⟨hp, hs, h16⟩ := hLv _ _ _ hL
  obtain ⟨_, _, h24, hS, hT, hsz, hTY, hSY⟩ := hE q hp
  obtain ⟨m1, m2, m3, m4, m5, m6⟩ := hSY s hs
  obtain ⟨hx, hy⟩ := (hS s hs).2.2.2.2.2.2.2.1 (by omega)
  rw [hk] at m1
  rw [zy_cln (by omega)]
  refine zy_lpP ?_ (fun vs => hG (nI π.length) (nI fs.length) (-1) (zx_b d) (nI (zm_cl S fs)) vs re pi on op ob n)
  intro Q hQ
  exact zy_p11 hT h24 hTY hv hx hy (m4 (by omega)) (m5 (by omega)) hp h16 hf hfr.1 hfr.2.1 hfr.2.2.1 m1 hpt (fun vs => br_f (by rw [hq]; cases decide (pt = 1) <;> decide) (hQ vs))
theorem zy_r_plp (hE : zy_env b_sorts b_regs b_numbers b_firsts b_seconds b_tests b_exits b_sizes b_kinds b_lefts b_rights S T nS nT) (hLv : ∀ p s lo, Lay p s lo → p < 3 ∧ s < nS p ∧ s < 16) : zy_plp S T Lay (zy_W post S g_depth g_pieceDepth g_oldHigh b_sorts b_regs b_numbers b_firsts b_seconds b_tests b_exits b_sizes b_kinds b_lefts b_rights b_masks b_counts b_stack b_pieces b_oldRegisters b_oldPile) := by
  intro n fs p d' st ρ π q s d lo hL hk hf hq hW vs re pi on op ob hv hh hfr
  obtain ⟨hp, hs, h16⟩ := hLv _ _ _ hL
  obtain ⟨_, _, h24, hS, hT, hsz, hTY, hSY⟩ := hE q hp
  obtain ⟨m1, m2, m3, m4, m5, m6⟩ := hSY s hs
  obtain ⟨hx, hy⟩ := (hS s hs).2.2.2.2.2.2.2.1 (by omega)
  rw [hk] at m1
  rw [zy_cln (by omega)]
  refine zy_lpP ?_ (fun vs => hW vs re pi on op ob hv hh hfr.2.2.2)
  intro Q hQ
  exact zy_p12 hT h24 hTY hv hx hy (m4 (by omega)) (m5 (by omega)) hp h16 hf hfr.1 hfr.2.1 hfr.2.2.1 m1 (m6 (by omega)).2 (fun vs => ⟨fun _ => hQ vs, fun e => absurd (hq.symm.trans e) (by decide)⟩)
theorem zy_r_plp1 (hE : zy_env b_sorts b_regs b_numbers b_firsts b_seconds b_tests b_exits b_sizes b_kinds b_lefts b_rights S T nS nT) (hLv : ∀ p s lo, Lay p s lo → p < 3 ∧ s < nS p ∧ s < 16) : zy_plp1 S T Lay (zy_W post S g_depth g_pieceDepth g_oldHigh b_sorts b_regs b_numbers b_firsts b_seconds b_tests b_exits b_sizes b_kinds b_lefts b_rights b_masks b_counts b_stack b_pieces b_oldRegisters b_oldPile) := by
  intro n fs p d' st ρ π q s d lo hL hk hf hq hW vs re pi on op ob hv hh hfr
  obtain ⟨hp, hs, h16⟩ := hLv _ _ _ hL
  obtain ⟨_, _, h24, hS, hT, hsz, hTY, hSY⟩ := hE q hp
  obtain ⟨m1, m2, m3, m4, m5, m6⟩ := hSY s hs
  obtain ⟨hx, hy⟩ := (hS s hs).2.2.2.2.2.2.2.1 (by omega)
  rw [hk] at m1
  have H := fun vs => hW vs re pi (upd on fs.length (nI (16 * q + s))) (upd op fs.length (nI 2)) (upd ob fs.length (zx_b d)) hv hh (zy_frp hfr.2.2.2)
  rw [zy_cln (by omega)] at H ⊢
  refine zy_lpP ?_ H
  intro Q hQ
  exact zy_p12 hT h24 hTY hv hx hy (m4 (by omega)) (m5 (by omega)) hp h16 hf hfr.1 hfr.2.1 hfr.2.2.1 m1 (m6 (by omega)).2 (fun vs => ⟨fun e => absurd (hq.symm.trans e) (by decide), fun _ => hQ vs⟩)
theorem zy_r_plp2 (hE : zy_env b_sorts b_regs b_numbers b_firsts b_seconds b_tests b_exits b_sizes b_kinds b_lefts b_rights S T nS nT) (hLv : ∀ p s lo, Lay p s lo → p < 3 ∧ s < nS p ∧ s < 16) : zy_plp2 S T Lay (zy_W post S g_depth g_pieceDepth g_oldHigh b_sorts b_regs b_numbers b_firsts b_seconds b_tests b_exits b_sizes b_kinds b_lefts b_rights b_masks b_counts b_stack b_pieces b_oldRegisters b_oldPile) := by
  intro n fs p d' st ρ π q s d lo hL hk hf hq hW vs re pi on op ob hv hh hfr
  obtain ⟨hp, hs, h16⟩ := hLv _ _ _ hL
  obtain ⟨_, _, h24, hS, hT, hsz, hTY, hSY⟩ := hE q hp
  obtain ⟨m1, m2, m3, m4, m5, m6⟩ := hSY s hs
  obtain ⟨hx, hy⟩ := (hS s hs).2.2.2.2.2.2.2.1 (by omega)
  rw [hk] at m1
  have H := fun vs => hW vs re pi (upd on fs.length (nI (16 * q + s))) (upd op fs.length (nI 1)) (upd ob fs.length (zx_b d)) hv hh (zy_frp hfr.2.2.2)
  rw [zy_cln (by omega)] at H ⊢
  refine zy_lpP ?_ H
  intro Q hQ
  exact zy_p13 hT h24 hTY hv hx hy (m4 (by omega)) (m5 (by omega)) hp h16 hf hfr.1 hfr.2.1 hfr.2.2.1 m1 (m6 (by omega)).1 (fun vs => ⟨fun e => absurd (hq.symm.trans e) (by decide), fun _ => hQ vs⟩)
theorem zy_r_plpF (hE : zy_env b_sorts b_regs b_numbers b_firsts b_seconds b_tests b_exits b_sizes b_kinds b_lefts b_rights S T nS nT) (hLv : ∀ p s lo, Lay p s lo → p < 3 ∧ s < nS p ∧ s < 16) : zy_plpF S T Lay (zy_W post S g_depth g_pieceDepth g_oldHigh b_sorts b_regs b_numbers b_firsts b_seconds b_tests b_exits b_sizes b_kinds b_lefts b_rights b_masks b_counts b_stack b_pieces b_oldRegisters b_oldPile) (zy_G post g_depth g_pieceDepth g_oldHigh b_sorts b_regs b_numbers b_firsts b_seconds b_tests b_exits b_sizes b_kinds b_lefts b_rights b_masks b_counts b_stack b_pieces b_oldRegisters b_oldPile) := by
  intro n fs p d' st ρ π q s d lo hL hk hf hq hG vs re pi on op ob hv hh hfr
  obtain ⟨hp, hs, h16⟩ := hLv _ _ _ hL
  obtain ⟨_, _, h24, hS, hT, hsz, hTY, hSY⟩ := hE q hp
  obtain ⟨m1, m2, m3, m4, m5, m6⟩ := hSY s hs
  obtain ⟨hx, hy⟩ := (hS s hs).2.2.2.2.2.2.2.1 (by omega)
  rw [hk] at m1
  rw [zy_cln (by omega)]
  refine zy_lpP ?_ (fun vs => hG (nI π.length) (nI fs.length) (-1) (zx_b d) (nI (zm_cl S fs)) vs re pi on op ob n)
  intro Q hQ
  exact zy_p13 hT h24 hTY hv hx hy (m4 (by omega)) (m5 (by omega)) hp h16 hf hfr.1 hfr.2.1 hfr.2.2.1 m1 (m6 (by omega)).1 (fun vs => ⟨fun _ => hQ vs, fun e => absurd (hq.symm.trans e) (by decide)⟩)
theorem zy_r_leaf (hE : zy_env b_sorts b_regs b_numbers b_firsts b_seconds b_tests b_exits b_sizes b_kinds b_lefts b_rights S T nS nT) (hLv : ∀ p s lo, Lay p s lo → p < 3 ∧ s < nS p ∧ s < 16) : zy_leaf S T Lay (zy_W post S g_depth g_pieceDepth g_oldHigh b_sorts b_regs b_numbers b_firsts b_seconds b_tests b_exits b_sizes b_kinds b_lefts b_rights b_masks b_counts b_stack b_pieces b_oldRegisters b_oldPile) := by
  intro n fs p d st ρ π s lo ρ' π' hL hk9 h4 h5 hst hl hf hW vs re pi on op ob hv hh hfr
  obtain ⟨hp, hs, h16⟩ := hLv _ _ _ hL
  obtain ⟨_, _, h24, hS, hT, hsz, hTY, hSY⟩ := hE p hp
  obtain ⟨m1, m2, m3, m4, m5, m6⟩ := hSY s hs
  have hok := hS s hs
  have hr6 := hok.2.1
  have hn6 := hok.2.2.1
  have hx := hok.2.2.2.2.1
  have hm : 16 * p + s < 64 := by omega
  generalize hr : zs_r (S p) s = r at *
  generalize hnn : zs_n (S p) s = nn at *
  generalize hxx : zs_x (S p) s = x at *
  have hsto : (zs_k (S p) s = 2 ∧ d = false) ∨ (zs_k (S p) s = 3 ∧ d = true) → zm_sto r ρ π = some (ρ', π') →
      wY_run_65 post (n + 1) g_depth g_pieceDepth (nI π.length) g_oldHigh (nI fs.length) (nI (16 * p + s)) (zx_b d) (nI (zm_cl S fs)) (-1) (nI st) b_sorts b_regs b_numbers b_firsts b_seconds b_tests b_exits b_sizes b_kinds b_lefts b_rights b_masks b_counts vs b_stack b_pieces re pi b_oldRegisters b_oldPile on op ob := by
    intro hkd hf
    have hr := m2 (by omega)
    have h6 := hr6 (by omega)
    unfold zm_sto at hf
    by_cases e : π.length = 12
    · rw [if_pos e] at hf; exact absurd hf (by simp)
    rw [if_neg e] at hf
    injection hf with hf; injection hf with e1 e2
    subst e1; subst e2
    refine zy_lpB hm ?_ (fun vs => hW vs (upd re r 0) (upd pi π.length (re r)) on op ob (zx_vu hv rfl) ⟨pk_us.trans (hv r h6), zl_v_upd (Nat.le_refl _) hh⟩ hfr)
    intro Q hQ
    exact zy_bs hp h16 m1 hk9 (fun R hR => zy_sst hm m1 hr hst hkd (fun P h => zy_on h6 (by omega) h) (hR _)) hQ
  have hfet : (zs_k (S p) s = 2 ∧ d = true) ∨ (zs_k (S p) s = 3 ∧ d = false) → zm_fet r ρ π = some (ρ', π') →
      wY_run_65 post (n + 1) g_depth g_pieceDepth (nI π.length) g_oldHigh (nI fs.length) (nI (16 * p + s)) (zx_b d) (nI (zm_cl S fs)) (-1) (nI st) b_sorts b_regs b_numbers b_firsts b_seconds b_tests b_exits b_sizes b_kinds b_lefts b_rights b_masks b_counts vs b_stack b_pieces re pi b_oldRegisters b_oldPile on op ob := by
    intro hkd hf
    have hr := m2 (by omega)
    have h6 := hr6 (by omega)
    cases π with
    | nil => exact absurd hf (by simp [zm_fet])
    | cons v π =>
    have hf : (if ρ r = 0 then some (upd ρ r v, π) else none) = some (ρ', π') := hf
    have hl' : π.length + 1 ≤ 12 := hl
    by_cases e : ρ r = 0
    · rw [if_pos e] at hf
      injection hf with hf; injection hf with e1 e2
      subst e1; subst e2
      refine zy_lpB hm ?_ (fun vs => hW vs (upd re r (pi π.length)) pi on op ob (zx_vu hv hh.1) hh.2 hfr)
      intro Q hQ
      exact zy_bs hp h16 m1 hk9 (fun R hR => zy_sft hm m1 hr hst hkd (fun P h => zy_off h6 (by omega) ((hv r h6).trans e) h) (hR _)) hQ
    · rw [if_neg e] at hf; exact absurd hf (by simp)
  rcases (show zs_k (S p) s = 0 ∨ zs_k (S p) s = 1 ∨ zs_k (S p) s = 2 ∨ zs_k (S p) s = 3 ∨ (zs_k (S p) s = 6 ∨ zs_k (S p) s = 7 ∨ zs_k (S p) s = 8) ∨ zs_k (S p) s = 9 from by omega) with hk | hk | hk | hk | hk | hk
  · rw [hk] at hf m1
    have hf : some (ρ, π) = some (ρ', π') := hf
    injection hf with hf; injection hf with e1 e2
    subst e1; subst e2
    refine zy_lpB hm ?_ (fun vs => hW vs re pi on op ob hv hh hfr)
    intro Q hQ
    exact zy_bs hp h16 m1 (by omega) (fun R hR => zy_s0 hm m1 hst (hR _)) hQ
  · have hr := m2 (by omega)
    have hn := m3 (by omega)
    have h6 := hr6 (by omega)
    have h6n := hn6 hk
    rw [hk] at hf m1
    have hf : some (upd (upd ρ r (ρ nn)) nn (ρ r), π) = some (ρ', π') := hf
    injection hf with hf; injection hf with e1 e2
    subst e1; subst e2
    refine zy_lpB hm ?_ (fun vs => hW vs (upd (upd re r (re nn)) nn (re r)) pi on op ob (zx_vu (zx_vu hv (hv nn h6n)) (hv r h6)) hh hfr)
    intro Q hQ
    exact zy_bs hp h16 m1 (by omega) (fun R hR => zy_s1 hm m1 hr hn h6 h6n hst (hR _)) hQ
  · rw [hk] at hf
    cases d with
    | false => exact hsto (Or.inl ⟨hk, rfl⟩) hf
    | true => exact hfet (Or.inl ⟨hk, rfl⟩) hf
  · rw [hk] at hf
    cases d with
    | false => exact hfet (Or.inr ⟨hk, rfl⟩) hf
    | true => exact hsto (Or.inr ⟨hk, rfl⟩) hf
  · have hr := m2 (by omega)
    have h6 := hr6 (by omega)
    have hxn := hx (by omega)
    have hxe := m4 (by omega)
    have hf' : some (upd ρ r (if zs_k (S p) s = 8 then ρ r ^^^ zt_val (T p) ρ x else if (if zs_k (S p) s = 6 then d = false else d = true) then ρ r + zt_val (T p) ρ x else ρ r - zt_val (T p) ρ x), π) = some (ρ', π') := by
      rw [← hf]
      rcases hk with hk | hk | hk <;> rw [hk] <;> cases d <;> rfl
    injection hf' with hf'; injection hf' with e1 e2
    subst e1; subst e2
    refine zy_lpB hm ?_ (fun vs => hW vs (upd re r (if zs_k (S p) s = 8 then re r ^^^ zt_val (T p) ρ x else if (if zs_k (S p) s = 6 then d = false else d = true) then re r + zt_val (T p) ρ x else re r - zt_val (T p) ρ x)) pi on op ob
      (zx_vu hv (by rw [hv r h6])) hh hfr)
    intro Q hQ
    exact zy_bs hp h16 m1 (by omega) (fun R hR => zy_sup hT h24 hp h16 hTY hv hxn hxe m1 hr h6 hst hk hR) hQ
  · have hxn := hx (by omega)
    have hxe := m4 (by omega)
    rw [hk] at hf m1
    have hf : (if zt_val (T p) ρ x = 0 then none else some (ρ, π)) = some (ρ', π') := hf
    by_cases e : zt_val (T p) ρ x = 0
    · rw [if_pos e] at hf; exact absurd hf (by simp)
    rw [if_neg e] at hf
    injection hf with hf; injection hf with e1 e2
    subst e1; subst e2
    refine zy_lpB hm ?_ (fun vs => hW vs re pi on op ob hv hh hfr)
    intro Q hQ
    exact zy_bs hp h16 m1 (by omega) (fun R hR => zy_sch hT h24 hp h16 hTY hv hxn hxe m1 hst (fun vs => br_f e (hR vs))) hQ
theorem zy_r_leafF (hE : zy_env b_sorts b_regs b_numbers b_firsts b_seconds b_tests b_exits b_sizes b_kinds b_lefts b_rights S T nS nT) (hLv : ∀ p s lo, Lay p s lo → p < 3 ∧ s < nS p ∧ s < 16) : zy_leafF S T Lay (zy_W post S g_depth g_pieceDepth g_oldHigh b_sorts b_regs b_numbers b_firsts b_seconds b_tests b_exits b_sizes b_kinds b_lefts b_rights b_masks b_counts b_stack b_pieces b_oldRegisters b_oldPile) (zy_G post g_depth g_pieceDepth g_oldHigh b_sorts b_regs b_numbers b_firsts b_seconds b_tests b_exits b_sizes b_kinds b_lefts b_rights b_masks b_counts b_stack b_pieces b_oldRegisters b_oldPile) := by
  intro n fs p d st ρ π s lo hL hk9 h4 h5 hst hl hf hG vs re pi on op ob hv hh hfr
  obtain ⟨hp, hs, h16⟩ := hLv _ _ _ hL
  obtain ⟨_, _, h24, hS, hT, hsz, hTY, hSY⟩ := hE p hp
  obtain ⟨m1, m2, m3, m4, m5, m6⟩ := hSY s hs
  have hok := hS s hs
  have hr6 := hok.2.1
  have hx := hok.2.2.2.2.1
  have hm : 16 * p + s < 64 := by omega
  refine zy_lpB hm ?_ (fun vs => hG (nI π.length) (nI fs.length) (-1) (zx_b d) (nI (zm_cl S fs)) vs re pi on op ob n)
  intro Q hQ
  generalize hr : zs_r (S p) s = r at *
  generalize hnn : zs_n (S p) s = nn at *
  generalize hxx : zs_x (S p) s = x at *
  have hsto : (zs_k (S p) s = 2 ∧ d = false) ∨ (zs_k (S p) s = 3 ∧ d = true) → zm_sto r ρ π = none →
      wpY_begin Q (g_depth, g_pieceDepth, nI π.length, g_oldHigh, nI fs.length, nI (16 * p + s), zx_b d, nI (zm_cl S fs), (-1), nI st, b_sorts, b_regs, b_numbers, b_firsts, b_seconds, b_tests, b_exits, b_sizes, b_kinds, b_lefts, b_rights, b_masks, b_counts, vs, b_stack, b_pieces, re, pi, b_oldRegisters, b_oldPile, on, op, ob) := by
    intro hkd hf
    have hr := m2 (by omega)
    unfold zm_sto at hf
    by_cases e : π.length = 12
    · rw [e] at hQ ⊢
      exact zy_bs hp h16 m1 hk9 (fun R hR => zy_sst hm m1 hr hst hkd (fun P h => zy_onF h) (hR _)) hQ
    · rw [if_neg e] at hf; exact absurd hf (by simp)
  have hfet : (zs_k (S p) s = 2 ∧ d = true) ∨ (zs_k (S p) s = 3 ∧ d = false) → zm_fet r ρ π = none →
      wpY_begin Q (g_depth, g_pieceDepth, nI π.length, g_oldHigh, nI fs.length, nI (16 * p + s), zx_b d, nI (zm_cl S fs), (-1), nI st, b_sorts, b_regs, b_numbers, b_firsts, b_seconds, b_tests, b_exits, b_sizes, b_kinds, b_lefts, b_rights, b_masks, b_counts, vs, b_stack, b_pieces, re, pi, b_oldRegisters, b_oldPile, on, op, ob) := by
    intro hkd hf
    have hr := m2 (by omega)
    have h6 := hr6 (by omega)
    have hz : π.length = 0 ∨ ¬ re r = 0 := by
      cases π with
      | nil => exact Or.inl rfl
      | cons v π =>
        have hf : (if ρ r = 0 then some (upd ρ r v, π) else none) = none := hf
        refine Or.inr fun e => ?_
        rw [if_pos ((hv r h6).symm.trans e)] at hf
        exact absurd hf (by simp)
    exact zy_bs hp h16 m1 hk9 (fun R hR => zy_sft hm m1 hr hst hkd (fun P h => zy_offF h6 hl hz h) (hR _)) hQ
  rcases (show zs_k (S p) s = 0 ∨ zs_k (S p) s = 1 ∨ zs_k (S p) s = 2 ∨ zs_k (S p) s = 3 ∨ zs_k (S p) s = 6 ∨ zs_k (S p) s = 7 ∨ zs_k (S p) s = 8 ∨ zs_k (S p) s = 9 from by omega) with hk | hk | hk | hk | hk | hk | hk | hk
  · rw [hk] at hf; exact absurd hf (by simp [zm_f])
  · rw [hk] at hf; exact absurd hf (by simp [zm_f])
  · rw [hk] at hf
    cases d with
    | false => exact hsto (Or.inl ⟨hk, rfl⟩) hf
    | true => exact hfet (Or.inl ⟨hk, rfl⟩) hf
  · rw [hk] at hf
    cases d with
    | false => exact hfet (Or.inr ⟨hk, rfl⟩) hf
    | true => exact hsto (Or.inr ⟨hk, rfl⟩) hf
  · rw [hk] at hf; cases d <;> exact absurd hf (by simp [zm_f])
  · rw [hk] at hf; cases d <;> exact absurd hf (by simp [zm_f])
  · rw [hk] at hf; exact absurd hf (by simp [zm_f])
  · have hxn := hx (by omega)
    have hxe := m4 (by omega)
    rw [hk] at hf m1
    have hf : (if zt_val (T p) ρ x = 0 then none else some (ρ, π)) = none := hf
    by_cases e : zt_val (T p) ρ x = 0
    · exact zy_bs hp h16 m1 (by omega) (fun R hR => zy_sch hT h24 hp h16 hTY hv hxn hxe m1 hst (fun vs => br_t e (hR vs))) hQ
    · rw [if_neg e] at hf; exact absurd hf (by simp)
theorem zy_YR (hE : zy_env b_sorts b_regs b_numbers b_firsts b_seconds b_tests b_exits b_sizes b_kinds b_lefts b_rights S T nS nT) (hLv : ∀ p s lo, Lay p s lo → p < 3 ∧ s < nS p ∧ s < 16) : zm_YR S T Lay nS (zy_W post S g_depth g_pieceDepth g_oldHigh b_sorts b_regs b_numbers b_firsts b_seconds b_tests b_exits b_sizes b_kinds b_lefts b_rights b_masks b_counts b_stack b_pieces b_oldRegisters b_oldPile) (zy_F post g_depth g_pieceDepth g_oldHigh b_sorts b_regs b_numbers b_firsts b_seconds b_tests b_exits b_sizes b_kinds b_lefts b_rights b_masks b_counts b_stack b_pieces b_oldRegisters b_oldPile) (zy_G post g_depth g_pieceDepth g_oldHigh b_sorts b_regs b_numbers b_firsts b_seconds b_tests b_exits b_sizes b_kinds b_lefts b_rights b_masks b_counts b_stack b_pieces b_oldRegisters b_oldPile) :=
  ⟨⟨zy_r_seq hE hLv, zy_r_if hE hLv, zy_r_lp hE hLv, zy_r_lpF hE hLv, zy_r_leaf hE hLv, zy_r_leafF hE hLv, zy_r_tired hE hLv, zy_r_call hE hLv, zy_r_deep hE hLv⟩,
   ⟨zy_r_fin, zy_r_pcall hE hLv, zy_r_pseq hE hLv, zy_r_pif hE hLv, zy_r_pifF hE hLv, zy_r_plp hE hLv, zy_r_plp1 hE hLv, zy_r_plp2 hE hLv, zy_r_plpF hE hLv⟩⟩
end
end
section
/-! ===== X's compiler: fold, words ===== -/
def zi_TX (base n : Nat) (T : Nat → Nat → Nat) (tk ta tb tn : Nat → Int32) : Prop := ∀ t, t < n → tk (base + t) = nI (zt_k T t) ∧ (7 ≤ zt_k T t → tn (base + t) = nI (zt_n T t)) ∧
  (zt_k T t ≤ 6 → ta (base + t) = nI (zt_a T t) ∧ tb (base + t) = nI (zt_b T t))
/-- which terms are constant -/
def zf_ok (T : Nat → Nat → Nat) (N x : Nat) (c f : Nat → Int32) : Prop := ∀ t, t < x → t < N → (c t = 0 → ¬ zt_k T t = 7) ∧ (¬ c t = 0 → ∀ ρ, zt_val T ρ t = f t)
theorem zf_up {T : Nat → Nat → Nat} {N x : Nat} {c f c' f' : Nat → Int32} (h : zf_ok T N x c f) (ec : ∀ j, j < x → c' j = c j) (ef : ∀ j, j < x → f' j = f j)
    (hx : x < N → (c' x = 0 → ¬ zt_k T x = 7) ∧ (¬ c' x = 0 → ∀ ρ, zt_val T ρ x = f' x)) : zf_ok T N (x + 1) c' f' := by
  intro t ht hN
  by_cases e : t = x
  · subst e; exact hx hN
  · rw [ec t (by omega), ef t (by omega)]; exact h t (by omega) hN
theorem zn_p24 (p x : Nat) : nI p * 24 + nI x = nI (24 * p + x) := by rw [show (24 : Int32) = nI 24 from rfl, pk_mul, nI_add, Nat.mul_comm]
theorem zn_p16 (p x : Nat) : nI p * 16 + nI x = nI (16 * p + x) := by rw [show (16 : Int32) = nI 16 from rfl, pk_mul, nI_add, Nat.mul_comm]
section
variable {f_terms f_termHeight f_made f_height f_compiled f_codeSize f_wordCount f_works f_procedure f_high f_at f_inside f_ahead f_undoing f_outcomeThen f_calls f_state f_last f_stepCount : Int32} {a_termKind a_termA a_termB a_termNumber a_registersIn a_termStack a_kind a_register a_number a_partA a_partB a_testX a_testY a_size a_stack a_code a_first a_second a_codeX a_codeY a_partner a_other a_begin a_end a_word a_wordNumber a_constant a_folded a_work a_workOn a_openAt a_middleAt a_placeX a_placeY a_todo a_value a_held a_operand a_callAt a_callIn : Nat → Int32}
theorem zx_combA {post : Int32 → Prop} {k x y : Int32} (h : ∀ r, post r) : wpX_combined post (f_terms, f_termHeight, f_made, f_height, f_compiled, f_codeSize, f_wordCount, f_works, f_procedure, f_high, f_at, f_inside, f_ahead, f_undoing, f_outcomeThen, f_calls, f_state, f_last, f_stepCount, a_termKind, a_termA, a_termB, a_termNumber, a_registersIn, a_termStack, a_kind, a_register, a_number, a_partA, a_partB, a_testX, a_testY, a_size, a_stack, a_code, a_first, a_second, a_codeX, a_codeY, a_partner, a_other, a_begin, a_end, a_word, a_wordNumber, a_constant, a_folded, a_work, a_workOn, a_openAt, a_middleAt, a_placeX, a_placeY, a_todo, a_value, a_held, a_operand, a_callAt, a_callIn) k x y := by
  unfold wpX_combined
  exact br_c (fun _ => h _) (fun _ => br_c (fun _ => h _) (fun _ => br_c (fun _ => h _) (fun _ => br_c (fun _ => h _) (fun _ => br_c (fun _ => h _) (fun _ => br_c (fun _ => br_c (fun _ => h _) (fun _ => h _)) (fun _ => br_c (fun _ => h _) (fun _ => h _)))))))
theorem zx_fold2 {post : SX → Prop} {T : Nat → Nat → Nat} {N p : Nat} (ho : zt_ok T N) (hN : N ≤ 24) (hp : p < 3) (hm : zi_TX (24 * p) N T a_termKind a_termA a_termB a_termNumber)
    (hr : ∀ j, j < 96 → vp_in (a_termA j) 24 ∧ vp_in (a_termB j) 24) (K : ∀ c f : Nat → Int32, zf_ok T N 24 c f → post (f_terms, f_termHeight, f_made, f_height, f_compiled, f_codeSize, f_wordCount, f_works, nI p, f_high, f_at, f_inside, f_ahead, f_undoing, f_outcomeThen, f_calls, f_state, f_last, f_stepCount, a_termKind, a_termA, a_termB, a_termNumber, a_registersIn, a_termStack, a_kind, a_register, a_number, a_partA, a_partB, a_testX, a_testY, a_size, a_stack, a_code, a_first, a_second, a_codeX, a_codeY, a_partner, a_other, a_begin, a_end, a_word, a_wordNumber, c, f, a_work, a_workOn, a_openAt, a_middleAt, a_placeX, a_placeY, a_todo, a_value, a_held, a_operand, a_callAt, a_callIn)) :
    ∀ (k x : Nat) (c f : Nat → Int32), x + k = 24 → zf_ok T N x c f → wX_fold_2 post f_terms f_termHeight f_made f_height f_compiled f_codeSize f_wordCount f_works (nI p) f_high f_at f_inside f_ahead f_undoing f_outcomeThen f_calls f_state f_last f_stepCount (k + 1) (nI x) a_termKind a_termA a_termB a_termNumber a_registersIn a_termStack a_kind a_register a_number a_partA a_partB a_testX a_testY a_size a_stack a_code a_first a_second a_codeX a_codeY a_partner a_other a_begin a_end a_word a_wordNumber c f a_work a_workOn a_openAt a_middleAt a_placeX a_placeY a_todo a_value a_held a_operand a_callAt a_callIn := by
  intro k
  induction k with
  | zero =>
    intro x c f hx hc
    have : x = 24 := by omega
    subst this
    exact br_t (by decide) (K c f hc)
  | succ k ih =>
    intro x c f hx hc
    have hin : vp_in (nI (24 * p + x)) 96 := vp_in_nI (by omega) (by omega)
    have hx24 : vp_in (nI x) 24 := vp_in_nI (by omega) (by omega)
    have hclx : (nI x).toNatClampNeg = x := zn_c (by omega)
    have hcl : (nI (24 * p + x)).toNatClampNeg = 24 * p + x := zn_c (by omega)
    obtain ⟨rA, rB⟩ := hr (24 * p + x) (by omega)
    have hnext : ∀ c' f' : Nat → Int32, zf_ok T N (x + 1) c' f' → wX_fold_2 post f_terms f_termHeight f_made f_height f_compiled f_codeSize f_wordCount f_works (nI p) f_high f_at f_inside f_ahead f_undoing f_outcomeThen f_calls f_state f_last f_stepCount (k + 1) (nI (x + 1)) a_termKind a_termA a_termB a_termNumber a_registersIn a_termStack a_kind a_register a_number a_partA a_partB a_testX a_testY a_size a_stack a_code a_first a_second a_codeX a_codeY a_partner a_other a_begin a_end a_word a_wordNumber c' f' a_work a_workOn a_openAt a_middleAt a_placeX a_placeY a_todo a_value a_held a_operand a_callAt a_callIn := fun c' f' h => ih (x + 1) c' f' (by omega) h
    refine br_f (nI_ge (b := 24) (by omega) (by omega)) (nm_r (zn_p24 p x) ?_)
    rw [hcl, hclx]
    refine And.intro hin (nm_e (And.intro hin (nm_e (And.intro hin (nm_e (And.intro hx24 (nm_e ?_)))))))
    refine br_c (fun h7 => ?_) (fun h7 => br_c (fun h8 => ?_) (fun h8 => And.intro rA (br_c (fun h0 => ?_) (fun h0 => And.intro rB (br_c (fun h1 => ?_) (fun h1 => And.intro hx24 (nm_e (And.intro rA (And.intro rB ?_)))))))))
    · refine And.intro hx24 (nm_e (And.intro hin (And.intro hx24 (nm_e (nm_r (nI_1 x) (hnext _ _ ?_))))))
      refine zf_up hc (fun j hj => by rw [pk_un (by omega), pk_un (by omega)]) (fun j hj => pk_un (by omega)) (fun hxN => ⟨fun e => ?_, fun _ ρ => ?_⟩)
      · rw [pk_us] at e; exact absurd e (by decide)
      · obtain ⟨m1, m2, _⟩ := hm x hxN
        have hk8 := (ho x hxN).1
        have : zt_k T x = 7 := by
          rw [m1] at h7
          exact (nI_eq (by omega) (by omega)).mp h7
        rw [pk_us, zt_val7 this, m2 (by omega)]
    · refine nm_r (nI_1 x) (hnext _ _ (zf_up hc (fun j hj => pk_un (by omega)) (fun j hj => rfl) (fun hxN => ⟨fun _ e => ?_, fun e => ?_⟩)))
      · rw [(hm x hxN).1, e] at h7; exact h7 rfl
      · rw [pk_us] at e; exact absurd rfl e
    · refine nm_r (nI_1 x) (hnext _ _ (zf_up hc (fun j hj => pk_un (by omega)) (fun j hj => rfl) (fun hxN => ⟨fun _ e => ?_, fun e => ?_⟩)))
      · rw [(hm x hxN).1, e] at h7; exact h7 rfl
      · rw [pk_us] at e; exact absurd rfl e
    · refine nm_r (nI_1 x) (hnext _ _ (zf_up hc (fun j hj => pk_un (by omega)) (fun j hj => rfl) (fun hxN => ⟨fun _ e => ?_, fun e => ?_⟩)))
      · rw [(hm x hxN).1, e] at h7; exact h7 rfl
      · rw [pk_us] at e; exact absurd rfl e
    · by_cases hxN : x < N
      · obtain ⟨m1, _, m3⟩ := hm x hxN
        have hok := ho x hxN
        have hk8 := hok.1
        have h6 : zt_k T x ≤ 6 := by
          rw [m1] at h8
          have : ¬ 7 ≤ zt_k T x := fun e => h8 (nI_le (a := 7) e (by omega))
          omega
        obtain ⟨ha, hb, _⟩ := hok.2.2.2.1 h6
        obtain ⟨eA, eB⟩ := m3 h6
        rw [eA, zn_c (by omega)] at h0
        rw [eB, zn_c (by omega)] at h1
        rw [pk_un (by omega)] at h0 h1
        have vA := (hc _ ha (by omega)).2 h0
        have vB := (hc _ hb (by omega)).2 h1
        rw [m1, eA, eB, zn_c (by omega), zn_c (by omega)]
        refine zx_comb h6 (And.intro hx24 (nm_e (nm_r (nI_1 x) (hnext _ _ ?_))))
        refine zf_up hc (fun j hj => by rw [pk_un (by omega), pk_un (by omega)]) (fun j hj => pk_un (by omega)) (fun hxN => ⟨fun e => ?_, fun _ ρ => ?_⟩)
        · rw [pk_us] at e; exact absurd e (by decide)
        · rw [pk_us, zt_valop ho hxN h6, vA ρ, vB ρ]
      · refine zx_combA fun r => And.intro hx24 (nm_e (nm_r (nI_1 x) (hnext _ _ ?_)))
        exact zf_up hc (fun j hj => by rw [pk_un (by omega), pk_un (by omega)]) (fun j hj => pk_un (by omega)) (fun h => absurd h hxN)
theorem zx_fold {post : SX → Prop} {T : Nat → Nat → Nat} {N p : Nat} (ho : zt_ok T N) (hN : N ≤ 24) (hp : p < 3) (hm : zi_TX (24 * p) N T a_termKind a_termA a_termB a_termNumber)
    (hr : ∀ j, j < 96 → vp_in (a_termA j) 24 ∧ vp_in (a_termB j) 24) (K : ∀ c f : Nat → Int32, zf_ok T N 24 c f → post (f_terms, f_termHeight, f_made, f_height, f_compiled, f_codeSize, f_wordCount, f_works, nI p, f_high, f_at, f_inside, f_ahead, f_undoing, f_outcomeThen, f_calls, f_state, f_last, f_stepCount, a_termKind, a_termA, a_termB, a_termNumber, a_registersIn, a_termStack, a_kind, a_register, a_number, a_partA, a_partB, a_testX, a_testY, a_size, a_stack, a_code, a_first, a_second, a_codeX, a_codeY, a_partner, a_other, a_begin, a_end, a_word, a_wordNumber, c, f, a_work, a_workOn, a_openAt, a_middleAt, a_placeX, a_placeY, a_todo, a_value, a_held, a_operand, a_callAt, a_callIn)) :
    wpX_fold post (f_terms, f_termHeight, f_made, f_height, f_compiled, f_codeSize, f_wordCount, f_works, nI p, f_high, f_at, f_inside, f_ahead, f_undoing, f_outcomeThen, f_calls, f_state, f_last, f_stepCount, a_termKind, a_termA, a_termB, a_termNumber, a_registersIn, a_termStack, a_kind, a_register, a_number, a_partA, a_partB, a_testX, a_testY, a_size, a_stack, a_code, a_first, a_second, a_codeX, a_codeY, a_partner, a_other, a_begin, a_end, a_word, a_wordNumber, a_constant, a_folded, a_work, a_workOn, a_openAt, a_middleAt, a_placeX, a_placeY, a_todo, a_value, a_held, a_operand, a_callAt, a_callIn) :=
  Exists.intro 25 (zx_fold2 ho hN hp hm hr K 24 0 a_constant a_folded (by omega) (fun t ht => absurd ht (Nat.not_lt_zero t)))
theorem zx_eW {post : SX → Prop} {w k : Nat} {v : Int32} (hw : w < 240) (hk : k < 128) (h : post (f_terms, f_termHeight, f_made, f_height, f_compiled, f_codeSize, nI (w + 1), f_works, f_procedure, f_high, f_at, f_inside, f_ahead, f_undoing, f_outcomeThen, f_calls, f_state, f_last, f_stepCount, a_termKind, a_termA, a_termB, a_termNumber, a_registersIn, a_termStack, a_kind, a_register, a_number, a_partA, a_partB, a_testX, a_testY, a_size, a_stack, a_code, a_first, a_second, a_codeX, a_codeY, a_partner, a_other, a_begin, a_end, upd a_word w (nI k), upd a_wordNumber w v, a_constant, a_folded, a_work, a_workOn, a_openAt, a_middleAt, a_placeX, a_placeY, a_todo, a_value, a_held, a_operand, a_callAt, a_callIn)) :
    wpX_emitWord post (f_terms, f_termHeight, f_made, f_height, f_compiled, f_codeSize, nI w, f_works, f_procedure, f_high, f_at, f_inside, f_ahead, f_undoing, f_outcomeThen, f_calls, f_state, f_last, f_stepCount, a_termKind, a_termA, a_termB, a_termNumber, a_registersIn, a_termStack, a_kind, a_register, a_number, a_partA, a_partB, a_testX, a_testY, a_size, a_stack, a_code, a_first, a_second, a_codeX, a_codeY, a_partner, a_other, a_begin, a_end, a_word, a_wordNumber, a_constant, a_folded, a_work, a_workOn, a_openAt, a_middleAt, a_placeX, a_placeY, a_todo, a_value, a_held, a_operand, a_callAt, a_callIn) (nI k) v := by
  unfold wpX_emitWord
  dsimp only
  rw [zn_c (by omega : w < 2 ^ 31), zn_vbb hk]
  exact And.intro (vp_in_nI hw (by omega)) (nm_e (And.intro (vp_in_nI hw (by omega)) (nm_e (nm_r (nI_1 w) h))))
end
theorem zw_mono {wd wn : Nat → Int32} {T : Nat → Nat → Nat} : ∀ {n m t w w' : Nat}, n ≤ m → zw_t wd wn T n t w w' → zw_t wd wn T m t w w' := by
  intro n
  induction n with
  | zero => intro m t w w' _ h; exact h.elim
  | succ n ih =>
    intro m t w w' hm h
    obtain ⟨m, rfl⟩ : ∃ k, m = k + 1 := ⟨m - 1, by omega⟩
    rcases h with h | h | ⟨h0, m1, m2, h1, h2, h3, h4⟩
    · exact Or.inl h
    · exact Or.inr (Or.inl h)
    · exact Or.inr (Or.inr ⟨h0, m1, m2, ih (by omega) h1, ih (by omega) h2, h3, h4⟩)
theorem zn_neg {t : Nat} (ht : t < 24) : ((-1) - nI t).toInt = -1 - (t : Int) := by
  have h : ∀ t, t < 24 → ((-1) - nI t).toInt = -1 - (t : Int) := by decide +kernel
  exact h t ht
theorem zn_negb {t : Nat} (ht : t < 24) : vp_nar .byte (((-1) - nI t).toInt8.toInt32) = (-1) - nI t := by
  have e : ((-1) - nI t).toInt8.toInt32 = (-1) - nI t := lg_i2b_small (by rw [zn_neg ht]; omega) (by rw [zn_neg ht]; omega)
  rw [e, vp_nar_byte, e]
theorem zn_negn {t : Nat} (ht : t < 24) : ¬ (0 : Int32) ≤ (-1) - nI t := by
  rw [Int32.le_iff_toInt_le, zn_neg ht, show (0 : Int32).toInt = 0 from by decide]
  omega
theorem zn_negs {t : Nat} (ht : t < 24) : (-1) - ((-1) - nI t) = nI t := by
  have h : ∀ t, t < 24 → (-1) - ((-1) - nI t) = nI t := by decide +kernel
  exact h t ht
end
section
/-! ===== X's compiler: writeTerm ===== -/
section
variable {f_terms f_termHeight f_made f_height f_compiled f_codeSize f_wordCount f_works f_procedure f_high f_at f_inside f_ahead f_undoing f_outcomeThen f_calls f_state f_last f_stepCount : Int32} {a_termKind a_termA a_termB a_termNumber a_registersIn a_termStack a_kind a_register a_number a_partA a_partB a_testX a_testY a_size a_stack a_code a_first a_second a_codeX a_codeY a_partner a_other a_begin a_end a_word a_wordNumber a_constant a_folded a_work a_workOn a_openAt a_middleAt a_placeX a_placeY a_todo a_value a_held a_operand a_callAt a_callIn : Nat → Int32}
variable {post : Int32 → SX → Prop} {T : Nat → Nat → Nat} {N p : Nat} {x2 : Int32}
theorem zx_wt (ho : zt_ok T N) (hN : N ≤ 24) (hp : p < 3) (hm : zi_TX (24 * p) N T a_termKind a_termA a_termB a_termNumber) (hf : zf_ok T N 24 a_constant a_folded) :
    ∀ (t h i n w : Nat) (td wd wn : Nat → Int32), t < N → n + i = 65 → td h = nI t → h + 2 * zt_s T t ≤ 64 → i + 2 * zt_s T t ≤ 64 → w + zt_s T t ≤ 240 →
    (∀ (i' n' w' : Nat) (td' wd' wn' : Nat → Int32), n' + i' = 65 → i' ≤ i + 2 * zt_s T t → (∀ j, j < h → td' j = td j) → w' ≤ w + zt_s T t → zw_t wd' wn' T (t + 1) t w w' →
      (∀ j, j < w → wd' j = wd j ∧ wn' j = wn j) → wX_writeTerm_18 post x2 n' (nI h) (nI i') f_terms f_termHeight f_made f_height f_compiled f_codeSize (nI w') f_works (nI p) f_high f_at f_inside f_ahead f_undoing f_outcomeThen f_calls f_state f_last f_stepCount a_termKind a_termA a_termB a_termNumber a_registersIn a_termStack a_kind a_register a_number a_partA a_partB a_testX a_testY a_size a_stack a_code a_first a_second a_codeX a_codeY a_partner a_other a_begin a_end wd' wn' a_constant a_folded a_work a_workOn a_openAt a_middleAt a_placeX a_placeY td' a_value a_held a_operand a_callAt a_callIn) →
    wX_writeTerm_18 post x2 n (nI (h + 1)) (nI i) f_terms f_termHeight f_made f_height f_compiled f_codeSize (nI w) f_works (nI p) f_high f_at f_inside f_ahead f_undoing f_outcomeThen f_calls f_state f_last f_stepCount a_termKind a_termA a_termB a_termNumber a_registersIn a_termStack a_kind a_register a_number a_partA a_partB a_testX a_testY a_size a_stack a_code a_first a_second a_codeX a_codeY a_partner a_other a_begin a_end wd wn a_constant a_folded a_work a_workOn a_openAt a_middleAt a_placeX a_placeY td a_value a_held a_operand a_callAt a_callIn := by
  intro t
  induction t using Nat.strongRecOn with
  | _ t ih =>
    intro h i n w td wd wn ht hn htd hh hi hw K
    have hok := ho t ht
    have hs1 : 1 ≤ zt_s T t := hok.2.2.2.2.2.2.1
    have hk8 := hok.1
    obtain ⟨m1, m2, m3⟩ := hm t ht
    obtain ⟨n, rfl⟩ : ∃ k, n = k + 1 := ⟨n - 1, by omega⟩
    have hin : vp_in (nI (24 * p + t)) 96 := vp_in_nI (by omega) (by omega)
    have hcl : (nI (24 * p + t)).toNatClampNeg = 24 * p + t := zn_c (by omega)
    have ht24 : vp_in (nI t) 24 := vp_in_nI (by omega) (by omega)
    refine br_f (nI_ge (b := 64) (by omega) (by omega)) (br_f (nI_nle (by omega) (by omega)) (nm_r (pk_m1 h) ?_))
    rw [zn_c (by omega : h < 2 ^ 31), htd]
    refine And.intro (vp_in_nI (by omega) (by omega)) (nm_e (br_t (nI_pos' (by omega)) ?_))
    unfold wX_writeTerm_61
    refine nm_r (zn_p24 p t) ?_
    rw [hcl, zn_c (by omega : t < 2 ^ 31), m1]
    refine And.intro hin (nm_e (br_t (nI_pos' (by omega)) (And.intro ht24 (br_c (fun h0 => ?_) (fun h0 => ?_)))))
    · by_cases h8 : zt_k T t = 8
      · have hr := hok.2.2.1 h8
        rw [h8, m2 (by omega)]
        refine br_t rfl (And.intro hin (zx_eW (k := 8) (by omega) (by omega) ?_))
        refine nm_r (nI_1 i) ?_
        exact K (i + 1) n (w + 1) td _ _ (by omega) (by omega) (fun j hj => rfl) (by omega) (Or.inr (Or.inl ⟨rfl, h8, pk_us, pk_us⟩)) (fun j hj => ⟨pk_un (by omega), pk_un (by omega)⟩)
      · have h7 := (hf t (by omega) ht).1 h0
        have h6 : zt_k T t ≤ 6 := by omega
        obtain ⟨ha, hb, hsz⟩ := hok.2.2.2.1 h6
        obtain ⟨eA, eB⟩ := m3 h6
        have sa := (ho _ (Nat.lt_trans ha ht)).2.2.2.2.2.2.1
        have sb := (ho _ (Nat.lt_trans hb ht)).2.2.2.2.2.2.1
        rw [eA, eB, zn_negb (by omega), zn_vb (by omega : zt_a T t < 128), zn_vb (by omega : zt_b T t < 128)]
        have e1 : nI h + 1 = nI (h + 1) := nI_1 h
        have e2 : nI h + 2 = nI (h + 2) := by rw [show (2 : Int32) = nI 2 from rfl, nI_add]
        have e3 : nI h + 3 = nI (h + 3) := by rw [show (3 : Int32) = nI 3 from rfl, nI_add]
        rw [e1, e2, e3, zn_c (by omega : h + 1 < 2 ^ 31), zn_c (by omega : h + 2 < 2 ^ 31), zn_c (by omega : h < 2 ^ 31)]
        refine br_f (zn_ne (b := 8) (by omega) (by omega) h8) (And.intro (vp_in_nI (by omega) (by omega)) (nm_e (And.intro hin (And.intro (vp_in_nI (by omega) (by omega)) (nm_e (And.intro hin (And.intro (vp_in_nI (by omega) (by omega)) (nm_e (nm_e (nm_r (nI_1 i) ?_))))))))))
        -- the left part
        refine ih (zt_a T t) ha (h + 2) (i + 1) n w _ wd wn (by omega) (by omega) pk_us (by omega) (by omega) (by omega) ?_
        intro i1 n1 w1 td1 wd1 wn1 hn1 hi1 htd1 hw1 hz1 hk1
        have l1 := zw_lt hz1
        -- the right part
        refine ih (zt_b T t) hb (h + 1) i1 n1 w1 td1 wd1 wn1 (by omega) hn1 ?_ (by omega) (by omega) (by omega) ?_
        · rw [htd1 (h + 1) (by omega), pk_un (by omega), pk_us]
        intro i2 n2 w2 td2 wd2 wn2 hn2 hi2 htd2 hw2 hz2 hk2
        have l2 := zw_lt hz2
        -- the word itself
        have hx5 : td2 h = (-1) - nI t := by rw [htd2 h (by omega), htd1 h (by omega), pk_un (by omega), pk_un (by omega), pk_us]
        obtain ⟨n2, rfl⟩ : ∃ k, n2 = k + 1 := ⟨n2 - 1, by omega⟩
        refine br_f (nI_ge (b := 64) (by omega) (by omega)) (br_f (nI_nle (by omega) (by omega)) (nm_r (pk_m1 h) ?_))
        rw [zn_c (by omega : h < 2 ^ 31), hx5]
        refine And.intro (vp_in_nI (by omega) (by omega)) (nm_e (br_f (zn_negn (by omega)) ?_))
        rw [zn_negs (by omega)]
        unfold wX_writeTerm_61
        refine nm_r (zn_p24 p t) ?_
        rw [hcl, m1]
        refine And.intro hin (nm_e (br_f (zn_negn (by omega)) (zx_eW (by omega) (by omega) ?_)))
        refine nm_r (nI_1 i2) ?_
        refine K (i2 + 1) n2 (w2 + 1) td2 _ _ (by omega) (by omega) ?_ (by omega) ?_ ?_
        · intro j hj
          rw [htd2 j (by omega), htd1 j (by omega), pk_un (by omega), pk_un (by omega), pk_un (by omega)]
        · refine Or.inr (Or.inr ⟨h6, w1, w2, ?_, ?_, pk_us, rfl⟩)
          · refine zw_mono (by omega) (zw_cong ?_ hz1)
            intro j hj1 hj2
            rw [pk_un (by omega), pk_un (by omega)]
            exact hk2 j hj2
          · refine zw_mono (by omega) (zw_cong ?_ hz2)
            intro j hj1 hj2
            rw [pk_un (by omega), pk_un (by omega)]
            exact ⟨rfl, rfl⟩
        · intro j hj
          rw [pk_un (by omega), pk_un (by omega), (hk2 j (by omega)).1, (hk2 j (by omega)).2]
          exact hk1 j hj
    · have hv := (hf t (by omega) ht).2 h0
      refine And.intro ht24 (zx_eW (k := 7) (by omega) (by omega) ?_)
      refine nm_r (nI_1 i) ?_
      exact K (i + 1) n (w + 1) td _ _ (by omega) (by omega) (fun j hj => rfl) (by omega) (Or.inl ⟨rfl, pk_us, fun ρ => (hv ρ).trans pk_us.symm⟩) (fun j hj => ⟨pk_un (by omega), pk_un (by omega)⟩)
theorem zx_wterm {t w : Nat} (ho : zt_ok T N) (hN : N ≤ 24) (hp : p < 3) (hm : zi_TX (24 * p) N T a_termKind a_termA a_termB a_termNumber) (hf : zf_ok T N 24 a_constant a_folded) (ht : t < N) (hw : w + zt_s T t + 1 ≤ 240)
    (K : ∀ (w' : Nat) (td wd wn : Nat → Int32), w < w' → w' ≤ w + zt_s T t + 1 → zw_test wd wn w' T t w → (∀ j, j < w → wd j = a_word j ∧ wn j = a_wordNumber j) →
      post (nI w) (f_terms, f_termHeight, f_made, f_height, f_compiled, f_codeSize, nI w', f_works, nI p, f_high, f_at, f_inside, f_ahead, f_undoing, f_outcomeThen, f_calls, f_state, f_last, f_stepCount, a_termKind, a_termA, a_termB, a_termNumber, a_registersIn, a_termStack, a_kind, a_register, a_number, a_partA, a_partB, a_testX, a_testY, a_size, a_stack, a_code, a_first, a_second, a_codeX, a_codeY, a_partner, a_other, a_begin, a_end, wd, wn, a_constant, a_folded, a_work, a_workOn, a_openAt, a_middleAt, a_placeX, a_placeY, td, a_value, a_held, a_operand, a_callAt, a_callIn)) :
    wpX_writeTerm post (f_terms, f_termHeight, f_made, f_height, f_compiled, f_codeSize, nI w, f_works, nI p, f_high, f_at, f_inside, f_ahead, f_undoing, f_outcomeThen, f_calls, f_state, f_last, f_stepCount, a_termKind, a_termA, a_termB, a_termNumber, a_registersIn, a_termStack, a_kind, a_register, a_number, a_partA, a_partB, a_testX, a_testY, a_size, a_stack, a_code, a_first, a_second, a_codeX, a_codeY, a_partner, a_other, a_begin, a_end, a_word, a_wordNumber, a_constant, a_folded, a_work, a_workOn, a_openAt, a_middleAt, a_placeX, a_placeY, a_todo, a_value, a_held, a_operand, a_callAt, a_callIn) (nI t) := by
  have hok := ho t ht
  have hs := hok.2.2.2.2.2.1
  unfold wpX_writeTerm
  dsimp only
  rw [zn_vbb (by omega)]
  refine nm_e (Exists.intro 65 ?_)
  refine zx_wt ho hN hp hm hf t 0 0 65 w _ a_word a_wordNumber ht rfl pk_us (by omega) (by omega) (by omega) ?_
  intro i n w1 td wd wn hn hi _ hw1 hz hk
  have l1 := zw_lt hz
  obtain ⟨n, rfl⟩ : ∃ k, n = k + 1 := ⟨n - 1, by omega⟩
  refine br_f (nI_ge (b := 64) (by omega) (by omega)) (br_t (by decide) ?_)
  unfold wX_writeTerm_188
  refine zx_eW (k := 9) (by omega) (by omega) ?_
  refine K (w1 + 1) td _ _ (by omega) (by omega) ⟨t + 1, w1, zw_cong ?_ hz, pk_us, by omega⟩ ?_
  · intro j hj1 hj2
    exact ⟨pk_un (by omega), pk_un (by omega)⟩
  · intro j hj
    rw [pk_un (by omega), pk_un (by omega)]
    exact hk j hj
end
end
section
/-! ===== X's compiler: one piece of work ===== -/
section
variable {f_terms f_termHeight f_made f_height f_compiled f_codeSize f_wordCount f_works f_procedure f_high f_at f_inside f_ahead f_undoing f_outcomeThen f_calls f_state f_last f_stepCount : Int32} {a_termKind a_termA a_termB a_termNumber a_registersIn a_termStack a_kind a_register a_number a_partA a_partB a_testX a_testY a_size a_stack a_code a_first a_second a_codeX a_codeY a_partner a_other a_begin a_end a_word a_wordNumber a_constant a_folded a_work a_workOn a_openAt a_middleAt a_placeX a_placeY a_todo a_value a_held a_operand a_callAt a_callIn : Nat → Int32}
theorem zx_em {post : Int32 → SX → Prop} {c k : Nat} {r n : Int32} (hc : c < 200) (hk : k < 128)
    (h : post (nI c) (f_terms, f_termHeight, f_made, f_height, f_compiled, nI (c + 1), f_wordCount, f_works, f_procedure, f_high, f_at, f_inside, f_ahead, f_undoing, f_outcomeThen, f_calls, f_state, f_last, f_stepCount, a_termKind, a_termA, a_termB, a_termNumber, a_registersIn, a_termStack, a_kind, a_register, a_number, a_partA, a_partB, a_testX, a_testY, a_size, a_stack, upd a_code c (nI k), upd a_first c (vp_nar .byte r.toInt8.toInt32), upd a_second c (vp_nar .byte n.toInt8.toInt32), a_codeX, a_codeY, a_partner, a_other, a_begin, a_end, a_word, a_wordNumber, a_constant, a_folded, a_work, a_workOn, a_openAt, a_middleAt, a_placeX, a_placeY, a_todo, a_value, a_held, a_operand, a_callAt, a_callIn)) :
    wpX_emit post (f_terms, f_termHeight, f_made, f_height, f_compiled, nI c, f_wordCount, f_works, f_procedure, f_high, f_at, f_inside, f_ahead, f_undoing, f_outcomeThen, f_calls, f_state, f_last, f_stepCount, a_termKind, a_termA, a_termB, a_termNumber, a_registersIn, a_termStack, a_kind, a_register, a_number, a_partA, a_partB, a_testX, a_testY, a_size, a_stack, a_code, a_first, a_second, a_codeX, a_codeY, a_partner, a_other, a_begin, a_end, a_word, a_wordNumber, a_constant, a_folded, a_work, a_workOn, a_openAt, a_middleAt, a_placeX, a_placeY, a_todo, a_value, a_held, a_operand, a_callAt, a_callIn) (nI k) r n := by
  unfold wpX_emit
  dsimp only
  rw [zn_c (by omega : c < 2 ^ 31), zn_vbb hk]
  refine And.intro (vp_in_nI hc (by omega)) (nm_e (And.intro (vp_in_nI hc (by omega)) (nm_e (And.intro (vp_in_nI hc (by omega)) (nm_e (nm_r (nI_1 c) ?_))))))
  rw [nI_pred]
  exact h
theorem zn_z : vp_nar .byte (0 : Int32).toInt8.toInt32 = 0 := zn_vbb (n := 0) (by decide)
theorem zx_et {post : Int32 → SX → Prop} {c k s wx wy : Nat} (hc : c < 200) (hk : k < 128) (hs : s < 16) (hx : a_placeX s = nI wx) (hy : a_placeY s = nI wy) (hx2 : wx < 32768) (hy2 : wy < 32768)
    (h : post (nI c) (f_terms, f_termHeight, f_made, f_height, f_compiled, nI (c + 1), f_wordCount, f_works, f_procedure, f_high, f_at, f_inside, f_ahead, f_undoing, f_outcomeThen, f_calls, f_state, f_last, f_stepCount, a_termKind, a_termA, a_termB, a_termNumber, a_registersIn, a_termStack, a_kind, a_register, a_number, a_partA, a_partB, a_testX, a_testY, a_size, a_stack, upd a_code c (nI k), upd a_first c 0, upd a_second c 0, upd a_codeX c (nI wx), upd a_codeY c (nI wy), a_partner, a_other, a_begin, a_end, a_word, a_wordNumber, a_constant, a_folded, a_work, a_workOn, a_openAt, a_middleAt, a_placeX, a_placeY, a_todo, a_value, a_held, a_operand, a_callAt, a_callIn)) :
    wpX_emitTest post (f_terms, f_termHeight, f_made, f_height, f_compiled, nI c, f_wordCount, f_works, f_procedure, f_high, f_at, f_inside, f_ahead, f_undoing, f_outcomeThen, f_calls, f_state, f_last, f_stepCount, a_termKind, a_termA, a_termB, a_termNumber, a_registersIn, a_termStack, a_kind, a_register, a_number, a_partA, a_partB, a_testX, a_testY, a_size, a_stack, a_code, a_first, a_second, a_codeX, a_codeY, a_partner, a_other, a_begin, a_end, a_word, a_wordNumber, a_constant, a_folded, a_work, a_workOn, a_openAt, a_middleAt, a_placeX, a_placeY, a_todo, a_value, a_held, a_operand, a_callAt, a_callIn) (nI k) (nI s) := by
  unfold wpX_emitTest
  dsimp only
  rw [zn_c (by omega : c < 2 ^ 31), zn_c (by omega : s < 2 ^ 31), hx, hy, zn_vs hx2, zn_vs hy2]
  refine And.intro (vp_in_nI hs (by omega)) (And.intro (vp_in_nI hc (by omega)) (nm_e (And.intro (vp_in_nI hs (by omega)) (And.intro (vp_in_nI hc (by omega)) (nm_e (zx_em hc hk ?_))))))
  rw [zn_z]
  exact h
theorem zx_ask {post : SX → Prop} {h k s : Nat} (hh : h < 64) (hk : k < 128) (hs : s < 128) (H : post (f_terms, f_termHeight, f_made, f_height, f_compiled, f_codeSize, f_wordCount, nI (h + 1), f_procedure, f_high, f_at, f_inside, f_ahead, f_undoing, f_outcomeThen, f_calls, f_state, f_last, f_stepCount, a_termKind, a_termA, a_termB, a_termNumber, a_registersIn, a_termStack, a_kind, a_register, a_number, a_partA, a_partB, a_testX, a_testY, a_size, a_stack, a_code, a_first, a_second, a_codeX, a_codeY, a_partner, a_other, a_begin, a_end, a_word, a_wordNumber, a_constant, a_folded, upd a_work h (nI k), upd a_workOn h (nI s), a_openAt, a_middleAt, a_placeX, a_placeY, a_todo, a_value, a_held, a_operand, a_callAt, a_callIn)) :
    wpX_ask post (f_terms, f_termHeight, f_made, f_height, f_compiled, f_codeSize, f_wordCount, nI h, f_procedure, f_high, f_at, f_inside, f_ahead, f_undoing, f_outcomeThen, f_calls, f_state, f_last, f_stepCount, a_termKind, a_termA, a_termB, a_termNumber, a_registersIn, a_termStack, a_kind, a_register, a_number, a_partA, a_partB, a_testX, a_testY, a_size, a_stack, a_code, a_first, a_second, a_codeX, a_codeY, a_partner, a_other, a_begin, a_end, a_word, a_wordNumber, a_constant, a_folded, a_work, a_workOn, a_openAt, a_middleAt, a_placeX, a_placeY, a_todo, a_value, a_held, a_operand, a_callAt, a_callIn) (nI k) (nI s) := by
  unfold wpX_ask
  dsimp only
  rw [zn_c (by omega : h < 2 ^ 31), zn_vbb hk, zn_vbb hs]
  exact And.intro (vp_in_nI hh (by omega)) (nm_e (And.intro (vp_in_nI hh (by omega)) (nm_e (nm_r (nI_1 h) H))))
theorem zx_w_leaf {post : SX → Prop} {c k p s : Nat} (hp : p < 3) (hs : s < 16) (hc : c < 200) (hk : a_kind (16 * p + s) = nI k) (hk5 : k ≤ 5)
    (h : post (f_terms, f_termHeight, f_made, f_height, f_compiled, nI (c + 1), f_wordCount, f_works, nI p, f_high, f_at, f_inside, f_ahead, f_undoing, f_outcomeThen, f_calls, f_state, f_last, f_stepCount, a_termKind, a_termA, a_termB, a_termNumber, a_registersIn, a_termStack, a_kind, a_register, a_number, a_partA, a_partB, a_testX, a_testY, a_size, a_stack, upd a_code c (nI k), upd a_first c (vp_nar .byte (a_register (16 * p + s)).toInt8.toInt32), upd a_second c (vp_nar .byte (a_number (16 * p + s)).toInt8.toInt32), a_codeX, a_codeY, a_partner, a_other, a_begin, a_end, a_word, a_wordNumber, a_constant, a_folded, a_work, a_workOn, a_openAt, a_middleAt, a_placeX, a_placeY, a_todo, a_value, a_held, a_operand, a_callAt, a_callIn)) : wpX_write post (f_terms, f_termHeight, f_made, f_height, f_compiled, nI c, f_wordCount, f_works, nI p, f_high, f_at, f_inside, f_ahead, f_undoing, f_outcomeThen, f_calls, f_state, f_last, f_stepCount, a_termKind, a_termA, a_termB, a_termNumber, a_registersIn, a_termStack, a_kind, a_register, a_number, a_partA, a_partB, a_testX, a_testY, a_size, a_stack, a_code, a_first, a_second, a_codeX, a_codeY, a_partner, a_other, a_begin, a_end, a_word, a_wordNumber, a_constant, a_folded, a_work, a_workOn, a_openAt, a_middleAt, a_placeX, a_placeY, a_todo, a_value, a_held, a_operand, a_callAt, a_callIn) (nI s) := by
  have hm : vp_in (nI (16 * p + s)) 64 := vp_in_nI (by omega) (by omega)
  unfold wpX_write
  dsimp only
  refine nm_r (zn_p16 p s) (And.intro hm (nm_r (e' := nI k) (by rw [zn_c (by omega : 16 * p + s < 2 ^ 31)]; exact hk) (br_t (nI_lt (b := 6) (by omega) (by omega)) ?_)))
  unfold wX_write_49
  rw [zn_c (by omega : 16 * p + s < 2 ^ 31)]
  exact br_f (nI_ge (b := 10) (by omega) (by omega)) (And.intro hm (And.intro hm (zx_em hc (by omega) h)))
theorem zx_w_up {post : SX → Prop} {T : Nat → Nat → Nat} {N c k p s t w : Nat} (ho : zt_ok T N) (hN : N ≤ 24) (hmt : zi_TX (24 * p) N T a_termKind a_termA a_termB a_termNumber) (hf : zf_ok T N 24 a_constant a_folded)
    (hp : p < 3) (hs : s < 16) (hc : c < 200) (hk : a_kind (16 * p + s) = nI k) (hk5 : 6 ≤ k ∧ k ≤ 9) (hx : a_testX (16 * p + s) = nI t) (ht : t < N) (hw : w + zt_s T t + 1 ≤ 240)
    (h : ∀ (w' : Nat) (td wd wn : Nat → Int32), w < w' → w' ≤ w + zt_s T t + 1 → zw_test wd wn w' T t w → (∀ j, j < w → wd j = a_word j ∧ wn j = a_wordNumber j) →
      post (f_terms, f_termHeight, f_made, f_height, f_compiled, nI (c + 1), nI w', f_works, nI p, f_high, f_at, f_inside, f_ahead, f_undoing, f_outcomeThen, f_calls, f_state, f_last, f_stepCount, a_termKind, a_termA, a_termB, a_termNumber, a_registersIn, a_termStack, a_kind, a_register, a_number, a_partA, a_partB, a_testX, a_testY, a_size, a_stack, upd a_code c (nI k), upd a_first c (vp_nar .byte (a_register (16 * p + s)).toInt8.toInt32), upd a_second c (vp_nar .byte (a_number (16 * p + s)).toInt8.toInt32), upd a_codeX c (nI w), a_codeY, a_partner, a_other, a_begin, a_end, wd, wn, a_constant, a_folded, a_work, a_workOn, a_openAt, a_middleAt, a_placeX, a_placeY, td, a_value, a_held, a_operand, a_callAt, a_callIn)) :
    wpX_write post (f_terms, f_termHeight, f_made, f_height, f_compiled, nI c, nI w, f_works, nI p, f_high, f_at, f_inside, f_ahead, f_undoing, f_outcomeThen, f_calls, f_state, f_last, f_stepCount, a_termKind, a_termA, a_termB, a_termNumber, a_registersIn, a_termStack, a_kind, a_register, a_number, a_partA, a_partB, a_testX, a_testY, a_size, a_stack, a_code, a_first, a_second, a_codeX, a_codeY, a_partner, a_other, a_begin, a_end, a_word, a_wordNumber, a_constant, a_folded, a_work, a_workOn, a_openAt, a_middleAt, a_placeX, a_placeY, a_todo, a_value, a_held, a_operand, a_callAt, a_callIn) (nI s) := by
  have hm : vp_in (nI (16 * p + s)) 64 := vp_in_nI (by omega) (by omega)
  unfold wpX_write
  dsimp only
  refine nm_r (zn_p16 p s) (And.intro hm (nm_r (e' := nI k) (by rw [zn_c (by omega : 16 * p + s < 2 ^ 31)]; exact hk) (br_f (nI_nlt (b := 6) (by omega) (by omega)) (br_f (nI_nlt (a := 9) (by omega) (by omega)) (And.intro hm ?_)))))
  rw [zn_c (by omega : 16 * p + s < 2 ^ 31), hx]
  refine zx_wterm ho hN hp hmt hf ht hw ?_
  intro w' td wd wn h1 h2 h3 h4
  dsimp only
  rw [zn_c (by omega : c < 2 ^ 31), zn_vss (by omega)]
  refine And.intro (vp_in_nI hc (by omega)) (nm_e ?_)
  unfold wX_write_49
  rw [zn_c (by omega : 16 * p + s < 2 ^ 31)]
  exact br_f (nI_ge (b := 10) (by omega) (by omega)) (And.intro hm (And.intro hm (zx_em hc (by omega) (h w' td wd wn h1 h2 h3 h4))))
theorem zx_w_seq {post : SX → Prop} {p s a b h : Nat} (hp : p < 3) (hs : s < 16) (hk : a_kind (16 * p + s) = nI 10) (ha : a_partA (16 * p + s) = nI a) (hb : a_partB (16 * p + s) = nI b) (ha2 : a < 16) (hb2 : b < 16) (hh : h + 1 < 64)
    (H : post (f_terms, f_termHeight, f_made, f_height, f_compiled, f_codeSize, f_wordCount, nI (h + 2), nI p, f_high, f_at, f_inside, f_ahead, f_undoing, f_outcomeThen, f_calls, f_state, f_last, f_stepCount, a_termKind, a_termA, a_termB, a_termNumber, a_registersIn, a_termStack, a_kind, a_register, a_number, a_partA, a_partB, a_testX, a_testY, a_size, a_stack, a_code, a_first, a_second, a_codeX, a_codeY, a_partner, a_other, a_begin, a_end, a_word, a_wordNumber, a_constant, a_folded, upd (upd a_work h (nI 0)) (h + 1) (nI 0), upd (upd a_workOn h (nI b)) (h + 1) (nI a), a_openAt, a_middleAt, a_placeX, a_placeY, a_todo, a_value, a_held, a_operand, a_callAt, a_callIn)) :
    wpX_write post (f_terms, f_termHeight, f_made, f_height, f_compiled, f_codeSize, f_wordCount, nI h, nI p, f_high, f_at, f_inside, f_ahead, f_undoing, f_outcomeThen, f_calls, f_state, f_last, f_stepCount, a_termKind, a_termA, a_termB, a_termNumber, a_registersIn, a_termStack, a_kind, a_register, a_number, a_partA, a_partB, a_testX, a_testY, a_size, a_stack, a_code, a_first, a_second, a_codeX, a_codeY, a_partner, a_other, a_begin, a_end, a_word, a_wordNumber, a_constant, a_folded, a_work, a_workOn, a_openAt, a_middleAt, a_placeX, a_placeY, a_todo, a_value, a_held, a_operand, a_callAt, a_callIn) (nI s) := by
  have hm : vp_in (nI (16 * p + s)) 64 := vp_in_nI (by omega) (by omega)
  unfold wpX_write
  dsimp only
  refine nm_r (zn_p16 p s) (And.intro hm (nm_r (e' := nI 10) (by rw [zn_c (by omega : 16 * p + s < 2 ^ 31)]; exact hk) (br_f (by decide) (br_t (by decide) ?_))))
  unfold wX_write_49
  rw [zn_c (by omega : 16 * p + s < 2 ^ 31), hb]
  refine br_t (by decide) (br_t rfl (And.intro hm (zx_ask (k := 0) (by omega) (by omega) (by omega) ?_)))
  dsimp only
  rw [ha]
  exact And.intro hm (zx_ask (k := 0) (by omega) (by omega) (by omega) H)
theorem zx_w_tst {post : SX → Prop} {T : Nat → Nat → Nat} {N c k p s x y w a b h : Nat} (ho : zt_ok T N) (hN : N ≤ 24) (hmt : zi_TX (24 * p) N T a_termKind a_termA a_termB a_termNumber) (hf : zf_ok T N 24 a_constant a_folded)
    (hp : p < 3) (hs : s < 16) (hc : c < 200) (hk : a_kind (16 * p + s) = nI k) (hk5 : k = 11 ∨ k = 12) (hx : a_testX (16 * p + s) = nI x) (hy : a_testY (16 * p + s) = nI y) (hxN : x < N) (hyN : y < N)
    (ha : a_partA (16 * p + s) = nI a) (hb : a_partB (16 * p + s) = nI b) (ha2 : a < 16) (hb2 : b < 16) (hh : h + 3 < 64) (hw : w + zt_s T x + zt_s T y + 2 ≤ 240)
    (H : ∀ (w1 w2 : Nat) (td wd wn : Nat → Int32), w < w1 → w1 < w2 → w2 ≤ w + zt_s T x + zt_s T y + 2 → zw_test wd wn w2 T x w → zw_test wd wn w2 T y w1 → (∀ j, j < w → wd j = a_word j ∧ wn j = a_wordNumber j) →
      post (f_terms, f_termHeight, f_made, f_height, f_compiled, nI (c + 1), nI w2, nI (h + 4), nI p, f_high, f_at, f_inside, f_ahead, f_undoing, f_outcomeThen, f_calls, f_state, f_last, f_stepCount, a_termKind, a_termA, a_termB, a_termNumber, a_registersIn, a_termStack, a_kind, a_register, a_number, a_partA, a_partB, a_testX, a_testY, a_size, a_stack, upd a_code c (nI (if k = 11 then 10 else 14)), upd a_first c 0, upd a_second c 0, upd a_codeX c (nI w), upd a_codeY c (nI w1), a_partner, a_other, a_begin, a_end, wd, wn, a_constant, a_folded, upd (upd (upd (upd a_work h (nI 2)) (h + 1) (nI 0)) (h + 2) (nI 1)) (h + 3) (nI 0), upd (upd (upd (upd a_workOn h (nI s)) (h + 1) (nI b)) (h + 2) (nI s)) (h + 3) (nI a), upd a_openAt s (nI c), a_middleAt, upd a_placeX s (nI w), upd a_placeY s (nI w1), td, a_value, a_held, a_operand, a_callAt, a_callIn)) :
    wpX_write post (f_terms, f_termHeight, f_made, f_height, f_compiled, nI c, nI w, nI h, nI p, f_high, f_at, f_inside, f_ahead, f_undoing, f_outcomeThen, f_calls, f_state, f_last, f_stepCount, a_termKind, a_termA, a_termB, a_termNumber, a_registersIn, a_termStack, a_kind, a_register, a_number, a_partA, a_partB, a_testX, a_testY, a_size, a_stack, a_code, a_first, a_second, a_codeX, a_codeY, a_partner, a_other, a_begin, a_end, a_word, a_wordNumber, a_constant, a_folded, a_work, a_workOn, a_openAt, a_middleAt, a_placeX, a_placeY, a_todo, a_value, a_held, a_operand, a_callAt, a_callIn) (nI s) := by
  have hm : vp_in (nI (16 * p + s)) 64 := vp_in_nI (by omega) (by omega)
  unfold wpX_write
  dsimp only
  refine nm_r (zn_p16 p s) (And.intro hm (nm_r (e' := nI k) (by rw [zn_c (by omega : 16 * p + s < 2 ^ 31)]; exact hk) (br_f (nI_nlt (b := 6) (by omega) (by omega)) (br_t (nI_lt (a := 9) (by omega) (by omega)) ?_))))
  unfold wX_write_49
  rw [zn_c (by omega : 16 * p + s < 2 ^ 31), hx]
  refine br_t (nI_le (a := 10) (by omega) (by omega)) (br_f (zn_ne (b := 10) (by omega) (by omega) (by omega)) (And.intro hm (zx_wterm ho hN hp hmt hf hxN (by omega) ?_)))
  intro w1 td1 wd1 wn1 h1 h2 h3 h4
  dsimp only
  rw [zn_c (by omega : s < 2 ^ 31), hy, zn_vss (by omega)]
  refine And.intro (vp_in_nI hs (by omega)) (nm_e (And.intro hm (zx_wterm ho hN hp hmt hf hyN (by omega) ?_)))
  intro w2 td wd wn g1 g2 g3 g4
  dsimp only
  rw [zn_vss (by omega)]
  have HH := H w1 w2 td wd wn h1 g1 (by omega) (zw_test_cong g4 (by omega) h3) g3 (fun j hj => ⟨(g4 j (by omega)).1.trans (h4 j hj).1, (g4 j (by omega)).2.trans (h4 j hj).2⟩)
  have key : wX_write_156 post (nI s) (nI (16 * p + s)) (nI (if k = 11 then 10 else 14)) (nI s) f_terms f_termHeight f_made f_height f_compiled (nI c) (nI w2) (nI h) (nI p) f_high f_at f_inside f_ahead f_undoing f_outcomeThen f_calls f_state f_last f_stepCount a_termKind a_termA a_termB a_termNumber a_registersIn a_termStack a_kind a_register a_number a_partA a_partB a_testX a_testY a_size a_stack a_code a_first a_second a_codeX a_codeY a_partner a_other a_begin a_end wd wn a_constant a_folded a_work a_workOn a_openAt a_middleAt (upd a_placeX s (nI w)) (upd a_placeY s (nI w1)) td a_value a_held a_operand a_callAt a_callIn := by
    unfold wX_write_156
    refine zx_et hc (by split <;> omega) hs pk_us pk_us (by omega) (by omega) ?_
    dsimp only
    rw [zn_c (by omega : s < 2 ^ 31), zn_vss (by omega)]
    refine And.intro (vp_in_nI hs (by omega)) (nm_e (zx_ask (k := 2) (by omega) (by omega) (by omega) ?_))
    dsimp only
    rw [zn_c (by omega : 16 * p + s < 2 ^ 31), hb]
    refine And.intro hm (zx_ask (k := 0) (by omega) (by omega) (by omega) (zx_ask (k := 1) (by omega) (by omega) (by omega) ?_))
    dsimp only
    rw [ha]
    exact And.intro hm (zx_ask (k := 0) (by omega) (by omega) (by omega) HH)
  refine And.intro (vp_in_nI hs (by omega)) (nm_e ?_)
  rcases hk5 with rfl | rfl
  · exact br_t rfl key
  · exact br_f (by decide) key
theorem zx_bt11 {post : SX → Prop} {c p s wx wy o : Nat} (hp : p < 3) (hs : s < 16) (hc : c + 1 < 200) (hk : a_kind (16 * p + s) = nI 11) (hx : a_placeX s = nI wx) (hy : a_placeY s = nI wy) (hx2 : wx < 240) (hy2 : wy < 240) (ho : a_openAt s = nI o) (ho2 : o < 200)
    (h : post (f_terms, f_termHeight, f_made, f_height, f_compiled, nI (c + 2), f_wordCount, f_works, nI p, f_high, f_at, f_inside, f_ahead, f_undoing, f_outcomeThen, f_calls, f_state, f_last, f_stepCount, a_termKind, a_termA, a_termB, a_termNumber, a_registersIn, a_termStack, a_kind, a_register, a_number, a_partA, a_partB, a_testX, a_testY, a_size, a_stack, upd (upd a_code c (nI 11)) (c + 1) (nI 12), upd (upd a_first c 0) (c + 1) 0, upd (upd a_second c 0) (c + 1) 0, upd (upd a_codeX c (nI wx)) (c + 1) (nI wx), upd (upd a_codeY c (nI wy)) (c + 1) (nI wy), upd (upd a_partner (c + 1) (nI o)) o (nI (c + 1)), a_other, a_begin, a_end, a_word, a_wordNumber, a_constant, a_folded, a_work, a_workOn, a_openAt, upd a_middleAt s (nI c), a_placeX, a_placeY, a_todo, a_value, a_held, a_operand, a_callAt, a_callIn)) :
    wpX_writeBetween post (f_terms, f_termHeight, f_made, f_height, f_compiled, nI c, f_wordCount, f_works, nI p, f_high, f_at, f_inside, f_ahead, f_undoing, f_outcomeThen, f_calls, f_state, f_last, f_stepCount, a_termKind, a_termA, a_termB, a_termNumber, a_registersIn, a_termStack, a_kind, a_register, a_number, a_partA, a_partB, a_testX, a_testY, a_size, a_stack, a_code, a_first, a_second, a_codeX, a_codeY, a_partner, a_other, a_begin, a_end, a_word, a_wordNumber, a_constant, a_folded, a_work, a_workOn, a_openAt, a_middleAt, a_placeX, a_placeY, a_todo, a_value, a_held, a_operand, a_callAt, a_callIn) (nI s) := by
  have hm : vp_in (nI (16 * p + s)) 64 := vp_in_nI (by omega) (by omega)
  unfold wpX_writeBetween
  dsimp only
  rw [zn_p16 p s, zn_c (by omega : 16 * p + s < 2 ^ 31), hk]
  refine And.intro hm (br_t rfl ?_)
  unfold wX_writeBetween_24 wX_writeBetween_42
  refine br_f (by decide) (zx_et (k := 11) (by omega) (by omega) hs hx hy (by omega) (by omega) ?_)
  dsimp only
  rw [zn_c (by omega : s < 2 ^ 31), zn_vss (by omega)]
  refine And.intro (vp_in_nI hs (by omega)) (nm_e (br_f (by decide) (zx_et (k := 12) (by omega) (by omega) hs hx hy (by omega) (by omega) ?_)))
  dsimp only
  rw [ho, zn_c (by omega : c + 1 < 2 ^ 31), zn_c (by omega : o < 2 ^ 31), zn_vs (by omega), zn_vss (by omega)]
  exact And.intro (vp_in_nI hs (by omega)) (And.intro (vp_in_nI (by omega) (by omega)) (nm_e (And.intro (vp_in_nI hs (by omega)) (And.intro (vp_in_nI ho2 (by omega)) (nm_e h)))))
theorem zx_bt12 {post : SX → Prop} {c p s wx wy : Nat} (hp : p < 3) (hs : s < 16) (hc : c < 200) (hk : a_kind (16 * p + s) = nI 12) (hx : a_placeX s = nI wx) (hy : a_placeY s = nI wy) (hx2 : wx < 240) (hy2 : wy < 240)
    (h : post (f_terms, f_termHeight, f_made, f_height, f_compiled, nI (c + 1), f_wordCount, f_works, nI p, f_high, f_at, f_inside, f_ahead, f_undoing, f_outcomeThen, f_calls, f_state, f_last, f_stepCount, a_termKind, a_termA, a_termB, a_termNumber, a_registersIn, a_termStack, a_kind, a_register, a_number, a_partA, a_partB, a_testX, a_testY, a_size, a_stack, upd a_code c (nI 15), upd a_first c 0, upd a_second c 0, upd a_codeX c (nI wx), upd a_codeY c (nI wy), a_partner, a_other, a_begin, a_end, a_word, a_wordNumber, a_constant, a_folded, a_work, a_workOn, a_openAt, upd a_middleAt s (nI c), a_placeX, a_placeY, a_todo, a_value, a_held, a_operand, a_callAt, a_callIn)) :
    wpX_writeBetween post (f_terms, f_termHeight, f_made, f_height, f_compiled, nI c, f_wordCount, f_works, nI p, f_high, f_at, f_inside, f_ahead, f_undoing, f_outcomeThen, f_calls, f_state, f_last, f_stepCount, a_termKind, a_termA, a_termB, a_termNumber, a_registersIn, a_termStack, a_kind, a_register, a_number, a_partA, a_partB, a_testX, a_testY, a_size, a_stack, a_code, a_first, a_second, a_codeX, a_codeY, a_partner, a_other, a_begin, a_end, a_word, a_wordNumber, a_constant, a_folded, a_work, a_workOn, a_openAt, a_middleAt, a_placeX, a_placeY, a_todo, a_value, a_held, a_operand, a_callAt, a_callIn) (nI s) := by
  have hm : vp_in (nI (16 * p + s)) 64 := vp_in_nI (by omega) (by omega)
  unfold wpX_writeBetween
  dsimp only
  rw [zn_p16 p s, zn_c (by omega : 16 * p + s < 2 ^ 31), hk]
  refine And.intro hm (br_f (by decide) ?_)
  unfold wX_writeBetween_24 wX_writeBetween_42
  refine br_t rfl (zx_et (k := 15) (by omega) (by omega) hs hx hy (by omega) (by omega) ?_)
  dsimp only
  rw [zn_c (by omega : s < 2 ^ 31), zn_vss (by omega)]
  exact And.intro (vp_in_nI hs (by omega)) (nm_e (br_t rfl h))
theorem zx_bh11 {post : SX → Prop} {c p s wx wy o m : Nat} (hp : p < 3) (hs : s < 16) (hc : c < 200) (hk : a_kind (16 * p + s) = nI 11) (hx : a_placeX s = nI wx) (hy : a_placeY s = nI wy) (hx2 : wx < 240) (hy2 : wy < 240) (ho : a_openAt s = nI o) (ho2 : o < 200) (hmm : a_middleAt s = nI m) (hm2 : m < 200)
    (h : post (f_terms, f_termHeight, f_made, f_height, f_compiled, nI (c + 1), f_wordCount, f_works, nI p, f_high, f_at, f_inside, f_ahead, f_undoing, f_outcomeThen, f_calls, f_state, f_last, f_stepCount, a_termKind, a_termA, a_termB, a_termNumber, a_registersIn, a_termStack, a_kind, a_register, a_number, a_partA, a_partB, a_testX, a_testY, a_size, a_stack, upd a_code c (nI 13), upd a_first c 0, upd a_second c 0, upd a_codeX c (nI wx), upd a_codeY c (nI wy), upd (upd a_partner c (nI m)) m (nI c), upd a_other c (nI o), a_begin, a_end, a_word, a_wordNumber, a_constant, a_folded, a_work, a_workOn, a_openAt, a_middleAt, a_placeX, a_placeY, a_todo, a_value, a_held, a_operand, a_callAt, a_callIn)) :
    wpX_writeBehind post (f_terms, f_termHeight, f_made, f_height, f_compiled, nI c, f_wordCount, f_works, nI p, f_high, f_at, f_inside, f_ahead, f_undoing, f_outcomeThen, f_calls, f_state, f_last, f_stepCount, a_termKind, a_termA, a_termB, a_termNumber, a_registersIn, a_termStack, a_kind, a_register, a_number, a_partA, a_partB, a_testX, a_testY, a_size, a_stack, a_code, a_first, a_second, a_codeX, a_codeY, a_partner, a_other, a_begin, a_end, a_word, a_wordNumber, a_constant, a_folded, a_work, a_workOn, a_openAt, a_middleAt, a_placeX, a_placeY, a_todo, a_value, a_held, a_operand, a_callAt, a_callIn) (nI s) := by
  have hm : vp_in (nI (16 * p + s)) 64 := vp_in_nI (by omega) (by omega)
  have hs' : vp_in (nI s) 16 := vp_in_nI hs (by omega)
  have hc' : vp_in (nI c) 200 := vp_in_nI hc (by omega)
  unfold wpX_writeBehind
  dsimp only
  rw [zn_p16 p s, zn_c (by omega : 16 * p + s < 2 ^ 31), hk]
  refine And.intro hm (br_t rfl ?_)
  unfold wX_writeBehind_24 wX_writeBehind_37
  refine br_f (by decide) (zx_et (k := 13) (by omega) (by omega) hs hx hy (by omega) (by omega) ?_)
  dsimp only
  rw [zn_c (by omega : s < 2 ^ 31), hmm, ho, zn_c (by omega : c < 2 ^ 31), zn_c (by omega : m < 2 ^ 31), zn_vss (by omega), zn_vs (by omega : m < 32768), zn_vs (by omega : o < 32768)]
  exact And.intro hs' (And.intro hc' (nm_e (And.intro hs' (And.intro (vp_in_nI hm2 (by omega)) (nm_e (And.intro hs' (And.intro hc' (nm_e (br_f (by decide) h)))))))))
theorem zx_bh12 {post : SX → Prop} {c p s wx wy o m : Nat} (hp : p < 3) (hs : s < 16) (hc : c < 200) (hk : a_kind (16 * p + s) = nI 12) (hx : a_placeX s = nI wx) (hy : a_placeY s = nI wy) (hx2 : wx < 240) (hy2 : wy < 240) (ho : a_openAt s = nI o) (ho2 : o < 200) (hmm : a_middleAt s = nI m) (hm2 : m < 200)
    (h : post (f_terms, f_termHeight, f_made, f_height, f_compiled, nI (c + 1), f_wordCount, f_works, nI p, f_high, f_at, f_inside, f_ahead, f_undoing, f_outcomeThen, f_calls, f_state, f_last, f_stepCount, a_termKind, a_termA, a_termB, a_termNumber, a_registersIn, a_termStack, a_kind, a_register, a_number, a_partA, a_partB, a_testX, a_testY, a_size, a_stack, upd a_code c (nI 16), upd a_first c 0, upd a_second c 0, upd a_codeX c (nI wx), upd a_codeY c (nI wy), upd (upd (upd a_partner c (nI m)) m (nI c)) o (nI c), upd a_other c (nI o), a_begin, a_end, a_word, a_wordNumber, a_constant, a_folded, a_work, a_workOn, a_openAt, a_middleAt, a_placeX, a_placeY, a_todo, a_value, a_held, a_operand, a_callAt, a_callIn)) :
    wpX_writeBehind post (f_terms, f_termHeight, f_made, f_height, f_compiled, nI c, f_wordCount, f_works, nI p, f_high, f_at, f_inside, f_ahead, f_undoing, f_outcomeThen, f_calls, f_state, f_last, f_stepCount, a_termKind, a_termA, a_termB, a_termNumber, a_registersIn, a_termStack, a_kind, a_register, a_number, a_partA, a_partB, a_testX, a_testY, a_size, a_stack, a_code, a_first, a_second, a_codeX, a_codeY, a_partner, a_other, a_begin, a_end, a_word, a_wordNumber, a_constant, a_folded, a_work, a_workOn, a_openAt, a_middleAt, a_placeX, a_placeY, a_todo, a_value, a_held, a_operand, a_callAt, a_callIn) (nI s) := by
  have hm : vp_in (nI (16 * p + s)) 64 := vp_in_nI (by omega) (by omega)
  have hs' : vp_in (nI s) 16 := vp_in_nI hs (by omega)
  have hc' : vp_in (nI c) 200 := vp_in_nI hc (by omega)
  unfold wpX_writeBehind
  dsimp only
  rw [zn_p16 p s, zn_c (by omega : 16 * p + s < 2 ^ 31), hk]
  refine And.intro hm (br_f (by decide) ?_)
  unfold wX_writeBehind_24 wX_writeBehind_37
  refine br_t rfl (zx_et (k := 16) (by omega) (by omega) hs hx hy (by omega) (by omega) ?_)
  dsimp only
  rw [zn_c (by omega : s < 2 ^ 31), hmm, ho, zn_c (by omega : c < 2 ^ 31), zn_c (by omega : m < 2 ^ 31), zn_c (by omega : o < 2 ^ 31), zn_vss (by omega), zn_vs (by omega : m < 32768), zn_vs (by omega : o < 32768)]
  exact And.intro hs' (And.intro hc' (nm_e (And.intro hs' (And.intro (vp_in_nI hm2 (by omega)) (nm_e (And.intro hs' (And.intro hc' (nm_e (br_t rfl (And.intro hs' (And.intro (vp_in_nI ho2 (by omega)) (nm_e h))))))))))))
end
end
section
/-! ===== X's compiler: the work of one procedure ===== -/
theorem zc_mono {code fst snd cx cy prt oth wd wn : Nat → Int32} {wc : Nat} {S T : Nat → Nat → Nat} : ∀ {n m s lo : Nat}, n ≤ m →
    zc_at code fst snd cx cy prt oth wd wn wc S T n s lo → zc_at code fst snd cx cy prt oth wd wn wc S T m s lo := by
  intro n
  induction n with
  | zero => intro m s lo _ h; exact h.elim
  | succ n ih =>
    intro m s lo hm h
    obtain ⟨m, rfl⟩ : ∃ k, m = k + 1 := ⟨m - 1, by omega⟩
    obtain ⟨h9, h10, h11, h12⟩ := h
    refine ⟨h9, fun hk => ?_, fun hk => ?_, fun hk => ?_⟩
    · obtain ⟨ga, gb⟩ := h10 hk
      exact ⟨ih (by omega) ga, ih (by omega) gb⟩
    · obtain ⟨wx, wy, t1, t2, t3, t4, t5, t6, t7, t8, t9, t10, ga, gb⟩ := h11 hk
      exact ⟨wx, wy, t1, t2, t3, t4, t5, t6, t7, t8, t9, t10, ih (by omega) ga, ih (by omega) gb⟩
    · obtain ⟨wx, wy, t1, t2, t3, t4, t5, t6, t7, t8, t9, ga, gb⟩ := h12 hk
      exact ⟨wx, wy, t1, t2, t3, t4, t5, t6, t7, t8, t9, ih (by omega) ga, ih (by omega) gb⟩
def zk_same (c : Nat) (co fi se cx cy pr ot co' fi' se' cx' cy' pr' ot' : Nat → Int32) : Prop :=
  ∀ j, j < c → co' j = co j ∧ fi' j = fi j ∧ se' j = se j ∧ cx' j = cx j ∧ cy' j = cy j ∧ pr' j = pr j ∧ ot' j = ot j
def zk_two (c : Nat) (wd wn wd' wn' : Nat → Int32) : Prop := ∀ j, j < c → wd' j = wd j ∧ wn' j = wn j
def zk_pl (s : Nat) (oa ma px py oa' ma' px' py' : Nat → Int32) : Prop := ∀ q, s < q → oa' q = oa q ∧ ma' q = ma q ∧ px' q = px q ∧ py' q = py q
section
variable {f_terms f_termHeight f_made f_height f_compiled f_codeSize f_wordCount f_works f_procedure f_high f_at f_inside f_ahead f_undoing f_outcomeThen f_calls f_state f_last f_stepCount : Int32} {a_termKind a_termA a_termB a_termNumber a_registersIn a_termStack a_kind a_register a_number a_partA a_partB a_testX a_testY a_size a_stack a_code a_first a_second a_codeX a_codeY a_partner a_other a_begin a_end a_word a_wordNumber a_constant a_folded a_work a_workOn a_openAt a_middleAt a_placeX a_placeY a_todo a_value a_held a_operand a_callAt a_callIn : Nat → Int32}
variable {post : SX → Prop} {S T : Nat → Nat → Nat} {nS N p : Nat} {x1 : Int32}
theorem zx_cp (ho : zt_ok T N) (hN : N ≤ 24) (hS : zs_ok S T nS N) (hn16 : nS ≤ 16) (hp : p < 3) (hmt : zi_TX (24 * p) N T a_termKind a_termA a_termB a_termNumber)
    (hms : zi_SY (16 * p) nS S a_kind a_register a_number a_partA a_partB a_testX a_testY) (hf : zf_ok T N 24 a_constant a_folded) :
    ∀ (s : Nat), s < nS → ∀ (h i n c w : Nat) (co fi se cx cy pr ot wd wn wk wo oa ma px py td : Nat → Int32), n + i = 65 → wk h = nI 0 → wo h = nI s → h + zs_I S s ≤ 64 → i + zs_I S s ≤ 64 → c + zs_L S s ≤ 200 → w + zs_W S s ≤ 240 →
    (∀ (i' n' w' : Nat) (co' fi' se' cx' cy' pr' ot' wd' wn' wk' wo' oa' ma' px' py' td' : Nat → Int32), n' + i' = 65 → i' ≤ i + zs_I S s → w ≤ w' → w' ≤ w + zs_W S s → zk_two h wk wo wk' wo' →
      zk_same c co fi se cx cy pr ot co' fi' se' cx' cy' pr' ot' → zk_two w wd wn wd' wn' → zk_pl s oa ma px py oa' ma' px' py' →
      zc_at co' fi' se' cx' cy' pr' ot' wd' wn' w' S T (s + 1) s c →
      wX_compileProcedure_40 post x1 n' (nI i') f_terms f_termHeight f_made f_height f_compiled (nI (c + zs_L S s)) (nI w') (nI h) (nI p) f_high f_at f_inside f_ahead f_undoing f_outcomeThen f_calls f_state f_last f_stepCount a_termKind a_termA a_termB a_termNumber a_registersIn a_termStack a_kind a_register a_number a_partA a_partB a_testX a_testY a_size a_stack co' fi' se' cx' cy' pr' ot' a_begin a_end wd' wn' a_constant a_folded wk' wo' oa' ma' px' py' td' a_value a_held a_operand a_callAt a_callIn) →
    wX_compileProcedure_40 post x1 n (nI i) f_terms f_termHeight f_made f_height f_compiled (nI c) (nI w) (nI (h + 1)) (nI p) f_high f_at f_inside f_ahead f_undoing f_outcomeThen f_calls f_state f_last f_stepCount a_termKind a_termA a_termB a_termNumber a_registersIn a_termStack a_kind a_register a_number a_partA a_partB a_testX a_testY a_size a_stack co fi se cx cy pr ot a_begin a_end wd wn a_constant a_folded wk wo oa ma px py td a_value a_held a_operand a_callAt a_callIn := by
  intro s
  induction s using Nat.strongRecOn with
  | _ s ih =>
  intro hs h i n c w co fi se cx cy pr ot wd wn wk wo oa ma px py td hn hwk hwo hh hi hc hw K
  have hok := hS s hs
  have hkk := hok.1
  have hs16 : s < 16 := by omega
  have hI1 : 1 ≤ zs_I S s := hok.2.2.2.2.2.2.2.2.2.2.2.2.2.2.1
  have hL1 : 1 ≤ zs_L S s := hok.2.2.2.2.2.2.2.2.2.2.2.2.2.2.2
  obtain ⟨m1, m2, m3, m4, m5, m6⟩ := hms s hs
  obtain ⟨n, rfl⟩ : ∃ k, n = k + 1 := ⟨n - 1, by omega⟩
  refine br_f (nI_ge (b := 64) (by omega) (by omega)) (br_f (nI_nle (by omega) (by omega)) (nm_r (nI_pred h) ?_))
  rw [zn_c (by omega : h < 2 ^ 31), hwk, hwo]
  refine And.intro (vp_in_nI (by omega) (by omega)) (nm_e (And.intro (vp_in_nI (by omega) (by omega)) (nm_e (br_t rfl ?_))))
  rcases (show zs_k S s ≤ 5 ∨ (6 ≤ zs_k S s ∧ zs_k S s ≤ 9) ∨ zs_k S s = 10 ∨ zs_k S s = 11 ∨ zs_k S s = 12 from by omega) with hk | hk | hk | hk | hk
  · -- a leaf
    obtain ⟨hL, hI⟩ := hok.2.2.2.2.2.2.2.2.1 (by omega)
    rw [hL, hI] at K
    refine zx_w_leaf hp hs16 (by omega) m1 hk (nm_r (nI_1 i) ?_)
    refine K (i + 1) n w _ _ _ _ _ _ _ _ _ _ _ _ _ _ _ _ (by omega) (by omega) (by omega) (by omega) (fun j hj => ⟨rfl, rfl⟩)
      (fun j hj => ⟨pk_un (by omega), pk_un (by omega), pk_un (by omega), rfl, rfl, rfl, rfl⟩) (fun j hj => ⟨rfl, rfl⟩) (fun q hq => ⟨rfl, rfl, rfl, rfl⟩) ?_
    refine ⟨fun _ => ⟨pk_us, fun z => ?_, fun z => ?_, fun z => absurd z (by omega)⟩, fun z => absurd z (by omega), fun z => absurd z (by omega), fun z => absurd z (by omega)⟩
    · rw [pk_us, m2 z, zn_vbb (by have := hok.2.1 z; omega)]
    · rw [pk_us, m3 z, zn_vbb (by
        rcases z with z | z
        · have := hok.2.2.1 z; omega
        · have := hok.2.2.2.1 z; omega)]
  · -- an update or a check
    obtain ⟨hL, hI⟩ := hok.2.2.2.2.2.2.2.2.1 (by omega)
    have hW := hok.2.2.2.2.2.2.2.2.2.2.2.2.2.1 hk
    have hx := hok.2.2.2.2.1 hk
    rw [hL, hI, hW] at K
    refine zx_w_up ho hN hmt hf hp hs16 (by omega) m1 hk (m4 (by omega)) hx (by omega) ?_
    intro w' td' wd' wn' g1 g2 g3 g4
    refine nm_r (nI_1 i) ?_
    refine K (i + 1) n w' _ _ _ _ _ _ _ _ _ _ _ _ _ _ _ _ (by omega) (by omega) (by omega) (by omega) (fun j hj => ⟨rfl, rfl⟩)
      (fun j hj => ⟨pk_un (by omega), pk_un (by omega), pk_un (by omega), pk_un (by omega), rfl, rfl, rfl⟩) g4 (fun q hq => ⟨rfl, rfl, rfl, rfl⟩) ?_
    refine ⟨fun _ => ⟨pk_us, fun z => ?_, fun z => absurd z (by omega), fun z => ⟨w, pk_us, g3⟩⟩, fun z => absurd z (by omega), fun z => absurd z (by omega), fun z => absurd z (by omega)⟩
    rw [pk_us, m2 z, zn_vbb (by have := hok.2.1 z; omega)]
  · -- a sequence
    obtain ⟨ha, hb⟩ := hok.2.2.2.2.2.2.1 (by omega)
    obtain ⟨hL, hI, hW⟩ := hok.2.2.2.2.2.2.2.2.2.1 hk
    have hbI : 1 ≤ zs_I S (zs_b S s) := (hS _ (by omega)).2.2.2.2.2.2.2.2.2.2.2.2.2.2.1
    have haI : 1 ≤ zs_I S (zs_a S s) := (hS _ (by omega)).2.2.2.2.2.2.2.2.2.2.2.2.2.2.1
    rw [hk] at m1
    refine zx_w_seq hp hs16 m1 (m6 (by omega)).1 (m6 (by omega)).2 (by omega) (by omega) (by omega) (nm_r (nI_1 i) ?_)
    refine ih (zs_a S s) ha (by omega) (h + 1) (i + 1) n c w _ _ _ _ _ _ _ _ _ _ _ _ _ _ _ _ (by omega) pk_us pk_us (by omega) (by omega) (by omega) (by omega) ?_
    intro i1 n1 w1 co1 fi1 se1 cx1 cy1 pr1 ot1 wd1 wn1 wk1 wo1 oa1 ma1 px1 py1 td1 hn1 hi1 hw1 hw1' hwk1 hs1 hwd1 hpl1 hz1
    have e0 := hwk1 h (by omega)
    rw [pk_un (by omega), pk_us, pk_un (by omega), pk_us] at e0
    refine ih (zs_b S s) hb (by omega) h i1 n1 (c + zs_L S (zs_a S s)) w1 _ _ _ _ _ _ _ _ _ _ _ _ _ _ _ _ hn1 e0.1 e0.2 (by omega) (by omega) (by omega) (by omega) ?_
    intro i2 n2 w2 co2 fi2 se2 cx2 cy2 pr2 ot2 wd2 wn2 wk2 wo2 oa2 ma2 px2 py2 td2 hn2 hi2 hw2 hw2' hwk2 hs2 hwd2 hpl2 hz2
    rw [show c + zs_L S (zs_a S s) + zs_L S (zs_b S s) = c + zs_L S s from by omega]
    refine K i2 n2 w2 _ _ _ _ _ _ _ _ _ _ _ _ _ _ _ _ hn2 (by omega) (by omega) (by omega) ?_ ?_ ?_ ?_ ?_
    · intro j hj
      have e1 := hwk1 j (by omega)
      rw [pk_un (by omega), pk_un (by omega), pk_un (by omega), pk_un (by omega)] at e1
      exact ⟨(hwk2 j hj).1.trans e1.1, (hwk2 j hj).2.trans e1.2⟩
    · intro j hj
      obtain ⟨a1, a2, a3, a4, a5, a6, a7⟩ := hs1 j hj
      obtain ⟨b1, b2, b3, b4, b5, b6, b7⟩ := hs2 j (by omega)
      exact ⟨b1.trans a1, b2.trans a2, b3.trans a3, b4.trans a4, b5.trans a5, b6.trans a6, b7.trans a7⟩
    · intro j hj
      exact ⟨(hwd2 j (by omega)).1.trans (hwd1 j hj).1, (hwd2 j (by omega)).2.trans (hwd1 j hj).2⟩
    · intro q hq
      obtain ⟨a1, a2, a3, a4⟩ := hpl1 q (by omega)
      obtain ⟨b1, b2, b3, b4⟩ := hpl2 q (by omega)
      exact ⟨b1.trans a1, b2.trans a2, b3.trans a3, b4.trans a4⟩
    · refine ⟨fun z => absurd z (by omega), fun _ => ⟨?_, zc_mono (by omega) hz2⟩, fun z => absurd z (by omega), fun z => absurd z (by omega)⟩
      exact zc_mono (by omega) (zc_cong hS hwd2 hw2 (by omega) (fun j hj1 hj2 => hs2 j hj2) hz1)
  · -- an if
    obtain ⟨ha, hb⟩ := hok.2.2.2.2.2.2.1 (by omega)
    obtain ⟨hx, hy⟩ := hok.2.2.2.2.2.2.2.1 (by omega)
    have hL := hok.2.2.2.2.2.2.2.2.2.2.1 hk
    obtain ⟨hI, hW⟩ := hok.2.2.2.2.2.2.2.2.2.2.2.2.1 (by omega)
    have hbI : 1 ≤ zs_I S (zs_b S s) := (hS _ (by omega)).2.2.2.2.2.2.2.2.2.2.2.2.2.2.1
    have haI : 1 ≤ zs_I S (zs_a S s) := (hS _ (by omega)).2.2.2.2.2.2.2.2.2.2.2.2.2.2.1
    rw [hk] at m1
    refine zx_w_tst ho hN hmt hf hp hs16 (by omega) m1 (Or.inl rfl) (m4 (by omega)) (m5 (by omega)) hx hy (m6 (by omega)).1 (m6 (by omega)).2 (by omega) (by omega) (by omega) (by omega) ?_
    intro v1 v2 td0 wd0 wn0 gv1 gv2 gv3 gt1 gt2 gw
    rw [if_pos rfl]
    refine nm_r (nI_1 i) ?_
    refine ih (zs_a S s) ha (by omega) (h + 3) (i + 1) n (c + 1) v2 _ _ _ _ _ _ _ _ _ _ _ _ _ _ _ _ (by omega) pk_us pk_us (by omega) (by omega) (by omega) (by omega) ?_
    intro i1 n1 w1 co1 fi1 se1 cx1 cy1 pr1 ot1 wd1 wn1 wk1 wo1 oa1 ma1 px1 py1 td1 hn1 hi1 hw1 hw1' hwk1 hs1 hwd1 hpl1 hz1
    -- between
    have e2 := hwk1 (h + 2) (by omega)
    rw [pk_un (by omega), pk_us, pk_un (by omega), pk_us] at e2
    have p1 := hpl1 s ha
    rw [pk_us, pk_us, pk_us] at p1
    obtain ⟨n1, rfl⟩ : ∃ k, n1 = k + 1 := ⟨n1 - 1, by omega⟩
    refine br_f (nI_ge (b := 64) (by omega) (by omega)) (br_f (nI_nle (by omega) (by omega)) (nm_r (nI_pred (h + 2)) ?_))
    rw [zn_c (by omega : h + 2 < 2 ^ 31), e2.1, e2.2]
    refine And.intro (vp_in_nI (by omega) (by omega)) (nm_e (And.intro (vp_in_nI (by omega) (by omega)) (nm_e (br_f (by decide) (br_t rfl ?_)))))
    refine zx_bt11 hp hs16 (by omega) m1 p1.2.2.1 p1.2.2.2 (by omega) (by omega) p1.1 (by omega) (nm_r (nI_1 i1) ?_)
    -- the second part
    have e1 := hwk1 (h + 1) (by omega)
    rw [pk_un (by omega), pk_un (by omega), pk_us, pk_un (by omega), pk_un (by omega), pk_us] at e1
    refine ih (zs_b S s) hb (by omega) (h + 1) (i1 + 1) n1 (c + 1 + zs_L S (zs_a S s) + 2) w1 _ _ _ _ _ _ _ _ _ _ _ _ _ _ _ _ (by omega) e1.1 e1.2 (by omega) (by omega) (by omega) (by omega) ?_
    intro i2 n2 w2 co2 fi2 se2 cx2 cy2 pr2 ot2 wd2 wn2 wk2 wo2 oa2 ma2 px2 py2 td2 hn2 hi2 hw2 hw2' hwk2 hs2 hwd2 hpl2 hz2
    -- behind
    have e0 := hwk1 h (by omega)
    rw [pk_un (by omega), pk_un (by omega), pk_un (by omega), pk_us, pk_un (by omega), pk_un (by omega), pk_un (by omega), pk_us] at e0
    have e0' := hwk2 h (by omega)
    rw [e0.1, e0.2] at e0'
    have p2 := hpl2 s hb
    rw [p1.1, p1.2.2.1, p1.2.2.2, pk_us] at p2
    obtain ⟨n2, rfl⟩ : ∃ k, n2 = k + 1 := ⟨n2 - 1, by omega⟩
    refine br_f (nI_ge (b := 64) (by omega) (by omega)) (br_f (nI_nle (by omega) (by omega)) (nm_r (nI_pred h) ?_))
    rw [zn_c (by omega : h < 2 ^ 31), e0'.1, e0'.2]
    refine And.intro (vp_in_nI (by omega) (by omega)) (nm_e (And.intro (vp_in_nI (by omega) (by omega)) (nm_e (br_f (by decide) (br_f (by decide) ?_)))))
    refine zx_bh11 hp hs16 (by omega) m1 p2.2.2.1 p2.2.2.2 (by omega) (by omega) p2.1 (by omega) p2.2.1 (by omega) (nm_r (nI_1 i2) ?_)
    rw [show c + 1 + zs_L S (zs_a S s) + 2 + zs_L S (zs_b S s) + 1 = c + zs_L S s from by omega]
    generalize hm : c + 1 + zs_L S (zs_a S s) = m at *
    generalize he : m + 2 + zs_L S (zs_b S s) = e at *
    refine K (i2 + 1) n2 w2 _ _ _ _ _ _ _ _ _ _ _ _ _ _ _ _ (by omega) (by omega) (by omega) (by omega) ?_ ?_ ?_ ?_ ?_
    · intro j hj
      have g1 := hwk1 j (by omega)
      rw [pk_un (by omega), pk_un (by omega), pk_un (by omega), pk_un (by omega), pk_un (by omega), pk_un (by omega), pk_un (by omega), pk_un (by omega)] at g1
      exact ⟨(hwk2 j (by omega)).1.trans g1.1, (hwk2 j (by omega)).2.trans g1.2⟩
    · intro j hj
      obtain ⟨a1, a2, a3, a4, a5, a6, a7⟩ := hs1 j (by omega)
      obtain ⟨b1, b2, b3, b4, b5, b6, b7⟩ := hs2 j (by omega)
      rw [pk_un (by omega)] at a1 a2 a3 a4 a5
      rw [pk_un (by omega), pk_un (by omega)] at b1 b2 b3 b4 b5 b6
      refine ⟨?_, ?_, ?_, ?_, ?_, ?_, ?_⟩
      · rw [pk_un (by omega), b1, a1]
      · rw [pk_un (by omega), b2, a2]
      · rw [pk_un (by omega), b3, a3]
      · rw [pk_un (by omega), b4, a4]
      · rw [pk_un (by omega), b5, a5]
      · rw [pk_un (by omega), pk_un (by omega), b6, a6]
      · rw [pk_un (by omega), b7, a7]
    · intro j hj
      exact ⟨(hwd2 j (by omega)).1.trans ((hwd1 j (by omega)).1.trans (gw j hj).1), (hwd2 j (by omega)).2.trans ((hwd1 j (by omega)).2.trans (gw j hj).2)⟩
    · intro q hq
      obtain ⟨a1, a2, a3, a4⟩ := hpl1 q (by omega)
      obtain ⟨b1, b2, b3, b4⟩ := hpl2 q (by omega)
      rw [pk_un (by omega)] at a1 a3 a4 b2
      exact ⟨b1.trans a1, b2.trans a2, b3.trans a3, b4.trans a4⟩
    · have hin : ∀ j k (y z : Int32), j < m → zc_ins co1 cx1 cy1 j k v1 v2 → True := fun _ _ _ _ _ _ => trivial
      obtain ⟨a1, _, _, a4, a5, _, _⟩ := hs1 c (by omega)
      obtain ⟨b1, _, _, b4, b5, b6, _⟩ := hs2 c (by omega)
      obtain ⟨d1, _, _, d4, d5, d6, _⟩ := hs2 m (by omega)
      obtain ⟨f1, _, _, f4, f5, f6, _⟩ := hs2 (m + 1) (by omega)
      rw [pk_us] at a1 a4 a5
      rw [pk_un (by omega), pk_un (by omega)] at b1 b4 b5
      rw [pk_us] at b6
      rw [pk_un (by omega), pk_us] at d1 d4 d5
      rw [pk_us] at f1 f4 f5
      rw [pk_un (by omega), pk_us] at f6
      have tx := zw_test_cong hwd2 hw2 (zw_test_cong hwd1 hw1 gt1)
      have ty := zw_test_cong hwd2 hw2 (zw_test_cong hwd1 hw1 gt2)
      refine ⟨fun z => absurd z (by omega), fun z => absurd z (by omega), fun _ => ⟨w, v1, tx, ty, ?_, ?_, ?_, ?_, ?_, ?_, ?_, ?_, ?_, ?_⟩, fun z => absurd z (by omega)⟩
      · exact ⟨by rw [pk_un (by omega), b1, a1], by rw [pk_un (by omega), b4, a4], by rw [pk_un (by omega), b5, a5]⟩
      · rw [hm]
        exact ⟨by rw [pk_un (by omega), d1], by rw [pk_un (by omega), d4], by rw [pk_un (by omega), d5]⟩
      · rw [show c + 2 + zs_L S (zs_a S s) = m + 1 from by omega]
        exact ⟨by rw [pk_un (by omega), f1], by rw [pk_un (by omega), f4], by rw [pk_un (by omega), f5]⟩
      · rw [show c + 3 + zs_L S (zs_a S s) + zs_L S (zs_b S s) = e from by omega]
        exact ⟨pk_us, pk_us, pk_us⟩
      · rw [pk_un (by omega), pk_un (by omega), b6]
        exact congrArg nI (by omega)
      · rw [show c + 2 + zs_L S (zs_a S s) = m + 1 from by omega, pk_un (by omega), pk_un (by omega), f6]
      · rw [hm, pk_us]
        exact congrArg nI (by omega)
      · rw [hm, show c + 3 + zs_L S (zs_a S s) + zs_L S (zs_b S s) = e from by omega, pk_un (by omega), pk_us]
      · refine zc_mono (by omega) (zc_cong hS (fun j hj => ⟨(hwd2 j hj).1, (hwd2 j hj).2⟩) hw2 (by omega) ?_ hz1)
        intro j hj1 hj2
        obtain ⟨b1, b2, b3, b4, b5, b6, b7⟩ := hs2 j (by omega)
        rw [pk_un (by omega), pk_un (by omega)] at b1 b2 b3 b4 b5 b6
        refine ⟨?_, ?_, ?_, ?_, ?_, ?_, ?_⟩
        · rw [pk_un (by omega), b1]
        · rw [pk_un (by omega), b2]
        · rw [pk_un (by omega), b3]
        · rw [pk_un (by omega), b4]
        · rw [pk_un (by omega), b5]
        · rw [pk_un (by omega), pk_un (by omega), b6]
        · rw [pk_un (by omega), b7]
      · rw [show c + 3 + zs_L S (zs_a S s) = m + 2 from by omega]
        refine zc_mono (by omega) (zc_cong hS (fun j hj => ⟨rfl, rfl⟩) (Nat.le_refl _) (by omega) ?_ hz2)
        intro j hj1 hj2
        exact ⟨pk_un (by omega), pk_un (by omega), pk_un (by omega), pk_un (by omega), pk_un (by omega), by rw [pk_un (by omega), pk_un (by omega)], pk_un (by omega)⟩
  · -- a loop
    obtain ⟨ha, hb⟩ := hok.2.2.2.2.2.2.1 (by omega)
    obtain ⟨hx, hy⟩ := hok.2.2.2.2.2.2.2.1 (by omega)
    have hL := hok.2.2.2.2.2.2.2.2.2.2.2.1 hk
    obtain ⟨hI, hW⟩ := hok.2.2.2.2.2.2.2.2.2.2.2.2.1 (by omega)
    have hbI : 1 ≤ zs_I S (zs_b S s) := (hS _ (by omega)).2.2.2.2.2.2.2.2.2.2.2.2.2.2.1
    have haI : 1 ≤ zs_I S (zs_a S s) := (hS _ (by omega)).2.2.2.2.2.2.2.2.2.2.2.2.2.2.1
    rw [hk] at m1
    refine zx_w_tst ho hN hmt hf hp hs16 (by omega) m1 (Or.inr rfl) (m4 (by omega)) (m5 (by omega)) hx hy (m6 (by omega)).1 (m6 (by omega)).2 (by omega) (by omega) (by omega) (by omega) ?_
    intro v1 v2 td0 wd0 wn0 gv1 gv2 gv3 gt1 gt2 gw
    rw [if_neg (by decide)]
    refine nm_r (nI_1 i) ?_
    refine ih (zs_a S s) ha (by omega) (h + 3) (i + 1) n (c + 1) v2 _ _ _ _ _ _ _ _ _ _ _ _ _ _ _ _ (by omega) pk_us pk_us (by omega) (by omega) (by omega) (by omega) ?_
    intro i1 n1 w1 co1 fi1 se1 cx1 cy1 pr1 ot1 wd1 wn1 wk1 wo1 oa1 ma1 px1 py1 td1 hn1 hi1 hw1 hw1' hwk1 hs1 hwd1 hpl1 hz1
    -- between
    have e2 := hwk1 (h + 2) (by omega)
    rw [pk_un (by omega), pk_us, pk_un (by omega), pk_us] at e2
    have p1 := hpl1 s ha
    rw [pk_us, pk_us, pk_us] at p1
    obtain ⟨n1, rfl⟩ : ∃ k, n1 = k + 1 := ⟨n1 - 1, by omega⟩
    refine br_f (nI_ge (b := 64) (by omega) (by omega)) (br_f (nI_nle (by omega) (by omega)) (nm_r (nI_pred (h + 2)) ?_))
    rw [zn_c (by omega : h + 2 < 2 ^ 31), e2.1, e2.2]
    refine And.intro (vp_in_nI (by omega) (by omega)) (nm_e (And.intro (vp_in_nI (by omega) (by omega)) (nm_e (br_f (by decide) (br_t rfl ?_)))))
    refine zx_bt12 hp hs16 (by omega) m1 p1.2.2.1 p1.2.2.2 (by omega) (by omega) (nm_r (nI_1 i1) ?_)
    -- the second part
    have e1 := hwk1 (h + 1) (by omega)
    rw [pk_un (by omega), pk_un (by omega), pk_us, pk_un (by omega), pk_un (by omega), pk_us] at e1
    refine ih (zs_b S s) hb (by omega) (h + 1) (i1 + 1) n1 (c + 1 + zs_L S (zs_a S s) + 1) w1 _ _ _ _ _ _ _ _ _ _ _ _ _ _ _ _ (by omega) e1.1 e1.2 (by omega) (by omega) (by omega) (by omega) ?_
    intro i2 n2 w2 co2 fi2 se2 cx2 cy2 pr2 ot2 wd2 wn2 wk2 wo2 oa2 ma2 px2 py2 td2 hn2 hi2 hw2 hw2' hwk2 hs2 hwd2 hpl2 hz2
    -- behind
    have e0 := hwk1 h (by omega)
    rw [pk_un (by omega), pk_un (by omega), pk_un (by omega), pk_us, pk_un (by omega), pk_un (by omega), pk_un (by omega), pk_us] at e0
    have e0' := hwk2 h (by omega)
    rw [e0.1, e0.2] at e0'
    have p2 := hpl2 s hb
    rw [p1.1, p1.2.2.1, p1.2.2.2, pk_us] at p2
    obtain ⟨n2, rfl⟩ : ∃ k, n2 = k + 1 := ⟨n2 - 1, by omega⟩
    refine br_f (nI_ge (b := 64) (by omega) (by omega)) (br_f (nI_nle (by omega) (by omega)) (nm_r (nI_pred h) ?_))
    rw [zn_c (by omega : h < 2 ^ 31), e0'.1, e0'.2]
    refine And.intro (vp_in_nI (by omega) (by omega)) (nm_e (And.intro (vp_in_nI (by omega) (by omega)) (nm_e (br_f (by decide) (br_f (by decide) ?_)))))
    refine zx_bh12 hp hs16 (by omega) m1 p2.2.2.1 p2.2.2.2 (by omega) (by omega) p2.1 (by omega) p2.2.1 (by omega) (nm_r (nI_1 i2) ?_)
    rw [show c + 1 + zs_L S (zs_a S s) + 1 + zs_L S (zs_b S s) + 1 = c + zs_L S s from by omega]
    generalize hm : c + 1 + zs_L S (zs_a S s) = m at *
    generalize he : m + 1 + zs_L S (zs_b S s) = e at *
    refine K (i2 + 1) n2 w2 _ _ _ _ _ _ _ _ _ _ _ _ _ _ _ _ (by omega) (by omega) (by omega) (by omega) ?_ ?_ ?_ ?_ ?_
    · intro j hj
      have g1 := hwk1 j (by omega)
      rw [pk_un (by omega), pk_un (by omega), pk_un (by omega), pk_un (by omega), pk_un (by omega), pk_un (by omega), pk_un (by omega), pk_un (by omega)] at g1
      exact ⟨(hwk2 j (by omega)).1.trans g1.1, (hwk2 j (by omega)).2.trans g1.2⟩
    · intro j hj
      obtain ⟨a1, a2, a3, a4, a5, a6, a7⟩ := hs1 j (by omega)
      obtain ⟨b1, b2, b3, b4, b5, b6, b7⟩ := hs2 j (by omega)
      rw [pk_un (by omega)] at a1 a2 a3 a4 a5
      rw [pk_un (by omega)] at b1 b2 b3 b4 b5
      refine ⟨?_, ?_, ?_, ?_, ?_, ?_, ?_⟩
      · rw [pk_un (by omega), b1, a1]
      · rw [pk_un (by omega), b2, a2]
      · rw [pk_un (by omega), b3, a3]
      · rw [pk_un (by omega), b4, a4]
      · rw [pk_un (by omega), b5, a5]
      · rw [pk_un (by omega), pk_un (by omega), pk_un (by omega), b6, a6]
      · rw [pk_un (by omega), b7, a7]
    · intro j hj
      exact ⟨(hwd2 j (by omega)).1.trans ((hwd1 j (by omega)).1.trans (gw j hj).1), (hwd2 j (by omega)).2.trans ((hwd1 j (by omega)).2.trans (gw j hj).2)⟩
    · intro q hq
      obtain ⟨a1, a2, a3, a4⟩ := hpl1 q (by omega)
      obtain ⟨b1, b2, b3, b4⟩ := hpl2 q (by omega)
      rw [pk_un (by omega)] at a1 a3 a4 b2
      exact ⟨b1.trans a1, b2.trans a2, b3.trans a3, b4.trans a4⟩
    · obtain ⟨a1, _, _, a4, a5, _, _⟩ := hs1 c (by omega)
      obtain ⟨b1, _, _, b4, b5, b6, _⟩ := hs2 c (by omega)
      obtain ⟨d1, _, _, d4, d5, d6, _⟩ := hs2 m (by omega)
      rw [pk_us] at a1 a4 a5
      rw [pk_un (by omega)] at b1 b4 b5
      rw [pk_us] at d1 d4 d5
      have tx := zw_test_cong hwd2 hw2 (zw_test_cong hwd1 hw1 gt1)
      have ty := zw_test_cong hwd2 hw2 (zw_test_cong hwd1 hw1 gt2)
      refine ⟨fun z => absurd z (by omega), fun z => absurd z (by omega), fun z => absurd z (by omega), fun _ => ⟨w, v1, tx, ty, ?_, ?_, ?_, ?_, ?_, ?_, ?_, ?_, ?_⟩⟩
      · exact ⟨by rw [pk_un (by omega), b1, a1], by rw [pk_un (by omega), b4, a4], by rw [pk_un (by omega), b5, a5]⟩
      · rw [hm]
        exact ⟨by rw [pk_un (by omega), d1], by rw [pk_un (by omega), d4], by rw [pk_un (by omega), d5]⟩
      · rw [show c + 2 + zs_L S (zs_a S s) + zs_L S (zs_b S s) = e from by omega]
        exact ⟨pk_us, pk_us, pk_us⟩
      · rw [pk_us]
        exact congrArg nI (by omega)
      · rw [hm, pk_un (by omega), pk_us]
        exact congrArg nI (by omega)
      · rw [hm, show c + 2 + zs_L S (zs_a S s) + zs_L S (zs_b S s) = e from by omega, pk_un (by omega), pk_un (by omega), pk_us]
      · rw [show c + 2 + zs_L S (zs_a S s) + zs_L S (zs_b S s) = e from by omega, pk_us]
      · refine zc_mono (by omega) (zc_cong hS (fun j hj => ⟨(hwd2 j hj).1, (hwd2 j hj).2⟩) hw2 (by omega) ?_ hz1)
        intro j hj1 hj2
        obtain ⟨b1, b2, b3, b4, b5, b6, b7⟩ := hs2 j (by omega)
        rw [pk_un (by omega)] at b1 b2 b3 b4 b5
        refine ⟨?_, ?_, ?_, ?_, ?_, ?_, ?_⟩
        · rw [pk_un (by omega), b1]
        · rw [pk_un (by omega), b2]
        · rw [pk_un (by omega), b3]
        · rw [pk_un (by omega), b4]
        · rw [pk_un (by omega), b5]
        · rw [pk_un (by omega), pk_un (by omega), pk_un (by omega), b6]
        · rw [pk_un (by omega), b7]
      · rw [show c + 2 + zs_L S (zs_a S s) = m + 1 from by omega]
        refine zc_mono (by omega) (zc_cong hS (fun j hj => ⟨rfl, rfl⟩) (Nat.le_refl _) (by omega) ?_ hz2)
        intro j hj1 hj2
        exact ⟨pk_un (by omega), pk_un (by omega), pk_un (by omega), pk_un (by omega), pk_un (by omega), by rw [pk_un (by omega), pk_un (by omega), pk_un (by omega)], pk_un (by omega)⟩
end
end
section
/-! ===== X's compiler: compileProcedure, compile ===== -/
/-- what the compiler reads of procedure p -/
def zk_src (tk ta tb tn kd rg nu pa pb tx ty sz : Nat → Int32) (S T : Nat → Nat → Nat → Nat) (nS nT : Nat → Nat) (p : Nat) : Prop :=
  zt_ok (T p) (nT p) ∧ nT p ≤ 24 ∧ zs_ok (S p) (T p) (nS p) (nT p) ∧ nS p ≤ 16 ∧ 1 ≤ nS p ∧ zi_TX (24 * p) (nT p) (T p) tk ta tb tn ∧ zi_SY (16 * p) (nS p) (S p) kd rg nu pa pb tx ty ∧ sz p = nI (nS p) ∧
  zs_I (S p) (nS p - 1) ≤ 64 ∧ zs_L (S p) (nS p - 1) ≤ 64 ∧ zs_W (S p) (nS p - 1) ≤ 56
section
variable {f_terms f_termHeight f_made f_height f_compiled f_codeSize f_wordCount f_works f_procedure f_high f_at f_inside f_ahead f_undoing f_outcomeThen f_calls f_state f_last f_stepCount : Int32} {a_termKind a_termA a_termB a_termNumber a_registersIn a_termStack a_kind a_register a_number a_partA a_partB a_testX a_testY a_size a_stack a_code a_first a_second a_codeX a_codeY a_partner a_other a_begin a_end a_word a_wordNumber a_constant a_folded a_work a_workOn a_openAt a_middleAt a_placeX a_placeY a_todo a_value a_held a_operand a_callAt a_callIn : Nat → Int32}
variable {S T : Nat → Nat → Nat → Nat} {nS nT : Nat → Nat}
theorem zx_cproc {post : SX → Prop} {p c w : Nat} (hp : p < 3) (hs : zk_src a_termKind a_termA a_termB a_termNumber a_kind a_register a_number a_partA a_partB a_testX a_testY a_size S T nS nT p) (hr : ∀ j, j < 96 → vp_in (a_termA j) 24 ∧ vp_in (a_termB j) 24) (hc : c ≤ 136) (hw : w ≤ 184)
    (K : ∀ (w' : Nat) (co' fi' se' cx' cy' pr' ot' wd' wn' wk' wo' oa' ma' px' py' td' cn' fd' : Nat → Int32), w' ≤ w + 56 → zk_same c a_code a_first a_second a_codeX a_codeY a_partner a_other co' fi' se' cx' cy' pr' ot' → w ≤ w' → zk_two w a_word a_wordNumber wd' wn' →
      (∃ n, zc_at co' fi' se' cx' cy' pr' ot' wd' wn' w' (S p) (T p) n (nS p - 1) c) →
      post (f_terms, f_termHeight, f_made, f_height, f_compiled, nI (c + zs_L (S p) (nS p - 1)), nI w', nI 0, nI p, f_high, f_at, f_inside, f_ahead, f_undoing, f_outcomeThen, f_calls, f_state, f_last, f_stepCount, a_termKind, a_termA, a_termB, a_termNumber, a_registersIn, a_termStack, a_kind, a_register, a_number, a_partA, a_partB, a_testX, a_testY, a_size, a_stack, co', fi', se', cx', cy', pr', ot', upd a_begin p (nI c), upd a_end p (nI (c + zs_L (S p) (nS p - 1))), wd', wn', cn', fd', wk', wo', oa', ma', px', py', td', a_value, a_held, a_operand, a_callAt, a_callIn)) :
    wpX_compileProcedure post (f_terms, f_termHeight, f_made, f_height, f_compiled, nI c, nI w, f_works, f_procedure, f_high, f_at, f_inside, f_ahead, f_undoing, f_outcomeThen, f_calls, f_state, f_last, f_stepCount, a_termKind, a_termA, a_termB, a_termNumber, a_registersIn, a_termStack, a_kind, a_register, a_number, a_partA, a_partB, a_testX, a_testY, a_size, a_stack, a_code, a_first, a_second, a_codeX, a_codeY, a_partner, a_other, a_begin, a_end, a_word, a_wordNumber, a_constant, a_folded, a_work, a_workOn, a_openAt, a_middleAt, a_placeX, a_placeY, a_todo, a_value, a_held, a_operand, a_callAt, a_callIn) (nI p) := by
  obtain ⟨hT, h24, hS, h16, h1, hmt, hms, hsz, hI, hL, hW⟩ := hs
  have hpv : vp_in (nI p) 3 := vp_in_nI hp (by omega)
  unfold wpX_compileProcedure
  refine zx_fold hT h24 hp hmt hr ?_
  intro cn fd hf
  dsimp only
  rw [zn_c (by omega : p < 2 ^ 31), zn_vss (by omega : c < 32768), hsz, show nI (nS p) - 1 = nI (nS p - 1) from by rw [show nS p = (nS p - 1) + 1 from by omega, nI_pred]; rfl]
  refine And.intro hpv (nm_e (And.intro hpv (zx_ask (h := 0) (k := 0) (by omega) (by omega) (by omega) ?_)))
  dsimp only
  refine Exists.intro 65 ?_
  refine zx_cp hT h24 hS h16 hp hmt hms hf (nS p - 1) (by omega) 0 0 65 c w _ _ _ _ _ _ _ _ _ _ _ _ _ _ _ _ rfl pk_us pk_us (by omega) (by omega) (by omega) (by omega) ?_
  intro i n w' co' fi' se' cx' cy' pr' ot' wd' wn' wk' wo' oa' ma' px' py' td' hn hi hw1 hw2 _ hsm hwd _ hz
  obtain ⟨n, rfl⟩ : ∃ k, n = k + 1 := ⟨n - 1, by omega⟩
  have fin : wX_compileProcedure_123 post (nI p) f_terms f_termHeight f_made f_height f_compiled (nI (c + zs_L (S p) (nS p - 1))) (nI w') (nI 0) (nI p) f_high f_at f_inside f_ahead f_undoing f_outcomeThen f_calls f_state f_last f_stepCount a_termKind a_termA a_termB a_termNumber a_registersIn a_termStack a_kind a_register a_number a_partA a_partB a_testX a_testY a_size a_stack co' fi' se' cx' cy' pr' ot' (upd a_begin p (nI c)) a_end wd' wn' cn fd wk' wo' oa' ma' px' py' td' a_value a_held a_operand a_callAt a_callIn := by
    unfold wX_compileProcedure_123
    rw [zn_c (by omega : p < 2 ^ 31), zn_vss (by omega : c + zs_L (S p) (nS p - 1) < 32768)]
    exact And.intro hpv (nm_e (K w' co' fi' se' cx' cy' pr' ot' wd' wn' wk' wo' oa' ma' px' py' td' cn fd (by omega) hsm hw1 hwd ⟨_, hz⟩))
  exact br_c (fun _ => fin) (fun _ => br_t (by decide) fin)
theorem zx_comp25 {post : SX → Prop} (hs : ∀ p, p < 3 → zk_src a_termKind a_termA a_termB a_termNumber a_kind a_register a_number a_partA a_partB a_testX a_testY a_size S T nS nT p) (hr : ∀ j, j < 96 → vp_in (a_termA j) 24 ∧ vp_in (a_termB j) 24)
    (K : ∀ (fp fc fw : Int32) (wc : Nat) (co' fi' se' cx' cy' pr' ot' wd' wn' wk' wo' oa' ma' px' py' td' cn' fd' bg' en' : Nat → Int32), zc_all co' fi' se' cx' cy' pr' ot' wd' wn' bg' en' wc S T nS →
      post (f_terms, f_termHeight, f_made, f_height, f_compiled, fc, nI wc, fw, fp, f_high, f_at, f_inside, f_ahead, f_undoing, f_outcomeThen, f_calls, f_state, f_last, f_stepCount, a_termKind, a_termA, a_termB, a_termNumber, a_registersIn, a_termStack, a_kind, a_register, a_number, a_partA, a_partB, a_testX, a_testY, a_size, a_stack, co', fi', se', cx', cy', pr', ot', bg', en', wd', wn', cn', fd', wk', wo', oa', ma', px', py', td', a_value, a_held, a_operand, a_callAt, a_callIn)) :
    ∀ (k x c w : Nat) (bg : Nat → Nat) (fp fw : Int32) (co' fi' se' cx' cy' pr' ot' wd' wn' wk' wo' oa' ma' px' py' td' cn' fd' bg' en' : Nat → Int32), x + k = 3 → c ≤ 64 * x → w ≤ 56 * x →
      (∀ q, q < x → bg q + zs_L (S q) (nS q - 1) ≤ c ∧ bg' q = nI (bg q) ∧ en' q = nI (bg q + zs_L (S q) (nS q - 1)) ∧ ∃ n, zc_at co' fi' se' cx' cy' pr' ot' wd' wn' w (S q) (T q) n (nS q - 1) (bg q)) →
      wX_compile_25 post (k + 1) (nI x) f_terms f_termHeight f_made f_height f_compiled (nI c) (nI w) fw fp f_high f_at f_inside f_ahead f_undoing f_outcomeThen f_calls f_state f_last f_stepCount a_termKind a_termA a_termB a_termNumber a_registersIn a_termStack a_kind a_register a_number a_partA a_partB a_testX a_testY a_size a_stack co' fi' se' cx' cy' pr' ot' bg' en' wd' wn' cn' fd' wk' wo' oa' ma' px' py' td' a_value a_held a_operand a_callAt a_callIn := by
  intro k
  induction k with
  | zero =>
    intro x c w bg fp fw co' fi' se' cx' cy' pr' ot' wd' wn' wk' wo' oa' ma' px' py' td' cn' fd' bg' en' hx hc hw hq
    have : x = 3 := by omega
    subst this
    refine br_t (by decide) (K _ _ _ w _ _ _ _ _ _ _ _ _ _ _ _ _ _ _ _ _ _ _ _ ⟨by omega, bg, fun p hp => ?_⟩)
    obtain ⟨h1, h2, h3, h4⟩ := hq p hp
    exact ⟨by omega, h2, h3, h4⟩
  | succ k ih =>
    intro x c w bg fp fw co' fi' se' cx' cy' pr' ot' wd' wn' wk' wo' oa' ma' px' py' td' cn' fd' bg' en' hx hc hw hq
    have hx3 : x < 3 := by omega
    have hsx := hs x hx3
    refine br_f (nI_ge (b := 3) (by omega) (by omega)) (zx_cproc hx3 hsx hr (by omega) (by omega) ?_)
    intro w1 co1 fi1 se1 cx1 cy1 pr1 ot1 wd1 wn1 wk1 wo1 oa1 ma1 px1 py1 td1 cn1 fd1 hw1 hsm hww hwd hz
    have hL := hsx.2.2.2.2.2.2.2.2.2.1
    refine nm_r (nI_1 x) ?_
    refine ih (x + 1) _ w1 (fun q => if q = x then c else bg q) _ _ _ _ _ _ _ _ _ _ _ _ _ _ _ _ _ _ _ _ _ _ (by omega) (by omega) (by omega) ?_
    intro q hqx
    by_cases e : q = x
    · subst e
      rw [if_pos rfl, pk_us, pk_us]
      exact ⟨Nat.le_refl _, rfl, rfl, hz⟩
    · rw [if_neg e, pk_un e, pk_un e]
      obtain ⟨h1, h2, h3, n, h4⟩ := hq q (by omega)
      have hq3 : q < 3 := by omega
      have hsq := hs q hq3
      have hq1 : 1 ≤ nS q := hsq.2.2.2.2.1
      refine ⟨by omega, h2, h3, n, ?_⟩
      exact zc_cong hsq.2.2.1 hwd hww (by omega) (fun j hj1 hj2 => hsm j (by omega)) h4
theorem zx_compile {post : SX → Prop} (hs : ∀ p, p < 3 → zk_src a_termKind a_termA a_termB a_termNumber a_kind a_register a_number a_partA a_partB a_testX a_testY a_size S T nS nT p) (hr : ∀ j, j < 96 → vp_in (a_termA j) 24 ∧ vp_in (a_termB j) 24)
    (hc : f_compiled = 0 ∨ (f_compiled = 1 ∧ ∃ wc, f_wordCount = nI wc ∧ zc_all a_code a_first a_second a_codeX a_codeY a_partner a_other a_word a_wordNumber a_begin a_end wc S T nS))
    (K : ∀ (fp fc fw : Int32) (wc : Nat) (co' fi' se' cx' cy' pr' ot' wd' wn' wk' wo' oa' ma' px' py' td' cn' fd' bg' en' : Nat → Int32), zc_all co' fi' se' cx' cy' pr' ot' wd' wn' bg' en' wc S T nS →
      post (f_terms, f_termHeight, f_made, f_height, 1, fc, nI wc, fw, fp, f_high, f_at, f_inside, f_ahead, f_undoing, f_outcomeThen, f_calls, f_state, f_last, f_stepCount, a_termKind, a_termA, a_termB, a_termNumber, a_registersIn, a_termStack, a_kind, a_register, a_number, a_partA, a_partB, a_testX, a_testY, a_size, a_stack, co', fi', se', cx', cy', pr', ot', bg', en', wd', wn', cn', fd', wk', wo', oa', ma', px', py', td', a_value, a_held, a_operand, a_callAt, a_callIn)) :
    wpX_compile post (f_terms, f_termHeight, f_made, f_height, f_compiled, f_codeSize, f_wordCount, f_works, f_procedure, f_high, f_at, f_inside, f_ahead, f_undoing, f_outcomeThen, f_calls, f_state, f_last, f_stepCount, a_termKind, a_termA, a_termB, a_termNumber, a_registersIn, a_termStack, a_kind, a_register, a_number, a_partA, a_partB, a_testX, a_testY, a_size, a_stack, a_code, a_first, a_second, a_codeX, a_codeY, a_partner, a_other, a_begin, a_end, a_word, a_wordNumber, a_constant, a_folded, a_work, a_workOn, a_openAt, a_middleAt, a_placeX, a_placeY, a_todo, a_value, a_held, a_operand, a_callAt, a_callIn) := by
  unfold wpX_compile
  rcases hc with rfl | ⟨rfl, wc, rfl, h⟩
  · refine br_t rfl (Exists.intro 4 ?_)
    exact zx_comp25 hs hr K 3 0 0 0 (fun _ => 0) f_procedure f_works _ _ _ _ _ _ _ _ _ _ _ _ _ _ _ _ _ _ _ _ (by omega) (by omega) (by omega) (fun q hq => absurd hq (Nat.not_lt_zero q))
  · exact br_f (by decide) (K f_procedure f_codeSize f_works wc _ _ _ _ _ _ _ _ _ _ _ _ _ _ _ _ _ _ _ _ h)
end
end
section
/-! ===== the relation ===== -/
def zg_set {α : Type} (F : Nat → α) (p : Nat) (x : α) : Nat → α := fun g => if g = p then x else F g
theorem zg_s {α : Type} {F : Nat → α} {p : Nat} {x : α} : zg_set F p x p = x := if_pos rfl
theorem zg_n {α : Type} {F : Nat → α} {p g : Nat} {x : α} (h : g ≠ p) : zg_set F p x g = F g := if_neg h
/-- one more node -/
def zg_add (F : Nat → Nat → Nat) (n : Nat) (new : Nat → Nat) : Nat → Nat → Nat := fun f j => if j = n then new f else F f j
theorem zg_as {F : Nat → Nat → Nat} {n : Nat} {new : Nat → Nat} (f : Nat) : zg_add F n new f n = new f := if_pos rfl
theorem zg_an {F : Nat → Nat → Nat} {n j : Nat} {new : Nat → Nat} (f : Nat) (h : j ≠ n) : zg_add F n new f j = F f j := if_neg h
theorem zt_ok1_cong {T T' : Nat → Nat → Nat} {t : Nat} (e : ∀ f j, j ≤ t → T' f j = T f j) (h : zt_ok1 T t) : zt_ok1 T' t := by
  have e0 : zt_k T' t = zt_k T t := e 0 t (Nat.le_refl _)
  have e1 : zt_n T' t = zt_n T t := e 1 t (Nat.le_refl _)
  have e2 : zt_a T' t = zt_a T t := e 2 t (Nat.le_refl _)
  have e3 : zt_b T' t = zt_b T t := e 3 t (Nat.le_refl _)
  have e4 : ∀ j, j ≤ t → zt_s T' j = zt_s T j := fun j hj => e 4 j hj
  have e5 : ∀ j, j ≤ t → zt_m T' j = zt_m T j := fun j hj => e 5 j hj
  obtain ⟨h1, h2, h3, h4, h5, h6, h7, h8, h9, h10⟩ := h
  unfold zt_ok1
  rw [e0, e1, e2, e3, e4 t (Nat.le_refl _), e5 t (Nat.le_refl _)]
  refine ⟨h1, h2, h3, fun hk => ?_, h5, h6, h7, h8, h9, fun hk => ?_⟩
  · obtain ⟨ha, hb, hs⟩ := h4 hk
    rw [e4 _ (by omega), e4 _ (by omega)]
    exact ⟨ha, hb, hs⟩
  · obtain ⟨ha, hb, hs⟩ := h4 hk
    rw [e5 _ (by omega), e5 _ (by omega)]
    exact h10 hk
theorem zs_ok1_T {S T T' : Nat → Nat → Nat} {n n' s : Nat} (e : ∀ f j, j < n → T' f j = T f j) (hn : n ≤ n') (h : zs_ok1 S T n s) : zs_ok1 S T' n' s := by
  obtain ⟨h1, h2, h3, h4, h5, h6, h7, h8, h9, h10, h11, h12, h13, h14, h15, h16⟩ := h
  have e4 : ∀ j, j < n → zt_s T' j = zt_s T j := fun j hj => e 4 j hj
  have e5 : ∀ j, j < n → zt_m T' j = zt_m T j := fun j hj => e 5 j hj
  refine ⟨h1, h2, h3, h4, fun hk => ?_, fun hk => ?_, h7, fun hk => ?_, h9, h10, h11, h12, fun hk => ?_, fun hk => ?_, h15, h16⟩
  · have := h5 hk; omega
  · rw [e5 _ (h5 (by omega))]; exact h6 hk
  · have := h8 hk; omega
  · rw [e4 _ (h8 hk).1, e4 _ (h8 hk).2]; exact h13 hk
  · rw [e4 _ (h5 (by omega))]; exact h14 hk
theorem zs_ok1_S {S S' T : Nat → Nat → Nat} {n s : Nat} (e : ∀ f j, j ≤ s → S' f j = S f j) (h : zs_ok1 S T n s) : zs_ok1 S' T n s := by
  obtain ⟨h1, h2, h3, h4, h5, h6, h7, h8, h9, h10, h11, h12, h13, h14, h15, h16⟩ := h
  have e0 : zs_k S' s = zs_k S s := e 0 s (Nat.le_refl _)
  have e1 : zs_r S' s = zs_r S s := e 1 s (Nat.le_refl _)
  have e2 : zs_n S' s = zs_n S s := e 2 s (Nat.le_refl _)
  have e3 : zs_a S' s = zs_a S s := e 3 s (Nat.le_refl _)
  have e4 : zs_b S' s = zs_b S s := e 4 s (Nat.le_refl _)
  have e5 : zs_x S' s = zs_x S s := e 5 s (Nat.le_refl _)
  have e6 : zs_y S' s = zs_y S s := e 6 s (Nat.le_refl _)
  have e7 : ∀ j, j ≤ s → zs_L S' j = zs_L S j := fun j hj => e 7 j hj
  have e8 : ∀ j, j ≤ s → zs_I S' j = zs_I S j := fun j hj => e 8 j hj
  have e9 : ∀ j, j ≤ s → zs_W S' j = zs_W S j := fun j hj => e 9 j hj
  unfold zs_ok1
  rw [e0, e1, e2, e3, e4, e5, e6, e7 s (Nat.le_refl _), e8 s (Nat.le_refl _), e9 s (Nat.le_refl _)]
  refine ⟨h1, h2, h3, h4, h5, h6, h7, h8, h9, fun hk => ?_, fun hk => ?_, fun hk => ?_, fun hk => ?_, h14, h15, h16⟩
  · obtain ⟨ha, hb⟩ := h7 (by omega)
    rw [e7 _ (by omega), e7 _ (by omega), e8 _ (by omega), e8 _ (by omega), e9 _ (by omega), e9 _ (by omega)]
    exact h10 hk
  · obtain ⟨ha, hb⟩ := h7 (by omega)
    rw [e7 _ (by omega), e7 _ (by omega)]
    exact h11 hk
  · obtain ⟨ha, hb⟩ := h7 (by omega)
    rw [e7 _ (by omega), e7 _ (by omega)]
    exact h12 hk
  · obtain ⟨ha, hb⟩ := h7 (by omega)
    rw [e8 _ (by omega), e8 _ (by omega), e9 _ (by omega), e9 _ (by omega)]
    exact h13 hk
theorem zi_TX_cong {base n : Nat} {T T' : Nat → Nat → Nat} {tk ta tb tn tk' ta' tb' tn' : Nat → Int32} (eT : ∀ f t, t < n → T' f t = T f t)
    (e : ∀ t, t < n → tk' (base + t) = tk (base + t) ∧ ta' (base + t) = ta (base + t) ∧ tb' (base + t) = tb (base + t) ∧ tn' (base + t) = tn (base + t)) (h : zi_TX base n T tk ta tb tn) : zi_TX base n T' tk' ta' tb' tn' := by
  intro t ht
  obtain ⟨e1, e2, e3, e4⟩ := e t ht
  have k0 : zt_k T' t = zt_k T t := eT 0 t ht
  have k1 : zt_n T' t = zt_n T t := eT 1 t ht
  have k2 : zt_a T' t = zt_a T t := eT 2 t ht
  have k3 : zt_b T' t = zt_b T t := eT 3 t ht
  rw [e1, e2, e3, e4, k0, k1, k2, k3]
  exact h t ht
theorem zi_TY_cong {base n : Nat} {T T' : Nat → Nat → Nat} {kd lf rt kd' lf' rt' : Nat → Int32} (eT : ∀ f t, t < n → T' f t = T f t)
    (e : ∀ t, t < n → kd' (base + t) = kd (base + t) ∧ lf' (base + t) = lf (base + t) ∧ rt' (base + t) = rt (base + t)) (h : zi_TY base n T kd lf rt) : zi_TY base n T' kd' lf' rt' := by
  intro t ht
  obtain ⟨e1, e2, e3⟩ := e t ht
  have k0 : zt_k T' t = zt_k T t := eT 0 t ht
  have k1 : zt_n T' t = zt_n T t := eT 1 t ht
  have k2 : zt_a T' t = zt_a T t := eT 2 t ht
  have k3 : zt_b T' t = zt_b T t := eT 3 t ht
  rw [e1, e2, e3, k0, k1, k2, k3]
  exact h t ht
theorem zi_SY_cong {base n : Nat} {S S' : Nat → Nat → Nat} {so re nu fi se te ex so' re' nu' fi' se' te' ex' : Nat → Int32} (eS : ∀ f s, s < n → S' f s = S f s)
    (e : ∀ s, s < n → so' (base + s) = so (base + s) ∧ re' (base + s) = re (base + s) ∧ nu' (base + s) = nu (base + s) ∧ fi' (base + s) = fi (base + s) ∧ se' (base + s) = se (base + s) ∧ te' (base + s) = te (base + s) ∧ ex' (base + s) = ex (base + s))
    (h : zi_SY base n S so re nu fi se te ex) : zi_SY base n S' so' re' nu' fi' se' te' ex' := by
  intro s hs
  obtain ⟨e1, e2, e3, e4, e5, e6, e7⟩ := e s hs
  have k0 : zs_k S' s = zs_k S s := eS 0 s hs
  have k1 : zs_r S' s = zs_r S s := eS 1 s hs
  have k2 : zs_n S' s = zs_n S s := eS 2 s hs
  have k3 : zs_a S' s = zs_a S s := eS 3 s hs
  have k4 : zs_b S' s = zs_b S s := eS 4 s hs
  have k5 : zs_x S' s = zs_x S s := eS 5 s hs
  have k6 : zs_y S' s = zs_y S s := eS 6 s hs
  rw [e1, e2, e3, e4, e5, e6, e7, k0, k1, k2, k3, k4, k5, k6]
  exact h s hs
/-- the program and the staging, without arrays -/
def zi_G (S T : Nat → Nat → Nat → Nat) (nS nT : Nat → Nat) (ts ss : List Nat) (π : List Int32) (stp : Nat) : Prop :=
  (∀ g, g < 4 → nS g ≤ 16 ∧ nT g ≤ 24 ∧ zs_ok (S g) (T g) (nS g) (nT g) ∧ zt_ok (T g) (nT g)) ∧
  (∀ g, g < 3 → 1 ≤ nS g ∧ zs_I (S g) (nS g - 1) ≤ 64 ∧ zs_L (S g) (nS g - 1) ≤ 64 ∧ zs_W (S g) (nS g - 1) ≤ 56) ∧
  (zl_lt (nT 3) ts ∧ zl_lt (nS 3) ss ∧ ts.length ≤ nT 3 ∧ ss.length ≤ nS 3 ∧ zl_s (zt_s (T 3)) ts ≤ nT 3 ∧ zl_s (zs_L (S 3)) ss ≤ 4 * nS 3 ∧ zl_s (zs_I (S 3)) ss ≤ 3 * nS 3 ∧
    zl_s (zt_s (T 3)) ts + zl_s (zs_W (S 3)) ss ≤ nT 3 + 2 * nS 3 ∧ (∀ s l, ss = s :: l → s + 1 = nS 3)) ∧ π.length ≤ 12 ∧ stp ≤ 300
def zi_X (S T : Nat → Nat → Nat → Nat) (nS nT : Nat → Nat) (ts ss : List Nat) (ρ : Nat → Int32) (π : List Int32) (stp : Nat) (o : Int32) (u : SX) : Prop := match u with
  | (f_terms, f_termHeight, f_made, f_height, f_compiled, f_codeSize, f_wordCount, f_works, f_procedure, f_high, f_at, f_inside, f_ahead, f_undoing, f_outcomeThen, f_calls, f_state, f_last, f_stepCount, a_termKind, a_termA, a_termB, a_termNumber, a_registersIn, a_termStack, a_kind, a_register, a_number, a_partA, a_partB, a_testX, a_testY, a_size, a_stack, a_code, a_first, a_second, a_codeX, a_codeY, a_partner, a_other, a_begin, a_end, a_word, a_wordNumber, a_constant, a_folded, a_work, a_workOn, a_openAt, a_middleAt, a_placeX, a_placeY, a_todo, a_value, a_held, a_operand, a_callAt, a_callIn) =>
    (f_terms = nI (nT 3) ∧ f_termHeight = nI ts.length ∧ f_made = nI (nS 3) ∧ f_height = nI ss.length ∧ f_high = nI π.length ∧ f_last = o ∧ f_stepCount = nI stp) ∧
    ((∀ g, g < 4 → zi_TX (24 * g) (nT g) (T g) a_termKind a_termA a_termB a_termNumber ∧ zi_SY (16 * g) (nS g) (S g) a_kind a_register a_number a_partA a_partB a_testX a_testY) ∧
     (∀ t, t < nT 3 → a_registersIn (72 + t) = nI (zt_m (T 3) t)) ∧ (∀ j, j < 96 → vp_in (a_termA j) 24 ∧ vp_in (a_termB j) 24) ∧ (∀ g, g < 3 → a_size g = nI (nS g)) ∧ zl_h a_termStack ts ∧ zl_h a_stack ss) ∧
    (f_compiled = 0 ∨ (f_compiled = 1 ∧ ∃ wc, f_wordCount = nI wc ∧ zc_all a_code a_first a_second a_codeX a_codeY a_partner a_other a_word a_wordNumber a_begin a_end wc S T nS)) ∧
    (∀ r, r < 6 → a_value r = ρ r) ∧ zl_v a_held π
def zi_Y (S T : Nat → Nat → Nat → Nat) (nS nT : Nat → Nat) (ts ss : List Nat) (ρ : Nat → Int32) (π : List Int32) (stp : Nat) (o : Int32) (v : SY) : Prop := match v with
  | (g_depth, g_pieceDepth, g_high, g_oldHigh, g_open, g_next, g_back, g_calls, g_end, g_steps, b_sorts, b_regs, b_numbers, b_firsts, b_seconds, b_tests, b_exits, b_sizes, b_kinds, b_lefts, b_rights, b_masks, b_counts, b_values, b_stack, b_pieces, b_registers, b_pile, b_oldRegisters, b_oldPile, b_openNode, b_openPart, b_openBack) =>
    (g_depth = nI ss.length ∧ g_pieceDepth = nI ts.length ∧ g_high = nI π.length ∧ g_end = o ∧ g_steps = nI stp) ∧
    ((∀ g, g < 4 → zi_TY (24 * g) (nT g) (T g) b_kinds b_lefts b_rights ∧ zi_SY (16 * g) (nS g) (S g) b_sorts b_regs b_numbers b_firsts b_seconds b_tests b_exits) ∧
     (∀ t, t < nT 3 → b_masks (72 + t) = nI (zt_m (T 3) t)) ∧ (∀ g, g < 4 → b_sizes g = nI (nS g)) ∧ b_counts 3 = nI (nT 3) ∧ zl_h b_pieces ts ∧ zl_h b_stack ss) ∧
    (∀ r, r < 6 → b_registers r = ρ r) ∧ zl_v b_pile π
/-- the relation -/
def i_Rel (k : Nat) (u : SX) (v : SY) : Prop :=
  ∃ (S T : Nat → Nat → Nat → Nat) (nS nT : Nat → Nat) (ts ss : List Nat) (ρ : Nat → Int32) (π : List Int32) (stp : Nat) (o : Int32),
    zi_G S T nS nT ts ss π stp ∧ zi_X S T nS nT ts ss ρ π stp o u ∧ zi_Y S T nS nT ts ss ρ π stp o v
theorem i_up {k : Nat} {u : SX} {v : SY} (h : i_Rel k u v) : i_Rel (k + 4) u v := h
theorem zz_x {P : SX → Prop} (h : ∀ (f_terms f_termHeight f_made f_height f_compiled f_codeSize f_wordCount f_works f_procedure f_high f_at f_inside f_ahead f_undoing f_outcomeThen f_calls f_state f_last f_stepCount : Int32) (a_termKind a_termA a_termB a_termNumber a_registersIn a_termStack a_kind a_register a_number a_partA a_partB a_testX a_testY a_size a_stack a_code a_first a_second a_codeX a_codeY a_partner a_other a_begin a_end a_word a_wordNumber a_constant a_folded a_work a_workOn a_openAt a_middleAt a_placeX a_placeY a_todo a_value a_held a_operand a_callAt a_callIn : Nat → Int32), P (f_terms, f_termHeight, f_made, f_height, f_compiled, f_codeSize, f_wordCount, f_works, f_procedure, f_high, f_at, f_inside, f_ahead, f_undoing, f_outcomeThen, f_calls, f_state, f_last, f_stepCount, a_termKind, a_termA, a_termB, a_termNumber, a_registersIn, a_termStack, a_kind, a_register, a_number, a_partA, a_partB, a_testX, a_testY, a_size, a_stack, a_code, a_first, a_second, a_codeX, a_codeY, a_partner, a_other, a_begin, a_end, a_word, a_wordNumber, a_constant, a_folded, a_work, a_workOn, a_openAt, a_middleAt, a_placeX, a_placeY, a_todo, a_value, a_held, a_operand, a_callAt, a_callIn)) (u : SX) : P u := match u with | (f_terms, f_termHeight, f_made, f_height, f_compiled, f_codeSize, f_wordCount, f_works, f_procedure, f_high, f_at, f_inside, f_ahead, f_undoing, f_outcomeThen, f_calls, f_state, f_last, f_stepCount, a_termKind, a_termA, a_termB, a_termNumber, a_registersIn, a_termStack, a_kind, a_register, a_number, a_partA, a_partB, a_testX, a_testY, a_size, a_stack, a_code, a_first, a_second, a_codeX, a_codeY, a_partner, a_other, a_begin, a_end, a_word, a_wordNumber, a_constant, a_folded, a_work, a_workOn, a_openAt, a_middleAt, a_placeX, a_placeY, a_todo, a_value, a_held, a_operand, a_callAt, a_callIn) => h f_terms f_termHeight f_made f_height f_compiled f_codeSize f_wordCount f_works f_procedure f_high f_at f_inside f_ahead f_undoing f_outcomeThen f_calls f_state f_last f_stepCount a_termKind a_termA a_termB a_termNumber a_registersIn a_termStack a_kind a_register a_number a_partA a_partB a_testX a_testY a_size a_stack a_code a_first a_second a_codeX a_codeY a_partner a_other a_begin a_end a_word a_wordNumber a_constant a_folded a_work a_workOn a_openAt a_middleAt a_placeX a_placeY a_todo a_value a_held a_operand a_callAt a_callIn
theorem zz_y {P : SY → Prop} (h : ∀ (g_depth g_pieceDepth g_high g_oldHigh g_open g_next g_back g_calls g_end g_steps : Int32) (b_sorts b_regs b_numbers b_firsts b_seconds b_tests b_exits b_sizes b_kinds b_lefts b_rights b_masks b_counts b_values b_stack b_pieces b_registers b_pile b_oldRegisters b_oldPile b_openNode b_openPart b_openBack : Nat → Int32), P (g_depth, g_pieceDepth, g_high, g_oldHigh, g_open, g_next, g_back, g_calls, g_end, g_steps, b_sorts, b_regs, b_numbers, b_firsts, b_seconds, b_tests, b_exits, b_sizes, b_kinds, b_lefts, b_rights, b_masks, b_counts, b_values, b_stack, b_pieces, b_registers, b_pile, b_oldRegisters, b_oldPile, b_openNode, b_openPart, b_openBack)) (u : SY) : P u := match u with | (g_depth, g_pieceDepth, g_high, g_oldHigh, g_open, g_next, g_back, g_calls, g_end, g_steps, b_sorts, b_regs, b_numbers, b_firsts, b_seconds, b_tests, b_exits, b_sizes, b_kinds, b_lefts, b_rights, b_masks, b_counts, b_values, b_stack, b_pieces, b_registers, b_pile, b_oldRegisters, b_oldPile, b_openNode, b_openPart, b_openBack) => h g_depth g_pieceDepth g_high g_oldHigh g_open g_next g_back g_calls g_end g_steps b_sorts b_regs b_numbers b_firsts b_seconds b_tests b_exits b_sizes b_kinds b_lefts b_rights b_masks b_counts b_values b_stack b_pieces b_registers b_pile b_oldRegisters b_oldPile b_openNode b_openPart b_openBack
end
section
/-! ===== X's run, whole ===== -/
section
variable {f_terms f_termHeight f_made f_height f_compiled f_codeSize f_wordCount f_works f_procedure f_high f_at f_inside f_ahead f_undoing f_outcomeThen f_calls f_state f_last f_stepCount : Int32} {a_termKind a_termA a_termB a_termNumber a_registersIn a_termStack a_kind a_register a_number a_partA a_partB a_testX a_testY a_size a_stack a_code a_first a_second a_codeX a_codeY a_partner a_other a_begin a_end a_word a_wordNumber a_constant a_folded a_work a_workOn a_openAt a_middleAt a_placeX a_placeY a_todo a_value a_held a_operand a_callAt a_callIn : Nat → Int32}
theorem zx_bpG {post : Int32 → Prop} {p : Nat} (hp : p < 3) (h : post 0) : wpX_badProcedure post (f_terms, f_termHeight, f_made, f_height, f_compiled, f_codeSize, f_wordCount, f_works, f_procedure, f_high, f_at, f_inside, f_ahead, f_undoing, f_outcomeThen, f_calls, f_state, f_last, f_stepCount, a_termKind, a_termA, a_termB, a_termNumber, a_registersIn, a_termStack, a_kind, a_register, a_number, a_partA, a_partB, a_testX, a_testY, a_size, a_stack, a_code, a_first, a_second, a_codeX, a_codeY, a_partner, a_other, a_begin, a_end, a_word, a_wordNumber, a_constant, a_folded, a_work, a_workOn, a_openAt, a_middleAt, a_placeX, a_placeY, a_todo, a_value, a_held, a_operand, a_callAt, a_callIn) (nI p) := by
  unfold wpX_badProcedure
  exact br_f (nI_pos (by omega)) (br_t (nI_lt (b := 3) hp (by omega)) h)
theorem zx_bpB {post : Int32 → Prop} {x : Int32} (hx : x < 0 ∨ nI 3 ≤ x) (h : post 1) : wpX_badProcedure post (f_terms, f_termHeight, f_made, f_height, f_compiled, f_codeSize, f_wordCount, f_works, f_procedure, f_high, f_at, f_inside, f_ahead, f_undoing, f_outcomeThen, f_calls, f_state, f_last, f_stepCount, a_termKind, a_termA, a_termB, a_termNumber, a_registersIn, a_termStack, a_kind, a_register, a_number, a_partA, a_partB, a_testX, a_testY, a_size, a_stack, a_code, a_first, a_second, a_codeX, a_codeY, a_partner, a_other, a_begin, a_end, a_word, a_wordNumber, a_constant, a_folded, a_work, a_workOn, a_openAt, a_middleAt, a_placeX, a_placeY, a_todo, a_value, a_held, a_operand, a_callAt, a_callIn) x := by
  unfold wpX_badProcedure
  rcases hx with hx | hx
  · exact br_t hx h
  · exact br_c (fun _ => h) (fun _ => br_f (Int32.not_lt.mpr hx) h)
theorem zx_brG {post : Int32 → Prop} {p : Nat} (hp : p < 6) (h : post 0) : wpX_badRegister post (f_terms, f_termHeight, f_made, f_height, f_compiled, f_codeSize, f_wordCount, f_works, f_procedure, f_high, f_at, f_inside, f_ahead, f_undoing, f_outcomeThen, f_calls, f_state, f_last, f_stepCount, a_termKind, a_termA, a_termB, a_termNumber, a_registersIn, a_termStack, a_kind, a_register, a_number, a_partA, a_partB, a_testX, a_testY, a_size, a_stack, a_code, a_first, a_second, a_codeX, a_codeY, a_partner, a_other, a_begin, a_end, a_word, a_wordNumber, a_constant, a_folded, a_work, a_workOn, a_openAt, a_middleAt, a_placeX, a_placeY, a_todo, a_value, a_held, a_operand, a_callAt, a_callIn) (nI p) := by
  unfold wpX_badRegister
  exact br_f (nI_pos (by omega)) (br_t (nI_lt (b := 6) hp (by omega)) h)
theorem zx_brB {post : Int32 → Prop} {x : Int32} (hx : x < 0 ∨ nI 6 ≤ x) (h : post 1) : wpX_badRegister post (f_terms, f_termHeight, f_made, f_height, f_compiled, f_codeSize, f_wordCount, f_works, f_procedure, f_high, f_at, f_inside, f_ahead, f_undoing, f_outcomeThen, f_calls, f_state, f_last, f_stepCount, a_termKind, a_termA, a_termB, a_termNumber, a_registersIn, a_termStack, a_kind, a_register, a_number, a_partA, a_partB, a_testX, a_testY, a_size, a_stack, a_code, a_first, a_second, a_codeX, a_codeY, a_partner, a_other, a_begin, a_end, a_word, a_wordNumber, a_constant, a_folded, a_work, a_workOn, a_openAt, a_middleAt, a_placeX, a_placeY, a_todo, a_value, a_held, a_operand, a_callAt, a_callIn) x := by
  unfold wpX_badRegister
  rcases hx with hx | hx
  · exact br_t hx h
  · exact br_c (fun _ => h) (fun _ => br_f (Int32.not_lt.mpr hx) h)
end
section
variable {S T : Nat → Nat → Nat → Nat} {nS nT : Nat → Nat} {ts ss : List Nat} {ρ : Nat → Int32} {π : List Int32} {stp : Nat} {o : Int32} {u : SX}
theorem zx_run {post : Int32 → SX → Prop} {p : Nat} {v2 : Int32} (hG : zi_G S T nS nT ts ss π stp) (hX : zi_X S T nS nT ts ss ρ π stp o u) (hp : p < 3) (d0 : Bool) (hd : v2 = 0 ↔ d0 = false)
    (K : ∀ (o' st' : Nat) (ρ' : Nat → Int32) (π' : List Int32) (Lay : Nat → Nat → Nat → Prop), o' ≤ 3 → (o' ≠ 0 → ρ' = ρ ∧ π' = π) → π'.length ≤ 12 → st' ≤ 300 →
      (∀ p s lo, Lay p s lo → p < 3 ∧ s < nS p ∧ s < 16) →
      (∀ W F G, zm_YR S T Lay nS W F G → (o' = 0 → F st' ρ' π') → (o' ≠ 0 → G o' st') → ∀ n, zm_mu (some (nS p - 1)) [] 0 < n → W n [] (some (nS p - 1)) p d0 0 ρ π) →
      ∀ u', zi_X S T nS nT ts ss ρ' π' st' (nI o') u' → post (nI o') u') :
    wpX_run post u (nI p) v2 := by
  revert hX
  refine zz_x (P := fun u => zi_X S T nS nT ts ss ρ π stp o u → wpX_run post u (nI p) v2) ?_ u
  intro f_terms f_termHeight f_made f_height f_compiled f_codeSize f_wordCount f_works f_procedure f_high f_at f_inside f_ahead f_undoing f_outcomeThen f_calls f_state f_last f_stepCount a_termKind a_termA a_termB a_termNumber a_registersIn a_termStack a_kind a_register a_number a_partA a_partB a_testX a_testY a_size a_stack a_code a_first a_second a_codeX a_codeY a_partner a_other a_begin a_end a_word a_wordNumber a_constant a_folded a_work a_workOn a_openAt a_middleAt a_placeX a_placeY a_todo a_value a_held a_operand a_callAt a_callIn
  intro hX
  obtain ⟨⟨hf1, hf2, hf3, hf4, hf5, hf6, hf7⟩, ⟨hM, hmk, hr, hsz, hts, hss⟩, hcomp, hv, hh⟩ := hX
  obtain ⟨hG1, hG2, hG3, hl12, _⟩ := hG
  subst hf5
  unfold wpX_run
  refine zx_bpG hp (br_t rfl (zx_compile (S := S) (T := T) (nS := nS) (nT := nT) ?_ hr hcomp ?_))
  · intro g hg
    obtain ⟨g1, g2, g3, g4⟩ := hG1 g (by omega)
    obtain ⟨g5, g6, g7, g8⟩ := hG2 g hg
    exact ⟨g4, g2, g3, g1, g5, (hM g (by omega)).1, (hM g (by omega)).2, hsz g hg, g6, g7, g8⟩
  intro fp fc fw wc co' fi' se' cx' cy' pr' ot' wd' wn' wk' wo' oa' ma' px' py' td' cn' fd' bg' en' hall
  have hall' := hall
  obtain ⟨hwc, bg, hbg⟩ := hall'
  have hLAY : zm_lay S T (zc_Lay co' fi' se' cx' cy' pr' ot' wd' wn' wc S T nS bg (fun p => zs_L (S p) (nS p - 1))) bg (fun p => zs_L (S p) (nS p - 1)) nS nT :=
    zc_lay (fun g hg => ⟨(hG2 g hg).1, (hG1 g (by omega)).1⟩) (fun g hg => ⟨(hG1 g (by omega)).2.2.1, (hG1 g (by omega)).2.2.2⟩) (fun g hg => (hbg g hg).2.2.2)
  have hE : zx_env bg' en' wc S T nS nT bg (fun p => zs_L (S p) (nS p - 1)) :=
    ⟨hwc, fun g hg => ⟨(hG1 g (by omega)).1, (hG1 g (by omega)).2.1, (hG1 g (by omega)).2.2.1, (hG1 g (by omega)).2.2.2, (hbg g hg).1, (hbg g hg).2.1, (hbg g hg).2.2.1⟩⟩
  obtain ⟨o', st', ρ', π', h1, h2, h3, h4, h5, h6⟩ := zm_run (d0 := d0) (ρ0 := ρ) hl12 hp hLAY
  have key := h5 _ _ (zx_XR (post := post) (f_terms := f_terms) (f_termHeight := f_termHeight) (f_made := f_made) (f_height := f_height) (f_compiled := 1) (f_codeSize := fc) (f_works := fw) (f_procedure := fp) (f_last := f_last)
    (a_termKind := a_termKind) (a_termA := a_termA) (a_termB := a_termB) (a_termNumber := a_termNumber) (a_registersIn := a_registersIn) (a_termStack := a_termStack) (a_kind := a_kind) (a_register := a_register) (a_number := a_number)
    (a_partA := a_partA) (a_partB := a_partB) (a_testX := a_testX) (a_testY := a_testY) (a_size := a_size) (a_stack := a_stack) (a_constant := cn') (a_folded := fd') (a_work := wk') (a_workOn := wo') (a_openAt := oa') (a_middleAt := ma')
    (a_placeX := px') (a_placeY := py') (a_todo := td') hE) ?_
  · have hv2 := key f_outcomeThen a_value a_held a_operand a_callAt a_callIn (fun o e => nomatch e) hv hh trivial
    obtain ⟨_, hb1, hb2, _⟩ := hbg p hp
    dsimp only
    unfold wX_run_45
    rw [zn_c (by omega : p < 2 ^ 31), hb1, hb2]
    cases d0 with
    | false => exact br_t (hd.mpr rfl) (And.intro (zx_nb false) (And.intro (zx_fb false) (br_f (by decide) (And.intro (vp_in_nI hp (by omega)) (nm_e (Exists.intro 60001 hv2))))))
    | true => exact br_f (fun e => nomatch hd.mp e) (And.intro (zx_nb true) (And.intro (zx_fb true) (br_t rfl (And.intro (vp_in_nI hp (by omega)) (nm_e (Exists.intro 60001 hv2))))))
  · intro f_at f_inside f_ahead f_undoing f_outcomeThen f_calls va he op ca ci hv' hh'
    refine K o' st' ρ' π' _ h1 h2 h3 h4 hLAY.1 h6 _ ?_
    exact ⟨⟨hf1, hf2, hf3, hf4, rfl, rfl, rfl⟩, ⟨hM, hmk, hr, hsz, hts, hss⟩, Or.inr ⟨rfl, wc, rfl, hall⟩, hv', hh'⟩
end
end
section
/-! ===== Y's run, whole ===== -/
section
variable {g_depth g_pieceDepth g_high g_oldHigh g_open g_next g_back g_calls g_end g_steps : Int32} {b_sorts b_regs b_numbers b_firsts b_seconds b_tests b_exits b_sizes b_kinds b_lefts b_rights b_masks b_counts b_values b_stack b_pieces b_registers b_pile b_oldRegisters b_oldPile b_openNode b_openPart b_openBack : Nat → Int32}
theorem zy_rem28 {post : SY → Prop} (K : ∀ op : Nat → Int32, (∀ j, j < 12 → op j = b_pile j) → post (g_depth, g_pieceDepth, g_high, g_high, g_open, g_next, g_back, g_calls, g_end, g_steps, b_sorts, b_regs, b_numbers, b_firsts, b_seconds, b_tests, b_exits, b_sizes, b_kinds, b_lefts, b_rights, b_masks, b_counts, b_values, b_stack, b_pieces, b_registers, b_pile, b_oldRegisters, op, b_openNode, b_openPart, b_openBack)) :
    ∀ (k x : Nat) (op : Nat → Int32), x + k = 12 → (∀ j, j < x → op j = b_pile j) → wY_remember_28 post g_depth g_pieceDepth g_high g_oldHigh g_open g_next g_back g_calls g_end g_steps (k + 1) (nI x) b_sorts b_regs b_numbers b_firsts b_seconds b_tests b_exits b_sizes b_kinds b_lefts b_rights b_masks b_counts b_values b_stack b_pieces b_registers b_pile b_oldRegisters op b_openNode b_openPart b_openBack := by
  intro k
  induction k with
  | zero =>
    intro x op hx ho
    have : x = 12 := by omega
    subst this
    exact br_t (by decide) (K op ho)
  | succ k ih =>
    intro x op hx ho
    have hv : vp_in (nI x) 12 := vp_in_nI (by omega) (by omega)
    refine br_f (nI_ge (b := 12) (by omega) (by omega)) (And.intro hv (And.intro hv (nm_e (nm_r (nI_1 x) ?_))))
    rw [zn_c (by omega : x < 2 ^ 31)]
    refine ih (x + 1) _ (by omega) ?_
    intro j hj
    by_cases e : j = x
    · rw [e, pk_us]
    · rw [pk_un e, ho j (by omega)]
theorem zy_rem2 {post : SY → Prop} (K : ∀ or op : Nat → Int32, (∀ j, j < 6 → or j = b_registers j) → (∀ j, j < 12 → op j = b_pile j) → post (g_depth, g_pieceDepth, g_high, g_high, g_open, g_next, g_back, g_calls, g_end, g_steps, b_sorts, b_regs, b_numbers, b_firsts, b_seconds, b_tests, b_exits, b_sizes, b_kinds, b_lefts, b_rights, b_masks, b_counts, b_values, b_stack, b_pieces, b_registers, b_pile, or, op, b_openNode, b_openPart, b_openBack)) :
    ∀ (k x : Nat) (or : Nat → Int32), x + k = 6 → (∀ j, j < x → or j = b_registers j) → wY_remember_2 post g_depth g_pieceDepth g_high g_oldHigh g_open g_next g_back g_calls g_end g_steps (k + 1) (nI x) b_sorts b_regs b_numbers b_firsts b_seconds b_tests b_exits b_sizes b_kinds b_lefts b_rights b_masks b_counts b_values b_stack b_pieces b_registers b_pile or b_oldPile b_openNode b_openPart b_openBack := by
  intro k
  induction k with
  | zero =>
    intro x or hx ho
    have : x = 6 := by omega
    subst this
    exact br_t (by decide) (Exists.intro 13 (zy_rem28 (fun op h => K or op ho h) 12 0 b_oldPile (by omega) (fun j hj => absurd hj (Nat.not_lt_zero j))))
  | succ k ih =>
    intro x or hx ho
    have hv : vp_in (nI x) 6 := vp_in_nI (by omega) (by omega)
    refine br_f (nI_ge (b := 6) (by omega) (by omega)) (And.intro hv (And.intro hv (nm_e (nm_r (nI_1 x) ?_))))
    rw [zn_c (by omega : x < 2 ^ 31)]
    refine ih (x + 1) _ (by omega) ?_
    intro j hj
    by_cases e : j = x
    · rw [e, pk_us]
    · rw [pk_un e, ho j (by omega)]
theorem zy_rem {post : SY → Prop} (K : ∀ or op : Nat → Int32, (∀ j, j < 6 → or j = b_registers j) → (∀ j, j < 12 → op j = b_pile j) → post (g_depth, g_pieceDepth, g_high, g_high, g_open, g_next, g_back, g_calls, g_end, g_steps, b_sorts, b_regs, b_numbers, b_firsts, b_seconds, b_tests, b_exits, b_sizes, b_kinds, b_lefts, b_rights, b_masks, b_counts, b_values, b_stack, b_pieces, b_registers, b_pile, or, op, b_openNode, b_openPart, b_openBack)) :
    wpY_remember post (g_depth, g_pieceDepth, g_high, g_oldHigh, g_open, g_next, g_back, g_calls, g_end, g_steps, b_sorts, b_regs, b_numbers, b_firsts, b_seconds, b_tests, b_exits, b_sizes, b_kinds, b_lefts, b_rights, b_masks, b_counts, b_values, b_stack, b_pieces, b_registers, b_pile, b_oldRegisters, b_oldPile, b_openNode, b_openPart, b_openBack) := Exists.intro 7 (zy_rem2 K 6 0 b_oldRegisters (by omega) (fun j hj => absurd hj (Nat.not_lt_zero j)))
theorem zy_und28 {post : SY → Prop} (K : ∀ op : Nat → Int32, (∀ j, j < 12 → op j = b_oldPile j) → post (g_depth, g_pieceDepth, g_oldHigh, g_oldHigh, g_open, g_next, g_back, g_calls, g_end, g_steps, b_sorts, b_regs, b_numbers, b_firsts, b_seconds, b_tests, b_exits, b_sizes, b_kinds, b_lefts, b_rights, b_masks, b_counts, b_values, b_stack, b_pieces, b_registers, op, b_oldRegisters, b_oldPile, b_openNode, b_openPart, b_openBack)) :
    ∀ (k x : Nat) (op : Nat → Int32), x + k = 12 → (∀ j, j < x → op j = b_oldPile j) → wY_undo_28 post g_depth g_pieceDepth g_high g_oldHigh g_open g_next g_back g_calls g_end g_steps (k + 1) (nI x) b_sorts b_regs b_numbers b_firsts b_seconds b_tests b_exits b_sizes b_kinds b_lefts b_rights b_masks b_counts b_values b_stack b_pieces b_registers op b_oldRegisters b_oldPile b_openNode b_openPart b_openBack := by
  intro k
  induction k with
  | zero =>
    intro x op hx ho
    have : x = 12 := by omega
    subst this
    exact br_t (by decide) (K op ho)
  | succ k ih =>
    intro x op hx ho
    have hv : vp_in (nI x) 12 := vp_in_nI (by omega) (by omega)
    refine br_f (nI_ge (b := 12) (by omega) (by omega)) (And.intro hv (And.intro hv (nm_e (nm_r (nI_1 x) ?_))))
    rw [zn_c (by omega : x < 2 ^ 31)]
    refine ih (x + 1) _ (by omega) ?_
    intro j hj
    by_cases e : j = x
    · rw [e, pk_us]
    · rw [pk_un e, ho j (by omega)]
theorem zy_und2 {post : SY → Prop} (K : ∀ or op : Nat → Int32, (∀ j, j < 6 → or j = b_oldRegisters j) → (∀ j, j < 12 → op j = b_oldPile j) → post (g_depth, g_pieceDepth, g_oldHigh, g_oldHigh, g_open, g_next, g_back, g_calls, g_end, g_steps, b_sorts, b_regs, b_numbers, b_firsts, b_seconds, b_tests, b_exits, b_sizes, b_kinds, b_lefts, b_rights, b_masks, b_counts, b_values, b_stack, b_pieces, or, op, b_oldRegisters, b_oldPile, b_openNode, b_openPart, b_openBack)) :
    ∀ (k x : Nat) (or : Nat → Int32), x + k = 6 → (∀ j, j < x → or j = b_oldRegisters j) → wY_undo_2 post g_depth g_pieceDepth g_high g_oldHigh g_open g_next g_back g_calls g_end g_steps (k + 1) (nI x) b_sorts b_regs b_numbers b_firsts b_seconds b_tests b_exits b_sizes b_kinds b_lefts b_rights b_masks b_counts b_values b_stack b_pieces or b_pile b_oldRegisters b_oldPile b_openNode b_openPart b_openBack := by
  intro k
  induction k with
  | zero =>
    intro x or hx ho
    have : x = 6 := by omega
    subst this
    exact br_t (by decide) (Exists.intro 13 (zy_und28 (fun op h => K or op ho h) 12 0 b_pile (by omega) (fun j hj => absurd hj (Nat.not_lt_zero j))))
  | succ k ih =>
    intro x or hx ho
    have hv : vp_in (nI x) 6 := vp_in_nI (by omega) (by omega)
    refine br_f (nI_ge (b := 6) (by omega) (by omega)) (And.intro hv (And.intro hv (nm_e (nm_r (nI_1 x) ?_))))
    rw [zn_c (by omega : x < 2 ^ 31)]
    refine ih (x + 1) _ (by omega) ?_
    intro j hj
    by_cases e : j = x
    · rw [e, pk_us]
    · rw [pk_un e, ho j (by omega)]
theorem zy_und {post : SY → Prop} (K : ∀ or op : Nat → Int32, (∀ j, j < 6 → or j = b_oldRegisters j) → (∀ j, j < 12 → op j = b_oldPile j) → post (g_depth, g_pieceDepth, g_oldHigh, g_oldHigh, g_open, g_next, g_back, g_calls, g_end, g_steps, b_sorts, b_regs, b_numbers, b_firsts, b_seconds, b_tests, b_exits, b_sizes, b_kinds, b_lefts, b_rights, b_masks, b_counts, b_values, b_stack, b_pieces, or, op, b_oldRegisters, b_oldPile, b_openNode, b_openPart, b_openBack)) :
    wpY_undo post (g_depth, g_pieceDepth, g_high, g_oldHigh, g_open, g_next, g_back, g_calls, g_end, g_steps, b_sorts, b_regs, b_numbers, b_firsts, b_seconds, b_tests, b_exits, b_sizes, b_kinds, b_lefts, b_rights, b_masks, b_counts, b_values, b_stack, b_pieces, b_registers, b_pile, b_oldRegisters, b_oldPile, b_openNode, b_openPart, b_openBack) := Exists.intro 7 (zy_und2 K 6 0 b_registers (by omega) (fun j hj => absurd hj (Nat.not_lt_zero j)))
end
section
variable {S T : Nat → Nat → Nat → Nat} {nS nT : Nat → Nat} {ts ss : List Nat} {ρ : Nat → Int32} {π : List Int32} {stp : Nat} {o : Int32} {v : SY}
theorem zy_run {post : Int32 → SY → Prop} {p o' st' : Nat} {v2 : Int32} {ρ' : Nat → Int32} {π' : List Int32} {Lay : Nat → Nat → Nat → Prop} (hG : zi_G S T nS nT ts ss π stp) (hY : zi_Y S T nS nT ts ss ρ π stp o v) (hp : p < 3) (d0 : Bool) (hd : v2 = 0 ↔ d0 = false)
    (ho : o' ≤ 3) (hz : o' ≠ 0 → ρ' = ρ ∧ π' = π) (hLv : ∀ p s lo, Lay p s lo → p < 3 ∧ s < nS p ∧ s < 16)
    (hR : ∀ W F G, zm_YR S T Lay nS W F G → (o' = 0 → F st' ρ' π') → (o' ≠ 0 → G o' st') → ∀ n, zm_mu (some (nS p - 1)) [] 0 < n → W n [] (some (nS p - 1)) p d0 0 ρ π)
    (K : ∀ v', zi_Y S T nS nT ts ss ρ' π' st' (nI o') v' → post (nI o') v') : wpY_run post v (nI p) v2 := by
  revert hY
  refine zz_y (P := fun v => zi_Y S T nS nT ts ss ρ π stp o v → wpY_run post v (nI p) v2) ?_ v
  intro g_depth g_pieceDepth g_high g_oldHigh g_open g_next g_back g_calls g_end g_steps b_sorts b_regs b_numbers b_firsts b_seconds b_tests b_exits b_sizes b_kinds b_lefts b_rights b_masks b_counts b_values b_stack b_pieces b_registers b_pile b_oldRegisters b_oldPile b_openNode b_openPart b_openBack
  intro hY
  obtain ⟨⟨hf1, hf2, hf3, hf4, hf5⟩, ⟨hM, hmk, hsz, hct, hts, hss⟩, hv, hh⟩ := hY
  obtain ⟨hG1, hG2, hG3, hl12, _⟩ := hG
  subst hf3
  have hE : zy_env b_sorts b_regs b_numbers b_firsts b_seconds b_tests b_exits b_sizes b_kinds b_lefts b_rights S T nS nT := by
    intro g hg
    obtain ⟨g1, g2, g3, g4⟩ := hG1 g (by omega)
    exact ⟨g1, (hG2 g hg).1, g2, g3, g4, hsz g (by omega), (hM g (by omega)).1, (hM g (by omega)).2⟩
  unfold wpY_run
  refine br_f (nI_pos (by omega)) (br_t (nI_le (b := 2) (by omega) (by omega)) (zy_rem ?_))
  intro or op hor hop
  dsimp only
  have key := hR _ _ _ (zy_YR (post := post) (Lay := Lay) (g_depth := g_depth) (g_pieceDepth := g_pieceDepth) (g_oldHigh := nI π.length) (b_masks := b_masks) (b_counts := b_counts) (b_stack := b_stack) (b_pieces := b_pieces) (b_oldRegisters := or) (b_oldPile := op) hE hLv) ?_ ?_
    (zm_mu (some (nS p - 1)) [] 0 + 1) (Nat.lt_succ_self _)
  · have hrun := key b_values b_registers b_pile b_openNode b_openPart b_openBack hv hh trivial
    have h1 := (hG2 p hp).1
    have hnx : 16 * nI p + nI (nS p) - 1 = nI (16 * p + (nS p - 1)) := by
      rw [zn_m16, show (16 * p + nS p) = (16 * p + (nS p - 1)) + 1 from by omega, nI_pred]
    unfold wY_run_45
    rw [zn_c (by omega : p < 2 ^ 31), hsz p (by omega), hnx]
    cases d0 with
    | false => exact br_t (hd.mpr rfl) (And.intro (zx_nbb false) (And.intro (zx_fbb false) (And.intro (vp_in_nI (by omega) (by omega)) (nm_e (Exists.intro _ hrun)))))
    | true => exact br_f (fun e => nomatch hd.mp e) (And.intro (zx_nbb true) (And.intro (zx_fbb true) (And.intro (vp_in_nI (by omega) (by omega)) (nm_e (Exists.intro _ hrun)))))
  · intro h0 go gn gb gc vs re pi on opp ob n hv' hh'
    subst h0
    refine br_f (by decide) (br_t rfl (K _ ?_))
    exact ⟨⟨hf1, hf2, rfl, rfl, rfl⟩, ⟨hM, hmk, hsz, hct, hts, hss⟩, hv', hh'⟩
  · intro h0 gh go gn gb gc vs re pi on opp ob n
    obtain ⟨rfl, rfl⟩ := hz h0
    have h3 : o' = 1 ∨ o' = 2 ∨ o' = 3 := by omega
    refine br_f (by rcases h3 with rfl | rfl | rfl <;> decide) (br_f (by rcases h3 with rfl | rfl | rfl <;> decide) (zy_und ?_))
    intro re' pi' hre hpi
    refine K _ ?_
    refine ⟨⟨hf1, hf2, rfl, rfl, rfl⟩, ⟨hM, hmk, hsz, hct, hts, hss⟩, fun r hr => ?_, ?_⟩
    · rw [hre r hr, hor r hr, hv r hr]
    · exact zl_v_cong (fun j hj => by rw [hpi j (by omega), hop j (by omega)]) hh
end
end
section
/-! ===== one more term, one more statement ===== -/
theorem zn_or (a b : Nat) : nI a ||| nI b = nI (a ||| b) := by
  apply Int32.toBitVec_inj.1
  show BitVec.ofNat 32 a ||| BitVec.ofNat 32 b = BitVec.ofNat 32 (a ||| b)
  apply BitVec.eq_of_getLsbD_eq
  intro i hi
  simp [BitVec.getLsbD_or, BitVec.getLsbD_ofNat, hi]
theorem zn_of (x : Int32) : ∃ n : Nat, x = nI n := by
  refine ⟨x.toBitVec.toNat, ?_⟩
  apply Int32.toBitVec_inj.1
  show x.toBitVec = BitVec.ofNat 32 x.toBitVec.toNat
  rw [BitVec.ofNat_toNat, BitVec.setWidth_eq]
/-- a new term's fields, a new statement's -/
def zg_t (k n a b s m : Nat) : Nat → Nat
  | 0 => k | 1 => n | 2 => a | 3 => b | 4 => s | _ => m
def zg_st (k r n a b x y L I W : Nat) : Nat → Nat
  | 0 => k | 1 => r | 2 => n | 3 => a | 4 => b | 5 => x | 6 => y | 7 => L | 8 => I | _ => W
section
variable {S T : Nat → Nat → Nat → Nat} {nS nT : Nat → Nat} {ts ss ts0 ss0 : List Nat} {π : List Int32} {stp : Nat} {new : Nat → Nat}
theorem zi_G_term (hG : zi_G S T nS nT ts ss π stp) (hn : nT 3 < 24) (h1 : zl_lt (nT 3) ts0) (h2 : ts0.length ≤ nT 3) (ho : zt_ok1 (zg_add (T 3) (nT 3) new) (nT 3))
    (hs : new 4 + zl_s (zt_s (T 3)) ts0 ≤ zl_s (zt_s (T 3)) ts + 1) :
    zi_G S (zg_set T 3 (zg_add (T 3) (nT 3) new)) nS (zg_set nT 3 (nT 3 + 1)) (nT 3 :: ts0) ss π stp := by
  obtain ⟨hG1, hG2, ⟨a1, a2, a3, a4, a5, a6, a7, a8, a9⟩, hG4, hG5⟩ := hG
  have hlow : ∀ f j, j < nT 3 → zg_add (T 3) (nT 3) new f j = T 3 f j := fun f j hj => zg_an f (by omega)
  have hs0 : zl_s (zt_s (zg_add (T 3) (nT 3) new)) ts0 = zl_s (zt_s (T 3)) ts0 := zl_s_cong (fun x hx => hlow 4 x hx) h1
  have hs1 : zl_s (zt_s (zg_add (T 3) (nT 3) new)) (nT 3 :: ts0) = new 4 + zl_s (zt_s (T 3)) ts0 := by
    show zt_s (zg_add (T 3) (nT 3) new) (nT 3) + _ = _
    rw [hs0]
    show zg_add (T 3) (nT 3) new 4 (nT 3) + _ = _
    rw [zg_as]
  refine ⟨?_, hG2, ?_, hG4, hG5⟩
  · intro g hg
    obtain ⟨b1, b2, b3, b4⟩ := hG1 g hg
    by_cases e : g = 3
    · subst e
      rw [zg_s, zg_s]
      refine ⟨b1, by omega, fun s hs => zs_ok1_T hlow (by omega) (b3 s hs), fun t ht => ?_⟩
      by_cases e : t = nT 3
      · rw [e]; exact ho
      · exact zt_ok1_cong (fun f j hj => hlow f j (by omega)) (b4 t (by omega))
    · rw [zg_n e, zg_n e]
      exact ⟨b1, b2, b3, b4⟩
  · rw [zg_s, zg_s]
    refine ⟨⟨by omega, zl_lt_mono (by omega) h1⟩, a2, by show ts0.length + 1 ≤ _; omega, a4, by rw [hs1]; omega, a6, a7, by rw [hs1]; omega, a9⟩
theorem zi_G_stmt (hG : zi_G S T nS nT ts ss π stp) (hn : nS 3 < 16) (h1 : zl_lt (nS 3) ss0) (h2 : ss0.length ≤ nS 3) (h3 : zl_lt (nT 3) ts0) (h4 : ts0.length ≤ nT 3)
    (ho : zs_ok1 (zg_add (S 3) (nS 3) new) (T 3) (nT 3) (nS 3)) (hL : new 7 + zl_s (zs_L (S 3)) ss0 ≤ zl_s (zs_L (S 3)) ss + 4) (hI : new 8 + zl_s (zs_I (S 3)) ss0 ≤ zl_s (zs_I (S 3)) ss + 3)
    (hT : zl_s (zt_s (T 3)) ts0 ≤ zl_s (zt_s (T 3)) ts) (hW : zl_s (zt_s (T 3)) ts0 + (new 9 + zl_s (zs_W (S 3)) ss0) ≤ zl_s (zt_s (T 3)) ts + zl_s (zs_W (S 3)) ss + 2) :
    zi_G (zg_set S 3 (zg_add (S 3) (nS 3) new)) T (zg_set nS 3 (nS 3 + 1)) nT ts0 (nS 3 :: ss0) π stp := by
  obtain ⟨hG1, hG2, ⟨a1, a2, a3, a4, a5, a6, a7, a8, a9⟩, hG4, hG5⟩ := hG
  have hlow : ∀ f j, j < nS 3 → zg_add (S 3) (nS 3) new f j = S 3 f j := fun f j hj => zg_an f (by omega)
  have e7 : zl_s (zs_L (zg_add (S 3) (nS 3) new)) (nS 3 :: ss0) = new 7 + zl_s (zs_L (S 3)) ss0 := by
    show zg_add (S 3) (nS 3) new 7 (nS 3) + zl_s (zs_L (zg_add (S 3) (nS 3) new)) ss0 = _
    have e : zl_s (zs_L (zg_add (S 3) (nS 3) new)) ss0 = zl_s (zs_L (S 3)) ss0 := zl_s_cong (fun x hx => hlow 7 x hx) h1
    rw [zg_as, e]
  have e8 : zl_s (zs_I (zg_add (S 3) (nS 3) new)) (nS 3 :: ss0) = new 8 + zl_s (zs_I (S 3)) ss0 := by
    show zg_add (S 3) (nS 3) new 8 (nS 3) + zl_s (zs_I (zg_add (S 3) (nS 3) new)) ss0 = _
    have e : zl_s (zs_I (zg_add (S 3) (nS 3) new)) ss0 = zl_s (zs_I (S 3)) ss0 := zl_s_cong (fun x hx => hlow 8 x hx) h1
    rw [zg_as, e]
  have e9 : zl_s (zs_W (zg_add (S 3) (nS 3) new)) (nS 3 :: ss0) = new 9 + zl_s (zs_W (S 3)) ss0 := by
    show zg_add (S 3) (nS 3) new 9 (nS 3) + zl_s (zs_W (zg_add (S 3) (nS 3) new)) ss0 = _
    have e : zl_s (zs_W (zg_add (S 3) (nS 3) new)) ss0 = zl_s (zs_W (S 3)) ss0 := zl_s_cong (fun x hx => hlow 9 x hx) h1
    rw [zg_as, e]
  refine ⟨?_, ?_, ?_, hG4, hG5⟩
  · intro g hg
    obtain ⟨b1, b2, b3, b4⟩ := hG1 g hg
    by_cases e : g = 3
    · subst e
      rw [zg_s, zg_s]
      refine ⟨by omega, b2, fun s hs => ?_, b4⟩
      by_cases e : s = nS 3
      · rw [e]; exact ho
      · exact zs_ok1_S (fun f j hj => hlow f j (by omega)) (b3 s (by omega))
    · rw [zg_n e, zg_n e]
      exact ⟨b1, b2, b3, b4⟩
  · intro g hg
    rw [zg_n (by omega), zg_n (by omega)]
    exact hG2 g hg
  · rw [zg_s, zg_s]
    refine ⟨h3, ⟨by omega, zl_lt_mono (by omega) h1⟩, h4, by show ss0.length + 1 ≤ _; omega, by omega, by rw [e7]; omega, by rw [e8]; omega, by rw [e9]; omega, fun s l e => ?_⟩
    injection e with e1 e2
    omega
theorem zi_TX_add {tk ta tb tn tk' ta' tb' tn' : Nat → Int32} (h : ∀ g, g < 4 → zi_TX (24 * g) (nT g) (T g) tk ta tb tn) (h24 : ∀ g, g < 4 → nT g ≤ 24)
    (e : ∀ j, j ≠ 72 + nT 3 → tk' j = tk j ∧ ta' j = ta j ∧ tb' j = tb j ∧ tn' j = tn j)
    (hk : tk' (72 + nT 3) = nI (new 0)) (hn : 7 ≤ new 0 → tn' (72 + nT 3) = nI (new 1)) (hab : new 0 ≤ 6 → ta' (72 + nT 3) = nI (new 2) ∧ tb' (72 + nT 3) = nI (new 3)) :
    ∀ g, g < 4 → zi_TX (24 * g) (zg_set nT 3 (nT 3 + 1) g) (zg_set T 3 (zg_add (T 3) (nT 3) new) g) tk' ta' tb' tn' := by
  intro g hg
  have hg24 := h24 g hg
  by_cases e3 : g = 3
  · subst e3
    rw [zg_s, zg_s]
    intro t ht
    by_cases et : t = nT 3
    · subst et
      have k0 : zt_k (zg_add (T 3) (nT 3) new) (nT 3) = new 0 := zg_as 0
      have k1 : zt_n (zg_add (T 3) (nT 3) new) (nT 3) = new 1 := zg_as 1
      have k2 : zt_a (zg_add (T 3) (nT 3) new) (nT 3) = new 2 := zg_as 2
      have k3 : zt_b (zg_add (T 3) (nT 3) new) (nT 3) = new 3 := zg_as 3
      rw [k0, k1, k2, k3]
      exact ⟨hk, hn, hab⟩
    · obtain ⟨e1, e2, e3, e4⟩ := e (24 * 3 + t) (by omega)
      rw [e1, e2, e3, e4]
      have k0 : zt_k (zg_add (T 3) (nT 3) new) t = zt_k (T 3) t := zg_an 0 et
      have k1 : zt_n (zg_add (T 3) (nT 3) new) t = zt_n (T 3) t := zg_an 1 et
      have k2 : zt_a (zg_add (T 3) (nT 3) new) t = zt_a (T 3) t := zg_an 2 et
      have k3 : zt_b (zg_add (T 3) (nT 3) new) t = zt_b (T 3) t := zg_an 3 et
      rw [k0, k1, k2, k3]
      exact h 3 (by omega) t (by omega)
  · rw [zg_n e3, zg_n e3]
    exact zi_TX_cong (fun f t ht => rfl) (fun t ht => e (24 * g + t) (by omega)) (h g hg)
theorem zi_TY_add {kd lf rt kd' lf' rt' : Nat → Int32} (h : ∀ g, g < 4 → zi_TY (24 * g) (nT g) (T g) kd lf rt) (h24 : ∀ g, g < 4 → nT g ≤ 24)
    (e : ∀ j, j ≠ 72 + nT 3 → kd' j = kd j ∧ lf' j = lf j ∧ rt' j = rt j)
    (hk : kd' (72 + nT 3) = nI (new 0)) (hn : 7 ≤ new 0 → lf' (72 + nT 3) = nI (new 1)) (hab : new 0 ≤ 6 → lf' (72 + nT 3) = nI (new 2) ∧ rt' (72 + nT 3) = nI (new 3)) :
    ∀ g, g < 4 → zi_TY (24 * g) (zg_set nT 3 (nT 3 + 1) g) (zg_set T 3 (zg_add (T 3) (nT 3) new) g) kd' lf' rt' := by
  intro g hg
  have hg24 := h24 g hg
  by_cases e3 : g = 3
  · subst e3
    rw [zg_s, zg_s]
    intro t ht
    by_cases et : t = nT 3
    · subst et
      have k0 : zt_k (zg_add (T 3) (nT 3) new) (nT 3) = new 0 := zg_as 0
      have k1 : zt_n (zg_add (T 3) (nT 3) new) (nT 3) = new 1 := zg_as 1
      have k2 : zt_a (zg_add (T 3) (nT 3) new) (nT 3) = new 2 := zg_as 2
      have k3 : zt_b (zg_add (T 3) (nT 3) new) (nT 3) = new 3 := zg_as 3
      rw [k0, k1, k2, k3]
      exact ⟨hk, hn, hab⟩
    · obtain ⟨e1, e2, e3⟩ := e (24 * 3 + t) (by omega)
      rw [e1, e2, e3]
      have k0 : zt_k (zg_add (T 3) (nT 3) new) t = zt_k (T 3) t := zg_an 0 et
      have k1 : zt_n (zg_add (T 3) (nT 3) new) t = zt_n (T 3) t := zg_an 1 et
      have k2 : zt_a (zg_add (T 3) (nT 3) new) t = zt_a (T 3) t := zg_an 2 et
      have k3 : zt_b (zg_add (T 3) (nT 3) new) t = zt_b (T 3) t := zg_an 3 et
      rw [k0, k1, k2, k3]
      exact h 3 (by omega) t (by omega)
  · rw [zg_n e3, zg_n e3]
    exact zi_TY_cong (fun f t ht => rfl) (fun t ht => e (24 * g + t) (by omega)) (h g hg)
theorem zi_SY_add {so re nu fi se te ex so' re' nu' fi' se' te' ex' : Nat → Int32} (h : ∀ g, g < 4 → zi_SY (16 * g) (nS g) (S g) so re nu fi se te ex) (h16 : ∀ g, g < 4 → nS g ≤ 16)
    (e : ∀ j, j ≠ 48 + nS 3 → so' j = so j ∧ re' j = re j ∧ nu' j = nu j ∧ fi' j = fi j ∧ se' j = se j ∧ te' j = te j ∧ ex' j = ex j)
    (h0 : so' (48 + nS 3) = nI (new 0)) (h1 : (1 ≤ new 0 ∧ new 0 ≤ 3) ∨ (6 ≤ new 0 ∧ new 0 ≤ 8) → re' (48 + nS 3) = nI (new 1)) (h2 : new 0 = 1 ∨ new 0 = 4 ∨ new 0 = 5 → nu' (48 + nS 3) = nI (new 2))
    (h5 : (6 ≤ new 0 ∧ new 0 ≤ 9) ∨ 11 ≤ new 0 → te' (48 + nS 3) = nI (new 5)) (h6 : 11 ≤ new 0 → ex' (48 + nS 3) = nI (new 6)) (h3 : 10 ≤ new 0 → fi' (48 + nS 3) = nI (new 3) ∧ se' (48 + nS 3) = nI (new 4)) :
    ∀ g, g < 4 → zi_SY (16 * g) (zg_set nS 3 (nS 3 + 1) g) (zg_set S 3 (zg_add (S 3) (nS 3) new) g) so' re' nu' fi' se' te' ex' := by
  intro g hg
  have hg16 := h16 g hg
  by_cases e3 : g = 3
  · subst e3
    rw [zg_s, zg_s]
    intro t ht
    by_cases et : t = nS 3
    · subst et
      have k0 : zs_k (zg_add (S 3) (nS 3) new) (nS 3) = new 0 := zg_as 0
      have k1 : zs_r (zg_add (S 3) (nS 3) new) (nS 3) = new 1 := zg_as 1
      have k2 : zs_n (zg_add (S 3) (nS 3) new) (nS 3) = new 2 := zg_as 2
      have k3 : zs_a (zg_add (S 3) (nS 3) new) (nS 3) = new 3 := zg_as 3
      have k4 : zs_b (zg_add (S 3) (nS 3) new) (nS 3) = new 4 := zg_as 4
      have k5 : zs_x (zg_add (S 3) (nS 3) new) (nS 3) = new 5 := zg_as 5
      have k6 : zs_y (zg_add (S 3) (nS 3) new) (nS 3) = new 6 := zg_as 6
      rw [k0, k1, k2, k3, k4, k5, k6]
      exact ⟨h0, h1, h2, h5, h6, h3⟩
    · obtain ⟨e1, e2, e3, e4, e5, e6, e7⟩ := e (16 * 3 + t) (by omega)
      have k0 : zs_k (zg_add (S 3) (nS 3) new) t = zs_k (S 3) t := zg_an 0 et
      have k1 : zs_r (zg_add (S 3) (nS 3) new) t = zs_r (S 3) t := zg_an 1 et
      have k2 : zs_n (zg_add (S 3) (nS 3) new) t = zs_n (S 3) t := zg_an 2 et
      have k3 : zs_a (zg_add (S 3) (nS 3) new) t = zs_a (S 3) t := zg_an 3 et
      have k4 : zs_b (zg_add (S 3) (nS 3) new) t = zs_b (S 3) t := zg_an 4 et
      have k5 : zs_x (zg_add (S 3) (nS 3) new) t = zs_x (S 3) t := zg_an 5 et
      have k6 : zs_y (zg_add (S 3) (nS 3) new) t = zs_y (S 3) t := zg_an 6 et
      rw [e1, e2, e3, e4, e5, e6, e7, k0, k1, k2, k3, k4, k5, k6]
      exact h 3 (by omega) t (by omega)
  · rw [zg_n e3, zg_n e3]
    exact zi_SY_cong (fun f t ht => rfl) (fun t ht => e (16 * g + t) (by omega)) (h g hg)
theorem zi_mask_add {a a' : Nat → Int32} (h : ∀ t, t < nT 3 → a (72 + t) = nI (zt_m (T 3) t)) (e : ∀ j, j ≠ 72 + nT 3 → a' j = a j) (hm : a' (72 + nT 3) = nI (new 5)) :
    ∀ t, t < zg_set nT 3 (nT 3 + 1) 3 → a' (72 + t) = nI (zt_m (zg_set T 3 (zg_add (T 3) (nT 3) new) 3) t) := by
  rw [zg_s, zg_s]
  intro t ht
  by_cases et : t = nT 3
  · subst et
    rw [hm]
    exact congrArg nI (zg_as 5).symm
  · rw [e _ (by omega), h t (by omega)]
    exact congrArg nI (zg_an 5 et).symm
theorem zc_all_cong {co fi se cx cy pr ot wd wn bg en : Nat → Int32} {wc : Nat} {S' T' : Nat → Nat → Nat → Nat} {nS' : Nat → Nat} (e : ∀ p, p < 3 → S' p = S p ∧ T' p = T p ∧ nS' p = nS p)
    (h : zc_all co fi se cx cy pr ot wd wn bg en wc S T nS) : zc_all co fi se cx cy pr ot wd wn bg en wc S' T' nS' := by
  obtain ⟨h1, bg, h2⟩ := h
  refine ⟨h1, bg, fun p hp => ?_⟩
  obtain ⟨e1, e2, e3⟩ := e p hp
  rw [e1, e2, e3]
  exact h2 p hp
end
end
section
/-! ===== number, register, apply ===== -/
theorem zn_a72 (n : Nat) : 72 + nI n = nI (72 + n) := by rw [show (72 : Int32) = nI 72 from rfl, nI_add]
theorem zn_a48 (n : Nat) : 48 + nI n = nI (48 + n) := by rw [show (48 : Int32) = nI 48 from rfl, nI_add]
theorem zn_sub0 (n : Nat) : nI n - 0 = nI n := by rw [show (0 : Int32) = nI 0 from rfl, pk_sub (by omega)]; rfl
theorem zn_sub2 (n : Nat) : nI (n + 2) - 2 = nI n := by rw [show (2 : Int32) = nI 2 from rfl, pk_sub (by omega)]; rfl
theorem zn_shl : ∀ r, r < 6 → (1 : Int32) <<< (nI r &&& 31) = nI (2 ^ r) := by decide +kernel
section
variable {f_terms f_termHeight f_made f_height f_compiled f_codeSize f_wordCount f_works f_procedure f_high f_at f_inside f_ahead f_undoing f_outcomeThen f_calls f_state f_last f_stepCount : Int32} {a_termKind a_termA a_termB a_termNumber a_registersIn a_termStack a_kind a_register a_number a_partA a_partB a_testX a_testY a_size a_stack a_code a_first a_second a_codeX a_codeY a_partner a_other a_begin a_end a_word a_wordNumber a_constant a_folded a_work a_workOn a_openAt a_middleAt a_placeX a_placeY a_todo a_value a_held a_operand a_callAt a_callIn : Nat → Int32}
theorem zx_mt0 {post : Int32 → SX → Prop} {n h k m : Nat} {v : Int32} (hn : n < 24) (hh : h < 24) (hm : m < 64) (hkm : (k = 7 ∧ m = 0) ∨ (k = 8 ∧ (1 : Int32) <<< (v &&& 31) = nI m)) (hv : vp_nar .byte v.toInt8.toInt32 = v)
    (H : post (nI (h + 1)) (nI (n + 1), nI (h + 1), f_made, f_height, f_compiled, f_codeSize, f_wordCount, f_works, f_procedure, f_high, f_at, f_inside, f_ahead, f_undoing, f_outcomeThen, f_calls, f_state, f_last, f_stepCount, upd a_termKind (72 + n) (nI k), upd a_termA (72 + n) 0, upd a_termB (72 + n) 0, upd a_termNumber (72 + n) v, upd a_registersIn (72 + n) (nI m), upd a_termStack h (nI n), a_kind, a_register, a_number, a_partA, a_partB, a_testX, a_testY, a_size, a_stack, a_code, a_first, a_second, a_codeX, a_codeY, a_partner, a_other, a_begin, a_end, a_word, a_wordNumber, a_constant, a_folded, a_work, a_workOn, a_openAt, a_middleAt, a_placeX, a_placeY, a_todo, a_value, a_held, a_operand, a_callAt, a_callIn)) :
    wpX_makeTerm post (nI n, nI h, f_made, f_height, f_compiled, f_codeSize, f_wordCount, f_works, f_procedure, f_high, f_at, f_inside, f_ahead, f_undoing, f_outcomeThen, f_calls, f_state, f_last, f_stepCount, a_termKind, a_termA, a_termB, a_termNumber, a_registersIn, a_termStack, a_kind, a_register, a_number, a_partA, a_partB, a_testX, a_testY, a_size, a_stack, a_code, a_first, a_second, a_codeX, a_codeY, a_partner, a_other, a_begin, a_end, a_word, a_wordNumber, a_constant, a_folded, a_work, a_workOn, a_openAt, a_middleAt, a_placeX, a_placeY, a_todo, a_value, a_held, a_operand, a_callAt, a_callIn) (nI k) v 0 := by
  have hin : vp_in (nI (72 + n)) 96 := vp_in_nI (by omega) (by omega)
  have fin : ∀ z : Int32, z = nI m → wX_makeTerm_110 post 0 (nI (72 + n)) 0 0 z (nI n) (nI h) f_made f_height f_compiled f_codeSize f_wordCount f_works f_procedure f_high f_at f_inside f_ahead f_undoing f_outcomeThen f_calls f_state f_last f_stepCount (upd a_termKind (72 + n) (nI k)) (upd a_termA (72 + n) 0) (upd a_termB (72 + n) 0) (upd a_termNumber (72 + n) v) a_registersIn a_termStack a_kind a_register a_number a_partA a_partB a_testX a_testY a_size a_stack a_code a_first a_second a_codeX a_codeY a_partner a_other a_begin a_end a_word a_wordNumber a_constant a_folded a_work a_workOn a_openAt a_middleAt a_placeX a_placeY a_todo a_value a_held a_operand a_callAt a_callIn := by
    intro z hz
    subst hz
    unfold wX_makeTerm_110 wX_makeTerm_148
    rw [zn_c (by omega : 72 + n < 2 ^ 31), zn_c (by omega : h < 2 ^ 31), zn_vbb (by omega : m < 128), zn_vbb (by omega : n < 128)]
    exact br_t (by decide) (And.intro hin (nm_e (And.intro (vp_in_nI hh (by omega)) (nm_e (nm_r (nI_1 h) (nm_r (nI_1 n) H))))))
  unfold wpX_makeTerm
  dsimp only
  refine nm_r (zn_a72 n) (nm_r (zn_sub0 h) (br_t (by decide) ?_))
  unfold wX_makeTerm_36 wX_makeTerm_57
  rw [zn_c (by omega : 72 + n < 2 ^ 31), zn_vbb (by omega : k < 128), hv, zn_z]
  refine br_t (by decide) (And.intro hin (nm_e (And.intro hin (nm_e (And.intro hin (nm_e (And.intro hin (nm_e ?_))))))))
  rcases hkm with ⟨rfl, rfl⟩ | ⟨rfl, hm2⟩
  · exact br_f (by decide) (fin 0 rfl)
  · exact br_t rfl (fin _ hm2)
theorem zx_mt2 {post : Int32 → SX → Prop} {n h k a b ma mb : Nat} (hn : n < 24) (hh : h + 1 < 24) (hk : k ≤ 6) (ha : a_termStack h = nI a) (hb : a_termStack (h + 1) = nI b) (ha2 : a < 24) (hb2 : b < 24)
    (hma : a_registersIn (72 + a) = nI ma) (hmb : a_registersIn (72 + b) = nI mb) (hm : ma ||| mb < 64)
    (H : post (nI (h + 1)) (nI (n + 1), nI (h + 1), f_made, f_height, f_compiled, f_codeSize, f_wordCount, f_works, f_procedure, f_high, f_at, f_inside, f_ahead, f_undoing, f_outcomeThen, f_calls, f_state, f_last, f_stepCount, upd a_termKind (72 + n) (nI k), upd a_termA (72 + n) (nI a), upd a_termB (72 + n) (nI b), upd a_termNumber (72 + n) 0, upd a_registersIn (72 + n) (nI (ma ||| mb)), upd a_termStack h (nI n), a_kind, a_register, a_number, a_partA, a_partB, a_testX, a_testY, a_size, a_stack, a_code, a_first, a_second, a_codeX, a_codeY, a_partner, a_other, a_begin, a_end, a_word, a_wordNumber, a_constant, a_folded, a_work, a_workOn, a_openAt, a_middleAt, a_placeX, a_placeY, a_todo, a_value, a_held, a_operand, a_callAt, a_callIn)) :
    wpX_makeTerm post (nI n, nI (h + 2), f_made, f_height, f_compiled, f_codeSize, f_wordCount, f_works, f_procedure, f_high, f_at, f_inside, f_ahead, f_undoing, f_outcomeThen, f_calls, f_state, f_last, f_stepCount, a_termKind, a_termA, a_termB, a_termNumber, a_registersIn, a_termStack, a_kind, a_register, a_number, a_partA, a_partB, a_testX, a_testY, a_size, a_stack, a_code, a_first, a_second, a_codeX, a_codeY, a_partner, a_other, a_begin, a_end, a_word, a_wordNumber, a_constant, a_folded, a_work, a_workOn, a_openAt, a_middleAt, a_placeX, a_placeY, a_todo, a_value, a_held, a_operand, a_callAt, a_callIn) (nI k) 0 2 := by
  have hin : vp_in (nI (72 + n)) 96 := vp_in_nI (by omega) (by omega)
  unfold wpX_makeTerm
  dsimp only
  refine nm_r (zn_a72 n) (nm_r (zn_sub2 h) (br_f (by decide) ?_))
  rw [zn_c (by omega : h < 2 ^ 31), ha]
  refine And.intro (vp_in_nI (by omega) (by omega)) ?_
  unfold wX_makeTerm_36 wX_makeTerm_57 wX_makeTerm_110 wX_makeTerm_148
  rw [nI_1 h, zn_c (by omega : h + 1 < 2 ^ 31), hb, zn_c (by omega : 72 + n < 2 ^ 31), zn_vbb (by omega : k < 128), zn_z, zn_vbb (by omega : a < 128), zn_vbb (by omega : b < 128)]
  refine br_f (by decide) (And.intro (vp_in_nI (by omega) (by omega)) (And.intro hin (nm_e (And.intro hin (nm_e (And.intro hin (nm_e (And.intro hin (nm_e (br_f (zn_ne (b := 8) (by omega) (by omega) (by omega)) (br_f (by decide) ?_)))))))))))
  rw [zn_a72, zn_a72, zn_c (by omega : 72 + a < 2 ^ 31), zn_c (by omega : 72 + b < 2 ^ 31), hma, hmb, zn_or, zn_vbb (by omega : ma ||| mb < 128), zn_vbb (by omega : n < 128), zn_c (by omega : h < 2 ^ 31)]
  exact And.intro (vp_in_nI (by omega) (by omega)) (And.intro (vp_in_nI (by omega) (by omega)) (And.intro hin (nm_e (And.intro (vp_in_nI (by omega) (by omega)) (nm_e (nm_e (nm_r (nI_1 n) H)))))))
theorem zi_X_term {S T : Nat → Nat → Nat → Nat} {nS nT : Nat → Nat} {ts ss ts0 : List Nat} {ρ : Nat → Int32} {π : List Int32} {stp : Nat} {o : Int32} {new : Nat → Nat} {tk' ta' tb' tn' ri' st' : Nat → Int32} (hX : zi_X S T nS nT ts ss ρ π stp o (f_terms, f_termHeight, f_made, f_height, f_compiled, f_codeSize, f_wordCount, f_works, f_procedure, f_high, f_at, f_inside, f_ahead, f_undoing, f_outcomeThen, f_calls, f_state, f_last, f_stepCount, a_termKind, a_termA, a_termB, a_termNumber, a_registersIn, a_termStack, a_kind, a_register, a_number, a_partA, a_partB, a_testX, a_testY, a_size, a_stack, a_code, a_first, a_second, a_codeX, a_codeY, a_partner, a_other, a_begin, a_end, a_word, a_wordNumber, a_constant, a_folded, a_work, a_workOn, a_openAt, a_middleAt, a_placeX, a_placeY, a_todo, a_value, a_held, a_operand, a_callAt, a_callIn)) (h24 : ∀ g, g < 4 → nT g ≤ 24)
    (e : ∀ j, j ≠ 72 + nT 3 → tk' j = a_termKind j ∧ ta' j = a_termA j ∧ tb' j = a_termB j ∧ tn' j = a_termNumber j) (er : ∀ j, j ≠ 72 + nT 3 → ri' j = a_registersIn j)
    (hk : tk' (72 + nT 3) = nI (new 0)) (hn : 7 ≤ new 0 → tn' (72 + nT 3) = nI (new 1)) (hab : new 0 ≤ 6 → ta' (72 + nT 3) = nI (new 2) ∧ tb' (72 + nT 3) = nI (new 3))
    (hin : vp_in (ta' (72 + nT 3)) 24 ∧ vp_in (tb' (72 + nT 3)) 24) (hm : ri' (72 + nT 3) = nI (new 5)) (hst : zl_h st' (nT 3 :: ts0)) :
    zi_X S (zg_set T 3 (zg_add (T 3) (nT 3) new)) nS (zg_set nT 3 (nT 3 + 1)) (nT 3 :: ts0) ss ρ π stp o (nI (nT 3 + 1), nI (ts0.length + 1), f_made, f_height, f_compiled, f_codeSize, f_wordCount, f_works, f_procedure, f_high, f_at, f_inside, f_ahead, f_undoing, f_outcomeThen, f_calls, f_state, f_last, f_stepCount, tk', ta', tb', tn', ri', st', a_kind, a_register, a_number, a_partA, a_partB, a_testX, a_testY, a_size, a_stack, a_code, a_first, a_second, a_codeX, a_codeY, a_partner, a_other, a_begin, a_end, a_word, a_wordNumber, a_constant, a_folded, a_work, a_workOn, a_openAt, a_middleAt, a_placeX, a_placeY, a_todo, a_value, a_held, a_operand, a_callAt, a_callIn) := by
  obtain ⟨⟨hf1, hf2, hf3, hf4, hf5, hf6, hf7⟩, ⟨hM, hmk, hr, hsz, hts, hss⟩, hcomp, hv, hh⟩ := hX
  refine ⟨⟨by rw [zg_s], rfl, hf3, hf4, hf5, hf6, hf7⟩, ⟨fun g hg => ⟨zi_TX_add (fun g hg => (hM g hg).1) h24 e hk hn hab g hg, (hM g hg).2⟩, zi_mask_add hmk er hm, fun j hj => ?_, hsz, hst, hss⟩, ?_, hv, hh⟩
  · by_cases ej : j = 72 + nT 3
    · rw [ej]; exact hin
    · rw [(e j ej).2.1, (e j ej).2.2.1]; exact hr j hj
  · rcases hcomp with h | ⟨h, wc, h2, h3⟩
    · exact Or.inl h
    · exact Or.inr ⟨h, wc, h2, zc_all_cong (fun p hp => ⟨rfl, zg_n (by omega), rfl⟩) h3⟩
end
section
variable {g_depth g_pieceDepth g_high g_oldHigh g_open g_next g_back g_calls g_end g_steps : Int32} {b_sorts b_regs b_numbers b_firsts b_seconds b_tests b_exits b_sizes b_kinds b_lefts b_rights b_masks b_counts b_values b_stack b_pieces b_registers b_pile b_oldRegisters b_oldPile b_openNode b_openPart b_openBack : Nat → Int32}
theorem zy_pc1 {post : Int32 → SY → Prop} {n h : Nat} {k a b m : Int32} (hn : n < 24) (hh : h < 24) (hc : b_counts 3 = nI n)
    (H : post (nI (h + 1)) (g_depth, nI (h + 1), g_high, g_oldHigh, g_open, g_next, g_back, g_calls, g_end, g_steps, b_sorts, b_regs, b_numbers, b_firsts, b_seconds, b_tests, b_exits, b_sizes, upd b_kinds (72 + n) k, upd b_lefts (72 + n) a, upd b_rights (72 + n) b, upd b_masks (72 + n) m, upd b_counts 3 (nI (n + 1)), b_values, b_stack, upd b_pieces h (nI n), b_registers, b_pile, b_oldRegisters, b_oldPile, b_openNode, b_openPart, b_openBack)) :
    wpY_piece post (g_depth, nI h, g_high, g_oldHigh, g_open, g_next, g_back, g_calls, g_end, g_steps, b_sorts, b_regs, b_numbers, b_firsts, b_seconds, b_tests, b_exits, b_sizes, b_kinds, b_lefts, b_rights, b_masks, b_counts, b_values, b_stack, b_pieces, b_registers, b_pile, b_oldRegisters, b_oldPile, b_openNode, b_openPart, b_openBack) k a b m := by
  have hin : vp_in (72 + nI n) 96 := by rw [zn_a72]; exact vp_in_nI (by omega) (by omega)
  have hcl : (72 + nI n).toNatClampNeg = 72 + n := by rw [zn_a72]; exact zn_c (by omega)
  unfold wpY_piece
  dsimp only
  refine nm_r hc ?_
  rw [hcl, zn_c (by omega : h < 2 ^ 31), hc, nI_1 n]
  exact And.intro hin (nm_e (And.intro hin (nm_e (And.intro hin (nm_e (And.intro hin (nm_e (And.intro (vp_in_nI hh (by omega)) (nm_e (nm_r (nI_1 h) (nm_e H)))))))))))
theorem zi_Y_term {S T : Nat → Nat → Nat → Nat} {nS nT : Nat → Nat} {ts ss ts0 : List Nat} {ρ : Nat → Int32} {π : List Int32} {stp : Nat} {o : Int32} {new : Nat → Nat} {kd' lf' rt' ma' st' : Nat → Int32} (hY : zi_Y S T nS nT ts ss ρ π stp o (g_depth, g_pieceDepth, g_high, g_oldHigh, g_open, g_next, g_back, g_calls, g_end, g_steps, b_sorts, b_regs, b_numbers, b_firsts, b_seconds, b_tests, b_exits, b_sizes, b_kinds, b_lefts, b_rights, b_masks, b_counts, b_values, b_stack, b_pieces, b_registers, b_pile, b_oldRegisters, b_oldPile, b_openNode, b_openPart, b_openBack)) (h24 : ∀ g, g < 4 → nT g ≤ 24)
    (e : ∀ j, j ≠ 72 + nT 3 → kd' j = b_kinds j ∧ lf' j = b_lefts j ∧ rt' j = b_rights j) (er : ∀ j, j ≠ 72 + nT 3 → ma' j = b_masks j)
    (hk : kd' (72 + nT 3) = nI (new 0)) (hn : 7 ≤ new 0 → lf' (72 + nT 3) = nI (new 1)) (hab : new 0 ≤ 6 → lf' (72 + nT 3) = nI (new 2) ∧ rt' (72 + nT 3) = nI (new 3))
    (hm : ma' (72 + nT 3) = nI (new 5)) (hst : zl_h st' (nT 3 :: ts0)) :
    zi_Y S (zg_set T 3 (zg_add (T 3) (nT 3) new)) nS (zg_set nT 3 (nT 3 + 1)) (nT 3 :: ts0) ss ρ π stp o (g_depth, nI (ts0.length + 1), g_high, g_oldHigh, g_open, g_next, g_back, g_calls, g_end, g_steps, b_sorts, b_regs, b_numbers, b_firsts, b_seconds, b_tests, b_exits, b_sizes, kd', lf', rt', ma', upd b_counts 3 (nI (nT 3 + 1)), b_values, b_stack, st', b_registers, b_pile, b_oldRegisters, b_oldPile, b_openNode, b_openPart, b_openBack) := by
  obtain ⟨⟨hf1, hf2, hf3, hf4, hf5⟩, ⟨hM, hmk, hsz, hct, hts, hss⟩, hv, hh⟩ := hY
  refine ⟨⟨hf1, rfl, hf3, hf4, hf5⟩, ⟨fun g hg => ⟨zi_TY_add (fun g hg => (hM g hg).1) h24 e hk hn hab g hg, (hM g hg).2⟩, zi_mask_add hmk er hm, hsz, by rw [pk_us, zg_s], hst, hss⟩, hv, hh⟩
end
theorem zt_new0 {Tr : Nat → Nat → Nat} {n k v m : Nat} (hk : k = 7 ∨ k = 8) (h7 : k = 7 → vp_nar .byte (nI v) = nI v) (h8 : k = 8 → v < 6 ∧ m = 2 ^ v) (hm : m < 64) : zt_ok1 (zg_add Tr n (zg_t k v 0 0 1 m)) n := by
  have k0 : zt_k (zg_add Tr n (zg_t k v 0 0 1 m)) n = k := zg_as 0
  have k1 : zt_n (zg_add Tr n (zg_t k v 0 0 1 m)) n = v := zg_as 1
  have k4 : zt_s (zg_add Tr n (zg_t k v 0 0 1 m)) n = 1 := zg_as 4
  have k5 : zt_m (zg_add Tr n (zg_t k v 0 0 1 m)) n = m := zg_as 5
  unfold zt_ok1
  rw [k0, k1, k4, k5]
  exact ⟨by omega, h7, fun e => (h8 e).1, fun e => absurd e (by omega), fun _ => rfl, by omega, by omega, hm, fun e => (h8 e).2, fun e => absurd e (by omega)⟩
theorem zt_new2 {Tr : Nat → Nat → Nat} {n k a b s m : Nat} (hk : k ≤ 6) (ha : a < n) (hb : b < n) (hs : s = 1 + zt_s Tr a + zt_s Tr b) (hs2 : s ≤ n + 1) (hm : m = zt_m Tr a ||| zt_m Tr b) (hm2 : m < 64) : zt_ok1 (zg_add Tr n (zg_t k 0 a b s m)) n := by
  have k0 : zt_k (zg_add Tr n (zg_t k 0 a b s m)) n = k := zg_as 0
  have k1 : zt_n (zg_add Tr n (zg_t k 0 a b s m)) n = 0 := zg_as 1
  have k2 : zt_a (zg_add Tr n (zg_t k 0 a b s m)) n = a := zg_as 2
  have k3 : zt_b (zg_add Tr n (zg_t k 0 a b s m)) n = b := zg_as 3
  have k4 : zt_s (zg_add Tr n (zg_t k 0 a b s m)) n = s := zg_as 4
  have k5 : zt_m (zg_add Tr n (zg_t k 0 a b s m)) n = m := zg_as 5
  have a4 : zt_s (zg_add Tr n (zg_t k 0 a b s m)) a = zt_s Tr a := zg_an 4 (by omega)
  have b4 : zt_s (zg_add Tr n (zg_t k 0 a b s m)) b = zt_s Tr b := zg_an 4 (by omega)
  have a5 : zt_m (zg_add Tr n (zg_t k 0 a b s m)) a = zt_m Tr a := zg_an 5 (by omega)
  have b5 : zt_m (zg_add Tr n (zg_t k 0 a b s m)) b = zt_m Tr b := zg_an 5 (by omega)
  unfold zt_ok1
  rw [k0, k1, k2, k3, k4, k5, a4, b4, a5, b5]
  exact ⟨by omega, fun e => absurd e (by omega), fun e => absurd e (by omega), fun _ => ⟨ha, hb, hs⟩, fun e => absurd e (by omega), hs2, by omega, hm2, fun e => absurd e (by omega), fun _ => hm⟩
end
section
/-! ===== the owed: number, register, apply ===== -/
theorem zz_el {P : SX → SY → Prop} {k : Nat} {u : SX} {v : SY} (I : i_Rel k u v)
    (h : ∀ (S T : Nat → Nat → Nat → Nat) (nS nT : Nat → Nat) (ts ss : List Nat) (ρ : Nat → Int32) (π : List Int32) (stp : Nat) (o : Int32) (f_compiled f_codeSize f_wordCount f_works f_procedure f_at f_inside f_ahead f_undoing f_outcomeThen f_calls f_state : Int32) (a_termKind a_termA a_termB a_termNumber a_registersIn a_termStack a_kind a_register a_number a_partA a_partB a_testX a_testY a_size a_stack a_code a_first a_second a_codeX a_codeY a_partner a_other a_begin a_end a_word a_wordNumber a_constant a_folded a_work a_workOn a_openAt a_middleAt a_placeX a_placeY a_todo a_value a_held a_operand a_callAt a_callIn : Nat → Int32) (g_oldHigh g_open g_next g_back g_calls : Int32) (b_sorts b_regs b_numbers b_firsts b_seconds b_tests b_exits b_sizes b_kinds b_lefts b_rights b_masks b_counts b_values b_stack b_pieces b_registers b_pile b_oldRegisters b_oldPile b_openNode b_openPart b_openBack : Nat → Int32),
      zi_G S T nS nT ts ss π stp → zi_X S T nS nT ts ss ρ π stp o (nI (nT 3), nI ts.length, nI (nS 3), nI ss.length, f_compiled, f_codeSize, f_wordCount, f_works, f_procedure, nI π.length, f_at, f_inside, f_ahead, f_undoing, f_outcomeThen, f_calls, f_state, o, nI stp, a_termKind, a_termA, a_termB, a_termNumber, a_registersIn, a_termStack, a_kind, a_register, a_number, a_partA, a_partB, a_testX, a_testY, a_size, a_stack, a_code, a_first, a_second, a_codeX, a_codeY, a_partner, a_other, a_begin, a_end, a_word, a_wordNumber, a_constant, a_folded, a_work, a_workOn, a_openAt, a_middleAt, a_placeX, a_placeY, a_todo, a_value, a_held, a_operand, a_callAt, a_callIn) → zi_Y S T nS nT ts ss ρ π stp o (nI ss.length, nI ts.length, nI π.length, g_oldHigh, g_open, g_next, g_back, g_calls, o, nI stp, b_sorts, b_regs, b_numbers, b_firsts, b_seconds, b_tests, b_exits, b_sizes, b_kinds, b_lefts, b_rights, b_masks, b_counts, b_values, b_stack, b_pieces, b_registers, b_pile, b_oldRegisters, b_oldPile, b_openNode, b_openPart, b_openBack) → P (nI (nT 3), nI ts.length, nI (nS 3), nI ss.length, f_compiled, f_codeSize, f_wordCount, f_works, f_procedure, nI π.length, f_at, f_inside, f_ahead, f_undoing, f_outcomeThen, f_calls, f_state, o, nI stp, a_termKind, a_termA, a_termB, a_termNumber, a_registersIn, a_termStack, a_kind, a_register, a_number, a_partA, a_partB, a_testX, a_testY, a_size, a_stack, a_code, a_first, a_second, a_codeX, a_codeY, a_partner, a_other, a_begin, a_end, a_word, a_wordNumber, a_constant, a_folded, a_work, a_workOn, a_openAt, a_middleAt, a_placeX, a_placeY, a_todo, a_value, a_held, a_operand, a_callAt, a_callIn) (nI ss.length, nI ts.length, nI π.length, g_oldHigh, g_open, g_next, g_back, g_calls, o, nI stp, b_sorts, b_regs, b_numbers, b_firsts, b_seconds, b_tests, b_exits, b_sizes, b_kinds, b_lefts, b_rights, b_masks, b_counts, b_values, b_stack, b_pieces, b_registers, b_pile, b_oldRegisters, b_oldPile, b_openNode, b_openPart, b_openBack)) : P u v := by
  obtain ⟨S, T, nS, nT, ts, ss, ρ, π, stp, o, hG, hX, hY⟩ := I
  revert hX
  refine zz_x (P := fun u => zi_X S T nS nT ts ss ρ π stp o u → P u v) ?_ u
  intro f_terms f_termHeight f_made f_height f_compiled f_codeSize f_wordCount f_works f_procedure f_high f_at f_inside f_ahead f_undoing f_outcomeThen f_calls f_state f_last f_stepCount a_termKind a_termA a_termB a_termNumber a_registersIn a_termStack a_kind a_register a_number a_partA a_partB a_testX a_testY a_size a_stack a_code a_first a_second a_codeX a_codeY a_partner a_other a_begin a_end a_word a_wordNumber a_constant a_folded a_work a_workOn a_openAt a_middleAt a_placeX a_placeY a_todo a_value a_held a_operand a_callAt a_callIn
  intro hX
  revert hY
  refine zz_y (P := fun v => zi_Y S T nS nT ts ss ρ π stp o v → P (f_terms, f_termHeight, f_made, f_height, f_compiled, f_codeSize, f_wordCount, f_works, f_procedure, f_high, f_at, f_inside, f_ahead, f_undoing, f_outcomeThen, f_calls, f_state, f_last, f_stepCount, a_termKind, a_termA, a_termB, a_termNumber, a_registersIn, a_termStack, a_kind, a_register, a_number, a_partA, a_partB, a_testX, a_testY, a_size, a_stack, a_code, a_first, a_second, a_codeX, a_codeY, a_partner, a_other, a_begin, a_end, a_word, a_wordNumber, a_constant, a_folded, a_work, a_workOn, a_openAt, a_middleAt, a_placeX, a_placeY, a_todo, a_value, a_held, a_operand, a_callAt, a_callIn) v) ?_ v
  intro g_depth g_pieceDepth g_high g_oldHigh g_open g_next g_back g_calls g_end g_steps b_sorts b_regs b_numbers b_firsts b_seconds b_tests b_exits b_sizes b_kinds b_lefts b_rights b_masks b_counts b_values b_stack b_pieces b_registers b_pile b_oldRegisters b_oldPile b_openNode b_openPart b_openBack
  intro hY
  obtain ⟨hf1, hf2, hf3, hf4, hf5, hf6, hf7⟩ := hX.1
  obtain ⟨hg1, hg2, hg3, hg4, hg5⟩ := hY.1
  subst hf1 hf2 hf3 hf4 hf5 hf6 hf7 hg1 hg2 hg3 hg4 hg5
  exact h S T nS nT ts ss ρ π stp _ f_compiled f_codeSize f_wordCount f_works f_procedure f_at f_inside f_ahead f_undoing f_outcomeThen f_calls f_state a_termKind a_termA a_termB a_termNumber a_registersIn a_termStack a_kind a_register a_number a_partA a_partB a_testX a_testY a_size a_stack a_code a_first a_second a_codeX a_codeY a_partner a_other a_begin a_end a_word a_wordNumber a_constant a_folded a_work a_workOn a_openAt a_middleAt a_placeX a_placeY a_todo a_value a_held a_operand a_callAt a_callIn g_oldHigh g_open g_next g_back g_calls b_sorts b_regs b_numbers b_firsts b_seconds b_tests b_exits b_sizes b_kinds b_lefts b_rights b_masks b_counts b_values b_stack b_pieces b_registers b_pile b_oldRegisters b_oldPile b_openNode b_openPart b_openBack hG hX hY
theorem zz_R {k : Nat} {u : SX} {v : SY} {S T : Nat → Nat → Nat → Nat} {nS nT : Nat → Nat} {ts ss : List Nat} {ρ : Nat → Int32} {π : List Int32} {stp : Nat} {o : Int32}
    (hG : zi_G S T nS nT ts ss π stp) (hX : zi_X S T nS nT ts ss ρ π stp o u) (hY : zi_Y S T nS nT ts ss ρ π stp o v) : i_Rel k u v := ⟨S, T, nS, nT, ts, ss, ρ, π, stp, o, hG, hX, hY⟩
theorem zn_100 {x : Int32} (h1 : ¬ x < -100) (h2 : x ≤ 100) : vp_nar .byte x.toInt8.toInt32 = x ∧ vp_nar .byte x = x := by
  have h3 : (-100 : Int32) ≤ x := Int32.not_lt.mp h1
  rw [Int32.le_iff_toInt_le] at h2 h3
  have e1 : (-100 : Int32).toInt = -100 := by decide
  have e2 : (100 : Int32).toInt = 100 := by decide
  have e : x.toInt8.toInt32 = x := lg_i2b_small (by omega) (by omega)
  rw [e, vp_nar_byte, e]
  exact ⟨rfl, rfl⟩
theorem i_vc_number {k : Nat} {u : SX} {v : SY} (I : i_Rel k u v) (hk : k + 4 ≤ 2048) (v1 : Int32) : wpX_number (fun r u' => wpY_number (fun r' v' => r' = r ∧ i_Rel (k + 4) u' v') v v1) u v1 := by
  refine zz_el (P := fun u v => wpX_number (fun r u' => wpY_number (fun r' v' => r' = r ∧ i_Rel (k + 4) u' v') v v1) u v1) I ?_
  intro S T nS nT ts ss ρ π stp o f_compiled f_codeSize f_wordCount f_works f_procedure f_at f_inside f_ahead f_undoing f_outcomeThen f_calls f_state a_termKind a_termA a_termB a_termNumber a_registersIn a_termStack a_kind a_register a_number a_partA a_partB a_testX a_testY a_size a_stack a_code a_first a_second a_codeX a_codeY a_partner a_other a_begin a_end a_word a_wordNumber a_constant a_folded a_work a_workOn a_openAt a_middleAt a_placeX a_placeY a_todo a_value a_held a_operand a_callAt a_callIn g_oldHigh g_open g_next g_back g_calls b_sorts b_regs b_numbers b_firsts b_seconds b_tests b_exits b_sizes b_kinds b_lefts b_rights b_masks b_counts b_values b_stack b_pieces b_registers b_pile b_oldRegisters b_oldPile b_openNode b_openPart b_openBack hG hX hY
  have hR : i_Rel (k + 4) (nI (nT 3), nI ts.length, nI (nS 3), nI ss.length, f_compiled, f_codeSize, f_wordCount, f_works, f_procedure, nI π.length, f_at, f_inside, f_ahead, f_undoing, f_outcomeThen, f_calls, f_state, o, nI stp, a_termKind, a_termA, a_termB, a_termNumber, a_registersIn, a_termStack, a_kind, a_register, a_number, a_partA, a_partB, a_testX, a_testY, a_size, a_stack, a_code, a_first, a_second, a_codeX, a_codeY, a_partner, a_other, a_begin, a_end, a_word, a_wordNumber, a_constant, a_folded, a_work, a_workOn, a_openAt, a_middleAt, a_placeX, a_placeY, a_todo, a_value, a_held, a_operand, a_callAt, a_callIn) (nI ss.length, nI ts.length, nI π.length, g_oldHigh, g_open, g_next, g_back, g_calls, o, nI stp, b_sorts, b_regs, b_numbers, b_firsts, b_seconds, b_tests, b_exits, b_sizes, b_kinds, b_lefts, b_rights, b_masks, b_counts, b_values, b_stack, b_pieces, b_registers, b_pile, b_oldRegisters, b_oldPile, b_openNode, b_openPart, b_openBack) := zz_R hG hX hY
  have h24 : ∀ g, g < 4 → nT g ≤ 24 := fun g hg => (hG.1 g hg).2.1
  have h24' := h24 3 (by omega)
  have hct : b_counts 3 = nI (nT 3) := hY.2.1.2.2.2.1
  have hlen : ts.length ≤ nT 3 := hG.2.2.1.2.2.1
  unfold wpX_number
  refine br_c (fun h1 => ?_) (fun h1 => br_c (fun h2 => ?_) (fun h2 => ?_))
  · unfold wpY_number; exact br_t h1 ⟨rfl, hR⟩
  · by_cases h : nT 3 = 24
    · refine br_t (by rw [h]; rfl) ?_
      unfold wpY_number
      exact br_f h1 (br_t h2 (br_t (by rw [hct, h]; rfl) ⟨rfl, hR⟩))
    · obtain ⟨n, hn⟩ := zn_of v1
      obtain ⟨b1, b2⟩ := zn_100 h1 h2
      refine br_f (zn_ne (b := 24) (by omega) (by omega) h) (zx_mt0 (k := 7) (m := 0) (by omega) (by omega) (by omega) (Or.inl ⟨rfl, rfl⟩) b1 ?_)
      dsimp only
      unfold wpY_number
      refine br_f h1 (br_t h2 (br_f (by rw [hct]; exact zn_ne (b := 24) (by omega) (by omega) h) (zy_pc1 (n := nT 3) (by omega) (by omega) hct ?_)))
      refine ⟨rfl, zz_R (zi_G_term (new := zg_t 7 n 0 0 1 0) (ts0 := ts) hG (by omega) hG.2.2.1.1 hlen ?_ ?_) (zi_X_term hX h24 ?_ ?_ ?_ ?_ ?_ ?_ ?_ ?_) (zi_Y_term hY h24 ?_ ?_ ?_ ?_ ?_ ?_ ?_)⟩
      · exact zt_new0 (Or.inl rfl) (fun _ => by rw [← hn]; exact b2) (fun e => absurd e (by decide)) (by decide)
      · show 1 + _ ≤ _; omega
      · exact fun j hj => ⟨pk_un hj, pk_un hj, pk_un hj, pk_un hj⟩
      · exact fun j hj => pk_un hj
      · exact pk_us
      · exact fun _ => by rw [pk_us, hn]; rfl
      · exact fun e => absurd (show 7 ≤ 6 from e) (by decide)
      · rw [pk_us, pk_us]; exact ⟨vp_in_nI (n := 0) (by decide) (by decide), vp_in_nI (n := 0) (by decide) (by decide)⟩
      · exact pk_us
      · exact zl_h_push hX.2.1.2.2.2.2.1
      · exact fun j hj => ⟨pk_un hj, pk_un hj, pk_un hj⟩
      · exact fun j hj => pk_un hj
      · exact pk_us
      · exact fun _ => by rw [pk_us, hn]; rfl
      · exact fun e => absurd (show 7 ≤ 6 from e) (by decide)
      · exact pk_us
      · exact zl_h_push hY.2.1.2.2.2.2.1
  · unfold wpY_number; exact br_f h1 (br_f h2 ⟨rfl, hR⟩)
section
variable {g_depth g_pieceDepth g_high g_oldHigh g_open g_next g_back g_calls g_end g_steps : Int32} {b_sorts b_regs b_numbers b_firsts b_seconds b_tests b_exits b_sizes b_kinds b_lefts b_rights b_masks b_counts b_values b_stack b_pieces b_registers b_pile b_oldRegisters b_oldPile b_openNode b_openPart b_openBack : Nat → Int32}
theorem zy_irG {post : Int32 → Prop} {p : Nat} (hp : p < 6) (h : post 1) : wpY_isRegister post (g_depth, g_pieceDepth, g_high, g_oldHigh, g_open, g_next, g_back, g_calls, g_end, g_steps, b_sorts, b_regs, b_numbers, b_firsts, b_seconds, b_tests, b_exits, b_sizes, b_kinds, b_lefts, b_rights, b_masks, b_counts, b_values, b_stack, b_pieces, b_registers, b_pile, b_oldRegisters, b_oldPile, b_openNode, b_openPart, b_openBack) (nI p) := by
  unfold wpY_isRegister
  exact br_f (nI_pos (by omega)) (br_f (nI_nlt (a := 5) (by omega) (by omega)) h)
theorem zy_irB {post : Int32 → Prop} {x : Int32} (hx : x < 0 ∨ nI 6 ≤ x) (h : post 0) : wpY_isRegister post (g_depth, g_pieceDepth, g_high, g_oldHigh, g_open, g_next, g_back, g_calls, g_end, g_steps, b_sorts, b_regs, b_numbers, b_firsts, b_seconds, b_tests, b_exits, b_sizes, b_kinds, b_lefts, b_rights, b_masks, b_counts, b_values, b_stack, b_pieces, b_registers, b_pile, b_oldRegisters, b_oldPile, b_openNode, b_openPart, b_openBack) x := by
  unfold wpY_isRegister
  rcases hx with hx | hx
  · exact br_t hx h
  · refine br_c (fun _ => h) (fun _ => br_t ?_ h)
    rw [Int32.le_iff_toInt_le] at hx
    rw [Int32.lt_iff_toInt_lt]
    have e1 : (nI 6).toInt = 6 := by decide
    have e2 : (5 : Int32).toInt = 5 := by decide
    omega
end
theorem i_vc_register {k : Nat} {u : SX} {v : SY} (I : i_Rel k u v) (hk : k + 4 ≤ 2048) (v1 : Int32) : wpX_register (fun r u' => wpY_register (fun r' v' => r' = r ∧ i_Rel (k + 4) u' v') v v1) u v1 := by
  refine zz_el (P := fun u v => wpX_register (fun r u' => wpY_register (fun r' v' => r' = r ∧ i_Rel (k + 4) u' v') v v1) u v1) I ?_
  intro S T nS nT ts ss ρ π stp o f_compiled f_codeSize f_wordCount f_works f_procedure f_at f_inside f_ahead f_undoing f_outcomeThen f_calls f_state a_termKind a_termA a_termB a_termNumber a_registersIn a_termStack a_kind a_register a_number a_partA a_partB a_testX a_testY a_size a_stack a_code a_first a_second a_codeX a_codeY a_partner a_other a_begin a_end a_word a_wordNumber a_constant a_folded a_work a_workOn a_openAt a_middleAt a_placeX a_placeY a_todo a_value a_held a_operand a_callAt a_callIn g_oldHigh g_open g_next g_back g_calls b_sorts b_regs b_numbers b_firsts b_seconds b_tests b_exits b_sizes b_kinds b_lefts b_rights b_masks b_counts b_values b_stack b_pieces b_registers b_pile b_oldRegisters b_oldPile b_openNode b_openPart b_openBack hG hX hY
  have hR : i_Rel (k + 4) (nI (nT 3), nI ts.length, nI (nS 3), nI ss.length, f_compiled, f_codeSize, f_wordCount, f_works, f_procedure, nI π.length, f_at, f_inside, f_ahead, f_undoing, f_outcomeThen, f_calls, f_state, o, nI stp, a_termKind, a_termA, a_termB, a_termNumber, a_registersIn, a_termStack, a_kind, a_register, a_number, a_partA, a_partB, a_testX, a_testY, a_size, a_stack, a_code, a_first, a_second, a_codeX, a_codeY, a_partner, a_other, a_begin, a_end, a_word, a_wordNumber, a_constant, a_folded, a_work, a_workOn, a_openAt, a_middleAt, a_placeX, a_placeY, a_todo, a_value, a_held, a_operand, a_callAt, a_callIn) (nI ss.length, nI ts.length, nI π.length, g_oldHigh, g_open, g_next, g_back, g_calls, o, nI stp, b_sorts, b_regs, b_numbers, b_firsts, b_seconds, b_tests, b_exits, b_sizes, b_kinds, b_lefts, b_rights, b_masks, b_counts, b_values, b_stack, b_pieces, b_registers, b_pile, b_oldRegisters, b_oldPile, b_openNode, b_openPart, b_openBack) := zz_R hG hX hY
  have h24 : ∀ g, g < 4 → nT g ≤ 24 := fun g hg => (hG.1 g hg).2.1
  have h24' := h24 3 (by omega)
  have hct : b_counts 3 = nI (nT 3) := hY.2.1.2.2.2.1
  have hlen : ts.length ≤ nT 3 := hG.2.2.1.2.2.1
  have hbad : (v1 < 0 ∨ nI 6 ≤ v1) → wpX_register (fun r u' => wpY_register (fun r' v' => r' = r ∧ i_Rel (k + 4) u' v') (nI ss.length, nI ts.length, nI π.length, g_oldHigh, g_open, g_next, g_back, g_calls, o, nI stp, b_sorts, b_regs, b_numbers, b_firsts, b_seconds, b_tests, b_exits, b_sizes, b_kinds, b_lefts, b_rights, b_masks, b_counts, b_values, b_stack, b_pieces, b_registers, b_pile, b_oldRegisters, b_oldPile, b_openNode, b_openPart, b_openBack) v1) (nI (nT 3), nI ts.length, nI (nS 3), nI ss.length, f_compiled, f_codeSize, f_wordCount, f_works, f_procedure, nI π.length, f_at, f_inside, f_ahead, f_undoing, f_outcomeThen, f_calls, f_state, o, nI stp, a_termKind, a_termA, a_termB, a_termNumber, a_registersIn, a_termStack, a_kind, a_register, a_number, a_partA, a_partB, a_testX, a_testY, a_size, a_stack, a_code, a_first, a_second, a_codeX, a_codeY, a_partner, a_other, a_begin, a_end, a_word, a_wordNumber, a_constant, a_folded, a_work, a_workOn, a_openAt, a_middleAt, a_placeX, a_placeY, a_todo, a_value, a_held, a_operand, a_callAt, a_callIn) v1 := by
    intro hb
    unfold wpX_register
    refine zx_brB hb (br_f (by decide) ?_)
    unfold wpY_register
    exact zy_irB hb (br_t rfl ⟨rfl, hR⟩)
  rcases pk_ix v1 (n := 6) (by omega) with h1 | h1 | ⟨r, hr, rfl⟩
  · exact hbad (Or.inl h1)
  · exact hbad (Or.inr h1)
  unfold wpX_register
  refine zx_brG hr (br_t rfl ?_)
  by_cases h : nT 3 = 24
  · refine br_t (by rw [h]; rfl) ?_
    unfold wpY_register
    exact zy_irG hr (br_f (by decide) (br_t (by rw [hct, h]; rfl) ⟨rfl, hR⟩))
  have h2 : 2 ^ r < 64 := (by decide : ∀ r, r < 6 → 2 ^ r < 64) r hr
  refine br_f (zn_ne (b := 24) (by omega) (by omega) h) (zx_mt0 (k := 8) (m := 2 ^ r) (by omega) (by omega) h2 (Or.inr ⟨rfl, zn_shl r hr⟩) (zn_vbb (by omega)) ?_)
  dsimp only
  unfold wpY_register
  refine zy_irG hr (br_f (by decide) (br_f (by rw [hct]; exact zn_ne (b := 24) (by omega) (by omega) h) (zy_pc1 (n := nT 3) (by omega) (by omega) hct ?_)))
  refine ⟨rfl, zz_R (zi_G_term (new := zg_t 8 r 0 0 1 (2 ^ r)) (ts0 := ts) hG (by omega) hG.2.2.1.1 hlen ?_ ?_) (zi_X_term hX h24 ?_ ?_ ?_ ?_ ?_ ?_ ?_ ?_) (zi_Y_term hY h24 ?_ ?_ ?_ ?_ ?_ ?_ ?_)⟩
  · exact zt_new0 (Or.inr rfl) (fun e => absurd e (by decide)) (fun _ => ⟨hr, rfl⟩) h2
  · show 1 + _ ≤ _; omega
  · exact fun j hj => ⟨pk_un hj, pk_un hj, pk_un hj, pk_un hj⟩
  · exact fun j hj => pk_un hj
  · exact pk_us
  · exact fun _ => pk_us
  · exact fun e => absurd (show 8 ≤ 6 from e) (by decide)
  · rw [pk_us, pk_us]; exact ⟨vp_in_nI (n := 0) (by decide) (by decide), vp_in_nI (n := 0) (by decide) (by decide)⟩
  · exact pk_us
  · exact zl_h_push hX.2.1.2.2.2.2.1
  · exact fun j hj => ⟨pk_un hj, pk_un hj, pk_un hj⟩
  · exact fun j hj => pk_un hj
  · exact pk_us
  · exact fun _ => pk_us
  · exact fun e => absurd (show 8 ≤ 6 from e) (by decide)
  · rw [pk_us, zn_shl r hr]; rfl
  · exact zl_h_push hY.2.1.2.2.2.2.1
theorem zl_2 {l : List Nat} (h : 2 ≤ l.length) : ∃ b a l0, l = b :: a :: l0 := by
  cases l with
  | nil => exact absurd h (by show ¬ 2 ≤ 0; omega)
  | cons b l =>
    cases l with
    | nil => exact absurd h (by show ¬ 2 ≤ 1; omega)
    | cons a l => exact ⟨b, a, l, rfl⟩
theorem i_vc_apply {k : Nat} {u : SX} {v : SY} (I : i_Rel k u v) (hk : k + 4 ≤ 2048) (v1 : Int32) : wpX_apply (fun r u' => wpY_apply (fun r' v' => r' = r ∧ i_Rel (k + 4) u' v') v v1) u v1 := by
  refine zz_el (P := fun u v => wpX_apply (fun r u' => wpY_apply (fun r' v' => r' = r ∧ i_Rel (k + 4) u' v') v v1) u v1) I ?_
  intro S T nS nT ts ss ρ π stp o f_compiled f_codeSize f_wordCount f_works f_procedure f_at f_inside f_ahead f_undoing f_outcomeThen f_calls f_state a_termKind a_termA a_termB a_termNumber a_registersIn a_termStack a_kind a_register a_number a_partA a_partB a_testX a_testY a_size a_stack a_code a_first a_second a_codeX a_codeY a_partner a_other a_begin a_end a_word a_wordNumber a_constant a_folded a_work a_workOn a_openAt a_middleAt a_placeX a_placeY a_todo a_value a_held a_operand a_callAt a_callIn g_oldHigh g_open g_next g_back g_calls b_sorts b_regs b_numbers b_firsts b_seconds b_tests b_exits b_sizes b_kinds b_lefts b_rights b_masks b_counts b_values b_stack b_pieces b_registers b_pile b_oldRegisters b_oldPile b_openNode b_openPart b_openBack hG hX hY
  have hR : i_Rel (k + 4) (nI (nT 3), nI ts.length, nI (nS 3), nI ss.length, f_compiled, f_codeSize, f_wordCount, f_works, f_procedure, nI π.length, f_at, f_inside, f_ahead, f_undoing, f_outcomeThen, f_calls, f_state, o, nI stp, a_termKind, a_termA, a_termB, a_termNumber, a_registersIn, a_termStack, a_kind, a_register, a_number, a_partA, a_partB, a_testX, a_testY, a_size, a_stack, a_code, a_first, a_second, a_codeX, a_codeY, a_partner, a_other, a_begin, a_end, a_word, a_wordNumber, a_constant, a_folded, a_work, a_workOn, a_openAt, a_middleAt, a_placeX, a_placeY, a_todo, a_value, a_held, a_operand, a_callAt, a_callIn) (nI ss.length, nI ts.length, nI π.length, g_oldHigh, g_open, g_next, g_back, g_calls, o, nI stp, b_sorts, b_regs, b_numbers, b_firsts, b_seconds, b_tests, b_exits, b_sizes, b_kinds, b_lefts, b_rights, b_masks, b_counts, b_values, b_stack, b_pieces, b_registers, b_pile, b_oldRegisters, b_oldPile, b_openNode, b_openPart, b_openBack) := zz_R hG hX hY
  have h24 : ∀ g, g < 4 → nT g ≤ 24 := fun g hg => (hG.1 g hg).2.1
  have h24' := h24 3 (by omega)
  have hct : b_counts 3 = nI (nT 3) := hY.2.1.2.2.2.1
  have hlen : ts.length ≤ nT 3 := hG.2.2.1.2.2.1
  unfold wpX_apply
  refine br_c (fun h1 => ?_) (fun h1 => br_c (fun h2 => ?_) (fun h2 => ?_))
  · unfold wpY_apply; exact br_t h1 ⟨rfl, hR⟩
  · by_cases h : nT 3 = 24
    · refine br_t (by rw [h]; rfl) ?_
      unfold wpY_apply
      exact br_f h1 (br_t h2 (br_t (by rw [hct, h]; rfl) ⟨rfl, hR⟩))
    refine br_f (zn_ne (b := 24) (by omega) (by omega) h) ?_
    by_cases hl : 2 ≤ ts.length
    · obtain ⟨op, hop, rfl⟩ := nI_of2 (n := 6) (by decide) h1 h2
      obtain ⟨b, a, l, rfl⟩ := zl_2 hl
      have hlt := hG.2.2.1.1
      obtain ⟨hbl, hal, hll⟩ := hlt
      have hsum : zt_s (T 3) b + (zt_s (T 3) a + zl_s (zt_s (T 3)) l) ≤ nT 3 := hG.2.2.1.2.2.2.2.1
      have hlen' : l.length + 2 ≤ nT 3 := hlen
      have hst := hX.2.1.2.2.2.2.1
      have hsy := hY.2.1.2.2.2.2.1
      obtain ⟨x1, x2, x3⟩ := hst
      obtain ⟨y1, y2, y3⟩ := hsy
      have ra := hX.2.1.2.1 a hal
      have rb := hX.2.1.2.1 b hbl
      have sa := hY.2.1.2.1 a hal
      have sb := hY.2.1.2.1 b hbl
      have oka := (hG.1 3 (by omega)).2.2.2 a hal
      have okb := (hG.1 3 (by omega)).2.2.2 b hbl
      have hm : zt_m (T 3) a ||| zt_m (T 3) b < 64 := Nat.or_lt_two_pow (n := 6) oka.2.2.2.2.2.2.2.1 okb.2.2.2.2.2.2.2.1
      refine br_t (nI_le (a := 2) hl (by omega)) (zx_mt2 (h := l.length) (a := a) (b := b) (by omega) (by omega) hop x2 x1 (by omega) (by omega) ra rb hm ?_)
      dsimp only
      unfold wpY_apply
      have e1 : nI (b :: a :: l).length - 2 = nI l.length := zn_sub2 l.length
      refine br_f h1 (br_t h2 (br_f (by rw [hct]; exact zn_ne (b := 24) (by omega) (by omega) h) (br_t (nI_le (a := 2) hl (by omega)) (nm_r e1 ?_))))
      have y1' : b_pieces (l.length + 1) = nI b := y1
      rw [nI_1 l.length, zn_c (by omega : l.length < 2 ^ 31), zn_c (by omega : l.length + 1 < 2 ^ 31), y1', y2]
      refine And.intro (vp_in_nI (by omega) (by omega)) (nm_e (And.intro (vp_in_nI (by omega) (by omega)) (nm_e ?_)))
      rw [zn_a72, zn_a72, zn_c (by omega : 72 + a < 2 ^ 31), zn_c (by omega : 72 + b < 2 ^ 31), sa, sb, zn_or]
      refine And.intro (vp_in_nI (by omega) (by omega)) (And.intro (vp_in_nI (by omega) (by omega)) (zy_pc1 (n := nT 3) (by omega) (by omega) hct ?_))
      refine ⟨rfl, zz_R (zi_G_term (new := zg_t op 0 a b (1 + zt_s (T 3) a + zt_s (T 3) b) (zt_m (T 3) a ||| zt_m (T 3) b)) (ts0 := l) hG (by omega) hll (by omega) ?_ ?_) (zi_X_term hX h24 ?_ ?_ ?_ ?_ ?_ ?_ ?_ ?_) (zi_Y_term hY h24 ?_ ?_ ?_ ?_ ?_ ?_ ?_)⟩
      · exact zt_new2 hop (by omega) (by omega) rfl (by omega) rfl hm
      · show 1 + zt_s (T 3) a + zt_s (T 3) b + zl_s (zt_s (T 3)) l ≤ zt_s (T 3) b + (zt_s (T 3) a + zl_s (zt_s (T 3)) l) + 1; omega
      · exact fun j hj => ⟨pk_un hj, pk_un hj, pk_un hj, pk_un hj⟩
      · exact fun j hj => pk_un hj
      · exact pk_us
      · exact fun e => absurd (show 7 ≤ op from e) (by omega)
      · exact fun _ => ⟨pk_us, pk_us⟩
      · rw [pk_us, pk_us]; exact ⟨vp_in_nI (by omega) (by decide), vp_in_nI (by omega) (by decide)⟩
      · exact pk_us
      · exact zl_h_push x3
      · exact fun j hj => ⟨pk_un hj, pk_un hj, pk_un hj⟩
      · exact fun j hj => pk_un hj
      · exact pk_us
      · exact fun e => absurd (show 7 ≤ op from e) (by omega)
      · exact fun _ => ⟨pk_us, pk_us⟩
      · exact pk_us
      · exact zl_h_push y3
    · refine br_f (nI_ge (b := 2) (by omega) (by omega)) ?_
      unfold wpY_apply
      exact br_f h1 (br_t h2 (br_f (by rw [hct]; exact zn_ne (b := 24) (by omega) (by omega) h) (br_f (nI_ge (b := 2) (by omega) (by omega)) ⟨rfl, hR⟩)))
  · unfold wpY_apply; exact br_f h1 (br_f h2 ⟨rfl, hR⟩)
end
section
/-! ===== statements: make on both sides ===== -/
theorem zn_z0 : vp_nar .byte (0 : Int32) = 0 := zn_vb (n := 0) (by decide)
section
variable {f_terms f_termHeight f_made f_height f_compiled f_codeSize f_wordCount f_works f_procedure f_high f_at f_inside f_ahead f_undoing f_outcomeThen f_calls f_state f_last f_stepCount : Int32} {a_termKind a_termA a_termB a_termNumber a_registersIn a_termStack a_kind a_register a_number a_partA a_partB a_testX a_testY a_size a_stack a_code a_first a_second a_codeX a_codeY a_partner a_other a_begin a_end a_word a_wordNumber a_constant a_folded a_work a_workOn a_openAt a_middleAt a_placeX a_placeY a_todo a_value a_held a_operand a_callAt a_callIn : Nat → Int32}
theorem zx_mk0 {post : Int32 → SX → Prop} {n h k : Nat} {p1 p2 : Int32} (hn : n < 16) (hh : h < 16) (hk : k < 128)
    (H : post (nI (h + 1)) (f_terms, f_termHeight, nI (n + 1), nI (h + 1), f_compiled, f_codeSize, f_wordCount, f_works, f_procedure, f_high, f_at, f_inside, f_ahead, f_undoing, f_outcomeThen, f_calls, f_state, f_last, f_stepCount, a_termKind, a_termA, a_termB, a_termNumber, a_registersIn, a_termStack, upd a_kind (48 + n) (nI k), upd a_register (48 + n) (vp_nar .byte p1.toInt8.toInt32), upd a_number (48 + n) (vp_nar .byte p2.toInt8.toInt32), upd a_partA (48 + n) 0, upd a_partB (48 + n) 0, a_testX, a_testY, a_size, upd a_stack h (nI n), a_code, a_first, a_second, a_codeX, a_codeY, a_partner, a_other, a_begin, a_end, a_word, a_wordNumber, a_constant, a_folded, a_work, a_workOn, a_openAt, a_middleAt, a_placeX, a_placeY, a_todo, a_value, a_held, a_operand, a_callAt, a_callIn)) :
    wpX_make post (f_terms, f_termHeight, nI n, nI h, f_compiled, f_codeSize, f_wordCount, f_works, f_procedure, f_high, f_at, f_inside, f_ahead, f_undoing, f_outcomeThen, f_calls, f_state, f_last, f_stepCount, a_termKind, a_termA, a_termB, a_termNumber, a_registersIn, a_termStack, a_kind, a_register, a_number, a_partA, a_partB, a_testX, a_testY, a_size, a_stack, a_code, a_first, a_second, a_codeX, a_codeY, a_partner, a_other, a_begin, a_end, a_word, a_wordNumber, a_constant, a_folded, a_work, a_workOn, a_openAt, a_middleAt, a_placeX, a_placeY, a_todo, a_value, a_held, a_operand, a_callAt, a_callIn) (nI k) p1 p2 0 := by
  have hin : vp_in (nI (48 + n)) 64 := vp_in_nI (by omega) (by omega)
  unfold wpX_make
  dsimp only
  refine nm_r (zn_a48 n) (nm_r (zn_sub0 h) ?_)
  unfold wX_make_71 wX_make_98
  rw [zn_c (by omega : 48 + n < 2 ^ 31), zn_vbb hk, zn_z0, zn_c (by omega : h < 2 ^ 31), zn_vbb (by omega : n < 128)]
  refine And.intro hin (nm_e (And.intro hin (nm_e (And.intro hin (nm_e (br_t (by decide) (And.intro hin (nm_e (br_t (by decide) ?_)))))))))
  exact And.intro hin (nm_e (And.intro (vp_in_nI hh (by omega)) (nm_e (nm_r (nI_1 h) (nm_r (nI_1 n) H)))))
theorem zx_mk2 {post : Int32 → SX → Prop} {n h k a b : Nat} {p1 p2 : Int32} (hn : n < 16) (hh : h + 1 < 16) (hk : k < 128) (ha : a_stack h = nI a) (hb : a_stack (h + 1) = nI b) (ha2 : a < 16) (hb2 : b < 16)
    (H : post (nI (h + 1)) (f_terms, f_termHeight, nI (n + 1), nI (h + 1), f_compiled, f_codeSize, f_wordCount, f_works, f_procedure, f_high, f_at, f_inside, f_ahead, f_undoing, f_outcomeThen, f_calls, f_state, f_last, f_stepCount, a_termKind, a_termA, a_termB, a_termNumber, a_registersIn, a_termStack, upd a_kind (48 + n) (nI k), upd a_register (48 + n) (vp_nar .byte p1.toInt8.toInt32), upd a_number (48 + n) (vp_nar .byte p2.toInt8.toInt32), upd a_partA (48 + n) (nI a), upd a_partB (48 + n) (nI b), a_testX, a_testY, a_size, upd a_stack h (nI n), a_code, a_first, a_second, a_codeX, a_codeY, a_partner, a_other, a_begin, a_end, a_word, a_wordNumber, a_constant, a_folded, a_work, a_workOn, a_openAt, a_middleAt, a_placeX, a_placeY, a_todo, a_value, a_held, a_operand, a_callAt, a_callIn)) :
    wpX_make post (f_terms, f_termHeight, nI n, nI (h + 2), f_compiled, f_codeSize, f_wordCount, f_works, f_procedure, f_high, f_at, f_inside, f_ahead, f_undoing, f_outcomeThen, f_calls, f_state, f_last, f_stepCount, a_termKind, a_termA, a_termB, a_termNumber, a_registersIn, a_termStack, a_kind, a_register, a_number, a_partA, a_partB, a_testX, a_testY, a_size, a_stack, a_code, a_first, a_second, a_codeX, a_codeY, a_partner, a_other, a_begin, a_end, a_word, a_wordNumber, a_constant, a_folded, a_work, a_workOn, a_openAt, a_middleAt, a_placeX, a_placeY, a_todo, a_value, a_held, a_operand, a_callAt, a_callIn) (nI k) p1 p2 2 := by
  have hin : vp_in (nI (48 + n)) 64 := vp_in_nI (by omega) (by omega)
  unfold wpX_make
  dsimp only
  refine nm_r (zn_a48 n) (nm_r (zn_sub2 h) ?_)
  unfold wX_make_71 wX_make_98
  rw [zn_c (by omega : 48 + n < 2 ^ 31), zn_vbb hk, zn_c (by omega : h < 2 ^ 31), ha, zn_vbb (by omega : n < 128), zn_vb (by omega : a < 128), nI_1 h, zn_c (by omega : h + 1 < 2 ^ 31), hb, zn_vb (by omega : b < 128)]
  refine And.intro hin (nm_e (And.intro hin (nm_e (And.intro hin (nm_e (br_f (by decide) (And.intro (vp_in_nI (by omega) (by omega)) (And.intro hin (nm_e (br_f (by decide) (And.intro (vp_in_nI (by omega) (by omega)) ?_)))))))))))
  exact And.intro hin (nm_e (And.intro (vp_in_nI (by omega) (by omega)) (nm_e (nm_e (nm_r (nI_1 n) H)))))
theorem zi_X_stmt {S T : Nat → Nat → Nat → Nat} {nS nT : Nat → Nat} {ts ss ts0 ss0 : List Nat} {ρ : Nat → Int32} {π : List Int32} {stp : Nat} {o : Int32} {new : Nat → Nat} {kd' rg' nu' pa' pb' tx' ty' st' : Nat → Int32} (hX : zi_X S T nS nT ts ss ρ π stp o (f_terms, f_termHeight, f_made, f_height, f_compiled, f_codeSize, f_wordCount, f_works, f_procedure, f_high, f_at, f_inside, f_ahead, f_undoing, f_outcomeThen, f_calls, f_state, f_last, f_stepCount, a_termKind, a_termA, a_termB, a_termNumber, a_registersIn, a_termStack, a_kind, a_register, a_number, a_partA, a_partB, a_testX, a_testY, a_size, a_stack, a_code, a_first, a_second, a_codeX, a_codeY, a_partner, a_other, a_begin, a_end, a_word, a_wordNumber, a_constant, a_folded, a_work, a_workOn, a_openAt, a_middleAt, a_placeX, a_placeY, a_todo, a_value, a_held, a_operand, a_callAt, a_callIn)) (h16 : ∀ g, g < 4 → nS g ≤ 16)
    (e : ∀ j, j ≠ 48 + nS 3 → kd' j = a_kind j ∧ rg' j = a_register j ∧ nu' j = a_number j ∧ pa' j = a_partA j ∧ pb' j = a_partB j ∧ tx' j = a_testX j ∧ ty' j = a_testY j)
    (h0 : kd' (48 + nS 3) = nI (new 0)) (h1 : (1 ≤ new 0 ∧ new 0 ≤ 3) ∨ (6 ≤ new 0 ∧ new 0 ≤ 8) → rg' (48 + nS 3) = nI (new 1)) (h2 : new 0 = 1 ∨ new 0 = 4 ∨ new 0 = 5 → nu' (48 + nS 3) = nI (new 2))
    (h5 : (6 ≤ new 0 ∧ new 0 ≤ 9) ∨ 11 ≤ new 0 → tx' (48 + nS 3) = nI (new 5)) (h6 : 11 ≤ new 0 → ty' (48 + nS 3) = nI (new 6)) (h3 : 10 ≤ new 0 → pa' (48 + nS 3) = nI (new 3) ∧ pb' (48 + nS 3) = nI (new 4))
    (hts0 : zl_h a_termStack ts0) (hst : zl_h st' (nS 3 :: ss0)) :
    zi_X (zg_set S 3 (zg_add (S 3) (nS 3) new)) T (zg_set nS 3 (nS 3 + 1)) nT ts0 (nS 3 :: ss0) ρ π stp o (f_terms, nI ts0.length, nI (nS 3 + 1), nI (ss0.length + 1), f_compiled, f_codeSize, f_wordCount, f_works, f_procedure, f_high, f_at, f_inside, f_ahead, f_undoing, f_outcomeThen, f_calls, f_state, f_last, f_stepCount, a_termKind, a_termA, a_termB, a_termNumber, a_registersIn, a_termStack, kd', rg', nu', pa', pb', tx', ty', a_size, st', a_code, a_first, a_second, a_codeX, a_codeY, a_partner, a_other, a_begin, a_end, a_word, a_wordNumber, a_constant, a_folded, a_work, a_workOn, a_openAt, a_middleAt, a_placeX, a_placeY, a_todo, a_value, a_held, a_operand, a_callAt, a_callIn) := by
  obtain ⟨⟨hf1, hf2, hf3, hf4, hf5, hf6, hf7⟩, ⟨hM, hmk, hr, hsz, hts, hss⟩, hcomp, hv, hh⟩ := hX
  refine ⟨⟨hf1, rfl, by rw [zg_s], rfl, hf5, hf6, hf7⟩, ⟨fun g hg => ⟨(hM g hg).1, zi_SY_add (fun g hg => (hM g hg).2) h16 e h0 h1 h2 h5 h6 h3 g hg⟩, hmk, hr, fun g hg => ?_, hts0, hst⟩, ?_, hv, hh⟩
  · rw [zg_n (by omega)]; exact hsz g hg
  · rcases hcomp with h | ⟨h, wc, h2, h3⟩
    · exact Or.inl h
    · exact Or.inr ⟨h, wc, h2, zc_all_cong (fun p hp => ⟨zg_n (by omega), rfl, zg_n (by omega)⟩) h3⟩
end
section
variable {g_depth g_pieceDepth g_high g_oldHigh g_open g_next g_back g_calls g_end g_steps : Int32} {b_sorts b_regs b_numbers b_firsts b_seconds b_tests b_exits b_sizes b_kinds b_lefts b_rights b_masks b_counts b_values b_stack b_pieces b_registers b_pile b_oldRegisters b_oldPile b_openNode b_openPart b_openBack : Nat → Int32}
theorem zy_mk {post : Int32 → SY → Prop} {n h : Nat} {k r m : Int32} (hn : n < 16) (hh : h < 16) (hc : b_sizes 3 = nI n)
    (H : post (nI (h + 1)) (nI (h + 1), g_pieceDepth, g_high, g_oldHigh, g_open, g_next, g_back, g_calls, g_end, g_steps, upd b_sorts (48 + n) k, upd b_regs (48 + n) r, upd b_numbers (48 + n) m, b_firsts, b_seconds, b_tests, b_exits, upd b_sizes 3 (nI (n + 1)), b_kinds, b_lefts, b_rights, b_masks, b_counts, b_values, upd b_stack h (nI n), b_pieces, b_registers, b_pile, b_oldRegisters, b_oldPile, b_openNode, b_openPart, b_openBack)) :
    wpY_make post (nI h, g_pieceDepth, g_high, g_oldHigh, g_open, g_next, g_back, g_calls, g_end, g_steps, b_sorts, b_regs, b_numbers, b_firsts, b_seconds, b_tests, b_exits, b_sizes, b_kinds, b_lefts, b_rights, b_masks, b_counts, b_values, b_stack, b_pieces, b_registers, b_pile, b_oldRegisters, b_oldPile, b_openNode, b_openPart, b_openBack) k r m := by
  have hin : vp_in (nI (48 + n)) 64 := vp_in_nI (by omega) (by omega)
  unfold wpY_make
  dsimp only
  rw [hc, zn_a48 n, nI_1 n]
  refine nm_e ?_
  rw [zn_c (by omega : 48 + n < 2 ^ 31), zn_c (by omega : h < 2 ^ 31)]
  exact And.intro hin (nm_e (And.intro hin (nm_e (And.intro hin (nm_e (And.intro (vp_in_nI hh (by omega)) (nm_e (nm_r (nI_1 h) (nm_e H)))))))))
theorem zi_Y_stmt {S T : Nat → Nat → Nat → Nat} {nS nT : Nat → Nat} {ts ss ts0 ss0 : List Nat} {ρ : Nat → Int32} {π : List Int32} {stp : Nat} {o : Int32} {new : Nat → Nat} {so' re' nu' fi' se' te' ex' st' : Nat → Int32} (hY : zi_Y S T nS nT ts ss ρ π stp o (g_depth, g_pieceDepth, g_high, g_oldHigh, g_open, g_next, g_back, g_calls, g_end, g_steps, b_sorts, b_regs, b_numbers, b_firsts, b_seconds, b_tests, b_exits, b_sizes, b_kinds, b_lefts, b_rights, b_masks, b_counts, b_values, b_stack, b_pieces, b_registers, b_pile, b_oldRegisters, b_oldPile, b_openNode, b_openPart, b_openBack)) (h16 : ∀ g, g < 4 → nS g ≤ 16)
    (e : ∀ j, j ≠ 48 + nS 3 → so' j = b_sorts j ∧ re' j = b_regs j ∧ nu' j = b_numbers j ∧ fi' j = b_firsts j ∧ se' j = b_seconds j ∧ te' j = b_tests j ∧ ex' j = b_exits j)
    (h0 : so' (48 + nS 3) = nI (new 0)) (h1 : (1 ≤ new 0 ∧ new 0 ≤ 3) ∨ (6 ≤ new 0 ∧ new 0 ≤ 8) → re' (48 + nS 3) = nI (new 1)) (h2 : new 0 = 1 ∨ new 0 = 4 ∨ new 0 = 5 → nu' (48 + nS 3) = nI (new 2))
    (h5 : (6 ≤ new 0 ∧ new 0 ≤ 9) ∨ 11 ≤ new 0 → te' (48 + nS 3) = nI (new 5)) (h6 : 11 ≤ new 0 → ex' (48 + nS 3) = nI (new 6)) (h3 : 10 ≤ new 0 → fi' (48 + nS 3) = nI (new 3) ∧ se' (48 + nS 3) = nI (new 4))
    (hts0 : zl_h b_pieces ts0) (hst : zl_h st' (nS 3 :: ss0)) :
    zi_Y (zg_set S 3 (zg_add (S 3) (nS 3) new)) T (zg_set nS 3 (nS 3 + 1)) nT ts0 (nS 3 :: ss0) ρ π stp o (nI (ss0.length + 1), nI ts0.length, g_high, g_oldHigh, g_open, g_next, g_back, g_calls, g_end, g_steps, so', re', nu', fi', se', te', ex', upd b_sizes 3 (nI (nS 3 + 1)), b_kinds, b_lefts, b_rights, b_masks, b_counts, b_values, st', b_pieces, b_registers, b_pile, b_oldRegisters, b_oldPile, b_openNode, b_openPart, b_openBack) := by
  obtain ⟨⟨hf1, hf2, hf3, hf4, hf5⟩, ⟨hM, hmk, hsz, hct, hts, hss⟩, hv, hh⟩ := hY
  refine ⟨⟨rfl, rfl, hf3, hf4, hf5⟩, ⟨fun g hg => ⟨(hM g hg).1, zi_SY_add (fun g hg => (hM g hg).2) h16 e h0 h1 h2 h5 h6 h3 g hg⟩, hmk, fun g hg => ?_, hct, hts0, hst⟩, hv, hh⟩
  by_cases e3 : g = 3
  · subst e3; rw [pk_us, zg_s]
  · rw [pk_un e3, zg_n e3]; exact hsz g hg
end
section
variable {Sr T : Nat → Nat → Nat} {n nT k r m a b x y : Nat}
theorem zs_new0 (hk : k ≤ 5) (h1 : 1 ≤ k ∧ k ≤ 3 → r < 6) (h2 : k = 1 → m < 6) (h3 : k = 4 ∨ k = 5 → m < 3) : zs_ok1 (zg_add Sr n (zg_st k r m 0 0 0 0 1 1 0)) T nT n := by
  have k0 : zs_k (zg_add Sr n (zg_st k r m 0 0 0 0 1 1 0)) n = k := zg_as 0
  have k1 : zs_r (zg_add Sr n (zg_st k r m 0 0 0 0 1 1 0)) n = r := zg_as 1
  have k2 : zs_n (zg_add Sr n (zg_st k r m 0 0 0 0 1 1 0)) n = m := zg_as 2
  have k7 : zs_L (zg_add Sr n (zg_st k r m 0 0 0 0 1 1 0)) n = 1 := zg_as 7
  have k8 : zs_I (zg_add Sr n (zg_st k r m 0 0 0 0 1 1 0)) n = 1 := zg_as 8
  unfold zs_ok1
  rw [k0, k1, k2, k7, k8]
  exact ⟨by omega, fun e => h1 (by omega), h2, h3, fun e => absurd e (by omega), fun e => absurd e (by omega), fun e => absurd e (by omega), fun e => absurd e (by omega), fun _ => ⟨rfl, rfl⟩, fun e => absurd e (by omega), fun e => absurd e (by omega),
    fun e => absurd e (by omega), fun e => absurd e (by omega), fun e => absurd e (by omega), by omega, by omega⟩
theorem zs_newU (hk : 6 ≤ k ∧ k ≤ 9) (h1 : k ≤ 8 → r < 6 ∧ (zt_m T x).testBit r = false) (hx : x < nT) : zs_ok1 (zg_add Sr n (zg_st k r m 0 0 x 0 1 1 (zt_s T x + 1))) T nT n := by
  have k0 : zs_k (zg_add Sr n (zg_st k r m 0 0 x 0 1 1 (zt_s T x + 1))) n = k := zg_as 0
  have k1 : zs_r (zg_add Sr n (zg_st k r m 0 0 x 0 1 1 (zt_s T x + 1))) n = r := zg_as 1
  have k5 : zs_x (zg_add Sr n (zg_st k r m 0 0 x 0 1 1 (zt_s T x + 1))) n = x := zg_as 5
  have k7 : zs_L (zg_add Sr n (zg_st k r m 0 0 x 0 1 1 (zt_s T x + 1))) n = 1 := zg_as 7
  have k8 : zs_I (zg_add Sr n (zg_st k r m 0 0 x 0 1 1 (zt_s T x + 1))) n = 1 := zg_as 8
  have k9 : zs_W (zg_add Sr n (zg_st k r m 0 0 x 0 1 1 (zt_s T x + 1))) n = zt_s T x + 1 := zg_as 9
  unfold zs_ok1
  rw [k0, k1, k5, k7, k8, k9]
  exact ⟨by omega, fun e => (h1 (by omega)).1, fun e => absurd e (by omega), fun e => absurd e (by omega), fun e => hx, fun e => (h1 (by omega)).2, fun e => absurd e (by omega), fun e => absurd e (by omega), fun _ => ⟨rfl, rfl⟩, fun e => absurd e (by omega), fun e => absurd e (by omega),
    fun e => absurd e (by omega), fun e => absurd e (by omega), fun e => rfl, by omega, by omega⟩
theorem zs_newS (ha : a < n) (hb : b < n) (hpa : 1 ≤ zs_L Sr a) : zs_ok1 (zg_add Sr n (zg_st 10 0 0 a b 0 0 (zs_L Sr a + zs_L Sr b) (1 + zs_I Sr a + zs_I Sr b) (zs_W Sr a + zs_W Sr b))) T nT n := by
  generalize hnew : zg_st 10 0 0 a b 0 0 (zs_L Sr a + zs_L Sr b) (1 + zs_I Sr a + zs_I Sr b) (zs_W Sr a + zs_W Sr b) = new
  have k0 : zs_k (zg_add Sr n new) n = 10 := by show zg_add Sr n new 0 n = 10; rw [zg_as, ← hnew]; rfl
  have k3 : zs_a (zg_add Sr n new) n = a := by show zg_add Sr n new 3 n = a; rw [zg_as, ← hnew]; rfl
  have k4 : zs_b (zg_add Sr n new) n = b := by show zg_add Sr n new 4 n = b; rw [zg_as, ← hnew]; rfl
  have k7 : zs_L (zg_add Sr n new) n = zs_L Sr a + zs_L Sr b := by show zg_add Sr n new 7 n = _; rw [zg_as, ← hnew]; rfl
  have k8 : zs_I (zg_add Sr n new) n = 1 + zs_I Sr a + zs_I Sr b := by show zg_add Sr n new 8 n = _; rw [zg_as, ← hnew]; rfl
  have k9 : zs_W (zg_add Sr n new) n = zs_W Sr a + zs_W Sr b := by show zg_add Sr n new 9 n = _; rw [zg_as, ← hnew]; rfl
  have a7 : zs_L (zg_add Sr n new) a = zs_L Sr a := zg_an 7 (by omega)
  have b7 : zs_L (zg_add Sr n new) b = zs_L Sr b := zg_an 7 (by omega)
  have a8 : zs_I (zg_add Sr n new) a = zs_I Sr a := zg_an 8 (by omega)
  have b8 : zs_I (zg_add Sr n new) b = zs_I Sr b := zg_an 8 (by omega)
  have a9 : zs_W (zg_add Sr n new) a = zs_W Sr a := zg_an 9 (by omega)
  have b9 : zs_W (zg_add Sr n new) b = zs_W Sr b := zg_an 9 (by omega)
  unfold zs_ok1
  rw [k0, k3, k4, k7, k8, k9, a7, b7, a8, b8, a9, b9]
  exact ⟨by omega, fun e => absurd e (by omega), fun e => absurd e (by omega), fun e => absurd e (by omega), fun e => absurd e (by omega), fun e => absurd e (by omega), fun e => ⟨ha, hb⟩, fun e => absurd e (by omega), fun e => absurd e (by omega), fun e => ⟨rfl, rfl, rfl⟩, fun e => absurd e (by omega),
    fun e => absurd e (by omega), fun e => absurd e (by omega), fun e => absurd e (by omega), by omega, by omega⟩
theorem zs_newT (hk : k = 11 ∨ k = 12) (ha : a < n) (hb : b < n) (hx : x < nT) (hy : y < nT) :
    zs_ok1 (zg_add Sr n (zg_st k 0 0 a b x y ((if k = 11 then 4 else 3) + zs_L Sr a + zs_L Sr b) (3 + zs_I Sr a + zs_I Sr b) (zt_s T x + zt_s T y + 2 + zs_W Sr a + zs_W Sr b))) T nT n := by
  generalize hnew : zg_st k 0 0 a b x y ((if k = 11 then 4 else 3) + zs_L Sr a + zs_L Sr b) (3 + zs_I Sr a + zs_I Sr b) (zt_s T x + zt_s T y + 2 + zs_W Sr a + zs_W Sr b) = new
  have k0 : zs_k (zg_add Sr n new) n = k := by show zg_add Sr n new 0 n = k; rw [zg_as, ← hnew]; rfl
  have k3 : zs_a (zg_add Sr n new) n = a := by show zg_add Sr n new 3 n = a; rw [zg_as, ← hnew]; rfl
  have k4 : zs_b (zg_add Sr n new) n = b := by show zg_add Sr n new 4 n = b; rw [zg_as, ← hnew]; rfl
  have k5 : zs_x (zg_add Sr n new) n = x := by show zg_add Sr n new 5 n = x; rw [zg_as, ← hnew]; rfl
  have k6 : zs_y (zg_add Sr n new) n = y := by show zg_add Sr n new 6 n = y; rw [zg_as, ← hnew]; rfl
  have k7 : zs_L (zg_add Sr n new) n = (if k = 11 then 4 else 3) + zs_L Sr a + zs_L Sr b := by show zg_add Sr n new 7 n = _; rw [zg_as, ← hnew]; rfl
  have k8 : zs_I (zg_add Sr n new) n = 3 + zs_I Sr a + zs_I Sr b := by show zg_add Sr n new 8 n = _; rw [zg_as, ← hnew]; rfl
  have k9 : zs_W (zg_add Sr n new) n = zt_s T x + zt_s T y + 2 + zs_W Sr a + zs_W Sr b := by show zg_add Sr n new 9 n = _; rw [zg_as, ← hnew]; rfl
  have a7 : zs_L (zg_add Sr n new) a = zs_L Sr a := zg_an 7 (by omega)
  have b7 : zs_L (zg_add Sr n new) b = zs_L Sr b := zg_an 7 (by omega)
  have a8 : zs_I (zg_add Sr n new) a = zs_I Sr a := zg_an 8 (by omega)
  have b8 : zs_I (zg_add Sr n new) b = zs_I Sr b := zg_an 8 (by omega)
  have a9 : zs_W (zg_add Sr n new) a = zs_W Sr a := zg_an 9 (by omega)
  have b9 : zs_W (zg_add Sr n new) b = zs_W Sr b := zg_an 9 (by omega)
  unfold zs_ok1
  rw [k0, k3, k4, k5, k6, k7, k8, k9, a7, b7, a8, b8, a9, b9]
  exact ⟨by omega, fun e => absurd e (by omega), fun e => absurd e (by omega), fun e => absurd e (by omega), fun e => absurd e (by omega), fun e => absurd e (by omega), fun e => ⟨ha, hb⟩, fun e => ⟨hx, hy⟩, fun e => absurd e (by omega), fun e => absurd e (by omega), fun e => by rw [if_pos e],
    fun e => by rw [if_neg (by omega)], fun e => ⟨rfl, rfl⟩, fun e => absurd e (by omega), by omega, by split <;> omega⟩
end
end
section
/-! ===== the owed: simple ===== -/
theorem zn_5lt {x : Int32} (hx : nI 6 ≤ x) : 5 < x := by
  rw [Int32.le_iff_toInt_le] at hx
  rw [Int32.lt_iff_toInt_lt]
  have e1 : (nI 6).toInt = 6 := by decide
  have e2 : (5 : Int32).toInt = 5 := by decide
  omega
section
variable {f_terms f_termHeight f_made f_height f_compiled f_codeSize f_wordCount f_works f_procedure f_high f_at f_inside f_ahead f_undoing f_outcomeThen f_calls f_state f_last f_stepCount : Int32} {a_termKind a_termA a_termB a_termNumber a_registersIn a_termStack a_kind a_register a_number a_partA a_partB a_testX a_testY a_size a_stack a_code a_first a_second a_codeX a_codeY a_partner a_other a_begin a_end a_word a_wordNumber a_constant a_folded a_work a_workOn a_openAt a_middleAt a_placeX a_placeY a_todo a_value a_held a_operand a_callAt a_callIn : Nat → Int32}
theorem zx_84 {post : Int32 → SX → Prop} {n h k : Nat} {v2 v3 p1 p2 : Int32} {b4 b5 : Bool} (hn : n ≤ 16) (hh : h ≤ n) (hop : k ≤ 5) (e1 : p1 = if b4 then v2 else 0) (e2 : p2 = if k = 1 then v3 else if b5 then v3 else 0)
    (h16 : n = 16 → post (-2) (f_terms, f_termHeight, nI n, nI h, f_compiled, f_codeSize, f_wordCount, f_works, f_procedure, f_high, f_at, f_inside, f_ahead, f_undoing, f_outcomeThen, f_calls, f_state, f_last, f_stepCount, a_termKind, a_termA, a_termB, a_termNumber, a_registersIn, a_termStack, a_kind, a_register, a_number, a_partA, a_partB, a_testX, a_testY, a_size, a_stack, a_code, a_first, a_second, a_codeX, a_codeY, a_partner, a_other, a_begin, a_end, a_word, a_wordNumber, a_constant, a_folded, a_work, a_workOn, a_openAt, a_middleAt, a_placeX, a_placeY, a_todo, a_value, a_held, a_operand, a_callAt, a_callIn)) (H : n < 16 → post (nI (h + 1)) (f_terms, f_termHeight, nI (n + 1), nI (h + 1), f_compiled, f_codeSize, f_wordCount, f_works, f_procedure, f_high, f_at, f_inside, f_ahead, f_undoing, f_outcomeThen, f_calls, f_state, f_last, f_stepCount, a_termKind, a_termA, a_termB, a_termNumber, a_registersIn, a_termStack, upd a_kind (48 + n) (nI k), upd a_register (48 + n) (vp_nar .byte p1.toInt8.toInt32), upd a_number (48 + n) (vp_nar .byte p2.toInt8.toInt32), upd a_partA (48 + n) 0, upd a_partB (48 + n) 0, a_testX, a_testY, a_size, upd a_stack h (nI n), a_code, a_first, a_second, a_codeX, a_codeY, a_partner, a_other, a_begin, a_end, a_word, a_wordNumber, a_constant, a_folded, a_work, a_workOn, a_openAt, a_middleAt, a_placeX, a_placeY, a_todo, a_value, a_held, a_operand, a_callAt, a_callIn)) : wX_simple_84 post (nI k) v2 v3 (zx_b b4) (zx_b b5) f_terms f_termHeight (nI n) (nI h) f_compiled f_codeSize f_wordCount f_works f_procedure f_high f_at f_inside f_ahead f_undoing f_outcomeThen f_calls f_state f_last f_stepCount a_termKind a_termA a_termB a_termNumber a_registersIn a_termStack a_kind a_register a_number a_partA a_partB a_testX a_testY a_size a_stack a_code a_first a_second a_codeX a_codeY a_partner a_other a_begin a_end a_word a_wordNumber a_constant a_folded a_work a_workOn a_openAt a_middleAt a_placeX a_placeY a_todo a_value a_held a_operand a_callAt a_callIn := by
  unfold wX_simple_84
  by_cases e : n = 16
  · exact br_t (by rw [e]; rfl) (h16 e)
  refine br_f (zn_ne (b := 16) (by omega) (by omega) e) ?_
  have H' := H (by omega)
  have fin : wX_simple_108 post (nI k) v3 (zx_b b5) p1 (nI k) f_terms f_termHeight (nI n) (nI h) f_compiled f_codeSize f_wordCount f_works f_procedure f_high f_at f_inside f_ahead f_undoing f_outcomeThen f_calls f_state f_last f_stepCount a_termKind a_termA a_termB a_termNumber a_registersIn a_termStack a_kind a_register a_number a_partA a_partB a_testX a_testY a_size a_stack a_code a_first a_second a_codeX a_codeY a_partner a_other a_begin a_end a_word a_wordNumber a_constant a_folded a_work a_workOn a_openAt a_middleAt a_placeX a_placeY a_todo a_value a_held a_operand a_callAt a_callIn := by
    unfold wX_simple_108 wX_simple_118 wX_simple_123
    by_cases hk : k = 1
    · rw [if_pos hk] at e2
      subst e2
      exact br_t (by rw [hk]; rfl) (zx_mk0 (by omega) (by omega) (by omega) H')
    · rw [if_neg hk] at e2
      refine br_f (zn_ne (b := 1) (by omega) (by omega) hk) ?_
      cases b5 with
      | false =>
        rw [if_neg (by decide)] at e2
        subst e2
        exact br_t rfl (zx_mk0 (by omega) (by omega) (by omega) H')
      | true =>
        rw [if_pos rfl] at e2
        subst e2
        exact br_f (by decide) (zx_mk0 (by omega) (by omega) (by omega) H')
  cases b4 with
  | false => rw [if_neg (by decide)] at e1; subst e1; exact br_t rfl fin
  | true => rw [if_pos rfl] at e1; subst e1; exact br_f (by decide) fin
theorem zx_32b {post : Int32 → SX → Prop} {x1 x2 x3 x4 z0 : Int32} (hx : x1 < 0 ∨ 5 < x1) (h : post (-1) (f_terms, f_termHeight, f_made, f_height, f_compiled, f_codeSize, f_wordCount, f_works, f_procedure, f_high, f_at, f_inside, f_ahead, f_undoing, f_outcomeThen, f_calls, f_state, f_last, f_stepCount, a_termKind, a_termA, a_termB, a_termNumber, a_registersIn, a_termStack, a_kind, a_register, a_number, a_partA, a_partB, a_testX, a_testY, a_size, a_stack, a_code, a_first, a_second, a_codeX, a_codeY, a_partner, a_other, a_begin, a_end, a_word, a_wordNumber, a_constant, a_folded, a_work, a_workOn, a_openAt, a_middleAt, a_placeX, a_placeY, a_todo, a_value, a_held, a_operand, a_callAt, a_callIn)) : wX_simple_32 post x1 x2 x3 x4 z0 f_terms f_termHeight f_made f_height f_compiled f_codeSize f_wordCount f_works f_procedure f_high f_at f_inside f_ahead f_undoing f_outcomeThen f_calls f_state f_last f_stepCount a_termKind a_termA a_termB a_termNumber a_registersIn a_termStack a_kind a_register a_number a_partA a_partB a_testX a_testY a_size a_stack a_code a_first a_second a_codeX a_codeY a_partner a_other a_begin a_end a_word a_wordNumber a_constant a_folded a_work a_workOn a_openAt a_middleAt a_placeX a_placeY a_todo a_value a_held a_operand a_callAt a_callIn := by
  unfold wX_simple_32
  rcases hx with hx | hx
  · exact br_t hx h
  · exact br_c (fun _ => h) (fun _ => br_t hx h)
theorem zx_sbad {post : Int32 → SX → Prop} {x1 x2 x3 : Int32} (hx : x1 < 0 ∨ 5 < x1) (h : post (-1) (f_terms, f_termHeight, f_made, f_height, f_compiled, f_codeSize, f_wordCount, f_works, f_procedure, f_high, f_at, f_inside, f_ahead, f_undoing, f_outcomeThen, f_calls, f_state, f_last, f_stepCount, a_termKind, a_termA, a_termB, a_termNumber, a_registersIn, a_termStack, a_kind, a_register, a_number, a_partA, a_partB, a_testX, a_testY, a_size, a_stack, a_code, a_first, a_second, a_codeX, a_codeY, a_partner, a_other, a_begin, a_end, a_word, a_wordNumber, a_constant, a_folded, a_work, a_workOn, a_openAt, a_middleAt, a_placeX, a_placeY, a_todo, a_value, a_held, a_operand, a_callAt, a_callIn)) : wpX_simple post (f_terms, f_termHeight, f_made, f_height, f_compiled, f_codeSize, f_wordCount, f_works, f_procedure, f_high, f_at, f_inside, f_ahead, f_undoing, f_outcomeThen, f_calls, f_state, f_last, f_stepCount, a_termKind, a_termA, a_termB, a_termNumber, a_registersIn, a_termStack, a_kind, a_register, a_number, a_partA, a_partB, a_testX, a_testY, a_size, a_stack, a_code, a_first, a_second, a_codeX, a_codeY, a_partner, a_other, a_begin, a_end, a_word, a_wordNumber, a_constant, a_folded, a_work, a_workOn, a_openAt, a_middleAt, a_placeX, a_placeY, a_todo, a_value, a_held, a_operand, a_callAt, a_callIn) x1 x2 x3 := by
  unfold wpX_simple wX_simple_14 wX_simple_15 wX_simple_27
  have p := fun z0 x4 => zx_32b (post := post) (x2 := x2) (x3 := x3) (z0 := z0) (x4 := x4) hx h
  exact br_c (fun _ => br_c (fun _ => p _ _) (fun _ => br_c (fun _ => p _ _) (fun _ => p _ _))) (fun _ => br_c (fun _ => br_c (fun _ => p _ _) (fun _ => br_c (fun _ => p _ _) (fun _ => p _ _))) (fun _ => br_c (fun _ => p _ _) (fun _ => br_c (fun _ => p _ _) (fun _ => p _ _))))
theorem zx_to32 {post : Int32 → SX → Prop} {k : Nat} {x2 x3 : Int32} (hk : k ≤ 5) (h : wX_simple_32 post (nI k) x2 x3 (zx_b (decide (1 ≤ k ∧ k ≤ 3))) (zx_b (decide (4 ≤ k))) f_terms f_termHeight f_made f_height f_compiled f_codeSize f_wordCount f_works f_procedure f_high f_at f_inside f_ahead f_undoing f_outcomeThen f_calls f_state f_last f_stepCount a_termKind a_termA a_termB a_termNumber a_registersIn a_termStack a_kind a_register a_number a_partA a_partB a_testX a_testY a_size a_stack a_code a_first a_second a_codeX a_codeY a_partner a_other a_begin a_end a_word a_wordNumber a_constant a_folded a_work a_workOn a_openAt a_middleAt a_placeX a_placeY a_todo a_value a_held a_operand a_callAt a_callIn) : wpX_simple post (f_terms, f_termHeight, f_made, f_height, f_compiled, f_codeSize, f_wordCount, f_works, f_procedure, f_high, f_at, f_inside, f_ahead, f_undoing, f_outcomeThen, f_calls, f_state, f_last, f_stepCount, a_termKind, a_termA, a_termB, a_termNumber, a_registersIn, a_termStack, a_kind, a_register, a_number, a_partA, a_partB, a_testX, a_testY, a_size, a_stack, a_code, a_first, a_second, a_codeX, a_codeY, a_partner, a_other, a_begin, a_end, a_word, a_wordNumber, a_constant, a_folded, a_work, a_workOn, a_openAt, a_middleAt, a_placeX, a_placeY, a_todo, a_value, a_held, a_operand, a_callAt, a_callIn) (nI k) x2 x3 := by
  unfold wpX_simple wX_simple_14 wX_simple_15 wX_simple_27
  rcases (show k = 0 ∨ k = 1 ∨ k = 2 ∨ k = 3 ∨ k = 4 ∨ k = 5 from by omega) with rfl | rfl | rfl | rfl | rfl | rfl
  · exact br_t (by decide) (br_f (by decide) (br_f (by decide) h))
  · exact br_f (by decide) (br_f (by decide) (br_f (by decide) (br_f (by decide) h)))
  · exact br_f (by decide) (br_f (by decide) (br_f (by decide) (br_f (by decide) h)))
  · exact br_f (by decide) (br_f (by decide) (br_f (by decide) (br_f (by decide) h)))
  · exact br_f (by decide) (br_t (by decide) (br_t rfl h))
  · exact br_f (by decide) (br_t (by decide) (br_f (by decide) (br_t rfl h)))
/-- the ways to -1 -/
theorem zx_sB {post : Int32 → SX → Prop} {k : Nat} {x2 x3 : Int32} (hk : k ≤ 5)
    (hb : ((1 ≤ k ∧ k ≤ 3) ∧ (x2 < 0 ∨ nI 6 ≤ x2)) ∨ (k = 1 ∧ (x3 < 0 ∨ nI 6 ≤ x3)) ∨ (4 ≤ k ∧ (x3 < 0 ∨ nI 3 ≤ x3))) (h : post (-1) (f_terms, f_termHeight, f_made, f_height, f_compiled, f_codeSize, f_wordCount, f_works, f_procedure, f_high, f_at, f_inside, f_ahead, f_undoing, f_outcomeThen, f_calls, f_state, f_last, f_stepCount, a_termKind, a_termA, a_termB, a_termNumber, a_registersIn, a_termStack, a_kind, a_register, a_number, a_partA, a_partB, a_testX, a_testY, a_size, a_stack, a_code, a_first, a_second, a_codeX, a_codeY, a_partner, a_other, a_begin, a_end, a_word, a_wordNumber, a_constant, a_folded, a_work, a_workOn, a_openAt, a_middleAt, a_placeX, a_placeY, a_todo, a_value, a_held, a_operand, a_callAt, a_callIn)) : wpX_simple post (f_terms, f_termHeight, f_made, f_height, f_compiled, f_codeSize, f_wordCount, f_works, f_procedure, f_high, f_at, f_inside, f_ahead, f_undoing, f_outcomeThen, f_calls, f_state, f_last, f_stepCount, a_termKind, a_termA, a_termB, a_termNumber, a_registersIn, a_termStack, a_kind, a_register, a_number, a_partA, a_partB, a_testX, a_testY, a_size, a_stack, a_code, a_first, a_second, a_codeX, a_codeY, a_partner, a_other, a_begin, a_end, a_word, a_wordNumber, a_constant, a_folded, a_work, a_workOn, a_openAt, a_middleAt, a_placeX, a_placeY, a_todo, a_value, a_held, a_operand, a_callAt, a_callIn) (nI k) x2 x3 := by
  refine zx_to32 hk ?_
  unfold wX_simple_32
  refine br_f (nI_pos (by omega)) (br_f (nI_nlt (a := 5) (by omega) (by omega)) ?_)
  by_cases hk13 : 1 ≤ k ∧ k ≤ 3
  · rw [decide_eq_true hk13]
    refine br_f (by decide) ?_
    rcases pk_ix x2 (n := 6) (by omega) with h1 | h1 | ⟨r, hr, rfl⟩
    · exact zx_brB (Or.inl h1) (br_f (by decide) h)
    · exact zx_brB (Or.inr h1) (br_f (by decide) h)
    refine zx_brG hr (br_t rfl ?_)
    unfold wX_simple_56
    rcases hb with ⟨_, hb⟩ | ⟨hk1, hb⟩ | ⟨h4, _⟩
    · rcases hb with hb | hb
      · exact absurd hb (nI_pos (by omega))
      · exact absurd hb (nI_ge hr (by omega))
    · subst hk1
      exact br_t rfl (zx_brB hb (br_f (by decide) h))
    · omega
  · rw [decide_eq_false hk13]
    refine br_t rfl ?_
    unfold wX_simple_56
    rcases hb with ⟨h13, _⟩ | ⟨hk1, _⟩ | ⟨h4, hb⟩
    · exact absurd h13 hk13
    · omega
    · refine br_f (zn_ne (b := 1) (by omega) (by omega) (by omega)) ?_
      unfold wX_simple_69
      rw [decide_eq_true h4]
      exact br_f (by decide) (zx_bpB hb (br_f (by decide) h))
theorem zx_sG {post : Int32 → SX → Prop} {n h k : Nat} {x2 x3 p1 p2 : Int32} (hk : k ≤ 5) (hn : n ≤ 16) (hh : h ≤ n) (h1 : 1 ≤ k ∧ k ≤ 3 → ∃ r, r < 6 ∧ x2 = nI r) (h2 : k = 1 → ∃ r, r < 6 ∧ x3 = nI r) (h3 : 4 ≤ k → ∃ r, r < 3 ∧ x3 = nI r)
    (e1 : p1 = if 1 ≤ k ∧ k ≤ 3 then x2 else 0) (e2 : p2 = if k = 1 then x3 else if 4 ≤ k then x3 else 0)
    (h16 : n = 16 → post (-2) (f_terms, f_termHeight, nI n, nI h, f_compiled, f_codeSize, f_wordCount, f_works, f_procedure, f_high, f_at, f_inside, f_ahead, f_undoing, f_outcomeThen, f_calls, f_state, f_last, f_stepCount, a_termKind, a_termA, a_termB, a_termNumber, a_registersIn, a_termStack, a_kind, a_register, a_number, a_partA, a_partB, a_testX, a_testY, a_size, a_stack, a_code, a_first, a_second, a_codeX, a_codeY, a_partner, a_other, a_begin, a_end, a_word, a_wordNumber, a_constant, a_folded, a_work, a_workOn, a_openAt, a_middleAt, a_placeX, a_placeY, a_todo, a_value, a_held, a_operand, a_callAt, a_callIn)) (H : n < 16 → post (nI (h + 1)) (f_terms, f_termHeight, nI (n + 1), nI (h + 1), f_compiled, f_codeSize, f_wordCount, f_works, f_procedure, f_high, f_at, f_inside, f_ahead, f_undoing, f_outcomeThen, f_calls, f_state, f_last, f_stepCount, a_termKind, a_termA, a_termB, a_termNumber, a_registersIn, a_termStack, upd a_kind (48 + n) (nI k), upd a_register (48 + n) (vp_nar .byte p1.toInt8.toInt32), upd a_number (48 + n) (vp_nar .byte p2.toInt8.toInt32), upd a_partA (48 + n) 0, upd a_partB (48 + n) 0, a_testX, a_testY, a_size, upd a_stack h (nI n), a_code, a_first, a_second, a_codeX, a_codeY, a_partner, a_other, a_begin, a_end, a_word, a_wordNumber, a_constant, a_folded, a_work, a_workOn, a_openAt, a_middleAt, a_placeX, a_placeY, a_todo, a_value, a_held, a_operand, a_callAt, a_callIn)) : wpX_simple post (f_terms, f_termHeight, nI n, nI h, f_compiled, f_codeSize, f_wordCount, f_works, f_procedure, f_high, f_at, f_inside, f_ahead, f_undoing, f_outcomeThen, f_calls, f_state, f_last, f_stepCount, a_termKind, a_termA, a_termB, a_termNumber, a_registersIn, a_termStack, a_kind, a_register, a_number, a_partA, a_partB, a_testX, a_testY, a_size, a_stack, a_code, a_first, a_second, a_codeX, a_codeY, a_partner, a_other, a_begin, a_end, a_word, a_wordNumber, a_constant, a_folded, a_work, a_workOn, a_openAt, a_middleAt, a_placeX, a_placeY, a_todo, a_value, a_held, a_operand, a_callAt, a_callIn) (nI k) x2 x3 := by
  have key := zx_84 (post := post) (b4 := decide (1 ≤ k ∧ k ≤ 3)) (b5 := decide (4 ≤ k)) (v2 := x2) (v3 := x3) (p1 := p1) (p2 := p2) hn hh hk (by rw [e1]; simp only [decide_eq_true_eq]) (by rw [e2]; simp only [decide_eq_true_eq]) h16 H
  refine zx_to32 hk ?_
  unfold wX_simple_32
  refine br_f (nI_pos (by omega)) (br_f (nI_nlt (a := 5) (by omega) (by omega)) ?_)
  by_cases hk13 : 1 ≤ k ∧ k ≤ 3
  · have hk4 : ¬ 4 ≤ k := by omega
    rw [decide_eq_true hk13, decide_eq_false hk4] at key ⊢
    obtain ⟨r, hr, rfl⟩ := h1 hk13
    refine br_f (by decide) (zx_brG hr (br_t rfl ?_))
    unfold wX_simple_56 wX_simple_69
    by_cases hk1 : k = 1
    · obtain ⟨r3, hr3, rfl⟩ := h2 hk1
      exact br_t (by rw [hk1]; rfl) (zx_brG hr3 (br_t rfl (br_t rfl key)))
    · exact br_f (zn_ne (b := 1) (by omega) (by omega) hk1) (br_t rfl key)
  · rw [decide_eq_false hk13] at key ⊢
    refine br_t rfl ?_
    unfold wX_simple_56 wX_simple_69
    refine br_f (zn_ne (b := 1) (by omega) (by omega) (by omega)) ?_
    by_cases hk4 : 4 ≤ k
    · rw [decide_eq_true hk4] at key ⊢
      obtain ⟨r3, hr3, rfl⟩ := h3 hk4
      exact br_f (by decide) (zx_bpG hr3 (br_t rfl key))
    · rw [decide_eq_false hk4] at key ⊢
      exact br_t rfl key
end
section
variable {g_depth g_pieceDepth g_high g_oldHigh g_open g_next g_back g_calls g_end g_steps : Int32} {b_sorts b_regs b_numbers b_firsts b_seconds b_tests b_exits b_sizes b_kinds b_lefts b_rights b_masks b_counts b_values b_stack b_pieces b_registers b_pile b_oldRegisters b_oldPile b_openNode b_openPart b_openBack : Nat → Int32}
theorem zy_bsb {post : Int32 → Prop} {x1 x2 x3 : Int32} (hx : x1 < 0 ∨ 5 < x1) (h : post 1) : wpY_badSimple post (g_depth, g_pieceDepth, g_high, g_oldHigh, g_open, g_next, g_back, g_calls, g_end, g_steps, b_sorts, b_regs, b_numbers, b_firsts, b_seconds, b_tests, b_exits, b_sizes, b_kinds, b_lefts, b_rights, b_masks, b_counts, b_values, b_stack, b_pieces, b_registers, b_pile, b_oldRegisters, b_oldPile, b_openNode, b_openPart, b_openBack) x1 x2 x3 := by
  unfold wpY_badSimple
  rcases hx with hx | hx
  · exact br_t hx h
  · exact br_c (fun _ => h) (fun _ => br_f (Int32.not_le.mpr hx) h)
theorem zn_2 {x : Int32} (h : x < 0 ∨ nI 3 ≤ x) (h0 : ¬ x < 0) : ¬ x ≤ 2 := by
  rcases h with h | h
  · exact absurd h h0
  · rw [Int32.le_iff_toInt_le] at h ⊢
    have e1 : (nI 3).toInt = 3 := by decide
    have e2 : (2 : Int32).toInt = 2 := by decide
    omega
theorem zy_bsB {post : Int32 → Prop} {k : Nat} {x2 x3 : Int32} (hk : k ≤ 5)
    (hb : ((1 ≤ k ∧ k ≤ 3) ∧ (x2 < 0 ∨ nI 6 ≤ x2)) ∨ (k = 1 ∧ (x3 < 0 ∨ nI 6 ≤ x3)) ∨ (4 ≤ k ∧ (x3 < 0 ∨ nI 3 ≤ x3))) (h : post 1) : wpY_badSimple post (g_depth, g_pieceDepth, g_high, g_oldHigh, g_open, g_next, g_back, g_calls, g_end, g_steps, b_sorts, b_regs, b_numbers, b_firsts, b_seconds, b_tests, b_exits, b_sizes, b_kinds, b_lefts, b_rights, b_masks, b_counts, b_values, b_stack, b_pieces, b_registers, b_pile, b_oldRegisters, b_oldPile, b_openNode, b_openPart, b_openBack) (nI k) x2 x3 := by
  unfold wpY_badSimple wY_badSimple_31
  refine br_f (nI_pos (by omega)) (br_t (nI_le (b := 5) hk (by omega)) ?_)
  by_cases hk13 : 1 ≤ k ∧ k ≤ 3
  · refine br_f (nI_nlt (b := 1) (by omega) (by omega)) (br_f (nI_nlt (a := 3) (by omega) (by omega)) ?_)
    rcases pk_ix x2 (n := 6) (by omega) with h1 | h1 | ⟨r, hr, rfl⟩
    · exact zy_irB (Or.inl h1) (br_t rfl h)
    · exact zy_irB (Or.inr h1) (br_t rfl h)
    refine zy_irG hr (br_f (by decide) ?_)
    rcases hb with ⟨_, hb⟩ | ⟨hk1, hb⟩ | ⟨h4, _⟩
    · rcases hb with hb | hb
      · exact absurd hb (nI_pos (by omega))
      · exact absurd hb (nI_ge hr (by omega))
    · subst hk1
      exact br_t rfl (zy_irB hb (br_t rfl h))
    · omega
  · rcases hb with ⟨h13, _⟩ | ⟨hk1, _⟩ | ⟨h4, hb⟩
    · exact absurd h13 hk13
    · omega
    · refine br_f (nI_nlt (b := 1) (by omega) (by omega)) (br_t (nI_lt (a := 3) (by omega) (by omega)) (br_f (zn_ne (b := 1) (by omega) (by omega) (by omega)) (br_f (nI_ge (a := 3) (by omega) (by omega)) (br_c (fun _ => h) (fun h0 => br_f (zn_2 hb h0) h)))))
theorem zy_bsG {post : Int32 → Prop} {k : Nat} {x2 x3 : Int32} (hk : k ≤ 5) (h1 : 1 ≤ k ∧ k ≤ 3 → ∃ r, r < 6 ∧ x2 = nI r) (h2 : k = 1 → ∃ r, r < 6 ∧ x3 = nI r) (h3 : 4 ≤ k → ∃ r, r < 3 ∧ x3 = nI r) (h : post 0) : wpY_badSimple post (g_depth, g_pieceDepth, g_high, g_oldHigh, g_open, g_next, g_back, g_calls, g_end, g_steps, b_sorts, b_regs, b_numbers, b_firsts, b_seconds, b_tests, b_exits, b_sizes, b_kinds, b_lefts, b_rights, b_masks, b_counts, b_values, b_stack, b_pieces, b_registers, b_pile, b_oldRegisters, b_oldPile, b_openNode, b_openPart, b_openBack) (nI k) x2 x3 := by
  unfold wpY_badSimple wY_badSimple_31
  refine br_f (nI_pos (by omega)) (br_t (nI_le (b := 5) hk (by omega)) ?_)
  by_cases hk0 : k = 0
  · subst hk0
    exact br_t (by decide) (br_f (by decide) (br_t (by decide) h))
  refine br_f (nI_nlt (b := 1) (by omega) (by omega)) ?_
  by_cases hk3 : k ≤ 3
  · obtain ⟨r, hr, rfl⟩ := h1 (by omega)
    refine br_f (nI_nlt (a := 3) (by omega) (by omega)) (zy_irG hr (br_f (by decide) ?_))
    by_cases hk1 : k = 1
    · obtain ⟨r3, hr3, rfl⟩ := h2 hk1
      exact br_t (by rw [hk1]; rfl) (zy_irG hr3 (br_f (by decide) h))
    · exact br_f (zn_ne (b := 1) (by omega) (by omega) hk1) (br_t (nI_le (b := 3) (by omega) (by omega)) h)
  · obtain ⟨r3, hr3, rfl⟩ := h3 (by omega)
    exact br_t (nI_lt (a := 3) (by omega) (by omega)) (br_f (zn_ne (b := 1) (by omega) (by omega) (by omega)) (br_f (nI_ge (a := 3) (by omega) (by omega)) (br_f (nI_pos (by omega)) (br_t (nI_le (b := 2) (by omega) (by omega)) h))))
end
theorem i_vc_simple {k : Nat} {u : SX} {v : SY} (I : i_Rel k u v) (hk : k + 4 ≤ 2048) (v1 : Int32) (v2 : Int32) (v3 : Int32) : wpX_simple (fun r u' => wpY_simple (fun r' v' => r' = r ∧ i_Rel (k + 4) u' v') v v1 v2 v3) u v1 v2 v3 := by
  refine zz_el (P := fun u v => wpX_simple (fun r u' => wpY_simple (fun r' v' => r' = r ∧ i_Rel (k + 4) u' v') v v1 v2 v3) u v1 v2 v3) I ?_
  intro S T nS nT ts ss ρ π stp o f_compiled f_codeSize f_wordCount f_works f_procedure f_at f_inside f_ahead f_undoing f_outcomeThen f_calls f_state a_termKind a_termA a_termB a_termNumber a_registersIn a_termStack a_kind a_register a_number a_partA a_partB a_testX a_testY a_size a_stack a_code a_first a_second a_codeX a_codeY a_partner a_other a_begin a_end a_word a_wordNumber a_constant a_folded a_work a_workOn a_openAt a_middleAt a_placeX a_placeY a_todo a_value a_held a_operand a_callAt a_callIn g_oldHigh g_open g_next g_back g_calls b_sorts b_regs b_numbers b_firsts b_seconds b_tests b_exits b_sizes b_kinds b_lefts b_rights b_masks b_counts b_values b_stack b_pieces b_registers b_pile b_oldRegisters b_oldPile b_openNode b_openPart b_openBack hG hX hY
  have hR : i_Rel (k + 4) (nI (nT 3), nI ts.length, nI (nS 3), nI ss.length, f_compiled, f_codeSize, f_wordCount, f_works, f_procedure, nI π.length, f_at, f_inside, f_ahead, f_undoing, f_outcomeThen, f_calls, f_state, o, nI stp, a_termKind, a_termA, a_termB, a_termNumber, a_registersIn, a_termStack, a_kind, a_register, a_number, a_partA, a_partB, a_testX, a_testY, a_size, a_stack, a_code, a_first, a_second, a_codeX, a_codeY, a_partner, a_other, a_begin, a_end, a_word, a_wordNumber, a_constant, a_folded, a_work, a_workOn, a_openAt, a_middleAt, a_placeX, a_placeY, a_todo, a_value, a_held, a_operand, a_callAt, a_callIn) (nI ss.length, nI ts.length, nI π.length, g_oldHigh, g_open, g_next, g_back, g_calls, o, nI stp, b_sorts, b_regs, b_numbers, b_firsts, b_seconds, b_tests, b_exits, b_sizes, b_kinds, b_lefts, b_rights, b_masks, b_counts, b_values, b_stack, b_pieces, b_registers, b_pile, b_oldRegisters, b_oldPile, b_openNode, b_openPart, b_openBack) := zz_R hG hX hY
  have h16 : ∀ g, g < 4 → nS g ≤ 16 := fun g hg => (hG.1 g hg).1
  have h16' := h16 3 (by omega)
  have hct : b_sizes 3 = nI (nS 3) := hY.2.1.2.2.1 3 (by omega)
  obtain ⟨a1, a2, a3, a4, a5, a6, a7, a8, a9⟩ := hG.2.2.1
  have hb0 : (v1 < 0 ∨ 5 < v1) → wpX_simple (fun r u' => wpY_simple (fun r' v' => r' = r ∧ i_Rel (k + 4) u' v') (nI ss.length, nI ts.length, nI π.length, g_oldHigh, g_open, g_next, g_back, g_calls, o, nI stp, b_sorts, b_regs, b_numbers, b_firsts, b_seconds, b_tests, b_exits, b_sizes, b_kinds, b_lefts, b_rights, b_masks, b_counts, b_values, b_stack, b_pieces, b_registers, b_pile, b_oldRegisters, b_oldPile, b_openNode, b_openPart, b_openBack) v1 v2 v3) (nI (nT 3), nI ts.length, nI (nS 3), nI ss.length, f_compiled, f_codeSize, f_wordCount, f_works, f_procedure, nI π.length, f_at, f_inside, f_ahead, f_undoing, f_outcomeThen, f_calls, f_state, o, nI stp, a_termKind, a_termA, a_termB, a_termNumber, a_registersIn, a_termStack, a_kind, a_register, a_number, a_partA, a_partB, a_testX, a_testY, a_size, a_stack, a_code, a_first, a_second, a_codeX, a_codeY, a_partner, a_other, a_begin, a_end, a_word, a_wordNumber, a_constant, a_folded, a_work, a_workOn, a_openAt, a_middleAt, a_placeX, a_placeY, a_todo, a_value, a_held, a_operand, a_callAt, a_callIn) v1 v2 v3 := by
    intro hb
    refine zx_sbad hb ?_
    unfold wpY_simple
    exact zy_bsb hb (br_f (by decide) ⟨rfl, hR⟩)
  rcases pk_ix v1 (n := 6) (by omega) with h1 | h1 | ⟨op, hop, rfl⟩
  · exact hb0 (Or.inl h1)
  · exact hb0 (Or.inr (zn_5lt h1))
  have hop5 : op ≤ 5 := by omega
  by_cases hb : ((1 ≤ op ∧ op ≤ 3) ∧ (v2 < 0 ∨ nI 6 ≤ v2)) ∨ (op = 1 ∧ (v3 < 0 ∨ nI 6 ≤ v3)) ∨ (4 ≤ op ∧ (v3 < 0 ∨ nI 3 ≤ v3))
  · refine zx_sB hop5 hb ?_
    unfold wpY_simple
    exact zy_bsB hop5 hb (br_f (by decide) ⟨rfl, hR⟩)
  have g1 : 1 ≤ op ∧ op ≤ 3 → ∃ r, r < 6 ∧ v2 = nI r := by
    intro h
    rcases pk_ix v2 (n := 6) (by omega) with h1 | h1 | h1
    · exact absurd (Or.inl ⟨h, Or.inl h1⟩) hb
    · exact absurd (Or.inl ⟨h, Or.inr h1⟩) hb
    · exact h1
  have g2 : op = 1 → ∃ r, r < 6 ∧ v3 = nI r := by
    intro h
    rcases pk_ix v3 (n := 6) (by omega) with h1 | h1 | h1
    · exact absurd (Or.inr (Or.inl ⟨h, Or.inl h1⟩)) hb
    · exact absurd (Or.inr (Or.inl ⟨h, Or.inr h1⟩)) hb
    · exact h1
  have g3 : 4 ≤ op → ∃ r, r < 3 ∧ v3 = nI r := by
    intro h
    rcases pk_ix v3 (n := 3) (by omega) with h1 | h1 | h1
    · exact absurd (Or.inr (Or.inr ⟨h, Or.inl h1⟩)) hb
    · exact absurd (Or.inr (Or.inr ⟨h, Or.inr h1⟩)) hb
    · exact h1
  obtain ⟨rr, hrr⟩ := zn_of v2
  obtain ⟨nn, hnn⟩ := zn_of v3
  -- small numbers for the ghosts
  obtain ⟨r, hr1, hr2⟩ : ∃ r : Nat, (1 ≤ op ∧ op ≤ 3 → r < 6 ∧ v2 = nI r) ∧ True := by
    by_cases h : 1 ≤ op ∧ op ≤ 3
    · obtain ⟨r, hr, e⟩ := g1 h
      exact ⟨r, fun _ => ⟨hr, e⟩, trivial⟩
    · exact ⟨0, fun z => absurd z h, trivial⟩
  obtain ⟨m, hm1, hm2⟩ : ∃ m : Nat, (op = 1 → m < 6 ∧ v3 = nI m) ∧ (4 ≤ op → m < 3 ∧ v3 = nI m) := by
    by_cases h : op = 1
    · obtain ⟨r, hr, e⟩ := g2 h
      exact ⟨r, fun _ => ⟨hr, e⟩, fun z => absurd z (by omega)⟩
    · by_cases h4 : 4 ≤ op
      · obtain ⟨r, hr, e⟩ := g3 h4
        exact ⟨r, fun z => absurd z h, fun _ => ⟨hr, e⟩⟩
      · exact ⟨0, fun z => absurd z h, fun z => absurd z h4⟩
  refine zx_sG hop5 h16' a4 g1 g2 g3 rfl rfl ?_ ?_
  · intro h
    unfold wpY_simple
    exact zy_bsG hop5 g1 g2 g3 (br_t rfl (br_t (by rw [hct, h]; rfl) ⟨rfl, hR⟩))
  · intro h
    unfold wpY_simple
    refine zy_bsG hop5 g1 g2 g3 (br_t rfl (br_f (by rw [hct]; exact zn_ne (b := 16) (by omega) (by omega) (by omega)) (zy_mk (n := nS 3) (by omega) (by omega) hct ?_)))
    refine ⟨rfl, zz_R (zi_G_stmt (new := zg_st op r m 0 0 0 0 1 1 0) (ss0 := ss) (ts0 := ts) hG (by omega) a2 a4 a1 a3 ?_ ?_ ?_ (Nat.le_refl _) ?_) (zi_X_stmt hX h16 ?_ ?_ ?_ ?_ ?_ ?_ ?_ ?_ ?_) (zi_Y_stmt hY h16 ?_ ?_ ?_ ?_ ?_ ?_ ?_ ?_ ?_)⟩
    · exact zs_new0 hop5 (fun z => (hr1 z).1) (fun z => (hm1 z).1) (fun z => (hm2 (by omega)).1)
    · show 1 + _ ≤ _; omega
    · show 1 + _ ≤ _; omega
    · show _ + (0 + _) ≤ _; omega
    · exact fun j hj => ⟨pk_un hj, pk_un hj, pk_un hj, pk_un hj, pk_un hj, rfl, rfl⟩
    · exact pk_us
    · intro z
      have z : (1 ≤ op ∧ op ≤ 3) ∨ (6 ≤ op ∧ op ≤ 8) := z
      have z : 1 ≤ op ∧ op ≤ 3 := by omega
      rw [pk_us, if_pos z, (hr1 z).2]
      exact zn_vbb (by have := (hr1 z).1; omega)
    · intro z
      have z : op = 1 ∨ op = 4 ∨ op = 5 := z
      rw [pk_us]
      by_cases z1 : op = 1
      · rw [if_pos z1, (hm1 z1).2]
        exact zn_vbb (by have := (hm1 z1).1; omega)
      · have z4 : 4 ≤ op := by omega
        rw [if_neg z1, if_pos z4, (hm2 z4).2]
        exact zn_vbb (by have := (hm2 z4).1; omega)
    · exact fun z => absurd (show (6 ≤ op ∧ op ≤ 9) ∨ 11 ≤ op from z) (by omega)
    · exact fun z => absurd (show 11 ≤ op from z) (by omega)
    · exact fun z => absurd (show 10 ≤ op from z) (by omega)
    · exact hX.2.1.2.2.2.2.1
    · exact zl_h_push hX.2.1.2.2.2.2.2
    · exact fun j hj => ⟨pk_un hj, pk_un hj, pk_un hj, rfl, rfl, rfl, rfl⟩
    · exact pk_us
    · intro z
      have z : (1 ≤ op ∧ op ≤ 3) ∨ (6 ≤ op ∧ op ≤ 8) := z
      rw [pk_us]
      exact (hr1 (by omega)).2
    · intro z
      have z : op = 1 ∨ op = 4 ∨ op = 5 := z
      rw [pk_us]
      by_cases z1 : op = 1
      · exact (hm1 z1).2
      · exact (hm2 (by omega)).2
    · exact fun z => absurd (show (6 ≤ op ∧ op ≤ 9) ∨ 11 ≤ op from z) (by omega)
    · exact fun z => absurd (show 11 ≤ op from z) (by omega)
    · exact fun z => absurd (show 10 ≤ op from z) (by omega)
    · exact hY.2.1.2.2.2.2.1
    · exact zl_h_push hY.2.1.2.2.2.2.2
end
section
/-! ===== the owed: update, seq, tested ===== -/
theorem zn_bit : ∀ m, m < 64 → ∀ r, r < 6 → (((nI m >>> (nI r &&& 31)) &&& 1) = 1 ↔ m.testBit r = true) := by decide +kernel
theorem zn_a6 (n : Nat) : 6 + nI n = nI (6 + n) := by rw [show (6 : Int32) = nI 6 from rfl, nI_add]
theorem zn_a11 (n : Nat) : 11 + nI n = nI (11 + n) := by rw [show (11 : Int32) = nI 11 from rfl, nI_add]
theorem i_vc_update {k : Nat} {u : SX} {v : SY} (I : i_Rel k u v) (hk : k + 4 ≤ 2048) (v1 : Int32) (v2 : Int32) : wpX_update (fun r u' => wpY_update (fun r' v' => r' = r ∧ i_Rel (k + 4) u' v') v v1 v2) u v1 v2 := by
  refine zz_el (P := fun u v => wpX_update (fun r u' => wpY_update (fun r' v' => r' = r ∧ i_Rel (k + 4) u' v') v v1 v2) u v1 v2) I ?_
  intro S T nS nT ts ss ρ π stp o f_compiled f_codeSize f_wordCount f_works f_procedure f_at f_inside f_ahead f_undoing f_outcomeThen f_calls f_state a_termKind a_termA a_termB a_termNumber a_registersIn a_termStack a_kind a_register a_number a_partA a_partB a_testX a_testY a_size a_stack a_code a_first a_second a_codeX a_codeY a_partner a_other a_begin a_end a_word a_wordNumber a_constant a_folded a_work a_workOn a_openAt a_middleAt a_placeX a_placeY a_todo a_value a_held a_operand a_callAt a_callIn g_oldHigh g_open g_next g_back g_calls b_sorts b_regs b_numbers b_firsts b_seconds b_tests b_exits b_sizes b_kinds b_lefts b_rights b_masks b_counts b_values b_stack b_pieces b_registers b_pile b_oldRegisters b_oldPile b_openNode b_openPart b_openBack hG hX hY
  have hR : i_Rel (k + 4) (nI (nT 3), nI ts.length, nI (nS 3), nI ss.length, f_compiled, f_codeSize, f_wordCount, f_works, f_procedure, nI π.length, f_at, f_inside, f_ahead, f_undoing, f_outcomeThen, f_calls, f_state, o, nI stp, a_termKind, a_termA, a_termB, a_termNumber, a_registersIn, a_termStack, a_kind, a_register, a_number, a_partA, a_partB, a_testX, a_testY, a_size, a_stack, a_code, a_first, a_second, a_codeX, a_codeY, a_partner, a_other, a_begin, a_end, a_word, a_wordNumber, a_constant, a_folded, a_work, a_workOn, a_openAt, a_middleAt, a_placeX, a_placeY, a_todo, a_value, a_held, a_operand, a_callAt, a_callIn) (nI ss.length, nI ts.length, nI π.length, g_oldHigh, g_open, g_next, g_back, g_calls, o, nI stp, b_sorts, b_regs, b_numbers, b_firsts, b_seconds, b_tests, b_exits, b_sizes, b_kinds, b_lefts, b_rights, b_masks, b_counts, b_values, b_stack, b_pieces, b_registers, b_pile, b_oldRegisters, b_oldPile, b_openNode, b_openPart, b_openBack) := zz_R hG hX hY
  have h16 : ∀ g, g < 4 → nS g ≤ 16 := fun g hg => (hG.1 g hg).1
  have h16' := h16 3 (by omega)
  have h24' := (hG.1 3 (by omega)).2.1
  have hct : b_sizes 3 = nI (nS 3) := hY.2.1.2.2.1 3 (by omega)
  obtain ⟨a1, a2, a3, a4, a5, a6, a7, a8, a9⟩ := hG.2.2.1
  by_cases h0 : v1 < 0
  · unfold wpX_update; refine br_t h0 ?_
    unfold wpY_update; exact br_t h0 ⟨rfl, hR⟩
  by_cases h3 : 3 < v1
  · unfold wpX_update; refine br_f h0 (br_t h3 ?_)
    unfold wpY_update; exact br_f h0 (br_t h3 ⟨rfl, hR⟩)
  obtain ⟨op, hop, rfl⟩ := nI_of2 (n := 3) (by decide) h0 (Int32.not_lt.mp h3)
  by_cases hbad : op < 3 ∧ (v2 < 0 ∨ nI 6 ≤ v2)
  · have hnl : ¬ (3 : Int32) ≤ nI op := nI_ge (b := 3) hbad.1 (by omega)
    unfold wpX_update
    refine br_f h0 (br_f h3 (br_f hnl (zx_brB hbad.2 (br_f (by decide) ?_))))
    unfold wpY_update
    exact br_f h0 (br_f h3 (br_f hnl (zy_irB hbad.2 (br_t rfl ⟨rfl, hR⟩))))
  have hgood : op < 3 → ∃ r, r < 6 ∧ v2 = nI r := by
    intro h
    rcases pk_ix v2 (n := 6) (by omega) with h1 | h1 | h1
    · exact absurd ⟨h, Or.inl h1⟩ hbad
    · exact absurd ⟨h, Or.inr h1⟩ hbad
    · exact h1
  obtain ⟨r, hr⟩ : ∃ r : Nat, op < 3 → r < 6 ∧ v2 = nI r := by
    by_cases h : op < 3
    · obtain ⟨r, h1, h2⟩ := hgood h
      exact ⟨r, fun _ => ⟨h1, h2⟩⟩
    · exact ⟨0, fun z => absurd z h⟩
  -- both come to row 24
  have toX : ∀ P : Int32 → SX → Prop, wX_update_24 P (nI op) v2 (nI (nT 3)) (nI ts.length) (nI (nS 3)) (nI ss.length) f_compiled f_codeSize f_wordCount f_works f_procedure (nI π.length) f_at f_inside f_ahead f_undoing f_outcomeThen f_calls f_state o (nI stp) a_termKind a_termA a_termB a_termNumber a_registersIn a_termStack a_kind a_register a_number a_partA a_partB a_testX a_testY a_size a_stack a_code a_first a_second a_codeX a_codeY a_partner a_other a_begin a_end a_word a_wordNumber a_constant a_folded a_work a_workOn a_openAt a_middleAt a_placeX a_placeY a_todo a_value a_held a_operand a_callAt a_callIn → wpX_update P (nI (nT 3), nI ts.length, nI (nS 3), nI ss.length, f_compiled, f_codeSize, f_wordCount, f_works, f_procedure, nI π.length, f_at, f_inside, f_ahead, f_undoing, f_outcomeThen, f_calls, f_state, o, nI stp, a_termKind, a_termA, a_termB, a_termNumber, a_registersIn, a_termStack, a_kind, a_register, a_number, a_partA, a_partB, a_testX, a_testY, a_size, a_stack, a_code, a_first, a_second, a_codeX, a_codeY, a_partner, a_other, a_begin, a_end, a_word, a_wordNumber, a_constant, a_folded, a_work, a_workOn, a_openAt, a_middleAt, a_placeX, a_placeY, a_todo, a_value, a_held, a_operand, a_callAt, a_callIn) (nI op) v2 := by
    intro P h
    unfold wpX_update
    refine br_f h0 (br_f h3 ?_)
    by_cases e : op = 3
    · exact br_t (by rw [e]; decide) h
    · obtain ⟨hr1, hr2⟩ := hr (by omega)
      rw [hr2] at h ⊢
      exact br_f (nI_ge (b := 3) (by omega) (by omega)) (zx_brG hr1 (br_t rfl h))
  have toY : ∀ P : Int32 → SY → Prop, wY_update_24 P (nI op) v2 (nI ss.length) (nI ts.length) (nI π.length) g_oldHigh g_open g_next g_back g_calls o (nI stp) b_sorts b_regs b_numbers b_firsts b_seconds b_tests b_exits b_sizes b_kinds b_lefts b_rights b_masks b_counts b_values b_stack b_pieces b_registers b_pile b_oldRegisters b_oldPile b_openNode b_openPart b_openBack → wpY_update P (nI ss.length, nI ts.length, nI π.length, g_oldHigh, g_open, g_next, g_back, g_calls, o, nI stp, b_sorts, b_regs, b_numbers, b_firsts, b_seconds, b_tests, b_exits, b_sizes, b_kinds, b_lefts, b_rights, b_masks, b_counts, b_values, b_stack, b_pieces, b_registers, b_pile, b_oldRegisters, b_oldPile, b_openNode, b_openPart, b_openBack) (nI op) v2 := by
    intro P h
    unfold wpY_update
    refine br_f h0 (br_f h3 ?_)
    by_cases e : op = 3
    · exact br_t (by rw [e]; decide) h
    · obtain ⟨hr1, hr2⟩ := hr (by omega)
      rw [hr2] at h ⊢
      exact br_f (nI_ge (b := 3) (by omega) (by omega)) (zy_irG hr1 (br_f (by decide) h))
  refine toX _ ?_
  unfold wX_update_24
  by_cases hs : nS 3 = 16
  · refine br_t (by rw [hs]; rfl) (toY _ ?_)
    unfold wY_update_24
    exact br_t (by rw [hct, hs]; rfl) ⟨rfl, hR⟩
  have hneX : ¬ nI (nS 3) = 16 := zn_ne (b := 16) (by omega) (by omega) hs
  refine br_f hneX ?_
  cases ts with
  | nil =>
    refine br_f (by decide) (toY _ ?_)
    unfold wY_update_24
    exact br_f (by rw [hct]; exact hneX) (br_f (by decide) ⟨rfl, hR⟩)
  | cons x l =>
  obtain ⟨hx, hl⟩ := a1
  have hlen : l.length + 1 ≤ nT 3 := a3
  have e1 : nI (x :: l).length - 1 = nI l.length := nI_pred l.length
  have tX : a_termStack l.length = nI x := hX.2.1.2.2.2.2.1.1
  have tY : b_pieces l.length = nI x := hY.2.1.2.2.2.2.1.1
  have rX := hX.2.1.2.1 x hx
  have rY := hY.2.1.2.1 x hx
  have okx := (hG.1 3 (by omega)).2.2.2 x hx
  have hm64 := okx.2.2.2.2.2.2.2.1
  have h1le : (1 : Int32) ≤ nI (x :: l).length := nI_le (a := 1) (by show 1 ≤ l.length + 1; omega) (by show l.length + 1 < _; omega)
  rw [e1, zn_c (by omega : l.length < 2 ^ 31), tX]
  refine br_t h1le (And.intro (vp_in_nI (by omega) (by omega)) (nm_e ?_))
  rw [zn_a72, zn_c (by omega : 72 + x < 2 ^ 31), rX]
  have hvx : vp_in (nI (72 + x)) 96 := vp_in_nI (by omega) (by omega)
  by_cases hself : op < 3 ∧ (zt_m (T 3) x).testBit r = true
  · obtain ⟨hr1, hr2⟩ := hr hself.1
    have hnl : ¬ (3 : Int32) ≤ nI op := nI_ge (b := 3) hself.1 (by omega)
    have hb := (zn_bit _ hm64 r hr1).mpr hself.2
    refine br_f hnl (And.intro hvx (br_t (by rw [hr2]; exact hb) (toY _ ?_)))
    unfold wY_update_24
    rw [e1, zn_c (by omega : l.length < 2 ^ 31), tY]
    refine br_f (by rw [hct]; exact hneX) (br_t h1le (And.intro (vp_in_nI (by omega) (by omega)) (nm_e ?_)))
    rw [zn_a72, zn_c (by omega : 72 + x < 2 ^ 31), rY]
    exact br_f hnl (And.intro hvx (br_t (by rw [hr2]; exact hb) ⟨rfl, hR⟩))
  -- both make it
  have gX : ∀ P : Int32 → SX → Prop, wX_update_84 P (nI op) v2 (nI x) (nI (nT 3)) (nI (x :: l).length) (nI (nS 3)) (nI ss.length) f_compiled f_codeSize f_wordCount f_works f_procedure (nI π.length) f_at f_inside f_ahead f_undoing f_outcomeThen f_calls f_state o (nI stp) a_termKind a_termA a_termB a_termNumber a_registersIn a_termStack a_kind a_register a_number a_partA a_partB a_testX a_testY a_size a_stack a_code a_first a_second a_codeX a_codeY a_partner a_other a_begin a_end a_word a_wordNumber a_constant a_folded a_work a_workOn a_openAt a_middleAt a_placeX a_placeY a_todo a_value a_held a_operand a_callAt a_callIn →
      (((3 : Int32) ≤ nI op → wX_update_84 P (nI op) v2 (nI x) (nI (nT 3)) (nI (x :: l).length) (nI (nS 3)) (nI ss.length) f_compiled f_codeSize f_wordCount f_works f_procedure (nI π.length) f_at f_inside f_ahead f_undoing f_outcomeThen f_calls f_state o (nI stp) a_termKind a_termA a_termB a_termNumber a_registersIn a_termStack a_kind a_register a_number a_partA a_partB a_testX a_testY a_size a_stack a_code a_first a_second a_codeX a_codeY a_partner a_other a_begin a_end a_word a_wordNumber a_constant a_folded a_work a_workOn a_openAt a_middleAt a_placeX a_placeY a_todo a_value a_held a_operand a_callAt a_callIn) ∧
       (¬ (3 : Int32) ≤ nI op → vp_in (nI (72 + x)) 96 ∧ (((nI (zt_m (T 3) x) >>> (v2 &&& 31)) &&& 1) = 1 → P (-5) (nI (nT 3), nI (x :: l).length, nI (nS 3), nI ss.length, f_compiled, f_codeSize, f_wordCount, f_works, f_procedure, nI π.length, f_at, f_inside, f_ahead, f_undoing, f_outcomeThen, f_calls, f_state, o, nI stp, a_termKind, a_termA, a_termB, a_termNumber, a_registersIn, a_termStack, a_kind, a_register, a_number, a_partA, a_partB, a_testX, a_testY, a_size, a_stack, a_code, a_first, a_second, a_codeX, a_codeY, a_partner, a_other, a_begin, a_end, a_word, a_wordNumber, a_constant, a_folded, a_work, a_workOn, a_openAt, a_middleAt, a_placeX, a_placeY, a_todo, a_value, a_held, a_operand, a_callAt, a_callIn)) ∧
        (¬ ((nI (zt_m (T 3) x) >>> (v2 &&& 31)) &&& 1) = 1 → wX_update_84 P (nI op) v2 (nI x) (nI (nT 3)) (nI (x :: l).length) (nI (nS 3)) (nI ss.length) f_compiled f_codeSize f_wordCount f_works f_procedure (nI π.length) f_at f_inside f_ahead f_undoing f_outcomeThen f_calls f_state o (nI stp) a_termKind a_termA a_termB a_termNumber a_registersIn a_termStack a_kind a_register a_number a_partA a_partB a_testX a_testY a_size a_stack a_code a_first a_second a_codeX a_codeY a_partner a_other a_begin a_end a_word a_wordNumber a_constant a_folded a_work a_workOn a_openAt a_middleAt a_placeX a_placeY a_todo a_value a_held a_operand a_callAt a_callIn))) := by
    intro P h
    by_cases e : op = 3
    · exact br_t (by rw [e]; decide) h
    · obtain ⟨hr1, hr2⟩ := hr (by omega)
      refine br_f (nI_ge (b := 3) (by omega) (by omega)) (And.intro hvx (br_f ?_ h))
      intro hb
      rw [hr2] at hb
      exact hself ⟨by omega, (zn_bit _ hm64 r hr1).mp hb⟩
  have gY : ∀ P : Int32 → SY → Prop, wY_update_86 P (nI op) v2 (nI x) (nI ss.length) (nI (x :: l).length) (nI π.length) g_oldHigh g_open g_next g_back g_calls o (nI stp) b_sorts b_regs b_numbers b_firsts b_seconds b_tests b_exits b_sizes b_kinds b_lefts b_rights b_masks b_counts b_values b_stack b_pieces b_registers b_pile b_oldRegisters b_oldPile b_openNode b_openPart b_openBack →
      (((3 : Int32) ≤ nI op → wY_update_86 P (nI op) v2 (nI x) (nI ss.length) (nI (x :: l).length) (nI π.length) g_oldHigh g_open g_next g_back g_calls o (nI stp) b_sorts b_regs b_numbers b_firsts b_seconds b_tests b_exits b_sizes b_kinds b_lefts b_rights b_masks b_counts b_values b_stack b_pieces b_registers b_pile b_oldRegisters b_oldPile b_openNode b_openPart b_openBack) ∧
       (¬ (3 : Int32) ≤ nI op → vp_in (nI (72 + x)) 96 ∧ (((nI (zt_m (T 3) x) >>> (v2 &&& 31)) &&& 1) = 1 → P (-5) (nI ss.length, nI (x :: l).length, nI π.length, g_oldHigh, g_open, g_next, g_back, g_calls, o, nI stp, b_sorts, b_regs, b_numbers, b_firsts, b_seconds, b_tests, b_exits, b_sizes, b_kinds, b_lefts, b_rights, b_masks, b_counts, b_values, b_stack, b_pieces, b_registers, b_pile, b_oldRegisters, b_oldPile, b_openNode, b_openPart, b_openBack)) ∧
        (¬ ((nI (zt_m (T 3) x) >>> (v2 &&& 31)) &&& 1) = 1 → wY_update_86 P (nI op) v2 (nI x) (nI ss.length) (nI (x :: l).length) (nI π.length) g_oldHigh g_open g_next g_back g_calls o (nI stp) b_sorts b_regs b_numbers b_firsts b_seconds b_tests b_exits b_sizes b_kinds b_lefts b_rights b_masks b_counts b_values b_stack b_pieces b_registers b_pile b_oldRegisters b_oldPile b_openNode b_openPart b_openBack))) := by
    intro P h
    by_cases e : op = 3
    · exact br_t (by rw [e]; decide) h
    · obtain ⟨hr1, hr2⟩ := hr (by omega)
      refine br_f (nI_ge (b := 3) (by omega) (by omega)) (And.intro hvx (br_f ?_ h))
      intro hb
      rw [hr2] at hb
      exact hself ⟨by omega, (zn_bit _ hm64 r hr1).mp hb⟩
  refine gX _ ?_
  unfold wX_update_84
  refine nm_r e1 ?_
  rw [zn_a48, zn_c (by omega : 48 + nS 3 < 2 ^ 31), zn_vbb (by omega : x < 128), zn_a6]
  refine And.intro (vp_in_nI (by omega) (by omega)) (nm_e ?_)
  have hreg : ∀ z : Int32, z = (if op < 3 then v2 else 0) → wX_update_123 (fun r u' => wpY_update (fun r' v' => r' = r ∧ i_Rel (k + 4) u' v') (nI ss.length, nI (x :: l).length, nI π.length, g_oldHigh, g_open, g_next, g_back, g_calls, o, nI stp, b_sorts, b_regs, b_numbers, b_firsts, b_seconds, b_tests, b_exits, b_sizes, b_kinds, b_lefts, b_rights, b_masks, b_counts, b_values, b_stack, b_pieces, b_registers, b_pile, b_oldRegisters, b_oldPile, b_openNode, b_openPart, b_openBack) (nI op) v2) z (nI (6 + op))
      (nI (nT 3)) (nI l.length) (nI (nS 3)) (nI ss.length) f_compiled f_codeSize f_wordCount f_works f_procedure (nI π.length) f_at f_inside f_ahead f_undoing f_outcomeThen f_calls f_state o (nI stp) a_termKind a_termA a_termB a_termNumber a_registersIn a_termStack a_kind a_register a_number a_partA a_partB (upd a_testX (48 + nS 3) (nI x)) a_testY a_size a_stack a_code a_first a_second a_codeX a_codeY a_partner a_other a_begin a_end a_word a_wordNumber a_constant a_folded a_work a_workOn a_openAt a_middleAt a_placeX a_placeY a_todo a_value a_held a_operand a_callAt a_callIn := by
    intro z hz
    unfold wX_update_123
    refine zx_mk0 (by omega) (by omega) (by omega) ?_
    refine toY _ ?_
    unfold wY_update_24
    rw [e1, zn_c (by omega : l.length < 2 ^ 31), tY]
    refine br_f (by rw [hct]; exact hneX) (br_t h1le (And.intro (vp_in_nI (by omega) (by omega)) (nm_e ?_)))
    rw [zn_a72, zn_c (by omega : 72 + x < 2 ^ 31), rY]
    refine gY _ ?_
    unfold wY_update_86
    refine nm_r e1 ?_
    rw [hct, zn_a48, zn_c (by omega : 48 + nS 3 < 2 ^ 31), zn_a6]
    refine And.intro (vp_in_nI (by omega) (by omega)) (nm_e (zy_mk (n := nS 3) (by omega) (by omega) hct ?_))
    refine ⟨rfl, zz_R (zi_G_stmt (new := zg_st (6 + op) r 0 0 0 x 0 1 1 (zt_s (T 3) x + 1)) (ss0 := ss) (ts0 := l) hG (by omega) a2 a4 hl (by omega) ?_ ?_ ?_ ?_ ?_) (zi_X_stmt hX h16 ?_ ?_ ?_ ?_ ?_ ?_ ?_ ?_ ?_) (zi_Y_stmt hY h16 ?_ ?_ ?_ ?_ ?_ ?_ ?_ ?_ ?_)⟩
    · refine zs_newU (by omega) (fun z => ⟨(hr (by omega)).1, ?_⟩) hx
      cases hb : (zt_m (T 3) x).testBit r with
      | false => rfl
      | true => exact absurd ⟨by omega, hb⟩ hself
    · show 1 + _ ≤ _; omega
    · show 1 + _ ≤ _; omega
    · show zl_s (zt_s (T 3)) l ≤ zt_s (T 3) x + zl_s (zt_s (T 3)) l; omega
    · show zl_s (zt_s (T 3)) l + (zt_s (T 3) x + 1 + _) ≤ zt_s (T 3) x + zl_s (zt_s (T 3)) l + _ + 2; omega
    · exact fun j hj => ⟨pk_un hj, pk_un hj, pk_un hj, pk_un hj, pk_un hj, pk_un hj, rfl⟩
    · exact pk_us
    · intro z6
      have z6 : (1 ≤ 6 + op ∧ 6 + op ≤ 3) ∨ (6 ≤ 6 + op ∧ 6 + op ≤ 8) := z6
      have z3 : op < 3 := by omega
      rw [pk_us, hz, if_pos z3, (hr z3).2]
      exact zn_vbb (by have := (hr z3).1; omega)
    · exact fun z => absurd (show 6 + op = 1 ∨ 6 + op = 4 ∨ 6 + op = 5 from z) (by omega)
    · exact fun _ => pk_us
    · exact fun z => absurd (show 11 ≤ 6 + op from z) (by omega)
    · exact fun z => absurd (show 10 ≤ 6 + op from z) (by omega)
    · exact hX.2.1.2.2.2.2.1.2
    · exact zl_h_push hX.2.1.2.2.2.2.2
    · exact fun j hj => ⟨pk_un hj, pk_un hj, pk_un hj, rfl, rfl, pk_un hj, rfl⟩
    · exact pk_us
    · intro z6
      have z6 : (1 ≤ 6 + op ∧ 6 + op ≤ 3) ∨ (6 ≤ 6 + op ∧ 6 + op ≤ 8) := z6
      rw [pk_us]
      exact (hr (by omega)).2
    · exact fun z => absurd (show 6 + op = 1 ∨ 6 + op = 4 ∨ 6 + op = 5 from z) (by omega)
    · exact fun _ => pk_us
    · exact fun z => absurd (show 11 ≤ 6 + op from z) (by omega)
    · exact fun z => absurd (show 10 ≤ 6 + op from z) (by omega)
    · exact hY.2.1.2.2.2.2.1.2
    · exact zl_h_push hY.2.1.2.2.2.2.2
  by_cases e : op = 3
  · exact br_t (by rw [e]; decide) (hreg 0 (by rw [if_neg (by omega)]))
  · exact br_f (nI_ge (b := 3) (by omega) (by omega)) (hreg v2 (by rw [if_pos (by omega)]))
theorem i_vc_seq {k : Nat} {u : SX} {v : SY} (I : i_Rel k u v) (hk : k + 4 ≤ 2048) : wpX_seq (fun r u' => wpY_seq (fun r' v' => r' = r ∧ i_Rel (k + 4) u' v') v) u := by
  refine zz_el (P := fun u v => wpX_seq (fun r u' => wpY_seq (fun r' v' => r' = r ∧ i_Rel (k + 4) u' v') v) u) I ?_
  intro S T nS nT ts ss ρ π stp o f_compiled f_codeSize f_wordCount f_works f_procedure f_at f_inside f_ahead f_undoing f_outcomeThen f_calls f_state a_termKind a_termA a_termB a_termNumber a_registersIn a_termStack a_kind a_register a_number a_partA a_partB a_testX a_testY a_size a_stack a_code a_first a_second a_codeX a_codeY a_partner a_other a_begin a_end a_word a_wordNumber a_constant a_folded a_work a_workOn a_openAt a_middleAt a_placeX a_placeY a_todo a_value a_held a_operand a_callAt a_callIn g_oldHigh g_open g_next g_back g_calls b_sorts b_regs b_numbers b_firsts b_seconds b_tests b_exits b_sizes b_kinds b_lefts b_rights b_masks b_counts b_values b_stack b_pieces b_registers b_pile b_oldRegisters b_oldPile b_openNode b_openPart b_openBack hG hX hY
  have hR : i_Rel (k + 4) (nI (nT 3), nI ts.length, nI (nS 3), nI ss.length, f_compiled, f_codeSize, f_wordCount, f_works, f_procedure, nI π.length, f_at, f_inside, f_ahead, f_undoing, f_outcomeThen, f_calls, f_state, o, nI stp, a_termKind, a_termA, a_termB, a_termNumber, a_registersIn, a_termStack, a_kind, a_register, a_number, a_partA, a_partB, a_testX, a_testY, a_size, a_stack, a_code, a_first, a_second, a_codeX, a_codeY, a_partner, a_other, a_begin, a_end, a_word, a_wordNumber, a_constant, a_folded, a_work, a_workOn, a_openAt, a_middleAt, a_placeX, a_placeY, a_todo, a_value, a_held, a_operand, a_callAt, a_callIn) (nI ss.length, nI ts.length, nI π.length, g_oldHigh, g_open, g_next, g_back, g_calls, o, nI stp, b_sorts, b_regs, b_numbers, b_firsts, b_seconds, b_tests, b_exits, b_sizes, b_kinds, b_lefts, b_rights, b_masks, b_counts, b_values, b_stack, b_pieces, b_registers, b_pile, b_oldRegisters, b_oldPile, b_openNode, b_openPart, b_openBack) := zz_R hG hX hY
  have h16 : ∀ g, g < 4 → nS g ≤ 16 := fun g hg => (hG.1 g hg).1
  have h16' := h16 3 (by omega)
  have hct : b_sizes 3 = nI (nS 3) := hY.2.1.2.2.1 3 (by omega)
  obtain ⟨a1, a2, a3, a4, a5, a6, a7, a8, a9⟩ := hG.2.2.1
  unfold wpX_seq
  by_cases hs : nS 3 = 16
  · refine br_t (by rw [hs]; rfl) ?_
    unfold wpY_seq
    exact br_t (by rw [hct, hs]; rfl) ⟨rfl, hR⟩
  have hneX : ¬ nI (nS 3) = 16 := zn_ne (b := 16) (by omega) (by omega) hs
  refine br_f hneX ?_
  by_cases hl : 2 ≤ ss.length
  · obtain ⟨b, a, l, rfl⟩ := zl_2 hl
    obtain ⟨hb, ha, hll⟩ := a2
    have hlen : l.length + 2 ≤ nS 3 := a4
    obtain ⟨x1, x2, x3⟩ := hX.2.1.2.2.2.2.2
    obtain ⟨y1, y2, y3⟩ := hY.2.1.2.2.2.2.2
    have y1' : b_stack (l.length + 1) = nI b := y1
    have hla := ((hG.1 3 (by omega)).2.2.1 a ha).2.2.2.2.2.2.2.2.2.2.2.2.2.2.2
    have h2le : (2 : Int32) ≤ nI (b :: a :: l).length := nI_le (a := 2) hl (by omega)
    refine br_t h2le (zx_mk2 (h := l.length) (k := 10) (a := a) (b := b) (by omega) (by omega) (by omega) x2 x1 (by omega) (by omega) ?_)
    dsimp only
    unfold wpY_seq
    have e1 : nI (b :: a :: l).length - 2 = nI l.length := zn_sub2 l.length
    refine br_f (by rw [hct]; exact hneX) (br_t h2le (nm_r e1 ?_))
    rw [hct, zn_a48, zn_c (by omega : 48 + nS 3 < 2 ^ 31), nI_1 l.length, zn_c (by omega : l.length < 2 ^ 31), zn_c (by omega : l.length + 1 < 2 ^ 31), y1', y2]
    have hin : vp_in (nI (48 + nS 3)) 64 := vp_in_nI (by omega) (by omega)
    refine And.intro (vp_in_nI (by omega) (by omega)) (And.intro hin (nm_e (And.intro (vp_in_nI (by omega) (by omega)) (And.intro hin (nm_e (zy_mk (n := nS 3) (by omega) (by omega) hct ?_))))))
    have sL : zs_L (S 3) b + (zs_L (S 3) a + zl_s (zs_L (S 3)) l) ≤ 4 * nS 3 := a6
    refine ⟨rfl, zz_R (zi_G_stmt (new := zg_st 10 0 0 a b 0 0 (zs_L (S 3) a + zs_L (S 3) b) (1 + zs_I (S 3) a + zs_I (S 3) b) (zs_W (S 3) a + zs_W (S 3) b)) (ss0 := l) (ts0 := ts) hG (by omega) hll (by omega) a1 a3 ?_ ?_ ?_ (Nat.le_refl _) ?_)
      (zi_X_stmt hX h16 ?_ ?_ ?_ ?_ ?_ ?_ ?_ ?_ ?_) (zi_Y_stmt hY h16 ?_ ?_ ?_ ?_ ?_ ?_ ?_ ?_ ?_)⟩
    · exact zs_newS ha hb hla
    · show zs_L (S 3) a + zs_L (S 3) b + zl_s (zs_L (S 3)) l ≤ zs_L (S 3) b + (zs_L (S 3) a + zl_s (zs_L (S 3)) l) + 4; omega
    · show 1 + zs_I (S 3) a + zs_I (S 3) b + zl_s (zs_I (S 3)) l ≤ zs_I (S 3) b + (zs_I (S 3) a + zl_s (zs_I (S 3)) l) + 3; omega
    · show _ + (zs_W (S 3) a + zs_W (S 3) b + zl_s (zs_W (S 3)) l) ≤ _ + (zs_W (S 3) b + (zs_W (S 3) a + zl_s (zs_W (S 3)) l)) + 2; omega
    · exact fun j hj => ⟨pk_un hj, pk_un hj, pk_un hj, pk_un hj, pk_un hj, rfl, rfl⟩
    · exact pk_us
    · exact fun z => absurd (show (1 ≤ 10 ∧ 10 ≤ 3) ∨ (6 ≤ 10 ∧ 10 ≤ 8) from z) (by decide)
    · exact fun z => absurd (show 10 = 1 ∨ 10 = 4 ∨ 10 = 5 from z) (by decide)
    · exact fun z => absurd (show (6 ≤ 10 ∧ 10 ≤ 9) ∨ 11 ≤ 10 from z) (by decide)
    · exact fun z => absurd (show 11 ≤ 10 from z) (by decide)
    · exact fun _ => ⟨pk_us, pk_us⟩
    · exact hX.2.1.2.2.2.2.1
    · exact zl_h_push x3
    · exact fun j hj => ⟨pk_un hj, pk_un hj, pk_un hj, pk_un hj, pk_un hj, rfl, rfl⟩
    · exact pk_us
    · exact fun z => absurd (show (1 ≤ 10 ∧ 10 ≤ 3) ∨ (6 ≤ 10 ∧ 10 ≤ 8) from z) (by decide)
    · exact fun z => absurd (show 10 = 1 ∨ 10 = 4 ∨ 10 = 5 from z) (by decide)
    · exact fun z => absurd (show (6 ≤ 10 ∧ 10 ≤ 9) ∨ 11 ≤ 10 from z) (by decide)
    · exact fun z => absurd (show 11 ≤ 10 from z) (by decide)
    · exact fun _ => ⟨pk_us, pk_us⟩
    · exact hY.2.1.2.2.2.2.1
    · exact zl_h_push y3
  · have h2n : ¬ (2 : Int32) ≤ nI ss.length := nI_ge (b := 2) (by omega) (by omega)
    refine br_f h2n ?_
    unfold wpY_seq
    exact br_f (by rw [hct]; exact hneX) (br_f h2n ⟨rfl, hR⟩)
theorem i_vc_tested {k : Nat} {u : SX} {v : SY} (I : i_Rel k u v) (hk : k + 4 ≤ 2048) (v1 : Int32) : wpX_tested (fun r u' => wpY_tested (fun r' v' => r' = r ∧ i_Rel (k + 4) u' v') v v1) u v1 := by
  refine zz_el (P := fun u v => wpX_tested (fun r u' => wpY_tested (fun r' v' => r' = r ∧ i_Rel (k + 4) u' v') v v1) u v1) I ?_
  intro S T nS nT ts ss ρ π stp o f_compiled f_codeSize f_wordCount f_works f_procedure f_at f_inside f_ahead f_undoing f_outcomeThen f_calls f_state a_termKind a_termA a_termB a_termNumber a_registersIn a_termStack a_kind a_register a_number a_partA a_partB a_testX a_testY a_size a_stack a_code a_first a_second a_codeX a_codeY a_partner a_other a_begin a_end a_word a_wordNumber a_constant a_folded a_work a_workOn a_openAt a_middleAt a_placeX a_placeY a_todo a_value a_held a_operand a_callAt a_callIn g_oldHigh g_open g_next g_back g_calls b_sorts b_regs b_numbers b_firsts b_seconds b_tests b_exits b_sizes b_kinds b_lefts b_rights b_masks b_counts b_values b_stack b_pieces b_registers b_pile b_oldRegisters b_oldPile b_openNode b_openPart b_openBack hG hX hY
  have hR : i_Rel (k + 4) (nI (nT 3), nI ts.length, nI (nS 3), nI ss.length, f_compiled, f_codeSize, f_wordCount, f_works, f_procedure, nI π.length, f_at, f_inside, f_ahead, f_undoing, f_outcomeThen, f_calls, f_state, o, nI stp, a_termKind, a_termA, a_termB, a_termNumber, a_registersIn, a_termStack, a_kind, a_register, a_number, a_partA, a_partB, a_testX, a_testY, a_size, a_stack, a_code, a_first, a_second, a_codeX, a_codeY, a_partner, a_other, a_begin, a_end, a_word, a_wordNumber, a_constant, a_folded, a_work, a_workOn, a_openAt, a_middleAt, a_placeX, a_placeY, a_todo, a_value, a_held, a_operand, a_callAt, a_callIn) (nI ss.length, nI ts.length, nI π.length, g_oldHigh, g_open, g_next, g_back, g_calls, o, nI stp, b_sorts, b_regs, b_numbers, b_firsts, b_seconds, b_tests, b_exits, b_sizes, b_kinds, b_lefts, b_rights, b_masks, b_counts, b_values, b_stack, b_pieces, b_registers, b_pile, b_oldRegisters, b_oldPile, b_openNode, b_openPart, b_openBack) := zz_R hG hX hY
  have h16 : ∀ g, g < 4 → nS g ≤ 16 := fun g hg => (hG.1 g hg).1
  have h16' := h16 3 (by omega)
  have h24' := (hG.1 3 (by omega)).2.1
  have hct : b_sizes 3 = nI (nS 3) := hY.2.1.2.2.1 3 (by omega)
  obtain ⟨a1, a2, a3, a4, a5, a6, a7, a8, a9⟩ := hG.2.2.1
  by_cases h0 : v1 < 0
  · unfold wpX_tested; refine br_t h0 ?_
    unfold wpY_tested; exact br_t h0 ⟨rfl, hR⟩
  by_cases h1 : v1 ≤ 1
  rotate_left
  · unfold wpX_tested; refine br_f h0 (br_f h1 ?_)
    unfold wpY_tested; exact br_f h0 (br_f h1 ⟨rfl, hR⟩)
  obtain ⟨op, hop, rfl⟩ := nI_of2 (n := 1) (by decide) h0 h1
  unfold wpX_tested
  refine br_f h0 (br_t h1 ?_)
  by_cases hs : nS 3 = 16
  · refine br_t (by rw [hs]; rfl) ?_
    unfold wpY_tested
    exact br_f h0 (br_t h1 (br_t (by rw [hct, hs]; rfl) ⟨rfl, hR⟩))
  have hneX : ¬ nI (nS 3) = 16 := zn_ne (b := 16) (by omega) (by omega) hs
  refine br_f hneX ?_
  by_cases hl : 2 ≤ ss.length
  rotate_left
  · have h2n : nI ss.length < 2 := nI_lt (b := 2) (by omega) (by omega)
    refine br_t h2n ?_
    unfold wpY_tested
    exact br_f h0 (br_t h1 (br_f (by rw [hct]; exact hneX) (br_t h2n ⟨rfl, hR⟩)))
  have h2n : ¬ nI ss.length < 2 := nI_nlt (b := 2) (by omega) (by omega)
  refine br_f h2n ?_
  by_cases htl : 2 ≤ ts.length
  rotate_left
  · have h2t : ¬ (2 : Int32) ≤ nI ts.length := nI_ge (b := 2) (by omega) (by omega)
    refine br_f h2t ?_
    unfold wpY_tested
    exact br_f h0 (br_t h1 (br_f (by rw [hct]; exact hneX) (br_f h2n (br_f h2t ⟨rfl, hR⟩))))
  have h2t : (2 : Int32) ≤ nI ts.length := nI_le (a := 2) htl (by omega)
  refine br_t h2t ?_
  obtain ⟨b, a, l, rfl⟩ := zl_2 hl
  obtain ⟨y, x, m, rfl⟩ := zl_2 htl
  obtain ⟨hb, ha, hll⟩ := a2
  obtain ⟨hy, hx, hml⟩ := a1
  have hlen : l.length + 2 ≤ nS 3 := a4
  have hmen : m.length + 2 ≤ nT 3 := a3
  obtain ⟨x1, x2, x3⟩ := hX.2.1.2.2.2.2.2
  obtain ⟨y1, y2, y3⟩ := hY.2.1.2.2.2.2.2
  obtain ⟨p1, p2, p3⟩ := hX.2.1.2.2.2.2.1
  obtain ⟨q1, q2, q3⟩ := hY.2.1.2.2.2.2.1
  have p1' : a_termStack (m.length + 1) = nI y := p1
  have q1' : b_pieces (m.length + 1) = nI y := q1
  have y1' : b_stack (l.length + 1) = nI b := y1
  have es : nI (b :: a :: l).length - 2 = nI l.length := zn_sub2 l.length
  have et : nI (y :: x :: m).length - 2 = nI m.length := zn_sub2 m.length
  have hin : vp_in (nI (48 + nS 3)) 64 := vp_in_nI (by omega) (by omega)
  refine nm_r et ?_
  rw [zn_a48, zn_c (by omega : 48 + nS 3 < 2 ^ 31), nI_1 m.length, zn_c (by omega : m.length < 2 ^ 31), zn_c (by omega : m.length + 1 < 2 ^ 31), p1', p2, zn_vb (by omega : x < 128), zn_vb (by omega : y < 128), zn_a11]
  refine And.intro (vp_in_nI (by omega) (by omega)) (And.intro hin (nm_e (And.intro (vp_in_nI (by omega) (by omega)) (And.intro hin (nm_e (zx_mk2 (h := l.length) (a := a) (b := b) (by omega) (by omega) (by omega) x2 x1 (by omega) (by omega) ?_))))))
  dsimp only
  unfold wpY_tested
  refine br_f h0 (br_t h1 (br_f (by rw [hct]; exact hneX) (br_f h2n (br_t h2t (nm_r es (nm_r et (nm_r (e' := nI (48 + nS 3)) (by rw [hct, zn_a48]) ?_)))))))
  rw [zn_c (by omega : 48 + nS 3 < 2 ^ 31), nI_1 l.length, zn_c (by omega : l.length < 2 ^ 31), zn_c (by omega : l.length + 1 < 2 ^ 31), y1', y2, nI_1 m.length, zn_c (by omega : m.length < 2 ^ 31), zn_c (by omega : m.length + 1 < 2 ^ 31), q1', q2, zn_a11]
  refine And.intro (vp_in_nI (by omega) (by omega)) (And.intro hin (nm_e (And.intro (vp_in_nI (by omega) (by omega)) (And.intro hin (nm_e (And.intro (vp_in_nI (by omega) (by omega)) (And.intro hin (nm_e (And.intro (vp_in_nI (by omega) (by omega)) (And.intro hin (nm_e
    (zy_mk (n := nS 3) (by omega) (by omega) hct ?_))))))))))))
  have hk11 : 11 + op = 11 ∨ 11 + op = 12 := by omega
  refine ⟨rfl, zz_R (zi_G_stmt (new := zg_st (11 + op) 0 0 a b x y ((if 11 + op = 11 then 4 else 3) + zs_L (S 3) a + zs_L (S 3) b) (3 + zs_I (S 3) a + zs_I (S 3) b) (zt_s (T 3) x + zt_s (T 3) y + 2 + zs_W (S 3) a + zs_W (S 3) b)) (ss0 := l) (ts0 := m) hG (by omega) hll (by omega) hml (by omega) ?_ ?_ ?_ ?_ ?_)
    (zi_X_stmt hX h16 ?_ ?_ ?_ ?_ ?_ ?_ ?_ ?_ ?_) (zi_Y_stmt hY h16 ?_ ?_ ?_ ?_ ?_ ?_ ?_ ?_ ?_)⟩
  · exact zs_newT hk11 ha hb hx hy
  · show (if 11 + op = 11 then 4 else 3) + zs_L (S 3) a + zs_L (S 3) b + zl_s (zs_L (S 3)) l ≤ zs_L (S 3) b + (zs_L (S 3) a + zl_s (zs_L (S 3)) l) + 4
    split <;> omega
  · show 3 + zs_I (S 3) a + zs_I (S 3) b + zl_s (zs_I (S 3)) l ≤ zs_I (S 3) b + (zs_I (S 3) a + zl_s (zs_I (S 3)) l) + 3; omega
  · show zl_s (zt_s (T 3)) m ≤ zt_s (T 3) y + (zt_s (T 3) x + zl_s (zt_s (T 3)) m); omega
  · show zl_s (zt_s (T 3)) m + (zt_s (T 3) x + zt_s (T 3) y + 2 + zs_W (S 3) a + zs_W (S 3) b + zl_s (zs_W (S 3)) l) ≤ zt_s (T 3) y + (zt_s (T 3) x + zl_s (zt_s (T 3)) m) + (zs_W (S 3) b + (zs_W (S 3) a + zl_s (zs_W (S 3)) l)) + 2; omega
  · exact fun j hj => ⟨pk_un hj, pk_un hj, pk_un hj, pk_un hj, pk_un hj, pk_un hj, pk_un hj⟩
  · exact pk_us
  · exact fun z => absurd (show (1 ≤ 11 + op ∧ 11 + op ≤ 3) ∨ (6 ≤ 11 + op ∧ 11 + op ≤ 8) from z) (by omega)
  · exact fun z => absurd (show 11 + op = 1 ∨ 11 + op = 4 ∨ 11 + op = 5 from z) (by omega)
  · exact fun _ => pk_us
  · exact fun _ => pk_us
  · exact fun _ => ⟨pk_us, pk_us⟩
  · exact p3
  · exact zl_h_push x3
  · exact fun j hj => ⟨pk_un hj, pk_un hj, pk_un hj, pk_un hj, pk_un hj, pk_un hj, pk_un hj⟩
  · exact pk_us
  · exact fun z => absurd (show (1 ≤ 11 + op ∧ 11 + op ≤ 3) ∨ (6 ≤ 11 + op ∧ 11 + op ≤ 8) from z) (by omega)
  · exact fun z => absurd (show 11 + op = 1 ∨ 11 + op = 4 ∨ 11 + op = 5 from z) (by omega)
  · exact fun _ => pk_us
  · exact fun _ => pk_us
  · exact fun _ => ⟨pk_us, pk_us⟩
  · exact q3
  · exact zl_h_push y3
end
section
/-! ===== the owed: discard, procedure ===== -/
theorem zs_ok_0 {S T : Nat → Nat → Nat} {n : Nat} : zs_ok S T 0 n := fun s hs => absurd hs (Nat.not_lt_zero s)
theorem zt_ok_0 {T : Nat → Nat → Nat} : zt_ok T 0 := fun s hs => absurd hs (Nat.not_lt_zero s)
theorem zi_G_disc {S T : Nat → Nat → Nat → Nat} {nS nT : Nat → Nat} {ts ss : List Nat} {π : List Int32} {stp : Nat} (hG : zi_G S T nS nT ts ss π stp) : zi_G S T (zg_set nS 3 0) (zg_set nT 3 0) [] [] π stp := by
  obtain ⟨hG1, hG2, _, hG4, hG5⟩ := hG
  refine ⟨fun g hg => ?_, fun g hg => ?_, ?_, hG4, hG5⟩
  · by_cases e : g = 3
    · subst e
      rw [zg_s, zg_s]
      exact ⟨by omega, by omega, zs_ok_0, zt_ok_0⟩
    · rw [zg_n e, zg_n e]
      exact hG1 g hg
  · rw [zg_n (by omega)]
    exact hG2 g hg
  · rw [zg_s, zg_s]
    exact ⟨trivial, trivial, Nat.le_refl _, Nat.le_refl _, Nat.le_refl _, Nat.le_refl _, Nat.le_refl _, Nat.le_refl _, fun s l e => nomatch e⟩
theorem zi_TX_0 {b : Nat} {T : Nat → Nat → Nat} {tk ta tb tn : Nat → Int32} : zi_TX b 0 T tk ta tb tn := fun s hs => absurd hs (Nat.not_lt_zero s)
theorem zi_TY_0 {b : Nat} {T : Nat → Nat → Nat} {tk ta tb : Nat → Int32} : zi_TY b 0 T tk ta tb := fun s hs => absurd hs (Nat.not_lt_zero s)
theorem zi_SY_0 {b : Nat} {S : Nat → Nat → Nat} {c d e f g h i : Nat → Int32} : zi_SY b 0 S c d e f g h i := fun s hs => absurd hs (Nat.not_lt_zero s)
section
variable {f_terms f_termHeight f_made f_height f_compiled f_codeSize f_wordCount f_works f_procedure f_high f_at f_inside f_ahead f_undoing f_outcomeThen f_calls f_state f_last f_stepCount : Int32} {a_termKind a_termA a_termB a_termNumber a_registersIn a_termStack a_kind a_register a_number a_partA a_partB a_testX a_testY a_size a_stack a_code a_first a_second a_codeX a_codeY a_partner a_other a_begin a_end a_word a_wordNumber a_constant a_folded a_work a_workOn a_openAt a_middleAt a_placeX a_placeY a_todo a_value a_held a_operand a_callAt a_callIn : Nat → Int32}
theorem zi_X_disc {S T : Nat → Nat → Nat → Nat} {nS nT : Nat → Nat} {ts ss : List Nat} {ρ : Nat → Int32} {π : List Int32} {stp : Nat} {o : Int32} (hX : zi_X S T nS nT ts ss ρ π stp o (f_terms, f_termHeight, f_made, f_height, f_compiled, f_codeSize, f_wordCount, f_works, f_procedure, f_high, f_at, f_inside, f_ahead, f_undoing, f_outcomeThen, f_calls, f_state, f_last, f_stepCount, a_termKind, a_termA, a_termB, a_termNumber, a_registersIn, a_termStack, a_kind, a_register, a_number, a_partA, a_partB, a_testX, a_testY, a_size, a_stack, a_code, a_first, a_second, a_codeX, a_codeY, a_partner, a_other, a_begin, a_end, a_word, a_wordNumber, a_constant, a_folded, a_work, a_workOn, a_openAt, a_middleAt, a_placeX, a_placeY, a_todo, a_value, a_held, a_operand, a_callAt, a_callIn)) : zi_X S T (zg_set nS 3 0) (zg_set nT 3 0) [] [] ρ π stp o (0, 0, 0, 0, f_compiled, f_codeSize, f_wordCount, f_works, f_procedure, f_high, f_at, f_inside, f_ahead, f_undoing, f_outcomeThen, f_calls, f_state, f_last, f_stepCount, a_termKind, a_termA, a_termB, a_termNumber, a_registersIn, a_termStack, a_kind, a_register, a_number, a_partA, a_partB, a_testX, a_testY, a_size, a_stack, a_code, a_first, a_second, a_codeX, a_codeY, a_partner, a_other, a_begin, a_end, a_word, a_wordNumber, a_constant, a_folded, a_work, a_workOn, a_openAt, a_middleAt, a_placeX, a_placeY, a_todo, a_value, a_held, a_operand, a_callAt, a_callIn) := by
  obtain ⟨⟨hf1, hf2, hf3, hf4, hf5, hf6, hf7⟩, ⟨hM, hmk, hr, hsz, hts, hss⟩, hcomp, hv, hh⟩ := hX
  refine ⟨⟨by rw [zg_s]; rfl, rfl, by rw [zg_s]; rfl, rfl, hf5, hf6, hf7⟩, ⟨fun g hg => ?_, fun t ht => ?_, hr, fun g hg => ?_, trivial, trivial⟩, ?_, hv, hh⟩
  · by_cases e : g = 3
    · subst e
      rw [zg_s, zg_s]
      exact ⟨zi_TX_0, zi_SY_0⟩
    · rw [zg_n e, zg_n e]
      exact hM g hg
  · rw [zg_s] at ht; exact absurd ht (Nat.not_lt_zero t)
  · rw [zg_n (by omega)]; exact hsz g hg
  · rcases hcomp with h | ⟨h, wc, h2, h3⟩
    · exact Or.inl h
    · exact Or.inr ⟨h, wc, h2, zc_all_cong (fun p hp => ⟨rfl, rfl, zg_n (by omega)⟩) h3⟩
end
section
variable {g_depth g_pieceDepth g_high g_oldHigh g_open g_next g_back g_calls g_end g_steps : Int32} {b_sorts b_regs b_numbers b_firsts b_seconds b_tests b_exits b_sizes b_kinds b_lefts b_rights b_masks b_counts b_values b_stack b_pieces b_registers b_pile b_oldRegisters b_oldPile b_openNode b_openPart b_openBack : Nat → Int32}
theorem zi_Y_disc {S T : Nat → Nat → Nat → Nat} {nS nT : Nat → Nat} {ts ss : List Nat} {ρ : Nat → Int32} {π : List Int32} {stp : Nat} {o : Int32} (hY : zi_Y S T nS nT ts ss ρ π stp o (g_depth, g_pieceDepth, g_high, g_oldHigh, g_open, g_next, g_back, g_calls, g_end, g_steps, b_sorts, b_regs, b_numbers, b_firsts, b_seconds, b_tests, b_exits, b_sizes, b_kinds, b_lefts, b_rights, b_masks, b_counts, b_values, b_stack, b_pieces, b_registers, b_pile, b_oldRegisters, b_oldPile, b_openNode, b_openPart, b_openBack)) : zi_Y S T (zg_set nS 3 0) (zg_set nT 3 0) [] [] ρ π stp o (0, 0, g_high, g_oldHigh, g_open, g_next, g_back, g_calls, g_end, g_steps, b_sorts, b_regs, b_numbers, b_firsts, b_seconds, b_tests, b_exits, upd b_sizes 3 0, b_kinds, b_lefts, b_rights, b_masks, upd b_counts 3 0, b_values, b_stack, b_pieces, b_registers, b_pile, b_oldRegisters, b_oldPile, b_openNode, b_openPart, b_openBack) := by
  obtain ⟨⟨hf1, hf2, hf3, hf4, hf5⟩, ⟨hM, hmk, hsz, hct, hts, hss⟩, hv, hh⟩ := hY
  refine ⟨⟨rfl, rfl, hf3, hf4, hf5⟩, ⟨fun g hg => ?_, fun t ht => ?_, fun g hg => ?_, by rw [pk_us, zg_s]; rfl, trivial, trivial⟩, hv, hh⟩
  · by_cases e : g = 3
    · subst e
      rw [zg_s, zg_s]
      exact ⟨zi_TY_0, zi_SY_0⟩
    · rw [zg_n e, zg_n e]
      exact hM g hg
  · rw [zg_s] at ht; exact absurd ht (Nat.not_lt_zero t)
  · by_cases e : g = 3
    · subst e
      rw [pk_us, zg_s]; rfl
    · rw [pk_un e, zg_n e]; exact hsz g hg
theorem zy_emp {post : SY → Prop} (h : post (0, 0, g_high, g_oldHigh, g_open, g_next, g_back, g_calls, g_end, g_steps, b_sorts, b_regs, b_numbers, b_firsts, b_seconds, b_tests, b_exits, upd b_sizes 3 0, b_kinds, b_lefts, b_rights, b_masks, upd b_counts 3 0, b_values, b_stack, b_pieces, b_registers, b_pile, b_oldRegisters, b_oldPile, b_openNode, b_openPart, b_openBack)) : wpY_empty post (g_depth, g_pieceDepth, g_high, g_oldHigh, g_open, g_next, g_back, g_calls, g_end, g_steps, b_sorts, b_regs, b_numbers, b_firsts, b_seconds, b_tests, b_exits, b_sizes, b_kinds, b_lefts, b_rights, b_masks, b_counts, b_values, b_stack, b_pieces, b_registers, b_pile, b_oldRegisters, b_oldPile, b_openNode, b_openPart, b_openBack) := by
  unfold wpY_empty
  exact nm_e (nm_e h)
end
theorem i_vc_discard {k : Nat} {u : SX} {v : SY} (I : i_Rel k u v) (hk : k + 4 ≤ 2048) : wpX_discard (fun r u' => wpY_discard (fun r' v' => r' = r ∧ i_Rel (k + 4) u' v') v) u := by
  refine zz_el (P := fun u v => wpX_discard (fun r u' => wpY_discard (fun r' v' => r' = r ∧ i_Rel (k + 4) u' v') v) u) I ?_
  intro S T nS nT ts ss ρ π stp o f_compiled f_codeSize f_wordCount f_works f_procedure f_at f_inside f_ahead f_undoing f_outcomeThen f_calls f_state a_termKind a_termA a_termB a_termNumber a_registersIn a_termStack a_kind a_register a_number a_partA a_partB a_testX a_testY a_size a_stack a_code a_first a_second a_codeX a_codeY a_partner a_other a_begin a_end a_word a_wordNumber a_constant a_folded a_work a_workOn a_openAt a_middleAt a_placeX a_placeY a_todo a_value a_held a_operand a_callAt a_callIn g_oldHigh g_open g_next g_back g_calls b_sorts b_regs b_numbers b_firsts b_seconds b_tests b_exits b_sizes b_kinds b_lefts b_rights b_masks b_counts b_values b_stack b_pieces b_registers b_pile b_oldRegisters b_oldPile b_openNode b_openPart b_openBack hG hX hY
  unfold wpX_discard
  dsimp only
  unfold wpY_discard
  exact zy_emp ⟨rfl, zz_R (zi_G_disc hG) (zi_X_disc hX) (zi_Y_disc hY)⟩
/-- copied cells -/
def zq_cp (f : Int32 → Int32) (src dst n : Nat) (a a' : Nat → Int32) : Prop := (∀ t, t < n → a' (dst + t) = f (a (src + t))) ∧ (∀ j, j < dst ∨ dst + n ≤ j → a' j = a j)
theorem zq_0 {f : Int32 → Int32} {src dst : Nat} {a : Nat → Int32} : zq_cp f src dst 0 a a := ⟨fun t ht => absurd ht (Nat.not_lt_zero t), fun j _ => rfl⟩
theorem zq_s {f : Int32 → Int32} {src dst n : Nat} {a a' : Nat → Int32} (h : zq_cp f src dst n a a') (hs : dst + n ≤ src + n) : zq_cp f src dst (n + 1) a (upd a' (dst + n) (f (a' (src + n)))) := by
  refine ⟨fun t ht => ?_, fun j hj => ?_⟩
  · by_cases e : t = n
    · subst e
      rw [pk_us, h.2 (src + t) (by omega)]
    · rw [pk_un (by omega)]
      exact h.1 t (by omega)
  · rw [pk_un (by omega)]
    exact h.2 j (by omega)
theorem zi_TX_copy {p n : Nat} {T : Nat → Nat → Nat} {tk ta tb tn tk' ta' tb' tn' : Nat → Int32} (ho : zt_ok T n) (hn : n ≤ 24) (h : zi_TX 72 n T tk ta tb tn) (h1 : zq_cp (vp_nar .byte) 72 (24 * p) n tk tk') (h2 : zq_cp (vp_nar .byte) 72 (24 * p) n ta ta')
    (h3 : zq_cp (vp_nar .byte) 72 (24 * p) n tb tb') (h4 : zq_cp (vp_nar .byte) 72 (24 * p) n tn tn') : zi_TX (24 * p) n T tk' ta' tb' tn' := by
  intro t ht
  obtain ⟨m1, m2, m3⟩ := h t ht
  have hok := ho t ht
  have hk8 := hok.1
  rw [h1.1 t ht, h2.1 t ht, h3.1 t ht, h4.1 t ht, m1]
  refine ⟨zn_vb (by omega), fun hk => ?_, fun hk => ?_⟩
  · rw [m2 hk]
    by_cases e : zt_k T t = 7
    · exact hok.2.1 e
    · exact zn_vb (by have := hok.2.2.1 (by omega); omega)
  · obtain ⟨ha, hb, _⟩ := hok.2.2.2.1 hk
    rw [(m3 hk).1, (m3 hk).2]
    exact ⟨zn_vb (by omega), zn_vb (by omega)⟩
theorem zi_TY_copy {p n : Nat} {T : Nat → Nat → Nat} {kd lf rt kd' lf' rt' : Nat → Int32} (hn : n ≤ 24) (h : zi_TY 72 n T kd lf rt) (h1 : zq_cp id 72 (24 * p) 24 kd kd') (h2 : zq_cp id 72 (24 * p) 24 lf lf')
    (h3 : zq_cp id 72 (24 * p) 24 rt rt') : zi_TY (24 * p) n T kd' lf' rt' := by
  intro t ht
  rw [h1.1 t (by omega), h2.1 t (by omega), h3.1 t (by omega)]
  exact h t ht
theorem zi_SX_copy {p n nT : Nat} {S T : Nat → Nat → Nat} {kd rg nu pa pb tx ty kd' rg' nu' pa' pb' tx' ty' : Nat → Int32} (ho : zs_ok S T n nT) (hn : n ≤ 16) (hT : nT ≤ 24) (h : zi_SY 48 n S kd rg nu pa pb tx ty)
    (h1 : zq_cp (vp_nar .byte) 48 (16 * p) n kd kd') (h2 : zq_cp (vp_nar .byte) 48 (16 * p) n rg rg') (h3 : zq_cp (vp_nar .byte) 48 (16 * p) n nu nu') (h4 : zq_cp (vp_nar .byte) 48 (16 * p) n pa pa') (h5 : zq_cp (vp_nar .byte) 48 (16 * p) n pb pb')
    (h6 : zq_cp (vp_nar .byte) 48 (16 * p) n tx tx') (h7 : zq_cp (vp_nar .byte) 48 (16 * p) n ty ty') : zi_SY (16 * p) n S kd' rg' nu' pa' pb' tx' ty' := by
  intro s hs
  obtain ⟨m1, m2, m3, m4, m5, m6⟩ := h s hs
  have hok := ho s hs
  have hk := hok.1
  rw [h1.1 s hs, h2.1 s hs, h3.1 s hs, h4.1 s hs, h5.1 s hs, h6.1 s hs, h7.1 s hs, m1]
  refine ⟨zn_vb (by omega), fun z => ?_, fun z => ?_, fun z => ?_, fun z => ?_, fun z => ?_⟩
  · rw [m2 z]; exact zn_vb (by have := hok.2.1 z; omega)
  · rw [m3 z]
    refine zn_vb ?_
    rcases z with z | z
    · have := hok.2.2.1 z; omega
    · have := hok.2.2.2.1 z; omega
  · rw [m4 z]
    refine zn_vb ?_
    rcases z with z | z
    · have := hok.2.2.2.2.1 z; omega
    · have := hok.2.2.2.2.2.2.2.1 z; omega
  · rw [m5 z]; exact zn_vb (by have := hok.2.2.2.2.2.2.2.1 z; omega)
  · have := hok.2.2.2.2.2.2.1 z
    rw [(m6 z).1, (m6 z).2]
    exact ⟨zn_vb (by omega), zn_vb (by omega)⟩
theorem zi_SY_copy {p n : Nat} {S : Nat → Nat → Nat} {kd rg nu pa pb tx ty kd' rg' nu' pa' pb' tx' ty' : Nat → Int32} (hn : n ≤ 16) (h : zi_SY 48 n S kd rg nu pa pb tx ty)
    (h1 : zq_cp id 48 (16 * p) 16 kd kd') (h2 : zq_cp id 48 (16 * p) 16 rg rg') (h3 : zq_cp id 48 (16 * p) 16 nu nu') (h4 : zq_cp id 48 (16 * p) 16 pa pa') (h5 : zq_cp id 48 (16 * p) 16 pb pb')
    (h6 : zq_cp id 48 (16 * p) 16 tx tx') (h7 : zq_cp id 48 (16 * p) 16 ty ty') : zi_SY (16 * p) n S kd' rg' nu' pa' pb' tx' ty' := by
  intro s hs
  rw [h1.1 s (by omega), h2.1 s (by omega), h3.1 s (by omega), h4.1 s (by omega), h5.1 s (by omega), h6.1 s (by omega), h7.1 s (by omega)]
  exact h s hs
section
variable {f_terms f_termHeight f_made f_height f_compiled f_codeSize f_wordCount f_works f_procedure f_high f_at f_inside f_ahead f_undoing f_outcomeThen f_calls f_state f_last f_stepCount : Int32} {a_termKind a_termA a_termB a_termNumber a_registersIn a_termStack a_kind a_register a_number a_partA a_partB a_testX a_testY a_size a_stack a_code a_first a_second a_codeX a_codeY a_partner a_other a_begin a_end a_word a_wordNumber a_constant a_folded a_work a_workOn a_openAt a_middleAt a_placeX a_placeY a_todo a_value a_held a_operand a_callAt a_callIn : Nat → Int32}
theorem zx_cT {Q : SX → Prop} {s d : Nat} (hs : s < 96) (hd : d < 96) (h : Q (f_terms, f_termHeight, f_made, f_height, f_compiled, f_codeSize, f_wordCount, f_works, f_procedure, f_high, f_at, f_inside, f_ahead, f_undoing, f_outcomeThen, f_calls, f_state, f_last, f_stepCount, upd a_termKind d (vp_nar .byte (a_termKind s)), upd a_termA d (vp_nar .byte (a_termA s)), upd a_termB d (vp_nar .byte (a_termB s)), upd a_termNumber d (vp_nar .byte (a_termNumber s)), a_registersIn, a_termStack, a_kind, a_register, a_number, a_partA, a_partB, a_testX, a_testY, a_size, a_stack, a_code, a_first, a_second, a_codeX, a_codeY, a_partner, a_other, a_begin, a_end, a_word, a_wordNumber, a_constant, a_folded, a_work, a_workOn, a_openAt, a_middleAt, a_placeX, a_placeY, a_todo, a_value, a_held, a_operand, a_callAt, a_callIn)) :
    wpX_copyTerm Q (f_terms, f_termHeight, f_made, f_height, f_compiled, f_codeSize, f_wordCount, f_works, f_procedure, f_high, f_at, f_inside, f_ahead, f_undoing, f_outcomeThen, f_calls, f_state, f_last, f_stepCount, a_termKind, a_termA, a_termB, a_termNumber, a_registersIn, a_termStack, a_kind, a_register, a_number, a_partA, a_partB, a_testX, a_testY, a_size, a_stack, a_code, a_first, a_second, a_codeX, a_codeY, a_partner, a_other, a_begin, a_end, a_word, a_wordNumber, a_constant, a_folded, a_work, a_workOn, a_openAt, a_middleAt, a_placeX, a_placeY, a_todo, a_value, a_held, a_operand, a_callAt, a_callIn) (nI s) (nI d) := by
  have h1 : vp_in (nI s) 96 := vp_in_nI hs (by omega)
  have h2 : vp_in (nI d) 96 := vp_in_nI hd (by omega)
  unfold wpX_copyTerm
  dsimp only
  rw [zn_c (by omega : s < 2 ^ 31), zn_c (by omega : d < 2 ^ 31)]
  exact And.intro h1 (And.intro h2 (nm_e (And.intro h1 (And.intro h2 (nm_e (And.intro h1 (And.intro h2 (nm_e (And.intro h1 (And.intro h2 (nm_e h)))))))))))
theorem zx_cS {Q : SX → Prop} {s d : Nat} (hs : s < 64) (hd : d < 64) (h : Q (f_terms, f_termHeight, f_made, f_height, f_compiled, f_codeSize, f_wordCount, f_works, f_procedure, f_high, f_at, f_inside, f_ahead, f_undoing, f_outcomeThen, f_calls, f_state, f_last, f_stepCount, a_termKind, a_termA, a_termB, a_termNumber, a_registersIn, a_termStack, upd a_kind d (vp_nar .byte (a_kind s)), upd a_register d (vp_nar .byte (a_register s)), upd a_number d (vp_nar .byte (a_number s)), upd a_partA d (vp_nar .byte (a_partA s)), upd a_partB d (vp_nar .byte (a_partB s)), upd a_testX d (vp_nar .byte (a_testX s)), upd a_testY d (vp_nar .byte (a_testY s)), a_size, a_stack, a_code, a_first, a_second, a_codeX, a_codeY, a_partner, a_other, a_begin, a_end, a_word, a_wordNumber, a_constant, a_folded, a_work, a_workOn, a_openAt, a_middleAt, a_placeX, a_placeY, a_todo, a_value, a_held, a_operand, a_callAt, a_callIn)) :
    wpX_copyStatement Q (f_terms, f_termHeight, f_made, f_height, f_compiled, f_codeSize, f_wordCount, f_works, f_procedure, f_high, f_at, f_inside, f_ahead, f_undoing, f_outcomeThen, f_calls, f_state, f_last, f_stepCount, a_termKind, a_termA, a_termB, a_termNumber, a_registersIn, a_termStack, a_kind, a_register, a_number, a_partA, a_partB, a_testX, a_testY, a_size, a_stack, a_code, a_first, a_second, a_codeX, a_codeY, a_partner, a_other, a_begin, a_end, a_word, a_wordNumber, a_constant, a_folded, a_work, a_workOn, a_openAt, a_middleAt, a_placeX, a_placeY, a_todo, a_value, a_held, a_operand, a_callAt, a_callIn) (nI s) (nI d) := by
  have h1 : vp_in (nI s) 64 := vp_in_nI hs (by omega)
  have h2 : vp_in (nI d) 64 := vp_in_nI hd (by omega)
  unfold wpX_copyStatement
  dsimp only
  rw [zn_c (by omega : s < 2 ^ 31), zn_c (by omega : d < 2 ^ 31)]
  exact And.intro h1 (And.intro h2 (nm_e (And.intro h1 (And.intro h2 (nm_e (And.intro h1 (And.intro h2 (nm_e (And.intro h1 (And.intro h2 (nm_e (And.intro h1 (And.intro h2 (nm_e (And.intro h1 (And.intro h2 (nm_e (And.intro h1 (And.intro h2 (nm_e h))))))))))))))))))))
theorem zx_p60 {post : Int32 → SX → Prop} {p n : Nat} (hp : p < 3) (hn : n ≤ 16)
    (K : ∀ kd rg nu pa pb tx ty : Nat → Int32, zq_cp (vp_nar .byte) 48 (16 * p) n a_kind kd → zq_cp (vp_nar .byte) 48 (16 * p) n a_register rg → zq_cp (vp_nar .byte) 48 (16 * p) n a_number nu → zq_cp (vp_nar .byte) 48 (16 * p) n a_partA pa →
      zq_cp (vp_nar .byte) 48 (16 * p) n a_partB pb → zq_cp (vp_nar .byte) 48 (16 * p) n a_testX tx → zq_cp (vp_nar .byte) 48 (16 * p) n a_testY ty →
      post (nI n) (0, 0, 0, 0, 0, f_codeSize, f_wordCount, f_works, f_procedure, f_high, f_at, f_inside, f_ahead, f_undoing, f_outcomeThen, f_calls, f_state, f_last, f_stepCount, a_termKind, a_termA, a_termB, a_termNumber, a_registersIn, a_termStack, kd, rg, nu, pa, pb, tx, ty, upd a_size p (nI n), a_stack, a_code, a_first, a_second, a_codeX, a_codeY, a_partner, a_other, a_begin, a_end, a_word, a_wordNumber, a_constant, a_folded, a_work, a_workOn, a_openAt, a_middleAt, a_placeX, a_placeY, a_todo, a_value, a_held, a_operand, a_callAt, a_callIn)) :
    ∀ (k x : Nat) (kd rg nu pa pb tx ty : Nat → Int32), x + k = n → zq_cp (vp_nar .byte) 48 (16 * p) x a_kind kd → zq_cp (vp_nar .byte) 48 (16 * p) x a_register rg → zq_cp (vp_nar .byte) 48 (16 * p) x a_number nu → zq_cp (vp_nar .byte) 48 (16 * p) x a_partA pa →
      zq_cp (vp_nar .byte) 48 (16 * p) x a_partB pb → zq_cp (vp_nar .byte) 48 (16 * p) x a_testX tx → zq_cp (vp_nar .byte) 48 (16 * p) x a_testY ty →
      wX_procedure_60 post (nI p) (k + 1) (nI x) f_terms f_termHeight (nI n) f_height f_compiled f_codeSize f_wordCount f_works f_procedure f_high f_at f_inside f_ahead f_undoing f_outcomeThen f_calls f_state f_last f_stepCount a_termKind a_termA a_termB a_termNumber a_registersIn a_termStack kd rg nu pa pb tx ty a_size a_stack a_code a_first a_second a_codeX a_codeY a_partner a_other a_begin a_end a_word a_wordNumber a_constant a_folded a_work a_workOn a_openAt a_middleAt a_placeX a_placeY a_todo a_value a_held a_operand a_callAt a_callIn := by
  intro k
  induction k with
  | zero =>
    intro x kd rg nu pa pb tx ty hx h1 h2 h3 h4 h5 h6 h7
    have : x = n := by omega
    subst this
    refine br_t (nI_le (Nat.le_refl _) (by omega)) (And.intro (vp_in_nI hp (by omega)) ?_)
    rw [zn_c (by omega : p < 2 ^ 31), zn_vbb (by omega : x < 128)]
    refine nm_e ?_
    unfold wpX_discard
    exact K kd rg nu pa pb tx ty h1 h2 h3 h4 h5 h6 h7
  | succ k ih =>
    intro x kd rg nu pa pb tx ty hx h1 h2 h3 h4 h5 h6 h7
    refine br_f (nI_ge (by omega) (by omega)) ?_
    rw [zn_a48, zn_p16]
    refine zx_cS (by omega) (by omega) (nm_r (nI_1 x) ?_)
    exact ih (x + 1) _ _ _ _ _ _ _ (by omega) (zq_s h1 (by omega)) (zq_s h2 (by omega)) (zq_s h3 (by omega)) (zq_s h4 (by omega)) (zq_s h5 (by omega)) (zq_s h6 (by omega)) (zq_s h7 (by omega))
theorem zx_p30 {post : Int32 → SX → Prop} {p n : Nat} (hp : p < 3) (hn : n ≤ 24)
    (K : ∀ tk ta tb tn : Nat → Int32, zq_cp (vp_nar .byte) 72 (24 * p) n a_termKind tk → zq_cp (vp_nar .byte) 72 (24 * p) n a_termA ta → zq_cp (vp_nar .byte) 72 (24 * p) n a_termB tb → zq_cp (vp_nar .byte) 72 (24 * p) n a_termNumber tn →
      ∃ n60 : Nat, wX_procedure_60 post (nI p) n60 0 (nI n) f_termHeight f_made f_height f_compiled f_codeSize f_wordCount f_works f_procedure f_high f_at f_inside f_ahead f_undoing f_outcomeThen f_calls f_state f_last f_stepCount tk ta tb tn a_registersIn a_termStack a_kind a_register a_number a_partA a_partB a_testX a_testY a_size a_stack a_code a_first a_second a_codeX a_codeY a_partner a_other a_begin a_end a_word a_wordNumber a_constant a_folded a_work a_workOn a_openAt a_middleAt a_placeX a_placeY a_todo a_value a_held a_operand a_callAt a_callIn) :
    ∀ (k x : Nat) (tk ta tb tn : Nat → Int32), x + k = n → zq_cp (vp_nar .byte) 72 (24 * p) x a_termKind tk → zq_cp (vp_nar .byte) 72 (24 * p) x a_termA ta → zq_cp (vp_nar .byte) 72 (24 * p) x a_termB tb → zq_cp (vp_nar .byte) 72 (24 * p) x a_termNumber tn →
      wX_procedure_30 post (nI p) (k + 1) (nI x) (nI n) f_termHeight f_made f_height f_compiled f_codeSize f_wordCount f_works f_procedure f_high f_at f_inside f_ahead f_undoing f_outcomeThen f_calls f_state f_last f_stepCount tk ta tb tn a_registersIn a_termStack a_kind a_register a_number a_partA a_partB a_testX a_testY a_size a_stack a_code a_first a_second a_codeX a_codeY a_partner a_other a_begin a_end a_word a_wordNumber a_constant a_folded a_work a_workOn a_openAt a_middleAt a_placeX a_placeY a_todo a_value a_held a_operand a_callAt a_callIn := by
  intro k
  induction k with
  | zero =>
    intro x tk ta tb tn hx h1 h2 h3 h4
    have : x = n := by omega
    subst this
    exact br_t (nI_le (Nat.le_refl _) (by omega)) (K tk ta tb tn h1 h2 h3 h4)
  | succ k ih =>
    intro x tk ta tb tn hx h1 h2 h3 h4
    refine br_f (nI_ge (by omega) (by omega)) ?_
    rw [zn_a72, zn_p24]
    refine zx_cT (by omega) (by omega) (nm_r (nI_1 x) ?_)
    exact ih (x + 1) _ _ _ _ (by omega) (zq_s h1 (by omega)) (zq_s h2 (by omega)) (zq_s h3 (by omega)) (zq_s h4 (by omega))
end
section
variable {g_depth g_pieceDepth g_high g_oldHigh g_open g_next g_back g_calls g_end g_steps : Int32} {b_sorts b_regs b_numbers b_firsts b_seconds b_tests b_exits b_sizes b_kinds b_lefts b_rights b_masks b_counts b_values b_stack b_pieces b_registers b_pile b_oldRegisters b_oldPile b_openNode b_openPart b_openBack : Nat → Int32}
theorem zy_p185 {post : Int32 → SY → Prop} {p n : Nat} (hp : p < 3) (hz : b_sizes 3 = nI n)
    (K : ∀ kd lf rt : Nat → Int32, zq_cp id 72 (24 * p) 24 b_kinds kd → zq_cp id 72 (24 * p) 24 b_lefts lf → zq_cp id 72 (24 * p) 24 b_rights rt →
      post (nI n) (0, 0, g_high, g_oldHigh, g_open, g_next, g_back, g_calls, g_end, g_steps, b_sorts, b_regs, b_numbers, b_firsts, b_seconds, b_tests, b_exits, upd (upd b_sizes p (nI n)) 3 0, kd, lf, rt, b_masks, upd b_counts 3 0, b_values, b_stack, b_pieces, b_registers, b_pile, b_oldRegisters, b_oldPile, b_openNode, b_openPart, b_openBack)) :
    ∀ (k x : Nat) (kd lf rt : Nat → Int32), x + k = 24 → zq_cp id 72 (24 * p) x b_kinds kd → zq_cp id 72 (24 * p) x b_lefts lf → zq_cp id 72 (24 * p) x b_rights rt →
      wY_procedure_185 post (nI p) g_depth g_pieceDepth g_high g_oldHigh g_open g_next g_back g_calls g_end g_steps (k + 1) (nI x) b_sorts b_regs b_numbers b_firsts b_seconds b_tests b_exits b_sizes kd lf rt b_masks b_counts b_values b_stack b_pieces b_registers b_pile b_oldRegisters b_oldPile b_openNode b_openPart b_openBack := by
  intro k
  induction k with
  | zero =>
    intro x kd lf rt hx h1 h2 h3
    have : x = 24 := by omega
    subst this
    refine br_t (by decide) (And.intro (vp_in_nI (by omega) (by omega)) ?_)
    rw [zn_c (by omega : p < 2 ^ 31), hz]
    refine nm_e (zy_emp ?_)
    dsimp only
    rw [pk_un (by omega), pk_us]
    exact And.intro (vp_in_nI (by omega) (by omega)) (K kd lf rt h1 h2 h3)
  | succ k ih =>
    intro x kd lf rt hx h1 h2 h3
    have i1 : vp_in (nI (72 + x)) 96 := vp_in_nI (by omega) (by omega)
    have i2 : vp_in (nI (24 * p + x)) 96 := vp_in_nI (by omega) (by omega)
    refine br_f (nI_ge (b := 24) (by omega) (by omega)) ?_
    rw [zn_a72, zn_m24, zn_c (by omega : 72 + x < 2 ^ 31), zn_c (by omega : 24 * p + x < 2 ^ 31)]
    refine And.intro i1 (And.intro i2 (nm_e (And.intro i1 (And.intro i2 (nm_e (And.intro i1 (And.intro i2 (nm_e (nm_r (nI_1 x) ?_)))))))))
    exact ih (x + 1) _ _ _ (by omega) (zq_s h1 (by omega)) (zq_s h2 (by omega)) (zq_s h3 (by omega))
theorem zy_p31 {post : Int32 → SY → Prop} {p : Nat} (hp : p < 3)
    (K : ∀ so re nu fi se te ex : Nat → Int32, zq_cp id 48 (16 * p) 16 b_sorts so → zq_cp id 48 (16 * p) 16 b_regs re → zq_cp id 48 (16 * p) 16 b_numbers nu → zq_cp id 48 (16 * p) 16 b_firsts fi → zq_cp id 48 (16 * p) 16 b_seconds se →
      zq_cp id 48 (16 * p) 16 b_tests te → zq_cp id 48 (16 * p) 16 b_exits ex → ∃ n185 : Nat, wY_procedure_185 post (nI p) g_depth g_pieceDepth g_high g_oldHigh g_open g_next g_back g_calls g_end g_steps n185 0 so re nu fi se te ex b_sizes b_kinds b_lefts b_rights b_masks b_counts b_values b_stack b_pieces b_registers b_pile b_oldRegisters b_oldPile b_openNode b_openPart b_openBack) :
    ∀ (k x : Nat) (so re nu fi se te ex : Nat → Int32), x + k = 16 → zq_cp id 48 (16 * p) x b_sorts so → zq_cp id 48 (16 * p) x b_regs re → zq_cp id 48 (16 * p) x b_numbers nu → zq_cp id 48 (16 * p) x b_firsts fi → zq_cp id 48 (16 * p) x b_seconds se →
      zq_cp id 48 (16 * p) x b_tests te → zq_cp id 48 (16 * p) x b_exits ex → wY_procedure_31 post (nI p) g_depth g_pieceDepth g_high g_oldHigh g_open g_next g_back g_calls g_end g_steps (k + 1) (nI x) so re nu fi se te ex b_sizes b_kinds b_lefts b_rights b_masks b_counts b_values b_stack b_pieces b_registers b_pile b_oldRegisters b_oldPile b_openNode b_openPart b_openBack := by
  intro k
  induction k with
  | zero =>
    intro x so re nu fi se te ex hx h1 h2 h3 h4 h5 h6 h7
    have : x = 16 := by omega
    subst this
    exact br_t (by decide) (K so re nu fi se te ex h1 h2 h3 h4 h5 h6 h7)
  | succ k ih =>
    intro x so re nu fi se te ex hx h1 h2 h3 h4 h5 h6 h7
    have i1 : vp_in (nI (48 + x)) 64 := vp_in_nI (by omega) (by omega)
    have i2 : vp_in (nI (16 * p + x)) 64 := vp_in_nI (by omega) (by omega)
    refine br_f (nI_ge (b := 16) (by omega) (by omega)) ?_
    rw [zn_a48, zn_m16, zn_c (by omega : 48 + x < 2 ^ 31), zn_c (by omega : 16 * p + x < 2 ^ 31)]
    refine And.intro i1 (And.intro i2 (nm_e (And.intro i1 (And.intro i2 (nm_e (And.intro i1 (And.intro i2 (nm_e (And.intro i1 (And.intro i2 (nm_e (And.intro i1 (And.intro i2 (nm_e (And.intro i1 (And.intro i2 (nm_e (And.intro i1 (And.intro i2 (nm_e (nm_r (nI_1 x) ?_)))))))))))))))))))))
    exact ih (x + 1) _ _ _ _ _ _ _ (by omega) (zq_s h1 (by omega)) (zq_s h2 (by omega)) (zq_s h3 (by omega)) (zq_s h4 (by omega)) (zq_s h5 (by omega)) (zq_s h6 (by omega)) (zq_s h7 (by omega))
end
end
section
/-! ===== the owed: procedure ===== -/
theorem zi_G_proc {S T : Nat → Nat → Nat → Nat} {nS nT : Nat → Nat} {s p : Nat} {π : List Int32} {stp : Nat} (hp : p < 3) (hG : zi_G S T nS nT [] [s] π stp) : zi_G (zg_set S p (S 3)) (zg_set T p (T 3)) (zg_set (zg_set nS p (nS 3)) 3 0) (zg_set (zg_set nT p (nT 3)) 3 0) [] [] π stp := by
  obtain ⟨hG1, hG2, ⟨a1, a2, a3, a4, a5, a6, a7, a8, a9⟩, hG4, hG5⟩ := hG
  have hs := a9 s [] rfl
  have h3 := hG1 3 (by omega)
  have L : zs_L (S 3) s + 0 ≤ 4 * nS 3 := a6
  have Ii : zs_I (S 3) s + 0 ≤ 3 * nS 3 := a7
  have W : 0 + (zs_W (S 3) s + 0) ≤ nT 3 + 2 * nS 3 := a8
  refine ⟨fun g hg => ?_, fun g hg => ?_, ?_, hG4, hG5⟩
  · by_cases e : g = 3
    · subst e
      rw [zg_s, zg_s]
      exact ⟨by omega, by omega, zs_ok_0, zt_ok_0⟩
    · rw [zg_n e, zg_n e]
      by_cases e2 : g = p
      · subst e2
        rw [zg_s, zg_s, zg_s, zg_s]
        exact h3
      · rw [zg_n e2, zg_n e2, zg_n e2, zg_n e2]
        exact hG1 g hg
  · rw [zg_n (by omega)]
    by_cases e2 : g = p
    · subst e2
      rw [zg_s, zg_s, show nS 3 - 1 = s from by omega]
      exact ⟨by omega, by omega, by omega, by omega⟩
    · rw [zg_n e2, zg_n e2]
      exact hG2 g hg
  · rw [zg_s, zg_s]
    exact ⟨trivial, trivial, Nat.le_refl _, Nat.le_refl _, Nat.le_refl _, Nat.le_refl _, Nat.le_refl _, Nat.le_refl _, fun s l e => nomatch e⟩
theorem zq_out {f : Int32 → Int32} {src dst n : Nat} {a a' : Nat → Int32} (h : zq_cp f src dst n a a') {j : Nat} (hj : j < dst ∨ dst + n ≤ j) : a' j = a j := h.2 j hj
section
variable {f_terms f_termHeight f_made f_height f_compiled f_codeSize f_wordCount f_works f_procedure f_high f_at f_inside f_ahead f_undoing f_outcomeThen f_calls f_state f_last f_stepCount : Int32} {a_termKind a_termA a_termB a_termNumber a_registersIn a_termStack a_kind a_register a_number a_partA a_partB a_testX a_testY a_size a_stack a_code a_first a_second a_codeX a_codeY a_partner a_other a_begin a_end a_word a_wordNumber a_constant a_folded a_work a_workOn a_openAt a_middleAt a_placeX a_placeY a_todo a_value a_held a_operand a_callAt a_callIn : Nat → Int32}
theorem zi_X_proc {S T : Nat → Nat → Nat → Nat} {nS nT : Nat → Nat} {ts ss : List Nat} {ρ : Nat → Int32} {π : List Int32} {stp p : Nat} {o : Int32} {tk ta tb tn kd rg nu pa pb tx ty : Nat → Int32} (hp : p < 3) (hG : zi_G S T nS nT ts ss π stp) (hX : zi_X S T nS nT ts ss ρ π stp o (f_terms, f_termHeight, f_made, f_height, f_compiled, f_codeSize, f_wordCount, f_works, f_procedure, f_high, f_at, f_inside, f_ahead, f_undoing, f_outcomeThen, f_calls, f_state, f_last, f_stepCount, a_termKind, a_termA, a_termB, a_termNumber, a_registersIn, a_termStack, a_kind, a_register, a_number, a_partA, a_partB, a_testX, a_testY, a_size, a_stack, a_code, a_first, a_second, a_codeX, a_codeY, a_partner, a_other, a_begin, a_end, a_word, a_wordNumber, a_constant, a_folded, a_work, a_workOn, a_openAt, a_middleAt, a_placeX, a_placeY, a_todo, a_value, a_held, a_operand, a_callAt, a_callIn))
    (t1 : zq_cp (vp_nar .byte) 72 (24 * p) (nT 3) a_termKind tk) (t2 : zq_cp (vp_nar .byte) 72 (24 * p) (nT 3) a_termA ta) (t3 : zq_cp (vp_nar .byte) 72 (24 * p) (nT 3) a_termB tb) (t4 : zq_cp (vp_nar .byte) 72 (24 * p) (nT 3) a_termNumber tn)
    (h1 : zq_cp (vp_nar .byte) 48 (16 * p) (nS 3) a_kind kd) (h2 : zq_cp (vp_nar .byte) 48 (16 * p) (nS 3) a_register rg) (h3 : zq_cp (vp_nar .byte) 48 (16 * p) (nS 3) a_number nu) (h4 : zq_cp (vp_nar .byte) 48 (16 * p) (nS 3) a_partA pa)
    (h5 : zq_cp (vp_nar .byte) 48 (16 * p) (nS 3) a_partB pb) (h6 : zq_cp (vp_nar .byte) 48 (16 * p) (nS 3) a_testX tx) (h7 : zq_cp (vp_nar .byte) 48 (16 * p) (nS 3) a_testY ty) :
    zi_X (zg_set S p (S 3)) (zg_set T p (T 3)) (zg_set (zg_set nS p (nS 3)) 3 0) (zg_set (zg_set nT p (nT 3)) 3 0) [] [] ρ π stp o (0, 0, 0, 0, 0, f_codeSize, f_wordCount, f_works, f_procedure, f_high, f_at, f_inside, f_ahead, f_undoing, f_outcomeThen, f_calls, f_state, f_last, f_stepCount, tk, ta, tb, tn, a_registersIn, a_termStack, kd, rg, nu, pa, pb, tx, ty, upd a_size p (nI (nS 3)), a_stack, a_code, a_first, a_second, a_codeX, a_codeY, a_partner, a_other, a_begin, a_end, a_word, a_wordNumber, a_constant, a_folded, a_work, a_workOn, a_openAt, a_middleAt, a_placeX, a_placeY, a_todo, a_value, a_held, a_operand, a_callAt, a_callIn) := by
  obtain ⟨⟨hf1, hf2, hf3, hf4, hf5, hf6, hf7⟩, ⟨hM, hmk, hr, hsz, hts, hss⟩, hcomp, hv, hh⟩ := hX
  obtain ⟨g1, g2, g3, g4⟩ := hG.1 3 (by omega)
  have hin : ∀ x : Int32, vp_in x 24 → vp_in (vp_nar .byte x) 24 := by
    intro x hx
    obtain ⟨j, hj, rfl⟩ := vp_in_of hx (by omega)
    rw [zn_vb (by omega)]
    exact hx
  refine ⟨⟨by rw [zg_s]; rfl, rfl, by rw [zg_s]; rfl, rfl, hf5, hf6, hf7⟩, ⟨fun g hg => ?_, fun t ht => ?_, fun j hj => ?_, fun g hg => ?_, trivial, trivial⟩, Or.inl rfl, hv, hh⟩
  · by_cases e : g = 3
    · subst e
      rw [zg_s, zg_s]
      exact ⟨zi_TX_0, zi_SY_0⟩
    · rw [zg_n e, zg_n e]
      by_cases e2 : g = p
      · subst e2
        rw [zg_s, zg_s, zg_s, zg_s]
        exact ⟨zi_TX_copy g4 g2 (hM 3 (by omega)).1 t1 t2 t3 t4, zi_SX_copy g3 g1 g2 (hM 3 (by omega)).2 h1 h2 h3 h4 h5 h6 h7⟩
      · rw [zg_n e2, zg_n e2, zg_n e2, zg_n e2]
        obtain ⟨k1, k2, _, _⟩ := hG.1 g hg
        refine ⟨zi_TX_cong (fun f t ht => rfl) (fun t ht => ?_) (hM g hg).1, zi_SY_cong (fun f t ht => rfl) (fun t ht => ?_) (hM g hg).2⟩
        · exact ⟨zq_out t1 (by omega), zq_out t2 (by omega), zq_out t3 (by omega), zq_out t4 (by omega)⟩
        · exact ⟨zq_out h1 (by omega), zq_out h2 (by omega), zq_out h3 (by omega), zq_out h4 (by omega), zq_out h5 (by omega), zq_out h6 (by omega), zq_out h7 (by omega)⟩
  · rw [zg_s] at ht; exact absurd ht (Nat.not_lt_zero t)
  · by_cases e : 24 * p ≤ j ∧ j < 24 * p + nT 3
    · obtain ⟨t, rfl⟩ : ∃ t, j = 24 * p + t := ⟨j - 24 * p, by omega⟩
      rw [t2.1 t (by omega), t3.1 t (by omega)]
      obtain ⟨r1, r2⟩ := hr (72 + t) (by omega)
      exact ⟨hin _ r1, hin _ r2⟩
    · rw [zq_out t2 (by omega), zq_out t3 (by omega)]
      exact hr j hj
  · rw [zg_n (by omega)]
    by_cases e2 : g = p
    · subst e2; rw [pk_us, zg_s]
    · rw [pk_un e2, zg_n e2]; exact hsz g hg
end
section
variable {g_depth g_pieceDepth g_high g_oldHigh g_open g_next g_back g_calls g_end g_steps : Int32} {b_sorts b_regs b_numbers b_firsts b_seconds b_tests b_exits b_sizes b_kinds b_lefts b_rights b_masks b_counts b_values b_stack b_pieces b_registers b_pile b_oldRegisters b_oldPile b_openNode b_openPart b_openBack : Nat → Int32}
theorem zi_Y_proc {S T : Nat → Nat → Nat → Nat} {nS nT : Nat → Nat} {ts ss : List Nat} {ρ : Nat → Int32} {π : List Int32} {stp p : Nat} {o : Int32} {kd lf rt so re nu fi se te ex : Nat → Int32} (hp : p < 3) (hG : zi_G S T nS nT ts ss π stp) (hY : zi_Y S T nS nT ts ss ρ π stp o (g_depth, g_pieceDepth, g_high, g_oldHigh, g_open, g_next, g_back, g_calls, g_end, g_steps, b_sorts, b_regs, b_numbers, b_firsts, b_seconds, b_tests, b_exits, b_sizes, b_kinds, b_lefts, b_rights, b_masks, b_counts, b_values, b_stack, b_pieces, b_registers, b_pile, b_oldRegisters, b_oldPile, b_openNode, b_openPart, b_openBack))
    (t1 : zq_cp id 72 (24 * p) 24 b_kinds kd) (t2 : zq_cp id 72 (24 * p) 24 b_lefts lf) (t3 : zq_cp id 72 (24 * p) 24 b_rights rt)
    (h1 : zq_cp id 48 (16 * p) 16 b_sorts so) (h2 : zq_cp id 48 (16 * p) 16 b_regs re) (h3 : zq_cp id 48 (16 * p) 16 b_numbers nu) (h4 : zq_cp id 48 (16 * p) 16 b_firsts fi) (h5 : zq_cp id 48 (16 * p) 16 b_seconds se)
    (h6 : zq_cp id 48 (16 * p) 16 b_tests te) (h7 : zq_cp id 48 (16 * p) 16 b_exits ex) :
    zi_Y (zg_set S p (S 3)) (zg_set T p (T 3)) (zg_set (zg_set nS p (nS 3)) 3 0) (zg_set (zg_set nT p (nT 3)) 3 0) [] [] ρ π stp o (0, 0, g_high, g_oldHigh, g_open, g_next, g_back, g_calls, g_end, g_steps, so, re, nu, fi, se, te, ex, upd (upd b_sizes p (nI (nS 3))) 3 0, kd, lf, rt, b_masks, upd b_counts 3 0, b_values, b_stack, b_pieces, b_registers, b_pile, b_oldRegisters, b_oldPile, b_openNode, b_openPart, b_openBack) := by
  obtain ⟨⟨hf1, hf2, hf3, hf4, hf5⟩, ⟨hM, hmk, hsz, hct, hts, hss⟩, hv, hh⟩ := hY
  obtain ⟨g1, g2, g3, g4⟩ := hG.1 3 (by omega)
  refine ⟨⟨rfl, rfl, hf3, hf4, hf5⟩, ⟨fun g hg => ?_, fun t ht => ?_, fun g hg => ?_, by rw [pk_us, zg_s]; rfl, trivial, trivial⟩, hv, hh⟩
  · by_cases e : g = 3
    · subst e
      rw [zg_s, zg_s]
      exact ⟨zi_TY_0, zi_SY_0⟩
    · rw [zg_n e, zg_n e]
      by_cases e2 : g = p
      · subst e2
        rw [zg_s, zg_s, zg_s, zg_s]
        exact ⟨zi_TY_copy g2 (hM 3 (by omega)).1 t1 t2 t3, zi_SY_copy g1 (hM 3 (by omega)).2 h1 h2 h3 h4 h5 h6 h7⟩
      · rw [zg_n e2, zg_n e2, zg_n e2, zg_n e2]
        obtain ⟨k1, k2, _, _⟩ := hG.1 g hg
        refine ⟨zi_TY_cong (fun f t ht => rfl) (fun t ht => ?_) (hM g hg).1, zi_SY_cong (fun f t ht => rfl) (fun t ht => ?_) (hM g hg).2⟩
        · exact ⟨zq_out t1 (by omega), zq_out t2 (by omega), zq_out t3 (by omega)⟩
        · exact ⟨zq_out h1 (by omega), zq_out h2 (by omega), zq_out h3 (by omega), zq_out h4 (by omega), zq_out h5 (by omega), zq_out h6 (by omega), zq_out h7 (by omega)⟩
  · rw [zg_s] at ht; exact absurd ht (Nat.not_lt_zero t)
  · by_cases e : g = 3
    · subst e
      rw [pk_us, zg_s]; rfl
    · rw [pk_un e, zg_n e]
      by_cases e2 : g = p
      · subst e2; rw [pk_us, zg_s]
      · rw [pk_un e2, zg_n e2]; exact hsz g hg
end
theorem zn_n2 {x : Int32} (h : x < 0 ∨ nI 3 ≤ x) : x < 0 ∨ ¬ x ≤ 2 := by
  by_cases h0 : x < 0
  · exact Or.inl h0
  · exact Or.inr (zn_2 h h0)
theorem i_vc_procedure {k : Nat} {u : SX} {v : SY} (I : i_Rel k u v) (hk : k + 4 ≤ 2048) (v1 : Int32) : wpX_procedure (fun r u' => wpY_procedure (fun r' v' => r' = r ∧ i_Rel (k + 4) u' v') v v1) u v1 := by
  refine zz_el (P := fun u v => wpX_procedure (fun r u' => wpY_procedure (fun r' v' => r' = r ∧ i_Rel (k + 4) u' v') v v1) u v1) I ?_
  intro S T nS nT ts ss ρ π stp o f_compiled f_codeSize f_wordCount f_works f_procedure f_at f_inside f_ahead f_undoing f_outcomeThen f_calls f_state a_termKind a_termA a_termB a_termNumber a_registersIn a_termStack a_kind a_register a_number a_partA a_partB a_testX a_testY a_size a_stack a_code a_first a_second a_codeX a_codeY a_partner a_other a_begin a_end a_word a_wordNumber a_constant a_folded a_work a_workOn a_openAt a_middleAt a_placeX a_placeY a_todo a_value a_held a_operand a_callAt a_callIn g_oldHigh g_open g_next g_back g_calls b_sorts b_regs b_numbers b_firsts b_seconds b_tests b_exits b_sizes b_kinds b_lefts b_rights b_masks b_counts b_values b_stack b_pieces b_registers b_pile b_oldRegisters b_oldPile b_openNode b_openPart b_openBack hG hX hY
  have hR : i_Rel (k + 4) (nI (nT 3), nI ts.length, nI (nS 3), nI ss.length, f_compiled, f_codeSize, f_wordCount, f_works, f_procedure, nI π.length, f_at, f_inside, f_ahead, f_undoing, f_outcomeThen, f_calls, f_state, o, nI stp, a_termKind, a_termA, a_termB, a_termNumber, a_registersIn, a_termStack, a_kind, a_register, a_number, a_partA, a_partB, a_testX, a_testY, a_size, a_stack, a_code, a_first, a_second, a_codeX, a_codeY, a_partner, a_other, a_begin, a_end, a_word, a_wordNumber, a_constant, a_folded, a_work, a_workOn, a_openAt, a_middleAt, a_placeX, a_placeY, a_todo, a_value, a_held, a_operand, a_callAt, a_callIn) (nI ss.length, nI ts.length, nI π.length, g_oldHigh, g_open, g_next, g_back, g_calls, o, nI stp, b_sorts, b_regs, b_numbers, b_firsts, b_seconds, b_tests, b_exits, b_sizes, b_kinds, b_lefts, b_rights, b_masks, b_counts, b_values, b_stack, b_pieces, b_registers, b_pile, b_oldRegisters, b_oldPile, b_openNode, b_openPart, b_openBack) := zz_R hG hX hY
  obtain ⟨g1, g2, g3, g4⟩ := hG.1 3 (by omega)
  have hct : b_sizes 3 = nI (nS 3) := hY.2.1.2.2.1 3 (by omega)
  have hl1 : ss.length ≤ 16 := Nat.le_trans hG.2.2.1.2.2.2.1 g1
  have hl2 : ts.length ≤ 24 := Nat.le_trans hG.2.2.1.2.2.1 g2
  have hbad : (v1 < 0 ∨ nI 3 ≤ v1) → wpX_procedure (fun r u' => wpY_procedure (fun r' v' => r' = r ∧ i_Rel (k + 4) u' v') (nI ss.length, nI ts.length, nI π.length, g_oldHigh, g_open, g_next, g_back, g_calls, o, nI stp, b_sorts, b_regs, b_numbers, b_firsts, b_seconds, b_tests, b_exits, b_sizes, b_kinds, b_lefts, b_rights, b_masks, b_counts, b_values, b_stack, b_pieces, b_registers, b_pile, b_oldRegisters, b_oldPile, b_openNode, b_openPart, b_openBack) v1) (nI (nT 3), nI ts.length, nI (nS 3), nI ss.length, f_compiled, f_codeSize, f_wordCount, f_works, f_procedure, nI π.length, f_at, f_inside, f_ahead, f_undoing, f_outcomeThen, f_calls, f_state, o, nI stp, a_termKind, a_termA, a_termB, a_termNumber, a_registersIn, a_termStack, a_kind, a_register, a_number, a_partA, a_partB, a_testX, a_testY, a_size, a_stack, a_code, a_first, a_second, a_codeX, a_codeY, a_partner, a_other, a_begin, a_end, a_word, a_wordNumber, a_constant, a_folded, a_work, a_workOn, a_openAt, a_middleAt, a_placeX, a_placeY, a_todo, a_value, a_held, a_operand, a_callAt, a_callIn) v1 := by
    intro hb
    unfold wpX_procedure
    refine zx_bpB hb (br_f (by decide) ?_)
    unfold wpY_procedure
    rcases zn_n2 hb with h | h
    · exact br_t h ⟨rfl, hR⟩
    · exact br_c (fun _ => ⟨rfl, hR⟩) (fun _ => br_f h ⟨rfl, hR⟩)
  rcases pk_ix v1 (n := 3) (by omega) with h1 | h1 | ⟨p, hp, rfl⟩
  · exact hbad (Or.inl h1)
  · exact hbad (Or.inr h1)
  unfold wpX_procedure
  refine zx_bpG hp (br_t rfl ?_)
  have toY : ∀ P : Int32 → SY → Prop, ((nI ss.length = 1 → ((nI ts.length ≤ 0 → ∃ n31 : Nat, wY_procedure_31 P (nI p) (nI ss.length) (nI ts.length) (nI π.length) g_oldHigh g_open g_next g_back g_calls o (nI stp) n31 0 b_sorts b_regs b_numbers b_firsts b_seconds b_tests b_exits b_sizes b_kinds b_lefts b_rights b_masks b_counts b_values b_stack b_pieces b_registers b_pile b_oldRegisters b_oldPile b_openNode b_openPart b_openBack) ∧ (¬ nI ts.length ≤ 0 → P (-3) (nI ss.length, nI ts.length, nI π.length, g_oldHigh, g_open, g_next, g_back, g_calls, o, nI stp, b_sorts, b_regs, b_numbers, b_firsts, b_seconds, b_tests, b_exits, b_sizes, b_kinds, b_lefts, b_rights, b_masks, b_counts, b_values, b_stack, b_pieces, b_registers, b_pile, b_oldRegisters, b_oldPile, b_openNode, b_openPart, b_openBack)))) ∧ (¬ nI ss.length = 1 → P (-3) (nI ss.length, nI ts.length, nI π.length, g_oldHigh, g_open, g_next, g_back, g_calls, o, nI stp, b_sorts, b_regs, b_numbers, b_firsts, b_seconds, b_tests, b_exits, b_sizes, b_kinds, b_lefts, b_rights, b_masks, b_counts, b_values, b_stack, b_pieces, b_registers, b_pile, b_oldRegisters, b_oldPile, b_openNode, b_openPart, b_openBack))) → wpY_procedure P (nI ss.length, nI ts.length, nI π.length, g_oldHigh, g_open, g_next, g_back, g_calls, o, nI stp, b_sorts, b_regs, b_numbers, b_firsts, b_seconds, b_tests, b_exits, b_sizes, b_kinds, b_lefts, b_rights, b_masks, b_counts, b_values, b_stack, b_pieces, b_registers, b_pile, b_oldRegisters, b_oldPile, b_openNode, b_openPart, b_openBack) (nI p) := by
    intro P h
    unfold wpY_procedure
    exact br_f (nI_pos (by omega)) (br_t (nI_le (b := 2) (by omega) (by omega)) h)
  by_cases hs : ss.length = 1
  rotate_left
  · have hn : ¬ nI ss.length = 1 := zn_ne (b := 1) (by omega) (by omega) hs
    exact br_f hn (toY _ (br_f hn ⟨rfl, hR⟩))
  have he : nI ss.length = 1 := by rw [hs]; rfl
  refine br_t he ?_
  by_cases ht : ts.length = 0
  rotate_left
  · have hn : ¬ nI ts.length ≤ 0 := nI_nle (by omega) (by omega)
    exact br_f hn (toY _ (br_t he (br_f hn ⟨rfl, hR⟩)))
  have hte : nI ts.length ≤ 0 := by rw [ht]; decide
  refine br_t hte ?_
  obtain ⟨s, rfl⟩ : ∃ s, ss = [s] := by
    cases ss with
    | nil => exact absurd hs (by decide)
    | cons s l =>
      cases l with
      | nil => exact ⟨s, rfl⟩
      | cons a l => exact absurd hs (by show ¬ l.length + 1 + 1 = 1; omega)
  obtain rfl : ts = [] := List.eq_nil_of_length_eq_zero ht
  refine Exists.intro (nT 3 + 1) (zx_p30 hp g2 ?_ (nT 3) 0 _ _ _ _ (by omega) zq_0 zq_0 zq_0 zq_0)
  intro tk ta tb tn t1 t2 t3 t4
  refine Exists.intro (nS 3 + 1) (zx_p60 hp g1 ?_ (nS 3) 0 _ _ _ _ _ _ _ (by omega) zq_0 zq_0 zq_0 zq_0 zq_0 zq_0 zq_0)
  intro kd rg nu pa pb tx ty h1 h2 h3 h4 h5 h6 h7
  refine toY _ (br_t he (br_t hte (Exists.intro 17 (zy_p31 hp ?_ 16 0 _ _ _ _ _ _ _ (by omega) zq_0 zq_0 zq_0 zq_0 zq_0 zq_0 zq_0))))
  intro so re nu' fi se te ex k1 k2 k3 k4 k5 k6 k7
  refine Exists.intro 25 (zy_p185 hp hct ?_ 24 0 _ _ _ (by omega) zq_0 zq_0 zq_0)
  intro kd' lf rt j1 j2 j3
  exact ⟨rfl, zz_R (zi_G_proc hp hG) (zi_X_proc hp hG hX t1 t2 t3 t4 h1 h2 h3 h4 h5 h6 h7) (zi_Y_proc hp hG hY j1 j2 j3 k1 k2 k3 k4 k5 k6 k7)⟩
end
section
/-! ===== the owed: the constructors, load, run, the readers ===== -/
def zg_S0 : Nat → Nat → Nat := zg_add (fun _ _ => 0) 0 (zg_st 0 0 0 0 0 0 0 1 1 0)
def zg_n0 : Nat → Nat := zg_set (fun _ => 1) 3 0
section
variable {f_terms f_termHeight f_made f_height f_compiled f_codeSize f_wordCount f_works f_procedure f_high f_at f_inside f_ahead f_undoing f_outcomeThen f_calls f_state f_last f_stepCount : Int32} {a_termKind a_termA a_termB a_termNumber a_registersIn a_termStack a_kind a_register a_number a_partA a_partB a_testX a_testY a_size a_stack a_code a_first a_second a_codeX a_codeY a_partner a_other a_begin a_end a_word a_wordNumber a_constant a_folded a_work a_workOn a_openAt a_middleAt a_placeX a_placeY a_todo a_value a_held a_operand a_callAt a_callIn : Nat → Int32}
theorem zx_init1 {post : SX → Prop} (K : ∀ sz : Nat → Int32, (∀ g, g < 3 → sz g = 1) → post (f_terms, f_termHeight, f_made, f_height, f_compiled, f_codeSize, f_wordCount, f_works, f_procedure, f_high, f_at, f_inside, f_ahead, f_undoing, f_outcomeThen, f_calls, f_state, (-4), f_stepCount, a_termKind, a_termA, a_termB, a_termNumber, a_registersIn, a_termStack, a_kind, a_register, a_number, a_partA, a_partB, a_testX, a_testY, sz, a_stack, a_code, a_first, a_second, a_codeX, a_codeY, a_partner, a_other, a_begin, a_end, a_word, a_wordNumber, a_constant, a_folded, a_work, a_workOn, a_openAt, a_middleAt, a_placeX, a_placeY, a_todo, a_value, a_held, a_operand, a_callAt, a_callIn)) :
    ∀ (k x : Nat) (sz : Nat → Int32), x + k = 3 → (∀ g, g < x → sz g = 1) → wX_init_332 post f_terms f_termHeight f_made f_height f_compiled f_codeSize f_wordCount f_works f_procedure f_high f_at f_inside f_ahead f_undoing f_outcomeThen f_calls f_state f_last f_stepCount (k + 1) (nI x) a_termKind a_termA a_termB a_termNumber a_registersIn a_termStack a_kind a_register a_number a_partA a_partB a_testX a_testY sz a_stack a_code a_first a_second a_codeX a_codeY a_partner a_other a_begin a_end a_word a_wordNumber a_constant a_folded a_work a_workOn a_openAt a_middleAt a_placeX a_placeY a_todo a_value a_held a_operand a_callAt a_callIn := by
  intro k
  induction k with
  | zero =>
    intro x sz hx hs
    have : x = 3 := by omega
    subst this
    exact br_t (by decide) (K sz hs)
  | succ k ih =>
    intro x sz hx hs
    refine br_f (nI_ge (b := 3) (by omega) (by omega)) (And.intro (vp_in_nI (by omega) (by omega)) (nm_e (nm_r (nI_1 x) ?_)))
    rw [zn_c (by omega : x < 2 ^ 31)]
    refine ih (x + 1) _ (by omega) ?_
    intro g hg
    by_cases e : g = x
    · rw [e, pk_us]; exact zn_vb (n := 1) (by decide)
    · rw [pk_un e]; exact hs g (by omega)
end
section
variable {g_depth g_pieceDepth g_high g_oldHigh g_open g_next g_back g_calls g_end g_steps : Int32} {b_sorts b_regs b_numbers b_firsts b_seconds b_tests b_exits b_sizes b_kinds b_lefts b_rights b_masks b_counts b_values b_stack b_pieces b_registers b_pile b_oldRegisters b_oldPile b_openNode b_openPart b_openBack : Nat → Int32}
theorem zy_init1 {post : SY → Prop} (K : ∀ sz : Nat → Int32, (∀ g, g < 3 → sz g = 1) → (∀ g, 3 ≤ g → sz g = b_sizes g) → post (g_depth, g_pieceDepth, g_high, g_oldHigh, g_open, g_next, g_back, g_calls, (-4), g_steps, b_sorts, b_regs, b_numbers, b_firsts, b_seconds, b_tests, b_exits, sz, b_kinds, b_lefts, b_rights, b_masks, b_counts, b_values, b_stack, b_pieces, b_registers, b_pile, b_oldRegisters, b_oldPile, b_openNode, b_openPart, b_openBack)) :
    ∀ (k x : Nat) (sz : Nat → Int32), x + k = 3 → (∀ g, g < x → sz g = 1) → (∀ g, 3 ≤ g → sz g = b_sizes g) → wY_init_191 post g_depth g_pieceDepth g_high g_oldHigh g_open g_next g_back g_calls g_end g_steps (k + 1) (nI x) b_sorts b_regs b_numbers b_firsts b_seconds b_tests b_exits sz b_kinds b_lefts b_rights b_masks b_counts b_values b_stack b_pieces b_registers b_pile b_oldRegisters b_oldPile b_openNode b_openPart b_openBack := by
  intro k
  induction k with
  | zero =>
    intro x sz hx hs h3
    have : x = 3 := by omega
    subst this
    exact br_t (by decide) (K sz hs h3)
  | succ k ih =>
    intro x sz hx hs h3
    refine br_f (nI_ge (b := 3) (by omega) (by omega)) (And.intro (vp_in_nI (by omega) (by omega)) (nm_e (nm_r (nI_1 x) ?_)))
    rw [zn_c (by omega : x < 2 ^ 31)]
    refine ih (x + 1) _ (by omega) ?_ ?_
    · intro g hg
      by_cases e : g = x
      · rw [e, pk_us]
      · rw [pk_un e]; exact hs g (by omega)
    · intro g hg
      rw [pk_un (by omega)]; exact h3 g hg
end
theorem zi_SY_i {b n : Nat} (hn : n ≤ 1) : zi_SY b n zg_S0 (fun _ => 0) (fun _ => 0) (fun _ => 0) (fun _ => 0) (fun _ => 0) (fun _ => 0) (fun _ => 0) := by
  intro s hs
  have : s = 0 := by omega
  subst this
  have k0 : zs_k zg_S0 0 = 0 := rfl
  rw [k0]
  exact ⟨rfl, fun z => absurd z (by omega), fun z => absurd z (by omega), fun z => absurd z (by omega), fun z => absurd z (by omega), fun z => absurd z (by omega)⟩
theorem zi_G_i : zi_G (fun _ => zg_S0) (fun _ _ _ => 0) zg_n0 (fun _ => 0) [] [] [] 0 := by
  have hle : ∀ g, zg_n0 g ≤ 1 := by
    intro g
    unfold zg_n0
    by_cases e : g = 3
    · subst e; rw [zg_s]; omega
    · rw [zg_n e]; exact Nat.le_refl _
  have h1 : ∀ g, g < 3 → zg_n0 g = 1 := fun g hg => zg_n (by omega)
  have h3 : zg_n0 3 = 0 := zg_s
  refine ⟨fun g hg => ⟨by have := hle g; omega, Nat.zero_le _, fun s hs => ?_, zt_ok_0⟩, fun g hg => ?_, ?_, by decide, by decide⟩
  · have : s = 0 := by have := hle g; omega
    subst this
    exact zs_new0 (by omega) (fun z => absurd z (by omega)) (fun z => absurd z (by omega)) (fun z => absurd z (by omega))
  · rw [h1 g hg]
    have k7 : zs_L zg_S0 0 = 1 := rfl
    have k8 : zs_I zg_S0 0 = 1 := rfl
    have k9 : zs_W zg_S0 0 = 0 := rfl
    show 1 ≤ 1 ∧ zs_I zg_S0 0 ≤ 64 ∧ zs_L zg_S0 0 ≤ 64 ∧ zs_W zg_S0 0 ≤ 56
    rw [k7, k8, k9]
    decide
  · exact ⟨trivial, trivial, Nat.zero_le _, Nat.zero_le _, Nat.zero_le _, Nat.zero_le _, Nat.zero_le _, Nat.zero_le _, fun s l e => nomatch e⟩
theorem i_vc0 : wpX_init (fun u => wpY_init (fun v => i_Rel 0 u v)) := by
  have hle : ∀ g, zg_n0 g ≤ 1 := by
    intro g
    unfold zg_n0
    by_cases e : g = 3
    · subst e; rw [zg_s]; omega
    · rw [zg_n e]; exact Nat.le_refl _
  have h1 : ∀ g, g < 3 → zg_n0 g = 1 := fun g hg => zg_n (by omega)
  have h3 : zg_n0 3 = 0 := zg_s
  refine Exists.intro 4 (zx_init1 ?_ 3 0 _ (by omega) (fun g hg => absurd hg (Nat.not_lt_zero g)))
  intro sx hsx
  refine Exists.intro 4 (zy_init1 ?_ 3 0 _ (by omega) (fun g hg => absurd hg (Nat.not_lt_zero g)) (fun g hg => rfl))
  intro sy hsy hsy3
  refine zz_R (S := fun _ => zg_S0) (T := fun _ _ _ => 0) (nS := zg_n0) (nT := fun _ => 0) (ts := []) (ss := []) (ρ := fun _ => 0) (π := []) (stp := 0) (o := (-4)) zi_G_i ?_ ?_
  · refine ⟨⟨rfl, rfl, by rw [h3]; rfl, rfl, rfl, rfl, rfl⟩, ⟨fun g hg => ⟨zi_TX_0, zi_SY_i (hle g)⟩, fun t ht => absurd ht (Nat.not_lt_zero t), fun j hj => ⟨vp_in_nI (n := 0) (by decide) (by decide), vp_in_nI (n := 0) (by decide) (by decide)⟩, fun g hg => ?_, trivial, trivial⟩, Or.inl rfl, fun r hr => rfl, trivial⟩
    rw [hsx g hg, h1 g hg]; rfl
  · refine ⟨⟨rfl, rfl, rfl, rfl, rfl⟩, ⟨fun g hg => ⟨zi_TY_0, zi_SY_i (hle g)⟩, fun t ht => absurd ht (Nat.not_lt_zero t), fun g hg => ?_, rfl, trivial, trivial⟩, fun r hr => rfl, trivial⟩
    by_cases e : g = 3
    · subst e
      rw [hsy3 3 (by omega), h3]; rfl
    · rw [hsy g (by omega), h1 g (by omega)]; rfl
theorem i_vc_load {k : Nat} {u : SX} {v : SY} (I : i_Rel k u v) (hk : k + 4 ≤ 2048) (v1 : Int32) (v2 : Int32) : wpX_load (fun r u' => wpY_load (fun r' v' => r' = r ∧ i_Rel (k + 4) u' v') v v1 v2) u v1 v2 := by
  refine zz_el (P := fun u v => wpX_load (fun r u' => wpY_load (fun r' v' => r' = r ∧ i_Rel (k + 4) u' v') v v1 v2) u v1 v2) I ?_
  intro S T nS nT ts ss ρ π stp o f_compiled f_codeSize f_wordCount f_works f_procedure f_at f_inside f_ahead f_undoing f_outcomeThen f_calls f_state a_termKind a_termA a_termB a_termNumber a_registersIn a_termStack a_kind a_register a_number a_partA a_partB a_testX a_testY a_size a_stack a_code a_first a_second a_codeX a_codeY a_partner a_other a_begin a_end a_word a_wordNumber a_constant a_folded a_work a_workOn a_openAt a_middleAt a_placeX a_placeY a_todo a_value a_held a_operand a_callAt a_callIn g_oldHigh g_open g_next g_back g_calls b_sorts b_regs b_numbers b_firsts b_seconds b_tests b_exits b_sizes b_kinds b_lefts b_rights b_masks b_counts b_values b_stack b_pieces b_registers b_pile b_oldRegisters b_oldPile b_openNode b_openPart b_openBack hG hX hY
  have hR : i_Rel (k + 4) (nI (nT 3), nI ts.length, nI (nS 3), nI ss.length, f_compiled, f_codeSize, f_wordCount, f_works, f_procedure, nI π.length, f_at, f_inside, f_ahead, f_undoing, f_outcomeThen, f_calls, f_state, o, nI stp, a_termKind, a_termA, a_termB, a_termNumber, a_registersIn, a_termStack, a_kind, a_register, a_number, a_partA, a_partB, a_testX, a_testY, a_size, a_stack, a_code, a_first, a_second, a_codeX, a_codeY, a_partner, a_other, a_begin, a_end, a_word, a_wordNumber, a_constant, a_folded, a_work, a_workOn, a_openAt, a_middleAt, a_placeX, a_placeY, a_todo, a_value, a_held, a_operand, a_callAt, a_callIn) (nI ss.length, nI ts.length, nI π.length, g_oldHigh, g_open, g_next, g_back, g_calls, o, nI stp, b_sorts, b_regs, b_numbers, b_firsts, b_seconds, b_tests, b_exits, b_sizes, b_kinds, b_lefts, b_rights, b_masks, b_counts, b_values, b_stack, b_pieces, b_registers, b_pile, b_oldRegisters, b_oldPile, b_openNode, b_openPart, b_openBack) := zz_R hG hX hY
  have hbad : (v1 < 0 ∨ nI 6 ≤ v1) → wpX_load (fun r u' => wpY_load (fun r' v' => r' = r ∧ i_Rel (k + 4) u' v') (nI ss.length, nI ts.length, nI π.length, g_oldHigh, g_open, g_next, g_back, g_calls, o, nI stp, b_sorts, b_regs, b_numbers, b_firsts, b_seconds, b_tests, b_exits, b_sizes, b_kinds, b_lefts, b_rights, b_masks, b_counts, b_values, b_stack, b_pieces, b_registers, b_pile, b_oldRegisters, b_oldPile, b_openNode, b_openPart, b_openBack) v1 v2) (nI (nT 3), nI ts.length, nI (nS 3), nI ss.length, f_compiled, f_codeSize, f_wordCount, f_works, f_procedure, nI π.length, f_at, f_inside, f_ahead, f_undoing, f_outcomeThen, f_calls, f_state, o, nI stp, a_termKind, a_termA, a_termB, a_termNumber, a_registersIn, a_termStack, a_kind, a_register, a_number, a_partA, a_partB, a_testX, a_testY, a_size, a_stack, a_code, a_first, a_second, a_codeX, a_codeY, a_partner, a_other, a_begin, a_end, a_word, a_wordNumber, a_constant, a_folded, a_work, a_workOn, a_openAt, a_middleAt, a_placeX, a_placeY, a_todo, a_value, a_held, a_operand, a_callAt, a_callIn) v1 v2 := by
    intro hb
    unfold wpX_load
    refine zx_brB hb (br_f (by decide) ?_)
    unfold wpY_load
    exact zy_irB hb (br_t rfl ⟨rfl, hR⟩)
  rcases pk_ix v1 (n := 6) (by omega) with h1 | h1 | ⟨r, hr, rfl⟩
  · exact hbad (Or.inl h1)
  · exact hbad (Or.inr h1)
  have hv : vp_in (nI r) 6 := vp_in_nI hr (by omega)
  unfold wpX_load
  refine zx_brG hr (br_t rfl (And.intro hv ?_))
  rw [zn_c (by omega : r < 2 ^ 31)]
  refine nm_e ?_
  unfold wpY_load
  refine zy_irG hr (br_f (by decide) (And.intro hv ?_))
  rw [zn_c (by omega : r < 2 ^ 31)]
  refine nm_e ⟨rfl, zz_R (ρ := upd ρ r v2) (o := o) hG ?_ ?_⟩
  · obtain ⟨x1, x2, x3, x4, x5⟩ := hX
    exact ⟨x1, x2, x3, zx_vu x4 rfl, x5⟩
  · obtain ⟨x1, x2, x4, x5⟩ := hY
    exact ⟨x1, x2, zx_vu x4 rfl, x5⟩
theorem i_vc_run {k : Nat} {u : SX} {v : SY} (I : i_Rel k u v) (hk : k + 4 ≤ 2048) (v1 : Int32) (v2 : Int32) : wpX_run (fun r u' => wpY_run (fun r' v' => r' = r ∧ i_Rel (k + 4) u' v') v v1 v2) u v1 v2 := by
  have hbad : (v1 < 0 ∨ nI 3 ≤ v1) → wpX_run (fun r u' => wpY_run (fun r' v' => r' = r ∧ i_Rel (k + 4) u' v') v v1 v2) u v1 v2 := by
    intro hb
    refine zz_el (P := fun u v => wpX_run (fun r u' => wpY_run (fun r' v' => r' = r ∧ i_Rel (k + 4) u' v') v v1 v2) u v1 v2) I ?_
    intro S T nS nT ts ss ρ π stp o f_compiled f_codeSize f_wordCount f_works f_procedure f_at f_inside f_ahead f_undoing f_outcomeThen f_calls f_state a_termKind a_termA a_termB a_termNumber a_registersIn a_termStack a_kind a_register a_number a_partA a_partB a_testX a_testY a_size a_stack a_code a_first a_second a_codeX a_codeY a_partner a_other a_begin a_end a_word a_wordNumber a_constant a_folded a_work a_workOn a_openAt a_middleAt a_placeX a_placeY a_todo a_value a_held a_operand a_callAt a_callIn g_oldHigh g_open g_next g_back g_calls b_sorts b_regs b_numbers b_firsts b_seconds b_tests b_exits b_sizes b_kinds b_lefts b_rights b_masks b_counts b_values b_stack b_pieces b_registers b_pile b_oldRegisters b_oldPile b_openNode b_openPart b_openBack hG hX hY
    have hR : i_Rel (k + 4) (nI (nT 3), nI ts.length, nI (nS 3), nI ss.length, f_compiled, f_codeSize, f_wordCount, f_works, f_procedure, nI π.length, f_at, f_inside, f_ahead, f_undoing, f_outcomeThen, f_calls, f_state, o, nI stp, a_termKind, a_termA, a_termB, a_termNumber, a_registersIn, a_termStack, a_kind, a_register, a_number, a_partA, a_partB, a_testX, a_testY, a_size, a_stack, a_code, a_first, a_second, a_codeX, a_codeY, a_partner, a_other, a_begin, a_end, a_word, a_wordNumber, a_constant, a_folded, a_work, a_workOn, a_openAt, a_middleAt, a_placeX, a_placeY, a_todo, a_value, a_held, a_operand, a_callAt, a_callIn) (nI ss.length, nI ts.length, nI π.length, g_oldHigh, g_open, g_next, g_back, g_calls, o, nI stp, b_sorts, b_regs, b_numbers, b_firsts, b_seconds, b_tests, b_exits, b_sizes, b_kinds, b_lefts, b_rights, b_masks, b_counts, b_values, b_stack, b_pieces, b_registers, b_pile, b_oldRegisters, b_oldPile, b_openNode, b_openPart, b_openBack) := zz_R hG hX hY
    unfold wpX_run
    refine zx_bpB hb (br_f (by decide) ?_)
    unfold wpY_run
    rcases zn_n2 hb with h | h
    · exact br_t h ⟨rfl, hR⟩
    · exact br_c (fun _ => ⟨rfl, hR⟩) (fun _ => br_f h ⟨rfl, hR⟩)
  rcases pk_ix v1 (n := 3) (by omega) with h1 | h1 | ⟨p, hp, rfl⟩
  · exact hbad (Or.inl h1)
  · exact hbad (Or.inr h1)
  obtain ⟨S, T, nS, nT, ts, ss, ρ, π, stp, o, hG, hX, hY⟩ := I
  obtain ⟨d0, hd⟩ : ∃ d0 : Bool, v2 = 0 ↔ d0 = false := by
    by_cases e : v2 = 0
    · exact ⟨false, fun _ => rfl, fun _ => e⟩
    · exact ⟨true, fun z => absurd z e, fun z => nomatch z⟩
  refine zx_run hG hX hp d0 hd ?_
  intro o' st' ρ' π' Lay h1 h2 h3 h4 h5 h6 u' hX'
  refine zy_run hG hY hp d0 hd h1 h2 h5 h6 ?_
  intro v' hY'
  refine ⟨rfl, zz_R (ρ := ρ') ?_ hX' hY'⟩
  obtain ⟨g1, g2, g3, _, _⟩ := hG
  exact ⟨g1, g2, g3, h3, h4⟩
theorem i_vc_outcome {k : Nat} {u : SX} {v : SY} (I : i_Rel k u v) (hk : k + 4 ≤ 2048) : wpX_outcome (fun r => wpY_outcome (fun r' => r' = r ∧ i_Rel (k + 4) u v) v) u := by
  refine zz_el (P := fun u v => wpX_outcome (fun r => wpY_outcome (fun r' => r' = r ∧ i_Rel (k + 4) u v) v) u) I ?_
  intro S T nS nT ts ss ρ π stp o f_compiled f_codeSize f_wordCount f_works f_procedure f_at f_inside f_ahead f_undoing f_outcomeThen f_calls f_state a_termKind a_termA a_termB a_termNumber a_registersIn a_termStack a_kind a_register a_number a_partA a_partB a_testX a_testY a_size a_stack a_code a_first a_second a_codeX a_codeY a_partner a_other a_begin a_end a_word a_wordNumber a_constant a_folded a_work a_workOn a_openAt a_middleAt a_placeX a_placeY a_todo a_value a_held a_operand a_callAt a_callIn g_oldHigh g_open g_next g_back g_calls b_sorts b_regs b_numbers b_firsts b_seconds b_tests b_exits b_sizes b_kinds b_lefts b_rights b_masks b_counts b_values b_stack b_pieces b_registers b_pile b_oldRegisters b_oldPile b_openNode b_openPart b_openBack hG hX hY
  unfold wpX_outcome
  unfold wpY_outcome
  exact ⟨rfl, zz_R hG hX hY⟩
theorem i_vc_look {k : Nat} {u : SX} {v : SY} (I : i_Rel k u v) (hk : k + 4 ≤ 2048) (v1 : Int32) : wpX_look (fun r => wpY_look (fun r' => r' = r ∧ i_Rel (k + 4) u v) v v1) u v1 := by
  refine zz_el (P := fun u v => wpX_look (fun r => wpY_look (fun r' => r' = r ∧ i_Rel (k + 4) u v) v v1) u v1) I ?_
  intro S T nS nT ts ss ρ π stp o f_compiled f_codeSize f_wordCount f_works f_procedure f_at f_inside f_ahead f_undoing f_outcomeThen f_calls f_state a_termKind a_termA a_termB a_termNumber a_registersIn a_termStack a_kind a_register a_number a_partA a_partB a_testX a_testY a_size a_stack a_code a_first a_second a_codeX a_codeY a_partner a_other a_begin a_end a_word a_wordNumber a_constant a_folded a_work a_workOn a_openAt a_middleAt a_placeX a_placeY a_todo a_value a_held a_operand a_callAt a_callIn g_oldHigh g_open g_next g_back g_calls b_sorts b_regs b_numbers b_firsts b_seconds b_tests b_exits b_sizes b_kinds b_lefts b_rights b_masks b_counts b_values b_stack b_pieces b_registers b_pile b_oldRegisters b_oldPile b_openNode b_openPart b_openBack hG hX hY
  have hR : i_Rel (k + 4) (nI (nT 3), nI ts.length, nI (nS 3), nI ss.length, f_compiled, f_codeSize, f_wordCount, f_works, f_procedure, nI π.length, f_at, f_inside, f_ahead, f_undoing, f_outcomeThen, f_calls, f_state, o, nI stp, a_termKind, a_termA, a_termB, a_termNumber, a_registersIn, a_termStack, a_kind, a_register, a_number, a_partA, a_partB, a_testX, a_testY, a_size, a_stack, a_code, a_first, a_second, a_codeX, a_codeY, a_partner, a_other, a_begin, a_end, a_word, a_wordNumber, a_constant, a_folded, a_work, a_workOn, a_openAt, a_middleAt, a_placeX, a_placeY, a_todo, a_value, a_held, a_operand, a_callAt, a_callIn) (nI ss.length, nI ts.length, nI π.length, g_oldHigh, g_open, g_next, g_back, g_calls, o, nI stp, b_sorts, b_regs, b_numbers, b_firsts, b_seconds, b_tests, b_exits, b_sizes, b_kinds, b_lefts, b_rights, b_masks, b_counts, b_values, b_stack, b_pieces, b_registers, b_pile, b_oldRegisters, b_oldPile, b_openNode, b_openPart, b_openBack) := zz_R hG hX hY
  have hbad : (v1 < 0 ∨ nI 6 ≤ v1) → wpX_look (fun r => wpY_look (fun r' => r' = r ∧ i_Rel (k + 4) (nI (nT 3), nI ts.length, nI (nS 3), nI ss.length, f_compiled, f_codeSize, f_wordCount, f_works, f_procedure, nI π.length, f_at, f_inside, f_ahead, f_undoing, f_outcomeThen, f_calls, f_state, o, nI stp, a_termKind, a_termA, a_termB, a_termNumber, a_registersIn, a_termStack, a_kind, a_register, a_number, a_partA, a_partB, a_testX, a_testY, a_size, a_stack, a_code, a_first, a_second, a_codeX, a_codeY, a_partner, a_other, a_begin, a_end, a_word, a_wordNumber, a_constant, a_folded, a_work, a_workOn, a_openAt, a_middleAt, a_placeX, a_placeY, a_todo, a_value, a_held, a_operand, a_callAt, a_callIn) (nI ss.length, nI ts.length, nI π.length, g_oldHigh, g_open, g_next, g_back, g_calls, o, nI stp, b_sorts, b_regs, b_numbers, b_firsts, b_seconds, b_tests, b_exits, b_sizes, b_kinds, b_lefts, b_rights, b_masks, b_counts, b_values, b_stack, b_pieces, b_registers, b_pile, b_oldRegisters, b_oldPile, b_openNode, b_openPart, b_openBack)) (nI ss.length, nI ts.length, nI π.length, g_oldHigh, g_open, g_next, g_back, g_calls, o, nI stp, b_sorts, b_regs, b_numbers, b_firsts, b_seconds, b_tests, b_exits, b_sizes, b_kinds, b_lefts, b_rights, b_masks, b_counts, b_values, b_stack, b_pieces, b_registers, b_pile, b_oldRegisters, b_oldPile, b_openNode, b_openPart, b_openBack) v1) (nI (nT 3), nI ts.length, nI (nS 3), nI ss.length, f_compiled, f_codeSize, f_wordCount, f_works, f_procedure, nI π.length, f_at, f_inside, f_ahead, f_undoing, f_outcomeThen, f_calls, f_state, o, nI stp, a_termKind, a_termA, a_termB, a_termNumber, a_registersIn, a_termStack, a_kind, a_register, a_number, a_partA, a_partB, a_testX, a_testY, a_size, a_stack, a_code, a_first, a_second, a_codeX, a_codeY, a_partner, a_other, a_begin, a_end, a_word, a_wordNumber, a_constant, a_folded, a_work, a_workOn, a_openAt, a_middleAt, a_placeX, a_placeY, a_todo, a_value, a_held, a_operand, a_callAt, a_callIn) v1 := by
    intro hb
    unfold wpX_look
    refine zx_brB hb (br_f (by decide) ?_)
    unfold wpY_look
    exact zy_irB hb (br_t rfl ⟨rfl, hR⟩)
  rcases pk_ix v1 (n := 6) (by omega) with h1 | h1 | ⟨r, hr, rfl⟩
  · exact hbad (Or.inl h1)
  · exact hbad (Or.inr h1)
  have hv : vp_in (nI r) 6 := vp_in_nI hr (by omega)
  have e1 : a_value r = ρ r := hX.2.2.2.1 r hr
  have e2 : b_registers r = ρ r := hY.2.2.1 r hr
  unfold wpX_look
  refine zx_brG hr (br_t rfl (And.intro hv ?_))
  rw [zn_c (by omega : r < 2 ^ 31)]
  unfold wpY_look
  refine zy_irG hr (br_f (by decide) (And.intro hv ?_))
  rw [zn_c (by omega : r < 2 ^ 31)]
  exact ⟨e2.trans e1.symm, hR⟩
theorem i_vc_pile {k : Nat} {u : SX} {v : SY} (I : i_Rel k u v) (hk : k + 4 ≤ 2048) : wpX_pile (fun r => wpY_pile (fun r' => r' = r ∧ i_Rel (k + 4) u v) v) u := by
  refine zz_el (P := fun u v => wpX_pile (fun r => wpY_pile (fun r' => r' = r ∧ i_Rel (k + 4) u v) v) u) I ?_
  intro S T nS nT ts ss ρ π stp o f_compiled f_codeSize f_wordCount f_works f_procedure f_at f_inside f_ahead f_undoing f_outcomeThen f_calls f_state a_termKind a_termA a_termB a_termNumber a_registersIn a_termStack a_kind a_register a_number a_partA a_partB a_testX a_testY a_size a_stack a_code a_first a_second a_codeX a_codeY a_partner a_other a_begin a_end a_word a_wordNumber a_constant a_folded a_work a_workOn a_openAt a_middleAt a_placeX a_placeY a_todo a_value a_held a_operand a_callAt a_callIn g_oldHigh g_open g_next g_back g_calls b_sorts b_regs b_numbers b_firsts b_seconds b_tests b_exits b_sizes b_kinds b_lefts b_rights b_masks b_counts b_values b_stack b_pieces b_registers b_pile b_oldRegisters b_oldPile b_openNode b_openPart b_openBack hG hX hY
  unfold wpX_pile
  unfold wpY_pile
  exact ⟨rfl, zz_R hG hX hY⟩
theorem i_vc_onPile {k : Nat} {u : SX} {v : SY} (I : i_Rel k u v) (hk : k + 4 ≤ 2048) (v1 : Int32) : wpX_onPile (fun r => wpY_onPile (fun r' => r' = r ∧ i_Rel (k + 4) u v) v v1) u v1 := by
  refine zz_el (P := fun u v => wpX_onPile (fun r => wpY_onPile (fun r' => r' = r ∧ i_Rel (k + 4) u v) v v1) u v1) I ?_
  intro S T nS nT ts ss ρ π stp o f_compiled f_codeSize f_wordCount f_works f_procedure f_at f_inside f_ahead f_undoing f_outcomeThen f_calls f_state a_termKind a_termA a_termB a_termNumber a_registersIn a_termStack a_kind a_register a_number a_partA a_partB a_testX a_testY a_size a_stack a_code a_first a_second a_codeX a_codeY a_partner a_other a_begin a_end a_word a_wordNumber a_constant a_folded a_work a_workOn a_openAt a_middleAt a_placeX a_placeY a_todo a_value a_held a_operand a_callAt a_callIn g_oldHigh g_open g_next g_back g_calls b_sorts b_regs b_numbers b_firsts b_seconds b_tests b_exits b_sizes b_kinds b_lefts b_rights b_masks b_counts b_values b_stack b_pieces b_registers b_pile b_oldRegisters b_oldPile b_openNode b_openPart b_openBack hG hX hY
  have hR : i_Rel (k + 4) (nI (nT 3), nI ts.length, nI (nS 3), nI ss.length, f_compiled, f_codeSize, f_wordCount, f_works, f_procedure, nI π.length, f_at, f_inside, f_ahead, f_undoing, f_outcomeThen, f_calls, f_state, o, nI stp, a_termKind, a_termA, a_termB, a_termNumber, a_registersIn, a_termStack, a_kind, a_register, a_number, a_partA, a_partB, a_testX, a_testY, a_size, a_stack, a_code, a_first, a_second, a_codeX, a_codeY, a_partner, a_other, a_begin, a_end, a_word, a_wordNumber, a_constant, a_folded, a_work, a_workOn, a_openAt, a_middleAt, a_placeX, a_placeY, a_todo, a_value, a_held, a_operand, a_callAt, a_callIn) (nI ss.length, nI ts.length, nI π.length, g_oldHigh, g_open, g_next, g_back, g_calls, o, nI stp, b_sorts, b_regs, b_numbers, b_firsts, b_seconds, b_tests, b_exits, b_sizes, b_kinds, b_lefts, b_rights, b_masks, b_counts, b_values, b_stack, b_pieces, b_registers, b_pile, b_oldRegisters, b_oldPile, b_openNode, b_openPart, b_openBack) := zz_R hG hX hY
  have hl : π.length ≤ 12 := hG.2.2.2.1
  unfold wpX_onPile
  refine br_c (fun h0 => ?_) (fun h0 => br_c (fun h1 => ?_) (fun h1 => ?_))
  · unfold wpY_onPile; exact br_t h0 ⟨rfl, hR⟩
  · obtain ⟨i, hi, rfl⟩ := nI_of h0
    have hlt : i < π.length := (nI_ltI hi (by omega)).mp h1
    have e : nI π.length - 1 - nI i = nI (π.length - 1 - i) := by
      rw [show π.length = (π.length - 1) + 1 from by omega, nI_pred, pk_sub (by omega)]; rfl
    have hv : vp_in (nI (π.length - 1 - i)) 12 := vp_in_nI (by omega) (by omega)
    have eq : a_held (π.length - 1 - i) = b_pile (π.length - 1 - i) := zl_v_eq hX.2.2.2.2 hY.2.2.2 _ (by omega)
    rw [e, zn_c (by omega : π.length - 1 - i < 2 ^ 31)]
    refine And.intro hv ?_
    unfold wpY_onPile
    refine br_f h0 (br_t h1 ?_)
    rw [e, zn_c (by omega : π.length - 1 - i < 2 ^ 31)]
    exact And.intro hv ⟨eq.symm, hR⟩
  · unfold wpY_onPile; exact br_f h0 (br_f h1 ⟨rfl, hR⟩)
theorem i_vc_steps {k : Nat} {u : SX} {v : SY} (I : i_Rel k u v) (hk : k + 4 ≤ 2048) : wpX_steps (fun r => wpY_steps (fun r' => r' = r ∧ i_Rel (k + 4) u v) v) u := by
  refine zz_el (P := fun u v => wpX_steps (fun r => wpY_steps (fun r' => r' = r ∧ i_Rel (k + 4) u v) v) u) I ?_
  intro S T nS nT ts ss ρ π stp o f_compiled f_codeSize f_wordCount f_works f_procedure f_at f_inside f_ahead f_undoing f_outcomeThen f_calls f_state a_termKind a_termA a_termB a_termNumber a_registersIn a_termStack a_kind a_register a_number a_partA a_partB a_testX a_testY a_size a_stack a_code a_first a_second a_codeX a_codeY a_partner a_other a_begin a_end a_word a_wordNumber a_constant a_folded a_work a_workOn a_openAt a_middleAt a_placeX a_placeY a_todo a_value a_held a_operand a_callAt a_callIn g_oldHigh g_open g_next g_back g_calls b_sorts b_regs b_numbers b_firsts b_seconds b_tests b_exits b_sizes b_kinds b_lefts b_rights b_masks b_counts b_values b_stack b_pieces b_registers b_pile b_oldRegisters b_oldPile b_openNode b_openPart b_openBack hG hX hY
  unfold wpX_steps
  unfold wpY_steps
  exact ⟨rfl, zz_R hG hX hY⟩
end
